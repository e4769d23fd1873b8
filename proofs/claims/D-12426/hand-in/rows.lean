section
/-! 01: numbers, bits (rows tp_sl, tp_nand began as rows of laws/BITS.to-paste) -/
def tp_inr (x : Int32) : Prop := ¬ x < (-9999) ∧ x ≤ 9999
theorem tp_inr0 : tp_inr 0 := ⟨by decide, by decide⟩
theorem tp_sl : ∀ n, n < 32 → ((nI n &&& 31).toBitVec.smod 32).toNat = n := by decide +kernel
theorem tp_nand (a b : Nat) : nI a &&& nI b = nI (a &&& b) := by
  apply Int32.toBitVec_inj.1
  show BitVec.ofNat 32 a &&& BitVec.ofNat 32 b = BitVec.ofNat 32 (a &&& b)
  apply BitVec.eq_of_getLsbD_eq
  intro i hi
  simp [hi]
theorem tp_nor (a b : Nat) : nI a ||| nI b = nI (a ||| b) := by
  apply Int32.toBitVec_inj.1
  show BitVec.ofNat 32 a ||| BitVec.ofNat 32 b = BitVec.ofNat 32 (a ||| b)
  apply BitVec.eq_of_getLsbD_eq
  intro i hi
  simp [hi]
theorem tp_nxor (a b : Nat) : nI a ^^^ nI b = nI (a ^^^ b) := by
  apply Int32.toBitVec_inj.1
  show BitVec.ofNat 32 a ^^^ BitVec.ofNat 32 b = BitVec.ofNat 32 (a ^^^ b)
  apply BitVec.eq_of_getLsbD_eq
  intro i hi
  simp [hi]
theorem tp_one : ∀ k, k < 31 → (1 : Int32) <<< (nI k &&& 31) = nI (2 ^ k) := by decide +kernel
theorem tp_bitv {n k : Nat} (hn : n < 2 ^ 31) (hk : k < 31) : (nI n >>> (nI k &&& 31)) &&& 1 = nI (n / 2 ^ k % 2) := by
  rw [pk_shrN hn (nI k &&& 31) k (tp_sl k (by omega))]
  have h : n / 2 ^ k ≤ n := Nat.div_le_self _ _
  exact pk_andN (by omega) 1 (by decide)
theorem tp_bit {n k : Nat} (hn : n < 2 ^ 31) (hk : k < 31) : (nI n >>> (nI k &&& 31)) &&& 1 = 0 ↔ n.testBit k = false := by
  rw [tp_bitv hn hk, Nat.testBit_eq_decide_div_mod_eq]
  have h : n / 2 ^ k % 2 < 2 := Nat.mod_lt _ (by omega)
  constructor
  · intro e
    have e' : nI (n / 2 ^ k % 2) = nI 0 := e
    rw [nI_eq (by omega) (by omega)] at e'
    simp [e']
  · intro e
    have e' : ¬ n / 2 ^ k % 2 = 1 := by simpa using e
    have e2 : n / 2 ^ k % 2 = 0 := by omega
    rw [e2]; rfl
theorem tp_bit1 {n k : Nat} (hn : n < 2 ^ 31) (hk : k < 31) : ¬ (nI n >>> (nI k &&& 31)) &&& 1 = 0 ↔ n.testBit k = true := by
  rw [tp_bit hn hk]; simp
def tp_clr (a k : Nat) : Nat := a &&& (2 ^ k ^^^ 4294967295)
theorem tp_clrI (a k : Nat) (hk : k < 31) : nI a &&& (((1 : Int32) <<< (nI k &&& 31)) ^^^ (-1)) = nI (tp_clr a k) := by
  rw [tp_one k hk, show (-1 : Int32) = nI 4294967295 from by decide, tp_nxor, tp_nand]; rfl
theorem tp_m32 (i : Nat) : Nat.testBit 4294967295 i = decide (i < 32) := by
  rw [show (4294967295 : Nat) = 2 ^ 32 - 1 from by decide, Nat.testBit_two_pow_sub_one]
theorem tp_clrB {a k i : Nat} (ha : a < 2 ^ 32) (hk : k < 31) : (tp_clr a k).testBit i = (a.testBit i && decide (i ≠ k)) := by
  unfold tp_clr
  rw [Nat.testBit_and, Nat.testBit_xor, tp_m32, Nat.testBit_two_pow]
  rcases Nat.lt_or_ge i 32 with h | h
  · by_cases e : k = i
    · simp [e, h]
    · simp [e, h, Ne.symm e]
  · rw [Nat.testBit_lt_two_pow (Nat.lt_of_lt_of_le ha (Nat.pow_le_pow_right (by omega) h))]; simp
theorem tp_clrL (a k : Nat) : tp_clr a k ≤ a := Nat.and_le_left
theorem tp_n16 {n : Nat} (h : n < 32768) : (nI n).toInt16.toInt32 = nI n := by
  apply Int32.toInt_inj.mp
  rw [Int16.toInt_toInt32, Int32.toInt_toInt16, nI_toInt (by omega)]
  have h1 : (n : Int) % ((2 ^ 16 : Nat) : Int) = n := by omega
  unfold Int.bmod
  dsimp only
  rw [h1, if_pos (by omega)]
theorem tp_n8 : ∀ n, n < 128 → (nI n).toInt8.toInt32 = nI n := by decide +kernel
theorem tp_nb : ∀ n, n < 128 → vp_nar .byte (nI n) = nI n := fun n h => by rw [vp_nar_byte, tp_n8 n h]
theorem tp_nbm : vp_nar .byte (-1) = -1 := by rw [vp_nar_byte]; decide
theorem tp_bn0 : narrow .boolean (.int 0) = .int 0 := by rfl
theorem tp_bn1 : narrow .boolean (.int 1) = .int 1 := by rfl
theorem tp_m1n : ∀ n, n < 128 → ¬ nI n = -1 := by decide +kernel
theorem tp_uu (f : Nat → Int32) (k : Nat) (a b : Int32) : upd (upd f k a) k b = upd f k b := by
  funext j; unfold upd; split <;> rfl
theorem tp_uself (f : Nat → Int32) (k : Nat) : upd f k (f k) = f := by
  funext j; unfold upd; split
  · rename_i h; rw [h]
  · rfl
theorem tp_lt12 {n : Nat} (h : ∀ i, 12 ≤ i → n.testBit i = false) : n < 4096 := by
  have := Nat.lt_pow_two_of_testBit (n := 12) n h
  exact this
theorem tp_tb12 {n i : Nat} (h : n < 4096) (hi : 12 ≤ i) : n.testBit i = false :=
  Nat.testBit_lt_two_pow (Nat.lt_of_lt_of_le h (show 2 ^ 12 ≤ 2 ^ i from Nat.pow_le_pow_right (by omega) hi))
theorem tp_tbl {n i k : Nat} (h : n < 2 ^ k) (hi : n.testBit i = true) : i < k := by
  rcases Nat.lt_or_ge i k with z | z
  · exact z
  · rw [Nat.testBit_lt_two_pow (Nat.lt_of_lt_of_le h (Nat.pow_le_pow_right (by omega) z))] at hi
    exact absurd hi (by decide)
/-- the sets of transactions begun: all by counting -/
theorem tp_ob : ∀ O, O < 16 → ∀ t, t < 4 → (O ||| 2 ^ t) < 16 := by decide +kernel
theorem tp_oc : ∀ O, O < 16 → ∀ t, t < 4 → tp_clr O t < 16 := by decide +kernel
end
section
/-! 02: the small methods, the generic invariant -/
section
variable {os st vo he ns nm sl pa tr td ha cc fi wa se lc : Int32} {im lz lk lt ly ln nu ho wk wn pr go kk mf mt mn : Nat → Int32}
theorem tp_ge0 {x : Int32} {n : Nat} (h : nI n ≤ x) (hn : n < 2 ^ 31) : ¬ x < 0 := by
  intro hx
  have h1 := Int32.le_iff_toInt_le.mp h
  have h2 := Int32.lt_iff_toInt_lt.mp hx
  rw [nI_toInt hn] at h1
  have h3 : (0 : Int32).toInt = 0 := by decide
  omega
theorem tp_isOpen {post : Int32 → Prop} {O : Nat} (hO : O < 16) (p0 : Int32) (h0 : (∀ t, t < 4 → p0 = nI t → O.testBit t = false) → post 0) (h1 : ∀ t, t < 4 → p0 = nI t → O.testBit t = true → post 1) : wpX_isOpen post (nI O, st, vo, he, ns, nm, sl, pa, tr, td, ha, cc, fi, wa, se, lc, im, lz, lk, lt, ly, ln, nu, ho, wk, wn, pr, go, kk, mf, mt, mn) p0 := by
  unfold wpX_isOpen
  dsimp only
  rcases pk_ix p0 (n := 4) (by decide) with h | h | ⟨t, ht, rfl⟩
  · exact br_t h (h0 (fun t ht e => absurd h (by rw [e]; exact nI_pos (by omega))))
  · exact br_f (tp_ge0 h (by decide)) (br_t h (h0 (fun t ht e => absurd h (by rw [e]; exact nI_ge ht (by decide)))))
  · refine br_f (nI_pos (by omega)) (br_f (nI_ge ht (by decide)) ?_)
    cases hb : O.testBit t
    · refine br_t ((tp_bit (by omega) (by omega)).mpr hb) (h0 (fun t' ht' e => ?_))
      rw [← (nI_eq (by omega) (by omega)).mp e]; exact hb
    · exact br_f ((tp_bit1 (by omega) (by omega)).mpr hb) (h1 t ht rfl hb)
theorem tp_isKey {post : Int32 → Prop} (p0 : Int32) (h0 : post 0) (h1 : ∀ k, k < 12 → p0 = nI k → post 1) : wpX_isKey post () p0 := by
  unfold wpX_isKey
  rcases pk_ix p0 (n := 12) (by decide) with h | h | ⟨t, ht, rfl⟩
  · exact br_t h h0
  · exact br_f (tp_ge0 h (by decide)) (br_t h h0)
  · exact br_f (nI_pos (by omega)) (br_f (nI_ge ht (by decide)) (h1 t ht rfl))
theorem tp_isKeyT {post : Int32 → Prop} {k : Nat} (hk : k < 12) (h1 : post 1) : wpX_isKey post () (nI k) := by
  unfold wpX_isKey
  exact br_f (nI_pos (by omega)) (br_f (nI_ge hk (by decide)) h1)
theorem tp_isNumber {post : Int32 → Prop} (p0 : Int32) (h0 : post 0) (h1 : tp_inr p0 → post 1) : wpX_isNumber post () p0 := by
  unfold wpX_isNumber
  refine br_c (fun _ => h0) (fun z => br_c (fun _ => h0) (fun y => h1 ⟨z, Int32.not_lt.mp y⟩))
theorem tp_isFree {post : Int32 → Prop} {k : Nat} (hk : k < 12) (p0 : Int32) (h0 : post 0) (h1 : (ho k = -1 ∨ ho k = p0) → post 1) : wpX_isFree post (os, st, vo, he, ns, nm, sl, pa, tr, td, ha, cc, fi, wa, se, lc, im, lz, lk, lt, ly, ln, nu, ho, wk, wn, pr, go, kk, mf, mt, mn) p0 (nI k) := by
  unfold wpX_isFree
  dsimp only
  rw [nI_clamp (show k < 2 ^ 31 by omega)]
  exact ⟨pk_in k 12 hk, br_c (fun z => h1 (Or.inl z)) (fun _ => ⟨pk_in k 12 hk, br_c (fun z => h1 (Or.inr z)) (fun _ => h0)⟩)⟩
theorem tp_hasWritten {post : Int32 → Prop} {t k W : Nat} (ht : t < 4) (hk : k < 12) (hw : wk t = nI W) (hW : W < 4096) (h0 : W.testBit k = false → post 0) (h1 : W.testBit k = true → post 1) : wpX_hasWritten post (os, st, vo, he, ns, nm, sl, pa, tr, td, ha, cc, fi, wa, se, lc, im, lz, lk, lt, ly, ln, nu, ho, wk, wn, pr, go, kk, mf, mt, mn) (nI t) (nI k) := by
  unfold wpX_hasWritten
  dsimp only
  rw [nI_clamp (show t < 2 ^ 31 by omega), hw]
  exact ⟨pk_in t 4 ht, br_c (fun z => h0 ((tp_bit (by omega) (by omega)).mp z)) (fun z => h1 ((tp_bit1 (by omega) (by omega)).mp z))⟩
theorem tp_seen {post : Int32 → Prop} {t k W : Nat} (ht : t < 4) (hk : k < 12) (hw : wk t = nI W) (hW : W < 4096) (h : ∀ r, post r) : wpX_seen post (os, st, vo, he, ns, nm, sl, pa, tr, td, ha, cc, fi, wa, se, lc, im, lz, lk, lt, ly, ln, nu, ho, wk, wn, pr, go, kk, mf, mt, mn) (nI t) (nI k) := by
  unfold wpX_seen
  dsimp only
  refine tp_hasWritten ht hk hw hW (fun _ => br_t rfl ⟨pk_in k 12 hk, h _⟩) (fun _ => br_f (by decide) ⟨pk_in (t * 12 + k) 48 (by omega) ?_, h _⟩)
  rw [show (12 : Int32) = nI 12 from rfl, pk_mul, nI_add]
theorem tp_writeKey {post : St1 → Prop} {t k W : Nat} (ht : t < 4) (hk : k < 12) (hw : wk t = nI W) (hW : W < 4096) (v : Int32) (h : post (os, st, vo, he, ns, nm, sl, pa, tr, td, ha, cc, fi, wa, se, lc, im, lz, lk, lt, ly, ln, nu, upd ho k (nI t), upd wk t (nI (W ||| 2 ^ k)), upd wn (t * 12 + k) v, pr, go, kk, mf, mt, mn)) : wpX_writeKey post (os, st, vo, he, ns, nm, sl, pa, tr, td, ha, cc, fi, wa, se, lc, im, lz, lk, lt, ly, ln, nu, ho, wk, wn, pr, go, kk, mf, mt, mn) (nI t) (nI k) v := by
  unfold wpX_writeKey
  dsimp only
  have e : nI t * 12 + nI k = nI (t * 12 + k) := by rw [show (12 : Int32) = nI 12 from rfl, pk_mul, nI_add]
  have hb : W ||| 2 ^ k < 4096 := Nat.or_lt_two_pow (n := 12) hW (Nat.pow_lt_pow_right (by omega) hk)
  rw [e, nI_clamp (show t < 2 ^ 31 by omega), nI_clamp (show k < 2 ^ 31 by omega), nI_clamp (show t * 12 + k < 2 ^ 31 by omega), hw, tp_one k (by omega), tp_nor, tp_n16 (by omega), tp_n8 t (by omega)]
  exact ⟨pk_in k 12 hk, nm_e ⟨pk_in t 4 ht, pk_in t 4 ht, nm_e ⟨pk_in (t * 12 + k) 48 (by omega), nm_e h⟩⟩⟩
/-- the generic invariant: begun set, holders, written bits, written numbers, numbers -/
def tp_G (O : Nat) (ho wk wn nu : Nat → Int32) : Prop :=
  O < 16 ∧ (∀ k, k < 12 → ho k = -1 ∨ ∃ t, t < 4 ∧ ho k = nI t ∧ O.testBit t = true) ∧
  (∀ t, t < 4 → ∃ W, W < 4096 ∧ wk t = nI W ∧ ∀ k, k < 12 → W.testBit k = true → ho k = nI t) ∧
  (∀ i, i < 48 → tp_inr (wn i)) ∧ (∀ k, k < 12 → tp_inr (nu k))
theorem tp_G_hold {O : Nat} {t k : Nat} (hG : tp_G O ho wk wn nu) (ht : t < 4) (hb : O.testBit t = true) (hf : ho k = -1 ∨ ho k = nI t) : tp_G O (upd ho k (nI t)) wk wn nu := by
  obtain ⟨g1, g2, g3, g4, g5⟩ := hG
  refine ⟨g1, fun j hj => ?_, fun s hs => ?_, g4, g5⟩
  · by_cases e : j = k
    · rw [e, pk_us]; exact Or.inr ⟨t, ht, rfl, hb⟩
    · rw [pk_un e]; exact g2 j hj
  · obtain ⟨W, w1, w2, w3⟩ := g3 s hs
    refine ⟨W, w1, w2, fun j hj hb' => ?_⟩
    have h3 := w3 j hj hb'
    by_cases e : j = k
    · rw [e] at h3
      rw [e, pk_us]
      rcases hf with z | z
      · rw [z] at h3; exact absurd h3.symm (tp_m1n s (by omega))
      · rw [← z]; exact h3
    · rw [pk_un e]; exact h3
theorem tp_G_write {O : Nat} {t k W : Nat} {v : Int32} (hG : tp_G O ho wk wn nu) (ht : t < 4) (hk : k < 12) (hb : O.testBit t = true) (hf : ho k = -1 ∨ ho k = nI t) (hv : tp_inr v) (hw : wk t = nI W) (hW : W < 4096) : tp_G O (upd ho k (nI t)) (upd wk t (nI (W ||| 2 ^ k))) (upd wn (t * 12 + k) v) nu := by
  obtain ⟨g1, g2, g3, g4, g5⟩ := tp_G_hold hG ht hb hf
  refine ⟨g1, g2, fun s hs => ?_, fun i hi => ?_, g5⟩
  · by_cases e : s = t
    · subst e
      rw [pk_us]
      refine ⟨W ||| 2 ^ k, Nat.or_lt_two_pow (n := 12) hW (Nat.pow_lt_pow_right (by omega) hk), rfl, fun j hj hb' => ?_⟩
      rw [Nat.testBit_or, Nat.testBit_two_pow] at hb'
      by_cases e' : k = j
      · rw [← e', pk_us]
      · have h1 : W.testBit j = true := by simpa [e'] using hb'
        obtain ⟨W', w1, w2, w3⟩ := g3 s hs
        have : W' = W := (nI_eq (by omega) (by omega)).mp (w2.symm.trans hw)
        exact w3 j hj (by rw [this]; exact h1)
    · rw [pk_un e]; exact g3 s hs
  · by_cases e : i = t * 12 + k
    · rw [e, pk_us]; exact hv
    · rw [pk_un e]; exact g4 i hi
theorem tp_get {post : Int32 → St1 → Prop} {O : Nat} (hG : tp_G O ho wk wn nu) (p0 p1 : Int32) (h : ∀ r ho', tp_G O ho' wk wn nu → post r (nI O, st, vo, he, ns, nm, sl, pa, tr, td, ha, cc, fi, wa, se, lc, im, lz, lk, lt, ly, ln, nu, ho', wk, wn, pr, go, kk, mf, mt, mn)) : wpX_get post (nI O, st, vo, he, ns, nm, sl, pa, tr, td, ha, cc, fi, wa, se, lc, im, lz, lk, lt, ly, ln, nu, ho, wk, wn, pr, go, kk, mf, mt, mn) p0 p1 := by
  unfold wpX_get
  dsimp only
  refine tp_isOpen hG.1 p0 (fun _ => br_t rfl (h _ ho hG)) (fun t ht et hb => br_f (by decide) ?_)
  subst et
  refine tp_isKey p1 (br_t rfl (h _ ho hG)) (fun k hk ek => br_f (by decide) ?_)
  subst ek
  refine tp_isFree hk (nI t) (br_t rfl (h _ ho hG)) (fun hf => br_f (by decide) ⟨pk_in k 12 hk, nm_r (e' := upd ho k (nI t)) (by rw [nI_clamp (show k < 2 ^ 31 by omega), tp_n8 t (by omega)]) ?_⟩)
  obtain ⟨W, w1, w2, w3⟩ := hG.2.2.1 t ht
  exact tp_seen ht hk w2 w1 (fun r => h r _ (tp_G_hold hG ht hb hf))
theorem tp_put {post : Int32 → St1 → Prop} {O : Nat} (hG : tp_G O ho wk wn nu) (p0 p1 p2 : Int32) (h : ∀ r ho' wk' wn', tp_G O ho' wk' wn' nu → post r (nI O, st, vo, he, ns, nm, sl, pa, tr, td, ha, cc, fi, wa, se, lc, im, lz, lk, lt, ly, ln, nu, ho', wk', wn', pr, go, kk, mf, mt, mn)) : wpX_put post (nI O, st, vo, he, ns, nm, sl, pa, tr, td, ha, cc, fi, wa, se, lc, im, lz, lk, lt, ly, ln, nu, ho, wk, wn, pr, go, kk, mf, mt, mn) p0 p1 p2 := by
  unfold wpX_put
  dsimp only
  refine tp_isOpen hG.1 p0 (fun _ => br_t rfl (h _ ho wk wn hG)) (fun t ht et hb => br_f (by decide) ?_)
  subst et
  refine tp_isKey p1 (br_t rfl (h _ ho wk wn hG)) (fun k hk ek => br_f (by decide) ?_)
  subst ek
  refine tp_isNumber p2 (br_t rfl (h _ ho wk wn hG)) (fun hv => br_f (by decide) ?_)
  refine tp_isFree hk (nI t) (br_t rfl (h _ ho wk wn hG)) (fun hf => br_f (by decide) ?_)
  obtain ⟨W, w1, w2, w3⟩ := hG.2.2.1 t ht
  refine tp_seen ht hk w2 w1 (fun r => ?_)
  exact tp_writeKey ht hk w2 w1 p2 (h r _ _ _ (tp_G_write hG ht hk hb hf hv w2 w1))
theorem tp_move {post : Int32 → St1 → Prop} {O : Nat} (hG : tp_G O ho wk wn nu) (p0 p1 p2 : Int32) (h : ∀ r ho' wk' wn', tp_G O ho' wk' wn' nu → post r (nI O, st, vo, he, ns, nm, sl, pa, tr, td, ha, cc, fi, wa, se, lc, im, lz, lk, lt, ly, ln, nu, ho', wk', wn', pr, go, kk, mf, mt, mn)) : wpX_move post (nI O, st, vo, he, ns, nm, sl, pa, tr, td, ha, cc, fi, wa, se, lc, im, lz, lk, lt, ly, ln, nu, ho, wk, wn, pr, go, kk, mf, mt, mn) p0 p1 p2 := by
  unfold wpX_move
  dsimp only
  have h0 : ∀ r, post r (nI O, st, vo, he, ns, nm, sl, pa, tr, td, ha, cc, fi, wa, se, lc, im, lz, lk, lt, ly, ln, nu, ho, wk, wn, pr, go, kk, mf, mt, mn) := fun r => h r ho wk wn hG
  refine tp_isOpen hG.1 p0 (fun _ => br_t rfl (h0 _)) (fun t ht et hb => br_f (by decide) ?_)
  subst et
  rcases pk_ix p1 (n := 144) (by decide) with z | z | ⟨j, hj, rfl⟩
  · exact br_t z (h0 _)
  · exact br_f (tp_ge0 z (by decide)) (br_t z (h0 _))
  have e1 : nI j - nI j / 12 * 12 = nI (j % 12) := pk_rem (by omega) (by decide) (by decide)
  have e2 : nI j / 12 = nI (j / 12) := pk_div (by omega) (by decide) (by decide)
  rw [e1, e2]
  have ha : j % 12 < 12 := Nat.mod_lt _ (by decide)
  have hc : j / 12 < 12 := by omega
  refine br_f (nI_pos (by omega)) (br_f (nI_ge hj (by decide)) ⟨by decide, by decide, ?_⟩)
  refine pk_eq (j % 12) (j / 12) (fun _ => h0 _) (fun hne => ?_)
  refine br_c (fun _ => h0 _) (fun _ => br_c (fun _ => ⟨by decide, nm_e ⟨by decide, nm_e ?_⟩⟩) (fun _ => h0 _))
  refine tp_isFree ha (nI t) (br_t rfl (h0 _)) (fun hf => br_f (by decide) ?_)
  refine tp_isFree hc (nI t) (br_t rfl (h0 _)) (fun hf2 => br_f (by decide) ?_)
  obtain ⟨W, w1, w2, w3⟩ := hG.2.2.1 t ht
  refine tp_seen ht ha w2 w1 (fun r => nm_e ?_)
  refine tp_seen ht hc w2 w1 (fun r2 => nm_e ?_)
  refine tp_isNumber _ (br_t rfl (h0 _)) (fun hv => br_f (by decide) ?_)
  refine tp_isNumber _ (br_t rfl (h0 _)) (fun hv2 => br_f (by decide) ?_)
  have G1 := tp_G_write hG ht ha hb hf hv w2 w1
  refine tp_writeKey ht ha w2 w1 _ ?_
  obtain ⟨W', y1, y2, y3⟩ := G1.2.2.1 t ht
  have hf3 : upd ho (j % 12) (nI t) (j / 12) = -1 ∨ upd ho (j % 12) (nI t) (j / 12) = nI t := by rw [pk_un (Ne.symm hne)]; exact hf2
  exact tp_writeKey ht hc y2 y1 _ (h _ _ _ _ (tp_G_write G1 ht hc hb hf3 hv2 y2 y1))
end
end
section
/-! 03: logs: what a replay computes, key by key -/
/-- the value of key k behind 'do what the first n entries say that tr writes' -/
def tp_av (lk lt ly ln : Nat → Int32) (b : Nat) (tr : Int32) (k : Nat) (x : Int32) : Nat → Int32
  | 0 => x
  | n + 1 => if lk (b + n) = 1 ∧ lt (b + n) = tr ∧ (ly (b + n)).toNatClampNeg = k then ln (b + n) else tp_av lk lt ly ln b tr k x n
/-- the value of key k behind the first n entries of a log of S -/
def tp_rv (im lk lt ly ln : Nat → Int32) (b S k : Nat) : Nat → Int32
  | 0 => im k
  | n + 1 => if lk (b + n) = 3 then tp_av lk lt ly ln b (lt (b + n)) k (tp_rv im lk lt ly ln b S k n) S else tp_rv im lk lt ly ln b S k n
/-- what is promised and not settled behind the first n entries -/
def tp_ov (lk lt : Nat → Int32) (b : Nat) : Nat → Int32
  | 0 => 0
  | n + 1 => if lk (b + n) = 2 then lt (b + n) else if lk (b + n) = 3 then 0 else if lk (b + n) = 4 then 0 else tp_ov lk lt b n
/-- the entries of machine m's log: writes are of its keys, names are at most N -/
def tp_LW (m S N : Nat) (lk lt ly ln : Nat → Int32) : Prop :=
  ∀ i, i < S → (lk (m * 64 + i) = 1 → ∃ k, k < 12 ∧ k % 3 = m ∧ ly (m * 64 + i) = nI k ∧ tp_inr (ln (m * 64 + i))) ∧ (∃ t, t ≤ N ∧ lt (m * 64 + i) = nI t)
/-- the log of machine m: S entries, a replay gives the numbers, o is in doubt -/
def tp_LM (m S N : Nat) (o : Int32) (im lz lk lt ly ln nu : Nat → Int32) : Prop :=
  lz m = nI S ∧ tp_LW m S N lk lt ly ln ∧ (∀ k, k < 12 → k % 3 = m → tp_rv im lk lt ly ln (m * 64) S k S = nu k) ∧ tp_ov lk lt (m * 64) S = o
section
variable {os st vo he ns nm sl pa tr td ha cc fi wa se lc : Int32} {im lz lk lt ly ln nu ho wk wn pr go kk mf mt mn : Nat → Int32} {lz' lk' lt' ly' ln' im' nu' : Nat → Int32}
theorem tp_av_c {b : Nat} {tr : Int32} {k : Nat} {x : Int32} {n : Nat} (h : ∀ i, i < n → lk' (b + i) = lk (b + i) ∧ lt' (b + i) = lt (b + i) ∧ ly' (b + i) = ly (b + i) ∧ ln' (b + i) = ln (b + i)) : tp_av lk' lt' ly' ln' b tr k x n = tp_av lk lt ly ln b tr k x n := by
  induction n with
  | zero => rfl
  | succ n ih =>
    obtain ⟨h1, h2, h3, h4⟩ := h n (by omega)
    show (if _ then _ else _) = (if _ then _ else _)
    rw [h1, h2, h3, h4, ih (fun i hi => h i (by omega))]
theorem tp_ov_c {b n : Nat} (h : ∀ i, i < n → lk' (b + i) = lk (b + i) ∧ lt' (b + i) = lt (b + i)) : tp_ov lk' lt' b n = tp_ov lk lt b n := by
  induction n with
  | zero => rfl
  | succ n ih =>
    obtain ⟨h1, h2⟩ := h n (by omega)
    show (if _ then _ else _) = (if _ then _ else _)
    rw [h1, h2, ih (fun i hi => h i (by omega))]
/-- the general law of a replay over changed arrays: the entries below n agree, and what 'apply' does agrees for the settled ones -/
theorem tp_rv_c {b S S' k n : Nat} (him : im' k = im k) (h : ∀ i, i < n → lk' (b + i) = lk (b + i) ∧ lt' (b + i) = lt (b + i)) (ha : ∀ i x, i < n → lk (b + i) = 3 → tp_av lk' lt' ly' ln' b (lt (b + i)) k x S' = tp_av lk lt ly ln b (lt (b + i)) k x S) : tp_rv im' lk' lt' ly' ln' b S' k n = tp_rv im lk lt ly ln b S k n := by
  induction n with
  | zero => exact him
  | succ n ih =>
    obtain ⟨h1, h2⟩ := h n (by omega)
    have ih' := ih (fun i hi => h i (by omega)) (fun i x hi => ha i x (by omega))
    show (if _ then _ else _) = (if _ then _ else _)
    rw [h1, h2, ih']
    by_cases e : lk (b + n) = 3
    · rw [if_pos e, if_pos e, ha n _ (by omega) e]
    · rw [if_neg e, if_neg e]
theorem tp_LM_c {m S N N' : Nat} {o : Int32} (hL : tp_LM m S N o im lz lk lt ly ln nu) (hN : N ≤ N') (hz : lz' m = lz m) (h : ∀ i, i < S → lk' (m * 64 + i) = lk (m * 64 + i) ∧ lt' (m * 64 + i) = lt (m * 64 + i) ∧ ly' (m * 64 + i) = ly (m * 64 + i) ∧ ln' (m * 64 + i) = ln (m * 64 + i)) (hi : ∀ k, k < 12 → k % 3 = m → im' k = im k) (hn : ∀ k, k < 12 → k % 3 = m → nu' k = nu k) : tp_LM m S N' o im' lz' lk' lt' ly' ln' nu' := by
  obtain ⟨l1, l2, l3, l4⟩ := hL
  refine ⟨hz.trans l1, fun i hi' => ?_, fun k hk hm => ?_, ?_⟩
  · obtain ⟨a, t, ht, et⟩ := l2 i hi'
    obtain ⟨h1, h2, h3, h4⟩ := h i hi'
    rw [h1, h2, h3, h4]
    exact ⟨a, t, by omega, et⟩
  · rw [hn k hk hm, ← l3 k hk hm]
    exact tp_rv_c (hi k hk hm) (fun i hi' => ⟨(h i hi').1, (h i hi').2.1⟩) (fun i x _ _ => tp_av_c h)
  · rw [← l4]; exact tp_ov_c (fun i hi' => ⟨(h i hi').1, (h i hi').2.1⟩)
/-- what isn't a key of the machine isn't touched -/
theorem tp_av_off {m S N n k : Nat} {tr x : Int32} (hL : tp_LW m S N lk lt ly ln) (hn : n ≤ S) (hk : ¬ (k < 12 ∧ k % 3 = m)) : tp_av lk lt ly ln (m * 64) tr k x n = x := by
  induction n with
  | zero => rfl
  | succ n ih =>
    show (if _ then _ else _) = _
    rw [if_neg, ih (by omega)]
    rintro ⟨h1, _, h3⟩
    obtain ⟨j, j1, j2, j3, _⟩ := (hL n (by omega)).1 h1
    rw [j3, nI_clamp (by omega)] at h3
    rw [← h3] at hk
    exact hk ⟨j1, j2⟩
theorem tp_av_in {m S N n k : Nat} {tr x : Int32} (hL : tp_LW m S N lk lt ly ln) (hn : n ≤ S) (hx : tp_inr x) : tp_inr (tp_av lk lt ly ln (m * 64) tr k x n) := by
  induction n with
  | zero => exact hx
  | succ n ih =>
    rw [tp_av]
    split
    · rename_i h
      obtain ⟨j, _, _, _, j4⟩ := (hL n (by omega)).1 h.1
      exact j4
    · exact ih (by omega)
/-- one entry more -/
theorem tp_LM_app {m S N N' : Nat} {o : Int32} {c t k : Nat} {v : Int32} (hL : tp_LM m S N o im lz lk lt ly ln nu) (hN : N ≤ N') (ht : t ≤ N')
    (hw : c = 1 → k < 12 ∧ k % 3 = m ∧ tp_inr v ∧ ∀ i, i < S → lk (m * 64 + i) = 3 → ¬ lt (m * 64 + i) = nI t) (hc : c < 128)
    (hn : ∀ j, j < 12 → j % 3 = m → nu' j = if c = 3 then tp_av lk lt ly ln (m * 64) (nI t) j (nu j) S else nu j) :
    tp_LM m (S + 1) N' (if c = 2 then nI t else if c = 3 then 0 else if c = 4 then 0 else o) im (upd lz m (nI (S + 1))) (upd lk (m * 64 + S) (nI c)) (upd lt (m * 64 + S) (nI t)) (upd ly (m * 64 + S) (nI k)) (upd ln (m * 64 + S) v) nu' := by
  obtain ⟨l1, l2, l3, l4⟩ := hL
  have U : ∀ (f : Nat → Int32) (x : Int32) (i : Nat), i < S → upd f (m * 64 + S) x (m * 64 + i) = f (m * 64 + i) := fun f x i hi => pk_un (by omega)
  have E1 : nI c = 1 ↔ c = 1 := nI_eq (a := c) (b := 1) (by omega) (by omega)
  have E2 : nI c = 2 ↔ c = 2 := nI_eq (a := c) (b := 2) (by omega) (by omega)
  have E3 : nI c = 3 ↔ c = 3 := nI_eq (a := c) (b := 3) (by omega) (by omega)
  have E4 : nI c = 4 ↔ c = 4 := nI_eq (a := c) (b := 4) (by omega) (by omega)
  have A0 : ∀ tr j x, tp_av (upd lk (m * 64 + S) (nI c)) (upd lt (m * 64 + S) (nI t)) (upd ly (m * 64 + S) (nI k)) (upd ln (m * 64 + S) v) (m * 64) tr j x S = tp_av lk lt ly ln (m * 64) tr j x S :=
    fun tr j x => tp_av_c (fun i hi => ⟨U lk _ i hi, U lt _ i hi, U ly _ i hi, U ln _ i hi⟩)
  have A1 : ∀ tr j x, ¬ (c = 1 ∧ nI t = tr) → tp_av (upd lk (m * 64 + S) (nI c)) (upd lt (m * 64 + S) (nI t)) (upd ly (m * 64 + S) (nI k)) (upd ln (m * 64 + S) v) (m * 64) tr j x (S + 1) = tp_av lk lt ly ln (m * 64) tr j x S := by
    intro tr j x hh
    show (if _ then _ else _) = _
    rw [if_neg, A0]
    rintro ⟨z1, z2, _⟩
    rw [pk_us] at z1 z2
    exact hh ⟨E1.mp z1, z2⟩
  have R0 : ∀ j, tp_rv im (upd lk (m * 64 + S) (nI c)) (upd lt (m * 64 + S) (nI t)) (upd ly (m * 64 + S) (nI k)) (upd ln (m * 64 + S) v) (m * 64) (S + 1) j S = tp_rv im lk lt ly ln (m * 64) S j S := by
    intro j
    refine tp_rv_c rfl (fun i hi => ⟨U lk _ i hi, U lt _ i hi⟩) (fun i x hi h3 => A1 _ _ _ ?_)
    rintro ⟨z1, z2⟩
    exact (hw z1).2.2.2 i hi h3 z2.symm
  refine ⟨pk_us, fun i hi => ?_, fun j hj hm => ?_, ?_⟩
  · by_cases e : i = S
    · subst e
      rw [pk_us, pk_us, pk_us, pk_us]
      refine ⟨fun z => ?_, t, ht, rfl⟩
      obtain ⟨w1, w2, w3, _⟩ := hw (E1.mp z)
      exact ⟨k, w1, w2, rfl, w3⟩
    · have hi' : i < S := by omega
      rw [U lk _ i hi', U lt _ i hi', U ly _ i hi', U ln _ i hi']
      obtain ⟨a, q, hq, eq⟩ := l2 i hi'
      exact ⟨a, q, by omega, eq⟩
  · show (if _ then _ else _) = _
    rw [pk_us, pk_us, hn j hj hm, R0, l3 j hj hm]
    by_cases e : c = 3
    · rw [if_pos (E3.mpr e), if_pos e]
      exact A1 _ _ _ (fun z => by omega)
    · rw [if_neg (fun z => e (E3.mp z)), if_neg e]
  · show (if _ then _ else _) = _
    rw [pk_us, pk_us, tp_ov_c (lk := lk) (lt := lt) (fun i hi => ⟨U lk _ i hi, U lt _ i hi⟩), l4]
    simp only [E2, E3, E4]
end
end
section
/-! 04: the methods over the logs -/
section
variable {os st vo he ns nm sl pa tr td ha cc fi wa se lc : Int32} {im lz lk lt ly ln nu ho wk wn pr go kk mf mt mn : Nat → Int32}
theorem tp_mul64 (m : Nat) : nI m * 64 = nI (m * 64) := pk_mul m 64
theorem tp_log {post : St1 → Prop} {m S c k : Nat} (hm : m < 4) (hz : lz m = nI S) (hS : S < 64) (hc : c < 128) (hk : k < 128) (p2 p4 : Int32)
    (h : post (os, st, vo, he, ns, nm, sl, pa, tr, td, ha, cc, fi, wa, se, lc, im, upd lz m (nI (S + 1)), upd lk (m * 64 + S) (nI c), upd lt (m * 64 + S) p2, upd ly (m * 64 + S) (nI k), upd ln (m * 64 + S) p4, nu, ho, wk, wn, pr, go, kk, mf, mt, mn)) : wpX_log post (os, st, vo, he, ns, nm, sl, pa, tr, td, ha, cc, fi, wa, se, lc, im, lz, lk, lt, ly, ln, nu, ho, wk, wn, pr, go, kk, mf, mt, mn) (nI m) (nI c) p2 (nI k) p4 := by
  unfold wpX_log
  dsimp only
  rw [nI_clamp (show m < 2 ^ 31 by omega), hz, tp_mul64, nI_add, tp_n8 c hc, tp_n8 k hk]
  have hb : m * 64 + S < 256 := by omega
  refine ⟨pk_in m 4 hm, nm_e ?_⟩
  rw [nI_clamp (show m * 64 + S < 2 ^ 31 by omega)]
  refine ⟨pk_in _ 256 hb, nm_e ⟨pk_in _ 256 hb, nm_e ⟨pk_in _ 256 hb, nm_e ⟨pk_in _ 256 hb, nm_e ⟨pk_in m 4 hm, pk_in m 4 hm, nm_r (nI_1 S ▸ rfl) h⟩⟩⟩⟩⟩
theorem tp_isLogged {post : Int32 → Prop} {m S : Nat} (hm : m < 4) (hz : lz m = nI S) (hS : S ≤ 64) (p1 p2 : Int32) (h0 : (∀ i, i < S → lk (m * 64 + i) = p1 → ¬ lt (m * 64 + i) = p2) → post 0) (h1 : (∃ i, i < S ∧ lk (m * 64 + i) = p1 ∧ lt (m * 64 + i) = p2) → post 1) : wpX_isLogged post (os, st, vo, he, ns, nm, sl, pa, tr, td, ha, cc, fi, wa, se, lc, im, lz, lk, lt, ly, ln, nu, ho, wk, wn, pr, go, kk, mf, mt, mn) (nI m) p1 p2 := by
  unfold wpX_isLogged
  dsimp only
  refine nm_r (e' := nI (m * 64)) (tp_mul64 m) ?_
  have hmc : (nI m).toNatClampNeg = m := nI_clamp (by omega)
  have ez : nI m * 64 + lz (nI m).toNatClampNeg = nI (m * 64 + S) := by rw [hmc, hz, tp_mul64, nI_add]
  refine pk_loop (σ := Unit) (fun n i _ => wX_isLogged_6 post (nI m) p1 p2 os st vo he ns nm sl pa tr td ha cc fi wa se lc im lz lk lt ly ln nu ho wk wn pr go kk mf mt mn n (nI (m * 64 + i))) (fun i _ => ∀ j, j < i → lk (m * 64 + j) = p1 → ¬ lt (m * 64 + j) = p2) S 0 () (by omega) (fun j hj => absurd hj (by omega)) ?_ ?_
  · intro n _ hI
    exact And.intro (pk_in m 4 hm) (pk_le (m * 64 + S) (m * 64 + S) (fun _ => h0 hI) (fun z => absurd z (by omega)) ez rfl)
  · intro n i _ hi hI hw
    have hb : m * 64 + i < 256 := by omega
    have ec : (nI (m * 64 + i)).toNatClampNeg = m * 64 + i := nI_clamp (by omega)
    refine And.intro (pk_in m 4 hm) (pk_le (m * 64 + S) (m * 64 + i) (fun z => absurd z (by omega)) (fun _ => ⟨pk_in _ 256 hb, ?_⟩) ez rfl)
    have nx : ∀ s : Unit, (lk (m * 64 + i) = p1 → ¬ lt (m * 64 + i) = p2) → wX_isLogged_6 post (nI m) p1 p2 os st vo he ns nm sl pa tr td ha cc fi wa se lc im lz lk lt ly ln nu ho wk wn pr go kk mf mt mn n (nI (m * 64 + (i + 1))) := fun s hh => hw s (lt_s hI hh)
    rw [ec]
    refine br_c (fun z1 => ⟨pk_in _ 256 hb, br_c (fun z2 => h1 ⟨i, hi, z1, z2⟩) (fun z2 => nm_r (nI_1 _) (nx () (fun _ => z2)))⟩) (fun z1 => nm_r (nI_1 _) (nx () (fun z => absurd z z1)))
theorem tp_applyLogged {post : St1 → Prop} {m S N : Nat} (hm : m < 4) (hz : lz m = nI S) (hS : S ≤ 64) (hL : tp_LW m S N lk lt ly ln) (x2 : Int32)
    (h : post (os, st, vo, he, ns, nm, sl, pa, tr, td, ha, cc, fi, wa, se, lc, im, lz, lk, lt, ly, ln, fun k => tp_av lk lt ly ln (m * 64) x2 k (nu k) S, ho, wk, wn, pr, go, kk, mf, mt, mn)) : wpX_applyLogged post (os, st, vo, he, ns, nm, sl, pa, tr, td, ha, cc, fi, wa, se, lc, im, lz, lk, lt, ly, ln, nu, ho, wk, wn, pr, go, kk, mf, mt, mn) (nI m) x2 := by
  unfold wpX_applyLogged
  dsimp only
  refine nm_r (e' := nI (m * 64)) (tp_mul64 m) ?_
  have hmc : (nI m).toNatClampNeg = m := nI_clamp (by omega)
  have ez : nI m * 64 + lz (nI m).toNatClampNeg = nI (m * 64 + S) := by rw [hmc, hz, tp_mul64, nI_add]
  refine pk_loop (σ := Unit) (fun n i _ => wX_applyLogged_5 post (nI m) x2 os st vo he ns nm sl pa tr td ha cc fi wa se lc n (nI (m * 64 + i)) im lz lk lt ly ln (fun k => tp_av lk lt ly ln (m * 64) x2 k (nu k) i) ho wk wn pr go kk mf mt mn) (fun i _ => True) S 0 () (by omega) trivial ?_ ?_
  · intro n _ hI
    exact And.intro (pk_in m 4 hm) (pk_le (m * 64 + S) (m * 64 + S) (fun _ => h) (fun z => absurd z (by omega)) ez rfl)
  · intro n i _ hi hI hw
    have hb : m * 64 + i < 256 := by omega
    have ec : (nI (m * 64 + i)).toNatClampNeg = m * 64 + i := nI_clamp (by omega)
    have hw' := hw () trivial
    have no : ¬ (lk (m * 64 + i) = 1 ∧ lt (m * 64 + i) = x2) → (fun k => tp_av lk lt ly ln (m * 64) x2 k (nu k) i) = (fun k => tp_av lk lt ly ln (m * 64) x2 k (nu k) (i + 1)) := by
      intro hh
      funext k
      show _ = (if _ then _ else _)
      rw [if_neg (fun z => hh ⟨z.1, z.2.1⟩)]
    have yes : lk (m * 64 + i) = 1 → lt (m * 64 + i) = x2 → upd (fun k => tp_av lk lt ly ln (m * 64) x2 k (nu k) i) (ly (m * 64 + i)).toNatClampNeg (ln (m * 64 + i)) = (fun k => tp_av lk lt ly ln (m * 64) x2 k (nu k) (i + 1)) := by
      intro a1 a2
      funext k
      show (if _ then _ else _) = (if _ then _ else _)
      by_cases e : k = (ly (m * 64 + i)).toNatClampNeg
      · rw [if_pos e, if_pos ⟨a1, a2, e.symm⟩]
      · rw [if_neg e, if_neg (fun z => e z.2.2.symm)]
    refine And.intro (pk_in m 4 hm) (pk_le (m * 64 + S) (m * 64 + i) (fun z => absurd z (by omega)) (fun _ => ⟨pk_in _ 256 hb, ?_⟩) ez rfl)
    rw [ec]
    refine br_c (fun z1 => ⟨pk_in _ 256 hb, br_c (fun z2 => ⟨pk_in _ 256 hb, pk_in _ 256 hb, ?_, nm_r (yes z1 z2) (nm_r (nI_1 _) hw')⟩) (fun z2 => nm_r (nI_1 _) ?_)⟩) (fun z1 => nm_r (nI_1 _) ?_)
    · obtain ⟨k, k1, k2, k3, _⟩ := (hL i hi).1 z1
      rw [k3]; exact pk_in k 12 k1
    · rw [no (fun z => z2 z.2)]; exact hw'
    · rw [no (fun z => z1 z.1)]; exact hw'
theorem tp_holdLogged {post : St1 → Prop} {m S N O t : Nat} (hm : m < 3) (hz : lz m = nI S) (hS : S ≤ 64) (hL : tp_LW m S N lk lt ly ln) (hG : tp_G O ho wk wn nu) (ht : t < 4) (hb : O.testBit t = true) (hf : ∀ k, k < 12 → k % 3 = m → ho k = -1 ∨ ho k = nI t) (x2 : Int32)
    (h : ∀ ho' wk' wn', tp_G O ho' wk' wn' nu → (∀ k, k % 3 ≠ m → ho' k = ho k) → post (nI O, st, vo, he, ns, nm, nI t, pa, tr, td, ha, cc, fi, wa, se, lc, im, lz, lk, lt, ly, ln, nu, ho', wk', wn', upd pr (t * 3 + m) x2, go, kk, mf, mt, mn)) : wpX_holdLogged post (nI O, st, vo, he, ns, nm, nI t, pa, tr, td, ha, cc, fi, wa, se, lc, im, lz, lk, lt, ly, ln, nu, ho, wk, wn, pr, go, kk, mf, mt, mn) (nI m) x2 := by
  unfold wpX_holdLogged
  dsimp only
  refine nm_r (e' := nI (m * 64)) (tp_mul64 m) ?_
  have hmc : (nI m).toNatClampNeg = m := nI_clamp (by omega)
  have ez : nI m * 64 + lz (nI m).toNatClampNeg = nI (m * 64 + S) := by rw [hmc, hz, tp_mul64, nI_add]
  have ep : nI t * 3 + nI m = nI (t * 3 + m) := by rw [show (3 : Int32) = nI 3 from rfl, pk_mul, nI_add]
  refine pk_loop (σ := (Nat → Int32) × (Nat → Int32) × (Nat → Int32)) (fun n i s => wX_holdLogged_5 post (nI m) x2 n (nI (m * 64 + i)) (nI O) st vo he ns nm (nI t) pa tr td ha cc fi wa se lc im lz lk lt ly ln nu s.1 s.2.1 s.2.2 pr go kk mf mt mn) (fun i s => tp_G O s.1 s.2.1 s.2.2 nu ∧ (∀ k, k < 12 → k % 3 = m → s.1 k = -1 ∨ s.1 k = nI t) ∧ (∀ k, k % 3 ≠ m → s.1 k = ho k)) S 0 (ho, wk, wn) (by omega) ⟨hG, hf, fun _ _ => rfl⟩ ?_ ?_
  · intro n s hI
    refine And.intro (pk_in m 4 (by omega)) (pk_le (m * 64 + S) (m * 64 + S) (fun _ => ⟨pk_in (t * 3 + m) 12 (by omega) ep, nm_r (e' := upd pr (t * 3 + m) x2) ?_ (h _ _ _ hI.1 hI.2.2)⟩) (fun z => absurd z (by omega)) ez rfl)
    rw [ep, nI_clamp (by omega)]
  · intro n i s hi hI hw
    obtain ⟨G', f', o'⟩ := hI
    have hb' : m * 64 + i < 256 := by omega
    have ec : (nI (m * 64 + i)).toNatClampNeg = m * 64 + i := nI_clamp (by omega)
    refine And.intro (pk_in m 4 (by omega)) (pk_le (m * 64 + S) (m * 64 + i) (fun z => absurd z (by omega)) (fun _ => ⟨pk_in _ 256 hb', ?_⟩) ez rfl)
    rw [ec]
    refine br_c (fun z1 => ⟨pk_in _ 256 hb', br_c (fun z2 => ⟨pk_in _ 256 hb', pk_in _ 256 hb', ?_⟩) (fun z2 => nm_r (nI_1 _) (hw s ⟨G', f', o'⟩))⟩) (fun z1 => nm_r (nI_1 _) (hw s ⟨G', f', o'⟩))
    obtain ⟨k, k1, k2, k3, k4⟩ := (hL i hi).1 z1
    obtain ⟨W, w1, w2, w3⟩ := G'.2.2.1 t ht
    rw [k3]
    refine tp_writeKey ht k1 w2 w1 _ (nm_r (nI_1 _) (hw (upd s.1 k (nI t), upd s.2.1 t (nI (W ||| 2 ^ k)), upd s.2.2 (t * 12 + k) (ln (m * 64 + i))) ⟨tp_G_write G' ht k1 hb (f' k k1 k2) k4 w2 w1, fun j hj hjm => ?_, fun j hj => ?_⟩))
    · show upd s.1 k (nI t) j = -1 ∨ upd s.1 k (nI t) j = nI t
      by_cases e : j = k
      · rw [e, pk_us]; exact Or.inr rfl
      · rw [pk_un e]; exact f' j hj hjm
    · show upd s.1 k (nI t) j = ho j
      rw [pk_un (fun e => hj (by rw [e]; exact k2))]; exact o' j hj
theorem tp_comeBack {post : St1 → Prop} {m S N : Nat} {o : Int32} (hm : m < 3) (hS : S ≤ 64) (hL : tp_LM m S N o im lz lk lt ly ln nu) (h0 : o = 0 → post (os, st, vo, he, ns, nm, sl, pa, tr, td, ha, cc, fi, wa, se, lc, im, lz, lk, lt, ly, ln, nu, ho, wk, wn, pr, go, kk, mf, mt, mn)) (h1 : ∀ Q : St1 → Prop, (∀ u, post u → Q u) → ¬ o = 0 → wpX_holdLogged Q (os, st, vo, he, ns, nm, sl, pa, tr, td, ha, cc, fi, wa, se, lc, im, lz, lk, lt, ly, ln, nu, ho, wk, wn, pr, go, kk, mf, mt, mn) (nI m) o) : wpX_comeBack post (os, st, vo, he, ns, nm, sl, pa, tr, td, ha, cc, fi, wa, se, lc, im, lz, lk, lt, ly, ln, nu, ho, wk, wn, pr, go, kk, mf, mt, mn) (nI m) := by
  obtain ⟨l1, l2, l3, l4⟩ := hL
  unfold wpX_comeBack
  dsimp only
  have hmc : (nI m).toNatClampNeg = m := nI_clamp (by omega)
  have ez : nI m * 64 + lz (nI m).toNatClampNeg = nI (m * 64 + S) := by rw [hmc, l1, tp_mul64, nI_add]
  refine pk_loop (σ := Nat → Int32) (fun n i s => wX_comeBack_2 post (nI m) os st vo he ns nm sl pa tr td ha cc fi wa se lc n (nI (m + 3 * i)) im lz lk lt ly ln s ho wk wn pr go kk mf mt mn) (fun i s => s = fun k => if k < m + 3 * i ∧ k % 3 = m then im k else nu k) 4 0 nu (by omega) ?_ ?_ ?_
  · funext k
    rw [if_neg]
    rintro ⟨z1, z2⟩
    omega
  · intro n s hs
    refine pk_le 12 (m + 3 * 4) (fun _ => nm_r (e' := nI (m * 64)) (tp_mul64 m) ?_) (fun z => absurd z (by omega))
    refine pk_loop (σ := Int32 × (Nat → Int32)) (fun n i s => wX_comeBack_33 post (nI m) n s.1 (nI (m * 64 + i)) os st vo he ns nm sl pa tr td ha cc fi wa se lc im lz lk lt ly ln s.2 ho wk wn pr go kk mf mt mn) (fun i s => s.1 = tp_ov lk lt (m * 64) i ∧ s.2 = fun k => if k < 12 ∧ k % 3 = m then tp_rv im lk lt ly ln (m * 64) S k i else nu k) S 0 (0, s) (by omega) ⟨rfl, ?_⟩ ?_ ?_
    · rw [hs]
      funext k
      show (if k < m + 3 * 4 ∧ k % 3 = m then im k else nu k) = (if k < 12 ∧ k % 3 = m then im k else nu k)
      by_cases e : k < 12 ∧ k % 3 = m
      · rw [if_pos e, if_pos ⟨by omega, e.2⟩]
      · rw [if_neg e, if_neg (fun z => e ⟨by omega, z.2⟩)]
    · intro n s hI
      obtain ⟨i1, i2⟩ := hI
      have e2 : s.2 = nu := by
        rw [i2]
        funext k
        by_cases e : k < 12 ∧ k % 3 = m
        · rw [if_pos e]; exact l3 k e.1 e.2
        · rw [if_neg e]
      have e1 : s.1 = o := i1.trans l4
      refine And.intro (pk_in m 4 (by omega)) (pk_le (m * 64 + S) (m * 64 + S) (fun _ => ?_) (fun z => absurd z (by omega)) ez rfl)
      rw [e1, e2]
      exact br_c (fun z => h0 z) (fun z => h1 _ (fun u hu => hu) z)
    · intro n i s hi hI hw
      obtain ⟨i1, i2⟩ := hI
      have hb' : m * 64 + i < 256 := by omega
      have ec : (nI (m * 64 + i)).toNatClampNeg = m * 64 + i := nI_clamp (by omega)
      refine And.intro (pk_in m 4 (by omega)) (pk_le (m * 64 + S) (m * 64 + i) (fun z => absurd z (by omega)) (fun _ => ⟨pk_in _ 256 hb', nm_e ⟨pk_in _ 256 hb', ?_⟩⟩) ez rfl)
      rw [ec]
      have keep : ¬ lk (m * 64 + i) = 3 → s.2 = fun k => if k < 12 ∧ k % 3 = m then tp_rv im lk lt ly ln (m * 64) S k (i + 1) else nu k := by
        intro z
        rw [i2]
        funext k
        show _ = (if _ then (if _ then _ else _) else _)
        rw [if_neg z]
      refine br_c (fun z2 => nm_r (nI_1 _) (hw (lt (m * 64 + i), s.2) ⟨?_, keep (by rw [z2]; decide)⟩)) (fun z2 => ⟨pk_in _ 256 hb', br_c (fun z3 => ?_) (fun z3 => ⟨pk_in _ 256 hb', br_c (fun z4 => nm_r (nI_1 _) (hw (0, s.2) ⟨?_, keep z3⟩)) (fun z4 => nm_r (nI_1 _) (hw s ⟨?_, keep z3⟩))⟩)⟩)
      · show _ = (if _ then _ else _)
        rw [if_pos z2]
      · refine tp_applyLogged (by omega) l1 hS l2 _ (nm_r (nI_1 _) (hw (0, fun k => tp_av lk lt ly ln (m * 64) (lt (m * 64 + i)) k (s.2 k) S) ⟨?_, ?_⟩))
        · show _ = (if _ then _ else if _ then _ else _)
          rw [if_neg z2, if_pos z3]
        · rw [i2]
          funext k
          show tp_av lk lt ly ln (m * 64) (lt (m * 64 + i)) k (if k < 12 ∧ k % 3 = m then _ else _) S = (if k < 12 ∧ k % 3 = m then (if _ then _ else _) else _)
          by_cases e : k < 12 ∧ k % 3 = m
          · rw [if_pos e, if_pos e, if_pos z3]
          · rw [if_neg e, if_neg e]; exact tp_av_off l2 (Nat.le_refl _) e
      · show _ = (if _ then _ else if _ then _ else if _ then _ else _)
        rw [if_neg z2, if_neg z3, if_pos z4]
      · show _ = (if _ then _ else if _ then _ else if _ then _ else _)
        rw [if_neg z2, if_neg z3, if_neg z4]; exact i1
  · intro n i s hi hs hw
    have hb : m + 3 * i < 12 := by omega
    have ec : (nI (m + 3 * i)).toNatClampNeg = m + 3 * i := nI_clamp (by omega)
    refine pk_le 12 (m + 3 * i) (fun z => absurd z (by omega)) (fun _ => ⟨pk_in _ 12 hb, pk_in _ 12 hb, nm_e (nm_r (e' := nI (m + 3 * (i + 1))) (nI_add _ 3) (hw _ ?_))⟩)
    rw [ec, hs]
    funext k
    show (if _ then _ else _) = _
    by_cases e : k = m + 3 * i
    · rw [if_pos e, if_pos ⟨by omega, by omega⟩, e]
    · rw [if_neg e]
      dsimp only
      by_cases e' : k < m + 3 * i ∧ k % 3 = m
      · rw [if_pos e', if_pos ⟨by omega, e'.2⟩]
      · rw [if_neg e', if_neg (fun z => e' ⟨by omega, z.2⟩)]
end
end
section
/-! 05: releasing, rolling back, holders -/
def tp_rel (t m : Nat) (ho : Nat → Int32) : Nat → Int32 := fun k => if k < 12 ∧ k % 3 = m ∧ ho k = nI t then -1 else ho k
def tp_rb (t : Nat) (ho : Nat → Int32) : Nat → Int32 := fun k => if k < 12 ∧ ho k = nI t then -1 else ho k
def tp_rp (t : Nat) (pr : Nat → Int32) : Nat → Int32 := fun j => if t * 3 ≤ j ∧ j < t * 3 + 3 then 0 else pr j
/-- holders are -1 or one of four -/
def tp_H4 (ho : Nat → Int32) : Prop := ∀ k, k < 12 → ho k = -1 ∨ ∃ t, t < 4 ∧ ho k = nI t
section
variable {os st vo he ns nm sl pa tr td ha cc fi wa se lc : Int32} {im lz lk lt ly ln nu ho wk wn pr go kk mf mt mn : Nat → Int32}
theorem tp_G_H4 {O : Nat} (hG : tp_G O ho wk wn nu) : tp_H4 ho := by
  intro k hk
  rcases hG.2.1 k hk with h | ⟨t, t1, t2, _⟩
  · exact Or.inl h
  · exact Or.inr ⟨t, t1, t2⟩
theorem tp_H4_nar {k : Nat} (h : tp_H4 ho) (hk : k < 12) : vp_nar .byte (ho k) = ho k := by
  rcases h k hk with e | ⟨t, t1, e⟩
  · rw [e]; exact tp_nbm
  · rw [e]; exact tp_nb t (by omega)
theorem tp_rel_H4 {t m : Nat} (h : tp_H4 ho) : tp_H4 (tp_rel t m ho) := by
  intro k hk
  unfold tp_rel
  split
  · exact Or.inl rfl
  · exact h k hk
theorem tp_t3m (t m : Nat) : nI t * 3 + nI m = nI (t * 3 + m) := by rw [show (3 : Int32) = nI 3 from rfl, pk_mul, nI_add]
theorem tp_rel33 {post : St1 → Prop} {J : Int32 → (Nat → Int32) → (Nat → Int32) → (Nat → Int32) → (Nat → Int32) → (Nat → Int32) → (Nat → Int32) → (Nat → Int32) → (Nat → Int32) → (Nat → Int32) → (Nat → Int32) → (Nat → Int32) → (Nat → Int32) → (Nat → Int32) → (Nat → Int32) → (Nat → Int32) → (Nat → Int32) → Prop} {t m k W : Nat} {z0 z : Int32} (ht : t < 4) (hk : k < 12) (hz : vp_nar .byte z0 = z) (hw : wk t = nI W) (hW : W < 4096)
    (h : J (nI (k + 3)) im lz lk lt ly ln nu (upd ho k z) (upd wk t (nI (tp_clr W k))) wn pr go kk mf mt mn) : wX_releaseOn_33 post J (nI t) (nI m) (nI k) z0 (nI k) os st vo he ns nm sl pa tr td ha cc fi wa se lc im lz lk lt ly ln nu ho wk wn pr go kk mf mt mn := by
  unfold wX_releaseOn_33
  have hc := tp_clrL W k
  rw [nI_clamp (show k < 2 ^ 31 by omega), nI_clamp (show t < 2 ^ 31 by omega), hz, hw, tp_clrI W k (by omega), tp_n16 (by omega)]
  exact ⟨pk_in k 12 hk, nm_e ⟨pk_in t 4 ht, pk_in t 4 ht, nm_e (nm_r (nI_add k 3) h)⟩⟩
theorem tp_releaseOn {post : St1 → Prop} {t m W : Nat} (h4 : tp_H4 ho) (ht : t < 4) (hm : m < 3) (hw : wk t = nI W) (hW : W < 4096)
    (h : ∀ W', W' < 4096 → (∀ k, W'.testBit k = (W.testBit k && decide (k % 3 ≠ m))) → post (os, st, vo, he, ns, nm, sl, pa, tr, td, ha, cc, fi, wa, se, lc, im, lz, lk, lt, ly, ln, nu, tp_rel t m ho, upd wk t (nI W'), wn, upd pr (t * 3 + m) 0, go, kk, mf, mt, mn)) : wpX_releaseOn post (os, st, vo, he, ns, nm, sl, pa, tr, td, ha, cc, fi, wa, se, lc, im, lz, lk, lt, ly, ln, nu, ho, wk, wn, pr, go, kk, mf, mt, mn) (nI t) (nI m) := by
  unfold wpX_releaseOn
  dsimp only
  refine pk_loop (σ := (Nat → Int32) × (Nat → Int32)) (fun n i s => wX_releaseOn_2 post (nI t) (nI m) os st vo he ns nm sl pa tr td ha cc fi wa se lc n (nI (m + 3 * i)) im lz lk lt ly ln nu s.1 s.2 wn pr go kk mf mt mn) (fun i s => (s.1 = fun k => if k < m + 3 * i ∧ k % 3 = m ∧ ho k = nI t then -1 else ho k) ∧ ∃ W', W' < 4096 ∧ s.2 = upd wk t (nI W') ∧ ∀ k, W'.testBit k = (W.testBit k && decide (¬ (k < m + 3 * i ∧ k % 3 = m)))) 4 0 (ho, wk) (by omega) ⟨?_, W, hW, ?_, ?_⟩ ?_ ?_
  · funext k
    show ho k = _
    rw [if_neg]
    rintro ⟨z1, z2, _⟩
    omega
  · show wk = _
    rw [← hw, tp_uself]
  · intro k
    have : ¬ (k < m + 3 * 0 ∧ k % 3 = m) := by omega
    rw [decide_eq_true this, Bool.and_true]
  · intro n s hI
    obtain ⟨i1, W', w1, w2, w3⟩ := hI
    refine pk_le 12 (m + 3 * 4) (fun _ => ⟨pk_in (t * 3 + m) 12 (by omega) (tp_t3m t m), nm_r (e' := upd pr (t * 3 + m) 0) (by rw [tp_t3m, nI_clamp (by omega)]) ?_⟩) (fun z => absurd z (by omega))
    have e1 : s.1 = tp_rel t m ho := by
      rw [i1]
      funext k
      unfold tp_rel
      by_cases e : k < 12 ∧ k % 3 = m ∧ ho k = nI t
      · rw [if_pos e, if_pos ⟨by omega, e.2⟩]
      · rw [if_neg e, if_neg (fun z => e ⟨by omega, z.2⟩)]
    rw [e1, w2]
    refine h W' w1 (fun k => ?_)
    rw [w3 k]
    by_cases e : k % 3 = m
    · by_cases e' : k < 12
      · have z1 : ¬ ¬ (k < m + 3 * 4 ∧ k % 3 = m) := by omega
        have z2 : ¬ k % 3 ≠ m := by omega
        rw [decide_eq_false z1, decide_eq_false z2]
      · rw [tp_tb12 hW (by omega)]; rfl
    · have z1 : ¬ (k < m + 3 * 4 ∧ k % 3 = m) := by omega
      rw [decide_eq_true z1, decide_eq_true e]
  · intro n i s hi hI hw'
    obtain ⟨i1, W', w1, w2, w3⟩ := hI
    have hb : m + 3 * i < 12 := by omega
    have ec : (nI (m + 3 * i)).toNatClampNeg = m + 3 * i := nI_clamp (by omega)
    have es : s.1 (m + 3 * i) = ho (m + 3 * i) := by
      rw [i1]
      show (if _ then _ else _) = _
      rw [if_neg (fun z => absurd z.1 (by omega))]
    have ew : s.2 t = nI W' := by rw [w2, pk_us]
    have eu : ∀ x, upd s.2 t x = upd wk t x := fun x => by rw [w2, tp_uu]
    have hcl := tp_clrL W' (m + 3 * i)
    have nx : ∀ z, (ho (m + 3 * i) = nI t → z = -1) → (¬ ho (m + 3 * i) = nI t → z = ho (m + 3 * i)) → wX_releaseOn_2 post (nI t) (nI m) os st vo he ns nm sl pa tr td ha cc fi wa se lc n (nI (m + 3 * i + 3)) im lz lk lt ly ln nu (upd s.1 (m + 3 * i) z) (upd s.2 t (nI (tp_clr W' (m + 3 * i)))) wn pr go kk mf mt mn := by
      intro z z1 z2
      refine hw' (upd s.1 (m + 3 * i) z, upd s.2 t (nI (tp_clr W' (m + 3 * i)))) ⟨?_, tp_clr W' (m + 3 * i), by omega, eu _, ?_⟩
      · show upd s.1 (m + 3 * i) z = _
        rw [i1]
        funext k
        show (if _ then _ else _) = _
        by_cases e : k = m + 3 * i
        · rw [if_pos e, e]
          by_cases e' : ho (m + 3 * i) = nI t
          · rw [if_pos ⟨by omega, by omega, e'⟩, z1 e']
          · rw [if_neg (fun y => e' y.2.2), z2 e']
        · rw [if_neg e]
          dsimp only
          by_cases e' : k < m + 3 * i ∧ k % 3 = m ∧ ho k = nI t
          · rw [if_pos e', if_pos ⟨by omega, e'.2⟩]
          · rw [if_neg e', if_neg (fun y => e' ⟨by omega, y.2⟩)]
      · intro k
        rw [tp_clrB (by omega) (by omega), w3 k, Bool.and_assoc]
        congr 1
        by_cases e : k = m + 3 * i
        · have y1 : ¬ (k ≠ m + 3 * i) := by omega
          have y2 : ¬ ¬ (k < m + 3 * (i + 1) ∧ k % 3 = m) := by omega
          rw [decide_eq_false y1, decide_eq_false y2, Bool.and_false]
        · rw [decide_eq_true e, Bool.and_true]
          congr 1
          apply propext
          constructor
          · intro y y'; exact y ⟨by omega, y'.2⟩
          · intro y y'; exact y ⟨by omega, y'.2⟩
    refine pk_le 12 (m + 3 * i) (fun z => absurd z (by omega)) (fun _ => ⟨pk_in _ 12 hb, ?_⟩)
    rw [ec, es]
    refine br_c (fun z1 => tp_rel33 ht hb tp_nbm ew w1 (nx (-1) (fun _ => rfl) (fun y => absurd z1 y))) (fun z1 => ⟨pk_in _ 12 hb, tp_rel33 ht hb (tp_H4_nar h4 hb) ew w1 (nx _ (fun y => absurd y z1) (fun _ => rfl))⟩)
theorem tp_G_rel {O t m W W' : Nat} (hG : tp_G O ho wk wn nu) (ht : t < 4) (hw : wk t = nI W) (hW : W < 4096) (hW' : W' < 4096) (hb : ∀ k, W'.testBit k = (W.testBit k && decide (k % 3 ≠ m))) : tp_G O (tp_rel t m ho) (upd wk t (nI W')) wn nu := by
  obtain ⟨g1, g2, g3, g4, g5⟩ := hG
  refine ⟨g1, fun k hk => ?_, fun s hs => ?_, g4, g5⟩
  · unfold tp_rel
    split
    · exact Or.inl rfl
    · exact g2 k hk
  · by_cases e : s = t
    · subst e
      refine ⟨W', hW', pk_us, fun k hk hb' => ?_⟩
      rw [hb k] at hb'
      obtain ⟨V, v1, v2, v3⟩ := g3 s hs
      have eV : V = W := (nI_eq (by omega) (by omega)).mp (v2.symm.trans hw)
      subst eV
      have h1 : V.testBit k = true := by cases q : V.testBit k <;> rw [q] at hb' <;> simp_all
      have h2 : k % 3 ≠ m := by
        intro z
        rw [h1, decide_eq_false (fun y => y z)] at hb'
        exact absurd hb' (by decide)
      unfold tp_rel
      rw [if_neg (fun y => h2 y.2.1)]
      exact v3 k hk h1
    · obtain ⟨V, v1, v2, v3⟩ := g3 s hs
      refine ⟨V, v1, by rw [pk_un e]; exact v2, fun k hk hb' => ?_⟩
      have h3 := v3 k hk hb'
      unfold tp_rel
      rw [if_neg, h3]
      rintro ⟨_, _, y⟩
      rw [h3] at y
      exact e ((nI_eq (by omega) (by omega)).mp y)
theorem tp_rollBack {post : St1 → Prop} {t O W : Nat} (h4 : tp_H4 ho) (ht : t < 4) (hw : wk t = nI W) (hW : W < 4096)
    (h : post (nI (tp_clr O t), st, vo, he, ns, nm, sl, pa, tr, td, ha, cc, fi, wa, se, lc, im, lz, lk, lt, ly, ln, nu, tp_rb t ho, upd wk t 0, wn, tp_rp t pr, go, kk, mf, mt, mn)) : wpX_rollBack post (nI O, st, vo, he, ns, nm, sl, pa, tr, td, ha, cc, fi, wa, se, lc, im, lz, lk, lt, ly, ln, nu, ho, wk, wn, pr, go, kk, mf, mt, mn) (nI t) := by
  unfold wpX_rollBack
  dsimp only
  refine pk_loop (σ := (Nat → Int32) × (Nat → Int32) × (Nat → Int32)) (fun n i s => wX_rollBack_2 post (nI t) n (nI i) (nI O) st vo he ns nm sl pa tr td ha cc fi wa se lc im lz lk lt ly ln nu s.1 s.2.1 wn s.2.2 go kk mf mt mn) (fun i s => (s.1 = fun k => if k < 12 ∧ k % 3 < i ∧ ho k = nI t then -1 else ho k) ∧ (s.2.2 = fun j => if t * 3 ≤ j ∧ j < t * 3 + i then 0 else pr j) ∧ ∃ W', W' < 4096 ∧ s.2.1 = upd wk t (nI W') ∧ ∀ k, W'.testBit k = (W.testBit k && decide (i ≤ k % 3))) 3 0 (ho, wk, pr) (by omega) ⟨?_, ?_, W, hW, ?_, ?_⟩ ?_ ?_
  · funext k
    show ho k = _
    rw [if_neg]
    rintro ⟨z1, z2, _⟩
    omega
  · funext j
    show pr j = _
    rw [if_neg]
    rintro ⟨z1, z2⟩
    omega
  · show wk = _
    rw [← hw, tp_uself]
  · intro k
    rw [decide_eq_true (Nat.zero_le _), Bool.and_true]
  · intro n s hI
    obtain ⟨i1, i2, W', w1, w2, w3⟩ := hI
    refine pk_le 3 3 (fun _ => nm_r (tp_clrI O t (by omega)) ?_) (fun z => absurd z (by omega))
    have e1 : s.1 = tp_rb t ho := by
      rw [i1]
      funext k
      unfold tp_rb
      by_cases e : k < 12 ∧ ho k = nI t
      · rw [if_pos e, if_pos ⟨e.1, by omega, e.2⟩]
      · rw [if_neg e, if_neg (fun z => e ⟨z.1, z.2.2⟩)]
    have e2 : s.2.2 = tp_rp t pr := i2
    have e3 : W' = 0 := by
      apply Nat.eq_of_testBit_eq
      intro k
      have z : ¬ 3 ≤ k % 3 := by omega
      rw [w3 k, decide_eq_false z, Bool.and_false, Nat.zero_testBit]
    rw [e1, e2, w2, e3]
    exact h
  · intro n i s hi hI hw'
    obtain ⟨i1, i2, W', w1, w2, w3⟩ := hI
    refine pk_le 3 i (fun z => absurd z (by omega)) (fun _ => ?_)
    have ew : s.2.1 t = nI W' := by rw [w2, pk_us]
    have hs4 : tp_H4 s.1 := by
      intro k hk
      rw [i1]
      show (if _ then _ else _) = _ ∨ _
      dsimp only
      split
      · exact Or.inl rfl
      · exact h4 k hk
    refine tp_releaseOn hs4 ht (by omega) ew w1 (fun V v1 v2 => nm_r (nI_1 i) (hw' (tp_rel t i s.1, upd s.2.1 t (nI V), upd s.2.2 (t * 3 + i) 0) ⟨?_, ?_, V, v1, ?_, ?_⟩))
    · funext k
      have sk : s.1 k = if k < 12 ∧ k % 3 < i ∧ ho k = nI t then -1 else ho k := by rw [i1]
      show (if k < 12 ∧ k % 3 = i ∧ s.1 k = nI t then -1 else s.1 k) = (if k < 12 ∧ k % 3 < i + 1 ∧ ho k = nI t then -1 else ho k)
      by_cases e : k < 12 ∧ k % 3 < i ∧ ho k = nI t
      · rw [if_pos e] at sk
        rw [if_pos (show k < 12 ∧ k % 3 < i + 1 ∧ ho k = nI t from ⟨e.1, by omega, e.2.2⟩)]
        split
        · rfl
        · exact sk
      · rw [if_neg e] at sk
        by_cases e' : k < 12 ∧ k % 3 = i ∧ ho k = nI t
        · rw [if_pos (show k < 12 ∧ k % 3 = i ∧ s.1 k = nI t from ⟨e'.1, e'.2.1, by rw [sk]; exact e'.2.2⟩), if_pos (show k < 12 ∧ k % 3 < i + 1 ∧ ho k = nI t from ⟨e'.1, by omega, e'.2.2⟩)]
        · rw [if_neg (fun z => e' ⟨z.1, z.2.1, by rw [← sk]; exact z.2.2⟩), if_neg, sk]
          rintro ⟨y1, y2, y3⟩
          by_cases y4 : k % 3 < i
          · exact e ⟨y1, y4, y3⟩
          · exact e' ⟨y1, by omega, y3⟩
    · show upd s.2.2 (t * 3 + i) 0 = _
      rw [i2]
      funext j
      show (if _ then _ else _) = _
      by_cases e : j = t * 3 + i
      · rw [if_pos e, if_pos ⟨by omega, by omega⟩]
      · rw [if_neg e]
        dsimp only
        by_cases e' : t * 3 ≤ j ∧ j < t * 3 + i
        · rw [if_pos e', if_pos ⟨by omega, by omega⟩]
        · rw [if_neg e', if_neg (fun y => e' ⟨by omega, by omega⟩)]
    · show upd s.2.1 t (nI V) = _
      rw [w2, tp_uu]
    · intro k
      rw [v2 k, w3 k, Bool.and_assoc]
      congr 1
      by_cases e : i + 1 ≤ k % 3
      · rw [decide_eq_true e, decide_eq_true (show i ≤ k % 3 by omega), decide_eq_true (show k % 3 ≠ i by omega)]; rfl
      · rw [decide_eq_false e]
        by_cases e' : k % 3 = i
        · rw [decide_eq_false (show ¬ k % 3 ≠ i from fun y => y e'), Bool.and_false]
        · rw [decide_eq_false (show ¬ i ≤ k % 3 by omega)]; rfl
theorem tp_G_rb {O t : Nat} (hG : tp_G O ho wk wn nu) (ht : t < 4) : tp_G (tp_clr O t) (tp_rb t ho) (upd wk t 0) wn nu := by
  obtain ⟨g1, g2, g3, g4, g5⟩ := hG
  refine ⟨tp_oc O g1 t ht, fun k hk => ?_, fun s hs => ?_, g4, g5⟩
  · unfold tp_rb
    split
    · exact Or.inl rfl
    · rename_i hne
      rcases g2 k hk with e | ⟨s, s1, s2, s3⟩
      · exact Or.inl e
      · refine Or.inr ⟨s, s1, s2, ?_⟩
        rw [tp_clrB (by omega) (by omega), s3, decide_eq_true]
        · rfl
        · intro e; rw [e] at s2; exact hne ⟨hk, s2⟩
  · by_cases e : s = t
    · subst e
      exact ⟨0, by decide, by rw [pk_us]; rfl, fun k _ hb => absurd hb (by rw [Nat.zero_testBit]; decide)⟩
    · obtain ⟨V, v1, v2, v3⟩ := g3 s hs
      refine ⟨V, v1, by rw [pk_un e]; exact v2, fun k hk hb' => ?_⟩
      have h3 := v3 k hk hb'
      unfold tp_rb
      rw [if_neg, h3]
      rintro ⟨_, y⟩
      rw [h3] at y
      exact e ((nI_eq (by omega) (by omega)).mp y)
theorem tp_holdersOn {post : Int32 → Prop} {m : Nat} (hm : m < 3) (h4 : tp_H4 ho) (h : ∀ H, H < 16 → (∀ t, t < 4 → (H.testBit t = true ↔ ∃ k, k < 12 ∧ k % 3 = m ∧ ho k = nI t)) → post (nI H)) : wpX_holdersOn post (os, st, vo, he, ns, nm, sl, pa, tr, td, ha, cc, fi, wa, se, lc, im, lz, lk, lt, ly, ln, nu, ho, wk, wn, pr, go, kk, mf, mt, mn) (nI m) := by
  unfold wpX_holdersOn
  dsimp only
  refine pk_loop (σ := Int32) (fun n i s => wX_holdersOn_4 post os st vo he ns nm sl pa tr td ha cc fi wa se lc im lz lk lt ly ln nu ho wk wn pr go kk mf mt mn n s (nI (m + 3 * i))) (fun i s => ∃ H, H < 16 ∧ s = nI H ∧ (∀ t, t < 4 → (H.testBit t = true ↔ ∃ k, k < m + 3 * i ∧ k % 3 = m ∧ ho k = nI t))) 4 0 0 (by omega) ⟨0, by decide, rfl, fun t _ => ?_⟩ ?_ ?_
  · rw [Nat.zero_testBit]
    constructor
    · intro z; exact absurd z (by decide)
    · rintro ⟨k, k1, k2, _⟩; omega
  · intro n s hI
    obtain ⟨H, h1, h2, h3⟩ := hI
    refine pk_le 12 (m + 3 * 4) (fun _ => ?_) (fun z => absurd z (by omega))
    rw [h2]
    refine h H h1 (fun t ht => ?_)
    rw [h3 t ht]
    constructor
    · rintro ⟨k, k1, k2, k3⟩; exact ⟨k, by omega, k2, k3⟩
    · rintro ⟨k, k1, k2, k3⟩; exact ⟨k, by omega, k2, k3⟩
  · intro n i s hi hI hw
    obtain ⟨H, h1, h2, h3⟩ := hI
    have hb : m + 3 * i < 12 := by omega
    have ec : (nI (m + 3 * i)).toNatClampNeg = m + 3 * i := nI_clamp (by omega)
    refine pk_le 12 (m + 3 * i) (fun z => absurd z (by omega)) (fun _ => ⟨pk_in _ 12 hb, ?_⟩)
    rw [ec]
    rcases h4 _ hb with e | ⟨q, q1, q2⟩
    · refine br_t e (nm_r (e' := s) (by rw [h2]; have q := tp_nor H 0; rw [Nat.or_zero] at q; exact q) (nm_r (e' := nI (m + 3 * (i + 1))) (nI_add _ 3) (hw s ⟨H, h1, h2, fun t ht => ?_⟩)))
      rw [h3 t ht]
      constructor
      · rintro ⟨k, k1, k2, k3⟩; exact ⟨k, by omega, k2, k3⟩
      · rintro ⟨k, k1, k2, k3⟩
        refine ⟨k, ?_, k2, k3⟩
        have : k ≠ m + 3 * i := by
          intro y; rw [y, e] at k3; exact tp_m1n t (by omega) k3.symm
        omega
    · refine br_f (by rw [q2]; exact tp_m1n q (by omega)) ⟨pk_in _ 12 hb, nm_r (e' := nI (H ||| 2 ^ q)) (by rw [h2, q2, tp_one q (by omega), tp_nor]) (nm_r (e' := nI (m + 3 * (i + 1))) (nI_add _ 3) (hw _ ⟨H ||| 2 ^ q, tp_ob H h1 q q1, rfl, fun t ht => ?_⟩))⟩
      rw [Nat.testBit_or, Nat.testBit_two_pow, Bool.or_eq_true, h3 t ht]
      constructor
      · rintro (⟨k, k1, k2, k3⟩ | z)
        · exact ⟨k, by omega, k2, k3⟩
        · refine ⟨m + 3 * i, by omega, by omega, ?_⟩
          rw [q2, of_decide_eq_true z]
      · rintro ⟨k, k1, k2, k3⟩
        by_cases y : k = m + 3 * i
        · right
          rw [y, q2] at k3
          exact decide_eq_true ((nI_eq (by omega) (by omega)).mp k3)
        · left; exact ⟨k, by omega, k2, k3⟩
end
end
section
/-! 06: the control of a commit as a pure machine; the kernel runs all 192 cases -/
/-- a message: kind, from, to -/
abbrev tp_Ms : Type := Nat × Nat × Nat
/-- the channel: sent, lost, under way -/
abbrev tp_Ch : Type := Nat × Nat × List tp_Ms
/-- the phases of the three machines: 0 fresh, 1 gone, 2 promised, 3 settled or no part -/
abbrev tp_Ph : Type := Nat × Nat × Nat
/-- state, votes, heard, happened, decided, phases, channel -/
abbrev tp_Co : Type := Nat × Nat × Nat × Nat × Nat × tp_Ph × tp_Ch
def tp_pg (p : tp_Ph) (m : Nat) : Nat := if m = 0 then p.1 else if m = 1 then p.2.1 else p.2.2
def tp_ps (p : tp_Ph) (m x : Nat) : tp_Ph := if m = 0 then (x, p.2.1, p.2.2) else if m = 1 then (p.1, x, p.2.2) else (p.1, p.2.1, x)
theorem tp_pgs {p : tp_Ph} {m x j : Nat} (hm : m < 3) (hj : j < 3) : tp_pg (tp_ps p m x) j = if j = m then x else tp_pg p j := by
  unfold tp_pg tp_ps
  rcases (by omega : m = 0 ∨ m = 1 ∨ m = 2) with e | e | e <;> rcases (by omega : j = 0 ∨ j = 1 ∨ j = 2) with e' | e' | e' <;> subst e <;> subst e' <;> rfl
def tp_push (q : List tp_Ms) (m : tp_Ms) : List tp_Ms := if q.length < 64 then q ++ [m] else q
def tp_send (tr : Nat) (h : tp_Ch) (m : tp_Ms) : tp_Ch :=
  if tr = 6 ∧ h.2.1 < 10 ∧ (h.1 + 1) * 7 % 5 < 3 then (h.1 + 1, h.2.1 + 1, h.2.2)
  else if tr = 7 then (h.1 + 1, h.2.1, tp_push (tp_push h.2.2 m) m) else (h.1 + 1, h.2.1, tp_push h.2.2 m)
def tp_rem1 (pa tr st vo he : Nat) (p : tp_Ph) (h : tp_Ch) (m : Nat) : tp_Ch :=
  if pa.testBit m = true then
    if st = 1 ∧ vo.testBit m = false then tp_send tr h (1, 3, m)
    else if st = 2 ∧ he.testBit m = false then tp_send tr h (4, 3, m)
    else if st = 3 ∧ he.testBit m = false then (if tp_pg p m = 2 then tp_send tr h (7, m, 3) else tp_send tr h (5, 3, m))
    else h
  else h
def tp_rem (pa tr st vo he : Nat) (p : tp_Ph) (h : tp_Ch) : tp_Ch := tp_rem1 pa tr st vo he p (tp_rem1 pa tr st vo he p (tp_rem1 pa tr st vo he p h 0) 1) 2
/-- behind the decision -/
def tp_dec2 (pa tr td vo he ha : Nat) (p : tp_Ph) (h : tp_Ch) : tp_Co :=
  (2, vo, he, (if pa.testBit td = false ∧ (tr = 4 ∨ tr = 5) ∧ ha = 0 then 1 else ha), 1, p, tp_rem pa tr 2 vo he p h)
def tp_dec (pa tr td st vo he ha dc : Nat) (p : tp_Ph) (h : tp_Ch) : tp_Co :=
  if vo = pa then
    if tr = 2 ∧ ha = 0 then (3, 0, 0, 1, dc, p, h)
    else if tr = 3 ∧ ha = 0 then tp_dec2 pa tr td 0 0 1 p h
    else tp_dec2 pa tr td vo he ha p h
  else (st, vo, he, ha, dc, p, h)
def tp_lead (pa tr td st vo he ha dc : Nat) (p : tp_Ph) (h : tp_Ch) (k f : Nat) : tp_Co :=
  if k = 2 ∧ st = 1 then tp_dec pa tr td st (vo ||| 2 ^ f) he ha dc p h
  else if k = 3 ∧ st = 1 then (3, vo, he, ha, dc, p, h)
  else if k = 6 ∧ (st = 2 ∨ st = 3) then (st, vo, he ||| 2 ^ f, ha, dc, p, h)
  else if k = 7 then (st, vo, he, ha, dc, p, tp_send tr h (if dc = 1 then 4 else 5, 3, f))
  else (st, vo, he, ha, dc, p, h)
def tp_prep (tr td st vo he ha dc : Nat) (p : tp_Ph) (h : tp_Ch) (m : Nat) : tp_Co :=
  if tr = 1 ∧ ha = 0 ∧ m = td then (st, vo, he, 1, dc, tp_ps p m 1, h)
  else if tp_pg p m = 1 then (st, vo, he, ha, dc, p, tp_send tr h (3, m, 3))
  else (st, vo, he, ha, dc, tp_ps p m 2, tp_send tr h (2, m, 3))
def tp_com (tr td st vo he ha dc : Nat) (p : tp_Ph) (h : tp_Ch) (m : Nat) : tp_Co :=
  if tr = 4 ∧ ha = 0 ∧ m = td then (st, vo, he, 1, dc, p, h)
  else if tr = 5 ∧ ha = 0 ∧ m = td then (st, vo, he, 1, dc, tp_ps p m 3, h)
  else (st, vo, he, ha, dc, tp_ps p m 3, tp_send tr h (6, m, 3))
def tp_ref (tr st vo he ha dc : Nat) (p : tp_Ph) (h : tp_Ch) (m : Nat) : tp_Co := (st, vo, he, ha, dc, tp_ps p m 3, tp_send tr h (6, m, 3))
/-- one message is heard -/
def tp_hear (pa tr td st vo he ha dc : Nat) (p : tp_Ph) (h : tp_Ch) (x : tp_Ms) : tp_Co :=
  if x.2.2 = 3 then tp_lead pa tr td st vo he ha dc p h x.1 x.2.1
  else if x.1 = 1 then tp_prep tr td st vo he ha dc p h x.2.2
  else if x.1 = 4 then tp_com tr td st vo he ha dc p h x.2.2
  else tp_ref tr st vo he ha dc p h x.2.2
/-- one round -/
def tp_rnd (pa tr td : Nat) (c : tp_Co) : tp_Co :=
  match c with
  | (st, vo, he, ha, dc, p, s, l, []) => (st, vo, he, ha, dc, p, tp_rem pa tr st vo he p (s, l, []))
  | (st, vo, he, ha, dc, p, s, l, x :: q) => tp_hear pa tr td st vo he ha dc p (s, l, q) x
/-- what a round rests on -/
def tp_okM (tr td st ha dc : Nat) (p : tp_Ph) (x : tp_Ms) : Bool :=
  if x.2.2 = 3 then decide (x.1 < 8 ∧ x.2.1 < 3)
  else decide (x.1 < 8 ∧ x.2.1 < 4 ∧ x.2.2 < 3) && (if x.1 = 1 then decide (st = 1 ∧ tp_pg p x.2.2 < 3 ∧ (tr = 1 → ha = 0 → x.2.2 = td → tp_pg p x.2.2 = 0)) else if x.1 = 4 then decide (st = 2 ∧ dc = 1 ∧ (tp_pg p x.2.2 = 2 ∨ tp_pg p x.2.2 = 3)) else true)
def tp_ok (pa tr td : Nat) (c : tp_Co) : Bool :=
  match c with
  | (st, vo, he, ha, dc, p, s, l, q) => decide (st < 4 ∧ 0 < st ∧ vo < 8 ∧ he < 8 ∧ ha < 2 ∧ dc < 2 ∧ s < 1000 ∧ l < 11 ∧ (st = 1 → dc = 0) ∧ (pa.testBit td = false → tp_pg p td = 3)) && (match q with | [] => true | x :: _ => tp_okM tr td st ha dc p x)
def tp_over (pa : Nat) (c : tp_Co) : Bool := decide ((c.1 = 2 ∨ c.1 = 3) ∧ c.2.2.1 = pa)
def tp_fin (c : tp_Co) : Bool := decide (tp_pg c.2.2.2.2.2.1 0 ≠ 2 ∧ tp_pg c.2.2.2.2.2.1 1 ≠ 2 ∧ tp_pg c.2.2.2.2.2.1 2 ≠ 2)
def tp_all (pa tr td : Nat) : Nat → tp_Co → Bool
  | 0, _ => false
  | n + 1, c => if tp_ok pa tr td c = true then (if tp_over pa c = true then tp_fin c else tp_all pa tr td n (tp_rnd pa tr td c)) else false
def tp_p0 (pa : Nat) : tp_Ph := (if pa.testBit 0 = true then 0 else 3, if pa.testBit 1 = true then 0 else 3, if pa.testBit 2 = true then 0 else 3)
def tp_ha0 (pa tr td : Nat) : Nat := if pa.testBit td = false ∧ tr = 1 then 1 else 0
def tp_c0 (pa tr td : Nat) : tp_Co := tp_dec pa tr td 1 0 0 (tp_ha0 pa tr td) 0 (tp_p0 pa) (0, 0, [])
theorem tp_runs : ∀ pa, pa < 8 → ∀ tr, tr < 8 → ∀ td, td < 3 → tp_all pa tr td 100 (tp_c0 pa tr td) = true := by decide +kernel
end
section
/-! 07: breaking down: a machine, the leader -/
section
variable {os st vo he ns nm sl pa tr td ha cc fi wa se lc : Int32} {im lz lk lt ly ln nu ho wk wn pr go kk mf mt mn : Nat → Int32} {ho0 pr0 go0 : Nat → Int32}
theorem tp_rel_ne {t m k : Nat} (h : ¬ ho k = nI t) : tp_rel t m ho k = ho k := by
  unfold tp_rel; rw [if_neg (fun z => h z.2.2)]
theorem tp_rel_off {t m k : Nat} (h : k % 3 ≠ m) : tp_rel t m ho k = ho k := by
  unfold tp_rel; rw [if_neg (fun z => h z.2.1)]
theorem tp_rel_v (t m k : Nat) (ho : Nat → Int32) : tp_rel t m ho k = -1 ∨ (tp_rel t m ho k = ho k ∧ ¬ (k < 12 ∧ k % 3 = m ∧ ho k = nI t)) := by
  unfold tp_rel
  split
  · exact Or.inl rfl
  · rename_i h; exact Or.inr ⟨rfl, h⟩
theorem tp_rb_ne {t k : Nat} (h : ¬ ho k = nI t) : tp_rb t ho k = ho k := by
  unfold tp_rb; rw [if_neg (fun z => h z.2)]
theorem tp_rb_v (t k : Nat) (ho : Nat → Int32) : tp_rb t ho k = -1 ∨ (tp_rb t ho k = ho k ∧ ¬ (k < 12 ∧ ho k = nI t)) := by
  unfold tp_rb
  split
  · exact Or.inl rfl
  · rename_i h; exact Or.inr ⟨rfl, h⟩
theorem tp_rp_v (t j : Nat) (pr : Nat → Int32) : tp_rp t pr j = pr j ∨ tp_rp t pr j = 0 := by
  unfold tp_rp
  split
  · exact Or.inr rfl
  · exact Or.inl rfl
theorem tp_rp_off {t j : Nat} (h : ¬ (t * 3 ≤ j ∧ j < t * 3 + 3)) : tp_rp t pr j = pr j := by
  unfold tp_rp; rw [if_neg h]
theorem tp_up_v (f : Nat → Int32) (i j : Nat) : upd f i 0 j = f j ∨ upd f i 0 j = 0 := by
  unfold upd
  split
  · exact Or.inr rfl
  · exact Or.inl rfl
/-- up to transaction i -/
def tp_BI (m i s : Nat) (st : Int32) (O0 : Nat) (ho0 pr0 go0 : Nat → Int32) (O : Nat) (ho wk wn nu pr go : Nat → Int32) : Prop :=
  tp_G O ho wk wn nu ∧ (∀ b, O.testBit b = true → O0.testBit b = true) ∧
  (∀ k, k < 12 → k % 3 = m → ho k = -1 ∨ ∃ t, i ≤ t ∧ t < 4 ∧ ho k = nI t) ∧
  (∀ k, k < 12 → ho k = ho0 k ∨ ho k = -1) ∧
  (∀ j, j < 12 → pr j = pr0 j ∨ pr j = 0) ∧
  (st = 0 → go = go0) ∧
  (¬ st = 0 → O.testBit s = true ∧ (∀ k, k < 12 → k % 3 ≠ m → ho0 k = nI s → ho k = nI s) ∧ (∀ j, j ≠ s * 3 + m → go j = go0 j) ∧ (s < i → (∃ k, k < 12 ∧ k % 3 = m ∧ ho0 k = nI s) → go (s * 3 + m) = 1) ∧ (∀ j, j < 3 → j ≠ m → pr (s * 3 + j) = pr0 (s * 3 + j)))
/-- at the end -/
def tp_BD (m s : Nat) (o st : Int32) (O0 : Nat) (ho0 pr0 go0 : Nat → Int32) (O : Nat) (ho wk wn nu pr go : Nat → Int32) : Prop :=
  tp_G O ho wk wn nu ∧ (∀ b, O.testBit b = true → O0.testBit b = true) ∧
  (∀ j, j < 12 → pr j = pr0 j ∨ pr j = 0 ∨ (¬ o = 0 ∧ j = s * 3 + m)) ∧
  (st = 0 → go = go0) ∧
  (¬ st = 0 → O.testBit s = true ∧ (∀ k, k < 12 → k % 3 ≠ m → ho0 k = nI s → ho k = nI s) ∧ (∀ j, j ≠ s * 3 + m → go j = go0 j) ∧ ((∃ k, k < 12 ∧ k % 3 = m ∧ ho0 k = nI s) → go (s * 3 + m) = 1) ∧ (∀ j, j < 3 → j ≠ m → pr (s * 3 + j) = pr0 (s * 3 + j)) ∧ (¬ o = 0 → pr (s * 3 + m) = o))
theorem tp_BI_skip {m i s O0 O : Nat} (h : tp_BI m i s st O0 ho0 pr0 go0 O ho wk wn nu pr go) (hn : ¬ ∃ k, k < 12 ∧ k % 3 = m ∧ ho0 k = nI i) : tp_BI m (i + 1) s st O0 ho0 pr0 go0 O ho wk wn nu pr go := by
  obtain ⟨b1, b2, b3, b4, b5, b6, b7⟩ := h
  refine ⟨b1, b2, fun k hk hm => ?_, b4, b5, b6, fun hs => ?_⟩
  · rcases b3 k hk hm with e | ⟨t, t1, t2, t3⟩
    · exact Or.inl e
    · refine Or.inr ⟨t, ?_, t2, t3⟩
      rcases Nat.lt_or_ge i t with z | z
      · exact z
      · have e : t = i := by omega
        subst e
        rcases b4 k hk with y | y
        · exact absurd ⟨k, hk, hm, y.symm.trans t3⟩ hn
        · rw [y] at t3; exact absurd t3.symm (tp_m1n t (by omega))
  · obtain ⟨c1, c2, c3, c4, c5⟩ := b7 hs
    refine ⟨c1, c2, c3, fun hi hk => ?_, c5⟩
    by_cases e : s = i
    · subst e; exact absurd hk hn
    · exact c4 (by omega) hk
theorem tp_BI_roll {m i s O0 O W W' : Nat} (h : tp_BI m i s st O0 ho0 pr0 go0 O ho wk wn nu pr go) (hm : m < 3) (hi : i < 4) (hs : ¬ st = 0 → s < 4 ∧ ¬ i = s) (hw : wk i = nI W) (hW : W < 4096) (hW' : W' < 4096) (hb : ∀ k, W'.testBit k = (W.testBit k && decide (k % 3 ≠ m))) :
    tp_BI m (i + 1) s st O0 ho0 pr0 go0 (tp_clr O i) (tp_rb i (tp_rel i m ho)) (upd (upd wk i (nI W')) i 0) wn nu (tp_rp i (upd pr (i * 3 + m) 0)) go := by
  obtain ⟨b1, b2, b3, b4, b5, b6, b7⟩ := h
  have ob : ∀ b, (tp_clr O i).testBit b = (O.testBit b && decide (b ≠ i)) := fun b => tp_clrB (by have := b1.1; omega) (by omega)
  refine ⟨tp_G_rb (tp_G_rel b1 hi hw hW hW' hb) hi, fun b hb' => ?_, fun k hk hkm => ?_, fun k hk => ?_, fun j hj => ?_, b6, fun hst => ?_⟩
  · rw [ob b] at hb'
    exact b2 b (Bool.and_eq_true _ _ ▸ hb').1
  · rcases tp_rb_v i k (tp_rel i m ho) with e | ⟨e, e'⟩
    · exact Or.inl e
    · rw [e]
      rcases tp_rel_v i m k ho with y | ⟨y, y'⟩
      · exact Or.inl y
      · rw [y]
        rcases b3 k hk hkm with z | ⟨t, t1, t2, t3⟩
        · exact Or.inl z
        · refine Or.inr ⟨t, ?_, t2, t3⟩
          rcases Nat.lt_or_ge i t with x | x
          · exact x
          · have e2 : t = i := by omega
            subst e2
            exact absurd ⟨hk, hkm, t3⟩ y'
  · rcases tp_rb_v i k (tp_rel i m ho) with e | ⟨e, _⟩
    · exact Or.inr e
    · rw [e]
      rcases tp_rel_v i m k ho with y | ⟨y, _⟩
      · exact Or.inr y
      · rw [y]; exact b4 k hk
  · rcases tp_rp_v i j (upd pr (i * 3 + m) 0) with e | e
    · rw [e]
      rcases tp_up_v pr (i * 3 + m) j with y | y
      · rw [y]; exact b5 j hj
      · exact Or.inr y
    · exact Or.inr e
  · obtain ⟨s4, sne⟩ := hs hst
    obtain ⟨c1, c2, c3, c4, c5⟩ := b7 hst
    refine ⟨?_, fun k hk hkm hh => ?_, c3, fun hlt => c4 (by omega), fun j hj hjm => ?_⟩
    · rw [ob s, c1, decide_eq_true (Ne.symm sne)]; rfl
    · have e := c2 k hk hkm hh
      have ne : ¬ ho k = nI i := by
        rw [e]; intro z; exact sne ((nI_eq (by omega) (by omega)).mp z).symm
      have e2 : tp_rel i m ho k = ho k := tp_rel_ne ne
      rw [tp_rb_ne (by rw [e2]; exact ne), e2, e]
    · rw [tp_rp_off (by omega), pk_un (by omega)]; exact c5 j hj hjm
theorem tp_BI_gone {m s O0 O W W' : Nat} (h : tp_BI m s s st O0 ho0 pr0 go0 O ho wk wn nu pr go) (hm : m < 3) (hs : s < 4) (hst : ¬ st = 0) (hw : wk s = nI W) (hW : W < 4096) (hW' : W' < 4096) (hb : ∀ k, W'.testBit k = (W.testBit k && decide (k % 3 ≠ m))) :
    tp_BI m (s + 1) s st O0 ho0 pr0 go0 O (tp_rel s m ho) (upd wk s (nI W')) wn nu (upd pr (s * 3 + m) 0) (upd go (s * 3 + m) 1) := by
  obtain ⟨b1, b2, b3, b4, b5, b6, b7⟩ := h
  refine ⟨tp_G_rel b1 hs hw hW hW' hb, b2, fun k hk hkm => ?_, fun k hk => ?_, fun j hj => ?_, fun z => absurd z hst, fun _ => ?_⟩
  · rcases tp_rel_v s m k ho with y | ⟨y, y'⟩
    · exact Or.inl y
    · rw [y]
      rcases b3 k hk hkm with z | ⟨t, t1, t2, t3⟩
      · exact Or.inl z
      · refine Or.inr ⟨t, ?_, t2, t3⟩
        rcases Nat.lt_or_ge s t with x | x
        · exact x
        · have e2 : t = s := by omega
          subst e2
          exact absurd ⟨hk, hkm, t3⟩ y'
  · rcases tp_rel_v s m k ho with y | ⟨y, _⟩
    · exact Or.inr y
    · rw [y]; exact b4 k hk
  · rcases tp_up_v pr (s * 3 + m) j with y | y
    · rw [y]; exact b5 j hj
    · exact Or.inr y
  · obtain ⟨c1, c2, c3, c4, c5⟩ := b7 hst
    refine ⟨c1, fun k hk hkm hh => ?_, fun j hj => ?_, fun _ _ => pk_us, fun j hj hjm => ?_⟩
    · rw [tp_rel_off hkm]; exact c2 k hk hkm hh
    · rw [pk_un hj]; exact c3 j hj
    · rw [pk_un (by omega)]; exact c5 j hj hjm
theorem tp_breakDown {post : Int32 → St1 → Prop} {m S N O s : Nat} {o : Int32} (hm : m < 3) (hS : S ≤ 64) (hL : tp_LM m S N o im lz lk lt ly ln nu) (hG : tp_G O ho wk wn nu) (hst : ¬ st = 0 → s < 4 ∧ sl = nI s ∧ O.testBit s = true) (ho0 : o = 0 ∨ ¬ st = 0)
    (h : ∀ r O' ho' wk' wn' pr' go', tp_BD m s o st O ho pr go O' ho' wk' wn' nu pr' go' → post r (nI O', st, vo, he, ns, nm, sl, pa, tr, td, ha, cc, fi, wa, se, lc, im, lz, lk, lt, ly, ln, nu, ho', wk', wn', pr', go', kk, mf, mt, mn)) : wpX_breakDown post (nI O, st, vo, he, ns, nm, sl, pa, tr, td, ha, cc, fi, wa, se, lc, im, lz, lk, lt, ly, ln, nu, ho, wk, wn, pr, go, kk, mf, mt, mn) (nI m) := by
  unfold wpX_breakDown
  dsimp only
  refine tp_holdersOn hm (tp_G_H4 hG) (fun H h16 hH => ?_)
  refine pk_loop (σ := Int32 × Nat × (Nat → Int32) × (Nat → Int32) × (Nat → Int32) × (Nat → Int32)) (fun n i x => wX_breakDown_11 post (nI m) (nI H) n x.1 (nI i) (nI x.2.1) st vo he ns nm sl pa tr td ha cc fi wa se lc im lz lk lt ly ln nu x.2.2.1 x.2.2.2.1 wn x.2.2.2.2.1 x.2.2.2.2.2 kk mf mt mn) (fun i x => tp_BI m i s st O ho pr go x.2.1 x.2.2.1 x.2.2.2.1 wn nu x.2.2.2.2.1 x.2.2.2.2.2) 4 0 (0, O, ho, wk, pr, go) (by omega) ?_ ?_ ?_
  · refine ⟨hG, fun _ z => z, fun k hk _ => ?_, fun _ _ => Or.inl rfl, fun _ _ => Or.inl rfl, fun _ => rfl, fun hs => ⟨(hst hs).2.2, fun _ _ _ z => z, fun _ _ => rfl, fun z => absurd z (by omega), fun _ _ _ => rfl⟩⟩
    rcases tp_G_H4 hG k hk with e | ⟨t, t1, t2⟩
    · exact Or.inl e
    · exact Or.inr ⟨t, by omega, t1, t2⟩
  · rintro n ⟨x3, O', ho', wk', pr', go'⟩ hI
    dsimp only at hI ⊢
    refine pk_le 4 4 (fun _ => ?_) (fun z => absurd z (by omega))
    obtain ⟨b1, b2, b3, b4, b5, b6, b7⟩ := hI
    have bm : ∀ k, k < 12 → k % 3 = m → ho' k = -1 := by
      intro k hk hkm
      rcases b3 k hk hkm with e | ⟨t, t1, t2, _⟩
      · exact e
      · omega
    refine tp_comeBack hm hS hL (fun e0 => h x3 O' ho' wk' wn pr' go' ⟨b1, b2, fun j hj => ?_, b6, fun hs => ?_⟩) (fun Q hQ hne => ?_)
    · rcases b5 j hj with y | y
      · exact Or.inl y
      · exact Or.inr (Or.inl y)
    · obtain ⟨c1, c2, c3, c4, c5⟩ := b7 hs
      exact ⟨c1, c2, c3, c4 (by have := (hst hs).1; omega), c5, fun z => absurd e0 z⟩
    · have hs : ¬ st = 0 := by
        rcases ho0 with y | y
        · exact absurd y hne
        · exact y
      obtain ⟨s1, s2, s3⟩ := hst hs
      obtain ⟨c1, c2, c3, c4, c5⟩ := b7 hs
      subst s2
      refine tp_holdLogged hm hL.1 hS hL.2.1 b1 s1 c1 (fun k hk hkm => Or.inl (bm k hk hkm)) o (fun ho2 wk2 wn2 G2 off => hQ _ (h x3 O' ho2 wk2 wn2 (upd pr' (s * 3 + m) o) go' ⟨G2, b2, fun j hj => ?_, b6, fun _ => ⟨c1, fun k hk hkm hh => ?_, c3, c4 (by omega), fun j hj hjm => ?_, fun _ => pk_us⟩⟩))
      · by_cases e : j = s * 3 + m
        · exact Or.inr (Or.inr ⟨hne, e⟩)
        · rw [pk_un e]
          rcases b5 j hj with y | y
          · exact Or.inl y
          · exact Or.inr (Or.inl y)
      · rw [off k hkm]; exact c2 k hk hkm hh
      · rw [pk_un (by omega)]; exact c5 j hj hjm
  · rintro n i ⟨x3, O', ho', wk', pr', go'⟩ hi hI hw
    dsimp only at hI ⊢
    have G' := hI.1
    refine pk_le 4 i (fun z => absurd z (by omega)) (fun _ => ?_)
    cases hb : H.testBit i
    · refine br_t ((tp_bit (by omega) (by omega)).mpr hb) (nm_r (nI_1 i) (hw (x3, O', ho', wk', pr', go') (tp_BI_skip hI ?_)))
      intro z
      rw [(hH i hi).mpr z] at hb
      exact absurd hb (by decide)
    · refine br_f ((tp_bit1 (by omega) (by omega)).mpr hb) ?_
      obtain ⟨W, w1, w2, w3⟩ := G'.2.2.1 i hi
      refine tp_releaseOn (tp_G_H4 G') hi hm w2 w1 (fun W' v1 v2 => ?_)
      have roll : (¬ st = 0 → s < 4 ∧ ¬ i = s) → wX_breakDown_64 post (wX_breakDown_11 post (nI m) (nI H) n) (nI m) (nI H) x3 (nI i) (nI O') st vo he ns nm sl pa tr td ha cc fi wa se lc im lz lk lt ly ln nu (tp_rel i m ho') (upd wk' i (nI W')) wn (upd pr' (i * 3 + m) 0) go' kk mf mt mn := by
        intro hs
        unfold wX_breakDown_64
        exact tp_rollBack (tp_rel_H4 (tp_G_H4 G')) hi pk_us v1 (nm_e (nm_r (nI_1 i) (hw (x3 + 1, tp_clr O' i, tp_rb i (tp_rel i m ho'), upd (upd wk' i (nI W')) i 0, tp_rp i (upd pr' (i * 3 + m) 0), go') (tp_BI_roll hI hm hi hs w2 w1 v1 v2))))
      refine br_c (fun z0 => roll (fun z => absurd z0 z)) (fun z0 => ?_)
      obtain ⟨s1, s2, s3⟩ := hst z0
      subst s2
      refine pk_eq i s (fun e => ?_) (fun e => roll (fun _ => ⟨s1, e⟩))
      subst e
      exact ⟨pk_in (i * 3 + m) 12 (by omega) (tp_t3m i m), nm_r (e' := upd go' (i * 3 + m) 1) (by rw [tp_t3m, nI_clamp (by omega)]) (nm_r (nI_1 i) (hw (x3, O', tp_rel i m ho', upd wk' i (nI W'), upd pr' (i * 3 + m) 0, upd go' (i * 3 + m) 1) (tp_BI_gone hI hm hi z0 w2 w1 v1 v2)))⟩
end
end
section
/-! 08: the leader breaks down; begin, abort, crash -/
def tp_cnt (O : Nat) : Nat → Nat
  | 0 => 0
  | i + 1 => tp_cnt O i + (if O.testBit i = true then 1 else 0)
theorem tp_o15 : ∀ O, O < 16 → (∀ t, t < 4 → O.testBit t = true) → O = 15 := by decide +kernel
theorem tp_o0 : ∀ O, O < 16 → (∀ t, t < 4 → O.testBit t = false) → O = 0 := by decide +kernel
section
variable {os st vo he ns nm sl pa tr td ha cc fi wa se lc : Int32} {im lz lk lt ly ln nu ho wk wn pr go kk mf mt mn : Nat → Int32} {ho0 pr0 go0 : Nat → Int32}
def tp_BL (s O0 : Nat) (ho0 pr0 : Nat → Int32) (O : Nat) (ho wk wn nu pr : Nat → Int32) : Prop :=
  tp_G O ho wk wn nu ∧ (∀ b, O.testBit b = true → O0.testBit b = true) ∧ O.testBit s = true ∧ (∀ k, k < 12 → ho0 k = nI s → ho k = nI s) ∧ (∀ j, j < 12 → pr j = pr0 j ∨ pr j = 0) ∧ (∀ j, j < 3 → pr (s * 3 + j) = pr0 (s * 3 + j))
def tp_BJ (i s : Nat) (st : Int32) (O0 : Nat) (ho0 pr0 : Nat → Int32) (c : Int32) (O : Nat) (ho wk wn nu pr : Nat → Int32) : Prop :=
  tp_G O ho wk wn nu ∧ (∀ b, O.testBit b = true → O0.testBit b = true) ∧ (st = 0 → c = nI (tp_cnt O0 i) ∧ ∀ t, t < i → O.testBit t = false) ∧ (∀ t, i ≤ t → O.testBit t = O0.testBit t) ∧
  (∀ j, j < 12 → pr j = pr0 j ∨ pr j = 0) ∧ (¬ st = 0 → O.testBit s = true ∧ (∀ k, k < 12 → ho0 k = nI s → ho k = nI s) ∧ (∀ j, j < 3 → pr (s * 3 + j) = pr0 (s * 3 + j)))
theorem tp_BJ_skip {i s O0 O : Nat} {c : Int32} (h : tp_BJ i s st O0 ho0 pr0 c O ho wk wn nu pr) (hb : st = 0 → O.testBit i = false) : tp_BJ (i + 1) s st O0 ho0 pr0 c O ho wk wn nu pr := by
  obtain ⟨b1, b2, b3, b4, b5, b6⟩ := h
  refine ⟨b1, b2, fun hs => ?_, fun t ht => b4 t (by omega), b5, b6⟩
  obtain ⟨c1, c2⟩ := b3 hs
  refine ⟨?_, fun t ht => ?_⟩
  · rw [c1]
    show nI (tp_cnt O0 i) = nI (tp_cnt O0 i + (if O0.testBit i = true then 1 else 0))
    rw [← b4 i (Nat.le_refl i), hb hs]; rfl
  · by_cases e : t = i
    · rw [e]; exact hb hs
    · exact c2 t (by omega)
theorem tp_BJ_roll {i s O0 O : Nat} {c : Int32} (h : tp_BJ i s st O0 ho0 pr0 c O ho wk wn nu pr) (hi : i < 4) (hs : ¬ st = 0 → s < 4 ∧ ¬ i = s) (hb : O.testBit i = true) :
    tp_BJ (i + 1) s st O0 ho0 pr0 (c + 1) (tp_clr O i) (tp_rb i ho) (upd wk i 0) wn nu (tp_rp i pr) := by
  obtain ⟨b1, b2, b3, b4, b5, b6⟩ := h
  have ob : ∀ b, (tp_clr O i).testBit b = (O.testBit b && decide (b ≠ i)) := fun b => tp_clrB (by have := b1.1; omega) (by omega)
  refine ⟨tp_G_rb b1 hi, fun b hb' => ?_, fun hs0 => ?_, fun t ht => ?_, fun j hj => ?_, fun hst => ?_⟩
  · rw [ob b] at hb'
    exact b2 b (Bool.and_eq_true _ _ ▸ hb').1
  · obtain ⟨c1, c2⟩ := b3 hs0
    refine ⟨?_, fun t ht => ?_⟩
    · rw [c1]
      show nI (tp_cnt O0 i) + 1 = nI (tp_cnt O0 i + (if O0.testBit i = true then 1 else 0))
      rw [← b4 i (Nat.le_refl i), hb, nI_1]; rfl
    · rw [ob t]
      by_cases e : t = i
      · rw [decide_eq_false (fun y => y e), Bool.and_false]
      · rw [c2 t (by omega)]; rfl
  · rw [ob t, b4 t (by omega), decide_eq_true (show t ≠ i by omega), Bool.and_true]
  · rcases tp_rp_v i j pr with e | e
    · rw [e]; exact b5 j hj
    · exact Or.inr e
  · obtain ⟨s4, sne⟩ := hs hst
    obtain ⟨c1, c2, c3⟩ := b6 hst
    refine ⟨?_, fun k hk hh => ?_, fun j hj => ?_⟩
    · rw [ob s, c1, decide_eq_true (Ne.symm sne)]; rfl
    · have e := c2 k hk hh
      rw [tp_rb_ne, e]
      rw [e]; intro z; exact sne ((nI_eq (by omega) (by omega)).mp z).symm
    · rw [tp_rp_off (by omega)]; exact c3 j hj
theorem tp_breakLeader {post : Int32 → St1 → Prop} {O s S3 : Nat} (hG : tp_G O ho wk wn nu) (hst : ¬ st = 0 → s < 4 ∧ sl = nI s ∧ O.testBit s = true) (hz : ¬ st = 0 → lz 3 = nI S3) (hS : S3 ≤ 64)
    (h0 : st = 0 → ∀ ho' wk' pr', tp_G 0 ho' wk' wn nu → (∀ j, j < 12 → pr' j = pr j ∨ pr' j = 0) → post (nI (tp_cnt O 4)) (nI 0, st, vo, he, ns, nm, sl, pa, tr, td, ha, cc, fi, wa, se, lc, im, lz, lk, lt, ly, ln, nu, ho', wk', wn, pr', go, kk, mf, mt, mn))
    (h1 : ¬ st = 0 → ∀ r O' ho' wk' pr', tp_BL s O ho pr O' ho' wk' wn nu pr' → ((∀ i, i < S3 → lk (192 + i) = 5 → ¬ lt (192 + i) = nm) → post r (nI O', 3, 0, 0, ns, nm, sl, pa, tr, td, ha, cc, fi, wa, se, lc, im, lz, lk, lt, ly, ln, nu, ho', wk', wn, pr', go, kk, mf, mt, mn)) ∧ ((∃ i, i < S3 ∧ lk (192 + i) = 5 ∧ lt (192 + i) = nm) → post r (nI O', 2, 0, 0, ns, nm, sl, pa, tr, td, ha, cc, fi, wa, se, lc, im, lz, lk, lt, ly, ln, nu, ho', wk', wn, pr', go, kk, mf, mt, mn))) : wpX_breakLeader post (nI O, st, vo, he, ns, nm, sl, pa, tr, td, ha, cc, fi, wa, se, lc, im, lz, lk, lt, ly, ln, nu, ho, wk, wn, pr, go, kk, mf, mt, mn) := by
  unfold wpX_breakLeader
  dsimp only
  refine pk_loop (σ := Int32 × Nat × (Nat → Int32) × (Nat → Int32) × (Nat → Int32)) (fun n i x => wX_breakLeader_4 post n x.1 (nI i) (nI x.2.1) st vo he ns nm sl pa tr td ha cc fi wa se lc im lz lk lt ly ln nu x.2.2.1 x.2.2.2.1 wn x.2.2.2.2 go kk mf mt mn) (fun i x => tp_BJ i s st O ho pr x.1 x.2.1 x.2.2.1 x.2.2.2.1 wn nu x.2.2.2.2) 4 0 (0, O, ho, wk, pr) (by omega) ?_ ?_ ?_
  · exact ⟨hG, fun _ z => z, fun _ => ⟨rfl, fun t ht => absurd ht (by omega)⟩, fun _ _ => rfl, fun _ _ => Or.inl rfl, fun hs => ⟨(hst hs).2.2, fun _ _ z => z, fun _ _ => rfl⟩⟩
  · rintro n ⟨x1, O', ho', wk', pr'⟩ hI
    dsimp only at hI ⊢
    refine pk_le 4 4 (fun _ => ?_) (fun z => absurd z (by omega))
    obtain ⟨b1, b2, b3, b4, b5, b6⟩ := hI
    refine br_c (fun z => ?_) (fun z => ?_)
    · obtain ⟨c1, c2⟩ := b3 z
      have e0 : O' = 0 := tp_o0 O' b1.1 c2
      subst e0
      rw [c1]
      exact h0 z ho' wk' pr' b1 b5
    · obtain ⟨c1, c2, c3⟩ := b6 z
      have H := h1 z x1 O' ho' wk' pr' ⟨b1, b2, c1, c2, b5, c3⟩
      exact tp_isLogged (m := 3) (S := S3) (by omega) (hz z) hS 5 nm (fun q => br_t rfl (H.1 q)) (fun q => br_f (by decide) (H.2 q))
  · rintro n i ⟨x1, O', ho', wk', pr'⟩ hi hI hw
    dsimp only at hI ⊢
    have G' := hI.1
    refine pk_le 4 i (fun z => absurd z (by omega)) (fun _ => ?_)
    refine tp_isOpen G'.1 (nI i) (fun hc => br_t rfl (nm_r (nI_1 i) (hw (x1, O', ho', wk', pr') (tp_BJ_skip hI (fun _ => hc i hi rfl))))) (fun t ht et hb => br_f (by decide) ?_)
    have e : i = t := (nI_eq (by omega) (by omega)).mp et
    subst e
    obtain ⟨W, w1, w2, w3⟩ := G'.2.2.1 i hi
    have roll : (¬ st = 0 → s < 4 ∧ ¬ i = s) → wX_breakLeader_32 post (wX_breakLeader_4 post n) x1 (nI i) (nI O') st vo he ns nm sl pa tr td ha cc fi wa se lc im lz lk lt ly ln nu ho' wk' wn pr' go kk mf mt mn := by
      intro hs
      unfold wX_breakLeader_32
      exact tp_rollBack (tp_G_H4 G') hi w2 w1 (nm_e (nm_r (nI_1 i) (hw (x1 + 1, tp_clr O' i, tp_rb i ho', upd wk' i 0, tp_rp i pr') (tp_BJ_roll hI hi hs hb))))
    refine br_c (fun z0 => roll (fun z => absurd z0 z)) (fun z0 => ?_)
    obtain ⟨s1, s2, s3⟩ := hst z0
    subst s2
    refine pk_eq i s (fun e => nm_r (nI_1 i) (hw (x1, O', ho', wk', pr') (tp_BJ_skip hI (fun z => absurd z z0)))) (fun e => roll (fun _ => ⟨s1, e⟩))
theorem tp_G_open {O t : Nat} (hG : tp_G O ho wk wn nu) (ht : t < 4) (hb : O.testBit t = false) : tp_G (O ||| 2 ^ t) ho (upd wk t 0) wn nu := by
  obtain ⟨g1, g2, g3, g4, g5⟩ := hG
  refine ⟨tp_ob O g1 t ht, fun k hk => ?_, fun s hs => ?_, g4, g5⟩
  · rcases g2 k hk with e | ⟨s, s1, s2, s3⟩
    · exact Or.inl e
    · refine Or.inr ⟨s, s1, s2, ?_⟩
      rw [Nat.testBit_or, s3]; rfl
  · by_cases e : s = t
    · subst e
      exact ⟨0, by decide, by rw [pk_us]; rfl, fun k _ hb' => absurd hb' (by rw [Nat.zero_testBit]; decide)⟩
    · rw [pk_un e]; exact g3 s hs
theorem tp_begin {post : Int32 → St1 → Prop} {O : Nat} (hO : O < 16) (h15 : O = 15 → ∀ r, post r (nI O, st, vo, he, ns, nm, sl, pa, tr, td, ha, cc, fi, wa, se, lc, im, lz, lk, lt, ly, ln, nu, ho, wk, wn, pr, go, kk, mf, mt, mn))
    (h : ∀ r t pr' go', t < 4 → O.testBit t = false → (∀ i, i < t → O.testBit i = true) → (∀ j, j < 12 → pr' j = pr j ∨ pr' j = 0) → (∀ j, go' j = if t * 3 ≤ j ∧ j < t * 3 + 3 then 0 else go j) → post r (nI (O ||| 2 ^ t), st, vo, he, ns, nm, sl, pa, tr, td, ha, cc, fi, wa, se, lc, im, lz, lk, lt, ly, ln, nu, ho, upd wk t 0, wn, pr', go', kk, mf, mt, mn)) : wpX_begin post (nI O, st, vo, he, ns, nm, sl, pa, tr, td, ha, cc, fi, wa, se, lc, im, lz, lk, lt, ly, ln, nu, ho, wk, wn, pr, go, kk, mf, mt, mn) := by
  unfold wpX_begin
  dsimp only
  have key : ∀ t, t < 4 → O.testBit t = false → (∀ i, i < t → O.testBit i = true) → ∃ n, wX_begin_36 post (nI t) (nI (O ||| 2 ^ t)) st vo he ns nm sl pa tr td ha cc fi wa se lc n 0 im lz lk lt ly ln nu ho (upd wk t 0) wn pr go kk mf mt mn := by
    intro t ht hb hl
    refine pk_loop (σ := (Nat → Int32) × (Nat → Int32)) (fun n i x => wX_begin_36 post (nI t) (nI (O ||| 2 ^ t)) st vo he ns nm sl pa tr td ha cc fi wa se lc n (nI i) im lz lk lt ly ln nu ho (upd wk t 0) wn x.1 x.2 kk mf mt mn) (fun i x => (∀ j, j < 12 → x.1 j = pr j ∨ x.1 j = 0) ∧ (∀ j, x.2 j = if t * 3 ≤ j ∧ j < t * 3 + i then 0 else go j)) 3 0 (pr, go) (by omega) ⟨fun _ _ => Or.inl rfl, fun j => ?_⟩ ?_ ?_
    · rw [if_neg (by omega)]
    · intro n x hI
      exact pk_le 3 3 (fun _ => h _ t x.1 x.2 ht hb hl hI.1 hI.2) (fun z => absurd z (by omega))
    · intro n i x hi hI hw
      have ec : (nI t * 3 + nI i).toNatClampNeg = t * 3 + i := by rw [tp_t3m, nI_clamp (by omega)]
      refine pk_le 3 i (fun z => absurd z (by omega)) (fun _ => ⟨pk_in (t * 3 + i) 12 (by omega) (tp_t3m t i), nm_e ⟨pk_in (t * 3 + i) 12 (by omega) (tp_t3m t i), nm_e (nm_r (nI_1 i) ?_)⟩⟩)
      rw [ec]
      refine hw (upd x.1 (t * 3 + i) 0, upd x.2 (t * 3 + i) 0) ⟨fun j hj => ?_, fun j => ?_⟩
      · show upd x.1 (t * 3 + i) 0 j = _ ∨ upd x.1 (t * 3 + i) 0 j = _
        rcases tp_up_v x.1 (t * 3 + i) j with e | e
        · rw [e]; exact hI.1 j hj
        · exact Or.inr e
      · show upd x.2 (t * 3 + i) 0 j = _
        by_cases e : j = t * 3 + i
        · rw [e, pk_us, if_pos ⟨by omega, by omega⟩]
        · rw [pk_un e, hI.2 j]
          by_cases e' : t * 3 ≤ j ∧ j < t * 3 + i
          · rw [if_pos e', if_pos ⟨by omega, by omega⟩]
          · rw [if_neg e', if_neg (by omega)]
  obtain ⟨d, d1, d2, d3⟩ : ∃ d, d ≤ 4 ∧ (∀ i, i < d → O.testBit i = true) ∧ (d < 4 → O.testBit d = false) := by
    cases b0 : O.testBit 0
    · exact ⟨0, by omega, fun i hi => absurd hi (by omega), fun _ => b0⟩
    cases b1 : O.testBit 1
    · exact ⟨1, by omega, lt_s lt_0 b0, fun _ => b1⟩
    cases b2 : O.testBit 2
    · exact ⟨2, by omega, lt_s (lt_s lt_0 b0) b1, fun _ => b2⟩
    cases b3 : O.testBit 3
    · exact ⟨3, by omega, lt_s (lt_s (lt_s lt_0 b0) b1) b2, fun _ => b3⟩
    exact ⟨4, by omega, lt_s (lt_s (lt_s (lt_s lt_0 b0) b1) b2) b3, fun z => absurd z (by omega)⟩
  refine pk_loop (σ := Unit) (fun n i _ => wX_begin_2 post (nI O) st vo he ns nm sl pa tr td ha cc fi wa se lc im lz lk lt ly ln nu ho wk wn pr go kk mf mt mn n (nI i)) (fun _ _ => True) d 0 () (by omega) trivial ?_ ?_
  · intro n _ _
    refine pk_le 4 d (fun z => ?_) (fun z => ?_)
    · exact h15 (tp_o15 O hO (fun t ht => d2 t (by omega))) _
    · refine tp_isOpen hO (nI d) (fun _ => br_t rfl (nm_r (e' := nI (O ||| 2 ^ d)) (by rw [tp_one d (by omega), tp_nor]) ⟨pk_in d 4 z, nm_r (e' := upd wk d 0) (by rw [nI_clamp (by omega)]) (key d z (d3 z) d2)⟩)) (fun t ht et hb => ?_)
      have e : d = t := (nI_eq (by omega) (by omega)).mp et
      subst e
      rw [d3 z] at hb
      exact absurd hb (by decide)
  · intro n i _ hi _ hw
    refine pk_le 4 i (fun z => absurd z (by omega)) (fun _ => ?_)
    refine tp_isOpen hO (nI i) (fun hc => ?_) (fun t ht et hb => br_f (by decide) (nm_r (nI_1 i) (hw () trivial)))
    have := hc i (by omega) rfl
    rw [d2 i hi] at this
    exact absurd this (by decide)
theorem tp_abort {post : Int32 → St1 → Prop} {O : Nat} (hG : tp_G O ho wk wn nu) (p0 : Int32) (h0 : ∀ r, post r (nI O, st, vo, he, ns, nm, sl, pa, tr, td, ha, cc, fi, wa, se, lc, im, lz, lk, lt, ly, ln, nu, ho, wk, wn, pr, go, kk, mf, mt, mn)) (h : ∀ r t, t < 4 → O.testBit t = true → post r (nI (tp_clr O t), st, vo, he, ns, nm, sl, pa, tr, td, ha, cc, fi, wa, se, lc, im, lz, lk, lt, ly, ln, nu, tp_rb t ho, upd wk t 0, wn, tp_rp t pr, go, kk, mf, mt, mn)) : wpX_abort post (nI O, st, vo, he, ns, nm, sl, pa, tr, td, ha, cc, fi, wa, se, lc, im, lz, lk, lt, ly, ln, nu, ho, wk, wn, pr, go, kk, mf, mt, mn) p0 := by
  unfold wpX_abort
  dsimp only
  refine tp_isOpen hG.1 p0 (fun _ => br_t rfl (h0 _)) (fun t ht et hb => br_f (by decide) ?_)
  subst et
  obtain ⟨W, w1, w2, w3⟩ := hG.2.2.1 t ht
  refine pk_loop (σ := Int32) (fun n i x => wX_abort_15 post (nI t) (nI O) st vo he ns nm sl pa tr td ha cc fi wa se lc im lz lk lt ly ln nu ho wk wn pr go kk mf mt mn n x (nI i)) (fun _ _ => True) 12 0 0 (by omega) trivial ?_ ?_
  · intro n x _
    exact pk_le 12 12 (fun _ => tp_rollBack (tp_G_H4 hG) ht w2 w1 (h x t ht hb)) (fun z => absurd z (by omega))
  · intro n i x hi _ hw
    exact pk_le 12 i (fun z => absurd z (by omega)) (fun _ => ⟨pk_in i 12 hi, br_c (fun _ => nm_e (nm_r (nI_1 i) (hw _ trivial))) (fun _ => nm_e (nm_r (nI_1 i) (hw _ trivial)))⟩)
end
end
section
/-! 09: looking: keys, written, holder, sums, view; the law's checks on one state -/
def tp_ky (ho : Nat → Int32) (t : Nat) : Nat → Nat
  | 0 => 0
  | n + 1 => if ho n = nI t then tp_ky ho t n ||| 2 ^ n else tp_ky ho t n
theorem tp_kyB (ho : Nat → Int32) (t n i : Nat) : (tp_ky ho t n).testBit i = decide (i < n ∧ ho i = nI t) := by
  induction n with
  | zero => show Nat.testBit 0 i = _; rw [Nat.zero_testBit, decide_eq_false (fun z => absurd z.1 (by omega))]
  | succ n ih =>
    rw [tp_ky]
    split
    · rename_i h
      rw [Nat.testBit_or, ih, Nat.testBit_two_pow]
      by_cases e : n = i
      · subst e; rw [decide_eq_true (rfl : n = n), decide_eq_true (show n < n + 1 ∧ ho n = nI t from ⟨by omega, h⟩), Bool.or_true]
      · rw [decide_eq_false e, Bool.or_false]
        congr 1
        apply propext
        constructor
        · intro z; exact ⟨by omega, z.2⟩
        · intro z; exact ⟨by omega, z.2⟩
    · rename_i h
      rw [ih]
      congr 1
      apply propext
      constructor
      · intro z; exact ⟨by omega, z.2⟩
      · intro z
        refine ⟨?_, z.2⟩
        rcases Nat.lt_or_ge i n with y | y
        · exact y
        · have e : i = n := by omega
          subst e; exact absurd z.2 h
theorem tp_kyL (ho : Nat → Int32) (t : Nat) : tp_ky ho t 12 < 4096 := by
  apply tp_lt12
  intro i hi
  rw [tp_kyB, decide_eq_false (fun z => absurd z.1 (by omega))]
def tp_hd (ho : Nat → Int32) : Nat → Nat
  | 0 => 0
  | t + 1 => tp_hd ho t ||| tp_ky ho t 12
theorem tp_hdB (ho : Nat → Int32) (n i : Nat) : (tp_hd ho n).testBit i = true ↔ i < 12 ∧ ∃ t, t < n ∧ ho i = nI t := by
  induction n with
  | zero =>
    show Nat.testBit 0 i = true ↔ _
    rw [Nat.zero_testBit]
    constructor
    · intro z; exact absurd z (by decide)
    · rintro ⟨_, t, ht, _⟩; omega
  | succ n ih =>
    rw [tp_hd, Nat.testBit_or, Bool.or_eq_true, ih, tp_kyB, decide_eq_true_iff]
    constructor
    · rintro (⟨h1, t, t1, t2⟩ | ⟨h1, h2⟩)
      · exact ⟨h1, t, by omega, t2⟩
      · exact ⟨h1, n, by omega, h2⟩
    · rintro ⟨h1, t, t1, t2⟩
      by_cases e : t = n
      · subst e; exact Or.inr ⟨h1, t2⟩
      · exact Or.inl ⟨h1, t, by omega, t2⟩
theorem tp_hdL (ho : Nat → Int32) (n : Nat) : tp_hd ho n < 4096 := by
  apply tp_lt12
  intro i hi
  cases e : (tp_hd ho n).testBit i
  · rfl
  · have := ((tp_hdB ho n i).mp e).1; omega
theorem tp_subset {W K : Nat} (hW : W < 4096) (h : ∀ i, W.testBit i = true → K.testBit i = true) : nI W &&& (nI K ^^^ (-1)) = 0 := by
  rw [show (-1 : Int32) = nI 4294967295 from by decide, tp_nxor, tp_nand]
  have e : W &&& (K ^^^ 4294967295) = 0 := by
    apply Nat.eq_of_testBit_eq
    intro i
    rw [Nat.testBit_and, Nat.testBit_xor, tp_m32, Nat.zero_testBit]
    cases b : W.testBit i
    · rfl
    · have : i < 12 := tp_tbl (k := 12) hW b
      rw [h i b, decide_eq_true (by omega)]; rfl
  rw [e]; rfl
section
variable {os st vo he ns nm sl pa tr td ha cc fi wa se lc : Int32} {im lz lk lt ly ln nu ho wk wn pr go kk mf mt mn : Nat → Int32}
theorem tp_keys {post : Int32 → Prop} {O : Nat} (hO : O < 16) (p0 : Int32) (h0 : (∀ t, t < 4 → p0 = nI t → O.testBit t = false) → post 0) (h1 : ∀ t, t < 4 → p0 = nI t → O.testBit t = true → post (nI (tp_ky ho t 12))) : wpX_keys post (nI O, st, vo, he, ns, nm, sl, pa, tr, td, ha, cc, fi, wa, se, lc, im, lz, lk, lt, ly, ln, nu, ho, wk, wn, pr, go, kk, mf, mt, mn) p0 := by
  unfold wpX_keys
  dsimp only
  refine tp_isOpen hO p0 (fun hc => br_t rfl (h0 hc)) (fun t ht et hb => br_f (by decide) ?_)
  have P := h1 t ht et hb
  subst et
  refine pk_loop (σ := Unit) (fun n i _ => wX_keys_14 post (nI t) (nI O) st vo he ns nm sl pa tr td ha cc fi wa se lc im lz lk lt ly ln nu ho wk wn pr go kk mf mt mn n (nI (tp_ky ho t i)) (nI i)) (fun _ _ => True) 12 0 () (by omega) trivial ?_ ?_
  · intro n _ _
    exact pk_le 12 12 (fun _ => P) (fun z => absurd z (by omega))
  · intro n i _ hi _ hw
    have hw' : wX_keys_14 post (nI t) (nI O) st vo he ns nm sl pa tr td ha cc fi wa se lc im lz lk lt ly ln nu ho wk wn pr go kk mf mt mn n (nI (if ho i = nI t then tp_ky ho t i ||| 2 ^ i else tp_ky ho t i)) (nI (i + 1)) := hw () trivial
    refine pk_le 12 i (fun z => absurd z (by omega)) (fun _ => ⟨pk_in i 12 hi, ?_⟩)
    rw [nI_clamp (show i < 2 ^ 31 by omega)]
    by_cases e : ho i = nI t
    · rw [if_pos e] at hw'
      exact br_t e (nm_r (by rw [tp_one i (by omega), tp_nor]) (nm_r (nI_1 i) hw'))
    · rw [if_neg e] at hw'
      exact br_f e (nm_r (by have q := tp_nor (tp_ky ho t i) 0; rw [Nat.or_zero] at q; exact q) (nm_r (nI_1 i) hw'))
theorem tp_keysG {post : Int32 → Prop} {O t : Nat} (hG : tp_G O ho wk wn nu) (ht : t < 4) (h : post (nI (tp_ky ho t 12))) : wpX_keys post (nI O, st, vo, he, ns, nm, sl, pa, tr, td, ha, cc, fi, wa, se, lc, im, lz, lk, lt, ly, ln, nu, ho, wk, wn, pr, go, kk, mf, mt, mn) (nI t) := by
  refine tp_keys hG.1 (nI t) (fun hc => ?_) (fun s hs es _ => ?_)
  · have e : tp_ky ho t 12 = 0 := by
      apply Nat.eq_of_testBit_eq
      intro i
      rw [Nat.zero_testBit, tp_kyB, decide_eq_false]
      rintro ⟨i1, i2⟩
      rcases hG.2.1 i i1 with y | ⟨q, q1, q2, q3⟩
      · rw [y] at i2; exact tp_m1n t (by omega) i2.symm
      · rw [hc q q1 (i2.symm.trans q2)] at q3
        exact absurd q3 (by decide)
    rw [e] at h
    exact h
  · rw [← (nI_eq (by omega) (by omega)).mp es]; exact h
theorem tp_writtenG {post : Int32 → Prop} {O t : Nat} (hG : tp_G O ho wk wn nu) (ht : t < 4) (h : ∀ W, W < 4096 → (∀ i, W.testBit i = true → (tp_ky ho t 12).testBit i = true) → post (nI W)) : wpX_written post (nI O, st, vo, he, ns, nm, sl, pa, tr, td, ha, cc, fi, wa, se, lc, im, lz, lk, lt, ly, ln, nu, ho, wk, wn, pr, go, kk, mf, mt, mn) (nI t) := by
  unfold wpX_written
  dsimp only
  refine tp_isOpen hG.1 (nI t) (fun hc => br_t rfl ?_) (fun s hs es _ => br_f (by decide) ⟨pk_in t 4 ht, ?_⟩)
  · exact h 0 (by decide) (fun i hi => absurd hi (by rw [Nat.zero_testBit]; decide))
  · rw [nI_clamp (show t < 2 ^ 31 by omega)]
    obtain ⟨W, w1, w2, w3⟩ := hG.2.2.1 t ht
    rw [w2]
    refine h W w1 (fun i hi => ?_)
    have i12 : i < 12 := tp_tbl (k := 12) w1 hi
    rw [tp_kyB, decide_eq_true ⟨i12, w3 i i12 hi⟩]
theorem tp_writtenN {post : Int32 → Prop} {O : Nat} (hO : O < 16) (p0 : Int32) (hp : ∀ t, t < 4 → ¬ p0 = nI t) (h : post 0) : wpX_written post (nI O, st, vo, he, ns, nm, sl, pa, tr, td, ha, cc, fi, wa, se, lc, im, lz, lk, lt, ly, ln, nu, ho, wk, wn, pr, go, kk, mf, mt, mn) p0 := by
  unfold wpX_written
  dsimp only
  exact tp_isOpen hO p0 (fun _ => br_t rfl h) (fun t ht et _ => absurd et (hp t ht))
theorem tp_holder {post : Int32 → Prop} {k : Nat} (hk : k < 12) (h0 : ho k = -1 → post (-200000)) (h1 : ¬ ho k = -1 → post (ho k)) : wpX_holder post (os, st, vo, he, ns, nm, sl, pa, tr, td, ha, cc, fi, wa, se, lc, im, lz, lk, lt, ly, ln, nu, ho, wk, wn, pr, go, kk, mf, mt, mn) (nI k) := by
  unfold wpX_holder
  dsimp only
  refine tp_isKeyT hk (br_f (by decide) ⟨pk_in k 12 hk, ?_⟩)
  rw [nI_clamp (show k < 2 ^ 31 by omega)]
  exact br_c (fun z => h0 z) (fun z => ⟨pk_in k 12 hk, h1 z⟩)
theorem tp_peek {post : Int32 → Prop} {k : Nat} (hk : k < 12) (h : post (nu k)) : wpX_peek post (os, st, vo, he, ns, nm, sl, pa, tr, td, ha, cc, fi, wa, se, lc, im, lz, lk, lt, ly, ln, nu, ho, wk, wn, pr, go, kk, mf, mt, mn) (nI k) := by
  unfold wpX_peek
  dsimp only
  refine tp_isKeyT hk (br_f (by decide) ⟨pk_in k 12 hk, ?_⟩)
  rw [nI_clamp (show k < 2 ^ 31 by omega)]
  exact h
/-- one turn of the law's first loop over t -/
theorem tp_h44 {post : Int32 → Prop} {J : Int32 → Int32 → Prop} {x1 x3 z0 : Int32} {H K : Nat} (hH : H < 4096) (hK : K < 4096) (hd : H &&& K = 0) (hz : z0 = 0 → K = 0)
    (hwr : ∀ Q : Int32 → Prop, (∀ W, W < 4096 → (∀ i, W.testBit i = true → K.testBit i = true) → Q (nI W)) → wpX_written Q (os, st, vo, he, ns, nm, sl, pa, tr, td, ha, cc, fi, wa, se, lc, im, lz, lk, lt, ly, ln, nu, ho, wk, wn, pr, go, kk, mf, mt, mn) x3)
    (h : J (nI (H ||| K)) (x3 + 1)) : wL_holders_44 post J x1 (nI H) x3 (nI K) z0 os st vo he ns nm sl pa tr td ha cc fi wa se lc im lz lk lt ly ln nu ho wk wn pr go kk mf mt mn := by
  unfold wL_holders_44
  have e : nI K &&& nI H = 0 := by rw [tp_nand, Nat.and_comm, hd]; rfl
  have l : wL_holders_76 post J x1 (nI H) x3 (nI K) os st vo he ns nm sl pa tr td ha cc fi wa se lc im lz lk lt ly ln nu ho wk wn pr go kk mf mt mn := by
    unfold wL_holders_76
    exact br_t (nI_le (b := 4095) (by omega) (by decide)) (nm_r (tp_nor H K) (nm_e h))
  refine br_t e (hwr _ (fun W w1 w2 => br_t (tp_subset w1 w2) (br_c (fun z => br_t (by rw [hz z]; rfl) l) (fun _ => l))))
theorem tp_bit2 {n k : Nat} (hn : n < 2 ^ 31) (hk : k < 31) (h : n.testBit k = true) : (nI n >>> (nI k &&& 31)) &&& 1 = 1 := by
  rw [tp_bitv hn hk]
  rw [Nat.testBit_eq_decide_div_mod_eq] at h
  rw [of_decide_eq_true h]; rfl
theorem tp_Lholders {post : Int32 → Prop} {O : Nat} (hG : tp_G O ho wk wn nu) (h : post 1) : wpL_holders post (nI O, st, vo, he, ns, nm, sl, pa, tr, td, ha, cc, fi, wa, se, lc, im, lz, lk, lt, ly, ln, nu, ho, wk, wn, pr, go, kk, mf, mt, mn) := by
  unfold wpL_holders
  dsimp only
  unfold wpX_open
  dsimp only
  have L2 : ∃ n, wL_holders_99 post (nI O) (nI (tp_hd ho 4)) (nI O) st vo he ns nm sl pa tr td ha cc fi wa se lc im lz lk lt ly ln nu ho wk wn pr go kk mf mt mn n 0 := by
    refine pk_loop (σ := Unit) (fun n i _ => wL_holders_99 post (nI O) (nI (tp_hd ho 4)) (nI O) st vo he ns nm sl pa tr td ha cc fi wa se lc im lz lk lt ly ln nu ho wk wn pr go kk mf mt mn n (nI i)) (fun _ _ => True) 12 0 () (by omega) trivial ?_ ?_
    · intro n _ _
      have := hG.1
      exact pk_le 12 12 (fun _ => br_f (nI_pos (by omega)) (br_f (nI_ge (b := 16) hG.1 (by decide)) h)) (fun z => absurd z (by omega))
    · intro n k _ hk _ hw
      have nx := hw () trivial
      have hl := tp_hdL ho 4
      refine pk_le 12 k (fun z => absurd z (by omega)) (fun _ => ?_)
      rcases tp_G_H4 hG k hk with e | ⟨t, t1, t2⟩
      · refine tp_holder hk (fun _ => ?_) (fun z => absurd e z)
        have hb : (tp_hd ho 4).testBit k = false := by
          cases q : (tp_hd ho 4).testBit k
          · rfl
          · obtain ⟨_, t, t1, t2⟩ := (tp_hdB ho 4 k).mp q
            rw [e] at t2; exact absurd t2.symm (tp_m1n t (by omega))
        refine br_t ((tp_bit (by omega) (by omega)).mpr hb) ?_
        unfold wL_holders_125
        exact br_f (by decide) (br_t rfl (nm_r (nI_1 k) nx))
      · refine tp_holder hk (fun z => ?_) (fun _ => ?_)
        · rw [t2] at z; exact absurd z (tp_m1n t (by omega))
        rw [t2]
        have hb : (tp_hd ho 4).testBit k = true := (tp_hdB ho 4 k).mpr ⟨hk, t, t1, t2⟩
        refine br_f ((tp_bit1 (by omega) (by omega)).mpr hb) ?_
        unfold wL_holders_125
        refine br_t rfl (br_f (nI_pos (by omega)) (br_f (nI_nlt (a := t) (b := 3) |> fun _ => ?_) (tp_keysG hG t1 ?_)))
        · intro z
          have := (nI_ltI (a := 3) (b := t) (by decide) (by omega)).mp z
          omega
        · have kl := tp_kyL ho t
          refine br_f ((tp_bit1 (by omega) (by omega)).mpr ?_) (nm_r (nI_1 k) nx)
          rw [tp_kyB, decide_eq_true ⟨hk, t2⟩]
  have L1 : ∃ n, wL_holders_9 post (nI O) (nI O) st vo he ns nm sl pa tr td ha cc fi wa se lc im lz lk lt ly ln nu ho wk wn pr go kk mf mt mn n (nI (tp_hd ho (min 0 4))) (nI 0) := by
    refine pk_loop (σ := Unit) (fun n i _ => wL_holders_9 post (nI O) (nI O) st vo he ns nm sl pa tr td ha cc fi wa se lc im lz lk lt ly ln nu ho wk wn pr go kk mf mt mn n (nI (tp_hd ho (min i 4))) (nI i)) (fun _ _ => True) 5 0 () (by omega) trivial ?_ ?_
    · intro n _ _
      exact pk_le 5 5 (fun _ => L2) (fun z => absurd z (by omega))
    · intro n t _ ht _ hw
      have nx := hw () trivial
      refine pk_le 5 t (fun z => absurd z (by omega)) (fun _ => ?_)
      by_cases e4 : t = 4
      · subst e4
        have no : ∀ s, s < 4 → ¬ nI 4 = nI s := by
          intro s hs z
          have := (nI_eq (by decide) (by omega)).mp z
          omega
        refine tp_keys hG.1 (nI 4) (fun _ => ?_) (fun s hs es _ => absurd es (no s hs))
        refine br_f (nI_pos (by decide)) (br_t (nI_le (by decide) (by decide)) ?_)
        unfold wL_holders_43
        refine tp_h44 (H := tp_hd ho 4) (K := 0) (tp_hdL ho 4) (by decide) (Nat.and_zero _) (fun _ => rfl) (fun Q hQ => tp_writtenN hG.1 (nI 4) no (hQ 0 (by decide) (fun i hi => hi))) ?_
        rw [Nat.or_zero]
        exact nx
      · have t4 : t < 4 := by omega
        have m1 : min t 4 = t := by omega
        have m2 : min (t + 1) 4 = t + 1 := by omega
        rw [m2] at nx
        rw [m1]
        refine tp_keysG hG t4 ?_
        refine br_f (nI_pos (by omega)) (br_f (nI_ge (b := 4) t4 (by decide)) ?_)
        have hO := hG.1
        have fin : ∀ z0 : Int32, (z0 = 0 → tp_ky ho t 12 = 0) → wL_holders_44 post (wL_holders_9 post (nI O) (nI O) st vo he ns nm sl pa tr td ha cc fi wa se lc im lz lk lt ly ln nu ho wk wn pr go kk mf mt mn n) (nI O) (nI (tp_hd ho t)) (nI t) (nI (tp_ky ho t 12)) z0 (nI O) st vo he ns nm sl pa tr td ha cc fi wa se lc im lz lk lt ly ln nu ho wk wn pr go kk mf mt mn := by
          intro z0 hz
          refine tp_h44 (tp_hdL ho t) (tp_kyL ho t) ?_ hz (fun Q hQ => tp_writtenG hG t4 hQ) ?_
          · apply Nat.eq_of_testBit_eq
            intro i
            rw [Nat.testBit_and, Nat.zero_testBit]
            cases q : (tp_hd ho t).testBit i
            · rfl
            · obtain ⟨_, s, s1, s2⟩ := (tp_hdB ho t i).mp q
              rw [tp_kyB, decide_eq_false]
              · rfl
              · rintro ⟨_, y⟩
                have := (nI_eq (by omega) (by omega)).mp (s2.symm.trans y)
                omega
          · rw [nI_1]; exact nx
        cases hb : O.testBit t
        · refine br_f (fun z => ?_) ?_
          · rw [(tp_bit (by omega) (by omega)).mpr hb] at z
            exact absurd z (by decide)
          · unfold wL_holders_43
            refine fin 0 (fun _ => ?_)
            apply Nat.eq_of_testBit_eq
            intro i
            rw [Nat.zero_testBit, tp_kyB, decide_eq_false]
            rintro ⟨i1, i2⟩
            rcases hG.2.1 i i1 with y | ⟨q, q1, q2, q3⟩
            · rw [y] at i2; exact tp_m1n t (by omega) i2.symm
            · rw [← (nI_eq (by omega) (by omega)).mp (i2.symm.trans q2), hb] at q3
              exact absurd q3 (by decide)
        · exact br_t (tp_bit2 (by omega) (by omega) hb) (fin 1 (fun z => absurd z (by decide)))
  obtain ⟨n, hn⟩ := L1
  refine ⟨n + 1, br_f (by decide) ?_⟩
  have no : ∀ s, s < 4 → ¬ (-1 : Int32) = nI s := fun s hs z => tp_m1n s (by omega) z.symm
  refine tp_keys hG.1 (-1) (fun _ => br_t (by decide) ?_) (fun s hs es _ => absurd es (no s hs))
  unfold wL_holders_43
  exact tp_h44 (H := 0) (K := 0) (by decide) (by decide) rfl (fun _ => rfl) (fun Q hQ => tp_writtenN hG.1 (-1) no (hQ 0 (by decide) (fun i hi => hi))) hn
def tp_sm (nu : Nat → Int32) (m : Nat) : Nat → Int32
  | 0 => 0
  | i + 1 => tp_sm nu m i + nu (m + 3 * i)
def tp_tt (nu : Nat → Int32) : Nat → Int32
  | 0 => 0
  | i + 1 => tp_tt nu i + nu i
def tp_vw (nu : Nat → Int32) : Nat → Int64
  | 0 => 0
  | i + 1 => tp_vw nu i * 31 + (nu i).toInt64
theorem tp_sum {post : Int32 → Prop} {m : Nat} (hm : m < 3) (h : post (tp_sm nu m 4)) : wpX_sum post (os, st, vo, he, ns, nm, sl, pa, tr, td, ha, cc, fi, wa, se, lc, im, lz, lk, lt, ly, ln, nu, ho, wk, wn, pr, go, kk, mf, mt, mn) (nI m) := by
  unfold wpX_sum
  dsimp only
  refine br_f (nI_pos (by omega)) (br_t (nI_lt (b := 3) hm (by decide)) ?_)
  refine pk_loop (σ := Unit) (fun n i _ => wX_sum_16 post os st vo he ns nm sl pa tr td ha cc fi wa se lc im lz lk lt ly ln nu ho wk wn pr go kk mf mt mn n (tp_sm nu m i) (nI (m + 3 * i))) (fun _ _ => True) 4 0 () (by omega) trivial ?_ ?_
  · intro n _ _
    exact pk_le 12 (m + 3 * 4) (fun _ => h) (fun z => absurd z (by omega))
  · intro n i _ hi _ hw
    exact pk_le 12 (m + 3 * i) (fun z => absurd z (by omega)) (fun _ => ⟨pk_in _ 12 (by omega), nm_r (e' := tp_sm nu m (i + 1)) (by rw [nI_clamp (by omega)]; rfl) (nm_r (e' := nI (m + 3 * (i + 1))) (nI_add _ 3) (hw () trivial))⟩)
theorem tp_total {post : Int32 → Prop} (h : post (tp_tt nu 12)) : wpX_total post (os, st, vo, he, ns, nm, sl, pa, tr, td, ha, cc, fi, wa, se, lc, im, lz, lk, lt, ly, ln, nu, ho, wk, wn, pr, go, kk, mf, mt, mn) := by
  unfold wpX_total
  dsimp only
  refine pk_loop (σ := Unit) (fun n i _ => wX_total_4 post os st vo he ns nm sl pa tr td ha cc fi wa se lc im lz lk lt ly ln nu ho wk wn pr go kk mf mt mn n (tp_tt nu i) (nI i)) (fun _ _ => True) 12 0 () (by omega) trivial ?_ ?_
  · intro n _ _
    exact pk_le 12 12 (fun _ => h) (fun z => absurd z (by omega))
  · intro n i _ hi _ hw
    exact pk_le 12 i (fun z => absurd z (by omega)) (fun _ => ⟨pk_in i 12 hi, nm_r (e' := tp_tt nu (i + 1)) (by rw [nI_clamp (by omega)]; rfl) (nm_r (nI_1 i) (hw () trivial))⟩)
theorem tp_view {post : Int64 → Prop} (h : post (tp_vw nu 12)) : wpL_view post (os, st, vo, he, ns, nm, sl, pa, tr, td, ha, cc, fi, wa, se, lc, im, lz, lk, lt, ly, ln, nu, ho, wk, wn, pr, go, kk, mf, mt, mn) := by
  unfold wpL_view
  dsimp only
  refine pk_loop (σ := Unit) (fun n i _ => wL_view_4 post os st vo he ns nm sl pa tr td ha cc fi wa se lc im lz lk lt ly ln nu ho wk wn pr go kk mf mt mn n (tp_vw nu i) (nI i)) (fun _ _ => True) 12 0 () (by omega) trivial ?_ ?_
  · intro n _ _
    exact pk_le 12 12 (fun _ => h) (fun z => absurd z (by omega))
  · intro n i _ hi _ hw
    exact pk_le 12 i (fun z => absurd z (by omega)) (fun _ => tp_peek hi (nm_r (e' := tp_vw nu (i + 1)) rfl (nm_r (nI_1 i) (hw () trivial))))
def tp_ss (nu : Nat → Int32) : Nat → Int32
  | 0 => 0
  | m + 1 => tp_ss nu m + tp_sm nu m 4
theorem tp_ssT (nu : Nat → Int32) : tp_tt nu 12 = tp_ss nu 3 := by
  simp only [tp_tt, tp_ss, tp_sm]
  grind
theorem tp_Lsums {post : Int32 → Prop} (hr : ∀ k, k < 12 → tp_inr (nu k)) (h : post 1) : wpL_sums post (os, st, vo, he, ns, nm, sl, pa, tr, td, ha, cc, fi, wa, se, lc, im, lz, lk, lt, ly, ln, nu, ho, wk, wn, pr, go, kk, mf, mt, mn) := by
  unfold wpL_sums
  dsimp only
  refine pk_loop (σ := Unit) (fun n i _ => wL_sums_4 post os st vo he ns nm sl pa tr td ha cc fi wa se lc im lz lk lt ly ln nu ho wk wn pr go kk mf mt mn n (tp_ss nu i) (nI i)) (fun _ _ => True) 3 0 () (by omega) trivial ?_ ?_
  · intro n _ _
    exact pk_le 3 3 (fun _ => tp_total (br_t (tp_ssT nu) h)) (fun z => absurd z (by omega))
  · intro n m _ hm _ hw
    refine pk_le 3 m (fun z => absurd z (by omega)) (fun _ => ?_)
    have ⟨q, hq⟩ := pk_loop (σ := Unit) (fun n' i _ => wL_sums_14 post (wL_sums_4 post os st vo he ns nm sl pa tr td ha cc fi wa se lc im lz lk lt ly ln nu ho wk wn pr go kk mf mt mn n) (tp_ss nu m) (nI m) os st vo he ns nm sl pa tr td ha cc fi wa se lc im lz lk lt ly ln nu ho wk wn pr go kk mf mt mn n' (tp_sm nu m i) (nI (m + 3 * i))) (fun _ _ => True) 4 0 () (by omega) trivial
      (fun n' _ _ => pk_le 12 (m + 3 * 4) (fun _ => nm_e (tp_sum hm (br_t rfl (nm_r (nI_1 m) (hw () trivial))))) (fun z => absurd z (by omega)))
      (fun n' i _ hi _ hw' => pk_le 12 (m + 3 * i) (fun z => absurd z (by omega)) (fun _ => tp_peek (by omega) (nm_e (br_f (hr _ (by omega)).1 (br_t (hr _ (by omega)).2 (nm_r (e' := nI (m + 3 * (i + 1))) (nI_add _ 3) (hw' () trivial)))))))
    exact ⟨q, hq⟩
end
end
section
/-! 10: the relation of a state in a commit to the picture; sending -/
/-- the messages under way -/
def tp_Q (fi wa : Int32) (kk mf mt mn : Nat → Int32) (nm : Int32) (q : List tp_Ms) : Prop :=
  ∃ f, f < 64 ∧ fi = nI f ∧ wa = nI q.length ∧ q.length ≤ 64 ∧ ∀ i x, q[i]? = some x → kk ((f + i) % 64) = nI x.1 ∧ mf ((f + i) % 64) = nI x.2.1 ∧ mt ((f + i) % 64) = nI x.2.2 ∧ mn ((f + i) % 64) = nm
/-- the leader's log -/
def tp_L3 (d N : Nat) (lz lk lt : Nat → Int32) : Prop :=
  ∃ S, S ≤ 40 + d ∧ lz 3 = nI S ∧ (d = 0 → ∀ i, i < S → lk (192 + i) = 5 → ¬ lt (192 + i) = nI N) ∧ (d = 1 → ∃ i, i < S ∧ lk (192 + i) = 5 ∧ lt (192 + i) = nI N) ∧ (∀ i, i < S → ∃ t, t ≤ N ∧ lt (192 + i) = nI t)
/-- machine m in phase x -/
def tp_M (m x s t N : Nat) (im lz lk lt ly ln nu ho pr go : Nat → Int32) : Prop :=
  (∃ S, S ≤ (if x < 2 then 40 else if x = 2 then 45 else 46) ∧ tp_LM m S N (if x = 2 then nI N else 0) im lz lk lt ly ln nu ∧ (x = 0 → ∀ i, i < S → ¬ lt (m * 64 + i) = nI N)) ∧
  pr (t * 3 + m) = (if x = 2 then nI N else 0) ∧ (x = 0 → go (t * 3 + m) = 0 ∧ ∃ k, k < 12 ∧ k % 3 = m ∧ ho k = nI t) ∧ (x = 1 → go (t * 3 + m) = 1) ∧ (x = 2 → s = 1 → go (t * 3 + m) = 0)
/-- the data of a state in a commit of t by the name N -/
def tp_D (t N O0 : Nat) (nu0 : Nat → Int32) (s d : Nat) (p : tp_Ph) (os : Int32) (im lz lk lt ly ln nu ho wk wn pr go : Nat → Int32) : Prop :=
  ∃ O, os = nI O ∧ tp_G O ho wk wn nu ∧ (∀ b, O.testBit b = true → O0.testBit b = true) ∧ O.testBit t = true ∧ (d = 0 → nu = nu0) ∧ tp_L3 d N lz lk lt ∧
  (∀ m, m < 3 → tp_M m (tp_pg p m) s t N im lz lk lt ly ln nu ho pr go) ∧ (∀ j, j < 12 → ¬ (t * 3 ≤ j ∧ j < t * 3 + 3) → pr j = 0) ∧ (∀ b, b < 4 → b ≠ t → O.testBit b = true → ∀ m, m < 3 → go (b * 3 + m) = 0)
def tp_R (P T D t N O0 : Nat) (nu0 : Nat → Int32) (cc0 : Int32) (s v h a d : Nat) (p : tp_Ph) (x : tp_Ch) (u : St1) : Prop :=
  match u with
  | (os, st, vo, he, ns, nm, sl, pa, tr, td, ha, cc, fi, wa, se, lc, im, lz, lk, lt, ly, ln, nu, ho, wk, wn, pr, go, kk, mf, mt, mn) => st = nI s ∧ vo = nI v ∧ he = nI h ∧ ns = nI N ∧ nm = nI N ∧ sl = nI t ∧ pa = nI P ∧ tr = nI T ∧ td = nI D ∧ ha = nI a ∧ cc = cc0 ∧ se = nI x.1 ∧ lc = nI x.2.1 ∧ tp_Q fi wa kk mf mt mn nm x.2.2 ∧ tp_D t N O0 nu0 s d p os im lz lk lt ly ln nu ho wk wn pr go
theorem tp_send1 (T : Nat) (x : tp_Ch) (m : tp_Ms) : (tp_send T x m).1 = x.1 + 1 := by
  unfold tp_send; split
  · rfl
  · split <;> rfl
theorem tp_send2 (T : Nat) (x : tp_Ch) (m : tp_Ms) : (tp_send T x m).2.1 ≤ x.2.1 + 1 := by
  unfold tp_send; split
  · exact Nat.le_refl _
  · split <;> exact Nat.le_succ _
def tp_pn (q : List tp_Ms) (x : tp_Ms) : Nat → List tp_Ms
  | 0 => q
  | r + 1 => tp_pn (tp_push q x) x r
theorem tp_pn_full {q : List tp_Ms} {x : tp_Ms} (h : ¬ q.length < 64) (r : Nat) : tp_pn q x r = q := by
  induction r with
  | zero => rfl
  | succ r ih => rw [tp_pn, tp_push, if_neg h]; exact ih
section
variable {os st vo he ns nm sl pa tr td ha cc fi wa se lc : Int32} {im lz lk lt ly ln nu ho wk wn pr go kk mf mt mn : Nat → Int32}
theorem tp_Q_push {f : Nat} {q : List tp_Ms} {x : tp_Ms} {nm : Int32} (hf : f < 64) (hl : q.length < 64) (h : ∀ i x, q[i]? = some x → kk ((f + i) % 64) = nI x.1 ∧ mf ((f + i) % 64) = nI x.2.1 ∧ mt ((f + i) % 64) = nI x.2.2 ∧ mn ((f + i) % 64) = nm) :
    tp_Q (nI f) (nI (q.length + 1)) (upd kk ((f + q.length) % 64) (nI x.1)) (upd mf ((f + q.length) % 64) (nI x.2.1)) (upd mt ((f + q.length) % 64) (nI x.2.2)) (upd mn ((f + q.length) % 64) nm) nm (tp_push q x) := by
  unfold tp_push
  rw [if_pos hl]
  have el : (q ++ [x]).length = q.length + 1 := by rw [List.length_append]; rfl
  refine ⟨f, hf, rfl, by rw [el], by omega, fun i y hy => ?_⟩
  rw [List.getElem?_append] at hy
  by_cases e : i < q.length
  · rw [if_pos e] at hy
    have ne : (f + i) % 64 ≠ (f + q.length) % 64 := by omega
    rw [pk_un ne, pk_un ne, pk_un ne, pk_un ne]
    exact h i y hy
  · rw [if_neg e] at hy
    have e2 : i = q.length := by
      rcases Nat.lt_or_ge (i - q.length) 1 with z | z
      · omega
      · rw [List.getElem?_eq_none (by simpa using z)] at hy
        exact absurd hy (by simp)
    subst e2
    rw [Nat.sub_self] at hy
    have e3 : x = y := by simpa using hy
    subst e3
    rw [pk_us, pk_us, pk_us, pk_us]
    exact ⟨rfl, rfl, rfl, rfl⟩
theorem tp_95 {post : St1 → Prop} {k f t c : Nat} (hk : k < 8) (hf : f < 4) (ht : t < 4) (hc : c ≤ 2) : ∀ (r i : Nat) (q : List tp_Ms) (wa : Int32) (kk mf mt mn : Nat → Int32), i + r = c → tp_Q fi wa kk mf mt mn nm q →
    (∀ wa' kk' mf' mt' mn', tp_Q fi wa' kk' mf' mt' mn' nm (tp_pn q (k, f, t) r) → post (os, st, vo, he, ns, nm, sl, pa, tr, td, ha, cc, fi, wa', se, lc, im, lz, lk, lt, ly, ln, nu, ho, wk, wn, pr, go, kk', mf', mt', mn')) →
    ∃ n, wX_send_95 post (nI k) (nI f) (nI t) (nI c) os st vo he ns nm sl pa tr td ha cc fi se lc n (nI i) wa im lz lk lt ly ln nu ho wk wn pr go kk mf mt mn := by
  intro r
  induction r with
  | zero =>
    intro i q wa kk mf mt mn hi hQ h
    exact ⟨1, pk_le c i (fun _ => h _ _ _ _ _ hQ) (fun z => absurd z (by omega))⟩
  | succ r ih =>
    intro i q wa kk mf mt mn hi hQ h
    have hQ0 := hQ
    obtain ⟨f0, f1, f2, f3, f4, f5⟩ := hQ
    subst f2
    subst f3
    by_cases e : q.length < 64
    · have ex : nI f0 + nI q.length - (nI f0 + nI q.length) / 64 * 64 = nI ((f0 + q.length) % 64) := by
        rw [nI_add]; exact pk_rem (by omega) (by decide) (by decide)
      have hb : (f0 + q.length) % 64 < 64 := Nat.mod_lt _ (by decide)
      obtain ⟨n, hn⟩ := ih (i + 1) (tp_push q (k, f, t)) _ _ _ _ _ (by omega) (tp_Q_push (x := (k, f, t)) (nm := nm) f1 e f5) h
      refine ⟨n + 1, pk_le c i (fun z => absurd z (by omega)) (fun _ => pk_le 64 q.length (fun z => absurd z (by omega)) (fun _ => ⟨by decide, nm_r ex ?_⟩))⟩
      rw [nI_clamp (show (f0 + q.length) % 64 < 2 ^ 31 by omega), tp_n8 k (by omega), tp_n8 f (by omega), tp_n8 t (by omega)]
      exact ⟨pk_in _ 64 hb, nm_e ⟨pk_in _ 64 hb, nm_e ⟨pk_in _ 64 hb, nm_e ⟨pk_in _ 64 hb, nm_e (nm_r (nI_1 _) (nm_r (nI_1 _) hn))⟩⟩⟩⟩
    · rw [tp_pn_full e] at h
      exact ⟨1, pk_le c i (fun z => absurd z (by omega)) (fun _ => pk_le 64 q.length (fun _ => h _ _ _ _ _ hQ0) (fun z => absurd z (by omega)))⟩
theorem tp_sendQ {post : St1 → Prop} {T k f t : Nat} {x : tp_Ch} (hT : T < 8) (hk : k < 8) (hf : f < 4) (ht : t < 4) (hs : x.1 < 100000) (hl : x.2.1 < 100000) (hQ : tp_Q fi wa kk mf mt mn nm x.2.2)
    (h : ∀ wa' kk' mf' mt' mn', tp_Q fi wa' kk' mf' mt' mn' nm (tp_send T x (k, f, t)).2.2 → post (os, st, vo, he, ns, nm, sl, pa, nI T, td, ha, cc, fi, wa', nI (tp_send T x (k, f, t)).1, nI (tp_send T x (k, f, t)).2.1, im, lz, lk, lt, ly, ln, nu, ho, wk, wn, pr, go, kk', mf', mt', mn')) :
    wpX_send post (os, st, vo, he, ns, nm, sl, pa, nI T, td, ha, cc, fi, wa, nI x.1, nI x.2.1, im, lz, lk, lt, ly, ln, nu, ho, wk, wn, pr, go, kk, mf, mt, mn) (nI k) (nI f) (nI t) := by
  unfold wpX_send
  dsimp only
  have e5 : ∀ j, j < 1000000 → nI j * 7 - nI j * 7 / 5 * 5 = nI (j * 7 % 5) := fun j hj => by
    rw [show (7 : Int32) = nI 7 from rfl, pk_mul]; exact pk_rem (by omega) (by decide) (by decide)
  have e5b : ∀ j : Nat, j * 7 % 5 < 5 := fun j => Nat.mod_lt _ (by decide)
  refine nm_r (nI_1 x.1) ?_
  have keep : ¬ (T = 6 ∧ x.2.1 < 10 ∧ (x.1 + 1) * 7 % 5 < 3) → wX_send_45 post (nI k) (nI f) (nI t) os st vo he ns nm sl pa (nI T) td ha cc fi wa (nI (x.1 + 1)) (nI x.2.1) im lz lk lt ly ln nu ho wk wn pr go kk mf mt mn := by
    intro hn
    unfold tp_send at h
    rw [if_neg hn] at h
    unfold wX_send_45 wX_send_46
    refine br_t rfl ?_
    unfold wX_send_63
    refine nm_r (nI_add x.2.1 0) (br_t rfl ?_)
    refine pk_eq T 7 (fun e => ?_) (fun e => ?_)
    · rw [if_pos e] at h
      exact tp_95 (c := 2) hk hf ht (by decide) 2 0 x.2.2 wa kk mf mt mn rfl hQ h
    · rw [if_neg e] at h
      exact tp_95 (c := 1) hk hf ht (by decide) 1 0 x.2.2 wa kk mf mt mn rfl hQ h
  refine pk_eq T 6 (fun e => ?_) (fun e => keep (fun z => e z.1))
  refine pk_le 10 x.2.1 (fun z => keep (fun y => absurd y.2.1 (by omega))) (fun z => ⟨by decide, ?_⟩)
  rw [e5 (x.1 + 1) (by omega)]
  have := e5b (x.1 + 1)
  refine pk_le 3 ((x.1 + 1) * 7 % 5) (fun z2 => keep (fun y => absurd y.2.2 (by omega))) (fun z2 => ?_)
  unfold tp_send at h
  rw [if_pos ⟨e, z, z2⟩] at h
  unfold wX_send_46
  refine br_f (by decide) ?_
  unfold wX_send_63
  refine nm_r (nI_add x.2.1 1) (br_f (by decide) ?_)
  exact tp_95 (c := 0) hk hf ht (by decide) 0 0 x.2.2 wa kk mf mt mn rfl hQ h
end
section
variable {P T D t N O0 : Nat} {nu0 : Nat → Int32} {cc0 : Int32} {s v h a d : Nat} {p : tp_Ph} {x : tp_Ch} {u : St1}
theorem tp_Wsend {post : St1 → Prop} {k f g : Nat} (hR : tp_R P T D t N O0 nu0 cc0 s v h a d p x u) (hT : T < 8) (hk : k < 8) (hf : f < 4) (hg : g < 4) (hs : x.1 < 100000) (hl : x.2.1 < 100000)
    (hp : ∀ u', tp_R P T D t N O0 nu0 cc0 s v h a d p (tp_send T x (k, f, g)) u' → post u') : wpX_send post u (nI k) (nI f) (nI g) := by
  obtain ⟨os, st, vo, he, ns, nm, sl, pa, tr, td, ha, cc, fi, wa, se, lc, im, lz, lk, lt, ly, ln, nu, ho, wk, wn, pr, go, kk, mf, mt, mn⟩ := u
  obtain ⟨rfl, rfl, rfl, rfl, rfl, rfl, rfl, rfl, rfl, rfl, rfl, rfl, rfl, hQ, hD⟩ := hR
  exact tp_sendQ hT hk hf hg hs hl hQ (fun wa' kk' mf' mt' mn' hQ' => hp _ ⟨rfl, rfl, rfl, rfl, rfl, rfl, rfl, rfl, rfl, rfl, rfl, rfl, rfl, hQ', hD⟩)
end
end
section
/-! 11: parts, strikes, reminders -/
/-- a curried predicate at a state -/
def tp_ap (J : Int32 → Int32 → Int32 → Int32 → Int32 → Int32 → Int32 → Int32 → Int32 → Int32 → Int32 → Int32 → Int32 → Int32 → Int32 → Int32 → Int32 → (Nat → Int32) → (Nat → Int32) → (Nat → Int32) → (Nat → Int32) → (Nat → Int32) → (Nat → Int32) → (Nat → Int32) → (Nat → Int32) → (Nat → Int32) → (Nat → Int32) → (Nat → Int32) → (Nat → Int32) → (Nat → Int32) → (Nat → Int32) → (Nat → Int32) → (Nat → Int32) → Prop) (y : Int32) (u : St1) : Prop :=
  match u with
  | (os, st, vo, he, ns, nm, sl, pa, tr, td, ha, cc, fi, wa, se, lc, im, lz, lk, lt, ly, ln, nu, ho, wk, wn, pr, go, kk, mf, mt, mn) => J y os st vo he ns nm sl pa tr td ha cc fi wa se lc im lz lk lt ly ln nu ho wk wn pr go kk mf mt mn
section
variable {os st vo he ns nm sl pa tr td ha cc fi wa se lc : Int32} {im lz lk lt ly ln nu ho wk wn pr go kk mf mt mn : Nat → Int32}
theorem tp_isPart {post : Int32 → Prop} {P m : Nat} (hP : P < 8) (hm : m < 3) (h0 : P.testBit m = false → post 0) (h1 : P.testBit m = true → post 1) : wpX_isPart post (os, st, vo, he, ns, nm, sl, nI P, tr, td, ha, cc, fi, wa, se, lc, im, lz, lk, lt, ly, ln, nu, ho, wk, wn, pr, go, kk, mf, mt, mn) (nI m) := by
  unfold wpX_isPart
  dsimp only
  exact br_c (fun z => h0 ((tp_bit (by omega) (by omega)).mp z)) (fun z => h1 ((tp_bit1 (by omega) (by omega)).mp z))
theorem tp_strikes {post : Int32 → St1 → Prop} {T D w m a : Nat} (hT : T < 8) (hD : D < 3) (hw : w < 8) (hm : m < 3) (ha2 : a < 2)
    (h1 : T = w → a = 0 → m = D → post 1 (os, st, vo, he, ns, nm, sl, pa, nI T, nI D, nI 1, cc, fi, wa, se, lc, im, lz, lk, lt, ly, ln, nu, ho, wk, wn, pr, go, kk, mf, mt, mn)) (h0 : ¬ (T = w ∧ a = 0 ∧ m = D) → post 0 (os, st, vo, he, ns, nm, sl, pa, nI T, nI D, nI a, cc, fi, wa, se, lc, im, lz, lk, lt, ly, ln, nu, ho, wk, wn, pr, go, kk, mf, mt, mn)) : wpX_strikes post (os, st, vo, he, ns, nm, sl, pa, nI T, nI D, nI a, cc, fi, wa, se, lc, im, lz, lk, lt, ly, ln, nu, ho, wk, wn, pr, go, kk, mf, mt, mn) (nI w) (nI m) := by
  unfold wpX_strikes
  dsimp only
  have no : ¬ (T = w ∧ a = 0 ∧ m = D) → wX_strikes_27 post os st vo he ns nm sl pa (nI T) (nI D) (nI a) cc fi wa se lc im lz lk lt ly ln nu ho wk wn pr go kk mf mt mn := by
    intro hn
    have H := h0 hn
    unfold wX_strikes_27 wX_strikes_28
    rcases (by omega : a = 0 ∨ a = 1) with e | e
    · subst e
      exact br_t rfl (br_t rfl ⟨tp_bn0, H⟩)
    · subst e
      exact br_f (by decide) ⟨tp_bn0, H⟩
  refine pk_eq T w (fun e1 => ?_) (fun e1 => no (fun z => e1 z.1))
  refine pk_eq a 0 (fun e2 => ?_) (fun e2 => no (fun z => e2 z.2.1))
  refine pk_eq m D (fun e3 => ?_) (fun e3 => no (fun z => e3 z.2.2))
  have H := h1 e1 e2 e3
  subst e2
  unfold wX_strikes_28
  exact br_t rfl (br_f (by decide) ⟨tp_bn1, H⟩)
end
section
variable {P T D t N O0 : Nat} {nu0 : Nat → Int32} {cc0 : Int32} {s v h a d : Nat} {p : tp_Ph} {x : tp_Ch} {u : St1}
theorem tp_Wstrikes {post : Int32 → St1 → Prop} {w m : Nat} (hR : tp_R P T D t N O0 nu0 cc0 s v h a d p x u) (hT : T < 8) (hD : D < 3) (hw : w < 8) (hm : m < 3) (ha2 : a < 2)
    (h1 : T = w → a = 0 → m = D → ∀ u', tp_R P T D t N O0 nu0 cc0 s v h 1 d p x u' → post 1 u') (h0 : ¬ (T = w ∧ a = 0 ∧ m = D) → ∀ u', tp_R P T D t N O0 nu0 cc0 s v h a d p x u' → post 0 u') : wpX_strikes post u (nI w) (nI m) := by
  obtain ⟨os, st, vo, he, ns, nm, sl, pa, tr, td, ha, cc, fi, wa, se, lc, im, lz, lk, lt, ly, ln, nu, ho, wk, wn, pr, go, kk, mf, mt, mn⟩ := u
  obtain ⟨rfl, rfl, rfl, rfl, rfl, rfl, rfl, rfl, rfl, rfl, rfl, rfl, rfl, hQ, hDD⟩ := hR
  exact tp_strikes hT hD hw hm ha2 (fun e1 e2 e3 => h1 e1 e2 e3 _ ⟨rfl, rfl, rfl, rfl, rfl, rfl, rfl, rfl, rfl, rfl, rfl, rfl, rfl, hQ, hDD⟩) (fun e => h0 e _ ⟨rfl, rfl, rfl, rfl, rfl, rfl, rfl, rfl, rfl, rfl, rfl, rfl, rfl, hQ, hDD⟩)
theorem tp_nN {N : Nat} (h0 : 0 < N) (h : N < 100000) : ¬ (0 : Int32) = nI N := fun e => nI_ne0 h0 (by omega) e.symm
theorem tp_Wask {post : St1 → Prop} {m : Nat} (hR : tp_R P T D t N O0 nu0 cc0 s v h a d p x u) (ht : t < 4) (hN0 : 0 < N) (hN : N < 100000) (hm : m < 3) (hT : T < 8) (hs : x.1 < 100000) (hl : x.2.1 < 100000)
    (hp : ∀ u', tp_R P T D t N O0 nu0 cc0 s v h a d p (if tp_pg p m = 2 then tp_send T x (7, m, 3) else tp_send T x (5, 3, m)) u' → post u') : wpX_askOrRefuse post u (nI m) := by
  obtain ⟨os, st, vo, he, ns, nm, sl, pa, tr, td, ha, cc, fi, wa, se, lc, im, lz, lk, lt, ly, ln, nu, ho, wk, wn, pr, go, kk, mf, mt, mn⟩ := u
  have hR0 := hR
  obtain ⟨rfl, rfl, rfl, rfl, rfl, rfl, rfl, rfl, rfl, rfl, rfl, rfl, rfl, hQ, hDD⟩ := hR
  obtain ⟨O, d1, d2, d3, d4, d5, d6, d7, d8, d9⟩ := hDD
  have hpr := (d7 m hm).2.1
  unfold wpX_askOrRefuse
  dsimp only
  refine ⟨pk_in (t * 3 + m) 12 (by omega) (tp_t3m t m), ?_⟩
  rw [tp_t3m, nI_clamp (show t * 3 + m < 2 ^ 31 by omega), hpr]
  by_cases e : tp_pg p m = 2
  · rw [if_pos e] at hp
    rw [if_pos e]
    exact br_t rfl (tp_Wsend (k := 7) (f := m) (g := 3) hR0 hT (by decide) (by omega) (by decide) hs hl (fun u' hu' => hp u' hu'))
  · rw [if_neg e] at hp
    rw [if_neg e]
    exact br_f (tp_nN hN0 hN) (tp_Wsend (k := 5) (f := 3) (g := m) hR0 hT (by decide) (by decide) (by omega) hs hl (fun u' hu' => hp u' hu'))
def tp_f95 (P T s h : Nat) (p : tp_Ph) (m : Nat) (x : tp_Ch) : tp_Ch := if P.testBit m = true ∧ s = 3 ∧ h.testBit m = false then (if tp_pg p m = 2 then tp_send T x (7, m, 3) else tp_send T x (5, 3, m)) else x
def tp_f68 (P T s h : Nat) (p : tp_Ph) (m : Nat) (x : tp_Ch) : tp_Ch := tp_f95 P T s h p m (if P.testBit m = true ∧ s = 2 ∧ h.testBit m = false then tp_send T x (4, 3, m) else x)
def tp_f40 (P T s v h : Nat) (p : tp_Ph) (m : Nat) (x : tp_Ch) : tp_Ch := tp_f68 P T s h p m (if P.testBit m = true ∧ s = 1 ∧ v.testBit m = false then tp_send T x (1, 3, m) else x)
theorem tp_f40_rem (P T s v h : Nat) (p : tp_Ph) (m : Nat) (x : tp_Ch) : tp_f40 P T s v h p m x = tp_rem1 P T s v h p x m := by
  unfold tp_f40 tp_f68 tp_f95 tp_rem1
  cases P.testBit m
  · simp
  · by_cases e1 : s = 1
    · subst e1; simp
    · by_cases e2 : s = 2
      · subst e2; simp
      · simp [e1, e2]
theorem tp_rem1b (P T s v h : Nat) (p : tp_Ph) (m : Nat) (x : tp_Ch) : (tp_rem1 P T s v h p x m).1 ≤ x.1 + 1 ∧ (tp_rem1 P T s v h p x m).2.1 ≤ x.2.1 + 1 := by
  have S : ∀ y : tp_Ms, (tp_send T x y).1 ≤ x.1 + 1 ∧ (tp_send T x y).2.1 ≤ x.2.1 + 1 := fun y => ⟨Nat.le_of_eq (tp_send1 T x y), tp_send2 T x y⟩
  have Z : x.1 ≤ x.1 + 1 ∧ x.2.1 ≤ x.2.1 + 1 := ⟨Nat.le_succ _, Nat.le_succ _⟩
  unfold tp_rem1
  split
  · split
    · exact S _
    · split
      · exact S _
      · split
        · split <;> exact S _
        · exact Z
  · exact Z
theorem tp_r95 {post : St1 → Prop} {J : Int32 → Int32 → Int32 → Int32 → Int32 → Int32 → Int32 → Int32 → Int32 → Int32 → Int32 → Int32 → Int32 → Int32 → Int32 → Int32 → Int32 → (Nat → Int32) → (Nat → Int32) → (Nat → Int32) → (Nat → Int32) → (Nat → Int32) → (Nat → Int32) → (Nat → Int32) → (Nat → Int32) → (Nat → Int32) → (Nat → Int32) → (Nat → Int32) → (Nat → Int32) → (Nat → Int32) → (Nat → Int32) → (Nat → Int32) → (Nat → Int32) → Prop} {m : Nat} {x3 : Int32} {os st vo he ns nm sl pa tr td ha cc fi wa se lc : Int32} {im lz lk lt ly ln nu ho wk wn pr go kk mf mt mn : Nat → Int32} (hR : tp_R P T D t N O0 nu0 cc0 s v h a d p x (os, st, vo, he, ns, nm, sl, pa, tr, td, ha, cc, fi, wa, se, lc, im, lz, lk, lt, ly, ln, nu, ho, wk, wn, pr, go, kk, mf, mt, mn)) (ht : t < 4) (hN0 : 0 < N) (hN : N < 100000) (hm : m < 3) (hP : P < 8) (hT : T < 8) (hs4 : s < 4) (hs : x.1 + 1 < 100000) (hl : x.2.1 + 1 < 100000) (hx3 : x3 = 0 ↔ h.testBit m = false)
    (hp : ∀ u', tp_R P T D t N O0 nu0 cc0 s v h a d p (tp_f95 P T s h p m x) u' → tp_ap J (nI (m + 1)) u') : wX_remind_95 post J (nI m) x3 os st vo he ns nm sl pa tr td ha cc fi wa se lc im lz lk lt ly ln nu ho wk wn pr go kk mf mt mn := by
  have hR0 := hR
  obtain ⟨rfl, rfl, rfl, rfl, rfl, rfl, rfl, rfl, rfl, rfl, rfl, rfl, rfl, hQ, hDD⟩ := hR
  unfold wX_remind_95
  unfold tp_f95 at hp
  refine tp_isPart hP hm (fun eb => br_t rfl (nm_r (nI_1 m) ?_)) (fun eb => br_f (by decide) ?_)
  · rw [if_neg (by rw [eb]; simp)] at hp
    exact hp _ hR0
  · refine pk_eq s 3 (fun e => ?_) (fun e => nm_r (nI_1 m) ?_)
    · refine br_c (fun z => ?_) (fun z => nm_r (nI_1 m) ?_)
      · rw [if_pos ⟨eb, e, hx3.mp z⟩] at hp
        refine tp_Wask hR0 ht hN0 hN hm hT (by omega) (by omega) (fun u' hu' => ?_)
        obtain ⟨os1, st1, vo1, he1, ns1, nm1, sl1, pa1, tr1, td1, ha1, cc1, fi1, wa1, se1, lc1, im1, lz1, lk1, lt1, ly1, ln1, nu1, ho1, wk1, wn1, pr1, go1, kk1, mf1, mt1, mn1⟩ := u'
        exact nm_r (nI_1 m) (hp _ hu')
      · rw [if_neg (fun y => z (hx3.mpr y.2.2))] at hp
        exact hp _ hR0
    · rw [if_neg (fun y => e y.2.1)] at hp
      exact hp _ hR0
theorem tp_r68 {post : St1 → Prop} {J : Int32 → Int32 → Int32 → Int32 → Int32 → Int32 → Int32 → Int32 → Int32 → Int32 → Int32 → Int32 → Int32 → Int32 → Int32 → Int32 → Int32 → (Nat → Int32) → (Nat → Int32) → (Nat → Int32) → (Nat → Int32) → (Nat → Int32) → (Nat → Int32) → (Nat → Int32) → (Nat → Int32) → (Nat → Int32) → (Nat → Int32) → (Nat → Int32) → (Nat → Int32) → (Nat → Int32) → (Nat → Int32) → (Nat → Int32) → (Nat → Int32) → Prop} {m : Nat} {x3 : Int32} {os st vo he ns nm sl pa tr td ha cc fi wa se lc : Int32} {im lz lk lt ly ln nu ho wk wn pr go kk mf mt mn : Nat → Int32} (hR : tp_R P T D t N O0 nu0 cc0 s v h a d p x (os, st, vo, he, ns, nm, sl, pa, tr, td, ha, cc, fi, wa, se, lc, im, lz, lk, lt, ly, ln, nu, ho, wk, wn, pr, go, kk, mf, mt, mn)) (ht : t < 4) (hN0 : 0 < N) (hN : N < 100000) (hm : m < 3) (hP : P < 8) (hT : T < 8) (hs4 : s < 4) (hs : x.1 + 2 < 100000) (hl : x.2.1 + 2 < 100000) (hx3 : x3 = 0 ↔ h.testBit m = false)
    (hp : ∀ u', tp_R P T D t N O0 nu0 cc0 s v h a d p (tp_f68 P T s h p m x) u' → tp_ap J (nI (m + 1)) u') : wX_remind_68 post J (nI m) x3 os st vo he ns nm sl pa tr td ha cc fi wa se lc im lz lk lt ly ln nu ho wk wn pr go kk mf mt mn := by
  have hR0 := hR
  obtain ⟨rfl, rfl, rfl, rfl, rfl, rfl, rfl, rfl, rfl, rfl, rfl, rfl, rfl, hQ, hDD⟩ := hR
  unfold wX_remind_68
  unfold tp_f68 at hp
  have no : ¬ (P.testBit m = true ∧ s = 2 ∧ h.testBit m = false) → wX_remind_95 post J (nI m) x3 os (nI s) (nI v) (nI h) (nI N) (nI N) (nI t) (nI P) (nI T) (nI D) (nI a) cc fi wa (nI x.1) (nI x.2.1) im lz lk lt ly ln nu ho wk wn pr go kk mf mt mn := by
    intro hn
    rw [if_neg hn] at hp
    exact tp_r95 hR0 ht hN0 hN hm hP hT hs4 (by omega) (by omega) hx3 hp
  refine tp_isPart hP hm (fun eb => br_t rfl (no (by rw [eb]; simp))) (fun eb => br_f (by decide) ?_)
  refine pk_eq s 2 (fun e => ?_) (fun e => no (fun y => e y.2.1))
  refine br_c (fun z => ?_) (fun z => no (fun y => z (hx3.mpr y.2.2)))
  rw [if_pos ⟨eb, e, hx3.mp z⟩] at hp
  refine tp_Wsend (k := 4) (f := 3) (g := m) hR0 hT (by decide) (by decide) (by omega) (by omega) (by omega) (fun u' hu' => ?_)
  obtain ⟨os1, st1, vo1, he1, ns1, nm1, sl1, pa1, tr1, td1, ha1, cc1, fi1, wa1, se1, lc1, im1, lz1, lk1, lt1, ly1, ln1, nu1, ho1, wk1, wn1, pr1, go1, kk1, mf1, mt1, mn1⟩ := u'
  have b1 := tp_send1 T x (4, 3, m)
  have b2 := tp_send2 T x (4, 3, m)
  exact tp_r95 hu' ht hN0 hN hm hP hT hs4 (by omega) (by omega) hx3 hp
theorem tp_r40 {post : St1 → Prop} {J : Int32 → Int32 → Int32 → Int32 → Int32 → Int32 → Int32 → Int32 → Int32 → Int32 → Int32 → Int32 → Int32 → Int32 → Int32 → Int32 → Int32 → (Nat → Int32) → (Nat → Int32) → (Nat → Int32) → (Nat → Int32) → (Nat → Int32) → (Nat → Int32) → (Nat → Int32) → (Nat → Int32) → (Nat → Int32) → (Nat → Int32) → (Nat → Int32) → (Nat → Int32) → (Nat → Int32) → (Nat → Int32) → (Nat → Int32) → (Nat → Int32) → Prop} {m : Nat} {x2 x3 : Int32} {os st vo he ns nm sl pa tr td ha cc fi wa se lc : Int32} {im lz lk lt ly ln nu ho wk wn pr go kk mf mt mn : Nat → Int32} (hR : tp_R P T D t N O0 nu0 cc0 s v h a d p x (os, st, vo, he, ns, nm, sl, pa, tr, td, ha, cc, fi, wa, se, lc, im, lz, lk, lt, ly, ln, nu, ho, wk, wn, pr, go, kk, mf, mt, mn)) (ht : t < 4) (hN0 : 0 < N) (hN : N < 100000) (hm : m < 3) (hP : P < 8) (hT : T < 8) (hs4 : s < 4) (hs : x.1 + 3 < 100000) (hl : x.2.1 + 3 < 100000) (hx2 : x2 = 0 ↔ v.testBit m = false) (hx3 : x3 = 0 ↔ h.testBit m = false)
    (hp : ∀ u', tp_R P T D t N O0 nu0 cc0 s v h a d p (tp_rem1 P T s v h p x m) u' → tp_ap J (nI (m + 1)) u') : wX_remind_40 post J (nI m) x2 x3 os st vo he ns nm sl pa tr td ha cc fi wa se lc im lz lk lt ly ln nu ho wk wn pr go kk mf mt mn := by
  rw [← tp_f40_rem] at hp
  have hR0 := hR
  obtain ⟨rfl, rfl, rfl, rfl, rfl, rfl, rfl, rfl, rfl, rfl, rfl, rfl, rfl, hQ, hDD⟩ := hR
  unfold wX_remind_40
  unfold tp_f40 at hp
  have no : ¬ (P.testBit m = true ∧ s = 1 ∧ v.testBit m = false) → wX_remind_68 post J (nI m) x3 os (nI s) (nI v) (nI h) (nI N) (nI N) (nI t) (nI P) (nI T) (nI D) (nI a) cc fi wa (nI x.1) (nI x.2.1) im lz lk lt ly ln nu ho wk wn pr go kk mf mt mn := by
    intro hn
    rw [if_neg hn] at hp
    exact tp_r68 hR0 ht hN0 hN hm hP hT hs4 (by omega) (by omega) hx3 hp
  refine tp_isPart hP hm (fun eb => br_t rfl (no (by rw [eb]; simp))) (fun eb => br_f (by decide) ?_)
  refine pk_eq s 1 (fun e => ?_) (fun e => no (fun y => e y.2.1))
  refine br_c (fun z => ?_) (fun z => no (fun y => z (hx2.mpr y.2.2)))
  rw [if_pos ⟨eb, e, hx2.mp z⟩] at hp
  refine tp_Wsend (k := 1) (f := 3) (g := m) hR0 hT (by decide) (by decide) (by omega) (by omega) (by omega) (fun u' hu' => ?_)
  obtain ⟨os1, st1, vo1, he1, ns1, nm1, sl1, pa1, tr1, td1, ha1, cc1, fi1, wa1, se1, lc1, im1, lz1, lk1, lt1, ly1, ln1, nu1, ho1, wk1, wn1, pr1, go1, kk1, mf1, mt1, mn1⟩ := u'
  have b1 := tp_send1 T x (1, 3, m)
  have b2 := tp_send2 T x (1, 3, m)
  exact tp_r68 hu' ht hN0 hN hm hP hT hs4 (by omega) (by omega) hx3 hp
theorem tp_r2 {post : St1 → Prop} {n m : Nat} {os st vo he ns nm sl pa tr td ha cc fi wa se lc : Int32} {im lz lk lt ly ln nu ho wk wn pr go kk mf mt mn : Nat → Int32} (hR : tp_R P T D t N O0 nu0 cc0 s v h a d p x (os, st, vo, he, ns, nm, sl, pa, tr, td, ha, cc, fi, wa, se, lc, im, lz, lk, lt, ly, ln, nu, ho, wk, wn, pr, go, kk, mf, mt, mn)) (ht : t < 4) (hN0 : 0 < N) (hN : N < 100000) (hm : m < 3) (hP : P < 8) (hT : T < 8) (hs4 : s < 4) (hv : v < 8) (hh : h < 8) (hs : x.1 + 3 < 100000) (hl : x.2.1 + 3 < 100000)
    (hp : ∀ u', tp_R P T D t N O0 nu0 cc0 s v h a d p (tp_rem1 P T s v h p x m) u' → tp_ap (wX_remind_2 post n) (nI (m + 1)) u') : wX_remind_2 post (n + 1) (nI m) os st vo he ns nm sl pa tr td ha cc fi wa se lc im lz lk lt ly ln nu ho wk wn pr go kk mf mt mn := by
  have hR0 := hR
  obtain ⟨rfl, rfl, rfl, rfl, rfl, rfl, rfl, rfl, rfl, rfl, rfl, rfl, rfl, hQ, hDD⟩ := hR
  refine pk_le 3 m (fun z => absurd z (by omega)) (fun _ => ?_)
  have one : ¬ (1 : Int32) = 0 := by decide
  have key : ∀ x2 : Int32, (x2 = 0 ↔ v.testBit m = false) → wX_remind_23 post (wX_remind_2 post n) (nI m) x2 os (nI s) (nI v) (nI h) (nI N) (nI N) (nI t) (nI P) (nI T) (nI D) (nI a) cc fi wa (nI x.1) (nI x.2.1) im lz lk lt ly ln nu ho wk wn pr go kk mf mt mn := by
    intro x2 hx2
    unfold wX_remind_23
    refine br_c (fun z => ?_) (fun z => ?_)
    · have e := (tp_bit (by omega) (by omega)).mp z
      exact tp_r40 hR0 ht hN0 hN hm hP hT hs4 hs hl hx2 ⟨fun _ => e, fun _ => rfl⟩ hp
    · have e := (tp_bit1 (by omega) (by omega)).mp z
      exact tp_r40 hR0 ht hN0 hN hm hP hT hs4 hs hl hx2 ⟨fun y => absurd y one, fun y => absurd (e.symm.trans y) (by decide)⟩ hp
  refine br_c (fun z => key 0 ⟨fun _ => (tp_bit (by omega) (by omega)).mp z, fun _ => rfl⟩) (fun z => key 1 ⟨fun y => absurd y one, fun y => ?_⟩)
  rw [(tp_bit1 (by omega) (by omega)).mp z] at y
  exact absurd y (by decide)
theorem tp_Wremind {post : St1 → Prop} (hR : tp_R P T D t N O0 nu0 cc0 s v h a d p x u) (ht : t < 4) (hN0 : 0 < N) (hN : N < 100000) (hP : P < 8) (hT : T < 8) (hs4 : s < 4) (hv : v < 8) (hh : h < 8) (hs : x.1 < 90000) (hl : x.2.1 < 90000)
    (hp : ∀ u', tp_R P T D t N O0 nu0 cc0 s v h a d p (tp_rem P T s v h p x) u' → post u') : wpX_remind post u := by
  obtain ⟨os, st, vo, he, ns, nm, sl, pa, tr, td, ha, cc, fi, wa, se, lc, im, lz, lk, lt, ly, ln, nu, ho, wk, wn, pr, go, kk, mf, mt, mn⟩ := u
  unfold wpX_remind
  dsimp only
  have c1 := tp_rem1b P T s v h p 0 x
  have c2 := tp_rem1b P T s v h p 1 (tp_rem1 P T s v h p x 0)
  refine ⟨4, tp_r2 (m := 0) hR ht hN0 hN (by decide) hP hT hs4 hv hh (by omega) (by omega) (fun u1 h1 => ?_)⟩
  obtain ⟨os1, st1, vo1, he1, ns1, nm1, sl1, pa1, tr1, td1, ha1, cc1, fi1, wa1, se1, lc1, im1, lz1, lk1, lt1, ly1, ln1, nu1, ho1, wk1, wn1, pr1, go1, kk1, mf1, mt1, mn1⟩ := u1
  refine tp_r2 (m := 1) h1 ht hN0 hN (by decide) hP hT hs4 hv hh (by omega) (by omega) (fun u2 h2 => ?_)
  obtain ⟨os2, st2, vo2, he2, ns2, nm2, sl2, pa2, tr2, td2, ha2, cc2, fi2, wa2, se2, lc2, im2, lz2, lk2, lt2, ly2, ln2, nu2, ho2, wk2, wn2, pr2, go2, kk2, mf2, mt2, mn2⟩ := u2
  refine tp_r2 (m := 2) h2 ht hN0 hN (by decide) hP hT hs4 hv hh (by omega) (by omega) (fun u3 h3 => ?_)
  obtain ⟨os3, st3, vo3, he3, ns3, nm3, sl3, pa3, tr3, td3, ha3, cc3, fi3, wa3, se3, lc3, im3, lz3, lk3, lt3, ly3, ln3, nu3, ho3, wk3, wn3, pr3, go3, kk3, mf3, mt3, mn3⟩ := u3
  exact pk_le 3 3 (fun _ => hp _ h3) (fun z => absurd z (by omega))
end
end
section
/-! 12: how the data of a commit change -/
/-- only machine m's log changes -/
def tp_LF (m : Nat) (lz lk lt ly ln lz' lk' lt' ly' ln' : Nat → Int32) : Prop :=
  (∀ j, j ≠ m → lz' j = lz j) ∧ (∀ j, (j < m * 64 ∨ m * 64 + 64 ≤ j) → lk' j = lk j ∧ lt' j = lt j ∧ ly' j = ly j ∧ ln' j = ln j)
section
variable {os st vo he ns nm sl pa tr td ha cc fi wa se lc : Int32} {im lz lk lt ly ln nu ho wk wn pr go kk mf mt mn : Nat → Int32} {lz' lk' lt' ly' ln' im' nu' ho' wk' wn' pr' go' : Nat → Int32}
theorem tp_LF_0 (m : Nat) : tp_LF m lz lk lt ly ln lz lk lt ly ln := ⟨fun _ _ => rfl, fun _ _ => ⟨rfl, rfl, rfl, rfl⟩⟩
theorem tp_LF_app {m S : Nat} {w x y z v : Int32} (hS : S < 64) (h : tp_LF m lz lk lt ly ln lz' lk' lt' ly' ln') : tp_LF m lz lk lt ly ln (upd lz' m w) (upd lk' (m * 64 + S) x) (upd lt' (m * 64 + S) y) (upd ly' (m * 64 + S) z) (upd ln' (m * 64 + S) v) := by
  refine ⟨fun j hj => ?_, fun j hj => ?_⟩
  · rw [pk_un hj]; exact h.1 j hj
  · have ne : j ≠ m * 64 + S := by omega
    rw [pk_un ne, pk_un ne, pk_un ne, pk_un ne]; exact h.2 j hj
theorem tp_M_keep {m x s s' t N : Nat} (hM : tp_M m x s t N im lz lk lt ly ln nu ho pr go) (hz : lz' m = lz m) (hl : ∀ i, i < 64 → lk' (m * 64 + i) = lk (m * 64 + i) ∧ lt' (m * 64 + i) = lt (m * 64 + i) ∧ ly' (m * 64 + i) = ly (m * 64 + i) ∧ ln' (m * 64 + i) = ln (m * 64 + i)) (hn : ∀ k, k < 12 → k % 3 = m → nu' k = nu k) (hpr : pr' (t * 3 + m) = pr (t * 3 + m)) (hgo : go' (t * 3 + m) = go (t * 3 + m)) (hho : ∀ k, k < 12 → k % 3 = m → ho k = nI t → ho' k = nI t) (hs : s' = 1 → s = 1) : tp_M m x s' t N im lz' lk' lt' ly' ln' nu' ho' pr' go' := by
  obtain ⟨⟨S, s1, s2, s3⟩, m2, m3, m4, m5⟩ := hM
  have hS : S ≤ 46 := by
    split at s1
    · omega
    · split at s1 <;> omega
  refine ⟨⟨S, s1, tp_LM_c s2 (Nat.le_refl N) hz (fun i hi => hl i (by omega)) (fun _ _ _ => rfl) hn, fun e i hi => ?_⟩, by rw [hpr]; exact m2, fun e => ?_, fun e => by rw [hgo]; exact m4 e, fun e e' => by rw [hgo]; exact m5 e (hs e')⟩
  · rw [(hl i (by omega)).2.1]; exact s3 e i hi
  · obtain ⟨q1, k, k1, k2, k3⟩ := m3 e
    exact ⟨by rw [hgo]; exact q1, k, k1, k2, hho k k1 k2 k3⟩
theorem tp_M_keepF {m j x s s' t N : Nat} (hj : j ≠ m) (hM : tp_M j x s t N im lz lk lt ly ln nu ho pr go) (hF : tp_LF m lz lk lt ly ln lz' lk' lt' ly' ln') (hn : ∀ k, k < 12 → k % 3 = j → nu' k = nu k) (hpr : pr' (t * 3 + j) = pr (t * 3 + j)) (hgo : go' (t * 3 + j) = go (t * 3 + j)) (hho : ∀ k, k < 12 → k % 3 = j → ho k = nI t → ho' k = nI t) (hs : s' = 1 → s = 1) : tp_M j x s' t N im lz' lk' lt' ly' ln' nu' ho' pr' go' :=
  tp_M_keep hM (hF.1 j hj) (fun i hi => hF.2 _ (by omega)) hn hpr hgo hho hs
theorem tp_L3_keep {m d N : Nat} (hm : m < 3) (h : tp_L3 d N lz lk lt) (hd : d < 2) (hF : tp_LF m lz lk lt ly ln lz' lk' lt' ly' ln') : tp_L3 d N lz' lk' lt' := by
  obtain ⟨S, s1, s2, s3, s4, s5⟩ := h
  have E : ∀ i, i < S → lk' (192 + i) = lk (192 + i) ∧ lt' (192 + i) = lt (192 + i) := fun i hi => ⟨(hF.2 _ (by omega)).1, (hF.2 _ (by omega)).2.1⟩
  refine ⟨S, s1, by rw [hF.1 3 (by omega)]; exact s2, fun e i hi => ?_, fun e => ?_, fun i hi => ?_⟩
  · rw [(E i hi).1, (E i hi).2]; exact s3 e i hi
  · obtain ⟨i, i1, i2, i3⟩ := s4 e
    exact ⟨i, i1, by rw [(E i i1).1]; exact i2, by rw [(E i i1).2]; exact i3⟩
  · rw [(E i hi).2]; exact s5 i hi
/-- a machine breaks down in a commit -/
theorem tp_D_bd {t N O0 O O' s d m : Nat} {nu0 : Nat → Int32} {p : tp_Ph} (ht : t < 4) (hm : m < 3) (hs0 : ¬ nI s = 0) (h1 : tp_pg p m ≠ 1) (h2 : tp_pg p m = 2 → s ≠ 1) (hN0 : 0 < N) (hN : N < 100000)
    (hD : tp_D t N O0 nu0 s d p (nI O) im lz lk lt ly ln nu ho wk wn pr go) (hO : O < 16) (hB : tp_BD m t (if tp_pg p m = 2 then nI N else 0) (nI s) O ho pr go O' ho' wk' wn' nu pr' go') :
    tp_D t N O0 nu0 s d (if tp_pg p m = 0 then tp_ps p m 1 else p) (nI O') im lz lk lt ly ln nu ho' wk' wn' pr' go' := by
  obtain ⟨Oq, d1, d2, d3, d4, d5, d6, d7, d8, d9⟩ := hD
  have hq := d2.1
  have eO : O = Oq := (nI_eq (by omega) (by omega)).mp d1
  subst eO
  obtain ⟨b1, b2, b3, b4, b5⟩ := hB
  obtain ⟨c1, c2, c3, c4, c5, c6⟩ := b5 hs0
  refine ⟨O', rfl, b1, fun b hb => d3 b (b2 b hb), c1, d5, d6, fun j hj => ?_, fun j hj hn => ?_, fun b hb hbt ho1 j hj => ?_⟩
  · by_cases e : j = m
    · subst e
      obtain ⟨⟨S, s1, s2, s3⟩, m2, m3, m4, m5⟩ := d7 j hj
      by_cases e0 : tp_pg p j = 0
      · rw [if_pos e0, tp_pgs hm hj, if_pos rfl]
        rw [e0] at s1 s2 m2
        rw [e0] at b3
        refine ⟨⟨S, s1, s2, fun z => absurd z (by decide)⟩, ?_, fun z => absurd z (by decide), fun _ => c4 (m3 e0).2, fun z => absurd z (by decide)⟩
        rcases b3 (t * 3 + j) (by omega) with y | y | y
        · rw [y]; exact m2
        · exact y
        · exact absurd rfl y.1
      · rw [if_neg e0]
        refine ⟨⟨S, s1, s2, fun z => absurd z e0⟩, ?_, fun z => absurd z e0, fun z => absurd z h1, fun z y => absurd y (h2 z)⟩
        by_cases e2 : tp_pg p j = 2
        · rw [if_pos e2] at c6
          rw [if_pos e2]
          exact c6 (fun z => tp_nN hN0 hN z.symm)
        · rw [if_neg e2] at m2 b3
          rw [if_neg e2]
          rcases b3 (t * 3 + j) (by omega) with y | y | y
          · rw [y]; exact m2
          · exact y
          · exact absurd rfl y.1
    · have ep : tp_pg (if tp_pg p m = 0 then tp_ps p m 1 else p) j = tp_pg p j := by
        split
        · rw [tp_pgs hm hj, if_neg e]
        · rfl
      rw [ep]
      exact tp_M_keepF (m := m) e (d7 j hj) (tp_LF_0 m) (fun _ _ _ => rfl) (c5 j hj e) (c3 _ (by omega)) (fun k hk hkj => c2 k hk (by omega)) (fun z => z)
  · rcases b3 j hj with y | y | y
    · rw [y]; exact d8 j hj hn
    · exact y
    · omega
  · rw [c3 _ (by omega)]
    exact d9 b hb hbt (b2 b ho1) j hj
/-- the leader breaks down in a commit -/
theorem tp_D_bl {t N O0 O O' s s' d : Nat} {nu0 : Nat → Int32} {p : tp_Ph} (hs' : s' ≠ 1) (hO : O < 16)
    (hD : tp_D t N O0 nu0 s d p (nI O) im lz lk lt ly ln nu ho wk wn pr go) (hB : tp_BL t O ho pr O' ho' wk' wn nu pr') :
    tp_D t N O0 nu0 s' d p (nI O') im lz lk lt ly ln nu ho' wk' wn pr' go := by
  obtain ⟨Oq, d1, d2, d3, d4, d5, d6, d7, d8, d9⟩ := hD
  have hq := d2.1
  have eO : O = Oq := (nI_eq (by omega) (by omega)).mp d1
  subst eO
  obtain ⟨b1, b2, b3, b4, b5, b6⟩ := hB
  refine ⟨O', rfl, b1, fun b hb => d3 b (b2 b hb), b3, d5, d6, fun j hj => ?_, fun j hj hn => ?_, fun b hb hbt ho1 j hj => d9 b hb hbt (b2 b ho1) j hj⟩
  · exact tp_M_keep (d7 j hj) rfl (fun _ _ => ⟨rfl, rfl, rfl, rfl⟩) (fun _ _ _ => rfl) (b6 j hj) rfl (fun k hk _ => b4 k hk) (fun z => absurd z hs')
  · rcases b5 j hj with y | y
    · rw [y]; exact d8 j hj hn
    · exact y
/-- a machine promises -/
theorem tp_D_prom {t N O0 s d m S' : Nat} {nu0 : Nat → Int32} {p : tp_Ph} (hm : m < 3) (hd : d < 2) (h0 : tp_pg p m = 0)
    (hD : tp_D t N O0 nu0 s d p os im lz lk lt ly ln nu ho wk wn pr go) (hS : S' ≤ 45) (hL : tp_LM m S' N (nI N) im lz' lk' lt' ly' ln' nu) (hF : tp_LF m lz lk lt ly ln lz' lk' lt' ly' ln') :
    tp_D t N O0 nu0 s d (tp_ps p m 2) os im lz' lk' lt' ly' ln' nu ho wk wn (upd pr (t * 3 + m) (nI N)) go := by
  obtain ⟨O, d1, d2, d3, d4, d5, d6, d7, d8, d9⟩ := hD
  refine ⟨O, d1, d2, d3, d4, d5, tp_L3_keep hm d6 hd hF, fun j hj => ?_, fun j hj hn => ?_, d9⟩
  · rw [tp_pgs hm hj]
    by_cases e : j = m
    · rw [if_pos e]
      subst e
      obtain ⟨_, m2, m3, m4, m5⟩ := d7 j hj
      exact ⟨⟨S', hS, hL, fun z => absurd z (by decide)⟩, pk_us, fun z => absurd z (by decide), fun z => absurd z (by decide), fun _ _ => (m3 h0).1⟩
    · rw [if_neg e]
      exact tp_M_keepF e (d7 j hj) hF (fun _ _ _ => rfl) (pk_un (by omega)) rfl (fun _ _ _ z => z) (fun z => z)
  · rw [pk_un (by omega)]; exact d8 j hj hn
/-- a machine is settled and lets go -/
theorem tp_D_rel {t N O0 s d m S' W W' : Nat} {nu0 : Nat → Int32} {p : tp_Ph} (ht : t < 4) (hm : m < 3) (hd : d < 2)
    (hD : tp_D t N O0 nu0 s d p os im lz lk lt ly ln nu ho wk wn pr go) (hS : S' ≤ 46) (hL : tp_LM m S' N 0 im lz' lk' lt' ly' ln' nu') (hF : tp_LF m lz lk lt ly ln lz' lk' lt' ly' ln')
    (hn : ∀ k, k < 12 → k % 3 ≠ m → nu' k = nu k) (hr : ∀ k, k < 12 → tp_inr (nu' k)) (hd0 : d = 0 → nu' = nu0) (hw : wk t = nI W) (hW : W < 4096) (hW' : W' < 4096) (hb : ∀ k, W'.testBit k = (W.testBit k && decide (k % 3 ≠ m))) :
    tp_D t N O0 nu0 s d (tp_ps p m 3) os im lz' lk' lt' ly' ln' nu' (tp_rel t m ho) (upd wk t (nI W')) wn (upd pr (t * 3 + m) 0) go := by
  obtain ⟨O, d1, d2, d3, d4, d5, d6, d7, d8, d9⟩ := hD
  have G1 := tp_G_rel d2 ht hw hW hW' hb
  refine ⟨O, d1, ⟨G1.1, G1.2.1, G1.2.2.1, G1.2.2.2.1, hr⟩, d3, d4, hd0, tp_L3_keep hm d6 hd hF, fun j hj => ?_, fun j hj hn => ?_, d9⟩
  · rw [tp_pgs hm hj]
    by_cases e : j = m
    · rw [if_pos e]
      subst e
      exact ⟨⟨S', hS, hL, fun z => absurd z (by decide)⟩, pk_us, fun z => absurd z (by decide), fun z => absurd z (by decide), fun z => absurd z (by decide)⟩
    · rw [if_neg e]
      exact tp_M_keepF e (d7 j hj) hF (fun k hk hkj => hn k hk (by omega)) (pk_un (by omega)) rfl (fun k hk hkj z => by rw [tp_rel_off (by omega)]; exact z) (fun z => z)
  · rw [pk_un (by omega)]; exact d8 j hj hn
/-- the decision is written down -/
theorem tp_D_dec {t N O0 s s' S : Nat} {nu0 : Nat → Int32} {p : tp_Ph} {k v : Int32} (hs' : s' ≠ 1)
    (hD : tp_D t N O0 nu0 s 0 p os im lz lk lt ly ln nu ho wk wn pr go) (hz : lz 3 = nI S) (hS : S ≤ 40) :
    tp_D t N O0 nu0 s' 1 p os im (upd lz 3 (nI (S + 1))) (upd lk (3 * 64 + S) (nI 5)) (upd lt (3 * 64 + S) (nI N)) (upd ly (3 * 64 + S) k) (upd ln (3 * 64 + S) v) nu ho wk wn pr go := by
  obtain ⟨O, d1, d2, d3, d4, d5, d6, d7, d8, d9⟩ := hD
  have F : tp_LF 3 lz lk lt ly ln (upd lz 3 (nI (S + 1))) (upd lk (3 * 64 + S) (nI 5)) (upd lt (3 * 64 + S) (nI N)) (upd ly (3 * 64 + S) k) (upd ln (3 * 64 + S) v) := tp_LF_app (by omega) (tp_LF_0 3)
  refine ⟨O, d1, d2, d3, d4, fun z => absurd z (by decide), ?_, fun j hj => ?_, d8, d9⟩
  · obtain ⟨S1, s1, s2, s3, s4, s5⟩ := d6
    have e : S1 = S := (nI_eq (by omega) (by omega)).mp (s2.symm.trans hz)
    subst e
    refine ⟨S1 + 1, by omega, pk_us, fun z => absurd z (by decide), fun _ => ⟨S1, by omega, pk_us, pk_us⟩, fun i hi => ?_⟩
    by_cases e : i = S1
    · subst e; exact ⟨N, Nat.le_refl N, pk_us⟩
    · rw [pk_un (by omega)]; exact s5 i (by omega)
  · exact tp_M_keepF (m := 3) (by omega) (d7 j hj) F (fun _ _ _ => rfl) rfl rfl (fun _ _ _ z => z) (fun z => absurd z hs')
end
end
section
/-! 13: a machine hears -/
def tp_E (P T D t N : Nat) : Prop := t < 4 ∧ 0 < N ∧ N < 100000 ∧ P < 8 ∧ T < 8 ∧ D < 3
def tp_Rc (P T D t N O0 : Nat) (nu0 : Nat → Int32) (cc0 : Int32) (c : tp_Co) (u : St1) : Prop := tp_R P T D t N O0 nu0 cc0 c.1 c.2.1 c.2.2.1 c.2.2.2.1 c.2.2.2.2.1 c.2.2.2.2.2.1 c.2.2.2.2.2.2 u
theorem tp_ps_id {p : tp_Ph} {m x : Nat} (hm : m < 3) (h : tp_pg p m = x) : tp_ps p m x = p := by
  obtain ⟨p0, p1, p2⟩ := p
  rcases (by omega : m = 0 ∨ m = 1 ∨ m = 2) with e | e | e <;> subst e <;> subst h <;> rfl
section
variable {os st vo he ns nm sl pa tr td ha cc fi wa se lc : Int32} {im lz lk lt ly ln nu ho wk wn pr go kk mf mt mn : Nat → Int32}
theorem tp_av_done {b S c t : Nat} {k v : Int32} {tr : Int32} {j : Nat} {x : Int32} (hc : ¬ nI c = 1) : tp_av (upd lk (b + S) (nI c)) (upd lt (b + S) (nI t)) (upd ly (b + S) k) (upd ln (b + S) v) b tr j x (S + 1) = tp_av lk lt ly ln b tr j x S := by
  rw [tp_av, if_neg]
  · exact tp_av_c (fun i hi => ⟨pk_un (by omega), pk_un (by omega), pk_un (by omega), pk_un (by omega)⟩)
  · rintro ⟨z, _⟩
    rw [pk_us] at z
    exact hc z
theorem tp_promiseOn {post : St1 → Prop} {m S N t O : Nat} (hm : m < 3) (ht : t < 4) (hL : tp_LM m S N 0 im lz lk lt ly ln nu) (hS : S ≤ 40) (hf : ∀ i, i < S → ¬ lt (m * 64 + i) = nI N) (hG : tp_G O ho wk wn nu)
    (h : ∀ S' lz' lk' lt' ly' ln', S' ≤ 45 → tp_LM m S' N (nI N) im lz' lk' lt' ly' ln' nu → tp_LF m lz lk lt ly ln lz' lk' lt' ly' ln' → post (os, st, vo, he, ns, nI N, nI t, pa, tr, td, ha, cc, fi, wa, se, lc, im, lz', lk', lt', ly', ln', nu, ho, wk, wn, upd pr (t * 3 + m) (nI N), go, kk, mf, mt, mn)) : wpX_promiseOn post (os, st, vo, he, ns, nI N, nI t, pa, tr, td, ha, cc, fi, wa, se, lc, im, lz, lk, lt, ly, ln, nu, ho, wk, wn, pr, go, kk, mf, mt, mn) (nI m) := by
  unfold wpX_promiseOn
  dsimp only
  obtain ⟨W, w1, w2, w3⟩ := hG.2.2.1 t ht
  refine pk_loop (σ := (Nat → Int32) × (Nat → Int32) × (Nat → Int32) × (Nat → Int32) × (Nat → Int32)) (fun n i x => wX_promiseOn_2 post (nI m) n (nI (m + 3 * i)) os st vo he ns (nI N) (nI t) pa tr td ha cc fi wa se lc im x.1 x.2.1 x.2.2.1 x.2.2.2.1 x.2.2.2.2 nu ho wk wn pr go kk mf mt mn)
    (fun i x => ∃ S', S' ≤ 40 + i ∧ tp_LM m S' N 0 im x.1 x.2.1 x.2.2.1 x.2.2.2.1 x.2.2.2.2 nu ∧ (∀ j, j < S' → x.2.1 (m * 64 + j) = 3 → ¬ x.2.2.1 (m * 64 + j) = nI N) ∧ tp_LF m lz lk lt ly ln x.1 x.2.1 x.2.2.1 x.2.2.2.1 x.2.2.2.2) 4 0 (lz, lk, lt, ly, ln) (by omega) ⟨S, by omega, hL, fun j hj _ => hf j hj, tp_LF_0 m⟩ ?_ ?_
  · rintro n ⟨lz1, lk1, lt1, ly1, ln1⟩ hI
    dsimp only at hI ⊢
    obtain ⟨S', s1, s2, s3, s4⟩ := hI
    refine pk_le 12 (m + 3 * 4) (fun _ => ?_) (fun z => absurd z (by omega))
    refine tp_log (m := m) (c := 2) (k := 0) (by omega) s2.1 (by omega) (by decide) (by decide) (nI N) 0 ⟨pk_in (t * 3 + m) 12 (by omega) (tp_t3m t m), nm_r (e' := upd pr (t * 3 + m) (nI N)) (by rw [tp_t3m, nI_clamp (by omega)]) (h (S' + 1) _ _ _ _ _ (by omega) ?_ (tp_LF_app (by omega) s4))⟩
    exact tp_LM_app (c := 2) s2 (Nat.le_refl N) (Nat.le_refl N) (fun z => absurd z (by decide)) (by decide) (fun _ _ _ => rfl)
  · rintro n i ⟨lz1, lk1, lt1, ly1, ln1⟩ hi hI hw
    dsimp only at hI ⊢
    obtain ⟨S', s1, s2, s3, s4⟩ := hI
    have hb : m + 3 * i < 12 := by omega
    refine pk_le 12 (m + 3 * i) (fun z => absurd z (by omega)) (fun _ => ?_)
    refine tp_hasWritten ht hb w2 w1 (fun _ => br_t rfl (nm_r (e' := nI (m + 3 * (i + 1))) (nI_add _ 3) (hw (lz1, lk1, lt1, ly1, ln1) ⟨S', by omega, s2, s3, s4⟩))) (fun _ => br_f (by decide) ?_)
    have ek : nI t * 12 + nI (m + 3 * i) = nI (t * 12 + (m + 3 * i)) := by rw [show (12 : Int32) = nI 12 from rfl, pk_mul, nI_add]
    refine ⟨pk_in (t * 12 + (m + 3 * i)) 48 (by omega) ek, ?_⟩
    rw [ek, nI_clamp (show t * 12 + (m + 3 * i) < 2 ^ 31 by omega)]
    refine tp_log (m := m) (c := 1) (k := m + 3 * i) (by omega) s2.1 (by omega) (by decide) (by omega) (nI N) _ (nm_r (e' := nI (m + 3 * (i + 1))) (nI_add _ 3) (hw (_, _, _, _, _) ⟨S' + 1, by omega, ?_, fun j hj h3 => ?_, tp_LF_app (by omega) s4⟩))
    · exact tp_LM_app (c := 1) s2 (Nat.le_refl N) (Nat.le_refl N) (fun _ => ⟨hb, by omega, hG.2.2.2.1 _ (by omega), s3⟩) (by decide) (fun _ _ _ => rfl)
    · have h3' : upd lk1 (m * 64 + S') (nI 1) (m * 64 + j) = 3 := h3
      show ¬ upd lt1 (m * 64 + S') (nI N) (m * 64 + j) = nI N
      by_cases e : j = S'
      · subst e
        rw [pk_us] at h3'
        exact absurd h3' (by decide)
      · rw [pk_un (by omega)] at h3' ⊢
        exact s3 j (by omega) h3'
end
section
variable {P T D t N O0 : Nat} {nu0 : Nat → Int32} {cc0 : Int32} {s v h a d : Nat} {p : tp_Ph} {x : tp_Ch} {u : St1}
theorem tp_WbreakDown {post : Int32 → St1 → Prop} {m : Nat} (hE : tp_E P T D t N) (hR : tp_R P T D t N O0 nu0 cc0 s v h a d p x u) (hm : m < 3) (hs0 : 0 < s) (hs4 : s < 4) (h1 : tp_pg p m ≠ 1) (h2 : tp_pg p m = 2 → s ≠ 1)
    (hp : ∀ r u', tp_R P T D t N O0 nu0 cc0 s v h a d (if tp_pg p m = 0 then tp_ps p m 1 else p) x u' → post r u') : wpX_breakDown post u (nI m) := by
  obtain ⟨e1, e2, e3, e4, e5, e6⟩ := hE
  obtain ⟨os, st, vo, he, ns, nm, sl, pa, tr, td, ha, cc, fi, wa, se, lc, im, lz, lk, lt, ly, ln, nu, ho, wk, wn, pr, go, kk, mf, mt, mn⟩ := u
  obtain ⟨rfl, rfl, rfl, rfl, rfl, rfl, rfl, rfl, rfl, rfl, rfl, rfl, rfl, hQ, hDD⟩ := hR
  have hD0 := hDD
  obtain ⟨O, rfl, d2, d3, d4, d5, d6, d7, d8, d9⟩ := hDD
  obtain ⟨⟨S, s1, s2, s3⟩, m2, m3, m4, m5⟩ := d7 m hm
  have hS : S ≤ 46 := by
    split at s1
    · omega
    · split at s1 <;> omega
  have nz : ¬ nI s = 0 := nI_ne0 hs0 (by omega)
  exact tp_breakDown (s := t) hm (by omega) s2 d2 (fun _ => ⟨e1, rfl, d4⟩) (Or.inr nz) (fun r O' ho' wk' wn' pr' go' hB => hp r _ ⟨rfl, rfl, rfl, rfl, rfl, rfl, rfl, rfl, rfl, rfl, rfl, rfl, rfl, hQ, tp_D_bd e1 hm nz h1 h2 e2 e3 hD0 d2.1 hB⟩)
theorem tp_WbreakLeader {post : Int32 → St1 → Prop} (hE : tp_E P T D t N) (hR : tp_R P T D t N O0 nu0 cc0 s v h a d p x u) (hs0 : 0 < s) (hs4 : s < 4) (hd : d < 2)
    (hp : ∀ r u', tp_R P T D t N O0 nu0 cc0 (if d = 1 then 2 else 3) 0 0 a d p x u' → post r u') : wpX_breakLeader post u := by
  obtain ⟨e1, e2, e3, e4, e5, e6⟩ := hE
  obtain ⟨os, st, vo, he, ns, nm, sl, pa, tr, td, ha, cc, fi, wa, se, lc, im, lz, lk, lt, ly, ln, nu, ho, wk, wn, pr, go, kk, mf, mt, mn⟩ := u
  obtain ⟨rfl, rfl, rfl, rfl, rfl, rfl, rfl, rfl, rfl, rfl, rfl, rfl, rfl, hQ, hDD⟩ := hR
  have hD0 := hDD
  obtain ⟨O, rfl, d2, d3, d4, d5, d6, d7, d8, d9⟩ := hDD
  obtain ⟨S, s1, s2, s3, s4, s5⟩ := d6
  have nz : ¬ nI s = 0 := nI_ne0 hs0 (by omega)
  refine tp_breakLeader (s := t) (S3 := S) d2 (fun _ => ⟨e1, rfl, d4⟩) (fun _ => s2) (by omega) (fun z => absurd z nz) (fun _ r O' ho' wk' pr' hB => ⟨fun hn => ?_, fun hn => ?_⟩)
  · have ed : ¬ d = 1 := by
      intro z
      obtain ⟨i, i1, i2, i3⟩ := s4 z
      exact hn i i1 i2 i3
    rw [if_neg ed] at hp
    exact hp r _ ⟨rfl, rfl, rfl, rfl, rfl, rfl, rfl, rfl, rfl, rfl, rfl, rfl, rfl, hQ, tp_D_bl (by decide) d2.1 hD0 hB⟩
  · have ed : d = 1 := by
      rcases (by omega : d = 0 ∨ d = 1) with z | z
      · obtain ⟨i, i1, i2, i3⟩ := hn
        exact absurd i3 (s3 z i i1 i2)
      · exact z
    rw [if_pos ed] at hp
    exact hp r _ ⟨rfl, rfl, rfl, rfl, rfl, rfl, rfl, rfl, rfl, rfl, rfl, rfl, rfl, hQ, tp_D_bl (by decide) d2.1 hD0 hB⟩
theorem tp_Wprep {post : St1 → Prop} {m : Nat} (hE : tp_E P T D t N) (hR : tp_R P T D t N O0 nu0 cc0 s v h a d p x u) (hm : m < 3) (hs : s = 1) (ha2 : a < 2) (hd : d < 2) (h3 : tp_pg p m < 3) (hst : T = 1 → a = 0 → m = D → tp_pg p m = 0) (hx : x.1 < 90000) (hl : x.2.1 < 90000)
    (hp : ∀ u', tp_Rc P T D t N O0 nu0 cc0 (tp_prep T D s v h a d p x m) u' → post u') : wpX_hearPrepare post u (nI m) := by
  obtain ⟨e1, e2, e3, e4, e5, e6⟩ := id hE
  obtain ⟨os, st, vo, he, ns, nm, sl, pa, tr, td, ha, cc, fi, wa, se, lc, im, lz, lk, lt, ly, ln, nu, ho, wk, wn, pr, go, kk, mf, mt, mn⟩ := u
  unfold wpX_hearPrepare
  dsimp only
  unfold tp_prep at hp
  refine tp_Wstrikes (w := 1) hR e5 e6 (by decide) hm ha2 (fun z1 z2 z3 u' hu' => ?_) (fun ne u' hu' => ?_)
  · rw [if_pos ⟨z1, z2, z3⟩] at hp
    have e0 := hst z1 z2 z3
    obtain ⟨os1, st1, vo1, he1, ns1, nm1, sl1, pa1, tr1, td1, ha1, cc1, fi1, wa1, se1, lc1, im1, lz1, lk1, lt1, ly1, ln1, nu1, ho1, wk1, wn1, pr1, go1, kk1, mf1, mt1, mn1⟩ := u'
    refine br_f (by decide) (tp_WbreakDown hE hu' hm (by omega) (by omega) (by omega) (by omega) (fun r u2 h2 => ?_))
    rw [if_pos e0] at h2
    exact hp u2 h2
  · rw [if_neg ne] at hp
    obtain ⟨os1, st1, vo1, he1, ns1, nm1, sl1, pa1, tr1, td1, ha1, cc1, fi1, wa1, se1, lc1, im1, lz1, lk1, lt1, ly1, ln1, nu1, ho1, wk1, wn1, pr1, go1, kk1, mf1, mt1, mn1⟩ := u'
    have hu0 := hu'
    obtain ⟨rfl, rfl, rfl, rfl, rfl, rfl, rfl, rfl, rfl, rfl, rfl, rfl, rfl, hQ, hDD⟩ := hu'
    have hD0 := hDD
    obtain ⟨O, rfl, d2, d3, d4, d5, d6, d7, d8, d9⟩ := hDD
    obtain ⟨⟨S, s1, s2, s3⟩, m2, m3, m4, m5⟩ := d7 m hm
    refine br_t rfl (nm_r (tp_t3m t m) ⟨pk_in (t * 3 + m) 12 (by omega), ?_⟩)
    dsimp only
    rw [nI_clamp (show t * 3 + m < 2 ^ 31 by omega)]
    rcases (by omega : tp_pg p m = 0 ∨ tp_pg p m = 1 ∨ tp_pg p m = 2) with q | q | q
    · rw [if_neg (by omega)] at hp
      rw [q] at s1 s2 m2
      rw [(m3 q).1, m2]
      refine br_t rfl ⟨pk_in (t * 3 + m) 12 (by omega), br_f (tp_nN e2 e3) ?_⟩
      refine tp_promiseOn hm e1 s2 s1 (s3 q) d2 (fun S' lz' lk' lt' ly' ln' h45 hL hF => ?_)
      unfold wX_hearPrepare_60
      exact tp_Wsend (k := 2) (f := m) (g := 3) (s := s) (d := d) (p := tp_ps p m 2) (x := x) (P := P) (D := D) (O0 := O0) (nu0 := nu0) ⟨rfl, rfl, rfl, rfl, rfl, rfl, rfl, rfl, rfl, rfl, rfl, rfl, rfl, hQ, tp_D_prom hm hd q hD0 h45 hL hF⟩ e5 (by decide) (by omega) (by decide) (by omega) (by omega) (fun u2 h2 => hp u2 h2)
    · rw [if_pos q] at hp
      rw [m4 q]
      exact br_f (by decide) (tp_Wsend (k := 3) (f := m) (g := 3) hu0 e5 (by decide) (by omega) (by decide) (by omega) (by omega) (fun u2 h2 => hp u2 h2))
    · rw [if_neg (by omega), tp_ps_id hm q] at hp
      rw [q] at m2
      rw [m5 q hs, m2]
      refine br_t rfl ⟨pk_in (t * 3 + m) 12 (by omega), br_t rfl ?_⟩
      unfold wX_hearPrepare_60
      exact tp_Wsend (k := 2) (f := m) (g := 3) hu0 e5 (by decide) (by omega) (by decide) (by omega) (by omega) (fun u2 h2 => hp u2 h2)
theorem tp_c66 {post : St1 → Prop} {m : Nat} {os st vo he ns nm sl pa tr td ha cc fi wa se lc : Int32} {im lz lk lt ly ln nu ho wk wn pr go kk mf mt mn : Nat → Int32} (hE : tp_E P T D t N) (hR : tp_R P T D t N O0 nu0 cc0 s v h a d p x (os, st, vo, he, ns, nm, sl, pa, tr, td, ha, cc, fi, wa, se, lc, im, lz, lk, lt, ly, ln, nu, ho, wk, wn, pr, go, kk, mf, mt, mn)) (hm : m < 3) (hs : s = 2) (ha2 : a < 2) (h3 : tp_pg p m = 3) (hx : x.1 < 90000) (hl : x.2.1 < 90000)
    (h1 : T = 5 → a = 0 → m = D → ∀ u', tp_R P T D t N O0 nu0 cc0 s v h 1 d p x u' → post u') (h0 : ¬ (T = 5 ∧ a = 0 ∧ m = D) → ∀ u', tp_R P T D t N O0 nu0 cc0 s v h a d p (tp_send T x (6, m, 3)) u' → post u') : wX_hearCommit_66 post (nI m) os st vo he ns nm sl pa tr td ha cc fi wa se lc im lz lk lt ly ln nu ho wk wn pr go kk mf mt mn := by
  obtain ⟨e1, e2, e3, e4, e5, e6⟩ := id hE
  unfold wX_hearCommit_66
  refine tp_Wstrikes (w := 5) hR e5 e6 (by decide) hm ha2 (fun z1 z2 z3 u' hu' => ?_) (fun ne u' hu' => ?_)
  · obtain ⟨os1, st1, vo1, he1, ns1, nm1, sl1, pa1, tr1, td1, ha1, cc1, fi1, wa1, se1, lc1, im1, lz1, lk1, lt1, ly1, ln1, nu1, ho1, wk1, wn1, pr1, go1, kk1, mf1, mt1, mn1⟩ := u'
    refine br_f (by decide) (tp_WbreakDown hE hu' hm (by omega) (by omega) (by omega) (by omega) (fun r u2 h2 => ?_))
    rw [if_neg (by omega)] at h2
    exact h1 z1 z2 z3 u2 h2
  · obtain ⟨os1, st1, vo1, he1, ns1, nm1, sl1, pa1, tr1, td1, ha1, cc1, fi1, wa1, se1, lc1, im1, lz1, lk1, lt1, ly1, ln1, nu1, ho1, wk1, wn1, pr1, go1, kk1, mf1, mt1, mn1⟩ := u'
    exact br_t rfl (tp_Wsend (k := 6) (f := m) (g := 3) hu' e5 (by decide) (by omega) (by decide) (by omega) (by omega) (fun u2 h2 => h0 ne u2 h2))
theorem tp_Wcom {post : St1 → Prop} {m : Nat} (hE : tp_E P T D t N) (hR : tp_R P T D t N O0 nu0 cc0 s v h a d p x u) (hm : m < 3) (hs : s = 2) (ha2 : a < 2) (hd : d = 1) (h23 : tp_pg p m = 2 ∨ tp_pg p m = 3) (hx : x.1 < 90000) (hl : x.2.1 < 90000)
    (hp : ∀ u', tp_Rc P T D t N O0 nu0 cc0 (tp_com T D s v h a d p x m) u' → post u') : wpX_hearCommit post u (nI m) := by
  obtain ⟨e1, e2, e3, e4, e5, e6⟩ := id hE
  obtain ⟨os, st, vo, he, ns, nm, sl, pa, tr, td, ha, cc, fi, wa, se, lc, im, lz, lk, lt, ly, ln, nu, ho, wk, wn, pr, go, kk, mf, mt, mn⟩ := u
  unfold wpX_hearCommit
  dsimp only
  unfold tp_com at hp
  refine tp_Wstrikes (w := 4) hR e5 e6 (by decide) hm ha2 (fun z1 z2 z3 u' hu' => ?_) (fun ne u' hu' => ?_)
  · rw [if_pos ⟨z1, z2, z3⟩] at hp
    obtain ⟨os1, st1, vo1, he1, ns1, nm1, sl1, pa1, tr1, td1, ha1, cc1, fi1, wa1, se1, lc1, im1, lz1, lk1, lt1, ly1, ln1, nu1, ho1, wk1, wn1, pr1, go1, kk1, mf1, mt1, mn1⟩ := u'
    refine br_f (by decide) (tp_WbreakDown hE hu' hm (by omega) (by omega) (by omega) (by omega) (fun r u2 h2 => ?_))
    rw [if_neg (by omega)] at h2
    exact hp u2 h2
  · rw [if_neg ne] at hp
    have k1 : T = 5 → a = 0 → m = D → ∀ u', tp_R P T D t N O0 nu0 cc0 s v h 1 d (tp_ps p m 3) x u' → post u' := by
      intro z1 z2 z3 u' hu'
      rw [if_pos ⟨z1, z2, z3⟩] at hp
      exact hp u' hu'
    have k0 : ¬ (T = 5 ∧ a = 0 ∧ m = D) → ∀ u', tp_R P T D t N O0 nu0 cc0 s v h a d (tp_ps p m 3) (tp_send T x (6, m, 3)) u' → post u' := by
      intro z u' hu'
      rw [if_neg z] at hp
      exact hp u' hu'
    have k3 : tp_pg (tp_ps p m 3) m = 3 := by rw [tp_pgs hm hm, if_pos rfl]
    obtain ⟨os1, st1, vo1, he1, ns1, nm1, sl1, pa1, tr1, td1, ha1, cc1, fi1, wa1, se1, lc1, im1, lz1, lk1, lt1, ly1, ln1, nu1, ho1, wk1, wn1, pr1, go1, kk1, mf1, mt1, mn1⟩ := u'
    have hu0 := hu'
    obtain ⟨rfl, rfl, rfl, rfl, rfl, rfl, rfl, rfl, rfl, rfl, rfl, rfl, rfl, hQ, hDD⟩ := hu'
    have hD0 := hDD
    obtain ⟨O, rfl, d2, d3, d4, d5, d6, d7, d8, d9⟩ := hDD
    obtain ⟨⟨S, s1, s2, s3⟩, m2, m3, m4, m5⟩ := d7 m hm
    refine br_t rfl ⟨pk_in (t * 3 + m) 12 (by omega) (tp_t3m t m), ?_⟩
    dsimp only
    rw [tp_t3m, nI_clamp (show t * 3 + m < 2 ^ 31 by omega), m2]
    by_cases q : tp_pg p m = 2
    · rw [if_pos q]
      rw [q] at s1 s2
      have s1' : S ≤ 45 := s1
      have LW := s2.2.1
      refine br_t rfl (tp_log (m := m) (c := 3) (k := 0) (by omega) s2.1 (by omega) (by decide) (by decide) (nI N) 0 ?_)
      have AV : ∀ j y, tp_av (upd lk1 (m * 64 + S) (nI 3)) (upd lt1 (m * 64 + S) (nI N)) (upd ly1 (m * 64 + S) (nI 0)) (upd ln1 (m * 64 + S) 0) (m * 64) (nI N) j y (S + 1) = tp_av lk1 lt1 ly1 ln1 (m * 64) (nI N) j y S := fun j y => tp_av_done (by decide)
      have LM : tp_LM m (S + 1) N 0 im1 (upd lz1 m (nI (S + 1))) (upd lk1 (m * 64 + S) (nI 3)) (upd lt1 (m * 64 + S) (nI N)) (upd ly1 (m * 64 + S) (nI 0)) (upd ln1 (m * 64 + S) 0) (fun j => tp_av (upd lk1 (m * 64 + S) (nI 3)) (upd lt1 (m * 64 + S) (nI N)) (upd ly1 (m * 64 + S) (nI 0)) (upd ln1 (m * 64 + S) 0) (m * 64) (nI N) j (nu1 j) (S + 1)) :=
        tp_LM_app (c := 3) s2 (Nat.le_refl N) (Nat.le_refl N) (fun z => absurd z (by decide)) (by decide) (fun j _ _ => AV j _)
      refine tp_applyLogged (m := m) (S := S + 1) (N := N) (by omega) pk_us (by omega) LM.2.1 (nI N) ?_
      obtain ⟨W, w1, w2, w3⟩ := d2.2.2.1 t e1
      refine tp_releaseOn (tp_G_H4 d2) e1 hm w2 w1 (fun W' v1 v2 => ?_)
      refine tp_c66 (s := s) (d := d) (p := tp_ps p m 3) (x := x) (O0 := O0) (nu0 := nu0) hE ⟨rfl, rfl, rfl, rfl, rfl, rfl, rfl, rfl, rfl, rfl, rfl, rfl, rfl, hQ, tp_D_rel e1 hm (by omega) hD0 (S' := S + 1) (by omega) LM (tp_LF_app (by omega) (tp_LF_0 m)) (fun k hk hkm => ?_) (fun k hk => ?_) (fun z => absurd z (by omega)) w2 w1 v1 v2⟩ hm hs ha2 k3 hx hl k1 k0
      · exact tp_av_off LM.2.1 (Nat.le_refl _) (fun z => hkm z.2)
      · exact tp_av_in LM.2.1 (Nat.le_refl _) (d2.2.2.2.2 k hk)
    · rw [if_neg q]
      have q3 : tp_pg p m = 3 := by
        rcases h23 with z | z
        · exact absurd z q
        · exact z
      rw [tp_ps_id hm q3] at k1 k0
      exact br_f (tp_nN e2 e3) (tp_c66 hE hu0 hm hs ha2 q3 hx hl k1 k0)
theorem tp_Wref {post : St1 → Prop} {m : Nat} (hE : tp_E P T D t N) (hR : tp_R P T D t N O0 nu0 cc0 s v h a d p x u) (hm : m < 3) (hd : d < 2) (hx : x.1 < 90000) (hl : x.2.1 < 90000)
    (hp : ∀ u', tp_Rc P T D t N O0 nu0 cc0 (tp_ref T s v h a d p x m) u' → post u') : wpX_hearRefuse post u (nI m) := by
  obtain ⟨e1, e2, e3, e4, e5, e6⟩ := id hE
  obtain ⟨os1, st1, vo1, he1, ns1, nm1, sl1, pa1, tr1, td1, ha1, cc1, fi1, wa1, se1, lc1, im1, lz1, lk1, lt1, ly1, ln1, nu1, ho1, wk1, wn1, pr1, go1, kk1, mf1, mt1, mn1⟩ := u
  unfold wpX_hearRefuse
  dsimp only
  obtain ⟨rfl, rfl, rfl, rfl, rfl, rfl, rfl, rfl, rfl, rfl, rfl, rfl, rfl, hQ, hDD⟩ := hR
  have hD0 := hDD
  obtain ⟨O, rfl, d2, d3, d4, d5, d6, d7, d8, d9⟩ := hDD
  obtain ⟨⟨S, s1, s2, s3⟩, m2, m3, m4, m5⟩ := d7 m hm
  obtain ⟨W, w1, w2, w3⟩ := d2.2.2.1 t e1
  have core : ∀ S' lz' lk' lt' ly' ln', S' ≤ 46 → tp_LM m S' N 0 im1 lz' lk' lt' ly' ln' nu1 → tp_LF m lz1 lk1 lt1 ly1 ln1 lz' lk' lt' ly' ln' → wX_hearRefuse_32 post (nI m) (nI O) (nI s) (nI v) (nI h) (nI N) (nI N) (nI t) (nI P) (nI T) (nI D) (nI a) cc1 fi1 wa1 (nI x.1) (nI x.2.1) im1 lz' lk' lt' ly' ln' nu1 ho1 wk1 wn1 pr1 go1 kk1 mf1 mt1 mn1 := by
    intro S' lz' lk' lt' ly' ln' h46 hL hF
    unfold wX_hearRefuse_32
    refine tp_releaseOn (tp_G_H4 d2) e1 hm w2 w1 (fun W' v1 v2 => ?_)
    exact tp_Wsend (k := 6) (f := m) (g := 3) (s := s) (d := d) (p := tp_ps p m 3) (x := x) (P := P) (D := D) (O0 := O0) (nu0 := nu0) ⟨rfl, rfl, rfl, rfl, rfl, rfl, rfl, rfl, rfl, rfl, rfl, rfl, rfl, hQ, tp_D_rel e1 hm hd hD0 h46 hL hF (fun _ _ _ => rfl) d2.2.2.2.2 d5 w2 w1 v1 v2⟩ e5 (by decide) (by omega) (by decide) (by omega) (by omega) (fun u2 h2 => hp u2 h2)
  refine ⟨pk_in (t * 3 + m) 12 (by omega) (tp_t3m t m), ?_⟩
  rw [tp_t3m, nI_clamp (show t * 3 + m < 2 ^ 31 by omega), m2]
  by_cases q : tp_pg p m = 2
  · rw [if_pos q]
    rw [q] at s1 s2
    have s1' : S ≤ 45 := s1
    refine br_t rfl (tp_log (m := m) (c := 4) (k := 0) (by omega) s2.1 (by omega) (by decide) (by decide) (nI N) 0 ?_)
    refine core (S + 1) _ _ _ _ _ (by omega) ?_ (tp_LF_app (by omega) (tp_LF_0 m))
    exact tp_LM_app (c := 4) s2 (Nat.le_refl N) (Nat.le_refl N) (fun z => absurd z (by decide)) (by decide) (fun _ _ _ => rfl)
  · rw [if_neg q]
    rw [if_neg q] at s2
    have hS : S ≤ 46 := by
      split at s1
      · omega
      · exact s1
    exact br_f (tp_nN e2 e3) (core S _ _ _ _ _ hS s2 (tp_LF_0 m))
end
end
section
/-! 14: the leader hears; a message is delivered -/
theorem tp_v8 : ∀ v, v < 8 → ∀ f, f < 3 → v ||| 2 ^ f < 8 := by decide +kernel
section
variable {P T D t N O0 : Nat} {nu0 : Nat → Int32} {cc0 : Int32} {s v h a d : Nat} {p : tp_Ph} {x : tp_Ch} {u : St1}
theorem tp_D_s {s' : Nat} {os : Int32} {im lz lk lt ly ln nu ho wk wn pr go : Nat → Int32} (hs' : s' ≠ 1) (hD : tp_D t N O0 nu0 s d p os im lz lk lt ly ln nu ho wk wn pr go) : tp_D t N O0 nu0 s' d p os im lz lk lt ly ln nu ho wk wn pr go := by
  obtain ⟨O, d1, d2, d3, d4, d5, d6, d7, d8, d9⟩ := hD
  exact ⟨O, d1, d2, d3, d4, d5, d6, fun j hj => tp_M_keep (d7 j hj) rfl (fun _ _ => ⟨rfl, rfl, rfl, rfl⟩) (fun _ _ _ => rfl) rfl rfl (fun _ _ _ z => z) (fun z => absurd z hs'), d8, d9⟩
theorem tp_d125 {post : St1 → Prop} {os st vo he ns nm sl pa tr td ha cc fi wa se lc : Int32} {im lz lk lt ly ln nu ho wk wn pr go kk mf mt mn : Nat → Int32} (hE : tp_E P T D t N) (hR : tp_R P T D t N O0 nu0 cc0 2 v h a d p x (os, st, vo, he, ns, nm, sl, pa, tr, td, ha, cc, fi, wa, se, lc, im, lz, lk, lt, ly, ln, nu, ho, wk, wn, pr, go, kk, mf, mt, mn)) (hv : v < 8) (hh : h < 8) (hx : x.1 < 90000) (hl : x.2.1 < 90000)
    (hp : ∀ u', tp_R P T D t N O0 nu0 cc0 2 v h a d p (tp_rem P T 2 v h p x) u' → post u') : wX_decideIfReady_125 post os st vo he ns nm sl pa tr td ha cc fi wa se lc im lz lk lt ly ln nu ho wk wn pr go kk mf mt mn := by
  obtain ⟨e1, e2, e3, e4, e5, e6⟩ := hE
  unfold wX_decideIfReady_125
  exact tp_Wremind hR e1 e2 e3 e4 e5 (by decide) hv hh hx hl (fun u' hu' => hp u' hu')
theorem tp_d64 {post : St1 → Prop} {os st vo he ns nm sl pa tr td ha cc fi wa se lc : Int32} {im lz lk lt ly ln nu ho wk wn pr go kk mf mt mn : Nat → Int32} (hE : tp_E P T D t N) (hR : tp_R P T D t N O0 nu0 cc0 2 v h a 1 p x (os, st, vo, he, ns, nm, sl, pa, tr, td, ha, cc, fi, wa, se, lc, im, lz, lk, lt, ly, ln, nu, ho, wk, wn, pr, go, kk, mf, mt, mn)) (hAA : a < 2) (hv : v < 8) (hh : h < 8) (hx : x.1 < 90000) (hl : x.2.1 < 90000) (hph : P.testBit D = false → tp_pg p D = 3)
    (hp : ∀ u', tp_Rc P T D t N O0 nu0 cc0 (tp_dec2 P T D v h a p x) u' → post u') : wX_decideIfReady_64 post os st vo he ns nm sl pa tr td ha cc fi wa se lc im lz lk lt ly ln nu ho wk wn pr go kk mf mt mn := by
  obtain ⟨e1, e2, e3, e4, e5, e6⟩ := id hE
  have hR0 := hR
  obtain ⟨rfl, rfl, rfl, rfl, rfl, rfl, rfl, rfl, rfl, rfl, rfl, rfl, rfl, hQ, hDD⟩ := hR
  unfold wX_decideIfReady_64
  unfold tp_dec2 at hp
  have n95 : ¬ (P.testBit D = false ∧ (T = 4 ∨ T = 5) ∧ a = 0) → wX_decideIfReady_95 post os (nI 2) (nI v) (nI h) (nI N) (nI N) (nI t) (nI P) (nI T) (nI D) (nI a) cc fi wa (nI x.1) (nI x.2.1) im lz lk lt ly ln nu ho wk wn pr go kk mf mt mn := by
    intro hn
    rw [if_neg hn] at hp
    unfold wX_decideIfReady_95 wX_decideIfReady_96
    exact br_t rfl (tp_d125 hE hR0 hv hh hx hl (fun u' hu' => hp u' hu'))
  have y91 : P.testBit D = false → (T = 4 ∨ T = 5) → wX_decideIfReady_91 post os (nI 2) (nI v) (nI h) (nI N) (nI N) (nI t) (nI P) (nI T) (nI D) (nI a) cc fi wa (nI x.1) (nI x.2.1) im lz lk lt ly ln nu ho wk wn pr go kk mf mt mn := by
    intro hb hT
    unfold wX_decideIfReady_91 wX_decideIfReady_96
    refine br_f (by decide) (tp_Wstrikes (w := T) (m := D) hR0 e5 e6 e5 e6 hAA (fun _ z2 _ u' hu' => ?_) (fun ne u' hu' => ?_))
    · rw [if_pos ⟨hb, hT, z2⟩] at hp
      have h3 := hph hb
      obtain ⟨os1, st1, vo1, he1, ns1, nm1, sl1, pa1, tr1, td1, ha1, cc1, fi1, wa1, se1, lc1, im1, lz1, lk1, lt1, ly1, ln1, nu1, ho1, wk1, wn1, pr1, go1, kk1, mf1, mt1, mn1⟩ := u'
      have eD : td1 = nI D := hu'.2.2.2.2.2.2.2.2.1
      subst eD
      refine br_f (by decide) ?_
      refine tp_WbreakDown (s := 2) (m := D) (p := p) hE hu' e6 (by decide) (by decide) (by omega) (by omega) (fun r u2 h2 => ?_)
      rw [if_neg (by omega)] at h2
      obtain ⟨os2, st2, vo2, he2, ns2, nm2, sl2, pa2, tr2, td2, ha2, cc2, fi2, wa2, se2, lc2, im2, lz2, lk2, lt2, ly2, ln2, nu2, ho2, wk2, wn2, pr2, go2, kk2, mf2, mt2, mn2⟩ := u2
      exact tp_d125 hE h2 hv hh hx hl (fun u' hu' => hp u' hu')
    · rw [if_neg (fun z => ne ⟨rfl, z.2.2, rfl⟩)] at hp
      obtain ⟨os1, st1, vo1, he1, ns1, nm1, sl1, pa1, tr1, td1, ha1, cc1, fi1, wa1, se1, lc1, im1, lz1, lk1, lt1, ly1, ln1, nu1, ho1, wk1, wn1, pr1, go1, kk1, mf1, mt1, mn1⟩ := u'
      exact br_t rfl (tp_d125 hE hu' hv hh hx hl (fun u' hu' => hp u' hu'))
  refine tp_isPart e4 e6 (fun hb => br_t rfl ?_) (fun hb => br_f (by decide) (n95 (fun z => absurd (hb.symm.trans z.1) (by decide))))
  refine pk_eq T 4 (fun z => y91 hb (Or.inl z)) (fun z4 => pk_eq T 5 (fun z => y91 hb (Or.inr z)) (fun z5 => n95 (fun z => ?_)))
  rcases z.2.1 with y | y
  · exact z4 y
  · exact z5 y
theorem tp_Wdecide {post : St1 → Prop} (hE : tp_E P T D t N) (hR : tp_R P T D t N O0 nu0 cc0 s v h a d p x u) (hs : s = 1) (hd : d = 0) (hAA : a < 2) (hv : v < 8) (hh : h < 8) (hx : x.1 < 90000) (hl : x.2.1 < 90000) (hph : P.testBit D = false → tp_pg p D = 3)
    (hp : ∀ u', tp_Rc P T D t N O0 nu0 cc0 (tp_dec P T D s v h a d p x) u' → post u') : wpX_decideIfReady post u := by
  obtain ⟨e1, e2, e3, e4, e5, e6⟩ := id hE
  obtain ⟨os, st, vo, he, ns, nm, sl, pa, tr, td, ha, cc, fi, wa, se, lc, im, lz, lk, lt, ly, ln, nu, ho, wk, wn, pr, go, kk, mf, mt, mn⟩ := u
  have hR0 := hR
  obtain ⟨rfl, rfl, rfl, rfl, rfl, rfl, rfl, rfl, rfl, rfl, rfl, rfl, rfl, hQ, hDD⟩ := hR
  unfold wpX_decideIfReady
  dsimp only
  unfold tp_dec at hp
  refine pk_eq v P (fun ev => ?_) (fun ev => ?_)
  rotate_left 1
  · rw [if_neg ev] at hp
    exact hp _ hR0
  rw [if_pos ev] at hp
  subst hd
  refine tp_Wstrikes (w := 2) (m := D) hR0 e5 e6 (by decide) e6 hAA (fun z1 z2 _ u' hu' => ?_) (fun ne u' hu' => ?_)
  · rw [if_pos ⟨z1, z2⟩] at hp
    obtain ⟨os1, st1, vo1, he1, ns1, nm1, sl1, pa1, tr1, td1, ha1, cc1, fi1, wa1, se1, lc1, im1, lz1, lk1, lt1, ly1, ln1, nu1, ho1, wk1, wn1, pr1, go1, kk1, mf1, mt1, mn1⟩ := u'
    refine br_f (by decide) (tp_WbreakLeader hE hu' (by omega) (by omega) (by decide) (fun r u2 h2 => ?_))
    rw [if_neg (by decide)] at h2
    exact hp u2 h2
  · rw [if_neg (fun z => ne ⟨z.1, z.2, rfl⟩)] at hp
    obtain ⟨os1, st1, vo1, he1, ns1, nm1, sl1, pa1, tr1, td1, ha1, cc1, fi1, wa1, se1, lc1, im1, lz1, lk1, lt1, ly1, ln1, nu1, ho1, wk1, wn1, pr1, go1, kk1, mf1, mt1, mn1⟩ := u'
    obtain ⟨rfl, rfl, rfl, rfl, rfl, rfl, rfl, rfl, rfl, rfl, rfl, rfl, rfl, hQ1, hD1⟩ := hu'
    obtain ⟨O, o1, o2, o3, o4, o5, o6, o7, o8, o9⟩ := id hD1
    obtain ⟨S, s1, s2, s3, s4, s5⟩ := o6
    refine br_t rfl (tp_log (m := 3) (c := 5) (k := 0) (by decide) s2 (by omega) (by decide) (by decide) (nI N) 0 ?_)
    refine tp_Wstrikes (w := 3) (m := D) (P := P) (t := t) (N := N) (O0 := O0) (nu0 := nu0) (s := 2) (v := v) (h := h) (d := 1) (p := p) (x := x) ⟨rfl, rfl, rfl, rfl, rfl, rfl, rfl, rfl, rfl, rfl, rfl, rfl, rfl, hQ1, tp_D_dec (s' := 2) (by decide) hD1 s2 (by omega)⟩ e5 e6 (by decide) e6 hAA (fun z1 z2 _ u2 h2 => ?_) (fun ne2 u2 h2 => ?_)
    · rw [if_pos ⟨z1, z2⟩] at hp
      obtain ⟨os2, st2, vo2, he2, ns2, nm2, sl2, pa2, tr2, td2, ha2, cc2, fi2, wa2, se2, lc2, im2, lz2, lk2, lt2, ly2, ln2, nu2, ho2, wk2, wn2, pr2, go2, kk2, mf2, mt2, mn2⟩ := u2
      refine br_f (by decide) (tp_WbreakLeader hE h2 (by decide) (by decide) (by decide) (fun r u3 h3 => ?_))
      rw [if_pos rfl] at h3
      obtain ⟨os3, st3, vo3, he3, ns3, nm3, sl3, pa3, tr3, td3, ha3, cc3, fi3, wa3, se3, lc3, im3, lz3, lk3, lt3, ly3, ln3, nu3, ho3, wk3, wn3, pr3, go3, kk3, mf3, mt3, mn3⟩ := u3
      exact tp_d64 hE h3 (by decide) (by decide) (by decide) hx hl hph hp
    · rw [if_neg (fun z => ne2 ⟨z.1, z.2, rfl⟩)] at hp
      obtain ⟨os2, st2, vo2, he2, ns2, nm2, sl2, pa2, tr2, td2, ha2, cc2, fi2, wa2, se2, lc2, im2, lz2, lk2, lt2, ly2, ln2, nu2, ho2, wk2, wn2, pr2, go2, kk2, mf2, mt2, mn2⟩ := u2
      exact br_t rfl (tp_d64 hE h2 hAA hv hh hx hl hph hp)
theorem tp_Wlead {post : St1 → Prop} {k f : Nat} (hE : tp_E P T D t N) (hR : tp_R P T D t N O0 nu0 cc0 s v h a d p x u) (hk : k < 8) (hf : f < 3) (hs0 : 0 < s) (hs4 : s < 4) (hsd : s = 1 → d = 0) (hd : d < 2) (hAA : a < 2) (hv : v < 8) (hh : h < 8) (hx : x.1 < 90000) (hl : x.2.1 < 90000) (hph : P.testBit D = false → tp_pg p D = 3)
    (hp : ∀ u', tp_Rc P T D t N O0 nu0 cc0 (tp_lead P T D s v h a d p x k f) u' → post u') : wpX_hearAsLeader post u (nI k) (nI f) := by
  obtain ⟨e1, e2, e3, e4, e5, e6⟩ := id hE
  obtain ⟨os, st, vo, he, ns, nm, sl, pa, tr, td, ha, cc, fi, wa, se, lc, im, lz, lk, lt, ly, ln, nu, ho, wk, wn, pr, go, kk, mf, mt, mn⟩ := u
  have hR0 := hR
  obtain ⟨rfl, rfl, rfl, rfl, rfl, rfl, rfl, rfl, rfl, rfl, rfl, rfl, rfl, hQ, hDD⟩ := hR
  obtain ⟨O, rfl, d2, d3, d4, d5, d6, d7, d8, d9⟩ := id hDD
  unfold wpX_hearAsLeader
  dsimp only
  unfold tp_lead at hp
  have L90 : ¬ (k = 2 ∧ s = 1) → ¬ (k = 3 ∧ s = 1) → ¬ (k = 6 ∧ (s = 2 ∨ s = 3)) → wX_hearAsLeader_90 post (nI k) (nI f) (nI O) (nI s) (nI v) (nI h) (nI N) (nI N) (nI t) (nI P) (nI T) (nI D) (nI a) cc fi wa (nI x.1) (nI x.2.1) im lz lk lt ly ln nu ho wk wn pr go kk mf mt mn := by
    intro n1 n2 n3
    rw [if_neg n1, if_neg n2, if_neg n3] at hp
    unfold wX_hearAsLeader_90
    refine pk_eq k 7 (fun e => ?_) (fun e => ?_)
    · rw [if_pos e] at hp
      obtain ⟨S, s1, s2, s3, s4, s5⟩ := d6
      refine tp_isLogged (m := 3) (S := S) (by decide) s2 (by omega) 5 (nI N) (fun q => br_t rfl ?_) (fun q => br_f (by decide) ?_)
      · have ed : ¬ d = 1 := by
          intro z
          obtain ⟨i, i1, i2, i3⟩ := s4 z
          exact q i i1 i2 i3
        rw [if_neg ed] at hp
        unfold wX_hearAsLeader_117
        exact tp_Wsend (k := 5) (f := 3) (g := f) hR0 e5 (by decide) (by decide) (by omega) (by omega) (by omega) (fun u' hu' => hp u' hu')
      · have ed : d = 1 := by
          rcases (by omega : d = 0 ∨ d = 1) with z | z
          · obtain ⟨i, i1, i2, i3⟩ := q
            exact absurd i3 (s3 z i i1 i2)
          · exact z
        rw [if_pos ed] at hp
        unfold wX_hearAsLeader_117
        exact tp_Wsend (k := 4) (f := 3) (g := f) hR0 e5 (by decide) (by decide) (by omega) (by omega) (by omega) (fun u' hu' => hp u' hu')
    · rw [if_neg e] at hp
      exact hp _ hR0
  have L75 : k = 6 → (s = 2 ∨ s = 3) → wX_hearAsLeader_75 post (nI f) (nI O) (nI s) (nI v) (nI h) (nI N) (nI N) (nI t) (nI P) (nI T) (nI D) (nI a) cc fi wa (nI x.1) (nI x.2.1) im lz lk lt ly ln nu ho wk wn pr go kk mf mt mn := by
    intro z1 z2
    rw [if_neg (fun z => absurd z.1 (by omega)), if_neg (fun z => absurd z.1 (by omega)), if_pos ⟨z1, z2⟩] at hp
    unfold wX_hearAsLeader_75
    refine nm_r (e' := nI (h ||| 2 ^ f)) (by rw [tp_one f (by omega), tp_nor]) (hp _ ⟨rfl, rfl, rfl, rfl, rfl, rfl, rfl, rfl, rfl, rfl, rfl, rfl, rfl, hQ, hDD⟩)
  have L53 : ¬ (k = 2 ∧ s = 1) → ¬ (k = 3 ∧ s = 1) → wX_hearAsLeader_53 post (nI k) (nI f) (nI O) (nI s) (nI v) (nI h) (nI N) (nI N) (nI t) (nI P) (nI T) (nI D) (nI a) cc fi wa (nI x.1) (nI x.2.1) im lz lk lt ly ln nu ho wk wn pr go kk mf mt mn := by
    intro n1 n2
    unfold wX_hearAsLeader_53
    refine pk_eq k 6 (fun z6 => ?_) (fun z6 => L90 n1 n2 (fun z => z6 z.1))
    refine pk_eq s 2 (fun y => L75 z6 (Or.inl y)) (fun y2 => pk_eq s 3 (fun y => L75 z6 (Or.inr y)) (fun y3 => L90 n1 n2 (fun z => ?_)))
    rcases z.2 with w | w
    · exact y2 w
    · exact y3 w
  have L32 : ¬ (k = 2 ∧ s = 1) → wX_hearAsLeader_32 post (nI k) (nI f) (nI O) (nI s) (nI v) (nI h) (nI N) (nI N) (nI t) (nI P) (nI T) (nI D) (nI a) cc fi wa (nI x.1) (nI x.2.1) im lz lk lt ly ln nu ho wk wn pr go kk mf mt mn := by
    intro n1
    unfold wX_hearAsLeader_32
    refine pk_eq k 3 (fun z3 => ?_) (fun z3 => L53 n1 (fun z => z3 z.1))
    refine pk_eq s 1 (fun y => ?_) (fun y => L53 n1 (fun z => y z.2))
    rw [if_neg n1, if_pos ⟨z3, y⟩] at hp
    exact hp _ ⟨rfl, rfl, rfl, rfl, rfl, rfl, rfl, rfl, rfl, rfl, rfl, rfl, rfl, hQ, tp_D_s (s' := 3) (by decide) hDD⟩
  refine pk_eq k 2 (fun z2 => ?_) (fun z2 => L32 (fun z => z2 z.1))
  refine pk_eq s 1 (fun y => ?_) (fun y => L32 (fun z => y z.2))
  rw [if_pos ⟨z2, y⟩] at hp
  refine nm_r (e' := nI (v ||| 2 ^ f)) (by rw [tp_one f (by omega), tp_nor]) ?_
  exact tp_Wdecide (v := v ||| 2 ^ f) hE ⟨rfl, rfl, rfl, rfl, rfl, rfl, rfl, rfl, rfl, rfl, rfl, rfl, rfl, hQ, hDD⟩ y (hsd y) hAA (tp_v8 v hv f hf) hh hx hl hph (fun u' hu' => hp u' hu')
theorem tp_Wdeliver {post : St1 → Prop} {n l : Nat} {y : tp_Ms} {q : List tp_Ms} (hE : tp_E P T D t N) (hR : tp_R P T D t N O0 nu0 cc0 s v h a d p (n, l, y :: q) u) (hs0 : 0 < s) (hs4 : s < 4) (hsd : s = 1 → d = 0) (hd : d < 2) (hAA : a < 2) (hv : v < 8) (hh : h < 8) (hx : n < 90000) (hl : l < 90000) (hph : P.testBit D = false → tp_pg p D = 3) (hok : tp_okM T D s a d p y = true)
    (hp : ∀ u', tp_Rc P T D t N O0 nu0 cc0 (tp_hear P T D s v h a d p (n, l, q) y) u' → post u') : wpX_deliver post u := by
  obtain ⟨k, f, g⟩ := y
  obtain ⟨os, st, vo, he, ns, nm, sl, pa, tr, td, ha, cc, fi, wa, se, lc, im, lz, lk, lt, ly, ln, nu, ho, wk, wn, pr, go, kk, mf, mt, mn⟩ := u
  obtain ⟨rfl, rfl, rfl, rfl, rfl, rfl, rfl, rfl, rfl, rfl, rfl, rfl, rfl, hQ, hDD⟩ := hR
  obtain ⟨f0, f1, rfl, rfl, f4, f5⟩ := hQ
  have q0 := f5 0 (k, f, g) rfl
  rw [show (f0 + 0) % 64 = f0 by omega] at q0
  obtain ⟨q1, q2, q3, q4⟩ := q0
  dsimp only at q1 q2 q3
  have f4' : q.length + 1 ≤ 64 := f4
  have hQ' : tp_Q (nI ((f0 + 1) % 64)) (nI q.length) kk mf mt mn (nI N) q := by
    refine ⟨(f0 + 1) % 64, by omega, rfl, rfl, by omega, fun i z hz => ?_⟩
    have := f5 (i + 1) z hz
    rw [show ((f0 + 1) % 64 + i) % 64 = (f0 + (i + 1)) % 64 by omega]
    exact this
  unfold wpX_deliver
  dsimp only
  unfold tp_hear at hp
  dsimp only at hp
  unfold tp_okM at hok
  dsimp only at hok
  refine ⟨by decide, nm_r (e' := nI ((f0 + 1) % 64)) ?_ (nm_r (e' := nI q.length) (nI_pred q.length) ⟨pk_in f0 64 f1, ?_⟩)⟩
  · rw [nI_1]; exact pk_rem (by omega) (by decide) (by decide)
  rw [nI_clamp (show f0 < 2 ^ 31 by omega), q1, q2, q3, q4]
  refine br_t rfl ⟨pk_in f0 64 f1, nm_e ⟨pk_in f0 64 f1, ?_⟩⟩
  have hR' : tp_R P T D t N O0 nu0 cc s v h a d p (n, l, q) (os, nI s, nI v, nI h, nI N, nI N, nI t, nI P, nI T, nI D, nI a, cc, nI ((f0 + 1) % 64), nI q.length, nI n, nI l, im, lz, lk, lt, ly, ln, nu, ho, wk, wn, pr, go, kk, mf, mt, mn) := ⟨rfl, rfl, rfl, rfl, rfl, rfl, rfl, rfl, rfl, rfl, rfl, rfl, rfl, hQ', hDD⟩
  by_cases e3 : g = 3
  · rw [if_pos e3] at hp hok
    have hk := of_decide_eq_true hok
    exact br_t (by rw [e3]; rfl) ⟨pk_in f0 64 f1, tp_Wlead hE hR' hk.1 hk.2 hs0 hs4 hsd hd hAA hv hh hx hl hph (fun u' hu' => hp u' hu')⟩
  · rw [if_neg e3] at hp hok
    rw [Bool.and_eq_true] at hok
    obtain ⟨hk1, hk2⟩ := hok
    obtain ⟨k1, k2, k3⟩ := of_decide_eq_true hk1
    refine br_f (fun z => e3 ((nI_eq (a := g) (b := 3) (by omega) (by decide)).mp z)) ⟨pk_in f0 64 f1, pk_in f0 64 f1, ?_⟩
    unfold wpX_hearAsMachine
    dsimp only
    refine pk_eq k 1 (fun z1 => ?_) (fun z1 => pk_eq k 4 (fun z4 => ?_) (fun z4 => ?_))
    · rw [if_pos z1] at hp hk2
      obtain ⟨w1, w2, w3⟩ := of_decide_eq_true hk2
      exact tp_Wprep hE hR' k3 w1 hAA hd w2 w3 hx hl (fun u' hu' => hp u' hu')
    · rw [if_neg z1, if_pos z4] at hp hk2
      obtain ⟨w1, w2, w3⟩ := of_decide_eq_true hk2
      exact tp_Wcom hE hR' k3 w1 hAA w2 w3 hx hl (fun u' hu' => hp u' hu')
    · rw [if_neg z1, if_neg z4] at hp
      exact tp_Wref hE hR' k3 hd hx hl (fun u' hu' => hp u' hu')
end
end
section
/-! 15: a commit begins; a commit ends -/
/-- between turns: N names so far, O begun -/
def tp_Bs (N O : Nat) (u : St1) : Prop :=
  match u with
  | (os, st, vo, he, ns, nm, sl, pa, tr, td, ha, cc, fi, wa, se, lc, im, lz, lk, lt, ly, ln, nu, ho, wk, wn, pr, go, kk, mf, mt, mn) => st = 0 ∧ ns = nI N ∧ os = nI O ∧ tp_G O ho wk wn nu ∧ (∀ m, m < 3 → ∃ S, S ≤ 40 ∧ tp_LM m S N 0 im lz lk lt ly ln nu) ∧ (∃ S, S ≤ 40 ∧ lz 3 = nI S ∧ ∀ i, i < S → ∃ t, t ≤ N ∧ lt (192 + i) = nI t) ∧ (∀ j, j < 12 → pr j = 0) ∧ (∀ b, b < 4 → O.testBit b = true → ∀ m, m < 3 → go (b * 3 + m) = 0)
def tp_ccf (u : St1) : Int32 := match u with | (os, st, vo, he, ns, nm, sl, pa, tr, td, ha, cc, fi, wa, se, lc, im, lz, lk, lt, ly, ln, nu, ho, wk, wn, pr, go, kk, mf, mt, mn) => cc
def tp_nuf (u : St1) : Nat → Int32 := match u with | (os, st, vo, he, ns, nm, sl, pa, tr, td, ha, cc, fi, wa, se, lc, im, lz, lk, lt, ly, ln, nu, ho, wk, wn, pr, go, kk, mf, mt, mn) => nu
section
variable {os st vo he ns nm sl pa tr td ha cc fi wa se lc : Int32} {im lz lk lt ly ln nu ho wk wn pr go kk mf mt mn : Nat → Int32}
theorem tp_startCommit {post : St1 → Prop} {t N : Nat} (h4 : tp_H4 ho) (ht : t < 4)
    (h : ∀ P, P < 8 → (∀ m, m < 3 → (P.testBit m = true ↔ ∃ k, k < 12 ∧ k % 3 = m ∧ ho k = nI t)) → post (os, nI 1, nI 0, nI 0, nI (N + 1), nI (N + 1), nI t, nI P, tr, td, nI 0, cc, nI 0, nI 0, nI 0, nI 0, im, lz, lk, lt, ly, ln, nu, ho, wk, wn, pr, go, kk, mf, mt, mn)) : wpX_startCommit post (os, st, vo, he, nI N, nm, sl, pa, tr, td, ha, cc, fi, wa, se, lc, im, lz, lk, lt, ly, ln, nu, ho, wk, wn, pr, go, kk, mf, mt, mn) (nI t) := by
  unfold wpX_startCommit
  dsimp only
  refine nm_r (nI_1 N) ?_
  refine pk_loop (σ := Int32) (fun n i x => wX_startCommit_30 post (nI t) os st vo he (nI (N + 1)) (nI (N + 1)) (nI t) tr td ha cc fi wa se lc im lz lk lt ly ln nu ho wk wn pr go kk mf mt mn n (nI i) x) (fun i x => ∃ P, P < 8 ∧ x = nI P ∧ ∀ m, m < 3 → (P.testBit m = true ↔ m < i ∧ ∃ k, k < 12 ∧ k % 3 = m ∧ ho k = nI t)) 3 0 0 (by omega) ⟨0, by decide, rfl, fun m _ => ?_⟩ ?_ ?_
  · rw [Nat.zero_testBit]
    constructor
    · intro z; exact absurd z (by decide)
    · intro z; omega
  · intro n x hI
    obtain ⟨P, p1, p2, p3⟩ := hI
    subst p2
    refine pk_le 3 3 (fun _ => h P p1 (fun m hm => ?_)) (fun z => absurd z (by omega))
    rw [p3 m hm]
    exact ⟨fun z => z.2, fun z => ⟨hm, z⟩⟩
  · intro n i x hi hI hw
    obtain ⟨P, p1, p2, p3⟩ := hI
    subst p2
    refine pk_le 3 i (fun z => absurd z (by omega)) (fun _ => ?_)
    refine tp_holdersOn hi h4 (fun H h16 hH => ?_)
    refine br_c (fun z => nm_r (e' := nI P) (by have q := tp_nor P 0; rw [Nat.or_zero] at q; exact q) (nm_r (nI_1 i) (hw _ ⟨P, p1, rfl, fun m hm => ?_⟩))) (fun z => nm_r (e' := nI (P ||| 2 ^ i)) (by rw [tp_one i (by omega), tp_nor]) (nm_r (nI_1 i) (hw _ ⟨P ||| 2 ^ i, tp_v8 P p1 i hi, rfl, fun m hm => ?_⟩)))
    · have hb := (tp_bit (by omega) (by omega)).mp z
      rw [p3 m hm]
      constructor
      · rintro ⟨y1, y2⟩; exact ⟨by omega, y2⟩
      · rintro ⟨y1, y2⟩
        refine ⟨?_, y2⟩
        rcases Nat.lt_or_ge m i with w | w
        · exact w
        · have e : m = i := by omega
          subst e
          rw [(hH t ht).mpr y2] at hb
          exact absurd hb (by decide)
    · have hb := (tp_bit1 (by omega) (by omega)).mp z
      rw [Nat.testBit_or, Nat.testBit_two_pow, Bool.or_eq_true, p3 m hm]
      constructor
      · rintro (⟨y1, y2⟩ | y)
        · exact ⟨by omega, y2⟩
        · have e : i = m := of_decide_eq_true y
          subst e
          exact ⟨by omega, (hH t ht).mp hb⟩
      · rintro ⟨y1, y2⟩
        by_cases e : i = m
        · right; exact decide_eq_true e
        · left; exact ⟨by omega, y2⟩
theorem tp_shortenLogs {post : St1 → Prop} {N : Nat} (hL : ∀ m, m < 3 → ∃ S, S ≤ 63 ∧ tp_LM m S N 0 im lz lk lt ly ln nu) (h3 : ∃ S, S ≤ 63 ∧ lz 3 = nI S ∧ ∀ i, i < S → ∃ t, t ≤ N ∧ lt (192 + i) = nI t)
    (h : ∀ im' lz', (∀ m, m < 3 → ∃ S, S ≤ 40 ∧ tp_LM m S N 0 im' lz' lk lt ly ln nu) → (∃ S, S ≤ 40 ∧ lz' 3 = nI S ∧ ∀ i, i < S → ∃ t, t ≤ N ∧ lt (192 + i) = nI t) → post (os, st, vo, he, ns, nm, sl, pa, tr, td, ha, cc, fi, wa, se, lc, im', lz', lk, lt, ly, ln, nu, ho, wk, wn, pr, go, kk, mf, mt, mn)) : wpX_shortenLogs post (os, st, vo, he, ns, nm, sl, pa, tr, td, ha, cc, fi, wa, se, lc, im, lz, lk, lt, ly, ln, nu, ho, wk, wn, pr, go, kk, mf, mt, mn) := by
  unfold wpX_shortenLogs
  dsimp only
  refine pk_loop (σ := (Nat → Int32) × (Nat → Int32)) (fun n i x => wX_shortenLogs_2 post os st vo he ns nm sl pa tr td ha cc fi wa se lc n (nI i) x.1 x.2 lk lt ly ln nu ho wk wn pr go kk mf mt mn) (fun i x => (∀ m, m < 3 → ∃ S, (m < i → S ≤ 40) ∧ S ≤ 63 ∧ tp_LM m S N 0 x.1 x.2 lk lt ly ln nu) ∧ x.2 3 = lz 3) 3 0 (im, lz) (by omega) ⟨fun m hm => ?_, rfl⟩ ?_ ?_
  · obtain ⟨S, s1, s2⟩ := hL m hm
    exact ⟨S, fun z => absurd z (by omega), s1, s2⟩
  · rintro n ⟨im1, lz1⟩ hI
    dsimp only at hI ⊢
    obtain ⟨i1, i2⟩ := hI
    obtain ⟨S, s1, s2, s3⟩ := h3
    refine pk_le 3 3 (fun _ => ?_) (fun z => absurd z (by omega))
    refine pk_le S 40 (fun z => h im1 lz1 (fun m hm => ?_) ⟨S, z, i2.trans s2, s3⟩) (fun z => nm_e (h im1 (upd lz1 3 0) (fun m hm => ?_) ⟨0, by omega, pk_us, fun i hi => absurd hi (by omega)⟩)) (i2.trans s2)
    · obtain ⟨S', t1, _, t2⟩ := i1 m hm
      exact ⟨S', t1 hm, t2⟩
    · obtain ⟨S', t1, _, t2⟩ := i1 m hm
      exact ⟨S', t1 hm, tp_LM_c t2 (Nat.le_refl N) (pk_un (by omega)) (fun _ _ => ⟨rfl, rfl, rfl, rfl⟩) (fun _ _ _ => rfl) (fun _ _ _ => rfl)⟩
  · rintro n i ⟨im1, lz1⟩ hi hI hw
    dsimp only at hI ⊢
    obtain ⟨i1, i2⟩ := hI
    obtain ⟨S, s1, s2, s3⟩ := i1 i hi
    refine pk_le 3 i (fun z => absurd z (by omega)) (fun _ => ⟨pk_in i 4 (by omega), ?_⟩)
    rw [nI_clamp (show i < 2 ^ 31 by omega), s3.1]
    refine pk_le S 40 (fun z => nm_r (nI_1 i) (hw (im1, lz1) ⟨fun m hm => ?_, i2⟩)) (fun z => ?_)
    · by_cases e : m = i
      · subst e; exact ⟨S, fun _ => z, s2, s3⟩
      · obtain ⟨S', t1, t2, t3⟩ := i1 m hm
        exact ⟨S', fun y => t1 (by omega), t2, t3⟩
    · refine pk_loop (σ := Nat → Int32) (fun n' j x => wX_shortenLogs_20 post (wX_shortenLogs_2 post os st vo he ns nm sl pa tr td ha cc fi wa se lc n) (nI i) os st vo he ns nm sl pa tr td ha cc fi wa se lc n' (nI (i + 3 * j)) x lz1 lk lt ly ln nu ho wk wn pr go kk mf mt mn) (fun j x => x = fun k => if k < i + 3 * j ∧ k % 3 = i then nu k else im1 k) 4 0 im1 (by omega) ?_ ?_ ?_
      · funext k
        rw [if_neg (by omega)]
      · intro n' x hx
        refine pk_le 12 (i + 3 * 4) (fun _ => ⟨pk_in i 4 (by omega), nm_r (e' := upd lz1 i 0) (by rw [nI_clamp (by omega)]) (nm_r (nI_1 i) (hw (x, upd lz1 i 0) ⟨fun m hm => ?_, ?_⟩))⟩) (fun z => absurd z (by omega))
        · by_cases e : m = i
          · subst e
            refine ⟨0, fun _ => by omega, by omega, pk_us, fun j hj => absurd hj (by omega), fun k hk hkm => ?_, rfl⟩
            show x k = nu k
            rw [hx]
            show (if _ then _ else _) = _
            rw [if_pos ⟨by omega, hkm⟩]
          · obtain ⟨S', t1, t2, t3⟩ := i1 m hm
            refine ⟨S', fun y => t1 (by omega), t2, tp_LM_c t3 (Nat.le_refl N) (pk_un e) (fun _ _ => ⟨rfl, rfl, rfl, rfl⟩) (fun k hk hkm => ?_) (fun _ _ _ => rfl)⟩
            show x k = im1 k
            rw [hx]
            show (if _ then _ else _) = _
            rw [if_neg (by omega)]
        · show upd lz1 i 0 3 = lz 3
          rw [pk_un (by omega)]; exact i2
      · intro n' j x hj hx hw'
        have hb : i + 3 * j < 12 := by omega
        refine pk_le 12 (i + 3 * j) (fun z => absurd z (by omega)) (fun _ => ⟨pk_in _ 12 hb, pk_in _ 12 hb, nm_e (nm_r (e' := nI (i + 3 * (j + 1))) (nI_add _ 3) (hw' _ ?_))⟩)
        rw [nI_clamp (show i + 3 * j < 2 ^ 31 by omega), hx]
        funext k
        show (if _ then _ else _) = _
        by_cases e : k = i + 3 * j
        · rw [if_pos e, if_pos ⟨by omega, by omega⟩, e]
        · rw [if_neg e]
          dsimp only
          by_cases e' : k < i + 3 * j ∧ k % 3 = i
          · rw [if_pos e', if_pos ⟨by omega, e'.2⟩]
          · rw [if_neg e', if_neg (fun y => e' ⟨by omega, y.2⟩)]
end
section
variable {P T D t N O0 : Nat} {nu0 : Nat → Int32} {cc0 : Int32} {s v h a d : Nat} {p : tp_Ph} {x : tp_Ch} {u : St1}
theorem tp_c114 {post : Int32 → St1 → Prop} {os st vo he ns nm sl pa tr td ha cc fi wa se lc : Int32} {im lz lk lt ly ln nu ho wk wn pr go kk mf mt mn : Nat → Int32} (hE : tp_E P T D t N) (hR : tp_R P T D t N O0 nu0 cc0 s v h a d p x (os, st, vo, he, ns, nm, sl, pa, tr, td, ha, cc, fi, wa, se, lc, im, lz, lk, lt, ly, ln, nu, ho, wk, wn, pr, go, kk, mf, mt, mn)) (hd : d < 2) (hO0 : O0.testBit t = true) (hph : ∀ m, m < 3 → tp_pg p m ≠ 2)
    (hp : ∀ r O' u', tp_Bs N O' u' → (∀ b, O'.testBit b = true → O0.testBit b = true) → O' ≠ O0 → tp_ccf u' = cc0 + nI d → (d = 0 → tp_nuf u' = nu0) → post r u') : wX_commit_114 post (nI t) os st vo he ns nm sl pa tr td ha cc fi wa se lc im lz lk lt ly ln nu ho wk wn pr go kk mf mt mn := by
  obtain ⟨e1, e2, e3, e4, e5, e6⟩ := id hE
  obtain ⟨rfl, rfl, rfl, rfl, rfl, rfl, rfl, rfl, rfl, rfl, rfl, rfl, rfl, hQ, hDD⟩ := hR
  obtain ⟨O, rfl, d2, d3, d4, d5, d6, d7, d8, d9⟩ := hDD
  obtain ⟨S, s1, s2, s3, s4, s5⟩ := d6
  have key : wX_commit_132 post (nI t) (nI d) (nI O) (nI s) (nI v) (nI h) (nI N) (nI N) (nI t) (nI P) (nI T) (nI D) (nI a) cc fi wa (nI x.1) (nI x.2.1) im lz lk lt ly ln nu ho wk wn pr go kk mf mt mn := by
    unfold wX_commit_132
    refine tp_log (m := 3) (c := 6) (k := 0) (by decide) s2 (by omega) (by decide) (by decide) (nI N) 0 ?_
    obtain ⟨W, w1, w2, w3⟩ := d2.2.2.1 t e1
    refine tp_rollBack (tp_G_H4 d2) e1 w2 w1 (nm_e ?_)
    have F : tp_LF 3 lz lk lt ly ln (upd lz 3 (nI (S + 1))) (upd lk (3 * 64 + S) (nI 6)) (upd lt (3 * 64 + S) (nI N)) (upd ly (3 * 64 + S) (nI 0)) (upd ln (3 * 64 + S) 0) := tp_LF_app (by omega) (tp_LF_0 3)
    have ob : ∀ b, (tp_clr O t).testBit b = (O.testBit b && decide (b ≠ t)) := fun b => tp_clrB (by have := d2.1; omega) (by omega)
    refine tp_shortenLogs (N := N) (fun m hm => ?_) ⟨S + 1, by omega, pk_us, fun i hi => ?_⟩ (fun im' lz' g1 g2 => hp _ (tp_clr O t) _ ⟨rfl, rfl, rfl, tp_G_rb d2 e1, g1, g2, fun j hj => ?_, fun b hb hbb m hm => ?_⟩ (fun b hb => ?_) (fun z => ?_) rfl d5)
    · obtain ⟨⟨S', t1, t2, t3⟩, _⟩ := d7 m hm
      have hS : S' ≤ 46 := by
        split at t1
        · omega
        · split at t1 <;> omega
      rw [if_neg (hph m hm)] at t2
      exact ⟨S', by omega, tp_LM_c t2 (Nat.le_refl N) (F.1 m (by omega)) (fun i hi => F.2 _ (by omega)) (fun _ _ _ => rfl) (fun _ _ _ => rfl)⟩
    · by_cases e : i = S
      · subst e; exact ⟨N, Nat.le_refl N, pk_us⟩
      · show ∃ t, t ≤ N ∧ upd lt (3 * 64 + S) (nI N) (192 + i) = nI t
        rw [pk_un (by omega)]; exact s5 i (by omega)
    · show tp_rp t pr j = 0
      unfold tp_rp
      split
      · rfl
      · rename_i z; exact d8 j hj z
    · rw [ob b, Bool.and_eq_true] at hbb
      exact d9 b hb (of_decide_eq_true hbb.2) hbb.1 m hm
    · rw [ob b, Bool.and_eq_true] at hb
      exact d3 b hb.1
    · have : (tp_clr O t).testBit t = true := by rw [z]; exact hO0
      rw [ob t, decide_eq_false (fun y => y rfl), Bool.and_false] at this
      exact absurd this (by decide)
  unfold wX_commit_114
  refine tp_isLogged (m := 3) (S := S) (by decide) s2 (by omega) 5 (nI N) (fun q => br_t rfl ?_) (fun q => br_f (by decide) ?_)
  · have ed : d = 0 := by
      rcases (by omega : d = 0 ∨ d = 1) with z | z
      · exact z
      · obtain ⟨i, i1, i2, i3⟩ := s4 z
        exact absurd i3 (q i i1 i2)
    subst ed
    exact key
  · have ed : d = 1 := by
      rcases (by omega : d = 0 ∨ d = 1) with z | z
      · obtain ⟨i, i1, i2, i3⟩ := q
        exact absurd i3 (s3 z i i1 i2)
      · exact z
    subst ed
    exact key
end
end
section
/-! 16: a commit -/
theorem tp_p0g (P m : Nat) (hm : m < 3) : tp_pg (tp_p0 P) m = if P.testBit m = true then 0 else 3 := by
  rcases (by omega : m = 0 ∨ m = 1 ∨ m = 2) with e | e | e <;> subst e <;> rfl
section
variable {os st vo he ns nm sl pa tr td ha cc fi wa se lc : Int32} {im lz lk lt ly ln nu ho wk wn pr go kk mf mt mn : Nat → Int32}
theorem tp_isOver {post : Int32 → Prop} {s h P : Nat} (hs : s < 4) (hh : h < 8) (hP : P < 8) (h1 : (s = 2 ∨ s = 3) ∧ h = P → post 1) (h0 : ¬ ((s = 2 ∨ s = 3) ∧ h = P) → post 0) : wpX_isOver post (os, nI s, vo, nI h, ns, nm, sl, nI P, tr, td, ha, cc, fi, wa, se, lc, im, lz, lk, lt, ly, ln, nu, ho, wk, wn, pr, go, kk, mf, mt, mn) := by
  unfold wpX_isOver
  dsimp only
  have k16 : (s = 2 ∨ s = 3) → wX_isOver_16 post os (nI s) vo (nI h) ns nm sl (nI P) tr td ha cc fi wa se lc im lz lk lt ly ln nu ho wk wn pr go kk mf mt mn := by
    intro z
    unfold wX_isOver_16
    exact pk_eq h P (fun e => h1 ⟨z, e⟩) (fun e => h0 (fun y => e y.2))
  refine pk_eq s 2 (fun e => k16 (Or.inl e)) (fun e2 => pk_eq s 3 (fun e => k16 (Or.inr e)) (fun e3 => h0 (fun y => ?_)))
  rcases y.1 with w | w
  · exact e2 w
  · exact e3 w
end
section
variable {P T D t N O0 : Nat} {nu0 : Nat → Int32} {cc0 : Int32} {u : St1}
theorem tp_rounds {post : Int32 → St1 → Prop} (hE : tp_E P T D t N) (hO0 : O0.testBit t = true)
    (hp : ∀ r O' d u', d < 2 → tp_Bs N O' u' → (∀ b, O'.testBit b = true → O0.testBit b = true) → O' ≠ O0 → tp_ccf u' = cc0 + nI d → (d = 0 → tp_nuf u' = nu0) → post r u') :
    ∀ (n i : Nat) (c : tp_Co) (u : St1), i + n ≤ 2000 → tp_all P T D n c = true → tp_Rc P T D t N O0 nu0 cc0 c u → tp_ap (wX_commit_75 post (nI t) n) (nI i) u := by
  obtain ⟨e1, e2, e3, e4, e5, e6⟩ := id hE
  intro n
  induction n with
  | zero => intro i c u _ hall _; exact absurd (show false = true from hall) (by decide)
  | succ n ih =>
    intro i c u hi hall hR
    rw [tp_all] at hall
    obtain ⟨s, v, h, a, d, p, n', l, q⟩ := c
    by_cases ok : tp_ok P T D (s, v, h, a, d, p, n', l, q) = true
    rotate_left 1
    · rw [if_neg ok] at hall
      exact absurd hall (by decide)
    rw [if_pos ok] at hall
    unfold tp_ok at ok
    dsimp only at ok
    rw [Bool.and_eq_true] at ok
    obtain ⟨ok1, ok2⟩ := ok
    obtain ⟨k1, k2, k3, k4, k5, k6, k7, k8, k9, k10⟩ := of_decide_eq_true ok1
    have hR' : tp_R P T D t N O0 nu0 cc0 s v h a d p (n', l, q) u := hR
    obtain ⟨os, st, vo, he, ns, nm, sl, pa, tr, td, ha, cc, fi, wa, se, lc, im, lz, lk, lt, ly, ln, nu, ho, wk, wn, pr, go, kk, mf, mt, mn⟩ := u
    have hR0 := hR'
    obtain ⟨rfl, rfl, rfl, rfl, rfl, rfl, rfl, rfl, rfl, rfl, rfl, rfl, rfl, hQ, hDD⟩ := hR'
    show wX_commit_75 post (nI t) (n + 1) (nI i) os (nI s) (nI v) (nI h) (nI N) (nI N) (nI t) (nI P) (nI T) (nI D) (nI a) cc fi wa (nI n') (nI l) im lz lk lt ly ln nu ho wk wn pr go kk mf mt mn
    refine pk_le 2000 i (fun z => absurd z (by omega)) (fun _ => ?_)
    refine tp_isOver k1 k4 e4 (fun ho => br_f (by decide) ?_) (fun hn => br_t rfl ?_)
    · rw [if_pos (show tp_over P (s, v, h, a, d, p, n', l, q) = true from decide_eq_true ho)] at hall
      have fin := of_decide_eq_true hall
      exact tp_c114 hE hR0 k6 hO0 (fun m hm => co_3 (P := fun m => tp_pg p m ≠ 2) fin.1 fin.2.1 fin.2.2 hm) (fun r O' u' b1 b2 b3 b4 b5 => hp r O' d u' k6 b1 b2 b3 b4 b5)
    · have nov : ¬ tp_over P (s, v, h, a, d, p, n', l, q) = true := fun z => hn (of_decide_eq_true z)
      rw [if_neg nov] at hall
      obtain ⟨f0, f1, f2, f3, f4, f5⟩ := hQ
      cases q with
      | nil =>
        refine br_t f3 (tp_Wremind hR0 e1 e2 e3 e4 e5 k1 k3 k4 (by show n' < 90000; omega) (by show l < 90000; omega) (fun u' hu' => ?_))
        have R := ih (i + 1) _ u' (by omega) hall hu'
        obtain ⟨os1, st1, vo1, he1, ns1, nm1, sl1, pa1, tr1, td1, ha1, cc1, fi1, wa1, se1, lc1, im1, lz1, lk1, lt1, ly1, ln1, nu1, ho1, wk1, wn1, pr1, go1, kk1, mf1, mt1, mn1⟩ := u'
        exact nm_r (nI_1 i) R
      | cons y q =>
        have nz : ¬ wa = 0 := by
          rw [f3]
          exact nI_ne0 (by show 0 < q.length + 1; omega) (by omega)
        refine br_f nz (tp_Wdeliver hE hR0 k2 k1 k9 k6 k5 k3 k4 (by omega) (by omega) k10 ok2 (fun u' hu' => ?_))
        have R := ih (i + 1) _ u' (by omega) hall hu'
        obtain ⟨os1, st1, vo1, he1, ns1, nm1, sl1, pa1, tr1, td1, ha1, cc1, fi1, wa1, se1, lc1, im1, lz1, lk1, lt1, ly1, ln1, nu1, ho1, wk1, wn1, pr1, go1, kk1, mf1, mt1, mn1⟩ := u'
        exact nm_r (nI_1 i) R
theorem tp_start {cc : Int32} {im lz lk lt ly ln nu ho wk wn pr go kk mf mt mn : Nat → Int32} {O : Nat} (ht : t < 4) (hN : N < 90000) (hb : O.testBit t = true) (hG : tp_G O ho wk wn nu) (hL : ∀ m, m < 3 → ∃ S, S ≤ 40 ∧ tp_LM m S N 0 im lz lk lt ly ln nu) (h3 : ∃ S, S ≤ 40 ∧ lz 3 = nI S ∧ ∀ i, i < S → ∃ t, t ≤ N ∧ lt (192 + i) = nI t) (hpr : ∀ j, j < 12 → pr j = 0) (hgo : ∀ b, b < 4 → O.testBit b = true → ∀ m, m < 3 → go (b * 3 + m) = 0)
    (hP : P < 8) (hPm : ∀ m, m < 3 → (P.testBit m = true ↔ ∃ k, k < 12 ∧ k % 3 = m ∧ ho k = nI t)) : tp_R P T D t (N + 1) O nu cc 1 0 0 0 0 (tp_p0 P) (0, 0, []) (nI O, nI 1, nI 0, nI 0, nI (N + 1), nI (N + 1), nI t, nI P, nI T, nI D, nI 0, cc, nI 0, nI 0, nI 0, nI 0, im, lz, lk, lt, ly, ln, nu, ho, wk, wn, pr, go, kk, mf, mt, mn) := by
  have new : ∀ q, q ≤ N → ¬ nI q = nI (N + 1) := by
    intro q hq z
    have := (nI_eq (by omega) (by omega)).mp z
    omega
  have pg := tp_p0g P
  refine ⟨rfl, rfl, rfl, rfl, rfl, rfl, rfl, rfl, rfl, rfl, rfl, rfl, rfl, ⟨0, by omega, rfl, rfl, by decide, fun i x hx => ?_⟩, O, rfl, hG, fun _ z => z, hb, fun _ => rfl, ?_, fun m hm => ?_, fun j hj _ => hpr j hj, fun b hb4 _ hbo m hm => hgo b hb4 hbo m hm⟩
  · exact absurd hx (by simp)
  · obtain ⟨S, s1, s2, s3⟩ := h3
    refine ⟨S, by omega, s2, fun _ i hi _ => ?_, fun z => absurd z (by decide), fun i hi => ?_⟩
    · obtain ⟨q, q1, q2⟩ := s3 i hi
      rw [q2]; exact new q q1
    · obtain ⟨q, q1, q2⟩ := s3 i hi
      exact ⟨q, by omega, q2⟩
  · rw [pg m hm]
    obtain ⟨S, s1, s2⟩ := hL m hm
    have s3 : tp_LM m S (N + 1) 0 im lz lk lt ly ln nu := tp_LM_c s2 (by omega) rfl (fun _ _ => ⟨rfl, rfl, rfl, rfl⟩) (fun _ _ _ => rfl) (fun _ _ _ => rfl)
    by_cases e : P.testBit m = true
    · rw [if_pos e]
      refine ⟨⟨S, s1, s3, fun _ i hi => ?_⟩, hpr _ (by omega), fun _ => ⟨hgo t ht hb m hm, (hPm m hm).mp e⟩, fun z => absurd z (by decide), fun z => absurd z (by decide)⟩
      obtain ⟨q, q1, q2⟩ := (s2.2.1 i hi).2
      rw [q2]; exact new q q1
    · rw [if_neg e]
      exact ⟨⟨S, by show S ≤ 46; omega, s3, fun z => absurd z (by decide)⟩, hpr _ (by omega), fun z => absurd z (by decide), fun z => absurd z (by decide), fun z => absurd z (by decide)⟩
theorem tp_commit {post : Int32 → St1 → Prop} {O : Nat} (hB : tp_Bs N O u) (hN : N < 90000) (p0 p1 p2 : Int32) (h0 : ∀ r, post r u)
    (hp : ∀ r O' d u', d < 2 → tp_Bs (N + 1) O' u' → (∀ b, O'.testBit b = true → O.testBit b = true) → O' ≠ O → tp_ccf u' = tp_ccf u + nI d → (d = 0 → tp_nuf u' = tp_nuf u) → post r u') : wpX_commit post u p0 p1 p2 := by
  obtain ⟨os, st, vo, he, ns, nm, sl, pa, tr, td, ha, cc, fi, wa, se, lc, im, lz, lk, lt, ly, ln, nu, ho, wk, wn, pr, go, kk, mf, mt, mn⟩ := u
  obtain ⟨rfl, rfl, rfl, hG, hL, h3, hpr, hgo⟩ := hB
  unfold wpX_commit
  dsimp only
  refine tp_isOpen hG.1 p0 (fun _ => br_t rfl (h0 _)) (fun t ht et hb => br_f (by decide) ?_)
  subst et
  refine br_c (fun _ => h0 _) (fun z1 => br_c (fun _ => h0 _) (fun z2 => br_c (fun _ => h0 _) (fun z3 => br_c (fun z4 => ?_) (fun _ => h0 _))))
  obtain ⟨T, hT, rfl⟩ : ∃ T : Nat, T ≤ 7 ∧ p1 = nI T := nI_of2 (M := 7) (by decide) z1 (Int32.not_lt.mp z2)
  obtain ⟨D, hD, rfl⟩ : ∃ D : Nat, D < 3 ∧ p2 = nI D := by
    rcases pk_ix p2 (n := 3) (by decide) with y | y | y
    · exact absurd y z3
    · exact absurd z4 (Int32.not_lt.mpr y)
    · exact y
  refine tp_startCommit (N := N) (tp_G_H4 hG) ht (fun P hP hPm => ?_)
  have hE : tp_E P T D t (N + 1) := ⟨ht, by omega, by omega, hP, by omega, hD⟩
  have R0 : tp_R P T D t (N + 1) O nu cc 1 0 0 0 0 (tp_p0 P) (0, 0, []) (nI O, nI 1, nI 0, nI 0, nI (N + 1), nI (N + 1), nI t, nI P, nI T, nI D, nI 0, cc, nI 0, nI 0, nI 0, nI 0, im, lz, lk, lt, ly, ln, nu, ho, wk, wn, pr, go, kk, mf, mt, mn) := tp_start ht hN hb hG hL h3 hpr hgo hP hPm
  have pg : P.testBit D = false → tp_pg (tp_p0 P) D = 3 := by
    intro e
    rw [tp_p0g P D hD, if_neg (by rw [e]; decide)]
  have go68 : ∀ (os1 st1 vo1 he1 ns1 nm1 sl1 pa1 tr1 td1 ha1 cc1 fi1 wa1 se1 lc1 : Int32) (im1 lz1 lk1 lt1 ly1 ln1 nu1 ho1 wk1 wn1 pr1 go1 kk1 mf1 mt1 mn1 : Nat → Int32), tp_R P T D t (N + 1) O nu cc 1 0 0 (tp_ha0 P T D) 0 (tp_p0 P) (0, 0, []) (os1, st1, vo1, he1, ns1, nm1, sl1, pa1, tr1, td1, ha1, cc1, fi1, wa1, se1, lc1, im1, lz1, lk1, lt1, ly1, ln1, nu1, ho1, wk1, wn1, pr1, go1, kk1, mf1, mt1, mn1) → wX_commit_68 post (nI t) os1 st1 vo1 he1 ns1 nm1 sl1 pa1 tr1 td1 ha1 cc1 fi1 wa1 se1 lc1 im1 lz1 lk1 lt1 ly1 ln1 nu1 ho1 wk1 wn1 pr1 go1 kk1 mf1 mt1 mn1 := by
    intro os1 st1 vo1 he1 ns1 nm1 sl1 pa1 tr1 td1 ha1 cc1 fi1 wa1 se1 lc1 im1 lz1 lk1 lt1 ly1 ln1 nu1 ho1 wk1 wn1 pr1 go1 kk1 mf1 mt1 mn1 hR
    unfold wX_commit_68
    refine tp_Wdecide hE hR rfl rfl (by unfold tp_ha0; split <;> decide) (by decide) (by decide) (by show 0 < 90000; decide) (by show 0 < 90000; decide) pg (fun u' hu' => ?_)
    have R := tp_rounds hE hb hp 100 0 (tp_c0 P T D) u' (by decide) (tp_runs P hP T (by omega) D hD) hu'
    obtain ⟨os2, st2, vo2, he2, ns2, nm2, sl2, pa2, tr2, td2, ha2, cc2, fi2, wa2, se2, lc2, im2, lz2, lk2, lt2, ly2, ln2, nu2, ho2, wk2, wn2, pr2, go2, kk2, mf2, mt2, mn2⟩ := u'
    exact ⟨100, R⟩
  refine tp_isPart hP hD (fun eb => br_t rfl ?_) (fun eb => br_f (by decide) ?_)
  · have e0 : tp_ha0 P T D = if T = 1 then 1 else 0 := by
      unfold tp_ha0
      by_cases e : T = 1
      · rw [if_pos ⟨eb, e⟩, if_pos e]
      · rw [if_neg (fun z => e z.2), if_neg e]
    refine tp_Wstrikes (w := 1) (m := D) R0 (by omega) hD (by decide) hD (by decide) (fun y1 _ _ u' hu' => ?_) (fun ne u' hu' => ?_)
    · rw [if_pos y1] at e0
      obtain ⟨os1, st1, vo1, he1, ns1, nm1, sl1, pa1, tr1, td1, ha1, cc1, fi1, wa1, se1, lc1, im1, lz1, lk1, lt1, ly1, ln1, nu1, ho1, wk1, wn1, pr1, go1, kk1, mf1, mt1, mn1⟩ := u'
      refine br_f (by decide) (tp_WbreakDown (s := 1) (m := D) (p := tp_p0 P) hE hu' hD (by decide) (by decide) (by rw [pg eb]; decide) (by rw [pg eb]; decide) (fun r u2 h2 => ?_))
      rw [if_neg (by rw [pg eb]; decide)] at h2
      obtain ⟨os2, st2, vo2, he2, ns2, nm2, sl2, pa2, tr2, td2, ha2, cc2, fi2, wa2, se2, lc2, im2, lz2, lk2, lt2, ly2, ln2, nu2, ho2, wk2, wn2, pr2, go2, kk2, mf2, mt2, mn2⟩ := u2
      exact go68 os2 st2 vo2 he2 ns2 nm2 sl2 pa2 tr2 td2 ha2 cc2 fi2 wa2 se2 lc2 im2 lz2 lk2 lt2 ly2 ln2 nu2 ho2 wk2 wn2 pr2 go2 kk2 mf2 mt2 mn2 (by rw [e0]; exact h2)
    · rw [if_neg (fun z => ne ⟨z, rfl, rfl⟩)] at e0
      obtain ⟨os1, st1, vo1, he1, ns1, nm1, sl1, pa1, tr1, td1, ha1, cc1, fi1, wa1, se1, lc1, im1, lz1, lk1, lt1, ly1, ln1, nu1, ho1, wk1, wn1, pr1, go1, kk1, mf1, mt1, mn1⟩ := u'
      exact br_t rfl (go68 os1 st1 vo1 he1 ns1 nm1 sl1 pa1 tr1 td1 ha1 cc1 fi1 wa1 se1 lc1 im1 lz1 lk1 lt1 ly1 ln1 nu1 ho1 wk1 wn1 pr1 go1 kk1 mf1 mt1 mn1 (by rw [e0]; exact hu'))
  · have e0 : tp_ha0 P T D = 0 := by
      unfold tp_ha0
      rw [if_neg (fun z => absurd (eb.symm.trans z.1) (by decide))]
    exact go68 (nI O) (nI 1) (nI 0) (nI 0) (nI (N + 1)) (nI (N + 1)) (nI t) (nI P) (nI T) (nI D) (nI 0) cc (nI 0) (nI 0) (nI 0) (nI 0) im lz lk lt ly ln nu ho wk wn pr go kk mf mt mn (by rw [e0]; exact R0)
end
end
section
/-! 17: one turn -/
/-- what a turn of kind w may do to the begun set, d commits being done -/
def tp_C (w O O' d : Nat) : Prop :=
  (w ≤ 1 → d = 0 ∧ ((O = 15 ∧ O' = O) ∨ ∃ t, t < 4 ∧ O.testBit t = false ∧ (∀ i, i < t → O.testBit i = true) ∧ O' = O ||| 2 ^ t)) ∧
  (1 < w → w ≤ 9 → d = 0 ∧ O' = O) ∧
  (9 < w → (∀ b, O'.testBit b = true → O.testBit b = true) ∧ (12 < w → d = 0) ∧ (d = 1 → O' ≠ O))
section
variable {N O : Nat} {u : St1}
theorem tp_crash {post : Int32 → St1 → Prop} (hB : tp_Bs N O u) (p0 : Int32) (h0 : ∀ r, post r u)
    (hp : ∀ r O' u', tp_Bs N O' u' → (∀ b, O'.testBit b = true → O.testBit b = true) → tp_ccf u' = tp_ccf u → tp_nuf u' = tp_nuf u → post r u') : wpX_crash post u p0 := by
  obtain ⟨os, st, vo, he, ns, nm, sl, pa, tr, td, ha, cc, fi, wa, se, lc, im, lz, lk, lt, ly, ln, nu, ho, wk, wn, pr, go, kk, mf, mt, mn⟩ := u
  obtain ⟨rfl, rfl, rfl, hG, hL, h3, hpr, hgo⟩ := hB
  unfold wpX_crash
  dsimp only
  refine br_c (fun _ => h0 _) (fun z1 => br_c (fun z2 => br_c (fun z3 => ?_) (fun z3 => ?_)) (fun _ => h0 _))
  · refine tp_breakLeader (s := 0) (S3 := 0) hG (fun z => absurd rfl z) (fun z => absurd rfl z) (by omega) (fun _ ho' wk' pr' G' p' => hp _ 0 _ ⟨rfl, rfl, rfl, G', hL, h3, fun j hj => ?_, fun b hb hbb => absurd hbb (by rw [Nat.zero_testBit]; decide)⟩ (fun b hb => absurd hb (by rw [Nat.zero_testBit]; decide)) rfl rfl) (fun z => absurd rfl z)
    rcases p' j hj with y | y
    · exact y.trans (hpr j hj)
    · exact y
  · obtain ⟨m, hm, rfl⟩ : ∃ m : Nat, m < 3 ∧ p0 = nI m := by
      rcases pk_ix p0 (n := 4) (by decide) with y | y | ⟨m, hm, e⟩
      · exact absurd y z1
      · have a1 := Int32.le_iff_toInt_le.mp y
        have a2 := Int32.le_iff_toInt_le.mp z2
        have a3 : (nI 4).toInt = 4 := by decide
        have a4 : (3 : Int32).toInt = 3 := by decide
        omega
      · refine ⟨m, ?_, e⟩
        have : m ≠ 3 := by
          intro q; rw [q] at e; exact z3 e
        omega
    obtain ⟨S, s1, s2⟩ := hL m hm
    refine tp_breakDown (s := 0) hm (by omega) s2 hG (fun z => absurd rfl z) (Or.inl rfl) (fun r O' ho' wk' wn' pr' go' hBD => ?_)
    obtain ⟨b1, b2, b3, b4, _⟩ := hBD
    have eg := b4 rfl
    subst eg
    refine hp r O' _ ⟨rfl, rfl, rfl, b1, hL, h3, fun j hj => ?_, fun b hb hbb => hgo b hb (b2 b hbb)⟩ b2 rfl rfl
    rcases b3 j hj with y | y | y
    · exact y.trans (hpr j hj)
    · exact y
    · exact absurd rfl y.1
theorem tp_crash3 {post : Int32 → St1 → Prop} (hB : tp_Bs N O u) (hp : ∀ u', tp_Bs N 0 u' → post (nI (tp_cnt O 4)) u') : wpX_crash post u 3 := by
  obtain ⟨os, st, vo, he, ns, nm, sl, pa, tr, td, ha, cc, fi, wa, se, lc, im, lz, lk, lt, ly, ln, nu, ho, wk, wn, pr, go, kk, mf, mt, mn⟩ := u
  obtain ⟨rfl, rfl, rfl, hG, hL, h3, hpr, hgo⟩ := hB
  unfold wpX_crash
  dsimp only
  refine br_f (by decide) (br_t (by decide) (br_t rfl ?_))
  refine tp_breakLeader (s := 0) (S3 := 0) hG (fun z => absurd rfl z) (fun z => absurd rfl z) (by omega) (fun _ ho' wk' pr' G' p' => hp _ ⟨rfl, rfl, rfl, G', hL, h3, fun j hj => ?_, fun b hb hbb => absurd hbb (by rw [Nat.zero_testBit]; decide)⟩) (fun z => absurd rfl z)
  rcases p' j hj with y | y
  · exact y.trans (hpr j hj)
  · exact y
theorem tp_c0a (x : Int32) : x = x + nI 0 := (Int32.add_zero x).symm
theorem tp_turn52 {post : St1 → Prop} {w : Nat} (hw : w < 16) {os st vo he ns nm sl pa tr td ha cc fi wa se lc : Int32} {im lz lk lt ly ln nu ho wk wn pr go kk mf mt mn : Nat → Int32} (hB : tp_Bs N O (os, st, vo, he, ns, nm, sl, pa, tr, td, ha, cc, fi, wa, se, lc, im, lz, lk, lt, ly, ln, nu, ho, wk, wn, pr, go, kk, mf, mt, mn)) (hN : N < 90000) (x3 x4 x6 x7 z0 : Int32)
    (hp : ∀ N' O' d u', d < 2 → N' ≤ N + 1 → tp_Bs N' O' u' → tp_ccf u' = tp_ccf (os, st, vo, he, ns, nm, sl, pa, tr, td, ha, cc, fi, wa, se, lc, im, lz, lk, lt, ly, ln, nu, ho, wk, wn, pr, go, kk, mf, mt, mn) + nI d → (d = 0 → tp_nuf u' = tp_nuf (os, st, vo, he, ns, nm, sl, pa, tr, td, ha, cc, fi, wa, se, lc, im, lz, lk, lt, ly, ln, nu, ho, wk, wn, pr, go, kk, mf, mt, mn)) → tp_C w O O' d → post u') : wL_turn_52 post x3 x4 (nI w) x6 x7 z0 os st vo he ns nm sl pa tr td ha cc fi wa se lc im lz lk lt ly ln nu ho wk wn pr go kk mf mt mn := by
  unfold wL_turn_52
  have same : ∀ u', tp_Bs N O u' → tp_ccf u' = cc → tp_nuf u' = nu → (1 < w) → post u' := by
    intro u' b1 b2 b3 h1
    exact hp N O 0 u' (by decide) (by omega) b1 (b2.trans (tp_c0a cc)) (fun _ => b3) ⟨fun z => absurd z (by omega), fun _ _ => ⟨rfl, rfl⟩, fun _ => ⟨fun _ z => z, fun _ => rfl, fun z => absurd z (by decide)⟩⟩
  have hB0 := hB
  obtain ⟨rfl, rfl, rfl, hG, hL, h3, hpr, hgo⟩ := hB
  refine pk_lt 1 w (fun w1 => ?_) (fun w1 => ?_)
  rotate_left 1
  · have Cb : ∀ O', ((O = 15 ∧ O' = O) ∨ ∃ t, t < 4 ∧ O.testBit t = false ∧ (∀ i, i < t → O.testBit i = true) ∧ O' = O ||| 2 ^ t) → tp_C w O O' 0 := fun O' z => ⟨fun _ => ⟨rfl, z⟩, fun y => absurd y (by omega), fun y => absurd y (by omega)⟩
    refine tp_begin hG.1 (fun e r => hp N O 0 _ (by decide) (by omega) hB0 (tp_c0a cc) (fun _ => rfl) (Cb O (Or.inl ⟨e, rfl⟩))) (fun r t pr' go' t1 t2 t3 t4 t5 => hp N (O ||| 2 ^ t) 0 _ (by decide) (by omega) ⟨rfl, rfl, rfl, tp_G_open hG t1 t2, hL, h3, fun j hj => ?_, fun b hb hbb m hm => ?_⟩ (tp_c0a cc) (fun _ => rfl) (Cb _ (Or.inr ⟨t, t1, t2, t3, rfl⟩)))
    · rcases t4 j hj with y | y
      · exact y.trans (hpr j hj)
      · exact y
    · rw [t5]
      by_cases e : b = t
      · rw [if_pos (by omega)]
      · rw [if_neg (by omega)]
        refine hgo b hb ?_ m hm
        rw [Nat.testBit_or, Nat.testBit_two_pow, decide_eq_false (Ne.symm e), Bool.or_false] at hbb
        exact hbb
  refine pk_lt 3 w (fun w3 => ?_) (fun w3 => tp_get hG x7 z0 (fun r ho' G' => same _ ⟨rfl, rfl, rfl, G', hL, h3, hpr, hgo⟩ rfl rfl w1))
  have put : ∀ y, wL_turn_117 post y z0 x7 (nI O) 0 vo he (nI N) nm sl pa tr td ha cc fi wa se lc im lz lk lt ly ln nu ho wk wn pr go kk mf mt mn := by
    intro y
    unfold wL_turn_117
    exact tp_put hG x7 z0 y (fun r ho' wk' wn' G' => same _ ⟨rfl, rfl, rfl, G', hL, h3, hpr, hgo⟩ rfl rfl w1)
  refine pk_lt 7 w (fun w7 => ?_) (fun w7 => br_c (fun _ => put _) (fun _ => put _))
  have move : ∀ y1 y2, wL_turn_167 post y1 y2 x7 (nI O) 0 vo he (nI N) nm sl pa tr td ha cc fi wa se lc im lz lk lt ly ln nu ho wk wn pr go kk mf mt mn := by
    intro y1 y2
    unfold wL_turn_167
    exact tp_move hG x7 y2 y1 (fun r ho' wk' wn' G' => same _ ⟨rfl, rfl, rfl, G', hL, h3, hpr, hgo⟩ rfl rfl w1)
  have move2 : ∀ y, wL_turn_152 post x4 x6 y x7 (nI O) 0 vo he (nI N) nm sl pa tr td ha cc fi wa se lc im lz lk lt ly ln nu ho wk wn pr go kk mf mt mn := by
    intro y
    unfold wL_turn_152
    exact br_c (fun _ => move _ _) (fun _ => move _ _)
  refine pk_lt 9 w (fun w9 => ?_) (fun w9 => br_c (fun _ => move2 _) (fun _ => ⟨by decide, move2 _⟩))
  have com : ∀ y1 y2, w ≤ 12 → wL_turn_213 post y1 y2 x7 (nI O) 0 vo he (nI N) nm sl pa tr td ha cc fi wa se lc im lz lk lt ly ln nu ho wk wn pr go kk mf mt mn := by
    intro y1 y2 w12
    unfold wL_turn_213
    exact tp_commit hB0 hN x7 y2 y1 (fun r => same _ hB0 rfl rfl w1) (fun r O' d u' c1 c2 c3 c4 c5 c6 => hp (N + 1) O' d u' c1 (by omega) c2 c5 c6 ⟨fun z => absurd z (by omega), fun _ z => absurd z (by omega), fun _ => ⟨c3, fun z => absurd z (by omega), fun _ => c4⟩⟩)
  have com2 : ∀ y, w ≤ 12 → wL_turn_197 post x4 x6 y x7 (nI O) 0 vo he (nI N) nm sl pa tr td ha cc fi wa se lc im lz lk lt ly ln nu ho wk wn pr go kk mf mt mn := by
    intro y w12
    unfold wL_turn_197
    exact br_c (fun _ => com _ _ w12) (fun _ => ⟨by decide, com _ _ w12⟩)
  refine pk_lt 12 w (fun w12 => ?_) (fun w12 => br_c (fun _ => com2 _ w12) (fun _ => com2 _ w12))
  have Cz : ∀ O', (∀ b, O'.testBit b = true → O.testBit b = true) → tp_C w O O' 0 := fun O' z => ⟨fun y => absurd y (by omega), fun _ y => absurd y (by omega), fun _ => ⟨z, fun _ => rfl, fun y => absurd y (by decide)⟩⟩
  have crash : ∀ y, wL_turn_250 post y (nI O) 0 vo he (nI N) nm sl pa tr td ha cc fi wa se lc im lz lk lt ly ln nu ho wk wn pr go kk mf mt mn := by
    intro y
    unfold wL_turn_250
    exact tp_crash hB0 y (fun r => same _ hB0 rfl rfl w1) (fun r O' u' c1 c2 c3 c4 => hp N O' 0 u' (by decide) (by omega) c1 (c3.trans (tp_c0a cc)) (fun _ => c4) (Cz O' c2))
  refine pk_eq w 13 (fun w13 => ?_) (fun w13 => br_c (fun _ => crash _) (fun _ => crash _))
  have ob : ∀ t, t < 4 → ∀ b, (tp_clr O t).testBit b = (O.testBit b && decide (b ≠ t)) := fun t ht b => tp_clrB (by have := hG.1; omega) (by omega)
  refine tp_abort hG x7 (fun r => same _ hB0 rfl rfl w1) (fun r t t1 t2 => hp N (tp_clr O t) 0 _ (by decide) (by omega) ⟨rfl, rfl, rfl, tp_G_rb hG t1, hL, h3, fun j hj => ?_, fun b hb hbb => ?_⟩ (tp_c0a cc) (fun _ => rfl) (Cz _ (fun b hb => ?_)))
  · rcases tp_rp_v t j pr with y | y
    · exact y.trans (hpr j hj)
    · exact y
  · rw [ob t t1 b, Bool.and_eq_true] at hbb
    exact hgo b hb hbb.1
  · rw [ob t t1 b, Bool.and_eq_true] at hb
    exact hb.1
theorem tp_turn {post : St1 → Prop} {w : Nat} (hw : w < 16) (hB : tp_Bs N O u) (hN : N < 90000) (p1 p2 p3 p4 : Int32) (hx : p1 &&& 15 = nI w)
    (hp : ∀ N' O' d u', d < 2 → N' ≤ N + 1 → tp_Bs N' O' u' → tp_ccf u' = tp_ccf u + nI d → (d = 0 → tp_nuf u' = tp_nuf u) → tp_C w O O' d → post u') : wpL_turn post u p1 p2 p3 p4 := by
  obtain ⟨os, st, vo, he, ns, nm, sl, pa, tr, td, ha, cc, fi, wa, se, lc, im, lz, lk, lt, ly, ln, nu, ho, wk, wn, pr, go, kk, mf, mt, mn⟩ := u
  unfold wpL_turn
  dsimp only
  refine nm_r hx ?_
  have k32 : ∀ x6 y, wL_turn_32 post p2 p3 p4 (nI w) x6 y os st vo he ns nm sl pa tr td ha cc fi wa se lc im lz lk lt ly ln nu ho wk wn pr go kk mf mt mn := by
    intro x6 y
    unfold wL_turn_32
    exact br_c (fun _ => tp_turn52 hw hB hN _ _ _ _ _ hp) (fun _ => ⟨by decide, tp_turn52 hw hB hN _ _ _ _ _ hp⟩)
  have k18 : ∀ y, wL_turn_18 post p2 p3 p4 (nI w) y os st vo he ns nm sl pa tr td ha cc fi wa se lc im lz lk lt ly ln nu ho wk wn pr go kk mf mt mn := by
    intro y
    unfold wL_turn_18
    exact br_c (fun _ => k32 _ _) (fun _ => k32 _ _)
  exact br_c (fun _ => k18 _) (fun _ => k18 _)
end
end
section
/-! 18: the law -/
def tp_opc (O t : Nat) : Bool := O.testBit t || !(decide (t ≤ 0 ∨ O.testBit 0 = true)) || !(decide (t ≤ 1 ∨ O.testBit 1 = true)) || !(decide (t ≤ 2 ∨ O.testBit 2 = true)) || (decide (nI (O ||| 2 ^ t) &&& nI O = nI O) && decide (¬ nI O = 15) && decide (nI (O ||| 2 ^ t) = (nI O ||| ((nI O + 1) &&& (nI O ^^^ (-1))))))
theorem tp_opn0 : ∀ O, O < 16 → ∀ t, t < 4 → tp_opc O t = true := by decide +kernel
theorem tp_opn (O : Nat) (hO : O < 16) (t : Nat) (ht : t < 4) (h1 : O.testBit t = false) (h2 : ∀ i, i < t → O.testBit i = true) : (nI (O ||| 2 ^ t) &&& nI O = nI O ∧ ¬ nI O = 15 ∧ nI (O ||| 2 ^ t) = (nI O ||| ((nI O + 1) &&& (nI O ^^^ (-1))))) := by
  have k : ∀ i, t ≤ i ∨ O.testBit i = true := by
    intro i
    rcases Nat.lt_or_ge i t with z | z
    · exact Or.inr (h2 i z)
    · exact Or.inl z
  have e := tp_opn0 O hO t ht
  unfold tp_opc at e
  rw [h1, decide_eq_true (k 0), decide_eq_true (k 1), decide_eq_true (k 2)] at e
  simp only [Bool.not_true, Bool.false_or, Bool.and_eq_true, decide_eq_true_eq] at e
  exact ⟨e.1.1, e.1.2, e.2⟩
theorem tp_bits4 {O O' : Nat} (hO' : O' < 16) (h : ∀ b, O'.testBit b = true → O.testBit b = true) : nI O' &&& (nI O ^^^ (-1)) = 0 := tp_subset (by omega) h
section
variable {os st vo he ns nm sl pa tr td ha cc fi wa se lc : Int32} {im lz lk lt ly ln nu ho wk wn pr go kk mf mt mn : Nat → Int32} {N O : Nat} {L kc ks : Nat} {xs : Nat → Int32} {post : Int32 → Prop} {J : Int32 → Int32 → Int32 → Int32 → Int32 → Int32 → Int32 → Int32 → Int32 → Int32 → Int32 → Int32 → Int32 → Int32 → Int32 → Int32 → Int32 → (Nat → Int32) → (Nat → Int32) → (Nat → Int32) → (Nat → Int32) → (Nat → Int32) → (Nat → Int32) → (Nat → Int32) → (Nat → Int32) → (Nat → Int32) → (Nat → Int32) → (Nat → Int32) → (Nat → Int32) → (Nat → Int32) → (Nat → Int32) → (Nat → Int32) → (Nat → Int32) → Prop}
theorem tp_274 (hB : tp_Bs N O (os, st, vo, he, ns, nm, sl, pa, tr, td, ha, cc, fi, wa, se, lc, im, lz, lk, lt, ly, ln, nu, ho, wk, wn, pr, go, kk, mf, mt, mn)) {x2 : Int32} (hJ : J (x2 + 4) os st vo he ns nm sl pa tr td ha cc fi wa se lc im lz lk lt ly ln nu ho wk wn pr go kk mf mt mn) : wL_law_274 post L xs J x2 kc ks os st vo he ns nm sl pa tr td ha cc fi wa se lc im lz lk lt ly ln nu ho wk wn pr go kk mf mt mn := by
  obtain ⟨rfl, rfl, rfl, hG, hL, h3, hpr, hgo⟩ := hB
  unfold wL_law_274
  have n4 : ∀ s, s < 4 → ¬ (4 : Int32) = nI s := by decide +kernel
  have n1 : ∀ s, s < 4 → ¬ (-1 : Int32) = nI s := by decide +kernel
  have m1 : ∀ k, k < 12 → ¬ (-1 : Int32) = nI k := by decide +kernel
  have m12 : ∀ k, k < 12 → ¬ (12 : Int32) = nI k := by decide +kernel
  refine tp_Lholders hG (br_f (by decide) (tp_Lsums hG.2.2.2.2 (br_f (by decide) ?_)))
  unfold wpX_peek
  dsimp only
  refine tp_isKey 12 (br_t rfl (br_t rfl ?_)) (fun k hk e => absurd e (m12 k hk))
  unfold wpX_holder
  dsimp only
  refine tp_isKey (-1) (br_t rfl (br_t rfl ?_)) (fun k hk e => absurd e (m1 k hk))
  unfold wpX_sum
  dsimp only
  refine br_f (by decide) (br_f (by decide) (br_t rfl ?_))
  refine tp_keys hG.1 4 (fun _ => br_t rfl ?_) (fun s hs e _ => absurd e (n4 s hs))
  exact tp_writtenN hG.1 (-1) n1 (br_t rfl (nm_e hJ))
theorem tp_247 (hB : tp_Bs N O (os, st, vo, he, ns, nm, sl, pa, tr, td, ha, cc, fi, wa, se, lc, im, lz, lk, lt, ly, ln, nu, ho, wk, wn, pr, go, kk, mf, mt, mn)) {x2 x9 : Int32} {x4 : Int64} (hv : x9 = 0 → tp_vw nu 12 = x4) (hJ : J (x2 + 4) os st vo he ns nm sl pa tr td ha cc fi wa se lc im lz lk lt ly ln nu ho wk wn pr go kk mf mt mn) : wL_law_247 post L xs J x2 x4 x9 1 1 kc ks os st vo he ns nm sl pa tr td ha cc fi wa se lc im lz lk lt ly ln nu ho wk wn pr go kk mf mt mn := by
  unfold wL_law_247
  exact br_f (by decide) (br_f (by decide) (br_c (fun z => tp_view (br_t (hv z) (tp_274 hB hJ))) (fun _ => tp_274 hB hJ)))
theorem tp_204 (hB : tp_Bs N O (os, st, vo, he, ns, nm, sl, pa, tr, td, ha, cc, fi, wa, se, lc, im, lz, lk, lt, ly, ln, nu, ho, wk, wn, pr, go, kk, mf, mt, mn)) {x2 x6 x8 x11 : Int32} {x4 : Int64} {d : Nat} (hd : d < 2) (h0 : x11 = 0 → d = 0) (h1 : d = 1 → ¬ x8 = x6) (hv : d = 0 → tp_vw nu 12 = x4) (hJ : J (x2 + 4) os st vo he ns nm sl pa tr td ha cc fi wa se lc im lz lk lt ly ln nu ho wk wn pr go kk mf mt mn) : wL_law_204 post L xs J x2 x4 x6 x8 (nI d) x11 1 kc ks os st vo he ns nm sl pa tr td ha cc fi wa se lc im lz lk lt ly ln nu ho wk wn pr go kk mf mt mn := by
  have hv' : nI d = 0 → tp_vw nu 12 = x4 := fun z => hv ((nI_eq (a := d) (b := 0) (by omega) (by decide)).mp z)
  unfold wL_law_204 wL_law_229
  refine br_c (fun z => ?_) (fun z => ?_)
  · have e := h0 z
    subst e
    exact br_t rfl (tp_247 hB hv' hJ)
  · refine pk_eq d 0 (fun _ => tp_247 hB hv' hJ) (fun e => ?_)
    have e1 : d = 1 := by omega
    refine pk_eq d 1 (fun _ => br_f (h1 e1) (tp_247 hB hv' hJ)) (fun z => absurd e1 z)
theorem tp_91 (hB : tp_Bs N O (os, st, vo, he, ns, nm, sl, pa, tr, td, ha, cc, fi, wa, se, lc, im, lz, lk, lt, ly, ln, nu, ho, wk, wn, pr, go, kk, mf, mt, mn)) {O0 w d : Nat} {x2 : Int32} {x4 : Int64} (hw : w < 16) (hO0 : O0 < 16) (hd : d < 2) (hC : tp_C w O0 O d) (hv : d = 0 → tp_vw nu 12 = x4) (hJ : J (x2 + 4) os st vo he ns nm sl pa tr td ha cc fi wa se lc im lz lk lt ly ln nu ho wk wn pr go kk mf mt mn) :
    (nI w ≤ 9 → wL_law_91 post L xs J x2 (nI w) x4 (nI O0) (nI O) (nI d) 0 kc ks os st vo he ns nm sl pa tr td ha cc fi wa se lc im lz lk lt ly ln nu ho wk wn pr go kk mf mt mn) ∧ (¬ nI w ≤ 9 → wL_law_91 post L xs J x2 (nI w) x4 (nI O0) (nI O) (nI d) 1 kc ks os st vo he ns nm sl pa tr td ha cc fi wa se lc im lz lk lt ly ln nu ho wk wn pr go kk mf mt mn) := by
  obtain ⟨c1, c2, c3⟩ := hC
  have hO : O < 16 := by
    obtain ⟨rfl, rfl, rfl, hG, _⟩ := hB
    exact hG.1
  have ne : d = 1 → 9 < w → ¬ nI O = nI O0 := fun z y e => (c3 y).2.2 z ((nI_eq (by omega) (by omega)).mp e)
  have k110 : ∀ z0 : Int32, (z0 = 0 → d = 0) → (¬ z0 = 0 → 9 < w) → (d = 1 → 9 < w) → (nI w ≤ 9 → wL_law_110 post L xs J x2 (nI w) x4 (nI O0) (nI O) (nI d) 0 z0 kc ks os st vo he ns nm sl pa tr td ha cc fi wa se lc im lz lk lt ly ln nu ho wk wn pr go kk mf mt mn) ∧ (¬ nI w ≤ 9 → wL_law_110 post L xs J x2 (nI w) x4 (nI O0) (nI O) (nI d) 1 z0 kc ks os st vo he ns nm sl pa tr td ha cc fi wa se lc im lz lk lt ly ln nu ho wk wn pr go kk mf mt mn) := by
    intro z0 q0 q1 q2
    have k204 : wL_law_204 post L xs J x2 x4 (nI O0) (nI O) (nI d) z0 1 kc ks os st vo he ns nm sl pa tr td ha cc fi wa se lc im lz lk lt ly ln nu ho wk wn pr go kk mf mt mn := tp_204 hB hd q0 (fun z => ne z (q2 z)) hv hJ
    unfold wL_law_110 wL_law_161
    refine pk_le w 9 (fun w9 => ?_) (fun w9 => ?_)
    · refine pk_lt 1 w (fun w1 => ?_) (fun w1 => ?_)
      · exact br_t rfl (br_t (by rw [(c2 w1 w9).2]) k204)
      · rcases (c1 w1).2 with ⟨e, e'⟩ | ⟨t, t1, t2, t3, t4⟩
        · subst e'
          subst e
          exact br_t (by decide) (br_t rfl (br_t rfl k204))
        · obtain ⟨o1, o2, o3⟩ := tp_opn O0 hO0 t t1 t2 t3
          rw [← t4] at o1 o3
          exact br_t o1 (br_f o2 (br_t o3 k204))
    · refine br_t (nI_lt (a := 1) (b := w) (by omega) (by omega)) (br_f (by decide) (br_t (tp_bits4 hO (c3 w9).1) k204))
  unfold wL_law_91 wL_law_109
  have K0 : (w ≤ 9 ∨ 12 < w) → d = 0 := by
    rintro (z | z)
    · rcases Nat.lt_or_ge 1 w with y | y
      · exact (c2 y z).1
      · exact (c1 y).1
    · exact (c3 (by omega)).2.1 z
  refine pk_le w 9 (fun w9 => ?_) (fun w9 => ?_)
  · have e := K0 (Or.inl w9)
    exact br_t (nI_le w9 (by decide)) ((k110 0 (fun _ => e) (fun z => absurd rfl z) (fun z => by omega)).1 (nI_le w9 (by decide)))
  · have w9' : ¬ nI w ≤ 9 := nI_ge (a := 9) (b := w) w9 (by omega)
    refine br_f w9' (pk_lt 12 w (fun w12 => ?_) (fun w12 => ?_))
    · have e := K0 (Or.inr w12)
      exact (k110 0 (fun _ => e) (fun z => absurd rfl z) (fun z => by omega)).2 w9'
    · exact (k110 1 (fun z => absurd z (by decide)) (fun _ => w9) (fun _ => w9)).2 w9'
theorem tp_362 {u : St1} (hu : u = (os, st, vo, he, ns, nm, sl, pa, tr, td, ha, cc, fi, wa, se, lc, im, lz, lk, lt, ly, ln, nu, ho, wk, wn, pr, go, kk, mf, mt, mn)) {C : Nat} (hC : C < 16) (hB : tp_Bs N 0 (os, st, vo, he, ns, nm, sl, pa, tr, td, ha, cc, fi, wa, se, lc, im, lz, lk, lt, ly, ln, nu, ho, wk, wn, pr, go, kk, mf, mt, mn)) (h : post 1) : ∃ n, wL_law_362 post L xs (nI C) (nI (tp_cnt C 4)) kc ks os st vo he ns nm sl pa tr td ha cc fi wa se lc im lz lk lt ly ln nu ho wk wn pr go kk mf mt mn n 0 0 := by
  obtain ⟨rfl, rfl, rfl, hG, hL, h3, hpr, hgo⟩ := hB
  refine pk_loop (σ := Unit) (fun n i _ => wL_law_362 post L xs (nI C) (nI (tp_cnt C 4)) kc ks (nI 0) 0 vo he (nI N) nm sl pa tr td ha cc fi wa se lc im lz lk lt ly ln nu ho wk wn pr go kk mf mt mn n (nI (tp_cnt C i)) (nI i)) (fun _ _ => True) 4 0 () (by omega) trivial ?_ ?_
  · intro n _ _
    refine pk_le 4 4 (fun _ => br_t rfl ?_) (fun z => absurd z (by omega))
    unfold wpX_open
    dsimp only
    exact br_t rfl (tp_Lholders hG (br_f (by decide) (tp_Lsums hG.2.2.2.2 (br_f (by decide) h))))
  · intro n i _ hi _ hw
    refine pk_le 4 i (fun z => absurd z (by omega)) (fun _ => nm_r (e' := nI (tp_cnt C (i + 1))) ?_ (nm_r (nI_1 i) (hw () trivial)))
    rw [tp_bitv (by omega) (by omega), nI_add, tp_cnt, Nat.testBit_eq_decide_div_mod_eq]
    have b : C / 2 ^ i % 2 < 2 := Nat.mod_lt _ (by omega)
    rcases (by omega : C / 2 ^ i % 2 = 0 ∨ C / 2 ^ i % 2 = 1) with e | e
    · rw [e]; rfl
    · rw [e]; rfl
end
section
variable {L kc ks : Nat} {xs : Nat → Int32} {post : Int32 → Prop}
theorem tp_law10 (hL : L ≤ 260) (hpost : post 1) (u : St1) (hB : tp_Bs 0 0 u) : ∃ n, tp_ap (wL_law_10 post L xs kc ks n) (nI (4 * 0)) u := by
  refine pk_loop (σ := St1) (fun n i u => tp_ap (wL_law_10 post L xs kc ks n) (nI (4 * i)) u) (fun i u => ∃ N O, N ≤ i ∧ tp_Bs N O u) (L / 4) 0 u (by omega) ⟨0, 0, by omega, hB⟩ ?_ ?_
  · rintro n ⟨os, st, vo, he, ns, nm, sl, pa, tr, td, ha, cc, fi, wa, se, lc, im, lz, lk, lt, ly, ln, nu, ho, wk, wn, pr, go, kk, mf, mt, mn⟩ ⟨N, O, hN, hB⟩
    refine pk_le L (4 * (L / 4) + 3) (fun _ => ?_) (fun z => absurd z (by omega)) rfl (nI_add _ 3)
    have hO : O < 16 ∧ os = nI O := by
      obtain ⟨_, _, e, hG, _⟩ := hB
      exact ⟨hG.1, e⟩
    unfold wpX_open
    dsimp only
    refine tp_crash3 hB (fun u' hu' => ?_)
    obtain ⟨os1, st1, vo1, he1, ns1, nm1, sl1, pa1, tr1, td1, ha1, cc1, fi1, wa1, se1, lc1, im1, lz1, lk1, lt1, ly1, ln1, nu1, ho1, wk1, wn1, pr1, go1, kk1, mf1, mt1, mn1⟩ := u'
    dsimp only
    rw [hO.2]
    exact tp_362 rfl hO.1 hu' hpost
  · rintro n i ⟨os, st, vo, he, ns, nm, sl, pa, tr, td, ha, cc, fi, wa, se, lc, im, lz, lk, lt, ly, ln, nu, ho, wk, wn, pr, go, kk, mf, mt, mn⟩ hi ⟨N, O, hN, hB⟩ hw
    have hO : O < 16 ∧ os = nI O := by
      obtain ⟨_, _, e, hG, _⟩ := hB
      exact ⟨hG.1, e⟩
    have hx : ∀ j, j < 4 → nI (4 * i) + nI j = nI (4 * i + j) := fun j _ => nI_add _ j
    refine pk_le L (4 * i + 3) (fun z => absurd z (by omega)) (fun _ => ?_) rfl (nI_add _ 3)
    obtain ⟨w, hw16, ew⟩ := pk_andE (xs (4 * i)) (m := 15) 4 (by decide)
    have ec : (nI (4 * i)).toNatClampNeg = 4 * i := nI_clamp (by omega)
    refine ⟨pk_in (4 * i) L (by omega), nm_r (e' := nI w) (by rw [ec]; exact ew) (tp_view ?_)⟩
    unfold wpX_open
    dsimp only
    unfold wpX_commits
    dsimp only
    refine ⟨pk_in (4 * i) L (by omega), pk_in (4 * i + 1) L (by omega) (nI_add _ 1), pk_in (4 * i + 2) L (by omega) (nI_add _ 2), pk_in (4 * i + 3) L (by omega) (nI_add _ 3), ?_⟩
    refine tp_turn (w := w) (by omega) hB (by omega) _ _ _ _ (by rw [ec]; exact ew) (fun N' O' d u' c1 c2 c3 c4 c5 c6 => ?_)
    have R := hw u' ⟨N', O', by omega, c3⟩
    obtain ⟨os1, st1, vo1, he1, ns1, nm1, sl1, pa1, tr1, td1, ha1, cc1, fi1, wa1, se1, lc1, im1, lz1, lk1, lt1, ly1, ln1, nu1, ho1, wk1, wn1, pr1, go1, kk1, mf1, mt1, mn1⟩ := u'
    have hO' : os1 = nI O' := by
      obtain ⟨_, _, e, _⟩ := c3
      exact e
    have e9 : cc1 - cc = nI d := by
      have c4' : cc1 = cc + nI d := c4
      rw [c4']
      grind
    dsimp only
    refine nm_r e9 ?_
    rw [hO.2, hO']
    rw [hO'] at c3 R
    refine tp_91 c3 (by omega) hO.1 c1 c6 (fun z => ?_) ?_
    · have q : nu1 = nu := c5 z
      rw [q]
    · have e4 : nI (4 * i) + 4 = nI (4 * (i + 1)) := nI_add _ 4
      rw [e4]
      exact R
end
theorem tp_B0 {hq : Nat → Int32} (h : ∀ k, k < 12 → hq k = -1) : tp_Bs 0 0 (0, 0, 0, 0, 0, 0, 0, 0, 0, 0, 0, 0, 0, 0, 0, 0, (fun _ => 0), (fun _ => 0), (fun _ => 0), (fun _ => 0), (fun _ => 0), (fun _ => 0), (fun _ => 0), hq, (fun _ => 0), (fun _ => 0), (fun _ => 0), (fun _ => 0), (fun _ => 0), (fun _ => 0), (fun _ => 0), (fun _ => 0)) := by
  refine ⟨rfl, rfl, rfl, ⟨by decide, fun k hk => Or.inl (h k hk), fun t _ => ⟨0, by decide, rfl, fun k _ hb => absurd hb (by rw [Nat.zero_testBit]; decide)⟩, fun _ _ => tp_inr0, fun _ _ => tp_inr0⟩, fun m _ => ⟨0, by omega, rfl, fun i hi => absurd hi (by omega), fun _ _ _ => rfl, rfl⟩, ⟨0, by omega, rfl, fun i hi => absurd hi (by omega)⟩, fun _ _ => rfl, fun _ _ _ _ _ => rfl⟩
end
section
/-! 19: what is owed -/
theorem i_vc (xs : Nat → Int32) (L : Nat) (hL : L ≤ 260) : wpL_law (fun r => r = 1) L xs := by
  refine ⟨16, 1396, by decide, by decide, ?_⟩
  refine ⟨by decide, by decide, by decide, by decide, by decide, by decide, by decide, by decide, by decide, by decide, by decide, by decide, by decide, by decide, by decide, by decide, by decide, by decide, by decide, by decide, by decide, by decide, by decide, by decide, by decide, by decide, by decide, by decide, by decide, by decide, by decide, by decide, ?_⟩
  refine pk_loop (σ := Nat → Int32) (fun n i s => wX_init_136 _ 16 1396 16 1396 0 0 0 0 0 0 0 0 0 0 0 0 0 0 0 0 n (nI i) (fun _ => 0) (fun _ => 0) (fun _ => 0) (fun _ => 0) (fun _ => 0) (fun _ => 0) (fun _ => 0) s (fun _ => 0) (fun _ => 0) (fun _ => 0) (fun _ => 0) (fun _ => 0) (fun _ => 0) (fun _ => 0) (fun _ => 0)) (fun i s => ∀ k, k < i → s k = -1) 12 0 (fun _ => 0) (by omega) (fun k hk => absurd hk (by omega)) ?_ ?_
  · intro n s hs
    have F := tp_law10 (L := L) (kc := 1 + 16) (ks := 32 + 1396) (xs := xs) (post := fun r => r = 1) hL rfl _ (tp_B0 hs)
    exact pk_le 12 12 (fun _ => F) (fun z => absurd z (by omega))
  · intro n i s hi hs hw
    refine pk_le 12 i (fun z => absurd z (by omega)) (fun _ => ⟨pk_in i 12 hi, nm_e (nm_r (nI_1 i) (hw _ ?_))⟩)
    rw [nI_clamp (by omega)]
    intro k hk
    by_cases e : k = i
    · rw [e, pk_us]
    · rw [pk_un e]; exact hs k (by omega)
end
