section
def cw_b (c : Bool) : Int32 := if c then 1 else 0
theorem cw_b_0 (c : Bool) : cw_b c = 0 ↔ c = false := by cases c <;> decide
theorem cw_b_nar (c : Bool) : vp_nar .boolean (cw_b c) = cw_b c := by cases c <;> rfl
theorem cw_sl32 : ∀ n, n < 32 → ((nI n &&& 31).toBitVec.smod 32).toNat = n := by decide +kernel
theorem cw_sl64 : ∀ n, n < 64 → (((nI n).toInt64 &&& 63).toBitVec.smod 64).toNat = n := by decide +kernel
theorem cw_slp : ∀ p, p < 2 → ∀ k, k < 8 → ((((32 * nI p) + (4 * nI k)).toInt64 &&& 63).toBitVec.smod 64).toNat = 32 * p + 4 * k := by decide +kernel
theorem cw_bit32 (g : Int32) (a : Nat) (ha : a < 32) : ((g >>> (nI a &&& 31)) &&& 1) = 1 ↔ g.toBitVec.getLsbD a = true := by
  rw [← Int32.toBitVec_inj, Int32.toBitVec_and, Int32.toBitVec_shiftRight]
  show (g.toBitVec.sshiftRight ((nI a &&& 31).toBitVec.smod 32).toNat &&& 1#32) = 1#32 ↔ _
  rw [cw_sl32 a ha, BitVec.and_one_eq_setWidth_ofBool_getLsbD, BitVec.getLsbD_sshiftRight]
  have e : a + 0 < 32 := ha
  rw [if_pos e, Nat.add_zero]
  cases g.toBitVec.getLsbD a <;> decide
theorem cw_bit64 (g : Int64) (a : Nat) (ha : a < 64) : ((g >>> ((nI a).toInt64 &&& 63)) &&& 1) = 1 ↔ g.toBitVec.getLsbD a = true := by
  rw [← Int64.toBitVec_inj, Int64.toBitVec_and, Int64.toBitVec_shiftRight]
  show (g.toBitVec.sshiftRight (((nI a).toInt64 &&& 63).toBitVec.smod 64).toNat &&& 1#64) = 1#64 ↔ _
  rw [cw_sl64 a ha, BitVec.and_one_eq_setWidth_ofBool_getLsbD, BitVec.getLsbD_sshiftRight]
  have e : a + 0 < 64 := ha
  rw [if_pos e, Nat.add_zero]
  cases g.toBitVec.getLsbD a <;> decide
theorem cw_one32 : ∀ l, l < 32 → ((1 : Int32) <<< (nI l &&& 31)).toBitVec = BitVec.twoPow 32 l := by decide +kernel
theorem cw_one64 : ∀ l, l < 64 → ((1 : Int64) <<< ((nI l).toInt64 &&& 63)).toBitVec = BitVec.twoPow 64 l := by decide +kernel
theorem cw_set32 (g : Int32) (a : Nat) (ha : a < 32) (j : Nat) : (g ||| ((1 : Int32) <<< (nI a &&& 31))).toBitVec.getLsbD j = (g.toBitVec.getLsbD j || decide (j = a)) := by
  rw [Int32.toBitVec_or, cw_one32 a ha, BitVec.getLsbD_or, BitVec.getLsbD_twoPow, decide_eq_true ha, Bool.true_and]
  congr 1
  exact decide_eq_decide.mpr ⟨fun h => h.symm, fun h => h.symm⟩
theorem cw_set64 (g : Int64) (a : Nat) (ha : a < 64) (j : Nat) : (g ||| ((1 : Int64) <<< ((nI a).toInt64 &&& 63))).toBitVec.getLsbD j = (g.toBitVec.getLsbD j || decide (j = a)) := by
  rw [Int64.toBitVec_or, cw_one64 a ha, BitVec.getLsbD_or, BitVec.getLsbD_twoPow, decide_eq_true ha, Bool.true_and]
  congr 1
  exact decide_eq_decide.mpr ⟨fun h => h.symm, fun h => h.symm⟩
/-- the law's nibble -/
def cw_g (x : Int64) (p k : Nat) : Int32 := ((x >>> (((32 * nI p) + (4 * nI k)).toInt64 &&& 63)).toInt32) &&& 15
theorem cw_15 : ∀ i, i < 32 → (15 : Int32).toBitVec.getLsbD i = decide (i < 4) := by decide +kernel
theorem cw_g_bit (x : Int64) {p k : Nat} (hp : p < 2) (hk : k < 8) {i : Nat} (hi : i < 32) : (cw_g x p k).toBitVec.getLsbD i = (decide (i < 4) && x.toBitVec.getLsbD (32 * p + 4 * k + i)) := by
  unfold cw_g
  rw [Int32.toBitVec_and, BitVec.getLsbD_and, cw_15 i hi, Int64.toBitVec_toInt32, Int64.toBitVec_shiftRight]
  show (((x.toBitVec.sshiftRight ((((32 * nI p) + (4 * nI k)).toInt64 &&& 63).toBitVec.smod 64).toNat).signExtend 32).getLsbD i && _) = _
  rw [cw_slp p hp k hk, Bool.and_comm]
  by_cases h4 : i < 4
  · rw [decide_eq_true h4, Bool.true_and, Bool.true_and, BitVec.getLsbD_signExtend, BitVec.getLsbD_sshiftRight, if_pos (show i < 64 by omega), if_pos (show 32 * p + 4 * k + i < 64 by omega)]
    simp [hi, show ¬ 64 ≤ i by omega]
  · rw [decide_eq_false h4, Bool.false_and, Bool.false_and]
theorem cw_w64 {w : Nat} (hw : w < 16) (i : Nat) : (nI w).toInt64.toBitVec.getLsbD i = w.testBit i := by
  rw [nI_l (by omega)]
  show (BitVec.ofNat 64 w).getLsbD i = _
  rw [BitVec.getLsbD_ofNat]
  by_cases h : i < 64
  · rw [decide_eq_true h, Bool.true_and]
  · rw [decide_eq_false h, Bool.false_and, Nat.testBit_lt_two_pow]
    exact Nat.lt_of_lt_of_le hw (Nat.le_trans (show 16 ≤ 2 ^ 4 by decide) (Nat.pow_le_pow_right (by omega) (by omega)))
theorem cw_w32 {w : Nat} (hw : w < 16) {i : Nat} (hi : i < 32) : (nI w).toBitVec.getLsbD i = w.testBit i := by
  show (BitVec.ofNat 32 w).getLsbD i = _
  rw [BitVec.getLsbD_ofNat, decide_eq_true hi, Bool.true_and]
theorem cw_w4 {w : Nat} (hw : w < 16) {i : Nat} (hi : 4 ≤ i) : w.testBit i = false :=
  Nat.testBit_lt_two_pow (Nat.lt_of_lt_of_le hw (Nat.le_trans (show 16 ≤ 2 ^ 4 by decide) (Nat.pow_le_pow_right (by omega) hi)))
theorem cw_sb (x : Int64) {w p k : Nat} (hw : w < 16) (hp : p < 2) (hk : k < 8) {j : Nat} (hj : j < 64) :
    (x ||| ((nI w).toInt64 <<< (((32 * nI p) + (4 * nI k)).toInt64 &&& 63))).toBitVec.getLsbD j = (x.toBitVec.getLsbD j || (decide (32 * p + 4 * k ≤ j) && w.testBit (j - (32 * p + 4 * k)))) := by
  rw [Int64.toBitVec_or, BitVec.getLsbD_or, Int64.toBitVec_shiftLeft]
  show (_ || ((nI w).toInt64.toBitVec <<< ((((32 * nI p) + (4 * nI k)).toInt64 &&& 63).toBitVec.smod 64).toNat).getLsbD j) = _
  rw [cw_slp p hp k hk, BitVec.getLsbD_shiftLeft, cw_w64 hw, decide_eq_true hj, Bool.true_and]
  congr 2
  by_cases h : j < 32 * p + 4 * k
  · rw [decide_eq_true h, decide_eq_false (by omega)]; rfl
  · rw [decide_eq_false h, decide_eq_true (by omega)]; rfl
theorem cw_g_ne (x : Int64) {w p k p' k' : Nat} (hw : w < 16) (hp : p < 2) (hk : k < 8) (hp' : p' < 2) (hk' : k' < 8) (h : ¬ (p' = p ∧ k' = k)) :
    cw_g (x ||| ((nI w).toInt64 <<< (((32 * nI p) + (4 * nI k)).toInt64 &&& 63))) p' k' = cw_g x p' k' := by
  apply Int32.toBitVec_inj.mp
  apply BitVec.eq_of_getLsbD_eq
  intro i hi
  rw [cw_g_bit _ hp' hk' hi, cw_g_bit _ hp' hk' hi]
  by_cases h4 : i < 4
  · rw [cw_sb x hw hp hk (by omega)]
    by_cases hc : 32 * p + 4 * k ≤ 32 * p' + 4 * k' + i
    · rw [cw_w4 hw (i := 32 * p' + 4 * k' + i - (32 * p + 4 * k)) (by omega), Bool.and_false, Bool.or_false]
    · rw [decide_eq_false hc, Bool.false_and, Bool.or_false]
  · rw [decide_eq_false h4, Bool.false_and, Bool.false_and]
theorem cw_g_eq (x : Int64) {w p k : Nat} (hw : w < 16) (hp : p < 2) (hk : k < 8) (h0 : cw_g x p k = 0) :
    cw_g (x ||| ((nI w).toInt64 <<< (((32 * nI p) + (4 * nI k)).toInt64 &&& 63))) p k = nI w := by
  apply Int32.toBitVec_inj.mp
  apply BitVec.eq_of_getLsbD_eq
  intro i hi
  rw [cw_g_bit _ hp hk hi, cw_w32 hw hi]
  by_cases h4 : i < 4
  · have hz := cw_g_bit x hp hk hi
    rw [h0, decide_eq_true h4, Bool.true_and] at hz
    have hz' : x.toBitVec.getLsbD (32 * p + 4 * k + i) = false := hz.symm.trans BitVec.getLsbD_zero
    rw [cw_sb x hw hp hk (by omega), hz', decide_eq_true h4, decide_eq_true (show 32 * p + 4 * k ≤ 32 * p + 4 * k + i by omega), Bool.true_and, Bool.true_and, Bool.false_or, Nat.add_sub_cancel_left]
  · rw [decide_eq_false h4, Bool.false_and, cw_w4 hw (by omega)]
theorem cw_g_0 : ∀ p, p < 2 → ∀ k, k < 8 → cw_g 0 p k = 0 := by decide +kernel
theorem cw_st : ∀ S, S < 8 → ∀ p, p < 3 → (((((nI S).toUInt32 >>> ((nI p).toUInt32 &&& Int32.toUInt32 31)).toInt32) &&& 1) = 0 ↔ S.testBit p = false) := by decide +kernel
theorem cw_s1 : ∀ S, S < 8 → ((nI S &&& 1) = 0 ↔ S.testBit 0 = false) := by decide +kernel
theorem cw_s2 : ∀ S, S < 8 → ((nI S &&& 2) = 0 ↔ S.testBit 1 = false) := by decide +kernel
theorem cw_s4 : ∀ S, S < 4 → 4 ||| nI S = nI (4 + S) := by decide +kernel
theorem cw_t4 : ∀ S, S < 4 → (4 + S).testBit 2 = true ∧ S.testBit 2 = false := by decide +kernel
theorem cw_t3 : ∀ S, 1 ≤ S → S < 4 → S.testBit 0 = true ∨ S.testBit 1 = true := by
  intro S h1 h4
  rcases (by omega : S = 1 ∨ S = 2 ∨ S = 3) with rfl | rfl | rfl <;> decide
end
section
def cw_up {α : Type} (f : Nat → α) (p : Nat) (x : α) : Nat → α := fun j => if j = p then x else f j
theorem cw_up_s {α : Type} {f : Nat → α} {p : Nat} {x : α} : cw_up f p x p = x := if_pos rfl
theorem cw_up_n {α : Type} {f : Nat → α} {p j : Nat} {x : α} (h : j ≠ p) : cw_up f p x j = f j := if_neg h
/-- the picture is one of a run: N counts, K what a state knows, G the good states -/
def cw_W (N : Nat → Nat) (K : Nat → Nat → Nat → Nat) (G : Nat → Nat → Bool) : Prop :=
  N 0 ≤ 7 ∧ N 1 ≤ 7 ∧ N 2 = 0 ∧ (∀ p k, p < 3 → k ≤ N p → K p k p = k) ∧ (∀ p k q, p < 3 → k ≤ N p → q < 3 → K p k q ≤ N q) ∧
  (∀ p k q, p < 3 → q < 3 → k + 1 ≤ N p → K p k q ≤ K p (k + 1) q) ∧
  (∀ p q i j, p < 3 → q < 3 → p ≠ q → 1 ≤ i → i ≤ N p → 1 ≤ j → j ≤ N q → j ≤ K p i q → i ≤ K q j p → False) ∧
  (∀ p, p < 3 → G p 0 = false) ∧ (∀ p q, p < 3 → q < 3 → K p 0 q = 0)
theorem cw_3 {p : Nat} (h : p < 3) : p = 0 ∨ p = 1 ∨ p = 2 := by omega
theorem cw_W_N {N : Nat → Nat} {K : Nat → Nat → Nat → Nat} {G : Nat → Nat → Bool} (W : cw_W N K G) {p : Nat} (hp : p < 3) : N p ≤ 7 := by
  obtain ⟨h0, h1, h2, _⟩ := W
  rcases cw_3 hp with rfl | rfl | rfl <;> omega
theorem cw_mono {N : Nat → Nat} {K : Nat → Nat → Nat → Nat} {G : Nat → Nat → Bool} (W : cw_W N K G) {p q : Nat} (hp : p < 3) (hq : q < 3) {k : Nat} : ∀ {k' : Nat}, k ≤ k' → k' ≤ N p → K p k q ≤ K p k' q := by
  intro k' h
  induction h with
  | refl => intro _; exact Nat.le_refl _
  | step h ih => intro h2; exact Nat.le_trans (ih (by omega)) (W.2.2.2.2.2.1 p _ q hp hq h2)
section
variable (N : Nat → Nat) (K : Nat → Nat → Nat → Nat) (G : Nat → Nat → Bool) (S : Nat)
def cw_C (a b : Nat) : Prop := a ≤ N 0 ∧ b ≤ N 1 ∧ K 0 a 1 ≤ b ∧ K 1 b 0 ≤ a
def cw_gd (a b : Nat) : Prop := (S.testBit 0 = true → G 0 a = true) ∧ (S.testBit 1 = true → G 1 b = true)
def cw_av : Nat → Nat → Nat → Prop
  | 0 => fun a b => (cw_C N K a b ∧ ¬ cw_gd G S a b) ∧ a = 0 ∧ b = 0
  | s + 1 => fun a b => (cw_C N K a b ∧ ¬ cw_gd G S a b) ∧ ((0 < a ∧ cw_av s (a - 1) b) ∨ (0 < b ∧ cw_av s a (b - 1)))
def cw_A (a b : Nat) : Prop := cw_av N K G S (a + b) a b
end
section
variable {N : Nat → Nat} {K : Nat → Nat → Nat → Nat} {G : Nat → Nat → Bool} {S : Nat}
theorem cw_av_ok : ∀ {s a b : Nat}, cw_av N K G S s a b → cw_C N K a b ∧ ¬ cw_gd G S a b := by
  intro s a b h
  cases s with
  | zero => exact h.1
  | succ s => exact h.1
theorem cw_A_ok {a b : Nat} (h : cw_A N K G S a b) : cw_C N K a b ∧ ¬ cw_gd G S a b := cw_av_ok h
theorem cw_A_0 (h : cw_C N K 0 0) (g : ¬ cw_gd G S 0 0) : cw_A N K G S 0 0 := ⟨⟨h, g⟩, rfl, rfl⟩
theorem cw_A_r {a b : Nat} (h : cw_A N K G S a b) (hc : cw_C N K (a + 1) b) (g : ¬ cw_gd G S (a + 1) b) : cw_A N K G S (a + 1) b := by
  unfold cw_A
  rw [show a + 1 + b = (a + b) + 1 by omega]
  exact ⟨⟨hc, g⟩, Or.inl ⟨by omega, h⟩⟩
theorem cw_A_u {a b : Nat} (h : cw_A N K G S a b) (hc : cw_C N K a (b + 1)) (g : ¬ cw_gd G S a (b + 1)) : cw_A N K G S a (b + 1) :=
  ⟨⟨hc, g⟩, Or.inr ⟨Nat.succ_pos b, h⟩⟩
theorem cw_A_inv {a b : Nat} (h : cw_A N K G S a b) : (a = 0 ∧ b = 0) ∨ (0 < a ∧ cw_A N K G S (a - 1) b) ∨ (0 < b ∧ cw_A N K G S a (b - 1)) := by
  unfold cw_A at h
  cases hs : a + b with
  | zero => exact Or.inl ⟨by omega, by omega⟩
  | succ s =>
    rw [hs] at h
    rcases h.2 with ⟨h1, h2⟩ | ⟨h1, h2⟩
    · refine Or.inr (Or.inl ⟨h1, ?_⟩)
      unfold cw_A
      rw [show a - 1 + b = s by omega]
      exact h2
    · refine Or.inr (Or.inr ⟨h1, ?_⟩)
      unfold cw_A
      rw [show a + (b - 1) = s by omega]
      exact h2
theorem cw_C_0 (W : cw_W N K G) : cw_C N K 0 0 := by
  have h1 := W.2.2.2.2.2.2.2.2 0 1 (by omega) (by omega)
  have h2 := W.2.2.2.2.2.2.2.2 1 0 (by omega) (by omega)
  exact ⟨by omega, by omega, by omega, by omega⟩
theorem cw_C_e (W : cw_W N K G) : cw_C N K (N 0) (N 1) :=
  ⟨Nat.le_refl _, Nat.le_refl _, W.2.2.2.2.1 0 _ 1 (by omega) (Nat.le_refl _) (by omega), W.2.2.2.2.1 1 _ 0 (by omega) (Nat.le_refl _) (by omega)⟩
theorem cw_path (W : cw_W N K G) : ∀ (d : Nat) {a b a' b' : Nat}, (a' - a) + (b' - b) = d → a ≤ a' → b ≤ b' → cw_A N K G S a b → cw_C N K a' b' →
    (∀ x y, a ≤ x → x ≤ a' → b ≤ y → y ≤ b' → ¬ cw_gd G S x y) → cw_A N K G S a' b' := by
  intro d
  induction d with
  | zero =>
    intro a b a' b' hd ha hb h _ _
    have e1 : a' = a := by omega
    have e2 : b' = b := by omega
    rw [e1, e2]; exact h
  | succ d ih =>
    intro a b a' b' hd ha hb h hc hg
    obtain ⟨c1, c2, c3, c4⟩ := (cw_A_ok h).1
    obtain ⟨d1, d2, d3, d4⟩ := hc
    have goR : a < a' → K 0 (a + 1) 1 ≤ b → cw_A N K G S a' b' := fun h1 h2 =>
      ih (a := a + 1) (b := b) (by omega) (by omega) hb (cw_A_r h ⟨by omega, c2, h2, by omega⟩ (hg _ _ (by omega) (by omega) (by omega) (by omega))) ⟨d1, d2, d3, d4⟩ (fun x y q1 q2 q3 q4 => hg x y (by omega) q2 q3 q4)
    have goU : b < b' → K 1 (b + 1) 0 ≤ a → cw_A N K G S a' b' := fun h1 h2 =>
      ih (a := a) (b := b + 1) (by omega) ha (by omega) (cw_A_u h ⟨c1, by omega, by omega, h2⟩ (hg _ _ (by omega) (by omega) (by omega) (by omega))) ⟨d1, d2, d3, d4⟩ (fun x y q1 q2 q3 q4 => hg x y q1 q2 (by omega) q4)
    by_cases e1 : a < a'
    · by_cases e2 : b < b'
      · by_cases f1 : K 0 (a + 1) 1 ≤ b
        · exact goR e1 f1
        · by_cases f2 : K 1 (b + 1) 0 ≤ a
          · exact goU e2 f2
          · exact (W.2.2.2.2.2.2.1 0 1 (a + 1) (b + 1) (by omega) (by omega) (by omega) (by omega) (by omega) (by omega) (by omega) (by omega) (by omega)).elim
      · have m1 := cw_mono W (p := 0) (q := 1) (by omega) (by omega) (k := a + 1) (k' := a') (by omega) d1
        exact goR e1 (by omega)
    · have m1 := cw_mono W (p := 1) (q := 0) (by omega) (by omega) (k := b + 1) (k' := b') (by omega) d2
      exact goU (by omega) (by omega)
/-- a good cut of all three, and one of the two -/
def cw_sol (N : Nat → Nat) (K : Nat → Nat → Nat → Nat) (G : Nat → Nat → Bool) (S : Nat) (d : Nat → Nat) : Prop :=
  ∀ p, p < 3 → d p ≤ N p ∧ (∀ q, q < 3 → K q (d q) p ≤ d p) ∧ (S.testBit p = true → G p (d p) = true)
theorem cw_sol_iff (W : cw_W N K G) (hS : S < 4) : (∃ d, cw_sol N K G S d) ↔ ∃ a b, cw_C N K a b ∧ cw_gd G S a b := by
  constructor
  · rintro ⟨d, h⟩
    obtain ⟨a1, a2, a3⟩ := h 0 (by omega)
    obtain ⟨b1, b2, b3⟩ := h 1 (by omega)
    exact ⟨d 0, d 1, ⟨a1, b1, b2 0 (by omega), a2 1 (by omega)⟩, a3, b3⟩
  · rintro ⟨a, b, ⟨c1, c2, c3, c4⟩, g0, g1⟩
    obtain ⟨w0, w1, w2, w3, w4, _, _, _, w8⟩ := W
    refine ⟨fun p => if p = 0 then a else if p = 1 then b else 0, fun p hp => ?_⟩
    have z0 := w3 0 a (by omega) c1
    have z1 := w3 1 b (by omega) c2
    have z2 := w8 2 0 (by omega) (by omega)
    have z3 := w8 2 1 (by omega) (by omega)
    have y0 := w4 0 a 2 (by omega) c1 (by omega)
    have y1 := w4 1 b 2 (by omega) c2 (by omega)
    have y2 := w8 2 2 (by omega) (by omega)
    rcases cw_3 hp with rfl | rfl | rfl
    · refine ⟨c1, fun q hq => ?_, g0⟩
      rcases cw_3 hq with rfl | rfl | rfl
      · exact Nat.le_of_eq z0
      · exact c4
      · show K 2 0 0 ≤ a; omega
    · refine ⟨c2, fun q hq => ?_, g1⟩
      rcases cw_3 hq with rfl | rfl | rfl
      · exact c3
      · exact Nat.le_of_eq z1
      · show K 2 0 1 ≤ b; omega
    · refine ⟨Nat.zero_le _, fun q hq => ?_, fun h => ?_⟩
      · rcases cw_3 hq with rfl | rfl | rfl
        · show K 0 a 2 ≤ 0; omega
        · show K 1 b 2 ≤ 0; omega
        · show K 2 0 2 ≤ 0; omega
      · rw [(cw_t4 S hS).2] at h; cases h
theorem cw_sol_4 (W : cw_W N K G) (hS : S < 4) : ¬ ∃ d, cw_sol N K G (4 + S) d := by
  rintro ⟨d, h⟩
  obtain ⟨a1, _, a3⟩ := h 2 (by omega)
  have e : d 2 = 0 := by have := W.2.2.1; omega
  have g := a3 (cw_t4 S hS).1
  rw [e, W.2.2.2.2.2.2.2.1 2 (by omega)] at g
  cases g
end
end
section
section
variable {N : Nat → Nat} {K : Nat → Nat → Nat → Nat} {G : Nat → Nat → Bool} {S : Nat}
/-- a stretch of good states of p, and the first one from s on -/
def cw_is (N : Nat → Nat) (G : Nat → Nat → Bool) (p F T : Nat) : Prop :=
  F ≤ T ∧ T ≤ N p ∧ (∀ k, F ≤ k → k ≤ T → G p k = true) ∧ (T < N p → G p (T + 1) = false)
def cw_str (N : Nat → Nat) (G : Nat → Nat → Bool) (p s F T : Nat) : Prop :=
  s ≤ F ∧ (∀ k, s ≤ k → k < F → G p k = false) ∧ cw_is N G p F T
def cw_none (N : Nat → Nat) (G : Nat → Nat → Bool) (p s : Nat) : Prop := ∀ k, s ≤ k → k ≤ N p → G p k = false
def cw_early (N : Nat → Nat) (K : Nat → Nat → Nat → Nat) (S : Nat) (F T : Nat → Nat) (p q : Nat) : Prop :=
  q ≠ p ∧ S.testBit p = true ∧ S.testBit q = true ∧ T p < N p ∧ K p (T p + 1) q < F q
def cw_I (N : Nat → Nat) (G : Nat → Nat → Bool) (S : Nat) (F T : Nat → Nat) : Prop :=
  ∀ p, p < 3 → S.testBit p = true → cw_is N G p (F p) (T p)
def cw_E (N : Nat → Nat) (K : Nat → Nat → Nat → Nat) (G : Nat → Nat → Bool) (S : Nat) (F : Nat → Nat) : Prop :=
  ∃ a b, cw_A N K G S a b ∧ (S.testBit 0 = true → a < F 0 ∧ ∀ x, a ≤ x → x < F 0 → G 0 x = false) ∧ (S.testBit 1 = true → b < F 1 ∧ ∀ x, b ≤ x → x < F 1 → G 1 x = false)
theorem cw_gd_0 (W : cw_W N K G) (h1 : 1 ≤ S) (h4 : S < 4) : ¬ cw_gd G S 0 0 := by
  intro g
  rcases cw_t3 S h1 h4 with h | h
  · have e := g.1 h
    rw [W.2.2.2.2.2.2.2.1 0 (by omega)] at e; cases e
  · have e := g.2 h
    rw [W.2.2.2.2.2.2.2.1 1 (by omega)] at e; cases e
theorem cw_ng0 {x y : Nat} (hb : S.testBit 0 = true) (h : G 0 x = false) : ¬ cw_gd G S x y := by
  intro g
  have e := g.1 hb
  rw [h] at e; cases e
theorem cw_ng1 {x y : Nat} (hb : S.testBit 1 = true) (h : G 1 y = false) : ¬ cw_gd G S x y := by
  intro g
  have e := g.2 hb
  rw [h] at e; cases e
/-- no good state of p at all -/
theorem cw_fail0 (W : cw_W N K G) (h1 : 1 ≤ S) (h4 : S < 4) {p : Nat} (hp : p < 3) (hb : S.testBit p = true) (h : cw_none N G p 0) : cw_A N K G S (N 0) (N 1) := by
  refine cw_path W _ (a := 0) (b := 0) rfl (Nat.zero_le _) (Nat.zero_le _) (cw_A_0 (cw_C_0 W) (cw_gd_0 W h1 h4)) (cw_C_e W) (fun x y _ hx _ hy => ?_)
  rcases cw_3 hp with rfl | rfl | rfl
  · exact cw_ng0 hb (h x (Nat.zero_le _) hx)
  · exact cw_ng1 hb (h y (Nat.zero_le _) hy)
  · rw [(cw_t4 S h4).2] at hb; cases hb
theorem cw_E_0 (W : cw_W N K G) (h1 : 1 ≤ S) (h4 : S < 4) {F : Nat → Nat} (h : ∀ p, p < 3 → S.testBit p = true → ∃ T, cw_str N G p 0 (F p) T) : cw_E N K G S F := by
  have key : ∀ p, p < 3 → S.testBit p = true → 0 < F p ∧ ∀ x, 0 ≤ x → x < F p → G p x = false := by
    intro p hp hb
    obtain ⟨T, _, hx, hy⟩ := h p hp hb
    refine ⟨?_, hx⟩
    rcases Nat.eq_zero_or_pos (F p) with e | e
    · have g := hy.2.2.1 (F p) (Nat.le_refl _) hy.1
      rw [e, W.2.2.2.2.2.2.2.1 p hp] at g; cases g
    · exact e
  exact ⟨0, 0, cw_A_0 (cw_C_0 W) (cw_gd_0 W h1 h4), key 0 (by omega), key 1 (by omega)⟩
/-- the road goes on behind the stretch that is given up -/
theorem cw_go0 (W : cw_W N K G) {F T : Nat → Nat} (hI : cw_I N G S F T) (hE : cw_E N K G S F) (h : cw_early N K S F T 0 1) :
    ∃ b, cw_A N K G S (T 0 + 1) b ∧ b < F 1 ∧ (∀ x, b ≤ x → x < F 1 → G 1 x = false) := by
  obtain ⟨_, b0, b1, t1, t2⟩ := h
  obtain ⟨a, b, hA, e0, e1⟩ := hE
  obtain ⟨f0, _⟩ := e0 b0
  obtain ⟨g0, g1⟩ := e1 b1
  obtain ⟨i1, i2, i3, i4⟩ := hI 0 (by omega) b0
  obtain ⟨c1, c2, c3, c4⟩ := (cw_A_ok hA).1
  obtain ⟨j1, j2, j3, j4⟩ := hI 1 (by omega) b1
  have hc : ∃ b', b ≤ b' ∧ b' < F 1 ∧ cw_C N K (T 0 + 1) b' := by
    by_cases z : K 0 (T 0 + 1) 1 ≤ b
    · exact ⟨b, Nat.le_refl _, g0, by omega, c2, z, by omega⟩
    · refine ⟨K 0 (T 0 + 1) 1, by omega, t2, by omega, by omega, Nat.le_refl _, ?_⟩
      rcases Nat.lt_or_ge (T 0 + 1) (K 1 (K 0 (T 0 + 1) 1) 0) with y | y
      · exact (W.2.2.2.2.2.2.1 0 1 (T 0 + 1) (K 0 (T 0 + 1) 1) (by omega) (by omega) (by omega) (by omega) (by omega) (by omega) (by omega) (Nat.le_refl _) (by omega)).elim
      · exact y
  obtain ⟨b', q1, q2, q3⟩ := hc
  refine ⟨b', cw_path W _ rfl (by omega) q1 hA q3 (fun x y _ _ hy hy' => cw_ng1 b1 (g1 y hy (by omega))), q2, fun x hx hx' => g1 x (by omega) hx'⟩
theorem cw_go1 (W : cw_W N K G) {F T : Nat → Nat} (hI : cw_I N G S F T) (hE : cw_E N K G S F) (h : cw_early N K S F T 1 0) :
    ∃ a, cw_A N K G S a (T 1 + 1) ∧ a < F 0 ∧ (∀ x, a ≤ x → x < F 0 → G 0 x = false) := by
  obtain ⟨_, b1, b0, t1, t2⟩ := h
  obtain ⟨a, b, hA, e0, e1⟩ := hE
  obtain ⟨g0, g1⟩ := e0 b0
  obtain ⟨f0, _⟩ := e1 b1
  obtain ⟨i1, i2, i3, i4⟩ := hI 1 (by omega) b1
  obtain ⟨c1, c2, c3, c4⟩ := (cw_A_ok hA).1
  obtain ⟨j1, j2, j3, j4⟩ := hI 0 (by omega) b0
  have hc : ∃ a', a ≤ a' ∧ a' < F 0 ∧ cw_C N K a' (T 1 + 1) := by
    by_cases z : K 1 (T 1 + 1) 0 ≤ a
    · exact ⟨a, Nat.le_refl _, g0, c1, by omega, by omega, z⟩
    · refine ⟨K 1 (T 1 + 1) 0, by omega, t2, by omega, by omega, ?_, Nat.le_refl _⟩
      rcases Nat.lt_or_ge (T 1 + 1) (K 0 (K 1 (T 1 + 1) 0) 1) with y | y
      · exact (W.2.2.2.2.2.2.1 1 0 (T 1 + 1) (K 1 (T 1 + 1) 0) (by omega) (by omega) (by omega) (by omega) (by omega) (by omega) (by omega) (Nat.le_refl _) (by omega)).elim
      · exact y
  obtain ⟨a', q1, q2, q3⟩ := hc
  refine ⟨a', cw_path W _ rfl q1 (by omega) hA q3 (fun x y hx hx' _ _ => cw_ng0 b0 (g1 x hx (by omega))), q2, fun x hx hx' => g1 x (by omega) hx'⟩
theorem cw_early2 (h4 : S < 4) {F T : Nat → Nat} {p q : Nat} (hp : p < 3) (hq : q < 3) (h : cw_early N K S F T p q) : (p = 0 ∧ q = 1) ∨ (p = 1 ∧ q = 0) := by
  obtain ⟨hn, b1, b2, _⟩ := h
  have t := (cw_t4 S h4).2
  have n1 : p ≠ 2 := fun e => by rw [e, t] at b1; cases b1
  have n2 : q ≠ 2 := fun e => by rw [e, t] at b2; cases b2
  omega
theorem cw_str_lt {p F' T' t : Nat} (h : G p t = false) (hs : cw_str N G p t F' T') : t < F' := by
  obtain ⟨h1, _, h2, _, h3, _⟩ := hs
  rcases Nat.lt_or_ge t F' with z | z
  · exact z
  · have e : F' = t := by omega
    have g := h3 F' (Nat.le_refl _) h2
    rw [e, h] at g; cases g
theorem cw_I_up {F T : Nat → Nat} (hI : cw_I N G S F T) {p s F' T' : Nat} (hs : cw_str N G p s F' T') : cw_I N G S (cw_up F p F') (cw_up T p T') := by
  intro r hr hb
  by_cases e : r = p
  · subst e
    rw [cw_up_s, cw_up_s]; exact hs.2.2
  · rw [cw_up_n e, cw_up_n e]; exact hI r hr hb
theorem cw_E_up (W : cw_W N K G) (h4 : S < 4) {F T : Nat → Nat} {p q F' T' : Nat} (hp : p < 3) (hq : q < 3) (hI : cw_I N G S F T) (hE : cw_E N K G S F) (h : cw_early N K S F T p q) (hs : cw_str N G p (T p + 1) F' T') : cw_E N K G S (cw_up F p F') := by
  rcases cw_early2 h4 hp hq h with ⟨rfl, rfl⟩ | ⟨rfl, rfl⟩
  · obtain ⟨b, hA, h1, h2⟩ := cw_go0 W hI hE h
    have hl := cw_str_lt ((hI 0 (by omega) h.2.1).2.2.2 h.2.2.2.1) hs
    refine ⟨T 0 + 1, b, hA, fun _ => ?_, fun _ => ?_⟩
    · rw [cw_up_s]; exact ⟨hl, hs.2.1⟩
    · rw [cw_up_n (by omega)]; exact ⟨h1, h2⟩
  · obtain ⟨a, hA, h1, h2⟩ := cw_go1 W hI hE h
    have hl := cw_str_lt ((hI 1 (by omega) h.2.1).2.2.2 h.2.2.2.1) hs
    refine ⟨a, T 1 + 1, hA, fun _ => ?_, fun _ => ?_⟩
    · rw [cw_up_n (by omega)]; exact ⟨h1, h2⟩
    · rw [cw_up_s]; exact ⟨hl, hs.2.1⟩
theorem cw_fail (W : cw_W N K G) (h4 : S < 4) {F T : Nat → Nat} {p q : Nat} (hp : p < 3) (hq : q < 3) (hI : cw_I N G S F T) (hE : cw_E N K G S F) (h : cw_early N K S F T p q) (hs : cw_none N G p (T p + 1)) : cw_A N K G S (N 0) (N 1) := by
  rcases cw_early2 h4 hp hq h with ⟨rfl, rfl⟩ | ⟨rfl, rfl⟩
  · obtain ⟨b, hA, h1, h2⟩ := cw_go0 W hI hE h
    obtain ⟨c1, c2, _⟩ := (cw_A_ok hA).1
    exact cw_path W _ rfl c1 c2 hA (cw_C_e W) (fun x y hx hx' _ _ => cw_ng0 h.2.1 (hs x hx hx'))
  · obtain ⟨a, hA, h1, h2⟩ := cw_go1 W hI hE h
    obtain ⟨c1, c2, _⟩ := (cw_A_ok hA).1
    exact cw_path W _ rfl c1 c2 hA (cw_C_e W) (fun x y _ _ hy hy' => cw_ng1 h.2.1 (hs y hy hy'))
/-- stretches that meet: no road goes round them -/
theorem cw_wall (W : cw_W N K G) (h1 : 1 ≤ S) (h4 : S < 4) {F T : Nat → Nat} (hI : cw_I N G S F T) (hn : ∀ p q, p < 3 → q < 3 → ¬ cw_early N K S F T p q) :
    ∀ (s a b : Nat), cw_av N K G S s a b → (S.testBit 0 = true → F 0 ≤ a) → (S.testBit 1 = true → F 1 ≤ b) → False := by
  have i0 : S.testBit 0 = true → cw_is N G 0 (F 0) (T 0) := hI 0 (by omega)
  have i1 : S.testBit 1 = true → cw_is N G 1 (F 1) (T 1) := hI 1 (by omega)
  intro s
  induction s with
  | zero =>
    intro a b h f0 f1
    obtain ⟨_, rfl, rfl⟩ := h
    rcases cw_t3 S h1 h4 with hb | hb
    · have g := (i0 hb).2.2.1 0 (f0 hb) (Nat.zero_le _)
      rw [W.2.2.2.2.2.2.2.1 0 (by omega)] at g; cases g
    · have g := (i1 hb).2.2.1 0 (f1 hb) (Nat.zero_le _)
      rw [W.2.2.2.2.2.2.2.1 1 (by omega)] at g; cases g
  | succ s ih =>
    intro a b h f0 f1
    obtain ⟨⟨⟨c1, c2, c3, c4⟩, hg⟩, hp⟩ := h
    rcases hp with ⟨ha, hp⟩ | ⟨hb, hp⟩
    · obtain ⟨⟨d1, d2, d3, d4⟩, _⟩ := cw_av_ok hp
      by_cases hx : S.testBit 0 = true ∧ ¬ F 0 ≤ a - 1
      · have ea : a = F 0 := by have := f0 hx.1; omega
        refine hg ⟨fun b0 => ?_, fun b1 => ?_⟩
        · rw [ea]; exact (i0 b0).2.2.1 _ (Nat.le_refl _) (i0 b0).1
        · obtain ⟨j1, j2, j3, j4⟩ := i1 b1
          rcases Nat.lt_or_ge (T 1) b with z | z
          · have m := cw_mono W (p := 1) (q := 0) (by omega) (by omega) (k := T 1 + 1) (k' := b) z c2
            have := hn 1 0 (by omega) (by omega)
            exact (this ⟨by omega, b1, hx.1, by omega, by omega⟩).elim
          · exact j3 b (f1 b1) z
      · exact ih _ _ hp (fun b0 => by
          rcases Nat.lt_or_ge (a - 1) (F 0) with z | z
          · exact absurd ⟨b0, by omega⟩ hx
          · exact z) f1
    · obtain ⟨⟨d1, d2, d3, d4⟩, _⟩ := cw_av_ok hp
      by_cases hx : S.testBit 1 = true ∧ ¬ F 1 ≤ b - 1
      · have ea : b = F 1 := by have := f1 hx.1; omega
        refine hg ⟨fun b0 => ?_, fun b1 => ?_⟩
        · obtain ⟨j1, j2, j3, j4⟩ := i0 b0
          rcases Nat.lt_or_ge (T 0) a with z | z
          · have m := cw_mono W (p := 0) (q := 1) (by omega) (by omega) (k := T 0 + 1) (k' := a) z c1
            have := hn 0 1 (by omega) (by omega)
            exact (this ⟨by omega, b0, hx.1, by omega, by omega⟩).elim
          · exact j3 a (f0 b0) z
        · rw [ea]; exact (i1 b1).2.2.1 _ (Nat.le_refl _) (i1 b1).1
      · exact ih _ _ hp f0 (fun b1 => by
          rcases Nat.lt_or_ge (b - 1) (F 1) with z | z
          · exact absurd ⟨b1, by omega⟩ hx
          · exact z)
theorem cw_done (W : cw_W N K G) (h1 : 1 ≤ S) (h4 : S < 4) {F T : Nat → Nat} (hI : cw_I N G S F T) (hn : ∀ p q, p < 3 → q < 3 → ¬ cw_early N K S F T p q) : ¬ cw_A N K G S (N 0) (N 1) := fun h =>
  cw_wall W h1 h4 hI hn _ _ _ h (fun b => Nat.le_trans (hI 0 (by omega) b).1 (hI 0 (by omega) b).2.1) (fun b => Nat.le_trans (hI 1 (by omega) b).1 (hI 1 (by omega) b).2.1)
end
end
section
/-- the picture is that of the arrays -/
def cw_R (N : Nat → Nat) (K : Nat → Nat → Nat → Nat) (G : Nat → Nat → Bool) (a1 a2 a3 : Nat → Int32) : Prop :=
  (∀ p, p < 3 → a1 p = nI (N p)) ∧ (∀ p k, p < 3 → k ≤ N p → a2 (9 * p + k) = cw_b (G p k)) ∧ (∀ p k q, p < 3 → k ≤ N p → q < 3 → a3 (27 * p + 3 * k + q) = nI (K p k q))
theorem cw_e27 (p k q : Nat) : ((27 * nI p) + (3 * nI k)) + nI q = nI (27 * p + 3 * k + q) := by
  show ((nI 27 * nI p) + (nI 3 * nI k)) + nI q = _
  rw [pk_mul, pk_mul, nI_add, nI_add]
theorem cw_e9 (p k : Nat) : (9 * nI p) + nI k = nI (9 * p + k) := by
  show (nI 9 * nI p) + nI k = _
  rw [pk_mul, nI_add]
section
variable {f : Int32} {a1 a2 a3 a4 a5 a6 a7 a8 a9 : Nat → Int32} {N : Nat → Nat} {K : Nat → Nat → Nat → Nat} {G : Nat → Nat → Bool}
theorem cw_a1 (R : cw_R N K G a1 a2 a3) {p : Nat} (hp : p < 3) : a1 (nI p).toNatClampNeg = nI (N p) := by
  rw [nI_clamp (by omega)]; exact R.1 p hp
theorem cw_a2 (R : cw_R N K G a1 a2 a3) (W : cw_W N K G) {p k : Nat} (hp : p < 3) (hk : k ≤ N p) : a2 ((9 * nI p) + nI k).toNatClampNeg = cw_b (G p k) := by
  have := cw_W_N W hp
  rw [cw_e9, nI_clamp (by omega)]; exact R.2.1 p k hp hk
theorem cw_kb {post : Int32 → Prop} (R : cw_R N K G a1 a2 a3) (W : cw_W N K G) (p k q : Nat) {x y z : Int32} (hp : p < 3) (hk : k ≤ N p) (hq : q < 3) (h : post (nI (K p k q)))
    (hx : x = nI p := by rfl) (hy : y = nI k := by rfl) (hz : z = nI q := by rfl) : wpX_knownBy post (f, a1, a2, a3, a4, a5, a6, a7, a8, a9) x y z := by
  subst hx hy hz
  have hn := cw_W_N W hp
  show vp_in (((27 * nI p) + (3 * nI k)) + nI q) 81 ∧ post (a3 (((27 * nI p) + (3 * nI k)) + nI q).toNatClampNeg)
  rw [cw_e27, nI_clamp (by omega), R.2.2 p k q hp hk hq]
  exact ⟨vp_in_nI (by omega) (by omega), h⟩
theorem cw_ts {post : Int32 → Prop} (R : cw_R N K G a1 a2 a3) (W : cw_W N K G) {i j : Nat} (hi : i ≤ N 0) (hj : j ≤ N 1) (h : post (nI 1)) : wpX_thirdStates post (f, a1, a2, a3, a4, a5, a6, a7, a8, a9) (nI i) (nI j) := by
  have n0 := W.1
  have n1 := W.2.1
  have n2 := W.2.2.1
  have k1 := W.2.2.2.2.1 0 i 2 (by omega) hi (by omega)
  have k2 := W.2.2.2.2.1 1 j 2 (by omega) hj (by omega)
  have e1 : K 0 i 2 = 0 := by omega
  have e2 : K 1 j 2 = 0 := by omega
  have k3 := W.2.2.2.2.2.2.2.2 2 0 (by omega) (by omega)
  have k4 := W.2.2.2.2.2.2.2.2 2 1 (by omega) (by omega)
  have go : ∃ fu : Nat, wX_thirdStates_38 post (nI i) (nI j) f a1 a2 a3 a4 a5 a6 a7 a8 a9 fu 0 (nI 0) := by
    refine ⟨2, pk_lt 0 0 (fun z => absurd z (by omega)) (fun _ => ?_) ((R.1 2 (by omega)).trans (by rw [n2]))⟩
    refine cw_kb R W 2 0 0 (by omega) (by omega) (by omega) ?_
    rw [k3]
    refine pk_lt i 0 (fun z => absurd z (by omega)) (fun _ => ?_)
    refine cw_kb R W 2 0 1 (by omega) (by omega) (by omega) ?_
    rw [k4]
    refine pk_lt j 0 (fun z => absurd z (by omega)) (fun _ => ?_)
    refine nm_r (nI_1 0) (nm_r (nI_1 0) ?_)
    exact pk_lt 0 1 (fun _ => h) (fun z => absurd z (by omega)) ((R.1 2 (by omega)).trans (by rw [n2]))
  unfold wpX_thirdStates
  refine cw_kb R W 0 i 2 (by omega) hi (by omega) ?_
  refine cw_kb R W 1 j 2 (by omega) hj (by omega) ?_
  rw [e1, e2]
  exact ⟨fun _ => go, fun _ => go⟩
def cw_cc (N : Nat → Nat) (K : Nat → Nat → Nat → Nat) (t : Nat) : Nat := if t / 8 ≤ N 0 ∧ t % 8 ≤ N 1 ∧ K 0 (t / 8) 1 ≤ t % 8 ∧ K 1 (t % 8) 0 ≤ t / 8 then 1 else 0
def cw_lin (N : Nat → Nat) (K : Nat → Nat → Nat → Nat) : Nat → Nat
  | 0 => 0
  | t + 1 => cw_lin N K t + cw_cc N K t
theorem cw_cc_1 {i j : Nat} (hj : j < 8) (h : cw_C N K i j) : cw_cc N K (8 * i + j) = 1 := by
  unfold cw_cc
  rw [show (8 * i + j) / 8 = i by omega, show (8 * i + j) % 8 = j by omega]
  exact if_pos h
theorem cw_cc_0 {i j : Nat} (hj : j < 8) (h : ¬ cw_C N K i j) : cw_cc N K (8 * i + j) = 0 := by
  unfold cw_cc
  rw [show (8 * i + j) / 8 = i by omega, show (8 * i + j) % 8 = j by omega]
  exact if_neg h
theorem cw_lin_le (t : Nat) : cw_lin N K t ≤ t := by
  induction t with
  | zero => exact Nat.le_refl _
  | succ t ih =>
    have : cw_cc N K t ≤ 1 := by unfold cw_cc; split <;> omega
    show cw_lin N K t + cw_cc N K t ≤ t + 1
    omega
theorem cw_lin_pad {t : Nat} : ∀ {t' : Nat}, t ≤ t' → (∀ j, t ≤ j → j < t' → cw_cc N K j = 0) → cw_lin N K t = cw_lin N K t' := by
  intro t' h
  induction h with
  | refl => intro _; rfl
  | @step m h ih =>
    intro hz
    show _ = cw_lin N K m + cw_cc N K m
    rw [hz m h (by omega), Nat.add_zero]
    exact ih (fun j h1 h2 => hz j h1 (by omega))
theorem cw_c16 {post : Int32 → Prop} {J : Int32 → Int32 → Prop} (R : cw_R N K G a1 a2 a3) (W : cw_W N K G) {i : Nat} (hi : i ≤ N 0) (H : J (nI (cw_lin N K (8 * (i + 1)))) (nI (i + 1))) :
    ∀ n j, j ≤ N 1 + 1 → N 1 + 1 - j < n → wX_cuts_16 post J (nI i) f a1 a2 a3 a4 a5 a6 a7 a8 a9 n (nI (cw_lin N K (8 * i + j))) (nI j) := by
  intro n
  have n0 := W.1
  have n1 := W.2.1
  have k1 := W.2.2.2.2.1 0 i 1 (by omega) hi (by omega)
  induction n with
  | zero => intro j _ h; omega
  | succ n ih =>
    intro j hj hn
    refine pk_lt (N 1) j (fun z => ?_) (fun z => ?_) (R.1 1 (by omega))
    · have e : cw_lin N K (8 * i + j) = cw_lin N K (8 * (i + 1)) := by
        refine cw_lin_pad (by omega) (fun t h1 h2 => ?_)
        rw [show t = 8 * i + (t - 8 * i) by omega]
        exact cw_cc_0 (by omega) (fun c => by have := c.2.1; omega)
      rw [e]
      exact nm_r (nI_1 i) H
    · have t := ih (j + 1) (by omega) (by omega)
      have k2 := W.2.2.2.2.1 1 j 0 (by omega) z (by omega)
      refine cw_kb R W 0 i 1 (by omega) hi (by omega) ?_
      refine pk_lt j (K 0 i 1) (fun c => nm_r (nI_1 j) ?_) (fun c => ?_)
      · have e : cw_lin N K (8 * i + (j + 1)) = cw_lin N K (8 * i + j) := by
          show cw_lin N K (8 * i + j) + cw_cc N K (8 * i + j) = _
          rw [cw_cc_0 (by omega) (fun d => by have := d.2.2.1; omega), Nat.add_zero]
        rw [e] at t
        exact t
      · refine cw_kb R W 1 j 0 (by omega) z (by omega) ?_
        refine pk_lt i (K 1 j 0) (fun c' => nm_r (nI_1 j) ?_) (fun c' => ?_)
        · have e : cw_lin N K (8 * i + (j + 1)) = cw_lin N K (8 * i + j) := by
            show cw_lin N K (8 * i + j) + cw_cc N K (8 * i + j) = _
            rw [cw_cc_0 (by omega) (fun d => by have := d.2.2.2; omega), Nat.add_zero]
          rw [e] at t
          exact t
        · refine cw_ts R W hi z ?_
          have e : cw_lin N K (8 * i + (j + 1)) = cw_lin N K (8 * i + j) + 1 := by
            show cw_lin N K (8 * i + j) + cw_cc N K (8 * i + j) = _
            rw [cw_cc_1 (by omega) ⟨hi, z, c, c'⟩]
          rw [e] at t
          exact nm_r (nI_add _ 1) (nm_r (nI_1 j) t)
theorem cw_cuts {post : Int32 → Prop} (R : cw_R N K G a1 a2 a3) (W : cw_W N K G) (h : post (nI (cw_lin N K 64))) : wpX_cuts post (f, a1, a2, a3, a4, a5, a6, a7, a8, a9) := by
  have n0 := W.1
  have key : ∀ n i, i ≤ N 0 + 1 → N 0 + 1 - i < n → wX_cuts_4 post f a1 a2 a3 a4 a5 a6 a7 a8 a9 n (nI (cw_lin N K (8 * i))) (nI i) := by
    intro n
    induction n with
    | zero => intro i _ h; omega
    | succ n ih =>
      intro i hi hn
      refine pk_lt (N 0) i (fun z => ?_) (fun z => ?_) (R.1 0 (by omega))
      · have e : cw_lin N K (8 * i) = cw_lin N K 64 := by
          refine cw_lin_pad (by omega) (fun t h1 h2 => ?_)
          rw [show t = 8 * (t / 8) + t % 8 by omega]
          exact cw_cc_0 (by omega) (fun c => by have := c.1; omega)
        rw [e]
        exact h
      · exact ⟨N 1 + 2, cw_c16 R W z (ih (i + 1) (by omega) (by omega)) _ 0 (by omega) (by omega)⟩
  show ∃ n, wX_cuts_4 post f a1 a2 a3 a4 a5 a6 a7 a8 a9 n 0 0
  exact ⟨N 0 + 2, key _ 0 (by omega) (by omega)⟩
theorem cw_ip {post : Int32 → Prop} {p : Nat} (hp : p < 3) (h : post 1) : wpX_isProcess post () (nI p) :=
  pk_lt p 0 (fun z => absurd z (by omega)) (fun _ => pk_lt 2 p (fun z => absurd z (by omega)) (fun _ => h))
theorem cw_ev {post : Int32 → Prop} (R : cw_R N K G a1 a2 a3) {p : Nat} (hp : p < 3) (h : post (nI (N p))) : wpX_events post (f, a1, a2, a3, a4, a5, a6, a7, a8, a9) (nI p) := by
  unfold wpX_events
  refine cw_ip hp (br_f (by decide) (And.intro (pk_in p 3 hp) ?_))
  rw [cw_a1 R hp]
  exact h
theorem cw_kn {post : Int32 → Prop} (R : cw_R N K G a1 a2 a3) (W : cw_W N K G) {p k q : Nat} (hp : p < 3) (hk : k ≤ N p) (hq : q < 3) (h : post (nI (K p k q))) : wpX_knows post (f, a1, a2, a3, a4, a5, a6, a7, a8, a9) (nI p) (nI k) (nI q) := by
  have := cw_W_N W hp
  unfold wpX_knows
  refine cw_ip hp (br_f (by decide) ?_)
  refine cw_ip hq (br_f (by decide) ?_)
  refine pk_lt k 0 (fun z => absurd z (by omega)) (fun _ => And.intro (pk_in p 3 hp) ?_)
  exact pk_le k (N p) (fun _ => cw_kb R W p k q hp hk hq h) (fun z => absurd z (by omega)) rfl (cw_a1 R hp)
end
end
section
/-- the state that p needs -/
def cw_nd (N : Nat → Nat) (K : Nat → Nat → Nat → Nat) (G : Nat → Nat → Bool) (S : Nat) (c : Nat → Nat) (p k : Nat) : Prop :=
  c p ≤ k ∧ (∀ q, q < 3 → K q (c q) p ≤ k) ∧ k ≤ N p + 1 ∧ (k ≤ N p → S.testBit p = true → G p k = true) ∧
  (∀ k', c p ≤ k' → (∀ q, q < 3 → K q (c q) p ≤ k') → k' ≤ N p → (S.testBit p = true → G p k' = true) → k ≤ k')
def cw_ct (N : Nat → Nat) (a7 : Nat → Int32) (c : Nat → Nat) : Prop := ∀ q, q < 3 → a7 q = nI (c q) ∧ c q ≤ N q
def cw_sat (N : Nat → Nat) (K : Nat → Nat → Nat → Nat) (G : Nat → Nat → Bool) (S : Nat) (d : Nat → Nat) (p : Nat) : Prop :=
  d p ≤ N p ∧ (∀ q, q < 3 → K q (d q) p ≤ d p) ∧ (S.testBit p = true → G p (d p) = true)
theorem cw_sum {c : Nat → Nat} {p k : Nat} (hp : p < 3) : cw_up c p k 0 + cw_up c p k 1 + cw_up c p k 2 + c p = c 0 + c 1 + c 2 + k := by
  rcases cw_3 hp with rfl | rfl | rfl <;> simp [cw_up] <;> omega
theorem cw_up_id (c : Nat → Nat) (p : Nat) : cw_up c p (c p) = c := by
  funext j
  by_cases e : j = p
  · rw [e, cw_up_s]
  · rw [cw_up_n e]
theorem cw_upd {a : Nat → Int32} {c : Nat → Nat} {p k q : Nat} (h : q ≠ p → a q = nI (c q)) : upd a p (nI k) q = nI (cw_up c p k q) := by
  by_cases e : q = p
  · rw [e, pk_us, cw_up_s]
  · rw [pk_un e, cw_up_n e]; exact h e
section
variable {f : Int32} {a1 a2 a3 a4 a5 a6 a7 a8 a9 : Nat → Int32} {N : Nat → Nat} {K : Nat → Nat → Nat → Nat} {G : Nat → Nat → Bool} {S : Nat}
theorem cw_n51 {post : Int32 → Prop} (R : cw_R N K G a1 a2 a3) (W : cw_W N K G) {p k0 : Nat} (hp : p < 3) (hS : S < 8)
    (H : ∀ k, k0 ≤ k → k ≤ N p + 1 → (k ≤ N p → S.testBit p = true → G p k = true) → (∀ j, k0 ≤ j → j < k → S.testBit p = true ∧ G p j = false) → post (nI k)) :
    ∀ n k, k0 ≤ k → k ≤ N p + 1 → (∀ j, k0 ≤ j → j < k → S.testBit p = true ∧ G p j = false) → N p + 1 - k < n → wX_neededState_51 post (nI p) (nI S) f a1 a2 a3 a4 a5 a6 a7 a8 a9 n (nI k) := by
  intro n
  have hN := cw_W_N W hp
  induction n with
  | zero => intro k _ _ _ h; omega
  | succ n ih =>
    intro k h0 h1 hj hn
    refine And.intro (pk_in p 3 hp) ?_
    refine pk_lt (N p) k (fun z => H k h0 h1 (fun h => absurd h (by omega)) hj) (fun z => ?_) (cw_a1 R hp)
    refine ek_if (cw_st S hS p hp) (fun b => H k h0 h1 (fun _ h => by rw [b] at h; cases h) hj) (fun b => ?_)
    refine And.intro (pk_in (9 * p + k) 27 (by omega) (cw_e9 p k)) ?_
    refine ek_if (d := G p k = false) (by rw [cw_a2 R W hp z]; exact cw_b_0 _) (fun g => nm_r (nI_1 k) ?_) (fun g => H k h0 h1 (fun _ _ => by simpa using g) hj)
    refine ih (k + 1) (by omega) (by omega) (fun j q1 q2 => ?_) (by omega)
    by_cases e : j = k
    · rw [e]; exact ⟨by simpa using b, g⟩
    · exact hj j q1 (by omega)
theorem cw_n10 {post : Int32 → Prop} (R : cw_R N K G a1 a2 a3) (W : cw_W N K G) {p : Nat} {c : Nat → Nat} (hp : p < 3) (hS : S < 8) (hc : cw_ct N a7 c) (H : ∀ k, cw_nd N K G S c p k → post (nI k)) :
    ∀ n q k, q ≤ 3 → 3 - q < n → c p ≤ k → k ≤ N p → (∀ r, r < q → K r (c r) p ≤ k) → (∀ k', c p ≤ k' → (∀ r, r < 3 → K r (c r) p ≤ k') → k ≤ k') →
    wX_neededState_10 post (nI p) (nI S) f a1 a2 a3 a4 a5 a6 a7 a8 a9 n (nI k) (nI q) := by
  intro n
  have hN := cw_W_N W hp
  induction n with
  | zero => intro q k _ h; omega
  | succ n ih =>
    intro q k hq hn h1 h2 h3 h4
    refine pk_le 3 q (fun z => ?_) (fun z => ?_)
    · refine ⟨N p + 2, cw_n51 R W hp hS (k0 := k) (fun k1 q1 q2 q3 q4 => H k1 ⟨by omega, fun r hr => Nat.le_trans (h3 r (by omega)) q1, q2, q3, fun k' s1 s2 s3 s4 => ?_⟩) _ k (Nat.le_refl _) (by omega) (fun j j1 j2 => absurd j2 (by omega)) (by omega)⟩
      rcases Nat.lt_or_ge k' k1 with y | y
      · have w := q4 k' (h4 k' s1 s2) y
        have v := s4 w.1
        rw [w.2] at v; cases v
      · exact y
    · refine And.intro (pk_in q 3 z) ?_
      have hk := W.2.2.2.2.1 q (c q) p z (hc q z).2 hp
      refine cw_kb R W q (c q) p z (hc q z).2 hp ?_ rfl (by rw [nI_clamp (by omega)]; exact (hc q z).1) rfl
      refine pk_le (K q (c q) p) k (fun y => nm_r (nI_1 q) ?_) (fun y => nm_r (nI_1 q) ?_)
      · refine ih (q + 1) k (by omega) (by omega) h1 h2 (fun r hr => ?_) h4
        by_cases e : r = q
        · rw [e]; exact y
        · exact h3 r (by omega)
      · refine ih (q + 1) _ (by omega) (by omega) (by omega) hk (fun r hr => ?_) (fun k' s1 s2 => s2 q z)
        by_cases e : r = q
        · rw [e]; exact Nat.le_refl _
        · exact Nat.le_trans (h3 r (by omega)) (by omega)
theorem cw_ns {post : Int32 → Prop} (R : cw_R N K G a1 a2 a3) (W : cw_W N K G) {p : Nat} {c : Nat → Nat} (hp : p < 3) (hS : S < 8) (hc : cw_ct N a7 c) (H : ∀ k, cw_nd N K G S c p k → post (nI k)) :
    wpX_neededState post (f, a1, a2, a3, a4, a5, a6, a7, a8, a9) (nI p) (nI S) := by
  refine And.intro (pk_in p 3 hp) (nm_r (e' := nI (c p)) (by rw [nI_clamp (by omega)]; exact (hc p hp).1) ?_)
  exact ⟨4, cw_n10 R W hp hS hc H 4 0 (c p) (by omega) (by omega) (Nat.le_refl _) (hc p hp).2 (fun r hr => absurd hr (by omega)) (fun k' h _ => h)⟩
theorem cw_nd_le (W : cw_W N K G) {c d : Nat → Nat} {p k : Nat} (hp : p < 3) (hk : cw_nd N K G S c p k) (hl : ∀ q, q < 3 → c q ≤ d q) (hd : cw_sol N K G S d) : k ≤ d p :=
  hk.2.2.2.2 (d p) (hl p hp) (fun q hq => Nat.le_trans (cw_mono W hq hp (hl q hq) (hd q hq).1) ((hd p hp).2.1 q hq)) (hd p hp).1 (hd p hp).2.2
theorem cw_f39 {post : Int32 → St1 → Prop} {J : Int32 → Int32 → (Nat → Int32) → (Nat → Int32) → (Nat → Int32) → (Nat → Int32) → (Nat → Int32) → (Nat → Int32) → (Nat → Int32) → (Nat → Int32) → (Nat → Int32) → Prop}
    (R : cw_R N K G a1 a2 a3) (W : cw_W N K G) (hS : S < 8) {r : Nat}
    (H0 : (¬ ∃ d, cw_sol N K G S d) → ∀ b7, post 0 (f, a1, a2, a3, a4, a5, a6, b7, a8, a9))
    (HJ : ∀ (b : Bool) (c : Nat → Nat) (b7 : Nat → Int32), cw_ct N b7 c → (∀ d, cw_sol N K G S d → ∀ q, q < 3 → c q ≤ d q) → (b = false → cw_sol N K G S c) → (b = true → r + 1 ≤ c 0 + c 1 + c 2) → J (cw_b b) (nI (r + 1)) a1 a2 a3 a4 a5 a6 b7 a8 a9) :
    ∀ (n p : Nat) (b : Bool) (c : Nat → Nat) (b7 : Nat → Int32), p ≤ 3 → 3 - p < n → cw_ct N b7 c → (∀ d, cw_sol N K G S d → ∀ q, q < 3 → c q ≤ d q) →
    (b = false → r ≤ c 0 + c 1 + c 2 ∧ ∀ q, q < p → cw_sat N K G S c q) → (b = true → r + 1 ≤ c 0 + c 1 + c 2) →
    wX_findLeast_39 post J (nI S) (nI r) f n (cw_b b) (nI p) a1 a2 a3 a4 a5 a6 b7 a8 a9 := by
  intro n
  induction n with
  | zero => intro p b c b7 _ h; omega
  | succ n ih =>
    intro p b c b7 hp hn hc hl hf ht
    refine pk_le 3 p (fun z => nm_r (nI_1 r) ?_) (fun z => ?_)
    · exact HJ b c b7 hc hl (fun e q hq => (hf e).2 q (by omega)) ht
    · have hN := cw_W_N W z
      refine cw_ns R W z hS hc (fun k hk => And.intro (pk_in p 3 z) ?_)
      have hk3 := hk.2.2.1
      refine pk_le k (N p) (fun y => ?_) (fun y => ?_) rfl (cw_a1 R z)
      · have fin : ∀ b' : Bool, (b' = false → b = false ∧ k = c p) → (b' = true → b = true ∨ c p < k) → wX_findLeast_89 post J (wX_findLeast_39 post J (nI S) (nI r) f n) (nI S) (nI r) (nI p) (nI k) (cw_b b') f a1 a2 a3 a4 a5 a6 b7 a8 a9 := by
          intro b' hb0 hb1
          refine And.intro (pk_in p 3 z) (nm_r (e' := upd b7 p (nI k)) (by rw [nI_clamp (by omega)]) (nm_r (nI_1 p) ?_))
          have sm := cw_sum (c := c) (k := k) z
          have h1 := hk.1
          refine ih (p + 1) b' (cw_up c p k) _ (by omega) (by omega) (fun q hq => ⟨cw_upd (fun _ => (hc q hq).1), ?_⟩) (fun d hd q hq => ?_) (fun e => ?_) (fun e => ?_)
          · by_cases e : q = p
            · rw [e, cw_up_s]; exact y
            · rw [cw_up_n e]; exact (hc q hq).2
          · by_cases e : q = p
            · rw [e, cw_up_s]; exact cw_nd_le W z hk (hl d hd) hd
            · rw [cw_up_n e]; exact hl d hd q hq
          · obtain ⟨e1, e2⟩ := hb0 e
            obtain ⟨f1, f2⟩ := hf e1
            refine ⟨by omega, fun q hq => ?_⟩
            rw [e2, cw_up_id]
            by_cases e3 : q = p
            · rw [e3]
              refine ⟨(hc p z).2, fun q' hq' => ?_, fun hb => ?_⟩
              · rw [← e2]; exact hk.2.1 q' hq'
              · rw [← e2]; exact hk.2.2.2.1 y hb
            · exact f2 q (by omega)
          · rcases hb1 e with e1 | e1
            · have := ht e1
              omega
            · cases b with
              | true => have := ht rfl; omega
              | false => have := (hf rfl).1; omega
        refine ek_if (cw_b_0 b) (fun hb => And.intro (pk_in p 3 z) ?_) (fun hb => fin true (fun e => nomatch e) (fun _ => Or.inl (by simpa using hb)))
        exact pk_le k (c p) (fun w => fin false (fun _ => ⟨hb, Nat.le_antisymm w hk.1⟩) (fun e => nomatch e)) (fun w => fin true (fun e => nomatch e) (fun _ => Or.inr w)) rfl (by rw [nI_clamp (by omega)]; exact (hc p z).1) (by omega) (by have := (hc p z).2; omega)
      · refine H0 (fun hd => ?_) b7
        obtain ⟨d, hd⟩ := hd
        have := cw_nd_le W z hk (hl d hd) hd
        have := (hd p z).1
        omega
theorem cw_f24 {post : Int32 → St1 → Prop} (R : cw_R N K G a1 a2 a3) (W : cw_W N K G) (hS : S < 8)
    (H0 : (¬ ∃ d, cw_sol N K G S d) → ∀ b7, post 0 (f, a1, a2, a3, a4, a5, a6, b7, a8, a9)) (H1 : (∃ d, cw_sol N K G S d) → ∀ b7, post 1 (f, a1, a2, a3, a4, a5, a6, b7, a8, a9)) :
    ∀ (n r : Nat) (b : Bool) (c : Nat → Nat) (b7 : Nat → Int32), r ≤ 30 → 30 - r < n → cw_ct N b7 c → (∀ d, cw_sol N K G S d → ∀ q, q < 3 → c q ≤ d q) → (b = false → cw_sol N K G S c) → (b = true → r ≤ c 0 + c 1 + c 2) →
    wX_findLeast_24 post (nI S) f n (cw_b b) (nI r) a1 a2 a3 a4 a5 a6 b7 a8 a9 := by
  intro n
  induction n with
  | zero => intro r b c b7 _ h; omega
  | succ n ih =>
    intro r b c b7 hr hn hc hl hf ht
    have s0 := (hc 0 (by omega)).2
    have s1 := (hc 1 (by omega)).2
    have s2 := (hc 2 (by omega)).2
    have w0 := W.1
    have w1 := W.2.1
    have w2 := W.2.2.1
    refine pk_le 30 r (fun z => ?_) (fun z => ?_)
    · cases b with
      | true => exact absurd (ht rfl) (by omega)
      | false => exact H1 ⟨c, hf rfl⟩ b7
    · refine ek_if (cw_b_0 b) (fun hb => H1 ⟨c, hf hb⟩ b7) (fun hb => ?_)
      have hb' : b = true := by simpa using hb
      exact ⟨4, cw_f39 R W hS H0 (fun b c b7 q1 q2 q3 q4 => ih (r + 1) b c b7 (by omega) (by omega) q1 q2 q3 q4) 4 0 false c b7 (by omega) (by omega) hc hl (fun _ => ⟨ht hb', fun q hq => absurd hq (by omega)⟩) (fun e => nomatch e)⟩
theorem cw_fl {post : Int32 → St1 → Prop} (R : cw_R N K G a1 a2 a3) (W : cw_W N K G) (hS : S < 8)
    (H0 : (¬ ∃ d, cw_sol N K G S d) → ∀ b7, post 0 (f, a1, a2, a3, a4, a5, a6, b7, a8, a9)) (H1 : (∃ d, cw_sol N K G S d) → ∀ b7, post 1 (f, a1, a2, a3, a4, a5, a6, b7, a8, a9)) :
    wpX_findLeast post (f, a1, a2, a3, a4, a5, a6, a7, a8, a9) (nI S) := by
  have key : ∀ (n i : Nat) (b7 : Nat → Int32), i ≤ 3 → 3 - i < n → (∀ q, q < i → b7 q = nI 0) → wX_findLeast_2 post (nI S) f n (nI i) a1 a2 a3 a4 a5 a6 b7 a8 a9 := by
    intro n
    induction n with
    | zero => intro i b7 _ h; omega
    | succ n ih =>
      intro i b7 hi hn hz
      refine pk_le 3 i (fun z => ?_) (fun z => ?_)
      · exact ⟨31, cw_f24 R W hS H0 H1 31 0 true (fun _ => 0) b7 (by omega) (by omega) (fun q hq => ⟨hz q (by omega), Nat.zero_le _⟩) (fun _ _ _ _ => Nat.zero_le _) (fun e => nomatch e) (fun _ => Nat.zero_le _)⟩
      · refine And.intro (pk_in i 3 z) (nm_r (e' := upd b7 i (nI 0)) (by rw [nI_clamp (by omega)]; rfl) (nm_r (nI_1 i) ?_))
        refine ih (i + 1) _ (by omega) (by omega) (fun q hq => ?_)
        by_cases e : q = i
        · rw [e, pk_us]
        · rw [pk_un e]; exact hz q (by omega)
  show ∃ n, wX_findLeast_2 post (nI S) f n 0 a1 a2 a3 a4 a5 a6 a7 a8 a9
  exact ⟨4, key 4 0 a7 (by omega) (by omega) (fun q hq => absurd hq (by omega))⟩
theorem cw_ps {post : Int32 → St1 → Prop} (R : cw_R N K G a1 a2 a3) (W : cw_W N K G) (h1 : 1 ≤ S) (hS : S < 8)
    (H0 : (¬ ∃ d, cw_sol N K G S d) → ∀ b7, post 0 (f, a1, a2, a3, a4, a5, a6, b7, a8, a9)) (H1 : (∃ d, cw_sol N K G S d) → ∀ b7, post 1 (f, a1, a2, a3, a4, a5, a6, b7, a8, a9)) :
    wpX_possibly post (f, a1, a2, a3, a4, a5, a6, a7, a8, a9) (nI S) := by
  refine pk_lt S 1 (fun z => absurd z (by omega)) (fun _ => pk_le S 7 (fun _ => ?_) (fun z => absurd z (by omega)))
  exact cw_fl R W hS (fun h b7 => br_t rfl (H0 h b7)) (fun h b7 => br_f (by decide) (H1 h b7))
end
end
section
section
variable {f : Int32} {a1 a2 a3 a4 a5 a6 a7 a8 a9 : Nat → Int32} {N : Nat → Nat} {K : Nat → Nat → Nat → Nat} {G : Nat → Nat → Bool} {S : Nat}
theorem cw_x51 {post : Int32 → St1 → Prop} (R : cw_R N K G a1 a2 a3) (W : cw_W N K G) {p F : Nat} (hp : p < 3)
    (H : ∀ T, cw_is N G p F T → post 1 (f, a1, a2, a3, a4, a5, a6, a7, a8, upd a9 p (nI T))) :
    ∀ n k, F ≤ k → k ≤ N p → (∀ j, F ≤ j → j ≤ k → G p j = true) → N p - k < n → wX_nextStretch_51 post (nI p) f a1 a2 a3 a4 a5 a6 a7 a8 a9 n (nI k) := by
  intro n
  have hN := cw_W_N W hp
  induction n with
  | zero => intro k _ _ _ h; omega
  | succ n ih =>
    intro k h0 h1 hj hn
    refine And.intro (pk_in p 3 hp) ?_
    refine pk_le (N p) k (fun z => ?_) (fun z => ?_) (cw_a1 R hp)
    · exact And.intro (pk_in p 3 hp) (nm_r (e' := upd a9 p (nI k)) (by rw [nI_clamp (by omega)]) (H k ⟨h0, h1, hj, fun h => absurd h (by omega)⟩))
    · have e1 : ((9 * nI p) + nI k) + 1 = (9 * nI p) + nI (k + 1) := by rw [cw_e9, cw_e9, nI_1]; rfl
      refine And.intro (pk_in (9 * p + (k + 1)) 27 (by omega) (by rw [e1, cw_e9])) ?_
      refine ek_if (d := G p (k + 1) = false) (by rw [e1, cw_a2 R W hp z]; exact cw_b_0 _) (fun g => ?_) (fun g => nm_r (nI_1 k) ?_)
      · exact And.intro (pk_in p 3 hp) (nm_r (e' := upd a9 p (nI k)) (by rw [nI_clamp (by omega)]) (H k ⟨h0, h1, hj, fun _ => g⟩))
      · refine ih (k + 1) (by omega) z (fun j q1 q2 => ?_) (by omega)
        by_cases e : j = k + 1
        · rw [e]; simpa using g
        · exact hj j q1 (by omega)
theorem cw_x {post : Int32 → St1 → Prop} (R : cw_R N K G a1 a2 a3) (W : cw_W N K G) (p s : Nat) {x y : Int32} (hp : p < 3) (hs : s ≤ N p + 1)
    (H0 : cw_none N G p s → post 0 (f, a1, a2, a3, a4, a5, a6, a7, a8, a9))
    (H1 : ∀ F T, cw_str N G p s F T → post 1 (f, a1, a2, a3, a4, a5, a6, a7, upd a8 p (nI F), upd a9 p (nI T))) (hx : x = nI p := by rfl) (hy : y = nI s := by rfl) :
    wpX_nextStretch post (f, a1, a2, a3, a4, a5, a6, a7, a8, a9) x y := by
  subst hx hy
  have hN := cw_W_N W hp
  have mid : ∀ k, s ≤ k → k ≤ N p + 1 → (∀ j, s ≤ j → j < k → G p j = false) → (k ≤ N p → G p k = true) → wX_nextStretch_32 post (nI p) (nI k) f a1 a2 a3 a4 a5 a6 a7 a8 a9 := by
    intro k h0 h1 hj hg
    refine And.intro (pk_in p 3 hp) ?_
    refine pk_le k (N p) (fun z => ?_) (fun z => H0 (fun j q1 q2 => hj j q1 (by omega))) rfl (cw_a1 R hp)
    refine And.intro (pk_in p 3 hp) (nm_r (e' := upd a8 p (nI k)) (by rw [nI_clamp (by omega)]) ?_)
    exact ⟨N p + 1, cw_x51 R W hp (F := k) (fun T hT => H1 k T ⟨h0, hj, hT⟩) _ k (Nat.le_refl _) z (fun j q1 q2 => by rw [show j = k by omega]; exact hg z) (by omega)⟩
  have key : ∀ n k, s ≤ k → k ≤ N p + 1 → (∀ j, s ≤ j → j < k → G p j = false) → N p + 1 - k < n → wX_nextStretch_2 post (nI p) f a1 a2 a3 a4 a5 a6 a7 a8 a9 n (nI k) := by
    intro n
    induction n with
    | zero => intro k _ _ _ h; omega
    | succ n ih =>
      intro k h0 h1 hj hn
      refine And.intro (pk_in p 3 hp) ?_
      refine pk_lt (N p) k (fun z => mid k h0 h1 hj (fun h => absurd h (by omega))) (fun z => ?_) (cw_a1 R hp)
      refine And.intro (pk_in (9 * p + k) 27 (by omega) (cw_e9 p k)) ?_
      refine ek_if (d := G p k = false) (by rw [cw_a2 R W hp z]; exact cw_b_0 _) (fun g => nm_r (nI_1 k) ?_) (fun g => mid k h0 h1 hj (fun _ => by simpa using g))
      refine ih (k + 1) (by omega) (by omega) (fun j q1 q2 => ?_) (by omega)
      by_cases e : j = k
      · rw [e]; exact g
      · exact hj j q1 (by omega)
  show ∃ n, wX_nextStretch_2 post (nI p) f a1 a2 a3 a4 a5 a6 a7 a8 a9 n (nI s)
  exact ⟨N p + 2, key _ s (Nat.le_refl _) hs (fun j q1 q2 => absurd q2 (by omega)) (by omega)⟩
def cw_fr (S : Nat) (F T : Nat → Nat) (a8 a9 : Nat → Int32) : Prop := ∀ p, p < 3 → S.testBit p = true → a8 p = nI (F p) ∧ a9 p = nI (T p)
theorem cw_te {post : Int32 → Prop} (R : cw_R N K G a1 a2 a3) (W : cw_W N K G) (hS : S < 8) {F T : Nat → Nat} (hf : cw_fr S F T a8 a9) (hI : cw_I N G S F T)
    (H0 : ∀ p q, p < 3 → q < 3 → cw_early N K S F T p q → post (nI p)) (H1 : (∀ p q, p < 3 → q < 3 → ¬ cw_early N K S F T p q) → post (-1)) :
    wpX_tooEarly post (f, a1, a2, a3, a4, a5, a6, a7, a8, a9) (nI S) := by
  have inner : ∀ (J : Int32 → Prop) (p : Nat), p < 3 → ((∀ q, q < 3 → ¬ cw_early N K S F T p q) → J (nI (p + 1))) → ∀ n q, q ≤ 3 → 3 - q < n → (∀ r, r < q → ¬ cw_early N K S F T p r) →
      wX_tooEarly_9 post J (nI S) (nI p) f a1 a2 a3 a4 a5 a6 a7 a8 a9 n (nI q) := by
    intro J p hp HJ n
    have hN := cw_W_N W hp
    induction n with
    | zero => intro q _ h; omega
    | succ n ih =>
      intro q hq hn hr
      refine pk_le 3 q (fun z => nm_r (nI_1 p) (HJ (fun r h => hr r (by omega)))) (fun z => ?_)
      have nx : ¬ cw_early N K S F T p q → wX_tooEarly_9 post J (nI S) (nI p) f a1 a2 a3 a4 a5 a6 a7 a8 a9 n (nI (q + 1)) := by
        intro h
        refine ih (q + 1) (by omega) (by omega) (fun r hr' => ?_)
        by_cases e : r = q
        · rw [e]; exact h
        · exact hr r (by omega)
      have no : ¬ cw_early N K S F T p q → wX_tooEarly_39 post J (wX_tooEarly_9 post J (nI S) (nI p) f a1 a2 a3 a4 a5 a6 a7 a8 a9 n) (nI S) (nI p) (nI q) f a1 a2 a3 a4 a5 a6 a7 a8 a9 := fun h =>
        br_t rfl (nm_r (nI_1 q) (nx h))
      refine pk_eq p q (fun e => no (fun h => h.1 e.symm)) (fun e => ?_)
      refine ek_if (cw_st S hS p hp) (fun b => no (fun h => by have := h.2.1; rw [b] at this; cases this)) (fun b => ?_)
      refine ek_if (cw_st S hS q z) (fun b' => no (fun h => by have := h.2.2.1; rw [b'] at this; cases this)) (fun b' => ?_)
      have hb : S.testBit p = true := by simpa using b
      have hb' : S.testBit q = true := by simpa using b'
      have hNq := cw_W_N W z
      obtain ⟨i1, i2, _⟩ := hI p hp hb
      obtain ⟨j1, j2, _⟩ := hI q z hb'
      have e9 : a9 (nI p).toNatClampNeg = nI (T p) := by rw [nI_clamp (by omega)]; exact (hf p hp hb).2
      have e8 : a8 (nI q).toNatClampNeg = nI (F q) := by rw [nI_clamp (by omega)]; exact (hf q z hb').1
      refine br_f (by decide) (And.intro (pk_in p 3 hp) (And.intro (pk_in p 3 hp) ?_))
      refine pk_le (N p) (T p) (fun y => nm_r (nI_1 q) (nx (fun h => by have := h.2.2.2.1; omega))) (fun y => And.intro (pk_in p 3 hp) ?_) (cw_a1 R hp) e9
      have hk := W.2.2.2.2.1 p (T p + 1) q hp y z
      refine cw_kb R W p (T p + 1) q hp y z (And.intro (pk_in q 3 z) ?_) rfl (by rw [e9, nI_1]) rfl
      exact pk_le (F q) (K p (T p + 1) q) (fun w => nm_r (nI_1 q) (nx (fun h => by have := h.2.2.2.2; omega))) (fun w => H0 p q hp z ⟨fun h => e h.symm, hb, hb', y, w⟩) e8
  have key : ∀ n p, p ≤ 3 → 3 - p < n → (∀ r q, r < p → q < 3 → ¬ cw_early N K S F T r q) → wX_tooEarly_2 post (nI S) f a1 a2 a3 a4 a5 a6 a7 a8 a9 n (nI p) := by
    intro n
    induction n with
    | zero => intro p _ h; omega
    | succ n ih =>
      intro p hp hn hr
      refine pk_le 3 p (fun z => H1 (fun r q h1 h2 => hr r q (by omega) h2)) (fun z => ?_)
      refine ⟨4, inner _ p z (fun h => ih (p + 1) (by omega) (by omega) (fun r q h1 h2 => ?_)) 4 0 (by omega) (by omega) (fun r h => absurd h (by omega))⟩
      by_cases e : r = p
      · rw [e]; exact h q h2
      · exact hr r q (by omega) h2
  show ∃ n, wX_tooEarly_2 post (nI S) f a1 a2 a3 a4 a5 a6 a7 a8 a9 n 0
  exact ⟨4, key 4 0 (by omega) (by omega) (fun r q h => absurd h (by omega))⟩
theorem cw_fr_up {F T : Nat → Nat} {p F' T' : Nat} (hf : cw_fr S F T a8 a9) : cw_fr S (cw_up F p F') (cw_up T p T') (upd a8 p (nI F')) (upd a9 p (nI T')) :=
  fun q hq hb => ⟨cw_upd (fun _ => (hf q hq hb).1), cw_upd (fun _ => (hf q hq hb).2)⟩
theorem cw_m36 {post : Int32 → St1 → Prop} (R : cw_R N K G a1 a2 a3) (W : cw_W N K G) (h1 : 1 ≤ S) (h4 : S < 4)
    (H0 : cw_A N K G S (N 0) (N 1) → ∀ b8 b9, post 0 (f, a1, a2, a3, a4, a5, a6, a7, b8, b9)) (H1 : ¬ cw_A N K G S (N 0) (N 1) → ∀ b8 b9, post 1 (f, a1, a2, a3, a4, a5, a6, a7, b8, b9)) :
    ∀ (n r : Nat) (b : Bool) (F T : Nat → Nat) (b8 b9 : Nat → Int32), r ≤ 20 → 20 - r < n → cw_fr S F T b8 b9 → cw_I N G S F T →
    (b = true → cw_E N K G S F ∧ r ≤ T 0 + T 1 + T 2 ∧ ∀ p, p < 3 → T p ≤ N p) → (b = false → ¬ cw_A N K G S (N 0) (N 1)) →
    wX_stretchesMeet_36 post (nI S) n (cw_b b) (nI r) f a1 a2 a3 a4 a5 a6 a7 b8 b9 := by
  intro n
  have w0 := W.1
  have w1 := W.2.1
  have w2 := W.2.2.1
  induction n with
  | zero => intro r b F T b8 b9 _ h; omega
  | succ n ih =>
    intro r b F T b8 b9 hr hn hf hI ht hb0
    refine pk_le 20 r (fun z => ?_) (fun z => ?_)
    · cases b with
      | true =>
        obtain ⟨_, q2, q3⟩ := ht rfl
        have := q3 0 (by omega)
        have := q3 1 (by omega)
        have := q3 2 (by omega)
        omega
      | false => exact H1 (hb0 rfl) b8 b9
    · refine ek_if (cw_b_0 b) (fun hb => H1 (hb0 hb) b8 b9) (fun hb => ?_)
      obtain ⟨q1, q2, q3⟩ := ht (by simpa using hb)
      refine cw_te R W (by omega) hf hI (fun p q hp hq he => ?_) (fun hx => ?_)
      · have hN := cw_W_N W hp
        obtain ⟨_, hbp, _, t1, _⟩ := id he
        refine pk_lt p 0 (fun y => absurd y (by omega)) (fun _ => br_f (by decide) (And.intro (pk_in p 3 hp) ?_))
        refine cw_x R W p (T p + 1) hp (by omega) (fun hx => br_t rfl (H0 (cw_fail W h4 hp hq hI q1 he hx) b8 b9)) (fun F' T' hs => br_f (by decide) (nm_r (nI_1 r) ?_)) rfl (by rw [nI_clamp (by omega), (hf p hp hbp).2, nI_1])
        have l1 := hs.1
        have l2 := hs.2.2.1
        have l3 := hs.2.2.2.1
        have sm := cw_sum (c := T) (k := T') hp
        refine ih (r + 1) true (cw_up F p F') (cw_up T p T') _ _ (by omega) (by omega) (cw_fr_up hf) (cw_I_up hI hs) (fun _ => ⟨cw_E_up W h4 hp hq hI q1 he hs, by omega, fun q' hq' => ?_⟩) (fun e => nomatch e)
        by_cases e : q' = p
        · rw [e, cw_up_s]; exact l3
        · rw [cw_up_n e]; exact q3 q' hq'
      · refine br_t (by decide) (br_t rfl (nm_r (nI_1 r) ?_))
        exact ih (r + 1) false F T b8 b9 (by omega) (by omega) hf hI (fun e => nomatch e) (fun _ => cw_done W h1 h4 hI hx)
theorem cw_df {post : Int32 → St1 → Prop} (R : cw_R N K G a1 a2 a3) (W : cw_W N K G) (h1 : 1 ≤ S) (h4 : S < 4)
    (H0 : cw_A N K G S (N 0) (N 1) → ∀ b8 b9, post 0 (f, a1, a2, a3, a4, a5, a6, a7, b8, b9)) (H1 : ¬ cw_A N K G S (N 0) (N 1) → ∀ b8 b9, post 1 (f, a1, a2, a3, a4, a5, a6, a7, b8, b9)) :
    wpX_definitely post (f, a1, a2, a3, a4, a5, a6, a7, a8, a9) (nI S) := by
  refine pk_lt S 1 (fun z => absurd z (by omega)) (fun _ => pk_le S 7 (fun _ => ?_) (fun z => absurd z (by omega)))
  have key : ∀ (post : Int32 → St1 → Prop), (cw_A N K G S (N 0) (N 1) → ∀ b8 b9, post 0 (f, a1, a2, a3, a4, a5, a6, a7, b8, b9)) → (¬ cw_A N K G S (N 0) (N 1) → ∀ b8 b9, post 1 (f, a1, a2, a3, a4, a5, a6, a7, b8, b9)) →
      ∀ (n i : Nat) (F T : Nat → Nat) (b8 b9 : Nat → Int32), i ≤ 3 → 3 - i < n → (∀ p, p < i → S.testBit p = true → b8 p = nI (F p) ∧ b9 p = nI (T p) ∧ cw_str N G p 0 (F p) (T p)) → (∀ p, p < 3 → T p ≤ N p) →
      wX_stretchesMeet_2 post (nI S) n (nI i) f a1 a2 a3 a4 a5 a6 a7 b8 b9 := by
    intro post H0 H1 n
    induction n with
    | zero => intro i F T b8 b9 _ h; omega
    | succ n ih =>
      intro i F T b8 b9 hi hn hs hT
      refine pk_le 3 i (fun z => ?_) (fun z => ?_)
      · refine ⟨21, cw_m36 R W h1 h4 H0 H1 21 0 true F T b8 b9 (by omega) (by omega) (fun p hp hb => ⟨(hs p (by omega) hb).1, (hs p (by omega) hb).2.1⟩) (fun p hp hb => (hs p (by omega) hb).2.2.2.2) (fun _ => ⟨cw_E_0 W h1 h4 (fun p hp hb => ⟨T p, (hs p (by omega) hb).2.2⟩), Nat.zero_le _, hT⟩) (fun e => nomatch e)⟩
      · refine ek_if (cw_st S (by omega) i z) (fun b => nm_r (nI_1 i) ?_) (fun b => ?_)
        · refine ih (i + 1) F T b8 b9 (by omega) (by omega) (fun p hp hb => ?_) hT
          by_cases e : p = i
          · rw [e, b] at hb; cases hb
          · exact hs p (by omega) hb
        · refine cw_x R W i 0 z (by omega) (fun hx => br_t rfl (H0 (cw_fail0 W h1 h4 z (by simpa using b) hx) b8 b9)) (fun F' T' hx => br_f (by decide) (nm_r (nI_1 i) ?_))
          refine ih (i + 1) (cw_up F i F') (cw_up T i T') _ _ (by omega) (by omega) (fun p hp hb => ?_) (fun p hp => ?_)
          · by_cases e : p = i
            · rw [e, pk_us, pk_us, cw_up_s, cw_up_s]; exact ⟨rfl, rfl, hx⟩
            · rw [pk_un e, pk_un e, cw_up_n e, cw_up_n e]; exact hs p (by omega) hb
          · by_cases e : p = i
            · rw [e, cw_up_s]; exact hx.2.2.2.1
            · rw [cw_up_n e]; exact hT p hp
  exact ⟨4, key _ (fun h b8 b9 => br_t rfl (H0 h b8 b9)) (fun h b8 b9 => br_f (by decide) (H1 h b8 b9)) 4 0 (fun _ => 0) (fun _ => 0) a8 a9 (by omega) (by omega) (fun p hp => absurd hp (by omega)) (fun _ _ => Nat.zero_le _)⟩
end
end
section
def cw_K1 (K : Nat → Nat → Nat → Nat) (p e : Nat) (V : Nat → Nat) : Nat → Nat → Nat → Nat := fun p' k q => if p' = p ∧ k = e then V q else K p' k q
def cw_G1 (G : Nat → Nat → Bool) (p e : Nat) (g : Bool) : Nat → Nat → Bool := fun p' k => if p' = p ∧ k = e then g else G p' k
theorem cw_K1_s {K : Nat → Nat → Nat → Nat} {p e : Nat} {V : Nat → Nat} {q : Nat} : cw_K1 K p e V p e q = V q := if_pos ⟨rfl, rfl⟩
theorem cw_K1_n {K : Nat → Nat → Nat → Nat} {p e : Nat} {V : Nat → Nat} {p' k q : Nat} (h : ¬ (p' = p ∧ k = e)) : cw_K1 K p e V p' k q = K p' k q := if_neg h
theorem cw_G1_s {G : Nat → Nat → Bool} {p e : Nat} {g : Bool} : cw_G1 G p e g p e = g := if_pos ⟨rfl, rfl⟩
theorem cw_G1_n {G : Nat → Nat → Bool} {p e : Nat} {g : Bool} {p' k : Nat} (h : ¬ (p' = p ∧ k = e)) : cw_G1 G p e g p' k = G p' k := if_neg h
/-- one more state of p -/
theorem cw_N1 {N : Nat → Nat} {p p' k : Nat} (h : k ≤ cw_up N p (N p + 1) p') (h2 : ¬ (p' = p ∧ k = N p + 1)) : k ≤ N p' := by
  by_cases e : p' = p
  · subst e
    rw [cw_up_s] at h
    omega
  · rw [cw_up_n e] at h; exact h
theorem cw_N2 {N : Nat → Nat} {p p' : Nat} : N p' ≤ cw_up N p (N p + 1) p' := by
  by_cases e : p' = p
  · subst e
    rw [cw_up_s]; omega
  · rw [cw_up_n e]; exact Nat.le_refl _
theorem cw_W_ext {N : Nat → Nat} {K : Nat → Nat → Nat → Nat} {G : Nat → Nat → Bool} (W : cw_W N K G) {p : Nat} (hp : p < 2) (hn : N p < 7) {V : Nat → Nat} (g : Bool)
    (v1 : V p = N p + 1) (v2 : ∀ q, q < 3 → q ≠ p → V q ≤ N q) (v3 : ∀ q, q < 3 → K p (N p) q ≤ V q) : cw_W (cw_up N p (N p + 1)) (cw_K1 K p (N p + 1) V) (cw_G1 G p (N p + 1) g) := by
  obtain ⟨w0, w1, w2, w3, w4, w5, w6, w7, w8⟩ := W
  have le7 : ∀ r, r < 2 → cw_up N p (N p + 1) r ≤ 7 := by
    intro r hr
    by_cases e : r = p
    · rw [e, cw_up_s]; omega
    · rw [cw_up_n e]
      rcases (by omega : r = 0 ∨ r = 1) with rfl | rfl <;> assumption
  refine ⟨le7 0 (by omega), le7 1 (by omega), by rw [cw_up_n (by omega)]; exact w2, fun r k hr hk => ?_, fun r k q hr hk hq => ?_, fun r k q hr hq hk => ?_, fun r q i j hr hq hne hi hi' hj hj' h1 h2 => ?_, fun r hr => ?_, fun r q hr hq => ?_⟩
  · by_cases c : r = p ∧ k = N p + 1
    · obtain ⟨rfl, rfl⟩ := c
      rw [cw_K1_s]; exact v1
    · rw [cw_K1_n c]; exact w3 r k hr (cw_N1 hk c)
  · by_cases c : r = p ∧ k = N p + 1
    · obtain ⟨rfl, rfl⟩ := c
      rw [cw_K1_s]
      by_cases e : q = r
      · rw [e, v1, cw_up_s]; exact Nat.le_refl _
      · rw [cw_up_n e]; exact v2 q hq e
    · rw [cw_K1_n c]; exact Nat.le_trans (w4 r k q hr (cw_N1 hk c) hq) cw_N2
  · by_cases c : r = p ∧ k + 1 = N p + 1
    · obtain ⟨rfl, c2⟩ := c
      have e : k = N r := by omega
      subst e
      rw [cw_K1_s, cw_K1_n (by omega)]; exact v3 q hq
    · have hk' := cw_N1 hk c
      rw [cw_K1_n c, cw_K1_n (fun c' => by have := c'.1; subst this; omega)]; exact w5 r k q hr hq hk'
  · by_cases c : r = p ∧ i = N p + 1
    · obtain ⟨rfl, rfl⟩ := c
      rw [cw_K1_n (fun c' => hne c'.1.symm)] at h2
      have := w4 q j r hq (cw_N1 hj' (fun c' => hne c'.1.symm)) hr
      omega
    · by_cases d : q = p ∧ j = N p + 1
      · obtain ⟨rfl, rfl⟩ := d
        rw [cw_K1_n c] at h1
        have := w4 r i q hr (cw_N1 hi' c) hq
        omega
      · rw [cw_K1_n c] at h1
        rw [cw_K1_n d] at h2
        exact w6 r q i j hr hq hne hi (cw_N1 hi' c) hj (cw_N1 hj' d) h1 h2
  · rw [cw_G1_n (by omega)]; exact w7 r hr
  · rw [cw_K1_n (by omega)]; exact w8 r q hr hq
theorem cw_R_ext {N : Nat → Nat} {K : Nat → Nat → Nat → Nat} {G : Nat → Nat → Bool} {a1 a2 a3 b3 : Nat → Int32} (R : cw_R N K G a1 a2 a3) (W : cw_W N K G) {p : Nat} (hp : p < 3) (hn : N p < 7) {V : Nat → Nat} {g : Bool}
    (h1 : ∀ q, q < 3 → b3 (27 * p + 3 * (N p + 1) + q) = nI (V q)) (h2 : ∀ j, ¬ (27 * p + 3 * (N p + 1) ≤ j ∧ j < 27 * p + 3 * (N p + 1) + 3) → b3 j = a3 j) :
    cw_R (cw_up N p (N p + 1)) (cw_K1 K p (N p + 1) V) (cw_G1 G p (N p + 1) g) (upd a1 p (nI (N p + 1))) (upd a2 (9 * p + (N p + 1)) (cw_b g)) b3 := by
  refine ⟨fun q hq => cw_upd (fun _ => R.1 q hq), fun r k hr hk => ?_, fun r k q hr hk hq => ?_⟩
  · by_cases c : r = p ∧ k = N p + 1
    · obtain ⟨rfl, rfl⟩ := c
      rw [pk_us, cw_G1_s]
    · have hk' := cw_N1 hk c
      have := cw_W_N W hr
      rw [pk_un (by omega), cw_G1_n c]; exact R.2.1 r k hr hk'
  · by_cases c : r = p ∧ k = N p + 1
    · obtain ⟨rfl, rfl⟩ := c
      rw [cw_K1_s]; exact h1 q hq
    · have hk' := cw_N1 hk c
      have := cw_W_N W hr
      rw [cw_K1_n c, h2 _ (by omega)]; exact R.2.2 r k q hr hk' hq
def cw_V0 (N : Nat → Nat) (K : Nat → Nat → Nat → Nat) (p : Nat) : Nat → Nat := fun q => if q = p then N p + 1 else K p (N p) q
def cw_V1 (N : Nat → Nat) (K : Nat → Nat → Nat → Nat) (p ps es : Nat) : Nat → Nat := fun q => if K ps es q ≤ cw_V0 N K p q then cw_V0 N K p q else K ps es q
section
variable {f : Int32} {a1 a2 a3 a4 a5 a6 a7 a8 a9 : Nat → Int32} {N : Nat → Nat} {K : Nat → Nat → Nat → Nat} {G : Nat → Nat → Bool}
theorem cw_V0_le (W : cw_W N K G) {p q : Nat} (hp : p < 3) (hq : q < 3) : cw_V0 N K p q ≤ 8 := by
  have h1 := cw_W_N W hp
  have h2 := cw_W_N W hq
  have h3 := W.2.2.2.2.1 p (N p) q hp (Nat.le_refl _) hq
  unfold cw_V0
  split <;> omega
theorem cw_W_0 (W : cw_W N K G) {p : Nat} (hp : p < 2) (hn : N p < 7) (g : Bool) : cw_W (cw_up N p (N p + 1)) (cw_K1 K p (N p + 1) (cw_V0 N K p)) (cw_G1 G p (N p + 1) g) := by
  refine cw_W_ext W hp hn g (if_pos rfl) (fun q hq h => ?_) (fun q hq => ?_)
  · unfold cw_V0
    rw [if_neg h]; exact W.2.2.2.2.1 p (N p) q (by omega) (Nat.le_refl _) hq
  · unfold cw_V0
    by_cases e : q = p
    · rw [if_pos e, e, W.2.2.2.1 p (N p) (by omega) (Nat.le_refl _)]; omega
    · rw [if_neg e]; exact Nat.le_refl _
theorem cw_W_1 (W : cw_W N K G) {p ps es : Nat} (hp : p < 2) (hn : N p < 7) (hps : ps < 3) (hes : es ≤ N ps) (g : Bool) : cw_W (cw_up N p (N p + 1)) (cw_K1 K p (N p + 1) (cw_V1 N K p ps es)) (cw_G1 G p (N p + 1) g) := by
  have vp : cw_V0 N K p p = N p + 1 := if_pos rfl
  have vn : ∀ q, q ≠ p → cw_V0 N K p q = K p (N p) q := fun q h => if_neg h
  refine cw_W_ext W hp hn g ?_ (fun q hq h => ?_) (fun q hq => ?_)
  · have := W.2.2.2.2.1 ps es p hps hes (by omega)
    unfold cw_V1
    rw [if_pos (by omega)]; exact vp
  · have i1 := W.2.2.2.2.1 ps es q hps hes hq
    have i2 := W.2.2.2.2.1 p (N p) q (by omega) (Nat.le_refl _) hq
    have i3 := vn q h
    unfold cw_V1
    split <;> omega
  · have i : K p (N p) q ≤ cw_V0 N K p q := by
      by_cases e : q = p
      · rw [e, vp, W.2.2.2.1 p (N p) (by omega) (Nat.le_refl _)]; omega
      · rw [vn q e]; exact Nat.le_refl _
    unfold cw_V1
    split <;> omega
theorem cw_em3 (p k i : Nat) : (((27 * nI p) + (3 * nI (k + 1))) - 3) + nI i = nI (27 * p + 3 * k + i) := by
  show (((nI 27 * nI p) + (nI 3 * nI (k + 1))) - nI 3) + nI i = _
  rw [pk_mul, pk_mul, nI_add, pk_sub (by omega), nI_add]
  congr 1
theorem cw_ad {post : St1 → Prop} (R : cw_R N K G a1 a2 a3) (W : cw_W N K G) {p : Nat} (hp : p < 3) (hn : N p < 7) {g : Bool}
    (H : ∀ b3, (∀ q, q < 3 → b3 (27 * p + 3 * (N p + 1) + q) = nI (cw_V0 N K p q)) → (∀ j, ¬ (27 * p + 3 * (N p + 1) ≤ j ∧ j < 27 * p + 3 * (N p + 1) + 3) → b3 j = a3 j) →
      post (f, upd a1 p (nI (N p + 1)), upd a2 (9 * p + (N p + 1)) (cw_b g), b3, a4, a5, a6, a7, a8, a9)) :
    wpX_advance post (f, a1, a2, a3, a4, a5, a6, a7, a8, a9) (nI p) (cw_b g) := by
  have key : ∀ (n i : Nat) (b3 : Nat → Int32), i ≤ 3 → 3 - i < n → (∀ q, q < i → b3 (27 * p + 3 * (N p + 1) + q) = nI (K p (N p) q)) → (∀ j, ¬ (27 * p + 3 * (N p + 1) ≤ j ∧ j < 27 * p + 3 * (N p + 1) + 3) → b3 j = a3 j) →
      wX_advance_31 post (nI p) (nI (N p + 1)) f n (nI i) (upd a1 p (nI (N p + 1))) (upd a2 (9 * p + (N p + 1)) (cw_b g)) b3 a4 a5 a6 a7 a8 a9 := by
    intro n
    induction n with
    | zero => intro i b3 _ h; omega
    | succ n ih =>
      intro i b3 hi hm h1 h2
      refine pk_le 3 i (fun z => ?_) (fun z => ?_)
      · refine And.intro (pk_in (27 * p + 3 * (N p + 1) + p) 81 (by omega) (cw_e27 _ _ _)) (nm_r (e' := upd b3 (27 * p + 3 * (N p + 1) + p) (nI (N p + 1))) (by rw [cw_e27, nI_clamp (by omega)]) ?_)
        refine H _ (fun q hq => ?_) (fun j hj => ?_)
        · unfold cw_V0
          by_cases e : q = p
          · rw [e, pk_us, if_pos rfl]
          · rw [pk_un (by omega), if_neg e]; exact h1 q (by omega)
        · rw [pk_un (by omega)]; exact h2 j hj
      · refine And.intro (pk_in (27 * p + 3 * (N p) + i) 81 (by omega) (cw_em3 _ _ _)) (And.intro (pk_in (27 * p + 3 * (N p + 1) + i) 81 (by omega) (cw_e27 _ _ _)) ?_)
        have ev : b3 (27 * p + 3 * N p + i) = nI (K p (N p) i) := by
          rw [h2 _ (by omega)]; exact R.2.2 p (N p) i hp (Nat.le_refl _) z
        refine nm_r (e' := upd b3 (27 * p + 3 * (N p + 1) + i) (nI (K p (N p) i))) (by rw [cw_e27, cw_em3, nI_clamp (by omega), nI_clamp (by omega), ev]) (nm_r (nI_1 i) ?_)
        refine ih (i + 1) _ (by omega) (by omega) (fun q hq => ?_) (fun j hj => ?_)
        · by_cases e : q = i
          · rw [e, pk_us]
          · rw [pk_un (by omega)]; exact h1 q (by omega)
        · rw [pk_un (by omega)]; exact h2 j hj
  refine And.intro (pk_in p 3 hp) (nm_r (e' := nI (N p + 1)) (by rw [cw_a1 R hp, nI_1]) (And.intro (pk_in p 3 hp) (nm_r (e' := upd a1 p (nI (N p + 1))) (by rw [nI_clamp (by omega)]) ?_)))
  refine And.intro (pk_in (9 * p + (N p + 1)) 27 (by omega) (cw_e9 _ _)) (nm_r (e' := upd a2 (9 * p + (N p + 1)) (cw_b g)) (by rw [cw_e9, nI_clamp (by omega), cw_b_nar]) ?_)
  exact ⟨4, key 4 0 a3 (by omega) (by omega) (fun q hq => absurd hq (by omega)) (fun _ _ => rfl)⟩
theorem cw_step {post : Int32 → St1 → Prop} (R : cw_R N K G a1 a2 a3) (W : cw_W N K G) {p : Nat} (hp : p < 2) (hn : N p < 7) {g : Bool}
    (H : ∀ b1 b2 b3, cw_R (cw_up N p (N p + 1)) (cw_K1 K p (N p + 1) (cw_V0 N K p)) (cw_G1 G p (N p + 1) g) b1 b2 b3 → post (nI (N p + 1)) (f, b1, b2, b3, a4, a5, a6, a7, a8, a9)) :
    wpX_step post (f, a1, a2, a3, a4, a5, a6, a7, a8, a9) (nI p) (cw_b g) := by
  have hp3 : p < 3 := by omega
  unfold wpX_step
  refine cw_ip hp3 (br_f (by decide) (And.intro (pk_in p 3 hp3) ?_))
  refine pk_lt (N p) 8 (fun _ => ?_) (fun z => absurd z (by omega)) (cw_a1 R hp3)
  refine cw_ad R W hp3 hn (fun b3 h1 h2 => And.intro (pk_in p 3 hp3) ?_)
  rw [nI_clamp (by omega), pk_us]
  exact H _ _ _ (cw_R_ext R W hp3 hn h1 h2)
theorem cw_send {post : Int32 → St1 → Prop} (R : cw_R N K G a1 a2 a3) (W : cw_W N K G) {p s : Nat} (hp : p < 2) (hn : N p < 7) (hs : s < 24) {g : Bool}
    (H : ∀ b1 b2 b3, cw_R (cw_up N p (N p + 1)) (cw_K1 K p (N p + 1) (cw_V0 N K p)) (cw_G1 G p (N p + 1) g) b1 b2 b3 → post (nI s) (nI (s + 1), b1, b2, b3, upd a4 s (nI p), upd a5 s (nI (N p + 1)), upd a6 s 0, a7, a8, a9)) :
    wpX_send post (nI s, a1, a2, a3, a4, a5, a6, a7, a8, a9) (nI p) (cw_b g) := by
  have hp3 : p < 3 := by omega
  unfold wpX_send
  refine cw_ip hp3 (br_f (by decide) (And.intro (pk_in p 3 hp3) ?_))
  refine pk_lt (N p) 8 (fun _ => ?_) (fun z => absurd z (by omega)) (cw_a1 R hp3)
  refine cw_ad R W hp3 hn (fun b3 h1 h2 => And.intro (pk_in s 24 hs) (nm_r (e' := upd a4 s (nI p)) (by rw [nI_clamp (by omega)]) ?_))
  refine And.intro (pk_in p 3 hp3) (And.intro (pk_in s 24 hs) (nm_r (e' := upd a5 s (nI (N p + 1))) (by rw [nI_clamp (by omega), nI_clamp (by omega), pk_us]) ?_))
  refine And.intro (pk_in s 24 hs) (nm_r (e' := upd a6 s 0) (by rw [nI_clamp (by omega)]) (nm_r (nI_1 s) ?_))
  rw [nI_pred]
  exact H _ _ _ (cw_R_ext R W hp3 hn h1 h2)
theorem cw_kbr {post : Int32 → Prop} (p k q : Nat) {x y z : Int32} (hb : 27 * p + 3 * k + q < 81) (h : post (a3 (27 * p + 3 * k + q)))
    (hx : x = nI p := by rfl) (hy : y = nI k := by rfl) (hz : z = nI q := by rfl) : wpX_knownBy post (f, a1, a2, a3, a4, a5, a6, a7, a8, a9) x y z := by
  subst hx hy hz
  show vp_in (((27 * nI p) + (3 * nI k)) + nI q) 81 ∧ post (a3 (((27 * nI p) + (3 * nI k)) + nI q).toNatClampNeg)
  rw [cw_e27, nI_clamp (by omega)]
  exact ⟨vp_in_nI hb (by omega), h⟩
theorem cw_rcv {post : Int32 → St1 → Prop} (R : cw_R N K G a1 a2 a3) (W : cw_W N K G) {p s ps es : Nat} (hp : p < 2) (hn : N p < 7) (hs : s < 24) (hps : ps < 2) (hne : ps ≠ p) (hes : es ≤ N ps) (m4 : a4 s = nI ps) (m5 : a5 s = nI es) (m6 : a6 s = 0) {g : Bool}
    (H : ∀ b1 b2 b3, cw_R (cw_up N p (N p + 1)) (cw_K1 K p (N p + 1) (cw_V1 N K p ps es)) (cw_G1 G p (N p + 1) g) b1 b2 b3 → post (nI (N p + 1)) (nI (s + 1), b1, b2, b3, a4, a5, upd a6 s 1, a7, a8, a9)) :
    wpX_receive post (nI (s + 1), a1, a2, a3, a4, a5, a6, a7, a8, a9) (nI p) (nI s) (cw_b g) := by
  have hp3 : p < 3 := by omega
  have hps3 : ps < 3 := by omega
  have hNs := cw_W_N W hps3
  have key : ∀ (c2 c6 : Nat → Int32) (post : Int32 → St1 → Prop), (∀ b3, (∀ q, q < 3 → b3 (27 * p + 3 * (N p + 1) + q) = nI (cw_V1 N K p ps es q)) → (∀ j, ¬ (27 * p + 3 * (N p + 1) ≤ j ∧ j < 27 * p + 3 * (N p + 1) + 3) → b3 j = a3 j) →
        post (nI (N p + 1)) (nI (s + 1), upd a1 p (nI (N p + 1)), c2, b3, a4, a5, c6, a7, a8, a9)) →
      ∀ (n i : Nat) (b3 : Nat → Int32), i ≤ 3 → 3 - i < n → (∀ q, q < i → b3 (27 * p + 3 * (N p + 1) + q) = nI (cw_V1 N K p ps es q)) → (∀ q, i ≤ q → q < 3 → b3 (27 * p + 3 * (N p + 1) + q) = nI (cw_V0 N K p q)) →
        (∀ j, ¬ (27 * p + 3 * (N p + 1) ≤ j ∧ j < 27 * p + 3 * (N p + 1) + 3) → b3 j = a3 j) →
      wX_receive_79 post (nI p) (nI s) (nI (s + 1)) n (nI i) (upd a1 p (nI (N p + 1))) c2 b3 a4 a5 c6 a7 a8 a9 := by
    intro c2 c6 post H n
    induction n with
    | zero => intro i b3 _ h; omega
    | succ n ih =>
      intro i b3 hi hm h1 h2 h3
      refine pk_le 3 i (fun z => ?_) (fun z => ?_)
      · refine And.intro (pk_in p 3 hp3) ?_
        rw [nI_clamp (by omega), pk_us]
        exact H b3 (fun q hq => h1 q (by omega)) h3
      · refine And.intro (pk_in s 24 hs) (And.intro (pk_in s 24 hs) ?_)
        have v0 := cw_V0_le W hp3 z
        have kk := W.2.2.2.2.1 ps es i hps3 hes z
        have hNi := cw_W_N W z
        have ev : b3 (27 * ps + 3 * es + i) = nI (K ps es i) := by
          rw [h3 _ (by omega)]; exact R.2.2 ps es i hps3 hes z
        refine cw_kbr ps es i (by omega) ?_ (by rw [nI_clamp (by omega)]; exact m4) (by rw [nI_clamp (by omega)]; exact m5) rfl
        rw [ev]
        refine And.intro (pk_in p 3 hp3) (nm_r (e' := nI (27 * p + 3 * (N p + 1) + i)) (by rw [nI_clamp (by omega), pk_us, cw_e27]) ?_)
        have e0 : b3 (nI (27 * p + 3 * (N p + 1) + i)).toNatClampNeg = nI (cw_V0 N K p i) := by
          rw [nI_clamp (by omega)]; exact h2 i (Nat.le_refl _) z
        have pin : vp_in (nI (27 * p + 3 * (N p + 1) + i)) 81 := pk_in (27 * p + 3 * (N p + 1) + i) 81 (by omega)
        have nx : wX_receive_79 post (nI p) (nI s) (nI (s + 1)) n (nI (i + 1)) (upd a1 p (nI (N p + 1))) c2 (upd b3 (27 * p + 3 * (N p + 1) + i) (nI (cw_V1 N K p ps es i))) a4 a5 c6 a7 a8 a9 := by
          refine ih (i + 1) _ (by omega) (by omega) (fun q hq => ?_) (fun q hq hq' => ?_) (fun j hj => ?_)
          · by_cases e : q = i
            · rw [e, pk_us]
            · rw [pk_un (by omega)]; exact h1 q (by omega)
          · rw [pk_un (by omega)]; exact h2 q (by omega) hq'
          · rw [pk_un (by omega)]; exact h3 j hj
        refine And.intro pin (pk_le (K ps es i) (cw_V0 N K p i) (fun y => ?_) (fun y => ?_) rfl e0)
        · refine And.intro pin (And.intro pin (nm_r (e' := upd b3 (27 * p + 3 * (N p + 1) + i) (nI (cw_V1 N K p ps es i))) ?_ (nm_r (nI_1 i) nx)))
          rw [e0, nI_clamp (by omega)]
          unfold cw_V1
          rw [if_pos y]
        · refine And.intro pin (nm_r (e' := upd b3 (27 * p + 3 * (N p + 1) + i) (nI (cw_V1 N K p ps es i))) ?_ (nm_r (nI_1 i) nx))
          rw [nI_clamp (by omega)]
          unfold cw_V1
          rw [if_neg (by omega)]
  refine pk_lt s 0 (fun z => absurd z (by omega)) (fun _ => pk_le (s + 1) s (fun z => absurd z (by omega)) (fun _ => ?_))
  unfold wX_receive_17
  refine cw_ip hp3 (br_f (by decide) (And.intro (pk_in p 3 hp3) ?_))
  refine pk_le 8 (N p) (fun z => absurd z (by omega)) (fun _ => br_f (by decide) (And.intro (pk_in s 24 hs) ?_)) rfl (cw_a1 R hp3)
  refine br_t (by rw [nI_clamp (by omega)]; exact m6) (And.intro (pk_in s 24 hs) ?_)
  refine pk_eq ps p (fun z => absurd z hne) (fun _ => And.intro (pk_in s 24 hs) ?_) (by rw [nI_clamp (by omega)]; exact m4) rfl
  refine nm_r (e' := upd a6 s 1) (by rw [nI_clamp (by omega)]) ?_
  refine cw_ad R W hp3 hn (fun b3 h1 h2 => ?_)
  exact ⟨4, key _ _ post (fun c3 q1 q2 => H _ _ _ (cw_R_ext R W hp3 hn q1 q2)) 4 0 b3 (by omega) (by omega) (fun q hq => absurd hq (by omega)) (fun q _ hq => h1 q hq) h2⟩
theorem cw_rcv2 {post : Int32 → St1 → Prop} (R : cw_R N K G a1 a2 a3) (W : cw_W N K G) {p s : Nat} (hp : p < 2) (hs : s < 24) (m6 : a6 s = 1) {g : Int32}
    (H : post (-1) (nI (s + 1), a1, a2, a3, a4, a5, a6, a7, a8, a9)) : wpX_receive post (nI (s + 1), a1, a2, a3, a4, a5, a6, a7, a8, a9) (nI p) (nI s) g := by
  have hp3 : p < 3 := by omega
  have hN := cw_W_N W hp3
  refine pk_lt s 0 (fun z => absurd z (by omega)) (fun _ => pk_le (s + 1) s (fun z => absurd z (by omega)) (fun _ => ?_))
  unfold wX_receive_17
  refine cw_ip hp3 (br_f (by decide) (And.intro (pk_in p 3 hp3) ?_))
  refine pk_le 8 (N p) (fun z => absurd z (by omega)) (fun _ => br_f (by decide) (And.intro (pk_in s 24 hs) ?_)) rfl (cw_a1 R hp3)
  exact br_f (by rw [nI_clamp (by omega), m6]; decide) H
end
end
section
/-- the law's own record is that of the picture -/
def cw_M (N : Nat → Nat) (K : Nat → Nat → Nat → Nat) (x : Int64) : Prop := ∀ p, p < 2 → ∀ k, k < 8 → cw_g x p k = nI (if k ≤ N p then K p k (1 - p) else 0)
def cw_B (N : Nat → Nat) (G : Nat → Nat → Bool) (p : Nat) (x : Int32) : Prop := ∀ a, a < 8 → x.toBitVec.getLsbD a = (decide (a ≤ N p) && G p a)
theorem cw_M_k {N : Nat → Nat} {K : Nat → Nat → Nat → Nat} {x : Int64} (h : cw_M N K x) {p k : Nat} (hp : p < 2) (hk : k < 8) (hl : k ≤ N p) : cw_g x p k = nI (K p k (1 - p)) := by
  rw [h p hp k hk, if_pos hl]
theorem cw_B_k {N : Nat → Nat} {G : Nat → Nat → Bool} {p : Nat} {x : Int32} (h : cw_B N G p x) {a : Nat} (ha : a < 8) (hl : a ≤ N p) : ((x >>> (nI a &&& 31)) &&& 1) = 1 ↔ G p a = true := by
  rw [cw_bit32 x a (by omega), h a ha, decide_eq_true hl, Bool.true_and]
section
variable {f : Int32} {a1 a2 a3 a4 a5 a6 a7 a8 a9 : Nat → Int32} {N : Nat → Nat} {K : Nat → Nat → Nat → Nat} {G : Nat → Nat → Bool} {S : Nat}
theorem cw_A_iff {a b : Nat} (hc : cw_C N K a b) : cw_A N K G S a b ↔ ¬ cw_gd G S a b ∧ ((a = 0 ∧ b = 0) ∨ (0 < a ∧ cw_A N K G S (a - 1) b) ∨ (0 < b ∧ cw_A N K G S a (b - 1))) := by
  constructor
  · intro h
    exact ⟨(cw_A_ok h).2, cw_A_inv h⟩
  · rintro ⟨g, ⟨rfl, rfl⟩ | ⟨h, hA⟩ | ⟨h, hA⟩⟩
    · exact cw_A_0 hc g
    · obtain ⟨a', rfl⟩ : ∃ a', a = a' + 1 := ⟨a - 1, by omega⟩
      exact cw_A_r hA hc g
    · obtain ⟨b', rfl⟩ : ∃ b', b = b' + 1 := ⟨b - 1, by omega⟩
      exact cw_A_u hA hc g
/-- the road's mask: what stands in it when the cells below i are done -/
def cw_X (N : Nat → Nat) (K : Nat → Nat → Nat → Nat) (G : Nat → Nat → Bool) (S i : Nat) (x : Int64) : Prop := ∀ j, j < 64 → (x.toBitVec.getLsbD j = true ↔ j < i ∧ cw_A N K G S (j / 8) (j % 8))
theorem cw_X_no {i : Nat} {x : Int64} (h : cw_X N K G S i x) (hn : ¬ cw_A N K G S (i / 8) (i % 8)) : cw_X N K G S (i + 1) x := by
  intro j hj
  rw [h j hj]
  constructor
  · rintro ⟨q1, q2⟩
    exact ⟨by omega, q2⟩
  · rintro ⟨q1, q2⟩
    by_cases e : j = i
    · rw [e] at q2; exact absurd q2 hn
    · exact ⟨by omega, q2⟩
theorem cw_X_yes {i : Nat} {x : Int64} (hi : i < 64) (h : cw_X N K G S i x) (hy : cw_A N K G S (i / 8) (i % 8)) : cw_X N K G S (i + 1) (x ||| ((1 : Int64) <<< ((nI i).toInt64 &&& 63))) := by
  intro j hj
  rw [cw_set64 x i hi j]
  by_cases e : j = i
  · rw [decide_eq_true e, Bool.or_true, e]
    exact ⟨fun _ => ⟨by omega, hy⟩, fun _ => rfl⟩
  · rw [decide_eq_false e, Bool.or_false, h j hj]
    exact ⟨fun q => ⟨by omega, q.2⟩, fun q => ⟨by omega, q.2⟩⟩
theorem cw_b_or (a b : Bool) : cw_b a ||| cw_b b = cw_b (a || b) := by cases a <;> cases b <;> decide
theorem cw_114 {post : Int32 → St1 → Prop} {J : Int32 → Int32 → Int64 → Int32 → Prop} {x1 : Int64} {x3 x4 x5 x6 x7 x8 : Int32} {x10 : Int64} {i : Nat} (hi : i < 64) {q pb : Bool} (hc : cw_C N K (i / 8) (i % 8)) (hq : q = true ↔ cw_gd G S (i / 8) (i % 8)) (hx : cw_X N K G S i x10)
    (H : ∀ y, cw_X N K G S (i + 1) y → J x8 (cw_b (pb || q)) y (nI (i + 1))) :
    wL_agrees_114 post J x1 x3 x4 x5 x6 x7 x8 x10 (nI i) (nI (i / 8)) (nI (i % 8)) (cw_b q) (cw_b q) (cw_b pb) f a1 a2 a3 a4 a5 a6 a7 a8 a9 := by
  have hA := cw_A_iff (G := G) (S := S) hc
  refine nm_r (e' := cw_b (pb || q)) (cw_b_or pb q) ?_
  have fin : ∀ w : Bool, (w = true ↔ ((i / 8 = 0 ∧ i % 8 = 0) ∨ (0 < i / 8 ∧ cw_A N K G S (i / 8 - 1) (i % 8)) ∨ (0 < i % 8 ∧ cw_A N K G S (i / 8) (i % 8 - 1)))) →
      wL_agrees_166 post J x1 x3 x4 x5 x6 x7 x8 (cw_b (pb || q)) x10 (nI i) (cw_b q) (cw_b w) f a1 a2 a3 a4 a5 a6 a7 a8 a9 := by
    intro w hw
    refine ek_if (cw_b_0 q) (fun e => ek_if (cw_b_0 w) (fun e' => nm_r (nI_1 i) (H _ (cw_X_no hx (fun h => ?_)))) (fun e' => nm_e (nm_r (nI_1 i) (H _ (cw_X_yes hi hx (hA.mpr ⟨fun g => ?_, ?_⟩)))))) (fun e => nm_r (nI_1 i) (H _ (cw_X_no hx (fun h => ?_))))
    · have := hw.mpr (hA.mp h).2
      rw [e'] at this; cases this
    · have := hq.mpr g
      rw [e] at this; cases this
    · exact hw.mp (by simpa using e')
    · exact (hA.mp h).1 (hq.mp (by simpa using e))
  have yes : ((i / 8 = 0 ∧ i % 8 = 0) ∨ (0 < i / 8 ∧ cw_A N K G S (i / 8 - 1) (i % 8)) ∨ (0 < i % 8 ∧ cw_A N K G S (i / 8) (i % 8 - 1))) → wL_agrees_161 post J x1 x3 x4 x5 x6 x7 x8 (cw_b (pb || q)) x10 (nI i) (cw_b q) f a1 a2 a3 a4 a5 a6 a7 a8 a9 :=
    fun h => fin true ⟨fun _ => h, fun _ => rfl⟩
  have no : ¬ ((i / 8 = 0 ∧ i % 8 = 0) ∨ (0 < i / 8 ∧ cw_A N K G S (i / 8 - 1) (i % 8)) ∨ (0 < i % 8 ∧ cw_A N K G S (i / 8) (i % 8 - 1))) → wL_agrees_165 post J x1 x3 x4 x5 x6 x7 x8 (cw_b (pb || q)) x10 (nI i) (cw_b q) f a1 a2 a3 a4 a5 a6 a7 a8 a9 :=
    fun h => fin false ⟨(fun e => nomatch e), fun e => absurd e h⟩
  refine pk_eq i 0 (fun e => yes (Or.inl ⟨by omega, by omega⟩)) (fun e => ?_)
  have side : ¬ (0 < i / 8 ∧ cw_A N K G S (i / 8 - 1) (i % 8)) → wL_agrees_142 post J x1 x3 x4 x5 x6 x7 x8 (cw_b (pb || q)) x10 (nI i) (nI (i % 8)) (cw_b q) f a1 a2 a3 a4 a5 a6 a7 a8 a9 := by
    intro hn
    refine pk_le (i % 8) 0 (fun z => no (fun h => ?_)) (fun z => ?_)
    · rcases h with h | h | h
      · omega
      · exact hn h
      · omega
    · have e1 : nI i - 1 = nI (i - 1) := pk_sub (a := i) (b := 1) (by omega)
      refine ek_if (d := cw_A N K G S (i / 8) (i % 8 - 1)) ?_ (fun h => yes (Or.inr (Or.inr ⟨z, h⟩))) (fun h => no (fun h' => ?_))
      · rw [e1, cw_bit64 x10 (i - 1) (by omega), hx (i - 1) (by omega), show (i - 1) / 8 = i / 8 by omega, show (i - 1) % 8 = i % 8 - 1 by omega]
        exact ⟨fun h => h.2, fun h => ⟨by omega, h⟩⟩
      · rcases h' with h' | h' | h'
        · omega
        · exact hn h'
        · exact h h'.2
  refine pk_le (i / 8) 0 (fun z => side (fun h => by omega)) (fun z => ?_)
  have e1 : nI i - 8 = nI (i - 8) := pk_sub (a := i) (b := 8) (by omega)
  refine ek_if (d := cw_A N K G S (i / 8 - 1) (i % 8)) ?_ (fun h => yes (Or.inr (Or.inl ⟨z, h⟩))) (fun h => side (fun h' => h h'.2))
  rw [e1, cw_bit64 x10 (i - 8) (by omega), hx (i - 8) (by omega), show (i - 8) / 8 = i / 8 - 1 by omega, show (i - 8) % 8 = i % 8 by omega]
  exact ⟨fun h => h.2, fun h => ⟨by omega, h⟩⟩
theorem cw_272 {post : Int32 → St1 → Prop} {x1 : Int64} (R : cw_R N K G a1 a2 a3) (W : cw_W N K G) (hM : cw_M N K x1) (H : post 1 (f, a1, a2, a3, a4, a5, a6, a7, a8, a9)) :
    ∀ n k, k ≤ N 0 + 1 → N 0 + 1 - k < n → wL_agrees_272 post x1 (nI (N 0)) (nI (N 1)) f a1 a2 a3 a4 a5 a6 a7 a8 a9 n (nI k) := by
  intro n
  have n0 := W.1
  have n1 := W.2.1
  induction n with
  | zero => intro k _ h; omega
  | succ n ih =>
    intro k hk hn
    refine pk_lt (N 0) k (fun z => ?_) (fun z => ?_)
    · refine cw_kn R W (p := 1) (k := N 1) (q := 0) (by omega) (Nat.le_refl _) (by omega) ?_
      refine br_t (cw_M_k hM (p := 1) (k := N 1) (by omega) (by omega) (Nat.le_refl _)).symm ?_
      refine cw_ev R (p := 0) (by omega) (br_t rfl ?_)
      exact cw_ev R (p := 1) (by omega) (br_t rfl H)
    · refine cw_kn R W (p := 0) (k := k) (q := 1) (by omega) z (by omega) ?_
      exact br_t (cw_M_k hM (p := 0) (k := k) (by omega) (by omega) z).symm (nm_r (nI_1 k) (ih (k + 1) (by omega) (by omega)))
theorem cw_253 {post : Int32 → St1 → Prop} {x1 : Int64} (R : cw_R N K G a1 a2 a3) (W : cw_W N K G) (hM : cw_M N K x1) (h4 : S < 4) (H : ∀ b7, post 1 (f, a1, a2, a3, a4, a5, a6, b7, a8, a9)) (z : Int32) :
    wL_agrees_253 post x1 (nI (N 0)) (nI (N 1)) (nI S) z z f a1 a2 a3 a4 a5 a6 a7 a8 a9 := by
  refine br_t rfl ?_
  rw [cw_s4 S h4]
  exact cw_ps R W (by omega) (by omega) (fun _ b7 => br_t rfl ⟨N 0 + 2, cw_272 R W hM (H b7) _ 0 (by omega) (by omega)⟩) (fun h => absurd h (cw_sol_4 W h4))
theorem cw_215 {post : Int32 → St1 → Prop} {x1 : Int64} (R : cw_R N K G a1 a2 a3) (W : cw_W N K G) (hM : cw_M N K x1) (h1 : 1 ≤ S) (h4 : S < 4) {pb w : Bool} (hpb : pb = true ↔ ∃ a b, cw_C N K a b ∧ cw_gd G S a b) (hw : w = true ↔ cw_A N K G S (N 0) (N 1))
    (H : ∀ b7 b8 b9, post 1 (f, a1, a2, a3, a4, a5, a6, b7, b8, b9)) :
    wL_agrees_215 post x1 (nI (N 0)) (nI (N 1)) (nI S) (nI (cw_lin N K 64)) (cw_b pb) (cw_b w) f a1 a2 a3 a4 a5 a6 a7 a8 a9 := by
  have tail : ∀ b7, wpX_definitely (fun r_35 u => match u with | (f0_messages_36, am2401_39, am2402_42, am2403_45, am2404_48, am2405_51, am2406_54, am2407_57, am2408_60, am2409_63) => (((cw_b w = 0 → (wL_agrees_253 post x1 (nI (N 0)) (nI (N 1)) (nI S) 1 r_35 f0_messages_36 am2401_39 am2402_42 am2403_45 am2404_48 am2405_51 am2406_54 am2407_57 am2408_60 am2409_63)) ∧ (¬ cw_b w = 0 → (wL_agrees_253 post x1 (nI (N 0)) (nI (N 1)) (nI S) 0 r_35 f0_messages_36 am2401_39 am2402_42 am2403_45 am2404_48 am2405_51 am2406_54 am2407_57 am2408_60 am2409_63))))) (f, a1, a2, a3, a4, a5, a6, b7, a8, a9) (nI S) := by
    intro b7
    refine cw_df R W h1 h4 (fun hA b8 b9 => ?_) (fun hA b8 b9 => ?_)
    · have e := hw.mpr hA
      subst e
      exact br_f (by decide) (cw_253 R W hM h4 (fun b7 => H b7 b8 b9) 0)
    · have e : w = false := by
        cases w with
        | true => exact absurd (hw.mp rfl) hA
        | false => rfl
      subst e
      exact br_t rfl (cw_253 R W hM h4 (fun b7 => H b7 b8 b9) 1)
  unfold wL_agrees_215
  refine cw_cuts R W (br_t rfl ?_)
  refine cw_ps R W h1 (by omega) (fun h b7 => ?_) (fun h b7 => ?_)
  · have e : pb = false := by
      cases pb with
      | true => exact absurd ((cw_sol_iff W h4).mpr (hpb.mp rfl)) h
      | false => rfl
    subst e
    exact br_t rfl (tail b7)
  · have e := hpb.mpr ((cw_sol_iff W h4).mp h)
    subst e
    exact br_t rfl (tail b7)
end
end
section
section
variable {f : Int32} {a1 a2 a3 a4 a5 a6 a7 a8 a9 : Nat → Int32} {N : Nat → Nat} {K : Nat → Nat → Nat → Nat} {G : Nat → Nat → Bool} {S : Nat}
theorem cw_pos {post : Int32 → Prop} {x1 : Int64} (W : cw_W N K G) (hM : cw_M N K x1) {a b : Nat} (ha : a ≤ N 0) (hb : b ≤ N 1) (H0 : ¬ cw_C N K a b → post 0) (H1 : cw_C N K a b → post 1) : wpL_possible post () x1 (nI a) (nI b) := by
  have n0 := W.1
  have n1 := W.2.1
  have k0 := W.2.2.2.2.1 0 a 1 (by omega) ha (by omega)
  have k1 := W.2.2.2.2.1 1 b 0 (by omega) hb (by omega)
  unfold wpL_possible
  refine pk_lt b (K 0 a 1) (fun z => H0 (fun c => by have := c.2.2.1; omega)) (fun z => ?_) rfl (cw_M_k hM (p := 0) (k := a) (by omega) (by omega) ha)
  exact pk_lt a (K 1 b 0) (fun y => H0 (fun c => by have := c.2.2.2; omega)) (fun y => H1 ⟨ha, hb, z, y⟩) rfl (cw_M_k hM (p := 1) (k := b) (by omega) (by omega) hb)
theorem cw_12 {post : Int32 → St1 → Prop} {x1 : Int64} {x5 x6 : Int32} (R : cw_R N K G a1 a2 a3) (W : cw_W N K G) (hM : cw_M N K x1) (hB0 : cw_B N G 0 x5) (hB1 : cw_B N G 1 x6) (h1 : 1 ≤ S) (h4 : S < 4)
    (H : ∀ b7 b8 b9, post 1 (f, a1, a2, a3, a4, a5, a6, b7, b8, b9)) :
    ∀ (n i : Nat) (pb : Bool) (x10 : Int64), i ≤ 64 → 64 - i < n → (pb = true ↔ ∃ t, t < i ∧ cw_C N K (t / 8) (t % 8) ∧ cw_gd G S (t / 8) (t % 8)) → cw_X N K G S i x10 →
    wL_agrees_12 post x1 (nI (N 0)) (nI (N 1)) x5 x6 (nI S) f a1 a2 a3 a4 a5 a6 a7 a8 a9 n (nI (cw_lin N K i)) (cw_b pb) x10 (nI i) := by
  intro n
  have n0 := W.1
  have n1 := W.2.1
  induction n with
  | zero => intro i pb x10 _ h; omega
  | succ n ih =>
    intro i pb x10 hi hn hpb hx
    refine pk_le 64 i (fun z => ?_) (fun z => ?_)
    · have e64 : i = 64 := by omega
      subst e64
      have hpb' : pb = true ↔ ∃ a b, cw_C N K a b ∧ cw_gd G S a b := by
        rw [hpb]
        constructor
        · rintro ⟨t, _, c, g⟩
          exact ⟨_, _, c, g⟩
        · rintro ⟨a, b, c, g⟩
          have ca := c.1
          have cb := c.2.1
          refine ⟨8 * a + b, by omega, ?_⟩
          rw [show (8 * a + b) / 8 = a by omega, show (8 * a + b) % 8 = b by omega]
          exact ⟨c, g⟩
      have e8 : (8 * nI (N 0)) + nI (N 1) = nI (8 * N 0 + N 1) := by
        show (nI 8 * nI (N 0)) + nI (N 1) = _
        rw [pk_mul, nI_add]
      refine ek_if (d := cw_A N K G S (N 0) (N 1)) ?_ (fun h => cw_215 R W hM h1 h4 (w := true) hpb' ⟨fun _ => h, fun _ => rfl⟩ H) (fun h => cw_215 R W hM h1 h4 (w := false) hpb' ⟨(fun e => nomatch e), fun e => absurd e h⟩ H)
      rw [e8, cw_bit64 x10 _ (by omega), hx _ (by omega), show (8 * N 0 + N 1) / 8 = N 0 by omega, show (8 * N 0 + N 1) % 8 = N 1 by omega]
      exact ⟨fun h => h.2, fun h => ⟨by omega, h⟩⟩
    · have skip : ¬ cw_C N K (i / 8) (i % 8) → wL_agrees_12 post x1 (nI (N 0)) (nI (N 1)) x5 x6 (nI S) f a1 a2 a3 a4 a5 a6 a7 a8 a9 n (nI (cw_lin N K i)) (cw_b pb) x10 (nI (i + 1)) := by
        intro hc
        have t := ih (i + 1) pb x10 (by omega) (by omega) (by
          rw [hpb]
          constructor
          · rintro ⟨t, q1, q2⟩
            exact ⟨t, by omega, q2⟩
          · rintro ⟨t, q1, q2⟩
            by_cases e : t = i
            · rw [e] at q2; exact absurd q2.1 hc
            · exact ⟨t, by omega, q2⟩) (cw_X_no hx (fun h => hc (cw_A_ok h).1))
        have e : cw_lin N K (i + 1) = cw_lin N K i := by
          show cw_lin N K i + cw_cc N K i = _
          have c0 := cw_cc_0 (N := N) (K := K) (i := i / 8) (j := i % 8) (by omega) hc
          rw [show 8 * (i / 8) + i % 8 = i by omega] at c0
          rw [c0, Nat.add_zero]
        rw [e] at t
        exact t
      have na : i / 8 < 8 := by omega
      have nb : i % 8 < 8 := by omega
      refine nm_r (e' := nI (i / 8)) (pk_shrN (n := i) (by omega) _ 3 (by decide)) ?_
      refine nm_r (e' := nI (i % 8)) (pk_andN (n := i) (by omega) 3 (by decide)) ?_
      refine pk_lt (N 0) (i / 8) (fun y => nm_r (nI_1 i) (skip (fun c => by have := c.1; omega))) (fun ya => ?_)
      refine pk_lt (N 1) (i % 8) (fun y => nm_r (nI_1 i) (skip (fun c => by have := c.2.1; omega))) (fun yb => ?_)
      refine cw_pos W hM ya yb (fun hc => br_t rfl (nm_r (nI_1 i) (skip hc))) (fun hc => br_f (by decide) ?_)
      have e1 : cw_lin N K (i + 1) = cw_lin N K i + 1 := by
        show cw_lin N K i + cw_cc N K i = _
        have c0 := cw_cc_1 (N := N) (K := K) (i := i / 8) (j := i % 8) (by omega) hc
        rw [show 8 * (i / 8) + i % 8 = i by omega] at c0
        rw [c0]
      refine nm_r (e' := nI (cw_lin N K (i + 1))) (by rw [e1, nI_1]) ?_
      have g114 : ∀ q : Bool, (q = true ↔ cw_gd G S (i / 8) (i % 8)) → wL_agrees_114 post (wL_agrees_12 post x1 (nI (N 0)) (nI (N 1)) x5 x6 (nI S) f a1 a2 a3 a4 a5 a6 a7 a8 a9 n) x1 (nI (N 0)) (nI (N 1)) x5 x6 (nI S) (nI (cw_lin N K (i + 1))) x10 (nI i) (nI (i / 8)) (nI (i % 8)) (cw_b q) (cw_b q) (cw_b pb) f a1 a2 a3 a4 a5 a6 a7 a8 a9 := by
        intro q hq
        refine cw_114 z hc hq hx (fun y hy => ih (i + 1) (pb || q) y (by omega) (by omega) ?_ hy)
        rw [Bool.or_eq_true, hpb, hq]
        constructor
        · rintro (⟨t, q1, q2⟩ | hg)
          · exact ⟨t, by omega, q2⟩
          · exact ⟨i, by omega, hc, hg⟩
        · rintro ⟨t, q1, q2⟩
          by_cases e : t = i
          · rw [e] at q2; exact Or.inr q2.2
          · exact Or.inl ⟨t, by omega, q2⟩
      have a95 : cw_gd G S (i / 8) (i % 8) → wL_agrees_95 post (wL_agrees_12 post x1 (nI (N 0)) (nI (N 1)) x5 x6 (nI S) f a1 a2 a3 a4 a5 a6 a7 a8 a9 n) x1 (nI (N 0)) (nI (N 1)) x5 x6 (nI S) (nI (cw_lin N K (i + 1))) (cw_b pb) x10 (nI i) (nI (i / 8)) (nI (i % 8)) f a1 a2 a3 a4 a5 a6 a7 a8 a9 :=
        fun h => br_f (by decide) (g114 true ⟨fun _ => h, fun _ => rfl⟩)
      have a99 : ¬ cw_gd G S (i / 8) (i % 8) → wL_agrees_99 post (wL_agrees_12 post x1 (nI (N 0)) (nI (N 1)) x5 x6 (nI S) f a1 a2 a3 a4 a5 a6 a7 a8 a9 n) x1 (nI (N 0)) (nI (N 1)) x5 x6 (nI S) (nI (cw_lin N K (i + 1))) (cw_b pb) x10 (nI i) (nI (i / 8)) (nI (i % 8)) f a1 a2 a3 a4 a5 a6 a7 a8 a9 :=
        fun h => br_t rfl (g114 false ⟨(fun e => nomatch e), fun e => absurd e h⟩)
      have a77 : (S.testBit 0 = true → G 0 (i / 8) = true) → wL_agrees_77 post (wL_agrees_12 post x1 (nI (N 0)) (nI (N 1)) x5 x6 (nI S) f a1 a2 a3 a4 a5 a6 a7 a8 a9 n) x1 (nI (N 0)) (nI (N 1)) x5 x6 (nI S) (nI (cw_lin N K (i + 1))) (cw_b pb) x10 (nI i) (nI (i / 8)) (nI (i % 8)) f a1 a2 a3 a4 a5 a6 a7 a8 a9 := by
        intro h0
        refine ek_if (cw_s2 S (by omega)) (fun e => a95 ⟨h0, fun e' => by rw [e] at e'; cases e'⟩) (fun e => ?_)
        exact ek_if (cw_B_k hB1 nb yb) (fun g => a95 ⟨h0, fun _ => g⟩) (fun g => a99 (fun c => g (c.2 (by simpa using e))))
      refine ek_if (cw_s1 S (by omega)) (fun e => a77 (fun e' => by rw [e] at e'; cases e')) (fun e => ?_)
      exact ek_if (cw_B_k hB0 na ya) (fun g => a77 (fun _ => g)) (fun g => a99 (fun c => g (c.1 (by simpa using e))))
theorem cw_agr {post : Int32 → St1 → Prop} {x1 : Int64} {x5 x6 : Int32} (R : cw_R N K G a1 a2 a3) (W : cw_W N K G) (hM : cw_M N K x1) (hB0 : cw_B N G 0 x5) (hB1 : cw_B N G 1 x6) (h1 : 1 ≤ S) (h4 : S < 4)
    (H : ∀ b7 b8 b9, post 1 (f, a1, a2, a3, a4, a5, a6, b7, b8, b9)) : wpL_agrees post (f, a1, a2, a3, a4, a5, a6, a7, a8, a9) x1 (nI (N 0)) (nI (N 1)) x5 x6 (nI S) := by
  show ∃ n, wL_agrees_12 post x1 (nI (N 0)) (nI (N 1)) x5 x6 (nI S) f a1 a2 a3 a4 a5 a6 a7 a8 a9 n 0 0 0 0
  refine ⟨65, cw_12 R W hM hB0 hB1 h1 h4 H 65 0 false 0 (by omega) (by omega) ⟨(fun e => nomatch e), fun ⟨t, h, _⟩ => absurd h (by omega)⟩ (fun j hj => ?_)⟩
  have e : (0 : Int64).toBitVec.getLsbD j = false := BitVec.getLsbD_zero
  rw [e]
  exact ⟨(fun e => nomatch e), fun h => absurd h.1 (by omega)⟩
end
end
section
theorem cw_M_ext {N : Nat → Nat} {K : Nat → Nat → Nat → Nat} {x : Int64} (hM : cw_M N K x) {p w : Nat} {V : Nat → Nat} (hp : p < 2) (hn : N p < 7) (hw : w < 16) (hv : V (1 - p) = w) :
    cw_M (cw_up N p (N p + 1)) (cw_K1 K p (N p + 1) V) (x ||| ((nI w).toInt64 <<< (((32 * nI p) + (4 * nI (N p + 1))).toInt64 &&& 63))) := by
  intro r hr k hk
  by_cases c : r = p ∧ k = N p + 1
  · obtain ⟨rfl, rfl⟩ := c
    rw [cw_g_eq x hw hr hk (by rw [hM r hr _ hk, if_neg (by omega)]; rfl), cw_up_s, if_pos (Nat.le_refl _), cw_K1_s, hv]
  · rw [cw_g_ne x hw hp (by omega) hr hk c, hM r hr k hk, cw_K1_n c]
    by_cases h : k ≤ N r
    · rw [if_pos h, if_pos (Nat.le_trans h cw_N2)]
    · rw [if_neg h, if_neg (fun h' => h (cw_N1 h' c))]
theorem cw_or0 (x : Int32) : x ||| 0 = x := by
  apply Int32.toBitVec_inj.mp
  rw [Int32.toBitVec_or]
  show x.toBitVec ||| 0#32 = x.toBitVec
  simp
theorem cw_B_ne {N : Nat → Nat} {G : Nat → Nat → Bool} {r p e : Nat} {x : Int32} {n : Nat} {g : Bool} (hB : cw_B N G r x) (hr : r ≠ p) : cw_B (cw_up N p n) (cw_G1 G p e g) r (x ||| 0) := by
  intro a ha
  rw [cw_or0, hB a ha, cw_up_n hr, cw_G1_n (fun c => hr c.1)]
theorem cw_B_no {N : Nat → Nat} {G : Nat → Nat → Bool} {p : Nat} {x : Int32} (hB : cw_B N G p x) : cw_B (cw_up N p (N p + 1)) (cw_G1 G p (N p + 1) false) p (x ||| 0) := by
  intro a ha
  rw [cw_or0, hB a ha, cw_up_s]
  by_cases c : a = N p + 1
  · rw [c, cw_G1_s, decide_eq_false (by omega), Bool.false_and, Bool.and_false]
  · rw [cw_G1_n (fun d => c d.2)]
    congr 1
    exact decide_eq_decide.mpr ⟨fun h => by omega, fun h => by omega⟩
theorem cw_B_yes {N : Nat → Nat} {G : Nat → Nat → Bool} {p : Nat} {x : Int32} (hB : cw_B N G p x) (hn : N p < 7) : cw_B (cw_up N p (N p + 1)) (cw_G1 G p (N p + 1) true) p (x ||| ((1 : Int32) <<< (nI (N p + 1) &&& 31))) := by
  intro a ha
  rw [cw_set32 x _ (by omega), hB a ha, cw_up_s]
  by_cases c : a = N p + 1
  · rw [c, cw_G1_s, decide_eq_true (Nat.le_refl _), decide_eq_true rfl, Bool.or_true, Bool.and_true]
  · rw [cw_G1_n (fun d => c d.2), decide_eq_false c, Bool.or_false]
    congr 1
    exact decide_eq_decide.mpr ⟨fun h => by omega, fun h => by omega⟩
theorem cw_get {post : Int32 → Prop} {x : Int64} {p k w : Nat} (h : post (nI w)) (e : cw_g x p k = nI w) : wpL_get post () x (nI p) (nI k) := by
  show post (cw_g x p k)
  rw [e]; exact h
abbrev cw_JT : Type := Int64 → Int32 → Int32 → Int32 → Int32 → Int32 → Int32 → Int32 → (Nat → Int32) → (Nat → Int32) → (Nat → Int32) → (Nat → Int32) → (Nat → Int32) → (Nat → Int32) → (Nat → Int32) → (Nat → Int32) → (Nat → Int32) → Prop
section
variable {post : Int32 → Prop} {L : Nat} {xs : Nat → Int32} {J : cw_JT} {kc ks : Nat} {f : Int32} {a1 a2 a3 a4 a5 a6 a7 a8 a9 : Nat → Int32} {N : Nat → Nat} {K : Nat → Nat → Nat → Nat} {G : Nat → Nat → Bool}
theorem cw_208 {x2 : Int64} {x6 x7 x9 x10 x13 x15 z0 : Int32} {p : Nat} {g : Bool} (W : cw_W N K G) (hM : cw_M N K x2) (hB0 : cw_B N G 0 x6) (hB1 : cw_B N G 1 x7) (hp : p < 2) (hn : N p < 7)
    (H : ∀ y2 y6 w0 w1, cw_M (cw_up N p (N p + 1)) (cw_K1 K p (N p + 1) (cw_V0 N K p)) y2 → cw_B (cw_up N p (N p + 1)) (cw_G1 G p (N p + 1) g) 0 y6 → cw_B (cw_up N p (N p + 1)) (cw_G1 G p (N p + 1) g) 1 (w1 ||| w0) →
      wL_law_306 post L xs J y2 (nI (cw_up N p (N p + 1) 0)) (nI (cw_up N p (N p + 1) 1)) y6 z0 x9 x10 (nI p) x13 x15 (nI (N p + 1)) w0 w1 kc ks f a1 a2 a3 a4 a5 a6 a7 a8 a9) :
    wL_law_208 post L xs J x2 (nI (N 0)) (nI (N 1)) x6 x7 x9 x10 (nI p) (cw_b g) x13 (nI (N p)) x15 (nI (N p + 1)) z0 kc ks f a1 a2 a3 a4 a5 a6 a7 a8 a9 := by
  have kb := W.2.2.2.2.1 p (N p) (1 - p) (by omega) (Nat.le_refl _) (by omega)
  have kn := cw_W_N W (p := 1 - p) (by omega)
  have hM' := cw_M_ext hM (V := cw_V0 N K p) (w := K p (N p) (1 - p)) hp hn (by omega) (if_neg (by omega))
  have eg := cw_M_k hM hp (k := N p) (by omega) (Nat.le_refl _)
  unfold wL_law_208
  refine cw_get ?_ eg
  rcases (by omega : p = 0 ∨ p = 1) with rfl | rfl
  · refine nm_e (br_t rfl ?_)
    refine br_f (by decide) ?_
    cases g with
    | true =>
      refine br_t rfl (br_f (by decide) ?_)
      refine nm_e (br_f (by decide) ?_)
      exact H _ _ _ _ hM' (cw_B_yes hB0 hn) (cw_B_ne hB1 (by omega))
    | false =>
      refine br_t rfl (br_t rfl ?_)
      refine nm_e (br_f (by decide) ?_)
      exact H _ _ _ _ hM' (cw_B_no hB0) (cw_B_ne hB1 (by omega))
  · refine nm_e (br_f (by decide) ?_)
    refine br_t rfl ?_
    refine br_f (by decide) ?_
    cases g with
    | true =>
      refine nm_e (br_t rfl (br_f (by decide) ?_))
      exact H _ _ _ _ hM' (cw_B_ne hB0 (by omega)) (cw_B_yes hB1 hn)
    | false =>
      refine nm_e (br_t rfl (br_t rfl ?_))
      exact H _ _ _ _ hM' (cw_B_ne hB0 (by omega)) (cw_B_no hB1)
theorem cw_392 {x2 : Int64} {x6 x7 x8 x9 : Int32} {p : Nat} {g : Bool} (hB0 : cw_B N G 0 x6) (hB1 : cw_B N G 1 x7) (hp : p < 2) (hn : N (1 - p) < 7)
    (H : ∀ y6 y7, cw_B (cw_up N (1 - p) (N (1 - p) + 1)) (cw_G1 G (1 - p) (N (1 - p) + 1) g) 0 y6 → cw_B (cw_up N (1 - p) (N (1 - p) + 1)) (cw_G1 G (1 - p) (N (1 - p) + 1) g) 1 y7 →
      wL_law_455 post L xs J x2 (nI (cw_up N (1 - p) (N (1 - p) + 1) 0)) (nI (cw_up N (1 - p) (N (1 - p) + 1) 1)) y6 y7 x8 x9 kc ks f a1 a2 a3 a4 a5 a6 a7 a8 a9) :
    (nI p = 1 → wL_law_392 post L xs J x2 (nI (N 1)) x6 x7 x8 x9 (nI p) (cw_b g) (nI (N (1 - p) + 1)) (nI (N (1 - p) + 1)) kc ks f a1 a2 a3 a4 a5 a6 a7 a8 a9) ∧
    (¬ nI p = 1 → wL_law_392 post L xs J x2 (nI (N 1)) x6 x7 x8 x9 (nI p) (cw_b g) (nI (N (1 - p) + 1)) (nI (N 0)) kc ks f a1 a2 a3 a4 a5 a6 a7 a8 a9) := by
  rcases (by omega : p = 0 ∨ p = 1) with rfl | rfl
  · refine br_f (by decide) ?_
    refine br_t rfl ?_
    refine br_f (by decide) ?_
    cases g with
    | true =>
      refine nm_e (br_t rfl (br_f (by decide) ?_))
      exact nm_e (H _ _ (cw_B_ne hB0 (by omega)) (cw_B_yes hB1 hn))
    | false =>
      refine nm_e (br_t rfl (br_t rfl ?_))
      exact nm_e (H _ _ (cw_B_ne hB0 (by omega)) (cw_B_no hB1))
  · refine br_t rfl ?_
    refine br_f (by decide) ?_
    cases g with
    | true =>
      refine br_t rfl (br_f (by decide) ?_)
      refine nm_e (br_f (by decide) ?_)
      exact nm_e (H _ _ (cw_B_yes hB0 hn) (cw_B_ne hB1 (by omega)))
    | false =>
      refine br_t rfl (br_t rfl ?_)
      refine nm_e (br_f (by decide) ?_)
      exact nm_e (H _ _ (cw_B_no hB0) (cw_B_ne hB1 (by omega)))
/-- the loop's invariant -/
def cw_Z (N : Nat → Nat) (K : Nat → Nat → Nat → Nat) (G : Nat → Nat → Bool) (s : Nat) (x2 : Int64) (x6 x7 : Int32) (a1 a2 a3 : Nat → Int32) : Prop :=
  cw_W N K G ∧ cw_R N K G a1 a2 a3 ∧ cw_M N K x2 ∧ cw_B N G 0 x6 ∧ cw_B N G 1 x7 ∧ s ≤ N 0 + N 1
def cw_HJ (J : cw_JT) (t : Nat) : Prop := ∀ (N : Nat → Nat) (K : Nat → Nat → Nat → Nat) (G : Nat → Nat → Bool) (s : Nat) (x2 : Int64) (x6 x7 : Int32) (a1 a2 a3 a4 a5 a6 a7 a8 a9 : Nat → Int32),
  cw_Z N K G s x2 x6 x7 a1 a2 a3 → J x2 (nI (N 0)) (nI (N 1)) x6 x7 (nI s) (nI (2 * t + 2)) (nI s) a1 a2 a3 a4 a5 a6 a7 a8 a9
theorem cw_set (x : Int32) : ∃ S, 1 ≤ S ∧ S < 4 ∧ 1 + ((x &&& 255) - (x &&& 255) / 3 * 3) = nI S := by
  obtain ⟨j, hj, e⟩ := pk_andE x (m := 255) 8 (by decide)
  refine ⟨1 + j % 3, by omega, by omega, ?_⟩
  rw [e]
  have h := pk_rem (a := j) (d := 3) (Nat.lt_of_lt_of_le hj (by decide)) (by omega) (by omega)
  have h' : nI j - nI j / 3 * 3 = nI (j % 3) := h
  rw [h']
  exact nI_add 1 (j % 3)
theorem cw_455 {s t : Nat} {x2 : Int64} {x6 x7 : Int32} (hZ : cw_Z N K G s x2 x6 x7 a1 a2 a3) (hJ : cw_HJ J t) (hL : L ≤ 260) (ht : 2 * t + 2 ≤ L) :
    wL_law_455 post L xs J x2 (nI (N 0)) (nI (N 1)) x6 x7 (nI s) (nI (2 * t)) kc ks (nI s) a1 a2 a3 a4 a5 a6 a7 a8 a9 := by
  obtain ⟨S, h1, h4, e⟩ := cw_set ((xs (nI (2 * t) + 1).toNatClampNeg) >>> ((2 : Int32) &&& 31))
  refine And.intro (pk_in (2 * t + 1) L (by omega) (nI_1 _)) (And.intro (by decide) ?_)
  rw [e]
  obtain ⟨W, R, M, B0, B1, hs⟩ := id hZ
  exact cw_agr R W M B0 B1 h1 h4 (fun b7 b8 b9 => br_f (by decide) (nm_r (nI_add (2 * t) 2) (hJ N K G s x2 x6 x7 a1 a2 a3 a4 a5 a6 b7 b8 b9 hZ)))
theorem cw_V1_s (W : cw_W N K G) {r ps : Nat} (hr : r < 3) (hps : ps < 3) (hne : ps ≠ r) : cw_V1 N K r ps (N ps) ps = N ps := by
  have h1 := W.2.2.2.1 ps (N ps) hps (Nat.le_refl _)
  have h2 := W.2.2.2.2.1 r (N r) ps hr (Nat.le_refl _) hps
  have h3 : cw_V0 N K r ps = K r (N r) ps := if_neg hne
  unfold cw_V1
  split <;> omega
theorem cw_306r {s t k p : Nat} {x2 : Int64} {x6 w0 w1 : Int32} {al : Bool} (hZ : cw_Z N K G (s + 1) x2 x6 (w1 ||| w0) a1 a2 a3) (hJ : cw_HJ J t) (hL : L ≤ 260) (ht : 2 * t + 2 ≤ L) (hk : 3 < k) (hk8 : k < 8) (hp : p < 2) (hn : N (1 - p) < 7)
    (m4 : a4 s = nI p) (m5 : a5 s = nI (N p)) (m6 : a6 s = 0) :
    wL_law_306 post L xs J x2 (nI (N 0)) (nI (N 1)) x6 (nI (s + 1)) (nI (2 * t)) (nI k) (nI p) (cw_b al) (nI (N (1 - p))) (nI (N p)) w0 w1 kc ks (nI (s + 1)) a1 a2 a3 a4 a5 a6 a7 a8 a9 := by
  obtain ⟨W, R, M, B0, B1, hs⟩ := hZ
  have n0 := W.1
  have n1 := W.2.1
  have np := cw_W_N W (p := p) (by omega)
  have e1 : (1 : Int32) - nI p = nI (1 - p) := pk_sub (a := 1) (b := p) (by omega)
  have epp : 1 - (1 - p) = p := by omega
  refine nm_e (pk_le k 3 (fun z => absurd z (by omega)) (fun _ => nm_r (nI_1 _) ?_))
  rw [e1, nI_pred]
  have W' := cw_W_1 W (p := 1 - p) (ps := p) (es := N p) (by omega) hn (by omega) (Nat.le_refl _) al
  refine cw_rcv R W (p := 1 - p) (ps := p) (es := N p) (by omega) hn (by omega) hp (by omega) (Nat.le_refl _) m4 m5 m6 (fun b1 b2 b3 R' => br_t rfl ?_)
  refine cw_rcv2 R' W' (by omega) (by omega) pk_us (br_t rfl (nm_e ?_))
  have hM' := cw_M_ext M (p := 1 - p) (V := cw_V1 N K (1 - p) p (N p)) (w := N p) (by omega) hn (by omega) (by rw [epp]; exact cw_V1_s W (by omega) (by omega) (by omega))
  refine cw_392 B0 B1 hp hn (fun y6 y7 q6 q7 => ?_)
  refine cw_455 ⟨W', R', hM', q6, q7, ?_⟩ hJ hL ht
  have i0 := cw_N2 (N := N) (p := 1 - p) (p' := 0)
  have i1 := cw_N2 (N := N) (p := 1 - p) (p' := 1)
  omega
theorem cw_140 {s t k p : Nat} {x2 : Int64} {x6 x7 : Int32} {g al : Bool} (hZ : cw_Z N K G s x2 x6 x7 a1 a2 a3) (hJ : cw_HJ J t) (hL : L ≤ 260) (ht : 2 * t + 2 ≤ L) (hk8 : k < 8) (hp : p < 2) (hn : N p < 7) (hn2 : 3 < k → N (1 - p) < 7) :
    wL_law_140 post L xs J x2 (nI (N 0)) (nI (N 1)) x6 x7 (nI s) (nI (2 * t)) (nI k) (nI p) (cw_b g) (cw_b al) (nI (N p)) (nI (N (1 - p))) kc ks (nI s) a1 a2 a3 a4 a5 a6 a7 a8 a9 := by
  obtain ⟨W, R, M, B0, B1, hs⟩ := hZ
  have n0 := W.1
  have n1 := W.2.1
  have W' := cw_W_0 W hp hn g
  have up : cw_up N p (N p + 1) p = N p + 1 := cw_up_s
  have un : cw_up N p (N p + 1) (1 - p) = N (1 - p) := cw_up_n (by omega)
  have sm : s + 1 ≤ cw_up N p (N p + 1) 0 + cw_up N p (N p + 1) 1 := by
    rcases (by omega : p = 0 ∨ p = 1) with rfl | rfl
    · have : cw_up N 0 (N 0 + 1) 1 = N 1 := cw_up_n (by omega)
      omega
    · have : cw_up N 1 (N 1 + 1) 0 = N 0 := cw_up_n (by omega)
      omega
  refine nm_r (nI_1 (N p)) (pk_lt 2 k (fun z => ?_) (fun z => ?_))
  · refine cw_send R W hp hn (by omega) (fun b1 b2 b3 R' => ?_)
    refine pk_lt 2 k (fun _ => br_t rfl ?_) (fun z' => absurd z' (by omega))
    refine pk_lt 2 k (fun _ => ?_) (fun z' => absurd z' (by omega))
    rw [nI_1 s]
    refine cw_208 W M B0 B1 hp hn (fun y2 y6 w0 w1 q2 q6 q7 => ?_)
    rcases Nat.lt_or_ge 3 k with h3 | h3
    · have h := cw_306r (post := post) (xs := xs) (kc := kc) (ks := ks) (al := al) (k := k) (p := p) (a4 := upd a4 s (nI p)) (a5 := upd a5 s (nI (N p + 1))) (a6 := upd a6 s 0) (a7 := a7) (a8 := a8) (a9 := a9) ⟨W', R', q2, q6, q7, sm⟩ hJ hL ht h3 hk8 hp (by rw [un]; exact hn2 h3) pk_us (by rw [up]; exact pk_us) pk_us
      rw [un, up] at h
      exact h
    · exact nm_e (pk_le k 3 (fun _ => cw_455 ⟨W', R', q2, q6, q7, sm⟩ hJ hL ht) (fun z' => absurd z' (by omega)))
  · refine cw_step R W hp hn (fun b1 b2 b3 R' => ?_)
    refine pk_lt 2 k (fun z' => absurd z' (by omega)) (fun _ => br_t rfl ?_)
    refine pk_lt 2 k (fun z' => absurd z' (by omega)) (fun _ => ?_)
    refine cw_208 W M B0 B1 hp hn (fun y2 y6 w0 w1 q2 q6 q7 => ?_)
    exact nm_e (pk_le k 3 (fun _ => cw_455 ⟨W', R', q2, q6, q7, by omega⟩ hJ hL ht) (fun z' => absurd z' (by omega)))
end
end
section
section
variable {post : Int32 → Prop} {L : Nat} {xs : Nat → Int32} {J : cw_JT} {kc ks : Nat} {f : Int32} {a1 a2 a3 a4 a5 a6 a7 a8 a9 : Nat → Int32} {N : Nat → Nat} {K : Nat → Nat → Nat → Nat} {G : Nat → Nat → Bool}
theorem cw_118 {s t k p : Nat} {x2 : Int64} {x6 x7 : Int32} {g al : Bool} (hZ : cw_Z N K G s x2 x6 x7 a1 a2 a3) (hJ : cw_HJ J t) (hL : L ≤ 260) (ht : 2 * t + 2 ≤ L) (hk8 : k < 8) (hp : p < 2) :
    wL_law_118 post L xs J x2 (nI (N 0)) (nI (N 1)) x6 x7 (nI s) (nI (2 * t)) (nI k) (nI p) (cw_b g) (cw_b al) (nI (N p)) (nI (N (1 - p))) kc ks (nI s) a1 a2 a3 a4 a5 a6 a7 a8 a9 := by
  have i1 := cw_W_N hZ.1 (p := p) (by omega)
  have i2 := cw_W_N hZ.1 (p := 1 - p) (by omega)
  refine pk_le 7 (N p) (fun _ => cw_455 hZ hJ hL ht) (fun z => ?_)
  refine pk_le k 3 (fun y => cw_140 hZ hJ hL ht hk8 hp z (fun h => absurd h (by omega))) (fun y => ?_)
  exact pk_le 7 (N (1 - p)) (fun _ => cw_455 hZ hJ hL ht) (fun w => cw_140 hZ hJ hL ht hk8 hp z (fun _ => w))
theorem cw_90 {s t k p : Nat} {x2 : Int64} {x6 x7 : Int32} {g al : Bool} (hZ : cw_Z N K G s x2 x6 x7 a1 a2 a3) (hJ : cw_HJ J t) (hL : L ≤ 260) (ht : 2 * t + 2 ≤ L) (hk8 : k < 8) (hp : p < 2) :
    wL_law_90 post L xs J x2 (nI (N 0)) (nI (N 1)) x6 x7 (nI s) (nI (2 * t)) (nI k) (nI p) (cw_b g) (cw_b al) kc ks (nI s) a1 a2 a3 a4 a5 a6 a7 a8 a9 := by
  rcases (by omega : p = 0 ∨ p = 1) with rfl | rfl
  · exact br_t rfl (br_t rfl (cw_118 (p := 0) hZ hJ hL ht hk8 hp))
  · exact br_f (by decide) (br_f (by decide) (cw_118 (p := 1) hZ hJ hL ht hk8 hp))
theorem cw_72 {s t k p : Nat} {x2 : Int64} {x6 x7 : Int32} {g : Bool} (hZ : cw_Z N K G s x2 x6 x7 a1 a2 a3) (hJ : cw_HJ J t) (hL : L ≤ 260) (ht : 2 * t + 2 ≤ L) (hk8 : k < 8) (hp : p < 2) :
    wL_law_72 post L xs J x2 (nI (N 0)) (nI (N 1)) x6 x7 (nI s) (nI (2 * t)) (nI k) (nI p) (cw_b g) kc ks (nI s) a1 a2 a3 a4 a5 a6 a7 a8 a9 :=
  And.intro (pk_in (2 * t + 1) L (by omega) (nI_1 _)) (br_c (fun _ => cw_90 (al := false) hZ hJ hL ht hk8 hp) (fun _ => cw_90 (al := true) hZ hJ hL ht hk8 hp))
theorem cw_loop (hL : L ≤ 260) : ∀ (n t : Nat) (N : Nat → Nat) (K : Nat → Nat → Nat → Nat) (G : Nat → Nat → Bool) (s : Nat) (x2 : Int64) (x6 x7 : Int32) (a1 a2 a3 a4 a5 a6 a7 a8 a9 : Nat → Int32), 2 * t ≤ L → L - 2 * t < n → cw_Z N K G s x2 x6 x7 a1 a2 a3 →
    wL_law_28 (fun r => r = 1) L xs kc ks n x2 (nI (N 0)) (nI (N 1)) x6 x7 (nI s) (nI (2 * t)) (nI s) a1 a2 a3 a4 a5 a6 a7 a8 a9 := by
  intro n
  induction n with
  | zero => intro t N K G s x2 x6 x7 a1 a2 a3 a4 a5 a6 a7 a8 a9 _ h; omega
  | succ n ih =>
    intro t N K G s x2 x6 x7 a1 a2 a3 a4 a5 a6 a7 a8 a9 ht hn hZ
    refine pk_lt L (2 * t + 2) (fun _ => rfl) (fun z => ?_) rfl (nI_add (2 * t) 2)
    obtain ⟨k, hk, ek⟩ := pk_andE (xs (nI (2 * t)).toNatClampNeg) (m := 7) 3 (by decide)
    obtain ⟨p, hp, ep⟩ := pk_andE ((xs (nI (2 * t)).toNatClampNeg) >>> ((3 : Int32) &&& 31)) (m := 1) 1 (by decide)
    refine And.intro (pk_in (2 * t) L (by omega)) (nm_r ek (And.intro (pk_in (2 * t) L (by omega)) (nm_r ep (And.intro (pk_in (2 * t + 1) L (by omega) (nI_1 _)) ?_))))
    have hJ : cw_HJ (wL_law_28 (fun r => r = 1) L xs kc ks n) t := fun N K G s x2 x6 x7 a1 a2 a3 a4 a5 a6 a7 a8 a9 h =>
      ih (t + 1) N K G s x2 x6 x7 a1 a2 a3 a4 a5 a6 a7 a8 a9 (by omega) (by omega) h
    exact br_c (fun _ => cw_72 (g := false) hZ hJ hL z hk hp) (fun _ => cw_72 (g := true) hZ hJ hL z hk hp)
end
theorem cw_Z0 : cw_Z (fun _ => 0) (fun _ _ _ => 0) (fun _ _ => false) 0 0 0 0 (fun _ => 0) (fun _ => 0) (fun _ => 0) := by
  refine ⟨⟨Nat.zero_le _, Nat.zero_le _, rfl, fun p k _ h => (Nat.le_zero.mp h).symm, fun _ _ _ _ _ _ => Nat.le_refl _, fun _ _ _ _ _ _ => Nat.le_refl _, fun p q i j _ _ _ h1 h2 _ _ _ _ => absurd (show (1 : Nat) ≤ 0 from Nat.le_trans h1 h2) (by decide), fun _ _ => rfl, fun _ _ _ _ => rfl⟩, ⟨fun _ _ => rfl, fun _ _ _ _ => rfl, fun _ _ _ _ _ _ => rfl⟩, fun p hp k hk => ?_, fun a ha => ?_, fun a ha => ?_, Nat.zero_le _⟩
  · rw [cw_g_0 p hp k hk]
    split <;> rfl
  · rw [Bool.and_false]; exact BitVec.getLsbD_zero
  · rw [Bool.and_false]; exact BitVec.getLsbD_zero
theorem i_vc (xs : Nat → Int32) (L : Nat) (hL : L ≤ 260) : wpL_law (fun r => r = 1) L xs := by
  refine ⟨9, 192, by omega, by omega, ?_⟩
  unfold wpX_init
  refine ⟨by omega, by omega, by omega, by omega, by omega, by omega, by omega, by omega, by omega, by omega, by omega, by omega, by omega, by omega, by omega, by omega, by omega, by omega, ?_⟩
  exact ⟨L + 1, cw_loop hL (L + 1) 0 (fun _ => 0) (fun _ _ _ => 0) (fun _ _ => false) 0 0 0 0 _ _ _ _ _ _ _ _ _ (by omega) (by omega) cw_Z0⟩
end
