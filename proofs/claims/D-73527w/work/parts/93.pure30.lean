set_option maxRecDepth 100000
/-! QUOTIENTS: floorDiv is the reference's quotient for a positive divisor; how big they are -/
theorem i64_lo (a : Int64) : -9223372036854775808 ≤ a.toInt ∧ a.toInt < 9223372036854775808 := ⟨Int64.le_toInt a, Int64.toInt_lt a⟩
theorem i64_bm {x : Int} (h : -9223372036854775808 ≤ x ∧ x < 9223372036854775808) : x.bmod (2 ^ 64) = x := by
  rw [Int.bmod_eq_of_le]
  · simp; omega
  · simp; omega
theorem tdiv_facts (a b : Int) (hb : 0 < b) : a = b * a.tdiv b + a.tmod b ∧ (0 ≤ a → 0 ≤ a.tmod b ∧ a.tmod b < b ∧ 0 ≤ a.tdiv b ∧ a.tdiv b ≤ a ∧ 0 ≤ b * a.tdiv b) ∧ (a < 0 → a.tmod b ≤ 0 ∧ -b < a.tmod b ∧ a.tdiv b ≤ 0 ∧ a ≤ a.tdiv b ∧ b * a.tdiv b ≤ 0) := by
  have key : ∀ x : Int, 0 ≤ x → 0 ≤ x.tmod b ∧ x.tmod b < b ∧ 0 ≤ x.tdiv b ∧ x.tdiv b ≤ x ∧ 0 ≤ b * x.tdiv b := by
    intro x hx
    have h1 : 0 ≤ x.tmod b := Int.tmod_nonneg b hx
    have h2 : x.tmod b < b := Int.tmod_lt_of_pos x hb
    have h3 : 0 ≤ x.tdiv b := Int.tdiv_nonneg hx (by omega)
    have h4 : 0 ≤ b * x.tdiv b := Int.mul_nonneg (by omega) h3
    have h5 : x.tdiv b ≤ b * x.tdiv b := by
      have h6 : 1 * x.tdiv b ≤ b * x.tdiv b := Int.mul_le_mul_of_nonneg_right (by omega) h3
      omega
    have h7 := Int.mul_tdiv_add_tmod x b
    exact ⟨h1, h2, h3, by omega, h4⟩
  refine ⟨(Int.mul_tdiv_add_tmod a b).symm, key a, fun h => ?_⟩
  obtain ⟨h1, h2, h3, h4, h5⟩ := key (-a) (by omega)
  rw [Int.neg_tdiv] at h3 h4 h5
  rw [Int.neg_tmod] at h1 h2
  rw [Int.mul_neg] at h5
  omega
theorem i64_quot {a b : Int64} (hb : 0 < b.toInt) : (a / b).toInt = a.toInt.tdiv b.toInt ∧ (a / b * b).toInt = b.toInt * a.toInt.tdiv b.toInt ∧ (a - a / b * b).toInt = a.toInt.tmod b.toInt := by
  obtain ⟨h1, h2, h3⟩ := tdiv_facts a.toInt b.toInt hb
  have ha := i64_lo a
  have e1 : (a / b).toInt = a.toInt.tdiv b.toInt := by
    rw [Int64.toInt_div]
    refine i64_bm ?_
    rcases Int.lt_or_le a.toInt 0 with z | z
    · have := h3 z; omega
    · have := h2 z; omega
  have e2 : (a / b * b).toInt = b.toInt * a.toInt.tdiv b.toInt := by
    rw [Int64.toInt_mul, e1, Int.mul_comm]
    refine i64_bm ?_
    rcases Int.lt_or_le a.toInt 0 with z | z
    · have := h3 z; omega
    · have := h2 z; omega
  refine ⟨e1, e2, ?_⟩
  rw [Int64.toInt_sub, e2]
  have e3 : a.toInt - b.toInt * a.toInt.tdiv b.toInt = a.toInt.tmod b.toInt := by omega
  rw [e3]
  refine i64_bm ?_
  rcases Int.lt_or_le a.toInt 0 with z | z
  · have := h3 z; omega
  · have := h2 z; omega
theorem i64_lt0 {x : Int64} : (x < 0) = (x.toInt < 0) := by
  rw [Int64.lt_iff_toInt_lt]; rfl
theorem i64_le0 {x : Int64} : ((0 : Int64) ≤ x) = (0 ≤ x.toInt) := by
  rw [Int64.le_iff_toInt_le]; rfl
theorem pQuot_toInt {a b : Int64} (hb : 0 < b.toInt) : (pQuot a b).toInt = a.toInt / b.toInt := by
  obtain ⟨e1, e2, e3⟩ := i64_quot (a := a) hb
  obtain ⟨h1, h2, h3⟩ := tdiv_facts a.toInt b.toInt hb
  have ha := i64_lo a
  have huniq : ∀ q r : Int, r + b.toInt * q = a.toInt → 0 ≤ r → r < b.toInt → a.toInt / b.toInt = q := fun q r g1 g2 g3 => ((Int.ediv_emod_unique hb).mpr ⟨g1, g2, g3⟩).1
  unfold pQuot
  simp only [i64_lt0, e3]
  by_cases z : a.toInt.tmod b.toInt < 0
  · have hz : a.toInt < 0 := by
      rcases Int.lt_or_le a.toInt 0 with w | w
      · exact w
      · have := h2 w; omega
    have h4 := h3 hz
    rw [if_pos z, Int64.toInt_sub, e1]
    have e9 : (1 : Int64).toInt = 1 := by decide
    rw [e9, i64_bm (by
      have h5 : a.toInt ≠ -9223372036854775808 ∨ a.toInt.tdiv b.toInt ≠ -9223372036854775808 ∨ True := Or.inr (Or.inr trivial)
      rcases Int.lt_or_le (-9223372036854775808) (a.toInt.tdiv b.toInt) with w | w
      · omega
      · exfalso
        have h6 : a.toInt.tdiv b.toInt = -9223372036854775808 := by omega
        have h7 : a.toInt = -9223372036854775808 := by omega
        rw [h6] at h1 h4
        have h8 : b.toInt * (-9223372036854775808) ≤ 1 * (-9223372036854775808) := Int.mul_le_mul_of_nonpos_right (by omega) (by omega)
        omega)]
    exact (huniq _ (a.toInt.tmod b.toInt + b.toInt) (by rw [Int.mul_sub]; omega) (by omega) (by omega)).symm
  · rw [if_neg z, e1]
    refine (huniq _ (a.toInt.tmod b.toInt) (by omega) (by omega) ?_).symm
    rcases Int.lt_or_le a.toInt 0 with w | w
    · have := h3 w; omega
    · have := h2 w; omega
theorem xor_nn {a b : Int64} (hb : 0 < b.toInt) : ((0 : Int64) ≤ a ^^^ b) = (0 ≤ a.toInt) := by
  rw [i64_le0]
  have e : (a ^^^ b).toBitVec = a.toBitVec ^^^ b.toBitVec := Int64.toBitVec_xor a b
  have h1 : (a ^^^ b).toInt = (a.toBitVec ^^^ b.toBitVec).toInt := by rw [← e]; rfl
  have h2 : b.toBitVec.msb = false := by
    rw [BitVec.msb_eq_toInt]
    exact decide_eq_false (by show ¬ b.toInt < 0; omega)
  have h3 : (a.toBitVec ^^^ b.toBitVec).msb = a.toBitVec.msb := by rw [BitVec.msb_xor, h2, Bool.xor_false]
  rw [BitVec.msb_eq_toInt, BitVec.msb_eq_toInt] at h3
  have h4 : a.toBitVec.toInt = a.toInt := rfl
  have h5 := of_decide_eq_true (show decide (((a.toBitVec ^^^ b.toBitVec).toInt < 0) ↔ (a.toInt < 0)) = true by
    rw [decide_eq_true_eq, ← h4]
    exact ⟨fun q => of_decide_eq_true (h3 ▸ decide_eq_true q), fun q => of_decide_eq_true (h3.symm ▸ decide_eq_true q)⟩)
  rw [h1]
  apply propext
  omega
theorem pFD_quot {a b : Int64} (hb : 0 < b.toInt) : pFD a b = pQuot a b := by
  obtain ⟨e1, e2, e3⟩ := i64_quot (a := a) hb
  obtain ⟨h1, h2, h3⟩ := tdiv_facts a.toInt b.toInt hb
  unfold pFD pQuot
  simp only [xor_nn hb, i64_lt0, e3]
  have hq : (a / b * b = a) = (a.toInt.tmod b.toInt = 0) := by
    rw [← Int64.toInt_inj, e2]
    apply propext
    omega
  by_cases z : 0 ≤ a.toInt
  · have := h2 z
    rw [if_pos z, if_neg (by omega)]
  · have := h3 (by omega)
    simp only [if_neg z, hq]
    by_cases w : a.toInt.tmod b.toInt = 0
    · rw [if_pos w, if_neg (by omega)]
    · rw [if_neg w, if_pos (by omega)]
/-- how big a cut is -/
theorem i64_mk {x : Int64} {n : Int} (h : x.toInt = n) : x.toInt = n := h
theorem pCut_1 (a b : Int64) : pCut (nI 1) a b = -pQuot (-a) b := by
  unfold pCut
  rw [if_neg (by decide), if_pos rfl]
theorem pCut_0 (a b : Int64) : pCut 0 a b = pQuot a b := by
  unfold pCut
  rw [if_pos rfl]
theorem pCut_2 (a b : Int64) : pCut (nI 2) a b = pQuot (2 * a + b) (2 * b) := by
  unfold pCut
  rw [if_neg (by decide), if_neg (by decide)]
theorem i64_small {x : Int64} (h : -4611686018427387904 < x.toInt ∧ x.toInt < 4611686018427387904) : (-x).toInt = -x.toInt := by
  rw [Int64.toInt_neg, i64_bm (by omega)]
theorem i64_dbl {x : Int64} (h : -1152921504606846976 < x.toInt ∧ x.toInt < 1152921504606846976) : (2 * x).toInt = 2 * x.toInt := by
  rw [Int64.toInt_mul, show (2 : Int64).toInt = 2 from by decide, i64_bm (by omega)]
theorem i64_add {x y : Int64} (h : -4611686018427387904 < x.toInt ∧ x.toInt < 4611686018427387904) (h2 : -4611686018427387904 < y.toInt ∧ y.toInt < 4611686018427387904) : (x + y).toInt = x.toInt + y.toInt := by
  rw [Int64.toInt_add, i64_bm (by omega)]
theorem i64_sub {x y : Int64} (h : -4611686018427387904 < x.toInt ∧ x.toInt < 4611686018427387904) (h2 : -4611686018427387904 < y.toInt ∧ y.toInt < 4611686018427387904) : (x - y).toInt = x.toInt - y.toInt := by
  rw [Int64.toInt_sub, i64_bm (by omega)]
abbrev bg (x : Int64) : Prop := -1125899906842624 < x.toInt ∧ x.toInt < 1125899906842624
/-- the three cuts, as whole numbers -/
theorem pCut_toInt {way : Int32} {a b : Int64} (hb : 0 < b.toInt) (ha : bg a) (hb2 : bg b) : (pCut way a b).toInt = if way = 0 then a.toInt / b.toInt else if way = nI 1 then -((-a.toInt) / b.toInt) else (2 * a.toInt + b.toInt) / (2 * b.toInt) := by
  unfold bg at ha hb2
  unfold pCut
  by_cases h0 : way = 0
  · rw [if_pos h0, if_pos h0, pQuot_toInt hb]
  rw [if_neg h0, if_neg h0]
  by_cases h1 : way = nI 1
  · rw [if_pos h1, if_pos h1]
    have e1 : (-a).toInt = -a.toInt := i64_small (by omega)
    have e2 : (pQuot (-a) b).toInt = (-a.toInt) / b.toInt := by rw [pQuot_toInt hb, e1]
    rw [i64_small, e2]
    rw [e2]
    have h5 : -(1125899906842624 : Int) ≤ (-a.toInt) / b.toInt := by
      have : (-(1125899906842624 : Int)) ≤ (-a.toInt) / b.toInt ↔ _ := Int.le_ediv_iff_mul_le hb
      rw [this]
      have : -1125899906842624 * b.toInt ≤ -1125899906842624 * 1 := Int.mul_le_mul_of_nonpos_left (by omega) (by omega)
      omega
    have h6 : (-a.toInt) / b.toInt < 1125899906842624 := by
      have : (-a.toInt) / b.toInt < 1125899906842624 ↔ _ := Int.ediv_lt_iff_lt_mul hb
      rw [this]
      have : (1125899906842624 : Int) * 1 ≤ 1125899906842624 * b.toInt := Int.mul_le_mul_of_nonneg_left (by omega) (by omega)
      omega
    omega
  · rw [if_neg h1, if_neg h1]
    have e1 : (2 * a).toInt = 2 * a.toInt := i64_dbl (by omega)
    have e2 : (2 * b).toInt = 2 * b.toInt := i64_dbl (by omega)
    have e3 : (2 * a + b).toInt = 2 * a.toInt + b.toInt := by rw [i64_add (by omega) (by omega), e1]
    rw [pQuot_toInt (by omega), e3, e2]
theorem ediv_rng {a b n : Int} (hb : 0 < b) (h0 : 0 ≤ a) (h1 : a ≤ n * b) : 0 ≤ a / b ∧ a / b ≤ n := by
  refine ⟨Int.ediv_nonneg h0 (by omega), ?_⟩
  have h2 : a / b ≤ n * b / b := Int.ediv_le_ediv hb h1
  rwa [Int.mul_ediv_cancel n (by omega)] at h2
/-- a cut of a part isn't below nothing nor above the whole -/
theorem pCut_rng {way : Int32} {a b : Int64} {n : Int} (hb : 0 < b.toInt) (ha : bg a) (hb2 : bg b) (h0 : 0 ≤ a.toInt) (h1 : a.toInt ≤ n * b.toInt) : 0 ≤ (pCut way a b).toInt ∧ (pCut way a b).toInt ≤ n := by
  rw [pCut_toInt hb ha hb2]
  by_cases z : way = 0
  · rw [if_pos z]; exact ediv_rng hb h0 h1
  rw [if_neg z]
  by_cases w : way = nI 1
  · rw [if_pos w]
    have h3 : (-a.toInt) / b.toInt ≤ 0 := by
      have h4 : (-a.toInt) / b.toInt < 1 ↔ _ := Int.ediv_lt_iff_lt_mul hb
      have := h4.mpr (by omega)
      omega
    have h5 : -n ≤ (-a.toInt) / b.toInt := by
      have h6 : -n ≤ (-a.toInt) / b.toInt ↔ _ := Int.le_ediv_iff_mul_le hb
      rw [h6, Int.neg_mul]
      omega
    omega
  · rw [if_neg w]
    refine ⟨Int.ediv_nonneg (by omega) (by omega), ?_⟩
    have h3 : (2 * a.toInt + b.toInt) / (2 * b.toInt) < n + 1 ↔ _ := Int.ediv_lt_iff_lt_mul (by omega)
    have h4 := h3.mpr (by
      rw [Int.add_mul, Int.one_mul]
      have h5 : n * (2 * b.toInt) = 2 * (n * b.toInt) := by rw [← Int.mul_assoc, Int.mul_comm n 2, Int.mul_assoc]
      rw [h5]
      omega)
    omega
theorem i32_64 {x : Int64} (h : -2147483648 ≤ x.toInt ∧ x.toInt < 2147483648) : x.toInt32.toInt64 = x := by
  rw [← Int64.toInt_inj, Int32.toInt_toInt64, Int64.toInt_toInt32]
  rw [Int.bmod_eq_of_le]
  · simp; omega
  · simp; omega
theorem i32_of {x : Int64} (h : -2147483648 ≤ x.toInt ∧ x.toInt < 2147483648) : x.toInt32.toInt = x.toInt := by
  rw [Int64.toInt_toInt32]
  rw [Int.bmod_eq_of_le]
  · simp; omega
  · simp; omega
