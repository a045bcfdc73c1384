set_option maxRecDepth 100000
/-! A QUARTER CLOSES: bounds -/
theorem pProv_fB {T : Nat} {A : Nat → Nat → Int32} {B : Nat → Int32} (hw : wT T A) (hq : qB B) (hh : hdB B) (hr : rB A B) {t q : Nat} (ht : t < T) (hq6 : q < 64) : fB (A 6 1) (pProv A B t q (A 2 (8 * t + 2))) := by
  have hT4 := hw.T4
  have hs := hw.stepI
  have hf : fB (A 6 1) (pFr A (pQS B t q) (pHO B t) (pHA B t) t) := pFr_fB hw (hq.z (by omega) hq6) (hh t (by omega))
  unfold pProv
  by_cases c0 : A 2 (8 * t + 2) = 0
  · rw [if_pos c0]; exact hf
  rw [if_neg c0]
  by_cases c1 : q < 4
  · rw [if_pos c1]
    by_cases c2 : A 2 (8 * t + 6) = nI 1
    · rw [if_pos c2]
      have h7 := (hw.trader ht).2.2.2.2.2.2.2.int (by omega)
      unfold pFst fB
      by_cases c3 : A 2 (8 * t + 7) < A 6 1
      · rw [if_pos c3]
        have := Int32.lt_iff_toInt_lt.mp c3
        omega
      · rw [if_neg c3]; omega
    · rw [if_neg c2]; exact hf
  · rw [if_neg c1]
    by_cases c4 : A 2 (8 * t + 2) = nI 1
    · rw [if_pos c4, show 1801 + 16 * t + q / 4 - 1 = 1801 + 16 * t + (q / 4 - 1) by omega]
      exact hr t _ (by omega) (by omega)
    · rw [if_neg c4]
      unfold fB
      have : (nI 0).toInt = 0 := by decide
      omega
