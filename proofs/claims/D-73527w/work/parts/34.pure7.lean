set_option maxRecDepth 100000
theorem wB_cl1 {T : Nat} {A : Nat → Nat → Int32} (hw : wT T A) {B : Nat → Int32} (h : wB T B) (h63 : pNow B < 64) : wB T (pCl1 A T B) ∧ pCl1 A T B 0 = B 0 ∧ pCl1 A T B 1865 = B 1865 := by
  have hT := hw.T4
  obtain ⟨h1, g0, g1⟩ := pCQn_w (A := A) (q := pNow B) h h63 T hT
  obtain ⟨h2, k0, k1⟩ := pUs_w (q := pNow B) h1 (dN (B 1865)) (by rw [g1]; exact Nat.le_refl _)
  refine ⟨?_, k0.trans g0, k1.trans g1⟩
  have hy : pYr (pCl1 A T B) = pYr B := by show dN (pUs _ _ _ 0) / 4 = dN (B 0) / 4; rw [k0, g0]
  show wBY T (fun _ => pYr (pCl1 A T B)) (pCl1 A T B)
  rw [hy]
  exact h2
theorem wB_cl2 {T : Nat} {A : Nat → Nat → Int32} (hw : wT T A) {B : Nat → Int32} (h : wB T B) (h63 : pNow B < 64) : isN (pCl2 A T B 1865) 8 := by
  obtain ⟨w1, w0, w5⟩ := wB_cl1 hw h h63
  have hT := hw.T4
  unfold pCl2
  by_cases h3 : pNow B % 4 = 3
  · rw [if_pos h3]
    have hn : pNow (pCl1 A T B) = pNow B := by show dN _ = dN _; rw [w0]
    have hy16 : pYr (pCl1 A T B) < 16 := by unfold pYr; rw [hn]; omega
    unfold pCY
    obtain ⟨c1, c0, c2⟩ := pCYn_w (A := A) (y := pYr (pCl1 A T B)) w1 hy16 T hT
    have y2 : pYr (pCYn A (pCl1 A T B) (pYr (pCl1 A T B)) T) = pYr (pCl1 A T B) := by
      show dN (pCYn A (pCl1 A T B) (pYr (pCl1 A T B)) T 0) / 4 = dN (pCl1 A T B 0) / 4
      rw [c0]
    obtain ⟨d1, d0, d2⟩ := pCAn_ne (A := A) hT c1 y2 (dN (pCl1 A T B 1865)) (by rw [c2]; exact Nat.le_refl _)
    exact d1.na
  · rw [if_neg h3]; exact w1.na
