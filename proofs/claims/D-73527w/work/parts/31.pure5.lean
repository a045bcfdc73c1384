set_option maxRecDepth 100000
/-! what is kept at a closing -/
theorem wR_pCA {A : Nat → Nat → Int32} {T : Nat} {B : Nat → Int32} {a : Nat} (hT : T ≤ 4) (h63 : pNow B < 64) (hn : B 0 = nI (pNow B)) (hR : wR T (pNow B) (pYr B) B a) : wR T (pNow B) (pYr B + 1) (pCA A B a) a := by
  by_cases hs : B (2084 + 48 * a + 9) = nI 1
  · have e : pCA A B a = B := by unfold pCA; rw [if_pos hs]
    rw [e]
    obtain ⟨h1, h2, h3, h4, h5, h6, h7, h8, h9, h10, h11, h12, h13⟩ := hR
    exact ⟨h1, h2, h3, h4, h5, h6, h7, h8, h9, h10, h11, h12, fun h0 => absurd (hs.symm.trans h0) (by decide +kernel)⟩
  · have hbq := hR.bought
    have h5 : B (2084 + 48 * a + 5) = nI (dN (B (2084 + 48 * a + 5))) := hbq.1.1
    have hq64 : dN (B (2084 + 48 * a + 5)) < 64 := by have := hbq.1.2; omega
    obtain ⟨hi10, hq4, h90, h47⟩ := wR_i (w := pNow B) hR h5 hq64 hs
    have hi : pIv B a = pNow B / 4 - dN (B (2084 + 48 * a + 5)) / 4 := rfl
    generalize hI : pNow B / 4 - dN (B (2084 + 48 * a + 5)) / 4 = i at hi hi10 h47
    have ht : dN (B (2084 + 48 * a + 0)) < 4 := by have := hR.owner.2; omega
    have e := pCA_eq (A := A) hs hi rfl rfl rfl
    have e1 : ∀ w, dN (pCA1 A B a i w (2084 + 48 * a + 0)) < 4 := fun w => by rw [pCA1_ne (by omega) (by omega) (by omega)]; exact ht
    have e2 : ∀ w, dN (pCA2 A (pCA1 A B a i w) a i w (2084 + 48 * a + 0)) < 4 := fun w => by rw [pCA2_ne (e1 w) (by omega) (by omega) (by omega) (by omega)]; exact e1 w
    have c4 : pCA2 A (pCA1 A B a i (pWorth A B a (B (2084 + 48 * a + 2)))) a i (pWorth A B a (B (2084 + 48 * a + 2))) (2084 + 48 * a + 4) = B (2084 + 48 * a + 4) := by
      rw [pCA2_ne (e1 _) (by omega) (by omega) (by omega) (by omega), pCA1_ne (by omega) (by omega) (by omega)]
    rw [c4] at e
    generalize hW : pWorth A B a (B (2084 + 48 * a + 2)) = W at e
    generalize hSD : pCA2 A (pCA1 A B a i W) a i W (2084 + 48 * a + 7) - nI 1 = SD at e
    generalize hBH : B (2084 + 48 * a + 4) - nI 1 - nI i = BH at e
    have cell : ∀ k, k < 48 → k ≠ 0 → k ≠ 6 → k ≠ 9 → k ≠ 10 → k ≠ 11 → k ≠ 12 → k ≠ 17 + i → k ≠ 37 + i → k ≠ 47 → k ≠ 27 + i → pCA A B a (2084 + 48 * a + k) = B (2084 + 48 * a + k) := by
      intro k k1 k2 k3 k4 k5 k6 k7 k8 k9 k10 k11
      rw [e, pk_un (by omega), pCA4_ne (by omega), pCA3_ne (e2 _) (by omega) (by omega) (by omega) (by omega), pCA2_ne (e1 _) (by omega) (by omega) (by omega) (by omega), pCA1_ne (by omega) (by omega) (by omega)]
    have c0 : pCA A B a (2084 + 48 * a + 0) = B (2084 + 48 * a + 1) := by
      rw [e, pk_us, pCA4_ne (by omega), pCA3_ne (e2 _) (by omega) (by omega) (by omega) (by omega), pCA2_ne (e1 _) (by omega) (by omega) (by omega) (by omega), pCA1_ne (by omega) (by omega) (by omega)]
    have c11 : isN (pCA A B a (2084 + 48 * a + 11)) 1 := by
      rw [e, pk_un (by omega), pCA4_ne (by omega)]
      refine pCA3_11 (e2 _) ?_
      rw [pCA2_ne (e1 _) (by omega) (by omega) (by omega) (by omega), pCA1_ne (by omega) (by omega) (by omega)]
      exact hR.hasl
    have c47 : pCA A B a (2084 + 48 * a + 47) = nI (i + 1) := by
      rw [e, pk_un (by omega), pCA4_ne (by omega), pCA3_ne (e2 _) (by omega) (by omega) (by omega) (by omega), pCA2_ne (e1 _) (by omega) (by omega) (by omega) (by omega)]
      unfold pCA1
      exact pk_us
    have c37 : pCA A B a (2084 + 48 * a + (37 + i)) = B (2084 + 48 * a + 0) := by
      rw [e, pk_un (by omega), pCA4_ne (by omega), pCA3_ne (e2 _) (by omega) (by omega) (by omega) (by omega), pCA2_ne (e1 _) (by omega) (by omega) (by omega) (by omega)]
      unfold pCA1
      rw [pk_un (by omega), pk_us, pk_un (by omega)]
    have c9 : pCA A B a (2084 + 48 * a + 9) = nI 1 ∨ (pCA A B a (2084 + 48 * a + 9) = nI 0 ∧ ¬ BH = 0) := by
      have q : ∀ X, pCA4 X a BH SD (2084 + 48 * a + 9) = if 0 ≤ SD ∨ BH = 0 then nI 1 else X (2084 + 48 * a + 9) := by
        intro X
        unfold pCA4
        split
        · exact pk_us
        · rfl
      rw [e, pk_un (by omega), q]
      by_cases hc : 0 ≤ SD ∨ BH = 0
      · exact Or.inl (if_pos hc)
      · refine Or.inr ⟨?_, fun z => hc (Or.inr z)⟩
        rw [if_neg hc, pCA3_ne (e2 _) (by omega) (by omega) (by omega) (by omega), pCA2_ne (e1 _) (by omega) (by omega) (by omega) (by omega), pCA1_ne (by omega) (by omega) (by omega)]
        exact h90
    have hop := hR.opn h90
    have hsp := hR.span10
    have c4' := cell 4 (by omega) (by omega) (by omega) (by omega) (by omega) (by omega) (by omega) (by omega) (by omega) (by omega) (by omega)
    have c5' := cell 5 (by omega) (by omega) (by omega) (by omega) (by omega) (by omega) (by omega) (by omega) (by omega) (by omega) (by omega)
    refine ⟨by rw [c0]; exact hR.heir, by rw [cell 1 (by omega) (by omega) (by omega) (by omega) (by omega) (by omega) (by omega) (by omega) (by omega) (by omega) (by omega)]; exact hR.heir, by rw [cell 2 (by omega) (by omega) (by omega) (by omega) (by omega) (by omega) (by omega) (by omega) (by omega) (by omega) (by omega)]; exact hR.use, by rw [cell 3 (by omega) (by omega) (by omega) (by omega) (by omega) (by omega) (by omega) (by omega) (by omega) (by omega) (by omega)]; exact hR.tax, by rw [c4']; exact hR.span, by rw [c5']; exact hR.bought, by rw [cell 7 (by omega) (by omega) (by omega) (by omega) (by omega) (by omega) (by omega) (by omega) (by omega) (by omega) (by omega)]; exact hR.sold, ?_, c11, fun j hj => by rw [cell (13 + j) (by omega) (by omega) (by omega) (by omega) (by omega) (by omega) (by omega) (by omega) (by omega) (by omega) (by omega)]; exact hR.uses hj, ?_, ?_, ?_⟩
    · rcases c9 with q | ⟨q, -⟩ <;> rw [q] <;> exact isN.nI (by omega) (by omega)
    · rw [c47, c4', dN_nI (by omega)]
      exact ⟨isN.nI (by omega) (by omega), by omega⟩
    · intro i' hi'
      rw [c47, dN_nI (by omega)] at hi'
      by_cases hii : i' = i
      · subst hii; rw [c37]; exact hR.owner
      · rw [cell (37 + i') (by omega) (by omega) (by omega) (by omega) (by omega) (by omega) (by omega) (by omega) (by omega) (by omega) (by omega)]
        exact hR.owners (by omega)
    · intro h0
      rcases c9 with q | ⟨-, q⟩
      · exact absurd (q.symm.trans h0) (by decide +kernel)
      · rw [c47, c4', c5', dN_nI (by omega)]
        rw [← hBH, hsp.2.2, isI_0 (by omega) (by omega)] at q
        have h1 := hop.1
        unfold pYr at h1 ⊢
        exact ⟨by omega, by omega⟩
theorem pCAn_ne {A : Nat → Nat → Int32} {T : Nat} {Y : Nat} {B : Nat → Int32} (hT : T ≤ 4) (hB : wBY T (fun _ => Y) B) (hY : pYr B = Y) : ∀ n, n ≤ dN (B 1865) → wBY T (fun a => if a < n then Y + 1 else Y) (pCAn A B n) ∧ pCAn A B n 0 = B 0 ∧ pCAn A B n 1865 = B 1865
  | 0, _ => ⟨hB, rfl, rfl⟩
  | n + 1, hn => by
    obtain ⟨h, h0, h1⟩ := pCAn_ne (A := A) hT hB hY n (by omega)
    have hp : pNow (pCAn A B n) = pNow B := by unfold pNow; rw [h0]
    have hy : pYr (pCAn A B n) = Y := by unfold pYr; rw [hp]; exact hY
    have h8 := h.na.2
    have hr := h.row (a := n) (by rw [h1]; omega)
    have hr' : wR T (pNow (pCAn A B n)) (pYr (pCAn A B n)) (pCAn A B n) n := by rw [hy]; simpa using hr
    have hnow := h.now
    have hR := wR_pCA (A := A) hT (by unfold pNow; have := hnow.2; omega) hnow.1 hr'
    have ht : dN (pCAn A B n (2084 + 48 * n + 0)) < 4 := by have := hr'.owner.2; omega
    have hiv : ¬ pCAn A B n (2084 + 48 * n + 9) = nI 1 → pIv (pCAn A B n) n < 10 := fun hs => (wR_i (w := pNow (pCAn A B n)) hr' hr'.bought.1.1 (by have := hr'.bought.1.2; omega) hs).1
    have k0 : pCA A (pCAn A B n) n 0 = pCAn A B n 0 := pCA_ne ht rfl hiv (by omega)
    have k1 : pCA A (pCAn A B n) n 1865 = pCAn A B n 1865 := pCA_ne ht rfl hiv (by omega)
    have kp : pNow (pCA A (pCAn A B n) n) = pNow (pCAn A B n) := by unfold pNow; rw [k0]
    refine ⟨⟨by show isN (pCA A (pCAn A B n) n 0) 63; rw [k0]; exact hnow, by show isN (pCA A (pCAn A B n) n 1865) 8; rw [k1]; exact h.na, pCA_k ht rfl hiv h.kept, fun a ha => ?_⟩, k0.trans h0, k1.trans h1⟩
    have ha2 : a < dN (pCAn A B n 1865) := by rw [← k1]; exact ha
    show wR T (pNow (pCA A (pCAn A B n) n)) _ (pCA A (pCAn A B n) n) a
    rw [kp]
    by_cases han : a = n
    · subst han
      show wR T _ (if a < a + 1 then Y + 1 else Y) _ _
      rw [if_pos (by omega)]
      rw [hy] at hR
      exact hR
    · have hra := h.row ha2
      have e3 : (if a < n then Y + 1 else Y) = (if a < n + 1 then Y + 1 else Y) := by
        by_cases q : a < n
        · rw [if_pos q, if_pos (by omega)]
        · rw [if_neg q, if_neg (by omega)]
      have hra' : wR T (pNow (pCAn A B n)) (if a < n + 1 then Y + 1 else Y) (pCAn A B n) a := by rw [← e3]; exact hra
      refine hra'.congr (Nat.le_refl _) (fun k hk => pCA_ne ht rfl hiv ?_)
      rcases Nat.lt_or_gt_of_ne han with q | q
      · exact Or.inr ⟨by omega, Or.inl (by omega)⟩
      · exact Or.inr ⟨by omega, Or.inr (by omega)⟩
theorem wBY.cy1 {A : Nat → Nat → Int32} {T : Nat} {Y : Nat → Nat} {B : Nat → Int32} {t y : Nat} (h : wBY T Y B) (ht : t < 4) (hy : y < 4) : True := trivial
theorem pCYn_w {A : Nat → Nat → Int32} {T : Nat} {Y : Nat → Nat} {B : Nat → Int32} {y : Nat} (hB : wBY T Y B) (hy : y < 16) : ∀ n, n ≤ 4 → wBY T Y (pCYn A B y n) ∧ pCYn A B y n 0 = B 0 ∧ pCYn A B y n 1865 = B 1865
  | 0, _ => ⟨hB, rfl, rfl⟩
  | n + 1, hn => by
    obtain ⟨h, h0, h1⟩ := pCYn_w (A := A) hB hy n (by omega)
    refine ⟨(h.upd (by omega)).book (by omega) (by omega), ?_, ?_⟩
    · show pCY1 A (pCYn A B y n) n y 0 = _
      unfold pCY1
      rw [pBook_ne (by omega) (by omega) (by omega), pk_un (by omega)]; exact h0
    · show pCY1 A (pCYn A B y n) n y 1865 = _
      unfold pCY1
      rw [pBook_ne (by omega) (by omega) (by omega), pk_un (by omega)]; exact h1
theorem pCQn_w {A : Nat → Nat → Int32} {T : Nat} {Y : Nat → Nat} {B : Nat → Int32} {q : Nat} (hB : wBY T Y B) (hq : q < 64) : ∀ n, n ≤ 4 → wBY T Y (pCQn A B q n) ∧ pCQn A B q n 0 = B 0 ∧ pCQn A B q n 1865 = B 1865
  | 0, _ => ⟨hB, rfl, rfl⟩
  | n + 1, hn => by
    obtain ⟨h, h0, h1⟩ := pCQn_w (A := A) hB hq n (by omega)
    refine ⟨((h.upd (by omega)).upd (by omega)).book (by omega) (by omega), ?_, ?_⟩
    · show pCQ1 A (pCQn A B q n) n q 0 = _
      unfold pCQ1
      rw [pBook_ne (by omega) (by omega) (by omega), pk_un (by omega), pk_un (by omega)]; exact h0
    · show pCQ1 A (pCQn A B q n) n q 1865 = _
      unfold pCQ1
      rw [pBook_ne (by omega) (by omega) (by omega), pk_un (by omega), pk_un (by omega)]; exact h1
theorem pUs_w {T : Nat} {Y : Nat → Nat} {B : Nat → Int32} {q : Nat} (hB : wBY T Y B) : ∀ n, n ≤ dN (B 1865) → wBY T Y (pUs B q n) ∧ pUs B q n 0 = B 0 ∧ pUs B q n 1865 = B 1865
  | 0, _ => ⟨hB, rfl, rfl⟩
  | n + 1, hn => by
    obtain ⟨h, h0, h1⟩ := pUs_w (q := q) hB n (by omega)
    have h8 := h.na.2
    have hr := h.row (a := n) (by rw [h1]; omega)
    have hq4 : q % 4 < 4 := Nat.mod_lt _ (by omega)
    have k0 : pUs B q (n + 1) 0 = pUs B q n 0 := pk_un (by omega)
    have k1 : pUs B q (n + 1) 1865 = pUs B q n 1865 := pk_un (by omega)
    have kk : pUs B q (n + 1) 1867 = pUs B q n 1867 := pk_un (by omega)
    have kp : pNow (pUs B q (n + 1)) = pNow (pUs B q n) := by unfold pNow; rw [k0]
    refine ⟨⟨by rw [k0]; exact h.now, by rw [k1]; exact h.na, by rw [kk]; exact h.kept, fun a ha => ?_⟩, k0.trans h0, k1.trans h1⟩
    rw [kp]
    have hra := h.row (a := a) (by rw [← k1]; exact ha)
    by_cases han : a = n
    · subst han
      obtain ⟨g1, g2, g3, g4, g5, g6, g7, g8, g9, g10, g11, g12, g13⟩ := hra
      have cell : ∀ k, k ≠ 13 + q % 4 → pUs B q (a + 1) (2084 + 48 * a + k) = pUs B q a (2084 + 48 * a + k) := fun k hk => pk_un (by omega)
      refine ⟨by rw [cell 0 (by omega)]; exact g1, by rw [cell 1 (by omega)]; exact g2, by rw [cell 2 (by omega)]; exact g3, by rw [cell 3 (by omega)]; exact g4, by rw [cell 4 (by omega)]; exact g5, by rw [cell 5 (by omega)]; exact g6, by rw [cell 7 (by omega)]; exact g7, by rw [cell 9 (by omega)]; exact g8, by rw [cell 11 (by omega)]; exact g9, fun j hj => ?_, by rw [cell 47 (by omega), cell 4 (by omega)]; exact g11, fun i hi => ?_, ?_⟩
      · by_cases hjq : j = q % 4
        · subst hjq
          show isN (upd _ _ _ _) 2
          rw [pk_us]; exact g3
        · rw [cell (13 + j) (by omega)]; exact g10 j hj
      · rw [cell 47 (by omega)] at hi
        have := g11.1.2
        rw [cell (37 + i) (by omega)]; exact g12 i hi
      · rw [cell 9 (by omega), cell 47 (by omega), cell 5 (by omega), cell 4 (by omega)]; exact g13
    · exact hra.congr (Nat.le_refl _) (fun k hk => pk_un (by omega))
