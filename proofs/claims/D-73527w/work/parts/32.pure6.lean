set_option maxRecDepth 100000
theorem wBY.com3 {T : Nat} {A : Nat → Nat → Int32} (hw : wT T A) {Y : Nat → Nat} {B : Nat → Int32} (h : wBY T Y B) {q : Nat} (hq : q < 64) {n : Nat} (hn : n ≤ dN (A 6 4)) : wBY T Y (pCom3 A q B n) :=
  h.congr (by rw [pCom3_ne hw hq (by omega) n hn]; exact h.kept) (pCom3_ne hw hq (by omega) n hn) (pCom3_ne hw hq (by omega) n hn) (fun j hj => pCom3_ne hw hq (by omega) n hn)
theorem wBY.com4 {T : Nat} {A : Nat → Nat → Int32} (hw : wT T A) {Y : Nat → Nat} {B : Nat → Int32} (h : wBY T Y B) {q : Nat} (hq : q < 64) {n : Nat} (hn : n ≤ dN (A 6 5)) : wBY T Y (pCom4 A q B n) :=
  h.congr (by rw [pCom4_ne hw hq (by omega) n hn]; exact h.kept) (pCom4_ne hw hq (by omega) n hn) (pCom4_ne hw hq (by omega) n hn) (fun j hj => pCom4_ne hw hq (by omega) n hn)
theorem wBY.acq {T : Nat} {Y : Nat → Nat} {B : Nat → Int32} (hT : T ≤ 4) (h : wBY T Y B) {t u : Nat} {tax span : Int32} (ht : t < T) (hu : u < 3) (htax : isN tax 99999) (hs : span = nI 5 ∨ span = nI 10) (hna : dN (B 1865) < 8) (hY : Y (dN (B 1865)) = pYr B) : wBY T Y (pAcq B t u tax span) := by
  have hnow := h.now.2
  have hp64 : pNow B < 64 := by unfold pNow; omega
  have k0 : pAcq B t u tax span 0 = B 0 := pAcq_ne (by omega) (by omega) (by omega)
  have kk : pAcq B t u tax span 1867 = B 1867 := pAcq_ne (by omega) (by omega) (by omega)
  have k1 := pAcq_na B t u tax span
  have kp : pNow (pAcq B t u tax span) = pNow B := by unfold pNow; rw [k0]
  refine ⟨by rw [k0]; exact h.now, by rw [k1]; exact isN.nI (by omega) (by omega), by rw [kk]; exact h.kept, fun a ha => ?_⟩
  rw [k1, dN_nI (by omega)] at ha
  rw [kp]
  by_cases han : a = dN (B 1865)
  · rw [han] 
    generalize hn0 : dN (B 1865) = n0 at hna hY
    have cell : ∀ k, k < 48 → pAcq B t u tax span (2084 + 48 * n0 + k) = pAcq1 B n0 t u tax span (2084 + 48 * n0 + k) := by
      intro k hk
      unfold pAcq
      rw [hn0, pk_un (by omega), pAdd_ne (by omega)]
    have c0 : pAcq1 B n0 t u tax span (2084 + 48 * n0 + 0) = nI t := by unfold pAcq1; rw [pk_un (by omega), pk_un (by omega), pk_un (by omega), pk_un (by omega), pk_un (by omega), pk_us]
    have c1 : pAcq1 B n0 t u tax span (2084 + 48 * n0 + 1) = nI t := by unfold pAcq1; rw [pk_un (by omega), pk_un (by omega), pk_un (by omega), pk_un (by omega), pk_us]
    have c2 : pAcq1 B n0 t u tax span (2084 + 48 * n0 + 2) = nI u := by unfold pAcq1; rw [pk_un (by omega), pk_un (by omega), pk_un (by omega), pk_us]
    have c3 : pAcq1 B n0 t u tax span (2084 + 48 * n0 + 3) = tax := by unfold pAcq1; rw [pk_un (by omega), pk_un (by omega), pk_us]
    have c4 : pAcq1 B n0 t u tax span (2084 + 48 * n0 + 4) = span := by unfold pAcq1; rw [pk_un (by omega), pk_us]
    have c5 : pAcq1 B n0 t u tax span (2084 + 48 * n0 + 5) = B 0 := by unfold pAcq1; rw [pk_us]
    have cz : ∀ k, 6 ≤ k → k < 48 → pAcq1 B n0 t u tax span (2084 + 48 * n0 + k) = nI 0 := by
      intro k h6 h48
      unfold pAcq1
      rw [pk_un (by omega), pk_un (by omega), pk_un (by omega), pk_un (by omega), pk_un (by omega), pk_un (by omega)]
      unfold pZero
      rw [if_pos (by omega)]
      rfl
    have h5 : dN span = 5 ∨ dN span = 10 := by rcases hs with e | e <;> rw [e, dN_nI (by omega)] <;> omega
    have hz : isN (nI 0) 1 := isN.nI (by omega) (by omega)
    have dz : dN (nI 0) = 0 := dN_nI (by omega)
    refine ⟨by rw [cell 0 (by omega), c0, dN_nI (by omega)]; exact ⟨isN.nI (by omega) (by omega), ht⟩, by rw [cell 1 (by omega), c1, dN_nI (by omega)]; exact ⟨isN.nI (by omega) (by omega), ht⟩, by rw [cell 2 (by omega), c2]; exact isN.nI (by omega) (by omega), by rw [cell 3 (by omega), c3]; exact htax, by rw [cell 4 (by omega), c4]; exact hs, by rw [cell 5 (by omega), c5]; exact ⟨h.now, Nat.le_refl _⟩, by rw [cell 7 (by omega), cz 7 (by omega) (by omega)]; exact hz.mono (by omega), by rw [cell 9 (by omega), cz 9 (by omega) (by omega)]; exact hz, by rw [cell 11 (by omega), cz 11 (by omega) (by omega)]; exact hz, fun j hj => by rw [cell (13 + j) (by omega), cz (13 + j) (by omega) (by omega)]; exact hz.mono (by omega), by rw [cell 47 (by omega), cz 47 (by omega) (by omega), dz]; exact ⟨hz.mono (by omega), Nat.zero_le _⟩, fun i hi => ?_, fun _ => ?_⟩
    · rw [cell 47 (by omega), cz 47 (by omega) (by omega), dz] at hi
      exact absurd hi (by omega)
    · rw [cell 47 (by omega), cz 47 (by omega) (by omega), dz, cell 5 (by omega), c5, cell 4 (by omega), c4, hY]
      exact ⟨by unfold pYr pNow; omega, by omega⟩
  · refine (h.row (a := a) (by omega)).congr (Nat.le_refl _) (fun k hk => pAcq_ne (by omega) (by omega) (by omega))
theorem wBY.com5 {T : Nat} {A : Nat → Nat → Int32} (hw : wT T A) {B : Nat → Int32} {Y : Nat} (h : wBY T (fun _ => Y) B) (hY : pYr B = Y) {q : Nat} : ∀ n, n ≤ dN (A 6 6) → wBY T (fun _ => Y) (pCom5 A q B n)
  | 0, _ => h
  | n + 1, hn => by
    have ih := wBY.com5 hw h hY (q := q) n (by omega)
    obtain ⟨h1, h2, h3, h4, h5, h6⟩ := hw.asset (k := n) (by omega)
    unfold pCom5
    split
    · rename_i hc
      refine ih.acq hw.T4 h2 (by have := h4.2; omega) (h5.mono (by omega)) h6 hc.2 ?_
      unfold pYr pNow
      rw [pCom5_0]
      exact hY.symm
    · exact ih
theorem wBY.comes {T : Nat} {A : Nat → Nat → Int32} (hw : wT T A) {B : Nat → Int32} {Y : Nat} (h : wBY T (fun _ => Y) B) (hY : pYr B = Y) : wBY T (fun _ => Y) (pComes A B) ∧ pComes A B 0 = B 0 := by
  have hq : pNow B < 64 := by have := h.now.2; unfold pNow; omega
  have e3 : pCom3 A (pNow B) B (dN (A 6 4)) 0 = B 0 := pCom3_ne hw hq (by omega) _ (Nat.le_refl _)
  have e4 : pCom4 A (pNow B) (pCom3 A (pNow B) B (dN (A 6 4))) (dN (A 6 5)) 0 = B 0 := by rw [pCom4_ne hw hq (by omega) _ (Nat.le_refl _)]; exact e3
  refine ⟨?_, by unfold pComes; rw [pCom5_0]; exact e4⟩
  refine wBY.com5 hw ((h.com3 hw hq (Nat.le_refl _)).com4 hw hq (Nat.le_refl _)) ?_ _ (Nat.le_refl _)
  have e5 : pNow (pCom4 A (pNow B) (pCom3 A (pNow B) B (dN (A 6 4))) (dN (A 6 5))) = pNow B := by show dN _ = dN _; rw [e4]
  unfold pYr
  rw [e5]
  exact hY
theorem wB_close {T : Nat} {A : Nat → Nat → Int32} (hw : wT T A) {B : Nat → Int32} (h : wB T B) (h63 : pNow B < 63) : wB T (pClose A T B) ∧ pNow (pClose A T B) = pNow B + 1 := by
  have hq : pNow B < 64 := by omega
  have hT := hw.T4
  have hnow := h.now
  obtain ⟨h1, g0, g1⟩ := pCQn_w (A := A) (q := pNow B) h hq T hT
  obtain ⟨h2, k0, k1⟩ := pUs_w (q := pNow B) h1 (dN (B 1865)) (by rw [g1]; exact Nat.le_refl _)
  generalize hB1 : pUs (pCQn A B (pNow B) T) (pNow B) (dN (B 1865)) = B1 at h2 k0 k1
  have n1 : pNow B1 = pNow B := by unfold pNow; rw [k0, g0]
  have fin : ∀ (B2 : Nat → Int32) (Y : Nat), wBY T (fun a => if a < dN (B2 1865) then Y else Y) B2 → B2 0 = B1 0 → (pNow B + 1) / 4 = Y → wB T (pComes A (upd B2 0 (nI (pNow B + 1)))) ∧ pNow (pComes A (upd B2 0 (nI (pNow B + 1)))) = pNow B + 1 := by
    intro B2 Y hB2 e0 hY
    have hn2 : pNow B2 = pNow B := by unfold pNow; rw [e0]; exact n1
    have hu : wBY T (fun _ => Y) (upd B2 0 (nI (pNow B + 1))) := by
      have z0 : upd B2 0 (nI (pNow B + 1)) 0 = nI (pNow B + 1) := pk_us
      have z1 : upd B2 0 (nI (pNow B + 1)) 1865 = B2 1865 := pk_un (by omega)
      have z2 : upd B2 0 (nI (pNow B + 1)) 1867 = B2 1867 := pk_un (by omega)
      refine ⟨by rw [z0]; exact isN.nI (by omega) (by omega), by rw [z1]; exact hB2.na, by rw [z2]; exact hB2.kept, fun a ha => ?_⟩
      have ha2 : a < dN (B2 1865) := by rw [← z1]; exact ha
      have hr := hB2.row ha2
      have hr2 : wR T (pNow B2) Y B2 a := by simpa using hr
      refine hr2.congr ?_ (fun k _ => pk_un (by omega))
      show pNow B2 ≤ dN (upd B2 0 (nI (pNow B + 1)) 0)
      rw [z0, dN_nI (by omega)]; omega
    have hyu : pYr (upd B2 0 (nI (pNow B + 1))) = Y := by
      show dN (upd B2 0 (nI (pNow B + 1)) 0) / 4 = Y
      rw [pk_us, dN_nI (by omega)]; exact hY
    obtain ⟨w1, w2⟩ := hu.comes hw hyu
    have hp : pNow (pComes A (upd B2 0 (nI (pNow B + 1)))) = pNow B + 1 := by show dN _ = _; rw [w2, pk_us, dN_nI (by omega)]
    refine ⟨?_, hp⟩
    unfold wB
    rw [show pYr (pComes A (upd B2 0 (nI (pNow B + 1)))) = Y from by unfold pYr; rw [hp]; exact hY]
    exact w1
  have hC1 : pCl1 A T B = B1 := hB1
  unfold pClose pCl2
  rw [hC1]
  by_cases h3 : pNow B % 4 = 3
  · rw [if_pos h3]
    have hy16 : pYr B < 16 := by unfold pYr; omega
    have y1 : pYr B1 = pYr B := by unfold pYr; rw [n1]
    unfold pCY
    obtain ⟨c1, c0, c2⟩ := pCYn_w (A := A) (y := pYr B1) h2 (by rw [y1]; exact hy16) T hT
    have y2 : pYr (pCYn A B1 (pYr B1) T) = pYr B := by
      rw [← y1]
      show dN (pCYn A B1 (pYr B1) T 0) / 4 = dN (B1 0) / 4
      rw [c0]
    obtain ⟨d1, d0, d2⟩ := pCAn_ne (A := A) hT c1 y2 (dN (B1 1865)) (by rw [c2]; exact Nat.le_refl _)
    refine fin _ (pYr B + 1) ?_ (d0.trans c0) (by unfold pYr; omega)
    refine ⟨d1.1, d1.2.1, d1.2.2.1, fun a ha => ?_⟩
    have hr := d1.row ha
    have ha2 : a < dN (B1 1865) := by rw [← c2, ← d2]; exact ha
    have hr2 : wR T (pNow (pCAn A (pCYn A B1 (pYr B1) T) (dN (B1 1865)))) (pYr B + 1) (pCAn A (pCYn A B1 (pYr B1) T) (dN (B1 1865))) a := by
      simp only [if_pos ha2] at hr; exact hr
    simpa using hr2
  · rw [if_neg h3]
    refine fin _ (pYr B) ?_ rfl (by unfold pYr; omega)
    refine ⟨h2.1, h2.2.1, h2.2.2.1, fun a ha => ?_⟩
    simpa using h2.row ha
