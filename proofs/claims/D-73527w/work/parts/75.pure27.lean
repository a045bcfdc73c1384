set_option maxRecDepth 100000
theorem clr_2 {s : mS} {i n j : Nat} : mA (sClr s i n) 2 j = if i ≤ j ∧ j < i + n then nI 0 else mA s 2 j := by
  show (if 2 = 2 then (fun j => if i ≤ j ∧ j < i + n then nI 0 else s.2.1 2 j) else s.2.1 2) j = _
  rw [if_pos rfl]
theorem clr_b {s : mS} {i n b : Nat} (h : b ≠ 2) : mA (sClr s i n) b = mA s b := if_neg h
theorem wC_TL {σ s : mS} (h : wC σ) (e : gTL (dN (mI σ 12)) σ = (true, s)) : wC s := by
  have hle4 := h.2.1.2
  have h12 := h.2.1.1
  generalize hT : dN (mI σ 12) = tr at e hle4 h12
  unfold gTL at e
  by_cases c0 : tr = 4
  · rw [if_pos c0] at e; cases e
  · rw [if_neg c0] at e
    have h1 := h.tok
    have S1 := h.1.tok.2.1
    have i1 : mI (tTok σ) 12 = mI σ 12 := S1.k 12 (by decide)
    have A1 := S1.1
    generalize tTok σ = s1 at e h1 i1 A1
    unfold gTL1 at e
    by_cases c1 : mI s1 8 = nI 2
    · rw [if_pos c1] at e
      by_cases c2 : gNm tr s1 < 0
      · rw [if_pos c2] at e
        have hN1 : wN (sClr s1 (32 + 8 * tr) 8) := h1.1.clr
        have N1 := hN1.sa (a := 2) (i := 32 + 8 * tr) (v := mI (sClr s1 (32 + 8 * tr) 8) 9) (by decide)
        obtain ⟨M2, S2, -⟩ := N1.tok
        have A2 := S2.1
        have i2 : mI (tTok (sa (sClr s1 (32 + 8 * tr) 8) 2 (32 + 8 * tr) (mI (sClr s1 (32 + 8 * tr) 8) 9))) 12 = mI σ 12 := (S2.k 12 (by decide)).trans i1
        generalize hs2 : tTok (sa (sClr s1 (32 + 8 * tr) 8) 2 (32 + 8 * tr) (mI (sClr s1 (32 + 8 * tr) 8) 9)) = s2 at e M2 A2 i2
        unfold gTL2 at e
        obtain ⟨s3, e3, e⟩ := gB_inv e
        obtain ⟨N3, T3, -⟩ := M2.num e3
        have v3 := (iI_isN (gNum_v M2 e3) (by omega) (by omega)).1
        obtain ⟨s4, e4, e⟩ := gB_inv e
        have N3' := N3.sa (a := 2) (i := 32 + 8 * tr + 1) (v := mI s3 19) (by decide)
        obtain ⟨N4, T4, -⟩ := N3'.num e4
        have v4 := (iI_isN (gNum_v N3' e4) (by omega) (by omega)).1
        cases e
        have A4 : mA s4 = mA (sa s3 2 (32 + 8 * tr + 1) (mI s3 19)) := T4.1
        have A3 : mA s3 = mA (sa (sClr s1 (32 + 8 * tr) 8) 2 (32 + 8 * tr) (mI (sClr s1 (32 + 8 * tr) 8) 9)) := T3.1.trans A2
        have cell : ∀ j, j ≠ 32 + 8 * tr → j ≠ 32 + 8 * tr + 1 → j ≠ 32 + 8 * tr + 2 → mA (si (sa s4 2 (32 + 8 * tr + 2) (mI s4 19)) 12 (nI (tr + 1))) 2 j = if 32 + 8 * tr ≤ j ∧ j < 32 + 8 * tr + 8 then nI 0 else mA σ 2 j := by
          intro j k0 k1 k2
          show mA (sa s4 2 (32 + 8 * tr + 2) (mI s4 19)) 2 j = _
          rw [sa_n k2, A4, sa_n k1, A3, sa_n k0, clr_2, A1]
        have z : ∀ i, 3 ≤ i → i < 8 → mA (si (sa s4 2 (32 + 8 * tr + 2) (mI s4 19)) 12 (nI (tr + 1))) 2 (32 + 8 * tr + i) = nI 0 := fun i h3 h8 => by rw [cell _ (by omega) (by omega) (by omega), if_pos (by omega)]
        refine wC_tr (g := tr) (n := tr + 1) h ((N4.sa (by decide)).si (by decide) (by decide)) (by omega) (by show upd s4.1 12 (nI (tr + 1)) 12 = _; exact pk_us) (by omega) (fun t ht => by omega) (fun b hb => ?_) (fun j hj => by rw [cell _ (by omega) (by omega) (by omega), if_neg (by omega)]) ?_
        · show mA (sa s4 2 (32 + 8 * tr + 2) (mI s4 19)) b = _
          rw [sa_b hb, A4, sa_b hb, A3, sa_b hb, clr_b hb, A1]
        · unfold vTr
          refine ⟨?_, ?_, ?_, ?_, ?_, ?_, ?_, ?_⟩
          · show isN (mA (sa s4 2 (32 + 8 * tr + 2) (mI s4 19)) 2 (32 + 8 * tr + 1)) 2
            rw [sa_n (by omega), A4, sa_s]; exact v3
          · show isN (mA (sa s4 2 (32 + 8 * tr + 2) (mI s4 19)) 2 (32 + 8 * tr + 2)) 1
            rw [sa_s]; exact v4
          · show isN (mA _ 2 (32 + 8 * tr + 3)) 1; rw [z 3 (by omega) (by omega)]; exact isN.nI (by omega) (by omega)
          · show isN (mA _ 2 (32 + 8 * tr + 4)) 999; rw [z 4 (by omega) (by omega)]; exact isN.nI (by omega) (by omega)
          · show isN (mA _ 2 (32 + 8 * tr + 5)) 999; rw [z 5 (by omega) (by omega)]; exact isN.nI (by omega) (by omega)
          · show dN (mA _ 2 (32 + 8 * tr + 4)) ≤ dN (mA _ 2 (32 + 8 * tr + 5)); rw [z 4 (by omega) (by omega), z 5 (by omega) (by omega)]; exact Nat.le_refl _
          · show isN (mA _ 2 (32 + 8 * tr + 6)) 1; rw [z 6 (by omega) (by omega)]; exact isN.nI (by omega) (by omega)
          · show isN (mA _ 2 (32 + 8 * tr + 7)) 1000; rw [z 7 (by omega) (by omega)]; exact isN.nI (by omega) (by omega)
      · rw [if_neg c2] at e; cases e
    · rw [if_neg c1] at e; cases e
/-- a right line keeps what is read well formed, and the end comes nearer -/
theorem rW_Kw {tr ns nb na : Nat} {σ s : mS} {q : Bool} (h : wN σ) (e : gKw tr ns nb na σ = (q, s)) : rW σ s := by
  unfold gKw at e
  by_cases c0 : mI σ 9 = nI 0
  · rw [if_pos c0] at e; exact rW_TL h e
  rw [if_neg c0] at e
  by_cases c1 : mI σ 9 = nI 1
  · rw [if_pos c1] at e; exact rW_Hd h e
  rw [if_neg c1] at e
  by_cases c2 : mI σ 9 = nI 2
  · rw [if_pos c2] at e; exact rW_St h e
  rw [if_neg c2] at e
  by_cases c3 : mI σ 9 = nI 3
  · rw [if_pos c3] at e; exact rW_Wd h e
  rw [if_neg c3] at e
  by_cases c4 : mI σ 9 = nI 4
  · rw [if_pos c4] at e; exact rW_Wd h e
  rw [if_neg c4] at e
  by_cases c5 : mI σ 9 = nI 5
  · rw [if_pos c5] at e; exact rW_Wd h e
  rw [if_neg c5] at e
  by_cases c6 : mI σ 9 = nI 6
  · rw [if_pos c6] at e; exact rW_Wd h e
  rw [if_neg c6] at e
  by_cases c7 : mI σ 9 = nI 7
  · rw [if_pos c7] at e; exact rW_Sl h e
  rw [if_neg c7] at e
  by_cases c8 : mI σ 9 = nI 8
  · rw [if_pos c8] at e; exact rW_By h e
  rw [if_neg c8] at e
  by_cases c9 : mI σ 9 = nI 9
  · rw [if_pos c9] at e; exact rW_As h e
  rw [if_neg c9] at e
  cases e
  exact rW.wr h
theorem wC_Kw {σ s : mS} (h : wC σ) (e : gKw (dN (mI σ 12)) (dN (mA σ 6 11)) (dN (mA σ 6 12)) (dN (mA σ 6 13)) σ = (true, s)) : wC s := by
  unfold gKw at e
  by_cases c0 : mI σ 9 = nI 0
  · rw [if_pos c0] at e; exact wC_TL h e
  rw [if_neg c0] at e
  by_cases c1 : mI σ 9 = nI 1
  · rw [if_pos c1] at e; exact wC_Hd h e
  rw [if_neg c1] at e
  by_cases c2 : mI σ 9 = nI 2
  · rw [if_pos c2] at e; exact wC_St h e
  rw [if_neg c2] at e
  by_cases c3 : mI σ 9 = nI 3
  · rw [if_pos c3] at e; exact wC_Wd (by omega) h e
  rw [if_neg c3] at e
  by_cases c4 : mI σ 9 = nI 4
  · rw [if_pos c4] at e; exact wC_Wd (by omega) h e
  rw [if_neg c4] at e
  by_cases c5 : mI σ 9 = nI 5
  · rw [if_pos c5] at e; exact wC_Wd (by omega) h e
  rw [if_neg c5] at e
  by_cases c6 : mI σ 9 = nI 6
  · rw [if_pos c6] at e; exact wC_Wd (by omega) h e
  rw [if_neg c6] at e
  by_cases c7 : mI σ 9 = nI 7
  · rw [if_pos c7] at e; exact wC_Sl h e
  rw [if_neg c7] at e
  by_cases c8 : mI σ 9 = nI 8
  · rw [if_pos c8] at e; exact wC_By h e
  rw [if_neg c8] at e
  by_cases c9 : mI σ 9 = nI 9
  · rw [if_pos c9] at e; exact wC_As h e
  rw [if_neg c9] at e
  cases e
def gLine (σ : mS) : Bool × mS := gLn (dN (mI σ 12)) (dN (mA σ 6 11)) (dN (mA σ 6 12)) (dN (mA σ 6 13)) σ
theorem wC_Ln {σ s : mS} (h : wC σ) (e : gLine σ = (true, s)) : wC s ∧ mu s < mu σ := by
  unfold gLine gLn at e
  by_cases c0 : mI σ 8 = nI 1
  · rw [if_pos c0] at e
    obtain ⟨s1, e1, e⟩ := gB_inv e
    have h1 := wC_Kw h e1
    have r1 := rW_Kw h.1 e1
    by_cases c1 : mI s1 8 = nI 4
    · rw [if_pos c1] at e
      cases e
      have := h1.1.tok.2.2.2 (by rw [c1]; decide +kernel)
      exact ⟨h1.tok, by have := r1.2; omega⟩
    · rw [if_neg c1] at e; cases e
  · rw [if_neg c0] at e; cases e
