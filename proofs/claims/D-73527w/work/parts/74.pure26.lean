set_option maxRecDepth 100000
theorem wC_6 {σ : mS} (h : wC σ) {j : Nat} {v : Int32} (h7 : j = 7 → isN v 2) (h8 : j = 8 → isN v 1000 ∧ 10 ≤ dN v) (h9 : j = 9 → isN v 9999) (h10 : j = 10 → isN v 99999) (hj : 7 ≤ j ∧ j ≤ 10) : wC (sa σ 6 j v) := by
  obtain ⟨hN, h12, ⟨a11, a12, a13⟩, ⟨q7, q8, q9, q10⟩, r3, r4, r5, r2⟩ := h
  refine ⟨hN.sa (by decide), h12, ?_⟩
  show wCA (dN (mI σ 12)) _
  have b : ∀ b, b ≠ 6 → mA (sa σ 6 j v) b = mA σ b := fun b hb => sa_b hb
  have c : ∀ i, 7 ≤ i → mA (sa σ 6 j v) 6 i = if i = j then v else mA σ 6 i := by
    intro i _
    by_cases e : i = j
    · rw [if_pos e, e, sa_s]
    · rw [if_neg e, sa_n e]
  unfold wCA
  rw [b 2 (by decide), b 3 (by decide), b 4 (by decide), b 5 (by decide), c 11 (by omega), c 12 (by omega), c 13 (by omega), c 7 (by omega), c 8 (by omega), c 9 (by omega), c 10 (by omega), if_neg (show ¬ 11 = j by omega), if_neg (show ¬ 12 = j by omega), if_neg (show ¬ 13 = j by omega)]
  refine ⟨⟨a11, a12, a13⟩, ⟨?_, ?_, ?_, ?_⟩, r3, r4, r5, r2⟩
  · split
    · rename_i e; exact h7 e.symm
    · exact q7
  · split
    · rename_i e; exact h8 e.symm
    · exact q8
  · split
    · rename_i e; exact h9 e.symm
    · exact q9
  · split
    · rename_i e; exact h10 e.symm
    · exact q10
theorem wC.tok {σ : mS} (h : wC σ) : wC (tTok σ) := h.sT h.1.tok.1 h.1.tok.2.1
theorem wC.num {σ s : mS} {lo hi : Int32} {q : Bool} (h : wC σ) (e : gNum lo hi σ = (q, s)) : wC s := h.sT (h.1.num e).1 (h.1.num e).2.1
theorem wC_18 {σ : mS} {v : Int32} (h : wC σ) : wC (si σ 18 v) := by
  have e12 : mI (si σ 18 v) 12 = mI σ 12 := by show upd σ.1 18 v 12 = σ.1 12; exact pk_un (by omega)
  exact ⟨h.1.si (by decide) (by decide), by rw [e12]; exact h.2.1, by rw [e12]; exact h.2.2⟩
theorem wC_Wd {k : Nat} {σ s : mS} (hk : 3 ≤ k ∧ k ≤ 6) (h : wC σ) (e : gWd k σ = (true, s)) : wC s := by
  unfold gWd at e
  by_cases c1 : (mI σ 18 >>> (nI k &&& 31)) &&& nI 1 = nI 1
  · rw [if_pos c1] at e; cases e
  · rw [if_neg c1] at e
    have h1 : wC (tTok (si σ 18 (mI σ 18 ||| (nI 1 <<< (nI k &&& 31))))) := (wC_18 h).tok
    generalize tTok (si σ 18 (mI σ 18 ||| (nI 1 <<< (nI k &&& 31)))) = s1 at e h1
    unfold gWd1 at e
    by_cases c2 : k = 3
    · rw [if_pos c2] at e
      by_cases c3 : mI s1 8 = nI 1
      · rw [if_pos c3] at e
        by_cases c4 : mI s1 9 < nI 10
        · rw [if_pos c4] at e; cases e
        · rw [if_neg c4] at e
          have kk : ∀ v, v < 3 → wC (tTok (sa s1 6 7 (nI v))) := fun v hv => (wC_6 h1 (fun _ => isN.nI (by omega) (by omega)) (fun q => absurd q (by decide)) (fun q => absurd q (by decide)) (fun q => absurd q (by decide)) (by decide)).tok
          by_cases c5 : mI s1 9 = nI 11
          · rw [if_pos c5] at e; cases e; exact kk 0 (by decide)
          · rw [if_neg c5] at e
            by_cases c6 : mI s1 9 = nI 10
            · rw [if_pos c6] at e; cases e; exact kk 1 (by decide)
            · rw [if_neg c6] at e; cases e; exact kk 2 (by decide)
      · rw [if_neg c3] at e; cases e
    · rw [if_neg c2] at e
      by_cases c3 : k = 4
      · rw [if_pos c3] at e
        obtain ⟨s2, e2, e⟩ := gB_inv e
        cases e
        have v := iI_isN (gNum_v h1.1 e2) (by omega) (by omega)
        exact wC_6 (h1.num e2) (fun q => absurd q (by decide)) (fun _ => v) (fun q => absurd q (by decide)) (fun q => absurd q (by decide)) (by decide)
      · rw [if_neg c3] at e
        by_cases c4 : k = 5
        · rw [if_pos c4] at e
          obtain ⟨s2, e2, e⟩ := gB_inv e
          cases e
          have v := iI_isN (gNum_v h1.1 e2) (by omega) (by omega)
          exact wC_6 (h1.num e2) (fun q => absurd q (by decide)) (fun q => absurd q (by decide)) (fun _ => v.1) (fun q => absurd q (by decide)) (by decide)
        · rw [if_neg c4] at e
          obtain ⟨s2, e2, e⟩ := gB_inv e
          cases e
          have v := iI_isN (gNum_v h1.1 e2) (by omega) (by omega)
          exact wC_6 (h1.num e2) (fun q => absurd q (by decide)) (fun q => absurd q (by decide)) (fun q => absurd q (by decide)) (fun _ => v.1) (by decide)
/-- a trader's row changes, or one more comes -/
theorem wC_tr {σ s : mS} {g n : Nat} (h : wC σ) (hN : wN s) (hn : n ≤ 4) (e12 : mI s 12 = nI n) (hle : dN (mI σ 12) ≤ n) (hgn : ∀ t, t < n → t = g ∨ t < dN (mI σ 12)) (eb : ∀ b, b ≠ 2 → mA s b = mA σ b) (ej : ∀ j, (j < 32 + 8 * g ∨ 32 + 8 * g + 8 ≤ j) → mA s 2 j = mA σ 2 j) (hv : vTr (fun i => mA s 2 (32 + 8 * g + i))) : wC s := by
  obtain ⟨-, h12, ⟨a11, a12, a13⟩, q, r3, r4, r5, r2⟩ := h
  refine ⟨hN, by rw [e12]; exact isN.nI hn (by omega), ?_⟩
  rw [e12, dN_nI (by omega)]
  unfold wCA
  rw [eb 6 (by decide), eb 3 (by decide), eb 4 (by decide), eb 5 (by decide)]
  refine ⟨⟨a11, a12, a13⟩, q, fun k hk => (r3 k hk).mono hle (fun _ _ => rfl), fun k hk => (r4 k hk).mono hle (fun _ _ => rfl), fun k hk => ⟨(r5 k hk).1.mono hle (fun _ _ => rfl), (r5 k hk).2⟩, fun t ht => ?_⟩
  by_cases e : t = g
  · subst e; exact hv
  · have h2 := (hgn t ht).resolve_left e
    exact (r2 t h2).congr (fun i hi => ej _ (by omega))
theorem wC_St {σ s : mS} (h : wC σ) (e : gSt (dN (mI σ 12)) σ = (true, s)) : wC s := by
  unfold gSt at e
  obtain ⟨s1, e1, e⟩ := gB_inv e
  obtain ⟨N1, T1, -⟩ := h.1.trd e1
  obtain ⟨g, -, hgd, hgl⟩ := gTR_g h.2.1.2 e1
  have h1 : wC s1 := h.sT N1 T1
  have t12 : mI s1 12 = mI σ 12 := T1.k 12 (by decide)
  rw [hgd] at e
  unfold gSt1 at e
  by_cases c1 : mA s1 2 (32 + 8 * g + 6) = nI 1
  · rw [if_pos c1] at e; cases e
  · rw [if_neg c1] at e
    obtain ⟨s2, e2, e⟩ := gB_inv e
    cases e
    have N1' := N1.sa (a := 2) (i := 32 + 8 * g + 6) (v := nI 1) (by decide)
    obtain ⟨M2, S2, -⟩ := N1'.tok
    obtain ⟨N2, T2, -⟩ := M2.num e2
    have v := (iI_isN (gNum_v M2 e2) (by omega) (by omega)).1
    have A2 : mA s2 = mA (sa s1 2 (32 + 8 * g + 6) (nI 1)) := T2.1.trans S2.1
    have i12 : mI s2 12 = mI σ 12 := (T2.k 12 (by decide)).trans ((S2.k 12 (by decide)).trans t12)
    have row := h1.2.2.2.2.2.2.2 g (by rw [t12]; exact hgl)
    have hle4 := h.2.1.2
    have cell : ∀ j, j ≠ 32 + 8 * g + 6 → j ≠ 32 + 8 * g + 7 → mA (sa s2 2 (32 + 8 * g + 7) (mI s2 19)) 2 j = mA s1 2 j := fun j h6 h7 => by rw [sa_n h7, A2, sa_n h6]
    refine wC_tr (g := g) (n := dN (mI σ 12)) h1 (N2.sa (by decide)) (by omega) (by show mI s2 12 = _; rw [i12]; exact h.2.1.1) (by rw [t12]; exact Nat.le_refl _) (fun t ht => Or.inr (by rw [t12]; exact ht)) (fun b hb => by rw [sa_b hb, A2, sa_b hb]) (fun j hj => cell j (by omega) (by omega)) ?_
    unfold vTr at row ⊢
    obtain ⟨q1, q2, q3, q4, q5, q6, q7, q8⟩ := row
    refine ⟨?_, ?_, ?_, ?_, ?_, ?_, ?_, ?_⟩
    · show isN (mA _ 2 (32 + 8 * g + 1)) 2; rw [cell _ (by omega) (by omega)]; exact q1
    · show isN (mA _ 2 (32 + 8 * g + 2)) 1; rw [cell _ (by omega) (by omega)]; exact q2
    · show isN (mA _ 2 (32 + 8 * g + 3)) 1; rw [cell _ (by omega) (by omega)]; exact q3
    · show isN (mA _ 2 (32 + 8 * g + 4)) 999; rw [cell _ (by omega) (by omega)]; exact q4
    · show isN (mA _ 2 (32 + 8 * g + 5)) 999; rw [cell _ (by omega) (by omega)]; exact q5
    · show dN (mA _ 2 (32 + 8 * g + 4)) ≤ dN (mA _ 2 (32 + 8 * g + 5)); rw [cell _ (by omega) (by omega), cell _ (by omega) (by omega)]; exact q6
    · show isN (mA _ 2 (32 + 8 * g + 6)) 1; rw [sa_n (by omega), A2, sa_s]; exact isN.nI (by omega) (by omega)
    · show isN (mA _ 2 (32 + 8 * g + 7)) 1000; rw [sa_s]; exact v
theorem pScF_P {P : Int32 → Prop} [DecidablePred P] {tp : Nat → Int32} {sp : Nat} : ∀ f n i, n ≤ i → i < pScF P tp sp f n → P (tp i)
  | 0, n, i, h, h2 => absurd h2 (by show ¬ i < n; omega)
  | f + 1, n, i, h, h2 => by
    have e : pScF P tp sp (f + 1) n = if n < sp ∧ P (tp n) then pScF P tp sp f (n + 1) else n := rfl
    rw [e] at h2
    by_cases c : n < sp ∧ P (tp n)
    · rw [if_pos c] at h2
      by_cases q : i = n
      · rw [q]; exact c.2
      · exact pScF_P f (n + 1) i (by omega) h2
    · rw [if_neg c] at h2; omega
/-- what digits tell isn't negative -/
theorem pVal_b {tp : Nat → Int32} {a : Nat} : ∀ n, (∀ i, i < n → isDg (tp (a + i))) → isN (pVal tp a n) 1000008
  | 0, _ => isN.nI (by omega) (by omega)
  | n + 1, h => by
    have hb := pVal_b n (fun i hi => h i (by omega))
    obtain ⟨k, hk, k1, k2⟩ := iI.ex (h n (by omega)) (by omega) (by omega)
    show isN (if nI 99999 < pVal tp a n then pVal tp a n else nI 10 * pVal tp a n + tp (a + n) - nI 48) 1000008
    by_cases c : nI 99999 < pVal tp a n
    · rw [if_pos c]; exact hb
    · rw [if_neg c, hk, hb.1]
      have hle : dN (pVal tp a n) ≤ 99999 := by
        rcases Nat.lt_or_ge 99999 (dN (pVal tp a n)) with q | q
        · exact absurd (by rw [hb.1]; exact nI_lt q (by have := hb.2; omega)) c
        · exact q
      rw [show nI 10 * nI (dN (pVal tp a n)) = nI (10 * dN (pVal tp a n)) from pk_mul _ _, show nI (10 * dN (pVal tp a n)) + nI k = nI (10 * dN (pVal tp a n) + k) from nI_add _ _, pk_sub (by omega)]
      exact isN.nI (by omega) (by omega)
theorem tok_num {σ : mS} (h : wN σ) (h8 : mI (tTok σ) 8 = nI 3) : isN (mI (tTok σ) 9) 1000008 := by
  obtain ⟨n, sp, h7, h6, hl, hl2, hw⟩ := h
  rw [tTok_eq h7 h6 hl hl2] at h8 ⊢
  have ha : pTkA (mA σ 0) sp n ≤ sp := (pScan_b (P := isBl) (tp := mA σ 0) (sp := sp) (n := n) hl).2
  generalize pTkA (mA σ 0) sp n = a at *
  have t9 : ∀ n k w a, mI (tk σ n k w a) 9 = w := fun n k w a => by
    show upd (upd (upd (upd σ.1 7 n) 8 k) 9 w) 10 a 9 = w
    rw [pk_un (by omega), pk_us]
  unfold tTokA at h8 ⊢
  by_cases c0 : a = sp
  · rw [if_pos c0, tk8] at h8; exact absurd h8 (by decide +kernel)
  · rw [if_neg c0] at h8 ⊢
    by_cases c1 : isSm (mA σ 0 a)
    · rw [if_pos c1] at h8
      unfold pTkW at h8
      split at h8
      · split at h8
        · rw [tk8] at h8; exact absurd h8 (by decide +kernel)
        · rw [tk8] at h8; exact absurd h8 (by decide +kernel)
      · rw [tk8] at h8; exact absurd h8 (by decide +kernel)
    · rw [if_neg c1] at h8 ⊢
      by_cases c2 : isDg (mA σ 0 a)
      · rw [if_pos c2, t9]
        exact pVal_b _ (fun i hi => pScF_P _ a (a + i) (by omega) (by show a + i < pScan isDg (mA σ 0) sp a; omega))
      · rw [if_neg c2] at h8
        split at h8
        · rw [tk8] at h8; exact absurd h8 (by decide +kernel)
        · rw [tk8] at h8; exact absurd h8 (by decide +kernel)
theorem wC_Hd {σ s : mS} (h : wC σ) (e : gHd (dN (mI σ 12)) σ = (true, s)) : wC s := by
  unfold gHd at e
  obtain ⟨s1, e1, e⟩ := gB_inv e
  obtain ⟨N1, T1, -⟩ := h.1.trd e1
  obtain ⟨g, -, hgd, hgl⟩ := gTR_g h.2.1.2 e1
  have h1 : wC s1 := h.sT N1 T1
  have t12 : mI s1 12 = mI σ 12 := T1.k 12 (by decide)
  rw [hgd] at e
  unfold gHd1 at e
  by_cases c1 : mA s1 2 (32 + 8 * g + 3) = nI 1
  · rw [if_pos c1] at e; cases e
  · rw [if_neg c1] at e
    have N1' := N1.sa (a := 2) (i := 32 + 8 * g + 3) (v := nI 1) (by decide)
    obtain ⟨M2, S2, -⟩ := N1'.tok
    have hn2 := tok_num N1'
    have A2 := S2.1
    have i12 := (S2.k 12 (by decide)).trans t12
    generalize tTok (sa s1 2 (32 + 8 * g + 3) (nI 1)) = s2 at e M2 S2 hn2 A2 i12
    unfold gHd2 at e
    by_cases c2 : mI s2 8 = nI 3
    · rw [if_pos c2] at e
      by_cases c3 : nI 999 < mI s2 9
      · rw [if_pos c3] at e; cases e
      · rw [if_neg c3] at e
        have hv := hn2 c2
        have hle : dN (mI s2 9) ≤ 999 := by
          rcases Nat.lt_or_ge 999 (dN (mI s2 9)) with q | q
          · exact absurd (by rw [hv.1]; exact nI_lt q (by have := hv.2; omega)) c3
          · exact q
        unfold gHd3 at e
        obtain ⟨s4, e4, e⟩ := gB_inv e
        obtain ⟨M3, S3, -⟩ := M2.tok
        obtain ⟨N4, T4, -⟩ := M3.num e4
        have g4 := gNum_v M3 e4
        rw [hv.1] at g4
        have v4 := iI_isN g4 (by omega) (by omega)
        cases e
        have A4 : mA s4 = mA (sa s1 2 (32 + 8 * g + 3) (nI 1)) := T4.1.trans (S3.1.trans A2)
        have j12 : mI s4 12 = mI σ 12 := (T4.k 12 (by decide)).trans ((S3.k 12 (by decide)).trans i12)
        have row := h1.2.2.2.2.2.2.2 g (by rw [t12]; exact hgl)
        have hle4 := h.2.1.2
        have got : mI (sa s4 2 (32 + 8 * g + 4) (mI s2 9)) 19 = mI s4 19 := rfl
        rw [got]
        have cell : ∀ j, j ≠ 32 + 8 * g + 3 → j ≠ 32 + 8 * g + 4 → j ≠ 32 + 8 * g + 4 + 1 → mA (sa (sa s4 2 (32 + 8 * g + 4) (mI s2 9)) 2 (32 + 8 * g + 4 + 1) (mI s4 19)) 2 j = mA s1 2 j := fun j h3 h4 h5 => by rw [sa_n h5, sa_n h4, A4, sa_n h3]
        refine wC_tr (g := g) (n := dN (mI σ 12)) h1 ((N4.sa (by decide)).sa (by decide)) (by omega) (by show mI s4 12 = _; rw [j12]; exact h.2.1.1) (by rw [t12]; exact Nat.le_refl _) (fun t ht => Or.inr (by rw [t12]; exact ht)) (fun b hb => by rw [sa_b hb, sa_b hb, A4, sa_b hb]) (fun j hj => cell j (by omega) (by omega) (by omega)) ?_
        unfold vTr at row ⊢
        obtain ⟨q1, q2, q3, q4, q5, q6, q7, q8⟩ := row
        have c4 : mA (sa (sa s4 2 (32 + 8 * g + 4) (mI s2 9)) 2 (32 + 8 * g + 4 + 1) (mI s4 19)) 2 (32 + 8 * g + 4) = mI s2 9 := by rw [sa_n (by omega), sa_s]
        have c5 : mA (sa (sa s4 2 (32 + 8 * g + 4) (mI s2 9)) 2 (32 + 8 * g + 4 + 1) (mI s4 19)) 2 (32 + 8 * g + 5) = mI s4 19 := by rw [show 32 + 8 * g + 5 = 32 + 8 * g + 4 + 1 from by omega, sa_s]
        refine ⟨?_, ?_, ?_, ?_, ?_, ?_, ?_, ?_⟩
        · show isN (mA _ 2 (32 + 8 * g + 1)) 2; rw [cell _ (by omega) (by omega) (by omega)]; exact q1
        · show isN (mA _ 2 (32 + 8 * g + 2)) 1; rw [cell _ (by omega) (by omega) (by omega)]; exact q2
        · show isN (mA _ 2 (32 + 8 * g + 3)) 1; rw [sa_n (by omega), sa_n (by omega), A4, sa_s]; exact isN.nI (by omega) (by omega)
        · show isN (mA _ 2 (32 + 8 * g + 4)) 999; rw [c4]; exact ⟨hv.1, hle⟩
        · show isN (mA _ 2 (32 + 8 * g + 5)) 999; rw [c5]; exact v4.1
        · show dN (mA _ 2 (32 + 8 * g + 4)) ≤ dN (mA _ 2 (32 + 8 * g + 5)); rw [c4, c5]; exact v4.2
        · show isN (mA _ 2 (32 + 8 * g + 6)) 1; rw [cell _ (by omega) (by omega) (by omega)]; exact q7
        · show isN (mA _ 2 (32 + 8 * g + 7)) 1000; rw [cell _ (by omega) (by omega) (by omega)]; exact q8
    · rw [if_neg c2] at e; cases e
