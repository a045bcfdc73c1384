set_option maxRecDepth 100000
/-! what is read is well formed -/
def vRow (tr : Nat) (r : Nat → Int32) (m M : Nat) : Prop := (isN (r 0) 3 ∧ dN (r 0) < tr) ∧ isN (r 1) 63 ∧ isN (r 2) m ∧ isN (r 3) M
def vTr (r : Nat → Int32) : Prop := isN (r 1) 2 ∧ isN (r 2) 1 ∧ isN (r 3) 1 ∧ isN (r 4) 999 ∧ isN (r 5) 999 ∧ dN (r 4) ≤ dN (r 5) ∧ isN (r 6) 1 ∧ isN (r 7) 1000
def wCA (tr : Nat) (A : Nat → Nat → Int32) : Prop :=
  (isN (A 6 11) 12 ∧ isN (A 6 12) 12 ∧ isN (A 6 13) 4) ∧ (isN (A 6 7) 2 ∧ (isN (A 6 8) 1000 ∧ 10 ≤ dN (A 6 8)) ∧ isN (A 6 9) 9999 ∧ isN (A 6 10) 99999) ∧
  (∀ k, k < dN (A 6 11) → vRow tr (fun i => A 3 (48 + 4 * k + i)) 1 99999) ∧ (∀ k, k < dN (A 6 12) → vRow tr (fun i => A 4 (48 + 4 * k + i)) 2 9999) ∧
  (∀ k, k < dN (A 6 13) → vRow tr (fun i => A 5 (20 + 5 * k + i)) 2 9999 ∧ (A 5 (20 + 5 * k + 4) = nI 5 ∨ A 5 (20 + 5 * k + 4) = nI 10)) ∧ (∀ t, t < tr → vTr (fun i => A 2 (32 + 8 * t + i)))
def wC (σ : mS) : Prop := wN σ ∧ isN (mI σ 12) 4 ∧ wCA (dN (mI σ 12)) (mA σ)
theorem wC.sT {σ s : mS} (h : wC σ) (hN : wN s) (h2 : sT σ s) : wC s := by
  have e12 := h2.k 12 (by decide)
  refine ⟨hN, by rw [e12]; exact h.2.1, ?_⟩
  rw [e12, h2.1]
  exact h.2.2
theorem iI_isN {v : Int32} {a b : Nat} (h : iI v (nI a) (nI b)) (ha : a < 2147483648) (hb : b < 2147483648) : isN v b ∧ a ≤ dN v := by
  obtain ⟨n, rfl, h1, h2⟩ := iI.ex h ha hb
  exact ⟨isN.nI h2 hb, by rw [dN_nI (by omega)]; exact h1⟩
theorem tk19 {σ : mS} {n k w a : Int32} : mI (tk σ n k w a) 19 = mI σ 19 := by
  show upd (upd (upd (upd σ.1 7 n) 8 k) 9 w) 10 a 19 = _
  rw [pk_un (by omega), pk_un (by omega), pk_un (by omega), pk_un (by omega)]
theorem tok19 {σ : mS} (h : wN σ) : mI (tTok σ) 19 = mI σ 19 := by
  obtain ⟨n, sp, h7, h6, hl, hl2, hw⟩ := h
  rw [tTok_eq h7 h6 hl hl2]
  have hb := pScan_b (P := isBl) (tp := mA σ 0) (sp := sp) (n := n) hl
  obtain ⟨m, k, w, -, -, -, -, e⟩ := tTokA_ex (σ := σ) (tp := mA σ 0) (show pTkA (mA σ 0) sp n ≤ sp from hb.2)
  rw [e, tk19]
/-- a number that was read is in its bounds -/
theorem gNum_v {σ s : mS} {lo hi : Int32} (h : wN σ) (e : gNum lo hi σ = (true, s)) : iI (mI s 19) lo hi := by
  unfold gNum at e
  by_cases h8 : mI σ 8 = nI 3
  · rw [if_pos h8] at e
    by_cases hi9 : iI (mI σ 9) lo hi
    · rw [if_pos hi9] at e
      cases e
      have q : mI (tTok (si σ 19 (mI σ 9))) 19 = mI σ 9 := by
        rw [tok19 (h.si (by decide) (by decide))]
        show upd σ.1 19 _ 19 = _
        exact pk_us
      rw [q]
      exact hi9
    · rw [if_neg hi9] at e; cases e
  · rw [if_neg h8] at e; cases e
theorem gB_inv {p : Bool × mS} {f : mS → Bool × mS} {t : mS} (e : gB p f = (true, t)) : ∃ s, p = (true, s) ∧ f s = (true, t) := by
  obtain ⟨b, s⟩ := p
  cases b with
  | true => exact ⟨s, rfl, e⟩
  | false =>
    have e2 : (false, s) = (true, t) := e
    cases e2
theorem sa_s {σ : mS} {a i : Nat} {v : Int32} : mA (sa σ a i v) a i = v := by
  show (if a = a then upd (mA σ a) i v else mA σ a) i = v
  rw [if_pos rfl]; exact pk_us
theorem sa_n {σ : mS} {a i j : Nat} {v : Int32} (h : j ≠ i) : mA (sa σ a i v) a j = mA σ a j := by
  show (if a = a then upd (mA σ a) i v else mA σ a) j = _
  rw [if_pos rfl]; exact pk_un h
theorem sa_b {σ : mS} {a b i : Nat} {v : Int32} (h : b ≠ a) : mA (sa σ a i v) b = mA σ b := if_neg h
/-- a row that was read -/
theorem gRow_v {tr a f many : Nat} {sec thr low : Nat} {σ s : mS} (ha : a ≠ 1) (ht : tr ≤ 4) (hs : sec < 100000) (hth : thr < 100000) (hlo : low < 100000) (h : wN σ) (e : gRow tr a f many (nI sec) (nI thr) (nI low) σ = (true, s)) :
    vRow tr (fun i => mA s a (f + i)) sec thr ∧ (¬ many < 5 → mA s a (f + 4) = nI 5 ∨ mA s a (f + 4) = nI 10) ∧ (∀ j, j < f → mA s a j = mA σ a j) := by
  unfold gRow at e
  obtain ⟨s1, e1, e⟩ := gB_inv e
  obtain ⟨N1, T1, -⟩ := h.trd e1
  obtain ⟨g, hg, hgd, hgl⟩ := gTR_g ht e1
  unfold gRow1 at e
  obtain ⟨s2, e2, e⟩ := gB_inv e
  have N1' := N1.sa (i := f) (v := mI s1 19) ha
  obtain ⟨M2, S2, -⟩ := N1'.tok
  obtain ⟨N2, T2, -⟩ := M2.num e2
  have v2 := gNum_v M2 e2
  obtain ⟨s3, e3, e⟩ := gB_inv e
  have N2' := N2.sa (i := f + 1) (v := mI s2 19) ha
  obtain ⟨N3, T3, -⟩ := N2'.num e3
  have v3 := gNum_v N2' e3
  obtain ⟨s4, e4, e⟩ := gB_inv e
  have N3' := N3.sa (i := f + 2) (v := mI s3 19) ha
  obtain ⟨N4, T4, -⟩ := N3'.num e4
  have v4 := gNum_v N3' e4
  have N4' := N4.sa (i := f + 3) (v := mI s4 19) ha
  have A2 : mA s2 = mA (sa s1 a f (mI s1 19)) := T2.1.trans S2.1
  have A3 : mA s3 = mA (sa s2 a (f + 1) (mI s2 19)) := T3.1
  have A4 : mA s4 = mA (sa s3 a (f + 2) (mI s3 19)) := T4.1
  have fin : ∀ t : mS, (∀ j, j ≠ f + 4 → mA t a j = mA (sa s4 a (f + 3) (mI s4 19)) a j) → vRow tr (fun i => mA t a (f + i)) sec thr ∧ (∀ j, j < f → mA t a j = mA σ a j) := by
    intro t ht
    have c3 : mA t a (f + 3) = mI s4 19 := by rw [ht _ (by omega), sa_s]
    have c2 : mA t a (f + 2) = mI s3 19 := by rw [ht _ (by omega), sa_n (by omega), A4, sa_s]
    have c1 : mA t a (f + 1) = mI s2 19 := by rw [ht _ (by omega), sa_n (by omega), A4, sa_n (by omega), A3, sa_s]
    have c0 : mA t a (f + 0) = mI s1 19 := by rw [ht _ (by omega), sa_n (by omega), A4, sa_n (by omega), A3, sa_n (by omega), A2, Nat.add_zero, sa_s]
    refine ⟨⟨?_, ?_, ?_, ?_⟩, fun j hj => ?_⟩
    · show isN (mA t a (f + 0)) 3 ∧ dN (mA t a (f + 0)) < tr
      rw [c0, hgd, hg]
      exact ⟨isN.nI (by omega) (by omega), hgl⟩
    · show isN (mA t a (f + 1)) 63
      rw [c1]; exact (iI_isN v2 (by omega) (by omega)).1
    · show isN (mA t a (f + 2)) sec
      rw [c2]; exact (iI_isN v3 (by omega) (by omega)).1
    · show isN (mA t a (f + 3)) thr
      rw [c3]; exact (iI_isN v4 (by omega) (by omega)).1
    · rw [ht _ (by omega), sa_n (by omega), A4, sa_n (by omega), A3, sa_n (by omega), A2, sa_n (by omega), T1.1]
  unfold gRow2 gRow3 at e
  by_cases c1 : many < 5
  · rw [if_pos c1] at e
    cases e
    obtain ⟨k1, k2⟩ := fin _ (fun _ _ => rfl)
    exact ⟨k1, fun q => absurd c1 q, k2⟩
  · rw [if_neg c1] at e
    generalize hS : sa s4 a (f + 3) (mI s4 19) = S at e fin N4'
    by_cases c2 : mI S 8 = nI 3
    · rw [if_pos c2] at e
      have go : (mI S 9 = nI 5 ∨ mI S 9 = nI 10) → vRow tr (fun i => mA (tTok (sa S a (f + 4) (mI S 9))) a (f + i)) sec thr ∧ (¬ many < 5 → mA (tTok (sa S a (f + 4) (mI S 9))) a (f + 4) = nI 5 ∨ mA (tTok (sa S a (f + 4) (mI S 9))) a (f + 4) = nI 10) ∧ (∀ j, j < f → mA (tTok (sa S a (f + 4) (mI S 9))) a j = mA σ a j) := fun hv => by
        obtain ⟨-, S5, -⟩ := (N4'.sa (i := f + 4) (v := mI S 9) ha).tok
        obtain ⟨k1, k2⟩ := fin (tTok (sa S a (f + 4) (mI S 9))) (fun j hj => by rw [S5.1, sa_n hj])
        exact ⟨k1, fun _ => by rw [S5.1, sa_s]; exact hv, k2⟩
      by_cases c3 : mI S 9 = nI 5
      · rw [if_pos c3] at e; cases e; exact go (Or.inl c3)
      · rw [if_neg c3] at e
        by_cases c4 : mI S 9 = nI 10
        · rw [if_pos c4] at e; cases e; exact go (Or.inr c4)
        · rw [if_neg c4] at e; cases e
    · rw [if_neg c2] at e; cases e
theorem vRow.mono {tr tr' : Nat} {r r' : Nat → Int32} {m M : Nat} (h : vRow tr r m M) (ht : tr ≤ tr') (e : ∀ i, i < 4 → r' i = r i) : vRow tr' r' m M := by
  unfold vRow at h ⊢
  rw [e 0 (by omega), e 1 (by omega), e 2 (by omega), e 3 (by omega)]
  exact ⟨⟨h.1.1, by have := h.1.2; omega⟩, h.2⟩
theorem vTr.congr {r r' : Nat → Int32} (h : vTr r) (e : ∀ i, i < 8 → r' i = r i) : vTr r' := by
  unfold vTr at h ⊢
  rw [e 1 (by omega), e 2 (by omega), e 3 (by omega), e 4 (by omega), e 5 (by omega), e 6 (by omega), e 7 (by omega)]
  exact h
/-- the lines of sales, of tax, of assets keep what is read well formed -/
theorem wC_Sl {σ s : mS} (h : wC σ) (e : gSl (dN (mI σ 12)) (dN (mA σ 6 11)) σ = (true, s)) : wC s := by
  obtain ⟨hN, h12, hA⟩ := h
  have ht := h12.2
  unfold gSl at e
  by_cases c1 : dN (mA σ 6 11) = 12
  · rw [if_pos c1] at e; cases e
  · rw [if_neg c1] at e
    obtain ⟨s1, e1, e⟩ := gB_inv e
    have R := rQ_row (by decide) hN e1
    obtain ⟨v1, -, v3⟩ := gRow_v (by decide) ht (by decide) (by decide) (by decide) hN e1
    cases e
    have e12 : mI s1 12 = mI σ 12 := R.2.2.2.1 12 (by decide)
    obtain ⟨⟨a11, a12, a13⟩, a7, r3, r4, r5, r2⟩ := hA
    have b : ∀ b, b ≠ 3 → b ≠ 6 → mA (sa s1 6 11 (nI (dN (mA σ 6 11) + 1))) b = mA σ b := fun b h3 h6 => (sa_b h6).trans (R.2.1 b h3)
    have b3 : mA (sa s1 6 11 (nI (dN (mA σ 6 11) + 1))) 3 = mA s1 3 := sa_b (by decide)
    have b6 : ∀ j, j ≠ 11 → mA (sa s1 6 11 (nI (dN (mA σ 6 11) + 1))) 6 j = mA σ 6 j := fun j hj => (sa_n hj).trans (by rw [R.2.1 6 (by decide)])
    have b11 : mA (sa s1 6 11 (nI (dN (mA σ 6 11) + 1))) 6 11 = nI (dN (mA σ 6 11) + 1) := sa_s
    have h11 := a11.2
    refine ⟨R.1.sa (by decide), by show isN (mI s1 12) 4; rw [e12]; exact h12, ?_⟩
    show wCA (dN (mI s1 12)) _
    rw [e12]
    unfold wCA
    rw [b11, b6 12 (by decide), b6 13 (by decide), b6 7 (by decide), b6 8 (by decide), b6 9 (by decide), b6 10 (by decide), b 4 (by decide) (by decide), b 5 (by decide) (by decide), b 2 (by decide) (by decide), b3, dN_nI (by omega)]
    refine ⟨⟨isN.nI (by omega) (by omega), a12, a13⟩, a7, fun k hk => ?_, r4, r5, r2⟩
    by_cases hk2 : k = dN (mA σ 6 11)
    · subst hk2; exact v1
    · exact (r3 k (by omega)).mono (Nat.le_refl _) (fun i hi => v3 _ (by omega))
theorem wC_By {σ s : mS} (h : wC σ) (e : gBy (dN (mI σ 12)) (dN (mA σ 6 12)) σ = (true, s)) : wC s := by
  obtain ⟨hN, h12, hA⟩ := h
  have ht := h12.2
  unfold gBy at e
  by_cases c1 : dN (mA σ 6 12) = 12
  · rw [if_pos c1] at e; cases e
  · rw [if_neg c1] at e
    obtain ⟨s1, e1, e⟩ := gB_inv e
    have R := rQ_row (by decide) hN e1
    obtain ⟨v1, -, v3⟩ := gRow_v (by decide) ht (by decide) (by decide) (by decide) hN e1
    cases e
    have e12 : mI s1 12 = mI σ 12 := R.2.2.2.1 12 (by decide)
    obtain ⟨⟨a11, a12, a13⟩, a7, r3, r4, r5, r2⟩ := hA
    have b : ∀ b, b ≠ 4 → b ≠ 6 → mA (sa s1 6 12 (nI (dN (mA σ 6 12) + 1))) b = mA σ b := fun b h3 h6 => (sa_b h6).trans (R.2.1 b h3)
    have b3 : mA (sa s1 6 12 (nI (dN (mA σ 6 12) + 1))) 4 = mA s1 4 := sa_b (by decide)
    have b6 : ∀ j, j ≠ 12 → mA (sa s1 6 12 (nI (dN (mA σ 6 12) + 1))) 6 j = mA σ 6 j := fun j hj => (sa_n hj).trans (by rw [R.2.1 6 (by decide)])
    have b11 : mA (sa s1 6 12 (nI (dN (mA σ 6 12) + 1))) 6 12 = nI (dN (mA σ 6 12) + 1) := sa_s
    have h11 := a12.2
    refine ⟨R.1.sa (by decide), by show isN (mI s1 12) 4; rw [e12]; exact h12, ?_⟩
    show wCA (dN (mI s1 12)) _
    rw [e12]
    unfold wCA
    rw [b11, b6 11 (by decide), b6 13 (by decide), b6 7 (by decide), b6 8 (by decide), b6 9 (by decide), b6 10 (by decide), b 3 (by decide) (by decide), b 5 (by decide) (by decide), b 2 (by decide) (by decide), b3, dN_nI (by omega)]
    refine ⟨⟨a11, isN.nI (by omega) (by omega), a13⟩, a7, r3, fun k hk => ?_, r5, r2⟩
    by_cases hk2 : k = dN (mA σ 6 12)
    · subst hk2; exact v1
    · exact (r4 k (by omega)).mono (Nat.le_refl _) (fun i hi => v3 _ (by omega))
theorem wC_As {σ s : mS} (h : wC σ) (e : gAs (dN (mI σ 12)) (dN (mA σ 6 13)) σ = (true, s)) : wC s := by
  obtain ⟨hN, h12, hA⟩ := h
  have ht := h12.2
  unfold gAs at e
  by_cases c1 : dN (mA σ 6 13) = 4
  · rw [if_pos c1] at e; cases e
  · rw [if_neg c1] at e
    obtain ⟨s1, e1, e⟩ := gB_inv e
    have R := rQ_row (by decide) hN e1
    obtain ⟨v1, v2, v3⟩ := gRow_v (by decide) ht (by decide) (by decide) (by decide) hN e1
    cases e
    have e12 : mI s1 12 = mI σ 12 := R.2.2.2.1 12 (by decide)
    obtain ⟨⟨a11, a12, a13⟩, a7, r3, r4, r5, r2⟩ := hA
    have b : ∀ b, b ≠ 5 → b ≠ 6 → mA (sa s1 6 13 (nI (dN (mA σ 6 13) + 1))) b = mA σ b := fun b h3 h6 => (sa_b h6).trans (R.2.1 b h3)
    have b3 : mA (sa s1 6 13 (nI (dN (mA σ 6 13) + 1))) 5 = mA s1 5 := sa_b (by decide)
    have b6 : ∀ j, j ≠ 13 → mA (sa s1 6 13 (nI (dN (mA σ 6 13) + 1))) 6 j = mA σ 6 j := fun j hj => (sa_n hj).trans (by rw [R.2.1 6 (by decide)])
    have b11 : mA (sa s1 6 13 (nI (dN (mA σ 6 13) + 1))) 6 13 = nI (dN (mA σ 6 13) + 1) := sa_s
    have h11 := a13.2
    refine ⟨R.1.sa (by decide), by show isN (mI s1 12) 4; rw [e12]; exact h12, ?_⟩
    show wCA (dN (mI s1 12)) _
    rw [e12]
    unfold wCA
    rw [b11, b6 11 (by decide), b6 12 (by decide), b6 7 (by decide), b6 8 (by decide), b6 9 (by decide), b6 10 (by decide), b 3 (by decide) (by decide), b 4 (by decide) (by decide), b 2 (by decide) (by decide), b3, dN_nI (by omega)]
    refine ⟨⟨a11, a12, isN.nI (by omega) (by omega)⟩, a7, r3, r4, fun k hk => ?_, r2⟩
    by_cases hk2 : k = dN (mA σ 6 13)
    · subst hk2; exact ⟨v1, v2 (by decide)⟩
    · obtain ⟨q1, q2⟩ := r5 k (by omega)
      exact ⟨q1.mono (Nat.le_refl _) (fun i hi => v3 _ (by omega)), by rw [v3 _ (by omega)]; exact q2⟩
