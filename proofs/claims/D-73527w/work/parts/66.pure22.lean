set_option maxRecDepth 100000
/-- reading went on, no farther from its end -/
def rW (σ s : mS) : Prop := wN s ∧ mu s ≤ mu σ
theorem rW.tr {σ s t : mS} (h : rW σ s) (h2 : rW s t) : rW σ t := ⟨h2.1, Nat.le_trans h2.2 h.2⟩
theorem rW.rf {σ : mS} (h : wN σ) : rW σ σ := ⟨h, Nat.le_refl _⟩
theorem rW.tok {σ : mS} (h : wN σ) : rW σ (tTok σ) := ⟨h.tok.1, h.tok.2.2.1⟩
theorem rQ.w {a : Nat} {σ s : mS} (h : rQ a σ s) : rW σ s := ⟨h.1, h.2.2.2.2⟩
theorem rW.wr {σ : mS} {k : Nat} (h : wN σ) : rW σ (gWr σ k) := (rQ.wr (a := 2) h).w
theorem rW_sa {a i : Nat} {v : Int32} {σ : mS} (h : wN σ) (ha : a ≠ 1) : rW σ (sa σ a i v) := (rQ.sa h ha).w
theorem rW_si {j : Nat} {v : Int32} {σ : mS} (h : wN σ) (hj : j ≠ 6 ∧ j ≠ 7 ∧ j ≠ 8) : rW σ (si σ j v) := ⟨h.si hj.1 hj.2.1, by rw [mu_si hj]; exact Nat.le_refl _⟩
theorem rW_gB {σ : mS} {p : Bool × mS} {f : mS → Bool × mS} (h1 : ∀ q s, p = (q, s) → rW σ s) (h2 : ∀ s, wN s → ∀ q t, f s = (q, t) → rW s t) {q : Bool} {t : mS} (e : gB p f = (q, t)) : rW σ t := by
  obtain ⟨b, s⟩ := p
  have h := h1 b s rfl
  cases b with
  | true => exact h.tr (h2 s h.1 q t e)
  | false =>
    have e2 : (false, s) = (q, t) := e
    cases e2
    exact h
theorem rW_num {σ s : mS} {lo hi : Int32} {q : Bool} (h : wN σ) (e : gNum lo hi σ = (q, s)) : rW σ s := (rQ.num (a := 2) h e).w
theorem rW_trd {σ s : mS} {tr : Nat} {q : Bool} (h : wN σ) (e : gTR tr σ = (q, s)) : rW σ s := (rQ.trd (a := 2) h e).w
theorem rW_TL {tr : Nat} {σ s : mS} {q : Bool} (h : wN σ) (e : gTL tr σ = (q, s)) : rW σ s := by
  unfold gTL at e
  by_cases c1 : tr = 4
  · rw [if_pos c1] at e; cases e; exact rW.wr h
  · rw [if_neg c1] at e
    refine (rW.tok h).tr ?_
    have hN := (rW.tok h).1
    generalize tTok σ = σ1 at e hN
    unfold gTL1 at e
    by_cases c2 : mI σ1 8 = nI 2
    · rw [if_pos c2] at e
      by_cases c3 : gNm tr σ1 < 0
      · rw [if_pos c3] at e
        have hc : wN (sClr σ1 (32 + 8 * tr) 8) := hN.clr
        have k1 : rW σ1 (tTok (sa (sClr σ1 (32 + 8 * tr) 8) 2 (32 + 8 * tr) (mI (sClr σ1 (32 + 8 * tr) 8) 9))) 
          := rW.tr (s := sClr σ1 (32 + 8 * tr) 8) ⟨hc, Nat.le_refl _⟩ ((rW_sa hc (by decide)).tr (rW.tok (hc.sa (by decide))))
        refine k1.tr ?_
        unfold gTL2 at e
        refine rW_gB (fun q s hs => rW_num k1.1 hs) (fun s hs q t e => ?_) e
        have k2 : rW s (sa s 2 (32 + 8 * tr + 1) (mI s 19)) := rW_sa hs (by decide)
        refine k2.tr (rW_gB (fun q s hs => rW_num k2.1 hs) (fun s hs q t e => ?_) e)
        cases e
        exact (rW_sa hs (by decide)).tr (rW_si (hs.sa (by decide)) (by decide))
      · rw [if_neg c3] at e; cases e; exact rW.wr hN
    · rw [if_neg c2] at e; cases e; exact rW.wr hN
theorem rW_Hd {tr : Nat} {σ s : mS} {q : Bool} (h : wN σ) (e : gHd tr σ = (q, s)) : rW σ s := by
  unfold gHd at e
  refine rW_gB (fun q s hs => rW_trd h hs) (fun s hs q t e => ?_) e
  generalize dN (mI s 19) = g at e
  unfold gHd1 at e
  by_cases c1 : mA s 2 (32 + 8 * g + 3) = nI 1
  · rw [if_pos c1] at e; cases e; exact rW.wr hs
  · rw [if_neg c1] at e
    have k1 : rW s (tTok (sa s 2 (32 + 8 * g + 3) (nI 1))) := (rW_sa hs (by decide)).tr (rW.tok (hs.sa (by decide)))
    refine k1.tr ?_
    have hN := k1.1
    generalize tTok (sa s 2 (32 + 8 * g + 3) (nI 1)) = s1 at e hN
    unfold gHd2 at e
    by_cases c2 : mI s1 8 = nI 3
    · rw [if_pos c2] at e
      by_cases c3 : nI 999 < mI s1 9
      · rw [if_pos c3] at e; cases e; exact rW.wr hN
      · rw [if_neg c3] at e
        refine (rW.tok hN).tr ?_
        unfold gHd3 at e
        refine rW_gB (fun q s hs => rW_num (rW.tok hN).1 hs) (fun s hs q t e => ?_) e
        cases e
        exact (rW_sa hs (by decide)).tr (rW_sa (hs.sa (by decide)) (by decide))
    · rw [if_neg c2] at e; cases e; exact rW.wr hN
theorem rW_St {tr : Nat} {σ s : mS} {q : Bool} (h : wN σ) (e : gSt tr σ = (q, s)) : rW σ s := by
  unfold gSt at e
  refine rW_gB (fun q s hs => rW_trd h hs) (fun s hs q t e => ?_) e
  generalize dN (mI s 19) = g at e
  unfold gSt1 at e
  by_cases c1 : mA s 2 (32 + 8 * g + 6) = nI 1
  · rw [if_pos c1] at e; cases e; exact rW.wr hs
  · rw [if_neg c1] at e
    have k1 : rW s (tTok (sa s 2 (32 + 8 * g + 6) (nI 1))) := (rW_sa hs (by decide)).tr (rW.tok (hs.sa (by decide)))
    refine k1.tr (rW_gB (fun q s hs => rW_num k1.1 hs) (fun s hs q t e => ?_) e)
    cases e
    exact rW_sa hs (by decide)
theorem rW_Sl {tr n : Nat} {σ s : mS} {q : Bool} (h : wN σ) (e : gSl tr n σ = (q, s)) : rW σ s := by
  unfold gSl at e
  by_cases c1 : n = 12
  · rw [if_pos c1] at e; cases e; exact rW.wr h
  · rw [if_neg c1] at e
    exact rW_gB (fun q s hs => (rQ_row (by decide) h hs).w) (fun s hs q t e => by cases e; exact rW_sa hs (by decide)) e
theorem rW_By {tr n : Nat} {σ s : mS} {q : Bool} (h : wN σ) (e : gBy tr n σ = (q, s)) : rW σ s := by
  unfold gBy at e
  by_cases c1 : n = 12
  · rw [if_pos c1] at e; cases e; exact rW.wr h
  · rw [if_neg c1] at e
    exact rW_gB (fun q s hs => (rQ_row (by decide) h hs).w) (fun s hs q t e => by cases e; exact rW_sa hs (by decide)) e
theorem rW_As {tr n : Nat} {σ s : mS} {q : Bool} (h : wN σ) (e : gAs tr n σ = (q, s)) : rW σ s := by
  unfold gAs at e
  by_cases c1 : n = 4
  · rw [if_pos c1] at e; cases e; exact rW.wr h
  · rw [if_neg c1] at e
    exact rW_gB (fun q s hs => (rQ_row (by decide) h hs).w) (fun s hs q t e => by cases e; exact rW_sa hs (by decide)) e
theorem rW_Wd {k : Nat} {σ s : mS} {q : Bool} (h : wN σ) (e : gWd k σ = (q, s)) : rW σ s := by
  unfold gWd at e
  by_cases c1 : (mI σ 18 >>> (nI k &&& 31)) &&& nI 1 = nI 1
  · rw [if_pos c1] at e; cases e; exact rW.wr h
  · rw [if_neg c1] at e
    have k1 : rW σ (tTok (si σ 18 (mI σ 18 ||| (nI 1 <<< (nI k &&& 31))))) := (rW_si h (by decide)).tr (rW.tok (h.si (by decide) (by decide)))
    refine k1.tr ?_
    have hN := k1.1
    generalize tTok (si σ 18 (mI σ 18 ||| (nI 1 <<< (nI k &&& 31)))) = s1 at e hN
    unfold gWd1 at e
    by_cases c2 : k = 3
    · rw [if_pos c2] at e
      by_cases c3 : mI s1 8 = nI 1
      · rw [if_pos c3] at e
        by_cases c4 : mI s1 9 < nI 10
        · rw [if_pos c4] at e; cases e; exact rW.wr hN
        · rw [if_neg c4] at e
          have kk : ∀ v, rW s1 (tTok (sa s1 6 7 v)) := fun v => (rW_sa hN (by decide)).tr (rW.tok (hN.sa (by decide)))
          by_cases c5 : mI s1 9 = nI 11
          · rw [if_pos c5] at e; cases e; exact kk _
          · rw [if_neg c5] at e
            by_cases c6 : mI s1 9 = nI 10
            · rw [if_pos c6] at e; cases e; exact kk _
            · rw [if_neg c6] at e; cases e; exact kk _
      · rw [if_neg c3] at e; cases e; exact rW.wr hN
    · rw [if_neg c2] at e
      by_cases c3 : k = 4
      · rw [if_pos c3] at e
        exact rW_gB (fun q s hs => rW_num hN hs) (fun s hs q t e => by cases e; exact rW_sa hs (by decide)) e
      · rw [if_neg c3] at e
        by_cases c4 : k = 5
        · rw [if_pos c4] at e
          exact rW_gB (fun q s hs => rW_num hN hs) (fun s hs q t e => by cases e; exact rW_sa hs (by decide)) e
        · rw [if_neg c4] at e
          exact rW_gB (fun q s hs => rW_num hN hs) (fun s hs q t e => by cases e; exact rW_sa hs (by decide)) e
def gKw (tr ns nb na : Nat) (σ : mS) : Bool × mS := if mI σ 9 = nI 0 then gTL tr σ else if mI σ 9 = nI 1 then gHd tr σ else if mI σ 9 = nI 2 then gSt tr σ else if mI σ 9 = nI 3 then gWd 3 σ else if mI σ 9 = nI 4 then gWd 4 σ else if mI σ 9 = nI 5 then gWd 5 σ else if mI σ 9 = nI 6 then gWd 6 σ else if mI σ 9 = nI 7 then gSl tr ns σ else if mI σ 9 = nI 8 then gBy tr nb σ else if mI σ 9 = nI 9 then gAs tr na σ else (false, gWr σ 1)
def gLn (tr ns nb na : Nat) (σ : mS) : Bool × mS := if mI σ 8 = nI 1 then gB (gKw tr ns nb na σ) (fun s => if mI s 8 = nI 4 then (true, tTok s) else (false, gWr s 1)) else (false, gWr σ 1)
