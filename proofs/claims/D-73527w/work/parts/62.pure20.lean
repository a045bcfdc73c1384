set_option maxRecDepth 100000
theorem qName_g {A : Nat → Nat → Int32} {f n : Nat} {x : Int32} (hn : n < 1000) (h : ¬ qName A f n x < 0) : ∃ g, qName A f n x = nI g ∧ g < n := by
  unfold qName at h ⊢
  by_cases hc : pFind (fun t => A 2 (f + 8 * t) = x) n < n
  · rw [if_pos hc]; exact ⟨_, rfl, hc⟩
  · rw [if_neg hc] at h; exact absurd (by decide +kernel) h
theorem wN.trd {σ s : mS} {tr : Nat} {q : Bool} (h : wN σ) (e : gTR tr σ = (q, s)) : wN s ∧ sT σ s ∧ mu s ≤ mu σ := by
  obtain ⟨k1, k2, k3, -⟩ := h.tok
  unfold gTR gTR1 at e
  by_cases h8 : mI (tTok σ) 8 = nI 2
  · rw [if_pos h8] at e
    by_cases hg : gNm tr (tTok σ) < 0
    · rw [if_pos hg] at e
      cases e
      exact ⟨(k1.si (by decide) (by decide)).wr, (k2.tr sT.s19).tr sT.wr, by unfold gWr; rw [mu_si (by decide), mu_si (by decide), mu_si (by decide)]; exact k3⟩
    · rw [if_neg hg] at e
      cases e
      exact ⟨k1.si (by decide) (by decide), k2.tr sT.s19, by rw [mu_si (by decide)]; exact k3⟩
  · rw [if_neg h8] at e
    cases e
    exact ⟨k1.wr, k2.tr sT.wr, by unfold gWr; rw [mu_si (by decide), mu_si (by decide)]; exact k3⟩
theorem gTR_g {σ s : mS} {tr : Nat} (ht : tr ≤ 4) (e : gTR tr σ = (true, s)) : ∃ g, mI s 19 = nI g ∧ dN (mI s 19) = g ∧ g < tr := by
  unfold gTR gTR1 at e
  by_cases h8 : mI (tTok σ) 8 = nI 2
  · rw [if_pos h8] at e
    by_cases hg : gNm tr (tTok σ) < 0
    · rw [if_pos hg] at e
      cases e
    · rw [if_neg hg] at e
      cases e
      obtain ⟨g, h1, h2⟩ := qName_g (n := tr) (by omega) hg
      have h3 : mI (si (tTok σ) 19 (gNm tr (tTok σ))) 19 = nI g := by
        show upd (tTok σ).1 19 _ 19 = nI g
        rw [pk_us]; exact h1
      exact ⟨g, h3, by rw [h3]; exact dN_nI (by omega), h2⟩
  · rw [if_neg h8] at e
    cases e
def gHd3 (g : Nat) (own : Int32) (s : mS) : Bool × mS := gB (gNum own (nI 999) s) (fun s2 => (true, sa (sa s2 2 (32 + 8 * g + 4) own) 2 (32 + 8 * g + 4 + 1) (mI (sa s2 2 (32 + 8 * g + 4) own) 19)))
def gHd2 (g : Nat) (s : mS) : Bool × mS := if mI s 8 = nI 3 then (if nI 999 < mI s 9 then (false, gWr s 2) else gHd3 g (mI s 9) (tTok s)) else (false, gWr s 1)
def gHd1 (g : Nat) (s : mS) : Bool × mS := if mA s 2 (32 + 8 * g + 3) = nI 1 then (false, gWr s 3) else gHd2 g (tTok (sa s 2 (32 + 8 * g + 3) (nI 1)))
def gHd (tr : Nat) (σ : mS) : Bool × mS := gB (gTR tr σ) (fun s => gHd1 (dN (mI s 19)) s)
def gSt1 (g : Nat) (s : mS) : Bool × mS := if mA s 2 (32 + 8 * g + 6) = nI 1 then (false, gWr s 3) else gB (gNum (nI 0) (nI 1000) (tTok (sa s 2 (32 + 8 * g + 6) (nI 1)))) (fun s2 => (true, sa s2 2 (32 + 8 * g + 7) (mI s2 19)))
def gSt (tr : Nat) (σ : mS) : Bool × mS := gB (gTR tr σ) (fun s => gSt1 (dN (mI s 19)) s)
def gRow3 (a f : Nat) (s : mS) : Bool × mS := (true, tTok (sa s a (f + 4) (mI s 9)))
def gRow2 (a f many : Nat) (s : mS) : Bool × mS := if many < 5 then (true, s) else if mI s 8 = nI 3 then (if mI s 9 = nI 5 then gRow3 a f s else if mI s 9 = nI 10 then gRow3 a f s else (false, gWr s 2)) else (false, gWr s 1)
def gRow1 (a f many : Nat) (sec thr low : Int32) (s : mS) : Bool × mS := gB (gNum (nI 0) (nI 63) (tTok (sa s a f (mI s 19)))) (fun s2 => gB (gNum (nI 0) sec (sa s2 a (f + 1) (mI s2 19))) (fun s3 => gB (gNum low thr (sa s3 a (f + 2) (mI s3 19))) (fun s4 => gRow2 a f many (sa s4 a (f + 3) (mI s4 19)))))
def gRow (tr a f many : Nat) (sec thr low : Int32) (σ : mS) : Bool × mS := gB (gTR tr σ) (fun s => gRow1 a f many sec thr low s)
