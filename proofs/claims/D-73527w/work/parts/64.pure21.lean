set_option maxRecDepth 100000
/-- reading went on from σ to s: only the array a is written, of the ints what a step of reading may write -/
def rQ (a : Nat) (σ s : mS) : Prop := wN s ∧ (∀ b, b ≠ a → mA s b = mA σ b) ∧ mK s = mK σ ∧ (∀ k, (k ≠ 4 ∧ k ≠ 5 ∧ k ≠ 7 ∧ k ≠ 8 ∧ k ≠ 9 ∧ k ≠ 10 ∧ k ≠ 19) → mI s k = mI σ k) ∧ mu s ≤ mu σ
theorem rQ.tr {a : Nat} {σ s t : mS} (h : rQ a σ s) (h2 : rQ a s t) : rQ a σ t := ⟨h2.1, fun b hb => (h2.2.1 b hb).trans (h.2.1 b hb), h2.2.2.1.trans h.2.2.1, fun k hk => (h2.2.2.2.1 k hk).trans (h.2.2.2.1 k hk), Nat.le_trans h2.2.2.2.2 h.2.2.2.2⟩
theorem rQ.rf {a : Nat} {σ : mS} (h : wN σ) : rQ a σ σ := ⟨h, fun _ _ => rfl, rfl, fun _ _ => rfl, Nat.le_refl _⟩
theorem rQ.sT {a : Nat} {σ s : mS} (h : wN s) (h2 : sT σ s) (h3 : mu s ≤ mu σ) : rQ a σ s := ⟨h, fun b _ => by rw [h2.1], h2.2.1, fun k hk => h2.k k hk, h3⟩
theorem rQ.tok {a : Nat} {σ : mS} (h : wN σ) : rQ a σ (tTok σ) := rQ.sT h.tok.1 h.tok.2.1 h.tok.2.2.1
theorem rQ.wr {a : Nat} {σ : mS} {k : Nat} (h : wN σ) : rQ a σ (gWr σ k) := rQ.sT h.wr sT.wr (by unfold gWr; rw [mu_si (by decide), mu_si (by decide)]; exact Nat.le_refl _)
theorem rQ.sa {a i : Nat} {v : Int32} {σ : mS} (h : wN σ) (ha : a ≠ 1) : rQ a σ (sa σ a i v) := ⟨h.sa ha, fun b hb => if_neg hb, rfl, fun _ _ => rfl, Nat.le_refl _⟩
theorem rQ.num {a : Nat} {σ s : mS} {lo hi : Int32} {q : Bool} (h : wN σ) (e : gNum lo hi σ = (q, s)) : rQ a σ s := rQ.sT (h.num e).1 (h.num e).2.1 (h.num e).2.2
theorem rQ.trd {a : Nat} {σ s : mS} {tr : Nat} {q : Bool} (h : wN σ) (e : gTR tr σ = (q, s)) : rQ a σ s := rQ.sT (h.trd e).1 (h.trd e).2.1 (h.trd e).2.2
theorem rQ.gB {a : Nat} {σ : mS} {p : Bool × mS} {f : mS → Bool × mS} (h1 : ∀ q s, p = (q, s) → rQ a σ s) (h2 : ∀ s, wN s → ∀ q t, f s = (q, t) → rQ a s t) {q : Bool} {t : mS} (e : gB p f = (q, t)) : rQ a σ t := by
  obtain ⟨b, s⟩ := p
  have h := h1 b s rfl
  cases b with
  | true => exact h.tr (h2 s h.1 q t e)
  | false =>
    have e2 : (false, s) = (q, t) := e
    cases e2
    exact h
theorem rQ_row {tr a f many : Nat} {sec thr low : Int32} {σ s : mS} {q : Bool} (ha : a ≠ 1) (h : wN σ) (e : gRow tr a f many sec thr low σ = (q, s)) : rQ a σ s := by
  unfold gRow at e
  refine rQ.gB (fun q s hs => rQ.trd h hs) (fun s hs q t e => ?_) e
  unfold gRow1 at e
  have k1 : rQ a s (tTok (sa s a f (mI s 19))) := (rQ.sa hs ha).tr (rQ.tok (hs.sa ha))
  refine k1.tr (rQ.gB (fun q s hs => rQ.num k1.1 hs) (fun s hs q t e => ?_) e)
  have k2 : rQ a s (sa s a (f + 1) (mI s 19)) := rQ.sa hs ha
  refine k2.tr (rQ.gB (fun q s hs => rQ.num k2.1 hs) (fun s hs q t e => ?_) e)
  have k3 : rQ a s (sa s a (f + 2) (mI s 19)) := rQ.sa hs ha
  refine k3.tr (rQ.gB (fun q s hs => rQ.num k3.1 hs) (fun s hs q t e => ?_) e)
  have k4 : rQ a s (sa s a (f + 3) (mI s 19)) := rQ.sa hs ha
  refine k4.tr ?_
  generalize sa s a (f + 3) (mI s 19) = s4 at e k4
  have hN := k4.1
  have kk : rQ a s4 (tTok (sa s4 a (f + 4) (mI s4 9))) := (rQ.sa hN ha).tr (rQ.tok (hN.sa ha))
  unfold gRow2 gRow3 at e
  by_cases c1 : many < 5
  · rw [if_pos c1] at e; cases e; exact rQ.rf hN
  · rw [if_neg c1] at e
    by_cases c2 : mI s4 8 = nI 3
    · rw [if_pos c2] at e
      by_cases c3 : mI s4 9 = nI 5
      · rw [if_pos c3] at e; cases e; exact kk
      · rw [if_neg c3] at e
        by_cases c4 : mI s4 9 = nI 10
        · rw [if_pos c4] at e; cases e; exact kk
        · rw [if_neg c4] at e; cases e; exact rQ.wr hN
    · rw [if_neg c2] at e; cases e; exact rQ.wr hN
def gSl (tr ns : Nat) (σ : mS) : Bool × mS := if ns = 12 then (false, gWr σ 2) else gB (gRow tr 3 (48 + 4 * ns) 4 (nI 1) (nI 99999) (nI 1) σ) (fun s => (true, sa s 6 11 (nI (ns + 1))))
def gBy (tr nb : Nat) (σ : mS) : Bool × mS := if nb = 12 then (false, gWr σ 2) else gB (gRow tr 4 (48 + 4 * nb) 4 (nI 2) (nI 9999) (nI 1) σ) (fun s => (true, sa s 6 12 (nI (nb + 1))))
def gAs (tr na : Nat) (σ : mS) : Bool × mS := if na = 4 then (false, gWr σ 2) else gB (gRow tr 5 (20 + 5 * na) 5 (nI 2) (nI 9999) (nI 1) σ) (fun s => (true, sa s 6 13 (nI (na + 1))))
def gWd1 (k : Nat) (s : mS) : Bool × mS := if k = 3 then (if mI s 8 = nI 1 then (if mI s 9 < nI 10 then (false, gWr s 1) else if mI s 9 = nI 11 then (true, tTok (sa s 6 7 (nI 0))) else if mI s 9 = nI 10 then (true, tTok (sa s 6 7 (nI 1))) else (true, tTok (sa s 6 7 (nI 2)))) else (false, gWr s 1))
  else if k = 4 then gB (gNum (nI 10) (nI 1000) s) (fun s2 => (true, sa s2 6 8 (mI s2 19)))
  else if k = 5 then gB (gNum (nI 0) (nI 9999) s) (fun s2 => (true, sa s2 6 9 (mI s2 19)))
  else gB (gNum (nI 0) (nI 99999) s) (fun s2 => (true, sa s2 6 10 (mI s2 19)))
def gWd (k : Nat) (σ : mS) : Bool × mS := if (mI σ 18 >>> (nI k &&& 31)) &&& nI 1 = nI 1 then (false, gWr σ 3) else gWd1 k (tTok (si σ 18 (mI σ 18 ||| (nI 1 <<< (nI k &&& 31)))))
