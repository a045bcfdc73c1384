set_option maxRecDepth 100000
theorem sT.k {σ σ' : mS} (h : sT σ σ') (k : Nat) (hk : k ≠ 4 ∧ k ≠ 5 ∧ k ≠ 7 ∧ k ≠ 8 ∧ k ≠ 9 ∧ k ≠ 10 ∧ k ≠ 19) : mI σ' k = mI σ k := h.2.2 k hk.1 hk.2.1 hk.2.2.1 hk.2.2.2.1 hk.2.2.2.2.1 hk.2.2.2.2.2.1 hk.2.2.2.2.2.2
theorem sT.wr {σ : mS} {k : Nat} : sT σ (gWr σ k) := ⟨rfl, rfl, fun j h4 h5 _ _ _ _ _ => by
  show upd (upd σ.1 4 (nI k)) 5 (mI σ 10) j = _
  rw [pk_un h5, pk_un h4]⟩
theorem wN.wr {σ : mS} {k : Nat} (h : wN σ) : wN (gWr σ k) := (h.si (by decide) (by decide)).si (by decide) (by decide)
theorem mu_si {σ : mS} {j : Nat} {v : Int32} (h : j ≠ 6 ∧ j ≠ 7 ∧ j ≠ 8) : mu (si σ j v) = mu σ := by
  unfold mu
  show 2 * (dN (upd σ.1 j v 6) - dN (upd σ.1 j v 7)) + (if upd σ.1 j v 8 = nI 0 then 0 else 1) = _
  rw [pk_un (Ne.symm h.1), pk_un (Ne.symm h.2.1), pk_un (Ne.symm h.2.2)]
theorem mu_sa {σ : mS} {a i : Nat} {v : Int32} : mu (sa σ a i v) = mu σ := rfl
theorem wN.num {σ s : mS} {lo hi : Int32} {q : Bool} (h : wN σ) (e : gNum lo hi σ = (q, s)) : wN s ∧ sT σ s ∧ mu s ≤ mu σ := by
  unfold gNum at e
  by_cases h8 : mI σ 8 = nI 3
  · rw [if_pos h8] at e
    by_cases hi9 : iI (mI σ 9) lo hi
    · rw [if_pos hi9] at e
      cases e
      have hk := (h.si (j := 19) (v := mI σ 9) (by decide) (by decide)).tok
      exact ⟨hk.1, sT.s19.tr hk.2.1, by have := hk.2.2.1; rw [mu_si (by decide)] at this; exact this⟩
    · rw [if_neg hi9] at e
      cases e
      exact ⟨h.wr, sT.wr, by unfold gWr; rw [mu_si (by decide), mu_si (by decide)]; exact Nat.le_refl _⟩
  · rw [if_neg h8] at e
    cases e
    exact ⟨h.wr, sT.wr, by unfold gWr; rw [mu_si (by decide), mu_si (by decide)]; exact Nat.le_refl _⟩
def gNm (tr : Nat) (s : mS) : Int32 := qName (mA s) 32 tr (mI s 9)
/-- a trader's name is read; got is who -/
def gTR1 (tr : Nat) (s : mS) : Bool × mS := if mI s 8 = nI 2 then (if gNm tr s < 0 then (false, gWr (si s 19 (gNm tr s)) 4) else (true, si s 19 (gNm tr s))) else (false, gWr s 1)
def gTR (tr : Nat) (σ : mS) : Bool × mS := gTR1 tr (tTok σ)
def sClr (s : mS) (i n : Nat) : mS := (s.1, (fun a => if a = 2 then (fun j => if i ≤ j ∧ j < i + n then nI 0 else s.2.1 2 j) else s.2.1 a), s.2.2)
theorem sClr_0 (s : mS) (i : Nat) : sClr s i 0 = s := by
  have e : (fun a => if a = 2 then (fun j => if i ≤ j ∧ j < i + 0 then nI 0 else s.2.1 2 j) else s.2.1 a) = s.2.1 := by
    funext a j
    by_cases h : a = 2
    · subst h
      rw [if_pos rfl]
      exact if_neg (by omega)
    · rw [if_neg h]
  unfold sClr
  rw [e]
theorem sClr_s (s : mS) (i n : Nat) : sa (sClr s i n) 2 (i + n) (nI 0) = sClr s i (n + 1) := by
  have e : upd2 (sClr s i n).2.1 2 (i + n) (nI 0) = (sClr s i (n + 1)).2.1 := by
    funext a j
    unfold upd2
    by_cases h : a = 2
    · subst h
      rw [if_pos rfl]
      show upd (fun j => if i ≤ j ∧ j < i + n then nI 0 else s.2.1 2 j) (i + n) (nI 0) j = (if i ≤ j ∧ j < i + (n + 1) then nI 0 else s.2.1 2 j)
      unfold upd
      by_cases h2 : j = i + n
      · rw [if_pos h2, if_pos (by omega)]
      · rw [if_neg h2]
        by_cases h3 : i ≤ j ∧ j < i + n
        · simp only [if_pos h3]; rw [if_pos (by omega)]
        · simp only [if_neg h3]; rw [if_neg (by omega)]
    · rw [if_neg h]
      show (if a = 2 then _ else s.2.1 a) j = (if a = 2 then _ else s.2.1 a) j
      rw [if_neg h, if_neg h]
  unfold sa
  rw [e]
  rfl
theorem wN.clr {s : mS} {i n : Nat} (h : wN s) : wN (sClr s i n) := by
  obtain ⟨m, sp, e7, e6, hl, hl2, hw⟩ := h
  exact ⟨m, sp, e7, e6, hl, hl2, hw⟩
def gTL2 (tr : Nat) (s : mS) : Bool × mS := gB (gNum (nI 0) (nI 2) s) (fun s2 => gB (gNum (nI 0) (nI 1) (sa s2 2 (32 + 8 * tr + 1) (mI s2 19))) (fun s3 => (true, si (sa s3 2 (32 + 8 * tr + 2) (mI s3 19)) 12 (nI (tr + 1)))))
def gTL1 (tr : Nat) (s : mS) : Bool × mS := if mI s 8 = nI 2 then (if gNm tr s < 0 then gTL2 tr (tTok (sa (sClr s (32 + 8 * tr) 8) 2 (32 + 8 * tr) (mI (sClr s (32 + 8 * tr) 8) 9))) else (false, gWr s 3)) else (false, gWr s 1)
def gTL (tr : Nat) (σ : mS) : Bool × mS := if tr = 4 then (false, gWr σ 2) else gTL1 tr (tTok σ)
