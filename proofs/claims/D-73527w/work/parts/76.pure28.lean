set_option maxRecDepth 100000
/-- lines are read until the end: whether all are right, the state, how many -/
def gLoop : Nat → mS → Nat → Bool × mS × Nat
  | 0, σ, n => (true, σ, n)
  | f + 1, σ, n => if mI σ 8 = nI 0 then (true, σ, n) else if (gLine σ).1 = true then gLoop f (gLine σ).2 (n + 1) else (false, (gLine σ).2, n)
theorem mu_0 {σ : mS} (h : mu σ = 0) : mI σ 8 = nI 0 := by
  unfold mu at h
  by_cases e : mI σ 8 = nI 0
  · exact e
  · rw [if_neg e] at h; omega
theorem gLoop_f : ∀ f σ n, wC σ → mu σ ≤ f → gLoop f σ n = gLoop (mu σ) σ n
  | 0, σ, n, _, h => by rw [show mu σ = 0 by omega]
  | f + 1, σ, n, hC, h => by
    rcases Nat.eq_zero_or_pos (mu σ) with h0 | hp
    · rw [h0]
      show (if mI σ 8 = nI 0 then _ else _) = _
      rw [if_pos (mu_0 h0)]
      rfl
    · obtain ⟨m, hm⟩ : ∃ m, mu σ = m + 1 := ⟨mu σ - 1, by omega⟩
      rw [hm]
      show (if mI σ 8 = nI 0 then _ else if (gLine σ).1 = true then gLoop f (gLine σ).2 (n + 1) else _) = (if mI σ 8 = nI 0 then _ else if (gLine σ).1 = true then gLoop m (gLine σ).2 (n + 1) else _)
      by_cases c0 : mI σ 8 = nI 0
      · rw [if_pos c0, if_pos c0]
      · rw [if_neg c0, if_neg c0]
        by_cases c1 : (gLine σ).1 = true
        · rw [if_pos c1, if_pos c1]
          have k := wC_Ln hC (s := (gLine σ).2) (by rw [← c1])
          rw [gLoop_f f _ _ k.1 (by omega), gLoop_f m _ _ k.1 (by omega)]
        · rw [if_neg c1, if_neg c1]
def gRd (σ : mS) (n : Nat) : Bool × mS × Nat := gLoop (mu σ) σ n
theorem gRd_0 {σ : mS} {n : Nat} (h : mI σ 8 = nI 0) : gRd σ n = (true, σ, n) := by
  unfold gRd
  cases mu σ with
  | zero => rfl
  | succ f => exact if_pos h
theorem gRd_t {σ s : mS} {n : Nat} (hC : wC σ) (h : ¬ mI σ 8 = nI 0) (e : gLine σ = (true, s)) : gRd σ n = gRd s (n + 1) := by
  have k := wC_Ln hC e
  unfold gRd
  obtain ⟨m, hm⟩ : ∃ m, mu σ = m + 1 := ⟨mu σ - 1, by omega⟩
  rw [hm]
  show (if mI σ 8 = nI 0 then _ else if (gLine σ).1 = true then gLoop m (gLine σ).2 (n + 1) else _) = _
  rw [if_neg h, e, if_pos rfl]
  exact gLoop_f m s (n + 1) k.1 (by omega)
theorem gRd_f {σ s : mS} {n : Nat} (h : ¬ mI σ 8 = nI 0) (e : gLine σ = (false, s)) : gRd σ n = (false, s, n) := by
  unfold gRd
  obtain ⟨m, hm⟩ : ∃ m, mu σ = m + 1 := ⟨mu σ - 1, by
    have : mu σ ≠ 0 := fun q => h (mu_0 q)
    omega⟩
  rw [hm]
  show (if mI σ 8 = nI 0 then _ else if (gLine σ).1 = true then gLoop m (gLine σ).2 (n + 1) else _) = _
  rw [if_neg h, e, if_neg (by intro q; cases q)]
/-- the state in which reading begins -/
def tRd0 (σ : mS) (n : Nat) : mS := tPlain (si (si (si (si (si σ 6 (nI n)) 1 (nI 0)) 4 (nI 0)) 5 (-1)) 7 (nI 0))
theorem wC_0 {σ : mS} {n : Nat} (hn : n ≤ 700) (hw : mA σ 1 = wdA) : wC (tRd0 σ n) := by
  have i7 : mI (tRd0 σ n) 7 = nI 0 := rfl
  have i6 : mI (tRd0 σ n) 6 = nI n := rfl
  have i12 : mI (tRd0 σ n) 12 = nI 0 := rfl
  have a1 : mA (tRd0 σ n) 1 = mA σ 1 := rfl
  have a6 : ∀ j, 7 ≤ j → j < 14 → mA (tRd0 σ n) 6 j = if j = 8 then nI 100 else nI 0 := by
    intro j h7 h14
    show upd (fun j => if 7 ≤ j ∧ j < 7 + 7 then nI 0 else σ.2.1 6 j) 8 (nI 100) j = _
    unfold upd
    by_cases e : j = 8
    · rw [if_pos e, if_pos e]
    · rw [if_neg e, if_neg e]; exact if_pos (by omega)
  refine ⟨⟨0, n, i7, i6, by omega, hn, a1.trans hw⟩, by rw [i12]; exact isN.nI (by omega) (by omega), ?_⟩
  rw [i12, dN_nI (by omega)]
  unfold wCA
  rw [a6 11 (by omega) (by omega), a6 12 (by omega) (by omega), a6 13 (by omega) (by omega), a6 7 (by omega) (by omega), a6 8 (by omega) (by omega), a6 9 (by omega) (by omega), a6 10 (by omega) (by omega)]
  rw [if_neg (by decide), if_neg (by decide), if_neg (by decide), if_neg (by decide), if_pos rfl, if_neg (by decide), if_neg (by decide), dN_nI (by omega), dN_nI (by omega)]
  have z : ∀ M : Nat, M < 2147483648 → isN (nI 0) M := fun M hM => isN.nI (by omega) hM
  exact ⟨⟨z _ (by omega), z _ (by omega), z _ (by omega)⟩, ⟨z _ (by omega), ⟨isN.nI (by omega) (by omega), by omega⟩, z _ (by omega), z _ (by omega)⟩, fun k hk => absurd hk (by omega), fun k hk => absurd hk (by omega), fun k hk => absurd hk (by omega), fun t ht => absurd ht (by omega)⟩
theorem tCp_s {σ : mS} {a n j : Nat} (h : j < n) : mA (tCp σ a n) a j = mA σ a (n + j) := by
  show (if a = a then (fun j => if 0 ≤ j ∧ j < 0 + n then mA σ a (n + j) else σ.2.1 a j) else σ.2.1 a) j = _
  rw [if_pos rfl]
  exact if_pos (by omega)
theorem tCp_b {σ : mS} {a n b : Nat} (h : b ≠ a) : mA (tCp σ a n) b = mA σ b := if_neg h
theorem tTx_2 {σ : mS} {tr j : Nat} (h : j < 32) : mA (tTx σ tr) 2 j = mA σ 2 (32 + j) := by
  unfold tTx
  rw [tCp_b (by decide), tCp_b (by decide), tCp_b (by decide), tCp_b (by decide), tCp_s h]; rfl
theorem tTx_3 {σ : mS} {tr j : Nat} (h : j < 48) : mA (tTx σ tr) 3 j = mA σ 3 (48 + j) := by
  unfold tTx
  rw [tCp_b (by decide), tCp_b (by decide), tCp_b (by decide), tCp_s h, tCp_b (by decide)]; rfl
theorem tTx_4 {σ : mS} {tr j : Nat} (h : j < 48) : mA (tTx σ tr) 4 j = mA σ 4 (48 + j) := by
  unfold tTx
  rw [tCp_b (by decide), tCp_b (by decide), tCp_s h, tCp_b (by decide), tCp_b (by decide)]; rfl
theorem tTx_5 {σ : mS} {tr j : Nat} (h : j < 20) : mA (tTx σ tr) 5 j = mA σ 5 (20 + j) := by
  unfold tTx
  rw [tCp_b (by decide), tCp_s h, tCp_b (by decide), tCp_b (by decide), tCp_b (by decide)]; rfl
theorem tTx_6 {σ : mS} {tr j : Nat} (h : j < 7) : mA (tTx σ tr) 6 j = mA σ 6 (7 + j) := by
  unfold tTx
  rw [tCp_s h, tCp_b (by decide), tCp_b (by decide), tCp_b (by decide), tCp_b (by decide)]; rfl
/-- what was read is a text well formed -/
theorem wT_tx {σ : mS} {tr : Nat} (h : wC σ) (ht : mI σ 12 = nI tr) (h4 : tr ≤ 4) : wT tr (mA (tTx σ tr)) := by
  obtain ⟨-, -, hA⟩ := h
  rw [ht, dN_nI (by omega)] at hA
  obtain ⟨⟨a11, a12, a13⟩, ⟨q7, q8, q9, q10⟩, r3, r4, r5, r2⟩ := hA
  have h11 := a11.2
  have h12 := a12.2
  have h13 := a13.2
  unfold wT
  rw [tTx_6 (j := 0) (by omega), tTx_6 (j := 1) (by omega), tTx_6 (j := 2) (by omega), tTx_6 (j := 3) (by omega), tTx_6 (j := 4) (by omega), tTx_6 (j := 5) (by omega), tTx_6 (j := 6) (by omega)]
  refine ⟨h4, q7, q8.1, q8.2, q9, q10, a11, a12, a13, fun k hk => ?_, fun k hk => ?_, fun k hk => ?_, fun t hk => ?_⟩
  · have hk : k < dN (mA σ 6 11) := hk
    obtain ⟨⟨v0, v0b⟩, v1, v2, v3⟩ := r3 k hk
    rw [tTx_3 (by omega), tTx_3 (by omega), tTx_3 (by omega), tTx_3 (by omega)]
    exact ⟨v0, v0b, v1, v2, v3⟩
  · have hk : k < dN (mA σ 6 12) := hk
    obtain ⟨⟨v0, v0b⟩, v1, v2, v3⟩ := r4 k hk
    rw [tTx_4 (by omega), tTx_4 (by omega), tTx_4 (by omega), tTx_4 (by omega)]
    exact ⟨v0, v0b, v1, v2, v3⟩
  · have hk : k < dN (mA σ 6 13) := hk
    obtain ⟨⟨⟨v0, v0b⟩, v1, v2, v3⟩, v4⟩ := r5 k hk
    rw [tTx_5 (by omega), tTx_5 (by omega), tTx_5 (by omega), tTx_5 (by omega), tTx_5 (by omega)]
    exact ⟨v0, v0b, v1, v2, v3, v4⟩
  · obtain ⟨v1, v2, v3, v4, v5, v6, v7, v8⟩ := r2 t hk
    rw [tTx_2 (by omega), tTx_2 (by omega), tTx_2 (by omega), tTx_2 (by omega), tTx_2 (by omega), tTx_2 (by omega), tTx_2 (by omega)]
    exact ⟨v1, v2, v3, v4, v5, v6, v7, v8⟩
