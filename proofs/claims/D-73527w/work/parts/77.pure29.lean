set_option maxRecDepth 100000
theorem iT_le2 {n : Nat} {y : Int32} (hn : n < 2147483647) (h1 : ¬ y < 0) (h2 : y ≤ nI n) : iT (n + 1) y := by
  refine ⟨Int32.not_lt.mp h1, ?_⟩
  have h3 := Int32.le_iff_toInt_le.mp h2
  rw [nI_toInt (by omega)] at h3
  apply Int32.lt_iff_toInt_lt.mpr
  rw [nI_toInt (by omega)]
  omega
theorem iT_nle2 {n : Nat} {y : Int32} (hn : n < 2147483647) (h : ¬ y ≤ nI n) : ¬ iT (n + 1) y := by
  intro q
  have h2 := Int32.lt_iff_toInt_lt.mp q.2
  have h3 := Int32.lt_iff_toInt_lt.mp (Int32.not_le.mp h)
  rw [nI_toInt (by omega)] at h2 h3
  omega
/-- a text of n bytes is read: the state, the answer -/
def tText (σ : mS) (n : Nat) : mS × Int32 := if (gRd (tTok (tRd0 σ n)) 0).1 = true then (tKT (gRd (tTok (tRd0 σ n)) 0).2.1 (dN (mI (gRd (tTok (tRd0 σ n)) 0).2.1 12)), nI (gRd (tTok (tRd0 σ n)) 0).2.2) else ((gRd (tTok (tRd0 σ n)) 0).2.1, (-1))
def qText (σ : mS) (ts : Nat) (n : Int32) : mS × Int32 := if iT (ts + 1) n then tText (si σ 2 (nI 0)) (dN n) else (si σ 2 (nI 0), (-2))
theorem gtx {G : gG} {ad : Nat → Nat} {M0 M : gM} {σ' : mS} {r : Int32} {q : mS × Int32} (h : MF G ad M0 σ' M) (e : q = (σ', r)) : MF G ad M0 q.1 M ∧ q.2 = r := by subst e; exact ⟨h, rfl⟩
