set_option maxRecDepth 100000
/-! WHAT IS ASKED: answers of the public readers -/
abbrev iT (T : Nat) (t : Int32) : Prop := 0 ≤ t ∧ t < nI T
abbrev iI (x a b : Int32) : Prop := a ≤ x ∧ x ≤ b
theorem iT.ex {T : Nat} {t : Int32} (h : iT T t) (hT : T < 2147483648) : ∃ n, t = nI n ∧ n < T := by
  have h1 := Int32.le_iff_toInt_le.mp h.1
  have h2 := Int32.lt_iff_toInt_lt.mp h.2
  rw [nI_toInt hT] at h2
  have h0 : (0 : Int32).toInt = 0 := rfl
  rw [h0] at h1
  refine ⟨t.toInt.toNat, ?_, by omega⟩
  apply Int32.toInt_inj.mp
  rw [nI_toInt (by omega)]
  omega
theorem iI.ex {a b : Nat} {t : Int32} (h : iI t (nI a) (nI b)) (ha : a < 2147483648) (hb : b < 2147483648) : ∃ n, t = nI n ∧ a ≤ n ∧ n ≤ b := by
  have h1 := Int32.le_iff_toInt_le.mp h.1
  have h2 := Int32.le_iff_toInt_le.mp h.2
  rw [nI_toInt ha] at h1
  rw [nI_toInt hb] at h2
  refine ⟨t.toInt.toNat, ?_, by omega, by omega⟩
  apply Int32.toInt_inj.mp
  rw [nI_toInt (by omega)]
  omega
theorem tab_ex (x : Int32) (n : Nat) (hn : n < 2147483648) : (∃ k, x = nI k ∧ k ≤ n) ∨ (x.toInt < 0 ∨ (n : Int) < x.toInt) := by
  by_cases h : 0 ≤ x.toInt ∧ x.toInt ≤ n
  · refine Or.inl ⟨x.toInt.toNat, ?_, by omega⟩
    apply Int32.toInt_inj.mp
    rw [nI_toInt (by omega)]
    omega
  · exact Or.inr (by omega)
theorem tab_ne {x : Int32} {n : Nat} (h : x.toInt < 0 ∨ (n : Int) < x.toInt) (j : Nat) (hj : j ≤ n) (hn : n < 2147483648) : ¬ x = nI j := by
  intro e
  subst e
  rw [nI_toInt (by omega)] at h
  omega
theorem nI_nn {a b : Nat} (h : a ≠ b) (ha : a < 2147483648) (hb : b < 2147483648) : ¬ nI a = nI b := by
  intro e
  have := congrArg Int32.toInt e
  rw [nI_toInt ha, nI_toInt hb] at this
  omega
/-- alike in what is seen between the calls -/
def sQ (σ σ' : mS) : Prop := mA σ' = mA σ ∧ (∀ c, c ≠ 1 → mK σ' c = mK σ c) ∧ (∀ k, k ≠ 2 → k ≠ 27 → mI σ' k = mI σ k)
theorem sQ.rf {σ : mS} : sQ σ σ := ⟨rfl, fun _ _ => rfl, fun _ _ _ => rfl⟩
theorem sQ.tr {σ σ1 σ2 : mS} (h : sQ σ σ1) (h2 : sQ σ1 σ2) : sQ σ σ2 := ⟨h2.1.trans h.1, fun c hc => (h2.2.1 c hc).trans (h.2.1 c hc), fun k h2' h27 => (h2.2.2 k h2' h27).trans (h.2.2 k h2' h27)⟩
theorem sQ.p2 {σ : mS} {v : Int32} : sQ σ (si σ 2 v) := ⟨rfl, fun _ _ => rfl, fun k hk _ => pk_un hk⟩
theorem sE.sQ {σ σ' : mS} (h : sE σ σ') : sQ σ σ' := ⟨h.1, fun _ _ => by rw [h.2.1], fun k _ h27 => h.2.2.1 k h27⟩
section SQ
variable {σ σ1 : mS} {Z Z' : Nat → Int64} {ho ha ho' ha' : Int64} {x : Int32}
theorem sQ.y (h : sQ σ σ1) : sQ σ (sy σ1 Z ho ha) := h.tr sE.sy.sQ
theorem sQ.y7 (h : sQ σ σ1) : sQ σ (sy (si σ1 27 x) Z ho ha) := h.tr (sE.s27.tr sE.sy).sQ
theorem sQ.yy7 (h : sQ σ σ1) : sQ σ (sy (si (sy σ1 Z ho ha) 27 x) Z' ho' ha') := h.tr (sE.sy.tr (sE.s27.tr sE.sy)).sQ
end SQ
theorem gq {G : gG} {ad : Nat → Nat} {M0 M : gM} {σ σ' : mS} {b : Nat} {B : Nat → Int32} {x r : Int32} (h : MF G ad M0 (sb σ' b B) M) (hs : sQ σ σ') (hr : x = r) : ∃ σ', sQ σ σ' ∧ MF G ad M0 (sb σ' b B) M ∧ x = r := ⟨σ', hs, h, hr⟩
def qSum (T : Nat) (B : Nat → Int32) (t q u : Int32) : Int32 := if iT T t then (if iT 64 q then (if iI u (nI 0) (nI 4) then B (1 + 320 * (dN t) + 5 * (dN q) + (dN u)) else (-1)) else (-1)) else (-1)
def qProv (A : Nat → Nat → Int32) (T : Nat) (B : Nat → Int32) (t q : Int32) : Int32 := if iT T t then (if iT 64 q then (if dN q ≤ pNow B then (if pNow B ≤ dN q then pProv A B (dN t) (dN q) (A 2 (8 * dN t + 2)) else B (1289 + 64 * dN t + dN q)) else (-2)) else (-1)) else (-1)
def qRec (T : Nat) (B : Nat → Int32) (t q : Int32) : Int32 := if iT T t then (if iT 64 q then (if pNow B ≤ dN q then (-2) else B (1545 + 64 * dN t + dN q)) else (-1)) else (-1)
abbrev iY (T : Nat) (B : Nat → Int32) (t y : Int32) : Prop := iT T t ∧ iT (pNow B / 4 + 1) y
def pYB (A : Nat → Nat → Int32) (B : Nat → Int32) (t y : Nat) : Int32 := pBk A (pAnn A B t y) (A 6 2) (pYS B t y)
def pSm (A : Nat → Nat → Int32) (f limit : Int32) (Z : Nat → Int64) : Int32 := if pWh Z - pIts (A 6 0) (A 6 1) f Z ≤ limit.toInt64 ∧ 2 * (pWh Z - pIts (A 6 0) (A 6 1) f Z) ≤ pWh Z then nI 1 else nI 0
def qAnn (A : Nat → Nat → Int32) (T : Nat) (B : Nat → Int32) (t y u : Int32) : Int32 := if iY T B t y then (if iI u (nI 0) (nI 3) then (if u = 0 then pAnn A B (dN t) (dN y) else if u = nI 1 then pYB A B (dN t) (dN y) else if u = nI 2 then pSm A (pAnn A B (dN t) (dN y)) (A 6 2) (pYS B (dN t) (dN y)) else pYB A B (dN t) (dN y) - pBin B (dN t) (dN y) 4) else (-999999)) else (-999999)
abbrev iA (B : Nat → Int32) (a : Int32) : Prop := iT (dN (B 1865)) a
def qInt (B : Nat → Int32) (a j u : Int32) : Int32 := if iA B a then (if iI j (nI 0) (B (2084 + 48 * (dN a) + 4) - nI 1) then (if iI u (nI 0) (nI 3) then (if dN j < dN (B (2084 + 48 * (dN a) + 47)) then (if u = 0 then nI (dN (B (2084 + 48 * (dN a) + 5)) / 4 + dN j) else if u = nI 1 then B (2084 + 48 * (dN a) + (17 + dN j)) else if u = nI 2 then B (2084 + 48 * (dN a) + (27 + dN j)) else B (2084 + 48 * (dN a) + (37 + dN j))) else (-999999)) else (-999999)) else (-999999)) else (-999999)
def qTak (B : Nat → Int32) (a : Int32) : Int32 := if iA B a then B (2084 + 48 * (dN a) + 10) else (-999999)
def qLast (B : Nat → Int32) (a : Int32) : Int32 := if iA B a then (if B (2084 + 48 * (dN a) + 11) = nI 1 then B (2084 + 48 * (dN a) + 12) else (-999999)) else (-999999)
def qBkd (B : Nat → Int32) (k u : Int32) : Int32 := if iT (dN (B 1867)) k then (if iI u (nI 0) (nI 4) then B (1868 + 5 * dN k + dN u) else (-999999)) else (-999999)
def qTot (T : Nat) (B : Nat → Int32) (t u : Int32) : Int32 := if iT T t then (if iI u (nI 0) (nI 3) then B (2068 + 4 * dN t + dN u) else (-999999)) else (-999999)
def qBy (A : Nat → Nat → Int32) (T : Nat) (B : Nat → Int32) (t y way mth step : Int32) : Int32 := if iY T B t y then (if iI way (nI 0) (nI 2) then (if iI mth (nI 0) (nI 2) then (if iI step (nI 10) (nI 1000) then pBack way step (pFrac mth way step (pYS B (dN t) (dN y)) (pHO B (dN t)) (pHA B (dN t))) (A 6 2) (pYS B (dN t) (dN y)) else (-999999)) else (-999999)) else (-999999)) else (-999999)
theorem iT_y {T : Nat} {t : Int32} (h1 : ¬ t < 0) (h2 : ¬ nI T ≤ t) : iT T t := ⟨Int32.not_lt.mp h1, Int32.not_le.mp h2⟩
theorem iT_n1 {T : Nat} {t : Int32} (h : t < 0) : ¬ iT T t := fun q => Int32.not_le.mpr h q.1
theorem iT_n2 {T : Nat} {t : Int32} (h : nI T ≤ t) : ¬ iT T t := fun q => Int32.not_le.mpr q.2 h
theorem iT_le {n : Nat} {y : Int32} (hn : n < 64) (h1 : ¬ y < 0) (h2 : ¬ nI n < y) : iT (n + 1) y := by
  refine ⟨Int32.not_lt.mp h1, ?_⟩
  have h3 := Int32.le_iff_toInt_le.mp (Int32.not_lt.mp h2)
  rw [nI_toInt (by omega)] at h3
  apply Int32.lt_iff_toInt_lt.mpr
  rw [nI_toInt (by omega)]
  omega
theorem iT_nle {n : Nat} {y : Int32} (hn : n < 64) (h : y < 0 ∨ nI n < y) : ¬ iT (n + 1) y := by
  intro q
  rcases h with h | h
  · exact Int32.not_le.mpr h q.1
  · have h2 := Int32.lt_iff_toInt_lt.mp q.2
    have h3 := Int32.lt_iff_toInt_lt.mp h
    rw [nI_toInt (by omega)] at h2 h3
    omega
