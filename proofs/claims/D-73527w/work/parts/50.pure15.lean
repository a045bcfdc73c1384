set_option maxRecDepth 100000
def sX (σ σ' : mS) : Prop := mA σ' = mA σ ∧ mK σ' = mK σ ∧ ∀ k, k ≠ 27 → mI σ' k = mI σ k
theorem sE.sX {σ σ' : mS} (h : sE σ σ') : sX σ σ' := ⟨h.1, h.2.1, h.2.2.1⟩
theorem sX.tr {σ σ' σ'' : mS} (h : sX σ σ') (h2 : sX σ' σ'') : sX σ σ'' := ⟨h2.1.trans h.1, h2.2.1.trans h.2.1, fun k hk => (h2.2.2 k hk).trans (h.2.2 k hk)⟩
theorem mLs {σ : mS} {v : Int64} : mL (sl σ 28 v) 28 = v := by show vp_updL (mL σ) 28 v 28 = v; exact pk_uLs
theorem sQ_b1X {σ σ1 σ3 : mS} {B X : Nat → Int32} (h1 : sQ σ σ1) (h3 : sX (si (sb σ1 0 B) 21 (nI 1)) σ3) (hb : mI σ 21 = nI 0) : sQ (sb σ 0 B) (si (sb σ3 1 X) 21 (nI 0)) := by
  have q := sQ_b1 (σ3 := sl σ3 28 (mL σ1 28)) (X := X) h1 ⟨h3.1, h3.2.1, h3.2.2, mLs⟩ hb
  exact q
theorem wB_chB {T : Nat} {X : Nat → Int32} (h : wB T X) {t w : Nat} (ht : t < 4) (hw : w < 64) (d : Int64) : wB T (pChB X t w d) ∧ pChB X t w d 0 = X 0 := by
  have e0 : pChB X t w d 0 = X 0 := by unfold pChB; rw [pAdd_ne (by omega), pAdd_ne (by omega)]
  refine ⟨?_, e0⟩
  have ey : pYr (pChB X t w d) = pYr X := by show dN _ / 4 = dN _ / 4; rw [e0]
  show wBY T (fun _ => pYr _) _
  rw [ey]
  exact (wBY.add (wBY.add h (by omega)) (by omega))
/-! how much is needed -/
def nL (n : Nat) : Int64 := Int64.ofInt (n : Int)
theorem nL_i {n : Nat} (h : n < 1125899906842624) : (nL n).toInt = n := by
  unfold nL
  exact Int64.toInt_ofInt_of_le (by omega) (by omega)
theorem nL_sub {a b : Nat} (hab : a ≤ b) (hb : b < 1125899906842624) : nL b - nL a = nL (b - a) := by
  apply Int64.toInt_inj.mp
  rw [Int64.toInt_sub, nL_i hb, nL_i (by omega), nL_i (by omega), Int.bmod_eq_of_le (by omega) (by omega)]
  omega
theorem nL_le1 {a b : Nat} (hab : a ≤ b) (hb : b < 1125899906842624) : nL b - nL a ≤ 1 ↔ b - a ≤ 1 := by
  rw [nL_sub hab hb, Int64.le_iff_toInt_le, nL_i (by omega), Int64.toInt_one]
  omega
theorem nL_mid {a b : Nat} (ha : a < 1125899906842) (hb : b < 1125899906842) : (nL a + nL b) / 2 = nL ((a + b) / 2) := by
  apply Int64.toInt_inj.mp
  have e : (nL a + nL b).toInt = a + b := by
    rw [Int64.toInt_add, nL_i (by omega), nL_i (by omega)]
    exact Int.bmod_eq_of_le (by omega) (by omega)
  rw [Int64.toInt_div_of_ne_right _ _ (by decide), e, nL_i (by omega), show (2 : Int64).toInt = 2 from rfl, Int.tdiv_eq_ediv_of_nonneg (by omega)]
  omega
theorem nL_eq {a b : Nat} (ha : a < 1125899906842) (hb : b < 1125899906842) : nL a = nL b ↔ a = b := by
  constructor
  · intro h
    have := congrArg Int64.toInt h
    rw [nL_i (by omega), nL_i (by omega)] at this
    omega
  · intro h; rw [h]
theorem nL_32 {a : Nat} (ha : a < 2147483648) : (nL a).toInt32 = nI a := by
  apply Int32.toInt_inj.mp
  rw [Int64.toInt_toInt32, nL_i (by omega), nI_toInt (by omega)]
  exact Int.bmod_eq_of_le (by omega) (by omega)
def pNZ (Z : Nat → Int64) (n : Nat) : Nat → Int64 := vp_updL Z 0 (Z 0 + nL n)
theorem pNZ_0 (Z : Nat → Int64) : pNZ Z 0 = Z := by
  funext k
  unfold pNZ vp_updL
  by_cases e : k = 0
  · rw [if_pos e, e, show nL 0 = 0 from rfl, Int64.add_zero]
  · rw [if_neg e]
theorem pNZ_u {Z Z' : Nat → Int64} {n : Nat} (h : ∀ k, k ≠ 0 → Z' k = Z k) : vp_updL Z' 0 (Z 0 + nL n) = pNZ Z n := by
  funext k
  unfold pNZ vp_updL
  by_cases e : k = 0
  · rw [if_pos e, if_pos e]
  · rw [if_neg e, if_neg e]; exact h k e
theorem pNZ_ne {Z : Nat → Int64} {n k : Nat} (h : k ≠ 0) : pNZ Z n k = Z k := if_neg h
theorem sZ_nz (B : Nat → Int32) (t y n : Nat) (hn : n ≤ 100000000) : sZ (pNZ (pYS B t y) n) (pHO B t) (pHA B t) := by
  refine ⟨fun j => ?_, sm_pHO B t, sm_pHA B t⟩
  by_cases e : j = 0
  · subst e
    have h := sm_pYSn B t y 0 4 (by omega)
    show sm (vp_updL (pYS B t y) 0 (pYS B t y 0 + nL n) 0)
    rw [pk_uLs]
    unfold sm pYS
    rw [Int64.toInt_add, nL_i (by omega), Int.bmod_eq_of_le (by omega) (by omega)]
    omega
  · rw [pNZ_ne e]; exact sm_pYS B t y j
/-- with n more the fraction is there -/
def pNd (A : Nat → Nat → Int32) (B : Nat → Int32) (t y : Nat) (f : Int32) (n : Nat) : Prop := ¬ pFr A (pNZ (pYS B t y) n) (pHO B t) (pHA B t) t < f
def rNd (A : Nat → Nat → Int32) (B : Nat → Int32) (t y : Nat) (f r : Int32) : Prop := (pNd A B t y f 0 ∧ nI 0 = r) ∨ (¬ pNd A B t y f 0 ∧ ∃ hi, 1 ≤ hi ∧ hi ≤ 100000000 ∧ (hi = 100000000 ∨ pNd A B t y f hi) ∧ ¬ pNd A B t y f (hi - 1) ∧ (if hi = 100000000 then (-2) else nI hi) = r)
def qNeed (A : Nat → Nat → Int32) (T : Nat) (B : Nat → Int32) (t f r : Int32) : Prop := (if iT T t then (if iI f (nI 0) (A 6 1) then (if A 2 (8 * dN t + 1) = 0 then rNd A B (dN t) (pNow B / 4) f r else (-2) = r) else (-1) = r) else (-1) = r)
theorem gqp {G : gG} {ad : Nat → Nat} {M0 M : gM} {σ σ' : mS} {b : Nat} {B : Nat → Int32} {P : Prop} (h : MF G ad M0 (sb σ' b B) M) (hs : sQ σ σ') (hr : P) : ∃ σ', sQ σ σ' ∧ MF G ad M0 (sb σ' b B) M ∧ P := ⟨σ', hs, h, hr⟩
