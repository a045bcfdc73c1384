set_option maxRecDepth 100000
/-- a long that is far from the ends -/
def sm (x : Int64) : Prop := -1125899906842624 < x.toInt ∧ x.toInt < 1125899906842624
def sZ (Z : Nat → Int64) (ho ha : Int64) : Prop := (∀ k, sm (Z k)) ∧ sm ho ∧ sm ha
theorem l_add {x y : Int64} (hx : -4611686018427387904 < x.toInt ∧ x.toInt < 4611686018427387904) (hy : -4611686018427387904 < y.toInt ∧ y.toInt < 4611686018427387904) : (x + y).toInt = x.toInt + y.toInt := by
  rw [Int64.toInt_add]
  exact Int.bmod_eq_of_le (by omega) (by omega)
theorem l_i2 {x : Int64} (hx : -4611686018427387904 < x.toInt ∧ x.toInt < 4611686018427387904) : (2 * x).toInt = 2 * x.toInt := by
  rw [Int64.toInt_mul, show (2 : Int64).toInt = 2 from rfl]
  exact Int.bmod_eq_of_le (by omega) (by omega)
theorem l_ne {x : Int64} : ¬ x = 0 ↔ x.toInt ≠ 0 := by
  constructor
  · intro h e; exact h (Int64.toInt_inj.mp (by rw [e]; rfl))
  · intro h e; subst e; exact h rfl
theorem sm_2 {x : Int64} (h : -4611686018427387904 < x.toInt ∧ x.toInt < 4611686018427387904) (hx : ¬ x = 0) : ¬ 2 * x = 0 := by
  rw [l_ne] at hx ⊢
  rw [l_i2 h]; omega
theorem sm_i (x : Int32) : -2147483648 ≤ x.toInt64.toInt ∧ x.toInt64.toInt < 2147483648 := by
  rw [Int32.toInt_toInt64]
  have h1 := Int32.le_toInt x
  have h2 := Int32.toInt_lt x
  omega
theorem sm_a {x y : Int64} (hx : sm x) (hy : sm y) : -4611686018427387904 < (x + y).toInt ∧ (x + y).toInt < 4611686018427387904 := by
  unfold sm at hx hy
  rw [l_add (by omega) (by omega)]; omega
theorem sm_pQS (B : Nat → Int32) (t q k : Nat) : sm (pQS B t q k) := by
  have := sm_i (B (1 + 320 * t + 5 * q + k))
  unfold sm pQS; omega
theorem sm_pHO (B : Nat → Int32) (t : Nat) : sm (pHO B t) := by
  have := sm_i (B (1281 + 2 * t))
  unfold sm pHO; omega
theorem sm_pHA (B : Nat → Int32) (t : Nat) : sm (pHA B t) := by
  have := sm_i (B (1281 + 2 * t + 1))
  unfold sm pHA; omega
theorem sm_pYSn (B : Nat → Int32) (t y k : Nat) : ∀ n : Nat, n ≤ 4 → -(2147483648 * (n : Int)) ≤ (pYSn B t y n k).toInt ∧ (pYSn B t y n k).toInt ≤ 2147483648 * (n : Int)
  | 0, _ => by simp only [pYSn, Int64.toInt_zero]; omega
  | n + 1, hn => by
    have h1 := sm_pYSn B t y k n (by omega)
    have h2 := sm_i (B (1 + 320 * t + 5 * (4 * y + n) + k))
    show -(2147483648 * ((n + 1 : Nat) : Int)) ≤ (pYSn B t y n k + (B (1 + 320 * t + 5 * (4 * y + n) + k)).toInt64).toInt ∧ (pYSn B t y n k + (B (1 + 320 * t + 5 * (4 * y + n) + k)).toInt64).toInt ≤ _
    rw [l_add (by omega) (by omega)]
    omega
theorem sm_pYS (B : Nat → Int32) (t y k : Nat) : sm (pYS B t y k) := by
  have := sm_pYSn B t y k 4 (Nat.le_refl 4)
  unfold sm pYS; omega
theorem sZ_q (B : Nat → Int32) (t q : Nat) : sZ (pQS B t q) (pHO B t) (pHA B t) := ⟨sm_pQS B t q, sm_pHO B t, sm_pHA B t⟩
theorem sZ_y (B : Nat → Int32) (t y : Nat) : sZ (pYS B t y) (pHO B t) (pHA B t) := ⟨sm_pYS B t y, sm_pHO B t, sm_pHA B t⟩
/-- the whole of a fraction isn't near the ends -/
def pWhole (mth : Int32) (Z : Nat → Int64) (ha : Int64) : Int64 := if mth = 0 then Z 0 + Z 1 else if mth = nI 1 then Z 2 + Z 3 else ha
theorem sm_whole {mth : Int32} {Z : Nat → Int64} {ho ha : Int64} (h : sZ Z ho ha) : -4611686018427387904 < (pWhole mth Z ha).toInt ∧ (pWhole mth Z ha).toInt < 4611686018427387904 := by
  unfold pWhole
  split
  · exact sm_a (h.1 0) (h.1 1)
  · split
    · exact sm_a (h.1 2) (h.1 3)
    · have := h.2.2; unfold sm at this; omega
theorem l_step {x : Int32} (h : isN x 1000) (h10 : 10 ≤ dN x) : ¬ x.toInt64 = 0 ∧ ¬ 2 * x.toInt64 = 0 := by
  have e : x.toInt64.toInt = (dN x : Int) := by rw [h.1, Int32.toInt_toInt64, nI_toInt (by have := h.2; omega)]; rw [dN_nI (by have := h.2; omega)]
  have h2 := h.2
  have h0 : ¬ x.toInt64 = 0 := by rw [l_ne, e]; omega
  exact ⟨h0, sm_2 (by omega) h0⟩
/-- a trader's fraction by what a text says; the first one; annual, provisional -/
def pFr (A : Nat → Nat → Int32) (Z : Nat → Int64) (ho ha : Int64) (t : Nat) : Int32 := pFrac (A 2 (8 * t + 1)) (A 6 0) (A 6 1) Z ho ha
def pBk (A : Nat → Nat → Int32) (f limit : Int32) (Z : Nat → Int64) : Int32 := pBack (A 6 0) (A 6 1) f limit Z
def pFst (A : Nat → Nat → Int32) (t : Nat) : Int32 := if A 2 (8 * t + 7) < A 6 1 then A 2 (8 * t + 7) else A 6 1
def pAnn (A : Nat → Nat → Int32) (B : Nat → Int32) (t y : Nat) : Int32 := if y < pYr B then B (1801 + 16 * t + y) else pFr A (pYS B t y) (pHO B t) (pHA B t) t
def pProv (A : Nat → Nat → Int32) (B : Nat → Int32) (t q : Nat) (bs : Int32) : Int32 :=
  if bs = 0 then pFr A (pQS B t q) (pHO B t) (pHA B t) t
  else if q < 4 then (if A 2 (8 * t + 6) = nI 1 then pFst A t else pFr A (pQS B t q) (pHO B t) (pHA B t) t)
  else if bs = nI 1 then B (1801 + 16 * t + q / 4 - 1) else nI 0
/-- a row of the books -/
def pMany (B : Nat → Int32) : Nat := if dN (B 1867) < 40 then dN (B 1867) else 39
def pShift (B : Nat → Int32) (n i : Nat) : Nat → Int32 := fun j => if 1873 + (5 * n - i) ≤ j ∧ j < 1873 + 5 * n then B (j - 5) else B j
def pBook (B : Nat → Int32) (t srt : Nat) (n a : Int32) : Nat → Int32 := pAdd (pAdd (upd (upd (upd (upd (upd (upd (pShift B (pMany B) (5 * pMany B)) 1868 (B 0)) 1869 (nI t)) 1870 (nI srt)) 1871 n) 1872 a) 1867 (nI (pMany B + 1))) 1866 (nI 1)) (2068 + 4 * t + srt) n
def pBin (B : Nat → Int32) (t y : Nat) : Nat → Int32
  | 0 => 0
  | n + 1 => pBin B t y n + B (1545 + 64 * t + (4 * y + n))
theorem pShift_0 (B : Nat → Int32) (n : Nat) : pShift B n 0 = B := by funext j; unfold pShift; rw [if_neg (by omega)]
theorem pShift_s (B : Nat → Int32) {n i : Nat} (hi : i < 5 * n) : upd (pShift B n i) (1868 + (5 * n - i - 1) + 5) (pShift B n i (1868 + (5 * n - i - 1))) = pShift B n (i + 1) := by
  funext j
  unfold upd pShift
  by_cases h : j = 1868 + (5 * n - i - 1) + 5
  · rw [if_pos h, if_neg (by omega), if_pos (by omega), h]; congr 1
  · rw [if_neg h]
    by_cases h2 : 1873 + (5 * n - i) ≤ j ∧ j < 1873 + 5 * n
    · rw [if_pos h2, if_pos (by omega)]
    · rw [if_neg h2, if_neg (by omega)]
