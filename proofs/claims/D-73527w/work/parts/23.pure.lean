set_option maxRecDepth 100000
/-! THE REFERENCE's FUNCTIONS, in plain Lean: of a bank B (now 0, sums 1.., heads 1281.., provisional 1289.., booked 1545.., annual 1801.., assets 1865, entries 1866, kept 1867, rows 1868.., totals 2068.., assets' rows 2084 + 48 a ..), of the arrays A (2 trader, 3 sales, 4 buys, 5 assets, 6 told) -/
def dN (x : Int32) : Nat := x.toNatClampNeg
theorem dN_nI {n : Nat} (h : n < 2147483648) : dN (nI n) = n := nI_clamp h
/-- an int is a number from 0 to M -/
def isN (x : Int32) (M : Nat) : Prop := x = nI (dN x) ∧ dN x ≤ M
theorem isN.nI {n M : Nat} (h : n ≤ M) (hM : M < 2147483648) : isN (nI n) M := ⟨by rw [dN_nI (by omega)], by rw [dN_nI (by omega)]; exact h⟩
theorem isN.mono {x : Int32} {M M' : Nat} (h : isN x M) (hM : M ≤ M') : isN x M' := ⟨h.1, Nat.le_trans h.2 hM⟩
def pNow (B : Nat → Int32) : Nat := dN (B 0)
def pYr (B : Nat → Int32) : Nat := pNow B / 4
def pAdd (B : Nat → Int32) (i : Nat) (v : Int32) : Nat → Int32 := upd B i (B i + v)
def pZero (B : Nat → Int32) (a n : Nat) : Nat → Int32 := fun j => if 2084 + 48 * a ≤ j ∧ j < 2084 + 48 * a + n then 0 else B j
def pAcq1 (B : Nat → Int32) (a t u : Nat) (tax span : Int32) : Nat → Int32 := upd (upd (upd (upd (upd (upd (pZero B a 48) (2084 + 48 * a + 0) (nI t)) (2084 + 48 * a + 1) (nI t)) (2084 + 48 * a + 2) (nI u)) (2084 + 48 * a + 3) tax) (2084 + 48 * a + 4) span) (2084 + 48 * a + 5) (B 0)
def pAcq (B : Nat → Int32) (t u : Nat) (tax span : Int32) : Nat → Int32 := upd (pAdd (pAcq1 B (dN (B 1865)) t u tax span) (1 + 320 * t + 5 * (pNow B) + (2 + u)) tax) 1865 (nI (dN (B 1865) + 1))
/-- of the sales told the first n come; of the tax; of the assets -/
def pCom3 (A : Nat → Nat → Int32) (q : Nat) (B : Nat → Int32) : Nat → Nat → Int32
  | 0 => B
  | n + 1 => if A 3 (4 * n + 1) = nI q then pAdd (pCom3 A q B n) (1 + 320 * (dN (A 3 (4 * n))) + 5 * q + (dN (A 3 (4 * n + 2)))) (A 3 (4 * n + 3)) else pCom3 A q B n
def pCom4 (A : Nat → Nat → Int32) (q : Nat) (B : Nat → Int32) : Nat → Nat → Int32
  | 0 => B
  | n + 1 => if A 4 (4 * n + 1) = nI q then pAdd (pCom4 A q B n) (1 + 320 * (dN (A 4 (4 * n))) + 5 * q + (2 + dN (A 4 (4 * n + 2)))) (A 4 (4 * n + 3)) else pCom4 A q B n
def pCom5 (A : Nat → Nat → Int32) (q : Nat) (B : Nat → Int32) : Nat → Nat → Int32
  | 0 => B
  | n + 1 => if A 5 (5 * n + 1) = nI q ∧ dN (pCom5 A q B n 1865) < 8 then pAcq (pCom5 A q B n) (dN (A 5 (5 * n))) (dN (A 5 (5 * n + 2))) (A 5 (5 * n + 3)) (A 5 (5 * n + 4)) else pCom5 A q B n
def pComes (A : Nat → Nat → Int32) (B : Nat → Int32) : Nat → Int32 := pCom5 A (pNow B) (pCom4 A (pNow B) (pCom3 A (pNow B) B (dN (A 6 4))) (dN (A 6 5))) (dN (A 6 6))
def pQuot (a b : Int64) : Int64 := if a - a / b * b < 0 then a / b - 1 else a / b
def pCut (way : Int32) (a b : Int64) : Int64 := if way = 0 then pQuot a b else if way = nI 1 then -pQuot (-a) b else pQuot (2 * a + b) (2 * b)
/-- sums of a quarter, of a year; heads -/
def pQS (B : Nat → Int32) (t q : Nat) : Nat → Int64 := fun k => (B (1 + 320 * t + 5 * q + k)).toInt64
def pYSn (B : Nat → Int32) (t y : Nat) : Nat → Nat → Int64
  | 0 => fun _ => 0
  | n + 1 => fun k => pYSn B t y n k + (B (1 + 320 * t + 5 * (4 * y + n) + k)).toInt64
def pYS (B : Nat → Int32) (t y : Nat) : Nat → Int64 := pYSn B t y 4
def pHO (B : Nat → Int32) (t : Nat) : Int64 := (B (1281 + 2 * t)).toInt64
def pHA (B : Nat → Int32) (t : Nat) : Int64 := (B (1281 + 2 * t + 1)).toInt64
def pFrac (mth way step : Int32) (Z : Nat → Int64) (ho ha : Int64) : Int32 :=
  if (if mth = 0 then Z 0 + Z 1 else if mth = nI 1 then Z 2 + Z 3 else ha) = 0 then step
  else (pCut way (step.toInt64 * (if mth = 0 then Z 0 else if mth = nI 1 then Z 2 else ho)) (if mth = 0 then Z 0 + Z 1 else if mth = nI 1 then Z 2 + Z 3 else ha)).toInt32
def pIts (way step f : Int32) (Z : Nat → Int64) : Int64 := Z 2 + pCut way (Z 4 * f.toInt64) step.toInt64
def pWh (Z : Nat → Int64) : Int64 := Z 2 + Z 3 + Z 4
def pSma (way step f limit : Int32) (Z : Nat → Int64) : Prop := pWh Z - pIts way step f Z ≤ limit.toInt64 ∧ 2 * (pWh Z - pIts way step f Z) ≤ pWh Z
def pBack (way step f limit : Int32) (Z : Nat → Int64) : Int32 := if pWh Z - pIts way step f Z ≤ limit.toInt64 ∧ 2 * (pWh Z - pIts way step f Z) ≤ pWh Z then (pWh Z).toInt32 else (pIts way step f Z).toInt32
/-- what a text holds: T traders; told (6): way, step, limit, seed, how many sales, tax, assets -/
def wT (T : Nat) (A : Nat → Nat → Int32) : Prop := T ≤ 4 ∧ isN (A 6 0) 2 ∧ isN (A 6 1) 1000 ∧ 10 ≤ dN (A 6 1) ∧ isN (A 6 2) 9999 ∧ isN (A 6 3) 99999 ∧ isN (A 6 4) 12 ∧ isN (A 6 5) 12 ∧ isN (A 6 6) 4 ∧
  (∀ k, k < dN (A 6 4) → isN (A 3 (4 * k)) 3 ∧ dN (A 3 (4 * k)) < T ∧ isN (A 3 (4 * k + 1)) 63 ∧ isN (A 3 (4 * k + 2)) 1 ∧ isN (A 3 (4 * k + 3)) 99999) ∧
  (∀ k, k < dN (A 6 5) → isN (A 4 (4 * k)) 3 ∧ dN (A 4 (4 * k)) < T ∧ isN (A 4 (4 * k + 1)) 63 ∧ isN (A 4 (4 * k + 2)) 2 ∧ isN (A 4 (4 * k + 3)) 9999) ∧
  (∀ k, k < dN (A 6 6) → isN (A 5 (5 * k)) 3 ∧ dN (A 5 (5 * k)) < T ∧ isN (A 5 (5 * k + 1)) 63 ∧ isN (A 5 (5 * k + 2)) 2 ∧ isN (A 5 (5 * k + 3)) 9999 ∧ (A 5 (5 * k + 4) = nI 5 ∨ A 5 (5 * k + 4) = nI 10)) ∧
  (∀ t, t < T → isN (A 2 (8 * t + 1)) 2 ∧ isN (A 2 (8 * t + 2)) 1 ∧ isN (A 2 (8 * t + 3)) 1 ∧ isN (A 2 (8 * t + 4)) 999 ∧ isN (A 2 (8 * t + 5)) 999 ∧ dN (A 2 (8 * t + 4)) ≤ dN (A 2 (8 * t + 5)) ∧ isN (A 2 (8 * t + 6)) 1 ∧ isN (A 2 (8 * t + 7)) 1000)
section WT
variable {T : Nat} {A : Nat → Nat → Int32}
theorem wT.T4 (h : wT T A) : T ≤ 4 := h.1
theorem wT.way (h : wT T A) : isN (A 6 0) 2 := h.2.1
theorem wT.step (h : wT T A) : isN (A 6 1) 1000 := h.2.2.1
theorem wT.step10 (h : wT T A) : 10 ≤ dN (A 6 1) := h.2.2.2.1
theorem wT.limit (h : wT T A) : isN (A 6 2) 9999 := h.2.2.2.2.1
theorem wT.seed (h : wT T A) : isN (A 6 3) 99999 := h.2.2.2.2.2.1
theorem wT.ns (h : wT T A) : isN (A 6 4) 12 := h.2.2.2.2.2.2.1
theorem wT.nb (h : wT T A) : isN (A 6 5) 12 := h.2.2.2.2.2.2.2.1
theorem wT.na (h : wT T A) : isN (A 6 6) 4 := h.2.2.2.2.2.2.2.2.1
theorem wT.sale (h : wT T A) {k : Nat} (hk : k < dN (A 6 4)) : isN (A 3 (4 * k)) 3 ∧ dN (A 3 (4 * k)) < T ∧ isN (A 3 (4 * k + 1)) 63 ∧ isN (A 3 (4 * k + 2)) 1 ∧ isN (A 3 (4 * k + 3)) 99999 := h.2.2.2.2.2.2.2.2.2.1 k hk
theorem wT.buy (h : wT T A) {k : Nat} (hk : k < dN (A 6 5)) : isN (A 4 (4 * k)) 3 ∧ dN (A 4 (4 * k)) < T ∧ isN (A 4 (4 * k + 1)) 63 ∧ isN (A 4 (4 * k + 2)) 2 ∧ isN (A 4 (4 * k + 3)) 9999 := h.2.2.2.2.2.2.2.2.2.2.1 k hk
theorem wT.asset (h : wT T A) {k : Nat} (hk : k < dN (A 6 6)) : isN (A 5 (5 * k)) 3 ∧ dN (A 5 (5 * k)) < T ∧ isN (A 5 (5 * k + 1)) 63 ∧ isN (A 5 (5 * k + 2)) 2 ∧ isN (A 5 (5 * k + 3)) 9999 ∧ (A 5 (5 * k + 4) = nI 5 ∨ A 5 (5 * k + 4) = nI 10) := h.2.2.2.2.2.2.2.2.2.2.2.1 k hk
theorem wT.trader (h : wT T A) {t : Nat} (ht : t < T) : isN (A 2 (8 * t + 1)) 2 ∧ isN (A 2 (8 * t + 2)) 1 ∧ isN (A 2 (8 * t + 3)) 1 ∧ isN (A 2 (8 * t + 4)) 999 ∧ isN (A 2 (8 * t + 5)) 999 ∧ dN (A 2 (8 * t + 4)) ≤ dN (A 2 (8 * t + 5)) ∧ isN (A 2 (8 * t + 6)) 1 ∧ isN (A 2 (8 * t + 7)) 1000 := h.2.2.2.2.2.2.2.2.2.2.2.2 t ht
end WT
theorem pAdd_ne {B : Nat → Int32} {i j : Nat} {v : Int32} (h : j ≠ i) : pAdd B i v j = B j := pk_un h
theorem pAcq1_ne {B : Nat → Int32} {a t u j : Nat} {tax span : Int32} (h : j < 2084 + 48 * a ∨ 2084 + 48 * a + 48 ≤ j) : pAcq1 B a t u tax span j = B j := by
  unfold pAcq1
  rw [pk_un (by omega), pk_un (by omega), pk_un (by omega), pk_un (by omega), pk_un (by omega), pk_un (by omega)]
  unfold pZero
  rw [if_neg (by omega)]
theorem pAcq_ne {B : Nat → Int32} {t u j : Nat} {tax span : Int32} (h1 : j ≠ 1865) (h2 : j ≠ (1 + 320 * t + 5 * (pNow B) + (2 + u))) (h3 : j < 2084 + 48 * dN (B 1865) ∨ 2084 + 48 * dN (B 1865) + 48 ≤ j) : pAcq B t u tax span j = B j := by
  unfold pAcq
  rw [pk_un h1, pAdd_ne h2, pAcq1_ne h3]
theorem pAcq_na (B : Nat → Int32) (t u : Nat) (tax span : Int32) : pAcq B t u tax span 1865 = nI (dN (B 1865) + 1) := pk_us
theorem pCom3_ne {T : Nat} {A : Nat → Nat → Int32} (hw : wT T A) {q : Nat} (hq : q < 64) {B : Nat → Int32} {j : Nat} (hj : j < 1 ∨ 1281 ≤ j) : ∀ n, n ≤ dN (A 6 4) → pCom3 A q B n j = B j
  | 0, _ => rfl
  | n + 1, hn => by
    obtain ⟨h1, h2, h3, h4, h5⟩ := hw.sale (k := n) (by omega)
    have hT := hw.T4
    have h6 := h4.2
    unfold pCom3
    split
    · rw [pAdd_ne (by omega)]; exact pCom3_ne hw hq hj n (by omega)
    · exact pCom3_ne hw hq hj n (by omega)
theorem pCom4_ne {T : Nat} {A : Nat → Nat → Int32} (hw : wT T A) {q : Nat} (hq : q < 64) {B : Nat → Int32} {j : Nat} (hj : j < 1 ∨ 1281 ≤ j) : ∀ n, n ≤ dN (A 6 5) → pCom4 A q B n j = B j
  | 0, _ => rfl
  | n + 1, hn => by
    obtain ⟨h1, h2, h3, h4, h5⟩ := hw.buy (k := n) (by omega)
    have hT := hw.T4
    have h6 := h4.2
    unfold pCom4
    split
    · rw [pAdd_ne (by omega)]; exact pCom4_ne hw hq hj n (by omega)
    · exact pCom4_ne hw hq hj n (by omega)
theorem pCom5_0 {A : Nat → Nat → Int32} {q : Nat} {B : Nat → Int32} : ∀ n, pCom5 A q B n 0 = B 0
  | 0 => rfl
  | n + 1 => by
    unfold pCom5
    split
    · rw [pAcq_ne (by omega) (by omega) (by omega)]; exact pCom5_0 n
    · exact pCom5_0 n
theorem pCom5_na {A : Nat → Nat → Int32} {q : Nat} {B : Nat → Int32} (h : isN (B 1865) 8) : ∀ n, isN (pCom5 A q B n 1865) 8
  | 0 => h
  | n + 1 => by
    unfold pCom5
    split
    · rename_i hc; rw [pAcq_na]; exact isN.nI (by omega) (by omega)
    · exact pCom5_na h n
