set_option maxRecDepth 100000
/-- the best of n: the first, and then whatever is more -/
def pTop (init : Int32) (nm f : Nat → Int32) : Nat → Int32 × Int32
  | 0 => (init, nI 0)
  | n + 1 => if n = 0 ∨ (pTop init nm f n).2 < f n then (nm n, f n) else pTop init nm f n
theorem pTop_y {init : Int32} {nm f : Nat → Int32} {n : Nat} {m : Int32} (e : m = (pTop init nm f n).2) (h : n = 0 ∨ m < f n) : pTop init nm f (n + 1) = (nm n, f n) := if_pos (by rw [← e]; exact h)
theorem pTop_n {init : Int32} {nm f : Nat → Int32} {n : Nat} {m : Int32} (e : m = (pTop init nm f n).2) (h : ¬ n = 0) (h2 : ¬ m < f n) : pTop init nm f (n + 1) = pTop init nm f n := if_neg (by rw [← e]; exact fun q => q.elim h h2)
def pTopL (f : Nat → Int64) : Nat → Int32 × Int64
  | 0 => (nI 0, 0)
  | n + 1 => if n = 0 ∨ (pTopL f n).2 < f n then (nI n, f n) else pTopL f n
theorem pTopL_y {f : Nat → Int64} {n : Nat} {m : Int64} (e : m = (pTopL f n).2) (h : n = 0 ∨ m < f n) : pTopL f (n + 1) = (nI n, f n) := if_pos (by rw [← e]; exact h)
theorem pTopL_n {f : Nat → Int64} {n : Nat} {m : Int64} (e : m = (pTopL f n).2) (h : ¬ n = 0) (h2 : ¬ m < f n) : pTopL f (n + 1) = pTopL f n := if_neg (by rw [← e]; exact fun q => q.elim h h2)
/-- the first below n that has it, or n -/
def pFind (P : Nat → Prop) [DecidablePred P] : Nat → Nat
  | 0 => 0
  | n + 1 => if pFind P n < n then pFind P n else if P n then n else n + 1
theorem pFind_le {P : Nat → Prop} [DecidablePred P] : ∀ n, pFind P n ≤ n
  | 0 => Nat.le_refl _
  | n + 1 => by
    have := pFind_le (P := P) n
    unfold pFind
    split
    · omega
    · split <;> omega
theorem pFind_s {P : Nat → Prop} [DecidablePred P] {n : Nat} (h : pFind P n = n) (hp : ¬ P n) : pFind P (n + 1) = n + 1 := by
  unfold pFind
  rw [h, if_neg (by omega), if_neg hp]
theorem pFind_h {P : Nat → Prop} [DecidablePred P] {n : Nat} (h : pFind P n = n) (hp : P n) : ∀ {m}, n < m → pFind P m = n
  | 0, hm => absurd hm (by omega)
  | m + 1, hm => by
    by_cases e : n = m
    · subst e
      unfold pFind
      rw [h, if_neg (by omega), if_pos hp]
    · have q := pFind_h h hp (m := m) (by omega)
      unfold pFind
      rw [q, if_pos (by omega)]
theorem pFind_all {P : Nat → Prop} [DecidablePred P] : ∀ n, (∀ k, k < n → ¬ P k) → pFind P n = n
  | 0, _ => rfl
  | n + 1, h => pFind_s (pFind_all n (fun k hk => h k (by omega))) (h n (by omega))
def fBM (A : Nat → Nat → Int32) (B : Nat → Int32) (t y m : Nat) : Int32 := pBk A (pFrac (nI m) (A 6 0) (A 6 1) (pYS B t y) (pHO B t) (pHA B t)) (A 6 2) (pYS B t y)
def fBS (A : Nat → Nat → Int32) (B : Nat → Int32) (t y k : Nat) : Int32 := pBack (A 6 0) (nI (10 + k)) (pFrac (A 2 (8 * t + 1)) (A 6 0) (nI (10 + k)) (pYS B t y) (pHO B t) (pHA B t)) (A 6 2) (pYS B t y)
def qBM (A : Nat → Nat → Int32) (T : Nat) (B : Nat → Int32) (t y : Int32) : Int32 := if iT T t then (if iI y (nI 0) (nI 15) then (if dN y ≤ pNow B / 4 then (pTop (nI 0) nI (fBM A B (dN t) (dN y)) 3).1 else (-2)) else (-1)) else (-1)
def qBS (A : Nat → Nat → Int32) (T : Nat) (B : Nat → Int32) (t y : Int32) : Int32 := if iT T t then (if iI y (nI 0) (nI 15) then (if dN y ≤ pNow B / 4 then (pTop (nI 0) (fun k => nI (10 + k)) (fBS A B (dN t) (dN y)) 991).1 else (-2)) else (-1)) else (-1)
def qLd (A : Nat → Nat → Int32) (T : Nat) (B : Nat → Int32) (y : Int32) : Int32 := if iI y (nI 0) (nI 15) then (if dN y ≤ pNow B / 4 then (pTop (-2) nI (fun t => pYB A B t (dN y)) T).1 else (-2)) else (-1)
def fFar (A : Nat → Nat → Int32) (B : Nat → Int32) (t y : Nat) : Int32 := if pYB A B t y - pBin B t y 4 < 0 then -(pYB A B t y - pBin B t y 4) else pYB A B t y - pBin B t y 4
def qFar (A : Nat → Nat → Int32) (T : Nat) (B : Nat → Int32) (t : Int32) : Int32 := if iT T t then (pTop (-2) nI (fFar A B (dN t)) (pNow B / 4)).1 else (-1)
/-- the sums of two in a year -/
def pAddQ (Z : Nat → Int64) (B : Nat → Int32) (t y : Nat) : Nat → Nat → Int64
  | 0 => Z
  | n + 1 => fun k => pAddQ Z B t y n k + (B (1 + 320 * t + 5 * (4 * y + n) + k)).toInt64
def pJS (B : Nat → Int32) (t u y : Nat) : Nat → Int64 := pAddQ (pYS B t y) B u y 4
def qJnt (A : Nat → Nat → Int32) (T : Nat) (B : Nat → Int32) (t u y : Int32) : Int32 := if iY T B t y then (if iT T u then (if dN t = dN u then (-999999) else pBk A (pFr A (pJS B (dN t) (dN u) (dN y)) (pHO B (dN t) + pHO B (dN u)) (pHA B (dN t) + pHA B (dN u)) (dN t)) (A 6 2) (pJS B (dN t) (dN u) (dN y))) else (-999999)) else (-999999)
def pLim (A : Nat → Nat → Int32) (B : Nat → Int32) (t y : Nat) : Int32 := if (2 : Int64) * (pWh (pYS B t y) - (pBk A (pAnn A B t y) (-1) (pYS B t y)).toInt64) ≤ pWh (pYS B t y) then (pWh (pYS B t y) - (pBk A (pAnn A B t y) (-1) (pYS B t y)).toInt64).toInt32 else (-2)
def qLim (A : Nat → Nat → Int32) (T : Nat) (B : Nat → Int32) (t y : Int32) : Int32 := if iT T t then (if iI y (nI 0) (nI 15) then (if dN y ≤ pNow B / 4 then pLim A B (dN t) (dN y) else (-2)) else (-1)) else (-1)
/-- how long what was booked rose, up to n; the most of it -/
def pRun (g : Nat → Int32) : Nat → Nat
  | 0 => 0
  | n + 1 => if 0 < pRun g n ∧ g (n - 1) < g n then pRun g n + 1 else 1
def pRis (g : Nat → Int32) : Nat → Nat
  | 0 => 0
  | n + 1 => if pRis g n < pRun g (n + 1) then pRun g (n + 1) else pRis g n
theorem pRun_le (g : Nat → Int32) : ∀ n, pRun g n ≤ n
  | 0 => Nat.le_refl _
  | n + 1 => by
    have := pRun_le g n
    unfold pRun
    split <;> omega
theorem pRis_le (g : Nat → Int32) : ∀ n, pRis g n ≤ n
  | 0 => Nat.le_refl _
  | n + 1 => by
    have := pRis_le g n
    have := pRun_le g (n + 1)
    unfold pRis
    split <;> omega
def qRise (T : Nat) (B : Nat → Int32) (t : Int32) : Int32 := if iT T t then nI (pRis (fun q => B (1545 + 64 * dN t + q)) (pNow B)) else (-1)
def fWait (A : Nat → Nat → Int32) (B : Nat → Int32) (a : Nat) (k : Int32) (w : Nat) : Int64 := pAdj A B a (pWorth A B a (B (2084 + 48 * a + 2))) (pBas A B a) * (nI (if iTh B a then w + 1 else w)).toInt64 + pLst A B a (pBeh B a - nI w) k (pBas A B a)
def qWait (A : Nat → Nat → Int32) (B : Nat → Int32) (a k : Int32) : Int32 := if iA B a then (if iI k (nI 0) (nI 1) then (if iG B (dN a) then (-2) else (pTopL (fWait A B (dN a) k) (dN (B (2084 + 48 * (dN a) + 4)) - (pNow B / 4 - dN (B (2084 + 48 * (dN a) + 5)) / 4))).1) else (-1)) else (-1)
def qEven (A : Nat → Nat → Int32) (B : Nat → Int32) (a m : Int32) : Int32 := if iA B a then (if iI m (-nI 99999) (nI 99999) then (if iTh B (dN a) then (if pFind (fun w => m.toInt64 ≤ pAdj A B (dN a) (nI w) (B (2084 + 48 * (dN a) + 6))) (dN (A 6 1) + 1) ≤ dN (A 6 1) then nI (pFind (fun w => m.toInt64 ≤ pAdj A B (dN a) (nI w) (B (2084 + 48 * (dN a) + 6))) (dN (A 6 1) + 1)) else (-2)) else (-3)) else (-1)) else (-1)
theorem sQ.s7 {σ σ1 : mS} {x : Int32} (h : sQ σ σ1) : sQ σ (si σ1 27 x) := h.tr sE.s27.sQ
theorem nI_gt0 {n : Nat} (h0 : 0 < n) (h : n < 2147483648) : (0 : Int32) < nI n := by
  have := nI_lt h0 h
  rwa [nI_0] at this
theorem pBeh_nat {T w Y : Nat} {B : Nat → Int32} {a : Nat} (h : wR T (pNow B) (pYr B) B a) (hw : pNow B ≤ 63) (hg : ¬ iG B a) : pBeh B a = nI (dN (B (2084 + 48 * a + 4)) - 1 - (pNow B / 4 - dN (B (2084 + 48 * a + 5)) / 4)) ∧ pNow B / 4 - dN (B (2084 + 48 * a + 5)) / 4 < dN (B (2084 + 48 * a + 4)) := by
  obtain ⟨s5, s10, se⟩ := h.span10
  have h0 : B (2084 + 48 * a + 9) = nI 0 := by
    have q := h.shut
    rcases (by have := q.2; omega : dN (B (2084 + 48 * a + 9)) = 0 ∨ dN (B (2084 + 48 * a + 9)) = 1) with e | e
    · rw [q.1, e]
    · exact absurd (Or.inl (by rw [q.1, e])) hg
  have ho := h.opn h0
  unfold pYr at ho
  have hi : pNow B / 4 - dN (B (2084 + 48 * a + 5)) / 4 < dN (B (2084 + 48 * a + 4)) := by omega
  refine ⟨?_, hi⟩
  unfold pBeh
  generalize dN (B (2084 + 48 * a + 5)) / 4 = q at *
  generalize dN (B (2084 + 48 * a + 4)) = s at *
  rw [se, pk_sub (by omega), pk_sub (by omega)]
theorem sm_pAddQ (B : Nat → Int32) (t u y k : Nat) : ∀ n : Nat, n ≤ 4 → -(2147483648 * (4 + (n : Int))) ≤ (pAddQ (pYS B t y) B u y n k).toInt ∧ (pAddQ (pYS B t y) B u y n k).toInt ≤ 2147483648 * (4 + (n : Int))
  | 0, _ => by
    have := sm_pYSn B t y k 4 (by omega)
    show _ ≤ (pYSn B t y 4 k).toInt ∧ (pYSn B t y 4 k).toInt ≤ _
    omega
  | n + 1, hn => by
    have h := sm_pAddQ B t u y k n (by omega)
    have e := sm_i (B (1 + 320 * u + 5 * (4 * y + n) + k))
    have a : (pAddQ (pYS B t y) B u y (n + 1) k).toInt = (pAddQ (pYS B t y) B u y n k).toInt + (B (1 + 320 * u + 5 * (4 * y + n) + k)).toInt64.toInt := by
      show (pAddQ (pYS B t y) B u y n k + (B (1 + 320 * u + 5 * (4 * y + n) + k)).toInt64).toInt = _
      rw [Int64.toInt_add, Int.bmod_eq_of_le (by omega) (by omega)]
    rw [a]
    constructor <;> omega
theorem sZ_j (B : Nat → Int32) (t u y : Nat) : sZ (pJS B t u y) (pHO B t + pHO B u) (pHA B t + pHA B u) := by
  refine ⟨fun k => ?_, ?_, ?_⟩
  · have := sm_pAddQ B t u y k 4 (by omega)
    unfold sm pJS
    omega
  · have h1 := sm_i (B (1281 + 2 * t))
    have h2 := sm_i (B (1281 + 2 * u))
    unfold sm pHO
    rw [Int64.toInt_add, Int.bmod_eq_of_le (by omega) (by omega)]
    omega
  · have h1 := sm_i (B (1281 + 2 * t + 1))
    have h2 := sm_i (B (1281 + 2 * u + 1))
    unfold sm pHA
    rw [Int64.toInt_add, Int.bmod_eq_of_le (by omega) (by omega)]
    omega
