set_option maxRecDepth 100000
/-- of whom it was, as bits; how many of the four -/
def pOwB (B : Nat → Int32) (a : Nat) : Nat → Int32
  | 0 => if B (2084 + 48 * a + 9) = nI 1 then nI 0 else nI 1 <<< (B (2084 + 48 * a + 0) &&& 31)
  | n + 1 => pOwB B a n ||| (nI 1 <<< (B (2084 + 48 * a + (37 + n)) &&& 31))
def pOwC (x : Int32) : Nat → Int32
  | 0 => nI 0
  | n + 1 => pOwC x n + ((x >>> (nI n &&& 31)) &&& nI 1)
def qOwn (B : Nat → Int32) (a : Int32) : Int32 := if iA B a then pOwC (pOwB B (dN a) (dN (B (2084 + 48 * (dN a) + 47)))) 4 else (-1)
/-- what a trader is: thrown, answer -/
def pBits (B : Nat → Int32) (t : Nat) : Nat → Int32
  | 0 => nI 0
  | n + 1 => pBits B t n ||| (if B (2084 + 48 * n + 0) = nI t ∧ B (2084 + 48 * n + 9) = 0 then nI 1 <<< (nI n &&& 31) else nI 0)
def qTr (A : Nat → Nat → Int32) (T : Nat) (B : Nat → Int32) (t u : Int32) : Nat × Int32 := if iT T t then (if u = nI 0 then (0, A 2 (8 * dN t + 1)) else if u = nI 1 then (0, A 2 (8 * dN t + 2)) else if u = nI 2 then (0, B (1281 + 2 * dN t)) else if u = nI 3 then (0, B (1281 + 2 * dN t + 1)) else if u = nI 4 then (0, if A 2 (8 * dN t + 6) = nI 1 then A 2 (8 * dN t + 7) else (-2)) else if u = nI 5 then (0, pBits B (dN t) (dN (B 1865))) else (2, nI 0)) else (1, nI 0)
def pShut (B : Nat → Int32) : Nat → Int32
  | 0 => nI 0
  | n + 1 => pShut B n + B (2084 + 48 * n + 9)
/-- sums with n more at k -/
def pMore (Z : Nat → Int64) (k : Nat) (n : Int64) : Nat → Int64 := vp_updL Z k (Z k + n)
theorem gq2 {G : gG} {ad : Nat → Nat} {M0 M : gM} {σ σ' : mS} {b : Nat} {B : Nat → Int32} {k : Nat} {x r : Int32} (h : MF G ad M0 (sb σ' b B) M) (hs : sQ σ σ') (h2 : mI σ' 2 = nI k) (hr : x = r) : ∃ σ', sQ σ σ' ∧ MF G ad M0 (sb σ' b B) M ∧ mI σ' 2 = nI k ∧ x = r := ⟨σ', hs, h, h2, hr⟩
def qName (A : Nat → Nat → Int32) (f n : Nat) (x : Int32) : Int32 := if pFind (fun t => A 2 (f + 8 * t) = x) n < n then nI (pFind (fun t => A 2 (f + 8 * t) = x) n) else (-1)
def qCnt (A : Nat → Nat → Int32) (T : Nat) (B : Nat → Int32) (un ts u : Int32) : Int32 := if u = nI 0 then nI T else if u = nI 1 then B 0 else if u = nI 2 then B 1865 else if u = nI 3 then pShut B (dN (B 1865)) else if u = nI 4 then B 1866 else if u = nI 5 then A 6 1 else if u = nI 6 then A 6 0 else if u = nI 7 then A 6 2 else if u = nI 8 then A 6 4 else if u = nI 9 then A 6 5 else if u = nI 10 then un else if u = nI 11 then ts else if u = nI 12 then A 6 6 else (-1)
def qFlt (f g u : Int32) : Int32 := if u = 0 then f else if u = nI 1 then g else (-1)
/-- n more at k, one by one -/
def pRm (Z : Nat → Int64) (k : Nat) : Nat → Nat → Int64
  | 0 => Z
  | n + 1 => vp_updL (pRm Z k n) k (pRm Z k n k + 1)
theorem pRm_b {Z : Nat → Int64} {k : Nat} (hZ : ∀ j, -8589934592 ≤ (Z j).toInt ∧ (Z j).toInt ≤ 8589934592) : ∀ n : Nat, n ≤ 10000 → ∀ j, -8589934592 ≤ (pRm Z k n j).toInt ∧ (pRm Z k n j).toInt ≤ 8589934592 + (n : Int)
  | 0, _, j => by have := hZ j; show -8589934592 ≤ (Z j).toInt ∧ _; exact ⟨this.1, by show (Z j).toInt ≤ _; omega⟩
  | n + 1, hn, j => by
    have h := pRm_b (k := k) hZ n (by omega)
    show -8589934592 ≤ (vp_updL (pRm Z k n) k (pRm Z k n k + 1) j).toInt ∧ (vp_updL (pRm Z k n) k (pRm Z k n k + 1) j).toInt ≤ _
    unfold vp_updL
    by_cases e : j = k
    · rw [if_pos e, Int64.toInt_add, Int64.toInt_one, Int.bmod_eq_of_le (by have := h k; omega) (by have := h k; omega)]
      have := h k
      omega
    · rw [if_neg e]
      have := h j
      omega
theorem sZ_rm (B : Nat → Int32) (t y k n : Nat) (hn : n ≤ 10000) : sZ (pRm (pYS B t y) k n) (pHO B t) (pHA B t) := by
  refine ⟨fun j => ?_, sm_pHO B t, sm_pHA B t⟩
  have := pRm_b (Z := pYS B t y) (k := k) (fun j => by have := sm_pYSn B t y j 4 (by omega); unfold pYS; omega) n hn j
  unfold sm
  omega
def fRm (A : Nat → Nat → Int32) (B : Nat → Int32) (t y k n : Nat) : Int32 := pSm A (pFr A (pRm (pYS B t y) k n) (pHO B t) (pHA B t) t) (A 6 2) (pRm (pYS B t y) k n)
def qRoom (A : Nat → Nat → Int32) (T : Nat) (B : Nat → Int32) (t k : Int32) : Int32 := if iT T t then (if iI k (nI 0) (nI 2) then (if pSm A (pAnn A B (dN t) (pNow B / 4)) (A 6 2) (pYS B (dN t) (pNow B / 4)) = 0 then (-2) else nI (pFind (fun n => fRm A B (dN t) (pNow B / 4) (2 + dN k) (n + 1) = 0) 9999)) else (-1)) else (-1)
theorem mI_2 {σ : mS} {v : Int32} : mI (si σ 2 v) 2 = v := by show upd σ.1 2 v 2 = v; exact pk_us
