set_option maxRecDepth 100000
/-! assets and closings -/
def pAdj (A : Nat → Nat → Int32) (B : Nat → Int32) (a : Nat) (w base : Int32) : Int64 := pCut (A 6 0) ((B (2084 + 48 * a + 3)).toInt64 * (w - base).toInt64) ((B (2084 + 48 * a + 4)).toInt64 * (A 6 1).toInt64)
def pLst (A : Nat → Nat → Int32) (B : Nat → Int32) (a : Nat) (behind kind base : Int32) : Int64 := pCut (A 6 0) ((B (2084 + 48 * a + 3)).toInt64 * behind.toInt64 * ((if kind = 0 then A 6 1 else nI 0) - base).toInt64) ((B (2084 + 48 * a + 4)).toInt64 * (A 6 1).toInt64)
def pFirst (A : Nat → Nat → Int32) (B : Nat → Int32) (a : Nat) (base : Int32) : Int64 := pCut (A 6 0) ((B (2084 + 48 * a + 3)).toInt64 * base.toInt64) (A 6 1).toInt64
def pUse (A : Nat → Nat → Int32) (u f : Int32) : Int32 := if u = 0 then A 6 1 else if u = nI 1 then nI 0 else f
def pWn (A : Nat → Nat → Int32) (B : Nat → Int32) (a : Nat) (use f : Int32) (q0 : Nat) : Nat → Int64
  | 0 => 0
  | n + 1 => pWn A B a use f q0 n + (pUse A (if n < q0 then B (2084 + 48 * a + (13 + n)) else use) f).toInt64
def pIv (B : Nat → Int32) (a : Nat) : Nat := pYr B - dN (B (2084 + 48 * a + 5)) / 4
def pWorthF (A : Nat → Nat → Int32) (B : Nat → Int32) (a : Nat) (use f : Int32) : Int32 := if pIv B a = 0 then pUse A use f else (pCut (A 6 0) (pWn A B a use f (pNow B % 4) 4) 4).toInt32
def pWorth (A : Nat → Nat → Int32) (B : Nat → Int32) (a : Nat) (use : Int32) : Int32 := pWorthF A B a use (pAnn A B (dN (B (2084 + 48 * a + 0))) (pYr B))
def pBookFor (B : Nat → Int32) (a srt : Nat) (n : Int32) : Nat → Int32 := pBook (upd B (2084 + 48 * a + 10) (B (2084 + 48 * a + 10) + n)) (dN (B (2084 + 48 * a + 0))) srt n (nI a)
/-- an interval is through: what is worth; what is adjusted or first; what is final; whether it is shut, and its owner -/
def pCA1 (A : Nat → Nat → Int32) (B : Nat → Int32) (a i : Nat) (w : Int32) : Nat → Int32 := upd (upd (upd B (2084 + 48 * a + (17 + i)) w) (2084 + 48 * a + (37 + i)) (upd B (2084 + 48 * a + (17 + i)) w (2084 + 48 * a + 0))) (2084 + 48 * a + 47) (nI (i + 1))
def pCA2 (A : Nat → Nat → Int32) (B : Nat → Int32) (a i : Nat) (w : Int32) : Nat → Int32 :=
  if i = 0 then upd (upd B (2084 + 48 * a + 6) w) (2084 + 48 * a + 10) (pFirst A (upd B (2084 + 48 * a + 6) w) a w).toInt32
  else pBookFor (upd B (2084 + 48 * a + (27 + i)) (pAdj A B a w (B (2084 + 48 * a + 6))).toInt32) a 2 (pAdj A B a w (B (2084 + 48 * a + 6))).toInt32
def pIs (cap : Int32) (n : Int64) : Int32 := (if 0 ≤ cap ∧ cap.toInt64 < n then cap.toInt64 else n).toInt32
def pCA3 (A : Nat → Nat → Int32) (B : Nat → Int32) (a : Nat) (behind sold : Int32) : Nat → Int32 :=
  if sold = 0 ∨ sold = nI 1 then pBookFor (upd (upd B (2084 + 48 * a + 11) (nI 1)) (2084 + 48 * a + 12) (pIs (B (2084 + 48 * a + 8)) (pLst A B a behind sold (B (2084 + 48 * a + 6))))) a 3 (pIs (B (2084 + 48 * a + 8)) (pLst A B a behind sold (B (2084 + 48 * a + 6)))) else B
def pCA4 (B : Nat → Int32) (a : Nat) (behind sold : Int32) : Nat → Int32 := if 0 ≤ sold ∨ behind = 0 then upd B (2084 + 48 * a + 9) (nI 1) else B
def pCA (A : Nat → Nat → Int32) (B : Nat → Int32) (a : Nat) : Nat → Int32 :=
  if B (2084 + 48 * a + 9) = nI 1 then B else
  let B2 := pCA2 A (pCA1 A B a (pIv B a) (pWorth A B a (B (2084 + 48 * a + 2)))) a (pIv B a) (pWorth A B a (B (2084 + 48 * a + 2)))
  let behind := B2 (2084 + 48 * a + 4) - nI 1 - nI (pIv B a)
  let sold := B2 (2084 + 48 * a + 7) - nI 1
  let B4 := pCA4 (pCA3 A B2 a behind sold) a behind sold
  upd B4 (2084 + 48 * a + 0) (B4 (2084 + 48 * a + 1))
def pCAn (A : Nat → Nat → Int32) (B : Nat → Int32) : Nat → Nat → Int32
  | 0 => B
  | n + 1 => pCA A (pCAn A B n) n
def pCY1 (A : Nat → Nat → Int32) (B : Nat → Int32) (t y : Nat) : Nat → Int32 :=
  pBook (upd B (1801 + 16 * t + y) (pFr A (pYS B t y) (pHO B t) (pHA B t) t)) t 1 (pBk A (pFr A (pYS B t y) (pHO B t) (pHA B t) t) (A 6 2) (pYS B t y) - pBin (upd B (1801 + 16 * t + y) (pFr A (pYS B t y) (pHO B t) (pHA B t) t)) t y 4) (-2)
def pCYn (A : Nat → Nat → Int32) (B : Nat → Int32) (y : Nat) : Nat → Nat → Int32
  | 0 => B
  | n + 1 => pCY1 A (pCYn A B y n) n y
def pCY (A : Nat → Nat → Int32) (T : Nat) (B : Nat → Int32) : Nat → Int32 := pCAn A (pCYn A B (pYr B) T) (dN (B 1865))
def pCQ1 (A : Nat → Nat → Int32) (B : Nat → Int32) (t q : Nat) : Nat → Int32 :=
  pBook (upd (upd B (1289 + 64 * t + q) (pProv A B t q (A 2 (8 * t + 2)))) (1545 + 64 * t + q) (pBk A (pProv A B t q (A 2 (8 * t + 2))) (A 6 2 / nI 4) (pQS B t q))) t 0 (pBk A (pProv A B t q (A 2 (8 * t + 2))) (A 6 2 / nI 4) (pQS B t q)) (-2)
def pCQn (A : Nat → Nat → Int32) (B : Nat → Int32) (q : Nat) : Nat → Nat → Int32
  | 0 => B
  | n + 1 => pCQ1 A (pCQn A B q n) n q
def pUs (B : Nat → Int32) (q : Nat) : Nat → Nat → Int32
  | 0 => B
  | n + 1 => upd (pUs B q n) (2084 + 48 * n + (13 + q % 4)) (pUs B q n (2084 + 48 * n + 2))
def pCl1 (A : Nat → Nat → Int32) (T : Nat) (B : Nat → Int32) : Nat → Int32 := pUs (pCQn A B (pNow B) T) (pNow B) (dN (B 1865))
def pCl2 (A : Nat → Nat → Int32) (T : Nat) (B : Nat → Int32) : Nat → Int32 := if pNow B % 4 = 3 then pCY A T (pCl1 A T B) else pCl1 A T B
def pClose (A : Nat → Nat → Int32) (T : Nat) (B : Nat → Int32) : Nat → Int32 := pComes A (upd (pCl2 A T B) 0 (nI (pNow B + 1)))
/-- what a row of an asset holds, in a text of T traders, at the quarter w; Y: the year in which its next interval is -/
def wR (T w Y : Nat) (B : Nat → Int32) (a : Nat) : Prop :=
  (isN (B (2084 + 48 * a + 0)) 3 ∧ dN (B (2084 + 48 * a + 0)) < T) ∧ (isN (B (2084 + 48 * a + 1)) 3 ∧ dN (B (2084 + 48 * a + 1)) < T) ∧ isN (B (2084 + 48 * a + 2)) 2 ∧ isN (B (2084 + 48 * a + 3)) 99999 ∧ (B (2084 + 48 * a + 4) = nI 5 ∨ B (2084 + 48 * a + 4) = nI 10) ∧ (isN (B (2084 + 48 * a + 5)) 63 ∧ dN (B (2084 + 48 * a + 5)) ≤ w) ∧
  isN (B (2084 + 48 * a + 7)) 3 ∧ isN (B (2084 + 48 * a + 9)) 1 ∧ isN (B (2084 + 48 * a + 11)) 1 ∧ (∀ j, j < 4 → isN (B (2084 + 48 * a + (13 + j))) 2) ∧ (isN (B (2084 + 48 * a + 47)) 10 ∧ dN (B (2084 + 48 * a + 47)) ≤ dN (B (2084 + 48 * a + 4))) ∧ (∀ i, i < dN (B (2084 + 48 * a + 47)) → isN (B (2084 + 48 * a + (37 + i))) 3 ∧ dN (B (2084 + 48 * a + (37 + i))) < T) ∧
  (B (2084 + 48 * a + 9) = nI 0 → dN (B (2084 + 48 * a + 47)) + dN (B (2084 + 48 * a + 5)) / 4 = Y ∧ dN (B (2084 + 48 * a + 47)) < dN (B (2084 + 48 * a + 4)))
section WR
variable {T w Y : Nat} {B : Nat → Int32} {a : Nat}
theorem wR.owner (h : wR T w Y B a) : isN (B (2084 + 48 * a + 0)) 3 ∧ dN (B (2084 + 48 * a + 0)) < T := h.1
theorem wR.heir (h : wR T w Y B a) : isN (B (2084 + 48 * a + 1)) 3 ∧ dN (B (2084 + 48 * a + 1)) < T := h.2.1
theorem wR.use (h : wR T w Y B a) : isN (B (2084 + 48 * a + 2)) 2 := h.2.2.1
theorem wR.tax (h : wR T w Y B a) : isN (B (2084 + 48 * a + 3)) 99999 := h.2.2.2.1
theorem wR.span (h : wR T w Y B a) : B (2084 + 48 * a + 4) = nI 5 ∨ B (2084 + 48 * a + 4) = nI 10 := h.2.2.2.2.1
theorem wR.bought (h : wR T w Y B a) : isN (B (2084 + 48 * a + 5)) 63 ∧ dN (B (2084 + 48 * a + 5)) ≤ w := h.2.2.2.2.2.1
theorem wR.sold (h : wR T w Y B a) : isN (B (2084 + 48 * a + 7)) 3 := h.2.2.2.2.2.2.1
theorem wR.shut (h : wR T w Y B a) : isN (B (2084 + 48 * a + 9)) 1 := h.2.2.2.2.2.2.2.1
theorem wR.hasl (h : wR T w Y B a) : isN (B (2084 + 48 * a + 11)) 1 := h.2.2.2.2.2.2.2.2.1
theorem wR.uses (h : wR T w Y B a) {j : Nat} (hj : j < 4) : isN (B (2084 + 48 * a + (13 + j))) 2 := h.2.2.2.2.2.2.2.2.2.1 j hj
theorem wR.thr (h : wR T w Y B a) : isN (B (2084 + 48 * a + 47)) 10 ∧ dN (B (2084 + 48 * a + 47)) ≤ dN (B (2084 + 48 * a + 4)) := h.2.2.2.2.2.2.2.2.2.2.1
theorem wR.owners (h : wR T w Y B a) {i : Nat} (hi : i < dN (B (2084 + 48 * a + 47))) : isN (B (2084 + 48 * a + (37 + i))) 3 ∧ dN (B (2084 + 48 * a + (37 + i))) < T := h.2.2.2.2.2.2.2.2.2.2.2.1 i hi
theorem wR.opn (h : wR T w Y B a) (hs : B (2084 + 48 * a + 9) = nI 0) : dN (B (2084 + 48 * a + 47)) + dN (B (2084 + 48 * a + 5)) / 4 = Y ∧ dN (B (2084 + 48 * a + 47)) < dN (B (2084 + 48 * a + 4)) := h.2.2.2.2.2.2.2.2.2.2.2.2 hs
theorem wR.span10 (h : wR T w Y B a) : 5 ≤ dN (B (2084 + 48 * a + 4)) ∧ dN (B (2084 + 48 * a + 4)) ≤ 10 ∧ B (2084 + 48 * a + 4) = nI (dN (B (2084 + 48 * a + 4))) := by
  rcases h.span with e | e <;> rw [e, dN_nI (by omega)] <;> exact ⟨by omega, by omega, rfl⟩
end WR
theorem wR.congr {T w Y w' : Nat} {B B' : Nat → Int32} {a : Nat} (h : wR T w Y B a) (hw : w ≤ w') (e : ∀ k, k < 48 → B' (2084 + 48 * a + k) = B (2084 + 48 * a + k)) : wR T w' Y B' a := by
  unfold wR at h ⊢
  have hth : dN (B (2084 + 48 * a + 47)) ≤ 10 := h.2.2.2.2.2.2.2.2.2.2.1.1.2
  rw [e 0 (by omega), e 1 (by omega), e 2 (by omega), e 3 (by omega), e 4 (by omega), e 5 (by omega), e 7 (by omega), e 9 (by omega), e 11 (by omega), e 47 (by omega)]
  obtain ⟨h1, h2, h3, h4, h5, h6, h7, h8, h9, h10, h11, h12, h13⟩ := h
  exact ⟨h1, h2, h3, h4, h5, ⟨h6.1, by omega⟩, h7, h8, h9, fun j hj => by rw [e (13 + j) (by omega)]; exact h10 j hj, h11, fun i hi => by rw [e (37 + i) (by omega)]; exact h12 i hi, h13⟩
/-- what a bank holds; Y a: the year of asset a's next interval, if it isn't shut -/
def wBY (T : Nat) (Y : Nat → Nat) (B : Nat → Int32) : Prop := isN (B 0) 63 ∧ isN (B 1865) 8 ∧ isN (B 1867) 40 ∧ ∀ a, a < dN (B 1865) → wR T (pNow B) (Y a) B a
def wB (T : Nat) (B : Nat → Int32) : Prop := wBY T (fun _ => pYr B) B
section WB
variable {T : Nat} {Y : Nat → Nat} {B B' : Nat → Int32}
theorem wBY.now (h : wBY T Y B) : isN (B 0) 63 := h.1
theorem wBY.na (h : wBY T Y B) : isN (B 1865) 8 := h.2.1
theorem wBY.kept (h : wBY T Y B) : isN (B 1867) 40 := h.2.2.1
theorem wBY.row (h : wBY T Y B) {a : Nat} (ha : a < dN (B 1865)) : wR T (pNow B) (Y a) B a := h.2.2.2 a ha
/-- cells that are of no asset change -/
theorem wBY.congr (h : wBY T Y B) (hk : isN (B' 1867) 40) (h0 : B' 0 = B 0) (h1 : B' 1865 = B 1865) (e : ∀ j, 2084 ≤ j → B' j = B j) : wBY T Y B' := by
  have hp : pNow B' = pNow B := by unfold pNow; rw [h0]
  refine ⟨by rw [h0]; exact h.1, by rw [h1]; exact h.2.1, hk, fun a ha => ?_⟩
  rw [h1] at ha
  rw [hp]
  exact (h.2.2.2 a ha).congr (Nat.le_refl _) (fun k _ => e _ (by omega))
end WB
theorem pBook_ne {B : Nat → Int32} {t u : Nat} {v a : Int32} {j : Nat} (ht : t < 4) (hu : u < 4) (hj : j < 1866 ∨ 2084 ≤ j) : pBook B t u v a j = B j := by
  have hm : pMany B ≤ 39 := by unfold pMany; split <;> omega
  unfold pBook
  rw [pAdd_ne (by omega), pAdd_ne (by omega), pk_un (by omega), pk_un (by omega), pk_un (by omega), pk_un (by omega), pk_un (by omega), pk_un (by omega)]
  unfold pShift
  rw [if_neg (by omega)]
theorem pBook_k {B : Nat → Int32} {t u : Nat} {v a : Int32} (ht : t < 4) (hu : u < 4) : isN (pBook B t u v a 1867) 40 := by
  have hm : pMany B ≤ 39 := by unfold pMany; split <;> omega
  unfold pBook
  rw [pAdd_ne (by omega), pAdd_ne (by omega), pk_us]
  exact isN.nI (by omega) (by omega)
theorem wBY.book {T : Nat} {Y : Nat → Nat} {B : Nat → Int32} {t u : Nat} {v a : Int32} (h : wBY T Y B) (ht : t < 4) (hu : u < 4) : wBY T Y (pBook B t u v a) :=
  h.congr (pBook_k ht hu) (pBook_ne ht hu (by omega)) (pBook_ne ht hu (by omega)) (fun j hj => pBook_ne ht hu (Or.inr hj))
theorem wBY.upd {T : Nat} {Y : Nat → Nat} {B : Nat → Int32} (h : wBY T Y B) {i : Nat} {v : Int32} (hi : 1 ≤ i ∧ i < 1865 ∨ 1867 < i ∧ i < 2084) : wBY T Y (upd B i v) :=
  h.congr (by rw [pk_un (by omega)]; exact h.kept) (pk_un (by omega)) (pk_un (by omega)) (fun j hj => pk_un (by omega))
theorem wBY.add {T : Nat} {Y : Nat → Nat} {B : Nat → Int32} (h : wBY T Y B) {i : Nat} {v : Int32} (hi : 1 ≤ i ∧ i < 1865 ∨ 1867 < i ∧ i < 2084) : wBY T Y (pAdd B i v) := h.upd hi
