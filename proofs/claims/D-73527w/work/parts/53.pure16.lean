set_option maxRecDepth 100000
/-! TOKENS -/
def pScF (P : Int32 → Prop) [DecidablePred P] (tp : Nat → Int32) (sp : Nat) : Nat → Nat → Nat
  | 0, n => n
  | f + 1, n => if n < sp ∧ P (tp n) then pScF P tp sp f (n + 1) else n
/-- from n on as long as it is so, up to sp -/
def pScan (P : Int32 → Prop) [DecidablePred P] (tp : Nat → Int32) (sp n : Nat) : Nat := pScF P tp sp (sp - n) n
theorem pScan_s {P : Int32 → Prop} [DecidablePred P] {tp : Nat → Int32} {sp n : Nat} (h : n < sp) (hp : P (tp n)) : pScan P tp sp n = pScan P tp sp (n + 1) := by
  unfold pScan
  rw [show sp - n = (sp - (n + 1)) + 1 from by omega]
  show (if n < sp ∧ P (tp n) then _ else _) = _
  rw [if_pos ⟨h, hp⟩]
theorem pScan_e {P : Int32 → Prop} [DecidablePred P] {tp : Nat → Int32} {sp n : Nat} (h : ¬ (n < sp ∧ P (tp n))) : pScan P tp sp n = n := by
  unfold pScan
  cases sp - n with
  | zero => rfl
  | succ f => exact if_neg h
theorem pScF_b {P : Int32 → Prop} [DecidablePred P] {tp : Nat → Int32} {sp : Nat} : ∀ f n, n ≤ sp → n ≤ pScF P tp sp f n ∧ pScF P tp sp f n ≤ sp
  | 0, n, h => ⟨Nat.le_refl _, h⟩
  | f + 1, n, h => by
    show n ≤ (if n < sp ∧ P (tp n) then _ else _) ∧ (if n < sp ∧ P (tp n) then _ else _) ≤ sp
    split
    · rename_i q
      have := pScF_b (P := P) (tp := tp) f (n + 1) q.1
      omega
    · exact ⟨Nat.le_refl _, h⟩
theorem pScan_b {P : Int32 → Prop} [DecidablePred P] {tp : Nat → Int32} {sp n : Nat} (h : n ≤ sp) : n ≤ pScan P tp sp n ∧ pScan P tp sp n ≤ sp := pScF_b _ _ h
abbrev isBl (c : Int32) : Prop := c = nI 10 ∨ c = nI 32
abbrev isSm (c : Int32) : Prop := nI 97 ≤ c ∧ c ≤ nI 122
abbrev isDg (c : Int32) : Prop := nI 48 ≤ c ∧ c ≤ nI 57
/-- words, each with a blank behind it -/
def wds : List Nat := [116, 114, 97, 100, 101, 114, 32, 104, 101, 97, 100, 32, 115, 116, 97, 114, 116, 32, 114, 111, 117, 110, 100, 32, 115, 116, 101, 112, 32, 108, 105, 109, 105, 116, 32, 115, 101, 101, 100, 32, 115, 97, 108, 101, 32, 98, 117, 121, 32, 97, 115, 115, 101, 116, 32, 117, 112, 32, 100, 111, 119, 110, 32, 110, 101, 97, 114, 32]
def wdA (i : Nat) : Int32 := nI ((wds[i]?).getD 0)
def wFr (k : Nat) : Nat := ([0, 7, 12, 18, 24, 29, 35, 40, 45, 49, 55, 58, 63, 68][k]?).getD 68
def wLn (k : Nat) : Nat := ([6, 4, 5, 5, 4, 5, 4, 4, 3, 5, 2, 4, 4][k]?).getD 0
/-- the word k lies at a .. b -/
abbrev pWd (tp : Nat → Int32) (a b k : Nat) : Prop := wLn k = b - a ∧ ∀ i, i < wLn k → wdA (wFr k + i) = tp (a + i)
def pWord (tp : Nat → Int32) (a b : Nat) : Int32 := if pFind (pWd tp a b) 13 < 13 then nI (pFind (pWd tp a b) 13) else (-1)
def pPk (tp : Nat → Int32) (a b : Nat) : Nat → Int32
  | 0 => nI 0
  | i + 1 => (pPk tp a b i <<< (nI 5 &&& 31)) ||| (if a + i < b then tp (a + i) - nI 96 else nI 0)
def pVal (tp : Nat → Int32) (a : Nat) : Nat → Int32
  | 0 => nI 0
  | i + 1 => if nI 99999 < pVal tp a i then pVal tp a i else nI 10 * pVal tp a i + tp (a + i) - nI 48
/-- the four of a token: where the next one is, its kind, which, where it is -/
def tk (σ : mS) (n k w a : Int32) : mS := (upd (upd (upd (upd σ.1 7 n) 8 k) 9 w) 10 a, σ.2)
theorem upd_c {f : Nat → Int32} {i j : Nat} {x y : Int32} (h : i ≠ j) : upd (upd f i x) j y = upd (upd f j y) i x := by
  funext k
  unfold upd
  by_cases e : k = j
  · rw [if_pos e, if_neg (by omega), if_pos e]
  · rw [if_neg e]
    by_cases e2 : k = i
    · rw [if_pos e2, if_pos e2]
    · rw [if_neg e2, if_neg e2, if_neg e]
theorem upd_u {f : Nat → Int32} {i : Nat} {x y : Int32} : upd (upd f i x) i y = upd f i y := by
  funext k
  unfold upd
  by_cases e : k = i
  · rw [if_pos e, if_pos e]
  · rw [if_neg e, if_neg e, if_neg e]
theorem upd_i {f : Nat → Int32} {i : Nat} : upd f i (f i) = f := by
  funext k
  unfold upd
  by_cases e : k = i
  · rw [if_pos e, e]
  · rw [if_neg e]
section TK
variable {σ : mS} {n k w a v : Int32}
theorem tk_7 : si (tk σ n k w a) 7 v = tk σ v k w a := by
  unfold tk si
  show (upd (upd (upd (upd (upd σ.1 7 n) 8 k) 9 w) 10 a) 7 v, σ.2) = _
  rw [upd_c (by omega), upd_c (i := 9) (j := 7) (by omega), upd_c (i := 8) (j := 7) (by omega), upd_u]
theorem tk_8 : si (tk σ n k w a) 8 v = tk σ n v w a := by
  unfold tk si
  show (upd (upd (upd (upd (upd σ.1 7 n) 8 k) 9 w) 10 a) 8 v, σ.2) = _
  rw [upd_c (by omega), upd_c (i := 9) (j := 8) (by omega), upd_u]
theorem tk_9 : si (tk σ n k w a) 9 v = tk σ n k v a := by
  unfold tk si
  show (upd (upd (upd (upd (upd σ.1 7 n) 8 k) 9 w) 10 a) 9 v, σ.2) = _
  rw [upd_c (by omega), upd_u]
theorem tk_10 : si (tk σ n k w a) 10 v = tk σ n k w v := by
  unfold tk si
  show (upd (upd (upd (upd (upd σ.1 7 n) 8 k) 9 w) 10 a) 10 v, σ.2) = _
  rw [upd_u]
theorem tk_0 : tk σ (mI σ 7) (mI σ 8) (mI σ 9) (mI σ 10) = σ := by
  unfold tk
  have e7 : upd σ.1 7 (mI σ 7) = σ.1 := upd_i
  have e8 : upd σ.1 8 (mI σ 8) = σ.1 := upd_i
  have e9 : upd σ.1 9 (mI σ 9) = σ.1 := upd_i
  have e10 : upd σ.1 10 (mI σ 10) = σ.1 := upd_i
  rw [e7, e8, e9, e10]
end TK
/-- the token behind n -/
def pTkA (tp : Nat → Int32) (sp n : Nat) : Nat := pScan isBl tp sp n
def pTkW (tp : Nat → Int32) (a b : Nat) (σ : mS) : mS :=
  if pWord tp a b < 0 then (if 6 < b - a then tk σ (nI b) (nI 5) (pWord tp a b) (nI a) else tk σ (nI b) (nI 2) (pPk tp a b 6) (nI a)) else tk σ (nI b) (nI 1) (pWord tp a b) (nI a)
def tTokA (σ : mS) (tp : Nat → Int32) (sp a : Nat) : mS :=
  if a = sp then tk σ (nI a) (nI 0) (mI σ 9) (nI a)
  else if isSm (tp a) then pTkW tp a (pScan isSm tp sp a) σ
  else if isDg (tp a) then tk σ (nI (pScan isDg tp sp a)) (nI 3) (pVal tp a (pScan isDg tp sp a - a)) (nI a)
  else if tp a = nI 59 then tk σ (nI (a + 1)) (nI 4) (mI σ 9) (nI a) else tk σ (nI (a + 1)) (nI 5) (mI σ 9) (nI a)
def tTok (σ : mS) : mS := tTokA σ (mA σ 0) (dN (mI σ 6)) (pTkA (mA σ 0) (dN (mI σ 6)) (dN (mI σ 7)))
