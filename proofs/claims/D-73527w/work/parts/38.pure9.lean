set_option maxRecDepth 100000
theorem pSm_1 {A : Nat → Nat → Int32} {f limit : Int32} {Z : Nat → Int64} (h : ¬ pSm A f limit Z = 0) : pSm A f limit Z = nI 1 := by
  unfold pSm at h ⊢
  split
  · rfl
  · rename_i q; rw [if_neg q] at h; exact absurd (by decide +kernel) h
theorem pSm_0 {A : Nat → Nat → Int32} {f limit : Int32} {Z : Nat → Int64} (h : pSm A f limit Z = 0) : pSm A f limit Z = nI 0 := by
  rw [h]; decide +kernel
abbrev iG (B : Nat → Int32) (a : Nat) : Prop := B (2084 + 48 * a + 9) = nI 1 ∨ 0 < dN (B (2084 + 48 * a + 7))
abbrev iTh (B : Nat → Int32) (a : Nat) : Prop := 0 < dN (B (2084 + 48 * a + 47))
abbrev pBeh (B : Nat → Int32) (a : Nat) : Int32 := B (2084 + 48 * a + 4) - nI 1 - nI (pNow B / 4 - dN (B (2084 + 48 * a + 5)) / 4)
def pBas (A : Nat → Nat → Int32) (B : Nat → Int32) (a : Nat) : Int32 := if iTh B a then B (2084 + 48 * a + 6) else pWorth A B a (B (2084 + 48 * a + 2))
def qWth (A : Nat → Nat → Int32) (B : Nat → Int32) (a : Int32) : Int32 := if iA B a then (if B (2084 + 48 * (dN a) + 9) = nI 1 then (-2) else pWorth A B (dN a) (B (2084 + 48 * (dN a) + 2))) else (-1)
def qIfU (A : Nat → Nat → Int32) (B : Nat → Int32) (a u : Int32) : Int32 := if iA B a then (if iI u (nI 0) (nI 2) then (if iG B (dN a) then (-999999) else (if iTh B (dN a) then pWorth A B (dN a) u else (-999999))) else (-999999)) else (-999999)
def qWld (A : Nat → Nat → Int32) (B : Nat → Int32) (a k : Int32) : Int32 := if iA B a then (if iI k (nI 0) (nI 1) then (if iG B (dN a) then (-999999) else (pLst A B (dN a) (pBeh B (dN a)) k (pBas A B (dN a))).toInt32) else (-999999)) else (-999999)
def qPrj (A : Nat → Nat → Int32) (B : Nat → Int32) (a n : Int32) : Int32 := if iA B a then (if iG B (dN a) then (-999999) else (if iI n (nI 1) (pBeh B (dN a) + nI 1) then (if iTh B (dN a) then ((B (2084 + 48 * (dN a) + 10)).toInt64 + n.toInt64 * pAdj A B (dN a) (pWorth A B (dN a) (B (2084 + 48 * (dN a) + 2))) (pBas A B (dN a))).toInt32 else (pFirst A B (dN a) (pBas A B (dN a)) + (n - nI 1).toInt64 * pAdj A B (dN a) (pWorth A B (dN a) (B (2084 + 48 * (dN a) + 2))) (pBas A B (dN a))).toInt32) else (-999999))) else (-999999)
def qBB (A : Nat → Nat → Int32) (T : Nat) (B : Nat → Int32) (t q bs : Int32) : Int32 := if iT T t then (if iI q (nI 0) (nI (pNow B) - nI 1) then (if iI bs (nI 0) (nI 1) then pBk A (pProv A B (dN t) (dN q) bs) (A 6 2 / nI 4) (pQS B (dN t) (dN q)) else (-999999)) else (-999999)) else (-999999)
def qAst (A : Nat → Nat → Int32) (B : Nat → Int32) (a u : Int32) : Int32 := if iA B a then (if u = nI 0 then B (2084 + 48 * (dN a) + 0) else if u = nI 1 then B (2084 + 48 * (dN a) + 2) else if u = nI 2 then B (2084 + 48 * (dN a) + 3) else if u = nI 3 then B (2084 + 48 * (dN a) + 4) else if u = nI 4 then B (2084 + 48 * (dN a) + 5) else if u = nI 5 then (if iTh B (dN a) then B (2084 + 48 * (dN a) + 6) else (-2)) else if u = nI 6 then (if 0 < dN (B (2084 + 48 * (dN a) + 7)) then nI (dN (B (2084 + 48 * (dN a) + 7)) - 1) else (-2)) else if u = nI 7 then B (2084 + 48 * (dN a) + 9) else if u = nI 8 then B (2084 + 48 * (dN a) + 1) else if u = nI 9 then (if iTh B (dN a) then (pFirst A B (dN a) (B (2084 + 48 * (dN a) + 6))).toInt32 else (-2)) else (-1)) else (-1)
theorem iI_m1 {q : Int32} {w : Nat} (hw : w < 64) (h : iI q (nI 0) (nI w - nI 1)) : ∃ n, q = nI n ∧ n < w := by
  have h1 := Int32.le_iff_toInt_le.mp h.1
  have h2 := Int32.le_iff_toInt_le.mp h.2
  have e : (nI w - nI 1).toInt = (w : Int) - 1 := by
    rcases Nat.eq_zero_or_pos w with rfl | hp
    · decide +kernel
    · rw [pk_sub (by omega), nI_toInt (by omega)]; omega
  rw [e] at h2
  rw [nI_toInt (by decide)] at h1
  refine ⟨q.toInt.toNat, ?_, by omega⟩
  apply Int32.toInt_inj.mp
  rw [nI_toInt (by omega)]
  omega
