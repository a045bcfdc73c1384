set_option maxRecDepth 100000
/-! WHAT WAS TOLD OF A QUARTER COMES: bounds -/
theorem i32_add {x y : Int32} (h : -1000000000 ≤ x.toInt ∧ x.toInt ≤ 1000000000) (h2 : -1000000000 ≤ y.toInt ∧ y.toInt ≤ 1000000000) : (x + y).toInt = x.toInt + y.toInt := by
  rw [Int32.toInt_add, Int.bmod_eq_of_le] <;> simp <;> omega
theorem i32_add64 {x y : Int32} (h : -1000000000 ≤ x.toInt ∧ x.toInt ≤ 1000000000) (h2 : -1000000000 ≤ y.toInt ∧ y.toInt ≤ 1000000000) : (x + y).toInt64 = x.toInt64 + y.toInt64 := by
  rw [← Int64.toInt_inj, Int32.toInt_toInt64, i32_add h h2, i64_add, Int32.toInt_toInt64, Int32.toInt_toInt64]
  · rw [Int32.toInt_toInt64]; omega
  · rw [Int32.toInt_toInt64]; omega
def cN (B : Nat → Int32) (n i : Nat) : Prop := ∀ t k, t < 4 → k < 5 → 0 ≤ (B (1 + 320 * t + 5 * n + k)).toInt ∧ (B (1 + 320 * t + 5 * n + k)).toInt ≤ 100000 * (i : Int)
section CNS
variable {T : Nat} {A : Nat → Nat → Int32} {B : Nat → Int32} {n i t k : Nat} {v : Int32}
theorem cN.mono (h : cN B n i) {j : Nat} (hij : i ≤ j) : cN B n j := fun t k ht hk => by
  have := h t k ht hk
  omega
theorem cN.ov (h : cN B n i) (hi : i ≤ 1000) (hv : 0 ≤ v.toInt ∧ v.toInt ≤ 99999) (ht : t < 4) (hk : k < 5) : (B (1 + 320 * t + 5 * n + k) + v).toInt64 = pQS B t n k + v.toInt64 := by
  have := h t k ht hk
  exact i32_add64 (by omega) (by omega)
theorem cN.add (h : cN B n i) (hi : i ≤ 1000) (hn : n < 64) (hv : 0 ≤ v.toInt ∧ v.toInt ≤ 99999) (ht : t < 4) (hk : k < 5) : cN (pAdd B (1 + 320 * t + 5 * n + k) v) n (i + 1) := fun t' k' ht' hk' => by
  have h1 := h t' k' ht' hk'
  have h2 := h t k ht hk
  by_cases e : 1 + 320 * t' + 5 * n + k' = 1 + 320 * t + 5 * n + k
  · have e9 : pAdd B (1 + 320 * t + 5 * n + k) v (1 + 320 * t' + 5 * n + k') = B (1 + 320 * t + 5 * n + k) + v := by rw [e]; exact if_pos rfl
    rw [e9, i32_add (by omega) (by omega)]
    omega
  · rw [pAdd_ne e]
    omega
theorem cN.cg {B' : Nat → Int32} (h : cN B n i) (hn : n < 64) (e : ∀ j, 1 ≤ j → j < 1281 → B' j = B j) : cN B' n i := fun t k ht hk => by
  rw [e _ (by omega) (by omega)]
  exact h t k ht hk
theorem isN_v {x : Int32} {m : Nat} (h : isN x m) (hm : m ≤ 99999) : 0 ≤ x.toInt ∧ x.toInt ≤ 99999 := by
  have := h.int (by omega)
  omega
theorem pCom3_s (hw : wT T A) {tt kk : Nat} (h1 : A 3 (4 * i) = nI tt) (h2 : A 3 (4 * i + 2) = nI kk) (ht : tt < 100) (hk : kk < 100) : pCom3 A n B (i + 1) = if A 3 (4 * i + 1) = nI n then pAdd (pCom3 A n B i) (1 + 320 * tt + 5 * n + (0 + kk)) (A 3 (4 * i + 3)) else pCom3 A n B i := by
  show (if A 3 (4 * i + 1) = nI n then pAdd (pCom3 A n B i) (1 + 320 * dN (A 3 (4 * i)) + 5 * n + dN (A 3 (4 * i + 2))) (A 3 (4 * i + 3)) else pCom3 A n B i) = _
  rw [h1, h2, dN_nI (by omega), dN_nI (by omega), Nat.zero_add]
theorem pCom4_s (hw : wT T A) {tt kk : Nat} (h1 : A 4 (4 * i) = nI tt) (h2 : A 4 (4 * i + 2) = nI kk) (ht : tt < 100) (hk : kk < 100) : pCom4 A n B (i + 1) = if A 4 (4 * i + 1) = nI n then pAdd (pCom4 A n B i) (1 + 320 * tt + 5 * n + (2 + kk)) (A 4 (4 * i + 3)) else pCom4 A n B i := by
  show (if A 4 (4 * i + 1) = nI n then pAdd (pCom4 A n B i) (1 + 320 * dN (A 4 (4 * i)) + 5 * n + (2 + dN (A 4 (4 * i + 2)))) (A 4 (4 * i + 3)) else pCom4 A n B i) = _
  rw [h1, h2, dN_nI (by omega), dN_nI (by omega)]
theorem pCom3_cN (hw : wT T A) (hn : n < 64) {j : Nat} (h : cN B n j) (hj : j ≤ 900) : ∀ i, i ≤ dN (A 6 4) → cN (pCom3 A n B i) n (j + i)
  | 0, _ => h
  | i + 1, hi => by
    have ih := pCom3_cN hw hn h hj i (by omega)
    have hs := hw.sale (k := i) (by omega)
    obtain ⟨tt, h1, h1'⟩ := isN_to hs.1
    obtain ⟨kk, h2, h2'⟩ := isN_to hs.2.2.2.1
    have h12 := hw.ns.2
    rw [pCom3_s hw h1 h2 (by omega) (by omega)]
    by_cases c : A 3 (4 * i + 1) = nI n
    · rw [if_pos c]; exact ih.add (by omega) hn (isN_v hs.2.2.2.2 (by omega)) (by omega) (by omega)
    · rw [if_neg c]; exact ih.mono (by omega)
theorem pCom4_cN (hw : wT T A) (hn : n < 64) {j : Nat} (h : cN B n j) (hj : j ≤ 900) : ∀ i, i ≤ dN (A 6 5) → cN (pCom4 A n B i) n (j + i)
  | 0, _ => h
  | i + 1, hi => by
    have ih := pCom4_cN hw hn h hj i (by omega)
    have hs := hw.buy (k := i) (by omega)
    obtain ⟨tt, h1, h1'⟩ := isN_to hs.1
    obtain ⟨kk, h2, h2'⟩ := isN_to hs.2.2.2.1
    have h12 := hw.nb.2
    rw [pCom4_s hw h1 h2 (by omega) (by omega)]
    by_cases c : A 4 (4 * i + 1) = nI n
    · rw [if_pos c]; exact ih.add (by omega) hn (isN_v hs.2.2.2.2 (by omega)) (by omega) (by omega)
    · rw [if_neg c]; exact ih.mono (by omega)
theorem pCom5_s (hw : wT T A) {tt kk : Nat} (h1 : A 5 (5 * i) = nI tt) (h2 : A 5 (5 * i + 2) = nI kk) (ht : tt < 100) (hk : kk < 100) : pCom5 A n B (i + 1) = if A 5 (5 * i + 1) = nI n ∧ dN (pCom5 A n B i 1865) < 8 then pAcq (pCom5 A n B i) tt kk (A 5 (5 * i + 3)) (A 5 (5 * i + 4)) else pCom5 A n B i := by
  show (if A 5 (5 * i + 1) = nI n ∧ dN (pCom5 A n B i 1865) < 8 then pAcq (pCom5 A n B i) (dN (A 5 (5 * i))) (dN (A 5 (5 * i + 2))) (A 5 (5 * i + 3)) (A 5 (5 * i + 4)) else pCom5 A n B i) = _
  rw [h1, h2, dN_nI (by omega), dN_nI (by omega)]
theorem pAcq_cN {u : Nat} {tax span : Int32} (hB0 : B 0 = nI n) (hn : n < 64) (h : cN B n i) (hi : i ≤ 1000) (ht : t < 4) (hu : u < 3) (h8 : dN (B 1865) < 8) (hv : 0 ≤ tax.toInt ∧ tax.toInt ≤ 99999) : cN (pAcq B t u tax span) n (i + 1) := by
  have hpn : pNow B = n := by unfold pNow; rw [hB0, dN_nI (by omega)]
  refine (h.add hi hn hv ht (show 2 + u < 5 by omega)).cg hn (fun j h1 h2 => ?_)
  rw [pAcq_at (k := dN (B 1865)) rfl hpn h8 ht hn hu j, if_neg (by omega), if_neg (by omega)]
theorem pCom5_cN (hw : wT T A) (hn : n < 64) (hB0 : B 0 = nI n) {j : Nat} (h : cN B n j) (hj : j ≤ 900) : ∀ i, i ≤ dN (A 6 6) → cN (pCom5 A n B i) n (j + i)
  | 0, _ => h
  | i + 1, hi => by
    have ih := pCom5_cN hw hn hB0 h hj i (by omega)
    have hs := hw.asset (k := i) (by omega)
    obtain ⟨tt, h1, h1'⟩ := isN_to hs.1
    obtain ⟨kk, h2, h2'⟩ := isN_to hs.2.2.2.1
    have h12 := hw.na.2
    have e0 : pCom5 A n B i 0 = nI n := (pCom5_0 i).trans hB0
    rw [pCom5_s hw h1 h2 (by omega) (by omega)]
    by_cases c : A 5 (5 * i + 1) = nI n ∧ dN (pCom5 A n B i 1865) < 8
    · rw [if_pos c]; exact pAcq_cN e0 hn ih (show j + i ≤ 1000 by omega) (by omega) (by omega) c.2 (isN_v hs.2.2.2.2.1 (by omega))
    · rw [if_neg c]; exact ih.mono (by omega)
theorem pCom5_lo (hw : wT T A) (hn : n < 64) (hB0 : B 0 = nI n) : ∀ i, i ≤ dN (A 6 6) → ∀ j, 1866 ≤ j → j < 2084 → pCom5 A n B i j = B j
  | 0, _, _, _, _ => rfl
  | i + 1, hi, j, h3, h4 => by
    have ih := pCom5_lo hw hn hB0 i (by omega) j h3 h4
    have hs := hw.asset (k := i) (by omega)
    obtain ⟨tt, h1, h1'⟩ := isN_to hs.1
    obtain ⟨kk, h2, h2'⟩ := isN_to hs.2.2.2.1
    have e0 : pCom5 A n B i 0 = nI n := (pCom5_0 i).trans hB0
    have hpn : pNow (pCom5 A n B i) = n := by unfold pNow; rw [e0, dN_nI (by omega)]
    rw [pCom5_s hw h1 h2 (by omega) (by omega)]
    by_cases c : A 5 (5 * i + 1) = nI n ∧ dN (pCom5 A n B i 1865) < 8
    · rw [if_pos c, pAcq_ne (by omega) (by rw [hpn]; omega) (by omega), ih]
    · rw [if_neg c, ih]
end CNS
