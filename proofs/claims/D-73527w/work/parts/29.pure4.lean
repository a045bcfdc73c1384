set_option maxRecDepth 100000
theorem l_ss {x y : Int32} (hs : x = nI 5 ∨ x = nI 10) (h : isN y 1000) (h10 : 10 ≤ dN y) : ¬ x.toInt64 * y.toInt64 = 0 ∧ ¬ 2 * (x.toInt64 * y.toInt64) = 0 := by
  have h2 := h.2
  have ey : y.toInt64.toInt = (dN y : Int) := by rw [h.1, Int32.toInt_toInt64, nI_toInt (by omega)]; rw [dN_nI (by omega)]
  have key : ∀ c : Nat, c = 5 ∨ c = 10 → x = nI c → ¬ x.toInt64 * y.toInt64 = 0 ∧ ¬ 2 * (x.toInt64 * y.toInt64) = 0 := by
    intro c hc e
    have ex : x.toInt64.toInt = (c : Int) := by rw [e, Int32.toInt_toInt64, nI_toInt (by omega)]
    have em : (x.toInt64 * y.toInt64).toInt = (c : Int) * (dN y : Int) := by
      rw [Int64.toInt_mul, ex, ey]
      rcases hc with rfl | rfl <;> exact Int.bmod_eq_of_le (by omega) (by omega)
    have h0 : ¬ x.toInt64 * y.toInt64 = 0 := by
      rw [l_ne, em]
      rcases hc with rfl | rfl <;> omega
    refine ⟨h0, sm_2 ?_ h0⟩
    rw [em]
    rcases hc with rfl | rfl <;> omega
  rcases hs with e | e
  · exact key 5 (Or.inl rfl) e
  · exact key 10 (Or.inr rfl) e
theorem pWorth_eq {A : Nat → Nat → Int32} {B : Nat → Int32} {a w t bq : Nat} {use : Int32} (hn : B 0 = nI w) (h0 : B (2084 + 48 * a + 0) = nI t) (h5 : B (2084 + 48 * a + 5) = nI bq) (hw : w < 64) (ht : t < 4) (hq : bq < 64) :
    pWorth A B a use = if w / 4 - bq / 4 = 0 then pUse A use (pAnn A B t (w / 4)) else (pCut (A 6 0) (pWn A B a use (pAnn A B t (w / 4)) (w % 4) 4) 4).toInt32 := by
  unfold pWorth pWorthF pIv pYr pNow
  rw [h0, hn, h5, dN_nI (by omega), dN_nI (by omega), dN_nI (by omega)]
theorem pIv_eq {B : Nat → Int32} {a w bq : Nat} (hn : B 0 = nI w) (h5 : B (2084 + 48 * a + 5) = nI bq) (hw : w < 64) (hq : bq < 64) : pIv B a = w / 4 - bq / 4 := by
  unfold pIv pYr pNow
  rw [hn, h5, dN_nI (by omega), dN_nI (by omega)]
theorem wR_i {T w : Nat} {B : Nat → Int32} {a q5 : Nat} (hR : wR T w (w / 4) B a) (h5 : B (2084 + 48 * a + 5) = nI q5) (hq : q5 < 64) (hs : ¬ B (2084 + 48 * a + 9) = nI 1) : w / 4 - q5 / 4 < 10 ∧ q5 / 4 ≤ w / 4 ∧ B (2084 + 48 * a + 9) = nI 0 ∧ dN (B (2084 + 48 * a + 47)) = w / 4 - q5 / 4 := by
  have h9 := hR.shut
  have h10 := hR.span10
  have e0 : B (2084 + 48 * a + 9) = nI 0 := by
    rcases (by have := h9.2; omega : dN (B (2084 + 48 * a + 9)) = 0 ∨ dN (B (2084 + 48 * a + 9)) = 1) with e | e
    · rw [h9.1, e]
    · exact absurd (by rw [h9.1, e]) hs
  have ho := hR.opn e0
  rw [h5, dN_nI (by omega)] at ho
  exact ⟨by omega, by omega, e0, by omega⟩
/-! which cells change -/
theorem pBookFor_ne {B : Nat → Int32} {a u : Nat} {v : Int32} {j : Nat} (ht : dN (B (2084 + 48 * a + 0)) < 4) (hu : u < 4) (hj : j < 1866 ∨ 2084 ≤ j) (hja : j ≠ (2084 + 48 * a + 10)) : pBookFor B a u v j = B j := by
  unfold pBookFor
  rw [pBook_ne ht hu hj, pk_un hja]
theorem pBookFor_k {B : Nat → Int32} {a u : Nat} {v : Int32} (ht : dN (B (2084 + 48 * a + 0)) < 4) (hu : u < 4) : isN (pBookFor B a u v 1867) 40 := pBook_k ht hu
theorem pCA1_ne {A : Nat → Nat → Int32} {B : Nat → Int32} {a i : Nat} {w : Int32} {j : Nat} (h1 : j ≠ (2084 + 48 * a + (17 + i))) (h2 : j ≠ (2084 + 48 * a + (37 + i))) (h3 : j ≠ (2084 + 48 * a + 47)) : pCA1 A B a i w j = B j := by
  unfold pCA1
  rw [pk_un h3, pk_un h2, pk_un h1]
theorem pCA2_ne {A : Nat → Nat → Int32} {B : Nat → Int32} {a i : Nat} {w : Int32} {j : Nat} (ht : dN (B (2084 + 48 * a + 0)) < 4) (hj : j < 1866 ∨ 2084 ≤ j) (h1 : j ≠ (2084 + 48 * a + 6)) (h2 : j ≠ (2084 + 48 * a + 10)) (h3 : j ≠ (2084 + 48 * a + (27 + i))) : pCA2 A B a i w j = B j := by
  unfold pCA2
  split
  · rw [pk_un h2, pk_un h1]
  · rw [pBookFor_ne (by rw [pk_un (by omega)]; exact ht) (by omega) hj h2, pk_un h3]
theorem pCA2_k {A : Nat → Nat → Int32} {B : Nat → Int32} {a i : Nat} {w : Int32} (ht : dN (B (2084 + 48 * a + 0)) < 4) (hk : isN (B 1867) 40) : isN (pCA2 A B a i w 1867) 40 := by
  unfold pCA2
  split
  · rw [pk_un (by omega), pk_un (by omega)]; exact hk
  · exact pBookFor_k (by rw [pk_un (by omega)]; exact ht) (by omega)
theorem pCA3_ne {A : Nat → Nat → Int32} {B : Nat → Int32} {a : Nat} {bh sd : Int32} {j : Nat} (ht : dN (B (2084 + 48 * a + 0)) < 4) (hj : j < 1866 ∨ 2084 ≤ j) (h1 : j ≠ (2084 + 48 * a + 10)) (h2 : j ≠ (2084 + 48 * a + 11)) (h3 : j ≠ (2084 + 48 * a + 12)) : pCA3 A B a bh sd j = B j := by
  unfold pCA3
  split
  · rw [pBookFor_ne (by rw [pk_un (by omega), pk_un (by omega)]; exact ht) (by omega) hj h1, pk_un h3, pk_un h2]
  · rfl
theorem pCA3_k {A : Nat → Nat → Int32} {B : Nat → Int32} {a : Nat} {bh sd : Int32} (ht : dN (B (2084 + 48 * a + 0)) < 4) (hk : isN (B 1867) 40) : isN (pCA3 A B a bh sd 1867) 40 := by
  unfold pCA3
  split
  · exact pBookFor_k (by rw [pk_un (by omega), pk_un (by omega)]; exact ht) (by omega)
  · exact hk
theorem pCA3_11 {A : Nat → Nat → Int32} {B : Nat → Int32} {a : Nat} {bh sd : Int32} (ht : dN (B (2084 + 48 * a + 0)) < 4) (h11 : isN (B (2084 + 48 * a + 11)) 1) : isN (pCA3 A B a bh sd (2084 + 48 * a + 11)) 1 := by
  unfold pCA3
  split
  · rw [pBookFor_ne (by rw [pk_un (by omega), pk_un (by omega)]; exact ht) (by omega) (by omega) (by omega), pk_un (by omega), pk_us]
    exact isN.nI (by omega) (by omega)
  · exact h11
theorem pCA4_ne {B : Nat → Int32} {a : Nat} {bh sd : Int32} {j : Nat} (h1 : j ≠ (2084 + 48 * a + 9)) : pCA4 B a bh sd j = B j := by
  unfold pCA4
  split
  · rw [pk_un h1]
  · rfl
theorem isI_0 {n m : Nat} (h : n ≤ 10) (hm : m ≤ 20) : nI n - nI 1 - nI m = 0 ↔ n = m + 1 := by
  have e : (nI n - nI 1 - nI m).toInt = (n : Int) - 1 - m := by
    rw [Int32.toInt_sub, Int32.toInt_sub, nI_toInt (by omega), nI_toInt (by omega), nI_toInt (by omega)]
    have h1 : ((n : Int) - ((1 : Nat) : Int)).bmod (2 ^ 32) = (n : Int) - 1 := Int.bmod_eq_of_le (by omega) (by omega)
    rw [h1]
    exact Int.bmod_eq_of_le (by omega) (by omega)
  constructor
  · intro h0
    rw [h0] at e
    have : (0 : Int32).toInt = 0 := rfl
    omega
  · intro h0
    apply Int32.toInt_inj.mp
    rw [e]
    show _ = (0 : Int)
    omega
/-- a cell of a closed asset's bank that isn't its row's is as it was, but for the books -/
theorem pCA_ne {A : Nat → Nat → Int32} {B : Nat → Int32} {a i : Nat} {j : Nat} (ht : dN (B (2084 + 48 * a + 0)) < 4) (hi : pIv B a = i) (hi10 : ¬ B (2084 + 48 * a + 9) = nI 1 → i < 10) (hj : j < 1866 ∨ 2084 ≤ j ∧ (j < (2084 + 48 * a + 0) ∨ (2084 + 48 * a + 47) < j)) : pCA A B a j = B j := by
  unfold pCA
  split
  · rfl
  · rename_i hs
    have hi10 := hi10 hs
    rw [hi]
    have e1 : ∀ w, dN (pCA1 A B a i w (2084 + 48 * a + 0)) < 4 := fun w => by rw [pCA1_ne (by omega) (by omega) (by omega)]; exact ht
    have e2 : ∀ w, dN (pCA2 A (pCA1 A B a i w) a i w (2084 + 48 * a + 0)) < 4 := fun w => by rw [pCA2_ne (e1 w) (by omega) (by omega) (by omega) (by omega)]; exact e1 w
    show upd _ _ _ _ = _
    rw [pk_un (by omega), pCA4_ne (by omega), pCA3_ne (e2 _) (by omega) (by omega) (by omega) (by omega), pCA2_ne (e1 _) (by omega) (by omega) (by omega) (by omega), pCA1_ne (by omega) (by omega) (by omega)]
theorem pCA_k {A : Nat → Nat → Int32} {B : Nat → Int32} {a i : Nat} (ht : dN (B (2084 + 48 * a + 0)) < 4) (hi : pIv B a = i) (hi10 : ¬ B (2084 + 48 * a + 9) = nI 1 → i < 10) (hk : isN (B 1867) 40) : isN (pCA A B a 1867) 40 := by
  unfold pCA
  split
  · exact hk
  · rename_i hs
    have hi10 := hi10 hs
    rw [hi]
    have e1 : ∀ w, dN (pCA1 A B a i w (2084 + 48 * a + 0)) < 4 := fun w => by rw [pCA1_ne (by omega) (by omega) (by omega)]; exact ht
    have e2 : ∀ w, dN (pCA2 A (pCA1 A B a i w) a i w (2084 + 48 * a + 0)) < 4 := fun w => by rw [pCA2_ne (e1 w) (by omega) (by omega) (by omega) (by omega)]; exact e1 w
    show isN (upd _ _ _ _) 40
    rw [pk_un (by omega), pCA4_ne (by omega)]
    exact pCA3_k (e2 _) (pCA2_k (e1 _) (by rw [pCA1_ne (by omega) (by omega) (by omega)]; exact hk))
theorem pCA_eq {A : Nat → Nat → Int32} {B B2 B3 B4 : Nat → Int32} {a i : Nat} (hs : ¬ B (2084 + 48 * a + 9) = nI 1) (hi : pIv B a = i) (h2 : B2 = pCA2 A (pCA1 A B a i (pWorth A B a (B (2084 + 48 * a + 2)))) a i (pWorth A B a (B (2084 + 48 * a + 2)))) (h3 : B3 = pCA3 A B2 a (B2 (2084 + 48 * a + 4) - nI 1 - nI i) (B2 (2084 + 48 * a + 7) - nI 1)) (h4 : B4 = pCA4 B3 a (B2 (2084 + 48 * a + 4) - nI 1 - nI i) (B2 (2084 + 48 * a + 7) - nI 1)) : pCA A B a = upd B4 (2084 + 48 * a + 0) (B4 (2084 + 48 * a + 1)) := by
  subst h4
  subst h3
  subst h2
  subst hi
  unfold pCA
  rw [if_neg hs]
