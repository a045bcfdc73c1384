set_option maxRecDepth 100000
/-! BOUNDS THAT ARE ASKED -/
theorem i32_le64 {a b : Int32} : a.toInt64 ≤ b.toInt64 ↔ a ≤ b := by
  rw [Int64.le_iff_toInt_le, Int32.toInt_toInt64, Int32.toInt_toInt64, Int32.le_iff_toInt_le]
theorem in_iI {v : Int32} {lo hi : Int64} {a b : Int32} (ha : a.toInt64 = lo) (hb : b.toInt64 = hi) : (lo ≤ v.toInt64 ∧ v.toInt64 ≤ hi) ↔ iI v a b := by
  rw [← ha, ← hb, i32_le64, i32_le64]
theorem nI_prI {T : Nat} (hT : T ≤ 1000000) : (nI T - nI 1).toInt = (T : Int) - 1 := by
  rw [i32_sub (by rw [nI_int (by omega)]; omega) (by decide), nI_int (by omega)]
  rfl
theorem in_iT {T : Nat} {t : Int32} (hT : T ≤ 1000000) : ((0 : Int64) ≤ t.toInt64 ∧ t.toInt64 ≤ (nI T - nI 1).toInt64) ↔ iT T t := by
  rw [show (0 : Int64) = (0 : Int32).toInt64 from by decide, i32_le64, i32_le64]
  unfold iT
  rw [Int32.le_iff_toInt_le (x := t), Int32.lt_iff_toInt_lt, nI_prI hT, nI_int (by omega)]
  constructor
  · intro ⟨h1, h2⟩; exact ⟨h1, by omega⟩
  · intro ⟨h1, h2⟩; exact ⟨h1, by omega⟩
theorem iT_ex {T : Nat} {t : Int32} (hT : T ≤ 1000000) (h : iT T t) : ∃ k, t = nI k ∧ k < T := by
  have h1 := Int32.le_iff_toInt_le.mp h.1
  have h2 := Int32.lt_iff_toInt_lt.mp h.2
  rw [nI_int (by omega)] at h2
  have h0 : (0 : Int32).toInt = 0 := by decide
  rw [h0] at h1
  refine ⟨t.toInt.toNat, ?_, by omega⟩
  rw [← Int32.toInt_inj, nI_int (by omega)]
  omega
theorem iI_ex {t : Int32} {a b : Nat} (ha : a ≤ 1000000) (hb : b ≤ 1000000) (h : iI t (nI a) (nI b)) : ∃ k, t = nI k ∧ a ≤ k ∧ k ≤ b := by
  have h1 := Int32.le_iff_toInt_le.mp h.1
  have h2 := Int32.le_iff_toInt_le.mp h.2
  rw [nI_int (by omega)] at h1 h2
  refine ⟨t.toInt.toNat, ?_, by omega, by omega⟩
  rw [← Int32.toInt_inj, nI_int (by omega)]
  omega
theorem iT_nI {T k : Nat} (hT : T ≤ 1000000) (h : k < T) : iT T (nI k) := by
  refine ⟨Int32.le_iff_toInt_le.mpr ?_, Int32.lt_iff_toInt_lt.mpr ?_⟩
  · rw [nI_int (by omega), show (0 : Int32).toInt = 0 from by decide]; omega
  · rw [nI_int (by omega), nI_int (by omega)]; omega
theorem iT_64 {q : Int32} : iI q (nI 0) (nI 63) ↔ iT 64 q := by
  rw [← in_iT (T := 64) (by omega), ← in_iI (a := nI 0) (b := nI 63) (lo := 0) (hi := (nI 64 - nI 1).toInt64) (by decide) (by decide)]
theorem nn64 {v : Int32} (h : (0 : Int64) ≤ v.toInt64) : ¬ v < 0 := Int32.not_lt.mpr (i32_le64.mp (by rw [show (0 : Int32).toInt64 = 0 from by decide]; exact h))
theorem q64 {q : Int32} : ((0 : Int64) ≤ q.toInt64 ∧ q.toInt64 ≤ 63) ↔ iT 64 q := (in_iI (a := nI 0) (b := nI 63) (by decide) (by decide)).trans iT_64
theorem y16 {q : Int32} : ((0 : Int64) ≤ q.toInt64 ∧ q.toInt64 ≤ 15) ↔ iI q (nI 0) (nI 15) := in_iI (by decide) (by decide)
theorem u4 {q : Int32} : ((0 : Int64) ≤ q.toInt64 ∧ q.toInt64 ≤ 4) ↔ iI q (nI 0) (nI 4) := in_iI (by decide) (by decide)
theorem u3 {q : Int32} : ((0 : Int64) ≤ q.toInt64 ∧ q.toInt64 ≤ 3) ↔ iI q (nI 0) (nI 3) := in_iI (by decide) (by decide)
theorem iT_y15 {n : Nat} {y : Int32} (hn : n < 64) (h : iT (n / 4 + 1) y) : (0 : Int64) ≤ y.toInt64 ∧ y.toInt64 ≤ 15 := by
  obtain ⟨k, rfl, hk⟩ := iT_ex (by omega) h
  rw [y16]
  refine ⟨Int32.le_iff_toInt_le.mpr ?_, Int32.le_iff_toInt_le.mpr ?_⟩
  · rw [nI_int (by omega), nI_int (by omega)]; omega
  · rw [nI_int (by omega), nI_int (by omega)]; omega
/-- of quarters that aren't closed nothing is booked -/
def rZ (B : Nat → Int32) (n : Nat) : Prop := ∀ t q, t < 4 → n ≤ q → q < 64 → B (1545 + 64 * t + q) = 0
theorem pBin_K {B : Nat → Int32} {n t y : Nat} (hz : rZ B n) (ht : t < 4) (hy : y < 16) (hyn : 4 * y ≤ n) : pBin B t y (pK n y) = pBin B t y 4 := by
  have key : ∀ d m, m + d = 4 → pK n y ≤ m → pBin B t y m = pBin B t y 4 := by
    intro d
    induction d with
    | zero => intro m hm _; rw [show m = 4 by omega]
    | succ d ih =>
      intro m hm hk
      rw [← ih (m + 1) (by omega) (by omega)]
      show _ = pBin B t y m + B (1545 + 64 * t + (4 * y + m))
      have hq : n ≤ 4 * y + m := by
        unfold pK at hk
        by_cases c : n < 4 * y + 4
        · rw [if_pos c] at hk; omega
        · rw [if_neg c] at hk; omega
      rw [hz t _ ht hq (by omega), Int32.add_zero]
  have h4 : pK n y ≤ 4 := by
    unfold pK
    by_cases c : n < 4 * y + 4
    · rw [if_pos c]; omega
    · rw [if_neg c]; omega
  exact key (4 - pK n y) (pK n y) (by omega) (Nat.le_refl _)
theorem tab_no {u : Int32} {k : Nat} (hk : k ≤ 1000) (h : u.toInt < 0 ∨ (k : Int) < u.toInt) : ¬ iI u (nI 0) (nI k) := fun q => by
  have h1 := Int32.le_iff_toInt_le.mp q.1
  have h2 := Int32.le_iff_toInt_le.mp q.2
  rw [nI_int (by omega)] at h1 h2
  omega
theorem u2 {q : Int32} : ((0 : Int64) ≤ q.toInt64 ∧ q.toInt64 ≤ 2) ↔ iI q (nI 0) (nI 2) := in_iI (by decide) (by decide)
theorem s10 {q : Int32} : ((10 : Int64) ≤ q.toInt64 ∧ q.toInt64 ≤ 1000) ↔ iI q (nI 10) (nI 1000) := in_iI (by decide) (by decide)
theorem s10i {q : Int32} (h : (10 : Int64) ≤ q.toInt64 ∧ q.toInt64 ≤ 1000) : 10 ≤ q.toInt ∧ q.toInt ≤ 1000 := by
  rw [Int64.le_iff_toInt_le, Int64.le_iff_toInt_le, Int32.toInt_toInt64, show (10 : Int64).toInt = 10 from by decide, show (1000 : Int64).toInt = 1000 from by decide] at h
  exact h
theorem qn1 {q : Int32} {n : Nat} : ((0 : Int64) ≤ q.toInt64 ∧ q.toInt64 ≤ (nI n - nI 1).toInt64) ↔ iI q (nI 0) (nI n - nI 1) := in_iI (by decide) rfl
theorem u1 {q : Int32} : ((0 : Int64) ≤ q.toInt64 ∧ q.toInt64 ≤ 1) ↔ iI q (nI 0) (nI 1) := in_iI (by decide) (by decide)
