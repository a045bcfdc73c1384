set_option maxRecDepth 100000
/-! THE DESK's SIDE AGAINST THE BANKS -/
/-- rows: 0 provisional, 1 recovered, 2 annual, 3 trued (not in the bank), 4 totals -/
def bf (B : Nat → Int32) (D : Nat → Nat → Int32) (j t q : Nat) : Int32 := if j = 0 then B (1289 + 64 * t + q) else if j = 1 then B (1545 + 64 * t + q) else if j = 2 then B (1801 + 16 * t + q) else if j = 3 then D t q else B (2068 + 4 * t + q)
def bo (B : Nat → Int32) (i t : Nat) : Int32 := B (1281 + 2 * t + i)
/-- told: traders, sales, buys, assets -/
def trA (A : Nat → Nat → Int32) (j t i : Nat) : Int32 := if j = 1 then (if i = 3 then (if A 2 (8 * t + 3) = nI 1 then A 2 (8 * t + 4) else -1) else if i = 4 then A 2 (8 * t + 5) else if i = 5 then (if A 2 (8 * t + 6) = nI 1 then A 2 (8 * t + 7) else -1) else A 2 (8 * t + i)) else if j = 2 then A 3 (4 * t + i) else if j = 3 then A 4 (4 * t + i) else A 5 (5 * t + i)
def wA (A : Nat → Nat → Int32) (ln : Int32) (i : Nat) : Int32 := if i < 4 then A 6 i else ln
def cA (T : Nat) (A : Nat → Nat → Int32) (j : Nat) : Nat := if j = 1 then T else if j = 2 then dN (A 6 4) else if j = 3 then dN (A 6 5) else dN (A 6 6)
/-- sums and heads within bounds -/
def qB (B : Nat → Int32) : Prop := ∀ t q k, t < 4 → q < 64 → k < 5 → 0 ≤ (pQS B t q k).toInt ∧ (pQS B t q k).toInt < 75000000
def hdB (B : Nat → Int32) : Prop := ∀ t, t < 4 → hB (pHO B t) (pHA B t)
theorem qB.z {B : Nat → Int32} (h : qB B) {t q : Nat} (ht : t < 4) (hq : q < 64) : zB (pQS B t q) := fun k hk => by
  have := h t q k ht hq hk
  omega
theorem qB.yn {B : Nat → Int32} (h : qB B) {t y k : Nat} (ht : t < 4) (hy : y < 16) (hk : k < 5) : ∀ n : Nat, n ≤ 4 → 0 ≤ (pYSn B t y n k).toInt ∧ (pYSn B t y n k).toInt < 75000000 * (n : Int) + 1
  | 0, _ => by
    have e : (pYSn B t y 0 k).toInt = 0 := rfl
    rw [e]
    omega
  | n + 1, hn => by
    have h1 := qB.yn h ht hy hk n (by omega)
    have h2 := h t (4 * y + n) k ht (by omega) hk
    have e : pYSn B t y (n + 1) k = pYSn B t y n k + pQS B t (4 * y + n) k := rfl
    rw [e, i64_add (by omega) (by omega)]
    omega
theorem qB.y {B : Nat → Int32} (h : qB B) {t y : Nat} (ht : t < 4) (hy : y < 16) : zB (pYS B t y) := fun k hk => by
  have h1 := h.yn ht hy hk 4 (by omega)
  have e : pYS B t y k = pYSn B t y 4 k := rfl
  rw [e]
  omega
section WTS
variable {T : Nat} {A : Nat → Nat → Int32}
theorem nI_int {n : Nat} (h : n < 2147483648) : (nI n).toInt = (n : Int) := by
  have h1 : (nI n).toInt = ((n : Int)).bmod (2 ^ 32) := Int32.toInt_ofNat'
  rw [h1, Int.bmod_eq_of_le] <;> simp <;> omega
theorem isN_to {x : Int32} {m : Nat} (h : isN x m) : ∃ k, x = nI k ∧ k ≤ m := ⟨_, h.1, h.2⟩
theorem isN.int {x : Int32} {m : Nat} (h : isN x m) (hm : m < 2147483648) : 0 ≤ x.toInt ∧ x.toInt ≤ m ∧ x.toInt = (dN x : Int) := by
  obtain ⟨h1, h2⟩ := h
  rw [h1, nI_int (by omega), ← h1]
  omega
theorem wT.stepI (h : wT T A) : 10 ≤ (A 6 1).toInt ∧ (A 6 1).toInt ≤ 1000 := by
  have h1 := h.step.int (by omega)
  have h2 := h.step10
  omega
theorem wT.limI (h : wT T A) : 0 ≤ (A 6 2).toInt ∧ (A 6 2).toInt ≤ 9999 := by
  have h1 := h.limit.int (by omega)
  omega
end WTS
theorem pFr_fB {T : Nat} {A : Nat → Nat → Int32} (h : wT T A) {Z : Nat → Int64} {ho ha : Int64} {t : Nat} (hz : zB Z) (hh : hB ho ha) : fB (A 6 1) (pFr A Z ho ha t) := pFrac_fB h.stepI hz hh
/-- the year's sums lie elsewhere than all else -/
theorem BC.fl10 {G : gG} {r x : Nat} {ba : Nat → Nat} {s : Nat → Nat → Nat → Int64} {f : Nat → Nat → Nat → Int32} {o : Nat → Nat → Int32} {nw en : Int32} {Z : Nat → Int64} {M M' : gM} (h : BC G r ba x s f o nw en Z M) (h' : ∃ Z', BC G r ba x s f o nw en Z' M') (k : ∀ z, z ≠ ba 10 → M' z = M z) : gFl (fun l => l = (r, 10)) M M' := by
  obtain ⟨Z', h'⟩ := h'
  exact gFl.of1 h.2.2.2.2.2.2.2.2 h'.2.2.2.2.2.2.2.2 k rfl
theorem XW.k10 {G : gG} {r x tx wl ml : Nat} {wf mf : Nat → Nat} {M M' : gM} (h : XW G x tx wl ml wf mf M) (f : gFl (fun l => l = (r, 10)) M M') (hr : 4 ≤ r) (hx : r ≠ x + 4) : XW G x tx wl ml wf mf M' :=
  h.keep f (fun j e => by have := congrArg Prod.fst e; dsimp only at this; omega) (fun e => hx (congrArg Prod.fst e).symm)
theorem TR.k10 {G : gG} {r rt tx : Nat} {ta : Nat → Nat} {mc : Nat → Int32} {nd it : Nat → Nat → Nat} {cnt : Nat → Nat} {tr : Nat → Nat → Nat → Int32} {w : Nat → Int32} {M M' : gM} (h : TR G rt tx ta mc nd it cnt tr w M) (f : gFl (fun l => l = (r, 10)) M M') (hr : r ≠ rt) : TR G rt tx ta mc nd it cnt tr w M' :=
  h.keep f (fun j e => hr (congrArg Prod.fst e).symm)
theorem BC.r0 {G : gG} {r x : Nat} {ba : Nat → Nat} {s : Nat → Nat → Nat → Int64} {f : Nat → Nat → Nat → Int32} {o : Nat → Nat → Int32} {nw en : Int32} {Z : Nat → Int64} {M : gM} (h : BC G r ba x s f o nw en Z M) {t : Nat} (ht : t < 4) : M (ba (30 + t)) = some ((r, 30 + t), .inl (G.2.1 0, 64, .inl (clipI 64 (f 0 t)))) := h.2.2.2.2.1 0 t (by omega) ht
theorem BC.r1 {G : gG} {r x : Nat} {ba : Nat → Nat} {s : Nat → Nat → Nat → Int64} {f : Nat → Nat → Nat → Int32} {o : Nat → Nat → Int32} {nw en : Int32} {Z : Nat → Int64} {M : gM} (h : BC G r ba x s f o nw en Z M) {t : Nat} (ht : t < 4) : M (ba (40 + t)) = some ((r, 40 + t), .inl (G.2.1 0, 64, .inl (clipI 64 (f 1 t)))) := h.2.2.2.2.1 1 t (by omega) ht
theorem BC.r2 {G : gG} {r x : Nat} {ba : Nat → Nat} {s : Nat → Nat → Nat → Int64} {f : Nat → Nat → Nat → Int32} {o : Nat → Nat → Int32} {nw en : Int32} {Z : Nat → Int64} {M : gM} (h : BC G r ba x s f o nw en Z M) {t : Nat} (ht : t < 4) : M (ba (50 + t)) = some ((r, 50 + t), .inl (G.2.1 0, 16, .inl (clipI 16 (f 2 t)))) := h.2.2.2.2.1 2 t (by omega) ht
theorem BC.r3 {G : gG} {r x : Nat} {ba : Nat → Nat} {s : Nat → Nat → Nat → Int64} {f : Nat → Nat → Nat → Int32} {o : Nat → Nat → Int32} {nw en : Int32} {Z : Nat → Int64} {M : gM} (h : BC G r ba x s f o nw en Z M) {t : Nat} (ht : t < 4) : M (ba (60 + t)) = some ((r, 60 + t), .inl (G.2.1 0, 16, .inl (clipI 16 (f 3 t)))) := h.2.2.2.2.1 3 t (by omega) ht
theorem BC.r4 {G : gG} {r x : Nat} {ba : Nat → Nat} {s : Nat → Nat → Nat → Int64} {f : Nat → Nat → Nat → Int32} {o : Nat → Nat → Int32} {nw en : Int32} {Z : Nat → Int64} {M : gM} (h : BC G r ba x s f o nw en Z M) {t : Nat} (ht : t < 4) : M (ba (70 + t)) = some ((r, 70 + t), .inl (G.2.1 0, 4, .inl (clipI 4 (f 4 t)))) := h.2.2.2.2.1 4 t (by omega) ht
def rB (A : Nat → Nat → Int32) (B : Nat → Int32) : Prop := ∀ t y, t < 4 → y < 16 → fB (A 6 1) (B (1801 + 16 * t + y))
theorem pAnn_fB {T : Nat} {A : Nat → Nat → Int32} {B : Nat → Int32} (hw : wT T A) (hq : qB B) (hh : hdB B) (hr : rB A B) {t y : Nat} (ht : t < 4) (hy : y < 16) : fB (A 6 1) (pAnn A B t y) := by
  unfold pAnn
  by_cases h : y < pYr B
  · rw [if_pos h]; exact hr t y ht hy
  · rw [if_neg h]; exact pFr_fB hw (hq.y ht hy) (hh t ht)
theorem pMin_fst (a b : Int32) : pMin a b = if a < b then a else b := by
  unfold pMin
  by_cases h : a < b
  · rw [if_pos h, if_neg (by rw [Int32.not_lt]; exact Int32.le_of_lt h)]
  · rw [if_neg h]
    by_cases h2 : b < a
    · rw [if_pos h2]
    · rw [if_neg h2]
      exact Int32.le_antisymm (Int32.not_lt.mp h2) (Int32.not_lt.mp h)
/-- how many of a year's quarters are gone -/
def pK (n y : Nat) : Nat := if n < 4 * y + 4 then n - 4 * y else 4
theorem pK_min {n y : Nat} (hn : n < 64) (hy : y < 16) : ∃ m, pMin (nI n) (nI (4 * y + 4)) = nI m ∧ pK n y ≤ 4 ∧ ((4 * y + pK n y = m) ∨ (pK n y = 0 ∧ m ≤ 4 * y)) ∧ m < 100 := by
  unfold pK
  by_cases h : n < 4 * y + 4
  · exact ⟨n, pMin_le (by omega) (by omega), by rw [if_pos h]; omega, by rw [if_pos h]; omega, by omega⟩
  · exact ⟨4 * y + 4, pMin_ge (by omega) (by omega), by rw [if_neg h]; omega, by rw [if_neg h]; omega, by omega⟩
/-- worth by uses: of so many quarters as they were, of the others as it is -/
def xWn (A : Nat → Nat → Int32) (u : Int32) (us : Nat → Int32) (f : Int32) (cl : Nat) : Nat → Int64
  | 0 => 0
  | n + 1 => xWn A u us f cl n + (pUse A (if n < cl then us n else u) f).toInt64
theorem xWn_bg (A : Nat → Nat → Int32) (u : Int32) (us : Nat → Int32) (f : Int32) (cl : Nat) : ∀ n : Nat, n ≤ 4 → -(2147483648 * (n : Int)) ≤ (xWn A u us f cl n).toInt ∧ (xWn A u us f cl n).toInt ≤ 2147483648 * (n : Int)
  | 0, _ => by
    have e : (xWn A u us f cl 0).toInt = 0 := rfl
    rw [e]
    omega
  | n + 1, hn => by
    have h1 := xWn_bg A u us f cl n (by omega)
    have h2 := sm_i (pUse A (if n < cl then us n else u) f)
    show _ ≤ (xWn A u us f cl n + _).toInt ∧ (xWn A u us f cl n + _).toInt ≤ _
    rw [i64_add (by omega) (by omega)]
    omega
theorem xWn_bg4 {A : Nat → Nat → Int32} {u : Int32} {us : Nat → Int32} {f : Int32} {cl : Nat} : bg (xWn A u us f cl 4) := by
  have h := xWn_bg A u us f cl 4 (by omega)
  unfold bg
  omega
def xW (A : Nat → Nat → Int32) (b u : Int32) (us : Nat → Int32) (f : Int32) (cl : Nat) : Int32 := if b = -1 then pUse A u f else (pCut (A 6 0) (xWn A u us f cl 4) 4).toInt32
def xSm (g : Nat → Int32) (z : Int32) : Nat → Int32
  | 0 => z
  | n + 1 => xSm g z n + g n
theorem i6432 (x : Int64) : x.toInt32.toInt64.toInt32 = x.toInt32 := by rw [Int32.toInt32_toInt64]
theorem int_mulS {x y m k : Int} (hx : -m ≤ x ∧ x ≤ m) (hy : -k ≤ y ∧ y ≤ k) : -(m * k) ≤ x * y ∧ x * y ≤ m * k := by
  have h1 : x.natAbs ≤ m.natAbs := by omega
  have h2 : y.natAbs ≤ k.natAbs := by omega
  have h3 : (x * y).natAbs ≤ (m * k).natAbs := by
    rw [Int.natAbs_mul, Int.natAbs_mul]
    exact Nat.mul_le_mul h1 h2
  have h4 : 0 ≤ m * k := Int.mul_nonneg (by omega) (by omega)
  omega
theorem i64_mulS {x y : Int64} {m k : Int} (hx : -m ≤ x.toInt ∧ x.toInt ≤ m) (hy : -k ≤ y.toInt ∧ y.toInt ≤ k) (hb : m * k < 1125899906842624) : (x * y).toInt = x.toInt * y.toInt ∧ -(m * k) ≤ (x * y).toInt ∧ (x * y).toInt ≤ m * k := by
  have h := int_mulS hx hy
  have e : (x * y).toInt = x.toInt * y.toInt := by rw [Int64.toInt_mul, i64_bm (by omega)]
  rw [e]
  exact ⟨rfl, h⟩
theorem i32_sub {x y : Int32} (hx : -100000000 ≤ x.toInt ∧ x.toInt ≤ 100000000) (hy : -100000000 ≤ y.toInt ∧ y.toInt ≤ 100000000) : (x - y).toInt = x.toInt - y.toInt := by
  rw [Int32.toInt_sub, Int.bmod_eq_of_le] <;> simp <;> omega
/-- an asset's tax and span -/
def aV (v : Nat → Int32) : Prop := 0 ≤ (v 1).toInt ∧ (v 1).toInt ≤ 99999 ∧ (v 2 = nI 5 ∨ v 2 = nI 10)
theorem aV.sh {v : Nat → Int32} (h : aV v) {many its base step : Int32} (hm : -1000 ≤ many.toInt ∧ many.toInt ≤ 1000) (hi : -2000 ≤ its.toInt ∧ its.toInt ≤ 2000) (hb : -2000 ≤ base.toInt ∧ base.toInt ≤ 2000) (hs : 10 ≤ step.toInt ∧ step.toInt ≤ 1000) : 0 < ((v 2).toInt64 * step.toInt64).toInt ∧ bg ((v 1).toInt64 * many.toInt64 * (its - base).toInt64) ∧ bg ((v 2).toInt64 * step.toInt64) := by
  obtain ⟨h1, h2, h3⟩ := h
  have e := fun z : Int32 => Int32.toInt_toInt64 z
  have hd := i32_sub (x := its) (y := base) (by omega) (by omega)
  have h5 : 5 ≤ (v 2).toInt ∧ (v 2).toInt ≤ 10 := by
    rcases h3 with h3 | h3 <;> rw [h3] <;> decide
  obtain ⟨p1, p2, p3⟩ := i64_mulS (x := (v 1).toInt64) (y := many.toInt64) (m := 99999) (k := 1000) (by rw [e]; omega) (by rw [e]; omega) (by decide)
  obtain ⟨q1, q2, q3⟩ := i64_mulS (x := (v 1).toInt64 * many.toInt64) (y := (its - base).toInt64) (m := 99999 * 1000) (k := 4000) ⟨p2, p3⟩ (by rw [e, hd]; omega) (by decide)
  obtain ⟨s1, s2, s3⟩ := i64_mul (x := (v 2).toInt64) (y := step.toInt64) (m := 10) (n := 1000) (by rw [e]; omega) (by rw [e]; omega) (by decide)
  have s4 : 5 * 10 ≤ (v 2).toInt * step.toInt := Int.mul_le_mul h5.1 hs.1 (by omega) (by omega)
  rw [e, e] at s1 s2 s3
  unfold bg
  rw [s1]
  omega
theorem aV.fst {v : Nat → Int32} (h : aV v) {b step : Int32} (hb : -2000 ≤ b.toInt ∧ b.toInt ≤ 2000) (hs : 10 ≤ step.toInt ∧ step.toInt ≤ 1000) : 0 < step.toInt64.toInt ∧ bg ((v 1).toInt64 * b.toInt64) ∧ bg step.toInt64 := by
  obtain ⟨h1, h2, h3⟩ := h
  have e := fun z : Int32 => Int32.toInt_toInt64 z
  obtain ⟨p1, p2, p3⟩ := i64_mulS (x := (v 1).toInt64) (y := b.toInt64) (m := 99999) (k := 2000) (by rw [e]; omega) (by rw [e]; omega) (by decide)
  unfold bg
  rw [e]
  omega
