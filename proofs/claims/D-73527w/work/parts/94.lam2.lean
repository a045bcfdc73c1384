set_option maxRecDepth 100000
/-! THE NINE LAMBDAS; sums' bounds -/
def lσ (own iface : String) (par : List FieldType) (nm : String) : Lambda.Shape := { iface := iface, name := "of", sam := { parameters := par, returnType := some .long }, captured := [], kind := 6, implClass := own, implName := nm, implDesc := { parameters := par, returnType := some .long }, implItf := false, inst := { parameters := par, returnType := some .long } }
def sW0 : Lambda.Shape := lσ "ExemptDesk$Way" "ExemptDesk$Cut" [.long, .long] "lambda$new$0"
abbrev gW0 (G : gG) (a : Nat) : Prop := gLam G yX2_init 33 9 sW0 a
theorem gW0_of {G : gG} (hG : gOK G) : ∃ a, gW0 G a := gLam_of hG rfl (fun _ _ h => flat_of_before _ h _ (by decide +kernel))
theorem lW0 : lamH sW0 RX2 lcJJ 5 .long := ⟨by decide +kernel, by decide +kernel, by decide +kernel, by decide +kernel, by decide +kernel, by decide +kernel, by decide +kernel⟩
def sW1 : Lambda.Shape := lσ "ExemptDesk$Way" "ExemptDesk$Cut" [.long, .long] "lambda$new$1"
abbrev gW1 (G : gG) (a : Nat) : Prop := gLam G yX2_init 45 19 sW1 a
theorem gW1_of {G : gG} (hG : gOK G) : ∃ a, gW1 G a := gLam_of hG rfl (fun _ _ h => flat_of_before _ h _ (by decide +kernel))
theorem lW1 : lamH sW1 RX2 lcJJ 5 .long := ⟨by decide +kernel, by decide +kernel, by decide +kernel, by decide +kernel, by decide +kernel, by decide +kernel, by decide +kernel⟩
def sW2 : Lambda.Shape := lσ "ExemptDesk$Way" "ExemptDesk$Cut" [.long, .long] "lambda$new$2"
abbrev gW2 (G : gG) (a : Nat) : Prop := gLam G yX2_init 57 20 sW2 a
theorem gW2_of {G : gG} (hG : gOK G) : ∃ a, gW2 G a := gLam_of hG rfl (fun _ _ h => flat_of_before _ h _ (by decide +kernel))
theorem lW2 : lamH sW2 RX2 lcJJ 5 .long := ⟨by decide +kernel, by decide +kernel, by decide +kernel, by decide +kernel, by decide +kernel, by decide +kernel, by decide +kernel⟩
def sP0 : Lambda.Shape := lσ "ExemptDesk$Method" "ExemptDesk$Part" [.object "ExemptDesk$Sums", .int, .int] "lambda$new$0"
abbrev gP0 (G : gG) (a : Nat) : Prop := gLam G yX3_init 33 7 sP0 a
theorem gP0_of {G : gG} (hG : gOK G) : ∃ a, gP0 G a := gLam_of hG rfl (fun _ _ h => flat_of_before _ h _ (by decide +kernel))
theorem lP0 : lamH sP0 RX3 lcRII 4 .long := ⟨by decide +kernel, by decide +kernel, by decide +kernel, by decide +kernel, by decide +kernel, by decide +kernel, by decide +kernel⟩
def sP1 : Lambda.Shape := lσ "ExemptDesk$Method" "ExemptDesk$Part" [.object "ExemptDesk$Sums", .int, .int] "lambda$new$1"
abbrev gP1 (G : gG) (a : Nat) : Prop := gLam G yX3_init 42 17 sP1 a
theorem gP1_of {G : gG} (hG : gOK G) : ∃ a, gP1 G a := gLam_of hG rfl (fun _ _ h => flat_of_before _ h _ (by decide +kernel))
theorem lP1 : lamH sP1 RX3 lcRII 4 .long := ⟨by decide +kernel, by decide +kernel, by decide +kernel, by decide +kernel, by decide +kernel, by decide +kernel, by decide +kernel⟩
def sP2 : Lambda.Shape := lσ "ExemptDesk$Method" "ExemptDesk$Part" [.object "ExemptDesk$Sums", .int, .int] "lambda$new$2"
abbrev gP2 (G : gG) (a : Nat) : Prop := gLam G yX3_init 54 21 sP2 a
theorem gP2_of {G : gG} (hG : gOK G) : ∃ a, gP2 G a := gLam_of hG rfl (fun _ _ h => flat_of_before _ h _ (by decide +kernel))
theorem lP2 : lamH sP2 RX3 lcRII 4 .long := ⟨by decide +kernel, by decide +kernel, by decide +kernel, by decide +kernel, by decide +kernel, by decide +kernel, by decide +kernel⟩
def sP3 : Lambda.Shape := lσ "ExemptDesk$Method" "ExemptDesk$Part" [.object "ExemptDesk$Sums", .int, .int] "lambda$new$3"
abbrev gP3 (G : gG) (a : Nat) : Prop := gLam G yX3_init 63 22 sP3 a
theorem gP3_of {G : gG} (hG : gOK G) : ∃ a, gP3 G a := gLam_of hG rfl (fun _ _ h => flat_of_before _ h _ (by decide +kernel))
theorem lP3 : lamH sP3 RX3 lcRII 4 .long := ⟨by decide +kernel, by decide +kernel, by decide +kernel, by decide +kernel, by decide +kernel, by decide +kernel, by decide +kernel⟩
def sP4 : Lambda.Shape := lσ "ExemptDesk$Method" "ExemptDesk$Part" [.object "ExemptDesk$Sums", .int, .int] "lambda$new$4"
abbrev gP4 (G : gG) (a : Nat) : Prop := gLam G yX3_init 75 23 sP4 a
theorem gP4_of {G : gG} (hG : gOK G) : ∃ a, gP4 G a := gLam_of hG rfl (fun _ _ h => flat_of_before _ h _ (by decide +kernel))
theorem lP4 : lamH sP4 RX3 lcRII 4 .long := ⟨by decide +kernel, by decide +kernel, by decide +kernel, by decide +kernel, by decide +kernel, by decide +kernel, by decide +kernel⟩
def sP5 : Lambda.Shape := lσ "ExemptDesk$Method" "ExemptDesk$Part" [.object "ExemptDesk$Sums", .int, .int] "lambda$new$5"
abbrev gP5 (G : gG) (a : Nat) : Prop := gLam G yX3_init 84 24 sP5 a
theorem gP5_of {G : gG} (hG : gOK G) : ∃ a, gP5 G a := gLam_of hG rfl (fun _ _ h => flat_of_before _ h _ (by decide +kernel))
theorem lP5 : lamH sP5 RX3 lcRII 4 .long := ⟨by decide +kernel, by decide +kernel, by decide +kernel, by decide +kernel, by decide +kernel, by decide +kernel, by decide +kernel⟩
/-- a way, a method -/
def WY (G : gG) (k v : Nat) (M : gM) : Prop := ∃ (j a : Nat), M v = some ((1, j), .inr (17, [.ref a])) ∧ (k = 0 ∧ gW0 G a ∨ k = 1 ∧ gW1 G a ∨ k = 2 ∧ gW2 G a)
def MT (G : gG) (k v : Nat) (M : gM) : Prop := ∃ (j a b : Nat), M v = some ((1, j), .inr (18, [.ref a, .ref b])) ∧ (k = 0 ∧ gP0 G a ∧ gP1 G b ∨ k = 1 ∧ gP2 G a ∧ gP3 G b ∨ k = 2 ∧ gP4 G a ∧ gP5 G b)
/-- sums -/
def SU (G : gG) (lO lW : Nat × Nat) (o w : Nat) (Z : Nat → Int64) (M : gM) : Prop := M o = some (lO, .inr (22, [.ref w])) ∧ M w = some (lW, .inl (G.2.1 1, 5, .inr (.inl (clipL 5 Z))))
def zB (Z : Nat → Int64) : Prop := ∀ k, k < 5 → 0 ≤ (Z k).toInt ∧ (Z k).toInt < 400000000
def fB (step f : Int32) : Prop := 10 ≤ step.toInt ∧ step.toInt ≤ 1000 ∧ 0 ≤ f.toInt ∧ f.toInt ≤ step.toInt
theorem fB.pos {step f : Int32} (h : fB step f) : 0 < step.toInt64.toInt ∧ bg step.toInt64 := by
  obtain ⟨h1, h2, -, -⟩ := h
  unfold bg
  rw [Int32.toInt_toInt64]
  omega
theorem zB.at {Z : Nat → Int64} (h : zB Z) {k : Nat} (hk : k < 5) : 0 ≤ (Z k).toInt ∧ (Z k).toInt < 400000000 := h k hk
theorem zB.add {Z : Nat → Int64} (h : zB Z) {j k : Nat} (hj : j < 5) (hk : k < 5) : (Z j + Z k).toInt = (Z j).toInt + (Z k).toInt := i64_add (by have := h j hj; omega) (by have := h k hk; omega)
theorem i64_mul {x y : Int64} {m n : Int} (hx : 0 ≤ x.toInt ∧ x.toInt ≤ m) (hy : 0 ≤ y.toInt ∧ y.toInt ≤ n) (hmn : m * n < 1125899906842624) : (x * y).toInt = x.toInt * y.toInt ∧ 0 ≤ x.toInt * y.toInt ∧ x.toInt * y.toInt ≤ m * n := by
  have h1 : 0 ≤ x.toInt * y.toInt := Int.mul_nonneg hx.1 hy.1
  have h2 : x.toInt * y.toInt ≤ m * n := Int.mul_le_mul hx.2 hy.2 hy.1 (by omega)
  exact ⟨by rw [Int64.toInt_mul, i64_bm (by omega)], h1, h2⟩
/-- back by a fraction: not more than the last tax -/
theorem its_rng {way step f : Int32} {Z : Nat → Int64} (hz : zB Z) (hf : fB step f) : 0 ≤ (pCut way (Z 4 * f.toInt64) step.toInt64).toInt ∧ (pCut way (Z 4 * f.toInt64) step.toInt64).toInt ≤ (Z 4).toInt ∧ 0 < step.toInt64.toInt ∧ bg (Z 4 * f.toInt64) ∧ bg step.toInt64 := by
  obtain ⟨h1, h2⟩ := hf.pos
  have h4 := hz.at (k := 4) (by omega)
  have hf' : f.toInt64.toInt = f.toInt := Int32.toInt_toInt64 f
  have hs' : step.toInt64.toInt = step.toInt := Int32.toInt_toInt64 step
  obtain ⟨f1, f2, f3, f4⟩ := hf
  obtain ⟨m1, m2, m3⟩ := i64_mul (x := Z 4) (y := f.toInt64) (m := 400000000) (n := 1000) (by omega) (by omega) (by decide)
  have hb : bg (Z 4 * f.toInt64) := by
    unfold bg
    rw [m1]
    omega
  have h5 := pCut_rng (way := way) (n := (Z 4).toInt) h1 hb h2 (by rw [m1]; exact m2) (by
    rw [m1, hf', hs']
    exact Int.mul_le_mul_of_nonneg_left f4 h4.1)
  exact ⟨h5.1, h5.2, h1, hb, h2⟩
theorem its_eq {way step f : Int32} {Z : Nat → Int64} (hz : zB Z) (hf : fB step f) : Z 2 + (pCut way (Z 4 * f.toInt64) step.toInt64).toInt32.toInt64 = pIts way step f Z := by
  have h4 := hz.at (k := 4) (by omega)
  obtain ⟨h1, h2, -⟩ := its_rng (way := way) hz hf
  unfold pIts
  rw [i32_64 (by omega)]
theorem pIts_rng {way step f : Int32} {Z : Nat → Int64} (hz : zB Z) (hf : fB step f) : (Z 2).toInt ≤ (pIts way step f Z).toInt ∧ (pIts way step f Z).toInt ≤ (Z 2).toInt + (Z 4).toInt := by
  have h4 := hz.at (k := 4) (by omega)
  have h2' := hz.at (k := 2) (by omega)
  obtain ⟨h1, h2, -⟩ := its_rng (way := way) hz hf
  unfold pIts
  rw [i64_add (by omega) (by omega)]
  omega
/-- heads -/
def hB (ho ha : Int64) : Prop := 0 ≤ ho.toInt ∧ ho.toInt ≤ ha.toInt ∧ ha.toInt ≤ 1000000
theorem frac_cut {way step : Int32} {x w : Int64} (hs : 10 ≤ step.toInt ∧ step.toInt ≤ 1000) (hx : 0 ≤ x.toInt ∧ x.toInt ≤ w.toInt) (hw : w.toInt < 1000000000) (h0 : ¬ w = 0) : 0 < w.toInt ∧ bg (step.toInt64 * x) ∧ bg w ∧ 0 ≤ (pCut way (step.toInt64 * x) w).toInt ∧ (pCut way (step.toInt64 * x) w).toInt ≤ step.toInt := by
  have hw0 : w.toInt ≠ 0 := fun e => h0 (Int64.toInt_inj.mp (by rw [e]; rfl))
  have hs' : step.toInt64.toInt = step.toInt := Int32.toInt_toInt64 step
  obtain ⟨m1, m2, m3⟩ := i64_mul (x := step.toInt64) (y := x) (m := 1000) (n := 1000000000) (by omega) (by omega) (by decide)
  have hb : bg (step.toInt64 * x) := by
    unfold bg
    rw [m1]
    omega
  have hb2 : bg w := by unfold bg; omega
  have h5 := pCut_rng (way := way) (n := step.toInt) (by omega) hb hb2 (by rw [m1]; exact m2) (by
    rw [m1, hs']
    exact Int.mul_le_mul_of_nonneg_left hx.2 (by omega))
  exact ⟨by omega, hb, hb2, h5.1, h5.2⟩
theorem frac_all {mth : Int32} {Z : Nat → Int64} {ho ha : Int64} (hz : zB Z) (hh : hB ho ha) : 0 ≤ (if mth = 0 then Z 0 else if mth = nI 1 then Z 2 else ho).toInt ∧ (if mth = 0 then Z 0 else if mth = nI 1 then Z 2 else ho).toInt ≤ (if mth = 0 then Z 0 + Z 1 else if mth = nI 1 then Z 2 + Z 3 else ha).toInt ∧ (if mth = 0 then Z 0 + Z 1 else if mth = nI 1 then Z 2 + Z 3 else ha).toInt < 1000000000 := by
  have q0 := hz.at (k := 0) (by omega)
  have q1 := hz.at (k := 1) (by omega)
  have q2 := hz.at (k := 2) (by omega)
  have q3 := hz.at (k := 3) (by omega)
  have e1 := hz.add (j := 0) (k := 1) (by omega) (by omega)
  have e2 := hz.add (j := 2) (k := 3) (by omega) (by omega)
  obtain ⟨h1, h2, h3⟩ := hh
  by_cases m0 : mth = 0
  · rw [if_pos m0, if_pos m0, e1]; omega
  rw [if_neg m0, if_neg m0]
  by_cases m1 : mth = nI 1
  · rw [if_pos m1, if_pos m1, e2]; omega
  · rw [if_neg m1, if_neg m1]; omega
theorem pFrac_fB {mth way step : Int32} {Z : Nat → Int64} {ho ha : Int64} (hs : 10 ≤ step.toInt ∧ step.toInt ≤ 1000) (hz : zB Z) (hh : hB ho ha) : fB step (pFrac mth way step Z ho ha) := by
  obtain ⟨h1, h2, h3⟩ := frac_all (mth := mth) hz hh
  unfold pFrac fB
  by_cases h0 : (if mth = 0 then Z 0 + Z 1 else if mth = nI 1 then Z 2 + Z 3 else ha) = 0
  · rw [if_pos h0]; omega
  · rw [if_neg h0]
    obtain ⟨-, -, -, g1, g2⟩ := frac_cut (way := way) hs ⟨h1, h2⟩ h3 h0
    rw [i32_of (by omega)]
    omega
theorem pFrac_k0 {way step : Int32} {Z : Nat → Int64} {ho ha : Int64} : pFrac (nI 0) way step Z ho ha = if Z 0 + Z 1 = 0 then step else (pCut way (step.toInt64 * Z 0) (Z 0 + Z 1)).toInt32 := by
  unfold pFrac
  simp only [show nI 0 = 0 from rfl, if_true]
theorem pFrac_k1 {way step : Int32} {Z : Nat → Int64} {ho ha : Int64} : pFrac (nI 1) way step Z ho ha = if Z 2 + Z 3 = 0 then step else (pCut way (step.toInt64 * Z 2) (Z 2 + Z 3)).toInt32 := by
  unfold pFrac
  simp only [show ¬ nI 1 = 0 from by decide, if_false, if_true]
theorem pFrac_k2 {way step : Int32} {Z : Nat → Int64} {ho ha : Int64} : pFrac (nI 2) way step Z ho ha = if ha = 0 then step else (pCut way (step.toInt64 * ho) ha).toInt32 := by
  unfold pFrac
  simp only [show ¬ nI 2 = 0 from by decide, show ¬ nI 2 = nI 1 from by decide, if_false]
theorem frac_k0 {way step : Int32} {Z : Nat → Int64} (hs : 10 ≤ step.toInt ∧ step.toInt ≤ 1000) (hz : zB Z) (h0 : ¬ Z 0 + Z 1 = 0) : 0 < (Z 0 + Z 1).toInt ∧ bg (step.toInt64 * Z 0) ∧ bg (Z 0 + Z 1) := by
  have h := frac_all (mth := 0) (ho := 0) (ha := 0) hz ⟨by decide, by decide, by decide⟩
  simp only [if_true] at h
  obtain ⟨g1, g2, g3, -⟩ := frac_cut (way := way) hs ⟨h.1, h.2.1⟩ h.2.2 h0
  exact ⟨g1, g2, g3⟩
theorem frac_k1 {way step : Int32} {Z : Nat → Int64} (hs : 10 ≤ step.toInt ∧ step.toInt ≤ 1000) (hz : zB Z) (h0 : ¬ Z 2 + Z 3 = 0) : 0 < (Z 2 + Z 3).toInt ∧ bg (step.toInt64 * Z 2) ∧ bg (Z 2 + Z 3) := by
  have h := frac_all (mth := nI 1) (ho := 0) (ha := 0) hz ⟨by decide, by decide, by decide⟩
  simp only [show ¬ nI 1 = 0 from by decide, if_false, if_true] at h
  obtain ⟨g1, g2, g3, -⟩ := frac_cut (way := way) hs ⟨h.1, h.2.1⟩ h.2.2 h0
  exact ⟨g1, g2, g3⟩
theorem frac_k2 {way step : Int32} {ho ha : Int64} (hs : 10 ≤ step.toInt ∧ step.toInt ≤ 1000) (hh : hB ho ha) (h0 : ¬ ha = 0) : 0 < ha.toInt ∧ bg (step.toInt64 * ho) ∧ bg ha := by
  obtain ⟨h1, h2, h3⟩ := hh
  obtain ⟨g1, g2, g3, -⟩ := frac_cut (way := way) hs ⟨h1, h2⟩ (by omega) h0
  exact ⟨g1, g2, g3⟩
theorem nz_pos {b : Int64} (hb : 0 < b.toInt) : ¬ b = 0 := fun e => by rw [e] at hb; exact absurd hb (by decide)
theorem nz_dbl {b : Int64} (hb : 0 < b.toInt) (h2 : bg b) : 0 < (2 * b).toInt := by
  unfold bg at h2
  rw [i64_dbl (by omega)]
  omega
