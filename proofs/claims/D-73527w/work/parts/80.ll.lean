set_option maxRecDepth 100000
/-! LINKED LISTS over the map: header hd (label l0), nodes nd 0 .. (label lN), items it 0 .. -/
theorem nar_rf {C : String} (x : Option Nat) : narrow (.object C) (va_rf x) = va_rf x := by cases x <;> rfl
theorem fit_rf {C : String} (x : Option Nat) : fits (.object C) (va_rf x) = true := by cases x <;> rfl
theorem rf_cat (x : Option Nat) : (va_rf x).category = 1 := by cases x <;> rfl
theorem gM_same {M0 M1 : gM} {a : Nat} {x : (Nat × Nat) × va_E} (h0 : M0 a = some x) (h1 : M1 a = some x) (k : ∀ q, q ≠ a → M1 q = M0 q) : M1 = M0 := by
  funext q
  by_cases e : q = a
  · rw [e, h0, h1]
  · exact k q e
theorem gM_up {M0 M1 : gM} {a : Nat} {x : (Nat × Nat) × va_E} (h1 : M1 a = some x) (k : ∀ q, q ≠ a → M1 q = M0 q) : M1 = gUp M0 a x := by
  funext q
  by_cases e : q = a
  · rw [e, h1, gUp_s]
  · rw [k q e, gUp_n e]
/-- a frame out of what was touched -/
theorem gFl.of1 {ρ : Nat × Nat → Prop} {M0 M1 : gM} {a i j : Nat} {c c' : va_E} (h0 : M0 a = some ((i, j), c)) (h1 : M1 a = some ((i, j), c')) (k : ∀ q, q ≠ a → M1 q = M0 q) (hr : ρ (i, j)) : gFl ρ M0 M1 := by
  rw [gM_up h1 k]
  exact gFl.rf.up h0 hr c'
theorem gFl.ofL {ρ : Nat × Nat → Prop} {M0 M1 : gM} (T : List Nat) (k : ∀ q, q ∉ T → M1 q = M0 q) (ht : ∀ a ∈ T, ∀ x, M0 a = some x → ρ x.1 ∧ ∃ y, M1 a = some (x.1, y)) : gFl ρ M0 M1 := fun a x hx => by
  by_cases e : a ∈ T
  · obtain ⟨h1, h2⟩ := ht a e x hx
    exact ⟨h2, fun hn => absurd h1 hn⟩
  · rw [k a e]
    exact ⟨⟨x.2, hx⟩, fun _ => hx⟩
def LL (l0 lN : Nat × Nat) (hd n : Nat) (mc : Int32) (nd it : Nat → Nat) (M : gM) : Prop :=
  M hd = some (l0, .inr (2, [.int mc, .int (nI n), va_rf (if n = 0 then none else some (nd 0)), va_rf (if n = 0 then none else some (nd (n - 1)))])) ∧
  (∀ i, i < n → M (nd i) = some (lN, .inr (11, [.ref (it i), va_rf (if i + 1 < n then some (nd (i + 1)) else none), va_rf (if i = 0 then none else some (nd (i - 1)))]))) ∧
  (∀ i j, i < n → j < n → nd i = nd j → i = j) ∧ ¬ l0 = lN ∧ n < 1000000
section LLS
variable {l0 lN : Nat × Nat} {hd n : Nat} {mc : Int32} {nd it : Nat → Nat} {M : gM}
theorem LL.hdr (h : LL l0 lN hd n mc nd it M) (hn : 0 < n) : M hd = some (l0, .inr (2, [.int mc, .int (nI n), .ref (nd 0), .ref (nd (n - 1))])) := by
  have := h.1
  rw [if_neg (by omega), if_neg (by omega)] at this
  exact this
theorem LL.hdr0 (h : LL l0 lN hd n mc nd it M) (hn : n = 0) : M hd = some (l0, .inr (2, [.int mc, .int (nI n), .null, .null])) := by
  have := h.1
  rw [if_pos hn, if_pos hn] at this
  exact this
theorem LL.ne (h : LL l0 lN hd n mc nd it M) {i : Nat} (hi : i < n) : hd ≠ nd i := fun e => by
  have a := h.1
  rw [e, h.2.1 i hi] at a
  exact h.2.2.2.1 (congrArg Prod.fst (Option.some.inj a)).symm
theorem LL.nne (h : LL l0 lN hd n mc nd it M) {i j : Nat} (hi : i < n) (hj : j < n) (hij : i ≠ j) : nd i ≠ nd j := fun e => hij (h.2.2.1 i j hi hj e)
theorem LL.nod (h : LL l0 lN hd n mc nd it M) {i : Nat} (hi : i < n) : M (nd i) = some (lN, .inr (11, [.ref (it i), va_rf (if i + 1 < n then some (nd (i + 1)) else none), va_rf (if i = 0 then none else some (nd (i - 1)))])) := h.2.1 i hi
theorem LL.nxt (h : LL l0 lN hd n mc nd it M) {i : Nat} (hi : i + 1 < n) : M (nd i) = some (lN, .inr (11, [.ref (it i), .ref (nd (i + 1)), va_rf (if i = 0 then none else some (nd (i - 1)))])) := by
  have := h.2.1 i (by omega)
  rw [if_pos hi] at this
  exact this
theorem LL.prv (h : LL l0 lN hd n mc nd it M) {i : Nat} (hi : i < n) (h0 : 0 < i) : M (nd i) = some (lN, .inr (11, [.ref (it i), va_rf (if i + 1 < n then some (nd (i + 1)) else none), .ref (nd (i - 1))])) := by
  have := h.2.1 i hi
  rw [if_neg (show ¬ i = 0 by omega)] at this
  exact this
theorem LL.lst (h : LL l0 lN hd n mc nd it M) {i : Nat} (hi : i + 1 = n) : M (nd i) = some (lN, .inr (11, [.ref (it i), .null, va_rf (if i = 0 then none else some (nd (i - 1)))])) := by
  have := h.2.1 i (by omega)
  rw [if_neg (show ¬ i + 1 < n by omega)] at this
  exact this
theorem LL.fst (h : LL l0 lN hd n mc nd it M) (hi : 0 < n) : M (nd 0) = some (lN, .inr (11, [.ref (it 0), va_rf (if 1 < n then some (nd 1) else none), .null])) := h.2.1 0 hi
theorem LL.keep (h : LL l0 lN hd n mc nd it M) {ρ : Nat × Nat → Prop} {M' : gM} (f : gFl ρ M M') (h0 : ¬ ρ l0) (hN : ¬ ρ lN) : LL l0 lN hd n mc nd it M' :=
  ⟨(f _ _ h.1).2 h0, fun i hi => (f _ _ (h.2.1 i hi)).2 hN, h.2.2⟩
theorem LL.ext (h : LL l0 lN hd n mc nd it M) {nd' it' : Nat → Nat} (h1 : ∀ i, i < n → nd' i = nd i) (h2 : ∀ i, i < n → it' i = it i) : LL l0 lN hd n mc nd' it' M := by
  refine ⟨?_, fun i hi => ?_, fun i j hi hj e => h.2.2.1 i j hi hj (by rw [← h1 i hi, ← h1 j hj]; exact e), h.2.2.2⟩
  · by_cases hn : n = 0
    · have := h.1
      simp only [if_pos hn] at this ⊢
      exact this
    · have := h.1
      simp only [if_neg hn] at this ⊢
      rw [h1 0 (by omega), h1 (n - 1) (by omega)]
      exact this
  · have := h.2.1 i hi
    rw [h1 i hi, h2 i hi, this]
    have e1 : (if i + 1 < n then some (nd (i + 1)) else none) = (if i + 1 < n then some (nd' (i + 1)) else none) := by
      by_cases q : i + 1 < n
      · rw [if_pos q, if_pos q, h1 _ q]
      · rw [if_neg q, if_neg q]
    have e2 : (if i = 0 then none else some (nd (i - 1))) = (if i = 0 then none else some (nd' (i - 1))) := by
      by_cases q : i = 0
      · rw [if_pos q, if_pos q]
      · rw [if_neg q, if_neg q, h1 _ (by omega)]
    rw [e1, e2]
abbrev ro2 (l0 lN : Nat × Nat) : Nat × Nat → Prop := fun l => l = l0 ∨ l = lN
theorem LL.push (h : LL l0 lN hd n mc nd it M) {q x : Nat} {M' : gM} (hq : M q = none) (hb : n + 1 < 1000000)
    (h1 : M' hd = some (l0, .inr (2, [.int (mc + nI 1), .int (nI (n + 1)), va_rf (if n = 0 then some q else some (nd 0)), .ref q])))
    (h2 : M' q = some (lN, .inr (11, [.ref x, .null, va_rf (if n = 0 then none else some (nd (n - 1)))])))
    (h3 : 0 < n → M' (nd (n - 1)) = some (lN, .inr (11, [.ref (it (n - 1)), .ref q, va_rf (if n - 1 = 0 then none else some (nd (n - 1 - 1)))])))
    (h4 : ∀ z, z ≠ hd → z ≠ q → (0 < n → z ≠ nd (n - 1)) → M' z = M z) :
    LL l0 lN hd (n + 1) (mc + nI 1) (fun i => if i = n then q else nd i) (fun i => if i = n then x else it i) M' ∧ gFl (ro2 l0 lN) M M' := by
  have hnq : ∀ i, i < n → nd i ≠ q := fun i hi => gM_nn (h.2.1 i hi) hq
  have hdq : hd ≠ q := gM_nn h.1 hq
  have old : ∀ i, i + 1 < n → M' (nd i) = M (nd i) := fun i hi => h4 _ (Ne.symm (h.ne (by omega))) (hnq i (by omega)) (fun _ => h.nne (by omega) (by omega) (by omega))
  refine ⟨⟨?_, fun i hi => ?_, fun i j hi hj e => ?_, h.2.2.2.1, hb⟩, ?_⟩
  · rw [h1, if_neg (show ¬ n + 1 = 0 by omega), if_neg (show ¬ n + 1 = 0 by omega)]
    simp only [Nat.add_sub_cancel, if_pos]
    by_cases hn : n = 0
    · rw [if_pos hn, if_pos hn.symm]; rfl
    · rw [if_neg hn, if_neg (fun e => hn e.symm)]; rfl
  · by_cases hin : i = n
    · subst hin
      simp only [if_pos]
      rw [h2, if_neg (show ¬ i + 1 < i + 1 by omega)]
      by_cases hn : i = 0
      · rw [if_pos hn, if_pos hn]; rfl
      · rw [if_neg hn, if_neg hn, if_neg (show ¬ i - 1 = i by omega)]; rfl
    · simp only [if_neg hin]
      by_cases hl : i + 1 = n
      · have e : i = n - 1 := by omega
        subst e
        rw [h3 (by omega), if_pos (show n - 1 + 1 < n + 1 by omega), if_pos hl]
        by_cases hn : n - 1 = 0
        · rw [if_pos hn, if_pos hn]; rfl
        · rw [if_neg hn, if_neg hn, if_neg (show ¬ n - 1 - 1 = n by omega)]; rfl
      · rw [old i (by omega), h.2.1 i (by omega), if_pos (show i + 1 < n by omega), if_pos (show i + 1 < n + 1 by omega), if_neg hl]
        by_cases hn : i = 0
        · rw [if_pos hn, if_pos hn]
        · rw [if_neg hn, if_neg hn, if_neg (show ¬ i - 1 = n by omega)]
  · by_cases hin : i = n
    · by_cases hjn : j = n
      · omega
      · simp only [if_pos hin, if_neg hjn] at e
        exact absurd e.symm (hnq j (by omega))
    · by_cases hjn : j = n
      · simp only [if_neg hin, if_pos hjn] at e
        exact absurd e (hnq i (by omega))
      · simp only [if_neg hin, if_neg hjn] at e
        exact h.2.2.1 i j (by omega) (by omega) e
  · intro a x' hx
    by_cases ea : a = hd
    · subst ea
      have e : x'.1 = l0 := congrArg Prod.fst (Option.some.inj (hx.symm.trans h.1))
      exact ⟨⟨_, by rw [h1, e]⟩, fun q => absurd (Or.inl e) q⟩
    · by_cases en : 0 < n ∧ a = nd (n - 1)
      · obtain ⟨e0, en⟩ := en
        subst en
        have e : x'.1 = lN := congrArg Prod.fst (Option.some.inj (hx.symm.trans (h.2.1 _ (by omega))))
        exact ⟨⟨_, by rw [h3 e0, e]⟩, fun q => absurd (Or.inr e) q⟩
      · have eq : M' a = M a := h4 a ea (fun e => by rw [e, hq] at hx; cases hx) (fun e0 e => en ⟨e0, e⟩)
        rw [eq]
        exact ⟨⟨x'.2, hx⟩, fun _ => hx⟩
/-- a node at the place i goes -/
theorem LL.cut (h : LL l0 lN hd n mc nd it M) {i : Nat} (hi : i < n) {M' : gM} {y : va_E}
    (h1 : M' hd = some (l0, .inr (2, [.int (mc + nI 1), .int (nI (n - 1)), va_rf (if n - 1 = 0 then none else some (if i = 0 then nd 1 else nd 0)), va_rf (if n - 1 = 0 then none else some (if i + 1 = n then nd (n - 1 - 1) else nd (n - 1)))])))
    (h2 : M' (nd i) = some (lN, y))
    (h3 : 0 < i → M' (nd (i - 1)) = some (lN, .inr (11, [.ref (it (i - 1)), va_rf (if i + 1 < n then some (nd (i + 1)) else none), va_rf (if i - 1 = 0 then none else some (nd (i - 1 - 1)))])))
    (h4 : i + 1 < n → M' (nd (i + 1)) = some (lN, .inr (11, [.ref (it (i + 1)), va_rf (if i + 1 + 1 < n then some (nd (i + 1 + 1)) else none), va_rf (if i = 0 then none else some (nd (i - 1)))])))
    (h5 : ∀ z, z ≠ hd → z ≠ nd i → (0 < i → z ≠ nd (i - 1)) → (i + 1 < n → z ≠ nd (i + 1)) → M' z = M z) :
    LL l0 lN hd (n - 1) (mc + nI 1) (fun j => if j < i then nd j else nd (j + 1)) (fun j => if j < i then it j else it (j + 1)) M' ∧ gFl (ro2 l0 lN) M M' := by
  have old : ∀ j, j < n → j ≠ i → (0 < i → j ≠ i - 1) → (i + 1 < n → j ≠ i + 1) → M' (nd j) = M (nd j) := fun j hj a b c => h5 _ (Ne.symm (h.ne hj)) (h.nne hj hi a) (fun q => h.nne hj (by omega) (b q)) (fun q => h.nne hj q (c q))
  refine ⟨⟨?_, fun j hj => ?_, fun j k hj hk e => ?_, h.2.2.2.1, by have := h.2.2.2.2; omega⟩, ?_⟩
  · rw [h1]
    by_cases hn : n - 1 = 0
    · simp only [if_pos hn]
    · simp only [if_neg hn]
      have e1 : (if i = 0 then nd 1 else nd 0) = (if 0 < i then nd 0 else nd (0 + 1)) := by
        by_cases q : i = 0
        · rw [if_pos q, if_neg (by omega)]
        · rw [if_neg q, if_pos (by omega)]
      have e2 : (if i + 1 = n then nd (n - 1 - 1) else nd (n - 1)) = (if n - 1 - 1 < i then nd (n - 1 - 1) else nd (n - 1 - 1 + 1)) := by
        by_cases q : i + 1 = n
        · rw [if_pos q, if_pos (by omega)]
        · rw [if_neg q, if_neg (by omega), show n - 1 - 1 + 1 = n - 1 by omega]
      rw [e1, e2]
  · by_cases hji : j < i
    · simp only [if_pos hji]
      by_cases hp : j + 1 = i
      · have e : j = i - 1 := by omega
        subst e
        rw [h3 (by omega)]
        have e1 : (if i + 1 < n then some (nd (i + 1)) else none) = (if i - 1 + 1 < n - 1 then some (if i - 1 + 1 < i then nd (i - 1 + 1) else nd (i - 1 + 1 + 1)) else none) := by
          rw [if_neg (show ¬ i - 1 + 1 < i by omega), show i - 1 + 1 = i by omega]
          by_cases q : i + 1 < n
          · rw [if_pos q, if_pos (by omega)]
          · rw [if_neg q, if_neg (by omega)]
        rw [e1]
        by_cases q : i - 1 = 0
        · rw [if_pos q, if_pos q]
        · rw [if_neg q, if_neg q, if_pos (show i - 1 - 1 < i by omega)]
      · rw [old j (by omega) (by omega) (by omega) (by omega), h.2.1 j (by omega), if_pos (show j + 1 < n by omega), if_pos (show j + 1 < n - 1 by omega), if_pos (show j + 1 < i by omega)]
        by_cases q : j = 0
        · rw [if_pos q, if_pos q]
        · rw [if_neg q, if_neg q, if_pos (by omega)]
    · simp only [if_neg hji]
      have e0 : ¬ j + 1 = 0 := by omega
      have eN : (if j + 1 < n - 1 then some (if j + 1 < i then nd (j + 1) else nd (j + 1 + 1)) else none) = (if j + 1 + 1 < n then some (nd (j + 1 + 1)) else none) := by
        rw [if_neg (show ¬ j + 1 < i by omega)]
        by_cases q : j + 1 + 1 < n
        · rw [if_pos q, if_pos (by omega)]
        · rw [if_neg q, if_neg (by omega)]
      rw [eN]
      by_cases hp : j = i
      · subst hp
        rw [h4 (by omega)]
        by_cases q : j = 0
        · rw [if_pos q, if_pos q]
        · rw [if_neg q, if_neg q, if_pos (show j - 1 < j by omega)]
      · rw [old (j + 1) (by omega) (by omega) (by omega) (by omega), h.2.1 (j + 1) (by omega), if_neg e0, if_neg (show ¬ j = 0 by omega), if_neg (show ¬ j - 1 < i by omega), show j + 1 - 1 = j by omega, show j - 1 + 1 = j by omega]
  · have nn : ∀ j k, j < n → k < n → nd j = nd k → j = k := h.2.2.1
    by_cases a : j < i
    · by_cases b : k < i
      · simp only [if_pos a, if_pos b] at e
        exact nn _ _ (by omega) (by omega) e
      · simp only [if_pos a, if_neg b] at e
        have := nn _ _ (by omega) (by omega) e
        omega
    · by_cases b : k < i
      · simp only [if_neg a, if_pos b] at e
        have := nn _ _ (by omega) (by omega) e
        omega
      · simp only [if_neg a, if_neg b] at e
        have := nn _ _ (by omega) (by omega) e
        omega
  · intro a x' hx
    by_cases ea : a = hd
    · subst ea
      have e : x'.1 = l0 := congrArg Prod.fst (Option.some.inj (hx.symm.trans h.1))
      exact ⟨⟨_, by rw [h1, e]⟩, fun q => absurd (Or.inl e) q⟩
    · by_cases eb : a = nd i
      · subst eb
        have e : x'.1 = lN := congrArg Prod.fst (Option.some.inj (hx.symm.trans (h.2.1 _ hi)))
        exact ⟨⟨_, by rw [h2, e]⟩, fun q => absurd (Or.inr e) q⟩
      · by_cases ec : 0 < i ∧ a = nd (i - 1)
        · obtain ⟨e0, en⟩ := ec
          subst en
          have e : x'.1 = lN := congrArg Prod.fst (Option.some.inj (hx.symm.trans (h.2.1 _ (by omega))))
          exact ⟨⟨_, by rw [h3 e0, e]⟩, fun q => absurd (Or.inr e) q⟩
        · by_cases ed : i + 1 < n ∧ a = nd (i + 1)
          · obtain ⟨e0, en⟩ := ed
            subst en
            have e : x'.1 = lN := congrArg Prod.fst (Option.some.inj (hx.symm.trans (h.2.1 _ e0)))
            exact ⟨⟨_, by rw [h4 e0, e]⟩, fun q => absurd (Or.inr e) q⟩
          · have eq : M' a = M a := h5 a ea eb (fun e0 e => ec ⟨e0, e⟩) (fun e0 e => ed ⟨e0, e⟩)
            rw [eq]
            exact ⟨⟨x'.2, hx⟩, fun _ => hx⟩
end LLS
theorem nI_dec {a : Nat} (h : 0 < a) : nI a + Int32.ofInt (-1) = nI (a - 1) := by rw [kc_m1]; exact sb_m1 h
/-! arithmetic of the library -/
def pFD (a b : Int64) : Int64 := if 0 ≤ a ^^^ b then a / b else if a / b * b = a then a / b else a / b - 1
def pMax (a b : Int32) : Int32 := if a < b then b else a
def pMin (a b : Int32) : Int32 := if b < a then b else a
def pAbs (a : Int32) : Int32 := if 0 ≤ a then a else -a
