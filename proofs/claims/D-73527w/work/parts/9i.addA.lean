set_option maxRecDepth 100000
/-! AN ASSET COMES -/
def baN (ba : Nat → Nat) (k : Nat) (aa : Nat → Nat) : Nat → Nat := fun j => if j = 140 + k then aa 0 else if j = 200 + k then aa 1 else if j = 210 + k then aa 2 else if j = 220 + k then aa 3 else if j = 230 + k then aa 4 else ba j
theorem baN_lo {ba : Nat → Nat} {k : Nat} {aa : Nat → Nat} (hk : k < 8) {j : Nat} (hj : j < 140 ∨ 1000 ≤ j) : baN ba k aa j = ba j := by
  unfold baN
  rw [if_neg (by omega), if_neg (by omega), if_neg (by omega), if_neg (by omega), if_neg (by omega)]
theorem baN_a {ba : Nat → Nat} {k a : Nat} {aa : Nat → Nat} (hk : k < 8) (ha : a < 8) (hne : a ≠ k) (j : Nat) (hj : j < 5) : bA (baN ba k aa) a j = bA ba a j := by
  unfold bA baN
  by_cases h0 : j = 0
  · rw [if_pos h0, if_pos h0, if_neg (by omega), if_neg (by omega), if_neg (by omega), if_neg (by omega), if_neg (by omega)]
  · rw [if_neg h0, if_neg h0, if_neg (by omega), if_neg (by omega), if_neg (by omega), if_neg (by omega), if_neg (by omega)]
theorem baN_k {ba : Nat → Nat} {k : Nat} {aa : Nat → Nat} (hk : k < 8) (j : Nat) (hj : j < 5) : bA (baN ba k aa) k j = aa j := by
  unfold bA baN
  rcases (by omega : j = 0 ∨ j = 1 ∨ j = 2 ∨ j = 3 ∨ j = 4) with rfl | rfl | rfl | rfl | rfl
  · rw [if_pos rfl, if_pos rfl]
  · rw [if_neg (by omega), if_neg (by omega), if_pos (by omega)]
  · rw [if_neg (by omega), if_neg (by omega), if_neg (by omega), if_pos (by omega)]
  · rw [if_neg (by omega), if_neg (by omega), if_neg (by omega), if_neg (by omega), if_pos (by omega)]
  · rw [if_neg (by omega), if_neg (by omega), if_neg (by omega), if_neg (by omega), if_neg (by omega), if_pos (by omega)]
theorem fnL_app {st : List Nat} {k i : Nat} (h : i < st.length) : fnL 0 (st ++ [k]) i = fnL 0 st i := by
  unfold fnL
  rw [List.getElem?_append_left h]
theorem fnL_last {st : List Nat} {k : Nat} : fnL 0 (st ++ [k]) st.length = k := by
  unfold fnL
  rw [List.getElem?_append_right (Nat.le_refl _), Nat.sub_self]
  rfl
theorem fnL_mem {st : List Nat} {i : Nat} (h : i < st.length) : fnL 0 st i ∈ st := by
  unfold fnL
  rw [List.getElem?_eq_getElem h]
  exact List.getElem_mem h
section ADS
variable {G : gG} {r : Nat} {ba ba' : Nat → Nat} {x : Nat} {B B' : Nat → Int32} {D : Nat → Nat → Int32} {xx : Nat → Nat → Nat → Int32} {Z : Nat → Int64} {st : List Nat} {ex : Nat → Prop} {sb : Int64} {M M' : gM}
theorem BC.adr {s : Nat → Nat → Nat → Int64} {f : Nat → Nat → Nat → Int32} {o : Nat → Nat → Int32} {nw en : Int32} (h : BC G r ba x s f o nw en Z M) (e : ∀ j, j < 140 ∨ 1000 ≤ j → ba' j = ba j) : BC G r ba' x s f o nw en Z M := by
  obtain ⟨h0, h1, h2, h3, h4, h5, h6, h7⟩ := h
  refine ⟨?_, ?_, fun j hj => ?_, fun t ht => ?_, fun j t hj ht => ?_, fun t q ht hq => ?_, fun i hi => ?_, ?_⟩
  · rw [e 0 (by omega), e 1 (by omega), e 2 (by omega), e 3 (by omega), e 4 (by omega), e 5 (by omega), e 6 (by omega), e 7 (by omega), e 8 (by omega), e 9 (by omega), e 11 (by omega), e 12 (by omega), e 13 (by omega), e 15 (by omega)]; exact h0
  · rw [e 1 (by omega), clipQ_eq (fun t ht => by rw [e (20 + t) (by omega)])]; exact h1
  · rw [e (2 + j) (by omega), clipQ_eq (fun t ht => by rw [e (30 + 10 * j + t) (by omega)])]; exact h2 j hj
  · rw [e (20 + t) (by omega), clipQ_eq (fun q hq => by rw [e (1000 + 64 * t + q) (by omega)])]; exact h3 t ht
  · rw [e (30 + 10 * j + t) (by omega)]; exact h4 j t hj ht
  · rw [e (1000 + 64 * t + q) (by omega), e (2000 + 64 * t + q) (by omega)]; exact h5 t q ht hq
  · rw [e (7 + i) (by omega)]; exact h6 i hi
  · rw [e 9 (by omega), e 10 (by omega)]; exact h7
theorem vA_cg {a : Nat} (e : ∀ i, i < 48 → B' (2084 + 48 * a + i) = B (2084 + 48 * a + i)) (j : Nat) : vA B' a j = vA B a j := by
  unfold vA
  rw [e 1 (by omega), e 2 (by omega), e 3 (by omega), e 4 (by omega), e 5 (by omega), e 6 (by omega), e 7 (by omega), e 8 (by omega), e 9 (by omega), e 11 (by omega), e 12 (by omega), e 47 (by omega)]
theorem BX.addA {k : Nat} {aa : Nat → Nat} {X : Nat → Nat → Int32} (h : BX G r ba x B D xx Z st ex sb M) (hk : k = dN (B 1865)) (hk8 : k < 8) (hK : dN (B 1867) ≤ 40) (hr : 4 ≤ r) (hlo : ∀ j, j ≠ 1865 → ¬ (2084 + 48 * k ≤ j ∧ j < 2132 + 48 * k) → B' j = B j) (h65 : B' 1865 = nI (k + 1)) (hAS : AS G r k aa (vA B' k) X M')
    (hl1 : ∃ mc nd, LL (r, 11) (r, 100) (ba 11) (k + 1) mc nd (fun i => if i = k then aa 0 else ba (140 + i)) M') (hl2 : ∃ mc nd, LL (r, 12) (r, 120) (ba 12) (st.length + 1) mc nd (fun i => if i = st.length then aa 0 else ba (140 + fnL 0 st i)) M')
    (f : gFl (fun l => l = (r, 11) ∨ l = (r, 100) ∨ l = (r, 12) ∨ l = (r, 120)) M M') (hst : ∀ a ∈ st, a < k) : BX G r (baN ba k aa) x B' D (fun a => if a = k then X else xx a) Z (st ++ [k]) ex sb M' := by
  obtain ⟨g1, -, -, g4, ⟨en, g5, g6⟩, g7⟩ := h
  have lo : ∀ {j : Nat}, j < 140 ∨ 1000 ≤ j → baN ba k aa j = ba j := fun hj => baN_lo hk8 hj
  have nn : ∀ i, i ≠ 11 → i ≠ 100 → i ≠ 12 → i ≠ 120 → ¬ ((r, i) = (r, 11) ∨ (r, i) = (r, 100) ∨ (r, i) = (r, 12) ∨ (r, i) = (r, 120)) := fun i h1 h2 h3 h4 q => by
    rcases q with q | q | q | q
    · exact h1 (congrArg Prod.snd q)
    · exact h2 (congrArg Prod.snd q)
    · exact h3 (congrArg Prod.snd q)
    · exact h4 (congrArg Prod.snd q)
  have n1 : ¬ ((1, 2) = (r, 11) ∨ (1, 2) = (r, 100) ∨ (1, 2) = (r, 12) ∨ (1, 2) = (r, 120)) := fun q => by
    rcases q with q | q | q | q <;> (have := congrArg Prod.fst q; dsimp only at this; omega)
  have e1 : dN (B' 1865) = k + 1 := by rw [h65, dN_nI (by omega)]
  have el : ∀ j, j < 1865 → B' j = B j := fun j hj => hlo j (by omega) (by omega)
  have el2 : ∀ j, 1866 ≤ j → j < 2084 → B' j = B j := fun j h1 h2 => hlo j (by omega) (by omega)
  refine ⟨?_, ?_, ?_, fun a ha hx => ?_, ⟨en, ?_, ?_⟩, ?_⟩
  · rw [el 0 (by omega), el2 1866 (by omega) (by omega)]
    refine ((g1.adr (fun j hj => lo hj)).keep f (fun j hj => nn j (by omega) (by omega) (by omega) (by omega))).cg (fun t q k' a1 a2 a3 => ?_) (fun j t q a1 a2 a3 => ?_) (fun i t a1 a2 => ?_)
    · unfold pQS; rw [el _ (by omega)]
    · have b9 := bl_b a3
      unfold bf
      by_cases c0 : j = 0
      · rw [if_pos c0, if_pos c0, el _ (by omega)]
      rw [if_neg c0, if_neg c0]
      by_cases c1 : j = 1
      · rw [if_pos c1, if_pos c1, el _ (by omega)]
      rw [if_neg c1, if_neg c1]
      by_cases c2 : j = 2
      · rw [if_pos c2, if_pos c2, el _ (by omega)]
      rw [if_neg c2, if_neg c2]
      by_cases c3 : j = 3
      · rw [if_pos c3, if_pos c3]
      rw [if_neg c3, if_neg c3, el2 _ (by omega) (by omega)]
    · unfold bo; rw [el _ (by omega)]
  · obtain ⟨mc, nd, hl⟩ := hl1
    rw [e1, lo (by omega)]
    refine ⟨mc, nd, hl.ext (fun _ _ => rfl) (fun i hi => ?_)⟩
    show baN ba k aa (140 + i) = if i = k then aa 0 else ba (140 + i)
    unfold baN
    by_cases c : i = k
    · rw [if_pos (by omega), if_pos c]
    · rw [if_neg (by omega), if_neg (by omega), if_neg (by omega), if_neg (by omega), if_neg (by omega), if_neg c]
  · obtain ⟨mc, nd, hl⟩ := hl2
    rw [lo (by omega), List.length_append]
    refine ⟨mc, nd, hl.ext (fun _ _ => rfl) (fun i hi => ?_)⟩
    have hi' : i < st.length + 1 := hi
    show baN ba k aa (140 + fnL 0 (st ++ [k]) i) = if i = st.length then aa 0 else ba (140 + fnL 0 st i)
    by_cases c : i = st.length
    · rw [if_pos c, c, fnL_last]
      unfold baN
      rw [if_pos rfl]
    · rw [if_neg c, fnL_app (by omega)]
      have hm := hst _ (fnL_mem (st := st) (i := i) (by omega))
      unfold baN
      rw [if_neg (by omega), if_neg (by omega), if_neg (by omega), if_neg (by omega), if_neg (by omega)]
  · rw [e1] at ha
    by_cases c : a = k
    · subst c
      exact hAS.cg (fun j hj => baN_k hk8 j hj) (fun _ _ => rfl) (fun j i _ _ => by show (if a = a then X else xx a) j i = X j i; rw [if_pos rfl])
    · refine ((g4 a (by omega) hx).keep f (nn _ (by omega) (by omega) (by omega) (by omega)) (nn _ (by omega) (by omega) (by omega) (by omega)) (nn _ (by omega) (by omega) (by omega) (by omega)) (nn _ (by omega) (by omega) (by omega) (by omega)) (nn _ (by omega) (by omega) (by omega) (by omega))).cg (fun j hj => baN_a hk8 (by omega) c j hj) (fun j _ => vA_cg (fun i hi => hlo _ (by omega) (by omega)) j) (fun j i _ _ => by show (if a = k then X else xx a) j i = xx a j i; rw [if_neg c])
  · rw [el2 1867 (by omega) (by omega), lo (by omega)]
    exact g5.keep f (nn _ (by omega) (by omega) (by omega) (by omega)) (nn _ (by omega) (by omega) (by omega) (by omega))
  · exact (g6.keep f n1).cg (el2 1867 (by omega) (by omega)) (fun i h1 h2 => el2 i (by omega) (by omega)) hK
  · rw [lo (by omega)]
    exact g7.keep f (nn _ (by omega) (by omega) (by omega) (by omega)) (nn _ (by omega) (by omega) (by omega) (by omega))
/-- where an asset has come -/
theorem pAcq_at {t u : Nat} {tax span : Int32} {n k : Nat} (hk : k = dN (B 1865)) (hn : pNow B = n) (hk8 : k < 8) (ht : t < 4) (hn6 : n < 64) (hu : u < 3) (j : Nat) : pAcq B t u tax span j = if j = 1865 then nI (k + 1) else if 2084 + 48 * k ≤ j ∧ j < 2132 + 48 * k then (if j = 2084 + 48 * k + 4 then span else if j = 2084 + 48 * k + 3 then tax else if j = 2084 + 48 * k + 2 then nI u else if j = 2084 + 48 * k + 1 then nI t else if j = 2084 + 48 * k + 0 then nI t else if j = 2084 + 48 * k + 5 then B 0 else 0) else pAdd B (1 + 320 * t + 5 * n + (2 + u)) tax j := by
  have hi : 1 + 320 * t + 5 * n + (2 + u) < 1865 := by omega
  unfold pAcq pAdd
  rw [← hk, hn, pAcq1_ne (Or.inl (by omega))]
  by_cases h1 : j = 1865
  · rw [if_pos h1, h1]; unfold upd; rw [if_pos rfl]
  rw [if_neg h1]
  show (if j = 1865 then _ else upd _ _ _ j) = _
  rw [if_neg h1]
  by_cases h2 : 2084 + 48 * k ≤ j ∧ j < 2132 + 48 * k
  · rw [if_pos h2]
    show (if j = _ then _ else pAcq1 B k t u tax span j) = _
    rw [if_neg (by omega)]
    unfold pAcq1
    show (if j = _ then _ else if j = _ then _ else if j = _ then _ else if j = _ then _ else if j = _ then _ else if j = _ then _ else pZero B k 48 j) = _
    by_cases c5 : j = 2084 + 48 * k + 5
    · rw [if_pos c5, if_neg (by omega), if_neg (by omega), if_neg (by omega), if_neg (by omega), if_neg (by omega), if_pos c5]
    rw [if_neg c5]
    by_cases c4 : j = 2084 + 48 * k + 4
    · rw [if_pos c4, if_pos c4]
    rw [if_neg c4, if_neg c4]
    by_cases c3 : j = 2084 + 48 * k + 3
    · rw [if_pos c3, if_pos c3]
    rw [if_neg c3, if_neg c3]
    by_cases c2 : j = 2084 + 48 * k + 2
    · rw [if_pos c2, if_pos c2]
    rw [if_neg c2, if_neg c2]
    by_cases c1 : j = 2084 + 48 * k + 1
    · rw [if_pos c1, if_pos c1]
    rw [if_neg c1, if_neg c1]
    by_cases c0 : j = 2084 + 48 * k + 0
    · rw [if_pos c0, if_pos c0]
    rw [if_neg c0, if_neg c0, if_neg c5]
    unfold pZero
    rw [if_pos (by omega)]
  · rw [if_neg h2]
    show (if j = _ then _ else pAcq1 B k t u tax span j) = (if j = _ then _ else B j)
    by_cases c : j = 1 + 320 * t + 5 * n + (2 + u)
    · rw [if_pos c, if_pos c]
    · rw [if_neg c, if_neg c, pAcq1_ne (by omega)]
theorem vA_new {t u k n : Nat} {tax span : Int32} (hn6 : n < 64) (R : ∀ i, i < 48 → B (2084 + 48 * k + i) = if i = 4 then span else if i = 3 then tax else if i = 2 then nI u else if i = 1 then nI t else if i = 0 then nI t else if i = 5 then nI n else 0) : ∀ j, j < 17 → vA B k j = fnL 0 [nI k, tax, span, nI n, nI (n / 4), 0, 0, 0, nI u, -1, -1, -1, nI t, -999999, 0, 0, 0] j := by
  intro j hj
  have r1 := R 1 (by omega)
  have r2 := R 2 (by omega)
  have r3 := R 3 (by omega)
  have r4 := R 4 (by omega)
  have r5 := R 5 (by omega)
  have r7 := R 7 (by omega)
  have r9 := R 9 (by omega)
  have r11 := R 11 (by omega)
  have r47 := R 47 (by omega)
  simp only [show ¬ (1 = 4) by omega, show ¬ (1 = 3) by omega, show ¬ (1 = 2) by omega, if_false, if_true] at r1
  simp only [show ¬ (2 = 4) by omega, show ¬ (2 = 3) by omega, if_false, if_true] at r2
  simp only [show ¬ (3 = 4) by omega, if_false, if_true] at r3
  simp only [if_true] at r4
  simp only [show ¬ (5 = 4) by omega, show ¬ (5 = 3) by omega, show ¬ (5 = 2) by omega, show ¬ (5 = 1) by omega, show ¬ (5 = 0) by omega, if_false, if_true] at r5
  simp only [show ¬ (7 = 4) by omega, show ¬ (7 = 3) by omega, show ¬ (7 = 2) by omega, show ¬ (7 = 1) by omega, show ¬ (7 = 0) by omega, show ¬ (7 = 5) by omega, if_false] at r7
  simp only [show ¬ (9 = 4) by omega, show ¬ (9 = 3) by omega, show ¬ (9 = 2) by omega, show ¬ (9 = 1) by omega, show ¬ (9 = 0) by omega, show ¬ (9 = 5) by omega, if_false] at r9
  simp only [show ¬ (11 = 4) by omega, show ¬ (11 = 3) by omega, show ¬ (11 = 2) by omega, show ¬ (11 = 1) by omega, show ¬ (11 = 0) by omega, show ¬ (11 = 5) by omega, if_false] at r11
  simp only [show ¬ (47 = 4) by omega, show ¬ (47 = 3) by omega, show ¬ (47 = 2) by omega, show ¬ (47 = 1) by omega, show ¬ (47 = 0) by omega, show ¬ (47 = 5) by omega, if_false] at r47
  unfold vA
  rw [r1, r2, r3, r4, r5, r7, r9, r11, r47, dN_nI (by omega)]
  rcases (by omega : j = 0 ∨ j = 1 ∨ j = 2 ∨ j = 3 ∨ j = 4 ∨ j = 5 ∨ j = 6 ∨ j = 7 ∨ j = 8 ∨ j = 9 ∨ j = 10 ∨ j = 11 ∨ j = 12 ∨ j = 13 ∨ j = 14 ∨ j = 15 ∨ j = 16) with rfl | rfl | rfl | rfl | rfl | rfl | rfl | rfl | rfl | rfl | rfl | rfl | rfl | rfl | rfl | rfl | rfl <;> rfl
theorem gFl.n5 {ρ : Nat × Nat → Prop} {aa : Nat → Nat} (h0 : M (aa 0) = none) (h1 : M (aa 1) = none) (h2 : M (aa 2) = none) (h3 : M (aa 3) = none) (h4 : M (aa 4) = none) (k : ∀ z, z ≠ aa 0 → z ≠ aa 1 → z ≠ aa 2 → z ≠ aa 3 → z ≠ aa 4 → M' z = M z) : gFl ρ M M' := fun a c hx => by
  have e := k a (fun e => by rw [e, h0] at hx; cases hx) (fun e => by rw [e, h1] at hx; cases hx) (fun e => by rw [e, h2] at hx; cases hx) (fun e => by rw [e, h3] at hx; cases hx) (fun e => by rw [e, h4] at hx; cases hx)
  rw [e]
  exact ⟨⟨c.2, hx⟩, fun _ => hx⟩
end ADS
