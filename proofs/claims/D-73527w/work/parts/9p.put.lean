set_option maxRecDepth 100000
/-! ONE ASSET'S CELLS APART -/
section PUT
variable {G : gG} {r : Nat} {ba : Nat → Nat} {x : Nat} {B B' : Nat → Int32} {D : Nat → Nat → Int32} {xx : Nat → Nat → Nat → Int32} {Z : Nat → Int64} {st : List Nat} {ex : Nat → Prop} {sb : Int64} {M M' : gM}
/-- cells of asset a alone have changed -/
abbrev rA (r a : Nat) : Nat × Nat → Prop := fun l => l = (r, 140 + a) ∨ l = (r, 200 + a) ∨ l = (r, 210 + a) ∨ l = (r, 220 + a) ∨ l = (r, 230 + a)
theorem rA_n {r a i : Nat} (h0 : i ≠ 140 + a) (h1 : i ≠ 200 + a) (h2 : i ≠ 210 + a) (h3 : i ≠ 220 + a) (h4 : i ≠ 230 + a) : ¬ rA r a (r, i) := fun q => by
  rcases q with q | q | q | q | q
  · exact h0 (congrArg Prod.snd q)
  · exact h1 (congrArg Prod.snd q)
  · exact h2 (congrArg Prod.snd q)
  · exact h3 (congrArg Prod.snd q)
  · exact h4 (congrArg Prod.snd q)
theorem rA_r {r a i j : Nat} (h : i ≠ r) : ¬ rA r a (i, j) := fun q => by
  rcases q with q | q | q | q | q <;> exact h (congrArg Prod.fst q)
theorem BX.kA {a : Nat} (h : BX G r ba x B D xx Z st ex sb M) (he : ex a) (hk : dN (B 1865) ≤ 8) (ha : a < 8) (hr : 4 ≤ r) (f : gFl (rA r a) M M') : BX G r ba x B D xx Z st ex sb M' := by
  obtain ⟨g1, ⟨mc, nd, g2⟩, ⟨mc', nd', g3⟩, g4, ⟨en, g5, g6⟩, g7⟩ := h
  refine ⟨g1.keep f (fun j hj => rA_n (by omega) (by omega) (by omega) (by omega) (by omega)), ⟨mc, nd, g2.keep f (rA_n (by omega) (by omega) (by omega) (by omega) (by omega)) (rA_n (by omega) (by omega) (by omega) (by omega) (by omega))⟩, ⟨mc', nd', g3.keep f (rA_n (by omega) (by omega) (by omega) (by omega) (by omega)) (rA_n (by omega) (by omega) (by omega) (by omega) (by omega))⟩, fun b hb hx => ?_, ⟨en, g5.keep f (rA_n (by omega) (by omega) (by omega) (by omega) (by omega)) (rA_n (by omega) (by omega) (by omega) (by omega) (by omega)), g6.keep f (rA_r (by omega))⟩, g7.keep f (rA_n (by omega) (by omega) (by omega) (by omega) (by omega)) (rA_n (by omega) (by omega) (by omega) (by omega) (by omega))⟩
  have hne : b ≠ a := fun e => hx (by rw [e]; exact he)
  exact (g4 b hb hx).keep f (rA_n (by omega) (by omega) (by omega) (by omega) (by omega)) (rA_n (by omega) (by omega) (by omega) (by omega) (by omega)) (rA_n (by omega) (by omega) (by omega) (by omega) (by omega)) (rA_n (by omega) (by omega) (by omega) (by omega) (by omega)) (rA_n (by omega) (by omega) (by omega) (by omega) (by omega))
/-- the asset is among the others again; its rows of the bank may be others -/
theorem BX.put {a : Nat} {X : Nat → Nat → Int32} {ex' : Nat → Prop} (h : BX G r ba x B D xx Z st ex sb M) (ha : a < 8) (hA : AS G r a (bA ba a) (vA B' a) X M) (hlo : ∀ j, ¬ (2084 + 48 * a ≤ j ∧ j < 2132 + 48 * a) → B' j = B j) (he : ∀ b, b ≠ a → ¬ ex' b → ¬ ex b) (hK : dN (B 1867) ≤ 40) : BX G r ba x B' D (fun b => if b = a then X else xx b) Z st ex' sb M := by
  obtain ⟨g1, g2, g3, g4, ⟨en, g5, g6⟩, g7⟩ := h
  have lo : ∀ j, j < 2084 → B' j = B j := fun j hj => hlo j (by omega)
  refine ⟨?_, by rw [lo 1865 (by omega)]; exact g2, g3, fun b hb hx => ?_, ⟨en, by rw [lo 1867 (by omega)]; exact g5, g6.cg (lo 1867 (by omega)) (fun i h1 h2 => lo i (by omega)) hK⟩, g7⟩
  · rw [lo 0 (by omega), lo 1866 (by omega)]
    refine g1.cg (fun t q k a1 a2 a3 => ?_) (fun j t q a1 a2 a3 => ?_) (fun i t a1 a2 => ?_)
    · unfold pQS; rw [lo _ (by omega)]
    · have b9 := bl_b a3
      unfold bf
      by_cases c0 : j = 0
      · rw [if_pos c0, if_pos c0, lo _ (by omega)]
      rw [if_neg c0, if_neg c0]
      by_cases c1 : j = 1
      · rw [if_pos c1, if_pos c1, lo _ (by omega)]
      rw [if_neg c1, if_neg c1]
      by_cases c2 : j = 2
      · rw [if_pos c2, if_pos c2, lo _ (by omega)]
      rw [if_neg c2, if_neg c2]
      by_cases c3 : j = 3
      · rw [if_pos c3, if_pos c3]
      rw [if_neg c3, if_neg c3, lo _ (by omega)]
    · unfold bo; rw [lo _ (by omega)]
  · rw [lo 1865 (by omega)] at hb
    by_cases c : b = a
    · subst c
      exact hA.cg (fun _ _ => rfl) (fun _ _ => rfl) (fun j i _ _ => by show (if b = b then X else xx b) j i = X j i; rw [if_pos rfl])
    · exact (g4 b hb (he b c hx)).cg (fun _ _ => rfl) (fun j _ => vA_cg (fun i hi => hlo _ (by omega)) j) (fun j i _ _ => by show (if b = a then X else xx b) j i = xx b j i; rw [if_neg c])
/-- the asset's cells are told apart -/
theorem BX.off {a : Nat} (h : BX G r ba x B D xx Z st ex sb M) : BX G r ba x B D xx Z st (fun b => ex b ∨ b = a) sb M := by
  obtain ⟨g1, g2, g3, g4, g5, g6⟩ := h
  exact ⟨g1, g2, g3, fun b hb hx => g4 b hb (fun q => hx (Or.inl q)), g5, g6⟩
end PUT
