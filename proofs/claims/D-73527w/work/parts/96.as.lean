set_option maxRecDepth 100000
/-! ASSETS, as cells -/
/-- an asset's cells: its own, owners, worths, adjusted, uses -/
def AS (G : gG) (r a : Nat) (aa : Nat → Nat) (v : Nat → Int32) (x : Nat → Nat → Int32) (M : gM) : Prop :=
  M (aa 0) = some ((r, 140 + a), .inr (23, [.int (v 0), .int (v 1), .int (v 2), .int (v 3), .int (v 4), .ref (aa 1), .ref (aa 2), .ref (aa 3), .int (v 8), .int (v 9), .int (v 10), .int (v 11), .int (v 12), .int (v 13), .int (v 14), .ref (aa 4), .int (v 16)])) ∧
  M (aa 1) = some ((r, 200 + a), .inl (G.2.1 0, 16, .inl (clipI 16 (x 0)))) ∧ M (aa 2) = some ((r, 210 + a), .inl (G.2.1 0, 16, .inl (clipI 16 (x 1)))) ∧ M (aa 3) = some ((r, 220 + a), .inl (G.2.1 0, 16, .inl (clipI 16 (x 2)))) ∧ M (aa 4) = some ((r, 230 + a), .inl (G.2.1 0, 4, .inl (clipI 4 (x 3))))
theorem AS.keep {G : gG} {r a : Nat} {aa : Nat → Nat} {v : Nat → Int32} {x : Nat → Nat → Int32} {M M' : gM} {ρ : Nat × Nat → Prop} (h : AS G r a aa v x M) (f : gFl ρ M M') (h0 : ¬ ρ (r, 140 + a)) (h1 : ¬ ρ (r, 200 + a)) (h2 : ¬ ρ (r, 210 + a)) (h3 : ¬ ρ (r, 220 + a)) (h4 : ¬ ρ (r, 230 + a)) : AS G r a aa v x M' :=
  ⟨f.keep h.1 h0, f.keep h.2.1 h1, f.keep h.2.2.1 h2, f.keep h.2.2.2.1 h3, f.keep h.2.2.2.2 h4⟩
theorem AS.cg {G : gG} {r a : Nat} {aa aa' : Nat → Nat} {v v' : Nat → Int32} {x x' : Nat → Nat → Int32} {M : gM} (h : AS G r a aa v x M) (h0 : ∀ j, j < 5 → aa' j = aa j) (h1 : ∀ j, j < 17 → v' j = v j) (h2 : ∀ j i, j < 4 → i < 16 → x' j i = x j i) : AS G r a aa' v' x' M := by
  unfold AS
  rw [h0 0 (by omega), h0 1 (by omega), h0 2 (by omega), h0 3 (by omega), h0 4 (by omega), h1 0 (by omega), h1 1 (by omega), h1 2 (by omega), h1 3 (by omega), h1 4 (by omega), h1 8 (by omega), h1 9 (by omega), h1 10 (by omega), h1 11 (by omega), h1 12 (by omega), h1 13 (by omega), h1 14 (by omega), h1 16 (by omega),
    clipI_eq (f := x' 0) (g := x 0) (fun i hi => h2 0 i (by omega) hi), clipI_eq (f := x' 1) (g := x 1) (fun i hi => h2 1 i (by omega) hi), clipI_eq (f := x' 2) (g := x 2) (fun i hi => h2 2 i (by omega) hi), clipI_eq (f := x' 3) (g := x 3) (fun i hi => h2 3 i (by omega) (by omega))]
  exact h
/-- a list as a function -/
def fnL {α : Type} (d : α) (l : List α) : Nat → α := fun j => (l[j]?).getD d
