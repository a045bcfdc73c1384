set_option maxRecDepth 100000
/-! TEXTS AND BOOKS, as cells -/
/-- a text: its four lists (1 traders, 2 sales, 3 buys, 4 assets), their rows, its words (0 way, 1 step, 2 limit, 3 seed, 4 lines) -/
def TR (G : gG) (r tx : Nat) (ta : Nat → Nat) (mc : Nat → Int32) (nd it : Nat → Nat → Nat) (cnt : Nat → Nat) (tr : Nat → Nat → Nat → Int32) (w : Nat → Int32) (M : gM) : Prop :=
  M tx = some ((r, 0), .inr (20, [.ref (ta 1), .ref (ta 2), .ref (ta 3), .ref (ta 4), .int (w 0), .int (w 1), .int (w 2), .int (w 3), .int (w 4)])) ∧
  (∀ j, 1 ≤ j → j < 5 → LL (r, j) (r, 10 + j) (ta j) (cnt j) (mc j) (nd j) (it j) M) ∧
  (∀ t, t < cnt 1 → M (it 1 t) = some ((r, 21), .inr (26, [.int (tr 1 t 0), .int (tr 1 t 1), .int (tr 1 t 2), .int (tr 1 t 3), .int (tr 1 t 4), .int (tr 1 t 5)]))) ∧
  (∀ t, t < cnt 2 → M (it 2 t) = some ((r, 22), .inr (27, [.int (tr 2 t 0), .int (tr 2 t 1), .int (tr 2 t 2), .int (tr 2 t 3)]))) ∧
  (∀ t, t < cnt 3 → M (it 3 t) = some ((r, 23), .inr (27, [.int (tr 3 t 0), .int (tr 3 t 1), .int (tr 3 t 2), .int (tr 3 t 3)]))) ∧
  (∀ t, t < cnt 4 → M (it 4 t) = some ((r, 24), .inr (28, [.int (tr 4 t 0), .int (tr 4 t 1), .int (tr 4 t 2), .int (tr 4 t 3), .int (tr 4 t 4)])))
section TRS
variable {G : gG} {r tx : Nat} {ta : Nat → Nat} {mc : Nat → Int32} {nd it : Nat → Nat → Nat} {cnt : Nat → Nat} {tr : Nat → Nat → Nat → Int32} {w : Nat → Int32} {M M' : gM}
theorem TR.ll (h : TR G r tx ta mc nd it cnt tr w M) {j : Nat} (h1 : 1 ≤ j) (h2 : j < 5) : LL (r, j) (r, 10 + j) (ta j) (cnt j) (mc j) (nd j) (it j) M := h.2.1 j h1 h2
theorem TR.keep {ρ : Nat × Nat → Prop} (h : TR G r tx ta mc nd it cnt tr w M) (f : gFl ρ M M') (hr : ∀ j, ¬ ρ (r, j)) : TR G r tx ta mc nd it cnt tr w M' :=
  ⟨f.keep h.1 (hr 0), fun j h1 h2 => (h.2.1 j h1 h2).keep f (hr _) (hr _), fun t ht => f.keep (h.2.2.1 t ht) (hr _), fun t ht => f.keep (h.2.2.2.1 t ht) (hr _), fun t ht => f.keep (h.2.2.2.2.1 t ht) (hr _), fun t ht => f.keep (h.2.2.2.2.2 t ht) (hr _)⟩
/-- other words -/
theorem TR.words (h : TR G r tx ta mc nd it cnt tr w M) {w' : Nat → Int32} (h1 : M' tx = some ((r, 0), .inr (20, [.ref (ta 1), .ref (ta 2), .ref (ta 3), .ref (ta 4), .int (w' 0), .int (w' 1), .int (w' 2), .int (w' 3), .int (w' 4)]))) (k : ∀ z, z ≠ tx → M' z = M z) : TR G r tx ta mc nd it cnt tr w' M' := by
  have f : gFl (fun l => l = (r, 0)) M M' := gFl.of1 h.1 h1 k rfl
  have n0 : ∀ j, 1 ≤ j → ¬ (r, j) = (r, 0) := fun j hj e => by have := congrArg Prod.snd e; dsimp only at this; omega
  exact ⟨h1, fun j g1 g2 => (h.2.1 j g1 g2).keep f (n0 _ (by omega)) (n0 _ (by omega)), fun t ht => f.keep (h.2.2.1 t ht) (n0 _ (by omega)), fun t ht => f.keep (h.2.2.2.1 t ht) (n0 _ (by omega)), fun t ht => f.keep (h.2.2.2.2.1 t ht) (n0 _ (by omega)), fun t ht => f.keep (h.2.2.2.2.2 t ht) (n0 _ (by omega))⟩
end TRS
/-- what the books' methods need of the desk: its ways, its methods, what is told -/
def LN3 (a : Nat) (f : Nat → Nat) (j : Nat) (G : gG) (M : gM) : Prop := ∃ q, M a = some ((1, 0), .inr (1, [.ref q, .int (nI 0)])) ∧ M q = some ((1, j), .inl (G.2.1 3, 3, .inr (.inr (.inr (.inr (clipQ 3 (fun k => some (f k)))))))) 
def XW (G : gG) (x tx wl ml : Nat) (wf mf : Nat → Nat) (M : gM) : Prop :=
  (∃ vs : Nat → Value, M x = some ((x + 4, 0), .inr (16, [.ref wl, .ref ml, vs 2, vs 3, .ref tx, vs 5, vs 6, vs 7, vs 8, vs 9, vs 10, vs 11, vs 12, vs 13]))) ∧ LN3 wl wf 1 G M ∧ LN3 ml mf 1 G M ∧ (∀ k, k < 3 → WY G k (wf k) M) ∧ (∀ k, k < 3 → MT G k (mf k) M)
theorem WY.keep {G : gG} {k v : Nat} {M M' : gM} {ρ : Nat × Nat → Prop} (h : WY G k v M) (f : gFl ρ M M') (hr : ∀ j, ¬ ρ (1, j)) : WY G k v M' := by
  obtain ⟨j, a, h1, h2⟩ := h
  exact ⟨j, a, f.keep h1 (hr _), h2⟩
theorem MT.keep {G : gG} {k v : Nat} {M M' : gM} {ρ : Nat × Nat → Prop} (h : MT G k v M) (f : gFl ρ M M') (hr : ∀ j, ¬ ρ (1, j)) : MT G k v M' := by
  obtain ⟨j, a, b, h1, h2⟩ := h
  exact ⟨j, a, b, f.keep h1 (hr _), h2⟩
theorem LN3.keep {G : gG} {a j : Nat} {g : Nat → Nat} {M M' : gM} {ρ : Nat × Nat → Prop} (h : LN3 a g j G M) (f : gFl ρ M M') (hr : ∀ j, ¬ ρ (1, j)) : LN3 a g j G M' := by
  obtain ⟨q, h1, h2⟩ := h
  exact ⟨q, f.keep h1 (hr _), f.keep h2 (hr _)⟩
theorem XW.keep {G : gG} {x tx wl ml : Nat} {wf mf : Nat → Nat} {M M' : gM} {ρ : Nat × Nat → Prop} (h : XW G x tx wl ml wf mf M) (f : gFl ρ M M') (h1 : ∀ j, ¬ ρ (1, j)) (hx : ¬ ρ (x + 4, 0)) : XW G x tx wl ml wf mf M' := by
  obtain ⟨⟨vs, h0⟩, h2, h3, h4, h5⟩ := h
  exact ⟨⟨vs, f.keep h0 hx⟩, h2.keep f h1, h3.keep f h1, fun k hk => (h4 k hk).keep f h1, fun k hk => (h5 k hk).keep f h1⟩
/-- books: the cells of a fixed shape. s: sums; f: rows (0 provisional, 1 recovered, 2 annual, 3 trued, 4 totals); o: heads (0 own, 1 all); Z: the year's sums -/
def bl (j : Nat) : Nat := if j < 2 then 64 else if j < 4 then 16 else 4
def BC (G : gG) (r : Nat) (ba : Nat → Nat) (x : Nat) (s : Nat → Nat → Nat → Int64) (f : Nat → Nat → Nat → Int32) (o : Nat → Nat → Int32) (nw en : Int32) (Z : Nat → Int64) (M : gM) : Prop :=
  M (ba 0) = some ((r, 0), .inr (21, [.ref (ba 1), .ref (ba 2), .ref (ba 3), .ref (ba 4), .ref (ba 5), .ref (ba 7), .ref (ba 8), .ref (ba 6), .ref (ba 11), .ref (ba 12), .ref (ba 13), .ref (ba 15), .ref (ba 9), .int nw, .int en, .ref x])) ∧
  M (ba 1) = some ((r, 1), .inl (G.2.1 5, 4, .inr (.inr (.inr (.inr (clipQ 4 (fun t => some (ba (20 + t)))))))))  ∧
  (∀ j, j < 5 → M (ba (2 + j)) = some ((r, 2 + j), .inl (G.2.1 6, 4, .inr (.inr (.inr (.inr (clipQ 4 (fun t => some (ba (30 + 10 * j + t)))))))))) ∧
  (∀ t, t < 4 → M (ba (20 + t)) = some ((r, 20 + t), .inl (G.2.1 4, 64, .inr (.inr (.inr (.inr (clipQ 64 (fun q => some (ba (1000 + 64 * t + q)))))))))) ∧
  (∀ j t, j < 5 → t < 4 → M (ba (30 + 10 * j + t)) = some ((r, 30 + 10 * j + t), .inl (G.2.1 0, bl j, .inl (clipI (bl j) (f j t))))) ∧
  (∀ t q, t < 4 → q < 64 → SU G (r, 1000 + 64 * t + q) (r, 2000 + 64 * t + q) (ba (1000 + 64 * t + q)) (ba (2000 + 64 * t + q)) (s t q) M) ∧
  (∀ i, i < 2 → M (ba (7 + i)) = some ((r, 7 + i), .inl (G.2.1 0, 4, .inl (clipI 4 (o i))))) ∧
  SU G (r, 9) (r, 10) (ba 9) (ba 10) Z M
section BCS
variable {G : gG} {r : Nat} {ba : Nat → Nat} {x : Nat} {s s' : Nat → Nat → Nat → Int64} {f f' : Nat → Nat → Nat → Int32} {o o' : Nat → Nat → Int32} {nw en : Int32} {Z Z' : Nat → Int64} {M M' : gM}
theorem clipL_eq5 {g h : Nat → Int64} (e : ∀ k, k < 5 → g k = h k) : clipL 5 g = clipL 5 h := clipL_eq e
theorem SU.keep {lO lW : Nat × Nat} {a w : Nat} {ρ : Nat × Nat → Prop} (h : SU G lO lW a w Z M) (g : gFl ρ M M') (h0 : ¬ ρ lO) (h1 : ¬ ρ lW) : SU G lO lW a w Z M' := by
  obtain ⟨i, j⟩ := lO
  obtain ⟨i', j'⟩ := lW
  exact ⟨g.keep h.1 h0, g.keep h.2 h1⟩
theorem SU.cg {lO lW : Nat × Nat} {a w : Nat} (h : SU G lO lW a w Z M) (e : ∀ k, k < 5 → Z' k = Z k) : SU G lO lW a w Z' M := ⟨h.1, by rw [clipL_eq5 e]; exact h.2⟩
theorem BC.keep {ρ : Nat × Nat → Prop} (h : BC G r ba x s f o nw en Z M) (g : gFl ρ M M') (hr : ∀ j, j < 11 ∨ 20 ≤ j ∧ j < 80 ∨ 1000 ≤ j → ¬ ρ (r, j)) : BC G r ba x s f o nw en Z M' := by
  obtain ⟨h0, h1, h2, h3, h4, h5, h6, h7⟩ := h
  exact ⟨g.keep h0 (hr _ (by omega)), g.keep h1 (hr _ (by omega)), fun j hj => g.keep (h2 j hj) (hr _ (by omega)), fun t ht => g.keep (h3 t ht) (hr _ (by omega)), fun j t hj ht => g.keep (h4 j t hj ht) (hr _ (by omega)), fun t q ht hq => (h5 t q ht hq).keep g (hr _ (by omega)) (hr _ (by omega)), fun i hi => g.keep (h6 i hi) (hr _ (by omega)), h7.keep g (hr _ (by omega)) (hr _ (by omega))⟩
theorem BC.cg (h : BC G r ba x s f o nw en Z M) (e1 : ∀ t q k, t < 4 → q < 64 → k < 5 → s' t q k = s t q k) (e2 : ∀ j t q, j < 5 → t < 4 → q < bl j → f' j t q = f j t q) (e3 : ∀ i t, i < 2 → t < 4 → o' i t = o i t) : BC G r ba x s' f' o' nw en Z M := by
  obtain ⟨h0, h1, h2, h3, h4, h5, h6, h7⟩ := h
  exact ⟨h0, h1, h2, h3, fun j t hj ht => by rw [clipI_eq (fun q hq => e2 j t q hj ht hq)]; exact h4 j t hj ht, fun t q ht hq => (h5 t q ht hq).cg (fun k hk => e1 t q k ht hq hk), fun i hi => by rw [clipI_eq (fun t ht => e3 i t hi ht)]; exact h6 i hi, h7⟩
/-- one cell is another -/
theorem BC.sum {t q : Nat} (h : BC G r ba x s f o nw en Z M) (ht : t < 4) (hq : q < 64) (h1 : M' (ba (2000 + 64 * t + q)) = some ((r, 2000 + 64 * t + q), .inl (G.2.1 1, 5, .inr (.inl (clipL 5 (s' t q)))))) (k : ∀ z, z ≠ ba (2000 + 64 * t + q) → M' z = M z) (hs : ∀ t' q' k', t' < 4 → q' < 64 → k' < 5 → ¬ (t' = t ∧ q' = q) → s' t' q' k' = s t' q' k') : BC G r ba x s' f o nw en Z M' := by
  have g : gFl (fun l => l = (r, 2000 + 64 * t + q)) M M' := gFl.of1 (h.2.2.2.2.2.1 t q ht hq).2 h1 k rfl
  have nn : ∀ j, j ≠ 2000 + 64 * t + q → ¬ (r, j) = (r, 2000 + 64 * t + q) := fun j hj e => hj (congrArg Prod.snd e)
  obtain ⟨h0, g1, h2, h3, h4, h5, h6, h7⟩ := h
  refine ⟨g.keep h0 (nn _ (by omega)), g.keep g1 (nn _ (by omega)), fun j hj => g.keep (h2 j hj) (nn _ (by omega)), fun t ht => g.keep (h3 t ht) (nn _ (by omega)), fun j t hj ht => g.keep (h4 j t hj ht) (nn _ (by omega)), fun t' q' ht' hq' => ?_, fun i hi => g.keep (h6 i hi) (nn _ (by omega)), h7.keep g (nn _ (by omega)) (nn _ (by omega))⟩
  by_cases e : t' = t ∧ q' = q
  · obtain ⟨rfl, rfl⟩ := e
    exact ⟨g.keep (h5 t' q' ht' hq').1 (nn _ (by omega)), h1⟩
  · exact ((h5 t' q' ht' hq').keep g (nn _ (by omega)) (nn _ (by omega))).cg (fun k' hk => hs t' q' k' ht' hq' hk e)
theorem BC.row {j t : Nat} (h : BC G r ba x s f o nw en Z M) (hj : j < 5) (ht : t < 4) (h1 : M' (ba (30 + 10 * j + t)) = some ((r, 30 + 10 * j + t), .inl (G.2.1 0, bl j, .inl (clipI (bl j) (f' j t))))) (k : ∀ z, z ≠ ba (30 + 10 * j + t) → M' z = M z) (hs : ∀ j' t' q', j' < 5 → t' < 4 → q' < bl j' → ¬ (j' = j ∧ t' = t) → f' j' t' q' = f j' t' q') : BC G r ba x s f' o nw en Z M' := by
  have g : gFl (fun l => l = (r, 30 + 10 * j + t)) M M' := gFl.of1 (h.2.2.2.2.1 j t hj ht) h1 k rfl
  have nn : ∀ i, i ≠ 30 + 10 * j + t → ¬ (r, i) = (r, 30 + 10 * j + t) := fun i hi e => hi (congrArg Prod.snd e)
  obtain ⟨h0, g1, h2, h3, h4, h5, h6, h7⟩ := h
  refine ⟨g.keep h0 (nn _ (by omega)), g.keep g1 (nn _ (by omega)), fun j hj => g.keep (h2 j hj) (nn _ (by omega)), fun t ht => g.keep (h3 t ht) (nn _ (by omega)), fun j' t' hj' ht' => ?_, fun t' q' ht' hq' => (h5 t' q' ht' hq').keep g (nn _ (by omega)) (nn _ (by omega)), fun i hi => g.keep (h6 i hi) (nn _ (by omega)), h7.keep g (nn _ (by omega)) (nn _ (by omega))⟩
  by_cases e : j' = j ∧ t' = t
  · obtain ⟨rfl, rfl⟩ := e
    exact h1
  · rw [clipI_eq (fun q hq => hs j' t' q hj' ht' hq e)]
    exact g.keep (h4 j' t' hj' ht') (nn _ (by omega))
theorem BC.head {i : Nat} (h : BC G r ba x s f o nw en Z M) (hi : i < 2) (h1 : M' (ba (7 + i)) = some ((r, 7 + i), .inl (G.2.1 0, 4, .inl (clipI 4 (o' i))))) (k : ∀ z, z ≠ ba (7 + i) → M' z = M z) (hs : ∀ i' t, i' < 2 → t < 4 → i' ≠ i → o' i' t = o i' t) : BC G r ba x s f o' nw en Z M' := by
  have g : gFl (fun l => l = (r, 7 + i)) M M' := gFl.of1 (h.2.2.2.2.2.2.1 i hi) h1 k rfl
  have nn : ∀ j, j ≠ 7 + i → ¬ (r, j) = (r, 7 + i) := fun j hj e => hj (congrArg Prod.snd e)
  obtain ⟨h0, g1, h2, h3, h4, h5, h6, h7⟩ := h
  refine ⟨g.keep h0 (nn _ (by omega)), g.keep g1 (nn _ (by omega)), fun j hj => g.keep (h2 j hj) (nn _ (by omega)), fun t ht => g.keep (h3 t ht) (nn _ (by omega)), fun j t hj ht => g.keep (h4 j t hj ht) (nn _ (by omega)), fun t q ht hq => (h5 t q ht hq).keep g (nn _ (by omega)) (nn _ (by omega)), fun i' hi' => ?_, h7.keep g (nn _ (by omega)) (nn _ (by omega))⟩
  by_cases e : i' = i
  · subst e; exact h1
  · rw [clipI_eq (fun t ht => hs i' t hi' ht e)]
    exact g.keep (h6 i' hi') (nn _ (by omega))
theorem BC.flds {nw' en' : Int32} (h : BC G r ba x s f o nw en Z M) (h1 : M' (ba 0) = some ((r, 0), .inr (21, [.ref (ba 1), .ref (ba 2), .ref (ba 3), .ref (ba 4), .ref (ba 5), .ref (ba 7), .ref (ba 8), .ref (ba 6), .ref (ba 11), .ref (ba 12), .ref (ba 13), .ref (ba 15), .ref (ba 9), .int nw', .int en', .ref x]))) (k : ∀ z, z ≠ ba 0 → M' z = M z) : BC G r ba x s f o nw' en' Z M' := by
  have g : gFl (fun l => l = (r, 0)) M M' := gFl.of1 h.1 h1 k rfl
  have nn : ∀ j, j ≠ 0 → ¬ (r, j) = (r, 0) := fun j hj e => hj (congrArg Prod.snd e)
  obtain ⟨h0, g1, h2, h3, h4, h5, h6, h7⟩ := h
  exact ⟨h1, g.keep g1 (nn _ (by omega)), fun j hj => g.keep (h2 j hj) (nn _ (by omega)), fun t ht => g.keep (h3 t ht) (nn _ (by omega)), fun j t hj ht => g.keep (h4 j t hj ht) (nn _ (by omega)), fun t q ht hq => (h5 t q ht hq).keep g (nn _ (by omega)) (nn _ (by omega)), fun i hi => g.keep (h6 i hi) (nn _ (by omega)), h7.keep g (nn _ (by omega)) (nn _ (by omega))⟩
theorem BC.year (h : BC G r ba x s f o nw en Z M) (h1 : SU G (r, 9) (r, 10) (ba 9) (ba 10) Z' M') (k : ∀ z, z ≠ ba 10 → M' z = M z) : BC G r ba x s f o nw en Z' M' := by
  have g : gFl (fun l => l = (r, 10)) M M' := gFl.of1 h.2.2.2.2.2.2.2.2 h1.2 k rfl
  have nn : ∀ j, j ≠ 10 → ¬ (r, j) = (r, 10) := fun j hj e => hj (congrArg Prod.snd e)
  obtain ⟨h0, g1, h2, h3, h4, h5, h6, h7⟩ := h
  exact ⟨g.keep h0 (nn _ (by omega)), g.keep g1 (nn _ (by omega)), fun j hj => g.keep (h2 j hj) (nn _ (by omega)), fun t ht => g.keep (h3 t ht) (nn _ (by omega)), fun j t hj ht => g.keep (h4 j t hj ht) (nn _ (by omega)), fun t q ht hq => (h5 t q ht hq).keep g (nn _ (by omega)) (nn _ (by omega)), fun i hi => g.keep (h6 i hi) (nn _ (by omega)), h1⟩
end BCS
theorem gFl.nw {ρ : Nat × Nat → Prop} {M0 M : gM} {q : Nat} (hq : M0 q = none) (k : ∀ z, z ≠ q → M z = M0 z) : gFl ρ M0 M := fun a x hx => by
  have e : a ≠ q := fun e => by rw [e, hq] at hx; cases hx
  rw [k a e]
  exact ⟨⟨x.2, hx⟩, fun _ => hx⟩
theorem TR.at1 {G : gG} {r tx : Nat} {ta : Nat → Nat} {mc : Nat → Int32} {nd it : Nat → Nat → Nat} {cnt : Nat → Nat} {tr : Nat → Nat → Nat → Int32} {w : Nat → Int32} {M : gM} (h : TR G r tx ta mc nd it cnt tr w M) {t : Nat} (ht : t < cnt 1) : M (it 1 t) = some ((r, 21), .inr (26, [.int (tr 1 t 0), .int (tr 1 t 1), .int (tr 1 t 2), .int (tr 1 t 3), .int (tr 1 t 4), .int (tr 1 t 5)])) := h.2.2.1 t ht
theorem LL.emp {l0 lN : Nat × Nat} {hd : Nat} {mc : Int32} {nd it : Nat → Nat} {M : gM} (h : M hd = some (l0, .inr (2, [.int mc, .int (nI 0), .null, .null]))) (hl : ¬ l0 = lN) : LL l0 lN hd 0 mc nd it M :=
  ⟨h, fun i hi => absurd hi (by omega), fun i j hi => absurd hi (by omega), hl, by omega⟩
