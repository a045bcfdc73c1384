set_option maxRecDepth 100000
/-! BOOKS, WHOLE -/
/-- an asset's fields, out of the bank -/
def vA (B : Nat → Int32) (a j : Nat) : Int32 :=
  if j = 0 then nI a else if j = 1 then B (2084 + 48 * a + 3) else if j = 2 then B (2084 + 48 * a + 4) else if j = 3 then B (2084 + 48 * a + 5) else if j = 4 then nI (dN (B (2084 + 48 * a + 5)) / 4) else
  if j = 8 then B (2084 + 48 * a + 2) else if j = 9 then (if B (2084 + 48 * a + 47) = nI 0 then -1 else B (2084 + 48 * a + 6)) else if j = 10 then B (2084 + 48 * a + 7) - nI 1 else if j = 11 then (if B (2084 + 48 * a + 7) = nI 0 then -1 else B (2084 + 48 * a + 8)) else
  if j = 12 then B (2084 + 48 * a + 1) else if j = 13 then (if B (2084 + 48 * a + 11) = nI 1 then B (2084 + 48 * a + 12) else -999999) else if j = 14 then B (2084 + 48 * a + 47) else B (2084 + 48 * a + 9)
def bA (ba : Nat → Nat) (a j : Nat) : Nat := if j = 0 then ba (140 + a) else ba (190 + 10 * j + a)
/-- assets that stand -/
def pSt (B : Nat → Int32) : List Nat := (List.range (dN (B 1865))).filter (fun a => ! (B (2084 + 48 * a + 9) == nI 1))
/-- entries, the newest first -/
def EN (en : Nat → Nat) (B : Nat → Int32) (M : gM) : Prop := ∀ i, i < dN (B 1867) → M (en i) = some ((1, 2), .inr (29, [.int (B (1868 + 5 * i)), .int (B (1868 + 5 * i + 1)), .int (B (1868 + 5 * i + 2)), .int (B (1868 + 5 * i + 3)), .int (B (1868 + 5 * i + 4))]))
/-- st: which assets stand; ex: whose cells are told apart; sb: which are shut -/
def BX (G : gG) (r : Nat) (ba : Nat → Nat) (x : Nat) (B : Nat → Int32) (D : Nat → Nat → Int32) (xx : Nat → Nat → Nat → Int32) (Z : Nat → Int64) (st : List Nat) (ex : Nat → Prop) (sb : Int64) (M : gM) : Prop :=
  BC G r ba x (pQS B) (bf B D) (bo B) (B 0) (B 1866) Z M ∧
  (∃ mc nd, LL (r, 11) (r, 100) (ba 11) (dN (B 1865)) mc nd (fun k => ba (140 + k)) M) ∧
  (∃ mc nd, LL (r, 12) (r, 120) (ba 12) st.length mc nd (fun k => ba (140 + fnL 0 st k)) M) ∧
  (∀ a, a < dN (B 1865) → ¬ ex a → AS G r a (bA ba a) (vA B a) (xx a) M) ∧
  (∃ en, DQ G (r, 13) (r, 14) (ba 13) (dN (B 1867)) en M ∧ EN en B M) ∧
  BS G (r, 15) (r, 16) (ba 15) sb M
theorem bl_b {j q : Nat} (h : q < bl j) : q < 64 ∧ (j < 2 ∨ q < 16) ∧ (j < 4 ∨ q < 4) := by
  unfold bl at h
  by_cases h2 : j < 2
  · rw [if_pos h2] at h; omega
  · rw [if_neg h2] at h
    by_cases h4 : j < 4
    · rw [if_pos h4] at h; omega
    · rw [if_neg h4] at h; omega
section BXS
variable {G : gG} {r : Nat} {ba : Nat → Nat} {x : Nat} {B B' : Nat → Int32} {D D' : Nat → Nat → Int32} {xx xx' : Nat → Nat → Nat → Int32} {Z Z' : Nat → Int64} {st : List Nat} {ex ex' : Nat → Prop} {sb sb' : Int64} {M M' : gM} {ρ : Nat × Nat → Prop}
theorem EN.keep {en : Nat → Nat} (h : EN en B M) (f : gFl ρ M M') (h1 : ¬ ρ (1, 2)) : EN en B M' := fun i hi => f.keep (h i hi) h1
theorem EN.cg {en : Nat → Nat} (h : EN en B M) (e0 : B' 1867 = B 1867) (e : ∀ i, 1868 ≤ i → i < 2068 → B' i = B i) (hk : dN (B 1867) ≤ 40) : EN en B' M := fun i hi => by
  rw [e0] at hi
  rw [e _ (by omega) (by omega), e _ (by omega) (by omega), e _ (by omega) (by omega), e _ (by omega) (by omega), e _ (by omega) (by omega)]
  exact h i hi
/-- what touches none of these books' cells -/
theorem BX.keep (h : BX G r ba x B D xx Z st ex sb M) (f : gFl ρ M M') (hr : ∀ j, ¬ ρ (r, j)) (h1 : ¬ ρ (1, 2)) : BX G r ba x B D xx Z st ex sb M' := by
  obtain ⟨g1, ⟨mc, nd, g2⟩, ⟨mc', nd', g3⟩, g4, ⟨en, g5, g6⟩, g7⟩ := h
  exact ⟨g1.keep f (fun j _ => hr j), ⟨mc, nd, g2.keep f (hr _) (hr _)⟩, ⟨mc', nd', g3.keep f (hr _) (hr _)⟩, fun a ha he => (g4 a ha he).keep f (hr _) (hr _) (hr _) (hr _) (hr _), ⟨en, g5.keep f (hr _) (hr _), g6.keep f h1⟩, g7.keep f (hr _) (hr _)⟩
/-- of the cells of a fixed shape one has changed -/
theorem BX.core (h : BX G r ba x B D xx Z st ex sb M) {j : Nat} (f : gFl (fun l => l = (r, j)) M M') (hj : j < 11 ∨ 20 ≤ j ∧ j < 80 ∨ 1000 ≤ j) (hr : 4 ≤ r) (h1 : BC G r ba x (pQS B') (bf B' D') (bo B') (B' 0) (B' 1866) Z' M') (e1 : B' 1865 = B 1865) (e2 : B' 1867 = B 1867) (e3 : ∀ i, 1868 ≤ i → i < 2068 → B' i = B i) (e4 : ∀ i, 2084 ≤ i → B' i = B i) (hk : dN (B 1865) ≤ 8 ∧ dN (B 1867) ≤ 40) : BX G r ba x B' D' xx Z' st ex sb M' := by
  obtain ⟨-, ⟨mc, nd, g2⟩, ⟨mc', nd', g3⟩, g4, ⟨en, g5, g6⟩, g7⟩ := h
  have nn : ∀ i, i ≠ j → ¬ (r, i) = (r, j) := fun i hi e => hi (congrArg Prod.snd e)
  have n1 : ¬ (1, 2) = (r, j) := fun e => by have := congrArg Prod.fst e; dsimp only at this; omega
  refine ⟨h1, ⟨mc, nd, by rw [e1]; exact g2.keep f (nn _ (by omega)) (nn _ (by omega))⟩, ⟨mc', nd', g3.keep f (nn _ (by omega)) (nn _ (by omega))⟩, fun a ha he => ?_, ⟨en, by rw [e2]; exact g5.keep f (nn _ (by omega)) (nn _ (by omega)), (g6.keep f n1).cg e2 e3 hk.2⟩, g7.keep f (nn _ (by omega)) (nn _ (by omega))⟩
  rw [e1] at ha
  refine ((g4 a ha he).keep f (nn _ (by omega)) (nn _ (by omega)) (nn _ (by omega)) (nn _ (by omega)) (nn _ (by omega))).cg (fun _ _ => rfl) (fun i _ => ?_) (fun _ _ _ _ => rfl)
  unfold vA
  simp only [e4 _ (show 2084 ≤ 2084 + 48 * a + 3 by omega), e4 _ (show 2084 ≤ 2084 + 48 * a + 4 by omega), e4 _ (show 2084 ≤ 2084 + 48 * a + 5 by omega), e4 _ (show 2084 ≤ 2084 + 48 * a + 2 by omega), e4 _ (show 2084 ≤ 2084 + 48 * a + 47 by omega), e4 _ (show 2084 ≤ 2084 + 48 * a + 6 by omega), e4 _ (show 2084 ≤ 2084 + 48 * a + 7 by omega), e4 _ (show 2084 ≤ 2084 + 48 * a + 8 by omega), e4 _ (show 2084 ≤ 2084 + 48 * a + 1 by omega), e4 _ (show 2084 ≤ 2084 + 48 * a + 11 by omega), e4 _ (show 2084 ≤ 2084 + 48 * a + 12 by omega), e4 _ (show 2084 ≤ 2084 + 48 * a + 9 by omega)]
/-- a sum -/
theorem BX.sum {t q k : Nat} {v : Int32} (h : BX G r ba x B D xx Z st ex sb M) (ht : t < 4) (hq : q < 64) (hk : k < 5) (hr : 4 ≤ r) (hK : dN (B 1865) ≤ 8 ∧ dN (B 1867) ≤ 40) (h1 : M' (ba (2000 + 64 * t + q)) = some ((r, 2000 + 64 * t + q), .inl (G.2.1 1, 5, .inr (.inl (clipL 5 (vp_updL (pQS B t q) k v.toInt64)))))) (kk : ∀ z, z ≠ ba (2000 + 64 * t + q) → M' z = M z) : BX G r ba x (upd B (1 + 320 * t + 5 * q + k) v) D xx Z st ex sb M' := by
  have ne : ∀ i, i ≠ 1 + 320 * t + 5 * q + k → upd B (1 + 320 * t + 5 * q + k) v i = B i := fun i hi => if_neg hi
  have e9 : clipL 5 (vp_updL (pQS B t q) k v.toInt64) = clipL 5 (pQS (upd B (1 + 320 * t + 5 * q + k) v) t q) := clipL_eq (fun i hi => by
    unfold vp_updL pQS
    by_cases e : i = k
    · rw [if_pos e, e]; unfold upd; rw [if_pos rfl]
    · rw [if_neg e, ne _ (by omega)])
  rw [e9] at h1
  refine h.core (gFl.of1 (h.1.2.2.2.2.2.1 t q ht hq).2 h1 kk rfl) (by omega) hr ?_ (ne _ (by omega)) (ne _ (by omega)) (fun i h1 h2 => ne _ (by omega)) (fun i h1 => ne _ (by omega)) hK
  rw [ne 0 (by omega), ne 1866 (by omega)]
  refine (h.1.sum ht hq h1 kk (fun t' q' k' a1 a2 a3 a4 => ?_)).cg (fun _ _ _ _ _ _ => rfl) (fun j t' q' a1 a2 a3 => ?_) (fun i t' a1 a2 => ?_)
  · unfold pQS; rw [ne _ (by omega)]
  · unfold bf bl at *
    by_cases c0 : j = 0
    · rw [if_pos c0, if_pos c0, ne _ (by omega)]
    rw [if_neg c0, if_neg c0]
    by_cases c1 : j = 1
    · rw [if_pos c1, if_pos c1, ne _ (by omega)]
    rw [if_neg c1, if_neg c1]
    by_cases c2 : j = 2
    · rw [if_pos c2, if_pos c2, ne _ (by omega)]
    rw [if_neg c2, if_neg c2]
    by_cases c3 : j = 3
    · rw [if_pos c3, if_pos c3]
    rw [if_neg c3, if_neg c3, ne _ (by omega)]
  · unfold bo; rw [ne _ (by omega)]
/-- a row's place -/
theorem BX.r0 {t q : Nat} {v : Int32} (h : BX G r ba x B D xx Z st ex sb M) (ht : t < 4) (hq : q < 64) (hr : 4 ≤ r) (hK : dN (B 1865) ≤ 8 ∧ dN (B 1867) ≤ 40) (h1 : M' (ba (30 + t)) = some ((r, 30 + t), .inl (G.2.1 0, 64, .inl (clipI 64 (upd (bf B D 0 t) q v))))) (kk : ∀ z, z ≠ ba (30 + t) → M' z = M z) : BX G r ba x (upd B (1289 + 64 * t + q) v) D xx Z st ex sb M' := by
  have ne : ∀ i, i ≠ 1289 + 64 * t + q → upd B (1289 + 64 * t + q) v i = B i := fun i hi => if_neg hi
  have e9 : clipI 64 (upd (bf B D 0 t) q v) = clipI 64 (bf (upd B (1289 + 64 * t + q) v) D 0 t) := clipI_eq (fun i hi => by
    show (if i = q then v else bf B D 0 t i) = _
    by_cases e : i = q
    · rw [if_pos e, e]
      show v = upd B (1289 + 64 * t + q) v (1289 + 64 * t + q)
      unfold upd; rw [if_pos rfl]
    · rw [if_neg e]
      show B (1289 + 64 * t + i) = upd B (1289 + 64 * t + q) v (1289 + 64 * t + i)
      rw [ne _ (by omega)])
  rw [e9] at h1
  refine h.core (gFl.of1 (h.1.2.2.2.2.1 0 t (by omega) ht) h1 kk rfl) (by omega) hr ?_ (ne _ (by omega)) (ne _ (by omega)) (fun i h1 h2 => ne _ (by omega)) (fun i h1 => ne _ (by omega)) hK
  rw [ne 0 (by omega), ne 1866 (by omega)]
  refine (h.1.row (f' := bf (upd B (1289 + 64 * t + q) v) D) (j := 0) (by omega) ht h1 kk (fun j t' q' a1 a2 a3 a4 => ?_)).cg (fun t' q' k' a1 a2 a3 => ?_) (fun _ _ _ _ _ _ => rfl) (fun i t' a1 a2 => ?_)
  · have b9 := bl_b a3; unfold bf
    by_cases c0 : j = 0
    · subst c0; rw [if_pos rfl, if_pos rfl, ne _ (by omega)]
    rw [if_neg c0, if_neg c0]
    by_cases c1 : j = 1
    · rw [if_pos c1, if_pos c1, ne _ (by omega)]
    rw [if_neg c1, if_neg c1]
    by_cases c2 : j = 2
    · rw [if_pos c2, if_pos c2, ne _ (by omega)]
    rw [if_neg c2, if_neg c2]
    by_cases c3 : j = 3
    · rw [if_pos c3, if_pos c3]
    rw [if_neg c3, if_neg c3, ne _ (by omega)]
  · unfold pQS; rw [ne _ (by omega)]
  · unfold bo; rw [ne _ (by omega)]
/-- a row's place -/
theorem BX.r1 {t q : Nat} {v : Int32} (h : BX G r ba x B D xx Z st ex sb M) (ht : t < 4) (hq : q < 64) (hr : 4 ≤ r) (hK : dN (B 1865) ≤ 8 ∧ dN (B 1867) ≤ 40) (h1 : M' (ba (40 + t)) = some ((r, 40 + t), .inl (G.2.1 0, 64, .inl (clipI 64 (upd (bf B D 1 t) q v))))) (kk : ∀ z, z ≠ ba (40 + t) → M' z = M z) : BX G r ba x (upd B (1545 + 64 * t + q) v) D xx Z st ex sb M' := by
  have ne : ∀ i, i ≠ 1545 + 64 * t + q → upd B (1545 + 64 * t + q) v i = B i := fun i hi => if_neg hi
  have e9 : clipI 64 (upd (bf B D 1 t) q v) = clipI 64 (bf (upd B (1545 + 64 * t + q) v) D 1 t) := clipI_eq (fun i hi => by
    show (if i = q then v else bf B D 1 t i) = _
    by_cases e : i = q
    · rw [if_pos e, e]
      show v = upd B (1545 + 64 * t + q) v (1545 + 64 * t + q)
      unfold upd; rw [if_pos rfl]
    · rw [if_neg e]
      show B (1545 + 64 * t + i) = upd B (1545 + 64 * t + q) v (1545 + 64 * t + i)
      rw [ne _ (by omega)])
  rw [e9] at h1
  refine h.core (gFl.of1 (h.1.2.2.2.2.1 1 t (by omega) ht) h1 kk rfl) (by omega) hr ?_ (ne _ (by omega)) (ne _ (by omega)) (fun i h1 h2 => ne _ (by omega)) (fun i h1 => ne _ (by omega)) hK
  rw [ne 0 (by omega), ne 1866 (by omega)]
  refine (h.1.row (f' := bf (upd B (1545 + 64 * t + q) v) D) (j := 1) (by omega) ht h1 kk (fun j t' q' a1 a2 a3 a4 => ?_)).cg (fun t' q' k' a1 a2 a3 => ?_) (fun _ _ _ _ _ _ => rfl) (fun i t' a1 a2 => ?_)
  · have b9 := bl_b a3; unfold bf
    by_cases c0 : j = 0
    · rw [if_pos c0, if_pos c0, ne _ (by omega)]
    rw [if_neg c0, if_neg c0]
    by_cases c1 : j = 1
    · subst c1; rw [if_pos rfl, if_pos rfl, ne _ (by omega)]
    rw [if_neg c1, if_neg c1]
    by_cases c2 : j = 2
    · rw [if_pos c2, if_pos c2, ne _ (by omega)]
    rw [if_neg c2, if_neg c2]
    by_cases c3 : j = 3
    · rw [if_pos c3, if_pos c3]
    rw [if_neg c3, if_neg c3, ne _ (by omega)]
  · unfold pQS; rw [ne _ (by omega)]
  · unfold bo; rw [ne _ (by omega)]
/-- a row's place -/
theorem BX.r2 {t q : Nat} {v : Int32} (h : BX G r ba x B D xx Z st ex sb M) (ht : t < 4) (hq : q < 16) (hr : 4 ≤ r) (hK : dN (B 1865) ≤ 8 ∧ dN (B 1867) ≤ 40) (h1 : M' (ba (50 + t)) = some ((r, 50 + t), .inl (G.2.1 0, 16, .inl (clipI 16 (upd (bf B D 2 t) q v))))) (kk : ∀ z, z ≠ ba (50 + t) → M' z = M z) : BX G r ba x (upd B (1801 + 16 * t + q) v) D xx Z st ex sb M' := by
  have ne : ∀ i, i ≠ 1801 + 16 * t + q → upd B (1801 + 16 * t + q) v i = B i := fun i hi => if_neg hi
  have e9 : clipI 16 (upd (bf B D 2 t) q v) = clipI 16 (bf (upd B (1801 + 16 * t + q) v) D 2 t) := clipI_eq (fun i hi => by
    show (if i = q then v else bf B D 2 t i) = _
    by_cases e : i = q
    · rw [if_pos e, e]
      show v = upd B (1801 + 16 * t + q) v (1801 + 16 * t + q)
      unfold upd; rw [if_pos rfl]
    · rw [if_neg e]
      show B (1801 + 16 * t + i) = upd B (1801 + 16 * t + q) v (1801 + 16 * t + i)
      rw [ne _ (by omega)])
  rw [e9] at h1
  refine h.core (gFl.of1 (h.1.2.2.2.2.1 2 t (by omega) ht) h1 kk rfl) (by omega) hr ?_ (ne _ (by omega)) (ne _ (by omega)) (fun i h1 h2 => ne _ (by omega)) (fun i h1 => ne _ (by omega)) hK
  rw [ne 0 (by omega), ne 1866 (by omega)]
  refine (h.1.row (f' := bf (upd B (1801 + 16 * t + q) v) D) (j := 2) (by omega) ht h1 kk (fun j t' q' a1 a2 a3 a4 => ?_)).cg (fun t' q' k' a1 a2 a3 => ?_) (fun _ _ _ _ _ _ => rfl) (fun i t' a1 a2 => ?_)
  · have b9 := bl_b a3; unfold bf
    by_cases c0 : j = 0
    · rw [if_pos c0, if_pos c0, ne _ (by omega)]
    rw [if_neg c0, if_neg c0]
    by_cases c1 : j = 1
    · rw [if_pos c1, if_pos c1, ne _ (by omega)]
    rw [if_neg c1, if_neg c1]
    by_cases c2 : j = 2
    · subst c2; rw [if_pos rfl, if_pos rfl, ne _ (by omega)]
    rw [if_neg c2, if_neg c2]
    by_cases c3 : j = 3
    · rw [if_pos c3, if_pos c3]
    rw [if_neg c3, if_neg c3, ne _ (by omega)]
  · unfold pQS; rw [ne _ (by omega)]
  · unfold bo; rw [ne _ (by omega)]
/-- a row's place -/
theorem BX.r4 {t q : Nat} {v : Int32} (h : BX G r ba x B D xx Z st ex sb M) (ht : t < 4) (hq : q < 4) (hr : 4 ≤ r) (hK : dN (B 1865) ≤ 8 ∧ dN (B 1867) ≤ 40) (h1 : M' (ba (70 + t)) = some ((r, 70 + t), .inl (G.2.1 0, 4, .inl (clipI 4 (upd (bf B D 4 t) q v))))) (kk : ∀ z, z ≠ ba (70 + t) → M' z = M z) : BX G r ba x (upd B (2068 + 4 * t + q) v) D xx Z st ex sb M' := by
  have ne : ∀ i, i ≠ 2068 + 4 * t + q → upd B (2068 + 4 * t + q) v i = B i := fun i hi => if_neg hi
  have e9 : clipI 4 (upd (bf B D 4 t) q v) = clipI 4 (bf (upd B (2068 + 4 * t + q) v) D 4 t) := clipI_eq (fun i hi => by
    show (if i = q then v else bf B D 4 t i) = _
    by_cases e : i = q
    · rw [if_pos e, e]
      show v = upd B (2068 + 4 * t + q) v (2068 + 4 * t + q)
      unfold upd; rw [if_pos rfl]
    · rw [if_neg e]
      show B (2068 + 4 * t + i) = upd B (2068 + 4 * t + q) v (2068 + 4 * t + i)
      rw [ne _ (by omega)])
  rw [e9] at h1
  refine h.core (gFl.of1 (h.1.2.2.2.2.1 4 t (by omega) ht) h1 kk rfl) (by omega) hr ?_ (ne _ (by omega)) (ne _ (by omega)) (fun i h1 h2 => ne _ (by omega)) (fun i h1 => ne _ (by omega)) hK
  rw [ne 0 (by omega), ne 1866 (by omega)]
  refine (h.1.row (f' := bf (upd B (2068 + 4 * t + q) v) D) (j := 4) (by omega) ht h1 kk (fun j t' q' a1 a2 a3 a4 => ?_)).cg (fun t' q' k' a1 a2 a3 => ?_) (fun _ _ _ _ _ _ => rfl) (fun i t' a1 a2 => ?_)
  · have b9 := bl_b a3; unfold bf
    by_cases c0 : j = 0
    · rw [if_pos c0, if_pos c0, ne _ (by omega)]
    rw [if_neg c0, if_neg c0]
    by_cases c1 : j = 1
    · rw [if_pos c1, if_pos c1, ne _ (by omega)]
    rw [if_neg c1, if_neg c1]
    by_cases c2 : j = 2
    · rw [if_pos c2, if_pos c2, ne _ (by omega)]
    rw [if_neg c2, if_neg c2]
    by_cases c3 : j = 3
    · rw [if_pos c3, if_pos c3]
    rw [if_neg c3, if_neg c3, ne _ (by omega)]
  · unfold pQS; rw [ne _ (by omega)]
  · unfold bo; rw [ne _ (by omega)]
def upd2D (D : Nat → Nat → Int32) (t q : Nat) (v : Int32) : Nat → Nat → Int32 := fun t' q' => if t' = t ∧ q' = q then v else D t' q'
theorem BX.r3 {t q : Nat} {v : Int32} (h : BX G r ba x B D xx Z st ex sb M) (ht : t < 4) (hq : q < 16) (hr : 4 ≤ r) (hK : dN (B 1865) ≤ 8 ∧ dN (B 1867) ≤ 40) (h1 : M' (ba (60 + t)) = some ((r, 60 + t), .inl (G.2.1 0, 16, .inl (clipI 16 (upd (bf B D 3 t) q v))))) (kk : ∀ z, z ≠ ba (60 + t) → M' z = M z) : BX G r ba x B (upd2D D t q v) xx Z st ex sb M' := by
  have e9 : clipI 16 (upd (bf B D 3 t) q v) = clipI 16 (bf B (upd2D D t q v) 3 t) := clipI_eq (fun i hi => by
    show (if i = q then v else D t i) = (if t = t ∧ i = q then v else D t i)
    by_cases e : i = q
    · rw [if_pos e, if_pos ⟨rfl, e⟩]
    · rw [if_neg e, if_neg (fun z => e z.2)])
  rw [e9] at h1
  refine h.core (gFl.of1 (h.1.2.2.2.2.1 3 t (by omega) ht) h1 kk rfl) (by omega) hr ?_ rfl rfl (fun i h1 h2 => rfl) (fun i h1 => rfl) hK
  refine h.1.row (f' := bf B (upd2D D t q v)) (j := 3) (by omega) ht h1 kk (fun j t' q' a1 a2 a3 a4 => ?_)
  unfold bf
  by_cases c3 : j = 3
  · subst c3
    show (if t' = t ∧ q' = q then v else D t' q') = D t' q'
    rw [if_neg (fun z => a4 ⟨rfl, z.1⟩)]
  · by_cases c0 : j = 0
    · rw [if_pos c0, if_pos c0]
    rw [if_neg c0, if_neg c0]
    by_cases c1 : j = 1
    · rw [if_pos c1, if_pos c1]
    rw [if_neg c1, if_neg c1]
    by_cases c2 : j = 2
    · rw [if_pos c2, if_pos c2]
    rw [if_neg c2, if_neg c2, if_neg c3, if_neg c3]
theorem BX.hd {i t : Nat} {v : Int32} (h : BX G r ba x B D xx Z st ex sb M) (hi : i < 2) (ht : t < 4) (hr : 4 ≤ r) (hK : dN (B 1865) ≤ 8 ∧ dN (B 1867) ≤ 40) (h1 : M' (ba (7 + i)) = some ((r, 7 + i), .inl (G.2.1 0, 4, .inl (clipI 4 (upd (bo B i) t v))))) (kk : ∀ z, z ≠ ba (7 + i) → M' z = M z) : BX G r ba x (upd B (1281 + 2 * t + i) v) D xx Z st ex sb M' := by
  have ne : ∀ z, z ≠ 1281 + 2 * t + i → upd B (1281 + 2 * t + i) v z = B z := fun z hz => if_neg hz
  have e9 : clipI 4 (upd (bo B i) t v) = clipI 4 (bo (upd B (1281 + 2 * t + i) v) i) := clipI_eq (fun z hz => by
    show (if z = t then v else bo B i z) = _
    by_cases e : z = t
    · rw [if_pos e, e]
      show v = upd B (1281 + 2 * t + i) v (1281 + 2 * t + i)
      unfold upd; rw [if_pos rfl]
    · rw [if_neg e]
      show B (1281 + 2 * z + i) = upd B (1281 + 2 * t + i) v (1281 + 2 * z + i)
      rw [ne _ (by omega)])
  rw [e9] at h1
  refine h.core (gFl.of1 (h.1.2.2.2.2.2.2.1 i hi) h1 kk rfl) (by omega) hr ?_ (ne _ (by omega)) (ne _ (by omega)) (fun i h1 h2 => ne _ (by omega)) (fun i h1 => ne _ (by omega)) hK
  rw [ne 0 (by omega), ne 1866 (by omega)]
  refine (h.1.head (o' := bo (upd B (1281 + 2 * t + i) v)) hi h1 kk (fun i' t' a1 a2 a3 => ?_)).cg (fun t' q' k' a1 a2 a3 => ?_) (fun j t' q' a1 a2 a3 => ?_) (fun _ _ _ _ => rfl)
  · unfold bo; rw [ne _ (by omega)]
  · unfold pQS; rw [ne _ (by omega)]
  · have b9 := bl_b a3; unfold bf
    by_cases c0 : j = 0
    · rw [if_pos c0, if_pos c0, ne _ (by omega)]
    rw [if_neg c0, if_neg c0]
    by_cases c1 : j = 1
    · rw [if_pos c1, if_pos c1, ne _ (by omega)]
    rw [if_neg c1, if_neg c1]
    by_cases c2 : j = 2
    · rw [if_pos c2, if_pos c2, ne _ (by omega)]
    rw [if_neg c2, if_neg c2]
    by_cases c3 : j = 3
    · rw [if_pos c3, if_pos c3]
    rw [if_neg c3, if_neg c3, ne _ (by omega)]
theorem BX.now {v : Int32} (h : BX G r ba x B D xx Z st ex sb M) (hr : 4 ≤ r) (hK : dN (B 1865) ≤ 8 ∧ dN (B 1867) ≤ 40) (h1 : M' (ba 0) = some ((r, 0), .inr (21, [.ref (ba 1), .ref (ba 2), .ref (ba 3), .ref (ba 4), .ref (ba 5), .ref (ba 7), .ref (ba 8), .ref (ba 6), .ref (ba 11), .ref (ba 12), .ref (ba 13), .ref (ba 15), .ref (ba 9), .int v, .int (B 1866), .ref x]))) (kk : ∀ z, z ≠ ba 0 → M' z = M z) : BX G r ba x (upd B 0 v) D xx Z st ex sb M' := by
  have ne : ∀ z, z ≠ 0 → upd B 0 v z = B z := fun z hz => if_neg hz
  have eq : upd B 0 v 0 = v := if_pos rfl
  refine h.core (gFl.of1 h.1.1 h1 kk rfl) (by omega) hr ?_ (ne _ (by omega)) (ne _ (by omega)) (fun i h1 h2 => ne _ (by omega)) (fun i h1 => ne _ (by omega)) hK
  rw [eq, ne 1866 (by omega)]
  refine (h.1.flds h1 kk).cg (fun t' q' k' a1 a2 a3 => ?_) (fun j t' q' a1 a2 a3 => ?_) (fun i t' a1 a2 => ?_)
  · unfold pQS; rw [ne _ (by omega)]
  · have b9 := bl_b a3; unfold bf
    by_cases c0 : j = 0
    · rw [if_pos c0, if_pos c0, ne _ (by omega)]
    rw [if_neg c0, if_neg c0]
    by_cases c1 : j = 1
    · rw [if_pos c1, if_pos c1, ne _ (by omega)]
    rw [if_neg c1, if_neg c1]
    by_cases c2 : j = 2
    · rw [if_pos c2, if_pos c2, ne _ (by omega)]
    rw [if_neg c2, if_neg c2]
    by_cases c3 : j = 3
    · rw [if_pos c3, if_pos c3]
    rw [if_neg c3, if_neg c3, ne _ (by omega)]
  · unfold bo; rw [ne _ (by omega)]
theorem BX.ent {v : Int32} (h : BX G r ba x B D xx Z st ex sb M) (hr : 4 ≤ r) (hK : dN (B 1865) ≤ 8 ∧ dN (B 1867) ≤ 40) (h1 : M' (ba 0) = some ((r, 0), .inr (21, [.ref (ba 1), .ref (ba 2), .ref (ba 3), .ref (ba 4), .ref (ba 5), .ref (ba 7), .ref (ba 8), .ref (ba 6), .ref (ba 11), .ref (ba 12), .ref (ba 13), .ref (ba 15), .ref (ba 9), .int (B 0), .int v, .ref x]))) (kk : ∀ z, z ≠ ba 0 → M' z = M z) : BX G r ba x (upd B 1866 v) D xx Z st ex sb M' := by
  have ne : ∀ z, z ≠ 1866 → upd B 1866 v z = B z := fun z hz => if_neg hz
  have eq : upd B 1866 v 1866 = v := if_pos rfl
  refine h.core (gFl.of1 h.1.1 h1 kk rfl) (by omega) hr ?_ (ne _ (by omega)) (ne _ (by omega)) (fun i h1 h2 => ne _ (by omega)) (fun i h1 => ne _ (by omega)) hK
  rw [eq, ne 0 (by omega)]
  refine (h.1.flds h1 kk).cg (fun t' q' k' a1 a2 a3 => ?_) (fun j t' q' a1 a2 a3 => ?_) (fun i t' a1 a2 => ?_)
  · unfold pQS; rw [ne _ (by omega)]
  · have b9 := bl_b a3; unfold bf
    by_cases c0 : j = 0
    · rw [if_pos c0, if_pos c0, ne _ (by omega)]
    rw [if_neg c0, if_neg c0]
    by_cases c1 : j = 1
    · rw [if_pos c1, if_pos c1, ne _ (by omega)]
    rw [if_neg c1, if_neg c1]
    by_cases c2 : j = 2
    · rw [if_pos c2, if_pos c2, ne _ (by omega)]
    rw [if_neg c2, if_neg c2]
    by_cases c3 : j = 3
    · rw [if_pos c3, if_pos c3]
    rw [if_neg c3, if_neg c3, ne _ (by omega)]
  · unfold bo; rw [ne _ (by omega)]
theorem BX.yr (h : BX G r ba x B D xx Z st ex sb M) (hr : 4 ≤ r) (hK : dN (B 1865) ≤ 8 ∧ dN (B 1867) ≤ 40) (h1 : BC G r ba x (pQS B) (bf B D) (bo B) (B 0) (B 1866) Z' M') (kk : ∀ z, z ≠ ba 10 → M' z = M z) : BX G r ba x B D xx Z' st ex sb M' :=
  h.core (h.1.fl10 ⟨_, h1⟩ kk) (by omega) hr h1 rfl rfl (fun _ _ _ => rfl) (fun _ _ => rfl) hK
end BXS
