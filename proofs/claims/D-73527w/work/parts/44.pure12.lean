set_option maxRecDepth 100000
/-! WRITERS -/
/-- the banks after a step that can be undone was put aside -/
def tK (u : Nat) (K : Nat → Nat → Int32) : Nat → Nat → Int32 := fun c => if c = (if u = 20 then 22 else 3 + u) then K 0 else if u = 20 ∧ 3 ≤ c ∧ c < 22 then K (c + 1) else K c
def tUn (σ : mS) (u : Nat) : mS := (upd σ.1 22 (nI ((if u = 20 then 19 else u) + 1)), σ.2.1, tK u σ.2.2.1, σ.2.2.2)
def tW (σ : mS) (u : Nat) (B : Nat → Int32) (o : Option (Nat → Int32)) : mS := match o with
  | none => sb σ 0 B
  | some B' => sb (tUn (sb σ 0 B) u) 0 B'
theorem sQ.sb {σ σ' : mS} {b : Nat} {B : Nat → Int32} (h : sQ σ σ') : sQ (sb σ b B) (sb σ' b B) := ⟨h.1, fun c hc => by
  show (if c = b then B else mK σ' c) = (if c = b then B else mK σ c)
  by_cases e : c = b
  · rw [if_pos e, if_pos e]
  · rw [if_neg e, if_neg e]; exact h.2.1 c hc, h.2.2⟩
theorem sQ.un {σ σ' : mS} {u : Nat} (h : sQ σ σ') : sQ (tUn σ u) (tUn σ' u) := ⟨h.1, fun c hc => by
  show tK u (mK σ') c = tK u (mK σ) c
  unfold tK
  rw [h.2.1 0 (by omega)]
  by_cases e : c = (if u = 20 then 22 else 3 + u)
  · rw [if_pos e, if_pos e]
  · rw [if_neg e, if_neg e]
    by_cases e2 : u = 20 ∧ 3 ≤ c ∧ c < 22
    · rw [if_pos e2, if_pos e2]; exact h.2.1 _ (by omega)
    · rw [if_neg e2, if_neg e2]; exact h.2.1 _ hc, fun k h2 h27 => by
  show upd (mI σ') 22 _ k = upd (mI σ) 22 _ k
  unfold upd
  by_cases e : k = 22
  · rw [if_pos e, if_pos e]
  · rw [if_neg e, if_neg e]; exact h.2.2 k h2 h27⟩
theorem mK_un0 (σ : mS) (u : Nat) : mK (tUn σ u) 0 = mK σ 0 := by
  show tK u (mK σ) 0 = mK σ 0
  unfold tK
  rw [if_neg (by split <;> omega), if_neg (by omega)]
theorem MF.cK {G : gG} {ad : Nat → Nat} {M0 M : gM} {σ σ' : mS} (h : MF G ad M0 σ M) (e : flat (mK σ) = flat (mK σ')) (eI : mI σ = mI σ') (eA : mA σ = mA σ') (eL : mL σ = mL σ') (eZ : mZ σ = mZ σ') : MF G ad M0 σ' M := by
  obtain ⟨⟨h1, h2, h3, h4⟩, h5⟩ := h
  refine ⟨⟨?_, fun j hj => ?_, ?_, ?_⟩, h5⟩
  · have q : mfs ad σ = mfs ad σ' := by unfold mfs; rw [eI, eL]
    rw [← q]; exact h1
  · rw [← eA]; exact h2 j hj
  · rw [← e]; exact h3
  · rw [← eZ]; exact h4
theorem cp_s {σ : mS} {f t n : Nat} (hne : f ≠ t) : upd (fun i => if i < n then mK σ f i else mK σ t i) n (mK (sb σ t (fun i => if i < n then mK σ f i else mK σ t i)) f n) = (fun i => if i < n + 1 then mK σ f i else mK σ t i) := by
  funext i
  rw [mK_sb_ne hne]
  unfold upd
  by_cases e : i = n
  · subst e; rw [if_pos rfl, if_pos (by omega)]
  · rw [if_neg e]
    by_cases e2 : i < n
    · simp only [if_pos e2]; rw [if_pos (by omega)]
    · simp only [if_neg e2]; rw [if_neg (by omega)]
theorem cp_0 {σ : mS} {f t : Nat} : sb σ t (fun i => if i < 0 then mK σ f i else mK σ t i) = σ := by
  have e : (fun i => if i < 0 then mK σ f i else mK σ t i) = mK σ t := by
    funext i
    rw [if_neg (by omega)]
  rw [e, sb_self]
theorem cp_e {σ : mS} {f t : Nat} : flat (mK (sb σ t (fun i => if i < 2468 then mK σ f i else mK σ t i))) = flat (mK (sb σ t (mK σ f))) := by
  funext j
  show (if j / 2468 = t then (fun i => if i < 2468 then mK σ f i else mK σ t i) else mK σ (j / 2468)) (j % 2468) = (if j / 2468 = t then mK σ f else mK σ (j / 2468)) (j % 2468)
  by_cases e : j / 2468 = t
  · rw [if_pos e, if_pos e]
    show (if j % 2468 < 2468 then mK σ f (j % 2468) else _) = _
    rw [if_pos (Nat.mod_lt _ (by omega))]
  · rw [if_neg e, if_neg e]
/-- the first n of the undo banks moved -/
def tSh (K : Nat → Nat → Int32) (n : Nat) : Nat → Nat → Int32 := fun c => if 3 ≤ c ∧ c < 3 + n then K (c + 1) else K c
def sSh (σ : mS) (n : Nat) : mS := (σ.1, σ.2.1, tSh σ.2.2.1 n, σ.2.2.2)
theorem sSh_0 (σ : mS) : sSh σ 0 = σ := by
  have e : tSh σ.2.2.1 0 = σ.2.2.1 := by
    funext c
    unfold tSh
    rw [if_neg (by omega)]
  unfold sSh
  rw [e]
theorem sSh_s (σ : mS) (n : Nat) : sb (sSh σ n) (3 + n) (mK (sSh σ n) (4 + n)) = sSh σ (n + 1) := by
  unfold sb sSh
  congr 3
  funext c
  show (if c = 3 + n then tSh σ.2.2.1 n (4 + n) else tSh σ.2.2.1 n c) = tSh σ.2.2.1 (n + 1) c
  unfold tSh
  by_cases e : c = 3 + n
  · subst e
    rw [if_pos rfl, if_neg (by omega), if_pos (by omega), show 3 + n + 1 = 4 + n from by omega]
  · rw [if_neg e]
    by_cases e2 : 3 ≤ c ∧ c < 3 + n
    · rw [if_pos e2, if_pos (by omega)]
    · rw [if_neg e2, if_neg (by omega)]
theorem un_20 (σ : mS) : si (sb (si (sSh σ 19) 22 (nI 19)) 22 (mK (si (sSh σ 19) 22 (nI 19)) 0)) 22 (nI (19 + 1)) = tUn σ 20 := by
  have e1 : upd (upd σ.1 22 (nI 19)) 22 (nI (19 + 1)) = upd σ.1 22 (nI (19 + 1)) := by
    funext k
    unfold upd
    by_cases e : k = 22
    · rw [if_pos e, if_pos e]
    · rw [if_neg e, if_neg e, if_neg e]
  have e2 : (fun c => if c = 22 then tSh σ.2.2.1 19 0 else tSh σ.2.2.1 19 c) = tK 20 σ.2.2.1 := by
    funext c
    show (if c = 22 then (if 3 ≤ 0 ∧ 0 < 3 + 19 then σ.2.2.1 (0 + 1) else σ.2.2.1 0) else (if 3 ≤ c ∧ c < 3 + 19 then σ.2.2.1 (c + 1) else σ.2.2.1 c)) = (if c = 22 then σ.2.2.1 0 else if 20 = 20 ∧ 3 ≤ c ∧ c < 22 then σ.2.2.1 (c + 1) else σ.2.2.1 c)
    by_cases e : c = 22
    · rw [if_pos e, if_neg (by omega), if_pos e]
    · rw [if_neg e, if_neg e]
      by_cases e2 : 3 ≤ c ∧ c < 3 + 19
      · rw [if_pos e2, if_pos ⟨rfl, e2.1, by omega⟩]
      · rw [if_neg e2, if_neg (by omega)]
  show (upd (upd σ.1 22 (nI 19)) 22 (nI (19 + 1)), σ.2.1, (fun c => if c = 22 then tSh σ.2.2.1 19 0 else tSh σ.2.2.1 19 c), σ.2.2.2) = _
  rw [e1, e2]
  rfl
theorem un_u (σ : mS) {u : Nat} (h : u < 20) : si (sb σ (3 + u) (mK σ 0)) 22 (nI (u + 1)) = tUn σ u := by
  have e2 : (fun c => if c = 3 + u then σ.2.2.1 0 else σ.2.2.1 c) = tK u σ.2.2.1 := by
    funext c
    unfold tK
    rw [if_neg (show ¬ u = 20 from by omega)]
    by_cases e : c = 3 + u
    · rw [if_pos e, if_pos e]
    · rw [if_neg e, if_neg e, if_neg (by omega)]
  unfold tUn
  rw [if_neg (show ¬ u = 20 from by omega), ← e2]
  rfl
