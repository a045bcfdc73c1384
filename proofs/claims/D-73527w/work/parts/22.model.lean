set_option maxRecDepth 100000
/-! THE REFERENCE's STATE: int fields by their numbers, int arrays (0 tape, 1 words, 2 trader, 3 sales, 4 buys, 5 assets, 6 told), banks (of all), long fields, sum -/
abbrev mS : Type := (Nat → Int32) × (Nat → Nat → Int32) × (Nat → Nat → Int32) × (Nat → Int64) × (Nat → Int64)
abbrev mI (σ : mS) : Nat → Int32 := σ.1
abbrev mA (σ : mS) : Nat → Nat → Int32 := σ.2.1
abbrev mK (σ : mS) : Nat → Nat → Int32 := σ.2.2.1
abbrev mL (σ : mS) : Nat → Int64 := σ.2.2.2.1
abbrev mZ (σ : mS) : Nat → Int64 := σ.2.2.2.2
def upd2 (f : Nat → Nat → Int32) (a i : Nat) (v : Int32) : Nat → Nat → Int32 := fun b => if b = a then upd (f a) i v else f b
def si (σ : mS) (j : Nat) (v : Int32) : mS := (upd σ.1 j v, σ.2)
def sa (σ : mS) (a i : Nat) (v : Int32) : mS := (σ.1, upd2 σ.2.1 a i v, σ.2.2)
def sk (σ : mS) (b i : Nat) (v : Int32) : mS := (σ.1, σ.2.1, upd2 σ.2.2.1 b i v, σ.2.2.2)
def sl (σ : mS) (j : Nat) (v : Int64) : mS := (σ.1, σ.2.1, σ.2.2.1, vp_updL σ.2.2.2.1 j v, σ.2.2.2.2)
def sz (σ : mS) (j : Nat) (v : Int64) : mS := (σ.1, σ.2.1, σ.2.2.1, σ.2.2.2.1, vp_updL σ.2.2.2.2 j v)
def mfs (ad : Nat → Nat) (σ : mS) : List Value := [.ref (ad 1), .int (mI σ 1), .int (mI σ 2), .ref (ad 2), .int (mI σ 4), .int (mI σ 5), .int (mI σ 6), .int (mI σ 7), .int (mI σ 8), .int (mI σ 9), .int (mI σ 10), .int (mI σ 11), .int (mI σ 12), .ref (ad 3), .ref (ad 4), .ref (ad 5), .ref (ad 6), .ref (ad 7), .int (mI σ 18), .int (mI σ 19), .ref (ad 8), .int (mI σ 21), .int (mI σ 22), .int (mI σ 23), .ref (ad 9), .long (mL σ 25), .long (mL σ 26), .int (mI σ 27), .long (mL σ 28)]
def mlen (j : Nat) : Nat := match j with
  | 0 => 700
  | 1 => 68
  | 2 => 64
  | 3 => 96
  | 4 => 96
  | 5 => 40
  | _ => 14
def flat (K : Nat → Nat → Int32) : Nat → Int32 := fun j => K (j / 2468) (j % 2468)
/-- of the sums only five places are there -/
def clip (f : Nat → Int64) : Nat → Int64 := fun k => if k < 5 then f k else 0
theorem clip_upd {f : Nat → Int64} {i : Nat} {v : Int64} (hi : i < 5) : vp_updL (clip f) i v = clip (vp_updL f i v) := by
  funext k
  unfold vp_updL clip
  by_cases h : k = i
  · simp only [h, if_true, if_pos hi]
  · simp only [h, if_false]
theorem clip_eq {f g : Nat → Int64} (h : ∀ k, k < 5 → f k = g k) : clip f = clip g := by
  funext k
  unfold clip
  by_cases hk : k < 5
  · rw [if_pos hk, if_pos hk, h k hk]
  · rw [if_neg hk, if_neg hk]
def MR (G : gG) (ad : Nat → Nat) (σ : mS) (M : gM) : Prop := M (ad 0) = some ((0, 0), .inr (24, mfs ad σ)) ∧ (∀ j, j < 7 → M (ad (j + 1)) = some ((0, j + 1), .inl (G.2.1 0, mlen j, .inl (mA σ j)))) ∧ M (ad 8) = some ((0, 8), .inl (G.2.1 0, 56764, .inl (flat (mK σ)))) ∧ M (ad 9) = some ((0, 9), .inl (G.2.1 1, 5, .inr (.inl (clip (mZ σ)))))
/-- cells of other roots than r stay; nothing of other roots is made or lost -/
def gFr (r : Nat) (M0 M : gM) : Prop := ∀ a, (∀ x, M0 a = some x → x.1.1 ≠ r) → M a = M0 a
theorem gFr.rf {r : Nat} {M : gM} : gFr r M M := fun _ _ => rfl
theorem gFr.trans {r : Nat} {M0 M1 M2 : gM} (h : gFr r M0 M1) (h2 : gFr r M1 M2) : gFr r M0 M2 := fun a ha => by
  have e := h a ha
  rw [← e]
  exact h2 a (fun x hx => ha x (by rw [← e]; exact hx))
theorem gFr.up {r : Nat} {M : gM} {a : Nat} {x : (Nat × Nat) × va_E} (hM : M a = some x) (hr : x.1.1 = r) (y : va_E) : gFr r M (gUp M a (x.1, y)) := fun q hq => gUp_n (fun e => by subst e; exact hq x hM hr)
def MF (G : gG) (ad : Nat → Nat) (M0 : gM) (σ : mS) (M : gM) : Prop := MR G ad σ M ∧ gFr 0 M0 M
def sb (σ : mS) (b : Nat) (B : Nat → Int32) : mS := (σ.1, σ.2.1, (fun c => if c = b then B else σ.2.2.1 c), σ.2.2.2)
theorem sb_self (σ : mS) (b : Nat) : sb σ b (mK σ b) = σ := by
  unfold sb
  have e : (fun c => if c = b then mK σ b else σ.2.2.1 c) = σ.2.2.1 := by
    funext c
    by_cases h : c = b
    · rw [if_pos h, h]
    · rw [if_neg h]
  rw [e]
theorem mK_sb (σ : mS) (b : Nat) (B : Nat → Int32) : mK (sb σ b B) b = B := if_pos rfl
theorem mK_sb_ne {σ : mS} {b c : Nat} {B : Nat → Int32} (h : c ≠ b) : mK (sb σ b B) c = mK σ c := if_neg h
theorem sk_sb (σ : mS) (b i : Nat) (v : Int32) (B : Nat → Int32) : sk (sb σ b B) b i v = sb σ b (upd B i v) := by
  unfold sk sb upd2
  simp only [if_true]
  congr 3
  funext c
  by_cases h : c = b
  · simp [h]
  · simp [h]
theorem sb_sb (σ : mS) (b : Nat) (B B' : Nat → Int32) : sb (sb σ b B) b B' = sb σ b B' := by
  unfold sb
  congr 3
  funext c
  by_cases h : c = b
  · simp [h]
  · simp [h]
/-- the sums that are looked at -/
def sy (σ : mS) (Z : Nat → Int64) (ho ha : Int64) : mS := (σ.1, σ.2.1, σ.2.2.1, vp_updL (vp_updL σ.2.2.2.1 25 ho) 26 ha, Z)
theorem sE_si27 {σ : mS} {v : Int32} : True := trivial
/-- alike but for what is looked at: sums, heads, whether small -/
def sE (σ σ' : mS) : Prop := mA σ' = mA σ ∧ mK σ' = mK σ ∧ (∀ k, k ≠ 27 → mI σ' k = mI σ k) ∧ mL σ' 28 = mL σ 28
theorem sE.rf {σ : mS} : sE σ σ := ⟨rfl, rfl, fun _ _ => rfl, rfl⟩
theorem sE.tr {σ σ' σ'' : mS} (h : sE σ σ') (h2 : sE σ' σ'') : sE σ σ'' := ⟨h2.1.trans h.1, h2.2.1.trans h.2.1, fun k hk => (h2.2.2.1 k hk).trans (h.2.2.1 k hk), h2.2.2.2.trans h.2.2.2⟩
theorem sE.sy {σ : mS} {Z : Nat → Int64} {ho ha : Int64} : sE σ (sy σ Z ho ha) := ⟨rfl, rfl, fun _ _ => rfl, rfl⟩
theorem MF.rf {G : gG} {ad : Nat → Nat} {σ : mS} {M : gM} (h : MR G ad σ M) : MF G ad M σ M := ⟨h, gFr.rf⟩
theorem MF.tr {G : gG} {ad : Nat → Nat} {M0 M M1 : gM} {σ σ' : mS} (h : MF G ad M0 σ M) (h2 : MF G ad M σ' M1) : MF G ad M0 σ' M1 := ⟨h2.1, h.2.trans h2.2⟩
theorem MR.ne {G : gG} {ad : Nat → Nat} {σ : mS} {M : gM} (h : MR G ad σ M) {i j : Nat} (hi : i < 10) (hj : j < 10) (hij : i ≠ j) : ad i ≠ ad j := by
  have lab : ∀ i, i < 10 → ∃ x, M (ad i) = some ((0, i), x) := by
    intro i hi
    rcases Nat.lt_or_ge i 8 with h8 | h8
    · rcases Nat.eq_zero_or_pos i with rfl | h0
      · exact ⟨_, h.1⟩
      · have := h.2.1 (i - 1) (by omega)
        rw [show i - 1 + 1 = i by omega] at this
        exact ⟨_, this⟩
    · rcases (by omega : i = 8 ∨ i = 9) with rfl | rfl
      · exact ⟨_, h.2.2.1⟩
      · exact ⟨_, h.2.2.2⟩
  intro e
  obtain ⟨x, hx⟩ := lab i hi
  obtain ⟨y, hy⟩ := lab j hj
  rw [e, hy] at hx
  cases hx
  exact hij rfl
theorem m_v {x : Option Value} {y z : Int32} (h : x = some (.int y)) (e : y = z) : x = some (.int z) := by rw [h, e]
theorem MR.obj {G : gG} {ad : Nat → Nat} {σ σ' : mS} {M : gM} (h : MR G ad σ M) {fs : List Value} (hs : fs = mfs ad σ') (hA : mA σ' = mA σ) (hK : mK σ' = mK σ) (hZ : mZ σ' = mZ σ) : MR G ad σ' (gUp M (ad 0) ((0, 0), .inr (24, fs))) := by
  subst hs
  refine ⟨gUp_s, fun j hj => ?_, ?_, ?_⟩
  · rw [gUp_n (h.ne (by omega) (by omega) (by omega)), hA]; exact h.2.1 j hj
  · rw [gUp_n (h.ne (by omega) (by omega) (by omega)), hK]; exact h.2.2.1
  · rw [gUp_n (h.ne (by omega) (by omega) (by omega)), hZ]; exact h.2.2.2
theorem MR.arr {G : gG} {ad : Nat → Nat} {σ : mS} {M : gM} (h : MR G ad σ M) {a i : Nat} (ha : a < 7) (v : Int32) : MR G ad (sa σ a i v) (gUp M (ad (a + 1)) ((0, a + 1), .inl (G.2.1 0, mlen a, .inl (upd (mA σ a) i v)))) := by
  refine ⟨?_, fun j hj => ?_, ?_, ?_⟩
  · rw [gUp_n (h.ne (by omega) (by omega) (by omega))]; exact h.1
  · by_cases e : j = a
    · subst e; rw [gUp_s]; simp [sa, upd2, mA]
    · rw [gUp_n (h.ne (by omega) (by omega) (by omega))]; simp [sa, upd2, mA, e]; exact h.2.1 j hj
  · rw [gUp_n (h.ne (by omega) (by omega) (by omega))]; exact h.2.2.1
  · rw [gUp_n (h.ne (by omega) (by omega) (by omega))]; exact h.2.2.2
theorem flat_upd {K : Nat → Nat → Int32} {b i : Nat} {v : Int32} (hi : i < 2468) : upd (flat K) (2468 * b + i) v = flat (upd2 K b i v) := by
  funext j
  have e1 : (2468 * b + i) / 2468 = b := by omega
  have e2 : (2468 * b + i) % 2468 = i := by omega
  unfold upd flat upd2
  by_cases h : j = 2468 * b + i
  · subst h; rw [if_pos rfl, e1, e2, if_pos rfl]; unfold upd; rw [if_pos rfl]
  · rw [if_neg h]
    by_cases hb : j / 2468 = b
    · rw [if_pos hb]; unfold upd; rw [if_neg (by omega), hb]
    · rw [if_neg hb]
theorem MR.bank {G : gG} {ad : Nat → Nat} {σ : mS} {M : gM} (h : MR G ad σ M) {b i : Nat} (hi : i < 2468) (v : Int32) : MR G ad (sk σ b i v) (gUp M (ad 8) ((0, 8), .inl (G.2.1 0, 56764, .inl (upd (flat (mK σ)) (2468 * b + i) v)))) := by
  refine ⟨?_, fun j hj => ?_, ?_, ?_⟩
  · rw [gUp_n (h.ne (by omega) (by omega) (by omega))]; exact h.1
  · rw [gUp_n (h.ne (by omega) (by omega) (by omega))]; exact h.2.1 j hj
  · rw [gUp_s, flat_upd hi]; rfl
  · rw [gUp_n (h.ne (by omega) (by omega) (by omega))]; exact h.2.2.2
theorem MR.sum {G : gG} {ad : Nat → Nat} {σ : mS} {M : gM} (h : MR G ad σ M) {i : Nat} (hi : i < 5) (v : Int64) : MR G ad (sz σ i v) (gUp M (ad 9) ((0, 9), .inl (G.2.1 1, 5, .inr (.inl (vp_updL (clip (mZ σ)) i v))))) := by
  refine ⟨?_, fun j hj => ?_, ?_, ?_⟩
  · rw [gUp_n (h.ne (by omega) (by omega) (by omega))]; exact h.1
  · rw [gUp_n (h.ne (by omega) (by omega) (by omega))]; exact h.2.1 j hj
  · rw [gUp_n (h.ne (by omega) (by omega) (by omega))]; exact h.2.2.1
  · rw [gUp_s, clip_upd hi]; rfl
section MY
variable {G : gG} {ad : Nat → Nat} {M0 M : gM} {σ : mS} {b : Nat} {B : Nat → Int32} {Z Z' : Nat → Int64} {ho ha ho' ha' v : Int64}
theorem MF.y0 (h : MF G ad M0 (sb σ b B) M) : MF G ad M0 (sb (sy σ (mZ σ) (mL σ 25) (mL σ 26)) b B) M := ⟨⟨h.1.1, h.1.2.1, h.1.2.2.1, h.1.2.2.2⟩, h.2⟩
theorem MF.yy (h : MF G ad M0 (sb (sy (sy σ Z ho ha) Z' ho' ha') b B) M) : MF G ad M0 (sb (sy σ Z' ho' ha') b B) M := ⟨⟨h.1.1, h.1.2.1, h.1.2.2.1, h.1.2.2.2⟩, h.2⟩
theorem MF.l25 (h : MF G ad M0 (sl (sb (sy σ Z ho ha) b B) 25 v) M) : MF G ad M0 (sb (sy σ Z v ha) b B) M := ⟨⟨h.1.1, h.1.2.1, h.1.2.2.1, h.1.2.2.2⟩, h.2⟩
theorem MF.l26 (h : MF G ad M0 (sl (sb (sy σ Z ho ha) b B) 26 v) M) : MF G ad M0 (sb (sy σ Z ho v) b B) M := ⟨⟨h.1.1, h.1.2.1, h.1.2.2.1, h.1.2.2.2⟩, h.2⟩
theorem MF.cy (h : MF G ad M0 (sb (sy σ Z ho ha) b B) M) (hz : ∀ k, k < 5 → Z k = Z' k) : MF G ad M0 (sb (sy σ Z' ho ha) b B) M := ⟨⟨h.1.1, h.1.2.1, h.1.2.2.1, by
  have h4 := h.1.2.2.2
  show M (ad 9) = some ((0, 9), .inl (G.2.1 1, 5, .inr (.inl (clip Z'))))
  rw [← clip_eq hz]; exact h4⟩, h.2⟩
theorem MF.zs {i : Nat} (h : MF G ad M0 (sz (sb (sy σ Z ho ha) b B) i v) M) : MF G ad M0 (sb (sy σ (vp_updL Z i v) ho ha) b B) M := h
theorem sE.s27 {x : Int32} : sE σ (si σ 27 x) := ⟨rfl, rfl, fun k hk => pk_un hk, rfl⟩
end MY
section MROWS
variable {G : gG} {p : Program} {l : Launch} {e : Env} {R : Room} {s : State} {m : MethodId} {args : Array Value} {below : List Frame} {meth : Method} {c : Code} {cc : ByteArray} {nL : Nat} {own : String} {ret : Option FieldType} {Q : State → Prop} {M M0 : gM} {k n pc : Nat} {L : List (Option Value)} {st : List Value} {ad : Nat → Nat} {σ : mS}
theorem m_get (C : gC G p e s m args meth c cc nL own ret) (h : MF G ad M0 σ M) (j : Nat) {v : Value} {index pc : Nat} (hj : Nat.ble (j + 1) 29 = true) (hq : Cond.fieldLink own index (TX9 j).1 (TX9 j).2.1 (TX9 j).2.2.1 ∈ lw_all) (hv : (mfs ad σ)[j]? = some v) (d : decode cc pc = .ok (.getfield index, 3)) (kk : gX G p l e R s m args below meth c nL Q M k n (pc + 3) L (v :: st)) : gX G p l e R s m args below meth c nL Q M k n pc L (.ref (ad 0) :: st) := x_get C gcX9 h.1.1 j hj hq hv d kk
theorem m_put (C : gC G p e s m args meth c cc nL own ret) (h : MF G ad M0 σ M) (j : Nat) {v : Int32} {index pc : Nat} (hj : Nat.ble (j + 1) 29 = true) (hq : Cond.fieldLink own index (TX9 j).1 (TX9 j).2.1 (TX9 j).2.2.1 ∈ lw_all) (hfin : (TX9 j).2.2.2 = false) (hn : narrow (tyX9 j) (.int v) = .int v) (hf : fits (tyX9 j) (.int v) = true) (hs : (mfs ad σ).set j (.int v) = mfs ad (si σ j v)) (d : decode cc pc = .ok (.putfield index, 3)) (kk : ∀ M1, MF G ad M0 (si σ j v) M1 → gX G p l e R s m args below meth c nL Q M1 k n (pc + 3) L st) : gX G p l e R s m args below meth c nL Q M k n pc L (.int v :: .ref (ad 0) :: st) :=
  x_put C gcX9 h.1.1 j hj hq hfin hn hf hj d (kk _ ⟨h.1.obj hs rfl rfl rfl, h.2.trans (gFr.up h.1.1 rfl _)⟩)
theorem m_putl (C : gC G p e s m args meth c cc nL own ret) (h : MF G ad M0 σ M) (j : Nat) {v : Int64} {index pc : Nat} (hj : Nat.ble (j + 1) 29 = true) (hq : Cond.fieldLink own index (TX9 j).1 (TX9 j).2.1 (TX9 j).2.2.1 ∈ lw_all) (hfin : (TX9 j).2.2.2 = false) (hn : narrow (tyX9 j) (.long v) = .long v) (hf : fits (tyX9 j) (.long v) = true) (hs : (mfs ad σ).set j (.long v) = mfs ad (sl σ j v)) (d : decode cc pc = .ok (.putfield index, 3)) (kk : ∀ M1, MF G ad M0 (sl σ j v) M1 → gX G p l e R s m args below meth c nL Q M1 k n (pc + 3) L st) : gX G p l e R s m args below meth c nL Q M k n pc L (.long v :: .ref (ad 0) :: st) :=
  x_put C gcX9 h.1.1 j hj hq hfin hn hf hj d (kk _ ⟨h.1.obj hs rfl rfl rfl, h.2.trans (gFr.up h.1.1 rfl _)⟩)
theorem m_ald (C : gC G p e s m args meth c cc nL own ret) (h : MF G ad M0 σ M) (j : Nat) {i N : Nat} {x v : Int32} {pc : Nat} (hj : j < 7) (hN : mlen j = N) (hx : x = nI i) (hi : i < N) (hv : mA σ j i = v) (d : decode cc pc = .ok (.iaload, 1)) (kk : gX G p l e R s m args below meth c nL Q M k n (pc + 1) L (.int v :: st)) : gX G p l e R s m args below meth c nL Q M k n pc L (.int x :: .ref (ad (j + 1)) :: st) := x_iald C (h.1.2.1 j hj) hx (by rw [hN]; exact hi) (by unfold mlen; split <;> rfl) d (by rw [hv]; exact kk)
theorem m_ast (C : gC G p e s m args meth c cc nL own ret) (h : MF G ad M0 σ M) (j : Nat) {i N : Nat} {x v : Int32} {pc : Nat} (hj : j < 7) (hN : mlen j = N) (hx : x = nI i) (hi : i < N) (d : decode cc pc = .ok (.iastore, 1)) (kk : ∀ M1, MF G ad M0 (sa σ j i v) M1 → gX G p l e R s m args below meth c nL Q M1 k n (pc + 1) L st) : gX G p l e R s m args below meth c nL Q M k n pc L (.int v :: .int x :: .ref (ad (j + 1)) :: st) := x_iast C (h.1.2.1 j hj) hx (by rw [hN]; exact hi) (by unfold mlen; split <;> rfl) d (kk _ ⟨h.1.arr hj v, h.2.trans (gFr.up (h.1.2.1 j hj) rfl _)⟩)
theorem m_kld (C : gC G p e s m args meth c cc nL own ret) (h : MF G ad M0 σ M) (b i : Nat) {x : Int32} {pc : Nat} (hx : x = nI (2468 * b + i)) (hb : b < 23) (hi : i < 2468) (d : decode cc pc = .ok (.iaload, 1)) (kk : gX G p l e R s m args below meth c nL Q M k n (pc + 1) L (.int (mK σ b i) :: st)) : gX G p l e R s m args below meth c nL Q M k n pc L (.int x :: .ref (ad 8) :: st) := by
  refine x_iald C h.1.2.2.1 hx (by omega) rfl d ?_
  have e1 : (2468 * b + i) / 2468 = b := by omega
  have e2 : (2468 * b + i) % 2468 = i := by omega
  simp only [flat, e1, e2]
  exact kk
theorem m_kst (C : gC G p e s m args meth c cc nL own ret) (h : MF G ad M0 σ M) (b i : Nat) {x v : Int32} {pc : Nat} (hx : x = nI (2468 * b + i)) (hb : b < 23) (hi : i < 2468) (d : decode cc pc = .ok (.iastore, 1)) (kk : ∀ M1, MF G ad M0 (sk σ b i v) M1 → gX G p l e R s m args below meth c nL Q M1 k n (pc + 1) L st) : gX G p l e R s m args below meth c nL Q M k n pc L (.int v :: .int x :: .ref (ad 8) :: st) :=
  x_iast C h.1.2.2.1 hx (by omega) rfl d (kk _ ⟨h.1.bank hi v, h.2.trans (gFr.up h.1.2.2.1 rfl _)⟩)
theorem m_lald (C : gC G p e s m args meth c cc nL own ret) (h : MF G ad M0 σ M) {i : Nat} {x : Int32} {pc : Nat} (hx : x = nI i) (hi : i < 5) (d : decode cc pc = .ok (.laload, 1)) (kk : gX G p l e R s m args below meth c nL Q M k n (pc + 1) L (.long (mZ σ i) :: st)) : gX G p l e R s m args below meth c nL Q M k n pc L (.int x :: .ref (ad 9) :: st) := x_lald C h.1.2.2.2 hx hi rfl d (by show gX G p l e R s m args below meth c nL Q M k n (pc + 1) L (.long (if i < 5 then mZ σ i else 0) :: st); rw [if_pos hi]; exact kk)
theorem m_last (C : gC G p e s m args meth c cc nL own ret) (h : MF G ad M0 σ M) {i : Nat} {x : Int32} {v : Int64} {pc : Nat} (hx : x = nI i) (hi : i < 5) (d : decode cc pc = .ok (.lastore, 1)) (kk : ∀ M1, MF G ad M0 (sz σ i v) M1 → gX G p l e R s m args below meth c nL Q M1 k n (pc + 1) L st) : gX G p l e R s m args below meth c nL Q M k n pc L (.long v :: .int x :: .ref (ad 9) :: st) :=
  x_last C h.1.2.2.2 hx hi rfl d (kk _ ⟨h.1.sum hi v, h.2.trans (gFr.up h.1.2.2.2 rfl _)⟩)
end MROWS
