set_option maxRecDepth 100000
section GXK
variable {G : gG} {p : Program} {l : Launch} {e : Env} {R : Room} {s : State} {m : MethodId} {args : Array Value} {below : List Frame} {meth : Method} {c : Code} {cc : ByteArray} {nL : Nat} {own : String} {ret : Option FieldType} {Q : State → Prop} {M : gM} {k n : Nat} {L : List (Option Value)} {st : List Value}
/-- a counting loop that makes things -/
theorem x_loopK {head E : Nat} (dk dn : Nat) (I : Nat → gM → Prop) (LL : Nat → List (Option Value)) (h0 : I 0 M) (step : ∀ (i : Nat) (M : gM), i ≤ E → I i M → (i < E → ∀ M', I (i + 1) M' → gX G p l e R s m args below meth c nL Q M' (k + (i + 1) * dk) (n + (i + 1) * dn) head (LL (i + 1)) []) → gX G p l e R s m args below meth c nL Q M (k + i * dk) (n + i * dn) head (LL i) []) : gX G p l e R s m args below meth c nL Q M k n head (LL 0) [] := by
  have key : ∀ (j i : Nat) (M : gM), i + j = E → I i M → gX G p l e R s m args below meth c nL Q M (k + i * dk) (n + i * dn) head (LL i) [] := by
    intro j
    induction j with
    | zero => intro i M hi hM; exact step i M (by omega) hM (fun h => by omega)
    | succ j ih => intro i M hi hM; exact step i M (by omega) hM (fun _ M' hM' => ih (i + 1) M' (by omega) hM')
  have := key E 0 M (by omega) h0
  rw [Nat.zero_mul, Nat.zero_mul] at this
  exact this
theorem x_aret9 {t1 : FieldType} (C : gC G p e s m args meth c cc nL own (some (.array t1))) {f : Nat → gM → Prop} {v : Nat} {mc ms pc : Nat} (d : decode cc pc = .ok (.areturn, 1)) (hf : k ≤ mc ∧ n ≤ ms) (h : f v M) : gX G p l e R s m args below meth c nL (MQ below (gQ G (gR f)) args s mc ms (gA G)) M k n pc L [.ref v] := fun H locs ls h1 h2 _ =>
  W.widen hf.1 hf.2 (W.aret C.2.1 C.2.2.1 C.2.2.2.2.2.2.2.2 (Or.inr ⟨_, rfl⟩) (Or.inr ⟨_, rfl⟩) (fun t ht _ => ⟨⟨_, M, rfl, ⟨v, rfl, h⟩, by rw [ht]; exact h1⟩, h2.F ht⟩) h2.2.2 d (hlocks := C.2.2.2.2.2.2.2.1))
theorem y_alen (C : gC G p e s m args meth c cc nL own ret) (t : Nat) {ty : FieldType} {a N : Nat} {lab : Nat × Nat} {x : (Nat → Int32) ⊕ (Nat → Int64) ⊕ (Nat → UInt32) ⊕ (Nat → UInt64) ⊕ (Nat → Option Nat)} {pc : Nat} (ht : (gty G)[t]? = some (G.2.1 t, ty)) (hM : M a = some (lab, .inl (G.2.1 t, (N, x)))) (d : decode cc pc = .ok (.arraylength, 1)) (kk : gX G p l e R s m args below meth c nL Q M k n (pc + 1) L (.int (nI N) :: st)) : gX G p l e R s m args below meth c nL Q M k n pc L (.ref a :: st) := x_alen C t ht hM d kk
end GXK
theorem clipQ_cell {lab : Nat × Nat} {cA : ClassId} {n : Nat} {f g : Nat → Option Nat} (h : ∀ j, j < n → f j = g j) : some (lab, (Sum.inl (cA, n, .inr (.inr (.inr (.inr (clipQ n f))))) : va_E)) = some (lab, Sum.inl (cA, n, .inr (.inr (.inr (.inr (clipQ n g)))))) := by rw [clipQ_eq h]
theorem clipI_cell {lab : Nat × Nat} {cA : ClassId} {n : Nat} {f g : Nat → Int32} (h : ∀ j, j < n → f j = g j) : some (lab, (Sum.inl (cA, n, .inl (clipI n f)) : va_E)) = some (lab, Sum.inl (cA, n, .inl (clipI n g))) := by rw [clipI_eq h]
theorem clipL_cell {lab : Nat × Nat} {cA : ClassId} {n : Nat} {f g : Nat → Int64} (h : ∀ j, j < n → f j = g j) : some (lab, (Sum.inl (cA, n, .inr (.inl (clipL n f))) : va_E)) = some (lab, Sum.inl (cA, n, .inr (.inl (clipL n g)))) := by rw [clipL_eq h]
theorem pMin_le {a b : Nat} (h : a ≤ b) (hb : b < 1000000) : pMin (nI a) (nI b) = nI a := by
  unfold pMin
  rw [if_neg (nI_nlt h (by omega))]
theorem pMin_ge {a b : Nat} (h : b ≤ a) (ha : a < 1000000) : pMin (nI a) (nI b) = nI b := by
  unfold pMin
  by_cases q : nI b < nI a
  · rw [if_pos q]
  · rw [if_neg q]
    have : ¬ b < a := fun z => q (nI_lt z (by omega))
    rw [show a = b by omega]
theorem pMax_le {a b : Nat} (h : a ≤ b) (hb : b < 1000000) : pMax (nI a) (nI b) = nI b := by
  unfold pMax
  by_cases q : nI a < nI b
  · rw [if_pos q]
  · rw [if_neg q]
    have : ¬ a < b := fun z => q (nI_lt z (by omega))
    rw [show a = b by omega]
theorem nI_sadd {i j m : Nat} (h : i < j) (hj : j ≤ m) : nI i - nI j + nI m = nI (i + m - j) := by
  have e : nI (i + m - j) + nI j = nI i + nI m := by rw [nI_add, nI_add, show i + m - j + j = i + m by omega]
  have e2 : nI i - nI j + nI m = nI i + nI m - nI j := by
    rw [Int32.sub_eq_add_neg, Int32.sub_eq_add_neg, Int32.add_assoc, Int32.add_comm (-nI j) (nI m), ← Int32.add_assoc]
  rw [e2, ← e, Int32.sub_eq_add_neg, Int32.add_assoc, ← Int32.sub_eq_add_neg, Int32.sub_self, Int32.add_zero]
/-! DEQUES: en 0 the first -/
def DQe (G : gG) (l0 lE : Nat × Nat) (d n : Nat) (el cap hd : Nat) (f : Nat → Option Nat) (en : Nat → Nat) (M : gM) : Prop :=
  M d = some (l0, .inr (3, [.ref el, .int (nI hd), .int (nI ((hd + n) % cap))])) ∧ M el = some (lE, .inl (G.2.1 3, cap, .inr (.inr (.inr (.inr (clipQ cap f)))))) ∧ n < cap ∧ hd < cap ∧ cap < 1000 ∧ (∀ i, i < n → f ((hd + i) % cap) = some (en i)) ∧ ¬ l0 = lE
def DQ (G : gG) (l0 lE : Nat × Nat) (d n : Nat) (en : Nat → Nat) (M : gM) : Prop := ∃ (el cap hd : Nat) (f : Nat → Option Nat), DQe G l0 lE d n el cap hd f en M ∧ (cap = 17 ∨ cap = 36 ∨ cap = 74)
theorem DQe.ne {G : gG} {l0 lE : Nat × Nat} {d n el cap hd : Nat} {f : Nat → Option Nat} {en : Nat → Nat} {M : gM} (h : DQe G l0 lE d n el cap hd f en M) : d ≠ el := fun e => by
  have a := h.1
  rw [e, h.2.1] at a
  exact h.2.2.2.2.2.2 (congrArg Prod.fst (Option.some.inj a)).symm
theorem DQe.keep {G : gG} {l0 lE : Nat × Nat} {d n el cap hd : Nat} {f : Nat → Option Nat} {en : Nat → Nat} {M M' : gM} {ρ : Nat × Nat → Prop} (h : DQe G l0 lE d n el cap hd f en M) (g : gFl ρ M M') (h0 : ¬ ρ l0) (hN : ¬ ρ lE) : DQe G l0 lE d n el cap hd f en M' :=
  ⟨(g _ _ h.1).2 h0, (g _ _ h.2.1).2 hN, h.2.2⟩
theorem DQ.keep {G : gG} {l0 lE : Nat × Nat} {d n : Nat} {en : Nat → Nat} {M M' : gM} {ρ : Nat × Nat → Prop} (h : DQ G l0 lE d n en M) (g : gFl ρ M M') (h0 : ¬ ρ l0) (hN : ¬ ρ lE) : DQ G l0 lE d n en M' := by
  obtain ⟨el, cap, hd, f, h, hc⟩ := h
  exact ⟨el, cap, hd, f, h.keep g h0 hN, hc⟩
theorem DQ.ext {G : gG} {l0 lE : Nat × Nat} {d n : Nat} {en en' : Nat → Nat} {M : gM} (h : DQ G l0 lE d n en M) (he : ∀ i, i < n → en' i = en i) : DQ G l0 lE d n en' M := by
  obtain ⟨el, cap, hd, f, h, hc⟩ := h
  exact ⟨el, cap, hd, f, ⟨h.1, h.2.1, h.2.2.1, h.2.2.2.1, h.2.2.2.2.1, fun i hi => by rw [he i hi]; exact h.2.2.2.2.2.1 i hi, h.2.2.2.2.2.2⟩, hc⟩
theorem DQ.cap {G : gG} {l0 lE : Nat × Nat} {d n : Nat} {en : Nat → Nat} {M : gM} (h : DQ G l0 lE d n en M) : n < 74 := by
  obtain ⟨el, cap, hd, f, h, hc⟩ := h
  have := h.2.2.1
  omega
theorem mod_in {a c : Nat} (h : a < c) : a % c = a := Nat.mod_eq_of_lt h
theorem mod_out {a c : Nat} (h1 : c ≤ a) (h2 : a < 2 * c) : a % c = a - c := by
  rw [Nat.mod_eq_sub_mod h1, Nat.mod_eq_of_lt (by omega)]
theorem mod_inj {a i j c : Nat} (ha : a < c) (hi : i < c) (hj : j < c) (e : (a + i) % c = (a + j) % c) : i = j := by
  rcases Nat.lt_or_ge (a + i) c with h1 | h1
  · rcases Nat.lt_or_ge (a + j) c with h2 | h2
    · rw [mod_in h1, mod_in h2] at e; omega
    · rw [mod_in h1, mod_out h2 (by omega)] at e; omega
  · rcases Nat.lt_or_ge (a + j) c with h2 | h2
    · rw [mod_out h1 (by omega), mod_in h2] at e; omega
    · rw [mod_out h1 (by omega), mod_out h2 (by omega)] at e; omega
theorem mod_of {a i c : Nat} (ha : a < c) (hi : i < c) : (a + i) % c = if a + i < c then a + i else a + i - c := by
  by_cases h : a + i < c
  · rw [if_pos h, mod_in h]
  · rw [if_neg h, mod_out (by omega) (by omega)]
/-! BIT SETS of one word -/
def BS (G : gG) (l0 lW : Nat × Nat) (o : Nat) (x : Int64) (M : gM) : Prop := ∃ (wa wi : Nat) (sk : Int32),
  M o = some (l0, .inr (4, [.ref wa, .int (nI wi), .int sk])) ∧ M wa = some (lW, .inl (G.2.1 1, 1, .inr (.inl (clipL 1 (fun _ => x))))) ∧ wi ≤ 1 ∧ (wi = 0 → x = 0) ∧ ¬ l0 = lW
theorem BS.keep {G : gG} {l0 lW : Nat × Nat} {o : Nat} {x : Int64} {M M' : gM} {ρ : Nat × Nat → Prop} (h : BS G l0 lW o x M) (g : gFl ρ M M') (h0 : ¬ ρ l0) (hN : ¬ ρ lW) : BS G l0 lW o x M' := by
  obtain ⟨wa, wi, sk, h1, h2, h3⟩ := h
  exact ⟨wa, wi, sk, (g _ _ h1).2 h0, (g _ _ h2).2 hN, h3⟩
def pB1 (a : Int64) : Int64 := a - ((a.toUInt64 >>> ((nI 1).toInt64.toUInt64 &&& Int64.toUInt64 63)).toInt64 &&& 6148914691236517205)
def pB2 (a : Int64) : Int64 := (a &&& 3689348814741910323) + ((a.toUInt64 >>> ((nI 2).toInt64.toUInt64 &&& Int64.toUInt64 63)).toInt64 &&& 3689348814741910323)
def pB3 (a : Int64) : Int64 := (a + (a.toUInt64 >>> ((nI 4).toInt64.toUInt64 &&& Int64.toUInt64 63)).toInt64) &&& 1085102592571150095
def pB4 (a : Int64) : Int64 := a + (a.toUInt64 >>> ((nI 8).toInt64.toUInt64 &&& Int64.toUInt64 63)).toInt64
def pB5 (a : Int64) : Int64 := a + (a.toUInt64 >>> ((nI 16).toInt64.toUInt64 &&& Int64.toUInt64 63)).toInt64
def pB6 (a : Int64) : Int64 := a + (a.toUInt64 >>> ((nI 32).toInt64.toUInt64 &&& Int64.toUInt64 63)).toInt64
def pBC (a : Int64) : Int32 := (pB6 (pB5 (pB4 (pB3 (pB2 (pB1 a)))))).toInt32 &&& nI 127
