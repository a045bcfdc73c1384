set_option maxRecDepth 100000
section GCP
variable {G : gG} {p : Program} {l : Launch} {e : Env} {R : Room} {s : State} {m : MethodId} {args : Array Value} {below : List Frame} {meth : Method} {c : Code} {cc : ByteArray} {nL : Nat} {own : String} {ret : Option FieldType} {Q : State → Prop} {M : gM} {k n : Nat} {L : List (Option Value)} {st : List Value}
theorem cpyQ {n0 n1 sp dp n : Nat} {f g : Nat → Option Nat} (h4 : sp + n ≤ n0) (h5 : dp + n ≤ n1) : va_cpy (clipQ n0 f) (clipQ n1 g) sp dp n = clipQ n1 (va_cpy f g sp dp n) := by
  funext j
  by_cases h : dp ≤ j ∧ j < dp + n
  · rw [pk_cpy_in h.1 h.2, clipQ_at (by omega), clipQ_at (by omega), pk_cpy_in h.1 h.2]
  · rw [pk_cpy_out (by omega)]
    unfold clipQ
    by_cases q : j < n1
    · rw [if_pos q, if_pos q, pk_cpy_out (by omega)]
    · rw [if_neg q, if_neg q]
theorem cpyL {n0 n1 sp dp n : Nat} {f g : Nat → Int64} (h4 : sp + n ≤ n0) (h5 : dp + n ≤ n1) : va_cpy (clipL n0 f) (clipL n1 g) sp dp n = clipL n1 (va_cpy f g sp dp n) := by
  funext j
  by_cases h : dp ≤ j ∧ j < dp + n
  · rw [pk_cpy_in h.1 h.2, clipL_at (by omega), clipL_at (by omega), pk_cpy_in h.1 h.2]
  · rw [pk_cpy_out (by omega)]
    unfold clipL
    by_cases q : j < n1
    · rw [if_pos q, if_pos q, pk_cpy_out (by omega)]
    · rw [if_neg q, if_neg q]
theorem x_copyq (C : gC G p e s m args meth c cc nL own ret) (t : Nat) {a0 a n0 n1 sp dp n9 index pc : Nat} {lab0 lab1 : Nat × Nat} {f g : Nat → Option Nat} {E : String} (ht : (gty G)[t]? = some (G.2.1 t, .object E)) (hM0 : M a0 = some (lab0, .inl (G.2.1 t, n0, .inr (.inr (.inr (.inr (clipQ n0 f))))))) (hM1 : M a = some (lab1, .inl (G.2.1 t, n1, .inr (.inr (.inr (.inr (clipQ n1 g))))))) {ci : Nat} {C0 : String} {T : u_T} {N : Nat} {ty : Nat → FieldType} (hc : gCls ci C0 T N ty) (hca : Cond.castable C0 E ∈ lw_tbl) (hel : ∀ i, i < n9 → ∀ y, f (sp + i) = some y → ∃ lb fs, M y = some (lb, .inr (ci, fs))) (h4 : sp + n9 ≤ n0) (h5 : dp + n9 ≤ n1) (hb0 : n0 < 1000000) (hb1 : n1 < 1000000) (ql : Cond.methodLink own index arraycopyName ∈ lw_all) (q2 : Cond.native arraycopyName ∈ lw_all) (q3 : Cond.static arraycopyName ∈ lw_all) (q4 : Cond.initialized "java/lang/System" ∈ lw_all) (hR : (Nat.ble 1 R.frames && Nat.ble ((st.map fun v => v.category).sum + (nativeFrameWords "java/lang/System" "arraycopy" 5 + 11)) R.locals) = true) (d : decode cc pc = .ok (.invokestatic index, 3)) (kk : ∀ M1 : gM, M1 a = some (lab1, .inl (G.2.1 t, n1, .inr (.inr (.inr (.inr (clipQ n1 (va_cpy f g sp dp n9))))))) → (∀ q, q ≠ a → M1 q = M q) → gX G p l e R s m args below meth c nL Q M1 k n (pc + 3) L st) : gX G p l e R s m args below meth c nL Q M k n pc L (.int (nI n9) :: .int (nI dp) :: .ref a :: .int (nI sp) :: .ref a0 :: st) := by
  intro H locs ls h1 h2 h3 T hT X
  rw [Bool.and_eq_true] at hR
  have hR1 := Nat.le_of_ble_eq_true hR.1
  have hR2 := Nat.le_of_ble_eq_true hR.2
  have hc0 : H[a0]? = some (vp_cell (G.2.1 t) (n0, .inr (.inr (.inr (.inr (clipQ n0 f)))))) := (h1.1 a0 _ hM0).2
  have hc1 : H[a]? = some (vp_cell (G.2.1 t) (n1, .inr (.inr (.inr (.inr (clipQ n1 g)))))) := (h1.1 a _ hM1).2
  obtain ⟨-, k0, hk0, cm0, hkk0⟩ := (C.K.2 t _ ht).1 n0 (fun j => va_rf (clipQ n0 f j))
  obtain ⟨-, k1, hk1, cm1, hkk1⟩ := (C.K.2 t _ ht).1 n1 (fun j => va_rf (clipQ n1 g j))
  have es : (nI sp).toNatClampNeg = sp := nI_clamp (by omega)
  have ed : (nI dp).toNatClampNeg = dp := nI_clamp (by omega)
  have en : (nI n9).toNatClampNeg = n9 := nI_clamp (by omega)
  obtain ⟨vm', X', step⟩ := X.arraycopy C.2.1 C.2.2.2.2.1 (C.hw _ ql) (C.hw _ q2) (C.hw _ q3) (C.hw _ q4) (src := a0) (dst := a) (cs := vp_cell (G.2.1 t) (n0, .inr (.inr (.inr (.inr (clipQ n0 f)))))) (cd := vp_cell (G.2.1 t) (n1, .inr (.inr (.inr (.inr (clipQ n1 g)))))) (srcPos := nI sp) (destPos := nI dp) (n := nI n9) (by rw [hT]; exact hc0) (by rw [hT]; exact hc1)
    (fun _ h => by cases h) (fun _ h => by cases h) (fun h => by cases h) (fun h => by cases h) hk0 hk1 hkk0 hkk1 rfl (nI_pos (by omega)) (nI_pos (by omega)) (nI_pos (by omega))
    (by rw [nI_toInt (by omega), nI_toInt (by omega)]; show ¬ _ > ((arrV _ n0 _).slots.size : Int); rw [arrV_size]; omega)
    (by rw [nI_toInt (by omega), nI_toInt (by omega)]; show ¬ _ > ((arrV _ n1 _).slots.size : Int); rw [arrV_size]; omega)
    (fun vm₁ hal i hi => by
      rw [en] at hi
      rw [es]
      have e : (vp_cell (G.2.1 t) (n0, .inr (.inr (.inr (.inr (clipQ n0 f)))))).slots.getD (sp + i) .null = va_rf (f (sp + i)) := by
        show (arrV (G.2.1 t) n0 (fun j => va_rf (clipQ n0 f j))).slots.getD _ _ = _
        rw [Array.getD_eq_getD_getElem?, arrV_read _ _ (by omega)]
        show va_rf (clipQ n0 f (sp + i)) = _
        rw [clipQ_at (by omega)]
      rw [e]
      cases hy : f (sp + i) with
      | none => exact ⟨rfl, trivial⟩
      | some y =>
        obtain ⟨lb, fs, hMy⟩ := hel i hi y hy
        obtain ⟨cellV, g1, g2, g3⟩ := x_recv C h1 hc hMy
        obtain ⟨kA, comp, r1, r2, r3, -⟩ := (C.K.2 t _ ht).2
        cases hk1.symm.trans r1
        cases hkk1.symm.trans r2
        obtain ⟨c9, t9, f1, f2, f3⟩ := Cond.castable_spec (C.soft hca rfl)
        cases g3.symm.trans f1
        cases r3.symm.trans f2
        obtain ⟨kC, hkC, -⟩ := Vm.findClass_spec g3
        obtain ⟨kE, hkE, -⟩ := Vm.findClass_spec r3
        obtain ⟨kC', hkC', -⟩ := hal.2.2 _ _ hkC
        obtain ⟨kE', hkE', -⟩ := hal.2.2 _ _ hkE
        refine ⟨rfl, cellV, (show T.heap[y]? = some cellV by rw [hT]; exact g1), (fun q h => by rw [h] at g2; cases g2), ⟨kC', hkC'⟩, ?_, ?_⟩
        · exact ⟨kE', hkE'⟩
        · show vm₁.assignable _ _ = true
          rw [hal.assignable]
          exact f3)
    (g := F0 m pc ls (.int (nI n9) :: .int (nI dp) :: .ref a :: .int (nI sp) :: .ref a0 :: st)) rfl (by rw [h3.1]; exact C.2.2.2.1.symm) (rest := st) rfl (by rw [C.2.2.1]; exact d) hR1 (by show 2 * 0 + _ + _ ≤ _; omega)
  have e1 : copied (vp_cell (G.2.1 t) (n0, .inr (.inr (.inr (.inr (clipQ n0 f)))))) (vp_cell (G.2.1 t) (n1, .inr (.inr (.inr (.inr (clipQ n1 g)))))) (nI sp) (nI dp) (nI n9) = vp_cell (G.2.1 t) (n1, .inr (.inr (.inr (.inr (clipQ n1 (va_cpy f g sp dp n9)))))) := by
    have e2 := va_copied (fun z => va_rf z) (G.2.1 t) (G.2.1 t) (n0 := n0) (n1 := n1) (sp := (nI sp).toNatClampNeg) (dp := (nI dp).toNatClampNeg) (n := (nI n9).toNatClampNeg) (clipQ n0 f) (clipQ n1 g) (by rw [es, en]; exact h4)
    refine Eq.trans e2 ?_
    rw [es, ed, en, cpyQ h4 h5]
    rfl
  rw [e1] at X' step
  have hl : a < H.size := (Array.getElem?_eq_some_iff.mp hc1).1
  have hheap : ((T.setVm vm').setCell a (vp_cell (G.2.1 t) (n1, .inr (.inr (.inr (.inr (clipQ n1 (va_cpy f g sp dp n9)))))))).heap = H.setIfInBounds a (vp_cell (G.2.1 t) (n1, .inr (.inr (.inr (.inr (clipQ n1 (va_cpy f g sp dp n9))))))) := by rw [← hT]; rfl
  have oq : ∀ q : Nat, q ≠ a → (H.setIfInBounds a (vp_cell (G.2.1 t) (n1, .inr (.inr (.inr (.inr (clipQ n1 (va_cpy f g sp dp n9))))))))[q]? = H[q]? := fun q hq => by simp [Array.getElem?_setIfInBounds, Ne.symm hq]
  have hN := (h1.1 a _ hM1).1
  obtain ⟨t9, a1, b1⟩ := kk (gUp M a (lab1, .inl (G.2.1 t, n1, .inr (.inr (.inr (.inr (clipQ n1 (va_cpy f g sp dp n9)))))))) gUp_s (fun q h => gUp_n h) _ _ ls (h1.set (e := .inl (G.2.1 t, n1, .inr (.inr (.inr (.inr (clipQ n1 (va_cpy f g sp dp n9))))))) hM1 (show (H.setIfInBounds a _)[a]? = some _ by simp [Array.getElem?_setIfInBounds, hl]) (by simp) oq) ⟨by simp; exact h2.1, fun q g1 g2 => by
      rw [oq q (fun e => g2 (by rw [e]; exact hN))]
      exact h2.2.1 q g1 g2, fun q hq => by
      rcases List.mem_append.mp hq with h | h
      · exact h2.2.2 q h
      · obtain ⟨z, -, hz⟩ := List.mem_map.mp h
        rw [← hz]
        exact hN⟩ h3 _ hheap X'
  exact ⟨t9, step t9 a1, b1⟩
theorem x_copyl (C : gC G p e s m args meth c cc nL own ret) (t : Nat) {a0 a n0 n1 sp dp n9 index pc : Nat} {lab0 lab1 : Nat × Nat} {f g : Nat → Int64} (ht : (gty G)[t]? = some (G.2.1 t, .long)) (hM0 : M a0 = some (lab0, .inl (G.2.1 t, n0, .inr (.inl (clipL n0 f))))) (hM1 : M a = some (lab1, .inl (G.2.1 t, n1, .inr (.inl (clipL n1 g))))) (h4 : sp + n9 ≤ n0) (h5 : dp + n9 ≤ n1) (hb0 : n0 < 1000000) (hb1 : n1 < 1000000) (ql : Cond.methodLink own index arraycopyName ∈ lw_all) (q2 : Cond.native arraycopyName ∈ lw_all) (q3 : Cond.static arraycopyName ∈ lw_all) (q4 : Cond.initialized "java/lang/System" ∈ lw_all) (hR : (Nat.ble 1 R.frames && Nat.ble ((st.map fun v => v.category).sum + (nativeFrameWords "java/lang/System" "arraycopy" 5 + 11)) R.locals) = true) (d : decode cc pc = .ok (.invokestatic index, 3)) (kk : ∀ M1 : gM, M1 a = some (lab1, .inl (G.2.1 t, n1, .inr (.inl (clipL n1 (va_cpy f g sp dp n9))))) → (∀ q, q ≠ a → M1 q = M q) → gX G p l e R s m args below meth c nL Q M1 k n (pc + 3) L st) : gX G p l e R s m args below meth c nL Q M k n pc L (.int (nI n9) :: .int (nI dp) :: .ref a :: .int (nI sp) :: .ref a0 :: st) := by
  intro H locs ls h1 h2 h3 T hT X
  rw [Bool.and_eq_true] at hR
  have hR1 := Nat.le_of_ble_eq_true hR.1
  have hR2 := Nat.le_of_ble_eq_true hR.2
  have hc0 : H[a0]? = some (vp_cell (G.2.1 t) (n0, .inr (.inl (clipL n0 f)))) := (h1.1 a0 _ hM0).2
  have hc1 : H[a]? = some (vp_cell (G.2.1 t) (n1, .inr (.inl (clipL n1 g)))) := (h1.1 a _ hM1).2
  obtain ⟨-, k0, hk0, cm0, hkk0⟩ := (C.K.2 t _ ht).1 n0 (fun j => .long (clipL n0 f j))
  obtain ⟨-, k1, hk1, cm1, hkk1⟩ := (C.K.2 t _ ht).1 n1 (fun j => .long (clipL n1 g j))
  have es : (nI sp).toNatClampNeg = sp := nI_clamp (by omega)
  have ed : (nI dp).toNatClampNeg = dp := nI_clamp (by omega)
  have en : (nI n9).toNatClampNeg = n9 := nI_clamp (by omega)
  obtain ⟨vm', X', step⟩ := X.arraycopy C.2.1 C.2.2.2.2.1 (C.hw _ ql) (C.hw _ q2) (C.hw _ q3) (C.hw _ q4) (src := a0) (dst := a) (cs := vp_cell (G.2.1 t) (n0, .inr (.inl (clipL n0 f)))) (cd := vp_cell (G.2.1 t) (n1, .inr (.inl (clipL n1 g)))) (srcPos := nI sp) (destPos := nI dp) (n := nI n9) (by rw [hT]; exact hc0) (by rw [hT]; exact hc1)
    (fun _ h => by cases h) (fun _ h => by cases h) (fun h => by cases h) (fun h => by cases h) hk0 hk1 hkk0 hkk1 rfl (nI_pos (by omega)) (nI_pos (by omega)) (nI_pos (by omega))
    (by rw [nI_toInt (by omega), nI_toInt (by omega)]; show ¬ _ > ((arrV _ n0 _).slots.size : Int); rw [arrV_size]; omega)
    (by rw [nI_toInt (by omega), nI_toInt (by omega)]; show ¬ _ > ((arrV _ n1 _).slots.size : Int); rw [arrV_size]; omega)
    (fun vm₁ hal i hi => by
      rw [en] at hi
      rw [es]
      have e : (vp_cell (G.2.1 t) (n0, .inr (.inl (clipL n0 f)))).slots.getD (sp + i) .null = .long (clipL n0 f (sp + i)) := by
        show (arrV (G.2.1 t) n0 (fun j => .long (clipL n0 f j))).slots.getD _ _ = _
        rw [Array.getD_eq_getD_getElem?, arrV_read _ _ (by omega)]
        rfl
      rw [e]
      exact ⟨rfl, trivial⟩)
    (g := F0 m pc ls (.int (nI n9) :: .int (nI dp) :: .ref a :: .int (nI sp) :: .ref a0 :: st)) rfl (by rw [h3.1]; exact C.2.2.2.1.symm) (rest := st) rfl (by rw [C.2.2.1]; exact d) hR1 (by show 2 * 0 + _ + _ ≤ _; omega)
  have e1 : copied (vp_cell (G.2.1 t) (n0, .inr (.inl (clipL n0 f)))) (vp_cell (G.2.1 t) (n1, .inr (.inl (clipL n1 g)))) (nI sp) (nI dp) (nI n9) = vp_cell (G.2.1 t) (n1, .inr (.inl (clipL n1 (va_cpy f g sp dp n9)))) := by
    have e2 := va_copied (fun z => .long z) (G.2.1 t) (G.2.1 t) (n0 := n0) (n1 := n1) (sp := (nI sp).toNatClampNeg) (dp := (nI dp).toNatClampNeg) (n := (nI n9).toNatClampNeg) (clipL n0 f) (clipL n1 g) (by rw [es, en]; exact h4)
    refine Eq.trans e2 ?_
    rw [es, ed, en, cpyL h4 h5]
    rfl
  rw [e1] at X' step
  have hl : a < H.size := (Array.getElem?_eq_some_iff.mp hc1).1
  have hheap : ((T.setVm vm').setCell a (vp_cell (G.2.1 t) (n1, .inr (.inl (clipL n1 (va_cpy f g sp dp n9)))))).heap = H.setIfInBounds a (vp_cell (G.2.1 t) (n1, .inr (.inl (clipL n1 (va_cpy f g sp dp n9))))) := by rw [← hT]; rfl
  have oq : ∀ q : Nat, q ≠ a → (H.setIfInBounds a (vp_cell (G.2.1 t) (n1, .inr (.inl (clipL n1 (va_cpy f g sp dp n9))))))[q]? = H[q]? := fun q hq => by simp [Array.getElem?_setIfInBounds, Ne.symm hq]
  have hN := (h1.1 a _ hM1).1
  obtain ⟨t9, a1, b1⟩ := kk (gUp M a (lab1, .inl (G.2.1 t, n1, .inr (.inl (clipL n1 (va_cpy f g sp dp n9)))))) gUp_s (fun q h => gUp_n h) _ _ ls (h1.set (e := .inl (G.2.1 t, n1, .inr (.inl (clipL n1 (va_cpy f g sp dp n9))))) hM1 (show (H.setIfInBounds a _)[a]? = some _ by simp [Array.getElem?_setIfInBounds, hl]) (by simp) oq) ⟨by simp; exact h2.1, fun q g1 g2 => by
      rw [oq q (fun e => g2 (by rw [e]; exact hN))]
      exact h2.2.1 q g1 g2, fun q hq => by
      rcases List.mem_append.mp hq with h | h
      · exact h2.2.2 q h
      · obtain ⟨z, -, hz⟩ := List.mem_map.mp h
        rw [← hz]
        exact hN⟩ h3 _ hheap X'
  exact ⟨t9, step t9 a1, b1⟩
/-- a class's Class object lies there -/
def gMi (G : gG) (E : String) (mi : Nat) : Prop := ∀ U, G.2.2 U → va_Mi E mi U
theorem x_ldcM (C : gC G p e s m args meth c cc nL own ret) {E : String} {index mi pc : Nat} (hMi : gMi G E mi) (hq : Cond.classLink own index E ∈ lw_all) (d : decode cc pc = .ok (.ldc index, 2)) (kk : gX G p l e R s m args below meth c nL Q M k n (pc + 2) L (.ref mi :: st)) : gX G p l e R s m args below meth c nL Q M k n pc L st := fun H locs ls h1 h2 h3 =>
  va_ldcM C.2.1 C.2.2.1 C.2.2.2.2.1 (C.hw _ hq) (hMi s C.2.2.2.2.2.2.1) d (kk H locs ls h1 h2 h3)
theorem x_getC (C : gC G p e s m args meth c cc nL own ret) {E : String} {index mi a t pc : Nat} {E0 : String} {lab : Nat × Nat} {x : vp_A} (hMi : gMi G E mi) (ht : (gty G)[t]? = some (G.2.1 t, .object E0)) (hE : "[" ++ (FieldType.object E0).toString = E) (hM : M a = some (lab, .inl (G.2.1 t, x))) (hx : (vp_cell (G.2.1 t) x).cls = G.2.1 t ∧ (vp_cell (G.2.1 t) x).vm = .none) (hq : Cond.methodLink own index ⟨"java/lang/Object", "getClass", "()Ljava/lang/Class;"⟩ ∈ lw_all) (hd : Cond.declares ⟨"java/lang/Object", "getClass", "()Ljava/lang/Class;"⟩ ∈ lw_tbl) (hs : Cond.selects E ⟨"java/lang/Object", "getClass", "()Ljava/lang/Class;"⟩ ⟨"java/lang/Object", "getClass", "()Ljava/lang/Class;"⟩ ∈ lw_all) (hi : Cond.instanceMethod ⟨"java/lang/Object", "getClass", "()Ljava/lang/Class;"⟩ ∈ lw_all) (hn : Cond.native ⟨"java/lang/Object", "getClass", "()Ljava/lang/Class;"⟩ ∈ lw_all) (hR : (Nat.ble 1 R.frames && Nat.ble ((st.map fun v => v.category).sum + 14) R.locals) = true) (d : decode cc pc = .ok (.invokevirtual index, 3)) (kk : gX G p l e R s m args below meth c nL Q M k n (pc + 3) L (.ref mi :: st)) : gX G p l e R s m args below meth c nL Q M k n pc L (.ref a :: st) := fun H locs ls h1 h2 h3 => by
  rw [Bool.and_eq_true] at hR
  have hc0 : H[a]? = some (vp_cell (G.2.1 t) x) := (h1.1 a _ hM).2
  exact va_getC C.2.1 C.2.2.1 (C.2.2.2.1.trans h3.1.symm) C.2.2.2.2.1 (C.hw _ hq) (C.soft hd rfl) (C.hw _ hs) (C.hw _ hi) (C.hw _ hn) (hMi s C.2.2.2.2.2.2.1) ⟨_, hc0, by rw [hx.2]; rfl, by rw [hx.1]; exact va_nmO (C.K.2 t _ ht).2 hE⟩ (Nat.le_of_ble_eq_true hR.1) (Nat.le_of_ble_eq_true hR.2) d (kk H locs ls h1 h2 h3)
end GCP
