set_option maxRecDepth 100000
/-! FACTS OF THE START, out of gOK -/
abbrev gCond : Cond := Jvm.Cond.and given_1 narrow_1
theorem gStart_A {G : gG} {s0 : State} (hh : s0.heap = G.1.2) : ∀ a : Nat, a < s0.heap.size → ¬ gA G a := fun a ha h => by
  have h2 : gN G ≤ a := h
  have h3 : gN G = s0.heap.size := by rw [hh]
  omega
theorem gZ_of {G : gG} (hG : gOK G) {C n d : String} {z : Int32} (hl : Cond.laysStatic C n d ∈ lw_tbl) (hini : Cond.initialized C ∈ lw_tbl) (hw : ∀ args s, gCond.before args s = true → (Cond.eq (.static C n d) (.int z)).before args s = true) : gZs G C n d (.int z) := by
  obtain ⟨s0, b, hh, hW, hb, hp, ht⟩ := hG.2.2.2.2
  intro U hU
  have h1 : va_Z C n d (.int z) (gA G) s0 s0.heap := va_Zof (ht _ hl) (ht _ hini) (va_eqi (hw _ _ hp)) (gStart_A hh)
  rw [hh] at h1
  exact va_Z.moved (hW U hU).alike h1
theorem gMi_of {G : gG} (hG : gOK G) {C : String} (hw : ∀ args s, gCond.before args s = true → (Cond.isRef (.mirror C)).before args s = true) : ∃ mi, gMi G C mi := by
  obtain ⟨s0, b, hh, hW, hb, hp, ht⟩ := hG.2.2.2.2
  obtain ⟨mi, h1⟩ := va_Mi.of (hw _ _ hp)
  exact ⟨mi, fun U hU => h1.moved (hW U hU).alike⟩
theorem gZ_BS {G : gG} (hG : gOK G) : gZs G "java/util/BitSet" "$assertionsDisabled" "Z" (.int 1) := gZ_of hG q1774 (lw_all_tbl q142) (fun _ _ h => flat_of_before _ h _ (by decide +kernel))
theorem gZ_IC {G : gG} (hG : gOK G) : gZs G "java/util/ImmutableCollections" "$assertionsDisabled" "Z" (.int 1) := gZ_of hG q213 (lw_all_tbl q127) (fun _ _ h => flat_of_before _ h _ (by decide +kernel))
theorem gMi_OA {G : gG} (hG : gOK G) : ∃ mi, gMi G "[Ljava/lang/Object;" mi := gMi_of hG (fun _ _ h => flat_of_before _ h _ (by decide +kernel))
