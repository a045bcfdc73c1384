set_option maxRecDepth 100000
theorem mi_J13_wordIndex : gMS yJ13_wordIndex cJ13_wordIndex 1 (some .int) 1 := ⟨q487, q142, q488, by decide +kernel⟩
set_option maxHeartbeats 4000000 in
set_option maxRecDepth 100000 in
theorem met_J13_wordIndex (l : Launch) {G : gG} (hG : gOK G) {M0 : gM} {i : Nat} (hi : i < 64) : Met l yJ13_wordIndex (ws_ yJ13_wordIndex cJ13_wordIndex 1 (some .int)) ({ frames := 0, cells := 0, slots := 0, locals := 0 }) (gPre G M0 [.int (nI i)]) (gQ G (gI (fun r M1 => M1 = M0 ∧ nI 0 = r))) 0 0 (gA G) := by
  refine gMet (L0 := [some (.int (nI i))]) RJ13 hG (by decide +kernel) rfl (Nat.le_of_ble_eq_true rfl) rfl ?_
  intro p e s m args below meth c C hnm
  refine x_iload_n C dJ13_wordIndex_0 rfl rfl ?_
  refine x_bipush C dJ13_wordIndex_1 kb_6 ?_
  refine x_ishr C dJ13_wordIndex_3 ?_
  exact x_iret C dJ13_wordIndex_4 ⟨Nat.le_of_ble_eq_true rfl, Nat.le_of_ble_eq_true rfl⟩ ⟨rfl, by rw [pk_shrN (by omega) _ 6 (by decide), Nat.div_eq_of_lt (by omega)]⟩
theorem mi_J13_initWords : gMV RJ13 yJ13_initWords cJ13_initWords 2 none 1 := ⟨q484, qs0, q142, q485, by decide +kernel⟩
set_option maxHeartbeats 4000000 in
set_option maxRecDepth 100000 in
theorem met_J13_initWords (l : Launch) {G : gG} (hG : gOK G) {M0 : gM} {o : Nat} {l0 : Nat × Nat} {a1 a2 : Value} (lW : Nat × Nat) (h0 : M0 o = some (l0, .inr (4, [.null, .int (nI 0), .int (nI 0)]))) : Met l yJ13_initWords (ws_ yJ13_initWords cJ13_initWords 2 none) ({ frames := 1, cells := 1, slots := 1, locals := 20 }) (gPre G M0 [.ref (o), .int (nI 64)]) (gQ G (gV (fun M1 => ∃ wa, M0 wa = none ∧ M1 o = some (l0, .inr (4, [.ref wa, .int (nI 0), .int (nI 0)])) ∧ M1 wa = some (lW, .inl (G.2.1 1, 1, .inr (.inl (clipL 1 (fun _ => 0))))) ∧ ∀ z, z ≠ o → z ≠ wa → M1 z = M0 z))) 1 1 (gA G) := by
  refine gMet (L0 := [some (.ref (o)), some (.int (nI 64))]) RJ13 hG (by decide +kernel) rfl (Nat.le_of_ble_eq_true rfl) rfl ?_
  intro p e s m args below meth c C hnm
  refine x_aload_n C dJ13_initWords_0 rfl rfl ?_
  refine x_iload_n C dJ13_initWords_1 rfl rfl ?_
  refine x_iconst C dJ13_initWords_2 kc_1 ?_
  refine x_isubN C (by omega) dJ13_initWords_3 ?_
  refine x_S1I C (met_J13_wordIndex l C.1 (by omega)) mi_J13_wordIndex q486 ⟨rfl, rfl⟩ rfl ⟨Nat.le_of_ble_eq_true rfl, Nat.le_of_ble_eq_true rfl⟩ rfl dJ13_initWords_4 (fun r2 M1 hr => ?_)
  obtain ⟨hr, rfl⟩ := hr
  rw [hr]
  refine x_iconst C dJ13_initWords_7 kc_1 ?_
  refine x_iaddN C dJ13_initWords_8 ?_
  refine y_newa (atype := .long) (N := 1) (a0 := (1, .inr (.inl (clipL 1 (fun _ => 0))))) C 1 (fun a => lW) q499 rfl rfl (by intro C; simp) (fun cA => by rw [← clipL_0 (n := 1)]; rfl) rfl rfl (by decide +kernel) ⟨Nat.le_of_ble_eq_true rfl, Nat.le_of_ble_eq_true rfl⟩ dJ13_initWords_9 (fun a3 M4 n5 g6 h7 k8 => ?_)
  have e9 : o ≠ a3 := gM_nn h0 n5
  have h10 := (k8 _ e9).trans h0
  have k11 : ∀ zz : Nat, zz ≠ a3 → M4 zz = M0 zz := fun zz z0 => k8 zz z0
  refine y_put (fs' := [.ref (a3), .int (nI 0), .int (nI 0)]) C gcJ13 h10 0 rfl q489 rfl rfl rfl rfl rfl dJ13_initWords_11 (fun M12 h13 k14 => ?_)
  have h15 := (k14 _ (Ne.symm e9)).trans h7
  have k16 : ∀ zz : Nat, zz ≠ a3 → zz ≠ o → M12 zz = M0 zz := fun zz z0 z1 => (k14 zz z1).trans (k11 zz z0)
  exact x_vret C dJ13_initWords_14 ⟨Nat.le_of_ble_eq_true rfl, Nat.le_of_ble_eq_true rfl⟩ ⟨_, n5, h13, h15, fun z a b => k16 z b a⟩
theorem mi_J13_init : gMI yJ13_init cJ13_init 1 0 := ⟨q479, q142, q480, rfl, by decide +kernel⟩
set_option maxHeartbeats 4000000 in
set_option maxRecDepth 100000 in
theorem met_J13_init (l : Launch) {G : gG} (hG : gOK G) {M0 : gM} {o : Nat} {l0 : Nat × Nat} (lW : Nat × Nat) (h0 : M0 o = some (l0, .inr (4, [.null, .int (nI 0), .int (nI 0)]))) (hl : ¬ l0 = lW) : Met l yJ13_init (ws_ yJ13_init cJ13_init 1 none) ({ frames := 2, cells := 1, slots := 1, locals := 41 }) (gPre G M0 [.ref (o)]) (gQ G (gV (fun M1 => BS G l0 lW o 0 M1 ∧ gFl (ro2 l0 lW) M0 M1))) 1 1 (gA G) := by
  refine gMet (L0 := [some (.ref (o))]) RJ13 hG (by decide +kernel) rfl (Nat.le_of_ble_eq_true rfl) rfl ?_
  intro p e s m args below meth c C hnm
  refine x_aload_n C dJ13_init_0 rfl rfl ?_
  refine x_objInit C q481 q182 q183 rfl dJ13_init_1 ?_
  refine x_aload_n C dJ13_init_4 rfl rfl ?_
  refine x_iconst C dJ13_init_5 kc_0 ?_
  refine y_put (fs' := [.null, .int (nI 0), .int (nI 0)]) C gcJ13 h0 1 rfl q490 rfl rfl rfl rfl rfl dJ13_init_6 (fun M1 h2 k3 => ?_)
  have k4 : ∀ zz : Nat, zz ≠ o → M1 zz = M0 zz := fun zz z0 => k3 zz z0
  refine x_aload_n C dJ13_init_9 rfl rfl ?_
  refine x_iconst C dJ13_init_10 kc_0 ?_
  refine y_put (fs' := [.null, .int (nI 0), .int (nI 0)]) C gcJ13 h2 2 rfl q491 rfl (by decide +kernel) (by decide +kernel) rfl rfl dJ13_init_11 (fun M5 h6 k7 => ?_)
  have k8 : ∀ zz : Nat, zz ≠ o → M5 zz = M0 zz := fun zz z0 => (k7 zz z0).trans (k4 zz z0)
  refine x_aload_n C dJ13_init_14 rfl rfl ?_
  refine x_bipush C dJ13_init_15 kb_64 ?_
  refine x_V1V C (met_J13_initWords l C.1 (a1 := .null) (a2 := .null) lW h6) mi_J13_initWords q482 gcJ13 h6 ⟨rfl, rfl⟩ rfl ⟨Nat.le_of_ble_eq_true rfl, Nat.le_of_ble_eq_true rfl⟩ rfl dJ13_init_17 (fun M9 hr => ?_)
  obtain ⟨wa, g0, g1, g2, g3⟩ := hr
  have gk : ∀ zz : Nat, zz ≠ o → zz ≠ wa → M9 zz = M0 zz := fun zz a b => (g3 zz a b).trans (k8 zz a)
  have gn : M0 wa = none := by have z := g0; rwa [k8 wa (fun e => by rw [e, h6] at g0; cases g0)] at z
  have hne : o ≠ wa := fun e => by rw [e] at h0; rw [gn] at h0; cases h0
  refine x_aload_n C dJ13_init_20 rfl rfl ?_
  refine x_iconst C dJ13_init_21 kc_0 ?_
  refine y_put (fs' := [.ref (wa), .int (nI 0), .int (nI 0)]) C gcJ13 g1 2 rfl q491 rfl (by decide +kernel) (by decide +kernel) rfl rfl dJ13_init_22 (fun M10 h11 k12 => ?_)
  have h13 := (k12 _ (Ne.symm hne)).trans g2
  have k14 : ∀ zz : Nat, zz ≠ o → zz ≠ wa → M10 zz = M0 zz := fun zz z0 z1 => (k12 zz z0).trans (gk zz z0 z1)
  refine x_vret C dJ13_init_25 ⟨Nat.le_of_ble_eq_true rfl, Nat.le_of_ble_eq_true rfl⟩ ⟨⟨wa, 0, nI 0, h11, h13, by omega, fun _ => rfl, hl⟩, ?_⟩
  refine gFl.ofL [o, wa] (fun z hz => k14 z (fun e => hz (by rw [e]; simp)) (fun e => hz (by rw [e]; simp))) (fun z hz y hy => ?_)
  simp only [List.mem_cons, List.not_mem_nil, or_false] at hz
  rcases hz with rfl | rfl
  · rw [h0] at hy; cases hy; exact ⟨Or.inl rfl, _, h11⟩
  · rw [gn] at hy; cases hy
theorem mi_J13_checkInvariants : gMV RJ13 yJ13_checkInvariants cJ13_checkInvariants 1 none 0 := ⟨q1771, qs37, q142, q1772, by decide +kernel⟩
set_option maxHeartbeats 4000000 in
set_option maxRecDepth 100000 in
theorem met_J13_checkInvariants (l : Launch) {G : gG} (hG : gOK G) {M0 : gM} {l0 : Nat × Nat} {o : Nat} {fs : List Value} (h : M0 o = some (l0, .inr (4, fs))) : Met l yJ13_checkInvariants (ws_ yJ13_checkInvariants cJ13_checkInvariants 1 none) ({ frames := 0, cells := 0, slots := 0, locals := 0 }) (gPre G M0 [.ref (o)]) (gQ G (gV (fun M1 => M1 = M0))) 0 0 (gA G) := by
  refine gMet (L0 := [some (.ref (o))]) RJ13 hG (by decide +kernel) rfl (Nat.le_of_ble_eq_true rfl) rfl ?_
  intro p e s m args below meth c C hnm
  refine x_gets C (gZ_BS C.1) q1773 (fun _ h => h) dJ13_checkInvariants_0 ?_
  refine x_if_neT (tgt := 37) C (by decide) dJ13_checkInvariants_3 rfl ?_
  refine x_gets C (gZ_BS C.1) q1773 (fun _ h => h) dJ13_checkInvariants_37 ?_
  refine x_if_neT (tgt := 70) C (by decide) dJ13_checkInvariants_40 rfl ?_
  refine x_gets C (gZ_BS C.1) q1773 (fun _ h => h) dJ13_checkInvariants_70 ?_
  refine x_if_neT (tgt := 110) C (by decide) dJ13_checkInvariants_73 rfl ?_
  exact x_vret C dJ13_checkInvariants_110 ⟨Nat.le_of_ble_eq_true rfl, Nat.le_of_ble_eq_true rfl⟩ rfl
theorem mi_J13_ensureCapacity : gMV RJ13 yJ13_ensureCapacity cJ13_ensureCapacity 3 none 1 := ⟨q1757, qs36, q142, q1758, by decide +kernel⟩
set_option maxHeartbeats 4000000 in
set_option maxRecDepth 100000 in
theorem met_J13_ensureCapacity (l : Launch) {G : gG} (hG : gOK G) {M0 : gM} {l0 lW : Nat × Nat} {o : Nat} {x : Int64} (h : BS G l0 lW o x M0) : Met l yJ13_ensureCapacity (ws_ yJ13_ensureCapacity cJ13_ensureCapacity 3 none) ({ frames := 0, cells := 0, slots := 0, locals := 0 }) (gPre G M0 [.ref (o), .int (nI 1)]) (gQ G (gV (fun M1 => M1 = M0))) 0 0 (gA G) := by
  refine gMet (L0 := [some (.ref (o)), some (.int (nI 1)), none]) RJ13 hG (by decide +kernel) rfl (Nat.le_of_ble_eq_true rfl) rfl ?_
  intro p e s m args below meth c C hnm
  obtain ⟨wa, wi, sk, hA1, hA2, hw, hz, hl⟩ := h
  have how : o ≠ wa := fun e => by rw [e, hA2] at hA1; exact hl (congrArg (fun y => y.1) (Option.some.inj hA1)).symm
  rcases (by omega : wi = 0 ∨ wi = 1) with rfl | rfl
  · -- 0
    refine x_aload_n C dJ13_ensureCapacity_0 rfl rfl ?_
    refine x_get C gcJ13 hA1 0 rfl q489 rfl dJ13_ensureCapacity_1 ?_
    refine y_alen C 1 rfl hA2 dJ13_ensureCapacity_4 ?_
    refine x_iload_n C dJ13_ensureCapacity_5 rfl rfl ?_
    refine x_icmp_geT (tgt := 38) C (by decide +kernel) dJ13_ensureCapacity_6 rfl ?_
    exact x_vret C dJ13_ensureCapacity_38 ⟨Nat.le_of_ble_eq_true rfl, Nat.le_of_ble_eq_true rfl⟩ rfl
  · -- 1
    refine x_aload_n C dJ13_ensureCapacity_0 rfl rfl ?_
    refine x_get C gcJ13 hA1 0 rfl q489 rfl dJ13_ensureCapacity_1 ?_
    refine y_alen C 1 rfl hA2 dJ13_ensureCapacity_4 ?_
    refine x_iload_n C dJ13_ensureCapacity_5 rfl rfl ?_
    refine x_icmp_geT (tgt := 38) C (by decide +kernel) dJ13_ensureCapacity_6 rfl ?_
    exact x_vret C dJ13_ensureCapacity_38 ⟨Nat.le_of_ble_eq_true rfl, Nat.le_of_ble_eq_true rfl⟩ rfl
theorem mi_J13_expandTo : gMV RJ13 yJ13_expandTo cJ13_expandTo 3 none 1 := ⟨q1979, qs45, q142, q1980, by decide +kernel⟩
set_option maxHeartbeats 4000000 in
set_option maxRecDepth 100000 in
theorem met_J13_expandTo (l : Launch) {G : gG} (hG : gOK G) {M0 : gM} {l0 lW : Nat × Nat} {o : Nat} {x : Int64} (h : BS G l0 lW o x M0) : Met l yJ13_expandTo (ws_ yJ13_expandTo cJ13_expandTo 3 none) ({ frames := 1, cells := 0, slots := 0, locals := 22 }) (gPre G M0 [.ref (o), .int (nI 0)]) (gQ G (gV (fun M1 => ∃ wa sk, M1 o = some (l0, .inr (4, [.ref wa, .int (nI 1), .int sk])) ∧ M1 wa = some (lW, .inl (G.2.1 1, 1, .inr (.inl (clipL 1 (fun _ => x))))) ∧ o ≠ wa ∧ gFl (ro2 l0 lW) M0 M1))) 0 0 (gA G) := by
  refine gMet (L0 := [some (.ref (o)), some (.int (nI 0)), none]) RJ13 hG (by decide +kernel) rfl (Nat.le_of_ble_eq_true rfl) rfl ?_
  intro p e s m args below meth c C hnm
  obtain ⟨wa, wi, sk, hA1, hA2, hw, hz, hl⟩ := h
  have how : o ≠ wa := fun e => by rw [e, hA2] at hA1; exact hl (congrArg (fun y => y.1) (Option.some.inj hA1)).symm
  rcases (by omega : wi = 0 ∨ wi = 1) with rfl | rfl
  · -- 0
    refine x_iload_n C dJ13_expandTo_0 rfl rfl ?_
    refine x_iconst C dJ13_expandTo_1 kc_1 ?_
    refine x_iaddN C dJ13_expandTo_2 ?_
    refine x_istore_n C dJ13_expandTo_3 rfl (gs1_2 rfl) rfl ?_
    refine x_aload_n C dJ13_expandTo_4 rfl rfl ?_
    refine x_get C gcJ13 hA1 1 rfl q490 rfl dJ13_expandTo_5 ?_
    refine x_iload_n C dJ13_expandTo_8 rfl rfl ?_
    refine x_icmp_geF (tgt := 22) C (by decide +kernel) dJ13_expandTo_9 rfl ?_
    refine x_aload_n C dJ13_expandTo_12 rfl rfl ?_
    refine x_iload_n C dJ13_expandTo_13 rfl rfl ?_
    refine x_V1V C (met_J13_ensureCapacity l C.1 ⟨wa, 0, sk, hA1, hA2, by omega, hz, hl⟩) mi_J13_ensureCapacity q1755 gcJ13 hA1 ⟨rfl, rfl⟩ rfl ⟨Nat.le_of_ble_eq_true rfl, Nat.le_of_ble_eq_true rfl⟩ rfl dJ13_expandTo_14 (fun M1 hr => ?_)
    rw [hr]
    refine x_aload_n C dJ13_expandTo_17 rfl rfl ?_
    refine x_iload_n C dJ13_expandTo_18 rfl rfl ?_
    refine y_put (fs' := [.ref (wa), .int (nI (1)), .int (sk)]) C gcJ13 hA1 1 rfl q490 rfl rfl rfl rfl rfl dJ13_expandTo_19 (fun M2 h3 k4 => ?_)
    have h5 := (k4 _ (Ne.symm how)).trans hA2
    have k6 : ∀ zz : Nat, zz ≠ o → M2 zz = M0 zz := fun zz z0 => k4 zz z0
    refine x_vret C dJ13_expandTo_22 ⟨Nat.le_of_ble_eq_true rfl, Nat.le_of_ble_eq_true rfl⟩ ⟨wa, sk, h3, h5, how, ?_⟩
    refine gFl.ofL [o] (fun z hz => k6 z (fun e => hz (by rw [e]; simp))) (fun z hz y hy => ?_)
    simp only [List.mem_cons, List.not_mem_nil, or_false] at hz
    rcases hz with rfl
    · rw [hA1] at hy; cases hy; exact ⟨Or.inl rfl, _, h3⟩
  · -- 1
    refine x_iload_n C dJ13_expandTo_0 rfl rfl ?_
    refine x_iconst C dJ13_expandTo_1 kc_1 ?_
    refine x_iaddN C dJ13_expandTo_2 ?_
    refine x_istore_n C dJ13_expandTo_3 rfl (gs1_2 rfl) rfl ?_
    refine x_aload_n C dJ13_expandTo_4 rfl rfl ?_
    refine x_get C gcJ13 hA1 1 rfl q490 rfl dJ13_expandTo_5 ?_
    refine x_iload_n C dJ13_expandTo_8 rfl rfl ?_
    refine x_icmp_geT (tgt := 22) C (by decide +kernel) dJ13_expandTo_9 rfl ?_
    refine x_vret C dJ13_expandTo_22 ⟨Nat.le_of_ble_eq_true rfl, Nat.le_of_ble_eq_true rfl⟩ ⟨wa, sk, hA1, hA2, how, ?_⟩
    exact gFl.rf
theorem mi_J13_set : gMV RJ13 yJ13_set cJ13_set 3 none 1 := ⟨q1966, q1967, q142, q1968, by decide +kernel⟩
set_option maxHeartbeats 4000000 in
set_option maxRecDepth 100000 in
theorem met_J13_set (l : Launch) {G : gG} (hG : gOK G) {M0 : gM} {l0 lW : Nat × Nat} {o : Nat} {x : Int64} {b : Nat} (h : BS G l0 lW o x M0) (hb : b < 64) : Met l yJ13_set (ws_ yJ13_set cJ13_set 3 none) ({ frames := 2, cells := 0, slots := 0, locals := 44 }) (gPre G M0 [.ref (o), .int (nI b)]) (gQ G (gV (fun M1 => BS G l0 lW o (x ||| (1 <<< ((nI b).toInt64 &&& 63))) M1 ∧ gFl (ro2 l0 lW) M0 M1))) 0 0 (gA G) := by
  refine gMet (L0 := [some (.ref (o)), some (.int (nI b)), none]) RJ13 hG (by decide +kernel) rfl (Nat.le_of_ble_eq_true rfl) rfl ?_
  intro p e s m args below meth c C hnm
  obtain ⟨-, -, -, -, -, -, -, hl⟩ := id h
  obtain ⟨wa, wi, sk, hO, -⟩ := id h
  refine x_iload_n C dJ13_set_0 rfl rfl ?_
  refine x_if_geT (tgt := 31) C (nI_pos' (by omega)) dJ13_set_1 rfl ?_
  refine x_iload_n C dJ13_set_31 rfl rfl ?_
  refine x_S1I C (met_J13_wordIndex l C.1 (by omega)) mi_J13_wordIndex q486 ⟨rfl, rfl⟩ rfl ⟨Nat.le_of_ble_eq_true rfl, Nat.le_of_ble_eq_true rfl⟩ rfl dJ13_set_32 (fun r2 M1 hr => ?_)
  obtain ⟨hr, rfl⟩ := hr
  rw [hr]
  refine x_istore_n C dJ13_set_35 rfl (gs1_2 rfl) rfl ?_
  refine x_aload_n C dJ13_set_36 rfl rfl ?_
  refine x_iload_n C dJ13_set_37 rfl rfl ?_
  refine x_V1V C (met_J13_expandTo l C.1 h) mi_J13_expandTo q1977 gcJ13 hO ⟨rfl, rfl⟩ rfl ⟨Nat.le_of_ble_eq_true rfl, Nat.le_of_ble_eq_true rfl⟩ rfl dJ13_set_38 (fun M3 hr => ?_)
  obtain ⟨wa', sk', g1, g2, g3, g4⟩ := hr
  refine x_aload_n C dJ13_set_41 rfl rfl ?_
  refine x_get C gcJ13 g1 0 rfl q489 rfl dJ13_set_42 ?_
  refine x_iload_n C dJ13_set_45 rfl rfl ?_
  refine x_dup2 C dJ13_set_46 rfl rfl ?_
  refine y_lald (i := 0) C g2 rfl (by omega) rfl dJ13_set_47 ?_
  refine x_lconst (v := 1) C dJ13_set_48 rfl ?_
  refine x_iload_n C dJ13_set_49 rfl rfl ?_
  refine x_lshl C dJ13_set_50 ?_
  refine x_lor C dJ13_set_51 ?_
  refine y_last (i := 0) C g2 rfl (by omega) rfl dJ13_set_52 (fun M901 h902 k903 => ?_)
  have h904 := (k903 _ g3).trans g1
  have k905 : ∀ zz : Nat, zz ≠ wa' → M901 zz = M3 zz := fun zz z0 => k903 zz z0
  refine x_aload_n C dJ13_set_53 rfl rfl ?_
  refine x_V0V C (met_J13_checkInvariants l C.1 h904) mi_J13_checkInvariants q1769 gcJ13 h904 ⟨rfl, rfl⟩ rfl ⟨Nat.le_of_ble_eq_true rfl, Nat.le_of_ble_eq_true rfl⟩ rfl dJ13_set_54 (fun M906 hr => ?_)
  rw [hr]
  refine x_vret C dJ13_set_57 ⟨Nat.le_of_ble_eq_true rfl, Nat.le_of_ble_eq_true rfl⟩ ⟨⟨wa', 1, sk', h904, Eq.trans h902 (clipL_cell (fun j hj => ?_)), by omega, fun q => absurd q (by omega), hl⟩, g4.tr (gFl.of1 (i := lW.1) (j := lW.2) g2 h902 k905 (Or.inr rfl))⟩
  obtain rfl : j = 0 := by omega
  exact pk_uLs
theorem mi_J13_clear : gMV RJ13 yJ13_clear cJ13_clear 1 none 0 := ⟨q1747, q1748, q142, q1749, by decide +kernel⟩
set_option maxHeartbeats 4000000 in
set_option maxRecDepth 100000 in
theorem met_J13_clear (l : Launch) {G : gG} (hG : gOK G) {M0 : gM} {l0 lW : Nat × Nat} {o : Nat} {x : Int64} (h : BS G l0 lW o x M0) : Met l yJ13_clear (ws_ yJ13_clear cJ13_clear 1 none) ({ frames := 0, cells := 0, slots := 0, locals := 0 }) (gPre G M0 [.ref (o)]) (gQ G (gV (fun M1 => BS G l0 lW o 0 M1 ∧ gFl (ro2 l0 lW) M0 M1))) 0 0 (gA G) := by
  refine gMet (L0 := [some (.ref (o))]) RJ13 hG (by decide +kernel) rfl (Nat.le_of_ble_eq_true rfl) rfl ?_
  intro p e s m args below meth c C hnm
  obtain ⟨wa, wi, sk, hA1, hA2, hw, hz, hl⟩ := h
  have how : o ≠ wa := fun e => by rw [e, hA2] at hA1; exact hl (congrArg (fun y => y.1) (Option.some.inj hA1)).symm
  rcases (by omega : wi = 0 ∨ wi = 1) with rfl | rfl
  · -- 0
    refine x_aload_n C dJ13_clear_0 rfl rfl ?_
    refine x_get C gcJ13 hA1 1 rfl q490 rfl dJ13_clear_1 ?_
    refine x_if_leT (tgt := 27) C (by decide) dJ13_clear_4 rfl ?_
    refine x_vret C dJ13_clear_27 ⟨Nat.le_of_ble_eq_true rfl, Nat.le_of_ble_eq_true rfl⟩ ⟨⟨wa, 0, sk, hA1, Eq.trans hA2 (clipL_cell (fun j hj => ?_)), by omega, fun _ => rfl, hl⟩, ?_⟩
    · exact hz rfl
    ·
      exact gFl.rf
  · -- 1
    refine x_aload_n C dJ13_clear_0 rfl rfl ?_
    refine x_get C gcJ13 hA1 1 rfl q490 rfl dJ13_clear_1 ?_
    refine x_if_leF (tgt := 27) C (by decide) dJ13_clear_4 rfl ?_
    refine x_aload_n C dJ13_clear_7 rfl rfl ?_
    refine x_get C gcJ13 hA1 0 rfl q489 rfl dJ13_clear_8 ?_
    refine x_aload_n C dJ13_clear_11 rfl rfl ?_
    refine x_dup C dJ13_clear_12 rfl ?_
    refine x_get C gcJ13 hA1 1 rfl q490 rfl dJ13_clear_13 ?_
    refine x_iconst C dJ13_clear_16 kc_1 ?_
    refine x_isubN C (by omega) dJ13_clear_17 ?_
    refine x_dup_x1 C dJ13_clear_18 rfl rfl ?_
    refine y_put (fs' := [.ref (wa), .int (nI (0)), .int (sk)]) C gcJ13 hA1 1 rfl q490 rfl rfl rfl rfl rfl dJ13_clear_19 (fun M1 h2 k3 => ?_)
    have h4 := (k3 _ (Ne.symm how)).trans hA2
    have k5 : ∀ zz : Nat, zz ≠ o → M1 zz = M0 zz := fun zz z0 => k3 zz z0
    refine x_lconst (v := 0) C dJ13_clear_22 rfl ?_
    refine y_last (i := 0) C h4 rfl (by omega) rfl dJ13_clear_23 (fun M6 h7 k8 => ?_)
    have h9 := (k8 _ how).trans h2
    have k10 : ∀ zz : Nat, zz ≠ o → zz ≠ wa → M6 zz = M0 zz := fun zz z0 z1 => (k8 zz z1).trans (k5 zz z0)
    refine x_goto (tgt := 0) C dJ13_clear_24 rfl ?_
    refine x_aload_n C dJ13_clear_0 rfl rfl ?_
    refine x_get C gcJ13 h9 1 rfl q490 rfl dJ13_clear_1 ?_
    refine x_if_leT (tgt := 27) C (by decide) dJ13_clear_4 rfl ?_
    refine x_vret C dJ13_clear_27 ⟨Nat.le_of_ble_eq_true rfl, Nat.le_of_ble_eq_true rfl⟩ ⟨⟨wa, 0, sk, h9, Eq.trans h7 (clipL_cell (fun j hj => ?_)), by omega, fun _ => rfl, hl⟩, ?_⟩
    · obtain rfl : j = 0 := by omega
      exact pk_uLs
    ·
      refine gFl.ofL [o, wa] (fun z hz => k10 z (fun e => hz (by rw [e]; simp)) (fun e => hz (by rw [e]; simp))) (fun z hz y hy => ?_)
      simp only [List.mem_cons, List.not_mem_nil, or_false] at hz
      rcases hz with rfl | rfl
      · rw [hA1] at hy; cases hy; exact ⟨Or.inl rfl, _, h9⟩
      · rw [hA2] at hy; cases hy; exact ⟨Or.inr rfl, _, h7⟩
theorem mi_J35_bitCount : gMS yJ35_bitCount cJ35_bitCount 2 (some .int) 1 := ⟨q2250, q175, q2251, by decide +kernel⟩
set_option maxHeartbeats 4000000 in
set_option maxRecDepth 100000 in
theorem met_J35_bitCount (l : Launch) {G : gG} (hG : gOK G) {M0 : gM} {a : Int64}  : Met l yJ35_bitCount (ws_ yJ35_bitCount cJ35_bitCount 2 (some .int)) ({ frames := 0, cells := 0, slots := 0, locals := 0 }) (gPre G M0 [.long (a)]) (gQ G (gI (fun r M1 => M1 = M0 ∧ pBC a = r))) 0 0 (gA G) := by
  refine gMetF (L0 := [some (.long (a)), none]) RJ35 hG (by decide +kernel) rfl (Nat.le_of_ble_eq_true rfl) rfl ?_
  intro p e s m args below meth c C hnm hnm2
  refine x_lload_n C dJ35_bitCount_0 rfl rfl ?_
  refine x_lload_n C dJ35_bitCount_1 rfl rfl ?_
  refine x_iconst C dJ35_bitCount_2 kc_1 ?_
  refine x_lushr C dJ35_bitCount_3 ?_
  refine x_ldc2 C dJ35_bitCount_4 q2252 ?_
  refine x_land C dJ35_bitCount_7 ?_
  refine x_lsub C dJ35_bitCount_8 ?_
  refine x_lstore_n C dJ35_bitCount_9 rfl (gs2_0) rfl ?_
  refine x_lload_n C dJ35_bitCount_10 rfl rfl ?_
  refine x_ldc2 C dJ35_bitCount_11 q2253 ?_
  refine x_land C dJ35_bitCount_14 ?_
  refine x_lload_n C dJ35_bitCount_15 rfl rfl ?_
  refine x_iconst C dJ35_bitCount_16 kc_2 ?_
  refine x_lushr C dJ35_bitCount_17 ?_
  refine x_ldc2 C dJ35_bitCount_18 q2253 ?_
  refine x_land C dJ35_bitCount_21 ?_
  refine x_ladd C dJ35_bitCount_22 ?_
  refine x_lstore_n C dJ35_bitCount_23 rfl (gs2_0) rfl ?_
  refine x_lload_n C dJ35_bitCount_24 rfl rfl ?_
  refine x_lload_n C dJ35_bitCount_25 rfl rfl ?_
  refine x_iconst C dJ35_bitCount_26 kc_4 ?_
  refine x_lushr C dJ35_bitCount_27 ?_
  refine x_ladd C dJ35_bitCount_28 ?_
  refine x_ldc2 C dJ35_bitCount_29 q2254 ?_
  refine x_land C dJ35_bitCount_32 ?_
  refine x_lstore_n C dJ35_bitCount_33 rfl (gs2_0) rfl ?_
  refine x_lload_n C dJ35_bitCount_34 rfl rfl ?_
  refine x_lload_n C dJ35_bitCount_35 rfl rfl ?_
  refine x_bipush C dJ35_bitCount_36 kb_8 ?_
  refine x_lushr C dJ35_bitCount_38 ?_
  refine x_ladd C dJ35_bitCount_39 ?_
  refine x_lstore_n C dJ35_bitCount_40 rfl (gs2_0) rfl ?_
  refine x_lload_n C dJ35_bitCount_41 rfl rfl ?_
  refine x_lload_n C dJ35_bitCount_42 rfl rfl ?_
  refine x_bipush C dJ35_bitCount_43 kb_16 ?_
  refine x_lushr C dJ35_bitCount_45 ?_
  refine x_ladd C dJ35_bitCount_46 ?_
  refine x_lstore_n C dJ35_bitCount_47 rfl (gs2_0) rfl ?_
  refine x_lload_n C dJ35_bitCount_48 rfl rfl ?_
  refine x_lload_n C dJ35_bitCount_49 rfl rfl ?_
  refine x_bipush C dJ35_bitCount_50 kb_32 ?_
  refine x_lushr C dJ35_bitCount_52 ?_
  refine x_ladd C dJ35_bitCount_53 ?_
  refine x_lstore_n C dJ35_bitCount_54 rfl (gs2_0) rfl ?_
  refine x_lload_n C dJ35_bitCount_55 rfl rfl ?_
  refine x_l2i C dJ35_bitCount_56 ?_
  refine x_bipush C dJ35_bitCount_57 kb_127 ?_
  refine x_iand C dJ35_bitCount_59 ?_
  exact x_iret C dJ35_bitCount_60 ⟨Nat.le_of_ble_eq_true rfl, Nat.le_of_ble_eq_true rfl⟩ ⟨rfl, rfl⟩
theorem mi_J13_cardinality : gMV RJ13 yJ13_cardinality cJ13_cardinality 3 (some .int) 0 := ⟨q2246, q2247, q142, q2248, by decide +kernel⟩
set_option maxHeartbeats 4000000 in
set_option maxRecDepth 100000 in
theorem met_J13_cardinality (l : Launch) {G : gG} (hG : gOK G) {M0 : gM} {l0 lW : Nat × Nat} {o : Nat} {x : Int64} (h : BS G l0 lW o x M0) : Met l yJ13_cardinality (ws_ yJ13_cardinality cJ13_cardinality 3 (some .int)) ({ frames := 1, cells := 0, slots := 0, locals := 21 }) (gPre G M0 [.ref (o)]) (gQ G (gI (fun r M1 => M1 = M0 ∧ pBC x = r))) 0 0 (gA G) := by
  refine gMet (L0 := [some (.ref (o)), none, none]) RJ13 hG (by decide +kernel) rfl (Nat.le_of_ble_eq_true rfl) rfl ?_
  intro p e s m args below meth c C hnm
  obtain ⟨wa, wi, sk, hA1, hA2, hw, hz, hl⟩ := h
  have how : o ≠ wa := fun e => by rw [e, hA2] at hA1; exact hl (congrArg (fun y => y.1) (Option.some.inj hA1)).symm
  rcases (by omega : wi = 0 ∨ wi = 1) with rfl | rfl
  · -- 0
    refine x_iconst C dJ13_cardinality_0 kc_0 ?_
    refine x_istore_n C dJ13_cardinality_1 rfl (gs1_1 rfl) rfl ?_
    refine x_iconst C dJ13_cardinality_2 kc_0 ?_
    refine x_istore_n C dJ13_cardinality_3 rfl (gs1_2 rfl) rfl ?_
    refine x_iload_n C dJ13_cardinality_4 rfl rfl ?_
    refine x_aload_n C dJ13_cardinality_5 rfl rfl ?_
    refine x_get C gcJ13 hA1 1 rfl q490 rfl dJ13_cardinality_6 ?_
    refine x_icmp_geT (tgt := 30) C (by decide +kernel) dJ13_cardinality_9 rfl ?_
    refine x_iload_n C dJ13_cardinality_30 rfl rfl ?_
    exact x_iret C dJ13_cardinality_31 ⟨Nat.le_of_ble_eq_true rfl, Nat.le_of_ble_eq_true rfl⟩ ⟨rfl, by rw [hz rfl]; decide +kernel⟩
  · -- 1
    refine x_iconst C dJ13_cardinality_0 kc_0 ?_
    refine x_istore_n C dJ13_cardinality_1 rfl (gs1_1 rfl) rfl ?_
    refine x_iconst C dJ13_cardinality_2 kc_0 ?_
    refine x_istore_n C dJ13_cardinality_3 rfl (gs1_2 rfl) rfl ?_
    refine x_iload_n C dJ13_cardinality_4 rfl rfl ?_
    refine x_aload_n C dJ13_cardinality_5 rfl rfl ?_
    refine x_get C gcJ13 hA1 1 rfl q490 rfl dJ13_cardinality_6 ?_
    refine x_icmp_geF (tgt := 30) C (by decide +kernel) dJ13_cardinality_9 rfl ?_
    refine x_iload_n C dJ13_cardinality_12 rfl rfl ?_
    refine x_aload_n C dJ13_cardinality_13 rfl rfl ?_
    refine x_get C gcJ13 hA1 0 rfl q489 rfl dJ13_cardinality_14 ?_
    refine x_iload_n C dJ13_cardinality_17 rfl rfl ?_
    refine y_lald (i := 0) C hA2 rfl (by omega) rfl dJ13_cardinality_18 ?_
    refine x_S1I C (met_J35_bitCount l C.1) mi_J35_bitCount q2249 ⟨rfl, rfl⟩ rfl ⟨Nat.le_of_ble_eq_true rfl, Nat.le_of_ble_eq_true rfl⟩ rfl dJ13_cardinality_19 (fun r2 M1 hr => ?_)
    obtain ⟨hr, rfl⟩ := hr
    rw [hr]
    refine x_iadd C dJ13_cardinality_22 ?_
    refine x_istore_n C dJ13_cardinality_23 rfl (gs1_1 rfl) rfl ?_
    refine x_iincN (z := 1) C dJ13_cardinality_24 rfl (gs1_2 rfl) rfl ?_
    refine x_goto (tgt := 4) C dJ13_cardinality_27 rfl ?_
    refine x_iload_n C dJ13_cardinality_4 rfl rfl ?_
    refine x_aload_n C dJ13_cardinality_5 rfl rfl ?_
    refine x_get C gcJ13 hA1 1 rfl q490 rfl dJ13_cardinality_6 ?_
    refine x_icmp_geT (tgt := 30) C (by decide +kernel) dJ13_cardinality_9 rfl ?_
    refine x_iload_n C dJ13_cardinality_30 rfl rfl ?_
    exact x_iret C dJ13_cardinality_31 ⟨Nat.le_of_ble_eq_true rfl, Nat.le_of_ble_eq_true rfl⟩ ⟨rfl, by show _ = nI 0 + pBC x; rw [show nI 0 = (0 : Int32) from rfl, Int32.zero_add]⟩
theorem mi_J13_or : gMV RJ13 yJ13_or cJ13_or 4 none 1 := ⟨q1751, q1752, q142, q1753, by decide +kernel⟩
set_option maxHeartbeats 4000000 in
set_option maxRecDepth 100000 in
theorem met_J13_or (l : Launch) {G : gG} (hG : gOK G) {M0 : gM} {l0 lW : Nat × Nat} {o : Nat} {x : Int64} {m0 mW : Nat × Nat} {o2 : Nat} {y : Int64} (h : BS G l0 lW o x M0) (h' : BS G m0 mW o2 y M0) (hd1 : ¬ l0 = m0) (hd2 : ¬ lW = m0) (hd3 : ¬ l0 = mW) (hd4 : ¬ lW = mW) : Met l yJ13_or (ws_ yJ13_or cJ13_or 4 none) ({ frames := 1, cells := 0, slots := 0, locals := 60 }) (gPre G M0 [.ref (o), .ref (o2)]) (gQ G (gV (fun M1 => BS G l0 lW o (x ||| y) M1 ∧ gFl (ro2 l0 lW) M0 M1))) 0 0 (gA G) := by
  refine gMet (L0 := [some (.ref (o)), some (.ref (o2)), none, none]) RJ13 hG (by decide +kernel) rfl (Nat.le_of_ble_eq_true rfl) rfl ?_
  intro p e s m args below meth c C hnm
  obtain ⟨wa, wi, sk, hA1, hA2, hw, hz, hl⟩ := h
  obtain ⟨wa2, wi2, sk2, g1, g2, gw, gz, gl⟩ := h'
  have how : o ≠ wa := fun e => by rw [e, hA2] at hA1; exact hl (congrArg (fun y => y.1) (Option.some.inj hA1)).symm
  have n1 : o2 ≠ o := fun e => by rw [e, hA1] at g1; exact hd1 (congrArg (fun y => y.1) (Option.some.inj g1))
  have n2 : o2 ≠ wa := fun e => by rw [e, hA2] at g1; exact hd2 (congrArg (fun y => y.1) (Option.some.inj g1))
  have n3 : wa2 ≠ o := fun e => by rw [e, hA1] at g2; exact hd3 (congrArg (fun y => y.1) (Option.some.inj g2))
  have n4 : wa2 ≠ wa := fun e => by rw [e, hA2] at g2; exact hd4 (congrArg (fun y => y.1) (Option.some.inj g2))
  rcases (by omega : wi = 0 ∨ wi = 1) with rfl | rfl
  · -- 0
    rcases (by omega : wi2 = 0 ∨ wi2 = 1) with rfl | rfl
    · -- 0
      refine x_aload_n C dJ13_or_0 rfl rfl ?_
      refine x_aload_n C dJ13_or_1 rfl rfl ?_
      refine x_acmp_ne (rx := (some (o))) (ry := (some (o2))) (tgt := 6) C dJ13_or_2 rfl (fun _ => ?_) (fun q => absurd q (fun q : some o = some o2 => n1 (Option.some.inj q).symm))
      refine x_aload_n C dJ13_or_6 rfl rfl ?_
      refine x_get C gcJ13 hA1 1 rfl q490 rfl dJ13_or_7 ?_
      refine x_aload_n C dJ13_or_10 rfl rfl ?_
      refine x_get C gcJ13 g1 1 rfl q490 rfl dJ13_or_11 ?_
      refine x_S2I C (met_J0_min l C.1) mi_J0_min q1754 ⟨rfl, rfl⟩ rfl ⟨Nat.le_of_ble_eq_true rfl, Nat.le_of_ble_eq_true rfl⟩ rfl dJ13_or_14 (fun r2 M1 hr => ?_)
      obtain ⟨hr, rfl⟩ := hr
      rw [hr, show pMin (nI 0) (nI 0) = nI 0 by decide +kernel]
      refine x_istore_n C dJ13_or_17 rfl (gs1_2 rfl) rfl ?_
      refine x_aload_n C dJ13_or_18 rfl rfl ?_
      refine x_get C gcJ13 hA1 1 rfl q490 rfl dJ13_or_19 ?_
      refine x_aload_n C dJ13_or_22 rfl rfl ?_
      refine x_get C gcJ13 g1 1 rfl q490 rfl dJ13_or_23 ?_
      refine x_icmp_geT (tgt := 45) C (by decide +kernel) dJ13_or_26 rfl ?_
      refine x_iconst C dJ13_or_45 kc_0 ?_
      refine x_istore_n C dJ13_or_46 rfl (gs1_3 rfl) rfl ?_
      refine x_iload_n C dJ13_or_47 rfl rfl ?_
      refine x_iload_n C dJ13_or_48 rfl rfl ?_
      refine x_icmp_geT (tgt := 73) C (by decide +kernel) dJ13_or_49 rfl ?_
      refine x_iload_n C dJ13_or_73 rfl rfl ?_
      refine x_aload_n C dJ13_or_74 rfl rfl ?_
      refine x_get C gcJ13 g1 1 rfl q490 rfl dJ13_or_75 ?_
      refine x_icmp_geT (tgt := 100) C (by decide +kernel) dJ13_or_78 rfl ?_
      refine x_aload_n C dJ13_or_100 rfl rfl ?_
      refine x_V0V C (met_J13_checkInvariants l C.1 hA1) mi_J13_checkInvariants q1769 gcJ13 hA1 ⟨rfl, rfl⟩ rfl ⟨Nat.le_of_ble_eq_true rfl, Nat.le_of_ble_eq_true rfl⟩ rfl dJ13_or_101 (fun M3 hr => ?_)
      rw [hr]
      refine x_vret C dJ13_or_104 ⟨Nat.le_of_ble_eq_true rfl, Nat.le_of_ble_eq_true rfl⟩ ⟨⟨wa, 0, sk, hA1, Eq.trans hA2 (clipL_cell (fun j hj => ?_)), by omega, fun _ => by rw [hz rfl, gz rfl]; rfl, hl⟩, ?_⟩
      · obtain rfl : j = 0 := by omega
        rw [hz rfl, gz rfl]; rfl
      ·
        exact gFl.rf
    · -- 1
      refine x_aload_n C dJ13_or_0 rfl rfl ?_
      refine x_aload_n C dJ13_or_1 rfl rfl ?_
      refine x_acmp_ne (rx := (some (o))) (ry := (some (o2))) (tgt := 6) C dJ13_or_2 rfl (fun _ => ?_) (fun q => absurd q (fun q : some o = some o2 => n1 (Option.some.inj q).symm))
      refine x_aload_n C dJ13_or_6 rfl rfl ?_
      refine x_get C gcJ13 hA1 1 rfl q490 rfl dJ13_or_7 ?_
      refine x_aload_n C dJ13_or_10 rfl rfl ?_
      refine x_get C gcJ13 g1 1 rfl q490 rfl dJ13_or_11 ?_
      refine x_S2I C (met_J0_min l C.1) mi_J0_min q1754 ⟨rfl, rfl⟩ rfl ⟨Nat.le_of_ble_eq_true rfl, Nat.le_of_ble_eq_true rfl⟩ rfl dJ13_or_14 (fun r5 M4 hr => ?_)
      obtain ⟨hr, rfl⟩ := hr
      rw [hr, show pMin (nI 0) (nI 1) = nI 0 by decide +kernel]
      refine x_istore_n C dJ13_or_17 rfl (gs1_2 rfl) rfl ?_
      refine x_aload_n C dJ13_or_18 rfl rfl ?_
      refine x_get C gcJ13 hA1 1 rfl q490 rfl dJ13_or_19 ?_
      refine x_aload_n C dJ13_or_22 rfl rfl ?_
      refine x_get C gcJ13 g1 1 rfl q490 rfl dJ13_or_23 ?_
      refine x_icmp_geF (tgt := 45) C (by decide +kernel) dJ13_or_26 rfl ?_
      refine x_aload_n C dJ13_or_29 rfl rfl ?_
      refine x_aload_n C dJ13_or_30 rfl rfl ?_
      refine x_get C gcJ13 g1 1 rfl q490 rfl dJ13_or_31 ?_
      refine x_V1V C (met_J13_ensureCapacity l C.1 ⟨wa, 0, sk, hA1, hA2, by omega, hz, hl⟩) mi_J13_ensureCapacity q1755 gcJ13 hA1 ⟨rfl, rfl⟩ rfl ⟨Nat.le_of_ble_eq_true rfl, Nat.le_of_ble_eq_true rfl⟩ rfl dJ13_or_34 (fun M6 hr => ?_)
      rw [hr]
      refine x_aload_n C dJ13_or_37 rfl rfl ?_
      refine x_aload_n C dJ13_or_38 rfl rfl ?_
      refine x_get C gcJ13 g1 1 rfl q490 rfl dJ13_or_39 ?_
      refine y_put (fs' := [.ref (wa), .int (nI 1), .int (sk)]) C gcJ13 hA1 1 rfl q490 rfl rfl rfl rfl rfl dJ13_or_42 (fun M7 h8 k9 => ?_)
      have h10 := (k9 _ (Ne.symm how)).trans hA2
      have h11 := (k9 _ n1).trans g1
      have h12 := (k9 _ n3).trans g2
      have k13 : ∀ zz : Nat, zz ≠ o → M7 zz = M0 zz := fun zz z0 => k9 zz z0
      refine x_iconst C dJ13_or_45 kc_0 ?_
      refine x_istore_n C dJ13_or_46 rfl (gs1_3 rfl) rfl ?_
      refine x_iload_n C dJ13_or_47 rfl rfl ?_
      refine x_iload_n C dJ13_or_48 rfl rfl ?_
      refine x_icmp_geT (tgt := 73) C (by decide +kernel) dJ13_or_49 rfl ?_
      refine x_iload_n C dJ13_or_73 rfl rfl ?_
      refine x_aload_n C dJ13_or_74 rfl rfl ?_
      refine x_get C gcJ13 h11 1 rfl q490 rfl dJ13_or_75 ?_
      refine x_icmp_geF (tgt := 100) C (by decide +kernel) dJ13_or_78 rfl ?_
      refine x_aload_n C dJ13_or_81 rfl rfl ?_
      refine x_get C gcJ13 h11 0 rfl q489 rfl dJ13_or_82 ?_
      refine x_iload_n C dJ13_or_85 rfl rfl ?_
      refine x_aload_n C dJ13_or_86 rfl rfl ?_
      refine x_get C gcJ13 h8 0 rfl q489 rfl dJ13_or_87 ?_
      refine x_iload_n C dJ13_or_90 rfl rfl ?_
      refine x_aload_n C dJ13_or_91 rfl rfl ?_
      refine x_get C gcJ13 h8 1 rfl q490 rfl dJ13_or_92 ?_
      refine x_iload_n C dJ13_or_95 rfl rfl ?_
      refine x_isubN C (by omega) dJ13_or_96 ?_
      refine x_copyl C 1 rfl h12 h10 (sp := 0) (dp := 0) (n9 := 1) (by omega) (by omega) (by omega) (by omega) q1768 q726 q725 q154 rfl dJ13_or_97 (fun M14 h15 k16 => ?_)
      have h17 := (k16 _ how).trans h8
      have h18 := (k16 _ n2).trans h11
      have h19 := (k16 _ n4).trans h12
      have k20 : ∀ zz : Nat, zz ≠ o → zz ≠ wa → M14 zz = M0 zz := fun zz z0 z1 => (k16 zz z1).trans (k13 zz z0)
      refine x_aload_n C dJ13_or_100 rfl rfl ?_
      refine x_V0V C (met_J13_checkInvariants l C.1 h17) mi_J13_checkInvariants q1769 gcJ13 h17 ⟨rfl, rfl⟩ rfl ⟨Nat.le_of_ble_eq_true rfl, Nat.le_of_ble_eq_true rfl⟩ rfl dJ13_or_101 (fun M21 hr => ?_)
      rw [hr]
      refine x_vret C dJ13_or_104 ⟨Nat.le_of_ble_eq_true rfl, Nat.le_of_ble_eq_true rfl⟩ ⟨⟨wa, 1, sk, h17, Eq.trans h15 (clipL_cell (fun j hj => ?_)), by omega, fun q => absurd q (by omega), hl⟩, ?_⟩
      · obtain rfl : j = 0 := by omega
        rw [pk_cpy_in (by omega) (by omega), hz rfl, Int64.zero_or]
      ·
        refine gFl.ofL [o, wa] (fun z hz => k20 z (fun e => hz (by rw [e]; simp)) (fun e => hz (by rw [e]; simp))) (fun z hz y hy => ?_)
        simp only [List.mem_cons, List.not_mem_nil, or_false] at hz
        rcases hz with rfl | rfl
        · rw [hA1] at hy; cases hy; exact ⟨Or.inl rfl, _, h17⟩
        · rw [hA2] at hy; cases hy; exact ⟨Or.inr rfl, _, h15⟩
  · -- 1
    rcases (by omega : wi2 = 0 ∨ wi2 = 1) with rfl | rfl
    · -- 0
      refine x_aload_n C dJ13_or_0 rfl rfl ?_
      refine x_aload_n C dJ13_or_1 rfl rfl ?_
      refine x_acmp_ne (rx := (some (o))) (ry := (some (o2))) (tgt := 6) C dJ13_or_2 rfl (fun _ => ?_) (fun q => absurd q (fun q : some o = some o2 => n1 (Option.some.inj q).symm))
      refine x_aload_n C dJ13_or_6 rfl rfl ?_
      refine x_get C gcJ13 hA1 1 rfl q490 rfl dJ13_or_7 ?_
      refine x_aload_n C dJ13_or_10 rfl rfl ?_
      refine x_get C gcJ13 g1 1 rfl q490 rfl dJ13_or_11 ?_
      refine x_S2I C (met_J0_min l C.1) mi_J0_min q1754 ⟨rfl, rfl⟩ rfl ⟨Nat.le_of_ble_eq_true rfl, Nat.le_of_ble_eq_true rfl⟩ rfl dJ13_or_14 (fun r23 M22 hr => ?_)
      obtain ⟨hr, rfl⟩ := hr
      rw [hr, show pMin (nI 1) (nI 0) = nI 0 by decide +kernel]
      refine x_istore_n C dJ13_or_17 rfl (gs1_2 rfl) rfl ?_
      refine x_aload_n C dJ13_or_18 rfl rfl ?_
      refine x_get C gcJ13 hA1 1 rfl q490 rfl dJ13_or_19 ?_
      refine x_aload_n C dJ13_or_22 rfl rfl ?_
      refine x_get C gcJ13 g1 1 rfl q490 rfl dJ13_or_23 ?_
      refine x_icmp_geT (tgt := 45) C (by decide +kernel) dJ13_or_26 rfl ?_
      refine x_iconst C dJ13_or_45 kc_0 ?_
      refine x_istore_n C dJ13_or_46 rfl (gs1_3 rfl) rfl ?_
      refine x_iload_n C dJ13_or_47 rfl rfl ?_
      refine x_iload_n C dJ13_or_48 rfl rfl ?_
      refine x_icmp_geT (tgt := 73) C (by decide +kernel) dJ13_or_49 rfl ?_
      refine x_iload_n C dJ13_or_73 rfl rfl ?_
      refine x_aload_n C dJ13_or_74 rfl rfl ?_
      refine x_get C gcJ13 g1 1 rfl q490 rfl dJ13_or_75 ?_
      refine x_icmp_geT (tgt := 100) C (by decide +kernel) dJ13_or_78 rfl ?_
      refine x_aload_n C dJ13_or_100 rfl rfl ?_
      refine x_V0V C (met_J13_checkInvariants l C.1 hA1) mi_J13_checkInvariants q1769 gcJ13 hA1 ⟨rfl, rfl⟩ rfl ⟨Nat.le_of_ble_eq_true rfl, Nat.le_of_ble_eq_true rfl⟩ rfl dJ13_or_101 (fun M24 hr => ?_)
      rw [hr]
      refine x_vret C dJ13_or_104 ⟨Nat.le_of_ble_eq_true rfl, Nat.le_of_ble_eq_true rfl⟩ ⟨⟨wa, 1, sk, hA1, Eq.trans hA2 (clipL_cell (fun j hj => ?_)), by omega, fun q => absurd q (by omega), hl⟩, ?_⟩
      · obtain rfl : j = 0 := by omega
        rw [gz rfl, Int64.or_zero]
      ·
        exact gFl.rf
    · -- 1
      refine x_aload_n C dJ13_or_0 rfl rfl ?_
      refine x_aload_n C dJ13_or_1 rfl rfl ?_
      refine x_acmp_ne (rx := (some (o))) (ry := (some (o2))) (tgt := 6) C dJ13_or_2 rfl (fun _ => ?_) (fun q => absurd q (fun q : some o = some o2 => n1 (Option.some.inj q).symm))
      refine x_aload_n C dJ13_or_6 rfl rfl ?_
      refine x_get C gcJ13 hA1 1 rfl q490 rfl dJ13_or_7 ?_
      refine x_aload_n C dJ13_or_10 rfl rfl ?_
      refine x_get C gcJ13 g1 1 rfl q490 rfl dJ13_or_11 ?_
      refine x_S2I C (met_J0_min l C.1) mi_J0_min q1754 ⟨rfl, rfl⟩ rfl ⟨Nat.le_of_ble_eq_true rfl, Nat.le_of_ble_eq_true rfl⟩ rfl dJ13_or_14 (fun r26 M25 hr => ?_)
      obtain ⟨hr, rfl⟩ := hr
      rw [hr, show pMin (nI 1) (nI 1) = nI 1 by decide +kernel]
      refine x_istore_n C dJ13_or_17 rfl (gs1_2 rfl) rfl ?_
      refine x_aload_n C dJ13_or_18 rfl rfl ?_
      refine x_get C gcJ13 hA1 1 rfl q490 rfl dJ13_or_19 ?_
      refine x_aload_n C dJ13_or_22 rfl rfl ?_
      refine x_get C gcJ13 g1 1 rfl q490 rfl dJ13_or_23 ?_
      refine x_icmp_geT (tgt := 45) C (by decide +kernel) dJ13_or_26 rfl ?_
      refine x_iconst C dJ13_or_45 kc_0 ?_
      refine x_istore_n C dJ13_or_46 rfl (gs1_3 rfl) rfl ?_
      refine x_iload_n C dJ13_or_47 rfl rfl ?_
      refine x_iload_n C dJ13_or_48 rfl rfl ?_
      refine x_icmp_geF (tgt := 73) C (by decide +kernel) dJ13_or_49 rfl ?_
      refine x_aload_n C dJ13_or_52 rfl rfl ?_
      refine x_get C gcJ13 hA1 0 rfl q489 rfl dJ13_or_53 ?_
      refine x_iload_n C dJ13_or_56 rfl rfl ?_
      refine x_dup2 C dJ13_or_57 rfl rfl ?_
      refine y_lald (i := 0) C hA2 rfl (by omega) rfl dJ13_or_58 ?_
      refine x_aload_n C dJ13_or_59 rfl rfl ?_
      refine x_get C gcJ13 g1 0 rfl q489 rfl dJ13_or_60 ?_
      refine x_iload_n C dJ13_or_63 rfl rfl ?_
      refine y_lald (i := 0) C g2 rfl (by omega) rfl dJ13_or_64 ?_
      refine x_lor C dJ13_or_65 ?_
      refine y_last (i := 0) C hA2 rfl (by omega) rfl dJ13_or_66 (fun M27 h28 k29 => ?_)
      have h30 := (k29 _ how).trans hA1
      have h31 := (k29 _ n2).trans g1
      have h32 := (k29 _ n4).trans g2
      have k33 : ∀ zz : Nat, zz ≠ wa → M27 zz = M0 zz := fun zz z0 => k29 zz z0
      refine x_iincN (z := 1) C dJ13_or_67 rfl (gs1_3 rfl) rfl ?_
      refine x_goto (tgt := 47) C dJ13_or_70 rfl ?_
      refine x_iload_n C dJ13_or_47 rfl rfl ?_
      refine x_iload_n C dJ13_or_48 rfl rfl ?_
      refine x_icmp_geT (tgt := 73) C (by decide +kernel) dJ13_or_49 rfl ?_
      refine x_iload_n C dJ13_or_73 rfl rfl ?_
      refine x_aload_n C dJ13_or_74 rfl rfl ?_
      refine x_get C gcJ13 h31 1 rfl q490 rfl dJ13_or_75 ?_
      refine x_icmp_geT (tgt := 100) C (by decide +kernel) dJ13_or_78 rfl ?_
      refine x_aload_n C dJ13_or_100 rfl rfl ?_
      refine x_V0V C (met_J13_checkInvariants l C.1 h30) mi_J13_checkInvariants q1769 gcJ13 h30 ⟨rfl, rfl⟩ rfl ⟨Nat.le_of_ble_eq_true rfl, Nat.le_of_ble_eq_true rfl⟩ rfl dJ13_or_101 (fun M34 hr => ?_)
      rw [hr]
      refine x_vret C dJ13_or_104 ⟨Nat.le_of_ble_eq_true rfl, Nat.le_of_ble_eq_true rfl⟩ ⟨⟨wa, 1, sk, h30, Eq.trans h28 (clipL_cell (fun j hj => ?_)), by omega, fun q => absurd q (by omega), hl⟩, ?_⟩
      · obtain rfl : j = 0 := by omega
        exact pk_uLs
      ·
        refine gFl.ofL [wa] (fun z hz => k33 z (fun e => hz (by rw [e]; simp))) (fun z hz y hy => ?_)
        simp only [List.mem_cons, List.not_mem_nil, or_false] at hz
        rcases hz with rfl
        · rw [hA2] at hy; cases hy; exact ⟨Or.inr rfl, _, h28⟩
