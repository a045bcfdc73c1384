set_option maxRecDepth 100000
theorem mf_J28_J28_hasNext_Iterator : gMF RJ28 ⟨"java/util/Iterator", "hasNext", "()Z"⟩ yJ28_hasNext cJ28_hasNext 1 (some .boolean) 0 := ⟨q993, q995, q161, q997, ⟨q975, q974, q996, q994, q992⟩, by decide +kernel⟩
theorem mf_J28_J28_next_Iterator : gMF RJ28 ⟨"java/util/Iterator", "next", "()Ljava/lang/Object;"⟩ yJ28_next cJ28_next 1 (some (.object "java/lang/Object")) 0 := ⟨q1097, q1099, q161, q1101, ⟨q1001, q1000, q1100, q1098, q992⟩, by decide +kernel⟩
theorem mi_X5_many : gMV RX5 yX5_many cX5_many 1 (some .int) 0 := ⟨q580, q581, q136, q582, by decide +kernel⟩
set_option maxHeartbeats 4000000 in
set_option maxRecDepth 100000 in
theorem met_X5_many (l : Launch) {G : gG} (hG : gOK G) {M0 : gM} {r tx : Nat} {ta : Nat → Nat} {mc : Nat → Int32} {nd it : Nat → Nat → Nat} {cnt : Nat → Nat} {tr : Nat → Nat → Nat → Int32} {w : Nat → Int32} (h : TR G r tx ta mc nd it cnt tr w M0) : Met l yX5_many (ws_ yX5_many cX5_many 1 (some .int)) ({ frames := 1, cells := 0, slots := 0, locals := 20 }) (gPre G M0 [.ref (tx)]) (gQ G (gI (fun r9 M1 => M1 = M0 ∧ nI (cnt 1) = r9))) 0 0 (gA G) := by
  refine gMet (L0 := [some (.ref (tx))]) RX5 hG (by decide +kernel) rfl (Nat.le_of_ble_eq_true rfl) rfl ?_
  intro p e s m args below meth c C hnm
  refine x_aload_n C dX5_many_0 rfl rfl ?_
  refine x_get C gcX5 h.1 0 rfl q385 rfl dX5_many_1 ?_
  refine x_V0I C (met_J11_size l C.1 (h.ll (j := 1) (by omega) (by omega))) mi_J11_size q583 gcJ11 (h.ll (j := 1) (by omega) (by omega)).1 ⟨rfl, rfl⟩ rfl ⟨Nat.le_of_ble_eq_true rfl, Nat.le_of_ble_eq_true rfl⟩ rfl dX5_many_4 (fun r2 M1 hr => ?_)
  obtain ⟨hr, rfl⟩ := hr
  rw [hr]
  exact x_iret C dX5_many_7 ⟨Nat.le_of_ble_eq_true rfl, Nat.le_of_ble_eq_true rfl⟩ ⟨rfl, rfl⟩
theorem mi_X5_trader : gMV RX5 yX5_trader cX5_trader 2 (some (.object "ExemptDesk$Trader")) 1 := ⟨q588, q589, q136, q590, by decide +kernel⟩
set_option maxHeartbeats 4000000 in
set_option maxRecDepth 100000 in
theorem met_X5_trader (l : Launch) {G : gG} (hG : gOK G) {M0 : gM} {r tx : Nat} {ta : Nat → Nat} {mc : Nat → Int32} {nd it : Nat → Nat → Nat} {cnt : Nat → Nat} {tr : Nat → Nat → Nat → Int32} {w : Nat → Int32} {t : Nat} (h : TR G r tx ta mc nd it cnt tr w M0) (ht : t < cnt 1) : Met l yX5_trader (ws_ yX5_trader cX5_trader 2 (some (.object "ExemptDesk$Trader"))) ({ frames := 3, cells := 0, slots := 0, locals := 63 }) (gPre G M0 [.ref (tx), .int (nI t)]) (gQ G (gR (fun r9 M1 => M1 = M0 ∧ it 1 t = r9))) 0 0 (gA G) := by
  refine gMet (L0 := [some (.ref (tx)), some (.int (nI t))]) RX5 hG (by decide +kernel) rfl (Nat.le_of_ble_eq_true rfl) rfl ?_
  intro p e s m args below meth c C hnm
  refine x_aload_n C dX5_trader_0 rfl rfl ?_
  refine x_get C gcX5 h.1 0 rfl q385 rfl dX5_trader_1 ?_
  refine x_iload_n C dX5_trader_4 rfl rfl ?_
  refine x_V1R C (met_J11_get l C.1 (h.ll (j := 1) (by omega) (by omega)) ht) mi_J11_get q591 gcJ11 (h.ll (j := 1) (by omega) (by omega)).1 ⟨rfl, rfl⟩ rfl ⟨Nat.le_of_ble_eq_true rfl, Nat.le_of_ble_eq_true rfl⟩ rfl dX5_trader_5 (fun r2 M1 hr => ?_)
  obtain ⟨hr, rfl⟩ := hr
  rw [hr]
  refine x_castS C gcX11 (h.at1 ht) q916 dX5_trader_8 ?_
  exact x_aret C dX5_trader_11 ⟨Nat.le_of_ble_eq_true rfl, Nat.le_of_ble_eq_true rfl⟩ ⟨rfl, rfl⟩
theorem mi_X5_closed : gMV RX5 yX5_closed cX5_closed 1 (some (.object "ExemptDesk$Text")) 0 := ⟨q436, q437, q136, q438, by decide +kernel⟩
set_option maxHeartbeats 4000000 in
set_option maxRecDepth 100000 in
theorem met_X5_closed (l : Launch) {G : gG} (hG : gOK G) {M0 : gM} {r tx : Nat} {ta : Nat → Nat} {mc : Nat → Int32} {nd it : Nat → Nat → Nat} {cnt : Nat → Nat} {tr : Nat → Nat → Nat → Int32} {w : Nat → Int32} (h : TR G r tx ta mc nd it cnt tr w M0) : Met l yX5_closed (ws_ yX5_closed cX5_closed 1 (some (.object "ExemptDesk$Text"))) ({ frames := 1, cells := 0, slots := 0, locals := 21 }) (gPre G M0 [.ref (tx)]) (gQ G (gR (fun r9 M1 => r9 = tx ∧ TR G r tx ta mc nd it cnt tr (fnL 0 [pMax (nI 0) (w 0), if w 1 = -1 then nI 100 else w 1, pMax (nI 0) (w 2), pMax (nI 0) (w 3), w 4]) M1 ∧ gFl (fun l => l = (r, 0)) M0 M1))) 0 0 (gA G) := by
  refine gMet (L0 := [some (.ref (tx))]) RX5 hG (by decide +kernel) rfl (Nat.le_of_ble_eq_true rfl) rfl ?_
  intro p e s m args below meth c C hnm
  refine x_aload_n C dX5_closed_0 rfl rfl ?_
  refine x_iconst C dX5_closed_1 kc_0 ?_
  refine x_aload_n C dX5_closed_2 rfl rfl ?_
  refine x_get C gcX5 h.1 4 rfl q399 rfl dX5_closed_3 ?_
  refine x_S2I C (met_J0_max l C.1) mi_J0_max q439 ⟨rfl, rfl⟩ rfl ⟨Nat.le_of_ble_eq_true rfl, Nat.le_of_ble_eq_true rfl⟩ rfl dX5_closed_6 (fun r2 M1 hr => ?_)
  obtain ⟨hr, rfl⟩ := hr
  rw [hr]
  refine y_put (fs' := [.ref (ta 1), .ref (ta 2), .ref (ta 3), .ref (ta 4), .int (pMax (nI 0) (w 0)), .int (w 1), .int (w 2), .int (w 3), .int (w 4)]) C gcX5 h.1 4 rfl q399 rfl rfl rfl rfl rfl dX5_closed_9 (fun M3 h4 k5 => ?_)
  have h6 := (k5 _ (gM_ne (h.ll (j := 1) (by omega) (by omega)).1 h.1 (by omega))).trans (h.ll (j := 1) (by omega) (by omega)).1
  have h7 := (k5 _ (gM_ne (h.ll (j := 2) (by omega) (by omega)).1 h.1 (by omega))).trans (h.ll (j := 2) (by omega) (by omega)).1
  have h8 := (k5 _ (gM_ne (h.ll (j := 3) (by omega) (by omega)).1 h.1 (by omega))).trans (h.ll (j := 3) (by omega) (by omega)).1
  have h9 := (k5 _ (gM_ne (h.ll (j := 4) (by omega) (by omega)).1 h.1 (by omega))).trans (h.ll (j := 4) (by omega) (by omega)).1
  have k10 : ∀ zz : Nat, zz ≠ tx → M3 zz = M0 zz := fun zz z0 => k5 zz z0
  refine x_aload_n C dX5_closed_12 rfl rfl ?_
  refine x_aload_n C dX5_closed_13 rfl rfl ?_
  refine x_get C gcX5 h4 5 rfl q403 rfl dX5_closed_14 ?_
  refine x_iconst C dX5_closed_17 kc_m1 ?_
  refine x_icmp_ne (tgt := 26) C dX5_closed_18 rfl (fun c18 => ?_) (fun c18 => ?_)
  · -- 26
    refine x_aload_n C dX5_closed_26 rfl rfl ?_
    refine x_get C gcX5 h4 5 rfl q403 rfl dX5_closed_27 ?_
    refine y_put (fs' := [.ref (ta 1), .ref (ta 2), .ref (ta 3), .ref (ta 4), .int (pMax (nI 0) (w 0)), .int (w 1), .int (w 2), .int (w 3), .int (w 4)]) C gcX5 h4 5 rfl q403 rfl rfl rfl rfl rfl dX5_closed_30 (fun M11 h12 k13 => ?_)
    have h14 := (k13 _ (gM_ne h6 h4 (by omega))).trans h6
    have h15 := (k13 _ (gM_ne h7 h4 (by omega))).trans h7
    have h16 := (k13 _ (gM_ne h8 h4 (by omega))).trans h8
    have h17 := (k13 _ (gM_ne h9 h4 (by omega))).trans h9
    have k18 : ∀ zz : Nat, zz ≠ tx → M11 zz = M0 zz := fun zz z0 => (k13 zz z0).trans (k10 zz z0)
    refine x_aload_n C dX5_closed_33 rfl rfl ?_
    refine x_iconst C dX5_closed_34 kc_0 ?_
    refine x_aload_n C dX5_closed_35 rfl rfl ?_
    refine x_get C gcX5 h12 6 rfl q407 rfl dX5_closed_36 ?_
    refine x_S2I C (met_J0_max l C.1) mi_J0_max q439 ⟨rfl, rfl⟩ rfl ⟨Nat.le_of_ble_eq_true rfl, Nat.le_of_ble_eq_true rfl⟩ rfl dX5_closed_39 (fun r20 M19 hr => ?_)
    obtain ⟨hr, rfl⟩ := hr
    rw [hr]
    refine y_put (fs' := [.ref (ta 1), .ref (ta 2), .ref (ta 3), .ref (ta 4), .int (pMax (nI 0) (w 0)), .int (w 1), .int (pMax (nI 0) (w 2)), .int (w 3), .int (w 4)]) C gcX5 h12 6 rfl q407 rfl rfl rfl rfl rfl dX5_closed_42 (fun M21 h22 k23 => ?_)
    have h24 := (k23 _ (gM_ne h14 h12 (by omega))).trans h14
    have h25 := (k23 _ (gM_ne h15 h12 (by omega))).trans h15
    have h26 := (k23 _ (gM_ne h16 h12 (by omega))).trans h16
    have h27 := (k23 _ (gM_ne h17 h12 (by omega))).trans h17
    have k28 : ∀ zz : Nat, zz ≠ tx → M21 zz = M0 zz := fun zz z0 => (k23 zz z0).trans (k18 zz z0)
    refine x_aload_n C dX5_closed_45 rfl rfl ?_
    refine x_iconst C dX5_closed_46 kc_0 ?_
    refine x_aload_n C dX5_closed_47 rfl rfl ?_
    refine x_get C gcX5 h22 7 rfl q411 rfl dX5_closed_48 ?_
    refine x_S2I C (met_J0_max l C.1) mi_J0_max q439 ⟨rfl, rfl⟩ rfl ⟨Nat.le_of_ble_eq_true rfl, Nat.le_of_ble_eq_true rfl⟩ rfl dX5_closed_51 (fun r30 M29 hr => ?_)
    obtain ⟨hr, rfl⟩ := hr
    rw [hr]
    refine y_put (fs' := [.ref (ta 1), .ref (ta 2), .ref (ta 3), .ref (ta 4), .int (pMax (nI 0) (w 0)), .int (w 1), .int (pMax (nI 0) (w 2)), .int (pMax (nI 0) (w 3)), .int (w 4)]) C gcX5 h22 7 rfl q411 rfl rfl rfl rfl rfl dX5_closed_54 (fun M31 h32 k33 => ?_)
    have h34 := (k33 _ (gM_ne h24 h22 (by omega))).trans h24
    have h35 := (k33 _ (gM_ne h25 h22 (by omega))).trans h25
    have h36 := (k33 _ (gM_ne h26 h22 (by omega))).trans h26
    have h37 := (k33 _ (gM_ne h27 h22 (by omega))).trans h27
    have k38 : ∀ zz : Nat, zz ≠ tx → M31 zz = M0 zz := fun zz z0 => (k33 zz z0).trans (k28 zz z0)
    refine x_aload_n C dX5_closed_57 rfl rfl ?_
    refine x_aret C dX5_closed_58 ⟨Nat.le_of_ble_eq_true rfl, Nat.le_of_ble_eq_true rfl⟩ ⟨rfl, h.words (w' := fnL 0 [pMax (nI 0) (w 0), if w 1 = -1 then nI 100 else w 1, pMax (nI 0) (w 2), pMax (nI 0) (w 3), w 4]) ?_ k38, gFl.of1 h.1 h32 k38 rfl⟩
    have e9 := h32
    show M31 tx = some ((r, 0), (.inr (20, [.ref (ta 1), .ref (ta 2), .ref (ta 3), .ref (ta 4), .int (pMax (nI 0) (w 0)), .int (if w 1 = -1 then nI 100 else w 1), .int (pMax (nI 0) (w 2)), .int (pMax (nI 0) (w 3)), .int (w 4)]) : va_E))
    rw [if_neg c18]; exact e9
  · -- 21
    refine x_bipush C dX5_closed_21 kb_100 ?_
    refine x_goto (tgt := 30) C dX5_closed_23 rfl ?_
    refine y_put (fs' := [.ref (ta 1), .ref (ta 2), .ref (ta 3), .ref (ta 4), .int (pMax (nI 0) (w 0)), .int (nI 100), .int (w 2), .int (w 3), .int (w 4)]) C gcX5 h4 5 rfl q403 rfl rfl rfl rfl rfl dX5_closed_30 (fun M39 h40 k41 => ?_)
    have h42 := (k41 _ (gM_ne h6 h4 (by omega))).trans h6
    have h43 := (k41 _ (gM_ne h7 h4 (by omega))).trans h7
    have h44 := (k41 _ (gM_ne h8 h4 (by omega))).trans h8
    have h45 := (k41 _ (gM_ne h9 h4 (by omega))).trans h9
    have k46 : ∀ zz : Nat, zz ≠ tx → M39 zz = M0 zz := fun zz z0 => (k41 zz z0).trans (k10 zz z0)
    refine x_aload_n C dX5_closed_33 rfl rfl ?_
    refine x_iconst C dX5_closed_34 kc_0 ?_
    refine x_aload_n C dX5_closed_35 rfl rfl ?_
    refine x_get C gcX5 h40 6 rfl q407 rfl dX5_closed_36 ?_
    refine x_S2I C (met_J0_max l C.1) mi_J0_max q439 ⟨rfl, rfl⟩ rfl ⟨Nat.le_of_ble_eq_true rfl, Nat.le_of_ble_eq_true rfl⟩ rfl dX5_closed_39 (fun r48 M47 hr => ?_)
    obtain ⟨hr, rfl⟩ := hr
    rw [hr]
    refine y_put (fs' := [.ref (ta 1), .ref (ta 2), .ref (ta 3), .ref (ta 4), .int (pMax (nI 0) (w 0)), .int (nI 100), .int (pMax (nI 0) (w 2)), .int (w 3), .int (w 4)]) C gcX5 h40 6 rfl q407 rfl rfl rfl rfl rfl dX5_closed_42 (fun M49 h50 k51 => ?_)
    have h52 := (k51 _ (gM_ne h42 h40 (by omega))).trans h42
    have h53 := (k51 _ (gM_ne h43 h40 (by omega))).trans h43
    have h54 := (k51 _ (gM_ne h44 h40 (by omega))).trans h44
    have h55 := (k51 _ (gM_ne h45 h40 (by omega))).trans h45
    have k56 : ∀ zz : Nat, zz ≠ tx → M49 zz = M0 zz := fun zz z0 => (k51 zz z0).trans (k46 zz z0)
    refine x_aload_n C dX5_closed_45 rfl rfl ?_
    refine x_iconst C dX5_closed_46 kc_0 ?_
    refine x_aload_n C dX5_closed_47 rfl rfl ?_
    refine x_get C gcX5 h50 7 rfl q411 rfl dX5_closed_48 ?_
    refine x_S2I C (met_J0_max l C.1) mi_J0_max q439 ⟨rfl, rfl⟩ rfl ⟨Nat.le_of_ble_eq_true rfl, Nat.le_of_ble_eq_true rfl⟩ rfl dX5_closed_51 (fun r58 M57 hr => ?_)
    obtain ⟨hr, rfl⟩ := hr
    rw [hr]
    refine y_put (fs' := [.ref (ta 1), .ref (ta 2), .ref (ta 3), .ref (ta 4), .int (pMax (nI 0) (w 0)), .int (nI 100), .int (pMax (nI 0) (w 2)), .int (pMax (nI 0) (w 3)), .int (w 4)]) C gcX5 h50 7 rfl q411 rfl rfl rfl rfl rfl dX5_closed_54 (fun M59 h60 k61 => ?_)
    have h62 := (k61 _ (gM_ne h52 h50 (by omega))).trans h52
    have h63 := (k61 _ (gM_ne h53 h50 (by omega))).trans h53
    have h64 := (k61 _ (gM_ne h54 h50 (by omega))).trans h54
    have h65 := (k61 _ (gM_ne h55 h50 (by omega))).trans h55
    have k66 : ∀ zz : Nat, zz ≠ tx → M59 zz = M0 zz := fun zz z0 => (k61 zz z0).trans (k56 zz z0)
    refine x_aload_n C dX5_closed_57 rfl rfl ?_
    refine x_aret C dX5_closed_58 ⟨Nat.le_of_ble_eq_true rfl, Nat.le_of_ble_eq_true rfl⟩ ⟨rfl, h.words (w' := fnL 0 [pMax (nI 0) (w 0), if w 1 = -1 then nI 100 else w 1, pMax (nI 0) (w 2), pMax (nI 0) (w 3), w 4]) ?_ k66, gFl.of1 h.1 h60 k66 rfl⟩
    have e9 := h60
    show M59 tx = some ((r, 0), (.inr (20, [.ref (ta 1), .ref (ta 2), .ref (ta 3), .ref (ta 4), .int (pMax (nI 0) (w 0)), .int (if w 1 = -1 then nI 100 else w 1), .int (pMax (nI 0) (w 2)), .int (pMax (nI 0) (w 3)), .int (w 4)]) : va_E))
    rw [if_pos c18]; exact e9
theorem mi_X5_init : gMI yX5_init cX5_init 1 0 := ⟨q352, q136, q353, rfl, by decide +kernel⟩
set_option maxHeartbeats 4000000 in
set_option maxRecDepth 100000 in
theorem met_X5_init (l : Launch) {G : gG} (hG : gOK G) {M0 : gM} {a : Nat} (r : Nat) (h0 : M0 a = some ((r, 0), .inr (20, [.null, .null, .null, .null, .int (nI 0), .int (nI 0), .int (nI 0), .int (nI 0), .int (nI 0)]))) : Met l yX5_init (ws_ yX5_init cX5_init 1 none) ({ frames := 5, cells := 4, slots := 16, locals := 92 }) (gPre G M0 [.ref (a)]) (gQ G (gV (fun M1 => ∃ ta : Nat → Nat, TR G r a ta (fun _ => nI 0) (fun _ _ => 0) (fun _ _ => 0) (fun _ => 0) (fun _ _ _ => 0) (fnL 0 [-1, -1, -1, -1, 0]) M1 ∧ M0 (ta 1) = none ∧ M0 (ta 2) = none ∧ M0 (ta 3) = none ∧ M0 (ta 4) = none ∧ ∀ z, z ≠ a → ¬ M0 z = none → M1 z = M0 z))) 4 16 (gA G) := by
  refine gMet (L0 := [some (.ref (a))]) RX5 hG (by decide +kernel) rfl (Nat.le_of_ble_eq_true rfl) rfl ?_
  intro p e s m args below meth c C hnm
  refine x_aload_n C dX5_init_0 rfl rfl ?_
  refine x_objInit C q354 q182 q183 rfl dX5_init_1 ?_
  refine x_aload_n C dX5_init_4 rfl rfl ?_
  refine y_new (fs := [.int (nI 0), .int (nI 0), .null, .null]) C (fun a => (r, 1)) gcJ11 q355 q356 q139 rfl ⟨Nat.le_of_ble_eq_true rfl, Nat.le_of_ble_eq_true rfl⟩ dX5_init_5 (fun a1 M2 n3 g4 h5 k6 => ?_)
  have e7 : a ≠ a1 := gM_nn h0 n3
  have h8 := (k6 _ e7).trans h0
  have k9 : ∀ zz : Nat, zz ≠ a1 → M2 zz = M0 zz := fun zz z0 => k6 zz z0
  refine x_dup C dX5_init_8 rfl ?_
  refine x_I0 C (met_J11_init l C.1 h5) mi_J11_init q357 ⟨rfl, rfl⟩ rfl ⟨Nat.le_of_ble_eq_true rfl, Nat.le_of_ble_eq_true rfl⟩ rfl dX5_init_9 (fun M10 hr => ?_)
  rw [hr]
  refine y_putF (fs' := [.ref (a1), .null, .null, .null, .int (nI 0), .int (nI 0), .int (nI 0), .int (nI 0), .int (nI 0)]) C (hnm rfl) gcX5 h8 0 rfl q385 rfl rfl rfl rfl rfl rfl dX5_init_12 (fun M11 h12 k13 => ?_)
  have h14 := (k13 _ (Ne.symm e7)).trans h5
  have k15 : ∀ zz : Nat, zz ≠ a1 → zz ≠ a → M11 zz = M0 zz := fun zz z0 z1 => (k13 zz z1).trans (k9 zz z0)
  refine x_aload_n C dX5_init_15 rfl rfl ?_
  refine y_new (fs := [.int (nI 0), .int (nI 0), .null, .null]) C (fun a => (r, 2)) gcJ11 q355 q356 q139 rfl ⟨Nat.le_of_ble_eq_true rfl, Nat.le_of_ble_eq_true rfl⟩ dX5_init_16 (fun a16 M17 n18 g19 h20 k21 => ?_)
  have e22 : a1 ≠ a16 := gM_nn h14 n18
  have e23 : a ≠ a16 := gM_nn h12 n18
  have n24 := (k15 a16 (Ne.symm e22) (Ne.symm e23)).symm.trans n18
  have e25 : a ≠ a16 := gM_nn h12 n18
  have e26 : a1 ≠ a16 := gM_nn h14 n18
  have h27 := (k21 _ e25).trans h12
  have h28 := (k21 _ e26).trans h14
  have k29 : ∀ zz : Nat, zz ≠ a1 → zz ≠ a → zz ≠ a16 → M17 zz = M0 zz := fun zz z0 z1 z2 => (k21 zz z2).trans (k15 zz z0 z1)
  refine x_dup C dX5_init_19 rfl ?_
  refine x_I0 C (met_J11_init l C.1 h20) mi_J11_init q357 ⟨rfl, rfl⟩ rfl ⟨Nat.le_of_ble_eq_true rfl, Nat.le_of_ble_eq_true rfl⟩ rfl dX5_init_20 (fun M30 hr => ?_)
  rw [hr]
  refine y_putF (fs' := [.ref (a1), .ref (a16), .null, .null, .int (nI 0), .int (nI 0), .int (nI 0), .int (nI 0), .int (nI 0)]) C (hnm rfl) gcX5 h27 1 rfl q387 rfl rfl rfl rfl rfl rfl dX5_init_23 (fun M31 h32 k33 => ?_)
  have h34 := (k33 _ (Ne.symm e7)).trans h28
  have h35 := (k33 _ (Ne.symm e25)).trans h20
  have k36 : ∀ zz : Nat, zz ≠ a1 → zz ≠ a → zz ≠ a16 → M31 zz = M0 zz := fun zz z0 z1 z2 => (k33 zz z1).trans (k29 zz z0 z1 z2)
  refine x_aload_n C dX5_init_26 rfl rfl ?_
  refine y_new (fs := [.int (nI 0), .int (nI 0), .null, .null]) C (fun a => (r, 3)) gcJ11 q355 q356 q139 rfl ⟨Nat.le_of_ble_eq_true rfl, Nat.le_of_ble_eq_true rfl⟩ dX5_init_27 (fun a37 M38 n39 g40 h41 k42 => ?_)
  have e43 : a1 ≠ a37 := gM_nn h34 n39
  have e44 : a ≠ a37 := gM_nn h32 n39
  have e45 : a16 ≠ a37 := gM_nn h35 n39
  have n46 := (k36 a37 (Ne.symm e43) (Ne.symm e44) (Ne.symm e45)).symm.trans n39
  have e47 : a ≠ a37 := gM_nn h32 n39
  have e48 : a1 ≠ a37 := gM_nn h34 n39
  have e49 : a16 ≠ a37 := gM_nn h35 n39
  have h50 := (k42 _ e47).trans h32
  have h51 := (k42 _ e48).trans h34
  have h52 := (k42 _ e49).trans h35
  have k53 : ∀ zz : Nat, zz ≠ a1 → zz ≠ a → zz ≠ a16 → zz ≠ a37 → M38 zz = M0 zz := fun zz z0 z1 z2 z3 => (k42 zz z3).trans (k36 zz z0 z1 z2)
  refine x_dup C dX5_init_30 rfl ?_
  refine x_I0 C (met_J11_init l C.1 h41) mi_J11_init q357 ⟨rfl, rfl⟩ rfl ⟨Nat.le_of_ble_eq_true rfl, Nat.le_of_ble_eq_true rfl⟩ rfl dX5_init_31 (fun M54 hr => ?_)
  rw [hr]
  refine y_putF (fs' := [.ref (a1), .ref (a16), .ref (a37), .null, .int (nI 0), .int (nI 0), .int (nI 0), .int (nI 0), .int (nI 0)]) C (hnm rfl) gcX5 h50 2 rfl q391 rfl rfl rfl rfl rfl rfl dX5_init_34 (fun M55 h56 k57 => ?_)
  have h58 := (k57 _ (Ne.symm e7)).trans h51
  have h59 := (k57 _ (Ne.symm e25)).trans h52
  have h60 := (k57 _ (Ne.symm e47)).trans h41
  have k61 : ∀ zz : Nat, zz ≠ a1 → zz ≠ a → zz ≠ a16 → zz ≠ a37 → M55 zz = M0 zz := fun zz z0 z1 z2 z3 => (k57 zz z1).trans (k53 zz z0 z1 z2 z3)
  refine x_aload_n C dX5_init_37 rfl rfl ?_
  refine y_new (fs := [.int (nI 0), .int (nI 0), .null, .null]) C (fun a => (r, 4)) gcJ11 q355 q356 q139 rfl ⟨Nat.le_of_ble_eq_true rfl, Nat.le_of_ble_eq_true rfl⟩ dX5_init_38 (fun a62 M63 n64 g65 h66 k67 => ?_)
  have e68 : a1 ≠ a62 := gM_nn h58 n64
  have e69 : a ≠ a62 := gM_nn h56 n64
  have e70 : a16 ≠ a62 := gM_nn h59 n64
  have e71 : a37 ≠ a62 := gM_nn h60 n64
  have n72 := (k61 a62 (Ne.symm e68) (Ne.symm e69) (Ne.symm e70) (Ne.symm e71)).symm.trans n64
  have e73 : a ≠ a62 := gM_nn h56 n64
  have e74 : a1 ≠ a62 := gM_nn h58 n64
  have e75 : a16 ≠ a62 := gM_nn h59 n64
  have e76 : a37 ≠ a62 := gM_nn h60 n64
  have h77 := (k67 _ e73).trans h56
  have h78 := (k67 _ e74).trans h58
  have h79 := (k67 _ e75).trans h59
  have h80 := (k67 _ e76).trans h60
  have k81 : ∀ zz : Nat, zz ≠ a1 → zz ≠ a → zz ≠ a16 → zz ≠ a37 → zz ≠ a62 → M63 zz = M0 zz := fun zz z0 z1 z2 z3 z4 => (k67 zz z4).trans (k61 zz z0 z1 z2 z3)
  refine x_dup C dX5_init_41 rfl ?_
  refine x_I0 C (met_J11_init l C.1 h66) mi_J11_init q357 ⟨rfl, rfl⟩ rfl ⟨Nat.le_of_ble_eq_true rfl, Nat.le_of_ble_eq_true rfl⟩ rfl dX5_init_42 (fun M82 hr => ?_)
  rw [hr]
  refine y_putF (fs' := [.ref (a1), .ref (a16), .ref (a37), .ref (a62), .int (nI 0), .int (nI 0), .int (nI 0), .int (nI 0), .int (nI 0)]) C (hnm rfl) gcX5 h77 3 rfl q395 rfl rfl rfl rfl rfl rfl dX5_init_45 (fun M83 h84 k85 => ?_)
  have h86 := (k85 _ (Ne.symm e7)).trans h78
  have h87 := (k85 _ (Ne.symm e25)).trans h79
  have h88 := (k85 _ (Ne.symm e47)).trans h80
  have h89 := (k85 _ (Ne.symm e73)).trans h66
  have k90 : ∀ zz : Nat, zz ≠ a1 → zz ≠ a → zz ≠ a16 → zz ≠ a37 → zz ≠ a62 → M83 zz = M0 zz := fun zz z0 z1 z2 z3 z4 => (k85 zz z1).trans (k81 zz z0 z1 z2 z3 z4)
  refine x_aload_n C dX5_init_48 rfl rfl ?_
  refine x_iconst C dX5_init_49 kc_m1 ?_
  refine y_put (fs' := [.ref (a1), .ref (a16), .ref (a37), .ref (a62), .int ((-1)), .int (nI 0), .int (nI 0), .int (nI 0), .int (nI 0)]) C gcX5 h84 4 rfl q399 rfl rfl rfl rfl rfl dX5_init_50 (fun M91 h92 k93 => ?_)
  have h94 := (k93 _ (Ne.symm e7)).trans h86
  have h95 := (k93 _ (Ne.symm e25)).trans h87
  have h96 := (k93 _ (Ne.symm e47)).trans h88
  have h97 := (k93 _ (Ne.symm e73)).trans h89
  have k98 : ∀ zz : Nat, zz ≠ a1 → zz ≠ a → zz ≠ a16 → zz ≠ a37 → zz ≠ a62 → M91 zz = M0 zz := fun zz z0 z1 z2 z3 z4 => (k93 zz z1).trans (k90 zz z0 z1 z2 z3 z4)
  refine x_aload_n C dX5_init_53 rfl rfl ?_
  refine x_iconst C dX5_init_54 kc_m1 ?_
  refine y_put (fs' := [.ref (a1), .ref (a16), .ref (a37), .ref (a62), .int ((-1)), .int ((-1)), .int (nI 0), .int (nI 0), .int (nI 0)]) C gcX5 h92 5 rfl q403 rfl rfl rfl rfl rfl dX5_init_55 (fun M99 h100 k101 => ?_)
  have h102 := (k101 _ (Ne.symm e7)).trans h94
  have h103 := (k101 _ (Ne.symm e25)).trans h95
  have h104 := (k101 _ (Ne.symm e47)).trans h96
  have h105 := (k101 _ (Ne.symm e73)).trans h97
  have k106 : ∀ zz : Nat, zz ≠ a1 → zz ≠ a → zz ≠ a16 → zz ≠ a37 → zz ≠ a62 → M99 zz = M0 zz := fun zz z0 z1 z2 z3 z4 => (k101 zz z1).trans (k98 zz z0 z1 z2 z3 z4)
  refine x_aload_n C dX5_init_58 rfl rfl ?_
  refine x_iconst C dX5_init_59 kc_m1 ?_
  refine y_put (fs' := [.ref (a1), .ref (a16), .ref (a37), .ref (a62), .int ((-1)), .int ((-1)), .int ((-1)), .int (nI 0), .int (nI 0)]) C gcX5 h100 6 rfl q407 rfl rfl rfl rfl rfl dX5_init_60 (fun M107 h108 k109 => ?_)
  have h110 := (k109 _ (Ne.symm e7)).trans h102
  have h111 := (k109 _ (Ne.symm e25)).trans h103
  have h112 := (k109 _ (Ne.symm e47)).trans h104
  have h113 := (k109 _ (Ne.symm e73)).trans h105
  have k114 : ∀ zz : Nat, zz ≠ a1 → zz ≠ a → zz ≠ a16 → zz ≠ a37 → zz ≠ a62 → M107 zz = M0 zz := fun zz z0 z1 z2 z3 z4 => (k109 zz z1).trans (k106 zz z0 z1 z2 z3 z4)
  refine x_aload_n C dX5_init_63 rfl rfl ?_
  refine x_iconst C dX5_init_64 kc_m1 ?_
  refine y_put (fs' := [.ref (a1), .ref (a16), .ref (a37), .ref (a62), .int ((-1)), .int ((-1)), .int ((-1)), .int ((-1)), .int (nI 0)]) C gcX5 h108 7 rfl q411 rfl rfl rfl rfl rfl dX5_init_65 (fun M115 h116 k117 => ?_)
  have h118 := (k117 _ (Ne.symm e7)).trans h110
  have h119 := (k117 _ (Ne.symm e25)).trans h111
  have h120 := (k117 _ (Ne.symm e47)).trans h112
  have h121 := (k117 _ (Ne.symm e73)).trans h113
  have k122 : ∀ zz : Nat, zz ≠ a1 → zz ≠ a → zz ≠ a16 → zz ≠ a37 → zz ≠ a62 → M115 zz = M0 zz := fun zz z0 z1 z2 z3 z4 => (k117 zz z1).trans (k114 zz z0 z1 z2 z3 z4)
  refine x_vret C dX5_init_68 ⟨Nat.le_of_ble_eq_true rfl, Nat.le_of_ble_eq_true rfl⟩ ⟨fnL 0 [0, a1, a16, a37, a62], ⟨h116, fun j j1 j2 => ?_, fun t ht => absurd ht (Nat.not_lt_zero _), fun t ht => absurd ht (Nat.not_lt_zero _), fun t ht => absurd ht (Nat.not_lt_zero _), fun t ht => absurd ht (Nat.not_lt_zero _)⟩, n3, n24, n46, n72, fun z z0 hz => ?_⟩
  · rcases (by omega : j = 1 ∨ j = 2 ∨ j = 3 ∨ j = 4) with rfl | rfl | rfl | rfl
    · exact LL.emp h118 (fun e9 => absurd (congrArg Prod.snd e9) (by omega))
    · exact LL.emp h119 (fun e9 => absurd (congrArg Prod.snd e9) (by omega))
    · exact LL.emp h120 (fun e9 => absurd (congrArg Prod.snd e9) (by omega))
    · exact LL.emp h121 (fun e9 => absurd (congrArg Prod.snd e9) (by omega))
  · exact k122 z (fun e9 => hz (by rw [e9]; exact n3)) z0 (fun e9 => hz (by rw [e9]; exact n24)) (fun e9 => hz (by rw [e9]; exact n46)) (fun e9 => hz (by rw [e9]; exact n72))
theorem mi_X5_find : gMV RX5 yX5_find cX5_find 4 (some .int) 1 := ⟨q1408, q1409, q136, q1410, by decide +kernel⟩
set_option maxHeartbeats 4000000 in
set_option maxRecDepth 100000 in
theorem met_X5_find (l : Launch) {G : gG} (hG : gOK G) {M0 : gM} {r tx : Nat} {ta : Nat → Nat} {mc : Nat → Int32} {nd it : Nat → Nat → Nat} {cnt : Nat → Nat} {tr : Nat → Nat → Nat → Int32} {w : Nat → Int32} {x : Int32} (h : TR G r tx ta mc nd it cnt tr w M0) (hr2 : ¬ r = 2) : Met l yX5_find (ws_ yX5_find cX5_find 4 (some .int)) ({ frames := 5, cells := 1, slots := 5, locals := 106 }) (gPre G M0 [.ref (tx), .int (x)]) (gQ G (gI (fun r9 M1 => gFl (fun _ => False) M0 M1 ∧ (if pFind (fun t => tr 1 t 0 = x) (cnt 1) < cnt 1 then nI (pFind (fun t => tr 1 t 0 = x) (cnt 1)) else (-1)) = r9))) 1 5 (gA G) := by
  refine gMet (L0 := [some (.ref (tx)), some (.int (x)), none, none]) RX5 hG (by decide +kernel) rfl (Nat.le_of_ble_eq_true rfl) rfl ?_
  intro p e s m args below meth c C hnm
  have hl : ¬ ((r, 1) : Nat × Nat).1 = 2 := hr2
  have hlN : ¬ ((r, 10 + 1) : Nat × Nat).1 = 2 := hr2
  refine x_iconst C dX5_find_0 kc_0 ?_
  refine x_istore_n C dX5_find_1 rfl (gs1_2 rfl) rfl ?_
  refine x_aload_n C dX5_find_2 rfl rfl ?_
  refine x_get C gcX5 h.1 0 rfl q385 rfl dX5_find_3 ?_
  refine x_U0R C (met_J10_iterator l C.1 (h.ll (j := 1) (by omega) (by omega)) hl hlN) (fun hR2 => va_cwU 0 C.hw (lw_app (a := [_, _, _, _, _]) (by
    intro w hw
    simp only [List.mem_cons, List.not_mem_nil, or_false] at hw
    rcases hw with e | e | e | e | e
    · rw [e]; exact q1411
    · rw [e]; exact q923
    · rw [e]; exact q925
    · rw [e]; exact q926
    · rw [e]; exact q138) (lw_meth q927)) rfl rfl rfl rfl (by decide +kernel) hR2) gcJ11 (h.ll (j := 1) (by omega) (by omega)).1 ⟨rfl, rfl⟩ rfl ⟨Nat.le_of_ble_eq_true rfl, Nat.le_of_ble_eq_true rfl⟩ rfl dX5_find_6 (fun r2 M1 hr => ?_)
  obtain ⟨n3, h4, k5⟩ := hr
  refine x_astore_n C dX5_find_9 rfl (gs1_3 rfl) rfl ?_
  refine x_loop (head := 10) (E := cnt 1) (fun i M => ∃ lr : Option Nat, M r2 = some ((2, 0), .inr (9, [va_rf lr, va_rf (if i < cnt 1 then some (nd 1 i) else none), .int (nI i), .int (mc 1), .ref (ta 1)])) ∧ (∀ z, z ≠ r2 → M z = M0 z) ∧ ∀ k, k < i → ¬ tr 1 k 0 = x) (fun i => [some (.ref tx), some (.int x), some (.int (nI i)), some (.ref r2)]) ⟨none, h4, k5, fun k hk => absurd hk (by omega)⟩ (fun i M hi hI ih => ?_)
  obtain ⟨lr, t, hK, hF⟩ := hI
  have hf : gFl (fun _ => False) M0 M := gFl.nw n3 hK
  have h' := h.keep hf (fun _ e => e)
  show gX G p l e _ s m args below meth c 4 _ M _ _ 10 [some (.ref tx), some (.int x), some (.int (nI i)), some (.ref r2)] []
  rcases Nat.lt_or_ge i (cnt 1) with ht | ht
  · -- more
    have hqi : it 1 i ≠ r2 := fun e9 => by have z9 := h'.at1 ht; rw [e9, t] at z9; exact hr2 (congrArg (fun y : (Nat × Nat) × va_E => y.1.1) (Option.some.inj z9)).symm
    refine x_aload_n C dX5_find_10 rfl rfl ?_
    refine x_F0I C (met_J28_hasNext l C.1 (h'.ll (j := 1) (by omega) (by omega)) t (by omega)) mf_J28_J28_hasNext_Iterator q1413 gcJ28 t ⟨rfl, rfl⟩ rfl ⟨Nat.le_of_ble_eq_true rfl, Nat.le_of_ble_eq_true rfl⟩ rfl dX5_find_11 (fun r7 M6 hr => ?_)
    obtain ⟨hr, rfl⟩ := hr
    rw [hr, if_pos ht]
    refine x_if_eqF (tgt := 43) C (by decide) dX5_find_16 rfl ?_
    refine x_aload_n C dX5_find_19 rfl rfl ?_
    refine x_F0R C (met_J28_next l C.1 (mc' := mc 1) (h'.ll (j := 1) (by omega) (by omega)) t ht hl hlN) mf_J28_J28_next_Iterator q1415 gcJ28 t ⟨rfl, rfl⟩ rfl ⟨Nat.le_of_ble_eq_true rfl, Nat.le_of_ble_eq_true rfl⟩ rfl dX5_find_20 (fun r9 M8 hr => ?_)
    obtain ⟨rfl, h10, k11⟩ := hr
    have h12 := (k11 _ hqi).trans (h'.at1 ht)
    have k13 : ∀ zz : Nat, zz ≠ r2 → M8 zz = M zz := fun zz z0 => k11 zz z0
    refine x_castS C gcX11 h12 q916 dX5_find_25 ?_
    refine x_getN C gcX11 h12 0 rfl q1435 rfl dX5_find_28 ?_
    refine x_iload_n C dX5_find_31 rfl rfl ?_
    refine x_icmp_ne (tgt := 37) C dX5_find_32 rfl (fun c32 => ?_) (fun c32 => ?_)
    · -- 37
      refine x_iincN (z := 1) C dX5_find_37 rfl (gs1_2 rfl) rfl ?_
      refine x_goto (tgt := 10) C dX5_find_40 rfl ?_
      exact ih (by omega) _ ⟨some (nd 1 i), h10, fun z hz => (k13 z hz).trans (hK z hz), fun k hk => by by_cases e9 : k = i; (rw [e9]; exact c32); exact hF k (by omega)⟩
    · -- 35
      refine x_iload_n C dX5_find_35 rfl rfl ?_
      exact x_iret C dX5_find_36 ⟨Nat.le_of_ble_eq_true rfl, Nat.le_of_ble_eq_true rfl⟩ ⟨gFl.nw n3 (fun z hz => (k13 z hz).trans (hK z hz)), by rw [pFind_h (P := fun t => tr 1 t 0 = x) (pFind_all i hF) c32 ht, if_pos ht]⟩
  · -- end
    refine x_aload_n C dX5_find_10 rfl rfl ?_
    refine x_F0I C (met_J28_hasNext l C.1 (h'.ll (j := 1) (by omega) (by omega)) t (by omega)) mf_J28_J28_hasNext_Iterator q1413 gcJ28 t ⟨rfl, rfl⟩ rfl ⟨Nat.le_of_ble_eq_true rfl, Nat.le_of_ble_eq_true rfl⟩ rfl dX5_find_11 (fun r15 M14 hr => ?_)
    obtain ⟨hr, rfl⟩ := hr
    rw [hr, if_neg (show ¬ i < cnt 1 by omega)]
    refine x_if_eqT (tgt := 43) C (by decide) dX5_find_16 rfl ?_
    refine x_iconst C dX5_find_43 kc_m1 ?_
    exact x_iret C dX5_find_44 ⟨Nat.le_of_ble_eq_true rfl, Nat.le_of_ble_eq_true rfl⟩ ⟨hf, by rw [pFind_all (P := fun t => tr 1 t 0 = x) (cnt 1) (fun k hk => hF k (by omega)), if_neg (Nat.lt_irrefl _)]⟩
