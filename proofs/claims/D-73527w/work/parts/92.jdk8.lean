set_option maxRecDepth 100000
theorem mi_J3_requireNonNull : gMS yJ3_requireNonNull cJ3_requireNonNull 1 (some (.object "java/lang/Object")) 1 := ⟨q250, q128, q251, by decide +kernel⟩
set_option maxHeartbeats 4000000 in
set_option maxRecDepth 100000 in
theorem met_J3_requireNonNull (l : Launch) {G : gG} (hG : gOK G) {M0 : gM} {x : Nat}  : Met l yJ3_requireNonNull (ws_ yJ3_requireNonNull cJ3_requireNonNull 1 (some (.object "java/lang/Object"))) ({ frames := 0, cells := 0, slots := 0, locals := 0 }) (gPre G M0 [.ref (x)]) (gQ G (gR (fun r M1 => M1 = M0 ∧ x = r))) 0 0 (gA G) := by
  refine gMet (L0 := [some (.ref (x))]) RJ3 hG (by decide +kernel) rfl (Nat.le_of_ble_eq_true rfl) rfl ?_
  intro p e s m args below meth c C hnm
  refine x_aload_n C dJ3_requireNonNull_0 rfl rfl ?_
  refine x_ifnonnull (tgt := 12) C dJ3_requireNonNull_1 rfl ?_
  refine x_aload_n C dJ3_requireNonNull_12 rfl rfl ?_
  exact x_aret C dJ3_requireNonNull_13 ⟨Nat.le_of_ble_eq_true rfl, Nat.le_of_ble_eq_true rfl⟩ ⟨rfl, rfl⟩
theorem mi_J5_init : gMI yJ5_init cJ5_init 1 0 := ⟨q263, q130, q264, rfl, by decide +kernel⟩
set_option maxHeartbeats 4000000 in
set_option maxRecDepth 100000 in
theorem met_J5_init (l : Launch) {G : gG} (hG : gOK G) {M0 : gM} {a : Nat}  : Met l yJ5_init (ws_ yJ5_init cJ5_init 1 none) ({ frames := 2, cells := 0, slots := 0, locals := 32 }) (gPre G M0 [.ref (a)]) (gQ G (gV (fun M1 => M1 = M0))) 0 0 (gA G) := by
  refine gMet (L0 := [some (.ref (a))]) RJ5 hG (by decide +kernel) rfl (Nat.le_of_ble_eq_true rfl) rfl ?_
  intro p e s m args below meth c C hnm
  refine x_aload_n C dJ5_init_0 rfl rfl ?_
  refine x_I0 C (met_J4_init l C.1) mi_J4_init q265 ⟨rfl, rfl⟩ rfl ⟨Nat.le_of_ble_eq_true rfl, Nat.le_of_ble_eq_true rfl⟩ rfl dJ5_init_1 (fun M1 hr => ?_)
  rw [hr]
  exact x_vret C dJ5_init_4 ⟨Nat.le_of_ble_eq_true rfl, Nat.le_of_ble_eq_true rfl⟩ rfl
theorem mi_J6_init : gMI yJ6_init cJ6_init 1 0 := ⟨q260, q131, q261, rfl, by decide +kernel⟩
set_option maxHeartbeats 4000000 in
set_option maxRecDepth 100000 in
theorem met_J6_init (l : Launch) {G : gG} (hG : gOK G) {M0 : gM} {a : Nat}  : Met l yJ6_init (ws_ yJ6_init cJ6_init 1 none) ({ frames := 3, cells := 0, slots := 0, locals := 52 }) (gPre G M0 [.ref (a)]) (gQ G (gV (fun M1 => M1 = M0))) 0 0 (gA G) := by
  refine gMet (L0 := [some (.ref (a))]) RJ6 hG (by decide +kernel) rfl (Nat.le_of_ble_eq_true rfl) rfl ?_
  intro p e s m args below meth c C hnm
  refine x_aload_n C dJ6_init_0 rfl rfl ?_
  refine x_I0 C (met_J5_init l C.1) mi_J5_init q262 ⟨rfl, rfl⟩ rfl ⟨Nat.le_of_ble_eq_true rfl, Nat.le_of_ble_eq_true rfl⟩ rfl dJ6_init_1 (fun M1 hr => ?_)
  rw [hr]
  exact x_vret C dJ6_init_4 ⟨Nat.le_of_ble_eq_true rfl, Nat.le_of_ble_eq_true rfl⟩ rfl
theorem mi_J8_init : gMI yJ8_init cJ8_init 3 2 := ⟨q285, q133, q286, rfl, by decide +kernel⟩
set_option maxHeartbeats 4000000 in
set_option maxRecDepth 100000 in
theorem met_J8_init (l : Launch) {G : gG} (hG : gOK G) {M0 : gM} {a q : Nat} {lab : Nat × Nat} (h0 : M0 a = some (lab, .inr (1, [.null, .int (nI 0)]))) : Met l yJ8_init (ws_ yJ8_init cJ8_init 3 none) ({ frames := 4, cells := 0, slots := 0, locals := 72 }) (gPre G M0 [.ref (a), .ref (q), .int (nI 0)]) (gQ G (gV (fun M1 => M1 a = some (lab, .inr (1, [.ref q, .int (nI 0)])) ∧ ∀ z, z ≠ a → M1 z = M0 z))) 0 0 (gA G) := by
  refine gMet (L0 := [some (.ref (a)), some (.ref (q)), some (.int (nI 0))]) RJ8 hG (by decide +kernel) rfl (Nat.le_of_ble_eq_true rfl) rfl ?_
  intro p e s m args below meth c C hnm
  refine x_aload_n C dJ8_init_0 rfl rfl ?_
  refine x_I0 C (met_J6_init l C.1) mi_J6_init q287 ⟨rfl, rfl⟩ rfl ⟨Nat.le_of_ble_eq_true rfl, Nat.le_of_ble_eq_true rfl⟩ rfl dJ8_init_1 (fun M1 hr => ?_)
  rw [hr]
  refine x_aload_n C dJ8_init_4 rfl rfl ?_
  refine x_aload_n C dJ8_init_5 rfl rfl ?_
  refine y_putF (fs' := [.ref (q), .int (nI 0)]) C (hnm rfl) gcJ8 h0 0 rfl q288 rfl rfl rfl rfl rfl rfl dJ8_init_6 (fun M2 h3 k4 => ?_)
  have k5 : ∀ zz : Nat, zz ≠ a → M2 zz = M0 zz := fun zz z0 => k4 zz z0
  refine x_aload_n C dJ8_init_9 rfl rfl ?_
  refine x_iload_n C dJ8_init_10 rfl rfl ?_
  refine y_putF (fs' := [.ref (q), .int (nI 0)]) C (hnm rfl) gcJ8 h3 1 rfl q289 rfl rfl (by decide +kernel) (by decide +kernel) rfl rfl dJ8_init_11 (fun M6 h7 k8 => ?_)
  have k9 : ∀ zz : Nat, zz ≠ a → M6 zz = M0 zz := fun zz z0 => (k8 zz z0).trans (k5 zz z0)
  exact x_vret C dJ8_init_14 ⟨Nat.le_of_ble_eq_true rfl, Nat.le_of_ble_eq_true rfl⟩ ⟨h7, k9⟩
set_option maxHeartbeats 4000000 in
set_option maxRecDepth 100000 in
theorem met_J8_size (l : Launch) {G : gG} (hG : gOK G) {M0 : gM} {a q : Nat} {lab lq : Nat × Nat} {f : Nat → Option Nat} (h0 : M0 a = some (lab, .inr (1, [.ref q, .int (nI 0)]))) (h1 : M0 q = some (lq, .inl (G.2.1 3, 3, .inr (.inr (.inr (.inr (clipQ 3 f))))))) : Met l yJ8_size (ws_ yJ8_size cJ8_size 1 (some .int)) ({ frames := 0, cells := 0, slots := 0, locals := 0 }) (gPre G M0 [.ref (a)]) (gQ G (gI (fun r M1 => M1 = M0 ∧ nI 3 = r))) 0 0 (gA G) := by
  refine gMet (L0 := [some (.ref (a))]) RJ8 hG (by decide +kernel) rfl (Nat.le_of_ble_eq_true rfl) rfl ?_
  intro p e s m args below meth c C hnm
  refine x_aload_n C dJ8_size_0 rfl rfl ?_
  refine x_get C gcJ8 h0 0 rfl q288 rfl dJ8_size_1 ?_
  refine y_alen C 3 rfl h1 dJ8_size_4 ?_
  exact x_iret C dJ8_size_5 ⟨Nat.le_of_ble_eq_true rfl, Nat.le_of_ble_eq_true rfl⟩ ⟨rfl, rfl⟩
set_option maxHeartbeats 4000000 in
set_option maxRecDepth 100000 in
theorem met_J8_get (l : Launch) {G : gG} (hG : gOK G) {M0 : gM} {a q : Nat} {lab lq : Nat × Nat} {f : Nat → Option Nat} {i x : Nat} (h0 : M0 a = some (lab, .inr (1, [.ref q, .int (nI 0)]))) (h1 : M0 q = some (lq, .inl (G.2.1 3, 3, .inr (.inr (.inr (.inr (clipQ 3 f))))))) (hi : i < 3) (hx : f i = some x) : Met l yJ8_get (ws_ yJ8_get cJ8_get 2 (some (.object "java/lang/Object"))) ({ frames := 0, cells := 0, slots := 0, locals := 0 }) (gPre G M0 [.ref (a), .int (nI i)]) (gQ G (gR (fun r M1 => M1 = M0 ∧ x = r))) 0 0 (gA G) := by
  refine gMet (L0 := [some (.ref (a)), some (.int (nI i))]) RJ8 hG (by decide +kernel) rfl (Nat.le_of_ble_eq_true rfl) rfl ?_
  intro p e s m args below meth c C hnm
  refine x_aload_n C dJ8_get_0 rfl rfl ?_
  refine x_get C gcJ8 h0 0 rfl q288 rfl dJ8_get_1 ?_
  refine x_iload_n C dJ8_get_4 rfl rfl ?_
  refine y_aaldR (ty := .object "java/lang/Object") (i := i) (b := x) C 3 rfl rfl h1 rfl hi rfl hx dJ8_get_5 ?_
  exact x_aret C dJ8_get_6 ⟨Nat.le_of_ble_eq_true rfl, Nat.le_of_ble_eq_true rfl⟩ ⟨rfl, rfl⟩
theorem mi_J2_listFromTrustedArray : gMS yJ2_listFromTrustedArray cJ2_listFromTrustedArray 5 (some (.object "java/util/List")) 1 := ⟨q210, q127, q211, by decide +kernel⟩
set_option maxHeartbeats 4000000 in
set_option maxRecDepth 100000 in
theorem met_J2_listFromTrustedArray (l : Launch) {G : gG} (hG : gOK G) {M0 : gM} {q x0 x1 x2 : Nat} {lq : Nat × Nat} {f : Nat → Option Nat} (h1 : M0 q = some (lq, .inl (G.2.1 3, 3, .inr (.inr (.inr (.inr (clipQ 3 f))))))) (g0 : f 0 = some x0) (g1 : f 1 = some x1) (g2 : f 2 = some x2) : Met l yJ2_listFromTrustedArray (ws_ yJ2_listFromTrustedArray cJ2_listFromTrustedArray 5 (some (.object "java/util/List"))) ({ frames := 5, cells := 1, slots := 2, locals := 94 }) (gPre G M0 [.ref (q)]) (gQ G (gR (fun r M1 => M0 r = none ∧ M1 r = some ((1, 0), .inr (1, [.ref q, .int (nI 0)])) ∧ ∀ z, z ≠ r → M1 z = M0 z))) 1 2 (gA G) := by
  refine gMet (L0 := [some (.ref (q)), none, none, none, none]) RJ2 hG (by decide +kernel) rfl (Nat.le_of_ble_eq_true rfl) rfl ?_
  intro p e s m args below meth c C hnm
  refine x_gets C (gZ_IC C.1) q212 (fun _ h => h) dJ2_listFromTrustedArray_0 ?_
  refine x_if_neT (tgt := 23) C (by decide) dJ2_listFromTrustedArray_3 rfl ?_
  refine x_aload_n C dJ2_listFromTrustedArray_23 rfl rfl ?_
  refine x_astore_n C dJ2_listFromTrustedArray_24 rfl (gs1_1 rfl) rfl ?_
  refine x_aload_n C dJ2_listFromTrustedArray_25 rfl rfl ?_
  refine y_alen C 3 rfl h1 dJ2_listFromTrustedArray_26 ?_
  refine x_istore_n C dJ2_listFromTrustedArray_27 rfl (gs1_2 rfl) rfl ?_
  refine x_iconst C dJ2_listFromTrustedArray_28 kc_0 ?_
  refine x_istore_n C dJ2_listFromTrustedArray_29 rfl (gs1_3 rfl) rfl ?_
  refine x_iload_n C dJ2_listFromTrustedArray_30 rfl rfl ?_
  refine x_iload_n C dJ2_listFromTrustedArray_31 rfl rfl ?_
  refine x_icmp_geF (tgt := 52) C (by decide +kernel) dJ2_listFromTrustedArray_32 rfl ?_
  refine x_aload_n C dJ2_listFromTrustedArray_35 rfl rfl ?_
  refine x_iload_n C dJ2_listFromTrustedArray_36 rfl rfl ?_
  refine y_aaldR (ty := .object "java/lang/Object") (i := 0) (b := x0) C 3 rfl rfl h1 rfl (by omega) rfl g0 dJ2_listFromTrustedArray_37 ?_
  refine x_astore C dJ2_listFromTrustedArray_38 (gs1_4 rfl) rfl ?_
  refine x_aload C dJ2_listFromTrustedArray_40 rfl ?_
  refine x_S1R C (met_J3_requireNonNull l C.1) mi_J3_requireNonNull q249 ⟨rfl, rfl⟩ rfl ⟨Nat.le_of_ble_eq_true rfl, Nat.le_of_ble_eq_true rfl⟩ rfl dJ2_listFromTrustedArray_42 (fun r2 M1 hr => ?_)
  obtain ⟨hr, rfl⟩ := hr
  rw [hr]
  refine x_pop C dJ2_listFromTrustedArray_45 rfl ?_
  refine x_iincN (z := 1) C dJ2_listFromTrustedArray_46 rfl (gs1_3 rfl) rfl ?_
  refine x_goto (tgt := 30) C dJ2_listFromTrustedArray_49 rfl ?_
  refine x_iload_n C dJ2_listFromTrustedArray_30 rfl rfl ?_
  refine x_iload_n C dJ2_listFromTrustedArray_31 rfl rfl ?_
  refine x_icmp_geF (tgt := 52) C (by decide +kernel) dJ2_listFromTrustedArray_32 rfl ?_
  refine x_aload_n C dJ2_listFromTrustedArray_35 rfl rfl ?_
  refine x_iload_n C dJ2_listFromTrustedArray_36 rfl rfl ?_
  refine y_aaldR (ty := .object "java/lang/Object") (i := 1) (b := x1) C 3 rfl rfl h1 rfl (by omega) rfl g1 dJ2_listFromTrustedArray_37 ?_
  refine x_astore C dJ2_listFromTrustedArray_38 (gs1_4 rfl) rfl ?_
  refine x_aload C dJ2_listFromTrustedArray_40 rfl ?_
  refine x_S1R C (met_J3_requireNonNull l C.1) mi_J3_requireNonNull q249 ⟨rfl, rfl⟩ rfl ⟨Nat.le_of_ble_eq_true rfl, Nat.le_of_ble_eq_true rfl⟩ rfl dJ2_listFromTrustedArray_42 (fun r4 M3 hr => ?_)
  obtain ⟨hr, rfl⟩ := hr
  rw [hr]
  refine x_pop C dJ2_listFromTrustedArray_45 rfl ?_
  refine x_iincN (z := 1) C dJ2_listFromTrustedArray_46 rfl (gs1_3 rfl) rfl ?_
  refine x_goto (tgt := 30) C dJ2_listFromTrustedArray_49 rfl ?_
  refine x_iload_n C dJ2_listFromTrustedArray_30 rfl rfl ?_
  refine x_iload_n C dJ2_listFromTrustedArray_31 rfl rfl ?_
  refine x_icmp_geF (tgt := 52) C (by decide +kernel) dJ2_listFromTrustedArray_32 rfl ?_
  refine x_aload_n C dJ2_listFromTrustedArray_35 rfl rfl ?_
  refine x_iload_n C dJ2_listFromTrustedArray_36 rfl rfl ?_
  refine y_aaldR (ty := .object "java/lang/Object") (i := 2) (b := x2) C 3 rfl rfl h1 rfl (by omega) rfl g2 dJ2_listFromTrustedArray_37 ?_
  refine x_astore C dJ2_listFromTrustedArray_38 (gs1_4 rfl) rfl ?_
  refine x_aload C dJ2_listFromTrustedArray_40 rfl ?_
  refine x_S1R C (met_J3_requireNonNull l C.1) mi_J3_requireNonNull q249 ⟨rfl, rfl⟩ rfl ⟨Nat.le_of_ble_eq_true rfl, Nat.le_of_ble_eq_true rfl⟩ rfl dJ2_listFromTrustedArray_42 (fun r6 M5 hr => ?_)
  obtain ⟨hr, rfl⟩ := hr
  rw [hr]
  refine x_pop C dJ2_listFromTrustedArray_45 rfl ?_
  refine x_iincN (z := 1) C dJ2_listFromTrustedArray_46 rfl (gs1_3 rfl) rfl ?_
  refine x_goto (tgt := 30) C dJ2_listFromTrustedArray_49 rfl ?_
  refine x_iload_n C dJ2_listFromTrustedArray_30 rfl rfl ?_
  refine x_iload_n C dJ2_listFromTrustedArray_31 rfl rfl ?_
  refine x_icmp_geT (tgt := 52) C (by decide +kernel) dJ2_listFromTrustedArray_32 rfl ?_
  refine x_aload_n C dJ2_listFromTrustedArray_52 rfl rfl ?_
  refine y_alen C 3 rfl h1 dJ2_listFromTrustedArray_53 ?_
  refine x_tableOut (tgt := 115) C dJ2_listFromTrustedArray_54 (by decide +kernel) rfl ?_
  refine y_new (fs := [.null, .int (nI 0)]) C (fun a => (1, 0)) gcJ8 q282 q283 q133 rfl ⟨Nat.le_of_ble_eq_true rfl, Nat.le_of_ble_eq_true rfl⟩ dJ2_listFromTrustedArray_115 (fun a7 M8 n9 g10 h11 k12 => ?_)
  have e13 : q ≠ a7 := gM_nn h1 n9
  have h14 := (k12 _ e13).trans h1
  have k15 : ∀ zz : Nat, zz ≠ a7 → M8 zz = M0 zz := fun zz z0 => k12 zz z0
  refine x_dup C dJ2_listFromTrustedArray_118 rfl ?_
  refine x_aload_n C dJ2_listFromTrustedArray_119 rfl rfl ?_
  refine x_iconst C dJ2_listFromTrustedArray_120 kc_0 ?_
  refine x_IN2 (r0 := none) C (met_J8_init l C.1 h11) mi_J8_init q284 ⟨rfl, rfl⟩ rfl ⟨Nat.le_of_ble_eq_true rfl, Nat.le_of_ble_eq_true rfl⟩ rfl dJ2_listFromTrustedArray_121 (fun M16 hr => ?_)
  obtain ⟨h17, k18⟩ := hr
  have h19 := (k18 _ e13).trans h14
  have k20 : ∀ zz : Nat, zz ≠ a7 → M16 zz = M0 zz := fun zz z0 => (k18 zz z0).trans (k15 zz z0)
  exact x_aret C dJ2_listFromTrustedArray_124 ⟨Nat.le_of_ble_eq_true rfl, Nat.le_of_ble_eq_true rfl⟩ ⟨n9, h17, k20⟩
theorem mi_J1_of : gMS yJ1_of cJ1_of 3 (some (.object "java/util/List")) 3 := ⟨q205, q126, q206, by decide +kernel⟩
set_option maxHeartbeats 4000000 in
set_option maxRecDepth 100000 in
theorem met_J1_of (l : Launch) {G : gG} (hG : gOK G) {M0 : gM} {x0 x1 x2 : Nat} {l0 l1 l2 : Nat × Nat} {f0 f1 f2 : List Value} {ci : Nat} {E0 : String} {T0 : u_T} {N0 : Nat} {ty0 : Nat → FieldType} (hc : gCls ci E0 T0 N0 ty0) (hca : Cond.castable E0 "java/lang/Object" ∈ lw_tbl) (h0 : M0 x0 = some (l0, .inr (ci, f0))) (h1 : M0 x1 = some (l1, .inr (ci, f1))) (h2 : M0 x2 = some (l2, .inr (ci, f2))) : Met l yJ1_of (ws_ yJ1_of cJ1_of 3 (some (.object "java/util/List"))) ({ frames := 6, cells := 2, slots := 5, locals := 118 }) (gPre G M0 [.ref (x0), .ref (x1), .ref (x2)]) (gQ G (gR (fun r M1 => ∃ q, r ≠ q ∧ M0 q = none ∧ M0 r = none ∧ M1 r = some ((1, 0), .inr (1, [.ref q, .int (nI 0)])) ∧ M1 q = some ((1, 1), .inl (G.2.1 3, 3, .inr (.inr (.inr (.inr (clipQ 3 (va_up (va_up (va_up (fun _ => none) 0 (some x0)) 1 (some x1)) 2 (some x2)))))))) ∧ ∀ z, z ≠ r → z ≠ q → M1 z = M0 z))) 2 5 (gA G) := by
  refine gMet (L0 := [some (.ref (x0)), some (.ref (x1)), some (.ref (x2))]) RJ1 hG (by decide +kernel) rfl (Nat.le_of_ble_eq_true rfl) rfl ?_
  intro p e s m args below meth c C hnm
  refine x_iconst C dJ1_of_0 kc_3 ?_
  refine y_newq (N := 3) C 3 (fun a => (1, 1)) q207 q208 rfl rfl rfl ⟨Nat.le_of_ble_eq_true rfl, Nat.le_of_ble_eq_true rfl⟩ dJ1_of_1 (fun a1 M2 n3 g4 h5 k6 => ?_)
  have e7 : x0 ≠ a1 := gM_nn h0 n3
  have e8 : x1 ≠ a1 := gM_nn h1 n3
  have e9 : x2 ≠ a1 := gM_nn h2 n3
  have h10 := (k6 _ e7).trans h0
  have h11 := (k6 _ e8).trans h1
  have h12 := (k6 _ e9).trans h2
  have k13 : ∀ zz : Nat, zz ≠ a1 → M2 zz = M0 zz := fun zz z0 => k6 zz z0
  refine x_dup C dJ1_of_4 rfl ?_
  refine x_iconst C dJ1_of_5 kc_0 ?_
  refine x_aload_n C dJ1_of_6 rfl rfl ?_
  refine y_aastO (E := "java/lang/Object") (i := 0) C 3 rfl h5 h10 hc hca rfl (by omega) rfl dJ1_of_7 (fun M14 h15 k16 => ?_)
  have h17 := (k16 _ e7).trans h10
  have h18 := (k16 _ e8).trans h11
  have h19 := (k16 _ e9).trans h12
  have k20 : ∀ zz : Nat, zz ≠ a1 → M14 zz = M0 zz := fun zz z0 => (k16 zz z0).trans (k13 zz z0)
  refine x_dup C dJ1_of_8 rfl ?_
  refine x_iconst C dJ1_of_9 kc_1 ?_
  refine x_aload_n C dJ1_of_10 rfl rfl ?_
  refine y_aastO (E := "java/lang/Object") (i := 1) C 3 rfl h15 h18 hc hca rfl (by omega) rfl dJ1_of_11 (fun M21 h22 k23 => ?_)
  have h24 := (k23 _ e7).trans h17
  have h25 := (k23 _ e8).trans h18
  have h26 := (k23 _ e9).trans h19
  have k27 : ∀ zz : Nat, zz ≠ a1 → M21 zz = M0 zz := fun zz z0 => (k23 zz z0).trans (k20 zz z0)
  refine x_dup C dJ1_of_12 rfl ?_
  refine x_iconst C dJ1_of_13 kc_2 ?_
  refine x_aload_n C dJ1_of_14 rfl rfl ?_
  refine y_aastO (E := "java/lang/Object") (i := 2) C 3 rfl h22 h26 hc hca rfl (by omega) rfl dJ1_of_15 (fun M28 h29 k30 => ?_)
  have h31 := (k30 _ e7).trans h24
  have h32 := (k30 _ e8).trans h25
  have h33 := (k30 _ e9).trans h26
  have k34 : ∀ zz : Nat, zz ≠ a1 → M28 zz = M0 zz := fun zz z0 => (k30 zz z0).trans (k27 zz z0)
  refine x_S1R C (met_J2_listFromTrustedArray l C.1 (x0 := x0) (x1 := x1) (x2 := x2) h29 rfl rfl rfl) mi_J2_listFromTrustedArray q209 ⟨rfl, rfl⟩ rfl ⟨Nat.le_of_ble_eq_true rfl, Nat.le_of_ble_eq_true rfl⟩ rfl dJ1_of_16 (fun r36 M35 hr => ?_)
  obtain ⟨g1, g2, g3⟩ := hr
  have e9 : a1 ≠ r36 := gM_nn h29 g1
  exact x_aret C dJ1_of_19 ⟨Nat.le_of_ble_eq_true rfl, Nat.le_of_ble_eq_true rfl⟩ ⟨a1, fun e => e9 e.symm, n3, by rw [← k34 _ (fun e => e9 e.symm)]; exact g1, g2, (g3 _ e9).trans h29, fun z z1 z2 => (g3 z z1).trans (k34 z z2)⟩
