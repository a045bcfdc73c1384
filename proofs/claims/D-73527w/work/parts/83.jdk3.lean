set_option maxRecDepth 100000
set_option maxHeartbeats 4000000 in
set_option maxRecDepth 100000 in
theorem met_J4_isEmpty (l : Launch) {G : gG} (hG : gOK G) {M0 : gM} {l0 lN : Nat × Nat} {hd n : Nat} {mc : Int32} {nd it : Nat → Nat} (h : LL l0 lN hd n mc nd it M0) : Met l yJ4_isEmpty (ws_ yJ4_isEmpty cJ4_isEmpty 1 (some .boolean)) ({ frames := 1, cells := 0, slots := 0, locals := 20 }) (gPre G M0 [.ref (hd)]) (gQ G (gI (fun r M1 => M1 = M0 ∧ (if n = 0 then nI 1 else nI 0) = r))) 0 0 (gA G) := by
  refine gMet (L0 := [some (.ref (hd))]) RJ4 hG (by decide +kernel) rfl (Nat.le_of_ble_eq_true rfl) rfl ?_
  intro p e s m args below meth c C hnm
  have hnb := h.2.2.2.2
  refine x_aload_n C dJ4_isEmpty_0 rfl rfl ?_
  refine x_U0I C (met_J11_size l C.1 h) (fun hR2 => va_cwA 0 C.hw (lw_app (a := [_, _, _, _, _]) (by
    intro w hw
    simp only [List.mem_cons, List.not_mem_nil, or_false] at hw
    rcases hw with e | e | e | e | e
    · rw [e]; exact q2299
    · rw [e]; exact q2958
    · rw [e]; exact q2962
    · rw [e]; exact q584
    · rw [e]; exact q139) (lw_meth q586)) rfl rfl rfl (va_Nw.of rfl (C.soft q984 rfl)) (by decide +kernel) hR2) gcJ11 h.1 ⟨rfl, rfl⟩ rfl ⟨Nat.le_of_ble_eq_true rfl, Nat.le_of_ble_eq_true rfl⟩ rfl dJ4_isEmpty_1 (fun r2 M1 hr => ?_)
  obtain ⟨hr, rfl⟩ := hr
  rw [hr]
  refine x_if_neN (tgt := 11) C (by omega) dJ4_isEmpty_4 rfl (fun c4 => ?_) (fun c4 => ?_)
  · -- 11
    refine x_iconst C dJ4_isEmpty_11 kc_0 ?_
    exact x_zret C (by decide +kernel) dJ4_isEmpty_12 ⟨Nat.le_of_ble_eq_true rfl, Nat.le_of_ble_eq_true rfl⟩ ⟨rfl, if_neg c4⟩
  · -- 7
    refine x_iconst C dJ4_isEmpty_7 kc_1 ?_
    refine x_goto (tgt := 12) C dJ4_isEmpty_8 rfl ?_
    exact x_zret C (by decide +kernel) dJ4_isEmpty_12 ⟨Nat.le_of_ble_eq_true rfl, Nat.le_of_ble_eq_true rfl⟩ ⟨rfl, if_pos c4⟩
theorem mi_J28_init : gMI yJ28_init cJ28_init 3 2 := ⟨q951, q161, q952, rfl, by decide +kernel⟩
set_option maxHeartbeats 4000000 in
set_option maxRecDepth 100000 in
theorem met_J28_init (l : Launch) {G : gG} (hG : gOK G) {M0 : gM} {l0 lN : Nat × Nat} {hd n : Nat} {mc : Int32} {nd it : Nat → Nat} {a i : Nat} {lab : Nat × Nat} (h : LL l0 lN hd n mc nd it M0) (hi : i ≤ n) (h0 : M0 a = some (lab, .inr (9, [.null, .null, .int (nI 0), .int (nI 0), .null]))) (hl : ¬ lab = l0) (hlN : ¬ lab = lN) : Met l yJ28_init (ws_ yJ28_init cJ28_init 3 none) ({ frames := 1, cells := 0, slots := 0, locals := 23 }) (gPre G M0 [.ref (a), .ref (hd), .int (nI i)]) (gQ G (gV (fun M1 => M1 a = some (lab, .inr (9, [.null, va_rf (if i < n then some (nd i) else none), .int (nI i), .int mc, .ref hd])) ∧ ∀ q, q ≠ a → M1 q = M0 q))) 0 0 (gA G) := by
  refine gMet (L0 := [some (.ref (a)), some (.ref (hd)), some (.int (nI i))]) RJ28 hG (by decide +kernel) rfl (Nat.le_of_ble_eq_true rfl) rfl ?_
  intro p e s m args below meth c C hnm
  have hnb := h.2.2.2.2
  have hne : hd ≠ a := fun q => by have z := h.1; rw [q, h0] at z; exact hl (congrArg Prod.fst (Option.some.inj z))
  refine x_aload_n C dJ28_init_0 rfl rfl ?_
  refine x_aload_n C dJ28_init_1 rfl rfl ?_
  refine y_putF (fs' := [.null, .null, .int (nI 0), .int (nI 0), .ref (hd)]) C (hnm rfl) gcJ28 h0 4 rfl q959 rfl rfl rfl rfl rfl rfl dJ28_init_2 (fun M1 h2 k3 => ?_)
  have h4 := (k3 _ hne).trans h.1
  have k5 : ∀ zz : Nat, zz ≠ a → M1 zz = M0 zz := fun zz z0 => k3 zz z0
  refine x_aload_n C dJ28_init_5 rfl rfl ?_
  refine x_objInit C q953 q182 q183 rfl dJ28_init_6 ?_
  refine x_aload_n C dJ28_init_9 rfl rfl ?_
  refine x_aload_n C dJ28_init_10 rfl rfl ?_
  refine x_get C gcJ28 h2 4 rfl q959 rfl dJ28_init_11 ?_
  refine x_getS C gcJ11 h4 0 rfl q372 q373 rfl dJ28_init_14 ?_
  refine y_put (fs' := [.null, .null, .int (nI 0), .int (mc), .ref (hd)]) C gcJ28 h2 3 rfl q958 rfl rfl rfl rfl rfl dJ28_init_17 (fun M6 h7 k8 => ?_)
  have h9 := (k8 _ hne).trans h4
  have k10 : ∀ zz : Nat, zz ≠ a → M6 zz = M0 zz := fun zz z0 => (k8 zz z0).trans (k5 zz z0)
  refine x_aload_n C dJ28_init_20 rfl rfl ?_
  refine x_iload_n C dJ28_init_21 rfl rfl ?_
  refine x_aload_n C dJ28_init_22 rfl rfl ?_
  refine x_get C gcJ11 h9 1 rfl q368 rfl dJ28_init_23 ?_
  refine x_icmp_neN (tgt := 33) C (by omega) (by omega) dJ28_init_26 rfl (fun c26 => ?_) (fun c26 => ?_)
  · -- 33
    have c26b : i < n := by omega
    refine x_aload_n C dJ28_init_33 rfl rfl ?_
    refine x_iload_n C dJ28_init_34 rfl rfl ?_
    refine x_V1R C (met_J11_node l C.1 (h.keep (ρ := fun z => z = lab) (gFl.of1 (i := lab.1) (j := lab.2) h0 h7 k10 rfl) (fun q => hl q.symm) (fun q => hlN q.symm)) (by omega)) mi_J11_node q954 gcJ11 h9 ⟨rfl, rfl⟩ rfl ⟨Nat.le_of_ble_eq_true rfl, Nat.le_of_ble_eq_true rfl⟩ rfl dJ28_init_35 (fun r12 M11 hr => ?_)
    obtain ⟨hr, rfl⟩ := hr
    rw [hr]
    refine y_put (fs' := [.null, .ref (nd i), .int (nI 0), .int (mc), .ref (hd)]) C gcJ28 h7 1 rfl q956 rfl rfl rfl rfl rfl dJ28_init_38 (fun M13 h14 k15 => ?_)
    have h16 := (k15 _ hne).trans h9
    have k17 : ∀ zz : Nat, zz ≠ a → M13 zz = M0 zz := fun zz z0 => (k15 zz z0).trans (k10 zz z0)
    refine x_aload_n C dJ28_init_41 rfl rfl ?_
    refine x_iload_n C dJ28_init_42 rfl rfl ?_
    refine y_put (fs' := [.null, .ref (nd i), .int (nI i), .int (mc), .ref (hd)]) C gcJ28 h14 2 rfl q957 rfl rfl rfl rfl rfl dJ28_init_43 (fun M18 h19 k20 => ?_)
    have h21 := (k20 _ hne).trans h16
    have k22 : ∀ zz : Nat, zz ≠ a → M18 zz = M0 zz := fun zz z0 => (k20 zz z0).trans (k17 zz z0)
    exact x_vret C dJ28_init_46 ⟨Nat.le_of_ble_eq_true rfl, Nat.le_of_ble_eq_true rfl⟩ ⟨by rw [if_pos c26b]; exact h19, k22⟩
  · -- 29
    refine x_null C dJ28_init_29 ?_
    refine x_goto (tgt := 38) C dJ28_init_30 rfl ?_
    refine y_put (fs' := [.null, .null, .int (nI 0), .int (mc), .ref (hd)]) C gcJ28 h7 1 rfl q956 rfl rfl rfl rfl rfl dJ28_init_38 (fun M23 h24 k25 => ?_)
    have h26 := (k25 _ hne).trans h9
    have k27 : ∀ zz : Nat, zz ≠ a → M23 zz = M0 zz := fun zz z0 => (k25 zz z0).trans (k10 zz z0)
    refine x_aload_n C dJ28_init_41 rfl rfl ?_
    refine x_iload_n C dJ28_init_42 rfl rfl ?_
    refine y_put (fs' := [.null, .null, .int (nI i), .int (mc), .ref (hd)]) C gcJ28 h24 2 rfl q957 rfl rfl rfl rfl rfl dJ28_init_43 (fun M28 h29 k30 => ?_)
    have h31 := (k30 _ hne).trans h26
    have k32 : ∀ zz : Nat, zz ≠ a → M28 zz = M0 zz := fun zz z0 => (k30 zz z0).trans (k27 zz z0)
    exact x_vret C dJ28_init_46 ⟨Nat.le_of_ble_eq_true rfl, Nat.le_of_ble_eq_true rfl⟩ ⟨by rw [if_neg (show ¬ i < n by omega)]; exact h29, k32⟩
set_option maxHeartbeats 4000000 in
set_option maxRecDepth 100000 in
theorem met_J11_listIterator (l : Launch) {G : gG} (hG : gOK G) {M0 : gM} {l0 lN : Nat × Nat} {hd n : Nat} {mc : Int32} {nd it : Nat → Nat} {i : Nat} (h : LL l0 lN hd n mc nd it M0) (hi : i ≤ n) (hl : ¬ l0.1 = 2) (hlN : ¬ lN.1 = 2) : Met l yJ11_listIterator (ws_ yJ11_listIterator cJ11_listIterator 2 (some (.object "java/util/ListIterator"))) ({ frames := 2, cells := 1, slots := 5, locals := 45 }) (gPre G M0 [.ref (hd), .int (nI i)]) (gQ G (gR (fun r M1 => M0 r = none ∧ M1 r = some ((2, 0), .inr (9, [.null, va_rf (if i < n then some (nd i) else none), .int (nI i), .int mc, .ref hd])) ∧ ∀ z, z ≠ r → M1 z = M0 z))) 1 5 (gA G) := by
  refine gMet (L0 := [some (.ref (hd)), some (.int (nI i))]) RJ11 hG (by decide +kernel) rfl (Nat.le_of_ble_eq_true rfl) rfl ?_
  intro p e s m args below meth c C hnm
  refine x_aload_n C dJ11_listIterator_0 rfl rfl ?_
  refine x_iload_n C dJ11_listIterator_1 rfl rfl ?_
  refine x_V1V C (met_J11_checkPositionIndex l C.1 h hi) mi_J11_checkPositionIndex q940 gcJ11 h.1 ⟨rfl, rfl⟩ rfl ⟨Nat.le_of_ble_eq_true rfl, Nat.le_of_ble_eq_true rfl⟩ rfl dJ11_listIterator_2 (fun M1 hr => ?_)
  rw [hr]
  refine y_new (fs := [.null, .null, .int (nI 0), .int (nI 0), .null]) C (fun a => (2, 0)) gcJ28 q948 q949 q161 rfl ⟨Nat.le_of_ble_eq_true rfl, Nat.le_of_ble_eq_true rfl⟩ dJ11_listIterator_5 (fun a2 M3 n4 g5 h6 k7 => ?_)
  have e8 : hd ≠ a2 := gM_nn h.1 n4
  have h9 := (k7 _ e8).trans h.1
  have k10 : ∀ zz : Nat, zz ≠ a2 → M3 zz = M0 zz := fun zz z0 => k7 zz z0
  refine x_dup C dJ11_listIterator_8 rfl ?_
  refine x_aload_n C dJ11_listIterator_9 rfl rfl ?_
  refine x_iload_n C dJ11_listIterator_10 rfl rfl ?_
  refine x_I2 C (met_J28_init l C.1 (h.keep (ρ := fun _ => False) (gFl.ofL [a2] (fun z hz => k10 z (fun e => hz (by rw [e]; exact List.mem_cons_self))) (fun z hz x hx => by rw [List.mem_singleton.mp hz, n4] at hx; cases hx)) (fun q => q) (fun q => q)) hi h6 (fun q => hl (by rw [← q])) (fun q => hlN (by rw [← q]))) mi_J28_init q950 ⟨rfl, rfl⟩ rfl ⟨Nat.le_of_ble_eq_true rfl, Nat.le_of_ble_eq_true rfl⟩ rfl dJ11_listIterator_11 (fun M11 hr => ?_)
  obtain ⟨h12, k13⟩ := hr
  have h14 := (k13 _ e8).trans h9
  have k15 : ∀ zz : Nat, zz ≠ a2 → M11 zz = M0 zz := fun zz z0 => (k13 zz z0).trans (k10 zz z0)
  exact x_aret C dJ11_listIterator_14 ⟨Nat.le_of_ble_eq_true rfl, Nat.le_of_ble_eq_true rfl⟩ ⟨n4, h12, k15⟩
set_option maxHeartbeats 4000000 in
set_option maxRecDepth 100000 in
theorem met_J9_listIterator (l : Launch) {G : gG} (hG : gOK G) {M0 : gM} {l0 lN : Nat × Nat} {hd n : Nat} {mc : Int32} {nd it : Nat → Nat} (h : LL l0 lN hd n mc nd it M0) (hl : ¬ l0.1 = 2) (hlN : ¬ lN.1 = 2) : Met l yJ9_listIterator (ws_ yJ9_listIterator cJ9_listIterator 1 (some (.object "java/util/ListIterator"))) ({ frames := 3, cells := 1, slots := 5, locals := 66 }) (gPre G M0 [.ref (hd)]) (gQ G (gR (fun r M1 => M0 r = none ∧ M1 r = some ((2, 0), .inr (9, [.null, va_rf (if 0 < n then some (nd 0) else none), .int (nI 0), .int mc, .ref hd])) ∧ ∀ z, z ≠ r → M1 z = M0 z))) 1 5 (gA G) := by
  refine gMet (L0 := [some (.ref (hd))]) RJ9 hG (by decide +kernel) rfl (Nat.le_of_ble_eq_true rfl) rfl ?_
  intro p e s m args below meth c C hnm
  refine x_aload_n C dJ9_listIterator_0 rfl rfl ?_
  refine x_iconst C dJ9_listIterator_1 kc_0 ?_
  refine x_U1R C (met_J11_listIterator l C.1 h (Nat.zero_le _) hl hlN) (fun hR2 => va_cwA 1 C.hw (lw_app (a := [_, _, _, _, _]) (by
    intro w hw
    simp only [List.mem_cons, List.not_mem_nil, or_false] at hw
    rcases hw with e | e | e | e | e
    · rw [e]; exact q934
    · rw [e]; exact q936
    · rw [e]; exact q937
    · rw [e]; exact q938
    · rw [e]; exact q139) (lw_meth q939)) rfl rfl rfl (va_Nw.of rfl (C.soft q971 rfl)) (by decide +kernel) hR2) gcJ11 h.1 ⟨rfl, rfl⟩ rfl ⟨Nat.le_of_ble_eq_true rfl, Nat.le_of_ble_eq_true rfl⟩ rfl dJ9_listIterator_2 (fun r2 M1 hr => ?_)
  exact x_aret C dJ9_listIterator_5 ⟨Nat.le_of_ble_eq_true rfl, Nat.le_of_ble_eq_true rfl⟩ hr
set_option maxHeartbeats 4000000 in
set_option maxRecDepth 100000 in
theorem met_J10_iterator (l : Launch) {G : gG} (hG : gOK G) {M0 : gM} {l0 lN : Nat × Nat} {hd n : Nat} {mc : Int32} {nd it : Nat → Nat} (h : LL l0 lN hd n mc nd it M0) (hl : ¬ l0.1 = 2) (hlN : ¬ lN.1 = 2) : Met l yJ10_iterator (ws_ yJ10_iterator cJ10_iterator 1 (some (.object "java/util/Iterator"))) ({ frames := 4, cells := 1, slots := 5, locals := 86 }) (gPre G M0 [.ref (hd)]) (gQ G (gR (fun r M1 => M0 r = none ∧ M1 r = some ((2, 0), .inr (9, [.null, va_rf (if 0 < n then some (nd 0) else none), .int (nI 0), .int mc, .ref hd])) ∧ ∀ z, z ≠ r → M1 z = M0 z))) 1 5 (gA G) := by
  refine gMet (L0 := [some (.ref (hd))]) RJ10 hG (by decide +kernel) rfl (Nat.le_of_ble_eq_true rfl) rfl ?_
  intro p e s m args below meth c C hnm
  refine x_aload_n C dJ10_iterator_0 rfl rfl ?_
  refine x_U0R C (met_J9_listIterator l C.1 h hl hlN) (fun hR2 => va_cwU 0 C.hw (lw_app (a := [_, _, _, _, _]) (by
    intro w hw
    simp only [List.mem_cons, List.not_mem_nil, or_false] at hw
    rcases hw with e | e | e | e | e
    · rw [e]; exact q928
    · rw [e]; exact q929
    · rw [e]; exact q931
    · rw [e]; exact q932
    · rw [e]; exact q137) (lw_meth q933)) rfl rfl rfl rfl (by decide +kernel) hR2) gcJ11 h.1 ⟨rfl, rfl⟩ rfl ⟨Nat.le_of_ble_eq_true rfl, Nat.le_of_ble_eq_true rfl⟩ rfl dJ10_iterator_1 (fun r2 M1 hr => ?_)
  exact x_aret C dJ10_iterator_4 ⟨Nat.le_of_ble_eq_true rfl, Nat.le_of_ble_eq_true rfl⟩ hr
theorem mi_J28_checkForComodification : gMV RJ28 yJ28_checkForComodification cJ28_checkForComodification 1 none 0 := ⟨q1103, q1104, q161, q1105, by decide +kernel⟩
set_option maxHeartbeats 4000000 in
set_option maxRecDepth 100000 in
theorem met_J28_checkForComodification (l : Launch) {G : gG} (hG : gOK G) {M0 : gM} {l0 lN : Nat × Nat} {hd n : Nat} {mc : Int32} {nd it : Nat → Nat} {q i : Nat} {lr : Option Nat} {mc' : Int32} (h : LL l0 lN hd n mc nd it M0) (t : M0 q = some ((2, 0), .inr (9, [va_rf lr, va_rf (if i < n then some (nd i) else none), .int (nI i), .int mc, .ref hd]))) : Met l yJ28_checkForComodification (ws_ yJ28_checkForComodification cJ28_checkForComodification 1 none) ({ frames := 0, cells := 0, slots := 0, locals := 0 }) (gPre G M0 [.ref (q)]) (gQ G (gV (fun M1 => M1 = M0))) 0 0 (gA G) := by
  refine gMet (L0 := [some (.ref (q))]) RJ28 hG (by decide +kernel) rfl (Nat.le_of_ble_eq_true rfl) rfl ?_
  intro p e s m args below meth c C hnm
  refine x_aload_n C dJ28_checkForComodification_0 rfl rfl ?_
  refine x_get C gcJ28 t 4 rfl q959 rfl dJ28_checkForComodification_1 ?_
  refine x_getS C gcJ11 h.1 0 rfl q372 q373 rfl dJ28_checkForComodification_4 ?_
  refine x_aload_n C dJ28_checkForComodification_7 rfl rfl ?_
  refine x_get C gcJ28 t 3 rfl q958 rfl dJ28_checkForComodification_8 ?_
  refine x_icmp_eqT (tgt := 22) C (rfl) dJ28_checkForComodification_11 rfl ?_
  exact x_vret C dJ28_checkForComodification_22 ⟨Nat.le_of_ble_eq_true rfl, Nat.le_of_ble_eq_true rfl⟩ rfl
theorem mi_J28_hasNext : gMV RJ28 yJ28_hasNext cJ28_hasNext 1 (some .boolean) 0 := ⟨q995, q2957, q161, q997, by decide +kernel⟩
set_option maxHeartbeats 4000000 in
set_option maxRecDepth 100000 in
theorem met_J28_hasNext (l : Launch) {G : gG} (hG : gOK G) {M0 : gM} {l0 lN : Nat × Nat} {hd n : Nat} {mc : Int32} {nd it : Nat → Nat} {q i : Nat} {lr : Option Nat} {mc' : Int32} (h : LL l0 lN hd n mc nd it M0) (t : M0 q = some ((2, 0), .inr (9, [va_rf lr, va_rf (if i < n then some (nd i) else none), .int (nI i), .int mc', .ref hd]))) (hi : i ≤ n) : Met l yJ28_hasNext (ws_ yJ28_hasNext cJ28_hasNext 1 (some .boolean)) ({ frames := 0, cells := 0, slots := 0, locals := 0 }) (gPre G M0 [.ref (q)]) (gQ G (gI (fun r M1 => M1 = M0 ∧ (if i < n then nI 1 else nI 0) = r))) 0 0 (gA G) := by
  refine gMet (L0 := [some (.ref (q))]) RJ28 hG (by decide +kernel) rfl (Nat.le_of_ble_eq_true rfl) rfl ?_
  intro p e s m args below meth c C hnm
  have hnb := h.2.2.2.2
  refine x_aload_n C dJ28_hasNext_0 rfl rfl ?_
  refine x_get C gcJ28 t 2 rfl q957 rfl dJ28_hasNext_1 ?_
  refine x_aload_n C dJ28_hasNext_4 rfl rfl ?_
  refine x_get C gcJ28 t 4 rfl q959 rfl dJ28_hasNext_5 ?_
  refine x_get C gcJ11 h.1 1 rfl q368 rfl dJ28_hasNext_8 ?_
  refine x_icmp_geN (tgt := 18) C (by omega) (by omega) dJ28_hasNext_11 rfl (fun c11 => ?_) (fun c11 => ?_)
  · -- 18
    refine x_iconst C dJ28_hasNext_18 kc_0 ?_
    exact x_zret C (by decide +kernel) dJ28_hasNext_19 ⟨Nat.le_of_ble_eq_true rfl, Nat.le_of_ble_eq_true rfl⟩ ⟨rfl, if_neg (by omega)⟩
  · -- 14
    refine x_iconst C dJ28_hasNext_14 kc_1 ?_
    refine x_goto (tgt := 19) C dJ28_hasNext_15 rfl ?_
    exact x_zret C (by decide +kernel) dJ28_hasNext_19 ⟨Nat.le_of_ble_eq_true rfl, Nat.le_of_ble_eq_true rfl⟩ ⟨rfl, if_pos c11⟩
set_option maxHeartbeats 4000000 in
set_option maxRecDepth 100000 in
theorem met_J28_next (l : Launch) {G : gG} (hG : gOK G) {M0 : gM} {l0 lN : Nat × Nat} {hd n : Nat} {mc : Int32} {nd it : Nat → Nat} {q i : Nat} {lr : Option Nat} {mc' : Int32} (h : LL l0 lN hd n mc nd it M0) (t : M0 q = some ((2, 0), .inr (9, [va_rf lr, va_rf (if i < n then some (nd i) else none), .int (nI i), .int mc, .ref hd]))) (hi : i < n) (hl : ¬ l0.1 = 2) (hlN : ¬ lN.1 = 2) : Met l yJ28_next (ws_ yJ28_next cJ28_next 1 (some (.object "java/lang/Object"))) ({ frames := 1, cells := 0, slots := 0, locals := 20 }) (gPre G M0 [.ref (q)]) (gQ G (gR (fun r M1 => it i = r ∧ M1 q = some ((2, 0), .inr (9, [.ref (nd i), va_rf (if (i + 1) < n then some (nd (i + 1)) else none), .int (nI (i + 1)), .int mc, .ref hd])) ∧ ∀ z, z ≠ q → M1 z = M0 z))) 0 0 (gA G) := by
  refine gMet (L0 := [some (.ref (q))]) RJ28 hG (by decide +kernel) rfl (Nat.le_of_ble_eq_true rfl) rfl ?_
  intro p e s m args below meth c C hnm
  have hnb := h.2.2.2.2
  have hqd : hd ≠ q := fun e => by have z := h.1; rw [e, t] at z; exact hl (congrArg (fun y => y.1.1) (Option.some.inj z)).symm
  have hqn : nd i ≠ q := fun e => by have z := h.nod hi; rw [e, t] at z; exact hlN (congrArg (fun y => y.1.1) (Option.some.inj z)).symm
  have t2 := t
  rw [if_pos hi] at t2
  have hq := h.nod hi
  have hdn := h.ne hi
  refine x_aload_n C dJ28_next_0 rfl rfl ?_
  refine x_V0V C (met_J28_checkForComodification l C.1 (mc' := mc) h t) mi_J28_checkForComodification q1102 gcJ28 t2 ⟨rfl, rfl⟩ rfl ⟨Nat.le_of_ble_eq_true rfl, Nat.le_of_ble_eq_true rfl⟩ rfl dJ28_next_1 (fun M1 hr => ?_)
  rw [hr]
  refine x_aload_n C dJ28_next_4 rfl rfl ?_
  refine x_V0I C (met_J28_hasNext l C.1 h t (by omega)) mi_J28_hasNext q1106 gcJ28 t2 ⟨rfl, rfl⟩ rfl ⟨Nat.le_of_ble_eq_true rfl, Nat.le_of_ble_eq_true rfl⟩ rfl dJ28_next_5 (fun r3 M2 hr => ?_)
  obtain ⟨hr, rfl⟩ := hr
  rw [hr, if_pos hi]
  refine x_if_neT (tgt := 19) C (by decide) dJ28_next_8 rfl ?_
  refine x_aload_n C dJ28_next_19 rfl rfl ?_
  refine x_aload_n C dJ28_next_20 rfl rfl ?_
  refine x_get C gcJ28 t2 1 rfl q956 rfl dJ28_next_21 ?_
  refine y_put (fs' := [.ref (nd i), .ref (nd i), .int (nI i), .int (mc), .ref (hd)]) C gcJ28 t2 0 rfl q955 rfl rfl rfl rfl rfl dJ28_next_24 (fun M4 h5 k6 => ?_)
  have h7 := (k6 _ hqd).trans h.1
  have h8 := (k6 _ hqn).trans hq
  have k9 : ∀ zz : Nat, zz ≠ q → M4 zz = M0 zz := fun zz z0 => k6 zz z0
  refine x_aload_n C dJ28_next_27 rfl rfl ?_
  refine x_aload_n C dJ28_next_28 rfl rfl ?_
  refine x_get C gcJ28 h5 1 rfl q956 rfl dJ28_next_29 ?_
  refine x_get C gcJ30 h8 1 rfl q1233 rfl dJ28_next_32 ?_
  refine y_put (fs' := [.ref (nd i), va_rf (if i + 1 < n then some (nd (i + 1)) else none), .int (nI i), .int (mc), .ref (hd)]) C gcJ28 h5 1 rfl q956 rfl (nar_rf _) (fit_rf _) rfl rfl dJ28_next_35 (fun M10 h11 k12 => ?_)
  have h13 := (k12 _ hqd).trans h7
  have h14 := (k12 _ hqn).trans h8
  have k15 : ∀ zz : Nat, zz ≠ q → M10 zz = M0 zz := fun zz z0 => (k12 zz z0).trans (k9 zz z0)
  refine x_aload_n C dJ28_next_38 rfl rfl ?_
  refine x_dup C dJ28_next_39 rfl ?_
  refine x_get C gcJ28 h11 2 rfl q957 rfl dJ28_next_40 ?_
  refine x_iconst C dJ28_next_43 kc_1 ?_
  refine x_iaddN C dJ28_next_44 ?_
  refine y_put (fs' := [.ref (nd i), va_rf (if i + 1 < n then some (nd (i + 1)) else none), .int (nI (i + 1)), .int (mc), .ref (hd)]) C gcJ28 h11 2 rfl q957 rfl rfl rfl rfl rfl dJ28_next_45 (fun M16 h17 k18 => ?_)
  have h19 := (k18 _ hqd).trans h13
  have h20 := (k18 _ hqn).trans h14
  have k21 : ∀ zz : Nat, zz ≠ q → M16 zz = M0 zz := fun zz z0 => (k18 zz z0).trans (k15 zz z0)
  refine x_aload_n C dJ28_next_48 rfl rfl ?_
  refine x_get C gcJ28 h17 0 rfl q955 rfl dJ28_next_49 ?_
  refine x_get C gcJ30 h20 0 rfl q1230 rfl dJ28_next_52 ?_
  exact x_aret C dJ28_next_55 ⟨Nat.le_of_ble_eq_true rfl, Nat.le_of_ble_eq_true rfl⟩ ⟨rfl, h17, k21⟩
set_option maxHeartbeats 4000000 in
set_option maxRecDepth 100000 in
theorem met_J28_remove (l : Launch) {G : gG} (hG : gOK G) {M0 : gM} {l0 lN : Nat × Nat} {hd n : Nat} {mc : Int32} {nd it : Nat → Nat} {q i : Nat} (h : LL l0 lN hd n mc nd it M0) (hi : i < n) (t : M0 q = some ((2, 0), .inr (9, [.ref (nd i), va_rf (if (i + 1) < n then some (nd (i + 1)) else none), .int (nI (i + 1)), .int mc, .ref hd]))) (hl : ¬ l0.1 = 2) (hlN : ¬ lN.1 = 2) : Met l yJ28_remove (ws_ yJ28_remove cJ28_remove 2 none) ({ frames := 1, cells := 0, slots := 0, locals := 24 }) (gPre G M0 [.ref (q)]) (gQ G (gV (fun M1 => M1 q = some ((2, 0), .inr (9, [.null, va_rf (if i < n - 1 then some ((fun j => if j < i then nd j else nd (j + 1)) i) else none), .int (nI i), .int (mc + nI 1), .ref hd])) ∧ LL l0 lN hd (n - 1) (mc + nI 1) (fun j => if j < i then nd j else nd (j + 1)) (fun j => if j < i then it j else it (j + 1)) M1 ∧ ∀ z x, z ≠ q → M0 z = some x → (∃ y, M1 z = some (x.1, y)) ∧ (¬ ro2 l0 lN x.1 → M1 z = some x)))) 0 0 (gA G) := by
  refine gMet (L0 := [some (.ref (q)), none]) RJ28 hG (by decide +kernel) rfl (Nat.le_of_ble_eq_true rfl) rfl ?_
  intro p e s m args below meth c C hnm
  have hnb := h.2.2.2.2
  have hqd : hd ≠ q := fun e => by have z := h.1; rw [e, t] at z; exact hl (congrArg (fun y => y.1.1) (Option.some.inj z)).symm
  have hqn : ∀ j, j < n → nd j ≠ q := fun j hj e => by have z := h.nod hj; rw [e, t] at z; exact hlN (congrArg (fun y => y.1.1) (Option.some.inj z)).symm
  have hq := h.nod hi
  have hqi := hqn i hi
  refine x_aload_n C dJ28_remove_0 rfl rfl ?_
  refine x_V0V C (met_J28_checkForComodification l C.1 (i := i + 1) (mc' := mc) (lr := some (nd i)) h t) mi_J28_checkForComodification q1102 gcJ28 t ⟨rfl, rfl⟩ rfl ⟨Nat.le_of_ble_eq_true rfl, Nat.le_of_ble_eq_true rfl⟩ rfl dJ28_remove_1 (fun M1 hr => ?_)
  rw [hr]
  refine x_aload_n C dJ28_remove_4 rfl rfl ?_
  refine x_get C gcJ28 t 0 rfl q955 rfl dJ28_remove_5 ?_
  refine x_ifnonnull (tgt := 19) C dJ28_remove_8 rfl ?_
  refine x_aload_n C dJ28_remove_19 rfl rfl ?_
  refine x_get C gcJ28 t 0 rfl q955 rfl dJ28_remove_20 ?_
  refine x_get C gcJ30 hq 1 rfl q1233 rfl dJ28_remove_23 ?_
  refine x_astore_nq C dJ28_remove_26 rfl (gs1_1 rfl) rfl ?_
  refine x_aload_n C dJ28_remove_27 rfl rfl ?_
  refine x_get C gcJ28 t 4 rfl q959 rfl dJ28_remove_28 ?_
  refine x_aload_n C dJ28_remove_31 rfl rfl ?_
  refine x_get C gcJ28 t 0 rfl q955 rfl dJ28_remove_32 ?_
  refine x_V1R C (met_J11_unlink l C.1 h hi) mi_J11_unlink q2050 gcJ11 h.1 ⟨rfl, rfl⟩ rfl ⟨Nat.le_of_ble_eq_true rfl, Nat.le_of_ble_eq_true rfl⟩ rfl dJ28_remove_35 (fun r3 M2 hr => ?_)
  obtain ⟨rfl, g1, g2⟩ := hr
  have t3 : M2 q = some ((2, 0), .inr (9, [.ref (nd i), va_rf (if (i + 1) < n then some (nd (i + 1)) else none), .int (nI (i + 1)), .int mc, .ref hd])) := (g2 _ _ t).2 (fun e => e.elim (fun e => hl (by rw [← e])) (fun e => hlN (by rw [← e])))
  refine x_pop C dJ28_remove_38 rfl ?_
  refine x_aload_n C dJ28_remove_39 rfl rfl ?_
  refine x_get C gcJ28 t3 1 rfl q956 rfl dJ28_remove_40 ?_
  refine x_aload_n C dJ28_remove_43 rfl rfl ?_
  refine x_get C gcJ28 t3 0 rfl q955 rfl dJ28_remove_44 ?_
  refine x_acmp_ne (rx := (if i + 1 < n then some (nd (i + 1)) else none)) (ry := (some (nd i))) (tgt := 58) C dJ28_remove_47 rfl (fun _ => ?_) (fun q => absurd q (fun z : _ = _ => by by_cases g : i + 1 < n; rw [if_pos g] at z; exact h.nne g hi (by omega) (Option.some.inj z); rw [if_neg g] at z; cases z))
  refine x_aload_n C dJ28_remove_58 rfl rfl ?_
  refine x_dup C dJ28_remove_59 rfl ?_
  refine x_get C gcJ28 t3 2 rfl q957 rfl dJ28_remove_60 ?_
  refine x_iconst C dJ28_remove_63 kc_1 ?_
  refine x_isubN C (by omega) dJ28_remove_64 ?_
  refine y_put (fs' := [.ref (nd i), va_rf (if i + 1 < n then some (nd (i + 1)) else none), .int (nI ((i + 1) - 1)), .int (mc), .ref (hd)]) C gcJ28 t3 2 rfl q957 rfl rfl rfl rfl rfl dJ28_remove_65 (fun M4 h5 k6 => ?_)
  have k7 : ∀ zz : Nat, zz ≠ q → M4 zz = M2 zz := fun zz z0 => k6 zz z0
  refine x_aload_n C dJ28_remove_68 rfl rfl ?_
  refine x_null C dJ28_remove_69 ?_
  refine y_put (fs' := [.null, va_rf (if i + 1 < n then some (nd (i + 1)) else none), .int (nI ((i + 1) - 1)), .int (mc), .ref (hd)]) C gcJ28 h5 0 rfl q955 rfl rfl rfl rfl rfl dJ28_remove_70 (fun M8 h9 k10 => ?_)
  have k11 : ∀ zz : Nat, zz ≠ q → M8 zz = M2 zz := fun zz z0 => (k10 zz z0).trans (k7 zz z0)
  refine x_aload_n C dJ28_remove_73 rfl rfl ?_
  refine x_dup C dJ28_remove_74 rfl ?_
  refine x_get C gcJ28 h9 3 rfl q958 rfl dJ28_remove_75 ?_
  refine x_iconst C dJ28_remove_78 kc_1 ?_
  refine x_iadd C dJ28_remove_79 ?_
  refine y_put (fs' := [.null, va_rf (if i + 1 < n then some (nd (i + 1)) else none), .int (nI ((i + 1) - 1)), .int (mc + (nI 1)), .ref (hd)]) C gcJ28 h9 3 rfl q958 rfl rfl rfl rfl rfl dJ28_remove_80 (fun M12 h13 k14 => ?_)
  have k15 : ∀ zz : Nat, zz ≠ q → M12 zz = M2 zz := fun zz z0 => (k14 zz z0).trans (k11 zz z0)
  refine x_vret C dJ28_remove_83 ⟨Nat.le_of_ble_eq_true rfl, Nat.le_of_ble_eq_true rfl⟩ ⟨?_, ?_, ?_⟩
  · have e9 : (if i + 1 < n then some (nd (i + 1)) else none) = (if i < n - 1 then some (if i < i then nd i else nd (i + 1)) else none) := by by_cases g : i + 1 < n; rw [if_pos g, if_pos (show i < n - 1 by omega), if_neg (Nat.lt_irrefl i)]; rw [if_neg g, if_neg (show ¬ i < n - 1 by omega)]
    rw [← e9]; exact h13
  · exact g1.keep (gFl.of1 (ρ := fun z => z = (2, 0)) t3 h13 k15 rfl) (fun e => hl (by rw [e])) (fun e => hlN (by rw [e]))
  · intro z x hz hx; rw [k15 z hz]; exact g2 z x hx
