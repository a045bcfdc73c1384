set_option maxRecDepth 100000
theorem mi_J12_init : gMI yJ12_init cJ12_init 1 0 := ⟨q459, q141, q460, rfl, by decide +kernel⟩
set_option maxHeartbeats 4000000 in
set_option maxRecDepth 100000 in
theorem met_J12_init (l : Launch) {G : gG} (hG : gOK G) {M0 : gM} {a : Nat} {l0 : Nat × Nat} {en : Nat → Nat} (lE : Nat × Nat) (h0 : M0 a = some (l0, .inr (3, [.null, .int (nI 0), .int (nI 0)]))) (hl : ¬ l0 = lE) : Met l yJ12_init (ws_ yJ12_init cJ12_init 1 none) ({ frames := 2, cells := 1, slots := 17, locals := 32 }) (gPre G M0 [.ref (a)]) (gQ G (gV (fun M1 => DQ G l0 lE a 0 en M1 ∧ gFl (ro2 l0 lE) M0 M1))) 1 17 (gA G) := by
  refine gMet (L0 := [some (.ref (a))]) RJ12 hG (by decide +kernel) rfl (Nat.le_of_ble_eq_true rfl) rfl ?_
  intro p e s m args below meth c C hnm
  refine x_aload_n C dJ12_init_0 rfl rfl ?_
  refine x_I0 C (met_J4_init l C.1) mi_J4_init q461 ⟨rfl, rfl⟩ rfl ⟨Nat.le_of_ble_eq_true rfl, Nat.le_of_ble_eq_true rfl⟩ rfl dJ12_init_1 (fun M1 hr => ?_)
  rw [hr]
  refine x_aload_n C dJ12_init_4 rfl rfl ?_
  refine x_bipush C dJ12_init_5 kb_17 ?_
  refine y_newq (N := 17) C 3 (fun a => lE) q462 q208 rfl rfl rfl ⟨Nat.le_of_ble_eq_true rfl, Nat.le_of_ble_eq_true rfl⟩ dJ12_init_7 (fun a2 M3 n4 g5 h6 k7 => ?_)
  have e8 : a ≠ a2 := gM_nn h0 n4
  have h9 := (k7 _ e8).trans h0
  have k10 : ∀ zz : Nat, zz ≠ a2 → M3 zz = M0 zz := fun zz z0 => k7 zz z0
  refine y_put (fs' := [.ref (a2), .int (nI 0), .int (nI 0)]) C gcJ12 h9 0 rfl q463 rfl rfl rfl rfl rfl dJ12_init_10 (fun M11 h12 k13 => ?_)
  have h14 := (k13 _ (Ne.symm e8)).trans h6
  have k15 : ∀ zz : Nat, zz ≠ a2 → zz ≠ a → M11 zz = M0 zz := fun zz z0 z1 => (k13 zz z1).trans (k10 zz z0)
  refine x_vret C dJ12_init_13 ⟨Nat.le_of_ble_eq_true rfl, Nat.le_of_ble_eq_true rfl⟩ ⟨⟨a2, 17, 0, (fun _ => none), ⟨h12, h14, by omega, by omega, by omega, fun i hi => absurd hi (by omega), hl⟩, Or.inl rfl⟩, ?_⟩
  refine gFl.ofL [a2, a] (fun z hz => k15 z (fun e => hz (by rw [e]; simp)) (fun e => hz (by rw [e]; simp))) (fun z hz x hx => ?_)
  simp only [List.mem_cons, List.not_mem_nil, or_false] at hz
  rcases hz with rfl | rfl
  · rw [n4] at hx; cases hx
  · rw [h0] at hx; cases hx; exact ⟨Or.inl rfl, _, h12⟩
theorem mi_J12_size : gMV RJ12 yJ12_size cJ12_size 1 (some .int) 0 := ⟨q1701, q1702, q141, q1703, by decide +kernel⟩
set_option maxHeartbeats 4000000 in
set_option maxRecDepth 100000 in
theorem met_J12_size (l : Launch) {G : gG} (hG : gOK G) {M0 : gM} {l0 lE : Nat × Nat} {d n : Nat} {en : Nat → Nat} {el cap hd : Nat} {f : Nat → Option Nat} (h : DQe G l0 lE d n el cap hd f en M0) : Met l yJ12_size (ws_ yJ12_size cJ12_size 1 (some .int)) ({ frames := 1, cells := 0, slots := 0, locals := 22 }) (gPre G M0 [.ref (d)]) (gQ G (gI (fun r M1 => M1 = M0 ∧ nI n = r))) 0 0 (gA G) := by
  refine gMet (L0 := [some (.ref (d))]) RJ12 hG (by decide +kernel) rfl (Nat.le_of_ble_eq_true rfl) rfl ?_
  intro p e s m args below meth c C hnm
  obtain ⟨hnc, hhc, hcb, hff, hll⟩ := h.2.2
  have hde := h.ne
  have hmt : (hd + n) % cap < cap := Nat.mod_lt _ (by omega)
  refine x_aload_n C dJ12_size_0 rfl rfl ?_
  refine x_get C gcJ12 h.1 2 rfl q467 rfl dJ12_size_1 ?_
  refine x_aload_n C dJ12_size_4 rfl rfl ?_
  refine x_get C gcJ12 h.1 1 rfl q466 rfl dJ12_size_5 ?_
  refine x_aload_n C dJ12_size_8 rfl rfl ?_
  refine x_get C gcJ12 h.1 0 rfl q463 rfl dJ12_size_9 ?_
  refine y_alen C 3 rfl h.2.1 dJ12_size_12 ?_
  refine x_S3I C (met_J12_sub l C.1 (by omega) (by omega) (by omega)) mi_J12_sub q1704 ⟨rfl, rfl⟩ rfl ⟨Nat.le_of_ble_eq_true rfl, Nat.le_of_ble_eq_true rfl⟩ rfl dJ12_size_13 (fun r2 M1 hr => ?_)
  obtain ⟨hr, rfl⟩ := hr
  rw [hr]
  refine x_iret C dJ12_size_16 ⟨Nat.le_of_ble_eq_true rfl, Nat.le_of_ble_eq_true rfl⟩ ⟨rfl, ?_⟩
  show nI n = nI (if (hd + n) % cap < hd then (hd + n) % cap + cap - hd else (hd + n) % cap - hd)
  rw [mod_of hhc hnc]
  by_cases q : hd + n < cap
  · rw [if_pos q, if_neg (show ¬ hd + n < hd by omega), show hd + n - hd = n by omega]
  · rw [if_neg q, if_pos (show hd + n - cap < hd by omega), show hd + n - cap + cap - hd = n by omega]
theorem mi_J12_circularClear : gMS yJ12_circularClear cJ12_circularClear 4 none 3 := ⟨q1688, q141, q1689, by decide +kernel⟩
set_option maxHeartbeats 4000000 in
set_option maxRecDepth 100000 in
theorem met_J12_circularClear (l : Launch) {G : gG} (hG : gOK G) {M0 : gM} {el cap i e0 : Nat} {lE : Nat × Nat} {f : Nat → Option Nat} (h0 : M0 el = some (lE, .inl (G.2.1 3, cap, .inr (.inr (.inr (.inr (clipQ cap f))))))) (hi : i < cap) (he : e0 < cap) (hc : cap < 1000) : Met l yJ12_circularClear (ws_ yJ12_circularClear cJ12_circularClear 4 none) ({ frames := 0, cells := 0, slots := 0, locals := 0 }) (gPre G M0 [.ref (el), .int (nI i), .int (nI e0)]) (gQ G (gV (fun M1 => ∃ f', M1 el = some (lE, .inl (G.2.1 3, cap, .inr (.inr (.inr (.inr (clipQ cap f')))))) ∧ ∀ q, q ≠ el → M1 q = M0 q))) 0 0 (gA G) := by
  refine gMet (L0 := [some (.ref (el)), some (.int (nI i)), some (.int (nI e0)), none]) RJ12 hG (by decide +kernel) rfl (Nat.le_of_ble_eq_true rfl) rfl ?_
  intro p e s m args below meth c C hnm
  refine x_iload_n C dJ12_circularClear_0 rfl rfl ?_
  refine x_iload_n C dJ12_circularClear_1 rfl rfl ?_
  refine x_icmp_gtN (tgt := 9) C (by omega) (by omega) dJ12_circularClear_2 rfl (fun c2 => ?_) (fun c2 => ?_)
  · -- 9
    refine x_aload_n C dJ12_circularClear_9 rfl rfl ?_
    refine y_alen C 3 rfl h0 dJ12_circularClear_10 ?_
    refine x_istore_n C dJ12_circularClear_11 rfl (gs1_3 rfl) rfl ?_
    refine x_loopM (head := 12) (S := Nat × Nat) (fun x M => x.1 ≤ x.2 ∧ x.2 ≤ cap ∧ (x.2 = e0 ∨ x.2 = cap) ∧ ∃ f', M el = some (lE, .inl (G.2.1 3, cap, .inr (.inr (.inr (.inr (clipQ cap f')))))) ∧ ∀ q, q ≠ el → M q = M0 q) (fun x => [some (.ref el), some (.int (nI x.1)), some (.int (nI e0)), some (.int (nI x.2))]) (fun x => (if x.2 = e0 then 0 else 2000) + (x.2 - x.1)) (i, cap) ⟨by dsimp only; omega, by dsimp only; omega, by dsimp only; omega, f, h0, fun _ _ => rfl⟩ (fun x M hI ih => ?_)
    obtain ⟨i1, t1⟩ := x
    obtain ⟨h1, h2, h3, f', hE, hK⟩ := hI
    dsimp only at h1 h2 h3
    show gX G p l e _ s m args below meth c 4 _ M _ _ 12 [some (.ref el), some (.int (nI i1)), some (.int (nI e0)), some (.int (nI t1))] []
    refine x_iload_n C dJ12_circularClear_12 rfl rfl ?_
    refine x_iload_n C dJ12_circularClear_13 rfl rfl ?_
    refine x_icmp_geN (tgt := 27) C (by omega) (by omega) dJ12_circularClear_14 rfl (fun c14 => ?_) (fun c14 => ?_)
    · -- 27
      refine x_iload_n C dJ12_circularClear_27 rfl rfl ?_
      refine x_iload_n C dJ12_circularClear_28 rfl rfl ?_
      refine x_icmp_neN (tgt := 35) C (by omega) (by omega) dJ12_circularClear_29 rfl (fun c29 => ?_) (fun c29 => ?_)
      · -- 35
        refine x_iconst C dJ12_circularClear_35 kc_0 ?_
        refine x_istore_n C dJ12_circularClear_36 rfl (gs1_1 rfl) rfl ?_
        refine x_iload_n C dJ12_circularClear_37 rfl rfl ?_
        refine x_istore_n C dJ12_circularClear_38 rfl (gs1_3 rfl) rfl ?_
        refine x_goto (tgt := 12) C dJ12_circularClear_39 rfl ?_
        exact ih (0, e0) _ (by dsimp only; split <;> (try split) <;> omega) ⟨by dsimp only; omega, by dsimp only; omega, by dsimp only; omega, _, hE, hK⟩
      · -- 32
        refine x_goto (tgt := 42) C dJ12_circularClear_32 rfl ?_
        exact x_vret C dJ12_circularClear_42 ⟨Nat.le_of_ble_eq_true rfl, Nat.le_of_ble_eq_true rfl⟩ ⟨f', hE, hK⟩
    · -- 17
      refine x_aload_n C dJ12_circularClear_17 rfl rfl ?_
      refine x_iload_n C dJ12_circularClear_18 rfl rfl ?_
      refine x_null C dJ12_circularClear_19 ?_
      refine y_aastN (i := i1) (E := "java/lang/Object") C 3 rfl hE rfl (by omega) (Nat.ble_eq_true_of_le (by omega)) dJ12_circularClear_20 (fun M1 h2 k3 => ?_)
      have k4 : ∀ zz : Nat, zz ≠ el → M1 zz = M zz := fun zz z0 => k3 zz z0
      refine x_iincN (z := 1) C dJ12_circularClear_21 rfl (gs1_1 rfl) rfl ?_
      refine x_goto (tgt := 12) C dJ12_circularClear_24 rfl ?_
      exact ih (i1 + 1, t1) _ (by dsimp only; split <;> (try split) <;> omega) ⟨by dsimp only; omega, by dsimp only; omega, by dsimp only; omega, _, h2, fun q hq => (k4 q hq).trans (hK q hq)⟩
  · -- 5
    refine x_iload_n C dJ12_circularClear_5 rfl rfl ?_
    refine x_goto (tgt := 11) C dJ12_circularClear_6 rfl ?_
    refine x_istore_n C dJ12_circularClear_11 rfl (gs1_3 rfl) rfl ?_
    refine x_loopM (head := 12) (S := Nat × Nat) (fun x M => x.1 ≤ x.2 ∧ x.2 ≤ cap ∧ (x.2 = e0 ∨ x.2 = cap) ∧ ∃ f', M el = some (lE, .inl (G.2.1 3, cap, .inr (.inr (.inr (.inr (clipQ cap f')))))) ∧ ∀ q, q ≠ el → M q = M0 q) (fun x => [some (.ref el), some (.int (nI x.1)), some (.int (nI e0)), some (.int (nI x.2))]) (fun x => (if x.2 = e0 then 0 else 2000) + (x.2 - x.1)) (i, e0) ⟨by dsimp only; omega, by dsimp only; omega, by dsimp only; omega, f, h0, fun _ _ => rfl⟩ (fun x M hI ih => ?_)
    obtain ⟨i1, t1⟩ := x
    obtain ⟨h1, h2, h3, f', hE, hK⟩ := hI
    dsimp only at h1 h2 h3
    show gX G p l e _ s m args below meth c 4 _ M _ _ 12 [some (.ref el), some (.int (nI i1)), some (.int (nI e0)), some (.int (nI t1))] []
    refine x_iload_n C dJ12_circularClear_12 rfl rfl ?_
    refine x_iload_n C dJ12_circularClear_13 rfl rfl ?_
    refine x_icmp_geN (tgt := 27) C (by omega) (by omega) dJ12_circularClear_14 rfl (fun c14 => ?_) (fun c14 => ?_)
    · -- 27
      refine x_iload_n C dJ12_circularClear_27 rfl rfl ?_
      refine x_iload_n C dJ12_circularClear_28 rfl rfl ?_
      refine x_icmp_neN (tgt := 35) C (by omega) (by omega) dJ12_circularClear_29 rfl (fun c29 => ?_) (fun c29 => ?_)
      · -- 35
        refine x_iconst C dJ12_circularClear_35 kc_0 ?_
        refine x_istore_n C dJ12_circularClear_36 rfl (gs1_1 rfl) rfl ?_
        refine x_iload_n C dJ12_circularClear_37 rfl rfl ?_
        refine x_istore_n C dJ12_circularClear_38 rfl (gs1_3 rfl) rfl ?_
        refine x_goto (tgt := 12) C dJ12_circularClear_39 rfl ?_
        exact ih (0, e0) _ (by dsimp only; split <;> (try split) <;> omega) ⟨by dsimp only; omega, by dsimp only; omega, by dsimp only; omega, _, hE, hK⟩
      · -- 32
        refine x_goto (tgt := 42) C dJ12_circularClear_32 rfl ?_
        exact x_vret C dJ12_circularClear_42 ⟨Nat.le_of_ble_eq_true rfl, Nat.le_of_ble_eq_true rfl⟩ ⟨f', hE, hK⟩
    · -- 17
      refine x_aload_n C dJ12_circularClear_17 rfl rfl ?_
      refine x_iload_n C dJ12_circularClear_18 rfl rfl ?_
      refine x_null C dJ12_circularClear_19 ?_
      refine y_aastN (i := i1) (E := "java/lang/Object") C 3 rfl hE rfl (by omega) (Nat.ble_eq_true_of_le (by omega)) dJ12_circularClear_20 (fun M1 h2 k3 => ?_)
      have k4 : ∀ zz : Nat, zz ≠ el → M1 zz = M zz := fun zz z0 => k3 zz z0
      refine x_iincN (z := 1) C dJ12_circularClear_21 rfl (gs1_1 rfl) rfl ?_
      refine x_goto (tgt := 12) C dJ12_circularClear_24 rfl ?_
      exact ih (i1 + 1, t1) _ (by dsimp only; split <;> (try split) <;> omega) ⟨by dsimp only; omega, by dsimp only; omega, by dsimp only; omega, _, h2, fun q hq => (k4 q hq).trans (hK q hq)⟩
theorem mi_J12_clear : gMV RJ12 yJ12_clear cJ12_clear 1 none 0 := ⟨q1684, q1685, q141, q1686, by decide +kernel⟩
set_option maxHeartbeats 4000000 in
set_option maxRecDepth 100000 in
theorem met_J12_clear (l : Launch) {G : gG} (hG : gOK G) {M0 : gM} {l0 lE : Nat × Nat} {d n : Nat} {en : Nat → Nat} (h : DQ G l0 lE d n en M0) : Met l yJ12_clear (ws_ yJ12_clear cJ12_clear 1 none) ({ frames := 1, cells := 0, slots := 0, locals := 23 }) (gPre G M0 [.ref (d)]) (gQ G (gV (fun M1 => DQ G l0 lE d 0 en M1 ∧ gFl (ro2 l0 lE) M0 M1))) 0 0 (gA G) := by
  refine gMet (L0 := [some (.ref (d))]) RJ12 hG (by decide +kernel) rfl (Nat.le_of_ble_eq_true rfl) rfl ?_
  intro p e s m args below meth c C hnm
  obtain ⟨el, cap, hd, f, h, hcc⟩ := h
  obtain ⟨hnc, hhc, hcb, hff, hll⟩ := h.2.2
  have hde := h.ne
  have hmt : (hd + n) % cap < cap := Nat.mod_lt _ (by omega)
  refine x_aload_n C dJ12_clear_0 rfl rfl ?_
  refine x_get C gcJ12 h.1 0 rfl q463 rfl dJ12_clear_1 ?_
  refine x_aload_n C dJ12_clear_4 rfl rfl ?_
  refine x_get C gcJ12 h.1 1 rfl q466 rfl dJ12_clear_5 ?_
  refine x_aload_n C dJ12_clear_8 rfl rfl ?_
  refine x_get C gcJ12 h.1 2 rfl q467 rfl dJ12_clear_9 ?_
  refine x_S3V C (met_J12_circularClear l C.1 h.2.1 hhc hmt hcb) mi_J12_circularClear q1687 ⟨rfl, rfl⟩ rfl ⟨Nat.le_of_ble_eq_true rfl, Nat.le_of_ble_eq_true rfl⟩ rfl dJ12_clear_12 (fun M1 hr => ?_)
  obtain ⟨f9, g1, g2⟩ := hr
  have h2 := (g2 _ hde).trans h.1
  have k3 : ∀ zz : Nat, zz ≠ el → M1 zz = M0 zz := fun zz z0 => g2 zz z0
  refine x_aload_n C dJ12_clear_15 rfl rfl ?_
  refine x_aload_n C dJ12_clear_16 rfl rfl ?_
  refine x_iconst C dJ12_clear_17 kc_0 ?_
  refine x_dup_x1 C dJ12_clear_18 rfl rfl ?_
  refine y_put (fs' := [.ref (el), .int (nI hd), .int (nI 0)]) C gcJ12 h2 2 rfl q467 rfl rfl rfl rfl rfl dJ12_clear_19 (fun M4 h5 k6 => ?_)
  have h7 := (k6 _ (Ne.symm hde)).trans g1
  have k8 : ∀ zz : Nat, zz ≠ el → zz ≠ d → M4 zz = M0 zz := fun zz z0 z1 => (k6 zz z1).trans (k3 zz z0)
  refine y_put (fs' := [.ref (el), .int (nI 0), .int (nI 0)]) C gcJ12 h5 1 rfl q466 rfl rfl rfl rfl rfl dJ12_clear_22 (fun M9 h10 k11 => ?_)
  have h12 := (k11 _ (Ne.symm hde)).trans h7
  have k13 : ∀ zz : Nat, zz ≠ el → zz ≠ d → M9 zz = M0 zz := fun zz z0 z1 => (k11 zz z1).trans (k8 zz z0 z1)
  refine x_vret C dJ12_clear_25 ⟨Nat.le_of_ble_eq_true rfl, Nat.le_of_ble_eq_true rfl⟩ ⟨⟨el, cap, 0, f9, ⟨?_, h12, by omega, by omega, hcb, fun i hi => absurd hi (by omega), hll⟩, hcc⟩, ?_⟩
  · rw [show (0 + 0) % cap = 0 from Nat.zero_mod _]; exact h10
  refine gFl.ofL [el, d] (fun z hz => k13 z (fun e => hz (by rw [e]; simp)) (fun e => hz (by rw [e]; simp))) (fun z hz x hx => ?_)
  simp only [List.mem_cons, List.not_mem_nil, or_false] at hz
  rcases hz with rfl | rfl
  · rw [h.2.1] at hx; cases hx; exact ⟨Or.inr rfl, _, h12⟩
  · rw [h.1] at hx; cases hx; exact ⟨Or.inl rfl, _, h10⟩
theorem mi_J12_grow : gMV RJ12 yJ12_grow cJ12_grow 9 none 1 := ⟨q1728, qs34, q141, q1729, by decide +kernel⟩
set_option maxHeartbeats 4000000 in
set_option maxRecDepth 100000 in
theorem met_J12_grow (l : Launch) {G : gG} (hG : gOK G) {M0 : gM} {l0 lE : Nat × Nat} {d el cap hd : Nat} {f : Nat → Option Nat} {en : Nat → Nat} (h0 : M0 d = some (l0, .inr (3, [.ref el, .int (nI hd), .int (nI hd)]))) (hE : M0 el = some (lE, .inl (G.2.1 3, cap, .inr (.inr (.inr (.inr (clipQ cap f))))))) (hh : hd < cap) (hc : cap = 17 ∨ cap = 36) (hff : ∀ i, i < cap → f ((hd + i) % cap) = some (en i)) (hel : ∀ i, i < cap → ∀ y, f i = some y → ∃ lb fs, M0 y = some (lb, .inr (29, fs))) (hl : ¬ l0 = lE) : Met l yJ12_grow (ws_ yJ12_grow cJ12_grow 9 none) ({ frames := 3, cells := 1, slots := 100, locals := 104 }) (gPre G M0 [.ref (d), .int (nI 1)]) (gQ G (gV (fun M1 => DQ G l0 lE d cap en M1 ∧ gFl (ro2 l0 lE) M0 M1))) 1 100 (gA G) := by
  refine gMet (L0 := [some (.ref (d)), some (.int (nI 1)), none, none, none, none, none, none, none]) RJ12 hG (by decide +kernel) rfl (Nat.le_of_ble_eq_true rfl) rfl ?_
  intro p e s m args below meth c C hnm
  have hde : d ≠ el := fun e => by rw [e, hE] at h0; exact hl (congrArg (fun y => y.1) (Option.some.inj h0)).symm
  rcases hc with rfl | rfl
  · -- 17
    have hf0 : f hd = some (en 0) := by have := hff 0 (by omega); rwa [Nat.add_zero, Nat.mod_eq_of_lt hh] at this
    refine x_aload_n C dJ12_grow_0 rfl rfl ?_
    refine x_get C gcJ12 h0 0 rfl q463 rfl dJ12_grow_1 ?_
    refine y_alen C 3 rfl hE dJ12_grow_4 ?_
    refine x_istore_n C dJ12_grow_5 rfl (gs1_2 rfl) rfl ?_
    refine x_iload_n C dJ12_grow_6 rfl rfl ?_
    refine x_bipush C dJ12_grow_7 kb_64 ?_
    refine x_icmp_geF (tgt := 18) C (by decide +kernel) dJ12_grow_9 rfl ?_
    refine x_iload_n C dJ12_grow_12 rfl rfl ?_
    refine x_iconst C dJ12_grow_13 kc_2 ?_
    refine x_iaddN C dJ12_grow_14 ?_
    refine x_goto (tgt := 21) C dJ12_grow_15 rfl ?_
    refine x_istore C dJ12_grow_21 (gs1_4 rfl) rfl ?_
    refine x_iload C dJ12_grow_23 rfl ?_
    refine x_iload_n C dJ12_grow_25 rfl rfl ?_
    refine x_icmp_ltF (tgt := 41) C (by decide +kernel) dJ12_grow_26 rfl ?_
    refine x_iload_n C dJ12_grow_29 rfl rfl ?_
    refine x_iload C dJ12_grow_30 rfl ?_
    refine x_iaddN C dJ12_grow_32 ?_
    refine x_dup C dJ12_grow_33 rfl ?_
    refine x_istore_n C dJ12_grow_34 rfl (gs1_3 rfl) rfl ?_
    refine x_ldc C dJ12_grow_35 q1730 ?_
    rw [show (2147483639 : Int32) = nI 2147483639 from by decide +kernel]
    refine x_isub C dJ12_grow_37 ?_
    refine x_if_leT (tgt := 49) C (by decide +kernel) dJ12_grow_38 rfl ?_
    refine x_aload_n C dJ12_grow_49 rfl rfl ?_
    refine x_aload_n C dJ12_grow_50 rfl rfl ?_
    refine x_get C gcJ12 h0 0 rfl q463 rfl dJ12_grow_51 ?_
    refine x_iload_n C dJ12_grow_54 rfl rfl ?_
    refine x_S2R C (met_J23_copyOf_2 l C.1 lE hE (by omega) (by omega) hel) mi_J23_copyOf_2 q1736 ⟨rfl, rfl⟩ rfl ⟨Nat.le_of_ble_eq_true rfl, Nat.le_of_ble_eq_true rfl⟩ rfl dJ12_grow_55 (fun r2 M1 hr => ?_)
    obtain ⟨g1, g2, g3⟩ := hr
    have g2 : M1 r2 = some (lE, .inl (G.2.1 3, 36, .inr (.inr (.inr (.inr (clipQ 36 (fun j => if j < 17 then f j else none))))))) := g2
    have e3 : d ≠ r2 := gM_nn h0 g1
    have e4 : el ≠ r2 := gM_nn hE g1
    have h5 := (g3 _ e3).trans h0
    have h6 := (g3 _ e4).trans hE
    have k7 : ∀ zz : Nat, zz ≠ r2 → M1 zz = M0 zz := fun zz z0 => g3 zz z0
    refine x_dup_x1 C dJ12_grow_58 rfl rfl ?_
    refine y_put (fs' := [.ref (r2), .int (nI hd), .int (nI hd)]) C gcJ12 h5 0 rfl q463 rfl rfl rfl rfl rfl dJ12_grow_59 (fun M8 h9 k10 => ?_)
    have h11 := (k10 _ (Ne.symm hde)).trans h6
    have h12 := (k10 _ (Ne.symm e3)).trans g2
    have k13 : ∀ zz : Nat, zz ≠ r2 → zz ≠ d → M8 zz = M0 zz := fun zz z0 z1 => (k10 zz z1).trans (k7 zz z0)
    refine x_astore C dJ12_grow_62 (gs1_5 rfl) rfl ?_
    refine x_aload_n C dJ12_grow_64 rfl rfl ?_
    refine x_get C gcJ12 h9 2 rfl q467 rfl dJ12_grow_65 ?_
    refine x_aload_n C dJ12_grow_68 rfl rfl ?_
    refine x_get C gcJ12 h9 1 rfl q466 rfl dJ12_grow_69 ?_
    refine x_icmp_ltF (tgt := 96) C (nI_nlt (Nat.le_refl _) (by omega)) dJ12_grow_72 rfl ?_
    refine x_aload_n C dJ12_grow_75 rfl rfl ?_
    refine x_get C gcJ12 h9 2 rfl q467 rfl dJ12_grow_76 ?_
    refine x_aload_n C dJ12_grow_79 rfl rfl ?_
    refine x_get C gcJ12 h9 1 rfl q466 rfl dJ12_grow_80 ?_
    refine x_icmp_neF (tgt := 164) C (rfl) dJ12_grow_83 rfl ?_
    refine x_aload C dJ12_grow_86 rfl ?_
    refine x_aload_n C dJ12_grow_88 rfl rfl ?_
    refine x_get C gcJ12 h9 1 rfl q466 rfl dJ12_grow_89 ?_
    refine y_aaldR (ty := .object "java/lang/Object") (i := hd) (b := en 0) C 3 rfl rfl h12 rfl (by omega) rfl (by rw [if_pos (by omega)]; exact hf0) dJ12_grow_92 ?_
    refine x_ifnull C dJ12_grow_93 ?_
    refine x_iload_n C dJ12_grow_96 rfl rfl ?_
    refine x_iload_n C dJ12_grow_97 rfl rfl ?_
    refine x_isubN C (by omega) dJ12_grow_98 ?_
    refine x_istore C dJ12_grow_99 (gs1_6 rfl) rfl ?_
    refine x_aload C dJ12_grow_101 rfl ?_
    refine x_aload_n C dJ12_grow_103 rfl rfl ?_
    refine x_get C gcJ12 h9 1 rfl q466 rfl dJ12_grow_104 ?_
    refine x_aload C dJ12_grow_107 rfl ?_
    refine x_aload_n C dJ12_grow_109 rfl rfl ?_
    refine x_get C gcJ12 h9 1 rfl q466 rfl dJ12_grow_110 ?_
    refine x_iload C dJ12_grow_113 rfl ?_
    refine x_iaddN C dJ12_grow_115 ?_
    refine x_iload_n C dJ12_grow_116 rfl rfl ?_
    refine x_aload_n C dJ12_grow_117 rfl rfl ?_
    refine x_get C gcJ12 h9 1 rfl q466 rfl dJ12_grow_118 ?_
    refine x_isubN C (by omega) dJ12_grow_121 ?_
    refine x_copyq C 3 rfl h12 h12 gcX14 q2993 (fun i hi y hy => by (try dsimp only at hy); rw [if_pos (by omega)] at hy; obtain ⟨lb, fs, hz⟩ := hel (hd + i) (by omega) y hy; exact ⟨lb, fs, (k13 y (gM_nn hz g1) (fun e => by rw [e, h0] at hz; cases hz)).trans hz⟩) (sp := hd) (dp := hd + ((17 + (17 + 2)) - 17)) (n9 := 17 - hd) (by omega) (by omega) (by omega) (by omega) q1745 q726 q725 q154 rfl dJ12_grow_122 (fun M14 h15 k16 => ?_)
    have h17 := (k16 _ e3).trans h9
    have h18 := (k16 _ e4).trans h11
    have k19 : ∀ zz : Nat, zz ≠ r2 → zz ≠ d → M14 zz = M0 zz := fun zz z0 z1 => (k16 zz z0).trans (k13 zz z0 z1)
    refine x_aload_n C dJ12_grow_125 rfl rfl ?_
    refine x_get C gcJ12 h17 1 rfl q466 rfl dJ12_grow_126 ?_
    refine x_istore C dJ12_grow_129 (gs1_7 rfl) rfl ?_
    refine x_aload_n C dJ12_grow_131 rfl rfl ?_
    refine x_dup C dJ12_grow_132 rfl ?_
    refine x_get C gcJ12 h17 1 rfl q466 rfl dJ12_grow_133 ?_
    refine x_iload C dJ12_grow_136 rfl ?_
    refine x_iaddN C dJ12_grow_138 ?_
    refine x_dup_x1 C dJ12_grow_139 rfl rfl ?_
    refine y_put (fs' := [.ref (r2), .int (nI (hd + ((17 + (17 + 2)) - 17))), .int (nI hd)]) C gcJ12 h17 1 rfl q466 rfl rfl rfl rfl rfl dJ12_grow_140 (fun M20 h21 k22 => ?_)
    have h23 := (k22 _ (Ne.symm hde)).trans h18
    have h24 := (k22 _ (Ne.symm e3)).trans h15
    have k25 : ∀ zz : Nat, zz ≠ r2 → zz ≠ d → M20 zz = M0 zz := fun zz z0 z1 => (k22 zz z1).trans (k19 zz z0 z1)
    refine x_istore C dJ12_grow_143 (gs1_8 rfl) rfl ?_
    refine x_loopA (head := 145) (E := hd + (17 + (17 + 2) - 17)) hd (by omega) (fun i1 M => M r2 = some (lE, .inl (G.2.1 3, 36, .inr (.inr (.inr (.inr (clipQ 36 (fun j => if hd ≤ j ∧ j < i1 then none else (va_cpy (fun j => if j < 17 then f j else none) (fun j => if j < 17 then f j else none) hd (hd + ((17 + (17 + 2)) - 17)) (17 - hd)) j))))))) ∧ ∀ q, q ≠ r2 → M q = M20 q) (fun i1 => [some (.ref d), some (.int (nI 1)), some (.int (nI 17)), some (.int (nI (17 + (17 + 2)))), some (.int (nI (17 + 2))), some (.ref r2), some (.int (nI ((17 + (17 + 2)) - 17))), some (.int (nI i1)), some (.int (nI (hd + (17 + (17 + 2) - 17))))]) ⟨?_, fun _ _ => rfl⟩ (fun i1 M ha1 hi1 hI ih => ?_)
    · exact Eq.trans h24 (clipQ_cell (fun j hj => by rw [if_neg (by omega)]))
    obtain ⟨hR1, hK⟩ := hI
    refine x_iload C dJ12_grow_145 rfl ?_
    refine x_iload C dJ12_grow_147 rfl ?_
    refine x_icmp_geN (tgt := 164) C (by omega) (by omega) dJ12_grow_149 rfl (fun c149 => ?_) (fun c149 => ?_)
    · -- 164
      obtain rfl : i1 = hd + (17 + (17 + 2) - 17) := by omega
      have hd9 := (hK d (gM_nn h0 g1)).trans h21
      refine x_vret C dJ12_grow_164 ⟨Nat.le_of_ble_eq_true rfl, Nat.le_of_ble_eq_true rfl⟩ ⟨⟨r2, 36, hd + 19, (fun j => if hd ≤ j ∧ j < hd + (17 + (17 + 2) - 17) then none else (va_cpy (fun j => if j < 17 then f j else none) (fun j => if j < 17 then f j else none) hd (hd + ((17 + (17 + 2)) - 17)) (17 - hd)) j), ⟨?_, hR1, by omega, by omega, by omega, fun i hi => ?_, hl⟩, Or.inr (Or.inl rfl)⟩, ?_⟩
      · rw [show (hd + 19 + 17) % 36 = hd by rw [show hd + 19 + 17 = hd + 36 by omega, Nat.add_mod_right, Nat.mod_eq_of_lt (by omega)]]; exact hd9
      · have hf9 := hff i hi
        by_cases z : hd + i < 17
        · rw [mod_in z] at hf9
          rw [mod_in (show hd + 19 + i < 36 by omega)]
          dsimp only
          rw [if_neg (by omega), pk_cpy_in (by omega) (by omega), show hd + (hd + 19 + i - (hd + (17 + (17 + 2) - 17))) = hd + i by omega, if_pos z]
          exact hf9
        · rw [mod_out (by omega) (by omega)] at hf9
          rw [mod_out (show 36 ≤ hd + 19 + i by omega) (by omega), show hd + 19 + i - 36 = hd + i - 17 by omega]
          dsimp only
          rw [if_neg (by omega), pk_cpy_out (by omega), if_pos (by omega)]
          exact hf9
      · intro a9 x9 hx9
        have hne9 : a9 ≠ r2 := gM_nn hx9 g1
        by_cases z : a9 = d
        · subst z; rw [h0] at hx9; cases hx9; exact ⟨⟨_, hd9⟩, fun q => absurd (Or.inl rfl) q⟩
        · rw [hK _ hne9, k25 _ hne9 z]; exact ⟨⟨x9.2, hx9⟩, fun _ => hx9⟩
    · -- 152
      refine x_aload C dJ12_grow_152 rfl ?_
      refine x_iload C dJ12_grow_154 rfl ?_
      refine x_null C dJ12_grow_156 ?_
      refine y_aastN (i := i1) (E := "java/lang/Object") C 3 rfl hR1 rfl (by omega) rfl dJ12_grow_157 (fun M26 h27 k28 => ?_)
      have k29 : ∀ zz : Nat, zz ≠ r2 → M26 zz = M zz := fun zz z0 => k28 zz z0
      refine x_iincN (z := 1) C dJ12_grow_158 rfl (gs1_7 rfl) rfl ?_
      refine x_goto (tgt := 145) C dJ12_grow_161 rfl ?_
      refine ih (by omega) _ ⟨?_, fun q hq => (k29 q hq).trans (hK q hq)⟩
      refine Eq.trans h27 (clipQ_cell (fun j hj => ?_))
      unfold va_up
      by_cases z : j = i1
      · rw [if_pos z, if_pos (by omega)]
      · rw [if_neg z]; dsimp only; by_cases y : hd ≤ j ∧ j < i1; rw [if_pos y, if_pos (by omega)]; rw [if_neg y, if_neg (by omega)]
  · -- 36
    have hf0 : f hd = some (en 0) := by have := hff 0 (by omega); rwa [Nat.add_zero, Nat.mod_eq_of_lt hh] at this
    refine x_aload_n C dJ12_grow_0 rfl rfl ?_
    refine x_get C gcJ12 h0 0 rfl q463 rfl dJ12_grow_1 ?_
    refine y_alen C 3 rfl hE dJ12_grow_4 ?_
    refine x_istore_n C dJ12_grow_5 rfl (gs1_2 rfl) rfl ?_
    refine x_iload_n C dJ12_grow_6 rfl rfl ?_
    refine x_bipush C dJ12_grow_7 kb_64 ?_
    refine x_icmp_geF (tgt := 18) C (by decide +kernel) dJ12_grow_9 rfl ?_
    refine x_iload_n C dJ12_grow_12 rfl rfl ?_
    refine x_iconst C dJ12_grow_13 kc_2 ?_
    refine x_iaddN C dJ12_grow_14 ?_
    refine x_goto (tgt := 21) C dJ12_grow_15 rfl ?_
    refine x_istore C dJ12_grow_21 (gs1_4 rfl) rfl ?_
    refine x_iload C dJ12_grow_23 rfl ?_
    refine x_iload_n C dJ12_grow_25 rfl rfl ?_
    refine x_icmp_ltF (tgt := 41) C (by decide +kernel) dJ12_grow_26 rfl ?_
    refine x_iload_n C dJ12_grow_29 rfl rfl ?_
    refine x_iload C dJ12_grow_30 rfl ?_
    refine x_iaddN C dJ12_grow_32 ?_
    refine x_dup C dJ12_grow_33 rfl ?_
    refine x_istore_n C dJ12_grow_34 rfl (gs1_3 rfl) rfl ?_
    refine x_ldc C dJ12_grow_35 q1730 ?_
    rw [show (2147483639 : Int32) = nI 2147483639 from by decide +kernel]
    refine x_isub C dJ12_grow_37 ?_
    refine x_if_leT (tgt := 49) C (by decide +kernel) dJ12_grow_38 rfl ?_
    refine x_aload_n C dJ12_grow_49 rfl rfl ?_
    refine x_aload_n C dJ12_grow_50 rfl rfl ?_
    refine x_get C gcJ12 h0 0 rfl q463 rfl dJ12_grow_51 ?_
    refine x_iload_n C dJ12_grow_54 rfl rfl ?_
    refine x_S2R C (met_J23_copyOf_2 l C.1 lE hE (by omega) (by omega) hel) mi_J23_copyOf_2 q1736 ⟨rfl, rfl⟩ rfl ⟨Nat.le_of_ble_eq_true rfl, Nat.le_of_ble_eq_true rfl⟩ rfl dJ12_grow_55 (fun r31 M30 hr => ?_)
    obtain ⟨g1, g2, g3⟩ := hr
    have g2 : M30 r31 = some (lE, .inl (G.2.1 3, 74, .inr (.inr (.inr (.inr (clipQ 74 (fun j => if j < 36 then f j else none))))))) := g2
    have e32 : d ≠ r31 := gM_nn h0 g1
    have e33 : el ≠ r31 := gM_nn hE g1
    have h34 := (g3 _ e32).trans h0
    have h35 := (g3 _ e33).trans hE
    have k36 : ∀ zz : Nat, zz ≠ r31 → M30 zz = M0 zz := fun zz z0 => g3 zz z0
    refine x_dup_x1 C dJ12_grow_58 rfl rfl ?_
    refine y_put (fs' := [.ref (r31), .int (nI hd), .int (nI hd)]) C gcJ12 h34 0 rfl q463 rfl rfl rfl rfl rfl dJ12_grow_59 (fun M37 h38 k39 => ?_)
    have h40 := (k39 _ (Ne.symm hde)).trans h35
    have h41 := (k39 _ (Ne.symm e32)).trans g2
    have k42 : ∀ zz : Nat, zz ≠ r31 → zz ≠ d → M37 zz = M0 zz := fun zz z0 z1 => (k39 zz z1).trans (k36 zz z0)
    refine x_astore C dJ12_grow_62 (gs1_5 rfl) rfl ?_
    refine x_aload_n C dJ12_grow_64 rfl rfl ?_
    refine x_get C gcJ12 h38 2 rfl q467 rfl dJ12_grow_65 ?_
    refine x_aload_n C dJ12_grow_68 rfl rfl ?_
    refine x_get C gcJ12 h38 1 rfl q466 rfl dJ12_grow_69 ?_
    refine x_icmp_ltF (tgt := 96) C (nI_nlt (Nat.le_refl _) (by omega)) dJ12_grow_72 rfl ?_
    refine x_aload_n C dJ12_grow_75 rfl rfl ?_
    refine x_get C gcJ12 h38 2 rfl q467 rfl dJ12_grow_76 ?_
    refine x_aload_n C dJ12_grow_79 rfl rfl ?_
    refine x_get C gcJ12 h38 1 rfl q466 rfl dJ12_grow_80 ?_
    refine x_icmp_neF (tgt := 164) C (rfl) dJ12_grow_83 rfl ?_
    refine x_aload C dJ12_grow_86 rfl ?_
    refine x_aload_n C dJ12_grow_88 rfl rfl ?_
    refine x_get C gcJ12 h38 1 rfl q466 rfl dJ12_grow_89 ?_
    refine y_aaldR (ty := .object "java/lang/Object") (i := hd) (b := en 0) C 3 rfl rfl h41 rfl (by omega) rfl (by rw [if_pos (by omega)]; exact hf0) dJ12_grow_92 ?_
    refine x_ifnull C dJ12_grow_93 ?_
    refine x_iload_n C dJ12_grow_96 rfl rfl ?_
    refine x_iload_n C dJ12_grow_97 rfl rfl ?_
    refine x_isubN C (by omega) dJ12_grow_98 ?_
    refine x_istore C dJ12_grow_99 (gs1_6 rfl) rfl ?_
    refine x_aload C dJ12_grow_101 rfl ?_
    refine x_aload_n C dJ12_grow_103 rfl rfl ?_
    refine x_get C gcJ12 h38 1 rfl q466 rfl dJ12_grow_104 ?_
    refine x_aload C dJ12_grow_107 rfl ?_
    refine x_aload_n C dJ12_grow_109 rfl rfl ?_
    refine x_get C gcJ12 h38 1 rfl q466 rfl dJ12_grow_110 ?_
    refine x_iload C dJ12_grow_113 rfl ?_
    refine x_iaddN C dJ12_grow_115 ?_
    refine x_iload_n C dJ12_grow_116 rfl rfl ?_
    refine x_aload_n C dJ12_grow_117 rfl rfl ?_
    refine x_get C gcJ12 h38 1 rfl q466 rfl dJ12_grow_118 ?_
    refine x_isubN C (by omega) dJ12_grow_121 ?_
    refine x_copyq C 3 rfl h41 h41 gcX14 q2993 (fun i hi y hy => by (try dsimp only at hy); rw [if_pos (by omega)] at hy; obtain ⟨lb, fs, hz⟩ := hel (hd + i) (by omega) y hy; exact ⟨lb, fs, (k42 y (gM_nn hz g1) (fun e => by rw [e, h0] at hz; cases hz)).trans hz⟩) (sp := hd) (dp := hd + ((36 + (36 + 2)) - 36)) (n9 := 36 - hd) (by omega) (by omega) (by omega) (by omega) q1745 q726 q725 q154 rfl dJ12_grow_122 (fun M43 h44 k45 => ?_)
    have h46 := (k45 _ e32).trans h38
    have h47 := (k45 _ e33).trans h40
    have k48 : ∀ zz : Nat, zz ≠ r31 → zz ≠ d → M43 zz = M0 zz := fun zz z0 z1 => (k45 zz z0).trans (k42 zz z0 z1)
    refine x_aload_n C dJ12_grow_125 rfl rfl ?_
    refine x_get C gcJ12 h46 1 rfl q466 rfl dJ12_grow_126 ?_
    refine x_istore C dJ12_grow_129 (gs1_7 rfl) rfl ?_
    refine x_aload_n C dJ12_grow_131 rfl rfl ?_
    refine x_dup C dJ12_grow_132 rfl ?_
    refine x_get C gcJ12 h46 1 rfl q466 rfl dJ12_grow_133 ?_
    refine x_iload C dJ12_grow_136 rfl ?_
    refine x_iaddN C dJ12_grow_138 ?_
    refine x_dup_x1 C dJ12_grow_139 rfl rfl ?_
    refine y_put (fs' := [.ref (r31), .int (nI (hd + ((36 + (36 + 2)) - 36))), .int (nI hd)]) C gcJ12 h46 1 rfl q466 rfl rfl rfl rfl rfl dJ12_grow_140 (fun M49 h50 k51 => ?_)
    have h52 := (k51 _ (Ne.symm hde)).trans h47
    have h53 := (k51 _ (Ne.symm e32)).trans h44
    have k54 : ∀ zz : Nat, zz ≠ r31 → zz ≠ d → M49 zz = M0 zz := fun zz z0 z1 => (k51 zz z1).trans (k48 zz z0 z1)
    refine x_istore C dJ12_grow_143 (gs1_8 rfl) rfl ?_
    refine x_loopA (head := 145) (E := hd + (36 + (36 + 2) - 36)) hd (by omega) (fun i1 M => M r31 = some (lE, .inl (G.2.1 3, 74, .inr (.inr (.inr (.inr (clipQ 74 (fun j => if hd ≤ j ∧ j < i1 then none else (va_cpy (fun j => if j < 36 then f j else none) (fun j => if j < 36 then f j else none) hd (hd + ((36 + (36 + 2)) - 36)) (36 - hd)) j))))))) ∧ ∀ q, q ≠ r31 → M q = M49 q) (fun i1 => [some (.ref d), some (.int (nI 1)), some (.int (nI 36)), some (.int (nI (36 + (36 + 2)))), some (.int (nI (36 + 2))), some (.ref r31), some (.int (nI ((36 + (36 + 2)) - 36))), some (.int (nI i1)), some (.int (nI (hd + (36 + (36 + 2) - 36))))]) ⟨?_, fun _ _ => rfl⟩ (fun i1 M ha1 hi1 hI ih => ?_)
    · exact Eq.trans h53 (clipQ_cell (fun j hj => by rw [if_neg (by omega)]))
    obtain ⟨hR1, hK⟩ := hI
    refine x_iload C dJ12_grow_145 rfl ?_
    refine x_iload C dJ12_grow_147 rfl ?_
    refine x_icmp_geN (tgt := 164) C (by omega) (by omega) dJ12_grow_149 rfl (fun c149 => ?_) (fun c149 => ?_)
    · -- 164
      obtain rfl : i1 = hd + (36 + (36 + 2) - 36) := by omega
      have hd9 := (hK d (gM_nn h0 g1)).trans h50
      refine x_vret C dJ12_grow_164 ⟨Nat.le_of_ble_eq_true rfl, Nat.le_of_ble_eq_true rfl⟩ ⟨⟨r31, 74, hd + 38, (fun j => if hd ≤ j ∧ j < hd + (36 + (36 + 2) - 36) then none else (va_cpy (fun j => if j < 36 then f j else none) (fun j => if j < 36 then f j else none) hd (hd + ((36 + (36 + 2)) - 36)) (36 - hd)) j), ⟨?_, hR1, by omega, by omega, by omega, fun i hi => ?_, hl⟩, Or.inr (Or.inr rfl)⟩, ?_⟩
      · rw [show (hd + 38 + 36) % 74 = hd by rw [show hd + 38 + 36 = hd + 74 by omega, Nat.add_mod_right, Nat.mod_eq_of_lt (by omega)]]; exact hd9
      · have hf9 := hff i hi
        by_cases z : hd + i < 36
        · rw [mod_in z] at hf9
          rw [mod_in (show hd + 38 + i < 74 by omega)]
          dsimp only
          rw [if_neg (by omega), pk_cpy_in (by omega) (by omega), show hd + (hd + 38 + i - (hd + (36 + (36 + 2) - 36))) = hd + i by omega, if_pos z]
          exact hf9
        · rw [mod_out (by omega) (by omega)] at hf9
          rw [mod_out (show 74 ≤ hd + 38 + i by omega) (by omega), show hd + 38 + i - 74 = hd + i - 36 by omega]
          dsimp only
          rw [if_neg (by omega), pk_cpy_out (by omega), if_pos (by omega)]
          exact hf9
      · intro a9 x9 hx9
        have hne9 : a9 ≠ r31 := gM_nn hx9 g1
        by_cases z : a9 = d
        · subst z; rw [h0] at hx9; cases hx9; exact ⟨⟨_, hd9⟩, fun q => absurd (Or.inl rfl) q⟩
        · rw [hK _ hne9, k54 _ hne9 z]; exact ⟨⟨x9.2, hx9⟩, fun _ => hx9⟩
    · -- 152
      refine x_aload C dJ12_grow_152 rfl ?_
      refine x_iload C dJ12_grow_154 rfl ?_
      refine x_null C dJ12_grow_156 ?_
      refine y_aastN (i := i1) (E := "java/lang/Object") C 3 rfl hR1 rfl (by omega) rfl dJ12_grow_157 (fun M55 h56 k57 => ?_)
      have k58 : ∀ zz : Nat, zz ≠ r31 → M55 zz = M zz := fun zz z0 => k57 zz z0
      refine x_iincN (z := 1) C dJ12_grow_158 rfl (gs1_7 rfl) rfl ?_
      refine x_goto (tgt := 145) C dJ12_grow_161 rfl ?_
      refine ih (by omega) _ ⟨?_, fun q hq => (k58 q hq).trans (hK q hq)⟩
      refine Eq.trans h56 (clipQ_cell (fun j hj => ?_))
      unfold va_up
      by_cases z : j = i1
      · rw [if_pos z, if_pos (by omega)]
      · rw [if_neg z]; dsimp only; by_cases y : hd ≤ j ∧ j < i1; rw [if_pos y, if_pos (by omega)]; rw [if_neg y, if_neg (by omega)]
