set_option maxRecDepth 100000
theorem mi_X9_copyBank : gMV RX9 yX9_copyBank cX9_copyBank 4 none 2 := ⟨q2599, qs81, q165, q2600, by decide +kernel⟩
set_option maxHeartbeats 4000000 in
set_option maxRecDepth 100000 in
theorem met_X9_copyBank (l : Launch) {G : gG} (hG : gOK G) {ad : Nat → Nat} {σ : mS} {M0 : gM} {f t : Nat} (h : MR G ad σ M0) (hb0_ : f < 23) (hb1_ : t < 23) (hne : f ≠ t) : Met l yX9_copyBank (ws_ yX9_copyBank cX9_copyBank 4 none) ({ frames := 0, cells := 0, slots := 0, locals := 0 }) (gPre G M0 [.ref (ad 0), .int (nI f), .int (nI t)]) (gQ G (gV (fun M1 => MF G ad M0 (sb σ t (mK σ f)) M1))) 0 0 (gA G) := by
  refine gMet (L0 := [some (.ref (ad 0)), some (.int (nI f)), some (.int (nI t)), none]) RX9 hG (by decide +kernel) rfl (Nat.le_of_ble_eq_true rfl) rfl ?_
  intro p e s m args below meth c C hnm
  have h := MF.rf h
  refine x_iconst C dX9_copyBank_0 kc_0 ?_
  refine x_istore_n C dX9_copyBank_1 rfl (gs1_3 rfl) rfl ?_
  refine x_loop (head := 2) (E := 2468) (fun i M => MF G ad M0 (sb σ t (fun z => if z < i then mK σ f z else mK σ t z)) M) (fun i => [some (.ref (ad 0)), some (.int (nI f)), some (.int (nI t)), some (.int (nI i))]) (by rw [cp_0]; exact h) (fun i M hi h ih => ?_)
  refine x_iload_n C dX9_copyBank_2 rfl rfl ?_
  refine x_sipush C dX9_copyBank_3 ks_2468 ?_
  refine x_icmp_geN (tgt := 39) C (by omega) (by omega) dX9_copyBank_6 rfl (fun c6 => ?_) (fun c6 => ?_)
  · -- 39
    obtain rfl : i = 2468 := by omega
    exact x_vret C dX9_copyBank_39 ⟨Nat.le_refl _, Nat.le_refl _⟩ (h.cK cp_e rfl rfl rfl rfl)
  · -- 9
    refine x_aload_n C dX9_copyBank_9 rfl rfl ?_
    refine m_get C h 20 rfl q2429 rfl dX9_copyBank_10 ?_
    refine x_sipush C dX9_copyBank_13 ks_2468 ?_
    refine x_iload_n C dX9_copyBank_16 rfl rfl ?_
    refine x_imulN C dX9_copyBank_17 ?_
    refine x_iload_n C dX9_copyBank_18 rfl rfl ?_
    refine x_iaddN C dX9_copyBank_19 ?_
    refine x_aload_n C dX9_copyBank_20 rfl rfl ?_
    refine m_get C h 20 rfl q2429 rfl dX9_copyBank_21 ?_
    refine x_sipush C dX9_copyBank_24 ks_2468 ?_
    refine x_iload_n C dX9_copyBank_27 rfl rfl ?_
    refine x_imulN C dX9_copyBank_28 ?_
    refine x_iload_n C dX9_copyBank_29 rfl rfl ?_
    refine x_iaddN C dX9_copyBank_30 ?_
    refine m_kld C h f i rfl (by omega) (by omega) dX9_copyBank_31 ?_
    refine m_kst C h t i rfl (by omega) (by omega) dX9_copyBank_32 (fun M h => ?_)
    refine x_iincN C dX9_copyBank_33 rfl (gs1_3 rfl) rfl ?_
    refine x_goto (tgt := 2) C dX9_copyBank_36 rfl ?_
    exact (ih (by omega) _ (by rw [sk_sb, cp_s hne] at h; exact h))
theorem mi_X9_canUndo : gMV RX9 yX9_canUndo cX9_canUndo 2 none 0 := ⟨q2619, qs83, q165, q2620, by decide +kernel⟩
set_option maxHeartbeats 4000000 in
set_option maxRecDepth 100000 in
theorem met_X9_canUndo (l : Launch) {G : gG} (hG : gOK G) {ad : Nat → Nat} {σ : mS} {M0 : gM} {u : Nat} (h : MR G ad σ M0) (hu : mI σ 22 = nI u) (hb0_ : u ≤ 20) : Met l yX9_canUndo (ws_ yX9_canUndo cX9_canUndo 2 none) ({ frames := 1, cells := 0, slots := 0, locals := 23 }) (gPre G M0 [.ref (ad 0)]) (gQ G (gV (fun M1 => MF G ad M0 (tUn σ u) M1))) 0 0 (gA G) := by
  refine gMet (L0 := [some (.ref (ad 0)), none]) RX9 hG (by decide +kernel) rfl (Nat.le_of_ble_eq_true rfl) rfl ?_
  intro p e s m args below meth c C hnm
  have h := MF.rf h
  refine x_aload_n C dX9_canUndo_0 rfl rfl ?_
  refine m_get C h 22 (v := .int (nI u)) rfl q2431 (m_v rfl hu) dX9_canUndo_1 ?_
  refine x_bipush C dX9_canUndo_4 kb_20 ?_
  refine x_icmp_neN (tgt := 39) C (by omega) (by omega) dX9_canUndo_6 rfl (fun c6 => ?_) (fun c6 => ?_)
  · -- 39
    refine x_aload_n C dX9_canUndo_39 rfl rfl ?_
    refine x_iconst C dX9_canUndo_40 kc_0 ?_
    refine x_iconst C dX9_canUndo_41 kc_3 ?_
    refine x_aload_n C dX9_canUndo_42 rfl rfl ?_
    refine m_get C h 22 (v := .int (nI u)) rfl q2431 (m_v rfl hu) dX9_canUndo_43 ?_
    refine x_iaddN C dX9_canUndo_46 ?_
    refine x_V2V C (met_X9_copyBank l C.1 h.1 (by omega) (by omega) (by omega)) mi_X9_copyBank q2597 gcX9 h.1.1 ⟨rfl, rfl⟩ rfl ⟨Nat.le_refl _, Nat.le_refl _⟩ rfl dX9_canUndo_47 (fun M1 hr => ?_)
    have h := h.tr hr
    refine x_aload_n C dX9_canUndo_50 rfl rfl ?_
    refine x_dup C dX9_canUndo_51 rfl ?_
    refine m_get C h 22 (v := .int (nI u)) rfl q2431 (m_v rfl hu) dX9_canUndo_52 ?_
    refine x_iconst C dX9_canUndo_55 kc_1 ?_
    refine x_iaddN C dX9_canUndo_56 ?_
    refine m_put C h 22 rfl q2431 rfl rfl rfl rfl dX9_canUndo_57 (fun M h => ?_)
    exact x_vret C dX9_canUndo_60 ⟨Nat.le_refl _, Nat.le_refl _⟩ (by rw [← un_u σ (by omega)]; exact h)
  · -- 9
    obtain rfl : u = 20 := by omega
    refine x_iconst C dX9_canUndo_9 kc_1 ?_
    refine x_istore_n C dX9_canUndo_10 rfl (gs1_1 rfl) rfl ?_
    refine x_loop (head := 11) (E := 19) (fun i M => MF G ad M0 (sSh σ i) M) (fun i => [some (.ref (ad 0)), some (.int (nI (1 + i)))]) (by rw [sSh_0]; exact h) (fun i M hi h ih => ?_)
    refine x_iload_n C dX9_canUndo_11 rfl rfl ?_
    refine x_bipush C dX9_canUndo_12 kb_20 ?_
    refine x_icmp_geN (tgt := 33) C (by omega) (by omega) dX9_canUndo_14 rfl (fun c14 => ?_) (fun c14 => ?_)
    · -- 33
      obtain rfl : i = 19 := by omega
      refine x_aload_n C dX9_canUndo_33 rfl rfl ?_
      refine x_bipush C dX9_canUndo_34 kb_19 ?_
      refine m_put C h 22 rfl q2431 rfl rfl rfl rfl dX9_canUndo_36 (fun M h => ?_)
      refine x_aload_n C dX9_canUndo_39 rfl rfl ?_
      refine x_iconst C dX9_canUndo_40 kc_0 ?_
      refine x_iconst C dX9_canUndo_41 kc_3 ?_
      refine x_aload_n C dX9_canUndo_42 rfl rfl ?_
      refine m_get C h 22 (v := .int (nI 19)) rfl q2431 (m_v rfl rfl) dX9_canUndo_43 ?_
      refine x_iaddN C dX9_canUndo_46 ?_
      refine x_V2V C (met_X9_copyBank l C.1 h.1 (by omega) (by omega) (by omega)) mi_X9_copyBank q2597 gcX9 h.1.1 ⟨rfl, rfl⟩ rfl ⟨Nat.le_refl _, Nat.le_refl _⟩ rfl dX9_canUndo_47 (fun M1 hr => ?_)
      have h := h.tr hr
      refine x_aload_n C dX9_canUndo_50 rfl rfl ?_
      refine x_dup C dX9_canUndo_51 rfl ?_
      refine m_get C h 22 (v := .int (nI 19)) rfl q2431 (m_v rfl rfl) dX9_canUndo_52 ?_
      refine x_iconst C dX9_canUndo_55 kc_1 ?_
      refine x_iaddN C dX9_canUndo_56 ?_
      refine m_put C h 22 rfl q2431 rfl rfl rfl rfl dX9_canUndo_57 (fun M h => ?_)
      exact x_vret C dX9_canUndo_60 ⟨Nat.le_refl _, Nat.le_refl _⟩ (by rw [← un_20]; exact h)
    · -- 17
      refine x_aload_n C dX9_canUndo_17 rfl rfl ?_
      refine x_iconst C dX9_canUndo_18 kc_3 ?_
      refine x_iload_n C dX9_canUndo_19 rfl rfl ?_
      refine x_iaddN C dX9_canUndo_20 ?_
      refine x_iconst C dX9_canUndo_21 kc_2 ?_
      refine x_iload_n C dX9_canUndo_22 rfl rfl ?_
      refine x_iaddN C dX9_canUndo_23 ?_
      refine x_V2V C (met_X9_copyBank l C.1 h.1 (by omega) (by omega) (by omega)) mi_X9_copyBank q2597 gcX9 h.1.1 ⟨rfl, rfl⟩ rfl ⟨Nat.le_refl _, Nat.le_refl _⟩ rfl dX9_canUndo_24 (fun M1 hr => ?_)
      have h := h.tr hr
      refine x_iincN C dX9_canUndo_27 rfl (gs1_1 rfl) rfl ?_
      refine x_goto (tgt := 11) C dX9_canUndo_30 rfl ?_
      exact (ih (by omega) _ (by rw [show 2 + (1 + i) = 3 + i from by omega, show 3 + (1 + i) = 4 + i from by omega, sSh_s] at h; exact h))
