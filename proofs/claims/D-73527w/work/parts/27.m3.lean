set_option maxRecDepth 100000
theorem mi_X9_fractionBy : gMV RX9 yX9_fractionBy cX9_fractionBy 8 (some .int) 3 := ⟨q2707, qs97, q165, q2708, by decide +kernel⟩
set_option maxHeartbeats 4000000 in
set_option maxRecDepth 100000 in
theorem met_X9_fractionBy (l : Launch) {G : gG} (hG : gOK G) {ad : Nat → Nat} {σ : mS} {M0 : gM} {b : Nat} {B : Nat → Int32} {Z : Nat → Int64} {ho ha : Int64} {mth way step : Int32} (h : MR G ad (sb (sy σ Z ho ha) b B) M0) (hb : mI σ 21 = nI b) (hb0_ : b < 23) (hZ : sZ Z ho ha) : Met l yX9_fractionBy (ws_ yX9_fractionBy cX9_fractionBy 8 (some .int)) ({ frames := 2, cells := 0, slots := 0, locals := 49 }) (gPre G M0 [.ref (ad 0), .int (mth), .int (way), .int (step)]) (gQ G (gI (fun r M1 => M0 = M1 ∧ pFrac mth way step Z ho ha = r))) 0 0 (gA G) := by
  refine gMet (L0 := [some (.ref (ad 0)), some (.int (mth)), some (.int (way)), some (.int (step)), none, none, none, none]) RX9 hG (by decide +kernel) rfl (Nat.le_of_ble_eq_true rfl) rfl ?_
  intro p e s m args below meth c C hnm
  have h := MF.rf h
  refine x_join (α := Int64) (P := fun v => v = (if mth = 0 then Z 0 else if mth = nI 1 then Z 2 else ho)) (LL := fun v => [some (.ref (ad 0)), some (.int mth), some (.int way), some (.int step), none, none, none, none]) (ss := fun v => [.long v]) 31 (fun v hv => ?_) (fun J31 => ?_)
  · -- join 31
    refine x_lstore C dX9_fractionBy_31 (gs2_4 rfl) rfl ?_
    refine x_join (α := Int64) (P := fun w => w = pWhole mth Z ha) (LL := fun w => [some (.ref (ad 0)), some (.int mth), some (.int way), some (.int step), some (.long v), none, none, none]) (ss := fun w => [.long w]) 78 (fun w hw => ?_) (fun J78 => ?_)
    · -- join 78
      refine x_lstore C dX9_fractionBy_78 (gs2_6 rfl) rfl ?_
      refine x_lload C dX9_fractionBy_80 rfl ?_
      refine x_lconst (v := 0) C dX9_fractionBy_82 rfl ?_
      refine x_lcmp C dX9_fractionBy_83 ?_
      refine x_if_neL (tgt := 91) C dX9_fractionBy_84 rfl (fun c84 => ?_) (fun c84 => ?_)
      · -- 91
        refine x_iload_n C dX9_fractionBy_91 rfl rfl ?_
        refine x_iload_n C dX9_fractionBy_92 rfl rfl ?_
        refine x_i2l C dX9_fractionBy_93 ?_
        refine x_lload C dX9_fractionBy_94 rfl ?_
        refine x_lmul C dX9_fractionBy_96 ?_
        refine x_lload C dX9_fractionBy_97 rfl ?_
        refine x_S3J C (met_X9_cutBy l C.1 c84 (sm_2 (by rw [hw]; exact sm_whole hZ) c84)) mi_X9_cutBy q2709 ⟨rfl, rfl⟩ rfl ⟨Nat.le_refl _, Nat.le_refl _⟩ rfl dX9_fractionBy_99 (fun r M1 hr => ?_)
        obtain ⟨rfl, rfl⟩ := hr
        refine x_l2i C dX9_fractionBy_102 ?_
        exact x_iret C dX9_fractionBy_103 ⟨Nat.le_refl _, Nat.le_refl _⟩ ⟨rfl, (by rw [hw] at c84; rw [hv, hw]; unfold pFrac; exact if_neg c84)⟩
      · -- 87
        refine x_iload_n C dX9_fractionBy_87 rfl rfl ?_
        refine x_goto (tgt := 103) C dX9_fractionBy_88 rfl ?_
        exact x_iret C dX9_fractionBy_103 ⟨Nat.le_refl _, Nat.le_refl _⟩ ⟨rfl, (by rw [hw] at c84; unfold pFrac; exact if_pos c84)⟩
    · -- to the join
      refine x_iload_n C dX9_fractionBy_33 rfl rfl ?_
      refine x_if_ne (tgt := 53) C dX9_fractionBy_34 rfl (fun c34 => ?_) (fun c34 => ?_)
      · -- 53
        refine x_iload_n C dX9_fractionBy_53 rfl rfl ?_
        refine x_iconst C dX9_fractionBy_54 kc_1 ?_
        refine x_icmp_ne (tgt := 74) C dX9_fractionBy_55 rfl (fun c55 => ?_) (fun c55 => ?_)
        · -- 74
          refine x_aload_n C dX9_fractionBy_74 rfl rfl ?_
          refine m_get C h 26 rfl q2435 rfl dX9_fractionBy_75 ?_
          exact (J78 _ ((if_neg c34).trans (if_neg c55)).symm)
        · -- 58
          refine x_aload_n C dX9_fractionBy_58 rfl rfl ?_
          refine m_get C h 24 rfl q2433 rfl dX9_fractionBy_59 ?_
          refine x_iconst C dX9_fractionBy_62 kc_2 ?_
          refine m_lald C h rfl (by omega) dX9_fractionBy_63 ?_
          refine x_aload_n C dX9_fractionBy_64 rfl rfl ?_
          refine m_get C h 24 rfl q2433 rfl dX9_fractionBy_65 ?_
          refine x_iconst C dX9_fractionBy_68 kc_3 ?_
          refine m_lald C h rfl (by omega) dX9_fractionBy_69 ?_
          refine x_ladd C dX9_fractionBy_70 ?_
          refine x_goto (tgt := 78) C dX9_fractionBy_71 rfl ?_
          exact (J78 _ ((if_neg c34).trans (if_pos c55)).symm)
      · -- 37
        refine x_aload_n C dX9_fractionBy_37 rfl rfl ?_
        refine m_get C h 24 rfl q2433 rfl dX9_fractionBy_38 ?_
        refine x_iconst C dX9_fractionBy_41 kc_0 ?_
        refine m_lald C h rfl (by omega) dX9_fractionBy_42 ?_
        refine x_aload_n C dX9_fractionBy_43 rfl rfl ?_
        refine m_get C h 24 rfl q2433 rfl dX9_fractionBy_44 ?_
        refine x_iconst C dX9_fractionBy_47 kc_1 ?_
        refine m_lald C h rfl (by omega) dX9_fractionBy_48 ?_
        refine x_ladd C dX9_fractionBy_49 ?_
        refine x_goto (tgt := 78) C dX9_fractionBy_50 rfl ?_
        exact (J78 _ (if_pos c34).symm)
  · -- to the join
    refine x_iload_n C dX9_fractionBy_0 rfl rfl ?_
    refine x_if_ne (tgt := 13) C dX9_fractionBy_1 rfl (fun c1 => ?_) (fun c1 => ?_)
    · -- 13
      refine x_iload_n C dX9_fractionBy_13 rfl rfl ?_
      refine x_iconst C dX9_fractionBy_14 kc_1 ?_
      refine x_icmp_ne (tgt := 27) C dX9_fractionBy_15 rfl (fun c15 => ?_) (fun c15 => ?_)
      · -- 27
        refine x_aload_n C dX9_fractionBy_27 rfl rfl ?_
        refine m_get C h 25 rfl q2434 rfl dX9_fractionBy_28 ?_
        exact (J31 _ ((if_neg c1).trans (if_neg c15)).symm)
      · -- 18
        refine x_aload_n C dX9_fractionBy_18 rfl rfl ?_
        refine m_get C h 24 rfl q2433 rfl dX9_fractionBy_19 ?_
        refine x_iconst C dX9_fractionBy_22 kc_2 ?_
        refine m_lald C h rfl (by omega) dX9_fractionBy_23 ?_
        refine x_goto (tgt := 31) C dX9_fractionBy_24 rfl ?_
        exact (J31 _ ((if_neg c1).trans (if_pos c15)).symm)
    · -- 4
      refine x_aload_n C dX9_fractionBy_4 rfl rfl ?_
      refine m_get C h 24 rfl q2433 rfl dX9_fractionBy_5 ?_
      refine x_iconst C dX9_fractionBy_8 kc_0 ?_
      refine m_lald C h rfl (by omega) dX9_fractionBy_9 ?_
      refine x_goto (tgt := 31) C dX9_fractionBy_10 rfl ?_
      exact (J31 _ (if_pos c1).symm)
theorem mi_X9_fraction : gMV RX9 yX9_fraction cX9_fraction 2 (some .int) 1 := ⟨q2703, qs96, q165, q2704, by decide +kernel⟩
set_option maxHeartbeats 4000000 in
set_option maxRecDepth 100000 in
theorem met_X9_fraction (l : Launch) {G : gG} (hG : gOK G) {ad : Nat → Nat} {σ : mS} {M0 : gM} {b : Nat} {B : Nat → Int32} {Z : Nat → Int64} {ho ha : Int64} {t : Nat} {A : Nat → Nat → Int32} (h : MR G ad (sb (sy σ Z ho ha) b B) M0) (hb : mI σ 21 = nI b) (hA : mA σ = A) (hb0_ : b < 23) (hb1_ : t < 4) (hZ : sZ Z ho ha) : Met l yX9_fraction (ws_ yX9_fraction cX9_fraction 2 (some .int)) ({ frames := 3, cells := 0, slots := 0, locals := 76 }) (gPre G M0 [.ref (ad 0), .int (nI t)]) (gQ G (gI (fun r M1 => M0 = M1 ∧ pFr A Z ho ha t = r))) 0 0 (gA G) := by
  refine gMet (L0 := [some (.ref (ad 0)), some (.int (nI t))]) RX9 hG (by decide +kernel) rfl (Nat.le_of_ble_eq_true rfl) rfl ?_
  intro p e s m args below meth c C hnm
  have h := MF.rf h
  refine x_aload_n C dX9_fraction_0 rfl rfl ?_
  refine x_aload_n C dX9_fraction_1 rfl rfl ?_
  refine x_iload_n C dX9_fraction_2 rfl rfl ?_
  refine x_iconst C dX9_fraction_3 kc_1 ?_
  refine x_V2I C (met_X9_told1 l C.1 h.1 hA (by omega)) mi_X9_told1 q2381 gcX9 h.1.1 ⟨rfl, rfl⟩ rfl ⟨Nat.le_refl _, Nat.le_refl _⟩ rfl dX9_fraction_4 (fun r M1 hr => ?_)
  obtain ⟨rfl, rfl⟩ := hr
  refine x_aload_n C dX9_fraction_7 rfl rfl ?_
  refine m_get C h 17 rfl q2426 rfl dX9_fraction_8 ?_
  refine x_iconst C dX9_fraction_11 kc_0 ?_
  refine m_ald C h 6 (N := 14) (by decide) rfl rfl (by omega) (congrFun (congrFun hA 6) _) dX9_fraction_12 ?_
  refine x_aload_n C dX9_fraction_13 rfl rfl ?_
  refine m_get C h 17 rfl q2426 rfl dX9_fraction_14 ?_
  refine x_iconst C dX9_fraction_17 kc_1 ?_
  refine m_ald C h 6 (N := 14) (by decide) rfl rfl (by omega) (congrFun (congrFun hA 6) _) dX9_fraction_18 ?_
  refine x_V3I C (met_X9_fractionBy l C.1 h.1 hb (by omega) hZ) mi_X9_fractionBy q2705 gcX9 h.1.1 ⟨rfl, rfl⟩ rfl ⟨Nat.le_refl _, Nat.le_refl _⟩ rfl dX9_fraction_19 (fun r M1 hr => ?_)
  obtain ⟨rfl, rfl⟩ := hr
  exact x_iret C dX9_fraction_22 ⟨Nat.le_refl _, Nat.le_refl _⟩ ⟨rfl, rfl⟩
theorem mi_X9_backBy : gMV RX9 yX9_backBy cX9_backBy 11 (some .int) 4 := ⟨q2726, qs100, q165, q2727, by decide +kernel⟩
set_option maxHeartbeats 4000000 in
set_option maxRecDepth 100000 in
theorem met_X9_backBy (l : Launch) {G : gG} (hG : gOK G) {ad : Nat → Nat} {σ : mS} {M0 : gM} {b : Nat} {B : Nat → Int32} {Z : Nat → Int64} {ho ha : Int64} {f way step limit : Int32} (h : MR G ad (sb (sy σ Z ho ha) b B) M0) (hb : mI σ 21 = nI b) (hb0_ : b < 23) (h10 : isN step 1000) (h11 : 10 ≤ dN step) : Met l yX9_backBy (ws_ yX9_backBy cX9_backBy 11 (some .int)) ({ frames := 2, cells := 0, slots := 0, locals := 49 }) (gPre G M0 [.ref (ad 0), .int (f), .int (way), .int (step), .int (limit)]) (gQ G (gI (fun r M1 => pBack way step f limit Z = r ∧ MF G ad M0 (sb (sy (si σ 27 (if pWh Z - pIts way step f Z ≤ limit.toInt64 ∧ 2 * (pWh Z - pIts way step f Z) ≤ pWh Z then nI 1 else nI 0)) Z ho ha) b B) M1))) 0 0 (gA G) := by
  refine gMet (L0 := [some (.ref (ad 0)), some (.int (f)), some (.int (way)), some (.int (step)), some (.int (limit)), none, none, none, none, none, none]) RX9 hG (by decide +kernel) rfl (Nat.le_of_ble_eq_true rfl) rfl ?_
  intro p e s m args below meth c C hnm
  have h := MF.rf h
  refine x_aload_n C dX9_backBy_0 rfl rfl ?_
  refine m_get C h 24 rfl q2433 rfl dX9_backBy_1 ?_
  refine x_iconst C dX9_backBy_4 kc_2 ?_
  refine m_lald C h rfl (by omega) dX9_backBy_5 ?_
  refine x_iload_n C dX9_backBy_6 rfl rfl ?_
  refine x_aload_n C dX9_backBy_7 rfl rfl ?_
  refine m_get C h 24 rfl q2433 rfl dX9_backBy_8 ?_
  refine x_iconst C dX9_backBy_11 kc_4 ?_
  refine m_lald C h rfl (by omega) dX9_backBy_12 ?_
  refine x_iload_n C dX9_backBy_13 rfl rfl ?_
  refine x_i2l C dX9_backBy_14 ?_
  refine x_lmul C dX9_backBy_15 ?_
  refine x_iload_n C dX9_backBy_16 rfl rfl ?_
  refine x_i2l C dX9_backBy_17 ?_
  refine x_S3J C (met_X9_cutBy l C.1 (l_step h10 h11).1 (l_step h10 h11).2) mi_X9_cutBy q2709 ⟨rfl, rfl⟩ rfl ⟨Nat.le_refl _, Nat.le_refl _⟩ rfl dX9_backBy_18 (fun r M1 hr => ?_)
  obtain ⟨rfl, rfl⟩ := hr
  refine x_ladd C dX9_backBy_21 ?_
  refine x_lstore C dX9_backBy_22 (gs2_5 rfl) rfl ?_
  refine x_aload_n C dX9_backBy_24 rfl rfl ?_
  refine m_get C h 24 rfl q2433 rfl dX9_backBy_25 ?_
  refine x_iconst C dX9_backBy_28 kc_2 ?_
  refine m_lald C h rfl (by omega) dX9_backBy_29 ?_
  refine x_aload_n C dX9_backBy_30 rfl rfl ?_
  refine m_get C h 24 rfl q2433 rfl dX9_backBy_31 ?_
  refine x_iconst C dX9_backBy_34 kc_3 ?_
  refine m_lald C h rfl (by omega) dX9_backBy_35 ?_
  refine x_ladd C dX9_backBy_36 ?_
  refine x_aload_n C dX9_backBy_37 rfl rfl ?_
  refine m_get C h 24 rfl q2433 rfl dX9_backBy_38 ?_
  refine x_iconst C dX9_backBy_41 kc_4 ?_
  refine m_lald C h rfl (by omega) dX9_backBy_42 ?_
  refine x_ladd C dX9_backBy_43 ?_
  refine x_lstore C dX9_backBy_44 (gs2_7 rfl) rfl ?_
  refine x_lload C dX9_backBy_46 rfl ?_
  refine x_lload C dX9_backBy_48 rfl ?_
  refine x_lsub C dX9_backBy_50 ?_
  refine x_lstore C dX9_backBy_51 (gs2_9 rfl) rfl ?_
  refine x_join (α := Int32) (P := fun v => v = (if pWh Z - pIts way step f Z ≤ limit.toInt64 ∧ 2 * (pWh Z - pIts way step f Z) ≤ pWh Z then nI 1 else nI 0)) (LL := fun v => [some (.ref (ad 0)), some (.int f), some (.int way), some (.int step), some (.int limit), some (.long (pIts way step f Z)), none, some (.long (pWh Z)), none, none, none]) (ss := fun v => [.int v, .ref (ad 0)]) 80 (fun v hv => ?_) (fun J80 => ?_)
  · -- join 80
    by_cases hs : pWh Z - pIts way step f Z ≤ limit.toInt64 ∧ 2 * (pWh Z - pIts way step f Z) ≤ pWh Z
    · -- small: True
      rw [if_pos hs] at hv
      subst hv
      refine m_put C h 27 rfl q2436 rfl (by decide +kernel) rfl rfl dX9_backBy_80 (fun M h => ?_)
      refine x_aload_n C dX9_backBy_83 rfl rfl ?_
      refine m_get C h 27 (v := .int (nI 1)) rfl q2436 (m_v rfl rfl) dX9_backBy_84 ?_
      refine x_if_eqF (tgt := 95) C (by decide) dX9_backBy_87 rfl ?_
      refine x_lload C dX9_backBy_90 rfl ?_
      refine x_goto (tgt := 97) C dX9_backBy_92 rfl ?_
      refine x_l2i C dX9_backBy_97 ?_
      exact x_iret C dX9_backBy_98 ⟨Nat.le_refl _, Nat.le_refl _⟩ ⟨(by unfold pBack; rw [if_pos hs]), (by rw [if_pos hs]; exact h)⟩
    · -- small: False
      rw [if_neg hs] at hv
      subst hv
      refine m_put C h 27 rfl q2436 rfl (by decide +kernel) rfl rfl dX9_backBy_80 (fun M h => ?_)
      refine x_aload_n C dX9_backBy_83 rfl rfl ?_
      refine m_get C h 27 (v := .int (nI 0)) rfl q2436 (m_v rfl rfl) dX9_backBy_84 ?_
      refine x_if_eqT (tgt := 95) C (by decide) dX9_backBy_87 rfl ?_
      refine x_lload C dX9_backBy_95 rfl ?_
      refine x_l2i C dX9_backBy_97 ?_
      exact x_iret C dX9_backBy_98 ⟨Nat.le_refl _, Nat.le_refl _⟩ ⟨(by unfold pBack; rw [if_neg hs]), (by rw [if_neg hs]; exact h)⟩
  · -- to the join
    refine x_aload_n C dX9_backBy_53 rfl rfl ?_
    refine x_lload C dX9_backBy_54 rfl ?_
    refine x_iload C dX9_backBy_56 rfl ?_
    refine x_i2l C dX9_backBy_58 ?_
    refine x_lcmp C dX9_backBy_59 ?_
    refine x_if_gtL (tgt := 79) C dX9_backBy_60 rfl (fun c60 => ?_) (fun c60 => ?_)
    · -- 79
      refine x_iconst C dX9_backBy_79 kc_0 ?_
      exact x_wk [true, true, true, true, true, true, true, true, true, false, true] rfl (J80 _ (if_neg (fun q => absurd q.1 (Int64.not_le.mpr c60))).symm)
    · -- 63
      refine x_ldc2 C dX9_backBy_63 q2715 ?_
      refine x_lload C dX9_backBy_66 rfl ?_
      refine x_lmul C dX9_backBy_68 ?_
      refine x_lload C dX9_backBy_69 rfl ?_
      refine x_lcmp C dX9_backBy_71 ?_
      refine x_if_gtL (tgt := 79) C dX9_backBy_72 rfl (fun c72 => ?_) (fun c72 => ?_)
      · -- 79
        refine x_iconst C dX9_backBy_79 kc_0 ?_
        exact x_wk [true, true, true, true, true, true, true, true, true, false, true] rfl (J80 _ (if_neg (fun q => absurd q.2 (Int64.not_le.mpr c72))).symm)
      · -- 75
        refine x_iconst C dX9_backBy_75 kc_1 ?_
        refine x_goto (tgt := 80) C dX9_backBy_76 rfl ?_
        exact x_wk [true, true, true, true, true, true, true, true, true, false, true] rfl (J80 _ (if_pos ⟨Int64.not_lt.mp c60, Int64.not_lt.mp c72⟩).symm)
theorem mi_X9_back1 : gMV RX9 yX9_back1 cX9_back1 3 (some .int) 2 := ⟨q2722, qs99, q165, q2723, by decide +kernel⟩
set_option maxHeartbeats 4000000 in
set_option maxRecDepth 100000 in
theorem met_X9_back1 (l : Launch) {G : gG} (hG : gOK G) {ad : Nat → Nat} {σ : mS} {M0 : gM} {b : Nat} {B : Nat → Int32} {Z : Nat → Int64} {ho ha : Int64} {f limit : Int32} {A : Nat → Nat → Int32} (h : MR G ad (sb (sy σ Z ho ha) b B) M0) (hb : mI σ 21 = nI b) (hA : mA σ = A) (hb0_ : b < 23) (h10 : isN (A 6 1) 1000) (h11 : 10 ≤ dN (A 6 1)) : Met l yX9_back1 (ws_ yX9_back1 cX9_back1 3 (some .int)) ({ frames := 3, cells := 0, slots := 0, locals := 79 }) (gPre G M0 [.ref (ad 0), .int (f), .int (limit)]) (gQ G (gI (fun r M1 => pBk A f limit Z = r ∧ MF G ad M0 (sb (sy (si σ 27 (if pWh Z - pIts (A 6 0) (A 6 1) f Z ≤ limit.toInt64 ∧ 2 * (pWh Z - pIts (A 6 0) (A 6 1) f Z) ≤ pWh Z then nI 1 else nI 0)) Z ho ha) b B) M1))) 0 0 (gA G) := by
  refine gMet (L0 := [some (.ref (ad 0)), some (.int (f)), some (.int (limit))]) RX9 hG (by decide +kernel) rfl (Nat.le_of_ble_eq_true rfl) rfl ?_
  intro p e s m args below meth c C hnm
  have h := MF.rf h
  refine x_aload_n C dX9_back1_0 rfl rfl ?_
  refine x_iload_n C dX9_back1_1 rfl rfl ?_
  refine x_aload_n C dX9_back1_2 rfl rfl ?_
  refine m_get C h 17 rfl q2426 rfl dX9_back1_3 ?_
  refine x_iconst C dX9_back1_6 kc_0 ?_
  refine m_ald C h 6 (N := 14) (by decide) rfl rfl (by omega) (congrFun (congrFun hA 6) _) dX9_back1_7 ?_
  refine x_aload_n C dX9_back1_8 rfl rfl ?_
  refine m_get C h 17 rfl q2426 rfl dX9_back1_9 ?_
  refine x_iconst C dX9_back1_12 kc_1 ?_
  refine m_ald C h 6 (N := 14) (by decide) rfl rfl (by omega) (congrFun (congrFun hA 6) _) dX9_back1_13 ?_
  refine x_iload_n C dX9_back1_14 rfl rfl ?_
  refine x_V4I C (met_X9_backBy l C.1 h.1 hb (by omega) h10 h11) mi_X9_backBy q2724 gcX9 h.1.1 ⟨rfl, rfl⟩ rfl ⟨Nat.le_refl _, Nat.le_refl _⟩ rfl dX9_back1_15 (fun r M1 hr => ?_)
  obtain ⟨rfl, hr⟩ := hr
  have h := h.tr hr
  exact x_iret C dX9_back1_18 ⟨Nat.le_refl _, Nat.le_refl _⟩ ⟨rfl, h⟩
theorem mi_X9_firstOf : gMV RX9 yX9_firstOf cX9_firstOf 2 (some .int) 1 := ⟨q2718, qs98, q165, q2719, by decide +kernel⟩
set_option maxHeartbeats 4000000 in
set_option maxRecDepth 100000 in
theorem met_X9_firstOf (l : Launch) {G : gG} (hG : gOK G) {ad : Nat → Nat} {σ : mS} {M0 : gM} {t : Nat} {A : Nat → Nat → Int32} (h : MR G ad σ M0) (hA : mA σ = A) (hb0_ : t < 4) : Met l yX9_firstOf (ws_ yX9_firstOf cX9_firstOf 2 (some .int)) ({ frames := 1, cells := 0, slots := 0, locals := 22 }) (gPre G M0 [.ref (ad 0), .int (nI t)]) (gQ G (gI (fun r M1 => M0 = M1 ∧ pFst A t = r))) 0 0 (gA G) := by
  refine gMet (L0 := [some (.ref (ad 0)), some (.int (nI t))]) RX9 hG (by decide +kernel) rfl (Nat.le_of_ble_eq_true rfl) rfl ?_
  intro p e s m args below meth c C hnm
  have h := MF.rf h
  refine x_aload_n C dX9_firstOf_0 rfl rfl ?_
  refine x_iload_n C dX9_firstOf_1 rfl rfl ?_
  refine x_bipush C dX9_firstOf_2 kb_7 ?_
  refine x_V2I C (met_X9_told1 l C.1 h.1 hA (by omega)) mi_X9_told1 q2381 gcX9 h.1.1 ⟨rfl, rfl⟩ rfl ⟨Nat.le_refl _, Nat.le_refl _⟩ rfl dX9_firstOf_4 (fun r M1 hr => ?_)
  obtain ⟨rfl, rfl⟩ := hr
  refine x_aload_n C dX9_firstOf_7 rfl rfl ?_
  refine m_get C h 17 rfl q2426 rfl dX9_firstOf_8 ?_
  refine x_iconst C dX9_firstOf_11 kc_1 ?_
  refine m_ald C h 6 (N := 14) (by decide) rfl rfl (by omega) (congrFun (congrFun hA 6) _) dX9_firstOf_12 ?_
  refine x_icmp_ge (tgt := 26) C dX9_firstOf_13 rfl (fun c13 => ?_) (fun c13 => ?_)
  · -- 26
    refine x_aload_n C dX9_firstOf_26 rfl rfl ?_
    refine m_get C h 17 rfl q2426 rfl dX9_firstOf_27 ?_
    refine x_iconst C dX9_firstOf_30 kc_1 ?_
    refine m_ald C h 6 (N := 14) (by decide) rfl rfl (by omega) (congrFun (congrFun hA 6) _) dX9_firstOf_31 ?_
    exact x_iret C dX9_firstOf_32 ⟨Nat.le_refl _, Nat.le_refl _⟩ ⟨rfl, (by unfold pFst; rw [if_neg (k2_nlt c13)])⟩
  · -- 16
    refine x_aload_n C dX9_firstOf_16 rfl rfl ?_
    refine x_iload_n C dX9_firstOf_17 rfl rfl ?_
    refine x_bipush C dX9_firstOf_18 kb_7 ?_
    refine x_V2I C (met_X9_told1 l C.1 h.1 hA (by omega)) mi_X9_told1 q2381 gcX9 h.1.1 ⟨rfl, rfl⟩ rfl ⟨Nat.le_refl _, Nat.le_refl _⟩ rfl dX9_firstOf_20 (fun r M1 hr => ?_)
    obtain ⟨rfl, rfl⟩ := hr
    refine x_goto (tgt := 32) C dX9_firstOf_23 rfl ?_
    exact x_iret C dX9_firstOf_32 ⟨Nat.le_refl _, Nat.le_refl _⟩ ⟨rfl, (by unfold pFst; rw [if_pos (k2_lt c13)])⟩
theorem mi_X9_annualOf : gMV RX9 yX9_annualOf cX9_annualOf 3 (some .int) 2 := ⟨q2754, qs107, q165, q2755, by decide +kernel⟩
set_option maxHeartbeats 4000000 in
set_option maxRecDepth 100000 in
theorem met_X9_annualOf (l : Launch) {G : gG} (hG : gOK G) {ad : Nat → Nat} {σ : mS} {M0 : gM} {b : Nat} {B : Nat → Int32} {t y w : Nat} {A : Nat → Nat → Int32} (h : MR G ad (sb σ b B) M0) (hb : mI σ 21 = nI b) (hA : mA σ = A) (hn : B 0 = nI w) (hb0_ : b < 23) (hb1_ : t < 4) (hb2_ : y < 16) (hb3_ : w < 64) : Met l yX9_annualOf (ws_ yX9_annualOf cX9_annualOf 3 (some .int)) ({ frames := 4, cells := 0, slots := 0, locals := 97 }) (gPre G M0 [.ref (ad 0), .int (nI t), .int (nI y)]) (gQ G (gI (fun r M1 => pAnn A B t y = r ∧ MF G ad M0 (sb (sy σ (pYS B t y) (pHO B t) (pHA B t)) b B) M1))) 0 0 (gA G) := by
  refine gMet (L0 := [some (.ref (ad 0)), some (.int (nI t)), some (.int (nI y))]) RX9 hG (by decide +kernel) rfl (Nat.le_of_ble_eq_true rfl) rfl ?_
  intro p e s m args below meth c C hnm
  have h := MF.rf h
  refine x_aload_n C dX9_annualOf_0 rfl rfl ?_
  refine x_iload_n C dX9_annualOf_1 rfl rfl ?_
  refine x_iload_n C dX9_annualOf_2 rfl rfl ?_
  refine x_V2V C (met_X9_layYear l C.1 h.1 hb (by omega) (by omega) (by omega)) mi_X9_layYear q2736 gcX9 h.1.1 ⟨rfl, rfl⟩ rfl ⟨Nat.le_refl _, Nat.le_refl _⟩ rfl dX9_annualOf_3 (fun M1 hr => ?_)
  have h := h.tr hr
  refine x_iload_n C dX9_annualOf_6 rfl rfl ?_
  refine x_aload_n C dX9_annualOf_7 rfl rfl ?_
  refine x_V0I C (met_X9_year l C.1 h.1 hb hn (by omega) (by omega)) mi_X9_year q2629 gcX9 h.1.1 ⟨rfl, rfl⟩ rfl ⟨Nat.le_refl _, Nat.le_refl _⟩ rfl dX9_annualOf_8 (fun r M1 hr => ?_)
  obtain ⟨rfl, rfl⟩ := hr
  refine x_icmp_geN (tgt := 31) C (by omega) (by omega) dX9_annualOf_11 rfl (fun c11 => ?_) (fun c11 => ?_)
  · -- 31
    refine x_aload_n C dX9_annualOf_31 rfl rfl ?_
    refine x_iload_n C dX9_annualOf_32 rfl rfl ?_
    refine x_V1I C (met_X9_fraction l C.1 h.1 hb hA (by omega) (by omega) (sZ_y B t y)) mi_X9_fraction q2701 gcX9 h.1.1 ⟨rfl, rfl⟩ rfl ⟨Nat.le_refl _, Nat.le_refl _⟩ rfl dX9_annualOf_33 (fun r M1 hr => ?_)
    obtain ⟨rfl, rfl⟩ := hr
    exact x_iret C dX9_annualOf_36 ⟨Nat.le_refl _, Nat.le_refl _⟩ ⟨(by unfold pAnn pYr pNow; rw [hn, dN_nI (by omega)]; exact if_neg (by omega)), h⟩
  · -- 14
    refine x_aload_n C dX9_annualOf_14 rfl rfl ?_
    refine x_sipush C dX9_annualOf_15 ks_1801 ?_
    refine x_bipush C dX9_annualOf_18 kb_16 ?_
    refine x_iload_n C dX9_annualOf_20 rfl rfl ?_
    refine x_imulN C dX9_annualOf_21 ?_
    refine x_iaddN C dX9_annualOf_22 ?_
    refine x_iload_n C dX9_annualOf_23 rfl rfl ?_
    refine x_iaddN C dX9_annualOf_24 ?_
    refine x_V1I C (met_X9_of l C.1 h.1 hb (by omega) (by omega)) mi_X9_of q2389 gcX9 h.1.1 ⟨rfl, rfl⟩ rfl ⟨Nat.le_refl _, Nat.le_refl _⟩ rfl dX9_annualOf_25 (fun r M1 hr => ?_)
    obtain ⟨rfl, rfl⟩ := hr
    refine x_goto (tgt := 36) C dX9_annualOf_28 rfl ?_
    exact x_iret C dX9_annualOf_36 ⟨Nat.le_refl _, Nat.le_refl _⟩ ⟨(by unfold pAnn pYr pNow; rw [hn, dN_nI (by omega)]; exact if_pos (by omega)), h⟩
theorem mi_X9_provisionalBy : gMV RX9 yX9_provisionalBy cX9_provisionalBy 5 (some .int) 3 := ⟨q2683, qs91, q165, q2684, by decide +kernel⟩
set_option maxHeartbeats 4000000 in
set_option maxRecDepth 100000 in
theorem met_X9_provisionalBy (l : Launch) {G : gG} (hG : gOK G) {ad : Nat → Nat} {σ : mS} {M0 : gM} {b : Nat} {B : Nat → Int32} {t q : Nat} {bs : Int32} {A : Nat → Nat → Int32} (h : MR G ad (sb σ b B) M0) (hb : mI σ 21 = nI b) (hA : mA σ = A) (hb0_ : b < 23) (hb1_ : t < 4) (hb2_ : q < 64) : Met l yX9_provisionalBy (ws_ yX9_provisionalBy cX9_provisionalBy 5 (some .int)) ({ frames := 4, cells := 0, slots := 0, locals := 97 }) (gPre G M0 [.ref (ad 0), .int (nI t), .int (nI q), .int (bs)]) (gQ G (gI (fun r M1 => pProv A B t q bs = r ∧ MF G ad M0 (sb (sy σ (pQS B t q) (pHO B t) (pHA B t)) b B) M1))) 0 0 (gA G) := by
  refine gMet (L0 := [some (.ref (ad 0)), some (.int (nI t)), some (.int (nI q)), some (.int (bs)), none]) RX9 hG (by decide +kernel) rfl (Nat.le_of_ble_eq_true rfl) rfl ?_
  intro p e s m args below meth c C hnm
  have h := MF.rf h
  refine x_join (α := Int32) (P := fun v => v = (if 4 ≤ q then (if bs = nI 1 then B (1801 + 16 * t + q / 4 - 1) else nI 0) else nI 0)) (LL := fun v => [some (.ref (ad 0)), some (.int (nI t)), some (.int (nI q)), some (.int bs), none]) (ss := fun v => [.int v]) 32 (fun v hv => ?_) (fun J32 => ?_)
  · -- join 32
    refine x_istore C dX9_provisionalBy_32 (gs1_4 rfl) rfl ?_
    refine x_aload_n C dX9_provisionalBy_34 rfl rfl ?_
    refine x_iload_n C dX9_provisionalBy_35 rfl rfl ?_
    refine x_iload_n C dX9_provisionalBy_36 rfl rfl ?_
    refine x_V2V C (met_X9_layQuarter l C.1 h.1 hb (by omega) (by omega) (by omega)) mi_X9_layQuarter q2685 gcX9 h.1.1 ⟨rfl, rfl⟩ rfl ⟨Nat.le_refl _, Nat.le_refl _⟩ rfl dX9_provisionalBy_37 (fun M1 hr => ?_)
    have h := h.tr hr
    refine x_iload_n C dX9_provisionalBy_40 rfl rfl ?_
    refine x_if_ne (tgt := 50) C dX9_provisionalBy_41 rfl (fun c41 => ?_) (fun c41 => ?_)
    · -- 50
      refine x_iload_n C dX9_provisionalBy_50 rfl rfl ?_
      refine x_iconst C dX9_provisionalBy_51 kc_4 ?_
      refine x_icmp_ltN (tgt := 58) C (by omega) (by omega) dX9_provisionalBy_52 rfl (fun c52 => ?_) (fun c52 => ?_)
      · -- 58
        refine x_aload_n C dX9_provisionalBy_58 rfl rfl ?_
        refine x_iload_n C dX9_provisionalBy_59 rfl rfl ?_
        refine x_bipush C dX9_provisionalBy_60 kb_6 ?_
        refine x_V2I C (met_X9_told1 l C.1 h.1 hA (by omega)) mi_X9_told1 q2381 gcX9 h.1.1 ⟨rfl, rfl⟩ rfl ⟨Nat.le_refl _, Nat.le_refl _⟩ rfl dX9_provisionalBy_62 (fun r M1 hr => ?_)
        obtain ⟨rfl, rfl⟩ := hr
        refine x_iconst C dX9_provisionalBy_65 kc_1 ?_
        refine x_icmp_ne (tgt := 77) C dX9_provisionalBy_66 rfl (fun c66 => ?_) (fun c66 => ?_)
        · -- 77
          refine x_aload_n C dX9_provisionalBy_77 rfl rfl ?_
          refine x_iload_n C dX9_provisionalBy_78 rfl rfl ?_
          refine x_V1I C (met_X9_fraction l C.1 h.1 hb hA (by omega) (by omega) (sZ_q B t q)) mi_X9_fraction q2701 gcX9 h.1.1 ⟨rfl, rfl⟩ rfl ⟨Nat.le_refl _, Nat.le_refl _⟩ rfl dX9_provisionalBy_79 (fun r M1 hr => ?_)
          obtain ⟨rfl, rfl⟩ := hr
          exact x_iret C dX9_provisionalBy_82 ⟨Nat.le_refl _, Nat.le_refl _⟩ ⟨(by unfold pProv; rw [if_neg c41, if_pos c52, if_neg c66]), h⟩
        · -- 69
          refine x_aload_n C dX9_provisionalBy_69 rfl rfl ?_
          refine x_iload_n C dX9_provisionalBy_70 rfl rfl ?_
          refine x_V1I C (met_X9_firstOf l C.1 h.1 hA (by omega)) mi_X9_firstOf q2716 gcX9 h.1.1 ⟨rfl, rfl⟩ rfl ⟨Nat.le_refl _, Nat.le_refl _⟩ rfl dX9_provisionalBy_71 (fun r M1 hr => ?_)
          obtain ⟨rfl, rfl⟩ := hr
          refine x_goto (tgt := 82) C dX9_provisionalBy_74 rfl ?_
          exact x_iret C dX9_provisionalBy_82 ⟨Nat.le_refl _, Nat.le_refl _⟩ ⟨(by unfold pProv; rw [if_neg c41, if_pos c52, if_pos c66]), h⟩
      · -- 55
        refine x_iload C dX9_provisionalBy_55 rfl ?_
        exact x_iret C dX9_provisionalBy_57 ⟨Nat.le_refl _, Nat.le_refl _⟩ ⟨(by rw [hv]; unfold pProv; rw [if_neg c41, if_neg (by omega), if_pos c52]), h⟩
    · -- 44
      refine x_aload_n C dX9_provisionalBy_44 rfl rfl ?_
      refine x_iload_n C dX9_provisionalBy_45 rfl rfl ?_
      refine x_V1I C (met_X9_fraction l C.1 h.1 hb hA (by omega) (by omega) (sZ_q B t q)) mi_X9_fraction q2701 gcX9 h.1.1 ⟨rfl, rfl⟩ rfl ⟨Nat.le_refl _, Nat.le_refl _⟩ rfl dX9_provisionalBy_46 (fun r M1 hr => ?_)
      obtain ⟨rfl, rfl⟩ := hr
      exact x_iret C dX9_provisionalBy_49 ⟨Nat.le_refl _, Nat.le_refl _⟩ ⟨(by unfold pProv; exact if_pos c41), h⟩
  · -- to the join
    refine x_iload_n C dX9_provisionalBy_0 rfl rfl ?_
    refine x_iconst C dX9_provisionalBy_1 kc_1 ?_
    refine x_icmp_ne (tgt := 31) C dX9_provisionalBy_2 rfl (fun c2 => ?_) (fun c2 => ?_)
    · -- 31
      refine x_iconst C dX9_provisionalBy_31 kc_0 ?_
      exact (J32 _ (by first | rw [if_neg c2, ite_self] | rw [if_neg (by omega)]))
    · -- 5
      refine x_iload_n C dX9_provisionalBy_5 rfl rfl ?_
      refine x_iconst C dX9_provisionalBy_6 kc_4 ?_
      refine x_icmp_ltN (tgt := 31) C (by omega) (by omega) dX9_provisionalBy_7 rfl (fun c7 => ?_) (fun c7 => ?_)
      · -- 31
        refine x_iconst C dX9_provisionalBy_31 kc_0 ?_
        exact (J32 _ (by first | rw [if_neg c2, ite_self] | rw [if_neg (by omega)]))
      · -- 10
        refine x_aload_n C dX9_provisionalBy_10 rfl rfl ?_
        refine x_sipush C dX9_provisionalBy_11 ks_1801 ?_
        refine x_bipush C dX9_provisionalBy_14 kb_16 ?_
        refine x_iload_n C dX9_provisionalBy_16 rfl rfl ?_
        refine x_imulN C dX9_provisionalBy_17 ?_
        refine x_iaddN C dX9_provisionalBy_18 ?_
        refine x_iload_n C dX9_provisionalBy_19 rfl rfl ?_
        refine x_iconst C dX9_provisionalBy_20 kc_4 ?_
        refine x_idivN C (by omega) (by omega) (by omega) dX9_provisionalBy_21 ?_
        refine x_iaddN C dX9_provisionalBy_22 ?_
        refine x_iconst C dX9_provisionalBy_23 kc_1 ?_
        refine x_isubN C (by omega) dX9_provisionalBy_24 ?_
        refine x_V1I C (met_X9_of l C.1 h.1 hb (by omega) (by omega)) mi_X9_of q2389 gcX9 h.1.1 ⟨rfl, rfl⟩ rfl ⟨Nat.le_refl _, Nat.le_refl _⟩ rfl dX9_provisionalBy_25 (fun r M1 hr => ?_)
        obtain ⟨rfl, rfl⟩ := hr
        refine x_goto (tgt := 32) C dX9_provisionalBy_28 rfl ?_
        exact (J32 _ ((if_pos c7).trans (if_pos c2)).symm)
theorem mi_X9_books : gMV RX9 yX9_books cX9_books 7 none 4 := ⟨q2730, qs101, q165, q2731, by decide +kernel⟩
set_option maxHeartbeats 4000000 in
set_option maxRecDepth 100000 in
theorem met_X9_books (l : Launch) {G : gG} (hG : gOK G) {ad : Nat → Nat} {σ : mS} {M0 : gM} {b : Nat} {B : Nat → Int32} {t u kp w : Nat} {v a : Int32} (h : MR G ad (sb σ b B) M0) (hb : mI σ 21 = nI b) (hk : B 1867 = nI kp) (hn : B 0 = nI w) (hb0_ : b < 23) (hb1_ : kp ≤ 40) (hb2_ : w < 64) (hb3_ : t < 4) (hb4_ : u < 4) : Met l yX9_books (ws_ yX9_books cX9_books 7 none) ({ frames := 2, cells := 0, slots := 0, locals := 44 }) (gPre G M0 [.ref (ad 0), .int (nI t), .int (nI u), .int (v), .int (a)]) (gQ G (gV (fun M1 => MF G ad M0 (sb σ b (pBook B t u v a)) M1))) 0 0 (gA G) := by
  refine gMet (L0 := [some (.ref (ad 0)), some (.int (nI t)), some (.int (nI u)), some (.int (v)), some (.int (a)), none, none]) RX9 hG (by decide +kernel) rfl (Nat.le_of_ble_eq_true rfl) rfl ?_
  intro p e s m args below meth c C hnm
  have h := MF.rf h
  refine x_join (α := Nat) (P := fun m => m = pMany B) (LL := fun m => [some (.ref (ad 0)), some (.int (nI t)), some (.int (nI u)), some (.int v), some (.int a), none, none]) (ss := fun m => [.int (nI m)]) 24 (fun m hm => ?_) (fun J24 => ?_)
  · -- join 24
    refine x_istore C dX9_books_24 (gs1_5 rfl) rfl ?_
    have hm40 : m ≤ 39 := by rw [hm]; unfold pMany; split <;> omega
    refine x_iconst C dX9_books_26 kc_5 ?_
    refine x_iload C dX9_books_27 rfl ?_
    refine x_imulN C dX9_books_29 ?_
    refine x_iconst C dX9_books_30 kc_1 ?_
    refine x_isub C dX9_books_31 ?_
    refine x_istore C dX9_books_32 (gs1_6 rfl) rfl ?_
    refine x_loop (head := 34) (E := 5 * m) (fun i M => MF G ad M0 (sb σ b (pShift B m i)) M) (fun i => [some (.ref (ad 0)), some (.int (nI t)), some (.int (nI u)), some (.int v), some (.int a), some (.int (nI m)), some (.int (nI (5 * m - i) - nI 1))]) (by rw [pShift_0]; exact h) (fun i M hi h ih => ?_)
    refine x_iload C dX9_books_34 rfl ?_
    refine x_if_lt (tgt := 67) C dX9_books_36 rfl (fun c36 => ?_) (fun c36 => ?_)
    · -- 67
      obtain rfl : i = 5 * m := by
        rcases Nat.lt_or_ge i (5 * m) with q | q
        · exact absurd c36 (by rw [pk_sub (by omega)]; exact nI_pos (by omega))
        · omega
      refine x_aload_n C dX9_books_67 rfl rfl ?_
      refine x_sipush C dX9_books_68 ks_1868 ?_
      refine x_aload_n C dX9_books_71 rfl rfl ?_
      refine x_iconst C dX9_books_72 kc_0 ?_
      refine x_V1I C (met_X9_of l C.1 h.1 hb (by omega) (by omega)) mi_X9_of q2389 gcX9 h.1.1 ⟨rfl, rfl⟩ rfl ⟨Nat.le_refl _, Nat.le_refl _⟩ rfl dX9_books_73 (fun r M1 hr => ?_)
      obtain ⟨rfl, hr⟩ := hr
      have hr := hr.symm.trans (show _ = nI w from (by unfold pShift; rw [if_neg (by omega)]; exact hn))
      subst hr
      refine x_V2V C (met_X9_lay l C.1 h.1 hb (by omega) (by omega)) mi_X9_lay q2377 gcX9 h.1.1 ⟨rfl, rfl⟩ rfl ⟨Nat.le_refl _, Nat.le_refl _⟩ rfl dX9_books_76 (fun M1 hr => ?_)
      have h := h.tr hr
      refine x_aload_n C dX9_books_79 rfl rfl ?_
      refine x_sipush C dX9_books_80 ks_1869 ?_
      refine x_iload_n C dX9_books_83 rfl rfl ?_
      refine x_V2V C (met_X9_lay l C.1 h.1 hb (by omega) (by omega)) mi_X9_lay q2377 gcX9 h.1.1 ⟨rfl, rfl⟩ rfl ⟨Nat.le_refl _, Nat.le_refl _⟩ rfl dX9_books_84 (fun M1 hr => ?_)
      have h := h.tr hr
      refine x_aload_n C dX9_books_87 rfl rfl ?_
      refine x_sipush C dX9_books_88 ks_1870 ?_
      refine x_iload_n C dX9_books_91 rfl rfl ?_
      refine x_V2V C (met_X9_lay l C.1 h.1 hb (by omega) (by omega)) mi_X9_lay q2377 gcX9 h.1.1 ⟨rfl, rfl⟩ rfl ⟨Nat.le_refl _, Nat.le_refl _⟩ rfl dX9_books_92 (fun M1 hr => ?_)
      have h := h.tr hr
      refine x_aload_n C dX9_books_95 rfl rfl ?_
      refine x_sipush C dX9_books_96 ks_1871 ?_
      refine x_iload_n C dX9_books_99 rfl rfl ?_
      refine x_V2V C (met_X9_lay l C.1 h.1 hb (by omega) (by omega)) mi_X9_lay q2377 gcX9 h.1.1 ⟨rfl, rfl⟩ rfl ⟨Nat.le_refl _, Nat.le_refl _⟩ rfl dX9_books_100 (fun M1 hr => ?_)
      have h := h.tr hr
      refine x_aload_n C dX9_books_103 rfl rfl ?_
      refine x_sipush C dX9_books_104 ks_1872 ?_
      refine x_iload C dX9_books_107 rfl ?_
      refine x_V2V C (met_X9_lay l C.1 h.1 hb (by omega) (by omega)) mi_X9_lay q2377 gcX9 h.1.1 ⟨rfl, rfl⟩ rfl ⟨Nat.le_refl _, Nat.le_refl _⟩ rfl dX9_books_109 (fun M1 hr => ?_)
      have h := h.tr hr
      refine x_aload_n C dX9_books_112 rfl rfl ?_
      refine x_sipush C dX9_books_113 ks_1867 ?_
      refine x_iload C dX9_books_116 rfl ?_
      refine x_iconst C dX9_books_118 kc_1 ?_
      refine x_iaddN C dX9_books_119 ?_
      refine x_V2V C (met_X9_lay l C.1 h.1 hb (by omega) (by omega)) mi_X9_lay q2377 gcX9 h.1.1 ⟨rfl, rfl⟩ rfl ⟨Nat.le_refl _, Nat.le_refl _⟩ rfl dX9_books_120 (fun M1 hr => ?_)
      have h := h.tr hr
      refine x_aload_n C dX9_books_123 rfl rfl ?_
      refine x_sipush C dX9_books_124 ks_1866 ?_
      refine x_iconst C dX9_books_127 kc_1 ?_
      refine x_V2V C (met_X9_add l C.1 h.1 hb (by omega) (by omega)) mi_X9_add q2397 gcX9 h.1.1 ⟨rfl, rfl⟩ rfl ⟨Nat.le_refl _, Nat.le_refl _⟩ rfl dX9_books_128 (fun M1 hr => ?_)
      have h := h.tr hr
      refine x_aload_n C dX9_books_131 rfl rfl ?_
      refine x_sipush C dX9_books_132 ks_2068 ?_
      refine x_iconst C dX9_books_135 kc_4 ?_
      refine x_iload_n C dX9_books_136 rfl rfl ?_
      refine x_imulN C dX9_books_137 ?_
      refine x_iaddN C dX9_books_138 ?_
      refine x_iload_n C dX9_books_139 rfl rfl ?_
      refine x_iaddN C dX9_books_140 ?_
      refine x_iload_n C dX9_books_141 rfl rfl ?_
      refine x_V2V C (met_X9_add l C.1 h.1 hb (by omega) (by omega)) mi_X9_add q2397 gcX9 h.1.1 ⟨rfl, rfl⟩ rfl ⟨Nat.le_refl _, Nat.le_refl _⟩ rfl dX9_books_142 (fun M1 hr => ?_)
      have h := h.tr hr
      exact x_vret C dX9_books_145 ⟨Nat.le_refl _, Nat.le_refl _⟩ (by unfold pBook; rw [← hm, hn]; exact h)
    · -- 39
      have hlt : i < 5 * m := by
        rcases Nat.lt_or_ge i (5 * m) with q | q
        · exact q
        · exact absurd (by rw [show 5 * m - i = 0 from by omega]; decide +kernel) c36
      rw [show nI (5 * m - i) - nI 1 = nI (5 * m - i - 1) from pk_sub (by omega)]
      refine x_aload_n C dX9_books_39 rfl rfl ?_
      refine x_sipush C dX9_books_40 ks_1868 ?_
      refine x_iload C dX9_books_43 rfl ?_
      refine x_iaddN C dX9_books_45 ?_
      refine x_iconst C dX9_books_46 kc_5 ?_
      refine x_iaddN C dX9_books_47 ?_
      refine x_aload_n C dX9_books_48 rfl rfl ?_
      refine x_sipush C dX9_books_49 ks_1868 ?_
      refine x_iload C dX9_books_52 rfl ?_
      refine x_iaddN C dX9_books_54 ?_
      refine x_V1I C (met_X9_of l C.1 h.1 hb (by omega) (by omega)) mi_X9_of q2389 gcX9 h.1.1 ⟨rfl, rfl⟩ rfl ⟨Nat.le_refl _, Nat.le_refl _⟩ rfl dX9_books_55 (fun r M1 hr => ?_)
      obtain ⟨rfl, rfl⟩ := hr
      refine x_V2V C (met_X9_lay l C.1 h.1 hb (by omega) (by omega)) mi_X9_lay q2377 gcX9 h.1.1 ⟨rfl, rfl⟩ rfl ⟨Nat.le_refl _, Nat.le_refl _⟩ rfl dX9_books_58 (fun M1 hr => ?_)
      have h := h.tr hr
      refine x_iinc C dX9_books_61 rfl rfl (gs1_6 rfl) rfl ?_
      refine x_goto (tgt := 34) C dX9_books_64 rfl ?_
      rw [show nI (5 * m - i - 1) + Int32.ofInt (-1) = nI (5 * m - (i + 1)) - nI 1 from by rw [show Int32.ofInt (-1) = (-1 : Int32) from rfl, show 5 * m - (i + 1) = 5 * m - i - 1 from by omega]; exact (Int32.sub_eq_add_neg _ _).symm]
      rw [pShift_s B (by omega)] at h
      exact (ih (by omega) _ h)
  · -- to the join
    refine x_aload_n C dX9_books_0 rfl rfl ?_
    refine x_sipush C dX9_books_1 ks_1867 ?_
    refine x_V1I C (met_X9_of l C.1 h.1 hb (by omega) (by omega)) mi_X9_of q2389 gcX9 h.1.1 ⟨rfl, rfl⟩ rfl ⟨Nat.le_refl _, Nat.le_refl _⟩ rfl dX9_books_4 (fun r M1 hr => ?_)
    obtain ⟨rfl, hr⟩ := hr
    have hr := hr.symm.trans (show _ = nI kp from hk)
    subst hr
    refine x_bipush C dX9_books_7 kb_40 ?_
    refine x_icmp_geN (tgt := 22) C (by omega) (by omega) dX9_books_9 rfl (fun c9 => ?_) (fun c9 => ?_)
    · -- 22
      refine x_bipush C dX9_books_22 kb_39 ?_
      exact (J24 _ (by unfold pMany; rw [hk, dN_nI (by omega), if_neg (by omega)]))
    · -- 12
      refine x_aload_n C dX9_books_12 rfl rfl ?_
      refine x_sipush C dX9_books_13 ks_1867 ?_
      refine x_V1I C (met_X9_of l C.1 h.1 hb (by omega) (by omega)) mi_X9_of q2389 gcX9 h.1.1 ⟨rfl, rfl⟩ rfl ⟨Nat.le_refl _, Nat.le_refl _⟩ rfl dX9_books_16 (fun r M1 hr => ?_)
      obtain ⟨rfl, hr⟩ := hr
      have hr := hr.symm.trans (show _ = nI kp from hk)
      subst hr
      refine x_goto (tgt := 24) C dX9_books_19 rfl ?_
      exact (J24 _ (by unfold pMany; rw [hk, dN_nI (by omega), if_pos c9]))
theorem mi_X9_bookedIn : gMV RX9 yX9_bookedIn cX9_bookedIn 5 (some .int) 2 := ⟨q2742, qs104, q165, q2743, by decide +kernel⟩
set_option maxHeartbeats 4000000 in
set_option maxRecDepth 100000 in
theorem met_X9_bookedIn (l : Launch) {G : gG} (hG : gOK G) {ad : Nat → Nat} {σ : mS} {M0 : gM} {b : Nat} {B : Nat → Int32} {t y : Nat} (h : MR G ad (sb σ b B) M0) (hb : mI σ 21 = nI b) (hb0_ : b < 23) (hb1_ : t < 4) (hb2_ : y < 16) : Met l yX9_bookedIn (ws_ yX9_bookedIn cX9_bookedIn 5 (some .int)) ({ frames := 1, cells := 0, slots := 0, locals := 21 }) (gPre G M0 [.ref (ad 0), .int (nI t), .int (nI y)]) (gQ G (gI (fun r M1 => M0 = M1 ∧ pBin B t y 4 = r))) 0 0 (gA G) := by
  refine gMet (L0 := [some (.ref (ad 0)), some (.int (nI t)), some (.int (nI y)), none, none]) RX9 hG (by decide +kernel) rfl (Nat.le_of_ble_eq_true rfl) rfl ?_
  intro p e s m args below meth c C hnm
  have h := MF.rf h
  refine x_iconst C dX9_bookedIn_0 kc_0 ?_
  refine x_istore_n C dX9_bookedIn_1 rfl (gs1_3 rfl) rfl ?_
  refine x_iconst C dX9_bookedIn_2 kc_4 ?_
  refine x_iload_n C dX9_bookedIn_3 rfl rfl ?_
  refine x_imulN C dX9_bookedIn_4 ?_
  refine x_istore C dX9_bookedIn_5 (gs1_4 rfl) rfl ?_
  refine x_loop (head := 7) (E := 4) (fun i M => M0 = M ∧ MF G ad M0 (sb σ b B) M) (fun i => [some (.ref (ad 0)), some (.int (nI t)), some (.int (nI y)), some (.int (pBin B t y i)), some (.int (nI (4 * y + i)))]) ⟨rfl, h⟩ (fun i M hi h ih => ?_)
  obtain ⟨rfl, h⟩ := h
  refine x_iload C dX9_bookedIn_7 rfl ?_
  refine x_iconst C dX9_bookedIn_9 kc_4 ?_
  refine x_iload_n C dX9_bookedIn_10 rfl rfl ?_
  refine x_imulN C dX9_bookedIn_11 ?_
  refine x_iconst C dX9_bookedIn_12 kc_4 ?_
  refine x_iaddN C dX9_bookedIn_13 ?_
  refine x_icmp_geN (tgt := 41) C (by omega) (by omega) dX9_bookedIn_14 rfl (fun c14 => ?_) (fun c14 => ?_)
  · -- 41
    obtain rfl : i = 4 := by omega
    refine x_iload_n C dX9_bookedIn_41 rfl rfl ?_
    exact x_iret C dX9_bookedIn_42 ⟨Nat.le_refl _, Nat.le_refl _⟩ ⟨rfl, rfl⟩
  · -- 17
    refine x_iload_n C dX9_bookedIn_17 rfl rfl ?_
    refine x_aload_n C dX9_bookedIn_18 rfl rfl ?_
    refine x_sipush C dX9_bookedIn_19 ks_1545 ?_
    refine x_bipush C dX9_bookedIn_22 kb_64 ?_
    refine x_iload_n C dX9_bookedIn_24 rfl rfl ?_
    refine x_imulN C dX9_bookedIn_25 ?_
    refine x_iaddN C dX9_bookedIn_26 ?_
    refine x_iload C dX9_bookedIn_27 rfl ?_
    refine x_iaddN C dX9_bookedIn_29 ?_
    refine x_V1I C (met_X9_of l C.1 h.1 hb (by omega) (by omega)) mi_X9_of q2389 gcX9 h.1.1 ⟨rfl, rfl⟩ rfl ⟨Nat.le_refl _, Nat.le_refl _⟩ rfl dX9_bookedIn_30 (fun r M1 hr => ?_)
    obtain ⟨rfl, rfl⟩ := hr
    refine x_iadd C dX9_bookedIn_33 ?_
    refine x_istore_n C dX9_bookedIn_34 rfl (gs1_3 rfl) rfl ?_
    refine x_iincN C dX9_bookedIn_35 rfl (gs1_4 rfl) rfl ?_
    refine x_goto (tgt := 7) C dX9_bookedIn_38 rfl ?_
    exact (ih (by omega) _ ⟨rfl, h⟩)
