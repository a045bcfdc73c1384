set_option maxRecDepth 100000
theorem mi_X9_plain : gMV RX9 yX9_plain cX9_plain 2 none 0 := ⟨q2368, qs53, q165, q2369, by decide +kernel⟩
set_option maxHeartbeats 4000000 in
set_option maxRecDepth 100000 in
theorem met_X9_plain (l : Launch) {G : gG} (hG : gOK G) {ad : Nat → Nat} {σ : mS} {M0 : gM} (h : MR G ad σ M0) : Met l yX9_plain (ws_ yX9_plain cX9_plain 2 none) ({ frames := 0, cells := 0, slots := 0, locals := 0 }) (gPre G M0 [.ref (ad 0)]) (gQ G (gV (fun M1 => MF G ad M0 (tPlain σ) M1))) 0 0 (gA G) := by
  refine gMet (L0 := [some (.ref (ad 0)), none]) RX9 hG (by decide +kernel) rfl (Nat.le_of_ble_eq_true rfl) rfl ?_
  intro p e s m args below meth c C hnm
  have h := MF.rf h
  refine x_aload_n C dX9_plain_0 rfl rfl ?_
  refine x_iconst C dX9_plain_1 kc_0 ?_
  refine m_put C h 12 rfl q2421 rfl rfl rfl rfl dX9_plain_2 (fun M h => ?_)
  refine x_bipush C dX9_plain_5 kb_7 ?_
  refine x_istore_n C dX9_plain_7 rfl (gs1_1 rfl) rfl ?_
  refine x_loop (head := 8) (E := 7) (fun i M => MF G ad M0 (sMap (si σ 12 (nI 0)) 6 7 i (fun _ => nI 0)) M) (fun i => [some (.ref (ad 0)), some (.int (nI (7 + i)))]) (by rw [sMap_0]; exact h) (fun i M hi h ih => ?_)
  refine x_iload_n C dX9_plain_8 rfl rfl ?_
  refine x_bipush C dX9_plain_9 kb_14 ?_
  refine x_icmp_geN (tgt := 27) C (by omega) (by omega) dX9_plain_11 rfl (fun c11 => ?_) (fun c11 => ?_)
  · -- 27
    obtain rfl : i = 7 := by omega
    refine x_aload_n C dX9_plain_27 rfl rfl ?_
    refine m_get C h 17 rfl q2426 rfl dX9_plain_28 ?_
    refine x_bipush C dX9_plain_31 kb_8 ?_
    refine x_bipush C dX9_plain_33 kb_100 ?_
    refine m_ast C h 6 (N := 14) (by decide) rfl rfl (by omega) dX9_plain_35 (fun M h => ?_)
    refine x_aload_n C dX9_plain_36 rfl rfl ?_
    refine x_iconst C dX9_plain_37 kc_0 ?_
    refine m_put C h 18 rfl q2427 rfl rfl rfl rfl dX9_plain_38 (fun M h => ?_)
    exact x_vret C dX9_plain_41 ⟨Nat.le_refl _, Nat.le_refl _⟩ h
  · -- 14
    refine x_aload_n C dX9_plain_14 rfl rfl ?_
    refine m_get C h 17 rfl q2426 rfl dX9_plain_15 ?_
    refine x_iload_n C dX9_plain_18 rfl rfl ?_
    refine x_iconst C dX9_plain_19 kc_0 ?_
    refine m_ast C h 6 (N := 14) (by decide) rfl rfl (by omega) dX9_plain_20 (fun M h => ?_)
    refine x_iincN C dX9_plain_21 rfl (gs1_1 rfl) rfl ?_
    refine x_goto (tgt := 8) C dX9_plain_24 rfl ?_
    exact (ih (by omega) _ (by rw [sMap_s rfl] at h; exact h))
theorem mi_X9_copies : gMS yX9_copies cX9_copies 3 none 2 := ⟨q2375, q165, q2376, by decide +kernel⟩
set_option maxHeartbeats 4000000 in
set_option maxRecDepth 100000 in
theorem met_X9_copies2 (l : Launch) {G : gG} (hG : gOK G) {ad : Nat → Nat} {σ : mS} {M0 : gM} (h : MR G ad σ M0) : Met l yX9_copies (ws_ yX9_copies cX9_copies 3 none) ({ frames := 0, cells := 0, slots := 0, locals := 0 }) (gPre G M0 [.ref (ad 3), .int (nI 32)]) (gQ G (gV (fun M1 => MF G ad M0 (tCp σ 2 32) M1))) 0 0 (gA G) := by
  refine gMet (L0 := [some (.ref (ad 3)), some (.int (nI 32)), none]) RX9 hG (by decide +kernel) rfl (Nat.le_of_ble_eq_true rfl) rfl ?_
  intro p e s m args below meth c C hnm
  have h := MF.rf h
  refine x_iconst C dX9_copies_0 kc_0 ?_
  refine x_istore_n C dX9_copies_1 rfl (gs1_2 rfl) rfl ?_
  refine x_loop (head := 2) (E := 32) (fun i M => MF G ad M0 (sMap σ 2 0 i (fun j => mA σ 2 (32 + j))) M) (fun i => [some (.ref (ad 3)), some (.int (nI 32)), some (.int (nI i))]) (by rw [sMap_0]; exact h) (fun i M hi h ih => ?_)
  refine x_iload_n C dX9_copies_2 rfl rfl ?_
  refine x_iload_n C dX9_copies_3 rfl rfl ?_
  refine x_icmp_geN (tgt := 21) C (by omega) (by omega) dX9_copies_4 rfl (fun c4 => ?_) (fun c4 => ?_)
  · -- 21
    obtain rfl : i = 32 := by omega
    exact x_vret C dX9_copies_21 ⟨Nat.le_refl _, Nat.le_refl _⟩ h
  · -- 7
    refine x_aload_n C dX9_copies_7 rfl rfl ?_
    refine x_iload_n C dX9_copies_8 rfl rfl ?_
    refine x_aload_n C dX9_copies_9 rfl rfl ?_
    refine x_iload_n C dX9_copies_10 rfl rfl ?_
    refine x_iload_n C dX9_copies_11 rfl rfl ?_
    refine x_iaddN C dX9_copies_12 ?_
    refine m_ald C h 2 (N := 64) (by decide) rfl rfl (by omega) rfl dX9_copies_13 ?_
    refine m_ast C h 2 (N := 64) (by decide) rfl rfl (by omega) dX9_copies_14 (fun M h => ?_)
    refine x_iincN C dX9_copies_15 rfl (gs1_2 rfl) rfl ?_
    refine x_goto (tgt := 2) C dX9_copies_18 rfl ?_
    exact (ih (by omega) _ (by rw [cpA_s (by omega)] at h; exact h))
set_option maxHeartbeats 4000000 in
set_option maxRecDepth 100000 in
theorem met_X9_copies3 (l : Launch) {G : gG} (hG : gOK G) {ad : Nat → Nat} {σ : mS} {M0 : gM} (h : MR G ad σ M0) : Met l yX9_copies (ws_ yX9_copies cX9_copies 3 none) ({ frames := 0, cells := 0, slots := 0, locals := 0 }) (gPre G M0 [.ref (ad 4), .int (nI 48)]) (gQ G (gV (fun M1 => MF G ad M0 (tCp σ 3 48) M1))) 0 0 (gA G) := by
  refine gMet (L0 := [some (.ref (ad 4)), some (.int (nI 48)), none]) RX9 hG (by decide +kernel) rfl (Nat.le_of_ble_eq_true rfl) rfl ?_
  intro p e s m args below meth c C hnm
  have h := MF.rf h
  refine x_iconst C dX9_copies_0 kc_0 ?_
  refine x_istore_n C dX9_copies_1 rfl (gs1_2 rfl) rfl ?_
  refine x_loop (head := 2) (E := 48) (fun i M => MF G ad M0 (sMap σ 3 0 i (fun j => mA σ 3 (48 + j))) M) (fun i => [some (.ref (ad 4)), some (.int (nI 48)), some (.int (nI i))]) (by rw [sMap_0]; exact h) (fun i M hi h ih => ?_)
  refine x_iload_n C dX9_copies_2 rfl rfl ?_
  refine x_iload_n C dX9_copies_3 rfl rfl ?_
  refine x_icmp_geN (tgt := 21) C (by omega) (by omega) dX9_copies_4 rfl (fun c4 => ?_) (fun c4 => ?_)
  · -- 21
    obtain rfl : i = 48 := by omega
    exact x_vret C dX9_copies_21 ⟨Nat.le_refl _, Nat.le_refl _⟩ h
  · -- 7
    refine x_aload_n C dX9_copies_7 rfl rfl ?_
    refine x_iload_n C dX9_copies_8 rfl rfl ?_
    refine x_aload_n C dX9_copies_9 rfl rfl ?_
    refine x_iload_n C dX9_copies_10 rfl rfl ?_
    refine x_iload_n C dX9_copies_11 rfl rfl ?_
    refine x_iaddN C dX9_copies_12 ?_
    refine m_ald C h 3 (N := 96) (by decide) rfl rfl (by omega) rfl dX9_copies_13 ?_
    refine m_ast C h 3 (N := 96) (by decide) rfl rfl (by omega) dX9_copies_14 (fun M h => ?_)
    refine x_iincN C dX9_copies_15 rfl (gs1_2 rfl) rfl ?_
    refine x_goto (tgt := 2) C dX9_copies_18 rfl ?_
    exact (ih (by omega) _ (by rw [cpA_s (by omega)] at h; exact h))
set_option maxHeartbeats 4000000 in
set_option maxRecDepth 100000 in
theorem met_X9_copies4 (l : Launch) {G : gG} (hG : gOK G) {ad : Nat → Nat} {σ : mS} {M0 : gM} (h : MR G ad σ M0) : Met l yX9_copies (ws_ yX9_copies cX9_copies 3 none) ({ frames := 0, cells := 0, slots := 0, locals := 0 }) (gPre G M0 [.ref (ad 5), .int (nI 48)]) (gQ G (gV (fun M1 => MF G ad M0 (tCp σ 4 48) M1))) 0 0 (gA G) := by
  refine gMet (L0 := [some (.ref (ad 5)), some (.int (nI 48)), none]) RX9 hG (by decide +kernel) rfl (Nat.le_of_ble_eq_true rfl) rfl ?_
  intro p e s m args below meth c C hnm
  have h := MF.rf h
  refine x_iconst C dX9_copies_0 kc_0 ?_
  refine x_istore_n C dX9_copies_1 rfl (gs1_2 rfl) rfl ?_
  refine x_loop (head := 2) (E := 48) (fun i M => MF G ad M0 (sMap σ 4 0 i (fun j => mA σ 4 (48 + j))) M) (fun i => [some (.ref (ad 5)), some (.int (nI 48)), some (.int (nI i))]) (by rw [sMap_0]; exact h) (fun i M hi h ih => ?_)
  refine x_iload_n C dX9_copies_2 rfl rfl ?_
  refine x_iload_n C dX9_copies_3 rfl rfl ?_
  refine x_icmp_geN (tgt := 21) C (by omega) (by omega) dX9_copies_4 rfl (fun c4 => ?_) (fun c4 => ?_)
  · -- 21
    obtain rfl : i = 48 := by omega
    exact x_vret C dX9_copies_21 ⟨Nat.le_refl _, Nat.le_refl _⟩ h
  · -- 7
    refine x_aload_n C dX9_copies_7 rfl rfl ?_
    refine x_iload_n C dX9_copies_8 rfl rfl ?_
    refine x_aload_n C dX9_copies_9 rfl rfl ?_
    refine x_iload_n C dX9_copies_10 rfl rfl ?_
    refine x_iload_n C dX9_copies_11 rfl rfl ?_
    refine x_iaddN C dX9_copies_12 ?_
    refine m_ald C h 4 (N := 96) (by decide) rfl rfl (by omega) rfl dX9_copies_13 ?_
    refine m_ast C h 4 (N := 96) (by decide) rfl rfl (by omega) dX9_copies_14 (fun M h => ?_)
    refine x_iincN C dX9_copies_15 rfl (gs1_2 rfl) rfl ?_
    refine x_goto (tgt := 2) C dX9_copies_18 rfl ?_
    exact (ih (by omega) _ (by rw [cpA_s (by omega)] at h; exact h))
set_option maxHeartbeats 4000000 in
set_option maxRecDepth 100000 in
theorem met_X9_copies5 (l : Launch) {G : gG} (hG : gOK G) {ad : Nat → Nat} {σ : mS} {M0 : gM} (h : MR G ad σ M0) : Met l yX9_copies (ws_ yX9_copies cX9_copies 3 none) ({ frames := 0, cells := 0, slots := 0, locals := 0 }) (gPre G M0 [.ref (ad 6), .int (nI 20)]) (gQ G (gV (fun M1 => MF G ad M0 (tCp σ 5 20) M1))) 0 0 (gA G) := by
  refine gMet (L0 := [some (.ref (ad 6)), some (.int (nI 20)), none]) RX9 hG (by decide +kernel) rfl (Nat.le_of_ble_eq_true rfl) rfl ?_
  intro p e s m args below meth c C hnm
  have h := MF.rf h
  refine x_iconst C dX9_copies_0 kc_0 ?_
  refine x_istore_n C dX9_copies_1 rfl (gs1_2 rfl) rfl ?_
  refine x_loop (head := 2) (E := 20) (fun i M => MF G ad M0 (sMap σ 5 0 i (fun j => mA σ 5 (20 + j))) M) (fun i => [some (.ref (ad 6)), some (.int (nI 20)), some (.int (nI i))]) (by rw [sMap_0]; exact h) (fun i M hi h ih => ?_)
  refine x_iload_n C dX9_copies_2 rfl rfl ?_
  refine x_iload_n C dX9_copies_3 rfl rfl ?_
  refine x_icmp_geN (tgt := 21) C (by omega) (by omega) dX9_copies_4 rfl (fun c4 => ?_) (fun c4 => ?_)
  · -- 21
    obtain rfl : i = 20 := by omega
    exact x_vret C dX9_copies_21 ⟨Nat.le_refl _, Nat.le_refl _⟩ h
  · -- 7
    refine x_aload_n C dX9_copies_7 rfl rfl ?_
    refine x_iload_n C dX9_copies_8 rfl rfl ?_
    refine x_aload_n C dX9_copies_9 rfl rfl ?_
    refine x_iload_n C dX9_copies_10 rfl rfl ?_
    refine x_iload_n C dX9_copies_11 rfl rfl ?_
    refine x_iaddN C dX9_copies_12 ?_
    refine m_ald C h 5 (N := 40) (by decide) rfl rfl (by omega) rfl dX9_copies_13 ?_
    refine m_ast C h 5 (N := 40) (by decide) rfl rfl (by omega) dX9_copies_14 (fun M h => ?_)
    refine x_iincN C dX9_copies_15 rfl (gs1_2 rfl) rfl ?_
    refine x_goto (tgt := 2) C dX9_copies_18 rfl ?_
    exact (ih (by omega) _ (by rw [cpA_s (by omega)] at h; exact h))
set_option maxHeartbeats 4000000 in
set_option maxRecDepth 100000 in
theorem met_X9_copies6 (l : Launch) {G : gG} (hG : gOK G) {ad : Nat → Nat} {σ : mS} {M0 : gM} (h : MR G ad σ M0) : Met l yX9_copies (ws_ yX9_copies cX9_copies 3 none) ({ frames := 0, cells := 0, slots := 0, locals := 0 }) (gPre G M0 [.ref (ad 7), .int (nI 7)]) (gQ G (gV (fun M1 => MF G ad M0 (tCp σ 6 7) M1))) 0 0 (gA G) := by
  refine gMet (L0 := [some (.ref (ad 7)), some (.int (nI 7)), none]) RX9 hG (by decide +kernel) rfl (Nat.le_of_ble_eq_true rfl) rfl ?_
  intro p e s m args below meth c C hnm
  have h := MF.rf h
  refine x_iconst C dX9_copies_0 kc_0 ?_
  refine x_istore_n C dX9_copies_1 rfl (gs1_2 rfl) rfl ?_
  refine x_loop (head := 2) (E := 7) (fun i M => MF G ad M0 (sMap σ 6 0 i (fun j => mA σ 6 (7 + j))) M) (fun i => [some (.ref (ad 7)), some (.int (nI 7)), some (.int (nI i))]) (by rw [sMap_0]; exact h) (fun i M hi h ih => ?_)
  refine x_iload_n C dX9_copies_2 rfl rfl ?_
  refine x_iload_n C dX9_copies_3 rfl rfl ?_
  refine x_icmp_geN (tgt := 21) C (by omega) (by omega) dX9_copies_4 rfl (fun c4 => ?_) (fun c4 => ?_)
  · -- 21
    obtain rfl : i = 7 := by omega
    exact x_vret C dX9_copies_21 ⟨Nat.le_refl _, Nat.le_refl _⟩ h
  · -- 7
    refine x_aload_n C dX9_copies_7 rfl rfl ?_
    refine x_iload_n C dX9_copies_8 rfl rfl ?_
    refine x_aload_n C dX9_copies_9 rfl rfl ?_
    refine x_iload_n C dX9_copies_10 rfl rfl ?_
    refine x_iload_n C dX9_copies_11 rfl rfl ?_
    refine x_iaddN C dX9_copies_12 ?_
    refine m_ald C h 6 (N := 14) (by decide) rfl rfl (by omega) rfl dX9_copies_13 ?_
    refine m_ast C h 6 (N := 14) (by decide) rfl rfl (by omega) dX9_copies_14 (fun M h => ?_)
    refine x_iincN C dX9_copies_15 rfl (gs1_2 rfl) rfl ?_
    refine x_goto (tgt := 2) C dX9_copies_18 rfl ?_
    exact (ih (by omega) _ (by rw [cpA_s (by omega)] at h; exact h))
theorem mi_X9_feed : gMV RX9 yX9_feed cX9_feed 8 (some .int) 5 := ⟨q2502, q2503, q165, q2504, by decide +kernel⟩
set_option maxHeartbeats 4000000 in
set_option maxRecDepth 100000 in
theorem met_X9_feed (l : Launch) {G : gG} (hG : gOK G) {ad : Nat → Nat} {σ : mS} {M0 : gM} {za zb zc zd ze : Int32} {ts : Nat} (h : MR G ad σ M0) (h1_ : mI σ 1 = nI ts) (hb0_ : ts ≤ 700) : Met l yX9_feed (ws_ yX9_feed cX9_feed 8 (some .int)) ({ frames := 0, cells := 0, slots := 0, locals := 0 }) (gPre G M0 [.ref (ad 0), .int (za), .int (zb), .int (zc), .int (zd), .int (ze)]) (gQ G (gI (fun r M1 => ∃ σ', sQ (if ts + 20 ≤ 700 then tFeed σ ts za zb zc zd ze else σ) σ' ∧ MF G ad M0 σ' M1 ∧ (if ts + 20 ≤ 700 then nI (ts + 20) else (-1)) = r))) 0 0 (gA G) := by
  refine gMet (L0 := [some (.ref (ad 0)), some (.int (za)), some (.int (zb)), some (.int (zc)), some (.int (zd)), some (.int (ze)), none, none]) RX9 hG (by decide +kernel) rfl (Nat.le_of_ble_eq_true rfl) rfl ?_
  intro p e s m args below meth c C hnm
  have h := MF.rf h
  refine x_aload_n C dX9_feed_0 rfl rfl ?_
  refine x_iconst C dX9_feed_1 kc_0 ?_
  refine m_put C h 2 rfl q2411 rfl rfl rfl rfl dX9_feed_2 (fun M h => ?_)
  obtain ⟨σ1, hs1, h⟩ : ∃ σ', sQ σ σ' ∧ MF G ad M0 σ' M := ⟨_, sQ.p2, h⟩
  refine x_aload_n C dX9_feed_5 rfl rfl ?_
  refine m_get C h 1 (v := .int (nI ts)) rfl q2410 (m_v rfl ((hs1.2.2 1 (by decide) (by decide)).trans h1_)) dX9_feed_6 ?_
  refine x_bipush C dX9_feed_9 kb_20 ?_
  refine x_iaddN C dX9_feed_11 ?_
  refine x_sipush C dX9_feed_12 ks_700 ?_
  refine x_icmp_leN (tgt := 20) C (by omega) (by omega) dX9_feed_15 rfl (fun c15 => ?_) (fun c15 => ?_)
  · -- 20
    refine x_iconst C dX9_feed_20 kc_0 ?_
    refine x_istore C dX9_feed_21 (gs1_6 rfl) rfl ?_
    refine x_loop (head := 23) (E := 20) (fun i M => MF G ad M0 (sMap σ1 0 ts i (fun j => pByte za zb zc zd ze (j - ts))) M) (fun i => [some (.ref (ad 0)), some (.int za), some (.int zb), some (.int zc), some (.int zd), some (.int ze), some (.int (nI i)), none]) (by rw [sMap_0]; exact h) (fun i M hi h ih => ?_)
    refine x_iload C dX9_feed_23 rfl ?_
    refine x_bipush C dX9_feed_25 kb_20 ?_
    refine x_icmp_geN (tgt := 113) C (by omega) (by omega) dX9_feed_27 rfl (fun c27 => ?_) (fun c27 => ?_)
    · -- 113
      obtain rfl : i = 20 := by omega
      refine x_aload_n C dX9_feed_113 rfl rfl ?_
      refine x_dup C dX9_feed_114 rfl ?_
      refine m_get C h 1 (v := .int (nI ts)) rfl q2410 (m_v rfl ((hs1.2.2 1 (by decide) (by decide)).trans h1_)) dX9_feed_115 ?_
      refine x_bipush C dX9_feed_118 kb_20 ?_
      refine x_iaddN C dX9_feed_120 ?_
      refine m_put C h 1 rfl q2410 rfl rfl rfl rfl dX9_feed_121 (fun M h => ?_)
      refine x_aload_n C dX9_feed_124 rfl rfl ?_
      refine m_get C h 1 (v := .int (nI (ts + 20))) rfl q2410 (m_v rfl rfl) dX9_feed_125 ?_
      exact x_iret C dX9_feed_128 ⟨Nat.le_refl _, Nat.le_refl _⟩ ⟨_, (by rw [if_pos (by omega)]; exact hs1.fd), h, (by rw [if_pos (by omega)])⟩
    · -- 30
      refine x_join (α := Int32) (P := fun v => v = (if i < 4 then za else if i < 8 then zb else if i < 12 then zc else if i < 16 then zd else ze)) (LL := fun v => [some (.ref (ad 0)), some (.int za), some (.int zb), some (.int zc), some (.int zd), some (.int ze), some (.int (nI i)), none]) (ss := fun v => [.int v]) 76 (fun v hv => ?_) (fun J76 => ?_)
      · -- join 76
        refine x_istore C dX9_feed_76 (gs1_7 rfl) rfl ?_
        refine x_aload_n C dX9_feed_78 rfl rfl ?_
        refine m_get C h 0 rfl q2409 rfl dX9_feed_79 ?_
        refine x_aload_n C dX9_feed_82 rfl rfl ?_
        refine m_get C h 1 (v := .int (nI ts)) rfl q2410 (m_v rfl ((hs1.2.2 1 (by decide) (by decide)).trans h1_)) dX9_feed_83 ?_
        refine x_iload C dX9_feed_86 rfl ?_
        refine x_iaddN C dX9_feed_88 ?_
        refine x_iload C dX9_feed_89 rfl ?_
        refine x_bipush C dX9_feed_91 kb_24 ?_
        refine x_bipush C dX9_feed_93 kb_8 ?_
        refine x_iload C dX9_feed_95 rfl ?_
        refine x_iconst C dX9_feed_97 kc_4 ?_
        refine x_iremN C (by omega) (by omega) (by omega) dX9_feed_98 ?_
        refine x_imulN C dX9_feed_99 ?_
        refine x_isub C dX9_feed_100 ?_
        refine x_ishr C dX9_feed_101 ?_
        refine x_sipush C dX9_feed_102 ks_255 ?_
        refine x_iand C dX9_feed_105 ?_
        refine m_ast C h 0 (N := 700) (by decide) rfl rfl (by omega) dX9_feed_106 (fun M h => ?_)
        refine x_iincN C dX9_feed_107 rfl (gs1_6 rfl) rfl ?_
        refine x_goto (tgt := 23) C dX9_feed_110 rfl ?_
        exact x_wk [true, true, true, true, true, true, true, false] rfl (ih (by omega) _ (by rw [sMap_s (by rw [hv]; show _ = pByte za zb zc zd ze (ts + i - ts); rw [show ts + i - ts = i from by omega]; rfl)] at h; exact h))
      · -- to the join
        refine x_iload C dX9_feed_30 rfl ?_
        refine x_iconst C dX9_feed_32 kc_4 ?_
        refine x_icmp_geN (tgt := 40) C (by omega) (by omega) dX9_feed_33 rfl (fun c33 => ?_) (fun c33 => ?_)
        · -- 40
          refine x_iload C dX9_feed_40 rfl ?_
          refine x_bipush C dX9_feed_42 kb_8 ?_
          refine x_icmp_geN (tgt := 51) C (by omega) (by omega) dX9_feed_44 rfl (fun c44 => ?_) (fun c44 => ?_)
          · -- 51
            refine x_iload C dX9_feed_51 rfl ?_
            refine x_bipush C dX9_feed_53 kb_12 ?_
            refine x_icmp_geN (tgt := 62) C (by omega) (by omega) dX9_feed_55 rfl (fun c55 => ?_) (fun c55 => ?_)
            · -- 62
              refine x_iload C dX9_feed_62 rfl ?_
              refine x_bipush C dX9_feed_64 kb_16 ?_
              refine x_icmp_geN (tgt := 74) C (by omega) (by omega) dX9_feed_66 rfl (fun c66 => ?_) (fun c66 => ?_)
              · -- 74
                refine x_iload C dX9_feed_74 rfl ?_
                exact (J76 _ (by rw [if_neg (by omega), if_neg (by omega), if_neg (by omega), if_neg (by omega)]))
              · -- 69
                refine x_iload C dX9_feed_69 rfl ?_
                refine x_goto (tgt := 76) C dX9_feed_71 rfl ?_
                exact (J76 _ (by rw [if_neg (by omega), if_neg (by omega), if_neg (by omega), if_pos c66]))
            · -- 58
              refine x_iload_n C dX9_feed_58 rfl rfl ?_
              refine x_goto (tgt := 76) C dX9_feed_59 rfl ?_
              exact (J76 _ (by rw [if_neg (by omega), if_neg (by omega), if_pos c55]))
          · -- 47
            refine x_iload_n C dX9_feed_47 rfl rfl ?_
            refine x_goto (tgt := 76) C dX9_feed_48 rfl ?_
            exact (J76 _ (by rw [if_neg (by omega), if_pos c44]))
        · -- 36
          refine x_iload_n C dX9_feed_36 rfl rfl ?_
          refine x_goto (tgt := 76) C dX9_feed_37 rfl ?_
          exact (J76 _ (if_pos c33).symm)
  · -- 18
    refine x_iconst C dX9_feed_18 kc_m1 ?_
    exact x_iret C dX9_feed_19 ⟨Nat.le_refl _, Nat.le_refl _⟩ ⟨σ1, (by rw [if_neg (by omega)]; exact hs1), h, (by rw [if_neg (by omega)])⟩
