set_option maxRecDepth 100000
theorem mi_X6_comes : gMV RX6 yX6_comes cX6_comes 3 none 0 := ⟨q920, qs5, q140, q921, by decide +kernel⟩
set_option maxHeartbeats 4000000 in
set_option maxRecDepth 100000 in
theorem met_X6_comes (l : Launch) {G : gG} (hG : gOK G) {M0 : gM} {r x : Nat} {ba : Nat → Nat} {B : Nat → Int32} {D : Nat → Nat → Int32} {xx : Nat → Nat → Nat → Int32} {Z : Nat → Int64} {st : List Nat} {ex : Nat → Prop} {sb : Int64} {n : Nat} {tx wl ml : Nat} {wf mf : Nat → Nat} {rt : Nat} {ta : Nat → Nat} {mc : Nat → Int32} {nd it : Nat → Nat → Nat} {A : Nat → Nat → Int32} {ln : Int32} {T : Nat} (hBX : BX G r ba x B D xx Z st ex sb M0) (hr4 : 4 ≤ r) (hK : dN (B 1865) ≤ 8 ∧ dN (B 1867) ≤ 40) (hX : XW G x tx wl ml wf mf M0) (hT : TR G rt tx ta mc nd it (cA T A) (trA A) (wA A ln) M0) (hrx : r ≠ x + 4) (hrt : r ≠ rt) (hrt4 : 4 ≤ rt) (hw : wT T A) (hn : B 0 = nI n) (hn6 : n < 64) (hcn : cN B n 700) (hst : ∀ a ∈ st, a < dN (B 1865)) (hst9 : st.length ≤ 8) : Met l yX6_comes (ws_ yX6_comes cX6_comes 3 none) ({ frames := 6, cells := 31, slots := 315, locals := 124 }) (gPre G M0 [.ref (ba 0)]) (gQ G (gV (fun M1 => ∃ ba' xx' s', BX G r ba' x (pComes A B) D xx' Z s' ex sb M1 ∧ (∀ j, j < 140 ∨ 1000 ≤ j → ba' j = ba j) ∧ CS (pComes A B) n (dN (B 1865)) st s' xx xx' ∧ gFl (fun l => l.1 = r) M0 M1))) 31 315 (gA G) := by
  refine gMet (L0 := [some (.ref (ba 0)), none, none]) RX6 hG (by decide +kernel) rfl (Nat.le_of_ble_eq_true rfl) rfl ?_
  intro p e s m args below meth c C hnm
  have hl : ¬ rt = 2 := by omega
  have hlN : ¬ rt = 2 := by omega
  have h12 := hw.ns.2
  have h13 := hw.nb.2
  have h14 := hw.na.2
  obtain ⟨⟨vsc1, hxc1⟩, -⟩ := id hX
  have hbc1 := hBX.1.1
  rw [hn] at hbc1
  refine x_aload_n C dX6_comes_0 rfl rfl ?_
  refine x_get C gcX6 hbc1 15 rfl q541 rfl dX6_comes_1 ?_
  refine x_getN C gcX1 hxc1 4 rfl q1255 rfl dX6_comes_4 ?_
  refine x_getN C gcX5 hT.1 1 rfl q388 rfl dX6_comes_7 ?_
  refine x_U0R C (met_J10_iterator l C.1 (hT.ll (j := 2) (by omega) (by omega)) hl hlN) (fun hR2 => va_cwU 0 C.hw (lw_app (a := [_, _, _, _, _]) (by
    intro w hw
    simp only [List.mem_cons, List.not_mem_nil, or_false] at hw
    rcases hw with e | e | e | e | e
    · rw [e]; exact q922
    · rw [e]; exact q923
    · rw [e]; exact q925
    · rw [e]; exact q926
    · rw [e]; exact q138) (lw_meth q927)) rfl rfl rfl rfl (by decide +kernel) hR2) gcJ11 (hT.ll (j := 2) (by omega) (by omega)).1 ⟨rfl, rfl⟩ rfl ⟨Nat.le_of_ble_eq_true rfl, Nat.le_of_ble_eq_true rfl⟩ rfl dX6_comes_10 (fun r3 M2 hr => ?_)
  obtain ⟨n4, h5, k6⟩ := hr
  refine x_astore_n C dX6_comes_13 rfl (gs1_1 rfl) rfl ?_
  have hnq2 : M0 r3 = none := n4
  have f7 : gFl (fun l => l.1 = r) M0 M2 := gFl.nw n4 k6
  have hB8 := hBX.keep (ρ := fun _ => False) (gFl.nw n4 k6) (fun _ q => q) (fun q => q)
  refine x_loop (head := 14) (E := dN (A 6 4)) (fun i M => ∃ lr : Option Nat, M r3 = some ((2, 0), .inr (9, [va_rf lr, va_rf (if i < dN (A 6 4) then some (nd 2 i) else none), .int (nI i), .int (mc 2), .ref (ta 2)])) ∧ BX G r ba x (pCom3 A n B i) D xx Z st ex sb M ∧ gFl (fun l => l.1 = r) M0 M) (fun i => [some (.ref (ba 0)), some (.ref r3), none]) ⟨none, h5, hB8, f7⟩ (fun i M hi hI ih => ?_)
  obtain ⟨lr, t, hbx, f9⟩ := hI
  have e0 : (pCom3 A n B i) 0 = B 0 := pCom3_ne hw hn6 (Or.inl (by omega)) i hi
  have e65 : (pCom3 A n B i) 1865 = B 1865 := pCom3_ne hw hn6 (Or.inr (by omega)) i hi
  have e67 : (pCom3 A n B i) 1867 = B 1867 := pCom3_ne hw hn6 (Or.inr (by omega)) i hi
  have hcn9 := pCom3_cN hw hn6 hcn (by omega) i hi
  show gX G p l e _ s m args below meth c 3 _ M _ _ 14 [some (.ref (ba 0)), some (.ref r3), none] []
  have hXc9 := hX.keep f9 (fun j q => by have q' : (1 : Nat) = r := q; omega) (fun q => hrx (show x + 4 = r from q).symm)
  have hTc9 := hT.keep f9 (fun j q => hrt (show rt = r from q).symm)
  obtain ⟨⟨vsc9, hxc9⟩, -⟩ := id hXc9
  have hbc9 := hbx.1.1
  rw [e0, hn] at hbc9
  have hLj : LL (rt, 2) (rt, 12) (ta 2) (dN (A 6 4)) (mc 2) (nd 2) (it 2) M := hTc9.ll (by omega) (by omega)
  rcases Nat.lt_or_ge i (dN (A 6 4)) with ht | ht
  · -- 2 more
    have hs := hw.sale ht
    obtain ⟨tt, h1t, h1t'⟩ := isN_to hs.1
    obtain ⟨kk, h2t, h2t'⟩ := isN_to hs.2.2.2.1
    have hto : M (it 2 i) = some ((rt, 22), .inr (27, [.int (A 3 (4 * i)), .int (A 3 (4 * i + 1)), .int (A 3 (4 * i + 2)), .int (A 3 (4 * i + 3))])) := hTc9.2.2.2.1 i ht
    rw [h1t, h2t] at hto
    have hqi : it 2 i ≠ r3 := fun e9 => by have z9 := hto; rw [e9, t] at z9; exact hl (congrArg (fun y : (Nat × Nat) × va_E => y.1.1) (Option.some.inj z9)).symm
    have e11 : ba 0 ≠ r3 := gM_ne hbc9 t (by omega)
    have e12 : x ≠ r3 := gM_ne hxc9 t (by omega)
    have e13 : tx ≠ r3 := gM_ne hTc9.1 t (by omega)
    have e14 : ta 2 ≠ r3 := gM_ne (hTc9.ll (j := 2) (by omega) (by omega)).1 t (by omega)
    have e15 : ta 3 ≠ r3 := gM_ne (hTc9.ll (j := 3) (by omega) (by omega)).1 t (by omega)
    have e16 : ta 4 ≠ r3 := gM_ne (hTc9.ll (j := 4) (by omega) (by omega)).1 t (by omega)
    refine x_aload_n C dX6_comes_14 rfl rfl ?_
    refine x_F0I C (met_J28_hasNext l C.1 hLj t (by omega)) mf_J28_J28_hasNext_Iterator q973 gcJ28 t ⟨rfl, rfl⟩ rfl ⟨Nat.le_of_ble_eq_true rfl, Nat.le_of_ble_eq_true rfl⟩ rfl dX6_comes_15 (fun r18 M17 hr => ?_)
    obtain ⟨hr, rfl⟩ := hr
    rw [hr, if_pos ht]
    refine x_if_eqF (tgt := 40) C (by decide) dX6_comes_20 rfl ?_
    refine x_aload_n C dX6_comes_23 rfl rfl ?_
    refine x_aload_n C dX6_comes_24 rfl rfl ?_
    refine x_F0R C (met_J28_next l C.1 (mc' := mc 2) hLj t ht hl hlN) mf_J28_J28_next_Iterator q999 gcJ28 t ⟨rfl, rfl⟩ rfl ⟨Nat.le_of_ble_eq_true rfl, Nat.le_of_ble_eq_true rfl⟩ rfl dX6_comes_25 (fun r20 M19 hr => ?_)
    obtain ⟨rfl, h21, k22⟩ := hr
    have h23 := (k22 _ e11).trans hbc9
    have h24 := (k22 _ e12).trans hxc9
    have h25 := (k22 _ e13).trans hTc9.1
    have h26 := (k22 _ e14).trans (hTc9.ll (j := 2) (by omega) (by omega)).1
    have h27 := (k22 _ e15).trans (hTc9.ll (j := 3) (by omega) (by omega)).1
    have h28 := (k22 _ e16).trans (hTc9.ll (j := 4) (by omega) (by omega)).1
    have h29 := (k22 _ hqi).trans hto
    have k30 : ∀ zz : Nat, zz ≠ r3 → M19 zz = M zz := fun zz z0 => k22 zz z0
    have fq : gFl (fun l => l = (2, 0)) M M19 := gFl.of1 t h21 k22 rfl
    have hbq := hbx.keep fq (fun j q => by have := congrArg Prod.fst q; dsimp only at this; omega) (fun q => by have := congrArg Prod.snd q; dsimp only at this; omega)
    have f8 : gFl (fun l => l.1 = r) M0 M19 := f9.old hnq2 k22
    refine x_castS C gcX12 h29 q1109 dX6_comes_30 ?_
    refine x_iconst C dX6_comes_33 kc_0 ?_
    refine x_V2V C (met_X6_comes_2 l C.1 (t := tt) (k := kk) hbq hr4 (by rw [e65, e67]; exact hK) (e0.trans hn) hn6 h29 (by omega) (by omega) (hcn9.ov (k := 0 + kk) (by omega) (isN_v hs.2.2.2.2 (by omega)) (by omega) (by omega))) mi_X6_comes_2 q1110 gcX6 h23 ⟨rfl, rfl⟩ rfl ⟨Nat.le_of_ble_eq_true rfl, Nat.le_of_ble_eq_true rfl⟩ rfl dX6_comes_34 (fun M31 hr => ?_)
    obtain ⟨hb32, f33⟩ := hr
    rw [e0, hn, ← pCom3_s hw h1t h2t (by omega) (by omega)] at hb32
    have h34 := f33.keep h21 (fun q => by have q' : (2 : Nat) = r := q; omega)
    have f35 := f8.tr f33
    refine x_goto (tgt := 14) C dX6_comes_37 rfl ?_
    exact ih ht _ ⟨some (nd 2 i), h34, hb32, f35⟩
  · -- 2 end
    have ei : i = dN (A 6 4) := by omega
    subst ei
    refine x_aload_n C dX6_comes_14 rfl rfl ?_
    refine x_F0I C (met_J28_hasNext l C.1 hLj t (by omega)) mf_J28_J28_hasNext_Iterator q973 gcJ28 t ⟨rfl, rfl⟩ rfl ⟨Nat.le_of_ble_eq_true rfl, Nat.le_of_ble_eq_true rfl⟩ rfl dX6_comes_15 (fun r38 M37 hr => ?_)
    obtain ⟨hr, rfl⟩ := hr
    rw [hr, if_neg (Nat.lt_irrefl _)]
    refine x_if_eqT (tgt := 40) C (by decide) dX6_comes_20 rfl ?_
    refine x_aload_n C dX6_comes_40 rfl rfl ?_
    refine x_get C gcX6 hbc9 15 rfl q541 rfl dX6_comes_41 ?_
    refine x_getN C gcX1 hxc9 4 rfl q1255 rfl dX6_comes_44 ?_
    refine x_getN C gcX5 hTc9.1 2 rfl q392 rfl dX6_comes_47 ?_
    refine x_U0R C (met_J10_iterator l C.1 (hTc9.ll (j := 3) (by omega) (by omega)) hl hlN) (fun hR2 => va_cwU 0 C.hw (lw_app (a := [_, _, _, _, _]) (by
    intro w hw
    simp only [List.mem_cons, List.not_mem_nil, or_false] at hw
    rcases hw with e | e | e | e | e
    · rw [e]; exact q922
    · rw [e]; exact q923
    · rw [e]; exact q925
    · rw [e]; exact q926
    · rw [e]; exact q138) (lw_meth q927)) rfl rfl rfl rfl (by decide +kernel) hR2) gcJ11 (hTc9.ll (j := 3) (by omega) (by omega)).1 ⟨rfl, rfl⟩ rfl ⟨Nat.le_of_ble_eq_true rfl, Nat.le_of_ble_eq_true rfl⟩ rfl dX6_comes_50 (fun r40 M39 hr => ?_)
    obtain ⟨n41, h42, k43⟩ := hr
    refine x_astore_n C dX6_comes_53 rfl (gs1_1 rfl) rfl ?_
    have hnq3 : M0 r40 = none := f9.nn n41
    have f44 : gFl (fun l => l.1 = r) M0 M39 := f9.tr (gFl.nw n41 k43)
    have hB45 := hbx.keep (ρ := fun _ => False) (gFl.nw n41 k43) (fun _ q => q) (fun q => q)
    refine x_loop (head := 54) (E := dN (A 6 5)) (fun i M => ∃ lr : Option Nat, M r40 = some ((2, 0), .inr (9, [va_rf lr, va_rf (if i < dN (A 6 5) then some (nd 3 i) else none), .int (nI i), .int (mc 3), .ref (ta 3)])) ∧ BX G r ba x (pCom4 A n (pCom3 A n B (dN (A 6 4))) i) D xx Z st ex sb M ∧ gFl (fun l => l.1 = r) M0 M) (fun i => [some (.ref (ba 0)), some (.ref r40), none]) ⟨none, h42, hB45, f44⟩ (fun i M hi hI ih => ?_)
    obtain ⟨lr, t, hbx, f9⟩ := hI
    have e0 : (pCom4 A n (pCom3 A n B (dN (A 6 4))) i) 0 = B 0 := (pCom4_ne hw hn6 (Or.inl (by omega)) i hi).trans (pCom3_ne hw hn6 (Or.inl (by omega)) _ (Nat.le_refl _))
    have e65 : (pCom4 A n (pCom3 A n B (dN (A 6 4))) i) 1865 = B 1865 := (pCom4_ne hw hn6 (Or.inr (by omega)) i hi).trans (pCom3_ne hw hn6 (Or.inr (by omega)) _ (Nat.le_refl _))
    have e67 : (pCom4 A n (pCom3 A n B (dN (A 6 4))) i) 1867 = B 1867 := (pCom4_ne hw hn6 (Or.inr (by omega)) i hi).trans (pCom3_ne hw hn6 (Or.inr (by omega)) _ (Nat.le_refl _))
    have hcn9 := pCom4_cN hw hn6 (pCom3_cN hw hn6 hcn (by omega) _ (Nat.le_refl _)) (by omega) i hi
    show gX G p l e _ s m args below meth c 3 _ M _ _ 54 [some (.ref (ba 0)), some (.ref r40), none] []
    have hXc46 := hX.keep f9 (fun j q => by have q' : (1 : Nat) = r := q; omega) (fun q => hrx (show x + 4 = r from q).symm)
    have hTc46 := hT.keep f9 (fun j q => hrt (show rt = r from q).symm)
    obtain ⟨⟨vsc46, hxc46⟩, -⟩ := id hXc46
    have hbc46 := hbx.1.1
    rw [e0, hn] at hbc46
    have hLj : LL (rt, 3) (rt, 13) (ta 3) (dN (A 6 5)) (mc 3) (nd 3) (it 3) M := hTc46.ll (by omega) (by omega)
    rcases Nat.lt_or_ge i (dN (A 6 5)) with ht | ht
    · -- 3 more
      have hs := hw.buy ht
      obtain ⟨tt, h1t, h1t'⟩ := isN_to hs.1
      obtain ⟨kk, h2t, h2t'⟩ := isN_to hs.2.2.2.1
      have hto : M (it 3 i) = some ((rt, 23), .inr (27, [.int (A 4 (4 * i)), .int (A 4 (4 * i + 1)), .int (A 4 (4 * i + 2)), .int (A 4 (4 * i + 3))])) := hTc46.2.2.2.2.1 i ht
      rw [h1t, h2t] at hto
      have hqi : it 3 i ≠ r40 := fun e9 => by have z9 := hto; rw [e9, t] at z9; exact hl (congrArg (fun y : (Nat × Nat) × va_E => y.1.1) (Option.some.inj z9)).symm
      have e48 : ba 0 ≠ r40 := gM_ne hbc46 t (by omega)
      have e49 : x ≠ r40 := gM_ne hxc46 t (by omega)
      have e50 : tx ≠ r40 := gM_ne hTc46.1 t (by omega)
      have e51 : ta 2 ≠ r40 := gM_ne (hTc46.ll (j := 2) (by omega) (by omega)).1 t (by omega)
      have e52 : ta 3 ≠ r40 := gM_ne (hTc46.ll (j := 3) (by omega) (by omega)).1 t (by omega)
      have e53 : ta 4 ≠ r40 := gM_ne (hTc46.ll (j := 4) (by omega) (by omega)).1 t (by omega)
      refine x_aload_n C dX6_comes_54 rfl rfl ?_
      refine x_F0I C (met_J28_hasNext l C.1 hLj t (by omega)) mf_J28_J28_hasNext_Iterator q973 gcJ28 t ⟨rfl, rfl⟩ rfl ⟨Nat.le_of_ble_eq_true rfl, Nat.le_of_ble_eq_true rfl⟩ rfl dX6_comes_55 (fun r55 M54 hr => ?_)
      obtain ⟨hr, rfl⟩ := hr
      rw [hr, if_pos ht]
      refine x_if_eqF (tgt := 80) C (by decide) dX6_comes_60 rfl ?_
      refine x_aload_n C dX6_comes_63 rfl rfl ?_
      refine x_aload_n C dX6_comes_64 rfl rfl ?_
      refine x_F0R C (met_J28_next l C.1 (mc' := mc 3) hLj t ht hl hlN) mf_J28_J28_next_Iterator q999 gcJ28 t ⟨rfl, rfl⟩ rfl ⟨Nat.le_of_ble_eq_true rfl, Nat.le_of_ble_eq_true rfl⟩ rfl dX6_comes_65 (fun r57 M56 hr => ?_)
      obtain ⟨rfl, h58, k59⟩ := hr
      have h60 := (k59 _ e48).trans hbc46
      have h61 := (k59 _ e49).trans hxc46
      have h62 := (k59 _ e50).trans hTc46.1
      have h63 := (k59 _ e51).trans (hTc46.ll (j := 2) (by omega) (by omega)).1
      have h64 := (k59 _ e52).trans (hTc46.ll (j := 3) (by omega) (by omega)).1
      have h65 := (k59 _ e53).trans (hTc46.ll (j := 4) (by omega) (by omega)).1
      have h66 := (k59 _ hqi).trans hto
      have k67 : ∀ zz : Nat, zz ≠ r40 → M56 zz = M zz := fun zz z0 => k59 zz z0
      have fq : gFl (fun l => l = (2, 0)) M M56 := gFl.of1 t h58 k59 rfl
      have hbq := hbx.keep fq (fun j q => by have := congrArg Prod.fst q; dsimp only at this; omega) (fun q => by have := congrArg Prod.snd q; dsimp only at this; omega)
      have f8 : gFl (fun l => l.1 = r) M0 M56 := f9.old hnq3 k59
      refine x_castS C gcX12 h66 q1109 dX6_comes_70 ?_
      refine x_iconst C dX6_comes_73 kc_2 ?_
      refine x_V2V C (met_X6_comes_2 l C.1 (t := tt) (k := kk) hbq hr4 (by rw [e65, e67]; exact hK) (e0.trans hn) hn6 h66 (by omega) (by omega) (hcn9.ov (k := 2 + kk) (by omega) (isN_v hs.2.2.2.2 (by omega)) (by omega) (by omega))) mi_X6_comes_2 q1110 gcX6 h60 ⟨rfl, rfl⟩ rfl ⟨Nat.le_of_ble_eq_true rfl, Nat.le_of_ble_eq_true rfl⟩ rfl dX6_comes_74 (fun M68 hr => ?_)
      obtain ⟨hb69, f70⟩ := hr
      rw [e0, hn, ← pCom4_s hw h1t h2t (by omega) (by omega)] at hb69
      have h71 := f70.keep h58 (fun q => by have q' : (2 : Nat) = r := q; omega)
      have f72 := f8.tr f70
      refine x_goto (tgt := 54) C dX6_comes_77 rfl ?_
      exact ih ht _ ⟨some (nd 3 i), h71, hb69, f72⟩
    · -- 3 end
      have ei : i = dN (A 6 5) := by omega
      subst ei
      refine x_aload_n C dX6_comes_54 rfl rfl ?_
      refine x_F0I C (met_J28_hasNext l C.1 hLj t (by omega)) mf_J28_J28_hasNext_Iterator q973 gcJ28 t ⟨rfl, rfl⟩ rfl ⟨Nat.le_of_ble_eq_true rfl, Nat.le_of_ble_eq_true rfl⟩ rfl dX6_comes_55 (fun r75 M74 hr => ?_)
      obtain ⟨hr, rfl⟩ := hr
      rw [hr, if_neg (Nat.lt_irrefl _)]
      refine x_if_eqT (tgt := 80) C (by decide) dX6_comes_60 rfl ?_
      refine x_aload_n C dX6_comes_80 rfl rfl ?_
      refine x_get C gcX6 hbc46 15 rfl q541 rfl dX6_comes_81 ?_
      refine x_getN C gcX1 hxc46 4 rfl q1255 rfl dX6_comes_84 ?_
      refine x_getN C gcX5 hTc46.1 3 rfl q396 rfl dX6_comes_87 ?_
      refine x_U0R C (met_J10_iterator l C.1 (hTc46.ll (j := 4) (by omega) (by omega)) hl hlN) (fun hR2 => va_cwU 0 C.hw (lw_app (a := [_, _, _, _, _]) (by
    intro w hw
    simp only [List.mem_cons, List.not_mem_nil, or_false] at hw
    rcases hw with e | e | e | e | e
    · rw [e]; exact q922
    · rw [e]; exact q923
    · rw [e]; exact q925
    · rw [e]; exact q926
    · rw [e]; exact q138) (lw_meth q927)) rfl rfl rfl rfl (by decide +kernel) hR2) gcJ11 (hTc46.ll (j := 4) (by omega) (by omega)).1 ⟨rfl, rfl⟩ rfl ⟨Nat.le_of_ble_eq_true rfl, Nat.le_of_ble_eq_true rfl⟩ rfl dX6_comes_90 (fun r77 M76 hr => ?_)
      obtain ⟨n78, h79, k80⟩ := hr
      refine x_astore_n C dX6_comes_93 rfl (gs1_1 rfl) rfl ?_
      have hnq4 : M0 r77 = none := f9.nn n78
      have f81 : gFl (fun l => l.1 = r) M0 M76 := f9.tr (gFl.nw n78 k80)
      have hB82 := hbx.keep (ρ := fun _ => False) (gFl.nw n78 k80) (fun _ q => q) (fun q => q)
      have e40 : (pCom4 A n (pCom3 A n B (dN (A 6 4))) (dN (A 6 5))) 0 = nI n := (e0.trans hn)
      refine x_loopK (head := 94) (E := dN (A 6 6)) 7 75 (fun i M => ∃ (lr : Option Nat) (ba' : Nat → Nat) (xx' : Nat → Nat → Nat → Int32) (s' : List Nat), M r77 = some ((2, 0), .inr (9, [va_rf lr, va_rf (if i < dN (A 6 6) then some (nd 4 i) else none), .int (nI i), .int (mc 4), .ref (ta 4)])) ∧ BX G r ba' x (pCom5 A n (pCom4 A n (pCom3 A n B (dN (A 6 4))) (dN (A 6 5))) i) D xx' Z s' ex sb M ∧ gFl (fun l => l.1 = r) M0 M ∧ (∀ j, j < 140 ∨ 1000 ≤ j → ba' j = ba j) ∧ CS (pCom5 A n (pCom4 A n (pCom3 A n B (dN (A 6 4))) (dN (A 6 5))) i) n (dN (B 1865)) st s' xx xx') (fun i => [some (.ref (ba 0)), some (.ref r77), none]) ⟨none, ba, xx, st, h79, hB82, f81, fun _ _ => rfl, CS.rf (by show dN ((pCom4 A n (pCom3 A n B (dN (A 6 4))) (dN (A 6 5))) 1865) = _; rw [e65]) hK.1⟩ (fun i M hi hI ih => ?_)
      obtain ⟨lr, ba', xx', s', t, hbx, f9, hba, hcs⟩ := hI
      have eb0 : ba' 0 = ba 0 := hba 0 (Or.inl (by omega))
      have e01 : (pCom5 A n (pCom4 A n (pCom3 A n B (dN (A 6 4))) (dN (A 6 5))) i) 0 = B 0 := (pCom5_0 i).trans e0
      have e671 : (pCom5 A n (pCom4 A n (pCom3 A n B (dN (A 6 4))) (dN (A 6 5))) i) 1867 = B 1867 := (pCom5_lo hw hn6 e40 i hi 1867 (by omega) (by omega)).trans e67
      have hcn9 := pCom5_cN hw hn6 e40 (pCom4_cN hw hn6 (pCom3_cN hw hn6 hcn (by omega) _ (Nat.le_refl _)) (by omega) _ (Nat.le_refl _)) (by omega) i hi
      show gX G p l e _ s m args below meth c 3 _ M _ _ 94 [some (.ref (ba 0)), some (.ref r77), none] []
      have hXc83 := hX.keep f9 (fun j q => by have q' : (1 : Nat) = r := q; omega) (fun q => hrx (show x + 4 = r from q).symm)
      have hTc83 := hT.keep f9 (fun j q => hrt (show rt = r from q).symm)
      obtain ⟨⟨vsc83, hxc83⟩, -⟩ := id hXc83
      have hbc83 := hbx.1.1
      rw [e01, hn] at hbc83
      rw [eb0] at hbc83
      have hLj : LL (rt, 4) (rt, 14) (ta 4) (dN (A 6 6)) (mc 4) (nd 4) (it 4) M := hTc83.ll (by omega) (by omega)
      rcases Nat.lt_or_ge i (dN (A 6 6)) with ht | ht
      · -- 4 more
        have hs := hw.asset ht
        obtain ⟨tt, h1t, h1t'⟩ := isN_to hs.1
        obtain ⟨kk, h2t, h2t'⟩ := isN_to hs.2.2.2.1
        have hto : M (it 4 i) = some ((rt, 24), .inr (28, [.int (A 5 (5 * i)), .int (A 5 (5 * i + 1)), .int (A 5 (5 * i + 2)), .int (A 5 (5 * i + 3)), .int (A 5 (5 * i + 4))])) := hTc83.2.2.2.2.2 i ht
        rw [h1t, h2t] at hto
        have hqi : it 4 i ≠ r77 := fun e9 => by have z9 := hto; rw [e9, t] at z9; exact hl (congrArg (fun y : (Nat × Nat) × va_E => y.1.1) (Option.some.inj z9)).symm
        have e85 : ba 0 ≠ r77 := gM_ne hbc83 t (by omega)
        have e86 : x ≠ r77 := gM_ne hxc83 t (by omega)
        have e87 : tx ≠ r77 := gM_ne hTc83.1 t (by omega)
        have e88 : ta 2 ≠ r77 := gM_ne (hTc83.ll (j := 2) (by omega) (by omega)).1 t (by omega)
        have e89 : ta 3 ≠ r77 := gM_ne (hTc83.ll (j := 3) (by omega) (by omega)).1 t (by omega)
        have e90 : ta 4 ≠ r77 := gM_ne (hTc83.ll (j := 4) (by omega) (by omega)).1 t (by omega)
        refine x_aload_n C dX6_comes_94 rfl rfl ?_
        refine x_F0I C (met_J28_hasNext l C.1 hLj t (by omega)) mf_J28_J28_hasNext_Iterator q973 gcJ28 t ⟨rfl, rfl⟩ rfl ⟨by show _ ≤ 31; omega, by show _ ≤ 315; omega⟩ rfl dX6_comes_95 (fun r92 M91 hr => ?_)
        obtain ⟨hr, rfl⟩ := hr
        rw [hr, if_pos ht]
        refine x_if_eqF (tgt := 159) C (by decide) dX6_comes_100 rfl ?_
        refine x_aload_n C dX6_comes_103 rfl rfl ?_
        refine x_F0R C (met_J28_next l C.1 (mc' := mc 4) hLj t ht hl hlN) mf_J28_J28_next_Iterator q999 gcJ28 t ⟨rfl, rfl⟩ rfl ⟨by show _ ≤ 31; omega, by show _ ≤ 315; omega⟩ rfl dX6_comes_104 (fun r94 M93 hr => ?_)
        obtain ⟨rfl, h95, k96⟩ := hr
        have h97 := (k96 _ e86).trans hxc83
        have h98 := (k96 _ e87).trans hTc83.1
        have h99 := (k96 _ e88).trans (hTc83.ll (j := 2) (by omega) (by omega)).1
        have h100 := (k96 _ e89).trans (hTc83.ll (j := 3) (by omega) (by omega)).1
        have h101 := (k96 _ e90).trans (hTc83.ll (j := 4) (by omega) (by omega)).1
        have h102 := (k96 _ e85).trans hbc83
        have h103 := (k96 _ hqi).trans hto
        have k104 : ∀ zz : Nat, zz ≠ r77 → M93 zz = M zz := fun zz z0 => k96 zz z0
        have fq : gFl (fun l => l = (2, 0)) M M93 := gFl.of1 t h95 k96 rfl
        have hbq := hbx.keep fq (fun j q => by have := congrArg Prod.fst q; dsimp only at this; omega) (fun q => by have := congrArg Prod.snd q; dsimp only at this; omega)
        have f8 : gFl (fun l => l.1 = r) M0 M93 := f9.old hnq4 k96
        obtain ⟨k9, hk9⟩ : ∃ k9, dN ((pCom5 A n (pCom4 A n (pCom3 A n B (dN (A 6 4))) (dN (A 6 5))) i) 1865) = k9 := ⟨_, rfl⟩
        obtain ⟨mc9, nd9, hl9⟩ := hbq.2.1
        rw [hk9] at hl9
        have hcs2 := hcs.2.1
        rw [hk9] at hcs2
        refine x_castS C gcX13 h103 q1114 dX6_comes_109 ?_
        refine x_astore_n C dX6_comes_112 rfl (gs1_2 rfl) rfl ?_
        refine x_aload_n C dX6_comes_113 rfl rfl ?_
        refine x_getS C gcX13 h103 1 rfl q1503 q1504 rfl dX6_comes_114 ?_
        refine x_aload_n C dX6_comes_117 rfl rfl ?_
        refine x_get C gcX6 h102 13 rfl q537 rfl dX6_comes_118 ?_
        refine x_icmp_ne (tgt := 156) C dX6_comes_121 rfl (fun c121 => ?_) (fun c121 => ?_)
        · -- 156
          refine x_goto (tgt := 94) C dX6_comes_156 rfl ?_
          have e9 : pCom5 A n (pCom4 A n (pCom3 A n B (dN (A 6 4))) (dN (A 6 5))) (i + 1) = pCom5 A n (pCom4 A n (pCom3 A n B (dN (A 6 4))) (dN (A 6 5))) i := by rw [pCom5_s hw h1t h2t (by omega) (by omega), if_neg (fun q9 => c121 q9.1)]
          refine x_wk [true, true, false] rfl ?_
          refine x_widen (by omega) (by omega) (ih ht _ ⟨some (nd 4 i), ba', xx', s', h95, by rw [e9]; exact hbq, f8, hba, by rw [e9]; exact hcs⟩)
        · -- 124
          refine x_aload_n C dX6_comes_124 rfl rfl ?_
          refine x_get C gcX6 h102 8 rfl q528 rfl dX6_comes_125 ?_
          refine x_V0I C (met_J11_size l C.1 hl9) mi_J11_size q1115 gcJ11 hl9.1 ⟨rfl, rfl⟩ rfl ⟨by show _ ≤ 31; omega, by show _ ≤ 315; omega⟩ rfl dX6_comes_128 (fun r106 M105 hr => ?_)
          obtain ⟨hr, rfl⟩ := hr
          rw [hr]
          refine x_bipush C dX6_comes_131 kb_8 ?_
          refine x_icmp_geN (tgt := 156) C (by omega) (by omega) dX6_comes_133 rfl (fun c133 => ?_) (fun c133 => ?_)
          · -- 156
            refine x_goto (tgt := 94) C dX6_comes_156 rfl ?_
            have e9 : pCom5 A n (pCom4 A n (pCom3 A n B (dN (A 6 4))) (dN (A 6 5))) (i + 1) = pCom5 A n (pCom4 A n (pCom3 A n B (dN (A 6 4))) (dN (A 6 5))) i := by rw [pCom5_s hw h1t h2t (by omega) (by omega), if_neg (fun q9 => by have := q9.2; omega)]
            refine x_wk [true, true, false] rfl ?_
            refine x_widen (by omega) (by omega) (ih ht _ ⟨some (nd 4 i), ba', xx', s', h95, by rw [e9]; exact hbq, f8, hba, by rw [e9]; exact hcs⟩)
          · -- 136
            refine x_aload_n C dX6_comes_136 rfl rfl ?_
            refine x_aload_n C dX6_comes_137 rfl rfl ?_
            refine x_getS C gcX13 h103 0 rfl q1498 q1499 rfl dX6_comes_138 ?_
            refine x_aload_n C dX6_comes_141 rfl rfl ?_
            refine x_getS C gcX13 h103 2 rfl q1508 q1509 rfl dX6_comes_142 ?_
            refine x_aload_n C dX6_comes_145 rfl rfl ?_
            refine x_getS C gcX13 h103 3 rfl q1513 q1514 rfl dX6_comes_146 ?_
            refine x_aload_n C dX6_comes_149 rfl rfl ?_
            refine x_getN C gcX13 h103 4 rfl q1540 rfl dX6_comes_150 ?_
            refine x_V4V C (eb0 ▸ met_X6_buys l C.1 (t := tt) (u := kk) (k := k9) hbq hr4 (by rw [hk9, e671]; exact ⟨hcs2, hK.2⟩) (e01.trans hn) hn6 (by omega) (by omega) hk9 (by omega) (hcn9.ov (k := 2 + kk) (by omega) (isN_v hs.2.2.2.2.1 (by omega)) (by omega) (by omega)) (fun a ha => by have := hcs.mem hst a ha; omega) (by have := hcs.len; omega)) mi_X6_buys q1116 gcX6 h102 ⟨rfl, rfl⟩ rfl ⟨by show _ + 7 ≤ 31; omega, by show _ + 75 ≤ 315; omega⟩ rfl dX6_comes_153 (fun M107 hr => ?_)
            obtain ⟨ba2, xx2, hbx2, hba2, hxx2, hxk2, f2⟩ := hr
            have e9 : pCom5 A n (pCom4 A n (pCom3 A n B (dN (A 6 4))) (dN (A 6 5))) (i + 1) = pAcq (pCom5 A n (pCom4 A n (pCom3 A n B (dN (A 6 4))) (dN (A 6 5))) i) tt kk (A 5 (5 * i + 3)) (A 5 (5 * i + 4)) := by rw [pCom5_s hw h1t h2t (by omega) (by omega), if_pos ⟨c121, by omega⟩]
            have h108 := f2.keep h95 (fun q => by have q' : (2 : Nat) = r := q; omega)
            have f109 := f8.tr f2
            refine x_goto (tgt := 94) C dX6_comes_156 rfl ?_
            refine x_wk [true, true, false] rfl ?_
            refine x_widen (by show _ + 7 ≤ _; omega) (by show _ + 75 ≤ _; omega) (ih ht _ ⟨some (nd 4 i), ba2, xx2, s' ++ [k9], h108, by rw [e9]; exact hbx2, f109, fun j hj => (hba2 j hj).trans (hba j hj), by rw [e9]; exact hcs.acq hk9 (by omega) (e01.trans hn) hn6 (by omega) (by omega) hxx2 hxk2⟩)
      · -- 4 end
        have ei : i = dN (A 6 6) := by omega
        subst ei
        refine x_aload_n C dX6_comes_94 rfl rfl ?_
        refine x_F0I C (met_J28_hasNext l C.1 hLj t (by omega)) mf_J28_J28_hasNext_Iterator q973 gcJ28 t ⟨rfl, rfl⟩ rfl ⟨by show _ ≤ 31; omega, by show _ ≤ 315; omega⟩ rfl dX6_comes_95 (fun r112 M111 hr => ?_)
        obtain ⟨hr, rfl⟩ := hr
        rw [hr, if_neg (Nat.lt_irrefl _)]
        refine x_if_eqT (tgt := 159) C (by decide) dX6_comes_100 rfl ?_
        have hpc : pComes A B = pCom5 A n (pCom4 A n (pCom3 A n B (dN (A 6 4))) (dN (A 6 5))) (dN (A 6 6)) := by unfold pComes pNow; rw [hn, dN_nI (by omega)]
        exact x_vret C dX6_comes_159 ⟨by show _ ≤ 31; omega, by show _ ≤ 315; omega⟩ ⟨ba', xx', s', by rw [hpc]; exact hbx, hba, by rw [hpc]; exact hcs, f9⟩
