set_option maxRecDepth 100000
/-! LAMBDAS: the site's object; a call through the class that the VM made -/
/-- the site's object, of the start -/
def gLam (G : gG) (x : MethodName) (pc index : Nat) (σ : Lambda.Shape) (a : Nat) : Prop := ∃ (s0 : State) (c : ClassId), s0.heap = G.1.2 ∧ (∀ U : State, G.2.2 U → s0.WarmedH U.vm) ∧ s0.lambdaAt? x pc index σ = some (c, some a)
theorem gLam_of {G : gG} (hG : gOK G) {x : MethodName} {pc index : Nat} {σ : Lambda.Shape} (hσ : σ.captured = []) (hw : ∀ args s, gCond.before args s = true → (Cond.lambdaSite x pc index σ).before args s = true) : ∃ a, gLam G x pc index σ a := by
  obtain ⟨s0, b, hh, hW, hb, hp, ht⟩ := hG.2.2.2.2
  obtain ⟨c, one, hat⟩ := Cond.lambdaSite_spec (hw _ _ hp)
  obtain ⟨m', kS, cfS, i0, p0, lk, hm', hkS, -, -, -, hfind, -, -, hlk⟩ := State.lambdaAt?_spec hat
  rcases hlk with ⟨a0, cell0, -, h1, -⟩ | ⟨-, -, h⟩
  · exact ⟨a0, s0, c, hh, hW, by rw [hat, h1]⟩
  · exact absurd hσ h
def lD (σ : Lambda.Shape) (dn : String) : ClassFile := (σ.file dn).getD { minorVersion := 0, majorVersion := 0, constantPool := #[], accessFlags := 0, thisClass := 0, superClass := 0, interfaces := #[], fields := #[], methods := #[], attributes := #[] }
def lFw (σ : Lambda.Shape) (dn : String) : Method := ((layoutMethods (lD σ dn)).bind (·[1]?)).getD default
/-- what the made class of a shape holds -/
def lamH (σ : Lambda.Shape) (dn : String) (B : ByteArray) (nK : Nat) (rt : FieldType) : Prop :=
  (σ.file dn).isSome = true ∧ ((layoutMethods (lD σ dn)).bind (·[1]?)).isSome = true ∧ ((lFw σ dn).code.map fun c => (c.code.data, c.maxLocals)) = some (B.data, nK) ∧ ((lFw σ dn).accessFlags, (lFw σ dn).sig.returnType) = (0x0001, some rt) ∧
  ((lD σ dn).constantPool[17]? = some (.methodref 14 16) ∧ (lD σ dn).constantPool.className? 14 = some σ.implClass ∧ (lD σ dn).constantPool.nameAndType? 16 = some (σ.implName, σ.implDesc.toString)) ∧
  ((lD σ dn).constantPool[14]? = some (.class_ 13) ∧ (lD σ dn).constantPool.string? 13 = some σ.implClass ∧ 14 ≠ (lD σ dn).thisClass) ∧ plainName (dn ++ "$$Lambda") = true
theorem lamMade {σ : Lambda.Shape} {dn : String} {B : ByteArray} {nK : Nat} {rt : FieldType} (HL : lamH σ dn B nK rt) {e : Setting} {vm : Vm} {d c : ClassId} {dk : Class} (hd : vm.classes[d]? = some dk) (hname : dk.name = dn) (h : Lambda.isMade e vm d σ c = true) :
    ∃ (k tk : Class) (file : ClassFile) (methk : Method) (ck : Code) (toy : ClassId) (t : MethodId),
      vm.classes[c]? = some k ∧ k.name = dn ++ "$$Lambda" ∧ k.cf = some file ∧ file.constantPool = (lD σ dn).constantPool ∧
      vm.method? ⟨c, 1⟩ = some methk ∧ methk.code = some ck ∧ ck.code = B ∧ ck.maxLocals = nK ∧ methk.locks = false ∧ methk.accessFlags = 0x0001 ∧ methk.sig.returnType = some rt ∧
      vm.findClass σ.implClass = some toy ∧ vm.classes[toy]? = some tk ∧ ((methodIn toy σ.implName σ.implDesc.toString tk.isInterface none).ask e vm).1 = .ok t ∧
      vm.methodReady c 17 t ∧ vm.classReady c 14 toy := by
  obtain ⟨h1, h2, h3, h4, ⟨h5, h6, h7⟩, ⟨h8, h9, h10⟩, -⟩ := HL
  have hfile : σ.file dn = some (lD σ dn) := by
    obtain ⟨x, hx⟩ := Option.isSome_iff_exists.mp h1
    simp [lD, hx]
  obtain ⟨dk', k, ok, tk, file, cf, object, iface, toy, lay, methods, target, found, hd', hk, hfl, hcf, -, -, -, -, hms, ht, htk, hg, -, hrec, -, -, -, -, hpool, hmeth, -, -, hres, -⟩ := Lambda.isMade_spec h
  cases hd.symm.trans hd'
  rw [hname, hfile] at hcf
  cases hcf
  obtain ⟨fw, hfw⟩ := Option.isSome_iff_exists.mp h2
  have hfw0 : lFw σ dn = fw := by simp [lFw, hfw]
  have hm1 : methods[1]? = some (lFw σ dn) := by
    rw [hfw0]
    rw [hms] at hfw
    exact hfw
  obtain ⟨b, hb, hsame⟩ := hmeth 1 _ hm1
  simp only [Lambda.sameMethod, Bool.and_eq_true, decide_eq_true_eq] at hsame
  obtain ⟨⟨hn, -, hsig, hflg⟩, hcode⟩ := hsame
  simp only [Prod.mk.injEq] at h4
  cases hfc : (lFw σ dn).code with
  | none => rw [hfc] at h3; cases h3
  | some x =>
    cases hbc : b.code with
    | none => simp [hfc, hbc] at hcode
    | some y =>
      simp only [hfc, hbc, Bool.and_eq_true, decide_eq_true_eq] at hcode
      simp only [hfc, Option.map_some, Option.some.injEq, Prod.mk.injEq] at h3
      refine ⟨k, tk, file, b, y, toy, target, hk, by rw [hrec.1, hname], hfl, hpool.2.1, by simp [Vm.method?, hk, hb], hbc, ?_, by rw [← hcode.1.1.1.1.2.1]; exact h3.2, ?_, by rw [← hflg]; exact h4.1, by rw [← hsig]; exact h4.2, ht, htk, hg,
        ⟨k, hk, hres 17 _ (Lambda.resolvedOf_method h5 h6 ht htk h7 hg)⟩, ⟨k, hk, hres 14 _ (Lambda.resolvedOf_class h8 h10 h9 ht)⟩⟩
      · rw [← hcode.1.1.1.1.2.2]
        exact ByteArray.ext h3.1
      · simp [Method.locks, Method.isSynchronized, ← hflg, h4.1, hasFlag, Acc.synchronized]

def lcJJ : ByteArray := ⟨#[0x1f, 0x21, 0xb8, 0x00, 0x11, 0xad]⟩
theorem lcJJ_0 : decode lcJJ 0 = .ok (.lload_n 1, 1) := by decide +kernel
theorem lcJJ_1 : decode lcJJ 1 = .ok (.lload_n 3, 1) := by decide +kernel
theorem lcJJ_2 : decode lcJJ 2 = .ok (.invokestatic 17, 3) := by decide +kernel
theorem lcJJ_5 : decode lcJJ 5 = .ok (.lreturn, 1) := by decide +kernel
set_option maxHeartbeats 1000000 in
theorem lam_runJJ {p : Program} {l : Launch} {e : Env} {R : Room} {s : State} {m : MethodId} {args : Array Value} {below : List Frame} {meth : Method} {c : Code} {H : Heap} {locs : List Loc} {cells slots : Nat} {y xn : MethodName} {bytes cc : ByteArray} {maxL nL mc ms index count : Nat} {ret : Option FieldType} {ws : List Cond} {rm : Room} {Pc : Array Value → State → Prop} {Qc : Array Value → State → Outcome → State → Prop} {free : Addr → Prop} {own : String}
    (hx : p.tables.exec = Jvm.exec) (hb : c.code = cc) (hml : c.maxLocals = nL) (ho : s.vm.findClass own = some m.cls)
    (hM : Met l y ws rm Pc Qc mc ms free) (hbl : FrameBlind Pc) (hrc : rm.cells = mc) (hrs : rm.slots = ms)
    (hws : ∀ w ∈ ws, ∀ (a' : Array Value) (U : State), s.WarmedH U.vm → w.before a' U = true) (hcw : Cond.code y bytes maxL ret ∈ ws)
    (hst : (Cond.static y).before args s = true) (hini : (Cond.initialized y.cls).before args s = true) (hyc : y.cls ≠ "java/lang/invoke/MethodHandle" ∧ y.cls ≠ "java/lang/invoke/VarHandle")
    (hlink : (Cond.methodLink own index xn).before args s = true) (hdecl : (Cond.declares xn).before args s = true) (hface : (Cond.interfaceMethod xn.cls xn.cls xn.name xn.desc).before args s = true) (hxc : xn.cls ≠ "java/lang/invoke/MethodHandle" ∧ xn.cls ≠ "java/lang/invoke/VarHandle")
    {σ : Lambda.Shape} {dn : String} (hF : lamH σ dn lcJJ 5 .long) (hσ : σ.iface = xn.cls ∧ σ.name = xn.name ∧ σ.sam.toString = xn.desc ∧ σ.implClass = y.cls ∧ σ.implName = y.name ∧ σ.implDesc.toString = y.desc)
    (hsx : parseMethodDescriptor xn.desc = some ⟨[.long, .long], some .long⟩) (hsy : parseMethodDescriptor y.desc = some ⟨[.long, .long], some .long⟩)
    {a : Nat} {cell : Cell} (hcell : H[a]? = some cell) (hvmc : cell.vm = .none) {d : ClassId} {dk : Class} (hdk : s.vm.classes[d]? = some dk) (hdn : dk.name = dn) (hmade : Lambda.isMade { classPath := fun _ => none } s.vm d σ cell.cls = true) (hcan : s.lambdaCallable σ cell.cls = true)
    {u1 u2 : Int64} (hPc : ∀ U : State, U.heap = H → s.WarmedH U.vm → Pc #[.long u1, .long u2] U) (hret : ∀ a' st v t, Qc a' st (.returned v) t → ∃ r : Int64, v = some (.long r))
    {pc : Nat} {ls : Array Slot} {rest : List Value} (hsize : ls.size = nL) (hW : (rest.map fun v => v.category).sum ≤ 8) (hdg : decode cc pc = .ok (.invokeinterface index count, 5))
    (hR : rm.frames + 2 ≤ R.frames) (hRl : 8 + (5 + 11) + (8 + (maxL + 11) + rm.locals) ≤ R.locals) (hf : cells + mc ≤ R.cells ∧ slots + ms ≤ R.slots) :
    va_Run5 p l e R s m args below meth c H locs cells slots mc ms (F0 m pc ls (.long u2 :: .long u1 :: .ref a :: rest)) rest (Qc #[.long u1, .long u2]) free := by
  obtain ⟨s1, s2, s3, s4, s5, s6⟩ := hσ
  obtain ⟨r0, r, hn, hrm, hstR, hsigR⟩ := Cond.declares_spec hdecl
  obtain ⟨cL, kL, r1, hcL, hkL, hiL, hfoundL, hn1⟩ := Cond.interfaceMethod_spec hface
  cases hn.symm.trans hn1
  have hr0cls : r0.cls = cL := Option.some.inj ((findClass_of_methodNamed hn).symm.trans hcL)
  obtain ⟨hnameR, hdescR⟩ := name_of_methodNamed hn hrm
  obtain ⟨kK, tk, file, methk, ckK, toy, t, hkK, hkn, hfile, hpool, hmk, hckK, hbytes, hmlK, hlk, hfl, hretk, htoy, htk, hlook, hready, hclsR⟩ := lamMade hF hdk hdn hmade
  obtain ⟨-, -, -, -, -, -, -, iface', -, -, -, -, found, -, -, -, -, -, hi', -, -, -, -, -, -, hfound', -, -, -, -, -, -, -, -, -, -, hsel⟩ := Lambda.isMade_spec hmade
  rw [s1] at hi'
  cases hcL.symm.trans hi'
  have hfr : found = r0 := by
    have h1 : s.methodFound? xn.cls xn.name xn.desc = some r0 := hfoundL
    simp only [State.methodFound?, hcL, hkL, hiL, Option.bind_eq_bind, Option.bind_some] at h1
    rw [s2, s3] at hfound'
    rw [hfound'] at h1
    exact Option.some.inj h1
  subst hfr
  obtain ⟨i2, hi2, hasg, hway⟩ := State.lambdaCallable_spec hcan
  rw [s1] at hi2
  cases hcL.symm.trans hi2
  have hsigI : r.sig = ⟨[.long, .long], some .long⟩ := (Option.some.inj (hsx.symm.trans hsigR)).symm
  have hcodeT : (Cond.code y bytes maxL ret).before args s = true := hws _ hcw args s (State.WarmedH.refl s)
  obtain ⟨mT, hmT⟩ := Cond.code_named hcodeT
  obtain ⟨methT, cT, hmethT, hcT, hbytesT, hlocT, hretT, hlocksT, -, hsigT⟩ := Cond.code_spec hmT hcodeT
  have hstaticT : methT.isStatic = true := Cond.static_spec hmT hmethT hst
  obtain ⟨kT, hkT, hnameT⟩ := className_of_methodNamed hmT
  have hfT : s.vm.findClass y.cls = some mT.cls := findClass_of_methodNamed hmT
  have hinitK : kT.init = .initialized := Cond.initialized_spec hfT hkT hini
  have hsigTI : methT.sig = ⟨[.long, .long], some .long⟩ := (Option.some.inj (hsy.symm.trans hsigT)).symm
  intro T hT X
  have hdg2 : decode c.code pc = .ok (.invokeinterface index count, 5) := by rw [hb]; exact hdg
  obtain ⟨vm₁, X₁, hstep₁⟩ := X.invokeinterface hx ho hlink hn hrm hstR (by rw [hr0cls]; exact hkL) hiL hxc (a := a) (cell := cell) (kcell := kK) (by rw [hT]; exact hcell) (fun z h => by rw [hvmc] at h; cases h) hkK (by rw [hr0cls]; exact hasg)
    (m' := ⟨cell.cls, 1⟩) (meth' := methk) (by rw [Launch.admits_selectMethod X.admits]; exact hsel) hmk (by rw [hnameR, hdescR, ← s2, ← s3]; exact hway) (by rw [hfl]; decide) (by simp [Method.isAbstract, hfl, hasFlag, Acc.abstract])
    (g := F0 m pc ls (.long u2 :: .long u1 :: .ref a :: rest)) rfl (argsL := [.long u1, .long u2]) (rest := rest) (by rw [hsigI]; rfl) rfl hdg2
  have hW₁ : s.WarmedH vm₁ := X₁.warmed
  obtain ⟨kD₁, hkD₁, heD₁⟩ := hW₁.alike.2.2 _ _ hdk
  have hnameD₁ : kD₁.name = dn := by rw [heD₁]; exact hdn
  obtain ⟨kK₁, tk₁, file₁, methk₁, ckK₁, toy₁, t₁, hkK₁, hkn₁, hfile₁, hpool₁, hmk₁, hckK₁, hbytes₁, hml₁, hlk₁, hfl₁, hretk₁, htoy₁, htk₁, hlook₁, hready₁, hclsR₁⟩ := lamMade hF hkD₁ hnameD₁ (Lambda.isMade_warmer hW₁ hmade)
  have hfT₁ : vm₁.findClass y.cls = some mT.cls := by rw [hW₁.alike.findClass]; exact hfT
  rw [s4] at htoy₁
  cases htoy₁.symm.trans hfT₁
  have ht₁ : t₁ = mT := by
    have h1 : (s.setVm vm₁).methodFound? y.cls y.name y.desc = some mT := by rw [State.methodFound?_setVm hW₁.alike]; exact State.methodFound?_of_named hmT hyc
    simp only [State.methodFound?, State.vm_setVm, hfT₁, htk₁, Option.bind_eq_bind, Option.bind_some] at h1
    rw [s5, s6] at hlook₁
    rw [hlook₁] at h1
    exact Option.some.inj h1
  subst ht₁
  have hmethT₁ : vm₁.method? t₁ = some methT := by rw [hW₁.alike.method?]; exact hmethT
  obtain ⟨kT₁, hkT₁, heT₁⟩ := hW₁.alike.2.2 _ _ hkT
  cases htk₁.symm.trans hkT₁
  have hnm : tk₁.name ≠ "java/lang/invoke/MethodHandle" ∧ tk₁.name ≠ "java/lang/invoke/VarHandle" := by
    have h9 : tk₁.name = y.cls := by rw [heT₁]; exact hnameT
    rw [h9]; exact hyc
  have hsp : ∀ z : Method, signaturePolymorphic tk₁ z = false := fun z => by simp [signaturePolymorphic, hnm.1, hnm.2]
  obtain ⟨b, hmem⟩ := memberRef_ask' (e := e) (vm := vm₁) (d := cell.cls) (index := 17) hkK₁ hfile₁ (Or.inl (by rw [hpool₁]; exact hF.2.2.2.2.1.1)) (by rw [hpool₁]; exact hF.2.2.2.2.1.2.2)
  have hpk : (T.setVm vm₁).plainMethod ⟨cell.cls, 1⟩ := State.plainMethod.of_name (fun k' hk' => by cases hkK₁.symm.trans hk'; rw [hkn₁]; exact hF.2.2.2.2.2.2)
  have href : plainRef (T.setVm vm₁) e cell.cls 17 := ⟨14, _, _, b, t₁.cls, tk₁, hmem, hclsR₁, htk₁, by simp [hsp]⟩
  obtain ⟨Y₀, hin⟩ := X₁.into (g := F0 m pc ls rest) rfl (hsize.trans hml.symm) hdg2 #[.ref a, .long u1, .long u2] (R' := { frames := rm.frames + 1, cells := mc, slots := ms, locals := 8 + (maxL + 11) + rm.locals }) hmk₁ hckK₁ hlk₁ hpk
    (by show rm.frames + 1 + 1 ≤ R.frames; omega) (by rw [hml₁]; show 2 * 0 + (rest.map fun v => v.category).sum + (5 + 11) + (8 + (maxL + 11) + rm.locals) ≤ R.locals; omega) hf.1 hf.2
  have hK : Back l { frames := rm.frames + 1, cells := mc, slots := ms, locals := 8 + (maxL + 11) + rm.locals } p e (.java (F0 m pc ls rest) :: below) ((T.setVm vm₁).calling (F0 m pc ls rest) ⟨cell.cls, 1⟩ #[.ref a, .long u1, .long u2]) #[.ref a, .long u1, .long u2] y 3 8 (PreOf { frames := rm.frames + 1, cells := mc, slots := ms, locals := 8 + (maxL + 11) + rm.locals } mc ms Pc) (PostOf Qc mc ms free) :=
    back_of (bytes := bytes) (maxL := maxL) (ret := ret) hM hbl hrc hrs (Nat.le_refl _) (Nat.le_refl _) (fun w hw a' U hU => hws w hw a' U (State.WarmedH.trans hW₁ hU)) hcw (fun a' U hU => word_at (State.WarmedH.trans hW₁ hU) (Or.inl (by first | rfl | simp [Cond.onTables, Cond.keeps, Cond.steady])) hini)
  generalize hU : (((T.setVm vm₁).setTop (F0 m pc ls rest)).pushFrame (.java (entryFrame ⟨cell.cls, 1⟩ #[.ref a, .long u1, .long u2] ckK₁.maxLocals))) = U at Y₀ hin
  have hvm : U.vm = vm₁ := by rw [← hU]; rfl
  have hUh : U.heap = H := by rw [← hU, ← hT]; rfl
  have hnamedU : U.methodNamed? y = some t₁ := by
    have h9 : (s.setVm vm₁).methodNamed? y = some t₁ := by rw [State.methodNamed?_setVm hW₁.alike]; exact hmT
    rw [← hU]
    exact h9
  obtain ⟨v, ⟨U2, l2, c2, n2⟩, Y₁, ⟨g', mk', t2, L, e1, e2, hq, q1, hL, q2, q3⟩, hsteps⟩ := hK ⟨cell.cls, 1⟩ methk₁ ckK₁ ⟨U, [], 0, 0⟩ { method := ⟨cell.cls, 1⟩, pc := 2, locals := #[.val (.ref a), .val (.long u1), .second, .val (.long u2), .second], stack := [], locked := none } (.invokestatic 17) t₁ #[.long u1, .long u2] Y₀ rfl (by rw [hml₁]; rfl) (by rw [hbytes₁]; exact lcJJ_2) (by show 0 ≤ 8; omega) hnamedU ⟨by show 0 + mc ≤ mc; omega, by show 0 + ms ≤ ms; omega, hPc U hUh (by rw [hvm]; exact hW₁)⟩
  dsimp only [Pt.U, Pt.locs, Pt.cells, Pt.slots] at Y₁ e1 e2 q1 q2 q3 hq hsteps
  subst q1; subst q2; subst q3
  obtain ⟨rr, rfl⟩ := hret _ _ _ _ hq
  obtain ⟨fs, hleave, -, hended, hWe, hsame⟩ := Y₁.leave (v := some (.long rr)) (fun h => by rw [hretk₁] at h; cases h) hlk₁
  obtain ⟨T', X', hW', -, hT2⟩ := X₁.outOf (g := F0 m pc ls rest) rfl hdg2 hended hWe hsame
  rw [Nat.zero_add, Nat.zero_add] at X'
  have hheap : T'.heap = U2.heap := by
    have h9 := congrArg State.heap hT2
    exact h9.symm
  have hvm2 : T'.vm = U2.vm := by
    have h9 := congrArg State.vm hT2
    exact h9.symm
  refine ⟨some (.long rr), _, t2, T', _, ?_, X', hL, hheap.trans e1, hvm2.trans e2, hq, ?_⟩
  · show U.heap = H
    exact hUh
  intro target htg
  refine hstep₁ _ fun acts => ?_
  have hgo := hin acts
  refine Steps.trans (s₂ := T'.setTop { F0 m pc ls rest with pc := pc + 5, stack := .long rr :: rest }) ?_ htg
  show Steps p.tables e below (doInvoke e ((T.setVm vm₁).setTop (F0 m pc ls rest)) acts ⟨cell.cls, 1⟩ #[.ref a, .long u1, .long u2]).1 _
  rw [hgo]
  have hT3 : T'.setTop { F0 m pc ls rest with pc := pc + 5, stack := .long rr :: rest } = U2.setFrames fs := hT2.symm
  rw [hT3]
  refine Steps.weaken (mid := [.java (F0 m pc ls rest)]) ?_
  have hloc : entryFrame ⟨cell.cls, 1⟩ #[.ref a, .long u1, .long u2] ckK₁.maxLocals = { method := ⟨cell.cls, 1⟩, pc := 0, locals := #[.val (.ref a), .val (.long u1), .second, .val (.long u2), .second], stack := [], locked := none } := by rw [hml₁]; rfl
  rw [hloc]
  have hs : U.topJava?.isSome := Y₀.here.top
  jvm_step Y₀.here [hx, hbytes₁, lcJJ_0]
  jvm_step Y₀.here [hx, hbytes₁, lcJJ_1]
  jvm_step Y₀.here [hx, hbytes₁, lcJJ_2, invokestatic.wp_ready (e := e) (s := U) (m := t₁) (k := tk₁) (meth := methT) (args := [.long u1, .long u2]) (rest := [])
    (f := { method := ⟨cell.cls, 1⟩, pc := 2, locals := #[.val (.ref a), .val (.long u1), .second, .val (.long u2), .second], stack := [.long u2, .long u1], locked := none }) hs (by rw [← hU]; exact href) (by rw [hvm]; exact hready₁) (by rw [hvm]; exact htk₁) (by rw [hvm]; exact hmethT₁) (hsp _) hstaticT (by rw [heT₁]; exact hinitK) (by rw [hsigTI]; rfl) rfl]
  intro acts'
  rw [doInvoke_state]
  refine hsteps.trans ?_
  show Steps p.tables e (.java (F0 m pc ls rest) :: below) (U2.setTop { method := ⟨cell.cls, 1⟩, pc := 5, locals := #[.val (.ref a), .val (.long u1), .second, .val (.long u2), .second], stack := [.long rr], locked := none }) _
  jvm_step Y₁.here [Y₁.here.top, hx, hbytes₁, lcJJ_5, (show U2.vm.method? ⟨cell.cls, 1⟩ = some methk₁ from Y₁.method'), hretk₁, narrow]
  intro acts''
  rw [hleave { method := ⟨cell.cls, 1⟩, pc := 5, locals := #[.val (.ref a), .val (.long u1), .second, .val (.long u2), .second], stack := [], locked := none } acts'' rfl rfl rfl]
  exact Steps.refl _
def lcRII : ByteArray := ⟨#[0x2b, 0x1c, 0x1d, 0xb8, 0x00, 0x11, 0xad]⟩
theorem lcRII_0 : decode lcRII 0 = .ok (.aload_n 1, 1) := by decide +kernel
theorem lcRII_1 : decode lcRII 1 = .ok (.iload_n 2, 1) := by decide +kernel
theorem lcRII_2 : decode lcRII 2 = .ok (.iload_n 3, 1) := by decide +kernel
theorem lcRII_3 : decode lcRII 3 = .ok (.invokestatic 17, 3) := by decide +kernel
theorem lcRII_6 : decode lcRII 6 = .ok (.lreturn, 1) := by decide +kernel
set_option maxHeartbeats 1000000 in
theorem lam_runRII {p : Program} {l : Launch} {e : Env} {R : Room} {s : State} {m : MethodId} {args : Array Value} {below : List Frame} {meth : Method} {c : Code} {H : Heap} {locs : List Loc} {cells slots : Nat} {y xn : MethodName} {bytes cc : ByteArray} {maxL nL mc ms index count : Nat} {ret : Option FieldType} {ws : List Cond} {rm : Room} {Pc : Array Value → State → Prop} {Qc : Array Value → State → Outcome → State → Prop} {free : Addr → Prop} {own : String}
    (hx : p.tables.exec = Jvm.exec) (hb : c.code = cc) (hml : c.maxLocals = nL) (ho : s.vm.findClass own = some m.cls)
    (hM : Met l y ws rm Pc Qc mc ms free) (hbl : FrameBlind Pc) (hrc : rm.cells = mc) (hrs : rm.slots = ms)
    (hws : ∀ w ∈ ws, ∀ (a' : Array Value) (U : State), s.WarmedH U.vm → w.before a' U = true) (hcw : Cond.code y bytes maxL ret ∈ ws)
    (hst : (Cond.static y).before args s = true) (hini : (Cond.initialized y.cls).before args s = true) (hyc : y.cls ≠ "java/lang/invoke/MethodHandle" ∧ y.cls ≠ "java/lang/invoke/VarHandle")
    (hlink : (Cond.methodLink own index xn).before args s = true) (hdecl : (Cond.declares xn).before args s = true) (hface : (Cond.interfaceMethod xn.cls xn.cls xn.name xn.desc).before args s = true) (hxc : xn.cls ≠ "java/lang/invoke/MethodHandle" ∧ xn.cls ≠ "java/lang/invoke/VarHandle")
    {σ : Lambda.Shape} {dn : String} (hF : lamH σ dn lcRII 4 .long) (hσ : σ.iface = xn.cls ∧ σ.name = xn.name ∧ σ.sam.toString = xn.desc ∧ σ.implClass = y.cls ∧ σ.implName = y.name ∧ σ.implDesc.toString = y.desc)
    (hsx : parseMethodDescriptor xn.desc = some ⟨[.object "ExemptDesk$Sums", .int, .int], some .long⟩) (hsy : parseMethodDescriptor y.desc = some ⟨[.object "ExemptDesk$Sums", .int, .int], some .long⟩)
    {a : Nat} {cell : Cell} (hcell : H[a]? = some cell) (hvmc : cell.vm = .none) {d : ClassId} {dk : Class} (hdk : s.vm.classes[d]? = some dk) (hdn : dk.name = dn) (hmade : Lambda.isMade { classPath := fun _ => none } s.vm d σ cell.cls = true) (hcan : s.lambdaCallable σ cell.cls = true)
    {u1 : Nat} {u2 u3 : Int32} (hPc : ∀ U : State, U.heap = H → s.WarmedH U.vm → Pc #[.ref u1, .int u2, .int u3] U) (hret : ∀ a' st v t, Qc a' st (.returned v) t → ∃ r : Int64, v = some (.long r))
    {pc : Nat} {ls : Array Slot} {rest : List Value} (hsize : ls.size = nL) (hW : (rest.map fun v => v.category).sum ≤ 8) (hdg : decode cc pc = .ok (.invokeinterface index count, 5))
    (hR : rm.frames + 2 ≤ R.frames) (hRl : 8 + (4 + 11) + (8 + (maxL + 11) + rm.locals) ≤ R.locals) (hf : cells + mc ≤ R.cells ∧ slots + ms ≤ R.slots) :
    va_Run5 p l e R s m args below meth c H locs cells slots mc ms (F0 m pc ls (.int u3 :: .int u2 :: .ref u1 :: .ref a :: rest)) rest (Qc #[.ref u1, .int u2, .int u3]) free := by
  obtain ⟨s1, s2, s3, s4, s5, s6⟩ := hσ
  obtain ⟨r0, r, hn, hrm, hstR, hsigR⟩ := Cond.declares_spec hdecl
  obtain ⟨cL, kL, r1, hcL, hkL, hiL, hfoundL, hn1⟩ := Cond.interfaceMethod_spec hface
  cases hn.symm.trans hn1
  have hr0cls : r0.cls = cL := Option.some.inj ((findClass_of_methodNamed hn).symm.trans hcL)
  obtain ⟨hnameR, hdescR⟩ := name_of_methodNamed hn hrm
  obtain ⟨kK, tk, file, methk, ckK, toy, t, hkK, hkn, hfile, hpool, hmk, hckK, hbytes, hmlK, hlk, hfl, hretk, htoy, htk, hlook, hready, hclsR⟩ := lamMade hF hdk hdn hmade
  obtain ⟨-, -, -, -, -, -, -, iface', -, -, -, -, found, -, -, -, -, -, hi', -, -, -, -, -, -, hfound', -, -, -, -, -, -, -, -, -, -, hsel⟩ := Lambda.isMade_spec hmade
  rw [s1] at hi'
  cases hcL.symm.trans hi'
  have hfr : found = r0 := by
    have h1 : s.methodFound? xn.cls xn.name xn.desc = some r0 := hfoundL
    simp only [State.methodFound?, hcL, hkL, hiL, Option.bind_eq_bind, Option.bind_some] at h1
    rw [s2, s3] at hfound'
    rw [hfound'] at h1
    exact Option.some.inj h1
  subst hfr
  obtain ⟨i2, hi2, hasg, hway⟩ := State.lambdaCallable_spec hcan
  rw [s1] at hi2
  cases hcL.symm.trans hi2
  have hsigI : r.sig = ⟨[.object "ExemptDesk$Sums", .int, .int], some .long⟩ := (Option.some.inj (hsx.symm.trans hsigR)).symm
  have hcodeT : (Cond.code y bytes maxL ret).before args s = true := hws _ hcw args s (State.WarmedH.refl s)
  obtain ⟨mT, hmT⟩ := Cond.code_named hcodeT
  obtain ⟨methT, cT, hmethT, hcT, hbytesT, hlocT, hretT, hlocksT, -, hsigT⟩ := Cond.code_spec hmT hcodeT
  have hstaticT : methT.isStatic = true := Cond.static_spec hmT hmethT hst
  obtain ⟨kT, hkT, hnameT⟩ := className_of_methodNamed hmT
  have hfT : s.vm.findClass y.cls = some mT.cls := findClass_of_methodNamed hmT
  have hinitK : kT.init = .initialized := Cond.initialized_spec hfT hkT hini
  have hsigTI : methT.sig = ⟨[.object "ExemptDesk$Sums", .int, .int], some .long⟩ := (Option.some.inj (hsy.symm.trans hsigT)).symm
  intro T hT X
  have hdg2 : decode c.code pc = .ok (.invokeinterface index count, 5) := by rw [hb]; exact hdg
  obtain ⟨vm₁, X₁, hstep₁⟩ := X.invokeinterface hx ho hlink hn hrm hstR (by rw [hr0cls]; exact hkL) hiL hxc (a := a) (cell := cell) (kcell := kK) (by rw [hT]; exact hcell) (fun z h => by rw [hvmc] at h; cases h) hkK (by rw [hr0cls]; exact hasg)
    (m' := ⟨cell.cls, 1⟩) (meth' := methk) (by rw [Launch.admits_selectMethod X.admits]; exact hsel) hmk (by rw [hnameR, hdescR, ← s2, ← s3]; exact hway) (by rw [hfl]; decide) (by simp [Method.isAbstract, hfl, hasFlag, Acc.abstract])
    (g := F0 m pc ls (.int u3 :: .int u2 :: .ref u1 :: .ref a :: rest)) rfl (argsL := [.ref u1, .int u2, .int u3]) (rest := rest) (by rw [hsigI]; rfl) rfl hdg2
  have hW₁ : s.WarmedH vm₁ := X₁.warmed
  obtain ⟨kD₁, hkD₁, heD₁⟩ := hW₁.alike.2.2 _ _ hdk
  have hnameD₁ : kD₁.name = dn := by rw [heD₁]; exact hdn
  obtain ⟨kK₁, tk₁, file₁, methk₁, ckK₁, toy₁, t₁, hkK₁, hkn₁, hfile₁, hpool₁, hmk₁, hckK₁, hbytes₁, hml₁, hlk₁, hfl₁, hretk₁, htoy₁, htk₁, hlook₁, hready₁, hclsR₁⟩ := lamMade hF hkD₁ hnameD₁ (Lambda.isMade_warmer hW₁ hmade)
  have hfT₁ : vm₁.findClass y.cls = some mT.cls := by rw [hW₁.alike.findClass]; exact hfT
  rw [s4] at htoy₁
  cases htoy₁.symm.trans hfT₁
  have ht₁ : t₁ = mT := by
    have h1 : (s.setVm vm₁).methodFound? y.cls y.name y.desc = some mT := by rw [State.methodFound?_setVm hW₁.alike]; exact State.methodFound?_of_named hmT hyc
    simp only [State.methodFound?, State.vm_setVm, hfT₁, htk₁, Option.bind_eq_bind, Option.bind_some] at h1
    rw [s5, s6] at hlook₁
    rw [hlook₁] at h1
    exact Option.some.inj h1
  subst ht₁
  have hmethT₁ : vm₁.method? t₁ = some methT := by rw [hW₁.alike.method?]; exact hmethT
  obtain ⟨kT₁, hkT₁, heT₁⟩ := hW₁.alike.2.2 _ _ hkT
  cases htk₁.symm.trans hkT₁
  have hnm : tk₁.name ≠ "java/lang/invoke/MethodHandle" ∧ tk₁.name ≠ "java/lang/invoke/VarHandle" := by
    have h9 : tk₁.name = y.cls := by rw [heT₁]; exact hnameT
    rw [h9]; exact hyc
  have hsp : ∀ z : Method, signaturePolymorphic tk₁ z = false := fun z => by simp [signaturePolymorphic, hnm.1, hnm.2]
  obtain ⟨b, hmem⟩ := memberRef_ask' (e := e) (vm := vm₁) (d := cell.cls) (index := 17) hkK₁ hfile₁ (Or.inl (by rw [hpool₁]; exact hF.2.2.2.2.1.1)) (by rw [hpool₁]; exact hF.2.2.2.2.1.2.2)
  have hpk : (T.setVm vm₁).plainMethod ⟨cell.cls, 1⟩ := State.plainMethod.of_name (fun k' hk' => by cases hkK₁.symm.trans hk'; rw [hkn₁]; exact hF.2.2.2.2.2.2)
  have href : plainRef (T.setVm vm₁) e cell.cls 17 := ⟨14, _, _, b, t₁.cls, tk₁, hmem, hclsR₁, htk₁, by simp [hsp]⟩
  obtain ⟨Y₀, hin⟩ := X₁.into (g := F0 m pc ls rest) rfl (hsize.trans hml.symm) hdg2 #[.ref a, .ref u1, .int u2, .int u3] (R' := { frames := rm.frames + 1, cells := mc, slots := ms, locals := 8 + (maxL + 11) + rm.locals }) hmk₁ hckK₁ hlk₁ hpk
    (by show rm.frames + 1 + 1 ≤ R.frames; omega) (by rw [hml₁]; show 2 * 0 + (rest.map fun v => v.category).sum + (4 + 11) + (8 + (maxL + 11) + rm.locals) ≤ R.locals; omega) hf.1 hf.2
  have hK : Back l { frames := rm.frames + 1, cells := mc, slots := ms, locals := 8 + (maxL + 11) + rm.locals } p e (.java (F0 m pc ls rest) :: below) ((T.setVm vm₁).calling (F0 m pc ls rest) ⟨cell.cls, 1⟩ #[.ref a, .ref u1, .int u2, .int u3]) #[.ref a, .ref u1, .int u2, .int u3] y 3 8 (PreOf { frames := rm.frames + 1, cells := mc, slots := ms, locals := 8 + (maxL + 11) + rm.locals } mc ms Pc) (PostOf Qc mc ms free) :=
    back_of (bytes := bytes) (maxL := maxL) (ret := ret) hM hbl hrc hrs (Nat.le_refl _) (Nat.le_refl _) (fun w hw a' U hU => hws w hw a' U (State.WarmedH.trans hW₁ hU)) hcw (fun a' U hU => word_at (State.WarmedH.trans hW₁ hU) (Or.inl (by first | rfl | simp [Cond.onTables, Cond.keeps, Cond.steady])) hini)
  generalize hU : (((T.setVm vm₁).setTop (F0 m pc ls rest)).pushFrame (.java (entryFrame ⟨cell.cls, 1⟩ #[.ref a, .ref u1, .int u2, .int u3] ckK₁.maxLocals))) = U at Y₀ hin
  have hvm : U.vm = vm₁ := by rw [← hU]; rfl
  have hUh : U.heap = H := by rw [← hU, ← hT]; rfl
  have hnamedU : U.methodNamed? y = some t₁ := by
    have h9 : (s.setVm vm₁).methodNamed? y = some t₁ := by rw [State.methodNamed?_setVm hW₁.alike]; exact hmT
    rw [← hU]
    exact h9
  obtain ⟨v, ⟨U2, l2, c2, n2⟩, Y₁, ⟨g', mk', t2, L, e1, e2, hq, q1, hL, q2, q3⟩, hsteps⟩ := hK ⟨cell.cls, 1⟩ methk₁ ckK₁ ⟨U, [], 0, 0⟩ { method := ⟨cell.cls, 1⟩, pc := 3, locals := #[.val (.ref a), .val (.ref u1), .val (.int u2), .val (.int u3)], stack := [], locked := none } (.invokestatic 17) t₁ #[.ref u1, .int u2, .int u3] Y₀ rfl (by rw [hml₁]; rfl) (by rw [hbytes₁]; exact lcRII_3) (by show 0 ≤ 8; omega) hnamedU ⟨by show 0 + mc ≤ mc; omega, by show 0 + ms ≤ ms; omega, hPc U hUh (by rw [hvm]; exact hW₁)⟩
  dsimp only [Pt.U, Pt.locs, Pt.cells, Pt.slots] at Y₁ e1 e2 q1 q2 q3 hq hsteps
  subst q1; subst q2; subst q3
  obtain ⟨rr, rfl⟩ := hret _ _ _ _ hq
  obtain ⟨fs, hleave, -, hended, hWe, hsame⟩ := Y₁.leave (v := some (.long rr)) (fun h => by rw [hretk₁] at h; cases h) hlk₁
  obtain ⟨T', X', hW', -, hT2⟩ := X₁.outOf (g := F0 m pc ls rest) rfl hdg2 hended hWe hsame
  rw [Nat.zero_add, Nat.zero_add] at X'
  have hheap : T'.heap = U2.heap := by
    have h9 := congrArg State.heap hT2
    exact h9.symm
  have hvm2 : T'.vm = U2.vm := by
    have h9 := congrArg State.vm hT2
    exact h9.symm
  refine ⟨some (.long rr), _, t2, T', _, ?_, X', hL, hheap.trans e1, hvm2.trans e2, hq, ?_⟩
  · show U.heap = H
    exact hUh
  intro target htg
  refine hstep₁ _ fun acts => ?_
  have hgo := hin acts
  refine Steps.trans (s₂ := T'.setTop { F0 m pc ls rest with pc := pc + 5, stack := .long rr :: rest }) ?_ htg
  show Steps p.tables e below (doInvoke e ((T.setVm vm₁).setTop (F0 m pc ls rest)) acts ⟨cell.cls, 1⟩ #[.ref a, .ref u1, .int u2, .int u3]).1 _
  rw [hgo]
  have hT3 : T'.setTop { F0 m pc ls rest with pc := pc + 5, stack := .long rr :: rest } = U2.setFrames fs := hT2.symm
  rw [hT3]
  refine Steps.weaken (mid := [.java (F0 m pc ls rest)]) ?_
  have hloc : entryFrame ⟨cell.cls, 1⟩ #[.ref a, .ref u1, .int u2, .int u3] ckK₁.maxLocals = { method := ⟨cell.cls, 1⟩, pc := 0, locals := #[.val (.ref a), .val (.ref u1), .val (.int u2), .val (.int u3)], stack := [], locked := none } := by rw [hml₁]; rfl
  rw [hloc]
  have hs : U.topJava?.isSome := Y₀.here.top
  jvm_step Y₀.here [hx, hbytes₁, lcRII_0, Value.isRef]
  jvm_step Y₀.here [hx, hbytes₁, lcRII_1]
  jvm_step Y₀.here [hx, hbytes₁, lcRII_2]
  jvm_step Y₀.here [hx, hbytes₁, lcRII_3, invokestatic.wp_ready (e := e) (s := U) (m := t₁) (k := tk₁) (meth := methT) (args := [.ref u1, .int u2, .int u3]) (rest := [])
    (f := { method := ⟨cell.cls, 1⟩, pc := 3, locals := #[.val (.ref a), .val (.ref u1), .val (.int u2), .val (.int u3)], stack := [.int u3, .int u2, .ref u1], locked := none }) hs (by rw [← hU]; exact href) (by rw [hvm]; exact hready₁) (by rw [hvm]; exact htk₁) (by rw [hvm]; exact hmethT₁) (hsp _) hstaticT (by rw [heT₁]; exact hinitK) (by rw [hsigTI]; rfl) rfl]
  intro acts'
  rw [doInvoke_state]
  refine hsteps.trans ?_
  show Steps p.tables e (.java (F0 m pc ls rest) :: below) (U2.setTop { method := ⟨cell.cls, 1⟩, pc := 6, locals := #[.val (.ref a), .val (.ref u1), .val (.int u2), .val (.int u3)], stack := [.long rr], locked := none }) _
  jvm_step Y₁.here [Y₁.here.top, hx, hbytes₁, lcRII_6, (show U2.vm.method? ⟨cell.cls, 1⟩ = some methk₁ from Y₁.method'), hretk₁, narrow]
  intro acts''
  rw [hleave { method := ⟨cell.cls, 1⟩, pc := 6, locals := #[.val (.ref a), .val (.ref u1), .val (.int u2), .val (.int u3)], stack := [], locked := none } acts'' rfl rfl rfl]
  exact Steps.refl _
theorem gLam.at {G : gG} {x : MethodName} {pc index : Nat} {σ : Lambda.Shape} {a : Nat} (h : gLam G x pc index σ a) {s : State} (hs : G.2.2 s) :
    ∃ (m : MethodId) (kc : Class) (i0 p0 : Nat) (cell : Cell), s.methodNamed? x = some m ∧ s.vm.classes[m.cls]? = some kc ∧ kc.name = x.cls ∧ (kc.callSites.find? fun y => y.1 == m.idx && y.2.1 == pc) = some (i0, p0, .constant a) ∧
      G.1.2[a]? = some cell ∧ a < gN G ∧ cell.vm = .none ∧ Lambda.isMade { classPath := fun _ => none } s.vm m.cls σ cell.cls = true ∧ s.lambdaCallable σ cell.cls = true := by
  obtain ⟨s0, c, hh, hW, hat⟩ := h
  have hW := hW s hs
  obtain ⟨m, kS, cfS, i0, p0, lk, hm, hkS, -, -, -, hfind, hmade, hcall, hlk⟩ := State.lambdaAt?_spec hat
  obtain ⟨a0, cell, rfl, h1, -, hcell, rfl, hvm, -⟩ : ∃ (a0 : Addr) (cell : Cell), lk = .constant a0 ∧ some a = some a0 ∧ σ.captured = [] ∧ s0.heap[a0]? = some cell ∧ cell.cls = c ∧ cell.vm = .none ∧ cell.slots = #[] := by
    rcases hlk with h | ⟨-, h, -⟩
    · exact h
    · cases h
  cases h1
  obtain ⟨kc', hk', he⟩ := hW.alike.2.2 _ _ hkS
  obtain ⟨kS2, hkS2, hnm⟩ := className_of_methodNamed hm
  cases hkS.symm.trans hkS2
  have hm' : s.methodNamed? x = some m := by
    have h9 := State.methodNamed?_setVm (s := s0) hW.alike x
    rw [hm] at h9
    exact h9
  have hcall' : s.lambdaCallable σ cell.cls = true := by
    have hA := hW.alike
    simp only [State.lambdaCallable, hA.findClass, hA.assignable, hA.superclasses, hA.declaredIn] at hcall ⊢
    exact hcall
  have hlt : a < s0.heap.size := (Array.getElem?_eq_some_iff.mp hcell).1
  refine ⟨m, kc', i0, p0, cell, hm', hk', by rw [he]; exact hnm, by rw [he]; exact hfind, by rw [← hh]; exact hcell, ?_, hvm, Lambda.isMade_warmer hW hmade, hcall'⟩
  have h3 : gN G = s0.heap.size := by rw [hh]
  omega
theorem x_indy {G : gG} {p : Program} {l : Launch} {e : Env} {R : Room} {s : State} {m : MethodId} {args : Array Value} {below : List Frame} {meth : Method} {c : Code} {cc : ByteArray} {nL : Nat} {own : String} {ret : Option FieldType} {Q : State → Prop} {M : gM} {k n : Nat} {L : List (Option Value)} {x : MethodName} {index pc a : Nat} {st : List Value} {σ : Lambda.Shape} (C : gC G p e s m args meth c cc nL own ret) (hnm2 : s.methodNamed? x = some m) (hL : gLam G x pc index σ a) (hW : Nat.ble ((st.map fun v => v.category).sum + 3072) R.locals = true) (d : decode cc pc = .ok (.invokedynamic index, 5)) (kk : gX G p l e R s m args below meth c nL Q M k n (pc + 5) L (.ref a :: st)) : gX G p l e R s m args below meth c nL Q M k n pc L st := by
  obtain ⟨m', kc, i0, p0, cell, hm, hk, -, hfind, -⟩ := hL.at C.2.2.2.2.2.2.1
  cases hnm2.symm.trans hm
  intro H locs ls h1 h2 h3 T hT X
  obtain ⟨t, a1, b1⟩ := kk H locs ls h1 h2 h3 T hT X
  refine ⟨t, X.lambdaConstant C.2.1 (g := F0 m pc ls st) rfl (h3.1.trans C.2.2.2.1.symm) (by rw [C.2.2.1]; exact d) hk hfind ?_ a1, b1⟩
  rw [X.admits.platform]
  have h9 := Nat.le_of_ble_eq_true hW
  show 2 * 0 + (st.map fun v => v.category).sum + 3072 ≤ R.locals
  omega
theorem x_lamJJ {G : gG} {p : Program} {l : Launch} {e : Env} {R : Room} {s : State} {m : MethodId} {args : Array Value} {below : List Frame} {meth : Method} {c : Code} {cc : ByteArray} {nL : Nat} {own : String} {ret : Option FieldType} {Q : State → Prop} {M : gM} {k n : Nat} {L : List (Option Value)} {y xn x0 : MethodName} {bytes : ByteArray} {maxL mc ms index count pc spc sidx : Nat} {rm : Room} {f : Int64 → gM → Prop} {u1 u2 : Int64} {rest : List Value} {σ : Lambda.Shape} {a : Nat} (C : gC G p e s m args meth c cc nL own ret)
    (hL : gLam G x0 spc sidx σ a) (hF : lamH σ x0.cls lcJJ 5 .long) (hσ : σ.iface = xn.cls ∧ σ.name = xn.name ∧ σ.sam.toString = xn.desc ∧ σ.implClass = y.cls ∧ σ.implName = y.name ∧ σ.implDesc.toString = y.desc)
    (hMet : Met l y (ws_ y bytes maxL (some .long)) rm (gPre G M [.long u1, .long u2]) (gQ G (gJ f)) mc ms (gA G)) (mi : gMS y bytes maxL (some .long) 2) (ql : Cond.methodLink own index xn ∈ lw_all) (qd : Cond.declares xn ∈ lw_tbl) (qf : Cond.interfaceMethod xn.cls xn.cls xn.name xn.desc ∈ lw_tbl)
    (hyc : y.cls ≠ "java/lang/invoke/MethodHandle" ∧ y.cls ≠ "java/lang/invoke/VarHandle") (hxc : xn.cls ≠ "java/lang/invoke/MethodHandle" ∧ xn.cls ≠ "java/lang/invoke/VarHandle")
    (hsx : parseMethodDescriptor xn.desc = some ⟨[.long, .long], some .long⟩) (hsy : parseMethodDescriptor y.desc = some ⟨[.long, .long], some .long⟩)
    (hrm : rm.cells = mc ∧ rm.slots = ms) (hR : (Nat.ble (rm.frames + 2) R.frames && Nat.ble (8 + (5 + 11) + (8 + (maxL + 11) + rm.locals)) R.locals) = true) (hf : k + mc ≤ R.cells ∧ n + ms ≤ R.slots) (hW : Nat.ble (rest.map fun v => v.category).sum 8 = true) (d : decode cc pc = .ok (.invokeinterface index count, 5))
    (kk : ∀ (r : Int64) (M1 : gM), f r M1 → gX G p l e R s m args below meth c nL Q M1 (k + mc) (n + ms) (pc + 5) L (.long r :: rest)) : gX G p l e R s m args below meth c nL Q M k n pc L (.long u2 :: .long u1 :: .ref a :: rest) := by
  obtain ⟨m1, m2, m3, m4⟩ := mi
  rw [Bool.and_eq_true] at hR
  obtain ⟨m', kc, i0, p0, cell, hm, hk, hkn, -, hcell, hlt, hvm, hmade, hcan⟩ := hL.at C.2.2.2.2.2.2.1
  exact x_run5 (post := gJ f) (fun H locs ls h1 h2 h3 => lam_runJJ C.2.1 C.2.2.1 C.2.2.2.1 C.2.2.2.2.1 hMet (gPre.blind C.1) hrm.1 hrm.2 (pay_in C.hw (lw_meth m3)) List.mem_cons_self (C.hw _ m1) (C.hw _ m2) hyc (C.hw _ ql) (C.soft qd rfl) (C.soft qf rfl) hxc hF hσ hsx hsy
    ((h1.2.2 a hlt).trans hcell) hvm hk hkn hmade hcan (fun U hU hW => ⟨rfl, by rw [hU]; exact h1, C.1.warm hW C.2.2.2.2.2.2.1⟩) (fun a' st v t hq => by
      obtain ⟨⟨v', M1, e1, ⟨r, e2, -⟩, -⟩, -⟩ := hq
      exact ⟨r, (Outcome.returned.inj e1).trans e2⟩) h3.1 (Nat.le_of_ble_eq_true hW) d (Nat.le_of_ble_eq_true hR.1) (Nat.le_of_ble_eq_true hR.2) hf) (fun v M1 h => by obtain ⟨r, rfl, hr⟩ := h; exact kk r M1 hr)
theorem x_lamRII {G : gG} {p : Program} {l : Launch} {e : Env} {R : Room} {s : State} {m : MethodId} {args : Array Value} {below : List Frame} {meth : Method} {c : Code} {cc : ByteArray} {nL : Nat} {own : String} {ret : Option FieldType} {Q : State → Prop} {M : gM} {k n : Nat} {L : List (Option Value)} {y xn x0 : MethodName} {bytes : ByteArray} {maxL mc ms index count pc spc sidx : Nat} {rm : Room} {f : Int64 → gM → Prop} {u1 : Nat} {u2 u3 : Int32} {rest : List Value} {σ : Lambda.Shape} {a : Nat} (C : gC G p e s m args meth c cc nL own ret)
    (hL : gLam G x0 spc sidx σ a) (hF : lamH σ x0.cls lcRII 4 .long) (hσ : σ.iface = xn.cls ∧ σ.name = xn.name ∧ σ.sam.toString = xn.desc ∧ σ.implClass = y.cls ∧ σ.implName = y.name ∧ σ.implDesc.toString = y.desc)
    (hMet : Met l y (ws_ y bytes maxL (some .long)) rm (gPre G M [.ref u1, .int u2, .int u3]) (gQ G (gJ f)) mc ms (gA G)) (mi : gMS y bytes maxL (some .long) 3) (ql : Cond.methodLink own index xn ∈ lw_all) (qd : Cond.declares xn ∈ lw_tbl) (qf : Cond.interfaceMethod xn.cls xn.cls xn.name xn.desc ∈ lw_tbl)
    (hyc : y.cls ≠ "java/lang/invoke/MethodHandle" ∧ y.cls ≠ "java/lang/invoke/VarHandle") (hxc : xn.cls ≠ "java/lang/invoke/MethodHandle" ∧ xn.cls ≠ "java/lang/invoke/VarHandle")
    (hsx : parseMethodDescriptor xn.desc = some ⟨[.object "ExemptDesk$Sums", .int, .int], some .long⟩) (hsy : parseMethodDescriptor y.desc = some ⟨[.object "ExemptDesk$Sums", .int, .int], some .long⟩)
    (hrm : rm.cells = mc ∧ rm.slots = ms) (hR : (Nat.ble (rm.frames + 2) R.frames && Nat.ble (8 + (4 + 11) + (8 + (maxL + 11) + rm.locals)) R.locals) = true) (hf : k + mc ≤ R.cells ∧ n + ms ≤ R.slots) (hW : Nat.ble (rest.map fun v => v.category).sum 8 = true) (d : decode cc pc = .ok (.invokeinterface index count, 5))
    (kk : ∀ (r : Int64) (M1 : gM), f r M1 → gX G p l e R s m args below meth c nL Q M1 (k + mc) (n + ms) (pc + 5) L (.long r :: rest)) : gX G p l e R s m args below meth c nL Q M k n pc L (.int u3 :: .int u2 :: .ref u1 :: .ref a :: rest) := by
  obtain ⟨m1, m2, m3, m4⟩ := mi
  rw [Bool.and_eq_true] at hR
  obtain ⟨m', kc, i0, p0, cell, hm, hk, hkn, -, hcell, hlt, hvm, hmade, hcan⟩ := hL.at C.2.2.2.2.2.2.1
  exact x_run5 (post := gJ f) (fun H locs ls h1 h2 h3 => lam_runRII C.2.1 C.2.2.1 C.2.2.2.1 C.2.2.2.2.1 hMet (gPre.blind C.1) hrm.1 hrm.2 (pay_in C.hw (lw_meth m3)) List.mem_cons_self (C.hw _ m1) (C.hw _ m2) hyc (C.hw _ ql) (C.soft qd rfl) (C.soft qf rfl) hxc hF hσ hsx hsy
    ((h1.2.2 a hlt).trans hcell) hvm hk hkn hmade hcan (fun U hU hW => ⟨rfl, by rw [hU]; exact h1, C.1.warm hW C.2.2.2.2.2.2.1⟩) (fun a' st v t hq => by
      obtain ⟨⟨v', M1, e1, ⟨r, e2, -⟩, -⟩, -⟩ := hq
      exact ⟨r, (Outcome.returned.inj e1).trans e2⟩) h3.1 (Nat.le_of_ble_eq_true hW) d (Nat.le_of_ble_eq_true hR.1) (Nat.le_of_ble_eq_true hR.2) hf) (fun v M1 h => by obtain ⟨r, rfl, hr⟩ := h; exact kk r M1 hr)
