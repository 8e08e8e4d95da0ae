/-! LAYER 1, base: a row an instruction, over abstract states -/
set_option maxRecDepth 100000
/-- a field's link, own or a nest mate's; a method's likewise; a method's code -/
def gl_F (own : String) (index : Nat) (O nm ds : String) (args : Array Value) (s : State) : Prop := (Cond.fieldLink own index O nm ds).before args s = true ∨ ∃ host, (Cond.fieldLinkNest own index O nm ds host).before args s = true
def gl_M (own : String) (index : Nat) (y : MethodName) (args : Array Value) (s : State) : Prop := (Cond.methodLink own index y).before args s = true ∨ ∃ host, (Cond.methodLinkNest own index y host).before args s = true
def gl_C (y : MethodName) (maxL : Nat) (s : State) : Prop := ∃ mk meth c, s.methodNamed? y = some mk ∧ s.vm.method? mk = some meth ∧ meth.code = some c ∧ c.maxLocals = maxL ∧ parseMethodDescriptor y.desc = some meth.sig
theorem gl_C.code {y : MethodName} {b : ByteArray} {maxL : Nat} {ret : Option FieldType} {args : Array Value} {s : State} (h : (Cond.code y b maxL ret).before args s = true) : gl_C y maxL s := by
  obtain ⟨mk, hn⟩ := Cond.code_named h
  obtain ⟨meth, c, h1, h2, -, h4, -, -, -, h8⟩ := Cond.code_spec hn h
  exact ⟨mk, meth, c, hn, h1, h2, h4, h8⟩
theorem gl_C.codeW {y : MethodName} {b : ByteArray} {maxL : Nat} {ret : Option FieldType} {hh : List (Nat × Nat × Nat × Nat)} {args : Array Value} {s : State} (h : (Cond.codeWith y b maxL ret hh).before args s = true) : gl_C y maxL s := by
  obtain ⟨mk, meth, c, hn, h1, h2, -, h4, -, -, -, h8⟩ := Cond.codeWith_spec h
  exact ⟨mk, meth, c, hn, h1, h2, h4, h8⟩
theorem gl_cat (r : Option Nat) : (va_rf r).category = 1 := by cases r <;> rfl
theorem gl_fits {C : String} (r : Option Nat) : fits (.object C) (va_rf r) = true ∧ narrow (.object C) (va_rf r) = va_rf r := by cases r <;> exact ⟨rfl, rfl⟩
theorem gl_fitsA {t : FieldType} (r : Option Nat) : fits (.array t) (va_rf r) = true ∧ narrow (.array t) (va_rf r) = va_rf r := by cases r <;> exact ⟨rfl, rfl⟩
theorem gl_okC {v : Int32} (h : g_okC v = true) : fits .char (.int v) = true ∧ narrow .char (.int v) = .int v := by
  simp only [g_okC, Bool.and_eq_true, decide_eq_true_eq] at h
  obtain ⟨j, hj, rfl⟩ := nI_of2 (M := 65535) (n := 65535) (by decide) (Int32.not_lt.mpr h.1) h.2
  have := pk_charN (q := j) (by omega)
  exact ⟨this.2, this.1⟩
theorem gl_okZ {v : Int32} (h : g_okZ v = true) : fits .boolean (.int v) = true ∧ narrow .boolean (.int v) = .int v := by
  simp only [g_okZ, Bool.or_eq_true, decide_eq_true_eq] at h
  rcases h with rfl | rfl <;> exact ⟨by decide, rfl⟩
/-- the receiver's cell -/
theorem gr_recv {G : gG} {S : gm_S} {H : Heap} {s : State} {b t : Nat} (hK : gk_K G s) (hw : gw_W G S H) (ht : gs_t S b = t) (ho : gc_ob t = true) : ∃ cell : Cell, H[b]? = some cell ∧ cell.vm.isStatics = false ∧ s.vm.findClass (gc_C t) = some cell.cls := by
  obtain ⟨cell, h1, h2, h3, -⟩ := (hw.2.2.2.2.2.2.2.2.1 b).1 t ht ho
  exact ⟨cell, h1, by rw [h3]; rfl, by rw [h2]; exact (hK.1 t).2.1⟩
theorem gr_recvL {G : gG} {S : gm_S} {H : Heap} {s : State} {b : Nat} (hK : gk_K G s) (hw : gw_W G S H) (ht : gs_t S b = 16) : ∃ cell : Cell, H[b]? = some cell ∧ cell.vm.isStatics = false ∧ s.vm.findClass "java/util/ArrayList" = some cell.cls := by
  obtain ⟨mc, h⟩ := (hw.2.2.2.2.2.2.2.2.1 b).2.2.1 ht
  rcases h with ⟨-, -, cell, h1, h2, h3, -⟩ | ⟨-, -, -, ⟨cell, h1, h2, h3, -⟩, -⟩
  · exact ⟨cell, h1, by rw [h3]; rfl, by rw [h2]; exact (hK.1 16).2.1⟩
  · exact ⟨cell, h1, by rw [h3]; rfl, by rw [h2]; exact (hK.1 16).2.1⟩
theorem gr_recvM {G : gG} {S : gm_S} {H : Heap} {s : State} (hK : gk_K G s) (hw : gw_W G S H) (hf : gg_f G = true) : ∃ cell : Cell, H[gg_o G]? = some cell ∧ cell.vm.isStatics = false ∧ s.vm.findClass "NestChartModel" = some cell.cls := by
  obtain ⟨-, -, -, ⟨cell, h1, h2, h3, -⟩, -⟩ := hw.2.2.2.2.2.2.2.2.2 hf
  exact ⟨cell, h1, by rw [h3]; rfl, by rw [h2]; exact (hK.1 4).2.1⟩
section GR
variable {p : Program} {l : Launch} {e : Env} {R : Room} {s : State} {m : MethodId} {args : Array Value} {below : List Frame} {meth : Method} {c : Code} {H : Heap} {locs : List Loc} {cells slots : Nat} {Q : State → Prop}
variable {cc : ByteArray} {pc nL : Nat} {ls : Array Slot} {rest : List Value} {G : gG} {S0 S S2 : gm_S} {own : String} {ret : Option FieldType} {d0 : Nat} {g : JFrame} {y : MethodName} {As : List Value} {maxL index : Nat} {b : Nat} {C : String}
/-! calls: how an invocation is reached -/
theorem gb_rawV (cx : gx_cx p l s m args meth c G own cc nL ret) (hl : gl_M own index y args s) (hinst : (Cond.instanceMethod y).before args s = true) (hsel : (Cond.selects C y y).before args s = true) (hcd : gl_C y maxL s)
    (hy : (y.cls ≠ "java/lang/invoke/MethodHandle" ∧ y.cls ≠ "java/lang/invoke/VarHandle") ∧ (parseMethodDescriptor y.desc).map (fun d => d.parameters.length) = some As.length) (hB : ∃ cell : Cell, H[b]? = some cell ∧ cell.vm.isStatics = false ∧ s.vm.findClass C = some cell.cls)
    (hg : g.method = m) (hstack : g.stack = As.reverse ++ .ref b :: rest) (hdg : decode cc g.pc = .ok (.invokevirtual index, 3)) : gb_Raw p l e R s m args below meth c H locs cells slots g 3 rest y (.ref b :: As) maxL := by
  intro T hT X
  obtain ⟨hx, hb, -, hown, -⟩ := cx
  obtain ⟨mk, methM, cM, hnamed, hmethM, hcM, hlM, hsigM⟩ := hcd
  obtain ⟨mk', methM', hnamed', hmethM', hstM, habM⟩ := Cond.instanceMethod_spec hinst
  cases hnamed.symm.trans hnamed'
  cases hmethM.symm.trans hmethM'
  obtain ⟨cellB, hcell, hobj, hcls⟩ := hB
  obtain ⟨c2, r2, m2, q1, q2, q3, q4, kP, hkP, hkPi⟩ := Cond.selects_spec hsel
  cases hcls.symm.trans q1
  cases (State.methodFound?_of_named hnamed hy.1).symm.trans q2
  cases hnamed.symm.trans q3
  have hselP : selectMethod e.platform s.vm cellB.cls mk = .method mk := by rw [Launch.admits_selectMethod X.admits]; exact q4
  have hlen : As.length = methM.sig.parameters.length := by
    have h2 := hy.2
    rw [hsigM] at h2
    exact (Option.some.inj h2).symm
  have hdg' : decode c.code g.pc = .ok (.invokevirtual index, 3) := by rw [hb]; exact hdg
  rcases hl with hlink | ⟨host, hlink⟩
  · obtain ⟨vm₁, X₁, hstep₁⟩ := X.invokevirtual hx hown hlink hnamed hmethM hstM hkP hkPi hy.1 (a := b) (cell := cellB) (by rw [hT]; exact hcell)
      (fun z h => by rw [h] at hobj; cases hobj) hselP hmethM habM hkP hkPi (g := g) hg (argsL := As) (rest := rest) hlen hstack hdg'
    exact ⟨vm₁, mk, _, X₁, X₁.named hnamed, hdg', ⟨methM, cM, by rw [X₁.warmed.alike.method?]; exact hmethM, hcM, hlM⟩, hstep₁⟩
  · obtain ⟨vm₁, X₁, hstep₁⟩ := X.invokevirtualNest hx hown hlink hnamed hmethM hstM hkP hkPi hy.1 (a := b) (cell := cellB) (by rw [hT]; exact hcell)
      (fun z h => by rw [h] at hobj; cases hobj) hselP hmethM habM hkP hkPi (g := g) hg (argsL := As) (rest := rest) hlen hstack hdg'
    exact ⟨vm₁, mk, _, X₁, X₁.named hnamed, hdg', ⟨methM, cM, by rw [X₁.warmed.alike.method?]; exact hmethM, hcM, hlM⟩, hstep₁⟩
theorem gb_rawS (cx : gx_cx p l s m args meth c G own cc nL ret) (hl : gl_M own index y args s) (hstat : (Cond.static y).before args s = true) (hinit : (Cond.initialized y.cls).before args s = true) (hcd : gl_C y maxL s)
    (hy : (y.cls ≠ "java/lang/invoke/MethodHandle" ∧ y.cls ≠ "java/lang/invoke/VarHandle") ∧ (parseMethodDescriptor y.desc).map (fun d => d.parameters.length) = some As.length)
    (hg : g.method = m) (hstack : g.stack = As.reverse ++ rest) (hdg : decode cc g.pc = .ok (.invokestatic index, 3)) : gb_Raw p l e R s m args below meth c H locs cells slots g 3 rest y As maxL := by
  intro T hT X
  obtain ⟨hx, hb, -, hown, -⟩ := cx
  obtain ⟨mk, methM, cM, hnamed, hmethM, hcM, hlM, hsigM⟩ := hcd
  have hstatic : methM.isStatic = true := Cond.static_spec hnamed hmethM hstat
  obtain ⟨kP, hkP, -⟩ := className_of_methodNamed hnamed
  have hinitP : kP.init = .initialized := Cond.initialized_spec (findClass_of_methodNamed hnamed) hkP hinit
  have hlen : As.length = methM.sig.parameters.length := by
    have h2 := hy.2
    rw [hsigM] at h2
    exact (Option.some.inj h2).symm
  have hdg' : decode c.code g.pc = .ok (.invokestatic index, 3) := by rw [hb]; exact hdg
  rcases hl with hlink | ⟨host, hlink⟩
  · obtain ⟨vm₁, X₁, hstep₁⟩ := X.invokestatic hx hown hlink hnamed hmethM hstatic hkP hinitP hy.1 (g := g) hg (argsL := As) (rest := rest) hlen hstack hdg'
    exact ⟨vm₁, mk, _, X₁, X₁.named hnamed, hdg', ⟨methM, cM, by rw [X₁.warmed.alike.method?]; exact hmethM, hcM, hlM⟩, hstep₁⟩
  · obtain ⟨vm₁, X₁, hstep₁⟩ := X.invokestaticNest hx hown hlink hnamed hmethM hstatic hkP hinitP hy.1 (g := g) hg (argsL := As) (rest := rest) hlen hstack hdg'
    exact ⟨vm₁, mk, _, X₁, X₁.named hnamed, hdg', ⟨methM, cM, by rw [X₁.warmed.alike.method?]; exact hmethM, hcM, hlM⟩, hstep₁⟩
theorem gb_rawI {bytes : ByteArray} (cx : gx_cx p l s m args meth c G own cc nL ret) (hl : gl_M own index y args s) (hinst : (Cond.instanceMethod y).before args s = true) (hcode : (Cond.code y bytes maxL none).before args s = true)
    (hy : (y.cls ≠ "java/lang/invoke/MethodHandle" ∧ y.cls ≠ "java/lang/invoke/VarHandle") ∧ (parseMethodDescriptor y.desc).map (fun d => d.parameters.length) = some As.length) (hy1 : y.name = "<init>")
    (hg : g.method = m) (hstack : g.stack = As.reverse ++ .ref b :: rest) (hdg : decode cc g.pc = .ok (.invokespecial index, 3)) : gb_Raw p l e R s m args below meth c H locs cells slots g 3 rest y (.ref b :: As) maxL := by
  intro T hT X
  obtain ⟨hx, hb, -, hown, -⟩ := cx
  subst hg
  have hpl : e.platform.magicAccessors = ({} : Platform).magicAccessors := by rw [X.admits.platform]
  have hlen : ∀ sig, parseMethodDescriptor y.desc = some sig → As.length = sig.parameters.length := by
    intro sig h
    have h2 := hy.2
    rw [h] at h2
    exact (Option.some.inj h2).symm
  have hdg' : decode c.code g.pc = .ok (.invokespecial index, 3) := by rw [hb]; exact hdg
  rcases hl with hlink | ⟨host, hlink⟩
  · obtain ⟨mk, methM, cM, kP, vm₁, hnamed, hmethM, hcodeM, -, hlocalsM, -, hkP, -, hW₁, hstep₁⟩ := Steps.initColdArgs (e := e) X.here hx X.warmed hpl hown hy1 hy.1 hlink hinst hcode (f := g) rfl hlen hstack hdg'
    have X₁ := X.noted hW₁
    exact ⟨vm₁, mk, _, X₁, X₁.named hnamed, hdg', ⟨methM, cM, by rw [X₁.warmed.alike.method?]; exact hmethM, hcodeM, hlocalsM⟩, hstep₁⟩
  · obtain ⟨mk, methM, cM, kP, vm₁, hnamed, hmethM, hcodeM, -, hlocalsM, -, hkP, -, hW₁, hstep₁⟩ := Steps.initColdArgsNest (e := e) X.here hx X.warmed hpl hown hy1 hy.1 hlink hinst hcode (f := g) rfl hlen hstack hdg'
    have X₁ := X.noted hW₁
    exact ⟨vm₁, mk, _, X₁, X₁.named hnamed, hdg', ⟨methM, cM, by rw [X₁.warmed.alike.method?]; exact hmethM, hcodeM, hlocalsM⟩, hstep₁⟩
/-- the named method x is abstract (or another's): the receiver's class selects y -/
theorem gb_rawU {x : MethodName} {owner : String} (cx : gx_cx p l s m args meth c G own cc nL ret) (hlink : (Cond.methodLink own index x).before args s = true) (hsame : (Cond.sameMethod x.cls owner x.name x.desc).before args s = true) (hdecl : (Cond.declares ⟨owner, x.name, x.desc⟩).before args s = true)
    (hsel : (Cond.selects C x y).before args s = true) (hinst : (Cond.instanceMethod y).before args s = true) (hcd : gl_C y maxL s)
    (hy : (owner ≠ "java/lang/invoke/MethodHandle" ∧ owner ≠ "java/lang/invoke/VarHandle") ∧ (parseMethodDescriptor x.desc).map (fun d => d.parameters.length) = some As.length) (hB : ∃ cell : Cell, H[b]? = some cell ∧ cell.vm.isStatics = false ∧ s.vm.findClass C = some cell.cls)
    (hg : g.method = m) (hstack : g.stack = As.reverse ++ .ref b :: rest) (hdg : decode cc g.pc = .ok (.invokevirtual index, 3)) : gb_Raw p l e R s m args below meth c H locs cells slots g 3 rest y (.ref b :: As) maxL := by
  intro T hT X
  obtain ⟨hx, hb, -, hown, -⟩ := cx
  obtain ⟨mk, methM, cM, hnamed, hmethM, hcM, hlM, hsigM⟩ := hcd
  obtain ⟨mk', methM', hnamed', hmethM', -, habM⟩ := Cond.instanceMethod_spec hinst
  cases hnamed.symm.trans hnamed'
  cases hmethM.symm.trans hmethM'
  obtain ⟨r0, r, hn, hrm, hstR, hsigR⟩ := Cond.declares_spec hdecl
  obtain ⟨cn, ck, r1, hcn, hck, hni, hf, hn1⟩ := Cond.sameMethod_found hsame
  cases hn.symm.trans hn1
  obtain ⟨cellB, hcell, hobj, hcls⟩ := hB
  obtain ⟨c2, r2, m2, q1, q2, q3, q4, kP, hkP, hkPi⟩ := Cond.selects_spec hsel
  cases hcls.symm.trans q1
  cases hf.symm.trans q2
  cases hnamed.symm.trans q3
  have hselP : selectMethod e.platform s.vm cellB.cls r0 = .method mk := by rw [Launch.admits_selectMethod X.admits]; exact q4
  have hlen : As.length = r.sig.parameters.length := by
    have h2 := hy.2
    rw [hsigR] at h2
    exact (Option.some.inj h2).symm
  have hdg' : decode c.code g.pc = .ok (.invokevirtual index, 3) := by rw [hb]; exact hdg
  obtain ⟨vm₁, X₁, hstep₁⟩ := X.invokevirtualUp hx hown hlink hsame hy.1 hn hrm hstR (a := b) (cell := cellB) (by rw [hT]; exact hcell)
    (fun z h => by rw [h] at hobj; cases hobj) hselP hmethM habM hkP hkPi (g := g) hg (argsL := As) (rest := rest) hlen hstack hdg'
  exact ⟨vm₁, mk, _, X₁, X₁.named hnamed, hdg', ⟨methM, cM, by rw [X₁.warmed.alike.method?]; exact hmethM, hcM, hlM⟩, hstep₁⟩
theorem gb_rawF {x : MethodName} {cC : ClassId} {count : Nat} (cx : gx_cx p l s m args meth c G own cc nL ret) (hlink : (Cond.methodLink own index x).before args s = true) (hF : va_Fw C x y s)
    (hsel : (Cond.selects C x y).before args s = true) (hinst : (Cond.instanceMethod y).before args s = true) (hcd : gl_C y maxL s) (hat : ClassAt s C cC)
    (hy : (x.cls ≠ "java/lang/invoke/MethodHandle" ∧ x.cls ≠ "java/lang/invoke/VarHandle") ∧ (parseMethodDescriptor x.desc).map (fun d => d.parameters.length) = some As.length) (hB : ∃ cell : Cell, H[b]? = some cell ∧ cell.vm.isStatics = false ∧ s.vm.findClass C = some cell.cls)
    (hg : g.method = m) (hstack : g.stack = As.reverse ++ .ref b :: rest) (hdg : decode cc g.pc = .ok (.invokeinterface index count, 5)) : gb_Raw p l e R s m args below meth c H locs cells slots g 5 rest y (.ref b :: As) maxL := by
  intro T hT X
  obtain ⟨hx, hb, -, hown, -⟩ := cx
  obtain ⟨hdecl, hface, hpub, hunh, hcast⟩ := hF
  obtain ⟨mk, methM, cM, hnamed, hmethM, hcM, hlM, hsigM⟩ := hcd
  obtain ⟨mk', methM', hnamed', hmethM', -, habM⟩ := Cond.instanceMethod_spec hinst
  cases hnamed.symm.trans hnamed'
  cases hmethM.symm.trans hmethM'
  obtain ⟨r0, r, hn, hrm, hstR, hsigR⟩ := Cond.declares_spec hdecl
  obtain ⟨cL, kL, r1, hcL, hkL, hiL, hfoundL, hn1⟩ := Cond.interfaceMethod_spec hface
  cases hn.symm.trans hn1
  have hr0cls : r0.cls = cL := Option.some.inj ((findClass_of_methodNamed hn).symm.trans hcL)
  obtain ⟨hnameR, hdescR⟩ := name_of_methodNamed hn hrm
  obtain ⟨cellB, hcell, hobj, hcls⟩ := hB
  obtain ⟨hfc, kB, hkB, -⟩ := hat
  cases hfc.symm.trans hcls
  obtain ⟨c2, r2, m2, q1, q2, q3, q4, -⟩ := Cond.selects_spec hsel
  cases hcls.symm.trans q1
  cases hfoundL.symm.trans q2
  cases hnamed.symm.trans q3
  have hselP : selectMethod e.platform s.vm cellB.cls r0 = .method mk := by rw [Launch.admits_selectMethod X.admits]; exact q4
  have hpubM : hasFlag methM.accessFlags Acc.public_ = true := Cond.publicMethod_spec hnamed hmethM hpub
  have hway : ((cellB.cls :: s.vm.superclasses cellB.cls).any fun k => (declaredIn s.vm r.name r.desc k).any fun (_, z) => z.isPrivate || z.isStatic) = false := by
    rw [hnameR, hdescR]; exact Cond.unhidden_spec hcls hunh
  obtain ⟨c3, t3, w1, w2, w3⟩ := Cond.castable_spec hcast
  cases hcls.symm.trans w1
  cases hcL.symm.trans w2
  have hlen : As.length = r.sig.parameters.length := by
    have h2 := hy.2
    rw [hsigR] at h2
    exact (Option.some.inj h2).symm
  have hdg' : decode c.code g.pc = .ok (.invokeinterface index count, 5) := by rw [hb]; exact hdg
  obtain ⟨vm₁, X₁, hstep₁⟩ := X.invokeinterface hx hown hlink hn hrm hstR (by rw [hr0cls]; exact hkL) hiL hy.1 (a := b) (cell := cellB) (kcell := kB) (by rw [hT]; exact hcell)
    (fun z h => by rw [h] at hobj; cases hobj) hkB (by rw [hr0cls]; exact w3) hselP hmethM hway hpubM habM (g := g) hg (argsL := As) (rest := rest) hlen hstack hdg'
  exact ⟨vm₁, mk, _, X₁, X₁.named hnamed, hdg', ⟨methM, cM, by rw [X₁.warmed.alike.method?]; exact hmethM, hcM, hlM⟩, hstep₁⟩
/-! references on the stack and in locals -/
theorem gr_aload_n (hx : p.tables.exec = Jvm.exec) (hb : c.code = cc) {k : Fin 4} {i : Nat} (r : Option Nat) (hdg : decode cc pc = .ok (.aload_n k, 1)) (hi : (k : Nat) = i) (hl : ls[i]? = some (.val (va_rf r)))
    (kk : W p l e R s m args below meth c H locs cells slots Q (F0 m (pc + 1) ls (va_rf r :: rest))) : W p l e R s m args below meth c H locs cells slots Q (F0 m pc ls rest) := by
  cases r with
  | none => exact lv_aload_nN hx hb hdg hi hl kk
  | some a => exact lv_aload_n hx hb hdg hi hl kk
theorem gr_aload (hx : p.tables.exec = Jvm.exec) (hb : c.code = cc) {i : Nat} (r : Option Nat) (hdg : decode cc pc = .ok (.aload i, 2)) (hl : ls[i]? = some (.val (va_rf r)))
    (kk : W p l e R s m args below meth c H locs cells slots Q (F0 m (pc + 2) ls (va_rf r :: rest))) : W p l e R s m args below meth c H locs cells slots Q (F0 m pc ls rest) := by
  cases r with
  | none => exact lv_aloadN hx hb hdg hl kk
  | some a => exact lv_aload hx hb hdg hl kk
theorem gr_astore_n (hx : p.tables.exec = Jvm.exec) (hb : c.code = cc) {k : Fin 4} {i nL : Nat} {r : Option Nat} {lv lv' : List (Nat × Value)} (hdg : decode cc pc = .ok (.astore_n k, 1)) (hi : (k : Nat) = i) (h : lv_has ls nL lv) (hn : i < nL) (hl : (i, va_rf r) :: lv.filter (fun q => !(q.1 == i) && !(q.1 + 1 == i && q.2.category == 2)) = lv')
    (kk : ∀ ls' : Array Slot, lv_has ls' nL lv' → W p l e R s m args below meth c H locs cells slots Q (F0 m (pc + 1) ls' rest)) : W p l e R s m args below meth c H locs cells slots Q (F0 m pc ls (va_rf r :: rest)) := by
  cases r with
  | none => exact lv_astore_nN hx hb hdg hi h hn hl kk
  | some a => exact lv_astore_n hx hb hdg hi h hn hl kk
theorem gr_astore (hx : p.tables.exec = Jvm.exec) (hb : c.code = cc) {i nL : Nat} {r : Option Nat} {lv lv' : List (Nat × Value)} (hdg : decode cc pc = .ok (.astore i, 2)) (h : lv_has ls nL lv) (hn : i < nL) (hl : (i, va_rf r) :: lv.filter (fun q => !(q.1 == i) && !(q.1 + 1 == i && q.2.category == 2)) = lv')
    (kk : ∀ ls' : Array Slot, lv_has ls' nL lv' → W p l e R s m args below meth c H locs cells slots Q (F0 m (pc + 2) ls' rest)) : W p l e R s m args below meth c H locs cells slots Q (F0 m pc ls (va_rf r :: rest)) := by
  cases r with
  | none => exact lv_astoreN hx hb hdg h hn hl kk
  | some a => exact lv_astore hx hb hdg h hn hl kk
theorem gr_ifnull (hx : p.tables.exec = Jvm.exec) (hb : c.code = cc) {r : Option Nat} {off : Int} {tgt : Nat} (hdg : decode cc pc = .ok (.ifnull off, 3)) (ht : (pc : Int) + off = (tgt : Int)) (k1 : r = none → W p l e R s m args below meth c H locs cells slots Q (F0 m tgt ls rest)) (k2 : ¬ r = none → W p l e R s m args below meth c H locs cells slots Q (F0 m (pc + 3) ls rest)) : W p l e R s m args below meth c H locs cells slots Q (F0 m pc ls (va_rf r :: rest)) := by
  cases r with
  | none => exact lv_ifnullN hx hb hdg ht (k1 rfl)
  | some a => exact lv_ifnull hx hb hdg (k2 (fun h => by cases h))
theorem gr_ifnonnull (hx : p.tables.exec = Jvm.exec) (hb : c.code = cc) {r : Option Nat} {off : Int} {tgt : Nat} (hdg : decode cc pc = .ok (.ifnonnull off, 3)) (ht : (pc : Int) + off = (tgt : Int)) (k1 : ¬ r = none → W p l e R s m args below meth c H locs cells slots Q (F0 m tgt ls rest)) (k2 : r = none → W p l e R s m args below meth c H locs cells slots Q (F0 m (pc + 3) ls rest)) : W p l e R s m args below meth c H locs cells slots Q (F0 m pc ls (va_rf r :: rest)) := by
  cases r with
  | none => exact lv_ifnonnullN hx hb hdg (k2 rfl)
  | some a => exact lv_ifnonnull hx hb hdg ht (k1 (fun h => by cases h))
/-! fields -/
theorem gr_get (cx : gx_cx p l s m args meth c G own cc nL ret) (hI : gw_I G S0 S H locs cells slots) {a t : Nat} (k : Nat) (ht : gs_t S a = t) (ho : gc_ob t = true) (hk : k < gc_N t) {O nm ds : String} {fin : Bool} (hT : gc_T t k = (O, nm, ds, fin)) (hl : gl_F own index O nm ds args s)
    {v : Value} (hv : gm_V (gc_y t k) (S.1 (100 * t + k) a 0) = v) (hdg : decode cc pc = .ok (.getfield index, 3)) (kk : W p l e R s m args below meth c H locs cells slots Q (F0 m (pc + 3) ls (v :: rest))) : W p l e R s m args below meth c H locs cells slots Q (F0 m pc ls (.ref a :: rest)) := by
  obtain ⟨hx, hb, -, hown, hts, hK, -⟩ := cx
  obtain ⟨cell, q1, q2, q3, q4⟩ := (hI.1.2.2.2.2.2.2.2.2.1 a).1 t ht ho
  obtain ⟨hS, hfc, kC, hkC, hkind⟩ := hK.1 t
  obtain ⟨cf, kf, fi, f, hi, hsl⟩ := hS k hk
  have hst := (u_facts hfc hkC (u_lays hts (gc_in t) hk) hi).1
  rw [hT] at hi
  have hslot : cell.slots[f.slot]? = some v := by
    rw [hsl, q4 k hk]
    exact congrArg some hv
  rcases hl with hlink | ⟨host, hlink⟩
  · exact W.getf hx hb hown hlink hi hst q1 (by rw [q3]; exact fun h => by cases h) (v := v) hslot rfl rfl hdg kk
  · exact va_Wgetf hx hb hown hlink hi hst q1 (by rw [q3]; exact fun h => by cases h) (v := v) hslot rfl rfl hdg kk
theorem gr_getI (cx : gx_cx p l s m args meth c G own cc nL ret) (hI : gw_I G S0 S H locs cells slots) {t k : Nat} {r : Option Nat} {x : Int32} (hv : g_gI S r t k = some x) (ho : (gc_ob t && decide (k < gc_N t)) = true) (hy : ∀ v, gm_V (gc_y t k) v = .int (gm_I v)) {O nm ds : String} {fin : Bool} (hT : gc_T t k = (O, nm, ds, fin)) (hl : gl_F own index O nm ds args s)
    (hdg : decode cc pc = .ok (.getfield index, 3)) (kk : W p l e R s m args below meth c H locs cells slots Q (F0 m (pc + 3) ls (.int x :: rest))) : W p l e R s m args below meth c H locs cells slots Q (F0 m pc ls (va_rf r :: rest)) := by
  obtain ⟨a, ha, hx⟩ := g_map hv
  obtain ⟨rfl, ht⟩ := g_at_s ha
  simp only [Bool.and_eq_true, decide_eq_true_eq] at ho
  exact gr_get cx hI k ht ho.1 ho.2 hT hl (by rw [hy, hx]) hdg kk
theorem gr_getR (cx : gx_cx p l s m args meth c G own cc nL ret) (hI : gw_I G S0 S H locs cells slots) {t k : Nat} {r x : Option Nat} (hv : g_gR S r t k = some x) (ho : (gc_ob t && decide (k < gc_N t)) = true) (hy : ∀ v, gm_V (gc_y t k) v = va_rf (gm_R v)) {O nm ds : String} {fin : Bool} (hT : gc_T t k = (O, nm, ds, fin)) (hl : gl_F own index O nm ds args s)
    (hdg : decode cc pc = .ok (.getfield index, 3)) (kk : W p l e R s m args below meth c H locs cells slots Q (F0 m (pc + 3) ls (va_rf x :: rest))) : W p l e R s m args below meth c H locs cells slots Q (F0 m pc ls (va_rf r :: rest)) := by
  obtain ⟨a, ha, hx⟩ := g_map hv
  obtain ⟨rfl, ht⟩ := g_at_s ha
  simp only [Bool.and_eq_true, decide_eq_true_eq] at ho
  exact gr_get cx hI k ht ho.1 ho.2 hT hl (by rw [hy, hx]) hdg kk
theorem gr_getD (cx : gx_cx p l s m args meth c G own cc nL ret) (hI : gw_I G S0 S H locs cells slots) {t k : Nat} {r : Option Nat} {x : UInt64} (hv : g_gD S r t k = some x) (ho : (gc_ob t && decide (k < gc_N t)) = true) (hy : ∀ v, gm_V (gc_y t k) v = .double (gm_D v)) {O nm ds : String} {fin : Bool} (hT : gc_T t k = (O, nm, ds, fin)) (hl : gl_F own index O nm ds args s)
    (hdg : decode cc pc = .ok (.getfield index, 3)) (kk : W p l e R s m args below meth c H locs cells slots Q (F0 m (pc + 3) ls (.double x :: rest))) : W p l e R s m args below meth c H locs cells slots Q (F0 m pc ls (va_rf r :: rest)) := by
  obtain ⟨a, ha, hx⟩ := g_map hv
  obtain ⟨rfl, ht⟩ := g_at_s ha
  simp only [Bool.and_eq_true, decide_eq_true_eq] at ho
  exact gr_get cx hI k ht ho.1 ho.2 hT hl (by rw [hy, hx]) hdg kk
theorem gr_apart {G : gG} {s : State} {args : Array Value} (hts : ∀ w ∈ lw_all, w.before args s = true) (hK : gk_K G s) (t : Nat) : ∀ x y, x < gc_N t → y < gc_N t → x ≠ y → gg_I G t x ≠ gg_I G t y := by
  intro x y hx hy hne
  obtain ⟨hS, -⟩ := hK.1 t
  obtain ⟨_, _, _, fa, hia, ea⟩ := hS x hx
  obtain ⟨_, _, _, fb, hib, eb⟩ := hS y hy
  rw [← ea, ← eb]
  refine u_apart (u_lays hts (gc_in t) hx) (u_lays hts (gc_in t) hy) hia hib ?_
  rw [(State.fieldFound?_type hia (gc_yok t x hx)).1, (State.fieldFound?_type hib (gc_yok t y hy)).1]
  exact gc_nm t x hx y hy hne
/-- a store into an object's field: the heap's side -/
theorem gr_put0 (cx : gx_cx p l s m args meth c G own cc nL ret) {a t : Nat} {V : Nat → Value} (hob : t_OB a (gg_C G t) (gc_N t) (gg_I G t) H V) (k : Nat) (hk : k < gc_N t) {O nm ds : String} {fin : Bool} (hT : gc_T t k = (O, nm, ds, fin)) (hl : gl_F own index O nm ds args s) (hfin : fin = false ∨ (meth.name = "<init>" ∧ O = own))
    {v : Value} (hn : narrow (gc_y t k) v = v) (hfit : fits (gc_y t k) v = true) (hdg : decode cc pc = .ok (.putfield index, 3))
    (kk : ∀ (H' : Heap) (i : Nat), H'.size = H.size → (∀ q, q ≠ a → H'[q]? = H[q]?) → t_OB a (gg_C G t) (gc_N t) (gg_I G t) H' (updV V k v) → W p l e R s m args below meth c H' (locs ++ [⟨a, i⟩]) cells slots Q (F0 m (pc + 3) ls rest)) : W p l e R s m args below meth c H locs cells slots Q (F0 m pc ls (v :: .ref a :: rest)) := by
  obtain ⟨hx, hb, -, hown, hts, hK, -⟩ := cx
  have hap := gr_apart hts hK t
  obtain ⟨cell, q1, q2, q3, q4⟩ := hob
  obtain ⟨hS, hfc, kC, hkC, hkind⟩ := hK.1 t
  obtain ⟨cf, kf, fi, f, hi, hsl⟩ := hS k hk
  have hlays := u_lays hts (gc_in t) hk
  have hst := (u_facts hfc hkC hlays hi).1
  have h6 := u_fits hfc hkC hkind hlays hi (gc_yok t k hk) hn hfit
  have hfin' : hasFlag f.accessFlags Acc.final = false ∨ (m.cls = cf ∧ meth.name = "<init>") := by
    have hlay := hts _ (gc_in t _ (u_in_lay hk))
    unfold u_lay at hlay
    rcases hfin with hf | ⟨hf1, hf2⟩
    · rw [hT, hf] at hlay
      rw [if_neg (show ¬ (false = true) from by decide)] at hlay
      rw [hT] at hi
      obtain ⟨c1, k1, cf', kf', fi', fd', r1, r2, hi', -, hfn, -⟩ := Cond.lays_spec hlay
      cases hi.symm.trans hi'
      exact Or.inl hfn
    · by_cases hfb : (gc_T t k).2.2.2 = true
      · rw [if_pos hfb] at hlay
        refine Or.inr ⟨?_, hf1⟩
        obtain ⟨_, _, c', _, _, _, -, -, hf', -, -, -, hown2, -⟩ := Cond.laysFinal_spec hlay
        have e1 : c' = cf := by have := hi.symm.trans hf'; simp at this; exact this.1.symm
        rw [hT] at hown2
        have hown2 : s.vm.findClass O = some c' := hown2
        rw [hf2] at hown2
        rw [← e1]; exact Option.some.inj (hown.symm.trans hown2)
      · rw [if_neg hfb] at hlay
        obtain ⟨c1, k1, cf', kf', fi', fd', r1, r2, hi', -, hfn, -⟩ := Cond.lays_spec hlay
        cases hi.symm.trans hi'
        exact Or.inl hfn
  rw [hT] at hi
  have ha : a < H.size := (Array.getElem?_eq_some_iff.mp q1).1
  have hlt : f.slot < cell.slots.size := by rw [hsl]; exact k2_hasslot (q4 k hk)
  have fin : W p l e R s m args below meth c (H.setIfInBounds a (cell.setSlot f.slot v)) (locs ++ [⟨a, f.slot⟩]) cells slots Q (F0 m (pc + 3) ls rest) := by
    refine kk _ _ (by simp) (fun q hq => by simp [Array.getElem?_setIfInBounds, Ne.symm hq]) ⟨cell.setSlot f.slot v, (by simp [Array.getElem?_setIfInBounds, ha]), q2, q3, ?_⟩
    rw [hsl]
    exact t_set q4 hap hk v
  rcases hl with hlink | ⟨host, hlink⟩
  · exact W.putf hx hb hown hlink hi hst hfin' q1 (by rw [q3]; exact fun h => by cases h) hlt h6.1 (by rw [q3, q2]; exact h6.2) rfl rfl hdg fin
  · exact va_Wputf hx hb hown hlink hi hst hfin' q1 (by rw [q3]; exact fun h => by cases h) hlt h6.1 (by rw [q3, q2]; exact h6.2) rfl rfl hdg fin
theorem gr_fput (cx : gx_cx p l s m args meth c G own cc nL ret) (hI : gw_I G S0 S H locs cells slots) {a t : Nat} (k : Nat) (ht : gs_t S a = t) (ho : gc_ob t = true) (hk : k < gc_N t) {O nm ds : String} {fin : Bool} (hT : gc_T t k = (O, nm, ds, fin)) (hl : gl_F own index O nm ds args s) (hfin : fin = false ∨ (meth.name = "<init>" ∧ O = own))
    {v : Value} (hn : narrow (gc_y t k) v = v) (hfit : fits (gc_y t k) v = true) (hv : gm_V (gc_y t k) v = v) (hdg : decode cc pc = .ok (.putfield index, 3))
    (kk : ∀ (H' : Heap) (locs' : List Loc), gw_I G S0 (gs_put S (100 * t + k) a 0 v) H' locs' cells slots → W p l e R s m args below meth c H' locs' cells slots Q (F0 m (pc + 3) ls rest)) : W p l e R s m args below meth c H locs cells slots Q (F0 m pc ls (v :: .ref a :: rest)) := by
  obtain ⟨hw, hloc, hc1, hk1⟩ := hI
  have ha : gs_t S a ≠ 0 := by rw [ht]; intro z; rw [z] at ho; exact absurd ho (by decide)
  have hz := hw.2.2.2.2.2.2.1 a ha
  have htt : gs_t (gs_put S (100 * t + k) a 0 v) a = t := by
    show gm_N (gm_st S.1 (100 * t + k) a 0 v 0 a 0) = t
    rw [gm_st_F (by intro z; have : t = 0 := by omega
                    rw [this] at ho; exact absurd ho (by decide))]
    exact ht
  refine gr_put0 cx ((hw.2.2.2.2.2.2.2.2.1 a).1 t ht ho) k hk hT hl hfin hn hfit hdg (fun H' i hsz hq hob => ?_)
  refine kk H' _ ⟨hw.one (a := a) rfl (fun _ _ => rfl) (fun F b i hb => gm_st_a hb) (Or.inl (by rw [htt, ht])) ha (by rw [ht]; intro z; rw [z] at ho; exact absurd ho (by decide)) (by rw [ht]; intro z; rw [z] at ho; exact absurd ho (by decide)) hsz hq (fun cell hcl => ?_) ?_, fun q hq' => ?_, hc1, hk1⟩
  · obtain ⟨cell', r1, r2, r3, -⟩ := hob
    rw [r1] at hcl
    cases hcl
    exact r3
  · refine ⟨fun t' e o => ?_, fun t' e o => ?_, fun e => ?_, fun e => ?_, fun t' e o1 o2 => ?_⟩
    · rw [htt] at e
      subst e
      refine hob.to (fun j hj => ?_)
      by_cases ej : j = k
      · subst ej
        simp only [updV, if_pos]
        show v = gm_V (gc_y t j) (gm_st S.1 (100 * t + j) a 0 v (100 * t + j) a 0)
        rw [gm_st_e, hv]
      · simp only [updV, if_neg ej]
        show gm_V (gc_y t j) (S.1 (100 * t + j) a 0) = gm_V (gc_y t j) (gm_st S.1 (100 * t + k) a 0 v (100 * t + j) a 0)
        rw [gm_st_F (by omega)]
    · rw [htt] at e
      rw [e] at ho
      exact absurd ho (by
        have : t' = 0 ∨ t' = 1 ∨ t' = 2 ∨ t' = 3 ∨ t' = 4 ∨ t' = 5 := by omega
        rcases this with rfl | rfl | rfl | rfl | rfl | rfl <;> decide)
    · rw [htt] at e; rw [e] at ho; exact absurd ho (by decide)
    · rw [htt] at e; rw [e] at ho; exact absurd ho (by decide)
    · rw [htt] at e; rw [e] at ho
      exact absurd ho (by
        have : t' = 17 ∨ t' = 18 ∨ t' = 19 := by omega
        rcases this with rfl | rfl | rfl <;> decide)
  · rcases List.mem_append.mp hq' with h | h
    · exact hloc q h
    · rw [List.mem_singleton.mp h]; exact hz.1
end GR
