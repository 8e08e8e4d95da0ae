/-! LAYER 1, base: exceptions that are caught -/
set_option maxRecDepth 100000
/-- one row of the table, its class resolved now or before -/
theorem gb_row {Q : Handler → Pre} {E : CtlPost} {e : Env} {d : Bool} {acts : List Action} {U : State} {f : JFrame} {a : Addr} {y : ExceptionTableEntry} {ys : List ExceptionTableEntry} {cY : ClassId} {cell : Cell}
    (hcov : covers y f.pc = true) (h0 : y.catchType ≠ 0) (hl : U.vm.ClassLinks e.platform f.method.cls y.catchType cY) (hcell : U.heap[a]? = some cell) (hobj : ∀ k, cell.vm ≠ .statics k) (hk : ∃ k, U.vm.classes[cell.cls]? = some k) (hcY : ∃ k, U.vm.classes[cY]? = some k) :
    wp (findHandler.go f a (y :: ys)) Q E e d acts U ↔ (if U.vm.assignable cell.cls cY = true then Q (.found y.handlerPc) d acts (U.setVm (U.vm.noted f.method.cls y.catchType (.cls cY))) else wp (findHandler.go f a ys) Q E e d acts (U.setVm (U.vm.noted f.method.cls y.catchType (.cls cY)))) := by
  simp only [covers] at hcov
  obtain ⟨r1, r2⟩ := (resolveClass_links e.toSetting hl).op (op := VmOp.resolveClass f.method.cls y.catchType) rfl
  have hal : U.vm.Alike (U.vm.noted f.method.cls y.catchType (.cls cY)) := (Vm.Alike.refl U.vm).noted _ _ _
  obtain ⟨k1, hk1⟩ := hk
  obtain ⟨k2, hk2⟩ := hcY
  obtain ⟨k1', hk1', -⟩ := hal.2.2 _ _ hk1
  obtain ⟨k2', hk2', -⟩ := hal.2.2 _ _ hk2
  by_cases hfit : U.vm.assignable cell.cls cY = true
  · have hfit' : (U.vm.noted f.method.cls y.catchType (.cls cY)).assignable cell.cls cY = true := by rw [hal.assignable]; exact hfit
    rw [if_pos hfit]
    simp [findHandler.go, hcov, h0, r1, r2, hcell, hobj, hk1', hk2', hfit', VmOp.dirties, VmOp.acts]
  · have hfit' : (U.vm.noted f.method.cls y.catchType (.cls cY)).assignable cell.cls cY = false := by rw [hal.assignable]; simpa using hfit
    rw [if_neg hfit]
    simp [findHandler.go, hcov, h0, r1, r2, hcell, hobj, hk1', hk2', hfit', VmOp.dirties, VmOp.acts]
/-- the rows ahead of the one that catches pass it by -/
def gb_pass (pl : Platform) (s0 : State) (d : ClassId) (pc : Nat) (thrown : ClassId) (y : ExceptionTableEntry) : Prop := covers y pc = true ∧ y.catchType ≠ 0 ∧ ∃ c', s0.vm.ClassLinks pl d y.catchType c' ∧ s0.vm.assignable thrown c' = false
theorem gb_find {e : Env} {s0 : State} {f : JFrame} {a : Addr} {cell : Cell} (hobj : ∀ k, cell.vm ≠ .statics k) (hk0 : ∃ k, s0.vm.classes[cell.cls]? = some k) (en : ExceptionTableEntry) (post : List ExceptionTableEntry) (hx : covers en f.pc = true) (h0 : en.catchType ≠ 0) {cT : ClassId}
    (hl : s0.vm.ClassLinks e.platform f.method.cls en.catchType cT) (hfit : s0.vm.assignable cell.cls cT = true) : ∀ (pre : List ExceptionTableEntry) (U : State), s0.WarmedH U.vm → U.heap[a]? = some cell → (∀ y ∈ pre, gb_pass e.platform s0 f.method.cls f.pc cell.cls y) →
      ∃ vm', s0.WarmedH vm' ∧ ∀ (Q : Handler → Pre) (E : CtlPost) (d : Bool) (acts : List Action), wp (findHandler.go f a (pre ++ en :: post)) Q E e d acts U ↔ Q (.found en.handlerPc) d acts (U.setVm vm') := by
  obtain ⟨k0, hk0⟩ := hk0
  have step : ∀ (y : ExceptionTableEntry) (cY : ClassId) (U : State), s0.vm.ClassLinks e.platform f.method.cls y.catchType cY → s0.WarmedH U.vm → s0.WarmedH (U.vm.noted f.method.cls y.catchType (.cls cY)) ∧ U.vm.ClassLinks e.platform f.method.cls y.catchType cY ∧ (∃ k, U.vm.classes[cell.cls]? = some k) ∧ (∃ k, U.vm.classes[cY]? = some k) := by
    intro y cY U hly hW
    obtain ⟨dk, _, _, kt, hd, _, _, _, _, hkt, _, hopen⟩ := hly.here
    obtain ⟨k0', hk0', -⟩ := hW.alike.2.2 _ _ hk0
    obtain ⟨kt', hkt', -⟩ := hW.alike.2.2 _ _ hkt
    exact ⟨hW.noted hd hopen (State.rightAt_cls hly), hW.classLinks hly, ⟨k0', hk0'⟩, ⟨kt', hkt'⟩⟩
  intro pre
  induction pre with
  | nil =>
    intro U hW hcell _
    obtain ⟨w1, w2, w3, w4⟩ := step en cT U hl hW
    refine ⟨_, w1, fun Q E d acts => ?_⟩
    rw [List.nil_append, gb_row hx h0 w2 hcell hobj w3 w4, if_pos (by rw [hW.alike.assignable]; exact hfit)]
  | cons y ys ih =>
    intro U hW hcell hp
    obtain ⟨p1, p2, cY, p3, p4⟩ := hp y List.mem_cons_self
    obtain ⟨w1, w2, w3, w4⟩ := step y cY U p3 hW
    obtain ⟨vm', v1, v2⟩ := ih (U.setVm (U.vm.noted f.method.cls y.catchType (.cls cY))) w1 hcell (fun z hz => hp z (List.mem_cons_of_mem _ hz))
    refine ⟨vm', v1, fun Q E d acts => ?_⟩
    rw [List.cons_append, gb_row p1 p2 w2 hcell hobj w3 w4, if_neg (by rw [hW.alike.assignable, p4]; decide)]
    exact v2 Q E d acts
section GCH
variable {p : Program} {l : Launch} {e : Env} {R : Room} {s : State} {m : MethodId} {args : Array Value} {below : List Frame} {meth : Method} {c : Code} {H : Heap} {locs : List Loc} {cells slots : Nat} {Q : State → Prop}
variable {cc : ByteArray} {pc nL : Nat} {ls : Array Slot} {rest : List Value} {G : gG} {S0 S S2 : gm_S} {own : String} {ret : Option FieldType} {d d0 maxL len : Nat} {index : Nat} {C : String} {g : JFrame} {y : MethodName} {av : List Value} {ws : List Cond}
/-- into a handler of the method's own -/
theorem gb_catch {T : State} (X : Stand p l e R s m args below meth c T locs cells slots) (hown : s.vm.findClass own = some m.cls) {x : Addr} {cell : Cell} (hcell : T.heap[x]? = some cell) (hobj : cell.vm.isStatics = false) (hg : g.method = m)
    (pre : List ExceptionTableEntry) (en : ExceptionTableEntry) (post : List ExceptionTableEntry) (hsplit : c.exceptionTable.toList = pre ++ en :: post) (hx : covers en g.pc = true) (h0 : en.catchType ≠ 0) {nm thr : String} (hthr : s.vm.findClass thr = some cell.cls)
    (hlink : (Cond.classLink own en.catchType nm).before args s = true) (hcast : (Cond.castable thr nm).before args s = true)
    (hpre : ∀ z ∈ pre, covers z g.pc = true ∧ z.catchType ≠ 0 ∧ ∃ nm', (Cond.classLink own z.catchType nm').before args s = true ∧ va_Nc thr nm' s) :
    ∃ vm', Stand p l e R s m args below meth c (T.setVm vm') locs cells slots ∧ ∀ target, Steps p.tables e below ((T.setVm vm').setTop { g with pc := en.handlerPc, stack := [.ref x] }) target → Steps p.tables e below ((T.setTop g).pushFrame (.throwing x)) target := by
  have hpl : e.platform.magicAccessors = ({} : Platform).magicAccessors := by rw [X.admits.platform]
  obtain ⟨cT, hcT, hl⟩ := Cond.classLink_spec hown hlink e.platform hpl
  obtain ⟨c3, cT', w1, w2, w3⟩ := Cond.castable_spec hcast
  cases hthr.symm.trans w1
  cases hcT.symm.trans w2
  obtain ⟨dk, _, _, kt, hd, _, _, _, _, hkt, _, hopen⟩ := id hl.here
  have hk0 := Vm.classAt_of_assignable w3 ⟨kt, hkt⟩
  subst hg
  obtain ⟨vm', hW', hf⟩ := gb_find (e := e) (s0 := s) (f := g) (a := x) (VmData.ne_statics_of hobj) hk0 en post hx h0 hl w3 pre ((T.setTop g).pushFrame (.throwing x)) (by rw [Stand.throwing_vm]; exact X.warmed) (by rw [Stand.throwing_heap]; exact hcell)
    (fun z hz => by
      obtain ⟨z1, z2, nm', z3, cz, tz, z4, z5, z6⟩ := hpre z hz
      obtain ⟨cZ, hcZ, hlZ⟩ := Cond.classLink_spec hown z3 e.platform hpl
      cases hthr.symm.trans z4
      cases hcZ.symm.trans z5
      exact ⟨z1, z2, _, hlZ, z6⟩)
  refine ⟨vm', X.noted hW', fun target hrest => ?_⟩
  obtain ⟨hgo, hwi⟩ := X.here.throwing x (g := g)
  have hfind : ∀ (Q : Handler → Pre) (E : CtlPost) (d : Bool) (acts : List Action), wp (findHandler g x) Q E e d acts ((T.setTop g).pushFrame (.throwing x)) ↔ Q (.found en.handlerPc) d acts (((T.setTop g).pushFrame (.throwing x)).setVm vm') := by
    intro Q E d acts
    rw [W.findHandler_eq (meth := meth) (code := c) (by rw [Stand.throwing_vm]; exact X.method') X.code, hsplit]
    exact hf Q E d acts
  have hone : (stepThrowing e ((T.setTop g).pushFrame (.throwing x)) x (.java g :: T.frames.tail)).Is ((((T.setTop g).pushFrame (.throwing x)).setVm vm').setFrames (.java { g with pc := en.handlerPc, stack := [.ref x] } :: T.frames.tail)) [] := by
    simp only [stepThrowing, searchFrame, vmDo]
    generalize hr : Sem.go _ e false [] ((T.setTop g).pushFrame (.throwing x)) = res
    obtain ⟨as, rfl, ha⟩ := Sem.eq_ok_of hr (a := Handler.found en.handlerPc) (s' := ((T.setTop g).pushFrame (.throwing x)).setVm vm') (acts' := []) (by simp [hfind _ _ _ _])
    exact ⟨rfl, ha⟩
  refine Steps.head hgo hwi ?_
  rw [stepThread_throwing (frames_entered X.here.top _), hone.1]
  obtain ⟨g₀, hg0⟩ := Option.isSome_iff_exists.mp X.here.top
  obtain ⟨r, hr⟩ := State.topJava?_eq_some.mp hg0
  have hr' : (T.setVm vm').frames = .java g₀ :: r := hr
  rw [State.setTop_of_frames _ hr'] at hrest
  have hfin : (((T.setTop g).pushFrame (.throwing x)).setVm vm').setFrames (.java { g with pc := en.handlerPc, stack := [.ref x] } :: T.frames.tail) = (T.setVm vm').setFrames (.java { g with pc := en.handlerPc, stack := [.ref x] } :: r) := by
    rw [hr, State.pushFrame, State.setTop_of_frames _ hr, State.setFrames_setFrames]
    show (((T.setVm vm').setFrames _).setFrames _) = _
    rw [State.setFrames_setFrames]
    rfl
  rw [hfin]
  exact hrest
/-- the callee throws an object with the tag t, and it is caught here -/
theorem gr_callC {x t : Nat} (cx : gx_cx p l s m args meth c G own cc nL ret) (hr : gb_Raw p l e (gx_rm d0 S0) s m args below meth c H locs cells slots g len rest y av maxL) (hM : gx_Met l y ws d G S av (.threw x) S2) (hd : d + 1 ≤ d0) (hlo : maxL ≤ 41)
    (hws : ∀ w ∈ ws, ∀ (a' : Array Value) (U : State), s.WarmedH U.vm → w.before a' U = true) (hini : (Cond.initialized y.cls).before args s = true) (hI : gw_I G S0 S H locs cells slots)
    (hg : g.method = m) (hsize : g.locals.size = c.maxLocals) (hW : 2 * g.monitorRoom + (rest.map fun v => v.category).sum ≤ 8) (ht : gs_t S2 x = t) (h17 : 17 ≤ t ∧ t ≤ 19)
    (pre : List ExceptionTableEntry) (en : ExceptionTableEntry) (post : List ExceptionTableEntry) (hsplit : c.exceptionTable.toList = pre ++ en :: post) (hx : covers en g.pc = true) (h0 : en.catchType ≠ 0)
    (hlink : (Cond.classLink own en.catchType (gc_C t)).before args s = true) (hcast : (Cond.castable (gc_C t) (gc_C t)) ∈ lw_tbl)
    (hpre : ∀ z ∈ pre, covers z g.pc = true ∧ z.catchType ≠ 0 ∧ ∃ nm', (Cond.classLink own z.catchType nm').before args s = true ∧ va_Nc (gc_C t) nm' s)
    (kk : ∀ (H' : Heap) (locs' : List Loc) (cells' slots' : Nat), gw_I G S0 S2 H' locs' cells' slots' → W p l e (gx_rm d0 S0) s m args below meth c H' locs' cells' slots' Q { g with pc := en.handlerPc, stack := [va_rf (some x)] }) : W p l e (gx_rm d0 S0) s m args below meth c H locs cells slots Q g := by
  obtain ⟨hxx, hb, hml, hown, hts, hK, -⟩ := cx
  intro T hT X
  obtain ⟨vm₁, mk, ig, X₁, hn, hdg, hY, hstep⟩ := hr T hT X
  obtain ⟨T', L, mc, ms, X', hI', hst⟩ := gb_call X₁ hM hd hlo hws hY hini (by rw [← hT] at hI; exact hI) hK (g := { g with stack := rest }) hg hsize hdg hW hn
  obtain ⟨cell, q1, q2, q3, -⟩ := (hI'.1.2.2.2.2.2.2.2.2.1 x).2.2.2.2 t ht h17.1 h17.2
  obtain ⟨vm', X'', hgo⟩ := gb_catch (g := { g with stack := rest }) X' hown q1 (by rw [q3]; rfl) hg pre en post hsplit hx h0 (thr := gc_C t) (by rw [q2]; exact (hK.1 t).2.1) hlink (gk_w hK hcast rfl) hpre
  obtain ⟨t1, a1, b1⟩ := kk _ _ _ _ hI' (T'.setVm vm') rfl X''
  exact ⟨t1, hstep _ (fun acts => by rw [doInvoke_state]; exact hst.trans (hgo _ a1)), b1⟩
end GCH
