/-! LAYER 1, base: contracts by functions, and calls -/
set_option maxRecDepth 100000
/-- words that don't ride in the lists, but stay true all the same -/
def gk_x : Cond → Bool
  | .fieldLinkNest .. => true
  | .methodLinkNest .. => true
  | .declares _ => true
  | .castable .. => true
  | _ => false
theorem gk_x_warm {w : Cond} (hx : gk_x w = true) {s U : State} (hW : s.WarmedH U.vm) (h : va_Nw w s) : va_Nw w U := by
  cases w <;> first | (exact absurd (show false = true from hx) (by decide)) | exact va_Nw.warmF hW h | exact va_Nw.warmM hW h | exact va_Nw.warmD hW h | exact va_Nw.warmC hW h
def gk_mach (nm d : String) : MethodName := ⟨"NestChart$Machine", nm, d⟩
def gk_run (nm d : String) : MethodName := ⟨"NestChart$Run", nm, d⟩
def gk_faces : List (String × String) := [("get", "(I)D"), ("set", "(ID)V"), ("raise", "(C)V"), ("send", "(CI)V"), ("isActive", "(I)Z")]
/-- a static field that holds a reference or null, its cell as it was at the law's start -/
def gk_LS (C n d : String) (U : State) (H : Heap) : Prop := ∃ c k i f a cell v, U.vm.findClass C = some c ∧ U.fieldFound? C n d = some (c, k, i, f) ∧ f.isStatic = true ∧ k.statics = some a ∧ H[a]? = some cell ∧ cell.vm.isStatics = true ∧ cell.cls = c ∧ f.slot < cell.slots.size ∧ k.staticTypes[f.slot]? = some f.type ∧ cell.slots[f.slot]? = some v ∧ (v = .null ∨ ∃ r, v = .ref r)
theorem gk_LS.moved {C n d : String} {u U : State} {H : Heap} (hv : u.vm.Alike U.vm) (h : gk_LS C n d u H) : gk_LS C n d U H := by
  obtain ⟨c, k, i, f, a, cell, v, h1, h2, h3, h4, h5, h6, h7, h8, h9, h10⟩ := h
  obtain ⟨k', hi', he⟩ := State.fieldFound?_setVm hv h2
  exact ⟨c, k', i, f, a, cell, v, by rw [hv.findClass]; exact h1, hi', h3, by rw [he]; exact h4, h5, h6, h7, h8, by rw [he]; exact h9, h10⟩
theorem gk_LS.kept {C n d : String} {U : State} {H H' : Heap} (h : gk_LS C n d U H) (hq : ∀ q, q < H.size → H'[q]? = H[q]?) : gk_LS C n d U H' := by
  obtain ⟨c, k, i, f, a, cell, v, h1, h2, h3, h4, h5, h6⟩ := h
  exact ⟨c, k, i, f, a, cell, v, h1, h2, h3, h4, by rw [hq a (Array.getElem?_eq_some_iff.mp h5).1]; exact h5, h6⟩
theorem gk_LS.lays {C n d : String} {s : State} {args : Array Value} (h : gk_LS C n d s s.heap) : (Cond.laysStatic C n d).before args s = true ∧ (Cond.isRef (.static C n d)).before args s = true := by
  obtain ⟨c, k, i, f, a, cell, v, h1, h2, h3, h4, h5, h6, h7, h8, h9, h10, h11⟩ := h
  constructor
  · simp [Cond.before, Cond.holds, Cond.value, h1, h2, h3, h4, h5, h6, h7, h8, h9]
  · have hev : (Term.static C n d).eval args s none [] s = some v := by
      simp [Term.eval, State.fieldNamed?, h2, h3, h4, h5, h6, h10]
    rcases h11 with rfl | ⟨r, rfl⟩ <;> simp [Cond.before, Cond.holds, Cond.value, hev]
/-- what a walk knows of the tables, beside the words -/
def gk_K (G : gG) (U : State) : Prop :=
  (∀ t, u_Kn U (gc_C t) (gc_T t) (gc_N t) (gg_C G t) (gg_I G t)) ∧ (∀ t, t < 6 → ArrOfT U (gg_A G t) (ga_ty t) ∧ va_RA U (gg_A G t) (ga_ty t)) ∧
  (∀ w ∈ lw_tbl, gk_x w = true → va_Nw w U) ∧ (va_AO "java/lang/Object" U ∧ va_Mi "[Ljava/lang/Object;" (gg_A G 6) U) ∧ (∀ q ∈ gk_faces, va_Fw "NestChart$Run" (gk_mach q.1 q.2) (gk_run q.1 q.2) U) ∧
  va_Z "java/util/ArrayList" "DEFAULTCAPACITY_EMPTY_ELEMENTDATA" "[Ljava/lang/Object;" (.ref (gg_e G)) (fun q => gg_z G ≤ q) U (gg_H G) ∧
  (∃ cell, (gg_H G)[gg_e G]? = some cell ∧ cell.cls = gg_A G 5 ∧ cell.slots.size.toInt32 = 0 ∧ cell.vm ≠ .unknown ∧ cell.vm.isStatics = false ∧ U.isArrayOf cell (.object "java/lang/Object")) ∧
  gk_LS "java/lang/Throwable" "UNASSIGNED_STACK" "[Ljava/lang/StackTraceElement;" U (gg_H G) ∧ gk_LS "java/lang/Throwable" "SUPPRESSED_SENTINEL" "Ljava/util/List;" U (gg_H G) ∧
  va_Nc "java/lang/UnsupportedOperationException" "java/lang/IllegalArgumentException" U ∧ va_Nc "java/lang/UnsupportedOperationException" "java/lang/IllegalStateException" U ∧ va_Nc "java/lang/IllegalStateException" "java/lang/IllegalArgumentException" U
theorem gk_K.warm {G : gG} {s U : State} (hW : s.WarmedH U.vm) (h : gk_K G s) : gk_K G U := by
  obtain ⟨h1, h2, h3, h4, h5, h6, ⟨cell, h7, h8, h9, h10, h11, h12⟩, h13, h14, h15, h16, h17⟩ := h
  have hv := hW.alike
  exact ⟨fun t => u_Kn_moved hv (h1 t), fun t ht => ⟨arrOfT_moved hv (h2 t ht).1, (h2 t ht).2.moved hv⟩, fun w hw hx => gk_x_warm hx hW (h3 w hw hx), ⟨h4.1.moved hv, h4.2.moved hv⟩,
    fun q hq => va_Fw.moved (show ("NestChart$Machine" : String) ≠ "java/lang/invoke/MethodHandle" ∧ ("NestChart$Machine" : String) ≠ "java/lang/invoke/VarHandle" from by decide) hv (h5 q hq), h6.moved hv, ⟨cell, h7, h8, h9, h10, h11, State.isArrayOf_alike hv h12⟩, h13.moved hv, h14.moved hv, h15.moved hv, h16.moved hv, h17.moved hv⟩
theorem gk_K.of_vm {G : gG} {s U : State} (hv : s.vm = U.vm) (h : gk_K G s) : gk_K G U := by
  obtain ⟨h1, h2, h3, h4, h5, h6, ⟨cell, h7, h8, h9, h10, h11, h12⟩, h13, h14, h15, h16, h17⟩ := h
  have ha : s.vm.Alike U.vm := by rw [hv]; exact Vm.Alike.refl _
  exact ⟨fun t => u_Kn_moved ha (h1 t), fun t ht => ⟨arrOfT_moved ha (h2 t ht).1, (h2 t ht).2.moved ha⟩, fun w hw hx => by
    have := h3 w hw hx
    cases w <;> first | (exact absurd (show false = true from hx) (by decide)) | exact va_Nw.same rfl hv this, ⟨h4.1.moved ha, h4.2.moved ha⟩,
    fun q hq => va_Fw.moved (show ("NestChart$Machine" : String) ≠ "java/lang/invoke/MethodHandle" ∧ ("NestChart$Machine" : String) ≠ "java/lang/invoke/VarHandle" from by decide) ha (h5 q hq), h6.moved ha, ⟨cell, h7, h8, h9, h10, h11, State.isArrayOf_alike ha h12⟩, h13.moved ha, h14.moved ha, h15.moved ha, h16.moved ha, h17.moved ha⟩
/-- such a word, at the walk's own arguments -/
theorem gk_w {G : gG} {s : State} {args : Array Value} (h : gk_K G s) {w : Cond} (hw : w ∈ lw_tbl) (hx : gk_x w = true) : w.before args s = true := by
  have := h.2.2.1 w hw hx
  cases w <;> first | (exact absurd (show false = true from hx) (by decide)) | exact va_Nw.use rfl this
/-- a contract's room: d frames, all cells and slots that are left -/
def gx_rm (d : Nat) (S : gm_S) : Room := { frames := d, cells := 600096 - gs_c S, slots := 7301386 - gs_k S, locals := 60 * d }
def gx_P (G : gG) (S : gm_S) (av : List Value) : Array Value → State → Prop := fun v U => v = av.toArray ∧ gw_W G S U.heap ∧ gk_K G U
/-- what has been done since s: from S0 to S2 -/
def gx_E (G : gG) (S0 S2 : gm_S) (s t : State) : Prop := gw_W G S2 t.heap ∧ ∃ (L : List Loc) (mc ms : Nat), gs_c S0 + mc = gs_c S2 ∧ gs_k S0 + ms = gs_k S2 ∧ s.WarmedH t.vm ∧ s.sameButNew ({ t with vm := s.vm } : State) L mc ms ∧ ∀ q ∈ L, gg_z G ≤ q.base
def gx_Met (l : Launch) (y : MethodName) (ws : List Cond) (d : Nat) (G : gG) (S : gm_S) (av : List Value) (o : Outcome) (S2 : gm_S) : Prop :=
  MetFree l y (headSpec ws (gx_rm d S)) (gx_P G S av) (fun _ _ _ _ _ => True) (fun _ st oc t => oc = o ∧ gx_E G S S2 st t)
/-- a walk's end -/
def gx_MQ (below : List Frame) (G : gG) (S0 S2 : gm_S) (o : Outcome) (s : State) : State → Prop := fun t => t.status = .running ∧ Ended t below o ∧ gx_E G S0 S2 s t
/-- what a walk has in hand all through -/
def gx_cx (p : Program) (l : Launch) (s : State) (m : MethodId) (args : Array Value) (meth : Method) (c : Code) (G : gG) (own : String) (cc : ByteArray) (nL : Nat) (ret : Option FieldType) : Prop :=
  p.tables.exec = Jvm.exec ∧ c.code = cc ∧ c.maxLocals = nL ∧ s.vm.findClass own = some m.cls ∧ (∀ w ∈ lw_all, w.before args s = true) ∧ gk_K G s ∧ meth.sig.returnType = ret ∧ meth.locks = false ∧ l.flags = flags0
theorem gx_of {l : Launch} {y : MethodName} {cc : ByteArray} {nL : Nat} {ret : Option FieldType} {d : Nat} {G : gG} {S S2 : gm_S} {av : List Value} {o : Outcome} (hfl : l.flags = flags0) (hy : plainName y.cls = true)
    (body : ∀ p e s m below meth c, gx_cx p l s m av.toArray meth c G y.cls cc nL ret → meth.name = y.name → c.exceptionTable.isEmpty = true → gw_I G S S s.heap [] 0 0 →
      W p l e (gx_rm d S) s m av.toArray below meth c s.heap [] 0 0 (gx_MQ below G S S2 o s) (entryFrame m av.toArray nL)) : gx_Met l y (ws_ y cc nL ret) d G S av o S2 := by
  refine MetFree.of_bodyS (code := cc) (maxLocals := nL) (ret := ret) hy ?_ ?_
  · intro args s m h hn
    obtain ⟨meth, c, h1, h2, h3, h4, h5, h6, -, -⟩ := Cond.code_spec hn (atoms_spec (ws := ws_ y cc nL ret) h _ List.mem_cons_self)
    exact ⟨meth, c, h1, h2, h3, h4, h5, h6⟩
  · intro p e s m args below meth c s₁ B hml hP _
    obtain ⟨rfl, hw, hk⟩ := hP
    have hh0 : s₁.heap = s.heap := by rw [B.state]; rfl
    have hts := atoms_spec (ws := ws_ y cc nL ret) B.pre
    obtain ⟨t, a1, b1, b2, b3⟩ := body p e s m below meth c ⟨B.exec, B.bytes, hml, findClass_of_methodNamed B.named, fun w h => hts w (List.mem_cons_of_mem _ h), hk, B.returns, B.notSynchronized, hfl⟩ (name_of_methodNamed B.named B.method).1
      (B.noHandlers (hts _ List.mem_cons_self)) ⟨hw, fun _ h => (by cases h), rfl, rfl⟩ s₁ hh0 (Stand.of_body B)
    exact ⟨t, o, a1, b1, b2, rfl, b3⟩
/-- a method with handlers -/
theorem gx_ofH {l : Launch} {y : MethodName} {cc : ByteArray} {nL : Nat} {ret : Option FieldType} {hh : List (Nat × Nat × Nat × Nat)} {d : Nat} {G : gG} {S S2 : gm_S} {av : List Value} {o : Outcome} (hfl : l.flags = flags0) (hy : plainName y.cls = true)
    (body : ∀ p e s m below meth c, gx_cx p l s m av.toArray meth c G y.cls cc nL ret → meth.name = y.name → c.exceptionTable.toList = tableOf hh → gw_I G S S s.heap [] 0 0 →
      W p l e (gx_rm d S) s m av.toArray below meth c s.heap [] 0 0 (gx_MQ below G S S2 o s) (entryFrame m av.toArray nL)) : gx_Met l y (wsW_ y cc nL ret hh) d G S av o S2 := by
  have key : ∀ (args : Array Value) (s : State) (m : MethodId), (headSpec (wsW_ y cc nL ret hh) (gx_rm d S)).pre.before args s = true → s.methodNamed? y = some m → ∃ meth c, s.vm.method? m = some meth ∧ meth.code = some c ∧ c.code = cc ∧ c.maxLocals = nL ∧ meth.sig.returnType = ret ∧ meth.locks = false ∧ c.exceptionTable.toList = tableOf hh := by
    intro args s m h hn
    obtain ⟨m', meth, c, hn', h1, h2, h3, h4, h5, h6, h7, -⟩ := Cond.codeWith_spec (atoms_spec (ws := wsW_ y cc nL ret hh) h _ List.mem_cons_self)
    cases hn.symm.trans hn'
    exact ⟨meth, c, h1, h2, h3, h4, h6, h7, by rw [← h5, table_eq]⟩
  refine MetFree.of_bodyS (code := cc) (maxLocals := nL) (ret := ret) hy ?_ ?_
  · intro args s m h hn
    obtain ⟨meth, c, h1, h2, h3, h4, h5, h6, -⟩ := key args s m h hn
    exact ⟨meth, c, h1, h2, h3, h4, h5, h6⟩
  · intro p e s m args below meth c s₁ B hml hP _
    obtain ⟨rfl, hw, hk⟩ := hP
    have hh0 : s₁.heap = s.heap := by rw [B.state]; rfl
    have hts := atoms_spec (ws := wsW_ y cc nL ret hh) B.pre
    obtain ⟨meth', c', q1, q2, q3, q4, q5, q6, q7⟩ := key _ _ _ B.pre B.named
    cases B.method.symm.trans q1
    cases (Stand.of_body B).code.symm.trans q2
    obtain ⟨t, a1, b1, b2, b3⟩ := body p e s m below meth c ⟨B.exec, B.bytes, hml, findClass_of_methodNamed B.named, fun w h => hts w (List.mem_cons_of_mem _ h), hk, B.returns, B.notSynchronized, hfl⟩ (name_of_methodNamed B.named B.method).1
      q7 ⟨hw, fun _ h => (by cases h), rfl, rfl⟩ s₁ hh0 (Stand.of_body B)
    exact ⟨t, o, a1, b1, b2, rfl, b3⟩
/-- where a call comes back -/
def gb_after (U : State) (g : JFrame) (len : Nat) : Outcome → State
  | .returned v => U.setTop { g with pc := g.pc + len, stack := v.toList ++ g.stack }
  | .threw x => (U.setTop g).pushFrame (.throwing x)
section GB
variable {p : Program} {l : Launch} {e : Env} {R : Room} {s : State} {m : MethodId} {args : Array Value} {below : List Frame} {meth : Method} {c : Code} {locs : List Loc} {cells slots : Nat}
/-- a call by a contract of functions, from the invocation on -/
theorem gb_call {T : State} {y : MethodName} {ws : List Cond} {d d0 len maxL : Nat} {G : gG} {S0 S S2 : gm_S} {av : List Value} {o : Outcome} {ig : Instr} {mk : MethodId}
    (X : Stand p l e (gx_rm d0 S0) s m args below meth c T locs cells slots) (hM : gx_Met l y ws d G S av o S2) (hd : d + 1 ≤ d0) (hlo : maxL ≤ 41)
    (hws : ∀ w ∈ ws, ∀ (a' : Array Value) (U : State), s.WarmedH U.vm → w.before a' U = true) (hY : ∃ methY cY, T.vm.method? mk = some methY ∧ methY.code = some cY ∧ cY.maxLocals = maxL) (hini : (Cond.initialized y.cls).before args s = true)
    (hI : gw_I G S0 S T.heap locs cells slots) (hK : gk_K G s) {g : JFrame} (hg : g.method = m) (hsize : g.locals.size = c.maxLocals) (hdg : decode c.code g.pc = .ok (ig, len)) (hW : 2 * g.monitorRoom + (g.stack.map fun v => v.category).sum ≤ 8) (hn : T.methodNamed? y = some mk) :
    ∃ (T' : State) (L : List Loc) (mc ms : Nat), Stand p l e (gx_rm d0 S0) s m args below meth c T' (locs ++ L) (cells + mc) (slots + ms) ∧ gw_I G S0 S2 T'.heap (locs ++ L) (cells + mc) (slots + ms) ∧
      Steps p.tables e below (doInvoke e (T.setTop g) [] mk av.toArray).1 (gb_after T' g len o) := by
  obtain ⟨methY, cY, hmY, hcY, hlY⟩ := hY
  obtain ⟨hw, hloc, hcs, hks⟩ := hI
  obtain ⟨-, -, wc, wk, -⟩ := id hw
  obtain ⟨kY, hkY, -⟩ := className_of_methodNamed hn
  have hini' : (Cond.initialized y.cls).before av.toArray T = true := word_at X.warmed (Or.inl (by first | rfl | simp [Cond.onTables, Cond.keeps, Cond.steady])) hini
  have hinitY : kY.init = .initialized := Cond.initialized_spec (findClass_of_methodNamed hn) hkY hini'
  have h : At T g.method c below := by rw [hg]; exact X.here
  have happ : (headSpec ws (gx_rm d S)).appliesLoose y e.platform (T.calling g mk av.toArray) = true :=
    Spec.appliesLoose_calling (g := g) h hdg hn hkY hinitY
      (X.room_calling (g := g) (R' := gx_rm d S) hsize hmY hcY (by show d + 1 ≤ d0; exact hd) (by show _ + (cY.maxLocals + 11) + 60 * d ≤ 60 * d0; rw [hlY]; omega) (by show cells + (600096 - gs_c S) ≤ 600096 - gs_c S0; omega) (by show slots + (7301386 - gs_k S) ≤ 7301386 - gs_k S0; omega))
      (atoms_intro fun w hw' => hws w hw' _ _ X.warmed)
  obtain ⟨mid, hmid⟩ := h.above
  have hfr : (T.setTop g).frames = (.java g :: mid) ++ below := by rw [State.frames_setTop' g h.top, hmid]; rfl
  have hvm : (T.calling g mk av.toArray).vm = T.vm := by simp [State.calling, State.pushFrame, State.setFrames, State.setTop, State.modifyTopJava]
  have hhp : (T.calling g mk av.toArray).heap = T.heap := by simp [State.calling, State.pushFrame, State.setFrames, State.setTop, State.modifyTopJava]
  obtain ⟨o', s₂, hsteps, -, hend, ho, hE⟩ := Steps.callFree hM p X.admits X.cas X.clock (acts := []) hfr happ ⟨rfl, by show gw_W G S (T.calling g mk av.toArray).heap; rw [hhp]; exact hw, (hK.warm X.warmed).of_vm hvm.symm⟩ trivial
  subst ho
  rw [State.frames_setTop' g h.top] at hend
  obtain ⟨hw2, L, mc, ms, hmc, hms, hW₂, hsB, hL⟩ := hE
  obtain ⟨e2, q2, q3, q4, q5, q6⟩ := hsB
  have hsteps : Steps p.tables e below (doInvoke e (T.setTop g) [] mk av.toArray).1 s₂ := hsteps
  have hW₂ : (T.calling g mk av.toArray).WarmedH s₂.vm := hW₂
  have e2 : ({ s₂ with vm := (T.calling g mk av.toArray).vm } : State) = _ := e2
  have e3 : s₂ = ({ (T.calling g mk av.toArray).setFrames s₂.frames with heap := s₂.heap, slotsUsed := s₂.slotsUsed } : State).setVm s₂.vm := by
    have : s₂ = ({ s₂ with vm := (T.calling g mk av.toArray).vm } : State).setVm s₂.vm := rfl
    rw [e2] at this
    exact this
  have hW' : T.WarmedH s₂.vm := hW₂
  obtain ⟨g₀, hg0⟩ := Option.isSome_iff_exists.mp h.top
  obtain ⟨r, hr⟩ := State.topJava?_eq_some.mp hg0
  have hr' : (({ T with heap := s₂.heap, slotsUsed := s₂.slotsUsed } : State).setVm s₂.vm).frames = .java g₀ :: r := hr
  have hsame : T.sameButNew ({ T with heap := s₂.heap, slotsUsed := s₂.slotsUsed } : State) L mc ms := by
    refine ⟨?_, q2, q3, q4, q5, q6⟩
    obtain ⟨t, ht, -⟩ := State.frames_cons hr
    show ({ T with heap := s₂.heap, slotsUsed := s₂.slotsUsed } : State) = { T.setFrames T.frames with heap := s₂.heap, slotsUsed := s₂.slotsUsed }
    rw [State.setFrames_self ht]
  subst hg
  refine ⟨(({ T with heap := s₂.heap, slotsUsed := s₂.slotsUsed } : State).setVm s₂.vm), L, mc, ms,
    ⟨X.admits, X.cas, X.clock, X.frames, X.room, X.hears, X.method, X.code, (X.here.setHeapUsed s₂.heap s₂.slotsUsed).setVm hW'.alike, X.tail, State.WarmedH.trans X.warmed hW', X.limits, X.bytes, X.same.trans (hsame.setVm s.vm)⟩,
    ⟨hw2, fun q hq => ?_, by omega, by omega⟩, ?_⟩
  · rcases List.mem_append.mp hq with h1 | h1
    · exact hloc q h1
    · exact hL q h1
  · cases o' with
    | returned v =>
      obtain ⟨c₂, i₂, len₂, hc₂, hd₂, hf₂⟩ := hend
      have hcc : c₂ = c := by
        have h1 : s₂.code? g.method = T.code? g.method := by
          rw [State.code?_eq, State.code?_eq, hW'.alike.method?]
        exact Option.some.inj (hc₂.symm.trans (h1.trans h.code))
      subst hcc
      have hlen : len₂ = len := by rw [hdg] at hd₂; cases hd₂; rfl
      subst hlen
      have hs₂ : s₂ = (({ T with heap := s₂.heap, slotsUsed := s₂.slotsUsed } : State).setVm s₂.vm).setTop { g with pc := g.pc + len₂, stack := v.toList ++ g.stack } := by
        refine e3.trans ?_
        rw [hf₂, State.calling_eq h.top, State.setFrames_setFrames, State.setTop_of_frames _ hr', hr]
        rfl
      show Steps p.tables e below _ ((({ T with heap := s₂.heap, slotsUsed := s₂.slotsUsed } : State).setVm s₂.vm).setTop { g with pc := g.pc + len₂, stack := v.toList ++ g.stack })
      rw [← hs₂]
      exact hsteps
    | threw x =>
      have hf₂ : s₂.frames = .throwing x :: .java g :: T.frames.tail := hend
      have hs₂ : s₂ = ((({ T with heap := s₂.heap, slotsUsed := s₂.slotsUsed } : State).setVm s₂.vm).setTop g).pushFrame (.throwing x) := by
        refine e3.trans ?_
        rw [State.pushFrame, State.frames_setTop _ hr', State.setTop_of_frames _ hr', State.setFrames_setFrames, hf₂, State.calling_eq h.top, State.setFrames_setFrames, hr]
        rfl
      show Steps p.tables e below _ (((({ T with heap := s₂.heap, slotsUsed := s₂.slotsUsed } : State).setVm s₂.vm).setTop g).pushFrame (.throwing x))
      rw [← hs₂]
      exact hsteps
/-- an invocation is reached -/
def gb_Raw (p : Program) (l : Launch) (e : Env) (R : Room) (s : State) (m : MethodId) (args : Array Value) (below : List Frame) (meth : Method) (c : Code) (H : Heap) (locs : List Loc) (cells slots : Nat) (g : JFrame) (len : Nat) (rest : List Value) (y : MethodName) (av : List Value) (maxL : Nat) : Prop :=
  ∀ T : State, T.heap = H → Stand p l e R s m args below meth c T locs cells slots → ∃ (vm₁ : Vm) (mk : MethodId) (ig : Instr), Stand p l e R s m args below meth c (T.setVm vm₁) locs cells slots ∧ (T.setVm vm₁).methodNamed? y = some mk ∧ decode c.code g.pc = .ok (ig, len) ∧
    (∃ methY cY, (T.setVm vm₁).vm.method? mk = some methY ∧ methY.code = some cY ∧ cY.maxLocals = maxL) ∧
    ∀ target, (∀ acts, Steps p.tables e below (doInvoke e ((T.setVm vm₁).setTop { g with stack := rest }) acts mk av.toArray).1 target) → Steps p.tables e below (T.setTop g) target
variable {H : Heap} {Q : State → Prop} {G : gG} {S0 S S2 : gm_S} {d d0 maxL len : Nat} {y : MethodName} {av rest : List Value} {g : JFrame} {ws : List Cond}
/-- the call comes back -/
theorem gr_callR {v : Option Value} (hr : gb_Raw p l e (gx_rm d0 S0) s m args below meth c H locs cells slots g len rest y av maxL) (hM : gx_Met l y ws d G S av (.returned v) S2) (hd : d + 1 ≤ d0) (hlo : maxL ≤ 41)
    (hws : ∀ w ∈ ws, ∀ (a' : Array Value) (U : State), s.WarmedH U.vm → w.before a' U = true) (hini : (Cond.initialized y.cls).before args s = true) (hI : gw_I G S0 S H locs cells slots) (hK : gk_K G s)
    (hg : g.method = m) (hsize : g.locals.size = c.maxLocals) (hW : 2 * g.monitorRoom + (rest.map fun v => v.category).sum ≤ 8)
    (kk : ∀ (H' : Heap) (locs' : List Loc) (cells' slots' : Nat), gw_I G S0 S2 H' locs' cells' slots' → W p l e (gx_rm d0 S0) s m args below meth c H' locs' cells' slots' Q { g with pc := g.pc + len, stack := v.toList ++ rest }) : W p l e (gx_rm d0 S0) s m args below meth c H locs cells slots Q g := by
  intro T hT X
  obtain ⟨vm₁, mk, ig, X₁, hn, hdg, hY, hstep⟩ := hr T hT X
  obtain ⟨T', L, mc, ms, X', hI', hst⟩ := gb_call X₁ hM hd hlo hws hY hini (by rw [← hT] at hI; exact hI) hK (g := { g with stack := rest }) hg hsize hdg hW hn
  obtain ⟨t, a1, b1⟩ := kk _ _ _ _ hI' T' rfl X'
  exact ⟨t, hstep _ (fun acts => by rw [doInvoke_state]; exact hst.trans a1), b1⟩
/-- the callee throws, and nothing here catches -/
theorem gr_callT {x : Addr} (hr : gb_Raw p l e (gx_rm d0 S0) s m args below meth c H locs cells slots g len rest y av maxL) (hM : gx_Met l y ws d G S av (.threw x) S2) (hd : d + 1 ≤ d0) (hlo : maxL ≤ 41)
    (hws : ∀ w ∈ ws, ∀ (a' : Array Value) (U : State), s.WarmedH U.vm → w.before a' U = true) (hini : (Cond.initialized y.cls).before args s = true) (hI : gw_I G S0 S H locs cells slots) (hK : gk_K G s)
    (hg : g.method = m) (hsize : g.locals.size = c.maxLocals) (hW : 2 * g.monitorRoom + (rest.map fun v => v.category).sum ≤ 8) (hlocked : g.locked = none) (hentered : g.entered = []) (hout : ∀ x ∈ c.exceptionTable.toList, covers x g.pc = false) (hlocks : meth.locks = false) :
    W p l e (gx_rm d0 S0) s m args below meth c H locs cells slots (gx_MQ below G S0 S2 (.threw x) s) g := by
  intro T hT X
  obtain ⟨vm₁, mk, ig, X₁, hn, hdg, hY, hstep⟩ := hr T hT X
  obtain ⟨T', L, mc, ms, X', hI', hst⟩ := gb_call X₁ hM hd hlo hws hY hini (by rw [← hT] at hI; exact hI) hK (g := { g with stack := rest }) hg hsize hdg hW hn
  obtain ⟨w1, w2, w3, w4, w5⟩ := X'.leaveThrown x (g := { g with stack := rest }) hg hlocked hentered hout
  exact ⟨_, hstep _ (fun acts => by rw [doInvoke_state]; exact hst.trans w1), w2, w3, hI'.1, _, _, _, hI'.2.2.1, hI'.2.2.2, w4, w5, hI'.2.1⟩
end GB
