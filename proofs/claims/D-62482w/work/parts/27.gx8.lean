/-! LAYER 1, base: exceptions that are made and thrown -/
set_option maxRecDepth 100000
theorem gt_thr {G : gG} {s : State} {args : Array Value} (hts : ∀ w ∈ lw_all, w.before args s = true) (hK : gk_K G s) (h1 : (Cond.laysStatic "java/lang/Throwable" "UNASSIGNED_STACK" "[Ljava/lang/StackTraceElement;").before args s = true ∧ (Cond.isRef (.static "java/lang/Throwable" "UNASSIGNED_STACK" "[Ljava/lang/StackTraceElement;")).before args s = true) (h2 : (Cond.laysStatic "java/lang/Throwable" "SUPPRESSED_SENTINEL" "Ljava/util/List;").before args s = true ∧ (Cond.isRef (.static "java/lang/Throwable" "SUPPRESSED_SENTINEL" "Ljava/util/List;")).before args s = true) : ∀ a ∈ Bundle.throwableAtoms, a.before args s = true := (List.forall_mem_cons.mpr ⟨(hts _ q79), (List.forall_mem_cons.mpr ⟨(hts _ q362), (List.forall_mem_cons.mpr ⟨(hts _ q371), (List.forall_mem_cons.mpr ⟨(hts _ q375), (List.forall_mem_cons.mpr ⟨(hts _ q378), (List.forall_mem_cons.mpr ⟨(hts _ q380), (List.forall_mem_cons.mpr ⟨(hts _ q363), (List.forall_mem_cons.mpr ⟨(hts _ q364), (List.forall_mem_cons.mpr ⟨(hts _ q108), (List.forall_mem_cons.mpr ⟨(hts _ q109), (List.forall_mem_cons.mpr ⟨(hts _ q365), (List.forall_mem_cons.mpr ⟨(hts _ q370), (List.forall_mem_cons.mpr ⟨(hts _ q376), (List.forall_mem_cons.mpr ⟨(hts _ q392), (List.forall_mem_cons.mpr ⟨(hts _ q352), (List.forall_mem_cons.mpr ⟨(hts _ q393), (List.forall_mem_cons.mpr ⟨(hts _ q354), (List.forall_mem_cons.mpr ⟨(hts _ q394), (List.forall_mem_cons.mpr ⟨(hts _ q356), (List.forall_mem_cons.mpr ⟨(hts _ q366), (List.forall_mem_cons.mpr ⟨h1.1, (List.forall_mem_cons.mpr ⟨(hts _ q368), (List.forall_mem_cons.mpr ⟨h2.1, (List.forall_mem_cons.mpr ⟨(hts _ q358), (fun _ h => absurd h List.not_mem_nil)⟩)⟩)⟩)⟩)⟩)⟩)⟩)⟩)⟩)⟩)⟩)⟩)⟩)⟩)⟩)⟩)⟩)⟩)⟩)⟩)⟩)⟩)⟩)⟩)
theorem gt_ch17 {G : gG} {s : State} {args : Array Value} (hts : ∀ w ∈ lw_all, w.before args s = true) (hK : gk_K G s) : ∀ a ∈ Bundle.chain0Atoms "java/lang/IllegalArgumentException" ["java/lang/RuntimeException", "java/lang/Exception"], a.before args s = true := List.forall_mem_append.mpr ⟨(List.forall_mem_cons.mpr ⟨(hts _ q382), (List.forall_mem_cons.mpr ⟨(hts _ q383), (List.forall_mem_cons.mpr ⟨(hts _ q384), (List.forall_mem_cons.mpr ⟨(hts _ q385), (List.forall_mem_cons.mpr ⟨(gk_w hK q343 rfl), (fun _ h => absurd h List.not_mem_nil)⟩)⟩)⟩)⟩)⟩), List.forall_mem_append.mpr ⟨(List.forall_mem_cons.mpr ⟨(hts _ q385), (List.forall_mem_cons.mpr ⟨(hts _ q386), (List.forall_mem_cons.mpr ⟨(hts _ q387), (List.forall_mem_cons.mpr ⟨(hts _ q388), (List.forall_mem_cons.mpr ⟨(gk_w hK q345 rfl), (fun _ h => absurd h List.not_mem_nil)⟩)⟩)⟩)⟩)⟩), (List.forall_mem_cons.mpr ⟨(hts _ q388), (List.forall_mem_cons.mpr ⟨(hts _ q389), (List.forall_mem_cons.mpr ⟨(hts _ q390), (List.forall_mem_cons.mpr ⟨(hts _ q363), (List.forall_mem_cons.mpr ⟨(gk_w hK q347 rfl), (fun _ h => absurd h List.not_mem_nil)⟩)⟩)⟩)⟩)⟩)⟩⟩
theorem gt_ch18 {G : gG} {s : State} {args : Array Value} (hts : ∀ w ∈ lw_all, w.before args s = true) (hK : gk_K G s) : ∀ a ∈ Bundle.chain0Atoms "java/lang/IllegalStateException" ["java/lang/RuntimeException", "java/lang/Exception"], a.before args s = true := List.forall_mem_append.mpr ⟨(List.forall_mem_cons.mpr ⟨(hts _ q750), (List.forall_mem_cons.mpr ⟨(hts _ q751), (List.forall_mem_cons.mpr ⟨(hts _ q752), (List.forall_mem_cons.mpr ⟨(hts _ q385), (List.forall_mem_cons.mpr ⟨(gk_w hK q343 rfl), (fun _ h => absurd h List.not_mem_nil)⟩)⟩)⟩)⟩)⟩), List.forall_mem_append.mpr ⟨(List.forall_mem_cons.mpr ⟨(hts _ q385), (List.forall_mem_cons.mpr ⟨(hts _ q386), (List.forall_mem_cons.mpr ⟨(hts _ q387), (List.forall_mem_cons.mpr ⟨(hts _ q388), (List.forall_mem_cons.mpr ⟨(gk_w hK q345 rfl), (fun _ h => absurd h List.not_mem_nil)⟩)⟩)⟩)⟩)⟩), (List.forall_mem_cons.mpr ⟨(hts _ q388), (List.forall_mem_cons.mpr ⟨(hts _ q389), (List.forall_mem_cons.mpr ⟨(hts _ q390), (List.forall_mem_cons.mpr ⟨(hts _ q363), (List.forall_mem_cons.mpr ⟨(gk_w hK q347 rfl), (fun _ h => absurd h List.not_mem_nil)⟩)⟩)⟩)⟩)⟩)⟩⟩
theorem gt_ch19 {G : gG} {s : State} {args : Array Value} (hts : ∀ w ∈ lw_all, w.before args s = true) (hK : gk_K G s) : ∀ a ∈ Bundle.chain0Atoms "java/lang/UnsupportedOperationException" ["java/lang/RuntimeException", "java/lang/Exception"], a.before args s = true := List.forall_mem_append.mpr ⟨(List.forall_mem_cons.mpr ⟨(hts _ q942), (List.forall_mem_cons.mpr ⟨(hts _ q943), (List.forall_mem_cons.mpr ⟨(hts _ q944), (List.forall_mem_cons.mpr ⟨(hts _ q385), (List.forall_mem_cons.mpr ⟨(gk_w hK q343 rfl), (fun _ h => absurd h List.not_mem_nil)⟩)⟩)⟩)⟩)⟩), List.forall_mem_append.mpr ⟨(List.forall_mem_cons.mpr ⟨(hts _ q385), (List.forall_mem_cons.mpr ⟨(hts _ q386), (List.forall_mem_cons.mpr ⟨(hts _ q387), (List.forall_mem_cons.mpr ⟨(hts _ q388), (List.forall_mem_cons.mpr ⟨(gk_w hK q345 rfl), (fun _ h => absurd h List.not_mem_nil)⟩)⟩)⟩)⟩)⟩), (List.forall_mem_cons.mpr ⟨(hts _ q388), (List.forall_mem_cons.mpr ⟨(hts _ q389), (List.forall_mem_cons.mpr ⟨(hts _ q390), (List.forall_mem_cons.mpr ⟨(hts _ q363), (List.forall_mem_cons.mpr ⟨(gk_w hK q347 rfl), (fun _ h => absurd h List.not_mem_nil)⟩)⟩)⟩)⟩)⟩)⟩⟩
theorem gt_own_Reader_17 {G : gG} {s : State} {args : Array Value} (hts : ∀ w ∈ lw_all, w.before args s = true) (hK : gk_K G s) (h1 : (Cond.laysStatic "java/lang/Throwable" "UNASSIGNED_STACK" "[Ljava/lang/StackTraceElement;").before args s = true ∧ (Cond.isRef (.static "java/lang/Throwable" "UNASSIGNED_STACK" "[Ljava/lang/StackTraceElement;")).before args s = true) (h2 : (Cond.laysStatic "java/lang/Throwable" "SUPPRESSED_SENTINEL" "Ljava/util/List;").before args s = true ∧ (Cond.isRef (.static "java/lang/Throwable" "SUPPRESSED_SENTINEL" "Ljava/util/List;")).before args s = true) : ∀ a ∈ Bundle.ownAtoms0 "NestChart$Reader" 28 "java/lang/IllegalArgumentException" ["java/lang/RuntimeException", "java/lang/Exception"], a.before args s = true := List.forall_mem_append.mpr ⟨List.forall_mem_append.mpr ⟨gt_thr hts hK h1 h2, gt_ch17 hts hK⟩, (List.forall_mem_cons.mpr ⟨(hts _ q381), (List.forall_mem_cons.mpr ⟨(hts _ q341), (List.forall_mem_cons.mpr ⟨(gk_w hK q342 rfl), (List.forall_mem_cons.mpr ⟨(hts _ q349), (List.forall_mem_cons.mpr ⟨(hts _ q350), (List.forall_mem_cons.mpr ⟨(hts _ q351), (List.forall_mem_cons.mpr ⟨(hts _ q353), (List.forall_mem_cons.mpr ⟨(hts _ q355), (List.forall_mem_cons.mpr ⟨(hts _ q357), (List.forall_mem_cons.mpr ⟨h1.2, (List.forall_mem_cons.mpr ⟨h2.2, (List.forall_mem_cons.mpr ⟨(hts _ q361), (List.forall_mem_cons.mpr ⟨(hts _ q360), (List.forall_mem_cons.mpr ⟨(hts _ q359), (fun _ h => absurd h List.not_mem_nil)⟩)⟩)⟩)⟩)⟩)⟩)⟩)⟩)⟩)⟩)⟩)⟩)⟩)⟩)⟩
theorem gt_own_C_17 {G : gG} {s : State} {args : Array Value} (hts : ∀ w ∈ lw_all, w.before args s = true) (hK : gk_K G s) (h1 : (Cond.laysStatic "java/lang/Throwable" "UNASSIGNED_STACK" "[Ljava/lang/StackTraceElement;").before args s = true ∧ (Cond.isRef (.static "java/lang/Throwable" "UNASSIGNED_STACK" "[Ljava/lang/StackTraceElement;")).before args s = true) (h2 : (Cond.laysStatic "java/lang/Throwable" "SUPPRESSED_SENTINEL" "Ljava/util/List;").before args s = true ∧ (Cond.isRef (.static "java/lang/Throwable" "SUPPRESSED_SENTINEL" "Ljava/util/List;")).before args s = true) : ∀ a ∈ Bundle.ownAtoms0 "NestChart" 82 "java/lang/IllegalArgumentException" ["java/lang/RuntimeException", "java/lang/Exception"], a.before args s = true := List.forall_mem_append.mpr ⟨List.forall_mem_append.mpr ⟨gt_thr hts hK h1 h2, gt_ch17 hts hK⟩, (List.forall_mem_cons.mpr ⟨(hts _ q718), (List.forall_mem_cons.mpr ⟨(hts _ q341), (List.forall_mem_cons.mpr ⟨(gk_w hK q342 rfl), (List.forall_mem_cons.mpr ⟨(hts _ q349), (List.forall_mem_cons.mpr ⟨(hts _ q350), (List.forall_mem_cons.mpr ⟨(hts _ q351), (List.forall_mem_cons.mpr ⟨(hts _ q353), (List.forall_mem_cons.mpr ⟨(hts _ q355), (List.forall_mem_cons.mpr ⟨(hts _ q357), (List.forall_mem_cons.mpr ⟨h1.2, (List.forall_mem_cons.mpr ⟨h2.2, (List.forall_mem_cons.mpr ⟨(hts _ q361), (List.forall_mem_cons.mpr ⟨(hts _ q360), (List.forall_mem_cons.mpr ⟨(hts _ q359), (fun _ h => absurd h List.not_mem_nil)⟩)⟩)⟩)⟩)⟩)⟩)⟩)⟩)⟩)⟩)⟩)⟩)⟩)⟩)⟩
theorem gt_own_C_18 {G : gG} {s : State} {args : Array Value} (hts : ∀ w ∈ lw_all, w.before args s = true) (hK : gk_K G s) (h1 : (Cond.laysStatic "java/lang/Throwable" "UNASSIGNED_STACK" "[Ljava/lang/StackTraceElement;").before args s = true ∧ (Cond.isRef (.static "java/lang/Throwable" "UNASSIGNED_STACK" "[Ljava/lang/StackTraceElement;")).before args s = true) (h2 : (Cond.laysStatic "java/lang/Throwable" "SUPPRESSED_SENTINEL" "Ljava/util/List;").before args s = true ∧ (Cond.isRef (.static "java/lang/Throwable" "SUPPRESSED_SENTINEL" "Ljava/util/List;")).before args s = true) : ∀ a ∈ Bundle.ownAtoms0 "NestChart" 98 "java/lang/IllegalStateException" ["java/lang/RuntimeException", "java/lang/Exception"], a.before args s = true := List.forall_mem_append.mpr ⟨List.forall_mem_append.mpr ⟨gt_thr hts hK h1 h2, gt_ch18 hts hK⟩, (List.forall_mem_cons.mpr ⟨(hts _ q749), (List.forall_mem_cons.mpr ⟨(hts _ q741), (List.forall_mem_cons.mpr ⟨(gk_w hK q742 rfl), (List.forall_mem_cons.mpr ⟨(hts _ q743), (List.forall_mem_cons.mpr ⟨(hts _ q373), (List.forall_mem_cons.mpr ⟨(hts _ q744), (List.forall_mem_cons.mpr ⟨(hts _ q745), (List.forall_mem_cons.mpr ⟨(hts _ q746), (List.forall_mem_cons.mpr ⟨(hts _ q747), (List.forall_mem_cons.mpr ⟨h1.2, (List.forall_mem_cons.mpr ⟨h2.2, (List.forall_mem_cons.mpr ⟨(hts _ q361), (List.forall_mem_cons.mpr ⟨(hts _ q360), (List.forall_mem_cons.mpr ⟨(hts _ q748), (fun _ h => absurd h List.not_mem_nil)⟩)⟩)⟩)⟩)⟩)⟩)⟩)⟩)⟩)⟩)⟩)⟩)⟩)⟩)⟩
theorem gt_own_Run_19 {G : gG} {s : State} {args : Array Value} (hts : ∀ w ∈ lw_all, w.before args s = true) (hK : gk_K G s) (h1 : (Cond.laysStatic "java/lang/Throwable" "UNASSIGNED_STACK" "[Ljava/lang/StackTraceElement;").before args s = true ∧ (Cond.isRef (.static "java/lang/Throwable" "UNASSIGNED_STACK" "[Ljava/lang/StackTraceElement;")).before args s = true) (h2 : (Cond.laysStatic "java/lang/Throwable" "SUPPRESSED_SENTINEL" "Ljava/util/List;").before args s = true ∧ (Cond.isRef (.static "java/lang/Throwable" "SUPPRESSED_SENTINEL" "Ljava/util/List;")).before args s = true) : ∀ a ∈ Bundle.ownAtoms0 "NestChart$Run" 212 "java/lang/UnsupportedOperationException" ["java/lang/RuntimeException", "java/lang/Exception"], a.before args s = true := List.forall_mem_append.mpr ⟨List.forall_mem_append.mpr ⟨gt_thr hts hK h1 h2, gt_ch19 hts hK⟩, (List.forall_mem_cons.mpr ⟨(hts _ q941), (List.forall_mem_cons.mpr ⟨(hts _ q933), (List.forall_mem_cons.mpr ⟨(gk_w hK q934 rfl), (List.forall_mem_cons.mpr ⟨(hts _ q935), (List.forall_mem_cons.mpr ⟨(hts _ q374), (List.forall_mem_cons.mpr ⟨(hts _ q936), (List.forall_mem_cons.mpr ⟨(hts _ q937), (List.forall_mem_cons.mpr ⟨(hts _ q938), (List.forall_mem_cons.mpr ⟨(hts _ q939), (List.forall_mem_cons.mpr ⟨h1.2, (List.forall_mem_cons.mpr ⟨h2.2, (List.forall_mem_cons.mpr ⟨(hts _ q361), (List.forall_mem_cons.mpr ⟨(hts _ q360), (List.forall_mem_cons.mpr ⟨(hts _ q940), (fun _ h => absurd h List.not_mem_nil)⟩)⟩)⟩)⟩)⟩)⟩)⟩)⟩)⟩)⟩)⟩)⟩)⟩)⟩)⟩
theorem gt_LS {G : gG} {S : gm_S} {s : State} {args : Array Value} (hK : gk_K G s) (hw : gw_W G S s.heap) : ((Cond.laysStatic "java/lang/Throwable" "UNASSIGNED_STACK" "[Ljava/lang/StackTraceElement;").before args s = true ∧ (Cond.isRef (.static "java/lang/Throwable" "UNASSIGNED_STACK" "[Ljava/lang/StackTraceElement;")).before args s = true) ∧ ((Cond.laysStatic "java/lang/Throwable" "SUPPRESSED_SENTINEL" "Ljava/util/List;").before args s = true ∧ (Cond.isRef (.static "java/lang/Throwable" "SUPPRESSED_SENTINEL" "Ljava/util/List;")).before args s = true) := by
  obtain ⟨-, -, -, -, -, -, -, h13, h14, -⟩ := hK
  exact ⟨(h13.kept (fun q hq => hw.2.2.2.2.2.1 q hq)).lays, (h14.kept (fun q hq => hw.2.2.2.2.2.1 q hq)).lays⟩
section GX
variable {p : Program} {l : Launch} {e : Env} {R : Room} {s : State} {m : MethodId} {args : Array Value} {below : List Frame} {meth : Method} {c : Code} {H : Heap} {locs : List Loc} {cells slots : Nat} {Q : State → Prop}
variable {cc : ByteArray} {pc nL : Nat} {ls : Array Slot} {rest : List Value} {G : gG} {S0 S S2 : gm_S} {own : String} {ret : Option FieldType} {d0 : Nat} {index : Nat} {C : String}
/-- the walk's own state, taken as an invocation's -/
theorem gb_rebase {R' : Room} {T : State} (X : Stand p l e R s m args below meth c T locs cells slots) (hc : cells + R'.cells ≤ R.cells) (hs : slots + R'.slots ≤ R.slots) (hfr : R'.frames ≤ R.frames) (hlo : R'.locals ≤ R.locals) :
    Stand p l e R' (T.setFrames (.invoking m args :: below)) m args below meth c T [] 0 0 := by
  obtain ⟨g₀, hg⟩ := X.frames_eq
  have hcur : T.cur < T.threads.size := State.cur_lt_of_frames hg
  have hF : (T.setFrames (.invoking m args :: below)).frames = .invoking m args :: below := State.frames_setFrames _ hcur
  obtain ⟨t, ht, -⟩ := State.frames_cons hg
  obtain ⟨t', ht', -⟩ := State.frames_cons hF
  have hcur' : (T.setFrames (.invoking m args :: below)).cur < (T.setFrames (.invoking m args :: below)).threads.size := State.cur_lt_of_frames hF
  refine ⟨X.admits, X.cas, X.clock, hF, ?_, ?_, X.method', X.code, X.here, X.tail, State.WarmedH.refl _, by rw [State.stackLimits_setFrames], by rw [State.stackBytes_setFrames], ?_⟩
  · have h0 := X.room
    have hz1 := X.heapSize
    have hz2 := X.used
    have hbk := X.book
    have hU : (T.setFrames (.invoking m args :: below)).localsInUse = s.localsInUse := by
      rw [State.localsInUse_invoking hF (meth := meth) (c := c) X.method' X.code, State.localsInUse_invoking X.frames X.method X.code]
    have hL : s.frames.length = (Frame.invoking m args :: below).length := by rw [X.frames]
    simp only [State.hasRoom, Bool.and_eq_true, decide_eq_true_eq] at h0 ⊢
    obtain ⟨⟨⟨⟨a1, a2, a3, a4, a5, a6⟩, a7⟩, a8⟩, a9⟩ := h0
    rw [hL] at a2 a3
    have hlm := X.limits
    have hbt := X.bytes
    rw [hU, hF, State.stackLimits_setFrames, State.stackBytes_setFrames, hlm, hbt]
    refine ⟨⟨⟨⟨by omega, by omega, by omega, by omega, by omega, a6⟩, ?_⟩, ?_⟩, ?_⟩
    · show T.heap.size + R'.cells ≤ _
      omega
    · show T.slotsUsed + R'.slots ≤ _
      omega
    · exact hbk
  · have h0 := X.hears
    have hv := X.warmed.alike
    cases below with
    | nil =>
      simp only [State.hears] at h0 ⊢
      show ((T.vm.method? m).any _) = true
      rw [hv.method?]
      exact h0
    | cons f r =>
      cases f with
      | java g =>
        simp only [State.hears] at h0 ⊢
        have e1 : (T.setFrames (.invoking m args :: .java g :: r)).code? g.method = s.code? g.method := by
          rw [State.code?_eq, State.code?_eq]
          show (T.vm.method? g.method).bind _ = _
          rw [hv.method?]
        rw [e1]
        exact h0
      | _ =>
        first | rfl | (show ((T.vm.method? m).any _) = true; rw [hv.method?]; exact h0)
  · have h1 := (State.sameButNew.refl (T.setFrames (.invoking m args :: below)) ht').setFrames T.frames hcur'
    rw [State.setFrames_setFrames, State.setFrames_self ht] at h1
    exact h1
theorem gt_word {w : Cond} (hw : w ∈ lw_all) {s U : State} {args a' : Array Value} (hW : s.WarmedH U.vm) (h : w.before args s = true) : w.before a' U = true := word_at hW (lw_self w hw).2 h
def gt_Own (own : String) (ic : Nat) (X : String) : Prop := ∀ (G : gG) (s : State) (args : Array Value), (∀ w ∈ lw_all, w.before args s = true) → gk_K G s → ((Cond.laysStatic "java/lang/Throwable" "UNASSIGNED_STACK" "[Ljava/lang/StackTraceElement;").before args s = true ∧ (Cond.isRef (.static "java/lang/Throwable" "UNASSIGNED_STACK" "[Ljava/lang/StackTraceElement;")).before args s = true) → ((Cond.laysStatic "java/lang/Throwable" "SUPPRESSED_SENTINEL" "Ljava/util/List;").before args s = true ∧ (Cond.isRef (.static "java/lang/Throwable" "SUPPRESSED_SENTINEL" "Ljava/util/List;")).before args s = true) → ∀ a ∈ Bundle.ownAtoms0 own ic X ["java/lang/RuntimeException", "java/lang/Exception"], a.before args s = true
/-- cells that no location of the list lies in are the same cells -/
theorem gt_same {s t : State} {k n : Nat} (h : s.sameButNew t [] k n) : ∀ q, q < s.heap.size → t.heap[q]? = s.heap[q]? := by
  intro q hq
  obtain ⟨cell, hc⟩ : ∃ cell, s.heap[q]? = some cell := ⟨s.heap[q], Array.getElem?_eq_getElem hq⟩
  obtain ⟨c', h1, h2, h3, h4⟩ := h.2.2.2.2.2 q cell hc
  have h5 : c'.slots = cell.slots := by
    apply Array.ext_getElem?
    intro i
    exact h4 i (by simp)
  rw [h1, hc, h2, h5]
/-- new X, dup, its constructor, athrow: the method ends with it -/
theorem gr_throw (cx : gx_cx p l s m args meth c G own cc nL ret) (hI : gw_I G S0 S H locs cells slots) {t a ic : Nat} (hv : g_new S t 6 = some (a, S2)) (ht : 17 ≤ t ∧ t ≤ 19) (hcl : Cond.classLink own index (gc_C t) ∈ lw_all) (hins : Cond.instantiable (gc_C t) 6 ∈ lw_all) (hini : Cond.initialized (gc_C t) ∈ lw_all)
    (hat : gt_Own own ic (gc_C t)) (hfit : Bundle.fit (gc_C t) = true) (hd0 : 6 ≤ d0) (hrest : (rest.map fun v => v.category).sum ≤ 8) (hsz : ls.size = nL)
    (hout : ∀ x ∈ c.exceptionTable.toList, covers x (pc + 7) = false) (h0 : decode cc pc = .ok (.new index, 3)) (h1 : decode cc (pc + 3) = .ok (.dup, 1)) (h2 : decode cc (pc + 4) = .ok (.invokespecial ic, 3)) (h3 : decode cc (pc + 7) = .ok (.athrow, 1)) :
    W p l e (gx_rm d0 S0) s m args below meth c H locs cells slots (gx_MQ below G S0 S2 (.threw a) s) (F0 m pc ls rest) := by
  obtain ⟨hx, hb, hml, hown, hts, hK, hr, hlk, hfl⟩ := cx
  obtain ⟨hr0, hv2⟩ := g_ifs hv
  obtain ⟨hr1, hr2⟩ := g_room_s hr0
  cases hv2
  obtain ⟨hw, hloc, hc1, hk1⟩ := hI
  intro T0 hT0 X0
  have X1 := gb_rebase (R' := { frames := d0, cells := 1, slots := 6, locals := 60 * d0 }) X0 (by show cells + 1 ≤ 600096 - gs_c S0; omega) (by show slots + 6 ≤ 7301386 - gs_k S0; omega) (Nat.le_refl _) (Nat.le_refl _)
  obtain ⟨s', hs'⟩ : ∃ s', T0.setFrames (.invoking m args :: below) = s' := ⟨_, rfl⟩
  rw [hs'] at X1
  have hvm : T0.vm = s'.vm := by rw [← hs']; rfl
  have hhp : s'.heap = H := by rw [← hs']; exact hT0
  have hWs : s.WarmedH s'.vm := by rw [← hvm]; exact X0.warmed
  have hts' : ∀ w ∈ lw_all, w.before args s' = true := fun w hw' => gt_word hw' hWs (hts w hw')
  have hK' : gk_K G s' := hK.warm hWs
  have hown' : s'.vm.findClass own = some m.cls := by rw [hWs.alike.findClass]; exact hown
  have hLS := gt_LS (args := args) hK' (by rw [hhp]; exact hw)
  have hKn := hK'.1 t
  have K : W p l e { frames := d0, cells := 1, slots := 6, locals := 60 * d0 } s' m args below meth c H [] 0 0 (fun U => U.status = .running ∧ Ended U below (.threw (gs_n S)) ∧ s'.WarmedH U.vm ∧ s'.sameButNew ({ U with vm := s'.vm } : State) [] 1 6 ∧ ∃ ce : Cell, U.heap[gs_n S]? = some ce ∧ ce.cls = gg_C G t ∧ ce.vm = .none) (F0 m pc ls rest) := by
    refine W.newcK hx hb hown' (hts' _ hcl) (hts' _ hins) (hts' _ hini) rfl h0 (by show 0 + 1 ≤ 1; omega) (by show 0 + 6 ≤ 6; omega) hKn.2.1 hw.1 fun H1 kC hkC e1 z1 o1 => ?_
    refine lv_dup hx hb h1 rfl ?_
    intro T hT X
    obtain ⟨U, hst, hrun, hend, hWU, hsame, ce, hce, hoc⟩ := X.ctorThrow0 hx (Launch.traces_off hfl X.admits) (own := own) (cls := gc_C t) (names := ["java/lang/RuntimeException", "java/lang/Exception"]) (ic := ic) hown' hfit (by decide) (hat G s' args hts' hK' hLS.1 hLS.2) (fun _ h => by cases h)
      (a := gs_n S) (cX := gg_C G t) (kX := kC) hKn.2.1 hkC (by rw [hT]; exact e1) (by rw [hhp, hw.1]; exact Nat.le_refl _) (g := F0 m (pc + 3 + 1) ls (.ref (gs_n S) :: .ref (gs_n S) :: rest)) rfl (by show ls.size = c.maxLocals; rw [hml]; exact hsz) rfl rfl (rest := rest) rfl
      (by rw [hb]; exact h2) (by rw [hb]; exact h3) hout (by show 2 + 3 < d0; omega) (by
        show 2 * 0 + ((Value.ref (gs_n S) :: rest).map fun v => v.category).sum + (13 * (2 + 1) + 41) ≤ 60 * d0
        simp only [List.map_cons, List.sum_cons]
        have : (Value.ref (gs_n S)).category = 1 := rfl
        omega) hlk
    exact ⟨U, hst, hrun, hend, hWU, hsame, ce, hce, Option.some.inj (hoc.cls.symm.trans hKn.2.1), hoc.vm⟩
  obtain ⟨U, hst, hrun, hend, hWU, hsame, ce, hce, hccl, hcvm⟩ := K T0 hT0 X1
  have hkeep := gt_same hsame
  have hkeep : ∀ q, q < H.size → U.heap[q]? = H[q]? := by rw [hhp] at hkeep; exact hkeep
  have hsz2 : U.heap.size = H.size + 1 := by
    have q1 : U.heap.size ≤ s'.heap.size + 1 := hsame.2.2.1
    have q2 : gs_n S < U.heap.size := (Array.getElem?_eq_some_iff.mp hce).1
    rw [hhp] at q1
    have := hw.1
    omega
  refine ⟨U, hst, hrun, hend, hw.push (w := 6) rfl rfl rfl hr1 hr2 (fun _ _ => rfl) (fun F b i hb => gm_fresh_o hb) hsz2 (fun q hq => hkeep q (by rw [hw.1]; exact hq)) (fun cell hcell => ?_) ?_, locs, cells + 1, slots + 6, ?_, ?_, State.WarmedH.trans X0.warmed (by rw [← hs'] at hWU; exact hWU), ?_, hloc⟩
  · rw [hce] at hcell; cases hcell; exact hcvm
  · have htt : gs_t (g_mk S t 6) (gs_n S) = t := by simp [gs_t, g_mk, gm_fresh, gm_N]
    refine ⟨fun t' e o => ?_, fun t' e o => ?_, fun e => ?_, fun e => ?_, fun t' e o1 o2 => ?_⟩
    · rw [htt] at e; rw [← e] at o
      exact absurd o (by
        have : t = 17 ∨ t = 18 ∨ t = 19 := by omega
        rcases this with rfl | rfl | rfl <;> decide)
    · rw [htt] at e; omega
    · rw [htt] at e; omega
    · rw [htt] at e; omega
    · rw [htt] at e
      subst e
      exact ⟨ce, hce, hccl, hcvm, fun k hk => absurd hk (by omega)⟩
  · show gs_c S0 + (cells + 1) = gs_c S + 1; omega
  · show gs_k S0 + (slots + 6) = gs_k S + 6; omega
  · have b1 := X0.same.setFrames (.invoking m args :: below) X0.cur
    have b2 : (s'.setVm s.vm).sameButNew ({ U with vm := s.vm } : State) [] 1 6 := hsame.setVm s.vm
    have b3 : (T0.setVm s.vm).setFrames (.invoking m args :: below) = s'.setVm s.vm := by rw [← hs']; rfl
    rw [b3] at b1
    have b4 := b1.trans b2
    rw [List.append_nil] at b4
    exact b4
end GX
theorem gt_own_Reader_17_P : gt_Own "NestChart$Reader" 28 "java/lang/IllegalArgumentException" := fun _ _ _ hts hK h1 h2 => gt_own_Reader_17 hts hK h1 h2
theorem gt_own_C_17_P : gt_Own "NestChart" 82 "java/lang/IllegalArgumentException" := fun _ _ _ hts hK h1 h2 => gt_own_C_17 hts hK h1 h2
theorem gt_own_C_18_P : gt_Own "NestChart" 98 "java/lang/IllegalStateException" := fun _ _ _ hts hK h1 h2 => gt_own_C_18 hts hK h1 h2
theorem gt_own_Run_19_P : gt_Own "NestChart$Run" 212 "java/lang/UnsupportedOperationException" := fun _ _ _ hts hK h1 h2 => gt_own_Run_19 hts hK h1 h2
