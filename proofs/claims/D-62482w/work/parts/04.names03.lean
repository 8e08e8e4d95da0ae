set_option maxRecDepth 100000
theorem dX1_event_33 : decode cX1_event 33 = .ok (.dup, 1) := by decide +kernel
theorem dX1_event_34 : decode cX1_event 34 = .ok (.invokespecial 98, 3) := by decide +kernel
theorem dX1_event_37 : decode cX1_event 37 = .ok (.athrow, 1) := by decide +kernel
theorem dX1_event_38 : decode cX1_event 38 = .ok (.aload_n 0, 1) := by decide +kernel
theorem dX1_event_39 : decode cX1_event 39 = .ok (.getfield 53, 3) := by decide +kernel
theorem dX1_event_42 : decode cX1_event 42 = .ok (.invokevirtual 109, 3) := by decide +kernel
theorem dX1_event_45 : decode cX1_event 45 = .ok (.aload_n 0, 1) := by decide +kernel
theorem dX1_event_46 : decode cX1_event 46 = .ok (.getfield 53, 3) := by decide +kernel
theorem dX1_event_49 : decode cX1_event 49 = .ok (.iload_n 1, 1) := by decide +kernel
theorem dX1_event_50 : decode cX1_event 50 = .ok (.invokevirtual 112, 3) := by decide +kernel
theorem dX1_event_53 : decode cX1_event 53 = .ok (.aload_n 0, 1) := by decide +kernel
theorem dX1_event_54 : decode cX1_event 54 = .ok (.getfield 53, 3) := by decide +kernel
theorem dX1_event_57 : decode cX1_event 57 = .ok (.getfield 102, 3) := by decide +kernel
theorem dX1_event_60 : decode cX1_event 60 = .ok (.ireturn, 1) := by decide +kernel
abbrev cX1_tick : ByteArray := prog_1_method_9_code
def yX1_tick : MethodName := ⟨RX1, "tick", "(I)I"⟩
theorem dX1_tick_0 : decode cX1_tick 0 = .ok (.iload_n 1, 1) := by decide +kernel
theorem dX1_tick_1 : decode cX1_tick 1 = .ok (.ifCond .lt 9, 3) := by decide +kernel
theorem dX1_tick_4 : decode cX1_tick 4 = .ok (.iload_n 1, 1) := by decide +kernel
theorem dX1_tick_5 : decode cX1_tick 5 = .ok (.bipush 20, 2) := by decide +kernel
theorem dX1_tick_7 : decode cX1_tick 7 = .ok (.if_icmp .le 11, 3) := by decide +kernel
theorem dX1_tick_10 : decode cX1_tick 10 = .ok (.new 77, 3) := by decide +kernel
theorem dX1_tick_13 : decode cX1_tick 13 = .ok (.dup, 1) := by decide +kernel
theorem dX1_tick_14 : decode cX1_tick 14 = .ok (.invokespecial 82, 3) := by decide +kernel
theorem dX1_tick_17 : decode cX1_tick 17 = .ok (.athrow, 1) := by decide +kernel
theorem dX1_tick_18 : decode cX1_tick 18 = .ok (.aload_n 0, 1) := by decide +kernel
theorem dX1_tick_19 : decode cX1_tick 19 = .ok (.getfield 53, 3) := by decide +kernel
theorem dX1_tick_22 : decode cX1_tick 22 = .ok (.getfield 105, 3) := by decide +kernel
theorem dX1_tick_25 : decode cX1_tick 25 = .ok (.ifCond .ne 11, 3) := by decide +kernel
theorem dX1_tick_28 : decode cX1_tick 28 = .ok (.new 96, 3) := by decide +kernel
theorem dX1_tick_31 : decode cX1_tick 31 = .ok (.dup, 1) := by decide +kernel
theorem dX1_tick_32 : decode cX1_tick 32 = .ok (.invokespecial 98, 3) := by decide +kernel
theorem dX1_tick_35 : decode cX1_tick 35 = .ok (.athrow, 1) := by decide +kernel
theorem dX1_tick_36 : decode cX1_tick 36 = .ok (.aload_n 0, 1) := by decide +kernel
theorem dX1_tick_37 : decode cX1_tick 37 = .ok (.getfield 53, 3) := by decide +kernel
theorem dX1_tick_40 : decode cX1_tick 40 = .ok (.invokevirtual 109, 3) := by decide +kernel
theorem dX1_tick_43 : decode cX1_tick 43 = .ok (.iconst 0, 1) := by decide +kernel
theorem dX1_tick_44 : decode cX1_tick 44 = .ok (.istore_n 2, 1) := by decide +kernel
theorem dX1_tick_45 : decode cX1_tick 45 = .ok (.iload_n 2, 1) := by decide +kernel
theorem dX1_tick_46 : decode cX1_tick 46 = .ok (.iload_n 1, 1) := by decide +kernel
theorem dX1_tick_47 : decode cX1_tick 47 = .ok (.if_icmp .ge 16, 3) := by decide +kernel
theorem dX1_tick_50 : decode cX1_tick 50 = .ok (.aload_n 0, 1) := by decide +kernel
theorem dX1_tick_51 : decode cX1_tick 51 = .ok (.getfield 53, 3) := by decide +kernel
theorem dX1_tick_54 : decode cX1_tick 54 = .ok (.invokevirtual 116, 3) := by decide +kernel
theorem dX1_tick_57 : decode cX1_tick 57 = .ok (.iinc 2 1, 3) := by decide +kernel
theorem dX1_tick_60 : decode cX1_tick 60 = .ok (.goto (-15), 3) := by decide +kernel
theorem dX1_tick_63 : decode cX1_tick 63 = .ok (.aload_n 0, 1) := by decide +kernel
theorem dX1_tick_64 : decode cX1_tick 64 = .ok (.getfield 53, 3) := by decide +kernel
theorem dX1_tick_67 : decode cX1_tick 67 = .ok (.getfield 102, 3) := by decide +kernel
theorem dX1_tick_70 : decode cX1_tick 70 = .ok (.ireturn, 1) := by decide +kernel
theorem q72 : (Jvm.Cond.initialized "NestChart") ∈ lw_all := lw_g (lw_at lw_m1 1 rfl) rfl
theorem q103 : (Jvm.Cond.instantiable "NestChart" (5 : Nat)) ∈ lw_all := lw_g (lw_at lw_m1 32 rfl) rfl
theorem q105 : (Jvm.Cond.instanceMethod ({ cls := "NestChart", name := "<init>", desc := "()V" } : Jvm.MethodName)) ∈ lw_all := lw_g (lw_at lw_m1 34 rfl) rfl
theorem q106 : (Jvm.Cond.code ({ cls := "NestChart", name := "<init>", desc := "()V" } : Jvm.MethodName) prog_1_method_3_code (1 : Nat) (Option.none : Option Jvm.ClassFile.FieldType)) ∈ lw_all := lw_g (lw_at lw_m1 35 rfl) rfl
theorem q107 : (Jvm.Cond.methodLink "NestChart" (37 : Nat) ({ cls := "java/lang/Object", name := "<init>", desc := "()V" } : Jvm.MethodName)) ∈ lw_all := lw_g (lw_at lw_m1 36 rfl) rfl
theorem q110 : (Jvm.Cond.classLink "NestChart" (43 : Nat) "NestChart$Reader") ∈ lw_all := lw_g (lw_at lw_m1 39 rfl) rfl
theorem q112 : (Jvm.Cond.methodLinkNest "NestChart" (45 : Nat) ({ cls := "NestChart$Reader", name := "<init>", desc := "()V" } : Jvm.MethodName) "NestChart") ∈ lw_tbl := lw_at lw_m1 41 rfl
theorem q117 : (Jvm.Cond.fieldLinkNest "NestChart" (67 : Nat) "NestChart$Reader" "text" "[C" "NestChart") ∈ lw_tbl := lw_at lw_m1 46 rfl
theorem q119 : (Jvm.Cond.fieldLinkNest "NestChart" (71 : Nat) "NestChart$Reader" "size" "I" "NestChart") ∈ lw_tbl := lw_at lw_m1 48 rfl
theorem q121 : (Jvm.Cond.fieldLinkNest "NestChart" (79 : Nat) "NestChart$Reader" "at" "I" "NestChart") ∈ lw_tbl := lw_at lw_m1 50 rfl
theorem q122 : (Jvm.Cond.fieldLinkNest "NestChart" (84 : Nat) "NestChart$Reader" "states" "Ljava/util/ArrayList;" "NestChart") ∈ lw_tbl := lw_at lw_m1 51 rfl
theorem q126 : (Jvm.Cond.fieldLinkNest "NestChart" (83 : Nat) "NestChart$Reader" "byLetter" "[I" "NestChart") ∈ lw_tbl := lw_at lw_m1 55 rfl
theorem q148 : (Jvm.Cond.classLink "NestChart" (50 : Nat) "NestChart$Run") ∈ lw_all := lw_g (lw_at lw_m1 77 rfl) rfl
theorem q150 : (Jvm.Cond.methodLinkNest "NestChart" (52 : Nat) ({ cls := "NestChart$Run", name := "<init>", desc := "()V" } : Jvm.MethodName) "NestChart") ∈ lw_tbl := lw_at lw_m1 79 rfl
theorem q181 : (Jvm.Cond.fieldLinkNest "NestChart" (91 : Nat) "NestChart$Run" "states" "Ljava/util/ArrayList;" "NestChart") ∈ lw_tbl := lw_at lw_m1 110 rfl
theorem q183 : (Jvm.Cond.fieldLinkNest "NestChart" (105 : Nat) "NestChart$Run" "runs" "Z" "NestChart") ∈ lw_tbl := lw_at lw_m1 112 rfl
theorem q186 : (Jvm.Cond.fieldLinkNest "NestChart" (130 : Nat) "NestChart$Run" "variables" "[D" "NestChart") ∈ lw_tbl := lw_at lw_m1 115 rfl
theorem q191 : (Jvm.Cond.fieldLinkNest "NestChart" (134 : Nat) "NestChart$Run" "sent" "Ljava/util/ArrayList;" "NestChart") ∈ lw_tbl := lw_at lw_m1 120 rfl
theorem q194 : (Jvm.Cond.fieldLinkNest "NestChart" (140 : Nat) "NestChart$Run" "trace" "[I" "NestChart") ∈ lw_tbl := lw_at lw_m1 123 rfl
theorem q196 : (Jvm.Cond.fieldLinkNest "NestChart" (137 : Nat) "NestChart$Run" "traced" "I" "NestChart") ∈ lw_tbl := lw_at lw_m1 125 rfl
theorem q197 : (Jvm.Cond.fieldLinkNest "NestChart" (102 : Nat) "NestChart$Run" "steps" "I" "NestChart") ∈ lw_tbl := lw_at lw_m1 126 rfl
theorem q231 : (Jvm.Cond.fieldLink "NestChart" (46 : Nat) "NestChart" "reader" "LNestChart$Reader;") ∈ lw_all := lw_g (lw_at lw_m1 160 rfl) rfl
theorem q232 : (Jvm.Cond.fieldLink "NestChart" (53 : Nat) "NestChart" "run" "LNestChart$Run;") ∈ lw_all := lw_g (lw_at lw_m1 161 rfl) rfl
theorem q233 : (Jvm.Cond.fieldLink "NestChart" (57 : Nat) "NestChart" "byLetter" "[I") ∈ lw_all := lw_g (lw_at lw_m1 162 rfl) rfl
theorem q234 : (Jvm.Cond.fieldLink "NestChart" (61 : Nat) "NestChart" "illAt" "I") ∈ lw_all := lw_g (lw_at lw_m1 163 rfl) rfl
theorem q235 : (Jvm.Cond.fieldLink "NestChart" (64 : Nat) "NestChart" "typed" "I") ∈ lw_all := lw_g (lw_at lw_m1 164 rfl) rfl
theorem q236 : (Jvm.Cond.laysFinal "NestChart" "NestChart" "reader" "LNestChart$Reader;") ∈ lw_all := lw_g (lw_at lw_m1 165 rfl) rfl
theorem q237 : (Jvm.Cond.soleField "NestChart" "reader") ∈ lw_all := lw_g (lw_at lw_m1 166 rfl) rfl
theorem q238 : (Jvm.Cond.laysFinal "NestChart" "NestChart" "run" "LNestChart$Run;") ∈ lw_all := lw_g (lw_at lw_m1 167 rfl) rfl
theorem q239 : (Jvm.Cond.soleField "NestChart" "run") ∈ lw_all := lw_g (lw_at lw_m1 168 rfl) rfl
theorem q240 : (Jvm.Cond.laysFinal "NestChart" "NestChart" "byLetter" "[I") ∈ lw_all := lw_g (lw_at lw_m1 169 rfl) rfl
theorem q241 : (Jvm.Cond.soleField "NestChart" "byLetter") ∈ lw_all := lw_g (lw_at lw_m1 170 rfl) rfl
theorem q242 : (Jvm.Cond.lays "NestChart" "NestChart" "illAt" "I") ∈ lw_all := lw_g (lw_at lw_m1 171 rfl) rfl
theorem q243 : (Jvm.Cond.soleField "NestChart" "illAt") ∈ lw_all := lw_g (lw_at lw_m1 172 rfl) rfl
theorem q244 : (Jvm.Cond.lays "NestChart" "NestChart" "typed" "I") ∈ lw_all := lw_g (lw_at lw_m1 173 rfl) rfl
theorem q245 : (Jvm.Cond.soleField "NestChart" "typed") ∈ lw_all := lw_g (lw_at lw_m1 174 rfl) rfl
theorem q246 : (Jvm.Cond.superclass "NestChart" "java/lang/Object") ∈ lw_all := lw_g (lw_at lw_m1 175 rfl) rfl
theorem q248 : (Jvm.Cond.instanceMethod ({ cls := "NestChart", name := "type", desc := "(C)Z" } : Jvm.MethodName)) ∈ lw_all := lw_g (lw_at lw_m1 177 rfl) rfl
theorem q249 : (Jvm.Cond.selects "NestChart" ({ cls := "NestChart", name := "type", desc := "(C)Z" } : Jvm.MethodName) ({ cls := "NestChart", name := "type", desc := "(C)Z" } : Jvm.MethodName)) ∈ lw_all := lw_g (lw_at lw_m1 178 rfl) rfl
theorem q250 : (Jvm.Cond.code ({ cls := "NestChart", name := "type", desc := "(C)Z" } : Jvm.MethodName) prog_1_method_4_code (2 : Nat) (Option.some Jvm.ClassFile.FieldType.boolean)) ∈ lw_all := lw_g (lw_at lw_m1 179 rfl) rfl
theorem q252 : (Jvm.Cond.instanceMethod ({ cls := "NestChart", name := "place", desc := "()I" } : Jvm.MethodName)) ∈ lw_all := lw_g (lw_at lw_m1 181 rfl) rfl
theorem q253 : (Jvm.Cond.selects "NestChart" ({ cls := "NestChart", name := "place", desc := "()I" } : Jvm.MethodName) ({ cls := "NestChart", name := "place", desc := "()I" } : Jvm.MethodName)) ∈ lw_all := lw_g (lw_at lw_m1 182 rfl) rfl
theorem q254 : (Jvm.Cond.code ({ cls := "NestChart", name := "place", desc := "()I" } : Jvm.MethodName) prog_1_method_6_code (1 : Nat) (Option.some Jvm.ClassFile.FieldType.int)) ∈ lw_all := lw_g (lw_at lw_m1 183 rfl) rfl
theorem q256 : (Jvm.Cond.instanceMethod ({ cls := "NestChart", name := "runs", desc := "()Z" } : Jvm.MethodName)) ∈ lw_all := lw_g (lw_at lw_m1 185 rfl) rfl
theorem q257 : (Jvm.Cond.selects "NestChart" ({ cls := "NestChart", name := "runs", desc := "()Z" } : Jvm.MethodName) ({ cls := "NestChart", name := "runs", desc := "()Z" } : Jvm.MethodName)) ∈ lw_all := lw_g (lw_at lw_m1 186 rfl) rfl
theorem q258 : (Jvm.Cond.code ({ cls := "NestChart", name := "runs", desc := "()Z" } : Jvm.MethodName) prog_1_method_11_code (1 : Nat) (Option.some Jvm.ClassFile.FieldType.boolean)) ∈ lw_all := lw_g (lw_at lw_m1 187 rfl) rfl
theorem q260 : (Jvm.Cond.instanceMethod ({ cls := "NestChart", name := "active", desc := "(C)Z" } : Jvm.MethodName)) ∈ lw_all := lw_g (lw_at lw_m1 189 rfl) rfl
theorem q261 : (Jvm.Cond.selects "NestChart" ({ cls := "NestChart", name := "active", desc := "(C)Z" } : Jvm.MethodName) ({ cls := "NestChart", name := "active", desc := "(C)Z" } : Jvm.MethodName)) ∈ lw_all := lw_g (lw_at lw_m1 190 rfl) rfl
theorem q262 : (Jvm.Cond.code ({ cls := "NestChart", name := "active", desc := "(C)Z" } : Jvm.MethodName) prog_1_method_12_code (3 : Nat) (Option.some Jvm.ClassFile.FieldType.boolean)) ∈ lw_all := lw_g (lw_at lw_m1 191 rfl) rfl
theorem q263 : (Jvm.Cond.methodLink "NestChart" (119 : Nat) ({ cls := "NestChart", name := "stateOf", desc := "(C)LNestChart$State;" } : Jvm.MethodName)) ∈ lw_all := lw_g (lw_at lw_m1 192 rfl) rfl
theorem q264 : (Jvm.Cond.privateMethod ({ cls := "NestChart", name := "stateOf", desc := "(C)LNestChart$State;" } : Jvm.MethodName)) ∈ lw_tbl := lw_at lw_m1 193 rfl
theorem q265 : (Jvm.Cond.instanceMethod ({ cls := "NestChart", name := "stateOf", desc := "(C)LNestChart$State;" } : Jvm.MethodName)) ∈ lw_all := lw_g (lw_at lw_m1 194 rfl) rfl
theorem q266 : (Jvm.Cond.code ({ cls := "NestChart", name := "stateOf", desc := "(C)LNestChart$State;" } : Jvm.MethodName) prog_1_method_10_code (2 : Nat) (Option.some (Jvm.ClassFile.FieldType.object "NestChart$State"))) ∈ lw_all := lw_g (lw_at lw_m1 195 rfl) rfl
theorem q267 : (Jvm.Cond.methodLink "NestChart" (92 : Nat) ({ cls := "java/util/ArrayList", name := "isEmpty", desc := "()Z" } : Jvm.MethodName)) ∈ lw_all := lw_g (lw_at lw_m1 196 rfl) rfl
theorem q271 : (Jvm.Cond.methodLink "NestChart" (20 : Nat) ({ cls := "java/util/ArrayList", name := "get", desc := "(I)Ljava/lang/Object;" } : Jvm.MethodName)) ∈ lw_all := lw_g (lw_at lw_m1 200 rfl) rfl
theorem q285 : (Jvm.Cond.classLink "NestChart" (2 : Nat) "NestChart$State") ∈ lw_all := lw_g (lw_at lw_m1 214 rfl) rfl
theorem q286 : (Jvm.Cond.methodLink "NestChart" (126 : Nat) ({ cls := "NestChart$Run", name := "isActive", desc := "(I)Z" } : Jvm.MethodName)) ∈ lw_all := lw_g (lw_at lw_m1 215 rfl) rfl
theorem q291 : (Jvm.Cond.instanceMethod ({ cls := "NestChart", name := "variable", desc := "(C)D" } : Jvm.MethodName)) ∈ lw_all := lw_g (lw_at lw_m1 220 rfl) rfl
theorem q292 : (Jvm.Cond.selects "NestChart" ({ cls := "NestChart", name := "variable", desc := "(C)D" } : Jvm.MethodName) ({ cls := "NestChart", name := "variable", desc := "(C)D" } : Jvm.MethodName)) ∈ lw_all := lw_g (lw_at lw_m1 221 rfl) rfl
theorem q293 : (Jvm.Cond.code ({ cls := "NestChart", name := "variable", desc := "(C)D" } : Jvm.MethodName) prog_1_method_13_code (2 : Nat) (Option.some Jvm.ClassFile.FieldType.double)) ∈ lw_all := lw_g (lw_at lw_m1 222 rfl) rfl
theorem q295 : (Jvm.Cond.instanceMethod ({ cls := "NestChart", name := "sent", desc := "()I" } : Jvm.MethodName)) ∈ lw_all := lw_g (lw_at lw_m1 224 rfl) rfl
theorem q296 : (Jvm.Cond.selects "NestChart" ({ cls := "NestChart", name := "sent", desc := "()I" } : Jvm.MethodName) ({ cls := "NestChart", name := "sent", desc := "()I" } : Jvm.MethodName)) ∈ lw_all := lw_g (lw_at lw_m1 225 rfl) rfl
theorem q297 : (Jvm.Cond.code ({ cls := "NestChart", name := "sent", desc := "()I" } : Jvm.MethodName) prog_1_method_14_code (1 : Nat) (Option.some Jvm.ClassFile.FieldType.int)) ∈ lw_all := lw_g (lw_at lw_m1 226 rfl) rfl
theorem q298 : (Jvm.Cond.methodLink "NestChart" (30 : Nat) ({ cls := "java/util/ArrayList", name := "size", desc := "()I" } : Jvm.MethodName)) ∈ lw_all := lw_g (lw_at lw_m1 227 rfl) rfl
theorem q303 : (Jvm.Cond.instanceMethod ({ cls := "NestChart", name := "trace", desc := "(I)I" } : Jvm.MethodName)) ∈ lw_all := lw_g (lw_at lw_m1 232 rfl) rfl
theorem q304 : (Jvm.Cond.selects "NestChart" ({ cls := "NestChart", name := "trace", desc := "(I)I" } : Jvm.MethodName) ({ cls := "NestChart", name := "trace", desc := "(I)I" } : Jvm.MethodName)) ∈ lw_all := lw_g (lw_at lw_m1 233 rfl) rfl
theorem q305 : (Jvm.Cond.code ({ cls := "NestChart", name := "trace", desc := "(I)I" } : Jvm.MethodName) prog_1_method_15_code (2 : Nat) (Option.some Jvm.ClassFile.FieldType.int)) ∈ lw_all := lw_g (lw_at lw_m1 234 rfl) rfl
theorem q307 : (Jvm.Cond.instanceMethod ({ cls := "NestChart", name := "history", desc := "(CZ)I" } : Jvm.MethodName)) ∈ lw_all := lw_g (lw_at lw_m1 236 rfl) rfl
theorem q308 : (Jvm.Cond.selects "NestChart" ({ cls := "NestChart", name := "history", desc := "(CZ)I" } : Jvm.MethodName) ({ cls := "NestChart", name := "history", desc := "(CZ)I" } : Jvm.MethodName)) ∈ lw_all := lw_g (lw_at lw_m1 237 rfl) rfl
theorem q309 : (Jvm.Cond.code ({ cls := "NestChart", name := "history", desc := "(CZ)I" } : Jvm.MethodName) prog_1_method_16_code (4 : Nat) (Option.some Jvm.ClassFile.FieldType.int)) ∈ lw_all := lw_g (lw_at lw_m1 238 rfl) rfl
theorem q315 : (Jvm.Cond.instanceMethod ({ cls := "NestChart", name := "build", desc := "()I" } : Jvm.MethodName)) ∈ lw_all := lw_g (lw_at lw_m2 4 rfl) rfl
theorem q316 : (Jvm.Cond.selects "NestChart" ({ cls := "NestChart", name := "build", desc := "()I" } : Jvm.MethodName) ({ cls := "NestChart", name := "build", desc := "()I" } : Jvm.MethodName)) ∈ lw_all := lw_g (lw_at lw_m2 5 rfl) rfl
theorem q317 : (Jvm.Cond.codeWith ({ cls := "NestChart", name := "build", desc := "()I" } : Jvm.MethodName) prog_1_method_5_code (2 : Nat) (Option.some Jvm.ClassFile.FieldType.int) [((5 : Nat), (13 : Nat), (16 : Nat), (77 : Nat))]) ∈ lw_all := lw_g (lw_at lw_m2 6 rfl) rfl
theorem q318 : (Jvm.Cond.classLink "NestChart" (77 : Nat) "java/lang/IllegalArgumentException") ∈ lw_all := lw_g (lw_at lw_m2 7 rfl) rfl
theorem q319 : (Jvm.Cond.methodLink "NestChart" (73 : Nat) ({ cls := "NestChart$Reader", name := "chart", desc := "()LNestChart$State;" } : Jvm.MethodName)) ∈ lw_all := lw_g (lw_at lw_m2 8 rfl) rfl
theorem q414 : (Jvm.Cond.fieldLinkNest "NestChart" (123 : Nat) "NestChart$State" "number" "I" "NestChart") ∈ lw_tbl := lw_at lw_m2 103 rfl
theorem q417 : (Jvm.Cond.fieldLinkNest "NestChart" (33 : Nat) "NestChart$State" "outer" "LNestChart$State;" "NestChart") ∈ lw_tbl := lw_at lw_m2 106 rfl
theorem q419 : (Jvm.Cond.fieldLinkNest "NestChart" (7 : Nat) "NestChart$State" "kind" "I" "NestChart") ∈ lw_tbl := lw_at lw_m2 108 rfl
theorem q423 : (Jvm.Cond.fieldLinkNest "NestChart" (16 : Nat) "NestChart$State" "inner" "Ljava/util/ArrayList;" "NestChart") ∈ lw_tbl := lw_at lw_m2 112 rfl
theorem q435 : (Jvm.Cond.fieldLinkNest "NestChart" (13 : Nat) "NestChart$State" "below" "I" "NestChart") ∈ lw_tbl := lw_at lw_m2 124 rfl
theorem q439 : (Jvm.Cond.fieldLinkNest "NestChart" (146 : Nat) "NestChart$State" "history" "I" "NestChart") ∈ lw_tbl := lw_at lw_m2 128 rfl
theorem q441 : (Jvm.Cond.fieldLinkNest "NestChart" (143 : Nat) "NestChart$State" "deepHistory" "I" "NestChart") ∈ lw_tbl := lw_at lw_m2 130 rfl
theorem q495 : (Jvm.Cond.selects "NestChart" ({ cls := "java/lang/Object", name := "getClass", desc := "()Ljava/lang/Class;" } : Jvm.MethodName) ({ cls := "java/lang/Object", name := "getClass", desc := "()Ljava/lang/Class;" } : Jvm.MethodName)) ∈ lw_all := lw_g (lw_at lw_m2 184 rfl) rfl
theorem q718 : (Jvm.Cond.methodLink "NestChart" (82 : Nat) ({ cls := "java/lang/IllegalArgumentException", name := "<init>", desc := "()V" } : Jvm.MethodName)) ∈ lw_all := lw_g (lw_at lw_m3 167 rfl) rfl
theorem q719 : (Jvm.Cond.methodLink "NestChart" (87 : Nat) ({ cls := "NestChart$Run", name := "build", desc := "(Ljava/util/ArrayList;)V" } : Jvm.MethodName)) ∈ lw_all := lw_g (lw_at lw_m3 168 rfl) rfl
theorem q737 : (Jvm.Cond.instanceMethod ({ cls := "NestChart", name := "start", desc := "()I" } : Jvm.MethodName)) ∈ lw_all := lw_g (lw_at lw_m3 186 rfl) rfl
theorem q738 : (Jvm.Cond.selects "NestChart" ({ cls := "NestChart", name := "start", desc := "()I" } : Jvm.MethodName) ({ cls := "NestChart", name := "start", desc := "()I" } : Jvm.MethodName)) ∈ lw_all := lw_g (lw_at lw_m3 187 rfl) rfl
theorem q739 : (Jvm.Cond.code ({ cls := "NestChart", name := "start", desc := "()I" } : Jvm.MethodName) prog_1_method_7_code (1 : Nat) (Option.some Jvm.ClassFile.FieldType.int)) ∈ lw_all := lw_g (lw_at lw_m3 188 rfl) rfl
theorem q740 : (Jvm.Cond.classLink "NestChart" (96 : Nat) "java/lang/IllegalStateException") ∈ lw_all := lw_g (lw_at lw_m3 189 rfl) rfl
theorem q749 : (Jvm.Cond.methodLink "NestChart" (98 : Nat) ({ cls := "java/lang/IllegalStateException", name := "<init>", desc := "()V" } : Jvm.MethodName)) ∈ lw_all := lw_g (lw_at lw_m3 198 rfl) rfl
theorem q755 : (Jvm.Cond.methodLink "NestChart" (99 : Nat) ({ cls := "NestChart$Run", name := "begin", desc := "()V" } : Jvm.MethodName)) ∈ lw_all := lw_g (lw_at lw_m3 204 rfl) rfl
theorem q767 : (Jvm.Cond.static ({ cls := "NestChart", name := "down", desc := "(LNestChart$State;I)I" } : Jvm.MethodName)) ∈ lw_all := lw_g (lw_at lw_m3 216 rfl) rfl
theorem q768 : (Jvm.Cond.code ({ cls := "NestChart", name := "down", desc := "(LNestChart$State;I)I" } : Jvm.MethodName) prog_1_method_1_code (5 : Nat) (Option.some Jvm.ClassFile.FieldType.int)) ∈ lw_all := lw_g (lw_at lw_m3 217 rfl) rfl
theorem q769 : (Jvm.Cond.methodLink "NestChart" (1 : Nat) ({ cls := "NestChart$State", name := "bit", desc := "()I" } : Jvm.MethodName)) ∈ lw_all := lw_g (lw_at lw_m3 218 rfl) rfl
theorem q770 : (Jvm.Cond.methodLink "NestChart" (26 : Nat) ({ cls := "NestChart", name := "down", desc := "(LNestChart$State;I)I" } : Jvm.MethodName)) ∈ lw_all := lw_g (lw_at lw_m3 219 rfl) rfl
theorem q960 : (Jvm.Cond.static ({ cls := "NestChart", name := "up", desc := "(LNestChart$State;LNestChart$State;I)I" } : Jvm.MethodName)) ∈ lw_all := lw_g (lw_at lw_m4 169 rfl) rfl
theorem q961 : (Jvm.Cond.code ({ cls := "NestChart", name := "up", desc := "(LNestChart$State;LNestChart$State;I)I" } : Jvm.MethodName) prog_1_method_2_code (7 : Nat) (Option.some Jvm.ClassFile.FieldType.int)) ∈ lw_all := lw_g (lw_at lw_m4 170 rfl) rfl
theorem q966 : (Jvm.Cond.instanceMethod ({ cls := "NestChart", name := "event", desc := "(C)I" } : Jvm.MethodName)) ∈ lw_all := lw_g (lw_at lw_m4 175 rfl) rfl
theorem q967 : (Jvm.Cond.selects "NestChart" ({ cls := "NestChart", name := "event", desc := "(C)I" } : Jvm.MethodName) ({ cls := "NestChart", name := "event", desc := "(C)I" } : Jvm.MethodName)) ∈ lw_all := lw_g (lw_at lw_m4 176 rfl) rfl
theorem q968 : (Jvm.Cond.code ({ cls := "NestChart", name := "event", desc := "(C)I" } : Jvm.MethodName) prog_1_method_8_code (2 : Nat) (Option.some Jvm.ClassFile.FieldType.int)) ∈ lw_all := lw_g (lw_at lw_m4 177 rfl) rfl
theorem q969 : (Jvm.Cond.methodLink "NestChart" (109 : Nat) ({ cls := "NestChart$Run", name := "open", desc := "()V" } : Jvm.MethodName)) ∈ lw_all := lw_g (lw_at lw_m4 178 rfl) rfl
theorem q970 : (Jvm.Cond.methodLink "NestChart" (112 : Nat) ({ cls := "NestChart$Run", name := "come", desc := "(C)V" } : Jvm.MethodName)) ∈ lw_all := lw_g (lw_at lw_m4 179 rfl) rfl
theorem q978 : (Jvm.Cond.instanceMethod ({ cls := "NestChart", name := "tick", desc := "(I)I" } : Jvm.MethodName)) ∈ lw_all := lw_g (lw_at lw_m4 187 rfl) rfl
theorem q979 : (Jvm.Cond.selects "NestChart" ({ cls := "NestChart", name := "tick", desc := "(I)I" } : Jvm.MethodName) ({ cls := "NestChart", name := "tick", desc := "(I)I" } : Jvm.MethodName)) ∈ lw_all := lw_g (lw_at lw_m4 188 rfl) rfl
theorem q980 : (Jvm.Cond.code ({ cls := "NestChart", name := "tick", desc := "(I)I" } : Jvm.MethodName) prog_1_method_9_code (3 : Nat) (Option.some Jvm.ClassFile.FieldType.int)) ∈ lw_all := lw_g (lw_at lw_m4 189 rfl) rfl
theorem q981 : (Jvm.Cond.methodLink "NestChart" (116 : Nat) ({ cls := "NestChart$Run", name := "tick", desc := "()V" } : Jvm.MethodName)) ∈ lw_all := lw_g (lw_at lw_m4 190 rfl) rfl
theorem q1416 : (Jvm.Cond.castable "NestChart" "java/lang/Object") ∈ lw_tbl := lw_at lw_m6 145 rfl
theorem in_X1 : ∀ w ∈ wsX10, w ∈ lw_all := lw_in wsX10 [236, 238, 240, 242, 244] (by decide +kernel) (by decide +kernel)

/-! NestChart$Reader -/
def RX2 : String := "NestChart$Reader"
def TX2 : u_T := fun k => match k with
  | 0 => ("NestChart$Reader", "text", "[C", true)
  | 1 => ("NestChart$Reader", "size", "I", false)
  | 2 => ("NestChart$Reader", "at", "I", false)
  | 3 => ("NestChart$Reader", "states", "Ljava/util/ArrayList;", false)
  | 4 => ("NestChart$Reader", "names", "Ljava/util/ArrayList;", false)
  | 5 => ("NestChart$Reader", "byLetter", "[I", true)
  | 6 => ("NestChart$Reader", "transitions", "I", false)
  | _ => ("NestChart$Reader", "actions", "I", false)
def tyX2 : Nat → FieldType := fun k => match k with
  | 0 => .array .char
  | 1 => .int
  | 2 => .int
  | 3 => .object "java/util/ArrayList"
  | 4 => .object "java/util/ArrayList"
  | 5 => .array .int
  | 6 => .int
  | _ => .int
abbrev wsX20 : List Cond := u_ws RX2 TX2 8
theorem nmX2 : ∀ a, a < 8 → ∀ b, b < 8 → a ≠ b → (TX2 a).2.1 ≠ (TX2 b).2.1 := by decide +kernel
theorem tyX2_ok : ∀ k, k < 8 → parseFieldDescriptor (TX2 k).2.2.1 = some (tyX2 k) := by decide +kernel
abbrev cX2_init : ByteArray := prog_9_method_1_code
def yX2_init : MethodName := ⟨RX2, "<init>", "()V"⟩
theorem dX2_init_0 : decode cX2_init 0 = .ok (.aload_n 0, 1) := by decide +kernel
theorem dX2_init_1 : decode cX2_init 1 = .ok (.invokespecial 3, 3) := by decide +kernel
theorem dX2_init_4 : decode cX2_init 4 = .ok (.aload_n 0, 1) := by decide +kernel
theorem dX2_init_5 : decode cX2_init 5 = .ok (.sipush 160, 3) := by decide +kernel
theorem dX2_init_8 : decode cX2_init 8 = .ok (.newarray .char, 2) := by decide +kernel
theorem dX2_init_10 : decode cX2_init 10 = .ok (.putfield 9, 3) := by decide +kernel
theorem dX2_init_13 : decode cX2_init 13 = .ok (.aload_n 0, 1) := by decide +kernel
theorem dX2_init_14 : decode cX2_init 14 = .ok (.bipush 16, 2) := by decide +kernel
theorem dX2_init_16 : decode cX2_init 16 = .ok (.newarray .int, 2) := by decide +kernel
theorem dX2_init_18 : decode cX2_init 18 = .ok (.putfield 15, 3) := by decide +kernel
theorem dX2_init_21 : decode cX2_init 21 = .ok (.return_, 1) := by decide +kernel
abbrev cX2_chart : ByteArray := prog_9_method_8_code
def yX2_chart : MethodName := ⟨RX2, "chart", "()LNestChart$State;"⟩
theorem dX2_chart_0 : decode cX2_chart 0 = .ok (.aload_n 0, 1) := by decide +kernel
theorem dX2_chart_1 : decode cX2_chart 1 = .ok (.iconst 0, 1) := by decide +kernel
theorem dX2_chart_2 : decode cX2_chart 2 = .ok (.putfield 19, 3) := by decide +kernel
theorem dX2_chart_5 : decode cX2_chart 5 = .ok (.aload_n 0, 1) := by decide +kernel
theorem dX2_chart_6 : decode cX2_chart 6 = .ok (.new 41, 3) := by decide +kernel
theorem dX2_chart_9 : decode cX2_chart 9 = .ok (.dup, 1) := by decide +kernel
theorem dX2_chart_10 : decode cX2_chart 10 = .ok (.invokespecial 43, 3) := by decide +kernel
theorem dX2_chart_13 : decode cX2_chart 13 = .ok (.putfield 44, 3) := by decide +kernel
theorem dX2_chart_16 : decode cX2_chart 16 = .ok (.aload_n 0, 1) := by decide +kernel
theorem dX2_chart_17 : decode cX2_chart 17 = .ok (.new 41, 3) := by decide +kernel
theorem dX2_chart_20 : decode cX2_chart 20 = .ok (.dup, 1) := by decide +kernel
theorem dX2_chart_21 : decode cX2_chart 21 = .ok (.invokespecial 43, 3) := by decide +kernel
theorem dX2_chart_24 : decode cX2_chart 24 = .ok (.putfield 48, 3) := by decide +kernel
theorem dX2_chart_27 : decode cX2_chart 27 = .ok (.aload_n 0, 1) := by decide +kernel
theorem dX2_chart_28 : decode cX2_chart 28 = .ok (.iconst 0, 1) := by decide +kernel
theorem dX2_chart_29 : decode cX2_chart 29 = .ok (.putfield 51, 3) := by decide +kernel
theorem dX2_chart_32 : decode cX2_chart 32 = .ok (.aload_n 0, 1) := by decide +kernel
theorem dX2_chart_33 : decode cX2_chart 33 = .ok (.iconst 0, 1) := by decide +kernel
theorem dX2_chart_34 : decode cX2_chart 34 = .ok (.putfield 54, 3) := by decide +kernel
theorem dX2_chart_37 : decode cX2_chart 37 = .ok (.iconst 0, 1) := by decide +kernel
theorem dX2_chart_38 : decode cX2_chart 38 = .ok (.istore_n 1, 1) := by decide +kernel
theorem dX2_chart_39 : decode cX2_chart 39 = .ok (.iload_n 1, 1) := by decide +kernel
theorem dX2_chart_40 : decode cX2_chart 40 = .ok (.bipush 16, 2) := by decide +kernel
theorem dX2_chart_42 : decode cX2_chart 42 = .ok (.if_icmp .ge 16, 3) := by decide +kernel
theorem dX2_chart_45 : decode cX2_chart 45 = .ok (.aload_n 0, 1) := by decide +kernel
theorem dX2_chart_46 : decode cX2_chart 46 = .ok (.getfield 15, 3) := by decide +kernel
theorem dX2_chart_49 : decode cX2_chart 49 = .ok (.iload_n 1, 1) := by decide +kernel
theorem dX2_chart_50 : decode cX2_chart 50 = .ok (.iconst (-1), 1) := by decide +kernel
theorem dX2_chart_51 : decode cX2_chart 51 = .ok (.iastore, 1) := by decide +kernel
theorem dX2_chart_52 : decode cX2_chart 52 = .ok (.iinc 1 1, 3) := by decide +kernel
theorem dX2_chart_55 : decode cX2_chart 55 = .ok (.goto (-16), 3) := by decide +kernel
theorem dX2_chart_58 : decode cX2_chart 58 = .ok (.aload_n 0, 1) := by decide +kernel
theorem dX2_chart_59 : decode cX2_chart 59 = .ok (.aconst_null, 1) := by decide +kernel
theorem dX2_chart_60 : decode cX2_chart 60 = .ok (.iconst 1, 1) := by decide +kernel
theorem dX2_chart_61 : decode cX2_chart 61 = .ok (.invokestatic 57, 3) := by decide +kernel
theorem dX2_chart_64 : decode cX2_chart 64 = .ok (.astore_n 1, 1) := by decide +kernel
theorem dX2_chart_65 : decode cX2_chart 65 = .ok (.aload_n 0, 1) := by decide +kernel
theorem dX2_chart_66 : decode cX2_chart 66 = .ok (.aload_n 0, 1) := by decide +kernel
theorem dX2_chart_67 : decode cX2_chart 67 = .ok (.getfield 19, 3) := by decide +kernel
theorem dX2_chart_70 : decode cX2_chart 70 = .ok (.aload_n 0, 1) := by decide +kernel
theorem dX2_chart_71 : decode cX2_chart 71 = .ok (.getfield 23, 3) := by decide +kernel
theorem dX2_chart_74 : decode cX2_chart 74 = .ok (.if_icmp .ne 7, 3) := by decide +kernel
theorem dX2_chart_77 : decode cX2_chart 77 = .ok (.iconst 1, 1) := by decide +kernel
theorem dX2_chart_78 : decode cX2_chart 78 = .ok (.goto 4, 3) := by decide +kernel
theorem dX2_chart_81 : decode cX2_chart 81 = .ok (.iconst 0, 1) := by decide +kernel
theorem dX2_chart_82 : decode cX2_chart 82 = .ok (.invokevirtual 37, 3) := by decide +kernel
theorem dX2_chart_85 : decode cX2_chart 85 = .ok (.iconst 0, 1) := by decide +kernel
theorem dX2_chart_86 : decode cX2_chart 86 = .ok (.istore_n 2, 1) := by decide +kernel
theorem dX2_chart_87 : decode cX2_chart 87 = .ok (.iload_n 2, 1) := by decide +kernel
theorem dX2_chart_88 : decode cX2_chart 88 = .ok (.aload_n 0, 1) := by decide +kernel
theorem dX2_chart_89 : decode cX2_chart 89 = .ok (.getfield 48, 3) := by decide +kernel
theorem dX2_chart_92 : decode cX2_chart 92 = .ok (.invokevirtual 61, 3) := by decide +kernel
theorem dX2_chart_95 : decode cX2_chart 95 = .ok (.if_icmp .ge 88, 3) := by decide +kernel
theorem dX2_chart_98 : decode cX2_chart 98 = .ok (.aload_n 0, 1) := by decide +kernel
theorem dX2_chart_99 : decode cX2_chart 99 = .ok (.getfield 48, 3) := by decide +kernel
theorem dX2_chart_102 : decode cX2_chart 102 = .ok (.iload_n 2, 1) := by decide +kernel
theorem dX2_chart_103 : decode cX2_chart 103 = .ok (.invokevirtual 64, 3) := by decide +kernel
theorem dX2_chart_106 : decode cX2_chart 106 = .ok (.checkcast 68, 3) := by decide +kernel
theorem dX2_chart_109 : decode cX2_chart 109 = .ok (.astore_n 3, 1) := by decide +kernel
theorem dX2_chart_110 : decode cX2_chart 110 = .ok (.aload_n 0, 1) := by decide +kernel
theorem dX2_chart_111 : decode cX2_chart 111 = .ok (.aload_n 3, 1) := by decide +kernel
theorem dX2_chart_112 : decode cX2_chart 112 = .ok (.getfield 70, 3) := by decide +kernel
theorem dX2_chart_115 : decode cX2_chart 115 = .ok (.putfield 19, 3) := by decide +kernel
theorem dX2_chart_118 : decode cX2_chart 118 = .ok (.aload_n 3, 1) := by decide +kernel
theorem dX2_chart_119 : decode cX2_chart 119 = .ok (.aload_n 0, 1) := by decide +kernel
theorem dX2_chart_120 : decode cX2_chart 120 = .ok (.getfield 15, 3) := by decide +kernel
theorem dX2_chart_123 : decode cX2_chart 123 = .ok (.aload_n 3, 1) := by decide +kernel
theorem dX2_chart_124 : decode cX2_chart 124 = .ok (.getfield 73, 3) := by decide +kernel
theorem dX2_chart_127 : decode cX2_chart 127 = .ok (.bipush 97, 2) := by decide +kernel
theorem dX2_chart_129 : decode cX2_chart 129 = .ok (.isub, 1) := by decide +kernel
theorem dX2_chart_130 : decode cX2_chart 130 = .ok (.iaload, 1) := by decide +kernel
theorem dX2_chart_131 : decode cX2_chart 131 = .ok (.putfield 77, 3) := by decide +kernel
theorem dX2_chart_134 : decode cX2_chart 134 = .ok (.aload_n 0, 1) := by decide +kernel
theorem dX2_chart_135 : decode cX2_chart 135 = .ok (.aload_n 3, 1) := by decide +kernel
theorem dX2_chart_136 : decode cX2_chart 136 = .ok (.getfield 77, 3) := by decide +kernel
theorem dX2_chart_139 : decode cX2_chart 139 = .ok (.ifCond .lt 34, 3) := by decide +kernel
theorem dX2_chart_142 : decode cX2_chart 142 = .ok (.aload_n 3, 1) := by decide +kernel
theorem dX2_chart_143 : decode cX2_chart 143 = .ok (.getfield 79, 3) := by decide +kernel
theorem dX2_chart_146 : decode cX2_chart 146 = .ok (.ifCond .eq 23, 3) := by decide +kernel
theorem dX2_chart_149 : decode cX2_chart 149 = .ok (.aload_n 0, 1) := by decide +kernel
theorem dX2_chart_150 : decode cX2_chart 150 = .ok (.getfield 44, 3) := by decide +kernel
theorem dX2_chart_153 : decode cX2_chart 153 = .ok (.aload_n 3, 1) := by decide +kernel
theorem dX2_chart_154 : decode cX2_chart 154 = .ok (.getfield 77, 3) := by decide +kernel
theorem dX2_chart_157 : decode cX2_chart 157 = .ok (.invokevirtual 64, 3) := by decide +kernel
theorem dX2_chart_160 : decode cX2_chart 160 = .ok (.checkcast 82, 3) := by decide +kernel
theorem dX2_chart_163 : decode cX2_chart 163 = .ok (.getfield 84, 3) := by decide +kernel
theorem dX2_chart_166 : decode cX2_chart 166 = .ok (.ifCond .eq 7, 3) := by decide +kernel
theorem dX2_chart_169 : decode cX2_chart 169 = .ok (.iconst 1, 1) := by decide +kernel
theorem dX2_chart_170 : decode cX2_chart 170 = .ok (.goto 4, 3) := by decide +kernel
theorem dX2_chart_173 : decode cX2_chart 173 = .ok (.iconst 0, 1) := by decide +kernel
theorem dX2_chart_174 : decode cX2_chart 174 = .ok (.invokevirtual 37, 3) := by decide +kernel
theorem dX2_chart_177 : decode cX2_chart 177 = .ok (.iinc 2 1, 3) := by decide +kernel
theorem dX2_chart_180 : decode cX2_chart 180 = .ok (.goto (-93), 3) := by decide +kernel
theorem dX2_chart_183 : decode cX2_chart 183 = .ok (.aload_n 1, 1) := by decide +kernel
theorem dX2_chart_184 : decode cX2_chart 184 = .ok (.areturn, 1) := by decide +kernel
abbrev cX2_state : ByteArray := prog_9_method_9_code
def yX2_state : MethodName := ⟨RX2, "state", "(LNestChart$Reader;LNestChart$State;I)LNestChart$State;"⟩
theorem dX2_state_0 : decode cX2_state 0 = .ok (.aload_n 0, 1) := by decide +kernel
theorem dX2_state_1 : decode cX2_state 1 = .ok (.aload_n 0, 1) := by decide +kernel
theorem dX2_state_2 : decode cX2_state 2 = .ok (.bipush 97, 2) := by decide +kernel
theorem dX2_state_4 : decode cX2_state 4 = .ok (.bipush 112, 2) := by decide +kernel
theorem dX2_state_6 : decode cX2_state 6 = .ok (.invokevirtual 87, 3) := by decide +kernel
theorem dX2_state_9 : decode cX2_state 9 = .ok (.ifCond .eq 28, 3) := by decide +kernel
theorem dX2_state_12 : decode cX2_state 12 = .ok (.aload_n 0, 1) := by decide +kernel
theorem dX2_state_13 : decode cX2_state 13 = .ok (.getfield 15, 3) := by decide +kernel
theorem dX2_state_16 : decode cX2_state 16 = .ok (.aload_n 0, 1) := by decide +kernel
theorem dX2_state_17 : decode cX2_state 17 = .ok (.invokevirtual 29, 3) := by decide +kernel
theorem dX2_state_20 : decode cX2_state 20 = .ok (.bipush 97, 2) := by decide +kernel
theorem dX2_state_22 : decode cX2_state 22 = .ok (.isub, 1) := by decide +kernel
theorem dX2_state_23 : decode cX2_state 23 = .ok (.iaload, 1) := by decide +kernel
theorem dX2_state_24 : decode cX2_state 24 = .ok (.ifCond .ge 13, 3) := by decide +kernel
theorem dX2_state_27 : decode cX2_state 27 = .ok (.iload_n 2, 1) := by decide +kernel
theorem dX2_state_28 : decode cX2_state 28 = .ok (.bipush 6, 2) := by decide +kernel
theorem dX2_state_30 : decode cX2_state 30 = .ok (.if_icmp .gt 7, 3) := by decide +kernel
theorem dX2_state_33 : decode cX2_state 33 = .ok (.iconst 1, 1) := by decide +kernel
theorem dX2_state_34 : decode cX2_state 34 = .ok (.goto 4, 3) := by decide +kernel
theorem dX2_state_37 : decode cX2_state 37 = .ok (.iconst 0, 1) := by decide +kernel
theorem dX2_state_38 : decode cX2_state 38 = .ok (.invokevirtual 37, 3) := by decide +kernel
theorem dX2_state_41 : decode cX2_state 41 = .ok (.new 82, 3) := by decide +kernel
theorem dX2_state_44 : decode cX2_state 44 = .ok (.dup, 1) := by decide +kernel
theorem dX2_state_45 : decode cX2_state 45 = .ok (.aload_n 0, 1) := by decide +kernel
theorem dX2_state_46 : decode cX2_state 46 = .ok (.getfield 44, 3) := by decide +kernel
theorem dX2_state_49 : decode cX2_state 49 = .ok (.invokevirtual 61, 3) := by decide +kernel
theorem dX2_state_52 : decode cX2_state 52 = .ok (.aload_n 1, 1) := by decide +kernel
theorem dX2_state_53 : decode cX2_state 53 = .ok (.invokespecial 91, 3) := by decide +kernel
theorem dX2_state_56 : decode cX2_state 56 = .ok (.astore_n 3, 1) := by decide +kernel
theorem dX2_state_57 : decode cX2_state 57 = .ok (.aload_n 0, 1) := by decide +kernel
theorem dX2_state_58 : decode cX2_state 58 = .ok (.getfield 44, 3) := by decide +kernel
theorem dX2_state_61 : decode cX2_state 61 = .ok (.aload_n 3, 1) := by decide +kernel
theorem dX2_state_62 : decode cX2_state 62 = .ok (.invokevirtual 94, 3) := by decide +kernel
theorem dX2_state_65 : decode cX2_state 65 = .ok (.pop, 1) := by decide +kernel
theorem dX2_state_66 : decode cX2_state 66 = .ok (.aload_n 0, 1) := by decide +kernel
theorem dX2_state_67 : decode cX2_state 67 = .ok (.getfield 15, 3) := by decide +kernel
theorem dX2_state_70 : decode cX2_state 70 = .ok (.aload_n 0, 1) := by decide +kernel
theorem dX2_state_71 : decode cX2_state 71 = .ok (.invokevirtual 98, 3) := by decide +kernel
theorem dX2_state_74 : decode cX2_state 74 = .ok (.bipush 97, 2) := by decide +kernel
theorem dX2_state_76 : decode cX2_state 76 = .ok (.isub, 1) := by decide +kernel
theorem dX2_state_77 : decode cX2_state 77 = .ok (.aload_n 3, 1) := by decide +kernel
theorem dX2_state_78 : decode cX2_state 78 = .ok (.getfield 101, 3) := by decide +kernel
theorem dX2_state_81 : decode cX2_state 81 = .ok (.iastore, 1) := by decide +kernel
theorem dX2_state_82 : decode cX2_state 82 = .ok (.aload_n 0, 1) := by decide +kernel
theorem dX2_state_83 : decode cX2_state 83 = .ok (.bipush 40, 2) := by decide +kernel
theorem dX2_state_85 : decode cX2_state 85 = .ok (.invokevirtual 33, 3) := by decide +kernel
theorem dX2_state_88 : decode cX2_state 88 = .ok (.ifCond .eq 44, 3) := by decide +kernel
theorem dX2_state_91 : decode cX2_state 91 = .ok (.aload_n 3, 1) := by decide +kernel
theorem dX2_state_92 : decode cX2_state 92 = .ok (.iconst 1, 1) := by decide +kernel
theorem dX2_state_93 : decode cX2_state 93 = .ok (.putfield 84, 3) := by decide +kernel
theorem dX2_state_96 : decode cX2_state 96 = .ok (.aload_n 3, 1) := by decide +kernel
theorem dX2_state_97 : decode cX2_state 97 = .ok (.getfield 104, 3) := by decide +kernel
theorem dX2_state_100 : decode cX2_state 100 = .ok (.aload_n 0, 1) := by decide +kernel
theorem dX2_state_101 : decode cX2_state 101 = .ok (.aload_n 3, 1) := by decide +kernel
theorem dX2_state_102 : decode cX2_state 102 = .ok (.iload_n 2, 1) := by decide +kernel
theorem dX2_state_103 : decode cX2_state 103 = .ok (.iconst 1, 1) := by decide +kernel
theorem dX2_state_104 : decode cX2_state 104 = .ok (.iadd, 1) := by decide +kernel
theorem dX2_state_105 : decode cX2_state 105 = .ok (.invokestatic 57, 3) := by decide +kernel
theorem dX2_state_108 : decode cX2_state 108 = .ok (.invokevirtual 94, 3) := by decide +kernel
theorem dX2_state_111 : decode cX2_state 111 = .ok (.pop, 1) := by decide +kernel
theorem dX2_state_112 : decode cX2_state 112 = .ok (.aload_n 0, 1) := by decide +kernel
theorem dX2_state_113 : decode cX2_state 113 = .ok (.bipush 97, 2) := by decide +kernel
theorem dX2_state_115 : decode cX2_state 115 = .ok (.bipush 112, 2) := by decide +kernel
theorem dX2_state_117 : decode cX2_state 117 = .ok (.invokevirtual 87, 3) := by decide +kernel
theorem dX2_state_120 : decode cX2_state 120 = .ok (.ifCond .ne (-24), 3) := by decide +kernel
theorem dX2_state_123 : decode cX2_state 123 = .ok (.aload_n 0, 1) := by decide +kernel
theorem dX2_state_124 : decode cX2_state 124 = .ok (.bipush 41, 2) := by decide +kernel
theorem dX2_state_126 : decode cX2_state 126 = .ok (.invokevirtual 107, 3) := by decide +kernel
theorem dX2_state_129 : decode cX2_state 129 = .ok (.goto 61, 3) := by decide +kernel
theorem dX2_state_132 : decode cX2_state 132 = .ok (.aload_n 0, 1) := by decide +kernel
theorem dX2_state_133 : decode cX2_state 133 = .ok (.bipush 60, 2) := by decide +kernel
theorem dX2_state_135 : decode cX2_state 135 = .ok (.invokevirtual 33, 3) := by decide +kernel
theorem dX2_state_138 : decode cX2_state 138 = .ok (.ifCond .eq 52, 3) := by decide +kernel
theorem dX2_state_141 : decode cX2_state 141 = .ok (.aload_n 3, 1) := by decide +kernel
theorem dX2_state_142 : decode cX2_state 142 = .ok (.iconst 2, 1) := by decide +kernel
theorem dX2_state_143 : decode cX2_state 143 = .ok (.putfield 84, 3) := by decide +kernel
theorem dX2_state_146 : decode cX2_state 146 = .ok (.aload_n 3, 1) := by decide +kernel
theorem dX2_state_147 : decode cX2_state 147 = .ok (.getfield 104, 3) := by decide +kernel
theorem dX2_state_150 : decode cX2_state 150 = .ok (.aload_n 0, 1) := by decide +kernel
theorem dX2_state_151 : decode cX2_state 151 = .ok (.aload_n 3, 1) := by decide +kernel
theorem dX2_state_152 : decode cX2_state 152 = .ok (.iload_n 2, 1) := by decide +kernel
theorem dX2_state_153 : decode cX2_state 153 = .ok (.iconst 1, 1) := by decide +kernel
theorem dX2_state_154 : decode cX2_state 154 = .ok (.iadd, 1) := by decide +kernel
theorem dX2_state_155 : decode cX2_state 155 = .ok (.invokestatic 57, 3) := by decide +kernel
theorem dX2_state_158 : decode cX2_state 158 = .ok (.invokevirtual 94, 3) := by decide +kernel
theorem dX2_state_161 : decode cX2_state 161 = .ok (.pop, 1) := by decide +kernel
theorem dX2_state_162 : decode cX2_state 162 = .ok (.aload_n 3, 1) := by decide +kernel
theorem dX2_state_163 : decode cX2_state 163 = .ok (.getfield 104, 3) := by decide +kernel
theorem dX2_state_166 : decode cX2_state 166 = .ok (.invokevirtual 61, 3) := by decide +kernel
theorem dX2_state_169 : decode cX2_state 169 = .ok (.iconst 2, 1) := by decide +kernel
theorem dX2_state_170 : decode cX2_state 170 = .ok (.if_icmp .lt (-24), 3) := by decide +kernel
theorem dX2_state_173 : decode cX2_state 173 = .ok (.aload_n 0, 1) := by decide +kernel
theorem dX2_state_174 : decode cX2_state 174 = .ok (.bipush 97, 2) := by decide +kernel
theorem dX2_state_176 : decode cX2_state 176 = .ok (.bipush 112, 2) := by decide +kernel
theorem dX2_state_178 : decode cX2_state 178 = .ok (.invokevirtual 87, 3) := by decide +kernel
theorem dX2_state_181 : decode cX2_state 181 = .ok (.ifCond .ne (-35), 3) := by decide +kernel
theorem dX2_state_184 : decode cX2_state 184 = .ok (.aload_n 0, 1) := by decide +kernel
theorem dX2_state_185 : decode cX2_state 185 = .ok (.bipush 62, 2) := by decide +kernel
theorem dX2_state_187 : decode cX2_state 187 = .ok (.invokevirtual 107, 3) := by decide +kernel
theorem dX2_state_190 : decode cX2_state 190 = .ok (.iconst 0, 1) := by decide +kernel
theorem dX2_state_191 : decode cX2_state 191 = .ok (.istore 4, 2) := by decide +kernel
theorem dX2_state_193 : decode cX2_state 193 = .ok (.iload 4, 2) := by decide +kernel
theorem dX2_state_195 : decode cX2_state 195 = .ok (.aload_n 3, 1) := by decide +kernel
theorem dX2_state_196 : decode cX2_state 196 = .ok (.getfield 104, 3) := by decide +kernel
theorem dX2_state_199 : decode cX2_state 199 = .ok (.invokevirtual 61, 3) := by decide +kernel
theorem dX2_state_202 : decode cX2_state 202 = .ok (.if_icmp .ge 43, 3) := by decide +kernel
theorem dX2_state_205 : decode cX2_state 205 = .ok (.aload_n 3, 1) := by decide +kernel
theorem dX2_state_206 : decode cX2_state 206 = .ok (.getfield 104, 3) := by decide +kernel
theorem dX2_state_209 : decode cX2_state 209 = .ok (.iload 4, 2) := by decide +kernel
theorem dX2_state_211 : decode cX2_state 211 = .ok (.invokevirtual 64, 3) := by decide +kernel
theorem dX2_state_214 : decode cX2_state 214 = .ok (.checkcast 82, 3) := by decide +kernel
theorem dX2_state_217 : decode cX2_state 217 = .ok (.astore 5, 2) := by decide +kernel
theorem dX2_state_219 : decode cX2_state 219 = .ok (.aload_n 3, 1) := by decide +kernel
theorem dX2_state_220 : decode cX2_state 220 = .ok (.dup, 1) := by decide +kernel
theorem dX2_state_221 : decode cX2_state 221 = .ok (.getfield 111, 3) := by decide +kernel
theorem dX2_state_224 : decode cX2_state 224 = .ok (.aload 5, 2) := by decide +kernel
theorem dX2_state_226 : decode cX2_state 226 = .ok (.getfield 111, 3) := by decide +kernel
theorem dX2_state_229 : decode cX2_state 229 = .ok (.aload 5, 2) := by decide +kernel
theorem dX2_state_231 : decode cX2_state 231 = .ok (.invokevirtual 114, 3) := by decide +kernel
theorem dX2_state_234 : decode cX2_state 234 = .ok (.ior, 1) := by decide +kernel
theorem dX2_state_235 : decode cX2_state 235 = .ok (.ior, 1) := by decide +kernel
theorem dX2_state_236 : decode cX2_state 236 = .ok (.putfield 111, 3) := by decide +kernel
theorem dX2_state_239 : decode cX2_state 239 = .ok (.iinc 4 1, 3) := by decide +kernel
theorem dX2_state_242 : decode cX2_state 242 = .ok (.goto (-49), 3) := by decide +kernel
theorem dX2_state_245 : decode cX2_state 245 = .ok (.aload_n 0, 1) := by decide +kernel
theorem dX2_state_246 : decode cX2_state 246 = .ok (.bipush 123, 2) := by decide +kernel
theorem dX2_state_248 : decode cX2_state 248 = .ok (.invokevirtual 33, 3) := by decide +kernel
theorem dX2_state_251 : decode cX2_state 251 = .ok (.ifCond .eq 20, 3) := by decide +kernel
theorem dX2_state_254 : decode cX2_state 254 = .ok (.aload_n 0, 1) := by decide +kernel
theorem dX2_state_255 : decode cX2_state 255 = .ok (.bipush 125, 2) := by decide +kernel
theorem dX2_state_257 : decode cX2_state 257 = .ok (.invokevirtual 33, 3) := by decide +kernel
theorem dX2_state_260 : decode cX2_state 260 = .ok (.ifCond .ne 11, 3) := by decide +kernel
theorem dX2_state_263 : decode cX2_state 263 = .ok (.aload_n 0, 1) := by decide +kernel
theorem dX2_state_264 : decode cX2_state 264 = .ok (.aload_n 3, 1) := by decide +kernel
theorem dX2_state_265 : decode cX2_state 265 = .ok (.invokevirtual 117, 3) := by decide +kernel
theorem dX2_state_268 : decode cX2_state 268 = .ok (.goto (-14), 3) := by decide +kernel
theorem dX2_state_271 : decode cX2_state 271 = .ok (.aload_n 3, 1) := by decide +kernel
theorem dX2_state_272 : decode cX2_state 272 = .ok (.areturn, 1) := by decide +kernel
abbrev cX2_isAmong : ByteArray := prog_9_method_6_code
def yX2_isAmong : MethodName := ⟨RX2, "isAmong", "(CC)Z"⟩
theorem dX2_isAmong_0 : decode cX2_isAmong 0 = .ok (.aload_n 0, 1) := by decide +kernel
theorem dX2_isAmong_1 : decode cX2_isAmong 1 = .ok (.invokevirtual 29, 3) := by decide +kernel
theorem dX2_isAmong_4 : decode cX2_isAmong 4 = .ok (.iload_n 1, 1) := by decide +kernel
theorem dX2_isAmong_5 : decode cX2_isAmong 5 = .ok (.if_icmp .lt 15, 3) := by decide +kernel
theorem dX2_isAmong_8 : decode cX2_isAmong 8 = .ok (.aload_n 0, 1) := by decide +kernel
theorem dX2_isAmong_9 : decode cX2_isAmong 9 = .ok (.invokevirtual 29, 3) := by decide +kernel
theorem dX2_isAmong_12 : decode cX2_isAmong 12 = .ok (.iload_n 2, 1) := by decide +kernel
theorem dX2_isAmong_13 : decode cX2_isAmong 13 = .ok (.if_icmp .gt 7, 3) := by decide +kernel
theorem dX2_isAmong_16 : decode cX2_isAmong 16 = .ok (.iconst 1, 1) := by decide +kernel
theorem dX2_isAmong_17 : decode cX2_isAmong 17 = .ok (.goto 4, 3) := by decide +kernel
theorem dX2_isAmong_20 : decode cX2_isAmong 20 = .ok (.iconst 0, 1) := by decide +kernel
theorem dX2_isAmong_21 : decode cX2_isAmong 21 = .ok (.ireturn, 1) := by decide +kernel
abbrev cX2_look : ByteArray := prog_9_method_2_code
def yX2_look : MethodName := ⟨RX2, "look", "()C"⟩
theorem dX2_look_0 : decode cX2_look 0 = .ok (.aload_n 0, 1) := by decide +kernel
theorem dX2_look_1 : decode cX2_look 1 = .ok (.getfield 19, 3) := by decide +kernel
theorem dX2_look_4 : decode cX2_look 4 = .ok (.aload_n 0, 1) := by decide +kernel
theorem dX2_look_5 : decode cX2_look 5 = .ok (.getfield 23, 3) := by decide +kernel
theorem dX2_look_8 : decode cX2_look 8 = .ok (.if_icmp .ge 15, 3) := by decide +kernel
theorem dX2_look_11 : decode cX2_look 11 = .ok (.aload_n 0, 1) := by decide +kernel
theorem dX2_look_12 : decode cX2_look 12 = .ok (.getfield 9, 3) := by decide +kernel
theorem dX2_look_15 : decode cX2_look 15 = .ok (.aload_n 0, 1) := by decide +kernel
theorem dX2_look_16 : decode cX2_look 16 = .ok (.getfield 19, 3) := by decide +kernel
theorem dX2_look_19 : decode cX2_look 19 = .ok (.caload, 1) := by decide +kernel
theorem dX2_look_20 : decode cX2_look 20 = .ok (.goto 4, 3) := by decide +kernel
theorem dX2_look_23 : decode cX2_look 23 = .ok (.iconst 0, 1) := by decide +kernel
theorem dX2_look_24 : decode cX2_look 24 = .ok (.ireturn, 1) := by decide +kernel
abbrev cX2_want : ByteArray := prog_9_method_3_code
def yX2_want : MethodName := ⟨RX2, "want", "(Z)V"⟩
theorem dX2_want_0 : decode cX2_want 0 = .ok (.iload_n 1, 1) := by decide +kernel
theorem dX2_want_1 : decode cX2_want 1 = .ok (.ifCond .ne 11, 3) := by decide +kernel
theorem dX2_want_4 : decode cX2_want 4 = .ok (.new 26, 3) := by decide +kernel
theorem dX2_want_7 : decode cX2_want 7 = .ok (.dup, 1) := by decide +kernel
theorem dX2_want_8 : decode cX2_want 8 = .ok (.invokespecial 28, 3) := by decide +kernel
theorem dX2_want_11 : decode cX2_want 11 = .ok (.athrow, 1) := by decide +kernel
theorem dX2_want_12 : decode cX2_want 12 = .ok (.return_, 1) := by decide +kernel
abbrev cX2_next : ByteArray := prog_9_method_7_code
def yX2_next : MethodName := ⟨RX2, "next", "()C"⟩
theorem dX2_next_0 : decode cX2_next 0 = .ok (.aload_n 0, 1) := by decide +kernel
theorem dX2_next_1 : decode cX2_next 1 = .ok (.dup, 1) := by decide +kernel
theorem dX2_next_2 : decode cX2_next 2 = .ok (.getfield 19, 3) := by decide +kernel
theorem dX2_next_5 : decode cX2_next 5 = .ok (.iconst 1, 1) := by decide +kernel
theorem dX2_next_6 : decode cX2_next 6 = .ok (.iadd, 1) := by decide +kernel
theorem dX2_next_7 : decode cX2_next 7 = .ok (.putfield 19, 3) := by decide +kernel
theorem dX2_next_10 : decode cX2_next 10 = .ok (.aload_n 0, 1) := by decide +kernel
theorem dX2_next_11 : decode cX2_next 11 = .ok (.getfield 9, 3) := by decide +kernel
theorem dX2_next_14 : decode cX2_next 14 = .ok (.aload_n 0, 1) := by decide +kernel
theorem dX2_next_15 : decode cX2_next 15 = .ok (.getfield 19, 3) := by decide +kernel
theorem dX2_next_18 : decode cX2_next 18 = .ok (.iconst 1, 1) := by decide +kernel
theorem dX2_next_19 : decode cX2_next 19 = .ok (.isub, 1) := by decide +kernel
theorem dX2_next_20 : decode cX2_next 20 = .ok (.caload, 1) := by decide +kernel
theorem dX2_next_21 : decode cX2_next 21 = .ok (.ireturn, 1) := by decide +kernel
abbrev cX2_takes : ByteArray := prog_9_method_4_code
def yX2_takes : MethodName := ⟨RX2, "takes", "(C)Z"⟩
theorem dX2_takes_0 : decode cX2_takes 0 = .ok (.aload_n 0, 1) := by decide +kernel
theorem dX2_takes_1 : decode cX2_takes 1 = .ok (.invokevirtual 29, 3) := by decide +kernel
theorem dX2_takes_4 : decode cX2_takes 4 = .ok (.iload_n 1, 1) := by decide +kernel
theorem dX2_takes_5 : decode cX2_takes 5 = .ok (.if_icmp .eq 5, 3) := by decide +kernel
theorem dX2_takes_8 : decode cX2_takes 8 = .ok (.iconst 0, 1) := by decide +kernel
theorem dX2_takes_9 : decode cX2_takes 9 = .ok (.ireturn, 1) := by decide +kernel
theorem dX2_takes_10 : decode cX2_takes 10 = .ok (.aload_n 0, 1) := by decide +kernel
theorem dX2_takes_11 : decode cX2_takes 11 = .ok (.dup, 1) := by decide +kernel
theorem dX2_takes_12 : decode cX2_takes 12 = .ok (.getfield 19, 3) := by decide +kernel
theorem dX2_takes_15 : decode cX2_takes 15 = .ok (.iconst 1, 1) := by decide +kernel
theorem dX2_takes_16 : decode cX2_takes 16 = .ok (.iadd, 1) := by decide +kernel
theorem dX2_takes_17 : decode cX2_takes 17 = .ok (.putfield 19, 3) := by decide +kernel
theorem dX2_takes_20 : decode cX2_takes 20 = .ok (.iconst 1, 1) := by decide +kernel
theorem dX2_takes_21 : decode cX2_takes 21 = .ok (.ireturn, 1) := by decide +kernel
abbrev cX2_take : ByteArray := prog_9_method_5_code
def yX2_take : MethodName := ⟨RX2, "take", "(C)V"⟩
theorem dX2_take_0 : decode cX2_take 0 = .ok (.aload_n 0, 1) := by decide +kernel
theorem dX2_take_1 : decode cX2_take 1 = .ok (.aload_n 0, 1) := by decide +kernel
theorem dX2_take_2 : decode cX2_take 2 = .ok (.iload_n 1, 1) := by decide +kernel
theorem dX2_take_3 : decode cX2_take 3 = .ok (.invokevirtual 33, 3) := by decide +kernel
theorem dX2_take_6 : decode cX2_take 6 = .ok (.invokevirtual 37, 3) := by decide +kernel
theorem dX2_take_9 : decode cX2_take 9 = .ok (.return_, 1) := by decide +kernel
abbrev cX2_item : ByteArray := prog_9_method_10_code
def yX2_item : MethodName := ⟨RX2, "item", "(LNestChart$State;)V"⟩
theorem dX2_item_0 : decode cX2_item 0 = .ok (.aload_n 0, 1) := by decide +kernel
theorem dX2_item_1 : decode cX2_item 1 = .ok (.bipush 43, 2) := by decide +kernel
theorem dX2_item_3 : decode cX2_item 3 = .ok (.invokevirtual 33, 3) := by decide +kernel
theorem dX2_item_6 : decode cX2_item 6 = .ok (.ifCond .eq 14, 3) := by decide +kernel
theorem dX2_item_9 : decode cX2_item 9 = .ok (.aload_n 0, 1) := by decide +kernel
theorem dX2_item_10 : decode cX2_item 10 = .ok (.aload_n 1, 1) := by decide +kernel
theorem dX2_item_11 : decode cX2_item 11 = .ok (.getfield 121, 3) := by decide +kernel
theorem dX2_item_14 : decode cX2_item 14 = .ok (.invokevirtual 124, 3) := by decide +kernel
theorem dX2_item_17 : decode cX2_item 17 = .ok (.goto 28, 3) := by decide +kernel
theorem dX2_item_20 : decode cX2_item 20 = .ok (.aload_n 0, 1) := by decide +kernel
theorem dX2_item_21 : decode cX2_item 21 = .ok (.bipush 45, 2) := by decide +kernel
theorem dX2_item_23 : decode cX2_item 23 = .ok (.invokevirtual 33, 3) := by decide +kernel
theorem dX2_item_26 : decode cX2_item 26 = .ok (.ifCond .eq 14, 3) := by decide +kernel
theorem dX2_item_29 : decode cX2_item 29 = .ok (.aload_n 0, 1) := by decide +kernel
theorem dX2_item_30 : decode cX2_item 30 = .ok (.aload_n 1, 1) := by decide +kernel
theorem dX2_item_31 : decode cX2_item 31 = .ok (.getfield 127, 3) := by decide +kernel
theorem dX2_item_34 : decode cX2_item 34 = .ok (.invokevirtual 124, 3) := by decide +kernel
theorem dX2_item_37 : decode cX2_item 37 = .ok (.goto 8, 3) := by decide +kernel
theorem dX2_item_40 : decode cX2_item 40 = .ok (.aload_n 0, 1) := by decide +kernel
theorem dX2_item_41 : decode cX2_item 41 = .ok (.aload_n 1, 1) := by decide +kernel
theorem dX2_item_42 : decode cX2_item 42 = .ok (.invokevirtual 130, 3) := by decide +kernel
theorem dX2_item_45 : decode cX2_item 45 = .ok (.aload_n 0, 1) := by decide +kernel
theorem dX2_item_46 : decode cX2_item 46 = .ok (.bipush 59, 2) := by decide +kernel
theorem dX2_item_48 : decode cX2_item 48 = .ok (.invokevirtual 107, 3) := by decide +kernel
theorem dX2_item_51 : decode cX2_item 51 = .ok (.return_, 1) := by decide +kernel
abbrev cX2_actions : ByteArray := prog_9_method_15_code
def yX2_actions : MethodName := ⟨RX2, "actions", "(Ljava/util/ArrayList;)V"⟩
theorem dX2_actions_0 : decode cX2_actions 0 = .ok (.aload_n 0, 1) := by decide +kernel
theorem dX2_actions_1 : decode cX2_actions 1 = .ok (.aload_n 0, 1) := by decide +kernel
theorem dX2_actions_2 : decode cX2_actions 2 = .ok (.bipush 65, 2) := by decide +kernel
theorem dX2_actions_4 : decode cX2_actions 4 = .ok (.bipush 72, 2) := by decide +kernel
theorem dX2_actions_6 : decode cX2_actions 6 = .ok (.invokevirtual 87, 3) := by decide +kernel
theorem dX2_actions_9 : decode cX2_actions 9 = .ok (.ifCond .ne 14, 3) := by decide +kernel
theorem dX2_actions_12 : decode cX2_actions 12 = .ok (.aload_n 0, 1) := by decide +kernel
theorem dX2_actions_13 : decode cX2_actions 13 = .ok (.bipush 117, 2) := by decide +kernel
theorem dX2_actions_15 : decode cX2_actions 15 = .ok (.bipush 122, 2) := by decide +kernel
theorem dX2_actions_17 : decode cX2_actions 17 = .ok (.invokevirtual 87, 3) := by decide +kernel
theorem dX2_actions_20 : decode cX2_actions 20 = .ok (.ifCond .eq 16, 3) := by decide +kernel
theorem dX2_actions_23 : decode cX2_actions 23 = .ok (.aload_n 0, 1) := by decide +kernel
theorem dX2_actions_24 : decode cX2_actions 24 = .ok (.getfield 54, 3) := by decide +kernel
theorem dX2_actions_27 : decode cX2_actions 27 = .ok (.bipush 40, 2) := by decide +kernel
theorem dX2_actions_29 : decode cX2_actions 29 = .ok (.if_icmp .ge 7, 3) := by decide +kernel
theorem dX2_actions_32 : decode cX2_actions 32 = .ok (.iconst 1, 1) := by decide +kernel
theorem dX2_actions_33 : decode cX2_actions 33 = .ok (.goto 4, 3) := by decide +kernel
theorem dX2_actions_36 : decode cX2_actions 36 = .ok (.iconst 0, 1) := by decide +kernel
theorem dX2_actions_37 : decode cX2_actions 37 = .ok (.invokevirtual 37, 3) := by decide +kernel
theorem dX2_actions_40 : decode cX2_actions 40 = .ok (.aload_n 0, 1) := by decide +kernel
theorem dX2_actions_41 : decode cX2_actions 41 = .ok (.dup, 1) := by decide +kernel
theorem dX2_actions_42 : decode cX2_actions 42 = .ok (.getfield 54, 3) := by decide +kernel
theorem dX2_actions_45 : decode cX2_actions 45 = .ok (.iconst 1, 1) := by decide +kernel
theorem dX2_actions_46 : decode cX2_actions 46 = .ok (.iadd, 1) := by decide +kernel
theorem dX2_actions_47 : decode cX2_actions 47 = .ok (.putfield 54, 3) := by decide +kernel
theorem dX2_actions_50 : decode cX2_actions 50 = .ok (.aload_n 0, 1) := by decide +kernel
theorem dX2_actions_51 : decode cX2_actions 51 = .ok (.invokevirtual 98, 3) := by decide +kernel
theorem dX2_actions_54 : decode cX2_actions 54 = .ok (.istore_n 2, 1) := by decide +kernel
theorem dX2_actions_55 : decode cX2_actions 55 = .ok (.aload_n 1, 1) := by decide +kernel
theorem dX2_actions_56 : decode cX2_actions 56 = .ok (.iload_n 2, 1) := by decide +kernel
theorem dX2_actions_57 : decode cX2_actions 57 = .ok (.bipush 72, 2) := by decide +kernel
theorem dX2_actions_59 : decode cX2_actions 59 = .ok (.if_icmp .gt 11, 3) := by decide +kernel
theorem dX2_actions_62 : decode cX2_actions 62 = .ok (.aload_n 0, 1) := by decide +kernel
theorem dX2_actions_63 : decode cX2_actions 63 = .ok (.iload_n 2, 1) := by decide +kernel
theorem dX2_actions_64 : decode cX2_actions 64 = .ok (.invokevirtual 180, 3) := by decide +kernel
theorem dX2_actions_67 : decode cX2_actions 67 = .ok (.goto 8, 3) := by decide +kernel
theorem dX2_actions_70 : decode cX2_actions 70 = .ok (.aload_n 0, 1) := by decide +kernel
theorem dX2_actions_71 : decode cX2_actions 71 = .ok (.iload_n 2, 1) := by decide +kernel
theorem dX2_actions_72 : decode cX2_actions 72 = .ok (.invokevirtual 184, 3) := by decide +kernel
theorem dX2_actions_75 : decode cX2_actions 75 = .ok (.invokevirtual 94, 3) := by decide +kernel
theorem dX2_actions_78 : decode cX2_actions 78 = .ok (.pop, 1) := by decide +kernel
theorem dX2_actions_79 : decode cX2_actions 79 = .ok (.aload_n 0, 1) := by decide +kernel
theorem dX2_actions_80 : decode cX2_actions 80 = .ok (.bipush 44, 2) := by decide +kernel
theorem dX2_actions_82 : decode cX2_actions 82 = .ok (.invokevirtual 33, 3) := by decide +kernel
theorem dX2_actions_85 : decode cX2_actions 85 = .ok (.ifCond .ne (-85), 3) := by decide +kernel
theorem dX2_actions_88 : decode cX2_actions 88 = .ok (.return_, 1) := by decide +kernel
abbrev cX2_raising : ByteArray := prog_9_method_16_code
def yX2_raising : MethodName := ⟨RX2, "raising", "(C)LNestChart$Action;"⟩
theorem dX2_raising_0 : decode cX2_raising 0 = .ok (.aload_n 0, 1) := by decide +kernel
theorem dX2_raising_1 : decode cX2_raising 1 = .ok (.bipush 64, 2) := by decide +kernel
theorem dX2_raising_3 : decode cX2_raising 3 = .ok (.invokevirtual 33, 3) := by decide +kernel
theorem dX2_raising_6 : decode cX2_raising 6 = .ok (.ifCond .ne 13, 3) := by decide +kernel
theorem dX2_raising_9 : decode cX2_raising 9 = .ok (.new 187, 3) := by decide +kernel
theorem dX2_raising_12 : decode cX2_raising 12 = .ok (.dup, 1) := by decide +kernel
theorem dX2_raising_13 : decode cX2_raising 13 = .ok (.iload_n 1, 1) := by decide +kernel
theorem dX2_raising_14 : decode cX2_raising 14 = .ok (.iconst 0, 1) := by decide +kernel
theorem dX2_raising_15 : decode cX2_raising 15 = .ok (.invokespecial 189, 3) := by decide +kernel
theorem dX2_raising_18 : decode cX2_raising 18 = .ok (.areturn, 1) := by decide +kernel
theorem dX2_raising_19 : decode cX2_raising 19 = .ok (.aload_n 0, 1) := by decide +kernel
theorem dX2_raising_20 : decode cX2_raising 20 = .ok (.aload_n 0, 1) := by decide +kernel
theorem dX2_raising_21 : decode cX2_raising 21 = .ok (.bipush 49, 2) := by decide +kernel
theorem dX2_raising_23 : decode cX2_raising 23 = .ok (.bipush 57, 2) := by decide +kernel
theorem dX2_raising_25 : decode cX2_raising 25 = .ok (.invokevirtual 87, 3) := by decide +kernel
theorem dX2_raising_28 : decode cX2_raising 28 = .ok (.invokevirtual 37, 3) := by decide +kernel
theorem dX2_raising_31 : decode cX2_raising 31 = .ok (.new 187, 3) := by decide +kernel
theorem dX2_raising_34 : decode cX2_raising 34 = .ok (.dup, 1) := by decide +kernel
theorem dX2_raising_35 : decode cX2_raising 35 = .ok (.iload_n 1, 1) := by decide +kernel
theorem dX2_raising_36 : decode cX2_raising 36 = .ok (.aload_n 0, 1) := by decide +kernel
theorem dX2_raising_37 : decode cX2_raising 37 = .ok (.invokevirtual 98, 3) := by decide +kernel
theorem dX2_raising_40 : decode cX2_raising 40 = .ok (.bipush 48, 2) := by decide +kernel
theorem dX2_raising_42 : decode cX2_raising 42 = .ok (.isub, 1) := by decide +kernel
theorem dX2_raising_43 : decode cX2_raising 43 = .ok (.invokespecial 189, 3) := by decide +kernel
theorem dX2_raising_46 : decode cX2_raising 46 = .ok (.areturn, 1) := by decide +kernel
abbrev cX2_assigning : ByteArray := prog_9_method_17_code
def yX2_assigning : MethodName := ⟨RX2, "assigning", "(C)LNestChart$Action;"⟩
theorem dX2_assigning_0 : decode cX2_assigning 0 = .ok (.aload_n 0, 1) := by decide +kernel
theorem dX2_assigning_1 : decode cX2_assigning 1 = .ok (.invokevirtual 29, 3) := by decide +kernel
theorem dX2_assigning_4 : decode cX2_assigning 4 = .ok (.istore_n 2, 1) := by decide +kernel
