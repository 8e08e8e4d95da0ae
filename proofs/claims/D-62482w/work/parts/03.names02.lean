set_option maxRecDepth 100000
theorem dJ11_checkIndex_0 : decode cJ11_checkIndex 0 = .ok (.iload_n 0, 1) := by decide +kernel
theorem dJ11_checkIndex_1 : decode cJ11_checkIndex 1 = .ok (.ifCond .lt 8, 3) := by decide +kernel
theorem dJ11_checkIndex_4 : decode cJ11_checkIndex 4 = .ok (.iload_n 0, 1) := by decide +kernel
theorem dJ11_checkIndex_5 : decode cJ11_checkIndex 5 = .ok (.iload_n 1, 1) := by decide +kernel
theorem dJ11_checkIndex_6 : decode cJ11_checkIndex 6 = .ok (.if_icmp .lt 10, 3) := by decide +kernel
theorem dJ11_checkIndex_9 : decode cJ11_checkIndex 9 = .ok (.aload_n 2, 1) := by decide +kernel
theorem dJ11_checkIndex_10 : decode cJ11_checkIndex 10 = .ok (.iload_n 0, 1) := by decide +kernel
theorem dJ11_checkIndex_11 : decode cJ11_checkIndex 11 = .ok (.iload_n 1, 1) := by decide +kernel
theorem dJ11_checkIndex_12 : decode cJ11_checkIndex 12 = .ok (.invokestatic 95, 3) := by decide +kernel
theorem dJ11_checkIndex_15 : decode cJ11_checkIndex 15 = .ok (.athrow, 1) := by decide +kernel
theorem dJ11_checkIndex_16 : decode cJ11_checkIndex 16 = .ok (.iload_n 0, 1) := by decide +kernel
theorem dJ11_checkIndex_17 : decode cJ11_checkIndex 17 = .ok (.ireturn, 1) := by decide +kernel
theorem q89 : (Jvm.Cond.initialized "jdk/internal/util/Preconditions") ∈ lw_all := lw_g (lw_at lw_m1 18 rfl) rfl
theorem q279 : (Jvm.Cond.static ({ cls := "jdk/internal/util/Preconditions", name := "checkIndex", desc := "(IILjava/util/function/BiFunction;)I" } : Jvm.MethodName)) ∈ lw_all := lw_g (lw_at lw_m1 208 rfl) rfl
theorem q280 : (Jvm.Cond.code ({ cls := "jdk/internal/util/Preconditions", name := "checkIndex", desc := "(IILjava/util/function/BiFunction;)I" } : Jvm.MethodName) prog_39_method_11_code (3 : Nat) (Option.some Jvm.ClassFile.FieldType.int)) ∈ lw_all := lw_g (lw_at lw_m1 209 rfl) rfl

/-! java/lang/IllegalStateException -/
def RJ12 : String := "java/lang/IllegalStateException"
def TJ12 : u_T := fun k => match k with
  | 0 => ("java/lang/Throwable", "cause", "Ljava/lang/Throwable;", false)
  | 1 => ("java/lang/Throwable", "stackTrace", "[Ljava/lang/StackTraceElement;", false)
  | 2 => ("java/lang/Throwable", "suppressedExceptions", "Ljava/util/List;", false)
  | 3 => ("java/lang/Throwable", "detailMessage", "Ljava/lang/String;", false)
  | 4 => ("java/lang/Throwable", "backtrace", "Ljava/lang/Object;", false)
  | _ => ("java/lang/Throwable", "depth", "I", false)
def tyJ12 : Nat → FieldType := fun k => match k with
  | 0 => .object "java/lang/Throwable"
  | 1 => .array (.object "java/lang/StackTraceElement")
  | 2 => .object "java/util/List"
  | 3 => .object "java/lang/String"
  | 4 => .object "java/lang/Object"
  | _ => .int
abbrev wsJ120 : List Cond := u_ws RJ12 TJ12 6
theorem nmJ12 : ∀ a, a < 6 → ∀ b, b < 6 → a ≠ b → (TJ12 a).2.1 ≠ (TJ12 b).2.1 := by decide +kernel
theorem tyJ12_ok : ∀ k, k < 6 → parseFieldDescriptor (TJ12 k).2.2.1 = some (tyJ12 k) := by decide +kernel
abbrev cJ12_init : ByteArray := prog_22_method_1_code
def yJ12_init : MethodName := ⟨RJ12, "<init>", "()V"⟩
theorem dJ12_init_0 : decode cJ12_init 0 = .ok (.aload_n 0, 1) := by decide +kernel
theorem dJ12_init_1 : decode cJ12_init 1 = .ok (.invokespecial 1, 3) := by decide +kernel
theorem dJ12_init_4 : decode cJ12_init 4 = .ok (.return_, 1) := by decide +kernel
theorem q99 : (Jvm.Cond.initialized "java/lang/IllegalStateException") ∈ lw_all := lw_g (lw_at lw_m1 28 rfl) rfl
theorem q373 : (Jvm.Cond.selects "java/lang/IllegalStateException" ({ cls := "java/lang/Throwable", name := "fillInStackTrace", desc := "()Ljava/lang/Throwable;" } : Jvm.MethodName) ({ cls := "java/lang/Throwable", name := "fillInStackTrace", desc := "()Ljava/lang/Throwable;" } : Jvm.MethodName)) ∈ lw_all := lw_g (lw_at lw_m2 62 rfl) rfl
theorem q509 : (Jvm.Cond.selects "java/lang/IllegalStateException" ({ cls := "java/lang/Object", name := "getClass", desc := "()Ljava/lang/Class;" } : Jvm.MethodName) ({ cls := "java/lang/Object", name := "getClass", desc := "()Ljava/lang/Class;" } : Jvm.MethodName)) ∈ lw_all := lw_g (lw_at lw_m2 198 rfl) rfl
theorem q741 : (Jvm.Cond.instantiable "java/lang/IllegalStateException" (6 : Nat)) ∈ lw_all := lw_g (lw_at lw_m3 190 rfl) rfl
theorem q742 : (Jvm.Cond.castable "java/lang/IllegalStateException" "java/lang/IllegalStateException") ∈ lw_tbl := lw_at lw_m3 191 rfl
theorem q743 : (Jvm.Cond.selects "java/lang/IllegalStateException" ({ cls := "java/lang/Throwable", name := "fillInStackTrace", desc := "(I)Ljava/lang/Throwable;" } : Jvm.MethodName) ({ cls := "java/lang/Throwable", name := "fillInStackTrace", desc := "(I)Ljava/lang/Throwable;" } : Jvm.MethodName)) ∈ lw_all := lw_g (lw_at lw_m3 192 rfl) rfl
theorem q744 : (Jvm.Cond.lays "java/lang/IllegalStateException" "java/lang/Throwable" "cause" "Ljava/lang/Throwable;") ∈ lw_all := lw_g (lw_at lw_m3 193 rfl) rfl
theorem q745 : (Jvm.Cond.lays "java/lang/IllegalStateException" "java/lang/Throwable" "stackTrace" "[Ljava/lang/StackTraceElement;") ∈ lw_all := lw_g (lw_at lw_m3 194 rfl) rfl
theorem q746 : (Jvm.Cond.lays "java/lang/IllegalStateException" "java/lang/Throwable" "suppressedExceptions" "Ljava/util/List;") ∈ lw_all := lw_g (lw_at lw_m3 195 rfl) rfl
theorem q747 : (Jvm.Cond.lays "java/lang/IllegalStateException" "java/lang/Throwable" "detailMessage" "Ljava/lang/String;") ∈ lw_all := lw_g (lw_at lw_m3 196 rfl) rfl
theorem q748 : (Jvm.Cond.lays "java/lang/IllegalStateException" "java/lang/Throwable" "backtrace" "Ljava/lang/Object;") ∈ lw_all := lw_g (lw_at lw_m3 197 rfl) rfl
theorem q750 : (Jvm.Cond.instanceMethod ({ cls := "java/lang/IllegalStateException", name := "<init>", desc := "()V" } : Jvm.MethodName)) ∈ lw_all := lw_g (lw_at lw_m3 199 rfl) rfl
theorem q751 : (Jvm.Cond.code ({ cls := "java/lang/IllegalStateException", name := "<init>", desc := "()V" } : Jvm.MethodName) prog_22_method_1_code (1 : Nat) (Option.none : Option Jvm.ClassFile.FieldType)) ∈ lw_all := lw_g (lw_at lw_m3 200 rfl) rfl
theorem q752 : (Jvm.Cond.methodLink "java/lang/IllegalStateException" (1 : Nat) ({ cls := "java/lang/RuntimeException", name := "<init>", desc := "()V" } : Jvm.MethodName)) ∈ lw_all := lw_g (lw_at lw_m3 201 rfl) rfl
theorem q753 : (Jvm.Cond.lays "java/lang/IllegalStateException" "java/lang/Throwable" "depth" "I") ∈ lw_all := lw_g (lw_at lw_m3 202 rfl) rfl
theorem q754 : (Jvm.Cond.superclass "java/lang/IllegalStateException" "java/lang/RuntimeException") ∈ lw_all := lw_g (lw_at lw_m3 203 rfl) rfl
theorem q1430 : (Jvm.Cond.castable "java/lang/IllegalStateException" "java/lang/Object") ∈ lw_tbl := lw_at lw_m6 159 rfl
theorem in_J12 : ∀ w ∈ wsJ120, w ∈ lw_all := lw_in wsJ120 [744, 745, 746, 747, 748, 753] (by decide +kernel) (by decide +kernel)

/-! java/lang/UnsupportedOperationException -/
def RJ13 : String := "java/lang/UnsupportedOperationException"
def TJ13 : u_T := fun k => match k with
  | 0 => ("java/lang/Throwable", "cause", "Ljava/lang/Throwable;", false)
  | 1 => ("java/lang/Throwable", "stackTrace", "[Ljava/lang/StackTraceElement;", false)
  | 2 => ("java/lang/Throwable", "suppressedExceptions", "Ljava/util/List;", false)
  | 3 => ("java/lang/Throwable", "detailMessage", "Ljava/lang/String;", false)
  | 4 => ("java/lang/Throwable", "backtrace", "Ljava/lang/Object;", false)
  | _ => ("java/lang/Throwable", "depth", "I", false)
def tyJ13 : Nat → FieldType := fun k => match k with
  | 0 => .object "java/lang/Throwable"
  | 1 => .array (.object "java/lang/StackTraceElement")
  | 2 => .object "java/util/List"
  | 3 => .object "java/lang/String"
  | 4 => .object "java/lang/Object"
  | _ => .int
abbrev wsJ130 : List Cond := u_ws RJ13 TJ13 6
theorem nmJ13 : ∀ a, a < 6 → ∀ b, b < 6 → a ≠ b → (TJ13 a).2.1 ≠ (TJ13 b).2.1 := by decide +kernel
theorem tyJ13_ok : ∀ k, k < 6 → parseFieldDescriptor (TJ13 k).2.2.1 = some (tyJ13 k) := by decide +kernel
abbrev cJ13_init : ByteArray := prog_28_method_1_code
def yJ13_init : MethodName := ⟨RJ13, "<init>", "()V"⟩
theorem dJ13_init_0 : decode cJ13_init 0 = .ok (.aload_n 0, 1) := by decide +kernel
theorem dJ13_init_1 : decode cJ13_init 1 = .ok (.invokespecial 1, 3) := by decide +kernel
theorem dJ13_init_4 : decode cJ13_init 4 = .ok (.return_, 1) := by decide +kernel
theorem q101 : (Jvm.Cond.initialized "java/lang/UnsupportedOperationException") ∈ lw_all := lw_g (lw_at lw_m1 30 rfl) rfl
theorem q374 : (Jvm.Cond.selects "java/lang/UnsupportedOperationException" ({ cls := "java/lang/Throwable", name := "fillInStackTrace", desc := "()Ljava/lang/Throwable;" } : Jvm.MethodName) ({ cls := "java/lang/Throwable", name := "fillInStackTrace", desc := "()Ljava/lang/Throwable;" } : Jvm.MethodName)) ∈ lw_all := lw_g (lw_at lw_m2 63 rfl) rfl
theorem q510 : (Jvm.Cond.selects "java/lang/UnsupportedOperationException" ({ cls := "java/lang/Object", name := "getClass", desc := "()Ljava/lang/Class;" } : Jvm.MethodName) ({ cls := "java/lang/Object", name := "getClass", desc := "()Ljava/lang/Class;" } : Jvm.MethodName)) ∈ lw_all := lw_g (lw_at lw_m2 199 rfl) rfl
theorem q933 : (Jvm.Cond.instantiable "java/lang/UnsupportedOperationException" (6 : Nat)) ∈ lw_all := lw_g (lw_at lw_m4 142 rfl) rfl
theorem q934 : (Jvm.Cond.castable "java/lang/UnsupportedOperationException" "java/lang/UnsupportedOperationException") ∈ lw_tbl := lw_at lw_m4 143 rfl
theorem q935 : (Jvm.Cond.selects "java/lang/UnsupportedOperationException" ({ cls := "java/lang/Throwable", name := "fillInStackTrace", desc := "(I)Ljava/lang/Throwable;" } : Jvm.MethodName) ({ cls := "java/lang/Throwable", name := "fillInStackTrace", desc := "(I)Ljava/lang/Throwable;" } : Jvm.MethodName)) ∈ lw_all := lw_g (lw_at lw_m4 144 rfl) rfl
theorem q936 : (Jvm.Cond.lays "java/lang/UnsupportedOperationException" "java/lang/Throwable" "cause" "Ljava/lang/Throwable;") ∈ lw_all := lw_g (lw_at lw_m4 145 rfl) rfl
theorem q937 : (Jvm.Cond.lays "java/lang/UnsupportedOperationException" "java/lang/Throwable" "stackTrace" "[Ljava/lang/StackTraceElement;") ∈ lw_all := lw_g (lw_at lw_m4 146 rfl) rfl
theorem q938 : (Jvm.Cond.lays "java/lang/UnsupportedOperationException" "java/lang/Throwable" "suppressedExceptions" "Ljava/util/List;") ∈ lw_all := lw_g (lw_at lw_m4 147 rfl) rfl
theorem q939 : (Jvm.Cond.lays "java/lang/UnsupportedOperationException" "java/lang/Throwable" "detailMessage" "Ljava/lang/String;") ∈ lw_all := lw_g (lw_at lw_m4 148 rfl) rfl
theorem q940 : (Jvm.Cond.lays "java/lang/UnsupportedOperationException" "java/lang/Throwable" "backtrace" "Ljava/lang/Object;") ∈ lw_all := lw_g (lw_at lw_m4 149 rfl) rfl
theorem q942 : (Jvm.Cond.instanceMethod ({ cls := "java/lang/UnsupportedOperationException", name := "<init>", desc := "()V" } : Jvm.MethodName)) ∈ lw_all := lw_g (lw_at lw_m4 151 rfl) rfl
theorem q943 : (Jvm.Cond.code ({ cls := "java/lang/UnsupportedOperationException", name := "<init>", desc := "()V" } : Jvm.MethodName) prog_28_method_1_code (1 : Nat) (Option.none : Option Jvm.ClassFile.FieldType)) ∈ lw_all := lw_g (lw_at lw_m4 152 rfl) rfl
theorem q944 : (Jvm.Cond.methodLink "java/lang/UnsupportedOperationException" (1 : Nat) ({ cls := "java/lang/RuntimeException", name := "<init>", desc := "()V" } : Jvm.MethodName)) ∈ lw_all := lw_g (lw_at lw_m4 153 rfl) rfl
theorem q945 : (Jvm.Cond.lays "java/lang/UnsupportedOperationException" "java/lang/Throwable" "depth" "I") ∈ lw_all := lw_g (lw_at lw_m4 154 rfl) rfl
theorem q946 : (Jvm.Cond.superclass "java/lang/UnsupportedOperationException" "java/lang/RuntimeException") ∈ lw_all := lw_g (lw_at lw_m4 155 rfl) rfl
theorem q1432 : (Jvm.Cond.castable "java/lang/UnsupportedOperationException" "java/lang/Object") ∈ lw_tbl := lw_at lw_m6 161 rfl
theorem in_J13 : ∀ w ∈ wsJ130, w ∈ lw_all := lw_in wsJ130 [936, 937, 938, 939, 940, 945] (by decide +kernel) (by decide +kernel)

/-! java/lang/Object -/
def RJ14 : String := "java/lang/Object"
abbrev cJ14_init : ByteArray := object_method_1_code
def yJ14_init : MethodName := ⟨RJ14, "<init>", "()V"⟩
theorem dJ14_init_0 : decode cJ14_init 0 = .ok (.return_, 1) := by decide +kernel
theorem q108 : (Jvm.Cond.instanceMethod ({ cls := "java/lang/Object", name := "<init>", desc := "()V" } : Jvm.MethodName)) ∈ lw_all := lw_g (lw_at lw_m1 37 rfl) rfl
theorem q109 : (Jvm.Cond.code ({ cls := "java/lang/Object", name := "<init>", desc := "()V" } : Jvm.MethodName) object_method_1_code (1 : Nat) (Option.none : Option Jvm.ClassFile.FieldType)) ∈ lw_all := lw_g (lw_at lw_m1 38 rfl) rfl
theorem q493 : (Jvm.Cond.instanceMethod ({ cls := "java/lang/Object", name := "getClass", desc := "()Ljava/lang/Class;" } : Jvm.MethodName)) ∈ lw_all := lw_g (lw_at lw_m2 182 rfl) rfl
theorem q494 : (Jvm.Cond.sameMethod "java/lang/Object" "java/lang/Object" "getClass" "()Ljava/lang/Class;") ∈ lw_all := lw_g (lw_at lw_m2 183 rfl) rfl
theorem q512 : (Jvm.Cond.native ({ cls := "java/lang/Object", name := "getClass", desc := "()Ljava/lang/Class;" } : Jvm.MethodName)) ∈ lw_all := lw_g (lw_at lw_m2 201 rfl) rfl
theorem q1415 : (Jvm.Cond.declares ({ cls := "java/lang/Object", name := "getClass", desc := "()Ljava/lang/Class;" } : Jvm.MethodName)) ∈ lw_tbl := lw_at lw_m6 144 rfl

/-! NestChartLaw -/
def RX0 : String := "NestChartLaw"
abbrev cX0_build : ByteArray := method_3_code
def yX0_build : MethodName := ⟨RX0, "build", "(LNestChart;[J)I"⟩
theorem dX0_build_0 : decode cX0_build 0 = .ok (.aload_n 1, 1) := by decide +kernel
theorem dX0_build_1 : decode cX0_build 1 = .ok (.iconst 0, 1) := by decide +kernel
theorem dX0_build_2 : decode cX0_build 2 = .ok (.aload_n 0, 1) := by decide +kernel
theorem dX0_build_3 : decode cX0_build 3 = .ok (.invokevirtual 7, 3) := by decide +kernel
theorem dX0_build_6 : decode cX0_build 6 = .ok (.i2l, 1) := by decide +kernel
theorem dX0_build_7 : decode cX0_build 7 = .ok (.lastore, 1) := by decide +kernel
theorem dX0_build_8 : decode cX0_build 8 = .ok (.goto 6, 3) := by decide +kernel
theorem dX0_build_11 : decode cX0_build 11 = .ok (.astore_n 2, 1) := by decide +kernel
theorem dX0_build_12 : decode cX0_build 12 = .ok (.iconst 1, 1) := by decide +kernel
theorem dX0_build_13 : decode cX0_build 13 = .ok (.ireturn, 1) := by decide +kernel
theorem dX0_build_14 : decode cX0_build 14 = .ok (.iconst 0, 1) := by decide +kernel
theorem dX0_build_15 : decode cX0_build 15 = .ok (.ireturn, 1) := by decide +kernel
abbrev cX0_start : ByteArray := method_4_code
def yX0_start : MethodName := ⟨RX0, "start", "(LNestChart;[J)I"⟩
theorem dX0_start_0 : decode cX0_start 0 = .ok (.aload_n 1, 1) := by decide +kernel
theorem dX0_start_1 : decode cX0_start 1 = .ok (.iconst 0, 1) := by decide +kernel
theorem dX0_start_2 : decode cX0_start 2 = .ok (.aload_n 0, 1) := by decide +kernel
theorem dX0_start_3 : decode cX0_start 3 = .ok (.invokevirtual 15, 3) := by decide +kernel
theorem dX0_start_6 : decode cX0_start 6 = .ok (.i2l, 1) := by decide +kernel
theorem dX0_start_7 : decode cX0_start 7 = .ok (.lastore, 1) := by decide +kernel
theorem dX0_start_8 : decode cX0_start 8 = .ok (.goto 9, 3) := by decide +kernel
theorem dX0_start_11 : decode cX0_start 11 = .ok (.astore_n 2, 1) := by decide +kernel
theorem dX0_start_12 : decode cX0_start 12 = .ok (.iconst 1, 1) := by decide +kernel
theorem dX0_start_13 : decode cX0_start 13 = .ok (.ireturn, 1) := by decide +kernel
theorem dX0_start_14 : decode cX0_start 14 = .ok (.astore_n 2, 1) := by decide +kernel
theorem dX0_start_15 : decode cX0_start 15 = .ok (.iconst 2, 1) := by decide +kernel
theorem dX0_start_16 : decode cX0_start 16 = .ok (.ireturn, 1) := by decide +kernel
theorem dX0_start_17 : decode cX0_start 17 = .ok (.iconst 0, 1) := by decide +kernel
theorem dX0_start_18 : decode cX0_start 18 = .ok (.ireturn, 1) := by decide +kernel
abbrev cX0_event : ByteArray := method_5_code
def yX0_event : MethodName := ⟨RX0, "event", "(LNestChart;C[J)I"⟩
theorem dX0_event_0 : decode cX0_event 0 = .ok (.aload_n 2, 1) := by decide +kernel
theorem dX0_event_1 : decode cX0_event 1 = .ok (.iconst 0, 1) := by decide +kernel
theorem dX0_event_2 : decode cX0_event 2 = .ok (.aload_n 0, 1) := by decide +kernel
theorem dX0_event_3 : decode cX0_event 3 = .ok (.iload_n 1, 1) := by decide +kernel
theorem dX0_event_4 : decode cX0_event 4 = .ok (.invokevirtual 22, 3) := by decide +kernel
theorem dX0_event_7 : decode cX0_event 7 = .ok (.i2l, 1) := by decide +kernel
theorem dX0_event_8 : decode cX0_event 8 = .ok (.lastore, 1) := by decide +kernel
theorem dX0_event_9 : decode cX0_event 9 = .ok (.goto 12, 3) := by decide +kernel
theorem dX0_event_12 : decode cX0_event 12 = .ok (.astore_n 3, 1) := by decide +kernel
theorem dX0_event_13 : decode cX0_event 13 = .ok (.iconst 1, 1) := by decide +kernel
theorem dX0_event_14 : decode cX0_event 14 = .ok (.ireturn, 1) := by decide +kernel
theorem dX0_event_15 : decode cX0_event 15 = .ok (.astore_n 3, 1) := by decide +kernel
theorem dX0_event_16 : decode cX0_event 16 = .ok (.iconst 2, 1) := by decide +kernel
theorem dX0_event_17 : decode cX0_event 17 = .ok (.ireturn, 1) := by decide +kernel
theorem dX0_event_18 : decode cX0_event 18 = .ok (.astore_n 3, 1) := by decide +kernel
theorem dX0_event_19 : decode cX0_event 19 = .ok (.iconst 3, 1) := by decide +kernel
theorem dX0_event_20 : decode cX0_event 20 = .ok (.ireturn, 1) := by decide +kernel
theorem dX0_event_21 : decode cX0_event 21 = .ok (.iconst 0, 1) := by decide +kernel
theorem dX0_event_22 : decode cX0_event 22 = .ok (.ireturn, 1) := by decide +kernel
abbrev cX0_tick : ByteArray := method_6_code
def yX0_tick : MethodName := ⟨RX0, "tick", "(LNestChart;I[J)I"⟩
theorem dX0_tick_0 : decode cX0_tick 0 = .ok (.aload_n 2, 1) := by decide +kernel
theorem dX0_tick_1 : decode cX0_tick 1 = .ok (.iconst 0, 1) := by decide +kernel
theorem dX0_tick_2 : decode cX0_tick 2 = .ok (.aload_n 0, 1) := by decide +kernel
theorem dX0_tick_3 : decode cX0_tick 3 = .ok (.iload_n 1, 1) := by decide +kernel
theorem dX0_tick_4 : decode cX0_tick 4 = .ok (.invokevirtual 26, 3) := by decide +kernel
theorem dX0_tick_7 : decode cX0_tick 7 = .ok (.i2l, 1) := by decide +kernel
theorem dX0_tick_8 : decode cX0_tick 8 = .ok (.lastore, 1) := by decide +kernel
theorem dX0_tick_9 : decode cX0_tick 9 = .ok (.goto 12, 3) := by decide +kernel
theorem dX0_tick_12 : decode cX0_tick 12 = .ok (.astore_n 3, 1) := by decide +kernel
theorem dX0_tick_13 : decode cX0_tick 13 = .ok (.iconst 1, 1) := by decide +kernel
theorem dX0_tick_14 : decode cX0_tick 14 = .ok (.ireturn, 1) := by decide +kernel
theorem dX0_tick_15 : decode cX0_tick 15 = .ok (.astore_n 3, 1) := by decide +kernel
theorem dX0_tick_16 : decode cX0_tick 16 = .ok (.iconst 2, 1) := by decide +kernel
theorem dX0_tick_17 : decode cX0_tick 17 = .ok (.ireturn, 1) := by decide +kernel
theorem dX0_tick_18 : decode cX0_tick 18 = .ok (.astore_n 3, 1) := by decide +kernel
theorem dX0_tick_19 : decode cX0_tick 19 = .ok (.iconst 3, 1) := by decide +kernel
theorem dX0_tick_20 : decode cX0_tick 20 = .ok (.ireturn, 1) := by decide +kernel
theorem dX0_tick_21 : decode cX0_tick 21 = .ok (.iconst 0, 1) := by decide +kernel
theorem dX0_tick_22 : decode cX0_tick 22 = .ok (.ireturn, 1) := by decide +kernel
theorem q71 : (Jvm.Cond.initialized "NestChartLaw") ∈ lw_all := lw_g (lw_at lw_m1 0 rfl) rfl
theorem q102 : (Jvm.Cond.classLink "NestChartLaw" (8 : Nat) "NestChart") ∈ lw_all := lw_g (lw_at lw_m1 31 rfl) rfl
theorem q104 : (Jvm.Cond.methodLink "NestChartLaw" (30 : Nat) ({ cls := "NestChart", name := "<init>", desc := "()V" } : Jvm.MethodName)) ∈ lw_all := lw_g (lw_at lw_m1 33 rfl) rfl
theorem q247 : (Jvm.Cond.methodLink "NestChartLaw" (34 : Nat) ({ cls := "NestChart", name := "type", desc := "(C)Z" } : Jvm.MethodName)) ∈ lw_all := lw_g (lw_at lw_m1 176 rfl) rfl
theorem q251 : (Jvm.Cond.methodLink "NestChartLaw" (48 : Nat) ({ cls := "NestChart", name := "place", desc := "()I" } : Jvm.MethodName)) ∈ lw_all := lw_g (lw_at lw_m1 180 rfl) rfl
theorem q255 : (Jvm.Cond.methodLink "NestChartLaw" (63 : Nat) ({ cls := "NestChart", name := "runs", desc := "()Z" } : Jvm.MethodName)) ∈ lw_all := lw_g (lw_at lw_m1 184 rfl) rfl
theorem q259 : (Jvm.Cond.methodLink "NestChartLaw" (68 : Nat) ({ cls := "NestChart", name := "active", desc := "(C)Z" } : Jvm.MethodName)) ∈ lw_all := lw_g (lw_at lw_m1 188 rfl) rfl
theorem q290 : (Jvm.Cond.methodLink "NestChartLaw" (72 : Nat) ({ cls := "NestChart", name := "variable", desc := "(C)D" } : Jvm.MethodName)) ∈ lw_all := lw_g (lw_at lw_m1 219 rfl) rfl
theorem q294 : (Jvm.Cond.methodLink "NestChartLaw" (77 : Nat) ({ cls := "NestChart", name := "sent", desc := "()I" } : Jvm.MethodName)) ∈ lw_all := lw_g (lw_at lw_m1 223 rfl) rfl
theorem q302 : (Jvm.Cond.methodLink "NestChartLaw" (81 : Nat) ({ cls := "NestChart", name := "trace", desc := "(I)I" } : Jvm.MethodName)) ∈ lw_all := lw_g (lw_at lw_m1 231 rfl) rfl
theorem q306 : (Jvm.Cond.methodLink "NestChartLaw" (85 : Nat) ({ cls := "NestChart", name := "history", desc := "(CZ)I" } : Jvm.MethodName)) ∈ lw_all := lw_g (lw_at lw_m1 235 rfl) rfl
theorem q310 : (Jvm.Cond.methodLink "NestChartLaw" (39 : Nat) ({ cls := "NestChartLaw", name := "build", desc := "(LNestChart;[J)I" } : Jvm.MethodName)) ∈ lw_all := lw_g (lw_at lw_m1 239 rfl) rfl
theorem q311 : (Jvm.Cond.static ({ cls := "NestChartLaw", name := "build", desc := "(LNestChart;[J)I" } : Jvm.MethodName)) ∈ lw_all := lw_g (lw_at lw_m2 0 rfl) rfl
theorem q312 : (Jvm.Cond.codeWith ({ cls := "NestChartLaw", name := "build", desc := "(LNestChart;[J)I" } : Jvm.MethodName) method_3_code (3 : Nat) (Option.some Jvm.ClassFile.FieldType.int) [((0 : Nat), (8 : Nat), (11 : Nat), (13 : Nat))]) ∈ lw_all := lw_g (lw_at lw_m2 1 rfl) rfl
theorem q313 : (Jvm.Cond.classLink "NestChartLaw" (13 : Nat) "java/lang/IllegalArgumentException") ∈ lw_all := lw_g (lw_at lw_m2 2 rfl) rfl
theorem q314 : (Jvm.Cond.methodLink "NestChartLaw" (7 : Nat) ({ cls := "NestChart", name := "build", desc := "()I" } : Jvm.MethodName)) ∈ lw_all := lw_g (lw_at lw_m2 3 rfl) rfl
theorem q731 : (Jvm.Cond.methodLink "NestChartLaw" (52 : Nat) ({ cls := "NestChartLaw", name := "start", desc := "(LNestChart;[J)I" } : Jvm.MethodName)) ∈ lw_all := lw_g (lw_at lw_m3 180 rfl) rfl
theorem q732 : (Jvm.Cond.static ({ cls := "NestChartLaw", name := "start", desc := "(LNestChart;[J)I" } : Jvm.MethodName)) ∈ lw_all := lw_g (lw_at lw_m3 181 rfl) rfl
theorem q733 : (Jvm.Cond.codeWith ({ cls := "NestChartLaw", name := "start", desc := "(LNestChart;[J)I" } : Jvm.MethodName) method_4_code (3 : Nat) (Option.some Jvm.ClassFile.FieldType.int) [((0 : Nat), (8 : Nat), (11 : Nat), (18 : Nat)), ((0 : Nat), (8 : Nat), (14 : Nat), (20 : Nat))]) ∈ lw_all := lw_g (lw_at lw_m3 182 rfl) rfl
theorem q734 : (Jvm.Cond.classLink "NestChartLaw" (18 : Nat) "java/lang/IllegalStateException") ∈ lw_all := lw_g (lw_at lw_m3 183 rfl) rfl
theorem q735 : (Jvm.Cond.classLink "NestChartLaw" (20 : Nat) "java/lang/UnsupportedOperationException") ∈ lw_all := lw_g (lw_at lw_m3 184 rfl) rfl
theorem q736 : (Jvm.Cond.methodLink "NestChartLaw" (15 : Nat) ({ cls := "NestChart", name := "start", desc := "()I" } : Jvm.MethodName)) ∈ lw_all := lw_g (lw_at lw_m3 185 rfl) rfl
theorem q962 : (Jvm.Cond.methodLink "NestChartLaw" (55 : Nat) ({ cls := "NestChartLaw", name := "event", desc := "(LNestChart;C[J)I" } : Jvm.MethodName)) ∈ lw_all := lw_g (lw_at lw_m4 171 rfl) rfl
theorem q963 : (Jvm.Cond.static ({ cls := "NestChartLaw", name := "event", desc := "(LNestChart;C[J)I" } : Jvm.MethodName)) ∈ lw_all := lw_g (lw_at lw_m4 172 rfl) rfl
theorem q964 : (Jvm.Cond.codeWith ({ cls := "NestChartLaw", name := "event", desc := "(LNestChart;C[J)I" } : Jvm.MethodName) method_5_code (4 : Nat) (Option.some Jvm.ClassFile.FieldType.int) [((0 : Nat), (9 : Nat), (12 : Nat), (13 : Nat)), ((0 : Nat), (9 : Nat), (15 : Nat), (18 : Nat)), ((0 : Nat), (9 : Nat), (18 : Nat), (20 : Nat))]) ∈ lw_all := lw_g (lw_at lw_m4 173 rfl) rfl
theorem q965 : (Jvm.Cond.methodLink "NestChartLaw" (22 : Nat) ({ cls := "NestChart", name := "event", desc := "(C)I" } : Jvm.MethodName)) ∈ lw_all := lw_g (lw_at lw_m4 174 rfl) rfl
theorem q974 : (Jvm.Cond.methodLink "NestChartLaw" (59 : Nat) ({ cls := "NestChartLaw", name := "tick", desc := "(LNestChart;I[J)I" } : Jvm.MethodName)) ∈ lw_all := lw_g (lw_at lw_m4 183 rfl) rfl
theorem q975 : (Jvm.Cond.static ({ cls := "NestChartLaw", name := "tick", desc := "(LNestChart;I[J)I" } : Jvm.MethodName)) ∈ lw_all := lw_g (lw_at lw_m4 184 rfl) rfl
theorem q976 : (Jvm.Cond.codeWith ({ cls := "NestChartLaw", name := "tick", desc := "(LNestChart;I[J)I" } : Jvm.MethodName) method_6_code (4 : Nat) (Option.some Jvm.ClassFile.FieldType.int) [((0 : Nat), (9 : Nat), (12 : Nat), (13 : Nat)), ((0 : Nat), (9 : Nat), (15 : Nat), (18 : Nat)), ((0 : Nat), (9 : Nat), (18 : Nat), (20 : Nat))]) ∈ lw_all := lw_g (lw_at lw_m4 185 rfl) rfl
theorem q977 : (Jvm.Cond.methodLink "NestChartLaw" (26 : Nat) ({ cls := "NestChart", name := "tick", desc := "(I)I" } : Jvm.MethodName)) ∈ lw_all := lw_g (lw_at lw_m4 186 rfl) rfl
theorem q986 : (Jvm.Cond.classLink "NestChartLaw" (31 : Nat) "NestChartModel") ∈ lw_all := lw_g (lw_at lw_m4 195 rfl) rfl
theorem q988 : (Jvm.Cond.methodLink "NestChartLaw" (33 : Nat) ({ cls := "NestChartModel", name := "<init>", desc := "()V" } : Jvm.MethodName)) ∈ lw_all := lw_g (lw_at lw_m4 197 rfl) rfl
theorem q1180 : (Jvm.Cond.methodLink "NestChartLaw" (45 : Nat) ({ cls := "NestChartModel", name := "thrown", desc := "()I" } : Jvm.MethodName)) ∈ lw_all := lw_g (lw_at lw_m5 149 rfl) rfl
theorem q1184 : (Jvm.Cond.methodLink "NestChartLaw" (38 : Nat) ({ cls := "NestChartModel", name := "type", desc := "(C)Z" } : Jvm.MethodName)) ∈ lw_all := lw_g (lw_at lw_m5 153 rfl) rfl
theorem q1188 : (Jvm.Cond.methodLink "NestChartLaw" (44 : Nat) ({ cls := "NestChartModel", name := "build", desc := "()I" } : Jvm.MethodName)) ∈ lw_all := lw_g (lw_at lw_m5 157 rfl) rfl
theorem q1265 : (Jvm.Cond.methodLink "NestChartLaw" (51 : Nat) ({ cls := "NestChartModel", name := "place", desc := "()I" } : Jvm.MethodName)) ∈ lw_all := lw_g (lw_at lw_m5 234 rfl) rfl
theorem q1269 : (Jvm.Cond.methodLink "NestChartLaw" (54 : Nat) ({ cls := "NestChartModel", name := "start", desc := "()I" } : Jvm.MethodName)) ∈ lw_all := lw_g (lw_at lw_m5 238 rfl) rfl
theorem q1363 : (Jvm.Cond.methodLink "NestChartLaw" (58 : Nat) ({ cls := "NestChartModel", name := "event", desc := "(C)I" } : Jvm.MethodName)) ∈ lw_all := lw_g (lw_at lw_m6 92 rfl) rfl
theorem q1371 : (Jvm.Cond.methodLink "NestChartLaw" (62 : Nat) ({ cls := "NestChartModel", name := "tick", desc := "(I)I" } : Jvm.MethodName)) ∈ lw_all := lw_g (lw_at lw_m6 100 rfl) rfl
theorem q1379 : (Jvm.Cond.methodLink "NestChartLaw" (67 : Nat) ({ cls := "NestChartModel", name := "runs", desc := "()Z" } : Jvm.MethodName)) ∈ lw_all := lw_g (lw_at lw_m6 108 rfl) rfl
theorem q1383 : (Jvm.Cond.methodLink "NestChartLaw" (71 : Nat) ({ cls := "NestChartModel", name := "active", desc := "(C)Z" } : Jvm.MethodName)) ∈ lw_all := lw_g (lw_at lw_m6 112 rfl) rfl
theorem q1391 : (Jvm.Cond.methodLink "NestChartLaw" (76 : Nat) ({ cls := "NestChartModel", name := "variable", desc := "(C)D" } : Jvm.MethodName)) ∈ lw_all := lw_g (lw_at lw_m6 120 rfl) rfl
theorem q1395 : (Jvm.Cond.methodLink "NestChartLaw" (80 : Nat) ({ cls := "NestChartModel", name := "sent", desc := "()I" } : Jvm.MethodName)) ∈ lw_all := lw_g (lw_at lw_m6 124 rfl) rfl
theorem q1399 : (Jvm.Cond.methodLink "NestChartLaw" (84 : Nat) ({ cls := "NestChartModel", name := "trace", desc := "(I)I" } : Jvm.MethodName)) ∈ lw_all := lw_g (lw_at lw_m6 128 rfl) rfl
theorem q1403 : (Jvm.Cond.methodLink "NestChartLaw" (89 : Nat) ({ cls := "NestChartModel", name := "history", desc := "(CZ)I" } : Jvm.MethodName)) ∈ lw_all := lw_g (lw_at lw_m6 132 rfl) rfl

/-! NestChart -/
def RX1 : String := "NestChart"
def TX1 : u_T := fun k => match k with
  | 0 => ("NestChart", "reader", "LNestChart$Reader;", true)
  | 1 => ("NestChart", "run", "LNestChart$Run;", true)
  | 2 => ("NestChart", "byLetter", "[I", true)
  | 3 => ("NestChart", "illAt", "I", false)
  | _ => ("NestChart", "typed", "I", false)
def tyX1 : Nat → FieldType := fun k => match k with
  | 0 => .object "NestChart$Reader"
  | 1 => .object "NestChart$Run"
  | 2 => .array .int
  | 3 => .int
  | _ => .int
abbrev wsX10 : List Cond := u_ws RX1 TX1 5
theorem nmX1 : ∀ a, a < 5 → ∀ b, b < 5 → a ≠ b → (TX1 a).2.1 ≠ (TX1 b).2.1 := by decide +kernel
theorem tyX1_ok : ∀ k, k < 5 → parseFieldDescriptor (TX1 k).2.2.1 = some (tyX1 k) := by decide +kernel
abbrev cX1_init : ByteArray := prog_1_method_3_code
def yX1_init : MethodName := ⟨RX1, "<init>", "()V"⟩
theorem dX1_init_0 : decode cX1_init 0 = .ok (.aload_n 0, 1) := by decide +kernel
theorem dX1_init_1 : decode cX1_init 1 = .ok (.invokespecial 37, 3) := by decide +kernel
theorem dX1_init_4 : decode cX1_init 4 = .ok (.aload_n 0, 1) := by decide +kernel
theorem dX1_init_5 : decode cX1_init 5 = .ok (.new 43, 3) := by decide +kernel
theorem dX1_init_8 : decode cX1_init 8 = .ok (.dup, 1) := by decide +kernel
theorem dX1_init_9 : decode cX1_init 9 = .ok (.invokespecial 45, 3) := by decide +kernel
theorem dX1_init_12 : decode cX1_init 12 = .ok (.putfield 46, 3) := by decide +kernel
theorem dX1_init_15 : decode cX1_init 15 = .ok (.aload_n 0, 1) := by decide +kernel
theorem dX1_init_16 : decode cX1_init 16 = .ok (.new 50, 3) := by decide +kernel
theorem dX1_init_19 : decode cX1_init 19 = .ok (.dup, 1) := by decide +kernel
theorem dX1_init_20 : decode cX1_init 20 = .ok (.invokespecial 52, 3) := by decide +kernel
theorem dX1_init_23 : decode cX1_init 23 = .ok (.putfield 53, 3) := by decide +kernel
theorem dX1_init_26 : decode cX1_init 26 = .ok (.aload_n 0, 1) := by decide +kernel
theorem dX1_init_27 : decode cX1_init 27 = .ok (.bipush 16, 2) := by decide +kernel
theorem dX1_init_29 : decode cX1_init 29 = .ok (.newarray .int, 2) := by decide +kernel
theorem dX1_init_31 : decode cX1_init 31 = .ok (.putfield 57, 3) := by decide +kernel
theorem dX1_init_34 : decode cX1_init 34 = .ok (.aload_n 0, 1) := by decide +kernel
theorem dX1_init_35 : decode cX1_init 35 = .ok (.iconst (-1), 1) := by decide +kernel
theorem dX1_init_36 : decode cX1_init 36 = .ok (.putfield 61, 3) := by decide +kernel
theorem dX1_init_39 : decode cX1_init 39 = .ok (.return_, 1) := by decide +kernel
abbrev cX1_type : ByteArray := prog_1_method_4_code
def yX1_type : MethodName := ⟨RX1, "type", "(C)Z"⟩
theorem dX1_type_0 : decode cX1_type 0 = .ok (.iload_n 1, 1) := by decide +kernel
theorem dX1_type_1 : decode cX1_type 1 = .ok (.bipush 32, 2) := by decide +kernel
theorem dX1_type_3 : decode cX1_type 3 = .ok (.if_icmp .lt 19, 3) := by decide +kernel
theorem dX1_type_6 : decode cX1_type 6 = .ok (.iload_n 1, 1) := by decide +kernel
theorem dX1_type_7 : decode cX1_type 7 = .ok (.bipush 126, 2) := by decide +kernel
theorem dX1_type_9 : decode cX1_type 9 = .ok (.if_icmp .gt 13, 3) := by decide +kernel
theorem dX1_type_12 : decode cX1_type 12 = .ok (.aload_n 0, 1) := by decide +kernel
theorem dX1_type_13 : decode cX1_type 13 = .ok (.getfield 64, 3) := by decide +kernel
theorem dX1_type_16 : decode cX1_type 16 = .ok (.sipush 160, 3) := by decide +kernel
theorem dX1_type_19 : decode cX1_type 19 = .ok (.if_icmp .ne 5, 3) := by decide +kernel
theorem dX1_type_22 : decode cX1_type 22 = .ok (.iconst 0, 1) := by decide +kernel
theorem dX1_type_23 : decode cX1_type 23 = .ok (.ireturn, 1) := by decide +kernel
theorem dX1_type_24 : decode cX1_type 24 = .ok (.aload_n 0, 1) := by decide +kernel
theorem dX1_type_25 : decode cX1_type 25 = .ok (.dup, 1) := by decide +kernel
theorem dX1_type_26 : decode cX1_type 26 = .ok (.getfield 64, 3) := by decide +kernel
theorem dX1_type_29 : decode cX1_type 29 = .ok (.iconst 1, 1) := by decide +kernel
theorem dX1_type_30 : decode cX1_type 30 = .ok (.iadd, 1) := by decide +kernel
theorem dX1_type_31 : decode cX1_type 31 = .ok (.putfield 64, 3) := by decide +kernel
theorem dX1_type_34 : decode cX1_type 34 = .ok (.iload_n 1, 1) := by decide +kernel
theorem dX1_type_35 : decode cX1_type 35 = .ok (.bipush 32, 2) := by decide +kernel
theorem dX1_type_37 : decode cX1_type 37 = .ok (.if_icmp .eq 26, 3) := by decide +kernel
theorem dX1_type_40 : decode cX1_type 40 = .ok (.aload_n 0, 1) := by decide +kernel
theorem dX1_type_41 : decode cX1_type 41 = .ok (.getfield 46, 3) := by decide +kernel
theorem dX1_type_44 : decode cX1_type 44 = .ok (.getfield 67, 3) := by decide +kernel
theorem dX1_type_47 : decode cX1_type 47 = .ok (.aload_n 0, 1) := by decide +kernel
theorem dX1_type_48 : decode cX1_type 48 = .ok (.getfield 46, 3) := by decide +kernel
theorem dX1_type_51 : decode cX1_type 51 = .ok (.dup, 1) := by decide +kernel
theorem dX1_type_52 : decode cX1_type 52 = .ok (.getfield 71, 3) := by decide +kernel
theorem dX1_type_55 : decode cX1_type 55 = .ok (.dup_x1, 1) := by decide +kernel
theorem dX1_type_56 : decode cX1_type 56 = .ok (.iconst 1, 1) := by decide +kernel
theorem dX1_type_57 : decode cX1_type 57 = .ok (.iadd, 1) := by decide +kernel
theorem dX1_type_58 : decode cX1_type 58 = .ok (.putfield 71, 3) := by decide +kernel
theorem dX1_type_61 : decode cX1_type 61 = .ok (.iload_n 1, 1) := by decide +kernel
theorem dX1_type_62 : decode cX1_type 62 = .ok (.castore, 1) := by decide +kernel
theorem dX1_type_63 : decode cX1_type 63 = .ok (.iconst 1, 1) := by decide +kernel
theorem dX1_type_64 : decode cX1_type 64 = .ok (.ireturn, 1) := by decide +kernel
abbrev cX1_place : ByteArray := prog_1_method_6_code
def yX1_place : MethodName := ⟨RX1, "place", "()I"⟩
theorem dX1_place_0 : decode cX1_place 0 = .ok (.aload_n 0, 1) := by decide +kernel
theorem dX1_place_1 : decode cX1_place 1 = .ok (.getfield 61, 3) := by decide +kernel
theorem dX1_place_4 : decode cX1_place 4 = .ok (.ireturn, 1) := by decide +kernel
abbrev cX1_runs : ByteArray := prog_1_method_11_code
def yX1_runs : MethodName := ⟨RX1, "runs", "()Z"⟩
theorem dX1_runs_0 : decode cX1_runs 0 = .ok (.aload_n 0, 1) := by decide +kernel
theorem dX1_runs_1 : decode cX1_runs 1 = .ok (.getfield 53, 3) := by decide +kernel
theorem dX1_runs_4 : decode cX1_runs 4 = .ok (.getfield 105, 3) := by decide +kernel
theorem dX1_runs_7 : decode cX1_runs 7 = .ok (.ireturn, 1) := by decide +kernel
abbrev cX1_active : ByteArray := prog_1_method_12_code
def yX1_active : MethodName := ⟨RX1, "active", "(C)Z"⟩
theorem dX1_active_0 : decode cX1_active 0 = .ok (.aload_n 0, 1) := by decide +kernel
theorem dX1_active_1 : decode cX1_active 1 = .ok (.iload_n 1, 1) := by decide +kernel
theorem dX1_active_2 : decode cX1_active 2 = .ok (.invokevirtual 119, 3) := by decide +kernel
theorem dX1_active_5 : decode cX1_active 5 = .ok (.astore_n 2, 1) := by decide +kernel
theorem dX1_active_6 : decode cX1_active 6 = .ok (.aload_n 2, 1) := by decide +kernel
theorem dX1_active_7 : decode cX1_active 7 = .ok (.ifnull 21, 3) := by decide +kernel
theorem dX1_active_10 : decode cX1_active 10 = .ok (.aload_n 0, 1) := by decide +kernel
theorem dX1_active_11 : decode cX1_active 11 = .ok (.getfield 53, 3) := by decide +kernel
theorem dX1_active_14 : decode cX1_active 14 = .ok (.aload_n 2, 1) := by decide +kernel
theorem dX1_active_15 : decode cX1_active 15 = .ok (.getfield 123, 3) := by decide +kernel
theorem dX1_active_18 : decode cX1_active 18 = .ok (.invokevirtual 126, 3) := by decide +kernel
theorem dX1_active_21 : decode cX1_active 21 = .ok (.ifCond .eq 7, 3) := by decide +kernel
theorem dX1_active_24 : decode cX1_active 24 = .ok (.iconst 1, 1) := by decide +kernel
theorem dX1_active_25 : decode cX1_active 25 = .ok (.goto 4, 3) := by decide +kernel
theorem dX1_active_28 : decode cX1_active 28 = .ok (.iconst 0, 1) := by decide +kernel
theorem dX1_active_29 : decode cX1_active 29 = .ok (.ireturn, 1) := by decide +kernel
abbrev cX1_stateOf : ByteArray := prog_1_method_10_code
def yX1_stateOf : MethodName := ⟨RX1, "stateOf", "(C)LNestChart$State;"⟩
theorem dX1_stateOf_0 : decode cX1_stateOf 0 = .ok (.aload_n 0, 1) := by decide +kernel
theorem dX1_stateOf_1 : decode cX1_stateOf 1 = .ok (.getfield 53, 3) := by decide +kernel
theorem dX1_stateOf_4 : decode cX1_stateOf 4 = .ok (.getfield 91, 3) := by decide +kernel
theorem dX1_stateOf_7 : decode cX1_stateOf 7 = .ok (.invokevirtual 92, 3) := by decide +kernel
theorem dX1_stateOf_10 : decode cX1_stateOf 10 = .ok (.ifCond .ne 27, 3) := by decide +kernel
theorem dX1_stateOf_13 : decode cX1_stateOf 13 = .ok (.iload_n 1, 1) := by decide +kernel
theorem dX1_stateOf_14 : decode cX1_stateOf 14 = .ok (.bipush 97, 2) := by decide +kernel
theorem dX1_stateOf_16 : decode cX1_stateOf 16 = .ok (.if_icmp .lt 21, 3) := by decide +kernel
theorem dX1_stateOf_19 : decode cX1_stateOf 19 = .ok (.iload_n 1, 1) := by decide +kernel
theorem dX1_stateOf_20 : decode cX1_stateOf 20 = .ok (.bipush 112, 2) := by decide +kernel
theorem dX1_stateOf_22 : decode cX1_stateOf 22 = .ok (.if_icmp .gt 15, 3) := by decide +kernel
theorem dX1_stateOf_25 : decode cX1_stateOf 25 = .ok (.aload_n 0, 1) := by decide +kernel
theorem dX1_stateOf_26 : decode cX1_stateOf 26 = .ok (.getfield 57, 3) := by decide +kernel
theorem dX1_stateOf_29 : decode cX1_stateOf 29 = .ok (.iload_n 1, 1) := by decide +kernel
theorem dX1_stateOf_30 : decode cX1_stateOf 30 = .ok (.bipush 97, 2) := by decide +kernel
theorem dX1_stateOf_32 : decode cX1_stateOf 32 = .ok (.isub, 1) := by decide +kernel
theorem dX1_stateOf_33 : decode cX1_stateOf 33 = .ok (.iaload, 1) := by decide +kernel
theorem dX1_stateOf_34 : decode cX1_stateOf 34 = .ok (.ifCond .ge 5, 3) := by decide +kernel
theorem dX1_stateOf_37 : decode cX1_stateOf 37 = .ok (.aconst_null, 1) := by decide +kernel
theorem dX1_stateOf_38 : decode cX1_stateOf 38 = .ok (.areturn, 1) := by decide +kernel
theorem dX1_stateOf_39 : decode cX1_stateOf 39 = .ok (.aload_n 0, 1) := by decide +kernel
theorem dX1_stateOf_40 : decode cX1_stateOf 40 = .ok (.getfield 53, 3) := by decide +kernel
theorem dX1_stateOf_43 : decode cX1_stateOf 43 = .ok (.getfield 91, 3) := by decide +kernel
theorem dX1_stateOf_46 : decode cX1_stateOf 46 = .ok (.aload_n 0, 1) := by decide +kernel
theorem dX1_stateOf_47 : decode cX1_stateOf 47 = .ok (.getfield 57, 3) := by decide +kernel
theorem dX1_stateOf_50 : decode cX1_stateOf 50 = .ok (.iload_n 1, 1) := by decide +kernel
theorem dX1_stateOf_51 : decode cX1_stateOf 51 = .ok (.bipush 97, 2) := by decide +kernel
theorem dX1_stateOf_53 : decode cX1_stateOf 53 = .ok (.isub, 1) := by decide +kernel
theorem dX1_stateOf_54 : decode cX1_stateOf 54 = .ok (.iaload, 1) := by decide +kernel
theorem dX1_stateOf_55 : decode cX1_stateOf 55 = .ok (.invokevirtual 20, 3) := by decide +kernel
theorem dX1_stateOf_58 : decode cX1_stateOf 58 = .ok (.checkcast 2, 3) := by decide +kernel
theorem dX1_stateOf_61 : decode cX1_stateOf 61 = .ok (.areturn, 1) := by decide +kernel
abbrev cX1_variable : ByteArray := prog_1_method_13_code
def yX1_variable : MethodName := ⟨RX1, "variable", "(C)D"⟩
theorem dX1_variable_0 : decode cX1_variable 0 = .ok (.iload_n 1, 1) := by decide +kernel
theorem dX1_variable_1 : decode cX1_variable 1 = .ok (.bipush 117, 2) := by decide +kernel
theorem dX1_variable_3 : decode cX1_variable 3 = .ok (.if_icmp .lt 9, 3) := by decide +kernel
theorem dX1_variable_6 : decode cX1_variable 6 = .ok (.iload_n 1, 1) := by decide +kernel
theorem dX1_variable_7 : decode cX1_variable 7 = .ok (.bipush 122, 2) := by decide +kernel
theorem dX1_variable_9 : decode cX1_variable 9 = .ok (.if_icmp .le 7, 3) := by decide +kernel
theorem dX1_variable_12 : decode cX1_variable 12 = .ok (.dconst 0, 1) := by decide +kernel
theorem dX1_variable_13 : decode cX1_variable 13 = .ok (.goto 15, 3) := by decide +kernel
theorem dX1_variable_16 : decode cX1_variable 16 = .ok (.aload_n 0, 1) := by decide +kernel
theorem dX1_variable_17 : decode cX1_variable 17 = .ok (.getfield 53, 3) := by decide +kernel
theorem dX1_variable_20 : decode cX1_variable 20 = .ok (.getfield 130, 3) := by decide +kernel
theorem dX1_variable_23 : decode cX1_variable 23 = .ok (.iload_n 1, 1) := by decide +kernel
theorem dX1_variable_24 : decode cX1_variable 24 = .ok (.bipush 117, 2) := by decide +kernel
theorem dX1_variable_26 : decode cX1_variable 26 = .ok (.isub, 1) := by decide +kernel
theorem dX1_variable_27 : decode cX1_variable 27 = .ok (.daload, 1) := by decide +kernel
theorem dX1_variable_28 : decode cX1_variable 28 = .ok (.dreturn, 1) := by decide +kernel
abbrev cX1_sent : ByteArray := prog_1_method_14_code
def yX1_sent : MethodName := ⟨RX1, "sent", "()I"⟩
theorem dX1_sent_0 : decode cX1_sent 0 = .ok (.aload_n 0, 1) := by decide +kernel
theorem dX1_sent_1 : decode cX1_sent 1 = .ok (.getfield 53, 3) := by decide +kernel
theorem dX1_sent_4 : decode cX1_sent 4 = .ok (.getfield 134, 3) := by decide +kernel
theorem dX1_sent_7 : decode cX1_sent 7 = .ok (.invokevirtual 30, 3) := by decide +kernel
theorem dX1_sent_10 : decode cX1_sent 10 = .ok (.ireturn, 1) := by decide +kernel
abbrev cX1_trace : ByteArray := prog_1_method_15_code
def yX1_trace : MethodName := ⟨RX1, "trace", "(I)I"⟩
theorem dX1_trace_0 : decode cX1_trace 0 = .ok (.iload_n 1, 1) := by decide +kernel
theorem dX1_trace_1 : decode cX1_trace 1 = .ok (.ifCond .lt 14, 3) := by decide +kernel
theorem dX1_trace_4 : decode cX1_trace 4 = .ok (.iload_n 1, 1) := by decide +kernel
theorem dX1_trace_5 : decode cX1_trace 5 = .ok (.aload_n 0, 1) := by decide +kernel
theorem dX1_trace_6 : decode cX1_trace 6 = .ok (.getfield 53, 3) := by decide +kernel
theorem dX1_trace_9 : decode cX1_trace 9 = .ok (.getfield 137, 3) := by decide +kernel
theorem dX1_trace_12 : decode cX1_trace 12 = .ok (.if_icmp .lt 7, 3) := by decide +kernel
theorem dX1_trace_15 : decode cX1_trace 15 = .ok (.iconst 0, 1) := by decide +kernel
theorem dX1_trace_16 : decode cX1_trace 16 = .ok (.goto 12, 3) := by decide +kernel
theorem dX1_trace_19 : decode cX1_trace 19 = .ok (.aload_n 0, 1) := by decide +kernel
theorem dX1_trace_20 : decode cX1_trace 20 = .ok (.getfield 53, 3) := by decide +kernel
theorem dX1_trace_23 : decode cX1_trace 23 = .ok (.getfield 140, 3) := by decide +kernel
theorem dX1_trace_26 : decode cX1_trace 26 = .ok (.iload_n 1, 1) := by decide +kernel
theorem dX1_trace_27 : decode cX1_trace 27 = .ok (.iaload, 1) := by decide +kernel
theorem dX1_trace_28 : decode cX1_trace 28 = .ok (.ireturn, 1) := by decide +kernel
abbrev cX1_history : ByteArray := prog_1_method_16_code
def yX1_history : MethodName := ⟨RX1, "history", "(CZ)I"⟩
theorem dX1_history_0 : decode cX1_history 0 = .ok (.aload_n 0, 1) := by decide +kernel
theorem dX1_history_1 : decode cX1_history 1 = .ok (.iload_n 1, 1) := by decide +kernel
theorem dX1_history_2 : decode cX1_history 2 = .ok (.invokevirtual 119, 3) := by decide +kernel
theorem dX1_history_5 : decode cX1_history 5 = .ok (.astore_n 3, 1) := by decide +kernel
theorem dX1_history_6 : decode cX1_history 6 = .ok (.aload_n 3, 1) := by decide +kernel
theorem dX1_history_7 : decode cX1_history 7 = .ok (.ifnonnull 7, 3) := by decide +kernel
theorem dX1_history_10 : decode cX1_history 10 = .ok (.iconst 0, 1) := by decide +kernel
theorem dX1_history_11 : decode cX1_history 11 = .ok (.goto 18, 3) := by decide +kernel
theorem dX1_history_14 : decode cX1_history 14 = .ok (.iload_n 2, 1) := by decide +kernel
theorem dX1_history_15 : decode cX1_history 15 = .ok (.ifCond .eq 10, 3) := by decide +kernel
theorem dX1_history_18 : decode cX1_history 18 = .ok (.aload_n 3, 1) := by decide +kernel
theorem dX1_history_19 : decode cX1_history 19 = .ok (.getfield 143, 3) := by decide +kernel
theorem dX1_history_22 : decode cX1_history 22 = .ok (.goto 7, 3) := by decide +kernel
theorem dX1_history_25 : decode cX1_history 25 = .ok (.aload_n 3, 1) := by decide +kernel
theorem dX1_history_26 : decode cX1_history 26 = .ok (.getfield 146, 3) := by decide +kernel
theorem dX1_history_29 : decode cX1_history 29 = .ok (.ireturn, 1) := by decide +kernel
abbrev cX1_build : ByteArray := prog_1_method_5_code
def yX1_build : MethodName := ⟨RX1, "build", "()I"⟩
theorem dX1_build_0 : decode cX1_build 0 = .ok (.aload_n 0, 1) := by decide +kernel
theorem dX1_build_1 : decode cX1_build 1 = .ok (.iconst (-1), 1) := by decide +kernel
theorem dX1_build_2 : decode cX1_build 2 = .ok (.putfield 61, 3) := by decide +kernel
theorem dX1_build_5 : decode cX1_build 5 = .ok (.aload_n 0, 1) := by decide +kernel
theorem dX1_build_6 : decode cX1_build 6 = .ok (.getfield 46, 3) := by decide +kernel
theorem dX1_build_9 : decode cX1_build 9 = .ok (.invokevirtual 73, 3) := by decide +kernel
theorem dX1_build_12 : decode cX1_build 12 = .ok (.pop, 1) := by decide +kernel
theorem dX1_build_13 : decode cX1_build 13 = .ok (.goto 15, 3) := by decide +kernel
theorem dX1_build_16 : decode cX1_build 16 = .ok (.astore_n 1, 1) := by decide +kernel
theorem dX1_build_17 : decode cX1_build 17 = .ok (.aload_n 0, 1) := by decide +kernel
theorem dX1_build_18 : decode cX1_build 18 = .ok (.aload_n 0, 1) := by decide +kernel
theorem dX1_build_19 : decode cX1_build 19 = .ok (.getfield 46, 3) := by decide +kernel
theorem dX1_build_22 : decode cX1_build 22 = .ok (.getfield 79, 3) := by decide +kernel
theorem dX1_build_25 : decode cX1_build 25 = .ok (.putfield 61, 3) := by decide +kernel
theorem dX1_build_28 : decode cX1_build 28 = .ok (.aload_n 0, 1) := by decide +kernel
theorem dX1_build_29 : decode cX1_build 29 = .ok (.getfield 46, 3) := by decide +kernel
theorem dX1_build_32 : decode cX1_build 32 = .ok (.iconst 0, 1) := by decide +kernel
theorem dX1_build_33 : decode cX1_build 33 = .ok (.putfield 71, 3) := by decide +kernel
theorem dX1_build_36 : decode cX1_build 36 = .ok (.aload_n 0, 1) := by decide +kernel
theorem dX1_build_37 : decode cX1_build 37 = .ok (.iconst 0, 1) := by decide +kernel
theorem dX1_build_38 : decode cX1_build 38 = .ok (.putfield 64, 3) := by decide +kernel
theorem dX1_build_41 : decode cX1_build 41 = .ok (.aload_n 0, 1) := by decide +kernel
theorem dX1_build_42 : decode cX1_build 42 = .ok (.getfield 61, 3) := by decide +kernel
theorem dX1_build_45 : decode cX1_build 45 = .ok (.ifCond .lt 11, 3) := by decide +kernel
theorem dX1_build_48 : decode cX1_build 48 = .ok (.new 77, 3) := by decide +kernel
theorem dX1_build_51 : decode cX1_build 51 = .ok (.dup, 1) := by decide +kernel
theorem dX1_build_52 : decode cX1_build 52 = .ok (.invokespecial 82, 3) := by decide +kernel
theorem dX1_build_55 : decode cX1_build 55 = .ok (.athrow, 1) := by decide +kernel
theorem dX1_build_56 : decode cX1_build 56 = .ok (.iconst 0, 1) := by decide +kernel
theorem dX1_build_57 : decode cX1_build 57 = .ok (.istore_n 1, 1) := by decide +kernel
theorem dX1_build_58 : decode cX1_build 58 = .ok (.iload_n 1, 1) := by decide +kernel
theorem dX1_build_59 : decode cX1_build 59 = .ok (.bipush 16, 2) := by decide +kernel
theorem dX1_build_61 : decode cX1_build 61 = .ok (.if_icmp .ge 24, 3) := by decide +kernel
theorem dX1_build_64 : decode cX1_build 64 = .ok (.aload_n 0, 1) := by decide +kernel
theorem dX1_build_65 : decode cX1_build 65 = .ok (.getfield 57, 3) := by decide +kernel
theorem dX1_build_68 : decode cX1_build 68 = .ok (.iload_n 1, 1) := by decide +kernel
theorem dX1_build_69 : decode cX1_build 69 = .ok (.aload_n 0, 1) := by decide +kernel
theorem dX1_build_70 : decode cX1_build 70 = .ok (.getfield 46, 3) := by decide +kernel
theorem dX1_build_73 : decode cX1_build 73 = .ok (.getfield 83, 3) := by decide +kernel
theorem dX1_build_76 : decode cX1_build 76 = .ok (.iload_n 1, 1) := by decide +kernel
theorem dX1_build_77 : decode cX1_build 77 = .ok (.iaload, 1) := by decide +kernel
theorem dX1_build_78 : decode cX1_build 78 = .ok (.iastore, 1) := by decide +kernel
theorem dX1_build_79 : decode cX1_build 79 = .ok (.iinc 1 1, 3) := by decide +kernel
theorem dX1_build_82 : decode cX1_build 82 = .ok (.goto (-24), 3) := by decide +kernel
theorem dX1_build_85 : decode cX1_build 85 = .ok (.aload_n 0, 1) := by decide +kernel
theorem dX1_build_86 : decode cX1_build 86 = .ok (.getfield 53, 3) := by decide +kernel
theorem dX1_build_89 : decode cX1_build 89 = .ok (.aload_n 0, 1) := by decide +kernel
theorem dX1_build_90 : decode cX1_build 90 = .ok (.getfield 46, 3) := by decide +kernel
theorem dX1_build_93 : decode cX1_build 93 = .ok (.getfield 84, 3) := by decide +kernel
theorem dX1_build_96 : decode cX1_build 96 = .ok (.invokevirtual 87, 3) := by decide +kernel
theorem dX1_build_99 : decode cX1_build 99 = .ok (.aload_n 0, 1) := by decide +kernel
theorem dX1_build_100 : decode cX1_build 100 = .ok (.getfield 53, 3) := by decide +kernel
theorem dX1_build_103 : decode cX1_build 103 = .ok (.getfield 91, 3) := by decide +kernel
theorem dX1_build_106 : decode cX1_build 106 = .ok (.invokevirtual 30, 3) := by decide +kernel
theorem dX1_build_109 : decode cX1_build 109 = .ok (.ireturn, 1) := by decide +kernel
abbrev cX1_start : ByteArray := prog_1_method_7_code
def yX1_start : MethodName := ⟨RX1, "start", "()I"⟩
theorem dX1_start_0 : decode cX1_start 0 = .ok (.aload_n 0, 1) := by decide +kernel
theorem dX1_start_1 : decode cX1_start 1 = .ok (.getfield 53, 3) := by decide +kernel
theorem dX1_start_4 : decode cX1_start 4 = .ok (.getfield 91, 3) := by decide +kernel
theorem dX1_start_7 : decode cX1_start 7 = .ok (.invokevirtual 92, 3) := by decide +kernel
theorem dX1_start_10 : decode cX1_start 10 = .ok (.ifCond .eq 11, 3) := by decide +kernel
theorem dX1_start_13 : decode cX1_start 13 = .ok (.new 96, 3) := by decide +kernel
theorem dX1_start_16 : decode cX1_start 16 = .ok (.dup, 1) := by decide +kernel
theorem dX1_start_17 : decode cX1_start 17 = .ok (.invokespecial 98, 3) := by decide +kernel
theorem dX1_start_20 : decode cX1_start 20 = .ok (.athrow, 1) := by decide +kernel
theorem dX1_start_21 : decode cX1_start 21 = .ok (.aload_n 0, 1) := by decide +kernel
theorem dX1_start_22 : decode cX1_start 22 = .ok (.getfield 53, 3) := by decide +kernel
theorem dX1_start_25 : decode cX1_start 25 = .ok (.invokevirtual 99, 3) := by decide +kernel
theorem dX1_start_28 : decode cX1_start 28 = .ok (.aload_n 0, 1) := by decide +kernel
theorem dX1_start_29 : decode cX1_start 29 = .ok (.getfield 53, 3) := by decide +kernel
theorem dX1_start_32 : decode cX1_start 32 = .ok (.getfield 102, 3) := by decide +kernel
theorem dX1_start_35 : decode cX1_start 35 = .ok (.ireturn, 1) := by decide +kernel
abbrev cX1_down : ByteArray := prog_1_method_1_code
def yX1_down : MethodName := ⟨RX1, "down", "(LNestChart$State;I)I"⟩
theorem dX1_down_0 : decode cX1_down 0 = .ok (.iload_n 1, 1) := by decide +kernel
theorem dX1_down_1 : decode cX1_down 1 = .ok (.aload_n 0, 1) := by decide +kernel
theorem dX1_down_2 : decode cX1_down 2 = .ok (.invokevirtual 1, 3) := by decide +kernel
theorem dX1_down_5 : decode cX1_down 5 = .ok (.ior, 1) := by decide +kernel
theorem dX1_down_6 : decode cX1_down 6 = .ok (.istore_n 2, 1) := by decide +kernel
theorem dX1_down_7 : decode cX1_down 7 = .ok (.aload_n 0, 1) := by decide +kernel
theorem dX1_down_8 : decode cX1_down 8 = .ok (.getfield 7, 3) := by decide +kernel
theorem dX1_down_11 : decode cX1_down 11 = .ok (.iconst 1, 1) := by decide +kernel
theorem dX1_down_12 : decode cX1_down 12 = .ok (.if_icmp .ne 28, 3) := by decide +kernel
theorem dX1_down_15 : decode cX1_down 15 = .ok (.iload_n 2, 1) := by decide +kernel
theorem dX1_down_16 : decode cX1_down 16 = .ok (.aload_n 0, 1) := by decide +kernel
theorem dX1_down_17 : decode cX1_down 17 = .ok (.getfield 13, 3) := by decide +kernel
theorem dX1_down_20 : decode cX1_down 20 = .ok (.iand, 1) := by decide +kernel
theorem dX1_down_21 : decode cX1_down 21 = .ok (.ifCond .ne 19, 3) := by decide +kernel
theorem dX1_down_24 : decode cX1_down 24 = .ok (.aload_n 0, 1) := by decide +kernel
theorem dX1_down_25 : decode cX1_down 25 = .ok (.getfield 16, 3) := by decide +kernel
theorem dX1_down_28 : decode cX1_down 28 = .ok (.iconst 0, 1) := by decide +kernel
theorem dX1_down_29 : decode cX1_down 29 = .ok (.invokevirtual 20, 3) := by decide +kernel
theorem dX1_down_32 : decode cX1_down 32 = .ok (.checkcast 2, 3) := by decide +kernel
theorem dX1_down_35 : decode cX1_down 35 = .ok (.iload_n 2, 1) := by decide +kernel
theorem dX1_down_36 : decode cX1_down 36 = .ok (.invokestatic 26, 3) := by decide +kernel
theorem dX1_down_39 : decode cX1_down 39 = .ok (.ireturn, 1) := by decide +kernel
theorem dX1_down_40 : decode cX1_down 40 = .ok (.aload_n 0, 1) := by decide +kernel
theorem dX1_down_41 : decode cX1_down 41 = .ok (.getfield 7, 3) := by decide +kernel
theorem dX1_down_44 : decode cX1_down 44 = .ok (.iconst 2, 1) := by decide +kernel
theorem dX1_down_45 : decode cX1_down 45 = .ok (.if_icmp .ne 58, 3) := by decide +kernel
theorem dX1_down_48 : decode cX1_down 48 = .ok (.iconst 0, 1) := by decide +kernel
theorem dX1_down_49 : decode cX1_down 49 = .ok (.istore_n 3, 1) := by decide +kernel
theorem dX1_down_50 : decode cX1_down 50 = .ok (.iload_n 3, 1) := by decide +kernel
theorem dX1_down_51 : decode cX1_down 51 = .ok (.aload_n 0, 1) := by decide +kernel
theorem dX1_down_52 : decode cX1_down 52 = .ok (.getfield 16, 3) := by decide +kernel
theorem dX1_down_55 : decode cX1_down 55 = .ok (.invokevirtual 30, 3) := by decide +kernel
theorem dX1_down_58 : decode cX1_down 58 = .ok (.if_icmp .ge 45, 3) := by decide +kernel
theorem dX1_down_61 : decode cX1_down 61 = .ok (.aload_n 0, 1) := by decide +kernel
theorem dX1_down_62 : decode cX1_down 62 = .ok (.getfield 16, 3) := by decide +kernel
theorem dX1_down_65 : decode cX1_down 65 = .ok (.iload_n 3, 1) := by decide +kernel
theorem dX1_down_66 : decode cX1_down 66 = .ok (.invokevirtual 20, 3) := by decide +kernel
theorem dX1_down_69 : decode cX1_down 69 = .ok (.checkcast 2, 3) := by decide +kernel
theorem dX1_down_72 : decode cX1_down 72 = .ok (.astore 4, 2) := by decide +kernel
theorem dX1_down_74 : decode cX1_down 74 = .ok (.iload_n 2, 1) := by decide +kernel
theorem dX1_down_75 : decode cX1_down 75 = .ok (.aload 4, 2) := by decide +kernel
theorem dX1_down_77 : decode cX1_down 77 = .ok (.getfield 13, 3) := by decide +kernel
theorem dX1_down_80 : decode cX1_down 80 = .ok (.aload 4, 2) := by decide +kernel
theorem dX1_down_82 : decode cX1_down 82 = .ok (.invokevirtual 1, 3) := by decide +kernel
theorem dX1_down_85 : decode cX1_down 85 = .ok (.ior, 1) := by decide +kernel
theorem dX1_down_86 : decode cX1_down 86 = .ok (.iand, 1) := by decide +kernel
theorem dX1_down_87 : decode cX1_down 87 = .ok (.ifCond .ne 10, 3) := by decide +kernel
theorem dX1_down_90 : decode cX1_down 90 = .ok (.aload 4, 2) := by decide +kernel
theorem dX1_down_92 : decode cX1_down 92 = .ok (.iload_n 2, 1) := by decide +kernel
theorem dX1_down_93 : decode cX1_down 93 = .ok (.invokestatic 26, 3) := by decide +kernel
theorem dX1_down_96 : decode cX1_down 96 = .ok (.istore_n 2, 1) := by decide +kernel
theorem dX1_down_97 : decode cX1_down 97 = .ok (.iinc 3 1, 3) := by decide +kernel
theorem dX1_down_100 : decode cX1_down 100 = .ok (.goto (-50), 3) := by decide +kernel
theorem dX1_down_103 : decode cX1_down 103 = .ok (.iload_n 2, 1) := by decide +kernel
theorem dX1_down_104 : decode cX1_down 104 = .ok (.ireturn, 1) := by decide +kernel
abbrev cX1_up : ByteArray := prog_1_method_2_code
def yX1_up : MethodName := ⟨RX1, "up", "(LNestChart$State;LNestChart$State;I)I"⟩
theorem dX1_up_0 : decode cX1_up 0 = .ok (.iload_n 2, 1) := by decide +kernel
theorem dX1_up_1 : decode cX1_up 1 = .ok (.istore_n 3, 1) := by decide +kernel
theorem dX1_up_2 : decode cX1_up 2 = .ok (.aload_n 0, 1) := by decide +kernel
theorem dX1_up_3 : decode cX1_up 3 = .ok (.getfield 33, 3) := by decide +kernel
theorem dX1_up_6 : decode cX1_up 6 = .ok (.astore 4, 2) := by decide +kernel
theorem dX1_up_8 : decode cX1_up 8 = .ok (.aload 4, 2) := by decide +kernel
theorem dX1_up_10 : decode cX1_up 10 = .ok (.aload_n 1, 1) := by decide +kernel
theorem dX1_up_11 : decode cX1_up 11 = .ok (.if_acmp .eq 98, 3) := by decide +kernel
theorem dX1_up_14 : decode cX1_up 14 = .ok (.aload 4, 2) := by decide +kernel
theorem dX1_up_16 : decode cX1_up 16 = .ok (.ifnull 93, 3) := by decide +kernel
theorem dX1_up_19 : decode cX1_up 19 = .ok (.iload_n 3, 1) := by decide +kernel
theorem dX1_up_20 : decode cX1_up 20 = .ok (.aload 4, 2) := by decide +kernel
theorem dX1_up_22 : decode cX1_up 22 = .ok (.invokevirtual 1, 3) := by decide +kernel
theorem dX1_up_25 : decode cX1_up 25 = .ok (.ior, 1) := by decide +kernel
theorem dX1_up_26 : decode cX1_up 26 = .ok (.istore_n 3, 1) := by decide +kernel
theorem dX1_up_27 : decode cX1_up 27 = .ok (.aload 4, 2) := by decide +kernel
theorem dX1_up_29 : decode cX1_up 29 = .ok (.getfield 7, 3) := by decide +kernel
theorem dX1_up_32 : decode cX1_up 32 = .ok (.iconst 2, 1) := by decide +kernel
theorem dX1_up_33 : decode cX1_up 33 = .ok (.if_icmp .eq 6, 3) := by decide +kernel
theorem dX1_up_36 : decode cX1_up 36 = .ok (.goto 63, 3) := by decide +kernel
theorem dX1_up_39 : decode cX1_up 39 = .ok (.iconst 0, 1) := by decide +kernel
theorem dX1_up_40 : decode cX1_up 40 = .ok (.istore 5, 2) := by decide +kernel
theorem dX1_up_42 : decode cX1_up 42 = .ok (.iload 5, 2) := by decide +kernel
theorem dX1_up_44 : decode cX1_up 44 = .ok (.aload 4, 2) := by decide +kernel
theorem dX1_up_46 : decode cX1_up 46 = .ok (.getfield 16, 3) := by decide +kernel
theorem dX1_up_49 : decode cX1_up 49 = .ok (.invokevirtual 30, 3) := by decide +kernel
theorem dX1_up_52 : decode cX1_up 52 = .ok (.if_icmp .ge 47, 3) := by decide +kernel
theorem dX1_up_55 : decode cX1_up 55 = .ok (.aload 4, 2) := by decide +kernel
theorem dX1_up_57 : decode cX1_up 57 = .ok (.getfield 16, 3) := by decide +kernel
theorem dX1_up_60 : decode cX1_up 60 = .ok (.iload 5, 2) := by decide +kernel
theorem dX1_up_62 : decode cX1_up 62 = .ok (.invokevirtual 20, 3) := by decide +kernel
theorem dX1_up_65 : decode cX1_up 65 = .ok (.checkcast 2, 3) := by decide +kernel
theorem dX1_up_68 : decode cX1_up 68 = .ok (.astore 6, 2) := by decide +kernel
theorem dX1_up_70 : decode cX1_up 70 = .ok (.iload_n 3, 1) := by decide +kernel
theorem dX1_up_71 : decode cX1_up 71 = .ok (.aload 6, 2) := by decide +kernel
theorem dX1_up_73 : decode cX1_up 73 = .ok (.getfield 13, 3) := by decide +kernel
theorem dX1_up_76 : decode cX1_up 76 = .ok (.aload 6, 2) := by decide +kernel
theorem dX1_up_78 : decode cX1_up 78 = .ok (.invokevirtual 1, 3) := by decide +kernel
theorem dX1_up_81 : decode cX1_up 81 = .ok (.ior, 1) := by decide +kernel
theorem dX1_up_82 : decode cX1_up 82 = .ok (.iand, 1) := by decide +kernel
theorem dX1_up_83 : decode cX1_up 83 = .ok (.ifCond .ne 10, 3) := by decide +kernel
theorem dX1_up_86 : decode cX1_up 86 = .ok (.aload 6, 2) := by decide +kernel
theorem dX1_up_88 : decode cX1_up 88 = .ok (.iload_n 3, 1) := by decide +kernel
theorem dX1_up_89 : decode cX1_up 89 = .ok (.invokestatic 26, 3) := by decide +kernel
theorem dX1_up_92 : decode cX1_up 92 = .ok (.istore_n 3, 1) := by decide +kernel
theorem dX1_up_93 : decode cX1_up 93 = .ok (.iinc 5 1, 3) := by decide +kernel
theorem dX1_up_96 : decode cX1_up 96 = .ok (.goto (-54), 3) := by decide +kernel
theorem dX1_up_99 : decode cX1_up 99 = .ok (.aload 4, 2) := by decide +kernel
theorem dX1_up_101 : decode cX1_up 101 = .ok (.getfield 33, 3) := by decide +kernel
theorem dX1_up_104 : decode cX1_up 104 = .ok (.astore 4, 2) := by decide +kernel
theorem dX1_up_106 : decode cX1_up 106 = .ok (.goto (-98), 3) := by decide +kernel
theorem dX1_up_109 : decode cX1_up 109 = .ok (.iload_n 3, 1) := by decide +kernel
theorem dX1_up_110 : decode cX1_up 110 = .ok (.ireturn, 1) := by decide +kernel
abbrev cX1_event : ByteArray := prog_1_method_8_code
def yX1_event : MethodName := ⟨RX1, "event", "(C)I"⟩
theorem dX1_event_0 : decode cX1_event 0 = .ok (.iload_n 1, 1) := by decide +kernel
theorem dX1_event_1 : decode cX1_event 1 = .ok (.bipush 65, 2) := by decide +kernel
theorem dX1_event_3 : decode cX1_event 3 = .ok (.if_icmp .lt 9, 3) := by decide +kernel
theorem dX1_event_6 : decode cX1_event 6 = .ok (.iload_n 1, 1) := by decide +kernel
theorem dX1_event_7 : decode cX1_event 7 = .ok (.bipush 72, 2) := by decide +kernel
theorem dX1_event_9 : decode cX1_event 9 = .ok (.if_icmp .le 11, 3) := by decide +kernel
theorem dX1_event_12 : decode cX1_event 12 = .ok (.new 77, 3) := by decide +kernel
theorem dX1_event_15 : decode cX1_event 15 = .ok (.dup, 1) := by decide +kernel
theorem dX1_event_16 : decode cX1_event 16 = .ok (.invokespecial 82, 3) := by decide +kernel
theorem dX1_event_19 : decode cX1_event 19 = .ok (.athrow, 1) := by decide +kernel
theorem dX1_event_20 : decode cX1_event 20 = .ok (.aload_n 0, 1) := by decide +kernel
theorem dX1_event_21 : decode cX1_event 21 = .ok (.getfield 53, 3) := by decide +kernel
theorem dX1_event_24 : decode cX1_event 24 = .ok (.getfield 105, 3) := by decide +kernel
theorem dX1_event_27 : decode cX1_event 27 = .ok (.ifCond .ne 11, 3) := by decide +kernel
theorem dX1_event_30 : decode cX1_event 30 = .ok (.new 96, 3) := by decide +kernel
