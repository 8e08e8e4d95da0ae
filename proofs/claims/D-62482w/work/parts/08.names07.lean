set_option maxRecDepth 100000
theorem dX8_init_14 : decode cX8_init 14 = .ok (.aload_n 0, 1) := by decide +kernel
theorem dX8_init_15 : decode cX8_init 15 = .ok (.aload_n 3, 1) := by decide +kernel
theorem dX8_init_16 : decode cX8_init 16 = .ok (.putfield 19, 3) := by decide +kernel
theorem dX8_init_19 : decode cX8_init 19 = .ok (.return_, 1) := by decide +kernel
abbrev cX8_act : ByteArray := prog_3_method_2_code
def yX8_act : MethodName := ⟨RX8, "act", "(LNestChart$Machine;)V"⟩
theorem dX8_act_0 : decode cX8_act 0 = .ok (.aload_n 1, 1) := by decide +kernel
theorem dX8_act_1 : decode cX8_act 1 = .ok (.aload_n 0, 1) := by decide +kernel
theorem dX8_act_2 : decode cX8_act 2 = .ok (.getfield 9, 3) := by decide +kernel
theorem dX8_act_5 : decode cX8_act 5 = .ok (.invokeinterface 23 2, 5) := by decide +kernel
theorem dX8_act_10 : decode cX8_act 10 = .ok (.dstore_n 2, 1) := by decide +kernel
theorem dX8_act_11 : decode cX8_act 11 = .ok (.aload_n 0, 1) := by decide +kernel
theorem dX8_act_12 : decode cX8_act 12 = .ok (.getfield 19, 3) := by decide +kernel
theorem dX8_act_15 : decode cX8_act 15 = .ok (.aload_n 1, 1) := by decide +kernel
theorem dX8_act_16 : decode cX8_act 16 = .ok (.invokevirtual 29, 3) := by decide +kernel
theorem dX8_act_19 : decode cX8_act 19 = .ok (.dstore 4, 2) := by decide +kernel
theorem dX8_act_21 : decode cX8_act 21 = .ok (.aload_n 0, 1) := by decide +kernel
theorem dX8_act_22 : decode cX8_act 22 = .ok (.dload_n 2, 1) := by decide +kernel
theorem dX8_act_23 : decode cX8_act 23 = .ok (.dload 4, 2) := by decide +kernel
theorem dX8_act_25 : decode cX8_act 25 = .ok (.invokevirtual 35, 3) := by decide +kernel
theorem dX8_act_28 : decode cX8_act 28 = .ok (.dstore 6, 2) := by decide +kernel
theorem dX8_act_30 : decode cX8_act 30 = .ok (.aload_n 1, 1) := by decide +kernel
theorem dX8_act_31 : decode cX8_act 31 = .ok (.aload_n 0, 1) := by decide +kernel
theorem dX8_act_32 : decode cX8_act 32 = .ok (.getfield 9, 3) := by decide +kernel
theorem dX8_act_35 : decode cX8_act 35 = .ok (.dload 6, 2) := by decide +kernel
theorem dX8_act_37 : decode cX8_act 37 = .ok (.ldc2_w 39, 3) := by decide +kernel
theorem dX8_act_40 : decode cX8_act 40 = .ok (.dcmp .l, 1) := by decide +kernel
theorem dX8_act_41 : decode cX8_act 41 = .ok (.ifCond .le 9, 3) := by decide +kernel
theorem dX8_act_44 : decode cX8_act 44 = .ok (.ldc2_w 39, 3) := by decide +kernel
theorem dX8_act_47 : decode cX8_act 47 = .ok (.goto 20, 3) := by decide +kernel
theorem dX8_act_50 : decode cX8_act 50 = .ok (.dload 6, 2) := by decide +kernel
theorem dX8_act_52 : decode cX8_act 52 = .ok (.ldc2_w 41, 3) := by decide +kernel
theorem dX8_act_55 : decode cX8_act 55 = .ok (.dcmp .g, 1) := by decide +kernel
theorem dX8_act_56 : decode cX8_act 56 = .ok (.ifCond .ge 9, 3) := by decide +kernel
theorem dX8_act_59 : decode cX8_act 59 = .ok (.ldc2_w 41, 3) := by decide +kernel
theorem dX8_act_62 : decode cX8_act 62 = .ok (.goto 5, 3) := by decide +kernel
theorem dX8_act_65 : decode cX8_act 65 = .ok (.dload 6, 2) := by decide +kernel
theorem dX8_act_67 : decode cX8_act 67 = .ok (.invokeinterface 43 4, 5) := by decide +kernel
theorem dX8_act_72 : decode cX8_act 72 = .ok (.return_, 1) := by decide +kernel
abbrev cX8_made : ByteArray := prog_3_method_3_code
def yX8_made : MethodName := ⟨RX8, "made", "(DD)D"⟩
theorem dX8_made_0 : decode cX8_made 0 = .ok (.aload_n 0, 1) := by decide +kernel
theorem dX8_made_1 : decode cX8_made 1 = .ok (.getfield 15, 3) := by decide +kernel
theorem dX8_made_4 : decode cX8_made 4 = .ok (.tableswitch 44 42 45 #[40, 32, 44, 36], 32) := by decide +kernel
theorem dX8_made_36 : decode cX8_made 36 = .ok (.dload_n 1, 1) := by decide +kernel
theorem dX8_made_37 : decode cX8_made 37 = .ok (.dload_n 3, 1) := by decide +kernel
theorem dX8_made_38 : decode cX8_made 38 = .ok (.dadd, 1) := by decide +kernel
theorem dX8_made_39 : decode cX8_made 39 = .ok (.dreturn, 1) := by decide +kernel
theorem dX8_made_40 : decode cX8_made 40 = .ok (.dload_n 1, 1) := by decide +kernel
theorem dX8_made_41 : decode cX8_made 41 = .ok (.dload_n 3, 1) := by decide +kernel
theorem dX8_made_42 : decode cX8_made 42 = .ok (.dsub, 1) := by decide +kernel
theorem dX8_made_43 : decode cX8_made 43 = .ok (.dreturn, 1) := by decide +kernel
theorem dX8_made_44 : decode cX8_made 44 = .ok (.dload_n 1, 1) := by decide +kernel
theorem dX8_made_45 : decode cX8_made 45 = .ok (.dload_n 3, 1) := by decide +kernel
theorem dX8_made_46 : decode cX8_made 46 = .ok (.dmul, 1) := by decide +kernel
theorem dX8_made_47 : decode cX8_made 47 = .ok (.dreturn, 1) := by decide +kernel
theorem dX8_made_48 : decode cX8_made 48 = .ok (.dload_n 3, 1) := by decide +kernel
theorem dX8_made_49 : decode cX8_made 49 = .ok (.dreturn, 1) := by decide +kernel
theorem q92 : (Jvm.Cond.initialized "NestChart$Assign") ∈ lw_all := lw_g (lw_at lw_m1 21 rfl) rfl
theorem q496 : (Jvm.Cond.selects "NestChart$Assign" ({ cls := "java/lang/Object", name := "getClass", desc := "()Ljava/lang/Class;" } : Jvm.MethodName) ({ cls := "java/lang/Object", name := "getClass", desc := "()Ljava/lang/Class;" } : Jvm.MethodName)) ∈ lw_all := lw_g (lw_at lw_m2 185 rfl) rfl
theorem q577 : (Jvm.Cond.instantiable "NestChart$Assign" (3 : Nat)) ∈ lw_all := lw_g (lw_at lw_m3 26 rfl) rfl
theorem q597 : (Jvm.Cond.instanceMethod ({ cls := "NestChart$Assign", name := "<init>", desc := "(ICLNestChart$Operand;)V" } : Jvm.MethodName)) ∈ lw_all := lw_g (lw_at lw_m3 46 rfl) rfl
theorem q598 : (Jvm.Cond.code ({ cls := "NestChart$Assign", name := "<init>", desc := "(ICLNestChart$Operand;)V" } : Jvm.MethodName) prog_3_method_1_code (4 : Nat) (Option.none : Option Jvm.ClassFile.FieldType)) ∈ lw_all := lw_g (lw_at lw_m3 47 rfl) rfl
theorem q599 : (Jvm.Cond.methodLinkNest "NestChart$Assign" (3 : Nat) ({ cls := "NestChart$Action", name := "<init>", desc := "()V" } : Jvm.MethodName) "NestChart") ∈ lw_tbl := lw_at lw_m3 48 rfl
theorem q600 : (Jvm.Cond.fieldLink "NestChart$Assign" (9 : Nat) "NestChart$Assign" "variable" "I") ∈ lw_all := lw_g (lw_at lw_m3 49 rfl) rfl
theorem q601 : (Jvm.Cond.fieldLink "NestChart$Assign" (15 : Nat) "NestChart$Assign" "sign" "C") ∈ lw_all := lw_g (lw_at lw_m3 50 rfl) rfl
theorem q602 : (Jvm.Cond.fieldLink "NestChart$Assign" (19 : Nat) "NestChart$Assign" "operand" "LNestChart$Operand;") ∈ lw_all := lw_g (lw_at lw_m3 51 rfl) rfl
theorem q603 : (Jvm.Cond.laysFinal "NestChart$Assign" "NestChart$Assign" "variable" "I") ∈ lw_all := lw_g (lw_at lw_m3 52 rfl) rfl
theorem q604 : (Jvm.Cond.soleField "NestChart$Assign" "variable") ∈ lw_all := lw_g (lw_at lw_m3 53 rfl) rfl
theorem q605 : (Jvm.Cond.laysFinal "NestChart$Assign" "NestChart$Assign" "sign" "C") ∈ lw_all := lw_g (lw_at lw_m3 54 rfl) rfl
theorem q606 : (Jvm.Cond.soleField "NestChart$Assign" "sign") ∈ lw_all := lw_g (lw_at lw_m3 55 rfl) rfl
theorem q607 : (Jvm.Cond.laysFinal "NestChart$Assign" "NestChart$Assign" "operand" "LNestChart$Operand;") ∈ lw_all := lw_g (lw_at lw_m3 56 rfl) rfl
theorem q608 : (Jvm.Cond.soleField "NestChart$Assign" "operand") ∈ lw_all := lw_g (lw_at lw_m3 57 rfl) rfl
theorem q609 : (Jvm.Cond.superclass "NestChart$Assign" "NestChart$Action") ∈ lw_all := lw_g (lw_at lw_m3 58 rfl) rfl
theorem q788 : (Jvm.Cond.selects "NestChart$Assign" ({ cls := "NestChart$Action", name := "act", desc := "(LNestChart$Machine;)V" } : Jvm.MethodName) ({ cls := "NestChart$Assign", name := "act", desc := "(LNestChart$Machine;)V" } : Jvm.MethodName)) ∈ lw_all := lw_g (lw_at lw_m3 237 rfl) rfl
theorem q789 : (Jvm.Cond.instanceMethod ({ cls := "NestChart$Assign", name := "act", desc := "(LNestChart$Machine;)V" } : Jvm.MethodName)) ∈ lw_all := lw_g (lw_at lw_m3 238 rfl) rfl
theorem q790 : (Jvm.Cond.code ({ cls := "NestChart$Assign", name := "act", desc := "(LNestChart$Machine;)V" } : Jvm.MethodName) prog_3_method_2_code (8 : Nat) (Option.none : Option Jvm.ClassFile.FieldType)) ∈ lw_all := lw_g (lw_at lw_m3 239 rfl) rfl
theorem q791 : (Jvm.Cond.interfaceEntry "NestChart$Assign" (23 : Nat)) ∈ lw_tbl := lw_at lw_m4 0 rfl
theorem q792 : (Jvm.Cond.methodLink "NestChart$Assign" (23 : Nat) ({ cls := "NestChart$Machine", name := "get", desc := "(I)D" } : Jvm.MethodName)) ∈ lw_all := lw_g (lw_at lw_m4 1 rfl) rfl
theorem q801 : (Jvm.Cond.methodLink "NestChart$Assign" (29 : Nat) ({ cls := "NestChart$Operand", name := "of", desc := "(LNestChart$Machine;)D" } : Jvm.MethodName)) ∈ lw_all := lw_g (lw_at lw_m4 10 rfl) rfl
theorem q807 : (Jvm.Cond.methodLink "NestChart$Assign" (35 : Nat) ({ cls := "NestChart$Assign", name := "made", desc := "(DD)D" } : Jvm.MethodName)) ∈ lw_all := lw_g (lw_at lw_m4 16 rfl) rfl
theorem q808 : (Jvm.Cond.privateMethod ({ cls := "NestChart$Assign", name := "made", desc := "(DD)D" } : Jvm.MethodName)) ∈ lw_tbl := lw_at lw_m4 17 rfl
theorem q809 : (Jvm.Cond.instanceMethod ({ cls := "NestChart$Assign", name := "made", desc := "(DD)D" } : Jvm.MethodName)) ∈ lw_all := lw_g (lw_at lw_m4 18 rfl) rfl
theorem q810 : (Jvm.Cond.code ({ cls := "NestChart$Assign", name := "made", desc := "(DD)D" } : Jvm.MethodName) prog_3_method_3_code (5 : Nat) (Option.some Jvm.ClassFile.FieldType.double)) ∈ lw_all := lw_g (lw_at lw_m4 19 rfl) rfl
theorem q811 : (Jvm.Cond.constantDouble "NestChart$Assign" (39 : Nat) (4741671816366391296 : UInt64)) ∈ lw_all := lw_g (lw_at lw_m4 20 rfl) rfl
theorem q812 : (Jvm.Cond.constantDouble "NestChart$Assign" (41 : Nat) (13965043853221167104 : UInt64)) ∈ lw_all := lw_g (lw_at lw_m4 21 rfl) rfl
theorem q813 : (Jvm.Cond.interfaceEntry "NestChart$Assign" (43 : Nat)) ∈ lw_tbl := lw_at lw_m4 22 rfl
theorem q814 : (Jvm.Cond.methodLink "NestChart$Assign" (43 : Nat) ({ cls := "NestChart$Machine", name := "set", desc := "(ID)V" } : Jvm.MethodName)) ∈ lw_all := lw_g (lw_at lw_m4 23 rfl) rfl
theorem q1409 : (Jvm.Cond.castable "NestChart$Assign" "NestChart$Action") ∈ lw_tbl := lw_at lw_m6 138 rfl
theorem q1424 : (Jvm.Cond.castable "NestChart$Assign" "java/lang/Object") ∈ lw_tbl := lw_at lw_m6 153 rfl
theorem in_X8 : ∀ w ∈ wsX80, w ∈ lw_all := lw_in wsX80 [603, 605, 607] (by decide +kernel) (by decide +kernel)

/-! NestChart$Operand -/
def RX9 : String := "NestChart$Operand"
def TX9 : u_T := fun k => match k with
  | 0 => ("NestChart$Operand", "variable", "I", true)
  | _ => ("NestChart$Operand", "number", "D", true)
def tyX9 : Nat → FieldType := fun k => match k with
  | 0 => .int
  | _ => .double
abbrev wsX90 : List Cond := u_ws RX9 TX9 2
theorem nmX9 : ∀ a, a < 2 → ∀ b, b < 2 → a ≠ b → (TX9 a).2.1 ≠ (TX9 b).2.1 := by decide +kernel
theorem tyX9_ok : ∀ k, k < 2 → parseFieldDescriptor (TX9 k).2.2.1 = some (tyX9 k) := by decide +kernel
abbrev cX9_init : ByteArray := prog_7_method_1_code
def yX9_init : MethodName := ⟨RX9, "<init>", "(ID)V"⟩
theorem dX9_init_0 : decode cX9_init 0 = .ok (.aload_n 0, 1) := by decide +kernel
theorem dX9_init_1 : decode cX9_init 1 = .ok (.invokespecial 1, 3) := by decide +kernel
theorem dX9_init_4 : decode cX9_init 4 = .ok (.aload_n 0, 1) := by decide +kernel
theorem dX9_init_5 : decode cX9_init 5 = .ok (.iload_n 1, 1) := by decide +kernel
theorem dX9_init_6 : decode cX9_init 6 = .ok (.putfield 7, 3) := by decide +kernel
theorem dX9_init_9 : decode cX9_init 9 = .ok (.aload_n 0, 1) := by decide +kernel
theorem dX9_init_10 : decode cX9_init 10 = .ok (.dload_n 2, 1) := by decide +kernel
theorem dX9_init_11 : decode cX9_init 11 = .ok (.putfield 13, 3) := by decide +kernel
theorem dX9_init_14 : decode cX9_init 14 = .ok (.return_, 1) := by decide +kernel
abbrev cX9_of : ByteArray := prog_7_method_2_code
def yX9_of : MethodName := ⟨RX9, "of", "(LNestChart$Machine;)D"⟩
theorem dX9_of_0 : decode cX9_of 0 = .ok (.aload_n 0, 1) := by decide +kernel
theorem dX9_of_1 : decode cX9_of 1 = .ok (.getfield 7, 3) := by decide +kernel
theorem dX9_of_4 : decode cX9_of 4 = .ok (.ifCond .lt 16, 3) := by decide +kernel
theorem dX9_of_7 : decode cX9_of 7 = .ok (.aload_n 1, 1) := by decide +kernel
theorem dX9_of_8 : decode cX9_of 8 = .ok (.aload_n 0, 1) := by decide +kernel
theorem dX9_of_9 : decode cX9_of 9 = .ok (.getfield 7, 3) := by decide +kernel
theorem dX9_of_12 : decode cX9_of 12 = .ok (.invokeinterface 17 2, 5) := by decide +kernel
theorem dX9_of_17 : decode cX9_of 17 = .ok (.goto 7, 3) := by decide +kernel
theorem dX9_of_20 : decode cX9_of 20 = .ok (.aload_n 0, 1) := by decide +kernel
theorem dX9_of_21 : decode cX9_of 21 = .ok (.getfield 13, 3) := by decide +kernel
theorem dX9_of_24 : decode cX9_of 24 = .ok (.dreturn, 1) := by decide +kernel
theorem q93 : (Jvm.Cond.initialized "NestChart$Operand") ∈ lw_all := lw_g (lw_at lw_m1 22 rfl) rfl
theorem q499 : (Jvm.Cond.selects "NestChart$Operand" ({ cls := "java/lang/Object", name := "getClass", desc := "()Ljava/lang/Class;" } : Jvm.MethodName) ({ cls := "java/lang/Object", name := "getClass", desc := "()Ljava/lang/Class;" } : Jvm.MethodName)) ∈ lw_all := lw_g (lw_at lw_m2 188 rfl) rfl
theorem q583 : (Jvm.Cond.instantiable "NestChart$Operand" (2 : Nat)) ∈ lw_all := lw_g (lw_at lw_m3 32 rfl) rfl
theorem q585 : (Jvm.Cond.instanceMethod ({ cls := "NestChart$Operand", name := "<init>", desc := "(ID)V" } : Jvm.MethodName)) ∈ lw_all := lw_g (lw_at lw_m3 34 rfl) rfl
theorem q586 : (Jvm.Cond.code ({ cls := "NestChart$Operand", name := "<init>", desc := "(ID)V" } : Jvm.MethodName) prog_7_method_1_code (4 : Nat) (Option.none : Option Jvm.ClassFile.FieldType)) ∈ lw_all := lw_g (lw_at lw_m3 35 rfl) rfl
theorem q587 : (Jvm.Cond.methodLink "NestChart$Operand" (1 : Nat) ({ cls := "java/lang/Object", name := "<init>", desc := "()V" } : Jvm.MethodName)) ∈ lw_all := lw_g (lw_at lw_m3 36 rfl) rfl
theorem q588 : (Jvm.Cond.fieldLink "NestChart$Operand" (7 : Nat) "NestChart$Operand" "variable" "I") ∈ lw_all := lw_g (lw_at lw_m3 37 rfl) rfl
theorem q589 : (Jvm.Cond.fieldLink "NestChart$Operand" (13 : Nat) "NestChart$Operand" "number" "D") ∈ lw_all := lw_g (lw_at lw_m3 38 rfl) rfl
theorem q590 : (Jvm.Cond.laysFinal "NestChart$Operand" "NestChart$Operand" "variable" "I") ∈ lw_all := lw_g (lw_at lw_m3 39 rfl) rfl
theorem q591 : (Jvm.Cond.soleField "NestChart$Operand" "variable") ∈ lw_all := lw_g (lw_at lw_m3 40 rfl) rfl
theorem q592 : (Jvm.Cond.laysFinal "NestChart$Operand" "NestChart$Operand" "number" "D") ∈ lw_all := lw_g (lw_at lw_m3 41 rfl) rfl
theorem q593 : (Jvm.Cond.soleField "NestChart$Operand" "number") ∈ lw_all := lw_g (lw_at lw_m3 42 rfl) rfl
theorem q594 : (Jvm.Cond.superclass "NestChart$Operand" "java/lang/Object") ∈ lw_all := lw_g (lw_at lw_m3 43 rfl) rfl
theorem q802 : (Jvm.Cond.instanceMethod ({ cls := "NestChart$Operand", name := "of", desc := "(LNestChart$Machine;)D" } : Jvm.MethodName)) ∈ lw_all := lw_g (lw_at lw_m4 11 rfl) rfl
theorem q803 : (Jvm.Cond.selects "NestChart$Operand" ({ cls := "NestChart$Operand", name := "of", desc := "(LNestChart$Machine;)D" } : Jvm.MethodName) ({ cls := "NestChart$Operand", name := "of", desc := "(LNestChart$Machine;)D" } : Jvm.MethodName)) ∈ lw_all := lw_g (lw_at lw_m4 12 rfl) rfl
theorem q804 : (Jvm.Cond.code ({ cls := "NestChart$Operand", name := "of", desc := "(LNestChart$Machine;)D" } : Jvm.MethodName) prog_7_method_2_code (2 : Nat) (Option.some Jvm.ClassFile.FieldType.double)) ∈ lw_all := lw_g (lw_at lw_m4 13 rfl) rfl
theorem q805 : (Jvm.Cond.interfaceEntry "NestChart$Operand" (17 : Nat)) ∈ lw_tbl := lw_at lw_m4 14 rfl
theorem q806 : (Jvm.Cond.methodLink "NestChart$Operand" (17 : Nat) ({ cls := "NestChart$Machine", name := "get", desc := "(I)D" } : Jvm.MethodName)) ∈ lw_all := lw_g (lw_at lw_m4 15 rfl) rfl
theorem q1425 : (Jvm.Cond.castable "NestChart$Operand" "java/lang/Object") ∈ lw_tbl := lw_at lw_m6 154 rfl
theorem in_X9 : ∀ w ∈ wsX90, w ∈ lw_all := lw_in wsX90 [590, 592] (by decide +kernel) (by decide +kernel)

/-! NestChart$Transition -/
def RX10 : String := "NestChart$Transition"
def TX10 : u_T := fun k => match k with
  | 0 => ("NestChart$Transition", "from", "LNestChart$State;", true)
  | 1 => ("NestChart$Transition", "event", "C", true)
  | 2 => ("NestChart$Transition", "tests", "Ljava/util/ArrayList;", true)
  | 3 => ("NestChart$Transition", "actions", "Ljava/util/ArrayList;", true)
  | 4 => ("NestChart$Transition", "target", "LNestChart$Name;", false)
  | 5 => ("NestChart$Transition", "goals", "I", false)
  | 6 => ("NestChart$Transition", "domain", "I", false)
  | _ => ("NestChart$Transition", "exits", "I", false)
def tyX10 : Nat → FieldType := fun k => match k with
  | 0 => .object "NestChart$State"
  | 1 => .char
  | 2 => .object "java/util/ArrayList"
  | 3 => .object "java/util/ArrayList"
  | 4 => .object "NestChart$Name"
  | 5 => .int
  | 6 => .int
  | _ => .int
abbrev wsX100 : List Cond := u_ws RX10 TX10 8
theorem nmX10 : ∀ a, a < 8 → ∀ b, b < 8 → a ≠ b → (TX10 a).2.1 ≠ (TX10 b).2.1 := by decide +kernel
theorem tyX10_ok : ∀ k, k < 8 → parseFieldDescriptor (TX10 k).2.2.1 = some (tyX10 k) := by decide +kernel
abbrev cX10_init : ByteArray := prog_14_method_1_code
def yX10_init : MethodName := ⟨RX10, "<init>", "(LNestChart$State;C)V"⟩
theorem dX10_init_0 : decode cX10_init 0 = .ok (.aload_n 0, 1) := by decide +kernel
theorem dX10_init_1 : decode cX10_init 1 = .ok (.invokespecial 1, 3) := by decide +kernel
theorem dX10_init_4 : decode cX10_init 4 = .ok (.aload_n 0, 1) := by decide +kernel
theorem dX10_init_5 : decode cX10_init 5 = .ok (.new 7, 3) := by decide +kernel
theorem dX10_init_8 : decode cX10_init 8 = .ok (.dup, 1) := by decide +kernel
theorem dX10_init_9 : decode cX10_init 9 = .ok (.invokespecial 9, 3) := by decide +kernel
theorem dX10_init_12 : decode cX10_init 12 = .ok (.putfield 10, 3) := by decide +kernel
theorem dX10_init_15 : decode cX10_init 15 = .ok (.aload_n 0, 1) := by decide +kernel
theorem dX10_init_16 : decode cX10_init 16 = .ok (.new 7, 3) := by decide +kernel
theorem dX10_init_19 : decode cX10_init 19 = .ok (.dup, 1) := by decide +kernel
theorem dX10_init_20 : decode cX10_init 20 = .ok (.invokespecial 9, 3) := by decide +kernel
theorem dX10_init_23 : decode cX10_init 23 = .ok (.putfield 16, 3) := by decide +kernel
theorem dX10_init_26 : decode cX10_init 26 = .ok (.aload_n 0, 1) := by decide +kernel
theorem dX10_init_27 : decode cX10_init 27 = .ok (.aload_n 1, 1) := by decide +kernel
theorem dX10_init_28 : decode cX10_init 28 = .ok (.putfield 19, 3) := by decide +kernel
theorem dX10_init_31 : decode cX10_init 31 = .ok (.aload_n 0, 1) := by decide +kernel
theorem dX10_init_32 : decode cX10_init 32 = .ok (.iload_n 2, 1) := by decide +kernel
theorem dX10_init_33 : decode cX10_init 33 = .ok (.putfield 23, 3) := by decide +kernel
theorem dX10_init_36 : decode cX10_init 36 = .ok (.return_, 1) := by decide +kernel
abbrev cX10_isEnabled : ByteArray := prog_14_method_2_code
def yX10_isEnabled : MethodName := ⟨RX10, "isEnabled", "(LNestChart$Machine;C)Z"⟩
theorem dX10_isEnabled_0 : decode cX10_isEnabled 0 = .ok (.aload_n 0, 1) := by decide +kernel
theorem dX10_isEnabled_1 : decode cX10_isEnabled 1 = .ok (.getfield 23, 3) := by decide +kernel
theorem dX10_isEnabled_4 : decode cX10_isEnabled 4 = .ok (.iload_n 2, 1) := by decide +kernel
theorem dX10_isEnabled_5 : decode cX10_isEnabled 5 = .ok (.if_icmp .eq 5, 3) := by decide +kernel
theorem dX10_isEnabled_8 : decode cX10_isEnabled 8 = .ok (.iconst 0, 1) := by decide +kernel
theorem dX10_isEnabled_9 : decode cX10_isEnabled 9 = .ok (.ireturn, 1) := by decide +kernel
theorem dX10_isEnabled_10 : decode cX10_isEnabled 10 = .ok (.iconst 0, 1) := by decide +kernel
theorem dX10_isEnabled_11 : decode cX10_isEnabled 11 = .ok (.istore_n 3, 1) := by decide +kernel
theorem dX10_isEnabled_12 : decode cX10_isEnabled 12 = .ok (.iload_n 3, 1) := by decide +kernel
theorem dX10_isEnabled_13 : decode cX10_isEnabled 13 = .ok (.aload_n 0, 1) := by decide +kernel
theorem dX10_isEnabled_14 : decode cX10_isEnabled 14 = .ok (.getfield 10, 3) := by decide +kernel
theorem dX10_isEnabled_17 : decode cX10_isEnabled 17 = .ok (.invokevirtual 27, 3) := by decide +kernel
theorem dX10_isEnabled_20 : decode cX10_isEnabled 20 = .ok (.if_icmp .ge 29, 3) := by decide +kernel
theorem dX10_isEnabled_23 : decode cX10_isEnabled 23 = .ok (.aload_n 0, 1) := by decide +kernel
theorem dX10_isEnabled_24 : decode cX10_isEnabled 24 = .ok (.getfield 10, 3) := by decide +kernel
theorem dX10_isEnabled_27 : decode cX10_isEnabled 27 = .ok (.iload_n 3, 1) := by decide +kernel
theorem dX10_isEnabled_28 : decode cX10_isEnabled 28 = .ok (.invokevirtual 31, 3) := by decide +kernel
theorem dX10_isEnabled_31 : decode cX10_isEnabled 31 = .ok (.checkcast 35, 3) := by decide +kernel
theorem dX10_isEnabled_34 : decode cX10_isEnabled 34 = .ok (.aload_n 1, 1) := by decide +kernel
theorem dX10_isEnabled_35 : decode cX10_isEnabled 35 = .ok (.invokevirtual 37, 3) := by decide +kernel
theorem dX10_isEnabled_38 : decode cX10_isEnabled 38 = .ok (.ifCond .ne 5, 3) := by decide +kernel
theorem dX10_isEnabled_41 : decode cX10_isEnabled 41 = .ok (.iconst 0, 1) := by decide +kernel
theorem dX10_isEnabled_42 : decode cX10_isEnabled 42 = .ok (.ireturn, 1) := by decide +kernel
theorem dX10_isEnabled_43 : decode cX10_isEnabled 43 = .ok (.iinc 3 1, 3) := by decide +kernel
theorem dX10_isEnabled_46 : decode cX10_isEnabled 46 = .ok (.goto (-34), 3) := by decide +kernel
theorem dX10_isEnabled_49 : decode cX10_isEnabled 49 = .ok (.iconst 1, 1) := by decide +kernel
theorem dX10_isEnabled_50 : decode cX10_isEnabled 50 = .ok (.ireturn, 1) := by decide +kernel
theorem q94 : (Jvm.Cond.initialized "NestChart$Transition") ∈ lw_all := lw_g (lw_at lw_m1 23 rfl) rfl
theorem q505 : (Jvm.Cond.selects "NestChart$Transition" ({ cls := "java/lang/Object", name := "getClass", desc := "()Ljava/lang/Class;" } : Jvm.MethodName) ({ cls := "java/lang/Object", name := "getClass", desc := "()Ljava/lang/Class;" } : Jvm.MethodName)) ∈ lw_all := lw_g (lw_at lw_m2 194 rfl) rfl
theorem q615 : (Jvm.Cond.instantiable "NestChart$Transition" (8 : Nat)) ∈ lw_all := lw_g (lw_at lw_m3 64 rfl) rfl
theorem q617 : (Jvm.Cond.instanceMethod ({ cls := "NestChart$Transition", name := "<init>", desc := "(LNestChart$State;C)V" } : Jvm.MethodName)) ∈ lw_all := lw_g (lw_at lw_m3 66 rfl) rfl
theorem q618 : (Jvm.Cond.code ({ cls := "NestChart$Transition", name := "<init>", desc := "(LNestChart$State;C)V" } : Jvm.MethodName) prog_14_method_1_code (3 : Nat) (Option.none : Option Jvm.ClassFile.FieldType)) ∈ lw_all := lw_g (lw_at lw_m3 67 rfl) rfl
theorem q619 : (Jvm.Cond.methodLink "NestChart$Transition" (1 : Nat) ({ cls := "java/lang/Object", name := "<init>", desc := "()V" } : Jvm.MethodName)) ∈ lw_all := lw_g (lw_at lw_m3 68 rfl) rfl
theorem q620 : (Jvm.Cond.classLink "NestChart$Transition" (7 : Nat) "java/util/ArrayList") ∈ lw_all := lw_g (lw_at lw_m3 69 rfl) rfl
theorem q621 : (Jvm.Cond.methodLink "NestChart$Transition" (9 : Nat) ({ cls := "java/util/ArrayList", name := "<init>", desc := "()V" } : Jvm.MethodName)) ∈ lw_all := lw_g (lw_at lw_m3 70 rfl) rfl
theorem q622 : (Jvm.Cond.fieldLink "NestChart$Transition" (19 : Nat) "NestChart$Transition" "from" "LNestChart$State;") ∈ lw_all := lw_g (lw_at lw_m3 71 rfl) rfl
theorem q624 : (Jvm.Cond.fieldLink "NestChart$Transition" (23 : Nat) "NestChart$Transition" "event" "C") ∈ lw_all := lw_g (lw_at lw_m3 73 rfl) rfl
theorem q625 : (Jvm.Cond.fieldLink "NestChart$Transition" (10 : Nat) "NestChart$Transition" "tests" "Ljava/util/ArrayList;") ∈ lw_all := lw_g (lw_at lw_m3 74 rfl) rfl
theorem q627 : (Jvm.Cond.fieldLink "NestChart$Transition" (16 : Nat) "NestChart$Transition" "actions" "Ljava/util/ArrayList;") ∈ lw_all := lw_g (lw_at lw_m3 76 rfl) rfl
theorem q635 : (Jvm.Cond.laysFinal "NestChart$Transition" "NestChart$Transition" "from" "LNestChart$State;") ∈ lw_all := lw_g (lw_at lw_m3 84 rfl) rfl
theorem q636 : (Jvm.Cond.soleField "NestChart$Transition" "from") ∈ lw_all := lw_g (lw_at lw_m3 85 rfl) rfl
theorem q637 : (Jvm.Cond.laysFinal "NestChart$Transition" "NestChart$Transition" "event" "C") ∈ lw_all := lw_g (lw_at lw_m3 86 rfl) rfl
theorem q638 : (Jvm.Cond.soleField "NestChart$Transition" "event") ∈ lw_all := lw_g (lw_at lw_m3 87 rfl) rfl
theorem q639 : (Jvm.Cond.laysFinal "NestChart$Transition" "NestChart$Transition" "tests" "Ljava/util/ArrayList;") ∈ lw_all := lw_g (lw_at lw_m3 88 rfl) rfl
theorem q640 : (Jvm.Cond.soleField "NestChart$Transition" "tests") ∈ lw_all := lw_g (lw_at lw_m3 89 rfl) rfl
theorem q641 : (Jvm.Cond.laysFinal "NestChart$Transition" "NestChart$Transition" "actions" "Ljava/util/ArrayList;") ∈ lw_all := lw_g (lw_at lw_m3 90 rfl) rfl
theorem q642 : (Jvm.Cond.soleField "NestChart$Transition" "actions") ∈ lw_all := lw_g (lw_at lw_m3 91 rfl) rfl
theorem q643 : (Jvm.Cond.lays "NestChart$Transition" "NestChart$Transition" "target" "LNestChart$Name;") ∈ lw_all := lw_g (lw_at lw_m3 92 rfl) rfl
theorem q644 : (Jvm.Cond.soleField "NestChart$Transition" "target") ∈ lw_all := lw_g (lw_at lw_m3 93 rfl) rfl
theorem q645 : (Jvm.Cond.lays "NestChart$Transition" "NestChart$Transition" "goals" "I") ∈ lw_all := lw_g (lw_at lw_m3 94 rfl) rfl
theorem q646 : (Jvm.Cond.soleField "NestChart$Transition" "goals") ∈ lw_all := lw_g (lw_at lw_m3 95 rfl) rfl
theorem q647 : (Jvm.Cond.lays "NestChart$Transition" "NestChart$Transition" "domain" "I") ∈ lw_all := lw_g (lw_at lw_m3 96 rfl) rfl
theorem q648 : (Jvm.Cond.soleField "NestChart$Transition" "domain") ∈ lw_all := lw_g (lw_at lw_m3 97 rfl) rfl
theorem q649 : (Jvm.Cond.lays "NestChart$Transition" "NestChart$Transition" "exits" "I") ∈ lw_all := lw_g (lw_at lw_m3 98 rfl) rfl
theorem q650 : (Jvm.Cond.soleField "NestChart$Transition" "exits") ∈ lw_all := lw_g (lw_at lw_m3 99 rfl) rfl
theorem q651 : (Jvm.Cond.superclass "NestChart$Transition" "java/lang/Object") ∈ lw_all := lw_g (lw_at lw_m3 100 rfl) rfl
theorem q874 : (Jvm.Cond.instanceMethod ({ cls := "NestChart$Transition", name := "isEnabled", desc := "(LNestChart$Machine;C)Z" } : Jvm.MethodName)) ∈ lw_all := lw_g (lw_at lw_m4 83 rfl) rfl
theorem q875 : (Jvm.Cond.selects "NestChart$Transition" ({ cls := "NestChart$Transition", name := "isEnabled", desc := "(LNestChart$Machine;C)Z" } : Jvm.MethodName) ({ cls := "NestChart$Transition", name := "isEnabled", desc := "(LNestChart$Machine;C)Z" } : Jvm.MethodName)) ∈ lw_all := lw_g (lw_at lw_m4 84 rfl) rfl
theorem q876 : (Jvm.Cond.code ({ cls := "NestChart$Transition", name := "isEnabled", desc := "(LNestChart$Machine;C)Z" } : Jvm.MethodName) prog_14_method_2_code (4 : Nat) (Option.some Jvm.ClassFile.FieldType.boolean)) ∈ lw_all := lw_g (lw_at lw_m4 85 rfl) rfl
theorem q877 : (Jvm.Cond.methodLink "NestChart$Transition" (27 : Nat) ({ cls := "java/util/ArrayList", name := "size", desc := "()I" } : Jvm.MethodName)) ∈ lw_all := lw_g (lw_at lw_m4 86 rfl) rfl
theorem q878 : (Jvm.Cond.methodLink "NestChart$Transition" (31 : Nat) ({ cls := "java/util/ArrayList", name := "get", desc := "(I)Ljava/lang/Object;" } : Jvm.MethodName)) ∈ lw_all := lw_g (lw_at lw_m4 87 rfl) rfl
theorem q879 : (Jvm.Cond.classLink "NestChart$Transition" (35 : Nat) "NestChart$Test") ∈ lw_all := lw_g (lw_at lw_m4 88 rfl) rfl
theorem q880 : (Jvm.Cond.methodLink "NestChart$Transition" (37 : Nat) ({ cls := "NestChart$Test", name := "holds", desc := "(LNestChart$Machine;)Z" } : Jvm.MethodName)) ∈ lw_all := lw_g (lw_at lw_m4 89 rfl) rfl
theorem q1426 : (Jvm.Cond.castable "NestChart$Transition" "java/lang/Object") ∈ lw_tbl := lw_at lw_m6 155 rfl
theorem in_X10 : ∀ w ∈ wsX100, w ∈ lw_all := lw_in wsX100 [635, 637, 639, 641, 643, 645, 647, 649] (by decide +kernel) (by decide +kernel)

/-! NestChart$Name -/
def RX11 : String := "NestChart$Name"
def TX11 : u_T := fun k => match k with
  | 0 => ("NestChart$Name", "letter", "C", true)
  | 1 => ("NestChart$Name", "place", "I", true)
  | 2 => ("NestChart$Name", "stars", "I", true)
  | _ => ("NestChart$Name", "state", "I", false)
def tyX11 : Nat → FieldType := fun k => match k with
  | 0 => .char
  | 1 => .int
  | 2 => .int
  | _ => .int
abbrev wsX110 : List Cond := u_ws RX11 TX11 4
theorem nmX11 : ∀ a, a < 4 → ∀ b, b < 4 → a ≠ b → (TX11 a).2.1 ≠ (TX11 b).2.1 := by decide +kernel
theorem tyX11_ok : ∀ k, k < 4 → parseFieldDescriptor (TX11 k).2.2.1 = some (tyX11 k) := by decide +kernel
abbrev cX11_init : ByteArray := prog_6_method_1_code
def yX11_init : MethodName := ⟨RX11, "<init>", "(CII)V"⟩
theorem dX11_init_0 : decode cX11_init 0 = .ok (.aload_n 0, 1) := by decide +kernel
theorem dX11_init_1 : decode cX11_init 1 = .ok (.invokespecial 1, 3) := by decide +kernel
theorem dX11_init_4 : decode cX11_init 4 = .ok (.aload_n 0, 1) := by decide +kernel
theorem dX11_init_5 : decode cX11_init 5 = .ok (.iload_n 1, 1) := by decide +kernel
theorem dX11_init_6 : decode cX11_init 6 = .ok (.putfield 7, 3) := by decide +kernel
theorem dX11_init_9 : decode cX11_init 9 = .ok (.aload_n 0, 1) := by decide +kernel
theorem dX11_init_10 : decode cX11_init 10 = .ok (.iload_n 2, 1) := by decide +kernel
theorem dX11_init_11 : decode cX11_init 11 = .ok (.putfield 13, 3) := by decide +kernel
theorem dX11_init_14 : decode cX11_init 14 = .ok (.aload_n 0, 1) := by decide +kernel
theorem dX11_init_15 : decode cX11_init 15 = .ok (.iload_n 3, 1) := by decide +kernel
theorem dX11_init_16 : decode cX11_init 16 = .ok (.putfield 17, 3) := by decide +kernel
theorem dX11_init_19 : decode cX11_init 19 = .ok (.return_, 1) := by decide +kernel
theorem q95 : (Jvm.Cond.initialized "NestChart$Name") ∈ lw_all := lw_g (lw_at lw_m1 24 rfl) rfl
theorem q498 : (Jvm.Cond.selects "NestChart$Name" ({ cls := "java/lang/Object", name := "getClass", desc := "()Ljava/lang/Class;" } : Jvm.MethodName) ({ cls := "java/lang/Object", name := "getClass", desc := "()Ljava/lang/Class;" } : Jvm.MethodName)) ∈ lw_all := lw_g (lw_at lw_m2 187 rfl) rfl
theorem q657 : (Jvm.Cond.instantiable "NestChart$Name" (4 : Nat)) ∈ lw_all := lw_g (lw_at lw_m3 106 rfl) rfl
theorem q659 : (Jvm.Cond.instanceMethod ({ cls := "NestChart$Name", name := "<init>", desc := "(CII)V" } : Jvm.MethodName)) ∈ lw_all := lw_g (lw_at lw_m3 108 rfl) rfl
theorem q660 : (Jvm.Cond.code ({ cls := "NestChart$Name", name := "<init>", desc := "(CII)V" } : Jvm.MethodName) prog_6_method_1_code (4 : Nat) (Option.none : Option Jvm.ClassFile.FieldType)) ∈ lw_all := lw_g (lw_at lw_m3 109 rfl) rfl
theorem q661 : (Jvm.Cond.methodLink "NestChart$Name" (1 : Nat) ({ cls := "java/lang/Object", name := "<init>", desc := "()V" } : Jvm.MethodName)) ∈ lw_all := lw_g (lw_at lw_m3 110 rfl) rfl
theorem q662 : (Jvm.Cond.fieldLink "NestChart$Name" (7 : Nat) "NestChart$Name" "letter" "C") ∈ lw_all := lw_g (lw_at lw_m3 111 rfl) rfl
theorem q664 : (Jvm.Cond.fieldLink "NestChart$Name" (13 : Nat) "NestChart$Name" "place" "I") ∈ lw_all := lw_g (lw_at lw_m3 113 rfl) rfl
theorem q666 : (Jvm.Cond.fieldLink "NestChart$Name" (17 : Nat) "NestChart$Name" "stars" "I") ∈ lw_all := lw_g (lw_at lw_m3 115 rfl) rfl
theorem q672 : (Jvm.Cond.laysFinal "NestChart$Name" "NestChart$Name" "letter" "C") ∈ lw_all := lw_g (lw_at lw_m3 121 rfl) rfl
theorem q673 : (Jvm.Cond.soleField "NestChart$Name" "letter") ∈ lw_all := lw_g (lw_at lw_m3 122 rfl) rfl
theorem q674 : (Jvm.Cond.laysFinal "NestChart$Name" "NestChart$Name" "place" "I") ∈ lw_all := lw_g (lw_at lw_m3 123 rfl) rfl
theorem q675 : (Jvm.Cond.soleField "NestChart$Name" "place") ∈ lw_all := lw_g (lw_at lw_m3 124 rfl) rfl
theorem q676 : (Jvm.Cond.laysFinal "NestChart$Name" "NestChart$Name" "stars" "I") ∈ lw_all := lw_g (lw_at lw_m3 125 rfl) rfl
theorem q677 : (Jvm.Cond.soleField "NestChart$Name" "stars") ∈ lw_all := lw_g (lw_at lw_m3 126 rfl) rfl
theorem q678 : (Jvm.Cond.lays "NestChart$Name" "NestChart$Name" "state" "I") ∈ lw_all := lw_g (lw_at lw_m3 127 rfl) rfl
theorem q679 : (Jvm.Cond.soleField "NestChart$Name" "state") ∈ lw_all := lw_g (lw_at lw_m3 128 rfl) rfl
theorem q680 : (Jvm.Cond.superclass "NestChart$Name" "java/lang/Object") ∈ lw_all := lw_g (lw_at lw_m3 129 rfl) rfl
theorem q1427 : (Jvm.Cond.castable "NestChart$Name" "java/lang/Object") ∈ lw_tbl := lw_at lw_m6 156 rfl
theorem in_X11 : ∀ w ∈ wsX110, w ∈ lw_all := lw_in wsX110 [672, 674, 676, 678] (by decide +kernel) (by decide +kernel)

/-! NestChart$Test -/
def RX12 : String := "NestChart$Test"
abbrev cX12_init : ByteArray := prog_13_method_1_code
def yX12_init : MethodName := ⟨RX12, "<init>", "(Z)V"⟩
theorem dX12_init_0 : decode cX12_init 0 = .ok (.aload_n 0, 1) := by decide +kernel
theorem dX12_init_1 : decode cX12_init 1 = .ok (.invokespecial 1, 3) := by decide +kernel
theorem dX12_init_4 : decode cX12_init 4 = .ok (.aload_n 0, 1) := by decide +kernel
theorem dX12_init_5 : decode cX12_init 5 = .ok (.iload_n 1, 1) := by decide +kernel
theorem dX12_init_6 : decode cX12_init 6 = .ok (.putfield 7, 3) := by decide +kernel
theorem dX12_init_9 : decode cX12_init 9 = .ok (.return_, 1) := by decide +kernel
abbrev cX12_holds : ByteArray := prog_13_method_3_code
def yX12_holds : MethodName := ⟨RX12, "holds", "(LNestChart$Machine;)Z"⟩
theorem dX12_holds_0 : decode cX12_holds 0 = .ok (.aload_n 0, 1) := by decide +kernel
theorem dX12_holds_1 : decode cX12_holds 1 = .ok (.aload_n 1, 1) := by decide +kernel
theorem dX12_holds_2 : decode cX12_holds 2 = .ok (.invokevirtual 13, 3) := by decide +kernel
theorem dX12_holds_5 : decode cX12_holds 5 = .ok (.aload_n 0, 1) := by decide +kernel
theorem dX12_holds_6 : decode cX12_holds 6 = .ok (.getfield 7, 3) := by decide +kernel
theorem dX12_holds_9 : decode cX12_holds 9 = .ok (.if_icmp .eq 7, 3) := by decide +kernel
theorem dX12_holds_12 : decode cX12_holds 12 = .ok (.iconst 1, 1) := by decide +kernel
theorem dX12_holds_13 : decode cX12_holds 13 = .ok (.goto 4, 3) := by decide +kernel
theorem dX12_holds_16 : decode cX12_holds 16 = .ok (.iconst 0, 1) := by decide +kernel
theorem dX12_holds_17 : decode cX12_holds 17 = .ok (.ireturn, 1) := by decide +kernel
theorem q96 : (Jvm.Cond.initialized "NestChart$Test") ∈ lw_all := lw_g (lw_at lw_m1 25 rfl) rfl
theorem q687 : (Jvm.Cond.instanceMethod ({ cls := "NestChart$Test", name := "<init>", desc := "(Z)V" } : Jvm.MethodName)) ∈ lw_all := lw_g (lw_at lw_m3 136 rfl) rfl
theorem q688 : (Jvm.Cond.code ({ cls := "NestChart$Test", name := "<init>", desc := "(Z)V" } : Jvm.MethodName) prog_13_method_1_code (2 : Nat) (Option.none : Option Jvm.ClassFile.FieldType)) ∈ lw_all := lw_g (lw_at lw_m3 137 rfl) rfl
theorem q689 : (Jvm.Cond.methodLink "NestChart$Test" (1 : Nat) ({ cls := "java/lang/Object", name := "<init>", desc := "()V" } : Jvm.MethodName)) ∈ lw_all := lw_g (lw_at lw_m3 138 rfl) rfl
theorem q691 : (Jvm.Cond.fieldLink "NestChart$Test" (7 : Nat) "NestChart$Test" "not" "Z") ∈ lw_all := lw_g (lw_at lw_m3 140 rfl) rfl
theorem q695 : (Jvm.Cond.soleField "NestChart$Test" "not") ∈ lw_all := lw_g (lw_at lw_m3 144 rfl) rfl
theorem q881 : (Jvm.Cond.instanceMethod ({ cls := "NestChart$Test", name := "holds", desc := "(LNestChart$Machine;)Z" } : Jvm.MethodName)) ∈ lw_all := lw_g (lw_at lw_m4 90 rfl) rfl
theorem q882 : (Jvm.Cond.sameMethod "NestChart$Test" "NestChart$Test" "holds" "(LNestChart$Machine;)Z") ∈ lw_all := lw_g (lw_at lw_m4 91 rfl) rfl
theorem q885 : (Jvm.Cond.code ({ cls := "NestChart$Test", name := "holds", desc := "(LNestChart$Machine;)Z" } : Jvm.MethodName) prog_13_method_3_code (2 : Nat) (Option.some Jvm.ClassFile.FieldType.boolean)) ∈ lw_all := lw_g (lw_at lw_m4 94 rfl) rfl
theorem q886 : (Jvm.Cond.methodLink "NestChart$Test" (13 : Nat) ({ cls := "NestChart$Test", name := "is", desc := "(LNestChart$Machine;)Z" } : Jvm.MethodName)) ∈ lw_all := lw_g (lw_at lw_m4 95 rfl) rfl
theorem q887 : (Jvm.Cond.declares ({ cls := "NestChart$Test", name := "is", desc := "(LNestChart$Machine;)Z" } : Jvm.MethodName)) ∈ lw_tbl := lw_at lw_m4 96 rfl
theorem q888 : (Jvm.Cond.sameMethod "NestChart$Test" "NestChart$Test" "is" "(LNestChart$Machine;)Z") ∈ lw_all := lw_g (lw_at lw_m4 97 rfl) rfl

/-! NestChart$Within -/
def RX13 : String := "NestChart$Within"
def TX13 : u_T := fun k => match k with
  | 0 => ("NestChart$Test", "not", "Z", true)
  | _ => ("NestChart$Within", "name", "LNestChart$Name;", true)
def tyX13 : Nat → FieldType := fun k => match k with
  | 0 => .boolean
  | _ => .object "NestChart$Name"
abbrev wsX130 : List Cond := u_ws RX13 TX13 2
theorem nmX13 : ∀ a, a < 2 → ∀ b, b < 2 → a ≠ b → (TX13 a).2.1 ≠ (TX13 b).2.1 := by decide +kernel
theorem tyX13_ok : ∀ k, k < 2 → parseFieldDescriptor (TX13 k).2.2.1 = some (tyX13 k) := by decide +kernel
abbrev cX13_init : ByteArray := prog_15_method_1_code
def yX13_init : MethodName := ⟨RX13, "<init>", "(ZLNestChart$Name;)V"⟩
theorem dX13_init_0 : decode cX13_init 0 = .ok (.aload_n 0, 1) := by decide +kernel
theorem dX13_init_1 : decode cX13_init 1 = .ok (.iload_n 1, 1) := by decide +kernel
theorem dX13_init_2 : decode cX13_init 2 = .ok (.invokespecial 1, 3) := by decide +kernel
theorem dX13_init_5 : decode cX13_init 5 = .ok (.aload_n 0, 1) := by decide +kernel
theorem dX13_init_6 : decode cX13_init 6 = .ok (.aload_n 2, 1) := by decide +kernel
theorem dX13_init_7 : decode cX13_init 7 = .ok (.putfield 7, 3) := by decide +kernel
theorem dX13_init_10 : decode cX13_init 10 = .ok (.return_, 1) := by decide +kernel
abbrev cX13_is : ByteArray := prog_15_method_2_code
def yX13_is : MethodName := ⟨RX13, "is", "(LNestChart$Machine;)Z"⟩
theorem dX13_is_0 : decode cX13_is 0 = .ok (.aload_n 1, 1) := by decide +kernel
theorem dX13_is_1 : decode cX13_is 1 = .ok (.aload_n 0, 1) := by decide +kernel
theorem dX13_is_2 : decode cX13_is 2 = .ok (.getfield 7, 3) := by decide +kernel
theorem dX13_is_5 : decode cX13_is 5 = .ok (.getfield 13, 3) := by decide +kernel
theorem dX13_is_8 : decode cX13_is 8 = .ok (.invokeinterface 19 2, 5) := by decide +kernel
theorem dX13_is_13 : decode cX13_is 13 = .ok (.ireturn, 1) := by decide +kernel
theorem q97 : (Jvm.Cond.initialized "NestChart$Within") ∈ lw_all := lw_g (lw_at lw_m1 26 rfl) rfl
theorem q506 : (Jvm.Cond.selects "NestChart$Within" ({ cls := "java/lang/Object", name := "getClass", desc := "()Ljava/lang/Class;" } : Jvm.MethodName) ({ cls := "java/lang/Object", name := "getClass", desc := "()Ljava/lang/Class;" } : Jvm.MethodName)) ∈ lw_all := lw_g (lw_at lw_m2 195 rfl) rfl
theorem q669 : (Jvm.Cond.fieldLinkNest "NestChart$Within" (13 : Nat) "NestChart$Name" "state" "I" "NestChart") ∈ lw_tbl := lw_at lw_m3 118 rfl
theorem q682 : (Jvm.Cond.instantiable "NestChart$Within" (2 : Nat)) ∈ lw_all := lw_g (lw_at lw_m3 131 rfl) rfl
theorem q684 : (Jvm.Cond.instanceMethod ({ cls := "NestChart$Within", name := "<init>", desc := "(ZLNestChart$Name;)V" } : Jvm.MethodName)) ∈ lw_all := lw_g (lw_at lw_m3 133 rfl) rfl
theorem q685 : (Jvm.Cond.code ({ cls := "NestChart$Within", name := "<init>", desc := "(ZLNestChart$Name;)V" } : Jvm.MethodName) prog_15_method_1_code (3 : Nat) (Option.none : Option Jvm.ClassFile.FieldType)) ∈ lw_all := lw_g (lw_at lw_m3 134 rfl) rfl
theorem q686 : (Jvm.Cond.methodLink "NestChart$Within" (1 : Nat) ({ cls := "NestChart$Test", name := "<init>", desc := "(Z)V" } : Jvm.MethodName)) ∈ lw_all := lw_g (lw_at lw_m3 135 rfl) rfl
theorem q690 : (Jvm.Cond.fieldLink "NestChart$Within" (7 : Nat) "NestChart$Within" "name" "LNestChart$Name;") ∈ lw_all := lw_g (lw_at lw_m3 139 rfl) rfl
theorem q692 : (Jvm.Cond.laysFinal "NestChart$Within" "NestChart$Within" "name" "LNestChart$Name;") ∈ lw_all := lw_g (lw_at lw_m3 141 rfl) rfl
theorem q693 : (Jvm.Cond.soleField "NestChart$Within" "name") ∈ lw_all := lw_g (lw_at lw_m3 142 rfl) rfl
theorem q694 : (Jvm.Cond.laysFinal "NestChart$Within" "NestChart$Test" "not" "Z") ∈ lw_all := lw_g (lw_at lw_m3 143 rfl) rfl
theorem q696 : (Jvm.Cond.superclass "NestChart$Within" "NestChart$Test") ∈ lw_all := lw_g (lw_at lw_m3 145 rfl) rfl
theorem q884 : (Jvm.Cond.selects "NestChart$Within" ({ cls := "NestChart$Test", name := "holds", desc := "(LNestChart$Machine;)Z" } : Jvm.MethodName) ({ cls := "NestChart$Test", name := "holds", desc := "(LNestChart$Machine;)Z" } : Jvm.MethodName)) ∈ lw_all := lw_g (lw_at lw_m4 93 rfl) rfl
theorem q893 : (Jvm.Cond.selects "NestChart$Within" ({ cls := "NestChart$Test", name := "is", desc := "(LNestChart$Machine;)Z" } : Jvm.MethodName) ({ cls := "NestChart$Within", name := "is", desc := "(LNestChart$Machine;)Z" } : Jvm.MethodName)) ∈ lw_all := lw_g (lw_at lw_m4 102 rfl) rfl
theorem q894 : (Jvm.Cond.instanceMethod ({ cls := "NestChart$Within", name := "is", desc := "(LNestChart$Machine;)Z" } : Jvm.MethodName)) ∈ lw_all := lw_g (lw_at lw_m4 103 rfl) rfl
theorem q895 : (Jvm.Cond.code ({ cls := "NestChart$Within", name := "is", desc := "(LNestChart$Machine;)Z" } : Jvm.MethodName) prog_15_method_2_code (2 : Nat) (Option.some Jvm.ClassFile.FieldType.boolean)) ∈ lw_all := lw_g (lw_at lw_m4 104 rfl) rfl
theorem q896 : (Jvm.Cond.interfaceEntry "NestChart$Within" (19 : Nat)) ∈ lw_tbl := lw_at lw_m4 105 rfl
theorem q897 : (Jvm.Cond.methodLink "NestChart$Within" (19 : Nat) ({ cls := "NestChart$Machine", name := "isActive", desc := "(I)Z" } : Jvm.MethodName)) ∈ lw_all := lw_g (lw_at lw_m4 106 rfl) rfl
theorem q1412 : (Jvm.Cond.castable "NestChart$Within" "NestChart$Test") ∈ lw_tbl := lw_at lw_m6 141 rfl
theorem q1428 : (Jvm.Cond.castable "NestChart$Within" "java/lang/Object") ∈ lw_tbl := lw_at lw_m6 157 rfl
theorem in_X13 : ∀ w ∈ wsX130, w ∈ lw_all := lw_in wsX130 [694, 692] (by decide +kernel) (by decide +kernel)

/-! NestChart$Compare -/
def RX14 : String := "NestChart$Compare"
def TX14 : u_T := fun k => match k with
  | 0 => ("NestChart$Test", "not", "Z", true)
  | 1 => ("NestChart$Compare", "a", "LNestChart$Operand;", true)
  | 2 => ("NestChart$Compare", "b", "LNestChart$Operand;", true)
  | _ => ("NestChart$Compare", "sign", "C", true)
def tyX14 : Nat → FieldType := fun k => match k with
  | 0 => .boolean
  | 1 => .object "NestChart$Operand"
  | 2 => .object "NestChart$Operand"
  | _ => .char
abbrev wsX140 : List Cond := u_ws RX14 TX14 4
theorem nmX14 : ∀ a, a < 4 → ∀ b, b < 4 → a ≠ b → (TX14 a).2.1 ≠ (TX14 b).2.1 := by decide +kernel
theorem tyX14_ok : ∀ k, k < 4 → parseFieldDescriptor (TX14 k).2.2.1 = some (tyX14 k) := by decide +kernel
abbrev cX14_init : ByteArray := prog_4_method_1_code
def yX14_init : MethodName := ⟨RX14, "<init>", "(ZLNestChart$Operand;CLNestChart$Operand;)V"⟩
theorem dX14_init_0 : decode cX14_init 0 = .ok (.aload_n 0, 1) := by decide +kernel
theorem dX14_init_1 : decode cX14_init 1 = .ok (.iload_n 1, 1) := by decide +kernel
theorem dX14_init_2 : decode cX14_init 2 = .ok (.invokespecial 1, 3) := by decide +kernel
theorem dX14_init_5 : decode cX14_init 5 = .ok (.aload_n 0, 1) := by decide +kernel
theorem dX14_init_6 : decode cX14_init 6 = .ok (.aload_n 2, 1) := by decide +kernel
theorem dX14_init_7 : decode cX14_init 7 = .ok (.putfield 7, 3) := by decide +kernel
theorem dX14_init_10 : decode cX14_init 10 = .ok (.aload_n 0, 1) := by decide +kernel
theorem dX14_init_11 : decode cX14_init 11 = .ok (.iload_n 3, 1) := by decide +kernel
theorem dX14_init_12 : decode cX14_init 12 = .ok (.putfield 13, 3) := by decide +kernel
theorem dX14_init_15 : decode cX14_init 15 = .ok (.aload_n 0, 1) := by decide +kernel
theorem dX14_init_16 : decode cX14_init 16 = .ok (.aload 4, 2) := by decide +kernel
theorem dX14_init_18 : decode cX14_init 18 = .ok (.putfield 17, 3) := by decide +kernel
theorem dX14_init_21 : decode cX14_init 21 = .ok (.return_, 1) := by decide +kernel
abbrev cX14_is : ByteArray := prog_4_method_2_code
def yX14_is : MethodName := ⟨RX14, "is", "(LNestChart$Machine;)Z"⟩
theorem dX14_is_0 : decode cX14_is 0 = .ok (.aload_n 0, 1) := by decide +kernel
theorem dX14_is_1 : decode cX14_is 1 = .ok (.getfield 7, 3) := by decide +kernel
theorem dX14_is_4 : decode cX14_is 4 = .ok (.aload_n 1, 1) := by decide +kernel
theorem dX14_is_5 : decode cX14_is 5 = .ok (.invokevirtual 20, 3) := by decide +kernel
theorem dX14_is_8 : decode cX14_is 8 = .ok (.dstore_n 2, 1) := by decide +kernel
theorem dX14_is_9 : decode cX14_is 9 = .ok (.aload_n 0, 1) := by decide +kernel
theorem dX14_is_10 : decode cX14_is 10 = .ok (.getfield 17, 3) := by decide +kernel
theorem dX14_is_13 : decode cX14_is 13 = .ok (.aload_n 1, 1) := by decide +kernel
theorem dX14_is_14 : decode cX14_is 14 = .ok (.invokevirtual 20, 3) := by decide +kernel
theorem dX14_is_17 : decode cX14_is 17 = .ok (.dstore 4, 2) := by decide +kernel
theorem dX14_is_19 : decode cX14_is 19 = .ok (.aload_n 0, 1) := by decide +kernel
theorem dX14_is_20 : decode cX14_is 20 = .ok (.getfield 13, 3) := by decide +kernel
theorem dX14_is_23 : decode cX14_is 23 = .ok (.bipush 60, 2) := by decide +kernel
theorem dX14_is_25 : decode cX14_is 25 = .ok (.if_icmp .ne 18, 3) := by decide +kernel
theorem dX14_is_28 : decode cX14_is 28 = .ok (.dload_n 2, 1) := by decide +kernel
theorem dX14_is_29 : decode cX14_is 29 = .ok (.dload 4, 2) := by decide +kernel
theorem dX14_is_31 : decode cX14_is 31 = .ok (.dcmp .g, 1) := by decide +kernel
theorem dX14_is_32 : decode cX14_is 32 = .ok (.ifCond .ge 7, 3) := by decide +kernel
theorem dX14_is_35 : decode cX14_is 35 = .ok (.iconst 1, 1) := by decide +kernel
theorem dX14_is_36 : decode cX14_is 36 = .ok (.goto 43, 3) := by decide +kernel
theorem dX14_is_39 : decode cX14_is 39 = .ok (.iconst 0, 1) := by decide +kernel
theorem dX14_is_40 : decode cX14_is 40 = .ok (.goto 39, 3) := by decide +kernel
theorem dX14_is_43 : decode cX14_is 43 = .ok (.aload_n 0, 1) := by decide +kernel
theorem dX14_is_44 : decode cX14_is 44 = .ok (.getfield 13, 3) := by decide +kernel
theorem dX14_is_47 : decode cX14_is 47 = .ok (.bipush 61, 2) := by decide +kernel
theorem dX14_is_49 : decode cX14_is 49 = .ok (.if_icmp .ne 18, 3) := by decide +kernel
theorem dX14_is_52 : decode cX14_is 52 = .ok (.dload_n 2, 1) := by decide +kernel
theorem dX14_is_53 : decode cX14_is 53 = .ok (.dload 4, 2) := by decide +kernel
theorem dX14_is_55 : decode cX14_is 55 = .ok (.dcmp .l, 1) := by decide +kernel
theorem dX14_is_56 : decode cX14_is 56 = .ok (.ifCond .ne 7, 3) := by decide +kernel
theorem dX14_is_59 : decode cX14_is 59 = .ok (.iconst 1, 1) := by decide +kernel
theorem dX14_is_60 : decode cX14_is 60 = .ok (.goto 19, 3) := by decide +kernel
theorem dX14_is_63 : decode cX14_is 63 = .ok (.iconst 0, 1) := by decide +kernel
theorem dX14_is_64 : decode cX14_is 64 = .ok (.goto 15, 3) := by decide +kernel
theorem dX14_is_67 : decode cX14_is 67 = .ok (.dload_n 2, 1) := by decide +kernel
theorem dX14_is_68 : decode cX14_is 68 = .ok (.dload 4, 2) := by decide +kernel
theorem dX14_is_70 : decode cX14_is 70 = .ok (.dcmp .l, 1) := by decide +kernel
theorem dX14_is_71 : decode cX14_is 71 = .ok (.ifCond .le 7, 3) := by decide +kernel
theorem dX14_is_74 : decode cX14_is 74 = .ok (.iconst 1, 1) := by decide +kernel
theorem dX14_is_75 : decode cX14_is 75 = .ok (.goto 4, 3) := by decide +kernel
theorem dX14_is_78 : decode cX14_is 78 = .ok (.iconst 0, 1) := by decide +kernel
theorem dX14_is_79 : decode cX14_is 79 = .ok (.ireturn, 1) := by decide +kernel
theorem q98 : (Jvm.Cond.initialized "NestChart$Compare") ∈ lw_all := lw_g (lw_at lw_m1 27 rfl) rfl
theorem q497 : (Jvm.Cond.selects "NestChart$Compare" ({ cls := "java/lang/Object", name := "getClass", desc := "()Ljava/lang/Class;" } : Jvm.MethodName) ({ cls := "java/lang/Object", name := "getClass", desc := "()Ljava/lang/Class;" } : Jvm.MethodName)) ∈ lw_all := lw_g (lw_at lw_m2 186 rfl) rfl
theorem q698 : (Jvm.Cond.instantiable "NestChart$Compare" (4 : Nat)) ∈ lw_all := lw_g (lw_at lw_m3 147 rfl) rfl
theorem q700 : (Jvm.Cond.instanceMethod ({ cls := "NestChart$Compare", name := "<init>", desc := "(ZLNestChart$Operand;CLNestChart$Operand;)V" } : Jvm.MethodName)) ∈ lw_all := lw_g (lw_at lw_m3 149 rfl) rfl
theorem q701 : (Jvm.Cond.code ({ cls := "NestChart$Compare", name := "<init>", desc := "(ZLNestChart$Operand;CLNestChart$Operand;)V" } : Jvm.MethodName) prog_4_method_1_code (5 : Nat) (Option.none : Option Jvm.ClassFile.FieldType)) ∈ lw_all := lw_g (lw_at lw_m3 150 rfl) rfl
theorem q702 : (Jvm.Cond.methodLink "NestChart$Compare" (1 : Nat) ({ cls := "NestChart$Test", name := "<init>", desc := "(Z)V" } : Jvm.MethodName)) ∈ lw_all := lw_g (lw_at lw_m3 151 rfl) rfl
theorem q703 : (Jvm.Cond.fieldLink "NestChart$Compare" (7 : Nat) "NestChart$Compare" "a" "LNestChart$Operand;") ∈ lw_all := lw_g (lw_at lw_m3 152 rfl) rfl
theorem q704 : (Jvm.Cond.fieldLink "NestChart$Compare" (17 : Nat) "NestChart$Compare" "b" "LNestChart$Operand;") ∈ lw_all := lw_g (lw_at lw_m3 153 rfl) rfl
theorem q705 : (Jvm.Cond.fieldLink "NestChart$Compare" (13 : Nat) "NestChart$Compare" "sign" "C") ∈ lw_all := lw_g (lw_at lw_m3 154 rfl) rfl
theorem q706 : (Jvm.Cond.laysFinal "NestChart$Compare" "NestChart$Compare" "a" "LNestChart$Operand;") ∈ lw_all := lw_g (lw_at lw_m3 155 rfl) rfl
theorem q707 : (Jvm.Cond.soleField "NestChart$Compare" "a") ∈ lw_all := lw_g (lw_at lw_m3 156 rfl) rfl
theorem q708 : (Jvm.Cond.laysFinal "NestChart$Compare" "NestChart$Compare" "b" "LNestChart$Operand;") ∈ lw_all := lw_g (lw_at lw_m3 157 rfl) rfl
theorem q709 : (Jvm.Cond.soleField "NestChart$Compare" "b") ∈ lw_all := lw_g (lw_at lw_m3 158 rfl) rfl
theorem q710 : (Jvm.Cond.laysFinal "NestChart$Compare" "NestChart$Compare" "sign" "C") ∈ lw_all := lw_g (lw_at lw_m3 159 rfl) rfl
theorem q711 : (Jvm.Cond.soleField "NestChart$Compare" "sign") ∈ lw_all := lw_g (lw_at lw_m3 160 rfl) rfl
theorem q712 : (Jvm.Cond.laysFinal "NestChart$Compare" "NestChart$Test" "not" "Z") ∈ lw_all := lw_g (lw_at lw_m3 161 rfl) rfl
theorem q713 : (Jvm.Cond.superclass "NestChart$Compare" "NestChart$Test") ∈ lw_all := lw_g (lw_at lw_m3 162 rfl) rfl
theorem q883 : (Jvm.Cond.selects "NestChart$Compare" ({ cls := "NestChart$Test", name := "holds", desc := "(LNestChart$Machine;)Z" } : Jvm.MethodName) ({ cls := "NestChart$Test", name := "holds", desc := "(LNestChart$Machine;)Z" } : Jvm.MethodName)) ∈ lw_all := lw_g (lw_at lw_m4 92 rfl) rfl
theorem q889 : (Jvm.Cond.selects "NestChart$Compare" ({ cls := "NestChart$Test", name := "is", desc := "(LNestChart$Machine;)Z" } : Jvm.MethodName) ({ cls := "NestChart$Compare", name := "is", desc := "(LNestChart$Machine;)Z" } : Jvm.MethodName)) ∈ lw_all := lw_g (lw_at lw_m4 98 rfl) rfl
theorem q890 : (Jvm.Cond.instanceMethod ({ cls := "NestChart$Compare", name := "is", desc := "(LNestChart$Machine;)Z" } : Jvm.MethodName)) ∈ lw_all := lw_g (lw_at lw_m4 99 rfl) rfl
theorem q891 : (Jvm.Cond.code ({ cls := "NestChart$Compare", name := "is", desc := "(LNestChart$Machine;)Z" } : Jvm.MethodName) prog_4_method_2_code (6 : Nat) (Option.some Jvm.ClassFile.FieldType.boolean)) ∈ lw_all := lw_g (lw_at lw_m4 100 rfl) rfl
theorem q892 : (Jvm.Cond.methodLink "NestChart$Compare" (20 : Nat) ({ cls := "NestChart$Operand", name := "of", desc := "(LNestChart$Machine;)D" } : Jvm.MethodName)) ∈ lw_all := lw_g (lw_at lw_m4 101 rfl) rfl
theorem q1411 : (Jvm.Cond.castable "NestChart$Compare" "NestChart$Test") ∈ lw_tbl := lw_at lw_m6 140 rfl
theorem q1429 : (Jvm.Cond.castable "NestChart$Compare" "java/lang/Object") ∈ lw_tbl := lw_at lw_m6 158 rfl
theorem in_X14 : ∀ w ∈ wsX140, w ∈ lw_all := lw_in wsX140 [712, 706, 708, 710] (by decide +kernel) (by decide +kernel)

/-! NestChart$Sent -/
def RX15 : String := "NestChart$Sent"
def TX15 : u_T := fun k => match k with
  | 0 => ("NestChart$Sent", "event", "C", true)
  | _ => ("NestChart$Sent", "due", "I", true)
def tyX15 : Nat → FieldType := fun k => match k with
  | 0 => .char
  | _ => .int
abbrev wsX150 : List Cond := u_ws RX15 TX15 2
theorem nmX15 : ∀ a, a < 2 → ∀ b, b < 2 → a ≠ b → (TX15 a).2.1 ≠ (TX15 b).2.1 := by decide +kernel
theorem tyX15_ok : ∀ k, k < 2 → parseFieldDescriptor (TX15 k).2.2.1 = some (tyX15 k) := by decide +kernel
abbrev cX15_init : ByteArray := prog_11_method_1_code
def yX15_init : MethodName := ⟨RX15, "<init>", "(CI)V"⟩
theorem dX15_init_0 : decode cX15_init 0 = .ok (.aload_n 0, 1) := by decide +kernel
theorem dX15_init_1 : decode cX15_init 1 = .ok (.invokespecial 1, 3) := by decide +kernel
theorem dX15_init_4 : decode cX15_init 4 = .ok (.aload_n 0, 1) := by decide +kernel
theorem dX15_init_5 : decode cX15_init 5 = .ok (.iload_n 1, 1) := by decide +kernel
theorem dX15_init_6 : decode cX15_init 6 = .ok (.putfield 7, 3) := by decide +kernel
theorem dX15_init_9 : decode cX15_init 9 = .ok (.aload_n 0, 1) := by decide +kernel
theorem dX15_init_10 : decode cX15_init 10 = .ok (.iload_n 2, 1) := by decide +kernel
theorem dX15_init_11 : decode cX15_init 11 = .ok (.putfield 13, 3) := by decide +kernel
theorem dX15_init_14 : decode cX15_init 14 = .ok (.return_, 1) := by decide +kernel
theorem q100 : (Jvm.Cond.initialized "NestChart$Sent") ∈ lw_all := lw_g (lw_at lw_m1 29 rfl) rfl
theorem q503 : (Jvm.Cond.selects "NestChart$Sent" ({ cls := "java/lang/Object", name := "getClass", desc := "()Ljava/lang/Class;" } : Jvm.MethodName) ({ cls := "java/lang/Object", name := "getClass", desc := "()Ljava/lang/Class;" } : Jvm.MethodName)) ∈ lw_all := lw_g (lw_at lw_m2 192 rfl) rfl
theorem q844 : (Jvm.Cond.instantiable "NestChart$Sent" (2 : Nat)) ∈ lw_all := lw_g (lw_at lw_m4 53 rfl) rfl
theorem q846 : (Jvm.Cond.instanceMethod ({ cls := "NestChart$Sent", name := "<init>", desc := "(CI)V" } : Jvm.MethodName)) ∈ lw_all := lw_g (lw_at lw_m4 55 rfl) rfl
theorem q847 : (Jvm.Cond.code ({ cls := "NestChart$Sent", name := "<init>", desc := "(CI)V" } : Jvm.MethodName) prog_11_method_1_code (3 : Nat) (Option.none : Option Jvm.ClassFile.FieldType)) ∈ lw_all := lw_g (lw_at lw_m4 56 rfl) rfl
theorem q848 : (Jvm.Cond.methodLink "NestChart$Sent" (1 : Nat) ({ cls := "java/lang/Object", name := "<init>", desc := "()V" } : Jvm.MethodName)) ∈ lw_all := lw_g (lw_at lw_m4 57 rfl) rfl
theorem q849 : (Jvm.Cond.fieldLink "NestChart$Sent" (7 : Nat) "NestChart$Sent" "event" "C") ∈ lw_all := lw_g (lw_at lw_m4 58 rfl) rfl
theorem q851 : (Jvm.Cond.fieldLink "NestChart$Sent" (13 : Nat) "NestChart$Sent" "due" "I") ∈ lw_all := lw_g (lw_at lw_m4 60 rfl) rfl
theorem q853 : (Jvm.Cond.laysFinal "NestChart$Sent" "NestChart$Sent" "event" "C") ∈ lw_all := lw_g (lw_at lw_m4 62 rfl) rfl
theorem q854 : (Jvm.Cond.soleField "NestChart$Sent" "event") ∈ lw_all := lw_g (lw_at lw_m4 63 rfl) rfl
theorem q855 : (Jvm.Cond.laysFinal "NestChart$Sent" "NestChart$Sent" "due" "I") ∈ lw_all := lw_g (lw_at lw_m4 64 rfl) rfl
theorem q856 : (Jvm.Cond.soleField "NestChart$Sent" "due") ∈ lw_all := lw_g (lw_at lw_m4 65 rfl) rfl
theorem q857 : (Jvm.Cond.superclass "NestChart$Sent" "java/lang/Object") ∈ lw_all := lw_g (lw_at lw_m4 66 rfl) rfl
theorem q1431 : (Jvm.Cond.castable "NestChart$Sent" "java/lang/Object") ∈ lw_tbl := lw_at lw_m6 160 rfl
theorem in_X15 : ∀ w ∈ wsX150, w ∈ lw_all := lw_in wsX150 [853, 855] (by decide +kernel) (by decide +kernel)

/-! the law's own entry -/
abbrev cL_law : ByteArray := code
theorem dL_law_0 : decode cL_law 0 = .ok (.new 8, 3) := by decide +kernel
theorem dL_law_3 : decode cL_law 3 = .ok (.dup, 1) := by decide +kernel
theorem dL_law_4 : decode cL_law 4 = .ok (.invokespecial 30, 3) := by decide +kernel
theorem dL_law_7 : decode cL_law 7 = .ok (.astore_n 1, 1) := by decide +kernel
theorem dL_law_8 : decode cL_law 8 = .ok (.new 31, 3) := by decide +kernel
theorem dL_law_11 : decode cL_law 11 = .ok (.dup, 1) := by decide +kernel
theorem dL_law_12 : decode cL_law 12 = .ok (.invokespecial 33, 3) := by decide +kernel
theorem dL_law_15 : decode cL_law 15 = .ok (.astore_n 2, 1) := by decide +kernel
theorem dL_law_16 : decode cL_law 16 = .ok (.iconst 1, 1) := by decide +kernel
theorem dL_law_17 : decode cL_law 17 = .ok (.newarray .long, 2) := by decide +kernel
theorem dL_law_19 : decode cL_law 19 = .ok (.astore_n 3, 1) := by decide +kernel
theorem dL_law_20 : decode cL_law 20 = .ok (.iconst 0, 1) := by decide +kernel
theorem dL_law_21 : decode cL_law 21 = .ok (.istore 4, 2) := by decide +kernel
theorem dL_law_23 : decode cL_law 23 = .ok (.iload 4, 2) := by decide +kernel
theorem dL_law_25 : decode cL_law 25 = .ok (.aload_n 0, 1) := by decide +kernel
theorem dL_law_26 : decode cL_law 26 = .ok (.arraylength, 1) := by decide +kernel
theorem dL_law_27 : decode cL_law 27 = .ok (.iconst 3, 1) := by decide +kernel
theorem dL_law_28 : decode cL_law 28 = .ok (.isub, 1) := by decide +kernel
theorem dL_law_29 : decode cL_law 29 = .ok (.if_icmp .gt 507, 3) := by decide +kernel
theorem dL_law_32 : decode cL_law 32 = .ok (.aload_n 0, 1) := by decide +kernel
theorem dL_law_33 : decode cL_law 33 = .ok (.iload 4, 2) := by decide +kernel
theorem dL_law_35 : decode cL_law 35 = .ok (.iaload, 1) := by decide +kernel
theorem dL_law_36 : decode cL_law 36 = .ok (.bipush 15, 2) := by decide +kernel
theorem dL_law_38 : decode cL_law 38 = .ok (.iand, 1) := by decide +kernel
theorem dL_law_39 : decode cL_law 39 = .ok (.tableswitch 491 0 11 #[61, 88, 132, 145, 189, 247, 303, 316, 343, 398, 411, 436], 61) := by decide +kernel
theorem dL_law_100 : decode cL_law 100 = .ok (.aload_n 1, 1) := by decide +kernel
theorem dL_law_101 : decode cL_law 101 = .ok (.aload_n 0, 1) := by decide +kernel
theorem dL_law_102 : decode cL_law 102 = .ok (.iload 4, 2) := by decide +kernel
theorem dL_law_104 : decode cL_law 104 = .ok (.iconst 1, 1) := by decide +kernel
theorem dL_law_105 : decode cL_law 105 = .ok (.iadd, 1) := by decide +kernel
theorem dL_law_106 : decode cL_law 106 = .ok (.iaload, 1) := by decide +kernel
theorem dL_law_107 : decode cL_law 107 = .ok (.i2c, 1) := by decide +kernel
theorem dL_law_108 : decode cL_law 108 = .ok (.invokevirtual 34, 3) := by decide +kernel
theorem dL_law_111 : decode cL_law 111 = .ok (.aload_n 2, 1) := by decide +kernel
theorem dL_law_112 : decode cL_law 112 = .ok (.aload_n 0, 1) := by decide +kernel
theorem dL_law_113 : decode cL_law 113 = .ok (.iload 4, 2) := by decide +kernel
theorem dL_law_115 : decode cL_law 115 = .ok (.iconst 1, 1) := by decide +kernel
theorem dL_law_116 : decode cL_law 116 = .ok (.iadd, 1) := by decide +kernel
theorem dL_law_117 : decode cL_law 117 = .ok (.iaload, 1) := by decide +kernel
theorem dL_law_118 : decode cL_law 118 = .ok (.i2c, 1) := by decide +kernel
theorem dL_law_119 : decode cL_law 119 = .ok (.invokevirtual 38, 3) := by decide +kernel
theorem dL_law_122 : decode cL_law 122 = .ok (.if_icmp .eq 408, 3) := by decide +kernel
theorem dL_law_125 : decode cL_law 125 = .ok (.iconst 0, 1) := by decide +kernel
theorem dL_law_126 : decode cL_law 126 = .ok (.ireturn, 1) := by decide +kernel
theorem dL_law_127 : decode cL_law 127 = .ok (.aload_n 1, 1) := by decide +kernel
theorem dL_law_128 : decode cL_law 128 = .ok (.aload_n 3, 1) := by decide +kernel
theorem dL_law_129 : decode cL_law 129 = .ok (.invokestatic 39, 3) := by decide +kernel
theorem dL_law_132 : decode cL_law 132 = .ok (.istore 5, 2) := by decide +kernel
theorem dL_law_134 : decode cL_law 134 = .ok (.aload_n 2, 1) := by decide +kernel
theorem dL_law_135 : decode cL_law 135 = .ok (.invokevirtual 44, 3) := by decide +kernel
theorem dL_law_138 : decode cL_law 138 = .ok (.istore 6, 2) := by decide +kernel
theorem dL_law_140 : decode cL_law 140 = .ok (.aload_n 2, 1) := by decide +kernel
theorem dL_law_141 : decode cL_law 141 = .ok (.invokevirtual 45, 3) := by decide +kernel
theorem dL_law_144 : decode cL_law 144 = .ok (.iload 5, 2) := by decide +kernel
theorem dL_law_146 : decode cL_law 146 = .ok (.if_icmp .eq 5, 3) := by decide +kernel
theorem dL_law_149 : decode cL_law 149 = .ok (.iconst 0, 1) := by decide +kernel
theorem dL_law_150 : decode cL_law 150 = .ok (.ireturn, 1) := by decide +kernel
theorem dL_law_151 : decode cL_law 151 = .ok (.iload 5, 2) := by decide +kernel
theorem dL_law_153 : decode cL_law 153 = .ok (.ifCond .ne 15, 3) := by decide +kernel
theorem dL_law_156 : decode cL_law 156 = .ok (.aload_n 3, 1) := by decide +kernel
theorem dL_law_157 : decode cL_law 157 = .ok (.iconst 0, 1) := by decide +kernel
theorem dL_law_158 : decode cL_law 158 = .ok (.laload, 1) := by decide +kernel
theorem dL_law_159 : decode cL_law 159 = .ok (.iload 6, 2) := by decide +kernel
theorem dL_law_161 : decode cL_law 161 = .ok (.i2l, 1) := by decide +kernel
theorem dL_law_162 : decode cL_law 162 = .ok (.lcmp, 1) := by decide +kernel
theorem dL_law_163 : decode cL_law 163 = .ok (.ifCond .eq 5, 3) := by decide +kernel
theorem dL_law_166 : decode cL_law 166 = .ok (.iconst 0, 1) := by decide +kernel
theorem dL_law_167 : decode cL_law 167 = .ok (.ireturn, 1) := by decide +kernel
theorem dL_law_168 : decode cL_law 168 = .ok (.goto 362, 3) := by decide +kernel
theorem dL_law_171 : decode cL_law 171 = .ok (.aload_n 1, 1) := by decide +kernel
theorem dL_law_172 : decode cL_law 172 = .ok (.invokevirtual 48, 3) := by decide +kernel
theorem dL_law_175 : decode cL_law 175 = .ok (.aload_n 2, 1) := by decide +kernel
theorem dL_law_176 : decode cL_law 176 = .ok (.invokevirtual 51, 3) := by decide +kernel
theorem dL_law_179 : decode cL_law 179 = .ok (.if_icmp .eq 351, 3) := by decide +kernel
theorem dL_law_182 : decode cL_law 182 = .ok (.iconst 0, 1) := by decide +kernel
theorem dL_law_183 : decode cL_law 183 = .ok (.ireturn, 1) := by decide +kernel
theorem dL_law_184 : decode cL_law 184 = .ok (.aload_n 1, 1) := by decide +kernel
theorem dL_law_185 : decode cL_law 185 = .ok (.aload_n 3, 1) := by decide +kernel
theorem dL_law_186 : decode cL_law 186 = .ok (.invokestatic 52, 3) := by decide +kernel
theorem dL_law_189 : decode cL_law 189 = .ok (.istore 5, 2) := by decide +kernel
theorem dL_law_191 : decode cL_law 191 = .ok (.aload_n 2, 1) := by decide +kernel
theorem dL_law_192 : decode cL_law 192 = .ok (.invokevirtual 54, 3) := by decide +kernel
theorem dL_law_195 : decode cL_law 195 = .ok (.istore 6, 2) := by decide +kernel
theorem dL_law_197 : decode cL_law 197 = .ok (.aload_n 2, 1) := by decide +kernel
theorem dL_law_198 : decode cL_law 198 = .ok (.invokevirtual 45, 3) := by decide +kernel
theorem dL_law_201 : decode cL_law 201 = .ok (.iload 5, 2) := by decide +kernel
theorem dL_law_203 : decode cL_law 203 = .ok (.if_icmp .eq 5, 3) := by decide +kernel
theorem dL_law_206 : decode cL_law 206 = .ok (.iconst 0, 1) := by decide +kernel
theorem dL_law_207 : decode cL_law 207 = .ok (.ireturn, 1) := by decide +kernel
theorem dL_law_208 : decode cL_law 208 = .ok (.iload 5, 2) := by decide +kernel
theorem dL_law_210 : decode cL_law 210 = .ok (.ifCond .ne 15, 3) := by decide +kernel
theorem dL_law_213 : decode cL_law 213 = .ok (.aload_n 3, 1) := by decide +kernel
theorem dL_law_214 : decode cL_law 214 = .ok (.iconst 0, 1) := by decide +kernel
theorem dL_law_215 : decode cL_law 215 = .ok (.laload, 1) := by decide +kernel
theorem dL_law_216 : decode cL_law 216 = .ok (.iload 6, 2) := by decide +kernel
theorem dL_law_218 : decode cL_law 218 = .ok (.i2l, 1) := by decide +kernel
theorem dL_law_219 : decode cL_law 219 = .ok (.lcmp, 1) := by decide +kernel
theorem dL_law_220 : decode cL_law 220 = .ok (.ifCond .eq 5, 3) := by decide +kernel
theorem dL_law_223 : decode cL_law 223 = .ok (.iconst 0, 1) := by decide +kernel
theorem dL_law_224 : decode cL_law 224 = .ok (.ireturn, 1) := by decide +kernel
theorem dL_law_225 : decode cL_law 225 = .ok (.goto 305, 3) := by decide +kernel
theorem dL_law_228 : decode cL_law 228 = .ok (.aload_n 1, 1) := by decide +kernel
theorem dL_law_229 : decode cL_law 229 = .ok (.aload_n 0, 1) := by decide +kernel
theorem dL_law_230 : decode cL_law 230 = .ok (.iload 4, 2) := by decide +kernel
theorem dL_law_232 : decode cL_law 232 = .ok (.iconst 1, 1) := by decide +kernel
theorem dL_law_233 : decode cL_law 233 = .ok (.iadd, 1) := by decide +kernel
theorem dL_law_234 : decode cL_law 234 = .ok (.iaload, 1) := by decide +kernel
theorem dL_law_235 : decode cL_law 235 = .ok (.i2c, 1) := by decide +kernel
theorem dL_law_236 : decode cL_law 236 = .ok (.aload_n 3, 1) := by decide +kernel
theorem dL_law_237 : decode cL_law 237 = .ok (.invokestatic 55, 3) := by decide +kernel
theorem dL_law_240 : decode cL_law 240 = .ok (.istore 5, 2) := by decide +kernel
theorem dL_law_242 : decode cL_law 242 = .ok (.aload_n 2, 1) := by decide +kernel
theorem dL_law_243 : decode cL_law 243 = .ok (.aload_n 0, 1) := by decide +kernel
theorem dL_law_244 : decode cL_law 244 = .ok (.iload 4, 2) := by decide +kernel
theorem dL_law_246 : decode cL_law 246 = .ok (.iconst 1, 1) := by decide +kernel
theorem dL_law_247 : decode cL_law 247 = .ok (.iadd, 1) := by decide +kernel
theorem dL_law_248 : decode cL_law 248 = .ok (.iaload, 1) := by decide +kernel
