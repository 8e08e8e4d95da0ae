/-! LAYER 1 (printed): constants, descriptors -/
set_option maxRecDepth 100000
theorem gz_bp_10 : (Int8.ofInt (10)).toInt32 = (10 : Int32) := by decide +kernel
theorem gz_bp_100 : (Int8.ofInt (100)).toInt32 = (100 : Int32) := by decide +kernel
theorem gz_bp_112 : (Int8.ofInt (112)).toInt32 = (112 : Int32) := by decide +kernel
theorem gz_bp_117 : (Int8.ofInt (117)).toInt32 = (117 : Int32) := by decide +kernel
theorem gz_bp_122 : (Int8.ofInt (122)).toInt32 = (122 : Int32) := by decide +kernel
theorem gz_bp_123 : (Int8.ofInt (123)).toInt32 = (123 : Int32) := by decide +kernel
theorem gz_bp_125 : (Int8.ofInt (125)).toInt32 = (125 : Int32) := by decide +kernel
theorem gz_bp_126 : (Int8.ofInt (126)).toInt32 = (126 : Int32) := by decide +kernel
theorem gz_bp_16 : (Int8.ofInt (16)).toInt32 = (16 : Int32) := by decide +kernel
theorem gz_bp_20 : (Int8.ofInt (20)).toInt32 = (20 : Int32) := by decide +kernel
theorem gz_bp_24 : (Int8.ofInt (24)).toInt32 = (24 : Int32) := by decide +kernel
theorem gz_bp_30 : (Int8.ofInt (30)).toInt32 = (30 : Int32) := by decide +kernel
theorem gz_bp_32 : (Int8.ofInt (32)).toInt32 = (32 : Int32) := by decide +kernel
theorem gz_bp_33 : (Int8.ofInt (33)).toInt32 = (33 : Int32) := by decide +kernel
theorem gz_bp_35 : (Int8.ofInt (35)).toInt32 = (35 : Int32) := by decide +kernel
theorem gz_bp_38 : (Int8.ofInt (38)).toInt32 = (38 : Int32) := by decide +kernel
theorem gz_bp_40 : (Int8.ofInt (40)).toInt32 = (40 : Int32) := by decide +kernel
theorem gz_bp_41 : (Int8.ofInt (41)).toInt32 = (41 : Int32) := by decide +kernel
theorem gz_bp_42 : (Int8.ofInt (42)).toInt32 = (42 : Int32) := by decide +kernel
theorem gz_bp_43 : (Int8.ofInt (43)).toInt32 = (43 : Int32) := by decide +kernel
theorem gz_bp_44 : (Int8.ofInt (44)).toInt32 = (44 : Int32) := by decide +kernel
theorem gz_bp_45 : (Int8.ofInt (45)).toInt32 = (45 : Int32) := by decide +kernel
theorem gz_bp_46 : (Int8.ofInt (46)).toInt32 = (46 : Int32) := by decide +kernel
theorem gz_bp_47 : (Int8.ofInt (47)).toInt32 = (47 : Int32) := by decide +kernel
theorem gz_bp_48 : (Int8.ofInt (48)).toInt32 = (48 : Int32) := by decide +kernel
theorem gz_bp_49 : (Int8.ofInt (49)).toInt32 = (49 : Int32) := by decide +kernel
theorem gz_bp_57 : (Int8.ofInt (57)).toInt32 = (57 : Int32) := by decide +kernel
theorem gz_bp_59 : (Int8.ofInt (59)).toInt32 = (59 : Int32) := by decide +kernel
theorem gz_bp_6 : (Int8.ofInt (6)).toInt32 = (6 : Int32) := by decide +kernel
theorem gz_bp_60 : (Int8.ofInt (60)).toInt32 = (60 : Int32) := by decide +kernel
theorem gz_bp_61 : (Int8.ofInt (61)).toInt32 = (61 : Int32) := by decide +kernel
theorem gz_bp_62 : (Int8.ofInt (62)).toInt32 = (62 : Int32) := by decide +kernel
theorem gz_bp_63 : (Int8.ofInt (63)).toInt32 = (63 : Int32) := by decide +kernel
theorem gz_bp_64 : (Int8.ofInt (64)).toInt32 = (64 : Int32) := by decide +kernel
theorem gz_bp_65 : (Int8.ofInt (65)).toInt32 = (65 : Int32) := by decide +kernel
theorem gz_bp_7 : (Int8.ofInt (7)).toInt32 = (7 : Int32) := by decide +kernel
theorem gz_bp_72 : (Int8.ofInt (72)).toInt32 = (72 : Int32) := by decide +kernel
theorem gz_bp_8 : (Int8.ofInt (8)).toInt32 = (8 : Int32) := by decide +kernel
theorem gz_bp_96 : (Int8.ofInt (96)).toInt32 = (96 : Int32) := by decide +kernel
theorem gz_bp_97 : (Int8.ofInt (97)).toInt32 = (97 : Int32) := by decide +kernel
theorem gz_ic_0 : Int32.ofInt (0) = (0 : Int32) := by decide +kernel
theorem gz_ic_1 : Int32.ofInt (1) = (1 : Int32) := by decide +kernel
theorem gz_ic_2 : Int32.ofInt (2) = (2 : Int32) := by decide +kernel
theorem gz_ic_3 : Int32.ofInt (3) = (3 : Int32) := by decide +kernel
theorem gz_ic_m1 : Int32.ofInt (-1) = (-1 : Int32) := by decide +kernel
theorem gz_sp_128 : (Int16.ofInt (128)).toInt32 = (128 : Int32) := by decide +kernel
theorem gz_sp_160 : (Int16.ofInt (160)).toInt32 = (160 : Int32) := by decide +kernel
theorem gz_sp_200 : (Int16.ofInt (200)).toInt32 = (200 : Int32) := by decide +kernel
theorem hy_X0_build : (yX0_build.cls ≠ "java/lang/invoke/MethodHandle" ∧ yX0_build.cls ≠ "java/lang/invoke/VarHandle") ∧ (parseMethodDescriptor yX0_build.desc).map (fun d => d.parameters.length) = some 2 := by decide +kernel
theorem hy_X0_event : (yX0_event.cls ≠ "java/lang/invoke/MethodHandle" ∧ yX0_event.cls ≠ "java/lang/invoke/VarHandle") ∧ (parseMethodDescriptor yX0_event.desc).map (fun d => d.parameters.length) = some 3 := by decide +kernel
theorem hy_X0_start : (yX0_start.cls ≠ "java/lang/invoke/MethodHandle" ∧ yX0_start.cls ≠ "java/lang/invoke/VarHandle") ∧ (parseMethodDescriptor yX0_start.desc).map (fun d => d.parameters.length) = some 2 := by decide +kernel
theorem hy_X0_tick : (yX0_tick.cls ≠ "java/lang/invoke/MethodHandle" ∧ yX0_tick.cls ≠ "java/lang/invoke/VarHandle") ∧ (parseMethodDescriptor yX0_tick.desc).map (fun d => d.parameters.length) = some 3 := by decide +kernel
theorem hy_X10_init : (yX10_init.cls ≠ "java/lang/invoke/MethodHandle" ∧ yX10_init.cls ≠ "java/lang/invoke/VarHandle") ∧ (parseMethodDescriptor yX10_init.desc).map (fun d => d.parameters.length) = some 2 := by decide +kernel
theorem hy_X10_isEnabled : (yX10_isEnabled.cls ≠ "java/lang/invoke/MethodHandle" ∧ yX10_isEnabled.cls ≠ "java/lang/invoke/VarHandle") ∧ (parseMethodDescriptor yX10_isEnabled.desc).map (fun d => d.parameters.length) = some 2 := by decide +kernel
theorem hy_X11_init : (yX11_init.cls ≠ "java/lang/invoke/MethodHandle" ∧ yX11_init.cls ≠ "java/lang/invoke/VarHandle") ∧ (parseMethodDescriptor yX11_init.desc).map (fun d => d.parameters.length) = some 3 := by decide +kernel
theorem hy_X12_holds : (yX12_holds.cls ≠ "java/lang/invoke/MethodHandle" ∧ yX12_holds.cls ≠ "java/lang/invoke/VarHandle") ∧ (parseMethodDescriptor yX12_holds.desc).map (fun d => d.parameters.length) = some 1 := by decide +kernel
theorem hy_X12_init : (yX12_init.cls ≠ "java/lang/invoke/MethodHandle" ∧ yX12_init.cls ≠ "java/lang/invoke/VarHandle") ∧ (parseMethodDescriptor yX12_init.desc).map (fun d => d.parameters.length) = some 1 := by decide +kernel
theorem hy_X13_init : (yX13_init.cls ≠ "java/lang/invoke/MethodHandle" ∧ yX13_init.cls ≠ "java/lang/invoke/VarHandle") ∧ (parseMethodDescriptor yX13_init.desc).map (fun d => d.parameters.length) = some 2 := by decide +kernel
theorem hy_X13_is : (yX13_is.cls ≠ "java/lang/invoke/MethodHandle" ∧ yX13_is.cls ≠ "java/lang/invoke/VarHandle") ∧ (parseMethodDescriptor yX13_is.desc).map (fun d => d.parameters.length) = some 1 := by decide +kernel
theorem hy_X14_init : (yX14_init.cls ≠ "java/lang/invoke/MethodHandle" ∧ yX14_init.cls ≠ "java/lang/invoke/VarHandle") ∧ (parseMethodDescriptor yX14_init.desc).map (fun d => d.parameters.length) = some 4 := by decide +kernel
theorem hy_X14_is : (yX14_is.cls ≠ "java/lang/invoke/MethodHandle" ∧ yX14_is.cls ≠ "java/lang/invoke/VarHandle") ∧ (parseMethodDescriptor yX14_is.desc).map (fun d => d.parameters.length) = some 1 := by decide +kernel
theorem hy_X15_init : (yX15_init.cls ≠ "java/lang/invoke/MethodHandle" ∧ yX15_init.cls ≠ "java/lang/invoke/VarHandle") ∧ (parseMethodDescriptor yX15_init.desc).map (fun d => d.parameters.length) = some 2 := by decide +kernel
theorem hy_X1_active : (yX1_active.cls ≠ "java/lang/invoke/MethodHandle" ∧ yX1_active.cls ≠ "java/lang/invoke/VarHandle") ∧ (parseMethodDescriptor yX1_active.desc).map (fun d => d.parameters.length) = some 1 := by decide +kernel
theorem hy_X1_build : (yX1_build.cls ≠ "java/lang/invoke/MethodHandle" ∧ yX1_build.cls ≠ "java/lang/invoke/VarHandle") ∧ (parseMethodDescriptor yX1_build.desc).map (fun d => d.parameters.length) = some 0 := by decide +kernel
theorem hy_X1_down : (yX1_down.cls ≠ "java/lang/invoke/MethodHandle" ∧ yX1_down.cls ≠ "java/lang/invoke/VarHandle") ∧ (parseMethodDescriptor yX1_down.desc).map (fun d => d.parameters.length) = some 2 := by decide +kernel
theorem hy_X1_event : (yX1_event.cls ≠ "java/lang/invoke/MethodHandle" ∧ yX1_event.cls ≠ "java/lang/invoke/VarHandle") ∧ (parseMethodDescriptor yX1_event.desc).map (fun d => d.parameters.length) = some 1 := by decide +kernel
theorem hy_X1_history : (yX1_history.cls ≠ "java/lang/invoke/MethodHandle" ∧ yX1_history.cls ≠ "java/lang/invoke/VarHandle") ∧ (parseMethodDescriptor yX1_history.desc).map (fun d => d.parameters.length) = some 2 := by decide +kernel
theorem hy_X1_init : (yX1_init.cls ≠ "java/lang/invoke/MethodHandle" ∧ yX1_init.cls ≠ "java/lang/invoke/VarHandle") ∧ (parseMethodDescriptor yX1_init.desc).map (fun d => d.parameters.length) = some 0 := by decide +kernel
theorem hy_X1_place : (yX1_place.cls ≠ "java/lang/invoke/MethodHandle" ∧ yX1_place.cls ≠ "java/lang/invoke/VarHandle") ∧ (parseMethodDescriptor yX1_place.desc).map (fun d => d.parameters.length) = some 0 := by decide +kernel
theorem hy_X1_runs : (yX1_runs.cls ≠ "java/lang/invoke/MethodHandle" ∧ yX1_runs.cls ≠ "java/lang/invoke/VarHandle") ∧ (parseMethodDescriptor yX1_runs.desc).map (fun d => d.parameters.length) = some 0 := by decide +kernel
theorem hy_X1_sent : (yX1_sent.cls ≠ "java/lang/invoke/MethodHandle" ∧ yX1_sent.cls ≠ "java/lang/invoke/VarHandle") ∧ (parseMethodDescriptor yX1_sent.desc).map (fun d => d.parameters.length) = some 0 := by decide +kernel
theorem hy_X1_start : (yX1_start.cls ≠ "java/lang/invoke/MethodHandle" ∧ yX1_start.cls ≠ "java/lang/invoke/VarHandle") ∧ (parseMethodDescriptor yX1_start.desc).map (fun d => d.parameters.length) = some 0 := by decide +kernel
theorem hy_X1_stateOf : (yX1_stateOf.cls ≠ "java/lang/invoke/MethodHandle" ∧ yX1_stateOf.cls ≠ "java/lang/invoke/VarHandle") ∧ (parseMethodDescriptor yX1_stateOf.desc).map (fun d => d.parameters.length) = some 1 := by decide +kernel
theorem hy_X1_tick : (yX1_tick.cls ≠ "java/lang/invoke/MethodHandle" ∧ yX1_tick.cls ≠ "java/lang/invoke/VarHandle") ∧ (parseMethodDescriptor yX1_tick.desc).map (fun d => d.parameters.length) = some 1 := by decide +kernel
theorem hy_X1_trace : (yX1_trace.cls ≠ "java/lang/invoke/MethodHandle" ∧ yX1_trace.cls ≠ "java/lang/invoke/VarHandle") ∧ (parseMethodDescriptor yX1_trace.desc).map (fun d => d.parameters.length) = some 1 := by decide +kernel
theorem hy_X1_type : (yX1_type.cls ≠ "java/lang/invoke/MethodHandle" ∧ yX1_type.cls ≠ "java/lang/invoke/VarHandle") ∧ (parseMethodDescriptor yX1_type.desc).map (fun d => d.parameters.length) = some 1 := by decide +kernel
theorem hy_X1_up : (yX1_up.cls ≠ "java/lang/invoke/MethodHandle" ∧ yX1_up.cls ≠ "java/lang/invoke/VarHandle") ∧ (parseMethodDescriptor yX1_up.desc).map (fun d => d.parameters.length) = some 3 := by decide +kernel
theorem hy_X1_variable : (yX1_variable.cls ≠ "java/lang/invoke/MethodHandle" ∧ yX1_variable.cls ≠ "java/lang/invoke/VarHandle") ∧ (parseMethodDescriptor yX1_variable.desc).map (fun d => d.parameters.length) = some 1 := by decide +kernel
theorem hy_X2_actions : (yX2_actions.cls ≠ "java/lang/invoke/MethodHandle" ∧ yX2_actions.cls ≠ "java/lang/invoke/VarHandle") ∧ (parseMethodDescriptor yX2_actions.desc).map (fun d => d.parameters.length) = some 1 := by decide +kernel
theorem hy_X2_assigning : (yX2_assigning.cls ≠ "java/lang/invoke/MethodHandle" ∧ yX2_assigning.cls ≠ "java/lang/invoke/VarHandle") ∧ (parseMethodDescriptor yX2_assigning.desc).map (fun d => d.parameters.length) = some 1 := by decide +kernel
theorem hy_X2_chart : (yX2_chart.cls ≠ "java/lang/invoke/MethodHandle" ∧ yX2_chart.cls ≠ "java/lang/invoke/VarHandle") ∧ (parseMethodDescriptor yX2_chart.desc).map (fun d => d.parameters.length) = some 0 := by decide +kernel
theorem hy_X2_init : (yX2_init.cls ≠ "java/lang/invoke/MethodHandle" ∧ yX2_init.cls ≠ "java/lang/invoke/VarHandle") ∧ (parseMethodDescriptor yX2_init.desc).map (fun d => d.parameters.length) = some 0 := by decide +kernel
theorem hy_X2_isAmong : (yX2_isAmong.cls ≠ "java/lang/invoke/MethodHandle" ∧ yX2_isAmong.cls ≠ "java/lang/invoke/VarHandle") ∧ (parseMethodDescriptor yX2_isAmong.desc).map (fun d => d.parameters.length) = some 2 := by decide +kernel
theorem hy_X2_item : (yX2_item.cls ≠ "java/lang/invoke/MethodHandle" ∧ yX2_item.cls ≠ "java/lang/invoke/VarHandle") ∧ (parseMethodDescriptor yX2_item.desc).map (fun d => d.parameters.length) = some 1 := by decide +kernel
theorem hy_X2_look : (yX2_look.cls ≠ "java/lang/invoke/MethodHandle" ∧ yX2_look.cls ≠ "java/lang/invoke/VarHandle") ∧ (parseMethodDescriptor yX2_look.desc).map (fun d => d.parameters.length) = some 0 := by decide +kernel
theorem hy_X2_next : (yX2_next.cls ≠ "java/lang/invoke/MethodHandle" ∧ yX2_next.cls ≠ "java/lang/invoke/VarHandle") ∧ (parseMethodDescriptor yX2_next.desc).map (fun d => d.parameters.length) = some 0 := by decide +kernel
theorem hy_X2_operand : (yX2_operand.cls ≠ "java/lang/invoke/MethodHandle" ∧ yX2_operand.cls ≠ "java/lang/invoke/VarHandle") ∧ (parseMethodDescriptor yX2_operand.desc).map (fun d => d.parameters.length) = some 0 := by decide +kernel
theorem hy_X2_raising : (yX2_raising.cls ≠ "java/lang/invoke/MethodHandle" ∧ yX2_raising.cls ≠ "java/lang/invoke/VarHandle") ∧ (parseMethodDescriptor yX2_raising.desc).map (fun d => d.parameters.length) = some 1 := by decide +kernel
theorem hy_X2_state : (yX2_state.cls ≠ "java/lang/invoke/MethodHandle" ∧ yX2_state.cls ≠ "java/lang/invoke/VarHandle") ∧ (parseMethodDescriptor yX2_state.desc).map (fun d => d.parameters.length) = some 3 := by decide +kernel
theorem hy_X2_take : (yX2_take.cls ≠ "java/lang/invoke/MethodHandle" ∧ yX2_take.cls ≠ "java/lang/invoke/VarHandle") ∧ (parseMethodDescriptor yX2_take.desc).map (fun d => d.parameters.length) = some 1 := by decide +kernel
theorem hy_X2_takes : (yX2_takes.cls ≠ "java/lang/invoke/MethodHandle" ∧ yX2_takes.cls ≠ "java/lang/invoke/VarHandle") ∧ (parseMethodDescriptor yX2_takes.desc).map (fun d => d.parameters.length) = some 1 := by decide +kernel
theorem hy_X2_target : (yX2_target.cls ≠ "java/lang/invoke/MethodHandle" ∧ yX2_target.cls ≠ "java/lang/invoke/VarHandle") ∧ (parseMethodDescriptor yX2_target.desc).map (fun d => d.parameters.length) = some 0 := by decide +kernel
theorem hy_X2_test : (yX2_test.cls ≠ "java/lang/invoke/MethodHandle" ∧ yX2_test.cls ≠ "java/lang/invoke/VarHandle") ∧ (parseMethodDescriptor yX2_test.desc).map (fun d => d.parameters.length) = some 0 := by decide +kernel
theorem hy_X2_transition : (yX2_transition.cls ≠ "java/lang/invoke/MethodHandle" ∧ yX2_transition.cls ≠ "java/lang/invoke/VarHandle") ∧ (parseMethodDescriptor yX2_transition.desc).map (fun d => d.parameters.length) = some 1 := by decide +kernel
theorem hy_X2_want : (yX2_want.cls ≠ "java/lang/invoke/MethodHandle" ∧ yX2_want.cls ≠ "java/lang/invoke/VarHandle") ∧ (parseMethodDescriptor yX2_want.desc).map (fun d => d.parameters.length) = some 1 := by decide +kernel
theorem hy_X3_actAll : (yX3_actAll.cls ≠ "java/lang/invoke/MethodHandle" ∧ yX3_actAll.cls ≠ "java/lang/invoke/VarHandle") ∧ (parseMethodDescriptor yX3_actAll.desc).map (fun d => d.parameters.length) = some 1 := by decide +kernel
theorem hy_X3_aim : (yX3_aim.cls ≠ "java/lang/invoke/MethodHandle" ∧ yX3_aim.cls ≠ "java/lang/invoke/VarHandle") ∧ (parseMethodDescriptor yX3_aim.desc).map (fun d => d.parameters.length) = some 1 := by decide +kernel
theorem hy_X3_begin : (yX3_begin.cls ≠ "java/lang/invoke/MethodHandle" ∧ yX3_begin.cls ≠ "java/lang/invoke/VarHandle") ∧ (parseMethodDescriptor yX3_begin.desc).map (fun d => d.parameters.length) = some 0 := by decide +kernel
theorem hy_X3_build : (yX3_build.cls ≠ "java/lang/invoke/MethodHandle" ∧ yX3_build.cls ≠ "java/lang/invoke/VarHandle") ∧ (parseMethodDescriptor yX3_build.desc).map (fun d => d.parameters.length) = some 1 := by decide +kernel
theorem hy_X3_choose : (yX3_choose.cls ≠ "java/lang/invoke/MethodHandle" ∧ yX3_choose.cls ≠ "java/lang/invoke/VarHandle") ∧ (parseMethodDescriptor yX3_choose.desc).map (fun d => d.parameters.length) = some 1 := by decide +kernel
theorem hy_X3_clear : (yX3_clear.cls ≠ "java/lang/invoke/MethodHandle" ∧ yX3_clear.cls ≠ "java/lang/invoke/VarHandle") ∧ (parseMethodDescriptor yX3_clear.desc).map (fun d => d.parameters.length) = some 0 := by decide +kernel
theorem hy_X3_come : (yX3_come.cls ≠ "java/lang/invoke/MethodHandle" ∧ yX3_come.cls ≠ "java/lang/invoke/VarHandle") ∧ (parseMethodDescriptor yX3_come.desc).map (fun d => d.parameters.length) = some 1 := by decide +kernel
theorem hy_X3_enabled : (yX3_enabled.cls ≠ "java/lang/invoke/MethodHandle" ∧ yX3_enabled.cls ≠ "java/lang/invoke/VarHandle") ∧ (parseMethodDescriptor yX3_enabled.desc).map (fun d => d.parameters.length) = some 2 := by decide +kernel
theorem hy_X3_enter : (yX3_enter.cls ≠ "java/lang/invoke/MethodHandle" ∧ yX3_enter.cls ≠ "java/lang/invoke/VarHandle") ∧ (parseMethodDescriptor yX3_enter.desc).map (fun d => d.parameters.length) = some 1 := by decide +kernel
theorem hy_X3_entries : (yX3_entries.cls ≠ "java/lang/invoke/MethodHandle" ∧ yX3_entries.cls ≠ "java/lang/invoke/VarHandle") ∧ (parseMethodDescriptor yX3_entries.desc).map (fun d => d.parameters.length) = some 0 := by decide +kernel
theorem hy_X3_get : (yX3_get.cls ≠ "java/lang/invoke/MethodHandle" ∧ yX3_get.cls ≠ "java/lang/invoke/VarHandle") ∧ (parseMethodDescriptor yX3_get.desc).map (fun d => d.parameters.length) = some 1 := by decide +kernel
theorem hy_X3_init : (yX3_init.cls ≠ "java/lang/invoke/MethodHandle" ∧ yX3_init.cls ≠ "java/lang/invoke/VarHandle") ∧ (parseMethodDescriptor yX3_init.desc).map (fun d => d.parameters.length) = some 0 := by decide +kernel
theorem hy_X3_isActive : (yX3_isActive.cls ≠ "java/lang/invoke/MethodHandle" ∧ yX3_isActive.cls ≠ "java/lang/invoke/VarHandle") ∧ (parseMethodDescriptor yX3_isActive.desc).map (fun d => d.parameters.length) = some 1 := by decide +kernel
theorem hy_X3_isBelow : (yX3_isBelow.cls ≠ "java/lang/invoke/MethodHandle" ∧ yX3_isBelow.cls ≠ "java/lang/invoke/VarHandle") ∧ (parseMethodDescriptor yX3_isBelow.desc).map (fun d => d.parameters.length) = some 2 := by decide +kernel
theorem hy_X3_isChosen : (yX3_isChosen.cls ≠ "java/lang/invoke/MethodHandle" ∧ yX3_isChosen.cls ≠ "java/lang/invoke/VarHandle") ∧ (parseMethodDescriptor yX3_isChosen.desc).map (fun d => d.parameters.length) = some 1 := by decide +kernel
theorem hy_X3_leave : (yX3_leave.cls ≠ "java/lang/invoke/MethodHandle" ∧ yX3_leave.cls ≠ "java/lang/invoke/VarHandle") ∧ (parseMethodDescriptor yX3_leave.desc).map (fun d => d.parameters.length) = some 1 := by decide +kernel
theorem hy_X3_note : (yX3_note.cls ≠ "java/lang/invoke/MethodHandle" ∧ yX3_note.cls ≠ "java/lang/invoke/VarHandle") ∧ (parseMethodDescriptor yX3_note.desc).map (fun d => d.parameters.length) = some 1 := by decide +kernel
theorem hy_X3_open : (yX3_open.cls ≠ "java/lang/invoke/MethodHandle" ∧ yX3_open.cls ≠ "java/lang/invoke/VarHandle") ∧ (parseMethodDescriptor yX3_open.desc).map (fun d => d.parameters.length) = some 0 := by decide +kernel
theorem hy_X3_raise : (yX3_raise.cls ≠ "java/lang/invoke/MethodHandle" ∧ yX3_raise.cls ≠ "java/lang/invoke/VarHandle") ∧ (parseMethodDescriptor yX3_raise.desc).map (fun d => d.parameters.length) = some 1 := by decide +kernel
theorem hy_X3_record : (yX3_record.cls ≠ "java/lang/invoke/MethodHandle" ∧ yX3_record.cls ≠ "java/lang/invoke/VarHandle") ∧ (parseMethodDescriptor yX3_record.desc).map (fun d => d.parameters.length) = some 1 := by decide +kernel
theorem hy_X3_runOn : (yX3_runOn.cls ≠ "java/lang/invoke/MethodHandle" ∧ yX3_runOn.cls ≠ "java/lang/invoke/VarHandle") ∧ (parseMethodDescriptor yX3_runOn.desc).map (fun d => d.parameters.length) = some 0 := by decide +kernel
theorem hy_X3_send : (yX3_send.cls ≠ "java/lang/invoke/MethodHandle" ∧ yX3_send.cls ≠ "java/lang/invoke/VarHandle") ∧ (parseMethodDescriptor yX3_send.desc).map (fun d => d.parameters.length) = some 2 := by decide +kernel
theorem hy_X3_set : (yX3_set.cls ≠ "java/lang/invoke/MethodHandle" ∧ yX3_set.cls ≠ "java/lang/invoke/VarHandle") ∧ (parseMethodDescriptor yX3_set.desc).map (fun d => d.parameters.length) = some 2 := by decide +kernel
theorem hy_X3_settle : (yX3_settle.cls ≠ "java/lang/invoke/MethodHandle" ∧ yX3_settle.cls ≠ "java/lang/invoke/VarHandle") ∧ (parseMethodDescriptor yX3_settle.desc).map (fun d => d.parameters.length) = some 0 := by decide +kernel
theorem hy_X3_step : (yX3_step.cls ≠ "java/lang/invoke/MethodHandle" ∧ yX3_step.cls ≠ "java/lang/invoke/VarHandle") ∧ (parseMethodDescriptor yX3_step.desc).map (fun d => d.parameters.length) = some 0 := by decide +kernel
theorem hy_X3_tick : (yX3_tick.cls ≠ "java/lang/invoke/MethodHandle" ∧ yX3_tick.cls ≠ "java/lang/invoke/VarHandle") ∧ (parseMethodDescriptor yX3_tick.desc).map (fun d => d.parameters.length) = some 0 := by decide +kernel
theorem hy_X4_act : (yX4_act.cls ≠ "java/lang/invoke/MethodHandle" ∧ yX4_act.cls ≠ "java/lang/invoke/VarHandle") ∧ (parseMethodDescriptor yX4_act.desc).map (fun d => d.parameters.length) = some 1 := by decide +kernel
theorem hy_X4_active : (yX4_active.cls ≠ "java/lang/invoke/MethodHandle" ∧ yX4_active.cls ≠ "java/lang/invoke/VarHandle") ∧ (parseMethodDescriptor yX4_active.desc).map (fun d => d.parameters.length) = some 1 := by decide +kernel
theorem hy_X4_aim : (yX4_aim.cls ≠ "java/lang/invoke/MethodHandle" ∧ yX4_aim.cls ≠ "java/lang/invoke/VarHandle") ∧ (parseMethodDescriptor yX4_aim.desc).map (fun d => d.parameters.length) = some 1 := by decide +kernel
theorem hy_X4_among : (yX4_among.cls ≠ "java/lang/invoke/MethodHandle" ∧ yX4_among.cls ≠ "java/lang/invoke/VarHandle") ∧ (parseMethodDescriptor yX4_among.desc).map (fun d => d.parameters.length) = some 2 := by decide +kernel
theorem hy_X4_answer : (yX4_answer.cls ≠ "java/lang/invoke/MethodHandle" ∧ yX4_answer.cls ≠ "java/lang/invoke/VarHandle") ∧ (parseMethodDescriptor yX4_answer.desc).map (fun d => d.parameters.length) = some 1 := by decide +kernel
theorem hy_X4_belowOf : (yX4_belowOf.cls ≠ "java/lang/invoke/MethodHandle" ∧ yX4_belowOf.cls ≠ "java/lang/invoke/VarHandle") ∧ (parseMethodDescriptor yX4_belowOf.desc).map (fun d => d.parameters.length) = some 1 := by decide +kernel
theorem hy_X4_build : (yX4_build.cls ≠ "java/lang/invoke/MethodHandle" ∧ yX4_build.cls ≠ "java/lang/invoke/VarHandle") ∧ (parseMethodDescriptor yX4_build.desc).map (fun d => d.parameters.length) = some 0 := by decide +kernel
theorem hy_X4_choose : (yX4_choose.cls ≠ "java/lang/invoke/MethodHandle" ∧ yX4_choose.cls ≠ "java/lang/invoke/VarHandle") ∧ (parseMethodDescriptor yX4_choose.desc).map (fun d => d.parameters.length) = some 1 := by decide +kernel
theorem hy_X4_come : (yX4_come.cls ≠ "java/lang/invoke/MethodHandle" ∧ yX4_come.cls ≠ "java/lang/invoke/VarHandle") ∧ (parseMethodDescriptor yX4_come.desc).map (fun d => d.parameters.length) = some 1 := by decide +kernel
theorem hy_X4_doAction : (yX4_doAction.cls ≠ "java/lang/invoke/MethodHandle" ∧ yX4_doAction.cls ≠ "java/lang/invoke/VarHandle") ∧ (parseMethodDescriptor yX4_doAction.desc).map (fun d => d.parameters.length) = some 1 := by decide +kernel
theorem hy_X4_down : (yX4_down.cls ≠ "java/lang/invoke/MethodHandle" ∧ yX4_down.cls ≠ "java/lang/invoke/VarHandle") ∧ (parseMethodDescriptor yX4_down.desc).map (fun d => d.parameters.length) = some 1 := by decide +kernel
theorem hy_X4_drop : (yX4_drop.cls ≠ "java/lang/invoke/MethodHandle" ∧ yX4_drop.cls ≠ "java/lang/invoke/VarHandle") ∧ (parseMethodDescriptor yX4_drop.desc).map (fun d => d.parameters.length) = some 1 := by decide +kernel
theorem hy_X4_enabled : (yX4_enabled.cls ≠ "java/lang/invoke/MethodHandle" ∧ yX4_enabled.cls ≠ "java/lang/invoke/VarHandle") ∧ (parseMethodDescriptor yX4_enabled.desc).map (fun d => d.parameters.length) = some 2 := by decide +kernel
theorem hy_X4_enter : (yX4_enter.cls ≠ "java/lang/invoke/MethodHandle" ∧ yX4_enter.cls ≠ "java/lang/invoke/VarHandle") ∧ (parseMethodDescriptor yX4_enter.desc).map (fun d => d.parameters.length) = some 1 := by decide +kernel
theorem hy_X4_event : (yX4_event.cls ≠ "java/lang/invoke/MethodHandle" ∧ yX4_event.cls ≠ "java/lang/invoke/VarHandle") ∧ (parseMethodDescriptor yX4_event.desc).map (fun d => d.parameters.length) = some 1 := by decide +kernel
theorem hy_X4_findNames : (yX4_findNames.cls ≠ "java/lang/invoke/MethodHandle" ∧ yX4_findNames.cls ≠ "java/lang/invoke/VarHandle") ∧ (parseMethodDescriptor yX4_findNames.desc).map (fun d => d.parameters.length) = some 0 := by decide +kernel
theorem hy_X4_firstOf : (yX4_firstOf.cls ≠ "java/lang/invoke/MethodHandle" ∧ yX4_firstOf.cls ≠ "java/lang/invoke/VarHandle") ∧ (parseMethodDescriptor yX4_firstOf.desc).map (fun d => d.parameters.length) = some 2 := by decide +kernel
theorem hy_X4_forget : (yX4_forget.cls ≠ "java/lang/invoke/MethodHandle" ∧ yX4_forget.cls ≠ "java/lang/invoke/VarHandle") ∧ (parseMethodDescriptor yX4_forget.desc).map (fun d => d.parameters.length) = some 0 := by decide +kernel
theorem hy_X4_history : (yX4_history.cls ≠ "java/lang/invoke/MethodHandle" ∧ yX4_history.cls ≠ "java/lang/invoke/VarHandle") ∧ (parseMethodDescriptor yX4_history.desc).map (fun d => d.parameters.length) = some 2 := by decide +kernel
theorem hy_X4_holds : (yX4_holds.cls ≠ "java/lang/invoke/MethodHandle" ∧ yX4_holds.cls ≠ "java/lang/invoke/VarHandle") ∧ (parseMethodDescriptor yX4_holds.desc).map (fun d => d.parameters.length) = some 1 := by decide +kernel
theorem hy_X4_init : (yX4_init.cls ≠ "java/lang/invoke/MethodHandle" ∧ yX4_init.cls ≠ "java/lang/invoke/VarHandle") ∧ (parseMethodDescriptor yX4_init.desc).map (fun d => d.parameters.length) = some 0 := by decide +kernel
theorem hy_X4_innerOf : (yX4_innerOf.cls ≠ "java/lang/invoke/MethodHandle" ∧ yX4_innerOf.cls ≠ "java/lang/invoke/VarHandle") ∧ (parseMethodDescriptor yX4_innerOf.desc).map (fun d => d.parameters.length) = some 1 := by decide +kernel
theorem hy_X4_isIn : (yX4_isIn.cls ≠ "java/lang/invoke/MethodHandle" ∧ yX4_isIn.cls ≠ "java/lang/invoke/VarHandle") ∧ (parseMethodDescriptor yX4_isIn.desc).map (fun d => d.parameters.length) = some 2 := by decide +kernel
theorem hy_X4_kindOf : (yX4_kindOf.cls ≠ "java/lang/invoke/MethodHandle" ∧ yX4_kindOf.cls ≠ "java/lang/invoke/VarHandle") ∧ (parseMethodDescriptor yX4_kindOf.desc).map (fun d => d.parameters.length) = some 1 := by decide +kernel
theorem hy_X4_leave : (yX4_leave.cls ≠ "java/lang/invoke/MethodHandle" ∧ yX4_leave.cls ≠ "java/lang/invoke/VarHandle") ∧ (parseMethodDescriptor yX4_leave.desc).map (fun d => d.parameters.length) = some 1 := by decide +kernel
theorem hy_X4_look : (yX4_look.cls ≠ "java/lang/invoke/MethodHandle" ∧ yX4_look.cls ≠ "java/lang/invoke/VarHandle") ∧ (parseMethodDescriptor yX4_look.desc).map (fun d => d.parameters.length) = some 0 := by decide +kernel
theorem hy_X4_next : (yX4_next.cls ≠ "java/lang/invoke/MethodHandle" ∧ yX4_next.cls ≠ "java/lang/invoke/VarHandle") ∧ (parseMethodDescriptor yX4_next.desc).map (fun d => d.parameters.length) = some 0 := by decide +kernel
theorem hy_X4_note : (yX4_note.cls ≠ "java/lang/invoke/MethodHandle" ∧ yX4_note.cls ≠ "java/lang/invoke/VarHandle") ∧ (parseMethodDescriptor yX4_note.desc).map (fun d => d.parameters.length) = some 1 := by decide +kernel
theorem hy_X4_oneTick : (yX4_oneTick.cls ≠ "java/lang/invoke/MethodHandle" ∧ yX4_oneTick.cls ≠ "java/lang/invoke/VarHandle") ∧ (parseMethodDescriptor yX4_oneTick.desc).map (fun d => d.parameters.length) = some 0 := by decide +kernel
theorem hy_X4_open : (yX4_open.cls ≠ "java/lang/invoke/MethodHandle" ∧ yX4_open.cls ≠ "java/lang/invoke/VarHandle") ∧ (parseMethodDescriptor yX4_open.desc).map (fun d => d.parameters.length) = some 0 := by decide +kernel
theorem hy_X4_outerOf : (yX4_outerOf.cls ≠ "java/lang/invoke/MethodHandle" ∧ yX4_outerOf.cls ≠ "java/lang/invoke/VarHandle") ∧ (parseMethodDescriptor yX4_outerOf.desc).map (fun d => d.parameters.length) = some 1 := by decide +kernel
theorem hy_X4_place : (yX4_place.cls ≠ "java/lang/invoke/MethodHandle" ∧ yX4_place.cls ≠ "java/lang/invoke/VarHandle") ∧ (parseMethodDescriptor yX4_place.desc).map (fun d => d.parameters.length) = some 0 := by decide +kernel
theorem hy_X4_readAction : (yX4_readAction.cls ≠ "java/lang/invoke/MethodHandle" ∧ yX4_readAction.cls ≠ "java/lang/invoke/VarHandle") ∧ (parseMethodDescriptor yX4_readAction.desc).map (fun d => d.parameters.length) = some 1 := by decide +kernel
theorem hy_X4_readActions : (yX4_readActions.cls ≠ "java/lang/invoke/MethodHandle" ∧ yX4_readActions.cls ≠ "java/lang/invoke/VarHandle") ∧ (parseMethodDescriptor yX4_readActions.desc).map (fun d => d.parameters.length) = some 1 := by decide +kernel
theorem hy_X4_readChart : (yX4_readChart.cls ≠ "java/lang/invoke/MethodHandle" ∧ yX4_readChart.cls ≠ "java/lang/invoke/VarHandle") ∧ (parseMethodDescriptor yX4_readChart.desc).map (fun d => d.parameters.length) = some 0 := by decide +kernel
theorem hy_X4_readItems : (yX4_readItems.cls ≠ "java/lang/invoke/MethodHandle" ∧ yX4_readItems.cls ≠ "java/lang/invoke/VarHandle") ∧ (parseMethodDescriptor yX4_readItems.desc).map (fun d => d.parameters.length) = some 1 := by decide +kernel
theorem hy_X4_readName : (yX4_readName.cls ≠ "java/lang/invoke/MethodHandle" ∧ yX4_readName.cls ≠ "java/lang/invoke/VarHandle") ∧ (parseMethodDescriptor yX4_readName.desc).map (fun d => d.parameters.length) = some 1 := by decide +kernel
theorem hy_X4_readOperand : (yX4_readOperand.cls ≠ "java/lang/invoke/MethodHandle" ∧ yX4_readOperand.cls ≠ "java/lang/invoke/VarHandle") ∧ (parseMethodDescriptor yX4_readOperand.desc).map (fun d => d.parameters.length) = some 0 := by decide +kernel
theorem hy_X4_readState : (yX4_readState.cls ≠ "java/lang/invoke/MethodHandle" ∧ yX4_readState.cls ≠ "java/lang/invoke/VarHandle") ∧ (parseMethodDescriptor yX4_readState.desc).map (fun d => d.parameters.length) = some 2 := by decide +kernel
theorem hy_X4_readTest : (yX4_readTest.cls ≠ "java/lang/invoke/MethodHandle" ∧ yX4_readTest.cls ≠ "java/lang/invoke/VarHandle") ∧ (parseMethodDescriptor yX4_readTest.desc).map (fun d => d.parameters.length) = some 0 := by decide +kernel
theorem hy_X4_readTransition : (yX4_readTransition.cls ≠ "java/lang/invoke/MethodHandle" ∧ yX4_readTransition.cls ≠ "java/lang/invoke/VarHandle") ∧ (parseMethodDescriptor yX4_readTransition.desc).map (fun d => d.parameters.length) = some 1 := by decide +kernel
theorem hy_X4_runOn : (yX4_runOn.cls ≠ "java/lang/invoke/MethodHandle" ∧ yX4_runOn.cls ≠ "java/lang/invoke/VarHandle") ∧ (parseMethodDescriptor yX4_runOn.desc).map (fun d => d.parameters.length) = some 0 := by decide +kernel
theorem hy_X4_runs : (yX4_runs.cls ≠ "java/lang/invoke/MethodHandle" ∧ yX4_runs.cls ≠ "java/lang/invoke/VarHandle") ∧ (parseMethodDescriptor yX4_runs.desc).map (fun d => d.parameters.length) = some 0 := by decide +kernel
theorem hy_X4_sent : (yX4_sent.cls ≠ "java/lang/invoke/MethodHandle" ∧ yX4_sent.cls ≠ "java/lang/invoke/VarHandle") ∧ (parseMethodDescriptor yX4_sent.desc).map (fun d => d.parameters.length) = some 0 := by decide +kernel
theorem hy_X4_start : (yX4_start.cls ≠ "java/lang/invoke/MethodHandle" ∧ yX4_start.cls ≠ "java/lang/invoke/VarHandle") ∧ (parseMethodDescriptor yX4_start.desc).map (fun d => d.parameters.length) = some 0 := by decide +kernel
theorem hy_X4_stateOf : (yX4_stateOf.cls ≠ "java/lang/invoke/MethodHandle" ∧ yX4_stateOf.cls ≠ "java/lang/invoke/VarHandle") ∧ (parseMethodDescriptor yX4_stateOf.desc).map (fun d => d.parameters.length) = some 1 := by decide +kernel
theorem hy_X4_stays : (yX4_stays.cls ≠ "java/lang/invoke/MethodHandle" ∧ yX4_stays.cls ≠ "java/lang/invoke/VarHandle") ∧ (parseMethodDescriptor yX4_stays.desc).map (fun d => d.parameters.length) = some 1 := by decide +kernel
theorem hy_X4_step : (yX4_step.cls ≠ "java/lang/invoke/MethodHandle" ∧ yX4_step.cls ≠ "java/lang/invoke/VarHandle") ∧ (parseMethodDescriptor yX4_step.desc).map (fun d => d.parameters.length) = some 0 := by decide +kernel
theorem hy_X4_take : (yX4_take.cls ≠ "java/lang/invoke/MethodHandle" ∧ yX4_take.cls ≠ "java/lang/invoke/VarHandle") ∧ (parseMethodDescriptor yX4_take.desc).map (fun d => d.parameters.length) = some 1 := by decide +kernel
theorem hy_X4_takes : (yX4_takes.cls ≠ "java/lang/invoke/MethodHandle" ∧ yX4_takes.cls ≠ "java/lang/invoke/VarHandle") ∧ (parseMethodDescriptor yX4_takes.desc).map (fun d => d.parameters.length) = some 1 := by decide +kernel
theorem hy_X4_thrown : (yX4_thrown.cls ≠ "java/lang/invoke/MethodHandle" ∧ yX4_thrown.cls ≠ "java/lang/invoke/VarHandle") ∧ (parseMethodDescriptor yX4_thrown.desc).map (fun d => d.parameters.length) = some 0 := by decide +kernel
theorem hy_X4_tick : (yX4_tick.cls ≠ "java/lang/invoke/MethodHandle" ∧ yX4_tick.cls ≠ "java/lang/invoke/VarHandle") ∧ (parseMethodDescriptor yX4_tick.desc).map (fun d => d.parameters.length) = some 1 := by decide +kernel
theorem hy_X4_trace : (yX4_trace.cls ≠ "java/lang/invoke/MethodHandle" ∧ yX4_trace.cls ≠ "java/lang/invoke/VarHandle") ∧ (parseMethodDescriptor yX4_trace.desc).map (fun d => d.parameters.length) = some 1 := by decide +kernel
theorem hy_X4_type : (yX4_type.cls ≠ "java/lang/invoke/MethodHandle" ∧ yX4_type.cls ≠ "java/lang/invoke/VarHandle") ∧ (parseMethodDescriptor yX4_type.desc).map (fun d => d.parameters.length) = some 1 := by decide +kernel
theorem hy_X4_up : (yX4_up.cls ≠ "java/lang/invoke/MethodHandle" ∧ yX4_up.cls ≠ "java/lang/invoke/VarHandle") ∧ (parseMethodDescriptor yX4_up.desc).map (fun d => d.parameters.length) = some 2 := by decide +kernel
theorem hy_X4_variable : (yX4_variable.cls ≠ "java/lang/invoke/MethodHandle" ∧ yX4_variable.cls ≠ "java/lang/invoke/VarHandle") ∧ (parseMethodDescriptor yX4_variable.desc).map (fun d => d.parameters.length) = some 1 := by decide +kernel
theorem hy_X4_want : (yX4_want.cls ≠ "java/lang/invoke/MethodHandle" ∧ yX4_want.cls ≠ "java/lang/invoke/VarHandle") ∧ (parseMethodDescriptor yX4_want.desc).map (fun d => d.parameters.length) = some 1 := by decide +kernel
theorem hy_X5_bit : (yX5_bit.cls ≠ "java/lang/invoke/MethodHandle" ∧ yX5_bit.cls ≠ "java/lang/invoke/VarHandle") ∧ (parseMethodDescriptor yX5_bit.desc).map (fun d => d.parameters.length) = some 0 := by decide +kernel
theorem hy_X5_init : (yX5_init.cls ≠ "java/lang/invoke/MethodHandle" ∧ yX5_init.cls ≠ "java/lang/invoke/VarHandle") ∧ (parseMethodDescriptor yX5_init.desc).map (fun d => d.parameters.length) = some 2 := by decide +kernel
theorem hy_X6_init : (yX6_init.cls ≠ "java/lang/invoke/MethodHandle" ∧ yX6_init.cls ≠ "java/lang/invoke/VarHandle") ∧ (parseMethodDescriptor yX6_init.desc).map (fun d => d.parameters.length) = some 0 := by decide +kernel
theorem hy_X7_act : (yX7_act.cls ≠ "java/lang/invoke/MethodHandle" ∧ yX7_act.cls ≠ "java/lang/invoke/VarHandle") ∧ (parseMethodDescriptor yX7_act.desc).map (fun d => d.parameters.length) = some 1 := by decide +kernel
theorem hy_X7_init : (yX7_init.cls ≠ "java/lang/invoke/MethodHandle" ∧ yX7_init.cls ≠ "java/lang/invoke/VarHandle") ∧ (parseMethodDescriptor yX7_init.desc).map (fun d => d.parameters.length) = some 2 := by decide +kernel
theorem hy_X8_act : (yX8_act.cls ≠ "java/lang/invoke/MethodHandle" ∧ yX8_act.cls ≠ "java/lang/invoke/VarHandle") ∧ (parseMethodDescriptor yX8_act.desc).map (fun d => d.parameters.length) = some 1 := by decide +kernel
theorem hy_X8_init : (yX8_init.cls ≠ "java/lang/invoke/MethodHandle" ∧ yX8_init.cls ≠ "java/lang/invoke/VarHandle") ∧ (parseMethodDescriptor yX8_init.desc).map (fun d => d.parameters.length) = some 3 := by decide +kernel
theorem hy_X8_made : (yX8_made.cls ≠ "java/lang/invoke/MethodHandle" ∧ yX8_made.cls ≠ "java/lang/invoke/VarHandle") ∧ (parseMethodDescriptor yX8_made.desc).map (fun d => d.parameters.length) = some 2 := by decide +kernel
theorem hy_X9_init : (yX9_init.cls ≠ "java/lang/invoke/MethodHandle" ∧ yX9_init.cls ≠ "java/lang/invoke/VarHandle") ∧ (parseMethodDescriptor yX9_init.desc).map (fun d => d.parameters.length) = some 2 := by decide +kernel
theorem hy_X9_of : (yX9_of.cls ≠ "java/lang/invoke/MethodHandle" ∧ yX9_of.cls ≠ "java/lang/invoke/VarHandle") ∧ (parseMethodDescriptor yX9_of.desc).map (fun d => d.parameters.length) = some 1 := by decide +kernel
