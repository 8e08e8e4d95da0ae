set_option maxRecDepth 100000
theorem dX4_tick_19 : decode cX4_tick 19 = .ok (.ifCond .ne 7, 3) := by decide +kernel
theorem dX4_tick_22 : decode cX4_tick 22 = .ok (.iconst 2, 1) := by decide +kernel
theorem dX4_tick_23 : decode cX4_tick 23 = .ok (.goto 4, 3) := by decide +kernel
theorem dX4_tick_26 : decode cX4_tick 26 = .ok (.iconst 0, 1) := by decide +kernel
theorem dX4_tick_27 : decode cX4_tick 27 = .ok (.putfield 146, 3) := by decide +kernel
theorem dX4_tick_30 : decode cX4_tick 30 = .ok (.aload_n 0, 1) := by decide +kernel
theorem dX4_tick_31 : decode cX4_tick 31 = .ok (.getfield 146, 3) := by decide +kernel
theorem dX4_tick_34 : decode cX4_tick 34 = .ok (.ifCond .eq 5, 3) := by decide +kernel
theorem dX4_tick_37 : decode cX4_tick 37 = .ok (.iconst 0, 1) := by decide +kernel
theorem dX4_tick_38 : decode cX4_tick 38 = .ok (.ireturn, 1) := by decide +kernel
theorem dX4_tick_39 : decode cX4_tick 39 = .ok (.aload_n 0, 1) := by decide +kernel
theorem dX4_tick_40 : decode cX4_tick 40 = .ok (.invokevirtual 334, 3) := by decide +kernel
theorem dX4_tick_43 : decode cX4_tick 43 = .ok (.iconst 0, 1) := by decide +kernel
theorem dX4_tick_44 : decode cX4_tick 44 = .ok (.istore_n 2, 1) := by decide +kernel
theorem dX4_tick_45 : decode cX4_tick 45 = .ok (.iload_n 2, 1) := by decide +kernel
theorem dX4_tick_46 : decode cX4_tick 46 = .ok (.iload_n 1, 1) := by decide +kernel
theorem dX4_tick_47 : decode cX4_tick 47 = .ok (.if_icmp .ge 20, 3) := by decide +kernel
theorem dX4_tick_50 : decode cX4_tick 50 = .ok (.aload_n 0, 1) := by decide +kernel
theorem dX4_tick_51 : decode cX4_tick 51 = .ok (.getfield 312, 3) := by decide +kernel
theorem dX4_tick_54 : decode cX4_tick 54 = .ok (.ifCond .ne 13, 3) := by decide +kernel
theorem dX4_tick_57 : decode cX4_tick 57 = .ok (.aload_n 0, 1) := by decide +kernel
theorem dX4_tick_58 : decode cX4_tick 58 = .ok (.invokevirtual 343, 3) := by decide +kernel
theorem dX4_tick_61 : decode cX4_tick 61 = .ok (.iinc 2 1, 3) := by decide +kernel
theorem dX4_tick_64 : decode cX4_tick 64 = .ok (.goto (-19), 3) := by decide +kernel
theorem dX4_tick_67 : decode cX4_tick 67 = .ok (.aload_n 0, 1) := by decide +kernel
theorem dX4_tick_68 : decode cX4_tick 68 = .ok (.iconst 3, 1) := by decide +kernel
theorem dX4_tick_69 : decode cX4_tick 69 = .ok (.invokevirtual 337, 3) := by decide +kernel
theorem dX4_tick_72 : decode cX4_tick 72 = .ok (.ireturn, 1) := by decide +kernel
abbrev cX4_oneTick : ByteArray := prog_17_method_49_code
def yX4_oneTick : MethodName := ⟨RX4, "oneTick", "()V"⟩
theorem dX4_oneTick_0 : decode cX4_oneTick 0 = .ok (.aload_n 0, 1) := by decide +kernel
theorem dX4_oneTick_1 : decode cX4_oneTick 1 = .ok (.dup, 1) := by decide +kernel
theorem dX4_oneTick_2 : decode cX4_oneTick 2 = .ok (.getfield 252, 3) := by decide +kernel
theorem dX4_oneTick_5 : decode cX4_oneTick 5 = .ok (.iconst 1, 1) := by decide +kernel
theorem dX4_oneTick_6 : decode cX4_oneTick 6 = .ok (.iadd, 1) := by decide +kernel
theorem dX4_oneTick_7 : decode cX4_oneTick 7 = .ok (.putfield 252, 3) := by decide +kernel
theorem dX4_oneTick_10 : decode cX4_oneTick 10 = .ok (.aload_n 0, 1) := by decide +kernel
theorem dX4_oneTick_11 : decode cX4_oneTick 11 = .ok (.getfield 249, 3) := by decide +kernel
theorem dX4_oneTick_14 : decode cX4_oneTick 14 = .ok (.istore_n 1, 1) := by decide +kernel
theorem dX4_oneTick_15 : decode cX4_oneTick 15 = .ok (.iconst 0, 1) := by decide +kernel
theorem dX4_oneTick_16 : decode cX4_oneTick 16 = .ok (.istore_n 2, 1) := by decide +kernel
theorem dX4_oneTick_17 : decode cX4_oneTick 17 = .ok (.iconst 0, 1) := by decide +kernel
theorem dX4_oneTick_18 : decode cX4_oneTick 18 = .ok (.istore_n 3, 1) := by decide +kernel
theorem dX4_oneTick_19 : decode cX4_oneTick 19 = .ok (.iload_n 3, 1) := by decide +kernel
theorem dX4_oneTick_20 : decode cX4_oneTick 20 = .ok (.iload_n 1, 1) := by decide +kernel
theorem dX4_oneTick_21 : decode cX4_oneTick 21 = .ok (.if_icmp .ge 109, 3) := by decide +kernel
theorem dX4_oneTick_24 : decode cX4_oneTick 24 = .ok (.aload_n 0, 1) := by decide +kernel
theorem dX4_oneTick_25 : decode cX4_oneTick 25 = .ok (.getfield 312, 3) := by decide +kernel
theorem dX4_oneTick_28 : decode cX4_oneTick 28 = .ok (.ifCond .ne 102, 3) := by decide +kernel
theorem dX4_oneTick_31 : decode cX4_oneTick 31 = .ok (.aload_n 0, 1) := by decide +kernel
theorem dX4_oneTick_32 : decode cX4_oneTick 32 = .ok (.getfield 125, 3) := by decide +kernel
theorem dX4_oneTick_35 : decode cX4_oneTick 35 = .ok (.iload_n 2, 1) := by decide +kernel
theorem dX4_oneTick_36 : decode cX4_oneTick 36 = .ok (.iaload, 1) := by decide +kernel
theorem dX4_oneTick_37 : decode cX4_oneTick 37 = .ok (.aload_n 0, 1) := by decide +kernel
theorem dX4_oneTick_38 : decode cX4_oneTick 38 = .ok (.getfield 252, 3) := by decide +kernel
theorem dX4_oneTick_41 : decode cX4_oneTick 41 = .ok (.if_icmp .le 9, 3) := by decide +kernel
theorem dX4_oneTick_44 : decode cX4_oneTick 44 = .ok (.iinc 2 1, 3) := by decide +kernel
theorem dX4_oneTick_47 : decode cX4_oneTick 47 = .ok (.goto 77, 3) := by decide +kernel
theorem dX4_oneTick_50 : decode cX4_oneTick 50 = .ok (.aload_n 0, 1) := by decide +kernel
theorem dX4_oneTick_51 : decode cX4_oneTick 51 = .ok (.getfield 122, 3) := by decide +kernel
theorem dX4_oneTick_54 : decode cX4_oneTick 54 = .ok (.iload_n 2, 1) := by decide +kernel
theorem dX4_oneTick_55 : decode cX4_oneTick 55 = .ok (.iaload, 1) := by decide +kernel
theorem dX4_oneTick_56 : decode cX4_oneTick 56 = .ok (.istore 4, 2) := by decide +kernel
theorem dX4_oneTick_58 : decode cX4_oneTick 58 = .ok (.aload_n 0, 1) := by decide +kernel
theorem dX4_oneTick_59 : decode cX4_oneTick 59 = .ok (.dup, 1) := by decide +kernel
theorem dX4_oneTick_60 : decode cX4_oneTick 60 = .ok (.getfield 249, 3) := by decide +kernel
theorem dX4_oneTick_63 : decode cX4_oneTick 63 = .ok (.iconst 1, 1) := by decide +kernel
theorem dX4_oneTick_64 : decode cX4_oneTick 64 = .ok (.isub, 1) := by decide +kernel
theorem dX4_oneTick_65 : decode cX4_oneTick 65 = .ok (.putfield 249, 3) := by decide +kernel
theorem dX4_oneTick_68 : decode cX4_oneTick 68 = .ok (.iload_n 2, 1) := by decide +kernel
theorem dX4_oneTick_69 : decode cX4_oneTick 69 = .ok (.istore 5, 2) := by decide +kernel
theorem dX4_oneTick_71 : decode cX4_oneTick 71 = .ok (.iload 5, 2) := by decide +kernel
theorem dX4_oneTick_73 : decode cX4_oneTick 73 = .ok (.aload_n 0, 1) := by decide +kernel
theorem dX4_oneTick_74 : decode cX4_oneTick 74 = .ok (.getfield 249, 3) := by decide +kernel
theorem dX4_oneTick_77 : decode cX4_oneTick 77 = .ok (.if_icmp .ge 41, 3) := by decide +kernel
theorem dX4_oneTick_80 : decode cX4_oneTick 80 = .ok (.aload_n 0, 1) := by decide +kernel
theorem dX4_oneTick_81 : decode cX4_oneTick 81 = .ok (.getfield 122, 3) := by decide +kernel
theorem dX4_oneTick_84 : decode cX4_oneTick 84 = .ok (.iload 5, 2) := by decide +kernel
theorem dX4_oneTick_86 : decode cX4_oneTick 86 = .ok (.aload_n 0, 1) := by decide +kernel
theorem dX4_oneTick_87 : decode cX4_oneTick 87 = .ok (.getfield 122, 3) := by decide +kernel
theorem dX4_oneTick_90 : decode cX4_oneTick 90 = .ok (.iload 5, 2) := by decide +kernel
theorem dX4_oneTick_92 : decode cX4_oneTick 92 = .ok (.iconst 1, 1) := by decide +kernel
theorem dX4_oneTick_93 : decode cX4_oneTick 93 = .ok (.iadd, 1) := by decide +kernel
theorem dX4_oneTick_94 : decode cX4_oneTick 94 = .ok (.iaload, 1) := by decide +kernel
theorem dX4_oneTick_95 : decode cX4_oneTick 95 = .ok (.iastore, 1) := by decide +kernel
theorem dX4_oneTick_96 : decode cX4_oneTick 96 = .ok (.aload_n 0, 1) := by decide +kernel
theorem dX4_oneTick_97 : decode cX4_oneTick 97 = .ok (.getfield 125, 3) := by decide +kernel
theorem dX4_oneTick_100 : decode cX4_oneTick 100 = .ok (.iload 5, 2) := by decide +kernel
theorem dX4_oneTick_102 : decode cX4_oneTick 102 = .ok (.aload_n 0, 1) := by decide +kernel
theorem dX4_oneTick_103 : decode cX4_oneTick 103 = .ok (.getfield 125, 3) := by decide +kernel
theorem dX4_oneTick_106 : decode cX4_oneTick 106 = .ok (.iload 5, 2) := by decide +kernel
theorem dX4_oneTick_108 : decode cX4_oneTick 108 = .ok (.iconst 1, 1) := by decide +kernel
theorem dX4_oneTick_109 : decode cX4_oneTick 109 = .ok (.iadd, 1) := by decide +kernel
theorem dX4_oneTick_110 : decode cX4_oneTick 110 = .ok (.iaload, 1) := by decide +kernel
theorem dX4_oneTick_111 : decode cX4_oneTick 111 = .ok (.iastore, 1) := by decide +kernel
theorem dX4_oneTick_112 : decode cX4_oneTick 112 = .ok (.iinc 5 1, 3) := by decide +kernel
theorem dX4_oneTick_115 : decode cX4_oneTick 115 = .ok (.goto (-44), 3) := by decide +kernel
theorem dX4_oneTick_118 : decode cX4_oneTick 118 = .ok (.aload_n 0, 1) := by decide +kernel
theorem dX4_oneTick_119 : decode cX4_oneTick 119 = .ok (.iload 4, 2) := by decide +kernel
theorem dX4_oneTick_121 : decode cX4_oneTick 121 = .ok (.invokevirtual 340, 3) := by decide +kernel
theorem dX4_oneTick_124 : decode cX4_oneTick 124 = .ok (.iinc 3 1, 3) := by decide +kernel
theorem dX4_oneTick_127 : decode cX4_oneTick 127 = .ok (.goto (-108), 3) := by decide +kernel
theorem dX4_oneTick_130 : decode cX4_oneTick 130 = .ok (.return_, 1) := by decide +kernel
abbrev cX4_runs : ByteArray := prog_17_method_52_code
def yX4_runs : MethodName := ⟨RX4, "runs", "()Z"⟩
theorem dX4_runs_0 : decode cX4_runs 0 = .ok (.aload_n 0, 1) := by decide +kernel
theorem dX4_runs_1 : decode cX4_runs 1 = .ok (.iconst 0, 1) := by decide +kernel
theorem dX4_runs_2 : decode cX4_runs 2 = .ok (.putfield 146, 3) := by decide +kernel
theorem dX4_runs_5 : decode cX4_runs 5 = .ok (.aload_n 0, 1) := by decide +kernel
theorem dX4_runs_6 : decode cX4_runs 6 = .ok (.getfield 234, 3) := by decide +kernel
theorem dX4_runs_9 : decode cX4_runs 9 = .ok (.ireturn, 1) := by decide +kernel
abbrev cX4_active : ByteArray := prog_17_method_53_code
def yX4_active : MethodName := ⟨RX4, "active", "(C)Z"⟩
theorem dX4_active_0 : decode cX4_active 0 = .ok (.aload_n 0, 1) := by decide +kernel
theorem dX4_active_1 : decode cX4_active 1 = .ok (.iconst 0, 1) := by decide +kernel
theorem dX4_active_2 : decode cX4_active 2 = .ok (.putfield 146, 3) := by decide +kernel
theorem dX4_active_5 : decode cX4_active 5 = .ok (.aload_n 0, 1) := by decide +kernel
theorem dX4_active_6 : decode cX4_active 6 = .ok (.iload_n 1, 1) := by decide +kernel
theorem dX4_active_7 : decode cX4_active 7 = .ok (.invokevirtual 346, 3) := by decide +kernel
theorem dX4_active_10 : decode cX4_active 10 = .ok (.istore_n 2, 1) := by decide +kernel
theorem dX4_active_11 : decode cX4_active 11 = .ok (.iload_n 2, 1) := by decide +kernel
theorem dX4_active_12 : decode cX4_active 12 = .ok (.ifCond .lt 19, 3) := by decide +kernel
theorem dX4_active_15 : decode cX4_active 15 = .ok (.aload_n 0, 1) := by decide +kernel
theorem dX4_active_16 : decode cX4_active 16 = .ok (.aload_n 0, 1) := by decide +kernel
theorem dX4_active_17 : decode cX4_active 17 = .ok (.getfield 237, 3) := by decide +kernel
theorem dX4_active_20 : decode cX4_active 20 = .ok (.iload_n 2, 1) := by decide +kernel
theorem dX4_active_21 : decode cX4_active 21 = .ok (.invokevirtual 277, 3) := by decide +kernel
theorem dX4_active_24 : decode cX4_active 24 = .ok (.ifCond .eq 7, 3) := by decide +kernel
theorem dX4_active_27 : decode cX4_active 27 = .ok (.iconst 1, 1) := by decide +kernel
theorem dX4_active_28 : decode cX4_active 28 = .ok (.goto 4, 3) := by decide +kernel
theorem dX4_active_31 : decode cX4_active 31 = .ok (.iconst 0, 1) := by decide +kernel
theorem dX4_active_32 : decode cX4_active 32 = .ok (.ireturn, 1) := by decide +kernel
abbrev cX4_stateOf : ByteArray := prog_17_method_51_code
def yX4_stateOf : MethodName := ⟨RX4, "stateOf", "(C)I"⟩
theorem dX4_stateOf_0 : decode cX4_stateOf 0 = .ok (.aload_n 0, 1) := by decide +kernel
theorem dX4_stateOf_1 : decode cX4_stateOf 1 = .ok (.getfield 17, 3) := by decide +kernel
theorem dX4_stateOf_4 : decode cX4_stateOf 4 = .ok (.ifCond .lt 15, 3) := by decide +kernel
theorem dX4_stateOf_7 : decode cX4_stateOf 7 = .ok (.iload_n 1, 1) := by decide +kernel
theorem dX4_stateOf_8 : decode cX4_stateOf 8 = .ok (.bipush 97, 2) := by decide +kernel
theorem dX4_stateOf_10 : decode cX4_stateOf 10 = .ok (.if_icmp .lt 9, 3) := by decide +kernel
theorem dX4_stateOf_13 : decode cX4_stateOf 13 = .ok (.iload_n 1, 1) := by decide +kernel
theorem dX4_stateOf_14 : decode cX4_stateOf 14 = .ok (.bipush 112, 2) := by decide +kernel
theorem dX4_stateOf_16 : decode cX4_stateOf 16 = .ok (.if_icmp .le 7, 3) := by decide +kernel
theorem dX4_stateOf_19 : decode cX4_stateOf 19 = .ok (.iconst (-1), 1) := by decide +kernel
theorem dX4_stateOf_20 : decode cX4_stateOf 20 = .ok (.goto 20, 3) := by decide +kernel
theorem dX4_stateOf_23 : decode cX4_stateOf 23 = .ok (.aload_n 0, 1) := by decide +kernel
theorem dX4_stateOf_24 : decode cX4_stateOf 24 = .ok (.getfield 45, 3) := by decide +kernel
theorem dX4_stateOf_27 : decode cX4_stateOf 27 = .ok (.bipush 16, 2) := by decide +kernel
theorem dX4_stateOf_29 : decode cX4_stateOf 29 = .ok (.aload_n 0, 1) := by decide +kernel
theorem dX4_stateOf_30 : decode cX4_stateOf 30 = .ok (.getfield 17, 3) := by decide +kernel
theorem dX4_stateOf_33 : decode cX4_stateOf 33 = .ok (.imul, 1) := by decide +kernel
theorem dX4_stateOf_34 : decode cX4_stateOf 34 = .ok (.iload_n 1, 1) := by decide +kernel
theorem dX4_stateOf_35 : decode cX4_stateOf 35 = .ok (.iadd, 1) := by decide +kernel
theorem dX4_stateOf_36 : decode cX4_stateOf 36 = .ok (.bipush 97, 2) := by decide +kernel
theorem dX4_stateOf_38 : decode cX4_stateOf 38 = .ok (.isub, 1) := by decide +kernel
theorem dX4_stateOf_39 : decode cX4_stateOf 39 = .ok (.iaload, 1) := by decide +kernel
theorem dX4_stateOf_40 : decode cX4_stateOf 40 = .ok (.ireturn, 1) := by decide +kernel
abbrev cX4_variable : ByteArray := prog_17_method_54_code
def yX4_variable : MethodName := ⟨RX4, "variable", "(C)D"⟩
theorem dX4_variable_0 : decode cX4_variable 0 = .ok (.aload_n 0, 1) := by decide +kernel
theorem dX4_variable_1 : decode cX4_variable 1 = .ok (.iconst 0, 1) := by decide +kernel
theorem dX4_variable_2 : decode cX4_variable 2 = .ok (.putfield 146, 3) := by decide +kernel
theorem dX4_variable_5 : decode cX4_variable 5 = .ok (.iload_n 1, 1) := by decide +kernel
theorem dX4_variable_6 : decode cX4_variable 6 = .ok (.bipush 117, 2) := by decide +kernel
theorem dX4_variable_8 : decode cX4_variable 8 = .ok (.if_icmp .lt 9, 3) := by decide +kernel
theorem dX4_variable_11 : decode cX4_variable 11 = .ok (.iload_n 1, 1) := by decide +kernel
theorem dX4_variable_12 : decode cX4_variable 12 = .ok (.bipush 122, 2) := by decide +kernel
theorem dX4_variable_14 : decode cX4_variable 14 = .ok (.if_icmp .le 7, 3) := by decide +kernel
theorem dX4_variable_17 : decode cX4_variable 17 = .ok (.dconst 0, 1) := by decide +kernel
theorem dX4_variable_18 : decode cX4_variable 18 = .ok (.goto 12, 3) := by decide +kernel
theorem dX4_variable_21 : decode cX4_variable 21 = .ok (.aload_n 0, 1) := by decide +kernel
theorem dX4_variable_22 : decode cX4_variable 22 = .ok (.getfield 110, 3) := by decide +kernel
theorem dX4_variable_25 : decode cX4_variable 25 = .ok (.iload_n 1, 1) := by decide +kernel
theorem dX4_variable_26 : decode cX4_variable 26 = .ok (.bipush 117, 2) := by decide +kernel
theorem dX4_variable_28 : decode cX4_variable 28 = .ok (.isub, 1) := by decide +kernel
theorem dX4_variable_29 : decode cX4_variable 29 = .ok (.daload, 1) := by decide +kernel
theorem dX4_variable_30 : decode cX4_variable 30 = .ok (.dreturn, 1) := by decide +kernel
abbrev cX4_sent : ByteArray := prog_17_method_55_code
def yX4_sent : MethodName := ⟨RX4, "sent", "()I"⟩
theorem dX4_sent_0 : decode cX4_sent 0 = .ok (.aload_n 0, 1) := by decide +kernel
theorem dX4_sent_1 : decode cX4_sent 1 = .ok (.iconst 0, 1) := by decide +kernel
theorem dX4_sent_2 : decode cX4_sent 2 = .ok (.putfield 146, 3) := by decide +kernel
theorem dX4_sent_5 : decode cX4_sent 5 = .ok (.aload_n 0, 1) := by decide +kernel
theorem dX4_sent_6 : decode cX4_sent 6 = .ok (.getfield 249, 3) := by decide +kernel
theorem dX4_sent_9 : decode cX4_sent 9 = .ok (.ireturn, 1) := by decide +kernel
abbrev cX4_trace : ByteArray := prog_17_method_56_code
def yX4_trace : MethodName := ⟨RX4, "trace", "(I)I"⟩
theorem dX4_trace_0 : decode cX4_trace 0 = .ok (.aload_n 0, 1) := by decide +kernel
theorem dX4_trace_1 : decode cX4_trace 1 = .ok (.iconst 0, 1) := by decide +kernel
theorem dX4_trace_2 : decode cX4_trace 2 = .ok (.putfield 146, 3) := by decide +kernel
theorem dX4_trace_5 : decode cX4_trace 5 = .ok (.iload_n 1, 1) := by decide +kernel
theorem dX4_trace_6 : decode cX4_trace 6 = .ok (.ifCond .lt 11, 3) := by decide +kernel
theorem dX4_trace_9 : decode cX4_trace 9 = .ok (.iload_n 1, 1) := by decide +kernel
theorem dX4_trace_10 : decode cX4_trace 10 = .ok (.aload_n 0, 1) := by decide +kernel
theorem dX4_trace_11 : decode cX4_trace 11 = .ok (.getfield 240, 3) := by decide +kernel
theorem dX4_trace_14 : decode cX4_trace 14 = .ok (.if_icmp .lt 7, 3) := by decide +kernel
theorem dX4_trace_17 : decode cX4_trace 17 = .ok (.iconst 0, 1) := by decide +kernel
theorem dX4_trace_18 : decode cX4_trace 18 = .ok (.goto 9, 3) := by decide +kernel
theorem dX4_trace_21 : decode cX4_trace 21 = .ok (.aload_n 0, 1) := by decide +kernel
theorem dX4_trace_22 : decode cX4_trace 22 = .ok (.getfield 128, 3) := by decide +kernel
theorem dX4_trace_25 : decode cX4_trace 25 = .ok (.iload_n 1, 1) := by decide +kernel
theorem dX4_trace_26 : decode cX4_trace 26 = .ok (.iaload, 1) := by decide +kernel
theorem dX4_trace_27 : decode cX4_trace 27 = .ok (.ireturn, 1) := by decide +kernel
abbrev cX4_history : ByteArray := prog_17_method_57_code
def yX4_history : MethodName := ⟨RX4, "history", "(CZ)I"⟩
theorem dX4_history_0 : decode cX4_history 0 = .ok (.aload_n 0, 1) := by decide +kernel
theorem dX4_history_1 : decode cX4_history 1 = .ok (.iconst 0, 1) := by decide +kernel
theorem dX4_history_2 : decode cX4_history 2 = .ok (.putfield 146, 3) := by decide +kernel
theorem dX4_history_5 : decode cX4_history 5 = .ok (.aload_n 0, 1) := by decide +kernel
theorem dX4_history_6 : decode cX4_history 6 = .ok (.iload_n 1, 1) := by decide +kernel
theorem dX4_history_7 : decode cX4_history 7 = .ok (.invokevirtual 346, 3) := by decide +kernel
theorem dX4_history_10 : decode cX4_history 10 = .ok (.istore_n 3, 1) := by decide +kernel
theorem dX4_history_11 : decode cX4_history 11 = .ok (.iload_n 3, 1) := by decide +kernel
theorem dX4_history_12 : decode cX4_history 12 = .ok (.ifCond .ge 7, 3) := by decide +kernel
theorem dX4_history_15 : decode cX4_history 15 = .ok (.iconst 0, 1) := by decide +kernel
theorem dX4_history_16 : decode cX4_history 16 = .ok (.goto 22, 3) := by decide +kernel
theorem dX4_history_19 : decode cX4_history 19 = .ok (.iload_n 2, 1) := by decide +kernel
theorem dX4_history_20 : decode cX4_history 20 = .ok (.ifCond .eq 12, 3) := by decide +kernel
theorem dX4_history_23 : decode cX4_history 23 = .ok (.aload_n 0, 1) := by decide +kernel
theorem dX4_history_24 : decode cX4_history 24 = .ok (.getfield 116, 3) := by decide +kernel
theorem dX4_history_27 : decode cX4_history 27 = .ok (.iload_n 3, 1) := by decide +kernel
theorem dX4_history_28 : decode cX4_history 28 = .ok (.iaload, 1) := by decide +kernel
theorem dX4_history_29 : decode cX4_history 29 = .ok (.goto 9, 3) := by decide +kernel
theorem dX4_history_32 : decode cX4_history 32 = .ok (.aload_n 0, 1) := by decide +kernel
theorem dX4_history_33 : decode cX4_history 33 = .ok (.getfield 113, 3) := by decide +kernel
theorem dX4_history_36 : decode cX4_history 36 = .ok (.iload_n 3, 1) := by decide +kernel
theorem dX4_history_37 : decode cX4_history 37 = .ok (.iaload, 1) := by decide +kernel
theorem dX4_history_38 : decode cX4_history 38 = .ok (.ireturn, 1) := by decide +kernel
theorem q78 : (Jvm.Cond.initialized "NestChartModel") ∈ lw_all := lw_g (lw_at lw_m1 7 rfl) rfl
theorem q507 : (Jvm.Cond.selects "NestChartModel" ({ cls := "java/lang/Object", name := "getClass", desc := "()Ljava/lang/Class;" } : Jvm.MethodName) ({ cls := "java/lang/Object", name := "getClass", desc := "()Ljava/lang/Class;" } : Jvm.MethodName)) ∈ lw_all := lw_g (lw_at lw_m2 196 rfl) rfl
theorem q987 : (Jvm.Cond.instantiable "NestChartModel" (62 : Nat)) ∈ lw_all := lw_g (lw_at lw_m4 196 rfl) rfl
theorem q989 : (Jvm.Cond.instanceMethod ({ cls := "NestChartModel", name := "<init>", desc := "()V" } : Jvm.MethodName)) ∈ lw_all := lw_g (lw_at lw_m4 198 rfl) rfl
theorem q990 : (Jvm.Cond.code ({ cls := "NestChartModel", name := "<init>", desc := "()V" } : Jvm.MethodName) prog_17_method_1_code (1 : Nat) (Option.none : Option Jvm.ClassFile.FieldType)) ∈ lw_all := lw_g (lw_at lw_m4 199 rfl) rfl
theorem q991 : (Jvm.Cond.methodLink "NestChartModel" (1 : Nat) ({ cls := "java/lang/Object", name := "<init>", desc := "()V" } : Jvm.MethodName)) ∈ lw_all := lw_g (lw_at lw_m4 200 rfl) rfl
theorem q992 : (Jvm.Cond.fieldLink "NestChartModel" (146 : Nat) "NestChartModel" "code" "I") ∈ lw_all := lw_g (lw_at lw_m4 201 rfl) rfl
theorem q993 : (Jvm.Cond.fieldLink "NestChartModel" (225 : Nat) "NestChartModel" "typed" "I") ∈ lw_all := lw_g (lw_at lw_m4 202 rfl) rfl
theorem q994 : (Jvm.Cond.fieldLink "NestChartModel" (156 : Nat) "NestChartModel" "size" "I") ∈ lw_all := lw_g (lw_at lw_m4 203 rfl) rfl
theorem q995 : (Jvm.Cond.fieldLink "NestChartModel" (7 : Nat) "NestChartModel" "text" "[C") ∈ lw_all := lw_g (lw_at lw_m4 204 rfl) rfl
theorem q996 : (Jvm.Cond.fieldLink "NestChartModel" (153 : Nat) "NestChartModel" "at" "I") ∈ lw_all := lw_g (lw_at lw_m4 205 rfl) rfl
theorem q997 : (Jvm.Cond.fieldLink "NestChartModel" (149 : Nat) "NestChartModel" "ill" "Z") ∈ lw_all := lw_g (lw_at lw_m4 206 rfl) rfl
theorem q998 : (Jvm.Cond.fieldLink "NestChartModel" (13 : Nat) "NestChartModel" "illAt" "I") ∈ lw_all := lw_g (lw_at lw_m4 207 rfl) rfl
theorem q999 : (Jvm.Cond.fieldLink "NestChartModel" (17 : Nat) "NestChartModel" "live" "I") ∈ lw_all := lw_g (lw_at lw_m4 208 rfl) rfl
theorem q1000 : (Jvm.Cond.fieldLink "NestChartModel" (187 : Nat) "NestChartModel" "w" "I") ∈ lw_all := lw_g (lw_at lw_m4 209 rfl) rfl
theorem q1001 : (Jvm.Cond.fieldLink "NestChartModel" (20 : Nat) "NestChartModel" "states" "[I") ∈ lw_all := lw_g (lw_at lw_m4 210 rfl) rfl
theorem q1002 : (Jvm.Cond.fieldLink "NestChartModel" (24 : Nat) "NestChartModel" "transitions" "[I") ∈ lw_all := lw_g (lw_at lw_m4 211 rfl) rfl
theorem q1003 : (Jvm.Cond.fieldLink "NestChartModel" (27 : Nat) "NestChartModel" "tests" "[I") ∈ lw_all := lw_g (lw_at lw_m4 212 rfl) rfl
theorem q1004 : (Jvm.Cond.fieldLink "NestChartModel" (30 : Nat) "NestChartModel" "actions" "[I") ∈ lw_all := lw_g (lw_at lw_m4 213 rfl) rfl
theorem q1005 : (Jvm.Cond.fieldLink "NestChartModel" (33 : Nat) "NestChartModel" "names" "[I") ∈ lw_all := lw_g (lw_at lw_m4 214 rfl) rfl
theorem q1006 : (Jvm.Cond.fieldLink "NestChartModel" (36 : Nat) "NestChartModel" "kind" "[I") ∈ lw_all := lw_g (lw_at lw_m4 215 rfl) rfl
theorem q1007 : (Jvm.Cond.fieldLink "NestChartModel" (39 : Nat) "NestChartModel" "outer" "[I") ∈ lw_all := lw_g (lw_at lw_m4 216 rfl) rfl
theorem q1008 : (Jvm.Cond.fieldLink "NestChartModel" (42 : Nat) "NestChartModel" "below" "[I") ∈ lw_all := lw_g (lw_at lw_m4 217 rfl) rfl
theorem q1009 : (Jvm.Cond.fieldLink "NestChartModel" (45 : Nat) "NestChartModel" "byLetter" "[I") ∈ lw_all := lw_g (lw_at lw_m4 218 rfl) rfl
theorem q1010 : (Jvm.Cond.fieldLink "NestChartModel" (48 : Nat) "NestChartModel" "from" "[I") ∈ lw_all := lw_g (lw_at lw_m4 219 rfl) rfl
theorem q1011 : (Jvm.Cond.fieldLink "NestChartModel" (51 : Nat) "NestChartModel" "event" "[I") ∈ lw_all := lw_g (lw_at lw_m4 220 rfl) rfl
theorem q1012 : (Jvm.Cond.fieldLink "NestChartModel" (54 : Nat) "NestChartModel" "firstTest" "[I") ∈ lw_all := lw_g (lw_at lw_m4 221 rfl) rfl
theorem q1013 : (Jvm.Cond.fieldLink "NestChartModel" (57 : Nat) "NestChartModel" "testEnd" "[I") ∈ lw_all := lw_g (lw_at lw_m4 222 rfl) rfl
theorem q1014 : (Jvm.Cond.fieldLink "NestChartModel" (60 : Nat) "NestChartModel" "target" "[I") ∈ lw_all := lw_g (lw_at lw_m4 223 rfl) rfl
theorem q1015 : (Jvm.Cond.fieldLink "NestChartModel" (63 : Nat) "NestChartModel" "nameState" "[I") ∈ lw_all := lw_g (lw_at lw_m4 224 rfl) rfl
theorem q1016 : (Jvm.Cond.fieldLink "NestChartModel" (66 : Nat) "NestChartModel" "namePlace" "[I") ∈ lw_all := lw_g (lw_at lw_m4 225 rfl) rfl
theorem q1017 : (Jvm.Cond.fieldLink "NestChartModel" (69 : Nat) "NestChartModel" "nameStars" "[I") ∈ lw_all := lw_g (lw_at lw_m4 226 rfl) rfl
theorem q1018 : (Jvm.Cond.fieldLink "NestChartModel" (72 : Nat) "NestChartModel" "not" "[Z") ∈ lw_all := lw_g (lw_at lw_m4 227 rfl) rfl
theorem q1019 : (Jvm.Cond.fieldLink "NestChartModel" (76 : Nat) "NestChartModel" "testName" "[I") ∈ lw_all := lw_g (lw_at lw_m4 228 rfl) rfl
theorem q1020 : (Jvm.Cond.fieldLink "NestChartModel" (79 : Nat) "NestChartModel" "sign" "[I") ∈ lw_all := lw_g (lw_at lw_m4 229 rfl) rfl
theorem q1021 : (Jvm.Cond.fieldLink "NestChartModel" (82 : Nat) "NestChartModel" "leftVariable" "[I") ∈ lw_all := lw_g (lw_at lw_m4 230 rfl) rfl
theorem q1022 : (Jvm.Cond.fieldLink "NestChartModel" (85 : Nat) "NestChartModel" "rightVariable" "[I") ∈ lw_all := lw_g (lw_at lw_m4 231 rfl) rfl
theorem q1023 : (Jvm.Cond.fieldLink "NestChartModel" (88 : Nat) "NestChartModel" "leftNumber" "[D") ∈ lw_all := lw_g (lw_at lw_m4 232 rfl) rfl
theorem q1024 : (Jvm.Cond.fieldLink "NestChartModel" (92 : Nat) "NestChartModel" "rightNumber" "[D") ∈ lw_all := lw_g (lw_at lw_m4 233 rfl) rfl
theorem q1025 : (Jvm.Cond.fieldLink "NestChartModel" (95 : Nat) "NestChartModel" "whose" "[I") ∈ lw_all := lw_g (lw_at lw_m4 234 rfl) rfl
theorem q1026 : (Jvm.Cond.fieldLink "NestChartModel" (98 : Nat) "NestChartModel" "what" "[I") ∈ lw_all := lw_g (lw_at lw_m4 235 rfl) rfl
theorem q1027 : (Jvm.Cond.fieldLink "NestChartModel" (101 : Nat) "NestChartModel" "how" "[I") ∈ lw_all := lw_g (lw_at lw_m4 236 rfl) rfl
theorem q1028 : (Jvm.Cond.fieldLink "NestChartModel" (104 : Nat) "NestChartModel" "variable" "[I") ∈ lw_all := lw_g (lw_at lw_m4 237 rfl) rfl
theorem q1029 : (Jvm.Cond.fieldLink "NestChartModel" (107 : Nat) "NestChartModel" "number" "[D") ∈ lw_all := lw_g (lw_at lw_m4 238 rfl) rfl
theorem q1030 : (Jvm.Cond.fieldLink "NestChartModel" (171 : Nat) "NestChartModel" "readVariable" "I") ∈ lw_all := lw_g (lw_at lw_m4 239 rfl) rfl
theorem q1031 : (Jvm.Cond.fieldLink "NestChartModel" (174 : Nat) "NestChartModel" "readNumber" "D") ∈ lw_all := lw_g (lw_at lw_m5 0 rfl) rfl
theorem q1032 : (Jvm.Cond.fieldLink "NestChartModel" (234 : Nat) "NestChartModel" "runs" "Z") ∈ lw_all := lw_g (lw_at lw_m5 1 rfl) rfl
theorem q1033 : (Jvm.Cond.fieldLink "NestChartModel" (237 : Nat) "NestChartModel" "active" "I") ∈ lw_all := lw_g (lw_at lw_m5 2 rfl) rfl
theorem q1034 : (Jvm.Cond.fieldLink "NestChartModel" (110 : Nat) "NestChartModel" "value" "[D") ∈ lw_all := lw_g (lw_at lw_m5 3 rfl) rfl
theorem q1035 : (Jvm.Cond.fieldLink "NestChartModel" (113 : Nat) "NestChartModel" "history" "[I") ∈ lw_all := lw_g (lw_at lw_m5 4 rfl) rfl
theorem q1036 : (Jvm.Cond.fieldLink "NestChartModel" (116 : Nat) "NestChartModel" "deepHistory" "[I") ∈ lw_all := lw_g (lw_at lw_m5 5 rfl) rfl
theorem q1037 : (Jvm.Cond.fieldLink "NestChartModel" (246 : Nat) "NestChartModel" "raises" "I") ∈ lw_all := lw_g (lw_at lw_m5 6 rfl) rfl
theorem q1038 : (Jvm.Cond.fieldLink "NestChartModel" (119 : Nat) "NestChartModel" "raised" "[I") ∈ lw_all := lw_g (lw_at lw_m5 7 rfl) rfl
theorem q1039 : (Jvm.Cond.fieldLink "NestChartModel" (249 : Nat) "NestChartModel" "sent" "I") ∈ lw_all := lw_g (lw_at lw_m5 8 rfl) rfl
theorem q1040 : (Jvm.Cond.fieldLink "NestChartModel" (122 : Nat) "NestChartModel" "sentEvent" "[I") ∈ lw_all := lw_g (lw_at lw_m5 9 rfl) rfl
theorem q1041 : (Jvm.Cond.fieldLink "NestChartModel" (125 : Nat) "NestChartModel" "due" "[I") ∈ lw_all := lw_g (lw_at lw_m5 10 rfl) rfl
theorem q1042 : (Jvm.Cond.fieldLink "NestChartModel" (252 : Nat) "NestChartModel" "clock" "I") ∈ lw_all := lw_g (lw_at lw_m5 11 rfl) rfl
theorem q1043 : (Jvm.Cond.fieldLink "NestChartModel" (309 : Nat) "NestChartModel" "steps" "I") ∈ lw_all := lw_g (lw_at lw_m5 12 rfl) rfl
theorem q1044 : (Jvm.Cond.fieldLink "NestChartModel" (312 : Nat) "NestChartModel" "stuck" "Z") ∈ lw_all := lw_g (lw_at lw_m5 13 rfl) rfl
theorem q1045 : (Jvm.Cond.fieldLink "NestChartModel" (240 : Nat) "NestChartModel" "traced" "I") ∈ lw_all := lw_g (lw_at lw_m5 14 rfl) rfl
theorem q1046 : (Jvm.Cond.fieldLink "NestChartModel" (128 : Nat) "NestChartModel" "trace" "[I") ∈ lw_all := lw_g (lw_at lw_m5 15 rfl) rfl
theorem q1047 : (Jvm.Cond.fieldLink "NestChartModel" (288 : Nat) "NestChartModel" "chosen" "I") ∈ lw_all := lw_g (lw_at lw_m5 16 rfl) rfl
theorem q1048 : (Jvm.Cond.fieldLink "NestChartModel" (131 : Nat) "NestChartModel" "choice" "[I") ∈ lw_all := lw_g (lw_at lw_m5 17 rfl) rfl
theorem q1049 : (Jvm.Cond.fieldLink "NestChartModel" (134 : Nat) "NestChartModel" "goals" "[I") ∈ lw_all := lw_g (lw_at lw_m5 18 rfl) rfl
theorem q1050 : (Jvm.Cond.fieldLink "NestChartModel" (137 : Nat) "NestChartModel" "domain" "[I") ∈ lw_all := lw_g (lw_at lw_m5 19 rfl) rfl
theorem q1051 : (Jvm.Cond.fieldLink "NestChartModel" (140 : Nat) "NestChartModel" "exits" "[I") ∈ lw_all := lw_g (lw_at lw_m5 20 rfl) rfl
theorem q1052 : (Jvm.Cond.fieldLink "NestChartModel" (255 : Nat) "NestChartModel" "set" "I") ∈ lw_all := lw_g (lw_at lw_m5 21 rfl) rfl
theorem q1053 : (Jvm.Cond.fieldLink "NestChartModel" (143 : Nat) "NestChartModel" "row" "[I") ∈ lw_all := lw_g (lw_at lw_m5 22 rfl) rfl
theorem q1054 : (Jvm.Cond.lays "NestChartModel" "NestChartModel" "code" "I") ∈ lw_all := lw_g (lw_at lw_m5 23 rfl) rfl
theorem q1055 : (Jvm.Cond.soleField "NestChartModel" "code") ∈ lw_all := lw_g (lw_at lw_m5 24 rfl) rfl
theorem q1056 : (Jvm.Cond.lays "NestChartModel" "NestChartModel" "typed" "I") ∈ lw_all := lw_g (lw_at lw_m5 25 rfl) rfl
theorem q1057 : (Jvm.Cond.soleField "NestChartModel" "typed") ∈ lw_all := lw_g (lw_at lw_m5 26 rfl) rfl
theorem q1058 : (Jvm.Cond.lays "NestChartModel" "NestChartModel" "size" "I") ∈ lw_all := lw_g (lw_at lw_m5 27 rfl) rfl
theorem q1059 : (Jvm.Cond.soleField "NestChartModel" "size") ∈ lw_all := lw_g (lw_at lw_m5 28 rfl) rfl
theorem q1060 : (Jvm.Cond.laysFinal "NestChartModel" "NestChartModel" "text" "[C") ∈ lw_all := lw_g (lw_at lw_m5 29 rfl) rfl
theorem q1061 : (Jvm.Cond.soleField "NestChartModel" "text") ∈ lw_all := lw_g (lw_at lw_m5 30 rfl) rfl
theorem q1062 : (Jvm.Cond.lays "NestChartModel" "NestChartModel" "at" "I") ∈ lw_all := lw_g (lw_at lw_m5 31 rfl) rfl
theorem q1063 : (Jvm.Cond.soleField "NestChartModel" "at") ∈ lw_all := lw_g (lw_at lw_m5 32 rfl) rfl
theorem q1064 : (Jvm.Cond.lays "NestChartModel" "NestChartModel" "ill" "Z") ∈ lw_all := lw_g (lw_at lw_m5 33 rfl) rfl
theorem q1065 : (Jvm.Cond.soleField "NestChartModel" "ill") ∈ lw_all := lw_g (lw_at lw_m5 34 rfl) rfl
theorem q1066 : (Jvm.Cond.lays "NestChartModel" "NestChartModel" "illAt" "I") ∈ lw_all := lw_g (lw_at lw_m5 35 rfl) rfl
theorem q1067 : (Jvm.Cond.soleField "NestChartModel" "illAt") ∈ lw_all := lw_g (lw_at lw_m5 36 rfl) rfl
theorem q1068 : (Jvm.Cond.lays "NestChartModel" "NestChartModel" "live" "I") ∈ lw_all := lw_g (lw_at lw_m5 37 rfl) rfl
theorem q1069 : (Jvm.Cond.soleField "NestChartModel" "live") ∈ lw_all := lw_g (lw_at lw_m5 38 rfl) rfl
theorem q1070 : (Jvm.Cond.lays "NestChartModel" "NestChartModel" "w" "I") ∈ lw_all := lw_g (lw_at lw_m5 39 rfl) rfl
theorem q1071 : (Jvm.Cond.soleField "NestChartModel" "w") ∈ lw_all := lw_g (lw_at lw_m5 40 rfl) rfl
theorem q1072 : (Jvm.Cond.laysFinal "NestChartModel" "NestChartModel" "states" "[I") ∈ lw_all := lw_g (lw_at lw_m5 41 rfl) rfl
theorem q1073 : (Jvm.Cond.soleField "NestChartModel" "states") ∈ lw_all := lw_g (lw_at lw_m5 42 rfl) rfl
theorem q1074 : (Jvm.Cond.laysFinal "NestChartModel" "NestChartModel" "transitions" "[I") ∈ lw_all := lw_g (lw_at lw_m5 43 rfl) rfl
theorem q1075 : (Jvm.Cond.soleField "NestChartModel" "transitions") ∈ lw_all := lw_g (lw_at lw_m5 44 rfl) rfl
theorem q1076 : (Jvm.Cond.laysFinal "NestChartModel" "NestChartModel" "tests" "[I") ∈ lw_all := lw_g (lw_at lw_m5 45 rfl) rfl
theorem q1077 : (Jvm.Cond.soleField "NestChartModel" "tests") ∈ lw_all := lw_g (lw_at lw_m5 46 rfl) rfl
theorem q1078 : (Jvm.Cond.laysFinal "NestChartModel" "NestChartModel" "actions" "[I") ∈ lw_all := lw_g (lw_at lw_m5 47 rfl) rfl
theorem q1079 : (Jvm.Cond.soleField "NestChartModel" "actions") ∈ lw_all := lw_g (lw_at lw_m5 48 rfl) rfl
theorem q1080 : (Jvm.Cond.laysFinal "NestChartModel" "NestChartModel" "names" "[I") ∈ lw_all := lw_g (lw_at lw_m5 49 rfl) rfl
theorem q1081 : (Jvm.Cond.soleField "NestChartModel" "names") ∈ lw_all := lw_g (lw_at lw_m5 50 rfl) rfl
theorem q1082 : (Jvm.Cond.laysFinal "NestChartModel" "NestChartModel" "kind" "[I") ∈ lw_all := lw_g (lw_at lw_m5 51 rfl) rfl
theorem q1083 : (Jvm.Cond.soleField "NestChartModel" "kind") ∈ lw_all := lw_g (lw_at lw_m5 52 rfl) rfl
theorem q1084 : (Jvm.Cond.laysFinal "NestChartModel" "NestChartModel" "outer" "[I") ∈ lw_all := lw_g (lw_at lw_m5 53 rfl) rfl
theorem q1085 : (Jvm.Cond.soleField "NestChartModel" "outer") ∈ lw_all := lw_g (lw_at lw_m5 54 rfl) rfl
theorem q1086 : (Jvm.Cond.laysFinal "NestChartModel" "NestChartModel" "below" "[I") ∈ lw_all := lw_g (lw_at lw_m5 55 rfl) rfl
theorem q1087 : (Jvm.Cond.soleField "NestChartModel" "below") ∈ lw_all := lw_g (lw_at lw_m5 56 rfl) rfl
theorem q1088 : (Jvm.Cond.laysFinal "NestChartModel" "NestChartModel" "byLetter" "[I") ∈ lw_all := lw_g (lw_at lw_m5 57 rfl) rfl
theorem q1089 : (Jvm.Cond.soleField "NestChartModel" "byLetter") ∈ lw_all := lw_g (lw_at lw_m5 58 rfl) rfl
theorem q1090 : (Jvm.Cond.laysFinal "NestChartModel" "NestChartModel" "from" "[I") ∈ lw_all := lw_g (lw_at lw_m5 59 rfl) rfl
theorem q1091 : (Jvm.Cond.soleField "NestChartModel" "from") ∈ lw_all := lw_g (lw_at lw_m5 60 rfl) rfl
theorem q1092 : (Jvm.Cond.laysFinal "NestChartModel" "NestChartModel" "event" "[I") ∈ lw_all := lw_g (lw_at lw_m5 61 rfl) rfl
theorem q1093 : (Jvm.Cond.soleField "NestChartModel" "event") ∈ lw_all := lw_g (lw_at lw_m5 62 rfl) rfl
theorem q1094 : (Jvm.Cond.laysFinal "NestChartModel" "NestChartModel" "firstTest" "[I") ∈ lw_all := lw_g (lw_at lw_m5 63 rfl) rfl
theorem q1095 : (Jvm.Cond.soleField "NestChartModel" "firstTest") ∈ lw_all := lw_g (lw_at lw_m5 64 rfl) rfl
theorem q1096 : (Jvm.Cond.laysFinal "NestChartModel" "NestChartModel" "testEnd" "[I") ∈ lw_all := lw_g (lw_at lw_m5 65 rfl) rfl
theorem q1097 : (Jvm.Cond.soleField "NestChartModel" "testEnd") ∈ lw_all := lw_g (lw_at lw_m5 66 rfl) rfl
theorem q1098 : (Jvm.Cond.laysFinal "NestChartModel" "NestChartModel" "target" "[I") ∈ lw_all := lw_g (lw_at lw_m5 67 rfl) rfl
theorem q1099 : (Jvm.Cond.soleField "NestChartModel" "target") ∈ lw_all := lw_g (lw_at lw_m5 68 rfl) rfl
theorem q1100 : (Jvm.Cond.laysFinal "NestChartModel" "NestChartModel" "nameState" "[I") ∈ lw_all := lw_g (lw_at lw_m5 69 rfl) rfl
theorem q1101 : (Jvm.Cond.soleField "NestChartModel" "nameState") ∈ lw_all := lw_g (lw_at lw_m5 70 rfl) rfl
theorem q1102 : (Jvm.Cond.laysFinal "NestChartModel" "NestChartModel" "namePlace" "[I") ∈ lw_all := lw_g (lw_at lw_m5 71 rfl) rfl
theorem q1103 : (Jvm.Cond.soleField "NestChartModel" "namePlace") ∈ lw_all := lw_g (lw_at lw_m5 72 rfl) rfl
theorem q1104 : (Jvm.Cond.laysFinal "NestChartModel" "NestChartModel" "nameStars" "[I") ∈ lw_all := lw_g (lw_at lw_m5 73 rfl) rfl
theorem q1105 : (Jvm.Cond.soleField "NestChartModel" "nameStars") ∈ lw_all := lw_g (lw_at lw_m5 74 rfl) rfl
theorem q1106 : (Jvm.Cond.laysFinal "NestChartModel" "NestChartModel" "not" "[Z") ∈ lw_all := lw_g (lw_at lw_m5 75 rfl) rfl
theorem q1107 : (Jvm.Cond.soleField "NestChartModel" "not") ∈ lw_all := lw_g (lw_at lw_m5 76 rfl) rfl
theorem q1108 : (Jvm.Cond.laysFinal "NestChartModel" "NestChartModel" "testName" "[I") ∈ lw_all := lw_g (lw_at lw_m5 77 rfl) rfl
theorem q1109 : (Jvm.Cond.soleField "NestChartModel" "testName") ∈ lw_all := lw_g (lw_at lw_m5 78 rfl) rfl
theorem q1110 : (Jvm.Cond.laysFinal "NestChartModel" "NestChartModel" "sign" "[I") ∈ lw_all := lw_g (lw_at lw_m5 79 rfl) rfl
theorem q1111 : (Jvm.Cond.soleField "NestChartModel" "sign") ∈ lw_all := lw_g (lw_at lw_m5 80 rfl) rfl
theorem q1112 : (Jvm.Cond.laysFinal "NestChartModel" "NestChartModel" "leftVariable" "[I") ∈ lw_all := lw_g (lw_at lw_m5 81 rfl) rfl
theorem q1113 : (Jvm.Cond.soleField "NestChartModel" "leftVariable") ∈ lw_all := lw_g (lw_at lw_m5 82 rfl) rfl
theorem q1114 : (Jvm.Cond.laysFinal "NestChartModel" "NestChartModel" "rightVariable" "[I") ∈ lw_all := lw_g (lw_at lw_m5 83 rfl) rfl
theorem q1115 : (Jvm.Cond.soleField "NestChartModel" "rightVariable") ∈ lw_all := lw_g (lw_at lw_m5 84 rfl) rfl
theorem q1116 : (Jvm.Cond.laysFinal "NestChartModel" "NestChartModel" "leftNumber" "[D") ∈ lw_all := lw_g (lw_at lw_m5 85 rfl) rfl
theorem q1117 : (Jvm.Cond.soleField "NestChartModel" "leftNumber") ∈ lw_all := lw_g (lw_at lw_m5 86 rfl) rfl
theorem q1118 : (Jvm.Cond.laysFinal "NestChartModel" "NestChartModel" "rightNumber" "[D") ∈ lw_all := lw_g (lw_at lw_m5 87 rfl) rfl
theorem q1119 : (Jvm.Cond.soleField "NestChartModel" "rightNumber") ∈ lw_all := lw_g (lw_at lw_m5 88 rfl) rfl
theorem q1120 : (Jvm.Cond.laysFinal "NestChartModel" "NestChartModel" "whose" "[I") ∈ lw_all := lw_g (lw_at lw_m5 89 rfl) rfl
theorem q1121 : (Jvm.Cond.soleField "NestChartModel" "whose") ∈ lw_all := lw_g (lw_at lw_m5 90 rfl) rfl
theorem q1122 : (Jvm.Cond.laysFinal "NestChartModel" "NestChartModel" "what" "[I") ∈ lw_all := lw_g (lw_at lw_m5 91 rfl) rfl
theorem q1123 : (Jvm.Cond.soleField "NestChartModel" "what") ∈ lw_all := lw_g (lw_at lw_m5 92 rfl) rfl
theorem q1124 : (Jvm.Cond.laysFinal "NestChartModel" "NestChartModel" "how" "[I") ∈ lw_all := lw_g (lw_at lw_m5 93 rfl) rfl
theorem q1125 : (Jvm.Cond.soleField "NestChartModel" "how") ∈ lw_all := lw_g (lw_at lw_m5 94 rfl) rfl
theorem q1126 : (Jvm.Cond.laysFinal "NestChartModel" "NestChartModel" "variable" "[I") ∈ lw_all := lw_g (lw_at lw_m5 95 rfl) rfl
theorem q1127 : (Jvm.Cond.soleField "NestChartModel" "variable") ∈ lw_all := lw_g (lw_at lw_m5 96 rfl) rfl
theorem q1128 : (Jvm.Cond.laysFinal "NestChartModel" "NestChartModel" "number" "[D") ∈ lw_all := lw_g (lw_at lw_m5 97 rfl) rfl
theorem q1129 : (Jvm.Cond.soleField "NestChartModel" "number") ∈ lw_all := lw_g (lw_at lw_m5 98 rfl) rfl
theorem q1130 : (Jvm.Cond.lays "NestChartModel" "NestChartModel" "readVariable" "I") ∈ lw_all := lw_g (lw_at lw_m5 99 rfl) rfl
theorem q1131 : (Jvm.Cond.soleField "NestChartModel" "readVariable") ∈ lw_all := lw_g (lw_at lw_m5 100 rfl) rfl
theorem q1132 : (Jvm.Cond.lays "NestChartModel" "NestChartModel" "readNumber" "D") ∈ lw_all := lw_g (lw_at lw_m5 101 rfl) rfl
theorem q1133 : (Jvm.Cond.soleField "NestChartModel" "readNumber") ∈ lw_all := lw_g (lw_at lw_m5 102 rfl) rfl
theorem q1134 : (Jvm.Cond.lays "NestChartModel" "NestChartModel" "runs" "Z") ∈ lw_all := lw_g (lw_at lw_m5 103 rfl) rfl
theorem q1135 : (Jvm.Cond.soleField "NestChartModel" "runs") ∈ lw_all := lw_g (lw_at lw_m5 104 rfl) rfl
theorem q1136 : (Jvm.Cond.lays "NestChartModel" "NestChartModel" "active" "I") ∈ lw_all := lw_g (lw_at lw_m5 105 rfl) rfl
theorem q1137 : (Jvm.Cond.soleField "NestChartModel" "active") ∈ lw_all := lw_g (lw_at lw_m5 106 rfl) rfl
theorem q1138 : (Jvm.Cond.laysFinal "NestChartModel" "NestChartModel" "value" "[D") ∈ lw_all := lw_g (lw_at lw_m5 107 rfl) rfl
theorem q1139 : (Jvm.Cond.soleField "NestChartModel" "value") ∈ lw_all := lw_g (lw_at lw_m5 108 rfl) rfl
theorem q1140 : (Jvm.Cond.laysFinal "NestChartModel" "NestChartModel" "history" "[I") ∈ lw_all := lw_g (lw_at lw_m5 109 rfl) rfl
theorem q1141 : (Jvm.Cond.soleField "NestChartModel" "history") ∈ lw_all := lw_g (lw_at lw_m5 110 rfl) rfl
theorem q1142 : (Jvm.Cond.laysFinal "NestChartModel" "NestChartModel" "deepHistory" "[I") ∈ lw_all := lw_g (lw_at lw_m5 111 rfl) rfl
theorem q1143 : (Jvm.Cond.soleField "NestChartModel" "deepHistory") ∈ lw_all := lw_g (lw_at lw_m5 112 rfl) rfl
theorem q1144 : (Jvm.Cond.lays "NestChartModel" "NestChartModel" "raises" "I") ∈ lw_all := lw_g (lw_at lw_m5 113 rfl) rfl
theorem q1145 : (Jvm.Cond.soleField "NestChartModel" "raises") ∈ lw_all := lw_g (lw_at lw_m5 114 rfl) rfl
theorem q1146 : (Jvm.Cond.laysFinal "NestChartModel" "NestChartModel" "raised" "[I") ∈ lw_all := lw_g (lw_at lw_m5 115 rfl) rfl
theorem q1147 : (Jvm.Cond.soleField "NestChartModel" "raised") ∈ lw_all := lw_g (lw_at lw_m5 116 rfl) rfl
theorem q1148 : (Jvm.Cond.lays "NestChartModel" "NestChartModel" "sent" "I") ∈ lw_all := lw_g (lw_at lw_m5 117 rfl) rfl
theorem q1149 : (Jvm.Cond.soleField "NestChartModel" "sent") ∈ lw_all := lw_g (lw_at lw_m5 118 rfl) rfl
theorem q1150 : (Jvm.Cond.laysFinal "NestChartModel" "NestChartModel" "sentEvent" "[I") ∈ lw_all := lw_g (lw_at lw_m5 119 rfl) rfl
theorem q1151 : (Jvm.Cond.soleField "NestChartModel" "sentEvent") ∈ lw_all := lw_g (lw_at lw_m5 120 rfl) rfl
theorem q1152 : (Jvm.Cond.laysFinal "NestChartModel" "NestChartModel" "due" "[I") ∈ lw_all := lw_g (lw_at lw_m5 121 rfl) rfl
theorem q1153 : (Jvm.Cond.soleField "NestChartModel" "due") ∈ lw_all := lw_g (lw_at lw_m5 122 rfl) rfl
theorem q1154 : (Jvm.Cond.lays "NestChartModel" "NestChartModel" "clock" "I") ∈ lw_all := lw_g (lw_at lw_m5 123 rfl) rfl
theorem q1155 : (Jvm.Cond.soleField "NestChartModel" "clock") ∈ lw_all := lw_g (lw_at lw_m5 124 rfl) rfl
theorem q1156 : (Jvm.Cond.lays "NestChartModel" "NestChartModel" "steps" "I") ∈ lw_all := lw_g (lw_at lw_m5 125 rfl) rfl
theorem q1157 : (Jvm.Cond.soleField "NestChartModel" "steps") ∈ lw_all := lw_g (lw_at lw_m5 126 rfl) rfl
theorem q1158 : (Jvm.Cond.lays "NestChartModel" "NestChartModel" "stuck" "Z") ∈ lw_all := lw_g (lw_at lw_m5 127 rfl) rfl
theorem q1159 : (Jvm.Cond.soleField "NestChartModel" "stuck") ∈ lw_all := lw_g (lw_at lw_m5 128 rfl) rfl
theorem q1160 : (Jvm.Cond.lays "NestChartModel" "NestChartModel" "traced" "I") ∈ lw_all := lw_g (lw_at lw_m5 129 rfl) rfl
theorem q1161 : (Jvm.Cond.soleField "NestChartModel" "traced") ∈ lw_all := lw_g (lw_at lw_m5 130 rfl) rfl
theorem q1162 : (Jvm.Cond.laysFinal "NestChartModel" "NestChartModel" "trace" "[I") ∈ lw_all := lw_g (lw_at lw_m5 131 rfl) rfl
theorem q1163 : (Jvm.Cond.soleField "NestChartModel" "trace") ∈ lw_all := lw_g (lw_at lw_m5 132 rfl) rfl
theorem q1164 : (Jvm.Cond.lays "NestChartModel" "NestChartModel" "chosen" "I") ∈ lw_all := lw_g (lw_at lw_m5 133 rfl) rfl
theorem q1165 : (Jvm.Cond.soleField "NestChartModel" "chosen") ∈ lw_all := lw_g (lw_at lw_m5 134 rfl) rfl
theorem q1166 : (Jvm.Cond.laysFinal "NestChartModel" "NestChartModel" "choice" "[I") ∈ lw_all := lw_g (lw_at lw_m5 135 rfl) rfl
theorem q1167 : (Jvm.Cond.soleField "NestChartModel" "choice") ∈ lw_all := lw_g (lw_at lw_m5 136 rfl) rfl
theorem q1168 : (Jvm.Cond.laysFinal "NestChartModel" "NestChartModel" "goals" "[I") ∈ lw_all := lw_g (lw_at lw_m5 137 rfl) rfl
theorem q1169 : (Jvm.Cond.soleField "NestChartModel" "goals") ∈ lw_all := lw_g (lw_at lw_m5 138 rfl) rfl
theorem q1170 : (Jvm.Cond.laysFinal "NestChartModel" "NestChartModel" "domain" "[I") ∈ lw_all := lw_g (lw_at lw_m5 139 rfl) rfl
theorem q1171 : (Jvm.Cond.soleField "NestChartModel" "domain") ∈ lw_all := lw_g (lw_at lw_m5 140 rfl) rfl
theorem q1172 : (Jvm.Cond.laysFinal "NestChartModel" "NestChartModel" "exits" "[I") ∈ lw_all := lw_g (lw_at lw_m5 141 rfl) rfl
theorem q1173 : (Jvm.Cond.soleField "NestChartModel" "exits") ∈ lw_all := lw_g (lw_at lw_m5 142 rfl) rfl
theorem q1174 : (Jvm.Cond.lays "NestChartModel" "NestChartModel" "set" "I") ∈ lw_all := lw_g (lw_at lw_m5 143 rfl) rfl
theorem q1175 : (Jvm.Cond.soleField "NestChartModel" "set") ∈ lw_all := lw_g (lw_at lw_m5 144 rfl) rfl
theorem q1176 : (Jvm.Cond.laysFinal "NestChartModel" "NestChartModel" "row" "[I") ∈ lw_all := lw_g (lw_at lw_m5 145 rfl) rfl
theorem q1177 : (Jvm.Cond.soleField "NestChartModel" "row") ∈ lw_all := lw_g (lw_at lw_m5 146 rfl) rfl
theorem q1178 : (Jvm.Cond.superclass "NestChartModel" "java/lang/Object") ∈ lw_all := lw_g (lw_at lw_m5 147 rfl) rfl
theorem q1181 : (Jvm.Cond.instanceMethod ({ cls := "NestChartModel", name := "thrown", desc := "()I" } : Jvm.MethodName)) ∈ lw_all := lw_g (lw_at lw_m5 150 rfl) rfl
theorem q1182 : (Jvm.Cond.selects "NestChartModel" ({ cls := "NestChartModel", name := "thrown", desc := "()I" } : Jvm.MethodName) ({ cls := "NestChartModel", name := "thrown", desc := "()I" } : Jvm.MethodName)) ∈ lw_all := lw_g (lw_at lw_m5 151 rfl) rfl
theorem q1183 : (Jvm.Cond.code ({ cls := "NestChartModel", name := "thrown", desc := "()I" } : Jvm.MethodName) prog_17_method_2_code (1 : Nat) (Option.some Jvm.ClassFile.FieldType.int)) ∈ lw_all := lw_g (lw_at lw_m5 152 rfl) rfl
theorem q1185 : (Jvm.Cond.instanceMethod ({ cls := "NestChartModel", name := "type", desc := "(C)Z" } : Jvm.MethodName)) ∈ lw_all := lw_g (lw_at lw_m5 154 rfl) rfl
theorem q1186 : (Jvm.Cond.selects "NestChartModel" ({ cls := "NestChartModel", name := "type", desc := "(C)Z" } : Jvm.MethodName) ({ cls := "NestChartModel", name := "type", desc := "(C)Z" } : Jvm.MethodName)) ∈ lw_all := lw_g (lw_at lw_m5 155 rfl) rfl
theorem q1187 : (Jvm.Cond.code ({ cls := "NestChartModel", name := "type", desc := "(C)Z" } : Jvm.MethodName) prog_17_method_20_code (2 : Nat) (Option.some Jvm.ClassFile.FieldType.boolean)) ∈ lw_all := lw_g (lw_at lw_m5 156 rfl) rfl
theorem q1189 : (Jvm.Cond.instanceMethod ({ cls := "NestChartModel", name := "build", desc := "()I" } : Jvm.MethodName)) ∈ lw_all := lw_g (lw_at lw_m5 158 rfl) rfl
theorem q1190 : (Jvm.Cond.selects "NestChartModel" ({ cls := "NestChartModel", name := "build", desc := "()I" } : Jvm.MethodName) ({ cls := "NestChartModel", name := "build", desc := "()I" } : Jvm.MethodName)) ∈ lw_all := lw_g (lw_at lw_m5 159 rfl) rfl
theorem q1191 : (Jvm.Cond.code ({ cls := "NestChartModel", name := "build", desc := "()I" } : Jvm.MethodName) prog_17_method_21_code (2 : Nat) (Option.some Jvm.ClassFile.FieldType.int)) ∈ lw_all := lw_g (lw_at lw_m5 160 rfl) rfl
theorem q1192 : (Jvm.Cond.methodLink "NestChartModel" (228 : Nat) ({ cls := "NestChartModel", name := "readChart", desc := "()V" } : Jvm.MethodName)) ∈ lw_all := lw_g (lw_at lw_m5 161 rfl) rfl
theorem q1193 : (Jvm.Cond.privateMethod ({ cls := "NestChartModel", name := "readChart", desc := "()V" } : Jvm.MethodName)) ∈ lw_tbl := lw_at lw_m5 162 rfl
theorem q1194 : (Jvm.Cond.instanceMethod ({ cls := "NestChartModel", name := "readChart", desc := "()V" } : Jvm.MethodName)) ∈ lw_all := lw_g (lw_at lw_m5 163 rfl) rfl
theorem q1195 : (Jvm.Cond.code ({ cls := "NestChartModel", name := "readChart", desc := "()V" } : Jvm.MethodName) prog_17_method_18_code (6 : Nat) (Option.none : Option Jvm.ClassFile.FieldType)) ∈ lw_all := lw_g (lw_at lw_m5 164 rfl) rfl
theorem q1196 : (Jvm.Cond.methodLink "NestChartModel" (214 : Nat) ({ cls := "NestChartModel", name := "readState", desc := "(II)I" } : Jvm.MethodName)) ∈ lw_all := lw_g (lw_at lw_m5 165 rfl) rfl
theorem q1197 : (Jvm.Cond.privateMethod ({ cls := "NestChartModel", name := "readState", desc := "(II)I" } : Jvm.MethodName)) ∈ lw_tbl := lw_at lw_m5 166 rfl
theorem q1198 : (Jvm.Cond.instanceMethod ({ cls := "NestChartModel", name := "readState", desc := "(II)I" } : Jvm.MethodName)) ∈ lw_all := lw_g (lw_at lw_m5 167 rfl) rfl
theorem q1199 : (Jvm.Cond.code ({ cls := "NestChartModel", name := "readState", desc := "(II)I" } : Jvm.MethodName) prog_17_method_16_code (5 : Nat) (Option.some Jvm.ClassFile.FieldType.int)) ∈ lw_all := lw_g (lw_at lw_m5 168 rfl) rfl
theorem q1200 : (Jvm.Cond.methodLink "NestChartModel" (178 : Nat) ({ cls := "NestChartModel", name := "among", desc := "(CC)Z" } : Jvm.MethodName)) ∈ lw_all := lw_g (lw_at lw_m5 169 rfl) rfl
theorem q1201 : (Jvm.Cond.privateMethod ({ cls := "NestChartModel", name := "among", desc := "(CC)Z" } : Jvm.MethodName)) ∈ lw_tbl := lw_at lw_m5 170 rfl
theorem q1202 : (Jvm.Cond.instanceMethod ({ cls := "NestChartModel", name := "among", desc := "(CC)Z" } : Jvm.MethodName)) ∈ lw_all := lw_g (lw_at lw_m5 171 rfl) rfl
theorem q1203 : (Jvm.Cond.code ({ cls := "NestChartModel", name := "among", desc := "(CC)Z" } : Jvm.MethodName) prog_17_method_7_code (3 : Nat) (Option.some Jvm.ClassFile.FieldType.boolean)) ∈ lw_all := lw_g (lw_at lw_m5 172 rfl) rfl
theorem q1204 : (Jvm.Cond.methodLink "NestChartModel" (159 : Nat) ({ cls := "NestChartModel", name := "look", desc := "()C" } : Jvm.MethodName)) ∈ lw_all := lw_g (lw_at lw_m5 173 rfl) rfl
theorem q1205 : (Jvm.Cond.privateMethod ({ cls := "NestChartModel", name := "look", desc := "()C" } : Jvm.MethodName)) ∈ lw_tbl := lw_at lw_m5 174 rfl
theorem q1206 : (Jvm.Cond.instanceMethod ({ cls := "NestChartModel", name := "look", desc := "()C" } : Jvm.MethodName)) ∈ lw_all := lw_g (lw_at lw_m5 175 rfl) rfl
theorem q1207 : (Jvm.Cond.code ({ cls := "NestChartModel", name := "look", desc := "()C" } : Jvm.MethodName) prog_17_method_3_code (1 : Nat) (Option.some Jvm.ClassFile.FieldType.char)) ∈ lw_all := lw_g (lw_at lw_m5 176 rfl) rfl
theorem q1208 : (Jvm.Cond.methodLink "NestChartModel" (167 : Nat) ({ cls := "NestChartModel", name := "want", desc := "(Z)V" } : Jvm.MethodName)) ∈ lw_all := lw_g (lw_at lw_m5 177 rfl) rfl
theorem q1209 : (Jvm.Cond.privateMethod ({ cls := "NestChartModel", name := "want", desc := "(Z)V" } : Jvm.MethodName)) ∈ lw_tbl := lw_at lw_m5 178 rfl
theorem q1210 : (Jvm.Cond.instanceMethod ({ cls := "NestChartModel", name := "want", desc := "(Z)V" } : Jvm.MethodName)) ∈ lw_all := lw_g (lw_at lw_m5 179 rfl) rfl
theorem q1211 : (Jvm.Cond.code ({ cls := "NestChartModel", name := "want", desc := "(Z)V" } : Jvm.MethodName) prog_17_method_5_code (2 : Nat) (Option.none : Option Jvm.ClassFile.FieldType)) ∈ lw_all := lw_g (lw_at lw_m5 180 rfl) rfl
theorem q1212 : (Jvm.Cond.methodLink "NestChartModel" (182 : Nat) ({ cls := "NestChartModel", name := "next", desc := "()C" } : Jvm.MethodName)) ∈ lw_all := lw_g (lw_at lw_m5 181 rfl) rfl
theorem q1213 : (Jvm.Cond.privateMethod ({ cls := "NestChartModel", name := "next", desc := "()C" } : Jvm.MethodName)) ∈ lw_tbl := lw_at lw_m5 182 rfl
theorem q1214 : (Jvm.Cond.instanceMethod ({ cls := "NestChartModel", name := "next", desc := "()C" } : Jvm.MethodName)) ∈ lw_all := lw_g (lw_at lw_m5 183 rfl) rfl
theorem q1215 : (Jvm.Cond.code ({ cls := "NestChartModel", name := "next", desc := "()C" } : Jvm.MethodName) prog_17_method_8_code (1 : Nat) (Option.some Jvm.ClassFile.FieldType.char)) ∈ lw_all := lw_g (lw_at lw_m5 184 rfl) rfl
theorem q1216 : (Jvm.Cond.methodLink "NestChartModel" (163 : Nat) ({ cls := "NestChartModel", name := "takes", desc := "(C)Z" } : Jvm.MethodName)) ∈ lw_all := lw_g (lw_at lw_m5 185 rfl) rfl
theorem q1217 : (Jvm.Cond.privateMethod ({ cls := "NestChartModel", name := "takes", desc := "(C)Z" } : Jvm.MethodName)) ∈ lw_tbl := lw_at lw_m5 186 rfl
theorem q1218 : (Jvm.Cond.instanceMethod ({ cls := "NestChartModel", name := "takes", desc := "(C)Z" } : Jvm.MethodName)) ∈ lw_all := lw_g (lw_at lw_m5 187 rfl) rfl
theorem q1219 : (Jvm.Cond.code ({ cls := "NestChartModel", name := "takes", desc := "(C)Z" } : Jvm.MethodName) prog_17_method_4_code (2 : Nat) (Option.some Jvm.ClassFile.FieldType.boolean)) ∈ lw_all := lw_g (lw_at lw_m5 188 rfl) rfl
theorem q1220 : (Jvm.Cond.methodLink "NestChartModel" (218 : Nat) ({ cls := "NestChartModel", name := "readItems", desc := "(I)V" } : Jvm.MethodName)) ∈ lw_all := lw_g (lw_at lw_m5 189 rfl) rfl
theorem q1221 : (Jvm.Cond.privateMethod ({ cls := "NestChartModel", name := "readItems", desc := "(I)V" } : Jvm.MethodName)) ∈ lw_tbl := lw_at lw_m5 190 rfl
theorem q1222 : (Jvm.Cond.instanceMethod ({ cls := "NestChartModel", name := "readItems", desc := "(I)V" } : Jvm.MethodName)) ∈ lw_all := lw_g (lw_at lw_m5 191 rfl) rfl
theorem q1223 : (Jvm.Cond.code ({ cls := "NestChartModel", name := "readItems", desc := "(I)V" } : Jvm.MethodName) prog_17_method_15_code (2 : Nat) (Option.none : Option Jvm.ClassFile.FieldType)) ∈ lw_all := lw_g (lw_at lw_m5 192 rfl) rfl
theorem q1224 : (Jvm.Cond.methodLink "NestChartModel" (208 : Nat) ({ cls := "NestChartModel", name := "readActions", desc := "(I)V" } : Jvm.MethodName)) ∈ lw_all := lw_g (lw_at lw_m5 193 rfl) rfl
theorem q1225 : (Jvm.Cond.privateMethod ({ cls := "NestChartModel", name := "readActions", desc := "(I)V" } : Jvm.MethodName)) ∈ lw_tbl := lw_at lw_m5 194 rfl
theorem q1226 : (Jvm.Cond.instanceMethod ({ cls := "NestChartModel", name := "readActions", desc := "(I)V" } : Jvm.MethodName)) ∈ lw_all := lw_g (lw_at lw_m5 195 rfl) rfl
theorem q1227 : (Jvm.Cond.code ({ cls := "NestChartModel", name := "readActions", desc := "(I)V" } : Jvm.MethodName) prog_17_method_13_code (2 : Nat) (Option.none : Option Jvm.ClassFile.FieldType)) ∈ lw_all := lw_g (lw_at lw_m5 196 rfl) rfl
theorem q1228 : (Jvm.Cond.methodLink "NestChartModel" (197 : Nat) ({ cls := "NestChartModel", name := "readAction", desc := "(I)V" } : Jvm.MethodName)) ∈ lw_all := lw_g (lw_at lw_m5 197 rfl) rfl
theorem q1229 : (Jvm.Cond.privateMethod ({ cls := "NestChartModel", name := "readAction", desc := "(I)V" } : Jvm.MethodName)) ∈ lw_tbl := lw_at lw_m5 198 rfl
theorem q1230 : (Jvm.Cond.instanceMethod ({ cls := "NestChartModel", name := "readAction", desc := "(I)V" } : Jvm.MethodName)) ∈ lw_all := lw_g (lw_at lw_m5 199 rfl) rfl
theorem q1231 : (Jvm.Cond.code ({ cls := "NestChartModel", name := "readAction", desc := "(I)V" } : Jvm.MethodName) prog_17_method_12_code (3 : Nat) (Option.none : Option Jvm.ClassFile.FieldType)) ∈ lw_all := lw_g (lw_at lw_m5 200 rfl) rfl
theorem q1232 : (Jvm.Cond.methodLink "NestChartModel" (194 : Nat) ({ cls := "NestChartModel", name := "readOperand", desc := "()V" } : Jvm.MethodName)) ∈ lw_all := lw_g (lw_at lw_m5 201 rfl) rfl
theorem q1233 : (Jvm.Cond.privateMethod ({ cls := "NestChartModel", name := "readOperand", desc := "()V" } : Jvm.MethodName)) ∈ lw_tbl := lw_at lw_m5 202 rfl
theorem q1234 : (Jvm.Cond.instanceMethod ({ cls := "NestChartModel", name := "readOperand", desc := "()V" } : Jvm.MethodName)) ∈ lw_all := lw_g (lw_at lw_m5 203 rfl) rfl
theorem q1235 : (Jvm.Cond.code ({ cls := "NestChartModel", name := "readOperand", desc := "()V" } : Jvm.MethodName) prog_17_method_9_code (3 : Nat) (Option.none : Option Jvm.ClassFile.FieldType)) ∈ lw_all := lw_g (lw_at lw_m5 204 rfl) rfl
theorem q1236 : (Jvm.Cond.constantDouble "NestChartModel" (185 : Nat) (4621819117588971520 : UInt64)) ∈ lw_all := lw_g (lw_at lw_m5 205 rfl) rfl
theorem q1237 : (Jvm.Cond.methodLink "NestChartModel" (211 : Nat) ({ cls := "NestChartModel", name := "readTransition", desc := "(I)V" } : Jvm.MethodName)) ∈ lw_all := lw_g (lw_at lw_m5 206 rfl) rfl
theorem q1238 : (Jvm.Cond.privateMethod ({ cls := "NestChartModel", name := "readTransition", desc := "(I)V" } : Jvm.MethodName)) ∈ lw_tbl := lw_at lw_m5 207 rfl
theorem q1239 : (Jvm.Cond.instanceMethod ({ cls := "NestChartModel", name := "readTransition", desc := "(I)V" } : Jvm.MethodName)) ∈ lw_all := lw_g (lw_at lw_m5 208 rfl) rfl
theorem q1240 : (Jvm.Cond.code ({ cls := "NestChartModel", name := "readTransition", desc := "(I)V" } : Jvm.MethodName) prog_17_method_14_code (4 : Nat) (Option.none : Option Jvm.ClassFile.FieldType)) ∈ lw_all := lw_g (lw_at lw_m5 209 rfl) rfl
theorem q1241 : (Jvm.Cond.methodLink "NestChartModel" (201 : Nat) ({ cls := "NestChartModel", name := "readTest", desc := "()V" } : Jvm.MethodName)) ∈ lw_all := lw_g (lw_at lw_m5 210 rfl) rfl
theorem q1242 : (Jvm.Cond.privateMethod ({ cls := "NestChartModel", name := "readTest", desc := "()V" } : Jvm.MethodName)) ∈ lw_tbl := lw_at lw_m5 211 rfl
theorem q1243 : (Jvm.Cond.instanceMethod ({ cls := "NestChartModel", name := "readTest", desc := "()V" } : Jvm.MethodName)) ∈ lw_all := lw_g (lw_at lw_m5 212 rfl) rfl
theorem q1244 : (Jvm.Cond.code ({ cls := "NestChartModel", name := "readTest", desc := "()V" } : Jvm.MethodName) prog_17_method_11_code (2 : Nat) (Option.none : Option Jvm.ClassFile.FieldType)) ∈ lw_all := lw_g (lw_at lw_m5 213 rfl) rfl
theorem q1245 : (Jvm.Cond.methodLink "NestChartModel" (190 : Nat) ({ cls := "NestChartModel", name := "readName", desc := "(Z)I" } : Jvm.MethodName)) ∈ lw_all := lw_g (lw_at lw_m5 214 rfl) rfl
theorem q1246 : (Jvm.Cond.privateMethod ({ cls := "NestChartModel", name := "readName", desc := "(Z)I" } : Jvm.MethodName)) ∈ lw_tbl := lw_at lw_m5 215 rfl
theorem q1247 : (Jvm.Cond.instanceMethod ({ cls := "NestChartModel", name := "readName", desc := "(Z)I" } : Jvm.MethodName)) ∈ lw_all := lw_g (lw_at lw_m5 216 rfl) rfl
theorem q1248 : (Jvm.Cond.code ({ cls := "NestChartModel", name := "readName", desc := "(Z)I" } : Jvm.MethodName) prog_17_method_10_code (4 : Nat) (Option.some Jvm.ClassFile.FieldType.int)) ∈ lw_all := lw_g (lw_at lw_m5 217 rfl) rfl
theorem q1249 : (Jvm.Cond.methodLink "NestChartModel" (204 : Nat) ({ cls := "NestChartModel", name := "take", desc := "(C)V" } : Jvm.MethodName)) ∈ lw_all := lw_g (lw_at lw_m5 218 rfl) rfl
theorem q1250 : (Jvm.Cond.privateMethod ({ cls := "NestChartModel", name := "take", desc := "(C)V" } : Jvm.MethodName)) ∈ lw_tbl := lw_at lw_m5 219 rfl
theorem q1251 : (Jvm.Cond.instanceMethod ({ cls := "NestChartModel", name := "take", desc := "(C)V" } : Jvm.MethodName)) ∈ lw_all := lw_g (lw_at lw_m5 220 rfl) rfl
theorem q1252 : (Jvm.Cond.code ({ cls := "NestChartModel", name := "take", desc := "(C)V" } : Jvm.MethodName) prog_17_method_6_code (2 : Nat) (Option.none : Option Jvm.ClassFile.FieldType)) ∈ lw_all := lw_g (lw_at lw_m5 221 rfl) rfl
theorem q1253 : (Jvm.Cond.methodLink "NestChartModel" (221 : Nat) ({ cls := "NestChartModel", name := "innerOf", desc := "(I)I" } : Jvm.MethodName)) ∈ lw_all := lw_g (lw_at lw_m5 222 rfl) rfl
theorem q1254 : (Jvm.Cond.privateMethod ({ cls := "NestChartModel", name := "innerOf", desc := "(I)I" } : Jvm.MethodName)) ∈ lw_tbl := lw_at lw_m5 223 rfl
theorem q1255 : (Jvm.Cond.instanceMethod ({ cls := "NestChartModel", name := "innerOf", desc := "(I)I" } : Jvm.MethodName)) ∈ lw_all := lw_g (lw_at lw_m5 224 rfl) rfl
theorem q1256 : (Jvm.Cond.code ({ cls := "NestChartModel", name := "innerOf", desc := "(I)I" } : Jvm.MethodName) prog_17_method_17_code (4 : Nat) (Option.some Jvm.ClassFile.FieldType.int)) ∈ lw_all := lw_g (lw_at lw_m5 225 rfl) rfl
theorem q1257 : (Jvm.Cond.methodLink "NestChartModel" (231 : Nat) ({ cls := "NestChartModel", name := "findNames", desc := "()V" } : Jvm.MethodName)) ∈ lw_all := lw_g (lw_at lw_m5 226 rfl) rfl
theorem q1258 : (Jvm.Cond.privateMethod ({ cls := "NestChartModel", name := "findNames", desc := "()V" } : Jvm.MethodName)) ∈ lw_tbl := lw_at lw_m5 227 rfl
theorem q1259 : (Jvm.Cond.instanceMethod ({ cls := "NestChartModel", name := "findNames", desc := "()V" } : Jvm.MethodName)) ∈ lw_all := lw_g (lw_at lw_m5 228 rfl) rfl
theorem q1260 : (Jvm.Cond.code ({ cls := "NestChartModel", name := "findNames", desc := "()V" } : Jvm.MethodName) prog_17_method_19_code (3 : Nat) (Option.none : Option Jvm.ClassFile.FieldType)) ∈ lw_all := lw_g (lw_at lw_m5 229 rfl) rfl
theorem q1261 : (Jvm.Cond.methodLink "NestChartModel" (243 : Nat) ({ cls := "NestChartModel", name := "forget", desc := "()V" } : Jvm.MethodName)) ∈ lw_all := lw_g (lw_at lw_m5 230 rfl) rfl
theorem q1262 : (Jvm.Cond.privateMethod ({ cls := "NestChartModel", name := "forget", desc := "()V" } : Jvm.MethodName)) ∈ lw_tbl := lw_at lw_m5 231 rfl
theorem q1263 : (Jvm.Cond.instanceMethod ({ cls := "NestChartModel", name := "forget", desc := "()V" } : Jvm.MethodName)) ∈ lw_all := lw_g (lw_at lw_m5 232 rfl) rfl
theorem q1264 : (Jvm.Cond.code ({ cls := "NestChartModel", name := "forget", desc := "()V" } : Jvm.MethodName) prog_17_method_22_code (2 : Nat) (Option.none : Option Jvm.ClassFile.FieldType)) ∈ lw_all := lw_g (lw_at lw_m5 233 rfl) rfl
theorem q1266 : (Jvm.Cond.instanceMethod ({ cls := "NestChartModel", name := "place", desc := "()I" } : Jvm.MethodName)) ∈ lw_all := lw_g (lw_at lw_m5 235 rfl) rfl
theorem q1267 : (Jvm.Cond.selects "NestChartModel" ({ cls := "NestChartModel", name := "place", desc := "()I" } : Jvm.MethodName) ({ cls := "NestChartModel", name := "place", desc := "()I" } : Jvm.MethodName)) ∈ lw_all := lw_g (lw_at lw_m5 236 rfl) rfl
theorem q1268 : (Jvm.Cond.code ({ cls := "NestChartModel", name := "place", desc := "()I" } : Jvm.MethodName) prog_17_method_23_code (1 : Nat) (Option.some Jvm.ClassFile.FieldType.int)) ∈ lw_all := lw_g (lw_at lw_m5 237 rfl) rfl
theorem q1270 : (Jvm.Cond.instanceMethod ({ cls := "NestChartModel", name := "start", desc := "()I" } : Jvm.MethodName)) ∈ lw_all := lw_g (lw_at lw_m5 239 rfl) rfl
theorem q1271 : (Jvm.Cond.selects "NestChartModel" ({ cls := "NestChartModel", name := "start", desc := "()I" } : Jvm.MethodName) ({ cls := "NestChartModel", name := "start", desc := "()I" } : Jvm.MethodName)) ∈ lw_all := lw_g (lw_at lw_m6 0 rfl) rfl
theorem q1272 : (Jvm.Cond.code ({ cls := "NestChartModel", name := "start", desc := "()I" } : Jvm.MethodName) prog_17_method_47_code (1 : Nat) (Option.some Jvm.ClassFile.FieldType.int)) ∈ lw_all := lw_g (lw_at lw_m6 1 rfl) rfl
theorem q1273 : (Jvm.Cond.methodLink "NestChartModel" (334 : Nat) ({ cls := "NestChartModel", name := "open", desc := "()V" } : Jvm.MethodName)) ∈ lw_all := lw_g (lw_at lw_m6 2 rfl) rfl
theorem q1274 : (Jvm.Cond.privateMethod ({ cls := "NestChartModel", name := "open", desc := "()V" } : Jvm.MethodName)) ∈ lw_tbl := lw_at lw_m6 3 rfl
theorem q1275 : (Jvm.Cond.instanceMethod ({ cls := "NestChartModel", name := "open", desc := "()V" } : Jvm.MethodName)) ∈ lw_all := lw_g (lw_at lw_m6 4 rfl) rfl
theorem q1276 : (Jvm.Cond.code ({ cls := "NestChartModel", name := "open", desc := "()V" } : Jvm.MethodName) prog_17_method_45_code (1 : Nat) (Option.none : Option Jvm.ClassFile.FieldType)) ∈ lw_all := lw_g (lw_at lw_m6 5 rfl) rfl
theorem q1277 : (Jvm.Cond.methodLink "NestChartModel" (267 : Nat) ({ cls := "NestChartModel", name := "down", desc := "(I)V" } : Jvm.MethodName)) ∈ lw_all := lw_g (lw_at lw_m6 6 rfl) rfl
theorem q1278 : (Jvm.Cond.privateMethod ({ cls := "NestChartModel", name := "down", desc := "(I)V" } : Jvm.MethodName)) ∈ lw_tbl := lw_at lw_m6 7 rfl
theorem q1279 : (Jvm.Cond.instanceMethod ({ cls := "NestChartModel", name := "down", desc := "(I)V" } : Jvm.MethodName)) ∈ lw_all := lw_g (lw_at lw_m6 8 rfl) rfl
theorem q1280 : (Jvm.Cond.code ({ cls := "NestChartModel", name := "down", desc := "(I)V" } : Jvm.MethodName) prog_17_method_28_code (6 : Nat) (Option.none : Option Jvm.ClassFile.FieldType)) ∈ lw_all := lw_g (lw_at lw_m6 9 rfl) rfl
theorem q1281 : (Jvm.Cond.methodLink "NestChartModel" (258 : Nat) ({ cls := "NestChartModel", name := "kindOf", desc := "(I)I" } : Jvm.MethodName)) ∈ lw_all := lw_g (lw_at lw_m6 10 rfl) rfl
theorem q1282 : (Jvm.Cond.privateMethod ({ cls := "NestChartModel", name := "kindOf", desc := "(I)I" } : Jvm.MethodName)) ∈ lw_tbl := lw_at lw_m6 11 rfl
theorem q1283 : (Jvm.Cond.instanceMethod ({ cls := "NestChartModel", name := "kindOf", desc := "(I)I" } : Jvm.MethodName)) ∈ lw_all := lw_g (lw_at lw_m6 12 rfl) rfl
theorem q1284 : (Jvm.Cond.code ({ cls := "NestChartModel", name := "kindOf", desc := "(I)I" } : Jvm.MethodName) prog_17_method_24_code (2 : Nat) (Option.some Jvm.ClassFile.FieldType.int)) ∈ lw_all := lw_g (lw_at lw_m6 13 rfl) rfl
theorem q1285 : (Jvm.Cond.methodLink "NestChartModel" (261 : Nat) ({ cls := "NestChartModel", name := "belowOf", desc := "(I)I" } : Jvm.MethodName)) ∈ lw_all := lw_g (lw_at lw_m6 14 rfl) rfl
theorem q1286 : (Jvm.Cond.privateMethod ({ cls := "NestChartModel", name := "belowOf", desc := "(I)I" } : Jvm.MethodName)) ∈ lw_tbl := lw_at lw_m6 15 rfl
theorem q1287 : (Jvm.Cond.instanceMethod ({ cls := "NestChartModel", name := "belowOf", desc := "(I)I" } : Jvm.MethodName)) ∈ lw_all := lw_g (lw_at lw_m6 16 rfl) rfl
theorem q1288 : (Jvm.Cond.code ({ cls := "NestChartModel", name := "belowOf", desc := "(I)I" } : Jvm.MethodName) prog_17_method_26_code (2 : Nat) (Option.some Jvm.ClassFile.FieldType.int)) ∈ lw_all := lw_g (lw_at lw_m6 17 rfl) rfl
theorem q1289 : (Jvm.Cond.methodLink "NestChartModel" (264 : Nat) ({ cls := "NestChartModel", name := "outerOf", desc := "(I)I" } : Jvm.MethodName)) ∈ lw_all := lw_g (lw_at lw_m6 18 rfl) rfl
theorem q1290 : (Jvm.Cond.privateMethod ({ cls := "NestChartModel", name := "outerOf", desc := "(I)I" } : Jvm.MethodName)) ∈ lw_tbl := lw_at lw_m6 19 rfl
theorem q1291 : (Jvm.Cond.instanceMethod ({ cls := "NestChartModel", name := "outerOf", desc := "(I)I" } : Jvm.MethodName)) ∈ lw_all := lw_g (lw_at lw_m6 20 rfl) rfl
theorem q1292 : (Jvm.Cond.code ({ cls := "NestChartModel", name := "outerOf", desc := "(I)I" } : Jvm.MethodName) prog_17_method_25_code (2 : Nat) (Option.some Jvm.ClassFile.FieldType.int)) ∈ lw_all := lw_g (lw_at lw_m6 21 rfl) rfl
theorem q1293 : (Jvm.Cond.methodLink "NestChartModel" (322 : Nat) ({ cls := "NestChartModel", name := "enter", desc := "(I)V" } : Jvm.MethodName)) ∈ lw_all := lw_g (lw_at lw_m6 22 rfl) rfl
theorem q1294 : (Jvm.Cond.privateMethod ({ cls := "NestChartModel", name := "enter", desc := "(I)V" } : Jvm.MethodName)) ∈ lw_tbl := lw_at lw_m6 23 rfl
theorem q1295 : (Jvm.Cond.instanceMethod ({ cls := "NestChartModel", name := "enter", desc := "(I)V" } : Jvm.MethodName)) ∈ lw_all := lw_g (lw_at lw_m6 24 rfl) rfl
theorem q1296 : (Jvm.Cond.code ({ cls := "NestChartModel", name := "enter", desc := "(I)V" } : Jvm.MethodName) prog_17_method_41_code (3 : Nat) (Option.none : Option Jvm.ClassFile.FieldType)) ∈ lw_all := lw_g (lw_at lw_m6 25 rfl) rfl
theorem q1297 : (Jvm.Cond.methodLink "NestChartModel" (277 : Nat) ({ cls := "NestChartModel", name := "isIn", desc := "(II)Z" } : Jvm.MethodName)) ∈ lw_all := lw_g (lw_at lw_m6 26 rfl) rfl
theorem q1298 : (Jvm.Cond.privateMethod ({ cls := "NestChartModel", name := "isIn", desc := "(II)Z" } : Jvm.MethodName)) ∈ lw_tbl := lw_at lw_m6 27 rfl
theorem q1299 : (Jvm.Cond.instanceMethod ({ cls := "NestChartModel", name := "isIn", desc := "(II)Z" } : Jvm.MethodName)) ∈ lw_all := lw_g (lw_at lw_m6 28 rfl) rfl
theorem q1300 : (Jvm.Cond.code ({ cls := "NestChartModel", name := "isIn", desc := "(II)Z" } : Jvm.MethodName) prog_17_method_27_code (3 : Nat) (Option.some Jvm.ClassFile.FieldType.boolean)) ∈ lw_all := lw_g (lw_at lw_m6 29 rfl) rfl
theorem q1301 : (Jvm.Cond.methodLink "NestChartModel" (306 : Nat) ({ cls := "NestChartModel", name := "note", desc := "(I)V" } : Jvm.MethodName)) ∈ lw_all := lw_g (lw_at lw_m6 30 rfl) rfl
theorem q1302 : (Jvm.Cond.privateMethod ({ cls := "NestChartModel", name := "note", desc := "(I)V" } : Jvm.MethodName)) ∈ lw_tbl := lw_at lw_m6 31 rfl
theorem q1303 : (Jvm.Cond.instanceMethod ({ cls := "NestChartModel", name := "note", desc := "(I)V" } : Jvm.MethodName)) ∈ lw_all := lw_g (lw_at lw_m6 32 rfl) rfl
theorem q1304 : (Jvm.Cond.code ({ cls := "NestChartModel", name := "note", desc := "(I)V" } : Jvm.MethodName) prog_17_method_39_code (2 : Nat) (Option.none : Option Jvm.ClassFile.FieldType)) ∈ lw_all := lw_g (lw_at lw_m6 33 rfl) rfl
theorem q1305 : (Jvm.Cond.methodLink "NestChartModel" (303 : Nat) ({ cls := "NestChartModel", name := "act", desc := "(I)V" } : Jvm.MethodName)) ∈ lw_all := lw_g (lw_at lw_m6 34 rfl) rfl
theorem q1306 : (Jvm.Cond.privateMethod ({ cls := "NestChartModel", name := "act", desc := "(I)V" } : Jvm.MethodName)) ∈ lw_tbl := lw_at lw_m6 35 rfl
theorem q1307 : (Jvm.Cond.instanceMethod ({ cls := "NestChartModel", name := "act", desc := "(I)V" } : Jvm.MethodName)) ∈ lw_all := lw_g (lw_at lw_m6 36 rfl) rfl
theorem q1308 : (Jvm.Cond.code ({ cls := "NestChartModel", name := "act", desc := "(I)V" } : Jvm.MethodName) prog_17_method_31_code (3 : Nat) (Option.none : Option Jvm.ClassFile.FieldType)) ∈ lw_all := lw_g (lw_at lw_m6 37 rfl) rfl
theorem q1309 : (Jvm.Cond.methodLink "NestChartModel" (274 : Nat) ({ cls := "NestChartModel", name := "doAction", desc := "(I)V" } : Jvm.MethodName)) ∈ lw_all := lw_g (lw_at lw_m6 38 rfl) rfl
theorem q1310 : (Jvm.Cond.privateMethod ({ cls := "NestChartModel", name := "doAction", desc := "(I)V" } : Jvm.MethodName)) ∈ lw_tbl := lw_at lw_m6 39 rfl
theorem q1311 : (Jvm.Cond.instanceMethod ({ cls := "NestChartModel", name := "doAction", desc := "(I)V" } : Jvm.MethodName)) ∈ lw_all := lw_g (lw_at lw_m6 40 rfl) rfl
theorem q1312 : (Jvm.Cond.code ({ cls := "NestChartModel", name := "doAction", desc := "(I)V" } : Jvm.MethodName) prog_17_method_30_code (9 : Nat) (Option.none : Option Jvm.ClassFile.FieldType)) ∈ lw_all := lw_g (lw_at lw_m6 41 rfl) rfl
theorem q1313 : (Jvm.Cond.constantDouble "NestChartModel" (270 : Nat) (4741671816366391296 : UInt64)) ∈ lw_all := lw_g (lw_at lw_m6 42 rfl) rfl
theorem q1314 : (Jvm.Cond.constantDouble "NestChartModel" (272 : Nat) (13965043853221167104 : UInt64)) ∈ lw_all := lw_g (lw_at lw_m6 43 rfl) rfl
theorem q1315 : (Jvm.Cond.methodLink "NestChartModel" (331 : Nat) ({ cls := "NestChartModel", name := "runOn", desc := "()V" } : Jvm.MethodName)) ∈ lw_all := lw_g (lw_at lw_m6 44 rfl) rfl
theorem q1316 : (Jvm.Cond.privateMethod ({ cls := "NestChartModel", name := "runOn", desc := "()V" } : Jvm.MethodName)) ∈ lw_tbl := lw_at lw_m6 45 rfl
theorem q1317 : (Jvm.Cond.instanceMethod ({ cls := "NestChartModel", name := "runOn", desc := "()V" } : Jvm.MethodName)) ∈ lw_all := lw_g (lw_at lw_m6 46 rfl) rfl
theorem q1318 : (Jvm.Cond.code ({ cls := "NestChartModel", name := "runOn", desc := "()V" } : Jvm.MethodName) prog_17_method_43_code (4 : Nat) (Option.none : Option Jvm.ClassFile.FieldType)) ∈ lw_all := lw_g (lw_at lw_m6 47 rfl) rfl
theorem q1319 : (Jvm.Cond.methodLink "NestChartModel" (325 : Nat) ({ cls := "NestChartModel", name := "choose", desc := "(I)V" } : Jvm.MethodName)) ∈ lw_all := lw_g (lw_at lw_m6 48 rfl) rfl
theorem q1320 : (Jvm.Cond.privateMethod ({ cls := "NestChartModel", name := "choose", desc := "(I)V" } : Jvm.MethodName)) ∈ lw_tbl := lw_at lw_m6 49 rfl
theorem q1321 : (Jvm.Cond.instanceMethod ({ cls := "NestChartModel", name := "choose", desc := "(I)V" } : Jvm.MethodName)) ∈ lw_all := lw_g (lw_at lw_m6 50 rfl) rfl
theorem q1322 : (Jvm.Cond.code ({ cls := "NestChartModel", name := "choose", desc := "(I)V" } : Jvm.MethodName) prog_17_method_38_code (6 : Nat) (Option.none : Option Jvm.ClassFile.FieldType)) ∈ lw_all := lw_g (lw_at lw_m6 51 rfl) rfl
theorem q1323 : (Jvm.Cond.methodLink "NestChartModel" (291 : Nat) ({ cls := "NestChartModel", name := "firstOf", desc := "(II)I" } : Jvm.MethodName)) ∈ lw_all := lw_g (lw_at lw_m6 52 rfl) rfl
theorem q1324 : (Jvm.Cond.privateMethod ({ cls := "NestChartModel", name := "firstOf", desc := "(II)I" } : Jvm.MethodName)) ∈ lw_tbl := lw_at lw_m6 53 rfl
theorem q1325 : (Jvm.Cond.instanceMethod ({ cls := "NestChartModel", name := "firstOf", desc := "(II)I" } : Jvm.MethodName)) ∈ lw_all := lw_g (lw_at lw_m6 54 rfl) rfl
theorem q1326 : (Jvm.Cond.code ({ cls := "NestChartModel", name := "firstOf", desc := "(II)I" } : Jvm.MethodName) prog_17_method_34_code (4 : Nat) (Option.some Jvm.ClassFile.FieldType.int)) ∈ lw_all := lw_g (lw_at lw_m6 55 rfl) rfl
theorem q1327 : (Jvm.Cond.methodLink "NestChartModel" (285 : Nat) ({ cls := "NestChartModel", name := "enabled", desc := "(II)Z" } : Jvm.MethodName)) ∈ lw_all := lw_g (lw_at lw_m6 56 rfl) rfl
theorem q1328 : (Jvm.Cond.privateMethod ({ cls := "NestChartModel", name := "enabled", desc := "(II)Z" } : Jvm.MethodName)) ∈ lw_tbl := lw_at lw_m6 57 rfl
theorem q1329 : (Jvm.Cond.instanceMethod ({ cls := "NestChartModel", name := "enabled", desc := "(II)Z" } : Jvm.MethodName)) ∈ lw_all := lw_g (lw_at lw_m6 58 rfl) rfl
theorem q1330 : (Jvm.Cond.code ({ cls := "NestChartModel", name := "enabled", desc := "(II)Z" } : Jvm.MethodName) prog_17_method_33_code (4 : Nat) (Option.some Jvm.ClassFile.FieldType.boolean)) ∈ lw_all := lw_g (lw_at lw_m6 59 rfl) rfl
theorem q1331 : (Jvm.Cond.methodLink "NestChartModel" (281 : Nat) ({ cls := "NestChartModel", name := "holds", desc := "(I)Z" } : Jvm.MethodName)) ∈ lw_all := lw_g (lw_at lw_m6 60 rfl) rfl
theorem q1332 : (Jvm.Cond.privateMethod ({ cls := "NestChartModel", name := "holds", desc := "(I)Z" } : Jvm.MethodName)) ∈ lw_tbl := lw_at lw_m6 61 rfl
theorem q1333 : (Jvm.Cond.instanceMethod ({ cls := "NestChartModel", name := "holds", desc := "(I)Z" } : Jvm.MethodName)) ∈ lw_all := lw_g (lw_at lw_m6 62 rfl) rfl
theorem q1334 : (Jvm.Cond.code ({ cls := "NestChartModel", name := "holds", desc := "(I)Z" } : Jvm.MethodName) prog_17_method_32_code (7 : Nat) (Option.some Jvm.ClassFile.FieldType.boolean)) ∈ lw_all := lw_g (lw_at lw_m6 63 rfl) rfl
theorem q1335 : (Jvm.Cond.methodLink "NestChartModel" (294 : Nat) ({ cls := "NestChartModel", name := "aim", desc := "(I)V" } : Jvm.MethodName)) ∈ lw_all := lw_g (lw_at lw_m6 64 rfl) rfl
theorem q1336 : (Jvm.Cond.privateMethod ({ cls := "NestChartModel", name := "aim", desc := "(I)V" } : Jvm.MethodName)) ∈ lw_tbl := lw_at lw_m6 65 rfl
theorem q1337 : (Jvm.Cond.instanceMethod ({ cls := "NestChartModel", name := "aim", desc := "(I)V" } : Jvm.MethodName)) ∈ lw_all := lw_g (lw_at lw_m6 66 rfl) rfl
theorem q1338 : (Jvm.Cond.code ({ cls := "NestChartModel", name := "aim", desc := "(I)V" } : Jvm.MethodName) prog_17_method_35_code (7 : Nat) (Option.none : Option Jvm.ClassFile.FieldType)) ∈ lw_all := lw_g (lw_at lw_m6 67 rfl) rfl
theorem q1339 : (Jvm.Cond.methodLink "NestChartModel" (297 : Nat) ({ cls := "NestChartModel", name := "stays", desc := "(I)Z" } : Jvm.MethodName)) ∈ lw_all := lw_g (lw_at lw_m6 68 rfl) rfl
theorem q1340 : (Jvm.Cond.privateMethod ({ cls := "NestChartModel", name := "stays", desc := "(I)Z" } : Jvm.MethodName)) ∈ lw_tbl := lw_at lw_m6 69 rfl
theorem q1341 : (Jvm.Cond.instanceMethod ({ cls := "NestChartModel", name := "stays", desc := "(I)Z" } : Jvm.MethodName)) ∈ lw_all := lw_g (lw_at lw_m6 70 rfl) rfl
theorem q1342 : (Jvm.Cond.code ({ cls := "NestChartModel", name := "stays", desc := "(I)Z" } : Jvm.MethodName) prog_17_method_37_code (3 : Nat) (Option.some Jvm.ClassFile.FieldType.boolean)) ∈ lw_all := lw_g (lw_at lw_m6 71 rfl) rfl
theorem q1343 : (Jvm.Cond.methodLink "NestChartModel" (300 : Nat) ({ cls := "NestChartModel", name := "drop", desc := "(I)V" } : Jvm.MethodName)) ∈ lw_all := lw_g (lw_at lw_m6 72 rfl) rfl
theorem q1344 : (Jvm.Cond.privateMethod ({ cls := "NestChartModel", name := "drop", desc := "(I)V" } : Jvm.MethodName)) ∈ lw_tbl := lw_at lw_m6 73 rfl
theorem q1345 : (Jvm.Cond.instanceMethod ({ cls := "NestChartModel", name := "drop", desc := "(I)V" } : Jvm.MethodName)) ∈ lw_all := lw_g (lw_at lw_m6 74 rfl) rfl
theorem q1346 : (Jvm.Cond.code ({ cls := "NestChartModel", name := "drop", desc := "(I)V" } : Jvm.MethodName) prog_17_method_36_code (3 : Nat) (Option.none : Option Jvm.ClassFile.FieldType)) ∈ lw_all := lw_g (lw_at lw_m6 75 rfl) rfl
theorem q1347 : (Jvm.Cond.methodLink "NestChartModel" (328 : Nat) ({ cls := "NestChartModel", name := "step", desc := "()V" } : Jvm.MethodName)) ∈ lw_all := lw_g (lw_at lw_m6 76 rfl) rfl
theorem q1348 : (Jvm.Cond.privateMethod ({ cls := "NestChartModel", name := "step", desc := "()V" } : Jvm.MethodName)) ∈ lw_tbl := lw_at lw_m6 77 rfl
theorem q1349 : (Jvm.Cond.instanceMethod ({ cls := "NestChartModel", name := "step", desc := "()V" } : Jvm.MethodName)) ∈ lw_all := lw_g (lw_at lw_m6 78 rfl) rfl
theorem q1350 : (Jvm.Cond.code ({ cls := "NestChartModel", name := "step", desc := "()V" } : Jvm.MethodName) prog_17_method_42_code (4 : Nat) (Option.none : Option Jvm.ClassFile.FieldType)) ∈ lw_all := lw_g (lw_at lw_m6 79 rfl) rfl
theorem q1351 : (Jvm.Cond.methodLink "NestChartModel" (315 : Nat) ({ cls := "NestChartModel", name := "leave", desc := "(I)V" } : Jvm.MethodName)) ∈ lw_all := lw_g (lw_at lw_m6 80 rfl) rfl
theorem q1352 : (Jvm.Cond.privateMethod ({ cls := "NestChartModel", name := "leave", desc := "(I)V" } : Jvm.MethodName)) ∈ lw_tbl := lw_at lw_m6 81 rfl
theorem q1353 : (Jvm.Cond.instanceMethod ({ cls := "NestChartModel", name := "leave", desc := "(I)V" } : Jvm.MethodName)) ∈ lw_all := lw_g (lw_at lw_m6 82 rfl) rfl
theorem q1354 : (Jvm.Cond.code ({ cls := "NestChartModel", name := "leave", desc := "(I)V" } : Jvm.MethodName) prog_17_method_40_code (4 : Nat) (Option.none : Option Jvm.ClassFile.FieldType)) ∈ lw_all := lw_g (lw_at lw_m6 83 rfl) rfl
theorem q1355 : (Jvm.Cond.methodLink "NestChartModel" (318 : Nat) ({ cls := "NestChartModel", name := "up", desc := "(II)V" } : Jvm.MethodName)) ∈ lw_all := lw_g (lw_at lw_m6 84 rfl) rfl
theorem q1356 : (Jvm.Cond.privateMethod ({ cls := "NestChartModel", name := "up", desc := "(II)V" } : Jvm.MethodName)) ∈ lw_tbl := lw_at lw_m6 85 rfl
theorem q1357 : (Jvm.Cond.instanceMethod ({ cls := "NestChartModel", name := "up", desc := "(II)V" } : Jvm.MethodName)) ∈ lw_all := lw_g (lw_at lw_m6 86 rfl) rfl
theorem q1358 : (Jvm.Cond.code ({ cls := "NestChartModel", name := "up", desc := "(II)V" } : Jvm.MethodName) prog_17_method_29_code (5 : Nat) (Option.none : Option Jvm.ClassFile.FieldType)) ∈ lw_all := lw_g (lw_at lw_m6 87 rfl) rfl
theorem q1359 : (Jvm.Cond.methodLink "NestChartModel" (337 : Nat) ({ cls := "NestChartModel", name := "answer", desc := "(I)I" } : Jvm.MethodName)) ∈ lw_all := lw_g (lw_at lw_m6 88 rfl) rfl
theorem q1360 : (Jvm.Cond.privateMethod ({ cls := "NestChartModel", name := "answer", desc := "(I)I" } : Jvm.MethodName)) ∈ lw_tbl := lw_at lw_m6 89 rfl
theorem q1361 : (Jvm.Cond.instanceMethod ({ cls := "NestChartModel", name := "answer", desc := "(I)I" } : Jvm.MethodName)) ∈ lw_all := lw_g (lw_at lw_m6 90 rfl) rfl
theorem q1362 : (Jvm.Cond.code ({ cls := "NestChartModel", name := "answer", desc := "(I)I" } : Jvm.MethodName) prog_17_method_46_code (2 : Nat) (Option.some Jvm.ClassFile.FieldType.int)) ∈ lw_all := lw_g (lw_at lw_m6 91 rfl) rfl
theorem q1364 : (Jvm.Cond.instanceMethod ({ cls := "NestChartModel", name := "event", desc := "(C)I" } : Jvm.MethodName)) ∈ lw_all := lw_g (lw_at lw_m6 93 rfl) rfl
