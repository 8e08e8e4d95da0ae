set_option maxRecDepth 100000
theorem dX2_assigning_5 : decode cX2_assigning 5 = .ok (.aload_n 0, 1) := by decide +kernel
theorem dX2_assigning_6 : decode cX2_assigning 6 = .ok (.iload_n 2, 1) := by decide +kernel
theorem dX2_assigning_7 : decode cX2_assigning 7 = .ok (.bipush 61, 2) := by decide +kernel
theorem dX2_assigning_9 : decode cX2_assigning 9 = .ok (.if_icmp .eq 21, 3) := by decide +kernel
theorem dX2_assigning_12 : decode cX2_assigning 12 = .ok (.iload_n 2, 1) := by decide +kernel
theorem dX2_assigning_13 : decode cX2_assigning 13 = .ok (.bipush 43, 2) := by decide +kernel
theorem dX2_assigning_15 : decode cX2_assigning 15 = .ok (.if_icmp .eq 15, 3) := by decide +kernel
theorem dX2_assigning_18 : decode cX2_assigning 18 = .ok (.iload_n 2, 1) := by decide +kernel
theorem dX2_assigning_19 : decode cX2_assigning 19 = .ok (.bipush 45, 2) := by decide +kernel
theorem dX2_assigning_21 : decode cX2_assigning 21 = .ok (.if_icmp .eq 9, 3) := by decide +kernel
theorem dX2_assigning_24 : decode cX2_assigning 24 = .ok (.iload_n 2, 1) := by decide +kernel
theorem dX2_assigning_25 : decode cX2_assigning 25 = .ok (.bipush 42, 2) := by decide +kernel
theorem dX2_assigning_27 : decode cX2_assigning 27 = .ok (.if_icmp .ne 7, 3) := by decide +kernel
theorem dX2_assigning_30 : decode cX2_assigning 30 = .ok (.iconst 1, 1) := by decide +kernel
theorem dX2_assigning_31 : decode cX2_assigning 31 = .ok (.goto 4, 3) := by decide +kernel
theorem dX2_assigning_34 : decode cX2_assigning 34 = .ok (.iconst 0, 1) := by decide +kernel
theorem dX2_assigning_35 : decode cX2_assigning 35 = .ok (.invokevirtual 37, 3) := by decide +kernel
theorem dX2_assigning_38 : decode cX2_assigning 38 = .ok (.aload_n 0, 1) := by decide +kernel
theorem dX2_assigning_39 : decode cX2_assigning 39 = .ok (.dup, 1) := by decide +kernel
theorem dX2_assigning_40 : decode cX2_assigning 40 = .ok (.getfield 19, 3) := by decide +kernel
theorem dX2_assigning_43 : decode cX2_assigning 43 = .ok (.iconst 1, 1) := by decide +kernel
theorem dX2_assigning_44 : decode cX2_assigning 44 = .ok (.iadd, 1) := by decide +kernel
theorem dX2_assigning_45 : decode cX2_assigning 45 = .ok (.putfield 19, 3) := by decide +kernel
theorem dX2_assigning_48 : decode cX2_assigning 48 = .ok (.new 192, 3) := by decide +kernel
theorem dX2_assigning_51 : decode cX2_assigning 51 = .ok (.dup, 1) := by decide +kernel
theorem dX2_assigning_52 : decode cX2_assigning 52 = .ok (.iload_n 1, 1) := by decide +kernel
theorem dX2_assigning_53 : decode cX2_assigning 53 = .ok (.bipush 117, 2) := by decide +kernel
theorem dX2_assigning_55 : decode cX2_assigning 55 = .ok (.isub, 1) := by decide +kernel
theorem dX2_assigning_56 : decode cX2_assigning 56 = .ok (.iload_n 2, 1) := by decide +kernel
theorem dX2_assigning_57 : decode cX2_assigning 57 = .ok (.aload_n 0, 1) := by decide +kernel
theorem dX2_assigning_58 : decode cX2_assigning 58 = .ok (.invokevirtual 164, 3) := by decide +kernel
theorem dX2_assigning_61 : decode cX2_assigning 61 = .ok (.invokespecial 194, 3) := by decide +kernel
theorem dX2_assigning_64 : decode cX2_assigning 64 = .ok (.areturn, 1) := by decide +kernel
abbrev cX2_operand : ByteArray := prog_9_method_14_code
def yX2_operand : MethodName := ⟨RX2, "operand", "()LNestChart$Operand;"⟩
theorem dX2_operand_0 : decode cX2_operand 0 = .ok (.aload_n 0, 1) := by decide +kernel
theorem dX2_operand_1 : decode cX2_operand 1 = .ok (.bipush 117, 2) := by decide +kernel
theorem dX2_operand_3 : decode cX2_operand 3 = .ok (.bipush 122, 2) := by decide +kernel
theorem dX2_operand_5 : decode cX2_operand 5 = .ok (.invokevirtual 87, 3) := by decide +kernel
theorem dX2_operand_8 : decode cX2_operand 8 = .ok (.ifCond .eq 19, 3) := by decide +kernel
theorem dX2_operand_11 : decode cX2_operand 11 = .ok (.new 173, 3) := by decide +kernel
theorem dX2_operand_14 : decode cX2_operand 14 = .ok (.dup, 1) := by decide +kernel
theorem dX2_operand_15 : decode cX2_operand 15 = .ok (.aload_n 0, 1) := by decide +kernel
theorem dX2_operand_16 : decode cX2_operand 16 = .ok (.invokevirtual 98, 3) := by decide +kernel
theorem dX2_operand_19 : decode cX2_operand 19 = .ok (.bipush 117, 2) := by decide +kernel
theorem dX2_operand_21 : decode cX2_operand 21 = .ok (.isub, 1) := by decide +kernel
theorem dX2_operand_22 : decode cX2_operand 22 = .ok (.dconst 0, 1) := by decide +kernel
theorem dX2_operand_23 : decode cX2_operand 23 = .ok (.invokespecial 175, 3) := by decide +kernel
theorem dX2_operand_26 : decode cX2_operand 26 = .ok (.areturn, 1) := by decide +kernel
theorem dX2_operand_27 : decode cX2_operand 27 = .ok (.aload_n 0, 1) := by decide +kernel
theorem dX2_operand_28 : decode cX2_operand 28 = .ok (.aload_n 0, 1) := by decide +kernel
theorem dX2_operand_29 : decode cX2_operand 29 = .ok (.bipush 48, 2) := by decide +kernel
theorem dX2_operand_31 : decode cX2_operand 31 = .ok (.bipush 57, 2) := by decide +kernel
theorem dX2_operand_33 : decode cX2_operand 33 = .ok (.invokevirtual 87, 3) := by decide +kernel
theorem dX2_operand_36 : decode cX2_operand 36 = .ok (.invokevirtual 37, 3) := by decide +kernel
theorem dX2_operand_39 : decode cX2_operand 39 = .ok (.dconst 0, 1) := by decide +kernel
theorem dX2_operand_40 : decode cX2_operand 40 = .ok (.dstore_n 1, 1) := by decide +kernel
theorem dX2_operand_41 : decode cX2_operand 41 = .ok (.iconst 0, 1) := by decide +kernel
theorem dX2_operand_42 : decode cX2_operand 42 = .ok (.istore_n 3, 1) := by decide +kernel
theorem dX2_operand_43 : decode cX2_operand 43 = .ok (.iload_n 3, 1) := by decide +kernel
theorem dX2_operand_44 : decode cX2_operand 44 = .ok (.iconst 3, 1) := by decide +kernel
theorem dX2_operand_45 : decode cX2_operand 45 = .ok (.if_icmp .ge 35, 3) := by decide +kernel
theorem dX2_operand_48 : decode cX2_operand 48 = .ok (.aload_n 0, 1) := by decide +kernel
theorem dX2_operand_49 : decode cX2_operand 49 = .ok (.bipush 48, 2) := by decide +kernel
theorem dX2_operand_51 : decode cX2_operand 51 = .ok (.bipush 57, 2) := by decide +kernel
theorem dX2_operand_53 : decode cX2_operand 53 = .ok (.invokevirtual 87, 3) := by decide +kernel
theorem dX2_operand_56 : decode cX2_operand 56 = .ok (.ifCond .eq 24, 3) := by decide +kernel
theorem dX2_operand_59 : decode cX2_operand 59 = .ok (.ldc2_w 178, 3) := by decide +kernel
theorem dX2_operand_62 : decode cX2_operand 62 = .ok (.dload_n 1, 1) := by decide +kernel
theorem dX2_operand_63 : decode cX2_operand 63 = .ok (.dmul, 1) := by decide +kernel
theorem dX2_operand_64 : decode cX2_operand 64 = .ok (.aload_n 0, 1) := by decide +kernel
theorem dX2_operand_65 : decode cX2_operand 65 = .ok (.invokevirtual 98, 3) := by decide +kernel
theorem dX2_operand_68 : decode cX2_operand 68 = .ok (.bipush 48, 2) := by decide +kernel
theorem dX2_operand_70 : decode cX2_operand 70 = .ok (.isub, 1) := by decide +kernel
theorem dX2_operand_71 : decode cX2_operand 71 = .ok (.i2d, 1) := by decide +kernel
theorem dX2_operand_72 : decode cX2_operand 72 = .ok (.dadd, 1) := by decide +kernel
theorem dX2_operand_73 : decode cX2_operand 73 = .ok (.dstore_n 1, 1) := by decide +kernel
theorem dX2_operand_74 : decode cX2_operand 74 = .ok (.iinc 3 1, 3) := by decide +kernel
theorem dX2_operand_77 : decode cX2_operand 77 = .ok (.goto (-34), 3) := by decide +kernel
theorem dX2_operand_80 : decode cX2_operand 80 = .ok (.aload_n 0, 1) := by decide +kernel
theorem dX2_operand_81 : decode cX2_operand 81 = .ok (.bipush 46, 2) := by decide +kernel
theorem dX2_operand_83 : decode cX2_operand 83 = .ok (.invokevirtual 33, 3) := by decide +kernel
theorem dX2_operand_86 : decode cX2_operand 86 = .ok (.ifCond .eq 34, 3) := by decide +kernel
theorem dX2_operand_89 : decode cX2_operand 89 = .ok (.aload_n 0, 1) := by decide +kernel
theorem dX2_operand_90 : decode cX2_operand 90 = .ok (.aload_n 0, 1) := by decide +kernel
theorem dX2_operand_91 : decode cX2_operand 91 = .ok (.bipush 48, 2) := by decide +kernel
theorem dX2_operand_93 : decode cX2_operand 93 = .ok (.bipush 57, 2) := by decide +kernel
theorem dX2_operand_95 : decode cX2_operand 95 = .ok (.invokevirtual 87, 3) := by decide +kernel
theorem dX2_operand_98 : decode cX2_operand 98 = .ok (.invokevirtual 37, 3) := by decide +kernel
theorem dX2_operand_101 : decode cX2_operand 101 = .ok (.ldc2_w 178, 3) := by decide +kernel
theorem dX2_operand_104 : decode cX2_operand 104 = .ok (.dload_n 1, 1) := by decide +kernel
theorem dX2_operand_105 : decode cX2_operand 105 = .ok (.dmul, 1) := by decide +kernel
theorem dX2_operand_106 : decode cX2_operand 106 = .ok (.aload_n 0, 1) := by decide +kernel
theorem dX2_operand_107 : decode cX2_operand 107 = .ok (.invokevirtual 98, 3) := by decide +kernel
theorem dX2_operand_110 : decode cX2_operand 110 = .ok (.bipush 48, 2) := by decide +kernel
theorem dX2_operand_112 : decode cX2_operand 112 = .ok (.isub, 1) := by decide +kernel
theorem dX2_operand_113 : decode cX2_operand 113 = .ok (.i2d, 1) := by decide +kernel
theorem dX2_operand_114 : decode cX2_operand 114 = .ok (.dadd, 1) := by decide +kernel
theorem dX2_operand_115 : decode cX2_operand 115 = .ok (.ldc2_w 178, 3) := by decide +kernel
theorem dX2_operand_118 : decode cX2_operand 118 = .ok (.ddiv, 1) := by decide +kernel
theorem dX2_operand_119 : decode cX2_operand 119 = .ok (.dstore_n 1, 1) := by decide +kernel
theorem dX2_operand_120 : decode cX2_operand 120 = .ok (.new 173, 3) := by decide +kernel
theorem dX2_operand_123 : decode cX2_operand 123 = .ok (.dup, 1) := by decide +kernel
theorem dX2_operand_124 : decode cX2_operand 124 = .ok (.iconst (-1), 1) := by decide +kernel
theorem dX2_operand_125 : decode cX2_operand 125 = .ok (.dload_n 1, 1) := by decide +kernel
theorem dX2_operand_126 : decode cX2_operand 126 = .ok (.invokespecial 175, 3) := by decide +kernel
theorem dX2_operand_129 : decode cX2_operand 129 = .ok (.areturn, 1) := by decide +kernel
abbrev cX2_transition : ByteArray := prog_9_method_11_code
def yX2_transition : MethodName := ⟨RX2, "transition", "(LNestChart$State;)V"⟩
theorem dX2_transition_0 : decode cX2_transition 0 = .ok (.aload_n 0, 1) := by decide +kernel
theorem dX2_transition_1 : decode cX2_transition 1 = .ok (.aload_n 0, 1) := by decide +kernel
theorem dX2_transition_2 : decode cX2_transition 2 = .ok (.invokevirtual 29, 3) := by decide +kernel
theorem dX2_transition_5 : decode cX2_transition 5 = .ok (.bipush 46, 2) := by decide +kernel
theorem dX2_transition_7 : decode cX2_transition 7 = .ok (.if_icmp .eq 14, 3) := by decide +kernel
theorem dX2_transition_10 : decode cX2_transition 10 = .ok (.aload_n 0, 1) := by decide +kernel
theorem dX2_transition_11 : decode cX2_transition 11 = .ok (.bipush 65, 2) := by decide +kernel
theorem dX2_transition_13 : decode cX2_transition 13 = .ok (.bipush 72, 2) := by decide +kernel
theorem dX2_transition_15 : decode cX2_transition 15 = .ok (.invokevirtual 87, 3) := by decide +kernel
theorem dX2_transition_18 : decode cX2_transition 18 = .ok (.ifCond .eq 16, 3) := by decide +kernel
theorem dX2_transition_21 : decode cX2_transition 21 = .ok (.aload_n 0, 1) := by decide +kernel
theorem dX2_transition_22 : decode cX2_transition 22 = .ok (.getfield 51, 3) := by decide +kernel
theorem dX2_transition_25 : decode cX2_transition 25 = .ok (.bipush 24, 2) := by decide +kernel
theorem dX2_transition_27 : decode cX2_transition 27 = .ok (.if_icmp .ge 7, 3) := by decide +kernel
theorem dX2_transition_30 : decode cX2_transition 30 = .ok (.iconst 1, 1) := by decide +kernel
theorem dX2_transition_31 : decode cX2_transition 31 = .ok (.goto 4, 3) := by decide +kernel
theorem dX2_transition_34 : decode cX2_transition 34 = .ok (.iconst 0, 1) := by decide +kernel
theorem dX2_transition_35 : decode cX2_transition 35 = .ok (.invokevirtual 37, 3) := by decide +kernel
theorem dX2_transition_38 : decode cX2_transition 38 = .ok (.aload_n 0, 1) := by decide +kernel
theorem dX2_transition_39 : decode cX2_transition 39 = .ok (.dup, 1) := by decide +kernel
theorem dX2_transition_40 : decode cX2_transition 40 = .ok (.getfield 51, 3) := by decide +kernel
theorem dX2_transition_43 : decode cX2_transition 43 = .ok (.iconst 1, 1) := by decide +kernel
theorem dX2_transition_44 : decode cX2_transition 44 = .ok (.iadd, 1) := by decide +kernel
theorem dX2_transition_45 : decode cX2_transition 45 = .ok (.putfield 51, 3) := by decide +kernel
theorem dX2_transition_48 : decode cX2_transition 48 = .ok (.new 133, 3) := by decide +kernel
theorem dX2_transition_51 : decode cX2_transition 51 = .ok (.dup, 1) := by decide +kernel
theorem dX2_transition_52 : decode cX2_transition 52 = .ok (.aload_n 1, 1) := by decide +kernel
theorem dX2_transition_53 : decode cX2_transition 53 = .ok (.aload_n 0, 1) := by decide +kernel
theorem dX2_transition_54 : decode cX2_transition 54 = .ok (.invokevirtual 98, 3) := by decide +kernel
theorem dX2_transition_57 : decode cX2_transition 57 = .ok (.invokespecial 135, 3) := by decide +kernel
theorem dX2_transition_60 : decode cX2_transition 60 = .ok (.astore_n 2, 1) := by decide +kernel
theorem dX2_transition_61 : decode cX2_transition 61 = .ok (.aload_n 0, 1) := by decide +kernel
theorem dX2_transition_62 : decode cX2_transition 62 = .ok (.bipush 63, 2) := by decide +kernel
theorem dX2_transition_64 : decode cX2_transition 64 = .ok (.invokevirtual 33, 3) := by decide +kernel
theorem dX2_transition_67 : decode cX2_transition 67 = .ok (.ifCond .eq 24, 3) := by decide +kernel
theorem dX2_transition_70 : decode cX2_transition 70 = .ok (.aload_n 2, 1) := by decide +kernel
theorem dX2_transition_71 : decode cX2_transition 71 = .ok (.getfield 138, 3) := by decide +kernel
theorem dX2_transition_74 : decode cX2_transition 74 = .ok (.aload_n 0, 1) := by decide +kernel
theorem dX2_transition_75 : decode cX2_transition 75 = .ok (.invokevirtual 141, 3) := by decide +kernel
theorem dX2_transition_78 : decode cX2_transition 78 = .ok (.invokevirtual 94, 3) := by decide +kernel
theorem dX2_transition_81 : decode cX2_transition 81 = .ok (.pop, 1) := by decide +kernel
theorem dX2_transition_82 : decode cX2_transition 82 = .ok (.aload_n 0, 1) := by decide +kernel
theorem dX2_transition_83 : decode cX2_transition 83 = .ok (.bipush 38, 2) := by decide +kernel
theorem dX2_transition_85 : decode cX2_transition 85 = .ok (.invokevirtual 33, 3) := by decide +kernel
theorem dX2_transition_88 : decode cX2_transition 88 = .ok (.ifCond .ne (-18), 3) := by decide +kernel
theorem dX2_transition_91 : decode cX2_transition 91 = .ok (.aload_n 0, 1) := by decide +kernel
theorem dX2_transition_92 : decode cX2_transition 92 = .ok (.bipush 62, 2) := by decide +kernel
theorem dX2_transition_94 : decode cX2_transition 94 = .ok (.invokevirtual 107, 3) := by decide +kernel
theorem dX2_transition_97 : decode cX2_transition 97 = .ok (.aload_n 0, 1) := by decide +kernel
theorem dX2_transition_98 : decode cX2_transition 98 = .ok (.bipush 33, 2) := by decide +kernel
theorem dX2_transition_100 : decode cX2_transition 100 = .ok (.invokevirtual 33, 3) := by decide +kernel
theorem dX2_transition_103 : decode cX2_transition 103 = .ok (.ifCond .ne 11, 3) := by decide +kernel
theorem dX2_transition_106 : decode cX2_transition 106 = .ok (.aload_n 2, 1) := by decide +kernel
theorem dX2_transition_107 : decode cX2_transition 107 = .ok (.aload_n 0, 1) := by decide +kernel
theorem dX2_transition_108 : decode cX2_transition 108 = .ok (.invokevirtual 145, 3) := by decide +kernel
theorem dX2_transition_111 : decode cX2_transition 111 = .ok (.putfield 149, 3) := by decide +kernel
theorem dX2_transition_114 : decode cX2_transition 114 = .ok (.aload_n 0, 1) := by decide +kernel
theorem dX2_transition_115 : decode cX2_transition 115 = .ok (.bipush 47, 2) := by decide +kernel
theorem dX2_transition_117 : decode cX2_transition 117 = .ok (.invokevirtual 33, 3) := by decide +kernel
theorem dX2_transition_120 : decode cX2_transition 120 = .ok (.ifCond .eq 11, 3) := by decide +kernel
theorem dX2_transition_123 : decode cX2_transition 123 = .ok (.aload_n 0, 1) := by decide +kernel
theorem dX2_transition_124 : decode cX2_transition 124 = .ok (.aload_n 2, 1) := by decide +kernel
theorem dX2_transition_125 : decode cX2_transition 125 = .ok (.getfield 152, 3) := by decide +kernel
theorem dX2_transition_128 : decode cX2_transition 128 = .ok (.invokevirtual 124, 3) := by decide +kernel
theorem dX2_transition_131 : decode cX2_transition 131 = .ok (.aload_n 1, 1) := by decide +kernel
theorem dX2_transition_132 : decode cX2_transition 132 = .ok (.getfield 154, 3) := by decide +kernel
theorem dX2_transition_135 : decode cX2_transition 135 = .ok (.aload_n 2, 1) := by decide +kernel
theorem dX2_transition_136 : decode cX2_transition 136 = .ok (.invokevirtual 94, 3) := by decide +kernel
theorem dX2_transition_139 : decode cX2_transition 139 = .ok (.pop, 1) := by decide +kernel
theorem dX2_transition_140 : decode cX2_transition 140 = .ok (.return_, 1) := by decide +kernel
abbrev cX2_test : ByteArray := prog_9_method_13_code
def yX2_test : MethodName := ⟨RX2, "test", "()LNestChart$Test;"⟩
theorem dX2_test_0 : decode cX2_test 0 = .ok (.aload_n 0, 1) := by decide +kernel
theorem dX2_test_1 : decode cX2_test 1 = .ok (.bipush 33, 2) := by decide +kernel
theorem dX2_test_3 : decode cX2_test 3 = .ok (.invokevirtual 33, 3) := by decide +kernel
theorem dX2_test_6 : decode cX2_test 6 = .ok (.istore_n 1, 1) := by decide +kernel
theorem dX2_test_7 : decode cX2_test 7 = .ok (.aload_n 0, 1) := by decide +kernel
theorem dX2_test_8 : decode cX2_test 8 = .ok (.bipush 35, 2) := by decide +kernel
theorem dX2_test_10 : decode cX2_test 10 = .ok (.invokevirtual 33, 3) := by decide +kernel
theorem dX2_test_13 : decode cX2_test 13 = .ok (.ifCond .eq 61, 3) := by decide +kernel
theorem dX2_test_16 : decode cX2_test 16 = .ok (.aload_n 0, 1) := by decide +kernel
theorem dX2_test_17 : decode cX2_test 17 = .ok (.aload_n 0, 1) := by decide +kernel
theorem dX2_test_18 : decode cX2_test 18 = .ok (.bipush 97, 2) := by decide +kernel
theorem dX2_test_20 : decode cX2_test 20 = .ok (.bipush 112, 2) := by decide +kernel
theorem dX2_test_22 : decode cX2_test 22 = .ok (.invokevirtual 87, 3) := by decide +kernel
theorem dX2_test_25 : decode cX2_test 25 = .ok (.invokevirtual 37, 3) := by decide +kernel
theorem dX2_test_28 : decode cX2_test 28 = .ok (.new 68, 3) := by decide +kernel
theorem dX2_test_31 : decode cX2_test 31 = .ok (.dup, 1) := by decide +kernel
theorem dX2_test_32 : decode cX2_test 32 = .ok (.aload_n 0, 1) := by decide +kernel
theorem dX2_test_33 : decode cX2_test 33 = .ok (.invokevirtual 29, 3) := by decide +kernel
theorem dX2_test_36 : decode cX2_test 36 = .ok (.aload_n 0, 1) := by decide +kernel
theorem dX2_test_37 : decode cX2_test 37 = .ok (.getfield 19, 3) := by decide +kernel
theorem dX2_test_40 : decode cX2_test 40 = .ok (.iconst 0, 1) := by decide +kernel
theorem dX2_test_41 : decode cX2_test 41 = .ok (.invokespecial 156, 3) := by decide +kernel
theorem dX2_test_44 : decode cX2_test 44 = .ok (.astore_n 2, 1) := by decide +kernel
theorem dX2_test_45 : decode cX2_test 45 = .ok (.aload_n 0, 1) := by decide +kernel
theorem dX2_test_46 : decode cX2_test 46 = .ok (.dup, 1) := by decide +kernel
theorem dX2_test_47 : decode cX2_test 47 = .ok (.getfield 19, 3) := by decide +kernel
theorem dX2_test_50 : decode cX2_test 50 = .ok (.iconst 1, 1) := by decide +kernel
theorem dX2_test_51 : decode cX2_test 51 = .ok (.iadd, 1) := by decide +kernel
theorem dX2_test_52 : decode cX2_test 52 = .ok (.putfield 19, 3) := by decide +kernel
theorem dX2_test_55 : decode cX2_test 55 = .ok (.aload_n 0, 1) := by decide +kernel
theorem dX2_test_56 : decode cX2_test 56 = .ok (.getfield 48, 3) := by decide +kernel
theorem dX2_test_59 : decode cX2_test 59 = .ok (.aload_n 2, 1) := by decide +kernel
theorem dX2_test_60 : decode cX2_test 60 = .ok (.invokevirtual 94, 3) := by decide +kernel
theorem dX2_test_63 : decode cX2_test 63 = .ok (.pop, 1) := by decide +kernel
theorem dX2_test_64 : decode cX2_test 64 = .ok (.new 159, 3) := by decide +kernel
theorem dX2_test_67 : decode cX2_test 67 = .ok (.dup, 1) := by decide +kernel
theorem dX2_test_68 : decode cX2_test 68 = .ok (.iload_n 1, 1) := by decide +kernel
theorem dX2_test_69 : decode cX2_test 69 = .ok (.aload_n 2, 1) := by decide +kernel
theorem dX2_test_70 : decode cX2_test 70 = .ok (.invokespecial 161, 3) := by decide +kernel
theorem dX2_test_73 : decode cX2_test 73 = .ok (.areturn, 1) := by decide +kernel
theorem dX2_test_74 : decode cX2_test 74 = .ok (.aload_n 0, 1) := by decide +kernel
theorem dX2_test_75 : decode cX2_test 75 = .ok (.invokevirtual 164, 3) := by decide +kernel
theorem dX2_test_78 : decode cX2_test 78 = .ok (.astore_n 2, 1) := by decide +kernel
theorem dX2_test_79 : decode cX2_test 79 = .ok (.aload_n 0, 1) := by decide +kernel
theorem dX2_test_80 : decode cX2_test 80 = .ok (.aload_n 0, 1) := by decide +kernel
theorem dX2_test_81 : decode cX2_test 81 = .ok (.invokevirtual 29, 3) := by decide +kernel
theorem dX2_test_84 : decode cX2_test 84 = .ok (.bipush 60, 2) := by decide +kernel
theorem dX2_test_86 : decode cX2_test 86 = .ok (.if_icmp .eq 21, 3) := by decide +kernel
theorem dX2_test_89 : decode cX2_test 89 = .ok (.aload_n 0, 1) := by decide +kernel
theorem dX2_test_90 : decode cX2_test 90 = .ok (.invokevirtual 29, 3) := by decide +kernel
theorem dX2_test_93 : decode cX2_test 93 = .ok (.bipush 61, 2) := by decide +kernel
theorem dX2_test_95 : decode cX2_test 95 = .ok (.if_icmp .eq 12, 3) := by decide +kernel
theorem dX2_test_98 : decode cX2_test 98 = .ok (.aload_n 0, 1) := by decide +kernel
theorem dX2_test_99 : decode cX2_test 99 = .ok (.invokevirtual 29, 3) := by decide +kernel
theorem dX2_test_102 : decode cX2_test 102 = .ok (.bipush 62, 2) := by decide +kernel
theorem dX2_test_104 : decode cX2_test 104 = .ok (.if_icmp .ne 7, 3) := by decide +kernel
theorem dX2_test_107 : decode cX2_test 107 = .ok (.iconst 1, 1) := by decide +kernel
theorem dX2_test_108 : decode cX2_test 108 = .ok (.goto 4, 3) := by decide +kernel
theorem dX2_test_111 : decode cX2_test 111 = .ok (.iconst 0, 1) := by decide +kernel
theorem dX2_test_112 : decode cX2_test 112 = .ok (.invokevirtual 37, 3) := by decide +kernel
theorem dX2_test_115 : decode cX2_test 115 = .ok (.aload_n 0, 1) := by decide +kernel
theorem dX2_test_116 : decode cX2_test 116 = .ok (.invokevirtual 98, 3) := by decide +kernel
theorem dX2_test_119 : decode cX2_test 119 = .ok (.istore_n 3, 1) := by decide +kernel
theorem dX2_test_120 : decode cX2_test 120 = .ok (.new 168, 3) := by decide +kernel
theorem dX2_test_123 : decode cX2_test 123 = .ok (.dup, 1) := by decide +kernel
theorem dX2_test_124 : decode cX2_test 124 = .ok (.iload_n 1, 1) := by decide +kernel
theorem dX2_test_125 : decode cX2_test 125 = .ok (.aload_n 2, 1) := by decide +kernel
theorem dX2_test_126 : decode cX2_test 126 = .ok (.iload_n 3, 1) := by decide +kernel
theorem dX2_test_127 : decode cX2_test 127 = .ok (.aload_n 0, 1) := by decide +kernel
theorem dX2_test_128 : decode cX2_test 128 = .ok (.invokevirtual 164, 3) := by decide +kernel
theorem dX2_test_131 : decode cX2_test 131 = .ok (.invokespecial 170, 3) := by decide +kernel
theorem dX2_test_134 : decode cX2_test 134 = .ok (.areturn, 1) := by decide +kernel
abbrev cX2_target : ByteArray := prog_9_method_12_code
def yX2_target : MethodName := ⟨RX2, "target", "()LNestChart$Name;"⟩
theorem dX2_target_0 : decode cX2_target 0 = .ok (.aload_n 0, 1) := by decide +kernel
theorem dX2_target_1 : decode cX2_target 1 = .ok (.aload_n 0, 1) := by decide +kernel
theorem dX2_target_2 : decode cX2_target 2 = .ok (.bipush 97, 2) := by decide +kernel
theorem dX2_target_4 : decode cX2_target 4 = .ok (.bipush 112, 2) := by decide +kernel
theorem dX2_target_6 : decode cX2_target 6 = .ok (.invokevirtual 87, 3) := by decide +kernel
theorem dX2_target_9 : decode cX2_target 9 = .ok (.invokevirtual 37, 3) := by decide +kernel
theorem dX2_target_12 : decode cX2_target 12 = .ok (.aload_n 0, 1) := by decide +kernel
theorem dX2_target_13 : decode cX2_target 13 = .ok (.getfield 19, 3) := by decide +kernel
theorem dX2_target_16 : decode cX2_target 16 = .ok (.istore_n 1, 1) := by decide +kernel
theorem dX2_target_17 : decode cX2_target 17 = .ok (.aload_n 0, 1) := by decide +kernel
theorem dX2_target_18 : decode cX2_target 18 = .ok (.invokevirtual 98, 3) := by decide +kernel
theorem dX2_target_21 : decode cX2_target 21 = .ok (.istore_n 2, 1) := by decide +kernel
theorem dX2_target_22 : decode cX2_target 22 = .ok (.aload_n 0, 1) := by decide +kernel
theorem dX2_target_23 : decode cX2_target 23 = .ok (.bipush 42, 2) := by decide +kernel
theorem dX2_target_25 : decode cX2_target 25 = .ok (.invokevirtual 33, 3) := by decide +kernel
theorem dX2_target_28 : decode cX2_target 28 = .ok (.ifCond .eq 7, 3) := by decide +kernel
theorem dX2_target_31 : decode cX2_target 31 = .ok (.iconst 1, 1) := by decide +kernel
theorem dX2_target_32 : decode cX2_target 32 = .ok (.goto 4, 3) := by decide +kernel
theorem dX2_target_35 : decode cX2_target 35 = .ok (.iconst 0, 1) := by decide +kernel
theorem dX2_target_36 : decode cX2_target 36 = .ok (.istore_n 3, 1) := by decide +kernel
theorem dX2_target_37 : decode cX2_target 37 = .ok (.iload_n 3, 1) := by decide +kernel
theorem dX2_target_38 : decode cX2_target 38 = .ok (.iconst 1, 1) := by decide +kernel
theorem dX2_target_39 : decode cX2_target 39 = .ok (.if_icmp .ne 14, 3) := by decide +kernel
theorem dX2_target_42 : decode cX2_target 42 = .ok (.aload_n 0, 1) := by decide +kernel
theorem dX2_target_43 : decode cX2_target 43 = .ok (.bipush 42, 2) := by decide +kernel
theorem dX2_target_45 : decode cX2_target 45 = .ok (.invokevirtual 33, 3) := by decide +kernel
theorem dX2_target_48 : decode cX2_target 48 = .ok (.ifCond .eq 5, 3) := by decide +kernel
theorem dX2_target_51 : decode cX2_target 51 = .ok (.iconst 2, 1) := by decide +kernel
theorem dX2_target_52 : decode cX2_target 52 = .ok (.istore_n 3, 1) := by decide +kernel
theorem dX2_target_53 : decode cX2_target 53 = .ok (.new 68, 3) := by decide +kernel
theorem dX2_target_56 : decode cX2_target 56 = .ok (.dup, 1) := by decide +kernel
theorem dX2_target_57 : decode cX2_target 57 = .ok (.iload_n 2, 1) := by decide +kernel
theorem dX2_target_58 : decode cX2_target 58 = .ok (.iload_n 1, 1) := by decide +kernel
theorem dX2_target_59 : decode cX2_target 59 = .ok (.iload_n 3, 1) := by decide +kernel
theorem dX2_target_60 : decode cX2_target 60 = .ok (.invokespecial 156, 3) := by decide +kernel
theorem dX2_target_63 : decode cX2_target 63 = .ok (.astore 4, 2) := by decide +kernel
theorem dX2_target_65 : decode cX2_target 65 = .ok (.aload_n 0, 1) := by decide +kernel
theorem dX2_target_66 : decode cX2_target 66 = .ok (.getfield 48, 3) := by decide +kernel
theorem dX2_target_69 : decode cX2_target 69 = .ok (.aload 4, 2) := by decide +kernel
theorem dX2_target_71 : decode cX2_target 71 = .ok (.invokevirtual 94, 3) := by decide +kernel
theorem dX2_target_74 : decode cX2_target 74 = .ok (.pop, 1) := by decide +kernel
theorem dX2_target_75 : decode cX2_target 75 = .ok (.aload 4, 2) := by decide +kernel
theorem dX2_target_77 : decode cX2_target 77 = .ok (.areturn, 1) := by decide +kernel
theorem q73 : (Jvm.Cond.initialized "NestChart$Reader") ∈ lw_all := lw_g (lw_at lw_m1 2 rfl) rfl
theorem q111 : (Jvm.Cond.instantiable "NestChart$Reader" (8 : Nat)) ∈ lw_all := lw_g (lw_at lw_m1 40 rfl) rfl
theorem q113 : (Jvm.Cond.instanceMethod ({ cls := "NestChart$Reader", name := "<init>", desc := "()V" } : Jvm.MethodName)) ∈ lw_all := lw_g (lw_at lw_m1 42 rfl) rfl
theorem q114 : (Jvm.Cond.code ({ cls := "NestChart$Reader", name := "<init>", desc := "()V" } : Jvm.MethodName) prog_9_method_1_code (1 : Nat) (Option.none : Option Jvm.ClassFile.FieldType)) ∈ lw_all := lw_g (lw_at lw_m1 43 rfl) rfl
theorem q115 : (Jvm.Cond.methodLink "NestChart$Reader" (3 : Nat) ({ cls := "java/lang/Object", name := "<init>", desc := "()V" } : Jvm.MethodName)) ∈ lw_all := lw_g (lw_at lw_m1 44 rfl) rfl
theorem q116 : (Jvm.Cond.fieldLink "NestChart$Reader" (9 : Nat) "NestChart$Reader" "text" "[C") ∈ lw_all := lw_g (lw_at lw_m1 45 rfl) rfl
theorem q118 : (Jvm.Cond.fieldLink "NestChart$Reader" (23 : Nat) "NestChart$Reader" "size" "I") ∈ lw_all := lw_g (lw_at lw_m1 47 rfl) rfl
theorem q120 : (Jvm.Cond.fieldLink "NestChart$Reader" (19 : Nat) "NestChart$Reader" "at" "I") ∈ lw_all := lw_g (lw_at lw_m1 49 rfl) rfl
theorem q123 : (Jvm.Cond.fieldLink "NestChart$Reader" (44 : Nat) "NestChart$Reader" "states" "Ljava/util/ArrayList;") ∈ lw_all := lw_g (lw_at lw_m1 52 rfl) rfl
theorem q124 : (Jvm.Cond.fieldLink "NestChart$Reader" (48 : Nat) "NestChart$Reader" "names" "Ljava/util/ArrayList;") ∈ lw_all := lw_g (lw_at lw_m1 53 rfl) rfl
theorem q125 : (Jvm.Cond.fieldLink "NestChart$Reader" (15 : Nat) "NestChart$Reader" "byLetter" "[I") ∈ lw_all := lw_g (lw_at lw_m1 54 rfl) rfl
theorem q127 : (Jvm.Cond.fieldLink "NestChart$Reader" (51 : Nat) "NestChart$Reader" "transitions" "I") ∈ lw_all := lw_g (lw_at lw_m1 56 rfl) rfl
theorem q128 : (Jvm.Cond.fieldLink "NestChart$Reader" (54 : Nat) "NestChart$Reader" "actions" "I") ∈ lw_all := lw_g (lw_at lw_m1 57 rfl) rfl
theorem q129 : (Jvm.Cond.laysFinal "NestChart$Reader" "NestChart$Reader" "text" "[C") ∈ lw_all := lw_g (lw_at lw_m1 58 rfl) rfl
theorem q130 : (Jvm.Cond.soleField "NestChart$Reader" "text") ∈ lw_all := lw_g (lw_at lw_m1 59 rfl) rfl
theorem q131 : (Jvm.Cond.lays "NestChart$Reader" "NestChart$Reader" "size" "I") ∈ lw_all := lw_g (lw_at lw_m1 60 rfl) rfl
theorem q132 : (Jvm.Cond.soleField "NestChart$Reader" "size") ∈ lw_all := lw_g (lw_at lw_m1 61 rfl) rfl
theorem q133 : (Jvm.Cond.lays "NestChart$Reader" "NestChart$Reader" "at" "I") ∈ lw_all := lw_g (lw_at lw_m1 62 rfl) rfl
theorem q134 : (Jvm.Cond.soleField "NestChart$Reader" "at") ∈ lw_all := lw_g (lw_at lw_m1 63 rfl) rfl
theorem q135 : (Jvm.Cond.lays "NestChart$Reader" "NestChart$Reader" "states" "Ljava/util/ArrayList;") ∈ lw_all := lw_g (lw_at lw_m1 64 rfl) rfl
theorem q136 : (Jvm.Cond.soleField "NestChart$Reader" "states") ∈ lw_all := lw_g (lw_at lw_m1 65 rfl) rfl
theorem q137 : (Jvm.Cond.lays "NestChart$Reader" "NestChart$Reader" "names" "Ljava/util/ArrayList;") ∈ lw_all := lw_g (lw_at lw_m1 66 rfl) rfl
theorem q138 : (Jvm.Cond.soleField "NestChart$Reader" "names") ∈ lw_all := lw_g (lw_at lw_m1 67 rfl) rfl
theorem q139 : (Jvm.Cond.laysFinal "NestChart$Reader" "NestChart$Reader" "byLetter" "[I") ∈ lw_all := lw_g (lw_at lw_m1 68 rfl) rfl
theorem q140 : (Jvm.Cond.soleField "NestChart$Reader" "byLetter") ∈ lw_all := lw_g (lw_at lw_m1 69 rfl) rfl
theorem q141 : (Jvm.Cond.lays "NestChart$Reader" "NestChart$Reader" "transitions" "I") ∈ lw_all := lw_g (lw_at lw_m1 70 rfl) rfl
theorem q142 : (Jvm.Cond.soleField "NestChart$Reader" "transitions") ∈ lw_all := lw_g (lw_at lw_m1 71 rfl) rfl
theorem q143 : (Jvm.Cond.lays "NestChart$Reader" "NestChart$Reader" "actions" "I") ∈ lw_all := lw_g (lw_at lw_m1 72 rfl) rfl
theorem q144 : (Jvm.Cond.soleField "NestChart$Reader" "actions") ∈ lw_all := lw_g (lw_at lw_m1 73 rfl) rfl
theorem q145 : (Jvm.Cond.superclass "NestChart$Reader" "java/lang/Object") ∈ lw_all := lw_g (lw_at lw_m1 74 rfl) rfl
theorem q320 : (Jvm.Cond.instanceMethod ({ cls := "NestChart$Reader", name := "chart", desc := "()LNestChart$State;" } : Jvm.MethodName)) ∈ lw_all := lw_g (lw_at lw_m2 9 rfl) rfl
theorem q321 : (Jvm.Cond.selects "NestChart$Reader" ({ cls := "NestChart$Reader", name := "chart", desc := "()LNestChart$State;" } : Jvm.MethodName) ({ cls := "NestChart$Reader", name := "chart", desc := "()LNestChart$State;" } : Jvm.MethodName)) ∈ lw_all := lw_g (lw_at lw_m2 10 rfl) rfl
theorem q322 : (Jvm.Cond.code ({ cls := "NestChart$Reader", name := "chart", desc := "()LNestChart$State;" } : Jvm.MethodName) prog_9_method_8_code (4 : Nat) (Option.some (Jvm.ClassFile.FieldType.object "NestChart$State"))) ∈ lw_all := lw_g (lw_at lw_m2 11 rfl) rfl
theorem q323 : (Jvm.Cond.classLink "NestChart$Reader" (41 : Nat) "java/util/ArrayList") ∈ lw_all := lw_g (lw_at lw_m2 12 rfl) rfl
theorem q324 : (Jvm.Cond.methodLink "NestChart$Reader" (43 : Nat) ({ cls := "java/util/ArrayList", name := "<init>", desc := "()V" } : Jvm.MethodName)) ∈ lw_all := lw_g (lw_at lw_m2 13 rfl) rfl
theorem q325 : (Jvm.Cond.methodLink "NestChart$Reader" (57 : Nat) ({ cls := "NestChart$Reader", name := "state", desc := "(LNestChart$Reader;LNestChart$State;I)LNestChart$State;" } : Jvm.MethodName)) ∈ lw_all := lw_g (lw_at lw_m2 14 rfl) rfl
theorem q326 : (Jvm.Cond.static ({ cls := "NestChart$Reader", name := "state", desc := "(LNestChart$Reader;LNestChart$State;I)LNestChart$State;" } : Jvm.MethodName)) ∈ lw_all := lw_g (lw_at lw_m2 15 rfl) rfl
theorem q327 : (Jvm.Cond.code ({ cls := "NestChart$Reader", name := "state", desc := "(LNestChart$Reader;LNestChart$State;I)LNestChart$State;" } : Jvm.MethodName) prog_9_method_9_code (6 : Nat) (Option.some (Jvm.ClassFile.FieldType.object "NestChart$State"))) ∈ lw_all := lw_g (lw_at lw_m2 16 rfl) rfl
theorem q328 : (Jvm.Cond.methodLink "NestChart$Reader" (87 : Nat) ({ cls := "NestChart$Reader", name := "isAmong", desc := "(CC)Z" } : Jvm.MethodName)) ∈ lw_all := lw_g (lw_at lw_m2 17 rfl) rfl
theorem q329 : (Jvm.Cond.instanceMethod ({ cls := "NestChart$Reader", name := "isAmong", desc := "(CC)Z" } : Jvm.MethodName)) ∈ lw_all := lw_g (lw_at lw_m2 18 rfl) rfl
theorem q330 : (Jvm.Cond.selects "NestChart$Reader" ({ cls := "NestChart$Reader", name := "isAmong", desc := "(CC)Z" } : Jvm.MethodName) ({ cls := "NestChart$Reader", name := "isAmong", desc := "(CC)Z" } : Jvm.MethodName)) ∈ lw_all := lw_g (lw_at lw_m2 19 rfl) rfl
theorem q331 : (Jvm.Cond.code ({ cls := "NestChart$Reader", name := "isAmong", desc := "(CC)Z" } : Jvm.MethodName) prog_9_method_6_code (3 : Nat) (Option.some Jvm.ClassFile.FieldType.boolean)) ∈ lw_all := lw_g (lw_at lw_m2 20 rfl) rfl
theorem q332 : (Jvm.Cond.methodLink "NestChart$Reader" (29 : Nat) ({ cls := "NestChart$Reader", name := "look", desc := "()C" } : Jvm.MethodName)) ∈ lw_all := lw_g (lw_at lw_m2 21 rfl) rfl
theorem q333 : (Jvm.Cond.instanceMethod ({ cls := "NestChart$Reader", name := "look", desc := "()C" } : Jvm.MethodName)) ∈ lw_all := lw_g (lw_at lw_m2 22 rfl) rfl
theorem q334 : (Jvm.Cond.selects "NestChart$Reader" ({ cls := "NestChart$Reader", name := "look", desc := "()C" } : Jvm.MethodName) ({ cls := "NestChart$Reader", name := "look", desc := "()C" } : Jvm.MethodName)) ∈ lw_all := lw_g (lw_at lw_m2 23 rfl) rfl
theorem q335 : (Jvm.Cond.code ({ cls := "NestChart$Reader", name := "look", desc := "()C" } : Jvm.MethodName) prog_9_method_2_code (1 : Nat) (Option.some Jvm.ClassFile.FieldType.char)) ∈ lw_all := lw_g (lw_at lw_m2 24 rfl) rfl
theorem q336 : (Jvm.Cond.methodLink "NestChart$Reader" (37 : Nat) ({ cls := "NestChart$Reader", name := "want", desc := "(Z)V" } : Jvm.MethodName)) ∈ lw_all := lw_g (lw_at lw_m2 25 rfl) rfl
theorem q337 : (Jvm.Cond.instanceMethod ({ cls := "NestChart$Reader", name := "want", desc := "(Z)V" } : Jvm.MethodName)) ∈ lw_all := lw_g (lw_at lw_m2 26 rfl) rfl
theorem q338 : (Jvm.Cond.selects "NestChart$Reader" ({ cls := "NestChart$Reader", name := "want", desc := "(Z)V" } : Jvm.MethodName) ({ cls := "NestChart$Reader", name := "want", desc := "(Z)V" } : Jvm.MethodName)) ∈ lw_all := lw_g (lw_at lw_m2 27 rfl) rfl
theorem q339 : (Jvm.Cond.code ({ cls := "NestChart$Reader", name := "want", desc := "(Z)V" } : Jvm.MethodName) prog_9_method_3_code (2 : Nat) (Option.none : Option Jvm.ClassFile.FieldType)) ∈ lw_all := lw_g (lw_at lw_m2 28 rfl) rfl
theorem q340 : (Jvm.Cond.classLink "NestChart$Reader" (26 : Nat) "java/lang/IllegalArgumentException") ∈ lw_all := lw_g (lw_at lw_m2 29 rfl) rfl
theorem q381 : (Jvm.Cond.methodLink "NestChart$Reader" (28 : Nat) ({ cls := "java/lang/IllegalArgumentException", name := "<init>", desc := "()V" } : Jvm.MethodName)) ∈ lw_all := lw_g (lw_at lw_m2 70 rfl) rfl
theorem q403 : (Jvm.Cond.classLink "NestChart$Reader" (82 : Nat) "NestChart$State") ∈ lw_all := lw_g (lw_at lw_m2 92 rfl) rfl
theorem q405 : (Jvm.Cond.methodLink "NestChart$Reader" (61 : Nat) ({ cls := "java/util/ArrayList", name := "size", desc := "()I" } : Jvm.MethodName)) ∈ lw_all := lw_g (lw_at lw_m2 94 rfl) rfl
theorem q406 : (Jvm.Cond.methodLink "NestChart$Reader" (91 : Nat) ({ cls := "NestChart$State", name := "<init>", desc := "(ILNestChart$State;)V" } : Jvm.MethodName)) ∈ lw_all := lw_g (lw_at lw_m2 95 rfl) rfl
theorem q413 : (Jvm.Cond.fieldLinkNest "NestChart$Reader" (101 : Nat) "NestChart$State" "number" "I" "NestChart") ∈ lw_tbl := lw_at lw_m2 102 rfl
theorem q420 : (Jvm.Cond.fieldLinkNest "NestChart$Reader" (84 : Nat) "NestChart$State" "kind" "I" "NestChart") ∈ lw_tbl := lw_at lw_m2 109 rfl
theorem q424 : (Jvm.Cond.fieldLinkNest "NestChart$Reader" (104 : Nat) "NestChart$State" "inner" "Ljava/util/ArrayList;" "NestChart") ∈ lw_tbl := lw_at lw_m2 113 rfl
theorem q427 : (Jvm.Cond.fieldLinkNest "NestChart$Reader" (154 : Nat) "NestChart$State" "transitions" "Ljava/util/ArrayList;" "NestChart") ∈ lw_tbl := lw_at lw_m2 116 rfl
theorem q430 : (Jvm.Cond.fieldLinkNest "NestChart$Reader" (121 : Nat) "NestChart$State" "entry" "Ljava/util/ArrayList;" "NestChart") ∈ lw_tbl := lw_at lw_m2 119 rfl
theorem q433 : (Jvm.Cond.fieldLinkNest "NestChart$Reader" (127 : Nat) "NestChart$State" "exit" "Ljava/util/ArrayList;" "NestChart") ∈ lw_tbl := lw_at lw_m2 122 rfl
theorem q436 : (Jvm.Cond.fieldLinkNest "NestChart$Reader" (111 : Nat) "NestChart$State" "below" "I" "NestChart") ∈ lw_tbl := lw_at lw_m2 125 rfl
theorem q463 : (Jvm.Cond.methodLink "NestChart$Reader" (94 : Nat) ({ cls := "java/util/ArrayList", name := "add", desc := "(Ljava/lang/Object;)Z" } : Jvm.MethodName)) ∈ lw_all := lw_g (lw_at lw_m2 152 rfl) rfl
theorem q501 : (Jvm.Cond.selects "NestChart$Reader" ({ cls := "java/lang/Object", name := "getClass", desc := "()Ljava/lang/Class;" } : Jvm.MethodName) ({ cls := "java/lang/Object", name := "getClass", desc := "()Ljava/lang/Class;" } : Jvm.MethodName)) ∈ lw_all := lw_g (lw_at lw_m2 190 rfl) rfl
theorem q527 : (Jvm.Cond.methodLink "NestChart$Reader" (98 : Nat) ({ cls := "NestChart$Reader", name := "next", desc := "()C" } : Jvm.MethodName)) ∈ lw_all := lw_g (lw_at lw_m2 216 rfl) rfl
theorem q528 : (Jvm.Cond.instanceMethod ({ cls := "NestChart$Reader", name := "next", desc := "()C" } : Jvm.MethodName)) ∈ lw_all := lw_g (lw_at lw_m2 217 rfl) rfl
theorem q529 : (Jvm.Cond.selects "NestChart$Reader" ({ cls := "NestChart$Reader", name := "next", desc := "()C" } : Jvm.MethodName) ({ cls := "NestChart$Reader", name := "next", desc := "()C" } : Jvm.MethodName)) ∈ lw_all := lw_g (lw_at lw_m2 218 rfl) rfl
theorem q530 : (Jvm.Cond.code ({ cls := "NestChart$Reader", name := "next", desc := "()C" } : Jvm.MethodName) prog_9_method_7_code (1 : Nat) (Option.some Jvm.ClassFile.FieldType.char)) ∈ lw_all := lw_g (lw_at lw_m2 219 rfl) rfl
theorem q531 : (Jvm.Cond.methodLink "NestChart$Reader" (33 : Nat) ({ cls := "NestChart$Reader", name := "takes", desc := "(C)Z" } : Jvm.MethodName)) ∈ lw_all := lw_g (lw_at lw_m2 220 rfl) rfl
theorem q532 : (Jvm.Cond.instanceMethod ({ cls := "NestChart$Reader", name := "takes", desc := "(C)Z" } : Jvm.MethodName)) ∈ lw_all := lw_g (lw_at lw_m2 221 rfl) rfl
theorem q533 : (Jvm.Cond.selects "NestChart$Reader" ({ cls := "NestChart$Reader", name := "takes", desc := "(C)Z" } : Jvm.MethodName) ({ cls := "NestChart$Reader", name := "takes", desc := "(C)Z" } : Jvm.MethodName)) ∈ lw_all := lw_g (lw_at lw_m2 222 rfl) rfl
theorem q534 : (Jvm.Cond.code ({ cls := "NestChart$Reader", name := "takes", desc := "(C)Z" } : Jvm.MethodName) prog_9_method_4_code (2 : Nat) (Option.some Jvm.ClassFile.FieldType.boolean)) ∈ lw_all := lw_g (lw_at lw_m2 223 rfl) rfl
theorem q535 : (Jvm.Cond.methodLink "NestChart$Reader" (107 : Nat) ({ cls := "NestChart$Reader", name := "take", desc := "(C)V" } : Jvm.MethodName)) ∈ lw_all := lw_g (lw_at lw_m2 224 rfl) rfl
theorem q536 : (Jvm.Cond.instanceMethod ({ cls := "NestChart$Reader", name := "take", desc := "(C)V" } : Jvm.MethodName)) ∈ lw_all := lw_g (lw_at lw_m2 225 rfl) rfl
theorem q537 : (Jvm.Cond.selects "NestChart$Reader" ({ cls := "NestChart$Reader", name := "take", desc := "(C)V" } : Jvm.MethodName) ({ cls := "NestChart$Reader", name := "take", desc := "(C)V" } : Jvm.MethodName)) ∈ lw_all := lw_g (lw_at lw_m2 226 rfl) rfl
theorem q538 : (Jvm.Cond.code ({ cls := "NestChart$Reader", name := "take", desc := "(C)V" } : Jvm.MethodName) prog_9_method_5_code (2 : Nat) (Option.none : Option Jvm.ClassFile.FieldType)) ∈ lw_all := lw_g (lw_at lw_m2 227 rfl) rfl
theorem q539 : (Jvm.Cond.methodLink "NestChart$Reader" (64 : Nat) ({ cls := "java/util/ArrayList", name := "get", desc := "(I)Ljava/lang/Object;" } : Jvm.MethodName)) ∈ lw_all := lw_g (lw_at lw_m2 228 rfl) rfl
theorem q540 : (Jvm.Cond.methodLink "NestChart$Reader" (114 : Nat) ({ cls := "NestChart$State", name := "bit", desc := "()I" } : Jvm.MethodName)) ∈ lw_all := lw_g (lw_at lw_m2 229 rfl) rfl
theorem q544 : (Jvm.Cond.methodLink "NestChart$Reader" (117 : Nat) ({ cls := "NestChart$Reader", name := "item", desc := "(LNestChart$State;)V" } : Jvm.MethodName)) ∈ lw_all := lw_g (lw_at lw_m2 233 rfl) rfl
theorem q545 : (Jvm.Cond.privateMethod ({ cls := "NestChart$Reader", name := "item", desc := "(LNestChart$State;)V" } : Jvm.MethodName)) ∈ lw_tbl := lw_at lw_m2 234 rfl
theorem q546 : (Jvm.Cond.instanceMethod ({ cls := "NestChart$Reader", name := "item", desc := "(LNestChart$State;)V" } : Jvm.MethodName)) ∈ lw_all := lw_g (lw_at lw_m2 235 rfl) rfl
theorem q547 : (Jvm.Cond.code ({ cls := "NestChart$Reader", name := "item", desc := "(LNestChart$State;)V" } : Jvm.MethodName) prog_9_method_10_code (2 : Nat) (Option.none : Option Jvm.ClassFile.FieldType)) ∈ lw_all := lw_g (lw_at lw_m2 236 rfl) rfl
theorem q548 : (Jvm.Cond.methodLink "NestChart$Reader" (124 : Nat) ({ cls := "NestChart$Reader", name := "actions", desc := "(Ljava/util/ArrayList;)V" } : Jvm.MethodName)) ∈ lw_all := lw_g (lw_at lw_m2 237 rfl) rfl
theorem q549 : (Jvm.Cond.privateMethod ({ cls := "NestChart$Reader", name := "actions", desc := "(Ljava/util/ArrayList;)V" } : Jvm.MethodName)) ∈ lw_tbl := lw_at lw_m2 238 rfl
theorem q550 : (Jvm.Cond.instanceMethod ({ cls := "NestChart$Reader", name := "actions", desc := "(Ljava/util/ArrayList;)V" } : Jvm.MethodName)) ∈ lw_all := lw_g (lw_at lw_m2 239 rfl) rfl
theorem q551 : (Jvm.Cond.code ({ cls := "NestChart$Reader", name := "actions", desc := "(Ljava/util/ArrayList;)V" } : Jvm.MethodName) prog_9_method_15_code (3 : Nat) (Option.none : Option Jvm.ClassFile.FieldType)) ∈ lw_all := lw_g (lw_at lw_m3 0 rfl) rfl
theorem q552 : (Jvm.Cond.methodLink "NestChart$Reader" (180 : Nat) ({ cls := "NestChart$Reader", name := "raising", desc := "(C)LNestChart$Action;" } : Jvm.MethodName)) ∈ lw_all := lw_g (lw_at lw_m3 1 rfl) rfl
theorem q553 : (Jvm.Cond.privateMethod ({ cls := "NestChart$Reader", name := "raising", desc := "(C)LNestChart$Action;" } : Jvm.MethodName)) ∈ lw_tbl := lw_at lw_m3 2 rfl
theorem q554 : (Jvm.Cond.instanceMethod ({ cls := "NestChart$Reader", name := "raising", desc := "(C)LNestChart$Action;" } : Jvm.MethodName)) ∈ lw_all := lw_g (lw_at lw_m3 3 rfl) rfl
theorem q555 : (Jvm.Cond.code ({ cls := "NestChart$Reader", name := "raising", desc := "(C)LNestChart$Action;" } : Jvm.MethodName) prog_9_method_16_code (2 : Nat) (Option.some (Jvm.ClassFile.FieldType.object "NestChart$Action"))) ∈ lw_all := lw_g (lw_at lw_m3 4 rfl) rfl
theorem q556 : (Jvm.Cond.classLink "NestChart$Reader" (187 : Nat) "NestChart$Raise") ∈ lw_all := lw_g (lw_at lw_m3 5 rfl) rfl
theorem q558 : (Jvm.Cond.methodLink "NestChart$Reader" (189 : Nat) ({ cls := "NestChart$Raise", name := "<init>", desc := "(CI)V" } : Jvm.MethodName)) ∈ lw_all := lw_g (lw_at lw_m3 7 rfl) rfl
theorem q572 : (Jvm.Cond.methodLink "NestChart$Reader" (184 : Nat) ({ cls := "NestChart$Reader", name := "assigning", desc := "(C)LNestChart$Action;" } : Jvm.MethodName)) ∈ lw_all := lw_g (lw_at lw_m3 21 rfl) rfl
theorem q573 : (Jvm.Cond.privateMethod ({ cls := "NestChart$Reader", name := "assigning", desc := "(C)LNestChart$Action;" } : Jvm.MethodName)) ∈ lw_tbl := lw_at lw_m3 22 rfl
theorem q574 : (Jvm.Cond.instanceMethod ({ cls := "NestChart$Reader", name := "assigning", desc := "(C)LNestChart$Action;" } : Jvm.MethodName)) ∈ lw_all := lw_g (lw_at lw_m3 23 rfl) rfl
theorem q575 : (Jvm.Cond.code ({ cls := "NestChart$Reader", name := "assigning", desc := "(C)LNestChart$Action;" } : Jvm.MethodName) prog_9_method_17_code (3 : Nat) (Option.some (Jvm.ClassFile.FieldType.object "NestChart$Action"))) ∈ lw_all := lw_g (lw_at lw_m3 24 rfl) rfl
theorem q576 : (Jvm.Cond.classLink "NestChart$Reader" (192 : Nat) "NestChart$Assign") ∈ lw_all := lw_g (lw_at lw_m3 25 rfl) rfl
theorem q578 : (Jvm.Cond.methodLink "NestChart$Reader" (164 : Nat) ({ cls := "NestChart$Reader", name := "operand", desc := "()LNestChart$Operand;" } : Jvm.MethodName)) ∈ lw_all := lw_g (lw_at lw_m3 27 rfl) rfl
theorem q579 : (Jvm.Cond.privateMethod ({ cls := "NestChart$Reader", name := "operand", desc := "()LNestChart$Operand;" } : Jvm.MethodName)) ∈ lw_tbl := lw_at lw_m3 28 rfl
theorem q580 : (Jvm.Cond.instanceMethod ({ cls := "NestChart$Reader", name := "operand", desc := "()LNestChart$Operand;" } : Jvm.MethodName)) ∈ lw_all := lw_g (lw_at lw_m3 29 rfl) rfl
theorem q581 : (Jvm.Cond.code ({ cls := "NestChart$Reader", name := "operand", desc := "()LNestChart$Operand;" } : Jvm.MethodName) prog_9_method_14_code (4 : Nat) (Option.some (Jvm.ClassFile.FieldType.object "NestChart$Operand"))) ∈ lw_all := lw_g (lw_at lw_m3 30 rfl) rfl
theorem q582 : (Jvm.Cond.classLink "NestChart$Reader" (173 : Nat) "NestChart$Operand") ∈ lw_all := lw_g (lw_at lw_m3 31 rfl) rfl
theorem q584 : (Jvm.Cond.methodLink "NestChart$Reader" (175 : Nat) ({ cls := "NestChart$Operand", name := "<init>", desc := "(ID)V" } : Jvm.MethodName)) ∈ lw_all := lw_g (lw_at lw_m3 33 rfl) rfl
theorem q595 : (Jvm.Cond.constantDouble "NestChart$Reader" (178 : Nat) (4621819117588971520 : UInt64)) ∈ lw_all := lw_g (lw_at lw_m3 44 rfl) rfl
theorem q596 : (Jvm.Cond.methodLink "NestChart$Reader" (194 : Nat) ({ cls := "NestChart$Assign", name := "<init>", desc := "(ICLNestChart$Operand;)V" } : Jvm.MethodName)) ∈ lw_all := lw_g (lw_at lw_m3 45 rfl) rfl
theorem q610 : (Jvm.Cond.methodLink "NestChart$Reader" (130 : Nat) ({ cls := "NestChart$Reader", name := "transition", desc := "(LNestChart$State;)V" } : Jvm.MethodName)) ∈ lw_all := lw_g (lw_at lw_m3 59 rfl) rfl
theorem q611 : (Jvm.Cond.privateMethod ({ cls := "NestChart$Reader", name := "transition", desc := "(LNestChart$State;)V" } : Jvm.MethodName)) ∈ lw_tbl := lw_at lw_m3 60 rfl
theorem q612 : (Jvm.Cond.instanceMethod ({ cls := "NestChart$Reader", name := "transition", desc := "(LNestChart$State;)V" } : Jvm.MethodName)) ∈ lw_all := lw_g (lw_at lw_m3 61 rfl) rfl
theorem q613 : (Jvm.Cond.code ({ cls := "NestChart$Reader", name := "transition", desc := "(LNestChart$State;)V" } : Jvm.MethodName) prog_9_method_11_code (3 : Nat) (Option.none : Option Jvm.ClassFile.FieldType)) ∈ lw_all := lw_g (lw_at lw_m3 62 rfl) rfl
theorem q614 : (Jvm.Cond.classLink "NestChart$Reader" (133 : Nat) "NestChart$Transition") ∈ lw_all := lw_g (lw_at lw_m3 63 rfl) rfl
theorem q616 : (Jvm.Cond.methodLink "NestChart$Reader" (135 : Nat) ({ cls := "NestChart$Transition", name := "<init>", desc := "(LNestChart$State;C)V" } : Jvm.MethodName)) ∈ lw_all := lw_g (lw_at lw_m3 65 rfl) rfl
theorem q626 : (Jvm.Cond.fieldLinkNest "NestChart$Reader" (138 : Nat) "NestChart$Transition" "tests" "Ljava/util/ArrayList;" "NestChart") ∈ lw_tbl := lw_at lw_m3 75 rfl
theorem q628 : (Jvm.Cond.fieldLinkNest "NestChart$Reader" (152 : Nat) "NestChart$Transition" "actions" "Ljava/util/ArrayList;" "NestChart") ∈ lw_tbl := lw_at lw_m3 77 rfl
theorem q630 : (Jvm.Cond.fieldLinkNest "NestChart$Reader" (149 : Nat) "NestChart$Transition" "target" "LNestChart$Name;" "NestChart") ∈ lw_tbl := lw_at lw_m3 79 rfl
theorem q652 : (Jvm.Cond.methodLink "NestChart$Reader" (141 : Nat) ({ cls := "NestChart$Reader", name := "test", desc := "()LNestChart$Test;" } : Jvm.MethodName)) ∈ lw_all := lw_g (lw_at lw_m3 101 rfl) rfl
theorem q653 : (Jvm.Cond.privateMethod ({ cls := "NestChart$Reader", name := "test", desc := "()LNestChart$Test;" } : Jvm.MethodName)) ∈ lw_tbl := lw_at lw_m3 102 rfl
theorem q654 : (Jvm.Cond.instanceMethod ({ cls := "NestChart$Reader", name := "test", desc := "()LNestChart$Test;" } : Jvm.MethodName)) ∈ lw_all := lw_g (lw_at lw_m3 103 rfl) rfl
theorem q655 : (Jvm.Cond.code ({ cls := "NestChart$Reader", name := "test", desc := "()LNestChart$Test;" } : Jvm.MethodName) prog_9_method_13_code (4 : Nat) (Option.some (Jvm.ClassFile.FieldType.object "NestChart$Test"))) ∈ lw_all := lw_g (lw_at lw_m3 104 rfl) rfl
theorem q656 : (Jvm.Cond.classLink "NestChart$Reader" (68 : Nat) "NestChart$Name") ∈ lw_all := lw_g (lw_at lw_m3 105 rfl) rfl
theorem q658 : (Jvm.Cond.methodLink "NestChart$Reader" (156 : Nat) ({ cls := "NestChart$Name", name := "<init>", desc := "(CII)V" } : Jvm.MethodName)) ∈ lw_all := lw_g (lw_at lw_m3 107 rfl) rfl
theorem q663 : (Jvm.Cond.fieldLinkNest "NestChart$Reader" (73 : Nat) "NestChart$Name" "letter" "C" "NestChart") ∈ lw_tbl := lw_at lw_m3 112 rfl
theorem q665 : (Jvm.Cond.fieldLinkNest "NestChart$Reader" (70 : Nat) "NestChart$Name" "place" "I" "NestChart") ∈ lw_tbl := lw_at lw_m3 114 rfl
theorem q667 : (Jvm.Cond.fieldLinkNest "NestChart$Reader" (79 : Nat) "NestChart$Name" "stars" "I" "NestChart") ∈ lw_tbl := lw_at lw_m3 116 rfl
theorem q670 : (Jvm.Cond.fieldLinkNest "NestChart$Reader" (77 : Nat) "NestChart$Name" "state" "I" "NestChart") ∈ lw_tbl := lw_at lw_m3 119 rfl
theorem q681 : (Jvm.Cond.classLink "NestChart$Reader" (159 : Nat) "NestChart$Within") ∈ lw_all := lw_g (lw_at lw_m3 130 rfl) rfl
theorem q683 : (Jvm.Cond.methodLink "NestChart$Reader" (161 : Nat) ({ cls := "NestChart$Within", name := "<init>", desc := "(ZLNestChart$Name;)V" } : Jvm.MethodName)) ∈ lw_all := lw_g (lw_at lw_m3 132 rfl) rfl
theorem q697 : (Jvm.Cond.classLink "NestChart$Reader" (168 : Nat) "NestChart$Compare") ∈ lw_all := lw_g (lw_at lw_m3 146 rfl) rfl
theorem q699 : (Jvm.Cond.methodLink "NestChart$Reader" (170 : Nat) ({ cls := "NestChart$Compare", name := "<init>", desc := "(ZLNestChart$Operand;CLNestChart$Operand;)V" } : Jvm.MethodName)) ∈ lw_all := lw_g (lw_at lw_m3 148 rfl) rfl
theorem q714 : (Jvm.Cond.methodLink "NestChart$Reader" (145 : Nat) ({ cls := "NestChart$Reader", name := "target", desc := "()LNestChart$Name;" } : Jvm.MethodName)) ∈ lw_all := lw_g (lw_at lw_m3 163 rfl) rfl
theorem q715 : (Jvm.Cond.privateMethod ({ cls := "NestChart$Reader", name := "target", desc := "()LNestChart$Name;" } : Jvm.MethodName)) ∈ lw_tbl := lw_at lw_m3 164 rfl
theorem q716 : (Jvm.Cond.instanceMethod ({ cls := "NestChart$Reader", name := "target", desc := "()LNestChart$Name;" } : Jvm.MethodName)) ∈ lw_all := lw_g (lw_at lw_m3 165 rfl) rfl
theorem q717 : (Jvm.Cond.code ({ cls := "NestChart$Reader", name := "target", desc := "()LNestChart$Name;" } : Jvm.MethodName) prog_9_method_12_code (5 : Nat) (Option.some (Jvm.ClassFile.FieldType.object "NestChart$Name"))) ∈ lw_all := lw_g (lw_at lw_m3 166 rfl) rfl
theorem q1417 : (Jvm.Cond.castable "NestChart$Reader" "java/lang/Object") ∈ lw_tbl := lw_at lw_m6 146 rfl
theorem in_X2 : ∀ w ∈ wsX20, w ∈ lw_all := lw_in wsX20 [129, 131, 133, 135, 137, 139, 141, 143] (by decide +kernel) (by decide +kernel)

/-! NestChart$Run -/
def RX3 : String := "NestChart$Run"
def TX3 : u_T := fun k => match k with
  | 0 => ("NestChart$Run", "states", "Ljava/util/ArrayList;", false)
  | 1 => ("NestChart$Run", "runs", "Z", false)
  | 2 => ("NestChart$Run", "active", "I", false)
  | 3 => ("NestChart$Run", "variables", "[D", true)
  | 4 => ("NestChart$Run", "raised", "[C", true)
  | 5 => ("NestChart$Run", "first", "I", false)
  | 6 => ("NestChart$Run", "raises", "I", false)
  | 7 => ("NestChart$Run", "sent", "Ljava/util/ArrayList;", true)
  | 8 => ("NestChart$Run", "clock", "I", false)
  | 9 => ("NestChart$Run", "trace", "[I", true)
  | 10 => ("NestChart$Run", "traced", "I", false)
  | 11 => ("NestChart$Run", "steps", "I", false)
  | 12 => ("NestChart$Run", "chosen", "Ljava/util/ArrayList;", false)
  | _ => ("NestChart$Run", "others", "Ljava/util/ArrayList;", false)
def tyX3 : Nat → FieldType := fun k => match k with
  | 0 => .object "java/util/ArrayList"
  | 1 => .boolean
  | 2 => .int
  | 3 => .array .double
  | 4 => .array .char
  | 5 => .int
  | 6 => .int
  | 7 => .object "java/util/ArrayList"
  | 8 => .int
  | 9 => .array .int
  | 10 => .int
  | 11 => .int
  | 12 => .object "java/util/ArrayList"
  | _ => .object "java/util/ArrayList"
abbrev wsX30 : List Cond := u_ws RX3 TX3 14
theorem nmX3 : ∀ a, a < 14 → ∀ b, b < 14 → a ≠ b → (TX3 a).2.1 ≠ (TX3 b).2.1 := by decide +kernel
theorem tyX3_ok : ∀ k, k < 14 → parseFieldDescriptor (TX3 k).2.2.1 = some (tyX3 k) := by decide +kernel
abbrev cX3_init : ByteArray := prog_10_method_1_code
def yX3_init : MethodName := ⟨RX3, "<init>", "()V"⟩
theorem dX3_init_0 : decode cX3_init 0 = .ok (.aload_n 0, 1) := by decide +kernel
theorem dX3_init_1 : decode cX3_init 1 = .ok (.invokespecial 3, 3) := by decide +kernel
theorem dX3_init_4 : decode cX3_init 4 = .ok (.aload_n 0, 1) := by decide +kernel
theorem dX3_init_5 : decode cX3_init 5 = .ok (.new 9, 3) := by decide +kernel
theorem dX3_init_8 : decode cX3_init 8 = .ok (.dup, 1) := by decide +kernel
theorem dX3_init_9 : decode cX3_init 9 = .ok (.invokespecial 11, 3) := by decide +kernel
theorem dX3_init_12 : decode cX3_init 12 = .ok (.putfield 12, 3) := by decide +kernel
theorem dX3_init_15 : decode cX3_init 15 = .ok (.aload_n 0, 1) := by decide +kernel
theorem dX3_init_16 : decode cX3_init 16 = .ok (.bipush 6, 2) := by decide +kernel
theorem dX3_init_18 : decode cX3_init 18 = .ok (.newarray .double, 2) := by decide +kernel
theorem dX3_init_20 : decode cX3_init 20 = .ok (.putfield 18, 3) := by decide +kernel
theorem dX3_init_23 : decode cX3_init 23 = .ok (.aload_n 0, 1) := by decide +kernel
theorem dX3_init_24 : decode cX3_init 24 = .ok (.bipush 10, 2) := by decide +kernel
theorem dX3_init_26 : decode cX3_init 26 = .ok (.newarray .char, 2) := by decide +kernel
theorem dX3_init_28 : decode cX3_init 28 = .ok (.putfield 22, 3) := by decide +kernel
theorem dX3_init_31 : decode cX3_init 31 = .ok (.aload_n 0, 1) := by decide +kernel
theorem dX3_init_32 : decode cX3_init 32 = .ok (.new 9, 3) := by decide +kernel
theorem dX3_init_35 : decode cX3_init 35 = .ok (.dup, 1) := by decide +kernel
theorem dX3_init_36 : decode cX3_init 36 = .ok (.invokespecial 11, 3) := by decide +kernel
theorem dX3_init_39 : decode cX3_init 39 = .ok (.putfield 26, 3) := by decide +kernel
theorem dX3_init_42 : decode cX3_init 42 = .ok (.aload_n 0, 1) := by decide +kernel
theorem dX3_init_43 : decode cX3_init 43 = .ok (.bipush 100, 2) := by decide +kernel
theorem dX3_init_45 : decode cX3_init 45 = .ok (.newarray .int, 2) := by decide +kernel
theorem dX3_init_47 : decode cX3_init 47 = .ok (.putfield 29, 3) := by decide +kernel
theorem dX3_init_50 : decode cX3_init 50 = .ok (.aload_n 0, 1) := by decide +kernel
theorem dX3_init_51 : decode cX3_init 51 = .ok (.new 9, 3) := by decide +kernel
theorem dX3_init_54 : decode cX3_init 54 = .ok (.dup, 1) := by decide +kernel
theorem dX3_init_55 : decode cX3_init 55 = .ok (.invokespecial 11, 3) := by decide +kernel
theorem dX3_init_58 : decode cX3_init 58 = .ok (.putfield 33, 3) := by decide +kernel
theorem dX3_init_61 : decode cX3_init 61 = .ok (.aload_n 0, 1) := by decide +kernel
theorem dX3_init_62 : decode cX3_init 62 = .ok (.new 9, 3) := by decide +kernel
theorem dX3_init_65 : decode cX3_init 65 = .ok (.dup, 1) := by decide +kernel
theorem dX3_init_66 : decode cX3_init 66 = .ok (.invokespecial 11, 3) := by decide +kernel
theorem dX3_init_69 : decode cX3_init 69 = .ok (.putfield 36, 3) := by decide +kernel
theorem dX3_init_72 : decode cX3_init 72 = .ok (.return_, 1) := by decide +kernel
abbrev cX3_isActive : ByteArray := prog_10_method_6_code
def yX3_isActive : MethodName := ⟨RX3, "isActive", "(I)Z"⟩
theorem dX3_isActive_0 : decode cX3_isActive 0 = .ok (.aload_n 0, 1) := by decide +kernel
theorem dX3_isActive_1 : decode cX3_isActive 1 = .ok (.getfield 62, 3) := by decide +kernel
theorem dX3_isActive_4 : decode cX3_isActive 4 = .ok (.iload_n 1, 1) := by decide +kernel
theorem dX3_isActive_5 : decode cX3_isActive 5 = .ok (.ishr, 1) := by decide +kernel
theorem dX3_isActive_6 : decode cX3_isActive 6 = .ok (.iconst 1, 1) := by decide +kernel
theorem dX3_isActive_7 : decode cX3_isActive 7 = .ok (.iand, 1) := by decide +kernel
theorem dX3_isActive_8 : decode cX3_isActive 8 = .ok (.iconst 1, 1) := by decide +kernel
theorem dX3_isActive_9 : decode cX3_isActive 9 = .ok (.if_icmp .ne 7, 3) := by decide +kernel
theorem dX3_isActive_12 : decode cX3_isActive 12 = .ok (.iconst 1, 1) := by decide +kernel
theorem dX3_isActive_13 : decode cX3_isActive 13 = .ok (.goto 4, 3) := by decide +kernel
theorem dX3_isActive_16 : decode cX3_isActive 16 = .ok (.iconst 0, 1) := by decide +kernel
theorem dX3_isActive_17 : decode cX3_isActive 17 = .ok (.ireturn, 1) := by decide +kernel
abbrev cX3_build : ByteArray := prog_10_method_7_code
def yX3_build : MethodName := ⟨RX3, "build", "(Ljava/util/ArrayList;)V"⟩
theorem dX3_build_0 : decode cX3_build 0 = .ok (.aload_n 0, 1) := by decide +kernel
theorem dX3_build_1 : decode cX3_build 1 = .ok (.aload_n 1, 1) := by decide +kernel
theorem dX3_build_2 : decode cX3_build 2 = .ok (.putfield 12, 3) := by decide +kernel
theorem dX3_build_5 : decode cX3_build 5 = .ok (.aload_n 0, 1) := by decide +kernel
theorem dX3_build_6 : decode cX3_build 6 = .ok (.iconst 0, 1) := by decide +kernel
theorem dX3_build_7 : decode cX3_build 7 = .ok (.putfield 65, 3) := by decide +kernel
theorem dX3_build_10 : decode cX3_build 10 = .ok (.aload_n 0, 1) := by decide +kernel
theorem dX3_build_11 : decode cX3_build 11 = .ok (.iconst 0, 1) := by decide +kernel
theorem dX3_build_12 : decode cX3_build 12 = .ok (.putfield 62, 3) := by decide +kernel
theorem dX3_build_15 : decode cX3_build 15 = .ok (.aload_n 0, 1) := by decide +kernel
theorem dX3_build_16 : decode cX3_build 16 = .ok (.getfield 26, 3) := by decide +kernel
theorem dX3_build_19 : decode cX3_build 19 = .ok (.invokevirtual 69, 3) := by decide +kernel
theorem dX3_build_22 : decode cX3_build 22 = .ok (.aload_n 0, 1) := by decide +kernel
theorem dX3_build_23 : decode cX3_build 23 = .ok (.iconst 0, 1) := by decide +kernel
theorem dX3_build_24 : decode cX3_build 24 = .ok (.putfield 39, 3) := by decide +kernel
theorem dX3_build_27 : decode cX3_build 27 = .ok (.aload_n 0, 1) := by decide +kernel
theorem dX3_build_28 : decode cX3_build 28 = .ok (.iconst 0, 1) := by decide +kernel
theorem dX3_build_29 : decode cX3_build 29 = .ok (.putfield 72, 3) := by decide +kernel
theorem dX3_build_32 : decode cX3_build 32 = .ok (.aload_n 0, 1) := by decide +kernel
theorem dX3_build_33 : decode cX3_build 33 = .ok (.invokevirtual 75, 3) := by decide +kernel
theorem dX3_build_36 : decode cX3_build 36 = .ok (.return_, 1) := by decide +kernel
abbrev cX3_clear : ByteArray := prog_10_method_8_code
def yX3_clear : MethodName := ⟨RX3, "clear", "()V"⟩
theorem dX3_clear_0 : decode cX3_clear 0 = .ok (.iconst 0, 1) := by decide +kernel
theorem dX3_clear_1 : decode cX3_clear 1 = .ok (.istore_n 1, 1) := by decide +kernel
theorem dX3_clear_2 : decode cX3_clear 2 = .ok (.iload_n 1, 1) := by decide +kernel
theorem dX3_clear_3 : decode cX3_clear 3 = .ok (.aload_n 0, 1) := by decide +kernel
theorem dX3_clear_4 : decode cX3_clear 4 = .ok (.getfield 18, 3) := by decide +kernel
theorem dX3_clear_7 : decode cX3_clear 7 = .ok (.arraylength, 1) := by decide +kernel
theorem dX3_clear_8 : decode cX3_clear 8 = .ok (.if_icmp .ge 16, 3) := by decide +kernel
theorem dX3_clear_11 : decode cX3_clear 11 = .ok (.aload_n 0, 1) := by decide +kernel
theorem dX3_clear_12 : decode cX3_clear 12 = .ok (.getfield 18, 3) := by decide +kernel
theorem dX3_clear_15 : decode cX3_clear 15 = .ok (.iload_n 1, 1) := by decide +kernel
theorem dX3_clear_16 : decode cX3_clear 16 = .ok (.dconst 0, 1) := by decide +kernel
theorem dX3_clear_17 : decode cX3_clear 17 = .ok (.dastore, 1) := by decide +kernel
theorem dX3_clear_18 : decode cX3_clear 18 = .ok (.iinc 1 1, 3) := by decide +kernel
theorem dX3_clear_21 : decode cX3_clear 21 = .ok (.goto (-19), 3) := by decide +kernel
theorem dX3_clear_24 : decode cX3_clear 24 = .ok (.return_, 1) := by decide +kernel
abbrev cX3_begin : ByteArray := prog_10_method_9_code
def yX3_begin : MethodName := ⟨RX3, "begin", "()V"⟩
theorem dX3_begin_0 : decode cX3_begin 0 = .ok (.aload_n 0, 1) := by decide +kernel
theorem dX3_begin_1 : decode cX3_begin 1 = .ok (.invokevirtual 75, 3) := by decide +kernel
theorem dX3_begin_4 : decode cX3_begin 4 = .ok (.iconst 0, 1) := by decide +kernel
theorem dX3_begin_5 : decode cX3_begin 5 = .ok (.istore_n 1, 1) := by decide +kernel
theorem dX3_begin_6 : decode cX3_begin 6 = .ok (.iload_n 1, 1) := by decide +kernel
theorem dX3_begin_7 : decode cX3_begin 7 = .ok (.aload_n 0, 1) := by decide +kernel
theorem dX3_begin_8 : decode cX3_begin 8 = .ok (.getfield 12, 3) := by decide +kernel
theorem dX3_begin_11 : decode cX3_begin 11 = .ok (.invokevirtual 46, 3) := by decide +kernel
theorem dX3_begin_14 : decode cX3_begin 14 = .ok (.if_icmp .ge 31, 3) := by decide +kernel
theorem dX3_begin_17 : decode cX3_begin 17 = .ok (.aload_n 0, 1) := by decide +kernel
theorem dX3_begin_18 : decode cX3_begin 18 = .ok (.getfield 12, 3) := by decide +kernel
theorem dX3_begin_21 : decode cX3_begin 21 = .ok (.iload_n 1, 1) := by decide +kernel
theorem dX3_begin_22 : decode cX3_begin 22 = .ok (.invokevirtual 76, 3) := by decide +kernel
theorem dX3_begin_25 : decode cX3_begin 25 = .ok (.checkcast 80, 3) := by decide +kernel
theorem dX3_begin_28 : decode cX3_begin 28 = .ok (.astore_n 2, 1) := by decide +kernel
theorem dX3_begin_29 : decode cX3_begin 29 = .ok (.aload_n 2, 1) := by decide +kernel
theorem dX3_begin_30 : decode cX3_begin 30 = .ok (.iconst 0, 1) := by decide +kernel
theorem dX3_begin_31 : decode cX3_begin 31 = .ok (.putfield 82, 3) := by decide +kernel
theorem dX3_begin_34 : decode cX3_begin 34 = .ok (.aload_n 2, 1) := by decide +kernel
theorem dX3_begin_35 : decode cX3_begin 35 = .ok (.iconst 0, 1) := by decide +kernel
theorem dX3_begin_36 : decode cX3_begin 36 = .ok (.putfield 85, 3) := by decide +kernel
theorem dX3_begin_39 : decode cX3_begin 39 = .ok (.iinc 1 1, 3) := by decide +kernel
theorem dX3_begin_42 : decode cX3_begin 42 = .ok (.goto (-36), 3) := by decide +kernel
theorem dX3_begin_45 : decode cX3_begin 45 = .ok (.aload_n 0, 1) := by decide +kernel
theorem dX3_begin_46 : decode cX3_begin 46 = .ok (.iconst 0, 1) := by decide +kernel
theorem dX3_begin_47 : decode cX3_begin 47 = .ok (.putfield 39, 3) := by decide +kernel
theorem dX3_begin_50 : decode cX3_begin 50 = .ok (.aload_n 0, 1) := by decide +kernel
theorem dX3_begin_51 : decode cX3_begin 51 = .ok (.getfield 26, 3) := by decide +kernel
theorem dX3_begin_54 : decode cX3_begin 54 = .ok (.invokevirtual 69, 3) := by decide +kernel
theorem dX3_begin_57 : decode cX3_begin 57 = .ok (.aload_n 0, 1) := by decide +kernel
theorem dX3_begin_58 : decode cX3_begin 58 = .ok (.iconst 0, 1) := by decide +kernel
theorem dX3_begin_59 : decode cX3_begin 59 = .ok (.putfield 52, 3) := by decide +kernel
theorem dX3_begin_62 : decode cX3_begin 62 = .ok (.aload_n 0, 1) := by decide +kernel
theorem dX3_begin_63 : decode cX3_begin 63 = .ok (.iconst 0, 1) := by decide +kernel
theorem dX3_begin_64 : decode cX3_begin 64 = .ok (.putfield 62, 3) := by decide +kernel
theorem dX3_begin_67 : decode cX3_begin 67 = .ok (.aload_n 0, 1) := by decide +kernel
theorem dX3_begin_68 : decode cX3_begin 68 = .ok (.iconst 1, 1) := by decide +kernel
theorem dX3_begin_69 : decode cX3_begin 69 = .ok (.putfield 65, 3) := by decide +kernel
theorem dX3_begin_72 : decode cX3_begin 72 = .ok (.aload_n 0, 1) := by decide +kernel
theorem dX3_begin_73 : decode cX3_begin 73 = .ok (.invokevirtual 88, 3) := by decide +kernel
theorem dX3_begin_76 : decode cX3_begin 76 = .ok (.aload_n 0, 1) := by decide +kernel
theorem dX3_begin_77 : decode cX3_begin 77 = .ok (.aload_n 0, 1) := by decide +kernel
theorem dX3_begin_78 : decode cX3_begin 78 = .ok (.getfield 12, 3) := by decide +kernel
theorem dX3_begin_81 : decode cX3_begin 81 = .ok (.iconst 0, 1) := by decide +kernel
theorem dX3_begin_82 : decode cX3_begin 82 = .ok (.invokevirtual 76, 3) := by decide +kernel
theorem dX3_begin_85 : decode cX3_begin 85 = .ok (.checkcast 80, 3) := by decide +kernel
theorem dX3_begin_88 : decode cX3_begin 88 = .ok (.iconst 0, 1) := by decide +kernel
theorem dX3_begin_89 : decode cX3_begin 89 = .ok (.invokestatic 91, 3) := by decide +kernel
theorem dX3_begin_92 : decode cX3_begin 92 = .ok (.invokevirtual 95, 3) := by decide +kernel
theorem dX3_begin_95 : decode cX3_begin 95 = .ok (.aload_n 0, 1) := by decide +kernel
theorem dX3_begin_96 : decode cX3_begin 96 = .ok (.invokevirtual 99, 3) := by decide +kernel
theorem dX3_begin_99 : decode cX3_begin 99 = .ok (.return_, 1) := by decide +kernel
abbrev cX3_open : ByteArray := prog_10_method_10_code
def yX3_open : MethodName := ⟨RX3, "open", "()V"⟩
theorem dX3_open_0 : decode cX3_open 0 = .ok (.aload_n 0, 1) := by decide +kernel
theorem dX3_open_1 : decode cX3_open 1 = .ok (.iconst 0, 1) := by decide +kernel
theorem dX3_open_2 : decode cX3_open 2 = .ok (.putfield 102, 3) := by decide +kernel
theorem dX3_open_5 : decode cX3_open 5 = .ok (.aload_n 0, 1) := by decide +kernel
theorem dX3_open_6 : decode cX3_open 6 = .ok (.iconst 0, 1) := by decide +kernel
theorem dX3_open_7 : decode cX3_open 7 = .ok (.putfield 72, 3) := by decide +kernel
theorem dX3_open_10 : decode cX3_open 10 = .ok (.return_, 1) := by decide +kernel
abbrev cX3_enter : ByteArray := prog_10_method_21_code
def yX3_enter : MethodName := ⟨RX3, "enter", "(I)V"⟩
theorem dX3_enter_0 : decode cX3_enter 0 = .ok (.iconst 0, 1) := by decide +kernel
theorem dX3_enter_1 : decode cX3_enter 1 = .ok (.istore_n 2, 1) := by decide +kernel
theorem dX3_enter_2 : decode cX3_enter 2 = .ok (.iload_n 2, 1) := by decide +kernel
theorem dX3_enter_3 : decode cX3_enter 3 = .ok (.aload_n 0, 1) := by decide +kernel
theorem dX3_enter_4 : decode cX3_enter 4 = .ok (.getfield 12, 3) := by decide +kernel
