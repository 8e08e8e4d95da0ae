set_option maxRecDepth 100000
theorem dX3_leave_52 : decode cX3_leave 52 = .ok (.aload_n 0, 1) := by decide +kernel
theorem dX3_leave_53 : decode cX3_leave 53 = .ok (.getfield 12, 3) := by decide +kernel
theorem dX3_leave_56 : decode cX3_leave 56 = .ok (.invokevirtual 46, 3) := by decide +kernel
theorem dX3_leave_59 : decode cX3_leave 59 = .ok (.iconst 1, 1) := by decide +kernel
theorem dX3_leave_60 : decode cX3_leave 60 = .ok (.isub, 1) := by decide +kernel
theorem dX3_leave_61 : decode cX3_leave 61 = .ok (.istore_n 2, 1) := by decide +kernel
theorem dX3_leave_62 : decode cX3_leave 62 = .ok (.iload_n 2, 1) := by decide +kernel
theorem dX3_leave_63 : decode cX3_leave 63 = .ok (.ifCond .lt 63, 3) := by decide +kernel
theorem dX3_leave_66 : decode cX3_leave 66 = .ok (.aload_n 0, 1) := by decide +kernel
theorem dX3_leave_67 : decode cX3_leave 67 = .ok (.getfield 12, 3) := by decide +kernel
theorem dX3_leave_70 : decode cX3_leave 70 = .ok (.iload_n 2, 1) := by decide +kernel
theorem dX3_leave_71 : decode cX3_leave 71 = .ok (.invokevirtual 76, 3) := by decide +kernel
theorem dX3_leave_74 : decode cX3_leave 74 = .ok (.checkcast 80, 3) := by decide +kernel
theorem dX3_leave_77 : decode cX3_leave 77 = .ok (.astore_n 3, 1) := by decide +kernel
theorem dX3_leave_78 : decode cX3_leave 78 = .ok (.iload_n 1, 1) := by decide +kernel
theorem dX3_leave_79 : decode cX3_leave 79 = .ok (.aload_n 3, 1) := by decide +kernel
theorem dX3_leave_80 : decode cX3_leave 80 = .ok (.invokevirtual 108, 3) := by decide +kernel
theorem dX3_leave_83 : decode cX3_leave 83 = .ok (.iand, 1) := by decide +kernel
theorem dX3_leave_84 : decode cX3_leave 84 = .ok (.ifCond .ne 6, 3) := by decide +kernel
theorem dX3_leave_87 : decode cX3_leave 87 = .ok (.goto 33, 3) := by decide +kernel
theorem dX3_leave_90 : decode cX3_leave 90 = .ok (.aload_n 0, 1) := by decide +kernel
theorem dX3_leave_91 : decode cX3_leave 91 = .ok (.aload_n 3, 1) := by decide +kernel
theorem dX3_leave_92 : decode cX3_leave 92 = .ok (.getfield 193, 3) := by decide +kernel
theorem dX3_leave_95 : decode cX3_leave 95 = .ok (.invokevirtual 196, 3) := by decide +kernel
theorem dX3_leave_98 : decode cX3_leave 98 = .ok (.aload_n 0, 1) := by decide +kernel
theorem dX3_leave_99 : decode cX3_leave 99 = .ok (.dup, 1) := by decide +kernel
theorem dX3_leave_100 : decode cX3_leave 100 = .ok (.getfield 62, 3) := by decide +kernel
theorem dX3_leave_103 : decode cX3_leave 103 = .ok (.aload_n 3, 1) := by decide +kernel
theorem dX3_leave_104 : decode cX3_leave 104 = .ok (.invokevirtual 108, 3) := by decide +kernel
theorem dX3_leave_107 : decode cX3_leave 107 = .ok (.iconst (-1), 1) := by decide +kernel
theorem dX3_leave_108 : decode cX3_leave 108 = .ok (.ixor, 1) := by decide +kernel
theorem dX3_leave_109 : decode cX3_leave 109 = .ok (.iand, 1) := by decide +kernel
theorem dX3_leave_110 : decode cX3_leave 110 = .ok (.putfield 62, 3) := by decide +kernel
theorem dX3_leave_113 : decode cX3_leave 113 = .ok (.aload_n 0, 1) := by decide +kernel
theorem dX3_leave_114 : decode cX3_leave 114 = .ok (.iconst (-1), 1) := by decide +kernel
theorem dX3_leave_115 : decode cX3_leave 115 = .ok (.iload_n 2, 1) := by decide +kernel
theorem dX3_leave_116 : decode cX3_leave 116 = .ok (.isub, 1) := by decide +kernel
theorem dX3_leave_117 : decode cX3_leave 117 = .ok (.invokevirtual 200, 3) := by decide +kernel
theorem dX3_leave_120 : decode cX3_leave 120 = .ok (.iinc 2 (-1), 3) := by decide +kernel
theorem dX3_leave_123 : decode cX3_leave 123 = .ok (.goto (-61), 3) := by decide +kernel
theorem dX3_leave_126 : decode cX3_leave 126 = .ok (.return_, 1) := by decide +kernel
abbrev cX3_record : ByteArray := prog_10_method_19_code
def yX3_record : MethodName := ⟨RX3, "record", "(LNestChart$State;)V"⟩
theorem dX3_record_0 : decode cX3_record 0 = .ok (.iconst 0, 1) := by decide +kernel
theorem dX3_record_1 : decode cX3_record 1 = .ok (.istore_n 2, 1) := by decide +kernel
theorem dX3_record_2 : decode cX3_record 2 = .ok (.iconst 0, 1) := by decide +kernel
theorem dX3_record_3 : decode cX3_record 3 = .ok (.istore_n 3, 1) := by decide +kernel
theorem dX3_record_4 : decode cX3_record 4 = .ok (.iload_n 3, 1) := by decide +kernel
theorem dX3_record_5 : decode cX3_record 5 = .ok (.aload_n 1, 1) := by decide +kernel
theorem dX3_record_6 : decode cX3_record 6 = .ok (.getfield 186, 3) := by decide +kernel
theorem dX3_record_9 : decode cX3_record 9 = .ok (.invokevirtual 46, 3) := by decide +kernel
theorem dX3_record_12 : decode cX3_record 12 = .ok (.if_icmp .ge 26, 3) := by decide +kernel
theorem dX3_record_15 : decode cX3_record 15 = .ok (.iload_n 2, 1) := by decide +kernel
theorem dX3_record_16 : decode cX3_record 16 = .ok (.aload_n 1, 1) := by decide +kernel
theorem dX3_record_17 : decode cX3_record 17 = .ok (.getfield 186, 3) := by decide +kernel
theorem dX3_record_20 : decode cX3_record 20 = .ok (.iload_n 3, 1) := by decide +kernel
theorem dX3_record_21 : decode cX3_record 21 = .ok (.invokevirtual 76, 3) := by decide +kernel
theorem dX3_record_24 : decode cX3_record 24 = .ok (.checkcast 80, 3) := by decide +kernel
theorem dX3_record_27 : decode cX3_record 27 = .ok (.invokevirtual 108, 3) := by decide +kernel
theorem dX3_record_30 : decode cX3_record 30 = .ok (.ior, 1) := by decide +kernel
theorem dX3_record_31 : decode cX3_record 31 = .ok (.istore_n 2, 1) := by decide +kernel
theorem dX3_record_32 : decode cX3_record 32 = .ok (.iinc 3 1, 3) := by decide +kernel
theorem dX3_record_35 : decode cX3_record 35 = .ok (.goto (-31), 3) := by decide +kernel
theorem dX3_record_38 : decode cX3_record 38 = .ok (.aload_n 1, 1) := by decide +kernel
theorem dX3_record_39 : decode cX3_record 39 = .ok (.aload_n 0, 1) := by decide +kernel
theorem dX3_record_40 : decode cX3_record 40 = .ok (.getfield 62, 3) := by decide +kernel
theorem dX3_record_43 : decode cX3_record 43 = .ok (.iload_n 2, 1) := by decide +kernel
theorem dX3_record_44 : decode cX3_record 44 = .ok (.iand, 1) := by decide +kernel
theorem dX3_record_45 : decode cX3_record 45 = .ok (.putfield 82, 3) := by decide +kernel
theorem dX3_record_48 : decode cX3_record 48 = .ok (.aload_n 1, 1) := by decide +kernel
theorem dX3_record_49 : decode cX3_record 49 = .ok (.iconst 0, 1) := by decide +kernel
theorem dX3_record_50 : decode cX3_record 50 = .ok (.putfield 85, 3) := by decide +kernel
theorem dX3_record_53 : decode cX3_record 53 = .ok (.iconst 0, 1) := by decide +kernel
theorem dX3_record_54 : decode cX3_record 54 = .ok (.istore_n 3, 1) := by decide +kernel
theorem dX3_record_55 : decode cX3_record 55 = .ok (.iload_n 3, 1) := by decide +kernel
theorem dX3_record_56 : decode cX3_record 56 = .ok (.aload_n 0, 1) := by decide +kernel
theorem dX3_record_57 : decode cX3_record 57 = .ok (.getfield 12, 3) := by decide +kernel
theorem dX3_record_60 : decode cX3_record 60 = .ok (.invokevirtual 46, 3) := by decide +kernel
theorem dX3_record_63 : decode cX3_record 63 = .ok (.if_icmp .ge 62, 3) := by decide +kernel
theorem dX3_record_66 : decode cX3_record 66 = .ok (.aload_n 0, 1) := by decide +kernel
theorem dX3_record_67 : decode cX3_record 67 = .ok (.getfield 12, 3) := by decide +kernel
theorem dX3_record_70 : decode cX3_record 70 = .ok (.iload_n 3, 1) := by decide +kernel
theorem dX3_record_71 : decode cX3_record 71 = .ok (.invokevirtual 76, 3) := by decide +kernel
theorem dX3_record_74 : decode cX3_record 74 = .ok (.checkcast 80, 3) := by decide +kernel
theorem dX3_record_77 : decode cX3_record 77 = .ok (.astore 4, 2) := by decide +kernel
theorem dX3_record_79 : decode cX3_record 79 = .ok (.aload 4, 2) := by decide +kernel
theorem dX3_record_81 : decode cX3_record 81 = .ok (.getfield 141, 3) := by decide +kernel
theorem dX3_record_84 : decode cX3_record 84 = .ok (.ifCond .ne 35, 3) := by decide +kernel
theorem dX3_record_87 : decode cX3_record 87 = .ok (.aload_n 1, 1) := by decide +kernel
theorem dX3_record_88 : decode cX3_record 88 = .ok (.getfield 105, 3) := by decide +kernel
theorem dX3_record_91 : decode cX3_record 91 = .ok (.aload_n 0, 1) := by decide +kernel
theorem dX3_record_92 : decode cX3_record 92 = .ok (.getfield 62, 3) := by decide +kernel
theorem dX3_record_95 : decode cX3_record 95 = .ok (.iand, 1) := by decide +kernel
theorem dX3_record_96 : decode cX3_record 96 = .ok (.aload 4, 2) := by decide +kernel
theorem dX3_record_98 : decode cX3_record 98 = .ok (.invokevirtual 108, 3) := by decide +kernel
theorem dX3_record_101 : decode cX3_record 101 = .ok (.iand, 1) := by decide +kernel
theorem dX3_record_102 : decode cX3_record 102 = .ok (.ifCond .eq 17, 3) := by decide +kernel
theorem dX3_record_105 : decode cX3_record 105 = .ok (.aload_n 1, 1) := by decide +kernel
theorem dX3_record_106 : decode cX3_record 106 = .ok (.dup, 1) := by decide +kernel
theorem dX3_record_107 : decode cX3_record 107 = .ok (.getfield 85, 3) := by decide +kernel
theorem dX3_record_110 : decode cX3_record 110 = .ok (.aload 4, 2) := by decide +kernel
theorem dX3_record_112 : decode cX3_record 112 = .ok (.invokevirtual 108, 3) := by decide +kernel
theorem dX3_record_115 : decode cX3_record 115 = .ok (.ior, 1) := by decide +kernel
theorem dX3_record_116 : decode cX3_record 116 = .ok (.putfield 85, 3) := by decide +kernel
theorem dX3_record_119 : decode cX3_record 119 = .ok (.iinc 3 1, 3) := by decide +kernel
theorem dX3_record_122 : decode cX3_record 122 = .ok (.goto (-67), 3) := by decide +kernel
theorem dX3_record_125 : decode cX3_record 125 = .ok (.return_, 1) := by decide +kernel
abbrev cX3_entries : ByteArray := prog_10_method_22_code
def yX3_entries : MethodName := ⟨RX3, "entries", "()I"⟩
theorem dX3_entries_0 : decode cX3_entries 0 = .ok (.iconst 0, 1) := by decide +kernel
theorem dX3_entries_1 : decode cX3_entries 1 = .ok (.istore_n 1, 1) := by decide +kernel
theorem dX3_entries_2 : decode cX3_entries 2 = .ok (.iconst 0, 1) := by decide +kernel
theorem dX3_entries_3 : decode cX3_entries 3 = .ok (.istore_n 2, 1) := by decide +kernel
theorem dX3_entries_4 : decode cX3_entries 4 = .ok (.iload_n 2, 1) := by decide +kernel
theorem dX3_entries_5 : decode cX3_entries 5 = .ok (.aload_n 0, 1) := by decide +kernel
theorem dX3_entries_6 : decode cX3_entries 6 = .ok (.getfield 33, 3) := by decide +kernel
theorem dX3_entries_9 : decode cX3_entries 9 = .ok (.invokevirtual 46, 3) := by decide +kernel
theorem dX3_entries_12 : decode cX3_entries 12 = .ok (.if_icmp .ge 118, 3) := by decide +kernel
theorem dX3_entries_15 : decode cX3_entries 15 = .ok (.aload_n 0, 1) := by decide +kernel
theorem dX3_entries_16 : decode cX3_entries 16 = .ok (.getfield 33, 3) := by decide +kernel
theorem dX3_entries_19 : decode cX3_entries 19 = .ok (.iload_n 2, 1) := by decide +kernel
theorem dX3_entries_20 : decode cX3_entries 20 = .ok (.invokevirtual 76, 3) := by decide +kernel
theorem dX3_entries_23 : decode cX3_entries 23 = .ok (.checkcast 112, 3) := by decide +kernel
theorem dX3_entries_26 : decode cX3_entries 26 = .ok (.astore_n 3, 1) := by decide +kernel
theorem dX3_entries_27 : decode cX3_entries 27 = .ok (.iload_n 1, 1) := by decide +kernel
theorem dX3_entries_28 : decode cX3_entries 28 = .ok (.aload_n 3, 1) := by decide +kernel
theorem dX3_entries_29 : decode cX3_entries 29 = .ok (.getfield 111, 3) := by decide +kernel
theorem dX3_entries_32 : decode cX3_entries 32 = .ok (.ior, 1) := by decide +kernel
theorem dX3_entries_33 : decode cX3_entries 33 = .ok (.istore_n 1, 1) := by decide +kernel
theorem dX3_entries_34 : decode cX3_entries 34 = .ok (.iconst 0, 1) := by decide +kernel
theorem dX3_entries_35 : decode cX3_entries 35 = .ok (.istore 4, 2) := by decide +kernel
theorem dX3_entries_37 : decode cX3_entries 37 = .ok (.iload 4, 2) := by decide +kernel
theorem dX3_entries_39 : decode cX3_entries 39 = .ok (.aload_n 0, 1) := by decide +kernel
theorem dX3_entries_40 : decode cX3_entries 40 = .ok (.getfield 12, 3) := by decide +kernel
theorem dX3_entries_43 : decode cX3_entries 43 = .ok (.invokevirtual 46, 3) := by decide +kernel
theorem dX3_entries_46 : decode cX3_entries 46 = .ok (.if_icmp .ge 78, 3) := by decide +kernel
theorem dX3_entries_49 : decode cX3_entries 49 = .ok (.aload_n 0, 1) := by decide +kernel
theorem dX3_entries_50 : decode cX3_entries 50 = .ok (.getfield 12, 3) := by decide +kernel
theorem dX3_entries_53 : decode cX3_entries 53 = .ok (.iload 4, 2) := by decide +kernel
theorem dX3_entries_55 : decode cX3_entries 55 = .ok (.invokevirtual 76, 3) := by decide +kernel
theorem dX3_entries_58 : decode cX3_entries 58 = .ok (.checkcast 80, 3) := by decide +kernel
theorem dX3_entries_61 : decode cX3_entries 61 = .ok (.astore 5, 2) := by decide +kernel
theorem dX3_entries_63 : decode cX3_entries 63 = .ok (.aload_n 3, 1) := by decide +kernel
theorem dX3_entries_64 : decode cX3_entries 64 = .ok (.getfield 111, 3) := by decide +kernel
theorem dX3_entries_67 : decode cX3_entries 67 = .ok (.aload 5, 2) := by decide +kernel
theorem dX3_entries_69 : decode cX3_entries 69 = .ok (.invokevirtual 108, 3) := by decide +kernel
theorem dX3_entries_72 : decode cX3_entries 72 = .ok (.iand, 1) := by decide +kernel
theorem dX3_entries_73 : decode cX3_entries 73 = .ok (.ifCond .ne 6, 3) := by decide +kernel
theorem dX3_entries_76 : decode cX3_entries 76 = .ok (.goto 42, 3) := by decide +kernel
theorem dX3_entries_79 : decode cX3_entries 79 = .ok (.aload 5, 2) := by decide +kernel
theorem dX3_entries_81 : decode cX3_entries 81 = .ok (.iload_n 1, 1) := by decide +kernel
theorem dX3_entries_82 : decode cX3_entries 82 = .ok (.invokestatic 91, 3) := by decide +kernel
theorem dX3_entries_85 : decode cX3_entries 85 = .ok (.istore_n 1, 1) := by decide +kernel
theorem dX3_entries_86 : decode cX3_entries 86 = .ok (.aload 5, 2) := by decide +kernel
theorem dX3_entries_88 : decode cX3_entries 88 = .ok (.aload_n 3, 1) := by decide +kernel
theorem dX3_entries_89 : decode cX3_entries 89 = .ok (.getfield 119, 3) := by decide +kernel
theorem dX3_entries_92 : decode cX3_entries 92 = .ok (.ifCond .ge 7, 3) := by decide +kernel
theorem dX3_entries_95 : decode cX3_entries 95 = .ok (.aconst_null, 1) := by decide +kernel
theorem dX3_entries_96 : decode cX3_entries 96 = .ok (.goto 17, 3) := by decide +kernel
theorem dX3_entries_99 : decode cX3_entries 99 = .ok (.aload_n 0, 1) := by decide +kernel
theorem dX3_entries_100 : decode cX3_entries 100 = .ok (.getfield 12, 3) := by decide +kernel
theorem dX3_entries_103 : decode cX3_entries 103 = .ok (.aload_n 3, 1) := by decide +kernel
theorem dX3_entries_104 : decode cX3_entries 104 = .ok (.getfield 119, 3) := by decide +kernel
theorem dX3_entries_107 : decode cX3_entries 107 = .ok (.invokevirtual 76, 3) := by decide +kernel
theorem dX3_entries_110 : decode cX3_entries 110 = .ok (.checkcast 80, 3) := by decide +kernel
theorem dX3_entries_113 : decode cX3_entries 113 = .ok (.iload_n 1, 1) := by decide +kernel
theorem dX3_entries_114 : decode cX3_entries 114 = .ok (.invokestatic 206, 3) := by decide +kernel
theorem dX3_entries_117 : decode cX3_entries 117 = .ok (.istore_n 1, 1) := by decide +kernel
theorem dX3_entries_118 : decode cX3_entries 118 = .ok (.iinc 4 1, 3) := by decide +kernel
theorem dX3_entries_121 : decode cX3_entries 121 = .ok (.goto (-84), 3) := by decide +kernel
theorem dX3_entries_124 : decode cX3_entries 124 = .ok (.iinc 2 1, 3) := by decide +kernel
theorem dX3_entries_127 : decode cX3_entries 127 = .ok (.goto (-123), 3) := by decide +kernel
theorem dX3_entries_130 : decode cX3_entries 130 = .ok (.iload_n 1, 1) := by decide +kernel
theorem dX3_entries_131 : decode cX3_entries 131 = .ok (.ireturn, 1) := by decide +kernel
abbrev cX3_come : ByteArray := prog_10_method_25_code
def yX3_come : MethodName := ⟨RX3, "come", "(C)V"⟩
theorem dX3_come_0 : decode cX3_come 0 = .ok (.aload_n 0, 1) := by decide +kernel
theorem dX3_come_1 : decode cX3_come 1 = .ok (.iload_n 1, 1) := by decide +kernel
theorem dX3_come_2 : decode cX3_come 2 = .ok (.invokevirtual 222, 3) := by decide +kernel
theorem dX3_come_5 : decode cX3_come 5 = .ok (.aload_n 0, 1) := by decide +kernel
theorem dX3_come_6 : decode cX3_come 6 = .ok (.getfield 33, 3) := by decide +kernel
theorem dX3_come_9 : decode cX3_come 9 = .ok (.invokevirtual 226, 3) := by decide +kernel
theorem dX3_come_12 : decode cX3_come 12 = .ok (.ifCond .ne 7, 3) := by decide +kernel
theorem dX3_come_15 : decode cX3_come 15 = .ok (.aload_n 0, 1) := by decide +kernel
theorem dX3_come_16 : decode cX3_come 16 = .ok (.invokevirtual 230, 3) := by decide +kernel
theorem dX3_come_19 : decode cX3_come 19 = .ok (.aload_n 0, 1) := by decide +kernel
theorem dX3_come_20 : decode cX3_come 20 = .ok (.invokevirtual 99, 3) := by decide +kernel
theorem dX3_come_23 : decode cX3_come 23 = .ok (.return_, 1) := by decide +kernel
abbrev cX3_tick : ByteArray := prog_10_method_26_code
def yX3_tick : MethodName := ⟨RX3, "tick", "()V"⟩
theorem dX3_tick_0 : decode cX3_tick 0 = .ok (.aload_n 0, 1) := by decide +kernel
theorem dX3_tick_1 : decode cX3_tick 1 = .ok (.dup, 1) := by decide +kernel
theorem dX3_tick_2 : decode cX3_tick 2 = .ok (.getfield 52, 3) := by decide +kernel
theorem dX3_tick_5 : decode cX3_tick 5 = .ok (.iconst 1, 1) := by decide +kernel
theorem dX3_tick_6 : decode cX3_tick 6 = .ok (.iadd, 1) := by decide +kernel
theorem dX3_tick_7 : decode cX3_tick 7 = .ok (.putfield 52, 3) := by decide +kernel
theorem dX3_tick_10 : decode cX3_tick 10 = .ok (.aload_n 0, 1) := by decide +kernel
theorem dX3_tick_11 : decode cX3_tick 11 = .ok (.getfield 26, 3) := by decide +kernel
theorem dX3_tick_14 : decode cX3_tick 14 = .ok (.invokevirtual 46, 3) := by decide +kernel
theorem dX3_tick_17 : decode cX3_tick 17 = .ok (.istore_n 1, 1) := by decide +kernel
theorem dX3_tick_18 : decode cX3_tick 18 = .ok (.iconst 0, 1) := by decide +kernel
theorem dX3_tick_19 : decode cX3_tick 19 = .ok (.istore_n 2, 1) := by decide +kernel
theorem dX3_tick_20 : decode cX3_tick 20 = .ok (.iconst 0, 1) := by decide +kernel
theorem dX3_tick_21 : decode cX3_tick 21 = .ok (.istore_n 3, 1) := by decide +kernel
theorem dX3_tick_22 : decode cX3_tick 22 = .ok (.iload_n 3, 1) := by decide +kernel
theorem dX3_tick_23 : decode cX3_tick 23 = .ok (.iload_n 1, 1) := by decide +kernel
theorem dX3_tick_24 : decode cX3_tick 24 = .ok (.if_icmp .ge 58, 3) := by decide +kernel
theorem dX3_tick_27 : decode cX3_tick 27 = .ok (.aload_n 0, 1) := by decide +kernel
theorem dX3_tick_28 : decode cX3_tick 28 = .ok (.getfield 26, 3) := by decide +kernel
theorem dX3_tick_31 : decode cX3_tick 31 = .ok (.iload_n 2, 1) := by decide +kernel
theorem dX3_tick_32 : decode cX3_tick 32 = .ok (.invokevirtual 76, 3) := by decide +kernel
theorem dX3_tick_35 : decode cX3_tick 35 = .ok (.checkcast 50, 3) := by decide +kernel
theorem dX3_tick_38 : decode cX3_tick 38 = .ok (.astore 4, 2) := by decide +kernel
theorem dX3_tick_40 : decode cX3_tick 40 = .ok (.aload 4, 2) := by decide +kernel
theorem dX3_tick_42 : decode cX3_tick 42 = .ok (.getfield 233, 3) := by decide +kernel
theorem dX3_tick_45 : decode cX3_tick 45 = .ok (.aload_n 0, 1) := by decide +kernel
theorem dX3_tick_46 : decode cX3_tick 46 = .ok (.getfield 52, 3) := by decide +kernel
theorem dX3_tick_49 : decode cX3_tick 49 = .ok (.if_icmp .le 9, 3) := by decide +kernel
theorem dX3_tick_52 : decode cX3_tick 52 = .ok (.iinc 2 1, 3) := by decide +kernel
theorem dX3_tick_55 : decode cX3_tick 55 = .ok (.goto 21, 3) := by decide +kernel
theorem dX3_tick_58 : decode cX3_tick 58 = .ok (.aload_n 0, 1) := by decide +kernel
theorem dX3_tick_59 : decode cX3_tick 59 = .ok (.getfield 26, 3) := by decide +kernel
theorem dX3_tick_62 : decode cX3_tick 62 = .ok (.iload_n 2, 1) := by decide +kernel
theorem dX3_tick_63 : decode cX3_tick 63 = .ok (.invokevirtual 177, 3) := by decide +kernel
theorem dX3_tick_66 : decode cX3_tick 66 = .ok (.pop, 1) := by decide +kernel
theorem dX3_tick_67 : decode cX3_tick 67 = .ok (.aload_n 0, 1) := by decide +kernel
theorem dX3_tick_68 : decode cX3_tick 68 = .ok (.aload 4, 2) := by decide +kernel
theorem dX3_tick_70 : decode cX3_tick 70 = .ok (.getfield 236, 3) := by decide +kernel
theorem dX3_tick_73 : decode cX3_tick 73 = .ok (.invokevirtual 240, 3) := by decide +kernel
theorem dX3_tick_76 : decode cX3_tick 76 = .ok (.iinc 3 1, 3) := by decide +kernel
theorem dX3_tick_79 : decode cX3_tick 79 = .ok (.goto (-57), 3) := by decide +kernel
theorem dX3_tick_82 : decode cX3_tick 82 = .ok (.return_, 1) := by decide +kernel
theorem q74 : (Jvm.Cond.initialized "NestChart$Run") ∈ lw_all := lw_g (lw_at lw_m1 3 rfl) rfl
theorem q149 : (Jvm.Cond.instantiable "NestChart$Run" (14 : Nat)) ∈ lw_all := lw_g (lw_at lw_m1 78 rfl) rfl
theorem q151 : (Jvm.Cond.instanceMethod ({ cls := "NestChart$Run", name := "<init>", desc := "()V" } : Jvm.MethodName)) ∈ lw_all := lw_g (lw_at lw_m1 80 rfl) rfl
theorem q152 : (Jvm.Cond.code ({ cls := "NestChart$Run", name := "<init>", desc := "()V" } : Jvm.MethodName) prog_10_method_1_code (1 : Nat) (Option.none : Option Jvm.ClassFile.FieldType)) ∈ lw_all := lw_g (lw_at lw_m1 81 rfl) rfl
theorem q153 : (Jvm.Cond.methodLink "NestChart$Run" (3 : Nat) ({ cls := "java/lang/Object", name := "<init>", desc := "()V" } : Jvm.MethodName)) ∈ lw_all := lw_g (lw_at lw_m1 82 rfl) rfl
theorem q154 : (Jvm.Cond.classLink "NestChart$Run" (9 : Nat) "java/util/ArrayList") ∈ lw_all := lw_g (lw_at lw_m1 83 rfl) rfl
theorem q156 : (Jvm.Cond.methodLink "NestChart$Run" (11 : Nat) ({ cls := "java/util/ArrayList", name := "<init>", desc := "()V" } : Jvm.MethodName)) ∈ lw_all := lw_g (lw_at lw_m1 85 rfl) rfl
theorem q180 : (Jvm.Cond.fieldLink "NestChart$Run" (12 : Nat) "NestChart$Run" "states" "Ljava/util/ArrayList;") ∈ lw_all := lw_g (lw_at lw_m1 109 rfl) rfl
theorem q182 : (Jvm.Cond.fieldLink "NestChart$Run" (65 : Nat) "NestChart$Run" "runs" "Z") ∈ lw_all := lw_g (lw_at lw_m1 111 rfl) rfl
theorem q184 : (Jvm.Cond.fieldLink "NestChart$Run" (62 : Nat) "NestChart$Run" "active" "I") ∈ lw_all := lw_g (lw_at lw_m1 113 rfl) rfl
theorem q185 : (Jvm.Cond.fieldLink "NestChart$Run" (18 : Nat) "NestChart$Run" "variables" "[D") ∈ lw_all := lw_g (lw_at lw_m1 114 rfl) rfl
theorem q187 : (Jvm.Cond.fieldLink "NestChart$Run" (22 : Nat) "NestChart$Run" "raised" "[C") ∈ lw_all := lw_g (lw_at lw_m1 116 rfl) rfl
theorem q188 : (Jvm.Cond.fieldLink "NestChart$Run" (43 : Nat) "NestChart$Run" "first" "I") ∈ lw_all := lw_g (lw_at lw_m1 117 rfl) rfl
theorem q189 : (Jvm.Cond.fieldLink "NestChart$Run" (39 : Nat) "NestChart$Run" "raises" "I") ∈ lw_all := lw_g (lw_at lw_m1 118 rfl) rfl
theorem q190 : (Jvm.Cond.fieldLink "NestChart$Run" (26 : Nat) "NestChart$Run" "sent" "Ljava/util/ArrayList;") ∈ lw_all := lw_g (lw_at lw_m1 119 rfl) rfl
theorem q192 : (Jvm.Cond.fieldLink "NestChart$Run" (52 : Nat) "NestChart$Run" "clock" "I") ∈ lw_all := lw_g (lw_at lw_m1 121 rfl) rfl
theorem q193 : (Jvm.Cond.fieldLink "NestChart$Run" (29 : Nat) "NestChart$Run" "trace" "[I") ∈ lw_all := lw_g (lw_at lw_m1 122 rfl) rfl
theorem q195 : (Jvm.Cond.fieldLink "NestChart$Run" (72 : Nat) "NestChart$Run" "traced" "I") ∈ lw_all := lw_g (lw_at lw_m1 124 rfl) rfl
theorem q198 : (Jvm.Cond.fieldLink "NestChart$Run" (102 : Nat) "NestChart$Run" "steps" "I") ∈ lw_all := lw_g (lw_at lw_m1 127 rfl) rfl
theorem q199 : (Jvm.Cond.fieldLink "NestChart$Run" (33 : Nat) "NestChart$Run" "chosen" "Ljava/util/ArrayList;") ∈ lw_all := lw_g (lw_at lw_m1 128 rfl) rfl
theorem q200 : (Jvm.Cond.fieldLink "NestChart$Run" (36 : Nat) "NestChart$Run" "others" "Ljava/util/ArrayList;") ∈ lw_all := lw_g (lw_at lw_m1 129 rfl) rfl
theorem q201 : (Jvm.Cond.lays "NestChart$Run" "NestChart$Run" "states" "Ljava/util/ArrayList;") ∈ lw_all := lw_g (lw_at lw_m1 130 rfl) rfl
theorem q202 : (Jvm.Cond.soleField "NestChart$Run" "states") ∈ lw_all := lw_g (lw_at lw_m1 131 rfl) rfl
theorem q203 : (Jvm.Cond.lays "NestChart$Run" "NestChart$Run" "runs" "Z") ∈ lw_all := lw_g (lw_at lw_m1 132 rfl) rfl
theorem q204 : (Jvm.Cond.soleField "NestChart$Run" "runs") ∈ lw_all := lw_g (lw_at lw_m1 133 rfl) rfl
theorem q205 : (Jvm.Cond.lays "NestChart$Run" "NestChart$Run" "active" "I") ∈ lw_all := lw_g (lw_at lw_m1 134 rfl) rfl
theorem q206 : (Jvm.Cond.soleField "NestChart$Run" "active") ∈ lw_all := lw_g (lw_at lw_m1 135 rfl) rfl
theorem q207 : (Jvm.Cond.laysFinal "NestChart$Run" "NestChart$Run" "variables" "[D") ∈ lw_all := lw_g (lw_at lw_m1 136 rfl) rfl
theorem q208 : (Jvm.Cond.soleField "NestChart$Run" "variables") ∈ lw_all := lw_g (lw_at lw_m1 137 rfl) rfl
theorem q209 : (Jvm.Cond.laysFinal "NestChart$Run" "NestChart$Run" "raised" "[C") ∈ lw_all := lw_g (lw_at lw_m1 138 rfl) rfl
theorem q210 : (Jvm.Cond.soleField "NestChart$Run" "raised") ∈ lw_all := lw_g (lw_at lw_m1 139 rfl) rfl
theorem q211 : (Jvm.Cond.lays "NestChart$Run" "NestChart$Run" "first" "I") ∈ lw_all := lw_g (lw_at lw_m1 140 rfl) rfl
theorem q212 : (Jvm.Cond.soleField "NestChart$Run" "first") ∈ lw_all := lw_g (lw_at lw_m1 141 rfl) rfl
theorem q213 : (Jvm.Cond.lays "NestChart$Run" "NestChart$Run" "raises" "I") ∈ lw_all := lw_g (lw_at lw_m1 142 rfl) rfl
theorem q214 : (Jvm.Cond.soleField "NestChart$Run" "raises") ∈ lw_all := lw_g (lw_at lw_m1 143 rfl) rfl
theorem q215 : (Jvm.Cond.laysFinal "NestChart$Run" "NestChart$Run" "sent" "Ljava/util/ArrayList;") ∈ lw_all := lw_g (lw_at lw_m1 144 rfl) rfl
theorem q216 : (Jvm.Cond.soleField "NestChart$Run" "sent") ∈ lw_all := lw_g (lw_at lw_m1 145 rfl) rfl
theorem q217 : (Jvm.Cond.lays "NestChart$Run" "NestChart$Run" "clock" "I") ∈ lw_all := lw_g (lw_at lw_m1 146 rfl) rfl
theorem q218 : (Jvm.Cond.soleField "NestChart$Run" "clock") ∈ lw_all := lw_g (lw_at lw_m1 147 rfl) rfl
theorem q219 : (Jvm.Cond.laysFinal "NestChart$Run" "NestChart$Run" "trace" "[I") ∈ lw_all := lw_g (lw_at lw_m1 148 rfl) rfl
theorem q220 : (Jvm.Cond.soleField "NestChart$Run" "trace") ∈ lw_all := lw_g (lw_at lw_m1 149 rfl) rfl
theorem q221 : (Jvm.Cond.lays "NestChart$Run" "NestChart$Run" "traced" "I") ∈ lw_all := lw_g (lw_at lw_m1 150 rfl) rfl
theorem q222 : (Jvm.Cond.soleField "NestChart$Run" "traced") ∈ lw_all := lw_g (lw_at lw_m1 151 rfl) rfl
theorem q223 : (Jvm.Cond.lays "NestChart$Run" "NestChart$Run" "steps" "I") ∈ lw_all := lw_g (lw_at lw_m1 152 rfl) rfl
theorem q224 : (Jvm.Cond.soleField "NestChart$Run" "steps") ∈ lw_all := lw_g (lw_at lw_m1 153 rfl) rfl
theorem q225 : (Jvm.Cond.lays "NestChart$Run" "NestChart$Run" "chosen" "Ljava/util/ArrayList;") ∈ lw_all := lw_g (lw_at lw_m1 154 rfl) rfl
theorem q226 : (Jvm.Cond.soleField "NestChart$Run" "chosen") ∈ lw_all := lw_g (lw_at lw_m1 155 rfl) rfl
theorem q227 : (Jvm.Cond.lays "NestChart$Run" "NestChart$Run" "others" "Ljava/util/ArrayList;") ∈ lw_all := lw_g (lw_at lw_m1 156 rfl) rfl
theorem q228 : (Jvm.Cond.soleField "NestChart$Run" "others") ∈ lw_all := lw_g (lw_at lw_m1 157 rfl) rfl
theorem q229 : (Jvm.Cond.superclass "NestChart$Run" "java/lang/Object") ∈ lw_all := lw_g (lw_at lw_m1 158 rfl) rfl
theorem q287 : (Jvm.Cond.instanceMethod ({ cls := "NestChart$Run", name := "isActive", desc := "(I)Z" } : Jvm.MethodName)) ∈ lw_all := lw_g (lw_at lw_m1 216 rfl) rfl
theorem q288 : (Jvm.Cond.selects "NestChart$Run" ({ cls := "NestChart$Run", name := "isActive", desc := "(I)Z" } : Jvm.MethodName) ({ cls := "NestChart$Run", name := "isActive", desc := "(I)Z" } : Jvm.MethodName)) ∈ lw_all := lw_g (lw_at lw_m1 217 rfl) rfl
theorem q289 : (Jvm.Cond.code ({ cls := "NestChart$Run", name := "isActive", desc := "(I)Z" } : Jvm.MethodName) prog_10_method_6_code (2 : Nat) (Option.some Jvm.ClassFile.FieldType.boolean)) ∈ lw_all := lw_g (lw_at lw_m1 218 rfl) rfl
theorem q415 : (Jvm.Cond.fieldLinkNest "NestChart$Run" (144 : Nat) "NestChart$State" "number" "I" "NestChart") ∈ lw_tbl := lw_at lw_m2 104 rfl
theorem q418 : (Jvm.Cond.fieldLinkNest "NestChart$Run" (138 : Nat) "NestChart$State" "outer" "LNestChart$State;" "NestChart") ∈ lw_tbl := lw_at lw_m2 107 rfl
theorem q421 : (Jvm.Cond.fieldLinkNest "NestChart$Run" (141 : Nat) "NestChart$State" "kind" "I" "NestChart") ∈ lw_tbl := lw_at lw_m2 110 rfl
theorem q425 : (Jvm.Cond.fieldLinkNest "NestChart$Run" (186 : Nat) "NestChart$State" "inner" "Ljava/util/ArrayList;" "NestChart") ∈ lw_tbl := lw_at lw_m2 114 rfl
theorem q428 : (Jvm.Cond.fieldLinkNest "NestChart$Run" (166 : Nat) "NestChart$State" "transitions" "Ljava/util/ArrayList;" "NestChart") ∈ lw_tbl := lw_at lw_m2 117 rfl
theorem q431 : (Jvm.Cond.fieldLinkNest "NestChart$Run" (203 : Nat) "NestChart$State" "entry" "Ljava/util/ArrayList;" "NestChart") ∈ lw_tbl := lw_at lw_m2 120 rfl
theorem q434 : (Jvm.Cond.fieldLinkNest "NestChart$Run" (193 : Nat) "NestChart$State" "exit" "Ljava/util/ArrayList;" "NestChart") ∈ lw_tbl := lw_at lw_m2 123 rfl
theorem q437 : (Jvm.Cond.fieldLinkNest "NestChart$Run" (105 : Nat) "NestChart$State" "below" "I" "NestChart") ∈ lw_tbl := lw_at lw_m2 126 rfl
theorem q438 : (Jvm.Cond.fieldLinkNest "NestChart$Run" (82 : Nat) "NestChart$State" "history" "I" "NestChart") ∈ lw_tbl := lw_at lw_m2 127 rfl
theorem q440 : (Jvm.Cond.fieldLinkNest "NestChart$Run" (85 : Nat) "NestChart$State" "deepHistory" "I" "NestChart") ∈ lw_tbl := lw_at lw_m2 129 rfl
theorem q502 : (Jvm.Cond.selects "NestChart$Run" ({ cls := "java/lang/Object", name := "getClass", desc := "()Ljava/lang/Class;" } : Jvm.MethodName) ({ cls := "java/lang/Object", name := "getClass", desc := "()Ljava/lang/Class;" } : Jvm.MethodName)) ∈ lw_all := lw_g (lw_at lw_m2 191 rfl) rfl
theorem q623 : (Jvm.Cond.fieldLinkNest "NestChart$Run" (134 : Nat) "NestChart$Transition" "from" "LNestChart$State;" "NestChart") ∈ lw_tbl := lw_at lw_m3 72 rfl
theorem q629 : (Jvm.Cond.fieldLinkNest "NestChart$Run" (216 : Nat) "NestChart$Transition" "actions" "Ljava/util/ArrayList;" "NestChart") ∈ lw_tbl := lw_at lw_m3 78 rfl
theorem q631 : (Jvm.Cond.fieldLinkNest "NestChart$Run" (122 : Nat) "NestChart$Transition" "target" "LNestChart$Name;" "NestChart") ∈ lw_tbl := lw_at lw_m3 80 rfl
theorem q632 : (Jvm.Cond.fieldLinkNest "NestChart$Run" (111 : Nat) "NestChart$Transition" "goals" "I" "NestChart") ∈ lw_tbl := lw_at lw_m3 81 rfl
theorem q633 : (Jvm.Cond.fieldLinkNest "NestChart$Run" (119 : Nat) "NestChart$Transition" "domain" "I" "NestChart") ∈ lw_tbl := lw_at lw_m3 82 rfl
theorem q634 : (Jvm.Cond.fieldLinkNest "NestChart$Run" (116 : Nat) "NestChart$Transition" "exits" "I" "NestChart") ∈ lw_tbl := lw_at lw_m3 83 rfl
theorem q668 : (Jvm.Cond.fieldLinkNest "NestChart$Run" (131 : Nat) "NestChart$Name" "stars" "I" "NestChart") ∈ lw_tbl := lw_at lw_m3 117 rfl
theorem q671 : (Jvm.Cond.fieldLinkNest "NestChart$Run" (126 : Nat) "NestChart$Name" "state" "I" "NestChart") ∈ lw_tbl := lw_at lw_m3 120 rfl
theorem q720 : (Jvm.Cond.instanceMethod ({ cls := "NestChart$Run", name := "build", desc := "(Ljava/util/ArrayList;)V" } : Jvm.MethodName)) ∈ lw_all := lw_g (lw_at lw_m3 169 rfl) rfl
theorem q721 : (Jvm.Cond.selects "NestChart$Run" ({ cls := "NestChart$Run", name := "build", desc := "(Ljava/util/ArrayList;)V" } : Jvm.MethodName) ({ cls := "NestChart$Run", name := "build", desc := "(Ljava/util/ArrayList;)V" } : Jvm.MethodName)) ∈ lw_all := lw_g (lw_at lw_m3 170 rfl) rfl
theorem q722 : (Jvm.Cond.code ({ cls := "NestChart$Run", name := "build", desc := "(Ljava/util/ArrayList;)V" } : Jvm.MethodName) prog_10_method_7_code (2 : Nat) (Option.none : Option Jvm.ClassFile.FieldType)) ∈ lw_all := lw_g (lw_at lw_m3 171 rfl) rfl
theorem q723 : (Jvm.Cond.methodLink "NestChart$Run" (69 : Nat) ({ cls := "java/util/ArrayList", name := "clear", desc := "()V" } : Jvm.MethodName)) ∈ lw_all := lw_g (lw_at lw_m3 172 rfl) rfl
theorem q727 : (Jvm.Cond.methodLink "NestChart$Run" (75 : Nat) ({ cls := "NestChart$Run", name := "clear", desc := "()V" } : Jvm.MethodName)) ∈ lw_all := lw_g (lw_at lw_m3 176 rfl) rfl
theorem q728 : (Jvm.Cond.privateMethod ({ cls := "NestChart$Run", name := "clear", desc := "()V" } : Jvm.MethodName)) ∈ lw_tbl := lw_at lw_m3 177 rfl
theorem q729 : (Jvm.Cond.instanceMethod ({ cls := "NestChart$Run", name := "clear", desc := "()V" } : Jvm.MethodName)) ∈ lw_all := lw_g (lw_at lw_m3 178 rfl) rfl
theorem q730 : (Jvm.Cond.code ({ cls := "NestChart$Run", name := "clear", desc := "()V" } : Jvm.MethodName) prog_10_method_8_code (2 : Nat) (Option.none : Option Jvm.ClassFile.FieldType)) ∈ lw_all := lw_g (lw_at lw_m3 179 rfl) rfl
theorem q756 : (Jvm.Cond.instanceMethod ({ cls := "NestChart$Run", name := "begin", desc := "()V" } : Jvm.MethodName)) ∈ lw_all := lw_g (lw_at lw_m3 205 rfl) rfl
theorem q757 : (Jvm.Cond.selects "NestChart$Run" ({ cls := "NestChart$Run", name := "begin", desc := "()V" } : Jvm.MethodName) ({ cls := "NestChart$Run", name := "begin", desc := "()V" } : Jvm.MethodName)) ∈ lw_all := lw_g (lw_at lw_m3 206 rfl) rfl
theorem q758 : (Jvm.Cond.code ({ cls := "NestChart$Run", name := "begin", desc := "()V" } : Jvm.MethodName) prog_10_method_9_code (3 : Nat) (Option.none : Option Jvm.ClassFile.FieldType)) ∈ lw_all := lw_g (lw_at lw_m3 207 rfl) rfl
theorem q759 : (Jvm.Cond.methodLink "NestChart$Run" (46 : Nat) ({ cls := "java/util/ArrayList", name := "size", desc := "()I" } : Jvm.MethodName)) ∈ lw_all := lw_g (lw_at lw_m3 208 rfl) rfl
theorem q760 : (Jvm.Cond.methodLink "NestChart$Run" (76 : Nat) ({ cls := "java/util/ArrayList", name := "get", desc := "(I)Ljava/lang/Object;" } : Jvm.MethodName)) ∈ lw_all := lw_g (lw_at lw_m3 209 rfl) rfl
theorem q761 : (Jvm.Cond.classLink "NestChart$Run" (80 : Nat) "NestChart$State") ∈ lw_all := lw_g (lw_at lw_m3 210 rfl) rfl
theorem q762 : (Jvm.Cond.methodLink "NestChart$Run" (88 : Nat) ({ cls := "NestChart$Run", name := "open", desc := "()V" } : Jvm.MethodName)) ∈ lw_all := lw_g (lw_at lw_m3 211 rfl) rfl
theorem q763 : (Jvm.Cond.instanceMethod ({ cls := "NestChart$Run", name := "open", desc := "()V" } : Jvm.MethodName)) ∈ lw_all := lw_g (lw_at lw_m3 212 rfl) rfl
theorem q764 : (Jvm.Cond.selects "NestChart$Run" ({ cls := "NestChart$Run", name := "open", desc := "()V" } : Jvm.MethodName) ({ cls := "NestChart$Run", name := "open", desc := "()V" } : Jvm.MethodName)) ∈ lw_all := lw_g (lw_at lw_m3 213 rfl) rfl
theorem q765 : (Jvm.Cond.code ({ cls := "NestChart$Run", name := "open", desc := "()V" } : Jvm.MethodName) prog_10_method_10_code (1 : Nat) (Option.none : Option Jvm.ClassFile.FieldType)) ∈ lw_all := lw_g (lw_at lw_m3 214 rfl) rfl
theorem q766 : (Jvm.Cond.methodLinkNest "NestChart$Run" (91 : Nat) ({ cls := "NestChart", name := "down", desc := "(LNestChart$State;I)I" } : Jvm.MethodName) "NestChart") ∈ lw_tbl := lw_at lw_m3 215 rfl
theorem q771 : (Jvm.Cond.methodLink "NestChart$Run" (95 : Nat) ({ cls := "NestChart$Run", name := "enter", desc := "(I)V" } : Jvm.MethodName)) ∈ lw_all := lw_g (lw_at lw_m3 220 rfl) rfl
theorem q772 : (Jvm.Cond.privateMethod ({ cls := "NestChart$Run", name := "enter", desc := "(I)V" } : Jvm.MethodName)) ∈ lw_tbl := lw_at lw_m3 221 rfl
theorem q773 : (Jvm.Cond.instanceMethod ({ cls := "NestChart$Run", name := "enter", desc := "(I)V" } : Jvm.MethodName)) ∈ lw_all := lw_g (lw_at lw_m3 222 rfl) rfl
theorem q774 : (Jvm.Cond.code ({ cls := "NestChart$Run", name := "enter", desc := "(I)V" } : Jvm.MethodName) prog_10_method_21_code (4 : Nat) (Option.none : Option Jvm.ClassFile.FieldType)) ∈ lw_all := lw_g (lw_at lw_m3 223 rfl) rfl
theorem q775 : (Jvm.Cond.methodLink "NestChart$Run" (108 : Nat) ({ cls := "NestChart$State", name := "bit", desc := "()I" } : Jvm.MethodName)) ∈ lw_all := lw_g (lw_at lw_m3 224 rfl) rfl
theorem q776 : (Jvm.Cond.methodLink "NestChart$Run" (200 : Nat) ({ cls := "NestChart$Run", name := "note", desc := "(I)V" } : Jvm.MethodName)) ∈ lw_all := lw_g (lw_at lw_m3 225 rfl) rfl
theorem q777 : (Jvm.Cond.privateMethod ({ cls := "NestChart$Run", name := "note", desc := "(I)V" } : Jvm.MethodName)) ∈ lw_tbl := lw_at lw_m3 226 rfl
theorem q778 : (Jvm.Cond.instanceMethod ({ cls := "NestChart$Run", name := "note", desc := "(I)V" } : Jvm.MethodName)) ∈ lw_all := lw_g (lw_at lw_m3 227 rfl) rfl
theorem q779 : (Jvm.Cond.code ({ cls := "NestChart$Run", name := "note", desc := "(I)V" } : Jvm.MethodName) prog_10_method_11_code (2 : Nat) (Option.none : Option Jvm.ClassFile.FieldType)) ∈ lw_all := lw_g (lw_at lw_m3 228 rfl) rfl
theorem q780 : (Jvm.Cond.methodLink "NestChart$Run" (196 : Nat) ({ cls := "NestChart$Run", name := "actAll", desc := "(Ljava/util/ArrayList;)V" } : Jvm.MethodName)) ∈ lw_all := lw_g (lw_at lw_m3 229 rfl) rfl
theorem q781 : (Jvm.Cond.privateMethod ({ cls := "NestChart$Run", name := "actAll", desc := "(Ljava/util/ArrayList;)V" } : Jvm.MethodName)) ∈ lw_tbl := lw_at lw_m3 230 rfl
theorem q782 : (Jvm.Cond.instanceMethod ({ cls := "NestChart$Run", name := "actAll", desc := "(Ljava/util/ArrayList;)V" } : Jvm.MethodName)) ∈ lw_all := lw_g (lw_at lw_m3 231 rfl) rfl
theorem q783 : (Jvm.Cond.code ({ cls := "NestChart$Run", name := "actAll", desc := "(Ljava/util/ArrayList;)V" } : Jvm.MethodName) prog_10_method_18_code (3 : Nat) (Option.none : Option Jvm.ClassFile.FieldType)) ∈ lw_all := lw_g (lw_at lw_m3 232 rfl) rfl
theorem q784 : (Jvm.Cond.classLink "NestChart$Run" (180 : Nat) "NestChart$Action") ∈ lw_all := lw_g (lw_at lw_m3 233 rfl) rfl
theorem q785 : (Jvm.Cond.methodLink "NestChart$Run" (182 : Nat) ({ cls := "NestChart$Action", name := "act", desc := "(LNestChart$Machine;)V" } : Jvm.MethodName)) ∈ lw_all := lw_g (lw_at lw_m3 234 rfl) rfl
theorem q795 : (Jvm.Cond.castable "NestChart$Run" "NestChart$Machine") ∈ lw_tbl := lw_at lw_m4 4 rfl
theorem q796 : (Jvm.Cond.selects "NestChart$Run" ({ cls := "NestChart$Machine", name := "get", desc := "(I)D" } : Jvm.MethodName) ({ cls := "NestChart$Run", name := "get", desc := "(I)D" } : Jvm.MethodName)) ∈ lw_all := lw_g (lw_at lw_m4 5 rfl) rfl
theorem q797 : (Jvm.Cond.unhidden "NestChart$Run" "get" "(I)D") ∈ lw_tbl := lw_at lw_m4 6 rfl
theorem q798 : (Jvm.Cond.instanceMethod ({ cls := "NestChart$Run", name := "get", desc := "(I)D" } : Jvm.MethodName)) ∈ lw_all := lw_g (lw_at lw_m4 7 rfl) rfl
theorem q799 : (Jvm.Cond.publicMethod ({ cls := "NestChart$Run", name := "get", desc := "(I)D" } : Jvm.MethodName)) ∈ lw_tbl := lw_at lw_m4 8 rfl
theorem q800 : (Jvm.Cond.code ({ cls := "NestChart$Run", name := "get", desc := "(I)D" } : Jvm.MethodName) prog_10_method_2_code (2 : Nat) (Option.some Jvm.ClassFile.FieldType.double)) ∈ lw_all := lw_g (lw_at lw_m4 9 rfl) rfl
theorem q817 : (Jvm.Cond.selects "NestChart$Run" ({ cls := "NestChart$Machine", name := "set", desc := "(ID)V" } : Jvm.MethodName) ({ cls := "NestChart$Run", name := "set", desc := "(ID)V" } : Jvm.MethodName)) ∈ lw_all := lw_g (lw_at lw_m4 26 rfl) rfl
theorem q818 : (Jvm.Cond.unhidden "NestChart$Run" "set" "(ID)V") ∈ lw_tbl := lw_at lw_m4 27 rfl
theorem q819 : (Jvm.Cond.instanceMethod ({ cls := "NestChart$Run", name := "set", desc := "(ID)V" } : Jvm.MethodName)) ∈ lw_all := lw_g (lw_at lw_m4 28 rfl) rfl
theorem q820 : (Jvm.Cond.publicMethod ({ cls := "NestChart$Run", name := "set", desc := "(ID)V" } : Jvm.MethodName)) ∈ lw_tbl := lw_at lw_m4 29 rfl
theorem q821 : (Jvm.Cond.code ({ cls := "NestChart$Run", name := "set", desc := "(ID)V" } : Jvm.MethodName) prog_10_method_3_code (4 : Nat) (Option.none : Option Jvm.ClassFile.FieldType)) ∈ lw_all := lw_g (lw_at lw_m4 30 rfl) rfl
theorem q829 : (Jvm.Cond.selects "NestChart$Run" ({ cls := "NestChart$Machine", name := "raise", desc := "(C)V" } : Jvm.MethodName) ({ cls := "NestChart$Run", name := "raise", desc := "(C)V" } : Jvm.MethodName)) ∈ lw_all := lw_g (lw_at lw_m4 38 rfl) rfl
theorem q830 : (Jvm.Cond.unhidden "NestChart$Run" "raise" "(C)V") ∈ lw_tbl := lw_at lw_m4 39 rfl
theorem q831 : (Jvm.Cond.instanceMethod ({ cls := "NestChart$Run", name := "raise", desc := "(C)V" } : Jvm.MethodName)) ∈ lw_all := lw_g (lw_at lw_m4 40 rfl) rfl
theorem q832 : (Jvm.Cond.publicMethod ({ cls := "NestChart$Run", name := "raise", desc := "(C)V" } : Jvm.MethodName)) ∈ lw_tbl := lw_at lw_m4 41 rfl
theorem q833 : (Jvm.Cond.code ({ cls := "NestChart$Run", name := "raise", desc := "(C)V" } : Jvm.MethodName) prog_10_method_4_code (2 : Nat) (Option.none : Option Jvm.ClassFile.FieldType)) ∈ lw_all := lw_g (lw_at lw_m4 42 rfl) rfl
theorem q838 : (Jvm.Cond.selects "NestChart$Run" ({ cls := "NestChart$Machine", name := "send", desc := "(CI)V" } : Jvm.MethodName) ({ cls := "NestChart$Run", name := "send", desc := "(CI)V" } : Jvm.MethodName)) ∈ lw_all := lw_g (lw_at lw_m4 47 rfl) rfl
theorem q839 : (Jvm.Cond.unhidden "NestChart$Run" "send" "(CI)V") ∈ lw_tbl := lw_at lw_m4 48 rfl
theorem q840 : (Jvm.Cond.instanceMethod ({ cls := "NestChart$Run", name := "send", desc := "(CI)V" } : Jvm.MethodName)) ∈ lw_all := lw_g (lw_at lw_m4 49 rfl) rfl
theorem q841 : (Jvm.Cond.publicMethod ({ cls := "NestChart$Run", name := "send", desc := "(CI)V" } : Jvm.MethodName)) ∈ lw_tbl := lw_at lw_m4 50 rfl
theorem q842 : (Jvm.Cond.code ({ cls := "NestChart$Run", name := "send", desc := "(CI)V" } : Jvm.MethodName) prog_10_method_5_code (3 : Nat) (Option.none : Option Jvm.ClassFile.FieldType)) ∈ lw_all := lw_g (lw_at lw_m4 51 rfl) rfl
theorem q843 : (Jvm.Cond.classLink "NestChart$Run" (50 : Nat) "NestChart$Sent") ∈ lw_all := lw_g (lw_at lw_m4 52 rfl) rfl
theorem q845 : (Jvm.Cond.methodLink "NestChart$Run" (55 : Nat) ({ cls := "NestChart$Sent", name := "<init>", desc := "(CI)V" } : Jvm.MethodName)) ∈ lw_all := lw_g (lw_at lw_m4 54 rfl) rfl
theorem q850 : (Jvm.Cond.fieldLinkNest "NestChart$Run" (236 : Nat) "NestChart$Sent" "event" "C" "NestChart") ∈ lw_tbl := lw_at lw_m4 59 rfl
theorem q852 : (Jvm.Cond.fieldLinkNest "NestChart$Run" (233 : Nat) "NestChart$Sent" "due" "I" "NestChart") ∈ lw_tbl := lw_at lw_m4 61 rfl
theorem q858 : (Jvm.Cond.methodLink "NestChart$Run" (58 : Nat) ({ cls := "java/util/ArrayList", name := "add", desc := "(Ljava/lang/Object;)Z" } : Jvm.MethodName)) ∈ lw_all := lw_g (lw_at lw_m4 67 rfl) rfl
theorem q859 : (Jvm.Cond.methodLink "NestChart$Run" (99 : Nat) ({ cls := "NestChart$Run", name := "runOn", desc := "()V" } : Jvm.MethodName)) ∈ lw_all := lw_g (lw_at lw_m4 68 rfl) rfl
theorem q860 : (Jvm.Cond.instanceMethod ({ cls := "NestChart$Run", name := "runOn", desc := "()V" } : Jvm.MethodName)) ∈ lw_all := lw_g (lw_at lw_m4 69 rfl) rfl
theorem q861 : (Jvm.Cond.selects "NestChart$Run" ({ cls := "NestChart$Run", name := "runOn", desc := "()V" } : Jvm.MethodName) ({ cls := "NestChart$Run", name := "runOn", desc := "()V" } : Jvm.MethodName)) ∈ lw_all := lw_g (lw_at lw_m4 70 rfl) rfl
theorem q862 : (Jvm.Cond.code ({ cls := "NestChart$Run", name := "runOn", desc := "()V" } : Jvm.MethodName) prog_10_method_24_code (2 : Nat) (Option.none : Option Jvm.ClassFile.FieldType)) ∈ lw_all := lw_g (lw_at lw_m4 71 rfl) rfl
theorem q863 : (Jvm.Cond.methodLink "NestChart$Run" (222 : Nat) ({ cls := "NestChart$Run", name := "choose", desc := "(C)V" } : Jvm.MethodName)) ∈ lw_all := lw_g (lw_at lw_m4 72 rfl) rfl
theorem q864 : (Jvm.Cond.privateMethod ({ cls := "NestChart$Run", name := "choose", desc := "(C)V" } : Jvm.MethodName)) ∈ lw_tbl := lw_at lw_m4 73 rfl
theorem q865 : (Jvm.Cond.instanceMethod ({ cls := "NestChart$Run", name := "choose", desc := "(C)V" } : Jvm.MethodName)) ∈ lw_all := lw_g (lw_at lw_m4 74 rfl) rfl
theorem q866 : (Jvm.Cond.code ({ cls := "NestChart$Run", name := "choose", desc := "(C)V" } : Jvm.MethodName) prog_10_method_14_code (6 : Nat) (Option.none : Option Jvm.ClassFile.FieldType)) ∈ lw_all := lw_g (lw_at lw_m4 75 rfl) rfl
theorem q867 : (Jvm.Cond.methodLink "NestChart$Run" (147 : Nat) ({ cls := "NestChart$Run", name := "isActive", desc := "(I)Z" } : Jvm.MethodName)) ∈ lw_all := lw_g (lw_at lw_m4 76 rfl) rfl
theorem q868 : (Jvm.Cond.methodLink "NestChart$Run" (151 : Nat) ({ cls := "NestChart$Run", name := "enabled", desc := "(LNestChart$State;C)LNestChart$Transition;" } : Jvm.MethodName)) ∈ lw_all := lw_g (lw_at lw_m4 77 rfl) rfl
theorem q869 : (Jvm.Cond.privateMethod ({ cls := "NestChart$Run", name := "enabled", desc := "(LNestChart$State;C)LNestChart$Transition;" } : Jvm.MethodName)) ∈ lw_tbl := lw_at lw_m4 78 rfl
theorem q870 : (Jvm.Cond.instanceMethod ({ cls := "NestChart$Run", name := "enabled", desc := "(LNestChart$State;C)LNestChart$Transition;" } : Jvm.MethodName)) ∈ lw_all := lw_g (lw_at lw_m4 79 rfl) rfl
theorem q871 : (Jvm.Cond.code ({ cls := "NestChart$Run", name := "enabled", desc := "(LNestChart$State;C)LNestChart$Transition;" } : Jvm.MethodName) prog_10_method_16_code (5 : Nat) (Option.some (Jvm.ClassFile.FieldType.object "NestChart$Transition"))) ∈ lw_all := lw_g (lw_at lw_m4 80 rfl) rfl
theorem q872 : (Jvm.Cond.classLink "NestChart$Run" (112 : Nat) "NestChart$Transition") ∈ lw_all := lw_g (lw_at lw_m4 81 rfl) rfl
theorem q873 : (Jvm.Cond.methodLink "NestChart$Run" (169 : Nat) ({ cls := "NestChart$Transition", name := "isEnabled", desc := "(LNestChart$Machine;C)Z" } : Jvm.MethodName)) ∈ lw_all := lw_g (lw_at lw_m4 82 rfl) rfl
theorem q900 : (Jvm.Cond.selects "NestChart$Run" ({ cls := "NestChart$Machine", name := "isActive", desc := "(I)Z" } : Jvm.MethodName) ({ cls := "NestChart$Run", name := "isActive", desc := "(I)Z" } : Jvm.MethodName)) ∈ lw_all := lw_g (lw_at lw_m4 109 rfl) rfl
theorem q901 : (Jvm.Cond.unhidden "NestChart$Run" "isActive" "(I)Z") ∈ lw_tbl := lw_at lw_m4 110 rfl
theorem q902 : (Jvm.Cond.publicMethod ({ cls := "NestChart$Run", name := "isActive", desc := "(I)Z" } : Jvm.MethodName)) ∈ lw_tbl := lw_at lw_m4 111 rfl
theorem q903 : (Jvm.Cond.methodLink "NestChart$Run" (155 : Nat) ({ cls := "NestChart$Run", name := "isChosen", desc := "(LNestChart$Transition;)Z" } : Jvm.MethodName)) ∈ lw_all := lw_g (lw_at lw_m4 112 rfl) rfl
theorem q904 : (Jvm.Cond.privateMethod ({ cls := "NestChart$Run", name := "isChosen", desc := "(LNestChart$Transition;)Z" } : Jvm.MethodName)) ∈ lw_tbl := lw_at lw_m4 113 rfl
theorem q905 : (Jvm.Cond.instanceMethod ({ cls := "NestChart$Run", name := "isChosen", desc := "(LNestChart$Transition;)Z" } : Jvm.MethodName)) ∈ lw_all := lw_g (lw_at lw_m4 114 rfl) rfl
theorem q906 : (Jvm.Cond.code ({ cls := "NestChart$Run", name := "isChosen", desc := "(LNestChart$Transition;)Z" } : Jvm.MethodName) prog_10_method_15_code (3 : Nat) (Option.some Jvm.ClassFile.FieldType.boolean)) ∈ lw_all := lw_g (lw_at lw_m4 115 rfl) rfl
theorem q907 : (Jvm.Cond.methodLink "NestChart$Run" (159 : Nat) ({ cls := "NestChart$Run", name := "aim", desc := "(LNestChart$Transition;)V" } : Jvm.MethodName)) ∈ lw_all := lw_g (lw_at lw_m4 116 rfl) rfl
theorem q908 : (Jvm.Cond.privateMethod ({ cls := "NestChart$Run", name := "aim", desc := "(LNestChart$Transition;)V" } : Jvm.MethodName)) ∈ lw_tbl := lw_at lw_m4 117 rfl
theorem q909 : (Jvm.Cond.instanceMethod ({ cls := "NestChart$Run", name := "aim", desc := "(LNestChart$Transition;)V" } : Jvm.MethodName)) ∈ lw_all := lw_g (lw_at lw_m4 118 rfl) rfl
theorem q910 : (Jvm.Cond.code ({ cls := "NestChart$Run", name := "aim", desc := "(LNestChart$Transition;)V" } : Jvm.MethodName) prog_10_method_13_code (6 : Nat) (Option.none : Option Jvm.ClassFile.FieldType)) ∈ lw_all := lw_g (lw_at lw_m4 119 rfl) rfl
theorem q911 : (Jvm.Cond.methodLink "NestChart$Run" (163 : Nat) ({ cls := "NestChart$Run", name := "settle", desc := "()V" } : Jvm.MethodName)) ∈ lw_all := lw_g (lw_at lw_m4 120 rfl) rfl
theorem q912 : (Jvm.Cond.privateMethod ({ cls := "NestChart$Run", name := "settle", desc := "()V" } : Jvm.MethodName)) ∈ lw_tbl := lw_at lw_m4 121 rfl
theorem q913 : (Jvm.Cond.instanceMethod ({ cls := "NestChart$Run", name := "settle", desc := "()V" } : Jvm.MethodName)) ∈ lw_all := lw_g (lw_at lw_m4 122 rfl) rfl
theorem q914 : (Jvm.Cond.code ({ cls := "NestChart$Run", name := "settle", desc := "()V" } : Jvm.MethodName) prog_10_method_17_code (6 : Nat) (Option.none : Option Jvm.ClassFile.FieldType)) ∈ lw_all := lw_g (lw_at lw_m4 123 rfl) rfl
theorem q915 : (Jvm.Cond.methodLink "NestChart$Run" (173 : Nat) ({ cls := "NestChart$Run", name := "isBelow", desc := "(LNestChart$State;LNestChart$State;)Z" } : Jvm.MethodName)) ∈ lw_all := lw_g (lw_at lw_m4 124 rfl) rfl
theorem q916 : (Jvm.Cond.static ({ cls := "NestChart$Run", name := "isBelow", desc := "(LNestChart$State;LNestChart$State;)Z" } : Jvm.MethodName)) ∈ lw_all := lw_g (lw_at lw_m4 125 rfl) rfl
theorem q917 : (Jvm.Cond.code ({ cls := "NestChart$Run", name := "isBelow", desc := "(LNestChart$State;LNestChart$State;)Z" } : Jvm.MethodName) prog_10_method_12_code (2 : Nat) (Option.some Jvm.ClassFile.FieldType.boolean)) ∈ lw_all := lw_g (lw_at lw_m4 126 rfl) rfl
theorem q918 : (Jvm.Cond.methodLink "NestChart$Run" (177 : Nat) ({ cls := "java/util/ArrayList", name := "remove", desc := "(I)Ljava/lang/Object;" } : Jvm.MethodName)) ∈ lw_all := lw_g (lw_at lw_m4 127 rfl) rfl
theorem q927 : (Jvm.Cond.methodLink "NestChart$Run" (226 : Nat) ({ cls := "java/util/ArrayList", name := "isEmpty", desc := "()Z" } : Jvm.MethodName)) ∈ lw_all := lw_g (lw_at lw_m4 136 rfl) rfl
theorem q928 : (Jvm.Cond.methodLink "NestChart$Run" (230 : Nat) ({ cls := "NestChart$Run", name := "step", desc := "()V" } : Jvm.MethodName)) ∈ lw_all := lw_g (lw_at lw_m4 137 rfl) rfl
theorem q929 : (Jvm.Cond.privateMethod ({ cls := "NestChart$Run", name := "step", desc := "()V" } : Jvm.MethodName)) ∈ lw_tbl := lw_at lw_m4 138 rfl
theorem q930 : (Jvm.Cond.instanceMethod ({ cls := "NestChart$Run", name := "step", desc := "()V" } : Jvm.MethodName)) ∈ lw_all := lw_g (lw_at lw_m4 139 rfl) rfl
theorem q931 : (Jvm.Cond.code ({ cls := "NestChart$Run", name := "step", desc := "()V" } : Jvm.MethodName) prog_10_method_23_code (3 : Nat) (Option.none : Option Jvm.ClassFile.FieldType)) ∈ lw_all := lw_g (lw_at lw_m4 140 rfl) rfl
theorem q932 : (Jvm.Cond.classLink "NestChart$Run" (210 : Nat) "java/lang/UnsupportedOperationException") ∈ lw_all := lw_g (lw_at lw_m4 141 rfl) rfl
theorem q941 : (Jvm.Cond.methodLink "NestChart$Run" (212 : Nat) ({ cls := "java/lang/UnsupportedOperationException", name := "<init>", desc := "()V" } : Jvm.MethodName)) ∈ lw_all := lw_g (lw_at lw_m4 150 rfl) rfl
theorem q947 : (Jvm.Cond.methodLink "NestChart$Run" (213 : Nat) ({ cls := "NestChart$Run", name := "leave", desc := "(I)V" } : Jvm.MethodName)) ∈ lw_all := lw_g (lw_at lw_m4 156 rfl) rfl
theorem q948 : (Jvm.Cond.privateMethod ({ cls := "NestChart$Run", name := "leave", desc := "(I)V" } : Jvm.MethodName)) ∈ lw_tbl := lw_at lw_m4 157 rfl
theorem q949 : (Jvm.Cond.instanceMethod ({ cls := "NestChart$Run", name := "leave", desc := "(I)V" } : Jvm.MethodName)) ∈ lw_all := lw_g (lw_at lw_m4 158 rfl) rfl
theorem q950 : (Jvm.Cond.code ({ cls := "NestChart$Run", name := "leave", desc := "(I)V" } : Jvm.MethodName) prog_10_method_20_code (4 : Nat) (Option.none : Option Jvm.ClassFile.FieldType)) ∈ lw_all := lw_g (lw_at lw_m4 159 rfl) rfl
theorem q951 : (Jvm.Cond.methodLink "NestChart$Run" (189 : Nat) ({ cls := "NestChart$Run", name := "record", desc := "(LNestChart$State;)V" } : Jvm.MethodName)) ∈ lw_all := lw_g (lw_at lw_m4 160 rfl) rfl
theorem q952 : (Jvm.Cond.privateMethod ({ cls := "NestChart$Run", name := "record", desc := "(LNestChart$State;)V" } : Jvm.MethodName)) ∈ lw_tbl := lw_at lw_m4 161 rfl
theorem q953 : (Jvm.Cond.instanceMethod ({ cls := "NestChart$Run", name := "record", desc := "(LNestChart$State;)V" } : Jvm.MethodName)) ∈ lw_all := lw_g (lw_at lw_m4 162 rfl) rfl
theorem q954 : (Jvm.Cond.code ({ cls := "NestChart$Run", name := "record", desc := "(LNestChart$State;)V" } : Jvm.MethodName) prog_10_method_19_code (5 : Nat) (Option.none : Option Jvm.ClassFile.FieldType)) ∈ lw_all := lw_g (lw_at lw_m4 163 rfl) rfl
theorem q955 : (Jvm.Cond.methodLink "NestChart$Run" (219 : Nat) ({ cls := "NestChart$Run", name := "entries", desc := "()I" } : Jvm.MethodName)) ∈ lw_all := lw_g (lw_at lw_m4 164 rfl) rfl
theorem q956 : (Jvm.Cond.privateMethod ({ cls := "NestChart$Run", name := "entries", desc := "()I" } : Jvm.MethodName)) ∈ lw_tbl := lw_at lw_m4 165 rfl
theorem q957 : (Jvm.Cond.instanceMethod ({ cls := "NestChart$Run", name := "entries", desc := "()I" } : Jvm.MethodName)) ∈ lw_all := lw_g (lw_at lw_m4 166 rfl) rfl
theorem q958 : (Jvm.Cond.code ({ cls := "NestChart$Run", name := "entries", desc := "()I" } : Jvm.MethodName) prog_10_method_22_code (6 : Nat) (Option.some Jvm.ClassFile.FieldType.int)) ∈ lw_all := lw_g (lw_at lw_m4 167 rfl) rfl
theorem q959 : (Jvm.Cond.methodLinkNest "NestChart$Run" (206 : Nat) ({ cls := "NestChart", name := "up", desc := "(LNestChart$State;LNestChart$State;I)I" } : Jvm.MethodName) "NestChart") ∈ lw_tbl := lw_at lw_m4 168 rfl
theorem q971 : (Jvm.Cond.instanceMethod ({ cls := "NestChart$Run", name := "come", desc := "(C)V" } : Jvm.MethodName)) ∈ lw_all := lw_g (lw_at lw_m4 180 rfl) rfl
theorem q972 : (Jvm.Cond.selects "NestChart$Run" ({ cls := "NestChart$Run", name := "come", desc := "(C)V" } : Jvm.MethodName) ({ cls := "NestChart$Run", name := "come", desc := "(C)V" } : Jvm.MethodName)) ∈ lw_all := lw_g (lw_at lw_m4 181 rfl) rfl
theorem q973 : (Jvm.Cond.code ({ cls := "NestChart$Run", name := "come", desc := "(C)V" } : Jvm.MethodName) prog_10_method_25_code (2 : Nat) (Option.none : Option Jvm.ClassFile.FieldType)) ∈ lw_all := lw_g (lw_at lw_m4 182 rfl) rfl
theorem q982 : (Jvm.Cond.instanceMethod ({ cls := "NestChart$Run", name := "tick", desc := "()V" } : Jvm.MethodName)) ∈ lw_all := lw_g (lw_at lw_m4 191 rfl) rfl
theorem q983 : (Jvm.Cond.selects "NestChart$Run" ({ cls := "NestChart$Run", name := "tick", desc := "()V" } : Jvm.MethodName) ({ cls := "NestChart$Run", name := "tick", desc := "()V" } : Jvm.MethodName)) ∈ lw_all := lw_g (lw_at lw_m4 192 rfl) rfl
theorem q984 : (Jvm.Cond.code ({ cls := "NestChart$Run", name := "tick", desc := "()V" } : Jvm.MethodName) prog_10_method_26_code (5 : Nat) (Option.none : Option Jvm.ClassFile.FieldType)) ∈ lw_all := lw_g (lw_at lw_m4 193 rfl) rfl
theorem q985 : (Jvm.Cond.methodLink "NestChart$Run" (240 : Nat) ({ cls := "NestChart$Run", name := "come", desc := "(C)V" } : Jvm.MethodName)) ∈ lw_all := lw_g (lw_at lw_m4 194 rfl) rfl
theorem q1418 : (Jvm.Cond.castable "NestChart$Run" "java/lang/Object") ∈ lw_tbl := lw_at lw_m6 147 rfl
theorem in_X3 : ∀ w ∈ wsX30, w ∈ lw_all := lw_in wsX30 [201, 203, 205, 207, 209, 211, 213, 215, 217, 219, 221, 223, 225, 227] (by decide +kernel) (by decide +kernel)

/-! NestChart$State -/
def RX5 : String := "NestChart$State"
def TX5 : u_T := fun k => match k with
  | 0 => ("NestChart$State", "number", "I", true)
  | 1 => ("NestChart$State", "outer", "LNestChart$State;", true)
  | 2 => ("NestChart$State", "kind", "I", false)
  | 3 => ("NestChart$State", "inner", "Ljava/util/ArrayList;", true)
  | 4 => ("NestChart$State", "transitions", "Ljava/util/ArrayList;", true)
  | 5 => ("NestChart$State", "entry", "Ljava/util/ArrayList;", true)
  | 6 => ("NestChart$State", "exit", "Ljava/util/ArrayList;", true)
  | 7 => ("NestChart$State", "below", "I", false)
  | 8 => ("NestChart$State", "history", "I", false)
  | _ => ("NestChart$State", "deepHistory", "I", false)
def tyX5 : Nat → FieldType := fun k => match k with
  | 0 => .int
  | 1 => .object "NestChart$State"
  | 2 => .int
  | 3 => .object "java/util/ArrayList"
  | 4 => .object "java/util/ArrayList"
  | 5 => .object "java/util/ArrayList"
  | 6 => .object "java/util/ArrayList"
  | 7 => .int
  | 8 => .int
  | _ => .int
abbrev wsX50 : List Cond := u_ws RX5 TX5 10
theorem nmX5 : ∀ a, a < 10 → ∀ b, b < 10 → a ≠ b → (TX5 a).2.1 ≠ (TX5 b).2.1 := by decide +kernel
theorem tyX5_ok : ∀ k, k < 10 → parseFieldDescriptor (TX5 k).2.2.1 = some (tyX5 k) := by decide +kernel
abbrev cX5_init : ByteArray := prog_12_method_1_code
def yX5_init : MethodName := ⟨RX5, "<init>", "(ILNestChart$State;)V"⟩
theorem dX5_init_0 : decode cX5_init 0 = .ok (.aload_n 0, 1) := by decide +kernel
theorem dX5_init_1 : decode cX5_init 1 = .ok (.invokespecial 1, 3) := by decide +kernel
theorem dX5_init_4 : decode cX5_init 4 = .ok (.aload_n 0, 1) := by decide +kernel
theorem dX5_init_5 : decode cX5_init 5 = .ok (.new 7, 3) := by decide +kernel
theorem dX5_init_8 : decode cX5_init 8 = .ok (.dup, 1) := by decide +kernel
theorem dX5_init_9 : decode cX5_init 9 = .ok (.invokespecial 9, 3) := by decide +kernel
theorem dX5_init_12 : decode cX5_init 12 = .ok (.putfield 10, 3) := by decide +kernel
theorem dX5_init_15 : decode cX5_init 15 = .ok (.aload_n 0, 1) := by decide +kernel
theorem dX5_init_16 : decode cX5_init 16 = .ok (.new 7, 3) := by decide +kernel
theorem dX5_init_19 : decode cX5_init 19 = .ok (.dup, 1) := by decide +kernel
theorem dX5_init_20 : decode cX5_init 20 = .ok (.invokespecial 9, 3) := by decide +kernel
theorem dX5_init_23 : decode cX5_init 23 = .ok (.putfield 16, 3) := by decide +kernel
theorem dX5_init_26 : decode cX5_init 26 = .ok (.aload_n 0, 1) := by decide +kernel
theorem dX5_init_27 : decode cX5_init 27 = .ok (.new 7, 3) := by decide +kernel
theorem dX5_init_30 : decode cX5_init 30 = .ok (.dup, 1) := by decide +kernel
theorem dX5_init_31 : decode cX5_init 31 = .ok (.invokespecial 9, 3) := by decide +kernel
theorem dX5_init_34 : decode cX5_init 34 = .ok (.putfield 19, 3) := by decide +kernel
theorem dX5_init_37 : decode cX5_init 37 = .ok (.aload_n 0, 1) := by decide +kernel
theorem dX5_init_38 : decode cX5_init 38 = .ok (.new 7, 3) := by decide +kernel
theorem dX5_init_41 : decode cX5_init 41 = .ok (.dup, 1) := by decide +kernel
theorem dX5_init_42 : decode cX5_init 42 = .ok (.invokespecial 9, 3) := by decide +kernel
theorem dX5_init_45 : decode cX5_init 45 = .ok (.putfield 22, 3) := by decide +kernel
theorem dX5_init_48 : decode cX5_init 48 = .ok (.aload_n 0, 1) := by decide +kernel
theorem dX5_init_49 : decode cX5_init 49 = .ok (.iload_n 1, 1) := by decide +kernel
theorem dX5_init_50 : decode cX5_init 50 = .ok (.putfield 25, 3) := by decide +kernel
theorem dX5_init_53 : decode cX5_init 53 = .ok (.aload_n 0, 1) := by decide +kernel
theorem dX5_init_54 : decode cX5_init 54 = .ok (.aload_n 2, 1) := by decide +kernel
theorem dX5_init_55 : decode cX5_init 55 = .ok (.putfield 29, 3) := by decide +kernel
theorem dX5_init_58 : decode cX5_init 58 = .ok (.return_, 1) := by decide +kernel
abbrev cX5_bit : ByteArray := prog_12_method_2_code
def yX5_bit : MethodName := ⟨RX5, "bit", "()I"⟩
theorem dX5_bit_0 : decode cX5_bit 0 = .ok (.iconst 1, 1) := by decide +kernel
theorem dX5_bit_1 : decode cX5_bit 1 = .ok (.aload_n 0, 1) := by decide +kernel
theorem dX5_bit_2 : decode cX5_bit 2 = .ok (.getfield 25, 3) := by decide +kernel
theorem dX5_bit_5 : decode cX5_bit 5 = .ok (.ishl, 1) := by decide +kernel
theorem dX5_bit_6 : decode cX5_bit 6 = .ok (.ireturn, 1) := by decide +kernel
theorem q83 : (Jvm.Cond.initialized "NestChart$State") ∈ lw_all := lw_g (lw_at lw_m1 12 rfl) rfl
theorem q404 : (Jvm.Cond.instantiable "NestChart$State" (10 : Nat)) ∈ lw_all := lw_g (lw_at lw_m2 93 rfl) rfl
theorem q407 : (Jvm.Cond.instanceMethod ({ cls := "NestChart$State", name := "<init>", desc := "(ILNestChart$State;)V" } : Jvm.MethodName)) ∈ lw_all := lw_g (lw_at lw_m2 96 rfl) rfl
theorem q408 : (Jvm.Cond.code ({ cls := "NestChart$State", name := "<init>", desc := "(ILNestChart$State;)V" } : Jvm.MethodName) prog_12_method_1_code (3 : Nat) (Option.none : Option Jvm.ClassFile.FieldType)) ∈ lw_all := lw_g (lw_at lw_m2 97 rfl) rfl
theorem q409 : (Jvm.Cond.methodLink "NestChart$State" (1 : Nat) ({ cls := "java/lang/Object", name := "<init>", desc := "()V" } : Jvm.MethodName)) ∈ lw_all := lw_g (lw_at lw_m2 98 rfl) rfl
theorem q410 : (Jvm.Cond.classLink "NestChart$State" (7 : Nat) "java/util/ArrayList") ∈ lw_all := lw_g (lw_at lw_m2 99 rfl) rfl
theorem q411 : (Jvm.Cond.methodLink "NestChart$State" (9 : Nat) ({ cls := "java/util/ArrayList", name := "<init>", desc := "()V" } : Jvm.MethodName)) ∈ lw_all := lw_g (lw_at lw_m2 100 rfl) rfl
theorem q412 : (Jvm.Cond.fieldLink "NestChart$State" (25 : Nat) "NestChart$State" "number" "I") ∈ lw_all := lw_g (lw_at lw_m2 101 rfl) rfl
theorem q416 : (Jvm.Cond.fieldLink "NestChart$State" (29 : Nat) "NestChart$State" "outer" "LNestChart$State;") ∈ lw_all := lw_g (lw_at lw_m2 105 rfl) rfl
theorem q422 : (Jvm.Cond.fieldLink "NestChart$State" (10 : Nat) "NestChart$State" "inner" "Ljava/util/ArrayList;") ∈ lw_all := lw_g (lw_at lw_m2 111 rfl) rfl
theorem q426 : (Jvm.Cond.fieldLink "NestChart$State" (16 : Nat) "NestChart$State" "transitions" "Ljava/util/ArrayList;") ∈ lw_all := lw_g (lw_at lw_m2 115 rfl) rfl
theorem q429 : (Jvm.Cond.fieldLink "NestChart$State" (19 : Nat) "NestChart$State" "entry" "Ljava/util/ArrayList;") ∈ lw_all := lw_g (lw_at lw_m2 118 rfl) rfl
theorem q432 : (Jvm.Cond.fieldLink "NestChart$State" (22 : Nat) "NestChart$State" "exit" "Ljava/util/ArrayList;") ∈ lw_all := lw_g (lw_at lw_m2 121 rfl) rfl
theorem q442 : (Jvm.Cond.laysFinal "NestChart$State" "NestChart$State" "number" "I") ∈ lw_all := lw_g (lw_at lw_m2 131 rfl) rfl
theorem q443 : (Jvm.Cond.soleField "NestChart$State" "number") ∈ lw_all := lw_g (lw_at lw_m2 132 rfl) rfl
theorem q444 : (Jvm.Cond.laysFinal "NestChart$State" "NestChart$State" "outer" "LNestChart$State;") ∈ lw_all := lw_g (lw_at lw_m2 133 rfl) rfl
theorem q445 : (Jvm.Cond.soleField "NestChart$State" "outer") ∈ lw_all := lw_g (lw_at lw_m2 134 rfl) rfl
theorem q446 : (Jvm.Cond.lays "NestChart$State" "NestChart$State" "kind" "I") ∈ lw_all := lw_g (lw_at lw_m2 135 rfl) rfl
theorem q447 : (Jvm.Cond.soleField "NestChart$State" "kind") ∈ lw_all := lw_g (lw_at lw_m2 136 rfl) rfl
theorem q448 : (Jvm.Cond.laysFinal "NestChart$State" "NestChart$State" "inner" "Ljava/util/ArrayList;") ∈ lw_all := lw_g (lw_at lw_m2 137 rfl) rfl
theorem q449 : (Jvm.Cond.soleField "NestChart$State" "inner") ∈ lw_all := lw_g (lw_at lw_m2 138 rfl) rfl
theorem q450 : (Jvm.Cond.laysFinal "NestChart$State" "NestChart$State" "transitions" "Ljava/util/ArrayList;") ∈ lw_all := lw_g (lw_at lw_m2 139 rfl) rfl
theorem q451 : (Jvm.Cond.soleField "NestChart$State" "transitions") ∈ lw_all := lw_g (lw_at lw_m2 140 rfl) rfl
theorem q452 : (Jvm.Cond.laysFinal "NestChart$State" "NestChart$State" "entry" "Ljava/util/ArrayList;") ∈ lw_all := lw_g (lw_at lw_m2 141 rfl) rfl
theorem q453 : (Jvm.Cond.soleField "NestChart$State" "entry") ∈ lw_all := lw_g (lw_at lw_m2 142 rfl) rfl
theorem q454 : (Jvm.Cond.laysFinal "NestChart$State" "NestChart$State" "exit" "Ljava/util/ArrayList;") ∈ lw_all := lw_g (lw_at lw_m2 143 rfl) rfl
theorem q455 : (Jvm.Cond.soleField "NestChart$State" "exit") ∈ lw_all := lw_g (lw_at lw_m2 144 rfl) rfl
theorem q456 : (Jvm.Cond.lays "NestChart$State" "NestChart$State" "below" "I") ∈ lw_all := lw_g (lw_at lw_m2 145 rfl) rfl
theorem q457 : (Jvm.Cond.soleField "NestChart$State" "below") ∈ lw_all := lw_g (lw_at lw_m2 146 rfl) rfl
theorem q458 : (Jvm.Cond.lays "NestChart$State" "NestChart$State" "history" "I") ∈ lw_all := lw_g (lw_at lw_m2 147 rfl) rfl
theorem q459 : (Jvm.Cond.soleField "NestChart$State" "history") ∈ lw_all := lw_g (lw_at lw_m2 148 rfl) rfl
theorem q460 : (Jvm.Cond.lays "NestChart$State" "NestChart$State" "deepHistory" "I") ∈ lw_all := lw_g (lw_at lw_m2 149 rfl) rfl
theorem q461 : (Jvm.Cond.soleField "NestChart$State" "deepHistory") ∈ lw_all := lw_g (lw_at lw_m2 150 rfl) rfl
theorem q462 : (Jvm.Cond.superclass "NestChart$State" "java/lang/Object") ∈ lw_all := lw_g (lw_at lw_m2 151 rfl) rfl
theorem q504 : (Jvm.Cond.selects "NestChart$State" ({ cls := "java/lang/Object", name := "getClass", desc := "()Ljava/lang/Class;" } : Jvm.MethodName) ({ cls := "java/lang/Object", name := "getClass", desc := "()Ljava/lang/Class;" } : Jvm.MethodName)) ∈ lw_all := lw_g (lw_at lw_m2 193 rfl) rfl
theorem q541 : (Jvm.Cond.instanceMethod ({ cls := "NestChart$State", name := "bit", desc := "()I" } : Jvm.MethodName)) ∈ lw_all := lw_g (lw_at lw_m2 230 rfl) rfl
theorem q542 : (Jvm.Cond.selects "NestChart$State" ({ cls := "NestChart$State", name := "bit", desc := "()I" } : Jvm.MethodName) ({ cls := "NestChart$State", name := "bit", desc := "()I" } : Jvm.MethodName)) ∈ lw_all := lw_g (lw_at lw_m2 231 rfl) rfl
theorem q543 : (Jvm.Cond.code ({ cls := "NestChart$State", name := "bit", desc := "()I" } : Jvm.MethodName) prog_12_method_2_code (1 : Nat) (Option.some Jvm.ClassFile.FieldType.int)) ∈ lw_all := lw_g (lw_at lw_m2 232 rfl) rfl
theorem q1422 : (Jvm.Cond.castable "NestChart$State" "java/lang/Object") ∈ lw_tbl := lw_at lw_m6 151 rfl
theorem in_X5 : ∀ w ∈ wsX50, w ∈ lw_all := lw_in wsX50 [442, 444, 446, 448, 450, 452, 454, 456, 458, 460] (by decide +kernel) (by decide +kernel)

/-! NestChart$Action -/
def RX6 : String := "NestChart$Action"
abbrev cX6_init : ByteArray := prog_2_method_1_code
def yX6_init : MethodName := ⟨RX6, "<init>", "()V"⟩
theorem dX6_init_0 : decode cX6_init 0 = .ok (.aload_n 0, 1) := by decide +kernel
theorem dX6_init_1 : decode cX6_init 1 = .ok (.invokespecial 1, 3) := by decide +kernel
theorem dX6_init_4 : decode cX6_init 4 = .ok (.return_, 1) := by decide +kernel
theorem q90 : (Jvm.Cond.initialized "NestChart$Action") ∈ lw_all := lw_g (lw_at lw_m1 19 rfl) rfl
theorem q562 : (Jvm.Cond.instanceMethod ({ cls := "NestChart$Action", name := "<init>", desc := "()V" } : Jvm.MethodName)) ∈ lw_all := lw_g (lw_at lw_m3 11 rfl) rfl
theorem q563 : (Jvm.Cond.code ({ cls := "NestChart$Action", name := "<init>", desc := "()V" } : Jvm.MethodName) prog_2_method_1_code (1 : Nat) (Option.none : Option Jvm.ClassFile.FieldType)) ∈ lw_all := lw_g (lw_at lw_m3 12 rfl) rfl
theorem q564 : (Jvm.Cond.methodLink "NestChart$Action" (1 : Nat) ({ cls := "java/lang/Object", name := "<init>", desc := "()V" } : Jvm.MethodName)) ∈ lw_all := lw_g (lw_at lw_m3 13 rfl) rfl
theorem q786 : (Jvm.Cond.declares ({ cls := "NestChart$Action", name := "act", desc := "(LNestChart$Machine;)V" } : Jvm.MethodName)) ∈ lw_tbl := lw_at lw_m3 235 rfl
theorem q787 : (Jvm.Cond.sameMethod "NestChart$Action" "NestChart$Action" "act" "(LNestChart$Machine;)V") ∈ lw_all := lw_g (lw_at lw_m3 236 rfl) rfl

/-! NestChart$Raise -/
def RX7 : String := "NestChart$Raise"
def TX7 : u_T := fun k => match k with
  | 0 => ("NestChart$Raise", "event", "C", true)
  | _ => ("NestChart$Raise", "ticks", "I", true)
def tyX7 : Nat → FieldType := fun k => match k with
  | 0 => .char
  | _ => .int
abbrev wsX70 : List Cond := u_ws RX7 TX7 2
theorem nmX7 : ∀ a, a < 2 → ∀ b, b < 2 → a ≠ b → (TX7 a).2.1 ≠ (TX7 b).2.1 := by decide +kernel
theorem tyX7_ok : ∀ k, k < 2 → parseFieldDescriptor (TX7 k).2.2.1 = some (tyX7 k) := by decide +kernel
abbrev cX7_init : ByteArray := prog_8_method_1_code
def yX7_init : MethodName := ⟨RX7, "<init>", "(CI)V"⟩
theorem dX7_init_0 : decode cX7_init 0 = .ok (.aload_n 0, 1) := by decide +kernel
theorem dX7_init_1 : decode cX7_init 1 = .ok (.invokespecial 1, 3) := by decide +kernel
theorem dX7_init_4 : decode cX7_init 4 = .ok (.aload_n 0, 1) := by decide +kernel
theorem dX7_init_5 : decode cX7_init 5 = .ok (.iload_n 1, 1) := by decide +kernel
theorem dX7_init_6 : decode cX7_init 6 = .ok (.putfield 7, 3) := by decide +kernel
theorem dX7_init_9 : decode cX7_init 9 = .ok (.aload_n 0, 1) := by decide +kernel
theorem dX7_init_10 : decode cX7_init 10 = .ok (.iload_n 2, 1) := by decide +kernel
theorem dX7_init_11 : decode cX7_init 11 = .ok (.putfield 13, 3) := by decide +kernel
theorem dX7_init_14 : decode cX7_init 14 = .ok (.return_, 1) := by decide +kernel
abbrev cX7_act : ByteArray := prog_8_method_2_code
def yX7_act : MethodName := ⟨RX7, "act", "(LNestChart$Machine;)V"⟩
theorem dX7_act_0 : decode cX7_act 0 = .ok (.aload_n 0, 1) := by decide +kernel
theorem dX7_act_1 : decode cX7_act 1 = .ok (.getfield 13, 3) := by decide +kernel
theorem dX7_act_4 : decode cX7_act 4 = .ok (.ifCond .ne 16, 3) := by decide +kernel
theorem dX7_act_7 : decode cX7_act 7 = .ok (.aload_n 1, 1) := by decide +kernel
theorem dX7_act_8 : decode cX7_act 8 = .ok (.aload_n 0, 1) := by decide +kernel
theorem dX7_act_9 : decode cX7_act 9 = .ok (.getfield 7, 3) := by decide +kernel
theorem dX7_act_12 : decode cX7_act 12 = .ok (.invokeinterface 17 2, 5) := by decide +kernel
theorem dX7_act_17 : decode cX7_act 17 = .ok (.goto 17, 3) := by decide +kernel
theorem dX7_act_20 : decode cX7_act 20 = .ok (.aload_n 1, 1) := by decide +kernel
theorem dX7_act_21 : decode cX7_act 21 = .ok (.aload_n 0, 1) := by decide +kernel
theorem dX7_act_22 : decode cX7_act 22 = .ok (.getfield 7, 3) := by decide +kernel
theorem dX7_act_25 : decode cX7_act 25 = .ok (.aload_n 0, 1) := by decide +kernel
theorem dX7_act_26 : decode cX7_act 26 = .ok (.getfield 13, 3) := by decide +kernel
theorem dX7_act_29 : decode cX7_act 29 = .ok (.invokeinterface 23 3, 5) := by decide +kernel
theorem dX7_act_34 : decode cX7_act 34 = .ok (.return_, 1) := by decide +kernel
theorem q91 : (Jvm.Cond.initialized "NestChart$Raise") ∈ lw_all := lw_g (lw_at lw_m1 20 rfl) rfl
theorem q500 : (Jvm.Cond.selects "NestChart$Raise" ({ cls := "java/lang/Object", name := "getClass", desc := "()Ljava/lang/Class;" } : Jvm.MethodName) ({ cls := "java/lang/Object", name := "getClass", desc := "()Ljava/lang/Class;" } : Jvm.MethodName)) ∈ lw_all := lw_g (lw_at lw_m2 189 rfl) rfl
theorem q557 : (Jvm.Cond.instantiable "NestChart$Raise" (2 : Nat)) ∈ lw_all := lw_g (lw_at lw_m3 6 rfl) rfl
theorem q559 : (Jvm.Cond.instanceMethod ({ cls := "NestChart$Raise", name := "<init>", desc := "(CI)V" } : Jvm.MethodName)) ∈ lw_all := lw_g (lw_at lw_m3 8 rfl) rfl
theorem q560 : (Jvm.Cond.code ({ cls := "NestChart$Raise", name := "<init>", desc := "(CI)V" } : Jvm.MethodName) prog_8_method_1_code (3 : Nat) (Option.none : Option Jvm.ClassFile.FieldType)) ∈ lw_all := lw_g (lw_at lw_m3 9 rfl) rfl
theorem q561 : (Jvm.Cond.methodLinkNest "NestChart$Raise" (1 : Nat) ({ cls := "NestChart$Action", name := "<init>", desc := "()V" } : Jvm.MethodName) "NestChart") ∈ lw_tbl := lw_at lw_m3 10 rfl
theorem q565 : (Jvm.Cond.fieldLink "NestChart$Raise" (7 : Nat) "NestChart$Raise" "event" "C") ∈ lw_all := lw_g (lw_at lw_m3 14 rfl) rfl
theorem q566 : (Jvm.Cond.fieldLink "NestChart$Raise" (13 : Nat) "NestChart$Raise" "ticks" "I") ∈ lw_all := lw_g (lw_at lw_m3 15 rfl) rfl
theorem q567 : (Jvm.Cond.laysFinal "NestChart$Raise" "NestChart$Raise" "event" "C") ∈ lw_all := lw_g (lw_at lw_m3 16 rfl) rfl
theorem q568 : (Jvm.Cond.soleField "NestChart$Raise" "event") ∈ lw_all := lw_g (lw_at lw_m3 17 rfl) rfl
theorem q569 : (Jvm.Cond.laysFinal "NestChart$Raise" "NestChart$Raise" "ticks" "I") ∈ lw_all := lw_g (lw_at lw_m3 18 rfl) rfl
theorem q570 : (Jvm.Cond.soleField "NestChart$Raise" "ticks") ∈ lw_all := lw_g (lw_at lw_m3 19 rfl) rfl
theorem q571 : (Jvm.Cond.superclass "NestChart$Raise" "NestChart$Action") ∈ lw_all := lw_g (lw_at lw_m3 20 rfl) rfl
theorem q822 : (Jvm.Cond.selects "NestChart$Raise" ({ cls := "NestChart$Action", name := "act", desc := "(LNestChart$Machine;)V" } : Jvm.MethodName) ({ cls := "NestChart$Raise", name := "act", desc := "(LNestChart$Machine;)V" } : Jvm.MethodName)) ∈ lw_all := lw_g (lw_at lw_m4 31 rfl) rfl
theorem q823 : (Jvm.Cond.instanceMethod ({ cls := "NestChart$Raise", name := "act", desc := "(LNestChart$Machine;)V" } : Jvm.MethodName)) ∈ lw_all := lw_g (lw_at lw_m4 32 rfl) rfl
theorem q824 : (Jvm.Cond.code ({ cls := "NestChart$Raise", name := "act", desc := "(LNestChart$Machine;)V" } : Jvm.MethodName) prog_8_method_2_code (2 : Nat) (Option.none : Option Jvm.ClassFile.FieldType)) ∈ lw_all := lw_g (lw_at lw_m4 33 rfl) rfl
theorem q825 : (Jvm.Cond.interfaceEntry "NestChart$Raise" (17 : Nat)) ∈ lw_tbl := lw_at lw_m4 34 rfl
theorem q826 : (Jvm.Cond.methodLink "NestChart$Raise" (17 : Nat) ({ cls := "NestChart$Machine", name := "raise", desc := "(C)V" } : Jvm.MethodName)) ∈ lw_all := lw_g (lw_at lw_m4 35 rfl) rfl
theorem q834 : (Jvm.Cond.interfaceEntry "NestChart$Raise" (23 : Nat)) ∈ lw_tbl := lw_at lw_m4 43 rfl
theorem q835 : (Jvm.Cond.methodLink "NestChart$Raise" (23 : Nat) ({ cls := "NestChart$Machine", name := "send", desc := "(CI)V" } : Jvm.MethodName)) ∈ lw_all := lw_g (lw_at lw_m4 44 rfl) rfl
theorem q1410 : (Jvm.Cond.castable "NestChart$Raise" "NestChart$Action") ∈ lw_tbl := lw_at lw_m6 139 rfl
theorem q1423 : (Jvm.Cond.castable "NestChart$Raise" "java/lang/Object") ∈ lw_tbl := lw_at lw_m6 152 rfl
theorem in_X7 : ∀ w ∈ wsX70, w ∈ lw_all := lw_in wsX70 [567, 569] (by decide +kernel) (by decide +kernel)

/-! NestChart$Assign -/
def RX8 : String := "NestChart$Assign"
def TX8 : u_T := fun k => match k with
  | 0 => ("NestChart$Assign", "variable", "I", true)
  | 1 => ("NestChart$Assign", "sign", "C", true)
  | _ => ("NestChart$Assign", "operand", "LNestChart$Operand;", true)
def tyX8 : Nat → FieldType := fun k => match k with
  | 0 => .int
  | 1 => .char
  | _ => .object "NestChart$Operand"
abbrev wsX80 : List Cond := u_ws RX8 TX8 3
theorem nmX8 : ∀ a, a < 3 → ∀ b, b < 3 → a ≠ b → (TX8 a).2.1 ≠ (TX8 b).2.1 := by decide +kernel
theorem tyX8_ok : ∀ k, k < 3 → parseFieldDescriptor (TX8 k).2.2.1 = some (tyX8 k) := by decide +kernel
abbrev cX8_init : ByteArray := prog_3_method_1_code
def yX8_init : MethodName := ⟨RX8, "<init>", "(ICLNestChart$Operand;)V"⟩
theorem dX8_init_0 : decode cX8_init 0 = .ok (.aload_n 0, 1) := by decide +kernel
theorem dX8_init_1 : decode cX8_init 1 = .ok (.invokespecial 3, 3) := by decide +kernel
theorem dX8_init_4 : decode cX8_init 4 = .ok (.aload_n 0, 1) := by decide +kernel
theorem dX8_init_5 : decode cX8_init 5 = .ok (.iload_n 1, 1) := by decide +kernel
theorem dX8_init_6 : decode cX8_init 6 = .ok (.putfield 9, 3) := by decide +kernel
theorem dX8_init_9 : decode cX8_init 9 = .ok (.aload_n 0, 1) := by decide +kernel
theorem dX8_init_10 : decode cX8_init 10 = .ok (.iload_n 2, 1) := by decide +kernel
theorem dX8_init_11 : decode cX8_init 11 = .ok (.putfield 15, 3) := by decide +kernel
