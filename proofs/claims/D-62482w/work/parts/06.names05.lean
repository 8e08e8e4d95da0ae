set_option maxRecDepth 100000
theorem dX3_enter_7 : decode cX3_enter 7 = .ok (.invokevirtual 46, 3) := by decide +kernel
theorem dX3_enter_10 : decode cX3_enter 10 = .ok (.if_icmp .ge 64, 3) := by decide +kernel
theorem dX3_enter_13 : decode cX3_enter 13 = .ok (.aload_n 0, 1) := by decide +kernel
theorem dX3_enter_14 : decode cX3_enter 14 = .ok (.getfield 12, 3) := by decide +kernel
theorem dX3_enter_17 : decode cX3_enter 17 = .ok (.iload_n 2, 1) := by decide +kernel
theorem dX3_enter_18 : decode cX3_enter 18 = .ok (.invokevirtual 76, 3) := by decide +kernel
theorem dX3_enter_21 : decode cX3_enter 21 = .ok (.checkcast 80, 3) := by decide +kernel
theorem dX3_enter_24 : decode cX3_enter 24 = .ok (.astore_n 3, 1) := by decide +kernel
theorem dX3_enter_25 : decode cX3_enter 25 = .ok (.iload_n 1, 1) := by decide +kernel
theorem dX3_enter_26 : decode cX3_enter 26 = .ok (.aload_n 3, 1) := by decide +kernel
theorem dX3_enter_27 : decode cX3_enter 27 = .ok (.invokevirtual 108, 3) := by decide +kernel
theorem dX3_enter_30 : decode cX3_enter 30 = .ok (.iand, 1) := by decide +kernel
theorem dX3_enter_31 : decode cX3_enter 31 = .ok (.ifCond .ne 6, 3) := by decide +kernel
theorem dX3_enter_34 : decode cX3_enter 34 = .ok (.goto 34, 3) := by decide +kernel
theorem dX3_enter_37 : decode cX3_enter 37 = .ok (.aload_n 0, 1) := by decide +kernel
theorem dX3_enter_38 : decode cX3_enter 38 = .ok (.dup, 1) := by decide +kernel
theorem dX3_enter_39 : decode cX3_enter 39 = .ok (.getfield 62, 3) := by decide +kernel
theorem dX3_enter_42 : decode cX3_enter 42 = .ok (.aload_n 3, 1) := by decide +kernel
theorem dX3_enter_43 : decode cX3_enter 43 = .ok (.invokevirtual 108, 3) := by decide +kernel
theorem dX3_enter_46 : decode cX3_enter 46 = .ok (.ior, 1) := by decide +kernel
theorem dX3_enter_47 : decode cX3_enter 47 = .ok (.putfield 62, 3) := by decide +kernel
theorem dX3_enter_50 : decode cX3_enter 50 = .ok (.aload_n 0, 1) := by decide +kernel
theorem dX3_enter_51 : decode cX3_enter 51 = .ok (.iconst 1, 1) := by decide +kernel
theorem dX3_enter_52 : decode cX3_enter 52 = .ok (.aload_n 3, 1) := by decide +kernel
theorem dX3_enter_53 : decode cX3_enter 53 = .ok (.getfield 144, 3) := by decide +kernel
theorem dX3_enter_56 : decode cX3_enter 56 = .ok (.iadd, 1) := by decide +kernel
theorem dX3_enter_57 : decode cX3_enter 57 = .ok (.invokevirtual 200, 3) := by decide +kernel
theorem dX3_enter_60 : decode cX3_enter 60 = .ok (.aload_n 0, 1) := by decide +kernel
theorem dX3_enter_61 : decode cX3_enter 61 = .ok (.aload_n 3, 1) := by decide +kernel
theorem dX3_enter_62 : decode cX3_enter 62 = .ok (.getfield 203, 3) := by decide +kernel
theorem dX3_enter_65 : decode cX3_enter 65 = .ok (.invokevirtual 196, 3) := by decide +kernel
theorem dX3_enter_68 : decode cX3_enter 68 = .ok (.iinc 2 1, 3) := by decide +kernel
theorem dX3_enter_71 : decode cX3_enter 71 = .ok (.goto (-69), 3) := by decide +kernel
theorem dX3_enter_74 : decode cX3_enter 74 = .ok (.return_, 1) := by decide +kernel
abbrev cX3_note : ByteArray := prog_10_method_11_code
def yX3_note : MethodName := ⟨RX3, "note", "(I)V"⟩
theorem dX3_note_0 : decode cX3_note 0 = .ok (.aload_n 0, 1) := by decide +kernel
theorem dX3_note_1 : decode cX3_note 1 = .ok (.getfield 72, 3) := by decide +kernel
theorem dX3_note_4 : decode cX3_note 4 = .ok (.bipush 100, 2) := by decide +kernel
theorem dX3_note_6 : decode cX3_note 6 = .ok (.if_icmp .ge 20, 3) := by decide +kernel
theorem dX3_note_9 : decode cX3_note 9 = .ok (.aload_n 0, 1) := by decide +kernel
theorem dX3_note_10 : decode cX3_note 10 = .ok (.getfield 29, 3) := by decide +kernel
theorem dX3_note_13 : decode cX3_note 13 = .ok (.aload_n 0, 1) := by decide +kernel
theorem dX3_note_14 : decode cX3_note 14 = .ok (.dup, 1) := by decide +kernel
theorem dX3_note_15 : decode cX3_note 15 = .ok (.getfield 72, 3) := by decide +kernel
theorem dX3_note_18 : decode cX3_note 18 = .ok (.dup_x1, 1) := by decide +kernel
theorem dX3_note_19 : decode cX3_note 19 = .ok (.iconst 1, 1) := by decide +kernel
theorem dX3_note_20 : decode cX3_note 20 = .ok (.iadd, 1) := by decide +kernel
theorem dX3_note_21 : decode cX3_note 21 = .ok (.putfield 72, 3) := by decide +kernel
theorem dX3_note_24 : decode cX3_note 24 = .ok (.iload_n 1, 1) := by decide +kernel
theorem dX3_note_25 : decode cX3_note 25 = .ok (.iastore, 1) := by decide +kernel
theorem dX3_note_26 : decode cX3_note 26 = .ok (.return_, 1) := by decide +kernel
abbrev cX3_actAll : ByteArray := prog_10_method_18_code
def yX3_actAll : MethodName := ⟨RX3, "actAll", "(Ljava/util/ArrayList;)V"⟩
theorem dX3_actAll_0 : decode cX3_actAll 0 = .ok (.iconst 0, 1) := by decide +kernel
theorem dX3_actAll_1 : decode cX3_actAll 1 = .ok (.istore_n 2, 1) := by decide +kernel
theorem dX3_actAll_2 : decode cX3_actAll 2 = .ok (.iload_n 2, 1) := by decide +kernel
theorem dX3_actAll_3 : decode cX3_actAll 3 = .ok (.aload_n 1, 1) := by decide +kernel
theorem dX3_actAll_4 : decode cX3_actAll 4 = .ok (.invokevirtual 46, 3) := by decide +kernel
theorem dX3_actAll_7 : decode cX3_actAll 7 = .ok (.if_icmp .ge 21, 3) := by decide +kernel
theorem dX3_actAll_10 : decode cX3_actAll 10 = .ok (.aload_n 1, 1) := by decide +kernel
theorem dX3_actAll_11 : decode cX3_actAll 11 = .ok (.iload_n 2, 1) := by decide +kernel
theorem dX3_actAll_12 : decode cX3_actAll 12 = .ok (.invokevirtual 76, 3) := by decide +kernel
theorem dX3_actAll_15 : decode cX3_actAll 15 = .ok (.checkcast 180, 3) := by decide +kernel
theorem dX3_actAll_18 : decode cX3_actAll 18 = .ok (.aload_n 0, 1) := by decide +kernel
theorem dX3_actAll_19 : decode cX3_actAll 19 = .ok (.invokevirtual 182, 3) := by decide +kernel
theorem dX3_actAll_22 : decode cX3_actAll 22 = .ok (.iinc 2 1, 3) := by decide +kernel
theorem dX3_actAll_25 : decode cX3_actAll 25 = .ok (.goto (-23), 3) := by decide +kernel
theorem dX3_actAll_28 : decode cX3_actAll 28 = .ok (.return_, 1) := by decide +kernel
abbrev cX3_get : ByteArray := prog_10_method_2_code
def yX3_get : MethodName := ⟨RX3, "get", "(I)D"⟩
theorem dX3_get_0 : decode cX3_get 0 = .ok (.aload_n 0, 1) := by decide +kernel
theorem dX3_get_1 : decode cX3_get 1 = .ok (.getfield 18, 3) := by decide +kernel
theorem dX3_get_4 : decode cX3_get 4 = .ok (.iload_n 1, 1) := by decide +kernel
theorem dX3_get_5 : decode cX3_get 5 = .ok (.daload, 1) := by decide +kernel
theorem dX3_get_6 : decode cX3_get 6 = .ok (.dreturn, 1) := by decide +kernel
abbrev cX3_set : ByteArray := prog_10_method_3_code
def yX3_set : MethodName := ⟨RX3, "set", "(ID)V"⟩
theorem dX3_set_0 : decode cX3_set 0 = .ok (.aload_n 0, 1) := by decide +kernel
theorem dX3_set_1 : decode cX3_set 1 = .ok (.getfield 18, 3) := by decide +kernel
theorem dX3_set_4 : decode cX3_set 4 = .ok (.iload_n 1, 1) := by decide +kernel
theorem dX3_set_5 : decode cX3_set 5 = .ok (.dload_n 2, 1) := by decide +kernel
theorem dX3_set_6 : decode cX3_set 6 = .ok (.dastore, 1) := by decide +kernel
theorem dX3_set_7 : decode cX3_set 7 = .ok (.return_, 1) := by decide +kernel
abbrev cX3_raise : ByteArray := prog_10_method_4_code
def yX3_raise : MethodName := ⟨RX3, "raise", "(C)V"⟩
theorem dX3_raise_0 : decode cX3_raise 0 = .ok (.aload_n 0, 1) := by decide +kernel
theorem dX3_raise_1 : decode cX3_raise 1 = .ok (.getfield 39, 3) := by decide +kernel
theorem dX3_raise_4 : decode cX3_raise 4 = .ok (.bipush 10, 2) := by decide +kernel
theorem dX3_raise_6 : decode cX3_raise 6 = .ok (.if_icmp .ne 4, 3) := by decide +kernel
theorem dX3_raise_9 : decode cX3_raise 9 = .ok (.return_, 1) := by decide +kernel
theorem dX3_raise_10 : decode cX3_raise 10 = .ok (.aload_n 0, 1) := by decide +kernel
theorem dX3_raise_11 : decode cX3_raise 11 = .ok (.getfield 22, 3) := by decide +kernel
theorem dX3_raise_14 : decode cX3_raise 14 = .ok (.aload_n 0, 1) := by decide +kernel
theorem dX3_raise_15 : decode cX3_raise 15 = .ok (.getfield 43, 3) := by decide +kernel
theorem dX3_raise_18 : decode cX3_raise 18 = .ok (.aload_n 0, 1) := by decide +kernel
theorem dX3_raise_19 : decode cX3_raise 19 = .ok (.getfield 39, 3) := by decide +kernel
theorem dX3_raise_22 : decode cX3_raise 22 = .ok (.iadd, 1) := by decide +kernel
theorem dX3_raise_23 : decode cX3_raise 23 = .ok (.bipush 10, 2) := by decide +kernel
theorem dX3_raise_25 : decode cX3_raise 25 = .ok (.irem, 1) := by decide +kernel
theorem dX3_raise_26 : decode cX3_raise 26 = .ok (.iload_n 1, 1) := by decide +kernel
theorem dX3_raise_27 : decode cX3_raise 27 = .ok (.castore, 1) := by decide +kernel
theorem dX3_raise_28 : decode cX3_raise 28 = .ok (.aload_n 0, 1) := by decide +kernel
theorem dX3_raise_29 : decode cX3_raise 29 = .ok (.dup, 1) := by decide +kernel
theorem dX3_raise_30 : decode cX3_raise 30 = .ok (.getfield 39, 3) := by decide +kernel
theorem dX3_raise_33 : decode cX3_raise 33 = .ok (.iconst 1, 1) := by decide +kernel
theorem dX3_raise_34 : decode cX3_raise 34 = .ok (.iadd, 1) := by decide +kernel
theorem dX3_raise_35 : decode cX3_raise 35 = .ok (.putfield 39, 3) := by decide +kernel
theorem dX3_raise_38 : decode cX3_raise 38 = .ok (.return_, 1) := by decide +kernel
abbrev cX3_send : ByteArray := prog_10_method_5_code
def yX3_send : MethodName := ⟨RX3, "send", "(CI)V"⟩
theorem dX3_send_0 : decode cX3_send 0 = .ok (.aload_n 0, 1) := by decide +kernel
theorem dX3_send_1 : decode cX3_send 1 = .ok (.getfield 26, 3) := by decide +kernel
theorem dX3_send_4 : decode cX3_send 4 = .ok (.invokevirtual 46, 3) := by decide +kernel
theorem dX3_send_7 : decode cX3_send 7 = .ok (.bipush 8, 2) := by decide +kernel
theorem dX3_send_9 : decode cX3_send 9 = .ok (.if_icmp .ge 25, 3) := by decide +kernel
theorem dX3_send_12 : decode cX3_send 12 = .ok (.aload_n 0, 1) := by decide +kernel
theorem dX3_send_13 : decode cX3_send 13 = .ok (.getfield 26, 3) := by decide +kernel
theorem dX3_send_16 : decode cX3_send 16 = .ok (.new 50, 3) := by decide +kernel
theorem dX3_send_19 : decode cX3_send 19 = .ok (.dup, 1) := by decide +kernel
theorem dX3_send_20 : decode cX3_send 20 = .ok (.iload_n 1, 1) := by decide +kernel
theorem dX3_send_21 : decode cX3_send 21 = .ok (.aload_n 0, 1) := by decide +kernel
theorem dX3_send_22 : decode cX3_send 22 = .ok (.getfield 52, 3) := by decide +kernel
theorem dX3_send_25 : decode cX3_send 25 = .ok (.iload_n 2, 1) := by decide +kernel
theorem dX3_send_26 : decode cX3_send 26 = .ok (.iadd, 1) := by decide +kernel
theorem dX3_send_27 : decode cX3_send 27 = .ok (.invokespecial 55, 3) := by decide +kernel
theorem dX3_send_30 : decode cX3_send 30 = .ok (.invokevirtual 58, 3) := by decide +kernel
theorem dX3_send_33 : decode cX3_send 33 = .ok (.pop, 1) := by decide +kernel
theorem dX3_send_34 : decode cX3_send 34 = .ok (.return_, 1) := by decide +kernel
abbrev cX3_runOn : ByteArray := prog_10_method_24_code
def yX3_runOn : MethodName := ⟨RX3, "runOn", "()V"⟩
theorem dX3_runOn_0 : decode cX3_runOn 0 = .ok (.aload_n 0, 1) := by decide +kernel
theorem dX3_runOn_1 : decode cX3_runOn 1 = .ok (.bipush 46, 2) := by decide +kernel
theorem dX3_runOn_3 : decode cX3_runOn 3 = .ok (.invokevirtual 222, 3) := by decide +kernel
theorem dX3_runOn_6 : decode cX3_runOn 6 = .ok (.aload_n 0, 1) := by decide +kernel
theorem dX3_runOn_7 : decode cX3_runOn 7 = .ok (.getfield 33, 3) := by decide +kernel
theorem dX3_runOn_10 : decode cX3_runOn 10 = .ok (.invokevirtual 226, 3) := by decide +kernel
theorem dX3_runOn_13 : decode cX3_runOn 13 = .ok (.ifCond .eq 51, 3) := by decide +kernel
theorem dX3_runOn_16 : decode cX3_runOn 16 = .ok (.aload_n 0, 1) := by decide +kernel
theorem dX3_runOn_17 : decode cX3_runOn 17 = .ok (.getfield 39, 3) := by decide +kernel
theorem dX3_runOn_20 : decode cX3_runOn 20 = .ok (.ifCond .le 44, 3) := by decide +kernel
theorem dX3_runOn_23 : decode cX3_runOn 23 = .ok (.aload_n 0, 1) := by decide +kernel
theorem dX3_runOn_24 : decode cX3_runOn 24 = .ok (.getfield 22, 3) := by decide +kernel
theorem dX3_runOn_27 : decode cX3_runOn 27 = .ok (.aload_n 0, 1) := by decide +kernel
theorem dX3_runOn_28 : decode cX3_runOn 28 = .ok (.getfield 43, 3) := by decide +kernel
theorem dX3_runOn_31 : decode cX3_runOn 31 = .ok (.caload, 1) := by decide +kernel
theorem dX3_runOn_32 : decode cX3_runOn 32 = .ok (.istore_n 1, 1) := by decide +kernel
theorem dX3_runOn_33 : decode cX3_runOn 33 = .ok (.aload_n 0, 1) := by decide +kernel
theorem dX3_runOn_34 : decode cX3_runOn 34 = .ok (.aload_n 0, 1) := by decide +kernel
theorem dX3_runOn_35 : decode cX3_runOn 35 = .ok (.getfield 43, 3) := by decide +kernel
theorem dX3_runOn_38 : decode cX3_runOn 38 = .ok (.iconst 1, 1) := by decide +kernel
theorem dX3_runOn_39 : decode cX3_runOn 39 = .ok (.iadd, 1) := by decide +kernel
theorem dX3_runOn_40 : decode cX3_runOn 40 = .ok (.bipush 10, 2) := by decide +kernel
theorem dX3_runOn_42 : decode cX3_runOn 42 = .ok (.irem, 1) := by decide +kernel
theorem dX3_runOn_43 : decode cX3_runOn 43 = .ok (.putfield 43, 3) := by decide +kernel
theorem dX3_runOn_46 : decode cX3_runOn 46 = .ok (.aload_n 0, 1) := by decide +kernel
theorem dX3_runOn_47 : decode cX3_runOn 47 = .ok (.dup, 1) := by decide +kernel
theorem dX3_runOn_48 : decode cX3_runOn 48 = .ok (.getfield 39, 3) := by decide +kernel
theorem dX3_runOn_51 : decode cX3_runOn 51 = .ok (.iconst 1, 1) := by decide +kernel
theorem dX3_runOn_52 : decode cX3_runOn 52 = .ok (.isub, 1) := by decide +kernel
theorem dX3_runOn_53 : decode cX3_runOn 53 = .ok (.putfield 39, 3) := by decide +kernel
theorem dX3_runOn_56 : decode cX3_runOn 56 = .ok (.aload_n 0, 1) := by decide +kernel
theorem dX3_runOn_57 : decode cX3_runOn 57 = .ok (.iload_n 1, 1) := by decide +kernel
theorem dX3_runOn_58 : decode cX3_runOn 58 = .ok (.invokevirtual 222, 3) := by decide +kernel
theorem dX3_runOn_61 : decode cX3_runOn 61 = .ok (.goto (-55), 3) := by decide +kernel
theorem dX3_runOn_64 : decode cX3_runOn 64 = .ok (.aload_n 0, 1) := by decide +kernel
theorem dX3_runOn_65 : decode cX3_runOn 65 = .ok (.getfield 33, 3) := by decide +kernel
theorem dX3_runOn_68 : decode cX3_runOn 68 = .ok (.invokevirtual 226, 3) := by decide +kernel
theorem dX3_runOn_71 : decode cX3_runOn 71 = .ok (.ifCond .eq 4, 3) := by decide +kernel
theorem dX3_runOn_74 : decode cX3_runOn 74 = .ok (.return_, 1) := by decide +kernel
theorem dX3_runOn_75 : decode cX3_runOn 75 = .ok (.aload_n 0, 1) := by decide +kernel
theorem dX3_runOn_76 : decode cX3_runOn 76 = .ok (.invokevirtual 230, 3) := by decide +kernel
theorem dX3_runOn_79 : decode cX3_runOn 79 = .ok (.goto (-79), 3) := by decide +kernel
abbrev cX3_choose : ByteArray := prog_10_method_14_code
def yX3_choose : MethodName := ⟨RX3, "choose", "(C)V"⟩
theorem dX3_choose_0 : decode cX3_choose 0 = .ok (.aload_n 0, 1) := by decide +kernel
theorem dX3_choose_1 : decode cX3_choose 1 = .ok (.getfield 33, 3) := by decide +kernel
theorem dX3_choose_4 : decode cX3_choose 4 = .ok (.invokevirtual 69, 3) := by decide +kernel
theorem dX3_choose_7 : decode cX3_choose 7 = .ok (.iconst 0, 1) := by decide +kernel
theorem dX3_choose_8 : decode cX3_choose 8 = .ok (.istore_n 2, 1) := by decide +kernel
theorem dX3_choose_9 : decode cX3_choose 9 = .ok (.iload_n 2, 1) := by decide +kernel
theorem dX3_choose_10 : decode cX3_choose 10 = .ok (.aload_n 0, 1) := by decide +kernel
theorem dX3_choose_11 : decode cX3_choose 11 = .ok (.getfield 12, 3) := by decide +kernel
theorem dX3_choose_14 : decode cX3_choose 14 = .ok (.invokevirtual 46, 3) := by decide +kernel
theorem dX3_choose_17 : decode cX3_choose 17 = .ok (.if_icmp .ge 101, 3) := by decide +kernel
theorem dX3_choose_20 : decode cX3_choose 20 = .ok (.aload_n 0, 1) := by decide +kernel
theorem dX3_choose_21 : decode cX3_choose 21 = .ok (.getfield 12, 3) := by decide +kernel
theorem dX3_choose_24 : decode cX3_choose 24 = .ok (.iload_n 2, 1) := by decide +kernel
theorem dX3_choose_25 : decode cX3_choose 25 = .ok (.invokevirtual 76, 3) := by decide +kernel
theorem dX3_choose_28 : decode cX3_choose 28 = .ok (.checkcast 80, 3) := by decide +kernel
theorem dX3_choose_31 : decode cX3_choose 31 = .ok (.astore_n 3, 1) := by decide +kernel
theorem dX3_choose_32 : decode cX3_choose 32 = .ok (.aload_n 3, 1) := by decide +kernel
theorem dX3_choose_33 : decode cX3_choose 33 = .ok (.getfield 141, 3) := by decide +kernel
theorem dX3_choose_36 : decode cX3_choose 36 = .ok (.ifCond .ne 76, 3) := by decide +kernel
theorem dX3_choose_39 : decode cX3_choose 39 = .ok (.aload_n 0, 1) := by decide +kernel
theorem dX3_choose_40 : decode cX3_choose 40 = .ok (.aload_n 3, 1) := by decide +kernel
theorem dX3_choose_41 : decode cX3_choose 41 = .ok (.getfield 144, 3) := by decide +kernel
theorem dX3_choose_44 : decode cX3_choose 44 = .ok (.invokevirtual 147, 3) := by decide +kernel
theorem dX3_choose_47 : decode cX3_choose 47 = .ok (.ifCond .ne 6, 3) := by decide +kernel
theorem dX3_choose_50 : decode cX3_choose 50 = .ok (.goto 62, 3) := by decide +kernel
theorem dX3_choose_53 : decode cX3_choose 53 = .ok (.aconst_null, 1) := by decide +kernel
theorem dX3_choose_54 : decode cX3_choose 54 = .ok (.astore 4, 2) := by decide +kernel
theorem dX3_choose_56 : decode cX3_choose 56 = .ok (.aload_n 3, 1) := by decide +kernel
theorem dX3_choose_57 : decode cX3_choose 57 = .ok (.astore 5, 2) := by decide +kernel
theorem dX3_choose_59 : decode cX3_choose 59 = .ok (.aload 5, 2) := by decide +kernel
theorem dX3_choose_61 : decode cX3_choose 61 = .ok (.ifnull 27, 3) := by decide +kernel
theorem dX3_choose_64 : decode cX3_choose 64 = .ok (.aload 4, 2) := by decide +kernel
theorem dX3_choose_66 : decode cX3_choose 66 = .ok (.ifnonnull 22, 3) := by decide +kernel
theorem dX3_choose_69 : decode cX3_choose 69 = .ok (.aload_n 0, 1) := by decide +kernel
theorem dX3_choose_70 : decode cX3_choose 70 = .ok (.aload 5, 2) := by decide +kernel
theorem dX3_choose_72 : decode cX3_choose 72 = .ok (.iload_n 1, 1) := by decide +kernel
theorem dX3_choose_73 : decode cX3_choose 73 = .ok (.invokevirtual 151, 3) := by decide +kernel
theorem dX3_choose_76 : decode cX3_choose 76 = .ok (.astore 4, 2) := by decide +kernel
theorem dX3_choose_78 : decode cX3_choose 78 = .ok (.aload 5, 2) := by decide +kernel
theorem dX3_choose_80 : decode cX3_choose 80 = .ok (.getfield 138, 3) := by decide +kernel
theorem dX3_choose_83 : decode cX3_choose 83 = .ok (.astore 5, 2) := by decide +kernel
theorem dX3_choose_85 : decode cX3_choose 85 = .ok (.goto (-26), 3) := by decide +kernel
theorem dX3_choose_88 : decode cX3_choose 88 = .ok (.aload 4, 2) := by decide +kernel
theorem dX3_choose_90 : decode cX3_choose 90 = .ok (.ifnull 22, 3) := by decide +kernel
theorem dX3_choose_93 : decode cX3_choose 93 = .ok (.aload_n 0, 1) := by decide +kernel
theorem dX3_choose_94 : decode cX3_choose 94 = .ok (.aload 4, 2) := by decide +kernel
theorem dX3_choose_96 : decode cX3_choose 96 = .ok (.invokevirtual 155, 3) := by decide +kernel
theorem dX3_choose_99 : decode cX3_choose 99 = .ok (.ifCond .ne 13, 3) := by decide +kernel
theorem dX3_choose_102 : decode cX3_choose 102 = .ok (.aload_n 0, 1) := by decide +kernel
theorem dX3_choose_103 : decode cX3_choose 103 = .ok (.getfield 33, 3) := by decide +kernel
theorem dX3_choose_106 : decode cX3_choose 106 = .ok (.aload 4, 2) := by decide +kernel
theorem dX3_choose_108 : decode cX3_choose 108 = .ok (.invokevirtual 58, 3) := by decide +kernel
theorem dX3_choose_111 : decode cX3_choose 111 = .ok (.pop, 1) := by decide +kernel
theorem dX3_choose_112 : decode cX3_choose 112 = .ok (.iinc 2 1, 3) := by decide +kernel
theorem dX3_choose_115 : decode cX3_choose 115 = .ok (.goto (-106), 3) := by decide +kernel
theorem dX3_choose_118 : decode cX3_choose 118 = .ok (.iconst 0, 1) := by decide +kernel
theorem dX3_choose_119 : decode cX3_choose 119 = .ok (.istore_n 2, 1) := by decide +kernel
theorem dX3_choose_120 : decode cX3_choose 120 = .ok (.iload_n 2, 1) := by decide +kernel
theorem dX3_choose_121 : decode cX3_choose 121 = .ok (.aload_n 0, 1) := by decide +kernel
theorem dX3_choose_122 : decode cX3_choose 122 = .ok (.getfield 33, 3) := by decide +kernel
theorem dX3_choose_125 : decode cX3_choose 125 = .ok (.invokevirtual 46, 3) := by decide +kernel
theorem dX3_choose_128 : decode cX3_choose 128 = .ok (.if_icmp .ge 24, 3) := by decide +kernel
theorem dX3_choose_131 : decode cX3_choose 131 = .ok (.aload_n 0, 1) := by decide +kernel
theorem dX3_choose_132 : decode cX3_choose 132 = .ok (.aload_n 0, 1) := by decide +kernel
theorem dX3_choose_133 : decode cX3_choose 133 = .ok (.getfield 33, 3) := by decide +kernel
theorem dX3_choose_136 : decode cX3_choose 136 = .ok (.iload_n 2, 1) := by decide +kernel
theorem dX3_choose_137 : decode cX3_choose 137 = .ok (.invokevirtual 76, 3) := by decide +kernel
theorem dX3_choose_140 : decode cX3_choose 140 = .ok (.checkcast 112, 3) := by decide +kernel
theorem dX3_choose_143 : decode cX3_choose 143 = .ok (.invokevirtual 159, 3) := by decide +kernel
theorem dX3_choose_146 : decode cX3_choose 146 = .ok (.iinc 2 1, 3) := by decide +kernel
theorem dX3_choose_149 : decode cX3_choose 149 = .ok (.goto (-29), 3) := by decide +kernel
theorem dX3_choose_152 : decode cX3_choose 152 = .ok (.aload_n 0, 1) := by decide +kernel
theorem dX3_choose_153 : decode cX3_choose 153 = .ok (.invokevirtual 163, 3) := by decide +kernel
theorem dX3_choose_156 : decode cX3_choose 156 = .ok (.return_, 1) := by decide +kernel
abbrev cX3_enabled : ByteArray := prog_10_method_16_code
def yX3_enabled : MethodName := ⟨RX3, "enabled", "(LNestChart$State;C)LNestChart$Transition;"⟩
theorem dX3_enabled_0 : decode cX3_enabled 0 = .ok (.iconst 0, 1) := by decide +kernel
theorem dX3_enabled_1 : decode cX3_enabled 1 = .ok (.istore_n 3, 1) := by decide +kernel
theorem dX3_enabled_2 : decode cX3_enabled 2 = .ok (.iload_n 3, 1) := by decide +kernel
theorem dX3_enabled_3 : decode cX3_enabled 3 = .ok (.aload_n 1, 1) := by decide +kernel
theorem dX3_enabled_4 : decode cX3_enabled 4 = .ok (.getfield 166, 3) := by decide +kernel
theorem dX3_enabled_7 : decode cX3_enabled 7 = .ok (.invokevirtual 46, 3) := by decide +kernel
theorem dX3_enabled_10 : decode cX3_enabled 10 = .ok (.if_icmp .ge 35, 3) := by decide +kernel
theorem dX3_enabled_13 : decode cX3_enabled 13 = .ok (.aload_n 1, 1) := by decide +kernel
theorem dX3_enabled_14 : decode cX3_enabled 14 = .ok (.getfield 166, 3) := by decide +kernel
theorem dX3_enabled_17 : decode cX3_enabled 17 = .ok (.iload_n 3, 1) := by decide +kernel
theorem dX3_enabled_18 : decode cX3_enabled 18 = .ok (.invokevirtual 76, 3) := by decide +kernel
theorem dX3_enabled_21 : decode cX3_enabled 21 = .ok (.checkcast 112, 3) := by decide +kernel
theorem dX3_enabled_24 : decode cX3_enabled 24 = .ok (.astore 4, 2) := by decide +kernel
theorem dX3_enabled_26 : decode cX3_enabled 26 = .ok (.aload 4, 2) := by decide +kernel
theorem dX3_enabled_28 : decode cX3_enabled 28 = .ok (.aload_n 0, 1) := by decide +kernel
theorem dX3_enabled_29 : decode cX3_enabled 29 = .ok (.iload_n 2, 1) := by decide +kernel
theorem dX3_enabled_30 : decode cX3_enabled 30 = .ok (.invokevirtual 169, 3) := by decide +kernel
theorem dX3_enabled_33 : decode cX3_enabled 33 = .ok (.ifCond .eq 6, 3) := by decide +kernel
theorem dX3_enabled_36 : decode cX3_enabled 36 = .ok (.aload 4, 2) := by decide +kernel
theorem dX3_enabled_38 : decode cX3_enabled 38 = .ok (.areturn, 1) := by decide +kernel
theorem dX3_enabled_39 : decode cX3_enabled 39 = .ok (.iinc 3 1, 3) := by decide +kernel
theorem dX3_enabled_42 : decode cX3_enabled 42 = .ok (.goto (-40), 3) := by decide +kernel
theorem dX3_enabled_45 : decode cX3_enabled 45 = .ok (.aconst_null, 1) := by decide +kernel
theorem dX3_enabled_46 : decode cX3_enabled 46 = .ok (.areturn, 1) := by decide +kernel
abbrev cX3_isChosen : ByteArray := prog_10_method_15_code
def yX3_isChosen : MethodName := ⟨RX3, "isChosen", "(LNestChart$Transition;)Z"⟩
theorem dX3_isChosen_0 : decode cX3_isChosen 0 = .ok (.iconst 0, 1) := by decide +kernel
theorem dX3_isChosen_1 : decode cX3_isChosen 1 = .ok (.istore_n 2, 1) := by decide +kernel
theorem dX3_isChosen_2 : decode cX3_isChosen 2 = .ok (.iload_n 2, 1) := by decide +kernel
theorem dX3_isChosen_3 : decode cX3_isChosen 3 = .ok (.aload_n 0, 1) := by decide +kernel
theorem dX3_isChosen_4 : decode cX3_isChosen 4 = .ok (.getfield 33, 3) := by decide +kernel
theorem dX3_isChosen_7 : decode cX3_isChosen 7 = .ok (.invokevirtual 46, 3) := by decide +kernel
theorem dX3_isChosen_10 : decode cX3_isChosen 10 = .ok (.if_icmp .ge 23, 3) := by decide +kernel
theorem dX3_isChosen_13 : decode cX3_isChosen 13 = .ok (.aload_n 0, 1) := by decide +kernel
theorem dX3_isChosen_14 : decode cX3_isChosen 14 = .ok (.getfield 33, 3) := by decide +kernel
theorem dX3_isChosen_17 : decode cX3_isChosen 17 = .ok (.iload_n 2, 1) := by decide +kernel
theorem dX3_isChosen_18 : decode cX3_isChosen 18 = .ok (.invokevirtual 76, 3) := by decide +kernel
theorem dX3_isChosen_21 : decode cX3_isChosen 21 = .ok (.aload_n 1, 1) := by decide +kernel
theorem dX3_isChosen_22 : decode cX3_isChosen 22 = .ok (.if_acmp .ne 5, 3) := by decide +kernel
theorem dX3_isChosen_25 : decode cX3_isChosen 25 = .ok (.iconst 1, 1) := by decide +kernel
theorem dX3_isChosen_26 : decode cX3_isChosen 26 = .ok (.ireturn, 1) := by decide +kernel
theorem dX3_isChosen_27 : decode cX3_isChosen 27 = .ok (.iinc 2 1, 3) := by decide +kernel
theorem dX3_isChosen_30 : decode cX3_isChosen 30 = .ok (.goto (-28), 3) := by decide +kernel
theorem dX3_isChosen_33 : decode cX3_isChosen 33 = .ok (.iconst 0, 1) := by decide +kernel
theorem dX3_isChosen_34 : decode cX3_isChosen 34 = .ok (.ireturn, 1) := by decide +kernel
abbrev cX3_aim : ByteArray := prog_10_method_13_code
def yX3_aim : MethodName := ⟨RX3, "aim", "(LNestChart$Transition;)V"⟩
theorem dX3_aim_0 : decode cX3_aim 0 = .ok (.aload_n 1, 1) := by decide +kernel
theorem dX3_aim_1 : decode cX3_aim 1 = .ok (.iconst 0, 1) := by decide +kernel
theorem dX3_aim_2 : decode cX3_aim 2 = .ok (.putfield 111, 3) := by decide +kernel
theorem dX3_aim_5 : decode cX3_aim 5 = .ok (.aload_n 1, 1) := by decide +kernel
theorem dX3_aim_6 : decode cX3_aim 6 = .ok (.iconst 0, 1) := by decide +kernel
theorem dX3_aim_7 : decode cX3_aim 7 = .ok (.putfield 116, 3) := by decide +kernel
theorem dX3_aim_10 : decode cX3_aim 10 = .ok (.aload_n 1, 1) := by decide +kernel
theorem dX3_aim_11 : decode cX3_aim 11 = .ok (.iconst (-1), 1) := by decide +kernel
theorem dX3_aim_12 : decode cX3_aim 12 = .ok (.putfield 119, 3) := by decide +kernel
theorem dX3_aim_15 : decode cX3_aim 15 = .ok (.aload_n 1, 1) := by decide +kernel
theorem dX3_aim_16 : decode cX3_aim 16 = .ok (.getfield 122, 3) := by decide +kernel
theorem dX3_aim_19 : decode cX3_aim 19 = .ok (.ifnonnull 4, 3) := by decide +kernel
theorem dX3_aim_22 : decode cX3_aim 22 = .ok (.return_, 1) := by decide +kernel
theorem dX3_aim_23 : decode cX3_aim 23 = .ok (.aload_n 0, 1) := by decide +kernel
theorem dX3_aim_24 : decode cX3_aim 24 = .ok (.getfield 12, 3) := by decide +kernel
theorem dX3_aim_27 : decode cX3_aim 27 = .ok (.aload_n 1, 1) := by decide +kernel
theorem dX3_aim_28 : decode cX3_aim 28 = .ok (.getfield 122, 3) := by decide +kernel
theorem dX3_aim_31 : decode cX3_aim 31 = .ok (.getfield 126, 3) := by decide +kernel
theorem dX3_aim_34 : decode cX3_aim 34 = .ok (.invokevirtual 76, 3) := by decide +kernel
theorem dX3_aim_37 : decode cX3_aim 37 = .ok (.checkcast 80, 3) := by decide +kernel
theorem dX3_aim_40 : decode cX3_aim 40 = .ok (.astore_n 2, 1) := by decide +kernel
theorem dX3_aim_41 : decode cX3_aim 41 = .ok (.aload_n 1, 1) := by decide +kernel
theorem dX3_aim_42 : decode cX3_aim 42 = .ok (.getfield 122, 3) := by decide +kernel
theorem dX3_aim_45 : decode cX3_aim 45 = .ok (.getfield 131, 3) := by decide +kernel
theorem dX3_aim_48 : decode cX3_aim 48 = .ok (.istore_n 3, 1) := by decide +kernel
theorem dX3_aim_49 : decode cX3_aim 49 = .ok (.aload_n 1, 1) := by decide +kernel
theorem dX3_aim_50 : decode cX3_aim 50 = .ok (.iload_n 3, 1) := by decide +kernel
theorem dX3_aim_51 : decode cX3_aim 51 = .ok (.iconst 1, 1) := by decide +kernel
theorem dX3_aim_52 : decode cX3_aim 52 = .ok (.if_icmp .ne 10, 3) := by decide +kernel
theorem dX3_aim_55 : decode cX3_aim 55 = .ok (.aload_n 2, 1) := by decide +kernel
theorem dX3_aim_56 : decode cX3_aim 56 = .ok (.getfield 82, 3) := by decide +kernel
theorem dX3_aim_59 : decode cX3_aim 59 = .ok (.goto 19, 3) := by decide +kernel
theorem dX3_aim_62 : decode cX3_aim 62 = .ok (.iload_n 3, 1) := by decide +kernel
theorem dX3_aim_63 : decode cX3_aim 63 = .ok (.iconst 2, 1) := by decide +kernel
theorem dX3_aim_64 : decode cX3_aim 64 = .ok (.if_icmp .ne 10, 3) := by decide +kernel
theorem dX3_aim_67 : decode cX3_aim 67 = .ok (.aload_n 2, 1) := by decide +kernel
theorem dX3_aim_68 : decode cX3_aim 68 = .ok (.getfield 85, 3) := by decide +kernel
theorem dX3_aim_71 : decode cX3_aim 71 = .ok (.goto 7, 3) := by decide +kernel
theorem dX3_aim_74 : decode cX3_aim 74 = .ok (.aload_n 2, 1) := by decide +kernel
theorem dX3_aim_75 : decode cX3_aim 75 = .ok (.invokevirtual 108, 3) := by decide +kernel
theorem dX3_aim_78 : decode cX3_aim 78 = .ok (.putfield 111, 3) := by decide +kernel
theorem dX3_aim_81 : decode cX3_aim 81 = .ok (.aload_n 1, 1) := by decide +kernel
theorem dX3_aim_82 : decode cX3_aim 82 = .ok (.getfield 111, 3) := by decide +kernel
theorem dX3_aim_85 : decode cX3_aim 85 = .ok (.ifCond .ne 11, 3) := by decide +kernel
theorem dX3_aim_88 : decode cX3_aim 88 = .ok (.aload_n 1, 1) := by decide +kernel
theorem dX3_aim_89 : decode cX3_aim 89 = .ok (.aload_n 2, 1) := by decide +kernel
theorem dX3_aim_90 : decode cX3_aim 90 = .ok (.invokevirtual 108, 3) := by decide +kernel
theorem dX3_aim_93 : decode cX3_aim 93 = .ok (.putfield 111, 3) := by decide +kernel
theorem dX3_aim_96 : decode cX3_aim 96 = .ok (.aload_n 1, 1) := by decide +kernel
theorem dX3_aim_97 : decode cX3_aim 97 = .ok (.getfield 111, 3) := by decide +kernel
theorem dX3_aim_100 : decode cX3_aim 100 = .ok (.aload_n 1, 1) := by decide +kernel
theorem dX3_aim_101 : decode cX3_aim 101 = .ok (.getfield 134, 3) := by decide +kernel
theorem dX3_aim_104 : decode cX3_aim 104 = .ok (.invokevirtual 108, 3) := by decide +kernel
theorem dX3_aim_107 : decode cX3_aim 107 = .ok (.ior, 1) := by decide +kernel
theorem dX3_aim_108 : decode cX3_aim 108 = .ok (.istore 4, 2) := by decide +kernel
theorem dX3_aim_110 : decode cX3_aim 110 = .ok (.aload_n 1, 1) := by decide +kernel
theorem dX3_aim_111 : decode cX3_aim 111 = .ok (.getfield 134, 3) := by decide +kernel
theorem dX3_aim_114 : decode cX3_aim 114 = .ok (.getfield 138, 3) := by decide +kernel
theorem dX3_aim_117 : decode cX3_aim 117 = .ok (.astore 5, 2) := by decide +kernel
theorem dX3_aim_119 : decode cX3_aim 119 = .ok (.aload 5, 2) := by decide +kernel
theorem dX3_aim_121 : decode cX3_aim 121 = .ok (.ifnull 35, 3) := by decide +kernel
theorem dX3_aim_124 : decode cX3_aim 124 = .ok (.aload 5, 2) := by decide +kernel
theorem dX3_aim_126 : decode cX3_aim 126 = .ok (.getfield 141, 3) := by decide +kernel
theorem dX3_aim_129 : decode cX3_aim 129 = .ok (.iconst 1, 1) := by decide +kernel
theorem dX3_aim_130 : decode cX3_aim 130 = .ok (.if_icmp .ne 16, 3) := by decide +kernel
theorem dX3_aim_133 : decode cX3_aim 133 = .ok (.aload 5, 2) := by decide +kernel
theorem dX3_aim_135 : decode cX3_aim 135 = .ok (.getfield 105, 3) := by decide +kernel
theorem dX3_aim_138 : decode cX3_aim 138 = .ok (.iload 4, 2) := by decide +kernel
theorem dX3_aim_140 : decode cX3_aim 140 = .ok (.iand, 1) := by decide +kernel
theorem dX3_aim_141 : decode cX3_aim 141 = .ok (.iload 4, 2) := by decide +kernel
theorem dX3_aim_143 : decode cX3_aim 143 = .ok (.if_icmp .eq 13, 3) := by decide +kernel
theorem dX3_aim_146 : decode cX3_aim 146 = .ok (.aload 5, 2) := by decide +kernel
theorem dX3_aim_148 : decode cX3_aim 148 = .ok (.getfield 138, 3) := by decide +kernel
theorem dX3_aim_151 : decode cX3_aim 151 = .ok (.astore 5, 2) := by decide +kernel
theorem dX3_aim_153 : decode cX3_aim 153 = .ok (.goto (-34), 3) := by decide +kernel
theorem dX3_aim_156 : decode cX3_aim 156 = .ok (.aload_n 1, 1) := by decide +kernel
theorem dX3_aim_157 : decode cX3_aim 157 = .ok (.aload 5, 2) := by decide +kernel
theorem dX3_aim_159 : decode cX3_aim 159 = .ok (.ifnonnull 7, 3) := by decide +kernel
theorem dX3_aim_162 : decode cX3_aim 162 = .ok (.iconst (-1), 1) := by decide +kernel
theorem dX3_aim_163 : decode cX3_aim 163 = .ok (.goto 8, 3) := by decide +kernel
theorem dX3_aim_166 : decode cX3_aim 166 = .ok (.aload 5, 2) := by decide +kernel
theorem dX3_aim_168 : decode cX3_aim 168 = .ok (.getfield 144, 3) := by decide +kernel
theorem dX3_aim_171 : decode cX3_aim 171 = .ok (.putfield 119, 3) := by decide +kernel
theorem dX3_aim_174 : decode cX3_aim 174 = .ok (.aload_n 1, 1) := by decide +kernel
theorem dX3_aim_175 : decode cX3_aim 175 = .ok (.aload 5, 2) := by decide +kernel
theorem dX3_aim_177 : decode cX3_aim 177 = .ok (.ifnonnull 10, 3) := by decide +kernel
theorem dX3_aim_180 : decode cX3_aim 180 = .ok (.aload_n 0, 1) := by decide +kernel
theorem dX3_aim_181 : decode cX3_aim 181 = .ok (.getfield 62, 3) := by decide +kernel
theorem dX3_aim_184 : decode cX3_aim 184 = .ok (.goto 13, 3) := by decide +kernel
theorem dX3_aim_187 : decode cX3_aim 187 = .ok (.aload_n 0, 1) := by decide +kernel
theorem dX3_aim_188 : decode cX3_aim 188 = .ok (.getfield 62, 3) := by decide +kernel
theorem dX3_aim_191 : decode cX3_aim 191 = .ok (.aload 5, 2) := by decide +kernel
theorem dX3_aim_193 : decode cX3_aim 193 = .ok (.getfield 105, 3) := by decide +kernel
theorem dX3_aim_196 : decode cX3_aim 196 = .ok (.iand, 1) := by decide +kernel
theorem dX3_aim_197 : decode cX3_aim 197 = .ok (.putfield 116, 3) := by decide +kernel
theorem dX3_aim_200 : decode cX3_aim 200 = .ok (.return_, 1) := by decide +kernel
abbrev cX3_settle : ByteArray := prog_10_method_17_code
def yX3_settle : MethodName := ⟨RX3, "settle", "()V"⟩
theorem dX3_settle_0 : decode cX3_settle 0 = .ok (.aload_n 0, 1) := by decide +kernel
theorem dX3_settle_1 : decode cX3_settle 1 = .ok (.getfield 36, 3) := by decide +kernel
theorem dX3_settle_4 : decode cX3_settle 4 = .ok (.invokevirtual 69, 3) := by decide +kernel
theorem dX3_settle_7 : decode cX3_settle 7 = .ok (.iconst 0, 1) := by decide +kernel
theorem dX3_settle_8 : decode cX3_settle 8 = .ok (.istore_n 1, 1) := by decide +kernel
theorem dX3_settle_9 : decode cX3_settle 9 = .ok (.iload_n 1, 1) := by decide +kernel
theorem dX3_settle_10 : decode cX3_settle 10 = .ok (.aload_n 0, 1) := by decide +kernel
theorem dX3_settle_11 : decode cX3_settle 11 = .ok (.getfield 33, 3) := by decide +kernel
theorem dX3_settle_14 : decode cX3_settle 14 = .ok (.invokevirtual 46, 3) := by decide +kernel
theorem dX3_settle_17 : decode cX3_settle 17 = .ok (.if_icmp .ge 165, 3) := by decide +kernel
theorem dX3_settle_20 : decode cX3_settle 20 = .ok (.aload_n 0, 1) := by decide +kernel
theorem dX3_settle_21 : decode cX3_settle 21 = .ok (.getfield 33, 3) := by decide +kernel
theorem dX3_settle_24 : decode cX3_settle 24 = .ok (.iload_n 1, 1) := by decide +kernel
theorem dX3_settle_25 : decode cX3_settle 25 = .ok (.invokevirtual 76, 3) := by decide +kernel
theorem dX3_settle_28 : decode cX3_settle 28 = .ok (.checkcast 112, 3) := by decide +kernel
theorem dX3_settle_31 : decode cX3_settle 31 = .ok (.astore_n 2, 1) := by decide +kernel
theorem dX3_settle_32 : decode cX3_settle 32 = .ok (.iconst 1, 1) := by decide +kernel
theorem dX3_settle_33 : decode cX3_settle 33 = .ok (.istore_n 3, 1) := by decide +kernel
theorem dX3_settle_34 : decode cX3_settle 34 = .ok (.iconst 0, 1) := by decide +kernel
theorem dX3_settle_35 : decode cX3_settle 35 = .ok (.istore 4, 2) := by decide +kernel
theorem dX3_settle_37 : decode cX3_settle 37 = .ok (.iload 4, 2) := by decide +kernel
theorem dX3_settle_39 : decode cX3_settle 39 = .ok (.aload_n 0, 1) := by decide +kernel
theorem dX3_settle_40 : decode cX3_settle 40 = .ok (.getfield 36, 3) := by decide +kernel
theorem dX3_settle_43 : decode cX3_settle 43 = .ok (.invokevirtual 46, 3) := by decide +kernel
theorem dX3_settle_46 : decode cX3_settle 46 = .ok (.if_icmp .ge 59, 3) := by decide +kernel
theorem dX3_settle_49 : decode cX3_settle 49 = .ok (.aload_n 0, 1) := by decide +kernel
theorem dX3_settle_50 : decode cX3_settle 50 = .ok (.getfield 36, 3) := by decide +kernel
theorem dX3_settle_53 : decode cX3_settle 53 = .ok (.iload 4, 2) := by decide +kernel
theorem dX3_settle_55 : decode cX3_settle 55 = .ok (.invokevirtual 76, 3) := by decide +kernel
theorem dX3_settle_58 : decode cX3_settle 58 = .ok (.checkcast 112, 3) := by decide +kernel
theorem dX3_settle_61 : decode cX3_settle 61 = .ok (.astore 5, 2) := by decide +kernel
theorem dX3_settle_63 : decode cX3_settle 63 = .ok (.iload_n 3, 1) := by decide +kernel
theorem dX3_settle_64 : decode cX3_settle 64 = .ok (.aload 5, 2) := by decide +kernel
theorem dX3_settle_66 : decode cX3_settle 66 = .ok (.getfield 116, 3) := by decide +kernel
theorem dX3_settle_69 : decode cX3_settle 69 = .ok (.aload_n 2, 1) := by decide +kernel
theorem dX3_settle_70 : decode cX3_settle 70 = .ok (.getfield 116, 3) := by decide +kernel
theorem dX3_settle_73 : decode cX3_settle 73 = .ok (.iand, 1) := by decide +kernel
theorem dX3_settle_74 : decode cX3_settle 74 = .ok (.ifCond .eq 18, 3) := by decide +kernel
theorem dX3_settle_77 : decode cX3_settle 77 = .ok (.aload_n 2, 1) := by decide +kernel
theorem dX3_settle_78 : decode cX3_settle 78 = .ok (.getfield 134, 3) := by decide +kernel
theorem dX3_settle_81 : decode cX3_settle 81 = .ok (.aload 5, 2) := by decide +kernel
theorem dX3_settle_83 : decode cX3_settle 83 = .ok (.getfield 134, 3) := by decide +kernel
theorem dX3_settle_86 : decode cX3_settle 86 = .ok (.invokestatic 173, 3) := by decide +kernel
theorem dX3_settle_89 : decode cX3_settle 89 = .ok (.ifCond .eq 7, 3) := by decide +kernel
theorem dX3_settle_92 : decode cX3_settle 92 = .ok (.iconst 1, 1) := by decide +kernel
theorem dX3_settle_93 : decode cX3_settle 93 = .ok (.goto 4, 3) := by decide +kernel
theorem dX3_settle_96 : decode cX3_settle 96 = .ok (.iconst 0, 1) := by decide +kernel
theorem dX3_settle_97 : decode cX3_settle 97 = .ok (.iand, 1) := by decide +kernel
theorem dX3_settle_98 : decode cX3_settle 98 = .ok (.istore_n 3, 1) := by decide +kernel
theorem dX3_settle_99 : decode cX3_settle 99 = .ok (.iinc 4 1, 3) := by decide +kernel
theorem dX3_settle_102 : decode cX3_settle 102 = .ok (.goto (-65), 3) := by decide +kernel
theorem dX3_settle_105 : decode cX3_settle 105 = .ok (.iload_n 3, 1) := by decide +kernel
theorem dX3_settle_106 : decode cX3_settle 106 = .ok (.ifCond .ne 6, 3) := by decide +kernel
theorem dX3_settle_109 : decode cX3_settle 109 = .ok (.goto 67, 3) := by decide +kernel
theorem dX3_settle_112 : decode cX3_settle 112 = .ok (.aload_n 0, 1) := by decide +kernel
theorem dX3_settle_113 : decode cX3_settle 113 = .ok (.getfield 36, 3) := by decide +kernel
theorem dX3_settle_116 : decode cX3_settle 116 = .ok (.invokevirtual 46, 3) := by decide +kernel
theorem dX3_settle_119 : decode cX3_settle 119 = .ok (.iconst 1, 1) := by decide +kernel
theorem dX3_settle_120 : decode cX3_settle 120 = .ok (.isub, 1) := by decide +kernel
theorem dX3_settle_121 : decode cX3_settle 121 = .ok (.istore 4, 2) := by decide +kernel
theorem dX3_settle_123 : decode cX3_settle 123 = .ok (.iload 4, 2) := by decide +kernel
theorem dX3_settle_125 : decode cX3_settle 125 = .ok (.ifCond .lt 42, 3) := by decide +kernel
theorem dX3_settle_128 : decode cX3_settle 128 = .ok (.aload_n 0, 1) := by decide +kernel
theorem dX3_settle_129 : decode cX3_settle 129 = .ok (.getfield 36, 3) := by decide +kernel
theorem dX3_settle_132 : decode cX3_settle 132 = .ok (.iload 4, 2) := by decide +kernel
theorem dX3_settle_134 : decode cX3_settle 134 = .ok (.invokevirtual 76, 3) := by decide +kernel
theorem dX3_settle_137 : decode cX3_settle 137 = .ok (.checkcast 112, 3) := by decide +kernel
theorem dX3_settle_140 : decode cX3_settle 140 = .ok (.getfield 116, 3) := by decide +kernel
theorem dX3_settle_143 : decode cX3_settle 143 = .ok (.aload_n 2, 1) := by decide +kernel
theorem dX3_settle_144 : decode cX3_settle 144 = .ok (.getfield 116, 3) := by decide +kernel
theorem dX3_settle_147 : decode cX3_settle 147 = .ok (.iand, 1) := by decide +kernel
theorem dX3_settle_148 : decode cX3_settle 148 = .ok (.ifCond .eq 13, 3) := by decide +kernel
theorem dX3_settle_151 : decode cX3_settle 151 = .ok (.aload_n 0, 1) := by decide +kernel
theorem dX3_settle_152 : decode cX3_settle 152 = .ok (.getfield 36, 3) := by decide +kernel
theorem dX3_settle_155 : decode cX3_settle 155 = .ok (.iload 4, 2) := by decide +kernel
theorem dX3_settle_157 : decode cX3_settle 157 = .ok (.invokevirtual 177, 3) := by decide +kernel
theorem dX3_settle_160 : decode cX3_settle 160 = .ok (.pop, 1) := by decide +kernel
theorem dX3_settle_161 : decode cX3_settle 161 = .ok (.iinc 4 (-1), 3) := by decide +kernel
theorem dX3_settle_164 : decode cX3_settle 164 = .ok (.goto (-41), 3) := by decide +kernel
theorem dX3_settle_167 : decode cX3_settle 167 = .ok (.aload_n 0, 1) := by decide +kernel
theorem dX3_settle_168 : decode cX3_settle 168 = .ok (.getfield 36, 3) := by decide +kernel
theorem dX3_settle_171 : decode cX3_settle 171 = .ok (.aload_n 2, 1) := by decide +kernel
theorem dX3_settle_172 : decode cX3_settle 172 = .ok (.invokevirtual 58, 3) := by decide +kernel
theorem dX3_settle_175 : decode cX3_settle 175 = .ok (.pop, 1) := by decide +kernel
theorem dX3_settle_176 : decode cX3_settle 176 = .ok (.iinc 1 1, 3) := by decide +kernel
theorem dX3_settle_179 : decode cX3_settle 179 = .ok (.goto (-170), 3) := by decide +kernel
theorem dX3_settle_182 : decode cX3_settle 182 = .ok (.aload_n 0, 1) := by decide +kernel
theorem dX3_settle_183 : decode cX3_settle 183 = .ok (.getfield 36, 3) := by decide +kernel
theorem dX3_settle_186 : decode cX3_settle 186 = .ok (.astore_n 1, 1) := by decide +kernel
theorem dX3_settle_187 : decode cX3_settle 187 = .ok (.aload_n 0, 1) := by decide +kernel
theorem dX3_settle_188 : decode cX3_settle 188 = .ok (.aload_n 0, 1) := by decide +kernel
theorem dX3_settle_189 : decode cX3_settle 189 = .ok (.getfield 33, 3) := by decide +kernel
theorem dX3_settle_192 : decode cX3_settle 192 = .ok (.putfield 36, 3) := by decide +kernel
theorem dX3_settle_195 : decode cX3_settle 195 = .ok (.aload_n 0, 1) := by decide +kernel
theorem dX3_settle_196 : decode cX3_settle 196 = .ok (.aload_n 1, 1) := by decide +kernel
theorem dX3_settle_197 : decode cX3_settle 197 = .ok (.putfield 33, 3) := by decide +kernel
theorem dX3_settle_200 : decode cX3_settle 200 = .ok (.return_, 1) := by decide +kernel
abbrev cX3_isBelow : ByteArray := prog_10_method_12_code
def yX3_isBelow : MethodName := ⟨RX3, "isBelow", "(LNestChart$State;LNestChart$State;)Z"⟩
theorem dX3_isBelow_0 : decode cX3_isBelow 0 = .ok (.aload_n 1, 1) := by decide +kernel
theorem dX3_isBelow_1 : decode cX3_isBelow 1 = .ok (.getfield 105, 3) := by decide +kernel
theorem dX3_isBelow_4 : decode cX3_isBelow 4 = .ok (.aload_n 0, 1) := by decide +kernel
theorem dX3_isBelow_5 : decode cX3_isBelow 5 = .ok (.invokevirtual 108, 3) := by decide +kernel
theorem dX3_isBelow_8 : decode cX3_isBelow 8 = .ok (.iand, 1) := by decide +kernel
theorem dX3_isBelow_9 : decode cX3_isBelow 9 = .ok (.ifCond .eq 7, 3) := by decide +kernel
theorem dX3_isBelow_12 : decode cX3_isBelow 12 = .ok (.iconst 1, 1) := by decide +kernel
theorem dX3_isBelow_13 : decode cX3_isBelow 13 = .ok (.goto 4, 3) := by decide +kernel
theorem dX3_isBelow_16 : decode cX3_isBelow 16 = .ok (.iconst 0, 1) := by decide +kernel
theorem dX3_isBelow_17 : decode cX3_isBelow 17 = .ok (.ireturn, 1) := by decide +kernel
abbrev cX3_step : ByteArray := prog_10_method_23_code
def yX3_step : MethodName := ⟨RX3, "step", "()V"⟩
theorem dX3_step_0 : decode cX3_step 0 = .ok (.aload_n 0, 1) := by decide +kernel
theorem dX3_step_1 : decode cX3_step 1 = .ok (.getfield 102, 3) := by decide +kernel
theorem dX3_step_4 : decode cX3_step 4 = .ok (.bipush 30, 2) := by decide +kernel
theorem dX3_step_6 : decode cX3_step 6 = .ok (.if_icmp .ne 21, 3) := by decide +kernel
theorem dX3_step_9 : decode cX3_step 9 = .ok (.aload_n 0, 1) := by decide +kernel
theorem dX3_step_10 : decode cX3_step 10 = .ok (.iconst 0, 1) := by decide +kernel
theorem dX3_step_11 : decode cX3_step 11 = .ok (.putfield 65, 3) := by decide +kernel
theorem dX3_step_14 : decode cX3_step 14 = .ok (.aload_n 0, 1) := by decide +kernel
theorem dX3_step_15 : decode cX3_step 15 = .ok (.iconst 0, 1) := by decide +kernel
theorem dX3_step_16 : decode cX3_step 16 = .ok (.putfield 62, 3) := by decide +kernel
theorem dX3_step_19 : decode cX3_step 19 = .ok (.new 210, 3) := by decide +kernel
theorem dX3_step_22 : decode cX3_step 22 = .ok (.dup, 1) := by decide +kernel
theorem dX3_step_23 : decode cX3_step 23 = .ok (.invokespecial 212, 3) := by decide +kernel
theorem dX3_step_26 : decode cX3_step 26 = .ok (.athrow, 1) := by decide +kernel
theorem dX3_step_27 : decode cX3_step 27 = .ok (.aload_n 0, 1) := by decide +kernel
theorem dX3_step_28 : decode cX3_step 28 = .ok (.dup, 1) := by decide +kernel
theorem dX3_step_29 : decode cX3_step 29 = .ok (.getfield 102, 3) := by decide +kernel
theorem dX3_step_32 : decode cX3_step 32 = .ok (.iconst 1, 1) := by decide +kernel
theorem dX3_step_33 : decode cX3_step 33 = .ok (.iadd, 1) := by decide +kernel
theorem dX3_step_34 : decode cX3_step 34 = .ok (.putfield 102, 3) := by decide +kernel
theorem dX3_step_37 : decode cX3_step 37 = .ok (.iconst 0, 1) := by decide +kernel
theorem dX3_step_38 : decode cX3_step 38 = .ok (.istore_n 1, 1) := by decide +kernel
theorem dX3_step_39 : decode cX3_step 39 = .ok (.iconst 0, 1) := by decide +kernel
theorem dX3_step_40 : decode cX3_step 40 = .ok (.istore_n 2, 1) := by decide +kernel
theorem dX3_step_41 : decode cX3_step 41 = .ok (.iload_n 2, 1) := by decide +kernel
theorem dX3_step_42 : decode cX3_step 42 = .ok (.aload_n 0, 1) := by decide +kernel
theorem dX3_step_43 : decode cX3_step 43 = .ok (.getfield 33, 3) := by decide +kernel
theorem dX3_step_46 : decode cX3_step 46 = .ok (.invokevirtual 46, 3) := by decide +kernel
theorem dX3_step_49 : decode cX3_step 49 = .ok (.if_icmp .ge 26, 3) := by decide +kernel
theorem dX3_step_52 : decode cX3_step 52 = .ok (.iload_n 1, 1) := by decide +kernel
theorem dX3_step_53 : decode cX3_step 53 = .ok (.aload_n 0, 1) := by decide +kernel
theorem dX3_step_54 : decode cX3_step 54 = .ok (.getfield 33, 3) := by decide +kernel
theorem dX3_step_57 : decode cX3_step 57 = .ok (.iload_n 2, 1) := by decide +kernel
theorem dX3_step_58 : decode cX3_step 58 = .ok (.invokevirtual 76, 3) := by decide +kernel
theorem dX3_step_61 : decode cX3_step 61 = .ok (.checkcast 112, 3) := by decide +kernel
theorem dX3_step_64 : decode cX3_step 64 = .ok (.getfield 116, 3) := by decide +kernel
theorem dX3_step_67 : decode cX3_step 67 = .ok (.ior, 1) := by decide +kernel
theorem dX3_step_68 : decode cX3_step 68 = .ok (.istore_n 1, 1) := by decide +kernel
theorem dX3_step_69 : decode cX3_step 69 = .ok (.iinc 2 1, 3) := by decide +kernel
theorem dX3_step_72 : decode cX3_step 72 = .ok (.goto (-31), 3) := by decide +kernel
theorem dX3_step_75 : decode cX3_step 75 = .ok (.aload_n 0, 1) := by decide +kernel
theorem dX3_step_76 : decode cX3_step 76 = .ok (.iload_n 1, 1) := by decide +kernel
theorem dX3_step_77 : decode cX3_step 77 = .ok (.invokevirtual 213, 3) := by decide +kernel
theorem dX3_step_80 : decode cX3_step 80 = .ok (.iconst 0, 1) := by decide +kernel
theorem dX3_step_81 : decode cX3_step 81 = .ok (.istore_n 2, 1) := by decide +kernel
theorem dX3_step_82 : decode cX3_step 82 = .ok (.iload_n 2, 1) := by decide +kernel
theorem dX3_step_83 : decode cX3_step 83 = .ok (.aload_n 0, 1) := by decide +kernel
theorem dX3_step_84 : decode cX3_step 84 = .ok (.getfield 33, 3) := by decide +kernel
theorem dX3_step_87 : decode cX3_step 87 = .ok (.invokevirtual 46, 3) := by decide +kernel
theorem dX3_step_90 : decode cX3_step 90 = .ok (.if_icmp .ge 27, 3) := by decide +kernel
theorem dX3_step_93 : decode cX3_step 93 = .ok (.aload_n 0, 1) := by decide +kernel
theorem dX3_step_94 : decode cX3_step 94 = .ok (.aload_n 0, 1) := by decide +kernel
theorem dX3_step_95 : decode cX3_step 95 = .ok (.getfield 33, 3) := by decide +kernel
theorem dX3_step_98 : decode cX3_step 98 = .ok (.iload_n 2, 1) := by decide +kernel
theorem dX3_step_99 : decode cX3_step 99 = .ok (.invokevirtual 76, 3) := by decide +kernel
theorem dX3_step_102 : decode cX3_step 102 = .ok (.checkcast 112, 3) := by decide +kernel
theorem dX3_step_105 : decode cX3_step 105 = .ok (.getfield 216, 3) := by decide +kernel
theorem dX3_step_108 : decode cX3_step 108 = .ok (.invokevirtual 196, 3) := by decide +kernel
theorem dX3_step_111 : decode cX3_step 111 = .ok (.iinc 2 1, 3) := by decide +kernel
theorem dX3_step_114 : decode cX3_step 114 = .ok (.goto (-32), 3) := by decide +kernel
theorem dX3_step_117 : decode cX3_step 117 = .ok (.aload_n 0, 1) := by decide +kernel
theorem dX3_step_118 : decode cX3_step 118 = .ok (.aload_n 0, 1) := by decide +kernel
theorem dX3_step_119 : decode cX3_step 119 = .ok (.invokevirtual 219, 3) := by decide +kernel
theorem dX3_step_122 : decode cX3_step 122 = .ok (.invokevirtual 95, 3) := by decide +kernel
theorem dX3_step_125 : decode cX3_step 125 = .ok (.return_, 1) := by decide +kernel
abbrev cX3_leave : ByteArray := prog_10_method_20_code
def yX3_leave : MethodName := ⟨RX3, "leave", "(I)V"⟩
theorem dX3_leave_0 : decode cX3_leave 0 = .ok (.iconst 0, 1) := by decide +kernel
theorem dX3_leave_1 : decode cX3_leave 1 = .ok (.istore_n 2, 1) := by decide +kernel
theorem dX3_leave_2 : decode cX3_leave 2 = .ok (.iload_n 2, 1) := by decide +kernel
theorem dX3_leave_3 : decode cX3_leave 3 = .ok (.aload_n 0, 1) := by decide +kernel
theorem dX3_leave_4 : decode cX3_leave 4 = .ok (.getfield 12, 3) := by decide +kernel
theorem dX3_leave_7 : decode cX3_leave 7 = .ok (.invokevirtual 46, 3) := by decide +kernel
theorem dX3_leave_10 : decode cX3_leave 10 = .ok (.if_icmp .ge 42, 3) := by decide +kernel
theorem dX3_leave_13 : decode cX3_leave 13 = .ok (.aload_n 0, 1) := by decide +kernel
theorem dX3_leave_14 : decode cX3_leave 14 = .ok (.getfield 12, 3) := by decide +kernel
theorem dX3_leave_17 : decode cX3_leave 17 = .ok (.iload_n 2, 1) := by decide +kernel
theorem dX3_leave_18 : decode cX3_leave 18 = .ok (.invokevirtual 76, 3) := by decide +kernel
theorem dX3_leave_21 : decode cX3_leave 21 = .ok (.checkcast 80, 3) := by decide +kernel
theorem dX3_leave_24 : decode cX3_leave 24 = .ok (.astore_n 3, 1) := by decide +kernel
theorem dX3_leave_25 : decode cX3_leave 25 = .ok (.iload_n 1, 1) := by decide +kernel
theorem dX3_leave_26 : decode cX3_leave 26 = .ok (.aload_n 3, 1) := by decide +kernel
theorem dX3_leave_27 : decode cX3_leave 27 = .ok (.invokevirtual 108, 3) := by decide +kernel
theorem dX3_leave_30 : decode cX3_leave 30 = .ok (.iand, 1) := by decide +kernel
theorem dX3_leave_31 : decode cX3_leave 31 = .ok (.ifCond .eq 15, 3) := by decide +kernel
theorem dX3_leave_34 : decode cX3_leave 34 = .ok (.aload_n 3, 1) := by decide +kernel
theorem dX3_leave_35 : decode cX3_leave 35 = .ok (.getfield 141, 3) := by decide +kernel
theorem dX3_leave_38 : decode cX3_leave 38 = .ok (.ifCond .eq 8, 3) := by decide +kernel
theorem dX3_leave_41 : decode cX3_leave 41 = .ok (.aload_n 0, 1) := by decide +kernel
theorem dX3_leave_42 : decode cX3_leave 42 = .ok (.aload_n 3, 1) := by decide +kernel
theorem dX3_leave_43 : decode cX3_leave 43 = .ok (.invokevirtual 189, 3) := by decide +kernel
theorem dX3_leave_46 : decode cX3_leave 46 = .ok (.iinc 2 1, 3) := by decide +kernel
theorem dX3_leave_49 : decode cX3_leave 49 = .ok (.goto (-47), 3) := by decide +kernel
