set_option maxRecDepth 100000
def yX4_isIn : MethodName := ⟨RX4, "isIn", "(II)Z"⟩
theorem dX4_isIn_0 : decode cX4_isIn 0 = .ok (.iload_n 1, 1) := by decide +kernel
theorem dX4_isIn_1 : decode cX4_isIn 1 = .ok (.iload_n 2, 1) := by decide +kernel
theorem dX4_isIn_2 : decode cX4_isIn 2 = .ok (.ishr, 1) := by decide +kernel
theorem dX4_isIn_3 : decode cX4_isIn 3 = .ok (.iconst 1, 1) := by decide +kernel
theorem dX4_isIn_4 : decode cX4_isIn 4 = .ok (.iand, 1) := by decide +kernel
theorem dX4_isIn_5 : decode cX4_isIn 5 = .ok (.iconst 1, 1) := by decide +kernel
theorem dX4_isIn_6 : decode cX4_isIn 6 = .ok (.if_icmp .ne 7, 3) := by decide +kernel
theorem dX4_isIn_9 : decode cX4_isIn 9 = .ok (.iconst 1, 1) := by decide +kernel
theorem dX4_isIn_10 : decode cX4_isIn 10 = .ok (.goto 4, 3) := by decide +kernel
theorem dX4_isIn_13 : decode cX4_isIn 13 = .ok (.iconst 0, 1) := by decide +kernel
theorem dX4_isIn_14 : decode cX4_isIn 14 = .ok (.ireturn, 1) := by decide +kernel
abbrev cX4_note : ByteArray := prog_17_method_39_code
def yX4_note : MethodName := ⟨RX4, "note", "(I)V"⟩
theorem dX4_note_0 : decode cX4_note 0 = .ok (.aload_n 0, 1) := by decide +kernel
theorem dX4_note_1 : decode cX4_note 1 = .ok (.getfield 240, 3) := by decide +kernel
theorem dX4_note_4 : decode cX4_note 4 = .ok (.bipush 100, 2) := by decide +kernel
theorem dX4_note_6 : decode cX4_note 6 = .ok (.if_icmp .ne 4, 3) := by decide +kernel
theorem dX4_note_9 : decode cX4_note 9 = .ok (.return_, 1) := by decide +kernel
theorem dX4_note_10 : decode cX4_note 10 = .ok (.aload_n 0, 1) := by decide +kernel
theorem dX4_note_11 : decode cX4_note 11 = .ok (.getfield 128, 3) := by decide +kernel
theorem dX4_note_14 : decode cX4_note 14 = .ok (.aload_n 0, 1) := by decide +kernel
theorem dX4_note_15 : decode cX4_note 15 = .ok (.getfield 240, 3) := by decide +kernel
theorem dX4_note_18 : decode cX4_note 18 = .ok (.iload_n 1, 1) := by decide +kernel
theorem dX4_note_19 : decode cX4_note 19 = .ok (.iastore, 1) := by decide +kernel
theorem dX4_note_20 : decode cX4_note 20 = .ok (.aload_n 0, 1) := by decide +kernel
theorem dX4_note_21 : decode cX4_note 21 = .ok (.dup, 1) := by decide +kernel
theorem dX4_note_22 : decode cX4_note 22 = .ok (.getfield 240, 3) := by decide +kernel
theorem dX4_note_25 : decode cX4_note 25 = .ok (.iconst 1, 1) := by decide +kernel
theorem dX4_note_26 : decode cX4_note 26 = .ok (.iadd, 1) := by decide +kernel
theorem dX4_note_27 : decode cX4_note 27 = .ok (.putfield 240, 3) := by decide +kernel
theorem dX4_note_30 : decode cX4_note 30 = .ok (.return_, 1) := by decide +kernel
abbrev cX4_act : ByteArray := prog_17_method_31_code
def yX4_act : MethodName := ⟨RX4, "act", "(I)V"⟩
theorem dX4_act_0 : decode cX4_act 0 = .ok (.bipush 48, 2) := by decide +kernel
theorem dX4_act_2 : decode cX4_act 2 = .ok (.aload_n 0, 1) := by decide +kernel
theorem dX4_act_3 : decode cX4_act 3 = .ok (.getfield 17, 3) := by decide +kernel
theorem dX4_act_6 : decode cX4_act 6 = .ok (.imul, 1) := by decide +kernel
theorem dX4_act_7 : decode cX4_act 7 = .ok (.istore_n 2, 1) := by decide +kernel
theorem dX4_act_8 : decode cX4_act 8 = .ok (.iload_n 2, 1) := by decide +kernel
theorem dX4_act_9 : decode cX4_act 9 = .ok (.bipush 48, 2) := by decide +kernel
theorem dX4_act_11 : decode cX4_act 11 = .ok (.aload_n 0, 1) := by decide +kernel
theorem dX4_act_12 : decode cX4_act 12 = .ok (.getfield 17, 3) := by decide +kernel
theorem dX4_act_15 : decode cX4_act 15 = .ok (.imul, 1) := by decide +kernel
theorem dX4_act_16 : decode cX4_act 16 = .ok (.aload_n 0, 1) := by decide +kernel
theorem dX4_act_17 : decode cX4_act 17 = .ok (.getfield 30, 3) := by decide +kernel
theorem dX4_act_20 : decode cX4_act 20 = .ok (.aload_n 0, 1) := by decide +kernel
theorem dX4_act_21 : decode cX4_act 21 = .ok (.getfield 17, 3) := by decide +kernel
theorem dX4_act_24 : decode cX4_act 24 = .ok (.iaload, 1) := by decide +kernel
theorem dX4_act_25 : decode cX4_act 25 = .ok (.iadd, 1) := by decide +kernel
theorem dX4_act_26 : decode cX4_act 26 = .ok (.if_icmp .ge 24, 3) := by decide +kernel
theorem dX4_act_29 : decode cX4_act 29 = .ok (.aload_n 0, 1) := by decide +kernel
theorem dX4_act_30 : decode cX4_act 30 = .ok (.getfield 95, 3) := by decide +kernel
theorem dX4_act_33 : decode cX4_act 33 = .ok (.iload_n 2, 1) := by decide +kernel
theorem dX4_act_34 : decode cX4_act 34 = .ok (.iaload, 1) := by decide +kernel
theorem dX4_act_35 : decode cX4_act 35 = .ok (.iload_n 1, 1) := by decide +kernel
theorem dX4_act_36 : decode cX4_act 36 = .ok (.if_icmp .ne 8, 3) := by decide +kernel
theorem dX4_act_39 : decode cX4_act 39 = .ok (.aload_n 0, 1) := by decide +kernel
theorem dX4_act_40 : decode cX4_act 40 = .ok (.iload_n 2, 1) := by decide +kernel
theorem dX4_act_41 : decode cX4_act 41 = .ok (.invokevirtual 274, 3) := by decide +kernel
theorem dX4_act_44 : decode cX4_act 44 = .ok (.iinc 2 1, 3) := by decide +kernel
theorem dX4_act_47 : decode cX4_act 47 = .ok (.goto (-39), 3) := by decide +kernel
theorem dX4_act_50 : decode cX4_act 50 = .ok (.return_, 1) := by decide +kernel
abbrev cX4_doAction : ByteArray := prog_17_method_30_code
def yX4_doAction : MethodName := ⟨RX4, "doAction", "(I)V"⟩
theorem dX4_doAction_0 : decode cX4_doAction 0 = .ok (.aload_n 0, 1) := by decide +kernel
theorem dX4_doAction_1 : decode cX4_doAction 1 = .ok (.getfield 98, 3) := by decide +kernel
theorem dX4_doAction_4 : decode cX4_doAction 4 = .ok (.iload_n 1, 1) := by decide +kernel
theorem dX4_doAction_5 : decode cX4_doAction 5 = .ok (.iaload, 1) := by decide +kernel
theorem dX4_doAction_6 : decode cX4_doAction 6 = .ok (.istore_n 2, 1) := by decide +kernel
theorem dX4_doAction_7 : decode cX4_doAction 7 = .ok (.iload_n 2, 1) := by decide +kernel
theorem dX4_doAction_8 : decode cX4_doAction 8 = .ok (.bipush 72, 2) := by decide +kernel
theorem dX4_doAction_10 : decode cX4_doAction 10 = .ok (.if_icmp .gt 100, 3) := by decide +kernel
theorem dX4_doAction_13 : decode cX4_doAction 13 = .ok (.aload_n 0, 1) := by decide +kernel
theorem dX4_doAction_14 : decode cX4_doAction 14 = .ok (.getfield 101, 3) := by decide +kernel
theorem dX4_doAction_17 : decode cX4_doAction 17 = .ok (.iload_n 1, 1) := by decide +kernel
theorem dX4_doAction_18 : decode cX4_doAction 18 = .ok (.iaload, 1) := by decide +kernel
theorem dX4_doAction_19 : decode cX4_doAction 19 = .ok (.ifCond .ne 32, 3) := by decide +kernel
theorem dX4_doAction_22 : decode cX4_doAction 22 = .ok (.aload_n 0, 1) := by decide +kernel
theorem dX4_doAction_23 : decode cX4_doAction 23 = .ok (.getfield 246, 3) := by decide +kernel
theorem dX4_doAction_26 : decode cX4_doAction 26 = .ok (.bipush 10, 2) := by decide +kernel
theorem dX4_doAction_28 : decode cX4_doAction 28 = .ok (.if_icmp .ge 23, 3) := by decide +kernel
theorem dX4_doAction_31 : decode cX4_doAction 31 = .ok (.aload_n 0, 1) := by decide +kernel
theorem dX4_doAction_32 : decode cX4_doAction 32 = .ok (.getfield 119, 3) := by decide +kernel
theorem dX4_doAction_35 : decode cX4_doAction 35 = .ok (.aload_n 0, 1) := by decide +kernel
theorem dX4_doAction_36 : decode cX4_doAction 36 = .ok (.getfield 246, 3) := by decide +kernel
theorem dX4_doAction_39 : decode cX4_doAction 39 = .ok (.iload_n 2, 1) := by decide +kernel
theorem dX4_doAction_40 : decode cX4_doAction 40 = .ok (.iastore, 1) := by decide +kernel
theorem dX4_doAction_41 : decode cX4_doAction 41 = .ok (.aload_n 0, 1) := by decide +kernel
theorem dX4_doAction_42 : decode cX4_doAction 42 = .ok (.dup, 1) := by decide +kernel
theorem dX4_doAction_43 : decode cX4_doAction 43 = .ok (.getfield 246, 3) := by decide +kernel
theorem dX4_doAction_46 : decode cX4_doAction 46 = .ok (.iconst 1, 1) := by decide +kernel
theorem dX4_doAction_47 : decode cX4_doAction 47 = .ok (.iadd, 1) := by decide +kernel
theorem dX4_doAction_48 : decode cX4_doAction 48 = .ok (.putfield 246, 3) := by decide +kernel
theorem dX4_doAction_51 : decode cX4_doAction 51 = .ok (.aload_n 0, 1) := by decide +kernel
theorem dX4_doAction_52 : decode cX4_doAction 52 = .ok (.getfield 101, 3) := by decide +kernel
theorem dX4_doAction_55 : decode cX4_doAction 55 = .ok (.iload_n 1, 1) := by decide +kernel
theorem dX4_doAction_56 : decode cX4_doAction 56 = .ok (.iaload, 1) := by decide +kernel
theorem dX4_doAction_57 : decode cX4_doAction 57 = .ok (.ifCond .le 52, 3) := by decide +kernel
theorem dX4_doAction_60 : decode cX4_doAction 60 = .ok (.aload_n 0, 1) := by decide +kernel
theorem dX4_doAction_61 : decode cX4_doAction 61 = .ok (.getfield 249, 3) := by decide +kernel
theorem dX4_doAction_64 : decode cX4_doAction 64 = .ok (.bipush 8, 2) := by decide +kernel
theorem dX4_doAction_66 : decode cX4_doAction 66 = .ok (.if_icmp .ge 43, 3) := by decide +kernel
theorem dX4_doAction_69 : decode cX4_doAction 69 = .ok (.aload_n 0, 1) := by decide +kernel
theorem dX4_doAction_70 : decode cX4_doAction 70 = .ok (.getfield 122, 3) := by decide +kernel
theorem dX4_doAction_73 : decode cX4_doAction 73 = .ok (.aload_n 0, 1) := by decide +kernel
theorem dX4_doAction_74 : decode cX4_doAction 74 = .ok (.getfield 249, 3) := by decide +kernel
theorem dX4_doAction_77 : decode cX4_doAction 77 = .ok (.iload_n 2, 1) := by decide +kernel
theorem dX4_doAction_78 : decode cX4_doAction 78 = .ok (.iastore, 1) := by decide +kernel
theorem dX4_doAction_79 : decode cX4_doAction 79 = .ok (.aload_n 0, 1) := by decide +kernel
theorem dX4_doAction_80 : decode cX4_doAction 80 = .ok (.getfield 125, 3) := by decide +kernel
theorem dX4_doAction_83 : decode cX4_doAction 83 = .ok (.aload_n 0, 1) := by decide +kernel
theorem dX4_doAction_84 : decode cX4_doAction 84 = .ok (.getfield 249, 3) := by decide +kernel
theorem dX4_doAction_87 : decode cX4_doAction 87 = .ok (.aload_n 0, 1) := by decide +kernel
theorem dX4_doAction_88 : decode cX4_doAction 88 = .ok (.getfield 252, 3) := by decide +kernel
theorem dX4_doAction_91 : decode cX4_doAction 91 = .ok (.aload_n 0, 1) := by decide +kernel
theorem dX4_doAction_92 : decode cX4_doAction 92 = .ok (.getfield 101, 3) := by decide +kernel
theorem dX4_doAction_95 : decode cX4_doAction 95 = .ok (.iload_n 1, 1) := by decide +kernel
theorem dX4_doAction_96 : decode cX4_doAction 96 = .ok (.iaload, 1) := by decide +kernel
theorem dX4_doAction_97 : decode cX4_doAction 97 = .ok (.iadd, 1) := by decide +kernel
theorem dX4_doAction_98 : decode cX4_doAction 98 = .ok (.iastore, 1) := by decide +kernel
theorem dX4_doAction_99 : decode cX4_doAction 99 = .ok (.aload_n 0, 1) := by decide +kernel
theorem dX4_doAction_100 : decode cX4_doAction 100 = .ok (.dup, 1) := by decide +kernel
theorem dX4_doAction_101 : decode cX4_doAction 101 = .ok (.getfield 249, 3) := by decide +kernel
theorem dX4_doAction_104 : decode cX4_doAction 104 = .ok (.iconst 1, 1) := by decide +kernel
theorem dX4_doAction_105 : decode cX4_doAction 105 = .ok (.iadd, 1) := by decide +kernel
theorem dX4_doAction_106 : decode cX4_doAction 106 = .ok (.putfield 249, 3) := by decide +kernel
theorem dX4_doAction_109 : decode cX4_doAction 109 = .ok (.return_, 1) := by decide +kernel
theorem dX4_doAction_110 : decode cX4_doAction 110 = .ok (.aload_n 0, 1) := by decide +kernel
theorem dX4_doAction_111 : decode cX4_doAction 111 = .ok (.getfield 110, 3) := by decide +kernel
theorem dX4_doAction_114 : decode cX4_doAction 114 = .ok (.iload_n 2, 1) := by decide +kernel
theorem dX4_doAction_115 : decode cX4_doAction 115 = .ok (.bipush 117, 2) := by decide +kernel
theorem dX4_doAction_117 : decode cX4_doAction 117 = .ok (.isub, 1) := by decide +kernel
theorem dX4_doAction_118 : decode cX4_doAction 118 = .ok (.daload, 1) := by decide +kernel
theorem dX4_doAction_119 : decode cX4_doAction 119 = .ok (.dstore_n 3, 1) := by decide +kernel
theorem dX4_doAction_120 : decode cX4_doAction 120 = .ok (.aload_n 0, 1) := by decide +kernel
theorem dX4_doAction_121 : decode cX4_doAction 121 = .ok (.getfield 104, 3) := by decide +kernel
theorem dX4_doAction_124 : decode cX4_doAction 124 = .ok (.iload_n 1, 1) := by decide +kernel
theorem dX4_doAction_125 : decode cX4_doAction 125 = .ok (.iaload, 1) := by decide +kernel
theorem dX4_doAction_126 : decode cX4_doAction 126 = .ok (.ifCond .lt 17, 3) := by decide +kernel
theorem dX4_doAction_129 : decode cX4_doAction 129 = .ok (.aload_n 0, 1) := by decide +kernel
theorem dX4_doAction_130 : decode cX4_doAction 130 = .ok (.getfield 110, 3) := by decide +kernel
theorem dX4_doAction_133 : decode cX4_doAction 133 = .ok (.aload_n 0, 1) := by decide +kernel
theorem dX4_doAction_134 : decode cX4_doAction 134 = .ok (.getfield 104, 3) := by decide +kernel
theorem dX4_doAction_137 : decode cX4_doAction 137 = .ok (.iload_n 1, 1) := by decide +kernel
theorem dX4_doAction_138 : decode cX4_doAction 138 = .ok (.iaload, 1) := by decide +kernel
theorem dX4_doAction_139 : decode cX4_doAction 139 = .ok (.daload, 1) := by decide +kernel
theorem dX4_doAction_140 : decode cX4_doAction 140 = .ok (.goto 9, 3) := by decide +kernel
theorem dX4_doAction_143 : decode cX4_doAction 143 = .ok (.aload_n 0, 1) := by decide +kernel
theorem dX4_doAction_144 : decode cX4_doAction 144 = .ok (.getfield 107, 3) := by decide +kernel
theorem dX4_doAction_147 : decode cX4_doAction 147 = .ok (.iload_n 1, 1) := by decide +kernel
theorem dX4_doAction_148 : decode cX4_doAction 148 = .ok (.daload, 1) := by decide +kernel
theorem dX4_doAction_149 : decode cX4_doAction 149 = .ok (.dstore 5, 2) := by decide +kernel
theorem dX4_doAction_151 : decode cX4_doAction 151 = .ok (.aload_n 0, 1) := by decide +kernel
theorem dX4_doAction_152 : decode cX4_doAction 152 = .ok (.getfield 101, 3) := by decide +kernel
theorem dX4_doAction_155 : decode cX4_doAction 155 = .ok (.iload_n 1, 1) := by decide +kernel
theorem dX4_doAction_156 : decode cX4_doAction 156 = .ok (.iaload, 1) := by decide +kernel
theorem dX4_doAction_157 : decode cX4_doAction 157 = .ok (.bipush 43, 2) := by decide +kernel
theorem dX4_doAction_159 : decode cX4_doAction 159 = .ok (.if_icmp .ne 10, 3) := by decide +kernel
theorem dX4_doAction_162 : decode cX4_doAction 162 = .ok (.dload_n 3, 1) := by decide +kernel
theorem dX4_doAction_163 : decode cX4_doAction 163 = .ok (.dload 5, 2) := by decide +kernel
theorem dX4_doAction_165 : decode cX4_doAction 165 = .ok (.dadd, 1) := by decide +kernel
theorem dX4_doAction_166 : decode cX4_doAction 166 = .ok (.goto 41, 3) := by decide +kernel
theorem dX4_doAction_169 : decode cX4_doAction 169 = .ok (.aload_n 0, 1) := by decide +kernel
theorem dX4_doAction_170 : decode cX4_doAction 170 = .ok (.getfield 101, 3) := by decide +kernel
theorem dX4_doAction_173 : decode cX4_doAction 173 = .ok (.iload_n 1, 1) := by decide +kernel
theorem dX4_doAction_174 : decode cX4_doAction 174 = .ok (.iaload, 1) := by decide +kernel
theorem dX4_doAction_175 : decode cX4_doAction 175 = .ok (.bipush 45, 2) := by decide +kernel
theorem dX4_doAction_177 : decode cX4_doAction 177 = .ok (.if_icmp .ne 10, 3) := by decide +kernel
theorem dX4_doAction_180 : decode cX4_doAction 180 = .ok (.dload_n 3, 1) := by decide +kernel
theorem dX4_doAction_181 : decode cX4_doAction 181 = .ok (.dload 5, 2) := by decide +kernel
theorem dX4_doAction_183 : decode cX4_doAction 183 = .ok (.dsub, 1) := by decide +kernel
theorem dX4_doAction_184 : decode cX4_doAction 184 = .ok (.goto 23, 3) := by decide +kernel
theorem dX4_doAction_187 : decode cX4_doAction 187 = .ok (.aload_n 0, 1) := by decide +kernel
theorem dX4_doAction_188 : decode cX4_doAction 188 = .ok (.getfield 101, 3) := by decide +kernel
theorem dX4_doAction_191 : decode cX4_doAction 191 = .ok (.iload_n 1, 1) := by decide +kernel
theorem dX4_doAction_192 : decode cX4_doAction 192 = .ok (.iaload, 1) := by decide +kernel
theorem dX4_doAction_193 : decode cX4_doAction 193 = .ok (.bipush 42, 2) := by decide +kernel
theorem dX4_doAction_195 : decode cX4_doAction 195 = .ok (.if_icmp .ne 10, 3) := by decide +kernel
theorem dX4_doAction_198 : decode cX4_doAction 198 = .ok (.dload_n 3, 1) := by decide +kernel
theorem dX4_doAction_199 : decode cX4_doAction 199 = .ok (.dload 5, 2) := by decide +kernel
theorem dX4_doAction_201 : decode cX4_doAction 201 = .ok (.dmul, 1) := by decide +kernel
theorem dX4_doAction_202 : decode cX4_doAction 202 = .ok (.goto 5, 3) := by decide +kernel
theorem dX4_doAction_205 : decode cX4_doAction 205 = .ok (.dload 5, 2) := by decide +kernel
theorem dX4_doAction_207 : decode cX4_doAction 207 = .ok (.dstore 7, 2) := by decide +kernel
theorem dX4_doAction_209 : decode cX4_doAction 209 = .ok (.aload_n 0, 1) := by decide +kernel
theorem dX4_doAction_210 : decode cX4_doAction 210 = .ok (.getfield 110, 3) := by decide +kernel
theorem dX4_doAction_213 : decode cX4_doAction 213 = .ok (.iload_n 2, 1) := by decide +kernel
theorem dX4_doAction_214 : decode cX4_doAction 214 = .ok (.bipush 117, 2) := by decide +kernel
theorem dX4_doAction_216 : decode cX4_doAction 216 = .ok (.isub, 1) := by decide +kernel
theorem dX4_doAction_217 : decode cX4_doAction 217 = .ok (.dload 7, 2) := by decide +kernel
theorem dX4_doAction_219 : decode cX4_doAction 219 = .ok (.ldc2_w 270, 3) := by decide +kernel
theorem dX4_doAction_222 : decode cX4_doAction 222 = .ok (.dcmp .l, 1) := by decide +kernel
theorem dX4_doAction_223 : decode cX4_doAction 223 = .ok (.ifCond .le 9, 3) := by decide +kernel
theorem dX4_doAction_226 : decode cX4_doAction 226 = .ok (.ldc2_w 270, 3) := by decide +kernel
theorem dX4_doAction_229 : decode cX4_doAction 229 = .ok (.goto 20, 3) := by decide +kernel
theorem dX4_doAction_232 : decode cX4_doAction 232 = .ok (.dload 7, 2) := by decide +kernel
theorem dX4_doAction_234 : decode cX4_doAction 234 = .ok (.ldc2_w 272, 3) := by decide +kernel
theorem dX4_doAction_237 : decode cX4_doAction 237 = .ok (.dcmp .g, 1) := by decide +kernel
theorem dX4_doAction_238 : decode cX4_doAction 238 = .ok (.ifCond .ge 9, 3) := by decide +kernel
theorem dX4_doAction_241 : decode cX4_doAction 241 = .ok (.ldc2_w 272, 3) := by decide +kernel
theorem dX4_doAction_244 : decode cX4_doAction 244 = .ok (.goto 5, 3) := by decide +kernel
theorem dX4_doAction_247 : decode cX4_doAction 247 = .ok (.dload 7, 2) := by decide +kernel
theorem dX4_doAction_249 : decode cX4_doAction 249 = .ok (.dastore, 1) := by decide +kernel
theorem dX4_doAction_250 : decode cX4_doAction 250 = .ok (.return_, 1) := by decide +kernel
abbrev cX4_runOn : ByteArray := prog_17_method_43_code
def yX4_runOn : MethodName := ⟨RX4, "runOn", "()V"⟩
theorem dX4_runOn_0 : decode cX4_runOn 0 = .ok (.aload_n 0, 1) := by decide +kernel
theorem dX4_runOn_1 : decode cX4_runOn 1 = .ok (.getfield 312, 3) := by decide +kernel
theorem dX4_runOn_4 : decode cX4_runOn 4 = .ok (.ifCond .ne 7, 3) := by decide +kernel
theorem dX4_runOn_7 : decode cX4_runOn 7 = .ok (.iconst 1, 1) := by decide +kernel
theorem dX4_runOn_8 : decode cX4_runOn 8 = .ok (.goto 4, 3) := by decide +kernel
theorem dX4_runOn_11 : decode cX4_runOn 11 = .ok (.iconst 0, 1) := by decide +kernel
theorem dX4_runOn_12 : decode cX4_runOn 12 = .ok (.istore_n 1, 1) := by decide +kernel
theorem dX4_runOn_13 : decode cX4_runOn 13 = .ok (.iload_n 1, 1) := by decide +kernel
theorem dX4_runOn_14 : decode cX4_runOn 14 = .ok (.ifCond .eq 119, 3) := by decide +kernel
theorem dX4_runOn_17 : decode cX4_runOn 17 = .ok (.aload_n 0, 1) := by decide +kernel
theorem dX4_runOn_18 : decode cX4_runOn 18 = .ok (.bipush 46, 2) := by decide +kernel
theorem dX4_runOn_20 : decode cX4_runOn 20 = .ok (.invokevirtual 325, 3) := by decide +kernel
theorem dX4_runOn_23 : decode cX4_runOn 23 = .ok (.aload_n 0, 1) := by decide +kernel
theorem dX4_runOn_24 : decode cX4_runOn 24 = .ok (.getfield 288, 3) := by decide +kernel
theorem dX4_runOn_27 : decode cX4_runOn 27 = .ok (.ifCond .ne 65, 3) := by decide +kernel
theorem dX4_runOn_30 : decode cX4_runOn 30 = .ok (.aload_n 0, 1) := by decide +kernel
theorem dX4_runOn_31 : decode cX4_runOn 31 = .ok (.getfield 246, 3) := by decide +kernel
theorem dX4_runOn_34 : decode cX4_runOn 34 = .ok (.ifCond .le 58, 3) := by decide +kernel
theorem dX4_runOn_37 : decode cX4_runOn 37 = .ok (.aload_n 0, 1) := by decide +kernel
theorem dX4_runOn_38 : decode cX4_runOn 38 = .ok (.getfield 119, 3) := by decide +kernel
theorem dX4_runOn_41 : decode cX4_runOn 41 = .ok (.iconst 0, 1) := by decide +kernel
theorem dX4_runOn_42 : decode cX4_runOn 42 = .ok (.iaload, 1) := by decide +kernel
theorem dX4_runOn_43 : decode cX4_runOn 43 = .ok (.istore_n 2, 1) := by decide +kernel
theorem dX4_runOn_44 : decode cX4_runOn 44 = .ok (.aload_n 0, 1) := by decide +kernel
theorem dX4_runOn_45 : decode cX4_runOn 45 = .ok (.dup, 1) := by decide +kernel
theorem dX4_runOn_46 : decode cX4_runOn 46 = .ok (.getfield 246, 3) := by decide +kernel
theorem dX4_runOn_49 : decode cX4_runOn 49 = .ok (.iconst 1, 1) := by decide +kernel
theorem dX4_runOn_50 : decode cX4_runOn 50 = .ok (.isub, 1) := by decide +kernel
theorem dX4_runOn_51 : decode cX4_runOn 51 = .ok (.putfield 246, 3) := by decide +kernel
theorem dX4_runOn_54 : decode cX4_runOn 54 = .ok (.iconst 0, 1) := by decide +kernel
theorem dX4_runOn_55 : decode cX4_runOn 55 = .ok (.istore_n 3, 1) := by decide +kernel
theorem dX4_runOn_56 : decode cX4_runOn 56 = .ok (.iload_n 3, 1) := by decide +kernel
theorem dX4_runOn_57 : decode cX4_runOn 57 = .ok (.aload_n 0, 1) := by decide +kernel
theorem dX4_runOn_58 : decode cX4_runOn 58 = .ok (.getfield 246, 3) := by decide +kernel
theorem dX4_runOn_61 : decode cX4_runOn 61 = .ok (.if_icmp .ge 23, 3) := by decide +kernel
theorem dX4_runOn_64 : decode cX4_runOn 64 = .ok (.aload_n 0, 1) := by decide +kernel
theorem dX4_runOn_65 : decode cX4_runOn 65 = .ok (.getfield 119, 3) := by decide +kernel
theorem dX4_runOn_68 : decode cX4_runOn 68 = .ok (.iload_n 3, 1) := by decide +kernel
theorem dX4_runOn_69 : decode cX4_runOn 69 = .ok (.aload_n 0, 1) := by decide +kernel
theorem dX4_runOn_70 : decode cX4_runOn 70 = .ok (.getfield 119, 3) := by decide +kernel
theorem dX4_runOn_73 : decode cX4_runOn 73 = .ok (.iload_n 3, 1) := by decide +kernel
theorem dX4_runOn_74 : decode cX4_runOn 74 = .ok (.iconst 1, 1) := by decide +kernel
theorem dX4_runOn_75 : decode cX4_runOn 75 = .ok (.iadd, 1) := by decide +kernel
theorem dX4_runOn_76 : decode cX4_runOn 76 = .ok (.iaload, 1) := by decide +kernel
theorem dX4_runOn_77 : decode cX4_runOn 77 = .ok (.iastore, 1) := by decide +kernel
theorem dX4_runOn_78 : decode cX4_runOn 78 = .ok (.iinc 3 1, 3) := by decide +kernel
theorem dX4_runOn_81 : decode cX4_runOn 81 = .ok (.goto (-25), 3) := by decide +kernel
theorem dX4_runOn_84 : decode cX4_runOn 84 = .ok (.aload_n 0, 1) := by decide +kernel
theorem dX4_runOn_85 : decode cX4_runOn 85 = .ok (.iload_n 2, 1) := by decide +kernel
theorem dX4_runOn_86 : decode cX4_runOn 86 = .ok (.invokevirtual 325, 3) := by decide +kernel
theorem dX4_runOn_89 : decode cX4_runOn 89 = .ok (.goto (-66), 3) := by decide +kernel
theorem dX4_runOn_92 : decode cX4_runOn 92 = .ok (.aload_n 0, 1) := by decide +kernel
theorem dX4_runOn_93 : decode cX4_runOn 93 = .ok (.getfield 288, 3) := by decide +kernel
theorem dX4_runOn_96 : decode cX4_runOn 96 = .ok (.ifCond .le 7, 3) := by decide +kernel
theorem dX4_runOn_99 : decode cX4_runOn 99 = .ok (.iconst 1, 1) := by decide +kernel
theorem dX4_runOn_100 : decode cX4_runOn 100 = .ok (.goto 4, 3) := by decide +kernel
theorem dX4_runOn_103 : decode cX4_runOn 103 = .ok (.iconst 0, 1) := by decide +kernel
theorem dX4_runOn_104 : decode cX4_runOn 104 = .ok (.istore_n 1, 1) := by decide +kernel
theorem dX4_runOn_105 : decode cX4_runOn 105 = .ok (.iload_n 1, 1) := by decide +kernel
theorem dX4_runOn_106 : decode cX4_runOn 106 = .ok (.ifCond .eq 7, 3) := by decide +kernel
theorem dX4_runOn_109 : decode cX4_runOn 109 = .ok (.aload_n 0, 1) := by decide +kernel
theorem dX4_runOn_110 : decode cX4_runOn 110 = .ok (.invokevirtual 328, 3) := by decide +kernel
theorem dX4_runOn_113 : decode cX4_runOn 113 = .ok (.iload_n 1, 1) := by decide +kernel
theorem dX4_runOn_114 : decode cX4_runOn 114 = .ok (.ifCond .eq 14, 3) := by decide +kernel
theorem dX4_runOn_117 : decode cX4_runOn 117 = .ok (.aload_n 0, 1) := by decide +kernel
theorem dX4_runOn_118 : decode cX4_runOn 118 = .ok (.getfield 312, 3) := by decide +kernel
theorem dX4_runOn_121 : decode cX4_runOn 121 = .ok (.ifCond .ne 7, 3) := by decide +kernel
theorem dX4_runOn_124 : decode cX4_runOn 124 = .ok (.iconst 1, 1) := by decide +kernel
theorem dX4_runOn_125 : decode cX4_runOn 125 = .ok (.goto 4, 3) := by decide +kernel
theorem dX4_runOn_128 : decode cX4_runOn 128 = .ok (.iconst 0, 1) := by decide +kernel
theorem dX4_runOn_129 : decode cX4_runOn 129 = .ok (.istore_n 1, 1) := by decide +kernel
theorem dX4_runOn_130 : decode cX4_runOn 130 = .ok (.goto (-117), 3) := by decide +kernel
theorem dX4_runOn_133 : decode cX4_runOn 133 = .ok (.return_, 1) := by decide +kernel
abbrev cX4_choose : ByteArray := prog_17_method_38_code
def yX4_choose : MethodName := ⟨RX4, "choose", "(I)V"⟩
theorem dX4_choose_0 : decode cX4_choose 0 = .ok (.aload_n 0, 1) := by decide +kernel
theorem dX4_choose_1 : decode cX4_choose 1 = .ok (.iconst 0, 1) := by decide +kernel
theorem dX4_choose_2 : decode cX4_choose 2 = .ok (.putfield 288, 3) := by decide +kernel
theorem dX4_choose_5 : decode cX4_choose 5 = .ok (.iconst 0, 1) := by decide +kernel
theorem dX4_choose_6 : decode cX4_choose 6 = .ok (.istore_n 2, 1) := by decide +kernel
theorem dX4_choose_7 : decode cX4_choose 7 = .ok (.iload_n 2, 1) := by decide +kernel
theorem dX4_choose_8 : decode cX4_choose 8 = .ok (.aload_n 0, 1) := by decide +kernel
theorem dX4_choose_9 : decode cX4_choose 9 = .ok (.getfield 20, 3) := by decide +kernel
theorem dX4_choose_12 : decode cX4_choose 12 = .ok (.aload_n 0, 1) := by decide +kernel
theorem dX4_choose_13 : decode cX4_choose 13 = .ok (.getfield 17, 3) := by decide +kernel
theorem dX4_choose_16 : decode cX4_choose 16 = .ok (.iaload, 1) := by decide +kernel
theorem dX4_choose_17 : decode cX4_choose 17 = .ok (.if_icmp .ge 145, 3) := by decide +kernel
theorem dX4_choose_20 : decode cX4_choose 20 = .ok (.aload_n 0, 1) := by decide +kernel
theorem dX4_choose_21 : decode cX4_choose 21 = .ok (.iload_n 2, 1) := by decide +kernel
theorem dX4_choose_22 : decode cX4_choose 22 = .ok (.invokevirtual 258, 3) := by decide +kernel
theorem dX4_choose_25 : decode cX4_choose 25 = .ok (.ifCond .ne 131, 3) := by decide +kernel
theorem dX4_choose_28 : decode cX4_choose 28 = .ok (.aload_n 0, 1) := by decide +kernel
theorem dX4_choose_29 : decode cX4_choose 29 = .ok (.aload_n 0, 1) := by decide +kernel
theorem dX4_choose_30 : decode cX4_choose 30 = .ok (.getfield 237, 3) := by decide +kernel
theorem dX4_choose_33 : decode cX4_choose 33 = .ok (.iload_n 2, 1) := by decide +kernel
theorem dX4_choose_34 : decode cX4_choose 34 = .ok (.invokevirtual 277, 3) := by decide +kernel
theorem dX4_choose_37 : decode cX4_choose 37 = .ok (.ifCond .ne 6, 3) := by decide +kernel
theorem dX4_choose_40 : decode cX4_choose 40 = .ok (.goto 116, 3) := by decide +kernel
theorem dX4_choose_43 : decode cX4_choose 43 = .ok (.iconst (-1), 1) := by decide +kernel
theorem dX4_choose_44 : decode cX4_choose 44 = .ok (.istore_n 3, 1) := by decide +kernel
theorem dX4_choose_45 : decode cX4_choose 45 = .ok (.iload_n 2, 1) := by decide +kernel
theorem dX4_choose_46 : decode cX4_choose 46 = .ok (.istore 4, 2) := by decide +kernel
theorem dX4_choose_48 : decode cX4_choose 48 = .ok (.iload 4, 2) := by decide +kernel
theorem dX4_choose_50 : decode cX4_choose 50 = .ok (.ifCond .lt 26, 3) := by decide +kernel
theorem dX4_choose_53 : decode cX4_choose 53 = .ok (.iload_n 3, 1) := by decide +kernel
theorem dX4_choose_54 : decode cX4_choose 54 = .ok (.ifCond .ge 22, 3) := by decide +kernel
theorem dX4_choose_57 : decode cX4_choose 57 = .ok (.aload_n 0, 1) := by decide +kernel
theorem dX4_choose_58 : decode cX4_choose 58 = .ok (.iload 4, 2) := by decide +kernel
theorem dX4_choose_60 : decode cX4_choose 60 = .ok (.iload_n 1, 1) := by decide +kernel
theorem dX4_choose_61 : decode cX4_choose 61 = .ok (.invokevirtual 291, 3) := by decide +kernel
theorem dX4_choose_64 : decode cX4_choose 64 = .ok (.istore_n 3, 1) := by decide +kernel
theorem dX4_choose_65 : decode cX4_choose 65 = .ok (.aload_n 0, 1) := by decide +kernel
theorem dX4_choose_66 : decode cX4_choose 66 = .ok (.iload 4, 2) := by decide +kernel
theorem dX4_choose_68 : decode cX4_choose 68 = .ok (.invokevirtual 264, 3) := by decide +kernel
theorem dX4_choose_71 : decode cX4_choose 71 = .ok (.istore 4, 2) := by decide +kernel
theorem dX4_choose_73 : decode cX4_choose 73 = .ok (.goto (-25), 3) := by decide +kernel
theorem dX4_choose_76 : decode cX4_choose 76 = .ok (.iload_n 3, 1) := by decide +kernel
theorem dX4_choose_77 : decode cX4_choose 77 = .ok (.ifCond .ge 7, 3) := by decide +kernel
theorem dX4_choose_80 : decode cX4_choose 80 = .ok (.iconst 1, 1) := by decide +kernel
theorem dX4_choose_81 : decode cX4_choose 81 = .ok (.goto 4, 3) := by decide +kernel
theorem dX4_choose_84 : decode cX4_choose 84 = .ok (.iconst 0, 1) := by decide +kernel
theorem dX4_choose_85 : decode cX4_choose 85 = .ok (.istore 4, 2) := by decide +kernel
theorem dX4_choose_87 : decode cX4_choose 87 = .ok (.iconst 0, 1) := by decide +kernel
theorem dX4_choose_88 : decode cX4_choose 88 = .ok (.istore 5, 2) := by decide +kernel
theorem dX4_choose_90 : decode cX4_choose 90 = .ok (.iload 5, 2) := by decide +kernel
theorem dX4_choose_92 : decode cX4_choose 92 = .ok (.aload_n 0, 1) := by decide +kernel
theorem dX4_choose_93 : decode cX4_choose 93 = .ok (.getfield 288, 3) := by decide +kernel
theorem dX4_choose_96 : decode cX4_choose 96 = .ok (.if_icmp .ge 32, 3) := by decide +kernel
theorem dX4_choose_99 : decode cX4_choose 99 = .ok (.iload 4, 2) := by decide +kernel
theorem dX4_choose_101 : decode cX4_choose 101 = .ok (.ifCond .ne 14, 3) := by decide +kernel
theorem dX4_choose_104 : decode cX4_choose 104 = .ok (.aload_n 0, 1) := by decide +kernel
theorem dX4_choose_105 : decode cX4_choose 105 = .ok (.getfield 131, 3) := by decide +kernel
theorem dX4_choose_108 : decode cX4_choose 108 = .ok (.iload 5, 2) := by decide +kernel
theorem dX4_choose_110 : decode cX4_choose 110 = .ok (.iaload, 1) := by decide +kernel
theorem dX4_choose_111 : decode cX4_choose 111 = .ok (.iload_n 3, 1) := by decide +kernel
theorem dX4_choose_112 : decode cX4_choose 112 = .ok (.if_icmp .ne 7, 3) := by decide +kernel
theorem dX4_choose_115 : decode cX4_choose 115 = .ok (.iconst 1, 1) := by decide +kernel
theorem dX4_choose_116 : decode cX4_choose 116 = .ok (.goto 4, 3) := by decide +kernel
theorem dX4_choose_119 : decode cX4_choose 119 = .ok (.iconst 0, 1) := by decide +kernel
theorem dX4_choose_120 : decode cX4_choose 120 = .ok (.istore 4, 2) := by decide +kernel
theorem dX4_choose_122 : decode cX4_choose 122 = .ok (.iinc 5 1, 3) := by decide +kernel
theorem dX4_choose_125 : decode cX4_choose 125 = .ok (.goto (-35), 3) := by decide +kernel
theorem dX4_choose_128 : decode cX4_choose 128 = .ok (.iload 4, 2) := by decide +kernel
theorem dX4_choose_130 : decode cX4_choose 130 = .ok (.ifCond .eq 6, 3) := by decide +kernel
theorem dX4_choose_133 : decode cX4_choose 133 = .ok (.goto 23, 3) := by decide +kernel
theorem dX4_choose_136 : decode cX4_choose 136 = .ok (.aload_n 0, 1) := by decide +kernel
theorem dX4_choose_137 : decode cX4_choose 137 = .ok (.getfield 131, 3) := by decide +kernel
theorem dX4_choose_140 : decode cX4_choose 140 = .ok (.aload_n 0, 1) := by decide +kernel
theorem dX4_choose_141 : decode cX4_choose 141 = .ok (.getfield 288, 3) := by decide +kernel
theorem dX4_choose_144 : decode cX4_choose 144 = .ok (.iload_n 3, 1) := by decide +kernel
theorem dX4_choose_145 : decode cX4_choose 145 = .ok (.iastore, 1) := by decide +kernel
theorem dX4_choose_146 : decode cX4_choose 146 = .ok (.aload_n 0, 1) := by decide +kernel
theorem dX4_choose_147 : decode cX4_choose 147 = .ok (.dup, 1) := by decide +kernel
theorem dX4_choose_148 : decode cX4_choose 148 = .ok (.getfield 288, 3) := by decide +kernel
theorem dX4_choose_151 : decode cX4_choose 151 = .ok (.iconst 1, 1) := by decide +kernel
theorem dX4_choose_152 : decode cX4_choose 152 = .ok (.iadd, 1) := by decide +kernel
theorem dX4_choose_153 : decode cX4_choose 153 = .ok (.putfield 288, 3) := by decide +kernel
theorem dX4_choose_156 : decode cX4_choose 156 = .ok (.iinc 2 1, 3) := by decide +kernel
theorem dX4_choose_159 : decode cX4_choose 159 = .ok (.goto (-152), 3) := by decide +kernel
theorem dX4_choose_162 : decode cX4_choose 162 = .ok (.iconst 0, 1) := by decide +kernel
theorem dX4_choose_163 : decode cX4_choose 163 = .ok (.istore_n 2, 1) := by decide +kernel
theorem dX4_choose_164 : decode cX4_choose 164 = .ok (.iload_n 2, 1) := by decide +kernel
theorem dX4_choose_165 : decode cX4_choose 165 = .ok (.aload_n 0, 1) := by decide +kernel
theorem dX4_choose_166 : decode cX4_choose 166 = .ok (.getfield 288, 3) := by decide +kernel
theorem dX4_choose_169 : decode cX4_choose 169 = .ok (.if_icmp .ge 14, 3) := by decide +kernel
theorem dX4_choose_172 : decode cX4_choose 172 = .ok (.aload_n 0, 1) := by decide +kernel
theorem dX4_choose_173 : decode cX4_choose 173 = .ok (.iload_n 2, 1) := by decide +kernel
theorem dX4_choose_174 : decode cX4_choose 174 = .ok (.invokevirtual 294, 3) := by decide +kernel
theorem dX4_choose_177 : decode cX4_choose 177 = .ok (.iinc 2 1, 3) := by decide +kernel
theorem dX4_choose_180 : decode cX4_choose 180 = .ok (.goto (-16), 3) := by decide +kernel
theorem dX4_choose_183 : decode cX4_choose 183 = .ok (.iconst 0, 1) := by decide +kernel
theorem dX4_choose_184 : decode cX4_choose 184 = .ok (.istore_n 2, 1) := by decide +kernel
theorem dX4_choose_185 : decode cX4_choose 185 = .ok (.iload_n 2, 1) := by decide +kernel
theorem dX4_choose_186 : decode cX4_choose 186 = .ok (.aload_n 0, 1) := by decide +kernel
theorem dX4_choose_187 : decode cX4_choose 187 = .ok (.getfield 288, 3) := by decide +kernel
theorem dX4_choose_190 : decode cX4_choose 190 = .ok (.if_icmp .ge 66, 3) := by decide +kernel
theorem dX4_choose_193 : decode cX4_choose 193 = .ok (.aload_n 0, 1) := by decide +kernel
theorem dX4_choose_194 : decode cX4_choose 194 = .ok (.iload_n 2, 1) := by decide +kernel
theorem dX4_choose_195 : decode cX4_choose 195 = .ok (.invokevirtual 297, 3) := by decide +kernel
theorem dX4_choose_198 : decode cX4_choose 198 = .ok (.ifCond .ne 11, 3) := by decide +kernel
theorem dX4_choose_201 : decode cX4_choose 201 = .ok (.aload_n 0, 1) := by decide +kernel
theorem dX4_choose_202 : decode cX4_choose 202 = .ok (.iload_n 2, 1) := by decide +kernel
theorem dX4_choose_203 : decode cX4_choose 203 = .ok (.invokevirtual 300, 3) := by decide +kernel
theorem dX4_choose_206 : decode cX4_choose 206 = .ok (.goto (-21), 3) := by decide +kernel
theorem dX4_choose_209 : decode cX4_choose 209 = .ok (.iload_n 2, 1) := by decide +kernel
theorem dX4_choose_210 : decode cX4_choose 210 = .ok (.iconst 1, 1) := by decide +kernel
theorem dX4_choose_211 : decode cX4_choose 211 = .ok (.isub, 1) := by decide +kernel
theorem dX4_choose_212 : decode cX4_choose 212 = .ok (.istore_n 3, 1) := by decide +kernel
theorem dX4_choose_213 : decode cX4_choose 213 = .ok (.iload_n 3, 1) := by decide +kernel
theorem dX4_choose_214 : decode cX4_choose 214 = .ok (.ifCond .lt 36, 3) := by decide +kernel
theorem dX4_choose_217 : decode cX4_choose 217 = .ok (.aload_n 0, 1) := by decide +kernel
theorem dX4_choose_218 : decode cX4_choose 218 = .ok (.getfield 140, 3) := by decide +kernel
theorem dX4_choose_221 : decode cX4_choose 221 = .ok (.iload_n 3, 1) := by decide +kernel
theorem dX4_choose_222 : decode cX4_choose 222 = .ok (.iaload, 1) := by decide +kernel
theorem dX4_choose_223 : decode cX4_choose 223 = .ok (.aload_n 0, 1) := by decide +kernel
theorem dX4_choose_224 : decode cX4_choose 224 = .ok (.getfield 140, 3) := by decide +kernel
theorem dX4_choose_227 : decode cX4_choose 227 = .ok (.iload_n 2, 1) := by decide +kernel
theorem dX4_choose_228 : decode cX4_choose 228 = .ok (.iaload, 1) := by decide +kernel
theorem dX4_choose_229 : decode cX4_choose 229 = .ok (.iand, 1) := by decide +kernel
theorem dX4_choose_230 : decode cX4_choose 230 = .ok (.ifCond .ne 6, 3) := by decide +kernel
theorem dX4_choose_233 : decode cX4_choose 233 = .ok (.goto 11, 3) := by decide +kernel
theorem dX4_choose_236 : decode cX4_choose 236 = .ok (.aload_n 0, 1) := by decide +kernel
theorem dX4_choose_237 : decode cX4_choose 237 = .ok (.iload_n 3, 1) := by decide +kernel
theorem dX4_choose_238 : decode cX4_choose 238 = .ok (.invokevirtual 300, 3) := by decide +kernel
theorem dX4_choose_241 : decode cX4_choose 241 = .ok (.iinc 2 (-1), 3) := by decide +kernel
theorem dX4_choose_244 : decode cX4_choose 244 = .ok (.iinc 3 (-1), 3) := by decide +kernel
theorem dX4_choose_247 : decode cX4_choose 247 = .ok (.goto (-34), 3) := by decide +kernel
theorem dX4_choose_250 : decode cX4_choose 250 = .ok (.iinc 2 1, 3) := by decide +kernel
theorem dX4_choose_253 : decode cX4_choose 253 = .ok (.goto (-68), 3) := by decide +kernel
theorem dX4_choose_256 : decode cX4_choose 256 = .ok (.return_, 1) := by decide +kernel
abbrev cX4_firstOf : ByteArray := prog_17_method_34_code
def yX4_firstOf : MethodName := ⟨RX4, "firstOf", "(II)I"⟩
theorem dX4_firstOf_0 : decode cX4_firstOf 0 = .ok (.bipush 24, 2) := by decide +kernel
theorem dX4_firstOf_2 : decode cX4_firstOf 2 = .ok (.aload_n 0, 1) := by decide +kernel
theorem dX4_firstOf_3 : decode cX4_firstOf 3 = .ok (.getfield 17, 3) := by decide +kernel
theorem dX4_firstOf_6 : decode cX4_firstOf 6 = .ok (.imul, 1) := by decide +kernel
theorem dX4_firstOf_7 : decode cX4_firstOf 7 = .ok (.istore_n 3, 1) := by decide +kernel
theorem dX4_firstOf_8 : decode cX4_firstOf 8 = .ok (.iload_n 3, 1) := by decide +kernel
theorem dX4_firstOf_9 : decode cX4_firstOf 9 = .ok (.bipush 24, 2) := by decide +kernel
theorem dX4_firstOf_11 : decode cX4_firstOf 11 = .ok (.aload_n 0, 1) := by decide +kernel
theorem dX4_firstOf_12 : decode cX4_firstOf 12 = .ok (.getfield 17, 3) := by decide +kernel
theorem dX4_firstOf_15 : decode cX4_firstOf 15 = .ok (.imul, 1) := by decide +kernel
theorem dX4_firstOf_16 : decode cX4_firstOf 16 = .ok (.aload_n 0, 1) := by decide +kernel
theorem dX4_firstOf_17 : decode cX4_firstOf 17 = .ok (.getfield 24, 3) := by decide +kernel
theorem dX4_firstOf_20 : decode cX4_firstOf 20 = .ok (.aload_n 0, 1) := by decide +kernel
theorem dX4_firstOf_21 : decode cX4_firstOf 21 = .ok (.getfield 17, 3) := by decide +kernel
theorem dX4_firstOf_24 : decode cX4_firstOf 24 = .ok (.iaload, 1) := by decide +kernel
theorem dX4_firstOf_25 : decode cX4_firstOf 25 = .ok (.iadd, 1) := by decide +kernel
theorem dX4_firstOf_26 : decode cX4_firstOf 26 = .ok (.if_icmp .ge 30, 3) := by decide +kernel
theorem dX4_firstOf_29 : decode cX4_firstOf 29 = .ok (.aload_n 0, 1) := by decide +kernel
theorem dX4_firstOf_30 : decode cX4_firstOf 30 = .ok (.getfield 48, 3) := by decide +kernel
theorem dX4_firstOf_33 : decode cX4_firstOf 33 = .ok (.iload_n 3, 1) := by decide +kernel
theorem dX4_firstOf_34 : decode cX4_firstOf 34 = .ok (.iaload, 1) := by decide +kernel
theorem dX4_firstOf_35 : decode cX4_firstOf 35 = .ok (.iload_n 1, 1) := by decide +kernel
theorem dX4_firstOf_36 : decode cX4_firstOf 36 = .ok (.if_icmp .ne 14, 3) := by decide +kernel
theorem dX4_firstOf_39 : decode cX4_firstOf 39 = .ok (.aload_n 0, 1) := by decide +kernel
theorem dX4_firstOf_40 : decode cX4_firstOf 40 = .ok (.iload_n 3, 1) := by decide +kernel
theorem dX4_firstOf_41 : decode cX4_firstOf 41 = .ok (.iload_n 2, 1) := by decide +kernel
theorem dX4_firstOf_42 : decode cX4_firstOf 42 = .ok (.invokevirtual 285, 3) := by decide +kernel
theorem dX4_firstOf_45 : decode cX4_firstOf 45 = .ok (.ifCond .eq 5, 3) := by decide +kernel
theorem dX4_firstOf_48 : decode cX4_firstOf 48 = .ok (.iload_n 3, 1) := by decide +kernel
theorem dX4_firstOf_49 : decode cX4_firstOf 49 = .ok (.ireturn, 1) := by decide +kernel
theorem dX4_firstOf_50 : decode cX4_firstOf 50 = .ok (.iinc 3 1, 3) := by decide +kernel
theorem dX4_firstOf_53 : decode cX4_firstOf 53 = .ok (.goto (-45), 3) := by decide +kernel
theorem dX4_firstOf_56 : decode cX4_firstOf 56 = .ok (.iconst (-1), 1) := by decide +kernel
theorem dX4_firstOf_57 : decode cX4_firstOf 57 = .ok (.ireturn, 1) := by decide +kernel
abbrev cX4_enabled : ByteArray := prog_17_method_33_code
def yX4_enabled : MethodName := ⟨RX4, "enabled", "(II)Z"⟩
theorem dX4_enabled_0 : decode cX4_enabled 0 = .ok (.aload_n 0, 1) := by decide +kernel
theorem dX4_enabled_1 : decode cX4_enabled 1 = .ok (.getfield 51, 3) := by decide +kernel
theorem dX4_enabled_4 : decode cX4_enabled 4 = .ok (.iload_n 1, 1) := by decide +kernel
theorem dX4_enabled_5 : decode cX4_enabled 5 = .ok (.iaload, 1) := by decide +kernel
theorem dX4_enabled_6 : decode cX4_enabled 6 = .ok (.iload_n 2, 1) := by decide +kernel
theorem dX4_enabled_7 : decode cX4_enabled 7 = .ok (.if_icmp .eq 5, 3) := by decide +kernel
theorem dX4_enabled_10 : decode cX4_enabled 10 = .ok (.iconst 0, 1) := by decide +kernel
theorem dX4_enabled_11 : decode cX4_enabled 11 = .ok (.ireturn, 1) := by decide +kernel
theorem dX4_enabled_12 : decode cX4_enabled 12 = .ok (.aload_n 0, 1) := by decide +kernel
theorem dX4_enabled_13 : decode cX4_enabled 13 = .ok (.getfield 54, 3) := by decide +kernel
theorem dX4_enabled_16 : decode cX4_enabled 16 = .ok (.iload_n 1, 1) := by decide +kernel
theorem dX4_enabled_17 : decode cX4_enabled 17 = .ok (.iaload, 1) := by decide +kernel
theorem dX4_enabled_18 : decode cX4_enabled 18 = .ok (.istore_n 3, 1) := by decide +kernel
theorem dX4_enabled_19 : decode cX4_enabled 19 = .ok (.iload_n 3, 1) := by decide +kernel
theorem dX4_enabled_20 : decode cX4_enabled 20 = .ok (.aload_n 0, 1) := by decide +kernel
theorem dX4_enabled_21 : decode cX4_enabled 21 = .ok (.getfield 57, 3) := by decide +kernel
theorem dX4_enabled_24 : decode cX4_enabled 24 = .ok (.iload_n 1, 1) := by decide +kernel
theorem dX4_enabled_25 : decode cX4_enabled 25 = .ok (.iaload, 1) := by decide +kernel
theorem dX4_enabled_26 : decode cX4_enabled 26 = .ok (.if_icmp .ge 19, 3) := by decide +kernel
theorem dX4_enabled_29 : decode cX4_enabled 29 = .ok (.aload_n 0, 1) := by decide +kernel
theorem dX4_enabled_30 : decode cX4_enabled 30 = .ok (.iload_n 3, 1) := by decide +kernel
theorem dX4_enabled_31 : decode cX4_enabled 31 = .ok (.invokevirtual 281, 3) := by decide +kernel
theorem dX4_enabled_34 : decode cX4_enabled 34 = .ok (.ifCond .ne 5, 3) := by decide +kernel
theorem dX4_enabled_37 : decode cX4_enabled 37 = .ok (.iconst 0, 1) := by decide +kernel
theorem dX4_enabled_38 : decode cX4_enabled 38 = .ok (.ireturn, 1) := by decide +kernel
theorem dX4_enabled_39 : decode cX4_enabled 39 = .ok (.iinc 3 1, 3) := by decide +kernel
theorem dX4_enabled_42 : decode cX4_enabled 42 = .ok (.goto (-23), 3) := by decide +kernel
theorem dX4_enabled_45 : decode cX4_enabled 45 = .ok (.iconst 1, 1) := by decide +kernel
theorem dX4_enabled_46 : decode cX4_enabled 46 = .ok (.ireturn, 1) := by decide +kernel
abbrev cX4_holds : ByteArray := prog_17_method_32_code
def yX4_holds : MethodName := ⟨RX4, "holds", "(I)Z"⟩
theorem dX4_holds_0 : decode cX4_holds 0 = .ok (.aload_n 0, 1) := by decide +kernel
theorem dX4_holds_1 : decode cX4_holds 1 = .ok (.getfield 76, 3) := by decide +kernel
theorem dX4_holds_4 : decode cX4_holds 4 = .ok (.iload_n 1, 1) := by decide +kernel
theorem dX4_holds_5 : decode cX4_holds 5 = .ok (.iaload, 1) := by decide +kernel
theorem dX4_holds_6 : decode cX4_holds 6 = .ok (.ifCond .lt 26, 3) := by decide +kernel
theorem dX4_holds_9 : decode cX4_holds 9 = .ok (.aload_n 0, 1) := by decide +kernel
theorem dX4_holds_10 : decode cX4_holds 10 = .ok (.aload_n 0, 1) := by decide +kernel
theorem dX4_holds_11 : decode cX4_holds 11 = .ok (.getfield 237, 3) := by decide +kernel
theorem dX4_holds_14 : decode cX4_holds 14 = .ok (.aload_n 0, 1) := by decide +kernel
theorem dX4_holds_15 : decode cX4_holds 15 = .ok (.getfield 63, 3) := by decide +kernel
theorem dX4_holds_18 : decode cX4_holds 18 = .ok (.aload_n 0, 1) := by decide +kernel
theorem dX4_holds_19 : decode cX4_holds 19 = .ok (.getfield 76, 3) := by decide +kernel
theorem dX4_holds_22 : decode cX4_holds 22 = .ok (.iload_n 1, 1) := by decide +kernel
theorem dX4_holds_23 : decode cX4_holds 23 = .ok (.iaload, 1) := by decide +kernel
theorem dX4_holds_24 : decode cX4_holds 24 = .ok (.iaload, 1) := by decide +kernel
theorem dX4_holds_25 : decode cX4_holds 25 = .ok (.invokevirtual 277, 3) := by decide +kernel
theorem dX4_holds_28 : decode cX4_holds 28 = .ok (.istore_n 2, 1) := by decide +kernel
theorem dX4_holds_29 : decode cX4_holds 29 = .ok (.goto 129, 3) := by decide +kernel
theorem dX4_holds_32 : decode cX4_holds 32 = .ok (.aload_n 0, 1) := by decide +kernel
theorem dX4_holds_33 : decode cX4_holds 33 = .ok (.getfield 82, 3) := by decide +kernel
theorem dX4_holds_36 : decode cX4_holds 36 = .ok (.iload_n 1, 1) := by decide +kernel
theorem dX4_holds_37 : decode cX4_holds 37 = .ok (.iaload, 1) := by decide +kernel
theorem dX4_holds_38 : decode cX4_holds 38 = .ok (.ifCond .lt 17, 3) := by decide +kernel
theorem dX4_holds_41 : decode cX4_holds 41 = .ok (.aload_n 0, 1) := by decide +kernel
theorem dX4_holds_42 : decode cX4_holds 42 = .ok (.getfield 110, 3) := by decide +kernel
theorem dX4_holds_45 : decode cX4_holds 45 = .ok (.aload_n 0, 1) := by decide +kernel
theorem dX4_holds_46 : decode cX4_holds 46 = .ok (.getfield 82, 3) := by decide +kernel
theorem dX4_holds_49 : decode cX4_holds 49 = .ok (.iload_n 1, 1) := by decide +kernel
theorem dX4_holds_50 : decode cX4_holds 50 = .ok (.iaload, 1) := by decide +kernel
theorem dX4_holds_51 : decode cX4_holds 51 = .ok (.daload, 1) := by decide +kernel
theorem dX4_holds_52 : decode cX4_holds 52 = .ok (.goto 9, 3) := by decide +kernel
theorem dX4_holds_55 : decode cX4_holds 55 = .ok (.aload_n 0, 1) := by decide +kernel
theorem dX4_holds_56 : decode cX4_holds 56 = .ok (.getfield 88, 3) := by decide +kernel
theorem dX4_holds_59 : decode cX4_holds 59 = .ok (.iload_n 1, 1) := by decide +kernel
theorem dX4_holds_60 : decode cX4_holds 60 = .ok (.daload, 1) := by decide +kernel
theorem dX4_holds_61 : decode cX4_holds 61 = .ok (.dstore_n 3, 1) := by decide +kernel
theorem dX4_holds_62 : decode cX4_holds 62 = .ok (.aload_n 0, 1) := by decide +kernel
theorem dX4_holds_63 : decode cX4_holds 63 = .ok (.getfield 85, 3) := by decide +kernel
theorem dX4_holds_66 : decode cX4_holds 66 = .ok (.iload_n 1, 1) := by decide +kernel
theorem dX4_holds_67 : decode cX4_holds 67 = .ok (.iaload, 1) := by decide +kernel
theorem dX4_holds_68 : decode cX4_holds 68 = .ok (.ifCond .lt 17, 3) := by decide +kernel
theorem dX4_holds_71 : decode cX4_holds 71 = .ok (.aload_n 0, 1) := by decide +kernel
theorem dX4_holds_72 : decode cX4_holds 72 = .ok (.getfield 110, 3) := by decide +kernel
theorem dX4_holds_75 : decode cX4_holds 75 = .ok (.aload_n 0, 1) := by decide +kernel
theorem dX4_holds_76 : decode cX4_holds 76 = .ok (.getfield 85, 3) := by decide +kernel
theorem dX4_holds_79 : decode cX4_holds 79 = .ok (.iload_n 1, 1) := by decide +kernel
theorem dX4_holds_80 : decode cX4_holds 80 = .ok (.iaload, 1) := by decide +kernel
theorem dX4_holds_81 : decode cX4_holds 81 = .ok (.daload, 1) := by decide +kernel
theorem dX4_holds_82 : decode cX4_holds 82 = .ok (.goto 9, 3) := by decide +kernel
theorem dX4_holds_85 : decode cX4_holds 85 = .ok (.aload_n 0, 1) := by decide +kernel
theorem dX4_holds_86 : decode cX4_holds 86 = .ok (.getfield 92, 3) := by decide +kernel
theorem dX4_holds_89 : decode cX4_holds 89 = .ok (.iload_n 1, 1) := by decide +kernel
theorem dX4_holds_90 : decode cX4_holds 90 = .ok (.daload, 1) := by decide +kernel
theorem dX4_holds_91 : decode cX4_holds 91 = .ok (.dstore 5, 2) := by decide +kernel
theorem dX4_holds_93 : decode cX4_holds 93 = .ok (.aload_n 0, 1) := by decide +kernel
theorem dX4_holds_94 : decode cX4_holds 94 = .ok (.getfield 79, 3) := by decide +kernel
theorem dX4_holds_97 : decode cX4_holds 97 = .ok (.iload_n 1, 1) := by decide +kernel
theorem dX4_holds_98 : decode cX4_holds 98 = .ok (.iaload, 1) := by decide +kernel
theorem dX4_holds_99 : decode cX4_holds 99 = .ok (.bipush 60, 2) := by decide +kernel
theorem dX4_holds_101 : decode cX4_holds 101 = .ok (.if_icmp .ne 18, 3) := by decide +kernel
theorem dX4_holds_104 : decode cX4_holds 104 = .ok (.dload_n 3, 1) := by decide +kernel
theorem dX4_holds_105 : decode cX4_holds 105 = .ok (.dload 5, 2) := by decide +kernel
theorem dX4_holds_107 : decode cX4_holds 107 = .ok (.dcmp .g, 1) := by decide +kernel
theorem dX4_holds_108 : decode cX4_holds 108 = .ok (.ifCond .ge 7, 3) := by decide +kernel
theorem dX4_holds_111 : decode cX4_holds 111 = .ok (.iconst 1, 1) := by decide +kernel
theorem dX4_holds_112 : decode cX4_holds 112 = .ok (.goto 45, 3) := by decide +kernel
theorem dX4_holds_115 : decode cX4_holds 115 = .ok (.iconst 0, 1) := by decide +kernel
theorem dX4_holds_116 : decode cX4_holds 116 = .ok (.goto 41, 3) := by decide +kernel
theorem dX4_holds_119 : decode cX4_holds 119 = .ok (.aload_n 0, 1) := by decide +kernel
theorem dX4_holds_120 : decode cX4_holds 120 = .ok (.getfield 79, 3) := by decide +kernel
theorem dX4_holds_123 : decode cX4_holds 123 = .ok (.iload_n 1, 1) := by decide +kernel
theorem dX4_holds_124 : decode cX4_holds 124 = .ok (.iaload, 1) := by decide +kernel
theorem dX4_holds_125 : decode cX4_holds 125 = .ok (.bipush 61, 2) := by decide +kernel
theorem dX4_holds_127 : decode cX4_holds 127 = .ok (.if_icmp .ne 18, 3) := by decide +kernel
theorem dX4_holds_130 : decode cX4_holds 130 = .ok (.dload_n 3, 1) := by decide +kernel
theorem dX4_holds_131 : decode cX4_holds 131 = .ok (.dload 5, 2) := by decide +kernel
theorem dX4_holds_133 : decode cX4_holds 133 = .ok (.dcmp .l, 1) := by decide +kernel
theorem dX4_holds_134 : decode cX4_holds 134 = .ok (.ifCond .ne 7, 3) := by decide +kernel
theorem dX4_holds_137 : decode cX4_holds 137 = .ok (.iconst 1, 1) := by decide +kernel
theorem dX4_holds_138 : decode cX4_holds 138 = .ok (.goto 19, 3) := by decide +kernel
theorem dX4_holds_141 : decode cX4_holds 141 = .ok (.iconst 0, 1) := by decide +kernel
theorem dX4_holds_142 : decode cX4_holds 142 = .ok (.goto 15, 3) := by decide +kernel
theorem dX4_holds_145 : decode cX4_holds 145 = .ok (.dload_n 3, 1) := by decide +kernel
theorem dX4_holds_146 : decode cX4_holds 146 = .ok (.dload 5, 2) := by decide +kernel
theorem dX4_holds_148 : decode cX4_holds 148 = .ok (.dcmp .l, 1) := by decide +kernel
theorem dX4_holds_149 : decode cX4_holds 149 = .ok (.ifCond .le 7, 3) := by decide +kernel
theorem dX4_holds_152 : decode cX4_holds 152 = .ok (.iconst 1, 1) := by decide +kernel
theorem dX4_holds_153 : decode cX4_holds 153 = .ok (.goto 4, 3) := by decide +kernel
theorem dX4_holds_156 : decode cX4_holds 156 = .ok (.iconst 0, 1) := by decide +kernel
theorem dX4_holds_157 : decode cX4_holds 157 = .ok (.istore_n 2, 1) := by decide +kernel
theorem dX4_holds_158 : decode cX4_holds 158 = .ok (.iload_n 2, 1) := by decide +kernel
theorem dX4_holds_159 : decode cX4_holds 159 = .ok (.aload_n 0, 1) := by decide +kernel
theorem dX4_holds_160 : decode cX4_holds 160 = .ok (.getfield 72, 3) := by decide +kernel
theorem dX4_holds_163 : decode cX4_holds 163 = .ok (.iload_n 1, 1) := by decide +kernel
theorem dX4_holds_164 : decode cX4_holds 164 = .ok (.baload, 1) := by decide +kernel
theorem dX4_holds_165 : decode cX4_holds 165 = .ok (.if_icmp .eq 7, 3) := by decide +kernel
theorem dX4_holds_168 : decode cX4_holds 168 = .ok (.iconst 1, 1) := by decide +kernel
theorem dX4_holds_169 : decode cX4_holds 169 = .ok (.goto 4, 3) := by decide +kernel
theorem dX4_holds_172 : decode cX4_holds 172 = .ok (.iconst 0, 1) := by decide +kernel
theorem dX4_holds_173 : decode cX4_holds 173 = .ok (.ireturn, 1) := by decide +kernel
abbrev cX4_aim : ByteArray := prog_17_method_35_code
def yX4_aim : MethodName := ⟨RX4, "aim", "(I)V"⟩
theorem dX4_aim_0 : decode cX4_aim 0 = .ok (.aload_n 0, 1) := by decide +kernel
theorem dX4_aim_1 : decode cX4_aim 1 = .ok (.getfield 131, 3) := by decide +kernel
theorem dX4_aim_4 : decode cX4_aim 4 = .ok (.iload_n 1, 1) := by decide +kernel
theorem dX4_aim_5 : decode cX4_aim 5 = .ok (.iaload, 1) := by decide +kernel
theorem dX4_aim_6 : decode cX4_aim 6 = .ok (.istore_n 2, 1) := by decide +kernel
theorem dX4_aim_7 : decode cX4_aim 7 = .ok (.aload_n 0, 1) := by decide +kernel
theorem dX4_aim_8 : decode cX4_aim 8 = .ok (.getfield 134, 3) := by decide +kernel
theorem dX4_aim_11 : decode cX4_aim 11 = .ok (.iload_n 1, 1) := by decide +kernel
theorem dX4_aim_12 : decode cX4_aim 12 = .ok (.iconst 0, 1) := by decide +kernel
theorem dX4_aim_13 : decode cX4_aim 13 = .ok (.iastore, 1) := by decide +kernel
theorem dX4_aim_14 : decode cX4_aim 14 = .ok (.aload_n 0, 1) := by decide +kernel
theorem dX4_aim_15 : decode cX4_aim 15 = .ok (.getfield 137, 3) := by decide +kernel
