set_option maxRecDepth 100000
theorem dX4_readTransition_130 : decode cX4_readTransition 130 = .ok (.iadd, 1) := by decide +kernel
theorem dX4_readTransition_131 : decode cX4_readTransition 131 = .ok (.iastore, 1) := by decide +kernel
theorem dX4_readTransition_132 : decode cX4_readTransition 132 = .ok (.aload_n 0, 1) := by decide +kernel
theorem dX4_readTransition_133 : decode cX4_readTransition 133 = .ok (.bipush 63, 2) := by decide +kernel
theorem dX4_readTransition_135 : decode cX4_readTransition 135 = .ok (.invokevirtual 163, 3) := by decide +kernel
theorem dX4_readTransition_138 : decode cX4_readTransition 138 = .ok (.ifCond .eq 16, 3) := by decide +kernel
theorem dX4_readTransition_141 : decode cX4_readTransition 141 = .ok (.aload_n 0, 1) := by decide +kernel
theorem dX4_readTransition_142 : decode cX4_readTransition 142 = .ok (.invokevirtual 201, 3) := by decide +kernel
theorem dX4_readTransition_145 : decode cX4_readTransition 145 = .ok (.aload_n 0, 1) := by decide +kernel
theorem dX4_readTransition_146 : decode cX4_readTransition 146 = .ok (.bipush 38, 2) := by decide +kernel
theorem dX4_readTransition_148 : decode cX4_readTransition 148 = .ok (.invokevirtual 163, 3) := by decide +kernel
theorem dX4_readTransition_151 : decode cX4_readTransition 151 = .ok (.ifCond .ne (-10), 3) := by decide +kernel
theorem dX4_readTransition_154 : decode cX4_readTransition 154 = .ok (.aload_n 0, 1) := by decide +kernel
theorem dX4_readTransition_155 : decode cX4_readTransition 155 = .ok (.getfield 57, 3) := by decide +kernel
theorem dX4_readTransition_158 : decode cX4_readTransition 158 = .ok (.iload_n 2, 1) := by decide +kernel
theorem dX4_readTransition_159 : decode cX4_readTransition 159 = .ok (.bipush 64, 2) := by decide +kernel
theorem dX4_readTransition_161 : decode cX4_readTransition 161 = .ok (.aload_n 0, 1) := by decide +kernel
theorem dX4_readTransition_162 : decode cX4_readTransition 162 = .ok (.getfield 187, 3) := by decide +kernel
theorem dX4_readTransition_165 : decode cX4_readTransition 165 = .ok (.imul, 1) := by decide +kernel
theorem dX4_readTransition_166 : decode cX4_readTransition 166 = .ok (.aload_n 0, 1) := by decide +kernel
theorem dX4_readTransition_167 : decode cX4_readTransition 167 = .ok (.getfield 27, 3) := by decide +kernel
theorem dX4_readTransition_170 : decode cX4_readTransition 170 = .ok (.aload_n 0, 1) := by decide +kernel
theorem dX4_readTransition_171 : decode cX4_readTransition 171 = .ok (.getfield 187, 3) := by decide +kernel
theorem dX4_readTransition_174 : decode cX4_readTransition 174 = .ok (.iaload, 1) := by decide +kernel
theorem dX4_readTransition_175 : decode cX4_readTransition 175 = .ok (.iadd, 1) := by decide +kernel
theorem dX4_readTransition_176 : decode cX4_readTransition 176 = .ok (.iastore, 1) := by decide +kernel
theorem dX4_readTransition_177 : decode cX4_readTransition 177 = .ok (.aload_n 0, 1) := by decide +kernel
theorem dX4_readTransition_178 : decode cX4_readTransition 178 = .ok (.bipush 62, 2) := by decide +kernel
theorem dX4_readTransition_180 : decode cX4_readTransition 180 = .ok (.invokevirtual 204, 3) := by decide +kernel
theorem dX4_readTransition_183 : decode cX4_readTransition 183 = .ok (.aload_n 0, 1) := by decide +kernel
theorem dX4_readTransition_184 : decode cX4_readTransition 184 = .ok (.getfield 60, 3) := by decide +kernel
theorem dX4_readTransition_187 : decode cX4_readTransition 187 = .ok (.iload_n 2, 1) := by decide +kernel
theorem dX4_readTransition_188 : decode cX4_readTransition 188 = .ok (.iconst (-1), 1) := by decide +kernel
theorem dX4_readTransition_189 : decode cX4_readTransition 189 = .ok (.iastore, 1) := by decide +kernel
theorem dX4_readTransition_190 : decode cX4_readTransition 190 = .ok (.aload_n 0, 1) := by decide +kernel
theorem dX4_readTransition_191 : decode cX4_readTransition 191 = .ok (.bipush 33, 2) := by decide +kernel
theorem dX4_readTransition_193 : decode cX4_readTransition 193 = .ok (.invokevirtual 163, 3) := by decide +kernel
theorem dX4_readTransition_196 : decode cX4_readTransition 196 = .ok (.ifCond .ne 14, 3) := by decide +kernel
theorem dX4_readTransition_199 : decode cX4_readTransition 199 = .ok (.aload_n 0, 1) := by decide +kernel
theorem dX4_readTransition_200 : decode cX4_readTransition 200 = .ok (.getfield 60, 3) := by decide +kernel
theorem dX4_readTransition_203 : decode cX4_readTransition 203 = .ok (.iload_n 2, 1) := by decide +kernel
theorem dX4_readTransition_204 : decode cX4_readTransition 204 = .ok (.aload_n 0, 1) := by decide +kernel
theorem dX4_readTransition_205 : decode cX4_readTransition 205 = .ok (.iconst 1, 1) := by decide +kernel
theorem dX4_readTransition_206 : decode cX4_readTransition 206 = .ok (.invokevirtual 190, 3) := by decide +kernel
theorem dX4_readTransition_209 : decode cX4_readTransition 209 = .ok (.iastore, 1) := by decide +kernel
theorem dX4_readTransition_210 : decode cX4_readTransition 210 = .ok (.aload_n 0, 1) := by decide +kernel
theorem dX4_readTransition_211 : decode cX4_readTransition 211 = .ok (.bipush 47, 2) := by decide +kernel
theorem dX4_readTransition_213 : decode cX4_readTransition 213 = .ok (.invokevirtual 163, 3) := by decide +kernel
theorem dX4_readTransition_216 : decode cX4_readTransition 216 = .ok (.ifCond .eq 8, 3) := by decide +kernel
theorem dX4_readTransition_219 : decode cX4_readTransition 219 = .ok (.aload_n 0, 1) := by decide +kernel
theorem dX4_readTransition_220 : decode cX4_readTransition 220 = .ok (.iload_n 3, 1) := by decide +kernel
theorem dX4_readTransition_221 : decode cX4_readTransition 221 = .ok (.invokevirtual 208, 3) := by decide +kernel
theorem dX4_readTransition_224 : decode cX4_readTransition 224 = .ok (.return_, 1) := by decide +kernel
abbrev cX4_readTest : ByteArray := prog_17_method_11_code
def yX4_readTest : MethodName := ⟨RX4, "readTest", "()V"⟩
theorem dX4_readTest_0 : decode cX4_readTest 0 = .ok (.bipush 64, 2) := by decide +kernel
theorem dX4_readTest_2 : decode cX4_readTest 2 = .ok (.aload_n 0, 1) := by decide +kernel
theorem dX4_readTest_3 : decode cX4_readTest 3 = .ok (.getfield 187, 3) := by decide +kernel
theorem dX4_readTest_6 : decode cX4_readTest 6 = .ok (.imul, 1) := by decide +kernel
theorem dX4_readTest_7 : decode cX4_readTest 7 = .ok (.aload_n 0, 1) := by decide +kernel
theorem dX4_readTest_8 : decode cX4_readTest 8 = .ok (.getfield 27, 3) := by decide +kernel
theorem dX4_readTest_11 : decode cX4_readTest 11 = .ok (.aload_n 0, 1) := by decide +kernel
theorem dX4_readTest_12 : decode cX4_readTest 12 = .ok (.getfield 187, 3) := by decide +kernel
theorem dX4_readTest_15 : decode cX4_readTest 15 = .ok (.iaload, 1) := by decide +kernel
theorem dX4_readTest_16 : decode cX4_readTest 16 = .ok (.iadd, 1) := by decide +kernel
theorem dX4_readTest_17 : decode cX4_readTest 17 = .ok (.istore_n 1, 1) := by decide +kernel
theorem dX4_readTest_18 : decode cX4_readTest 18 = .ok (.aload_n 0, 1) := by decide +kernel
theorem dX4_readTest_19 : decode cX4_readTest 19 = .ok (.getfield 72, 3) := by decide +kernel
theorem dX4_readTest_22 : decode cX4_readTest 22 = .ok (.iload_n 1, 1) := by decide +kernel
theorem dX4_readTest_23 : decode cX4_readTest 23 = .ok (.aload_n 0, 1) := by decide +kernel
theorem dX4_readTest_24 : decode cX4_readTest 24 = .ok (.bipush 33, 2) := by decide +kernel
theorem dX4_readTest_26 : decode cX4_readTest 26 = .ok (.invokevirtual 163, 3) := by decide +kernel
theorem dX4_readTest_29 : decode cX4_readTest 29 = .ok (.bastore, 1) := by decide +kernel
theorem dX4_readTest_30 : decode cX4_readTest 30 = .ok (.aload_n 0, 1) := by decide +kernel
theorem dX4_readTest_31 : decode cX4_readTest 31 = .ok (.getfield 76, 3) := by decide +kernel
theorem dX4_readTest_34 : decode cX4_readTest 34 = .ok (.iload_n 1, 1) := by decide +kernel
theorem dX4_readTest_35 : decode cX4_readTest 35 = .ok (.iconst (-1), 1) := by decide +kernel
theorem dX4_readTest_36 : decode cX4_readTest 36 = .ok (.iastore, 1) := by decide +kernel
theorem dX4_readTest_37 : decode cX4_readTest 37 = .ok (.aload_n 0, 1) := by decide +kernel
theorem dX4_readTest_38 : decode cX4_readTest 38 = .ok (.bipush 35, 2) := by decide +kernel
theorem dX4_readTest_40 : decode cX4_readTest 40 = .ok (.invokevirtual 163, 3) := by decide +kernel
theorem dX4_readTest_43 : decode cX4_readTest 43 = .ok (.ifCond .eq 17, 3) := by decide +kernel
theorem dX4_readTest_46 : decode cX4_readTest 46 = .ok (.aload_n 0, 1) := by decide +kernel
theorem dX4_readTest_47 : decode cX4_readTest 47 = .ok (.getfield 76, 3) := by decide +kernel
theorem dX4_readTest_50 : decode cX4_readTest 50 = .ok (.iload_n 1, 1) := by decide +kernel
theorem dX4_readTest_51 : decode cX4_readTest 51 = .ok (.aload_n 0, 1) := by decide +kernel
theorem dX4_readTest_52 : decode cX4_readTest 52 = .ok (.iconst 0, 1) := by decide +kernel
theorem dX4_readTest_53 : decode cX4_readTest 53 = .ok (.invokevirtual 190, 3) := by decide +kernel
theorem dX4_readTest_56 : decode cX4_readTest 56 = .ok (.iastore, 1) := by decide +kernel
theorem dX4_readTest_57 : decode cX4_readTest 57 = .ok (.goto 97, 3) := by decide +kernel
theorem dX4_readTest_60 : decode cX4_readTest 60 = .ok (.aload_n 0, 1) := by decide +kernel
theorem dX4_readTest_61 : decode cX4_readTest 61 = .ok (.invokevirtual 194, 3) := by decide +kernel
theorem dX4_readTest_64 : decode cX4_readTest 64 = .ok (.aload_n 0, 1) := by decide +kernel
theorem dX4_readTest_65 : decode cX4_readTest 65 = .ok (.getfield 82, 3) := by decide +kernel
theorem dX4_readTest_68 : decode cX4_readTest 68 = .ok (.iload_n 1, 1) := by decide +kernel
theorem dX4_readTest_69 : decode cX4_readTest 69 = .ok (.aload_n 0, 1) := by decide +kernel
theorem dX4_readTest_70 : decode cX4_readTest 70 = .ok (.getfield 171, 3) := by decide +kernel
theorem dX4_readTest_73 : decode cX4_readTest 73 = .ok (.iastore, 1) := by decide +kernel
theorem dX4_readTest_74 : decode cX4_readTest 74 = .ok (.aload_n 0, 1) := by decide +kernel
theorem dX4_readTest_75 : decode cX4_readTest 75 = .ok (.getfield 88, 3) := by decide +kernel
theorem dX4_readTest_78 : decode cX4_readTest 78 = .ok (.iload_n 1, 1) := by decide +kernel
theorem dX4_readTest_79 : decode cX4_readTest 79 = .ok (.aload_n 0, 1) := by decide +kernel
theorem dX4_readTest_80 : decode cX4_readTest 80 = .ok (.getfield 174, 3) := by decide +kernel
theorem dX4_readTest_83 : decode cX4_readTest 83 = .ok (.dastore, 1) := by decide +kernel
theorem dX4_readTest_84 : decode cX4_readTest 84 = .ok (.aload_n 0, 1) := by decide +kernel
theorem dX4_readTest_85 : decode cX4_readTest 85 = .ok (.aload_n 0, 1) := by decide +kernel
theorem dX4_readTest_86 : decode cX4_readTest 86 = .ok (.invokevirtual 159, 3) := by decide +kernel
theorem dX4_readTest_89 : decode cX4_readTest 89 = .ok (.bipush 60, 2) := by decide +kernel
theorem dX4_readTest_91 : decode cX4_readTest 91 = .ok (.if_icmp .eq 21, 3) := by decide +kernel
theorem dX4_readTest_94 : decode cX4_readTest 94 = .ok (.aload_n 0, 1) := by decide +kernel
theorem dX4_readTest_95 : decode cX4_readTest 95 = .ok (.invokevirtual 159, 3) := by decide +kernel
theorem dX4_readTest_98 : decode cX4_readTest 98 = .ok (.bipush 61, 2) := by decide +kernel
theorem dX4_readTest_100 : decode cX4_readTest 100 = .ok (.if_icmp .eq 12, 3) := by decide +kernel
theorem dX4_readTest_103 : decode cX4_readTest 103 = .ok (.aload_n 0, 1) := by decide +kernel
theorem dX4_readTest_104 : decode cX4_readTest 104 = .ok (.invokevirtual 159, 3) := by decide +kernel
theorem dX4_readTest_107 : decode cX4_readTest 107 = .ok (.bipush 62, 2) := by decide +kernel
theorem dX4_readTest_109 : decode cX4_readTest 109 = .ok (.if_icmp .ne 7, 3) := by decide +kernel
theorem dX4_readTest_112 : decode cX4_readTest 112 = .ok (.iconst 1, 1) := by decide +kernel
theorem dX4_readTest_113 : decode cX4_readTest 113 = .ok (.goto 4, 3) := by decide +kernel
theorem dX4_readTest_116 : decode cX4_readTest 116 = .ok (.iconst 0, 1) := by decide +kernel
theorem dX4_readTest_117 : decode cX4_readTest 117 = .ok (.invokevirtual 167, 3) := by decide +kernel
theorem dX4_readTest_120 : decode cX4_readTest 120 = .ok (.aload_n 0, 1) := by decide +kernel
theorem dX4_readTest_121 : decode cX4_readTest 121 = .ok (.getfield 79, 3) := by decide +kernel
theorem dX4_readTest_124 : decode cX4_readTest 124 = .ok (.iload_n 1, 1) := by decide +kernel
theorem dX4_readTest_125 : decode cX4_readTest 125 = .ok (.aload_n 0, 1) := by decide +kernel
theorem dX4_readTest_126 : decode cX4_readTest 126 = .ok (.invokevirtual 182, 3) := by decide +kernel
theorem dX4_readTest_129 : decode cX4_readTest 129 = .ok (.iastore, 1) := by decide +kernel
theorem dX4_readTest_130 : decode cX4_readTest 130 = .ok (.aload_n 0, 1) := by decide +kernel
theorem dX4_readTest_131 : decode cX4_readTest 131 = .ok (.invokevirtual 194, 3) := by decide +kernel
theorem dX4_readTest_134 : decode cX4_readTest 134 = .ok (.aload_n 0, 1) := by decide +kernel
theorem dX4_readTest_135 : decode cX4_readTest 135 = .ok (.getfield 85, 3) := by decide +kernel
theorem dX4_readTest_138 : decode cX4_readTest 138 = .ok (.iload_n 1, 1) := by decide +kernel
theorem dX4_readTest_139 : decode cX4_readTest 139 = .ok (.aload_n 0, 1) := by decide +kernel
theorem dX4_readTest_140 : decode cX4_readTest 140 = .ok (.getfield 171, 3) := by decide +kernel
theorem dX4_readTest_143 : decode cX4_readTest 143 = .ok (.iastore, 1) := by decide +kernel
theorem dX4_readTest_144 : decode cX4_readTest 144 = .ok (.aload_n 0, 1) := by decide +kernel
theorem dX4_readTest_145 : decode cX4_readTest 145 = .ok (.getfield 92, 3) := by decide +kernel
theorem dX4_readTest_148 : decode cX4_readTest 148 = .ok (.iload_n 1, 1) := by decide +kernel
theorem dX4_readTest_149 : decode cX4_readTest 149 = .ok (.aload_n 0, 1) := by decide +kernel
theorem dX4_readTest_150 : decode cX4_readTest 150 = .ok (.getfield 174, 3) := by decide +kernel
theorem dX4_readTest_153 : decode cX4_readTest 153 = .ok (.dastore, 1) := by decide +kernel
theorem dX4_readTest_154 : decode cX4_readTest 154 = .ok (.aload_n 0, 1) := by decide +kernel
theorem dX4_readTest_155 : decode cX4_readTest 155 = .ok (.getfield 27, 3) := by decide +kernel
theorem dX4_readTest_158 : decode cX4_readTest 158 = .ok (.aload_n 0, 1) := by decide +kernel
theorem dX4_readTest_159 : decode cX4_readTest 159 = .ok (.getfield 187, 3) := by decide +kernel
theorem dX4_readTest_162 : decode cX4_readTest 162 = .ok (.dup2, 1) := by decide +kernel
theorem dX4_readTest_163 : decode cX4_readTest 163 = .ok (.iaload, 1) := by decide +kernel
theorem dX4_readTest_164 : decode cX4_readTest 164 = .ok (.iconst 1, 1) := by decide +kernel
theorem dX4_readTest_165 : decode cX4_readTest 165 = .ok (.iadd, 1) := by decide +kernel
theorem dX4_readTest_166 : decode cX4_readTest 166 = .ok (.iastore, 1) := by decide +kernel
theorem dX4_readTest_167 : decode cX4_readTest 167 = .ok (.return_, 1) := by decide +kernel
abbrev cX4_readName : ByteArray := prog_17_method_10_code
def yX4_readName : MethodName := ⟨RX4, "readName", "(Z)I"⟩
theorem dX4_readName_0 : decode cX4_readName 0 = .ok (.aload_n 0, 1) := by decide +kernel
theorem dX4_readName_1 : decode cX4_readName 1 = .ok (.aload_n 0, 1) := by decide +kernel
theorem dX4_readName_2 : decode cX4_readName 2 = .ok (.bipush 97, 2) := by decide +kernel
theorem dX4_readName_4 : decode cX4_readName 4 = .ok (.bipush 112, 2) := by decide +kernel
theorem dX4_readName_6 : decode cX4_readName 6 = .ok (.invokevirtual 178, 3) := by decide +kernel
theorem dX4_readName_9 : decode cX4_readName 9 = .ok (.invokevirtual 167, 3) := by decide +kernel
theorem dX4_readName_12 : decode cX4_readName 12 = .ok (.bipush 64, 2) := by decide +kernel
theorem dX4_readName_14 : decode cX4_readName 14 = .ok (.aload_n 0, 1) := by decide +kernel
theorem dX4_readName_15 : decode cX4_readName 15 = .ok (.getfield 187, 3) := by decide +kernel
theorem dX4_readName_18 : decode cX4_readName 18 = .ok (.imul, 1) := by decide +kernel
theorem dX4_readName_19 : decode cX4_readName 19 = .ok (.aload_n 0, 1) := by decide +kernel
theorem dX4_readName_20 : decode cX4_readName 20 = .ok (.getfield 33, 3) := by decide +kernel
theorem dX4_readName_23 : decode cX4_readName 23 = .ok (.aload_n 0, 1) := by decide +kernel
theorem dX4_readName_24 : decode cX4_readName 24 = .ok (.getfield 187, 3) := by decide +kernel
theorem dX4_readName_27 : decode cX4_readName 27 = .ok (.iaload, 1) := by decide +kernel
theorem dX4_readName_28 : decode cX4_readName 28 = .ok (.iadd, 1) := by decide +kernel
theorem dX4_readName_29 : decode cX4_readName 29 = .ok (.istore_n 2, 1) := by decide +kernel
theorem dX4_readName_30 : decode cX4_readName 30 = .ok (.aload_n 0, 1) := by decide +kernel
theorem dX4_readName_31 : decode cX4_readName 31 = .ok (.getfield 149, 3) := by decide +kernel
theorem dX4_readName_34 : decode cX4_readName 34 = .ok (.ifCond .eq 5, 3) := by decide +kernel
theorem dX4_readName_37 : decode cX4_readName 37 = .ok (.iconst 0, 1) := by decide +kernel
theorem dX4_readName_38 : decode cX4_readName 38 = .ok (.ireturn, 1) := by decide +kernel
theorem dX4_readName_39 : decode cX4_readName 39 = .ok (.aload_n 0, 1) := by decide +kernel
theorem dX4_readName_40 : decode cX4_readName 40 = .ok (.getfield 66, 3) := by decide +kernel
theorem dX4_readName_43 : decode cX4_readName 43 = .ok (.iload_n 2, 1) := by decide +kernel
theorem dX4_readName_44 : decode cX4_readName 44 = .ok (.aload_n 0, 1) := by decide +kernel
theorem dX4_readName_45 : decode cX4_readName 45 = .ok (.getfield 153, 3) := by decide +kernel
theorem dX4_readName_48 : decode cX4_readName 48 = .ok (.iastore, 1) := by decide +kernel
theorem dX4_readName_49 : decode cX4_readName 49 = .ok (.aload_n 0, 1) := by decide +kernel
theorem dX4_readName_50 : decode cX4_readName 50 = .ok (.getfield 63, 3) := by decide +kernel
theorem dX4_readName_53 : decode cX4_readName 53 = .ok (.iload_n 2, 1) := by decide +kernel
theorem dX4_readName_54 : decode cX4_readName 54 = .ok (.aload_n 0, 1) := by decide +kernel
theorem dX4_readName_55 : decode cX4_readName 55 = .ok (.invokevirtual 182, 3) := by decide +kernel
theorem dX4_readName_58 : decode cX4_readName 58 = .ok (.bipush 97, 2) := by decide +kernel
theorem dX4_readName_60 : decode cX4_readName 60 = .ok (.isub, 1) := by decide +kernel
theorem dX4_readName_61 : decode cX4_readName 61 = .ok (.iastore, 1) := by decide +kernel
theorem dX4_readName_62 : decode cX4_readName 62 = .ok (.aload_n 0, 1) := by decide +kernel
theorem dX4_readName_63 : decode cX4_readName 63 = .ok (.getfield 69, 3) := by decide +kernel
theorem dX4_readName_66 : decode cX4_readName 66 = .ok (.iload_n 2, 1) := by decide +kernel
theorem dX4_readName_67 : decode cX4_readName 67 = .ok (.iconst 0, 1) := by decide +kernel
theorem dX4_readName_68 : decode cX4_readName 68 = .ok (.iastore, 1) := by decide +kernel
theorem dX4_readName_69 : decode cX4_readName 69 = .ok (.iconst 0, 1) := by decide +kernel
theorem dX4_readName_70 : decode cX4_readName 70 = .ok (.istore_n 3, 1) := by decide +kernel
theorem dX4_readName_71 : decode cX4_readName 71 = .ok (.iload_n 3, 1) := by decide +kernel
theorem dX4_readName_72 : decode cX4_readName 72 = .ok (.iconst 2, 1) := by decide +kernel
theorem dX4_readName_73 : decode cX4_readName 73 = .ok (.if_icmp .ge 32, 3) := by decide +kernel
theorem dX4_readName_76 : decode cX4_readName 76 = .ok (.iload_n 1, 1) := by decide +kernel
theorem dX4_readName_77 : decode cX4_readName 77 = .ok (.ifCond .eq 28, 3) := by decide +kernel
theorem dX4_readName_80 : decode cX4_readName 80 = .ok (.aload_n 0, 1) := by decide +kernel
theorem dX4_readName_81 : decode cX4_readName 81 = .ok (.bipush 42, 2) := by decide +kernel
theorem dX4_readName_83 : decode cX4_readName 83 = .ok (.invokevirtual 163, 3) := by decide +kernel
theorem dX4_readName_86 : decode cX4_readName 86 = .ok (.ifCond .eq 19, 3) := by decide +kernel
theorem dX4_readName_89 : decode cX4_readName 89 = .ok (.aload_n 0, 1) := by decide +kernel
theorem dX4_readName_90 : decode cX4_readName 90 = .ok (.getfield 69, 3) := by decide +kernel
theorem dX4_readName_93 : decode cX4_readName 93 = .ok (.iload_n 2, 1) := by decide +kernel
theorem dX4_readName_94 : decode cX4_readName 94 = .ok (.dup2, 1) := by decide +kernel
theorem dX4_readName_95 : decode cX4_readName 95 = .ok (.iaload, 1) := by decide +kernel
theorem dX4_readName_96 : decode cX4_readName 96 = .ok (.iconst 1, 1) := by decide +kernel
theorem dX4_readName_97 : decode cX4_readName 97 = .ok (.iadd, 1) := by decide +kernel
theorem dX4_readName_98 : decode cX4_readName 98 = .ok (.iastore, 1) := by decide +kernel
theorem dX4_readName_99 : decode cX4_readName 99 = .ok (.iinc 3 1, 3) := by decide +kernel
theorem dX4_readName_102 : decode cX4_readName 102 = .ok (.goto (-31), 3) := by decide +kernel
theorem dX4_readName_105 : decode cX4_readName 105 = .ok (.aload_n 0, 1) := by decide +kernel
theorem dX4_readName_106 : decode cX4_readName 106 = .ok (.getfield 33, 3) := by decide +kernel
theorem dX4_readName_109 : decode cX4_readName 109 = .ok (.aload_n 0, 1) := by decide +kernel
theorem dX4_readName_110 : decode cX4_readName 110 = .ok (.getfield 187, 3) := by decide +kernel
theorem dX4_readName_113 : decode cX4_readName 113 = .ok (.dup2, 1) := by decide +kernel
theorem dX4_readName_114 : decode cX4_readName 114 = .ok (.iaload, 1) := by decide +kernel
theorem dX4_readName_115 : decode cX4_readName 115 = .ok (.iconst 1, 1) := by decide +kernel
theorem dX4_readName_116 : decode cX4_readName 116 = .ok (.iadd, 1) := by decide +kernel
theorem dX4_readName_117 : decode cX4_readName 117 = .ok (.iastore, 1) := by decide +kernel
theorem dX4_readName_118 : decode cX4_readName 118 = .ok (.iload_n 2, 1) := by decide +kernel
theorem dX4_readName_119 : decode cX4_readName 119 = .ok (.ireturn, 1) := by decide +kernel
abbrev cX4_take : ByteArray := prog_17_method_6_code
def yX4_take : MethodName := ⟨RX4, "take", "(C)V"⟩
theorem dX4_take_0 : decode cX4_take 0 = .ok (.aload_n 0, 1) := by decide +kernel
theorem dX4_take_1 : decode cX4_take 1 = .ok (.aload_n 0, 1) := by decide +kernel
theorem dX4_take_2 : decode cX4_take 2 = .ok (.iload_n 1, 1) := by decide +kernel
theorem dX4_take_3 : decode cX4_take 3 = .ok (.invokevirtual 163, 3) := by decide +kernel
theorem dX4_take_6 : decode cX4_take 6 = .ok (.invokevirtual 167, 3) := by decide +kernel
theorem dX4_take_9 : decode cX4_take 9 = .ok (.return_, 1) := by decide +kernel
abbrev cX4_innerOf : ByteArray := prog_17_method_17_code
def yX4_innerOf : MethodName := ⟨RX4, "innerOf", "(I)I"⟩
theorem dX4_innerOf_0 : decode cX4_innerOf 0 = .ok (.iconst 0, 1) := by decide +kernel
theorem dX4_innerOf_1 : decode cX4_innerOf 1 = .ok (.istore_n 2, 1) := by decide +kernel
theorem dX4_innerOf_2 : decode cX4_innerOf 2 = .ok (.iconst 0, 1) := by decide +kernel
theorem dX4_innerOf_3 : decode cX4_innerOf 3 = .ok (.istore_n 3, 1) := by decide +kernel
theorem dX4_innerOf_4 : decode cX4_innerOf 4 = .ok (.iload_n 3, 1) := by decide +kernel
theorem dX4_innerOf_5 : decode cX4_innerOf 5 = .ok (.aload_n 0, 1) := by decide +kernel
theorem dX4_innerOf_6 : decode cX4_innerOf 6 = .ok (.getfield 20, 3) := by decide +kernel
theorem dX4_innerOf_9 : decode cX4_innerOf 9 = .ok (.aload_n 0, 1) := by decide +kernel
theorem dX4_innerOf_10 : decode cX4_innerOf 10 = .ok (.getfield 187, 3) := by decide +kernel
theorem dX4_innerOf_13 : decode cX4_innerOf 13 = .ok (.iaload, 1) := by decide +kernel
theorem dX4_innerOf_14 : decode cX4_innerOf 14 = .ok (.if_icmp .ge 30, 3) := by decide +kernel
theorem dX4_innerOf_17 : decode cX4_innerOf 17 = .ok (.aload_n 0, 1) := by decide +kernel
theorem dX4_innerOf_18 : decode cX4_innerOf 18 = .ok (.getfield 39, 3) := by decide +kernel
theorem dX4_innerOf_21 : decode cX4_innerOf 21 = .ok (.bipush 16, 2) := by decide +kernel
theorem dX4_innerOf_23 : decode cX4_innerOf 23 = .ok (.aload_n 0, 1) := by decide +kernel
theorem dX4_innerOf_24 : decode cX4_innerOf 24 = .ok (.getfield 187, 3) := by decide +kernel
theorem dX4_innerOf_27 : decode cX4_innerOf 27 = .ok (.imul, 1) := by decide +kernel
theorem dX4_innerOf_28 : decode cX4_innerOf 28 = .ok (.iload_n 3, 1) := by decide +kernel
theorem dX4_innerOf_29 : decode cX4_innerOf 29 = .ok (.iadd, 1) := by decide +kernel
theorem dX4_innerOf_30 : decode cX4_innerOf 30 = .ok (.iaload, 1) := by decide +kernel
theorem dX4_innerOf_31 : decode cX4_innerOf 31 = .ok (.iload_n 1, 1) := by decide +kernel
theorem dX4_innerOf_32 : decode cX4_innerOf 32 = .ok (.if_icmp .ne 6, 3) := by decide +kernel
theorem dX4_innerOf_35 : decode cX4_innerOf 35 = .ok (.iinc 2 1, 3) := by decide +kernel
theorem dX4_innerOf_38 : decode cX4_innerOf 38 = .ok (.iinc 3 1, 3) := by decide +kernel
theorem dX4_innerOf_41 : decode cX4_innerOf 41 = .ok (.goto (-37), 3) := by decide +kernel
theorem dX4_innerOf_44 : decode cX4_innerOf 44 = .ok (.iload_n 2, 1) := by decide +kernel
theorem dX4_innerOf_45 : decode cX4_innerOf 45 = .ok (.ireturn, 1) := by decide +kernel
abbrev cX4_findNames : ByteArray := prog_17_method_19_code
def yX4_findNames : MethodName := ⟨RX4, "findNames", "()V"⟩
theorem dX4_findNames_0 : decode cX4_findNames 0 = .ok (.bipush 64, 2) := by decide +kernel
theorem dX4_findNames_2 : decode cX4_findNames 2 = .ok (.aload_n 0, 1) := by decide +kernel
theorem dX4_findNames_3 : decode cX4_findNames 3 = .ok (.getfield 187, 3) := by decide +kernel
theorem dX4_findNames_6 : decode cX4_findNames 6 = .ok (.imul, 1) := by decide +kernel
theorem dX4_findNames_7 : decode cX4_findNames 7 = .ok (.istore_n 1, 1) := by decide +kernel
theorem dX4_findNames_8 : decode cX4_findNames 8 = .ok (.iload_n 1, 1) := by decide +kernel
theorem dX4_findNames_9 : decode cX4_findNames 9 = .ok (.bipush 64, 2) := by decide +kernel
theorem dX4_findNames_11 : decode cX4_findNames 11 = .ok (.aload_n 0, 1) := by decide +kernel
theorem dX4_findNames_12 : decode cX4_findNames 12 = .ok (.getfield 187, 3) := by decide +kernel
theorem dX4_findNames_15 : decode cX4_findNames 15 = .ok (.imul, 1) := by decide +kernel
theorem dX4_findNames_16 : decode cX4_findNames 16 = .ok (.aload_n 0, 1) := by decide +kernel
theorem dX4_findNames_17 : decode cX4_findNames 17 = .ok (.getfield 33, 3) := by decide +kernel
theorem dX4_findNames_20 : decode cX4_findNames 20 = .ok (.aload_n 0, 1) := by decide +kernel
theorem dX4_findNames_21 : decode cX4_findNames 21 = .ok (.getfield 187, 3) := by decide +kernel
theorem dX4_findNames_24 : decode cX4_findNames 24 = .ok (.iaload, 1) := by decide +kernel
theorem dX4_findNames_25 : decode cX4_findNames 25 = .ok (.iadd, 1) := by decide +kernel
theorem dX4_findNames_26 : decode cX4_findNames 26 = .ok (.if_icmp .ge 88, 3) := by decide +kernel
theorem dX4_findNames_29 : decode cX4_findNames 29 = .ok (.aload_n 0, 1) := by decide +kernel
theorem dX4_findNames_30 : decode cX4_findNames 30 = .ok (.getfield 149, 3) := by decide +kernel
theorem dX4_findNames_33 : decode cX4_findNames 33 = .ok (.ifCond .ne 81, 3) := by decide +kernel
theorem dX4_findNames_36 : decode cX4_findNames 36 = .ok (.aload_n 0, 1) := by decide +kernel
theorem dX4_findNames_37 : decode cX4_findNames 37 = .ok (.getfield 45, 3) := by decide +kernel
theorem dX4_findNames_40 : decode cX4_findNames 40 = .ok (.bipush 16, 2) := by decide +kernel
theorem dX4_findNames_42 : decode cX4_findNames 42 = .ok (.aload_n 0, 1) := by decide +kernel
theorem dX4_findNames_43 : decode cX4_findNames 43 = .ok (.getfield 187, 3) := by decide +kernel
theorem dX4_findNames_46 : decode cX4_findNames 46 = .ok (.imul, 1) := by decide +kernel
theorem dX4_findNames_47 : decode cX4_findNames 47 = .ok (.aload_n 0, 1) := by decide +kernel
theorem dX4_findNames_48 : decode cX4_findNames 48 = .ok (.getfield 63, 3) := by decide +kernel
theorem dX4_findNames_51 : decode cX4_findNames 51 = .ok (.iload_n 1, 1) := by decide +kernel
theorem dX4_findNames_52 : decode cX4_findNames 52 = .ok (.iaload, 1) := by decide +kernel
theorem dX4_findNames_53 : decode cX4_findNames 53 = .ok (.iadd, 1) := by decide +kernel
theorem dX4_findNames_54 : decode cX4_findNames 54 = .ok (.iaload, 1) := by decide +kernel
theorem dX4_findNames_55 : decode cX4_findNames 55 = .ok (.istore_n 2, 1) := by decide +kernel
theorem dX4_findNames_56 : decode cX4_findNames 56 = .ok (.iload_n 2, 1) := by decide +kernel
theorem dX4_findNames_57 : decode cX4_findNames 57 = .ok (.ifCond .lt 29, 3) := by decide +kernel
theorem dX4_findNames_60 : decode cX4_findNames 60 = .ok (.aload_n 0, 1) := by decide +kernel
theorem dX4_findNames_61 : decode cX4_findNames 61 = .ok (.getfield 69, 3) := by decide +kernel
theorem dX4_findNames_64 : decode cX4_findNames 64 = .ok (.iload_n 1, 1) := by decide +kernel
theorem dX4_findNames_65 : decode cX4_findNames 65 = .ok (.iaload, 1) := by decide +kernel
theorem dX4_findNames_66 : decode cX4_findNames 66 = .ok (.ifCond .le 35, 3) := by decide +kernel
theorem dX4_findNames_69 : decode cX4_findNames 69 = .ok (.aload_n 0, 1) := by decide +kernel
theorem dX4_findNames_70 : decode cX4_findNames 70 = .ok (.getfield 36, 3) := by decide +kernel
theorem dX4_findNames_73 : decode cX4_findNames 73 = .ok (.bipush 16, 2) := by decide +kernel
theorem dX4_findNames_75 : decode cX4_findNames 75 = .ok (.aload_n 0, 1) := by decide +kernel
theorem dX4_findNames_76 : decode cX4_findNames 76 = .ok (.getfield 187, 3) := by decide +kernel
theorem dX4_findNames_79 : decode cX4_findNames 79 = .ok (.imul, 1) := by decide +kernel
theorem dX4_findNames_80 : decode cX4_findNames 80 = .ok (.iload_n 2, 1) := by decide +kernel
theorem dX4_findNames_81 : decode cX4_findNames 81 = .ok (.iadd, 1) := by decide +kernel
theorem dX4_findNames_82 : decode cX4_findNames 82 = .ok (.iaload, 1) := by decide +kernel
theorem dX4_findNames_83 : decode cX4_findNames 83 = .ok (.ifCond .ne 18, 3) := by decide +kernel
theorem dX4_findNames_86 : decode cX4_findNames 86 = .ok (.aload_n 0, 1) := by decide +kernel
theorem dX4_findNames_87 : decode cX4_findNames 87 = .ok (.iconst 1, 1) := by decide +kernel
theorem dX4_findNames_88 : decode cX4_findNames 88 = .ok (.putfield 149, 3) := by decide +kernel
theorem dX4_findNames_91 : decode cX4_findNames 91 = .ok (.aload_n 0, 1) := by decide +kernel
theorem dX4_findNames_92 : decode cX4_findNames 92 = .ok (.aload_n 0, 1) := by decide +kernel
theorem dX4_findNames_93 : decode cX4_findNames 93 = .ok (.getfield 66, 3) := by decide +kernel
theorem dX4_findNames_96 : decode cX4_findNames 96 = .ok (.iload_n 1, 1) := by decide +kernel
theorem dX4_findNames_97 : decode cX4_findNames 97 = .ok (.iaload, 1) := by decide +kernel
theorem dX4_findNames_98 : decode cX4_findNames 98 = .ok (.putfield 153, 3) := by decide +kernel
theorem dX4_findNames_101 : decode cX4_findNames 101 = .ok (.aload_n 0, 1) := by decide +kernel
theorem dX4_findNames_102 : decode cX4_findNames 102 = .ok (.getfield 63, 3) := by decide +kernel
theorem dX4_findNames_105 : decode cX4_findNames 105 = .ok (.iload_n 1, 1) := by decide +kernel
theorem dX4_findNames_106 : decode cX4_findNames 106 = .ok (.iload_n 2, 1) := by decide +kernel
theorem dX4_findNames_107 : decode cX4_findNames 107 = .ok (.iastore, 1) := by decide +kernel
theorem dX4_findNames_108 : decode cX4_findNames 108 = .ok (.iinc 1 1, 3) := by decide +kernel
theorem dX4_findNames_111 : decode cX4_findNames 111 = .ok (.goto (-103), 3) := by decide +kernel
theorem dX4_findNames_114 : decode cX4_findNames 114 = .ok (.return_, 1) := by decide +kernel
abbrev cX4_forget : ByteArray := prog_17_method_22_code
def yX4_forget : MethodName := ⟨RX4, "forget", "()V"⟩
theorem dX4_forget_0 : decode cX4_forget 0 = .ok (.iconst 0, 1) := by decide +kernel
theorem dX4_forget_1 : decode cX4_forget 1 = .ok (.istore_n 1, 1) := by decide +kernel
theorem dX4_forget_2 : decode cX4_forget 2 = .ok (.iload_n 1, 1) := by decide +kernel
theorem dX4_forget_3 : decode cX4_forget 3 = .ok (.bipush 6, 2) := by decide +kernel
theorem dX4_forget_5 : decode cX4_forget 5 = .ok (.if_icmp .ge 16, 3) := by decide +kernel
theorem dX4_forget_8 : decode cX4_forget 8 = .ok (.aload_n 0, 1) := by decide +kernel
theorem dX4_forget_9 : decode cX4_forget 9 = .ok (.getfield 110, 3) := by decide +kernel
theorem dX4_forget_12 : decode cX4_forget 12 = .ok (.iload_n 1, 1) := by decide +kernel
theorem dX4_forget_13 : decode cX4_forget 13 = .ok (.dconst 0, 1) := by decide +kernel
theorem dX4_forget_14 : decode cX4_forget 14 = .ok (.dastore, 1) := by decide +kernel
theorem dX4_forget_15 : decode cX4_forget 15 = .ok (.iinc 1 1, 3) := by decide +kernel
theorem dX4_forget_18 : decode cX4_forget 18 = .ok (.goto (-16), 3) := by decide +kernel
theorem dX4_forget_21 : decode cX4_forget 21 = .ok (.iconst 0, 1) := by decide +kernel
theorem dX4_forget_22 : decode cX4_forget 22 = .ok (.istore_n 1, 1) := by decide +kernel
theorem dX4_forget_23 : decode cX4_forget 23 = .ok (.iload_n 1, 1) := by decide +kernel
theorem dX4_forget_24 : decode cX4_forget 24 = .ok (.bipush 16, 2) := by decide +kernel
theorem dX4_forget_26 : decode cX4_forget 26 = .ok (.if_icmp .ge 23, 3) := by decide +kernel
theorem dX4_forget_29 : decode cX4_forget 29 = .ok (.aload_n 0, 1) := by decide +kernel
theorem dX4_forget_30 : decode cX4_forget 30 = .ok (.getfield 113, 3) := by decide +kernel
theorem dX4_forget_33 : decode cX4_forget 33 = .ok (.iload_n 1, 1) := by decide +kernel
theorem dX4_forget_34 : decode cX4_forget 34 = .ok (.iconst 0, 1) := by decide +kernel
theorem dX4_forget_35 : decode cX4_forget 35 = .ok (.iastore, 1) := by decide +kernel
theorem dX4_forget_36 : decode cX4_forget 36 = .ok (.aload_n 0, 1) := by decide +kernel
theorem dX4_forget_37 : decode cX4_forget 37 = .ok (.getfield 116, 3) := by decide +kernel
theorem dX4_forget_40 : decode cX4_forget 40 = .ok (.iload_n 1, 1) := by decide +kernel
theorem dX4_forget_41 : decode cX4_forget 41 = .ok (.iconst 0, 1) := by decide +kernel
theorem dX4_forget_42 : decode cX4_forget 42 = .ok (.iastore, 1) := by decide +kernel
theorem dX4_forget_43 : decode cX4_forget 43 = .ok (.iinc 1 1, 3) := by decide +kernel
theorem dX4_forget_46 : decode cX4_forget 46 = .ok (.goto (-23), 3) := by decide +kernel
theorem dX4_forget_49 : decode cX4_forget 49 = .ok (.aload_n 0, 1) := by decide +kernel
theorem dX4_forget_50 : decode cX4_forget 50 = .ok (.iconst 0, 1) := by decide +kernel
theorem dX4_forget_51 : decode cX4_forget 51 = .ok (.putfield 246, 3) := by decide +kernel
theorem dX4_forget_54 : decode cX4_forget 54 = .ok (.aload_n 0, 1) := by decide +kernel
theorem dX4_forget_55 : decode cX4_forget 55 = .ok (.iconst 0, 1) := by decide +kernel
theorem dX4_forget_56 : decode cX4_forget 56 = .ok (.putfield 249, 3) := by decide +kernel
theorem dX4_forget_59 : decode cX4_forget 59 = .ok (.aload_n 0, 1) := by decide +kernel
theorem dX4_forget_60 : decode cX4_forget 60 = .ok (.iconst 0, 1) := by decide +kernel
theorem dX4_forget_61 : decode cX4_forget 61 = .ok (.putfield 252, 3) := by decide +kernel
theorem dX4_forget_64 : decode cX4_forget 64 = .ok (.return_, 1) := by decide +kernel
abbrev cX4_place : ByteArray := prog_17_method_23_code
def yX4_place : MethodName := ⟨RX4, "place", "()I"⟩
theorem dX4_place_0 : decode cX4_place 0 = .ok (.aload_n 0, 1) := by decide +kernel
theorem dX4_place_1 : decode cX4_place 1 = .ok (.iconst 0, 1) := by decide +kernel
theorem dX4_place_2 : decode cX4_place 2 = .ok (.putfield 146, 3) := by decide +kernel
theorem dX4_place_5 : decode cX4_place 5 = .ok (.aload_n 0, 1) := by decide +kernel
theorem dX4_place_6 : decode cX4_place 6 = .ok (.getfield 13, 3) := by decide +kernel
theorem dX4_place_9 : decode cX4_place 9 = .ok (.ireturn, 1) := by decide +kernel
abbrev cX4_start : ByteArray := prog_17_method_47_code
def yX4_start : MethodName := ⟨RX4, "start", "()I"⟩
theorem dX4_start_0 : decode cX4_start 0 = .ok (.aload_n 0, 1) := by decide +kernel
theorem dX4_start_1 : decode cX4_start 1 = .ok (.aload_n 0, 1) := by decide +kernel
theorem dX4_start_2 : decode cX4_start 2 = .ok (.getfield 17, 3) := by decide +kernel
theorem dX4_start_5 : decode cX4_start 5 = .ok (.ifCond .ge 7, 3) := by decide +kernel
theorem dX4_start_8 : decode cX4_start 8 = .ok (.iconst 1, 1) := by decide +kernel
theorem dX4_start_9 : decode cX4_start 9 = .ok (.goto 4, 3) := by decide +kernel
theorem dX4_start_12 : decode cX4_start 12 = .ok (.iconst 0, 1) := by decide +kernel
theorem dX4_start_13 : decode cX4_start 13 = .ok (.putfield 146, 3) := by decide +kernel
theorem dX4_start_16 : decode cX4_start 16 = .ok (.aload_n 0, 1) := by decide +kernel
theorem dX4_start_17 : decode cX4_start 17 = .ok (.getfield 17, 3) := by decide +kernel
theorem dX4_start_20 : decode cX4_start 20 = .ok (.ifCond .ge 5, 3) := by decide +kernel
theorem dX4_start_23 : decode cX4_start 23 = .ok (.iconst 0, 1) := by decide +kernel
theorem dX4_start_24 : decode cX4_start 24 = .ok (.ireturn, 1) := by decide +kernel
theorem dX4_start_25 : decode cX4_start 25 = .ok (.aload_n 0, 1) := by decide +kernel
theorem dX4_start_26 : decode cX4_start 26 = .ok (.invokevirtual 243, 3) := by decide +kernel
theorem dX4_start_29 : decode cX4_start 29 = .ok (.aload_n 0, 1) := by decide +kernel
theorem dX4_start_30 : decode cX4_start 30 = .ok (.iconst 1, 1) := by decide +kernel
theorem dX4_start_31 : decode cX4_start 31 = .ok (.putfield 234, 3) := by decide +kernel
theorem dX4_start_34 : decode cX4_start 34 = .ok (.aload_n 0, 1) := by decide +kernel
theorem dX4_start_35 : decode cX4_start 35 = .ok (.iconst 0, 1) := by decide +kernel
theorem dX4_start_36 : decode cX4_start 36 = .ok (.putfield 237, 3) := by decide +kernel
theorem dX4_start_39 : decode cX4_start 39 = .ok (.aload_n 0, 1) := by decide +kernel
theorem dX4_start_40 : decode cX4_start 40 = .ok (.invokevirtual 334, 3) := by decide +kernel
theorem dX4_start_43 : decode cX4_start 43 = .ok (.aload_n 0, 1) := by decide +kernel
theorem dX4_start_44 : decode cX4_start 44 = .ok (.iconst 0, 1) := by decide +kernel
theorem dX4_start_45 : decode cX4_start 45 = .ok (.putfield 255, 3) := by decide +kernel
theorem dX4_start_48 : decode cX4_start 48 = .ok (.aload_n 0, 1) := by decide +kernel
theorem dX4_start_49 : decode cX4_start 49 = .ok (.iconst 0, 1) := by decide +kernel
theorem dX4_start_50 : decode cX4_start 50 = .ok (.invokevirtual 267, 3) := by decide +kernel
theorem dX4_start_53 : decode cX4_start 53 = .ok (.aload_n 0, 1) := by decide +kernel
theorem dX4_start_54 : decode cX4_start 54 = .ok (.aload_n 0, 1) := by decide +kernel
theorem dX4_start_55 : decode cX4_start 55 = .ok (.getfield 255, 3) := by decide +kernel
theorem dX4_start_58 : decode cX4_start 58 = .ok (.invokevirtual 322, 3) := by decide +kernel
theorem dX4_start_61 : decode cX4_start 61 = .ok (.aload_n 0, 1) := by decide +kernel
theorem dX4_start_62 : decode cX4_start 62 = .ok (.invokevirtual 331, 3) := by decide +kernel
theorem dX4_start_65 : decode cX4_start 65 = .ok (.aload_n 0, 1) := by decide +kernel
theorem dX4_start_66 : decode cX4_start 66 = .ok (.iconst 2, 1) := by decide +kernel
theorem dX4_start_67 : decode cX4_start 67 = .ok (.invokevirtual 337, 3) := by decide +kernel
theorem dX4_start_70 : decode cX4_start 70 = .ok (.ireturn, 1) := by decide +kernel
abbrev cX4_open : ByteArray := prog_17_method_45_code
def yX4_open : MethodName := ⟨RX4, "open", "()V"⟩
theorem dX4_open_0 : decode cX4_open 0 = .ok (.aload_n 0, 1) := by decide +kernel
theorem dX4_open_1 : decode cX4_open 1 = .ok (.iconst 0, 1) := by decide +kernel
theorem dX4_open_2 : decode cX4_open 2 = .ok (.putfield 309, 3) := by decide +kernel
theorem dX4_open_5 : decode cX4_open 5 = .ok (.aload_n 0, 1) := by decide +kernel
theorem dX4_open_6 : decode cX4_open 6 = .ok (.iconst 0, 1) := by decide +kernel
theorem dX4_open_7 : decode cX4_open 7 = .ok (.putfield 240, 3) := by decide +kernel
theorem dX4_open_10 : decode cX4_open 10 = .ok (.aload_n 0, 1) := by decide +kernel
theorem dX4_open_11 : decode cX4_open 11 = .ok (.iconst 0, 1) := by decide +kernel
theorem dX4_open_12 : decode cX4_open 12 = .ok (.putfield 312, 3) := by decide +kernel
theorem dX4_open_15 : decode cX4_open 15 = .ok (.return_, 1) := by decide +kernel
abbrev cX4_down : ByteArray := prog_17_method_28_code
def yX4_down : MethodName := ⟨RX4, "down", "(I)V"⟩
theorem dX4_down_0 : decode cX4_down 0 = .ok (.iconst 1, 1) := by decide +kernel
theorem dX4_down_1 : decode cX4_down 1 = .ok (.istore_n 2, 1) := by decide +kernel
theorem dX4_down_2 : decode cX4_down 2 = .ok (.aload_n 0, 1) := by decide +kernel
theorem dX4_down_3 : decode cX4_down 3 = .ok (.getfield 143, 3) := by decide +kernel
theorem dX4_down_6 : decode cX4_down 6 = .ok (.iconst 0, 1) := by decide +kernel
theorem dX4_down_7 : decode cX4_down 7 = .ok (.iload_n 1, 1) := by decide +kernel
theorem dX4_down_8 : decode cX4_down 8 = .ok (.iastore, 1) := by decide +kernel
theorem dX4_down_9 : decode cX4_down 9 = .ok (.iload_n 2, 1) := by decide +kernel
theorem dX4_down_10 : decode cX4_down 10 = .ok (.ifCond .le 149, 3) := by decide +kernel
theorem dX4_down_13 : decode cX4_down 13 = .ok (.iinc 2 (-1), 3) := by decide +kernel
theorem dX4_down_16 : decode cX4_down 16 = .ok (.aload_n 0, 1) := by decide +kernel
theorem dX4_down_17 : decode cX4_down 17 = .ok (.getfield 143, 3) := by decide +kernel
theorem dX4_down_20 : decode cX4_down 20 = .ok (.iload_n 2, 1) := by decide +kernel
theorem dX4_down_21 : decode cX4_down 21 = .ok (.iaload, 1) := by decide +kernel
theorem dX4_down_22 : decode cX4_down 22 = .ok (.istore_n 3, 1) := by decide +kernel
theorem dX4_down_23 : decode cX4_down 23 = .ok (.aload_n 0, 1) := by decide +kernel
theorem dX4_down_24 : decode cX4_down 24 = .ok (.dup, 1) := by decide +kernel
theorem dX4_down_25 : decode cX4_down 25 = .ok (.getfield 255, 3) := by decide +kernel
theorem dX4_down_28 : decode cX4_down 28 = .ok (.iconst 1, 1) := by decide +kernel
theorem dX4_down_29 : decode cX4_down 29 = .ok (.iload_n 3, 1) := by decide +kernel
theorem dX4_down_30 : decode cX4_down 30 = .ok (.ishl, 1) := by decide +kernel
theorem dX4_down_31 : decode cX4_down 31 = .ok (.ior, 1) := by decide +kernel
theorem dX4_down_32 : decode cX4_down 32 = .ok (.putfield 255, 3) := by decide +kernel
theorem dX4_down_35 : decode cX4_down 35 = .ok (.aload_n 0, 1) := by decide +kernel
theorem dX4_down_36 : decode cX4_down 36 = .ok (.iload_n 3, 1) := by decide +kernel
theorem dX4_down_37 : decode cX4_down 37 = .ok (.invokevirtual 258, 3) := by decide +kernel
theorem dX4_down_40 : decode cX4_down 40 = .ok (.ifCond .eq (-31), 3) := by decide +kernel
theorem dX4_down_43 : decode cX4_down 43 = .ok (.aload_n 0, 1) := by decide +kernel
theorem dX4_down_44 : decode cX4_down 44 = .ok (.iload_n 3, 1) := by decide +kernel
theorem dX4_down_45 : decode cX4_down 45 = .ok (.invokevirtual 258, 3) := by decide +kernel
theorem dX4_down_48 : decode cX4_down 48 = .ok (.iconst 1, 1) := by decide +kernel
theorem dX4_down_49 : decode cX4_down 49 = .ok (.if_icmp .ne 19, 3) := by decide +kernel
theorem dX4_down_52 : decode cX4_down 52 = .ok (.aload_n 0, 1) := by decide +kernel
theorem dX4_down_53 : decode cX4_down 53 = .ok (.getfield 255, 3) := by decide +kernel
theorem dX4_down_56 : decode cX4_down 56 = .ok (.aload_n 0, 1) := by decide +kernel
theorem dX4_down_57 : decode cX4_down 57 = .ok (.iload_n 3, 1) := by decide +kernel
theorem dX4_down_58 : decode cX4_down 58 = .ok (.invokevirtual 261, 3) := by decide +kernel
theorem dX4_down_61 : decode cX4_down 61 = .ok (.iand, 1) := by decide +kernel
theorem dX4_down_62 : decode cX4_down 62 = .ok (.ifCond .eq 6, 3) := by decide +kernel
theorem dX4_down_65 : decode cX4_down 65 = .ok (.goto (-56), 3) := by decide +kernel
theorem dX4_down_68 : decode cX4_down 68 = .ok (.iconst 1, 1) := by decide +kernel
theorem dX4_down_69 : decode cX4_down 69 = .ok (.istore 4, 2) := by decide +kernel
theorem dX4_down_71 : decode cX4_down 71 = .ok (.iload_n 3, 1) := by decide +kernel
theorem dX4_down_72 : decode cX4_down 72 = .ok (.iconst 1, 1) := by decide +kernel
theorem dX4_down_73 : decode cX4_down 73 = .ok (.iadd, 1) := by decide +kernel
theorem dX4_down_74 : decode cX4_down 74 = .ok (.istore 5, 2) := by decide +kernel
theorem dX4_down_76 : decode cX4_down 76 = .ok (.iload 5, 2) := by decide +kernel
theorem dX4_down_78 : decode cX4_down 78 = .ok (.aload_n 0, 1) := by decide +kernel
theorem dX4_down_79 : decode cX4_down 79 = .ok (.getfield 20, 3) := by decide +kernel
theorem dX4_down_82 : decode cX4_down 82 = .ok (.aload_n 0, 1) := by decide +kernel
theorem dX4_down_83 : decode cX4_down 83 = .ok (.getfield 17, 3) := by decide +kernel
theorem dX4_down_86 : decode cX4_down 86 = .ok (.iaload, 1) := by decide +kernel
theorem dX4_down_87 : decode cX4_down 87 = .ok (.if_icmp .ge 69, 3) := by decide +kernel
theorem dX4_down_90 : decode cX4_down 90 = .ok (.aload_n 0, 1) := by decide +kernel
theorem dX4_down_91 : decode cX4_down 91 = .ok (.iload 5, 2) := by decide +kernel
theorem dX4_down_93 : decode cX4_down 93 = .ok (.invokevirtual 264, 3) := by decide +kernel
theorem dX4_down_96 : decode cX4_down 96 = .ok (.iload_n 3, 1) := by decide +kernel
theorem dX4_down_97 : decode cX4_down 97 = .ok (.if_icmp .ne 53, 3) := by decide +kernel
theorem dX4_down_100 : decode cX4_down 100 = .ok (.aload_n 0, 1) := by decide +kernel
theorem dX4_down_101 : decode cX4_down 101 = .ok (.getfield 255, 3) := by decide +kernel
theorem dX4_down_104 : decode cX4_down 104 = .ok (.aload_n 0, 1) := by decide +kernel
theorem dX4_down_105 : decode cX4_down 105 = .ok (.iload 5, 2) := by decide +kernel
theorem dX4_down_107 : decode cX4_down 107 = .ok (.invokevirtual 261, 3) := by decide +kernel
theorem dX4_down_110 : decode cX4_down 110 = .ok (.iconst 1, 1) := by decide +kernel
theorem dX4_down_111 : decode cX4_down 111 = .ok (.iload 5, 2) := by decide +kernel
theorem dX4_down_113 : decode cX4_down 113 = .ok (.ishl, 1) := by decide +kernel
theorem dX4_down_114 : decode cX4_down 114 = .ok (.ior, 1) := by decide +kernel
theorem dX4_down_115 : decode cX4_down 115 = .ok (.iand, 1) := by decide +kernel
theorem dX4_down_116 : decode cX4_down 116 = .ok (.ifCond .ne 34, 3) := by decide +kernel
theorem dX4_down_119 : decode cX4_down 119 = .ok (.aload_n 0, 1) := by decide +kernel
theorem dX4_down_120 : decode cX4_down 120 = .ok (.iload_n 3, 1) := by decide +kernel
theorem dX4_down_121 : decode cX4_down 121 = .ok (.invokevirtual 258, 3) := by decide +kernel
theorem dX4_down_124 : decode cX4_down 124 = .ok (.iconst 1, 1) := by decide +kernel
theorem dX4_down_125 : decode cX4_down 125 = .ok (.if_icmp .ne 11, 3) := by decide +kernel
theorem dX4_down_128 : decode cX4_down 128 = .ok (.iload 4, 2) := by decide +kernel
theorem dX4_down_130 : decode cX4_down 130 = .ok (.ifCond .ne 6, 3) := by decide +kernel
theorem dX4_down_133 : decode cX4_down 133 = .ok (.goto 17, 3) := by decide +kernel
theorem dX4_down_136 : decode cX4_down 136 = .ok (.iconst 0, 1) := by decide +kernel
theorem dX4_down_137 : decode cX4_down 137 = .ok (.istore 4, 2) := by decide +kernel
theorem dX4_down_139 : decode cX4_down 139 = .ok (.aload_n 0, 1) := by decide +kernel
theorem dX4_down_140 : decode cX4_down 140 = .ok (.getfield 143, 3) := by decide +kernel
theorem dX4_down_143 : decode cX4_down 143 = .ok (.iload_n 2, 1) := by decide +kernel
theorem dX4_down_144 : decode cX4_down 144 = .ok (.iload 5, 2) := by decide +kernel
theorem dX4_down_146 : decode cX4_down 146 = .ok (.iastore, 1) := by decide +kernel
theorem dX4_down_147 : decode cX4_down 147 = .ok (.iinc 2 1, 3) := by decide +kernel
theorem dX4_down_150 : decode cX4_down 150 = .ok (.iinc 5 1, 3) := by decide +kernel
theorem dX4_down_153 : decode cX4_down 153 = .ok (.goto (-77), 3) := by decide +kernel
theorem dX4_down_156 : decode cX4_down 156 = .ok (.goto (-147), 3) := by decide +kernel
theorem dX4_down_159 : decode cX4_down 159 = .ok (.return_, 1) := by decide +kernel
abbrev cX4_kindOf : ByteArray := prog_17_method_24_code
def yX4_kindOf : MethodName := ⟨RX4, "kindOf", "(I)I"⟩
theorem dX4_kindOf_0 : decode cX4_kindOf 0 = .ok (.aload_n 0, 1) := by decide +kernel
theorem dX4_kindOf_1 : decode cX4_kindOf 1 = .ok (.getfield 36, 3) := by decide +kernel
theorem dX4_kindOf_4 : decode cX4_kindOf 4 = .ok (.bipush 16, 2) := by decide +kernel
theorem dX4_kindOf_6 : decode cX4_kindOf 6 = .ok (.aload_n 0, 1) := by decide +kernel
theorem dX4_kindOf_7 : decode cX4_kindOf 7 = .ok (.getfield 17, 3) := by decide +kernel
theorem dX4_kindOf_10 : decode cX4_kindOf 10 = .ok (.imul, 1) := by decide +kernel
theorem dX4_kindOf_11 : decode cX4_kindOf 11 = .ok (.iload_n 1, 1) := by decide +kernel
theorem dX4_kindOf_12 : decode cX4_kindOf 12 = .ok (.iadd, 1) := by decide +kernel
theorem dX4_kindOf_13 : decode cX4_kindOf 13 = .ok (.iaload, 1) := by decide +kernel
theorem dX4_kindOf_14 : decode cX4_kindOf 14 = .ok (.ireturn, 1) := by decide +kernel
abbrev cX4_belowOf : ByteArray := prog_17_method_26_code
def yX4_belowOf : MethodName := ⟨RX4, "belowOf", "(I)I"⟩
theorem dX4_belowOf_0 : decode cX4_belowOf 0 = .ok (.aload_n 0, 1) := by decide +kernel
theorem dX4_belowOf_1 : decode cX4_belowOf 1 = .ok (.getfield 42, 3) := by decide +kernel
theorem dX4_belowOf_4 : decode cX4_belowOf 4 = .ok (.bipush 16, 2) := by decide +kernel
theorem dX4_belowOf_6 : decode cX4_belowOf 6 = .ok (.aload_n 0, 1) := by decide +kernel
theorem dX4_belowOf_7 : decode cX4_belowOf 7 = .ok (.getfield 17, 3) := by decide +kernel
theorem dX4_belowOf_10 : decode cX4_belowOf 10 = .ok (.imul, 1) := by decide +kernel
theorem dX4_belowOf_11 : decode cX4_belowOf 11 = .ok (.iload_n 1, 1) := by decide +kernel
theorem dX4_belowOf_12 : decode cX4_belowOf 12 = .ok (.iadd, 1) := by decide +kernel
theorem dX4_belowOf_13 : decode cX4_belowOf 13 = .ok (.iaload, 1) := by decide +kernel
theorem dX4_belowOf_14 : decode cX4_belowOf 14 = .ok (.ireturn, 1) := by decide +kernel
abbrev cX4_outerOf : ByteArray := prog_17_method_25_code
def yX4_outerOf : MethodName := ⟨RX4, "outerOf", "(I)I"⟩
theorem dX4_outerOf_0 : decode cX4_outerOf 0 = .ok (.aload_n 0, 1) := by decide +kernel
theorem dX4_outerOf_1 : decode cX4_outerOf 1 = .ok (.getfield 39, 3) := by decide +kernel
theorem dX4_outerOf_4 : decode cX4_outerOf 4 = .ok (.bipush 16, 2) := by decide +kernel
theorem dX4_outerOf_6 : decode cX4_outerOf 6 = .ok (.aload_n 0, 1) := by decide +kernel
theorem dX4_outerOf_7 : decode cX4_outerOf 7 = .ok (.getfield 17, 3) := by decide +kernel
theorem dX4_outerOf_10 : decode cX4_outerOf 10 = .ok (.imul, 1) := by decide +kernel
theorem dX4_outerOf_11 : decode cX4_outerOf 11 = .ok (.iload_n 1, 1) := by decide +kernel
theorem dX4_outerOf_12 : decode cX4_outerOf 12 = .ok (.iadd, 1) := by decide +kernel
theorem dX4_outerOf_13 : decode cX4_outerOf 13 = .ok (.iaload, 1) := by decide +kernel
theorem dX4_outerOf_14 : decode cX4_outerOf 14 = .ok (.ireturn, 1) := by decide +kernel
abbrev cX4_enter : ByteArray := prog_17_method_41_code
def yX4_enter : MethodName := ⟨RX4, "enter", "(I)V"⟩
theorem dX4_enter_0 : decode cX4_enter 0 = .ok (.iconst 0, 1) := by decide +kernel
theorem dX4_enter_1 : decode cX4_enter 1 = .ok (.istore_n 2, 1) := by decide +kernel
theorem dX4_enter_2 : decode cX4_enter 2 = .ok (.iload_n 2, 1) := by decide +kernel
theorem dX4_enter_3 : decode cX4_enter 3 = .ok (.aload_n 0, 1) := by decide +kernel
theorem dX4_enter_4 : decode cX4_enter 4 = .ok (.getfield 20, 3) := by decide +kernel
theorem dX4_enter_7 : decode cX4_enter 7 = .ok (.aload_n 0, 1) := by decide +kernel
theorem dX4_enter_8 : decode cX4_enter 8 = .ok (.getfield 17, 3) := by decide +kernel
theorem dX4_enter_11 : decode cX4_enter 11 = .ok (.iaload, 1) := by decide +kernel
theorem dX4_enter_12 : decode cX4_enter 12 = .ok (.if_icmp .ge 48, 3) := by decide +kernel
theorem dX4_enter_15 : decode cX4_enter 15 = .ok (.aload_n 0, 1) := by decide +kernel
theorem dX4_enter_16 : decode cX4_enter 16 = .ok (.iload_n 1, 1) := by decide +kernel
theorem dX4_enter_17 : decode cX4_enter 17 = .ok (.iload_n 2, 1) := by decide +kernel
theorem dX4_enter_18 : decode cX4_enter 18 = .ok (.invokevirtual 277, 3) := by decide +kernel
theorem dX4_enter_21 : decode cX4_enter 21 = .ok (.ifCond .ne 6, 3) := by decide +kernel
theorem dX4_enter_24 : decode cX4_enter 24 = .ok (.goto 30, 3) := by decide +kernel
theorem dX4_enter_27 : decode cX4_enter 27 = .ok (.aload_n 0, 1) := by decide +kernel
theorem dX4_enter_28 : decode cX4_enter 28 = .ok (.dup, 1) := by decide +kernel
theorem dX4_enter_29 : decode cX4_enter 29 = .ok (.getfield 237, 3) := by decide +kernel
theorem dX4_enter_32 : decode cX4_enter 32 = .ok (.iconst 1, 1) := by decide +kernel
theorem dX4_enter_33 : decode cX4_enter 33 = .ok (.iload_n 2, 1) := by decide +kernel
theorem dX4_enter_34 : decode cX4_enter 34 = .ok (.ishl, 1) := by decide +kernel
theorem dX4_enter_35 : decode cX4_enter 35 = .ok (.ior, 1) := by decide +kernel
theorem dX4_enter_36 : decode cX4_enter 36 = .ok (.putfield 237, 3) := by decide +kernel
theorem dX4_enter_39 : decode cX4_enter 39 = .ok (.aload_n 0, 1) := by decide +kernel
theorem dX4_enter_40 : decode cX4_enter 40 = .ok (.iconst 1, 1) := by decide +kernel
theorem dX4_enter_41 : decode cX4_enter 41 = .ok (.iload_n 2, 1) := by decide +kernel
theorem dX4_enter_42 : decode cX4_enter 42 = .ok (.iadd, 1) := by decide +kernel
theorem dX4_enter_43 : decode cX4_enter 43 = .ok (.invokevirtual 306, 3) := by decide +kernel
theorem dX4_enter_46 : decode cX4_enter 46 = .ok (.aload_n 0, 1) := by decide +kernel
theorem dX4_enter_47 : decode cX4_enter 47 = .ok (.bipush 100, 2) := by decide +kernel
theorem dX4_enter_49 : decode cX4_enter 49 = .ok (.iload_n 2, 1) := by decide +kernel
theorem dX4_enter_50 : decode cX4_enter 50 = .ok (.iadd, 1) := by decide +kernel
theorem dX4_enter_51 : decode cX4_enter 51 = .ok (.invokevirtual 303, 3) := by decide +kernel
theorem dX4_enter_54 : decode cX4_enter 54 = .ok (.iinc 2 1, 3) := by decide +kernel
theorem dX4_enter_57 : decode cX4_enter 57 = .ok (.goto (-55), 3) := by decide +kernel
theorem dX4_enter_60 : decode cX4_enter 60 = .ok (.return_, 1) := by decide +kernel
abbrev cX4_isIn : ByteArray := prog_17_method_27_code
