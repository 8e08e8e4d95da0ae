set_option maxRecDepth 100000
theorem dX4_readChart_120 : decode cX4_readChart 120 = .ok (.iload_n 1, 1) := by decide +kernel
theorem dX4_readChart_121 : decode cX4_readChart 121 = .ok (.iadd, 1) := by decide +kernel
theorem dX4_readChart_122 : decode cX4_readChart 122 = .ok (.iaload, 1) := by decide +kernel
theorem dX4_readChart_123 : decode cX4_readChart 123 = .ok (.iconst 1, 1) := by decide +kernel
theorem dX4_readChart_124 : decode cX4_readChart 124 = .ok (.if_icmp .eq 12, 3) := by decide +kernel
theorem dX4_readChart_127 : decode cX4_readChart 127 = .ok (.aload_n 0, 1) := by decide +kernel
theorem dX4_readChart_128 : decode cX4_readChart 128 = .ok (.iload_n 1, 1) := by decide +kernel
theorem dX4_readChart_129 : decode cX4_readChart 129 = .ok (.invokevirtual 221, 3) := by decide +kernel
theorem dX4_readChart_132 : decode cX4_readChart 132 = .ok (.iconst 1, 1) := by decide +kernel
theorem dX4_readChart_133 : decode cX4_readChart 133 = .ok (.if_icmp .le 58, 3) := by decide +kernel
theorem dX4_readChart_136 : decode cX4_readChart 136 = .ok (.aload_n 0, 1) := by decide +kernel
theorem dX4_readChart_137 : decode cX4_readChart 137 = .ok (.aload_n 0, 1) := by decide +kernel
theorem dX4_readChart_138 : decode cX4_readChart 138 = .ok (.getfield 36, 3) := by decide +kernel
theorem dX4_readChart_141 : decode cX4_readChart 141 = .ok (.bipush 16, 2) := by decide +kernel
theorem dX4_readChart_143 : decode cX4_readChart 143 = .ok (.aload_n 0, 1) := by decide +kernel
theorem dX4_readChart_144 : decode cX4_readChart 144 = .ok (.getfield 187, 3) := by decide +kernel
theorem dX4_readChart_147 : decode cX4_readChart 147 = .ok (.imul, 1) := by decide +kernel
theorem dX4_readChart_148 : decode cX4_readChart 148 = .ok (.iload_n 1, 1) := by decide +kernel
theorem dX4_readChart_149 : decode cX4_readChart 149 = .ok (.iadd, 1) := by decide +kernel
theorem dX4_readChart_150 : decode cX4_readChart 150 = .ok (.iaload, 1) := by decide +kernel
theorem dX4_readChart_151 : decode cX4_readChart 151 = .ok (.iconst 1, 1) := by decide +kernel
theorem dX4_readChart_152 : decode cX4_readChart 152 = .ok (.if_icmp .ne 8, 3) := by decide +kernel
theorem dX4_readChart_155 : decode cX4_readChart 155 = .ok (.bipush 41, 2) := by decide +kernel
theorem dX4_readChart_157 : decode cX4_readChart 157 = .ok (.goto 5, 3) := by decide +kernel
theorem dX4_readChart_160 : decode cX4_readChart 160 = .ok (.bipush 62, 2) := by decide +kernel
theorem dX4_readChart_162 : decode cX4_readChart 162 = .ok (.invokevirtual 204, 3) := by decide +kernel
theorem dX4_readChart_165 : decode cX4_readChart 165 = .ok (.aload_n 0, 1) := by decide +kernel
theorem dX4_readChart_166 : decode cX4_readChart 166 = .ok (.iload_n 1, 1) := by decide +kernel
theorem dX4_readChart_167 : decode cX4_readChart 167 = .ok (.invokevirtual 218, 3) := by decide +kernel
theorem dX4_readChart_170 : decode cX4_readChart 170 = .ok (.aload_n 0, 1) := by decide +kernel
theorem dX4_readChart_171 : decode cX4_readChart 171 = .ok (.getfield 39, 3) := by decide +kernel
theorem dX4_readChart_174 : decode cX4_readChart 174 = .ok (.bipush 16, 2) := by decide +kernel
theorem dX4_readChart_176 : decode cX4_readChart 176 = .ok (.aload_n 0, 1) := by decide +kernel
theorem dX4_readChart_177 : decode cX4_readChart 177 = .ok (.getfield 187, 3) := by decide +kernel
theorem dX4_readChart_180 : decode cX4_readChart 180 = .ok (.imul, 1) := by decide +kernel
theorem dX4_readChart_181 : decode cX4_readChart 181 = .ok (.iload_n 1, 1) := by decide +kernel
theorem dX4_readChart_182 : decode cX4_readChart 182 = .ok (.iadd, 1) := by decide +kernel
theorem dX4_readChart_183 : decode cX4_readChart 183 = .ok (.iaload, 1) := by decide +kernel
theorem dX4_readChart_184 : decode cX4_readChart 184 = .ok (.istore_n 1, 1) := by decide +kernel
theorem dX4_readChart_185 : decode cX4_readChart 185 = .ok (.iinc 2 (-1), 3) := by decide +kernel
theorem dX4_readChart_188 : decode cX4_readChart 188 = .ok (.goto (-101), 3) := by decide +kernel
theorem dX4_readChart_191 : decode cX4_readChart 191 = .ok (.iload_n 1, 1) := by decide +kernel
theorem dX4_readChart_192 : decode cX4_readChart 192 = .ok (.ifCond .lt 7, 3) := by decide +kernel
theorem dX4_readChart_195 : decode cX4_readChart 195 = .ok (.iconst 1, 1) := by decide +kernel
theorem dX4_readChart_196 : decode cX4_readChart 196 = .ok (.goto 4, 3) := by decide +kernel
theorem dX4_readChart_199 : decode cX4_readChart 199 = .ok (.iconst 0, 1) := by decide +kernel
theorem dX4_readChart_200 : decode cX4_readChart 200 = .ok (.istore_n 3, 1) := by decide +kernel
theorem dX4_readChart_201 : decode cX4_readChart 201 = .ok (.goto (-195), 3) := by decide +kernel
theorem dX4_readChart_204 : decode cX4_readChart 204 = .ok (.aload_n 0, 1) := by decide +kernel
theorem dX4_readChart_205 : decode cX4_readChart 205 = .ok (.aload_n 0, 1) := by decide +kernel
theorem dX4_readChart_206 : decode cX4_readChart 206 = .ok (.getfield 153, 3) := by decide +kernel
theorem dX4_readChart_209 : decode cX4_readChart 209 = .ok (.aload_n 0, 1) := by decide +kernel
theorem dX4_readChart_210 : decode cX4_readChart 210 = .ok (.getfield 156, 3) := by decide +kernel
theorem dX4_readChart_213 : decode cX4_readChart 213 = .ok (.if_icmp .ne 7, 3) := by decide +kernel
theorem dX4_readChart_216 : decode cX4_readChart 216 = .ok (.iconst 1, 1) := by decide +kernel
theorem dX4_readChart_217 : decode cX4_readChart 217 = .ok (.goto 4, 3) := by decide +kernel
theorem dX4_readChart_220 : decode cX4_readChart 220 = .ok (.iconst 0, 1) := by decide +kernel
theorem dX4_readChart_221 : decode cX4_readChart 221 = .ok (.invokevirtual 167, 3) := by decide +kernel
theorem dX4_readChart_224 : decode cX4_readChart 224 = .ok (.return_, 1) := by decide +kernel
abbrev cX4_readState : ByteArray := prog_17_method_16_code
def yX4_readState : MethodName := ⟨RX4, "readState", "(II)I"⟩
theorem dX4_readState_0 : decode cX4_readState 0 = .ok (.aload_n 0, 1) := by decide +kernel
theorem dX4_readState_1 : decode cX4_readState 1 = .ok (.aload_n 0, 1) := by decide +kernel
theorem dX4_readState_2 : decode cX4_readState 2 = .ok (.bipush 97, 2) := by decide +kernel
theorem dX4_readState_4 : decode cX4_readState 4 = .ok (.bipush 112, 2) := by decide +kernel
theorem dX4_readState_6 : decode cX4_readState 6 = .ok (.invokevirtual 178, 3) := by decide +kernel
theorem dX4_readState_9 : decode cX4_readState 9 = .ok (.ifCond .eq 36, 3) := by decide +kernel
theorem dX4_readState_12 : decode cX4_readState 12 = .ok (.aload_n 0, 1) := by decide +kernel
theorem dX4_readState_13 : decode cX4_readState 13 = .ok (.getfield 45, 3) := by decide +kernel
theorem dX4_readState_16 : decode cX4_readState 16 = .ok (.bipush 16, 2) := by decide +kernel
theorem dX4_readState_18 : decode cX4_readState 18 = .ok (.aload_n 0, 1) := by decide +kernel
theorem dX4_readState_19 : decode cX4_readState 19 = .ok (.getfield 187, 3) := by decide +kernel
theorem dX4_readState_22 : decode cX4_readState 22 = .ok (.imul, 1) := by decide +kernel
theorem dX4_readState_23 : decode cX4_readState 23 = .ok (.aload_n 0, 1) := by decide +kernel
theorem dX4_readState_24 : decode cX4_readState 24 = .ok (.invokevirtual 159, 3) := by decide +kernel
theorem dX4_readState_27 : decode cX4_readState 27 = .ok (.iadd, 1) := by decide +kernel
theorem dX4_readState_28 : decode cX4_readState 28 = .ok (.bipush 97, 2) := by decide +kernel
theorem dX4_readState_30 : decode cX4_readState 30 = .ok (.isub, 1) := by decide +kernel
theorem dX4_readState_31 : decode cX4_readState 31 = .ok (.iaload, 1) := by decide +kernel
theorem dX4_readState_32 : decode cX4_readState 32 = .ok (.ifCond .ge 13, 3) := by decide +kernel
theorem dX4_readState_35 : decode cX4_readState 35 = .ok (.iload_n 2, 1) := by decide +kernel
theorem dX4_readState_36 : decode cX4_readState 36 = .ok (.bipush 7, 2) := by decide +kernel
theorem dX4_readState_38 : decode cX4_readState 38 = .ok (.if_icmp .ge 7, 3) := by decide +kernel
theorem dX4_readState_41 : decode cX4_readState 41 = .ok (.iconst 1, 1) := by decide +kernel
theorem dX4_readState_42 : decode cX4_readState 42 = .ok (.goto 4, 3) := by decide +kernel
theorem dX4_readState_45 : decode cX4_readState 45 = .ok (.iconst 0, 1) := by decide +kernel
theorem dX4_readState_46 : decode cX4_readState 46 = .ok (.invokevirtual 167, 3) := by decide +kernel
theorem dX4_readState_49 : decode cX4_readState 49 = .ok (.aload_n 0, 1) := by decide +kernel
theorem dX4_readState_50 : decode cX4_readState 50 = .ok (.getfield 149, 3) := by decide +kernel
theorem dX4_readState_53 : decode cX4_readState 53 = .ok (.ifCond .eq 5, 3) := by decide +kernel
theorem dX4_readState_56 : decode cX4_readState 56 = .ok (.iconst 0, 1) := by decide +kernel
theorem dX4_readState_57 : decode cX4_readState 57 = .ok (.ireturn, 1) := by decide +kernel
theorem dX4_readState_58 : decode cX4_readState 58 = .ok (.aload_n 0, 1) := by decide +kernel
theorem dX4_readState_59 : decode cX4_readState 59 = .ok (.getfield 20, 3) := by decide +kernel
theorem dX4_readState_62 : decode cX4_readState 62 = .ok (.aload_n 0, 1) := by decide +kernel
theorem dX4_readState_63 : decode cX4_readState 63 = .ok (.getfield 187, 3) := by decide +kernel
theorem dX4_readState_66 : decode cX4_readState 66 = .ok (.iaload, 1) := by decide +kernel
theorem dX4_readState_67 : decode cX4_readState 67 = .ok (.istore_n 3, 1) := by decide +kernel
theorem dX4_readState_68 : decode cX4_readState 68 = .ok (.aload_n 0, 1) := by decide +kernel
theorem dX4_readState_69 : decode cX4_readState 69 = .ok (.getfield 20, 3) := by decide +kernel
theorem dX4_readState_72 : decode cX4_readState 72 = .ok (.aload_n 0, 1) := by decide +kernel
theorem dX4_readState_73 : decode cX4_readState 73 = .ok (.getfield 187, 3) := by decide +kernel
theorem dX4_readState_76 : decode cX4_readState 76 = .ok (.dup2, 1) := by decide +kernel
theorem dX4_readState_77 : decode cX4_readState 77 = .ok (.iaload, 1) := by decide +kernel
theorem dX4_readState_78 : decode cX4_readState 78 = .ok (.iconst 1, 1) := by decide +kernel
theorem dX4_readState_79 : decode cX4_readState 79 = .ok (.iadd, 1) := by decide +kernel
theorem dX4_readState_80 : decode cX4_readState 80 = .ok (.iastore, 1) := by decide +kernel
theorem dX4_readState_81 : decode cX4_readState 81 = .ok (.aload_n 0, 1) := by decide +kernel
theorem dX4_readState_82 : decode cX4_readState 82 = .ok (.getfield 45, 3) := by decide +kernel
theorem dX4_readState_85 : decode cX4_readState 85 = .ok (.bipush 16, 2) := by decide +kernel
theorem dX4_readState_87 : decode cX4_readState 87 = .ok (.aload_n 0, 1) := by decide +kernel
theorem dX4_readState_88 : decode cX4_readState 88 = .ok (.getfield 187, 3) := by decide +kernel
theorem dX4_readState_91 : decode cX4_readState 91 = .ok (.imul, 1) := by decide +kernel
theorem dX4_readState_92 : decode cX4_readState 92 = .ok (.aload_n 0, 1) := by decide +kernel
theorem dX4_readState_93 : decode cX4_readState 93 = .ok (.invokevirtual 182, 3) := by decide +kernel
theorem dX4_readState_96 : decode cX4_readState 96 = .ok (.iadd, 1) := by decide +kernel
theorem dX4_readState_97 : decode cX4_readState 97 = .ok (.bipush 97, 2) := by decide +kernel
theorem dX4_readState_99 : decode cX4_readState 99 = .ok (.isub, 1) := by decide +kernel
theorem dX4_readState_100 : decode cX4_readState 100 = .ok (.iload_n 3, 1) := by decide +kernel
theorem dX4_readState_101 : decode cX4_readState 101 = .ok (.iastore, 1) := by decide +kernel
theorem dX4_readState_102 : decode cX4_readState 102 = .ok (.aload_n 0, 1) := by decide +kernel
theorem dX4_readState_103 : decode cX4_readState 103 = .ok (.getfield 36, 3) := by decide +kernel
theorem dX4_readState_106 : decode cX4_readState 106 = .ok (.bipush 16, 2) := by decide +kernel
theorem dX4_readState_108 : decode cX4_readState 108 = .ok (.aload_n 0, 1) := by decide +kernel
theorem dX4_readState_109 : decode cX4_readState 109 = .ok (.getfield 187, 3) := by decide +kernel
theorem dX4_readState_112 : decode cX4_readState 112 = .ok (.imul, 1) := by decide +kernel
theorem dX4_readState_113 : decode cX4_readState 113 = .ok (.iload_n 3, 1) := by decide +kernel
theorem dX4_readState_114 : decode cX4_readState 114 = .ok (.iadd, 1) := by decide +kernel
theorem dX4_readState_115 : decode cX4_readState 115 = .ok (.iconst 0, 1) := by decide +kernel
theorem dX4_readState_116 : decode cX4_readState 116 = .ok (.iastore, 1) := by decide +kernel
theorem dX4_readState_117 : decode cX4_readState 117 = .ok (.aload_n 0, 1) := by decide +kernel
theorem dX4_readState_118 : decode cX4_readState 118 = .ok (.getfield 39, 3) := by decide +kernel
theorem dX4_readState_121 : decode cX4_readState 121 = .ok (.bipush 16, 2) := by decide +kernel
theorem dX4_readState_123 : decode cX4_readState 123 = .ok (.aload_n 0, 1) := by decide +kernel
theorem dX4_readState_124 : decode cX4_readState 124 = .ok (.getfield 187, 3) := by decide +kernel
theorem dX4_readState_127 : decode cX4_readState 127 = .ok (.imul, 1) := by decide +kernel
theorem dX4_readState_128 : decode cX4_readState 128 = .ok (.iload_n 3, 1) := by decide +kernel
theorem dX4_readState_129 : decode cX4_readState 129 = .ok (.iadd, 1) := by decide +kernel
theorem dX4_readState_130 : decode cX4_readState 130 = .ok (.iload_n 1, 1) := by decide +kernel
theorem dX4_readState_131 : decode cX4_readState 131 = .ok (.iastore, 1) := by decide +kernel
theorem dX4_readState_132 : decode cX4_readState 132 = .ok (.aload_n 0, 1) := by decide +kernel
theorem dX4_readState_133 : decode cX4_readState 133 = .ok (.getfield 42, 3) := by decide +kernel
theorem dX4_readState_136 : decode cX4_readState 136 = .ok (.bipush 16, 2) := by decide +kernel
theorem dX4_readState_138 : decode cX4_readState 138 = .ok (.aload_n 0, 1) := by decide +kernel
theorem dX4_readState_139 : decode cX4_readState 139 = .ok (.getfield 187, 3) := by decide +kernel
theorem dX4_readState_142 : decode cX4_readState 142 = .ok (.imul, 1) := by decide +kernel
theorem dX4_readState_143 : decode cX4_readState 143 = .ok (.iload_n 3, 1) := by decide +kernel
theorem dX4_readState_144 : decode cX4_readState 144 = .ok (.iadd, 1) := by decide +kernel
theorem dX4_readState_145 : decode cX4_readState 145 = .ok (.iconst 0, 1) := by decide +kernel
theorem dX4_readState_146 : decode cX4_readState 146 = .ok (.iastore, 1) := by decide +kernel
theorem dX4_readState_147 : decode cX4_readState 147 = .ok (.iload_n 1, 1) := by decide +kernel
theorem dX4_readState_148 : decode cX4_readState 148 = .ok (.istore 4, 2) := by decide +kernel
theorem dX4_readState_150 : decode cX4_readState 150 = .ok (.iload 4, 2) := by decide +kernel
theorem dX4_readState_152 : decode cX4_readState 152 = .ok (.ifCond .lt 44, 3) := by decide +kernel
theorem dX4_readState_155 : decode cX4_readState 155 = .ok (.aload_n 0, 1) := by decide +kernel
theorem dX4_readState_156 : decode cX4_readState 156 = .ok (.getfield 42, 3) := by decide +kernel
theorem dX4_readState_159 : decode cX4_readState 159 = .ok (.bipush 16, 2) := by decide +kernel
theorem dX4_readState_161 : decode cX4_readState 161 = .ok (.aload_n 0, 1) := by decide +kernel
theorem dX4_readState_162 : decode cX4_readState 162 = .ok (.getfield 187, 3) := by decide +kernel
theorem dX4_readState_165 : decode cX4_readState 165 = .ok (.imul, 1) := by decide +kernel
theorem dX4_readState_166 : decode cX4_readState 166 = .ok (.iload 4, 2) := by decide +kernel
theorem dX4_readState_168 : decode cX4_readState 168 = .ok (.iadd, 1) := by decide +kernel
theorem dX4_readState_169 : decode cX4_readState 169 = .ok (.dup2, 1) := by decide +kernel
theorem dX4_readState_170 : decode cX4_readState 170 = .ok (.iaload, 1) := by decide +kernel
theorem dX4_readState_171 : decode cX4_readState 171 = .ok (.iconst 1, 1) := by decide +kernel
theorem dX4_readState_172 : decode cX4_readState 172 = .ok (.iload_n 3, 1) := by decide +kernel
theorem dX4_readState_173 : decode cX4_readState 173 = .ok (.ishl, 1) := by decide +kernel
theorem dX4_readState_174 : decode cX4_readState 174 = .ok (.ior, 1) := by decide +kernel
theorem dX4_readState_175 : decode cX4_readState 175 = .ok (.iastore, 1) := by decide +kernel
theorem dX4_readState_176 : decode cX4_readState 176 = .ok (.aload_n 0, 1) := by decide +kernel
theorem dX4_readState_177 : decode cX4_readState 177 = .ok (.getfield 39, 3) := by decide +kernel
theorem dX4_readState_180 : decode cX4_readState 180 = .ok (.bipush 16, 2) := by decide +kernel
theorem dX4_readState_182 : decode cX4_readState 182 = .ok (.aload_n 0, 1) := by decide +kernel
theorem dX4_readState_183 : decode cX4_readState 183 = .ok (.getfield 187, 3) := by decide +kernel
theorem dX4_readState_186 : decode cX4_readState 186 = .ok (.imul, 1) := by decide +kernel
theorem dX4_readState_187 : decode cX4_readState 187 = .ok (.iload 4, 2) := by decide +kernel
theorem dX4_readState_189 : decode cX4_readState 189 = .ok (.iadd, 1) := by decide +kernel
theorem dX4_readState_190 : decode cX4_readState 190 = .ok (.iaload, 1) := by decide +kernel
theorem dX4_readState_191 : decode cX4_readState 191 = .ok (.istore 4, 2) := by decide +kernel
theorem dX4_readState_193 : decode cX4_readState 193 = .ok (.goto (-43), 3) := by decide +kernel
theorem dX4_readState_196 : decode cX4_readState 196 = .ok (.iload_n 3, 1) := by decide +kernel
theorem dX4_readState_197 : decode cX4_readState 197 = .ok (.ireturn, 1) := by decide +kernel
abbrev cX4_among : ByteArray := prog_17_method_7_code
def yX4_among : MethodName := ⟨RX4, "among", "(CC)Z"⟩
theorem dX4_among_0 : decode cX4_among 0 = .ok (.aload_n 0, 1) := by decide +kernel
theorem dX4_among_1 : decode cX4_among 1 = .ok (.invokevirtual 159, 3) := by decide +kernel
theorem dX4_among_4 : decode cX4_among 4 = .ok (.iload_n 1, 1) := by decide +kernel
theorem dX4_among_5 : decode cX4_among 5 = .ok (.if_icmp .lt 15, 3) := by decide +kernel
theorem dX4_among_8 : decode cX4_among 8 = .ok (.aload_n 0, 1) := by decide +kernel
theorem dX4_among_9 : decode cX4_among 9 = .ok (.invokevirtual 159, 3) := by decide +kernel
theorem dX4_among_12 : decode cX4_among 12 = .ok (.iload_n 2, 1) := by decide +kernel
theorem dX4_among_13 : decode cX4_among 13 = .ok (.if_icmp .gt 7, 3) := by decide +kernel
theorem dX4_among_16 : decode cX4_among 16 = .ok (.iconst 1, 1) := by decide +kernel
theorem dX4_among_17 : decode cX4_among 17 = .ok (.goto 4, 3) := by decide +kernel
theorem dX4_among_20 : decode cX4_among 20 = .ok (.iconst 0, 1) := by decide +kernel
theorem dX4_among_21 : decode cX4_among 21 = .ok (.ireturn, 1) := by decide +kernel
abbrev cX4_look : ByteArray := prog_17_method_3_code
def yX4_look : MethodName := ⟨RX4, "look", "()C"⟩
theorem dX4_look_0 : decode cX4_look 0 = .ok (.aload_n 0, 1) := by decide +kernel
theorem dX4_look_1 : decode cX4_look 1 = .ok (.getfield 149, 3) := by decide +kernel
theorem dX4_look_4 : decode cX4_look 4 = .ok (.ifCond .ne 26, 3) := by decide +kernel
theorem dX4_look_7 : decode cX4_look 7 = .ok (.aload_n 0, 1) := by decide +kernel
theorem dX4_look_8 : decode cX4_look 8 = .ok (.getfield 153, 3) := by decide +kernel
theorem dX4_look_11 : decode cX4_look 11 = .ok (.aload_n 0, 1) := by decide +kernel
theorem dX4_look_12 : decode cX4_look 12 = .ok (.getfield 156, 3) := by decide +kernel
theorem dX4_look_15 : decode cX4_look 15 = .ok (.if_icmp .ge 15, 3) := by decide +kernel
theorem dX4_look_18 : decode cX4_look 18 = .ok (.aload_n 0, 1) := by decide +kernel
theorem dX4_look_19 : decode cX4_look 19 = .ok (.getfield 7, 3) := by decide +kernel
theorem dX4_look_22 : decode cX4_look 22 = .ok (.aload_n 0, 1) := by decide +kernel
theorem dX4_look_23 : decode cX4_look 23 = .ok (.getfield 153, 3) := by decide +kernel
theorem dX4_look_26 : decode cX4_look 26 = .ok (.caload, 1) := by decide +kernel
theorem dX4_look_27 : decode cX4_look 27 = .ok (.goto 4, 3) := by decide +kernel
theorem dX4_look_30 : decode cX4_look 30 = .ok (.iconst 0, 1) := by decide +kernel
theorem dX4_look_31 : decode cX4_look 31 = .ok (.ireturn, 1) := by decide +kernel
abbrev cX4_want : ByteArray := prog_17_method_5_code
def yX4_want : MethodName := ⟨RX4, "want", "(Z)V"⟩
theorem dX4_want_0 : decode cX4_want 0 = .ok (.iload_n 1, 1) := by decide +kernel
theorem dX4_want_1 : decode cX4_want 1 = .ok (.ifCond .ne 8, 3) := by decide +kernel
theorem dX4_want_4 : decode cX4_want 4 = .ok (.aload_n 0, 1) := by decide +kernel
theorem dX4_want_5 : decode cX4_want 5 = .ok (.iconst 1, 1) := by decide +kernel
theorem dX4_want_6 : decode cX4_want 6 = .ok (.putfield 149, 3) := by decide +kernel
theorem dX4_want_9 : decode cX4_want 9 = .ok (.return_, 1) := by decide +kernel
abbrev cX4_next : ByteArray := prog_17_method_8_code
def yX4_next : MethodName := ⟨RX4, "next", "()C"⟩
theorem dX4_next_0 : decode cX4_next 0 = .ok (.aload_n 0, 1) := by decide +kernel
theorem dX4_next_1 : decode cX4_next 1 = .ok (.getfield 149, 3) := by decide +kernel
theorem dX4_next_4 : decode cX4_next 4 = .ok (.ifCond .eq 5, 3) := by decide +kernel
theorem dX4_next_7 : decode cX4_next 7 = .ok (.iconst 0, 1) := by decide +kernel
theorem dX4_next_8 : decode cX4_next 8 = .ok (.ireturn, 1) := by decide +kernel
theorem dX4_next_9 : decode cX4_next 9 = .ok (.aload_n 0, 1) := by decide +kernel
theorem dX4_next_10 : decode cX4_next 10 = .ok (.dup, 1) := by decide +kernel
theorem dX4_next_11 : decode cX4_next 11 = .ok (.getfield 153, 3) := by decide +kernel
theorem dX4_next_14 : decode cX4_next 14 = .ok (.iconst 1, 1) := by decide +kernel
theorem dX4_next_15 : decode cX4_next 15 = .ok (.iadd, 1) := by decide +kernel
theorem dX4_next_16 : decode cX4_next 16 = .ok (.putfield 153, 3) := by decide +kernel
theorem dX4_next_19 : decode cX4_next 19 = .ok (.aload_n 0, 1) := by decide +kernel
theorem dX4_next_20 : decode cX4_next 20 = .ok (.getfield 7, 3) := by decide +kernel
theorem dX4_next_23 : decode cX4_next 23 = .ok (.aload_n 0, 1) := by decide +kernel
theorem dX4_next_24 : decode cX4_next 24 = .ok (.getfield 153, 3) := by decide +kernel
theorem dX4_next_27 : decode cX4_next 27 = .ok (.iconst 1, 1) := by decide +kernel
theorem dX4_next_28 : decode cX4_next 28 = .ok (.isub, 1) := by decide +kernel
theorem dX4_next_29 : decode cX4_next 29 = .ok (.caload, 1) := by decide +kernel
theorem dX4_next_30 : decode cX4_next 30 = .ok (.ireturn, 1) := by decide +kernel
abbrev cX4_takes : ByteArray := prog_17_method_4_code
def yX4_takes : MethodName := ⟨RX4, "takes", "(C)Z"⟩
theorem dX4_takes_0 : decode cX4_takes 0 = .ok (.aload_n 0, 1) := by decide +kernel
theorem dX4_takes_1 : decode cX4_takes 1 = .ok (.invokevirtual 159, 3) := by decide +kernel
theorem dX4_takes_4 : decode cX4_takes 4 = .ok (.iload_n 1, 1) := by decide +kernel
theorem dX4_takes_5 : decode cX4_takes 5 = .ok (.if_icmp .eq 5, 3) := by decide +kernel
theorem dX4_takes_8 : decode cX4_takes 8 = .ok (.iconst 0, 1) := by decide +kernel
theorem dX4_takes_9 : decode cX4_takes 9 = .ok (.ireturn, 1) := by decide +kernel
theorem dX4_takes_10 : decode cX4_takes 10 = .ok (.aload_n 0, 1) := by decide +kernel
theorem dX4_takes_11 : decode cX4_takes 11 = .ok (.dup, 1) := by decide +kernel
theorem dX4_takes_12 : decode cX4_takes 12 = .ok (.getfield 153, 3) := by decide +kernel
theorem dX4_takes_15 : decode cX4_takes 15 = .ok (.iconst 1, 1) := by decide +kernel
theorem dX4_takes_16 : decode cX4_takes 16 = .ok (.iadd, 1) := by decide +kernel
theorem dX4_takes_17 : decode cX4_takes 17 = .ok (.putfield 153, 3) := by decide +kernel
theorem dX4_takes_20 : decode cX4_takes 20 = .ok (.iconst 1, 1) := by decide +kernel
theorem dX4_takes_21 : decode cX4_takes 21 = .ok (.ireturn, 1) := by decide +kernel
abbrev cX4_readItems : ByteArray := prog_17_method_15_code
def yX4_readItems : MethodName := ⟨RX4, "readItems", "(I)V"⟩
theorem dX4_readItems_0 : decode cX4_readItems 0 = .ok (.aload_n 0, 1) := by decide +kernel
theorem dX4_readItems_1 : decode cX4_readItems 1 = .ok (.bipush 123, 2) := by decide +kernel
theorem dX4_readItems_3 : decode cX4_readItems 3 = .ok (.invokevirtual 163, 3) := by decide +kernel
theorem dX4_readItems_6 : decode cX4_readItems 6 = .ok (.ifCond .ne 4, 3) := by decide +kernel
theorem dX4_readItems_9 : decode cX4_readItems 9 = .ok (.return_, 1) := by decide +kernel
theorem dX4_readItems_10 : decode cX4_readItems 10 = .ok (.aload_n 0, 1) := by decide +kernel
theorem dX4_readItems_11 : decode cX4_readItems 11 = .ok (.getfield 149, 3) := by decide +kernel
theorem dX4_readItems_14 : decode cX4_readItems 14 = .ok (.ifCond .ne 67, 3) := by decide +kernel
theorem dX4_readItems_17 : decode cX4_readItems 17 = .ok (.aload_n 0, 1) := by decide +kernel
theorem dX4_readItems_18 : decode cX4_readItems 18 = .ok (.bipush 125, 2) := by decide +kernel
theorem dX4_readItems_20 : decode cX4_readItems 20 = .ok (.invokevirtual 163, 3) := by decide +kernel
theorem dX4_readItems_23 : decode cX4_readItems 23 = .ok (.ifCond .ne 58, 3) := by decide +kernel
theorem dX4_readItems_26 : decode cX4_readItems 26 = .ok (.aload_n 0, 1) := by decide +kernel
theorem dX4_readItems_27 : decode cX4_readItems 27 = .ok (.bipush 43, 2) := by decide +kernel
theorem dX4_readItems_29 : decode cX4_readItems 29 = .ok (.invokevirtual 163, 3) := by decide +kernel
theorem dX4_readItems_32 : decode cX4_readItems 32 = .ok (.ifCond .eq 14, 3) := by decide +kernel
theorem dX4_readItems_35 : decode cX4_readItems 35 = .ok (.aload_n 0, 1) := by decide +kernel
theorem dX4_readItems_36 : decode cX4_readItems 36 = .ok (.bipush 100, 2) := by decide +kernel
theorem dX4_readItems_38 : decode cX4_readItems 38 = .ok (.iload_n 1, 1) := by decide +kernel
theorem dX4_readItems_39 : decode cX4_readItems 39 = .ok (.iadd, 1) := by decide +kernel
theorem dX4_readItems_40 : decode cX4_readItems 40 = .ok (.invokevirtual 208, 3) := by decide +kernel
theorem dX4_readItems_43 : decode cX4_readItems 43 = .ok (.goto 29, 3) := by decide +kernel
theorem dX4_readItems_46 : decode cX4_readItems 46 = .ok (.aload_n 0, 1) := by decide +kernel
theorem dX4_readItems_47 : decode cX4_readItems 47 = .ok (.bipush 45, 2) := by decide +kernel
theorem dX4_readItems_49 : decode cX4_readItems 49 = .ok (.invokevirtual 163, 3) := by decide +kernel
theorem dX4_readItems_52 : decode cX4_readItems 52 = .ok (.ifCond .eq 15, 3) := by decide +kernel
theorem dX4_readItems_55 : decode cX4_readItems 55 = .ok (.aload_n 0, 1) := by decide +kernel
theorem dX4_readItems_56 : decode cX4_readItems 56 = .ok (.sipush 200, 3) := by decide +kernel
theorem dX4_readItems_59 : decode cX4_readItems 59 = .ok (.iload_n 1, 1) := by decide +kernel
theorem dX4_readItems_60 : decode cX4_readItems 60 = .ok (.iadd, 1) := by decide +kernel
theorem dX4_readItems_61 : decode cX4_readItems 61 = .ok (.invokevirtual 208, 3) := by decide +kernel
theorem dX4_readItems_64 : decode cX4_readItems 64 = .ok (.goto 8, 3) := by decide +kernel
theorem dX4_readItems_67 : decode cX4_readItems 67 = .ok (.aload_n 0, 1) := by decide +kernel
theorem dX4_readItems_68 : decode cX4_readItems 68 = .ok (.iload_n 1, 1) := by decide +kernel
theorem dX4_readItems_69 : decode cX4_readItems 69 = .ok (.invokevirtual 211, 3) := by decide +kernel
theorem dX4_readItems_72 : decode cX4_readItems 72 = .ok (.aload_n 0, 1) := by decide +kernel
theorem dX4_readItems_73 : decode cX4_readItems 73 = .ok (.bipush 59, 2) := by decide +kernel
theorem dX4_readItems_75 : decode cX4_readItems 75 = .ok (.invokevirtual 204, 3) := by decide +kernel
theorem dX4_readItems_78 : decode cX4_readItems 78 = .ok (.goto (-68), 3) := by decide +kernel
theorem dX4_readItems_81 : decode cX4_readItems 81 = .ok (.return_, 1) := by decide +kernel
abbrev cX4_readActions : ByteArray := prog_17_method_13_code
def yX4_readActions : MethodName := ⟨RX4, "readActions", "(I)V"⟩
theorem dX4_readActions_0 : decode cX4_readActions 0 = .ok (.aload_n 0, 1) := by decide +kernel
theorem dX4_readActions_1 : decode cX4_readActions 1 = .ok (.iload_n 1, 1) := by decide +kernel
theorem dX4_readActions_2 : decode cX4_readActions 2 = .ok (.invokevirtual 197, 3) := by decide +kernel
theorem dX4_readActions_5 : decode cX4_readActions 5 = .ok (.aload_n 0, 1) := by decide +kernel
theorem dX4_readActions_6 : decode cX4_readActions 6 = .ok (.bipush 44, 2) := by decide +kernel
theorem dX4_readActions_8 : decode cX4_readActions 8 = .ok (.invokevirtual 163, 3) := by decide +kernel
theorem dX4_readActions_11 : decode cX4_readActions 11 = .ok (.ifCond .ne (-11), 3) := by decide +kernel
theorem dX4_readActions_14 : decode cX4_readActions 14 = .ok (.return_, 1) := by decide +kernel
abbrev cX4_readAction : ByteArray := prog_17_method_12_code
def yX4_readAction : MethodName := ⟨RX4, "readAction", "(I)V"⟩
theorem dX4_readAction_0 : decode cX4_readAction 0 = .ok (.aload_n 0, 1) := by decide +kernel
theorem dX4_readAction_1 : decode cX4_readAction 1 = .ok (.aload_n 0, 1) := by decide +kernel
theorem dX4_readAction_2 : decode cX4_readAction 2 = .ok (.bipush 65, 2) := by decide +kernel
theorem dX4_readAction_4 : decode cX4_readAction 4 = .ok (.bipush 72, 2) := by decide +kernel
theorem dX4_readAction_6 : decode cX4_readAction 6 = .ok (.invokevirtual 178, 3) := by decide +kernel
theorem dX4_readAction_9 : decode cX4_readAction 9 = .ok (.ifCond .ne 14, 3) := by decide +kernel
theorem dX4_readAction_12 : decode cX4_readAction 12 = .ok (.aload_n 0, 1) := by decide +kernel
theorem dX4_readAction_13 : decode cX4_readAction 13 = .ok (.bipush 117, 2) := by decide +kernel
theorem dX4_readAction_15 : decode cX4_readAction 15 = .ok (.bipush 122, 2) := by decide +kernel
theorem dX4_readAction_17 : decode cX4_readAction 17 = .ok (.invokevirtual 178, 3) := by decide +kernel
theorem dX4_readAction_20 : decode cX4_readAction 20 = .ok (.ifCond .eq 21, 3) := by decide +kernel
theorem dX4_readAction_23 : decode cX4_readAction 23 = .ok (.aload_n 0, 1) := by decide +kernel
theorem dX4_readAction_24 : decode cX4_readAction 24 = .ok (.getfield 30, 3) := by decide +kernel
theorem dX4_readAction_27 : decode cX4_readAction 27 = .ok (.aload_n 0, 1) := by decide +kernel
theorem dX4_readAction_28 : decode cX4_readAction 28 = .ok (.getfield 187, 3) := by decide +kernel
theorem dX4_readAction_31 : decode cX4_readAction 31 = .ok (.iaload, 1) := by decide +kernel
theorem dX4_readAction_32 : decode cX4_readAction 32 = .ok (.bipush 40, 2) := by decide +kernel
theorem dX4_readAction_34 : decode cX4_readAction 34 = .ok (.if_icmp .ge 7, 3) := by decide +kernel
theorem dX4_readAction_37 : decode cX4_readAction 37 = .ok (.iconst 1, 1) := by decide +kernel
theorem dX4_readAction_38 : decode cX4_readAction 38 = .ok (.goto 4, 3) := by decide +kernel
theorem dX4_readAction_41 : decode cX4_readAction 41 = .ok (.iconst 0, 1) := by decide +kernel
theorem dX4_readAction_42 : decode cX4_readAction 42 = .ok (.invokevirtual 167, 3) := by decide +kernel
theorem dX4_readAction_45 : decode cX4_readAction 45 = .ok (.bipush 48, 2) := by decide +kernel
theorem dX4_readAction_47 : decode cX4_readAction 47 = .ok (.aload_n 0, 1) := by decide +kernel
theorem dX4_readAction_48 : decode cX4_readAction 48 = .ok (.getfield 187, 3) := by decide +kernel
theorem dX4_readAction_51 : decode cX4_readAction 51 = .ok (.imul, 1) := by decide +kernel
theorem dX4_readAction_52 : decode cX4_readAction 52 = .ok (.aload_n 0, 1) := by decide +kernel
theorem dX4_readAction_53 : decode cX4_readAction 53 = .ok (.getfield 30, 3) := by decide +kernel
theorem dX4_readAction_56 : decode cX4_readAction 56 = .ok (.aload_n 0, 1) := by decide +kernel
theorem dX4_readAction_57 : decode cX4_readAction 57 = .ok (.getfield 187, 3) := by decide +kernel
theorem dX4_readAction_60 : decode cX4_readAction 60 = .ok (.iaload, 1) := by decide +kernel
theorem dX4_readAction_61 : decode cX4_readAction 61 = .ok (.iadd, 1) := by decide +kernel
theorem dX4_readAction_62 : decode cX4_readAction 62 = .ok (.istore_n 2, 1) := by decide +kernel
theorem dX4_readAction_63 : decode cX4_readAction 63 = .ok (.aload_n 0, 1) := by decide +kernel
theorem dX4_readAction_64 : decode cX4_readAction 64 = .ok (.getfield 149, 3) := by decide +kernel
theorem dX4_readAction_67 : decode cX4_readAction 67 = .ok (.ifCond .eq 4, 3) := by decide +kernel
theorem dX4_readAction_70 : decode cX4_readAction 70 = .ok (.return_, 1) := by decide +kernel
theorem dX4_readAction_71 : decode cX4_readAction 71 = .ok (.aload_n 0, 1) := by decide +kernel
theorem dX4_readAction_72 : decode cX4_readAction 72 = .ok (.getfield 95, 3) := by decide +kernel
theorem dX4_readAction_75 : decode cX4_readAction 75 = .ok (.iload_n 2, 1) := by decide +kernel
theorem dX4_readAction_76 : decode cX4_readAction 76 = .ok (.iload_n 1, 1) := by decide +kernel
theorem dX4_readAction_77 : decode cX4_readAction 77 = .ok (.iastore, 1) := by decide +kernel
theorem dX4_readAction_78 : decode cX4_readAction 78 = .ok (.aload_n 0, 1) := by decide +kernel
theorem dX4_readAction_79 : decode cX4_readAction 79 = .ok (.getfield 98, 3) := by decide +kernel
theorem dX4_readAction_82 : decode cX4_readAction 82 = .ok (.iload_n 2, 1) := by decide +kernel
theorem dX4_readAction_83 : decode cX4_readAction 83 = .ok (.aload_n 0, 1) := by decide +kernel
theorem dX4_readAction_84 : decode cX4_readAction 84 = .ok (.invokevirtual 182, 3) := by decide +kernel
theorem dX4_readAction_87 : decode cX4_readAction 87 = .ok (.iastore, 1) := by decide +kernel
theorem dX4_readAction_88 : decode cX4_readAction 88 = .ok (.aload_n 0, 1) := by decide +kernel
theorem dX4_readAction_89 : decode cX4_readAction 89 = .ok (.getfield 101, 3) := by decide +kernel
theorem dX4_readAction_92 : decode cX4_readAction 92 = .ok (.iload_n 2, 1) := by decide +kernel
theorem dX4_readAction_93 : decode cX4_readAction 93 = .ok (.iconst 0, 1) := by decide +kernel
theorem dX4_readAction_94 : decode cX4_readAction 94 = .ok (.iastore, 1) := by decide +kernel
theorem dX4_readAction_95 : decode cX4_readAction 95 = .ok (.aload_n 0, 1) := by decide +kernel
theorem dX4_readAction_96 : decode cX4_readAction 96 = .ok (.getfield 30, 3) := by decide +kernel
theorem dX4_readAction_99 : decode cX4_readAction 99 = .ok (.aload_n 0, 1) := by decide +kernel
theorem dX4_readAction_100 : decode cX4_readAction 100 = .ok (.getfield 187, 3) := by decide +kernel
theorem dX4_readAction_103 : decode cX4_readAction 103 = .ok (.dup2, 1) := by decide +kernel
theorem dX4_readAction_104 : decode cX4_readAction 104 = .ok (.iaload, 1) := by decide +kernel
theorem dX4_readAction_105 : decode cX4_readAction 105 = .ok (.iconst 1, 1) := by decide +kernel
theorem dX4_readAction_106 : decode cX4_readAction 106 = .ok (.iadd, 1) := by decide +kernel
theorem dX4_readAction_107 : decode cX4_readAction 107 = .ok (.iastore, 1) := by decide +kernel
theorem dX4_readAction_108 : decode cX4_readAction 108 = .ok (.aload_n 0, 1) := by decide +kernel
theorem dX4_readAction_109 : decode cX4_readAction 109 = .ok (.getfield 98, 3) := by decide +kernel
theorem dX4_readAction_112 : decode cX4_readAction 112 = .ok (.iload_n 2, 1) := by decide +kernel
theorem dX4_readAction_113 : decode cX4_readAction 113 = .ok (.iaload, 1) := by decide +kernel
theorem dX4_readAction_114 : decode cX4_readAction 114 = .ok (.bipush 72, 2) := by decide +kernel
theorem dX4_readAction_116 : decode cX4_readAction 116 = .ok (.if_icmp .gt 39, 3) := by decide +kernel
theorem dX4_readAction_119 : decode cX4_readAction 119 = .ok (.aload_n 0, 1) := by decide +kernel
theorem dX4_readAction_120 : decode cX4_readAction 120 = .ok (.bipush 64, 2) := by decide +kernel
theorem dX4_readAction_122 : decode cX4_readAction 122 = .ok (.invokevirtual 163, 3) := by decide +kernel
theorem dX4_readAction_125 : decode cX4_readAction 125 = .ok (.ifCond .ne 4, 3) := by decide +kernel
theorem dX4_readAction_128 : decode cX4_readAction 128 = .ok (.return_, 1) := by decide +kernel
theorem dX4_readAction_129 : decode cX4_readAction 129 = .ok (.aload_n 0, 1) := by decide +kernel
theorem dX4_readAction_130 : decode cX4_readAction 130 = .ok (.aload_n 0, 1) := by decide +kernel
theorem dX4_readAction_131 : decode cX4_readAction 131 = .ok (.bipush 49, 2) := by decide +kernel
theorem dX4_readAction_133 : decode cX4_readAction 133 = .ok (.bipush 57, 2) := by decide +kernel
theorem dX4_readAction_135 : decode cX4_readAction 135 = .ok (.invokevirtual 178, 3) := by decide +kernel
theorem dX4_readAction_138 : decode cX4_readAction 138 = .ok (.invokevirtual 167, 3) := by decide +kernel
theorem dX4_readAction_141 : decode cX4_readAction 141 = .ok (.aload_n 0, 1) := by decide +kernel
theorem dX4_readAction_142 : decode cX4_readAction 142 = .ok (.getfield 101, 3) := by decide +kernel
theorem dX4_readAction_145 : decode cX4_readAction 145 = .ok (.iload_n 2, 1) := by decide +kernel
theorem dX4_readAction_146 : decode cX4_readAction 146 = .ok (.aload_n 0, 1) := by decide +kernel
theorem dX4_readAction_147 : decode cX4_readAction 147 = .ok (.invokevirtual 182, 3) := by decide +kernel
theorem dX4_readAction_150 : decode cX4_readAction 150 = .ok (.bipush 48, 2) := by decide +kernel
theorem dX4_readAction_152 : decode cX4_readAction 152 = .ok (.isub, 1) := by decide +kernel
theorem dX4_readAction_153 : decode cX4_readAction 153 = .ok (.iastore, 1) := by decide +kernel
theorem dX4_readAction_154 : decode cX4_readAction 154 = .ok (.return_, 1) := by decide +kernel
theorem dX4_readAction_155 : decode cX4_readAction 155 = .ok (.aload_n 0, 1) := by decide +kernel
theorem dX4_readAction_156 : decode cX4_readAction 156 = .ok (.aload_n 0, 1) := by decide +kernel
theorem dX4_readAction_157 : decode cX4_readAction 157 = .ok (.invokevirtual 159, 3) := by decide +kernel
theorem dX4_readAction_160 : decode cX4_readAction 160 = .ok (.bipush 61, 2) := by decide +kernel
theorem dX4_readAction_162 : decode cX4_readAction 162 = .ok (.if_icmp .eq 30, 3) := by decide +kernel
theorem dX4_readAction_165 : decode cX4_readAction 165 = .ok (.aload_n 0, 1) := by decide +kernel
theorem dX4_readAction_166 : decode cX4_readAction 166 = .ok (.invokevirtual 159, 3) := by decide +kernel
theorem dX4_readAction_169 : decode cX4_readAction 169 = .ok (.bipush 43, 2) := by decide +kernel
theorem dX4_readAction_171 : decode cX4_readAction 171 = .ok (.if_icmp .eq 21, 3) := by decide +kernel
theorem dX4_readAction_174 : decode cX4_readAction 174 = .ok (.aload_n 0, 1) := by decide +kernel
theorem dX4_readAction_175 : decode cX4_readAction 175 = .ok (.invokevirtual 159, 3) := by decide +kernel
theorem dX4_readAction_178 : decode cX4_readAction 178 = .ok (.bipush 45, 2) := by decide +kernel
theorem dX4_readAction_180 : decode cX4_readAction 180 = .ok (.if_icmp .eq 12, 3) := by decide +kernel
theorem dX4_readAction_183 : decode cX4_readAction 183 = .ok (.aload_n 0, 1) := by decide +kernel
theorem dX4_readAction_184 : decode cX4_readAction 184 = .ok (.invokevirtual 159, 3) := by decide +kernel
theorem dX4_readAction_187 : decode cX4_readAction 187 = .ok (.bipush 42, 2) := by decide +kernel
theorem dX4_readAction_189 : decode cX4_readAction 189 = .ok (.if_icmp .ne 7, 3) := by decide +kernel
theorem dX4_readAction_192 : decode cX4_readAction 192 = .ok (.iconst 1, 1) := by decide +kernel
theorem dX4_readAction_193 : decode cX4_readAction 193 = .ok (.goto 4, 3) := by decide +kernel
theorem dX4_readAction_196 : decode cX4_readAction 196 = .ok (.iconst 0, 1) := by decide +kernel
theorem dX4_readAction_197 : decode cX4_readAction 197 = .ok (.invokevirtual 167, 3) := by decide +kernel
theorem dX4_readAction_200 : decode cX4_readAction 200 = .ok (.aload_n 0, 1) := by decide +kernel
theorem dX4_readAction_201 : decode cX4_readAction 201 = .ok (.getfield 101, 3) := by decide +kernel
theorem dX4_readAction_204 : decode cX4_readAction 204 = .ok (.iload_n 2, 1) := by decide +kernel
theorem dX4_readAction_205 : decode cX4_readAction 205 = .ok (.aload_n 0, 1) := by decide +kernel
theorem dX4_readAction_206 : decode cX4_readAction 206 = .ok (.invokevirtual 182, 3) := by decide +kernel
theorem dX4_readAction_209 : decode cX4_readAction 209 = .ok (.iastore, 1) := by decide +kernel
theorem dX4_readAction_210 : decode cX4_readAction 210 = .ok (.aload_n 0, 1) := by decide +kernel
theorem dX4_readAction_211 : decode cX4_readAction 211 = .ok (.invokevirtual 194, 3) := by decide +kernel
theorem dX4_readAction_214 : decode cX4_readAction 214 = .ok (.aload_n 0, 1) := by decide +kernel
theorem dX4_readAction_215 : decode cX4_readAction 215 = .ok (.getfield 104, 3) := by decide +kernel
theorem dX4_readAction_218 : decode cX4_readAction 218 = .ok (.iload_n 2, 1) := by decide +kernel
theorem dX4_readAction_219 : decode cX4_readAction 219 = .ok (.aload_n 0, 1) := by decide +kernel
theorem dX4_readAction_220 : decode cX4_readAction 220 = .ok (.getfield 171, 3) := by decide +kernel
theorem dX4_readAction_223 : decode cX4_readAction 223 = .ok (.iastore, 1) := by decide +kernel
theorem dX4_readAction_224 : decode cX4_readAction 224 = .ok (.aload_n 0, 1) := by decide +kernel
theorem dX4_readAction_225 : decode cX4_readAction 225 = .ok (.getfield 107, 3) := by decide +kernel
theorem dX4_readAction_228 : decode cX4_readAction 228 = .ok (.iload_n 2, 1) := by decide +kernel
theorem dX4_readAction_229 : decode cX4_readAction 229 = .ok (.aload_n 0, 1) := by decide +kernel
theorem dX4_readAction_230 : decode cX4_readAction 230 = .ok (.getfield 174, 3) := by decide +kernel
theorem dX4_readAction_233 : decode cX4_readAction 233 = .ok (.dastore, 1) := by decide +kernel
theorem dX4_readAction_234 : decode cX4_readAction 234 = .ok (.return_, 1) := by decide +kernel
abbrev cX4_readOperand : ByteArray := prog_17_method_9_code
def yX4_readOperand : MethodName := ⟨RX4, "readOperand", "()V"⟩
theorem dX4_readOperand_0 : decode cX4_readOperand 0 = .ok (.aload_n 0, 1) := by decide +kernel
theorem dX4_readOperand_1 : decode cX4_readOperand 1 = .ok (.iconst (-1), 1) := by decide +kernel
theorem dX4_readOperand_2 : decode cX4_readOperand 2 = .ok (.putfield 171, 3) := by decide +kernel
theorem dX4_readOperand_5 : decode cX4_readOperand 5 = .ok (.aload_n 0, 1) := by decide +kernel
theorem dX4_readOperand_6 : decode cX4_readOperand 6 = .ok (.dconst 0, 1) := by decide +kernel
theorem dX4_readOperand_7 : decode cX4_readOperand 7 = .ok (.putfield 174, 3) := by decide +kernel
theorem dX4_readOperand_10 : decode cX4_readOperand 10 = .ok (.aload_n 0, 1) := by decide +kernel
theorem dX4_readOperand_11 : decode cX4_readOperand 11 = .ok (.bipush 117, 2) := by decide +kernel
theorem dX4_readOperand_13 : decode cX4_readOperand 13 = .ok (.bipush 122, 2) := by decide +kernel
theorem dX4_readOperand_15 : decode cX4_readOperand 15 = .ok (.invokevirtual 178, 3) := by decide +kernel
theorem dX4_readOperand_18 : decode cX4_readOperand 18 = .ok (.ifCond .eq 15, 3) := by decide +kernel
theorem dX4_readOperand_21 : decode cX4_readOperand 21 = .ok (.aload_n 0, 1) := by decide +kernel
theorem dX4_readOperand_22 : decode cX4_readOperand 22 = .ok (.aload_n 0, 1) := by decide +kernel
theorem dX4_readOperand_23 : decode cX4_readOperand 23 = .ok (.invokevirtual 182, 3) := by decide +kernel
theorem dX4_readOperand_26 : decode cX4_readOperand 26 = .ok (.bipush 117, 2) := by decide +kernel
theorem dX4_readOperand_28 : decode cX4_readOperand 28 = .ok (.isub, 1) := by decide +kernel
theorem dX4_readOperand_29 : decode cX4_readOperand 29 = .ok (.putfield 171, 3) := by decide +kernel
theorem dX4_readOperand_32 : decode cX4_readOperand 32 = .ok (.return_, 1) := by decide +kernel
theorem dX4_readOperand_33 : decode cX4_readOperand 33 = .ok (.aload_n 0, 1) := by decide +kernel
theorem dX4_readOperand_34 : decode cX4_readOperand 34 = .ok (.aload_n 0, 1) := by decide +kernel
theorem dX4_readOperand_35 : decode cX4_readOperand 35 = .ok (.bipush 48, 2) := by decide +kernel
theorem dX4_readOperand_37 : decode cX4_readOperand 37 = .ok (.bipush 57, 2) := by decide +kernel
theorem dX4_readOperand_39 : decode cX4_readOperand 39 = .ok (.invokevirtual 178, 3) := by decide +kernel
theorem dX4_readOperand_42 : decode cX4_readOperand 42 = .ok (.invokevirtual 167, 3) := by decide +kernel
theorem dX4_readOperand_45 : decode cX4_readOperand 45 = .ok (.iconst 0, 1) := by decide +kernel
theorem dX4_readOperand_46 : decode cX4_readOperand 46 = .ok (.istore_n 1, 1) := by decide +kernel
theorem dX4_readOperand_47 : decode cX4_readOperand 47 = .ok (.iconst 0, 1) := by decide +kernel
theorem dX4_readOperand_48 : decode cX4_readOperand 48 = .ok (.istore_n 2, 1) := by decide +kernel
theorem dX4_readOperand_49 : decode cX4_readOperand 49 = .ok (.iload_n 2, 1) := by decide +kernel
theorem dX4_readOperand_50 : decode cX4_readOperand 50 = .ok (.iconst 3, 1) := by decide +kernel
theorem dX4_readOperand_51 : decode cX4_readOperand 51 = .ok (.if_icmp .ge 33, 3) := by decide +kernel
theorem dX4_readOperand_54 : decode cX4_readOperand 54 = .ok (.aload_n 0, 1) := by decide +kernel
theorem dX4_readOperand_55 : decode cX4_readOperand 55 = .ok (.bipush 48, 2) := by decide +kernel
theorem dX4_readOperand_57 : decode cX4_readOperand 57 = .ok (.bipush 57, 2) := by decide +kernel
theorem dX4_readOperand_59 : decode cX4_readOperand 59 = .ok (.invokevirtual 178, 3) := by decide +kernel
theorem dX4_readOperand_62 : decode cX4_readOperand 62 = .ok (.ifCond .eq 22, 3) := by decide +kernel
theorem dX4_readOperand_65 : decode cX4_readOperand 65 = .ok (.bipush 10, 2) := by decide +kernel
theorem dX4_readOperand_67 : decode cX4_readOperand 67 = .ok (.iload_n 1, 1) := by decide +kernel
theorem dX4_readOperand_68 : decode cX4_readOperand 68 = .ok (.imul, 1) := by decide +kernel
theorem dX4_readOperand_69 : decode cX4_readOperand 69 = .ok (.aload_n 0, 1) := by decide +kernel
theorem dX4_readOperand_70 : decode cX4_readOperand 70 = .ok (.invokevirtual 182, 3) := by decide +kernel
theorem dX4_readOperand_73 : decode cX4_readOperand 73 = .ok (.iadd, 1) := by decide +kernel
theorem dX4_readOperand_74 : decode cX4_readOperand 74 = .ok (.bipush 48, 2) := by decide +kernel
theorem dX4_readOperand_76 : decode cX4_readOperand 76 = .ok (.isub, 1) := by decide +kernel
theorem dX4_readOperand_77 : decode cX4_readOperand 77 = .ok (.istore_n 1, 1) := by decide +kernel
theorem dX4_readOperand_78 : decode cX4_readOperand 78 = .ok (.iinc 2 1, 3) := by decide +kernel
theorem dX4_readOperand_81 : decode cX4_readOperand 81 = .ok (.goto (-32), 3) := by decide +kernel
theorem dX4_readOperand_84 : decode cX4_readOperand 84 = .ok (.aload_n 0, 1) := by decide +kernel
theorem dX4_readOperand_85 : decode cX4_readOperand 85 = .ok (.iload_n 1, 1) := by decide +kernel
theorem dX4_readOperand_86 : decode cX4_readOperand 86 = .ok (.i2d, 1) := by decide +kernel
theorem dX4_readOperand_87 : decode cX4_readOperand 87 = .ok (.putfield 174, 3) := by decide +kernel
theorem dX4_readOperand_90 : decode cX4_readOperand 90 = .ok (.aload_n 0, 1) := by decide +kernel
theorem dX4_readOperand_91 : decode cX4_readOperand 91 = .ok (.bipush 46, 2) := by decide +kernel
theorem dX4_readOperand_93 : decode cX4_readOperand 93 = .ok (.invokevirtual 163, 3) := by decide +kernel
theorem dX4_readOperand_96 : decode cX4_readOperand 96 = .ok (.ifCond .ne 4, 3) := by decide +kernel
theorem dX4_readOperand_99 : decode cX4_readOperand 99 = .ok (.return_, 1) := by decide +kernel
theorem dX4_readOperand_100 : decode cX4_readOperand 100 = .ok (.aload_n 0, 1) := by decide +kernel
theorem dX4_readOperand_101 : decode cX4_readOperand 101 = .ok (.aload_n 0, 1) := by decide +kernel
theorem dX4_readOperand_102 : decode cX4_readOperand 102 = .ok (.bipush 48, 2) := by decide +kernel
theorem dX4_readOperand_104 : decode cX4_readOperand 104 = .ok (.bipush 57, 2) := by decide +kernel
theorem dX4_readOperand_106 : decode cX4_readOperand 106 = .ok (.invokevirtual 178, 3) := by decide +kernel
theorem dX4_readOperand_109 : decode cX4_readOperand 109 = .ok (.invokevirtual 167, 3) := by decide +kernel
theorem dX4_readOperand_112 : decode cX4_readOperand 112 = .ok (.aload_n 0, 1) := by decide +kernel
theorem dX4_readOperand_113 : decode cX4_readOperand 113 = .ok (.getfield 149, 3) := by decide +kernel
theorem dX4_readOperand_116 : decode cX4_readOperand 116 = .ok (.ifCond .ne 24, 3) := by decide +kernel
theorem dX4_readOperand_119 : decode cX4_readOperand 119 = .ok (.aload_n 0, 1) := by decide +kernel
theorem dX4_readOperand_120 : decode cX4_readOperand 120 = .ok (.bipush 10, 2) := by decide +kernel
theorem dX4_readOperand_122 : decode cX4_readOperand 122 = .ok (.iload_n 1, 1) := by decide +kernel
theorem dX4_readOperand_123 : decode cX4_readOperand 123 = .ok (.imul, 1) := by decide +kernel
theorem dX4_readOperand_124 : decode cX4_readOperand 124 = .ok (.aload_n 0, 1) := by decide +kernel
theorem dX4_readOperand_125 : decode cX4_readOperand 125 = .ok (.invokevirtual 182, 3) := by decide +kernel
theorem dX4_readOperand_128 : decode cX4_readOperand 128 = .ok (.iadd, 1) := by decide +kernel
theorem dX4_readOperand_129 : decode cX4_readOperand 129 = .ok (.bipush 48, 2) := by decide +kernel
theorem dX4_readOperand_131 : decode cX4_readOperand 131 = .ok (.isub, 1) := by decide +kernel
theorem dX4_readOperand_132 : decode cX4_readOperand 132 = .ok (.i2d, 1) := by decide +kernel
theorem dX4_readOperand_133 : decode cX4_readOperand 133 = .ok (.ldc2_w 185, 3) := by decide +kernel
theorem dX4_readOperand_136 : decode cX4_readOperand 136 = .ok (.ddiv, 1) := by decide +kernel
theorem dX4_readOperand_137 : decode cX4_readOperand 137 = .ok (.putfield 174, 3) := by decide +kernel
theorem dX4_readOperand_140 : decode cX4_readOperand 140 = .ok (.return_, 1) := by decide +kernel
abbrev cX4_readTransition : ByteArray := prog_17_method_14_code
def yX4_readTransition : MethodName := ⟨RX4, "readTransition", "(I)V"⟩
theorem dX4_readTransition_0 : decode cX4_readTransition 0 = .ok (.aload_n 0, 1) := by decide +kernel
theorem dX4_readTransition_1 : decode cX4_readTransition 1 = .ok (.aload_n 0, 1) := by decide +kernel
theorem dX4_readTransition_2 : decode cX4_readTransition 2 = .ok (.invokevirtual 159, 3) := by decide +kernel
theorem dX4_readTransition_5 : decode cX4_readTransition 5 = .ok (.bipush 46, 2) := by decide +kernel
theorem dX4_readTransition_7 : decode cX4_readTransition 7 = .ok (.if_icmp .eq 14, 3) := by decide +kernel
theorem dX4_readTransition_10 : decode cX4_readTransition 10 = .ok (.aload_n 0, 1) := by decide +kernel
theorem dX4_readTransition_11 : decode cX4_readTransition 11 = .ok (.bipush 65, 2) := by decide +kernel
theorem dX4_readTransition_13 : decode cX4_readTransition 13 = .ok (.bipush 72, 2) := by decide +kernel
theorem dX4_readTransition_15 : decode cX4_readTransition 15 = .ok (.invokevirtual 178, 3) := by decide +kernel
theorem dX4_readTransition_18 : decode cX4_readTransition 18 = .ok (.ifCond .eq 21, 3) := by decide +kernel
theorem dX4_readTransition_21 : decode cX4_readTransition 21 = .ok (.aload_n 0, 1) := by decide +kernel
theorem dX4_readTransition_22 : decode cX4_readTransition 22 = .ok (.getfield 24, 3) := by decide +kernel
theorem dX4_readTransition_25 : decode cX4_readTransition 25 = .ok (.aload_n 0, 1) := by decide +kernel
theorem dX4_readTransition_26 : decode cX4_readTransition 26 = .ok (.getfield 187, 3) := by decide +kernel
theorem dX4_readTransition_29 : decode cX4_readTransition 29 = .ok (.iaload, 1) := by decide +kernel
theorem dX4_readTransition_30 : decode cX4_readTransition 30 = .ok (.bipush 24, 2) := by decide +kernel
theorem dX4_readTransition_32 : decode cX4_readTransition 32 = .ok (.if_icmp .ge 7, 3) := by decide +kernel
theorem dX4_readTransition_35 : decode cX4_readTransition 35 = .ok (.iconst 1, 1) := by decide +kernel
theorem dX4_readTransition_36 : decode cX4_readTransition 36 = .ok (.goto 4, 3) := by decide +kernel
theorem dX4_readTransition_39 : decode cX4_readTransition 39 = .ok (.iconst 0, 1) := by decide +kernel
theorem dX4_readTransition_40 : decode cX4_readTransition 40 = .ok (.invokevirtual 167, 3) := by decide +kernel
theorem dX4_readTransition_43 : decode cX4_readTransition 43 = .ok (.bipush 24, 2) := by decide +kernel
theorem dX4_readTransition_45 : decode cX4_readTransition 45 = .ok (.aload_n 0, 1) := by decide +kernel
theorem dX4_readTransition_46 : decode cX4_readTransition 46 = .ok (.getfield 187, 3) := by decide +kernel
theorem dX4_readTransition_49 : decode cX4_readTransition 49 = .ok (.imul, 1) := by decide +kernel
theorem dX4_readTransition_50 : decode cX4_readTransition 50 = .ok (.aload_n 0, 1) := by decide +kernel
theorem dX4_readTransition_51 : decode cX4_readTransition 51 = .ok (.getfield 24, 3) := by decide +kernel
theorem dX4_readTransition_54 : decode cX4_readTransition 54 = .ok (.aload_n 0, 1) := by decide +kernel
theorem dX4_readTransition_55 : decode cX4_readTransition 55 = .ok (.getfield 187, 3) := by decide +kernel
theorem dX4_readTransition_58 : decode cX4_readTransition 58 = .ok (.iaload, 1) := by decide +kernel
theorem dX4_readTransition_59 : decode cX4_readTransition 59 = .ok (.iadd, 1) := by decide +kernel
theorem dX4_readTransition_60 : decode cX4_readTransition 60 = .ok (.istore_n 2, 1) := by decide +kernel
theorem dX4_readTransition_61 : decode cX4_readTransition 61 = .ok (.aload_n 0, 1) := by decide +kernel
theorem dX4_readTransition_62 : decode cX4_readTransition 62 = .ok (.getfield 149, 3) := by decide +kernel
theorem dX4_readTransition_65 : decode cX4_readTransition 65 = .ok (.ifCond .eq 4, 3) := by decide +kernel
theorem dX4_readTransition_68 : decode cX4_readTransition 68 = .ok (.return_, 1) := by decide +kernel
theorem dX4_readTransition_69 : decode cX4_readTransition 69 = .ok (.aload_n 0, 1) := by decide +kernel
theorem dX4_readTransition_70 : decode cX4_readTransition 70 = .ok (.getfield 24, 3) := by decide +kernel
theorem dX4_readTransition_73 : decode cX4_readTransition 73 = .ok (.aload_n 0, 1) := by decide +kernel
theorem dX4_readTransition_74 : decode cX4_readTransition 74 = .ok (.getfield 187, 3) := by decide +kernel
theorem dX4_readTransition_77 : decode cX4_readTransition 77 = .ok (.iaload, 1) := by decide +kernel
theorem dX4_readTransition_78 : decode cX4_readTransition 78 = .ok (.istore_n 3, 1) := by decide +kernel
theorem dX4_readTransition_79 : decode cX4_readTransition 79 = .ok (.aload_n 0, 1) := by decide +kernel
theorem dX4_readTransition_80 : decode cX4_readTransition 80 = .ok (.getfield 24, 3) := by decide +kernel
theorem dX4_readTransition_83 : decode cX4_readTransition 83 = .ok (.aload_n 0, 1) := by decide +kernel
theorem dX4_readTransition_84 : decode cX4_readTransition 84 = .ok (.getfield 187, 3) := by decide +kernel
theorem dX4_readTransition_87 : decode cX4_readTransition 87 = .ok (.dup2, 1) := by decide +kernel
theorem dX4_readTransition_88 : decode cX4_readTransition 88 = .ok (.iaload, 1) := by decide +kernel
theorem dX4_readTransition_89 : decode cX4_readTransition 89 = .ok (.iconst 1, 1) := by decide +kernel
theorem dX4_readTransition_90 : decode cX4_readTransition 90 = .ok (.iadd, 1) := by decide +kernel
theorem dX4_readTransition_91 : decode cX4_readTransition 91 = .ok (.iastore, 1) := by decide +kernel
theorem dX4_readTransition_92 : decode cX4_readTransition 92 = .ok (.aload_n 0, 1) := by decide +kernel
theorem dX4_readTransition_93 : decode cX4_readTransition 93 = .ok (.getfield 48, 3) := by decide +kernel
theorem dX4_readTransition_96 : decode cX4_readTransition 96 = .ok (.iload_n 2, 1) := by decide +kernel
theorem dX4_readTransition_97 : decode cX4_readTransition 97 = .ok (.iload_n 1, 1) := by decide +kernel
theorem dX4_readTransition_98 : decode cX4_readTransition 98 = .ok (.iastore, 1) := by decide +kernel
theorem dX4_readTransition_99 : decode cX4_readTransition 99 = .ok (.aload_n 0, 1) := by decide +kernel
theorem dX4_readTransition_100 : decode cX4_readTransition 100 = .ok (.getfield 51, 3) := by decide +kernel
theorem dX4_readTransition_103 : decode cX4_readTransition 103 = .ok (.iload_n 2, 1) := by decide +kernel
theorem dX4_readTransition_104 : decode cX4_readTransition 104 = .ok (.aload_n 0, 1) := by decide +kernel
theorem dX4_readTransition_105 : decode cX4_readTransition 105 = .ok (.invokevirtual 182, 3) := by decide +kernel
theorem dX4_readTransition_108 : decode cX4_readTransition 108 = .ok (.iastore, 1) := by decide +kernel
theorem dX4_readTransition_109 : decode cX4_readTransition 109 = .ok (.aload_n 0, 1) := by decide +kernel
theorem dX4_readTransition_110 : decode cX4_readTransition 110 = .ok (.getfield 54, 3) := by decide +kernel
theorem dX4_readTransition_113 : decode cX4_readTransition 113 = .ok (.iload_n 2, 1) := by decide +kernel
theorem dX4_readTransition_114 : decode cX4_readTransition 114 = .ok (.bipush 64, 2) := by decide +kernel
theorem dX4_readTransition_116 : decode cX4_readTransition 116 = .ok (.aload_n 0, 1) := by decide +kernel
theorem dX4_readTransition_117 : decode cX4_readTransition 117 = .ok (.getfield 187, 3) := by decide +kernel
theorem dX4_readTransition_120 : decode cX4_readTransition 120 = .ok (.imul, 1) := by decide +kernel
theorem dX4_readTransition_121 : decode cX4_readTransition 121 = .ok (.aload_n 0, 1) := by decide +kernel
theorem dX4_readTransition_122 : decode cX4_readTransition 122 = .ok (.getfield 27, 3) := by decide +kernel
theorem dX4_readTransition_125 : decode cX4_readTransition 125 = .ok (.aload_n 0, 1) := by decide +kernel
theorem dX4_readTransition_126 : decode cX4_readTransition 126 = .ok (.getfield 187, 3) := by decide +kernel
theorem dX4_readTransition_129 : decode cX4_readTransition 129 = .ok (.iaload, 1) := by decide +kernel
