set_option maxRecDepth 100000
theorem dX4_aim_18 : decode cX4_aim 18 = .ok (.iload_n 1, 1) := by decide +kernel
theorem dX4_aim_19 : decode cX4_aim 19 = .ok (.iconst (-1), 1) := by decide +kernel
theorem dX4_aim_20 : decode cX4_aim 20 = .ok (.iastore, 1) := by decide +kernel
theorem dX4_aim_21 : decode cX4_aim 21 = .ok (.aload_n 0, 1) := by decide +kernel
theorem dX4_aim_22 : decode cX4_aim 22 = .ok (.getfield 140, 3) := by decide +kernel
theorem dX4_aim_25 : decode cX4_aim 25 = .ok (.iload_n 1, 1) := by decide +kernel
theorem dX4_aim_26 : decode cX4_aim 26 = .ok (.iconst 0, 1) := by decide +kernel
theorem dX4_aim_27 : decode cX4_aim 27 = .ok (.iastore, 1) := by decide +kernel
theorem dX4_aim_28 : decode cX4_aim 28 = .ok (.aload_n 0, 1) := by decide +kernel
theorem dX4_aim_29 : decode cX4_aim 29 = .ok (.getfield 60, 3) := by decide +kernel
theorem dX4_aim_32 : decode cX4_aim 32 = .ok (.iload_n 2, 1) := by decide +kernel
theorem dX4_aim_33 : decode cX4_aim 33 = .ok (.iaload, 1) := by decide +kernel
theorem dX4_aim_34 : decode cX4_aim 34 = .ok (.ifCond .ge 4, 3) := by decide +kernel
theorem dX4_aim_37 : decode cX4_aim 37 = .ok (.return_, 1) := by decide +kernel
theorem dX4_aim_38 : decode cX4_aim 38 = .ok (.aload_n 0, 1) := by decide +kernel
theorem dX4_aim_39 : decode cX4_aim 39 = .ok (.getfield 63, 3) := by decide +kernel
theorem dX4_aim_42 : decode cX4_aim 42 = .ok (.aload_n 0, 1) := by decide +kernel
theorem dX4_aim_43 : decode cX4_aim 43 = .ok (.getfield 60, 3) := by decide +kernel
theorem dX4_aim_46 : decode cX4_aim 46 = .ok (.iload_n 2, 1) := by decide +kernel
theorem dX4_aim_47 : decode cX4_aim 47 = .ok (.iaload, 1) := by decide +kernel
theorem dX4_aim_48 : decode cX4_aim 48 = .ok (.iaload, 1) := by decide +kernel
theorem dX4_aim_49 : decode cX4_aim 49 = .ok (.istore_n 3, 1) := by decide +kernel
theorem dX4_aim_50 : decode cX4_aim 50 = .ok (.aload_n 0, 1) := by decide +kernel
theorem dX4_aim_51 : decode cX4_aim 51 = .ok (.getfield 69, 3) := by decide +kernel
theorem dX4_aim_54 : decode cX4_aim 54 = .ok (.aload_n 0, 1) := by decide +kernel
theorem dX4_aim_55 : decode cX4_aim 55 = .ok (.getfield 60, 3) := by decide +kernel
theorem dX4_aim_58 : decode cX4_aim 58 = .ok (.iload_n 2, 1) := by decide +kernel
theorem dX4_aim_59 : decode cX4_aim 59 = .ok (.iaload, 1) := by decide +kernel
theorem dX4_aim_60 : decode cX4_aim 60 = .ok (.iaload, 1) := by decide +kernel
theorem dX4_aim_61 : decode cX4_aim 61 = .ok (.istore 4, 2) := by decide +kernel
theorem dX4_aim_63 : decode cX4_aim 63 = .ok (.aload_n 0, 1) := by decide +kernel
theorem dX4_aim_64 : decode cX4_aim 64 = .ok (.getfield 134, 3) := by decide +kernel
theorem dX4_aim_67 : decode cX4_aim 67 = .ok (.iload_n 1, 1) := by decide +kernel
theorem dX4_aim_68 : decode cX4_aim 68 = .ok (.iload 4, 2) := by decide +kernel
theorem dX4_aim_70 : decode cX4_aim 70 = .ok (.iconst 1, 1) := by decide +kernel
theorem dX4_aim_71 : decode cX4_aim 71 = .ok (.if_icmp .ne 12, 3) := by decide +kernel
theorem dX4_aim_74 : decode cX4_aim 74 = .ok (.aload_n 0, 1) := by decide +kernel
theorem dX4_aim_75 : decode cX4_aim 75 = .ok (.getfield 113, 3) := by decide +kernel
theorem dX4_aim_78 : decode cX4_aim 78 = .ok (.iload_n 3, 1) := by decide +kernel
theorem dX4_aim_79 : decode cX4_aim 79 = .ok (.iaload, 1) := by decide +kernel
theorem dX4_aim_80 : decode cX4_aim 80 = .ok (.goto 19, 3) := by decide +kernel
theorem dX4_aim_83 : decode cX4_aim 83 = .ok (.iload 4, 2) := by decide +kernel
theorem dX4_aim_85 : decode cX4_aim 85 = .ok (.iconst 2, 1) := by decide +kernel
theorem dX4_aim_86 : decode cX4_aim 86 = .ok (.if_icmp .ne 12, 3) := by decide +kernel
theorem dX4_aim_89 : decode cX4_aim 89 = .ok (.aload_n 0, 1) := by decide +kernel
theorem dX4_aim_90 : decode cX4_aim 90 = .ok (.getfield 116, 3) := by decide +kernel
theorem dX4_aim_93 : decode cX4_aim 93 = .ok (.iload_n 3, 1) := by decide +kernel
theorem dX4_aim_94 : decode cX4_aim 94 = .ok (.iaload, 1) := by decide +kernel
theorem dX4_aim_95 : decode cX4_aim 95 = .ok (.goto 4, 3) := by decide +kernel
theorem dX4_aim_98 : decode cX4_aim 98 = .ok (.iconst 0, 1) := by decide +kernel
theorem dX4_aim_99 : decode cX4_aim 99 = .ok (.iastore, 1) := by decide +kernel
theorem dX4_aim_100 : decode cX4_aim 100 = .ok (.aload_n 0, 1) := by decide +kernel
theorem dX4_aim_101 : decode cX4_aim 101 = .ok (.getfield 134, 3) := by decide +kernel
theorem dX4_aim_104 : decode cX4_aim 104 = .ok (.iload_n 1, 1) := by decide +kernel
theorem dX4_aim_105 : decode cX4_aim 105 = .ok (.iaload, 1) := by decide +kernel
theorem dX4_aim_106 : decode cX4_aim 106 = .ok (.ifCond .ne 12, 3) := by decide +kernel
theorem dX4_aim_109 : decode cX4_aim 109 = .ok (.aload_n 0, 1) := by decide +kernel
theorem dX4_aim_110 : decode cX4_aim 110 = .ok (.getfield 134, 3) := by decide +kernel
theorem dX4_aim_113 : decode cX4_aim 113 = .ok (.iload_n 1, 1) := by decide +kernel
theorem dX4_aim_114 : decode cX4_aim 114 = .ok (.iconst 1, 1) := by decide +kernel
theorem dX4_aim_115 : decode cX4_aim 115 = .ok (.iload_n 3, 1) := by decide +kernel
theorem dX4_aim_116 : decode cX4_aim 116 = .ok (.ishl, 1) := by decide +kernel
theorem dX4_aim_117 : decode cX4_aim 117 = .ok (.iastore, 1) := by decide +kernel
theorem dX4_aim_118 : decode cX4_aim 118 = .ok (.aload_n 0, 1) := by decide +kernel
theorem dX4_aim_119 : decode cX4_aim 119 = .ok (.getfield 134, 3) := by decide +kernel
theorem dX4_aim_122 : decode cX4_aim 122 = .ok (.iload_n 1, 1) := by decide +kernel
theorem dX4_aim_123 : decode cX4_aim 123 = .ok (.iaload, 1) := by decide +kernel
theorem dX4_aim_124 : decode cX4_aim 124 = .ok (.iconst 1, 1) := by decide +kernel
theorem dX4_aim_125 : decode cX4_aim 125 = .ok (.aload_n 0, 1) := by decide +kernel
theorem dX4_aim_126 : decode cX4_aim 126 = .ok (.getfield 48, 3) := by decide +kernel
theorem dX4_aim_129 : decode cX4_aim 129 = .ok (.iload_n 2, 1) := by decide +kernel
theorem dX4_aim_130 : decode cX4_aim 130 = .ok (.iaload, 1) := by decide +kernel
theorem dX4_aim_131 : decode cX4_aim 131 = .ok (.ishl, 1) := by decide +kernel
theorem dX4_aim_132 : decode cX4_aim 132 = .ok (.ior, 1) := by decide +kernel
theorem dX4_aim_133 : decode cX4_aim 133 = .ok (.istore 5, 2) := by decide +kernel
theorem dX4_aim_135 : decode cX4_aim 135 = .ok (.aload_n 0, 1) := by decide +kernel
theorem dX4_aim_136 : decode cX4_aim 136 = .ok (.aload_n 0, 1) := by decide +kernel
theorem dX4_aim_137 : decode cX4_aim 137 = .ok (.getfield 48, 3) := by decide +kernel
theorem dX4_aim_140 : decode cX4_aim 140 = .ok (.iload_n 2, 1) := by decide +kernel
theorem dX4_aim_141 : decode cX4_aim 141 = .ok (.iaload, 1) := by decide +kernel
theorem dX4_aim_142 : decode cX4_aim 142 = .ok (.invokevirtual 264, 3) := by decide +kernel
theorem dX4_aim_145 : decode cX4_aim 145 = .ok (.istore 6, 2) := by decide +kernel
theorem dX4_aim_147 : decode cX4_aim 147 = .ok (.iload 6, 2) := by decide +kernel
theorem dX4_aim_149 : decode cX4_aim 149 = .ok (.ifCond .lt 38, 3) := by decide +kernel
theorem dX4_aim_152 : decode cX4_aim 152 = .ok (.aload_n 0, 1) := by decide +kernel
theorem dX4_aim_153 : decode cX4_aim 153 = .ok (.iload 6, 2) := by decide +kernel
theorem dX4_aim_155 : decode cX4_aim 155 = .ok (.invokevirtual 258, 3) := by decide +kernel
theorem dX4_aim_158 : decode cX4_aim 158 = .ok (.iconst 1, 1) := by decide +kernel
theorem dX4_aim_159 : decode cX4_aim 159 = .ok (.if_icmp .ne 17, 3) := by decide +kernel
theorem dX4_aim_162 : decode cX4_aim 162 = .ok (.aload_n 0, 1) := by decide +kernel
theorem dX4_aim_163 : decode cX4_aim 163 = .ok (.iload 6, 2) := by decide +kernel
theorem dX4_aim_165 : decode cX4_aim 165 = .ok (.invokevirtual 261, 3) := by decide +kernel
theorem dX4_aim_168 : decode cX4_aim 168 = .ok (.iload 5, 2) := by decide +kernel
theorem dX4_aim_170 : decode cX4_aim 170 = .ok (.iand, 1) := by decide +kernel
theorem dX4_aim_171 : decode cX4_aim 171 = .ok (.iload 5, 2) := by decide +kernel
theorem dX4_aim_173 : decode cX4_aim 173 = .ok (.if_icmp .eq 14, 3) := by decide +kernel
theorem dX4_aim_176 : decode cX4_aim 176 = .ok (.aload_n 0, 1) := by decide +kernel
theorem dX4_aim_177 : decode cX4_aim 177 = .ok (.iload 6, 2) := by decide +kernel
theorem dX4_aim_179 : decode cX4_aim 179 = .ok (.invokevirtual 264, 3) := by decide +kernel
theorem dX4_aim_182 : decode cX4_aim 182 = .ok (.istore 6, 2) := by decide +kernel
theorem dX4_aim_184 : decode cX4_aim 184 = .ok (.goto (-37), 3) := by decide +kernel
theorem dX4_aim_187 : decode cX4_aim 187 = .ok (.aload_n 0, 1) := by decide +kernel
theorem dX4_aim_188 : decode cX4_aim 188 = .ok (.getfield 137, 3) := by decide +kernel
theorem dX4_aim_191 : decode cX4_aim 191 = .ok (.iload_n 1, 1) := by decide +kernel
theorem dX4_aim_192 : decode cX4_aim 192 = .ok (.iload 6, 2) := by decide +kernel
theorem dX4_aim_194 : decode cX4_aim 194 = .ok (.iastore, 1) := by decide +kernel
theorem dX4_aim_195 : decode cX4_aim 195 = .ok (.aload_n 0, 1) := by decide +kernel
theorem dX4_aim_196 : decode cX4_aim 196 = .ok (.getfield 140, 3) := by decide +kernel
theorem dX4_aim_199 : decode cX4_aim 199 = .ok (.iload_n 1, 1) := by decide +kernel
theorem dX4_aim_200 : decode cX4_aim 200 = .ok (.iload 6, 2) := by decide +kernel
theorem dX4_aim_202 : decode cX4_aim 202 = .ok (.ifCond .ge 10, 3) := by decide +kernel
theorem dX4_aim_205 : decode cX4_aim 205 = .ok (.aload_n 0, 1) := by decide +kernel
theorem dX4_aim_206 : decode cX4_aim 206 = .ok (.getfield 237, 3) := by decide +kernel
theorem dX4_aim_209 : decode cX4_aim 209 = .ok (.goto 14, 3) := by decide +kernel
theorem dX4_aim_212 : decode cX4_aim 212 = .ok (.aload_n 0, 1) := by decide +kernel
theorem dX4_aim_213 : decode cX4_aim 213 = .ok (.getfield 237, 3) := by decide +kernel
theorem dX4_aim_216 : decode cX4_aim 216 = .ok (.aload_n 0, 1) := by decide +kernel
theorem dX4_aim_217 : decode cX4_aim 217 = .ok (.iload 6, 2) := by decide +kernel
theorem dX4_aim_219 : decode cX4_aim 219 = .ok (.invokevirtual 261, 3) := by decide +kernel
theorem dX4_aim_222 : decode cX4_aim 222 = .ok (.iand, 1) := by decide +kernel
theorem dX4_aim_223 : decode cX4_aim 223 = .ok (.iastore, 1) := by decide +kernel
theorem dX4_aim_224 : decode cX4_aim 224 = .ok (.return_, 1) := by decide +kernel
abbrev cX4_stays : ByteArray := prog_17_method_37_code
def yX4_stays : MethodName := ⟨RX4, "stays", "(I)Z"⟩
theorem dX4_stays_0 : decode cX4_stays 0 = .ok (.iconst 0, 1) := by decide +kernel
theorem dX4_stays_1 : decode cX4_stays 1 = .ok (.istore_n 2, 1) := by decide +kernel
theorem dX4_stays_2 : decode cX4_stays 2 = .ok (.iload_n 2, 1) := by decide +kernel
theorem dX4_stays_3 : decode cX4_stays 3 = .ok (.iload_n 1, 1) := by decide +kernel
theorem dX4_stays_4 : decode cX4_stays 4 = .ok (.if_icmp .ge 60, 3) := by decide +kernel
theorem dX4_stays_7 : decode cX4_stays 7 = .ok (.aload_n 0, 1) := by decide +kernel
theorem dX4_stays_8 : decode cX4_stays 8 = .ok (.getfield 140, 3) := by decide +kernel
theorem dX4_stays_11 : decode cX4_stays 11 = .ok (.iload_n 2, 1) := by decide +kernel
theorem dX4_stays_12 : decode cX4_stays 12 = .ok (.iaload, 1) := by decide +kernel
theorem dX4_stays_13 : decode cX4_stays 13 = .ok (.aload_n 0, 1) := by decide +kernel
theorem dX4_stays_14 : decode cX4_stays 14 = .ok (.getfield 140, 3) := by decide +kernel
theorem dX4_stays_17 : decode cX4_stays 17 = .ok (.iload_n 1, 1) := by decide +kernel
theorem dX4_stays_18 : decode cX4_stays 18 = .ok (.iaload, 1) := by decide +kernel
theorem dX4_stays_19 : decode cX4_stays 19 = .ok (.iand, 1) := by decide +kernel
theorem dX4_stays_20 : decode cX4_stays 20 = .ok (.ifCond .eq 38, 3) := by decide +kernel
theorem dX4_stays_23 : decode cX4_stays 23 = .ok (.aload_n 0, 1) := by decide +kernel
theorem dX4_stays_24 : decode cX4_stays 24 = .ok (.aload_n 0, 1) := by decide +kernel
theorem dX4_stays_25 : decode cX4_stays 25 = .ok (.aload_n 0, 1) := by decide +kernel
theorem dX4_stays_26 : decode cX4_stays 26 = .ok (.getfield 48, 3) := by decide +kernel
theorem dX4_stays_29 : decode cX4_stays 29 = .ok (.aload_n 0, 1) := by decide +kernel
theorem dX4_stays_30 : decode cX4_stays 30 = .ok (.getfield 131, 3) := by decide +kernel
theorem dX4_stays_33 : decode cX4_stays 33 = .ok (.iload_n 2, 1) := by decide +kernel
theorem dX4_stays_34 : decode cX4_stays 34 = .ok (.iaload, 1) := by decide +kernel
theorem dX4_stays_35 : decode cX4_stays 35 = .ok (.iaload, 1) := by decide +kernel
theorem dX4_stays_36 : decode cX4_stays 36 = .ok (.invokevirtual 261, 3) := by decide +kernel
theorem dX4_stays_39 : decode cX4_stays 39 = .ok (.aload_n 0, 1) := by decide +kernel
theorem dX4_stays_40 : decode cX4_stays 40 = .ok (.getfield 48, 3) := by decide +kernel
theorem dX4_stays_43 : decode cX4_stays 43 = .ok (.aload_n 0, 1) := by decide +kernel
theorem dX4_stays_44 : decode cX4_stays 44 = .ok (.getfield 131, 3) := by decide +kernel
theorem dX4_stays_47 : decode cX4_stays 47 = .ok (.iload_n 1, 1) := by decide +kernel
theorem dX4_stays_48 : decode cX4_stays 48 = .ok (.iaload, 1) := by decide +kernel
theorem dX4_stays_49 : decode cX4_stays 49 = .ok (.iaload, 1) := by decide +kernel
theorem dX4_stays_50 : decode cX4_stays 50 = .ok (.invokevirtual 277, 3) := by decide +kernel
theorem dX4_stays_53 : decode cX4_stays 53 = .ok (.ifCond .ne 5, 3) := by decide +kernel
theorem dX4_stays_56 : decode cX4_stays 56 = .ok (.iconst 0, 1) := by decide +kernel
theorem dX4_stays_57 : decode cX4_stays 57 = .ok (.ireturn, 1) := by decide +kernel
theorem dX4_stays_58 : decode cX4_stays 58 = .ok (.iinc 2 1, 3) := by decide +kernel
theorem dX4_stays_61 : decode cX4_stays 61 = .ok (.goto (-59), 3) := by decide +kernel
theorem dX4_stays_64 : decode cX4_stays 64 = .ok (.iconst 1, 1) := by decide +kernel
theorem dX4_stays_65 : decode cX4_stays 65 = .ok (.ireturn, 1) := by decide +kernel
abbrev cX4_drop : ByteArray := prog_17_method_36_code
def yX4_drop : MethodName := ⟨RX4, "drop", "(I)V"⟩
theorem dX4_drop_0 : decode cX4_drop 0 = .ok (.aload_n 0, 1) := by decide +kernel
theorem dX4_drop_1 : decode cX4_drop 1 = .ok (.dup, 1) := by decide +kernel
theorem dX4_drop_2 : decode cX4_drop 2 = .ok (.getfield 288, 3) := by decide +kernel
theorem dX4_drop_5 : decode cX4_drop 5 = .ok (.iconst 1, 1) := by decide +kernel
theorem dX4_drop_6 : decode cX4_drop 6 = .ok (.isub, 1) := by decide +kernel
theorem dX4_drop_7 : decode cX4_drop 7 = .ok (.putfield 288, 3) := by decide +kernel
theorem dX4_drop_10 : decode cX4_drop 10 = .ok (.iload_n 1, 1) := by decide +kernel
theorem dX4_drop_11 : decode cX4_drop 11 = .ok (.istore_n 2, 1) := by decide +kernel
theorem dX4_drop_12 : decode cX4_drop 12 = .ok (.iload_n 2, 1) := by decide +kernel
theorem dX4_drop_13 : decode cX4_drop 13 = .ok (.aload_n 0, 1) := by decide +kernel
theorem dX4_drop_14 : decode cX4_drop 14 = .ok (.getfield 288, 3) := by decide +kernel
theorem dX4_drop_17 : decode cX4_drop 17 = .ok (.if_icmp .ge 65, 3) := by decide +kernel
theorem dX4_drop_20 : decode cX4_drop 20 = .ok (.aload_n 0, 1) := by decide +kernel
theorem dX4_drop_21 : decode cX4_drop 21 = .ok (.getfield 131, 3) := by decide +kernel
theorem dX4_drop_24 : decode cX4_drop 24 = .ok (.iload_n 2, 1) := by decide +kernel
theorem dX4_drop_25 : decode cX4_drop 25 = .ok (.aload_n 0, 1) := by decide +kernel
theorem dX4_drop_26 : decode cX4_drop 26 = .ok (.getfield 131, 3) := by decide +kernel
theorem dX4_drop_29 : decode cX4_drop 29 = .ok (.iload_n 2, 1) := by decide +kernel
theorem dX4_drop_30 : decode cX4_drop 30 = .ok (.iconst 1, 1) := by decide +kernel
theorem dX4_drop_31 : decode cX4_drop 31 = .ok (.iadd, 1) := by decide +kernel
theorem dX4_drop_32 : decode cX4_drop 32 = .ok (.iaload, 1) := by decide +kernel
theorem dX4_drop_33 : decode cX4_drop 33 = .ok (.iastore, 1) := by decide +kernel
theorem dX4_drop_34 : decode cX4_drop 34 = .ok (.aload_n 0, 1) := by decide +kernel
theorem dX4_drop_35 : decode cX4_drop 35 = .ok (.getfield 134, 3) := by decide +kernel
theorem dX4_drop_38 : decode cX4_drop 38 = .ok (.iload_n 2, 1) := by decide +kernel
theorem dX4_drop_39 : decode cX4_drop 39 = .ok (.aload_n 0, 1) := by decide +kernel
theorem dX4_drop_40 : decode cX4_drop 40 = .ok (.getfield 134, 3) := by decide +kernel
theorem dX4_drop_43 : decode cX4_drop 43 = .ok (.iload_n 2, 1) := by decide +kernel
theorem dX4_drop_44 : decode cX4_drop 44 = .ok (.iconst 1, 1) := by decide +kernel
theorem dX4_drop_45 : decode cX4_drop 45 = .ok (.iadd, 1) := by decide +kernel
theorem dX4_drop_46 : decode cX4_drop 46 = .ok (.iaload, 1) := by decide +kernel
theorem dX4_drop_47 : decode cX4_drop 47 = .ok (.iastore, 1) := by decide +kernel
theorem dX4_drop_48 : decode cX4_drop 48 = .ok (.aload_n 0, 1) := by decide +kernel
theorem dX4_drop_49 : decode cX4_drop 49 = .ok (.getfield 137, 3) := by decide +kernel
theorem dX4_drop_52 : decode cX4_drop 52 = .ok (.iload_n 2, 1) := by decide +kernel
theorem dX4_drop_53 : decode cX4_drop 53 = .ok (.aload_n 0, 1) := by decide +kernel
theorem dX4_drop_54 : decode cX4_drop 54 = .ok (.getfield 137, 3) := by decide +kernel
theorem dX4_drop_57 : decode cX4_drop 57 = .ok (.iload_n 2, 1) := by decide +kernel
theorem dX4_drop_58 : decode cX4_drop 58 = .ok (.iconst 1, 1) := by decide +kernel
theorem dX4_drop_59 : decode cX4_drop 59 = .ok (.iadd, 1) := by decide +kernel
theorem dX4_drop_60 : decode cX4_drop 60 = .ok (.iaload, 1) := by decide +kernel
theorem dX4_drop_61 : decode cX4_drop 61 = .ok (.iastore, 1) := by decide +kernel
theorem dX4_drop_62 : decode cX4_drop 62 = .ok (.aload_n 0, 1) := by decide +kernel
theorem dX4_drop_63 : decode cX4_drop 63 = .ok (.getfield 140, 3) := by decide +kernel
theorem dX4_drop_66 : decode cX4_drop 66 = .ok (.iload_n 2, 1) := by decide +kernel
theorem dX4_drop_67 : decode cX4_drop 67 = .ok (.aload_n 0, 1) := by decide +kernel
theorem dX4_drop_68 : decode cX4_drop 68 = .ok (.getfield 140, 3) := by decide +kernel
theorem dX4_drop_71 : decode cX4_drop 71 = .ok (.iload_n 2, 1) := by decide +kernel
theorem dX4_drop_72 : decode cX4_drop 72 = .ok (.iconst 1, 1) := by decide +kernel
theorem dX4_drop_73 : decode cX4_drop 73 = .ok (.iadd, 1) := by decide +kernel
theorem dX4_drop_74 : decode cX4_drop 74 = .ok (.iaload, 1) := by decide +kernel
theorem dX4_drop_75 : decode cX4_drop 75 = .ok (.iastore, 1) := by decide +kernel
theorem dX4_drop_76 : decode cX4_drop 76 = .ok (.iinc 2 1, 3) := by decide +kernel
theorem dX4_drop_79 : decode cX4_drop 79 = .ok (.goto (-67), 3) := by decide +kernel
theorem dX4_drop_82 : decode cX4_drop 82 = .ok (.return_, 1) := by decide +kernel
abbrev cX4_step : ByteArray := prog_17_method_42_code
def yX4_step : MethodName := ⟨RX4, "step", "()V"⟩
theorem dX4_step_0 : decode cX4_step 0 = .ok (.aload_n 0, 1) := by decide +kernel
theorem dX4_step_1 : decode cX4_step 1 = .ok (.getfield 309, 3) := by decide +kernel
theorem dX4_step_4 : decode cX4_step 4 = .ok (.bipush 30, 2) := by decide +kernel
theorem dX4_step_6 : decode cX4_step 6 = .ok (.if_icmp .ne 19, 3) := by decide +kernel
theorem dX4_step_9 : decode cX4_step 9 = .ok (.aload_n 0, 1) := by decide +kernel
theorem dX4_step_10 : decode cX4_step 10 = .ok (.iconst 1, 1) := by decide +kernel
theorem dX4_step_11 : decode cX4_step 11 = .ok (.putfield 312, 3) := by decide +kernel
theorem dX4_step_14 : decode cX4_step 14 = .ok (.aload_n 0, 1) := by decide +kernel
theorem dX4_step_15 : decode cX4_step 15 = .ok (.iconst 0, 1) := by decide +kernel
theorem dX4_step_16 : decode cX4_step 16 = .ok (.putfield 234, 3) := by decide +kernel
theorem dX4_step_19 : decode cX4_step 19 = .ok (.aload_n 0, 1) := by decide +kernel
theorem dX4_step_20 : decode cX4_step 20 = .ok (.iconst 0, 1) := by decide +kernel
theorem dX4_step_21 : decode cX4_step 21 = .ok (.putfield 237, 3) := by decide +kernel
theorem dX4_step_24 : decode cX4_step 24 = .ok (.return_, 1) := by decide +kernel
theorem dX4_step_25 : decode cX4_step 25 = .ok (.aload_n 0, 1) := by decide +kernel
theorem dX4_step_26 : decode cX4_step 26 = .ok (.dup, 1) := by decide +kernel
theorem dX4_step_27 : decode cX4_step 27 = .ok (.getfield 309, 3) := by decide +kernel
theorem dX4_step_30 : decode cX4_step 30 = .ok (.iconst 1, 1) := by decide +kernel
theorem dX4_step_31 : decode cX4_step 31 = .ok (.iadd, 1) := by decide +kernel
theorem dX4_step_32 : decode cX4_step 32 = .ok (.putfield 309, 3) := by decide +kernel
theorem dX4_step_35 : decode cX4_step 35 = .ok (.iconst 0, 1) := by decide +kernel
theorem dX4_step_36 : decode cX4_step 36 = .ok (.istore_n 1, 1) := by decide +kernel
theorem dX4_step_37 : decode cX4_step 37 = .ok (.iconst 0, 1) := by decide +kernel
theorem dX4_step_38 : decode cX4_step 38 = .ok (.istore_n 2, 1) := by decide +kernel
theorem dX4_step_39 : decode cX4_step 39 = .ok (.iload_n 2, 1) := by decide +kernel
theorem dX4_step_40 : decode cX4_step 40 = .ok (.aload_n 0, 1) := by decide +kernel
theorem dX4_step_41 : decode cX4_step 41 = .ok (.getfield 288, 3) := by decide +kernel
theorem dX4_step_44 : decode cX4_step 44 = .ok (.if_icmp .ge 18, 3) := by decide +kernel
theorem dX4_step_47 : decode cX4_step 47 = .ok (.iload_n 1, 1) := by decide +kernel
theorem dX4_step_48 : decode cX4_step 48 = .ok (.aload_n 0, 1) := by decide +kernel
theorem dX4_step_49 : decode cX4_step 49 = .ok (.getfield 140, 3) := by decide +kernel
theorem dX4_step_52 : decode cX4_step 52 = .ok (.iload_n 2, 1) := by decide +kernel
theorem dX4_step_53 : decode cX4_step 53 = .ok (.iaload, 1) := by decide +kernel
theorem dX4_step_54 : decode cX4_step 54 = .ok (.ior, 1) := by decide +kernel
theorem dX4_step_55 : decode cX4_step 55 = .ok (.istore_n 1, 1) := by decide +kernel
theorem dX4_step_56 : decode cX4_step 56 = .ok (.iinc 2 1, 3) := by decide +kernel
theorem dX4_step_59 : decode cX4_step 59 = .ok (.goto (-20), 3) := by decide +kernel
theorem dX4_step_62 : decode cX4_step 62 = .ok (.aload_n 0, 1) := by decide +kernel
theorem dX4_step_63 : decode cX4_step 63 = .ok (.iload_n 1, 1) := by decide +kernel
theorem dX4_step_64 : decode cX4_step 64 = .ok (.invokevirtual 315, 3) := by decide +kernel
theorem dX4_step_67 : decode cX4_step 67 = .ok (.iconst 0, 1) := by decide +kernel
theorem dX4_step_68 : decode cX4_step 68 = .ok (.istore_n 2, 1) := by decide +kernel
theorem dX4_step_69 : decode cX4_step 69 = .ok (.iload_n 2, 1) := by decide +kernel
theorem dX4_step_70 : decode cX4_step 70 = .ok (.aload_n 0, 1) := by decide +kernel
theorem dX4_step_71 : decode cX4_step 71 = .ok (.getfield 288, 3) := by decide +kernel
theorem dX4_step_74 : decode cX4_step 74 = .ok (.if_icmp .ge 27, 3) := by decide +kernel
theorem dX4_step_77 : decode cX4_step 77 = .ok (.aload_n 0, 1) := by decide +kernel
theorem dX4_step_78 : decode cX4_step 78 = .ok (.aload_n 0, 1) := by decide +kernel
theorem dX4_step_79 : decode cX4_step 79 = .ok (.getfield 131, 3) := by decide +kernel
theorem dX4_step_82 : decode cX4_step 82 = .ok (.iload_n 2, 1) := by decide +kernel
theorem dX4_step_83 : decode cX4_step 83 = .ok (.iaload, 1) := by decide +kernel
theorem dX4_step_84 : decode cX4_step 84 = .ok (.bipush 24, 2) := by decide +kernel
theorem dX4_step_86 : decode cX4_step 86 = .ok (.aload_n 0, 1) := by decide +kernel
theorem dX4_step_87 : decode cX4_step 87 = .ok (.getfield 17, 3) := by decide +kernel
theorem dX4_step_90 : decode cX4_step 90 = .ok (.imul, 1) := by decide +kernel
theorem dX4_step_91 : decode cX4_step 91 = .ok (.isub, 1) := by decide +kernel
theorem dX4_step_92 : decode cX4_step 92 = .ok (.invokevirtual 303, 3) := by decide +kernel
theorem dX4_step_95 : decode cX4_step 95 = .ok (.iinc 2 1, 3) := by decide +kernel
theorem dX4_step_98 : decode cX4_step 98 = .ok (.goto (-29), 3) := by decide +kernel
theorem dX4_step_101 : decode cX4_step 101 = .ok (.aload_n 0, 1) := by decide +kernel
theorem dX4_step_102 : decode cX4_step 102 = .ok (.iconst 0, 1) := by decide +kernel
theorem dX4_step_103 : decode cX4_step 103 = .ok (.putfield 255, 3) := by decide +kernel
theorem dX4_step_106 : decode cX4_step 106 = .ok (.iconst 0, 1) := by decide +kernel
theorem dX4_step_107 : decode cX4_step 107 = .ok (.istore_n 2, 1) := by decide +kernel
theorem dX4_step_108 : decode cX4_step 108 = .ok (.iload_n 2, 1) := by decide +kernel
theorem dX4_step_109 : decode cX4_step 109 = .ok (.aload_n 0, 1) := by decide +kernel
theorem dX4_step_110 : decode cX4_step 110 = .ok (.getfield 288, 3) := by decide +kernel
theorem dX4_step_113 : decode cX4_step 113 = .ok (.if_icmp .ge 78, 3) := by decide +kernel
theorem dX4_step_116 : decode cX4_step 116 = .ok (.aload_n 0, 1) := by decide +kernel
theorem dX4_step_117 : decode cX4_step 117 = .ok (.dup, 1) := by decide +kernel
theorem dX4_step_118 : decode cX4_step 118 = .ok (.getfield 255, 3) := by decide +kernel
theorem dX4_step_121 : decode cX4_step 121 = .ok (.aload_n 0, 1) := by decide +kernel
theorem dX4_step_122 : decode cX4_step 122 = .ok (.getfield 134, 3) := by decide +kernel
theorem dX4_step_125 : decode cX4_step 125 = .ok (.iload_n 2, 1) := by decide +kernel
theorem dX4_step_126 : decode cX4_step 126 = .ok (.iaload, 1) := by decide +kernel
theorem dX4_step_127 : decode cX4_step 127 = .ok (.ior, 1) := by decide +kernel
theorem dX4_step_128 : decode cX4_step 128 = .ok (.putfield 255, 3) := by decide +kernel
theorem dX4_step_131 : decode cX4_step 131 = .ok (.iconst 0, 1) := by decide +kernel
theorem dX4_step_132 : decode cX4_step 132 = .ok (.istore_n 3, 1) := by decide +kernel
theorem dX4_step_133 : decode cX4_step 133 = .ok (.iload_n 3, 1) := by decide +kernel
theorem dX4_step_134 : decode cX4_step 134 = .ok (.aload_n 0, 1) := by decide +kernel
theorem dX4_step_135 : decode cX4_step 135 = .ok (.getfield 20, 3) := by decide +kernel
theorem dX4_step_138 : decode cX4_step 138 = .ok (.aload_n 0, 1) := by decide +kernel
theorem dX4_step_139 : decode cX4_step 139 = .ok (.getfield 17, 3) := by decide +kernel
theorem dX4_step_142 : decode cX4_step 142 = .ok (.iaload, 1) := by decide +kernel
theorem dX4_step_143 : decode cX4_step 143 = .ok (.if_icmp .ge 42, 3) := by decide +kernel
theorem dX4_step_146 : decode cX4_step 146 = .ok (.aload_n 0, 1) := by decide +kernel
theorem dX4_step_147 : decode cX4_step 147 = .ok (.aload_n 0, 1) := by decide +kernel
theorem dX4_step_148 : decode cX4_step 148 = .ok (.getfield 134, 3) := by decide +kernel
theorem dX4_step_151 : decode cX4_step 151 = .ok (.iload_n 2, 1) := by decide +kernel
theorem dX4_step_152 : decode cX4_step 152 = .ok (.iaload, 1) := by decide +kernel
theorem dX4_step_153 : decode cX4_step 153 = .ok (.iload_n 3, 1) := by decide +kernel
theorem dX4_step_154 : decode cX4_step 154 = .ok (.invokevirtual 277, 3) := by decide +kernel
theorem dX4_step_157 : decode cX4_step 157 = .ok (.ifCond .ne 6, 3) := by decide +kernel
theorem dX4_step_160 : decode cX4_step 160 = .ok (.goto 19, 3) := by decide +kernel
theorem dX4_step_163 : decode cX4_step 163 = .ok (.aload_n 0, 1) := by decide +kernel
theorem dX4_step_164 : decode cX4_step 164 = .ok (.iload_n 3, 1) := by decide +kernel
theorem dX4_step_165 : decode cX4_step 165 = .ok (.invokevirtual 267, 3) := by decide +kernel
theorem dX4_step_168 : decode cX4_step 168 = .ok (.aload_n 0, 1) := by decide +kernel
theorem dX4_step_169 : decode cX4_step 169 = .ok (.iload_n 3, 1) := by decide +kernel
theorem dX4_step_170 : decode cX4_step 170 = .ok (.aload_n 0, 1) := by decide +kernel
theorem dX4_step_171 : decode cX4_step 171 = .ok (.getfield 137, 3) := by decide +kernel
theorem dX4_step_174 : decode cX4_step 174 = .ok (.iload_n 2, 1) := by decide +kernel
theorem dX4_step_175 : decode cX4_step 175 = .ok (.iaload, 1) := by decide +kernel
theorem dX4_step_176 : decode cX4_step 176 = .ok (.invokevirtual 318, 3) := by decide +kernel
theorem dX4_step_179 : decode cX4_step 179 = .ok (.iinc 3 1, 3) := by decide +kernel
theorem dX4_step_182 : decode cX4_step 182 = .ok (.goto (-49), 3) := by decide +kernel
theorem dX4_step_185 : decode cX4_step 185 = .ok (.iinc 2 1, 3) := by decide +kernel
theorem dX4_step_188 : decode cX4_step 188 = .ok (.goto (-80), 3) := by decide +kernel
theorem dX4_step_191 : decode cX4_step 191 = .ok (.aload_n 0, 1) := by decide +kernel
theorem dX4_step_192 : decode cX4_step 192 = .ok (.aload_n 0, 1) := by decide +kernel
theorem dX4_step_193 : decode cX4_step 193 = .ok (.getfield 255, 3) := by decide +kernel
theorem dX4_step_196 : decode cX4_step 196 = .ok (.invokevirtual 322, 3) := by decide +kernel
theorem dX4_step_199 : decode cX4_step 199 = .ok (.return_, 1) := by decide +kernel
abbrev cX4_leave : ByteArray := prog_17_method_40_code
def yX4_leave : MethodName := ⟨RX4, "leave", "(I)V"⟩
theorem dX4_leave_0 : decode cX4_leave 0 = .ok (.iconst 0, 1) := by decide +kernel
theorem dX4_leave_1 : decode cX4_leave 1 = .ok (.istore_n 2, 1) := by decide +kernel
theorem dX4_leave_2 : decode cX4_leave 2 = .ok (.iload_n 2, 1) := by decide +kernel
theorem dX4_leave_3 : decode cX4_leave 3 = .ok (.aload_n 0, 1) := by decide +kernel
theorem dX4_leave_4 : decode cX4_leave 4 = .ok (.getfield 20, 3) := by decide +kernel
theorem dX4_leave_7 : decode cX4_leave 7 = .ok (.aload_n 0, 1) := by decide +kernel
theorem dX4_leave_8 : decode cX4_leave 8 = .ok (.getfield 17, 3) := by decide +kernel
theorem dX4_leave_11 : decode cX4_leave 11 = .ok (.iaload, 1) := by decide +kernel
theorem dX4_leave_12 : decode cX4_leave 12 = .ok (.if_icmp .ge 128, 3) := by decide +kernel
theorem dX4_leave_15 : decode cX4_leave 15 = .ok (.aload_n 0, 1) := by decide +kernel
theorem dX4_leave_16 : decode cX4_leave 16 = .ok (.iload_n 1, 1) := by decide +kernel
theorem dX4_leave_17 : decode cX4_leave 17 = .ok (.iload_n 2, 1) := by decide +kernel
theorem dX4_leave_18 : decode cX4_leave 18 = .ok (.invokevirtual 277, 3) := by decide +kernel
theorem dX4_leave_21 : decode cX4_leave 21 = .ok (.ifCond .eq 113, 3) := by decide +kernel
theorem dX4_leave_24 : decode cX4_leave 24 = .ok (.aload_n 0, 1) := by decide +kernel
theorem dX4_leave_25 : decode cX4_leave 25 = .ok (.iload_n 2, 1) := by decide +kernel
theorem dX4_leave_26 : decode cX4_leave 26 = .ok (.invokevirtual 258, 3) := by decide +kernel
theorem dX4_leave_29 : decode cX4_leave 29 = .ok (.ifCond .ne 6, 3) := by decide +kernel
theorem dX4_leave_32 : decode cX4_leave 32 = .ok (.goto 102, 3) := by decide +kernel
theorem dX4_leave_35 : decode cX4_leave 35 = .ok (.aload_n 0, 1) := by decide +kernel
theorem dX4_leave_36 : decode cX4_leave 36 = .ok (.getfield 113, 3) := by decide +kernel
theorem dX4_leave_39 : decode cX4_leave 39 = .ok (.iload_n 2, 1) := by decide +kernel
theorem dX4_leave_40 : decode cX4_leave 40 = .ok (.iconst 0, 1) := by decide +kernel
theorem dX4_leave_41 : decode cX4_leave 41 = .ok (.iastore, 1) := by decide +kernel
theorem dX4_leave_42 : decode cX4_leave 42 = .ok (.aload_n 0, 1) := by decide +kernel
theorem dX4_leave_43 : decode cX4_leave 43 = .ok (.getfield 116, 3) := by decide +kernel
theorem dX4_leave_46 : decode cX4_leave 46 = .ok (.iload_n 2, 1) := by decide +kernel
theorem dX4_leave_47 : decode cX4_leave 47 = .ok (.iconst 0, 1) := by decide +kernel
theorem dX4_leave_48 : decode cX4_leave 48 = .ok (.iastore, 1) := by decide +kernel
theorem dX4_leave_49 : decode cX4_leave 49 = .ok (.iload_n 2, 1) := by decide +kernel
theorem dX4_leave_50 : decode cX4_leave 50 = .ok (.iconst 1, 1) := by decide +kernel
theorem dX4_leave_51 : decode cX4_leave 51 = .ok (.iadd, 1) := by decide +kernel
theorem dX4_leave_52 : decode cX4_leave 52 = .ok (.istore_n 3, 1) := by decide +kernel
theorem dX4_leave_53 : decode cX4_leave 53 = .ok (.iload_n 3, 1) := by decide +kernel
theorem dX4_leave_54 : decode cX4_leave 54 = .ok (.aload_n 0, 1) := by decide +kernel
theorem dX4_leave_55 : decode cX4_leave 55 = .ok (.getfield 20, 3) := by decide +kernel
theorem dX4_leave_58 : decode cX4_leave 58 = .ok (.aload_n 0, 1) := by decide +kernel
theorem dX4_leave_59 : decode cX4_leave 59 = .ok (.getfield 17, 3) := by decide +kernel
theorem dX4_leave_62 : decode cX4_leave 62 = .ok (.iaload, 1) := by decide +kernel
theorem dX4_leave_63 : decode cX4_leave 63 = .ok (.if_icmp .ge 71, 3) := by decide +kernel
theorem dX4_leave_66 : decode cX4_leave 66 = .ok (.aload_n 0, 1) := by decide +kernel
theorem dX4_leave_67 : decode cX4_leave 67 = .ok (.aload_n 0, 1) := by decide +kernel
theorem dX4_leave_68 : decode cX4_leave 68 = .ok (.getfield 237, 3) := by decide +kernel
theorem dX4_leave_71 : decode cX4_leave 71 = .ok (.aload_n 0, 1) := by decide +kernel
theorem dX4_leave_72 : decode cX4_leave 72 = .ok (.iload_n 2, 1) := by decide +kernel
theorem dX4_leave_73 : decode cX4_leave 73 = .ok (.invokevirtual 261, 3) := by decide +kernel
theorem dX4_leave_76 : decode cX4_leave 76 = .ok (.iand, 1) := by decide +kernel
theorem dX4_leave_77 : decode cX4_leave 77 = .ok (.iload_n 3, 1) := by decide +kernel
theorem dX4_leave_78 : decode cX4_leave 78 = .ok (.invokevirtual 277, 3) := by decide +kernel
theorem dX4_leave_81 : decode cX4_leave 81 = .ok (.ifCond .ne 6, 3) := by decide +kernel
theorem dX4_leave_84 : decode cX4_leave 84 = .ok (.goto 44, 3) := by decide +kernel
theorem dX4_leave_87 : decode cX4_leave 87 = .ok (.aload_n 0, 1) := by decide +kernel
theorem dX4_leave_88 : decode cX4_leave 88 = .ok (.iload_n 3, 1) := by decide +kernel
theorem dX4_leave_89 : decode cX4_leave 89 = .ok (.invokevirtual 264, 3) := by decide +kernel
theorem dX4_leave_92 : decode cX4_leave 92 = .ok (.iload_n 2, 1) := by decide +kernel
theorem dX4_leave_93 : decode cX4_leave 93 = .ok (.if_icmp .ne 15, 3) := by decide +kernel
theorem dX4_leave_96 : decode cX4_leave 96 = .ok (.aload_n 0, 1) := by decide +kernel
theorem dX4_leave_97 : decode cX4_leave 97 = .ok (.getfield 113, 3) := by decide +kernel
theorem dX4_leave_100 : decode cX4_leave 100 = .ok (.iload_n 2, 1) := by decide +kernel
theorem dX4_leave_101 : decode cX4_leave 101 = .ok (.dup2, 1) := by decide +kernel
theorem dX4_leave_102 : decode cX4_leave 102 = .ok (.iaload, 1) := by decide +kernel
theorem dX4_leave_103 : decode cX4_leave 103 = .ok (.iconst 1, 1) := by decide +kernel
theorem dX4_leave_104 : decode cX4_leave 104 = .ok (.iload_n 3, 1) := by decide +kernel
theorem dX4_leave_105 : decode cX4_leave 105 = .ok (.ishl, 1) := by decide +kernel
theorem dX4_leave_106 : decode cX4_leave 106 = .ok (.ior, 1) := by decide +kernel
theorem dX4_leave_107 : decode cX4_leave 107 = .ok (.iastore, 1) := by decide +kernel
theorem dX4_leave_108 : decode cX4_leave 108 = .ok (.aload_n 0, 1) := by decide +kernel
theorem dX4_leave_109 : decode cX4_leave 109 = .ok (.iload_n 3, 1) := by decide +kernel
theorem dX4_leave_110 : decode cX4_leave 110 = .ok (.invokevirtual 258, 3) := by decide +kernel
theorem dX4_leave_113 : decode cX4_leave 113 = .ok (.ifCond .ne 15, 3) := by decide +kernel
theorem dX4_leave_116 : decode cX4_leave 116 = .ok (.aload_n 0, 1) := by decide +kernel
theorem dX4_leave_117 : decode cX4_leave 117 = .ok (.getfield 116, 3) := by decide +kernel
theorem dX4_leave_120 : decode cX4_leave 120 = .ok (.iload_n 2, 1) := by decide +kernel
theorem dX4_leave_121 : decode cX4_leave 121 = .ok (.dup2, 1) := by decide +kernel
theorem dX4_leave_122 : decode cX4_leave 122 = .ok (.iaload, 1) := by decide +kernel
theorem dX4_leave_123 : decode cX4_leave 123 = .ok (.iconst 1, 1) := by decide +kernel
theorem dX4_leave_124 : decode cX4_leave 124 = .ok (.iload_n 3, 1) := by decide +kernel
theorem dX4_leave_125 : decode cX4_leave 125 = .ok (.ishl, 1) := by decide +kernel
theorem dX4_leave_126 : decode cX4_leave 126 = .ok (.ior, 1) := by decide +kernel
theorem dX4_leave_127 : decode cX4_leave 127 = .ok (.iastore, 1) := by decide +kernel
theorem dX4_leave_128 : decode cX4_leave 128 = .ok (.iinc 3 1, 3) := by decide +kernel
theorem dX4_leave_131 : decode cX4_leave 131 = .ok (.goto (-78), 3) := by decide +kernel
theorem dX4_leave_134 : decode cX4_leave 134 = .ok (.iinc 2 1, 3) := by decide +kernel
theorem dX4_leave_137 : decode cX4_leave 137 = .ok (.goto (-135), 3) := by decide +kernel
theorem dX4_leave_140 : decode cX4_leave 140 = .ok (.aload_n 0, 1) := by decide +kernel
theorem dX4_leave_141 : decode cX4_leave 141 = .ok (.getfield 20, 3) := by decide +kernel
theorem dX4_leave_144 : decode cX4_leave 144 = .ok (.aload_n 0, 1) := by decide +kernel
theorem dX4_leave_145 : decode cX4_leave 145 = .ok (.getfield 17, 3) := by decide +kernel
theorem dX4_leave_148 : decode cX4_leave 148 = .ok (.iaload, 1) := by decide +kernel
theorem dX4_leave_149 : decode cX4_leave 149 = .ok (.iconst 1, 1) := by decide +kernel
theorem dX4_leave_150 : decode cX4_leave 150 = .ok (.isub, 1) := by decide +kernel
theorem dX4_leave_151 : decode cX4_leave 151 = .ok (.istore_n 2, 1) := by decide +kernel
theorem dX4_leave_152 : decode cX4_leave 152 = .ok (.iload_n 2, 1) := by decide +kernel
theorem dX4_leave_153 : decode cX4_leave 153 = .ok (.ifCond .lt 51, 3) := by decide +kernel
theorem dX4_leave_156 : decode cX4_leave 156 = .ok (.aload_n 0, 1) := by decide +kernel
theorem dX4_leave_157 : decode cX4_leave 157 = .ok (.iload_n 1, 1) := by decide +kernel
theorem dX4_leave_158 : decode cX4_leave 158 = .ok (.iload_n 2, 1) := by decide +kernel
theorem dX4_leave_159 : decode cX4_leave 159 = .ok (.invokevirtual 277, 3) := by decide +kernel
theorem dX4_leave_162 : decode cX4_leave 162 = .ok (.ifCond .ne 6, 3) := by decide +kernel
theorem dX4_leave_165 : decode cX4_leave 165 = .ok (.goto 33, 3) := by decide +kernel
theorem dX4_leave_168 : decode cX4_leave 168 = .ok (.aload_n 0, 1) := by decide +kernel
theorem dX4_leave_169 : decode cX4_leave 169 = .ok (.sipush 200, 3) := by decide +kernel
theorem dX4_leave_172 : decode cX4_leave 172 = .ok (.iload_n 2, 1) := by decide +kernel
theorem dX4_leave_173 : decode cX4_leave 173 = .ok (.iadd, 1) := by decide +kernel
theorem dX4_leave_174 : decode cX4_leave 174 = .ok (.invokevirtual 303, 3) := by decide +kernel
theorem dX4_leave_177 : decode cX4_leave 177 = .ok (.aload_n 0, 1) := by decide +kernel
theorem dX4_leave_178 : decode cX4_leave 178 = .ok (.dup, 1) := by decide +kernel
theorem dX4_leave_179 : decode cX4_leave 179 = .ok (.getfield 237, 3) := by decide +kernel
theorem dX4_leave_182 : decode cX4_leave 182 = .ok (.iconst 1, 1) := by decide +kernel
theorem dX4_leave_183 : decode cX4_leave 183 = .ok (.iload_n 2, 1) := by decide +kernel
theorem dX4_leave_184 : decode cX4_leave 184 = .ok (.ishl, 1) := by decide +kernel
theorem dX4_leave_185 : decode cX4_leave 185 = .ok (.iconst (-1), 1) := by decide +kernel
theorem dX4_leave_186 : decode cX4_leave 186 = .ok (.ixor, 1) := by decide +kernel
theorem dX4_leave_187 : decode cX4_leave 187 = .ok (.iand, 1) := by decide +kernel
theorem dX4_leave_188 : decode cX4_leave 188 = .ok (.putfield 237, 3) := by decide +kernel
theorem dX4_leave_191 : decode cX4_leave 191 = .ok (.aload_n 0, 1) := by decide +kernel
theorem dX4_leave_192 : decode cX4_leave 192 = .ok (.iconst (-1), 1) := by decide +kernel
theorem dX4_leave_193 : decode cX4_leave 193 = .ok (.iload_n 2, 1) := by decide +kernel
theorem dX4_leave_194 : decode cX4_leave 194 = .ok (.isub, 1) := by decide +kernel
theorem dX4_leave_195 : decode cX4_leave 195 = .ok (.invokevirtual 306, 3) := by decide +kernel
theorem dX4_leave_198 : decode cX4_leave 198 = .ok (.iinc 2 (-1), 3) := by decide +kernel
theorem dX4_leave_201 : decode cX4_leave 201 = .ok (.goto (-49), 3) := by decide +kernel
theorem dX4_leave_204 : decode cX4_leave 204 = .ok (.return_, 1) := by decide +kernel
abbrev cX4_up : ByteArray := prog_17_method_29_code
def yX4_up : MethodName := ⟨RX4, "up", "(II)V"⟩
theorem dX4_up_0 : decode cX4_up 0 = .ok (.aload_n 0, 1) := by decide +kernel
theorem dX4_up_1 : decode cX4_up 1 = .ok (.iload_n 1, 1) := by decide +kernel
theorem dX4_up_2 : decode cX4_up 2 = .ok (.invokevirtual 264, 3) := by decide +kernel
theorem dX4_up_5 : decode cX4_up 5 = .ok (.istore_n 3, 1) := by decide +kernel
theorem dX4_up_6 : decode cX4_up 6 = .ok (.iload_n 3, 1) := by decide +kernel
theorem dX4_up_7 : decode cX4_up 7 = .ok (.ifCond .lt 101, 3) := by decide +kernel
theorem dX4_up_10 : decode cX4_up 10 = .ok (.iload_n 3, 1) := by decide +kernel
theorem dX4_up_11 : decode cX4_up 11 = .ok (.iload_n 2, 1) := by decide +kernel
theorem dX4_up_12 : decode cX4_up 12 = .ok (.if_icmp .eq 96, 3) := by decide +kernel
theorem dX4_up_15 : decode cX4_up 15 = .ok (.aload_n 0, 1) := by decide +kernel
theorem dX4_up_16 : decode cX4_up 16 = .ok (.dup, 1) := by decide +kernel
theorem dX4_up_17 : decode cX4_up 17 = .ok (.getfield 255, 3) := by decide +kernel
theorem dX4_up_20 : decode cX4_up 20 = .ok (.iconst 1, 1) := by decide +kernel
theorem dX4_up_21 : decode cX4_up 21 = .ok (.iload_n 3, 1) := by decide +kernel
theorem dX4_up_22 : decode cX4_up 22 = .ok (.ishl, 1) := by decide +kernel
theorem dX4_up_23 : decode cX4_up 23 = .ok (.ior, 1) := by decide +kernel
theorem dX4_up_24 : decode cX4_up 24 = .ok (.putfield 255, 3) := by decide +kernel
theorem dX4_up_27 : decode cX4_up 27 = .ok (.aload_n 0, 1) := by decide +kernel
theorem dX4_up_28 : decode cX4_up 28 = .ok (.iload_n 3, 1) := by decide +kernel
theorem dX4_up_29 : decode cX4_up 29 = .ok (.invokevirtual 258, 3) := by decide +kernel
theorem dX4_up_32 : decode cX4_up 32 = .ok (.iconst 2, 1) := by decide +kernel
theorem dX4_up_33 : decode cX4_up 33 = .ok (.if_icmp .eq 6, 3) := by decide +kernel
theorem dX4_up_36 : decode cX4_up 36 = .ok (.goto 63, 3) := by decide +kernel
theorem dX4_up_39 : decode cX4_up 39 = .ok (.iload_n 3, 1) := by decide +kernel
theorem dX4_up_40 : decode cX4_up 40 = .ok (.iconst 1, 1) := by decide +kernel
theorem dX4_up_41 : decode cX4_up 41 = .ok (.iadd, 1) := by decide +kernel
theorem dX4_up_42 : decode cX4_up 42 = .ok (.istore 4, 2) := by decide +kernel
theorem dX4_up_44 : decode cX4_up 44 = .ok (.iload 4, 2) := by decide +kernel
theorem dX4_up_46 : decode cX4_up 46 = .ok (.aload_n 0, 1) := by decide +kernel
theorem dX4_up_47 : decode cX4_up 47 = .ok (.getfield 20, 3) := by decide +kernel
theorem dX4_up_50 : decode cX4_up 50 = .ok (.aload_n 0, 1) := by decide +kernel
theorem dX4_up_51 : decode cX4_up 51 = .ok (.getfield 17, 3) := by decide +kernel
theorem dX4_up_54 : decode cX4_up 54 = .ok (.iaload, 1) := by decide +kernel
theorem dX4_up_55 : decode cX4_up 55 = .ok (.if_icmp .ge 44, 3) := by decide +kernel
theorem dX4_up_58 : decode cX4_up 58 = .ok (.aload_n 0, 1) := by decide +kernel
theorem dX4_up_59 : decode cX4_up 59 = .ok (.iload 4, 2) := by decide +kernel
theorem dX4_up_61 : decode cX4_up 61 = .ok (.invokevirtual 264, 3) := by decide +kernel
theorem dX4_up_64 : decode cX4_up 64 = .ok (.iload_n 3, 1) := by decide +kernel
theorem dX4_up_65 : decode cX4_up 65 = .ok (.if_icmp .ne 28, 3) := by decide +kernel
theorem dX4_up_68 : decode cX4_up 68 = .ok (.aload_n 0, 1) := by decide +kernel
theorem dX4_up_69 : decode cX4_up 69 = .ok (.getfield 255, 3) := by decide +kernel
theorem dX4_up_72 : decode cX4_up 72 = .ok (.aload_n 0, 1) := by decide +kernel
theorem dX4_up_73 : decode cX4_up 73 = .ok (.iload 4, 2) := by decide +kernel
theorem dX4_up_75 : decode cX4_up 75 = .ok (.invokevirtual 261, 3) := by decide +kernel
theorem dX4_up_78 : decode cX4_up 78 = .ok (.iconst 1, 1) := by decide +kernel
theorem dX4_up_79 : decode cX4_up 79 = .ok (.iload 4, 2) := by decide +kernel
theorem dX4_up_81 : decode cX4_up 81 = .ok (.ishl, 1) := by decide +kernel
theorem dX4_up_82 : decode cX4_up 82 = .ok (.ior, 1) := by decide +kernel
theorem dX4_up_83 : decode cX4_up 83 = .ok (.iand, 1) := by decide +kernel
theorem dX4_up_84 : decode cX4_up 84 = .ok (.ifCond .ne 9, 3) := by decide +kernel
theorem dX4_up_87 : decode cX4_up 87 = .ok (.aload_n 0, 1) := by decide +kernel
theorem dX4_up_88 : decode cX4_up 88 = .ok (.iload 4, 2) := by decide +kernel
theorem dX4_up_90 : decode cX4_up 90 = .ok (.invokevirtual 267, 3) := by decide +kernel
theorem dX4_up_93 : decode cX4_up 93 = .ok (.iinc 4 1, 3) := by decide +kernel
theorem dX4_up_96 : decode cX4_up 96 = .ok (.goto (-52), 3) := by decide +kernel
theorem dX4_up_99 : decode cX4_up 99 = .ok (.aload_n 0, 1) := by decide +kernel
theorem dX4_up_100 : decode cX4_up 100 = .ok (.iload_n 3, 1) := by decide +kernel
theorem dX4_up_101 : decode cX4_up 101 = .ok (.invokevirtual 264, 3) := by decide +kernel
theorem dX4_up_104 : decode cX4_up 104 = .ok (.istore_n 3, 1) := by decide +kernel
theorem dX4_up_105 : decode cX4_up 105 = .ok (.goto (-99), 3) := by decide +kernel
theorem dX4_up_108 : decode cX4_up 108 = .ok (.return_, 1) := by decide +kernel
abbrev cX4_answer : ByteArray := prog_17_method_46_code
def yX4_answer : MethodName := ⟨RX4, "answer", "(I)I"⟩
theorem dX4_answer_0 : decode cX4_answer 0 = .ok (.aload_n 0, 1) := by decide +kernel
theorem dX4_answer_1 : decode cX4_answer 1 = .ok (.aload_n 0, 1) := by decide +kernel
theorem dX4_answer_2 : decode cX4_answer 2 = .ok (.getfield 312, 3) := by decide +kernel
theorem dX4_answer_5 : decode cX4_answer 5 = .ok (.ifCond .eq 7, 3) := by decide +kernel
theorem dX4_answer_8 : decode cX4_answer 8 = .ok (.iload_n 1, 1) := by decide +kernel
theorem dX4_answer_9 : decode cX4_answer 9 = .ok (.goto 4, 3) := by decide +kernel
theorem dX4_answer_12 : decode cX4_answer 12 = .ok (.iconst 0, 1) := by decide +kernel
theorem dX4_answer_13 : decode cX4_answer 13 = .ok (.putfield 146, 3) := by decide +kernel
theorem dX4_answer_16 : decode cX4_answer 16 = .ok (.aload_n 0, 1) := by decide +kernel
theorem dX4_answer_17 : decode cX4_answer 17 = .ok (.getfield 312, 3) := by decide +kernel
theorem dX4_answer_20 : decode cX4_answer 20 = .ok (.ifCond .eq 7, 3) := by decide +kernel
theorem dX4_answer_23 : decode cX4_answer 23 = .ok (.iconst 0, 1) := by decide +kernel
theorem dX4_answer_24 : decode cX4_answer 24 = .ok (.goto 7, 3) := by decide +kernel
theorem dX4_answer_27 : decode cX4_answer 27 = .ok (.aload_n 0, 1) := by decide +kernel
theorem dX4_answer_28 : decode cX4_answer 28 = .ok (.getfield 309, 3) := by decide +kernel
theorem dX4_answer_31 : decode cX4_answer 31 = .ok (.ireturn, 1) := by decide +kernel
abbrev cX4_event : ByteArray := prog_17_method_48_code
def yX4_event : MethodName := ⟨RX4, "event", "(C)I"⟩
theorem dX4_event_0 : decode cX4_event 0 = .ok (.aload_n 0, 1) := by decide +kernel
theorem dX4_event_1 : decode cX4_event 1 = .ok (.iload_n 1, 1) := by decide +kernel
theorem dX4_event_2 : decode cX4_event 2 = .ok (.bipush 65, 2) := by decide +kernel
theorem dX4_event_4 : decode cX4_event 4 = .ok (.if_icmp .lt 9, 3) := by decide +kernel
theorem dX4_event_7 : decode cX4_event 7 = .ok (.iload_n 1, 1) := by decide +kernel
theorem dX4_event_8 : decode cX4_event 8 = .ok (.bipush 72, 2) := by decide +kernel
theorem dX4_event_10 : decode cX4_event 10 = .ok (.if_icmp .le 7, 3) := by decide +kernel
theorem dX4_event_13 : decode cX4_event 13 = .ok (.iconst 1, 1) := by decide +kernel
theorem dX4_event_14 : decode cX4_event 14 = .ok (.goto 15, 3) := by decide +kernel
theorem dX4_event_17 : decode cX4_event 17 = .ok (.aload_n 0, 1) := by decide +kernel
theorem dX4_event_18 : decode cX4_event 18 = .ok (.getfield 234, 3) := by decide +kernel
theorem dX4_event_21 : decode cX4_event 21 = .ok (.ifCond .ne 7, 3) := by decide +kernel
theorem dX4_event_24 : decode cX4_event 24 = .ok (.iconst 2, 1) := by decide +kernel
theorem dX4_event_25 : decode cX4_event 25 = .ok (.goto 4, 3) := by decide +kernel
theorem dX4_event_28 : decode cX4_event 28 = .ok (.iconst 0, 1) := by decide +kernel
theorem dX4_event_29 : decode cX4_event 29 = .ok (.putfield 146, 3) := by decide +kernel
theorem dX4_event_32 : decode cX4_event 32 = .ok (.aload_n 0, 1) := by decide +kernel
theorem dX4_event_33 : decode cX4_event 33 = .ok (.getfield 146, 3) := by decide +kernel
theorem dX4_event_36 : decode cX4_event 36 = .ok (.ifCond .eq 5, 3) := by decide +kernel
theorem dX4_event_39 : decode cX4_event 39 = .ok (.iconst 0, 1) := by decide +kernel
theorem dX4_event_40 : decode cX4_event 40 = .ok (.ireturn, 1) := by decide +kernel
theorem dX4_event_41 : decode cX4_event 41 = .ok (.aload_n 0, 1) := by decide +kernel
theorem dX4_event_42 : decode cX4_event 42 = .ok (.invokevirtual 334, 3) := by decide +kernel
theorem dX4_event_45 : decode cX4_event 45 = .ok (.aload_n 0, 1) := by decide +kernel
theorem dX4_event_46 : decode cX4_event 46 = .ok (.iload_n 1, 1) := by decide +kernel
theorem dX4_event_47 : decode cX4_event 47 = .ok (.invokevirtual 340, 3) := by decide +kernel
theorem dX4_event_50 : decode cX4_event 50 = .ok (.aload_n 0, 1) := by decide +kernel
theorem dX4_event_51 : decode cX4_event 51 = .ok (.iconst 3, 1) := by decide +kernel
theorem dX4_event_52 : decode cX4_event 52 = .ok (.invokevirtual 337, 3) := by decide +kernel
theorem dX4_event_55 : decode cX4_event 55 = .ok (.ireturn, 1) := by decide +kernel
abbrev cX4_come : ByteArray := prog_17_method_44_code
def yX4_come : MethodName := ⟨RX4, "come", "(I)V"⟩
theorem dX4_come_0 : decode cX4_come 0 = .ok (.aload_n 0, 1) := by decide +kernel
theorem dX4_come_1 : decode cX4_come 1 = .ok (.iload_n 1, 1) := by decide +kernel
theorem dX4_come_2 : decode cX4_come 2 = .ok (.invokevirtual 325, 3) := by decide +kernel
theorem dX4_come_5 : decode cX4_come 5 = .ok (.aload_n 0, 1) := by decide +kernel
theorem dX4_come_6 : decode cX4_come 6 = .ok (.getfield 288, 3) := by decide +kernel
theorem dX4_come_9 : decode cX4_come 9 = .ok (.ifCond .le 7, 3) := by decide +kernel
theorem dX4_come_12 : decode cX4_come 12 = .ok (.aload_n 0, 1) := by decide +kernel
theorem dX4_come_13 : decode cX4_come 13 = .ok (.invokevirtual 328, 3) := by decide +kernel
theorem dX4_come_16 : decode cX4_come 16 = .ok (.aload_n 0, 1) := by decide +kernel
theorem dX4_come_17 : decode cX4_come 17 = .ok (.invokevirtual 331, 3) := by decide +kernel
theorem dX4_come_20 : decode cX4_come 20 = .ok (.return_, 1) := by decide +kernel
abbrev cX4_tick : ByteArray := prog_17_method_50_code
def yX4_tick : MethodName := ⟨RX4, "tick", "(I)I"⟩
theorem dX4_tick_0 : decode cX4_tick 0 = .ok (.aload_n 0, 1) := by decide +kernel
theorem dX4_tick_1 : decode cX4_tick 1 = .ok (.iload_n 1, 1) := by decide +kernel
theorem dX4_tick_2 : decode cX4_tick 2 = .ok (.ifCond .lt 9, 3) := by decide +kernel
theorem dX4_tick_5 : decode cX4_tick 5 = .ok (.iload_n 1, 1) := by decide +kernel
theorem dX4_tick_6 : decode cX4_tick 6 = .ok (.bipush 20, 2) := by decide +kernel
theorem dX4_tick_8 : decode cX4_tick 8 = .ok (.if_icmp .le 7, 3) := by decide +kernel
theorem dX4_tick_11 : decode cX4_tick 11 = .ok (.iconst 1, 1) := by decide +kernel
theorem dX4_tick_12 : decode cX4_tick 12 = .ok (.goto 15, 3) := by decide +kernel
theorem dX4_tick_15 : decode cX4_tick 15 = .ok (.aload_n 0, 1) := by decide +kernel
theorem dX4_tick_16 : decode cX4_tick 16 = .ok (.getfield 234, 3) := by decide +kernel
