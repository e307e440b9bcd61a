theorem d_Mod_begin_0 : decode prog_9_method_20_code 0 = .ok (.iconst 0, 1) := by decide +kernel
theorem d_Mod_begin_1 : decode prog_9_method_20_code 1 = .ok (.istore 5, 2) := by decide +kernel
theorem d_Mod_begin_3 : decode prog_9_method_20_code 3 = .ok (.iload 5, 2) := by decide +kernel
theorem d_Mod_begin_5 : decode prog_9_method_20_code 5 = .ok (.bipush 24, 2) := by decide +kernel
theorem d_Mod_begin_7 : decode prog_9_method_20_code 7 = .ok (.if_icmp .ge 31, 3) := by decide +kernel
theorem d_Mod_begin_10 : decode prog_9_method_20_code 10 = .ok (.aload_n 0, 1) := by decide +kernel
theorem d_Mod_begin_11 : decode prog_9_method_20_code 11 = .ok (.getfield 35, 3) := by decide +kernel
theorem d_Mod_begin_14 : decode prog_9_method_20_code 14 = .ok (.bipush 24, 2) := by decide +kernel
theorem d_Mod_begin_16 : decode prog_9_method_20_code 16 = .ok (.aload_n 0, 1) := by decide +kernel
theorem d_Mod_begin_17 : decode prog_9_method_20_code 17 = .ok (.getfield 126, 3) := by decide +kernel
theorem d_Mod_begin_20 : decode prog_9_method_20_code 20 = .ok (.imul, 1) := by decide +kernel
theorem d_Mod_begin_21 : decode prog_9_method_20_code 21 = .ok (.iload 5, 2) := by decide +kernel
theorem d_Mod_begin_23 : decode prog_9_method_20_code 23 = .ok (.iadd, 1) := by decide +kernel
theorem d_Mod_begin_24 : decode prog_9_method_20_code 24 = .ok (.aload_n 0, 1) := by decide +kernel
theorem d_Mod_begin_25 : decode prog_9_method_20_code 25 = .ok (.getfield 7, 3) := by decide +kernel
theorem d_Mod_begin_28 : decode prog_9_method_20_code 28 = .ok (.iload 5, 2) := by decide +kernel
theorem d_Mod_begin_30 : decode prog_9_method_20_code 30 = .ok (.iaload, 1) := by decide +kernel
theorem d_Mod_begin_31 : decode prog_9_method_20_code 31 = .ok (.iastore, 1) := by decide +kernel
theorem d_Mod_begin_32 : decode prog_9_method_20_code 32 = .ok (.iinc 5 1, 3) := by decide +kernel
theorem d_Mod_begin_35 : decode prog_9_method_20_code 35 = .ok (.goto (-32), 3) := by decide +kernel
theorem d_Mod_begin_38 : decode prog_9_method_20_code 38 = .ok (.iconst 0, 1) := by decide +kernel
theorem d_Mod_begin_39 : decode prog_9_method_20_code 39 = .ok (.istore 5, 2) := by decide +kernel
theorem d_Mod_begin_41 : decode prog_9_method_20_code 41 = .ok (.iload 5, 2) := by decide +kernel
theorem d_Mod_begin_43 : decode prog_9_method_20_code 43 = .ok (.aload_n 0, 1) := by decide +kernel
theorem d_Mod_begin_44 : decode prog_9_method_20_code 44 = .ok (.getfield 107, 3) := by decide +kernel
theorem d_Mod_begin_47 : decode prog_9_method_20_code 47 = .ok (.if_icmp .ge 78, 3) := by decide +kernel
theorem d_Mod_begin_50 : decode prog_9_method_20_code 50 = .ok (.aload_n 0, 1) := by decide +kernel
theorem d_Mod_begin_51 : decode prog_9_method_20_code 51 = .ok (.getfield 38, 3) := by decide +kernel
theorem d_Mod_begin_54 : decode prog_9_method_20_code 54 = .ok (.sipush 500, 3) := by decide +kernel
theorem d_Mod_begin_57 : decode prog_9_method_20_code 57 = .ok (.aload_n 0, 1) := by decide +kernel
theorem d_Mod_begin_58 : decode prog_9_method_20_code 58 = .ok (.getfield 126, 3) := by decide +kernel
theorem d_Mod_begin_61 : decode prog_9_method_20_code 61 = .ok (.imul, 1) := by decide +kernel
theorem d_Mod_begin_62 : decode prog_9_method_20_code 62 = .ok (.iload 5, 2) := by decide +kernel
theorem d_Mod_begin_64 : decode prog_9_method_20_code 64 = .ok (.iadd, 1) := by decide +kernel
theorem d_Mod_begin_65 : decode prog_9_method_20_code 65 = .ok (.aload_n 0, 1) := by decide +kernel
theorem d_Mod_begin_66 : decode prog_9_method_20_code 66 = .ok (.getfield 23, 3) := by decide +kernel
theorem d_Mod_begin_69 : decode prog_9_method_20_code 69 = .ok (.iload 5, 2) := by decide +kernel
theorem d_Mod_begin_71 : decode prog_9_method_20_code 71 = .ok (.iaload, 1) := by decide +kernel
theorem d_Mod_begin_72 : decode prog_9_method_20_code 72 = .ok (.iastore, 1) := by decide +kernel
theorem d_Mod_begin_73 : decode prog_9_method_20_code 73 = .ok (.aload_n 0, 1) := by decide +kernel
theorem d_Mod_begin_74 : decode prog_9_method_20_code 74 = .ok (.getfield 41, 3) := by decide +kernel
theorem d_Mod_begin_77 : decode prog_9_method_20_code 77 = .ok (.sipush 500, 3) := by decide +kernel
theorem d_Mod_begin_80 : decode prog_9_method_20_code 80 = .ok (.aload_n 0, 1) := by decide +kernel
theorem d_Mod_begin_81 : decode prog_9_method_20_code 81 = .ok (.getfield 126, 3) := by decide +kernel
theorem d_Mod_begin_84 : decode prog_9_method_20_code 84 = .ok (.imul, 1) := by decide +kernel
theorem d_Mod_begin_85 : decode prog_9_method_20_code 85 = .ok (.iload 5, 2) := by decide +kernel
theorem d_Mod_begin_87 : decode prog_9_method_20_code 87 = .ok (.iadd, 1) := by decide +kernel
theorem d_Mod_begin_88 : decode prog_9_method_20_code 88 = .ok (.aload_n 0, 1) := by decide +kernel
theorem d_Mod_begin_89 : decode prog_9_method_20_code 89 = .ok (.getfield 26, 3) := by decide +kernel
theorem d_Mod_begin_92 : decode prog_9_method_20_code 92 = .ok (.iload 5, 2) := by decide +kernel
theorem d_Mod_begin_94 : decode prog_9_method_20_code 94 = .ok (.iaload, 1) := by decide +kernel
theorem d_Mod_begin_95 : decode prog_9_method_20_code 95 = .ok (.iastore, 1) := by decide +kernel
theorem d_Mod_begin_96 : decode prog_9_method_20_code 96 = .ok (.aload_n 0, 1) := by decide +kernel
theorem d_Mod_begin_97 : decode prog_9_method_20_code 97 = .ok (.getfield 44, 3) := by decide +kernel
theorem d_Mod_begin_100 : decode prog_9_method_20_code 100 = .ok (.sipush 500, 3) := by decide +kernel
theorem d_Mod_begin_103 : decode prog_9_method_20_code 103 = .ok (.aload_n 0, 1) := by decide +kernel
theorem d_Mod_begin_104 : decode prog_9_method_20_code 104 = .ok (.getfield 126, 3) := by decide +kernel
theorem d_Mod_begin_107 : decode prog_9_method_20_code 107 = .ok (.imul, 1) := by decide +kernel
theorem d_Mod_begin_108 : decode prog_9_method_20_code 108 = .ok (.iload 5, 2) := by decide +kernel
theorem d_Mod_begin_110 : decode prog_9_method_20_code 110 = .ok (.iadd, 1) := by decide +kernel
theorem d_Mod_begin_111 : decode prog_9_method_20_code 111 = .ok (.aload_n 0, 1) := by decide +kernel
theorem d_Mod_begin_112 : decode prog_9_method_20_code 112 = .ok (.getfield 29, 3) := by decide +kernel
theorem d_Mod_begin_115 : decode prog_9_method_20_code 115 = .ok (.iload 5, 2) := by decide +kernel
theorem d_Mod_begin_117 : decode prog_9_method_20_code 117 = .ok (.iaload, 1) := by decide +kernel
theorem d_Mod_begin_118 : decode prog_9_method_20_code 118 = .ok (.iastore, 1) := by decide +kernel
theorem d_Mod_begin_119 : decode prog_9_method_20_code 119 = .ok (.iinc 5 1, 3) := by decide +kernel
theorem d_Mod_begin_122 : decode prog_9_method_20_code 122 = .ok (.goto (-81), 3) := by decide +kernel
theorem d_Mod_begin_125 : decode prog_9_method_20_code 125 = .ok (.aload_n 0, 1) := by decide +kernel
theorem d_Mod_begin_126 : decode prog_9_method_20_code 126 = .ok (.getfield 47, 3) := by decide +kernel
theorem d_Mod_begin_129 : decode prog_9_method_20_code 129 = .ok (.aload_n 0, 1) := by decide +kernel
theorem d_Mod_begin_130 : decode prog_9_method_20_code 130 = .ok (.getfield 126, 3) := by decide +kernel
theorem d_Mod_begin_133 : decode prog_9_method_20_code 133 = .ok (.aload_n 0, 1) := by decide +kernel
theorem d_Mod_begin_134 : decode prog_9_method_20_code 134 = .ok (.getfield 107, 3) := by decide +kernel
theorem d_Mod_begin_137 : decode prog_9_method_20_code 137 = .ok (.iastore, 1) := by decide +kernel
theorem d_Mod_begin_138 : decode prog_9_method_20_code 138 = .ok (.aload_n 0, 1) := by decide +kernel
theorem d_Mod_begin_139 : decode prog_9_method_20_code 139 = .ok (.getfield 50, 3) := by decide +kernel
theorem d_Mod_begin_142 : decode prog_9_method_20_code 142 = .ok (.aload_n 0, 1) := by decide +kernel
theorem d_Mod_begin_143 : decode prog_9_method_20_code 143 = .ok (.getfield 126, 3) := by decide +kernel
theorem d_Mod_begin_146 : decode prog_9_method_20_code 146 = .ok (.aload_n 0, 1) := by decide +kernel
theorem d_Mod_begin_147 : decode prog_9_method_20_code 147 = .ok (.getfield 117, 3) := by decide +kernel
theorem d_Mod_begin_150 : decode prog_9_method_20_code 150 = .ok (.iastore, 1) := by decide +kernel
theorem d_Mod_begin_151 : decode prog_9_method_20_code 151 = .ok (.aload_n 0, 1) := by decide +kernel
theorem d_Mod_begin_152 : decode prog_9_method_20_code 152 = .ok (.getfield 7, 3) := by decide +kernel
theorem d_Mod_begin_155 : decode prog_9_method_20_code 155 = .ok (.iload_n 1, 1) := by decide +kernel
theorem d_Mod_begin_156 : decode prog_9_method_20_code 156 = .ok (.aload_n 0, 1) := by decide +kernel
theorem d_Mod_begin_157 : decode prog_9_method_20_code 157 = .ok (.getfield 7, 3) := by decide +kernel
theorem d_Mod_begin_160 : decode prog_9_method_20_code 160 = .ok (.iload_n 1, 1) := by decide +kernel
theorem d_Mod_begin_161 : decode prog_9_method_20_code 161 = .ok (.iaload, 1) := by decide +kernel
theorem d_Mod_begin_162 : decode prog_9_method_20_code 162 = .ok (.iload_n 3, 1) := by decide +kernel
theorem d_Mod_begin_163 : decode prog_9_method_20_code 163 = .ok (.isub, 1) := by decide +kernel
theorem d_Mod_begin_164 : decode prog_9_method_20_code 164 = .ok (.iastore, 1) := by decide +kernel
theorem d_Mod_begin_165 : decode prog_9_method_20_code 165 = .ok (.aload_n 0, 1) := by decide +kernel
theorem d_Mod_begin_166 : decode prog_9_method_20_code 166 = .ok (.getfield 7, 3) := by decide +kernel
theorem d_Mod_begin_169 : decode prog_9_method_20_code 169 = .ok (.iload_n 2, 1) := by decide +kernel
theorem d_Mod_begin_170 : decode prog_9_method_20_code 170 = .ok (.aload_n 0, 1) := by decide +kernel
theorem d_Mod_begin_171 : decode prog_9_method_20_code 171 = .ok (.getfield 7, 3) := by decide +kernel
theorem d_Mod_begin_174 : decode prog_9_method_20_code 174 = .ok (.iload_n 2, 1) := by decide +kernel
theorem d_Mod_begin_175 : decode prog_9_method_20_code 175 = .ok (.iaload, 1) := by decide +kernel
theorem d_Mod_begin_176 : decode prog_9_method_20_code 176 = .ok (.iload_n 3, 1) := by decide +kernel
theorem d_Mod_begin_177 : decode prog_9_method_20_code 177 = .ok (.iadd, 1) := by decide +kernel
theorem d_Mod_begin_178 : decode prog_9_method_20_code 178 = .ok (.iastore, 1) := by decide +kernel
theorem d_Mod_begin_179 : decode prog_9_method_20_code 179 = .ok (.aload_n 0, 1) := by decide +kernel
theorem d_Mod_begin_180 : decode prog_9_method_20_code 180 = .ok (.getfield 56, 3) := by decide +kernel
theorem d_Mod_begin_183 : decode prog_9_method_20_code 183 = .ok (.aload_n 0, 1) := by decide +kernel
theorem d_Mod_begin_184 : decode prog_9_method_20_code 184 = .ok (.getfield 126, 3) := by decide +kernel
theorem d_Mod_begin_187 : decode prog_9_method_20_code 187 = .ok (.iconst 0, 1) := by decide +kernel
theorem d_Mod_begin_188 : decode prog_9_method_20_code 188 = .ok (.iastore, 1) := by decide +kernel
theorem d_Mod_begin_189 : decode prog_9_method_20_code 189 = .ok (.aload_n 0, 1) := by decide +kernel
theorem d_Mod_begin_190 : decode prog_9_method_20_code 190 = .ok (.getfield 59, 3) := by decide +kernel
theorem d_Mod_begin_193 : decode prog_9_method_20_code 193 = .ok (.aload_n 0, 1) := by decide +kernel
theorem d_Mod_begin_194 : decode prog_9_method_20_code 194 = .ok (.getfield 126, 3) := by decide +kernel
theorem d_Mod_begin_197 : decode prog_9_method_20_code 197 = .ok (.iconst 0, 1) := by decide +kernel
theorem d_Mod_begin_198 : decode prog_9_method_20_code 198 = .ok (.iastore, 1) := by decide +kernel
theorem d_Mod_begin_199 : decode prog_9_method_20_code 199 = .ok (.aload_n 0, 1) := by decide +kernel
theorem d_Mod_begin_200 : decode prog_9_method_20_code 200 = .ok (.getfield 68, 3) := by decide +kernel
theorem d_Mod_begin_203 : decode prog_9_method_20_code 203 = .ok (.aload_n 0, 1) := by decide +kernel
theorem d_Mod_begin_204 : decode prog_9_method_20_code 204 = .ok (.getfield 126, 3) := by decide +kernel
theorem d_Mod_begin_207 : decode prog_9_method_20_code 207 = .ok (.iload_n 1, 1) := by decide +kernel
theorem d_Mod_begin_208 : decode prog_9_method_20_code 208 = .ok (.iastore, 1) := by decide +kernel
theorem d_Mod_begin_209 : decode prog_9_method_20_code 209 = .ok (.aload_n 0, 1) := by decide +kernel
theorem d_Mod_begin_210 : decode prog_9_method_20_code 210 = .ok (.getfield 71, 3) := by decide +kernel
theorem d_Mod_begin_213 : decode prog_9_method_20_code 213 = .ok (.aload_n 0, 1) := by decide +kernel
theorem d_Mod_begin_214 : decode prog_9_method_20_code 214 = .ok (.getfield 126, 3) := by decide +kernel
theorem d_Mod_begin_217 : decode prog_9_method_20_code 217 = .ok (.iload_n 3, 1) := by decide +kernel
theorem d_Mod_begin_218 : decode prog_9_method_20_code 218 = .ok (.iastore, 1) := by decide +kernel
theorem d_Mod_begin_219 : decode prog_9_method_20_code 219 = .ok (.aload_n 0, 1) := by decide +kernel
theorem d_Mod_begin_220 : decode prog_9_method_20_code 220 = .ok (.getfield 74, 3) := by decide +kernel
theorem d_Mod_begin_223 : decode prog_9_method_20_code 223 = .ok (.aload_n 0, 1) := by decide +kernel
theorem d_Mod_begin_224 : decode prog_9_method_20_code 224 = .ok (.getfield 126, 3) := by decide +kernel
theorem d_Mod_begin_227 : decode prog_9_method_20_code 227 = .ok (.iload 4, 2) := by decide +kernel
theorem d_Mod_begin_229 : decode prog_9_method_20_code 229 = .ok (.iastore, 1) := by decide +kernel
theorem d_Mod_begin_230 : decode prog_9_method_20_code 230 = .ok (.aload_n 0, 1) := by decide +kernel
theorem d_Mod_begin_231 : decode prog_9_method_20_code 231 = .ok (.getfield 77, 3) := by decide +kernel
theorem d_Mod_begin_234 : decode prog_9_method_20_code 234 = .ok (.aload_n 0, 1) := by decide +kernel
theorem d_Mod_begin_235 : decode prog_9_method_20_code 235 = .ok (.getfield 126, 3) := by decide +kernel
theorem d_Mod_begin_238 : decode prog_9_method_20_code 238 = .ok (.iload_n 2, 1) := by decide +kernel
theorem d_Mod_begin_239 : decode prog_9_method_20_code 239 = .ok (.iastore, 1) := by decide +kernel
theorem d_Mod_begin_240 : decode prog_9_method_20_code 240 = .ok (.return_, 1) := by decide +kernel
theorem d_Mod_undo_0 : decode prog_9_method_21_code 0 = .ok (.iconst 0, 1) := by decide +kernel
theorem d_Mod_undo_1 : decode prog_9_method_21_code 1 = .ok (.istore_n 1, 1) := by decide +kernel
theorem d_Mod_undo_2 : decode prog_9_method_21_code 2 = .ok (.iload_n 1, 1) := by decide +kernel
theorem d_Mod_undo_3 : decode prog_9_method_21_code 3 = .ok (.bipush 24, 2) := by decide +kernel
theorem d_Mod_undo_5 : decode prog_9_method_21_code 5 = .ok (.if_icmp .ge 29, 3) := by decide +kernel
theorem d_Mod_undo_8 : decode prog_9_method_21_code 8 = .ok (.aload_n 0, 1) := by decide +kernel
theorem d_Mod_undo_9 : decode prog_9_method_21_code 9 = .ok (.getfield 7, 3) := by decide +kernel
theorem d_Mod_undo_12 : decode prog_9_method_21_code 12 = .ok (.iload_n 1, 1) := by decide +kernel
theorem d_Mod_undo_13 : decode prog_9_method_21_code 13 = .ok (.aload_n 0, 1) := by decide +kernel
theorem d_Mod_undo_14 : decode prog_9_method_21_code 14 = .ok (.getfield 35, 3) := by decide +kernel
theorem d_Mod_undo_17 : decode prog_9_method_21_code 17 = .ok (.bipush 24, 2) := by decide +kernel
theorem d_Mod_undo_19 : decode prog_9_method_21_code 19 = .ok (.aload_n 0, 1) := by decide +kernel
theorem d_Mod_undo_20 : decode prog_9_method_21_code 20 = .ok (.getfield 126, 3) := by decide +kernel
theorem d_Mod_undo_23 : decode prog_9_method_21_code 23 = .ok (.imul, 1) := by decide +kernel
theorem d_Mod_undo_24 : decode prog_9_method_21_code 24 = .ok (.iload_n 1, 1) := by decide +kernel
theorem d_Mod_undo_25 : decode prog_9_method_21_code 25 = .ok (.iadd, 1) := by decide +kernel
theorem d_Mod_undo_26 : decode prog_9_method_21_code 26 = .ok (.iaload, 1) := by decide +kernel
theorem d_Mod_undo_27 : decode prog_9_method_21_code 27 = .ok (.iastore, 1) := by decide +kernel
theorem d_Mod_undo_28 : decode prog_9_method_21_code 28 = .ok (.iinc 1 1, 3) := by decide +kernel
theorem d_Mod_undo_31 : decode prog_9_method_21_code 31 = .ok (.goto (-29), 3) := by decide +kernel
theorem d_Mod_undo_34 : decode prog_9_method_21_code 34 = .ok (.aload_n 0, 1) := by decide +kernel
theorem d_Mod_undo_35 : decode prog_9_method_21_code 35 = .ok (.aload_n 0, 1) := by decide +kernel
theorem d_Mod_undo_36 : decode prog_9_method_21_code 36 = .ok (.getfield 47, 3) := by decide +kernel
theorem d_Mod_undo_39 : decode prog_9_method_21_code 39 = .ok (.aload_n 0, 1) := by decide +kernel
theorem d_Mod_undo_40 : decode prog_9_method_21_code 40 = .ok (.getfield 126, 3) := by decide +kernel
theorem d_Mod_undo_43 : decode prog_9_method_21_code 43 = .ok (.iaload, 1) := by decide +kernel
theorem d_Mod_undo_44 : decode prog_9_method_21_code 44 = .ok (.putfield 107, 3) := by decide +kernel
theorem d_Mod_undo_47 : decode prog_9_method_21_code 47 = .ok (.aload_n 0, 1) := by decide +kernel
theorem d_Mod_undo_48 : decode prog_9_method_21_code 48 = .ok (.aload_n 0, 1) := by decide +kernel
theorem d_Mod_undo_49 : decode prog_9_method_21_code 49 = .ok (.getfield 50, 3) := by decide +kernel
theorem d_Mod_undo_52 : decode prog_9_method_21_code 52 = .ok (.aload_n 0, 1) := by decide +kernel
theorem d_Mod_undo_53 : decode prog_9_method_21_code 53 = .ok (.getfield 126, 3) := by decide +kernel
theorem d_Mod_undo_56 : decode prog_9_method_21_code 56 = .ok (.iaload, 1) := by decide +kernel
theorem d_Mod_undo_57 : decode prog_9_method_21_code 57 = .ok (.putfield 117, 3) := by decide +kernel
theorem d_Mod_undo_60 : decode prog_9_method_21_code 60 = .ok (.iconst 0, 1) := by decide +kernel
theorem d_Mod_undo_61 : decode prog_9_method_21_code 61 = .ok (.istore_n 1, 1) := by decide +kernel
theorem d_Mod_undo_62 : decode prog_9_method_21_code 62 = .ok (.iload_n 1, 1) := by decide +kernel
theorem d_Mod_undo_63 : decode prog_9_method_21_code 63 = .ok (.aload_n 0, 1) := by decide +kernel
theorem d_Mod_undo_64 : decode prog_9_method_21_code 64 = .ok (.getfield 107, 3) := by decide +kernel
theorem d_Mod_undo_67 : decode prog_9_method_21_code 67 = .ok (.if_icmp .ge 72, 3) := by decide +kernel
theorem d_Mod_undo_70 : decode prog_9_method_21_code 70 = .ok (.aload_n 0, 1) := by decide +kernel
theorem d_Mod_undo_71 : decode prog_9_method_21_code 71 = .ok (.getfield 23, 3) := by decide +kernel
theorem d_Mod_undo_74 : decode prog_9_method_21_code 74 = .ok (.iload_n 1, 1) := by decide +kernel
theorem d_Mod_undo_75 : decode prog_9_method_21_code 75 = .ok (.aload_n 0, 1) := by decide +kernel
theorem d_Mod_undo_76 : decode prog_9_method_21_code 76 = .ok (.getfield 38, 3) := by decide +kernel
theorem d_Mod_undo_79 : decode prog_9_method_21_code 79 = .ok (.sipush 500, 3) := by decide +kernel
theorem d_Mod_undo_82 : decode prog_9_method_21_code 82 = .ok (.aload_n 0, 1) := by decide +kernel
theorem d_Mod_undo_83 : decode prog_9_method_21_code 83 = .ok (.getfield 126, 3) := by decide +kernel
theorem d_Mod_undo_86 : decode prog_9_method_21_code 86 = .ok (.imul, 1) := by decide +kernel
theorem d_Mod_undo_87 : decode prog_9_method_21_code 87 = .ok (.iload_n 1, 1) := by decide +kernel
theorem d_Mod_undo_88 : decode prog_9_method_21_code 88 = .ok (.iadd, 1) := by decide +kernel
theorem d_Mod_undo_89 : decode prog_9_method_21_code 89 = .ok (.iaload, 1) := by decide +kernel
theorem d_Mod_undo_90 : decode prog_9_method_21_code 90 = .ok (.iastore, 1) := by decide +kernel
theorem d_Mod_undo_91 : decode prog_9_method_21_code 91 = .ok (.aload_n 0, 1) := by decide +kernel
theorem d_Mod_undo_92 : decode prog_9_method_21_code 92 = .ok (.getfield 26, 3) := by decide +kernel
theorem d_Mod_undo_95 : decode prog_9_method_21_code 95 = .ok (.iload_n 1, 1) := by decide +kernel
theorem d_Mod_undo_96 : decode prog_9_method_21_code 96 = .ok (.aload_n 0, 1) := by decide +kernel
theorem d_Mod_undo_97 : decode prog_9_method_21_code 97 = .ok (.getfield 41, 3) := by decide +kernel
theorem d_Mod_undo_100 : decode prog_9_method_21_code 100 = .ok (.sipush 500, 3) := by decide +kernel
theorem d_Mod_undo_103 : decode prog_9_method_21_code 103 = .ok (.aload_n 0, 1) := by decide +kernel
theorem d_Mod_undo_104 : decode prog_9_method_21_code 104 = .ok (.getfield 126, 3) := by decide +kernel
theorem d_Mod_undo_107 : decode prog_9_method_21_code 107 = .ok (.imul, 1) := by decide +kernel
theorem d_Mod_undo_108 : decode prog_9_method_21_code 108 = .ok (.iload_n 1, 1) := by decide +kernel
theorem d_Mod_undo_109 : decode prog_9_method_21_code 109 = .ok (.iadd, 1) := by decide +kernel
theorem d_Mod_undo_110 : decode prog_9_method_21_code 110 = .ok (.iaload, 1) := by decide +kernel
theorem d_Mod_undo_111 : decode prog_9_method_21_code 111 = .ok (.iastore, 1) := by decide +kernel
theorem d_Mod_undo_112 : decode prog_9_method_21_code 112 = .ok (.aload_n 0, 1) := by decide +kernel
theorem d_Mod_undo_113 : decode prog_9_method_21_code 113 = .ok (.getfield 29, 3) := by decide +kernel
theorem d_Mod_undo_116 : decode prog_9_method_21_code 116 = .ok (.iload_n 1, 1) := by decide +kernel
theorem d_Mod_undo_117 : decode prog_9_method_21_code 117 = .ok (.aload_n 0, 1) := by decide +kernel
theorem d_Mod_undo_118 : decode prog_9_method_21_code 118 = .ok (.getfield 44, 3) := by decide +kernel
theorem d_Mod_undo_121 : decode prog_9_method_21_code 121 = .ok (.sipush 500, 3) := by decide +kernel
theorem d_Mod_undo_124 : decode prog_9_method_21_code 124 = .ok (.aload_n 0, 1) := by decide +kernel
theorem d_Mod_undo_125 : decode prog_9_method_21_code 125 = .ok (.getfield 126, 3) := by decide +kernel
theorem d_Mod_undo_128 : decode prog_9_method_21_code 128 = .ok (.imul, 1) := by decide +kernel
theorem d_Mod_undo_129 : decode prog_9_method_21_code 129 = .ok (.iload_n 1, 1) := by decide +kernel
theorem d_Mod_undo_130 : decode prog_9_method_21_code 130 = .ok (.iadd, 1) := by decide +kernel
theorem d_Mod_undo_131 : decode prog_9_method_21_code 131 = .ok (.iaload, 1) := by decide +kernel
theorem d_Mod_undo_132 : decode prog_9_method_21_code 132 = .ok (.iastore, 1) := by decide +kernel
theorem d_Mod_undo_133 : decode prog_9_method_21_code 133 = .ok (.iinc 1 1, 3) := by decide +kernel
theorem d_Mod_undo_136 : decode prog_9_method_21_code 136 = .ok (.goto (-74), 3) := by decide +kernel
theorem d_Mod_undo_139 : decode prog_9_method_21_code 139 = .ok (.return_, 1) := by decide +kernel
theorem d_Mod_push_0 : decode prog_9_method_22_code 0 = .ok (.aload_n 0, 1) := by decide +kernel
theorem d_Mod_push_1 : decode prog_9_method_22_code 1 = .ok (.getfield 53, 3) := by decide +kernel
theorem d_Mod_push_4 : decode prog_9_method_22_code 4 = .ok (.bipush 32, 2) := by decide +kernel
theorem d_Mod_push_6 : decode prog_9_method_22_code 6 = .ok (.aload_n 0, 1) := by decide +kernel
theorem d_Mod_push_7 : decode prog_9_method_22_code 7 = .ok (.getfield 126, 3) := by decide +kernel
theorem d_Mod_push_10 : decode prog_9_method_22_code 10 = .ok (.imul, 1) := by decide +kernel
theorem d_Mod_push_11 : decode prog_9_method_22_code 11 = .ok (.aload_n 0, 1) := by decide +kernel
theorem d_Mod_push_12 : decode prog_9_method_22_code 12 = .ok (.getfield 56, 3) := by decide +kernel
theorem d_Mod_push_15 : decode prog_9_method_22_code 15 = .ok (.aload_n 0, 1) := by decide +kernel
theorem d_Mod_push_16 : decode prog_9_method_22_code 16 = .ok (.getfield 126, 3) := by decide +kernel
theorem d_Mod_push_19 : decode prog_9_method_22_code 19 = .ok (.iaload, 1) := by decide +kernel
theorem d_Mod_push_20 : decode prog_9_method_22_code 20 = .ok (.iadd, 1) := by decide +kernel
theorem d_Mod_push_21 : decode prog_9_method_22_code 21 = .ok (.iload_n 1, 1) := by decide +kernel
theorem d_Mod_push_22 : decode prog_9_method_22_code 22 = .ok (.iastore, 1) := by decide +kernel
theorem d_Mod_push_23 : decode prog_9_method_22_code 23 = .ok (.aload_n 0, 1) := by decide +kernel
theorem d_Mod_push_24 : decode prog_9_method_22_code 24 = .ok (.getfield 56, 3) := by decide +kernel
theorem d_Mod_push_27 : decode prog_9_method_22_code 27 = .ok (.aload_n 0, 1) := by decide +kernel
theorem d_Mod_push_28 : decode prog_9_method_22_code 28 = .ok (.getfield 126, 3) := by decide +kernel
theorem d_Mod_push_31 : decode prog_9_method_22_code 31 = .ok (.dup2, 1) := by decide +kernel
theorem d_Mod_push_32 : decode prog_9_method_22_code 32 = .ok (.iaload, 1) := by decide +kernel
theorem d_Mod_push_33 : decode prog_9_method_22_code 33 = .ok (.iconst 1, 1) := by decide +kernel
theorem d_Mod_push_34 : decode prog_9_method_22_code 34 = .ok (.iadd, 1) := by decide +kernel
theorem d_Mod_push_35 : decode prog_9_method_22_code 35 = .ok (.iastore, 1) := by decide +kernel
theorem d_Mod_push_36 : decode prog_9_method_22_code 36 = .ok (.return_, 1) := by decide +kernel
theorem d_Mod_pop_0 : decode prog_9_method_23_code 0 = .ok (.aload_n 0, 1) := by decide +kernel
theorem d_Mod_pop_1 : decode prog_9_method_23_code 1 = .ok (.getfield 56, 3) := by decide +kernel
theorem d_Mod_pop_4 : decode prog_9_method_23_code 4 = .ok (.aload_n 0, 1) := by decide +kernel
theorem d_Mod_pop_5 : decode prog_9_method_23_code 5 = .ok (.getfield 126, 3) := by decide +kernel
theorem d_Mod_pop_8 : decode prog_9_method_23_code 8 = .ok (.dup2, 1) := by decide +kernel
theorem d_Mod_pop_9 : decode prog_9_method_23_code 9 = .ok (.iaload, 1) := by decide +kernel
theorem d_Mod_pop_10 : decode prog_9_method_23_code 10 = .ok (.iconst 1, 1) := by decide +kernel
theorem d_Mod_pop_11 : decode prog_9_method_23_code 11 = .ok (.isub, 1) := by decide +kernel
theorem d_Mod_pop_12 : decode prog_9_method_23_code 12 = .ok (.iastore, 1) := by decide +kernel
theorem d_Mod_pop_13 : decode prog_9_method_23_code 13 = .ok (.aload_n 0, 1) := by decide +kernel
theorem d_Mod_pop_14 : decode prog_9_method_23_code 14 = .ok (.getfield 53, 3) := by decide +kernel
theorem d_Mod_pop_17 : decode prog_9_method_23_code 17 = .ok (.bipush 32, 2) := by decide +kernel
theorem d_Mod_pop_19 : decode prog_9_method_23_code 19 = .ok (.aload_n 0, 1) := by decide +kernel
theorem d_Mod_pop_20 : decode prog_9_method_23_code 20 = .ok (.getfield 126, 3) := by decide +kernel
theorem d_Mod_pop_23 : decode prog_9_method_23_code 23 = .ok (.imul, 1) := by decide +kernel
theorem d_Mod_pop_24 : decode prog_9_method_23_code 24 = .ok (.aload_n 0, 1) := by decide +kernel
theorem d_Mod_pop_25 : decode prog_9_method_23_code 25 = .ok (.getfield 56, 3) := by decide +kernel
theorem d_Mod_pop_28 : decode prog_9_method_23_code 28 = .ok (.aload_n 0, 1) := by decide +kernel
theorem d_Mod_pop_29 : decode prog_9_method_23_code 29 = .ok (.getfield 126, 3) := by decide +kernel
theorem d_Mod_pop_32 : decode prog_9_method_23_code 32 = .ok (.iaload, 1) := by decide +kernel
theorem d_Mod_pop_33 : decode prog_9_method_23_code 33 = .ok (.iadd, 1) := by decide +kernel
theorem d_Mod_pop_34 : decode prog_9_method_23_code 34 = .ok (.iaload, 1) := by decide +kernel
theorem d_Mod_pop_35 : decode prog_9_method_23_code 35 = .ok (.ireturn, 1) := by decide +kernel
theorem d_Mod_below_0 : decode prog_9_method_24_code 0 = .ok (.aload_n 0, 1) := by decide +kernel
theorem d_Mod_below_1 : decode prog_9_method_24_code 1 = .ok (.getfield 53, 3) := by decide +kernel
theorem d_Mod_below_4 : decode prog_9_method_24_code 4 = .ok (.bipush 32, 2) := by decide +kernel
theorem d_Mod_below_6 : decode prog_9_method_24_code 6 = .ok (.aload_n 0, 1) := by decide +kernel
theorem d_Mod_below_7 : decode prog_9_method_24_code 7 = .ok (.getfield 126, 3) := by decide +kernel
theorem d_Mod_below_10 : decode prog_9_method_24_code 10 = .ok (.imul, 1) := by decide +kernel
theorem d_Mod_below_11 : decode prog_9_method_24_code 11 = .ok (.aload_n 0, 1) := by decide +kernel
theorem d_Mod_below_12 : decode prog_9_method_24_code 12 = .ok (.getfield 56, 3) := by decide +kernel
theorem d_Mod_below_15 : decode prog_9_method_24_code 15 = .ok (.aload_n 0, 1) := by decide +kernel
theorem d_Mod_below_16 : decode prog_9_method_24_code 16 = .ok (.getfield 126, 3) := by decide +kernel
theorem d_Mod_below_19 : decode prog_9_method_24_code 19 = .ok (.iaload, 1) := by decide +kernel
theorem d_Mod_below_20 : decode prog_9_method_24_code 20 = .ok (.iadd, 1) := by decide +kernel
theorem d_Mod_below_21 : decode prog_9_method_24_code 21 = .ok (.iconst 1, 1) := by decide +kernel
theorem d_Mod_below_22 : decode prog_9_method_24_code 22 = .ok (.isub, 1) := by decide +kernel
theorem d_Mod_below_23 : decode prog_9_method_24_code 23 = .ok (.iload_n 1, 1) := by decide +kernel
theorem d_Mod_below_24 : decode prog_9_method_24_code 24 = .ok (.isub, 1) := by decide +kernel
theorem d_Mod_below_25 : decode prog_9_method_24_code 25 = .ok (.iaload, 1) := by decide +kernel
theorem d_Mod_below_26 : decode prog_9_method_24_code 26 = .ok (.ireturn, 1) := by decide +kernel
theorem d_Mod_end_0 : decode prog_9_method_25_code 0 = .ok (.iload_n 1, 1) := by decide +kernel
theorem d_Mod_end_1 : decode prog_9_method_25_code 1 = .ok (.ifCond .le 7, 3) := by decide +kernel
theorem d_Mod_end_4 : decode prog_9_method_25_code 4 = .ok (.aload_n 0, 1) := by decide +kernel
theorem d_Mod_end_5 : decode prog_9_method_25_code 5 = .ok (.invokevirtual 129, 3) := by decide +kernel
theorem d_Mod_end_8 : decode prog_9_method_25_code 8 = .ok (.iload_n 1, 1) := by decide +kernel
theorem d_Mod_end_9 : decode prog_9_method_25_code 9 = .ok (.iconst 1, 1) := by decide +kernel
theorem d_Mod_end_10 : decode prog_9_method_25_code 10 = .ok (.if_icmp .le 7, 3) := by decide +kernel
theorem d_Mod_end_13 : decode prog_9_method_25_code 13 = .ok (.iconst 0, 1) := by decide +kernel
theorem d_Mod_end_14 : decode prog_9_method_25_code 14 = .ok (.goto 12, 3) := by decide +kernel
theorem d_Mod_end_17 : decode prog_9_method_25_code 17 = .ok (.aload_n 0, 1) := by decide +kernel
theorem d_Mod_end_18 : decode prog_9_method_25_code 18 = .ok (.getfield 74, 3) := by decide +kernel
theorem d_Mod_end_21 : decode prog_9_method_25_code 21 = .ok (.aload_n 0, 1) := by decide +kernel
theorem d_Mod_end_22 : decode prog_9_method_25_code 22 = .ok (.getfield 126, 3) := by decide +kernel
theorem d_Mod_end_25 : decode prog_9_method_25_code 25 = .ok (.iaload, 1) := by decide +kernel
theorem d_Mod_end_26 : decode prog_9_method_25_code 26 = .ok (.istore_n 3, 1) := by decide +kernel
theorem d_Mod_end_27 : decode prog_9_method_25_code 27 = .ok (.iload_n 1, 1) := by decide +kernel
theorem d_Mod_end_28 : decode prog_9_method_25_code 28 = .ok (.iconst 1, 1) := by decide +kernel
theorem d_Mod_end_29 : decode prog_9_method_25_code 29 = .ok (.if_icmp .le 7, 3) := by decide +kernel
theorem d_Mod_end_32 : decode prog_9_method_25_code 32 = .ok (.iconst 0, 1) := by decide +kernel
theorem d_Mod_end_33 : decode prog_9_method_25_code 33 = .ok (.goto 4, 3) := by decide +kernel
theorem d_Mod_end_36 : decode prog_9_method_25_code 36 = .ok (.iload_n 2, 1) := by decide +kernel
theorem d_Mod_end_37 : decode prog_9_method_25_code 37 = .ok (.istore 4, 2) := by decide +kernel
theorem d_Mod_end_39 : decode prog_9_method_25_code 39 = .ok (.aload_n 0, 1) := by decide +kernel
theorem d_Mod_end_40 : decode prog_9_method_25_code 40 = .ok (.getfield 126, 3) := by decide +kernel
theorem d_Mod_end_43 : decode prog_9_method_25_code 43 = .ok (.ifCond .ne 25, 3) := by decide +kernel
theorem d_Mod_end_46 : decode prog_9_method_25_code 46 = .ok (.aload_n 0, 1) := by decide +kernel
theorem d_Mod_end_47 : decode prog_9_method_25_code 47 = .ok (.iload_n 1, 1) := by decide +kernel
theorem d_Mod_end_48 : decode prog_9_method_25_code 48 = .ok (.putfield 132, 3) := by decide +kernel
theorem d_Mod_end_51 : decode prog_9_method_25_code 51 = .ok (.aload_n 0, 1) := by decide +kernel
theorem d_Mod_end_52 : decode prog_9_method_25_code 52 = .ok (.iload 4, 2) := by decide +kernel
theorem d_Mod_end_54 : decode prog_9_method_25_code 54 = .ok (.putfield 123, 3) := by decide +kernel
theorem d_Mod_end_57 : decode prog_9_method_25_code 57 = .ok (.aload_n 0, 1) := by decide +kernel
theorem d_Mod_end_58 : decode prog_9_method_25_code 58 = .ok (.iload_n 3, 1) := by decide +kernel
theorem d_Mod_end_59 : decode prog_9_method_25_code 59 = .ok (.putfield 135, 3) := by decide +kernel
theorem d_Mod_end_62 : decode prog_9_method_25_code 62 = .ok (.aload_n 0, 1) := by decide +kernel
theorem d_Mod_end_63 : decode prog_9_method_25_code 63 = .ok (.iconst (-1), 1) := by decide +kernel
theorem d_Mod_end_64 : decode prog_9_method_25_code 64 = .ok (.putfield 126, 3) := by decide +kernel
theorem d_Mod_end_67 : decode prog_9_method_25_code 67 = .ok (.return_, 1) := by decide +kernel
theorem d_Mod_end_68 : decode prog_9_method_25_code 68 = .ok (.aload_n 0, 1) := by decide +kernel
theorem d_Mod_end_69 : decode prog_9_method_25_code 69 = .ok (.dup, 1) := by decide +kernel
theorem d_Mod_end_70 : decode prog_9_method_25_code 70 = .ok (.getfield 126, 3) := by decide +kernel
theorem d_Mod_end_73 : decode prog_9_method_25_code 73 = .ok (.iconst 1, 1) := by decide +kernel
theorem d_Mod_end_74 : decode prog_9_method_25_code 74 = .ok (.isub, 1) := by decide +kernel
theorem d_Mod_end_75 : decode prog_9_method_25_code 75 = .ok (.putfield 126, 3) := by decide +kernel
theorem d_Mod_end_78 : decode prog_9_method_25_code 78 = .ok (.aload_n 0, 1) := by decide +kernel
theorem d_Mod_end_79 : decode prog_9_method_25_code 79 = .ok (.getfield 74, 3) := by decide +kernel
theorem d_Mod_end_82 : decode prog_9_method_25_code 82 = .ok (.aload_n 0, 1) := by decide +kernel
theorem d_Mod_end_83 : decode prog_9_method_25_code 83 = .ok (.getfield 126, 3) := by decide +kernel
theorem d_Mod_end_86 : decode prog_9_method_25_code 86 = .ok (.aload_n 0, 1) := by decide +kernel
theorem d_Mod_end_87 : decode prog_9_method_25_code 87 = .ok (.getfield 74, 3) := by decide +kernel
theorem d_Mod_end_90 : decode prog_9_method_25_code 90 = .ok (.aload_n 0, 1) := by decide +kernel
theorem d_Mod_end_91 : decode prog_9_method_25_code 91 = .ok (.getfield 126, 3) := by decide +kernel
theorem d_Mod_end_94 : decode prog_9_method_25_code 94 = .ok (.iaload, 1) := by decide +kernel
theorem d_Mod_end_95 : decode prog_9_method_25_code 95 = .ok (.iload_n 3, 1) := by decide +kernel
theorem d_Mod_end_96 : decode prog_9_method_25_code 96 = .ok (.iadd, 1) := by decide +kernel
theorem d_Mod_end_97 : decode prog_9_method_25_code 97 = .ok (.iastore, 1) := by decide +kernel
theorem d_Mod_end_98 : decode prog_9_method_25_code 98 = .ok (.aload_n 0, 1) := by decide +kernel
theorem d_Mod_end_99 : decode prog_9_method_25_code 99 = .ok (.iload 4, 2) := by decide +kernel
theorem d_Mod_end_101 : decode prog_9_method_25_code 101 = .ok (.invokevirtual 138, 3) := by decide +kernel
theorem d_Mod_end_104 : decode prog_9_method_25_code 104 = .ok (.aload_n 0, 1) := by decide +kernel
theorem d_Mod_end_105 : decode prog_9_method_25_code 105 = .ok (.iload_n 1, 1) := by decide +kernel
theorem d_Mod_end_106 : decode prog_9_method_25_code 106 = .ok (.ifCond .ne 7, 3) := by decide +kernel
theorem d_Mod_end_109 : decode prog_9_method_25_code 109 = .ok (.iconst 1, 1) := by decide +kernel
theorem d_Mod_end_110 : decode prog_9_method_25_code 110 = .ok (.goto 4, 3) := by decide +kernel
theorem d_Mod_end_113 : decode prog_9_method_25_code 113 = .ok (.iconst 0, 1) := by decide +kernel
theorem d_Mod_end_114 : decode prog_9_method_25_code 114 = .ok (.invokevirtual 138, 3) := by decide +kernel
theorem d_Mod_end_117 : decode prog_9_method_25_code 117 = .ok (.aload_n 0, 1) := by decide +kernel
theorem d_Mod_end_118 : decode prog_9_method_25_code 118 = .ok (.getfield 59, 3) := by decide +kernel
theorem d_Mod_end_121 : decode prog_9_method_25_code 121 = .ok (.aload_n 0, 1) := by decide +kernel
theorem d_Mod_end_122 : decode prog_9_method_25_code 122 = .ok (.getfield 126, 3) := by decide +kernel
theorem d_Mod_end_125 : decode prog_9_method_25_code 125 = .ok (.dup2, 1) := by decide +kernel
theorem d_Mod_end_126 : decode prog_9_method_25_code 126 = .ok (.iaload, 1) := by decide +kernel
theorem d_Mod_end_127 : decode prog_9_method_25_code 127 = .ok (.iconst 1, 1) := by decide +kernel
theorem d_Mod_end_128 : decode prog_9_method_25_code 128 = .ok (.iadd, 1) := by decide +kernel
theorem d_Mod_end_129 : decode prog_9_method_25_code 129 = .ok (.iastore, 1) := by decide +kernel
theorem d_Mod_end_130 : decode prog_9_method_25_code 130 = .ok (.return_, 1) := by decide +kernel
theorem d_Mod_priceOf_0 : decode prog_9_method_26_code 0 = .ok (.iload_n 0, 1) := by decide +kernel
theorem d_Mod_priceOf_1 : decode prog_9_method_26_code 1 = .ok (.tableswitch 103 7 25 #[91, 93, 93, 103, 103, 103, 103, 103, 103, 91, 91, 100, 103, 103, 103, 103, 103, 95, 97], 91) := by decide +kernel
theorem d_Mod_priceOf_92 : decode prog_9_method_26_code 92 = .ok (.iconst 2, 1) := by decide +kernel
theorem d_Mod_priceOf_93 : decode prog_9_method_26_code 93 = .ok (.ireturn, 1) := by decide +kernel
theorem d_Mod_priceOf_94 : decode prog_9_method_26_code 94 = .ok (.iconst 3, 1) := by decide +kernel
theorem d_Mod_priceOf_95 : decode prog_9_method_26_code 95 = .ok (.ireturn, 1) := by decide +kernel
theorem d_Mod_priceOf_96 : decode prog_9_method_26_code 96 = .ok (.iconst 5, 1) := by decide +kernel
theorem d_Mod_priceOf_97 : decode prog_9_method_26_code 97 = .ok (.ireturn, 1) := by decide +kernel
theorem d_Mod_priceOf_98 : decode prog_9_method_26_code 98 = .ok (.bipush 8, 2) := by decide +kernel
theorem d_Mod_priceOf_100 : decode prog_9_method_26_code 100 = .ok (.ireturn, 1) := by decide +kernel
theorem d_Mod_priceOf_101 : decode prog_9_method_26_code 101 = .ok (.bipush 10, 2) := by decide +kernel
theorem d_Mod_priceOf_103 : decode prog_9_method_26_code 103 = .ok (.ireturn, 1) := by decide +kernel
theorem d_Mod_priceOf_104 : decode prog_9_method_26_code 104 = .ok (.iconst 1, 1) := by decide +kernel
theorem d_Mod_priceOf_105 : decode prog_9_method_26_code 105 = .ok (.ireturn, 1) := by decide +kernel
theorem d_Mod_price_0 : decode prog_9_method_27_code 0 = .ok (.aload_n 0, 1) := by decide +kernel
theorem d_Mod_price_1 : decode prog_9_method_27_code 1 = .ok (.getfield 56, 3) := by decide +kernel
theorem d_Mod_price_4 : decode prog_9_method_27_code 4 = .ok (.aload_n 0, 1) := by decide +kernel
theorem d_Mod_price_5 : decode prog_9_method_27_code 5 = .ok (.getfield 126, 3) := by decide +kernel
theorem d_Mod_price_8 : decode prog_9_method_27_code 8 = .ok (.iaload, 1) := by decide +kernel
theorem d_Mod_price_9 : decode prog_9_method_27_code 9 = .ok (.iconst 1, 1) := by decide +kernel
theorem d_Mod_price_10 : decode prog_9_method_27_code 10 = .ok (.if_icmp .le 7, 3) := by decide +kernel
theorem d_Mod_price_13 : decode prog_9_method_27_code 13 = .ok (.iconst 1, 1) := by decide +kernel
theorem d_Mod_price_14 : decode prog_9_method_27_code 14 = .ok (.goto 4, 3) := by decide +kernel
theorem d_Mod_price_17 : decode prog_9_method_27_code 17 = .ok (.iconst 0, 1) := by decide +kernel
theorem d_Mod_price_18 : decode prog_9_method_27_code 18 = .ok (.istore_n 2, 1) := by decide +kernel
theorem d_Mod_price_19 : decode prog_9_method_27_code 19 = .ok (.iload_n 1, 1) := by decide +kernel
theorem d_Mod_price_20 : decode prog_9_method_27_code 20 = .ok (.bipush 19, 2) := by decide +kernel
theorem d_Mod_price_22 : decode prog_9_method_27_code 22 = .ok (.if_icmp .ne 59, 3) := by decide +kernel
theorem d_Mod_price_25 : decode prog_9_method_27_code 25 = .ok (.iload_n 2, 1) := by decide +kernel
theorem d_Mod_price_26 : decode prog_9_method_27_code 26 = .ok (.ifCond .eq 24, 3) := by decide +kernel
theorem d_Mod_price_29 : decode prog_9_method_27_code 29 = .ok (.aload_n 0, 1) := by decide +kernel
theorem d_Mod_price_30 : decode prog_9_method_27_code 30 = .ok (.aload_n 0, 1) := by decide +kernel
theorem d_Mod_price_31 : decode prog_9_method_27_code 31 = .ok (.getfield 77, 3) := by decide +kernel
theorem d_Mod_price_34 : decode prog_9_method_27_code 34 = .ok (.aload_n 0, 1) := by decide +kernel
theorem d_Mod_price_35 : decode prog_9_method_27_code 35 = .ok (.getfield 126, 3) := by decide +kernel
theorem d_Mod_price_38 : decode prog_9_method_27_code 38 = .ok (.iaload, 1) := by decide +kernel
theorem d_Mod_price_39 : decode prog_9_method_27_code 39 = .ok (.aload_n 0, 1) := by decide +kernel
theorem d_Mod_price_40 : decode prog_9_method_27_code 40 = .ok (.iconst 1, 1) := by decide +kernel
theorem d_Mod_price_41 : decode prog_9_method_27_code 41 = .ok (.invokevirtual 142, 3) := by decide +kernel
theorem d_Mod_price_44 : decode prog_9_method_27_code 44 = .ok (.invokevirtual 114, 3) := by decide +kernel
theorem d_Mod_price_47 : decode prog_9_method_27_code 47 = .ok (.goto 4, 3) := by decide +kernel
theorem d_Mod_price_50 : decode prog_9_method_27_code 50 = .ok (.iconst 0, 1) := by decide +kernel
theorem d_Mod_price_51 : decode prog_9_method_27_code 51 = .ok (.istore_n 3, 1) := by decide +kernel
theorem d_Mod_price_52 : decode prog_9_method_27_code 52 = .ok (.iload_n 2, 1) := by decide +kernel
theorem d_Mod_price_53 : decode prog_9_method_27_code 53 = .ok (.ifCond .eq 12, 3) := by decide +kernel
theorem d_Mod_price_56 : decode prog_9_method_27_code 56 = .ok (.iload_n 3, 1) := by decide +kernel
theorem d_Mod_price_57 : decode prog_9_method_27_code 57 = .ok (.aload_n 0, 1) := by decide +kernel
theorem d_Mod_price_58 : decode prog_9_method_27_code 58 = .ok (.iconst 0, 1) := by decide +kernel
theorem d_Mod_price_59 : decode prog_9_method_27_code 59 = .ok (.invokevirtual 142, 3) := by decide +kernel
theorem d_Mod_price_62 : decode prog_9_method_27_code 62 = .ok (.if_icmp .ne 7, 3) := by decide +kernel
theorem d_Mod_price_65 : decode prog_9_method_27_code 65 = .ok (.iconst 5, 1) := by decide +kernel
theorem d_Mod_price_66 : decode prog_9_method_27_code 66 = .ok (.goto 14, 3) := by decide +kernel
theorem d_Mod_price_69 : decode prog_9_method_27_code 69 = .ok (.iload_n 3, 1) := by decide +kernel
theorem d_Mod_price_70 : decode prog_9_method_27_code 70 = .ok (.ifCond .ne 8, 3) := by decide +kernel
theorem d_Mod_price_73 : decode prog_9_method_27_code 73 = .ok (.bipush 40, 2) := by decide +kernel
theorem d_Mod_price_75 : decode prog_9_method_27_code 75 = .ok (.goto 5, 3) := by decide +kernel
theorem d_Mod_price_78 : decode prog_9_method_27_code 78 = .ok (.bipush 20, 2) := by decide +kernel
theorem d_Mod_price_80 : decode prog_9_method_27_code 80 = .ok (.ireturn, 1) := by decide +kernel
theorem d_Mod_price_81 : decode prog_9_method_27_code 81 = .ok (.iload_n 1, 1) := by decide +kernel
theorem d_Mod_price_82 : decode prog_9_method_27_code 82 = .ok (.bipush 27, 2) := by decide +kernel
theorem d_Mod_price_84 : decode prog_9_method_27_code 84 = .ok (.if_icmp .ne 23, 3) := by decide +kernel
theorem d_Mod_price_87 : decode prog_9_method_27_code 87 = .ok (.iload_n 2, 1) := by decide +kernel
theorem d_Mod_price_88 : decode prog_9_method_27_code 88 = .ok (.ifCond .eq 16, 3) := by decide +kernel
theorem d_Mod_price_91 : decode prog_9_method_27_code 91 = .ok (.aload_n 0, 1) := by decide +kernel
theorem d_Mod_price_92 : decode prog_9_method_27_code 92 = .ok (.iconst 1, 1) := by decide +kernel
theorem d_Mod_price_93 : decode prog_9_method_27_code 93 = .ok (.invokevirtual 142, 3) := by decide +kernel
theorem d_Mod_price_96 : decode prog_9_method_27_code 96 = .ok (.ifCond .eq 8, 3) := by decide +kernel
theorem d_Mod_price_99 : decode prog_9_method_27_code 99 = .ok (.bipush 40, 2) := by decide +kernel
theorem d_Mod_price_101 : decode prog_9_method_27_code 101 = .ok (.goto 5, 3) := by decide +kernel
theorem d_Mod_price_104 : decode prog_9_method_27_code 104 = .ok (.bipush 25, 2) := by decide +kernel
theorem d_Mod_price_106 : decode prog_9_method_27_code 106 = .ok (.ireturn, 1) := by decide +kernel
theorem d_Mod_price_107 : decode prog_9_method_27_code 107 = .ok (.iload_n 1, 1) := by decide +kernel
theorem d_Mod_price_108 : decode prog_9_method_27_code 108 = .ok (.invokestatic 146, 3) := by decide +kernel
theorem d_Mod_price_111 : decode prog_9_method_27_code 111 = .ok (.ireturn, 1) := by decide +kernel
theorem d_Mod_needs_0 : decode prog_9_method_28_code 0 = .ok (.iload_n 0, 1) := by decide +kernel
theorem d_Mod_needs_1 : decode prog_9_method_28_code 1 = .ok (.tableswitch 147 0 29 #[135, 135, 141, 137, 137, 147, 147, 147, 147, 147, 147, 147, 141, 147, 147, 147, 135, 141, 141, 147, 141, 135, 135, 135, 141, 141, 141, 143, 135, 141], 135) := by decide +kernel
theorem d_Mod_needs_136 : decode prog_9_method_28_code 136 = .ok (.iconst 0, 1) := by decide +kernel
theorem d_Mod_needs_137 : decode prog_9_method_28_code 137 = .ok (.ireturn, 1) := by decide +kernel
theorem d_Mod_needs_138 : decode prog_9_method_28_code 138 = .ok (.iload_n 1, 1) := by decide +kernel
theorem d_Mod_needs_139 : decode prog_9_method_28_code 139 = .ok (.iconst 1, 1) := by decide +kernel
theorem d_Mod_needs_140 : decode prog_9_method_28_code 140 = .ok (.iadd, 1) := by decide +kernel
theorem d_Mod_needs_141 : decode prog_9_method_28_code 141 = .ok (.ireturn, 1) := by decide +kernel
theorem d_Mod_needs_142 : decode prog_9_method_28_code 142 = .ok (.iconst 1, 1) := by decide +kernel
theorem d_Mod_needs_143 : decode prog_9_method_28_code 143 = .ok (.ireturn, 1) := by decide +kernel
theorem d_Mod_needs_144 : decode prog_9_method_28_code 144 = .ok (.iload_n 1, 1) := by decide +kernel
theorem d_Mod_needs_145 : decode prog_9_method_28_code 145 = .ok (.iconst 3, 1) := by decide +kernel
theorem d_Mod_needs_146 : decode prog_9_method_28_code 146 = .ok (.iadd, 1) := by decide +kernel
theorem d_Mod_needs_147 : decode prog_9_method_28_code 147 = .ok (.ireturn, 1) := by decide +kernel
theorem d_Mod_needs_148 : decode prog_9_method_28_code 148 = .ok (.iconst 2, 1) := by decide +kernel
theorem d_Mod_needs_149 : decode prog_9_method_28_code 149 = .ok (.ireturn, 1) := by decide +kernel
theorem d_Mod_leaves_0 : decode prog_9_method_29_code 0 = .ok (.iload_n 0, 1) := by decide +kernel
theorem d_Mod_leaves_1 : decode prog_9_method_29_code 1 = .ok (.tableswitch 147 0 29 #[135, 147, 135, 137, 141, 147, 147, 147, 147, 147, 147, 147, 147, 147, 147, 147, 135, 135, 147, 135, 147, 147, 147, 147, 147, 135, 135, 145, 147, 135], 135) := by decide +kernel
theorem d_Mod_leaves_136 : decode prog_9_method_29_code 136 = .ok (.iconst 0, 1) := by decide +kernel
theorem d_Mod_leaves_137 : decode prog_9_method_29_code 137 = .ok (.ireturn, 1) := by decide +kernel
theorem d_Mod_leaves_138 : decode prog_9_method_29_code 138 = .ok (.iload_n 1, 1) := by decide +kernel
theorem d_Mod_leaves_139 : decode prog_9_method_29_code 139 = .ok (.iconst 2, 1) := by decide +kernel
theorem d_Mod_leaves_140 : decode prog_9_method_29_code 140 = .ok (.iadd, 1) := by decide +kernel
theorem d_Mod_leaves_141 : decode prog_9_method_29_code 141 = .ok (.ireturn, 1) := by decide +kernel
theorem d_Mod_leaves_142 : decode prog_9_method_29_code 142 = .ok (.iload_n 1, 1) := by decide +kernel
theorem d_Mod_leaves_143 : decode prog_9_method_29_code 143 = .ok (.iconst 1, 1) := by decide +kernel
theorem d_Mod_leaves_144 : decode prog_9_method_29_code 144 = .ok (.iadd, 1) := by decide +kernel
theorem d_Mod_leaves_145 : decode prog_9_method_29_code 145 = .ok (.ireturn, 1) := by decide +kernel
theorem d_Mod_leaves_146 : decode prog_9_method_29_code 146 = .ok (.iconst 2, 1) := by decide +kernel
theorem d_Mod_leaves_147 : decode prog_9_method_29_code 147 = .ok (.ireturn, 1) := by decide +kernel
theorem d_Mod_leaves_148 : decode prog_9_method_29_code 148 = .ok (.iconst 1, 1) := by decide +kernel
theorem d_Mod_leaves_149 : decode prog_9_method_29_code 149 = .ok (.ireturn, 1) := by decide +kernel
theorem d_Mod_made_0 : decode prog_9_method_30_code 0 = .ok (.iload_n 0, 1) := by decide +kernel
theorem d_Mod_made_1 : decode prog_9_method_30_code 1 = .ok (.tableswitch 121 5 14 #[55, 59, 63, 67, 79, 91, 102, 121, 113, 117], 55) := by decide +kernel
theorem d_Mod_made_56 : decode prog_9_method_30_code 56 = .ok (.iload_n 1, 1) := by decide +kernel
theorem d_Mod_made_57 : decode prog_9_method_30_code 57 = .ok (.iload_n 2, 1) := by decide +kernel
theorem d_Mod_made_58 : decode prog_9_method_30_code 58 = .ok (.iadd, 1) := by decide +kernel
theorem d_Mod_made_59 : decode prog_9_method_30_code 59 = .ok (.ireturn, 1) := by decide +kernel
theorem d_Mod_made_60 : decode prog_9_method_30_code 60 = .ok (.iload_n 1, 1) := by decide +kernel
theorem d_Mod_made_61 : decode prog_9_method_30_code 61 = .ok (.iload_n 2, 1) := by decide +kernel
theorem d_Mod_made_62 : decode prog_9_method_30_code 62 = .ok (.isub, 1) := by decide +kernel
theorem d_Mod_made_63 : decode prog_9_method_30_code 63 = .ok (.ireturn, 1) := by decide +kernel
theorem d_Mod_made_64 : decode prog_9_method_30_code 64 = .ok (.iload_n 1, 1) := by decide +kernel
theorem d_Mod_made_65 : decode prog_9_method_30_code 65 = .ok (.iload_n 2, 1) := by decide +kernel
theorem d_Mod_made_66 : decode prog_9_method_30_code 66 = .ok (.imul, 1) := by decide +kernel
theorem d_Mod_made_67 : decode prog_9_method_30_code 67 = .ok (.ireturn, 1) := by decide +kernel
theorem d_Mod_made_68 : decode prog_9_method_30_code 68 = .ok (.iload_n 2, 1) := by decide +kernel
theorem d_Mod_made_69 : decode prog_9_method_30_code 69 = .ok (.ifCond .ne 7, 3) := by decide +kernel
theorem d_Mod_made_72 : decode prog_9_method_30_code 72 = .ok (.iconst 0, 1) := by decide +kernel
theorem d_Mod_made_73 : decode prog_9_method_30_code 73 = .ok (.goto 6, 3) := by decide +kernel
theorem d_Mod_made_76 : decode prog_9_method_30_code 76 = .ok (.iload_n 1, 1) := by decide +kernel
theorem d_Mod_made_77 : decode prog_9_method_30_code 77 = .ok (.iload_n 2, 1) := by decide +kernel
theorem d_Mod_made_78 : decode prog_9_method_30_code 78 = .ok (.idiv, 1) := by decide +kernel
theorem d_Mod_made_79 : decode prog_9_method_30_code 79 = .ok (.ireturn, 1) := by decide +kernel
theorem d_Mod_made_80 : decode prog_9_method_30_code 80 = .ok (.iload_n 2, 1) := by decide +kernel
theorem d_Mod_made_81 : decode prog_9_method_30_code 81 = .ok (.ifCond .ne 7, 3) := by decide +kernel
theorem d_Mod_made_84 : decode prog_9_method_30_code 84 = .ok (.iload_n 1, 1) := by decide +kernel
theorem d_Mod_made_85 : decode prog_9_method_30_code 85 = .ok (.goto 6, 3) := by decide +kernel
theorem d_Mod_made_88 : decode prog_9_method_30_code 88 = .ok (.iload_n 1, 1) := by decide +kernel
theorem d_Mod_made_89 : decode prog_9_method_30_code 89 = .ok (.iload_n 2, 1) := by decide +kernel
theorem d_Mod_made_90 : decode prog_9_method_30_code 90 = .ok (.irem, 1) := by decide +kernel
theorem d_Mod_made_91 : decode prog_9_method_30_code 91 = .ok (.ireturn, 1) := by decide +kernel
theorem d_Mod_made_92 : decode prog_9_method_30_code 92 = .ok (.iload_n 1, 1) := by decide +kernel
theorem d_Mod_made_93 : decode prog_9_method_30_code 93 = .ok (.iload_n 2, 1) := by decide +kernel
theorem d_Mod_made_94 : decode prog_9_method_30_code 94 = .ok (.if_icmp .ge 7, 3) := by decide +kernel
theorem d_Mod_made_97 : decode prog_9_method_30_code 97 = .ok (.iconst 1, 1) := by decide +kernel
theorem d_Mod_made_98 : decode prog_9_method_30_code 98 = .ok (.goto 4, 3) := by decide +kernel
theorem d_Mod_made_101 : decode prog_9_method_30_code 101 = .ok (.iconst 0, 1) := by decide +kernel
theorem d_Mod_made_102 : decode prog_9_method_30_code 102 = .ok (.ireturn, 1) := by decide +kernel
theorem d_Mod_made_103 : decode prog_9_method_30_code 103 = .ok (.iload_n 1, 1) := by decide +kernel
theorem d_Mod_made_104 : decode prog_9_method_30_code 104 = .ok (.iload_n 2, 1) := by decide +kernel
theorem d_Mod_made_105 : decode prog_9_method_30_code 105 = .ok (.if_icmp .ne 7, 3) := by decide +kernel
theorem d_Mod_made_108 : decode prog_9_method_30_code 108 = .ok (.iconst 1, 1) := by decide +kernel
theorem d_Mod_made_109 : decode prog_9_method_30_code 109 = .ok (.goto 4, 3) := by decide +kernel
theorem d_Mod_made_112 : decode prog_9_method_30_code 112 = .ok (.iconst 0, 1) := by decide +kernel
theorem d_Mod_made_113 : decode prog_9_method_30_code 113 = .ok (.ireturn, 1) := by decide +kernel
theorem d_Mod_made_114 : decode prog_9_method_30_code 114 = .ok (.iload_n 1, 1) := by decide +kernel
theorem d_Mod_made_115 : decode prog_9_method_30_code 115 = .ok (.iload_n 2, 1) := by decide +kernel
theorem d_Mod_made_116 : decode prog_9_method_30_code 116 = .ok (.iand, 1) := by decide +kernel
theorem d_Mod_made_117 : decode prog_9_method_30_code 117 = .ok (.ireturn, 1) := by decide +kernel
theorem d_Mod_made_118 : decode prog_9_method_30_code 118 = .ok (.iload_n 1, 1) := by decide +kernel
theorem d_Mod_made_119 : decode prog_9_method_30_code 119 = .ok (.iload_n 2, 1) := by decide +kernel
theorem d_Mod_made_120 : decode prog_9_method_30_code 120 = .ok (.ior, 1) := by decide +kernel
theorem d_Mod_made_121 : decode prog_9_method_30_code 121 = .ok (.ireturn, 1) := by decide +kernel
theorem d_Mod_made_122 : decode prog_9_method_30_code 122 = .ok (.iload_n 1, 1) := by decide +kernel
theorem d_Mod_made_123 : decode prog_9_method_30_code 123 = .ok (.iload_n 2, 1) := by decide +kernel
theorem d_Mod_made_124 : decode prog_9_method_30_code 124 = .ok (.ixor, 1) := by decide +kernel
theorem d_Mod_made_125 : decode prog_9_method_30_code 125 = .ok (.ireturn, 1) := by decide +kernel
theorem d_Mod_call_0 : decode prog_9_method_31_code 0 = .ok (.aload_n 0, 1) := by decide +kernel
theorem d_Mod_call_1 : decode prog_9_method_31_code 1 = .ok (.invokevirtual 149, 3) := by decide +kernel
theorem d_Mod_call_4 : decode prog_9_method_31_code 4 = .ok (.istore_n 2, 1) := by decide +kernel
theorem d_Mod_call_5 : decode prog_9_method_31_code 5 = .ok (.aload_n 0, 1) := by decide +kernel
theorem d_Mod_call_6 : decode prog_9_method_31_code 6 = .ok (.invokevirtual 149, 3) := by decide +kernel
theorem d_Mod_call_9 : decode prog_9_method_31_code 9 = .ok (.istore_n 3, 1) := by decide +kernel
theorem d_Mod_call_10 : decode prog_9_method_31_code 10 = .ok (.aload_n 0, 1) := by decide +kernel
theorem d_Mod_call_11 : decode prog_9_method_31_code 11 = .ok (.invokevirtual 149, 3) := by decide +kernel
theorem d_Mod_call_14 : decode prog_9_method_31_code 14 = .ok (.istore 4, 2) := by decide +kernel
theorem d_Mod_call_16 : decode prog_9_method_31_code 16 = .ok (.aload_n 0, 1) := by decide +kernel
theorem d_Mod_call_17 : decode prog_9_method_31_code 17 = .ok (.getfield 77, 3) := by decide +kernel
theorem d_Mod_call_20 : decode prog_9_method_31_code 20 = .ok (.aload_n 0, 1) := by decide +kernel
theorem d_Mod_call_21 : decode prog_9_method_31_code 21 = .ok (.getfield 126, 3) := by decide +kernel
theorem d_Mod_call_24 : decode prog_9_method_31_code 24 = .ok (.iaload, 1) := by decide +kernel
theorem d_Mod_call_25 : decode prog_9_method_31_code 25 = .ok (.istore 5, 2) := by decide +kernel
theorem d_Mod_call_27 : decode prog_9_method_31_code 27 = .ok (.aload_n 0, 1) := by decide +kernel
theorem d_Mod_call_28 : decode prog_9_method_31_code 28 = .ok (.iload_n 2, 1) := by decide +kernel
theorem d_Mod_call_29 : decode prog_9_method_31_code 29 = .ok (.invokevirtual 96, 3) := by decide +kernel
theorem d_Mod_call_32 : decode prog_9_method_31_code 32 = .ok (.ifCond .ne 32, 3) := by decide +kernel
theorem d_Mod_call_35 : decode prog_9_method_31_code 35 = .ok (.iload_n 3, 1) := by decide +kernel
theorem d_Mod_call_36 : decode prog_9_method_31_code 36 = .ok (.ifCond .lt 28, 3) := by decide +kernel
theorem d_Mod_call_39 : decode prog_9_method_31_code 39 = .ok (.iload_n 3, 1) := by decide +kernel
theorem d_Mod_call_40 : decode prog_9_method_31_code 40 = .ok (.aload_n 0, 1) := by decide +kernel
theorem d_Mod_call_41 : decode prog_9_method_31_code 41 = .ok (.getfield 7, 3) := by decide +kernel
theorem d_Mod_call_44 : decode prog_9_method_31_code 44 = .ok (.iload 5, 2) := by decide +kernel
theorem d_Mod_call_46 : decode prog_9_method_31_code 46 = .ok (.iaload, 1) := by decide +kernel
theorem d_Mod_call_47 : decode prog_9_method_31_code 47 = .ok (.if_icmp .gt 17, 3) := by decide +kernel
theorem d_Mod_call_50 : decode prog_9_method_31_code 50 = .ok (.iload 4, 2) := by decide +kernel
theorem d_Mod_call_52 : decode prog_9_method_31_code 52 = .ok (.ifCond .lt 12, 3) := by decide +kernel
theorem d_Mod_call_55 : decode prog_9_method_31_code 55 = .ok (.aload_n 0, 1) := by decide +kernel
theorem d_Mod_call_56 : decode prog_9_method_31_code 56 = .ok (.getfield 126, 3) := by decide +kernel
theorem d_Mod_call_59 : decode prog_9_method_31_code 59 = .ok (.bipush 7, 2) := by decide +kernel
theorem d_Mod_call_61 : decode prog_9_method_31_code 61 = .ok (.if_icmp .ne 7, 3) := by decide +kernel
theorem d_Mod_call_64 : decode prog_9_method_31_code 64 = .ok (.iconst 1, 1) := by decide +kernel
theorem d_Mod_call_65 : decode prog_9_method_31_code 65 = .ok (.goto 4, 3) := by decide +kernel
theorem d_Mod_call_68 : decode prog_9_method_31_code 68 = .ok (.iconst 0, 1) := by decide +kernel
theorem d_Mod_call_69 : decode prog_9_method_31_code 69 = .ok (.istore 6, 2) := by decide +kernel
theorem d_Mod_call_71 : decode prog_9_method_31_code 71 = .ok (.iconst 0, 1) := by decide +kernel
theorem d_Mod_call_72 : decode prog_9_method_31_code 72 = .ok (.istore 7, 2) := by decide +kernel
theorem d_Mod_call_74 : decode prog_9_method_31_code 74 = .ok (.iload 7, 2) := by decide +kernel
theorem d_Mod_call_76 : decode prog_9_method_31_code 76 = .ok (.iload_n 1, 1) := by decide +kernel
theorem d_Mod_call_77 : decode prog_9_method_31_code 77 = .ok (.if_icmp .ge 40, 3) := by decide +kernel
theorem d_Mod_call_80 : decode prog_9_method_31_code 80 = .ok (.aload_n 0, 1) := by decide +kernel
theorem d_Mod_call_81 : decode prog_9_method_31_code 81 = .ok (.invokevirtual 149, 3) := by decide +kernel
theorem d_Mod_call_84 : decode prog_9_method_31_code 84 = .ok (.istore 8, 2) := by decide +kernel
theorem d_Mod_call_86 : decode prog_9_method_31_code 86 = .ok (.iload 6, 2) := by decide +kernel
theorem d_Mod_call_88 : decode prog_9_method_31_code 88 = .ok (.ifCond .ne 23, 3) := by decide +kernel
theorem d_Mod_call_91 : decode prog_9_method_31_code 91 = .ok (.aload_n 0, 1) := by decide +kernel
theorem d_Mod_call_92 : decode prog_9_method_31_code 92 = .ok (.getfield 62, 3) := by decide +kernel
theorem d_Mod_call_95 : decode prog_9_method_31_code 95 = .ok (.bipush 8, 2) := by decide +kernel
theorem d_Mod_call_97 : decode prog_9_method_31_code 97 = .ok (.aload_n 0, 1) := by decide +kernel
theorem d_Mod_call_98 : decode prog_9_method_31_code 98 = .ok (.getfield 126, 3) := by decide +kernel
theorem d_Mod_call_101 : decode prog_9_method_31_code 101 = .ok (.imul, 1) := by decide +kernel
theorem d_Mod_call_102 : decode prog_9_method_31_code 102 = .ok (.bipush 8, 2) := by decide +kernel
theorem d_Mod_call_104 : decode prog_9_method_31_code 104 = .ok (.iadd, 1) := by decide +kernel
theorem d_Mod_call_105 : decode prog_9_method_31_code 105 = .ok (.iload 7, 2) := by decide +kernel
theorem d_Mod_call_107 : decode prog_9_method_31_code 107 = .ok (.iadd, 1) := by decide +kernel
theorem d_Mod_call_108 : decode prog_9_method_31_code 108 = .ok (.iload 8, 2) := by decide +kernel
theorem d_Mod_call_110 : decode prog_9_method_31_code 110 = .ok (.iastore, 1) := by decide +kernel
theorem d_Mod_call_111 : decode prog_9_method_31_code 111 = .ok (.iinc 7 1, 3) := by decide +kernel
theorem d_Mod_call_114 : decode prog_9_method_31_code 114 = .ok (.goto (-40), 3) := by decide +kernel
theorem d_Mod_call_117 : decode prog_9_method_31_code 117 = .ok (.iload 6, 2) := by decide +kernel
theorem d_Mod_call_119 : decode prog_9_method_31_code 119 = .ok (.ifCond .eq 27, 3) := by decide +kernel
theorem d_Mod_call_122 : decode prog_9_method_31_code 122 = .ok (.aload_n 0, 1) := by decide +kernel
theorem d_Mod_call_123 : decode prog_9_method_31_code 123 = .ok (.iconst 0, 1) := by decide +kernel
theorem d_Mod_call_124 : decode prog_9_method_31_code 124 = .ok (.invokevirtual 138, 3) := by decide +kernel
theorem d_Mod_call_127 : decode prog_9_method_31_code 127 = .ok (.aload_n 0, 1) := by decide +kernel
theorem d_Mod_call_128 : decode prog_9_method_31_code 128 = .ok (.iconst 0, 1) := by decide +kernel
theorem d_Mod_call_129 : decode prog_9_method_31_code 129 = .ok (.invokevirtual 138, 3) := by decide +kernel
theorem d_Mod_call_132 : decode prog_9_method_31_code 132 = .ok (.aload_n 0, 1) := by decide +kernel
theorem d_Mod_call_133 : decode prog_9_method_31_code 133 = .ok (.getfield 59, 3) := by decide +kernel
theorem d_Mod_call_136 : decode prog_9_method_31_code 136 = .ok (.aload_n 0, 1) := by decide +kernel
theorem d_Mod_call_137 : decode prog_9_method_31_code 137 = .ok (.getfield 126, 3) := by decide +kernel
theorem d_Mod_call_140 : decode prog_9_method_31_code 140 = .ok (.dup2, 1) := by decide +kernel
theorem d_Mod_call_141 : decode prog_9_method_31_code 141 = .ok (.iaload, 1) := by decide +kernel
theorem d_Mod_call_142 : decode prog_9_method_31_code 142 = .ok (.iconst 1, 1) := by decide +kernel
theorem d_Mod_call_143 : decode prog_9_method_31_code 143 = .ok (.iadd, 1) := by decide +kernel
theorem d_Mod_call_144 : decode prog_9_method_31_code 144 = .ok (.iastore, 1) := by decide +kernel
theorem d_Mod_call_145 : decode prog_9_method_31_code 145 = .ok (.return_, 1) := by decide +kernel
theorem d_Mod_call_146 : decode prog_9_method_31_code 146 = .ok (.aload_n 0, 1) := by decide +kernel
theorem d_Mod_call_147 : decode prog_9_method_31_code 147 = .ok (.getfield 74, 3) := by decide +kernel
theorem d_Mod_call_150 : decode prog_9_method_31_code 150 = .ok (.aload_n 0, 1) := by decide +kernel
theorem d_Mod_call_151 : decode prog_9_method_31_code 151 = .ok (.getfield 126, 3) := by decide +kernel
theorem d_Mod_call_154 : decode prog_9_method_31_code 154 = .ok (.iaload, 1) := by decide +kernel
theorem d_Mod_call_155 : decode prog_9_method_31_code 155 = .ok (.aload_n 0, 1) := by decide +kernel
theorem d_Mod_call_156 : decode prog_9_method_31_code 156 = .ok (.getfield 74, 3) := by decide +kernel
theorem d_Mod_call_159 : decode prog_9_method_31_code 159 = .ok (.aload_n 0, 1) := by decide +kernel
theorem d_Mod_call_160 : decode prog_9_method_31_code 160 = .ok (.getfield 126, 3) := by decide +kernel
theorem d_Mod_call_163 : decode prog_9_method_31_code 163 = .ok (.iaload, 1) := by decide +kernel
theorem d_Mod_call_164 : decode prog_9_method_31_code 164 = .ok (.bipush 8, 2) := by decide +kernel
theorem d_Mod_call_166 : decode prog_9_method_31_code 166 = .ok (.idiv, 1) := by decide +kernel
theorem d_Mod_call_167 : decode prog_9_method_31_code 167 = .ok (.isub, 1) := by decide +kernel
theorem d_Mod_call_168 : decode prog_9_method_31_code 168 = .ok (.istore 7, 2) := by decide +kernel
theorem d_Mod_call_170 : decode prog_9_method_31_code 170 = .ok (.iload 4, 2) := by decide +kernel
theorem d_Mod_call_172 : decode prog_9_method_31_code 172 = .ok (.iload 7, 2) := by decide +kernel
theorem d_Mod_call_174 : decode prog_9_method_31_code 174 = .ok (.if_icmp .ge 8, 3) := by decide +kernel
theorem d_Mod_call_177 : decode prog_9_method_31_code 177 = .ok (.iload 4, 2) := by decide +kernel
theorem d_Mod_call_179 : decode prog_9_method_31_code 179 = .ok (.goto 5, 3) := by decide +kernel
theorem d_Mod_call_182 : decode prog_9_method_31_code 182 = .ok (.iload 7, 2) := by decide +kernel
theorem d_Mod_call_184 : decode prog_9_method_31_code 184 = .ok (.istore 8, 2) := by decide +kernel
theorem d_Mod_call_186 : decode prog_9_method_31_code 186 = .ok (.aload_n 0, 1) := by decide +kernel
theorem d_Mod_call_187 : decode prog_9_method_31_code 187 = .ok (.getfield 74, 3) := by decide +kernel
theorem d_Mod_call_190 : decode prog_9_method_31_code 190 = .ok (.aload_n 0, 1) := by decide +kernel
theorem d_Mod_call_191 : decode prog_9_method_31_code 191 = .ok (.getfield 126, 3) := by decide +kernel
theorem d_Mod_call_194 : decode prog_9_method_31_code 194 = .ok (.aload_n 0, 1) := by decide +kernel
theorem d_Mod_call_195 : decode prog_9_method_31_code 195 = .ok (.getfield 74, 3) := by decide +kernel
theorem d_Mod_call_198 : decode prog_9_method_31_code 198 = .ok (.aload_n 0, 1) := by decide +kernel
theorem d_Mod_call_199 : decode prog_9_method_31_code 199 = .ok (.getfield 126, 3) := by decide +kernel
theorem d_Mod_call_202 : decode prog_9_method_31_code 202 = .ok (.iaload, 1) := by decide +kernel
theorem d_Mod_call_203 : decode prog_9_method_31_code 203 = .ok (.iload 8, 2) := by decide +kernel
theorem d_Mod_call_205 : decode prog_9_method_31_code 205 = .ok (.isub, 1) := by decide +kernel
theorem d_Mod_call_206 : decode prog_9_method_31_code 206 = .ok (.iastore, 1) := by decide +kernel
theorem d_Mod_call_207 : decode prog_9_method_31_code 207 = .ok (.aload_n 0, 1) := by decide +kernel
theorem d_Mod_call_208 : decode prog_9_method_31_code 208 = .ok (.getfield 65, 3) := by decide +kernel
theorem d_Mod_call_211 : decode prog_9_method_31_code 211 = .ok (.aload_n 0, 1) := by decide +kernel
theorem d_Mod_call_212 : decode prog_9_method_31_code 212 = .ok (.getfield 126, 3) := by decide +kernel
theorem d_Mod_call_215 : decode prog_9_method_31_code 215 = .ok (.iconst 1, 1) := by decide +kernel
theorem d_Mod_call_216 : decode prog_9_method_31_code 216 = .ok (.iadd, 1) := by decide +kernel
theorem d_Mod_call_217 : decode prog_9_method_31_code 217 = .ok (.iload_n 1, 1) := by decide +kernel
theorem d_Mod_call_218 : decode prog_9_method_31_code 218 = .ok (.iastore, 1) := by decide +kernel
theorem d_Mod_call_219 : decode prog_9_method_31_code 219 = .ok (.aload_n 0, 1) := by decide +kernel
theorem d_Mod_call_220 : decode prog_9_method_31_code 220 = .ok (.dup, 1) := by decide +kernel
theorem d_Mod_call_221 : decode prog_9_method_31_code 221 = .ok (.getfield 126, 3) := by decide +kernel
theorem d_Mod_call_224 : decode prog_9_method_31_code 224 = .ok (.iconst 1, 1) := by decide +kernel
theorem d_Mod_call_225 : decode prog_9_method_31_code 225 = .ok (.iadd, 1) := by decide +kernel
theorem d_Mod_call_226 : decode prog_9_method_31_code 226 = .ok (.putfield 126, 3) := by decide +kernel
theorem d_Mod_call_229 : decode prog_9_method_31_code 229 = .ok (.aload_n 0, 1) := by decide +kernel
theorem d_Mod_call_230 : decode prog_9_method_31_code 230 = .ok (.iload 5, 2) := by decide +kernel
theorem d_Mod_call_232 : decode prog_9_method_31_code 232 = .ok (.iload_n 2, 1) := by decide +kernel
theorem d_Mod_call_233 : decode prog_9_method_31_code 233 = .ok (.iload_n 3, 1) := by decide +kernel
theorem d_Mod_call_234 : decode prog_9_method_31_code 234 = .ok (.iload 8, 2) := by decide +kernel
theorem d_Mod_call_236 : decode prog_9_method_31_code 236 = .ok (.invokevirtual 152, 3) := by decide +kernel
theorem d_Mod_call_239 : decode prog_9_method_31_code 239 = .ok (.return_, 1) := by decide +kernel
theorem d_Mod_swap_0 : decode prog_9_method_32_code 0 = .ok (.bipush 32, 2) := by decide +kernel
theorem d_Mod_swap_2 : decode prog_9_method_32_code 2 = .ok (.aload_n 0, 1) := by decide +kernel
theorem d_Mod_swap_3 : decode prog_9_method_32_code 3 = .ok (.getfield 126, 3) := by decide +kernel
theorem d_Mod_swap_6 : decode prog_9_method_32_code 6 = .ok (.imul, 1) := by decide +kernel
theorem d_Mod_swap_7 : decode prog_9_method_32_code 7 = .ok (.aload_n 0, 1) := by decide +kernel
theorem d_Mod_swap_8 : decode prog_9_method_32_code 8 = .ok (.getfield 56, 3) := by decide +kernel
theorem d_Mod_swap_11 : decode prog_9_method_32_code 11 = .ok (.aload_n 0, 1) := by decide +kernel
theorem d_Mod_swap_12 : decode prog_9_method_32_code 12 = .ok (.getfield 126, 3) := by decide +kernel
theorem d_Mod_swap_15 : decode prog_9_method_32_code 15 = .ok (.iaload, 1) := by decide +kernel
theorem d_Mod_swap_16 : decode prog_9_method_32_code 16 = .ok (.iadd, 1) := by decide +kernel
theorem d_Mod_swap_17 : decode prog_9_method_32_code 17 = .ok (.iconst 1, 1) := by decide +kernel
theorem d_Mod_swap_18 : decode prog_9_method_32_code 18 = .ok (.isub, 1) := by decide +kernel
theorem d_Mod_swap_19 : decode prog_9_method_32_code 19 = .ok (.istore_n 2, 1) := by decide +kernel
theorem d_Mod_swap_20 : decode prog_9_method_32_code 20 = .ok (.aload_n 0, 1) := by decide +kernel
theorem d_Mod_swap_21 : decode prog_9_method_32_code 21 = .ok (.getfield 53, 3) := by decide +kernel
theorem d_Mod_swap_24 : decode prog_9_method_32_code 24 = .ok (.iload_n 2, 1) := by decide +kernel
theorem d_Mod_swap_25 : decode prog_9_method_32_code 25 = .ok (.iaload, 1) := by decide +kernel
theorem d_Mod_swap_26 : decode prog_9_method_32_code 26 = .ok (.istore_n 3, 1) := by decide +kernel
theorem d_Mod_swap_27 : decode prog_9_method_32_code 27 = .ok (.aload_n 0, 1) := by decide +kernel
theorem d_Mod_swap_28 : decode prog_9_method_32_code 28 = .ok (.getfield 53, 3) := by decide +kernel
theorem d_Mod_swap_31 : decode prog_9_method_32_code 31 = .ok (.iload_n 2, 1) := by decide +kernel
theorem d_Mod_swap_32 : decode prog_9_method_32_code 32 = .ok (.aload_n 0, 1) := by decide +kernel
theorem d_Mod_swap_33 : decode prog_9_method_32_code 33 = .ok (.getfield 53, 3) := by decide +kernel
theorem d_Mod_swap_36 : decode prog_9_method_32_code 36 = .ok (.iload_n 2, 1) := by decide +kernel
theorem d_Mod_swap_37 : decode prog_9_method_32_code 37 = .ok (.iload_n 1, 1) := by decide +kernel
theorem d_Mod_swap_38 : decode prog_9_method_32_code 38 = .ok (.isub, 1) := by decide +kernel
theorem d_Mod_swap_39 : decode prog_9_method_32_code 39 = .ok (.iaload, 1) := by decide +kernel
theorem d_Mod_swap_40 : decode prog_9_method_32_code 40 = .ok (.iastore, 1) := by decide +kernel
theorem d_Mod_swap_41 : decode prog_9_method_32_code 41 = .ok (.aload_n 0, 1) := by decide +kernel
theorem d_Mod_swap_42 : decode prog_9_method_32_code 42 = .ok (.getfield 53, 3) := by decide +kernel
theorem d_Mod_swap_45 : decode prog_9_method_32_code 45 = .ok (.iload_n 2, 1) := by decide +kernel
theorem d_Mod_swap_46 : decode prog_9_method_32_code 46 = .ok (.iload_n 1, 1) := by decide +kernel
theorem d_Mod_swap_47 : decode prog_9_method_32_code 47 = .ok (.isub, 1) := by decide +kernel
theorem d_Mod_swap_48 : decode prog_9_method_32_code 48 = .ok (.iload_n 3, 1) := by decide +kernel
theorem d_Mod_swap_49 : decode prog_9_method_32_code 49 = .ok (.iastore, 1) := by decide +kernel
theorem d_Mod_swap_50 : decode prog_9_method_32_code 50 = .ok (.return_, 1) := by decide +kernel
theorem d_Mod_simple_0 : decode prog_9_method_33_code 0 = .ok (.iconst 0, 1) := by decide +kernel
theorem d_Mod_simple_1 : decode prog_9_method_33_code 1 = .ok (.istore_n 3, 1) := by decide +kernel
theorem d_Mod_simple_2 : decode prog_9_method_33_code 2 = .ok (.iload_n 1, 1) := by decide +kernel
theorem d_Mod_simple_3 : decode prog_9_method_33_code 3 = .ok (.iconst 1, 1) := by decide +kernel
theorem d_Mod_simple_4 : decode prog_9_method_33_code 4 = .ok (.if_icmp .ne 11, 3) := by decide +kernel
theorem d_Mod_simple_7 : decode prog_9_method_33_code 7 = .ok (.aload_n 0, 1) := by decide +kernel
theorem d_Mod_simple_8 : decode prog_9_method_33_code 8 = .ok (.iload_n 2, 1) := by decide +kernel
theorem d_Mod_simple_9 : decode prog_9_method_33_code 9 = .ok (.invokevirtual 138, 3) := by decide +kernel
theorem d_Mod_simple_12 : decode prog_9_method_33_code 12 = .ok (.goto 350, 3) := by decide +kernel
theorem d_Mod_simple_15 : decode prog_9_method_33_code 15 = .ok (.iload_n 1, 1) := by decide +kernel
theorem d_Mod_simple_16 : decode prog_9_method_33_code 16 = .ok (.iconst 2, 1) := by decide +kernel
theorem d_Mod_simple_17 : decode prog_9_method_33_code 17 = .ok (.if_icmp .ne 11, 3) := by decide +kernel
theorem d_Mod_simple_20 : decode prog_9_method_33_code 20 = .ok (.aload_n 0, 1) := by decide +kernel
theorem d_Mod_simple_21 : decode prog_9_method_33_code 21 = .ok (.invokevirtual 149, 3) := by decide +kernel
theorem d_Mod_simple_24 : decode prog_9_method_33_code 24 = .ok (.istore_n 3, 1) := by decide +kernel
theorem d_Mod_simple_25 : decode prog_9_method_33_code 25 = .ok (.goto 337, 3) := by decide +kernel
theorem d_Mod_simple_28 : decode prog_9_method_33_code 28 = .ok (.iload_n 1, 1) := by decide +kernel
theorem d_Mod_simple_29 : decode prog_9_method_33_code 29 = .ok (.iconst 3, 1) := by decide +kernel
theorem d_Mod_simple_30 : decode prog_9_method_33_code 30 = .ok (.if_icmp .ne 15, 3) := by decide +kernel
theorem d_Mod_simple_33 : decode prog_9_method_33_code 33 = .ok (.aload_n 0, 1) := by decide +kernel
theorem d_Mod_simple_34 : decode prog_9_method_33_code 34 = .ok (.aload_n 0, 1) := by decide +kernel
theorem d_Mod_simple_35 : decode prog_9_method_33_code 35 = .ok (.iload_n 2, 1) := by decide +kernel
theorem d_Mod_simple_36 : decode prog_9_method_33_code 36 = .ok (.invokevirtual 142, 3) := by decide +kernel
theorem d_Mod_simple_39 : decode prog_9_method_33_code 39 = .ok (.invokevirtual 138, 3) := by decide +kernel
theorem d_Mod_simple_42 : decode prog_9_method_33_code 42 = .ok (.goto 320, 3) := by decide +kernel
theorem d_Mod_simple_45 : decode prog_9_method_33_code 45 = .ok (.iload_n 1, 1) := by decide +kernel
theorem d_Mod_simple_46 : decode prog_9_method_33_code 46 = .ok (.iconst 4, 1) := by decide +kernel
theorem d_Mod_simple_47 : decode prog_9_method_33_code 47 = .ok (.if_icmp .ne 11, 3) := by decide +kernel
theorem d_Mod_simple_50 : decode prog_9_method_33_code 50 = .ok (.aload_n 0, 1) := by decide +kernel
theorem d_Mod_simple_51 : decode prog_9_method_33_code 51 = .ok (.iload_n 2, 1) := by decide +kernel
theorem d_Mod_simple_52 : decode prog_9_method_33_code 52 = .ok (.invokevirtual 156, 3) := by decide +kernel
theorem d_Mod_simple_55 : decode prog_9_method_33_code 55 = .ok (.goto 307, 3) := by decide +kernel
theorem d_Mod_simple_58 : decode prog_9_method_33_code 58 = .ok (.iload_n 1, 1) := by decide +kernel
theorem d_Mod_simple_59 : decode prog_9_method_33_code 59 = .ok (.bipush 12, 2) := by decide +kernel
theorem d_Mod_simple_61 : decode prog_9_method_33_code 61 = .ok (.if_icmp .ne 22, 3) := by decide +kernel
theorem d_Mod_simple_64 : decode prog_9_method_33_code 64 = .ok (.aload_n 0, 1) := by decide +kernel
theorem d_Mod_simple_65 : decode prog_9_method_33_code 65 = .ok (.aload_n 0, 1) := by decide +kernel
theorem d_Mod_simple_66 : decode prog_9_method_33_code 66 = .ok (.invokevirtual 149, 3) := by decide +kernel
theorem d_Mod_simple_69 : decode prog_9_method_33_code 69 = .ok (.ifCond .ne 7, 3) := by decide +kernel
theorem d_Mod_simple_72 : decode prog_9_method_33_code 72 = .ok (.iconst 1, 1) := by decide +kernel
theorem d_Mod_simple_73 : decode prog_9_method_33_code 73 = .ok (.goto 4, 3) := by decide +kernel
theorem d_Mod_simple_76 : decode prog_9_method_33_code 76 = .ok (.iconst 0, 1) := by decide +kernel
theorem d_Mod_simple_77 : decode prog_9_method_33_code 77 = .ok (.invokevirtual 138, 3) := by decide +kernel
theorem d_Mod_simple_80 : decode prog_9_method_33_code 80 = .ok (.goto 282, 3) := by decide +kernel
theorem d_Mod_simple_83 : decode prog_9_method_33_code 83 = .ok (.iload_n 1, 1) := by decide +kernel
theorem d_Mod_simple_84 : decode prog_9_method_33_code 84 = .ok (.bipush 18, 2) := by decide +kernel
theorem d_Mod_simple_86 : decode prog_9_method_33_code 86 = .ok (.if_icmp .ne 27, 3) := by decide +kernel
theorem d_Mod_simple_89 : decode prog_9_method_33_code 89 = .ok (.aload_n 0, 1) := by decide +kernel
theorem d_Mod_simple_90 : decode prog_9_method_33_code 90 = .ok (.aload_n 0, 1) := by decide +kernel
theorem d_Mod_simple_91 : decode prog_9_method_33_code 91 = .ok (.aload_n 0, 1) := by decide +kernel
theorem d_Mod_simple_92 : decode prog_9_method_33_code 92 = .ok (.getfield 77, 3) := by decide +kernel
theorem d_Mod_simple_95 : decode prog_9_method_33_code 95 = .ok (.aload_n 0, 1) := by decide +kernel
theorem d_Mod_simple_96 : decode prog_9_method_33_code 96 = .ok (.getfield 126, 3) := by decide +kernel
theorem d_Mod_simple_99 : decode prog_9_method_33_code 99 = .ok (.iaload, 1) := by decide +kernel
theorem d_Mod_simple_100 : decode prog_9_method_33_code 100 = .ok (.aload_n 0, 1) := by decide +kernel
theorem d_Mod_simple_101 : decode prog_9_method_33_code 101 = .ok (.invokevirtual 149, 3) := by decide +kernel
theorem d_Mod_simple_104 : decode prog_9_method_33_code 104 = .ok (.invokevirtual 114, 3) := by decide +kernel
theorem d_Mod_simple_107 : decode prog_9_method_33_code 107 = .ok (.invokevirtual 138, 3) := by decide +kernel
theorem d_Mod_simple_110 : decode prog_9_method_33_code 110 = .ok (.goto 252, 3) := by decide +kernel
theorem d_Mod_simple_113 : decode prog_9_method_33_code 113 = .ok (.iload_n 1, 1) := by decide +kernel
theorem d_Mod_simple_114 : decode prog_9_method_33_code 114 = .ok (.bipush 20, 2) := by decide +kernel
theorem d_Mod_simple_116 : decode prog_9_method_33_code 116 = .ok (.if_icmp .ne 50, 3) := by decide +kernel
theorem d_Mod_simple_119 : decode prog_9_method_33_code 119 = .ok (.aload_n 0, 1) := by decide +kernel
theorem d_Mod_simple_120 : decode prog_9_method_33_code 120 = .ok (.invokevirtual 149, 3) := by decide +kernel
theorem d_Mod_simple_123 : decode prog_9_method_33_code 123 = .ok (.istore_n 3, 1) := by decide +kernel
theorem d_Mod_simple_124 : decode prog_9_method_33_code 124 = .ok (.aload_n 0, 1) := by decide +kernel
theorem d_Mod_simple_125 : decode prog_9_method_33_code 125 = .ok (.iload_n 3, 1) := by decide +kernel
theorem d_Mod_simple_126 : decode prog_9_method_33_code 126 = .ok (.ifCond .lt 33, 3) := by decide +kernel
theorem d_Mod_simple_129 : decode prog_9_method_33_code 129 = .ok (.iload_n 3, 1) := by decide +kernel
theorem d_Mod_simple_130 : decode prog_9_method_33_code 130 = .ok (.aload_n 0, 1) := by decide +kernel
theorem d_Mod_simple_131 : decode prog_9_method_33_code 131 = .ok (.getfield 65, 3) := by decide +kernel
theorem d_Mod_simple_134 : decode prog_9_method_33_code 134 = .ok (.aload_n 0, 1) := by decide +kernel
theorem d_Mod_simple_135 : decode prog_9_method_33_code 135 = .ok (.getfield 126, 3) := by decide +kernel
theorem d_Mod_simple_138 : decode prog_9_method_33_code 138 = .ok (.iaload, 1) := by decide +kernel
theorem d_Mod_simple_139 : decode prog_9_method_33_code 139 = .ok (.if_icmp .ge 20, 3) := by decide +kernel
theorem d_Mod_simple_142 : decode prog_9_method_33_code 142 = .ok (.aload_n 0, 1) := by decide +kernel
theorem d_Mod_simple_143 : decode prog_9_method_33_code 143 = .ok (.getfield 62, 3) := by decide +kernel
theorem d_Mod_simple_146 : decode prog_9_method_33_code 146 = .ok (.bipush 8, 2) := by decide +kernel
theorem d_Mod_simple_148 : decode prog_9_method_33_code 148 = .ok (.aload_n 0, 1) := by decide +kernel
theorem d_Mod_simple_149 : decode prog_9_method_33_code 149 = .ok (.getfield 126, 3) := by decide +kernel
theorem d_Mod_simple_152 : decode prog_9_method_33_code 152 = .ok (.imul, 1) := by decide +kernel
theorem d_Mod_simple_153 : decode prog_9_method_33_code 153 = .ok (.iload_n 3, 1) := by decide +kernel
theorem d_Mod_simple_154 : decode prog_9_method_33_code 154 = .ok (.iadd, 1) := by decide +kernel
theorem d_Mod_simple_155 : decode prog_9_method_33_code 155 = .ok (.iaload, 1) := by decide +kernel
theorem d_Mod_simple_156 : decode prog_9_method_33_code 156 = .ok (.goto 4, 3) := by decide +kernel
theorem d_Mod_simple_159 : decode prog_9_method_33_code 159 = .ok (.iconst 0, 1) := by decide +kernel
theorem d_Mod_simple_160 : decode prog_9_method_33_code 160 = .ok (.invokevirtual 138, 3) := by decide +kernel
theorem d_Mod_simple_163 : decode prog_9_method_33_code 163 = .ok (.goto 199, 3) := by decide +kernel
theorem d_Mod_simple_166 : decode prog_9_method_33_code 166 = .ok (.iload_n 1, 1) := by decide +kernel
theorem d_Mod_simple_167 : decode prog_9_method_33_code 167 = .ok (.bipush 21, 2) := by decide +kernel
theorem d_Mod_simple_169 : decode prog_9_method_33_code 169 = .ok (.if_icmp .ne 19, 3) := by decide +kernel
theorem d_Mod_simple_172 : decode prog_9_method_33_code 172 = .ok (.aload_n 0, 1) := by decide +kernel
theorem d_Mod_simple_173 : decode prog_9_method_33_code 173 = .ok (.aload_n 0, 1) := by decide +kernel
theorem d_Mod_simple_174 : decode prog_9_method_33_code 174 = .ok (.getfield 68, 3) := by decide +kernel
theorem d_Mod_simple_177 : decode prog_9_method_33_code 177 = .ok (.aload_n 0, 1) := by decide +kernel
theorem d_Mod_simple_178 : decode prog_9_method_33_code 178 = .ok (.getfield 126, 3) := by decide +kernel
theorem d_Mod_simple_181 : decode prog_9_method_33_code 181 = .ok (.iaload, 1) := by decide +kernel
theorem d_Mod_simple_182 : decode prog_9_method_33_code 182 = .ok (.invokevirtual 138, 3) := by decide +kernel
theorem d_Mod_simple_185 : decode prog_9_method_33_code 185 = .ok (.goto 177, 3) := by decide +kernel
theorem d_Mod_simple_188 : decode prog_9_method_33_code 188 = .ok (.iload_n 1, 1) := by decide +kernel
theorem d_Mod_simple_189 : decode prog_9_method_33_code 189 = .ok (.bipush 22, 2) := by decide +kernel
theorem d_Mod_simple_191 : decode prog_9_method_33_code 191 = .ok (.if_icmp .ne 19, 3) := by decide +kernel
theorem d_Mod_simple_194 : decode prog_9_method_33_code 194 = .ok (.aload_n 0, 1) := by decide +kernel
theorem d_Mod_simple_195 : decode prog_9_method_33_code 195 = .ok (.aload_n 0, 1) := by decide +kernel
theorem d_Mod_simple_196 : decode prog_9_method_33_code 196 = .ok (.getfield 71, 3) := by decide +kernel
theorem d_Mod_simple_199 : decode prog_9_method_33_code 199 = .ok (.aload_n 0, 1) := by decide +kernel
theorem d_Mod_simple_200 : decode prog_9_method_33_code 200 = .ok (.getfield 126, 3) := by decide +kernel
theorem d_Mod_simple_203 : decode prog_9_method_33_code 203 = .ok (.iaload, 1) := by decide +kernel
theorem d_Mod_simple_204 : decode prog_9_method_33_code 204 = .ok (.invokevirtual 138, 3) := by decide +kernel
theorem d_Mod_simple_207 : decode prog_9_method_33_code 207 = .ok (.goto 155, 3) := by decide +kernel
theorem d_Mod_simple_210 : decode prog_9_method_33_code 210 = .ok (.iload_n 1, 1) := by decide +kernel
theorem d_Mod_simple_211 : decode prog_9_method_33_code 211 = .ok (.bipush 23, 2) := by decide +kernel
theorem d_Mod_simple_213 : decode prog_9_method_33_code 213 = .ok (.if_icmp .ne 19, 3) := by decide +kernel
theorem d_Mod_simple_216 : decode prog_9_method_33_code 216 = .ok (.aload_n 0, 1) := by decide +kernel
theorem d_Mod_simple_217 : decode prog_9_method_33_code 217 = .ok (.aload_n 0, 1) := by decide +kernel
theorem d_Mod_simple_218 : decode prog_9_method_33_code 218 = .ok (.getfield 77, 3) := by decide +kernel
theorem d_Mod_simple_221 : decode prog_9_method_33_code 221 = .ok (.aload_n 0, 1) := by decide +kernel
theorem d_Mod_simple_222 : decode prog_9_method_33_code 222 = .ok (.getfield 126, 3) := by decide +kernel
theorem d_Mod_simple_225 : decode prog_9_method_33_code 225 = .ok (.iaload, 1) := by decide +kernel
theorem d_Mod_simple_226 : decode prog_9_method_33_code 226 = .ok (.invokevirtual 138, 3) := by decide +kernel
theorem d_Mod_simple_229 : decode prog_9_method_33_code 229 = .ok (.goto 133, 3) := by decide +kernel
theorem d_Mod_simple_232 : decode prog_9_method_33_code 232 = .ok (.iload_n 1, 1) := by decide +kernel
theorem d_Mod_simple_233 : decode prog_9_method_33_code 233 = .ok (.bipush 24, 2) := by decide +kernel
theorem d_Mod_simple_235 : decode prog_9_method_33_code 235 = .ok (.if_icmp .ne 33, 3) := by decide +kernel
theorem d_Mod_simple_238 : decode prog_9_method_33_code 238 = .ok (.aload_n 0, 1) := by decide +kernel
theorem d_Mod_simple_239 : decode prog_9_method_33_code 239 = .ok (.invokevirtual 149, 3) := by decide +kernel
theorem d_Mod_simple_242 : decode prog_9_method_33_code 242 = .ok (.istore_n 3, 1) := by decide +kernel
theorem d_Mod_simple_243 : decode prog_9_method_33_code 243 = .ok (.aload_n 0, 1) := by decide +kernel
theorem d_Mod_simple_244 : decode prog_9_method_33_code 244 = .ok (.aload_n 0, 1) := by decide +kernel
theorem d_Mod_simple_245 : decode prog_9_method_33_code 245 = .ok (.iload_n 3, 1) := by decide +kernel
theorem d_Mod_simple_246 : decode prog_9_method_33_code 246 = .ok (.invokevirtual 96, 3) := by decide +kernel
theorem d_Mod_simple_249 : decode prog_9_method_33_code 249 = .ok (.ifCond .eq 7, 3) := by decide +kernel
theorem d_Mod_simple_252 : decode prog_9_method_33_code 252 = .ok (.iconst (-1), 1) := by decide +kernel
theorem d_Mod_simple_253 : decode prog_9_method_33_code 253 = .ok (.goto 9, 3) := by decide +kernel
theorem d_Mod_simple_256 : decode prog_9_method_33_code 256 = .ok (.aload_n 0, 1) := by decide +kernel
theorem d_Mod_simple_257 : decode prog_9_method_33_code 257 = .ok (.getfield 7, 3) := by decide +kernel
theorem d_Mod_simple_260 : decode prog_9_method_33_code 260 = .ok (.iload_n 3, 1) := by decide +kernel
theorem d_Mod_simple_261 : decode prog_9_method_33_code 261 = .ok (.iaload, 1) := by decide +kernel
theorem d_Mod_simple_262 : decode prog_9_method_33_code 262 = .ok (.invokevirtual 138, 3) := by decide +kernel
theorem d_Mod_simple_265 : decode prog_9_method_33_code 265 = .ok (.goto 97, 3) := by decide +kernel
theorem d_Mod_simple_268 : decode prog_9_method_33_code 268 = .ok (.iload_n 1, 1) := by decide +kernel
theorem d_Mod_simple_269 : decode prog_9_method_33_code 269 = .ok (.bipush 25, 2) := by decide +kernel
theorem d_Mod_simple_271 : decode prog_9_method_33_code 271 = .ok (.if_icmp .ne 41, 3) := by decide +kernel
theorem d_Mod_simple_274 : decode prog_9_method_33_code 274 = .ok (.aload_n 0, 1) := by decide +kernel
theorem d_Mod_simple_275 : decode prog_9_method_33_code 275 = .ok (.invokevirtual 149, 3) := by decide +kernel
theorem d_Mod_simple_278 : decode prog_9_method_33_code 278 = .ok (.istore_n 3, 1) := by decide +kernel
theorem d_Mod_simple_279 : decode prog_9_method_33_code 279 = .ok (.aload_n 0, 1) := by decide +kernel
theorem d_Mod_simple_280 : decode prog_9_method_33_code 280 = .ok (.getfield 117, 3) := by decide +kernel
theorem d_Mod_simple_283 : decode prog_9_method_33_code 283 = .ok (.sipush 300, 3) := by decide +kernel
theorem d_Mod_simple_286 : decode prog_9_method_33_code 286 = .ok (.if_icmp .ge 76, 3) := by decide +kernel
theorem d_Mod_simple_289 : decode prog_9_method_33_code 289 = .ok (.aload_n 0, 1) := by decide +kernel
theorem d_Mod_simple_290 : decode prog_9_method_33_code 290 = .ok (.getfield 32, 3) := by decide +kernel
theorem d_Mod_simple_293 : decode prog_9_method_33_code 293 = .ok (.aload_n 0, 1) := by decide +kernel
theorem d_Mod_simple_294 : decode prog_9_method_33_code 294 = .ok (.getfield 117, 3) := by decide +kernel
theorem d_Mod_simple_297 : decode prog_9_method_33_code 297 = .ok (.iload_n 3, 1) := by decide +kernel
theorem d_Mod_simple_298 : decode prog_9_method_33_code 298 = .ok (.iastore, 1) := by decide +kernel
theorem d_Mod_simple_299 : decode prog_9_method_33_code 299 = .ok (.aload_n 0, 1) := by decide +kernel
theorem d_Mod_simple_300 : decode prog_9_method_33_code 300 = .ok (.dup, 1) := by decide +kernel
theorem d_Mod_simple_301 : decode prog_9_method_33_code 301 = .ok (.getfield 117, 3) := by decide +kernel
theorem d_Mod_simple_304 : decode prog_9_method_33_code 304 = .ok (.iconst 1, 1) := by decide +kernel
theorem d_Mod_simple_305 : decode prog_9_method_33_code 305 = .ok (.iadd, 1) := by decide +kernel
theorem d_Mod_simple_306 : decode prog_9_method_33_code 306 = .ok (.putfield 117, 3) := by decide +kernel
theorem d_Mod_simple_309 : decode prog_9_method_33_code 309 = .ok (.goto 53, 3) := by decide +kernel
theorem d_Mod_simple_312 : decode prog_9_method_33_code 312 = .ok (.iload_n 1, 1) := by decide +kernel
theorem d_Mod_simple_313 : decode prog_9_method_33_code 313 = .ok (.bipush 28, 2) := by decide +kernel
theorem d_Mod_simple_315 : decode prog_9_method_33_code 315 = .ok (.if_icmp .ne 19, 3) := by decide +kernel
theorem d_Mod_simple_318 : decode prog_9_method_33_code 318 = .ok (.aload_n 0, 1) := by decide +kernel
theorem d_Mod_simple_319 : decode prog_9_method_33_code 319 = .ok (.aload_n 0, 1) := by decide +kernel
theorem d_Mod_simple_320 : decode prog_9_method_33_code 320 = .ok (.getfield 74, 3) := by decide +kernel
theorem d_Mod_simple_323 : decode prog_9_method_33_code 323 = .ok (.aload_n 0, 1) := by decide +kernel
theorem d_Mod_simple_324 : decode prog_9_method_33_code 324 = .ok (.getfield 126, 3) := by decide +kernel
theorem d_Mod_simple_327 : decode prog_9_method_33_code 327 = .ok (.iaload, 1) := by decide +kernel
theorem d_Mod_simple_328 : decode prog_9_method_33_code 328 = .ok (.invokevirtual 138, 3) := by decide +kernel
theorem d_Mod_simple_331 : decode prog_9_method_33_code 331 = .ok (.goto 31, 3) := by decide +kernel
theorem d_Mod_simple_334 : decode prog_9_method_33_code 334 = .ok (.iload_n 1, 1) := by decide +kernel
theorem d_Mod_simple_335 : decode prog_9_method_33_code 335 = .ok (.bipush 16, 2) := by decide +kernel
theorem d_Mod_simple_337 : decode prog_9_method_33_code 337 = .ok (.if_icmp .ge 25, 3) := by decide +kernel
theorem d_Mod_simple_340 : decode prog_9_method_33_code 340 = .ok (.aload_n 0, 1) := by decide +kernel
theorem d_Mod_simple_341 : decode prog_9_method_33_code 341 = .ok (.invokevirtual 149, 3) := by decide +kernel
theorem d_Mod_simple_344 : decode prog_9_method_33_code 344 = .ok (.istore 4, 2) := by decide +kernel
theorem d_Mod_simple_346 : decode prog_9_method_33_code 346 = .ok (.aload_n 0, 1) := by decide +kernel
theorem d_Mod_simple_347 : decode prog_9_method_33_code 347 = .ok (.invokevirtual 149, 3) := by decide +kernel
theorem d_Mod_simple_350 : decode prog_9_method_33_code 350 = .ok (.istore_n 3, 1) := by decide +kernel
theorem d_Mod_simple_351 : decode prog_9_method_33_code 351 = .ok (.aload_n 0, 1) := by decide +kernel
theorem d_Mod_simple_352 : decode prog_9_method_33_code 352 = .ok (.iload_n 1, 1) := by decide +kernel
theorem d_Mod_simple_353 : decode prog_9_method_33_code 353 = .ok (.iload_n 3, 1) := by decide +kernel
theorem d_Mod_simple_354 : decode prog_9_method_33_code 354 = .ok (.iload 4, 2) := by decide +kernel
theorem d_Mod_simple_356 : decode prog_9_method_33_code 356 = .ok (.invokestatic 159, 3) := by decide +kernel
theorem d_Mod_simple_359 : decode prog_9_method_33_code 359 = .ok (.invokevirtual 138, 3) := by decide +kernel
theorem d_Mod_simple_362 : decode prog_9_method_33_code 362 = .ok (.return_, 1) := by decide +kernel
theorem d_Mod_act_0 : decode prog_9_method_34_code 0 = .ok (.iload_n 1, 1) := by decide +kernel
theorem d_Mod_act_1 : decode prog_9_method_34_code 1 = .ok (.ifCond .ne 12, 3) := by decide +kernel
theorem d_Mod_act_4 : decode prog_9_method_34_code 4 = .ok (.aload_n 0, 1) := by decide +kernel
theorem d_Mod_act_5 : decode prog_9_method_34_code 5 = .ok (.iconst 0, 1) := by decide +kernel
theorem d_Mod_act_6 : decode prog_9_method_34_code 6 = .ok (.iconst 0, 1) := by decide +kernel
theorem d_Mod_act_7 : decode prog_9_method_34_code 7 = .ok (.invokevirtual 163, 3) := by decide +kernel
theorem d_Mod_act_10 : decode prog_9_method_34_code 10 = .ok (.goto 224, 3) := by decide +kernel
theorem d_Mod_act_13 : decode prog_9_method_34_code 13 = .ok (.iload_n 1, 1) := by decide +kernel
theorem d_Mod_act_14 : decode prog_9_method_34_code 14 = .ok (.bipush 26, 2) := by decide +kernel
theorem d_Mod_act_16 : decode prog_9_method_34_code 16 = .ok (.if_icmp .ne 15, 3) := by decide +kernel
theorem d_Mod_act_19 : decode prog_9_method_34_code 19 = .ok (.aload_n 0, 1) := by decide +kernel
theorem d_Mod_act_20 : decode prog_9_method_34_code 20 = .ok (.iconst 0, 1) := by decide +kernel
theorem d_Mod_act_21 : decode prog_9_method_34_code 21 = .ok (.aload_n 0, 1) := by decide +kernel
theorem d_Mod_act_22 : decode prog_9_method_34_code 22 = .ok (.invokevirtual 149, 3) := by decide +kernel
theorem d_Mod_act_25 : decode prog_9_method_34_code 25 = .ok (.invokevirtual 163, 3) := by decide +kernel
theorem d_Mod_act_28 : decode prog_9_method_34_code 28 = .ok (.goto 206, 3) := by decide +kernel
theorem d_Mod_act_31 : decode prog_9_method_34_code 31 = .ok (.iload_n 1, 1) := by decide +kernel
theorem d_Mod_act_32 : decode prog_9_method_34_code 32 = .ok (.bipush 29, 2) := by decide +kernel
theorem d_Mod_act_34 : decode prog_9_method_34_code 34 = .ok (.if_icmp .ne 15, 3) := by decide +kernel
theorem d_Mod_act_37 : decode prog_9_method_34_code 37 = .ok (.aload_n 0, 1) := by decide +kernel
theorem d_Mod_act_38 : decode prog_9_method_34_code 38 = .ok (.iconst 1, 1) := by decide +kernel
theorem d_Mod_act_39 : decode prog_9_method_34_code 39 = .ok (.aload_n 0, 1) := by decide +kernel
theorem d_Mod_act_40 : decode prog_9_method_34_code 40 = .ok (.invokevirtual 149, 3) := by decide +kernel
theorem d_Mod_act_43 : decode prog_9_method_34_code 43 = .ok (.invokevirtual 163, 3) := by decide +kernel
theorem d_Mod_act_46 : decode prog_9_method_34_code 46 = .ok (.goto 188, 3) := by decide +kernel
theorem d_Mod_act_49 : decode prog_9_method_34_code 49 = .ok (.iload_n 1, 1) := by decide +kernel
theorem d_Mod_act_50 : decode prog_9_method_34_code 50 = .ok (.bipush 27, 2) := by decide +kernel
theorem d_Mod_act_52 : decode prog_9_method_34_code 52 = .ok (.if_icmp .ne 11, 3) := by decide +kernel
theorem d_Mod_act_55 : decode prog_9_method_34_code 55 = .ok (.aload_n 0, 1) := by decide +kernel
theorem d_Mod_act_56 : decode prog_9_method_34_code 56 = .ok (.iload_n 2, 1) := by decide +kernel
theorem d_Mod_act_57 : decode prog_9_method_34_code 57 = .ok (.invokevirtual 167, 3) := by decide +kernel
theorem d_Mod_act_60 : decode prog_9_method_34_code 60 = .ok (.goto 174, 3) := by decide +kernel
theorem d_Mod_act_63 : decode prog_9_method_34_code 63 = .ok (.iload_n 1, 1) := by decide +kernel
theorem d_Mod_act_64 : decode prog_9_method_34_code 64 = .ok (.bipush 16, 2) := by decide +kernel
theorem d_Mod_act_66 : decode prog_9_method_34_code 66 = .ok (.if_icmp .ne 16, 3) := by decide +kernel
theorem d_Mod_act_69 : decode prog_9_method_34_code 69 = .ok (.aload_n 0, 1) := by decide +kernel
theorem d_Mod_act_70 : decode prog_9_method_34_code 70 = .ok (.getfield 59, 3) := by decide +kernel
theorem d_Mod_act_73 : decode prog_9_method_34_code 73 = .ok (.aload_n 0, 1) := by decide +kernel
theorem d_Mod_act_74 : decode prog_9_method_34_code 74 = .ok (.getfield 126, 3) := by decide +kernel
theorem d_Mod_act_77 : decode prog_9_method_34_code 77 = .ok (.iload_n 2, 1) := by decide +kernel
theorem d_Mod_act_78 : decode prog_9_method_34_code 78 = .ok (.iastore, 1) := by decide +kernel
theorem d_Mod_act_79 : decode prog_9_method_34_code 79 = .ok (.goto 155, 3) := by decide +kernel
theorem d_Mod_act_82 : decode prog_9_method_34_code 82 = .ok (.iload_n 1, 1) := by decide +kernel
theorem d_Mod_act_83 : decode prog_9_method_34_code 83 = .ok (.bipush 17, 2) := by decide +kernel
theorem d_Mod_act_85 : decode prog_9_method_34_code 85 = .ok (.if_icmp .ne 39, 3) := by decide +kernel
theorem d_Mod_act_88 : decode prog_9_method_34_code 88 = .ok (.aload_n 0, 1) := by decide +kernel
theorem d_Mod_act_89 : decode prog_9_method_34_code 89 = .ok (.invokevirtual 149, 3) := by decide +kernel
theorem d_Mod_act_92 : decode prog_9_method_34_code 92 = .ok (.istore_n 3, 1) := by decide +kernel
theorem d_Mod_act_93 : decode prog_9_method_34_code 93 = .ok (.aload_n 0, 1) := by decide +kernel
theorem d_Mod_act_94 : decode prog_9_method_34_code 94 = .ok (.getfield 59, 3) := by decide +kernel
theorem d_Mod_act_97 : decode prog_9_method_34_code 97 = .ok (.aload_n 0, 1) := by decide +kernel
theorem d_Mod_act_98 : decode prog_9_method_34_code 98 = .ok (.getfield 126, 3) := by decide +kernel
theorem d_Mod_act_101 : decode prog_9_method_34_code 101 = .ok (.iload_n 3, 1) := by decide +kernel
theorem d_Mod_act_102 : decode prog_9_method_34_code 102 = .ok (.ifCond .eq 7, 3) := by decide +kernel
theorem d_Mod_act_105 : decode prog_9_method_34_code 105 = .ok (.iload_n 2, 1) := by decide +kernel
theorem d_Mod_act_106 : decode prog_9_method_34_code 106 = .ok (.goto 14, 3) := by decide +kernel
theorem d_Mod_act_109 : decode prog_9_method_34_code 109 = .ok (.aload_n 0, 1) := by decide +kernel
theorem d_Mod_act_110 : decode prog_9_method_34_code 110 = .ok (.getfield 59, 3) := by decide +kernel
theorem d_Mod_act_113 : decode prog_9_method_34_code 113 = .ok (.aload_n 0, 1) := by decide +kernel
theorem d_Mod_act_114 : decode prog_9_method_34_code 114 = .ok (.getfield 126, 3) := by decide +kernel
theorem d_Mod_act_117 : decode prog_9_method_34_code 117 = .ok (.iaload, 1) := by decide +kernel
theorem d_Mod_act_118 : decode prog_9_method_34_code 118 = .ok (.iconst 1, 1) := by decide +kernel
theorem d_Mod_act_119 : decode prog_9_method_34_code 119 = .ok (.iadd, 1) := by decide +kernel
theorem d_Mod_act_120 : decode prog_9_method_34_code 120 = .ok (.iastore, 1) := by decide +kernel
theorem d_Mod_act_121 : decode prog_9_method_34_code 121 = .ok (.goto 113, 3) := by decide +kernel
theorem d_Mod_act_124 : decode prog_9_method_34_code 124 = .ok (.iload_n 1, 1) := by decide +kernel
theorem d_Mod_act_125 : decode prog_9_method_34_code 125 = .ok (.bipush 19, 2) := by decide +kernel
theorem d_Mod_act_127 : decode prog_9_method_34_code 127 = .ok (.if_icmp .ne 88, 3) := by decide +kernel
theorem d_Mod_act_130 : decode prog_9_method_34_code 130 = .ok (.aload_n 0, 1) := by decide +kernel
theorem d_Mod_act_131 : decode prog_9_method_34_code 131 = .ok (.invokevirtual 149, 3) := by decide +kernel
theorem d_Mod_act_134 : decode prog_9_method_34_code 134 = .ok (.istore_n 3, 1) := by decide +kernel
theorem d_Mod_act_135 : decode prog_9_method_34_code 135 = .ok (.aload_n 0, 1) := by decide +kernel
theorem d_Mod_act_136 : decode prog_9_method_34_code 136 = .ok (.invokevirtual 149, 3) := by decide +kernel
theorem d_Mod_act_139 : decode prog_9_method_34_code 139 = .ok (.istore 4, 2) := by decide +kernel
theorem d_Mod_act_141 : decode prog_9_method_34_code 141 = .ok (.iload_n 3, 1) := by decide +kernel
theorem d_Mod_act_142 : decode prog_9_method_34_code 142 = .ok (.ifCond .eq 41, 3) := by decide +kernel
theorem d_Mod_act_145 : decode prog_9_method_34_code 145 = .ok (.aload_n 0, 1) := by decide +kernel
theorem d_Mod_act_146 : decode prog_9_method_34_code 146 = .ok (.getfield 107, 3) := by decide +kernel
theorem d_Mod_act_149 : decode prog_9_method_34_code 149 = .ok (.sipush 500, 3) := by decide +kernel
theorem d_Mod_act_152 : decode prog_9_method_34_code 152 = .ok (.if_icmp .ne 31, 3) := by decide +kernel
theorem d_Mod_act_155 : decode prog_9_method_34_code 155 = .ok (.aload_n 0, 1) := by decide +kernel
theorem d_Mod_act_156 : decode prog_9_method_34_code 156 = .ok (.aload_n 0, 1) := by decide +kernel
theorem d_Mod_act_157 : decode prog_9_method_34_code 157 = .ok (.getfield 77, 3) := by decide +kernel
theorem d_Mod_act_160 : decode prog_9_method_34_code 160 = .ok (.aload_n 0, 1) := by decide +kernel
theorem d_Mod_act_161 : decode prog_9_method_34_code 161 = .ok (.getfield 126, 3) := by decide +kernel
theorem d_Mod_act_164 : decode prog_9_method_34_code 164 = .ok (.iaload, 1) := by decide +kernel
theorem d_Mod_act_165 : decode prog_9_method_34_code 165 = .ok (.iload 4, 2) := by decide +kernel
theorem d_Mod_act_167 : decode prog_9_method_34_code 167 = .ok (.invokevirtual 110, 3) := by decide +kernel
theorem d_Mod_act_170 : decode prog_9_method_34_code 170 = .ok (.ifCond .ge 13, 3) := by decide +kernel
theorem d_Mod_act_173 : decode prog_9_method_34_code 173 = .ok (.aload_n 0, 1) := by decide +kernel
theorem d_Mod_act_174 : decode prog_9_method_34_code 174 = .ok (.bipush 6, 2) := by decide +kernel
theorem d_Mod_act_176 : decode prog_9_method_34_code 176 = .ok (.iconst 0, 1) := by decide +kernel
theorem d_Mod_act_177 : decode prog_9_method_34_code 177 = .ok (.invokevirtual 163, 3) := by decide +kernel
theorem d_Mod_act_180 : decode prog_9_method_34_code 180 = .ok (.goto 32, 3) := by decide +kernel
theorem d_Mod_act_183 : decode prog_9_method_34_code 183 = .ok (.aload_n 0, 1) := by decide +kernel
theorem d_Mod_act_184 : decode prog_9_method_34_code 184 = .ok (.aload_n 0, 1) := by decide +kernel
theorem d_Mod_act_185 : decode prog_9_method_34_code 185 = .ok (.getfield 77, 3) := by decide +kernel
theorem d_Mod_act_188 : decode prog_9_method_34_code 188 = .ok (.aload_n 0, 1) := by decide +kernel
theorem d_Mod_act_189 : decode prog_9_method_34_code 189 = .ok (.getfield 126, 3) := by decide +kernel
theorem d_Mod_act_192 : decode prog_9_method_34_code 192 = .ok (.iaload, 1) := by decide +kernel
theorem d_Mod_act_193 : decode prog_9_method_34_code 193 = .ok (.iload 4, 2) := by decide +kernel
theorem d_Mod_act_195 : decode prog_9_method_34_code 195 = .ok (.iload_n 3, 1) := by decide +kernel
theorem d_Mod_act_196 : decode prog_9_method_34_code 196 = .ok (.invokevirtual 170, 3) := by decide +kernel
theorem d_Mod_act_199 : decode prog_9_method_34_code 199 = .ok (.aload_n 0, 1) := by decide +kernel
theorem d_Mod_act_200 : decode prog_9_method_34_code 200 = .ok (.getfield 59, 3) := by decide +kernel
theorem d_Mod_act_203 : decode prog_9_method_34_code 203 = .ok (.aload_n 0, 1) := by decide +kernel
theorem d_Mod_act_204 : decode prog_9_method_34_code 204 = .ok (.getfield 126, 3) := by decide +kernel
theorem d_Mod_act_207 : decode prog_9_method_34_code 207 = .ok (.dup2, 1) := by decide +kernel
theorem d_Mod_act_208 : decode prog_9_method_34_code 208 = .ok (.iaload, 1) := by decide +kernel
theorem d_Mod_act_209 : decode prog_9_method_34_code 209 = .ok (.iconst 1, 1) := by decide +kernel
theorem d_Mod_act_210 : decode prog_9_method_34_code 210 = .ok (.iadd, 1) := by decide +kernel
theorem d_Mod_act_211 : decode prog_9_method_34_code 211 = .ok (.iastore, 1) := by decide +kernel
theorem d_Mod_act_212 : decode prog_9_method_34_code 212 = .ok (.goto 22, 3) := by decide +kernel
theorem d_Mod_act_215 : decode prog_9_method_34_code 215 = .ok (.aload_n 0, 1) := by decide +kernel
theorem d_Mod_act_216 : decode prog_9_method_34_code 216 = .ok (.iload_n 1, 1) := by decide +kernel
theorem d_Mod_act_217 : decode prog_9_method_34_code 217 = .ok (.iload_n 2, 1) := by decide +kernel
theorem d_Mod_act_218 : decode prog_9_method_34_code 218 = .ok (.invokevirtual 174, 3) := by decide +kernel
theorem d_Mod_act_221 : decode prog_9_method_34_code 221 = .ok (.aload_n 0, 1) := by decide +kernel
theorem d_Mod_act_222 : decode prog_9_method_34_code 222 = .ok (.getfield 59, 3) := by decide +kernel
theorem d_Mod_act_225 : decode prog_9_method_34_code 225 = .ok (.aload_n 0, 1) := by decide +kernel
theorem d_Mod_act_226 : decode prog_9_method_34_code 226 = .ok (.getfield 126, 3) := by decide +kernel
theorem d_Mod_act_229 : decode prog_9_method_34_code 229 = .ok (.dup2, 1) := by decide +kernel
theorem d_Mod_act_230 : decode prog_9_method_34_code 230 = .ok (.iaload, 1) := by decide +kernel
theorem d_Mod_act_231 : decode prog_9_method_34_code 231 = .ok (.iconst 1, 1) := by decide +kernel
theorem d_Mod_act_232 : decode prog_9_method_34_code 232 = .ok (.iadd, 1) := by decide +kernel
theorem d_Mod_act_233 : decode prog_9_method_34_code 233 = .ok (.iastore, 1) := by decide +kernel
theorem d_Mod_act_234 : decode prog_9_method_34_code 234 = .ok (.return_, 1) := by decide +kernel
theorem d_Mod_step_0 : decode prog_9_method_35_code 0 = .ok (.aload_n 0, 1) := by decide +kernel
theorem d_Mod_step_1 : decode prog_9_method_35_code 1 = .ok (.getfield 77, 3) := by decide +kernel
theorem d_Mod_step_4 : decode prog_9_method_35_code 4 = .ok (.aload_n 0, 1) := by decide +kernel
theorem d_Mod_step_5 : decode prog_9_method_35_code 5 = .ok (.getfield 126, 3) := by decide +kernel
theorem d_Mod_step_8 : decode prog_9_method_35_code 8 = .ok (.iaload, 1) := by decide +kernel
theorem d_Mod_step_9 : decode prog_9_method_35_code 9 = .ok (.istore_n 1, 1) := by decide +kernel
theorem d_Mod_step_10 : decode prog_9_method_35_code 10 = .ok (.aload_n 0, 1) := by decide +kernel
theorem d_Mod_step_11 : decode prog_9_method_35_code 11 = .ok (.getfield 19, 3) := by decide +kernel
theorem d_Mod_step_14 : decode prog_9_method_35_code 14 = .ok (.iload_n 1, 1) := by decide +kernel
theorem d_Mod_step_15 : decode prog_9_method_35_code 15 = .ok (.baload, 1) := by decide +kernel
theorem d_Mod_step_16 : decode prog_9_method_35_code 16 = .ok (.ifCond .eq 21, 3) := by decide +kernel
theorem d_Mod_step_19 : decode prog_9_method_35_code 19 = .ok (.aload_n 0, 1) := by decide +kernel
theorem d_Mod_step_20 : decode prog_9_method_35_code 20 = .ok (.getfield 59, 3) := by decide +kernel
theorem d_Mod_step_23 : decode prog_9_method_35_code 23 = .ok (.aload_n 0, 1) := by decide +kernel
theorem d_Mod_step_24 : decode prog_9_method_35_code 24 = .ok (.getfield 126, 3) := by decide +kernel
theorem d_Mod_step_27 : decode prog_9_method_35_code 27 = .ok (.iaload, 1) := by decide +kernel
theorem d_Mod_step_28 : decode prog_9_method_35_code 28 = .ok (.aload_n 0, 1) := by decide +kernel
theorem d_Mod_step_29 : decode prog_9_method_35_code 29 = .ok (.getfield 16, 3) := by decide +kernel
theorem d_Mod_step_32 : decode prog_9_method_35_code 32 = .ok (.iload_n 1, 1) := by decide +kernel
theorem d_Mod_step_33 : decode prog_9_method_35_code 33 = .ok (.iaload, 1) := by decide +kernel
theorem d_Mod_step_34 : decode prog_9_method_35_code 34 = .ok (.if_icmp .ne 10, 3) := by decide +kernel
theorem d_Mod_step_37 : decode prog_9_method_35_code 37 = .ok (.aload_n 0, 1) := by decide +kernel
theorem d_Mod_step_38 : decode prog_9_method_35_code 38 = .ok (.iconst 0, 1) := by decide +kernel
theorem d_Mod_step_39 : decode prog_9_method_35_code 39 = .ok (.iconst 0, 1) := by decide +kernel
theorem d_Mod_step_40 : decode prog_9_method_35_code 40 = .ok (.invokevirtual 163, 3) := by decide +kernel
theorem d_Mod_step_43 : decode prog_9_method_35_code 43 = .ok (.return_, 1) := by decide +kernel
theorem d_Mod_step_44 : decode prog_9_method_35_code 44 = .ok (.aload_n 0, 1) := by decide +kernel
theorem d_Mod_step_45 : decode prog_9_method_35_code 45 = .ok (.getfield 13, 3) := by decide +kernel
theorem d_Mod_step_48 : decode prog_9_method_35_code 48 = .ok (.sipush 160, 3) := by decide +kernel
theorem d_Mod_step_51 : decode prog_9_method_35_code 51 = .ok (.iload_n 1, 1) := by decide +kernel
theorem d_Mod_step_52 : decode prog_9_method_35_code 52 = .ok (.imul, 1) := by decide +kernel
theorem d_Mod_step_53 : decode prog_9_method_35_code 53 = .ok (.aload_n 0, 1) := by decide +kernel
theorem d_Mod_step_54 : decode prog_9_method_35_code 54 = .ok (.getfield 59, 3) := by decide +kernel
theorem d_Mod_step_57 : decode prog_9_method_35_code 57 = .ok (.aload_n 0, 1) := by decide +kernel
theorem d_Mod_step_58 : decode prog_9_method_35_code 58 = .ok (.getfield 126, 3) := by decide +kernel
theorem d_Mod_step_61 : decode prog_9_method_35_code 61 = .ok (.iaload, 1) := by decide +kernel
theorem d_Mod_step_62 : decode prog_9_method_35_code 62 = .ok (.iadd, 1) := by decide +kernel
theorem d_Mod_step_63 : decode prog_9_method_35_code 63 = .ok (.iaload, 1) := by decide +kernel
theorem d_Mod_step_64 : decode prog_9_method_35_code 64 = .ok (.istore_n 2, 1) := by decide +kernel
theorem d_Mod_step_65 : decode prog_9_method_35_code 65 = .ok (.iload_n 2, 1) := by decide +kernel
theorem d_Mod_step_66 : decode prog_9_method_35_code 66 = .ok (.sipush 255, 3) := by decide +kernel
theorem d_Mod_step_69 : decode prog_9_method_35_code 69 = .ok (.iand, 1) := by decide +kernel
theorem d_Mod_step_70 : decode prog_9_method_35_code 70 = .ok (.istore_n 3, 1) := by decide +kernel
theorem d_Mod_step_71 : decode prog_9_method_35_code 71 = .ok (.iload_n 2, 1) := by decide +kernel
theorem d_Mod_step_72 : decode prog_9_method_35_code 72 = .ok (.bipush 8, 2) := by decide +kernel
theorem d_Mod_step_74 : decode prog_9_method_35_code 74 = .ok (.ishr, 1) := by decide +kernel
theorem d_Mod_step_75 : decode prog_9_method_35_code 75 = .ok (.istore 4, 2) := by decide +kernel
theorem d_Mod_step_77 : decode prog_9_method_35_code 77 = .ok (.aload_n 0, 1) := by decide +kernel
theorem d_Mod_step_78 : decode prog_9_method_35_code 78 = .ok (.iload_n 3, 1) := by decide +kernel
theorem d_Mod_step_79 : decode prog_9_method_35_code 79 = .ok (.invokevirtual 177, 3) := by decide +kernel
theorem d_Mod_step_82 : decode prog_9_method_35_code 82 = .ok (.istore 5, 2) := by decide +kernel
theorem d_Mod_step_84 : decode prog_9_method_35_code 84 = .ok (.aload_n 0, 1) := by decide +kernel
theorem d_Mod_step_85 : decode prog_9_method_35_code 85 = .ok (.getfield 74, 3) := by decide +kernel
theorem d_Mod_step_88 : decode prog_9_method_35_code 88 = .ok (.aload_n 0, 1) := by decide +kernel
theorem d_Mod_step_89 : decode prog_9_method_35_code 89 = .ok (.getfield 126, 3) := by decide +kernel
theorem d_Mod_step_92 : decode prog_9_method_35_code 92 = .ok (.iaload, 1) := by decide +kernel
theorem d_Mod_step_93 : decode prog_9_method_35_code 93 = .ok (.iload 5, 2) := by decide +kernel
theorem d_Mod_step_95 : decode prog_9_method_35_code 95 = .ok (.if_icmp .ge 10, 3) := by decide +kernel
theorem d_Mod_step_98 : decode prog_9_method_35_code 98 = .ok (.aload_n 0, 1) := by decide +kernel
theorem d_Mod_step_99 : decode prog_9_method_35_code 99 = .ok (.iconst 2, 1) := by decide +kernel
theorem d_Mod_step_100 : decode prog_9_method_35_code 100 = .ok (.iconst 0, 1) := by decide +kernel
theorem d_Mod_step_101 : decode prog_9_method_35_code 101 = .ok (.invokevirtual 163, 3) := by decide +kernel
theorem d_Mod_step_104 : decode prog_9_method_35_code 104 = .ok (.return_, 1) := by decide +kernel
theorem d_Mod_step_105 : decode prog_9_method_35_code 105 = .ok (.aload_n 0, 1) := by decide +kernel
theorem d_Mod_step_106 : decode prog_9_method_35_code 106 = .ok (.getfield 74, 3) := by decide +kernel
theorem d_Mod_step_109 : decode prog_9_method_35_code 109 = .ok (.aload_n 0, 1) := by decide +kernel
theorem d_Mod_step_110 : decode prog_9_method_35_code 110 = .ok (.getfield 126, 3) := by decide +kernel
theorem d_Mod_step_113 : decode prog_9_method_35_code 113 = .ok (.aload_n 0, 1) := by decide +kernel
theorem d_Mod_step_114 : decode prog_9_method_35_code 114 = .ok (.getfield 74, 3) := by decide +kernel
theorem d_Mod_step_117 : decode prog_9_method_35_code 117 = .ok (.aload_n 0, 1) := by decide +kernel
theorem d_Mod_step_118 : decode prog_9_method_35_code 118 = .ok (.getfield 126, 3) := by decide +kernel
theorem d_Mod_step_121 : decode prog_9_method_35_code 121 = .ok (.iaload, 1) := by decide +kernel
theorem d_Mod_step_122 : decode prog_9_method_35_code 122 = .ok (.iload 5, 2) := by decide +kernel
theorem d_Mod_step_124 : decode prog_9_method_35_code 124 = .ok (.isub, 1) := by decide +kernel
theorem d_Mod_step_125 : decode prog_9_method_35_code 125 = .ok (.iastore, 1) := by decide +kernel
theorem d_Mod_step_126 : decode prog_9_method_35_code 126 = .ok (.iload_n 3, 1) := by decide +kernel
theorem d_Mod_step_127 : decode prog_9_method_35_code 127 = .ok (.iload 4, 2) := by decide +kernel
theorem d_Mod_step_129 : decode prog_9_method_35_code 129 = .ok (.invokestatic 180, 3) := by decide +kernel
theorem d_Mod_step_132 : decode prog_9_method_35_code 132 = .ok (.istore 6, 2) := by decide +kernel
theorem d_Mod_step_134 : decode prog_9_method_35_code 134 = .ok (.aload_n 0, 1) := by decide +kernel
theorem d_Mod_step_135 : decode prog_9_method_35_code 135 = .ok (.getfield 56, 3) := by decide +kernel
theorem d_Mod_step_138 : decode prog_9_method_35_code 138 = .ok (.aload_n 0, 1) := by decide +kernel
theorem d_Mod_step_139 : decode prog_9_method_35_code 139 = .ok (.getfield 126, 3) := by decide +kernel
theorem d_Mod_step_142 : decode prog_9_method_35_code 142 = .ok (.iaload, 1) := by decide +kernel
theorem d_Mod_step_143 : decode prog_9_method_35_code 143 = .ok (.iload 6, 2) := by decide +kernel
theorem d_Mod_step_145 : decode prog_9_method_35_code 145 = .ok (.if_icmp .ge 12, 3) := by decide +kernel
theorem d_Mod_step_148 : decode prog_9_method_35_code 148 = .ok (.aload_n 0, 1) := by decide +kernel
theorem d_Mod_step_149 : decode prog_9_method_35_code 149 = .ok (.iconst 3, 1) := by decide +kernel
theorem d_Mod_step_150 : decode prog_9_method_35_code 150 = .ok (.iconst 0, 1) := by decide +kernel
theorem d_Mod_step_151 : decode prog_9_method_35_code 151 = .ok (.invokevirtual 163, 3) := by decide +kernel
theorem d_Mod_step_154 : decode prog_9_method_35_code 154 = .ok (.goto 43, 3) := by decide +kernel
theorem d_Mod_step_157 : decode prog_9_method_35_code 157 = .ok (.aload_n 0, 1) := by decide +kernel
theorem d_Mod_step_158 : decode prog_9_method_35_code 158 = .ok (.getfield 56, 3) := by decide +kernel
theorem d_Mod_step_161 : decode prog_9_method_35_code 161 = .ok (.aload_n 0, 1) := by decide +kernel
theorem d_Mod_step_162 : decode prog_9_method_35_code 162 = .ok (.getfield 126, 3) := by decide +kernel
theorem d_Mod_step_165 : decode prog_9_method_35_code 165 = .ok (.iaload, 1) := by decide +kernel
theorem d_Mod_step_166 : decode prog_9_method_35_code 166 = .ok (.iload 6, 2) := by decide +kernel
theorem d_Mod_step_168 : decode prog_9_method_35_code 168 = .ok (.isub, 1) := by decide +kernel
theorem d_Mod_step_169 : decode prog_9_method_35_code 169 = .ok (.iload_n 3, 1) := by decide +kernel
theorem d_Mod_step_170 : decode prog_9_method_35_code 170 = .ok (.iload 4, 2) := by decide +kernel
theorem d_Mod_step_172 : decode prog_9_method_35_code 172 = .ok (.invokestatic 183, 3) := by decide +kernel
theorem d_Mod_step_175 : decode prog_9_method_35_code 175 = .ok (.iadd, 1) := by decide +kernel
theorem d_Mod_step_176 : decode prog_9_method_35_code 176 = .ok (.bipush 32, 2) := by decide +kernel
theorem d_Mod_step_178 : decode prog_9_method_35_code 178 = .ok (.if_icmp .le 12, 3) := by decide +kernel
theorem d_Mod_step_181 : decode prog_9_method_35_code 181 = .ok (.aload_n 0, 1) := by decide +kernel
theorem d_Mod_step_182 : decode prog_9_method_35_code 182 = .ok (.iconst 4, 1) := by decide +kernel
theorem d_Mod_step_183 : decode prog_9_method_35_code 183 = .ok (.iconst 0, 1) := by decide +kernel
theorem d_Mod_step_184 : decode prog_9_method_35_code 184 = .ok (.invokevirtual 163, 3) := by decide +kernel
theorem d_Mod_step_187 : decode prog_9_method_35_code 187 = .ok (.goto 10, 3) := by decide +kernel
theorem d_Mod_step_190 : decode prog_9_method_35_code 190 = .ok (.aload_n 0, 1) := by decide +kernel
theorem d_Mod_step_191 : decode prog_9_method_35_code 191 = .ok (.iload_n 3, 1) := by decide +kernel
theorem d_Mod_step_192 : decode prog_9_method_35_code 192 = .ok (.iload 4, 2) := by decide +kernel
theorem d_Mod_step_194 : decode prog_9_method_35_code 194 = .ok (.invokevirtual 186, 3) := by decide +kernel
theorem d_Mod_step_197 : decode prog_9_method_35_code 197 = .ok (.return_, 1) := by decide +kernel
theorem d_Mod_transact_0 : decode prog_9_method_36_code 0 = .ok (.aload_n 0, 1) := by decide +kernel
theorem d_Mod_transact_1 : decode prog_9_method_36_code 1 = .ok (.aload_n 0, 1) := by decide +kernel
theorem d_Mod_transact_2 : decode prog_9_method_36_code 2 = .ok (.iload_n 1, 1) := by decide +kernel
theorem d_Mod_transact_3 : decode prog_9_method_36_code 3 = .ok (.invokevirtual 96, 3) := by decide +kernel
theorem d_Mod_transact_6 : decode prog_9_method_36_code 6 = .ok (.ifCond .ne 11, 3) := by decide +kernel
theorem d_Mod_transact_9 : decode prog_9_method_36_code 9 = .ok (.aload_n 0, 1) := by decide +kernel
theorem d_Mod_transact_10 : decode prog_9_method_36_code 10 = .ok (.iload_n 2, 1) := by decide +kernel
theorem d_Mod_transact_11 : decode prog_9_method_36_code 11 = .ok (.invokevirtual 96, 3) := by decide +kernel
theorem d_Mod_transact_14 : decode prog_9_method_36_code 14 = .ok (.ifCond .eq 7, 3) := by decide +kernel
theorem d_Mod_transact_17 : decode prog_9_method_36_code 17 = .ok (.iconst 1, 1) := by decide +kernel
theorem d_Mod_transact_18 : decode prog_9_method_36_code 18 = .ok (.goto 35, 3) := by decide +kernel
theorem d_Mod_transact_21 : decode prog_9_method_36_code 21 = .ok (.iload_n 3, 1) := by decide +kernel
theorem d_Mod_transact_22 : decode prog_9_method_36_code 22 = .ok (.ifCond .lt 26, 3) := by decide +kernel
theorem d_Mod_transact_25 : decode prog_9_method_36_code 25 = .ok (.iload_n 3, 1) := by decide +kernel
theorem d_Mod_transact_26 : decode prog_9_method_36_code 26 = .ok (.aload_n 0, 1) := by decide +kernel
theorem d_Mod_transact_27 : decode prog_9_method_36_code 27 = .ok (.getfield 7, 3) := by decide +kernel
theorem d_Mod_transact_30 : decode prog_9_method_36_code 30 = .ok (.iload_n 1, 1) := by decide +kernel
theorem d_Mod_transact_31 : decode prog_9_method_36_code 31 = .ok (.iaload, 1) := by decide +kernel
theorem d_Mod_transact_32 : decode prog_9_method_36_code 32 = .ok (.if_icmp .gt 16, 3) := by decide +kernel
theorem d_Mod_transact_35 : decode prog_9_method_36_code 35 = .ok (.iload 4, 2) := by decide +kernel
theorem d_Mod_transact_37 : decode prog_9_method_36_code 37 = .ok (.ifCond .lt 11, 3) := by decide +kernel
theorem d_Mod_transact_40 : decode prog_9_method_36_code 40 = .ok (.iload 4, 2) := by decide +kernel
theorem d_Mod_transact_42 : decode prog_9_method_36_code 42 = .ok (.sipush 10000, 3) := by decide +kernel
theorem d_Mod_transact_45 : decode prog_9_method_36_code 45 = .ok (.if_icmp .le 7, 3) := by decide +kernel
theorem d_Mod_transact_48 : decode prog_9_method_36_code 48 = .ok (.iconst 2, 1) := by decide +kernel
theorem d_Mod_transact_49 : decode prog_9_method_36_code 49 = .ok (.goto 4, 3) := by decide +kernel
theorem d_Mod_transact_52 : decode prog_9_method_36_code 52 = .ok (.iconst 0, 1) := by decide +kernel
theorem d_Mod_transact_53 : decode prog_9_method_36_code 53 = .ok (.putfield 83, 3) := by decide +kernel
theorem d_Mod_transact_56 : decode prog_9_method_36_code 56 = .ok (.aload_n 0, 1) := by decide +kernel
theorem d_Mod_transact_57 : decode prog_9_method_36_code 57 = .ok (.getfield 83, 3) := by decide +kernel
theorem d_Mod_transact_60 : decode prog_9_method_36_code 60 = .ok (.ifCond .le 5, 3) := by decide +kernel
theorem d_Mod_transact_63 : decode prog_9_method_36_code 63 = .ok (.iconst 0, 1) := by decide +kernel
theorem d_Mod_transact_64 : decode prog_9_method_36_code 64 = .ok (.ireturn, 1) := by decide +kernel
theorem d_Mod_transact_65 : decode prog_9_method_36_code 65 = .ok (.aload_n 0, 1) := by decide +kernel
theorem d_Mod_transact_66 : decode prog_9_method_36_code 66 = .ok (.iconst 0, 1) := by decide +kernel
theorem d_Mod_transact_67 : decode prog_9_method_36_code 67 = .ok (.putfield 126, 3) := by decide +kernel
theorem d_Mod_transact_70 : decode prog_9_method_36_code 70 = .ok (.iconst 0, 1) := by decide +kernel
theorem d_Mod_transact_71 : decode prog_9_method_36_code 71 = .ok (.istore 5, 2) := by decide +kernel
theorem d_Mod_transact_73 : decode prog_9_method_36_code 73 = .ok (.iload 5, 2) := by decide +kernel
theorem d_Mod_transact_75 : decode prog_9_method_36_code 75 = .ok (.aload_n 0, 1) := by decide +kernel
theorem d_Mod_transact_76 : decode prog_9_method_36_code 76 = .ok (.getfield 104, 3) := by decide +kernel
theorem d_Mod_transact_79 : decode prog_9_method_36_code 79 = .ok (.if_icmp .ge 23, 3) := by decide +kernel
theorem d_Mod_transact_82 : decode prog_9_method_36_code 82 = .ok (.aload_n 0, 1) := by decide +kernel
theorem d_Mod_transact_83 : decode prog_9_method_36_code 83 = .ok (.getfield 62, 3) := by decide +kernel
theorem d_Mod_transact_86 : decode prog_9_method_36_code 86 = .ok (.iload 5, 2) := by decide +kernel
theorem d_Mod_transact_88 : decode prog_9_method_36_code 88 = .ok (.aload_n 0, 1) := by decide +kernel
theorem d_Mod_transact_89 : decode prog_9_method_36_code 89 = .ok (.getfield 80, 3) := by decide +kernel
theorem d_Mod_transact_92 : decode prog_9_method_36_code 92 = .ok (.iload 5, 2) := by decide +kernel
theorem d_Mod_transact_94 : decode prog_9_method_36_code 94 = .ok (.iaload, 1) := by decide +kernel
theorem d_Mod_transact_95 : decode prog_9_method_36_code 95 = .ok (.iastore, 1) := by decide +kernel
theorem d_Mod_transact_96 : decode prog_9_method_36_code 96 = .ok (.iinc 5 1, 3) := by decide +kernel
theorem d_Mod_transact_99 : decode prog_9_method_36_code 99 = .ok (.goto (-26), 3) := by decide +kernel
theorem d_Mod_transact_102 : decode prog_9_method_36_code 102 = .ok (.aload_n 0, 1) := by decide +kernel
theorem d_Mod_transact_103 : decode prog_9_method_36_code 103 = .ok (.getfield 65, 3) := by decide +kernel
theorem d_Mod_transact_106 : decode prog_9_method_36_code 106 = .ok (.iconst 0, 1) := by decide +kernel
theorem d_Mod_transact_107 : decode prog_9_method_36_code 107 = .ok (.aload_n 0, 1) := by decide +kernel
theorem d_Mod_transact_108 : decode prog_9_method_36_code 108 = .ok (.getfield 104, 3) := by decide +kernel
theorem d_Mod_transact_111 : decode prog_9_method_36_code 111 = .ok (.iastore, 1) := by decide +kernel
theorem d_Mod_transact_112 : decode prog_9_method_36_code 112 = .ok (.aload_n 0, 1) := by decide +kernel
theorem d_Mod_transact_113 : decode prog_9_method_36_code 113 = .ok (.iconst 0, 1) := by decide +kernel
theorem d_Mod_transact_114 : decode prog_9_method_36_code 114 = .ok (.putfield 104, 3) := by decide +kernel
theorem d_Mod_transact_117 : decode prog_9_method_36_code 117 = .ok (.aload_n 0, 1) := by decide +kernel
theorem d_Mod_transact_118 : decode prog_9_method_36_code 118 = .ok (.iload_n 1, 1) := by decide +kernel
theorem d_Mod_transact_119 : decode prog_9_method_36_code 119 = .ok (.iload_n 2, 1) := by decide +kernel
theorem d_Mod_transact_120 : decode prog_9_method_36_code 120 = .ok (.iload_n 3, 1) := by decide +kernel
theorem d_Mod_transact_121 : decode prog_9_method_36_code 121 = .ok (.iload 4, 2) := by decide +kernel
theorem d_Mod_transact_123 : decode prog_9_method_36_code 123 = .ok (.invokevirtual 152, 3) := by decide +kernel
theorem d_Mod_transact_126 : decode prog_9_method_36_code 126 = .ok (.aload_n 0, 1) := by decide +kernel
theorem d_Mod_transact_127 : decode prog_9_method_36_code 127 = .ok (.getfield 126, 3) := by decide +kernel
theorem d_Mod_transact_130 : decode prog_9_method_36_code 130 = .ok (.ifCond .lt 10, 3) := by decide +kernel
theorem d_Mod_transact_133 : decode prog_9_method_36_code 133 = .ok (.aload_n 0, 1) := by decide +kernel
theorem d_Mod_transact_134 : decode prog_9_method_36_code 134 = .ok (.invokevirtual 189, 3) := by decide +kernel
theorem d_Mod_transact_137 : decode prog_9_method_36_code 137 = .ok (.goto (-11), 3) := by decide +kernel
theorem d_Mod_transact_140 : decode prog_9_method_36_code 140 = .ok (.aload_n 0, 1) := by decide +kernel
theorem d_Mod_transact_141 : decode prog_9_method_36_code 141 = .ok (.iload 4, 2) := by decide +kernel
theorem d_Mod_transact_143 : decode prog_9_method_36_code 143 = .ok (.aload_n 0, 1) := by decide +kernel
theorem d_Mod_transact_144 : decode prog_9_method_36_code 144 = .ok (.getfield 135, 3) := by decide +kernel
theorem d_Mod_transact_147 : decode prog_9_method_36_code 147 = .ok (.isub, 1) := by decide +kernel
theorem d_Mod_transact_148 : decode prog_9_method_36_code 148 = .ok (.putfield 120, 3) := by decide +kernel
theorem d_Mod_transact_151 : decode prog_9_method_36_code 151 = .ok (.aload_n 0, 1) := by decide +kernel
theorem d_Mod_transact_152 : decode prog_9_method_36_code 152 = .ok (.getfield 132, 3) := by decide +kernel
theorem d_Mod_transact_155 : decode prog_9_method_36_code 155 = .ok (.ireturn, 1) := by decide +kernel
