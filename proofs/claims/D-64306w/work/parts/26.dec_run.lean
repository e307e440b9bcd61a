theorem d_Run_call_0 : decode prog_6_method_11_code 0 = .ok (.aload_n 0, 1) := by decide +kernel
theorem d_Run_call_1 : decode prog_6_method_11_code 1 = .ok (.invokevirtual 104, 3) := by decide +kernel
theorem d_Run_call_4 : decode prog_6_method_11_code 4 = .ok (.istore_n 2, 1) := by decide +kernel
theorem d_Run_call_5 : decode prog_6_method_11_code 5 = .ok (.aload_n 0, 1) := by decide +kernel
theorem d_Run_call_6 : decode prog_6_method_11_code 6 = .ok (.invokevirtual 104, 3) := by decide +kernel
theorem d_Run_call_9 : decode prog_6_method_11_code 9 = .ok (.istore_n 3, 1) := by decide +kernel
theorem d_Run_call_10 : decode prog_6_method_11_code 10 = .ok (.aload_n 0, 1) := by decide +kernel
theorem d_Run_call_11 : decode prog_6_method_11_code 11 = .ok (.invokevirtual 104, 3) := by decide +kernel
theorem d_Run_call_14 : decode prog_6_method_11_code 14 = .ok (.istore 4, 2) := by decide +kernel
theorem d_Run_call_16 : decode prog_6_method_11_code 16 = .ok (.aload_n 0, 1) := by decide +kernel
theorem d_Run_call_17 : decode prog_6_method_11_code 17 = .ok (.dup, 1) := by decide +kernel
theorem d_Run_call_18 : decode prog_6_method_11_code 18 = .ok (.getfield 46, 3) := by decide +kernel
theorem d_Run_call_21 : decode prog_6_method_11_code 21 = .ok (.iload_n 1, 1) := by decide +kernel
theorem d_Run_call_22 : decode prog_6_method_11_code 22 = .ok (.isub, 1) := by decide +kernel
theorem d_Run_call_23 : decode prog_6_method_11_code 23 = .ok (.putfield 46, 3) := by decide +kernel
theorem d_Run_call_26 : decode prog_6_method_11_code 26 = .ok (.aload_n 0, 1) := by decide +kernel
theorem d_Run_call_27 : decode prog_6_method_11_code 27 = .ok (.getfield 22, 3) := by decide +kernel
theorem d_Run_call_30 : decode prog_6_method_11_code 30 = .ok (.iload_n 2, 1) := by decide +kernel
theorem d_Run_call_31 : decode prog_6_method_11_code 31 = .ok (.invokevirtual 108, 3) := by decide +kernel
theorem d_Run_call_34 : decode prog_6_method_11_code 34 = .ok (.ifCond .eq 38, 3) := by decide +kernel
theorem d_Run_call_37 : decode prog_6_method_11_code 37 = .ok (.iload_n 3, 1) := by decide +kernel
theorem d_Run_call_38 : decode prog_6_method_11_code 38 = .ok (.ifCond .lt 34, 3) := by decide +kernel
theorem d_Run_call_41 : decode prog_6_method_11_code 41 = .ok (.iload_n 3, 1) := by decide +kernel
theorem d_Run_call_42 : decode prog_6_method_11_code 42 = .ok (.aload_n 0, 1) := by decide +kernel
theorem d_Run_call_43 : decode prog_6_method_11_code 43 = .ok (.getfield 22, 3) := by decide +kernel
theorem d_Run_call_46 : decode prog_6_method_11_code 46 = .ok (.aload_n 0, 1) := by decide +kernel
theorem d_Run_call_47 : decode prog_6_method_11_code 47 = .ok (.getfield 37, 3) := by decide +kernel
theorem d_Run_call_50 : decode prog_6_method_11_code 50 = .ok (.invokevirtual 112, 3) := by decide +kernel
theorem d_Run_call_53 : decode prog_6_method_11_code 53 = .ok (.if_icmp .gt 19, 3) := by decide +kernel
theorem d_Run_call_56 : decode prog_6_method_11_code 56 = .ok (.iload 4, 2) := by decide +kernel
theorem d_Run_call_58 : decode prog_6_method_11_code 58 = .ok (.ifCond .lt 14, 3) := by decide +kernel
theorem d_Run_call_61 : decode prog_6_method_11_code 61 = .ok (.aload_n 0, 1) := by decide +kernel
theorem d_Run_call_62 : decode prog_6_method_11_code 62 = .ok (.getfield 34, 3) := by decide +kernel
theorem d_Run_call_65 : decode prog_6_method_11_code 65 = .ok (.iconst 1, 1) := by decide +kernel
theorem d_Run_call_66 : decode prog_6_method_11_code 66 = .ok (.iadd, 1) := by decide +kernel
theorem d_Run_call_67 : decode prog_6_method_11_code 67 = .ok (.bipush 8, 2) := by decide +kernel
theorem d_Run_call_69 : decode prog_6_method_11_code 69 = .ok (.if_icmp .ne 14, 3) := by decide +kernel
theorem d_Run_call_72 : decode prog_6_method_11_code 72 = .ok (.aload_n 0, 1) := by decide +kernel
theorem d_Run_call_73 : decode prog_6_method_11_code 73 = .ok (.iconst 0, 1) := by decide +kernel
theorem d_Run_call_74 : decode prog_6_method_11_code 74 = .ok (.invokevirtual 115, 3) := by decide +kernel
theorem d_Run_call_77 : decode prog_6_method_11_code 77 = .ok (.aload_n 0, 1) := by decide +kernel
theorem d_Run_call_78 : decode prog_6_method_11_code 78 = .ok (.iconst 0, 1) := by decide +kernel
theorem d_Run_call_79 : decode prog_6_method_11_code 79 = .ok (.invokevirtual 115, 3) := by decide +kernel
theorem d_Run_call_82 : decode prog_6_method_11_code 82 = .ok (.return_, 1) := by decide +kernel
theorem d_Run_call_83 : decode prog_6_method_11_code 83 = .ok (.iload 4, 2) := by decide +kernel
theorem d_Run_call_85 : decode prog_6_method_11_code 85 = .ok (.aload_n 0, 1) := by decide +kernel
theorem d_Run_call_86 : decode prog_6_method_11_code 86 = .ok (.getfield 52, 3) := by decide +kernel
theorem d_Run_call_89 : decode prog_6_method_11_code 89 = .ok (.aload_n 0, 1) := by decide +kernel
theorem d_Run_call_90 : decode prog_6_method_11_code 90 = .ok (.getfield 52, 3) := by decide +kernel
theorem d_Run_call_93 : decode prog_6_method_11_code 93 = .ok (.bipush 8, 2) := by decide +kernel
theorem d_Run_call_95 : decode prog_6_method_11_code 95 = .ok (.idiv, 1) := by decide +kernel
theorem d_Run_call_96 : decode prog_6_method_11_code 96 = .ok (.isub, 1) := by decide +kernel
theorem d_Run_call_97 : decode prog_6_method_11_code 97 = .ok (.invokestatic 118, 3) := by decide +kernel
theorem d_Run_call_100 : decode prog_6_method_11_code 100 = .ok (.istore 5, 2) := by decide +kernel
theorem d_Run_call_102 : decode prog_6_method_11_code 102 = .ok (.aload_n 0, 1) := by decide +kernel
theorem d_Run_call_103 : decode prog_6_method_11_code 103 = .ok (.dup, 1) := by decide +kernel
theorem d_Run_call_104 : decode prog_6_method_11_code 104 = .ok (.getfield 52, 3) := by decide +kernel
theorem d_Run_call_107 : decode prog_6_method_11_code 107 = .ok (.iload 5, 2) := by decide +kernel
theorem d_Run_call_109 : decode prog_6_method_11_code 109 = .ok (.isub, 1) := by decide +kernel
theorem d_Run_call_110 : decode prog_6_method_11_code 110 = .ok (.putfield 52, 3) := by decide +kernel
theorem d_Run_call_113 : decode prog_6_method_11_code 113 = .ok (.aload_n 0, 1) := by decide +kernel
theorem d_Run_call_114 : decode prog_6_method_11_code 114 = .ok (.getfield 30, 3) := by decide +kernel
theorem d_Run_call_117 : decode prog_6_method_11_code 117 = .ok (.aload_n 0, 1) := by decide +kernel
theorem d_Run_call_118 : decode prog_6_method_11_code 118 = .ok (.getfield 34, 3) := by decide +kernel
theorem d_Run_call_121 : decode prog_6_method_11_code 121 = .ok (.iconst 1, 1) := by decide +kernel
theorem d_Run_call_122 : decode prog_6_method_11_code 122 = .ok (.iadd, 1) := by decide +kernel
theorem d_Run_call_123 : decode prog_6_method_11_code 123 = .ok (.aaload, 1) := by decide +kernel
theorem d_Run_call_124 : decode prog_6_method_11_code 124 = .ok (.astore 6, 2) := by decide +kernel
theorem d_Run_call_126 : decode prog_6_method_11_code 126 = .ok (.aload 6, 2) := by decide +kernel
theorem d_Run_call_128 : decode prog_6_method_11_code 128 = .ok (.iload_n 2, 1) := by decide +kernel
theorem d_Run_call_129 : decode prog_6_method_11_code 129 = .ok (.aload_n 0, 1) := by decide +kernel
theorem d_Run_call_130 : decode prog_6_method_11_code 130 = .ok (.getfield 37, 3) := by decide +kernel
theorem d_Run_call_133 : decode prog_6_method_11_code 133 = .ok (.iload_n 3, 1) := by decide +kernel
theorem d_Run_call_134 : decode prog_6_method_11_code 134 = .ok (.invokevirtual 123, 3) := by decide +kernel
theorem d_Run_call_137 : decode prog_6_method_11_code 137 = .ok (.iconst 0, 1) := by decide +kernel
theorem d_Run_call_138 : decode prog_6_method_11_code 138 = .ok (.istore 7, 2) := by decide +kernel
theorem d_Run_call_140 : decode prog_6_method_11_code 140 = .ok (.iload 7, 2) := by decide +kernel
theorem d_Run_call_142 : decode prog_6_method_11_code 142 = .ok (.iload_n 1, 1) := by decide +kernel
theorem d_Run_call_143 : decode prog_6_method_11_code 143 = .ok (.if_icmp .ge 33, 3) := by decide +kernel
theorem d_Run_call_146 : decode prog_6_method_11_code 146 = .ok (.aload 6, 2) := by decide +kernel
theorem d_Run_call_148 : decode prog_6_method_11_code 148 = .ok (.getfield 9, 3) := by decide +kernel
theorem d_Run_call_151 : decode prog_6_method_11_code 151 = .ok (.iload 7, 2) := by decide +kernel
theorem d_Run_call_153 : decode prog_6_method_11_code 153 = .ok (.aload_n 0, 1) := by decide +kernel
theorem d_Run_call_154 : decode prog_6_method_11_code 154 = .ok (.getfield 15, 3) := by decide +kernel
theorem d_Run_call_157 : decode prog_6_method_11_code 157 = .ok (.aload_n 0, 1) := by decide +kernel
theorem d_Run_call_158 : decode prog_6_method_11_code 158 = .ok (.getfield 46, 3) := by decide +kernel
theorem d_Run_call_161 : decode prog_6_method_11_code 161 = .ok (.iload_n 1, 1) := by decide +kernel
theorem d_Run_call_162 : decode prog_6_method_11_code 162 = .ok (.iadd, 1) := by decide +kernel
theorem d_Run_call_163 : decode prog_6_method_11_code 163 = .ok (.iconst 1, 1) := by decide +kernel
theorem d_Run_call_164 : decode prog_6_method_11_code 164 = .ok (.isub, 1) := by decide +kernel
theorem d_Run_call_165 : decode prog_6_method_11_code 165 = .ok (.iload 7, 2) := by decide +kernel
theorem d_Run_call_167 : decode prog_6_method_11_code 167 = .ok (.isub, 1) := by decide +kernel
theorem d_Run_call_168 : decode prog_6_method_11_code 168 = .ok (.iaload, 1) := by decide +kernel
theorem d_Run_call_169 : decode prog_6_method_11_code 169 = .ok (.iastore, 1) := by decide +kernel
theorem d_Run_call_170 : decode prog_6_method_11_code 170 = .ok (.iinc 7 1, 3) := by decide +kernel
theorem d_Run_call_173 : decode prog_6_method_11_code 173 = .ok (.goto (-33), 3) := by decide +kernel
theorem d_Run_call_176 : decode prog_6_method_11_code 176 = .ok (.aload 6, 2) := by decide +kernel
theorem d_Run_call_178 : decode prog_6_method_11_code 178 = .ok (.iload 5, 2) := by decide +kernel
theorem d_Run_call_180 : decode prog_6_method_11_code 180 = .ok (.invokevirtual 126, 3) := by decide +kernel
theorem d_Run_call_183 : decode prog_6_method_11_code 183 = .ok (.istore 7, 2) := by decide +kernel
theorem d_Run_call_185 : decode prog_6_method_11_code 185 = .ok (.aload_n 0, 1) := by decide +kernel
theorem d_Run_call_186 : decode prog_6_method_11_code 186 = .ok (.dup, 1) := by decide +kernel
theorem d_Run_call_187 : decode prog_6_method_11_code 187 = .ok (.getfield 52, 3) := by decide +kernel
theorem d_Run_call_190 : decode prog_6_method_11_code 190 = .ok (.aload 6, 2) := by decide +kernel
theorem d_Run_call_192 : decode prog_6_method_11_code 192 = .ok (.getfield 52, 3) := by decide +kernel
theorem d_Run_call_195 : decode prog_6_method_11_code 195 = .ok (.iadd, 1) := by decide +kernel
theorem d_Run_call_196 : decode prog_6_method_11_code 196 = .ok (.putfield 52, 3) := by decide +kernel
theorem d_Run_call_199 : decode prog_6_method_11_code 199 = .ok (.aload_n 0, 1) := by decide +kernel
theorem d_Run_call_200 : decode prog_6_method_11_code 200 = .ok (.aload 6, 2) := by decide +kernel
theorem d_Run_call_202 : decode prog_6_method_11_code 202 = .ok (.getfield 55, 3) := by decide +kernel
theorem d_Run_call_205 : decode prog_6_method_11_code 205 = .ok (.invokevirtual 115, 3) := by decide +kernel
theorem d_Run_call_208 : decode prog_6_method_11_code 208 = .ok (.aload_n 0, 1) := by decide +kernel
theorem d_Run_call_209 : decode prog_6_method_11_code 209 = .ok (.iload 7, 2) := by decide +kernel
theorem d_Run_call_211 : decode prog_6_method_11_code 211 = .ok (.ifCond .eq 7, 3) := by decide +kernel
theorem d_Run_call_214 : decode prog_6_method_11_code 214 = .ok (.iconst 1, 1) := by decide +kernel
theorem d_Run_call_215 : decode prog_6_method_11_code 215 = .ok (.goto 4, 3) := by decide +kernel
theorem d_Run_call_218 : decode prog_6_method_11_code 218 = .ok (.iconst 0, 1) := by decide +kernel
theorem d_Run_call_219 : decode prog_6_method_11_code 219 = .ok (.invokevirtual 115, 3) := by decide +kernel
theorem d_Run_call_222 : decode prog_6_method_11_code 222 = .ok (.return_, 1) := by decide +kernel
theorem d_Run_act_0 : decode prog_6_method_12_code 0 = .ok (.aload_n 0, 1) := by decide +kernel
theorem d_Run_act_1 : decode prog_6_method_12_code 1 = .ok (.dup, 1) := by decide +kernel
theorem d_Run_act_2 : decode prog_6_method_12_code 2 = .ok (.getfield 49, 3) := by decide +kernel
theorem d_Run_act_5 : decode prog_6_method_12_code 5 = .ok (.iconst 1, 1) := by decide +kernel
theorem d_Run_act_6 : decode prog_6_method_12_code 6 = .ok (.iadd, 1) := by decide +kernel
theorem d_Run_act_7 : decode prog_6_method_12_code 7 = .ok (.putfield 49, 3) := by decide +kernel
theorem d_Run_act_10 : decode prog_6_method_12_code 10 = .ok (.aload_n 1, 1) := by decide +kernel
theorem d_Run_act_11 : decode prog_6_method_12_code 11 = .ok (.invokevirtual 129, 3) := by decide +kernel
theorem d_Run_act_14 : decode prog_6_method_12_code 14 = .ok (.tableswitch 405 0 29 #[134, 143, 151, 164, 176, 405, 405, 405, 405, 405, 405, 405, 184, 405, 405, 405, 203, 211, 233, 255, 262, 297, 308, 319, 330, 348, 362, 386, 394, 374], 134) := by decide +kernel
theorem d_Run_act_148 : decode prog_6_method_12_code 148 = .ok (.aload_n 0, 1) := by decide +kernel
theorem d_Run_act_149 : decode prog_6_method_12_code 149 = .ok (.iconst 0, 1) := by decide +kernel
theorem d_Run_act_150 : decode prog_6_method_12_code 150 = .ok (.iconst 0, 1) := by decide +kernel
theorem d_Run_act_151 : decode prog_6_method_12_code 151 = .ok (.invokevirtual 132, 3) := by decide +kernel
theorem d_Run_act_154 : decode prog_6_method_12_code 154 = .ok (.goto 283, 3) := by decide +kernel
theorem d_Run_act_157 : decode prog_6_method_12_code 157 = .ok (.aload_n 0, 1) := by decide +kernel
theorem d_Run_act_158 : decode prog_6_method_12_code 158 = .ok (.iload_n 2, 1) := by decide +kernel
theorem d_Run_act_159 : decode prog_6_method_12_code 159 = .ok (.invokevirtual 115, 3) := by decide +kernel
theorem d_Run_act_162 : decode prog_6_method_12_code 162 = .ok (.goto 275, 3) := by decide +kernel
theorem d_Run_act_165 : decode prog_6_method_12_code 165 = .ok (.aload_n 0, 1) := by decide +kernel
theorem d_Run_act_166 : decode prog_6_method_12_code 166 = .ok (.dup, 1) := by decide +kernel
theorem d_Run_act_167 : decode prog_6_method_12_code 167 = .ok (.getfield 46, 3) := by decide +kernel
theorem d_Run_act_170 : decode prog_6_method_12_code 170 = .ok (.iconst 1, 1) := by decide +kernel
theorem d_Run_act_171 : decode prog_6_method_12_code 171 = .ok (.isub, 1) := by decide +kernel
theorem d_Run_act_172 : decode prog_6_method_12_code 172 = .ok (.putfield 46, 3) := by decide +kernel
theorem d_Run_act_175 : decode prog_6_method_12_code 175 = .ok (.goto 262, 3) := by decide +kernel
theorem d_Run_act_178 : decode prog_6_method_12_code 178 = .ok (.aload_n 0, 1) := by decide +kernel
theorem d_Run_act_179 : decode prog_6_method_12_code 179 = .ok (.aload_n 0, 1) := by decide +kernel
theorem d_Run_act_180 : decode prog_6_method_12_code 180 = .ok (.iload_n 2, 1) := by decide +kernel
theorem d_Run_act_181 : decode prog_6_method_12_code 181 = .ok (.invokevirtual 71, 3) := by decide +kernel
theorem d_Run_act_184 : decode prog_6_method_12_code 184 = .ok (.invokevirtual 115, 3) := by decide +kernel
theorem d_Run_act_187 : decode prog_6_method_12_code 187 = .ok (.goto 250, 3) := by decide +kernel
theorem d_Run_act_190 : decode prog_6_method_12_code 190 = .ok (.aload_n 0, 1) := by decide +kernel
theorem d_Run_act_191 : decode prog_6_method_12_code 191 = .ok (.iload_n 2, 1) := by decide +kernel
theorem d_Run_act_192 : decode prog_6_method_12_code 192 = .ok (.invokevirtual 136, 3) := by decide +kernel
theorem d_Run_act_195 : decode prog_6_method_12_code 195 = .ok (.goto 242, 3) := by decide +kernel
theorem d_Run_act_198 : decode prog_6_method_12_code 198 = .ok (.aload_n 0, 1) := by decide +kernel
theorem d_Run_act_199 : decode prog_6_method_12_code 199 = .ok (.aload_n 0, 1) := by decide +kernel
theorem d_Run_act_200 : decode prog_6_method_12_code 200 = .ok (.invokevirtual 104, 3) := by decide +kernel
theorem d_Run_act_203 : decode prog_6_method_12_code 203 = .ok (.ifCond .ne 7, 3) := by decide +kernel
theorem d_Run_act_206 : decode prog_6_method_12_code 206 = .ok (.iconst 1, 1) := by decide +kernel
theorem d_Run_act_207 : decode prog_6_method_12_code 207 = .ok (.goto 4, 3) := by decide +kernel
theorem d_Run_act_210 : decode prog_6_method_12_code 210 = .ok (.iconst 0, 1) := by decide +kernel
theorem d_Run_act_211 : decode prog_6_method_12_code 211 = .ok (.invokevirtual 115, 3) := by decide +kernel
theorem d_Run_act_214 : decode prog_6_method_12_code 214 = .ok (.goto 223, 3) := by decide +kernel
theorem d_Run_act_217 : decode prog_6_method_12_code 217 = .ok (.aload_n 0, 1) := by decide +kernel
theorem d_Run_act_218 : decode prog_6_method_12_code 218 = .ok (.iload_n 2, 1) := by decide +kernel
theorem d_Run_act_219 : decode prog_6_method_12_code 219 = .ok (.putfield 49, 3) := by decide +kernel
theorem d_Run_act_222 : decode prog_6_method_12_code 222 = .ok (.goto 215, 3) := by decide +kernel
theorem d_Run_act_225 : decode prog_6_method_12_code 225 = .ok (.aload_n 0, 1) := by decide +kernel
theorem d_Run_act_226 : decode prog_6_method_12_code 226 = .ok (.aload_n 0, 1) := by decide +kernel
theorem d_Run_act_227 : decode prog_6_method_12_code 227 = .ok (.invokevirtual 104, 3) := by decide +kernel
theorem d_Run_act_230 : decode prog_6_method_12_code 230 = .ok (.ifCond .eq 7, 3) := by decide +kernel
theorem d_Run_act_233 : decode prog_6_method_12_code 233 = .ok (.iload_n 2, 1) := by decide +kernel
theorem d_Run_act_234 : decode prog_6_method_12_code 234 = .ok (.goto 7, 3) := by decide +kernel
theorem d_Run_act_237 : decode prog_6_method_12_code 237 = .ok (.aload_n 0, 1) := by decide +kernel
theorem d_Run_act_238 : decode prog_6_method_12_code 238 = .ok (.getfield 49, 3) := by decide +kernel
theorem d_Run_act_241 : decode prog_6_method_12_code 241 = .ok (.putfield 49, 3) := by decide +kernel
theorem d_Run_act_244 : decode prog_6_method_12_code 244 = .ok (.goto 193, 3) := by decide +kernel
theorem d_Run_act_247 : decode prog_6_method_12_code 247 = .ok (.aload_n 0, 1) := by decide +kernel
theorem d_Run_act_248 : decode prog_6_method_12_code 248 = .ok (.aload_n 0, 1) := by decide +kernel
theorem d_Run_act_249 : decode prog_6_method_12_code 249 = .ok (.getfield 22, 3) := by decide +kernel
theorem d_Run_act_252 : decode prog_6_method_12_code 252 = .ok (.aload_n 0, 1) := by decide +kernel
theorem d_Run_act_253 : decode prog_6_method_12_code 253 = .ok (.getfield 37, 3) := by decide +kernel
theorem d_Run_act_256 : decode prog_6_method_12_code 256 = .ok (.aload_n 0, 1) := by decide +kernel
theorem d_Run_act_257 : decode prog_6_method_12_code 257 = .ok (.invokevirtual 104, 3) := by decide +kernel
theorem d_Run_act_260 : decode prog_6_method_12_code 260 = .ok (.invokevirtual 81, 3) := by decide +kernel
theorem d_Run_act_263 : decode prog_6_method_12_code 263 = .ok (.invokevirtual 115, 3) := by decide +kernel
theorem d_Run_act_266 : decode prog_6_method_12_code 266 = .ok (.goto 171, 3) := by decide +kernel
theorem d_Run_act_269 : decode prog_6_method_12_code 269 = .ok (.aload_n 0, 1) := by decide +kernel
theorem d_Run_act_270 : decode prog_6_method_12_code 270 = .ok (.invokevirtual 139, 3) := by decide +kernel
theorem d_Run_act_273 : decode prog_6_method_12_code 273 = .ok (.goto 164, 3) := by decide +kernel
theorem d_Run_act_276 : decode prog_6_method_12_code 276 = .ok (.aload_n 0, 1) := by decide +kernel
theorem d_Run_act_277 : decode prog_6_method_12_code 277 = .ok (.invokevirtual 104, 3) := by decide +kernel
theorem d_Run_act_280 : decode prog_6_method_12_code 280 = .ok (.istore_n 3, 1) := by decide +kernel
theorem d_Run_act_281 : decode prog_6_method_12_code 281 = .ok (.aload_n 0, 1) := by decide +kernel
theorem d_Run_act_282 : decode prog_6_method_12_code 282 = .ok (.iload_n 3, 1) := by decide +kernel
theorem d_Run_act_283 : decode prog_6_method_12_code 283 = .ok (.ifCond .lt 21, 3) := by decide +kernel
theorem d_Run_act_286 : decode prog_6_method_12_code 286 = .ok (.iload_n 3, 1) := by decide +kernel
theorem d_Run_act_287 : decode prog_6_method_12_code 287 = .ok (.aload_n 0, 1) := by decide +kernel
theorem d_Run_act_288 : decode prog_6_method_12_code 288 = .ok (.getfield 9, 3) := by decide +kernel
theorem d_Run_act_291 : decode prog_6_method_12_code 291 = .ok (.arraylength, 1) := by decide +kernel
theorem d_Run_act_292 : decode prog_6_method_12_code 292 = .ok (.if_icmp .ge 12, 3) := by decide +kernel
theorem d_Run_act_295 : decode prog_6_method_12_code 295 = .ok (.aload_n 0, 1) := by decide +kernel
theorem d_Run_act_296 : decode prog_6_method_12_code 296 = .ok (.getfield 9, 3) := by decide +kernel
theorem d_Run_act_299 : decode prog_6_method_12_code 299 = .ok (.iload_n 3, 1) := by decide +kernel
theorem d_Run_act_300 : decode prog_6_method_12_code 300 = .ok (.iaload, 1) := by decide +kernel
theorem d_Run_act_301 : decode prog_6_method_12_code 301 = .ok (.goto 4, 3) := by decide +kernel
theorem d_Run_act_304 : decode prog_6_method_12_code 304 = .ok (.iconst 0, 1) := by decide +kernel
theorem d_Run_act_305 : decode prog_6_method_12_code 305 = .ok (.invokevirtual 115, 3) := by decide +kernel
theorem d_Run_act_308 : decode prog_6_method_12_code 308 = .ok (.goto 129, 3) := by decide +kernel
theorem d_Run_act_311 : decode prog_6_method_12_code 311 = .ok (.aload_n 0, 1) := by decide +kernel
theorem d_Run_act_312 : decode prog_6_method_12_code 312 = .ok (.aload_n 0, 1) := by decide +kernel
theorem d_Run_act_313 : decode prog_6_method_12_code 313 = .ok (.getfield 40, 3) := by decide +kernel
theorem d_Run_act_316 : decode prog_6_method_12_code 316 = .ok (.invokevirtual 115, 3) := by decide +kernel
theorem d_Run_act_319 : decode prog_6_method_12_code 319 = .ok (.goto 118, 3) := by decide +kernel
theorem d_Run_act_322 : decode prog_6_method_12_code 322 = .ok (.aload_n 0, 1) := by decide +kernel
theorem d_Run_act_323 : decode prog_6_method_12_code 323 = .ok (.aload_n 0, 1) := by decide +kernel
theorem d_Run_act_324 : decode prog_6_method_12_code 324 = .ok (.getfield 43, 3) := by decide +kernel
theorem d_Run_act_327 : decode prog_6_method_12_code 327 = .ok (.invokevirtual 115, 3) := by decide +kernel
theorem d_Run_act_330 : decode prog_6_method_12_code 330 = .ok (.goto 107, 3) := by decide +kernel
theorem d_Run_act_333 : decode prog_6_method_12_code 333 = .ok (.aload_n 0, 1) := by decide +kernel
theorem d_Run_act_334 : decode prog_6_method_12_code 334 = .ok (.aload_n 0, 1) := by decide +kernel
theorem d_Run_act_335 : decode prog_6_method_12_code 335 = .ok (.getfield 37, 3) := by decide +kernel
theorem d_Run_act_338 : decode prog_6_method_12_code 338 = .ok (.invokevirtual 115, 3) := by decide +kernel
theorem d_Run_act_341 : decode prog_6_method_12_code 341 = .ok (.goto 96, 3) := by decide +kernel
theorem d_Run_act_344 : decode prog_6_method_12_code 344 = .ok (.aload_n 0, 1) := by decide +kernel
theorem d_Run_act_345 : decode prog_6_method_12_code 345 = .ok (.aload_n 0, 1) := by decide +kernel
theorem d_Run_act_346 : decode prog_6_method_12_code 346 = .ok (.getfield 22, 3) := by decide +kernel
theorem d_Run_act_349 : decode prog_6_method_12_code 349 = .ok (.aload_n 0, 1) := by decide +kernel
theorem d_Run_act_350 : decode prog_6_method_12_code 350 = .ok (.invokevirtual 104, 3) := by decide +kernel
theorem d_Run_act_353 : decode prog_6_method_12_code 353 = .ok (.invokevirtual 112, 3) := by decide +kernel
theorem d_Run_act_356 : decode prog_6_method_12_code 356 = .ok (.invokevirtual 115, 3) := by decide +kernel
theorem d_Run_act_359 : decode prog_6_method_12_code 359 = .ok (.goto 78, 3) := by decide +kernel
theorem d_Run_act_362 : decode prog_6_method_12_code 362 = .ok (.aload_n 0, 1) := by decide +kernel
theorem d_Run_act_363 : decode prog_6_method_12_code 363 = .ok (.getfield 22, 3) := by decide +kernel
theorem d_Run_act_366 : decode prog_6_method_12_code 366 = .ok (.aload_n 0, 1) := by decide +kernel
theorem d_Run_act_367 : decode prog_6_method_12_code 367 = .ok (.invokevirtual 104, 3) := by decide +kernel
theorem d_Run_act_370 : decode prog_6_method_12_code 370 = .ok (.invokevirtual 141, 3) := by decide +kernel
theorem d_Run_act_373 : decode prog_6_method_12_code 373 = .ok (.goto 64, 3) := by decide +kernel
theorem d_Run_act_376 : decode prog_6_method_12_code 376 = .ok (.aload_n 0, 1) := by decide +kernel
theorem d_Run_act_377 : decode prog_6_method_12_code 377 = .ok (.iconst 0, 1) := by decide +kernel
theorem d_Run_act_378 : decode prog_6_method_12_code 378 = .ok (.aload_n 0, 1) := by decide +kernel
theorem d_Run_act_379 : decode prog_6_method_12_code 379 = .ok (.invokevirtual 104, 3) := by decide +kernel
theorem d_Run_act_382 : decode prog_6_method_12_code 382 = .ok (.invokevirtual 132, 3) := by decide +kernel
theorem d_Run_act_385 : decode prog_6_method_12_code 385 = .ok (.goto 52, 3) := by decide +kernel
theorem d_Run_act_388 : decode prog_6_method_12_code 388 = .ok (.aload_n 0, 1) := by decide +kernel
theorem d_Run_act_389 : decode prog_6_method_12_code 389 = .ok (.iconst 1, 1) := by decide +kernel
theorem d_Run_act_390 : decode prog_6_method_12_code 390 = .ok (.aload_n 0, 1) := by decide +kernel
theorem d_Run_act_391 : decode prog_6_method_12_code 391 = .ok (.invokevirtual 104, 3) := by decide +kernel
theorem d_Run_act_394 : decode prog_6_method_12_code 394 = .ok (.invokevirtual 132, 3) := by decide +kernel
theorem d_Run_act_397 : decode prog_6_method_12_code 397 = .ok (.goto 40, 3) := by decide +kernel
theorem d_Run_act_400 : decode prog_6_method_12_code 400 = .ok (.aload_n 0, 1) := by decide +kernel
theorem d_Run_act_401 : decode prog_6_method_12_code 401 = .ok (.iload_n 2, 1) := by decide +kernel
theorem d_Run_act_402 : decode prog_6_method_12_code 402 = .ok (.invokevirtual 144, 3) := by decide +kernel
theorem d_Run_act_405 : decode prog_6_method_12_code 405 = .ok (.goto 32, 3) := by decide +kernel
theorem d_Run_act_408 : decode prog_6_method_12_code 408 = .ok (.aload_n 0, 1) := by decide +kernel
theorem d_Run_act_409 : decode prog_6_method_12_code 409 = .ok (.aload_n 0, 1) := by decide +kernel
theorem d_Run_act_410 : decode prog_6_method_12_code 410 = .ok (.getfield 52, 3) := by decide +kernel
theorem d_Run_act_413 : decode prog_6_method_12_code 413 = .ok (.invokevirtual 115, 3) := by decide +kernel
theorem d_Run_act_416 : decode prog_6_method_12_code 416 = .ok (.goto 21, 3) := by decide +kernel
theorem d_Run_act_419 : decode prog_6_method_12_code 419 = .ok (.aload_n 0, 1) := by decide +kernel
theorem d_Run_act_420 : decode prog_6_method_12_code 420 = .ok (.invokevirtual 104, 3) := by decide +kernel
theorem d_Run_act_423 : decode prog_6_method_12_code 423 = .ok (.istore_n 3, 1) := by decide +kernel
theorem d_Run_act_424 : decode prog_6_method_12_code 424 = .ok (.aload_n 0, 1) := by decide +kernel
theorem d_Run_act_425 : decode prog_6_method_12_code 425 = .ok (.aload_n 1, 1) := by decide +kernel
theorem d_Run_act_426 : decode prog_6_method_12_code 426 = .ok (.aload_n 0, 1) := by decide +kernel
theorem d_Run_act_427 : decode prog_6_method_12_code 427 = .ok (.invokevirtual 104, 3) := by decide +kernel
theorem d_Run_act_430 : decode prog_6_method_12_code 430 = .ok (.iload_n 3, 1) := by decide +kernel
theorem d_Run_act_431 : decode prog_6_method_12_code 431 = .ok (.invokevirtual 147, 3) := by decide +kernel
theorem d_Run_act_434 : decode prog_6_method_12_code 434 = .ok (.invokevirtual 115, 3) := by decide +kernel
theorem d_Run_act_437 : decode prog_6_method_12_code 437 = .ok (.return_, 1) := by decide +kernel
theorem d_Run_step_0 : decode prog_6_method_13_code 0 = .ok (.aload_n 1, 1) := by decide +kernel
theorem d_Run_step_1 : decode prog_6_method_13_code 1 = .ok (.getfield 150, 3) := by decide +kernel
theorem d_Run_step_4 : decode prog_6_method_13_code 4 = .ok (.aload_n 0, 1) := by decide +kernel
theorem d_Run_step_5 : decode prog_6_method_13_code 5 = .ok (.getfield 49, 3) := by decide +kernel
theorem d_Run_step_8 : decode prog_6_method_13_code 8 = .ok (.iaload, 1) := by decide +kernel
theorem d_Run_step_9 : decode prog_6_method_13_code 9 = .ok (.istore_n 2, 1) := by decide +kernel
theorem d_Run_step_10 : decode prog_6_method_13_code 10 = .ok (.aload_n 0, 1) := by decide +kernel
theorem d_Run_step_11 : decode prog_6_method_13_code 11 = .ok (.getfield 26, 3) := by decide +kernel
theorem d_Run_step_14 : decode prog_6_method_13_code 14 = .ok (.iload_n 2, 1) := by decide +kernel
theorem d_Run_step_15 : decode prog_6_method_13_code 15 = .ok (.sipush 255, 3) := by decide +kernel
theorem d_Run_step_18 : decode prog_6_method_13_code 18 = .ok (.iand, 1) := by decide +kernel
theorem d_Run_step_19 : decode prog_6_method_13_code 19 = .ok (.aaload, 1) := by decide +kernel
theorem d_Run_step_20 : decode prog_6_method_13_code 20 = .ok (.astore_n 3, 1) := by decide +kernel
theorem d_Run_step_21 : decode prog_6_method_13_code 21 = .ok (.aload_n 0, 1) := by decide +kernel
theorem d_Run_step_22 : decode prog_6_method_13_code 22 = .ok (.aload_n 3, 1) := by decide +kernel
theorem d_Run_step_23 : decode prog_6_method_13_code 23 = .ok (.invokevirtual 155, 3) := by decide +kernel
theorem d_Run_step_26 : decode prog_6_method_13_code 26 = .ok (.istore 4, 2) := by decide +kernel
theorem d_Run_step_28 : decode prog_6_method_13_code 28 = .ok (.iload 4, 2) := by decide +kernel
theorem d_Run_step_30 : decode prog_6_method_13_code 30 = .ok (.aload_n 0, 1) := by decide +kernel
theorem d_Run_step_31 : decode prog_6_method_13_code 31 = .ok (.getfield 52, 3) := by decide +kernel
theorem d_Run_step_34 : decode prog_6_method_13_code 34 = .ok (.if_icmp .le 8, 3) := by decide +kernel
theorem d_Run_step_37 : decode prog_6_method_13_code 37 = .ok (.aload_n 0, 1) := by decide +kernel
theorem d_Run_step_38 : decode prog_6_method_13_code 38 = .ok (.iconst 2, 1) := by decide +kernel
theorem d_Run_step_39 : decode prog_6_method_13_code 39 = .ok (.invokevirtual 96, 3) := by decide +kernel
theorem d_Run_step_42 : decode prog_6_method_13_code 42 = .ok (.aload_n 0, 1) := by decide +kernel
theorem d_Run_step_43 : decode prog_6_method_13_code 43 = .ok (.dup, 1) := by decide +kernel
theorem d_Run_step_44 : decode prog_6_method_13_code 44 = .ok (.getfield 52, 3) := by decide +kernel
theorem d_Run_step_47 : decode prog_6_method_13_code 47 = .ok (.iload 4, 2) := by decide +kernel
theorem d_Run_step_49 : decode prog_6_method_13_code 49 = .ok (.isub, 1) := by decide +kernel
theorem d_Run_step_50 : decode prog_6_method_13_code 50 = .ok (.putfield 52, 3) := by decide +kernel
theorem d_Run_step_53 : decode prog_6_method_13_code 53 = .ok (.aload_n 0, 1) := by decide +kernel
theorem d_Run_step_54 : decode prog_6_method_13_code 54 = .ok (.getfield 46, 3) := by decide +kernel
theorem d_Run_step_57 : decode prog_6_method_13_code 57 = .ok (.aload_n 3, 1) := by decide +kernel
theorem d_Run_step_58 : decode prog_6_method_13_code 58 = .ok (.iload_n 2, 1) := by decide +kernel
theorem d_Run_step_59 : decode prog_6_method_13_code 59 = .ok (.bipush 8, 2) := by decide +kernel
theorem d_Run_step_61 : decode prog_6_method_13_code 61 = .ok (.ishr, 1) := by decide +kernel
theorem d_Run_step_62 : decode prog_6_method_13_code 62 = .ok (.invokevirtual 158, 3) := by decide +kernel
theorem d_Run_step_65 : decode prog_6_method_13_code 65 = .ok (.if_icmp .ge 8, 3) := by decide +kernel
theorem d_Run_step_68 : decode prog_6_method_13_code 68 = .ok (.aload_n 0, 1) := by decide +kernel
theorem d_Run_step_69 : decode prog_6_method_13_code 69 = .ok (.iconst 3, 1) := by decide +kernel
theorem d_Run_step_70 : decode prog_6_method_13_code 70 = .ok (.invokevirtual 96, 3) := by decide +kernel
theorem d_Run_step_73 : decode prog_6_method_13_code 73 = .ok (.aload_n 0, 1) := by decide +kernel
theorem d_Run_step_74 : decode prog_6_method_13_code 74 = .ok (.getfield 46, 3) := by decide +kernel
theorem d_Run_step_77 : decode prog_6_method_13_code 77 = .ok (.aload_n 3, 1) := by decide +kernel
theorem d_Run_step_78 : decode prog_6_method_13_code 78 = .ok (.getfield 161, 3) := by decide +kernel
theorem d_Run_step_81 : decode prog_6_method_13_code 81 = .ok (.iadd, 1) := by decide +kernel
theorem d_Run_step_82 : decode prog_6_method_13_code 82 = .ok (.bipush 32, 2) := by decide +kernel
theorem d_Run_step_84 : decode prog_6_method_13_code 84 = .ok (.if_icmp .le 8, 3) := by decide +kernel
theorem d_Run_step_87 : decode prog_6_method_13_code 87 = .ok (.aload_n 0, 1) := by decide +kernel
theorem d_Run_step_88 : decode prog_6_method_13_code 88 = .ok (.iconst 4, 1) := by decide +kernel
theorem d_Run_step_89 : decode prog_6_method_13_code 89 = .ok (.invokevirtual 96, 3) := by decide +kernel
theorem d_Run_step_92 : decode prog_6_method_13_code 92 = .ok (.aload_n 0, 1) := by decide +kernel
theorem d_Run_step_93 : decode prog_6_method_13_code 93 = .ok (.aload_n 3, 1) := by decide +kernel
theorem d_Run_step_94 : decode prog_6_method_13_code 94 = .ok (.iload_n 2, 1) := by decide +kernel
theorem d_Run_step_95 : decode prog_6_method_13_code 95 = .ok (.bipush 8, 2) := by decide +kernel
theorem d_Run_step_97 : decode prog_6_method_13_code 97 = .ok (.ishr, 1) := by decide +kernel
theorem d_Run_step_98 : decode prog_6_method_13_code 98 = .ok (.invokevirtual 164, 3) := by decide +kernel
theorem d_Run_step_101 : decode prog_6_method_13_code 101 = .ok (.return_, 1) := by decide +kernel
theorem d_Run_goOn_0 : decode prog_6_method_14_code 0 = .ok (.aload_n 0, 1) := by decide +kernel
theorem d_Run_goOn_1 : decode prog_6_method_14_code 1 = .ok (.getfield 22, 3) := by decide +kernel
theorem d_Run_goOn_4 : decode prog_6_method_14_code 4 = .ok (.getfield 168, 3) := by decide +kernel
theorem d_Run_goOn_7 : decode prog_6_method_14_code 7 = .ok (.aload_n 0, 1) := by decide +kernel
theorem d_Run_goOn_8 : decode prog_6_method_14_code 8 = .ok (.getfield 37, 3) := by decide +kernel
theorem d_Run_goOn_11 : decode prog_6_method_14_code 11 = .ok (.invokeinterface 172 2, 5) := by decide +kernel
theorem d_Run_goOn_16 : decode prog_6_method_14_code 16 = .ok (.checkcast 151, 3) := by decide +kernel
theorem d_Run_goOn_19 : decode prog_6_method_14_code 19 = .ok (.astore_n 1, 1) := by decide +kernel
theorem d_Run_goOn_20 : decode prog_6_method_14_code 20 = .ok (.aload_n 0, 1) := by decide +kernel
theorem d_Run_goOn_21 : decode prog_6_method_14_code 21 = .ok (.getfield 18, 3) := by decide +kernel
theorem d_Run_goOn_24 : decode prog_6_method_14_code 24 = .ok (.iconst (-1), 1) := by decide +kernel
theorem d_Run_goOn_25 : decode prog_6_method_14_code 25 = .ok (.if_icmp .ne 31, 3) := by decide +kernel
theorem d_Run_goOn_28 : decode prog_6_method_14_code 28 = .ok (.aload_n 0, 1) := by decide +kernel
theorem d_Run_goOn_29 : decode prog_6_method_14_code 29 = .ok (.getfield 49, 3) := by decide +kernel
theorem d_Run_goOn_32 : decode prog_6_method_14_code 32 = .ok (.aload_n 1, 1) := by decide +kernel
theorem d_Run_goOn_33 : decode prog_6_method_14_code 33 = .ok (.invokevirtual 178, 3) := by decide +kernel
theorem d_Run_goOn_36 : decode prog_6_method_14_code 36 = .ok (.if_icmp .ne 12, 3) := by decide +kernel
theorem d_Run_goOn_39 : decode prog_6_method_14_code 39 = .ok (.aload_n 0, 1) := by decide +kernel
theorem d_Run_goOn_40 : decode prog_6_method_14_code 40 = .ok (.iconst 0, 1) := by decide +kernel
theorem d_Run_goOn_41 : decode prog_6_method_14_code 41 = .ok (.iconst 0, 1) := by decide +kernel
theorem d_Run_goOn_42 : decode prog_6_method_14_code 42 = .ok (.invokevirtual 132, 3) := by decide +kernel
theorem d_Run_goOn_45 : decode prog_6_method_14_code 45 = .ok (.goto (-25), 3) := by decide +kernel
theorem d_Run_goOn_48 : decode prog_6_method_14_code 48 = .ok (.aload_n 0, 1) := by decide +kernel
theorem d_Run_goOn_49 : decode prog_6_method_14_code 49 = .ok (.aload_n 1, 1) := by decide +kernel
theorem d_Run_goOn_50 : decode prog_6_method_14_code 50 = .ok (.invokevirtual 181, 3) := by decide +kernel
theorem d_Run_goOn_53 : decode prog_6_method_14_code 53 = .ok (.goto (-33), 3) := by decide +kernel
theorem d_Run_goOn_56 : decode prog_6_method_14_code 56 = .ok (.return_, 1) := by decide +kernel
theorem d_Run_plays_0 : decode prog_6_method_15_code 0 = .ok (.aload_n 0, 1) := by decide +kernel
theorem d_Run_plays_1 : decode prog_6_method_15_code 1 = .ok (.getfield 22, 3) := by decide +kernel
theorem d_Run_plays_4 : decode prog_6_method_15_code 4 = .ok (.getfield 185, 3) := by decide +kernel
theorem d_Run_plays_7 : decode prog_6_method_15_code 7 = .ok (.getfield 189, 3) := by decide +kernel
theorem d_Run_plays_10 : decode prog_6_method_15_code 10 = .ok (.istore_n 2, 1) := by decide +kernel
theorem d_Run_plays_11 : decode prog_6_method_15_code 11 = .ok (.aload_n 0, 1) := by decide +kernel
theorem d_Run_plays_12 : decode prog_6_method_15_code 12 = .ok (.getfield 22, 3) := by decide +kernel
theorem d_Run_plays_15 : decode prog_6_method_15_code 15 = .ok (.getfield 194, 3) := by decide +kernel
theorem d_Run_plays_18 : decode prog_6_method_15_code 18 = .ok (.istore_n 3, 1) := by decide +kernel
theorem d_Run_plays_19 : decode prog_6_method_15_code 19 = .ok (.aload_n 0, 1) := by decide +kernel
theorem d_Run_plays_20 : decode prog_6_method_15_code 20 = .ok (.iload_n 1, 1) := by decide +kernel
theorem d_Run_plays_21 : decode prog_6_method_15_code 21 = .ok (.putfield 52, 3) := by decide +kernel
theorem d_Run_plays_24 : decode prog_6_method_15_code 24 = .ok (.aload_n 0, 1) := by decide +kernel
theorem d_Run_plays_25 : decode prog_6_method_15_code 25 = .ok (.getfield 22, 3) := by decide +kernel
theorem d_Run_plays_28 : decode prog_6_method_15_code 28 = .ok (.aload_n 0, 1) := by decide +kernel
theorem d_Run_plays_29 : decode prog_6_method_15_code 29 = .ok (.getfield 40, 3) := by decide +kernel
theorem d_Run_plays_32 : decode prog_6_method_15_code 32 = .ok (.aload_n 0, 1) := by decide +kernel
theorem d_Run_plays_33 : decode prog_6_method_15_code 33 = .ok (.getfield 37, 3) := by decide +kernel
theorem d_Run_plays_36 : decode prog_6_method_15_code 36 = .ok (.aload_n 0, 1) := by decide +kernel
theorem d_Run_plays_37 : decode prog_6_method_15_code 37 = .ok (.getfield 43, 3) := by decide +kernel
theorem d_Run_plays_40 : decode prog_6_method_15_code 40 = .ok (.invokevirtual 197, 3) := by decide +kernel
theorem d_Run_plays_43 : decode prog_6_method_15_code 43 = .ok (.aload_n 0, 1) := by decide +kernel
theorem d_Run_plays_44 : decode prog_6_method_15_code 44 = .ok (.invokevirtual 200, 3) := by decide +kernel
theorem d_Run_plays_47 : decode prog_6_method_15_code 47 = .ok (.goto 10, 3) := by decide +kernel
theorem d_Run_plays_50 : decode prog_6_method_15_code 50 = .ok (.astore 4, 2) := by decide +kernel
theorem d_Run_plays_52 : decode prog_6_method_15_code 52 = .ok (.aload_n 0, 1) := by decide +kernel
theorem d_Run_plays_53 : decode prog_6_method_15_code 53 = .ok (.iconst 0, 1) := by decide +kernel
theorem d_Run_plays_54 : decode prog_6_method_15_code 54 = .ok (.putfield 52, 3) := by decide +kernel
theorem d_Run_plays_57 : decode prog_6_method_15_code 57 = .ok (.aload_n 0, 1) := by decide +kernel
theorem d_Run_plays_58 : decode prog_6_method_15_code 58 = .ok (.getfield 18, 3) := by decide +kernel
theorem d_Run_plays_61 : decode prog_6_method_15_code 61 = .ok (.ifCond .eq 12, 3) := by decide +kernel
theorem d_Run_plays_64 : decode prog_6_method_15_code 64 = .ok (.aload_n 0, 1) := by decide +kernel
theorem d_Run_plays_65 : decode prog_6_method_15_code 65 = .ok (.getfield 22, 3) := by decide +kernel
theorem d_Run_plays_68 : decode prog_6_method_15_code 68 = .ok (.iload_n 2, 1) := by decide +kernel
theorem d_Run_plays_69 : decode prog_6_method_15_code 69 = .ok (.iload_n 3, 1) := by decide +kernel
theorem d_Run_plays_70 : decode prog_6_method_15_code 70 = .ok (.invokevirtual 203, 3) := by decide +kernel
theorem d_Run_plays_73 : decode prog_6_method_15_code 73 = .ok (.aload_n 0, 1) := by decide +kernel
theorem d_Run_plays_74 : decode prog_6_method_15_code 74 = .ok (.getfield 18, 3) := by decide +kernel
theorem d_Run_plays_77 : decode prog_6_method_15_code 77 = .ok (.ifCond .ne 7, 3) := by decide +kernel
theorem d_Run_plays_80 : decode prog_6_method_15_code 80 = .ok (.iconst 1, 1) := by decide +kernel
theorem d_Run_plays_81 : decode prog_6_method_15_code 81 = .ok (.goto 4, 3) := by decide +kernel
theorem d_Run_plays_84 : decode prog_6_method_15_code 84 = .ok (.iconst 0, 1) := by decide +kernel
theorem d_Run_plays_85 : decode prog_6_method_15_code 85 = .ok (.ireturn, 1) := by decide +kernel
