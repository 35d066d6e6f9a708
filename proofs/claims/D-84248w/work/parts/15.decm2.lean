set_option maxRecDepth 100000
theorem dX2_withSign_0 : decode cX2_withSign 0 = .ok (.ldc 82, 2) := by decide +kernel
theorem dX2_withSign_2 : decode cX2_withSign 2 = .ok (.istore_n 3, 1) := by decide +kernel
theorem dX2_withSign_3 : decode cX2_withSign 3 = .ok (.iconst 0, 1) := by decide +kernel
theorem dX2_withSign_4 : decode cX2_withSign 4 = .ok (.istore 4, 2) := by decide +kernel
theorem dX2_withSign_6 : decode cX2_withSign 6 = .ok (.iload 4, 2) := by decide +kernel
theorem dX2_withSign_8 : decode cX2_withSign 8 = .ok (.bipush 9, 2) := by decide +kernel
theorem dX2_withSign_10 : decode cX2_withSign 10 = .ok (.if_icmp .ge 71, 3) := by decide +kernel
theorem dX2_withSign_13 : decode cX2_withSign 13 = .ok (.iload_n 1, 1) := by decide +kernel
theorem dX2_withSign_14 : decode cX2_withSign 14 = .ok (.ifCond .ne 7, 3) := by decide +kernel
theorem dX2_withSign_17 : decode cX2_withSign 17 = .ok (.iconst 0, 1) := by decide +kernel
theorem dX2_withSign_18 : decode cX2_withSign 18 = .ok (.goto 13, 3) := by decide +kernel
theorem dX2_withSign_21 : decode cX2_withSign 21 = .ok (.aload_n 0, 1) := by decide +kernel
theorem dX2_withSign_22 : decode cX2_withSign 22 = .ok (.getfield 34, 3) := by decide +kernel
theorem dX2_withSign_25 : decode cX2_withSign 25 = .ok (.iconst 0, 1) := by decide +kernel
theorem dX2_withSign_26 : decode cX2_withSign 26 = .ok (.iload 4, 2) := by decide +kernel
theorem dX2_withSign_28 : decode cX2_withSign 28 = .ok (.invokestatic 87, 3) := by decide +kernel
theorem dX2_withSign_31 : decode cX2_withSign 31 = .ok (.aload_n 0, 1) := by decide +kernel
theorem dX2_withSign_32 : decode cX2_withSign 32 = .ok (.getfield 16, 3) := by decide +kernel
theorem dX2_withSign_35 : decode cX2_withSign 35 = .ok (.iload_n 1, 1) := by decide +kernel
theorem dX2_withSign_36 : decode cX2_withSign 36 = .ok (.iload_n 2, 1) := by decide +kernel
theorem dX2_withSign_37 : decode cX2_withSign 37 = .ok (.iload 4, 2) := by decide +kernel
theorem dX2_withSign_39 : decode cX2_withSign 39 = .ok (.invokestatic 74, 3) := by decide +kernel
theorem dX2_withSign_42 : decode cX2_withSign 42 = .ok (.iaload, 1) := by decide +kernel
theorem dX2_withSign_43 : decode cX2_withSign 43 = .ok (.iadd, 1) := by decide +kernel
theorem dX2_withSign_44 : decode cX2_withSign 44 = .ok (.aload_n 0, 1) := by decide +kernel
theorem dX2_withSign_45 : decode cX2_withSign 45 = .ok (.getfield 22, 3) := by decide +kernel
theorem dX2_withSign_48 : decode cX2_withSign 48 = .ok (.bipush 9, 2) := by decide +kernel
theorem dX2_withSign_50 : decode cX2_withSign 50 = .ok (.iload_n 1, 1) := by decide +kernel
theorem dX2_withSign_51 : decode cX2_withSign 51 = .ok (.iconst 1, 1) := by decide +kernel
theorem dX2_withSign_52 : decode cX2_withSign 52 = .ok (.iadd, 1) := by decide +kernel
theorem dX2_withSign_53 : decode cX2_withSign 53 = .ok (.imul, 1) := by decide +kernel
theorem dX2_withSign_54 : decode cX2_withSign 54 = .ok (.iload 4, 2) := by decide +kernel
theorem dX2_withSign_56 : decode cX2_withSign 56 = .ok (.invokestatic 87, 3) := by decide +kernel
theorem dX2_withSign_59 : decode cX2_withSign 59 = .ok (.iadd, 1) := by decide +kernel
theorem dX2_withSign_60 : decode cX2_withSign 60 = .ok (.istore 5, 2) := by decide +kernel
theorem dX2_withSign_62 : decode cX2_withSign 62 = .ok (.iload 5, 2) := by decide +kernel
theorem dX2_withSign_64 : decode cX2_withSign 64 = .ok (.iload_n 3, 1) := by decide +kernel
theorem dX2_withSign_65 : decode cX2_withSign 65 = .ok (.if_icmp .ge 8, 3) := by decide +kernel
theorem dX2_withSign_68 : decode cX2_withSign 68 = .ok (.iload 5, 2) := by decide +kernel
theorem dX2_withSign_70 : decode cX2_withSign 70 = .ok (.goto 4, 3) := by decide +kernel
theorem dX2_withSign_73 : decode cX2_withSign 73 = .ok (.iload_n 3, 1) := by decide +kernel
theorem dX2_withSign_74 : decode cX2_withSign 74 = .ok (.istore_n 3, 1) := by decide +kernel
theorem dX2_withSign_75 : decode cX2_withSign 75 = .ok (.iinc 4 1, 3) := by decide +kernel
theorem dX2_withSign_78 : decode cX2_withSign 78 = .ok (.goto (-72), 3) := by decide +kernel
theorem dX2_withSign_81 : decode cX2_withSign 81 = .ok (.iload_n 3, 1) := by decide +kernel
theorem dX2_withSign_82 : decode cX2_withSign 82 = .ok (.ireturn, 1) := by decide +kernel
theorem dX2_chooses_0 : decode cX2_chooses 0 = .ok (.iconst 0, 1) := by decide +kernel
theorem dX2_chooses_1 : decode cX2_chooses 1 = .ok (.istore_n 2, 1) := by decide +kernel
theorem dX2_chooses_2 : decode cX2_chooses 2 = .ok (.iload_n 2, 1) := by decide +kernel
theorem dX2_chooses_3 : decode cX2_chooses 3 = .ok (.aload_n 0, 1) := by decide +kernel
theorem dX2_chooses_4 : decode cX2_chooses 4 = .ok (.getfield 71, 3) := by decide +kernel
theorem dX2_chooses_7 : decode cX2_chooses 7 = .ok (.if_icmp .ge 118, 3) := by decide +kernel
theorem dX2_chooses_10 : decode cX2_chooses 10 = .ok (.iconst 0, 1) := by decide +kernel
theorem dX2_chooses_11 : decode cX2_chooses 11 = .ok (.istore_n 3, 1) := by decide +kernel
theorem dX2_chooses_12 : decode cX2_chooses 12 = .ok (.aload_n 0, 1) := by decide +kernel
theorem dX2_chooses_13 : decode cX2_chooses 13 = .ok (.iload_n 2, 1) := by decide +kernel
theorem dX2_chooses_14 : decode cX2_chooses 14 = .ok (.iload_n 3, 1) := by decide +kernel
theorem dX2_chooses_15 : decode cX2_chooses 15 = .ok (.invokevirtual 91, 3) := by decide +kernel
theorem dX2_chooses_18 : decode cX2_chooses 18 = .ok (.iload_n 1, 1) := by decide +kernel
theorem dX2_chooses_19 : decode cX2_chooses 19 = .ok (.if_icmp .eq 9, 3) := by decide +kernel
theorem dX2_chooses_22 : decode cX2_chooses 22 = .ok (.iinc 3 1, 3) := by decide +kernel
theorem dX2_chooses_25 : decode cX2_chooses 25 = .ok (.goto (-13), 3) := by decide +kernel
theorem dX2_chooses_28 : decode cX2_chooses 28 = .ok (.aload_n 0, 1) := by decide +kernel
theorem dX2_chooses_29 : decode cX2_chooses 29 = .ok (.getfield 28, 3) := by decide +kernel
theorem dX2_chooses_32 : decode cX2_chooses 32 = .ok (.iload_n 2, 1) := by decide +kernel
theorem dX2_chooses_33 : decode cX2_chooses 33 = .ok (.iload_n 3, 1) := by decide +kernel
theorem dX2_chooses_34 : decode cX2_chooses 34 = .ok (.iastore, 1) := by decide +kernel
theorem dX2_chooses_35 : decode cX2_chooses 35 = .ok (.iconst 0, 1) := by decide +kernel
theorem dX2_chooses_36 : decode cX2_chooses 36 = .ok (.istore 4, 2) := by decide +kernel
theorem dX2_chooses_38 : decode cX2_chooses 38 = .ok (.iload 4, 2) := by decide +kernel
theorem dX2_chooses_40 : decode cX2_chooses 40 = .ok (.bipush 9, 2) := by decide +kernel
theorem dX2_chooses_42 : decode cX2_chooses 42 = .ok (.if_icmp .ge 47, 3) := by decide +kernel
theorem dX2_chooses_45 : decode cX2_chooses 45 = .ok (.aload_n 0, 1) := by decide +kernel
theorem dX2_chooses_46 : decode cX2_chooses 46 = .ok (.getfield 37, 3) := by decide +kernel
theorem dX2_chooses_49 : decode cX2_chooses 49 = .ok (.iload 4, 2) := by decide +kernel
theorem dX2_chooses_51 : decode cX2_chooses 51 = .ok (.iload_n 2, 1) := by decide +kernel
theorem dX2_chooses_52 : decode cX2_chooses 52 = .ok (.ifCond .ne 7, 3) := by decide +kernel
theorem dX2_chooses_55 : decode cX2_chooses 55 = .ok (.iconst 0, 1) := by decide +kernel
theorem dX2_chooses_56 : decode cX2_chooses 56 = .ok (.goto 13, 3) := by decide +kernel
theorem dX2_chooses_59 : decode cX2_chooses 59 = .ok (.aload_n 0, 1) := by decide +kernel
theorem dX2_chooses_60 : decode cX2_chooses 60 = .ok (.getfield 34, 3) := by decide +kernel
theorem dX2_chooses_63 : decode cX2_chooses 63 = .ok (.iconst 0, 1) := by decide +kernel
theorem dX2_chooses_64 : decode cX2_chooses 64 = .ok (.iload 4, 2) := by decide +kernel
theorem dX2_chooses_66 : decode cX2_chooses 66 = .ok (.invokestatic 87, 3) := by decide +kernel
theorem dX2_chooses_69 : decode cX2_chooses 69 = .ok (.aload_n 0, 1) := by decide +kernel
theorem dX2_chooses_70 : decode cX2_chooses 70 = .ok (.getfield 16, 3) := by decide +kernel
theorem dX2_chooses_73 : decode cX2_chooses 73 = .ok (.iload_n 2, 1) := by decide +kernel
theorem dX2_chooses_74 : decode cX2_chooses 74 = .ok (.iload_n 3, 1) := by decide +kernel
theorem dX2_chooses_75 : decode cX2_chooses 75 = .ok (.iload 4, 2) := by decide +kernel
theorem dX2_chooses_77 : decode cX2_chooses 77 = .ok (.invokestatic 74, 3) := by decide +kernel
theorem dX2_chooses_80 : decode cX2_chooses 80 = .ok (.iaload, 1) := by decide +kernel
theorem dX2_chooses_81 : decode cX2_chooses 81 = .ok (.iadd, 1) := by decide +kernel
theorem dX2_chooses_82 : decode cX2_chooses 82 = .ok (.iastore, 1) := by decide +kernel
theorem dX2_chooses_83 : decode cX2_chooses 83 = .ok (.iinc 4 1, 3) := by decide +kernel
theorem dX2_chooses_86 : decode cX2_chooses 86 = .ok (.goto (-48), 3) := by decide +kernel
theorem dX2_chooses_89 : decode cX2_chooses 89 = .ok (.iconst 0, 1) := by decide +kernel
theorem dX2_chooses_90 : decode cX2_chooses 90 = .ok (.istore 4, 2) := by decide +kernel
theorem dX2_chooses_92 : decode cX2_chooses 92 = .ok (.iload 4, 2) := by decide +kernel
theorem dX2_chooses_94 : decode cX2_chooses 94 = .ok (.bipush 9, 2) := by decide +kernel
theorem dX2_chooses_96 : decode cX2_chooses 96 = .ok (.if_icmp .ge 23, 3) := by decide +kernel
theorem dX2_chooses_99 : decode cX2_chooses 99 = .ok (.aload_n 0, 1) := by decide +kernel
theorem dX2_chooses_100 : decode cX2_chooses 100 = .ok (.getfield 34, 3) := by decide +kernel
theorem dX2_chooses_103 : decode cX2_chooses 103 = .ok (.iload 4, 2) := by decide +kernel
theorem dX2_chooses_105 : decode cX2_chooses 105 = .ok (.aload_n 0, 1) := by decide +kernel
theorem dX2_chooses_106 : decode cX2_chooses 106 = .ok (.getfield 37, 3) := by decide +kernel
theorem dX2_chooses_109 : decode cX2_chooses 109 = .ok (.iload 4, 2) := by decide +kernel
theorem dX2_chooses_111 : decode cX2_chooses 111 = .ok (.iaload, 1) := by decide +kernel
theorem dX2_chooses_112 : decode cX2_chooses 112 = .ok (.iastore, 1) := by decide +kernel
theorem dX2_chooses_113 : decode cX2_chooses 113 = .ok (.iinc 4 1, 3) := by decide +kernel
theorem dX2_chooses_116 : decode cX2_chooses 116 = .ok (.goto (-24), 3) := by decide +kernel
theorem dX2_chooses_119 : decode cX2_chooses 119 = .ok (.iinc 2 1, 3) := by decide +kernel
theorem dX2_chooses_122 : decode cX2_chooses 122 = .ok (.goto (-120), 3) := by decide +kernel
theorem dX2_chooses_125 : decode cX2_chooses 125 = .ok (.iconst 0, 1) := by decide +kernel
theorem dX2_chooses_126 : decode cX2_chooses 126 = .ok (.istore_n 2, 1) := by decide +kernel
theorem dX2_chooses_127 : decode cX2_chooses 127 = .ok (.iload_n 2, 1) := by decide +kernel
theorem dX2_chooses_128 : decode cX2_chooses 128 = .ok (.bipush 9, 2) := by decide +kernel
theorem dX2_chooses_130 : decode cX2_chooses 130 = .ok (.if_icmp .ge 24, 3) := by decide +kernel
theorem dX2_chooses_133 : decode cX2_chooses 133 = .ok (.aload_n 0, 1) := by decide +kernel
theorem dX2_chooses_134 : decode cX2_chooses 134 = .ok (.getfield 22, 3) := by decide +kernel
theorem dX2_chooses_137 : decode cX2_chooses 137 = .ok (.bipush 9, 2) := by decide +kernel
theorem dX2_chooses_139 : decode cX2_chooses 139 = .ok (.aload_n 0, 1) := by decide +kernel
theorem dX2_chooses_140 : decode cX2_chooses 140 = .ok (.getfield 71, 3) := by decide +kernel
theorem dX2_chooses_143 : decode cX2_chooses 143 = .ok (.imul, 1) := by decide +kernel
theorem dX2_chooses_144 : decode cX2_chooses 144 = .ok (.iload_n 2, 1) := by decide +kernel
theorem dX2_chooses_145 : decode cX2_chooses 145 = .ok (.iadd, 1) := by decide +kernel
theorem dX2_chooses_146 : decode cX2_chooses 146 = .ok (.iconst 0, 1) := by decide +kernel
theorem dX2_chooses_147 : decode cX2_chooses 147 = .ok (.iastore, 1) := by decide +kernel
theorem dX2_chooses_148 : decode cX2_chooses 148 = .ok (.iinc 2 1, 3) := by decide +kernel
theorem dX2_chooses_151 : decode cX2_chooses 151 = .ok (.goto (-24), 3) := by decide +kernel
theorem dX2_chooses_154 : decode cX2_chooses 154 = .ok (.aload_n 0, 1) := by decide +kernel
theorem dX2_chooses_155 : decode cX2_chooses 155 = .ok (.getfield 71, 3) := by decide +kernel
theorem dX2_chooses_158 : decode cX2_chooses 158 = .ok (.iconst 1, 1) := by decide +kernel
theorem dX2_chooses_159 : decode cX2_chooses 159 = .ok (.isub, 1) := by decide +kernel
theorem dX2_chooses_160 : decode cX2_chooses 160 = .ok (.istore_n 2, 1) := by decide +kernel
theorem dX2_chooses_161 : decode cX2_chooses 161 = .ok (.iload_n 2, 1) := by decide +kernel
theorem dX2_chooses_162 : decode cX2_chooses 162 = .ok (.ifCond .lt 65, 3) := by decide +kernel
theorem dX2_chooses_165 : decode cX2_chooses 165 = .ok (.iconst 0, 1) := by decide +kernel
theorem dX2_chooses_166 : decode cX2_chooses 166 = .ok (.istore_n 3, 1) := by decide +kernel
theorem dX2_chooses_167 : decode cX2_chooses 167 = .ok (.iload_n 3, 1) := by decide +kernel
theorem dX2_chooses_168 : decode cX2_chooses 168 = .ok (.bipush 9, 2) := by decide +kernel
theorem dX2_chooses_170 : decode cX2_chooses 170 = .ok (.if_icmp .ge 51, 3) := by decide +kernel
theorem dX2_chooses_173 : decode cX2_chooses 173 = .ok (.aload_n 0, 1) := by decide +kernel
theorem dX2_chooses_174 : decode cX2_chooses 174 = .ok (.getfield 22, 3) := by decide +kernel
theorem dX2_chooses_177 : decode cX2_chooses 177 = .ok (.bipush 9, 2) := by decide +kernel
theorem dX2_chooses_179 : decode cX2_chooses 179 = .ok (.iload_n 2, 1) := by decide +kernel
theorem dX2_chooses_180 : decode cX2_chooses 180 = .ok (.imul, 1) := by decide +kernel
theorem dX2_chooses_181 : decode cX2_chooses 181 = .ok (.iload_n 3, 1) := by decide +kernel
theorem dX2_chooses_182 : decode cX2_chooses 182 = .ok (.iadd, 1) := by decide +kernel
theorem dX2_chooses_183 : decode cX2_chooses 183 = .ok (.aload_n 0, 1) := by decide +kernel
theorem dX2_chooses_184 : decode cX2_chooses 184 = .ok (.getfield 16, 3) := by decide +kernel
theorem dX2_chooses_187 : decode cX2_chooses 187 = .ok (.iload_n 2, 1) := by decide +kernel
theorem dX2_chooses_188 : decode cX2_chooses 188 = .ok (.aload_n 0, 1) := by decide +kernel
theorem dX2_chooses_189 : decode cX2_chooses 189 = .ok (.getfield 28, 3) := by decide +kernel
theorem dX2_chooses_192 : decode cX2_chooses 192 = .ok (.iload_n 2, 1) := by decide +kernel
theorem dX2_chooses_193 : decode cX2_chooses 193 = .ok (.iaload, 1) := by decide +kernel
theorem dX2_chooses_194 : decode cX2_chooses 194 = .ok (.iload_n 3, 1) := by decide +kernel
theorem dX2_chooses_195 : decode cX2_chooses 195 = .ok (.invokestatic 74, 3) := by decide +kernel
theorem dX2_chooses_198 : decode cX2_chooses 198 = .ok (.iaload, 1) := by decide +kernel
theorem dX2_chooses_199 : decode cX2_chooses 199 = .ok (.aload_n 0, 1) := by decide +kernel
theorem dX2_chooses_200 : decode cX2_chooses 200 = .ok (.getfield 22, 3) := by decide +kernel
theorem dX2_chooses_203 : decode cX2_chooses 203 = .ok (.bipush 9, 2) := by decide +kernel
theorem dX2_chooses_205 : decode cX2_chooses 205 = .ok (.iload_n 2, 1) := by decide +kernel
theorem dX2_chooses_206 : decode cX2_chooses 206 = .ok (.iconst 1, 1) := by decide +kernel
theorem dX2_chooses_207 : decode cX2_chooses 207 = .ok (.iadd, 1) := by decide +kernel
theorem dX2_chooses_208 : decode cX2_chooses 208 = .ok (.imul, 1) := by decide +kernel
theorem dX2_chooses_209 : decode cX2_chooses 209 = .ok (.iload_n 3, 1) := by decide +kernel
theorem dX2_chooses_210 : decode cX2_chooses 210 = .ok (.invokestatic 87, 3) := by decide +kernel
theorem dX2_chooses_213 : decode cX2_chooses 213 = .ok (.iadd, 1) := by decide +kernel
theorem dX2_chooses_214 : decode cX2_chooses 214 = .ok (.iastore, 1) := by decide +kernel
theorem dX2_chooses_215 : decode cX2_chooses 215 = .ok (.iinc 3 1, 3) := by decide +kernel
theorem dX2_chooses_218 : decode cX2_chooses 218 = .ok (.goto (-51), 3) := by decide +kernel
theorem dX2_chooses_221 : decode cX2_chooses 221 = .ok (.iinc 2 (-1), 3) := by decide +kernel
theorem dX2_chooses_224 : decode cX2_chooses 224 = .ok (.goto (-63), 3) := by decide +kernel
theorem dX2_chooses_227 : decode cX2_chooses 227 = .ok (.iload_n 1, 1) := by decide +kernel
theorem dX2_chooses_228 : decode cX2_chooses 228 = .ok (.istore_n 2, 1) := by decide +kernel
theorem dX2_chooses_229 : decode cX2_chooses 229 = .ok (.iconst 0, 1) := by decide +kernel
theorem dX2_chooses_230 : decode cX2_chooses 230 = .ok (.istore_n 3, 1) := by decide +kernel
theorem dX2_chooses_231 : decode cX2_chooses 231 = .ok (.iload_n 3, 1) := by decide +kernel
theorem dX2_chooses_232 : decode cX2_chooses 232 = .ok (.aload_n 0, 1) := by decide +kernel
theorem dX2_chooses_233 : decode cX2_chooses 233 = .ok (.getfield 71, 3) := by decide +kernel
theorem dX2_chooses_236 : decode cX2_chooses 236 = .ok (.if_icmp .ge 94, 3) := by decide +kernel
theorem dX2_chooses_239 : decode cX2_chooses 239 = .ok (.iload_n 3, 1) := by decide +kernel
theorem dX2_chooses_240 : decode cX2_chooses 240 = .ok (.ifCond .ne 7, 3) := by decide +kernel
theorem dX2_chooses_243 : decode cX2_chooses 243 = .ok (.iconst 0, 1) := by decide +kernel
theorem dX2_chooses_244 : decode cX2_chooses 244 = .ok (.goto 28, 3) := by decide +kernel
theorem dX2_chooses_247 : decode cX2_chooses 247 = .ok (.aload_n 0, 1) := by decide +kernel
theorem dX2_chooses_248 : decode cX2_chooses 248 = .ok (.getfield 31, 3) := by decide +kernel
theorem dX2_chooses_251 : decode cX2_chooses 251 = .ok (.iload_n 3, 1) := by decide +kernel
theorem dX2_chooses_252 : decode cX2_chooses 252 = .ok (.iconst 1, 1) := by decide +kernel
theorem dX2_chooses_253 : decode cX2_chooses 253 = .ok (.isub, 1) := by decide +kernel
theorem dX2_chooses_254 : decode cX2_chooses 254 = .ok (.iaload, 1) := by decide +kernel
theorem dX2_chooses_255 : decode cX2_chooses 255 = .ok (.ifCond .le 16, 3) := by decide +kernel
theorem dX2_chooses_258 : decode cX2_chooses 258 = .ok (.aload_n 0, 1) := by decide +kernel
theorem dX2_chooses_259 : decode cX2_chooses 259 = .ok (.getfield 31, 3) := by decide +kernel
theorem dX2_chooses_262 : decode cX2_chooses 262 = .ok (.iload_n 3, 1) := by decide +kernel
theorem dX2_chooses_263 : decode cX2_chooses 263 = .ok (.iconst 1, 1) := by decide +kernel
theorem dX2_chooses_264 : decode cX2_chooses 264 = .ok (.isub, 1) := by decide +kernel
theorem dX2_chooses_265 : decode cX2_chooses 265 = .ok (.iaload, 1) := by decide +kernel
theorem dX2_chooses_266 : decode cX2_chooses 266 = .ok (.iconst 1, 1) := by decide +kernel
theorem dX2_chooses_267 : decode cX2_chooses 267 = .ok (.isub, 1) := by decide +kernel
theorem dX2_chooses_268 : decode cX2_chooses 268 = .ok (.goto 4, 3) := by decide +kernel
theorem dX2_chooses_271 : decode cX2_chooses 271 = .ok (.iconst 0, 1) := by decide +kernel
theorem dX2_chooses_272 : decode cX2_chooses 272 = .ok (.istore 4, 2) := by decide +kernel
theorem dX2_chooses_274 : decode cX2_chooses 274 = .ok (.aload_n 0, 1) := by decide +kernel
theorem dX2_chooses_275 : decode cX2_chooses 275 = .ok (.getfield 22, 3) := by decide +kernel
theorem dX2_chooses_278 : decode cX2_chooses 278 = .ok (.bipush 9, 2) := by decide +kernel
theorem dX2_chooses_280 : decode cX2_chooses 280 = .ok (.iload_n 3, 1) := by decide +kernel
theorem dX2_chooses_281 : decode cX2_chooses 281 = .ok (.imul, 1) := by decide +kernel
theorem dX2_chooses_282 : decode cX2_chooses 282 = .ok (.iload 4, 2) := by decide +kernel
theorem dX2_chooses_284 : decode cX2_chooses 284 = .ok (.iadd, 1) := by decide +kernel
theorem dX2_chooses_285 : decode cX2_chooses 285 = .ok (.iaload, 1) := by decide +kernel
theorem dX2_chooses_286 : decode cX2_chooses 286 = .ok (.iload_n 2, 1) := by decide +kernel
theorem dX2_chooses_287 : decode cX2_chooses 287 = .ok (.if_icmp .eq 9, 3) := by decide +kernel
theorem dX2_chooses_290 : decode cX2_chooses 290 = .ok (.iinc 4 1, 3) := by decide +kernel
theorem dX2_chooses_293 : decode cX2_chooses 293 = .ok (.goto (-19), 3) := by decide +kernel
theorem dX2_chooses_296 : decode cX2_chooses 296 = .ok (.aload_n 0, 1) := by decide +kernel
theorem dX2_chooses_297 : decode cX2_chooses 297 = .ok (.getfield 31, 3) := by decide +kernel
theorem dX2_chooses_300 : decode cX2_chooses 300 = .ok (.iload_n 3, 1) := by decide +kernel
theorem dX2_chooses_301 : decode cX2_chooses 301 = .ok (.iload 4, 2) := by decide +kernel
theorem dX2_chooses_303 : decode cX2_chooses 303 = .ok (.iastore, 1) := by decide +kernel
theorem dX2_chooses_304 : decode cX2_chooses 304 = .ok (.iload_n 2, 1) := by decide +kernel
theorem dX2_chooses_305 : decode cX2_chooses 305 = .ok (.aload_n 0, 1) := by decide +kernel
theorem dX2_chooses_306 : decode cX2_chooses 306 = .ok (.getfield 16, 3) := by decide +kernel
theorem dX2_chooses_309 : decode cX2_chooses 309 = .ok (.iload_n 3, 1) := by decide +kernel
theorem dX2_chooses_310 : decode cX2_chooses 310 = .ok (.aload_n 0, 1) := by decide +kernel
theorem dX2_chooses_311 : decode cX2_chooses 311 = .ok (.getfield 28, 3) := by decide +kernel
theorem dX2_chooses_314 : decode cX2_chooses 314 = .ok (.iload_n 3, 1) := by decide +kernel
theorem dX2_chooses_315 : decode cX2_chooses 315 = .ok (.iaload, 1) := by decide +kernel
theorem dX2_chooses_316 : decode cX2_chooses 316 = .ok (.iload 4, 2) := by decide +kernel
theorem dX2_chooses_318 : decode cX2_chooses 318 = .ok (.invokestatic 74, 3) := by decide +kernel
theorem dX2_chooses_321 : decode cX2_chooses 321 = .ok (.iaload, 1) := by decide +kernel
theorem dX2_chooses_322 : decode cX2_chooses 322 = .ok (.isub, 1) := by decide +kernel
theorem dX2_chooses_323 : decode cX2_chooses 323 = .ok (.istore_n 2, 1) := by decide +kernel
theorem dX2_chooses_324 : decode cX2_chooses 324 = .ok (.iinc 3 1, 3) := by decide +kernel
theorem dX2_chooses_327 : decode cX2_chooses 327 = .ok (.goto (-96), 3) := by decide +kernel
theorem dX2_chooses_330 : decode cX2_chooses 330 = .ok (.return_, 1) := by decide +kernel
theorem dX2_gapOf_0 : decode cX2_gapOf 0 = .ok (.ldc 82, 2) := by decide +kernel
theorem dX2_gapOf_2 : decode cX2_gapOf 2 = .ok (.istore_n 2, 1) := by decide +kernel
theorem dX2_gapOf_3 : decode cX2_gapOf 3 = .ok (.iconst 0, 1) := by decide +kernel
theorem dX2_gapOf_4 : decode cX2_gapOf 4 = .ok (.istore_n 3, 1) := by decide +kernel
theorem dX2_gapOf_5 : decode cX2_gapOf 5 = .ok (.iload_n 3, 1) := by decide +kernel
theorem dX2_gapOf_6 : decode cX2_gapOf 6 = .ok (.aload_n 0, 1) := by decide +kernel
theorem dX2_gapOf_7 : decode cX2_gapOf 7 = .ok (.getfield 71, 3) := by decide +kernel
theorem dX2_gapOf_10 : decode cX2_gapOf 10 = .ok (.if_icmp .ge 106, 3) := by decide +kernel
theorem dX2_gapOf_13 : decode cX2_gapOf 13 = .ok (.iconst 0, 1) := by decide +kernel
theorem dX2_gapOf_14 : decode cX2_gapOf 14 = .ok (.istore 4, 2) := by decide +kernel
theorem dX2_gapOf_16 : decode cX2_gapOf 16 = .ok (.iload 4, 2) := by decide +kernel
theorem dX2_gapOf_18 : decode cX2_gapOf 18 = .ok (.bipush 9, 2) := by decide +kernel
theorem dX2_gapOf_20 : decode cX2_gapOf 20 = .ok (.if_icmp .ge 38, 3) := by decide +kernel
theorem dX2_gapOf_23 : decode cX2_gapOf 23 = .ok (.aload_n 0, 1) := by decide +kernel
theorem dX2_gapOf_24 : decode cX2_gapOf 24 = .ok (.getfield 34, 3) := by decide +kernel
theorem dX2_gapOf_27 : decode cX2_gapOf 27 = .ok (.iload 4, 2) := by decide +kernel
theorem dX2_gapOf_29 : decode cX2_gapOf 29 = .ok (.iload_n 3, 1) := by decide +kernel
theorem dX2_gapOf_30 : decode cX2_gapOf 30 = .ok (.ifCond .ne 7, 3) := by decide +kernel
theorem dX2_gapOf_33 : decode cX2_gapOf 33 = .ok (.iconst 0, 1) := by decide +kernel
theorem dX2_gapOf_34 : decode cX2_gapOf 34 = .ok (.goto 17, 3) := by decide +kernel
theorem dX2_gapOf_37 : decode cX2_gapOf 37 = .ok (.aload_n 0, 1) := by decide +kernel
theorem dX2_gapOf_38 : decode cX2_gapOf 38 = .ok (.getfield 25, 3) := by decide +kernel
theorem dX2_gapOf_41 : decode cX2_gapOf 41 = .ok (.bipush 9, 2) := by decide +kernel
theorem dX2_gapOf_43 : decode cX2_gapOf 43 = .ok (.iload_n 3, 1) := by decide +kernel
theorem dX2_gapOf_44 : decode cX2_gapOf 44 = .ok (.iconst 1, 1) := by decide +kernel
theorem dX2_gapOf_45 : decode cX2_gapOf 45 = .ok (.isub, 1) := by decide +kernel
theorem dX2_gapOf_46 : decode cX2_gapOf 46 = .ok (.imul, 1) := by decide +kernel
theorem dX2_gapOf_47 : decode cX2_gapOf 47 = .ok (.iload 4, 2) := by decide +kernel
theorem dX2_gapOf_49 : decode cX2_gapOf 49 = .ok (.iadd, 1) := by decide +kernel
theorem dX2_gapOf_50 : decode cX2_gapOf 50 = .ok (.iaload, 1) := by decide +kernel
theorem dX2_gapOf_51 : decode cX2_gapOf 51 = .ok (.iastore, 1) := by decide +kernel
theorem dX2_gapOf_52 : decode cX2_gapOf 52 = .ok (.iinc 4 1, 3) := by decide +kernel
theorem dX2_gapOf_55 : decode cX2_gapOf 55 = .ok (.goto (-39), 3) := by decide +kernel
theorem dX2_gapOf_58 : decode cX2_gapOf 58 = .ok (.iconst 0, 1) := by decide +kernel
theorem dX2_gapOf_59 : decode cX2_gapOf 59 = .ok (.istore 4, 2) := by decide +kernel
theorem dX2_gapOf_61 : decode cX2_gapOf 61 = .ok (.iload 4, 2) := by decide +kernel
theorem dX2_gapOf_63 : decode cX2_gapOf 63 = .ok (.bipush 12, 2) := by decide +kernel
theorem dX2_gapOf_65 : decode cX2_gapOf 65 = .ok (.if_icmp .ge 45, 3) := by decide +kernel
theorem dX2_gapOf_68 : decode cX2_gapOf 68 = .ok (.iload 4, 2) := by decide +kernel
theorem dX2_gapOf_70 : decode cX2_gapOf 70 = .ok (.aload_n 0, 1) := by decide +kernel
theorem dX2_gapOf_71 : decode cX2_gapOf 71 = .ok (.getfield 28, 3) := by decide +kernel
theorem dX2_gapOf_74 : decode cX2_gapOf 74 = .ok (.iload_n 3, 1) := by decide +kernel
theorem dX2_gapOf_75 : decode cX2_gapOf 75 = .ok (.iaload, 1) := by decide +kernel
theorem dX2_gapOf_76 : decode cX2_gapOf 76 = .ok (.if_icmp .ne 6, 3) := by decide +kernel
theorem dX2_gapOf_79 : decode cX2_gapOf 79 = .ok (.goto 25, 3) := by decide +kernel
theorem dX2_gapOf_82 : decode cX2_gapOf 82 = .ok (.aload_n 0, 1) := by decide +kernel
theorem dX2_gapOf_83 : decode cX2_gapOf 83 = .ok (.iload_n 3, 1) := by decide +kernel
theorem dX2_gapOf_84 : decode cX2_gapOf 84 = .ok (.iload 4, 2) := by decide +kernel
theorem dX2_gapOf_86 : decode cX2_gapOf 86 = .ok (.invokevirtual 91, 3) := by decide +kernel
theorem dX2_gapOf_89 : decode cX2_gapOf 89 = .ok (.istore 5, 2) := by decide +kernel
theorem dX2_gapOf_91 : decode cX2_gapOf 91 = .ok (.iload 5, 2) := by decide +kernel
theorem dX2_gapOf_93 : decode cX2_gapOf 93 = .ok (.iload_n 2, 1) := by decide +kernel
theorem dX2_gapOf_94 : decode cX2_gapOf 94 = .ok (.if_icmp .ge 8, 3) := by decide +kernel
theorem dX2_gapOf_97 : decode cX2_gapOf 97 = .ok (.iload 5, 2) := by decide +kernel
theorem dX2_gapOf_99 : decode cX2_gapOf 99 = .ok (.goto 4, 3) := by decide +kernel
theorem dX2_gapOf_102 : decode cX2_gapOf 102 = .ok (.iload_n 2, 1) := by decide +kernel
theorem dX2_gapOf_103 : decode cX2_gapOf 103 = .ok (.istore_n 2, 1) := by decide +kernel
theorem dX2_gapOf_104 : decode cX2_gapOf 104 = .ok (.iinc 4 1, 3) := by decide +kernel
theorem dX2_gapOf_107 : decode cX2_gapOf 107 = .ok (.goto (-46), 3) := by decide +kernel
theorem dX2_gapOf_110 : decode cX2_gapOf 110 = .ok (.iinc 3 1, 3) := by decide +kernel
theorem dX2_gapOf_113 : decode cX2_gapOf 113 = .ok (.goto (-108), 3) := by decide +kernel
theorem dX2_gapOf_116 : decode cX2_gapOf 116 = .ok (.iload_n 2, 1) := by decide +kernel
theorem dX2_gapOf_117 : decode cX2_gapOf 117 = .ok (.iload_n 1, 1) := by decide +kernel
theorem dX2_gapOf_118 : decode cX2_gapOf 118 = .ok (.isub, 1) := by decide +kernel
theorem dX2_gapOf_119 : decode cX2_gapOf 119 = .ok (.ireturn, 1) := by decide +kernel
theorem dX2_read_0 : decode cX2_read 0 = .ok (.aload_n 0, 1) := by decide +kernel
theorem dX2_read_1 : decode cX2_read 1 = .ok (.iconst 0, 1) := by decide +kernel
theorem dX2_read_2 : decode cX2_read 2 = .ok (.putfield 58, 3) := by decide +kernel
theorem dX2_read_5 : decode cX2_read 5 = .ok (.iconst 0, 1) := by decide +kernel
theorem dX2_read_6 : decode cX2_read 6 = .ok (.istore_n 1, 1) := by decide +kernel
theorem dX2_read_7 : decode cX2_read 7 = .ok (.iload_n 1, 1) := by decide +kernel
theorem dX2_read_8 : decode cX2_read 8 = .ok (.bipush 12, 2) := by decide +kernel
theorem dX2_read_10 : decode cX2_read 10 = .ok (.if_icmp .ge 20, 3) := by decide +kernel
theorem dX2_read_13 : decode cX2_read 13 = .ok (.aload_n 0, 1) := by decide +kernel
theorem dX2_read_14 : decode cX2_read 14 = .ok (.getfield 9, 3) := by decide +kernel
theorem dX2_read_17 : decode cX2_read 17 = .ok (.iload_n 1, 1) := by decide +kernel
theorem dX2_read_18 : decode cX2_read 18 = .ok (.iaload, 1) := by decide +kernel
theorem dX2_read_19 : decode cX2_read 19 = .ok (.ifCond .ne 5, 3) := by decide +kernel
theorem dX2_read_22 : decode cX2_read 22 = .ok (.iconst (-1), 1) := by decide +kernel
theorem dX2_read_23 : decode cX2_read 23 = .ok (.ireturn, 1) := by decide +kernel
theorem dX2_read_24 : decode cX2_read 24 = .ok (.iinc 1 1, 3) := by decide +kernel
theorem dX2_read_27 : decode cX2_read 27 = .ok (.goto (-20), 3) := by decide +kernel
theorem dX2_read_30 : decode cX2_read 30 = .ok (.aload_n 0, 1) := by decide +kernel
theorem dX2_read_31 : decode cX2_read 31 = .ok (.getfield 68, 3) := by decide +kernel
theorem dX2_read_34 : decode cX2_read 34 = .ok (.ifCond .eq 13, 3) := by decide +kernel
theorem dX2_read_37 : decode cX2_read 37 = .ok (.aload_n 0, 1) := by decide +kernel
theorem dX2_read_38 : decode cX2_read 38 = .ok (.getfield 68, 3) := by decide +kernel
theorem dX2_read_41 : decode cX2_read 41 = .ok (.bipush 6, 2) := by decide +kernel
theorem dX2_read_43 : decode cX2_read 43 = .ok (.irem, 1) := by decide +kernel
theorem dX2_read_44 : decode cX2_read 44 = .ok (.ifCond .le 6, 3) := by decide +kernel
theorem dX2_read_47 : decode cX2_read 47 = .ok (.bipush (-2), 2) := by decide +kernel
theorem dX2_read_49 : decode cX2_read 49 = .ok (.ireturn, 1) := by decide +kernel
theorem dX2_read_50 : decode cX2_read 50 = .ok (.aload_n 0, 1) := by decide +kernel
theorem dX2_read_51 : decode cX2_read 51 = .ok (.aload_n 0, 1) := by decide +kernel
theorem dX2_read_52 : decode cX2_read 52 = .ok (.getfield 68, 3) := by decide +kernel
theorem dX2_read_55 : decode cX2_read 55 = .ok (.bipush 6, 2) := by decide +kernel
theorem dX2_read_57 : decode cX2_read 57 = .ok (.idiv, 1) := by decide +kernel
theorem dX2_read_58 : decode cX2_read 58 = .ok (.putfield 71, 3) := by decide +kernel
theorem dX2_read_61 : decode cX2_read 61 = .ok (.aload_n 0, 1) := by decide +kernel
theorem dX2_read_62 : decode cX2_read 62 = .ok (.iconst 0, 1) := by decide +kernel
theorem dX2_read_63 : decode cX2_read 63 = .ok (.invokevirtual 94, 3) := by decide +kernel
theorem dX2_read_66 : decode cX2_read 66 = .ok (.aload_n 0, 1) := by decide +kernel
theorem dX2_read_67 : decode cX2_read 67 = .ok (.invokevirtual 98, 3) := by decide +kernel
theorem dX2_read_70 : decode cX2_read 70 = .ok (.istore_n 1, 1) := by decide +kernel
theorem dX2_read_71 : decode cX2_read 71 = .ok (.aload_n 0, 1) := by decide +kernel
theorem dX2_read_72 : decode cX2_read 72 = .ok (.iconst 1, 1) := by decide +kernel
theorem dX2_read_73 : decode cX2_read 73 = .ok (.invokevirtual 94, 3) := by decide +kernel
theorem dX2_read_76 : decode cX2_read 76 = .ok (.aload_n 0, 1) := by decide +kernel
theorem dX2_read_77 : decode cX2_read 77 = .ok (.invokevirtual 98, 3) := by decide +kernel
theorem dX2_read_80 : decode cX2_read 80 = .ok (.istore_n 2, 1) := by decide +kernel
theorem dX2_read_81 : decode cX2_read 81 = .ok (.aload_n 0, 1) := by decide +kernel
theorem dX2_read_82 : decode cX2_read 82 = .ok (.iload_n 2, 1) := by decide +kernel
theorem dX2_read_83 : decode cX2_read 83 = .ok (.iload_n 1, 1) := by decide +kernel
theorem dX2_read_84 : decode cX2_read 84 = .ok (.if_icmp .ge 7, 3) := by decide +kernel
theorem dX2_read_87 : decode cX2_read 87 = .ok (.iconst 1, 1) := by decide +kernel
theorem dX2_read_88 : decode cX2_read 88 = .ok (.goto 4, 3) := by decide +kernel
theorem dX2_read_91 : decode cX2_read 91 = .ok (.iconst 0, 1) := by decide +kernel
theorem dX2_read_92 : decode cX2_read 92 = .ok (.putfield 102, 3) := by decide +kernel
theorem dX2_read_95 : decode cX2_read 95 = .ok (.aload_n 0, 1) := by decide +kernel
theorem dX2_read_96 : decode cX2_read 96 = .ok (.aload_n 0, 1) := by decide +kernel
theorem dX2_read_97 : decode cX2_read 97 = .ok (.getfield 102, 3) := by decide +kernel
theorem dX2_read_100 : decode cX2_read 100 = .ok (.ifCond .eq 7, 3) := by decide +kernel
theorem dX2_read_103 : decode cX2_read 103 = .ok (.iload_n 2, 1) := by decide +kernel
theorem dX2_read_104 : decode cX2_read 104 = .ok (.goto 4, 3) := by decide +kernel
theorem dX2_read_107 : decode cX2_read 107 = .ok (.iload_n 1, 1) := by decide +kernel
theorem dX2_read_108 : decode cX2_read 108 = .ok (.putfield 106, 3) := by decide +kernel
theorem dX2_read_111 : decode cX2_read 111 = .ok (.aload_n 0, 1) := by decide +kernel
theorem dX2_read_112 : decode cX2_read 112 = .ok (.getfield 102, 3) := by decide +kernel
theorem dX2_read_115 : decode cX2_read 115 = .ok (.ifCond .ne 8, 3) := by decide +kernel
theorem dX2_read_118 : decode cX2_read 118 = .ok (.aload_n 0, 1) := by decide +kernel
theorem dX2_read_119 : decode cX2_read 119 = .ok (.iconst 0, 1) := by decide +kernel
theorem dX2_read_120 : decode cX2_read 120 = .ok (.invokevirtual 94, 3) := by decide +kernel
theorem dX2_read_123 : decode cX2_read 123 = .ok (.aload_n 0, 1) := by decide +kernel
theorem dX2_read_124 : decode cX2_read 124 = .ok (.invokevirtual 98, 3) := by decide +kernel
theorem dX2_read_127 : decode cX2_read 127 = .ok (.pop, 1) := by decide +kernel
theorem dX2_read_128 : decode cX2_read 128 = .ok (.aload_n 0, 1) := by decide +kernel
theorem dX2_read_129 : decode cX2_read 129 = .ok (.aload_n 0, 1) := by decide +kernel
theorem dX2_read_130 : decode cX2_read 130 = .ok (.getfield 106, 3) := by decide +kernel
theorem dX2_read_133 : decode cX2_read 133 = .ok (.invokevirtual 109, 3) := by decide +kernel
theorem dX2_read_136 : decode cX2_read 136 = .ok (.aload_n 0, 1) := by decide +kernel
theorem dX2_read_137 : decode cX2_read 137 = .ok (.invokevirtual 98, 3) := by decide +kernel
theorem dX2_read_140 : decode cX2_read 140 = .ok (.pop, 1) := by decide +kernel
theorem dX2_read_141 : decode cX2_read 141 = .ok (.aload_n 0, 1) := by decide +kernel
theorem dX2_read_142 : decode cX2_read 142 = .ok (.aload_n 0, 1) := by decide +kernel
theorem dX2_read_143 : decode cX2_read 143 = .ok (.aload_n 0, 1) := by decide +kernel
theorem dX2_read_144 : decode cX2_read 144 = .ok (.getfield 106, 3) := by decide +kernel
theorem dX2_read_147 : decode cX2_read 147 = .ok (.invokevirtual 113, 3) := by decide +kernel
theorem dX2_read_150 : decode cX2_read 150 = .ok (.putfield 117, 3) := by decide +kernel
theorem dX2_read_153 : decode cX2_read 153 = .ok (.iconst 0, 1) := by decide +kernel
theorem dX2_read_154 : decode cX2_read 154 = .ok (.istore_n 3, 1) := by decide +kernel
theorem dX2_read_155 : decode cX2_read 155 = .ok (.iload_n 3, 1) := by decide +kernel
theorem dX2_read_156 : decode cX2_read 156 = .ok (.sipush 2160, 3) := by decide +kernel
theorem dX2_read_159 : decode cX2_read 159 = .ok (.if_icmp .ge 21, 3) := by decide +kernel
theorem dX2_read_162 : decode cX2_read 162 = .ok (.aload_n 0, 1) := by decide +kernel
theorem dX2_read_163 : decode cX2_read 163 = .ok (.getfield 19, 3) := by decide +kernel
theorem dX2_read_166 : decode cX2_read 166 = .ok (.iload_n 3, 1) := by decide +kernel
theorem dX2_read_167 : decode cX2_read 167 = .ok (.aload_n 0, 1) := by decide +kernel
theorem dX2_read_168 : decode cX2_read 168 = .ok (.getfield 16, 3) := by decide +kernel
theorem dX2_read_171 : decode cX2_read 171 = .ok (.iload_n 3, 1) := by decide +kernel
theorem dX2_read_172 : decode cX2_read 172 = .ok (.iaload, 1) := by decide +kernel
theorem dX2_read_173 : decode cX2_read 173 = .ok (.iastore, 1) := by decide +kernel
theorem dX2_read_174 : decode cX2_read 174 = .ok (.iinc 3 1, 3) := by decide +kernel
theorem dX2_read_177 : decode cX2_read 177 = .ok (.goto (-22), 3) := by decide +kernel
theorem dX2_read_180 : decode cX2_read 180 = .ok (.aload_n 0, 1) := by decide +kernel
theorem dX2_read_181 : decode cX2_read 181 = .ok (.aload_n 0, 1) := by decide +kernel
theorem dX2_read_182 : decode cX2_read 182 = .ok (.getfield 71, 3) := by decide +kernel
theorem dX2_read_185 : decode cX2_read 185 = .ok (.putfield 120, 3) := by decide +kernel
theorem dX2_read_188 : decode cX2_read 188 = .ok (.aload_n 0, 1) := by decide +kernel
theorem dX2_read_189 : decode cX2_read 189 = .ok (.iconst 1, 1) := by decide +kernel
theorem dX2_read_190 : decode cX2_read 190 = .ok (.putfield 123, 3) := by decide +kernel
theorem dX2_read_193 : decode cX2_read 193 = .ok (.aload_n 0, 1) := by decide +kernel
theorem dX2_read_194 : decode cX2_read 194 = .ok (.iconst 0, 1) := by decide +kernel
theorem dX2_read_195 : decode cX2_read 195 = .ok (.putfield 68, 3) := by decide +kernel
theorem dX2_read_198 : decode cX2_read 198 = .ok (.aload_n 0, 1) := by decide +kernel
theorem dX2_read_199 : decode cX2_read 199 = .ok (.getfield 106, 3) := by decide +kernel
theorem dX2_read_202 : decode cX2_read 202 = .ok (.ireturn, 1) := by decide +kernel
