set_option maxRecDepth 100000
theorem dX1_law_57 : decode cX1_law 57 = .ok (.putfield 64, 3) := by decide +kernel
theorem dX1_law_60 : decode cX1_law 60 = .ok (.new 67, 3) := by decide +kernel
theorem dX1_law_63 : decode cX1_law 63 = .ok (.dup, 1) := by decide +kernel
theorem dX1_law_64 : decode cX1_law 64 = .ok (.invokespecial 69, 3) := by decide +kernel
theorem dX1_law_67 : decode cX1_law 67 = .ok (.athrow, 1) := by decide +kernel
theorem dX1_law_68 : decode cX1_law 68 = .ok (.aload_n 0, 1) := by decide +kernel
theorem dX1_law_69 : decode cX1_law 69 = .ok (.getfield 32, 3) := by decide +kernel
theorem dX1_law_72 : decode cX1_law 72 = .ok (.iconst 0, 1) := by decide +kernel
theorem dX1_law_73 : decode cX1_law 73 = .ok (.aload_n 0, 1) := by decide +kernel
theorem dX1_law_74 : decode cX1_law 74 = .ok (.getfield 28, 3) := by decide +kernel
theorem dX1_law_77 : decode cX1_law 77 = .ok (.iconst 0, 1) := by decide +kernel
theorem dX1_law_78 : decode cX1_law 78 = .ok (.iconst 4, 1) := by decide +kernel
theorem dX1_law_79 : decode cX1_law 79 = .ok (.invokestatic 250, 3) := by decide +kernel
theorem dX1_law_82 : decode cX1_law 82 = .ok (.iload_n 2, 1) := by decide +kernel
theorem dX1_law_83 : decode cX1_law 83 = .ok (.ireturn, 1) := by decide +kernel
theorem dX1_says_0 : decode cX1_says 0 = .ok (.iload_n 1, 1) := by decide +kernel
theorem dX1_says_1 : decode cX1_says 1 = .ok (.iconst 0, 1) := by decide +kernel
theorem dX1_says_2 : decode cX1_says 2 = .ok (.iconst 3, 1) := by decide +kernel
theorem dX1_says_3 : decode cX1_says 3 = .ok (.invokestatic 79, 3) := by decide +kernel
theorem dX1_says_6 : decode cX1_says 6 = .ok (.ifCond .ne 11, 3) := by decide +kernel
theorem dX1_says_9 : decode cX1_says 9 = .ok (.new 247, 3) := by decide +kernel
theorem dX1_says_12 : decode cX1_says 12 = .ok (.dup, 1) := by decide +kernel
theorem dX1_says_13 : decode cX1_says 13 = .ok (.invokespecial 249, 3) := by decide +kernel
theorem dX1_says_16 : decode cX1_says 16 = .ok (.athrow, 1) := by decide +kernel
theorem dX1_says_17 : decode cX1_says 17 = .ok (.aload_n 0, 1) := by decide +kernel
theorem dX1_says_18 : decode cX1_says 18 = .ok (.getfield 28, 3) := by decide +kernel
theorem dX1_says_21 : decode cX1_says 21 = .ok (.iload_n 1, 1) := by decide +kernel
theorem dX1_says_22 : decode cX1_says 22 = .ok (.iaload, 1) := by decide +kernel
theorem dX1_says_23 : decode cX1_says 23 = .ok (.ireturn, 1) := by decide +kernel
theorem dX1_pays_0 : decode cX1_pays 0 = .ok (.aload_n 0, 1) := by decide +kernel
theorem dX1_pays_1 : decode cX1_pays 1 = .ok (.iload_n 1, 1) := by decide +kernel
theorem dX1_pays_2 : decode cX1_pays 2 = .ok (.invokevirtual 194, 3) := by decide +kernel
theorem dX1_pays_5 : decode cX1_pays 5 = .ok (.astore 4, 2) := by decide +kernel
theorem dX1_pays_7 : decode cX1_pays 7 = .ok (.iload_n 2, 1) := by decide +kernel
theorem dX1_pays_8 : decode cX1_pays 8 = .ok (.invokestatic 145, 3) := by decide +kernel
theorem dX1_pays_11 : decode cX1_pays 11 = .ok (.ifCond .eq 18, 3) := by decide +kernel
theorem dX1_pays_14 : decode cX1_pays 14 = .ok (.iload_n 3, 1) := by decide +kernel
theorem dX1_pays_15 : decode cX1_pays 15 = .ok (.iconst 0, 1) := by decide +kernel
theorem dX1_pays_16 : decode cX1_pays 16 = .ok (.ldc_w 265, 3) := by decide +kernel
theorem dX1_pays_19 : decode cX1_pays 19 = .ok (.invokestatic 79, 3) := by decide +kernel
theorem dX1_pays_22 : decode cX1_pays 22 = .ok (.ifCond .eq 7, 3) := by decide +kernel
theorem dX1_pays_25 : decode cX1_pays 25 = .ok (.iconst 1, 1) := by decide +kernel
theorem dX1_pays_26 : decode cX1_pays 26 = .ok (.goto 4, 3) := by decide +kernel
theorem dX1_pays_29 : decode cX1_pays 29 = .ok (.iconst 0, 1) := by decide +kernel
theorem dX1_pays_30 : decode cX1_pays 30 = .ok (.invokestatic 115, 3) := by decide +kernel
theorem dX1_pays_33 : decode cX1_pays 33 = .ok (.lconst 0, 1) := by decide +kernel
theorem dX1_pays_34 : decode cX1_pays 34 = .ok (.lstore 5, 2) := by decide +kernel
theorem dX1_pays_36 : decode cX1_pays 36 = .ok (.iconst 0, 1) := by decide +kernel
theorem dX1_pays_37 : decode cX1_pays 37 = .ok (.istore 7, 2) := by decide +kernel
theorem dX1_pays_39 : decode cX1_pays 39 = .ok (.iload 7, 2) := by decide +kernel
theorem dX1_pays_41 : decode cX1_pays 41 = .ok (.bipush 31, 2) := by decide +kernel
theorem dX1_pays_43 : decode cX1_pays 43 = .ok (.if_icmp .ge 17, 3) := by decide +kernel
theorem dX1_pays_46 : decode cX1_pays 46 = .ok (.aload_n 0, 1) := by decide +kernel
theorem dX1_pays_47 : decode cX1_pays 47 = .ok (.getfield 53, 3) := by decide +kernel
theorem dX1_pays_50 : decode cX1_pays 50 = .ok (.iload 7, 2) := by decide +kernel
theorem dX1_pays_52 : decode cX1_pays 52 = .ok (.lconst 0, 1) := by decide +kernel
theorem dX1_pays_53 : decode cX1_pays 53 = .ok (.lastore, 1) := by decide +kernel
theorem dX1_pays_54 : decode cX1_pays 54 = .ok (.iinc 7 1, 3) := by decide +kernel
theorem dX1_pays_57 : decode cX1_pays 57 = .ok (.goto (-18), 3) := by decide +kernel
theorem dX1_pays_60 : decode cX1_pays 60 = .ok (.iconst 0, 1) := by decide +kernel
theorem dX1_pays_61 : decode cX1_pays 61 = .ok (.istore 7, 2) := by decide +kernel
theorem dX1_pays_63 : decode cX1_pays 63 = .ok (.iload 7, 2) := by decide +kernel
theorem dX1_pays_65 : decode cX1_pays 65 = .ok (.aload_n 0, 1) := by decide +kernel
theorem dX1_pays_66 : decode cX1_pays 66 = .ok (.getfield 101, 3) := by decide +kernel
theorem dX1_pays_69 : decode cX1_pays 69 = .ok (.if_icmp .ge 76, 3) := by decide +kernel
theorem dX1_pays_72 : decode cX1_pays 72 = .ok (.aload_n 0, 1) := by decide +kernel
theorem dX1_pays_73 : decode cX1_pays 73 = .ok (.getfield 24, 3) := by decide +kernel
theorem dX1_pays_76 : decode cX1_pays 76 = .ok (.iload 7, 2) := by decide +kernel
theorem dX1_pays_78 : decode cX1_pays 78 = .ok (.aaload, 1) := by decide +kernel
theorem dX1_pays_79 : decode cX1_pays 79 = .ok (.astore 8, 2) := by decide +kernel
theorem dX1_pays_81 : decode cX1_pays 81 = .ok (.aload 8, 2) := by decide +kernel
theorem dX1_pays_83 : decode cX1_pays 83 = .ok (.getfield 222, 3) := by decide +kernel
theorem dX1_pays_86 : decode cX1_pays 86 = .ok (.aload 4, 2) := by decide +kernel
theorem dX1_pays_88 : decode cX1_pays 88 = .ok (.if_acmp .ne 51, 3) := by decide +kernel
theorem dX1_pays_91 : decode cX1_pays 91 = .ok (.aload_n 0, 1) := by decide +kernel
theorem dX1_pays_92 : decode cX1_pays 92 = .ok (.getfield 53, 3) := by decide +kernel
theorem dX1_pays_95 : decode cX1_pays 95 = .ok (.aload 8, 2) := by decide +kernel
theorem dX1_pays_97 : decode cX1_pays 97 = .ok (.getfield 219, 3) := by decide +kernel
theorem dX1_pays_100 : decode cX1_pays 100 = .ok (.aload_n 0, 1) := by decide +kernel
theorem dX1_pays_101 : decode cX1_pays 101 = .ok (.getfield 28, 3) := by decide +kernel
theorem dX1_pays_104 : decode cX1_pays 104 = .ok (.iconst 2, 1) := by decide +kernel
theorem dX1_pays_105 : decode cX1_pays 105 = .ok (.iaload, 1) := by decide +kernel
theorem dX1_pays_106 : decode cX1_pays 106 = .ok (.iconst 1, 1) := by decide +kernel
theorem dX1_pays_107 : decode cX1_pays 107 = .ok (.if_icmp .ne 7, 3) := by decide +kernel
theorem dX1_pays_110 : decode cX1_pays 110 = .ok (.lconst 1, 1) := by decide +kernel
theorem dX1_pays_111 : decode cX1_pays 111 = .ok (.goto 27, 3) := by decide +kernel
theorem dX1_pays_114 : decode cX1_pays 114 = .ok (.aload_n 0, 1) := by decide +kernel
theorem dX1_pays_115 : decode cX1_pays 115 = .ok (.getfield 53, 3) := by decide +kernel
theorem dX1_pays_118 : decode cX1_pays 118 = .ok (.aload 8, 2) := by decide +kernel
theorem dX1_pays_120 : decode cX1_pays 120 = .ok (.getfield 219, 3) := by decide +kernel
theorem dX1_pays_123 : decode cX1_pays 123 = .ok (.laload, 1) := by decide +kernel
theorem dX1_pays_124 : decode cX1_pays 124 = .ok (.aload 8, 2) := by decide +kernel
theorem dX1_pays_126 : decode cX1_pays 126 = .ok (.getfield 216, 3) := by decide +kernel
theorem dX1_pays_129 : decode cX1_pays 129 = .ok (.i2l, 1) := by decide +kernel
theorem dX1_pays_130 : decode cX1_pays 130 = .ok (.ladd, 1) := by decide +kernel
theorem dX1_pays_131 : decode cX1_pays 131 = .ok (.aload 8, 2) := by decide +kernel
theorem dX1_pays_133 : decode cX1_pays 133 = .ok (.getfield 213, 3) := by decide +kernel
theorem dX1_pays_136 : decode cX1_pays 136 = .ok (.i2l, 1) := by decide +kernel
theorem dX1_pays_137 : decode cX1_pays 137 = .ok (.lsub, 1) := by decide +kernel
theorem dX1_pays_138 : decode cX1_pays 138 = .ok (.lastore, 1) := by decide +kernel
theorem dX1_pays_139 : decode cX1_pays 139 = .ok (.iinc 7 1, 3) := by decide +kernel
theorem dX1_pays_142 : decode cX1_pays 142 = .ok (.goto (-79), 3) := by decide +kernel
theorem dX1_pays_145 : decode cX1_pays 145 = .ok (.iconst 0, 1) := by decide +kernel
theorem dX1_pays_146 : decode cX1_pays 146 = .ok (.istore 7, 2) := by decide +kernel
theorem dX1_pays_148 : decode cX1_pays 148 = .ok (.iload 7, 2) := by decide +kernel
theorem dX1_pays_150 : decode cX1_pays 150 = .ok (.bipush 31, 2) := by decide +kernel
theorem dX1_pays_152 : decode cX1_pays 152 = .ok (.if_icmp .ge 21, 3) := by decide +kernel
theorem dX1_pays_155 : decode cX1_pays 155 = .ok (.lload 5, 2) := by decide +kernel
theorem dX1_pays_157 : decode cX1_pays 157 = .ok (.aload_n 0, 1) := by decide +kernel
theorem dX1_pays_158 : decode cX1_pays 158 = .ok (.getfield 53, 3) := by decide +kernel
theorem dX1_pays_161 : decode cX1_pays 161 = .ok (.iload 7, 2) := by decide +kernel
theorem dX1_pays_163 : decode cX1_pays 163 = .ok (.laload, 1) := by decide +kernel
theorem dX1_pays_164 : decode cX1_pays 164 = .ok (.ladd, 1) := by decide +kernel
theorem dX1_pays_165 : decode cX1_pays 165 = .ok (.lstore 5, 2) := by decide +kernel
theorem dX1_pays_167 : decode cX1_pays 167 = .ok (.iinc 7 1, 3) := by decide +kernel
theorem dX1_pays_170 : decode cX1_pays 170 = .ok (.goto (-22), 3) := by decide +kernel
theorem dX1_pays_173 : decode cX1_pays 173 = .ok (.iload_n 3, 1) := by decide +kernel
theorem dX1_pays_174 : decode cX1_pays 174 = .ok (.iload_n 3, 1) := by decide +kernel
theorem dX1_pays_175 : decode cX1_pays 175 = .ok (.aload_n 0, 1) := by decide +kernel
theorem dX1_pays_176 : decode cX1_pays 176 = .ok (.getfield 28, 3) := by decide +kernel
theorem dX1_pays_179 : decode cX1_pays 179 = .ok (.iconst 3, 1) := by decide +kernel
theorem dX1_pays_180 : decode cX1_pays 180 = .ok (.iaload, 1) := by decide +kernel
theorem dX1_pays_181 : decode cX1_pays 181 = .ok (.imul, 1) := by decide +kernel
theorem dX1_pays_182 : decode cX1_pays 182 = .ok (.bipush 100, 2) := by decide +kernel
theorem dX1_pays_184 : decode cX1_pays 184 = .ok (.idiv, 1) := by decide +kernel
theorem dX1_pays_185 : decode cX1_pays 185 = .ok (.isub, 1) := by decide +kernel
theorem dX1_pays_186 : decode cX1_pays 186 = .ok (.istore 7, 2) := by decide +kernel
theorem dX1_pays_188 : decode cX1_pays 188 = .ok (.iload 7, 2) := by decide +kernel
theorem dX1_pays_190 : decode cX1_pays 190 = .ok (.istore 8, 2) := by decide +kernel
theorem dX1_pays_192 : decode cX1_pays 192 = .ok (.iconst 0, 1) := by decide +kernel
theorem dX1_pays_193 : decode cX1_pays 193 = .ok (.istore 9, 2) := by decide +kernel
theorem dX1_pays_195 : decode cX1_pays 195 = .ok (.iconst 0, 1) := by decide +kernel
theorem dX1_pays_196 : decode cX1_pays 196 = .ok (.istore 10, 2) := by decide +kernel
theorem dX1_pays_198 : decode cX1_pays 198 = .ok (.iload 10, 2) := by decide +kernel
theorem dX1_pays_200 : decode cX1_pays 200 = .ok (.bipush 31, 2) := by decide +kernel
theorem dX1_pays_202 : decode cX1_pays 202 = .ok (.if_icmp .ge 57, 3) := by decide +kernel
theorem dX1_pays_205 : decode cX1_pays 205 = .ok (.iload 8, 2) := by decide +kernel
theorem dX1_pays_207 : decode cX1_pays 207 = .ok (.iload 7, 2) := by decide +kernel
theorem dX1_pays_209 : decode cX1_pays 209 = .ok (.i2l, 1) := by decide +kernel
theorem dX1_pays_210 : decode cX1_pays 210 = .ok (.aload_n 0, 1) := by decide +kernel
theorem dX1_pays_211 : decode cX1_pays 211 = .ok (.getfield 53, 3) := by decide +kernel
theorem dX1_pays_214 : decode cX1_pays 214 = .ok (.iload 10, 2) := by decide +kernel
theorem dX1_pays_216 : decode cX1_pays 216 = .ok (.laload, 1) := by decide +kernel
theorem dX1_pays_217 : decode cX1_pays 217 = .ok (.lmul, 1) := by decide +kernel
theorem dX1_pays_218 : decode cX1_pays 218 = .ok (.lload 5, 2) := by decide +kernel
theorem dX1_pays_220 : decode cX1_pays 220 = .ok (.ldiv, 1) := by decide +kernel
theorem dX1_pays_221 : decode cX1_pays 221 = .ok (.l2i, 1) := by decide +kernel
theorem dX1_pays_222 : decode cX1_pays 222 = .ok (.isub, 1) := by decide +kernel
theorem dX1_pays_223 : decode cX1_pays 223 = .ok (.istore 8, 2) := by decide +kernel
theorem dX1_pays_225 : decode cX1_pays 225 = .ok (.iload 9, 2) := by decide +kernel
theorem dX1_pays_227 : decode cX1_pays 227 = .ok (.iload 10, 2) := by decide +kernel
theorem dX1_pays_229 : decode cX1_pays 229 = .ok (.iload_n 2, 1) := by decide +kernel
theorem dX1_pays_230 : decode cX1_pays 230 = .ok (.if_icmp .ge 19, 3) := by decide +kernel
theorem dX1_pays_233 : decode cX1_pays 233 = .ok (.aload_n 0, 1) := by decide +kernel
theorem dX1_pays_234 : decode cX1_pays 234 = .ok (.getfield 53, 3) := by decide +kernel
theorem dX1_pays_237 : decode cX1_pays 237 = .ok (.iload 10, 2) := by decide +kernel
theorem dX1_pays_239 : decode cX1_pays 239 = .ok (.laload, 1) := by decide +kernel
theorem dX1_pays_240 : decode cX1_pays 240 = .ok (.lconst 0, 1) := by decide +kernel
theorem dX1_pays_241 : decode cX1_pays 241 = .ok (.lcmp, 1) := by decide +kernel
theorem dX1_pays_242 : decode cX1_pays 242 = .ok (.ifCond .le 7, 3) := by decide +kernel
theorem dX1_pays_245 : decode cX1_pays 245 = .ok (.iconst 1, 1) := by decide +kernel
theorem dX1_pays_246 : decode cX1_pays 246 = .ok (.goto 4, 3) := by decide +kernel
theorem dX1_pays_249 : decode cX1_pays 249 = .ok (.iconst 0, 1) := by decide +kernel
theorem dX1_pays_250 : decode cX1_pays 250 = .ok (.iadd, 1) := by decide +kernel
theorem dX1_pays_251 : decode cX1_pays 251 = .ok (.istore 9, 2) := by decide +kernel
theorem dX1_pays_253 : decode cX1_pays 253 = .ok (.iinc 10 1, 3) := by decide +kernel
theorem dX1_pays_256 : decode cX1_pays 256 = .ok (.goto (-58), 3) := by decide +kernel
theorem dX1_pays_259 : decode cX1_pays 259 = .ok (.aload_n 0, 1) := by decide +kernel
theorem dX1_pays_260 : decode cX1_pays 260 = .ok (.getfield 53, 3) := by decide +kernel
theorem dX1_pays_263 : decode cX1_pays 263 = .ok (.iload_n 2, 1) := by decide +kernel
theorem dX1_pays_264 : decode cX1_pays 264 = .ok (.laload, 1) := by decide +kernel
theorem dX1_pays_265 : decode cX1_pays 265 = .ok (.lconst 0, 1) := by decide +kernel
theorem dX1_pays_266 : decode cX1_pays 266 = .ok (.lcmp, 1) := by decide +kernel
theorem dX1_pays_267 : decode cX1_pays 267 = .ok (.ifCond .ne 7, 3) := by decide +kernel
theorem dX1_pays_270 : decode cX1_pays 270 = .ok (.iconst 0, 1) := by decide +kernel
theorem dX1_pays_271 : decode cX1_pays 271 = .ok (.goto 30, 3) := by decide +kernel
theorem dX1_pays_274 : decode cX1_pays 274 = .ok (.iload 7, 2) := by decide +kernel
theorem dX1_pays_276 : decode cX1_pays 276 = .ok (.i2l, 1) := by decide +kernel
theorem dX1_pays_277 : decode cX1_pays 277 = .ok (.aload_n 0, 1) := by decide +kernel
theorem dX1_pays_278 : decode cX1_pays 278 = .ok (.getfield 53, 3) := by decide +kernel
theorem dX1_pays_281 : decode cX1_pays 281 = .ok (.iload_n 2, 1) := by decide +kernel
theorem dX1_pays_282 : decode cX1_pays 282 = .ok (.laload, 1) := by decide +kernel
theorem dX1_pays_283 : decode cX1_pays 283 = .ok (.lmul, 1) := by decide +kernel
theorem dX1_pays_284 : decode cX1_pays 284 = .ok (.lload 5, 2) := by decide +kernel
theorem dX1_pays_286 : decode cX1_pays 286 = .ok (.ldiv, 1) := by decide +kernel
theorem dX1_pays_287 : decode cX1_pays 287 = .ok (.l2i, 1) := by decide +kernel
theorem dX1_pays_288 : decode cX1_pays 288 = .ok (.iload 9, 2) := by decide +kernel
theorem dX1_pays_290 : decode cX1_pays 290 = .ok (.iload 8, 2) := by decide +kernel
theorem dX1_pays_292 : decode cX1_pays 292 = .ok (.if_icmp .ge 7, 3) := by decide +kernel
theorem dX1_pays_295 : decode cX1_pays 295 = .ok (.iconst 1, 1) := by decide +kernel
theorem dX1_pays_296 : decode cX1_pays 296 = .ok (.goto 4, 3) := by decide +kernel
theorem dX1_pays_299 : decode cX1_pays 299 = .ok (.iconst 0, 1) := by decide +kernel
theorem dX1_pays_300 : decode cX1_pays 300 = .ok (.iadd, 1) := by decide +kernel
theorem dX1_pays_301 : decode cX1_pays 301 = .ok (.ireturn, 1) := by decide +kernel
theorem dX1_field_0 : decode cX1_field 0 = .ok (.iload_n 1, 1) := by decide +kernel
theorem dX1_field_1 : decode cX1_field 1 = .ok (.iconst 1, 1) := by decide +kernel
theorem dX1_field_2 : decode cX1_field 2 = .ok (.sipush 1000, 3) := by decide +kernel
theorem dX1_field_5 : decode cX1_field 5 = .ok (.invokestatic 79, 3) := by decide +kernel
theorem dX1_field_8 : decode cX1_field 8 = .ok (.ifCond .eq 28, 3) := by decide +kernel
theorem dX1_field_11 : decode cX1_field 11 = .ok (.iload_n 2, 1) := by decide +kernel
theorem dX1_field_12 : decode cX1_field 12 = .ok (.iconst 0, 1) := by decide +kernel
theorem dX1_field_13 : decode cX1_field 13 = .ok (.sipush 10000, 3) := by decide +kernel
theorem dX1_field_16 : decode cX1_field 16 = .ok (.invokestatic 79, 3) := by decide +kernel
theorem dX1_field_19 : decode cX1_field 19 = .ok (.ifCond .eq 17, 3) := by decide +kernel
theorem dX1_field_22 : decode cX1_field 22 = .ok (.iload_n 3, 1) := by decide +kernel
theorem dX1_field_23 : decode cX1_field 23 = .ok (.iconst 0, 1) := by decide +kernel
theorem dX1_field_24 : decode cX1_field 24 = .ok (.bipush 100, 2) := by decide +kernel
theorem dX1_field_26 : decode cX1_field 26 = .ok (.invokestatic 79, 3) := by decide +kernel
theorem dX1_field_29 : decode cX1_field 29 = .ok (.ifCond .eq 7, 3) := by decide +kernel
theorem dX1_field_32 : decode cX1_field 32 = .ok (.iconst 1, 1) := by decide +kernel
theorem dX1_field_33 : decode cX1_field 33 = .ok (.goto 4, 3) := by decide +kernel
theorem dX1_field_36 : decode cX1_field 36 = .ok (.iconst 0, 1) := by decide +kernel
theorem dX1_field_37 : decode cX1_field 37 = .ok (.invokestatic 115, 3) := by decide +kernel
theorem dX1_field_40 : decode cX1_field 40 = .ok (.aload_n 0, 1) := by decide +kernel
theorem dX1_field_41 : decode cX1_field 41 = .ok (.getfield 266, 3) := by decide +kernel
theorem dX1_field_44 : decode cX1_field 44 = .ok (.bipush 9, 2) := by decide +kernel
theorem dX1_field_46 : decode cX1_field 46 = .ok (.if_icmp .ne 5, 3) := by decide +kernel
theorem dX1_field_49 : decode cX1_field 49 = .ok (.iconst (-1), 1) := by decide +kernel
theorem dX1_field_50 : decode cX1_field 50 = .ok (.ireturn, 1) := by decide +kernel
theorem dX1_field_51 : decode cX1_field 51 = .ok (.aload_n 0, 1) := by decide +kernel
theorem dX1_field_52 : decode cX1_field 52 = .ok (.getfield 35, 3) := by decide +kernel
theorem dX1_field_55 : decode cX1_field 55 = .ok (.aload_n 0, 1) := by decide +kernel
theorem dX1_field_56 : decode cX1_field 56 = .ok (.getfield 266, 3) := by decide +kernel
theorem dX1_field_59 : decode cX1_field 59 = .ok (.iload_n 1, 1) := by decide +kernel
theorem dX1_field_60 : decode cX1_field 60 = .ok (.iastore, 1) := by decide +kernel
theorem dX1_field_61 : decode cX1_field 61 = .ok (.aload_n 0, 1) := by decide +kernel
theorem dX1_field_62 : decode cX1_field 62 = .ok (.getfield 38, 3) := by decide +kernel
theorem dX1_field_65 : decode cX1_field 65 = .ok (.aload_n 0, 1) := by decide +kernel
theorem dX1_field_66 : decode cX1_field 66 = .ok (.getfield 266, 3) := by decide +kernel
theorem dX1_field_69 : decode cX1_field 69 = .ok (.iload_n 2, 1) := by decide +kernel
theorem dX1_field_70 : decode cX1_field 70 = .ok (.iastore, 1) := by decide +kernel
theorem dX1_field_71 : decode cX1_field 71 = .ok (.aload_n 0, 1) := by decide +kernel
theorem dX1_field_72 : decode cX1_field 72 = .ok (.getfield 41, 3) := by decide +kernel
theorem dX1_field_75 : decode cX1_field 75 = .ok (.aload_n 0, 1) := by decide +kernel
theorem dX1_field_76 : decode cX1_field 76 = .ok (.getfield 266, 3) := by decide +kernel
theorem dX1_field_79 : decode cX1_field 79 = .ok (.iload_n 3, 1) := by decide +kernel
theorem dX1_field_80 : decode cX1_field 80 = .ok (.iastore, 1) := by decide +kernel
theorem dX1_field_81 : decode cX1_field 81 = .ok (.aload_n 0, 1) := by decide +kernel
theorem dX1_field_82 : decode cX1_field 82 = .ok (.dup, 1) := by decide +kernel
theorem dX1_field_83 : decode cX1_field 83 = .ok (.getfield 266, 3) := by decide +kernel
theorem dX1_field_86 : decode cX1_field 86 = .ok (.iconst 1, 1) := by decide +kernel
theorem dX1_field_87 : decode cX1_field 87 = .ok (.iadd, 1) := by decide +kernel
theorem dX1_field_88 : decode cX1_field 88 = .ok (.putfield 266, 3) := by decide +kernel
theorem dX1_field_91 : decode cX1_field 91 = .ok (.aload_n 0, 1) := by decide +kernel
theorem dX1_field_92 : decode cX1_field 92 = .ok (.getfield 266, 3) := by decide +kernel
theorem dX1_field_95 : decode cX1_field 95 = .ok (.ireturn, 1) := by decide +kernel
