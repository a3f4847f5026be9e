set_option maxRecDepth 100000
theorem dX4_pays_7 : decode cX4_pays 7 = .ok (.iload_n 1, 1) := by decide +kernel
theorem dX4_pays_8 : decode cX4_pays 8 = .ok (.invokevirtual 98, 3) := by decide +kernel
theorem dX4_pays_11 : decode cX4_pays 11 = .ok (.iconst 1, 1) := by decide +kernel
theorem dX4_pays_12 : decode cX4_pays 12 = .ok (.invokevirtual 105, 3) := by decide +kernel
theorem dX4_pays_15 : decode cX4_pays 15 = .ok (.ifCond .ne 55, 3) := by decide +kernel
theorem dX4_pays_18 : decode cX4_pays 18 = .ok (.aload_n 0, 1) := by decide +kernel
theorem dX4_pays_19 : decode cX4_pays 19 = .ok (.aload_n 0, 1) := by decide +kernel
theorem dX4_pays_20 : decode cX4_pays 20 = .ok (.getfield 20, 3) := by decide +kernel
theorem dX4_pays_23 : decode cX4_pays 23 = .ok (.iload_n 1, 1) := by decide +kernel
theorem dX4_pays_24 : decode cX4_pays 24 = .ok (.baload, 1) := by decide +kernel
theorem dX4_pays_25 : decode cX4_pays 25 = .ok (.ifCond .ne 7, 3) := by decide +kernel
theorem dX4_pays_28 : decode cX4_pays 28 = .ok (.iconst 1, 1) := by decide +kernel
theorem dX4_pays_29 : decode cX4_pays 29 = .ok (.goto 4, 3) := by decide +kernel
theorem dX4_pays_32 : decode cX4_pays 32 = .ok (.iconst 0, 1) := by decide +kernel
theorem dX4_pays_33 : decode cX4_pays 33 = .ok (.iconst 2, 1) := by decide +kernel
theorem dX4_pays_34 : decode cX4_pays 34 = .ok (.invokevirtual 105, 3) := by decide +kernel
theorem dX4_pays_37 : decode cX4_pays 37 = .ok (.ifCond .ne 33, 3) := by decide +kernel
theorem dX4_pays_40 : decode cX4_pays 40 = .ok (.aload_n 0, 1) := by decide +kernel
theorem dX4_pays_41 : decode cX4_pays 41 = .ok (.iload_n 2, 1) := by decide +kernel
theorem dX4_pays_42 : decode cX4_pays 42 = .ok (.invokestatic 168, 3) := by decide +kernel
theorem dX4_pays_45 : decode cX4_pays 45 = .ok (.ifCond .ne 13, 3) := by decide +kernel
theorem dX4_pays_48 : decode cX4_pays 48 = .ok (.iload_n 3, 1) := by decide +kernel
theorem dX4_pays_49 : decode cX4_pays 49 = .ok (.iconst 0, 1) := by decide +kernel
theorem dX4_pays_50 : decode cX4_pays 50 = .ok (.ldc 226, 2) := by decide +kernel
theorem dX4_pays_52 : decode cX4_pays 52 = .ok (.invokestatic 94, 3) := by decide +kernel
theorem dX4_pays_55 : decode cX4_pays 55 = .ok (.ifCond .ne 7, 3) := by decide +kernel
theorem dX4_pays_58 : decode cX4_pays 58 = .ok (.iconst 1, 1) := by decide +kernel
theorem dX4_pays_59 : decode cX4_pays 59 = .ok (.goto 4, 3) := by decide +kernel
theorem dX4_pays_62 : decode cX4_pays 62 = .ok (.iconst 0, 1) := by decide +kernel
theorem dX4_pays_63 : decode cX4_pays 63 = .ok (.iconst 3, 1) := by decide +kernel
theorem dX4_pays_64 : decode cX4_pays 64 = .ok (.invokevirtual 105, 3) := by decide +kernel
theorem dX4_pays_67 : decode cX4_pays 67 = .ok (.ifCond .eq 5, 3) := by decide +kernel
theorem dX4_pays_70 : decode cX4_pays 70 = .ok (.iconst 0, 1) := by decide +kernel
theorem dX4_pays_71 : decode cX4_pays 71 = .ok (.ireturn, 1) := by decide +kernel
theorem dX4_pays_72 : decode cX4_pays 72 = .ok (.iconst 0, 1) := by decide +kernel
theorem dX4_pays_73 : decode cX4_pays 73 = .ok (.istore 4, 2) := by decide +kernel
theorem dX4_pays_75 : decode cX4_pays 75 = .ok (.iload 4, 2) := by decide +kernel
theorem dX4_pays_77 : decode cX4_pays 77 = .ok (.bipush 31, 2) := by decide +kernel
theorem dX4_pays_79 : decode cX4_pays 79 = .ok (.if_icmp .ge 17, 3) := by decide +kernel
theorem dX4_pays_82 : decode cX4_pays 82 = .ok (.aload_n 0, 1) := by decide +kernel
theorem dX4_pays_83 : decode cX4_pays 83 = .ok (.getfield 73, 3) := by decide +kernel
theorem dX4_pays_86 : decode cX4_pays 86 = .ok (.iload 4, 2) := by decide +kernel
theorem dX4_pays_88 : decode cX4_pays 88 = .ok (.iconst 0, 1) := by decide +kernel
theorem dX4_pays_89 : decode cX4_pays 89 = .ok (.iastore, 1) := by decide +kernel
theorem dX4_pays_90 : decode cX4_pays 90 = .ok (.iinc 4 1, 3) := by decide +kernel
theorem dX4_pays_93 : decode cX4_pays 93 = .ok (.goto (-18), 3) := by decide +kernel
theorem dX4_pays_96 : decode cX4_pays 96 = .ok (.iconst 0, 1) := by decide +kernel
theorem dX4_pays_97 : decode cX4_pays 97 = .ok (.istore 4, 2) := by decide +kernel
theorem dX4_pays_99 : decode cX4_pays 99 = .ok (.iload 4, 2) := by decide +kernel
theorem dX4_pays_101 : decode cX4_pays 101 = .ok (.aload_n 0, 1) := by decide +kernel
theorem dX4_pays_102 : decode cX4_pays 102 = .ok (.getfield 102, 3) := by decide +kernel
theorem dX4_pays_105 : decode cX4_pays 105 = .ok (.if_icmp .ge 68, 3) := by decide +kernel
theorem dX4_pays_108 : decode cX4_pays 108 = .ok (.aload_n 0, 1) := by decide +kernel
theorem dX4_pays_109 : decode cX4_pays 109 = .ok (.getfield 45, 3) := by decide +kernel
theorem dX4_pays_112 : decode cX4_pays 112 = .ok (.bipush 7, 2) := by decide +kernel
theorem dX4_pays_114 : decode cX4_pays 114 = .ok (.iload 4, 2) := by decide +kernel
theorem dX4_pays_116 : decode cX4_pays 116 = .ok (.imul, 1) := by decide +kernel
theorem dX4_pays_117 : decode cX4_pays 117 = .ok (.iaload, 1) := by decide +kernel
theorem dX4_pays_118 : decode cX4_pays 118 = .ok (.iload_n 1, 1) := by decide +kernel
theorem dX4_pays_119 : decode cX4_pays 119 = .ok (.if_icmp .ne 48, 3) := by decide +kernel
theorem dX4_pays_122 : decode cX4_pays 122 = .ok (.aload_n 0, 1) := by decide +kernel
theorem dX4_pays_123 : decode cX4_pays 123 = .ok (.getfield 73, 3) := by decide +kernel
theorem dX4_pays_126 : decode cX4_pays 126 = .ok (.aload_n 0, 1) := by decide +kernel
theorem dX4_pays_127 : decode cX4_pays 127 = .ok (.getfield 45, 3) := by decide +kernel
theorem dX4_pays_130 : decode cX4_pays 130 = .ok (.bipush 7, 2) := by decide +kernel
theorem dX4_pays_132 : decode cX4_pays 132 = .ok (.iload 4, 2) := by decide +kernel
theorem dX4_pays_134 : decode cX4_pays 134 = .ok (.imul, 1) := by decide +kernel
theorem dX4_pays_135 : decode cX4_pays 135 = .ok (.iconst 3, 1) := by decide +kernel
theorem dX4_pays_136 : decode cX4_pays 136 = .ok (.iadd, 1) := by decide +kernel
theorem dX4_pays_137 : decode cX4_pays 137 = .ok (.iaload, 1) := by decide +kernel
theorem dX4_pays_138 : decode cX4_pays 138 = .ok (.dup2, 1) := by decide +kernel
theorem dX4_pays_139 : decode cX4_pays 139 = .ok (.iaload, 1) := by decide +kernel
theorem dX4_pays_140 : decode cX4_pays 140 = .ok (.aload_n 0, 1) := by decide +kernel
theorem dX4_pays_141 : decode cX4_pays 141 = .ok (.getfield 45, 3) := by decide +kernel
theorem dX4_pays_144 : decode cX4_pays 144 = .ok (.bipush 7, 2) := by decide +kernel
theorem dX4_pays_146 : decode cX4_pays 146 = .ok (.iload 4, 2) := by decide +kernel
theorem dX4_pays_148 : decode cX4_pays 148 = .ok (.imul, 1) := by decide +kernel
theorem dX4_pays_149 : decode cX4_pays 149 = .ok (.iconst 2, 1) := by decide +kernel
theorem dX4_pays_150 : decode cX4_pays 150 = .ok (.iadd, 1) := by decide +kernel
theorem dX4_pays_151 : decode cX4_pays 151 = .ok (.iaload, 1) := by decide +kernel
theorem dX4_pays_152 : decode cX4_pays 152 = .ok (.aload_n 0, 1) := by decide +kernel
theorem dX4_pays_153 : decode cX4_pays 153 = .ok (.getfield 45, 3) := by decide +kernel
theorem dX4_pays_156 : decode cX4_pays 156 = .ok (.bipush 7, 2) := by decide +kernel
theorem dX4_pays_158 : decode cX4_pays 158 = .ok (.iload 4, 2) := by decide +kernel
theorem dX4_pays_160 : decode cX4_pays 160 = .ok (.imul, 1) := by decide +kernel
theorem dX4_pays_161 : decode cX4_pays 161 = .ok (.iconst 1, 1) := by decide +kernel
theorem dX4_pays_162 : decode cX4_pays 162 = .ok (.iadd, 1) := by decide +kernel
theorem dX4_pays_163 : decode cX4_pays 163 = .ok (.iaload, 1) := by decide +kernel
theorem dX4_pays_164 : decode cX4_pays 164 = .ok (.isub, 1) := by decide +kernel
theorem dX4_pays_165 : decode cX4_pays 165 = .ok (.iadd, 1) := by decide +kernel
theorem dX4_pays_166 : decode cX4_pays 166 = .ok (.iastore, 1) := by decide +kernel
theorem dX4_pays_167 : decode cX4_pays 167 = .ok (.iinc 4 1, 3) := by decide +kernel
theorem dX4_pays_170 : decode cX4_pays 170 = .ok (.goto (-71), 3) := by decide +kernel
theorem dX4_pays_173 : decode cX4_pays 173 = .ok (.aload_n 0, 1) := by decide +kernel
theorem dX4_pays_174 : decode cX4_pays 174 = .ok (.getfield 73, 3) := by decide +kernel
theorem dX4_pays_177 : decode cX4_pays 177 = .ok (.iload_n 2, 1) := by decide +kernel
theorem dX4_pays_178 : decode cX4_pays 178 = .ok (.iaload, 1) := by decide +kernel
theorem dX4_pays_179 : decode cX4_pays 179 = .ok (.ifCond .ne 5, 3) := by decide +kernel
theorem dX4_pays_182 : decode cX4_pays 182 = .ok (.iconst 0, 1) := by decide +kernel
theorem dX4_pays_183 : decode cX4_pays 183 = .ok (.ireturn, 1) := by decide +kernel
theorem dX4_pays_184 : decode cX4_pays 184 = .ok (.iconst 0, 1) := by decide +kernel
theorem dX4_pays_185 : decode cX4_pays 185 = .ok (.istore 4, 2) := by decide +kernel
theorem dX4_pays_187 : decode cX4_pays 187 = .ok (.iconst 0, 1) := by decide +kernel
theorem dX4_pays_188 : decode cX4_pays 188 = .ok (.istore 5, 2) := by decide +kernel
theorem dX4_pays_190 : decode cX4_pays 190 = .ok (.iconst 0, 1) := by decide +kernel
theorem dX4_pays_191 : decode cX4_pays 191 = .ok (.istore 6, 2) := by decide +kernel
theorem dX4_pays_193 : decode cX4_pays 193 = .ok (.iload 6, 2) := by decide +kernel
theorem dX4_pays_195 : decode cX4_pays 195 = .ok (.bipush 31, 2) := by decide +kernel
theorem dX4_pays_197 : decode cX4_pays 197 = .ok (.if_icmp .ge 41, 3) := by decide +kernel
theorem dX4_pays_200 : decode cX4_pays 200 = .ok (.aload_n 0, 1) := by decide +kernel
theorem dX4_pays_201 : decode cX4_pays 201 = .ok (.getfield 73, 3) := by decide +kernel
theorem dX4_pays_204 : decode cX4_pays 204 = .ok (.iload 6, 2) := by decide +kernel
theorem dX4_pays_206 : decode cX4_pays 206 = .ok (.iaload, 1) := by decide +kernel
theorem dX4_pays_207 : decode cX4_pays 207 = .ok (.ifCond .ne 6, 3) := by decide +kernel
theorem dX4_pays_210 : decode cX4_pays 210 = .ok (.goto 22, 3) := by decide +kernel
theorem dX4_pays_213 : decode cX4_pays 213 = .ok (.iinc 4 1, 3) := by decide +kernel
theorem dX4_pays_216 : decode cX4_pays 216 = .ok (.iload 5, 2) := by decide +kernel
theorem dX4_pays_218 : decode cX4_pays 218 = .ok (.iload 6, 2) := by decide +kernel
theorem dX4_pays_220 : decode cX4_pays 220 = .ok (.iload_n 2, 1) := by decide +kernel
theorem dX4_pays_221 : decode cX4_pays 221 = .ok (.if_icmp .ge 7, 3) := by decide +kernel
theorem dX4_pays_224 : decode cX4_pays 224 = .ok (.iconst 1, 1) := by decide +kernel
theorem dX4_pays_225 : decode cX4_pays 225 = .ok (.goto 4, 3) := by decide +kernel
theorem dX4_pays_228 : decode cX4_pays 228 = .ok (.iconst 0, 1) := by decide +kernel
theorem dX4_pays_229 : decode cX4_pays 229 = .ok (.iadd, 1) := by decide +kernel
theorem dX4_pays_230 : decode cX4_pays 230 = .ok (.istore 5, 2) := by decide +kernel
theorem dX4_pays_232 : decode cX4_pays 232 = .ok (.iinc 6 1, 3) := by decide +kernel
theorem dX4_pays_235 : decode cX4_pays 235 = .ok (.goto (-42), 3) := by decide +kernel
theorem dX4_pays_238 : decode cX4_pays 238 = .ok (.iload_n 3, 1) := by decide +kernel
theorem dX4_pays_239 : decode cX4_pays 239 = .ok (.i2l, 1) := by decide +kernel
theorem dX4_pays_240 : decode cX4_pays 240 = .ok (.iload_n 3, 1) := by decide +kernel
theorem dX4_pays_241 : decode cX4_pays 241 = .ok (.i2l, 1) := by decide +kernel
theorem dX4_pays_242 : decode cX4_pays 242 = .ok (.aload_n 0, 1) := by decide +kernel
theorem dX4_pays_243 : decode cX4_pays 243 = .ok (.getfield 57, 3) := by decide +kernel
theorem dX4_pays_246 : decode cX4_pays 246 = .ok (.iconst 3, 1) := by decide +kernel
theorem dX4_pays_247 : decode cX4_pays 247 = .ok (.iaload, 1) := by decide +kernel
theorem dX4_pays_248 : decode cX4_pays 248 = .ok (.i2l, 1) := by decide +kernel
theorem dX4_pays_249 : decode cX4_pays 249 = .ok (.lmul, 1) := by decide +kernel
theorem dX4_pays_250 : decode cX4_pays 250 = .ok (.ldc2_w 227, 3) := by decide +kernel
theorem dX4_pays_253 : decode cX4_pays 253 = .ok (.ldiv, 1) := by decide +kernel
theorem dX4_pays_254 : decode cX4_pays 254 = .ok (.lsub, 1) := by decide +kernel
theorem dX4_pays_255 : decode cX4_pays 255 = .ok (.lstore 6, 2) := by decide +kernel
theorem dX4_pays_257 : decode cX4_pays 257 = .ok (.lload 6, 2) := by decide +kernel
theorem dX4_pays_259 : decode cX4_pays 259 = .ok (.lstore 8, 2) := by decide +kernel
theorem dX4_pays_261 : decode cX4_pays 261 = .ok (.iconst 0, 1) := by decide +kernel
theorem dX4_pays_262 : decode cX4_pays 262 = .ok (.istore 10, 2) := by decide +kernel
theorem dX4_pays_264 : decode cX4_pays 264 = .ok (.iload 10, 2) := by decide +kernel
theorem dX4_pays_266 : decode cX4_pays 266 = .ok (.bipush 31, 2) := by decide +kernel
theorem dX4_pays_268 : decode cX4_pays 268 = .ok (.if_icmp .ge 35, 3) := by decide +kernel
theorem dX4_pays_271 : decode cX4_pays 271 = .ok (.aload_n 0, 1) := by decide +kernel
theorem dX4_pays_272 : decode cX4_pays 272 = .ok (.getfield 73, 3) := by decide +kernel
theorem dX4_pays_275 : decode cX4_pays 275 = .ok (.iload 10, 2) := by decide +kernel
theorem dX4_pays_277 : decode cX4_pays 277 = .ok (.iaload, 1) := by decide +kernel
theorem dX4_pays_278 : decode cX4_pays 278 = .ok (.ifCond .le 19, 3) := by decide +kernel
theorem dX4_pays_281 : decode cX4_pays 281 = .ok (.lload 8, 2) := by decide +kernel
theorem dX4_pays_283 : decode cX4_pays 283 = .ok (.aload_n 0, 1) := by decide +kernel
theorem dX4_pays_284 : decode cX4_pays 284 = .ok (.lload 6, 2) := by decide +kernel
theorem dX4_pays_286 : decode cX4_pays 286 = .ok (.iload 10, 2) := by decide +kernel
theorem dX4_pays_288 : decode cX4_pays 288 = .ok (.iload_n 1, 1) := by decide +kernel
theorem dX4_pays_289 : decode cX4_pays 289 = .ok (.iload 4, 2) := by decide +kernel
theorem dX4_pays_291 : decode cX4_pays 291 = .ok (.invokevirtual 229, 3) := by decide +kernel
theorem dX4_pays_294 : decode cX4_pays 294 = .ok (.lsub, 1) := by decide +kernel
theorem dX4_pays_295 : decode cX4_pays 295 = .ok (.lstore 8, 2) := by decide +kernel
theorem dX4_pays_297 : decode cX4_pays 297 = .ok (.iinc 10 1, 3) := by decide +kernel
theorem dX4_pays_300 : decode cX4_pays 300 = .ok (.goto (-36), 3) := by decide +kernel
theorem dX4_pays_303 : decode cX4_pays 303 = .ok (.aload_n 0, 1) := by decide +kernel
theorem dX4_pays_304 : decode cX4_pays 304 = .ok (.lload 6, 2) := by decide +kernel
theorem dX4_pays_306 : decode cX4_pays 306 = .ok (.iload_n 2, 1) := by decide +kernel
theorem dX4_pays_307 : decode cX4_pays 307 = .ok (.iload_n 1, 1) := by decide +kernel
theorem dX4_pays_308 : decode cX4_pays 308 = .ok (.iload 4, 2) := by decide +kernel
theorem dX4_pays_310 : decode cX4_pays 310 = .ok (.invokevirtual 229, 3) := by decide +kernel
theorem dX4_pays_313 : decode cX4_pays 313 = .ok (.iload 5, 2) := by decide +kernel
theorem dX4_pays_315 : decode cX4_pays 315 = .ok (.i2l, 1) := by decide +kernel
theorem dX4_pays_316 : decode cX4_pays 316 = .ok (.lload 8, 2) := by decide +kernel
theorem dX4_pays_318 : decode cX4_pays 318 = .ok (.lcmp, 1) := by decide +kernel
theorem dX4_pays_319 : decode cX4_pays 319 = .ok (.ifCond .ge 7, 3) := by decide +kernel
theorem dX4_pays_322 : decode cX4_pays 322 = .ok (.lconst 1, 1) := by decide +kernel
theorem dX4_pays_323 : decode cX4_pays 323 = .ok (.goto 4, 3) := by decide +kernel
theorem dX4_pays_326 : decode cX4_pays 326 = .ok (.lconst 0, 1) := by decide +kernel
theorem dX4_pays_327 : decode cX4_pays 327 = .ok (.ladd, 1) := by decide +kernel
theorem dX4_pays_328 : decode cX4_pays 328 = .ok (.l2i, 1) := by decide +kernel
theorem dX4_pays_329 : decode cX4_pays 329 = .ok (.ireturn, 1) := by decide +kernel
theorem dX4_portion_0 : decode cX4_portion 0 = .ok (.aload_n 0, 1) := by decide +kernel
theorem dX4_portion_1 : decode cX4_portion 1 = .ok (.getfield 57, 3) := by decide +kernel
theorem dX4_portion_4 : decode cX4_portion 4 = .ok (.iconst 2, 1) := by decide +kernel
theorem dX4_portion_5 : decode cX4_portion 5 = .ok (.iaload, 1) := by decide +kernel
theorem dX4_portion_6 : decode cX4_portion 6 = .ok (.iconst 1, 1) := by decide +kernel
theorem dX4_portion_7 : decode cX4_portion 7 = .ok (.if_icmp .ne 11, 3) := by decide +kernel
theorem dX4_portion_10 : decode cX4_portion 10 = .ok (.lload_n 1, 1) := by decide +kernel
theorem dX4_portion_11 : decode cX4_portion 11 = .ok (.iload 5, 2) := by decide +kernel
theorem dX4_portion_13 : decode cX4_portion 13 = .ok (.i2l, 1) := by decide +kernel
theorem dX4_portion_14 : decode cX4_portion 14 = .ok (.ldiv, 1) := by decide +kernel
theorem dX4_portion_15 : decode cX4_portion 15 = .ok (.goto 21, 3) := by decide +kernel
theorem dX4_portion_18 : decode cX4_portion 18 = .ok (.lload_n 1, 1) := by decide +kernel
theorem dX4_portion_19 : decode cX4_portion 19 = .ok (.aload_n 0, 1) := by decide +kernel
theorem dX4_portion_20 : decode cX4_portion 20 = .ok (.getfield 73, 3) := by decide +kernel
theorem dX4_portion_23 : decode cX4_portion 23 = .ok (.iload_n 3, 1) := by decide +kernel
theorem dX4_portion_24 : decode cX4_portion 24 = .ok (.iaload, 1) := by decide +kernel
theorem dX4_portion_25 : decode cX4_portion 25 = .ok (.i2l, 1) := by decide +kernel
theorem dX4_portion_26 : decode cX4_portion 26 = .ok (.lmul, 1) := by decide +kernel
theorem dX4_portion_27 : decode cX4_portion 27 = .ok (.aload_n 0, 1) := by decide +kernel
theorem dX4_portion_28 : decode cX4_portion 28 = .ok (.getfield 30, 3) := by decide +kernel
theorem dX4_portion_31 : decode cX4_portion 31 = .ok (.iload 4, 2) := by decide +kernel
theorem dX4_portion_33 : decode cX4_portion 33 = .ok (.iaload, 1) := by decide +kernel
theorem dX4_portion_34 : decode cX4_portion 34 = .ok (.i2l, 1) := by decide +kernel
theorem dX4_portion_35 : decode cX4_portion 35 = .ok (.ldiv, 1) := by decide +kernel
theorem dX4_portion_36 : decode cX4_portion 36 = .ok (.lreturn, 1) := by decide +kernel
theorem dX4_field_0 : decode cX4_field 0 = .ok (.aload_n 0, 1) := by decide +kernel
theorem dX4_field_1 : decode cX4_field 1 = .ok (.iconst 0, 1) := by decide +kernel
theorem dX4_field_2 : decode cX4_field 2 = .ok (.putfield 88, 3) := by decide +kernel
theorem dX4_field_5 : decode cX4_field 5 = .ok (.aload_n 0, 1) := by decide +kernel
theorem dX4_field_6 : decode cX4_field 6 = .ok (.iload_n 1, 1) := by decide +kernel
theorem dX4_field_7 : decode cX4_field 7 = .ok (.iconst 1, 1) := by decide +kernel
theorem dX4_field_8 : decode cX4_field 8 = .ok (.sipush 1000, 3) := by decide +kernel
theorem dX4_field_11 : decode cX4_field 11 = .ok (.invokestatic 94, 3) := by decide +kernel
theorem dX4_field_14 : decode cX4_field 14 = .ok (.ifCond .eq 24, 3) := by decide +kernel
theorem dX4_field_17 : decode cX4_field 17 = .ok (.iload_n 2, 1) := by decide +kernel
theorem dX4_field_18 : decode cX4_field 18 = .ok (.iconst 0, 1) := by decide +kernel
theorem dX4_field_19 : decode cX4_field 19 = .ok (.sipush 10000, 3) := by decide +kernel
theorem dX4_field_22 : decode cX4_field 22 = .ok (.invokestatic 94, 3) := by decide +kernel
theorem dX4_field_25 : decode cX4_field 25 = .ok (.ifCond .eq 13, 3) := by decide +kernel
theorem dX4_field_28 : decode cX4_field 28 = .ok (.iload_n 3, 1) := by decide +kernel
theorem dX4_field_29 : decode cX4_field 29 = .ok (.iconst 0, 1) := by decide +kernel
theorem dX4_field_30 : decode cX4_field 30 = .ok (.bipush 100, 2) := by decide +kernel
theorem dX4_field_32 : decode cX4_field 32 = .ok (.invokestatic 94, 3) := by decide +kernel
theorem dX4_field_35 : decode cX4_field 35 = .ok (.ifCond .ne 7, 3) := by decide +kernel
theorem dX4_field_38 : decode cX4_field 38 = .ok (.iconst 1, 1) := by decide +kernel
theorem dX4_field_39 : decode cX4_field 39 = .ok (.goto 4, 3) := by decide +kernel
theorem dX4_field_42 : decode cX4_field 42 = .ok (.iconst 0, 1) := by decide +kernel
theorem dX4_field_43 : decode cX4_field 43 = .ok (.iconst 1, 1) := by decide +kernel
theorem dX4_field_44 : decode cX4_field 44 = .ok (.invokevirtual 105, 3) := by decide +kernel
theorem dX4_field_47 : decode cX4_field 47 = .ok (.ifCond .eq 5, 3) := by decide +kernel
theorem dX4_field_50 : decode cX4_field 50 = .ok (.iconst 0, 1) := by decide +kernel
theorem dX4_field_51 : decode cX4_field 51 = .ok (.ireturn, 1) := by decide +kernel
theorem dX4_field_52 : decode cX4_field 52 = .ok (.aload_n 0, 1) := by decide +kernel
theorem dX4_field_53 : decode cX4_field 53 = .ok (.getfield 233, 3) := by decide +kernel
theorem dX4_field_56 : decode cX4_field 56 = .ok (.bipush 9, 2) := by decide +kernel
theorem dX4_field_58 : decode cX4_field 58 = .ok (.if_icmp .ne 5, 3) := by decide +kernel
theorem dX4_field_61 : decode cX4_field 61 = .ok (.iconst (-1), 1) := by decide +kernel
theorem dX4_field_62 : decode cX4_field 62 = .ok (.ireturn, 1) := by decide +kernel
theorem dX4_field_63 : decode cX4_field 63 = .ok (.aload_n 0, 1) := by decide +kernel
theorem dX4_field_64 : decode cX4_field 64 = .ok (.getfield 76, 3) := by decide +kernel
theorem dX4_field_67 : decode cX4_field 67 = .ok (.aload_n 0, 1) := by decide +kernel
theorem dX4_field_68 : decode cX4_field 68 = .ok (.getfield 233, 3) := by decide +kernel
theorem dX4_field_71 : decode cX4_field 71 = .ok (.iload_n 1, 1) := by decide +kernel
theorem dX4_field_72 : decode cX4_field 72 = .ok (.iastore, 1) := by decide +kernel
theorem dX4_field_73 : decode cX4_field 73 = .ok (.aload_n 0, 1) := by decide +kernel
theorem dX4_field_74 : decode cX4_field 74 = .ok (.getfield 79, 3) := by decide +kernel
theorem dX4_field_77 : decode cX4_field 77 = .ok (.aload_n 0, 1) := by decide +kernel
theorem dX4_field_78 : decode cX4_field 78 = .ok (.getfield 233, 3) := by decide +kernel
theorem dX4_field_81 : decode cX4_field 81 = .ok (.iload_n 2, 1) := by decide +kernel
theorem dX4_field_82 : decode cX4_field 82 = .ok (.iastore, 1) := by decide +kernel
theorem dX4_field_83 : decode cX4_field 83 = .ok (.aload_n 0, 1) := by decide +kernel
theorem dX4_field_84 : decode cX4_field 84 = .ok (.getfield 82, 3) := by decide +kernel
theorem dX4_field_87 : decode cX4_field 87 = .ok (.aload_n 0, 1) := by decide +kernel
theorem dX4_field_88 : decode cX4_field 88 = .ok (.getfield 233, 3) := by decide +kernel
theorem dX4_field_91 : decode cX4_field 91 = .ok (.iload_n 3, 1) := by decide +kernel
theorem dX4_field_92 : decode cX4_field 92 = .ok (.iastore, 1) := by decide +kernel
theorem dX4_field_93 : decode cX4_field 93 = .ok (.aload_n 0, 1) := by decide +kernel
theorem dX4_field_94 : decode cX4_field 94 = .ok (.dup, 1) := by decide +kernel
theorem dX4_field_95 : decode cX4_field 95 = .ok (.getfield 233, 3) := by decide +kernel
theorem dX4_field_98 : decode cX4_field 98 = .ok (.iconst 1, 1) := by decide +kernel
theorem dX4_field_99 : decode cX4_field 99 = .ok (.iadd, 1) := by decide +kernel
theorem dX4_field_100 : decode cX4_field 100 = .ok (.putfield 233, 3) := by decide +kernel
theorem dX4_field_103 : decode cX4_field 103 = .ok (.aload_n 0, 1) := by decide +kernel
theorem dX4_field_104 : decode cX4_field 104 = .ok (.getfield 233, 3) := by decide +kernel
theorem dX4_field_107 : decode cX4_field 107 = .ok (.ireturn, 1) := by decide +kernel
theorem dX4_least_0 : decode cX4_least 0 = .ok (.aload_n 0, 1) := by decide +kernel
theorem dX4_least_1 : decode cX4_least 1 = .ok (.iconst 0, 1) := by decide +kernel
theorem dX4_least_2 : decode cX4_least 2 = .ok (.putfield 88, 3) := by decide +kernel
theorem dX4_least_5 : decode cX4_least 5 = .ok (.aload_n 0, 1) := by decide +kernel
theorem dX4_least_6 : decode cX4_least 6 = .ok (.getfield 85, 3) := by decide +kernel
theorem dX4_least_9 : decode cX4_least 9 = .ok (.iconst 0, 1) := by decide +kernel
theorem dX4_least_10 : decode cX4_least 10 = .ok (.iconst 0, 1) := by decide +kernel
theorem dX4_least_11 : decode cX4_least 11 = .ok (.iastore, 1) := by decide +kernel
theorem dX4_least_12 : decode cX4_least 12 = .ok (.iconst 1, 1) := by decide +kernel
theorem dX4_least_13 : decode cX4_least 13 = .ok (.istore_n 1, 1) := by decide +kernel
theorem dX4_least_14 : decode cX4_least 14 = .ok (.iload_n 1, 1) := by decide +kernel
theorem dX4_least_15 : decode cX4_least 15 = .ok (.iconst 1, 1) := by decide +kernel
theorem dX4_least_16 : decode cX4_least 16 = .ok (.aload_n 0, 1) := by decide +kernel
theorem dX4_least_17 : decode cX4_least 17 = .ok (.getfield 233, 3) := by decide +kernel
theorem dX4_least_20 : decode cX4_least 20 = .ok (.ishl, 1) := by decide +kernel
theorem dX4_least_21 : decode cX4_least 21 = .ok (.if_icmp .ge 127, 3) := by decide +kernel
theorem dX4_least_24 : decode cX4_least 24 = .ok (.iconst 0, 1) := by decide +kernel
theorem dX4_least_25 : decode cX4_least 25 = .ok (.istore_n 2, 1) := by decide +kernel
theorem dX4_least_26 : decode cX4_least 26 = .ok (.iconst 0, 1) := by decide +kernel
theorem dX4_least_27 : decode cX4_least 27 = .ok (.istore_n 3, 1) := by decide +kernel
theorem dX4_least_28 : decode cX4_least 28 = .ok (.iload_n 3, 1) := by decide +kernel
theorem dX4_least_29 : decode cX4_least 29 = .ok (.aload_n 0, 1) := by decide +kernel
theorem dX4_least_30 : decode cX4_least 30 = .ok (.getfield 233, 3) := by decide +kernel
theorem dX4_least_33 : decode cX4_least 33 = .ok (.if_icmp .ge 31, 3) := by decide +kernel
theorem dX4_least_36 : decode cX4_least 36 = .ok (.iload_n 2, 1) := by decide +kernel
theorem dX4_least_37 : decode cX4_least 37 = .ok (.iload_n 1, 1) := by decide +kernel
theorem dX4_least_38 : decode cX4_least 38 = .ok (.iload_n 3, 1) := by decide +kernel
theorem dX4_least_39 : decode cX4_least 39 = .ok (.ishr, 1) := by decide +kernel
theorem dX4_least_40 : decode cX4_least 40 = .ok (.iconst 1, 1) := by decide +kernel
theorem dX4_least_41 : decode cX4_least 41 = .ok (.iand, 1) := by decide +kernel
theorem dX4_least_42 : decode cX4_least 42 = .ok (.iconst 1, 1) := by decide +kernel
theorem dX4_least_43 : decode cX4_least 43 = .ok (.if_icmp .ne 12, 3) := by decide +kernel
theorem dX4_least_46 : decode cX4_least 46 = .ok (.aload_n 0, 1) := by decide +kernel
theorem dX4_least_47 : decode cX4_least 47 = .ok (.getfield 76, 3) := by decide +kernel
theorem dX4_least_50 : decode cX4_least 50 = .ok (.iload_n 3, 1) := by decide +kernel
theorem dX4_least_51 : decode cX4_least 51 = .ok (.iaload, 1) := by decide +kernel
theorem dX4_least_52 : decode cX4_least 52 = .ok (.goto 4, 3) := by decide +kernel
theorem dX4_least_55 : decode cX4_least 55 = .ok (.iconst 0, 1) := by decide +kernel
theorem dX4_least_56 : decode cX4_least 56 = .ok (.iadd, 1) := by decide +kernel
theorem dX4_least_57 : decode cX4_least 57 = .ok (.istore_n 2, 1) := by decide +kernel
theorem dX4_least_58 : decode cX4_least 58 = .ok (.iinc 3 1, 3) := by decide +kernel
theorem dX4_least_61 : decode cX4_least 61 = .ok (.goto (-33), 3) := by decide +kernel
theorem dX4_least_64 : decode cX4_least 64 = .ok (.ldc 238, 2) := by decide +kernel
theorem dX4_least_66 : decode cX4_least 66 = .ok (.istore_n 3, 1) := by decide +kernel
theorem dX4_least_67 : decode cX4_least 67 = .ok (.iconst 0, 1) := by decide +kernel
theorem dX4_least_68 : decode cX4_least 68 = .ok (.istore 4, 2) := by decide +kernel
theorem dX4_least_70 : decode cX4_least 70 = .ok (.iload 4, 2) := by decide +kernel
theorem dX4_least_72 : decode cX4_least 72 = .ok (.aload_n 0, 1) := by decide +kernel
theorem dX4_least_73 : decode cX4_least 73 = .ok (.getfield 233, 3) := by decide +kernel
theorem dX4_least_76 : decode cX4_least 76 = .ok (.if_icmp .ge 59, 3) := by decide +kernel
theorem dX4_least_79 : decode cX4_least 79 = .ok (.iload_n 1, 1) := by decide +kernel
theorem dX4_least_80 : decode cX4_least 80 = .ok (.iload 4, 2) := by decide +kernel
theorem dX4_least_82 : decode cX4_least 82 = .ok (.ishr, 1) := by decide +kernel
theorem dX4_least_83 : decode cX4_least 83 = .ok (.iconst 1, 1) := by decide +kernel
theorem dX4_least_84 : decode cX4_least 84 = .ok (.iand, 1) := by decide +kernel
theorem dX4_least_85 : decode cX4_least 85 = .ok (.iconst 1, 1) := by decide +kernel
theorem dX4_least_86 : decode cX4_least 86 = .ok (.if_icmp .ne 43, 3) := by decide +kernel
theorem dX4_least_89 : decode cX4_least 89 = .ok (.iload_n 3, 1) := by decide +kernel
theorem dX4_least_90 : decode cX4_least 90 = .ok (.aload_n 0, 1) := by decide +kernel
theorem dX4_least_91 : decode cX4_least 91 = .ok (.getfield 85, 3) := by decide +kernel
theorem dX4_least_94 : decode cX4_least 94 = .ok (.iload_n 1, 1) := by decide +kernel
theorem dX4_least_95 : decode cX4_least 95 = .ok (.iconst 1, 1) := by decide +kernel
theorem dX4_least_96 : decode cX4_least 96 = .ok (.iload 4, 2) := by decide +kernel
theorem dX4_least_98 : decode cX4_least 98 = .ok (.ishl, 1) := by decide +kernel
theorem dX4_least_99 : decode cX4_least 99 = .ok (.iconst (-1), 1) := by decide +kernel
theorem dX4_least_100 : decode cX4_least 100 = .ok (.ixor, 1) := by decide +kernel
theorem dX4_least_101 : decode cX4_least 101 = .ok (.iand, 1) := by decide +kernel
theorem dX4_least_102 : decode cX4_least 102 = .ok (.iaload, 1) := by decide +kernel
theorem dX4_least_103 : decode cX4_least 103 = .ok (.aload_n 0, 1) := by decide +kernel
theorem dX4_least_104 : decode cX4_least 104 = .ok (.getfield 82, 3) := by decide +kernel
theorem dX4_least_107 : decode cX4_least 107 = .ok (.iload 4, 2) := by decide +kernel
theorem dX4_least_109 : decode cX4_least 109 = .ok (.iaload, 1) := by decide +kernel
theorem dX4_least_110 : decode cX4_least 110 = .ok (.iconst 0, 1) := by decide +kernel
theorem dX4_least_111 : decode cX4_least 111 = .ok (.iload_n 2, 1) := by decide +kernel
theorem dX4_least_112 : decode cX4_least 112 = .ok (.aload_n 0, 1) := by decide +kernel
theorem dX4_least_113 : decode cX4_least 113 = .ok (.getfield 79, 3) := by decide +kernel
theorem dX4_least_116 : decode cX4_least 116 = .ok (.iload 4, 2) := by decide +kernel
theorem dX4_least_118 : decode cX4_least 118 = .ok (.iaload, 1) := by decide +kernel
theorem dX4_least_119 : decode cX4_least 119 = .ok (.isub, 1) := by decide +kernel
theorem dX4_least_120 : decode cX4_least 120 = .ok (.invokestatic 115, 3) := by decide +kernel
theorem dX4_least_123 : decode cX4_least 123 = .ok (.imul, 1) := by decide +kernel
theorem dX4_least_124 : decode cX4_least 124 = .ok (.iadd, 1) := by decide +kernel
theorem dX4_least_125 : decode cX4_least 125 = .ok (.invokestatic 147, 3) := by decide +kernel
theorem dX4_least_128 : decode cX4_least 128 = .ok (.istore_n 3, 1) := by decide +kernel
theorem dX4_least_129 : decode cX4_least 129 = .ok (.iinc 4 1, 3) := by decide +kernel
theorem dX4_least_132 : decode cX4_least 132 = .ok (.goto (-62), 3) := by decide +kernel
theorem dX4_least_135 : decode cX4_least 135 = .ok (.aload_n 0, 1) := by decide +kernel
theorem dX4_least_136 : decode cX4_least 136 = .ok (.getfield 85, 3) := by decide +kernel
theorem dX4_least_139 : decode cX4_least 139 = .ok (.iload_n 1, 1) := by decide +kernel
theorem dX4_least_140 : decode cX4_least 140 = .ok (.iload_n 3, 1) := by decide +kernel
theorem dX4_least_141 : decode cX4_least 141 = .ok (.iastore, 1) := by decide +kernel
theorem dX4_least_142 : decode cX4_least 142 = .ok (.iinc 1 1, 3) := by decide +kernel
theorem dX4_least_145 : decode cX4_least 145 = .ok (.goto (-131), 3) := by decide +kernel
theorem dX4_least_148 : decode cX4_least 148 = .ok (.aload_n 0, 1) := by decide +kernel
theorem dX4_least_149 : decode cX4_least 149 = .ok (.getfield 85, 3) := by decide +kernel
theorem dX4_least_152 : decode cX4_least 152 = .ok (.iconst 1, 1) := by decide +kernel
theorem dX4_least_153 : decode cX4_least 153 = .ok (.aload_n 0, 1) := by decide +kernel
theorem dX4_least_154 : decode cX4_least 154 = .ok (.getfield 233, 3) := by decide +kernel
theorem dX4_least_157 : decode cX4_least 157 = .ok (.ishl, 1) := by decide +kernel
theorem dX4_least_158 : decode cX4_least 158 = .ok (.iconst 1, 1) := by decide +kernel
theorem dX4_least_159 : decode cX4_least 159 = .ok (.isub, 1) := by decide +kernel
theorem dX4_least_160 : decode cX4_least 160 = .ok (.iaload, 1) := by decide +kernel
theorem dX4_least_161 : decode cX4_least 161 = .ok (.istore_n 1, 1) := by decide +kernel
theorem dX4_least_162 : decode cX4_least 162 = .ok (.aload_n 0, 1) := by decide +kernel
theorem dX4_least_163 : decode cX4_least 163 = .ok (.iconst 0, 1) := by decide +kernel
theorem dX4_least_164 : decode cX4_least 164 = .ok (.putfield 233, 3) := by decide +kernel
theorem dX4_least_167 : decode cX4_least 167 = .ok (.iload_n 1, 1) := by decide +kernel
theorem dX4_least_168 : decode cX4_least 168 = .ok (.ireturn, 1) := by decide +kernel
theorem dX4_count_0 : decode cX4_count 0 = .ok (.aload_n 0, 1) := by decide +kernel
theorem dX4_count_1 : decode cX4_count 1 = .ok (.iconst 0, 1) := by decide +kernel
theorem dX4_count_2 : decode cX4_count 2 = .ok (.putfield 88, 3) := by decide +kernel
theorem dX4_count_5 : decode cX4_count 5 = .ok (.iconst 0, 1) := by decide +kernel
theorem dX4_count_6 : decode cX4_count 6 = .ok (.istore_n 2, 1) := by decide +kernel
theorem dX4_count_7 : decode cX4_count 7 = .ok (.iload_n 1, 1) := by decide +kernel
theorem dX4_count_8 : decode cX4_count 8 = .ok (.tableswitch 153 0 7 #[48, 53, 58, 63, 68, 73, 107, 112], 48) := by decide +kernel
theorem dX4_count_56 : decode cX4_count 56 = .ok (.aload_n 0, 1) := by decide +kernel
theorem dX4_count_57 : decode cX4_count 57 = .ok (.getfield 91, 3) := by decide +kernel
theorem dX4_count_60 : decode cX4_count 60 = .ok (.ireturn, 1) := by decide +kernel
theorem dX4_count_61 : decode cX4_count 61 = .ok (.aload_n 0, 1) := by decide +kernel
theorem dX4_count_62 : decode cX4_count 62 = .ok (.getfield 129, 3) := by decide +kernel
theorem dX4_count_65 : decode cX4_count 65 = .ok (.ireturn, 1) := by decide +kernel
theorem dX4_count_66 : decode cX4_count 66 = .ok (.aload_n 0, 1) := by decide +kernel
theorem dX4_count_67 : decode cX4_count 67 = .ok (.getfield 126, 3) := by decide +kernel
theorem dX4_count_70 : decode cX4_count 70 = .ok (.ireturn, 1) := by decide +kernel
theorem dX4_count_71 : decode cX4_count 71 = .ok (.aload_n 0, 1) := by decide +kernel
theorem dX4_count_72 : decode cX4_count 72 = .ok (.getfield 159, 3) := by decide +kernel
theorem dX4_count_75 : decode cX4_count 75 = .ok (.ireturn, 1) := by decide +kernel
theorem dX4_count_76 : decode cX4_count 76 = .ok (.aload_n 0, 1) := by decide +kernel
theorem dX4_count_77 : decode cX4_count 77 = .ok (.getfield 102, 3) := by decide +kernel
theorem dX4_count_80 : decode cX4_count 80 = .ok (.ireturn, 1) := by decide +kernel
theorem dX4_count_81 : decode cX4_count 81 = .ok (.iconst 0, 1) := by decide +kernel
theorem dX4_count_82 : decode cX4_count 82 = .ok (.istore_n 3, 1) := by decide +kernel
theorem dX4_count_83 : decode cX4_count 83 = .ok (.iload_n 3, 1) := by decide +kernel
theorem dX4_count_84 : decode cX4_count 84 = .ok (.aload_n 0, 1) := by decide +kernel
theorem dX4_count_85 : decode cX4_count 85 = .ok (.getfield 102, 3) := by decide +kernel
theorem dX4_count_88 : decode cX4_count 88 = .ok (.if_icmp .ge 25, 3) := by decide +kernel
theorem dX4_count_91 : decode cX4_count 91 = .ok (.iload_n 2, 1) := by decide +kernel
theorem dX4_count_92 : decode cX4_count 92 = .ok (.aload_n 0, 1) := by decide +kernel
theorem dX4_count_93 : decode cX4_count 93 = .ok (.iload_n 3, 1) := by decide +kernel
theorem dX4_count_94 : decode cX4_count 94 = .ok (.invokevirtual 165, 3) := by decide +kernel
theorem dX4_count_97 : decode cX4_count 97 = .ok (.ifCond .eq 7, 3) := by decide +kernel
theorem dX4_count_100 : decode cX4_count 100 = .ok (.iconst 1, 1) := by decide +kernel
theorem dX4_count_101 : decode cX4_count 101 = .ok (.goto 4, 3) := by decide +kernel
theorem dX4_count_104 : decode cX4_count 104 = .ok (.iconst 0, 1) := by decide +kernel
theorem dX4_count_105 : decode cX4_count 105 = .ok (.iadd, 1) := by decide +kernel
theorem dX4_count_106 : decode cX4_count 106 = .ok (.istore_n 2, 1) := by decide +kernel
theorem dX4_count_107 : decode cX4_count 107 = .ok (.iinc 3 1, 3) := by decide +kernel
theorem dX4_count_110 : decode cX4_count 110 = .ok (.goto (-27), 3) := by decide +kernel
theorem dX4_count_113 : decode cX4_count 113 = .ok (.iload_n 2, 1) := by decide +kernel
theorem dX4_count_114 : decode cX4_count 114 = .ok (.ireturn, 1) := by decide +kernel
theorem dX4_count_115 : decode cX4_count 115 = .ok (.aload_n 0, 1) := by decide +kernel
theorem dX4_count_116 : decode cX4_count 116 = .ok (.getfield 233, 3) := by decide +kernel
theorem dX4_count_119 : decode cX4_count 119 = .ok (.ireturn, 1) := by decide +kernel
theorem dX4_count_120 : decode cX4_count 120 = .ok (.iconst 0, 1) := by decide +kernel
theorem dX4_count_121 : decode cX4_count 121 = .ok (.istore_n 3, 1) := by decide +kernel
theorem dX4_count_122 : decode cX4_count 122 = .ok (.iload_n 3, 1) := by decide +kernel
theorem dX4_count_123 : decode cX4_count 123 = .ok (.aload_n 0, 1) := by decide +kernel
theorem dX4_count_124 : decode cX4_count 124 = .ok (.getfield 91, 3) := by decide +kernel
theorem dX4_count_127 : decode cX4_count 127 = .ok (.if_icmp .ge 32, 3) := by decide +kernel
theorem dX4_count_130 : decode cX4_count 130 = .ok (.iload_n 2, 1) := by decide +kernel
theorem dX4_count_131 : decode cX4_count 131 = .ok (.aload_n 0, 1) := by decide +kernel
theorem dX4_count_132 : decode cX4_count 132 = .ok (.getfield 20, 3) := by decide +kernel
theorem dX4_count_135 : decode cX4_count 135 = .ok (.iload_n 3, 1) := by decide +kernel
theorem dX4_count_136 : decode cX4_count 136 = .ok (.baload, 1) := by decide +kernel
theorem dX4_count_137 : decode cX4_count 137 = .ok (.ifCond .eq 13, 3) := by decide +kernel
theorem dX4_count_140 : decode cX4_count 140 = .ok (.aload_n 0, 1) := by decide +kernel
theorem dX4_count_141 : decode cX4_count 141 = .ok (.iload_n 3, 1) := by decide +kernel
theorem dX4_count_142 : decode cX4_count 142 = .ok (.bipush 8, 2) := by decide +kernel
theorem dX4_count_144 : decode cX4_count 144 = .ok (.invokevirtual 153, 3) := by decide +kernel
theorem dX4_count_147 : decode cX4_count 147 = .ok (.goto 4, 3) := by decide +kernel
theorem dX4_count_150 : decode cX4_count 150 = .ok (.iconst 0, 1) := by decide +kernel
theorem dX4_count_151 : decode cX4_count 151 = .ok (.iadd, 1) := by decide +kernel
theorem dX4_count_152 : decode cX4_count 152 = .ok (.istore_n 2, 1) := by decide +kernel
theorem dX4_count_153 : decode cX4_count 153 = .ok (.iinc 3 1, 3) := by decide +kernel
theorem dX4_count_156 : decode cX4_count 156 = .ok (.goto (-34), 3) := by decide +kernel
theorem dX4_count_159 : decode cX4_count 159 = .ok (.iload_n 2, 1) := by decide +kernel
theorem dX4_count_160 : decode cX4_count 160 = .ok (.ireturn, 1) := by decide +kernel
theorem dX4_count_161 : decode cX4_count 161 = .ok (.iconst (-1), 1) := by decide +kernel
theorem dX4_count_162 : decode cX4_count 162 = .ok (.ireturn, 1) := by decide +kernel
