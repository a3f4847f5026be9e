set_option maxRecDepth 100000
theorem dL_law_0 : decode cL_law 0 = .ok (.new 8, 3) := by decide +kernel
theorem dL_law_3 : decode cL_law 3 = .ok (.dup, 1) := by decide +kernel
theorem dL_law_4 : decode cL_law 4 = .ok (.invokespecial 89, 3) := by decide +kernel
theorem dL_law_7 : decode cL_law 7 = .ok (.astore_n 1, 1) := by decide +kernel
theorem dL_law_8 : decode cL_law 8 = .ok (.new 90, 3) := by decide +kernel
theorem dL_law_11 : decode cL_law 11 = .ok (.dup, 1) := by decide +kernel
theorem dL_law_12 : decode cL_law 12 = .ok (.invokespecial 92, 3) := by decide +kernel
theorem dL_law_15 : decode cL_law 15 = .ok (.astore_n 2, 1) := by decide +kernel
theorem dL_law_16 : decode cL_law 16 = .ok (.iconst 1, 1) := by decide +kernel
theorem dL_law_17 : decode cL_law 17 = .ok (.newarray .long, 2) := by decide +kernel
theorem dL_law_19 : decode cL_law 19 = .ok (.astore_n 3, 1) := by decide +kernel
theorem dL_law_20 : decode cL_law 20 = .ok (.iconst 0, 1) := by decide +kernel
theorem dL_law_21 : decode cL_law 21 = .ok (.istore 4, 2) := by decide +kernel
theorem dL_law_23 : decode cL_law 23 = .ok (.iload 4, 2) := by decide +kernel
theorem dL_law_25 : decode cL_law 25 = .ok (.aload_n 0, 1) := by decide +kernel
theorem dL_law_26 : decode cL_law 26 = .ok (.arraylength, 1) := by decide +kernel
theorem dL_law_27 : decode cL_law 27 = .ok (.bipush 11, 2) := by decide +kernel
theorem dL_law_29 : decode cL_law 29 = .ok (.isub, 1) := by decide +kernel
theorem dL_law_30 : decode cL_law 30 = .ok (.if_icmp .gt 1717, 3) := by decide +kernel
theorem dL_law_33 : decode cL_law 33 = .ok (.aload_n 0, 1) := by decide +kernel
theorem dL_law_34 : decode cL_law 34 = .ok (.iload 4, 2) := by decide +kernel
theorem dL_law_36 : decode cL_law 36 = .ok (.iaload, 1) := by decide +kernel
theorem dL_law_37 : decode cL_law 37 = .ok (.bipush 31, 2) := by decide +kernel
theorem dL_law_39 : decode cL_law 39 = .ok (.iand, 1) := by decide +kernel
theorem dL_law_40 : decode cL_law 40 = .ok (.tableswitch 1701 0 24 #[116, 189, 214, 262, 306, 398, 461, 541, 597, 700, 756, 812, 880, 952, 1126, 1198, 1254, 1322, 1390, 1434, 1447, 1503, 1583, 1663, 1676], 116) := by decide +kernel
theorem dL_law_156 : decode cL_law 156 = .ok (.aload_n 1, 1) := by decide +kernel
theorem dL_law_157 : decode cL_law 157 = .ok (.aload_n 0, 1) := by decide +kernel
theorem dL_law_158 : decode cL_law 158 = .ok (.iload 4, 2) := by decide +kernel
theorem dL_law_160 : decode cL_law 160 = .ok (.iconst 1, 1) := by decide +kernel
theorem dL_law_161 : decode cL_law 161 = .ok (.iadd, 1) := by decide +kernel
theorem dL_law_162 : decode cL_law 162 = .ok (.iaload, 1) := by decide +kernel
theorem dL_law_163 : decode cL_law 163 = .ok (.aload_n 0, 1) := by decide +kernel
theorem dL_law_164 : decode cL_law 164 = .ok (.iload 4, 2) := by decide +kernel
theorem dL_law_166 : decode cL_law 166 = .ok (.iconst 2, 1) := by decide +kernel
theorem dL_law_167 : decode cL_law 167 = .ok (.iadd, 1) := by decide +kernel
theorem dL_law_168 : decode cL_law 168 = .ok (.iaload, 1) := by decide +kernel
theorem dL_law_169 : decode cL_law 169 = .ok (.aload_n 0, 1) := by decide +kernel
theorem dL_law_170 : decode cL_law 170 = .ok (.iload 4, 2) := by decide +kernel
theorem dL_law_172 : decode cL_law 172 = .ok (.iconst 3, 1) := by decide +kernel
theorem dL_law_173 : decode cL_law 173 = .ok (.iadd, 1) := by decide +kernel
theorem dL_law_174 : decode cL_law 174 = .ok (.iaload, 1) := by decide +kernel
theorem dL_law_175 : decode cL_law 175 = .ok (.aload_n 0, 1) := by decide +kernel
theorem dL_law_176 : decode cL_law 176 = .ok (.iload 4, 2) := by decide +kernel
theorem dL_law_178 : decode cL_law 178 = .ok (.iconst 4, 1) := by decide +kernel
theorem dL_law_179 : decode cL_law 179 = .ok (.iadd, 1) := by decide +kernel
theorem dL_law_180 : decode cL_law 180 = .ok (.iaload, 1) := by decide +kernel
theorem dL_law_181 : decode cL_law 181 = .ok (.aload_n 0, 1) := by decide +kernel
theorem dL_law_182 : decode cL_law 182 = .ok (.iload 4, 2) := by decide +kernel
theorem dL_law_184 : decode cL_law 184 = .ok (.iconst 5, 1) := by decide +kernel
theorem dL_law_185 : decode cL_law 185 = .ok (.iadd, 1) := by decide +kernel
theorem dL_law_186 : decode cL_law 186 = .ok (.iaload, 1) := by decide +kernel
theorem dL_law_187 : decode cL_law 187 = .ok (.invokevirtual 93, 3) := by decide +kernel
theorem dL_law_190 : decode cL_law 190 = .ok (.aload_n 2, 1) := by decide +kernel
theorem dL_law_191 : decode cL_law 191 = .ok (.aload_n 0, 1) := by decide +kernel
theorem dL_law_192 : decode cL_law 192 = .ok (.iload 4, 2) := by decide +kernel
theorem dL_law_194 : decode cL_law 194 = .ok (.iconst 1, 1) := by decide +kernel
theorem dL_law_195 : decode cL_law 195 = .ok (.iadd, 1) := by decide +kernel
theorem dL_law_196 : decode cL_law 196 = .ok (.iaload, 1) := by decide +kernel
theorem dL_law_197 : decode cL_law 197 = .ok (.aload_n 0, 1) := by decide +kernel
theorem dL_law_198 : decode cL_law 198 = .ok (.iload 4, 2) := by decide +kernel
theorem dL_law_200 : decode cL_law 200 = .ok (.iconst 2, 1) := by decide +kernel
theorem dL_law_201 : decode cL_law 201 = .ok (.iadd, 1) := by decide +kernel
theorem dL_law_202 : decode cL_law 202 = .ok (.iaload, 1) := by decide +kernel
theorem dL_law_203 : decode cL_law 203 = .ok (.aload_n 0, 1) := by decide +kernel
theorem dL_law_204 : decode cL_law 204 = .ok (.iload 4, 2) := by decide +kernel
theorem dL_law_206 : decode cL_law 206 = .ok (.iconst 3, 1) := by decide +kernel
theorem dL_law_207 : decode cL_law 207 = .ok (.iadd, 1) := by decide +kernel
theorem dL_law_208 : decode cL_law 208 = .ok (.iaload, 1) := by decide +kernel
theorem dL_law_209 : decode cL_law 209 = .ok (.aload_n 0, 1) := by decide +kernel
theorem dL_law_210 : decode cL_law 210 = .ok (.iload 4, 2) := by decide +kernel
theorem dL_law_212 : decode cL_law 212 = .ok (.iconst 4, 1) := by decide +kernel
theorem dL_law_213 : decode cL_law 213 = .ok (.iadd, 1) := by decide +kernel
theorem dL_law_214 : decode cL_law 214 = .ok (.iaload, 1) := by decide +kernel
theorem dL_law_215 : decode cL_law 215 = .ok (.aload_n 0, 1) := by decide +kernel
theorem dL_law_216 : decode cL_law 216 = .ok (.iload 4, 2) := by decide +kernel
theorem dL_law_218 : decode cL_law 218 = .ok (.iconst 5, 1) := by decide +kernel
theorem dL_law_219 : decode cL_law 219 = .ok (.iadd, 1) := by decide +kernel
theorem dL_law_220 : decode cL_law 220 = .ok (.iaload, 1) := by decide +kernel
theorem dL_law_221 : decode cL_law 221 = .ok (.invokevirtual 97, 3) := by decide +kernel
theorem dL_law_224 : decode cL_law 224 = .ok (.if_icmp .eq 1517, 3) := by decide +kernel
theorem dL_law_227 : decode cL_law 227 = .ok (.iconst 0, 1) := by decide +kernel
theorem dL_law_228 : decode cL_law 228 = .ok (.ireturn, 1) := by decide +kernel
theorem dL_law_229 : decode cL_law 229 = .ok (.aload_n 1, 1) := by decide +kernel
theorem dL_law_230 : decode cL_law 230 = .ok (.aload_n 0, 1) := by decide +kernel
theorem dL_law_231 : decode cL_law 231 = .ok (.iload 4, 2) := by decide +kernel
theorem dL_law_233 : decode cL_law 233 = .ok (.iconst 1, 1) := by decide +kernel
theorem dL_law_234 : decode cL_law 234 = .ok (.iadd, 1) := by decide +kernel
theorem dL_law_235 : decode cL_law 235 = .ok (.iaload, 1) := by decide +kernel
theorem dL_law_236 : decode cL_law 236 = .ok (.invokevirtual 98, 3) := by decide +kernel
theorem dL_law_239 : decode cL_law 239 = .ok (.aload_n 2, 1) := by decide +kernel
theorem dL_law_240 : decode cL_law 240 = .ok (.aload_n 0, 1) := by decide +kernel
theorem dL_law_241 : decode cL_law 241 = .ok (.iload 4, 2) := by decide +kernel
theorem dL_law_243 : decode cL_law 243 = .ok (.iconst 1, 1) := by decide +kernel
theorem dL_law_244 : decode cL_law 244 = .ok (.iadd, 1) := by decide +kernel
theorem dL_law_245 : decode cL_law 245 = .ok (.iaload, 1) := by decide +kernel
theorem dL_law_246 : decode cL_law 246 = .ok (.invokevirtual 101, 3) := by decide +kernel
theorem dL_law_249 : decode cL_law 249 = .ok (.if_icmp .eq 1492, 3) := by decide +kernel
theorem dL_law_252 : decode cL_law 252 = .ok (.iconst 0, 1) := by decide +kernel
theorem dL_law_253 : decode cL_law 253 = .ok (.ireturn, 1) := by decide +kernel
theorem dL_law_254 : decode cL_law 254 = .ok (.aload_n 1, 1) := by decide +kernel
theorem dL_law_255 : decode cL_law 255 = .ok (.aload_n 0, 1) := by decide +kernel
theorem dL_law_256 : decode cL_law 256 = .ok (.iload 4, 2) := by decide +kernel
theorem dL_law_258 : decode cL_law 258 = .ok (.iconst 1, 1) := by decide +kernel
theorem dL_law_259 : decode cL_law 259 = .ok (.iadd, 1) := by decide +kernel
theorem dL_law_260 : decode cL_law 260 = .ok (.iaload, 1) := by decide +kernel
theorem dL_law_261 : decode cL_law 261 = .ok (.aload_n 0, 1) := by decide +kernel
theorem dL_law_262 : decode cL_law 262 = .ok (.iload 4, 2) := by decide +kernel
theorem dL_law_264 : decode cL_law 264 = .ok (.iconst 2, 1) := by decide +kernel
theorem dL_law_265 : decode cL_law 265 = .ok (.iadd, 1) := by decide +kernel
theorem dL_law_266 : decode cL_law 266 = .ok (.iaload, 1) := by decide +kernel
theorem dL_law_267 : decode cL_law 267 = .ok (.invokestatic 102, 3) := by decide +kernel
theorem dL_law_270 : decode cL_law 270 = .ok (.istore 5, 2) := by decide +kernel
theorem dL_law_272 : decode cL_law 272 = .ok (.aload_n 2, 1) := by decide +kernel
theorem dL_law_273 : decode cL_law 273 = .ok (.aload_n 0, 1) := by decide +kernel
theorem dL_law_274 : decode cL_law 274 = .ok (.iload 4, 2) := by decide +kernel
theorem dL_law_276 : decode cL_law 276 = .ok (.iconst 1, 1) := by decide +kernel
theorem dL_law_277 : decode cL_law 277 = .ok (.iadd, 1) := by decide +kernel
theorem dL_law_278 : decode cL_law 278 = .ok (.iaload, 1) := by decide +kernel
theorem dL_law_279 : decode cL_law 279 = .ok (.aload_n 0, 1) := by decide +kernel
theorem dL_law_280 : decode cL_law 280 = .ok (.iload 4, 2) := by decide +kernel
theorem dL_law_282 : decode cL_law 282 = .ok (.iconst 2, 1) := by decide +kernel
theorem dL_law_283 : decode cL_law 283 = .ok (.iadd, 1) := by decide +kernel
theorem dL_law_284 : decode cL_law 284 = .ok (.iaload, 1) := by decide +kernel
theorem dL_law_285 : decode cL_law 285 = .ok (.invokevirtual 107, 3) := by decide +kernel
theorem dL_law_288 : decode cL_law 288 = .ok (.aload_n 2, 1) := by decide +kernel
theorem dL_law_289 : decode cL_law 289 = .ok (.invokevirtual 108, 3) := by decide +kernel
theorem dL_law_292 : decode cL_law 292 = .ok (.iload 5, 2) := by decide +kernel
theorem dL_law_294 : decode cL_law 294 = .ok (.if_icmp .eq 5, 3) := by decide +kernel
theorem dL_law_297 : decode cL_law 297 = .ok (.iconst 0, 1) := by decide +kernel
theorem dL_law_298 : decode cL_law 298 = .ok (.ireturn, 1) := by decide +kernel
theorem dL_law_299 : decode cL_law 299 = .ok (.goto 1442, 3) := by decide +kernel
theorem dL_law_302 : decode cL_law 302 = .ok (.aload_n 1, 1) := by decide +kernel
theorem dL_law_303 : decode cL_law 303 = .ok (.aload_n 3, 1) := by decide +kernel
theorem dL_law_304 : decode cL_law 304 = .ok (.invokestatic 111, 3) := by decide +kernel
theorem dL_law_307 : decode cL_law 307 = .ok (.istore 5, 2) := by decide +kernel
theorem dL_law_309 : decode cL_law 309 = .ok (.aload_n 2, 1) := by decide +kernel
theorem dL_law_310 : decode cL_law 310 = .ok (.invokevirtual 114, 3) := by decide +kernel
theorem dL_law_313 : decode cL_law 313 = .ok (.istore 6, 2) := by decide +kernel
theorem dL_law_315 : decode cL_law 315 = .ok (.aload_n 2, 1) := by decide +kernel
theorem dL_law_316 : decode cL_law 316 = .ok (.invokevirtual 108, 3) := by decide +kernel
theorem dL_law_319 : decode cL_law 319 = .ok (.iload 5, 2) := by decide +kernel
theorem dL_law_321 : decode cL_law 321 = .ok (.if_icmp .eq 5, 3) := by decide +kernel
theorem dL_law_324 : decode cL_law 324 = .ok (.iconst 0, 1) := by decide +kernel
theorem dL_law_325 : decode cL_law 325 = .ok (.ireturn, 1) := by decide +kernel
theorem dL_law_326 : decode cL_law 326 = .ok (.iload 5, 2) := by decide +kernel
theorem dL_law_328 : decode cL_law 328 = .ok (.ifCond .ne 15, 3) := by decide +kernel
theorem dL_law_331 : decode cL_law 331 = .ok (.aload_n 3, 1) := by decide +kernel
theorem dL_law_332 : decode cL_law 332 = .ok (.iconst 0, 1) := by decide +kernel
theorem dL_law_333 : decode cL_law 333 = .ok (.laload, 1) := by decide +kernel
theorem dL_law_334 : decode cL_law 334 = .ok (.iload 6, 2) := by decide +kernel
theorem dL_law_336 : decode cL_law 336 = .ok (.i2l, 1) := by decide +kernel
theorem dL_law_337 : decode cL_law 337 = .ok (.lcmp, 1) := by decide +kernel
theorem dL_law_338 : decode cL_law 338 = .ok (.ifCond .eq 5, 3) := by decide +kernel
theorem dL_law_341 : decode cL_law 341 = .ok (.iconst 0, 1) := by decide +kernel
theorem dL_law_342 : decode cL_law 342 = .ok (.ireturn, 1) := by decide +kernel
theorem dL_law_343 : decode cL_law 343 = .ok (.goto 1398, 3) := by decide +kernel
theorem dL_law_346 : decode cL_law 346 = .ok (.aload_n 1, 1) := by decide +kernel
theorem dL_law_347 : decode cL_law 347 = .ok (.aload_n 0, 1) := by decide +kernel
theorem dL_law_348 : decode cL_law 348 = .ok (.iload 4, 2) := by decide +kernel
theorem dL_law_350 : decode cL_law 350 = .ok (.iconst 1, 1) := by decide +kernel
theorem dL_law_351 : decode cL_law 351 = .ok (.iadd, 1) := by decide +kernel
theorem dL_law_352 : decode cL_law 352 = .ok (.iaload, 1) := by decide +kernel
theorem dL_law_353 : decode cL_law 353 = .ok (.aload_n 0, 1) := by decide +kernel
theorem dL_law_354 : decode cL_law 354 = .ok (.iload 4, 2) := by decide +kernel
theorem dL_law_356 : decode cL_law 356 = .ok (.iconst 2, 1) := by decide +kernel
theorem dL_law_357 : decode cL_law 357 = .ok (.iadd, 1) := by decide +kernel
theorem dL_law_358 : decode cL_law 358 = .ok (.iaload, 1) := by decide +kernel
theorem dL_law_359 : decode cL_law 359 = .ok (.aload_n 0, 1) := by decide +kernel
theorem dL_law_360 : decode cL_law 360 = .ok (.iload 4, 2) := by decide +kernel
theorem dL_law_362 : decode cL_law 362 = .ok (.iconst 3, 1) := by decide +kernel
theorem dL_law_363 : decode cL_law 363 = .ok (.iadd, 1) := by decide +kernel
theorem dL_law_364 : decode cL_law 364 = .ok (.iaload, 1) := by decide +kernel
theorem dL_law_365 : decode cL_law 365 = .ok (.aload_n 0, 1) := by decide +kernel
theorem dL_law_366 : decode cL_law 366 = .ok (.iload 4, 2) := by decide +kernel
theorem dL_law_368 : decode cL_law 368 = .ok (.iconst 4, 1) := by decide +kernel
theorem dL_law_369 : decode cL_law 369 = .ok (.iadd, 1) := by decide +kernel
theorem dL_law_370 : decode cL_law 370 = .ok (.iaload, 1) := by decide +kernel
theorem dL_law_371 : decode cL_law 371 = .ok (.aload_n 3, 1) := by decide +kernel
theorem dL_law_372 : decode cL_law 372 = .ok (.invokestatic 115, 3) := by decide +kernel
theorem dL_law_375 : decode cL_law 375 = .ok (.istore 5, 2) := by decide +kernel
theorem dL_law_377 : decode cL_law 377 = .ok (.aload_n 2, 1) := by decide +kernel
theorem dL_law_378 : decode cL_law 378 = .ok (.aload_n 0, 1) := by decide +kernel
theorem dL_law_379 : decode cL_law 379 = .ok (.iload 4, 2) := by decide +kernel
theorem dL_law_381 : decode cL_law 381 = .ok (.iconst 1, 1) := by decide +kernel
theorem dL_law_382 : decode cL_law 382 = .ok (.iadd, 1) := by decide +kernel
theorem dL_law_383 : decode cL_law 383 = .ok (.iaload, 1) := by decide +kernel
theorem dL_law_384 : decode cL_law 384 = .ok (.aload_n 0, 1) := by decide +kernel
theorem dL_law_385 : decode cL_law 385 = .ok (.iload 4, 2) := by decide +kernel
theorem dL_law_387 : decode cL_law 387 = .ok (.iconst 2, 1) := by decide +kernel
theorem dL_law_388 : decode cL_law 388 = .ok (.iadd, 1) := by decide +kernel
theorem dL_law_389 : decode cL_law 389 = .ok (.iaload, 1) := by decide +kernel
theorem dL_law_390 : decode cL_law 390 = .ok (.aload_n 0, 1) := by decide +kernel
theorem dL_law_391 : decode cL_law 391 = .ok (.iload 4, 2) := by decide +kernel
theorem dL_law_393 : decode cL_law 393 = .ok (.iconst 3, 1) := by decide +kernel
theorem dL_law_394 : decode cL_law 394 = .ok (.iadd, 1) := by decide +kernel
theorem dL_law_395 : decode cL_law 395 = .ok (.iaload, 1) := by decide +kernel
theorem dL_law_396 : decode cL_law 396 = .ok (.aload_n 0, 1) := by decide +kernel
theorem dL_law_397 : decode cL_law 397 = .ok (.iload 4, 2) := by decide +kernel
theorem dL_law_399 : decode cL_law 399 = .ok (.iconst 4, 1) := by decide +kernel
theorem dL_law_400 : decode cL_law 400 = .ok (.iadd, 1) := by decide +kernel
theorem dL_law_401 : decode cL_law 401 = .ok (.iaload, 1) := by decide +kernel
theorem dL_law_402 : decode cL_law 402 = .ok (.invokevirtual 118, 3) := by decide +kernel
theorem dL_law_405 : decode cL_law 405 = .ok (.istore 6, 2) := by decide +kernel
theorem dL_law_407 : decode cL_law 407 = .ok (.aload_n 2, 1) := by decide +kernel
theorem dL_law_408 : decode cL_law 408 = .ok (.invokevirtual 108, 3) := by decide +kernel
theorem dL_law_411 : decode cL_law 411 = .ok (.iload 5, 2) := by decide +kernel
theorem dL_law_413 : decode cL_law 413 = .ok (.if_icmp .eq 5, 3) := by decide +kernel
theorem dL_law_416 : decode cL_law 416 = .ok (.iconst 0, 1) := by decide +kernel
theorem dL_law_417 : decode cL_law 417 = .ok (.ireturn, 1) := by decide +kernel
theorem dL_law_418 : decode cL_law 418 = .ok (.iload 5, 2) := by decide +kernel
theorem dL_law_420 : decode cL_law 420 = .ok (.ifCond .ne 15, 3) := by decide +kernel
theorem dL_law_423 : decode cL_law 423 = .ok (.aload_n 3, 1) := by decide +kernel
theorem dL_law_424 : decode cL_law 424 = .ok (.iconst 0, 1) := by decide +kernel
theorem dL_law_425 : decode cL_law 425 = .ok (.laload, 1) := by decide +kernel
theorem dL_law_426 : decode cL_law 426 = .ok (.iload 6, 2) := by decide +kernel
theorem dL_law_428 : decode cL_law 428 = .ok (.i2l, 1) := by decide +kernel
theorem dL_law_429 : decode cL_law 429 = .ok (.lcmp, 1) := by decide +kernel
theorem dL_law_430 : decode cL_law 430 = .ok (.ifCond .eq 5, 3) := by decide +kernel
theorem dL_law_433 : decode cL_law 433 = .ok (.iconst 0, 1) := by decide +kernel
theorem dL_law_434 : decode cL_law 434 = .ok (.ireturn, 1) := by decide +kernel
theorem dL_law_435 : decode cL_law 435 = .ok (.goto 1306, 3) := by decide +kernel
theorem dL_law_438 : decode cL_law 438 = .ok (.aload_n 1, 1) := by decide +kernel
theorem dL_law_439 : decode cL_law 439 = .ok (.aload_n 0, 1) := by decide +kernel
theorem dL_law_440 : decode cL_law 440 = .ok (.iload 4, 2) := by decide +kernel
theorem dL_law_442 : decode cL_law 442 = .ok (.iconst 1, 1) := by decide +kernel
theorem dL_law_443 : decode cL_law 443 = .ok (.iadd, 1) := by decide +kernel
theorem dL_law_444 : decode cL_law 444 = .ok (.iaload, 1) := by decide +kernel
theorem dL_law_445 : decode cL_law 445 = .ok (.aload_n 3, 1) := by decide +kernel
theorem dL_law_446 : decode cL_law 446 = .ok (.invokestatic 119, 3) := by decide +kernel
theorem dL_law_449 : decode cL_law 449 = .ok (.istore 5, 2) := by decide +kernel
theorem dL_law_451 : decode cL_law 451 = .ok (.aload_n 2, 1) := by decide +kernel
theorem dL_law_452 : decode cL_law 452 = .ok (.aload_n 0, 1) := by decide +kernel
theorem dL_law_453 : decode cL_law 453 = .ok (.iload 4, 2) := by decide +kernel
theorem dL_law_455 : decode cL_law 455 = .ok (.iconst 1, 1) := by decide +kernel
theorem dL_law_456 : decode cL_law 456 = .ok (.iadd, 1) := by decide +kernel
theorem dL_law_457 : decode cL_law 457 = .ok (.iaload, 1) := by decide +kernel
theorem dL_law_458 : decode cL_law 458 = .ok (.invokevirtual 122, 3) := by decide +kernel
theorem dL_law_461 : decode cL_law 461 = .ok (.istore 6, 2) := by decide +kernel
theorem dL_law_463 : decode cL_law 463 = .ok (.aload_n 2, 1) := by decide +kernel
theorem dL_law_464 : decode cL_law 464 = .ok (.invokevirtual 108, 3) := by decide +kernel
theorem dL_law_467 : decode cL_law 467 = .ok (.iload 5, 2) := by decide +kernel
theorem dL_law_469 : decode cL_law 469 = .ok (.if_icmp .eq 5, 3) := by decide +kernel
theorem dL_law_472 : decode cL_law 472 = .ok (.iconst 0, 1) := by decide +kernel
theorem dL_law_473 : decode cL_law 473 = .ok (.ireturn, 1) := by decide +kernel
theorem dL_law_474 : decode cL_law 474 = .ok (.iload 5, 2) := by decide +kernel
theorem dL_law_476 : decode cL_law 476 = .ok (.ifCond .ne 22, 3) := by decide +kernel
theorem dL_law_479 : decode cL_law 479 = .ok (.aload_n 3, 1) := by decide +kernel
theorem dL_law_480 : decode cL_law 480 = .ok (.iconst 0, 1) := by decide +kernel
theorem dL_law_481 : decode cL_law 481 = .ok (.laload, 1) := by decide +kernel
theorem dL_law_482 : decode cL_law 482 = .ok (.iload 6, 2) := by decide +kernel
theorem dL_law_484 : decode cL_law 484 = .ok (.ifCond .eq 7, 3) := by decide +kernel
theorem dL_law_487 : decode cL_law 487 = .ok (.lconst 1, 1) := by decide +kernel
theorem dL_law_488 : decode cL_law 488 = .ok (.goto 4, 3) := by decide +kernel
theorem dL_law_491 : decode cL_law 491 = .ok (.lconst 0, 1) := by decide +kernel
theorem dL_law_492 : decode cL_law 492 = .ok (.lcmp, 1) := by decide +kernel
theorem dL_law_493 : decode cL_law 493 = .ok (.ifCond .eq 5, 3) := by decide +kernel
theorem dL_law_496 : decode cL_law 496 = .ok (.iconst 0, 1) := by decide +kernel
theorem dL_law_497 : decode cL_law 497 = .ok (.ireturn, 1) := by decide +kernel
theorem dL_law_498 : decode cL_law 498 = .ok (.goto 1243, 3) := by decide +kernel
theorem dL_law_501 : decode cL_law 501 = .ok (.aload_n 1, 1) := by decide +kernel
theorem dL_law_502 : decode cL_law 502 = .ok (.aload_n 0, 1) := by decide +kernel
theorem dL_law_503 : decode cL_law 503 = .ok (.iload 4, 2) := by decide +kernel
theorem dL_law_505 : decode cL_law 505 = .ok (.iconst 1, 1) := by decide +kernel
theorem dL_law_506 : decode cL_law 506 = .ok (.iadd, 1) := by decide +kernel
theorem dL_law_507 : decode cL_law 507 = .ok (.iaload, 1) := by decide +kernel
theorem dL_law_508 : decode cL_law 508 = .ok (.aload_n 0, 1) := by decide +kernel
theorem dL_law_509 : decode cL_law 509 = .ok (.iload 4, 2) := by decide +kernel
theorem dL_law_511 : decode cL_law 511 = .ok (.iconst 2, 1) := by decide +kernel
theorem dL_law_512 : decode cL_law 512 = .ok (.iadd, 1) := by decide +kernel
theorem dL_law_513 : decode cL_law 513 = .ok (.iaload, 1) := by decide +kernel
theorem dL_law_514 : decode cL_law 514 = .ok (.aload_n 0, 1) := by decide +kernel
theorem dL_law_515 : decode cL_law 515 = .ok (.iload 4, 2) := by decide +kernel
theorem dL_law_517 : decode cL_law 517 = .ok (.iconst 3, 1) := by decide +kernel
theorem dL_law_518 : decode cL_law 518 = .ok (.iadd, 1) := by decide +kernel
theorem dL_law_519 : decode cL_law 519 = .ok (.iaload, 1) := by decide +kernel
theorem dL_law_520 : decode cL_law 520 = .ok (.aload_n 3, 1) := by decide +kernel
theorem dL_law_521 : decode cL_law 521 = .ok (.invokestatic 123, 3) := by decide +kernel
theorem dL_law_524 : decode cL_law 524 = .ok (.istore 5, 2) := by decide +kernel
theorem dL_law_526 : decode cL_law 526 = .ok (.aload_n 2, 1) := by decide +kernel
theorem dL_law_527 : decode cL_law 527 = .ok (.aload_n 0, 1) := by decide +kernel
theorem dL_law_528 : decode cL_law 528 = .ok (.iload 4, 2) := by decide +kernel
theorem dL_law_530 : decode cL_law 530 = .ok (.iconst 1, 1) := by decide +kernel
theorem dL_law_531 : decode cL_law 531 = .ok (.iadd, 1) := by decide +kernel
theorem dL_law_532 : decode cL_law 532 = .ok (.iaload, 1) := by decide +kernel
theorem dL_law_533 : decode cL_law 533 = .ok (.aload_n 0, 1) := by decide +kernel
theorem dL_law_534 : decode cL_law 534 = .ok (.iload 4, 2) := by decide +kernel
theorem dL_law_536 : decode cL_law 536 = .ok (.iconst 2, 1) := by decide +kernel
theorem dL_law_537 : decode cL_law 537 = .ok (.iadd, 1) := by decide +kernel
theorem dL_law_538 : decode cL_law 538 = .ok (.iaload, 1) := by decide +kernel
theorem dL_law_539 : decode cL_law 539 = .ok (.aload_n 0, 1) := by decide +kernel
theorem dL_law_540 : decode cL_law 540 = .ok (.iload 4, 2) := by decide +kernel
theorem dL_law_542 : decode cL_law 542 = .ok (.iconst 3, 1) := by decide +kernel
theorem dL_law_543 : decode cL_law 543 = .ok (.iadd, 1) := by decide +kernel
theorem dL_law_544 : decode cL_law 544 = .ok (.iaload, 1) := by decide +kernel
theorem dL_law_545 : decode cL_law 545 = .ok (.invokevirtual 126, 3) := by decide +kernel
theorem dL_law_548 : decode cL_law 548 = .ok (.istore 6, 2) := by decide +kernel
theorem dL_law_550 : decode cL_law 550 = .ok (.aload_n 2, 1) := by decide +kernel
theorem dL_law_551 : decode cL_law 551 = .ok (.invokevirtual 108, 3) := by decide +kernel
theorem dL_law_554 : decode cL_law 554 = .ok (.iload 5, 2) := by decide +kernel
theorem dL_law_556 : decode cL_law 556 = .ok (.if_icmp .eq 5, 3) := by decide +kernel
theorem dL_law_559 : decode cL_law 559 = .ok (.iconst 0, 1) := by decide +kernel
theorem dL_law_560 : decode cL_law 560 = .ok (.ireturn, 1) := by decide +kernel
theorem dL_law_561 : decode cL_law 561 = .ok (.iload 5, 2) := by decide +kernel
theorem dL_law_563 : decode cL_law 563 = .ok (.ifCond .ne 15, 3) := by decide +kernel
theorem dL_law_566 : decode cL_law 566 = .ok (.aload_n 3, 1) := by decide +kernel
theorem dL_law_567 : decode cL_law 567 = .ok (.iconst 0, 1) := by decide +kernel
theorem dL_law_568 : decode cL_law 568 = .ok (.laload, 1) := by decide +kernel
theorem dL_law_569 : decode cL_law 569 = .ok (.iload 6, 2) := by decide +kernel
theorem dL_law_571 : decode cL_law 571 = .ok (.i2l, 1) := by decide +kernel
theorem dL_law_572 : decode cL_law 572 = .ok (.lcmp, 1) := by decide +kernel
theorem dL_law_573 : decode cL_law 573 = .ok (.ifCond .eq 5, 3) := by decide +kernel
theorem dL_law_576 : decode cL_law 576 = .ok (.iconst 0, 1) := by decide +kernel
theorem dL_law_577 : decode cL_law 577 = .ok (.ireturn, 1) := by decide +kernel
theorem dL_law_578 : decode cL_law 578 = .ok (.goto 1163, 3) := by decide +kernel
theorem dL_law_581 : decode cL_law 581 = .ok (.aload_n 1, 1) := by decide +kernel
theorem dL_law_582 : decode cL_law 582 = .ok (.aload_n 0, 1) := by decide +kernel
theorem dL_law_583 : decode cL_law 583 = .ok (.iload 4, 2) := by decide +kernel
theorem dL_law_585 : decode cL_law 585 = .ok (.iconst 1, 1) := by decide +kernel
theorem dL_law_586 : decode cL_law 586 = .ok (.iadd, 1) := by decide +kernel
theorem dL_law_587 : decode cL_law 587 = .ok (.iaload, 1) := by decide +kernel
theorem dL_law_588 : decode cL_law 588 = .ok (.aload_n 3, 1) := by decide +kernel
theorem dL_law_589 : decode cL_law 589 = .ok (.invokestatic 127, 3) := by decide +kernel
theorem dL_law_592 : decode cL_law 592 = .ok (.istore 5, 2) := by decide +kernel
theorem dL_law_594 : decode cL_law 594 = .ok (.aload_n 2, 1) := by decide +kernel
theorem dL_law_595 : decode cL_law 595 = .ok (.aload_n 0, 1) := by decide +kernel
theorem dL_law_596 : decode cL_law 596 = .ok (.iload 4, 2) := by decide +kernel
theorem dL_law_598 : decode cL_law 598 = .ok (.iconst 1, 1) := by decide +kernel
theorem dL_law_599 : decode cL_law 599 = .ok (.iadd, 1) := by decide +kernel
theorem dL_law_600 : decode cL_law 600 = .ok (.iaload, 1) := by decide +kernel
theorem dL_law_601 : decode cL_law 601 = .ok (.invokevirtual 129, 3) := by decide +kernel
theorem dL_law_604 : decode cL_law 604 = .ok (.istore 6, 2) := by decide +kernel
theorem dL_law_606 : decode cL_law 606 = .ok (.aload_n 2, 1) := by decide +kernel
theorem dL_law_607 : decode cL_law 607 = .ok (.invokevirtual 108, 3) := by decide +kernel
theorem dL_law_610 : decode cL_law 610 = .ok (.iload 5, 2) := by decide +kernel
theorem dL_law_612 : decode cL_law 612 = .ok (.if_icmp .eq 5, 3) := by decide +kernel
theorem dL_law_615 : decode cL_law 615 = .ok (.iconst 0, 1) := by decide +kernel
theorem dL_law_616 : decode cL_law 616 = .ok (.ireturn, 1) := by decide +kernel
theorem dL_law_617 : decode cL_law 617 = .ok (.iload 5, 2) := by decide +kernel
theorem dL_law_619 : decode cL_law 619 = .ok (.ifCond .ne 15, 3) := by decide +kernel
theorem dL_law_622 : decode cL_law 622 = .ok (.aload_n 3, 1) := by decide +kernel
theorem dL_law_623 : decode cL_law 623 = .ok (.iconst 0, 1) := by decide +kernel
theorem dL_law_624 : decode cL_law 624 = .ok (.laload, 1) := by decide +kernel
theorem dL_law_625 : decode cL_law 625 = .ok (.iload 6, 2) := by decide +kernel
theorem dL_law_627 : decode cL_law 627 = .ok (.i2l, 1) := by decide +kernel
theorem dL_law_628 : decode cL_law 628 = .ok (.lcmp, 1) := by decide +kernel
theorem dL_law_629 : decode cL_law 629 = .ok (.ifCond .eq 5, 3) := by decide +kernel
theorem dL_law_632 : decode cL_law 632 = .ok (.iconst 0, 1) := by decide +kernel
theorem dL_law_633 : decode cL_law 633 = .ok (.ireturn, 1) := by decide +kernel
theorem dL_law_634 : decode cL_law 634 = .ok (.goto 1107, 3) := by decide +kernel
theorem dL_law_637 : decode cL_law 637 = .ok (.aload_n 1, 1) := by decide +kernel
theorem dL_law_638 : decode cL_law 638 = .ok (.aload_n 0, 1) := by decide +kernel
theorem dL_law_639 : decode cL_law 639 = .ok (.iload 4, 2) := by decide +kernel
theorem dL_law_641 : decode cL_law 641 = .ok (.iconst 1, 1) := by decide +kernel
theorem dL_law_642 : decode cL_law 642 = .ok (.iadd, 1) := by decide +kernel
theorem dL_law_643 : decode cL_law 643 = .ok (.iaload, 1) := by decide +kernel
theorem dL_law_644 : decode cL_law 644 = .ok (.aload_n 0, 1) := by decide +kernel
theorem dL_law_645 : decode cL_law 645 = .ok (.iload 4, 2) := by decide +kernel
theorem dL_law_647 : decode cL_law 647 = .ok (.iconst 2, 1) := by decide +kernel
theorem dL_law_648 : decode cL_law 648 = .ok (.iadd, 1) := by decide +kernel
theorem dL_law_649 : decode cL_law 649 = .ok (.iaload, 1) := by decide +kernel
theorem dL_law_650 : decode cL_law 650 = .ok (.aload_n 0, 1) := by decide +kernel
theorem dL_law_651 : decode cL_law 651 = .ok (.iload 4, 2) := by decide +kernel
theorem dL_law_653 : decode cL_law 653 = .ok (.iconst 3, 1) := by decide +kernel
theorem dL_law_654 : decode cL_law 654 = .ok (.iadd, 1) := by decide +kernel
theorem dL_law_655 : decode cL_law 655 = .ok (.iaload, 1) := by decide +kernel
theorem dL_law_656 : decode cL_law 656 = .ok (.ifCond .eq 7, 3) := by decide +kernel
theorem dL_law_659 : decode cL_law 659 = .ok (.iconst 1, 1) := by decide +kernel
theorem dL_law_660 : decode cL_law 660 = .ok (.goto 4, 3) := by decide +kernel
theorem dL_law_663 : decode cL_law 663 = .ok (.iconst 0, 1) := by decide +kernel
theorem dL_law_664 : decode cL_law 664 = .ok (.aload_n 3, 1) := by decide +kernel
theorem dL_law_665 : decode cL_law 665 = .ok (.invokestatic 130, 3) := by decide +kernel
theorem dL_law_668 : decode cL_law 668 = .ok (.istore 5, 2) := by decide +kernel
theorem dL_law_670 : decode cL_law 670 = .ok (.aload_n 2, 1) := by decide +kernel
theorem dL_law_671 : decode cL_law 671 = .ok (.aload_n 0, 1) := by decide +kernel
theorem dL_law_672 : decode cL_law 672 = .ok (.iload 4, 2) := by decide +kernel
theorem dL_law_674 : decode cL_law 674 = .ok (.iconst 1, 1) := by decide +kernel
theorem dL_law_675 : decode cL_law 675 = .ok (.iadd, 1) := by decide +kernel
theorem dL_law_676 : decode cL_law 676 = .ok (.iaload, 1) := by decide +kernel
theorem dL_law_677 : decode cL_law 677 = .ok (.aload_n 0, 1) := by decide +kernel
theorem dL_law_678 : decode cL_law 678 = .ok (.iload 4, 2) := by decide +kernel
theorem dL_law_680 : decode cL_law 680 = .ok (.iconst 2, 1) := by decide +kernel
theorem dL_law_681 : decode cL_law 681 = .ok (.iadd, 1) := by decide +kernel
theorem dL_law_682 : decode cL_law 682 = .ok (.iaload, 1) := by decide +kernel
theorem dL_law_683 : decode cL_law 683 = .ok (.aload_n 0, 1) := by decide +kernel
theorem dL_law_684 : decode cL_law 684 = .ok (.iload 4, 2) := by decide +kernel
theorem dL_law_686 : decode cL_law 686 = .ok (.iconst 3, 1) := by decide +kernel
theorem dL_law_687 : decode cL_law 687 = .ok (.iadd, 1) := by decide +kernel
theorem dL_law_688 : decode cL_law 688 = .ok (.iaload, 1) := by decide +kernel
theorem dL_law_689 : decode cL_law 689 = .ok (.ifCond .eq 7, 3) := by decide +kernel
theorem dL_law_692 : decode cL_law 692 = .ok (.iconst 1, 1) := by decide +kernel
theorem dL_law_693 : decode cL_law 693 = .ok (.goto 4, 3) := by decide +kernel
theorem dL_law_696 : decode cL_law 696 = .ok (.iconst 0, 1) := by decide +kernel
theorem dL_law_697 : decode cL_law 697 = .ok (.invokevirtual 133, 3) := by decide +kernel
theorem dL_law_700 : decode cL_law 700 = .ok (.istore 6, 2) := by decide +kernel
theorem dL_law_702 : decode cL_law 702 = .ok (.aload_n 2, 1) := by decide +kernel
theorem dL_law_703 : decode cL_law 703 = .ok (.invokevirtual 108, 3) := by decide +kernel
theorem dL_law_706 : decode cL_law 706 = .ok (.iload 5, 2) := by decide +kernel
theorem dL_law_708 : decode cL_law 708 = .ok (.if_icmp .eq 5, 3) := by decide +kernel
theorem dL_law_711 : decode cL_law 711 = .ok (.iconst 0, 1) := by decide +kernel
theorem dL_law_712 : decode cL_law 712 = .ok (.ireturn, 1) := by decide +kernel
theorem dL_law_713 : decode cL_law 713 = .ok (.iload 5, 2) := by decide +kernel
theorem dL_law_715 : decode cL_law 715 = .ok (.ifCond .ne 22, 3) := by decide +kernel
theorem dL_law_718 : decode cL_law 718 = .ok (.aload_n 3, 1) := by decide +kernel
theorem dL_law_719 : decode cL_law 719 = .ok (.iconst 0, 1) := by decide +kernel
theorem dL_law_720 : decode cL_law 720 = .ok (.laload, 1) := by decide +kernel
theorem dL_law_721 : decode cL_law 721 = .ok (.iload 6, 2) := by decide +kernel
theorem dL_law_723 : decode cL_law 723 = .ok (.ifCond .eq 7, 3) := by decide +kernel
theorem dL_law_726 : decode cL_law 726 = .ok (.lconst 1, 1) := by decide +kernel
theorem dL_law_727 : decode cL_law 727 = .ok (.goto 4, 3) := by decide +kernel
theorem dL_law_730 : decode cL_law 730 = .ok (.lconst 0, 1) := by decide +kernel
theorem dL_law_731 : decode cL_law 731 = .ok (.lcmp, 1) := by decide +kernel
theorem dL_law_732 : decode cL_law 732 = .ok (.ifCond .eq 5, 3) := by decide +kernel
theorem dL_law_735 : decode cL_law 735 = .ok (.iconst 0, 1) := by decide +kernel
theorem dL_law_736 : decode cL_law 736 = .ok (.ireturn, 1) := by decide +kernel
theorem dL_law_737 : decode cL_law 737 = .ok (.goto 1004, 3) := by decide +kernel
theorem dL_law_740 : decode cL_law 740 = .ok (.aload_n 1, 1) := by decide +kernel
theorem dL_law_741 : decode cL_law 741 = .ok (.aload_n 0, 1) := by decide +kernel
theorem dL_law_742 : decode cL_law 742 = .ok (.iload 4, 2) := by decide +kernel
theorem dL_law_744 : decode cL_law 744 = .ok (.iconst 1, 1) := by decide +kernel
theorem dL_law_745 : decode cL_law 745 = .ok (.iadd, 1) := by decide +kernel
theorem dL_law_746 : decode cL_law 746 = .ok (.iaload, 1) := by decide +kernel
theorem dL_law_747 : decode cL_law 747 = .ok (.aload_n 3, 1) := by decide +kernel
theorem dL_law_748 : decode cL_law 748 = .ok (.invokestatic 134, 3) := by decide +kernel
theorem dL_law_751 : decode cL_law 751 = .ok (.istore 5, 2) := by decide +kernel
theorem dL_law_753 : decode cL_law 753 = .ok (.aload_n 2, 1) := by decide +kernel
theorem dL_law_754 : decode cL_law 754 = .ok (.aload_n 0, 1) := by decide +kernel
theorem dL_law_755 : decode cL_law 755 = .ok (.iload 4, 2) := by decide +kernel
theorem dL_law_757 : decode cL_law 757 = .ok (.iconst 1, 1) := by decide +kernel
theorem dL_law_758 : decode cL_law 758 = .ok (.iadd, 1) := by decide +kernel
theorem dL_law_759 : decode cL_law 759 = .ok (.iaload, 1) := by decide +kernel
theorem dL_law_760 : decode cL_law 760 = .ok (.invokevirtual 136, 3) := by decide +kernel
theorem dL_law_763 : decode cL_law 763 = .ok (.istore 6, 2) := by decide +kernel
theorem dL_law_765 : decode cL_law 765 = .ok (.aload_n 2, 1) := by decide +kernel
theorem dL_law_766 : decode cL_law 766 = .ok (.invokevirtual 108, 3) := by decide +kernel
theorem dL_law_769 : decode cL_law 769 = .ok (.iload 5, 2) := by decide +kernel
theorem dL_law_771 : decode cL_law 771 = .ok (.if_icmp .eq 5, 3) := by decide +kernel
theorem dL_law_774 : decode cL_law 774 = .ok (.iconst 0, 1) := by decide +kernel
theorem dL_law_775 : decode cL_law 775 = .ok (.ireturn, 1) := by decide +kernel
theorem dL_law_776 : decode cL_law 776 = .ok (.iload 5, 2) := by decide +kernel
theorem dL_law_778 : decode cL_law 778 = .ok (.ifCond .ne 15, 3) := by decide +kernel
theorem dL_law_781 : decode cL_law 781 = .ok (.aload_n 3, 1) := by decide +kernel
theorem dL_law_782 : decode cL_law 782 = .ok (.iconst 0, 1) := by decide +kernel
theorem dL_law_783 : decode cL_law 783 = .ok (.laload, 1) := by decide +kernel
theorem dL_law_784 : decode cL_law 784 = .ok (.iload 6, 2) := by decide +kernel
theorem dL_law_786 : decode cL_law 786 = .ok (.i2l, 1) := by decide +kernel
theorem dL_law_787 : decode cL_law 787 = .ok (.lcmp, 1) := by decide +kernel
theorem dL_law_788 : decode cL_law 788 = .ok (.ifCond .eq 5, 3) := by decide +kernel
theorem dL_law_791 : decode cL_law 791 = .ok (.iconst 0, 1) := by decide +kernel
theorem dL_law_792 : decode cL_law 792 = .ok (.ireturn, 1) := by decide +kernel
theorem dL_law_793 : decode cL_law 793 = .ok (.goto 948, 3) := by decide +kernel
theorem dL_law_796 : decode cL_law 796 = .ok (.aload_n 1, 1) := by decide +kernel
theorem dL_law_797 : decode cL_law 797 = .ok (.aload_n 0, 1) := by decide +kernel
theorem dL_law_798 : decode cL_law 798 = .ok (.iload 4, 2) := by decide +kernel
theorem dL_law_800 : decode cL_law 800 = .ok (.iconst 1, 1) := by decide +kernel
theorem dL_law_801 : decode cL_law 801 = .ok (.iadd, 1) := by decide +kernel
theorem dL_law_802 : decode cL_law 802 = .ok (.iaload, 1) := by decide +kernel
theorem dL_law_803 : decode cL_law 803 = .ok (.aload_n 3, 1) := by decide +kernel
theorem dL_law_804 : decode cL_law 804 = .ok (.invokestatic 137, 3) := by decide +kernel
theorem dL_law_807 : decode cL_law 807 = .ok (.istore 5, 2) := by decide +kernel
theorem dL_law_809 : decode cL_law 809 = .ok (.aload_n 2, 1) := by decide +kernel
theorem dL_law_810 : decode cL_law 810 = .ok (.aload_n 0, 1) := by decide +kernel
theorem dL_law_811 : decode cL_law 811 = .ok (.iload 4, 2) := by decide +kernel
theorem dL_law_813 : decode cL_law 813 = .ok (.iconst 1, 1) := by decide +kernel
theorem dL_law_814 : decode cL_law 814 = .ok (.iadd, 1) := by decide +kernel
theorem dL_law_815 : decode cL_law 815 = .ok (.iaload, 1) := by decide +kernel
theorem dL_law_816 : decode cL_law 816 = .ok (.invokevirtual 139, 3) := by decide +kernel
theorem dL_law_819 : decode cL_law 819 = .ok (.istore 6, 2) := by decide +kernel
theorem dL_law_821 : decode cL_law 821 = .ok (.aload_n 2, 1) := by decide +kernel
theorem dL_law_822 : decode cL_law 822 = .ok (.invokevirtual 108, 3) := by decide +kernel
theorem dL_law_825 : decode cL_law 825 = .ok (.iload 5, 2) := by decide +kernel
theorem dL_law_827 : decode cL_law 827 = .ok (.if_icmp .eq 5, 3) := by decide +kernel
theorem dL_law_830 : decode cL_law 830 = .ok (.iconst 0, 1) := by decide +kernel
theorem dL_law_831 : decode cL_law 831 = .ok (.ireturn, 1) := by decide +kernel
theorem dL_law_832 : decode cL_law 832 = .ok (.iload 5, 2) := by decide +kernel
theorem dL_law_834 : decode cL_law 834 = .ok (.ifCond .ne 15, 3) := by decide +kernel
theorem dL_law_837 : decode cL_law 837 = .ok (.aload_n 3, 1) := by decide +kernel
theorem dL_law_838 : decode cL_law 838 = .ok (.iconst 0, 1) := by decide +kernel
theorem dL_law_839 : decode cL_law 839 = .ok (.laload, 1) := by decide +kernel
theorem dL_law_840 : decode cL_law 840 = .ok (.iload 6, 2) := by decide +kernel
theorem dL_law_842 : decode cL_law 842 = .ok (.i2l, 1) := by decide +kernel
theorem dL_law_843 : decode cL_law 843 = .ok (.lcmp, 1) := by decide +kernel
theorem dL_law_844 : decode cL_law 844 = .ok (.ifCond .eq 5, 3) := by decide +kernel
theorem dL_law_847 : decode cL_law 847 = .ok (.iconst 0, 1) := by decide +kernel
theorem dL_law_848 : decode cL_law 848 = .ok (.ireturn, 1) := by decide +kernel
theorem dL_law_849 : decode cL_law 849 = .ok (.goto 892, 3) := by decide +kernel
theorem dL_law_852 : decode cL_law 852 = .ok (.aload_n 1, 1) := by decide +kernel
theorem dL_law_853 : decode cL_law 853 = .ok (.aload_n 0, 1) := by decide +kernel
theorem dL_law_854 : decode cL_law 854 = .ok (.iload 4, 2) := by decide +kernel
theorem dL_law_856 : decode cL_law 856 = .ok (.iconst 1, 1) := by decide +kernel
theorem dL_law_857 : decode cL_law 857 = .ok (.iadd, 1) := by decide +kernel
theorem dL_law_858 : decode cL_law 858 = .ok (.iaload, 1) := by decide +kernel
theorem dL_law_859 : decode cL_law 859 = .ok (.aload_n 0, 1) := by decide +kernel
theorem dL_law_860 : decode cL_law 860 = .ok (.iload 4, 2) := by decide +kernel
theorem dL_law_862 : decode cL_law 862 = .ok (.iconst 2, 1) := by decide +kernel
theorem dL_law_863 : decode cL_law 863 = .ok (.iadd, 1) := by decide +kernel
theorem dL_law_864 : decode cL_law 864 = .ok (.iaload, 1) := by decide +kernel
theorem dL_law_865 : decode cL_law 865 = .ok (.aload_n 3, 1) := by decide +kernel
theorem dL_law_866 : decode cL_law 866 = .ok (.invokestatic 140, 3) := by decide +kernel
theorem dL_law_869 : decode cL_law 869 = .ok (.istore 5, 2) := by decide +kernel
theorem dL_law_871 : decode cL_law 871 = .ok (.aload_n 2, 1) := by decide +kernel
theorem dL_law_872 : decode cL_law 872 = .ok (.aload_n 0, 1) := by decide +kernel
theorem dL_law_873 : decode cL_law 873 = .ok (.iload 4, 2) := by decide +kernel
theorem dL_law_875 : decode cL_law 875 = .ok (.iconst 1, 1) := by decide +kernel
theorem dL_law_876 : decode cL_law 876 = .ok (.iadd, 1) := by decide +kernel
theorem dL_law_877 : decode cL_law 877 = .ok (.iaload, 1) := by decide +kernel
theorem dL_law_878 : decode cL_law 878 = .ok (.aload_n 0, 1) := by decide +kernel
theorem dL_law_879 : decode cL_law 879 = .ok (.iload 4, 2) := by decide +kernel
theorem dL_law_881 : decode cL_law 881 = .ok (.iconst 2, 1) := by decide +kernel
theorem dL_law_882 : decode cL_law 882 = .ok (.iadd, 1) := by decide +kernel
theorem dL_law_883 : decode cL_law 883 = .ok (.iaload, 1) := by decide +kernel
theorem dL_law_884 : decode cL_law 884 = .ok (.invokevirtual 143, 3) := by decide +kernel
theorem dL_law_887 : decode cL_law 887 = .ok (.istore 6, 2) := by decide +kernel
theorem dL_law_889 : decode cL_law 889 = .ok (.aload_n 2, 1) := by decide +kernel
theorem dL_law_890 : decode cL_law 890 = .ok (.invokevirtual 108, 3) := by decide +kernel
theorem dL_law_893 : decode cL_law 893 = .ok (.iload 5, 2) := by decide +kernel
theorem dL_law_895 : decode cL_law 895 = .ok (.if_icmp .eq 5, 3) := by decide +kernel
theorem dL_law_898 : decode cL_law 898 = .ok (.iconst 0, 1) := by decide +kernel
theorem dL_law_899 : decode cL_law 899 = .ok (.ireturn, 1) := by decide +kernel
theorem dL_law_900 : decode cL_law 900 = .ok (.iload 5, 2) := by decide +kernel
theorem dL_law_902 : decode cL_law 902 = .ok (.ifCond .ne 15, 3) := by decide +kernel
theorem dL_law_905 : decode cL_law 905 = .ok (.aload_n 3, 1) := by decide +kernel
theorem dL_law_906 : decode cL_law 906 = .ok (.iconst 0, 1) := by decide +kernel
theorem dL_law_907 : decode cL_law 907 = .ok (.laload, 1) := by decide +kernel
theorem dL_law_908 : decode cL_law 908 = .ok (.iload 6, 2) := by decide +kernel
theorem dL_law_910 : decode cL_law 910 = .ok (.i2l, 1) := by decide +kernel
theorem dL_law_911 : decode cL_law 911 = .ok (.lcmp, 1) := by decide +kernel
theorem dL_law_912 : decode cL_law 912 = .ok (.ifCond .eq 5, 3) := by decide +kernel
theorem dL_law_915 : decode cL_law 915 = .ok (.iconst 0, 1) := by decide +kernel
theorem dL_law_916 : decode cL_law 916 = .ok (.ireturn, 1) := by decide +kernel
theorem dL_law_917 : decode cL_law 917 = .ok (.goto 824, 3) := by decide +kernel
theorem dL_law_920 : decode cL_law 920 = .ok (.aload_n 1, 1) := by decide +kernel
theorem dL_law_921 : decode cL_law 921 = .ok (.aload_n 0, 1) := by decide +kernel
theorem dL_law_922 : decode cL_law 922 = .ok (.iload 4, 2) := by decide +kernel
theorem dL_law_924 : decode cL_law 924 = .ok (.iconst 1, 1) := by decide +kernel
theorem dL_law_925 : decode cL_law 925 = .ok (.iadd, 1) := by decide +kernel
theorem dL_law_926 : decode cL_law 926 = .ok (.iaload, 1) := by decide +kernel
theorem dL_law_927 : decode cL_law 927 = .ok (.aload_n 0, 1) := by decide +kernel
theorem dL_law_928 : decode cL_law 928 = .ok (.iload 4, 2) := by decide +kernel
theorem dL_law_930 : decode cL_law 930 = .ok (.iconst 2, 1) := by decide +kernel
theorem dL_law_931 : decode cL_law 931 = .ok (.iadd, 1) := by decide +kernel
theorem dL_law_932 : decode cL_law 932 = .ok (.iaload, 1) := by decide +kernel
theorem dL_law_933 : decode cL_law 933 = .ok (.aload_n 0, 1) := by decide +kernel
theorem dL_law_934 : decode cL_law 934 = .ok (.iload 4, 2) := by decide +kernel
theorem dL_law_936 : decode cL_law 936 = .ok (.iconst 3, 1) := by decide +kernel
theorem dL_law_937 : decode cL_law 937 = .ok (.iadd, 1) := by decide +kernel
theorem dL_law_938 : decode cL_law 938 = .ok (.iaload, 1) := by decide +kernel
theorem dL_law_939 : decode cL_law 939 = .ok (.aload_n 0, 1) := by decide +kernel
theorem dL_law_940 : decode cL_law 940 = .ok (.iload 4, 2) := by decide +kernel
theorem dL_law_942 : decode cL_law 942 = .ok (.iconst 4, 1) := by decide +kernel
theorem dL_law_943 : decode cL_law 943 = .ok (.iadd, 1) := by decide +kernel
theorem dL_law_944 : decode cL_law 944 = .ok (.iaload, 1) := by decide +kernel
theorem dL_law_945 : decode cL_law 945 = .ok (.invokestatic 144, 3) := by decide +kernel
theorem dL_law_948 : decode cL_law 948 = .ok (.istore 5, 2) := by decide +kernel
theorem dL_law_950 : decode cL_law 950 = .ok (.aload_n 2, 1) := by decide +kernel
theorem dL_law_951 : decode cL_law 951 = .ok (.aload_n 0, 1) := by decide +kernel
theorem dL_law_952 : decode cL_law 952 = .ok (.iload 4, 2) := by decide +kernel
theorem dL_law_954 : decode cL_law 954 = .ok (.iconst 1, 1) := by decide +kernel
theorem dL_law_955 : decode cL_law 955 = .ok (.iadd, 1) := by decide +kernel
theorem dL_law_956 : decode cL_law 956 = .ok (.iaload, 1) := by decide +kernel
theorem dL_law_957 : decode cL_law 957 = .ok (.aload_n 0, 1) := by decide +kernel
theorem dL_law_958 : decode cL_law 958 = .ok (.iload 4, 2) := by decide +kernel
theorem dL_law_960 : decode cL_law 960 = .ok (.iconst 2, 1) := by decide +kernel
theorem dL_law_961 : decode cL_law 961 = .ok (.iadd, 1) := by decide +kernel
theorem dL_law_962 : decode cL_law 962 = .ok (.iaload, 1) := by decide +kernel
theorem dL_law_963 : decode cL_law 963 = .ok (.aload_n 0, 1) := by decide +kernel
theorem dL_law_964 : decode cL_law 964 = .ok (.iload 4, 2) := by decide +kernel
theorem dL_law_966 : decode cL_law 966 = .ok (.iconst 3, 1) := by decide +kernel
theorem dL_law_967 : decode cL_law 967 = .ok (.iadd, 1) := by decide +kernel
theorem dL_law_968 : decode cL_law 968 = .ok (.iaload, 1) := by decide +kernel
theorem dL_law_969 : decode cL_law 969 = .ok (.aload_n 0, 1) := by decide +kernel
theorem dL_law_970 : decode cL_law 970 = .ok (.iload 4, 2) := by decide +kernel
theorem dL_law_972 : decode cL_law 972 = .ok (.iconst 4, 1) := by decide +kernel
theorem dL_law_973 : decode cL_law 973 = .ok (.iadd, 1) := by decide +kernel
theorem dL_law_974 : decode cL_law 974 = .ok (.iaload, 1) := by decide +kernel
theorem dL_law_975 : decode cL_law 975 = .ok (.invokevirtual 147, 3) := by decide +kernel
theorem dL_law_978 : decode cL_law 978 = .ok (.aload_n 2, 1) := by decide +kernel
theorem dL_law_979 : decode cL_law 979 = .ok (.invokevirtual 108, 3) := by decide +kernel
theorem dL_law_982 : decode cL_law 982 = .ok (.iload 5, 2) := by decide +kernel
theorem dL_law_984 : decode cL_law 984 = .ok (.if_icmp .eq 5, 3) := by decide +kernel
theorem dL_law_987 : decode cL_law 987 = .ok (.iconst 0, 1) := by decide +kernel
theorem dL_law_988 : decode cL_law 988 = .ok (.ireturn, 1) := by decide +kernel
theorem dL_law_989 : decode cL_law 989 = .ok (.goto 752, 3) := by decide +kernel
theorem dL_law_992 : decode cL_law 992 = .ok (.aload_n 1, 1) := by decide +kernel
theorem dL_law_993 : decode cL_law 993 = .ok (.aload_n 0, 1) := by decide +kernel
theorem dL_law_994 : decode cL_law 994 = .ok (.iload 4, 2) := by decide +kernel
theorem dL_law_996 : decode cL_law 996 = .ok (.iconst 1, 1) := by decide +kernel
theorem dL_law_997 : decode cL_law 997 = .ok (.iadd, 1) := by decide +kernel
theorem dL_law_998 : decode cL_law 998 = .ok (.iaload, 1) := by decide +kernel
theorem dL_law_999 : decode cL_law 999 = .ok (.aload_n 0, 1) := by decide +kernel
theorem dL_law_1000 : decode cL_law 1000 = .ok (.iload 4, 2) := by decide +kernel
theorem dL_law_1002 : decode cL_law 1002 = .ok (.iconst 2, 1) := by decide +kernel
theorem dL_law_1003 : decode cL_law 1003 = .ok (.iadd, 1) := by decide +kernel
theorem dL_law_1004 : decode cL_law 1004 = .ok (.iaload, 1) := by decide +kernel
theorem dL_law_1005 : decode cL_law 1005 = .ok (.aload_n 0, 1) := by decide +kernel
theorem dL_law_1006 : decode cL_law 1006 = .ok (.iload 4, 2) := by decide +kernel
theorem dL_law_1008 : decode cL_law 1008 = .ok (.iconst 3, 1) := by decide +kernel
theorem dL_law_1009 : decode cL_law 1009 = .ok (.iadd, 1) := by decide +kernel
theorem dL_law_1010 : decode cL_law 1010 = .ok (.iaload, 1) := by decide +kernel
theorem dL_law_1011 : decode cL_law 1011 = .ok (.aload_n 0, 1) := by decide +kernel
theorem dL_law_1012 : decode cL_law 1012 = .ok (.iload 4, 2) := by decide +kernel
theorem dL_law_1014 : decode cL_law 1014 = .ok (.iconst 4, 1) := by decide +kernel
theorem dL_law_1015 : decode cL_law 1015 = .ok (.iadd, 1) := by decide +kernel
theorem dL_law_1016 : decode cL_law 1016 = .ok (.iaload, 1) := by decide +kernel
theorem dL_law_1017 : decode cL_law 1017 = .ok (.aload_n 0, 1) := by decide +kernel
theorem dL_law_1018 : decode cL_law 1018 = .ok (.iload 4, 2) := by decide +kernel
theorem dL_law_1020 : decode cL_law 1020 = .ok (.iconst 5, 1) := by decide +kernel
theorem dL_law_1021 : decode cL_law 1021 = .ok (.iadd, 1) := by decide +kernel
theorem dL_law_1022 : decode cL_law 1022 = .ok (.iaload, 1) := by decide +kernel
theorem dL_law_1023 : decode cL_law 1023 = .ok (.aload_n 0, 1) := by decide +kernel
theorem dL_law_1024 : decode cL_law 1024 = .ok (.iload 4, 2) := by decide +kernel
theorem dL_law_1026 : decode cL_law 1026 = .ok (.bipush 6, 2) := by decide +kernel
theorem dL_law_1028 : decode cL_law 1028 = .ok (.iadd, 1) := by decide +kernel
theorem dL_law_1029 : decode cL_law 1029 = .ok (.iaload, 1) := by decide +kernel
theorem dL_law_1030 : decode cL_law 1030 = .ok (.aload_n 0, 1) := by decide +kernel
theorem dL_law_1031 : decode cL_law 1031 = .ok (.iload 4, 2) := by decide +kernel
theorem dL_law_1033 : decode cL_law 1033 = .ok (.bipush 7, 2) := by decide +kernel
theorem dL_law_1035 : decode cL_law 1035 = .ok (.iadd, 1) := by decide +kernel
theorem dL_law_1036 : decode cL_law 1036 = .ok (.iaload, 1) := by decide +kernel
theorem dL_law_1037 : decode cL_law 1037 = .ok (.aload_n 0, 1) := by decide +kernel
theorem dL_law_1038 : decode cL_law 1038 = .ok (.iload 4, 2) := by decide +kernel
theorem dL_law_1040 : decode cL_law 1040 = .ok (.bipush 8, 2) := by decide +kernel
theorem dL_law_1042 : decode cL_law 1042 = .ok (.iadd, 1) := by decide +kernel
theorem dL_law_1043 : decode cL_law 1043 = .ok (.iaload, 1) := by decide +kernel
theorem dL_law_1044 : decode cL_law 1044 = .ok (.aload_n 0, 1) := by decide +kernel
theorem dL_law_1045 : decode cL_law 1045 = .ok (.iload 4, 2) := by decide +kernel
theorem dL_law_1047 : decode cL_law 1047 = .ok (.bipush 9, 2) := by decide +kernel
theorem dL_law_1049 : decode cL_law 1049 = .ok (.iadd, 1) := by decide +kernel
theorem dL_law_1050 : decode cL_law 1050 = .ok (.iaload, 1) := by decide +kernel
theorem dL_law_1051 : decode cL_law 1051 = .ok (.aload_n 0, 1) := by decide +kernel
theorem dL_law_1052 : decode cL_law 1052 = .ok (.iload 4, 2) := by decide +kernel
theorem dL_law_1054 : decode cL_law 1054 = .ok (.bipush 10, 2) := by decide +kernel
theorem dL_law_1056 : decode cL_law 1056 = .ok (.iadd, 1) := by decide +kernel
theorem dL_law_1057 : decode cL_law 1057 = .ok (.iaload, 1) := by decide +kernel
theorem dL_law_1058 : decode cL_law 1058 = .ok (.aload_n 3, 1) := by decide +kernel
theorem dL_law_1059 : decode cL_law 1059 = .ok (.invokestatic 148, 3) := by decide +kernel
theorem dL_law_1062 : decode cL_law 1062 = .ok (.istore 5, 2) := by decide +kernel
theorem dL_law_1064 : decode cL_law 1064 = .ok (.aload_n 2, 1) := by decide +kernel
theorem dL_law_1065 : decode cL_law 1065 = .ok (.aload_n 0, 1) := by decide +kernel
theorem dL_law_1066 : decode cL_law 1066 = .ok (.iload 4, 2) := by decide +kernel
theorem dL_law_1068 : decode cL_law 1068 = .ok (.iconst 1, 1) := by decide +kernel
theorem dL_law_1069 : decode cL_law 1069 = .ok (.iadd, 1) := by decide +kernel
theorem dL_law_1070 : decode cL_law 1070 = .ok (.iaload, 1) := by decide +kernel
theorem dL_law_1071 : decode cL_law 1071 = .ok (.aload_n 0, 1) := by decide +kernel
theorem dL_law_1072 : decode cL_law 1072 = .ok (.iload 4, 2) := by decide +kernel
theorem dL_law_1074 : decode cL_law 1074 = .ok (.iconst 2, 1) := by decide +kernel
theorem dL_law_1075 : decode cL_law 1075 = .ok (.iadd, 1) := by decide +kernel
theorem dL_law_1076 : decode cL_law 1076 = .ok (.iaload, 1) := by decide +kernel
theorem dL_law_1077 : decode cL_law 1077 = .ok (.aload_n 0, 1) := by decide +kernel
theorem dL_law_1078 : decode cL_law 1078 = .ok (.iload 4, 2) := by decide +kernel
theorem dL_law_1080 : decode cL_law 1080 = .ok (.iconst 3, 1) := by decide +kernel
theorem dL_law_1081 : decode cL_law 1081 = .ok (.iadd, 1) := by decide +kernel
theorem dL_law_1082 : decode cL_law 1082 = .ok (.iaload, 1) := by decide +kernel
theorem dL_law_1083 : decode cL_law 1083 = .ok (.aload_n 0, 1) := by decide +kernel
theorem dL_law_1084 : decode cL_law 1084 = .ok (.iload 4, 2) := by decide +kernel
theorem dL_law_1086 : decode cL_law 1086 = .ok (.iconst 4, 1) := by decide +kernel
theorem dL_law_1087 : decode cL_law 1087 = .ok (.iadd, 1) := by decide +kernel
theorem dL_law_1088 : decode cL_law 1088 = .ok (.iaload, 1) := by decide +kernel
theorem dL_law_1089 : decode cL_law 1089 = .ok (.aload_n 0, 1) := by decide +kernel
theorem dL_law_1090 : decode cL_law 1090 = .ok (.iload 4, 2) := by decide +kernel
theorem dL_law_1092 : decode cL_law 1092 = .ok (.iconst 5, 1) := by decide +kernel
theorem dL_law_1093 : decode cL_law 1093 = .ok (.iadd, 1) := by decide +kernel
theorem dL_law_1094 : decode cL_law 1094 = .ok (.iaload, 1) := by decide +kernel
theorem dL_law_1095 : decode cL_law 1095 = .ok (.aload_n 0, 1) := by decide +kernel
theorem dL_law_1096 : decode cL_law 1096 = .ok (.iload 4, 2) := by decide +kernel
theorem dL_law_1098 : decode cL_law 1098 = .ok (.bipush 6, 2) := by decide +kernel
theorem dL_law_1100 : decode cL_law 1100 = .ok (.iadd, 1) := by decide +kernel
theorem dL_law_1101 : decode cL_law 1101 = .ok (.iaload, 1) := by decide +kernel
theorem dL_law_1102 : decode cL_law 1102 = .ok (.aload_n 0, 1) := by decide +kernel
theorem dL_law_1103 : decode cL_law 1103 = .ok (.iload 4, 2) := by decide +kernel
theorem dL_law_1105 : decode cL_law 1105 = .ok (.bipush 7, 2) := by decide +kernel
theorem dL_law_1107 : decode cL_law 1107 = .ok (.iadd, 1) := by decide +kernel
theorem dL_law_1108 : decode cL_law 1108 = .ok (.iaload, 1) := by decide +kernel
theorem dL_law_1109 : decode cL_law 1109 = .ok (.aload_n 0, 1) := by decide +kernel
theorem dL_law_1110 : decode cL_law 1110 = .ok (.iload 4, 2) := by decide +kernel
theorem dL_law_1112 : decode cL_law 1112 = .ok (.bipush 8, 2) := by decide +kernel
theorem dL_law_1114 : decode cL_law 1114 = .ok (.iadd, 1) := by decide +kernel
theorem dL_law_1115 : decode cL_law 1115 = .ok (.iaload, 1) := by decide +kernel
theorem dL_law_1116 : decode cL_law 1116 = .ok (.aload_n 0, 1) := by decide +kernel
theorem dL_law_1117 : decode cL_law 1117 = .ok (.iload 4, 2) := by decide +kernel
theorem dL_law_1119 : decode cL_law 1119 = .ok (.bipush 9, 2) := by decide +kernel
theorem dL_law_1121 : decode cL_law 1121 = .ok (.iadd, 1) := by decide +kernel
theorem dL_law_1122 : decode cL_law 1122 = .ok (.iaload, 1) := by decide +kernel
theorem dL_law_1123 : decode cL_law 1123 = .ok (.aload_n 0, 1) := by decide +kernel
theorem dL_law_1124 : decode cL_law 1124 = .ok (.iload 4, 2) := by decide +kernel
theorem dL_law_1126 : decode cL_law 1126 = .ok (.bipush 10, 2) := by decide +kernel
theorem dL_law_1128 : decode cL_law 1128 = .ok (.iadd, 1) := by decide +kernel
theorem dL_law_1129 : decode cL_law 1129 = .ok (.iaload, 1) := by decide +kernel
theorem dL_law_1130 : decode cL_law 1130 = .ok (.invokevirtual 151, 3) := by decide +kernel
theorem dL_law_1133 : decode cL_law 1133 = .ok (.istore 6, 2) := by decide +kernel
theorem dL_law_1135 : decode cL_law 1135 = .ok (.aload_n 2, 1) := by decide +kernel
theorem dL_law_1136 : decode cL_law 1136 = .ok (.invokevirtual 108, 3) := by decide +kernel
theorem dL_law_1139 : decode cL_law 1139 = .ok (.iload 5, 2) := by decide +kernel
theorem dL_law_1141 : decode cL_law 1141 = .ok (.if_icmp .eq 5, 3) := by decide +kernel
theorem dL_law_1144 : decode cL_law 1144 = .ok (.iconst 0, 1) := by decide +kernel
theorem dL_law_1145 : decode cL_law 1145 = .ok (.ireturn, 1) := by decide +kernel
theorem dL_law_1146 : decode cL_law 1146 = .ok (.iload 5, 2) := by decide +kernel
theorem dL_law_1148 : decode cL_law 1148 = .ok (.ifCond .ne 15, 3) := by decide +kernel
theorem dL_law_1151 : decode cL_law 1151 = .ok (.aload_n 3, 1) := by decide +kernel
theorem dL_law_1152 : decode cL_law 1152 = .ok (.iconst 0, 1) := by decide +kernel
theorem dL_law_1153 : decode cL_law 1153 = .ok (.laload, 1) := by decide +kernel
