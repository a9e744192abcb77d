set_option maxRecDepth 100000
abbrev cX1_init : ByteArray := prog_1_method_5_code
def yX1_init : MethodName := ⟨RX1, "<init>", "()V"⟩
theorem dX1_init_0 : decode cX1_init 0 = .ok (.aload_n 0, 1) := by decide +kernel
theorem dX1_init_1 : decode cX1_init 1 = .ok (.invokespecial 24, 3) := by decide +kernel
theorem dX1_init_4 : decode cX1_init 4 = .ok (.aload_n 0, 1) := by decide +kernel
theorem dX1_init_5 : decode cX1_init 5 = .ok (.bipush 8, 2) := by decide +kernel
theorem dX1_init_7 : decode cX1_init 7 = .ok (.newarray .int, 2) := by decide +kernel
theorem dX1_init_9 : decode cX1_init 9 = .ok (.putfield 29, 3) := by decide +kernel
theorem dX1_init_12 : decode cX1_init 12 = .ok (.aload_n 0, 1) := by decide +kernel
theorem dX1_init_13 : decode cX1_init 13 = .ok (.bipush 64, 2) := by decide +kernel
theorem dX1_init_15 : decode cX1_init 15 = .ok (.newarray .int, 2) := by decide +kernel
theorem dX1_init_17 : decode cX1_init 17 = .ok (.putfield 33, 3) := by decide +kernel
theorem dX1_init_20 : decode cX1_init 20 = .ok (.aload_n 0, 1) := by decide +kernel
theorem dX1_init_21 : decode cX1_init 21 = .ok (.iconst 1, 1) := by decide +kernel
theorem dX1_init_22 : decode cX1_init 22 = .ok (.putfield 36, 3) := by decide +kernel
theorem dX1_init_25 : decode cX1_init 25 = .ok (.aload_n 0, 1) := by decide +kernel
theorem dX1_init_26 : decode cX1_init 26 = .ok (.bipush 100, 2) := by decide +kernel
theorem dX1_init_28 : decode cX1_init 28 = .ok (.putfield 40, 3) := by decide +kernel
theorem dX1_init_31 : decode cX1_init 31 = .ok (.aload_n 0, 1) := by decide +kernel
theorem dX1_init_32 : decode cX1_init 32 = .ok (.iconst 1, 1) := by decide +kernel
theorem dX1_init_33 : decode cX1_init 33 = .ok (.putfield 43, 3) := by decide +kernel
theorem dX1_init_36 : decode cX1_init 36 = .ok (.aload_n 0, 1) := by decide +kernel
theorem dX1_init_37 : decode cX1_init 37 = .ok (.bipush 10, 2) := by decide +kernel
theorem dX1_init_39 : decode cX1_init 39 = .ok (.putfield 46, 3) := by decide +kernel
theorem dX1_init_42 : decode cX1_init 42 = .ok (.aload_n 0, 1) := by decide +kernel
theorem dX1_init_43 : decode cX1_init 43 = .ok (.bipush 11, 2) := by decide +kernel
theorem dX1_init_45 : decode cX1_init 45 = .ok (.putfield 49, 3) := by decide +kernel
theorem dX1_init_48 : decode cX1_init 48 = .ok (.aload_n 0, 1) := by decide +kernel
theorem dX1_init_49 : decode cX1_init 49 = .ok (.bipush 10, 2) := by decide +kernel
theorem dX1_init_51 : decode cX1_init 51 = .ok (.putfield 52, 3) := by decide +kernel
theorem dX1_init_54 : decode cX1_init 54 = .ok (.aload_n 0, 1) := by decide +kernel
theorem dX1_init_55 : decode cX1_init 55 = .ok (.sipush 20000, 3) := by decide +kernel
theorem dX1_init_58 : decode cX1_init 58 = .ok (.newarray .byte, 2) := by decide +kernel
theorem dX1_init_60 : decode cX1_init 60 = .ok (.putfield 55, 3) := by decide +kernel
theorem dX1_init_63 : decode cX1_init 63 = .ok (.aload_n 0, 1) := by decide +kernel
theorem dX1_init_64 : decode cX1_init 64 = .ok (.sipush 20000, 3) := by decide +kernel
theorem dX1_init_67 : decode cX1_init 67 = .ok (.newarray .byte, 2) := by decide +kernel
theorem dX1_init_69 : decode cX1_init 69 = .ok (.putfield 59, 3) := by decide +kernel
theorem dX1_init_72 : decode cX1_init 72 = .ok (.aload_n 0, 1) := by decide +kernel
theorem dX1_init_73 : decode cX1_init 73 = .ok (.sipush 20000, 3) := by decide +kernel
theorem dX1_init_76 : decode cX1_init 76 = .ok (.newarray .short, 2) := by decide +kernel
theorem dX1_init_78 : decode cX1_init 78 = .ok (.putfield 62, 3) := by decide +kernel
theorem dX1_init_81 : decode cX1_init 81 = .ok (.aload_n 0, 1) := by decide +kernel
theorem dX1_init_82 : decode cX1_init 82 = .ok (.bipush 8, 2) := by decide +kernel
theorem dX1_init_84 : decode cX1_init 84 = .ok (.newarray .boolean, 2) := by decide +kernel
theorem dX1_init_86 : decode cX1_init 86 = .ok (.putfield 66, 3) := by decide +kernel
theorem dX1_init_89 : decode cX1_init 89 = .ok (.aload_n 0, 1) := by decide +kernel
theorem dX1_init_90 : decode cX1_init 90 = .ok (.bipush 8, 2) := by decide +kernel
theorem dX1_init_92 : decode cX1_init 92 = .ok (.newarray .int, 2) := by decide +kernel
theorem dX1_init_94 : decode cX1_init 94 = .ok (.putfield 70, 3) := by decide +kernel
theorem dX1_init_97 : decode cX1_init 97 = .ok (.aload_n 0, 1) := by decide +kernel
theorem dX1_init_98 : decode cX1_init 98 = .ok (.bipush 8, 2) := by decide +kernel
theorem dX1_init_100 : decode cX1_init 100 = .ok (.newarray .int, 2) := by decide +kernel
theorem dX1_init_102 : decode cX1_init 102 = .ok (.putfield 73, 3) := by decide +kernel
theorem dX1_init_105 : decode cX1_init 105 = .ok (.aload_n 0, 1) := by decide +kernel
theorem dX1_init_106 : decode cX1_init 106 = .ok (.iconst (-1), 1) := by decide +kernel
theorem dX1_init_107 : decode cX1_init 107 = .ok (.putfield 76, 3) := by decide +kernel
theorem dX1_init_110 : decode cX1_init 110 = .ok (.aload_n 0, 1) := by decide +kernel
theorem dX1_init_111 : decode cX1_init 111 = .ok (.bipush 16, 2) := by decide +kernel
theorem dX1_init_113 : decode cX1_init 113 = .ok (.anewarray 79, 3) := by decide +kernel
theorem dX1_init_116 : decode cX1_init 116 = .ok (.putfield 81, 3) := by decide +kernel
theorem dX1_init_119 : decode cX1_init 119 = .ok (.aload_n 0, 1) := by decide +kernel
theorem dX1_init_120 : decode cX1_init 120 = .ok (.new 85, 3) := by decide +kernel
theorem dX1_init_123 : decode cX1_init 123 = .ok (.dup, 1) := by decide +kernel
theorem dX1_init_124 : decode cX1_init 124 = .ok (.invokespecial 87, 3) := by decide +kernel
theorem dX1_init_127 : decode cX1_init 127 = .ok (.putfield 88, 3) := by decide +kernel
theorem dX1_init_130 : decode cX1_init 130 = .ok (.aload_n 0, 1) := by decide +kernel
theorem dX1_init_131 : decode cX1_init 131 = .ok (.new 92, 3) := by decide +kernel
theorem dX1_init_134 : decode cX1_init 134 = .ok (.dup, 1) := by decide +kernel
theorem dX1_init_135 : decode cX1_init 135 = .ok (.invokespecial 94, 3) := by decide +kernel
theorem dX1_init_138 : decode cX1_init 138 = .ok (.putfield 95, 3) := by decide +kernel
theorem dX1_init_141 : decode cX1_init 141 = .ok (.aload_n 0, 1) := by decide +kernel
theorem dX1_init_142 : decode cX1_init 142 = .ok (.aload_n 0, 1) := by decide +kernel
theorem dX1_init_143 : decode cX1_init 143 = .ok (.getfield 88, 3) := by decide +kernel
theorem dX1_init_146 : decode cX1_init 146 = .ok (.putfield 99, 3) := by decide +kernel
theorem dX1_init_149 : decode cX1_init 149 = .ok (.aload_n 0, 1) := by decide +kernel
theorem dX1_init_150 : decode cX1_init 150 = .ok (.new 103, 3) := by decide +kernel
theorem dX1_init_153 : decode cX1_init 153 = .ok (.dup, 1) := by decide +kernel
theorem dX1_init_154 : decode cX1_init 154 = .ok (.aload_n 0, 1) := by decide +kernel
theorem dX1_init_155 : decode cX1_init 155 = .ok (.invokespecial 105, 3) := by decide +kernel
theorem dX1_init_158 : decode cX1_init 158 = .ok (.putfield 108, 3) := by decide +kernel
theorem dX1_init_161 : decode cX1_init 161 = .ok (.aload_n 0, 1) := by decide +kernel
theorem dX1_init_162 : decode cX1_init 162 = .ok (.new 112, 3) := by decide +kernel
theorem dX1_init_165 : decode cX1_init 165 = .ok (.dup, 1) := by decide +kernel
theorem dX1_init_166 : decode cX1_init 166 = .ok (.aload_n 0, 1) := by decide +kernel
theorem dX1_init_167 : decode cX1_init 167 = .ok (.invokespecial 114, 3) := by decide +kernel
theorem dX1_init_170 : decode cX1_init 170 = .ok (.putfield 115, 3) := by decide +kernel
theorem dX1_init_173 : decode cX1_init 173 = .ok (.aload_n 0, 1) := by decide +kernel
theorem dX1_init_174 : decode cX1_init 174 = .ok (.aload_n 0, 1) := by decide +kernel
theorem dX1_init_175 : decode cX1_init 175 = .ok (.getfield 108, 3) := by decide +kernel
theorem dX1_init_178 : decode cX1_init 178 = .ok (.putfield 119, 3) := by decide +kernel
theorem dX1_init_181 : decode cX1_init 181 = .ok (.aload_n 0, 1) := by decide +kernel
theorem dX1_init_182 : decode cX1_init 182 = .ok (.new 123, 3) := by decide +kernel
theorem dX1_init_185 : decode cX1_init 185 = .ok (.dup, 1) := by decide +kernel
theorem dX1_init_186 : decode cX1_init 186 = .ok (.invokespecial 125, 3) := by decide +kernel
theorem dX1_init_189 : decode cX1_init 189 = .ok (.putfield 126, 3) := by decide +kernel
theorem dX1_init_192 : decode cX1_init 192 = .ok (.aload_n 0, 1) := by decide +kernel
theorem dX1_init_193 : decode cX1_init 193 = .ok (.new 130, 3) := by decide +kernel
theorem dX1_init_196 : decode cX1_init 196 = .ok (.dup, 1) := by decide +kernel
theorem dX1_init_197 : decode cX1_init 197 = .ok (.bipush 64, 2) := by decide +kernel
theorem dX1_init_199 : decode cX1_init 199 = .ok (.invokespecial 132, 3) := by decide +kernel
theorem dX1_init_202 : decode cX1_init 202 = .ok (.putfield 135, 3) := by decide +kernel
theorem dX1_init_205 : decode cX1_init 205 = .ok (.aload_n 0, 1) := by decide +kernel
theorem dX1_init_206 : decode cX1_init 206 = .ok (.new 130, 3) := by decide +kernel
theorem dX1_init_209 : decode cX1_init 209 = .ok (.dup, 1) := by decide +kernel
theorem dX1_init_210 : decode cX1_init 210 = .ok (.bipush 64, 2) := by decide +kernel
theorem dX1_init_212 : decode cX1_init 212 = .ok (.invokespecial 132, 3) := by decide +kernel
theorem dX1_init_215 : decode cX1_init 215 = .ok (.putfield 139, 3) := by decide +kernel
theorem dX1_init_218 : decode cX1_init 218 = .ok (.aload_n 0, 1) := by decide +kernel
theorem dX1_init_219 : decode cX1_init 219 = .ok (.new 130, 3) := by decide +kernel
theorem dX1_init_222 : decode cX1_init 222 = .ok (.dup, 1) := by decide +kernel
theorem dX1_init_223 : decode cX1_init 223 = .ok (.bipush 64, 2) := by decide +kernel
theorem dX1_init_225 : decode cX1_init 225 = .ok (.invokespecial 132, 3) := by decide +kernel
theorem dX1_init_228 : decode cX1_init 228 = .ok (.putfield 142, 3) := by decide +kernel
theorem dX1_init_231 : decode cX1_init 231 = .ok (.aload_n 0, 1) := by decide +kernel
theorem dX1_init_232 : decode cX1_init 232 = .ok (.new 130, 3) := by decide +kernel
theorem dX1_init_235 : decode cX1_init 235 = .ok (.dup, 1) := by decide +kernel
theorem dX1_init_236 : decode cX1_init 236 = .ok (.bipush 64, 2) := by decide +kernel
theorem dX1_init_238 : decode cX1_init 238 = .ok (.invokespecial 132, 3) := by decide +kernel
theorem dX1_init_241 : decode cX1_init 241 = .ok (.putfield 145, 3) := by decide +kernel
theorem dX1_init_244 : decode cX1_init 244 = .ok (.aload_n 0, 1) := by decide +kernel
theorem dX1_init_245 : decode cX1_init 245 = .ok (.sipush 961, 3) := by decide +kernel
theorem dX1_init_248 : decode cX1_init 248 = .ok (.anewarray 130, 3) := by decide +kernel
theorem dX1_init_251 : decode cX1_init 251 = .ok (.putfield 148, 3) := by decide +kernel
theorem dX1_init_254 : decode cX1_init 254 = .ok (.aload_n 0, 1) := by decide +kernel
theorem dX1_init_255 : decode cX1_init 255 = .ok (.sipush 961, 3) := by decide +kernel
theorem dX1_init_258 : decode cX1_init 258 = .ok (.anewarray 130, 3) := by decide +kernel
theorem dX1_init_261 : decode cX1_init 261 = .ok (.putfield 152, 3) := by decide +kernel
theorem dX1_init_264 : decode cX1_init 264 = .ok (.aload_n 0, 1) := by decide +kernel
theorem dX1_init_265 : decode cX1_init 265 = .ok (.sipush 961, 3) := by decide +kernel
theorem dX1_init_268 : decode cX1_init 268 = .ok (.newarray .boolean, 2) := by decide +kernel
theorem dX1_init_270 : decode cX1_init 270 = .ok (.putfield 155, 3) := by decide +kernel
theorem dX1_init_273 : decode cX1_init 273 = .ok (.aload_n 0, 1) := by decide +kernel
theorem dX1_init_274 : decode cX1_init 274 = .ok (.new 130, 3) := by decide +kernel
theorem dX1_init_277 : decode cX1_init 277 = .ok (.dup, 1) := by decide +kernel
theorem dX1_init_278 : decode cX1_init 278 = .ok (.bipush 64, 2) := by decide +kernel
theorem dX1_init_280 : decode cX1_init 280 = .ok (.invokespecial 132, 3) := by decide +kernel
theorem dX1_init_283 : decode cX1_init 283 = .ok (.putfield 158, 3) := by decide +kernel
theorem dX1_init_286 : decode cX1_init 286 = .ok (.aload_n 0, 1) := by decide +kernel
theorem dX1_init_287 : decode cX1_init 287 = .ok (.new 130, 3) := by decide +kernel
theorem dX1_init_290 : decode cX1_init 290 = .ok (.dup, 1) := by decide +kernel
theorem dX1_init_291 : decode cX1_init 291 = .ok (.bipush 64, 2) := by decide +kernel
theorem dX1_init_293 : decode cX1_init 293 = .ok (.invokespecial 132, 3) := by decide +kernel
theorem dX1_init_296 : decode cX1_init 296 = .ok (.putfield 161, 3) := by decide +kernel
theorem dX1_init_299 : decode cX1_init 299 = .ok (.iconst 0, 1) := by decide +kernel
theorem dX1_init_300 : decode cX1_init 300 = .ok (.istore_n 1, 1) := by decide +kernel
theorem dX1_init_301 : decode cX1_init 301 = .ok (.iload_n 1, 1) := by decide +kernel
theorem dX1_init_302 : decode cX1_init 302 = .ok (.bipush 16, 2) := by decide +kernel
theorem dX1_init_304 : decode cX1_init 304 = .ok (.if_icmp .ge 22, 3) := by decide +kernel
theorem dX1_init_307 : decode cX1_init 307 = .ok (.aload_n 0, 1) := by decide +kernel
theorem dX1_init_308 : decode cX1_init 308 = .ok (.getfield 81, 3) := by decide +kernel
theorem dX1_init_311 : decode cX1_init 311 = .ok (.iload_n 1, 1) := by decide +kernel
theorem dX1_init_312 : decode cX1_init 312 = .ok (.new 79, 3) := by decide +kernel
theorem dX1_init_315 : decode cX1_init 315 = .ok (.dup, 1) := by decide +kernel
theorem dX1_init_316 : decode cX1_init 316 = .ok (.invokespecial 164, 3) := by decide +kernel
theorem dX1_init_319 : decode cX1_init 319 = .ok (.aastore, 1) := by decide +kernel
theorem dX1_init_320 : decode cX1_init 320 = .ok (.iinc 1 1, 3) := by decide +kernel
theorem dX1_init_323 : decode cX1_init 323 = .ok (.goto (-22), 3) := by decide +kernel
theorem dX1_init_326 : decode cX1_init 326 = .ok (.iconst 0, 1) := by decide +kernel
theorem dX1_init_327 : decode cX1_init 327 = .ok (.istore_n 1, 1) := by decide +kernel
theorem dX1_init_328 : decode cX1_init 328 = .ok (.iload_n 1, 1) := by decide +kernel
theorem dX1_init_329 : decode cX1_init 329 = .ok (.aload_n 0, 1) := by decide +kernel
theorem dX1_init_330 : decode cX1_init 330 = .ok (.getfield 148, 3) := by decide +kernel
theorem dX1_init_333 : decode cX1_init 333 = .ok (.arraylength, 1) := by decide +kernel
theorem dX1_init_334 : decode cX1_init 334 = .ok (.if_icmp .ge 39, 3) := by decide +kernel
theorem dX1_init_337 : decode cX1_init 337 = .ok (.aload_n 0, 1) := by decide +kernel
theorem dX1_init_338 : decode cX1_init 338 = .ok (.getfield 148, 3) := by decide +kernel
theorem dX1_init_341 : decode cX1_init 341 = .ok (.iload_n 1, 1) := by decide +kernel
theorem dX1_init_342 : decode cX1_init 342 = .ok (.new 130, 3) := by decide +kernel
theorem dX1_init_345 : decode cX1_init 345 = .ok (.dup, 1) := by decide +kernel
theorem dX1_init_346 : decode cX1_init 346 = .ok (.bipush 8, 2) := by decide +kernel
theorem dX1_init_348 : decode cX1_init 348 = .ok (.invokespecial 132, 3) := by decide +kernel
theorem dX1_init_351 : decode cX1_init 351 = .ok (.aastore, 1) := by decide +kernel
theorem dX1_init_352 : decode cX1_init 352 = .ok (.aload_n 0, 1) := by decide +kernel
theorem dX1_init_353 : decode cX1_init 353 = .ok (.getfield 152, 3) := by decide +kernel
theorem dX1_init_356 : decode cX1_init 356 = .ok (.iload_n 1, 1) := by decide +kernel
theorem dX1_init_357 : decode cX1_init 357 = .ok (.new 130, 3) := by decide +kernel
theorem dX1_init_360 : decode cX1_init 360 = .ok (.dup, 1) := by decide +kernel
theorem dX1_init_361 : decode cX1_init 361 = .ok (.bipush 8, 2) := by decide +kernel
theorem dX1_init_363 : decode cX1_init 363 = .ok (.invokespecial 132, 3) := by decide +kernel
theorem dX1_init_366 : decode cX1_init 366 = .ok (.aastore, 1) := by decide +kernel
theorem dX1_init_367 : decode cX1_init 367 = .ok (.iinc 1 1, 3) := by decide +kernel
theorem dX1_init_370 : decode cX1_init 370 = .ok (.goto (-42), 3) := by decide +kernel
theorem dX1_init_373 : decode cX1_init 373 = .ok (.aload_n 0, 1) := by decide +kernel
theorem dX1_init_374 : decode cX1_init 374 = .ok (.getfield 145, 3) := by decide +kernel
theorem dX1_init_377 : decode cX1_init 377 = .ok (.lconst 1, 1) := by decide +kernel
theorem dX1_init_378 : decode cX1_init 378 = .ok (.invokevirtual 165, 3) := by decide +kernel
theorem dX1_init_381 : decode cX1_init 381 = .ok (.iconst 0, 1) := by decide +kernel
theorem dX1_init_382 : decode cX1_init 382 = .ok (.istore_n 1, 1) := by decide +kernel
theorem dX1_init_383 : decode cX1_init 383 = .ok (.iload_n 1, 1) := by decide +kernel
theorem dX1_init_384 : decode cX1_init 384 = .ok (.sipush 20000, 3) := by decide +kernel
theorem dX1_init_387 : decode cX1_init 387 = .ok (.if_icmp .ge 24, 3) := by decide +kernel
theorem dX1_init_390 : decode cX1_init 390 = .ok (.aload_n 0, 1) := by decide +kernel
theorem dX1_init_391 : decode cX1_init 391 = .ok (.getfield 55, 3) := by decide +kernel
theorem dX1_init_394 : decode cX1_init 394 = .ok (.iload_n 1, 1) := by decide +kernel
theorem dX1_init_395 : decode cX1_init 395 = .ok (.iconst (-1), 1) := by decide +kernel
theorem dX1_init_396 : decode cX1_init 396 = .ok (.bastore, 1) := by decide +kernel
theorem dX1_init_397 : decode cX1_init 397 = .ok (.aload_n 0, 1) := by decide +kernel
theorem dX1_init_398 : decode cX1_init 398 = .ok (.getfield 59, 3) := by decide +kernel
theorem dX1_init_401 : decode cX1_init 401 = .ok (.iload_n 1, 1) := by decide +kernel
theorem dX1_init_402 : decode cX1_init 402 = .ok (.bipush (-2), 2) := by decide +kernel
theorem dX1_init_404 : decode cX1_init 404 = .ok (.bastore, 1) := by decide +kernel
theorem dX1_init_405 : decode cX1_init 405 = .ok (.iinc 1 1, 3) := by decide +kernel
theorem dX1_init_408 : decode cX1_init 408 = .ok (.goto (-25), 3) := by decide +kernel
theorem dX1_init_411 : decode cX1_init 411 = .ok (.iconst 0, 1) := by decide +kernel
theorem dX1_init_412 : decode cX1_init 412 = .ok (.istore_n 1, 1) := by decide +kernel
theorem dX1_init_413 : decode cX1_init 413 = .ok (.iload_n 1, 1) := by decide +kernel
theorem dX1_init_414 : decode cX1_init 414 = .ok (.bipush 8, 2) := by decide +kernel
theorem dX1_init_416 : decode cX1_init 416 = .ok (.if_icmp .ge 16, 3) := by decide +kernel
theorem dX1_init_419 : decode cX1_init 419 = .ok (.aload_n 0, 1) := by decide +kernel
theorem dX1_init_420 : decode cX1_init 420 = .ok (.getfield 73, 3) := by decide +kernel
theorem dX1_init_423 : decode cX1_init 423 = .ok (.iload_n 1, 1) := by decide +kernel
theorem dX1_init_424 : decode cX1_init 424 = .ok (.iconst (-1), 1) := by decide +kernel
theorem dX1_init_425 : decode cX1_init 425 = .ok (.iastore, 1) := by decide +kernel
theorem dX1_init_426 : decode cX1_init 426 = .ok (.iinc 1 1, 3) := by decide +kernel
theorem dX1_init_429 : decode cX1_init 429 = .ok (.goto (-16), 3) := by decide +kernel
theorem dX1_init_432 : decode cX1_init 432 = .ok (.return_, 1) := by decide +kernel
abbrev cX1_again : ByteArray := prog_1_method_24_code
def yX1_again : MethodName := ⟨RX1, "again", "()V"⟩
theorem dX1_again_0 : decode cX1_again 0 = .ok (.aload_n 0, 1) := by decide +kernel
theorem dX1_again_1 : decode cX1_again 1 = .ok (.iconst 0, 1) := by decide +kernel
theorem dX1_again_2 : decode cX1_again 2 = .ok (.putfield 202, 3) := by decide +kernel
theorem dX1_again_5 : decode cX1_again 5 = .ok (.aload_n 0, 1) := by decide +kernel
theorem dX1_again_6 : decode cX1_again 6 = .ok (.iconst 0, 1) := by decide +kernel
theorem dX1_again_7 : decode cX1_again 7 = .ok (.putfield 251, 3) := by decide +kernel
theorem dX1_again_10 : decode cX1_again 10 = .ok (.aload_n 0, 1) := by decide +kernel
theorem dX1_again_11 : decode cX1_again 11 = .ok (.iconst 0, 1) := by decide +kernel
theorem dX1_again_12 : decode cX1_again 12 = .ok (.putfield 271, 3) := by decide +kernel
theorem dX1_again_15 : decode cX1_again 15 = .ok (.aload_n 0, 1) := by decide +kernel
theorem dX1_again_16 : decode cX1_again 16 = .ok (.iconst 0, 1) := by decide +kernel
theorem dX1_again_17 : decode cX1_again 17 = .ok (.putfield 266, 3) := by decide +kernel
theorem dX1_again_20 : decode cX1_again 20 = .ok (.aload_n 0, 1) := by decide +kernel
theorem dX1_again_21 : decode cX1_again 21 = .ok (.iconst (-1), 1) := by decide +kernel
theorem dX1_again_22 : decode cX1_again 22 = .ok (.putfield 76, 3) := by decide +kernel
theorem dX1_again_25 : decode cX1_again 25 = .ok (.aload_n 0, 1) := by decide +kernel
theorem dX1_again_26 : decode cX1_again 26 = .ok (.iconst 0, 1) := by decide +kernel
theorem dX1_again_27 : decode cX1_again 27 = .ok (.putfield 274, 3) := by decide +kernel
theorem dX1_again_30 : decode cX1_again 30 = .ok (.aload_n 0, 1) := by decide +kernel
theorem dX1_again_31 : decode cX1_again 31 = .ok (.getfield 88, 3) := by decide +kernel
theorem dX1_again_34 : decode cX1_again 34 = .ok (.iconst 0, 1) := by decide +kernel
theorem dX1_again_35 : decode cX1_again 35 = .ok (.putfield 238, 3) := by decide +kernel
theorem dX1_again_38 : decode cX1_again 38 = .ok (.iconst 0, 1) := by decide +kernel
theorem dX1_again_39 : decode cX1_again 39 = .ok (.istore_n 1, 1) := by decide +kernel
theorem dX1_again_40 : decode cX1_again 40 = .ok (.iload_n 1, 1) := by decide +kernel
theorem dX1_again_41 : decode cX1_again 41 = .ok (.sipush 20000, 3) := by decide +kernel
theorem dX1_again_44 : decode cX1_again 44 = .ok (.if_icmp .ge 24, 3) := by decide +kernel
theorem dX1_again_47 : decode cX1_again 47 = .ok (.aload_n 0, 1) := by decide +kernel
theorem dX1_again_48 : decode cX1_again 48 = .ok (.getfield 59, 3) := by decide +kernel
theorem dX1_again_51 : decode cX1_again 51 = .ok (.iload_n 1, 1) := by decide +kernel
theorem dX1_again_52 : decode cX1_again 52 = .ok (.bipush (-2), 2) := by decide +kernel
theorem dX1_again_54 : decode cX1_again 54 = .ok (.bastore, 1) := by decide +kernel
theorem dX1_again_55 : decode cX1_again 55 = .ok (.aload_n 0, 1) := by decide +kernel
theorem dX1_again_56 : decode cX1_again 56 = .ok (.getfield 62, 3) := by decide +kernel
theorem dX1_again_59 : decode cX1_again 59 = .ok (.iload_n 1, 1) := by decide +kernel
theorem dX1_again_60 : decode cX1_again 60 = .ok (.iconst 0, 1) := by decide +kernel
theorem dX1_again_61 : decode cX1_again 61 = .ok (.sastore, 1) := by decide +kernel
theorem dX1_again_62 : decode cX1_again 62 = .ok (.iinc 1 1, 3) := by decide +kernel
theorem dX1_again_65 : decode cX1_again 65 = .ok (.goto (-25), 3) := by decide +kernel
theorem dX1_again_68 : decode cX1_again 68 = .ok (.iconst 0, 1) := by decide +kernel
theorem dX1_again_69 : decode cX1_again 69 = .ok (.istore_n 1, 1) := by decide +kernel
theorem dX1_again_70 : decode cX1_again 70 = .ok (.iload_n 1, 1) := by decide +kernel
theorem dX1_again_71 : decode cX1_again 71 = .ok (.bipush 8, 2) := by decide +kernel
theorem dX1_again_73 : decode cX1_again 73 = .ok (.if_icmp .ge 23, 3) := by decide +kernel
theorem dX1_again_76 : decode cX1_again 76 = .ok (.aload_n 0, 1) := by decide +kernel
theorem dX1_again_77 : decode cX1_again 77 = .ok (.getfield 70, 3) := by decide +kernel
theorem dX1_again_80 : decode cX1_again 80 = .ok (.iload_n 1, 1) := by decide +kernel
theorem dX1_again_81 : decode cX1_again 81 = .ok (.iconst 0, 1) := by decide +kernel
theorem dX1_again_82 : decode cX1_again 82 = .ok (.iastore, 1) := by decide +kernel
theorem dX1_again_83 : decode cX1_again 83 = .ok (.aload_n 0, 1) := by decide +kernel
theorem dX1_again_84 : decode cX1_again 84 = .ok (.getfield 73, 3) := by decide +kernel
theorem dX1_again_87 : decode cX1_again 87 = .ok (.iload_n 1, 1) := by decide +kernel
theorem dX1_again_88 : decode cX1_again 88 = .ok (.iconst (-1), 1) := by decide +kernel
theorem dX1_again_89 : decode cX1_again 89 = .ok (.iastore, 1) := by decide +kernel
theorem dX1_again_90 : decode cX1_again 90 = .ok (.iinc 1 1, 3) := by decide +kernel
theorem dX1_again_93 : decode cX1_again 93 = .ok (.goto (-23), 3) := by decide +kernel
theorem dX1_again_96 : decode cX1_again 96 = .ok (.return_, 1) := by decide +kernel
abbrev cX1_candidate : ByteArray := prog_1_method_11_code
def yX1_candidate : MethodName := ⟨RX1, "candidate", "(I)I"⟩
theorem dX1_candidate_0 : decode cX1_candidate 0 = .ok (.iload_n 1, 1) := by decide +kernel
theorem dX1_candidate_1 : decode cX1_candidate 1 = .ok (.ifCond .lt 13, 3) := by decide +kernel
theorem dX1_candidate_4 : decode cX1_candidate 4 = .ok (.iload_n 1, 1) := by decide +kernel
theorem dX1_candidate_5 : decode cX1_candidate 5 = .ok (.ldc 209, 2) := by decide +kernel
theorem dX1_candidate_7 : decode cX1_candidate 7 = .ok (.if_icmp .gt 7, 3) := by decide +kernel
theorem dX1_candidate_10 : decode cX1_candidate 10 = .ok (.iconst 1, 1) := by decide +kernel
theorem dX1_candidate_11 : decode cX1_candidate 11 = .ok (.goto 4, 3) := by decide +kernel
theorem dX1_candidate_14 : decode cX1_candidate 14 = .ok (.iconst 0, 1) := by decide +kernel
theorem dX1_candidate_15 : decode cX1_candidate 15 = .ok (.invokestatic 210, 3) := by decide +kernel
theorem dX1_candidate_18 : decode cX1_candidate 18 = .ok (.aload_n 0, 1) := by decide +kernel
theorem dX1_candidate_19 : decode cX1_candidate 19 = .ok (.invokevirtual 213, 3) := by decide +kernel
theorem dX1_candidate_22 : decode cX1_candidate 22 = .ok (.aload_n 0, 1) := by decide +kernel
theorem dX1_candidate_23 : decode cX1_candidate 23 = .ok (.getfield 169, 3) := by decide +kernel
theorem dX1_candidate_26 : decode cX1_candidate 26 = .ok (.bipush 8, 2) := by decide +kernel
theorem dX1_candidate_28 : decode cX1_candidate 28 = .ok (.if_icmp .ge 7, 3) := by decide +kernel
theorem dX1_candidate_31 : decode cX1_candidate 31 = .ok (.iconst 1, 1) := by decide +kernel
theorem dX1_candidate_32 : decode cX1_candidate 32 = .ok (.goto 4, 3) := by decide +kernel
theorem dX1_candidate_35 : decode cX1_candidate 35 = .ok (.iconst 0, 1) := by decide +kernel
theorem dX1_candidate_36 : decode cX1_candidate 36 = .ok (.invokestatic 216, 3) := by decide +kernel
theorem dX1_candidate_39 : decode cX1_candidate 39 = .ok (.aload_n 0, 1) := by decide +kernel
theorem dX1_candidate_40 : decode cX1_candidate 40 = .ok (.getfield 29, 3) := by decide +kernel
theorem dX1_candidate_43 : decode cX1_candidate 43 = .ok (.aload_n 0, 1) := by decide +kernel
theorem dX1_candidate_44 : decode cX1_candidate 44 = .ok (.getfield 169, 3) := by decide +kernel
theorem dX1_candidate_47 : decode cX1_candidate 47 = .ok (.iload_n 1, 1) := by decide +kernel
theorem dX1_candidate_48 : decode cX1_candidate 48 = .ok (.iastore, 1) := by decide +kernel
theorem dX1_candidate_49 : decode cX1_candidate 49 = .ok (.aload_n 0, 1) := by decide +kernel
theorem dX1_candidate_50 : decode cX1_candidate 50 = .ok (.dup, 1) := by decide +kernel
theorem dX1_candidate_51 : decode cX1_candidate 51 = .ok (.getfield 169, 3) := by decide +kernel
theorem dX1_candidate_54 : decode cX1_candidate 54 = .ok (.dup_x1, 1) := by decide +kernel
theorem dX1_candidate_55 : decode cX1_candidate 55 = .ok (.iconst 1, 1) := by decide +kernel
theorem dX1_candidate_56 : decode cX1_candidate 56 = .ok (.iadd, 1) := by decide +kernel
theorem dX1_candidate_57 : decode cX1_candidate 57 = .ok (.putfield 169, 3) := by decide +kernel
theorem dX1_candidate_60 : decode cX1_candidate 60 = .ok (.ireturn, 1) := by decide +kernel
abbrev cX1_need : ByteArray := prog_1_method_2_code
def yX1_need : MethodName := ⟨RX1, "need", "(Z)V"⟩
theorem dX1_need_0 : decode cX1_need 0 = .ok (.iload_n 0, 1) := by decide +kernel
theorem dX1_need_1 : decode cX1_need 1 = .ok (.ifCond .ne 13, 3) := by decide +kernel
theorem dX1_need_4 : decode cX1_need 4 = .ok (.new 7, 3) := by decide +kernel
theorem dX1_need_7 : decode cX1_need 7 = .ok (.dup, 1) := by decide +kernel
theorem dX1_need_8 : decode cX1_need 8 = .ok (.ldc 9, 2) := by decide +kernel
theorem dX1_need_10 : decode cX1_need 10 = .ok (.invokespecial 11, 3) := by decide +kernel
theorem dX1_need_13 : decode cX1_need 13 = .ok (.athrow, 1) := by decide +kernel
theorem dX1_need_14 : decode cX1_need 14 = .ok (.return_, 1) := by decide +kernel
abbrev cX1_setting : ByteArray := prog_1_method_10_code
def yX1_setting : MethodName := ⟨RX1, "setting", "()V"⟩
theorem dX1_setting_0 : decode cX1_setting 0 = .ok (.aload_n 0, 1) := by decide +kernel
theorem dX1_setting_1 : decode cX1_setting 1 = .ok (.getfield 202, 3) := by decide +kernel
theorem dX1_setting_4 : decode cX1_setting 4 = .ok (.ifCond .ne 7, 3) := by decide +kernel
theorem dX1_setting_7 : decode cX1_setting 7 = .ok (.iconst 1, 1) := by decide +kernel
theorem dX1_setting_8 : decode cX1_setting 8 = .ok (.goto 4, 3) := by decide +kernel
theorem dX1_setting_11 : decode cX1_setting 11 = .ok (.iconst 0, 1) := by decide +kernel
theorem dX1_setting_12 : decode cX1_setting 12 = .ok (.invokestatic 205, 3) := by decide +kernel
theorem dX1_setting_15 : decode cX1_setting 15 = .ok (.return_, 1) := by decide +kernel
abbrev cX1_now : ByteArray := prog_1_method_3_code
def yX1_now : MethodName := ⟨RX1, "now", "(Z)V"⟩
theorem dX1_now_0 : decode cX1_now 0 = .ok (.iload_n 0, 1) := by decide +kernel
theorem dX1_now_1 : decode cX1_now 1 = .ok (.ifCond .ne 13, 3) := by decide +kernel
theorem dX1_now_4 : decode cX1_now 4 = .ok (.new 14, 3) := by decide +kernel
theorem dX1_now_7 : decode cX1_now 7 = .ok (.dup, 1) := by decide +kernel
theorem dX1_now_8 : decode cX1_now 8 = .ok (.ldc 16, 2) := by decide +kernel
theorem dX1_now_10 : decode cX1_now 10 = .ok (.invokespecial 18, 3) := by decide +kernel
theorem dX1_now_13 : decode cX1_now 13 = .ok (.athrow, 1) := by decide +kernel
theorem dX1_now_14 : decode cX1_now 14 = .ok (.return_, 1) := by decide +kernel
abbrev cX1_room : ByteArray := prog_1_method_4_code
def yX1_room : MethodName := ⟨RX1, "room", "(Z)V"⟩
theorem dX1_room_0 : decode cX1_room 0 = .ok (.iload_n 0, 1) := by decide +kernel
theorem dX1_room_1 : decode cX1_room 1 = .ok (.ifCond .ne 13, 3) := by decide +kernel
theorem dX1_room_4 : decode cX1_room 4 = .ok (.new 19, 3) := by decide +kernel
theorem dX1_room_7 : decode cX1_room 7 = .ok (.dup, 1) := by decide +kernel
theorem dX1_room_8 : decode cX1_room 8 = .ok (.ldc 21, 2) := by decide +kernel
theorem dX1_room_10 : decode cX1_room 10 = .ok (.invokespecial 23, 3) := by decide +kernel
theorem dX1_room_13 : decode cX1_room 13 = .ok (.athrow, 1) := by decide +kernel
theorem dX1_room_14 : decode cX1_room 14 = .ok (.return_, 1) := by decide +kernel
abbrev cX1_batch : ByteArray := prog_1_method_12_code
def yX1_batch : MethodName := ⟨RX1, "batch", "(I)I"⟩
theorem dX1_batch_0 : decode cX1_batch 0 = .ok (.iload_n 1, 1) := by decide +kernel
theorem dX1_batch_1 : decode cX1_batch 1 = .ok (.iconst 1, 1) := by decide +kernel
theorem dX1_batch_2 : decode cX1_batch 2 = .ok (.if_icmp .lt 14, 3) := by decide +kernel
theorem dX1_batch_5 : decode cX1_batch 5 = .ok (.iload_n 1, 1) := by decide +kernel
theorem dX1_batch_6 : decode cX1_batch 6 = .ok (.sipush 4000, 3) := by decide +kernel
theorem dX1_batch_9 : decode cX1_batch 9 = .ok (.if_icmp .gt 7, 3) := by decide +kernel
theorem dX1_batch_12 : decode cX1_batch 12 = .ok (.iconst 1, 1) := by decide +kernel
theorem dX1_batch_13 : decode cX1_batch 13 = .ok (.goto 4, 3) := by decide +kernel
theorem dX1_batch_16 : decode cX1_batch 16 = .ok (.iconst 0, 1) := by decide +kernel
theorem dX1_batch_17 : decode cX1_batch 17 = .ok (.invokestatic 210, 3) := by decide +kernel
theorem dX1_batch_20 : decode cX1_batch 20 = .ok (.aload_n 0, 1) := by decide +kernel
theorem dX1_batch_21 : decode cX1_batch 21 = .ok (.invokevirtual 213, 3) := by decide +kernel
theorem dX1_batch_24 : decode cX1_batch 24 = .ok (.aload_n 0, 1) := by decide +kernel
theorem dX1_batch_25 : decode cX1_batch 25 = .ok (.getfield 219, 3) := by decide +kernel
theorem dX1_batch_28 : decode cX1_batch 28 = .ok (.bipush 64, 2) := by decide +kernel
theorem dX1_batch_30 : decode cX1_batch 30 = .ok (.if_icmp .ge 19, 3) := by decide +kernel
theorem dX1_batch_33 : decode cX1_batch 33 = .ok (.aload_n 0, 1) := by decide +kernel
theorem dX1_batch_34 : decode cX1_batch 34 = .ok (.getfield 222, 3) := by decide +kernel
theorem dX1_batch_37 : decode cX1_batch 37 = .ok (.iload_n 1, 1) := by decide +kernel
theorem dX1_batch_38 : decode cX1_batch 38 = .ok (.iadd, 1) := by decide +kernel
theorem dX1_batch_39 : decode cX1_batch 39 = .ok (.sipush 20000, 3) := by decide +kernel
theorem dX1_batch_42 : decode cX1_batch 42 = .ok (.if_icmp .gt 7, 3) := by decide +kernel
theorem dX1_batch_45 : decode cX1_batch 45 = .ok (.iconst 1, 1) := by decide +kernel
theorem dX1_batch_46 : decode cX1_batch 46 = .ok (.goto 4, 3) := by decide +kernel
theorem dX1_batch_49 : decode cX1_batch 49 = .ok (.iconst 0, 1) := by decide +kernel
theorem dX1_batch_50 : decode cX1_batch 50 = .ok (.invokestatic 216, 3) := by decide +kernel
theorem dX1_batch_53 : decode cX1_batch 53 = .ok (.aload_n 0, 1) := by decide +kernel
theorem dX1_batch_54 : decode cX1_batch 54 = .ok (.getfield 33, 3) := by decide +kernel
theorem dX1_batch_57 : decode cX1_batch 57 = .ok (.aload_n 0, 1) := by decide +kernel
theorem dX1_batch_58 : decode cX1_batch 58 = .ok (.dup, 1) := by decide +kernel
theorem dX1_batch_59 : decode cX1_batch 59 = .ok (.getfield 219, 3) := by decide +kernel
theorem dX1_batch_62 : decode cX1_batch 62 = .ok (.dup_x1, 1) := by decide +kernel
theorem dX1_batch_63 : decode cX1_batch 63 = .ok (.iconst 1, 1) := by decide +kernel
theorem dX1_batch_64 : decode cX1_batch 64 = .ok (.iadd, 1) := by decide +kernel
theorem dX1_batch_65 : decode cX1_batch 65 = .ok (.putfield 219, 3) := by decide +kernel
theorem dX1_batch_68 : decode cX1_batch 68 = .ok (.iload_n 1, 1) := by decide +kernel
theorem dX1_batch_69 : decode cX1_batch 69 = .ok (.iastore, 1) := by decide +kernel
theorem dX1_batch_70 : decode cX1_batch 70 = .ok (.aload_n 0, 1) := by decide +kernel
theorem dX1_batch_71 : decode cX1_batch 71 = .ok (.dup, 1) := by decide +kernel
theorem dX1_batch_72 : decode cX1_batch 72 = .ok (.getfield 222, 3) := by decide +kernel
theorem dX1_batch_75 : decode cX1_batch 75 = .ok (.iload_n 1, 1) := by decide +kernel
theorem dX1_batch_76 : decode cX1_batch 76 = .ok (.iadd, 1) := by decide +kernel
theorem dX1_batch_77 : decode cX1_batch 77 = .ok (.putfield 222, 3) := by decide +kernel
theorem dX1_batch_80 : decode cX1_batch 80 = .ok (.aload_n 0, 1) := by decide +kernel
theorem dX1_batch_81 : decode cX1_batch 81 = .ok (.getfield 222, 3) := by decide +kernel
theorem dX1_batch_84 : decode cX1_batch 84 = .ok (.iload_n 1, 1) := by decide +kernel
theorem dX1_batch_85 : decode cX1_batch 85 = .ok (.isub, 1) := by decide +kernel
theorem dX1_batch_86 : decode cX1_batch 86 = .ok (.ireturn, 1) := by decide +kernel
abbrev cX1_set : ByteArray := prog_1_method_13_code
def yX1_set : MethodName := ⟨RX1, "set", "(II)I"⟩
theorem dX1_set_0 : decode cX1_set 0 = .ok (.iload_n 1, 1) := by decide +kernel
theorem dX1_set_1 : decode cX1_set 1 = .ok (.ifCond .eq 8, 3) := by decide +kernel
theorem dX1_set_4 : decode cX1_set 4 = .ok (.iload_n 1, 1) := by decide +kernel
theorem dX1_set_5 : decode cX1_set 5 = .ok (.iconst 1, 1) := by decide +kernel
theorem dX1_set_6 : decode cX1_set 6 = .ok (.if_icmp .ne 7, 3) := by decide +kernel
theorem dX1_set_9 : decode cX1_set 9 = .ok (.iconst 1, 1) := by decide +kernel
theorem dX1_set_10 : decode cX1_set 10 = .ok (.goto 4, 3) := by decide +kernel
theorem dX1_set_13 : decode cX1_set 13 = .ok (.iconst 0, 1) := by decide +kernel
theorem dX1_set_14 : decode cX1_set 14 = .ok (.invokestatic 225, 3) := by decide +kernel
theorem dX1_set_17 : decode cX1_set 17 = .ok (.iload_n 2, 1) := by decide +kernel
theorem dX1_set_18 : decode cX1_set 18 = .ok (.iconst 1, 1) := by decide +kernel
theorem dX1_set_19 : decode cX1_set 19 = .ok (.if_icmp .lt 23, 3) := by decide +kernel
theorem dX1_set_22 : decode cX1_set 22 = .ok (.iload_n 2, 1) := by decide +kernel
theorem dX1_set_23 : decode cX1_set 23 = .ok (.iload_n 1, 1) := by decide +kernel
theorem dX1_set_24 : decode cX1_set 24 = .ok (.ifCond .ne 8, 3) := by decide +kernel
theorem dX1_set_27 : decode cX1_set 27 = .ok (.bipush 7, 2) := by decide +kernel
theorem dX1_set_29 : decode cX1_set 29 = .ok (.goto 6, 3) := by decide +kernel
theorem dX1_set_32 : decode cX1_set 32 = .ok (.sipush 200, 3) := by decide +kernel
theorem dX1_set_35 : decode cX1_set 35 = .ok (.if_icmp .gt 7, 3) := by decide +kernel
theorem dX1_set_38 : decode cX1_set 38 = .ok (.iconst 1, 1) := by decide +kernel
theorem dX1_set_39 : decode cX1_set 39 = .ok (.goto 4, 3) := by decide +kernel
theorem dX1_set_42 : decode cX1_set 42 = .ok (.iconst 0, 1) := by decide +kernel
theorem dX1_set_43 : decode cX1_set 43 = .ok (.invokestatic 210, 3) := by decide +kernel
theorem dX1_set_46 : decode cX1_set 46 = .ok (.aload_n 0, 1) := by decide +kernel
theorem dX1_set_47 : decode cX1_set 47 = .ok (.invokevirtual 213, 3) := by decide +kernel
theorem dX1_set_50 : decode cX1_set 50 = .ok (.iload_n 1, 1) := by decide +kernel
theorem dX1_set_51 : decode cX1_set 51 = .ok (.ifCond .ne 10, 3) := by decide +kernel
theorem dX1_set_54 : decode cX1_set 54 = .ok (.aload_n 0, 1) := by decide +kernel
theorem dX1_set_55 : decode cX1_set 55 = .ok (.getfield 36, 3) := by decide +kernel
theorem dX1_set_58 : decode cX1_set 58 = .ok (.goto 7, 3) := by decide +kernel
theorem dX1_set_61 : decode cX1_set 61 = .ok (.aload_n 0, 1) := by decide +kernel
theorem dX1_set_62 : decode cX1_set 62 = .ok (.getfield 40, 3) := by decide +kernel
theorem dX1_set_65 : decode cX1_set 65 = .ok (.istore_n 3, 1) := by decide +kernel
theorem dX1_set_66 : decode cX1_set 66 = .ok (.iload_n 1, 1) := by decide +kernel
theorem dX1_set_67 : decode cX1_set 67 = .ok (.ifCond .ne 11, 3) := by decide +kernel
theorem dX1_set_70 : decode cX1_set 70 = .ok (.aload_n 0, 1) := by decide +kernel
theorem dX1_set_71 : decode cX1_set 71 = .ok (.iload_n 2, 1) := by decide +kernel
theorem dX1_set_72 : decode cX1_set 72 = .ok (.putfield 36, 3) := by decide +kernel
theorem dX1_set_75 : decode cX1_set 75 = .ok (.goto 8, 3) := by decide +kernel
theorem dX1_set_78 : decode cX1_set 78 = .ok (.aload_n 0, 1) := by decide +kernel
theorem dX1_set_79 : decode cX1_set 79 = .ok (.iload_n 2, 1) := by decide +kernel
theorem dX1_set_80 : decode cX1_set 80 = .ok (.putfield 40, 3) := by decide +kernel
theorem dX1_set_83 : decode cX1_set 83 = .ok (.iload_n 3, 1) := by decide +kernel
theorem dX1_set_84 : decode cX1_set 84 = .ok (.ireturn, 1) := by decide +kernel
abbrev cX1_inside : ByteArray := prog_1_method_1_code
def yX1_inside : MethodName := ⟨RX1, "inside", "(Z)V"⟩
theorem dX1_inside_0 : decode cX1_inside 0 = .ok (.iload_n 0, 1) := by decide +kernel
theorem dX1_inside_1 : decode cX1_inside 1 = .ok (.ifCond .ne 11, 3) := by decide +kernel
theorem dX1_inside_4 : decode cX1_inside 4 = .ok (.new 1, 3) := by decide +kernel
theorem dX1_inside_7 : decode cX1_inside 7 = .ok (.dup, 1) := by decide +kernel
theorem dX1_inside_8 : decode cX1_inside 8 = .ok (.invokespecial 3, 3) := by decide +kernel
theorem dX1_inside_11 : decode cX1_inside 11 = .ok (.athrow, 1) := by decide +kernel
theorem dX1_inside_12 : decode cX1_inside 12 = .ok (.return_, 1) := by decide +kernel
abbrev cX1_fraction : ByteArray := prog_1_method_14_code
def yX1_fraction : MethodName := ⟨RX1, "fraction", "(III)V"⟩
theorem dX1_fraction_0 : decode cX1_fraction 0 = .ok (.iload_n 1, 1) := by decide +kernel
theorem dX1_fraction_1 : decode cX1_fraction 1 = .ok (.ifCond .eq 8, 3) := by decide +kernel
theorem dX1_fraction_4 : decode cX1_fraction 4 = .ok (.iload_n 1, 1) := by decide +kernel
theorem dX1_fraction_5 : decode cX1_fraction 5 = .ok (.iconst 1, 1) := by decide +kernel
theorem dX1_fraction_6 : decode cX1_fraction 6 = .ok (.if_icmp .ne 7, 3) := by decide +kernel
theorem dX1_fraction_9 : decode cX1_fraction 9 = .ok (.iconst 1, 1) := by decide +kernel
theorem dX1_fraction_10 : decode cX1_fraction 10 = .ok (.goto 4, 3) := by decide +kernel
theorem dX1_fraction_13 : decode cX1_fraction 13 = .ok (.iconst 0, 1) := by decide +kernel
theorem dX1_fraction_14 : decode cX1_fraction 14 = .ok (.invokestatic 225, 3) := by decide +kernel
theorem dX1_fraction_17 : decode cX1_fraction 17 = .ok (.iload_n 2, 1) := by decide +kernel
theorem dX1_fraction_18 : decode cX1_fraction 18 = .ok (.iconst 1, 1) := by decide +kernel
theorem dX1_fraction_19 : decode cX1_fraction 19 = .ok (.if_icmp .lt 41, 3) := by decide +kernel
theorem dX1_fraction_22 : decode cX1_fraction 22 = .ok (.iload_n 2, 1) := by decide +kernel
theorem dX1_fraction_23 : decode cX1_fraction 23 = .ok (.ldc 209, 2) := by decide +kernel
theorem dX1_fraction_25 : decode cX1_fraction 25 = .ok (.if_icmp .gt 35, 3) := by decide +kernel
theorem dX1_fraction_28 : decode cX1_fraction 28 = .ok (.iload_n 3, 1) := by decide +kernel
theorem dX1_fraction_29 : decode cX1_fraction 29 = .ok (.iconst 1, 1) := by decide +kernel
theorem dX1_fraction_30 : decode cX1_fraction 30 = .ok (.if_icmp .lt 30, 3) := by decide +kernel
theorem dX1_fraction_33 : decode cX1_fraction 33 = .ok (.iload_n 3, 1) := by decide +kernel
theorem dX1_fraction_34 : decode cX1_fraction 34 = .ok (.ldc 209, 2) := by decide +kernel
theorem dX1_fraction_36 : decode cX1_fraction 36 = .ok (.if_icmp .gt 24, 3) := by decide +kernel
theorem dX1_fraction_39 : decode cX1_fraction 39 = .ok (.iload_n 1, 1) := by decide +kernel
theorem dX1_fraction_40 : decode cX1_fraction 40 = .ok (.ifCond .ne 11, 3) := by decide +kernel
theorem dX1_fraction_43 : decode cX1_fraction 43 = .ok (.iload_n 2, 1) := by decide +kernel
theorem dX1_fraction_44 : decode cX1_fraction 44 = .ok (.iload_n 3, 1) := by decide +kernel
theorem dX1_fraction_45 : decode cX1_fraction 45 = .ok (.if_icmp .ge 15, 3) := by decide +kernel
theorem dX1_fraction_48 : decode cX1_fraction 48 = .ok (.goto 8, 3) := by decide +kernel
theorem dX1_fraction_51 : decode cX1_fraction 51 = .ok (.iload_n 2, 1) := by decide +kernel
theorem dX1_fraction_52 : decode cX1_fraction 52 = .ok (.iload_n 3, 1) := by decide +kernel
theorem dX1_fraction_53 : decode cX1_fraction 53 = .ok (.if_icmp .le 7, 3) := by decide +kernel
theorem dX1_fraction_56 : decode cX1_fraction 56 = .ok (.iconst 1, 1) := by decide +kernel
theorem dX1_fraction_57 : decode cX1_fraction 57 = .ok (.goto 4, 3) := by decide +kernel
theorem dX1_fraction_60 : decode cX1_fraction 60 = .ok (.iconst 0, 1) := by decide +kernel
theorem dX1_fraction_61 : decode cX1_fraction 61 = .ok (.invokestatic 210, 3) := by decide +kernel
theorem dX1_fraction_64 : decode cX1_fraction 64 = .ok (.aload_n 0, 1) := by decide +kernel
theorem dX1_fraction_65 : decode cX1_fraction 65 = .ok (.invokevirtual 213, 3) := by decide +kernel
theorem dX1_fraction_68 : decode cX1_fraction 68 = .ok (.iload_n 1, 1) := by decide +kernel
theorem dX1_fraction_69 : decode cX1_fraction 69 = .ok (.ifCond .ne 16, 3) := by decide +kernel
theorem dX1_fraction_72 : decode cX1_fraction 72 = .ok (.aload_n 0, 1) := by decide +kernel
theorem dX1_fraction_73 : decode cX1_fraction 73 = .ok (.iload_n 2, 1) := by decide +kernel
theorem dX1_fraction_74 : decode cX1_fraction 74 = .ok (.putfield 43, 3) := by decide +kernel
theorem dX1_fraction_77 : decode cX1_fraction 77 = .ok (.aload_n 0, 1) := by decide +kernel
theorem dX1_fraction_78 : decode cX1_fraction 78 = .ok (.iload_n 3, 1) := by decide +kernel
theorem dX1_fraction_79 : decode cX1_fraction 79 = .ok (.putfield 46, 3) := by decide +kernel
theorem dX1_fraction_82 : decode cX1_fraction 82 = .ok (.goto 13, 3) := by decide +kernel
theorem dX1_fraction_85 : decode cX1_fraction 85 = .ok (.aload_n 0, 1) := by decide +kernel
theorem dX1_fraction_86 : decode cX1_fraction 86 = .ok (.iload_n 2, 1) := by decide +kernel
theorem dX1_fraction_87 : decode cX1_fraction 87 = .ok (.putfield 49, 3) := by decide +kernel
theorem dX1_fraction_90 : decode cX1_fraction 90 = .ok (.aload_n 0, 1) := by decide +kernel
theorem dX1_fraction_91 : decode cX1_fraction 91 = .ok (.iload_n 3, 1) := by decide +kernel
theorem dX1_fraction_92 : decode cX1_fraction 92 = .ok (.putfield 52, 3) := by decide +kernel
theorem dX1_fraction_95 : decode cX1_fraction 95 = .ok (.return_, 1) := by decide +kernel
abbrev cX1_record : ByteArray := prog_1_method_15_code
def yX1_record : MethodName := ⟨RX1, "record", "(III)V"⟩
theorem dX1_record_0 : decode cX1_record 0 = .ok (.iload_n 1, 1) := by decide +kernel
theorem dX1_record_1 : decode cX1_record 1 = .ok (.ifCond .lt 43, 3) := by decide +kernel
theorem dX1_record_4 : decode cX1_record 4 = .ok (.iload_n 1, 1) := by decide +kernel
theorem dX1_record_5 : decode cX1_record 5 = .ok (.aload_n 0, 1) := by decide +kernel
theorem dX1_record_6 : decode cX1_record 6 = .ok (.getfield 222, 3) := by decide +kernel
theorem dX1_record_9 : decode cX1_record 9 = .ok (.if_icmp .ge 35, 3) := by decide +kernel
theorem dX1_record_12 : decode cX1_record 12 = .ok (.iload_n 2, 1) := by decide +kernel
theorem dX1_record_13 : decode cX1_record 13 = .ok (.iconst 1, 1) := by decide +kernel
theorem dX1_record_14 : decode cX1_record 14 = .ok (.if_icmp .lt 30, 3) := by decide +kernel
theorem dX1_record_17 : decode cX1_record 17 = .ok (.iload_n 2, 1) := by decide +kernel
theorem dX1_record_18 : decode cX1_record 18 = .ok (.aload_n 0, 1) := by decide +kernel
theorem dX1_record_19 : decode cX1_record 19 = .ok (.getfield 222, 3) := by decide +kernel
theorem dX1_record_22 : decode cX1_record 22 = .ok (.iload_n 1, 1) := by decide +kernel
theorem dX1_record_23 : decode cX1_record 23 = .ok (.isub, 1) := by decide +kernel
theorem dX1_record_24 : decode cX1_record 24 = .ok (.if_icmp .gt 20, 3) := by decide +kernel
theorem dX1_record_27 : decode cX1_record 27 = .ok (.iload_n 3, 1) := by decide +kernel
theorem dX1_record_28 : decode cX1_record 28 = .ok (.iconst (-1), 1) := by decide +kernel
theorem dX1_record_29 : decode cX1_record 29 = .ok (.if_icmp .eq 11, 3) := by decide +kernel
theorem dX1_record_32 : decode cX1_record 32 = .ok (.aload_n 0, 1) := by decide +kernel
theorem dX1_record_33 : decode cX1_record 33 = .ok (.iload_n 3, 1) := by decide +kernel
theorem dX1_record_34 : decode cX1_record 34 = .ok (.invokevirtual 228, 3) := by decide +kernel
theorem dX1_record_37 : decode cX1_record 37 = .ok (.ifCond .eq 7, 3) := by decide +kernel
theorem dX1_record_40 : decode cX1_record 40 = .ok (.iconst 1, 1) := by decide +kernel
theorem dX1_record_41 : decode cX1_record 41 = .ok (.goto 4, 3) := by decide +kernel
theorem dX1_record_44 : decode cX1_record 44 = .ok (.iconst 0, 1) := by decide +kernel
theorem dX1_record_45 : decode cX1_record 45 = .ok (.invokestatic 225, 3) := by decide +kernel
theorem dX1_record_48 : decode cX1_record 48 = .ok (.aload_n 0, 1) := by decide +kernel
theorem dX1_record_49 : decode cX1_record 49 = .ok (.invokevirtual 213, 3) := by decide +kernel
theorem dX1_record_52 : decode cX1_record 52 = .ok (.iconst 0, 1) := by decide +kernel
theorem dX1_record_53 : decode cX1_record 53 = .ok (.istore 4, 2) := by decide +kernel
theorem dX1_record_55 : decode cX1_record 55 = .ok (.iload 4, 2) := by decide +kernel
theorem dX1_record_57 : decode cX1_record 57 = .ok (.iload_n 2, 1) := by decide +kernel
theorem dX1_record_58 : decode cX1_record 58 = .ok (.if_icmp .ge 20, 3) := by decide +kernel
theorem dX1_record_61 : decode cX1_record 61 = .ok (.aload_n 0, 1) := by decide +kernel
theorem dX1_record_62 : decode cX1_record 62 = .ok (.getfield 55, 3) := by decide +kernel
theorem dX1_record_65 : decode cX1_record 65 = .ok (.iload_n 1, 1) := by decide +kernel
theorem dX1_record_66 : decode cX1_record 66 = .ok (.iload 4, 2) := by decide +kernel
theorem dX1_record_68 : decode cX1_record 68 = .ok (.iadd, 1) := by decide +kernel
theorem dX1_record_69 : decode cX1_record 69 = .ok (.iload_n 3, 1) := by decide +kernel
theorem dX1_record_70 : decode cX1_record 70 = .ok (.i2b, 1) := by decide +kernel
theorem dX1_record_71 : decode cX1_record 71 = .ok (.bastore, 1) := by decide +kernel
theorem dX1_record_72 : decode cX1_record 72 = .ok (.iinc 4 1, 3) := by decide +kernel
theorem dX1_record_75 : decode cX1_record 75 = .ok (.goto (-20), 3) := by decide +kernel
theorem dX1_record_78 : decode cX1_record 78 = .ok (.return_, 1) := by decide +kernel
abbrev cX1_isCandidate : ByteArray := prog_1_method_6_code
def yX1_isCandidate : MethodName := ⟨RX1, "isCandidate", "(I)Z"⟩
theorem dX1_isCandidate_0 : decode cX1_isCandidate 0 = .ok (.iload_n 1, 1) := by decide +kernel
theorem dX1_isCandidate_1 : decode cX1_isCandidate 1 = .ok (.ifCond .lt 15, 3) := by decide +kernel
theorem dX1_isCandidate_4 : decode cX1_isCandidate 4 = .ok (.iload_n 1, 1) := by decide +kernel
theorem dX1_isCandidate_5 : decode cX1_isCandidate 5 = .ok (.aload_n 0, 1) := by decide +kernel
theorem dX1_isCandidate_6 : decode cX1_isCandidate 6 = .ok (.getfield 169, 3) := by decide +kernel
theorem dX1_isCandidate_9 : decode cX1_isCandidate 9 = .ok (.if_icmp .ge 7, 3) := by decide +kernel
theorem dX1_isCandidate_12 : decode cX1_isCandidate 12 = .ok (.iconst 1, 1) := by decide +kernel
theorem dX1_isCandidate_13 : decode cX1_isCandidate 13 = .ok (.goto 4, 3) := by decide +kernel
theorem dX1_isCandidate_16 : decode cX1_isCandidate 16 = .ok (.iconst 0, 1) := by decide +kernel
theorem dX1_isCandidate_17 : decode cX1_isCandidate 17 = .ok (.ireturn, 1) := by decide +kernel
abbrev cX1_digit : ByteArray := prog_1_method_16_code
def yX1_digit : MethodName := ⟨RX1, "digit", "(I)I"⟩
theorem dX1_digit_0 : decode cX1_digit 0 = .ok (.iload_n 1, 1) := by decide +kernel
theorem dX1_digit_1 : decode cX1_digit 1 = .ok (.ifCond .lt 13, 3) := by decide +kernel
theorem dX1_digit_4 : decode cX1_digit 4 = .ok (.iload_n 1, 1) := by decide +kernel
theorem dX1_digit_5 : decode cX1_digit 5 = .ok (.bipush 9, 2) := by decide +kernel
theorem dX1_digit_7 : decode cX1_digit 7 = .ok (.if_icmp .gt 7, 3) := by decide +kernel
theorem dX1_digit_10 : decode cX1_digit 10 = .ok (.iconst 1, 1) := by decide +kernel
theorem dX1_digit_11 : decode cX1_digit 11 = .ok (.goto 4, 3) := by decide +kernel
theorem dX1_digit_14 : decode cX1_digit 14 = .ok (.iconst 0, 1) := by decide +kernel
theorem dX1_digit_15 : decode cX1_digit 15 = .ok (.invokestatic 210, 3) := by decide +kernel
theorem dX1_digit_18 : decode cX1_digit 18 = .ok (.aload_n 0, 1) := by decide +kernel
theorem dX1_digit_19 : decode cX1_digit 19 = .ok (.invokevirtual 213, 3) := by decide +kernel
theorem dX1_digit_22 : decode cX1_digit 22 = .ok (.aload_n 0, 1) := by decide +kernel
theorem dX1_digit_23 : decode cX1_digit 23 = .ok (.getfield 95, 3) := by decide +kernel
theorem dX1_digit_26 : decode cX1_digit 26 = .ok (.getfield 232, 3) := by decide +kernel
theorem dX1_digit_29 : decode cX1_digit 29 = .ok (.bipush 20, 2) := by decide +kernel
theorem dX1_digit_31 : decode cX1_digit 31 = .ok (.if_icmp .ge 7, 3) := by decide +kernel
theorem dX1_digit_34 : decode cX1_digit 34 = .ok (.iconst 1, 1) := by decide +kernel
theorem dX1_digit_35 : decode cX1_digit 35 = .ok (.goto 4, 3) := by decide +kernel
theorem dX1_digit_38 : decode cX1_digit 38 = .ok (.iconst 0, 1) := by decide +kernel
theorem dX1_digit_39 : decode cX1_digit 39 = .ok (.invokestatic 216, 3) := by decide +kernel
theorem dX1_digit_42 : decode cX1_digit 42 = .ok (.aload_n 0, 1) := by decide +kernel
theorem dX1_digit_43 : decode cX1_digit 43 = .ok (.getfield 95, 3) := by decide +kernel
theorem dX1_digit_46 : decode cX1_digit 46 = .ok (.getfield 235, 3) := by decide +kernel
theorem dX1_digit_49 : decode cX1_digit 49 = .ok (.aload_n 0, 1) := by decide +kernel
theorem dX1_digit_50 : decode cX1_digit 50 = .ok (.getfield 95, 3) := by decide +kernel
theorem dX1_digit_53 : decode cX1_digit 53 = .ok (.dup, 1) := by decide +kernel
theorem dX1_digit_54 : decode cX1_digit 54 = .ok (.getfield 232, 3) := by decide +kernel
theorem dX1_digit_57 : decode cX1_digit 57 = .ok (.dup_x1, 1) := by decide +kernel
theorem dX1_digit_58 : decode cX1_digit 58 = .ok (.iconst 1, 1) := by decide +kernel
theorem dX1_digit_59 : decode cX1_digit 59 = .ok (.iadd, 1) := by decide +kernel
theorem dX1_digit_60 : decode cX1_digit 60 = .ok (.putfield 232, 3) := by decide +kernel
theorem dX1_digit_63 : decode cX1_digit 63 = .ok (.iload_n 1, 1) := by decide +kernel
theorem dX1_digit_64 : decode cX1_digit 64 = .ok (.iastore, 1) := by decide +kernel
theorem dX1_digit_65 : decode cX1_digit 65 = .ok (.aload_n 0, 1) := by decide +kernel
theorem dX1_digit_66 : decode cX1_digit 66 = .ok (.getfield 95, 3) := by decide +kernel
theorem dX1_digit_69 : decode cX1_digit 69 = .ok (.getfield 232, 3) := by decide +kernel
theorem dX1_digit_72 : decode cX1_digit 72 = .ok (.ireturn, 1) := by decide +kernel
abbrev cX1_coins : ByteArray := prog_1_method_17_code
def yX1_coins : MethodName := ⟨RX1, "coins", "(II)I"⟩
theorem dX1_coins_0 : decode cX1_coins 0 = .ok (.iload_n 2, 1) := by decide +kernel
theorem dX1_coins_1 : decode cX1_coins 1 = .ok (.ifCond .lt 13, 3) := by decide +kernel
theorem dX1_coins_4 : decode cX1_coins 4 = .ok (.iload_n 2, 1) := by decide +kernel
theorem dX1_coins_5 : decode cX1_coins 5 = .ok (.bipush 32, 2) := by decide +kernel
theorem dX1_coins_7 : decode cX1_coins 7 = .ok (.if_icmp .gt 7, 3) := by decide +kernel
theorem dX1_coins_10 : decode cX1_coins 10 = .ok (.iconst 1, 1) := by decide +kernel
theorem dX1_coins_11 : decode cX1_coins 11 = .ok (.goto 4, 3) := by decide +kernel
theorem dX1_coins_14 : decode cX1_coins 14 = .ok (.iconst 0, 1) := by decide +kernel
theorem dX1_coins_15 : decode cX1_coins 15 = .ok (.invokestatic 210, 3) := by decide +kernel
theorem dX1_coins_18 : decode cX1_coins 18 = .ok (.aload_n 0, 1) := by decide +kernel
theorem dX1_coins_19 : decode cX1_coins 19 = .ok (.getfield 88, 3) := by decide +kernel
theorem dX1_coins_22 : decode cX1_coins 22 = .ok (.getfield 238, 3) := by decide +kernel
theorem dX1_coins_25 : decode cX1_coins 25 = .ok (.iload_n 2, 1) := by decide +kernel
theorem dX1_coins_26 : decode cX1_coins 26 = .ok (.iadd, 1) := by decide +kernel
theorem dX1_coins_27 : decode cX1_coins 27 = .ok (.sipush 4000, 3) := by decide +kernel
theorem dX1_coins_30 : decode cX1_coins 30 = .ok (.if_icmp .gt 7, 3) := by decide +kernel
theorem dX1_coins_33 : decode cX1_coins 33 = .ok (.iconst 1, 1) := by decide +kernel
theorem dX1_coins_34 : decode cX1_coins 34 = .ok (.goto 4, 3) := by decide +kernel
theorem dX1_coins_37 : decode cX1_coins 37 = .ok (.iconst 0, 1) := by decide +kernel
theorem dX1_coins_38 : decode cX1_coins 38 = .ok (.invokestatic 216, 3) := by decide +kernel
theorem dX1_coins_41 : decode cX1_coins 41 = .ok (.iload_n 2, 1) := by decide +kernel
theorem dX1_coins_42 : decode cX1_coins 42 = .ok (.iconst 1, 1) := by decide +kernel
theorem dX1_coins_43 : decode cX1_coins 43 = .ok (.isub, 1) := by decide +kernel
theorem dX1_coins_44 : decode cX1_coins 44 = .ok (.istore_n 3, 1) := by decide +kernel
theorem dX1_coins_45 : decode cX1_coins 45 = .ok (.iload_n 3, 1) := by decide +kernel
theorem dX1_coins_46 : decode cX1_coins 46 = .ok (.ifCond .lt 30, 3) := by decide +kernel
theorem dX1_coins_49 : decode cX1_coins 49 = .ok (.aload_n 0, 1) := by decide +kernel
theorem dX1_coins_50 : decode cX1_coins 50 = .ok (.getfield 88, 3) := by decide +kernel
theorem dX1_coins_53 : decode cX1_coins 53 = .ok (.iload_n 1, 1) := by decide +kernel
theorem dX1_coins_54 : decode cX1_coins 54 = .ok (.iload_n 3, 1) := by decide +kernel
theorem dX1_coins_55 : decode cX1_coins 55 = .ok (.ishr, 1) := by decide +kernel
theorem dX1_coins_56 : decode cX1_coins 56 = .ok (.iconst 1, 1) := by decide +kernel
theorem dX1_coins_57 : decode cX1_coins 57 = .ok (.iand, 1) := by decide +kernel
theorem dX1_coins_58 : decode cX1_coins 58 = .ok (.iconst 1, 1) := by decide +kernel
theorem dX1_coins_59 : decode cX1_coins 59 = .ok (.if_icmp .ne 7, 3) := by decide +kernel
theorem dX1_coins_62 : decode cX1_coins 62 = .ok (.iconst 1, 1) := by decide +kernel
theorem dX1_coins_63 : decode cX1_coins 63 = .ok (.goto 4, 3) := by decide +kernel
theorem dX1_coins_66 : decode cX1_coins 66 = .ok (.iconst 0, 1) := by decide +kernel
theorem dX1_coins_67 : decode cX1_coins 67 = .ok (.invokevirtual 239, 3) := by decide +kernel
theorem dX1_coins_70 : decode cX1_coins 70 = .ok (.iinc 3 (-1), 3) := by decide +kernel
theorem dX1_coins_73 : decode cX1_coins 73 = .ok (.goto (-28), 3) := by decide +kernel
theorem dX1_coins_76 : decode cX1_coins 76 = .ok (.aload_n 0, 1) := by decide +kernel
theorem dX1_coins_77 : decode cX1_coins 77 = .ok (.getfield 88, 3) := by decide +kernel
theorem dX1_coins_80 : decode cX1_coins 80 = .ok (.getfield 238, 3) := by decide +kernel
theorem dX1_coins_83 : decode cX1_coins 83 = .ok (.ireturn, 1) := by decide +kernel
abbrev cX1_start : ByteArray := prog_1_method_19_code
def yX1_start : MethodName := ⟨RX1, "start", "(ZZ)V"⟩
theorem dX1_start_0 : decode cX1_start 0 = .ok (.aload_n 0, 1) := by decide +kernel
theorem dX1_start_1 : decode cX1_start 1 = .ok (.invokevirtual 213, 3) := by decide +kernel
theorem dX1_start_4 : decode cX1_start 4 = .ok (.aload_n 0, 1) := by decide +kernel
theorem dX1_start_5 : decode cX1_start 5 = .ok (.invokevirtual 242, 3) := by decide +kernel
theorem dX1_start_8 : decode cX1_start 8 = .ok (.ifCond .eq 28, 3) := by decide +kernel
theorem dX1_start_11 : decode cX1_start 11 = .ok (.aload_n 0, 1) := by decide +kernel
theorem dX1_start_12 : decode cX1_start 12 = .ok (.getfield 222, 3) := by decide +kernel
theorem dX1_start_15 : decode cX1_start 15 = .ok (.ifCond .le 21, 3) := by decide +kernel
theorem dX1_start_18 : decode cX1_start 18 = .ok (.iload_n 2, 1) := by decide +kernel
theorem dX1_start_19 : decode cX1_start 19 = .ok (.ifCond .eq 13, 3) := by decide +kernel
theorem dX1_start_22 : decode cX1_start 22 = .ok (.aload_n 0, 1) := by decide +kernel
theorem dX1_start_23 : decode cX1_start 23 = .ok (.getfield 95, 3) := by decide +kernel
theorem dX1_start_26 : decode cX1_start 26 = .ok (.getfield 232, 3) := by decide +kernel
theorem dX1_start_29 : decode cX1_start 29 = .ok (.ifCond .le 7, 3) := by decide +kernel
theorem dX1_start_32 : decode cX1_start 32 = .ok (.iconst 1, 1) := by decide +kernel
theorem dX1_start_33 : decode cX1_start 33 = .ok (.goto 4, 3) := by decide +kernel
theorem dX1_start_36 : decode cX1_start 36 = .ok (.iconst 0, 1) := by decide +kernel
theorem dX1_start_37 : decode cX1_start 37 = .ok (.invokestatic 205, 3) := by decide +kernel
theorem dX1_start_40 : decode cX1_start 40 = .ok (.aload_n 0, 1) := by decide +kernel
theorem dX1_start_41 : decode cX1_start 41 = .ok (.iconst 0, 1) := by decide +kernel
theorem dX1_start_42 : decode cX1_start 42 = .ok (.putfield 182, 3) := by decide +kernel
theorem dX1_start_45 : decode cX1_start 45 = .ok (.iconst 0, 1) := by decide +kernel
theorem dX1_start_46 : decode cX1_start 46 = .ok (.istore_n 3, 1) := by decide +kernel
theorem dX1_start_47 : decode cX1_start 47 = .ok (.iload_n 3, 1) := by decide +kernel
theorem dX1_start_48 : decode cX1_start 48 = .ok (.aload_n 0, 1) := by decide +kernel
theorem dX1_start_49 : decode cX1_start 49 = .ok (.getfield 169, 3) := by decide +kernel
theorem dX1_start_52 : decode cX1_start 52 = .ok (.if_icmp .ge 83, 3) := by decide +kernel
theorem dX1_start_55 : decode cX1_start 55 = .ok (.iconst 0, 1) := by decide +kernel
theorem dX1_start_56 : decode cX1_start 56 = .ok (.istore 4, 2) := by decide +kernel
theorem dX1_start_58 : decode cX1_start 58 = .ok (.iload 4, 2) := by decide +kernel
theorem dX1_start_60 : decode cX1_start 60 = .ok (.aload_n 0, 1) := by decide +kernel
theorem dX1_start_61 : decode cX1_start 61 = .ok (.getfield 169, 3) := by decide +kernel
theorem dX1_start_64 : decode cX1_start 64 = .ok (.if_icmp .ge 65, 3) := by decide +kernel
theorem dX1_start_67 : decode cX1_start 67 = .ok (.aload_n 0, 1) := by decide +kernel
theorem dX1_start_68 : decode cX1_start 68 = .ok (.getfield 66, 3) := by decide +kernel
theorem dX1_start_71 : decode cX1_start 71 = .ok (.iload_n 3, 1) := by decide +kernel
theorem dX1_start_72 : decode cX1_start 72 = .ok (.baload, 1) := by decide +kernel
theorem dX1_start_73 : decode cX1_start 73 = .ok (.ifCond .eq 50, 3) := by decide +kernel
theorem dX1_start_76 : decode cX1_start 76 = .ok (.aload_n 0, 1) := by decide +kernel
theorem dX1_start_77 : decode cX1_start 77 = .ok (.getfield 66, 3) := by decide +kernel
theorem dX1_start_80 : decode cX1_start 80 = .ok (.iload 4, 2) := by decide +kernel
theorem dX1_start_82 : decode cX1_start 82 = .ok (.baload, 1) := by decide +kernel
theorem dX1_start_83 : decode cX1_start 83 = .ok (.ifCond .eq 6, 3) := by decide +kernel
theorem dX1_start_86 : decode cX1_start 86 = .ok (.goto 37, 3) := by decide +kernel
