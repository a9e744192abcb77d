set_option maxRecDepth 100000
theorem dX10_divide_117 : decode cX10_divide 117 = .ok (.i2l, 1) := by decide +kernel
theorem dX10_divide_118 : decode cX10_divide 118 = .ok (.lstore 6, 2) := by decide +kernel
theorem dX10_divide_120 : decode cX10_divide 120 = .ok (.iload 5, 2) := by decide +kernel
theorem dX10_divide_122 : decode cX10_divide 122 = .ok (.istore 8, 2) := by decide +kernel
theorem dX10_divide_124 : decode cX10_divide 124 = .ok (.iload 8, 2) := by decide +kernel
theorem dX10_divide_126 : decode cX10_divide 126 = .ok (.ifCond .lt 307, 3) := by decide +kernel
theorem dX10_divide_129 : decode cX10_divide 129 = .ok (.aload_n 0, 1) := by decide +kernel
theorem dX10_divide_130 : decode cX10_divide 130 = .ok (.getfield 76, 3) := by decide +kernel
theorem dX10_divide_133 : decode cX10_divide 133 = .ok (.sipush 3600, 3) := by decide +kernel
theorem dX10_divide_136 : decode cX10_divide 136 = .ok (.iload 8, 2) := by decide +kernel
theorem dX10_divide_138 : decode cX10_divide 138 = .ok (.iadd, 1) := by decide +kernel
theorem dX10_divide_139 : decode cX10_divide 139 = .ok (.iload_n 3, 1) := by decide +kernel
theorem dX10_divide_140 : decode cX10_divide 140 = .ok (.iadd, 1) := by decide +kernel
theorem dX10_divide_141 : decode cX10_divide 141 = .ok (.iaload, 1) := by decide +kernel
theorem dX10_divide_142 : decode cX10_divide 142 = .ok (.i2l, 1) := by decide +kernel
theorem dX10_divide_143 : decode cX10_divide 143 = .ok (.bipush 16, 2) := by decide +kernel
theorem dX10_divide_145 : decode cX10_divide 145 = .ok (.lshl, 1) := by decide +kernel
theorem dX10_divide_146 : decode cX10_divide 146 = .ok (.aload_n 0, 1) := by decide +kernel
theorem dX10_divide_147 : decode cX10_divide 147 = .ok (.getfield 76, 3) := by decide +kernel
theorem dX10_divide_150 : decode cX10_divide 150 = .ok (.sipush 3600, 3) := by decide +kernel
theorem dX10_divide_153 : decode cX10_divide 153 = .ok (.iload 8, 2) := by decide +kernel
theorem dX10_divide_155 : decode cX10_divide 155 = .ok (.iadd, 1) := by decide +kernel
theorem dX10_divide_156 : decode cX10_divide 156 = .ok (.iload_n 3, 1) := by decide +kernel
theorem dX10_divide_157 : decode cX10_divide 157 = .ok (.iadd, 1) := by decide +kernel
theorem dX10_divide_158 : decode cX10_divide 158 = .ok (.iconst 1, 1) := by decide +kernel
theorem dX10_divide_159 : decode cX10_divide 159 = .ok (.isub, 1) := by decide +kernel
theorem dX10_divide_160 : decode cX10_divide 160 = .ok (.iaload, 1) := by decide +kernel
theorem dX10_divide_161 : decode cX10_divide 161 = .ok (.i2l, 1) := by decide +kernel
theorem dX10_divide_162 : decode cX10_divide 162 = .ok (.ladd, 1) := by decide +kernel
theorem dX10_divide_163 : decode cX10_divide 163 = .ok (.lstore 9, 2) := by decide +kernel
theorem dX10_divide_165 : decode cX10_divide 165 = .ok (.lload 9, 2) := by decide +kernel
theorem dX10_divide_167 : decode cX10_divide 167 = .ok (.lload 6, 2) := by decide +kernel
theorem dX10_divide_169 : decode cX10_divide 169 = .ok (.ldiv, 1) := by decide +kernel
theorem dX10_divide_170 : decode cX10_divide 170 = .ok (.lstore 11, 2) := by decide +kernel
theorem dX10_divide_172 : decode cX10_divide 172 = .ok (.lload 11, 2) := by decide +kernel
theorem dX10_divide_174 : decode cX10_divide 174 = .ok (.ldc2_w 186, 3) := by decide +kernel
theorem dX10_divide_177 : decode cX10_divide 177 = .ok (.lcmp, 1) := by decide +kernel
theorem dX10_divide_178 : decode cX10_divide 178 = .ok (.ifCond .le 9, 3) := by decide +kernel
theorem dX10_divide_181 : decode cX10_divide 181 = .ok (.ldc2_w 186, 3) := by decide +kernel
theorem dX10_divide_184 : decode cX10_divide 184 = .ok (.goto 5, 3) := by decide +kernel
theorem dX10_divide_187 : decode cX10_divide 187 = .ok (.lload 11, 2) := by decide +kernel
theorem dX10_divide_189 : decode cX10_divide 189 = .ok (.lstore 11, 2) := by decide +kernel
theorem dX10_divide_191 : decode cX10_divide 191 = .ok (.lconst 0, 1) := by decide +kernel
theorem dX10_divide_192 : decode cX10_divide 192 = .ok (.lstore 13, 2) := by decide +kernel
theorem dX10_divide_194 : decode cX10_divide 194 = .ok (.iconst 0, 1) := by decide +kernel
theorem dX10_divide_195 : decode cX10_divide 195 = .ok (.istore 15, 2) := by decide +kernel
theorem dX10_divide_197 : decode cX10_divide 197 = .ok (.iload 15, 2) := by decide +kernel
theorem dX10_divide_199 : decode cX10_divide 199 = .ok (.iload_n 3, 1) := by decide +kernel
theorem dX10_divide_200 : decode cX10_divide 200 = .ok (.if_icmp .ge 74, 3) := by decide +kernel
theorem dX10_divide_203 : decode cX10_divide 203 = .ok (.aload_n 0, 1) := by decide +kernel
theorem dX10_divide_204 : decode cX10_divide 204 = .ok (.getfield 76, 3) := by decide +kernel
theorem dX10_divide_207 : decode cX10_divide 207 = .ok (.sipush 3600, 3) := by decide +kernel
theorem dX10_divide_210 : decode cX10_divide 210 = .ok (.iload 8, 2) := by decide +kernel
theorem dX10_divide_212 : decode cX10_divide 212 = .ok (.iadd, 1) := by decide +kernel
theorem dX10_divide_213 : decode cX10_divide 213 = .ok (.iload 15, 2) := by decide +kernel
theorem dX10_divide_215 : decode cX10_divide 215 = .ok (.iadd, 1) := by decide +kernel
theorem dX10_divide_216 : decode cX10_divide 216 = .ok (.iaload, 1) := by decide +kernel
theorem dX10_divide_217 : decode cX10_divide 217 = .ok (.i2l, 1) := by decide +kernel
theorem dX10_divide_218 : decode cX10_divide 218 = .ok (.lload 11, 2) := by decide +kernel
theorem dX10_divide_220 : decode cX10_divide 220 = .ok (.aload_n 0, 1) := by decide +kernel
theorem dX10_divide_221 : decode cX10_divide 221 = .ok (.getfield 76, 3) := by decide +kernel
theorem dX10_divide_224 : decode cX10_divide 224 = .ok (.sipush 2400, 3) := by decide +kernel
theorem dX10_divide_227 : decode cX10_divide 227 = .ok (.iload 15, 2) := by decide +kernel
theorem dX10_divide_229 : decode cX10_divide 229 = .ok (.iadd, 1) := by decide +kernel
theorem dX10_divide_230 : decode cX10_divide 230 = .ok (.iaload, 1) := by decide +kernel
theorem dX10_divide_231 : decode cX10_divide 231 = .ok (.i2l, 1) := by decide +kernel
theorem dX10_divide_232 : decode cX10_divide 232 = .ok (.lmul, 1) := by decide +kernel
theorem dX10_divide_233 : decode cX10_divide 233 = .ok (.lsub, 1) := by decide +kernel
theorem dX10_divide_234 : decode cX10_divide 234 = .ok (.lload 13, 2) := by decide +kernel
theorem dX10_divide_236 : decode cX10_divide 236 = .ok (.lsub, 1) := by decide +kernel
theorem dX10_divide_237 : decode cX10_divide 237 = .ok (.lstore 16, 2) := by decide +kernel
theorem dX10_divide_239 : decode cX10_divide 239 = .ok (.aload_n 0, 1) := by decide +kernel
theorem dX10_divide_240 : decode cX10_divide 240 = .ok (.getfield 76, 3) := by decide +kernel
theorem dX10_divide_243 : decode cX10_divide 243 = .ok (.sipush 3600, 3) := by decide +kernel
theorem dX10_divide_246 : decode cX10_divide 246 = .ok (.iload 8, 2) := by decide +kernel
theorem dX10_divide_248 : decode cX10_divide 248 = .ok (.iadd, 1) := by decide +kernel
theorem dX10_divide_249 : decode cX10_divide 249 = .ok (.iload 15, 2) := by decide +kernel
theorem dX10_divide_251 : decode cX10_divide 251 = .ok (.iadd, 1) := by decide +kernel
theorem dX10_divide_252 : decode cX10_divide 252 = .ok (.lload 16, 2) := by decide +kernel
theorem dX10_divide_254 : decode cX10_divide 254 = .ok (.ldc2_w 186, 3) := by decide +kernel
theorem dX10_divide_257 : decode cX10_divide 257 = .ok (.land, 1) := by decide +kernel
theorem dX10_divide_258 : decode cX10_divide 258 = .ok (.l2i, 1) := by decide +kernel
theorem dX10_divide_259 : decode cX10_divide 259 = .ok (.iastore, 1) := by decide +kernel
theorem dX10_divide_260 : decode cX10_divide 260 = .ok (.lload 16, 2) := by decide +kernel
theorem dX10_divide_262 : decode cX10_divide 262 = .ok (.bipush 16, 2) := by decide +kernel
theorem dX10_divide_264 : decode cX10_divide 264 = .ok (.lshr, 1) := by decide +kernel
theorem dX10_divide_265 : decode cX10_divide 265 = .ok (.lneg, 1) := by decide +kernel
theorem dX10_divide_266 : decode cX10_divide 266 = .ok (.lstore 13, 2) := by decide +kernel
theorem dX10_divide_268 : decode cX10_divide 268 = .ok (.iinc 15 1, 3) := by decide +kernel
theorem dX10_divide_271 : decode cX10_divide 271 = .ok (.goto (-74), 3) := by decide +kernel
theorem dX10_divide_274 : decode cX10_divide 274 = .ok (.aload_n 0, 1) := by decide +kernel
theorem dX10_divide_275 : decode cX10_divide 275 = .ok (.getfield 76, 3) := by decide +kernel
theorem dX10_divide_278 : decode cX10_divide 278 = .ok (.sipush 3600, 3) := by decide +kernel
theorem dX10_divide_281 : decode cX10_divide 281 = .ok (.iload 8, 2) := by decide +kernel
theorem dX10_divide_283 : decode cX10_divide 283 = .ok (.iadd, 1) := by decide +kernel
theorem dX10_divide_284 : decode cX10_divide 284 = .ok (.iload_n 3, 1) := by decide +kernel
theorem dX10_divide_285 : decode cX10_divide 285 = .ok (.iadd, 1) := by decide +kernel
theorem dX10_divide_286 : decode cX10_divide 286 = .ok (.iaload, 1) := by decide +kernel
theorem dX10_divide_287 : decode cX10_divide 287 = .ok (.i2l, 1) := by decide +kernel
theorem dX10_divide_288 : decode cX10_divide 288 = .ok (.lload 13, 2) := by decide +kernel
theorem dX10_divide_290 : decode cX10_divide 290 = .ok (.lsub, 1) := by decide +kernel
theorem dX10_divide_291 : decode cX10_divide 291 = .ok (.lstore 15, 2) := by decide +kernel
theorem dX10_divide_293 : decode cX10_divide 293 = .ok (.lload 15, 2) := by decide +kernel
theorem dX10_divide_295 : decode cX10_divide 295 = .ok (.lconst 0, 1) := by decide +kernel
theorem dX10_divide_296 : decode cX10_divide 296 = .ok (.lcmp, 1) := by decide +kernel
theorem dX10_divide_297 : decode cX10_divide 297 = .ok (.ifCond .ge 98, 3) := by decide +kernel
theorem dX10_divide_300 : decode cX10_divide 300 = .ok (.lload 11, 2) := by decide +kernel
theorem dX10_divide_302 : decode cX10_divide 302 = .ok (.lconst 1, 1) := by decide +kernel
theorem dX10_divide_303 : decode cX10_divide 303 = .ok (.lsub, 1) := by decide +kernel
theorem dX10_divide_304 : decode cX10_divide 304 = .ok (.lstore 11, 2) := by decide +kernel
theorem dX10_divide_306 : decode cX10_divide 306 = .ok (.lconst 0, 1) := by decide +kernel
theorem dX10_divide_307 : decode cX10_divide 307 = .ok (.lstore 17, 2) := by decide +kernel
theorem dX10_divide_309 : decode cX10_divide 309 = .ok (.iconst 0, 1) := by decide +kernel
theorem dX10_divide_310 : decode cX10_divide 310 = .ok (.istore 19, 2) := by decide +kernel
theorem dX10_divide_312 : decode cX10_divide 312 = .ok (.iload 19, 2) := by decide +kernel
theorem dX10_divide_314 : decode cX10_divide 314 = .ok (.iload_n 3, 1) := by decide +kernel
theorem dX10_divide_315 : decode cX10_divide 315 = .ok (.if_icmp .ge 70, 3) := by decide +kernel
theorem dX10_divide_318 : decode cX10_divide 318 = .ok (.lload 17, 2) := by decide +kernel
theorem dX10_divide_320 : decode cX10_divide 320 = .ok (.aload_n 0, 1) := by decide +kernel
theorem dX10_divide_321 : decode cX10_divide 321 = .ok (.getfield 76, 3) := by decide +kernel
theorem dX10_divide_324 : decode cX10_divide 324 = .ok (.sipush 3600, 3) := by decide +kernel
theorem dX10_divide_327 : decode cX10_divide 327 = .ok (.iload 8, 2) := by decide +kernel
theorem dX10_divide_329 : decode cX10_divide 329 = .ok (.iadd, 1) := by decide +kernel
theorem dX10_divide_330 : decode cX10_divide 330 = .ok (.iload 19, 2) := by decide +kernel
theorem dX10_divide_332 : decode cX10_divide 332 = .ok (.iadd, 1) := by decide +kernel
theorem dX10_divide_333 : decode cX10_divide 333 = .ok (.iaload, 1) := by decide +kernel
theorem dX10_divide_334 : decode cX10_divide 334 = .ok (.i2l, 1) := by decide +kernel
theorem dX10_divide_335 : decode cX10_divide 335 = .ok (.aload_n 0, 1) := by decide +kernel
theorem dX10_divide_336 : decode cX10_divide 336 = .ok (.getfield 76, 3) := by decide +kernel
theorem dX10_divide_339 : decode cX10_divide 339 = .ok (.sipush 2400, 3) := by decide +kernel
theorem dX10_divide_342 : decode cX10_divide 342 = .ok (.iload 19, 2) := by decide +kernel
theorem dX10_divide_344 : decode cX10_divide 344 = .ok (.iadd, 1) := by decide +kernel
theorem dX10_divide_345 : decode cX10_divide 345 = .ok (.iaload, 1) := by decide +kernel
theorem dX10_divide_346 : decode cX10_divide 346 = .ok (.i2l, 1) := by decide +kernel
theorem dX10_divide_347 : decode cX10_divide 347 = .ok (.ladd, 1) := by decide +kernel
theorem dX10_divide_348 : decode cX10_divide 348 = .ok (.ladd, 1) := by decide +kernel
theorem dX10_divide_349 : decode cX10_divide 349 = .ok (.lstore 17, 2) := by decide +kernel
theorem dX10_divide_351 : decode cX10_divide 351 = .ok (.aload_n 0, 1) := by decide +kernel
theorem dX10_divide_352 : decode cX10_divide 352 = .ok (.getfield 76, 3) := by decide +kernel
theorem dX10_divide_355 : decode cX10_divide 355 = .ok (.sipush 3600, 3) := by decide +kernel
theorem dX10_divide_358 : decode cX10_divide 358 = .ok (.iload 8, 2) := by decide +kernel
theorem dX10_divide_360 : decode cX10_divide 360 = .ok (.iadd, 1) := by decide +kernel
theorem dX10_divide_361 : decode cX10_divide 361 = .ok (.iload 19, 2) := by decide +kernel
theorem dX10_divide_363 : decode cX10_divide 363 = .ok (.iadd, 1) := by decide +kernel
theorem dX10_divide_364 : decode cX10_divide 364 = .ok (.lload 17, 2) := by decide +kernel
theorem dX10_divide_366 : decode cX10_divide 366 = .ok (.ldc2_w 186, 3) := by decide +kernel
theorem dX10_divide_369 : decode cX10_divide 369 = .ok (.land, 1) := by decide +kernel
theorem dX10_divide_370 : decode cX10_divide 370 = .ok (.l2i, 1) := by decide +kernel
theorem dX10_divide_371 : decode cX10_divide 371 = .ok (.iastore, 1) := by decide +kernel
theorem dX10_divide_372 : decode cX10_divide 372 = .ok (.lload 17, 2) := by decide +kernel
theorem dX10_divide_374 : decode cX10_divide 374 = .ok (.bipush 16, 2) := by decide +kernel
theorem dX10_divide_376 : decode cX10_divide 376 = .ok (.lshr, 1) := by decide +kernel
theorem dX10_divide_377 : decode cX10_divide 377 = .ok (.lstore 17, 2) := by decide +kernel
theorem dX10_divide_379 : decode cX10_divide 379 = .ok (.iinc 19 1, 3) := by decide +kernel
theorem dX10_divide_382 : decode cX10_divide 382 = .ok (.goto (-70), 3) := by decide +kernel
theorem dX10_divide_385 : decode cX10_divide 385 = .ok (.lload 15, 2) := by decide +kernel
theorem dX10_divide_387 : decode cX10_divide 387 = .ok (.lload 17, 2) := by decide +kernel
theorem dX10_divide_389 : decode cX10_divide 389 = .ok (.ladd, 1) := by decide +kernel
theorem dX10_divide_390 : decode cX10_divide 390 = .ok (.lstore 15, 2) := by decide +kernel
theorem dX10_divide_392 : decode cX10_divide 392 = .ok (.goto (-99), 3) := by decide +kernel
theorem dX10_divide_395 : decode cX10_divide 395 = .ok (.aload_n 0, 1) := by decide +kernel
theorem dX10_divide_396 : decode cX10_divide 396 = .ok (.getfield 76, 3) := by decide +kernel
theorem dX10_divide_399 : decode cX10_divide 399 = .ok (.sipush 3600, 3) := by decide +kernel
theorem dX10_divide_402 : decode cX10_divide 402 = .ok (.iload 8, 2) := by decide +kernel
theorem dX10_divide_404 : decode cX10_divide 404 = .ok (.iadd, 1) := by decide +kernel
theorem dX10_divide_405 : decode cX10_divide 405 = .ok (.iload_n 3, 1) := by decide +kernel
theorem dX10_divide_406 : decode cX10_divide 406 = .ok (.iadd, 1) := by decide +kernel
theorem dX10_divide_407 : decode cX10_divide 407 = .ok (.lload 15, 2) := by decide +kernel
theorem dX10_divide_409 : decode cX10_divide 409 = .ok (.l2i, 1) := by decide +kernel
theorem dX10_divide_410 : decode cX10_divide 410 = .ok (.iastore, 1) := by decide +kernel
theorem dX10_divide_411 : decode cX10_divide 411 = .ok (.aload_n 0, 1) := by decide +kernel
theorem dX10_divide_412 : decode cX10_divide 412 = .ok (.getfield 76, 3) := by decide +kernel
theorem dX10_divide_415 : decode cX10_divide 415 = .ok (.sipush 1200, 3) := by decide +kernel
theorem dX10_divide_418 : decode cX10_divide 418 = .ok (.iload_n 1, 1) := by decide +kernel
theorem dX10_divide_419 : decode cX10_divide 419 = .ok (.imul, 1) := by decide +kernel
theorem dX10_divide_420 : decode cX10_divide 420 = .ok (.iload 8, 2) := by decide +kernel
theorem dX10_divide_422 : decode cX10_divide 422 = .ok (.iadd, 1) := by decide +kernel
theorem dX10_divide_423 : decode cX10_divide 423 = .ok (.lload 11, 2) := by decide +kernel
theorem dX10_divide_425 : decode cX10_divide 425 = .ok (.l2i, 1) := by decide +kernel
theorem dX10_divide_426 : decode cX10_divide 426 = .ok (.iastore, 1) := by decide +kernel
theorem dX10_divide_427 : decode cX10_divide 427 = .ok (.iinc 8 (-1), 3) := by decide +kernel
theorem dX10_divide_430 : decode cX10_divide 430 = .ok (.goto (-306), 3) := by decide +kernel
theorem dX10_divide_433 : decode cX10_divide 433 = .ok (.aload_n 0, 1) := by decide +kernel
theorem dX10_divide_434 : decode cX10_divide 434 = .ok (.iload_n 1, 1) := by decide +kernel
theorem dX10_divide_435 : decode cX10_divide 435 = .ok (.invokevirtual 188, 3) := by decide +kernel
theorem dX10_divide_438 : decode cX10_divide 438 = .ok (.return_, 1) := by decide +kernel
abbrev cX10_show : ByteArray := prog_13_method_50_code
def yX10_show : MethodName := ⟨RX10, "show", "(II)Z"⟩
theorem dX10_show_0 : decode cX10_show 0 = .ok (.iload_n 1, 1) := by decide +kernel
theorem dX10_show_1 : decode cX10_show 1 = .ok (.ifCond .eq 8, 3) := by decide +kernel
theorem dX10_show_4 : decode cX10_show 4 = .ok (.iload_n 1, 1) := by decide +kernel
theorem dX10_show_5 : decode cX10_show 5 = .ok (.iconst 2, 1) := by decide +kernel
theorem dX10_show_6 : decode cX10_show 6 = .ok (.if_icmp .ne 7, 3) := by decide +kernel
theorem dX10_show_9 : decode cX10_show 9 = .ok (.iconst 1, 1) := by decide +kernel
theorem dX10_show_10 : decode cX10_show 10 = .ok (.goto 4, 3) := by decide +kernel
theorem dX10_show_13 : decode cX10_show 13 = .ok (.iconst 0, 1) := by decide +kernel
theorem dX10_show_14 : decode cX10_show 14 = .ok (.istore_n 3, 1) := by decide +kernel
theorem dX10_show_15 : decode cX10_show 15 = .ok (.aload_n 0, 1) := by decide +kernel
theorem dX10_show_16 : decode cX10_show 16 = .ok (.iload_n 1, 1) := by decide +kernel
theorem dX10_show_17 : decode cX10_show 17 = .ok (.ifCond .lt 8, 3) := by decide +kernel
theorem dX10_show_20 : decode cX10_show 20 = .ok (.iload_n 1, 1) := by decide +kernel
theorem dX10_show_21 : decode cX10_show 21 = .ok (.iconst 4, 1) := by decide +kernel
theorem dX10_show_22 : decode cX10_show 22 = .ok (.if_icmp .le 7, 3) := by decide +kernel
theorem dX10_show_25 : decode cX10_show 25 = .ok (.iconst 1, 1) := by decide +kernel
theorem dX10_show_26 : decode cX10_show 26 = .ok (.goto 40, 3) := by decide +kernel
theorem dX10_show_29 : decode cX10_show 29 = .ok (.iload_n 1, 1) := by decide +kernel
theorem dX10_show_30 : decode cX10_show 30 = .ok (.iconst 4, 1) := by decide +kernel
theorem dX10_show_31 : decode cX10_show 31 = .ok (.if_icmp .ge 14, 3) := by decide +kernel
theorem dX10_show_34 : decode cX10_show 34 = .ok (.aload_n 0, 1) := by decide +kernel
theorem dX10_show_35 : decode cX10_show 35 = .ok (.getfield 231, 3) := by decide +kernel
theorem dX10_show_38 : decode cX10_show 38 = .ok (.ifCond .ne 7, 3) := by decide +kernel
theorem dX10_show_41 : decode cX10_show 41 = .ok (.iconst 2, 1) := by decide +kernel
theorem dX10_show_42 : decode cX10_show 42 = .ok (.goto 24, 3) := by decide +kernel
theorem dX10_show_45 : decode cX10_show 45 = .ok (.iload_n 3, 1) := by decide +kernel
theorem dX10_show_46 : decode cX10_show 46 = .ok (.ifCond .eq 19, 3) := by decide +kernel
theorem dX10_show_49 : decode cX10_show 49 = .ok (.iload_n 2, 1) := by decide +kernel
theorem dX10_show_50 : decode cX10_show 50 = .ok (.ifCond .lt 11, 3) := by decide +kernel
theorem dX10_show_53 : decode cX10_show 53 = .ok (.iload_n 2, 1) := by decide +kernel
theorem dX10_show_54 : decode cX10_show 54 = .ok (.aload_n 0, 1) := by decide +kernel
theorem dX10_show_55 : decode cX10_show 55 = .ok (.getfield 250, 3) := by decide +kernel
theorem dX10_show_58 : decode cX10_show 58 = .ok (.if_icmp .lt 7, 3) := by decide +kernel
theorem dX10_show_61 : decode cX10_show 61 = .ok (.iconst 1, 1) := by decide +kernel
theorem dX10_show_62 : decode cX10_show 62 = .ok (.goto 4, 3) := by decide +kernel
theorem dX10_show_65 : decode cX10_show 65 = .ok (.iconst 0, 1) := by decide +kernel
theorem dX10_show_66 : decode cX10_show 66 = .ok (.putfield 1, 3) := by decide +kernel
theorem dX10_show_69 : decode cX10_show 69 = .ok (.aload_n 0, 1) := by decide +kernel
theorem dX10_show_70 : decode cX10_show 70 = .ok (.getfield 1, 3) := by decide +kernel
theorem dX10_show_73 : decode cX10_show 73 = .ok (.ifCond .le 5, 3) := by decide +kernel
theorem dX10_show_76 : decode cX10_show 76 = .ok (.iconst 0, 1) := by decide +kernel
theorem dX10_show_77 : decode cX10_show 77 = .ok (.ireturn, 1) := by decide +kernel
theorem dX10_show_78 : decode cX10_show 78 = .ok (.iload_n 1, 1) := by decide +kernel
theorem dX10_show_79 : decode cX10_show 79 = .ok (.ifCond .ne 13, 3) := by decide +kernel
theorem dX10_show_82 : decode cX10_show 82 = .ok (.aload_n 0, 1) := by decide +kernel
theorem dX10_show_83 : decode cX10_show 83 = .ok (.iload_n 2, 1) := by decide +kernel
theorem dX10_show_84 : decode cX10_show 84 = .ok (.iconst 0, 1) := by decide +kernel
theorem dX10_show_85 : decode cX10_show 85 = .ok (.iconst 1, 1) := by decide +kernel
theorem dX10_show_86 : decode cX10_show 86 = .ok (.invokevirtual 284, 3) := by decide +kernel
theorem dX10_show_89 : decode cX10_show 89 = .ok (.goto 126, 3) := by decide +kernel
theorem dX10_show_92 : decode cX10_show 92 = .ok (.iload_n 1, 1) := by decide +kernel
theorem dX10_show_93 : decode cX10_show 93 = .ok (.iconst 1, 1) := by decide +kernel
theorem dX10_show_94 : decode cX10_show 94 = .ok (.if_icmp .ne 20, 3) := by decide +kernel
theorem dX10_show_97 : decode cX10_show 97 = .ok (.aload_n 0, 1) := by decide +kernel
theorem dX10_show_98 : decode cX10_show 98 = .ok (.iconst 0, 1) := by decide +kernel
theorem dX10_show_99 : decode cX10_show 99 = .ok (.bipush 6, 2) := by decide +kernel
theorem dX10_show_101 : decode cX10_show 101 = .ok (.invokevirtual 195, 3) := by decide +kernel
theorem dX10_show_104 : decode cX10_show 104 = .ok (.aload_n 0, 1) := by decide +kernel
theorem dX10_show_105 : decode cX10_show 105 = .ok (.iconst 1, 1) := by decide +kernel
theorem dX10_show_106 : decode cX10_show 106 = .ok (.bipush 7, 2) := by decide +kernel
theorem dX10_show_108 : decode cX10_show 108 = .ok (.invokevirtual 195, 3) := by decide +kernel
theorem dX10_show_111 : decode cX10_show 111 = .ok (.goto 104, 3) := by decide +kernel
theorem dX10_show_114 : decode cX10_show 114 = .ok (.iload_n 1, 1) := by decide +kernel
theorem dX10_show_115 : decode cX10_show 115 = .ok (.iconst 2, 1) := by decide +kernel
theorem dX10_show_116 : decode cX10_show 116 = .ok (.if_icmp .ne 53, 3) := by decide +kernel
theorem dX10_show_119 : decode cX10_show 119 = .ok (.aload_n 0, 1) := by decide +kernel
theorem dX10_show_120 : decode cX10_show 120 = .ok (.iconst 0, 1) := by decide +kernel
theorem dX10_show_121 : decode cX10_show 121 = .ok (.aload_n 0, 1) := by decide +kernel
theorem dX10_show_122 : decode cX10_show 122 = .ok (.getfield 13, 3) := by decide +kernel
theorem dX10_show_125 : decode cX10_show 125 = .ok (.aload_n 0, 1) := by decide +kernel
theorem dX10_show_126 : decode cX10_show 126 = .ok (.getfield 52, 3) := by decide +kernel
theorem dX10_show_129 : decode cX10_show 129 = .ok (.iload_n 2, 1) := by decide +kernel
theorem dX10_show_130 : decode cX10_show 130 = .ok (.iaload, 1) := by decide +kernel
theorem dX10_show_131 : decode cX10_show 131 = .ok (.iaload, 1) := by decide +kernel
theorem dX10_show_132 : decode cX10_show 132 = .ok (.i2l, 1) := by decide +kernel
theorem dX10_show_133 : decode cX10_show 133 = .ok (.invokevirtual 182, 3) := by decide +kernel
theorem dX10_show_136 : decode cX10_show 136 = .ok (.aload_n 0, 1) := by decide +kernel
theorem dX10_show_137 : decode cX10_show 137 = .ok (.iconst 1, 1) := by decide +kernel
theorem dX10_show_138 : decode cX10_show 138 = .ok (.aload_n 0, 1) := by decide +kernel
theorem dX10_show_139 : decode cX10_show 139 = .ok (.getfield 13, 3) := by decide +kernel
theorem dX10_show_142 : decode cX10_show 142 = .ok (.aload_n 0, 1) := by decide +kernel
theorem dX10_show_143 : decode cX10_show 143 = .ok (.getfield 52, 3) := by decide +kernel
theorem dX10_show_146 : decode cX10_show 146 = .ok (.iload_n 2, 1) := by decide +kernel
theorem dX10_show_147 : decode cX10_show 147 = .ok (.iaload, 1) := by decide +kernel
theorem dX10_show_148 : decode cX10_show 148 = .ok (.iaload, 1) := by decide +kernel
theorem dX10_show_149 : decode cX10_show 149 = .ok (.i2l, 1) := by decide +kernel
theorem dX10_show_150 : decode cX10_show 150 = .ok (.aload_n 0, 1) := by decide +kernel
theorem dX10_show_151 : decode cX10_show 151 = .ok (.getfield 13, 3) := by decide +kernel
theorem dX10_show_154 : decode cX10_show 154 = .ok (.aload_n 0, 1) := by decide +kernel
theorem dX10_show_155 : decode cX10_show 155 = .ok (.getfield 55, 3) := by decide +kernel
theorem dX10_show_158 : decode cX10_show 158 = .ok (.iload_n 2, 1) := by decide +kernel
theorem dX10_show_159 : decode cX10_show 159 = .ok (.iaload, 1) := by decide +kernel
theorem dX10_show_160 : decode cX10_show 160 = .ok (.iaload, 1) := by decide +kernel
theorem dX10_show_161 : decode cX10_show 161 = .ok (.i2l, 1) := by decide +kernel
theorem dX10_show_162 : decode cX10_show 162 = .ok (.ladd, 1) := by decide +kernel
theorem dX10_show_163 : decode cX10_show 163 = .ok (.invokevirtual 182, 3) := by decide +kernel
theorem dX10_show_166 : decode cX10_show 166 = .ok (.goto 49, 3) := by decide +kernel
theorem dX10_show_169 : decode cX10_show 169 = .ok (.aload_n 0, 1) := by decide +kernel
theorem dX10_show_170 : decode cX10_show 170 = .ok (.iconst 0, 1) := by decide +kernel
theorem dX10_show_171 : decode cX10_show 171 = .ok (.iload_n 1, 1) := by decide +kernel
theorem dX10_show_172 : decode cX10_show 172 = .ok (.iconst 3, 1) := by decide +kernel
theorem dX10_show_173 : decode cX10_show 173 = .ok (.if_icmp .ne 11, 3) := by decide +kernel
theorem dX10_show_176 : decode cX10_show 176 = .ok (.aload_n 0, 1) := by decide +kernel
theorem dX10_show_177 : decode cX10_show 177 = .ok (.invokevirtual 277, 3) := by decide +kernel
theorem dX10_show_180 : decode cX10_show 180 = .ok (.i2l, 1) := by decide +kernel
theorem dX10_show_181 : decode cX10_show 181 = .ok (.goto 8, 3) := by decide +kernel
theorem dX10_show_184 : decode cX10_show 184 = .ok (.aload_n 0, 1) := by decide +kernel
theorem dX10_show_185 : decode cX10_show 185 = .ok (.getfield 30, 3) := by decide +kernel
theorem dX10_show_188 : decode cX10_show 188 = .ok (.i2l, 1) := by decide +kernel
theorem dX10_show_189 : decode cX10_show 189 = .ok (.invokevirtual 182, 3) := by decide +kernel
theorem dX10_show_192 : decode cX10_show 192 = .ok (.aload_n 0, 1) := by decide +kernel
theorem dX10_show_193 : decode cX10_show 193 = .ok (.iconst 1, 1) := by decide +kernel
theorem dX10_show_194 : decode cX10_show 194 = .ok (.iload_n 1, 1) := by decide +kernel
theorem dX10_show_195 : decode cX10_show 195 = .ok (.iconst 3, 1) := by decide +kernel
theorem dX10_show_196 : decode cX10_show 196 = .ok (.if_icmp .ne 11, 3) := by decide +kernel
theorem dX10_show_199 : decode cX10_show 199 = .ok (.aload_n 0, 1) := by decide +kernel
theorem dX10_show_200 : decode cX10_show 200 = .ok (.getfield 240, 3) := by decide +kernel
theorem dX10_show_203 : decode cX10_show 203 = .ok (.i2l, 1) := by decide +kernel
theorem dX10_show_204 : decode cX10_show 204 = .ok (.goto 8, 3) := by decide +kernel
theorem dX10_show_207 : decode cX10_show 207 = .ok (.aload_n 0, 1) := by decide +kernel
theorem dX10_show_208 : decode cX10_show 208 = .ok (.getfield 33, 3) := by decide +kernel
theorem dX10_show_211 : decode cX10_show 211 = .ok (.i2l, 1) := by decide +kernel
theorem dX10_show_212 : decode cX10_show 212 = .ok (.invokevirtual 182, 3) := by decide +kernel
theorem dX10_show_215 : decode cX10_show 215 = .ok (.aload_n 0, 1) := by decide +kernel
theorem dX10_show_216 : decode cX10_show 216 = .ok (.invokevirtual 329, 3) := by decide +kernel
theorem dX10_show_219 : decode cX10_show 219 = .ok (.aload_n 0, 1) := by decide +kernel
theorem dX10_show_220 : decode cX10_show 220 = .ok (.iconst 0, 1) := by decide +kernel
theorem dX10_show_221 : decode cX10_show 221 = .ok (.iconst 1, 1) := by decide +kernel
theorem dX10_show_222 : decode cX10_show 222 = .ok (.invokevirtual 203, 3) := by decide +kernel
theorem dX10_show_225 : decode cX10_show 225 = .ok (.ifCond .lt 7, 3) := by decide +kernel
theorem dX10_show_228 : decode cX10_show 228 = .ok (.iconst 1, 1) := by decide +kernel
theorem dX10_show_229 : decode cX10_show 229 = .ok (.goto 4, 3) := by decide +kernel
theorem dX10_show_232 : decode cX10_show 232 = .ok (.iconst 0, 1) := by decide +kernel
theorem dX10_show_233 : decode cX10_show 233 = .ok (.ireturn, 1) := by decide +kernel
abbrev cX10_size : ByteArray := prog_13_method_52_code
def yX10_size : MethodName := ⟨RX10, "size", "(I)I"⟩
theorem dX10_size_0 : decode cX10_size 0 = .ok (.aload_n 0, 1) := by decide +kernel
theorem dX10_size_1 : decode cX10_size 1 = .ok (.iload_n 1, 1) := by decide +kernel
theorem dX10_size_2 : decode cX10_size 2 = .ok (.ifCond .lt 8, 3) := by decide +kernel
theorem dX10_size_5 : decode cX10_size 5 = .ok (.iload_n 1, 1) := by decide +kernel
theorem dX10_size_6 : decode cX10_size 6 = .ok (.iconst 1, 1) := by decide +kernel
theorem dX10_size_7 : decode cX10_size 7 = .ok (.if_icmp .le 7, 3) := by decide +kernel
theorem dX10_size_10 : decode cX10_size 10 = .ok (.iconst 1, 1) := by decide +kernel
theorem dX10_size_11 : decode cX10_size 11 = .ok (.goto 4, 3) := by decide +kernel
theorem dX10_size_14 : decode cX10_size 14 = .ok (.iconst 0, 1) := by decide +kernel
theorem dX10_size_15 : decode cX10_size 15 = .ok (.putfield 1, 3) := by decide +kernel
theorem dX10_size_18 : decode cX10_size 18 = .ok (.aload_n 0, 1) := by decide +kernel
theorem dX10_size_19 : decode cX10_size 19 = .ok (.getfield 1, 3) := by decide +kernel
theorem dX10_size_22 : decode cX10_size 22 = .ok (.ifCond .le 7, 3) := by decide +kernel
theorem dX10_size_25 : decode cX10_size 25 = .ok (.iconst 0, 1) := by decide +kernel
theorem dX10_size_26 : decode cX10_size 26 = .ok (.goto 8, 3) := by decide +kernel
theorem dX10_size_29 : decode cX10_size 29 = .ok (.aload_n 0, 1) := by decide +kernel
theorem dX10_size_30 : decode cX10_size 30 = .ok (.iload_n 1, 1) := by decide +kernel
theorem dX10_size_31 : decode cX10_size 31 = .ok (.invokevirtual 332, 3) := by decide +kernel
theorem dX10_size_34 : decode cX10_size 34 = .ok (.ireturn, 1) := by decide +kernel
abbrev cX10_limbs : ByteArray := prog_13_method_51_code
def yX10_limbs : MethodName := ⟨RX10, "limbs", "(I)I"⟩
theorem dX10_limbs_0 : decode cX10_limbs 0 = .ok (.aload_n 0, 1) := by decide +kernel
theorem dX10_limbs_1 : decode cX10_limbs 1 = .ok (.getfield 79, 3) := by decide +kernel
theorem dX10_limbs_4 : decode cX10_limbs 4 = .ok (.iload_n 1, 1) := by decide +kernel
theorem dX10_limbs_5 : decode cX10_limbs 5 = .ok (.iaload, 1) := by decide +kernel
theorem dX10_limbs_6 : decode cX10_limbs 6 = .ok (.iconst 1, 1) := by decide +kernel
theorem dX10_limbs_7 : decode cX10_limbs 7 = .ok (.iadd, 1) := by decide +kernel
theorem dX10_limbs_8 : decode cX10_limbs 8 = .ok (.iconst 2, 1) := by decide +kernel
theorem dX10_limbs_9 : decode cX10_limbs 9 = .ok (.idiv, 1) := by decide +kernel
theorem dX10_limbs_10 : decode cX10_limbs 10 = .ok (.ireturn, 1) := by decide +kernel
abbrev cX10_limb : ByteArray := prog_13_method_53_code
def yX10_limb : MethodName := ⟨RX10, "limb", "(II)I"⟩
theorem dX10_limb_0 : decode cX10_limb 0 = .ok (.aload_n 0, 1) := by decide +kernel
theorem dX10_limb_1 : decode cX10_limb 1 = .ok (.iload_n 1, 1) := by decide +kernel
theorem dX10_limb_2 : decode cX10_limb 2 = .ok (.ifCond .lt 21, 3) := by decide +kernel
theorem dX10_limb_5 : decode cX10_limb 5 = .ok (.iload_n 1, 1) := by decide +kernel
theorem dX10_limb_6 : decode cX10_limb 6 = .ok (.iconst 1, 1) := by decide +kernel
theorem dX10_limb_7 : decode cX10_limb 7 = .ok (.if_icmp .gt 16, 3) := by decide +kernel
theorem dX10_limb_10 : decode cX10_limb 10 = .ok (.iload_n 2, 1) := by decide +kernel
theorem dX10_limb_11 : decode cX10_limb 11 = .ok (.ifCond .lt 12, 3) := by decide +kernel
theorem dX10_limb_14 : decode cX10_limb 14 = .ok (.iload_n 2, 1) := by decide +kernel
theorem dX10_limb_15 : decode cX10_limb 15 = .ok (.aload_n 0, 1) := by decide +kernel
theorem dX10_limb_16 : decode cX10_limb 16 = .ok (.iload_n 1, 1) := by decide +kernel
theorem dX10_limb_17 : decode cX10_limb 17 = .ok (.invokevirtual 332, 3) := by decide +kernel
theorem dX10_limb_20 : decode cX10_limb 20 = .ok (.if_icmp .lt 7, 3) := by decide +kernel
theorem dX10_limb_23 : decode cX10_limb 23 = .ok (.iconst 1, 1) := by decide +kernel
theorem dX10_limb_24 : decode cX10_limb 24 = .ok (.goto 4, 3) := by decide +kernel
theorem dX10_limb_27 : decode cX10_limb 27 = .ok (.iconst 0, 1) := by decide +kernel
theorem dX10_limb_28 : decode cX10_limb 28 = .ok (.putfield 1, 3) := by decide +kernel
theorem dX10_limb_31 : decode cX10_limb 31 = .ok (.aload_n 0, 1) := by decide +kernel
theorem dX10_limb_32 : decode cX10_limb 32 = .ok (.getfield 1, 3) := by decide +kernel
theorem dX10_limb_35 : decode cX10_limb 35 = .ok (.ifCond .le 5, 3) := by decide +kernel
theorem dX10_limb_38 : decode cX10_limb 38 = .ok (.iconst 0, 1) := by decide +kernel
theorem dX10_limb_39 : decode cX10_limb 39 = .ok (.ireturn, 1) := by decide +kernel
theorem dX10_limb_40 : decode cX10_limb 40 = .ok (.iconst 2, 1) := by decide +kernel
theorem dX10_limb_41 : decode cX10_limb 41 = .ok (.iload_n 2, 1) := by decide +kernel
theorem dX10_limb_42 : decode cX10_limb 42 = .ok (.imul, 1) := by decide +kernel
theorem dX10_limb_43 : decode cX10_limb 43 = .ok (.iconst 1, 1) := by decide +kernel
theorem dX10_limb_44 : decode cX10_limb 44 = .ok (.iadd, 1) := by decide +kernel
theorem dX10_limb_45 : decode cX10_limb 45 = .ok (.aload_n 0, 1) := by decide +kernel
theorem dX10_limb_46 : decode cX10_limb 46 = .ok (.getfield 79, 3) := by decide +kernel
theorem dX10_limb_49 : decode cX10_limb 49 = .ok (.iload_n 1, 1) := by decide +kernel
theorem dX10_limb_50 : decode cX10_limb 50 = .ok (.iaload, 1) := by decide +kernel
theorem dX10_limb_51 : decode cX10_limb 51 = .ok (.if_icmp .ge 22, 3) := by decide +kernel
theorem dX10_limb_54 : decode cX10_limb 54 = .ok (.aload_n 0, 1) := by decide +kernel
theorem dX10_limb_55 : decode cX10_limb 55 = .ok (.getfield 76, 3) := by decide +kernel
theorem dX10_limb_58 : decode cX10_limb 58 = .ok (.sipush 1200, 3) := by decide +kernel
theorem dX10_limb_61 : decode cX10_limb 61 = .ok (.iload_n 1, 1) := by decide +kernel
theorem dX10_limb_62 : decode cX10_limb 62 = .ok (.imul, 1) := by decide +kernel
theorem dX10_limb_63 : decode cX10_limb 63 = .ok (.iconst 2, 1) := by decide +kernel
theorem dX10_limb_64 : decode cX10_limb 64 = .ok (.iload_n 2, 1) := by decide +kernel
theorem dX10_limb_65 : decode cX10_limb 65 = .ok (.imul, 1) := by decide +kernel
theorem dX10_limb_66 : decode cX10_limb 66 = .ok (.iadd, 1) := by decide +kernel
theorem dX10_limb_67 : decode cX10_limb 67 = .ok (.iconst 1, 1) := by decide +kernel
theorem dX10_limb_68 : decode cX10_limb 68 = .ok (.iadd, 1) := by decide +kernel
theorem dX10_limb_69 : decode cX10_limb 69 = .ok (.iaload, 1) := by decide +kernel
theorem dX10_limb_70 : decode cX10_limb 70 = .ok (.goto 4, 3) := by decide +kernel
theorem dX10_limb_73 : decode cX10_limb 73 = .ok (.iconst 0, 1) := by decide +kernel
theorem dX10_limb_74 : decode cX10_limb 74 = .ok (.istore_n 3, 1) := by decide +kernel
theorem dX10_limb_75 : decode cX10_limb 75 = .ok (.iload_n 3, 1) := by decide +kernel
theorem dX10_limb_76 : decode cX10_limb 76 = .ok (.bipush 16, 2) := by decide +kernel
theorem dX10_limb_78 : decode cX10_limb 78 = .ok (.ishl, 1) := by decide +kernel
theorem dX10_limb_79 : decode cX10_limb 79 = .ok (.aload_n 0, 1) := by decide +kernel
theorem dX10_limb_80 : decode cX10_limb 80 = .ok (.getfield 76, 3) := by decide +kernel
theorem dX10_limb_83 : decode cX10_limb 83 = .ok (.sipush 1200, 3) := by decide +kernel
theorem dX10_limb_86 : decode cX10_limb 86 = .ok (.iload_n 1, 1) := by decide +kernel
theorem dX10_limb_87 : decode cX10_limb 87 = .ok (.imul, 1) := by decide +kernel
theorem dX10_limb_88 : decode cX10_limb 88 = .ok (.iconst 2, 1) := by decide +kernel
theorem dX10_limb_89 : decode cX10_limb 89 = .ok (.iload_n 2, 1) := by decide +kernel
theorem dX10_limb_90 : decode cX10_limb 90 = .ok (.imul, 1) := by decide +kernel
theorem dX10_limb_91 : decode cX10_limb 91 = .ok (.iadd, 1) := by decide +kernel
theorem dX10_limb_92 : decode cX10_limb 92 = .ok (.iaload, 1) := by decide +kernel
theorem dX10_limb_93 : decode cX10_limb 93 = .ok (.ior, 1) := by decide +kernel
theorem dX10_limb_94 : decode cX10_limb 94 = .ok (.ireturn, 1) := by decide +kernel
theorem q64 : (Jvm.Cond.initialized "PollAuditModel") ∈ lw_all := lw_g (lw_at lw_m1 12 rfl) rfl
theorem q1003 : (Jvm.Cond.instanceMethod ({ cls := "PollAuditModel", name := "thrown", desc := "()I" } : Jvm.MethodName)) ∈ lw_all := lw_g (lw_at lw_m4 231 rfl) rfl
