set_option maxRecDepth 100000
abbrev cX10_thrown : ByteArray := prog_13_method_1_code
def yX10_thrown : MethodName := ⟨RX10, "thrown", "()I"⟩
theorem dX10_thrown_0 : decode cX10_thrown 0 = .ok (.aload_n 0, 1) := by decide +kernel
theorem dX10_thrown_1 : decode cX10_thrown 1 = .ok (.getfield 1, 3) := by decide +kernel
theorem dX10_thrown_4 : decode cX10_thrown 4 = .ok (.ireturn, 1) := by decide +kernel
abbrev cX10_init : ByteArray := prog_13_method_2_code
def yX10_init : MethodName := ⟨RX10, "<init>", "()V"⟩
theorem dX10_init_0 : decode cX10_init 0 = .ok (.aload_n 0, 1) := by decide +kernel
theorem dX10_init_1 : decode cX10_init 1 = .ok (.invokespecial 7, 3) := by decide +kernel
theorem dX10_init_4 : decode cX10_init 4 = .ok (.aload_n 0, 1) := by decide +kernel
theorem dX10_init_5 : decode cX10_init 5 = .ok (.bipush 8, 2) := by decide +kernel
theorem dX10_init_7 : decode cX10_init 7 = .ok (.newarray .int, 2) := by decide +kernel
theorem dX10_init_9 : decode cX10_init 9 = .ok (.putfield 13, 3) := by decide +kernel
theorem dX10_init_12 : decode cX10_init 12 = .ok (.aload_n 0, 1) := by decide +kernel
theorem dX10_init_13 : decode cX10_init 13 = .ok (.iconst 1, 1) := by decide +kernel
theorem dX10_init_14 : decode cX10_init 14 = .ok (.putfield 17, 3) := by decide +kernel
theorem dX10_init_17 : decode cX10_init 17 = .ok (.aload_n 0, 1) := by decide +kernel
theorem dX10_init_18 : decode cX10_init 18 = .ok (.bipush 100, 2) := by decide +kernel
theorem dX10_init_20 : decode cX10_init 20 = .ok (.putfield 20, 3) := by decide +kernel
theorem dX10_init_23 : decode cX10_init 23 = .ok (.aload_n 0, 1) := by decide +kernel
theorem dX10_init_24 : decode cX10_init 24 = .ok (.bipush 65, 2) := by decide +kernel
theorem dX10_init_26 : decode cX10_init 26 = .ok (.newarray .int, 2) := by decide +kernel
theorem dX10_init_28 : decode cX10_init 28 = .ok (.putfield 23, 3) := by decide +kernel
theorem dX10_init_31 : decode cX10_init 31 = .ok (.aload_n 0, 1) := by decide +kernel
theorem dX10_init_32 : decode cX10_init 32 = .ok (.sipush 20000, 3) := by decide +kernel
theorem dX10_init_35 : decode cX10_init 35 = .ok (.newarray .byte, 2) := by decide +kernel
theorem dX10_init_37 : decode cX10_init 37 = .ok (.putfield 26, 3) := by decide +kernel
theorem dX10_init_40 : decode cX10_init 40 = .ok (.aload_n 0, 1) := by decide +kernel
theorem dX10_init_41 : decode cX10_init 41 = .ok (.iconst 1, 1) := by decide +kernel
theorem dX10_init_42 : decode cX10_init 42 = .ok (.putfield 30, 3) := by decide +kernel
theorem dX10_init_45 : decode cX10_init 45 = .ok (.aload_n 0, 1) := by decide +kernel
theorem dX10_init_46 : decode cX10_init 46 = .ok (.bipush 10, 2) := by decide +kernel
theorem dX10_init_48 : decode cX10_init 48 = .ok (.putfield 33, 3) := by decide +kernel
theorem dX10_init_51 : decode cX10_init 51 = .ok (.aload_n 0, 1) := by decide +kernel
theorem dX10_init_52 : decode cX10_init 52 = .ok (.bipush 11, 2) := by decide +kernel
theorem dX10_init_54 : decode cX10_init 54 = .ok (.putfield 36, 3) := by decide +kernel
theorem dX10_init_57 : decode cX10_init 57 = .ok (.aload_n 0, 1) := by decide +kernel
theorem dX10_init_58 : decode cX10_init 58 = .ok (.bipush 10, 2) := by decide +kernel
theorem dX10_init_60 : decode cX10_init 60 = .ok (.putfield 39, 3) := by decide +kernel
theorem dX10_init_63 : decode cX10_init 63 = .ok (.aload_n 0, 1) := by decide +kernel
theorem dX10_init_64 : decode cX10_init 64 = .ok (.bipush 20, 2) := by decide +kernel
theorem dX10_init_66 : decode cX10_init 66 = .ok (.newarray .int, 2) := by decide +kernel
theorem dX10_init_68 : decode cX10_init 68 = .ok (.putfield 42, 3) := by decide +kernel
theorem dX10_init_71 : decode cX10_init 71 = .ok (.aload_n 0, 1) := by decide +kernel
theorem dX10_init_72 : decode cX10_init 72 = .ok (.sipush 4000, 3) := by decide +kernel
theorem dX10_init_75 : decode cX10_init 75 = .ok (.newarray .byte, 2) := by decide +kernel
theorem dX10_init_77 : decode cX10_init 77 = .ok (.putfield 45, 3) := by decide +kernel
theorem dX10_init_80 : decode cX10_init 80 = .ok (.aload_n 0, 1) := by decide +kernel
theorem dX10_init_81 : decode cX10_init 81 = .ok (.bipush 8, 2) := by decide +kernel
theorem dX10_init_83 : decode cX10_init 83 = .ok (.newarray .boolean, 2) := by decide +kernel
theorem dX10_init_85 : decode cX10_init 85 = .ok (.putfield 48, 3) := by decide +kernel
theorem dX10_init_88 : decode cX10_init 88 = .ok (.aload_n 0, 1) := by decide +kernel
theorem dX10_init_89 : decode cX10_init 89 = .ok (.bipush 16, 2) := by decide +kernel
theorem dX10_init_91 : decode cX10_init 91 = .ok (.newarray .int, 2) := by decide +kernel
theorem dX10_init_93 : decode cX10_init 93 = .ok (.putfield 52, 3) := by decide +kernel
theorem dX10_init_96 : decode cX10_init 96 = .ok (.aload_n 0, 1) := by decide +kernel
theorem dX10_init_97 : decode cX10_init 97 = .ok (.bipush 16, 2) := by decide +kernel
theorem dX10_init_99 : decode cX10_init 99 = .ok (.newarray .int, 2) := by decide +kernel
theorem dX10_init_101 : decode cX10_init 101 = .ok (.putfield 55, 3) := by decide +kernel
theorem dX10_init_104 : decode cX10_init 104 = .ok (.aload_n 0, 1) := by decide +kernel
theorem dX10_init_105 : decode cX10_init 105 = .ok (.bipush 16, 2) := by decide +kernel
theorem dX10_init_107 : decode cX10_init 107 = .ok (.newarray .int, 2) := by decide +kernel
theorem dX10_init_109 : decode cX10_init 109 = .ok (.putfield 58, 3) := by decide +kernel
theorem dX10_init_112 : decode cX10_init 112 = .ok (.aload_n 0, 1) := by decide +kernel
theorem dX10_init_113 : decode cX10_init 113 = .ok (.bipush 8, 2) := by decide +kernel
theorem dX10_init_115 : decode cX10_init 115 = .ok (.newarray .int, 2) := by decide +kernel
theorem dX10_init_117 : decode cX10_init 117 = .ok (.putfield 61, 3) := by decide +kernel
theorem dX10_init_120 : decode cX10_init 120 = .ok (.aload_n 0, 1) := by decide +kernel
theorem dX10_init_121 : decode cX10_init 121 = .ok (.sipush 20000, 3) := by decide +kernel
theorem dX10_init_124 : decode cX10_init 124 = .ok (.newarray .byte, 2) := by decide +kernel
theorem dX10_init_126 : decode cX10_init 126 = .ok (.putfield 64, 3) := by decide +kernel
theorem dX10_init_129 : decode cX10_init 129 = .ok (.aload_n 0, 1) := by decide +kernel
theorem dX10_init_130 : decode cX10_init 130 = .ok (.sipush 20000, 3) := by decide +kernel
theorem dX10_init_133 : decode cX10_init 133 = .ok (.newarray .int, 2) := by decide +kernel
theorem dX10_init_135 : decode cX10_init 135 = .ok (.putfield 67, 3) := by decide +kernel
theorem dX10_init_138 : decode cX10_init 138 = .ok (.aload_n 0, 1) := by decide +kernel
theorem dX10_init_139 : decode cX10_init 139 = .ok (.iconst (-1), 1) := by decide +kernel
theorem dX10_init_140 : decode cX10_init 140 = .ok (.putfield 70, 3) := by decide +kernel
theorem dX10_init_143 : decode cX10_init 143 = .ok (.aload_n 0, 1) := by decide +kernel
theorem dX10_init_144 : decode cX10_init 144 = .ok (.bipush 8, 2) := by decide +kernel
theorem dX10_init_146 : decode cX10_init 146 = .ok (.newarray .int, 2) := by decide +kernel
theorem dX10_init_148 : decode cX10_init 148 = .ok (.putfield 73, 3) := by decide +kernel
theorem dX10_init_151 : decode cX10_init 151 = .ok (.aload_n 0, 1) := by decide +kernel
theorem dX10_init_152 : decode cX10_init 152 = .ok (.sipush 10800, 3) := by decide +kernel
theorem dX10_init_155 : decode cX10_init 155 = .ok (.newarray .int, 2) := by decide +kernel
theorem dX10_init_157 : decode cX10_init 157 = .ok (.putfield 76, 3) := by decide +kernel
theorem dX10_init_160 : decode cX10_init 160 = .ok (.aload_n 0, 1) := by decide +kernel
theorem dX10_init_161 : decode cX10_init 161 = .ok (.bipush 9, 2) := by decide +kernel
theorem dX10_init_163 : decode cX10_init 163 = .ok (.newarray .int, 2) := by decide +kernel
theorem dX10_init_165 : decode cX10_init 165 = .ok (.putfield 79, 3) := by decide +kernel
theorem dX10_init_168 : decode cX10_init 168 = .ok (.aload_n 0, 1) := by decide +kernel
theorem dX10_init_169 : decode cX10_init 169 = .ok (.ldc 82, 2) := by decide +kernel
theorem dX10_init_171 : decode cX10_init 171 = .ok (.newarray .int, 2) := by decide +kernel
theorem dX10_init_173 : decode cX10_init 173 = .ok (.putfield 83, 3) := by decide +kernel
theorem dX10_init_176 : decode cX10_init 176 = .ok (.aload_n 0, 1) := by decide +kernel
theorem dX10_init_177 : decode cX10_init 177 = .ok (.ldc 82, 2) := by decide +kernel
theorem dX10_init_179 : decode cX10_init 179 = .ok (.newarray .int, 2) := by decide +kernel
theorem dX10_init_181 : decode cX10_init 181 = .ok (.putfield 86, 3) := by decide +kernel
theorem dX10_init_184 : decode cX10_init 184 = .ok (.aload_n 0, 1) := by decide +kernel
theorem dX10_init_185 : decode cX10_init 185 = .ok (.bipush 64, 2) := by decide +kernel
theorem dX10_init_187 : decode cX10_init 187 = .ok (.newarray .int, 2) := by decide +kernel
theorem dX10_init_189 : decode cX10_init 189 = .ok (.dup, 1) := by decide +kernel
theorem dX10_init_190 : decode cX10_init 190 = .ok (.iconst 0, 1) := by decide +kernel
theorem dX10_init_191 : decode cX10_init 191 = .ok (.ldc 89, 2) := by decide +kernel
theorem dX10_init_193 : decode cX10_init 193 = .ok (.iastore, 1) := by decide +kernel
theorem dX10_init_194 : decode cX10_init 194 = .ok (.dup, 1) := by decide +kernel
theorem dX10_init_195 : decode cX10_init 195 = .ok (.iconst 1, 1) := by decide +kernel
theorem dX10_init_196 : decode cX10_init 196 = .ok (.ldc 90, 2) := by decide +kernel
theorem dX10_init_198 : decode cX10_init 198 = .ok (.iastore, 1) := by decide +kernel
theorem dX10_init_199 : decode cX10_init 199 = .ok (.dup, 1) := by decide +kernel
theorem dX10_init_200 : decode cX10_init 200 = .ok (.iconst 2, 1) := by decide +kernel
theorem dX10_init_201 : decode cX10_init 201 = .ok (.ldc 91, 2) := by decide +kernel
theorem dX10_init_203 : decode cX10_init 203 = .ok (.iastore, 1) := by decide +kernel
theorem dX10_init_204 : decode cX10_init 204 = .ok (.dup, 1) := by decide +kernel
theorem dX10_init_205 : decode cX10_init 205 = .ok (.iconst 3, 1) := by decide +kernel
theorem dX10_init_206 : decode cX10_init 206 = .ok (.ldc 92, 2) := by decide +kernel
theorem dX10_init_208 : decode cX10_init 208 = .ok (.iastore, 1) := by decide +kernel
theorem dX10_init_209 : decode cX10_init 209 = .ok (.dup, 1) := by decide +kernel
theorem dX10_init_210 : decode cX10_init 210 = .ok (.iconst 4, 1) := by decide +kernel
theorem dX10_init_211 : decode cX10_init 211 = .ok (.ldc 93, 2) := by decide +kernel
theorem dX10_init_213 : decode cX10_init 213 = .ok (.iastore, 1) := by decide +kernel
theorem dX10_init_214 : decode cX10_init 214 = .ok (.dup, 1) := by decide +kernel
theorem dX10_init_215 : decode cX10_init 215 = .ok (.iconst 5, 1) := by decide +kernel
theorem dX10_init_216 : decode cX10_init 216 = .ok (.ldc 94, 2) := by decide +kernel
theorem dX10_init_218 : decode cX10_init 218 = .ok (.iastore, 1) := by decide +kernel
theorem dX10_init_219 : decode cX10_init 219 = .ok (.dup, 1) := by decide +kernel
theorem dX10_init_220 : decode cX10_init 220 = .ok (.bipush 6, 2) := by decide +kernel
theorem dX10_init_222 : decode cX10_init 222 = .ok (.ldc 95, 2) := by decide +kernel
theorem dX10_init_224 : decode cX10_init 224 = .ok (.iastore, 1) := by decide +kernel
theorem dX10_init_225 : decode cX10_init 225 = .ok (.dup, 1) := by decide +kernel
theorem dX10_init_226 : decode cX10_init 226 = .ok (.bipush 7, 2) := by decide +kernel
theorem dX10_init_228 : decode cX10_init 228 = .ok (.ldc 96, 2) := by decide +kernel
theorem dX10_init_230 : decode cX10_init 230 = .ok (.iastore, 1) := by decide +kernel
theorem dX10_init_231 : decode cX10_init 231 = .ok (.dup, 1) := by decide +kernel
theorem dX10_init_232 : decode cX10_init 232 = .ok (.bipush 8, 2) := by decide +kernel
theorem dX10_init_234 : decode cX10_init 234 = .ok (.ldc 97, 2) := by decide +kernel
theorem dX10_init_236 : decode cX10_init 236 = .ok (.iastore, 1) := by decide +kernel
theorem dX10_init_237 : decode cX10_init 237 = .ok (.dup, 1) := by decide +kernel
theorem dX10_init_238 : decode cX10_init 238 = .ok (.bipush 9, 2) := by decide +kernel
theorem dX10_init_240 : decode cX10_init 240 = .ok (.ldc 98, 2) := by decide +kernel
theorem dX10_init_242 : decode cX10_init 242 = .ok (.iastore, 1) := by decide +kernel
theorem dX10_init_243 : decode cX10_init 243 = .ok (.dup, 1) := by decide +kernel
theorem dX10_init_244 : decode cX10_init 244 = .ok (.bipush 10, 2) := by decide +kernel
theorem dX10_init_246 : decode cX10_init 246 = .ok (.ldc 99, 2) := by decide +kernel
theorem dX10_init_248 : decode cX10_init 248 = .ok (.iastore, 1) := by decide +kernel
theorem dX10_init_249 : decode cX10_init 249 = .ok (.dup, 1) := by decide +kernel
theorem dX10_init_250 : decode cX10_init 250 = .ok (.bipush 11, 2) := by decide +kernel
theorem dX10_init_252 : decode cX10_init 252 = .ok (.ldc 100, 2) := by decide +kernel
theorem dX10_init_254 : decode cX10_init 254 = .ok (.iastore, 1) := by decide +kernel
theorem dX10_init_255 : decode cX10_init 255 = .ok (.dup, 1) := by decide +kernel
theorem dX10_init_256 : decode cX10_init 256 = .ok (.bipush 12, 2) := by decide +kernel
theorem dX10_init_258 : decode cX10_init 258 = .ok (.ldc 101, 2) := by decide +kernel
theorem dX10_init_260 : decode cX10_init 260 = .ok (.iastore, 1) := by decide +kernel
theorem dX10_init_261 : decode cX10_init 261 = .ok (.dup, 1) := by decide +kernel
theorem dX10_init_262 : decode cX10_init 262 = .ok (.bipush 13, 2) := by decide +kernel
theorem dX10_init_264 : decode cX10_init 264 = .ok (.ldc 102, 2) := by decide +kernel
theorem dX10_init_266 : decode cX10_init 266 = .ok (.iastore, 1) := by decide +kernel
theorem dX10_init_267 : decode cX10_init 267 = .ok (.dup, 1) := by decide +kernel
theorem dX10_init_268 : decode cX10_init 268 = .ok (.bipush 14, 2) := by decide +kernel
theorem dX10_init_270 : decode cX10_init 270 = .ok (.ldc 103, 2) := by decide +kernel
theorem dX10_init_272 : decode cX10_init 272 = .ok (.iastore, 1) := by decide +kernel
theorem dX10_init_273 : decode cX10_init 273 = .ok (.dup, 1) := by decide +kernel
theorem dX10_init_274 : decode cX10_init 274 = .ok (.bipush 15, 2) := by decide +kernel
theorem dX10_init_276 : decode cX10_init 276 = .ok (.ldc 104, 2) := by decide +kernel
theorem dX10_init_278 : decode cX10_init 278 = .ok (.iastore, 1) := by decide +kernel
theorem dX10_init_279 : decode cX10_init 279 = .ok (.dup, 1) := by decide +kernel
theorem dX10_init_280 : decode cX10_init 280 = .ok (.bipush 16, 2) := by decide +kernel
theorem dX10_init_282 : decode cX10_init 282 = .ok (.ldc 105, 2) := by decide +kernel
theorem dX10_init_284 : decode cX10_init 284 = .ok (.iastore, 1) := by decide +kernel
theorem dX10_init_285 : decode cX10_init 285 = .ok (.dup, 1) := by decide +kernel
theorem dX10_init_286 : decode cX10_init 286 = .ok (.bipush 17, 2) := by decide +kernel
theorem dX10_init_288 : decode cX10_init 288 = .ok (.ldc 106, 2) := by decide +kernel
theorem dX10_init_290 : decode cX10_init 290 = .ok (.iastore, 1) := by decide +kernel
theorem dX10_init_291 : decode cX10_init 291 = .ok (.dup, 1) := by decide +kernel
theorem dX10_init_292 : decode cX10_init 292 = .ok (.bipush 18, 2) := by decide +kernel
theorem dX10_init_294 : decode cX10_init 294 = .ok (.ldc 107, 2) := by decide +kernel
theorem dX10_init_296 : decode cX10_init 296 = .ok (.iastore, 1) := by decide +kernel
theorem dX10_init_297 : decode cX10_init 297 = .ok (.dup, 1) := by decide +kernel
theorem dX10_init_298 : decode cX10_init 298 = .ok (.bipush 19, 2) := by decide +kernel
theorem dX10_init_300 : decode cX10_init 300 = .ok (.ldc 108, 2) := by decide +kernel
theorem dX10_init_302 : decode cX10_init 302 = .ok (.iastore, 1) := by decide +kernel
theorem dX10_init_303 : decode cX10_init 303 = .ok (.dup, 1) := by decide +kernel
theorem dX10_init_304 : decode cX10_init 304 = .ok (.bipush 20, 2) := by decide +kernel
theorem dX10_init_306 : decode cX10_init 306 = .ok (.ldc 109, 2) := by decide +kernel
theorem dX10_init_308 : decode cX10_init 308 = .ok (.iastore, 1) := by decide +kernel
theorem dX10_init_309 : decode cX10_init 309 = .ok (.dup, 1) := by decide +kernel
theorem dX10_init_310 : decode cX10_init 310 = .ok (.bipush 21, 2) := by decide +kernel
theorem dX10_init_312 : decode cX10_init 312 = .ok (.ldc 110, 2) := by decide +kernel
theorem dX10_init_314 : decode cX10_init 314 = .ok (.iastore, 1) := by decide +kernel
theorem dX10_init_315 : decode cX10_init 315 = .ok (.dup, 1) := by decide +kernel
theorem dX10_init_316 : decode cX10_init 316 = .ok (.bipush 22, 2) := by decide +kernel
theorem dX10_init_318 : decode cX10_init 318 = .ok (.ldc 111, 2) := by decide +kernel
theorem dX10_init_320 : decode cX10_init 320 = .ok (.iastore, 1) := by decide +kernel
theorem dX10_init_321 : decode cX10_init 321 = .ok (.dup, 1) := by decide +kernel
theorem dX10_init_322 : decode cX10_init 322 = .ok (.bipush 23, 2) := by decide +kernel
theorem dX10_init_324 : decode cX10_init 324 = .ok (.ldc 112, 2) := by decide +kernel
theorem dX10_init_326 : decode cX10_init 326 = .ok (.iastore, 1) := by decide +kernel
theorem dX10_init_327 : decode cX10_init 327 = .ok (.dup, 1) := by decide +kernel
theorem dX10_init_328 : decode cX10_init 328 = .ok (.bipush 24, 2) := by decide +kernel
theorem dX10_init_330 : decode cX10_init 330 = .ok (.ldc 113, 2) := by decide +kernel
theorem dX10_init_332 : decode cX10_init 332 = .ok (.iastore, 1) := by decide +kernel
theorem dX10_init_333 : decode cX10_init 333 = .ok (.dup, 1) := by decide +kernel
theorem dX10_init_334 : decode cX10_init 334 = .ok (.bipush 25, 2) := by decide +kernel
theorem dX10_init_336 : decode cX10_init 336 = .ok (.ldc 114, 2) := by decide +kernel
theorem dX10_init_338 : decode cX10_init 338 = .ok (.iastore, 1) := by decide +kernel
theorem dX10_init_339 : decode cX10_init 339 = .ok (.dup, 1) := by decide +kernel
theorem dX10_init_340 : decode cX10_init 340 = .ok (.bipush 26, 2) := by decide +kernel
theorem dX10_init_342 : decode cX10_init 342 = .ok (.ldc 115, 2) := by decide +kernel
theorem dX10_init_344 : decode cX10_init 344 = .ok (.iastore, 1) := by decide +kernel
theorem dX10_init_345 : decode cX10_init 345 = .ok (.dup, 1) := by decide +kernel
theorem dX10_init_346 : decode cX10_init 346 = .ok (.bipush 27, 2) := by decide +kernel
theorem dX10_init_348 : decode cX10_init 348 = .ok (.ldc 116, 2) := by decide +kernel
theorem dX10_init_350 : decode cX10_init 350 = .ok (.iastore, 1) := by decide +kernel
theorem dX10_init_351 : decode cX10_init 351 = .ok (.dup, 1) := by decide +kernel
theorem dX10_init_352 : decode cX10_init 352 = .ok (.bipush 28, 2) := by decide +kernel
theorem dX10_init_354 : decode cX10_init 354 = .ok (.ldc 117, 2) := by decide +kernel
theorem dX10_init_356 : decode cX10_init 356 = .ok (.iastore, 1) := by decide +kernel
theorem dX10_init_357 : decode cX10_init 357 = .ok (.dup, 1) := by decide +kernel
theorem dX10_init_358 : decode cX10_init 358 = .ok (.bipush 29, 2) := by decide +kernel
theorem dX10_init_360 : decode cX10_init 360 = .ok (.ldc 118, 2) := by decide +kernel
theorem dX10_init_362 : decode cX10_init 362 = .ok (.iastore, 1) := by decide +kernel
theorem dX10_init_363 : decode cX10_init 363 = .ok (.dup, 1) := by decide +kernel
theorem dX10_init_364 : decode cX10_init 364 = .ok (.bipush 30, 2) := by decide +kernel
theorem dX10_init_366 : decode cX10_init 366 = .ok (.ldc 119, 2) := by decide +kernel
theorem dX10_init_368 : decode cX10_init 368 = .ok (.iastore, 1) := by decide +kernel
theorem dX10_init_369 : decode cX10_init 369 = .ok (.dup, 1) := by decide +kernel
theorem dX10_init_370 : decode cX10_init 370 = .ok (.bipush 31, 2) := by decide +kernel
theorem dX10_init_372 : decode cX10_init 372 = .ok (.ldc 120, 2) := by decide +kernel
theorem dX10_init_374 : decode cX10_init 374 = .ok (.iastore, 1) := by decide +kernel
theorem dX10_init_375 : decode cX10_init 375 = .ok (.dup, 1) := by decide +kernel
theorem dX10_init_376 : decode cX10_init 376 = .ok (.bipush 32, 2) := by decide +kernel
theorem dX10_init_378 : decode cX10_init 378 = .ok (.ldc 121, 2) := by decide +kernel
theorem dX10_init_380 : decode cX10_init 380 = .ok (.iastore, 1) := by decide +kernel
theorem dX10_init_381 : decode cX10_init 381 = .ok (.dup, 1) := by decide +kernel
theorem dX10_init_382 : decode cX10_init 382 = .ok (.bipush 33, 2) := by decide +kernel
theorem dX10_init_384 : decode cX10_init 384 = .ok (.ldc 122, 2) := by decide +kernel
theorem dX10_init_386 : decode cX10_init 386 = .ok (.iastore, 1) := by decide +kernel
theorem dX10_init_387 : decode cX10_init 387 = .ok (.dup, 1) := by decide +kernel
theorem dX10_init_388 : decode cX10_init 388 = .ok (.bipush 34, 2) := by decide +kernel
theorem dX10_init_390 : decode cX10_init 390 = .ok (.ldc 123, 2) := by decide +kernel
theorem dX10_init_392 : decode cX10_init 392 = .ok (.iastore, 1) := by decide +kernel
theorem dX10_init_393 : decode cX10_init 393 = .ok (.dup, 1) := by decide +kernel
theorem dX10_init_394 : decode cX10_init 394 = .ok (.bipush 35, 2) := by decide +kernel
theorem dX10_init_396 : decode cX10_init 396 = .ok (.ldc 124, 2) := by decide +kernel
theorem dX10_init_398 : decode cX10_init 398 = .ok (.iastore, 1) := by decide +kernel
theorem dX10_init_399 : decode cX10_init 399 = .ok (.dup, 1) := by decide +kernel
theorem dX10_init_400 : decode cX10_init 400 = .ok (.bipush 36, 2) := by decide +kernel
theorem dX10_init_402 : decode cX10_init 402 = .ok (.ldc 125, 2) := by decide +kernel
theorem dX10_init_404 : decode cX10_init 404 = .ok (.iastore, 1) := by decide +kernel
theorem dX10_init_405 : decode cX10_init 405 = .ok (.dup, 1) := by decide +kernel
theorem dX10_init_406 : decode cX10_init 406 = .ok (.bipush 37, 2) := by decide +kernel
theorem dX10_init_408 : decode cX10_init 408 = .ok (.ldc 126, 2) := by decide +kernel
theorem dX10_init_410 : decode cX10_init 410 = .ok (.iastore, 1) := by decide +kernel
theorem dX10_init_411 : decode cX10_init 411 = .ok (.dup, 1) := by decide +kernel
theorem dX10_init_412 : decode cX10_init 412 = .ok (.bipush 38, 2) := by decide +kernel
theorem dX10_init_414 : decode cX10_init 414 = .ok (.ldc 127, 2) := by decide +kernel
theorem dX10_init_416 : decode cX10_init 416 = .ok (.iastore, 1) := by decide +kernel
theorem dX10_init_417 : decode cX10_init 417 = .ok (.dup, 1) := by decide +kernel
theorem dX10_init_418 : decode cX10_init 418 = .ok (.bipush 39, 2) := by decide +kernel
theorem dX10_init_420 : decode cX10_init 420 = .ok (.ldc 128, 2) := by decide +kernel
theorem dX10_init_422 : decode cX10_init 422 = .ok (.iastore, 1) := by decide +kernel
theorem dX10_init_423 : decode cX10_init 423 = .ok (.dup, 1) := by decide +kernel
theorem dX10_init_424 : decode cX10_init 424 = .ok (.bipush 40, 2) := by decide +kernel
theorem dX10_init_426 : decode cX10_init 426 = .ok (.ldc 129, 2) := by decide +kernel
theorem dX10_init_428 : decode cX10_init 428 = .ok (.iastore, 1) := by decide +kernel
theorem dX10_init_429 : decode cX10_init 429 = .ok (.dup, 1) := by decide +kernel
theorem dX10_init_430 : decode cX10_init 430 = .ok (.bipush 41, 2) := by decide +kernel
theorem dX10_init_432 : decode cX10_init 432 = .ok (.ldc 130, 2) := by decide +kernel
theorem dX10_init_434 : decode cX10_init 434 = .ok (.iastore, 1) := by decide +kernel
theorem dX10_init_435 : decode cX10_init 435 = .ok (.dup, 1) := by decide +kernel
theorem dX10_init_436 : decode cX10_init 436 = .ok (.bipush 42, 2) := by decide +kernel
theorem dX10_init_438 : decode cX10_init 438 = .ok (.ldc 131, 2) := by decide +kernel
theorem dX10_init_440 : decode cX10_init 440 = .ok (.iastore, 1) := by decide +kernel
theorem dX10_init_441 : decode cX10_init 441 = .ok (.dup, 1) := by decide +kernel
theorem dX10_init_442 : decode cX10_init 442 = .ok (.bipush 43, 2) := by decide +kernel
theorem dX10_init_444 : decode cX10_init 444 = .ok (.ldc 132, 2) := by decide +kernel
theorem dX10_init_446 : decode cX10_init 446 = .ok (.iastore, 1) := by decide +kernel
theorem dX10_init_447 : decode cX10_init 447 = .ok (.dup, 1) := by decide +kernel
theorem dX10_init_448 : decode cX10_init 448 = .ok (.bipush 44, 2) := by decide +kernel
theorem dX10_init_450 : decode cX10_init 450 = .ok (.ldc 133, 2) := by decide +kernel
theorem dX10_init_452 : decode cX10_init 452 = .ok (.iastore, 1) := by decide +kernel
theorem dX10_init_453 : decode cX10_init 453 = .ok (.dup, 1) := by decide +kernel
theorem dX10_init_454 : decode cX10_init 454 = .ok (.bipush 45, 2) := by decide +kernel
theorem dX10_init_456 : decode cX10_init 456 = .ok (.ldc 134, 2) := by decide +kernel
theorem dX10_init_458 : decode cX10_init 458 = .ok (.iastore, 1) := by decide +kernel
theorem dX10_init_459 : decode cX10_init 459 = .ok (.dup, 1) := by decide +kernel
theorem dX10_init_460 : decode cX10_init 460 = .ok (.bipush 46, 2) := by decide +kernel
theorem dX10_init_462 : decode cX10_init 462 = .ok (.ldc 135, 2) := by decide +kernel
theorem dX10_init_464 : decode cX10_init 464 = .ok (.iastore, 1) := by decide +kernel
theorem dX10_init_465 : decode cX10_init 465 = .ok (.dup, 1) := by decide +kernel
theorem dX10_init_466 : decode cX10_init 466 = .ok (.bipush 47, 2) := by decide +kernel
theorem dX10_init_468 : decode cX10_init 468 = .ok (.ldc 136, 2) := by decide +kernel
theorem dX10_init_470 : decode cX10_init 470 = .ok (.iastore, 1) := by decide +kernel
theorem dX10_init_471 : decode cX10_init 471 = .ok (.dup, 1) := by decide +kernel
theorem dX10_init_472 : decode cX10_init 472 = .ok (.bipush 48, 2) := by decide +kernel
theorem dX10_init_474 : decode cX10_init 474 = .ok (.ldc 137, 2) := by decide +kernel
theorem dX10_init_476 : decode cX10_init 476 = .ok (.iastore, 1) := by decide +kernel
theorem dX10_init_477 : decode cX10_init 477 = .ok (.dup, 1) := by decide +kernel
theorem dX10_init_478 : decode cX10_init 478 = .ok (.bipush 49, 2) := by decide +kernel
theorem dX10_init_480 : decode cX10_init 480 = .ok (.ldc 138, 2) := by decide +kernel
theorem dX10_init_482 : decode cX10_init 482 = .ok (.iastore, 1) := by decide +kernel
theorem dX10_init_483 : decode cX10_init 483 = .ok (.dup, 1) := by decide +kernel
theorem dX10_init_484 : decode cX10_init 484 = .ok (.bipush 50, 2) := by decide +kernel
theorem dX10_init_486 : decode cX10_init 486 = .ok (.ldc 139, 2) := by decide +kernel
theorem dX10_init_488 : decode cX10_init 488 = .ok (.iastore, 1) := by decide +kernel
theorem dX10_init_489 : decode cX10_init 489 = .ok (.dup, 1) := by decide +kernel
theorem dX10_init_490 : decode cX10_init 490 = .ok (.bipush 51, 2) := by decide +kernel
theorem dX10_init_492 : decode cX10_init 492 = .ok (.ldc 140, 2) := by decide +kernel
theorem dX10_init_494 : decode cX10_init 494 = .ok (.iastore, 1) := by decide +kernel
theorem dX10_init_495 : decode cX10_init 495 = .ok (.dup, 1) := by decide +kernel
theorem dX10_init_496 : decode cX10_init 496 = .ok (.bipush 52, 2) := by decide +kernel
theorem dX10_init_498 : decode cX10_init 498 = .ok (.ldc 141, 2) := by decide +kernel
theorem dX10_init_500 : decode cX10_init 500 = .ok (.iastore, 1) := by decide +kernel
theorem dX10_init_501 : decode cX10_init 501 = .ok (.dup, 1) := by decide +kernel
theorem dX10_init_502 : decode cX10_init 502 = .ok (.bipush 53, 2) := by decide +kernel
theorem dX10_init_504 : decode cX10_init 504 = .ok (.ldc 142, 2) := by decide +kernel
theorem dX10_init_506 : decode cX10_init 506 = .ok (.iastore, 1) := by decide +kernel
theorem dX10_init_507 : decode cX10_init 507 = .ok (.dup, 1) := by decide +kernel
theorem dX10_init_508 : decode cX10_init 508 = .ok (.bipush 54, 2) := by decide +kernel
theorem dX10_init_510 : decode cX10_init 510 = .ok (.ldc 143, 2) := by decide +kernel
theorem dX10_init_512 : decode cX10_init 512 = .ok (.iastore, 1) := by decide +kernel
theorem dX10_init_513 : decode cX10_init 513 = .ok (.dup, 1) := by decide +kernel
theorem dX10_init_514 : decode cX10_init 514 = .ok (.bipush 55, 2) := by decide +kernel
theorem dX10_init_516 : decode cX10_init 516 = .ok (.ldc 144, 2) := by decide +kernel
theorem dX10_init_518 : decode cX10_init 518 = .ok (.iastore, 1) := by decide +kernel
theorem dX10_init_519 : decode cX10_init 519 = .ok (.dup, 1) := by decide +kernel
theorem dX10_init_520 : decode cX10_init 520 = .ok (.bipush 56, 2) := by decide +kernel
theorem dX10_init_522 : decode cX10_init 522 = .ok (.ldc 145, 2) := by decide +kernel
theorem dX10_init_524 : decode cX10_init 524 = .ok (.iastore, 1) := by decide +kernel
theorem dX10_init_525 : decode cX10_init 525 = .ok (.dup, 1) := by decide +kernel
theorem dX10_init_526 : decode cX10_init 526 = .ok (.bipush 57, 2) := by decide +kernel
theorem dX10_init_528 : decode cX10_init 528 = .ok (.ldc 146, 2) := by decide +kernel
theorem dX10_init_530 : decode cX10_init 530 = .ok (.iastore, 1) := by decide +kernel
theorem dX10_init_531 : decode cX10_init 531 = .ok (.dup, 1) := by decide +kernel
theorem dX10_init_532 : decode cX10_init 532 = .ok (.bipush 58, 2) := by decide +kernel
theorem dX10_init_534 : decode cX10_init 534 = .ok (.ldc 147, 2) := by decide +kernel
theorem dX10_init_536 : decode cX10_init 536 = .ok (.iastore, 1) := by decide +kernel
theorem dX10_init_537 : decode cX10_init 537 = .ok (.dup, 1) := by decide +kernel
theorem dX10_init_538 : decode cX10_init 538 = .ok (.bipush 59, 2) := by decide +kernel
theorem dX10_init_540 : decode cX10_init 540 = .ok (.ldc 148, 2) := by decide +kernel
theorem dX10_init_542 : decode cX10_init 542 = .ok (.iastore, 1) := by decide +kernel
theorem dX10_init_543 : decode cX10_init 543 = .ok (.dup, 1) := by decide +kernel
theorem dX10_init_544 : decode cX10_init 544 = .ok (.bipush 60, 2) := by decide +kernel
theorem dX10_init_546 : decode cX10_init 546 = .ok (.ldc 149, 2) := by decide +kernel
theorem dX10_init_548 : decode cX10_init 548 = .ok (.iastore, 1) := by decide +kernel
theorem dX10_init_549 : decode cX10_init 549 = .ok (.dup, 1) := by decide +kernel
theorem dX10_init_550 : decode cX10_init 550 = .ok (.bipush 61, 2) := by decide +kernel
theorem dX10_init_552 : decode cX10_init 552 = .ok (.ldc 150, 2) := by decide +kernel
theorem dX10_init_554 : decode cX10_init 554 = .ok (.iastore, 1) := by decide +kernel
theorem dX10_init_555 : decode cX10_init 555 = .ok (.dup, 1) := by decide +kernel
theorem dX10_init_556 : decode cX10_init 556 = .ok (.bipush 62, 2) := by decide +kernel
theorem dX10_init_558 : decode cX10_init 558 = .ok (.ldc 151, 2) := by decide +kernel
theorem dX10_init_560 : decode cX10_init 560 = .ok (.iastore, 1) := by decide +kernel
theorem dX10_init_561 : decode cX10_init 561 = .ok (.dup, 1) := by decide +kernel
theorem dX10_init_562 : decode cX10_init 562 = .ok (.bipush 63, 2) := by decide +kernel
theorem dX10_init_564 : decode cX10_init 564 = .ok (.ldc 152, 2) := by decide +kernel
theorem dX10_init_566 : decode cX10_init 566 = .ok (.iastore, 1) := by decide +kernel
theorem dX10_init_567 : decode cX10_init 567 = .ok (.putfield 153, 3) := by decide +kernel
theorem dX10_init_570 : decode cX10_init 570 = .ok (.aload_n 0, 1) := by decide +kernel
theorem dX10_init_571 : decode cX10_init 571 = .ok (.bipush 8, 2) := by decide +kernel
theorem dX10_init_573 : decode cX10_init 573 = .ok (.newarray .int, 2) := by decide +kernel
theorem dX10_init_575 : decode cX10_init 575 = .ok (.dup, 1) := by decide +kernel
theorem dX10_init_576 : decode cX10_init 576 = .ok (.iconst 0, 1) := by decide +kernel
theorem dX10_init_577 : decode cX10_init 577 = .ok (.ldc 156, 2) := by decide +kernel
theorem dX10_init_579 : decode cX10_init 579 = .ok (.iastore, 1) := by decide +kernel
theorem dX10_init_580 : decode cX10_init 580 = .ok (.dup, 1) := by decide +kernel
theorem dX10_init_581 : decode cX10_init 581 = .ok (.iconst 1, 1) := by decide +kernel
theorem dX10_init_582 : decode cX10_init 582 = .ok (.ldc 157, 2) := by decide +kernel
theorem dX10_init_584 : decode cX10_init 584 = .ok (.iastore, 1) := by decide +kernel
theorem dX10_init_585 : decode cX10_init 585 = .ok (.dup, 1) := by decide +kernel
theorem dX10_init_586 : decode cX10_init 586 = .ok (.iconst 2, 1) := by decide +kernel
theorem dX10_init_587 : decode cX10_init 587 = .ok (.ldc 158, 2) := by decide +kernel
theorem dX10_init_589 : decode cX10_init 589 = .ok (.iastore, 1) := by decide +kernel
theorem dX10_init_590 : decode cX10_init 590 = .ok (.dup, 1) := by decide +kernel
theorem dX10_init_591 : decode cX10_init 591 = .ok (.iconst 3, 1) := by decide +kernel
theorem dX10_init_592 : decode cX10_init 592 = .ok (.ldc 159, 2) := by decide +kernel
theorem dX10_init_594 : decode cX10_init 594 = .ok (.iastore, 1) := by decide +kernel
theorem dX10_init_595 : decode cX10_init 595 = .ok (.dup, 1) := by decide +kernel
theorem dX10_init_596 : decode cX10_init 596 = .ok (.iconst 4, 1) := by decide +kernel
theorem dX10_init_597 : decode cX10_init 597 = .ok (.ldc 160, 2) := by decide +kernel
theorem dX10_init_599 : decode cX10_init 599 = .ok (.iastore, 1) := by decide +kernel
theorem dX10_init_600 : decode cX10_init 600 = .ok (.dup, 1) := by decide +kernel
theorem dX10_init_601 : decode cX10_init 601 = .ok (.iconst 5, 1) := by decide +kernel
theorem dX10_init_602 : decode cX10_init 602 = .ok (.ldc 161, 2) := by decide +kernel
theorem dX10_init_604 : decode cX10_init 604 = .ok (.iastore, 1) := by decide +kernel
theorem dX10_init_605 : decode cX10_init 605 = .ok (.dup, 1) := by decide +kernel
theorem dX10_init_606 : decode cX10_init 606 = .ok (.bipush 6, 2) := by decide +kernel
theorem dX10_init_608 : decode cX10_init 608 = .ok (.ldc 162, 2) := by decide +kernel
theorem dX10_init_610 : decode cX10_init 610 = .ok (.iastore, 1) := by decide +kernel
theorem dX10_init_611 : decode cX10_init 611 = .ok (.dup, 1) := by decide +kernel
theorem dX10_init_612 : decode cX10_init 612 = .ok (.bipush 7, 2) := by decide +kernel
theorem dX10_init_614 : decode cX10_init 614 = .ok (.ldc 163, 2) := by decide +kernel
theorem dX10_init_616 : decode cX10_init 616 = .ok (.iastore, 1) := by decide +kernel
theorem dX10_init_617 : decode cX10_init 617 = .ok (.putfield 164, 3) := by decide +kernel
theorem dX10_init_620 : decode cX10_init 620 = .ok (.aload_n 0, 1) := by decide +kernel
theorem dX10_init_621 : decode cX10_init 621 = .ok (.bipush 64, 2) := by decide +kernel
theorem dX10_init_623 : decode cX10_init 623 = .ok (.newarray .int, 2) := by decide +kernel
theorem dX10_init_625 : decode cX10_init 625 = .ok (.putfield 167, 3) := by decide +kernel
theorem dX10_init_628 : decode cX10_init 628 = .ok (.aload_n 0, 1) := by decide +kernel
theorem dX10_init_629 : decode cX10_init 629 = .ok (.bipush 8, 2) := by decide +kernel
theorem dX10_init_631 : decode cX10_init 631 = .ok (.newarray .int, 2) := by decide +kernel
theorem dX10_init_633 : decode cX10_init 633 = .ok (.putfield 170, 3) := by decide +kernel
theorem dX10_init_636 : decode cX10_init 636 = .ok (.aload_n 0, 1) := by decide +kernel
theorem dX10_init_637 : decode cX10_init 637 = .ok (.bipush 64, 2) := by decide +kernel
theorem dX10_init_639 : decode cX10_init 639 = .ok (.newarray .int, 2) := by decide +kernel
theorem dX10_init_641 : decode cX10_init 641 = .ok (.putfield 173, 3) := by decide +kernel
theorem dX10_init_644 : decode cX10_init 644 = .ok (.aload_n 0, 1) := by decide +kernel
theorem dX10_init_645 : decode cX10_init 645 = .ok (.bipush 32, 2) := by decide +kernel
theorem dX10_init_647 : decode cX10_init 647 = .ok (.newarray .int, 2) := by decide +kernel
theorem dX10_init_649 : decode cX10_init 649 = .ok (.putfield 176, 3) := by decide +kernel
theorem dX10_init_652 : decode cX10_init 652 = .ok (.aload_n 0, 1) := by decide +kernel
theorem dX10_init_653 : decode cX10_init 653 = .ok (.sipush 961, 3) := by decide +kernel
theorem dX10_init_656 : decode cX10_init 656 = .ok (.newarray .boolean, 2) := by decide +kernel
theorem dX10_init_658 : decode cX10_init 658 = .ok (.putfield 179, 3) := by decide +kernel
theorem dX10_init_661 : decode cX10_init 661 = .ok (.aload_n 0, 1) := by decide +kernel
theorem dX10_init_662 : decode cX10_init 662 = .ok (.iconst 0, 1) := by decide +kernel
theorem dX10_init_663 : decode cX10_init 663 = .ok (.lconst 0, 1) := by decide +kernel
theorem dX10_init_664 : decode cX10_init 664 = .ok (.invokevirtual 182, 3) := by decide +kernel
theorem dX10_init_667 : decode cX10_init 667 = .ok (.aload_n 0, 1) := by decide +kernel
theorem dX10_init_668 : decode cX10_init 668 = .ok (.iconst 1, 1) := by decide +kernel
