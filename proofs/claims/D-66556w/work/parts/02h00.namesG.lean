set_option maxRecDepth 100000
abbrev cL_law : ByteArray := code
theorem dL_law_0 : decode cL_law 0 = .ok (.new 8, 3) := by decide +kernel
theorem dL_law_3 : decode cL_law 3 = .ok (.dup, 1) := by decide +kernel
theorem dL_law_4 : decode cL_law 4 = .ok (.invokespecial 84, 3) := by decide +kernel
theorem dL_law_7 : decode cL_law 7 = .ok (.astore_n 1, 1) := by decide +kernel
theorem dL_law_8 : decode cL_law 8 = .ok (.new 85, 3) := by decide +kernel
theorem dL_law_11 : decode cL_law 11 = .ok (.dup, 1) := by decide +kernel
theorem dL_law_12 : decode cL_law 12 = .ok (.invokespecial 87, 3) := by decide +kernel
theorem dL_law_15 : decode cL_law 15 = .ok (.astore_n 2, 1) := by decide +kernel
theorem dL_law_16 : decode cL_law 16 = .ok (.iconst 1, 1) := by decide +kernel
theorem dL_law_17 : decode cL_law 17 = .ok (.newarray .long, 2) := by decide +kernel
theorem dL_law_19 : decode cL_law 19 = .ok (.astore_n 3, 1) := by decide +kernel
theorem dL_law_20 : decode cL_law 20 = .ok (.iconst 0, 1) := by decide +kernel
theorem dL_law_21 : decode cL_law 21 = .ok (.istore 4, 2) := by decide +kernel
theorem dL_law_23 : decode cL_law 23 = .ok (.iload 4, 2) := by decide +kernel
theorem dL_law_25 : decode cL_law 25 = .ok (.aload_n 0, 1) := by decide +kernel
theorem dL_law_26 : decode cL_law 26 = .ok (.arraylength, 1) := by decide +kernel
theorem dL_law_27 : decode cL_law 27 = .ok (.bipush 6, 2) := by decide +kernel
theorem dL_law_29 : decode cL_law 29 = .ok (.isub, 1) := by decide +kernel
theorem dL_law_30 : decode cL_law 30 = .ok (.if_icmp .gt 1430, 3) := by decide +kernel
theorem dL_law_33 : decode cL_law 33 = .ok (.aload_n 0, 1) := by decide +kernel
theorem dL_law_34 : decode cL_law 34 = .ok (.iload 4, 2) := by decide +kernel
theorem dL_law_36 : decode cL_law 36 = .ok (.iaload, 1) := by decide +kernel
theorem dL_law_37 : decode cL_law 37 = .ok (.bipush 31, 2) := by decide +kernel
theorem dL_law_39 : decode cL_law 39 = .ok (.iand, 1) := by decide +kernel
theorem dL_law_40 : decode cL_law 40 = .ok (.tableswitch 1414 0 20 #[100, 156, 212, 280, 340, 400, 456, 524, 604, 648, 704, 772, 783, 839, 907, 975, 1043, 1111, 1215, 1290, 1346], 100) := by decide +kernel
theorem dL_law_140 : decode cL_law 140 = .ok (.aload_n 1, 1) := by decide +kernel
theorem dL_law_141 : decode cL_law 141 = .ok (.aload_n 0, 1) := by decide +kernel
theorem dL_law_142 : decode cL_law 142 = .ok (.iload 4, 2) := by decide +kernel
theorem dL_law_144 : decode cL_law 144 = .ok (.iconst 1, 1) := by decide +kernel
theorem dL_law_145 : decode cL_law 145 = .ok (.iadd, 1) := by decide +kernel
theorem dL_law_146 : decode cL_law 146 = .ok (.iaload, 1) := by decide +kernel
theorem dL_law_147 : decode cL_law 147 = .ok (.aload_n 3, 1) := by decide +kernel
theorem dL_law_148 : decode cL_law 148 = .ok (.invokestatic 88, 3) := by decide +kernel
theorem dL_law_151 : decode cL_law 151 = .ok (.istore 5, 2) := by decide +kernel
theorem dL_law_153 : decode cL_law 153 = .ok (.aload_n 2, 1) := by decide +kernel
theorem dL_law_154 : decode cL_law 154 = .ok (.aload_n 0, 1) := by decide +kernel
theorem dL_law_155 : decode cL_law 155 = .ok (.iload 4, 2) := by decide +kernel
theorem dL_law_157 : decode cL_law 157 = .ok (.iconst 1, 1) := by decide +kernel
theorem dL_law_158 : decode cL_law 158 = .ok (.iadd, 1) := by decide +kernel
theorem dL_law_159 : decode cL_law 159 = .ok (.iaload, 1) := by decide +kernel
theorem dL_law_160 : decode cL_law 160 = .ok (.invokevirtual 93, 3) := by decide +kernel
theorem dL_law_163 : decode cL_law 163 = .ok (.istore 6, 2) := by decide +kernel
theorem dL_law_165 : decode cL_law 165 = .ok (.aload_n 2, 1) := by decide +kernel
theorem dL_law_166 : decode cL_law 166 = .ok (.invokevirtual 94, 3) := by decide +kernel
theorem dL_law_169 : decode cL_law 169 = .ok (.iload 5, 2) := by decide +kernel
theorem dL_law_171 : decode cL_law 171 = .ok (.if_icmp .eq 5, 3) := by decide +kernel
theorem dL_law_174 : decode cL_law 174 = .ok (.iconst 0, 1) := by decide +kernel
theorem dL_law_175 : decode cL_law 175 = .ok (.ireturn, 1) := by decide +kernel
theorem dL_law_176 : decode cL_law 176 = .ok (.iload 5, 2) := by decide +kernel
theorem dL_law_178 : decode cL_law 178 = .ok (.ifCond .ne 15, 3) := by decide +kernel
theorem dL_law_181 : decode cL_law 181 = .ok (.aload_n 3, 1) := by decide +kernel
theorem dL_law_182 : decode cL_law 182 = .ok (.iconst 0, 1) := by decide +kernel
theorem dL_law_183 : decode cL_law 183 = .ok (.laload, 1) := by decide +kernel
theorem dL_law_184 : decode cL_law 184 = .ok (.iload 6, 2) := by decide +kernel
theorem dL_law_186 : decode cL_law 186 = .ok (.i2l, 1) := by decide +kernel
theorem dL_law_187 : decode cL_law 187 = .ok (.lcmp, 1) := by decide +kernel
theorem dL_law_188 : decode cL_law 188 = .ok (.ifCond .eq 5, 3) := by decide +kernel
theorem dL_law_191 : decode cL_law 191 = .ok (.iconst 0, 1) := by decide +kernel
theorem dL_law_192 : decode cL_law 192 = .ok (.ireturn, 1) := by decide +kernel
theorem dL_law_193 : decode cL_law 193 = .ok (.goto 1261, 3) := by decide +kernel
theorem dL_law_196 : decode cL_law 196 = .ok (.aload_n 1, 1) := by decide +kernel
theorem dL_law_197 : decode cL_law 197 = .ok (.aload_n 0, 1) := by decide +kernel
theorem dL_law_198 : decode cL_law 198 = .ok (.iload 4, 2) := by decide +kernel
theorem dL_law_200 : decode cL_law 200 = .ok (.iconst 1, 1) := by decide +kernel
theorem dL_law_201 : decode cL_law 201 = .ok (.iadd, 1) := by decide +kernel
theorem dL_law_202 : decode cL_law 202 = .ok (.iaload, 1) := by decide +kernel
theorem dL_law_203 : decode cL_law 203 = .ok (.aload_n 3, 1) := by decide +kernel
theorem dL_law_204 : decode cL_law 204 = .ok (.invokestatic 97, 3) := by decide +kernel
theorem dL_law_207 : decode cL_law 207 = .ok (.istore 5, 2) := by decide +kernel
theorem dL_law_209 : decode cL_law 209 = .ok (.aload_n 2, 1) := by decide +kernel
theorem dL_law_210 : decode cL_law 210 = .ok (.aload_n 0, 1) := by decide +kernel
theorem dL_law_211 : decode cL_law 211 = .ok (.iload 4, 2) := by decide +kernel
theorem dL_law_213 : decode cL_law 213 = .ok (.iconst 1, 1) := by decide +kernel
theorem dL_law_214 : decode cL_law 214 = .ok (.iadd, 1) := by decide +kernel
theorem dL_law_215 : decode cL_law 215 = .ok (.iaload, 1) := by decide +kernel
theorem dL_law_216 : decode cL_law 216 = .ok (.invokevirtual 99, 3) := by decide +kernel
theorem dL_law_219 : decode cL_law 219 = .ok (.istore 6, 2) := by decide +kernel
theorem dL_law_221 : decode cL_law 221 = .ok (.aload_n 2, 1) := by decide +kernel
theorem dL_law_222 : decode cL_law 222 = .ok (.invokevirtual 94, 3) := by decide +kernel
theorem dL_law_225 : decode cL_law 225 = .ok (.iload 5, 2) := by decide +kernel
theorem dL_law_227 : decode cL_law 227 = .ok (.if_icmp .eq 5, 3) := by decide +kernel
theorem dL_law_230 : decode cL_law 230 = .ok (.iconst 0, 1) := by decide +kernel
theorem dL_law_231 : decode cL_law 231 = .ok (.ireturn, 1) := by decide +kernel
theorem dL_law_232 : decode cL_law 232 = .ok (.iload 5, 2) := by decide +kernel
theorem dL_law_234 : decode cL_law 234 = .ok (.ifCond .ne 15, 3) := by decide +kernel
theorem dL_law_237 : decode cL_law 237 = .ok (.aload_n 3, 1) := by decide +kernel
theorem dL_law_238 : decode cL_law 238 = .ok (.iconst 0, 1) := by decide +kernel
theorem dL_law_239 : decode cL_law 239 = .ok (.laload, 1) := by decide +kernel
theorem dL_law_240 : decode cL_law 240 = .ok (.iload 6, 2) := by decide +kernel
theorem dL_law_242 : decode cL_law 242 = .ok (.i2l, 1) := by decide +kernel
theorem dL_law_243 : decode cL_law 243 = .ok (.lcmp, 1) := by decide +kernel
theorem dL_law_244 : decode cL_law 244 = .ok (.ifCond .eq 5, 3) := by decide +kernel
theorem dL_law_247 : decode cL_law 247 = .ok (.iconst 0, 1) := by decide +kernel
theorem dL_law_248 : decode cL_law 248 = .ok (.ireturn, 1) := by decide +kernel
theorem dL_law_249 : decode cL_law 249 = .ok (.goto 1205, 3) := by decide +kernel
theorem dL_law_252 : decode cL_law 252 = .ok (.aload_n 1, 1) := by decide +kernel
theorem dL_law_253 : decode cL_law 253 = .ok (.aload_n 0, 1) := by decide +kernel
theorem dL_law_254 : decode cL_law 254 = .ok (.iload 4, 2) := by decide +kernel
theorem dL_law_256 : decode cL_law 256 = .ok (.iconst 1, 1) := by decide +kernel
theorem dL_law_257 : decode cL_law 257 = .ok (.iadd, 1) := by decide +kernel
theorem dL_law_258 : decode cL_law 258 = .ok (.iaload, 1) := by decide +kernel
theorem dL_law_259 : decode cL_law 259 = .ok (.aload_n 0, 1) := by decide +kernel
theorem dL_law_260 : decode cL_law 260 = .ok (.iload 4, 2) := by decide +kernel
theorem dL_law_262 : decode cL_law 262 = .ok (.iconst 2, 1) := by decide +kernel
theorem dL_law_263 : decode cL_law 263 = .ok (.iadd, 1) := by decide +kernel
theorem dL_law_264 : decode cL_law 264 = .ok (.iaload, 1) := by decide +kernel
theorem dL_law_265 : decode cL_law 265 = .ok (.aload_n 3, 1) := by decide +kernel
theorem dL_law_266 : decode cL_law 266 = .ok (.invokestatic 100, 3) := by decide +kernel
theorem dL_law_269 : decode cL_law 269 = .ok (.istore 5, 2) := by decide +kernel
theorem dL_law_271 : decode cL_law 271 = .ok (.aload_n 2, 1) := by decide +kernel
theorem dL_law_272 : decode cL_law 272 = .ok (.aload_n 0, 1) := by decide +kernel
theorem dL_law_273 : decode cL_law 273 = .ok (.iload 4, 2) := by decide +kernel
theorem dL_law_275 : decode cL_law 275 = .ok (.iconst 1, 1) := by decide +kernel
theorem dL_law_276 : decode cL_law 276 = .ok (.iadd, 1) := by decide +kernel
theorem dL_law_277 : decode cL_law 277 = .ok (.iaload, 1) := by decide +kernel
theorem dL_law_278 : decode cL_law 278 = .ok (.aload_n 0, 1) := by decide +kernel
theorem dL_law_279 : decode cL_law 279 = .ok (.iload 4, 2) := by decide +kernel
theorem dL_law_281 : decode cL_law 281 = .ok (.iconst 2, 1) := by decide +kernel
theorem dL_law_282 : decode cL_law 282 = .ok (.iadd, 1) := by decide +kernel
theorem dL_law_283 : decode cL_law 283 = .ok (.iaload, 1) := by decide +kernel
theorem dL_law_284 : decode cL_law 284 = .ok (.invokevirtual 103, 3) := by decide +kernel
theorem dL_law_287 : decode cL_law 287 = .ok (.istore 6, 2) := by decide +kernel
theorem dL_law_289 : decode cL_law 289 = .ok (.aload_n 2, 1) := by decide +kernel
theorem dL_law_290 : decode cL_law 290 = .ok (.invokevirtual 94, 3) := by decide +kernel
theorem dL_law_293 : decode cL_law 293 = .ok (.iload 5, 2) := by decide +kernel
theorem dL_law_295 : decode cL_law 295 = .ok (.if_icmp .eq 5, 3) := by decide +kernel
theorem dL_law_298 : decode cL_law 298 = .ok (.iconst 0, 1) := by decide +kernel
theorem dL_law_299 : decode cL_law 299 = .ok (.ireturn, 1) := by decide +kernel
theorem dL_law_300 : decode cL_law 300 = .ok (.iload 5, 2) := by decide +kernel
theorem dL_law_302 : decode cL_law 302 = .ok (.ifCond .ne 15, 3) := by decide +kernel
theorem dL_law_305 : decode cL_law 305 = .ok (.aload_n 3, 1) := by decide +kernel
theorem dL_law_306 : decode cL_law 306 = .ok (.iconst 0, 1) := by decide +kernel
theorem dL_law_307 : decode cL_law 307 = .ok (.laload, 1) := by decide +kernel
theorem dL_law_308 : decode cL_law 308 = .ok (.iload 6, 2) := by decide +kernel
theorem dL_law_310 : decode cL_law 310 = .ok (.i2l, 1) := by decide +kernel
theorem dL_law_311 : decode cL_law 311 = .ok (.lcmp, 1) := by decide +kernel
theorem dL_law_312 : decode cL_law 312 = .ok (.ifCond .eq 5, 3) := by decide +kernel
theorem dL_law_315 : decode cL_law 315 = .ok (.iconst 0, 1) := by decide +kernel
theorem dL_law_316 : decode cL_law 316 = .ok (.ireturn, 1) := by decide +kernel
theorem dL_law_317 : decode cL_law 317 = .ok (.goto 1137, 3) := by decide +kernel
theorem dL_law_320 : decode cL_law 320 = .ok (.aload_n 1, 1) := by decide +kernel
theorem dL_law_321 : decode cL_law 321 = .ok (.aload_n 0, 1) := by decide +kernel
theorem dL_law_322 : decode cL_law 322 = .ok (.iload 4, 2) := by decide +kernel
theorem dL_law_324 : decode cL_law 324 = .ok (.iconst 1, 1) := by decide +kernel
theorem dL_law_325 : decode cL_law 325 = .ok (.iadd, 1) := by decide +kernel
theorem dL_law_326 : decode cL_law 326 = .ok (.iaload, 1) := by decide +kernel
theorem dL_law_327 : decode cL_law 327 = .ok (.aload_n 0, 1) := by decide +kernel
theorem dL_law_328 : decode cL_law 328 = .ok (.iload 4, 2) := by decide +kernel
theorem dL_law_330 : decode cL_law 330 = .ok (.iconst 2, 1) := by decide +kernel
