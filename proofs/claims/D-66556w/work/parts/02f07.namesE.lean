set_option maxRecDepth 100000
theorem dX10_risk_157 : decode cX10_risk 157 = .ok (.goto (-49), 3) := by decide +kernel
theorem dX10_risk_160 : decode cX10_risk 160 = .ok (.iconst 0, 1) := by decide +kernel
theorem dX10_risk_161 : decode cX10_risk 161 = .ok (.istore 7, 2) := by decide +kernel
theorem dX10_risk_163 : decode cX10_risk 163 = .ok (.iload 7, 2) := by decide +kernel
theorem dX10_risk_165 : decode cX10_risk 165 = .ok (.ldc_w 314, 3) := by decide +kernel
theorem dX10_risk_168 : decode cX10_risk 168 = .ok (.if_icmp .ge 17, 3) := by decide +kernel
theorem dX10_risk_171 : decode cX10_risk 171 = .ok (.aload_n 0, 1) := by decide +kernel
theorem dX10_risk_172 : decode cX10_risk 172 = .ok (.getfield 83, 3) := by decide +kernel
theorem dX10_risk_175 : decode cX10_risk 175 = .ok (.iload 7, 2) := by decide +kernel
theorem dX10_risk_177 : decode cX10_risk 177 = .ok (.iconst 0, 1) := by decide +kernel
theorem dX10_risk_178 : decode cX10_risk 178 = .ok (.iastore, 1) := by decide +kernel
theorem dX10_risk_179 : decode cX10_risk 179 = .ok (.iinc 7 1, 3) := by decide +kernel
theorem dX10_risk_182 : decode cX10_risk 182 = .ok (.goto (-19), 3) := by decide +kernel
theorem dX10_risk_185 : decode cX10_risk 185 = .ok (.aload_n 0, 1) := by decide +kernel
theorem dX10_risk_186 : decode cX10_risk 186 = .ok (.getfield 83, 3) := by decide +kernel
theorem dX10_risk_189 : decode cX10_risk 189 = .ok (.iconst 0, 1) := by decide +kernel
theorem dX10_risk_190 : decode cX10_risk 190 = .ok (.iconst 1, 1) := by decide +kernel
theorem dX10_risk_191 : decode cX10_risk 191 = .ok (.iastore, 1) := by decide +kernel
theorem dX10_risk_192 : decode cX10_risk 192 = .ok (.aload_n 0, 1) := by decide +kernel
theorem dX10_risk_193 : decode cX10_risk 193 = .ok (.iconst 0, 1) := by decide +kernel
theorem dX10_risk_194 : decode cX10_risk 194 = .ok (.lconst 0, 1) := by decide +kernel
theorem dX10_risk_195 : decode cX10_risk 195 = .ok (.invokevirtual 182, 3) := by decide +kernel
theorem dX10_risk_198 : decode cX10_risk 198 = .ok (.aload_n 0, 1) := by decide +kernel
theorem dX10_risk_199 : decode cX10_risk 199 = .ok (.iconst 1, 1) := by decide +kernel
theorem dX10_risk_200 : decode cX10_risk 200 = .ok (.lconst 1, 1) := by decide +kernel
theorem dX10_risk_201 : decode cX10_risk 201 = .ok (.invokevirtual 182, 3) := by decide +kernel
theorem dX10_risk_204 : decode cX10_risk 204 = .ok (.iconst 0, 1) := by decide +kernel
theorem dX10_risk_205 : decode cX10_risk 205 = .ok (.istore 7, 2) := by decide +kernel
theorem dX10_risk_207 : decode cX10_risk 207 = .ok (.iload 7, 2) := by decide +kernel
theorem dX10_risk_209 : decode cX10_risk 209 = .ok (.iload_n 2, 1) := by decide +kernel
theorem dX10_risk_210 : decode cX10_risk 210 = .ok (.if_icmp .ge 40, 3) := by decide +kernel
theorem dX10_risk_213 : decode cX10_risk 213 = .ok (.aload_n 0, 1) := by decide +kernel
theorem dX10_risk_214 : decode cX10_risk 214 = .ok (.iconst 0, 1) := by decide +kernel
theorem dX10_risk_215 : decode cX10_risk 215 = .ok (.iload 5, 2) := by decide +kernel
theorem dX10_risk_217 : decode cX10_risk 217 = .ok (.i2l, 1) := by decide +kernel
theorem dX10_risk_218 : decode cX10_risk 218 = .ok (.invokevirtual 192, 3) := by decide +kernel
theorem dX10_risk_221 : decode cX10_risk 221 = .ok (.aload_n 0, 1) := by decide +kernel
theorem dX10_risk_222 : decode cX10_risk 222 = .ok (.iconst 1, 1) := by decide +kernel
theorem dX10_risk_223 : decode cX10_risk 223 = .ok (.iload 5, 2) := by decide +kernel
theorem dX10_risk_225 : decode cX10_risk 225 = .ok (.i2l, 1) := by decide +kernel
theorem dX10_risk_226 : decode cX10_risk 226 = .ok (.invokevirtual 192, 3) := by decide +kernel
theorem dX10_risk_229 : decode cX10_risk 229 = .ok (.aload_n 0, 1) := by decide +kernel
theorem dX10_risk_230 : decode cX10_risk 230 = .ok (.iload_n 2, 1) := by decide +kernel
theorem dX10_risk_231 : decode cX10_risk 231 = .ok (.iload_n 3, 1) := by decide +kernel
theorem dX10_risk_232 : decode cX10_risk 232 = .ok (.iload 4, 2) := by decide +kernel
theorem dX10_risk_234 : decode cX10_risk 234 = .ok (.iload 5, 2) := by decide +kernel
theorem dX10_risk_236 : decode cX10_risk 236 = .ok (.iload_n 3, 1) := by decide +kernel
theorem dX10_risk_237 : decode cX10_risk 237 = .ok (.isub, 1) := by decide +kernel
theorem dX10_risk_238 : decode cX10_risk 238 = .ok (.iload 4, 2) := by decide +kernel
theorem dX10_risk_240 : decode cX10_risk 240 = .ok (.isub, 1) := by decide +kernel
theorem dX10_risk_241 : decode cX10_risk 241 = .ok (.invokevirtual 325, 3) := by decide +kernel
theorem dX10_risk_244 : decode cX10_risk 244 = .ok (.iinc 7 1, 3) := by decide +kernel
theorem dX10_risk_247 : decode cX10_risk 247 = .ok (.goto (-40), 3) := by decide +kernel
theorem dX10_risk_250 : decode cX10_risk 250 = .ok (.aload_n 0, 1) := by decide +kernel
theorem dX10_risk_251 : decode cX10_risk 251 = .ok (.iconst 2, 1) := by decide +kernel
theorem dX10_risk_252 : decode cX10_risk 252 = .ok (.iconst 0, 1) := by decide +kernel
theorem dX10_risk_253 : decode cX10_risk 253 = .ok (.invokevirtual 195, 3) := by decide +kernel
theorem dX10_risk_256 : decode cX10_risk 256 = .ok (.aload_n 0, 1) := by decide +kernel
theorem dX10_risk_257 : decode cX10_risk 257 = .ok (.iconst 3, 1) := by decide +kernel
theorem dX10_risk_258 : decode cX10_risk 258 = .ok (.iconst 1, 1) := by decide +kernel
theorem dX10_risk_259 : decode cX10_risk 259 = .ok (.invokevirtual 195, 3) := by decide +kernel
theorem dX10_risk_262 : decode cX10_risk 262 = .ok (.aload_n 0, 1) := by decide +kernel
theorem dX10_risk_263 : decode cX10_risk 263 = .ok (.iconst 2, 1) := by decide +kernel
theorem dX10_risk_264 : decode cX10_risk 264 = .ok (.aload_n 0, 1) := by decide +kernel
theorem dX10_risk_265 : decode cX10_risk 265 = .ok (.getfield 33, 3) := by decide +kernel
theorem dX10_risk_268 : decode cX10_risk 268 = .ok (.i2l, 1) := by decide +kernel
theorem dX10_risk_269 : decode cX10_risk 269 = .ok (.invokevirtual 192, 3) := by decide +kernel
theorem dX10_risk_272 : decode cX10_risk 272 = .ok (.aload_n 0, 1) := by decide +kernel
theorem dX10_risk_273 : decode cX10_risk 273 = .ok (.iconst 3, 1) := by decide +kernel
theorem dX10_risk_274 : decode cX10_risk 274 = .ok (.aload_n 0, 1) := by decide +kernel
theorem dX10_risk_275 : decode cX10_risk 275 = .ok (.getfield 30, 3) := by decide +kernel
theorem dX10_risk_278 : decode cX10_risk 278 = .ok (.i2l, 1) := by decide +kernel
theorem dX10_risk_279 : decode cX10_risk 279 = .ok (.invokevirtual 192, 3) := by decide +kernel
theorem dX10_risk_282 : decode cX10_risk 282 = .ok (.aload_n 0, 1) := by decide +kernel
theorem dX10_risk_283 : decode cX10_risk 283 = .ok (.iconst 2, 1) := by decide +kernel
theorem dX10_risk_284 : decode cX10_risk 284 = .ok (.iconst 3, 1) := by decide +kernel
theorem dX10_risk_285 : decode cX10_risk 285 = .ok (.invokevirtual 203, 3) := by decide +kernel
theorem dX10_risk_288 : decode cX10_risk 288 = .ok (.ifCond .le 7, 3) := by decide +kernel
theorem dX10_risk_291 : decode cX10_risk 291 = .ok (.iconst 1, 1) := by decide +kernel
theorem dX10_risk_292 : decode cX10_risk 292 = .ok (.goto 4, 3) := by decide +kernel
theorem dX10_risk_295 : decode cX10_risk 295 = .ok (.iconst 0, 1) := by decide +kernel
theorem dX10_risk_296 : decode cX10_risk 296 = .ok (.istore 7, 2) := by decide +kernel
theorem dX10_risk_298 : decode cX10_risk 298 = .ok (.aload_n 0, 1) := by decide +kernel
theorem dX10_risk_299 : decode cX10_risk 299 = .ok (.invokevirtual 329, 3) := by decide +kernel
theorem dX10_risk_302 : decode cX10_risk 302 = .ok (.iload 7, 2) := by decide +kernel
theorem dX10_risk_304 : decode cX10_risk 304 = .ok (.ireturn, 1) := by decide +kernel
abbrev cX10_isSure : ByteArray := prog_13_method_46_code
def yX10_isSure : MethodName := ⟨RX10, "isSure", "(III)Z"⟩
theorem dX10_isSure_0 : decode cX10_isSure 0 = .ok (.aload_n 0, 1) := by decide +kernel
theorem dX10_isSure_1 : decode cX10_isSure 1 = .ok (.iconst 2, 1) := by decide +kernel
theorem dX10_isSure_2 : decode cX10_isSure 2 = .ok (.aload_n 0, 1) := by decide +kernel
theorem dX10_isSure_3 : decode cX10_isSure 3 = .ok (.getfield 30, 3) := by decide +kernel
theorem dX10_isSure_6 : decode cX10_isSure 6 = .ok (.i2l, 1) := by decide +kernel
theorem dX10_isSure_7 : decode cX10_isSure 7 = .ok (.invokevirtual 182, 3) := by decide +kernel
theorem dX10_isSure_10 : decode cX10_isSure 10 = .ok (.aload_n 0, 1) := by decide +kernel
theorem dX10_isSure_11 : decode cX10_isSure 11 = .ok (.iconst 3, 1) := by decide +kernel
theorem dX10_isSure_12 : decode cX10_isSure 12 = .ok (.aload_n 0, 1) := by decide +kernel
theorem dX10_isSure_13 : decode cX10_isSure 13 = .ok (.getfield 33, 3) := by decide +kernel
theorem dX10_isSure_16 : decode cX10_isSure 16 = .ok (.i2l, 1) := by decide +kernel
theorem dX10_isSure_17 : decode cX10_isSure 17 = .ok (.invokevirtual 182, 3) := by decide +kernel
theorem dX10_isSure_20 : decode cX10_isSure 20 = .ok (.aload_n 0, 1) := by decide +kernel
theorem dX10_isSure_21 : decode cX10_isSure 21 = .ok (.iconst 2, 1) := by decide +kernel
theorem dX10_isSure_22 : decode cX10_isSure 22 = .ok (.ldc2_w 268, 3) := by decide +kernel
theorem dX10_isSure_25 : decode cX10_isSure 25 = .ok (.aload_n 0, 1) := by decide +kernel
theorem dX10_isSure_26 : decode cX10_isSure 26 = .ok (.getfield 13, 3) := by decide +kernel
theorem dX10_isSure_29 : decode cX10_isSure 29 = .ok (.aload_n 0, 1) := by decide +kernel
theorem dX10_isSure_30 : decode cX10_isSure 30 = .ok (.getfield 52, 3) := by decide +kernel
theorem dX10_isSure_33 : decode cX10_isSure 33 = .ok (.iload_n 1, 1) := by decide +kernel
theorem dX10_isSure_34 : decode cX10_isSure 34 = .ok (.iaload, 1) := by decide +kernel
theorem dX10_isSure_35 : decode cX10_isSure 35 = .ok (.iaload, 1) := by decide +kernel
theorem dX10_isSure_36 : decode cX10_isSure 36 = .ok (.i2l, 1) := by decide +kernel
theorem dX10_isSure_37 : decode cX10_isSure 37 = .ok (.lmul, 1) := by decide +kernel
theorem dX10_isSure_38 : decode cX10_isSure 38 = .ok (.iload_n 2, 1) := by decide +kernel
theorem dX10_isSure_39 : decode cX10_isSure 39 = .ok (.invokevirtual 270, 3) := by decide +kernel
theorem dX10_isSure_42 : decode cX10_isSure 42 = .ok (.aload_n 0, 1) := by decide +kernel
theorem dX10_isSure_43 : decode cX10_isSure 43 = .ok (.iconst 2, 1) := by decide +kernel
theorem dX10_isSure_44 : decode cX10_isSure 44 = .ok (.ldc2_w 268, 3) := by decide +kernel
theorem dX10_isSure_47 : decode cX10_isSure 47 = .ok (.aload_n 0, 1) := by decide +kernel
theorem dX10_isSure_48 : decode cX10_isSure 48 = .ok (.getfield 13, 3) := by decide +kernel
theorem dX10_isSure_51 : decode cX10_isSure 51 = .ok (.aload_n 0, 1) := by decide +kernel
theorem dX10_isSure_52 : decode cX10_isSure 52 = .ok (.getfield 55, 3) := by decide +kernel
theorem dX10_isSure_55 : decode cX10_isSure 55 = .ok (.iload_n 1, 1) := by decide +kernel
theorem dX10_isSure_56 : decode cX10_isSure 56 = .ok (.iaload, 1) := by decide +kernel
theorem dX10_isSure_57 : decode cX10_isSure 57 = .ok (.iaload, 1) := by decide +kernel
theorem dX10_isSure_58 : decode cX10_isSure 58 = .ok (.i2l, 1) := by decide +kernel
theorem dX10_isSure_59 : decode cX10_isSure 59 = .ok (.lmul, 1) := by decide +kernel
theorem dX10_isSure_60 : decode cX10_isSure 60 = .ok (.iload_n 3, 1) := by decide +kernel
theorem dX10_isSure_61 : decode cX10_isSure 61 = .ok (.invokevirtual 270, 3) := by decide +kernel
theorem dX10_isSure_64 : decode cX10_isSure 64 = .ok (.aload_n 0, 1) := by decide +kernel
theorem dX10_isSure_65 : decode cX10_isSure 65 = .ok (.iconst 3, 1) := by decide +kernel
theorem dX10_isSure_66 : decode cX10_isSure 66 = .ok (.aload_n 0, 1) := by decide +kernel
theorem dX10_isSure_67 : decode cX10_isSure 67 = .ok (.getfield 13, 3) := by decide +kernel
theorem dX10_isSure_70 : decode cX10_isSure 70 = .ok (.aload_n 0, 1) := by decide +kernel
theorem dX10_isSure_71 : decode cX10_isSure 71 = .ok (.getfield 52, 3) := by decide +kernel
theorem dX10_isSure_74 : decode cX10_isSure 74 = .ok (.iload_n 1, 1) := by decide +kernel
theorem dX10_isSure_75 : decode cX10_isSure 75 = .ok (.iaload, 1) := by decide +kernel
theorem dX10_isSure_76 : decode cX10_isSure 76 = .ok (.iaload, 1) := by decide +kernel
theorem dX10_isSure_77 : decode cX10_isSure 77 = .ok (.i2l, 1) := by decide +kernel
theorem dX10_isSure_78 : decode cX10_isSure 78 = .ok (.aload_n 0, 1) := by decide +kernel
theorem dX10_isSure_79 : decode cX10_isSure 79 = .ok (.getfield 13, 3) := by decide +kernel
theorem dX10_isSure_82 : decode cX10_isSure 82 = .ok (.aload_n 0, 1) := by decide +kernel
theorem dX10_isSure_83 : decode cX10_isSure 83 = .ok (.getfield 55, 3) := by decide +kernel
theorem dX10_isSure_86 : decode cX10_isSure 86 = .ok (.iload_n 1, 1) := by decide +kernel
theorem dX10_isSure_87 : decode cX10_isSure 87 = .ok (.iaload, 1) := by decide +kernel
theorem dX10_isSure_88 : decode cX10_isSure 88 = .ok (.iaload, 1) := by decide +kernel
theorem dX10_isSure_89 : decode cX10_isSure 89 = .ok (.i2l, 1) := by decide +kernel
theorem dX10_isSure_90 : decode cX10_isSure 90 = .ok (.ladd, 1) := by decide +kernel
theorem dX10_isSure_91 : decode cX10_isSure 91 = .ok (.iload_n 2, 1) := by decide +kernel
theorem dX10_isSure_92 : decode cX10_isSure 92 = .ok (.iload_n 3, 1) := by decide +kernel
theorem dX10_isSure_93 : decode cX10_isSure 93 = .ok (.iadd, 1) := by decide +kernel
theorem dX10_isSure_94 : decode cX10_isSure 94 = .ok (.invokevirtual 270, 3) := by decide +kernel
theorem dX10_isSure_97 : decode cX10_isSure 97 = .ok (.aload_n 0, 1) := by decide +kernel
theorem dX10_isSure_98 : decode cX10_isSure 98 = .ok (.iconst 2, 1) := by decide +kernel
theorem dX10_isSure_99 : decode cX10_isSure 99 = .ok (.iconst 3, 1) := by decide +kernel
theorem dX10_isSure_100 : decode cX10_isSure 100 = .ok (.invokevirtual 203, 3) := by decide +kernel
theorem dX10_isSure_103 : decode cX10_isSure 103 = .ok (.ifCond .lt 7, 3) := by decide +kernel
theorem dX10_isSure_106 : decode cX10_isSure 106 = .ok (.iconst 1, 1) := by decide +kernel
theorem dX10_isSure_107 : decode cX10_isSure 107 = .ok (.goto 4, 3) := by decide +kernel
theorem dX10_isSure_110 : decode cX10_isSure 110 = .ok (.iconst 0, 1) := by decide +kernel
theorem dX10_isSure_111 : decode cX10_isSure 111 = .ok (.ireturn, 1) := by decide +kernel
abbrev cX10_goOn : ByteArray := prog_13_method_48_code
def yX10_goOn : MethodName := ⟨RX10, "goOn", "(IIII)V"⟩
theorem dX10_goOn_0 : decode cX10_goOn 0 = .ok (.iconst 0, 1) := by decide +kernel
theorem dX10_goOn_1 : decode cX10_goOn 1 = .ok (.istore 5, 2) := by decide +kernel
theorem dX10_goOn_3 : decode cX10_goOn 3 = .ok (.iload 5, 2) := by decide +kernel
theorem dX10_goOn_5 : decode cX10_goOn 5 = .ok (.ldc_w 314, 3) := by decide +kernel
theorem dX10_goOn_8 : decode cX10_goOn 8 = .ok (.if_icmp .ge 17, 3) := by decide +kernel
theorem dX10_goOn_11 : decode cX10_goOn 11 = .ok (.aload_n 0, 1) := by decide +kernel
theorem dX10_goOn_12 : decode cX10_goOn 12 = .ok (.getfield 86, 3) := by decide +kernel
theorem dX10_goOn_15 : decode cX10_goOn 15 = .ok (.iload 5, 2) := by decide +kernel
theorem dX10_goOn_17 : decode cX10_goOn 17 = .ok (.iconst 0, 1) := by decide +kernel
theorem dX10_goOn_18 : decode cX10_goOn 18 = .ok (.iastore, 1) := by decide +kernel
theorem dX10_goOn_19 : decode cX10_goOn 19 = .ok (.iinc 5 1, 3) := by decide +kernel
theorem dX10_goOn_22 : decode cX10_goOn 22 = .ok (.goto (-19), 3) := by decide +kernel
theorem dX10_goOn_25 : decode cX10_goOn 25 = .ok (.iconst 0, 1) := by decide +kernel
theorem dX10_goOn_26 : decode cX10_goOn 26 = .ok (.istore 5, 2) := by decide +kernel
theorem dX10_goOn_28 : decode cX10_goOn 28 = .ok (.iload 5, 2) := by decide +kernel
theorem dX10_goOn_30 : decode cX10_goOn 30 = .ok (.iload_n 1, 1) := by decide +kernel
theorem dX10_goOn_31 : decode cX10_goOn 31 = .ok (.if_icmp .gt 79, 3) := by decide +kernel
theorem dX10_goOn_34 : decode cX10_goOn 34 = .ok (.iconst 0, 1) := by decide +kernel
theorem dX10_goOn_35 : decode cX10_goOn 35 = .ok (.istore 6, 2) := by decide +kernel
theorem dX10_goOn_37 : decode cX10_goOn 37 = .ok (.iload 5, 2) := by decide +kernel
theorem dX10_goOn_39 : decode cX10_goOn 39 = .ok (.iload 6, 2) := by decide +kernel
theorem dX10_goOn_41 : decode cX10_goOn 41 = .ok (.iadd, 1) := by decide +kernel
theorem dX10_goOn_42 : decode cX10_goOn 42 = .ok (.iload_n 1, 1) := by decide +kernel
theorem dX10_goOn_43 : decode cX10_goOn 43 = .ok (.if_icmp .gt 61, 3) := by decide +kernel
theorem dX10_goOn_46 : decode cX10_goOn 46 = .ok (.bipush 31, 2) := by decide +kernel
theorem dX10_goOn_48 : decode cX10_goOn 48 = .ok (.iload 5, 2) := by decide +kernel
theorem dX10_goOn_50 : decode cX10_goOn 50 = .ok (.imul, 1) := by decide +kernel
theorem dX10_goOn_51 : decode cX10_goOn 51 = .ok (.iload 6, 2) := by decide +kernel
theorem dX10_goOn_53 : decode cX10_goOn 53 = .ok (.iadd, 1) := by decide +kernel
theorem dX10_goOn_54 : decode cX10_goOn 54 = .ok (.istore 7, 2) := by decide +kernel
theorem dX10_goOn_56 : decode cX10_goOn 56 = .ok (.aload_n 0, 1) := by decide +kernel
theorem dX10_goOn_57 : decode cX10_goOn 57 = .ok (.iload 7, 2) := by decide +kernel
theorem dX10_goOn_59 : decode cX10_goOn 59 = .ok (.iload 7, 2) := by decide +kernel
theorem dX10_goOn_61 : decode cX10_goOn 61 = .ok (.iload 4, 2) := by decide +kernel
theorem dX10_goOn_63 : decode cX10_goOn 63 = .ok (.invokevirtual 315, 3) := by decide +kernel
theorem dX10_goOn_66 : decode cX10_goOn 66 = .ok (.iload 5, 2) := by decide +kernel
theorem dX10_goOn_68 : decode cX10_goOn 68 = .ok (.iload 6, 2) := by decide +kernel
theorem dX10_goOn_70 : decode cX10_goOn 70 = .ok (.iadd, 1) := by decide +kernel
theorem dX10_goOn_71 : decode cX10_goOn 71 = .ok (.iload_n 1, 1) := by decide +kernel
theorem dX10_goOn_72 : decode cX10_goOn 72 = .ok (.if_icmp .ge 26, 3) := by decide +kernel
theorem dX10_goOn_75 : decode cX10_goOn 75 = .ok (.aload_n 0, 1) := by decide +kernel
theorem dX10_goOn_76 : decode cX10_goOn 76 = .ok (.iload 7, 2) := by decide +kernel
theorem dX10_goOn_78 : decode cX10_goOn 78 = .ok (.iload 7, 2) := by decide +kernel
theorem dX10_goOn_80 : decode cX10_goOn 80 = .ok (.bipush 31, 2) := by decide +kernel
theorem dX10_goOn_82 : decode cX10_goOn 82 = .ok (.iadd, 1) := by decide +kernel
theorem dX10_goOn_83 : decode cX10_goOn 83 = .ok (.iload_n 2, 1) := by decide +kernel
theorem dX10_goOn_84 : decode cX10_goOn 84 = .ok (.invokevirtual 315, 3) := by decide +kernel
theorem dX10_goOn_87 : decode cX10_goOn 87 = .ok (.aload_n 0, 1) := by decide +kernel
theorem dX10_goOn_88 : decode cX10_goOn 88 = .ok (.iload 7, 2) := by decide +kernel
theorem dX10_goOn_90 : decode cX10_goOn 90 = .ok (.iload 7, 2) := by decide +kernel
theorem dX10_goOn_92 : decode cX10_goOn 92 = .ok (.iconst 1, 1) := by decide +kernel
theorem dX10_goOn_93 : decode cX10_goOn 93 = .ok (.iadd, 1) := by decide +kernel
theorem dX10_goOn_94 : decode cX10_goOn 94 = .ok (.iload_n 3, 1) := by decide +kernel
theorem dX10_goOn_95 : decode cX10_goOn 95 = .ok (.invokevirtual 315, 3) := by decide +kernel
theorem dX10_goOn_98 : decode cX10_goOn 98 = .ok (.iinc 6 1, 3) := by decide +kernel
theorem dX10_goOn_101 : decode cX10_goOn 101 = .ok (.goto (-64), 3) := by decide +kernel
theorem dX10_goOn_104 : decode cX10_goOn 104 = .ok (.iinc 5 1, 3) := by decide +kernel
theorem dX10_goOn_107 : decode cX10_goOn 107 = .ok (.goto (-79), 3) := by decide +kernel
theorem dX10_goOn_110 : decode cX10_goOn 110 = .ok (.iconst 0, 1) := by decide +kernel
theorem dX10_goOn_111 : decode cX10_goOn 111 = .ok (.istore 5, 2) := by decide +kernel
theorem dX10_goOn_113 : decode cX10_goOn 113 = .ok (.iload 5, 2) := by decide +kernel
theorem dX10_goOn_115 : decode cX10_goOn 115 = .ok (.iload_n 1, 1) := by decide +kernel
theorem dX10_goOn_116 : decode cX10_goOn 116 = .ok (.if_icmp .gt 159, 3) := by decide +kernel
theorem dX10_goOn_119 : decode cX10_goOn 119 = .ok (.iconst 0, 1) := by decide +kernel
theorem dX10_goOn_120 : decode cX10_goOn 120 = .ok (.istore 6, 2) := by decide +kernel
theorem dX10_goOn_122 : decode cX10_goOn 122 = .ok (.iload 5, 2) := by decide +kernel
theorem dX10_goOn_124 : decode cX10_goOn 124 = .ok (.iload 6, 2) := by decide +kernel
theorem dX10_goOn_126 : decode cX10_goOn 126 = .ok (.iadd, 1) := by decide +kernel
theorem dX10_goOn_127 : decode cX10_goOn 127 = .ok (.iload_n 1, 1) := by decide +kernel
theorem dX10_goOn_128 : decode cX10_goOn 128 = .ok (.if_icmp .gt 141, 3) := by decide +kernel
theorem dX10_goOn_131 : decode cX10_goOn 131 = .ok (.bipush 31, 2) := by decide +kernel
theorem dX10_goOn_133 : decode cX10_goOn 133 = .ok (.iload 5, 2) := by decide +kernel
theorem dX10_goOn_135 : decode cX10_goOn 135 = .ok (.imul, 1) := by decide +kernel
theorem dX10_goOn_136 : decode cX10_goOn 136 = .ok (.iload 6, 2) := by decide +kernel
theorem dX10_goOn_138 : decode cX10_goOn 138 = .ok (.iadd, 1) := by decide +kernel
theorem dX10_goOn_139 : decode cX10_goOn 139 = .ok (.istore 7, 2) := by decide +kernel
theorem dX10_goOn_141 : decode cX10_goOn 141 = .ok (.aload_n 0, 1) := by decide +kernel
theorem dX10_goOn_142 : decode cX10_goOn 142 = .ok (.getfield 79, 3) := by decide +kernel
theorem dX10_goOn_145 : decode cX10_goOn 145 = .ok (.iconst 2, 1) := by decide +kernel
theorem dX10_goOn_146 : decode cX10_goOn 146 = .ok (.bipush 40, 2) := by decide +kernel
theorem dX10_goOn_148 : decode cX10_goOn 148 = .ok (.iastore, 1) := by decide +kernel
theorem dX10_goOn_149 : decode cX10_goOn 149 = .ok (.iconst 0, 1) := by decide +kernel
theorem dX10_goOn_150 : decode cX10_goOn 150 = .ok (.istore 8, 2) := by decide +kernel
theorem dX10_goOn_152 : decode cX10_goOn 152 = .ok (.iload 8, 2) := by decide +kernel
theorem dX10_goOn_154 : decode cX10_goOn 154 = .ok (.bipush 40, 2) := by decide +kernel
theorem dX10_goOn_156 : decode cX10_goOn 156 = .ok (.if_icmp .ge 87, 3) := by decide +kernel
theorem dX10_goOn_159 : decode cX10_goOn 159 = .ok (.aload_n 0, 1) := by decide +kernel
theorem dX10_goOn_160 : decode cX10_goOn 160 = .ok (.getfield 76, 3) := by decide +kernel
theorem dX10_goOn_163 : decode cX10_goOn 163 = .ok (.sipush 2400, 3) := by decide +kernel
theorem dX10_goOn_166 : decode cX10_goOn 166 = .ok (.iload 8, 2) := by decide +kernel
theorem dX10_goOn_168 : decode cX10_goOn 168 = .ok (.iadd, 1) := by decide +kernel
theorem dX10_goOn_169 : decode cX10_goOn 169 = .ok (.aload_n 0, 1) := by decide +kernel
theorem dX10_goOn_170 : decode cX10_goOn 170 = .ok (.getfield 179, 3) := by decide +kernel
theorem dX10_goOn_173 : decode cX10_goOn 173 = .ok (.iload 7, 2) := by decide +kernel
theorem dX10_goOn_175 : decode cX10_goOn 175 = .ok (.baload, 1) := by decide +kernel
theorem dX10_goOn_176 : decode cX10_goOn 176 = .ok (.ifCond .eq 19, 3) := by decide +kernel
theorem dX10_goOn_179 : decode cX10_goOn 179 = .ok (.aload_n 0, 1) := by decide +kernel
theorem dX10_goOn_180 : decode cX10_goOn 180 = .ok (.getfield 86, 3) := by decide +kernel
theorem dX10_goOn_183 : decode cX10_goOn 183 = .ok (.bipush 40, 2) := by decide +kernel
theorem dX10_goOn_185 : decode cX10_goOn 185 = .ok (.iload 7, 2) := by decide +kernel
theorem dX10_goOn_187 : decode cX10_goOn 187 = .ok (.imul, 1) := by decide +kernel
theorem dX10_goOn_188 : decode cX10_goOn 188 = .ok (.iload 8, 2) := by decide +kernel
theorem dX10_goOn_190 : decode cX10_goOn 190 = .ok (.iadd, 1) := by decide +kernel
theorem dX10_goOn_191 : decode cX10_goOn 191 = .ok (.iaload, 1) := by decide +kernel
theorem dX10_goOn_192 : decode cX10_goOn 192 = .ok (.goto 4, 3) := by decide +kernel
theorem dX10_goOn_195 : decode cX10_goOn 195 = .ok (.iconst 0, 1) := by decide +kernel
theorem dX10_goOn_196 : decode cX10_goOn 196 = .ok (.iastore, 1) := by decide +kernel
theorem dX10_goOn_197 : decode cX10_goOn 197 = .ok (.aload_n 0, 1) := by decide +kernel
theorem dX10_goOn_198 : decode cX10_goOn 198 = .ok (.getfield 83, 3) := by decide +kernel
theorem dX10_goOn_201 : decode cX10_goOn 201 = .ok (.bipush 40, 2) := by decide +kernel
theorem dX10_goOn_203 : decode cX10_goOn 203 = .ok (.iload 7, 2) := by decide +kernel
theorem dX10_goOn_205 : decode cX10_goOn 205 = .ok (.imul, 1) := by decide +kernel
theorem dX10_goOn_206 : decode cX10_goOn 206 = .ok (.iload 8, 2) := by decide +kernel
theorem dX10_goOn_208 : decode cX10_goOn 208 = .ok (.iadd, 1) := by decide +kernel
theorem dX10_goOn_209 : decode cX10_goOn 209 = .ok (.aload_n 0, 1) := by decide +kernel
theorem dX10_goOn_210 : decode cX10_goOn 210 = .ok (.getfield 179, 3) := by decide +kernel
theorem dX10_goOn_213 : decode cX10_goOn 213 = .ok (.iload 7, 2) := by decide +kernel
theorem dX10_goOn_215 : decode cX10_goOn 215 = .ok (.baload, 1) := by decide +kernel
theorem dX10_goOn_216 : decode cX10_goOn 216 = .ok (.ifCond .eq 7, 3) := by decide +kernel
theorem dX10_goOn_219 : decode cX10_goOn 219 = .ok (.iconst 0, 1) := by decide +kernel
theorem dX10_goOn_220 : decode cX10_goOn 220 = .ok (.goto 16, 3) := by decide +kernel
theorem dX10_goOn_223 : decode cX10_goOn 223 = .ok (.aload_n 0, 1) := by decide +kernel
theorem dX10_goOn_224 : decode cX10_goOn 224 = .ok (.getfield 86, 3) := by decide +kernel
theorem dX10_goOn_227 : decode cX10_goOn 227 = .ok (.bipush 40, 2) := by decide +kernel
theorem dX10_goOn_229 : decode cX10_goOn 229 = .ok (.iload 7, 2) := by decide +kernel
theorem dX10_goOn_231 : decode cX10_goOn 231 = .ok (.imul, 1) := by decide +kernel
theorem dX10_goOn_232 : decode cX10_goOn 232 = .ok (.iload 8, 2) := by decide +kernel
theorem dX10_goOn_234 : decode cX10_goOn 234 = .ok (.iadd, 1) := by decide +kernel
theorem dX10_goOn_235 : decode cX10_goOn 235 = .ok (.iaload, 1) := by decide +kernel
theorem dX10_goOn_236 : decode cX10_goOn 236 = .ok (.iastore, 1) := by decide +kernel
theorem dX10_goOn_237 : decode cX10_goOn 237 = .ok (.iinc 8 1, 3) := by decide +kernel
theorem dX10_goOn_240 : decode cX10_goOn 240 = .ok (.goto (-88), 3) := by decide +kernel
theorem dX10_goOn_243 : decode cX10_goOn 243 = .ok (.aload_n 0, 1) := by decide +kernel
theorem dX10_goOn_244 : decode cX10_goOn 244 = .ok (.iconst 2, 1) := by decide +kernel
theorem dX10_goOn_245 : decode cX10_goOn 245 = .ok (.invokevirtual 188, 3) := by decide +kernel
theorem dX10_goOn_248 : decode cX10_goOn 248 = .ok (.aload_n 0, 1) := by decide +kernel
theorem dX10_goOn_249 : decode cX10_goOn 249 = .ok (.getfield 79, 3) := by decide +kernel
theorem dX10_goOn_252 : decode cX10_goOn 252 = .ok (.iconst 2, 1) := by decide +kernel
theorem dX10_goOn_253 : decode cX10_goOn 253 = .ok (.iaload, 1) := by decide +kernel
theorem dX10_goOn_254 : decode cX10_goOn 254 = .ok (.ifCond .le 9, 3) := by decide +kernel
theorem dX10_goOn_257 : decode cX10_goOn 257 = .ok (.aload_n 0, 1) := by decide +kernel
theorem dX10_goOn_258 : decode cX10_goOn 258 = .ok (.iconst 0, 1) := by decide +kernel
theorem dX10_goOn_259 : decode cX10_goOn 259 = .ok (.iconst 2, 1) := by decide +kernel
theorem dX10_goOn_260 : decode cX10_goOn 260 = .ok (.invokevirtual 318, 3) := by decide +kernel
theorem dX10_goOn_263 : decode cX10_goOn 263 = .ok (.iinc 6 1, 3) := by decide +kernel
theorem dX10_goOn_266 : decode cX10_goOn 266 = .ok (.goto (-144), 3) := by decide +kernel
theorem dX10_goOn_269 : decode cX10_goOn 269 = .ok (.iinc 5 1, 3) := by decide +kernel
theorem dX10_goOn_272 : decode cX10_goOn 272 = .ok (.goto (-159), 3) := by decide +kernel
theorem dX10_goOn_275 : decode cX10_goOn 275 = .ok (.return_, 1) := by decide +kernel
abbrev cX10_pass : ByteArray := prog_13_method_47_code
def yX10_pass : MethodName := ⟨RX10, "pass", "(III)V"⟩
theorem dX10_pass_0 : decode cX10_pass 0 = .ok (.lconst 0, 1) := by decide +kernel
theorem dX10_pass_1 : decode cX10_pass 1 = .ok (.lstore 4, 2) := by decide +kernel
theorem dX10_pass_3 : decode cX10_pass 3 = .ok (.iconst 0, 1) := by decide +kernel
theorem dX10_pass_4 : decode cX10_pass 4 = .ok (.istore 6, 2) := by decide +kernel
theorem dX10_pass_6 : decode cX10_pass 6 = .ok (.iload 6, 2) := by decide +kernel
theorem dX10_pass_8 : decode cX10_pass 8 = .ok (.bipush 40, 2) := by decide +kernel
theorem dX10_pass_10 : decode cX10_pass 10 = .ok (.if_icmp .ge 70, 3) := by decide +kernel
theorem dX10_pass_13 : decode cX10_pass 13 = .ok (.lload 4, 2) := by decide +kernel
theorem dX10_pass_15 : decode cX10_pass 15 = .ok (.aload_n 0, 1) := by decide +kernel
theorem dX10_pass_16 : decode cX10_pass 16 = .ok (.getfield 86, 3) := by decide +kernel
theorem dX10_pass_19 : decode cX10_pass 19 = .ok (.bipush 40, 2) := by decide +kernel
theorem dX10_pass_21 : decode cX10_pass 21 = .ok (.iload_n 2, 1) := by decide +kernel
theorem dX10_pass_22 : decode cX10_pass 22 = .ok (.imul, 1) := by decide +kernel
theorem dX10_pass_23 : decode cX10_pass 23 = .ok (.iload 6, 2) := by decide +kernel
theorem dX10_pass_25 : decode cX10_pass 25 = .ok (.iadd, 1) := by decide +kernel
theorem dX10_pass_26 : decode cX10_pass 26 = .ok (.iaload, 1) := by decide +kernel
theorem dX10_pass_27 : decode cX10_pass 27 = .ok (.i2l, 1) := by decide +kernel
theorem dX10_pass_28 : decode cX10_pass 28 = .ok (.iload_n 3, 1) := by decide +kernel
theorem dX10_pass_29 : decode cX10_pass 29 = .ok (.i2l, 1) := by decide +kernel
theorem dX10_pass_30 : decode cX10_pass 30 = .ok (.aload_n 0, 1) := by decide +kernel
theorem dX10_pass_31 : decode cX10_pass 31 = .ok (.getfield 83, 3) := by decide +kernel
theorem dX10_pass_34 : decode cX10_pass 34 = .ok (.bipush 40, 2) := by decide +kernel
theorem dX10_pass_36 : decode cX10_pass 36 = .ok (.iload_n 1, 1) := by decide +kernel
theorem dX10_pass_37 : decode cX10_pass 37 = .ok (.imul, 1) := by decide +kernel
theorem dX10_pass_38 : decode cX10_pass 38 = .ok (.iload 6, 2) := by decide +kernel
theorem dX10_pass_40 : decode cX10_pass 40 = .ok (.iadd, 1) := by decide +kernel
theorem dX10_pass_41 : decode cX10_pass 41 = .ok (.iaload, 1) := by decide +kernel
theorem dX10_pass_42 : decode cX10_pass 42 = .ok (.i2l, 1) := by decide +kernel
theorem dX10_pass_43 : decode cX10_pass 43 = .ok (.lmul, 1) := by decide +kernel
theorem dX10_pass_44 : decode cX10_pass 44 = .ok (.ladd, 1) := by decide +kernel
theorem dX10_pass_45 : decode cX10_pass 45 = .ok (.ladd, 1) := by decide +kernel
theorem dX10_pass_46 : decode cX10_pass 46 = .ok (.lstore 4, 2) := by decide +kernel
theorem dX10_pass_48 : decode cX10_pass 48 = .ok (.aload_n 0, 1) := by decide +kernel
theorem dX10_pass_49 : decode cX10_pass 49 = .ok (.getfield 86, 3) := by decide +kernel
theorem dX10_pass_52 : decode cX10_pass 52 = .ok (.bipush 40, 2) := by decide +kernel
theorem dX10_pass_54 : decode cX10_pass 54 = .ok (.iload_n 2, 1) := by decide +kernel
theorem dX10_pass_55 : decode cX10_pass 55 = .ok (.imul, 1) := by decide +kernel
theorem dX10_pass_56 : decode cX10_pass 56 = .ok (.iload 6, 2) := by decide +kernel
theorem dX10_pass_58 : decode cX10_pass 58 = .ok (.iadd, 1) := by decide +kernel
theorem dX10_pass_59 : decode cX10_pass 59 = .ok (.lload 4, 2) := by decide +kernel
theorem dX10_pass_61 : decode cX10_pass 61 = .ok (.ldc2_w 186, 3) := by decide +kernel
theorem dX10_pass_64 : decode cX10_pass 64 = .ok (.land, 1) := by decide +kernel
theorem dX10_pass_65 : decode cX10_pass 65 = .ok (.l2i, 1) := by decide +kernel
theorem dX10_pass_66 : decode cX10_pass 66 = .ok (.iastore, 1) := by decide +kernel
theorem dX10_pass_67 : decode cX10_pass 67 = .ok (.lload 4, 2) := by decide +kernel
theorem dX10_pass_69 : decode cX10_pass 69 = .ok (.bipush 16, 2) := by decide +kernel
theorem dX10_pass_71 : decode cX10_pass 71 = .ok (.lshr, 1) := by decide +kernel
theorem dX10_pass_72 : decode cX10_pass 72 = .ok (.lstore 4, 2) := by decide +kernel
theorem dX10_pass_74 : decode cX10_pass 74 = .ok (.iinc 6 1, 3) := by decide +kernel
theorem dX10_pass_77 : decode cX10_pass 77 = .ok (.goto (-71), 3) := by decide +kernel
theorem dX10_pass_80 : decode cX10_pass 80 = .ok (.return_, 1) := by decide +kernel
abbrev cX10_add : ByteArray := prog_13_method_9_code
def yX10_add : MethodName := ⟨RX10, "add", "(II)V"⟩
theorem dX10_add_0 : decode cX10_add 0 = .ok (.iconst 0, 1) := by decide +kernel
theorem dX10_add_1 : decode cX10_add 1 = .ok (.istore_n 3, 1) := by decide +kernel
theorem dX10_add_2 : decode cX10_add 2 = .ok (.aload_n 0, 1) := by decide +kernel
theorem dX10_add_3 : decode cX10_add 3 = .ok (.getfield 79, 3) := by decide +kernel
theorem dX10_add_6 : decode cX10_add 6 = .ok (.iload_n 1, 1) := by decide +kernel
theorem dX10_add_7 : decode cX10_add 7 = .ok (.iaload, 1) := by decide +kernel
theorem dX10_add_8 : decode cX10_add 8 = .ok (.aload_n 0, 1) := by decide +kernel
theorem dX10_add_9 : decode cX10_add 9 = .ok (.getfield 79, 3) := by decide +kernel
theorem dX10_add_12 : decode cX10_add 12 = .ok (.iload_n 2, 1) := by decide +kernel
theorem dX10_add_13 : decode cX10_add 13 = .ok (.iaload, 1) := by decide +kernel
theorem dX10_add_14 : decode cX10_add 14 = .ok (.if_icmp .le 12, 3) := by decide +kernel
theorem dX10_add_17 : decode cX10_add 17 = .ok (.aload_n 0, 1) := by decide +kernel
theorem dX10_add_18 : decode cX10_add 18 = .ok (.getfield 79, 3) := by decide +kernel
theorem dX10_add_21 : decode cX10_add 21 = .ok (.iload_n 1, 1) := by decide +kernel
theorem dX10_add_22 : decode cX10_add 22 = .ok (.iaload, 1) := by decide +kernel
theorem dX10_add_23 : decode cX10_add 23 = .ok (.goto 9, 3) := by decide +kernel
theorem dX10_add_26 : decode cX10_add 26 = .ok (.aload_n 0, 1) := by decide +kernel
theorem dX10_add_27 : decode cX10_add 27 = .ok (.getfield 79, 3) := by decide +kernel
theorem dX10_add_30 : decode cX10_add 30 = .ok (.iload_n 2, 1) := by decide +kernel
theorem dX10_add_31 : decode cX10_add 31 = .ok (.iaload, 1) := by decide +kernel
theorem dX10_add_32 : decode cX10_add 32 = .ok (.istore 4, 2) := by decide +kernel
theorem dX10_add_34 : decode cX10_add 34 = .ok (.iconst 0, 1) := by decide +kernel
theorem dX10_add_35 : decode cX10_add 35 = .ok (.istore 5, 2) := by decide +kernel
theorem dX10_add_37 : decode cX10_add 37 = .ok (.iload 5, 2) := by decide +kernel
theorem dX10_add_39 : decode cX10_add 39 = .ok (.iload 4, 2) := by decide +kernel
theorem dX10_add_41 : decode cX10_add 41 = .ok (.if_icmp .lt 7, 3) := by decide +kernel
theorem dX10_add_44 : decode cX10_add 44 = .ok (.iload_n 3, 1) := by decide +kernel
theorem dX10_add_45 : decode cX10_add 45 = .ok (.ifCond .le 114, 3) := by decide +kernel
theorem dX10_add_48 : decode cX10_add 48 = .ok (.iload_n 3, 1) := by decide +kernel
theorem dX10_add_49 : decode cX10_add 49 = .ok (.iload 5, 2) := by decide +kernel
theorem dX10_add_51 : decode cX10_add 51 = .ok (.aload_n 0, 1) := by decide +kernel
theorem dX10_add_52 : decode cX10_add 52 = .ok (.getfield 79, 3) := by decide +kernel
theorem dX10_add_55 : decode cX10_add 55 = .ok (.iload_n 1, 1) := by decide +kernel
theorem dX10_add_56 : decode cX10_add 56 = .ok (.iaload, 1) := by decide +kernel
theorem dX10_add_57 : decode cX10_add 57 = .ok (.if_icmp .ge 19, 3) := by decide +kernel
theorem dX10_add_60 : decode cX10_add 60 = .ok (.aload_n 0, 1) := by decide +kernel
theorem dX10_add_61 : decode cX10_add 61 = .ok (.getfield 76, 3) := by decide +kernel
theorem dX10_add_64 : decode cX10_add 64 = .ok (.sipush 1200, 3) := by decide +kernel
theorem dX10_add_67 : decode cX10_add 67 = .ok (.iload_n 1, 1) := by decide +kernel
theorem dX10_add_68 : decode cX10_add 68 = .ok (.imul, 1) := by decide +kernel
theorem dX10_add_69 : decode cX10_add 69 = .ok (.iload 5, 2) := by decide +kernel
theorem dX10_add_71 : decode cX10_add 71 = .ok (.iadd, 1) := by decide +kernel
theorem dX10_add_72 : decode cX10_add 72 = .ok (.iaload, 1) := by decide +kernel
theorem dX10_add_73 : decode cX10_add 73 = .ok (.goto 4, 3) := by decide +kernel
theorem dX10_add_76 : decode cX10_add 76 = .ok (.iconst 0, 1) := by decide +kernel
theorem dX10_add_77 : decode cX10_add 77 = .ok (.iadd, 1) := by decide +kernel
theorem dX10_add_78 : decode cX10_add 78 = .ok (.iload 5, 2) := by decide +kernel
theorem dX10_add_80 : decode cX10_add 80 = .ok (.aload_n 0, 1) := by decide +kernel
theorem dX10_add_81 : decode cX10_add 81 = .ok (.getfield 79, 3) := by decide +kernel
theorem dX10_add_84 : decode cX10_add 84 = .ok (.iload_n 2, 1) := by decide +kernel
theorem dX10_add_85 : decode cX10_add 85 = .ok (.iaload, 1) := by decide +kernel
theorem dX10_add_86 : decode cX10_add 86 = .ok (.if_icmp .ge 19, 3) := by decide +kernel
theorem dX10_add_89 : decode cX10_add 89 = .ok (.aload_n 0, 1) := by decide +kernel
theorem dX10_add_90 : decode cX10_add 90 = .ok (.getfield 76, 3) := by decide +kernel
