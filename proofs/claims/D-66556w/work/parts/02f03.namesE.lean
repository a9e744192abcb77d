set_option maxRecDepth 100000
theorem dX10_number_121 : decode cX10_number 121 = .ok (.iload_n 3, 1) := by decide +kernel
theorem dX10_number_122 : decode cX10_number 122 = .ok (.aload_n 0, 1) := by decide +kernel
theorem dX10_number_123 : decode cX10_number 123 = .ok (.getfield 45, 3) := by decide +kernel
theorem dX10_number_126 : decode cX10_number 126 = .ok (.iload_n 3, 1) := by decide +kernel
theorem dX10_number_127 : decode cX10_number 127 = .ok (.iload_n 1, 1) := by decide +kernel
theorem dX10_number_128 : decode cX10_number 128 = .ok (.iadd, 1) := by decide +kernel
theorem dX10_number_129 : decode cX10_number 129 = .ok (.baload, 1) := by decide +kernel
theorem dX10_number_130 : decode cX10_number 130 = .ok (.bastore, 1) := by decide +kernel
theorem dX10_number_131 : decode cX10_number 131 = .ok (.iinc 3 1, 3) := by decide +kernel
theorem dX10_number_134 : decode cX10_number 134 = .ok (.goto (-25), 3) := by decide +kernel
theorem dX10_number_137 : decode cX10_number 137 = .ok (.iload_n 2, 1) := by decide +kernel
theorem dX10_number_138 : decode cX10_number 138 = .ok (.aload_n 0, 1) := by decide +kernel
theorem dX10_number_139 : decode cX10_number 139 = .ok (.getfield 240, 3) := by decide +kernel
theorem dX10_number_142 : decode cX10_number 142 = .ok (.if_icmp .ge 7, 3) := by decide +kernel
theorem dX10_number_145 : decode cX10_number 145 = .ok (.iload_n 2, 1) := by decide +kernel
theorem dX10_number_146 : decode cX10_number 146 = .ok (.goto 5, 3) := by decide +kernel
theorem dX10_number_149 : decode cX10_number 149 = .ok (.bipush (-2), 2) := by decide +kernel
theorem dX10_number_151 : decode cX10_number 151 = .ok (.ireturn, 1) := by decide +kernel
abbrev cX10_digestOf : ByteArray := prog_13_method_17_code
def yX10_digestOf : MethodName := ⟨RX10, "digestOf", "(I)V"⟩
theorem dX10_digestOf_0 : decode cX10_digestOf 0 = .ok (.iconst 0, 1) := by decide +kernel
theorem dX10_digestOf_1 : decode cX10_digestOf 1 = .ok (.istore_n 2, 1) := by decide +kernel
theorem dX10_digestOf_2 : decode cX10_digestOf 2 = .ok (.iconst 0, 1) := by decide +kernel
theorem dX10_digestOf_3 : decode cX10_digestOf 3 = .ok (.istore_n 3, 1) := by decide +kernel
theorem dX10_digestOf_4 : decode cX10_digestOf 4 = .ok (.iload_n 3, 1) := by decide +kernel
theorem dX10_digestOf_5 : decode cX10_digestOf 5 = .ok (.bipush 64, 2) := by decide +kernel
theorem dX10_digestOf_7 : decode cX10_digestOf 7 = .ok (.if_icmp .ge 16, 3) := by decide +kernel
theorem dX10_digestOf_10 : decode cX10_digestOf 10 = .ok (.aload_n 0, 1) := by decide +kernel
theorem dX10_digestOf_11 : decode cX10_digestOf 11 = .ok (.getfield 173, 3) := by decide +kernel
theorem dX10_digestOf_14 : decode cX10_digestOf 14 = .ok (.iload_n 3, 1) := by decide +kernel
theorem dX10_digestOf_15 : decode cX10_digestOf 15 = .ok (.iconst 0, 1) := by decide +kernel
theorem dX10_digestOf_16 : decode cX10_digestOf 16 = .ok (.iastore, 1) := by decide +kernel
theorem dX10_digestOf_17 : decode cX10_digestOf 17 = .ok (.iinc 3 1, 3) := by decide +kernel
theorem dX10_digestOf_20 : decode cX10_digestOf 20 = .ok (.goto (-16), 3) := by decide +kernel
theorem dX10_digestOf_23 : decode cX10_digestOf 23 = .ok (.iconst 0, 1) := by decide +kernel
theorem dX10_digestOf_24 : decode cX10_digestOf 24 = .ok (.istore_n 3, 1) := by decide +kernel
theorem dX10_digestOf_25 : decode cX10_digestOf 25 = .ok (.iload_n 3, 1) := by decide +kernel
theorem dX10_digestOf_26 : decode cX10_digestOf 26 = .ok (.aload_n 0, 1) := by decide +kernel
theorem dX10_digestOf_27 : decode cX10_digestOf 27 = .ok (.getfield 220, 3) := by decide +kernel
theorem dX10_digestOf_30 : decode cX10_digestOf 30 = .ok (.if_icmp .ge 27, 3) := by decide +kernel
theorem dX10_digestOf_33 : decode cX10_digestOf 33 = .ok (.aload_n 0, 1) := by decide +kernel
theorem dX10_digestOf_34 : decode cX10_digestOf 34 = .ok (.getfield 173, 3) := by decide +kernel
theorem dX10_digestOf_37 : decode cX10_digestOf 37 = .ok (.iload_n 2, 1) := by decide +kernel
theorem dX10_digestOf_38 : decode cX10_digestOf 38 = .ok (.bipush 48, 2) := by decide +kernel
theorem dX10_digestOf_40 : decode cX10_digestOf 40 = .ok (.aload_n 0, 1) := by decide +kernel
theorem dX10_digestOf_41 : decode cX10_digestOf 41 = .ok (.getfield 42, 3) := by decide +kernel
theorem dX10_digestOf_44 : decode cX10_digestOf 44 = .ok (.iload_n 3, 1) := by decide +kernel
theorem dX10_digestOf_45 : decode cX10_digestOf 45 = .ok (.iaload, 1) := by decide +kernel
theorem dX10_digestOf_46 : decode cX10_digestOf 46 = .ok (.iadd, 1) := by decide +kernel
theorem dX10_digestOf_47 : decode cX10_digestOf 47 = .ok (.iastore, 1) := by decide +kernel
theorem dX10_digestOf_48 : decode cX10_digestOf 48 = .ok (.iinc 2 1, 3) := by decide +kernel
theorem dX10_digestOf_51 : decode cX10_digestOf 51 = .ok (.iinc 3 1, 3) := by decide +kernel
theorem dX10_digestOf_54 : decode cX10_digestOf 54 = .ok (.goto (-29), 3) := by decide +kernel
theorem dX10_digestOf_57 : decode cX10_digestOf 57 = .ok (.aload_n 0, 1) := by decide +kernel
theorem dX10_digestOf_58 : decode cX10_digestOf 58 = .ok (.getfield 173, 3) := by decide +kernel
theorem dX10_digestOf_61 : decode cX10_digestOf 61 = .ok (.iload_n 2, 1) := by decide +kernel
theorem dX10_digestOf_62 : decode cX10_digestOf 62 = .ok (.bipush 44, 2) := by decide +kernel
theorem dX10_digestOf_64 : decode cX10_digestOf 64 = .ok (.iastore, 1) := by decide +kernel
theorem dX10_digestOf_65 : decode cX10_digestOf 65 = .ok (.iinc 2 1, 3) := by decide +kernel
theorem dX10_digestOf_68 : decode cX10_digestOf 68 = .ok (.iconst 0, 1) := by decide +kernel
theorem dX10_digestOf_69 : decode cX10_digestOf 69 = .ok (.istore_n 3, 1) := by decide +kernel
theorem dX10_digestOf_70 : decode cX10_digestOf 70 = .ok (.ldc 223, 2) := by decide +kernel
theorem dX10_digestOf_72 : decode cX10_digestOf 72 = .ok (.istore 4, 2) := by decide +kernel
theorem dX10_digestOf_74 : decode cX10_digestOf 74 = .ok (.iload 4, 2) := by decide +kernel
theorem dX10_digestOf_76 : decode cX10_digestOf 76 = .ok (.ifCond .le 55, 3) := by decide +kernel
theorem dX10_digestOf_79 : decode cX10_digestOf 79 = .ok (.iload_n 1, 1) := by decide +kernel
theorem dX10_digestOf_80 : decode cX10_digestOf 80 = .ok (.iload 4, 2) := by decide +kernel
theorem dX10_digestOf_82 : decode cX10_digestOf 82 = .ok (.idiv, 1) := by decide +kernel
theorem dX10_digestOf_83 : decode cX10_digestOf 83 = .ok (.bipush 10, 2) := by decide +kernel
theorem dX10_digestOf_85 : decode cX10_digestOf 85 = .ok (.irem, 1) := by decide +kernel
theorem dX10_digestOf_86 : decode cX10_digestOf 86 = .ok (.istore 5, 2) := by decide +kernel
theorem dX10_digestOf_88 : decode cX10_digestOf 88 = .ok (.iload_n 3, 1) := by decide +kernel
theorem dX10_digestOf_89 : decode cX10_digestOf 89 = .ok (.ifCond .ne 8, 3) := by decide +kernel
theorem dX10_digestOf_92 : decode cX10_digestOf 92 = .ok (.iload 5, 2) := by decide +kernel
theorem dX10_digestOf_94 : decode cX10_digestOf 94 = .ok (.ifCond .le 7, 3) := by decide +kernel
theorem dX10_digestOf_97 : decode cX10_digestOf 97 = .ok (.iconst 1, 1) := by decide +kernel
theorem dX10_digestOf_98 : decode cX10_digestOf 98 = .ok (.goto 4, 3) := by decide +kernel
theorem dX10_digestOf_101 : decode cX10_digestOf 101 = .ok (.iconst 0, 1) := by decide +kernel
theorem dX10_digestOf_102 : decode cX10_digestOf 102 = .ok (.istore_n 3, 1) := by decide +kernel
theorem dX10_digestOf_103 : decode cX10_digestOf 103 = .ok (.iload_n 3, 1) := by decide +kernel
theorem dX10_digestOf_104 : decode cX10_digestOf 104 = .ok (.ifCond .eq 17, 3) := by decide +kernel
theorem dX10_digestOf_107 : decode cX10_digestOf 107 = .ok (.aload_n 0, 1) := by decide +kernel
theorem dX10_digestOf_108 : decode cX10_digestOf 108 = .ok (.getfield 173, 3) := by decide +kernel
theorem dX10_digestOf_111 : decode cX10_digestOf 111 = .ok (.iload_n 2, 1) := by decide +kernel
theorem dX10_digestOf_112 : decode cX10_digestOf 112 = .ok (.bipush 48, 2) := by decide +kernel
theorem dX10_digestOf_114 : decode cX10_digestOf 114 = .ok (.iload 5, 2) := by decide +kernel
theorem dX10_digestOf_116 : decode cX10_digestOf 116 = .ok (.iadd, 1) := by decide +kernel
theorem dX10_digestOf_117 : decode cX10_digestOf 117 = .ok (.iastore, 1) := by decide +kernel
theorem dX10_digestOf_118 : decode cX10_digestOf 118 = .ok (.iinc 2 1, 3) := by decide +kernel
theorem dX10_digestOf_121 : decode cX10_digestOf 121 = .ok (.iload 4, 2) := by decide +kernel
theorem dX10_digestOf_123 : decode cX10_digestOf 123 = .ok (.bipush 10, 2) := by decide +kernel
theorem dX10_digestOf_125 : decode cX10_digestOf 125 = .ok (.idiv, 1) := by decide +kernel
theorem dX10_digestOf_126 : decode cX10_digestOf 126 = .ok (.istore 4, 2) := by decide +kernel
theorem dX10_digestOf_128 : decode cX10_digestOf 128 = .ok (.goto (-54), 3) := by decide +kernel
theorem dX10_digestOf_131 : decode cX10_digestOf 131 = .ok (.aload_n 0, 1) := by decide +kernel
theorem dX10_digestOf_132 : decode cX10_digestOf 132 = .ok (.getfield 173, 3) := by decide +kernel
theorem dX10_digestOf_135 : decode cX10_digestOf 135 = .ok (.iload_n 2, 1) := by decide +kernel
theorem dX10_digestOf_136 : decode cX10_digestOf 136 = .ok (.sipush 128, 3) := by decide +kernel
theorem dX10_digestOf_139 : decode cX10_digestOf 139 = .ok (.iastore, 1) := by decide +kernel
theorem dX10_digestOf_140 : decode cX10_digestOf 140 = .ok (.aload_n 0, 1) := by decide +kernel
theorem dX10_digestOf_141 : decode cX10_digestOf 141 = .ok (.getfield 173, 3) := by decide +kernel
theorem dX10_digestOf_144 : decode cX10_digestOf 144 = .ok (.bipush 62, 2) := by decide +kernel
theorem dX10_digestOf_146 : decode cX10_digestOf 146 = .ok (.bipush 8, 2) := by decide +kernel
theorem dX10_digestOf_148 : decode cX10_digestOf 148 = .ok (.iload_n 2, 1) := by decide +kernel
theorem dX10_digestOf_149 : decode cX10_digestOf 149 = .ok (.imul, 1) := by decide +kernel
theorem dX10_digestOf_150 : decode cX10_digestOf 150 = .ok (.bipush 8, 2) := by decide +kernel
theorem dX10_digestOf_152 : decode cX10_digestOf 152 = .ok (.ishr, 1) := by decide +kernel
theorem dX10_digestOf_153 : decode cX10_digestOf 153 = .ok (.iastore, 1) := by decide +kernel
theorem dX10_digestOf_154 : decode cX10_digestOf 154 = .ok (.aload_n 0, 1) := by decide +kernel
theorem dX10_digestOf_155 : decode cX10_digestOf 155 = .ok (.getfield 173, 3) := by decide +kernel
theorem dX10_digestOf_158 : decode cX10_digestOf 158 = .ok (.bipush 63, 2) := by decide +kernel
theorem dX10_digestOf_160 : decode cX10_digestOf 160 = .ok (.bipush 8, 2) := by decide +kernel
theorem dX10_digestOf_162 : decode cX10_digestOf 162 = .ok (.iload_n 2, 1) := by decide +kernel
theorem dX10_digestOf_163 : decode cX10_digestOf 163 = .ok (.imul, 1) := by decide +kernel
theorem dX10_digestOf_164 : decode cX10_digestOf 164 = .ok (.sipush 255, 3) := by decide +kernel
theorem dX10_digestOf_167 : decode cX10_digestOf 167 = .ok (.iand, 1) := by decide +kernel
theorem dX10_digestOf_168 : decode cX10_digestOf 168 = .ok (.iastore, 1) := by decide +kernel
theorem dX10_digestOf_169 : decode cX10_digestOf 169 = .ok (.iconst 0, 1) := by decide +kernel
theorem dX10_digestOf_170 : decode cX10_digestOf 170 = .ok (.istore 4, 2) := by decide +kernel
theorem dX10_digestOf_172 : decode cX10_digestOf 172 = .ok (.iload 4, 2) := by decide +kernel
theorem dX10_digestOf_174 : decode cX10_digestOf 174 = .ok (.bipush 16, 2) := by decide +kernel
theorem dX10_digestOf_176 : decode cX10_digestOf 176 = .ok (.if_icmp .ge 70, 3) := by decide +kernel
theorem dX10_digestOf_179 : decode cX10_digestOf 179 = .ok (.aload_n 0, 1) := by decide +kernel
theorem dX10_digestOf_180 : decode cX10_digestOf 180 = .ok (.getfield 167, 3) := by decide +kernel
theorem dX10_digestOf_183 : decode cX10_digestOf 183 = .ok (.iload 4, 2) := by decide +kernel
theorem dX10_digestOf_185 : decode cX10_digestOf 185 = .ok (.aload_n 0, 1) := by decide +kernel
theorem dX10_digestOf_186 : decode cX10_digestOf 186 = .ok (.getfield 173, 3) := by decide +kernel
theorem dX10_digestOf_189 : decode cX10_digestOf 189 = .ok (.iconst 4, 1) := by decide +kernel
theorem dX10_digestOf_190 : decode cX10_digestOf 190 = .ok (.iload 4, 2) := by decide +kernel
theorem dX10_digestOf_192 : decode cX10_digestOf 192 = .ok (.imul, 1) := by decide +kernel
theorem dX10_digestOf_193 : decode cX10_digestOf 193 = .ok (.iaload, 1) := by decide +kernel
theorem dX10_digestOf_194 : decode cX10_digestOf 194 = .ok (.bipush 24, 2) := by decide +kernel
theorem dX10_digestOf_196 : decode cX10_digestOf 196 = .ok (.ishl, 1) := by decide +kernel
theorem dX10_digestOf_197 : decode cX10_digestOf 197 = .ok (.aload_n 0, 1) := by decide +kernel
theorem dX10_digestOf_198 : decode cX10_digestOf 198 = .ok (.getfield 173, 3) := by decide +kernel
theorem dX10_digestOf_201 : decode cX10_digestOf 201 = .ok (.iconst 4, 1) := by decide +kernel
theorem dX10_digestOf_202 : decode cX10_digestOf 202 = .ok (.iload 4, 2) := by decide +kernel
theorem dX10_digestOf_204 : decode cX10_digestOf 204 = .ok (.imul, 1) := by decide +kernel
theorem dX10_digestOf_205 : decode cX10_digestOf 205 = .ok (.iconst 1, 1) := by decide +kernel
theorem dX10_digestOf_206 : decode cX10_digestOf 206 = .ok (.iadd, 1) := by decide +kernel
theorem dX10_digestOf_207 : decode cX10_digestOf 207 = .ok (.iaload, 1) := by decide +kernel
theorem dX10_digestOf_208 : decode cX10_digestOf 208 = .ok (.bipush 16, 2) := by decide +kernel
theorem dX10_digestOf_210 : decode cX10_digestOf 210 = .ok (.ishl, 1) := by decide +kernel
theorem dX10_digestOf_211 : decode cX10_digestOf 211 = .ok (.ior, 1) := by decide +kernel
theorem dX10_digestOf_212 : decode cX10_digestOf 212 = .ok (.aload_n 0, 1) := by decide +kernel
theorem dX10_digestOf_213 : decode cX10_digestOf 213 = .ok (.getfield 173, 3) := by decide +kernel
theorem dX10_digestOf_216 : decode cX10_digestOf 216 = .ok (.iconst 4, 1) := by decide +kernel
theorem dX10_digestOf_217 : decode cX10_digestOf 217 = .ok (.iload 4, 2) := by decide +kernel
theorem dX10_digestOf_219 : decode cX10_digestOf 219 = .ok (.imul, 1) := by decide +kernel
theorem dX10_digestOf_220 : decode cX10_digestOf 220 = .ok (.iconst 2, 1) := by decide +kernel
theorem dX10_digestOf_221 : decode cX10_digestOf 221 = .ok (.iadd, 1) := by decide +kernel
theorem dX10_digestOf_222 : decode cX10_digestOf 222 = .ok (.iaload, 1) := by decide +kernel
theorem dX10_digestOf_223 : decode cX10_digestOf 223 = .ok (.bipush 8, 2) := by decide +kernel
theorem dX10_digestOf_225 : decode cX10_digestOf 225 = .ok (.ishl, 1) := by decide +kernel
theorem dX10_digestOf_226 : decode cX10_digestOf 226 = .ok (.ior, 1) := by decide +kernel
theorem dX10_digestOf_227 : decode cX10_digestOf 227 = .ok (.aload_n 0, 1) := by decide +kernel
theorem dX10_digestOf_228 : decode cX10_digestOf 228 = .ok (.getfield 173, 3) := by decide +kernel
theorem dX10_digestOf_231 : decode cX10_digestOf 231 = .ok (.iconst 4, 1) := by decide +kernel
theorem dX10_digestOf_232 : decode cX10_digestOf 232 = .ok (.iload 4, 2) := by decide +kernel
theorem dX10_digestOf_234 : decode cX10_digestOf 234 = .ok (.imul, 1) := by decide +kernel
theorem dX10_digestOf_235 : decode cX10_digestOf 235 = .ok (.iconst 3, 1) := by decide +kernel
theorem dX10_digestOf_236 : decode cX10_digestOf 236 = .ok (.iadd, 1) := by decide +kernel
theorem dX10_digestOf_237 : decode cX10_digestOf 237 = .ok (.iaload, 1) := by decide +kernel
theorem dX10_digestOf_238 : decode cX10_digestOf 238 = .ok (.ior, 1) := by decide +kernel
theorem dX10_digestOf_239 : decode cX10_digestOf 239 = .ok (.iastore, 1) := by decide +kernel
theorem dX10_digestOf_240 : decode cX10_digestOf 240 = .ok (.iinc 4 1, 3) := by decide +kernel
theorem dX10_digestOf_243 : decode cX10_digestOf 243 = .ok (.goto (-71), 3) := by decide +kernel
theorem dX10_digestOf_246 : decode cX10_digestOf 246 = .ok (.bipush 16, 2) := by decide +kernel
theorem dX10_digestOf_248 : decode cX10_digestOf 248 = .ok (.istore 4, 2) := by decide +kernel
theorem dX10_digestOf_250 : decode cX10_digestOf 250 = .ok (.iload 4, 2) := by decide +kernel
theorem dX10_digestOf_252 : decode cX10_digestOf 252 = .ok (.bipush 64, 2) := by decide +kernel
theorem dX10_digestOf_254 : decode cX10_digestOf 254 = .ok (.if_icmp .ge 137, 3) := by decide +kernel
theorem dX10_digestOf_257 : decode cX10_digestOf 257 = .ok (.aload_n 0, 1) := by decide +kernel
theorem dX10_digestOf_258 : decode cX10_digestOf 258 = .ok (.aload_n 0, 1) := by decide +kernel
theorem dX10_digestOf_259 : decode cX10_digestOf 259 = .ok (.getfield 167, 3) := by decide +kernel
theorem dX10_digestOf_262 : decode cX10_digestOf 262 = .ok (.iload 4, 2) := by decide +kernel
theorem dX10_digestOf_264 : decode cX10_digestOf 264 = .ok (.bipush 15, 2) := by decide +kernel
theorem dX10_digestOf_266 : decode cX10_digestOf 266 = .ok (.isub, 1) := by decide +kernel
theorem dX10_digestOf_267 : decode cX10_digestOf 267 = .ok (.iaload, 1) := by decide +kernel
theorem dX10_digestOf_268 : decode cX10_digestOf 268 = .ok (.bipush 7, 2) := by decide +kernel
theorem dX10_digestOf_270 : decode cX10_digestOf 270 = .ok (.invokevirtual 224, 3) := by decide +kernel
theorem dX10_digestOf_273 : decode cX10_digestOf 273 = .ok (.aload_n 0, 1) := by decide +kernel
theorem dX10_digestOf_274 : decode cX10_digestOf 274 = .ok (.aload_n 0, 1) := by decide +kernel
theorem dX10_digestOf_275 : decode cX10_digestOf 275 = .ok (.getfield 167, 3) := by decide +kernel
theorem dX10_digestOf_278 : decode cX10_digestOf 278 = .ok (.iload 4, 2) := by decide +kernel
theorem dX10_digestOf_280 : decode cX10_digestOf 280 = .ok (.bipush 15, 2) := by decide +kernel
theorem dX10_digestOf_282 : decode cX10_digestOf 282 = .ok (.isub, 1) := by decide +kernel
theorem dX10_digestOf_283 : decode cX10_digestOf 283 = .ok (.iaload, 1) := by decide +kernel
theorem dX10_digestOf_284 : decode cX10_digestOf 284 = .ok (.bipush 18, 2) := by decide +kernel
theorem dX10_digestOf_286 : decode cX10_digestOf 286 = .ok (.invokevirtual 224, 3) := by decide +kernel
theorem dX10_digestOf_289 : decode cX10_digestOf 289 = .ok (.ixor, 1) := by decide +kernel
theorem dX10_digestOf_290 : decode cX10_digestOf 290 = .ok (.aload_n 0, 1) := by decide +kernel
theorem dX10_digestOf_291 : decode cX10_digestOf 291 = .ok (.getfield 167, 3) := by decide +kernel
theorem dX10_digestOf_294 : decode cX10_digestOf 294 = .ok (.iload 4, 2) := by decide +kernel
theorem dX10_digestOf_296 : decode cX10_digestOf 296 = .ok (.bipush 15, 2) := by decide +kernel
theorem dX10_digestOf_298 : decode cX10_digestOf 298 = .ok (.isub, 1) := by decide +kernel
theorem dX10_digestOf_299 : decode cX10_digestOf 299 = .ok (.iaload, 1) := by decide +kernel
theorem dX10_digestOf_300 : decode cX10_digestOf 300 = .ok (.iconst 3, 1) := by decide +kernel
theorem dX10_digestOf_301 : decode cX10_digestOf 301 = .ok (.iushr, 1) := by decide +kernel
theorem dX10_digestOf_302 : decode cX10_digestOf 302 = .ok (.ixor, 1) := by decide +kernel
theorem dX10_digestOf_303 : decode cX10_digestOf 303 = .ok (.istore 5, 2) := by decide +kernel
theorem dX10_digestOf_305 : decode cX10_digestOf 305 = .ok (.aload_n 0, 1) := by decide +kernel
theorem dX10_digestOf_306 : decode cX10_digestOf 306 = .ok (.aload_n 0, 1) := by decide +kernel
theorem dX10_digestOf_307 : decode cX10_digestOf 307 = .ok (.getfield 167, 3) := by decide +kernel
theorem dX10_digestOf_310 : decode cX10_digestOf 310 = .ok (.iload 4, 2) := by decide +kernel
theorem dX10_digestOf_312 : decode cX10_digestOf 312 = .ok (.iconst 2, 1) := by decide +kernel
theorem dX10_digestOf_313 : decode cX10_digestOf 313 = .ok (.isub, 1) := by decide +kernel
theorem dX10_digestOf_314 : decode cX10_digestOf 314 = .ok (.iaload, 1) := by decide +kernel
theorem dX10_digestOf_315 : decode cX10_digestOf 315 = .ok (.bipush 17, 2) := by decide +kernel
theorem dX10_digestOf_317 : decode cX10_digestOf 317 = .ok (.invokevirtual 224, 3) := by decide +kernel
theorem dX10_digestOf_320 : decode cX10_digestOf 320 = .ok (.aload_n 0, 1) := by decide +kernel
theorem dX10_digestOf_321 : decode cX10_digestOf 321 = .ok (.aload_n 0, 1) := by decide +kernel
theorem dX10_digestOf_322 : decode cX10_digestOf 322 = .ok (.getfield 167, 3) := by decide +kernel
theorem dX10_digestOf_325 : decode cX10_digestOf 325 = .ok (.iload 4, 2) := by decide +kernel
theorem dX10_digestOf_327 : decode cX10_digestOf 327 = .ok (.iconst 2, 1) := by decide +kernel
theorem dX10_digestOf_328 : decode cX10_digestOf 328 = .ok (.isub, 1) := by decide +kernel
theorem dX10_digestOf_329 : decode cX10_digestOf 329 = .ok (.iaload, 1) := by decide +kernel
theorem dX10_digestOf_330 : decode cX10_digestOf 330 = .ok (.bipush 19, 2) := by decide +kernel
theorem dX10_digestOf_332 : decode cX10_digestOf 332 = .ok (.invokevirtual 224, 3) := by decide +kernel
theorem dX10_digestOf_335 : decode cX10_digestOf 335 = .ok (.ixor, 1) := by decide +kernel
theorem dX10_digestOf_336 : decode cX10_digestOf 336 = .ok (.aload_n 0, 1) := by decide +kernel
theorem dX10_digestOf_337 : decode cX10_digestOf 337 = .ok (.getfield 167, 3) := by decide +kernel
theorem dX10_digestOf_340 : decode cX10_digestOf 340 = .ok (.iload 4, 2) := by decide +kernel
theorem dX10_digestOf_342 : decode cX10_digestOf 342 = .ok (.iconst 2, 1) := by decide +kernel
theorem dX10_digestOf_343 : decode cX10_digestOf 343 = .ok (.isub, 1) := by decide +kernel
theorem dX10_digestOf_344 : decode cX10_digestOf 344 = .ok (.iaload, 1) := by decide +kernel
theorem dX10_digestOf_345 : decode cX10_digestOf 345 = .ok (.bipush 10, 2) := by decide +kernel
theorem dX10_digestOf_347 : decode cX10_digestOf 347 = .ok (.iushr, 1) := by decide +kernel
theorem dX10_digestOf_348 : decode cX10_digestOf 348 = .ok (.ixor, 1) := by decide +kernel
theorem dX10_digestOf_349 : decode cX10_digestOf 349 = .ok (.istore 6, 2) := by decide +kernel
theorem dX10_digestOf_351 : decode cX10_digestOf 351 = .ok (.aload_n 0, 1) := by decide +kernel
theorem dX10_digestOf_352 : decode cX10_digestOf 352 = .ok (.getfield 167, 3) := by decide +kernel
theorem dX10_digestOf_355 : decode cX10_digestOf 355 = .ok (.iload 4, 2) := by decide +kernel
theorem dX10_digestOf_357 : decode cX10_digestOf 357 = .ok (.aload_n 0, 1) := by decide +kernel
theorem dX10_digestOf_358 : decode cX10_digestOf 358 = .ok (.getfield 167, 3) := by decide +kernel
theorem dX10_digestOf_361 : decode cX10_digestOf 361 = .ok (.iload 4, 2) := by decide +kernel
theorem dX10_digestOf_363 : decode cX10_digestOf 363 = .ok (.bipush 16, 2) := by decide +kernel
theorem dX10_digestOf_365 : decode cX10_digestOf 365 = .ok (.isub, 1) := by decide +kernel
theorem dX10_digestOf_366 : decode cX10_digestOf 366 = .ok (.iaload, 1) := by decide +kernel
theorem dX10_digestOf_367 : decode cX10_digestOf 367 = .ok (.iload 5, 2) := by decide +kernel
theorem dX10_digestOf_369 : decode cX10_digestOf 369 = .ok (.iadd, 1) := by decide +kernel
theorem dX10_digestOf_370 : decode cX10_digestOf 370 = .ok (.aload_n 0, 1) := by decide +kernel
theorem dX10_digestOf_371 : decode cX10_digestOf 371 = .ok (.getfield 167, 3) := by decide +kernel
theorem dX10_digestOf_374 : decode cX10_digestOf 374 = .ok (.iload 4, 2) := by decide +kernel
theorem dX10_digestOf_376 : decode cX10_digestOf 376 = .ok (.bipush 7, 2) := by decide +kernel
theorem dX10_digestOf_378 : decode cX10_digestOf 378 = .ok (.isub, 1) := by decide +kernel
theorem dX10_digestOf_379 : decode cX10_digestOf 379 = .ok (.iaload, 1) := by decide +kernel
theorem dX10_digestOf_380 : decode cX10_digestOf 380 = .ok (.iadd, 1) := by decide +kernel
theorem dX10_digestOf_381 : decode cX10_digestOf 381 = .ok (.iload 6, 2) := by decide +kernel
theorem dX10_digestOf_383 : decode cX10_digestOf 383 = .ok (.iadd, 1) := by decide +kernel
theorem dX10_digestOf_384 : decode cX10_digestOf 384 = .ok (.iastore, 1) := by decide +kernel
theorem dX10_digestOf_385 : decode cX10_digestOf 385 = .ok (.iinc 4 1, 3) := by decide +kernel
theorem dX10_digestOf_388 : decode cX10_digestOf 388 = .ok (.goto (-138), 3) := by decide +kernel
theorem dX10_digestOf_391 : decode cX10_digestOf 391 = .ok (.iconst 0, 1) := by decide +kernel
theorem dX10_digestOf_392 : decode cX10_digestOf 392 = .ok (.istore 4, 2) := by decide +kernel
theorem dX10_digestOf_394 : decode cX10_digestOf 394 = .ok (.iload 4, 2) := by decide +kernel
theorem dX10_digestOf_396 : decode cX10_digestOf 396 = .ok (.bipush 8, 2) := by decide +kernel
theorem dX10_digestOf_398 : decode cX10_digestOf 398 = .ok (.if_icmp .ge 23, 3) := by decide +kernel
theorem dX10_digestOf_401 : decode cX10_digestOf 401 = .ok (.aload_n 0, 1) := by decide +kernel
theorem dX10_digestOf_402 : decode cX10_digestOf 402 = .ok (.getfield 170, 3) := by decide +kernel
theorem dX10_digestOf_405 : decode cX10_digestOf 405 = .ok (.iload 4, 2) := by decide +kernel
theorem dX10_digestOf_407 : decode cX10_digestOf 407 = .ok (.aload_n 0, 1) := by decide +kernel
theorem dX10_digestOf_408 : decode cX10_digestOf 408 = .ok (.getfield 164, 3) := by decide +kernel
theorem dX10_digestOf_411 : decode cX10_digestOf 411 = .ok (.iload 4, 2) := by decide +kernel
theorem dX10_digestOf_413 : decode cX10_digestOf 413 = .ok (.iaload, 1) := by decide +kernel
theorem dX10_digestOf_414 : decode cX10_digestOf 414 = .ok (.iastore, 1) := by decide +kernel
theorem dX10_digestOf_415 : decode cX10_digestOf 415 = .ok (.iinc 4 1, 3) := by decide +kernel
theorem dX10_digestOf_418 : decode cX10_digestOf 418 = .ok (.goto (-24), 3) := by decide +kernel
theorem dX10_digestOf_421 : decode cX10_digestOf 421 = .ok (.iconst 0, 1) := by decide +kernel
theorem dX10_digestOf_422 : decode cX10_digestOf 422 = .ok (.istore 4, 2) := by decide +kernel
theorem dX10_digestOf_424 : decode cX10_digestOf 424 = .ok (.iload 4, 2) := by decide +kernel
theorem dX10_digestOf_426 : decode cX10_digestOf 426 = .ok (.bipush 64, 2) := by decide +kernel
theorem dX10_digestOf_428 : decode cX10_digestOf 428 = .ok (.if_icmp .ge 15, 3) := by decide +kernel
theorem dX10_digestOf_431 : decode cX10_digestOf 431 = .ok (.aload_n 0, 1) := by decide +kernel
theorem dX10_digestOf_432 : decode cX10_digestOf 432 = .ok (.iload 4, 2) := by decide +kernel
theorem dX10_digestOf_434 : decode cX10_digestOf 434 = .ok (.invokevirtual 227, 3) := by decide +kernel
theorem dX10_digestOf_437 : decode cX10_digestOf 437 = .ok (.iinc 4 1, 3) := by decide +kernel
theorem dX10_digestOf_440 : decode cX10_digestOf 440 = .ok (.goto (-16), 3) := by decide +kernel
theorem dX10_digestOf_443 : decode cX10_digestOf 443 = .ok (.iconst 0, 1) := by decide +kernel
theorem dX10_digestOf_444 : decode cX10_digestOf 444 = .ok (.istore 4, 2) := by decide +kernel
theorem dX10_digestOf_446 : decode cX10_digestOf 446 = .ok (.iload 4, 2) := by decide +kernel
theorem dX10_digestOf_448 : decode cX10_digestOf 448 = .ok (.bipush 32, 2) := by decide +kernel
theorem dX10_digestOf_450 : decode cX10_digestOf 450 = .ok (.if_icmp .ge 50, 3) := by decide +kernel
theorem dX10_digestOf_453 : decode cX10_digestOf 453 = .ok (.aload_n 0, 1) := by decide +kernel
theorem dX10_digestOf_454 : decode cX10_digestOf 454 = .ok (.getfield 176, 3) := by decide +kernel
theorem dX10_digestOf_457 : decode cX10_digestOf 457 = .ok (.iload 4, 2) := by decide +kernel
theorem dX10_digestOf_459 : decode cX10_digestOf 459 = .ok (.aload_n 0, 1) := by decide +kernel
theorem dX10_digestOf_460 : decode cX10_digestOf 460 = .ok (.getfield 170, 3) := by decide +kernel
theorem dX10_digestOf_463 : decode cX10_digestOf 463 = .ok (.iload 4, 2) := by decide +kernel
theorem dX10_digestOf_465 : decode cX10_digestOf 465 = .ok (.iconst 4, 1) := by decide +kernel
theorem dX10_digestOf_466 : decode cX10_digestOf 466 = .ok (.idiv, 1) := by decide +kernel
theorem dX10_digestOf_467 : decode cX10_digestOf 467 = .ok (.iaload, 1) := by decide +kernel
theorem dX10_digestOf_468 : decode cX10_digestOf 468 = .ok (.aload_n 0, 1) := by decide +kernel
theorem dX10_digestOf_469 : decode cX10_digestOf 469 = .ok (.getfield 164, 3) := by decide +kernel
theorem dX10_digestOf_472 : decode cX10_digestOf 472 = .ok (.iload 4, 2) := by decide +kernel
theorem dX10_digestOf_474 : decode cX10_digestOf 474 = .ok (.iconst 4, 1) := by decide +kernel
theorem dX10_digestOf_475 : decode cX10_digestOf 475 = .ok (.idiv, 1) := by decide +kernel
theorem dX10_digestOf_476 : decode cX10_digestOf 476 = .ok (.iaload, 1) := by decide +kernel
theorem dX10_digestOf_477 : decode cX10_digestOf 477 = .ok (.iadd, 1) := by decide +kernel
theorem dX10_digestOf_478 : decode cX10_digestOf 478 = .ok (.bipush 24, 2) := by decide +kernel
theorem dX10_digestOf_480 : decode cX10_digestOf 480 = .ok (.bipush 8, 2) := by decide +kernel
theorem dX10_digestOf_482 : decode cX10_digestOf 482 = .ok (.iload 4, 2) := by decide +kernel
theorem dX10_digestOf_484 : decode cX10_digestOf 484 = .ok (.iconst 4, 1) := by decide +kernel
theorem dX10_digestOf_485 : decode cX10_digestOf 485 = .ok (.irem, 1) := by decide +kernel
theorem dX10_digestOf_486 : decode cX10_digestOf 486 = .ok (.imul, 1) := by decide +kernel
theorem dX10_digestOf_487 : decode cX10_digestOf 487 = .ok (.isub, 1) := by decide +kernel
theorem dX10_digestOf_488 : decode cX10_digestOf 488 = .ok (.ishr, 1) := by decide +kernel
theorem dX10_digestOf_489 : decode cX10_digestOf 489 = .ok (.sipush 255, 3) := by decide +kernel
theorem dX10_digestOf_492 : decode cX10_digestOf 492 = .ok (.iand, 1) := by decide +kernel
theorem dX10_digestOf_493 : decode cX10_digestOf 493 = .ok (.iastore, 1) := by decide +kernel
theorem dX10_digestOf_494 : decode cX10_digestOf 494 = .ok (.iinc 4 1, 3) := by decide +kernel
theorem dX10_digestOf_497 : decode cX10_digestOf 497 = .ok (.goto (-51), 3) := by decide +kernel
theorem dX10_digestOf_500 : decode cX10_digestOf 500 = .ok (.return_, 1) := by decide +kernel
abbrev cX10_turned : ByteArray := prog_13_method_16_code
def yX10_turned : MethodName := ⟨RX10, "turned", "(II)I"⟩
theorem dX10_turned_0 : decode cX10_turned 0 = .ok (.iload_n 1, 1) := by decide +kernel
theorem dX10_turned_1 : decode cX10_turned 1 = .ok (.iload_n 2, 1) := by decide +kernel
theorem dX10_turned_2 : decode cX10_turned 2 = .ok (.iushr, 1) := by decide +kernel
theorem dX10_turned_3 : decode cX10_turned 3 = .ok (.iload_n 1, 1) := by decide +kernel
theorem dX10_turned_4 : decode cX10_turned 4 = .ok (.bipush 32, 2) := by decide +kernel
theorem dX10_turned_6 : decode cX10_turned 6 = .ok (.iload_n 2, 1) := by decide +kernel
theorem dX10_turned_7 : decode cX10_turned 7 = .ok (.isub, 1) := by decide +kernel
theorem dX10_turned_8 : decode cX10_turned 8 = .ok (.ishl, 1) := by decide +kernel
theorem dX10_turned_9 : decode cX10_turned 9 = .ok (.ior, 1) := by decide +kernel
theorem dX10_turned_10 : decode cX10_turned 10 = .ok (.ireturn, 1) := by decide +kernel
abbrev cX10_round : ByteArray := prog_13_method_18_code
def yX10_round : MethodName := ⟨RX10, "round", "(I)V"⟩
theorem dX10_round_0 : decode cX10_round 0 = .ok (.aload_n 0, 1) := by decide +kernel
theorem dX10_round_1 : decode cX10_round 1 = .ok (.getfield 170, 3) := by decide +kernel
theorem dX10_round_4 : decode cX10_round 4 = .ok (.iconst 0, 1) := by decide +kernel
theorem dX10_round_5 : decode cX10_round 5 = .ok (.iaload, 1) := by decide +kernel
theorem dX10_round_6 : decode cX10_round 6 = .ok (.istore_n 2, 1) := by decide +kernel
theorem dX10_round_7 : decode cX10_round 7 = .ok (.aload_n 0, 1) := by decide +kernel
theorem dX10_round_8 : decode cX10_round 8 = .ok (.getfield 170, 3) := by decide +kernel
theorem dX10_round_11 : decode cX10_round 11 = .ok (.iconst 4, 1) := by decide +kernel
theorem dX10_round_12 : decode cX10_round 12 = .ok (.iaload, 1) := by decide +kernel
theorem dX10_round_13 : decode cX10_round 13 = .ok (.istore_n 3, 1) := by decide +kernel
theorem dX10_round_14 : decode cX10_round 14 = .ok (.aload_n 0, 1) := by decide +kernel
theorem dX10_round_15 : decode cX10_round 15 = .ok (.getfield 170, 3) := by decide +kernel
theorem dX10_round_18 : decode cX10_round 18 = .ok (.bipush 7, 2) := by decide +kernel
theorem dX10_round_20 : decode cX10_round 20 = .ok (.iaload, 1) := by decide +kernel
theorem dX10_round_21 : decode cX10_round 21 = .ok (.aload_n 0, 1) := by decide +kernel
theorem dX10_round_22 : decode cX10_round 22 = .ok (.iload_n 3, 1) := by decide +kernel
theorem dX10_round_23 : decode cX10_round 23 = .ok (.bipush 6, 2) := by decide +kernel
theorem dX10_round_25 : decode cX10_round 25 = .ok (.invokevirtual 224, 3) := by decide +kernel
theorem dX10_round_28 : decode cX10_round 28 = .ok (.aload_n 0, 1) := by decide +kernel
theorem dX10_round_29 : decode cX10_round 29 = .ok (.iload_n 3, 1) := by decide +kernel
theorem dX10_round_30 : decode cX10_round 30 = .ok (.bipush 11, 2) := by decide +kernel
theorem dX10_round_32 : decode cX10_round 32 = .ok (.invokevirtual 224, 3) := by decide +kernel
theorem dX10_round_35 : decode cX10_round 35 = .ok (.ixor, 1) := by decide +kernel
theorem dX10_round_36 : decode cX10_round 36 = .ok (.aload_n 0, 1) := by decide +kernel
theorem dX10_round_37 : decode cX10_round 37 = .ok (.iload_n 3, 1) := by decide +kernel
theorem dX10_round_38 : decode cX10_round 38 = .ok (.bipush 25, 2) := by decide +kernel
theorem dX10_round_40 : decode cX10_round 40 = .ok (.invokevirtual 224, 3) := by decide +kernel
theorem dX10_round_43 : decode cX10_round 43 = .ok (.ixor, 1) := by decide +kernel
theorem dX10_round_44 : decode cX10_round 44 = .ok (.iadd, 1) := by decide +kernel
theorem dX10_round_45 : decode cX10_round 45 = .ok (.iload_n 3, 1) := by decide +kernel
theorem dX10_round_46 : decode cX10_round 46 = .ok (.aload_n 0, 1) := by decide +kernel
theorem dX10_round_47 : decode cX10_round 47 = .ok (.getfield 170, 3) := by decide +kernel
theorem dX10_round_50 : decode cX10_round 50 = .ok (.iconst 5, 1) := by decide +kernel
theorem dX10_round_51 : decode cX10_round 51 = .ok (.iaload, 1) := by decide +kernel
theorem dX10_round_52 : decode cX10_round 52 = .ok (.iand, 1) := by decide +kernel
theorem dX10_round_53 : decode cX10_round 53 = .ok (.iload_n 3, 1) := by decide +kernel
theorem dX10_round_54 : decode cX10_round 54 = .ok (.iconst (-1), 1) := by decide +kernel
theorem dX10_round_55 : decode cX10_round 55 = .ok (.ixor, 1) := by decide +kernel
theorem dX10_round_56 : decode cX10_round 56 = .ok (.aload_n 0, 1) := by decide +kernel
theorem dX10_round_57 : decode cX10_round 57 = .ok (.getfield 170, 3) := by decide +kernel
theorem dX10_round_60 : decode cX10_round 60 = .ok (.bipush 6, 2) := by decide +kernel
theorem dX10_round_62 : decode cX10_round 62 = .ok (.iaload, 1) := by decide +kernel
theorem dX10_round_63 : decode cX10_round 63 = .ok (.iand, 1) := by decide +kernel
theorem dX10_round_64 : decode cX10_round 64 = .ok (.ixor, 1) := by decide +kernel
theorem dX10_round_65 : decode cX10_round 65 = .ok (.iadd, 1) := by decide +kernel
theorem dX10_round_66 : decode cX10_round 66 = .ok (.aload_n 0, 1) := by decide +kernel
theorem dX10_round_67 : decode cX10_round 67 = .ok (.getfield 153, 3) := by decide +kernel
theorem dX10_round_70 : decode cX10_round 70 = .ok (.iload_n 1, 1) := by decide +kernel
theorem dX10_round_71 : decode cX10_round 71 = .ok (.iaload, 1) := by decide +kernel
theorem dX10_round_72 : decode cX10_round 72 = .ok (.iadd, 1) := by decide +kernel
theorem dX10_round_73 : decode cX10_round 73 = .ok (.aload_n 0, 1) := by decide +kernel
theorem dX10_round_74 : decode cX10_round 74 = .ok (.getfield 167, 3) := by decide +kernel
theorem dX10_round_77 : decode cX10_round 77 = .ok (.iload_n 1, 1) := by decide +kernel
theorem dX10_round_78 : decode cX10_round 78 = .ok (.iaload, 1) := by decide +kernel
theorem dX10_round_79 : decode cX10_round 79 = .ok (.iadd, 1) := by decide +kernel
theorem dX10_round_80 : decode cX10_round 80 = .ok (.istore 4, 2) := by decide +kernel
theorem dX10_round_82 : decode cX10_round 82 = .ok (.aload_n 0, 1) := by decide +kernel
theorem dX10_round_83 : decode cX10_round 83 = .ok (.iload_n 2, 1) := by decide +kernel
theorem dX10_round_84 : decode cX10_round 84 = .ok (.iconst 2, 1) := by decide +kernel
theorem dX10_round_85 : decode cX10_round 85 = .ok (.invokevirtual 224, 3) := by decide +kernel
theorem dX10_round_88 : decode cX10_round 88 = .ok (.aload_n 0, 1) := by decide +kernel
theorem dX10_round_89 : decode cX10_round 89 = .ok (.iload_n 2, 1) := by decide +kernel
theorem dX10_round_90 : decode cX10_round 90 = .ok (.bipush 13, 2) := by decide +kernel
theorem dX10_round_92 : decode cX10_round 92 = .ok (.invokevirtual 224, 3) := by decide +kernel
theorem dX10_round_95 : decode cX10_round 95 = .ok (.ixor, 1) := by decide +kernel
theorem dX10_round_96 : decode cX10_round 96 = .ok (.aload_n 0, 1) := by decide +kernel
theorem dX10_round_97 : decode cX10_round 97 = .ok (.iload_n 2, 1) := by decide +kernel
theorem dX10_round_98 : decode cX10_round 98 = .ok (.bipush 22, 2) := by decide +kernel
theorem dX10_round_100 : decode cX10_round 100 = .ok (.invokevirtual 224, 3) := by decide +kernel
theorem dX10_round_103 : decode cX10_round 103 = .ok (.ixor, 1) := by decide +kernel
theorem dX10_round_104 : decode cX10_round 104 = .ok (.iload_n 2, 1) := by decide +kernel
theorem dX10_round_105 : decode cX10_round 105 = .ok (.aload_n 0, 1) := by decide +kernel
theorem dX10_round_106 : decode cX10_round 106 = .ok (.getfield 170, 3) := by decide +kernel
theorem dX10_round_109 : decode cX10_round 109 = .ok (.iconst 1, 1) := by decide +kernel
theorem dX10_round_110 : decode cX10_round 110 = .ok (.iaload, 1) := by decide +kernel
theorem dX10_round_111 : decode cX10_round 111 = .ok (.iand, 1) := by decide +kernel
theorem dX10_round_112 : decode cX10_round 112 = .ok (.iload_n 2, 1) := by decide +kernel
theorem dX10_round_113 : decode cX10_round 113 = .ok (.aload_n 0, 1) := by decide +kernel
theorem dX10_round_114 : decode cX10_round 114 = .ok (.getfield 170, 3) := by decide +kernel
theorem dX10_round_117 : decode cX10_round 117 = .ok (.iconst 2, 1) := by decide +kernel
theorem dX10_round_118 : decode cX10_round 118 = .ok (.iaload, 1) := by decide +kernel
theorem dX10_round_119 : decode cX10_round 119 = .ok (.iand, 1) := by decide +kernel
theorem dX10_round_120 : decode cX10_round 120 = .ok (.ixor, 1) := by decide +kernel
theorem dX10_round_121 : decode cX10_round 121 = .ok (.aload_n 0, 1) := by decide +kernel
theorem dX10_round_122 : decode cX10_round 122 = .ok (.getfield 170, 3) := by decide +kernel
theorem dX10_round_125 : decode cX10_round 125 = .ok (.iconst 1, 1) := by decide +kernel
theorem dX10_round_126 : decode cX10_round 126 = .ok (.iaload, 1) := by decide +kernel
theorem dX10_round_127 : decode cX10_round 127 = .ok (.aload_n 0, 1) := by decide +kernel
theorem dX10_round_128 : decode cX10_round 128 = .ok (.getfield 170, 3) := by decide +kernel
theorem dX10_round_131 : decode cX10_round 131 = .ok (.iconst 2, 1) := by decide +kernel
theorem dX10_round_132 : decode cX10_round 132 = .ok (.iaload, 1) := by decide +kernel
theorem dX10_round_133 : decode cX10_round 133 = .ok (.iand, 1) := by decide +kernel
theorem dX10_round_134 : decode cX10_round 134 = .ok (.ixor, 1) := by decide +kernel
