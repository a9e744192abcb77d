set_option maxRecDepth 100000
theorem dX1_ballot_63 : decode cX1_ballot 63 = .ok (.baload, 1) := by decide +kernel
theorem dX1_ballot_64 : decode cX1_ballot 64 = .ok (.ireturn, 1) := by decide +kernel
theorem dX1_ballot_65 : decode cX1_ballot 65 = .ok (.aload_n 0, 1) := by decide +kernel
theorem dX1_ballot_66 : decode cX1_ballot 66 = .ok (.getfield 59, 3) := by decide +kernel
theorem dX1_ballot_69 : decode cX1_ballot 69 = .ok (.iload_n 1, 1) := by decide +kernel
theorem dX1_ballot_70 : decode cX1_ballot 70 = .ok (.baload, 1) := by decide +kernel
theorem dX1_ballot_71 : decode cX1_ballot 71 = .ok (.ireturn, 1) := by decide +kernel
theorem dX1_ballot_72 : decode cX1_ballot 72 = .ok (.aload_n 0, 1) := by decide +kernel
theorem dX1_ballot_73 : decode cX1_ballot 73 = .ok (.getfield 62, 3) := by decide +kernel
theorem dX1_ballot_76 : decode cX1_ballot 76 = .ok (.iload_n 1, 1) := by decide +kernel
theorem dX1_ballot_77 : decode cX1_ballot 77 = .ok (.saload, 1) := by decide +kernel
theorem dX1_ballot_78 : decode cX1_ballot 78 = .ok (.ireturn, 1) := by decide +kernel
theorem dX1_ballot_79 : decode cX1_ballot 79 = .ok (.new 1, 3) := by decide +kernel
theorem dX1_ballot_82 : decode cX1_ballot 82 = .ok (.dup, 1) := by decide +kernel
theorem dX1_ballot_83 : decode cX1_ballot 83 = .ok (.invokespecial 3, 3) := by decide +kernel
theorem dX1_ballot_86 : decode cX1_ballot 86 = .ok (.athrow, 1) := by decide +kernel
abbrev cX1_batchOf : ByteArray := prog_1_method_30_code
def yX1_batchOf : MethodName := ⟨RX1, "batchOf", "(I)I"⟩
theorem dX1_batchOf_0 : decode cX1_batchOf 0 = .ok (.iconst 0, 1) := by decide +kernel
theorem dX1_batchOf_1 : decode cX1_batchOf 1 = .ok (.istore_n 2, 1) := by decide +kernel
theorem dX1_batchOf_2 : decode cX1_batchOf 2 = .ok (.aload_n 0, 1) := by decide +kernel
theorem dX1_batchOf_3 : decode cX1_batchOf 3 = .ok (.getfield 33, 3) := by decide +kernel
theorem dX1_batchOf_6 : decode cX1_batchOf 6 = .ok (.iconst 0, 1) := by decide +kernel
theorem dX1_batchOf_7 : decode cX1_batchOf 7 = .ok (.iaload, 1) := by decide +kernel
theorem dX1_batchOf_8 : decode cX1_batchOf 8 = .ok (.istore_n 3, 1) := by decide +kernel
theorem dX1_batchOf_9 : decode cX1_batchOf 9 = .ok (.iload_n 1, 1) := by decide +kernel
theorem dX1_batchOf_10 : decode cX1_batchOf 10 = .ok (.iload_n 3, 1) := by decide +kernel
theorem dX1_batchOf_11 : decode cX1_batchOf 11 = .ok (.if_icmp .lt 18, 3) := by decide +kernel
theorem dX1_batchOf_14 : decode cX1_batchOf 14 = .ok (.iload_n 3, 1) := by decide +kernel
theorem dX1_batchOf_15 : decode cX1_batchOf 15 = .ok (.aload_n 0, 1) := by decide +kernel
theorem dX1_batchOf_16 : decode cX1_batchOf 16 = .ok (.getfield 33, 3) := by decide +kernel
theorem dX1_batchOf_19 : decode cX1_batchOf 19 = .ok (.iinc 2 1, 3) := by decide +kernel
theorem dX1_batchOf_22 : decode cX1_batchOf 22 = .ok (.iload_n 2, 1) := by decide +kernel
theorem dX1_batchOf_23 : decode cX1_batchOf 23 = .ok (.iaload, 1) := by decide +kernel
theorem dX1_batchOf_24 : decode cX1_batchOf 24 = .ok (.iadd, 1) := by decide +kernel
theorem dX1_batchOf_25 : decode cX1_batchOf 25 = .ok (.istore_n 3, 1) := by decide +kernel
theorem dX1_batchOf_26 : decode cX1_batchOf 26 = .ok (.goto (-17), 3) := by decide +kernel
theorem dX1_batchOf_29 : decode cX1_batchOf 29 = .ok (.iload_n 2, 1) := by decide +kernel
theorem dX1_batchOf_30 : decode cX1_batchOf 30 = .ok (.ireturn, 1) := by decide +kernel
abbrev cX1_digest : ByteArray := prog_1_method_32_code
def yX1_digest : MethodName := ⟨RX1, "digest", "(II)I"⟩
theorem dX1_digest_0 : decode cX1_digest 0 = .ok (.iload_n 2, 1) := by decide +kernel
theorem dX1_digest_1 : decode cX1_digest 1 = .ok (.ifCond .lt 13, 3) := by decide +kernel
theorem dX1_digest_4 : decode cX1_digest 4 = .ok (.iload_n 2, 1) := by decide +kernel
theorem dX1_digest_5 : decode cX1_digest 5 = .ok (.bipush 32, 2) := by decide +kernel
theorem dX1_digest_7 : decode cX1_digest 7 = .ok (.if_icmp .ge 7, 3) := by decide +kernel
theorem dX1_digest_10 : decode cX1_digest 10 = .ok (.iconst 1, 1) := by decide +kernel
theorem dX1_digest_11 : decode cX1_digest 11 = .ok (.goto 4, 3) := by decide +kernel
theorem dX1_digest_14 : decode cX1_digest 14 = .ok (.iconst 0, 1) := by decide +kernel
theorem dX1_digest_15 : decode cX1_digest 15 = .ok (.invokestatic 225, 3) := by decide +kernel
theorem dX1_digest_18 : decode cX1_digest 18 = .ok (.iload_n 1, 1) := by decide +kernel
theorem dX1_digest_19 : decode cX1_digest 19 = .ok (.iconst 1, 1) := by decide +kernel
theorem dX1_digest_20 : decode cX1_digest 20 = .ok (.if_icmp .lt 7, 3) := by decide +kernel
theorem dX1_digest_23 : decode cX1_digest 23 = .ok (.iconst 1, 1) := by decide +kernel
theorem dX1_digest_24 : decode cX1_digest 24 = .ok (.goto 4, 3) := by decide +kernel
theorem dX1_digest_27 : decode cX1_digest 27 = .ok (.iconst 0, 1) := by decide +kernel
theorem dX1_digest_28 : decode cX1_digest 28 = .ok (.invokestatic 210, 3) := by decide +kernel
theorem dX1_digest_31 : decode cX1_digest 31 = .ok (.aload_n 0, 1) := by decide +kernel
theorem dX1_digest_32 : decode cX1_digest 32 = .ok (.getfield 95, 3) := by decide +kernel
theorem dX1_digest_35 : decode cX1_digest 35 = .ok (.iload_n 1, 1) := by decide +kernel
theorem dX1_digest_36 : decode cX1_digest 36 = .ok (.invokevirtual 295, 3) := by decide +kernel
theorem dX1_digest_39 : decode cX1_digest 39 = .ok (.aload_n 0, 1) := by decide +kernel
theorem dX1_digest_40 : decode cX1_digest 40 = .ok (.getfield 95, 3) := by decide +kernel
theorem dX1_digest_43 : decode cX1_digest 43 = .ok (.getfield 298, 3) := by decide +kernel
theorem dX1_digest_46 : decode cX1_digest 46 = .ok (.iload_n 2, 1) := by decide +kernel
theorem dX1_digest_47 : decode cX1_digest 47 = .ok (.invokevirtual 302, 3) := by decide +kernel
theorem dX1_digest_50 : decode cX1_digest 50 = .ok (.ireturn, 1) := by decide +kernel
abbrev cX1_risk : ByteArray := prog_1_method_37_code
def yX1_risk : MethodName := ⟨RX1, "risk", "(IIIII)I"⟩
theorem dX1_risk_0 : decode cX1_risk 0 = .ok (.aload_n 0, 1) := by decide +kernel
theorem dX1_risk_1 : decode cX1_risk 1 = .ok (.getfield 202, 3) := by decide +kernel
theorem dX1_risk_4 : decode cX1_risk 4 = .ok (.ifCond .eq 7, 3) := by decide +kernel
theorem dX1_risk_7 : decode cX1_risk 7 = .ok (.iconst 1, 1) := by decide +kernel
theorem dX1_risk_8 : decode cX1_risk 8 = .ok (.goto 4, 3) := by decide +kernel
theorem dX1_risk_11 : decode cX1_risk 11 = .ok (.iconst 0, 1) := by decide +kernel
theorem dX1_risk_12 : decode cX1_risk 12 = .ok (.invokestatic 205, 3) := by decide +kernel
theorem dX1_risk_15 : decode cX1_risk 15 = .ok (.aload_n 0, 1) := by decide +kernel
theorem dX1_risk_16 : decode cX1_risk 16 = .ok (.iload_n 1, 1) := by decide +kernel
theorem dX1_risk_17 : decode cX1_risk 17 = .ok (.invokevirtual 288, 3) := by decide +kernel
theorem dX1_risk_20 : decode cX1_risk 20 = .ok (.astore 6, 2) := by decide +kernel
theorem dX1_risk_22 : decode cX1_risk 22 = .ok (.iload_n 2, 1) := by decide +kernel
theorem dX1_risk_23 : decode cX1_risk 23 = .ok (.ifCond .lt 51, 3) := by decide +kernel
theorem dX1_risk_26 : decode cX1_risk 26 = .ok (.iload_n 2, 1) := by decide +kernel
theorem dX1_risk_27 : decode cX1_risk 27 = .ok (.bipush 30, 2) := by decide +kernel
theorem dX1_risk_29 : decode cX1_risk 29 = .ok (.if_icmp .gt 45, 3) := by decide +kernel
theorem dX1_risk_32 : decode cX1_risk 32 = .ok (.iload 5, 2) := by decide +kernel
theorem dX1_risk_34 : decode cX1_risk 34 = .ok (.iconst 1, 1) := by decide +kernel
theorem dX1_risk_35 : decode cX1_risk 35 = .ok (.if_icmp .lt 39, 3) := by decide +kernel
theorem dX1_risk_38 : decode cX1_risk 38 = .ok (.iload 5, 2) := by decide +kernel
theorem dX1_risk_40 : decode cX1_risk 40 = .ok (.sipush 20000, 3) := by decide +kernel
theorem dX1_risk_43 : decode cX1_risk 43 = .ok (.if_icmp .gt 31, 3) := by decide +kernel
theorem dX1_risk_46 : decode cX1_risk 46 = .ok (.iload_n 3, 1) := by decide +kernel
theorem dX1_risk_47 : decode cX1_risk 47 = .ok (.ifCond .lt 27, 3) := by decide +kernel
theorem dX1_risk_50 : decode cX1_risk 50 = .ok (.iload 4, 2) := by decide +kernel
theorem dX1_risk_52 : decode cX1_risk 52 = .ok (.ifCond .lt 22, 3) := by decide +kernel
theorem dX1_risk_55 : decode cX1_risk 55 = .ok (.iload_n 3, 1) := by decide +kernel
theorem dX1_risk_56 : decode cX1_risk 56 = .ok (.iload 5, 2) := by decide +kernel
theorem dX1_risk_58 : decode cX1_risk 58 = .ok (.if_icmp .gt 16, 3) := by decide +kernel
theorem dX1_risk_61 : decode cX1_risk 61 = .ok (.iload 4, 2) := by decide +kernel
theorem dX1_risk_63 : decode cX1_risk 63 = .ok (.iload 5, 2) := by decide +kernel
theorem dX1_risk_65 : decode cX1_risk 65 = .ok (.iload_n 3, 1) := by decide +kernel
theorem dX1_risk_66 : decode cX1_risk 66 = .ok (.isub, 1) := by decide +kernel
theorem dX1_risk_67 : decode cX1_risk 67 = .ok (.if_icmp .gt 7, 3) := by decide +kernel
theorem dX1_risk_70 : decode cX1_risk 70 = .ok (.iconst 1, 1) := by decide +kernel
theorem dX1_risk_71 : decode cX1_risk 71 = .ok (.goto 4, 3) := by decide +kernel
theorem dX1_risk_74 : decode cX1_risk 74 = .ok (.iconst 0, 1) := by decide +kernel
theorem dX1_risk_75 : decode cX1_risk 75 = .ok (.invokestatic 210, 3) := by decide +kernel
theorem dX1_risk_78 : decode cX1_risk 78 = .ok (.aload_n 0, 1) := by decide +kernel
theorem dX1_risk_79 : decode cX1_risk 79 = .ok (.aload 6, 2) := by decide +kernel
theorem dX1_risk_81 : decode cX1_risk 81 = .ok (.iload_n 2, 1) := by decide +kernel
theorem dX1_risk_82 : decode cX1_risk 82 = .ok (.invokevirtual 320, 3) := by decide +kernel
theorem dX1_risk_85 : decode cX1_risk 85 = .ok (.iconst 0, 1) := by decide +kernel
theorem dX1_risk_86 : decode cX1_risk 86 = .ok (.istore 7, 2) := by decide +kernel
theorem dX1_risk_88 : decode cX1_risk 88 = .ok (.iload 7, 2) := by decide +kernel
theorem dX1_risk_90 : decode cX1_risk 90 = .ok (.aload_n 0, 1) := by decide +kernel
theorem dX1_risk_91 : decode cX1_risk 91 = .ok (.getfield 148, 3) := by decide +kernel
theorem dX1_risk_94 : decode cX1_risk 94 = .ok (.arraylength, 1) := by decide +kernel
theorem dX1_risk_95 : decode cX1_risk 95 = .ok (.if_icmp .ge 20, 3) := by decide +kernel
theorem dX1_risk_98 : decode cX1_risk 98 = .ok (.aload_n 0, 1) := by decide +kernel
theorem dX1_risk_99 : decode cX1_risk 99 = .ok (.getfield 148, 3) := by decide +kernel
theorem dX1_risk_102 : decode cX1_risk 102 = .ok (.iload 7, 2) := by decide +kernel
theorem dX1_risk_104 : decode cX1_risk 104 = .ok (.aaload, 1) := by decide +kernel
theorem dX1_risk_105 : decode cX1_risk 105 = .ok (.lconst 0, 1) := by decide +kernel
theorem dX1_risk_106 : decode cX1_risk 106 = .ok (.invokevirtual 165, 3) := by decide +kernel
theorem dX1_risk_109 : decode cX1_risk 109 = .ok (.iinc 7 1, 3) := by decide +kernel
theorem dX1_risk_112 : decode cX1_risk 112 = .ok (.goto (-24), 3) := by decide +kernel
theorem dX1_risk_115 : decode cX1_risk 115 = .ok (.aload_n 0, 1) := by decide +kernel
theorem dX1_risk_116 : decode cX1_risk 116 = .ok (.getfield 148, 3) := by decide +kernel
theorem dX1_risk_119 : decode cX1_risk 119 = .ok (.iconst 0, 1) := by decide +kernel
theorem dX1_risk_120 : decode cX1_risk 120 = .ok (.aaload, 1) := by decide +kernel
theorem dX1_risk_121 : decode cX1_risk 121 = .ok (.lconst 1, 1) := by decide +kernel
theorem dX1_risk_122 : decode cX1_risk 122 = .ok (.invokevirtual 165, 3) := by decide +kernel
theorem dX1_risk_125 : decode cX1_risk 125 = .ok (.aload_n 0, 1) := by decide +kernel
theorem dX1_risk_126 : decode cX1_risk 126 = .ok (.getfield 158, 3) := by decide +kernel
theorem dX1_risk_129 : decode cX1_risk 129 = .ok (.lconst 0, 1) := by decide +kernel
theorem dX1_risk_130 : decode cX1_risk 130 = .ok (.invokevirtual 165, 3) := by decide +kernel
theorem dX1_risk_133 : decode cX1_risk 133 = .ok (.iconst 0, 1) := by decide +kernel
theorem dX1_risk_134 : decode cX1_risk 134 = .ok (.istore 7, 2) := by decide +kernel
theorem dX1_risk_136 : decode cX1_risk 136 = .ok (.iload 7, 2) := by decide +kernel
theorem dX1_risk_138 : decode cX1_risk 138 = .ok (.iload_n 2, 1) := by decide +kernel
theorem dX1_risk_139 : decode cX1_risk 139 = .ok (.if_icmp .ge 19, 3) := by decide +kernel
theorem dX1_risk_142 : decode cX1_risk 142 = .ok (.aload_n 0, 1) := by decide +kernel
theorem dX1_risk_143 : decode cX1_risk 143 = .ok (.iload_n 2, 1) := by decide +kernel
theorem dX1_risk_144 : decode cX1_risk 144 = .ok (.iload_n 3, 1) := by decide +kernel
theorem dX1_risk_145 : decode cX1_risk 145 = .ok (.iload 4, 2) := by decide +kernel
theorem dX1_risk_147 : decode cX1_risk 147 = .ok (.iload 5, 2) := by decide +kernel
theorem dX1_risk_149 : decode cX1_risk 149 = .ok (.invokevirtual 324, 3) := by decide +kernel
theorem dX1_risk_152 : decode cX1_risk 152 = .ok (.iinc 7 1, 3) := by decide +kernel
theorem dX1_risk_155 : decode cX1_risk 155 = .ok (.goto (-19), 3) := by decide +kernel
theorem dX1_risk_158 : decode cX1_risk 158 = .ok (.aload_n 0, 1) := by decide +kernel
theorem dX1_risk_159 : decode cX1_risk 159 = .ok (.getfield 161, 3) := by decide +kernel
theorem dX1_risk_162 : decode cX1_risk 162 = .ok (.lconst 1, 1) := by decide +kernel
theorem dX1_risk_163 : decode cX1_risk 163 = .ok (.invokevirtual 165, 3) := by decide +kernel
theorem dX1_risk_166 : decode cX1_risk 166 = .ok (.iconst 0, 1) := by decide +kernel
theorem dX1_risk_167 : decode cX1_risk 167 = .ok (.istore 7, 2) := by decide +kernel
theorem dX1_risk_169 : decode cX1_risk 169 = .ok (.iload 7, 2) := by decide +kernel
theorem dX1_risk_171 : decode cX1_risk 171 = .ok (.iload_n 2, 1) := by decide +kernel
theorem dX1_risk_172 : decode cX1_risk 172 = .ok (.if_icmp .ge 18, 3) := by decide +kernel
theorem dX1_risk_175 : decode cX1_risk 175 = .ok (.aload_n 0, 1) := by decide +kernel
theorem dX1_risk_176 : decode cX1_risk 176 = .ok (.getfield 161, 3) := by decide +kernel
theorem dX1_risk_179 : decode cX1_risk 179 = .ok (.iload 5, 2) := by decide +kernel
theorem dX1_risk_181 : decode cX1_risk 181 = .ok (.invokevirtual 195, 3) := by decide +kernel
theorem dX1_risk_184 : decode cX1_risk 184 = .ok (.iinc 7 1, 3) := by decide +kernel
theorem dX1_risk_187 : decode cX1_risk 187 = .ok (.goto (-18), 3) := by decide +kernel
theorem dX1_risk_190 : decode cX1_risk 190 = .ok (.aload_n 0, 1) := by decide +kernel
theorem dX1_risk_191 : decode cX1_risk 191 = .ok (.getfield 142, 3) := by decide +kernel
theorem dX1_risk_194 : decode cX1_risk 194 = .ok (.aload_n 0, 1) := by decide +kernel
theorem dX1_risk_195 : decode cX1_risk 195 = .ok (.getfield 158, 3) := by decide +kernel
theorem dX1_risk_198 : decode cX1_risk 198 = .ok (.invokevirtual 191, 3) := by decide +kernel
theorem dX1_risk_201 : decode cX1_risk 201 = .ok (.aload_n 0, 1) := by decide +kernel
theorem dX1_risk_202 : decode cX1_risk 202 = .ok (.getfield 145, 3) := by decide +kernel
theorem dX1_risk_205 : decode cX1_risk 205 = .ok (.aload_n 0, 1) := by decide +kernel
theorem dX1_risk_206 : decode cX1_risk 206 = .ok (.getfield 161, 3) := by decide +kernel
theorem dX1_risk_209 : decode cX1_risk 209 = .ok (.invokevirtual 191, 3) := by decide +kernel
theorem dX1_risk_212 : decode cX1_risk 212 = .ok (.aload_n 0, 1) := by decide +kernel
theorem dX1_risk_213 : decode cX1_risk 213 = .ok (.getfield 126, 3) := by decide +kernel
theorem dX1_risk_216 : decode cX1_risk 216 = .ok (.aload_n 0, 1) := by decide +kernel
theorem dX1_risk_217 : decode cX1_risk 217 = .ok (.getfield 142, 3) := by decide +kernel
theorem dX1_risk_220 : decode cX1_risk 220 = .ok (.aload_n 0, 1) := by decide +kernel
theorem dX1_risk_221 : decode cX1_risk 221 = .ok (.getfield 145, 3) := by decide +kernel
theorem dX1_risk_224 : decode cX1_risk 224 = .ok (.invokevirtual 328, 3) := by decide +kernel
theorem dX1_risk_227 : decode cX1_risk 227 = .ok (.aload_n 0, 1) := by decide +kernel
theorem dX1_risk_228 : decode cX1_risk 228 = .ok (.getfield 135, 3) := by decide +kernel
theorem dX1_risk_231 : decode cX1_risk 231 = .ok (.aload_n 0, 1) := by decide +kernel
theorem dX1_risk_232 : decode cX1_risk 232 = .ok (.getfield 142, 3) := by decide +kernel
theorem dX1_risk_235 : decode cX1_risk 235 = .ok (.invokevirtual 191, 3) := by decide +kernel
theorem dX1_risk_238 : decode cX1_risk 238 = .ok (.aload_n 0, 1) := by decide +kernel
theorem dX1_risk_239 : decode cX1_risk 239 = .ok (.getfield 135, 3) := by decide +kernel
theorem dX1_risk_242 : decode cX1_risk 242 = .ok (.aload_n 0, 1) := by decide +kernel
theorem dX1_risk_243 : decode cX1_risk 243 = .ok (.getfield 46, 3) := by decide +kernel
theorem dX1_risk_246 : decode cX1_risk 246 = .ok (.invokevirtual 195, 3) := by decide +kernel
theorem dX1_risk_249 : decode cX1_risk 249 = .ok (.aload_n 0, 1) := by decide +kernel
theorem dX1_risk_250 : decode cX1_risk 250 = .ok (.getfield 139, 3) := by decide +kernel
theorem dX1_risk_253 : decode cX1_risk 253 = .ok (.aload_n 0, 1) := by decide +kernel
theorem dX1_risk_254 : decode cX1_risk 254 = .ok (.getfield 145, 3) := by decide +kernel
theorem dX1_risk_257 : decode cX1_risk 257 = .ok (.invokevirtual 191, 3) := by decide +kernel
theorem dX1_risk_260 : decode cX1_risk 260 = .ok (.aload_n 0, 1) := by decide +kernel
theorem dX1_risk_261 : decode cX1_risk 261 = .ok (.getfield 139, 3) := by decide +kernel
theorem dX1_risk_264 : decode cX1_risk 264 = .ok (.aload_n 0, 1) := by decide +kernel
theorem dX1_risk_265 : decode cX1_risk 265 = .ok (.getfield 43, 3) := by decide +kernel
theorem dX1_risk_268 : decode cX1_risk 268 = .ok (.invokevirtual 195, 3) := by decide +kernel
theorem dX1_risk_271 : decode cX1_risk 271 = .ok (.aload_n 0, 1) := by decide +kernel
theorem dX1_risk_272 : decode cX1_risk 272 = .ok (.getfield 135, 3) := by decide +kernel
theorem dX1_risk_275 : decode cX1_risk 275 = .ok (.aload_n 0, 1) := by decide +kernel
theorem dX1_risk_276 : decode cX1_risk 276 = .ok (.getfield 139, 3) := by decide +kernel
theorem dX1_risk_279 : decode cX1_risk 279 = .ok (.invokevirtual 198, 3) := by decide +kernel
theorem dX1_risk_282 : decode cX1_risk 282 = .ok (.ifCond .gt 7, 3) := by decide +kernel
theorem dX1_risk_285 : decode cX1_risk 285 = .ok (.iconst 0, 1) := by decide +kernel
theorem dX1_risk_286 : decode cX1_risk 286 = .ok (.goto 4, 3) := by decide +kernel
theorem dX1_risk_289 : decode cX1_risk 289 = .ok (.iconst 1, 1) := by decide +kernel
theorem dX1_risk_290 : decode cX1_risk 290 = .ok (.ireturn, 1) := by decide +kernel
abbrev cX1_findSure : ByteArray := prog_1_method_34_code
def yX1_findSure : MethodName := ⟨RX1, "findSure", "(LPollAudit$Pair;I)V"⟩
theorem dX1_findSure_0 : decode cX1_findSure 0 = .ok (.iconst 0, 1) := by decide +kernel
theorem dX1_findSure_1 : decode cX1_findSure 1 = .ok (.istore_n 3, 1) := by decide +kernel
theorem dX1_findSure_2 : decode cX1_findSure 2 = .ok (.iload_n 3, 1) := by decide +kernel
theorem dX1_findSure_3 : decode cX1_findSure 3 = .ok (.iload_n 2, 1) := by decide +kernel
theorem dX1_findSure_4 : decode cX1_findSure 4 = .ok (.if_icmp .gt 176, 3) := by decide +kernel
theorem dX1_findSure_7 : decode cX1_findSure 7 = .ok (.iconst 0, 1) := by decide +kernel
theorem dX1_findSure_8 : decode cX1_findSure 8 = .ok (.istore 4, 2) := by decide +kernel
theorem dX1_findSure_10 : decode cX1_findSure 10 = .ok (.iload_n 3, 1) := by decide +kernel
theorem dX1_findSure_11 : decode cX1_findSure 11 = .ok (.iload 4, 2) := by decide +kernel
theorem dX1_findSure_13 : decode cX1_findSure 13 = .ok (.iadd, 1) := by decide +kernel
theorem dX1_findSure_14 : decode cX1_findSure 14 = .ok (.iload_n 2, 1) := by decide +kernel
theorem dX1_findSure_15 : decode cX1_findSure 15 = .ok (.if_icmp .gt 159, 3) := by decide +kernel
theorem dX1_findSure_18 : decode cX1_findSure 18 = .ok (.aload_n 0, 1) := by decide +kernel
theorem dX1_findSure_19 : decode cX1_findSure 19 = .ok (.getfield 161, 3) := by decide +kernel
theorem dX1_findSure_22 : decode cX1_findSure 22 = .ok (.lconst 1, 1) := by decide +kernel
theorem dX1_findSure_23 : decode cX1_findSure 23 = .ok (.invokevirtual 165, 3) := by decide +kernel
theorem dX1_findSure_26 : decode cX1_findSure 26 = .ok (.aload_n 0, 1) := by decide +kernel
theorem dX1_findSure_27 : decode cX1_findSure 27 = .ok (.getfield 158, 3) := by decide +kernel
theorem dX1_findSure_30 : decode cX1_findSure 30 = .ok (.lconst 1, 1) := by decide +kernel
theorem dX1_findSure_31 : decode cX1_findSure 31 = .ok (.invokevirtual 165, 3) := by decide +kernel
theorem dX1_findSure_34 : decode cX1_findSure 34 = .ok (.iconst 0, 1) := by decide +kernel
theorem dX1_findSure_35 : decode cX1_findSure 35 = .ok (.istore 5, 2) := by decide +kernel
theorem dX1_findSure_37 : decode cX1_findSure 37 = .ok (.iload 5, 2) := by decide +kernel
theorem dX1_findSure_39 : decode cX1_findSure 39 = .ok (.iload_n 3, 1) := by decide +kernel
theorem dX1_findSure_40 : decode cX1_findSure 40 = .ok (.if_icmp .ge 27, 3) := by decide +kernel
theorem dX1_findSure_43 : decode cX1_findSure 43 = .ok (.aload_n 0, 1) := by decide +kernel
theorem dX1_findSure_44 : decode cX1_findSure 44 = .ok (.getfield 161, 3) := by decide +kernel
theorem dX1_findSure_47 : decode cX1_findSure 47 = .ok (.iconst 2, 1) := by decide +kernel
theorem dX1_findSure_48 : decode cX1_findSure 48 = .ok (.aload_n 0, 1) := by decide +kernel
theorem dX1_findSure_49 : decode cX1_findSure 49 = .ok (.getfield 29, 3) := by decide +kernel
theorem dX1_findSure_52 : decode cX1_findSure 52 = .ok (.aload_n 1, 1) := by decide +kernel
theorem dX1_findSure_53 : decode cX1_findSure 53 = .ok (.getfield 172, 3) := by decide +kernel
theorem dX1_findSure_56 : decode cX1_findSure 56 = .ok (.iaload, 1) := by decide +kernel
theorem dX1_findSure_57 : decode cX1_findSure 57 = .ok (.imul, 1) := by decide +kernel
theorem dX1_findSure_58 : decode cX1_findSure 58 = .ok (.invokevirtual 195, 3) := by decide +kernel
theorem dX1_findSure_61 : decode cX1_findSure 61 = .ok (.iinc 5 1, 3) := by decide +kernel
theorem dX1_findSure_64 : decode cX1_findSure 64 = .ok (.goto (-27), 3) := by decide +kernel
theorem dX1_findSure_67 : decode cX1_findSure 67 = .ok (.iconst 0, 1) := by decide +kernel
theorem dX1_findSure_68 : decode cX1_findSure 68 = .ok (.istore 5, 2) := by decide +kernel
theorem dX1_findSure_70 : decode cX1_findSure 70 = .ok (.iload 5, 2) := by decide +kernel
theorem dX1_findSure_72 : decode cX1_findSure 72 = .ok (.iload 4, 2) := by decide +kernel
theorem dX1_findSure_74 : decode cX1_findSure 74 = .ok (.if_icmp .ge 27, 3) := by decide +kernel
theorem dX1_findSure_77 : decode cX1_findSure 77 = .ok (.aload_n 0, 1) := by decide +kernel
theorem dX1_findSure_78 : decode cX1_findSure 78 = .ok (.getfield 161, 3) := by decide +kernel
theorem dX1_findSure_81 : decode cX1_findSure 81 = .ok (.iconst 2, 1) := by decide +kernel
theorem dX1_findSure_82 : decode cX1_findSure 82 = .ok (.aload_n 0, 1) := by decide +kernel
theorem dX1_findSure_83 : decode cX1_findSure 83 = .ok (.getfield 29, 3) := by decide +kernel
theorem dX1_findSure_86 : decode cX1_findSure 86 = .ok (.aload_n 1, 1) := by decide +kernel
theorem dX1_findSure_87 : decode cX1_findSure 87 = .ok (.getfield 175, 3) := by decide +kernel
theorem dX1_findSure_90 : decode cX1_findSure 90 = .ok (.iaload, 1) := by decide +kernel
theorem dX1_findSure_91 : decode cX1_findSure 91 = .ok (.imul, 1) := by decide +kernel
theorem dX1_findSure_92 : decode cX1_findSure 92 = .ok (.invokevirtual 195, 3) := by decide +kernel
theorem dX1_findSure_95 : decode cX1_findSure 95 = .ok (.iinc 5 1, 3) := by decide +kernel
theorem dX1_findSure_98 : decode cX1_findSure 98 = .ok (.goto (-28), 3) := by decide +kernel
theorem dX1_findSure_101 : decode cX1_findSure 101 = .ok (.iconst 0, 1) := by decide +kernel
theorem dX1_findSure_102 : decode cX1_findSure 102 = .ok (.istore 5, 2) := by decide +kernel
theorem dX1_findSure_104 : decode cX1_findSure 104 = .ok (.iload 5, 2) := by decide +kernel
theorem dX1_findSure_106 : decode cX1_findSure 106 = .ok (.iload_n 3, 1) := by decide +kernel
theorem dX1_findSure_107 : decode cX1_findSure 107 = .ok (.iload 4, 2) := by decide +kernel
theorem dX1_findSure_109 : decode cX1_findSure 109 = .ok (.iadd, 1) := by decide +kernel
theorem dX1_findSure_110 : decode cX1_findSure 110 = .ok (.if_icmp .ge 35, 3) := by decide +kernel
theorem dX1_findSure_113 : decode cX1_findSure 113 = .ok (.aload_n 0, 1) := by decide +kernel
theorem dX1_findSure_114 : decode cX1_findSure 114 = .ok (.getfield 158, 3) := by decide +kernel
theorem dX1_findSure_117 : decode cX1_findSure 117 = .ok (.aload_n 0, 1) := by decide +kernel
theorem dX1_findSure_118 : decode cX1_findSure 118 = .ok (.getfield 29, 3) := by decide +kernel
theorem dX1_findSure_121 : decode cX1_findSure 121 = .ok (.aload_n 1, 1) := by decide +kernel
theorem dX1_findSure_122 : decode cX1_findSure 122 = .ok (.getfield 172, 3) := by decide +kernel
theorem dX1_findSure_125 : decode cX1_findSure 125 = .ok (.iaload, 1) := by decide +kernel
theorem dX1_findSure_126 : decode cX1_findSure 126 = .ok (.aload_n 0, 1) := by decide +kernel
theorem dX1_findSure_127 : decode cX1_findSure 127 = .ok (.getfield 29, 3) := by decide +kernel
theorem dX1_findSure_130 : decode cX1_findSure 130 = .ok (.aload_n 1, 1) := by decide +kernel
theorem dX1_findSure_131 : decode cX1_findSure 131 = .ok (.getfield 175, 3) := by decide +kernel
theorem dX1_findSure_134 : decode cX1_findSure 134 = .ok (.iaload, 1) := by decide +kernel
theorem dX1_findSure_135 : decode cX1_findSure 135 = .ok (.iadd, 1) := by decide +kernel
theorem dX1_findSure_136 : decode cX1_findSure 136 = .ok (.invokevirtual 195, 3) := by decide +kernel
theorem dX1_findSure_139 : decode cX1_findSure 139 = .ok (.iinc 5 1, 3) := by decide +kernel
theorem dX1_findSure_142 : decode cX1_findSure 142 = .ok (.goto (-38), 3) := by decide +kernel
theorem dX1_findSure_145 : decode cX1_findSure 145 = .ok (.aload_n 0, 1) := by decide +kernel
theorem dX1_findSure_146 : decode cX1_findSure 146 = .ok (.getfield 155, 3) := by decide +kernel
theorem dX1_findSure_149 : decode cX1_findSure 149 = .ok (.iload_n 3, 1) := by decide +kernel
theorem dX1_findSure_150 : decode cX1_findSure 150 = .ok (.iload 4, 2) := by decide +kernel
theorem dX1_findSure_152 : decode cX1_findSure 152 = .ok (.invokestatic 307, 3) := by decide +kernel
theorem dX1_findSure_155 : decode cX1_findSure 155 = .ok (.aload_n 0, 1) := by decide +kernel
theorem dX1_findSure_156 : decode cX1_findSure 156 = .ok (.aload_n 0, 1) := by decide +kernel
theorem dX1_findSure_157 : decode cX1_findSure 157 = .ok (.getfield 161, 3) := by decide +kernel
theorem dX1_findSure_160 : decode cX1_findSure 160 = .ok (.aload_n 0, 1) := by decide +kernel
theorem dX1_findSure_161 : decode cX1_findSure 161 = .ok (.getfield 158, 3) := by decide +kernel
theorem dX1_findSure_164 : decode cX1_findSure 164 = .ok (.invokevirtual 310, 3) := by decide +kernel
theorem dX1_findSure_167 : decode cX1_findSure 167 = .ok (.bastore, 1) := by decide +kernel
theorem dX1_findSure_168 : decode cX1_findSure 168 = .ok (.iinc 4 1, 3) := by decide +kernel
theorem dX1_findSure_171 : decode cX1_findSure 171 = .ok (.goto (-161), 3) := by decide +kernel
theorem dX1_findSure_174 : decode cX1_findSure 174 = .ok (.iinc 3 1, 3) := by decide +kernel
theorem dX1_findSure_177 : decode cX1_findSure 177 = .ok (.goto (-175), 3) := by decide +kernel
theorem dX1_findSure_180 : decode cX1_findSure 180 = .ok (.return_, 1) := by decide +kernel
abbrev cX1_at : ByteArray := prog_1_method_33_code
def yX1_at : MethodName := ⟨RX1, "at", "(II)I"⟩
theorem dX1_at_0 : decode cX1_at 0 = .ok (.iload_n 0, 1) := by decide +kernel
theorem dX1_at_1 : decode cX1_at 1 = .ok (.bipush 31, 2) := by decide +kernel
theorem dX1_at_3 : decode cX1_at 3 = .ok (.imul, 1) := by decide +kernel
theorem dX1_at_4 : decode cX1_at 4 = .ok (.iload_n 1, 1) := by decide +kernel
theorem dX1_at_5 : decode cX1_at 5 = .ok (.iadd, 1) := by decide +kernel
theorem dX1_at_6 : decode cX1_at 6 = .ok (.ireturn, 1) := by decide +kernel
abbrev cX1_drawMore : ByteArray := prog_1_method_36_code
def yX1_drawMore : MethodName := ⟨RX1, "drawMore", "(IIII)V"⟩
theorem dX1_drawMore_0 : decode cX1_drawMore 0 = .ok (.iconst 0, 1) := by decide +kernel
theorem dX1_drawMore_1 : decode cX1_drawMore 1 = .ok (.istore 5, 2) := by decide +kernel
theorem dX1_drawMore_3 : decode cX1_drawMore 3 = .ok (.iload 5, 2) := by decide +kernel
theorem dX1_drawMore_5 : decode cX1_drawMore 5 = .ok (.iload_n 1, 1) := by decide +kernel
theorem dX1_drawMore_6 : decode cX1_drawMore 6 = .ok (.if_icmp .gt 123, 3) := by decide +kernel
theorem dX1_drawMore_9 : decode cX1_drawMore 9 = .ok (.iconst 0, 1) := by decide +kernel
theorem dX1_drawMore_10 : decode cX1_drawMore 10 = .ok (.istore 6, 2) := by decide +kernel
theorem dX1_drawMore_12 : decode cX1_drawMore 12 = .ok (.iload 5, 2) := by decide +kernel
theorem dX1_drawMore_14 : decode cX1_drawMore 14 = .ok (.iload 6, 2) := by decide +kernel
theorem dX1_drawMore_16 : decode cX1_drawMore 16 = .ok (.iadd, 1) := by decide +kernel
theorem dX1_drawMore_17 : decode cX1_drawMore 17 = .ok (.iload_n 1, 1) := by decide +kernel
theorem dX1_drawMore_18 : decode cX1_drawMore 18 = .ok (.if_icmp .gt 105, 3) := by decide +kernel
theorem dX1_drawMore_21 : decode cX1_drawMore 21 = .ok (.aload_n 0, 1) := by decide +kernel
theorem dX1_drawMore_22 : decode cX1_drawMore 22 = .ok (.getfield 152, 3) := by decide +kernel
theorem dX1_drawMore_25 : decode cX1_drawMore 25 = .ok (.iload 5, 2) := by decide +kernel
theorem dX1_drawMore_27 : decode cX1_drawMore 27 = .ok (.iload 6, 2) := by decide +kernel
theorem dX1_drawMore_29 : decode cX1_drawMore 29 = .ok (.invokestatic 307, 3) := by decide +kernel
theorem dX1_drawMore_32 : decode cX1_drawMore 32 = .ok (.aaload, 1) := by decide +kernel
theorem dX1_drawMore_33 : decode cX1_drawMore 33 = .ok (.astore 7, 2) := by decide +kernel
theorem dX1_drawMore_35 : decode cX1_drawMore 35 = .ok (.aload 7, 2) := by decide +kernel
theorem dX1_drawMore_37 : decode cX1_drawMore 37 = .ok (.lconst 0, 1) := by decide +kernel
theorem dX1_drawMore_38 : decode cX1_drawMore 38 = .ok (.invokevirtual 165, 3) := by decide +kernel
theorem dX1_drawMore_41 : decode cX1_drawMore 41 = .ok (.aload_n 0, 1) := by decide +kernel
theorem dX1_drawMore_42 : decode cX1_drawMore 42 = .ok (.aload 7, 2) := by decide +kernel
theorem dX1_drawMore_44 : decode cX1_drawMore 44 = .ok (.aload_n 0, 1) := by decide +kernel
theorem dX1_drawMore_45 : decode cX1_drawMore 45 = .ok (.getfield 148, 3) := by decide +kernel
theorem dX1_drawMore_48 : decode cX1_drawMore 48 = .ok (.iload 5, 2) := by decide +kernel
theorem dX1_drawMore_50 : decode cX1_drawMore 50 = .ok (.iload 6, 2) := by decide +kernel
theorem dX1_drawMore_52 : decode cX1_drawMore 52 = .ok (.invokestatic 307, 3) := by decide +kernel
theorem dX1_drawMore_55 : decode cX1_drawMore 55 = .ok (.aaload, 1) := by decide +kernel
theorem dX1_drawMore_56 : decode cX1_drawMore 56 = .ok (.iload 4, 2) := by decide +kernel
theorem dX1_drawMore_58 : decode cX1_drawMore 58 = .ok (.iload_n 2, 1) := by decide +kernel
theorem dX1_drawMore_59 : decode cX1_drawMore 59 = .ok (.isub, 1) := by decide +kernel
theorem dX1_drawMore_60 : decode cX1_drawMore 60 = .ok (.iload_n 3, 1) := by decide +kernel
theorem dX1_drawMore_61 : decode cX1_drawMore 61 = .ok (.isub, 1) := by decide +kernel
theorem dX1_drawMore_62 : decode cX1_drawMore 62 = .ok (.invokevirtual 316, 3) := by decide +kernel
theorem dX1_drawMore_65 : decode cX1_drawMore 65 = .ok (.iload 5, 2) := by decide +kernel
theorem dX1_drawMore_67 : decode cX1_drawMore 67 = .ok (.ifCond .le 24, 3) := by decide +kernel
theorem dX1_drawMore_70 : decode cX1_drawMore 70 = .ok (.aload_n 0, 1) := by decide +kernel
theorem dX1_drawMore_71 : decode cX1_drawMore 71 = .ok (.aload 7, 2) := by decide +kernel
theorem dX1_drawMore_73 : decode cX1_drawMore 73 = .ok (.aload_n 0, 1) := by decide +kernel
theorem dX1_drawMore_74 : decode cX1_drawMore 74 = .ok (.getfield 148, 3) := by decide +kernel
theorem dX1_drawMore_77 : decode cX1_drawMore 77 = .ok (.iload 5, 2) := by decide +kernel
theorem dX1_drawMore_79 : decode cX1_drawMore 79 = .ok (.iconst 1, 1) := by decide +kernel
theorem dX1_drawMore_80 : decode cX1_drawMore 80 = .ok (.isub, 1) := by decide +kernel
theorem dX1_drawMore_81 : decode cX1_drawMore 81 = .ok (.iload 6, 2) := by decide +kernel
theorem dX1_drawMore_83 : decode cX1_drawMore 83 = .ok (.invokestatic 307, 3) := by decide +kernel
theorem dX1_drawMore_86 : decode cX1_drawMore 86 = .ok (.aaload, 1) := by decide +kernel
theorem dX1_drawMore_87 : decode cX1_drawMore 87 = .ok (.iload_n 2, 1) := by decide +kernel
theorem dX1_drawMore_88 : decode cX1_drawMore 88 = .ok (.invokevirtual 316, 3) := by decide +kernel
theorem dX1_drawMore_91 : decode cX1_drawMore 91 = .ok (.iload 6, 2) := by decide +kernel
theorem dX1_drawMore_93 : decode cX1_drawMore 93 = .ok (.ifCond .le 24, 3) := by decide +kernel
theorem dX1_drawMore_96 : decode cX1_drawMore 96 = .ok (.aload_n 0, 1) := by decide +kernel
theorem dX1_drawMore_97 : decode cX1_drawMore 97 = .ok (.aload 7, 2) := by decide +kernel
theorem dX1_drawMore_99 : decode cX1_drawMore 99 = .ok (.aload_n 0, 1) := by decide +kernel
theorem dX1_drawMore_100 : decode cX1_drawMore 100 = .ok (.getfield 148, 3) := by decide +kernel
theorem dX1_drawMore_103 : decode cX1_drawMore 103 = .ok (.iload 5, 2) := by decide +kernel
theorem dX1_drawMore_105 : decode cX1_drawMore 105 = .ok (.iload 6, 2) := by decide +kernel
theorem dX1_drawMore_107 : decode cX1_drawMore 107 = .ok (.iconst 1, 1) := by decide +kernel
theorem dX1_drawMore_108 : decode cX1_drawMore 108 = .ok (.isub, 1) := by decide +kernel
theorem dX1_drawMore_109 : decode cX1_drawMore 109 = .ok (.invokestatic 307, 3) := by decide +kernel
theorem dX1_drawMore_112 : decode cX1_drawMore 112 = .ok (.aaload, 1) := by decide +kernel
theorem dX1_drawMore_113 : decode cX1_drawMore 113 = .ok (.iload_n 3, 1) := by decide +kernel
theorem dX1_drawMore_114 : decode cX1_drawMore 114 = .ok (.invokevirtual 316, 3) := by decide +kernel
theorem dX1_drawMore_117 : decode cX1_drawMore 117 = .ok (.iinc 6 1, 3) := by decide +kernel
theorem dX1_drawMore_120 : decode cX1_drawMore 120 = .ok (.goto (-108), 3) := by decide +kernel
theorem dX1_drawMore_123 : decode cX1_drawMore 123 = .ok (.iinc 5 1, 3) := by decide +kernel
theorem dX1_drawMore_126 : decode cX1_drawMore 126 = .ok (.goto (-123), 3) := by decide +kernel
theorem dX1_drawMore_129 : decode cX1_drawMore 129 = .ok (.aload_n 0, 1) := by decide +kernel
theorem dX1_drawMore_130 : decode cX1_drawMore 130 = .ok (.getfield 158, 3) := by decide +kernel
theorem dX1_drawMore_133 : decode cX1_drawMore 133 = .ok (.iload 4, 2) := by decide +kernel
theorem dX1_drawMore_135 : decode cX1_drawMore 135 = .ok (.invokevirtual 195, 3) := by decide +kernel
theorem dX1_drawMore_138 : decode cX1_drawMore 138 = .ok (.iconst 0, 1) := by decide +kernel
theorem dX1_drawMore_139 : decode cX1_drawMore 139 = .ok (.istore 5, 2) := by decide +kernel
theorem dX1_drawMore_141 : decode cX1_drawMore 141 = .ok (.iload 5, 2) := by decide +kernel
theorem dX1_drawMore_143 : decode cX1_drawMore 143 = .ok (.iload_n 1, 1) := by decide +kernel
theorem dX1_drawMore_144 : decode cX1_drawMore 144 = .ok (.if_icmp .gt 98, 3) := by decide +kernel
theorem dX1_drawMore_147 : decode cX1_drawMore 147 = .ok (.iconst 0, 1) := by decide +kernel
theorem dX1_drawMore_148 : decode cX1_drawMore 148 = .ok (.istore 6, 2) := by decide +kernel
theorem dX1_drawMore_150 : decode cX1_drawMore 150 = .ok (.iload 5, 2) := by decide +kernel
theorem dX1_drawMore_152 : decode cX1_drawMore 152 = .ok (.iload 6, 2) := by decide +kernel
theorem dX1_drawMore_154 : decode cX1_drawMore 154 = .ok (.iadd, 1) := by decide +kernel
theorem dX1_drawMore_155 : decode cX1_drawMore 155 = .ok (.iload_n 1, 1) := by decide +kernel
theorem dX1_drawMore_156 : decode cX1_drawMore 156 = .ok (.if_icmp .gt 80, 3) := by decide +kernel
theorem dX1_drawMore_159 : decode cX1_drawMore 159 = .ok (.iload 5, 2) := by decide +kernel
theorem dX1_drawMore_161 : decode cX1_drawMore 161 = .ok (.iload 6, 2) := by decide +kernel
theorem dX1_drawMore_163 : decode cX1_drawMore 163 = .ok (.invokestatic 307, 3) := by decide +kernel
theorem dX1_drawMore_166 : decode cX1_drawMore 166 = .ok (.istore 7, 2) := by decide +kernel
theorem dX1_drawMore_168 : decode cX1_drawMore 168 = .ok (.aload_n 0, 1) := by decide +kernel
theorem dX1_drawMore_169 : decode cX1_drawMore 169 = .ok (.getfield 155, 3) := by decide +kernel
theorem dX1_drawMore_172 : decode cX1_drawMore 172 = .ok (.iload 7, 2) := by decide +kernel
theorem dX1_drawMore_174 : decode cX1_drawMore 174 = .ok (.baload, 1) := by decide +kernel
theorem dX1_drawMore_175 : decode cX1_drawMore 175 = .ok (.ifCond .eq 17, 3) := by decide +kernel
theorem dX1_drawMore_178 : decode cX1_drawMore 178 = .ok (.aload_n 0, 1) := by decide +kernel
theorem dX1_drawMore_179 : decode cX1_drawMore 179 = .ok (.getfield 158, 3) := by decide +kernel
theorem dX1_drawMore_182 : decode cX1_drawMore 182 = .ok (.aload_n 0, 1) := by decide +kernel
theorem dX1_drawMore_183 : decode cX1_drawMore 183 = .ok (.getfield 152, 3) := by decide +kernel
theorem dX1_drawMore_186 : decode cX1_drawMore 186 = .ok (.iload 7, 2) := by decide +kernel
theorem dX1_drawMore_188 : decode cX1_drawMore 188 = .ok (.aaload, 1) := by decide +kernel
theorem dX1_drawMore_189 : decode cX1_drawMore 189 = .ok (.invokevirtual 314, 3) := by decide +kernel
theorem dX1_drawMore_192 : decode cX1_drawMore 192 = .ok (.aload_n 0, 1) := by decide +kernel
theorem dX1_drawMore_193 : decode cX1_drawMore 193 = .ok (.getfield 155, 3) := by decide +kernel
theorem dX1_drawMore_196 : decode cX1_drawMore 196 = .ok (.iload 7, 2) := by decide +kernel
theorem dX1_drawMore_198 : decode cX1_drawMore 198 = .ok (.baload, 1) := by decide +kernel
theorem dX1_drawMore_199 : decode cX1_drawMore 199 = .ok (.ifCond .eq 14, 3) := by decide +kernel
theorem dX1_drawMore_202 : decode cX1_drawMore 202 = .ok (.aload_n 0, 1) := by decide +kernel
theorem dX1_drawMore_203 : decode cX1_drawMore 203 = .ok (.getfield 152, 3) := by decide +kernel
theorem dX1_drawMore_206 : decode cX1_drawMore 206 = .ok (.iload 7, 2) := by decide +kernel
theorem dX1_drawMore_208 : decode cX1_drawMore 208 = .ok (.aaload, 1) := by decide +kernel
theorem dX1_drawMore_209 : decode cX1_drawMore 209 = .ok (.lconst 0, 1) := by decide +kernel
theorem dX1_drawMore_210 : decode cX1_drawMore 210 = .ok (.invokevirtual 165, 3) := by decide +kernel
theorem dX1_drawMore_213 : decode cX1_drawMore 213 = .ok (.aload_n 0, 1) := by decide +kernel
theorem dX1_drawMore_214 : decode cX1_drawMore 214 = .ok (.getfield 148, 3) := by decide +kernel
theorem dX1_drawMore_217 : decode cX1_drawMore 217 = .ok (.iload 7, 2) := by decide +kernel
theorem dX1_drawMore_219 : decode cX1_drawMore 219 = .ok (.aaload, 1) := by decide +kernel
theorem dX1_drawMore_220 : decode cX1_drawMore 220 = .ok (.aload_n 0, 1) := by decide +kernel
theorem dX1_drawMore_221 : decode cX1_drawMore 221 = .ok (.getfield 152, 3) := by decide +kernel
theorem dX1_drawMore_224 : decode cX1_drawMore 224 = .ok (.iload 7, 2) := by decide +kernel
theorem dX1_drawMore_226 : decode cX1_drawMore 226 = .ok (.aaload, 1) := by decide +kernel
theorem dX1_drawMore_227 : decode cX1_drawMore 227 = .ok (.invokevirtual 191, 3) := by decide +kernel
theorem dX1_drawMore_230 : decode cX1_drawMore 230 = .ok (.iinc 6 1, 3) := by decide +kernel
theorem dX1_drawMore_233 : decode cX1_drawMore 233 = .ok (.goto (-83), 3) := by decide +kernel
theorem dX1_drawMore_236 : decode cX1_drawMore 236 = .ok (.iinc 5 1, 3) := by decide +kernel
theorem dX1_drawMore_239 : decode cX1_drawMore 239 = .ok (.goto (-98), 3) := by decide +kernel
theorem dX1_drawMore_242 : decode cX1_drawMore 242 = .ok (.return_, 1) := by decide +kernel
abbrev cX1_more : ByteArray := prog_1_method_35_code
def yX1_more : MethodName := ⟨RX1, "more", "(LPollAudit$Big;LPollAudit$Big;I)V"⟩
theorem dX1_more_0 : decode cX1_more 0 = .ok (.aload_n 0, 1) := by decide +kernel
theorem dX1_more_1 : decode cX1_more 1 = .ok (.getfield 135, 3) := by decide +kernel
theorem dX1_more_4 : decode cX1_more 4 = .ok (.aload_n 2, 1) := by decide +kernel
theorem dX1_more_5 : decode cX1_more 5 = .ok (.invokevirtual 191, 3) := by decide +kernel
theorem dX1_more_8 : decode cX1_more 8 = .ok (.aload_n 0, 1) := by decide +kernel
theorem dX1_more_9 : decode cX1_more 9 = .ok (.getfield 135, 3) := by decide +kernel
theorem dX1_more_12 : decode cX1_more 12 = .ok (.iload_n 3, 1) := by decide +kernel
theorem dX1_more_13 : decode cX1_more 13 = .ok (.invokevirtual 195, 3) := by decide +kernel
theorem dX1_more_16 : decode cX1_more 16 = .ok (.aload_n 1, 1) := by decide +kernel
theorem dX1_more_17 : decode cX1_more 17 = .ok (.aload_n 0, 1) := by decide +kernel
theorem dX1_more_18 : decode cX1_more 18 = .ok (.getfield 135, 3) := by decide +kernel
theorem dX1_more_21 : decode cX1_more 21 = .ok (.invokevirtual 314, 3) := by decide +kernel
theorem dX1_more_24 : decode cX1_more 24 = .ok (.return_, 1) := by decide +kernel
abbrev cX1_show : ByteArray := prog_1_method_38_code
def yX1_show : MethodName := ⟨RX1, "show", "(II)Z"⟩
theorem dX1_show_0 : decode cX1_show 0 = .ok (.iload_n 1, 1) := by decide +kernel
theorem dX1_show_1 : decode cX1_show 1 = .ok (.ifCond .lt 12, 3) := by decide +kernel
theorem dX1_show_4 : decode cX1_show 4 = .ok (.iload_n 1, 1) := by decide +kernel
theorem dX1_show_5 : decode cX1_show 5 = .ok (.iconst 4, 1) := by decide +kernel
theorem dX1_show_6 : decode cX1_show 6 = .ok (.if_icmp .gt 7, 3) := by decide +kernel
theorem dX1_show_9 : decode cX1_show 9 = .ok (.iconst 1, 1) := by decide +kernel
theorem dX1_show_10 : decode cX1_show 10 = .ok (.goto 4, 3) := by decide +kernel
theorem dX1_show_13 : decode cX1_show 13 = .ok (.iconst 0, 1) := by decide +kernel
theorem dX1_show_14 : decode cX1_show 14 = .ok (.invokestatic 225, 3) := by decide +kernel
theorem dX1_show_17 : decode cX1_show 17 = .ok (.iload_n 1, 1) := by decide +kernel
theorem dX1_show_18 : decode cX1_show 18 = .ok (.iconst 4, 1) := by decide +kernel
theorem dX1_show_19 : decode cX1_show 19 = .ok (.if_icmp .eq 10, 3) := by decide +kernel
theorem dX1_show_22 : decode cX1_show 22 = .ok (.aload_n 0, 1) := by decide +kernel
theorem dX1_show_23 : decode cX1_show 23 = .ok (.getfield 202, 3) := by decide +kernel
theorem dX1_show_26 : decode cX1_show 26 = .ok (.ifCond .eq 7, 3) := by decide +kernel
theorem dX1_show_29 : decode cX1_show 29 = .ok (.iconst 1, 1) := by decide +kernel
theorem dX1_show_30 : decode cX1_show 30 = .ok (.goto 4, 3) := by decide +kernel
theorem dX1_show_33 : decode cX1_show 33 = .ok (.iconst 0, 1) := by decide +kernel
theorem dX1_show_34 : decode cX1_show 34 = .ok (.invokestatic 205, 3) := by decide +kernel
theorem dX1_show_37 : decode cX1_show 37 = .ok (.iload_n 1, 1) := by decide +kernel
theorem dX1_show_38 : decode cX1_show 38 = .ok (.ifCond .ne 34, 3) := by decide +kernel
theorem dX1_show_41 : decode cX1_show 41 = .ok (.aload_n 0, 1) := by decide +kernel
theorem dX1_show_42 : decode cX1_show 42 = .ok (.iload_n 2, 1) := by decide +kernel
theorem dX1_show_43 : decode cX1_show 43 = .ok (.invokevirtual 288, 3) := by decide +kernel
theorem dX1_show_46 : decode cX1_show 46 = .ok (.astore_n 3, 1) := by decide +kernel
theorem dX1_show_47 : decode cX1_show 47 = .ok (.aload_n 0, 1) := by decide +kernel
theorem dX1_show_48 : decode cX1_show 48 = .ok (.getfield 142, 3) := by decide +kernel
theorem dX1_show_51 : decode cX1_show 51 = .ok (.aload_n 3, 1) := by decide +kernel
theorem dX1_show_52 : decode cX1_show 52 = .ok (.getfield 332, 3) := by decide +kernel
theorem dX1_show_55 : decode cX1_show 55 = .ok (.invokevirtual 191, 3) := by decide +kernel
theorem dX1_show_58 : decode cX1_show 58 = .ok (.aload_n 0, 1) := by decide +kernel
theorem dX1_show_59 : decode cX1_show 59 = .ok (.getfield 145, 3) := by decide +kernel
theorem dX1_show_62 : decode cX1_show 62 = .ok (.aload_n 3, 1) := by decide +kernel
theorem dX1_show_63 : decode cX1_show 63 = .ok (.getfield 335, 3) := by decide +kernel
theorem dX1_show_66 : decode cX1_show 66 = .ok (.invokevirtual 191, 3) := by decide +kernel
theorem dX1_show_69 : decode cX1_show 69 = .ok (.goto 174, 3) := by decide +kernel
theorem dX1_show_72 : decode cX1_show 72 = .ok (.iload_n 1, 1) := by decide +kernel
theorem dX1_show_73 : decode cX1_show 73 = .ok (.iconst 1, 1) := by decide +kernel
theorem dX1_show_74 : decode cX1_show 74 = .ok (.if_icmp .ne 61, 3) := by decide +kernel
theorem dX1_show_77 : decode cX1_show 77 = .ok (.aload_n 0, 1) := by decide +kernel
theorem dX1_show_78 : decode cX1_show 78 = .ok (.getfield 142, 3) := by decide +kernel
theorem dX1_show_81 : decode cX1_show 81 = .ok (.lconst 1, 1) := by decide +kernel
theorem dX1_show_82 : decode cX1_show 82 = .ok (.invokevirtual 165, 3) := by decide +kernel
theorem dX1_show_85 : decode cX1_show 85 = .ok (.aload_n 0, 1) := by decide +kernel
theorem dX1_show_86 : decode cX1_show 86 = .ok (.getfield 145, 3) := by decide +kernel
theorem dX1_show_89 : decode cX1_show 89 = .ok (.lconst 1, 1) := by decide +kernel
theorem dX1_show_90 : decode cX1_show 90 = .ok (.invokevirtual 165, 3) := by decide +kernel
theorem dX1_show_93 : decode cX1_show 93 = .ok (.aload_n 0, 1) := by decide +kernel
theorem dX1_show_94 : decode cX1_show 94 = .ok (.getfield 119, 3) := by decide +kernel
theorem dX1_show_97 : decode cX1_show 97 = .ok (.aload_n 0, 1) := by decide +kernel
theorem dX1_show_98 : decode cX1_show 98 = .ok (.getfield 115, 3) := by decide +kernel
theorem dX1_show_101 : decode cX1_show 101 = .ok (.if_acmp .ne 142, 3) := by decide +kernel
theorem dX1_show_104 : decode cX1_show 104 = .ok (.aload_n 0, 1) := by decide +kernel
theorem dX1_show_105 : decode cX1_show 105 = .ok (.getfield 142, 3) := by decide +kernel
theorem dX1_show_108 : decode cX1_show 108 = .ok (.aload_n 0, 1) := by decide +kernel
theorem dX1_show_109 : decode cX1_show 109 = .ok (.getfield 115, 3) := by decide +kernel
theorem dX1_show_112 : decode cX1_show 112 = .ok (.getfield 338, 3) := by decide +kernel
theorem dX1_show_115 : decode cX1_show 115 = .ok (.invokevirtual 191, 3) := by decide +kernel
theorem dX1_show_118 : decode cX1_show 118 = .ok (.aload_n 0, 1) := by decide +kernel
theorem dX1_show_119 : decode cX1_show 119 = .ok (.getfield 145, 3) := by decide +kernel
theorem dX1_show_122 : decode cX1_show 122 = .ok (.aload_n 0, 1) := by decide +kernel
theorem dX1_show_123 : decode cX1_show 123 = .ok (.getfield 115, 3) := by decide +kernel
theorem dX1_show_126 : decode cX1_show 126 = .ok (.getfield 339, 3) := by decide +kernel
theorem dX1_show_129 : decode cX1_show 129 = .ok (.invokevirtual 191, 3) := by decide +kernel
theorem dX1_show_132 : decode cX1_show 132 = .ok (.goto 111, 3) := by decide +kernel
theorem dX1_show_135 : decode cX1_show 135 = .ok (.iload_n 1, 1) := by decide +kernel
theorem dX1_show_136 : decode cX1_show 136 = .ok (.iconst 2, 1) := by decide +kernel
theorem dX1_show_137 : decode cX1_show 137 = .ok (.if_icmp .ne 56, 3) := by decide +kernel
theorem dX1_show_140 : decode cX1_show 140 = .ok (.aload_n 0, 1) := by decide +kernel
theorem dX1_show_141 : decode cX1_show 141 = .ok (.iload_n 2, 1) := by decide +kernel
theorem dX1_show_142 : decode cX1_show 142 = .ok (.invokevirtual 288, 3) := by decide +kernel
theorem dX1_show_145 : decode cX1_show 145 = .ok (.astore_n 3, 1) := by decide +kernel
theorem dX1_show_146 : decode cX1_show 146 = .ok (.aload_n 0, 1) := by decide +kernel
theorem dX1_show_147 : decode cX1_show 147 = .ok (.getfield 142, 3) := by decide +kernel
theorem dX1_show_150 : decode cX1_show 150 = .ok (.aload_n 0, 1) := by decide +kernel
theorem dX1_show_151 : decode cX1_show 151 = .ok (.getfield 29, 3) := by decide +kernel
theorem dX1_show_154 : decode cX1_show 154 = .ok (.aload_n 3, 1) := by decide +kernel
theorem dX1_show_155 : decode cX1_show 155 = .ok (.getfield 172, 3) := by decide +kernel
theorem dX1_show_158 : decode cX1_show 158 = .ok (.iaload, 1) := by decide +kernel
theorem dX1_show_159 : decode cX1_show 159 = .ok (.i2l, 1) := by decide +kernel
theorem dX1_show_160 : decode cX1_show 160 = .ok (.invokevirtual 165, 3) := by decide +kernel
theorem dX1_show_163 : decode cX1_show 163 = .ok (.aload_n 0, 1) := by decide +kernel
theorem dX1_show_164 : decode cX1_show 164 = .ok (.getfield 145, 3) := by decide +kernel
theorem dX1_show_167 : decode cX1_show 167 = .ok (.aload_n 0, 1) := by decide +kernel
theorem dX1_show_168 : decode cX1_show 168 = .ok (.getfield 29, 3) := by decide +kernel
theorem dX1_show_171 : decode cX1_show 171 = .ok (.aload_n 3, 1) := by decide +kernel
theorem dX1_show_172 : decode cX1_show 172 = .ok (.getfield 172, 3) := by decide +kernel
theorem dX1_show_175 : decode cX1_show 175 = .ok (.iaload, 1) := by decide +kernel
theorem dX1_show_176 : decode cX1_show 176 = .ok (.aload_n 0, 1) := by decide +kernel
theorem dX1_show_177 : decode cX1_show 177 = .ok (.getfield 29, 3) := by decide +kernel
theorem dX1_show_180 : decode cX1_show 180 = .ok (.aload_n 3, 1) := by decide +kernel
theorem dX1_show_181 : decode cX1_show 181 = .ok (.getfield 175, 3) := by decide +kernel
theorem dX1_show_184 : decode cX1_show 184 = .ok (.iaload, 1) := by decide +kernel
theorem dX1_show_185 : decode cX1_show 185 = .ok (.iadd, 1) := by decide +kernel
theorem dX1_show_186 : decode cX1_show 186 = .ok (.i2l, 1) := by decide +kernel
theorem dX1_show_187 : decode cX1_show 187 = .ok (.invokevirtual 165, 3) := by decide +kernel
theorem dX1_show_190 : decode cX1_show 190 = .ok (.goto 53, 3) := by decide +kernel
theorem dX1_show_193 : decode cX1_show 193 = .ok (.aload_n 0, 1) := by decide +kernel
theorem dX1_show_194 : decode cX1_show 194 = .ok (.getfield 142, 3) := by decide +kernel
theorem dX1_show_197 : decode cX1_show 197 = .ok (.iload_n 1, 1) := by decide +kernel
theorem dX1_show_198 : decode cX1_show 198 = .ok (.iconst 3, 1) := by decide +kernel
theorem dX1_show_199 : decode cX1_show 199 = .ok (.if_icmp .ne 11, 3) := by decide +kernel
theorem dX1_show_202 : decode cX1_show 202 = .ok (.aload_n 0, 1) := by decide +kernel
theorem dX1_show_203 : decode cX1_show 203 = .ok (.invokevirtual 340, 3) := by decide +kernel
theorem dX1_show_206 : decode cX1_show 206 = .ok (.i2l, 1) := by decide +kernel
theorem dX1_show_207 : decode cX1_show 207 = .ok (.goto 8, 3) := by decide +kernel
theorem dX1_show_210 : decode cX1_show 210 = .ok (.aload_n 0, 1) := by decide +kernel
theorem dX1_show_211 : decode cX1_show 211 = .ok (.getfield 43, 3) := by decide +kernel
theorem dX1_show_214 : decode cX1_show 214 = .ok (.i2l, 1) := by decide +kernel
theorem dX1_show_215 : decode cX1_show 215 = .ok (.invokevirtual 165, 3) := by decide +kernel
theorem dX1_show_218 : decode cX1_show 218 = .ok (.aload_n 0, 1) := by decide +kernel
theorem dX1_show_219 : decode cX1_show 219 = .ok (.getfield 145, 3) := by decide +kernel
theorem dX1_show_222 : decode cX1_show 222 = .ok (.iload_n 1, 1) := by decide +kernel
theorem dX1_show_223 : decode cX1_show 223 = .ok (.iconst 3, 1) := by decide +kernel
theorem dX1_show_224 : decode cX1_show 224 = .ok (.if_icmp .ne 11, 3) := by decide +kernel
theorem dX1_show_227 : decode cX1_show 227 = .ok (.aload_n 0, 1) := by decide +kernel
theorem dX1_show_228 : decode cX1_show 228 = .ok (.getfield 222, 3) := by decide +kernel
theorem dX1_show_231 : decode cX1_show 231 = .ok (.i2l, 1) := by decide +kernel
theorem dX1_show_232 : decode cX1_show 232 = .ok (.goto 8, 3) := by decide +kernel
theorem dX1_show_235 : decode cX1_show 235 = .ok (.aload_n 0, 1) := by decide +kernel
theorem dX1_show_236 : decode cX1_show 236 = .ok (.getfield 46, 3) := by decide +kernel
theorem dX1_show_239 : decode cX1_show 239 = .ok (.i2l, 1) := by decide +kernel
theorem dX1_show_240 : decode cX1_show 240 = .ok (.invokevirtual 165, 3) := by decide +kernel
theorem dX1_show_243 : decode cX1_show 243 = .ok (.aload_n 0, 1) := by decide +kernel
theorem dX1_show_244 : decode cX1_show 244 = .ok (.getfield 126, 3) := by decide +kernel
theorem dX1_show_247 : decode cX1_show 247 = .ok (.aload_n 0, 1) := by decide +kernel
theorem dX1_show_248 : decode cX1_show 248 = .ok (.getfield 142, 3) := by decide +kernel
theorem dX1_show_251 : decode cX1_show 251 = .ok (.aload_n 0, 1) := by decide +kernel
theorem dX1_show_252 : decode cX1_show 252 = .ok (.getfield 145, 3) := by decide +kernel
theorem dX1_show_255 : decode cX1_show 255 = .ok (.invokevirtual 328, 3) := by decide +kernel
theorem dX1_show_258 : decode cX1_show 258 = .ok (.aload_n 0, 1) := by decide +kernel
theorem dX1_show_259 : decode cX1_show 259 = .ok (.getfield 142, 3) := by decide +kernel
theorem dX1_show_262 : decode cX1_show 262 = .ok (.aload_n 0, 1) := by decide +kernel
theorem dX1_show_263 : decode cX1_show 263 = .ok (.getfield 145, 3) := by decide +kernel
theorem dX1_show_266 : decode cX1_show 266 = .ok (.invokevirtual 198, 3) := by decide +kernel
theorem dX1_show_269 : decode cX1_show 269 = .ok (.ifCond .lt 7, 3) := by decide +kernel
theorem dX1_show_272 : decode cX1_show 272 = .ok (.iconst 1, 1) := by decide +kernel
theorem dX1_show_273 : decode cX1_show 273 = .ok (.goto 4, 3) := by decide +kernel
theorem dX1_show_276 : decode cX1_show 276 = .ok (.iconst 0, 1) := by decide +kernel
theorem dX1_show_277 : decode cX1_show 277 = .ok (.ireturn, 1) := by decide +kernel
abbrev cX1_size : ByteArray := prog_1_method_40_code
def yX1_size : MethodName := ⟨RX1, "size", "(I)I"⟩
theorem dX1_size_0 : decode cX1_size 0 = .ok (.aload_n 0, 1) := by decide +kernel
theorem dX1_size_1 : decode cX1_size 1 = .ok (.iload_n 1, 1) := by decide +kernel
theorem dX1_size_2 : decode cX1_size 2 = .ok (.invokevirtual 343, 3) := by decide +kernel
theorem dX1_size_5 : decode cX1_size 5 = .ok (.getfield 347, 3) := by decide +kernel
theorem dX1_size_8 : decode cX1_size 8 = .ok (.ireturn, 1) := by decide +kernel
abbrev cX1_part : ByteArray := prog_1_method_39_code
def yX1_part : MethodName := ⟨RX1, "part", "(I)LPollAudit$Big;"⟩
theorem dX1_part_0 : decode cX1_part 0 = .ok (.iload_n 1, 1) := by decide +kernel
theorem dX1_part_1 : decode cX1_part 1 = .ok (.ifCond .eq 8, 3) := by decide +kernel
theorem dX1_part_4 : decode cX1_part 4 = .ok (.iload_n 1, 1) := by decide +kernel
theorem dX1_part_5 : decode cX1_part 5 = .ok (.iconst 1, 1) := by decide +kernel
theorem dX1_part_6 : decode cX1_part 6 = .ok (.if_icmp .ne 7, 3) := by decide +kernel
theorem dX1_part_9 : decode cX1_part 9 = .ok (.iconst 1, 1) := by decide +kernel
theorem dX1_part_10 : decode cX1_part 10 = .ok (.goto 4, 3) := by decide +kernel
theorem dX1_part_13 : decode cX1_part 13 = .ok (.iconst 0, 1) := by decide +kernel
theorem dX1_part_14 : decode cX1_part 14 = .ok (.invokestatic 225, 3) := by decide +kernel
theorem dX1_part_17 : decode cX1_part 17 = .ok (.iload_n 1, 1) := by decide +kernel
theorem dX1_part_18 : decode cX1_part 18 = .ok (.ifCond .ne 10, 3) := by decide +kernel
theorem dX1_part_21 : decode cX1_part 21 = .ok (.aload_n 0, 1) := by decide +kernel
theorem dX1_part_22 : decode cX1_part 22 = .ok (.getfield 142, 3) := by decide +kernel
theorem dX1_part_25 : decode cX1_part 25 = .ok (.goto 7, 3) := by decide +kernel
theorem dX1_part_28 : decode cX1_part 28 = .ok (.aload_n 0, 1) := by decide +kernel
theorem dX1_part_29 : decode cX1_part 29 = .ok (.getfield 145, 3) := by decide +kernel
theorem dX1_part_32 : decode cX1_part 32 = .ok (.areturn, 1) := by decide +kernel
abbrev cX1_limb : ByteArray := prog_1_method_41_code
def yX1_limb : MethodName := ⟨RX1, "limb", "(II)I"⟩
theorem dX1_limb_0 : decode cX1_limb 0 = .ok (.aload_n 0, 1) := by decide +kernel
theorem dX1_limb_1 : decode cX1_limb 1 = .ok (.iload_n 1, 1) := by decide +kernel
theorem dX1_limb_2 : decode cX1_limb 2 = .ok (.invokevirtual 343, 3) := by decide +kernel
theorem dX1_limb_5 : decode cX1_limb 5 = .ok (.astore_n 3, 1) := by decide +kernel
theorem dX1_limb_6 : decode cX1_limb 6 = .ok (.iload_n 2, 1) := by decide +kernel
theorem dX1_limb_7 : decode cX1_limb 7 = .ok (.ifCond .lt 15, 3) := by decide +kernel
theorem dX1_limb_10 : decode cX1_limb 10 = .ok (.iload_n 2, 1) := by decide +kernel
theorem dX1_limb_11 : decode cX1_limb 11 = .ok (.aload_n 3, 1) := by decide +kernel
theorem dX1_limb_12 : decode cX1_limb 12 = .ok (.getfield 347, 3) := by decide +kernel
theorem dX1_limb_15 : decode cX1_limb 15 = .ok (.if_icmp .ge 7, 3) := by decide +kernel
theorem dX1_limb_18 : decode cX1_limb 18 = .ok (.iconst 1, 1) := by decide +kernel
theorem dX1_limb_19 : decode cX1_limb 19 = .ok (.goto 4, 3) := by decide +kernel
theorem dX1_limb_22 : decode cX1_limb 22 = .ok (.iconst 0, 1) := by decide +kernel
theorem dX1_limb_23 : decode cX1_limb 23 = .ok (.invokestatic 225, 3) := by decide +kernel
theorem dX1_limb_26 : decode cX1_limb 26 = .ok (.aload_n 3, 1) := by decide +kernel
theorem dX1_limb_27 : decode cX1_limb 27 = .ok (.getfield 348, 3) := by decide +kernel
theorem dX1_limb_30 : decode cX1_limb 30 = .ok (.iload_n 2, 1) := by decide +kernel
theorem dX1_limb_31 : decode cX1_limb 31 = .ok (.iaload, 1) := by decide +kernel
theorem dX1_limb_32 : decode cX1_limb 32 = .ok (.ireturn, 1) := by decide +kernel
theorem q53 : (Jvm.Cond.initialized "PollAudit") ∈ lw_all := lw_g (lw_at lw_m1 1 rfl) rfl
theorem q77 : (Jvm.Cond.instantiable "PollAudit" (41 : Nat)) ∈ lw_all := lw_g (lw_at lw_m1 25 rfl) rfl
theorem q79 : (Jvm.Cond.instanceMethod ({ cls := "PollAudit", name := "<init>", desc := "()V" } : Jvm.MethodName)) ∈ lw_all := lw_g (lw_at lw_m1 27 rfl) rfl
theorem q80 : (Jvm.Cond.code ({ cls := "PollAudit", name := "<init>", desc := "()V" } : Jvm.MethodName) prog_1_method_5_code (2 : Nat) (Option.none : Option Jvm.ClassFile.FieldType)) ∈ lw_all := lw_g (lw_at lw_m1 28 rfl) rfl
theorem q81 : (Jvm.Cond.methodLink "PollAudit" (24 : Nat) ({ cls := "java/lang/Object", name := "<init>", desc := "()V" } : Jvm.MethodName)) ∈ lw_all := lw_g (lw_at lw_m1 29 rfl) rfl
theorem q84 : (Jvm.Cond.classLink "PollAudit" (79 : Nat) "PollAudit$Pair") ∈ lw_all := lw_g (lw_at lw_m1 32 rfl) rfl
theorem q86 : (Jvm.Cond.classLink "PollAudit" (85 : Nat) "PollAudit$Coins") ∈ lw_all := lw_g (lw_at lw_m1 34 rfl) rfl
theorem q88 : (Jvm.Cond.methodLinkNest "PollAudit" (87 : Nat) ({ cls := "PollAudit$Coins", name := "<init>", desc := "()V" } : Jvm.MethodName) "PollAudit") ∈ lw_tbl := lw_at lw_m1 36 rfl
theorem q95 : (Jvm.Cond.fieldLinkNest "PollAudit" (238 : Nat) "PollAudit$Coins" "size" "I" "PollAudit") ∈ lw_tbl := lw_at lw_m1 43 rfl
theorem q107 : (Jvm.Cond.classLink "PollAudit" (92 : Nat) "PollAudit$Seed") ∈ lw_all := lw_g (lw_at lw_m1 55 rfl) rfl
theorem q109 : (Jvm.Cond.methodLinkNest "PollAudit" (94 : Nat) ({ cls := "PollAudit$Seed", name := "<init>", desc := "()V" } : Jvm.MethodName) "PollAudit") ∈ lw_tbl := lw_at lw_m1 57 rfl
theorem q136 : (Jvm.Cond.fieldLinkNest "PollAudit" (235 : Nat) "PollAudit$Seed" "digits" "[I" "PollAudit") ∈ lw_tbl := lw_at lw_m1 84 rfl
theorem q138 : (Jvm.Cond.fieldLinkNest "PollAudit" (232 : Nat) "PollAudit$Seed" "size" "I" "PollAudit") ∈ lw_tbl := lw_at lw_m1 86 rfl
theorem q140 : (Jvm.Cond.fieldLinkNest "PollAudit" (298 : Nat) "PollAudit$Seed" "digest" "LPollAudit$Digest;" "PollAudit") ∈ lw_tbl := lw_at lw_m1 88 rfl
theorem q148 : (Jvm.Cond.classLink "PollAudit" (103 : Nat) "PollAudit$Polling") ∈ lw_all := lw_g (lw_at lw_m1 96 rfl) rfl
theorem q150 : (Jvm.Cond.methodLink "PollAudit" (105 : Nat) ({ cls := "PollAudit$Polling", name := "<init>", desc := "(LPollAudit;)V" } : Jvm.MethodName)) ∈ lw_all := lw_g (lw_at lw_m1 98 rfl) rfl
theorem q158 : (Jvm.Cond.classLink "PollAudit" (112 : Nat) "PollAudit$Comparing") ∈ lw_all := lw_g (lw_at lw_m1 106 rfl) rfl
theorem q160 : (Jvm.Cond.methodLink "PollAudit" (114 : Nat) ({ cls := "PollAudit$Comparing", name := "<init>", desc := "(LPollAudit;)V" } : Jvm.MethodName)) ∈ lw_all := lw_g (lw_at lw_m1 108 rfl) rfl
theorem q171 : (Jvm.Cond.fieldLinkNest "PollAudit" (348 : Nat) "PollAudit$Big" "cells" "[I" "PollAudit") ∈ lw_tbl := lw_at lw_m1 119 rfl
theorem q173 : (Jvm.Cond.fieldLinkNest "PollAudit" (347 : Nat) "PollAudit$Big" "size" "I" "PollAudit") ∈ lw_tbl := lw_at lw_m1 121 rfl
theorem q181 : (Jvm.Cond.fieldLinkNest "PollAudit" (338 : Nat) "PollAudit$Comparing" "above" "LPollAudit$Big;" "PollAudit") ∈ lw_tbl := lw_at lw_m1 129 rfl
theorem q183 : (Jvm.Cond.fieldLinkNest "PollAudit" (339 : Nat) "PollAudit$Comparing" "below" "LPollAudit$Big;" "PollAudit") ∈ lw_tbl := lw_at lw_m1 131 rfl
theorem q191 : (Jvm.Cond.classLink "PollAudit" (123 : Nat) "PollAudit$Reckoner") ∈ lw_all := lw_g (lw_at lw_m1 139 rfl) rfl
theorem q193 : (Jvm.Cond.methodLinkNest "PollAudit" (125 : Nat) ({ cls := "PollAudit$Reckoner", name := "<init>", desc := "()V" } : Jvm.MethodName) "PollAudit") ∈ lw_tbl := lw_at lw_m1 141 rfl
theorem q233 : (Jvm.Cond.classLink "PollAudit" (130 : Nat) "PollAudit$Big") ∈ lw_all := lw_g (lw_at lw_m1 181 rfl) rfl
theorem q234 : (Jvm.Cond.methodLink "PollAudit" (132 : Nat) ({ cls := "PollAudit$Big", name := "<init>", desc := "(I)V" } : Jvm.MethodName)) ∈ lw_all := lw_g (lw_at lw_m1 182 rfl) rfl
theorem q237 : (Jvm.Cond.methodLinkNest "PollAudit" (164 : Nat) ({ cls := "PollAudit$Pair", name := "<init>", desc := "()V" } : Jvm.MethodName) "PollAudit") ∈ lw_tbl := lw_at lw_m1 185 rfl
theorem q245 : (Jvm.Cond.fieldLinkNest "PollAudit" (172 : Nat) "PollAudit$Pair" "winner" "I" "PollAudit") ∈ lw_tbl := lw_at lw_m1 193 rfl
theorem q248 : (Jvm.Cond.fieldLinkNest "PollAudit" (175 : Nat) "PollAudit$Pair" "loser" "I" "PollAudit") ∈ lw_tbl := lw_at lw_m1 196 rfl
theorem q251 : (Jvm.Cond.fieldLinkNest "PollAudit" (278 : Nat) "PollAudit$Pair" "sure" "I" "PollAudit") ∈ lw_tbl := lw_at lw_m1 199 rfl
theorem q255 : (Jvm.Cond.fieldLinkNest "PollAudit" (332 : Nat) "PollAudit$Pair" "above" "LPollAudit$Big;" "PollAudit") ∈ lw_tbl := lw_at lw_m1 203 rfl
theorem q259 : (Jvm.Cond.fieldLinkNest "PollAudit" (335 : Nat) "PollAudit$Pair" "below" "LPollAudit$Big;" "PollAudit") ∈ lw_tbl := lw_at lw_m1 207 rfl
theorem q271 : (Jvm.Cond.methodLink "PollAudit" (165 : Nat) ({ cls := "PollAudit$Big", name := "set", desc := "(J)V" } : Jvm.MethodName)) ∈ lw_all := lw_g (lw_at lw_m1 219 rfl) rfl
theorem q290 : (Jvm.Cond.fieldLink "PollAudit" (29 : Nat) "PollAudit" "votes" "[I") ∈ lw_all := lw_g (lw_at lw_m1 238 rfl) rfl
theorem q291 : (Jvm.Cond.fieldLink "PollAudit" (169 : Nat) "PollAudit" "candidates" "I") ∈ lw_all := lw_g (lw_at lw_m1 239 rfl) rfl
theorem q292 : (Jvm.Cond.fieldLink "PollAudit" (33 : Nat) "PollAudit" "sizes" "[I") ∈ lw_all := lw_g (lw_at lw_m2 0 rfl) rfl
theorem q293 : (Jvm.Cond.fieldLink "PollAudit" (219 : Nat) "PollAudit" "batches" "I") ∈ lw_all := lw_g (lw_at lw_m2 1 rfl) rfl
theorem q295 : (Jvm.Cond.fieldLink "PollAudit" (222 : Nat) "PollAudit" "ballots" "I") ∈ lw_all := lw_g (lw_at lw_m2 3 rfl) rfl
theorem q296 : (Jvm.Cond.fieldLink "PollAudit" (36 : Nat) "PollAudit" "wins" "I") ∈ lw_all := lw_g (lw_at lw_m2 4 rfl) rfl
theorem q297 : (Jvm.Cond.fieldLink "PollAudit" (40 : Nat) "PollAudit" "cap" "I") ∈ lw_all := lw_g (lw_at lw_m2 5 rfl) rfl
theorem q298 : (Jvm.Cond.fieldLink "PollAudit" (43 : Nat) "PollAudit" "limitUp" "I") ∈ lw_all := lw_g (lw_at lw_m2 6 rfl) rfl
theorem q301 : (Jvm.Cond.fieldLink "PollAudit" (46 : Nat) "PollAudit" "limitLow" "I") ∈ lw_all := lw_g (lw_at lw_m2 9 rfl) rfl
theorem q303 : (Jvm.Cond.fieldLink "PollAudit" (49 : Nat) "PollAudit" "gammaUp" "I") ∈ lw_all := lw_g (lw_at lw_m2 11 rfl) rfl
theorem q305 : (Jvm.Cond.fieldLink "PollAudit" (52 : Nat) "PollAudit" "gammaLow" "I") ∈ lw_all := lw_g (lw_at lw_m2 13 rfl) rfl
theorem q306 : (Jvm.Cond.fieldLink "PollAudit" (55 : Nat) "PollAudit" "records" "[B") ∈ lw_all := lw_g (lw_at lw_m2 14 rfl) rfl
theorem q307 : (Jvm.Cond.fieldLink "PollAudit" (59 : Nat) "PollAudit" "seen" "[B") ∈ lw_all := lw_g (lw_at lw_m2 15 rfl) rfl
theorem q308 : (Jvm.Cond.fieldLink "PollAudit" (62 : Nat) "PollAudit" "drawn" "[S") ∈ lw_all := lw_g (lw_at lw_m2 16 rfl) rfl
theorem q309 : (Jvm.Cond.fieldLink "PollAudit" (66 : Nat) "PollAudit" "isWinner" "[Z") ∈ lw_all := lw_g (lw_at lw_m2 17 rfl) rfl
theorem q310 : (Jvm.Cond.fieldLink "PollAudit" (70 : Nat) "PollAudit" "tally" "[I") ∈ lw_all := lw_g (lw_at lw_m2 18 rfl) rfl
theorem q311 : (Jvm.Cond.fieldLink "PollAudit" (73 : Nat) "PollAudit" "counts" "[I") ∈ lw_all := lw_g (lw_at lw_m2 19 rfl) rfl
theorem q312 : (Jvm.Cond.fieldLink "PollAudit" (202 : Nat) "PollAudit" "stage" "I") ∈ lw_all := lw_g (lw_at lw_m2 20 rfl) rfl
theorem q313 : (Jvm.Cond.fieldLink "PollAudit" (251 : Nat) "PollAudit" "draws" "I") ∈ lw_all := lw_g (lw_at lw_m2 21 rfl) rfl
theorem q314 : (Jvm.Cond.fieldLink "PollAudit" (271 : Nat) "PollAudit" "different" "I") ∈ lw_all := lw_g (lw_at lw_m2 22 rfl) rfl
theorem q315 : (Jvm.Cond.fieldLink "PollAudit" (266 : Nat) "PollAudit" "blanks" "I") ∈ lw_all := lw_g (lw_at lw_m2 23 rfl) rfl
