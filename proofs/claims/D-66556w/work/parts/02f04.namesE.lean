set_option maxRecDepth 100000
theorem dX10_round_135 : decode cX10_round 135 = .ok (.iadd, 1) := by decide +kernel
theorem dX10_round_136 : decode cX10_round 136 = .ok (.istore 5, 2) := by decide +kernel
theorem dX10_round_138 : decode cX10_round 138 = .ok (.bipush 7, 2) := by decide +kernel
theorem dX10_round_140 : decode cX10_round 140 = .ok (.istore 6, 2) := by decide +kernel
theorem dX10_round_142 : decode cX10_round 142 = .ok (.iload 6, 2) := by decide +kernel
theorem dX10_round_144 : decode cX10_round 144 = .ok (.ifCond .le 25, 3) := by decide +kernel
theorem dX10_round_147 : decode cX10_round 147 = .ok (.aload_n 0, 1) := by decide +kernel
theorem dX10_round_148 : decode cX10_round 148 = .ok (.getfield 170, 3) := by decide +kernel
theorem dX10_round_151 : decode cX10_round 151 = .ok (.iload 6, 2) := by decide +kernel
theorem dX10_round_153 : decode cX10_round 153 = .ok (.aload_n 0, 1) := by decide +kernel
theorem dX10_round_154 : decode cX10_round 154 = .ok (.getfield 170, 3) := by decide +kernel
theorem dX10_round_157 : decode cX10_round 157 = .ok (.iload 6, 2) := by decide +kernel
theorem dX10_round_159 : decode cX10_round 159 = .ok (.iconst 1, 1) := by decide +kernel
theorem dX10_round_160 : decode cX10_round 160 = .ok (.isub, 1) := by decide +kernel
theorem dX10_round_161 : decode cX10_round 161 = .ok (.iaload, 1) := by decide +kernel
theorem dX10_round_162 : decode cX10_round 162 = .ok (.iastore, 1) := by decide +kernel
theorem dX10_round_163 : decode cX10_round 163 = .ok (.iinc 6 (-1), 3) := by decide +kernel
theorem dX10_round_166 : decode cX10_round 166 = .ok (.goto (-24), 3) := by decide +kernel
theorem dX10_round_169 : decode cX10_round 169 = .ok (.aload_n 0, 1) := by decide +kernel
theorem dX10_round_170 : decode cX10_round 170 = .ok (.getfield 170, 3) := by decide +kernel
theorem dX10_round_173 : decode cX10_round 173 = .ok (.iconst 4, 1) := by decide +kernel
theorem dX10_round_174 : decode cX10_round 174 = .ok (.dup2, 1) := by decide +kernel
theorem dX10_round_175 : decode cX10_round 175 = .ok (.iaload, 1) := by decide +kernel
theorem dX10_round_176 : decode cX10_round 176 = .ok (.iload 4, 2) := by decide +kernel
theorem dX10_round_178 : decode cX10_round 178 = .ok (.iadd, 1) := by decide +kernel
theorem dX10_round_179 : decode cX10_round 179 = .ok (.iastore, 1) := by decide +kernel
theorem dX10_round_180 : decode cX10_round 180 = .ok (.aload_n 0, 1) := by decide +kernel
theorem dX10_round_181 : decode cX10_round 181 = .ok (.getfield 170, 3) := by decide +kernel
theorem dX10_round_184 : decode cX10_round 184 = .ok (.iconst 0, 1) := by decide +kernel
theorem dX10_round_185 : decode cX10_round 185 = .ok (.iload 4, 2) := by decide +kernel
theorem dX10_round_187 : decode cX10_round 187 = .ok (.iload 5, 2) := by decide +kernel
theorem dX10_round_189 : decode cX10_round 189 = .ok (.iadd, 1) := by decide +kernel
theorem dX10_round_190 : decode cX10_round 190 = .ok (.iastore, 1) := by decide +kernel
theorem dX10_round_191 : decode cX10_round 191 = .ok (.return_, 1) := by decide +kernel
abbrev cX10_coinsADraw : ByteArray := prog_13_method_29_code
def yX10_coinsADraw : MethodName := ⟨RX10, "coinsADraw", "()I"⟩
theorem dX10_coinsADraw_0 : decode cX10_coinsADraw 0 = .ok (.iconst 0, 1) := by decide +kernel
theorem dX10_coinsADraw_1 : decode cX10_coinsADraw 1 = .ok (.istore_n 1, 1) := by decide +kernel
theorem dX10_coinsADraw_2 : decode cX10_coinsADraw 2 = .ok (.aload_n 0, 1) := by decide +kernel
theorem dX10_coinsADraw_3 : decode cX10_coinsADraw 3 = .ok (.getfield 240, 3) := by decide +kernel
theorem dX10_coinsADraw_6 : decode cX10_coinsADraw 6 = .ok (.ifCond .le 19, 3) := by decide +kernel
theorem dX10_coinsADraw_9 : decode cX10_coinsADraw 9 = .ok (.iconst 1, 1) := by decide +kernel
theorem dX10_coinsADraw_10 : decode cX10_coinsADraw 10 = .ok (.iload_n 1, 1) := by decide +kernel
theorem dX10_coinsADraw_11 : decode cX10_coinsADraw 11 = .ok (.ishl, 1) := by decide +kernel
theorem dX10_coinsADraw_12 : decode cX10_coinsADraw 12 = .ok (.aload_n 0, 1) := by decide +kernel
theorem dX10_coinsADraw_13 : decode cX10_coinsADraw 13 = .ok (.getfield 240, 3) := by decide +kernel
theorem dX10_coinsADraw_16 : decode cX10_coinsADraw 16 = .ok (.if_icmp .ge 9, 3) := by decide +kernel
theorem dX10_coinsADraw_19 : decode cX10_coinsADraw 19 = .ok (.iinc 1 1, 3) := by decide +kernel
theorem dX10_coinsADraw_22 : decode cX10_coinsADraw 22 = .ok (.goto (-20), 3) := by decide +kernel
theorem dX10_coinsADraw_25 : decode cX10_coinsADraw 25 = .ok (.iload_n 1, 1) := by decide +kernel
theorem dX10_coinsADraw_26 : decode cX10_coinsADraw 26 = .ok (.ireturn, 1) := by decide +kernel
abbrev cX10_count : ByteArray := prog_13_method_35_code
def yX10_count : MethodName := ⟨RX10, "count", "(I)V"⟩
theorem dX10_count_0 : decode cX10_count 0 = .ok (.bipush (-2), 2) := by decide +kernel
theorem dX10_count_2 : decode cX10_count 2 = .ok (.istore_n 2, 1) := by decide +kernel
theorem dX10_count_3 : decode cX10_count 3 = .ok (.iload_n 1, 1) := by decide +kernel
theorem dX10_count_4 : decode cX10_count 4 = .ok (.bipush (-2), 2) := by decide +kernel
theorem dX10_count_6 : decode cX10_count 6 = .ok (.if_icmp .eq 24, 3) := by decide +kernel
theorem dX10_count_9 : decode cX10_count 9 = .ok (.aload_n 0, 1) := by decide +kernel
theorem dX10_count_10 : decode cX10_count 10 = .ok (.getfield 64, 3) := by decide +kernel
theorem dX10_count_13 : decode cX10_count 13 = .ok (.iload_n 1, 1) := by decide +kernel
theorem dX10_count_14 : decode cX10_count 14 = .ok (.baload, 1) := by decide +kernel
theorem dX10_count_15 : decode cX10_count 15 = .ok (.istore_n 2, 1) := by decide +kernel
theorem dX10_count_16 : decode cX10_count 16 = .ok (.iload_n 2, 1) := by decide +kernel
theorem dX10_count_17 : decode cX10_count 17 = .ok (.ifCond .lt 13, 3) := by decide +kernel
theorem dX10_count_20 : decode cX10_count 20 = .ok (.aload_n 0, 1) := by decide +kernel
theorem dX10_count_21 : decode cX10_count 21 = .ok (.getfield 61, 3) := by decide +kernel
theorem dX10_count_24 : decode cX10_count 24 = .ok (.iload_n 2, 1) := by decide +kernel
theorem dX10_count_25 : decode cX10_count 25 = .ok (.dup2, 1) := by decide +kernel
theorem dX10_count_26 : decode cX10_count 26 = .ok (.iaload, 1) := by decide +kernel
theorem dX10_count_27 : decode cX10_count 27 = .ok (.iconst 1, 1) := by decide +kernel
theorem dX10_count_28 : decode cX10_count 28 = .ok (.iadd, 1) := by decide +kernel
theorem dX10_count_29 : decode cX10_count 29 = .ok (.iastore, 1) := by decide +kernel
theorem dX10_count_30 : decode cX10_count 30 = .ok (.iconst 1, 1) := by decide +kernel
theorem dX10_count_31 : decode cX10_count 31 = .ok (.istore_n 3, 1) := by decide +kernel
theorem dX10_count_32 : decode cX10_count 32 = .ok (.aload_n 0, 1) := by decide +kernel
theorem dX10_count_33 : decode cX10_count 33 = .ok (.getfield 257, 3) := by decide +kernel
theorem dX10_count_36 : decode cX10_count 36 = .ok (.ifCond .eq 60, 3) := by decide +kernel
theorem dX10_count_39 : decode cX10_count 39 = .ok (.aload_n 0, 1) := by decide +kernel
theorem dX10_count_40 : decode cX10_count 40 = .ok (.iload_n 1, 1) := by decide +kernel
theorem dX10_count_41 : decode cX10_count 41 = .ok (.invokevirtual 281, 3) := by decide +kernel
theorem dX10_count_44 : decode cX10_count 44 = .ok (.aload_n 0, 1) := by decide +kernel
theorem dX10_count_45 : decode cX10_count 45 = .ok (.iconst 2, 1) := by decide +kernel
theorem dX10_count_46 : decode cX10_count 46 = .ok (.bipush 6, 2) := by decide +kernel
theorem dX10_count_48 : decode cX10_count 48 = .ok (.invokevirtual 195, 3) := by decide +kernel
theorem dX10_count_51 : decode cX10_count 51 = .ok (.aload_n 0, 1) := by decide +kernel
theorem dX10_count_52 : decode cX10_count 52 = .ok (.iconst 3, 1) := by decide +kernel
theorem dX10_count_53 : decode cX10_count 53 = .ok (.bipush 7, 2) := by decide +kernel
theorem dX10_count_55 : decode cX10_count 55 = .ok (.invokevirtual 195, 3) := by decide +kernel
theorem dX10_count_58 : decode cX10_count 58 = .ok (.aload_n 0, 1) := by decide +kernel
theorem dX10_count_59 : decode cX10_count 59 = .ok (.iconst 2, 1) := by decide +kernel
theorem dX10_count_60 : decode cX10_count 60 = .ok (.aload_n 0, 1) := by decide +kernel
theorem dX10_count_61 : decode cX10_count 61 = .ok (.getfield 33, 3) := by decide +kernel
theorem dX10_count_64 : decode cX10_count 64 = .ok (.i2l, 1) := by decide +kernel
theorem dX10_count_65 : decode cX10_count 65 = .ok (.invokevirtual 192, 3) := by decide +kernel
theorem dX10_count_68 : decode cX10_count 68 = .ok (.aload_n 0, 1) := by decide +kernel
theorem dX10_count_69 : decode cX10_count 69 = .ok (.iconst 3, 1) := by decide +kernel
theorem dX10_count_70 : decode cX10_count 70 = .ok (.aload_n 0, 1) := by decide +kernel
theorem dX10_count_71 : decode cX10_count 71 = .ok (.getfield 30, 3) := by decide +kernel
theorem dX10_count_74 : decode cX10_count 74 = .ok (.i2l, 1) := by decide +kernel
theorem dX10_count_75 : decode cX10_count 75 = .ok (.invokevirtual 192, 3) := by decide +kernel
theorem dX10_count_78 : decode cX10_count 78 = .ok (.aload_n 0, 1) := by decide +kernel
theorem dX10_count_79 : decode cX10_count 79 = .ok (.iconst 2, 1) := by decide +kernel
theorem dX10_count_80 : decode cX10_count 80 = .ok (.iconst 3, 1) := by decide +kernel
theorem dX10_count_81 : decode cX10_count 81 = .ok (.invokevirtual 203, 3) := by decide +kernel
theorem dX10_count_84 : decode cX10_count 84 = .ok (.ifCond .gt 7, 3) := by decide +kernel
theorem dX10_count_87 : decode cX10_count 87 = .ok (.iconst 1, 1) := by decide +kernel
theorem dX10_count_88 : decode cX10_count 88 = .ok (.goto 4, 3) := by decide +kernel
theorem dX10_count_91 : decode cX10_count 91 = .ok (.iconst 0, 1) := by decide +kernel
theorem dX10_count_92 : decode cX10_count 92 = .ok (.istore_n 3, 1) := by decide +kernel
theorem dX10_count_93 : decode cX10_count 93 = .ok (.goto 105, 3) := by decide +kernel
theorem dX10_count_96 : decode cX10_count 96 = .ok (.iconst 0, 1) := by decide +kernel
theorem dX10_count_97 : decode cX10_count 97 = .ok (.istore 4, 2) := by decide +kernel
theorem dX10_count_99 : decode cX10_count 99 = .ok (.iload 4, 2) := by decide +kernel
theorem dX10_count_101 : decode cX10_count 101 = .ok (.aload_n 0, 1) := by decide +kernel
theorem dX10_count_102 : decode cX10_count 102 = .ok (.getfield 250, 3) := by decide +kernel
theorem dX10_count_105 : decode cX10_count 105 = .ok (.if_icmp .ge 93, 3) := by decide +kernel
theorem dX10_count_108 : decode cX10_count 108 = .ok (.aload_n 0, 1) := by decide +kernel
theorem dX10_count_109 : decode cX10_count 109 = .ok (.getfield 58, 3) := by decide +kernel
theorem dX10_count_112 : decode cX10_count 112 = .ok (.iload 4, 2) := by decide +kernel
theorem dX10_count_114 : decode cX10_count 114 = .ok (.iaload, 1) := by decide +kernel
theorem dX10_count_115 : decode cX10_count 115 = .ok (.iconst (-1), 1) := by decide +kernel
theorem dX10_count_116 : decode cX10_count 116 = .ok (.if_icmp .ne 55, 3) := by decide +kernel
theorem dX10_count_119 : decode cX10_count 119 = .ok (.aload_n 0, 1) := by decide +kernel
theorem dX10_count_120 : decode cX10_count 120 = .ok (.iload 4, 2) := by decide +kernel
theorem dX10_count_122 : decode cX10_count 122 = .ok (.iconst 2, 1) := by decide +kernel
theorem dX10_count_123 : decode cX10_count 123 = .ok (.iconst 3, 1) := by decide +kernel
theorem dX10_count_124 : decode cX10_count 124 = .ok (.invokevirtual 284, 3) := by decide +kernel
theorem dX10_count_127 : decode cX10_count 127 = .ok (.aload_n 0, 1) := by decide +kernel
theorem dX10_count_128 : decode cX10_count 128 = .ok (.iconst 2, 1) := by decide +kernel
theorem dX10_count_129 : decode cX10_count 129 = .ok (.aload_n 0, 1) := by decide +kernel
theorem dX10_count_130 : decode cX10_count 130 = .ok (.getfield 30, 3) := by decide +kernel
theorem dX10_count_133 : decode cX10_count 133 = .ok (.i2l, 1) := by decide +kernel
theorem dX10_count_134 : decode cX10_count 134 = .ok (.invokevirtual 192, 3) := by decide +kernel
theorem dX10_count_137 : decode cX10_count 137 = .ok (.aload_n 0, 1) := by decide +kernel
theorem dX10_count_138 : decode cX10_count 138 = .ok (.iconst 3, 1) := by decide +kernel
theorem dX10_count_139 : decode cX10_count 139 = .ok (.aload_n 0, 1) := by decide +kernel
theorem dX10_count_140 : decode cX10_count 140 = .ok (.getfield 33, 3) := by decide +kernel
theorem dX10_count_143 : decode cX10_count 143 = .ok (.i2l, 1) := by decide +kernel
theorem dX10_count_144 : decode cX10_count 144 = .ok (.invokevirtual 192, 3) := by decide +kernel
theorem dX10_count_147 : decode cX10_count 147 = .ok (.aload_n 0, 1) := by decide +kernel
theorem dX10_count_148 : decode cX10_count 148 = .ok (.getfield 58, 3) := by decide +kernel
theorem dX10_count_151 : decode cX10_count 151 = .ok (.iload 4, 2) := by decide +kernel
theorem dX10_count_153 : decode cX10_count 153 = .ok (.aload_n 0, 1) := by decide +kernel
theorem dX10_count_154 : decode cX10_count 154 = .ok (.iconst 2, 1) := by decide +kernel
theorem dX10_count_155 : decode cX10_count 155 = .ok (.iconst 3, 1) := by decide +kernel
theorem dX10_count_156 : decode cX10_count 156 = .ok (.invokevirtual 203, 3) := by decide +kernel
theorem dX10_count_159 : decode cX10_count 159 = .ok (.ifCond .lt 10, 3) := by decide +kernel
theorem dX10_count_162 : decode cX10_count 162 = .ok (.aload_n 0, 1) := by decide +kernel
theorem dX10_count_163 : decode cX10_count 163 = .ok (.getfield 288, 3) := by decide +kernel
theorem dX10_count_166 : decode cX10_count 166 = .ok (.goto 4, 3) := by decide +kernel
theorem dX10_count_169 : decode cX10_count 169 = .ok (.iconst (-1), 1) := by decide +kernel
theorem dX10_count_170 : decode cX10_count 170 = .ok (.iastore, 1) := by decide +kernel
theorem dX10_count_171 : decode cX10_count 171 = .ok (.iload_n 3, 1) := by decide +kernel
theorem dX10_count_172 : decode cX10_count 172 = .ok (.ifCond .eq 18, 3) := by decide +kernel
theorem dX10_count_175 : decode cX10_count 175 = .ok (.aload_n 0, 1) := by decide +kernel
theorem dX10_count_176 : decode cX10_count 176 = .ok (.getfield 58, 3) := by decide +kernel
theorem dX10_count_179 : decode cX10_count 179 = .ok (.iload 4, 2) := by decide +kernel
theorem dX10_count_181 : decode cX10_count 181 = .ok (.iaload, 1) := by decide +kernel
theorem dX10_count_182 : decode cX10_count 182 = .ok (.iconst (-1), 1) := by decide +kernel
theorem dX10_count_183 : decode cX10_count 183 = .ok (.if_icmp .eq 7, 3) := by decide +kernel
theorem dX10_count_186 : decode cX10_count 186 = .ok (.iconst 1, 1) := by decide +kernel
theorem dX10_count_187 : decode cX10_count 187 = .ok (.goto 4, 3) := by decide +kernel
theorem dX10_count_190 : decode cX10_count 190 = .ok (.iconst 0, 1) := by decide +kernel
theorem dX10_count_191 : decode cX10_count 191 = .ok (.istore_n 3, 1) := by decide +kernel
theorem dX10_count_192 : decode cX10_count 192 = .ok (.iinc 4 1, 3) := by decide +kernel
theorem dX10_count_195 : decode cX10_count 195 = .ok (.goto (-96), 3) := by decide +kernel
theorem dX10_count_198 : decode cX10_count 198 = .ok (.aload_n 0, 1) := by decide +kernel
theorem dX10_count_199 : decode cX10_count 199 = .ok (.iload_n 3, 1) := by decide +kernel
theorem dX10_count_200 : decode cX10_count 200 = .ok (.ifCond .eq 7, 3) := by decide +kernel
theorem dX10_count_203 : decode cX10_count 203 = .ok (.iconst 3, 1) := by decide +kernel
theorem dX10_count_204 : decode cX10_count 204 = .ok (.goto 19, 3) := by decide +kernel
theorem dX10_count_207 : decode cX10_count 207 = .ok (.aload_n 0, 1) := by decide +kernel
theorem dX10_count_208 : decode cX10_count 208 = .ok (.getfield 288, 3) := by decide +kernel
theorem dX10_count_211 : decode cX10_count 211 = .ok (.aload_n 0, 1) := by decide +kernel
theorem dX10_count_212 : decode cX10_count 212 = .ok (.getfield 20, 3) := by decide +kernel
theorem dX10_count_215 : decode cX10_count 215 = .ok (.if_icmp .ne 7, 3) := by decide +kernel
theorem dX10_count_218 : decode cX10_count 218 = .ok (.iconst 4, 1) := by decide +kernel
theorem dX10_count_219 : decode cX10_count 219 = .ok (.goto 4, 3) := by decide +kernel
theorem dX10_count_222 : decode cX10_count 222 = .ok (.iconst 1, 1) := by decide +kernel
theorem dX10_count_223 : decode cX10_count 223 = .ok (.putfield 231, 3) := by decide +kernel
theorem dX10_count_226 : decode cX10_count 226 = .ok (.return_, 1) := by decide +kernel
abbrev cX10_factor : ByteArray := prog_13_method_34_code
def yX10_factor : MethodName := ⟨RX10, "factor", "(I)V"⟩
theorem dX10_factor_0 : decode cX10_factor 0 = .ok (.iconst 0, 1) := by decide +kernel
theorem dX10_factor_1 : decode cX10_factor 1 = .ok (.istore_n 2, 1) := by decide +kernel
theorem dX10_factor_2 : decode cX10_factor 2 = .ok (.iconst 1, 1) := by decide +kernel
theorem dX10_factor_3 : decode cX10_factor 3 = .ok (.istore_n 3, 1) := by decide +kernel
theorem dX10_factor_4 : decode cX10_factor 4 = .ok (.iconst 0, 1) := by decide +kernel
theorem dX10_factor_5 : decode cX10_factor 5 = .ok (.istore 4, 2) := by decide +kernel
theorem dX10_factor_7 : decode cX10_factor 7 = .ok (.iconst 0, 1) := by decide +kernel
theorem dX10_factor_8 : decode cX10_factor 8 = .ok (.istore 5, 2) := by decide +kernel
theorem dX10_factor_10 : decode cX10_factor 10 = .ok (.iload 5, 2) := by decide +kernel
theorem dX10_factor_12 : decode cX10_factor 12 = .ok (.aload_n 0, 1) := by decide +kernel
theorem dX10_factor_13 : decode cX10_factor 13 = .ok (.getfield 250, 3) := by decide +kernel
theorem dX10_factor_16 : decode cX10_factor 16 = .ok (.if_icmp .ge 133, 3) := by decide +kernel
theorem dX10_factor_19 : decode cX10_factor 19 = .ok (.iload_n 1, 1) := by decide +kernel
theorem dX10_factor_20 : decode cX10_factor 20 = .ok (.bipush (-2), 2) := by decide +kernel
theorem dX10_factor_22 : decode cX10_factor 22 = .ok (.if_icmp .eq 127, 3) := by decide +kernel
theorem dX10_factor_25 : decode cX10_factor 25 = .ok (.aload_n 0, 1) := by decide +kernel
theorem dX10_factor_26 : decode cX10_factor 26 = .ok (.getfield 52, 3) := by decide +kernel
theorem dX10_factor_29 : decode cX10_factor 29 = .ok (.iload 5, 2) := by decide +kernel
theorem dX10_factor_31 : decode cX10_factor 31 = .ok (.iaload, 1) := by decide +kernel
theorem dX10_factor_32 : decode cX10_factor 32 = .ok (.istore 6, 2) := by decide +kernel
theorem dX10_factor_34 : decode cX10_factor 34 = .ok (.aload_n 0, 1) := by decide +kernel
theorem dX10_factor_35 : decode cX10_factor 35 = .ok (.getfield 55, 3) := by decide +kernel
theorem dX10_factor_38 : decode cX10_factor 38 = .ok (.iload 5, 2) := by decide +kernel
theorem dX10_factor_40 : decode cX10_factor 40 = .ok (.iaload, 1) := by decide +kernel
theorem dX10_factor_41 : decode cX10_factor 41 = .ok (.istore 7, 2) := by decide +kernel
theorem dX10_factor_43 : decode cX10_factor 43 = .ok (.aload_n 0, 1) := by decide +kernel
theorem dX10_factor_44 : decode cX10_factor 44 = .ok (.aload_n 0, 1) := by decide +kernel
theorem dX10_factor_45 : decode cX10_factor 45 = .ok (.getfield 26, 3) := by decide +kernel
theorem dX10_factor_48 : decode cX10_factor 48 = .ok (.iload_n 1, 1) := by decide +kernel
theorem dX10_factor_49 : decode cX10_factor 49 = .ok (.baload, 1) := by decide +kernel
theorem dX10_factor_50 : decode cX10_factor 50 = .ok (.iload 6, 2) := by decide +kernel
theorem dX10_factor_52 : decode cX10_factor 52 = .ok (.invokevirtual 274, 3) := by decide +kernel
theorem dX10_factor_55 : decode cX10_factor 55 = .ok (.aload_n 0, 1) := by decide +kernel
theorem dX10_factor_56 : decode cX10_factor 56 = .ok (.aload_n 0, 1) := by decide +kernel
theorem dX10_factor_57 : decode cX10_factor 57 = .ok (.getfield 64, 3) := by decide +kernel
theorem dX10_factor_60 : decode cX10_factor 60 = .ok (.iload_n 1, 1) := by decide +kernel
theorem dX10_factor_61 : decode cX10_factor 61 = .ok (.baload, 1) := by decide +kernel
theorem dX10_factor_62 : decode cX10_factor 62 = .ok (.iload 6, 2) := by decide +kernel
theorem dX10_factor_64 : decode cX10_factor 64 = .ok (.invokevirtual 274, 3) := by decide +kernel
theorem dX10_factor_67 : decode cX10_factor 67 = .ok (.isub, 1) := by decide +kernel
theorem dX10_factor_68 : decode cX10_factor 68 = .ok (.aload_n 0, 1) := by decide +kernel
theorem dX10_factor_69 : decode cX10_factor 69 = .ok (.aload_n 0, 1) := by decide +kernel
theorem dX10_factor_70 : decode cX10_factor 70 = .ok (.getfield 26, 3) := by decide +kernel
theorem dX10_factor_73 : decode cX10_factor 73 = .ok (.iload_n 1, 1) := by decide +kernel
theorem dX10_factor_74 : decode cX10_factor 74 = .ok (.baload, 1) := by decide +kernel
theorem dX10_factor_75 : decode cX10_factor 75 = .ok (.iload 7, 2) := by decide +kernel
theorem dX10_factor_77 : decode cX10_factor 77 = .ok (.invokevirtual 274, 3) := by decide +kernel
theorem dX10_factor_80 : decode cX10_factor 80 = .ok (.isub, 1) := by decide +kernel
theorem dX10_factor_81 : decode cX10_factor 81 = .ok (.aload_n 0, 1) := by decide +kernel
theorem dX10_factor_82 : decode cX10_factor 82 = .ok (.aload_n 0, 1) := by decide +kernel
theorem dX10_factor_83 : decode cX10_factor 83 = .ok (.getfield 64, 3) := by decide +kernel
theorem dX10_factor_86 : decode cX10_factor 86 = .ok (.iload_n 1, 1) := by decide +kernel
theorem dX10_factor_87 : decode cX10_factor 87 = .ok (.baload, 1) := by decide +kernel
theorem dX10_factor_88 : decode cX10_factor 88 = .ok (.iload 7, 2) := by decide +kernel
theorem dX10_factor_90 : decode cX10_factor 90 = .ok (.invokevirtual 274, 3) := by decide +kernel
theorem dX10_factor_93 : decode cX10_factor 93 = .ok (.iadd, 1) := by decide +kernel
theorem dX10_factor_94 : decode cX10_factor 94 = .ok (.istore 8, 2) := by decide +kernel
theorem dX10_factor_96 : decode cX10_factor 96 = .ok (.aload_n 0, 1) := by decide +kernel
theorem dX10_factor_97 : decode cX10_factor 97 = .ok (.getfield 13, 3) := by decide +kernel
theorem dX10_factor_100 : decode cX10_factor 100 = .ok (.iload 6, 2) := by decide +kernel
theorem dX10_factor_102 : decode cX10_factor 102 = .ok (.iaload, 1) := by decide +kernel
theorem dX10_factor_103 : decode cX10_factor 103 = .ok (.aload_n 0, 1) := by decide +kernel
theorem dX10_factor_104 : decode cX10_factor 104 = .ok (.getfield 13, 3) := by decide +kernel
theorem dX10_factor_107 : decode cX10_factor 107 = .ok (.iload 7, 2) := by decide +kernel
theorem dX10_factor_109 : decode cX10_factor 109 = .ok (.iaload, 1) := by decide +kernel
theorem dX10_factor_110 : decode cX10_factor 110 = .ok (.isub, 1) := by decide +kernel
theorem dX10_factor_111 : decode cX10_factor 111 = .ok (.istore 9, 2) := by decide +kernel
theorem dX10_factor_113 : decode cX10_factor 113 = .ok (.iload 4, 2) := by decide +kernel
theorem dX10_factor_115 : decode cX10_factor 115 = .ok (.ifCond .eq 19, 3) := by decide +kernel
theorem dX10_factor_118 : decode cX10_factor 118 = .ok (.iload 8, 2) := by decide +kernel
theorem dX10_factor_120 : decode cX10_factor 120 = .ok (.i2l, 1) := by decide +kernel
theorem dX10_factor_121 : decode cX10_factor 121 = .ok (.iload_n 3, 1) := by decide +kernel
theorem dX10_factor_122 : decode cX10_factor 122 = .ok (.i2l, 1) := by decide +kernel
theorem dX10_factor_123 : decode cX10_factor 123 = .ok (.lmul, 1) := by decide +kernel
theorem dX10_factor_124 : decode cX10_factor 124 = .ok (.iload_n 2, 1) := by decide +kernel
theorem dX10_factor_125 : decode cX10_factor 125 = .ok (.i2l, 1) := by decide +kernel
theorem dX10_factor_126 : decode cX10_factor 126 = .ok (.iload 9, 2) := by decide +kernel
theorem dX10_factor_128 : decode cX10_factor 128 = .ok (.i2l, 1) := by decide +kernel
theorem dX10_factor_129 : decode cX10_factor 129 = .ok (.lmul, 1) := by decide +kernel
theorem dX10_factor_130 : decode cX10_factor 130 = .ok (.lcmp, 1) := by decide +kernel
theorem dX10_factor_131 : decode cX10_factor 131 = .ok (.ifCond .le 12, 3) := by decide +kernel
theorem dX10_factor_134 : decode cX10_factor 134 = .ok (.iload 8, 2) := by decide +kernel
theorem dX10_factor_136 : decode cX10_factor 136 = .ok (.istore_n 2, 1) := by decide +kernel
theorem dX10_factor_137 : decode cX10_factor 137 = .ok (.iload 9, 2) := by decide +kernel
theorem dX10_factor_139 : decode cX10_factor 139 = .ok (.istore_n 3, 1) := by decide +kernel
theorem dX10_factor_140 : decode cX10_factor 140 = .ok (.iconst 1, 1) := by decide +kernel
theorem dX10_factor_141 : decode cX10_factor 141 = .ok (.istore 4, 2) := by decide +kernel
theorem dX10_factor_143 : decode cX10_factor 143 = .ok (.iinc 5 1, 3) := by decide +kernel
theorem dX10_factor_146 : decode cX10_factor 146 = .ok (.goto (-136), 3) := by decide +kernel
theorem dX10_factor_149 : decode cX10_factor 149 = .ok (.aload_n 0, 1) := by decide +kernel
theorem dX10_factor_150 : decode cX10_factor 150 = .ok (.invokevirtual 277, 3) := by decide +kernel
theorem dX10_factor_153 : decode cX10_factor 153 = .ok (.i2l, 1) := by decide +kernel
theorem dX10_factor_154 : decode cX10_factor 154 = .ok (.lstore 5, 2) := by decide +kernel
theorem dX10_factor_156 : decode cX10_factor 156 = .ok (.aload_n 0, 1) := by decide +kernel
theorem dX10_factor_157 : decode cX10_factor 157 = .ok (.bipush 6, 2) := by decide +kernel
theorem dX10_factor_159 : decode cX10_factor 159 = .ok (.ldc2_w 268, 3) := by decide +kernel
theorem dX10_factor_162 : decode cX10_factor 162 = .ok (.aload_n 0, 1) := by decide +kernel
theorem dX10_factor_163 : decode cX10_factor 163 = .ok (.getfield 36, 3) := by decide +kernel
theorem dX10_factor_166 : decode cX10_factor 166 = .ok (.i2l, 1) := by decide +kernel
theorem dX10_factor_167 : decode cX10_factor 167 = .ok (.lmul, 1) := by decide +kernel
theorem dX10_factor_168 : decode cX10_factor 168 = .ok (.aload_n 0, 1) := by decide +kernel
theorem dX10_factor_169 : decode cX10_factor 169 = .ok (.getfield 240, 3) := by decide +kernel
theorem dX10_factor_172 : decode cX10_factor 172 = .ok (.i2l, 1) := by decide +kernel
theorem dX10_factor_173 : decode cX10_factor 173 = .ok (.lmul, 1) := by decide +kernel
theorem dX10_factor_174 : decode cX10_factor 174 = .ok (.lload 5, 2) := by decide +kernel
theorem dX10_factor_176 : decode cX10_factor 176 = .ok (.aload_n 0, 1) := by decide +kernel
theorem dX10_factor_177 : decode cX10_factor 177 = .ok (.getfield 39, 3) := by decide +kernel
theorem dX10_factor_180 : decode cX10_factor 180 = .ok (.i2l, 1) := by decide +kernel
theorem dX10_factor_181 : decode cX10_factor 181 = .ok (.lmul, 1) := by decide +kernel
theorem dX10_factor_182 : decode cX10_factor 182 = .ok (.lsub, 1) := by decide +kernel
theorem dX10_factor_183 : decode cX10_factor 183 = .ok (.invokevirtual 192, 3) := by decide +kernel
theorem dX10_factor_186 : decode cX10_factor 186 = .ok (.aload_n 0, 1) := by decide +kernel
theorem dX10_factor_187 : decode cX10_factor 187 = .ok (.bipush 6, 2) := by decide +kernel
theorem dX10_factor_189 : decode cX10_factor 189 = .ok (.iload_n 3, 1) := by decide +kernel
theorem dX10_factor_190 : decode cX10_factor 190 = .ok (.i2l, 1) := by decide +kernel
theorem dX10_factor_191 : decode cX10_factor 191 = .ok (.invokevirtual 192, 3) := by decide +kernel
theorem dX10_factor_194 : decode cX10_factor 194 = .ok (.aload_n 0, 1) := by decide +kernel
theorem dX10_factor_195 : decode cX10_factor 195 = .ok (.bipush 7, 2) := by decide +kernel
theorem dX10_factor_197 : decode cX10_factor 197 = .ok (.aload_n 0, 1) := by decide +kernel
theorem dX10_factor_198 : decode cX10_factor 198 = .ok (.getfield 240, 3) := by decide +kernel
theorem dX10_factor_201 : decode cX10_factor 201 = .ok (.i2l, 1) := by decide +kernel
theorem dX10_factor_202 : decode cX10_factor 202 = .ok (.invokevirtual 192, 3) := by decide +kernel
theorem dX10_factor_205 : decode cX10_factor 205 = .ok (.aload_n 0, 1) := by decide +kernel
theorem dX10_factor_206 : decode cX10_factor 206 = .ok (.bipush 7, 2) := by decide +kernel
theorem dX10_factor_208 : decode cX10_factor 208 = .ok (.ldc2_w 268, 3) := by decide +kernel
theorem dX10_factor_211 : decode cX10_factor 211 = .ok (.aload_n 0, 1) := by decide +kernel
theorem dX10_factor_212 : decode cX10_factor 212 = .ok (.getfield 36, 3) := by decide +kernel
theorem dX10_factor_215 : decode cX10_factor 215 = .ok (.i2l, 1) := by decide +kernel
theorem dX10_factor_216 : decode cX10_factor 216 = .ok (.lmul, 1) := by decide +kernel
theorem dX10_factor_217 : decode cX10_factor 217 = .ok (.iload_n 3, 1) := by decide +kernel
theorem dX10_factor_218 : decode cX10_factor 218 = .ok (.i2l, 1) := by decide +kernel
theorem dX10_factor_219 : decode cX10_factor 219 = .ok (.lmul, 1) := by decide +kernel
theorem dX10_factor_220 : decode cX10_factor 220 = .ok (.iload_n 2, 1) := by decide +kernel
theorem dX10_factor_221 : decode cX10_factor 221 = .ok (.i2l, 1) := by decide +kernel
theorem dX10_factor_222 : decode cX10_factor 222 = .ok (.lload 5, 2) := by decide +kernel
theorem dX10_factor_224 : decode cX10_factor 224 = .ok (.lmul, 1) := by decide +kernel
theorem dX10_factor_225 : decode cX10_factor 225 = .ok (.aload_n 0, 1) := by decide +kernel
theorem dX10_factor_226 : decode cX10_factor 226 = .ok (.getfield 39, 3) := by decide +kernel
theorem dX10_factor_229 : decode cX10_factor 229 = .ok (.i2l, 1) := by decide +kernel
theorem dX10_factor_230 : decode cX10_factor 230 = .ok (.lmul, 1) := by decide +kernel
theorem dX10_factor_231 : decode cX10_factor 231 = .ok (.lsub, 1) := by decide +kernel
theorem dX10_factor_232 : decode cX10_factor 232 = .ok (.invokevirtual 192, 3) := by decide +kernel
theorem dX10_factor_235 : decode cX10_factor 235 = .ok (.return_, 1) := by decide +kernel
abbrev cX10_isFor : ByteArray := prog_13_method_33_code
def yX10_isFor : MethodName := ⟨RX10, "isFor", "(II)I"⟩
theorem dX10_isFor_0 : decode cX10_isFor 0 = .ok (.iload_n 1, 1) := by decide +kernel
theorem dX10_isFor_1 : decode cX10_isFor 1 = .ok (.iload_n 2, 1) := by decide +kernel
theorem dX10_isFor_2 : decode cX10_isFor 2 = .ok (.if_icmp .ne 7, 3) := by decide +kernel
theorem dX10_isFor_5 : decode cX10_isFor 5 = .ok (.iconst 1, 1) := by decide +kernel
theorem dX10_isFor_6 : decode cX10_isFor 6 = .ok (.goto 4, 3) := by decide +kernel
theorem dX10_isFor_9 : decode cX10_isFor 9 = .ok (.iconst 0, 1) := by decide +kernel
theorem dX10_isFor_10 : decode cX10_isFor 10 = .ok (.ireturn, 1) := by decide +kernel
abbrev cX10_margin : ByteArray := prog_13_method_31_code
def yX10_margin : MethodName := ⟨RX10, "margin", "()I"⟩
theorem dX10_margin_0 : decode cX10_margin 0 = .ok (.ldc_w 267, 3) := by decide +kernel
theorem dX10_margin_3 : decode cX10_margin 3 = .ok (.istore_n 1, 1) := by decide +kernel
theorem dX10_margin_4 : decode cX10_margin 4 = .ok (.iconst 0, 1) := by decide +kernel
theorem dX10_margin_5 : decode cX10_margin 5 = .ok (.istore_n 2, 1) := by decide +kernel
theorem dX10_margin_6 : decode cX10_margin 6 = .ok (.iload_n 2, 1) := by decide +kernel
theorem dX10_margin_7 : decode cX10_margin 7 = .ok (.aload_n 0, 1) := by decide +kernel
theorem dX10_margin_8 : decode cX10_margin 8 = .ok (.getfield 250, 3) := by decide +kernel
theorem dX10_margin_11 : decode cX10_margin 11 = .ok (.if_icmp .ge 44, 3) := by decide +kernel
theorem dX10_margin_14 : decode cX10_margin 14 = .ok (.aload_n 0, 1) := by decide +kernel
theorem dX10_margin_15 : decode cX10_margin 15 = .ok (.getfield 13, 3) := by decide +kernel
theorem dX10_margin_18 : decode cX10_margin 18 = .ok (.aload_n 0, 1) := by decide +kernel
theorem dX10_margin_19 : decode cX10_margin 19 = .ok (.getfield 52, 3) := by decide +kernel
theorem dX10_margin_22 : decode cX10_margin 22 = .ok (.iload_n 2, 1) := by decide +kernel
theorem dX10_margin_23 : decode cX10_margin 23 = .ok (.iaload, 1) := by decide +kernel
theorem dX10_margin_24 : decode cX10_margin 24 = .ok (.iaload, 1) := by decide +kernel
theorem dX10_margin_25 : decode cX10_margin 25 = .ok (.aload_n 0, 1) := by decide +kernel
theorem dX10_margin_26 : decode cX10_margin 26 = .ok (.getfield 13, 3) := by decide +kernel
theorem dX10_margin_29 : decode cX10_margin 29 = .ok (.aload_n 0, 1) := by decide +kernel
theorem dX10_margin_30 : decode cX10_margin 30 = .ok (.getfield 55, 3) := by decide +kernel
theorem dX10_margin_33 : decode cX10_margin 33 = .ok (.iload_n 2, 1) := by decide +kernel
theorem dX10_margin_34 : decode cX10_margin 34 = .ok (.iaload, 1) := by decide +kernel
theorem dX10_margin_35 : decode cX10_margin 35 = .ok (.iaload, 1) := by decide +kernel
theorem dX10_margin_36 : decode cX10_margin 36 = .ok (.isub, 1) := by decide +kernel
theorem dX10_margin_37 : decode cX10_margin 37 = .ok (.istore_n 3, 1) := by decide +kernel
theorem dX10_margin_38 : decode cX10_margin 38 = .ok (.iload_n 3, 1) := by decide +kernel
theorem dX10_margin_39 : decode cX10_margin 39 = .ok (.iload_n 1, 1) := by decide +kernel
theorem dX10_margin_40 : decode cX10_margin 40 = .ok (.if_icmp .ge 7, 3) := by decide +kernel
theorem dX10_margin_43 : decode cX10_margin 43 = .ok (.iload_n 3, 1) := by decide +kernel
theorem dX10_margin_44 : decode cX10_margin 44 = .ok (.goto 4, 3) := by decide +kernel
theorem dX10_margin_47 : decode cX10_margin 47 = .ok (.iload_n 1, 1) := by decide +kernel
theorem dX10_margin_48 : decode cX10_margin 48 = .ok (.istore_n 1, 1) := by decide +kernel
theorem dX10_margin_49 : decode cX10_margin 49 = .ok (.iinc 2 1, 3) := by decide +kernel
theorem dX10_margin_52 : decode cX10_margin 52 = .ok (.goto (-46), 3) := by decide +kernel
theorem dX10_margin_55 : decode cX10_margin 55 = .ok (.iload_n 1, 1) := by decide +kernel
theorem dX10_margin_56 : decode cX10_margin 56 = .ok (.ireturn, 1) := by decide +kernel
abbrev cX10_times : ByteArray := prog_13_method_6_code
def yX10_times : MethodName := ⟨RX10, "times", "(IJ)V"⟩
theorem dX10_times_0 : decode cX10_times 0 = .ok (.lconst 0, 1) := by decide +kernel
theorem dX10_times_1 : decode cX10_times 1 = .ok (.lstore 4, 2) := by decide +kernel
theorem dX10_times_3 : decode cX10_times 3 = .ok (.iconst 0, 1) := by decide +kernel
theorem dX10_times_4 : decode cX10_times 4 = .ok (.istore 6, 2) := by decide +kernel
theorem dX10_times_6 : decode cX10_times 6 = .ok (.iload 6, 2) := by decide +kernel
theorem dX10_times_8 : decode cX10_times 8 = .ok (.aload_n 0, 1) := by decide +kernel
theorem dX10_times_9 : decode cX10_times 9 = .ok (.getfield 79, 3) := by decide +kernel
theorem dX10_times_12 : decode cX10_times 12 = .ok (.iload_n 1, 1) := by decide +kernel
theorem dX10_times_13 : decode cX10_times 13 = .ok (.iaload, 1) := by decide +kernel
theorem dX10_times_14 : decode cX10_times 14 = .ok (.if_icmp .ge 57, 3) := by decide +kernel
theorem dX10_times_17 : decode cX10_times 17 = .ok (.lload 4, 2) := by decide +kernel
theorem dX10_times_19 : decode cX10_times 19 = .ok (.lload_n 2, 1) := by decide +kernel
theorem dX10_times_20 : decode cX10_times 20 = .ok (.aload_n 0, 1) := by decide +kernel
theorem dX10_times_21 : decode cX10_times 21 = .ok (.getfield 76, 3) := by decide +kernel
theorem dX10_times_24 : decode cX10_times 24 = .ok (.sipush 1200, 3) := by decide +kernel
theorem dX10_times_27 : decode cX10_times 27 = .ok (.iload_n 1, 1) := by decide +kernel
theorem dX10_times_28 : decode cX10_times 28 = .ok (.imul, 1) := by decide +kernel
theorem dX10_times_29 : decode cX10_times 29 = .ok (.iload 6, 2) := by decide +kernel
theorem dX10_times_31 : decode cX10_times 31 = .ok (.iadd, 1) := by decide +kernel
theorem dX10_times_32 : decode cX10_times 32 = .ok (.iaload, 1) := by decide +kernel
theorem dX10_times_33 : decode cX10_times 33 = .ok (.i2l, 1) := by decide +kernel
theorem dX10_times_34 : decode cX10_times 34 = .ok (.lmul, 1) := by decide +kernel
theorem dX10_times_35 : decode cX10_times 35 = .ok (.ladd, 1) := by decide +kernel
theorem dX10_times_36 : decode cX10_times 36 = .ok (.lstore 4, 2) := by decide +kernel
theorem dX10_times_38 : decode cX10_times 38 = .ok (.aload_n 0, 1) := by decide +kernel
theorem dX10_times_39 : decode cX10_times 39 = .ok (.getfield 76, 3) := by decide +kernel
theorem dX10_times_42 : decode cX10_times 42 = .ok (.sipush 1200, 3) := by decide +kernel
theorem dX10_times_45 : decode cX10_times 45 = .ok (.iload_n 1, 1) := by decide +kernel
theorem dX10_times_46 : decode cX10_times 46 = .ok (.imul, 1) := by decide +kernel
theorem dX10_times_47 : decode cX10_times 47 = .ok (.iload 6, 2) := by decide +kernel
theorem dX10_times_49 : decode cX10_times 49 = .ok (.iadd, 1) := by decide +kernel
theorem dX10_times_50 : decode cX10_times 50 = .ok (.lload 4, 2) := by decide +kernel
theorem dX10_times_52 : decode cX10_times 52 = .ok (.ldc2_w 186, 3) := by decide +kernel
theorem dX10_times_55 : decode cX10_times 55 = .ok (.land, 1) := by decide +kernel
theorem dX10_times_56 : decode cX10_times 56 = .ok (.l2i, 1) := by decide +kernel
theorem dX10_times_57 : decode cX10_times 57 = .ok (.iastore, 1) := by decide +kernel
theorem dX10_times_58 : decode cX10_times 58 = .ok (.lload 4, 2) := by decide +kernel
theorem dX10_times_60 : decode cX10_times 60 = .ok (.bipush 16, 2) := by decide +kernel
theorem dX10_times_62 : decode cX10_times 62 = .ok (.lushr, 1) := by decide +kernel
theorem dX10_times_63 : decode cX10_times 63 = .ok (.lstore 4, 2) := by decide +kernel
theorem dX10_times_65 : decode cX10_times 65 = .ok (.iinc 6 1, 3) := by decide +kernel
theorem dX10_times_68 : decode cX10_times 68 = .ok (.goto (-62), 3) := by decide +kernel
theorem dX10_times_71 : decode cX10_times 71 = .ok (.lload 4, 2) := by decide +kernel
theorem dX10_times_73 : decode cX10_times 73 = .ok (.lconst 0, 1) := by decide +kernel
theorem dX10_times_74 : decode cX10_times 74 = .ok (.lcmp, 1) := by decide +kernel
