set_option maxRecDepth 100000
theorem dX1_start_89 : decode cX1_start 89 = .ok (.aload_n 0, 1) := by decide +kernel
theorem dX1_start_90 : decode cX1_start 90 = .ok (.getfield 81, 3) := by decide +kernel
theorem dX1_start_93 : decode cX1_start 93 = .ok (.aload_n 0, 1) := by decide +kernel
theorem dX1_start_94 : decode cX1_start 94 = .ok (.getfield 182, 3) := by decide +kernel
theorem dX1_start_97 : decode cX1_start 97 = .ok (.aaload, 1) := by decide +kernel
theorem dX1_start_98 : decode cX1_start 98 = .ok (.iload_n 3, 1) := by decide +kernel
theorem dX1_start_99 : decode cX1_start 99 = .ok (.putfield 172, 3) := by decide +kernel
theorem dX1_start_102 : decode cX1_start 102 = .ok (.aload_n 0, 1) := by decide +kernel
theorem dX1_start_103 : decode cX1_start 103 = .ok (.getfield 81, 3) := by decide +kernel
theorem dX1_start_106 : decode cX1_start 106 = .ok (.aload_n 0, 1) := by decide +kernel
theorem dX1_start_107 : decode cX1_start 107 = .ok (.dup, 1) := by decide +kernel
theorem dX1_start_108 : decode cX1_start 108 = .ok (.getfield 182, 3) := by decide +kernel
theorem dX1_start_111 : decode cX1_start 111 = .ok (.dup_x1, 1) := by decide +kernel
theorem dX1_start_112 : decode cX1_start 112 = .ok (.iconst 1, 1) := by decide +kernel
theorem dX1_start_113 : decode cX1_start 113 = .ok (.iadd, 1) := by decide +kernel
theorem dX1_start_114 : decode cX1_start 114 = .ok (.putfield 182, 3) := by decide +kernel
theorem dX1_start_117 : decode cX1_start 117 = .ok (.aaload, 1) := by decide +kernel
theorem dX1_start_118 : decode cX1_start 118 = .ok (.iload 4, 2) := by decide +kernel
theorem dX1_start_120 : decode cX1_start 120 = .ok (.putfield 175, 3) := by decide +kernel
theorem dX1_start_123 : decode cX1_start 123 = .ok (.iinc 4 1, 3) := by decide +kernel
theorem dX1_start_126 : decode cX1_start 126 = .ok (.goto (-68), 3) := by decide +kernel
theorem dX1_start_129 : decode cX1_start 129 = .ok (.iinc 3 1, 3) := by decide +kernel
theorem dX1_start_132 : decode cX1_start 132 = .ok (.goto (-85), 3) := by decide +kernel
theorem dX1_start_135 : decode cX1_start 135 = .ok (.aload_n 0, 1) := by decide +kernel
theorem dX1_start_136 : decode cX1_start 136 = .ok (.iload_n 2, 1) := by decide +kernel
theorem dX1_start_137 : decode cX1_start 137 = .ok (.ifCond .eq 10, 3) := by decide +kernel
theorem dX1_start_140 : decode cX1_start 140 = .ok (.aload_n 0, 1) := by decide +kernel
theorem dX1_start_141 : decode cX1_start 141 = .ok (.getfield 95, 3) := by decide +kernel
theorem dX1_start_144 : decode cX1_start 144 = .ok (.goto 7, 3) := by decide +kernel
theorem dX1_start_147 : decode cX1_start 147 = .ok (.aload_n 0, 1) := by decide +kernel
theorem dX1_start_148 : decode cX1_start 148 = .ok (.getfield 88, 3) := by decide +kernel
theorem dX1_start_151 : decode cX1_start 151 = .ok (.putfield 99, 3) := by decide +kernel
theorem dX1_start_154 : decode cX1_start 154 = .ok (.aload_n 0, 1) := by decide +kernel
theorem dX1_start_155 : decode cX1_start 155 = .ok (.iload_n 1, 1) := by decide +kernel
theorem dX1_start_156 : decode cX1_start 156 = .ok (.ifCond .eq 10, 3) := by decide +kernel
theorem dX1_start_159 : decode cX1_start 159 = .ok (.aload_n 0, 1) := by decide +kernel
theorem dX1_start_160 : decode cX1_start 160 = .ok (.getfield 115, 3) := by decide +kernel
theorem dX1_start_163 : decode cX1_start 163 = .ok (.goto 7, 3) := by decide +kernel
theorem dX1_start_166 : decode cX1_start 166 = .ok (.aload_n 0, 1) := by decide +kernel
theorem dX1_start_167 : decode cX1_start 167 = .ok (.getfield 108, 3) := by decide +kernel
theorem dX1_start_170 : decode cX1_start 170 = .ok (.putfield 119, 3) := by decide +kernel
theorem dX1_start_173 : decode cX1_start 173 = .ok (.aload_n 0, 1) := by decide +kernel
theorem dX1_start_174 : decode cX1_start 174 = .ok (.getfield 119, 3) := by decide +kernel
theorem dX1_start_177 : decode cX1_start 177 = .ok (.invokeinterface 246 1, 5) := by decide +kernel
theorem dX1_start_182 : decode cX1_start 182 = .ok (.aload_n 0, 1) := by decide +kernel
theorem dX1_start_183 : decode cX1_start 183 = .ok (.iconst 1, 1) := by decide +kernel
theorem dX1_start_184 : decode cX1_start 184 = .ok (.putfield 202, 3) := by decide +kernel
theorem dX1_start_187 : decode cX1_start 187 = .ok (.return_, 1) := by decide +kernel
abbrev cX1_findWinners : ByteArray := prog_1_method_18_code
def yX1_findWinners : MethodName := ⟨RX1, "findWinners", "()Z"⟩
theorem dX1_findWinners_0 : decode cX1_findWinners 0 = .ok (.aload_n 0, 1) := by decide +kernel
theorem dX1_findWinners_1 : decode cX1_findWinners 1 = .ok (.getfield 169, 3) := by decide +kernel
theorem dX1_findWinners_4 : decode cX1_findWinners 4 = .ok (.iconst 2, 1) := by decide +kernel
theorem dX1_findWinners_5 : decode cX1_findWinners 5 = .ok (.if_icmp .lt 14, 3) := by decide +kernel
theorem dX1_findWinners_8 : decode cX1_findWinners 8 = .ok (.aload_n 0, 1) := by decide +kernel
theorem dX1_findWinners_9 : decode cX1_findWinners 9 = .ok (.getfield 36, 3) := by decide +kernel
theorem dX1_findWinners_12 : decode cX1_findWinners 12 = .ok (.aload_n 0, 1) := by decide +kernel
theorem dX1_findWinners_13 : decode cX1_findWinners 13 = .ok (.getfield 169, 3) := by decide +kernel
theorem dX1_findWinners_16 : decode cX1_findWinners 16 = .ok (.if_icmp .lt 5, 3) := by decide +kernel
theorem dX1_findWinners_19 : decode cX1_findWinners 19 = .ok (.iconst 0, 1) := by decide +kernel
theorem dX1_findWinners_20 : decode cX1_findWinners 20 = .ok (.ireturn, 1) := by decide +kernel
theorem dX1_findWinners_21 : decode cX1_findWinners 21 = .ok (.iconst 1, 1) := by decide +kernel
theorem dX1_findWinners_22 : decode cX1_findWinners 22 = .ok (.istore_n 1, 1) := by decide +kernel
theorem dX1_findWinners_23 : decode cX1_findWinners 23 = .ok (.iconst 0, 1) := by decide +kernel
theorem dX1_findWinners_24 : decode cX1_findWinners 24 = .ok (.istore_n 2, 1) := by decide +kernel
theorem dX1_findWinners_25 : decode cX1_findWinners 25 = .ok (.iconst 0, 1) := by decide +kernel
theorem dX1_findWinners_26 : decode cX1_findWinners 26 = .ok (.istore_n 3, 1) := by decide +kernel
theorem dX1_findWinners_27 : decode cX1_findWinners 27 = .ok (.iload_n 3, 1) := by decide +kernel
theorem dX1_findWinners_28 : decode cX1_findWinners 28 = .ok (.aload_n 0, 1) := by decide +kernel
theorem dX1_findWinners_29 : decode cX1_findWinners 29 = .ok (.getfield 169, 3) := by decide +kernel
theorem dX1_findWinners_32 : decode cX1_findWinners 32 = .ok (.if_icmp .ge 146, 3) := by decide +kernel
theorem dX1_findWinners_35 : decode cX1_findWinners 35 = .ok (.iconst 0, 1) := by decide +kernel
theorem dX1_findWinners_36 : decode cX1_findWinners 36 = .ok (.istore 4, 2) := by decide +kernel
theorem dX1_findWinners_38 : decode cX1_findWinners 38 = .ok (.iconst 0, 1) := by decide +kernel
theorem dX1_findWinners_39 : decode cX1_findWinners 39 = .ok (.istore 5, 2) := by decide +kernel
theorem dX1_findWinners_41 : decode cX1_findWinners 41 = .ok (.iconst 0, 1) := by decide +kernel
theorem dX1_findWinners_42 : decode cX1_findWinners 42 = .ok (.istore 6, 2) := by decide +kernel
theorem dX1_findWinners_44 : decode cX1_findWinners 44 = .ok (.iload 6, 2) := by decide +kernel
theorem dX1_findWinners_46 : decode cX1_findWinners 46 = .ok (.aload_n 0, 1) := by decide +kernel
theorem dX1_findWinners_47 : decode cX1_findWinners 47 = .ok (.getfield 169, 3) := by decide +kernel
theorem dX1_findWinners_50 : decode cX1_findWinners 50 = .ok (.if_icmp .ge 61, 3) := by decide +kernel
theorem dX1_findWinners_53 : decode cX1_findWinners 53 = .ok (.iload 4, 2) := by decide +kernel
theorem dX1_findWinners_55 : decode cX1_findWinners 55 = .ok (.aload_n 0, 1) := by decide +kernel
theorem dX1_findWinners_56 : decode cX1_findWinners 56 = .ok (.getfield 29, 3) := by decide +kernel
theorem dX1_findWinners_59 : decode cX1_findWinners 59 = .ok (.iload 6, 2) := by decide +kernel
theorem dX1_findWinners_61 : decode cX1_findWinners 61 = .ok (.iaload, 1) := by decide +kernel
theorem dX1_findWinners_62 : decode cX1_findWinners 62 = .ok (.aload_n 0, 1) := by decide +kernel
theorem dX1_findWinners_63 : decode cX1_findWinners 63 = .ok (.getfield 29, 3) := by decide +kernel
theorem dX1_findWinners_66 : decode cX1_findWinners 66 = .ok (.iload_n 3, 1) := by decide +kernel
theorem dX1_findWinners_67 : decode cX1_findWinners 67 = .ok (.iaload, 1) := by decide +kernel
theorem dX1_findWinners_68 : decode cX1_findWinners 68 = .ok (.if_icmp .le 7, 3) := by decide +kernel
theorem dX1_findWinners_71 : decode cX1_findWinners 71 = .ok (.iconst 1, 1) := by decide +kernel
theorem dX1_findWinners_72 : decode cX1_findWinners 72 = .ok (.goto 4, 3) := by decide +kernel
theorem dX1_findWinners_75 : decode cX1_findWinners 75 = .ok (.iconst 0, 1) := by decide +kernel
theorem dX1_findWinners_76 : decode cX1_findWinners 76 = .ok (.iadd, 1) := by decide +kernel
theorem dX1_findWinners_77 : decode cX1_findWinners 77 = .ok (.istore 4, 2) := by decide +kernel
theorem dX1_findWinners_79 : decode cX1_findWinners 79 = .ok (.iload 5, 2) := by decide +kernel
theorem dX1_findWinners_81 : decode cX1_findWinners 81 = .ok (.aload_n 0, 1) := by decide +kernel
theorem dX1_findWinners_82 : decode cX1_findWinners 82 = .ok (.getfield 29, 3) := by decide +kernel
theorem dX1_findWinners_85 : decode cX1_findWinners 85 = .ok (.iload 6, 2) := by decide +kernel
theorem dX1_findWinners_87 : decode cX1_findWinners 87 = .ok (.iaload, 1) := by decide +kernel
theorem dX1_findWinners_88 : decode cX1_findWinners 88 = .ok (.aload_n 0, 1) := by decide +kernel
theorem dX1_findWinners_89 : decode cX1_findWinners 89 = .ok (.getfield 29, 3) := by decide +kernel
theorem dX1_findWinners_92 : decode cX1_findWinners 92 = .ok (.iload_n 3, 1) := by decide +kernel
theorem dX1_findWinners_93 : decode cX1_findWinners 93 = .ok (.iaload, 1) := by decide +kernel
theorem dX1_findWinners_94 : decode cX1_findWinners 94 = .ok (.if_icmp .ne 7, 3) := by decide +kernel
theorem dX1_findWinners_97 : decode cX1_findWinners 97 = .ok (.iconst 1, 1) := by decide +kernel
theorem dX1_findWinners_98 : decode cX1_findWinners 98 = .ok (.goto 4, 3) := by decide +kernel
theorem dX1_findWinners_101 : decode cX1_findWinners 101 = .ok (.iconst 0, 1) := by decide +kernel
theorem dX1_findWinners_102 : decode cX1_findWinners 102 = .ok (.iadd, 1) := by decide +kernel
theorem dX1_findWinners_103 : decode cX1_findWinners 103 = .ok (.istore 5, 2) := by decide +kernel
theorem dX1_findWinners_105 : decode cX1_findWinners 105 = .ok (.iinc 6 1, 3) := by decide +kernel
theorem dX1_findWinners_108 : decode cX1_findWinners 108 = .ok (.goto (-64), 3) := by decide +kernel
theorem dX1_findWinners_111 : decode cX1_findWinners 111 = .ok (.aload_n 0, 1) := by decide +kernel
theorem dX1_findWinners_112 : decode cX1_findWinners 112 = .ok (.getfield 66, 3) := by decide +kernel
theorem dX1_findWinners_115 : decode cX1_findWinners 115 = .ok (.iload_n 3, 1) := by decide +kernel
theorem dX1_findWinners_116 : decode cX1_findWinners 116 = .ok (.iload 4, 2) := by decide +kernel
theorem dX1_findWinners_118 : decode cX1_findWinners 118 = .ok (.iload 5, 2) := by decide +kernel
theorem dX1_findWinners_120 : decode cX1_findWinners 120 = .ok (.iadd, 1) := by decide +kernel
theorem dX1_findWinners_121 : decode cX1_findWinners 121 = .ok (.aload_n 0, 1) := by decide +kernel
theorem dX1_findWinners_122 : decode cX1_findWinners 122 = .ok (.getfield 36, 3) := by decide +kernel
theorem dX1_findWinners_125 : decode cX1_findWinners 125 = .ok (.if_icmp .gt 7, 3) := by decide +kernel
theorem dX1_findWinners_128 : decode cX1_findWinners 128 = .ok (.iconst 1, 1) := by decide +kernel
theorem dX1_findWinners_129 : decode cX1_findWinners 129 = .ok (.goto 4, 3) := by decide +kernel
theorem dX1_findWinners_132 : decode cX1_findWinners 132 = .ok (.iconst 0, 1) := by decide +kernel
theorem dX1_findWinners_133 : decode cX1_findWinners 133 = .ok (.bastore, 1) := by decide +kernel
theorem dX1_findWinners_134 : decode cX1_findWinners 134 = .ok (.iload_n 2, 1) := by decide +kernel
theorem dX1_findWinners_135 : decode cX1_findWinners 135 = .ok (.aload_n 0, 1) := by decide +kernel
theorem dX1_findWinners_136 : decode cX1_findWinners 136 = .ok (.getfield 66, 3) := by decide +kernel
theorem dX1_findWinners_139 : decode cX1_findWinners 139 = .ok (.iload_n 3, 1) := by decide +kernel
theorem dX1_findWinners_140 : decode cX1_findWinners 140 = .ok (.baload, 1) := by decide +kernel
theorem dX1_findWinners_141 : decode cX1_findWinners 141 = .ok (.ifCond .eq 7, 3) := by decide +kernel
theorem dX1_findWinners_144 : decode cX1_findWinners 144 = .ok (.iconst 1, 1) := by decide +kernel
theorem dX1_findWinners_145 : decode cX1_findWinners 145 = .ok (.goto 4, 3) := by decide +kernel
theorem dX1_findWinners_148 : decode cX1_findWinners 148 = .ok (.iconst 0, 1) := by decide +kernel
theorem dX1_findWinners_149 : decode cX1_findWinners 149 = .ok (.iadd, 1) := by decide +kernel
theorem dX1_findWinners_150 : decode cX1_findWinners 150 = .ok (.istore_n 2, 1) := by decide +kernel
theorem dX1_findWinners_151 : decode cX1_findWinners 151 = .ok (.iload_n 1, 1) := by decide +kernel
theorem dX1_findWinners_152 : decode cX1_findWinners 152 = .ok (.aload_n 0, 1) := by decide +kernel
theorem dX1_findWinners_153 : decode cX1_findWinners 153 = .ok (.getfield 29, 3) := by decide +kernel
theorem dX1_findWinners_156 : decode cX1_findWinners 156 = .ok (.iload_n 3, 1) := by decide +kernel
theorem dX1_findWinners_157 : decode cX1_findWinners 157 = .ok (.iaload, 1) := by decide +kernel
theorem dX1_findWinners_158 : decode cX1_findWinners 158 = .ok (.aload_n 0, 1) := by decide +kernel
theorem dX1_findWinners_159 : decode cX1_findWinners 159 = .ok (.getfield 222, 3) := by decide +kernel
theorem dX1_findWinners_162 : decode cX1_findWinners 162 = .ok (.if_icmp .gt 7, 3) := by decide +kernel
theorem dX1_findWinners_165 : decode cX1_findWinners 165 = .ok (.iconst 1, 1) := by decide +kernel
theorem dX1_findWinners_166 : decode cX1_findWinners 166 = .ok (.goto 4, 3) := by decide +kernel
theorem dX1_findWinners_169 : decode cX1_findWinners 169 = .ok (.iconst 0, 1) := by decide +kernel
theorem dX1_findWinners_170 : decode cX1_findWinners 170 = .ok (.iand, 1) := by decide +kernel
theorem dX1_findWinners_171 : decode cX1_findWinners 171 = .ok (.istore_n 1, 1) := by decide +kernel
theorem dX1_findWinners_172 : decode cX1_findWinners 172 = .ok (.iinc 3 1, 3) := by decide +kernel
theorem dX1_findWinners_175 : decode cX1_findWinners 175 = .ok (.goto (-148), 3) := by decide +kernel
theorem dX1_findWinners_178 : decode cX1_findWinners 178 = .ok (.iload_n 1, 1) := by decide +kernel
theorem dX1_findWinners_179 : decode cX1_findWinners 179 = .ok (.ifCond .eq 15, 3) := by decide +kernel
theorem dX1_findWinners_182 : decode cX1_findWinners 182 = .ok (.iload_n 2, 1) := by decide +kernel
theorem dX1_findWinners_183 : decode cX1_findWinners 183 = .ok (.aload_n 0, 1) := by decide +kernel
theorem dX1_findWinners_184 : decode cX1_findWinners 184 = .ok (.getfield 36, 3) := by decide +kernel
theorem dX1_findWinners_187 : decode cX1_findWinners 187 = .ok (.if_icmp .ne 7, 3) := by decide +kernel
theorem dX1_findWinners_190 : decode cX1_findWinners 190 = .ok (.iconst 1, 1) := by decide +kernel
theorem dX1_findWinners_191 : decode cX1_findWinners 191 = .ok (.goto 4, 3) := by decide +kernel
theorem dX1_findWinners_194 : decode cX1_findWinners 194 = .ok (.iconst 0, 1) := by decide +kernel
theorem dX1_findWinners_195 : decode cX1_findWinners 195 = .ok (.ireturn, 1) := by decide +kernel
abbrev cX1_draw : ByteArray := prog_1_method_21_code
def yX1_draw : MethodName := ⟨RX1, "draw", "()I"⟩
theorem dX1_draw_0 : decode cX1_draw 0 = .ok (.aload_n 0, 1) := by decide +kernel
theorem dX1_draw_1 : decode cX1_draw 1 = .ok (.getfield 202, 3) := by decide +kernel
theorem dX1_draw_4 : decode cX1_draw 4 = .ok (.iconst 1, 1) := by decide +kernel
theorem dX1_draw_5 : decode cX1_draw 5 = .ok (.if_icmp .ne 7, 3) := by decide +kernel
theorem dX1_draw_8 : decode cX1_draw 8 = .ok (.iconst 1, 1) := by decide +kernel
theorem dX1_draw_9 : decode cX1_draw 9 = .ok (.goto 4, 3) := by decide +kernel
theorem dX1_draw_12 : decode cX1_draw 12 = .ok (.iconst 0, 1) := by decide +kernel
theorem dX1_draw_13 : decode cX1_draw 13 = .ok (.invokestatic 205, 3) := by decide +kernel
theorem dX1_draw_16 : decode cX1_draw 16 = .ok (.aload_n 0, 1) := by decide +kernel
theorem dX1_draw_17 : decode cX1_draw 17 = .ok (.getfield 99, 3) := by decide +kernel
theorem dX1_draw_20 : decode cX1_draw 20 = .ok (.aload_n 0, 1) := by decide +kernel
theorem dX1_draw_21 : decode cX1_draw 21 = .ok (.getfield 251, 3) := by decide +kernel
theorem dX1_draw_24 : decode cX1_draw 24 = .ok (.iconst 1, 1) := by decide +kernel
theorem dX1_draw_25 : decode cX1_draw 25 = .ok (.iadd, 1) := by decide +kernel
theorem dX1_draw_26 : decode cX1_draw 26 = .ok (.aload_n 0, 1) := by decide +kernel
theorem dX1_draw_27 : decode cX1_draw 27 = .ok (.getfield 222, 3) := by decide +kernel
theorem dX1_draw_30 : decode cX1_draw 30 = .ok (.invokeinterface 261 3, 5) := by decide +kernel
theorem dX1_draw_35 : decode cX1_draw 35 = .ok (.istore_n 1, 1) := by decide +kernel
theorem dX1_draw_36 : decode cX1_draw 36 = .ok (.iload_n 1, 1) := by decide +kernel
theorem dX1_draw_37 : decode cX1_draw 37 = .ok (.iconst (-1), 1) := by decide +kernel
theorem dX1_draw_38 : decode cX1_draw 38 = .ok (.if_icmp .ne 5, 3) := by decide +kernel
theorem dX1_draw_41 : decode cX1_draw 41 = .ok (.iconst (-1), 1) := by decide +kernel
theorem dX1_draw_42 : decode cX1_draw 42 = .ok (.ireturn, 1) := by decide +kernel
theorem dX1_draw_43 : decode cX1_draw 43 = .ok (.aload_n 0, 1) := by decide +kernel
theorem dX1_draw_44 : decode cX1_draw 44 = .ok (.dup, 1) := by decide +kernel
theorem dX1_draw_45 : decode cX1_draw 45 = .ok (.getfield 251, 3) := by decide +kernel
theorem dX1_draw_48 : decode cX1_draw 48 = .ok (.iconst 1, 1) := by decide +kernel
theorem dX1_draw_49 : decode cX1_draw 49 = .ok (.iadd, 1) := by decide +kernel
theorem dX1_draw_50 : decode cX1_draw 50 = .ok (.putfield 251, 3) := by decide +kernel
theorem dX1_draw_53 : decode cX1_draw 53 = .ok (.iload_n 1, 1) := by decide +kernel
theorem dX1_draw_54 : decode cX1_draw 54 = .ok (.aload_n 0, 1) := by decide +kernel
theorem dX1_draw_55 : decode cX1_draw 55 = .ok (.getfield 222, 3) := by decide +kernel
theorem dX1_draw_58 : decode cX1_draw 58 = .ok (.if_icmp .lt 22, 3) := by decide +kernel
theorem dX1_draw_61 : decode cX1_draw 61 = .ok (.aload_n 0, 1) := by decide +kernel
theorem dX1_draw_62 : decode cX1_draw 62 = .ok (.dup, 1) := by decide +kernel
theorem dX1_draw_63 : decode cX1_draw 63 = .ok (.getfield 266, 3) := by decide +kernel
theorem dX1_draw_66 : decode cX1_draw 66 = .ok (.iconst 1, 1) := by decide +kernel
theorem dX1_draw_67 : decode cX1_draw 67 = .ok (.iadd, 1) := by decide +kernel
theorem dX1_draw_68 : decode cX1_draw 68 = .ok (.putfield 266, 3) := by decide +kernel
theorem dX1_draw_71 : decode cX1_draw 71 = .ok (.aload_n 0, 1) := by decide +kernel
theorem dX1_draw_72 : decode cX1_draw 72 = .ok (.bipush (-2), 2) := by decide +kernel
theorem dX1_draw_74 : decode cX1_draw 74 = .ok (.invokevirtual 269, 3) := by decide +kernel
theorem dX1_draw_77 : decode cX1_draw 77 = .ok (.bipush (-2), 2) := by decide +kernel
theorem dX1_draw_79 : decode cX1_draw 79 = .ok (.ireturn, 1) := by decide +kernel
theorem dX1_draw_80 : decode cX1_draw 80 = .ok (.aload_n 0, 1) := by decide +kernel
theorem dX1_draw_81 : decode cX1_draw 81 = .ok (.getfield 62, 3) := by decide +kernel
theorem dX1_draw_84 : decode cX1_draw 84 = .ok (.iload_n 1, 1) := by decide +kernel
theorem dX1_draw_85 : decode cX1_draw 85 = .ok (.dup2, 1) := by decide +kernel
theorem dX1_draw_86 : decode cX1_draw 86 = .ok (.saload, 1) := by decide +kernel
theorem dX1_draw_87 : decode cX1_draw 87 = .ok (.iconst 1, 1) := by decide +kernel
theorem dX1_draw_88 : decode cX1_draw 88 = .ok (.iadd, 1) := by decide +kernel
theorem dX1_draw_89 : decode cX1_draw 89 = .ok (.i2s, 1) := by decide +kernel
theorem dX1_draw_90 : decode cX1_draw 90 = .ok (.sastore, 1) := by decide +kernel
theorem dX1_draw_91 : decode cX1_draw 91 = .ok (.aload_n 0, 1) := by decide +kernel
theorem dX1_draw_92 : decode cX1_draw 92 = .ok (.getfield 59, 3) := by decide +kernel
theorem dX1_draw_95 : decode cX1_draw 95 = .ok (.iload_n 1, 1) := by decide +kernel
theorem dX1_draw_96 : decode cX1_draw 96 = .ok (.baload, 1) := by decide +kernel
theorem dX1_draw_97 : decode cX1_draw 97 = .ok (.bipush (-2), 2) := by decide +kernel
theorem dX1_draw_99 : decode cX1_draw 99 = .ok (.if_icmp .eq 11, 3) := by decide +kernel
theorem dX1_draw_102 : decode cX1_draw 102 = .ok (.aload_n 0, 1) := by decide +kernel
theorem dX1_draw_103 : decode cX1_draw 103 = .ok (.iload_n 1, 1) := by decide +kernel
theorem dX1_draw_104 : decode cX1_draw 104 = .ok (.invokevirtual 269, 3) := by decide +kernel
theorem dX1_draw_107 : decode cX1_draw 107 = .ok (.goto 13, 3) := by decide +kernel
theorem dX1_draw_110 : decode cX1_draw 110 = .ok (.aload_n 0, 1) := by decide +kernel
theorem dX1_draw_111 : decode cX1_draw 111 = .ok (.iload_n 1, 1) := by decide +kernel
theorem dX1_draw_112 : decode cX1_draw 112 = .ok (.putfield 76, 3) := by decide +kernel
theorem dX1_draw_115 : decode cX1_draw 115 = .ok (.aload_n 0, 1) := by decide +kernel
theorem dX1_draw_116 : decode cX1_draw 116 = .ok (.iconst 2, 1) := by decide +kernel
theorem dX1_draw_117 : decode cX1_draw 117 = .ok (.putfield 202, 3) := by decide +kernel
theorem dX1_draw_120 : decode cX1_draw 120 = .ok (.iload_n 1, 1) := by decide +kernel
theorem dX1_draw_121 : decode cX1_draw 121 = .ok (.ireturn, 1) := by decide +kernel
abbrev cX1_look : ByteArray := prog_1_method_20_code
def yX1_look : MethodName := ⟨RX1, "look", "(I)V"⟩
theorem dX1_look_0 : decode cX1_look 0 = .ok (.iload_n 1, 1) := by decide +kernel
theorem dX1_look_1 : decode cX1_look 1 = .ok (.bipush (-2), 2) := by decide +kernel
theorem dX1_look_3 : decode cX1_look 3 = .ok (.if_icmp .ne 8, 3) := by decide +kernel
theorem dX1_look_6 : decode cX1_look 6 = .ok (.bipush (-2), 2) := by decide +kernel
theorem dX1_look_8 : decode cX1_look 8 = .ok (.goto 9, 3) := by decide +kernel
theorem dX1_look_11 : decode cX1_look 11 = .ok (.aload_n 0, 1) := by decide +kernel
theorem dX1_look_12 : decode cX1_look 12 = .ok (.getfield 59, 3) := by decide +kernel
theorem dX1_look_15 : decode cX1_look 15 = .ok (.iload_n 1, 1) := by decide +kernel
theorem dX1_look_16 : decode cX1_look 16 = .ok (.baload, 1) := by decide +kernel
theorem dX1_look_17 : decode cX1_look 17 = .ok (.istore_n 2, 1) := by decide +kernel
theorem dX1_look_18 : decode cX1_look 18 = .ok (.iload_n 2, 1) := by decide +kernel
theorem dX1_look_19 : decode cX1_look 19 = .ok (.ifCond .lt 13, 3) := by decide +kernel
theorem dX1_look_22 : decode cX1_look 22 = .ok (.aload_n 0, 1) := by decide +kernel
theorem dX1_look_23 : decode cX1_look 23 = .ok (.getfield 70, 3) := by decide +kernel
theorem dX1_look_26 : decode cX1_look 26 = .ok (.iload_n 2, 1) := by decide +kernel
theorem dX1_look_27 : decode cX1_look 27 = .ok (.dup2, 1) := by decide +kernel
theorem dX1_look_28 : decode cX1_look 28 = .ok (.iaload, 1) := by decide +kernel
theorem dX1_look_29 : decode cX1_look 29 = .ok (.iconst 1, 1) := by decide +kernel
theorem dX1_look_30 : decode cX1_look 30 = .ok (.iadd, 1) := by decide +kernel
theorem dX1_look_31 : decode cX1_look 31 = .ok (.iastore, 1) := by decide +kernel
theorem dX1_look_32 : decode cX1_look 32 = .ok (.aload_n 0, 1) := by decide +kernel
theorem dX1_look_33 : decode cX1_look 33 = .ok (.getfield 119, 3) := by decide +kernel
theorem dX1_look_36 : decode cX1_look 36 = .ok (.iload_n 1, 1) := by decide +kernel
theorem dX1_look_37 : decode cX1_look 37 = .ok (.bipush (-2), 2) := by decide +kernel
theorem dX1_look_39 : decode cX1_look 39 = .ok (.if_icmp .ne 7, 3) := by decide +kernel
theorem dX1_look_42 : decode cX1_look 42 = .ok (.iconst (-1), 1) := by decide +kernel
theorem dX1_look_43 : decode cX1_look 43 = .ok (.goto 9, 3) := by decide +kernel
theorem dX1_look_46 : decode cX1_look 46 = .ok (.aload_n 0, 1) := by decide +kernel
theorem dX1_look_47 : decode cX1_look 47 = .ok (.getfield 55, 3) := by decide +kernel
theorem dX1_look_50 : decode cX1_look 50 = .ok (.iload_n 1, 1) := by decide +kernel
theorem dX1_look_51 : decode cX1_look 51 = .ok (.baload, 1) := by decide +kernel
theorem dX1_look_52 : decode cX1_look 52 = .ok (.iload_n 2, 1) := by decide +kernel
theorem dX1_look_53 : decode cX1_look 53 = .ok (.aload_n 0, 1) := by decide +kernel
theorem dX1_look_54 : decode cX1_look 54 = .ok (.getfield 251, 3) := by decide +kernel
theorem dX1_look_57 : decode cX1_look 57 = .ok (.invokeinterface 254 4, 5) := by decide +kernel
theorem dX1_look_62 : decode cX1_look 62 = .ok (.aload_n 0, 1) := by decide +kernel
theorem dX1_look_63 : decode cX1_look 63 = .ok (.aload_n 0, 1) := by decide +kernel
theorem dX1_look_64 : decode cX1_look 64 = .ok (.getfield 119, 3) := by decide +kernel
theorem dX1_look_67 : decode cX1_look 67 = .ok (.invokeinterface 258 1, 5) := by decide +kernel
theorem dX1_look_72 : decode cX1_look 72 = .ok (.ifCond .eq 7, 3) := by decide +kernel
theorem dX1_look_75 : decode cX1_look 75 = .ok (.iconst 3, 1) := by decide +kernel
theorem dX1_look_76 : decode cX1_look 76 = .ok (.goto 19, 3) := by decide +kernel
theorem dX1_look_79 : decode cX1_look 79 = .ok (.aload_n 0, 1) := by decide +kernel
theorem dX1_look_80 : decode cX1_look 80 = .ok (.getfield 251, 3) := by decide +kernel
theorem dX1_look_83 : decode cX1_look 83 = .ok (.aload_n 0, 1) := by decide +kernel
theorem dX1_look_84 : decode cX1_look 84 = .ok (.getfield 40, 3) := by decide +kernel
theorem dX1_look_87 : decode cX1_look 87 = .ok (.if_icmp .ne 7, 3) := by decide +kernel
theorem dX1_look_90 : decode cX1_look 90 = .ok (.iconst 4, 1) := by decide +kernel
theorem dX1_look_91 : decode cX1_look 91 = .ok (.goto 4, 3) := by decide +kernel
theorem dX1_look_94 : decode cX1_look 94 = .ok (.iconst 1, 1) := by decide +kernel
theorem dX1_look_95 : decode cX1_look 95 = .ok (.putfield 202, 3) := by decide +kernel
theorem dX1_look_98 : decode cX1_look 98 = .ok (.return_, 1) := by decide +kernel
abbrev cX1_margin : ByteArray := prog_1_method_7_code
def yX1_margin : MethodName := ⟨RX1, "margin", "(LPollAudit$Pair;)I"⟩
theorem dX1_margin_0 : decode cX1_margin 0 = .ok (.aload_n 0, 1) := by decide +kernel
theorem dX1_margin_1 : decode cX1_margin 1 = .ok (.getfield 29, 3) := by decide +kernel
theorem dX1_margin_4 : decode cX1_margin 4 = .ok (.aload_n 1, 1) := by decide +kernel
theorem dX1_margin_5 : decode cX1_margin 5 = .ok (.getfield 172, 3) := by decide +kernel
theorem dX1_margin_8 : decode cX1_margin 8 = .ok (.iaload, 1) := by decide +kernel
theorem dX1_margin_9 : decode cX1_margin 9 = .ok (.aload_n 0, 1) := by decide +kernel
theorem dX1_margin_10 : decode cX1_margin 10 = .ok (.getfield 29, 3) := by decide +kernel
theorem dX1_margin_13 : decode cX1_margin 13 = .ok (.aload_n 1, 1) := by decide +kernel
theorem dX1_margin_14 : decode cX1_margin 14 = .ok (.getfield 175, 3) := by decide +kernel
theorem dX1_margin_17 : decode cX1_margin 17 = .ok (.iaload, 1) := by decide +kernel
theorem dX1_margin_18 : decode cX1_margin 18 = .ok (.isub, 1) := by decide +kernel
theorem dX1_margin_19 : decode cX1_margin 19 = .ok (.ireturn, 1) := by decide +kernel
abbrev cX1_least : ByteArray := prog_1_method_8_code
def yX1_least : MethodName := ⟨RX1, "least", "()I"⟩
theorem dX1_least_0 : decode cX1_least 0 = .ok (.aload_n 0, 1) := by decide +kernel
theorem dX1_least_1 : decode cX1_least 1 = .ok (.aload_n 0, 1) := by decide +kernel
theorem dX1_least_2 : decode cX1_least 2 = .ok (.getfield 81, 3) := by decide +kernel
theorem dX1_least_5 : decode cX1_least 5 = .ok (.iconst 0, 1) := by decide +kernel
theorem dX1_least_6 : decode cX1_least 6 = .ok (.aaload, 1) := by decide +kernel
theorem dX1_least_7 : decode cX1_least 7 = .ok (.invokevirtual 178, 3) := by decide +kernel
theorem dX1_least_10 : decode cX1_least 10 = .ok (.istore_n 1, 1) := by decide +kernel
theorem dX1_least_11 : decode cX1_least 11 = .ok (.iconst 1, 1) := by decide +kernel
theorem dX1_least_12 : decode cX1_least 12 = .ok (.istore_n 2, 1) := by decide +kernel
theorem dX1_least_13 : decode cX1_least 13 = .ok (.iload_n 2, 1) := by decide +kernel
theorem dX1_least_14 : decode cX1_least 14 = .ok (.aload_n 0, 1) := by decide +kernel
theorem dX1_least_15 : decode cX1_least 15 = .ok (.getfield 182, 3) := by decide +kernel
theorem dX1_least_18 : decode cX1_least 18 = .ok (.if_icmp .ge 24, 3) := by decide +kernel
theorem dX1_least_21 : decode cX1_least 21 = .ok (.iload_n 1, 1) := by decide +kernel
theorem dX1_least_22 : decode cX1_least 22 = .ok (.aload_n 0, 1) := by decide +kernel
theorem dX1_least_23 : decode cX1_least 23 = .ok (.aload_n 0, 1) := by decide +kernel
theorem dX1_least_24 : decode cX1_least 24 = .ok (.getfield 81, 3) := by decide +kernel
theorem dX1_least_27 : decode cX1_least 27 = .ok (.iload_n 2, 1) := by decide +kernel
theorem dX1_least_28 : decode cX1_least 28 = .ok (.aaload, 1) := by decide +kernel
theorem dX1_least_29 : decode cX1_least 29 = .ok (.invokevirtual 178, 3) := by decide +kernel
theorem dX1_least_32 : decode cX1_least 32 = .ok (.invokestatic 185, 3) := by decide +kernel
theorem dX1_least_35 : decode cX1_least 35 = .ok (.istore_n 1, 1) := by decide +kernel
theorem dX1_least_36 : decode cX1_least 36 = .ok (.iinc 2 1, 3) := by decide +kernel
theorem dX1_least_39 : decode cX1_least 39 = .ok (.goto (-26), 3) := by decide +kernel
theorem dX1_least_42 : decode cX1_least 42 = .ok (.iload_n 1, 1) := by decide +kernel
theorem dX1_least_43 : decode cX1_least 43 = .ok (.ireturn, 1) := by decide +kernel
abbrev cX1_reaches : ByteArray := prog_1_method_9_code
def yX1_reaches : MethodName := ⟨RX1, "reaches", "(LPollAudit$Big;LPollAudit$Big;)Z"⟩
theorem dX1_reaches_0 : decode cX1_reaches 0 = .ok (.aload_n 0, 1) := by decide +kernel
theorem dX1_reaches_1 : decode cX1_reaches 1 = .ok (.getfield 135, 3) := by decide +kernel
theorem dX1_reaches_4 : decode cX1_reaches 4 = .ok (.aload_n 1, 1) := by decide +kernel
theorem dX1_reaches_5 : decode cX1_reaches 5 = .ok (.invokevirtual 191, 3) := by decide +kernel
theorem dX1_reaches_8 : decode cX1_reaches 8 = .ok (.aload_n 0, 1) := by decide +kernel
theorem dX1_reaches_9 : decode cX1_reaches 9 = .ok (.getfield 135, 3) := by decide +kernel
theorem dX1_reaches_12 : decode cX1_reaches 12 = .ok (.aload_n 0, 1) := by decide +kernel
theorem dX1_reaches_13 : decode cX1_reaches 13 = .ok (.getfield 43, 3) := by decide +kernel
theorem dX1_reaches_16 : decode cX1_reaches 16 = .ok (.invokevirtual 195, 3) := by decide +kernel
theorem dX1_reaches_19 : decode cX1_reaches 19 = .ok (.aload_n 0, 1) := by decide +kernel
theorem dX1_reaches_20 : decode cX1_reaches 20 = .ok (.getfield 139, 3) := by decide +kernel
theorem dX1_reaches_23 : decode cX1_reaches 23 = .ok (.aload_n 2, 1) := by decide +kernel
theorem dX1_reaches_24 : decode cX1_reaches 24 = .ok (.invokevirtual 191, 3) := by decide +kernel
theorem dX1_reaches_27 : decode cX1_reaches 27 = .ok (.aload_n 0, 1) := by decide +kernel
theorem dX1_reaches_28 : decode cX1_reaches 28 = .ok (.getfield 139, 3) := by decide +kernel
theorem dX1_reaches_31 : decode cX1_reaches 31 = .ok (.aload_n 0, 1) := by decide +kernel
theorem dX1_reaches_32 : decode cX1_reaches 32 = .ok (.getfield 46, 3) := by decide +kernel
theorem dX1_reaches_35 : decode cX1_reaches 35 = .ok (.invokevirtual 195, 3) := by decide +kernel
theorem dX1_reaches_38 : decode cX1_reaches 38 = .ok (.aload_n 0, 1) := by decide +kernel
theorem dX1_reaches_39 : decode cX1_reaches 39 = .ok (.getfield 135, 3) := by decide +kernel
theorem dX1_reaches_42 : decode cX1_reaches 42 = .ok (.aload_n 0, 1) := by decide +kernel
theorem dX1_reaches_43 : decode cX1_reaches 43 = .ok (.getfield 139, 3) := by decide +kernel
theorem dX1_reaches_46 : decode cX1_reaches 46 = .ok (.invokevirtual 198, 3) := by decide +kernel
theorem dX1_reaches_49 : decode cX1_reaches 49 = .ok (.ifCond .lt 7, 3) := by decide +kernel
theorem dX1_reaches_52 : decode cX1_reaches 52 = .ok (.iconst 1, 1) := by decide +kernel
theorem dX1_reaches_53 : decode cX1_reaches 53 = .ok (.goto 4, 3) := by decide +kernel
theorem dX1_reaches_56 : decode cX1_reaches 56 = .ok (.iconst 0, 1) := by decide +kernel
theorem dX1_reaches_57 : decode cX1_reaches 57 = .ok (.ireturn, 1) := by decide +kernel
abbrev cX1_see : ByteArray := prog_1_method_22_code
def yX1_see : MethodName := ⟨RX1, "see", "(I)I"⟩
theorem dX1_see_0 : decode cX1_see 0 = .ok (.iload_n 1, 1) := by decide +kernel
theorem dX1_see_1 : decode cX1_see 1 = .ok (.iconst (-1), 1) := by decide +kernel
theorem dX1_see_2 : decode cX1_see 2 = .ok (.if_icmp .eq 11, 3) := by decide +kernel
theorem dX1_see_5 : decode cX1_see 5 = .ok (.aload_n 0, 1) := by decide +kernel
theorem dX1_see_6 : decode cX1_see 6 = .ok (.iload_n 1, 1) := by decide +kernel
theorem dX1_see_7 : decode cX1_see 7 = .ok (.invokevirtual 228, 3) := by decide +kernel
theorem dX1_see_10 : decode cX1_see 10 = .ok (.ifCond .eq 7, 3) := by decide +kernel
theorem dX1_see_13 : decode cX1_see 13 = .ok (.iconst 1, 1) := by decide +kernel
theorem dX1_see_14 : decode cX1_see 14 = .ok (.goto 4, 3) := by decide +kernel
theorem dX1_see_17 : decode cX1_see 17 = .ok (.iconst 0, 1) := by decide +kernel
theorem dX1_see_18 : decode cX1_see 18 = .ok (.invokestatic 225, 3) := by decide +kernel
theorem dX1_see_21 : decode cX1_see 21 = .ok (.aload_n 0, 1) := by decide +kernel
theorem dX1_see_22 : decode cX1_see 22 = .ok (.getfield 202, 3) := by decide +kernel
theorem dX1_see_25 : decode cX1_see 25 = .ok (.iconst 2, 1) := by decide +kernel
theorem dX1_see_26 : decode cX1_see 26 = .ok (.if_icmp .ne 7, 3) := by decide +kernel
theorem dX1_see_29 : decode cX1_see 29 = .ok (.iconst 1, 1) := by decide +kernel
theorem dX1_see_30 : decode cX1_see 30 = .ok (.goto 4, 3) := by decide +kernel
theorem dX1_see_33 : decode cX1_see 33 = .ok (.iconst 0, 1) := by decide +kernel
theorem dX1_see_34 : decode cX1_see 34 = .ok (.invokestatic 205, 3) := by decide +kernel
theorem dX1_see_37 : decode cX1_see 37 = .ok (.aload_n 0, 1) := by decide +kernel
theorem dX1_see_38 : decode cX1_see 38 = .ok (.getfield 59, 3) := by decide +kernel
theorem dX1_see_41 : decode cX1_see 41 = .ok (.aload_n 0, 1) := by decide +kernel
theorem dX1_see_42 : decode cX1_see 42 = .ok (.getfield 76, 3) := by decide +kernel
theorem dX1_see_45 : decode cX1_see 45 = .ok (.iload_n 1, 1) := by decide +kernel
theorem dX1_see_46 : decode cX1_see 46 = .ok (.i2b, 1) := by decide +kernel
theorem dX1_see_47 : decode cX1_see 47 = .ok (.bastore, 1) := by decide +kernel
theorem dX1_see_48 : decode cX1_see 48 = .ok (.aload_n 0, 1) := by decide +kernel
theorem dX1_see_49 : decode cX1_see 49 = .ok (.dup, 1) := by decide +kernel
theorem dX1_see_50 : decode cX1_see 50 = .ok (.getfield 271, 3) := by decide +kernel
theorem dX1_see_53 : decode cX1_see 53 = .ok (.iconst 1, 1) := by decide +kernel
theorem dX1_see_54 : decode cX1_see 54 = .ok (.iadd, 1) := by decide +kernel
theorem dX1_see_55 : decode cX1_see 55 = .ok (.putfield 271, 3) := by decide +kernel
theorem dX1_see_58 : decode cX1_see 58 = .ok (.aload_n 0, 1) := by decide +kernel
theorem dX1_see_59 : decode cX1_see 59 = .ok (.aload_n 0, 1) := by decide +kernel
theorem dX1_see_60 : decode cX1_see 60 = .ok (.getfield 76, 3) := by decide +kernel
theorem dX1_see_63 : decode cX1_see 63 = .ok (.invokevirtual 269, 3) := by decide +kernel
theorem dX1_see_66 : decode cX1_see 66 = .ok (.aload_n 0, 1) := by decide +kernel
theorem dX1_see_67 : decode cX1_see 67 = .ok (.iconst (-1), 1) := by decide +kernel
theorem dX1_see_68 : decode cX1_see 68 = .ok (.putfield 76, 3) := by decide +kernel
theorem dX1_see_71 : decode cX1_see 71 = .ok (.aload_n 0, 1) := by decide +kernel
theorem dX1_see_72 : decode cX1_see 72 = .ok (.getfield 202, 3) := by decide +kernel
theorem dX1_see_75 : decode cX1_see 75 = .ok (.ireturn, 1) := by decide +kernel
abbrev cX1_counted : ByteArray := prog_1_method_23_code
def yX1_counted : MethodName := ⟨RX1, "counted", "(II)I"⟩
theorem dX1_counted_0 : decode cX1_counted 0 = .ok (.aload_n 0, 1) := by decide +kernel
theorem dX1_counted_1 : decode cX1_counted 1 = .ok (.iload_n 1, 1) := by decide +kernel
theorem dX1_counted_2 : decode cX1_counted 2 = .ok (.invokevirtual 228, 3) := by decide +kernel
theorem dX1_counted_5 : decode cX1_counted 5 = .ok (.invokestatic 225, 3) := by decide +kernel
theorem dX1_counted_8 : decode cX1_counted 8 = .ok (.iload_n 2, 1) := by decide +kernel
theorem dX1_counted_9 : decode cX1_counted 9 = .ok (.ifCond .lt 15, 3) := by decide +kernel
theorem dX1_counted_12 : decode cX1_counted 12 = .ok (.iload_n 2, 1) := by decide +kernel
theorem dX1_counted_13 : decode cX1_counted 13 = .ok (.aload_n 0, 1) := by decide +kernel
theorem dX1_counted_14 : decode cX1_counted 14 = .ok (.getfield 222, 3) := by decide +kernel
theorem dX1_counted_17 : decode cX1_counted 17 = .ok (.if_icmp .gt 7, 3) := by decide +kernel
theorem dX1_counted_20 : decode cX1_counted 20 = .ok (.iconst 1, 1) := by decide +kernel
theorem dX1_counted_21 : decode cX1_counted 21 = .ok (.goto 4, 3) := by decide +kernel
theorem dX1_counted_24 : decode cX1_counted 24 = .ok (.iconst 0, 1) := by decide +kernel
theorem dX1_counted_25 : decode cX1_counted 25 = .ok (.invokestatic 210, 3) := by decide +kernel
theorem dX1_counted_28 : decode cX1_counted 28 = .ok (.aload_n 0, 1) := by decide +kernel
theorem dX1_counted_29 : decode cX1_counted 29 = .ok (.getfield 202, 3) := by decide +kernel
theorem dX1_counted_32 : decode cX1_counted 32 = .ok (.iconst 4, 1) := by decide +kernel
theorem dX1_counted_33 : decode cX1_counted 33 = .ok (.if_icmp .ne 7, 3) := by decide +kernel
theorem dX1_counted_36 : decode cX1_counted 36 = .ok (.iconst 1, 1) := by decide +kernel
theorem dX1_counted_37 : decode cX1_counted 37 = .ok (.goto 4, 3) := by decide +kernel
theorem dX1_counted_40 : decode cX1_counted 40 = .ok (.iconst 0, 1) := by decide +kernel
theorem dX1_counted_41 : decode cX1_counted 41 = .ok (.invokestatic 205, 3) := by decide +kernel
theorem dX1_counted_44 : decode cX1_counted 44 = .ok (.aload_n 0, 1) := by decide +kernel
theorem dX1_counted_45 : decode cX1_counted 45 = .ok (.getfield 73, 3) := by decide +kernel
theorem dX1_counted_48 : decode cX1_counted 48 = .ok (.iload_n 1, 1) := by decide +kernel
theorem dX1_counted_49 : decode cX1_counted 49 = .ok (.iload_n 2, 1) := by decide +kernel
theorem dX1_counted_50 : decode cX1_counted 50 = .ok (.iastore, 1) := by decide +kernel
theorem dX1_counted_51 : decode cX1_counted 51 = .ok (.iconst 0, 1) := by decide +kernel
theorem dX1_counted_52 : decode cX1_counted 52 = .ok (.istore_n 3, 1) := by decide +kernel
theorem dX1_counted_53 : decode cX1_counted 53 = .ok (.iconst 0, 1) := by decide +kernel
theorem dX1_counted_54 : decode cX1_counted 54 = .ok (.istore 4, 2) := by decide +kernel
theorem dX1_counted_56 : decode cX1_counted 56 = .ok (.iload 4, 2) := by decide +kernel
theorem dX1_counted_58 : decode cX1_counted 58 = .ok (.aload_n 0, 1) := by decide +kernel
theorem dX1_counted_59 : decode cX1_counted 59 = .ok (.getfield 169, 3) := by decide +kernel
theorem dX1_counted_62 : decode cX1_counted 62 = .ok (.if_icmp .ge 28, 3) := by decide +kernel
theorem dX1_counted_65 : decode cX1_counted 65 = .ok (.iload_n 3, 1) := by decide +kernel
theorem dX1_counted_66 : decode cX1_counted 66 = .ok (.aload_n 0, 1) := by decide +kernel
theorem dX1_counted_67 : decode cX1_counted 67 = .ok (.getfield 73, 3) := by decide +kernel
theorem dX1_counted_70 : decode cX1_counted 70 = .ok (.iload 4, 2) := by decide +kernel
theorem dX1_counted_72 : decode cX1_counted 72 = .ok (.iaload, 1) := by decide +kernel
theorem dX1_counted_73 : decode cX1_counted 73 = .ok (.iconst (-1), 1) := by decide +kernel
theorem dX1_counted_74 : decode cX1_counted 74 = .ok (.if_icmp .ne 7, 3) := by decide +kernel
theorem dX1_counted_77 : decode cX1_counted 77 = .ok (.iconst 0, 1) := by decide +kernel
theorem dX1_counted_78 : decode cX1_counted 78 = .ok (.goto 4, 3) := by decide +kernel
theorem dX1_counted_81 : decode cX1_counted 81 = .ok (.iconst 1, 1) := by decide +kernel
theorem dX1_counted_82 : decode cX1_counted 82 = .ok (.iadd, 1) := by decide +kernel
theorem dX1_counted_83 : decode cX1_counted 83 = .ok (.istore_n 3, 1) := by decide +kernel
theorem dX1_counted_84 : decode cX1_counted 84 = .ok (.iinc 4 1, 3) := by decide +kernel
theorem dX1_counted_87 : decode cX1_counted 87 = .ok (.goto (-31), 3) := by decide +kernel
theorem dX1_counted_90 : decode cX1_counted 90 = .ok (.iload_n 3, 1) := by decide +kernel
theorem dX1_counted_91 : decode cX1_counted 91 = .ok (.aload_n 0, 1) := by decide +kernel
theorem dX1_counted_92 : decode cX1_counted 92 = .ok (.getfield 169, 3) := by decide +kernel
theorem dX1_counted_95 : decode cX1_counted 95 = .ok (.if_icmp .ne 78, 3) := by decide +kernel
theorem dX1_counted_98 : decode cX1_counted 98 = .ok (.aload_n 0, 1) := by decide +kernel
theorem dX1_counted_99 : decode cX1_counted 99 = .ok (.iconst 5, 1) := by decide +kernel
theorem dX1_counted_100 : decode cX1_counted 100 = .ok (.putfield 202, 3) := by decide +kernel
theorem dX1_counted_103 : decode cX1_counted 103 = .ok (.aload_n 0, 1) := by decide +kernel
theorem dX1_counted_104 : decode cX1_counted 104 = .ok (.iconst 1, 1) := by decide +kernel
theorem dX1_counted_105 : decode cX1_counted 105 = .ok (.putfield 274, 3) := by decide +kernel
theorem dX1_counted_108 : decode cX1_counted 108 = .ok (.iconst 0, 1) := by decide +kernel
theorem dX1_counted_109 : decode cX1_counted 109 = .ok (.istore 4, 2) := by decide +kernel
theorem dX1_counted_111 : decode cX1_counted 111 = .ok (.iload 4, 2) := by decide +kernel
theorem dX1_counted_113 : decode cX1_counted 113 = .ok (.aload_n 0, 1) := by decide +kernel
theorem dX1_counted_114 : decode cX1_counted 114 = .ok (.getfield 182, 3) := by decide +kernel
theorem dX1_counted_117 : decode cX1_counted 117 = .ok (.if_icmp .ge 56, 3) := by decide +kernel
theorem dX1_counted_120 : decode cX1_counted 120 = .ok (.aload_n 0, 1) := by decide +kernel
theorem dX1_counted_121 : decode cX1_counted 121 = .ok (.dup, 1) := by decide +kernel
theorem dX1_counted_122 : decode cX1_counted 122 = .ok (.getfield 274, 3) := by decide +kernel
theorem dX1_counted_125 : decode cX1_counted 125 = .ok (.aload_n 0, 1) := by decide +kernel
theorem dX1_counted_126 : decode cX1_counted 126 = .ok (.getfield 73, 3) := by decide +kernel
theorem dX1_counted_129 : decode cX1_counted 129 = .ok (.aload_n 0, 1) := by decide +kernel
theorem dX1_counted_130 : decode cX1_counted 130 = .ok (.getfield 81, 3) := by decide +kernel
theorem dX1_counted_133 : decode cX1_counted 133 = .ok (.iload 4, 2) := by decide +kernel
theorem dX1_counted_135 : decode cX1_counted 135 = .ok (.aaload, 1) := by decide +kernel
theorem dX1_counted_136 : decode cX1_counted 136 = .ok (.getfield 172, 3) := by decide +kernel
theorem dX1_counted_139 : decode cX1_counted 139 = .ok (.iaload, 1) := by decide +kernel
theorem dX1_counted_140 : decode cX1_counted 140 = .ok (.aload_n 0, 1) := by decide +kernel
theorem dX1_counted_141 : decode cX1_counted 141 = .ok (.getfield 73, 3) := by decide +kernel
theorem dX1_counted_144 : decode cX1_counted 144 = .ok (.aload_n 0, 1) := by decide +kernel
theorem dX1_counted_145 : decode cX1_counted 145 = .ok (.getfield 81, 3) := by decide +kernel
theorem dX1_counted_148 : decode cX1_counted 148 = .ok (.iload 4, 2) := by decide +kernel
theorem dX1_counted_150 : decode cX1_counted 150 = .ok (.aaload, 1) := by decide +kernel
theorem dX1_counted_151 : decode cX1_counted 151 = .ok (.getfield 175, 3) := by decide +kernel
theorem dX1_counted_154 : decode cX1_counted 154 = .ok (.iaload, 1) := by decide +kernel
theorem dX1_counted_155 : decode cX1_counted 155 = .ok (.if_icmp .le 7, 3) := by decide +kernel
theorem dX1_counted_158 : decode cX1_counted 158 = .ok (.iconst 1, 1) := by decide +kernel
theorem dX1_counted_159 : decode cX1_counted 159 = .ok (.goto 4, 3) := by decide +kernel
theorem dX1_counted_162 : decode cX1_counted 162 = .ok (.iconst 0, 1) := by decide +kernel
theorem dX1_counted_163 : decode cX1_counted 163 = .ok (.iand, 1) := by decide +kernel
theorem dX1_counted_164 : decode cX1_counted 164 = .ok (.putfield 274, 3) := by decide +kernel
theorem dX1_counted_167 : decode cX1_counted 167 = .ok (.iinc 4 1, 3) := by decide +kernel
theorem dX1_counted_170 : decode cX1_counted 170 = .ok (.goto (-59), 3) := by decide +kernel
theorem dX1_counted_173 : decode cX1_counted 173 = .ok (.iload_n 3, 1) := by decide +kernel
theorem dX1_counted_174 : decode cX1_counted 174 = .ok (.ireturn, 1) := by decide +kernel
abbrev cX1_told : ByteArray := prog_1_method_26_code
def yX1_told : MethodName := ⟨RX1, "told", "(I)I"⟩
theorem dX1_told_0 : decode cX1_told 0 = .ok (.iload_n 1, 1) := by decide +kernel
theorem dX1_told_1 : decode cX1_told 1 = .ok (.tableswitch 168 0 12 #[67, 72, 77, 82, 87, 92, 97, 102, 110, 126, 142, 147, 155], 67) := by decide +kernel
theorem dX1_told_68 : decode cX1_told 68 = .ok (.aload_n 0, 1) := by decide +kernel
theorem dX1_told_69 : decode cX1_told 69 = .ok (.getfield 202, 3) := by decide +kernel
theorem dX1_told_72 : decode cX1_told 72 = .ok (.ireturn, 1) := by decide +kernel
theorem dX1_told_73 : decode cX1_told 73 = .ok (.aload_n 0, 1) := by decide +kernel
theorem dX1_told_74 : decode cX1_told 74 = .ok (.getfield 169, 3) := by decide +kernel
theorem dX1_told_77 : decode cX1_told 77 = .ok (.ireturn, 1) := by decide +kernel
theorem dX1_told_78 : decode cX1_told 78 = .ok (.aload_n 0, 1) := by decide +kernel
theorem dX1_told_79 : decode cX1_told 79 = .ok (.getfield 219, 3) := by decide +kernel
theorem dX1_told_82 : decode cX1_told 82 = .ok (.ireturn, 1) := by decide +kernel
theorem dX1_told_83 : decode cX1_told 83 = .ok (.aload_n 0, 1) := by decide +kernel
theorem dX1_told_84 : decode cX1_told 84 = .ok (.getfield 222, 3) := by decide +kernel
theorem dX1_told_87 : decode cX1_told 87 = .ok (.ireturn, 1) := by decide +kernel
theorem dX1_told_88 : decode cX1_told 88 = .ok (.aload_n 0, 1) := by decide +kernel
theorem dX1_told_89 : decode cX1_told 89 = .ok (.getfield 251, 3) := by decide +kernel
theorem dX1_told_92 : decode cX1_told 92 = .ok (.ireturn, 1) := by decide +kernel
theorem dX1_told_93 : decode cX1_told 93 = .ok (.aload_n 0, 1) := by decide +kernel
theorem dX1_told_94 : decode cX1_told 94 = .ok (.getfield 271, 3) := by decide +kernel
theorem dX1_told_97 : decode cX1_told 97 = .ok (.ireturn, 1) := by decide +kernel
theorem dX1_told_98 : decode cX1_told 98 = .ok (.aload_n 0, 1) := by decide +kernel
theorem dX1_told_99 : decode cX1_told 99 = .ok (.getfield 266, 3) := by decide +kernel
theorem dX1_told_102 : decode cX1_told 102 = .ok (.ireturn, 1) := by decide +kernel
theorem dX1_told_103 : decode cX1_told 103 = .ok (.aload_n 0, 1) := by decide +kernel
theorem dX1_told_104 : decode cX1_told 104 = .ok (.getfield 88, 3) := by decide +kernel
theorem dX1_told_107 : decode cX1_told 107 = .ok (.getfield 238, 3) := by decide +kernel
theorem dX1_told_110 : decode cX1_told 110 = .ok (.ireturn, 1) := by decide +kernel
theorem dX1_told_111 : decode cX1_told 111 = .ok (.aload_n 0, 1) := by decide +kernel
theorem dX1_told_112 : decode cX1_told 112 = .ok (.getfield 202, 3) := by decide +kernel
theorem dX1_told_115 : decode cX1_told 115 = .ok (.ifCond .ne 7, 3) := by decide +kernel
theorem dX1_told_118 : decode cX1_told 118 = .ok (.iconst 0, 1) := by decide +kernel
theorem dX1_told_119 : decode cX1_told 119 = .ok (.goto 7, 3) := by decide +kernel
theorem dX1_told_122 : decode cX1_told 122 = .ok (.aload_n 0, 1) := by decide +kernel
theorem dX1_told_123 : decode cX1_told 123 = .ok (.getfield 182, 3) := by decide +kernel
theorem dX1_told_126 : decode cX1_told 126 = .ok (.ireturn, 1) := by decide +kernel
theorem dX1_told_127 : decode cX1_told 127 = .ok (.aload_n 0, 1) := by decide +kernel
theorem dX1_told_128 : decode cX1_told 128 = .ok (.getfield 202, 3) := by decide +kernel
theorem dX1_told_131 : decode cX1_told 131 = .ok (.ifCond .ne 7, 3) := by decide +kernel
theorem dX1_told_134 : decode cX1_told 134 = .ok (.iconst 0, 1) := by decide +kernel
theorem dX1_told_135 : decode cX1_told 135 = .ok (.goto 7, 3) := by decide +kernel
theorem dX1_told_138 : decode cX1_told 138 = .ok (.aload_n 0, 1) := by decide +kernel
theorem dX1_told_139 : decode cX1_told 139 = .ok (.invokevirtual 280, 3) := by decide +kernel
theorem dX1_told_142 : decode cX1_told 142 = .ok (.ireturn, 1) := by decide +kernel
theorem dX1_told_143 : decode cX1_told 143 = .ok (.aload_n 0, 1) := by decide +kernel
theorem dX1_told_144 : decode cX1_told 144 = .ok (.getfield 76, 3) := by decide +kernel
theorem dX1_told_147 : decode cX1_told 147 = .ok (.ireturn, 1) := by decide +kernel
theorem dX1_told_148 : decode cX1_told 148 = .ok (.aload_n 0, 1) := by decide +kernel
theorem dX1_told_149 : decode cX1_told 149 = .ok (.getfield 222, 3) := by decide +kernel
theorem dX1_told_152 : decode cX1_told 152 = .ok (.invokestatic 284, 3) := by decide +kernel
theorem dX1_told_155 : decode cX1_told 155 = .ok (.ireturn, 1) := by decide +kernel
theorem dX1_told_156 : decode cX1_told 156 = .ok (.aload_n 0, 1) := by decide +kernel
theorem dX1_told_157 : decode cX1_told 157 = .ok (.getfield 274, 3) := by decide +kernel
theorem dX1_told_160 : decode cX1_told 160 = .ok (.ifCond .eq 7, 3) := by decide +kernel
theorem dX1_told_163 : decode cX1_told 163 = .ok (.iconst 1, 1) := by decide +kernel
theorem dX1_told_164 : decode cX1_told 164 = .ok (.goto 4, 3) := by decide +kernel
theorem dX1_told_167 : decode cX1_told 167 = .ok (.iconst 0, 1) := by decide +kernel
theorem dX1_told_168 : decode cX1_told 168 = .ok (.ireturn, 1) := by decide +kernel
theorem dX1_told_169 : decode cX1_told 169 = .ok (.new 1, 3) := by decide +kernel
theorem dX1_told_172 : decode cX1_told 172 = .ok (.dup, 1) := by decide +kernel
theorem dX1_told_173 : decode cX1_told 173 = .ok (.invokespecial 3, 3) := by decide +kernel
theorem dX1_told_176 : decode cX1_told 176 = .ok (.athrow, 1) := by decide +kernel
abbrev cX1_surePairs : ByteArray := prog_1_method_25_code
def yX1_surePairs : MethodName := ⟨RX1, "surePairs", "()I"⟩
theorem dX1_surePairs_0 : decode cX1_surePairs 0 = .ok (.iconst 0, 1) := by decide +kernel
theorem dX1_surePairs_1 : decode cX1_surePairs 1 = .ok (.istore_n 1, 1) := by decide +kernel
theorem dX1_surePairs_2 : decode cX1_surePairs 2 = .ok (.iconst 0, 1) := by decide +kernel
theorem dX1_surePairs_3 : decode cX1_surePairs 3 = .ok (.istore_n 2, 1) := by decide +kernel
theorem dX1_surePairs_4 : decode cX1_surePairs 4 = .ok (.iload_n 2, 1) := by decide +kernel
theorem dX1_surePairs_5 : decode cX1_surePairs 5 = .ok (.aload_n 0, 1) := by decide +kernel
theorem dX1_surePairs_6 : decode cX1_surePairs 6 = .ok (.getfield 182, 3) := by decide +kernel
theorem dX1_surePairs_9 : decode cX1_surePairs 9 = .ok (.if_icmp .ge 30, 3) := by decide +kernel
theorem dX1_surePairs_12 : decode cX1_surePairs 12 = .ok (.iload_n 1, 1) := by decide +kernel
theorem dX1_surePairs_13 : decode cX1_surePairs 13 = .ok (.aload_n 0, 1) := by decide +kernel
theorem dX1_surePairs_14 : decode cX1_surePairs 14 = .ok (.getfield 81, 3) := by decide +kernel
theorem dX1_surePairs_17 : decode cX1_surePairs 17 = .ok (.iload_n 2, 1) := by decide +kernel
theorem dX1_surePairs_18 : decode cX1_surePairs 18 = .ok (.aaload, 1) := by decide +kernel
theorem dX1_surePairs_19 : decode cX1_surePairs 19 = .ok (.getfield 278, 3) := by decide +kernel
theorem dX1_surePairs_22 : decode cX1_surePairs 22 = .ok (.iconst (-1), 1) := by decide +kernel
theorem dX1_surePairs_23 : decode cX1_surePairs 23 = .ok (.if_icmp .eq 7, 3) := by decide +kernel
theorem dX1_surePairs_26 : decode cX1_surePairs 26 = .ok (.iconst 1, 1) := by decide +kernel
theorem dX1_surePairs_27 : decode cX1_surePairs 27 = .ok (.goto 4, 3) := by decide +kernel
theorem dX1_surePairs_30 : decode cX1_surePairs 30 = .ok (.iconst 0, 1) := by decide +kernel
theorem dX1_surePairs_31 : decode cX1_surePairs 31 = .ok (.iadd, 1) := by decide +kernel
theorem dX1_surePairs_32 : decode cX1_surePairs 32 = .ok (.istore_n 1, 1) := by decide +kernel
theorem dX1_surePairs_33 : decode cX1_surePairs 33 = .ok (.iinc 2 1, 3) := by decide +kernel
theorem dX1_surePairs_36 : decode cX1_surePairs 36 = .ok (.goto (-32), 3) := by decide +kernel
theorem dX1_surePairs_39 : decode cX1_surePairs 39 = .ok (.iload_n 1, 1) := by decide +kernel
theorem dX1_surePairs_40 : decode cX1_surePairs 40 = .ok (.ireturn, 1) := by decide +kernel
abbrev cX1_of : ByteArray := prog_1_method_27_code
def yX1_of : MethodName := ⟨RX1, "of", "(II)I"⟩
theorem dX1_of_0 : decode cX1_of 0 = .ok (.aload_n 0, 1) := by decide +kernel
theorem dX1_of_1 : decode cX1_of 1 = .ok (.iload_n 1, 1) := by decide +kernel
theorem dX1_of_2 : decode cX1_of 2 = .ok (.invokevirtual 228, 3) := by decide +kernel
theorem dX1_of_5 : decode cX1_of 5 = .ok (.invokestatic 225, 3) := by decide +kernel
theorem dX1_of_8 : decode cX1_of 8 = .ok (.iload_n 2, 1) := by decide +kernel
theorem dX1_of_9 : decode cX1_of 9 = .ok (.tableswitch 74 0 3 #[31, 38, 60, 67], 31) := by decide +kernel
theorem dX1_of_40 : decode cX1_of 40 = .ok (.aload_n 0, 1) := by decide +kernel
theorem dX1_of_41 : decode cX1_of 41 = .ok (.getfield 29, 3) := by decide +kernel
theorem dX1_of_44 : decode cX1_of 44 = .ok (.iload_n 1, 1) := by decide +kernel
theorem dX1_of_45 : decode cX1_of 45 = .ok (.iaload, 1) := by decide +kernel
theorem dX1_of_46 : decode cX1_of 46 = .ok (.ireturn, 1) := by decide +kernel
theorem dX1_of_47 : decode cX1_of 47 = .ok (.aload_n 0, 1) := by decide +kernel
theorem dX1_of_48 : decode cX1_of 48 = .ok (.getfield 202, 3) := by decide +kernel
theorem dX1_of_51 : decode cX1_of 51 = .ok (.ifCond .eq 16, 3) := by decide +kernel
theorem dX1_of_54 : decode cX1_of 54 = .ok (.aload_n 0, 1) := by decide +kernel
theorem dX1_of_55 : decode cX1_of 55 = .ok (.getfield 66, 3) := by decide +kernel
theorem dX1_of_58 : decode cX1_of 58 = .ok (.iload_n 1, 1) := by decide +kernel
theorem dX1_of_59 : decode cX1_of 59 = .ok (.baload, 1) := by decide +kernel
theorem dX1_of_60 : decode cX1_of 60 = .ok (.ifCond .eq 7, 3) := by decide +kernel
theorem dX1_of_63 : decode cX1_of 63 = .ok (.iconst 1, 1) := by decide +kernel
theorem dX1_of_64 : decode cX1_of 64 = .ok (.goto 4, 3) := by decide +kernel
theorem dX1_of_67 : decode cX1_of 67 = .ok (.iconst 0, 1) := by decide +kernel
theorem dX1_of_68 : decode cX1_of 68 = .ok (.ireturn, 1) := by decide +kernel
theorem dX1_of_69 : decode cX1_of 69 = .ok (.aload_n 0, 1) := by decide +kernel
theorem dX1_of_70 : decode cX1_of 70 = .ok (.getfield 70, 3) := by decide +kernel
theorem dX1_of_73 : decode cX1_of 73 = .ok (.iload_n 1, 1) := by decide +kernel
theorem dX1_of_74 : decode cX1_of 74 = .ok (.iaload, 1) := by decide +kernel
theorem dX1_of_75 : decode cX1_of 75 = .ok (.ireturn, 1) := by decide +kernel
theorem dX1_of_76 : decode cX1_of 76 = .ok (.aload_n 0, 1) := by decide +kernel
theorem dX1_of_77 : decode cX1_of 77 = .ok (.getfield 73, 3) := by decide +kernel
theorem dX1_of_80 : decode cX1_of 80 = .ok (.iload_n 1, 1) := by decide +kernel
theorem dX1_of_81 : decode cX1_of 81 = .ok (.iaload, 1) := by decide +kernel
theorem dX1_of_82 : decode cX1_of 82 = .ok (.ireturn, 1) := by decide +kernel
theorem dX1_of_83 : decode cX1_of 83 = .ok (.new 1, 3) := by decide +kernel
theorem dX1_of_86 : decode cX1_of 86 = .ok (.dup, 1) := by decide +kernel
theorem dX1_of_87 : decode cX1_of 87 = .ok (.invokespecial 3, 3) := by decide +kernel
theorem dX1_of_90 : decode cX1_of 90 = .ok (.athrow, 1) := by decide +kernel
abbrev cX1_pair : ByteArray := prog_1_method_29_code
def yX1_pair : MethodName := ⟨RX1, "pair", "(II)I"⟩
theorem dX1_pair_0 : decode cX1_pair 0 = .ok (.aload_n 0, 1) := by decide +kernel
theorem dX1_pair_1 : decode cX1_pair 1 = .ok (.iload_n 1, 1) := by decide +kernel
theorem dX1_pair_2 : decode cX1_pair 2 = .ok (.invokevirtual 288, 3) := by decide +kernel
theorem dX1_pair_5 : decode cX1_pair 5 = .ok (.astore_n 3, 1) := by decide +kernel
theorem dX1_pair_6 : decode cX1_pair 6 = .ok (.iload_n 2, 1) := by decide +kernel
theorem dX1_pair_7 : decode cX1_pair 7 = .ok (.ifCond .lt 12, 3) := by decide +kernel
theorem dX1_pair_10 : decode cX1_pair 10 = .ok (.iload_n 2, 1) := by decide +kernel
theorem dX1_pair_11 : decode cX1_pair 11 = .ok (.iconst 2, 1) := by decide +kernel
theorem dX1_pair_12 : decode cX1_pair 12 = .ok (.if_icmp .gt 7, 3) := by decide +kernel
theorem dX1_pair_15 : decode cX1_pair 15 = .ok (.iconst 1, 1) := by decide +kernel
theorem dX1_pair_16 : decode cX1_pair 16 = .ok (.goto 4, 3) := by decide +kernel
theorem dX1_pair_19 : decode cX1_pair 19 = .ok (.iconst 0, 1) := by decide +kernel
theorem dX1_pair_20 : decode cX1_pair 20 = .ok (.invokestatic 225, 3) := by decide +kernel
theorem dX1_pair_23 : decode cX1_pair 23 = .ok (.iload_n 2, 1) := by decide +kernel
theorem dX1_pair_24 : decode cX1_pair 24 = .ok (.ifCond .ne 10, 3) := by decide +kernel
theorem dX1_pair_27 : decode cX1_pair 27 = .ok (.aload_n 3, 1) := by decide +kernel
theorem dX1_pair_28 : decode cX1_pair 28 = .ok (.getfield 172, 3) := by decide +kernel
theorem dX1_pair_31 : decode cX1_pair 31 = .ok (.goto 19, 3) := by decide +kernel
theorem dX1_pair_34 : decode cX1_pair 34 = .ok (.iload_n 2, 1) := by decide +kernel
theorem dX1_pair_35 : decode cX1_pair 35 = .ok (.iconst 1, 1) := by decide +kernel
theorem dX1_pair_36 : decode cX1_pair 36 = .ok (.if_icmp .ne 10, 3) := by decide +kernel
theorem dX1_pair_39 : decode cX1_pair 39 = .ok (.aload_n 3, 1) := by decide +kernel
theorem dX1_pair_40 : decode cX1_pair 40 = .ok (.getfield 175, 3) := by decide +kernel
theorem dX1_pair_43 : decode cX1_pair 43 = .ok (.goto 7, 3) := by decide +kernel
theorem dX1_pair_46 : decode cX1_pair 46 = .ok (.aload_n 3, 1) := by decide +kernel
theorem dX1_pair_47 : decode cX1_pair 47 = .ok (.getfield 278, 3) := by decide +kernel
theorem dX1_pair_50 : decode cX1_pair 50 = .ok (.ireturn, 1) := by decide +kernel
abbrev cX1_pairIn : ByteArray := prog_1_method_28_code
def yX1_pairIn : MethodName := ⟨RX1, "pairIn", "(I)LPollAudit$Pair;"⟩
theorem dX1_pairIn_0 : decode cX1_pairIn 0 = .ok (.aload_n 0, 1) := by decide +kernel
theorem dX1_pairIn_1 : decode cX1_pairIn 1 = .ok (.getfield 202, 3) := by decide +kernel
theorem dX1_pairIn_4 : decode cX1_pairIn 4 = .ok (.ifCond .eq 19, 3) := by decide +kernel
theorem dX1_pairIn_7 : decode cX1_pairIn 7 = .ok (.iload_n 1, 1) := by decide +kernel
theorem dX1_pairIn_8 : decode cX1_pairIn 8 = .ok (.ifCond .lt 15, 3) := by decide +kernel
theorem dX1_pairIn_11 : decode cX1_pairIn 11 = .ok (.iload_n 1, 1) := by decide +kernel
theorem dX1_pairIn_12 : decode cX1_pairIn 12 = .ok (.aload_n 0, 1) := by decide +kernel
theorem dX1_pairIn_13 : decode cX1_pairIn 13 = .ok (.getfield 182, 3) := by decide +kernel
theorem dX1_pairIn_16 : decode cX1_pairIn 16 = .ok (.if_icmp .ge 7, 3) := by decide +kernel
theorem dX1_pairIn_19 : decode cX1_pairIn 19 = .ok (.iconst 1, 1) := by decide +kernel
theorem dX1_pairIn_20 : decode cX1_pairIn 20 = .ok (.goto 4, 3) := by decide +kernel
theorem dX1_pairIn_23 : decode cX1_pairIn 23 = .ok (.iconst 0, 1) := by decide +kernel
theorem dX1_pairIn_24 : decode cX1_pairIn 24 = .ok (.invokestatic 225, 3) := by decide +kernel
theorem dX1_pairIn_27 : decode cX1_pairIn 27 = .ok (.aload_n 0, 1) := by decide +kernel
theorem dX1_pairIn_28 : decode cX1_pairIn 28 = .ok (.getfield 81, 3) := by decide +kernel
theorem dX1_pairIn_31 : decode cX1_pairIn 31 = .ok (.iload_n 1, 1) := by decide +kernel
theorem dX1_pairIn_32 : decode cX1_pairIn 32 = .ok (.aaload, 1) := by decide +kernel
theorem dX1_pairIn_33 : decode cX1_pairIn 33 = .ok (.areturn, 1) := by decide +kernel
abbrev cX1_ballot : ByteArray := prog_1_method_31_code
def yX1_ballot : MethodName := ⟨RX1, "ballot", "(II)I"⟩
theorem dX1_ballot_0 : decode cX1_ballot 0 = .ok (.iload_n 1, 1) := by decide +kernel
theorem dX1_ballot_1 : decode cX1_ballot 1 = .ok (.ifCond .lt 15, 3) := by decide +kernel
theorem dX1_ballot_4 : decode cX1_ballot 4 = .ok (.iload_n 1, 1) := by decide +kernel
theorem dX1_ballot_5 : decode cX1_ballot 5 = .ok (.aload_n 0, 1) := by decide +kernel
theorem dX1_ballot_6 : decode cX1_ballot 6 = .ok (.getfield 222, 3) := by decide +kernel
theorem dX1_ballot_9 : decode cX1_ballot 9 = .ok (.if_icmp .ge 7, 3) := by decide +kernel
theorem dX1_ballot_12 : decode cX1_ballot 12 = .ok (.iconst 1, 1) := by decide +kernel
theorem dX1_ballot_13 : decode cX1_ballot 13 = .ok (.goto 4, 3) := by decide +kernel
theorem dX1_ballot_16 : decode cX1_ballot 16 = .ok (.iconst 0, 1) := by decide +kernel
theorem dX1_ballot_17 : decode cX1_ballot 17 = .ok (.invokestatic 225, 3) := by decide +kernel
theorem dX1_ballot_20 : decode cX1_ballot 20 = .ok (.iload_n 2, 1) := by decide +kernel
theorem dX1_ballot_21 : decode cX1_ballot 21 = .ok (.tableswitch 58 0 3 #[31, 37, 44, 51], 31) := by decide +kernel
theorem dX1_ballot_52 : decode cX1_ballot 52 = .ok (.aload_n 0, 1) := by decide +kernel
theorem dX1_ballot_53 : decode cX1_ballot 53 = .ok (.iload_n 1, 1) := by decide +kernel
theorem dX1_ballot_54 : decode cX1_ballot 54 = .ok (.invokevirtual 292, 3) := by decide +kernel
theorem dX1_ballot_57 : decode cX1_ballot 57 = .ok (.ireturn, 1) := by decide +kernel
theorem dX1_ballot_58 : decode cX1_ballot 58 = .ok (.aload_n 0, 1) := by decide +kernel
theorem dX1_ballot_59 : decode cX1_ballot 59 = .ok (.getfield 55, 3) := by decide +kernel
theorem dX1_ballot_62 : decode cX1_ballot 62 = .ok (.iload_n 1, 1) := by decide +kernel
