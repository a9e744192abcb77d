set_option maxRecDepth 100000
theorem dX10_again_23 : decode cX10_again 23 = .ok (.aload_n 0, 1) := by decide +kernel
theorem dX10_again_24 : decode cX10_again 24 = .ok (.getfield 48, 3) := by decide +kernel
theorem dX10_again_27 : decode cX10_again 27 = .ok (.iload_n 1, 1) := by decide +kernel
theorem dX10_again_28 : decode cX10_again 28 = .ok (.iconst 0, 1) := by decide +kernel
theorem dX10_again_29 : decode cX10_again 29 = .ok (.bastore, 1) := by decide +kernel
theorem dX10_again_30 : decode cX10_again 30 = .ok (.aload_n 0, 1) := by decide +kernel
theorem dX10_again_31 : decode cX10_again 31 = .ok (.getfield 61, 3) := by decide +kernel
theorem dX10_again_34 : decode cX10_again 34 = .ok (.iload_n 1, 1) := by decide +kernel
theorem dX10_again_35 : decode cX10_again 35 = .ok (.iconst 0, 1) := by decide +kernel
theorem dX10_again_36 : decode cX10_again 36 = .ok (.iastore, 1) := by decide +kernel
theorem dX10_again_37 : decode cX10_again 37 = .ok (.aload_n 0, 1) := by decide +kernel
theorem dX10_again_38 : decode cX10_again 38 = .ok (.getfield 73, 3) := by decide +kernel
theorem dX10_again_41 : decode cX10_again 41 = .ok (.iload_n 1, 1) := by decide +kernel
theorem dX10_again_42 : decode cX10_again 42 = .ok (.iconst 0, 1) := by decide +kernel
theorem dX10_again_43 : decode cX10_again 43 = .ok (.iastore, 1) := by decide +kernel
theorem dX10_again_44 : decode cX10_again 44 = .ok (.iinc 1 1, 3) := by decide +kernel
theorem dX10_again_47 : decode cX10_again 47 = .ok (.goto (-30), 3) := by decide +kernel
theorem dX10_again_50 : decode cX10_again 50 = .ok (.iconst 0, 1) := by decide +kernel
theorem dX10_again_51 : decode cX10_again 51 = .ok (.istore_n 1, 1) := by decide +kernel
theorem dX10_again_52 : decode cX10_again 52 = .ok (.iload_n 1, 1) := by decide +kernel
theorem dX10_again_53 : decode cX10_again 53 = .ok (.aload_n 0, 1) := by decide +kernel
theorem dX10_again_54 : decode cX10_again 54 = .ok (.getfield 240, 3) := by decide +kernel
theorem dX10_again_57 : decode cX10_again 57 = .ok (.if_icmp .ge 24, 3) := by decide +kernel
theorem dX10_again_60 : decode cX10_again 60 = .ok (.aload_n 0, 1) := by decide +kernel
theorem dX10_again_61 : decode cX10_again 61 = .ok (.getfield 64, 3) := by decide +kernel
theorem dX10_again_64 : decode cX10_again 64 = .ok (.iload_n 1, 1) := by decide +kernel
theorem dX10_again_65 : decode cX10_again 65 = .ok (.bipush (-2), 2) := by decide +kernel
theorem dX10_again_67 : decode cX10_again 67 = .ok (.bastore, 1) := by decide +kernel
theorem dX10_again_68 : decode cX10_again 68 = .ok (.aload_n 0, 1) := by decide +kernel
theorem dX10_again_69 : decode cX10_again 69 = .ok (.getfield 67, 3) := by decide +kernel
theorem dX10_again_72 : decode cX10_again 72 = .ok (.iload_n 1, 1) := by decide +kernel
theorem dX10_again_73 : decode cX10_again 73 = .ok (.iconst 0, 1) := by decide +kernel
theorem dX10_again_74 : decode cX10_again 74 = .ok (.iastore, 1) := by decide +kernel
theorem dX10_again_75 : decode cX10_again 75 = .ok (.iinc 1 1, 3) := by decide +kernel
theorem dX10_again_78 : decode cX10_again 78 = .ok (.goto (-26), 3) := by decide +kernel
theorem dX10_again_81 : decode cX10_again 81 = .ok (.aload_n 0, 1) := by decide +kernel
theorem dX10_again_82 : decode cX10_again 82 = .ok (.iconst 0, 1) := by decide +kernel
theorem dX10_again_83 : decode cX10_again 83 = .ok (.putfield 288, 3) := by decide +kernel
theorem dX10_again_86 : decode cX10_again 86 = .ok (.aload_n 0, 1) := by decide +kernel
theorem dX10_again_87 : decode cX10_again 87 = .ok (.iconst 0, 1) := by decide +kernel
theorem dX10_again_88 : decode cX10_again 88 = .ok (.putfield 308, 3) := by decide +kernel
theorem dX10_again_91 : decode cX10_again 91 = .ok (.aload_n 0, 1) := by decide +kernel
theorem dX10_again_92 : decode cX10_again 92 = .ok (.iconst 0, 1) := by decide +kernel
theorem dX10_again_93 : decode cX10_again 93 = .ok (.putfield 302, 3) := by decide +kernel
theorem dX10_again_96 : decode cX10_again 96 = .ok (.aload_n 0, 1) := by decide +kernel
theorem dX10_again_97 : decode cX10_again 97 = .ok (.iconst (-1), 1) := by decide +kernel
theorem dX10_again_98 : decode cX10_again 98 = .ok (.putfield 70, 3) := by decide +kernel
theorem dX10_again_101 : decode cX10_again 101 = .ok (.aload_n 0, 1) := by decide +kernel
theorem dX10_again_102 : decode cX10_again 102 = .ok (.iconst 0, 1) := by decide +kernel
theorem dX10_again_103 : decode cX10_again 103 = .ok (.putfield 311, 3) := by decide +kernel
theorem dX10_again_106 : decode cX10_again 106 = .ok (.aload_n 0, 1) := by decide +kernel
theorem dX10_again_107 : decode cX10_again 107 = .ok (.iconst 0, 1) := by decide +kernel
theorem dX10_again_108 : decode cX10_again 108 = .ok (.putfield 247, 3) := by decide +kernel
theorem dX10_again_111 : decode cX10_again 111 = .ok (.return_, 1) := by decide +kernel
abbrev cX10_told : ByteArray := prog_13_method_41_code
def yX10_told : MethodName := ⟨RX10, "told", "(I)I"⟩
theorem dX10_told_0 : decode cX10_told 0 = .ok (.aload_n 0, 1) := by decide +kernel
theorem dX10_told_1 : decode cX10_told 1 = .ok (.iload_n 1, 1) := by decide +kernel
theorem dX10_told_2 : decode cX10_told 2 = .ok (.ifCond .lt 9, 3) := by decide +kernel
theorem dX10_told_5 : decode cX10_told 5 = .ok (.iload_n 1, 1) := by decide +kernel
theorem dX10_told_6 : decode cX10_told 6 = .ok (.bipush 12, 2) := by decide +kernel
theorem dX10_told_8 : decode cX10_told 8 = .ok (.if_icmp .le 7, 3) := by decide +kernel
theorem dX10_told_11 : decode cX10_told 11 = .ok (.iconst 1, 1) := by decide +kernel
theorem dX10_told_12 : decode cX10_told 12 = .ok (.goto 4, 3) := by decide +kernel
theorem dX10_told_15 : decode cX10_told 15 = .ok (.iconst 0, 1) := by decide +kernel
theorem dX10_told_16 : decode cX10_told 16 = .ok (.putfield 1, 3) := by decide +kernel
theorem dX10_told_19 : decode cX10_told 19 = .ok (.iconst 0, 1) := by decide +kernel
theorem dX10_told_20 : decode cX10_told 20 = .ok (.istore_n 2, 1) := by decide +kernel
theorem dX10_told_21 : decode cX10_told 21 = .ok (.iconst 0, 1) := by decide +kernel
theorem dX10_told_22 : decode cX10_told 22 = .ok (.istore_n 3, 1) := by decide +kernel
theorem dX10_told_23 : decode cX10_told 23 = .ok (.iload_n 3, 1) := by decide +kernel
theorem dX10_told_24 : decode cX10_told 24 = .ok (.aload_n 0, 1) := by decide +kernel
theorem dX10_told_25 : decode cX10_told 25 = .ok (.getfield 250, 3) := by decide +kernel
theorem dX10_told_28 : decode cX10_told 28 = .ok (.if_icmp .ge 27, 3) := by decide +kernel
theorem dX10_told_31 : decode cX10_told 31 = .ok (.iload_n 2, 1) := by decide +kernel
theorem dX10_told_32 : decode cX10_told 32 = .ok (.aload_n 0, 1) := by decide +kernel
theorem dX10_told_33 : decode cX10_told 33 = .ok (.getfield 58, 3) := by decide +kernel
theorem dX10_told_36 : decode cX10_told 36 = .ok (.iload_n 3, 1) := by decide +kernel
theorem dX10_told_37 : decode cX10_told 37 = .ok (.iaload, 1) := by decide +kernel
theorem dX10_told_38 : decode cX10_told 38 = .ok (.iconst (-1), 1) := by decide +kernel
theorem dX10_told_39 : decode cX10_told 39 = .ok (.if_icmp .eq 7, 3) := by decide +kernel
theorem dX10_told_42 : decode cX10_told 42 = .ok (.iconst 1, 1) := by decide +kernel
theorem dX10_told_43 : decode cX10_told 43 = .ok (.goto 4, 3) := by decide +kernel
theorem dX10_told_46 : decode cX10_told 46 = .ok (.iconst 0, 1) := by decide +kernel
theorem dX10_told_47 : decode cX10_told 47 = .ok (.iadd, 1) := by decide +kernel
theorem dX10_told_48 : decode cX10_told 48 = .ok (.istore_n 2, 1) := by decide +kernel
theorem dX10_told_49 : decode cX10_told 49 = .ok (.iinc 3 1, 3) := by decide +kernel
theorem dX10_told_52 : decode cX10_told 52 = .ok (.goto (-29), 3) := by decide +kernel
theorem dX10_told_55 : decode cX10_told 55 = .ok (.aload_n 0, 1) := by decide +kernel
theorem dX10_told_56 : decode cX10_told 56 = .ok (.getfield 1, 3) := by decide +kernel
theorem dX10_told_59 : decode cX10_told 59 = .ok (.ifCond .le 8, 3) := by decide +kernel
theorem dX10_told_62 : decode cX10_told 62 = .ok (.bipush 99, 2) := by decide +kernel
theorem dX10_told_64 : decode cX10_told 64 = .ok (.goto 4, 3) := by decide +kernel
theorem dX10_told_67 : decode cX10_told 67 = .ok (.iload_n 1, 1) := by decide +kernel
theorem dX10_told_68 : decode cX10_told 68 = .ok (.tableswitch 138 0 12 #[68, 73, 78, 83, 88, 93, 98, 103, 108, 113, 115, 120, 125], 68) := by decide +kernel
theorem dX10_told_136 : decode cX10_told 136 = .ok (.aload_n 0, 1) := by decide +kernel
theorem dX10_told_137 : decode cX10_told 137 = .ok (.getfield 231, 3) := by decide +kernel
theorem dX10_told_140 : decode cX10_told 140 = .ok (.ireturn, 1) := by decide +kernel
theorem dX10_told_141 : decode cX10_told 141 = .ok (.aload_n 0, 1) := by decide +kernel
theorem dX10_told_142 : decode cX10_told 142 = .ok (.getfield 234, 3) := by decide +kernel
theorem dX10_told_145 : decode cX10_told 145 = .ok (.ireturn, 1) := by decide +kernel
theorem dX10_told_146 : decode cX10_told 146 = .ok (.aload_n 0, 1) := by decide +kernel
theorem dX10_told_147 : decode cX10_told 147 = .ok (.getfield 237, 3) := by decide +kernel
theorem dX10_told_150 : decode cX10_told 150 = .ok (.ireturn, 1) := by decide +kernel
theorem dX10_told_151 : decode cX10_told 151 = .ok (.aload_n 0, 1) := by decide +kernel
theorem dX10_told_152 : decode cX10_told 152 = .ok (.getfield 240, 3) := by decide +kernel
theorem dX10_told_155 : decode cX10_told 155 = .ok (.ireturn, 1) := by decide +kernel
theorem dX10_told_156 : decode cX10_told 156 = .ok (.aload_n 0, 1) := by decide +kernel
theorem dX10_told_157 : decode cX10_told 157 = .ok (.getfield 288, 3) := by decide +kernel
theorem dX10_told_160 : decode cX10_told 160 = .ok (.ireturn, 1) := by decide +kernel
theorem dX10_told_161 : decode cX10_told 161 = .ok (.aload_n 0, 1) := by decide +kernel
theorem dX10_told_162 : decode cX10_told 162 = .ok (.getfield 308, 3) := by decide +kernel
theorem dX10_told_165 : decode cX10_told 165 = .ok (.ireturn, 1) := by decide +kernel
theorem dX10_told_166 : decode cX10_told 166 = .ok (.aload_n 0, 1) := by decide +kernel
theorem dX10_told_167 : decode cX10_told 167 = .ok (.getfield 302, 3) := by decide +kernel
theorem dX10_told_170 : decode cX10_told 170 = .ok (.ireturn, 1) := by decide +kernel
theorem dX10_told_171 : decode cX10_told 171 = .ok (.aload_n 0, 1) := by decide +kernel
theorem dX10_told_172 : decode cX10_told 172 = .ok (.getfield 247, 3) := by decide +kernel
theorem dX10_told_175 : decode cX10_told 175 = .ok (.ireturn, 1) := by decide +kernel
theorem dX10_told_176 : decode cX10_told 176 = .ok (.aload_n 0, 1) := by decide +kernel
theorem dX10_told_177 : decode cX10_told 177 = .ok (.getfield 250, 3) := by decide +kernel
theorem dX10_told_180 : decode cX10_told 180 = .ok (.ireturn, 1) := by decide +kernel
theorem dX10_told_181 : decode cX10_told 181 = .ok (.iload_n 2, 1) := by decide +kernel
theorem dX10_told_182 : decode cX10_told 182 = .ok (.ireturn, 1) := by decide +kernel
theorem dX10_told_183 : decode cX10_told 183 = .ok (.aload_n 0, 1) := by decide +kernel
theorem dX10_told_184 : decode cX10_told 184 = .ok (.getfield 70, 3) := by decide +kernel
theorem dX10_told_187 : decode cX10_told 187 = .ok (.ireturn, 1) := by decide +kernel
theorem dX10_told_188 : decode cX10_told 188 = .ok (.aload_n 0, 1) := by decide +kernel
theorem dX10_told_189 : decode cX10_told 189 = .ok (.invokevirtual 296, 3) := by decide +kernel
theorem dX10_told_192 : decode cX10_told 192 = .ok (.ireturn, 1) := by decide +kernel
theorem dX10_told_193 : decode cX10_told 193 = .ok (.aload_n 0, 1) := by decide +kernel
theorem dX10_told_194 : decode cX10_told 194 = .ok (.getfield 311, 3) := by decide +kernel
theorem dX10_told_197 : decode cX10_told 197 = .ok (.ifCond .eq 7, 3) := by decide +kernel
theorem dX10_told_200 : decode cX10_told 200 = .ok (.iconst 1, 1) := by decide +kernel
theorem dX10_told_201 : decode cX10_told 201 = .ok (.goto 4, 3) := by decide +kernel
theorem dX10_told_204 : decode cX10_told 204 = .ok (.iconst 0, 1) := by decide +kernel
theorem dX10_told_205 : decode cX10_told 205 = .ok (.ireturn, 1) := by decide +kernel
theorem dX10_told_206 : decode cX10_told 206 = .ok (.iconst 0, 1) := by decide +kernel
theorem dX10_told_207 : decode cX10_told 207 = .ok (.ireturn, 1) := by decide +kernel
abbrev cX10_of : ByteArray := prog_13_method_42_code
def yX10_of : MethodName := ⟨RX10, "of", "(II)I"⟩
theorem dX10_of_0 : decode cX10_of 0 = .ok (.aload_n 0, 1) := by decide +kernel
theorem dX10_of_1 : decode cX10_of 1 = .ok (.iload_n 1, 1) := by decide +kernel
theorem dX10_of_2 : decode cX10_of 2 = .ok (.ifCond .lt 20, 3) := by decide +kernel
theorem dX10_of_5 : decode cX10_of 5 = .ok (.iload_n 1, 1) := by decide +kernel
theorem dX10_of_6 : decode cX10_of 6 = .ok (.aload_n 0, 1) := by decide +kernel
theorem dX10_of_7 : decode cX10_of 7 = .ok (.getfield 234, 3) := by decide +kernel
theorem dX10_of_10 : decode cX10_of 10 = .ok (.if_icmp .ge 12, 3) := by decide +kernel
theorem dX10_of_13 : decode cX10_of 13 = .ok (.iload_n 2, 1) := by decide +kernel
theorem dX10_of_14 : decode cX10_of 14 = .ok (.ifCond .lt 8, 3) := by decide +kernel
theorem dX10_of_17 : decode cX10_of 17 = .ok (.iload_n 2, 1) := by decide +kernel
theorem dX10_of_18 : decode cX10_of 18 = .ok (.iconst 3, 1) := by decide +kernel
theorem dX10_of_19 : decode cX10_of 19 = .ok (.if_icmp .le 7, 3) := by decide +kernel
theorem dX10_of_22 : decode cX10_of 22 = .ok (.iconst 1, 1) := by decide +kernel
theorem dX10_of_23 : decode cX10_of 23 = .ok (.goto 4, 3) := by decide +kernel
theorem dX10_of_26 : decode cX10_of 26 = .ok (.iconst 0, 1) := by decide +kernel
theorem dX10_of_27 : decode cX10_of 27 = .ok (.putfield 1, 3) := by decide +kernel
theorem dX10_of_30 : decode cX10_of 30 = .ok (.aload_n 0, 1) := by decide +kernel
theorem dX10_of_31 : decode cX10_of 31 = .ok (.getfield 1, 3) := by decide +kernel
theorem dX10_of_34 : decode cX10_of 34 = .ok (.ifCond .le 7, 3) := by decide +kernel
theorem dX10_of_37 : decode cX10_of 37 = .ok (.iconst 0, 1) := by decide +kernel
theorem dX10_of_38 : decode cX10_of 38 = .ok (.goto 67, 3) := by decide +kernel
theorem dX10_of_41 : decode cX10_of 41 = .ok (.iload_n 2, 1) := by decide +kernel
theorem dX10_of_42 : decode cX10_of 42 = .ok (.ifCond .ne 12, 3) := by decide +kernel
theorem dX10_of_45 : decode cX10_of 45 = .ok (.aload_n 0, 1) := by decide +kernel
theorem dX10_of_46 : decode cX10_of 46 = .ok (.getfield 13, 3) := by decide +kernel
theorem dX10_of_49 : decode cX10_of 49 = .ok (.iload_n 1, 1) := by decide +kernel
theorem dX10_of_50 : decode cX10_of 50 = .ok (.iaload, 1) := by decide +kernel
theorem dX10_of_51 : decode cX10_of 51 = .ok (.goto 54, 3) := by decide +kernel
theorem dX10_of_54 : decode cX10_of 54 = .ok (.iload_n 2, 1) := by decide +kernel
theorem dX10_of_55 : decode cX10_of 55 = .ok (.iconst 1, 1) := by decide +kernel
theorem dX10_of_56 : decode cX10_of 56 = .ok (.if_icmp .ne 27, 3) := by decide +kernel
theorem dX10_of_59 : decode cX10_of 59 = .ok (.aload_n 0, 1) := by decide +kernel
theorem dX10_of_60 : decode cX10_of 60 = .ok (.getfield 48, 3) := by decide +kernel
theorem dX10_of_63 : decode cX10_of 63 = .ok (.iload_n 1, 1) := by decide +kernel
theorem dX10_of_64 : decode cX10_of 64 = .ok (.baload, 1) := by decide +kernel
theorem dX10_of_65 : decode cX10_of 65 = .ok (.ifCond .eq 14, 3) := by decide +kernel
theorem dX10_of_68 : decode cX10_of 68 = .ok (.aload_n 0, 1) := by decide +kernel
theorem dX10_of_69 : decode cX10_of 69 = .ok (.getfield 231, 3) := by decide +kernel
theorem dX10_of_72 : decode cX10_of 72 = .ok (.ifCond .eq 7, 3) := by decide +kernel
theorem dX10_of_75 : decode cX10_of 75 = .ok (.iconst 1, 1) := by decide +kernel
theorem dX10_of_76 : decode cX10_of 76 = .ok (.goto 29, 3) := by decide +kernel
theorem dX10_of_79 : decode cX10_of 79 = .ok (.iconst 0, 1) := by decide +kernel
theorem dX10_of_80 : decode cX10_of 80 = .ok (.goto 25, 3) := by decide +kernel
theorem dX10_of_83 : decode cX10_of 83 = .ok (.iload_n 2, 1) := by decide +kernel
theorem dX10_of_84 : decode cX10_of 84 = .ok (.iconst 2, 1) := by decide +kernel
theorem dX10_of_85 : decode cX10_of 85 = .ok (.if_icmp .ne 12, 3) := by decide +kernel
theorem dX10_of_88 : decode cX10_of 88 = .ok (.aload_n 0, 1) := by decide +kernel
theorem dX10_of_89 : decode cX10_of 89 = .ok (.getfield 61, 3) := by decide +kernel
theorem dX10_of_92 : decode cX10_of 92 = .ok (.iload_n 1, 1) := by decide +kernel
theorem dX10_of_93 : decode cX10_of 93 = .ok (.iaload, 1) := by decide +kernel
theorem dX10_of_94 : decode cX10_of 94 = .ok (.goto 11, 3) := by decide +kernel
theorem dX10_of_97 : decode cX10_of 97 = .ok (.aload_n 0, 1) := by decide +kernel
theorem dX10_of_98 : decode cX10_of 98 = .ok (.getfield 73, 3) := by decide +kernel
theorem dX10_of_101 : decode cX10_of 101 = .ok (.iload_n 1, 1) := by decide +kernel
theorem dX10_of_102 : decode cX10_of 102 = .ok (.iaload, 1) := by decide +kernel
theorem dX10_of_103 : decode cX10_of 103 = .ok (.iconst 1, 1) := by decide +kernel
theorem dX10_of_104 : decode cX10_of 104 = .ok (.isub, 1) := by decide +kernel
theorem dX10_of_105 : decode cX10_of 105 = .ok (.ireturn, 1) := by decide +kernel
abbrev cX10_pair : ByteArray := prog_13_method_43_code
def yX10_pair : MethodName := ⟨RX10, "pair", "(II)I"⟩
theorem dX10_pair_0 : decode cX10_pair 0 = .ok (.aload_n 0, 1) := by decide +kernel
theorem dX10_pair_1 : decode cX10_pair 1 = .ok (.iload_n 1, 1) := by decide +kernel
theorem dX10_pair_2 : decode cX10_pair 2 = .ok (.ifCond .lt 20, 3) := by decide +kernel
theorem dX10_pair_5 : decode cX10_pair 5 = .ok (.iload_n 1, 1) := by decide +kernel
theorem dX10_pair_6 : decode cX10_pair 6 = .ok (.aload_n 0, 1) := by decide +kernel
theorem dX10_pair_7 : decode cX10_pair 7 = .ok (.getfield 250, 3) := by decide +kernel
theorem dX10_pair_10 : decode cX10_pair 10 = .ok (.if_icmp .ge 12, 3) := by decide +kernel
theorem dX10_pair_13 : decode cX10_pair 13 = .ok (.iload_n 2, 1) := by decide +kernel
theorem dX10_pair_14 : decode cX10_pair 14 = .ok (.ifCond .lt 8, 3) := by decide +kernel
theorem dX10_pair_17 : decode cX10_pair 17 = .ok (.iload_n 2, 1) := by decide +kernel
theorem dX10_pair_18 : decode cX10_pair 18 = .ok (.iconst 2, 1) := by decide +kernel
theorem dX10_pair_19 : decode cX10_pair 19 = .ok (.if_icmp .le 7, 3) := by decide +kernel
theorem dX10_pair_22 : decode cX10_pair 22 = .ok (.iconst 1, 1) := by decide +kernel
theorem dX10_pair_23 : decode cX10_pair 23 = .ok (.goto 4, 3) := by decide +kernel
theorem dX10_pair_26 : decode cX10_pair 26 = .ok (.iconst 0, 1) := by decide +kernel
theorem dX10_pair_27 : decode cX10_pair 27 = .ok (.putfield 1, 3) := by decide +kernel
theorem dX10_pair_30 : decode cX10_pair 30 = .ok (.aload_n 0, 1) := by decide +kernel
theorem dX10_pair_31 : decode cX10_pair 31 = .ok (.getfield 1, 3) := by decide +kernel
theorem dX10_pair_34 : decode cX10_pair 34 = .ok (.ifCond .le 7, 3) := by decide +kernel
theorem dX10_pair_37 : decode cX10_pair 37 = .ok (.iconst 0, 1) := by decide +kernel
theorem dX10_pair_38 : decode cX10_pair 38 = .ok (.goto 36, 3) := by decide +kernel
theorem dX10_pair_41 : decode cX10_pair 41 = .ok (.iload_n 2, 1) := by decide +kernel
theorem dX10_pair_42 : decode cX10_pair 42 = .ok (.ifCond .ne 12, 3) := by decide +kernel
theorem dX10_pair_45 : decode cX10_pair 45 = .ok (.aload_n 0, 1) := by decide +kernel
theorem dX10_pair_46 : decode cX10_pair 46 = .ok (.getfield 52, 3) := by decide +kernel
theorem dX10_pair_49 : decode cX10_pair 49 = .ok (.iload_n 1, 1) := by decide +kernel
theorem dX10_pair_50 : decode cX10_pair 50 = .ok (.iaload, 1) := by decide +kernel
theorem dX10_pair_51 : decode cX10_pair 51 = .ok (.goto 23, 3) := by decide +kernel
theorem dX10_pair_54 : decode cX10_pair 54 = .ok (.iload_n 2, 1) := by decide +kernel
theorem dX10_pair_55 : decode cX10_pair 55 = .ok (.iconst 1, 1) := by decide +kernel
theorem dX10_pair_56 : decode cX10_pair 56 = .ok (.if_icmp .ne 12, 3) := by decide +kernel
theorem dX10_pair_59 : decode cX10_pair 59 = .ok (.aload_n 0, 1) := by decide +kernel
theorem dX10_pair_60 : decode cX10_pair 60 = .ok (.getfield 55, 3) := by decide +kernel
theorem dX10_pair_63 : decode cX10_pair 63 = .ok (.iload_n 1, 1) := by decide +kernel
theorem dX10_pair_64 : decode cX10_pair 64 = .ok (.iaload, 1) := by decide +kernel
theorem dX10_pair_65 : decode cX10_pair 65 = .ok (.goto 9, 3) := by decide +kernel
theorem dX10_pair_68 : decode cX10_pair 68 = .ok (.aload_n 0, 1) := by decide +kernel
theorem dX10_pair_69 : decode cX10_pair 69 = .ok (.getfield 58, 3) := by decide +kernel
theorem dX10_pair_72 : decode cX10_pair 72 = .ok (.iload_n 1, 1) := by decide +kernel
theorem dX10_pair_73 : decode cX10_pair 73 = .ok (.iaload, 1) := by decide +kernel
theorem dX10_pair_74 : decode cX10_pair 74 = .ok (.ireturn, 1) := by decide +kernel
abbrev cX10_ballot : ByteArray := prog_13_method_44_code
def yX10_ballot : MethodName := ⟨RX10, "ballot", "(II)I"⟩
theorem dX10_ballot_0 : decode cX10_ballot 0 = .ok (.aload_n 0, 1) := by decide +kernel
theorem dX10_ballot_1 : decode cX10_ballot 1 = .ok (.iload_n 1, 1) := by decide +kernel
theorem dX10_ballot_2 : decode cX10_ballot 2 = .ok (.ifCond .lt 20, 3) := by decide +kernel
theorem dX10_ballot_5 : decode cX10_ballot 5 = .ok (.iload_n 1, 1) := by decide +kernel
theorem dX10_ballot_6 : decode cX10_ballot 6 = .ok (.aload_n 0, 1) := by decide +kernel
theorem dX10_ballot_7 : decode cX10_ballot 7 = .ok (.getfield 240, 3) := by decide +kernel
theorem dX10_ballot_10 : decode cX10_ballot 10 = .ok (.if_icmp .ge 12, 3) := by decide +kernel
theorem dX10_ballot_13 : decode cX10_ballot 13 = .ok (.iload_n 2, 1) := by decide +kernel
theorem dX10_ballot_14 : decode cX10_ballot 14 = .ok (.ifCond .lt 8, 3) := by decide +kernel
theorem dX10_ballot_17 : decode cX10_ballot 17 = .ok (.iload_n 2, 1) := by decide +kernel
theorem dX10_ballot_18 : decode cX10_ballot 18 = .ok (.iconst 3, 1) := by decide +kernel
theorem dX10_ballot_19 : decode cX10_ballot 19 = .ok (.if_icmp .le 7, 3) := by decide +kernel
theorem dX10_ballot_22 : decode cX10_ballot 22 = .ok (.iconst 1, 1) := by decide +kernel
theorem dX10_ballot_23 : decode cX10_ballot 23 = .ok (.goto 4, 3) := by decide +kernel
theorem dX10_ballot_26 : decode cX10_ballot 26 = .ok (.iconst 0, 1) := by decide +kernel
theorem dX10_ballot_27 : decode cX10_ballot 27 = .ok (.putfield 1, 3) := by decide +kernel
theorem dX10_ballot_30 : decode cX10_ballot 30 = .ok (.aload_n 0, 1) := by decide +kernel
theorem dX10_ballot_31 : decode cX10_ballot 31 = .ok (.getfield 1, 3) := by decide +kernel
theorem dX10_ballot_34 : decode cX10_ballot 34 = .ok (.ifCond .le 5, 3) := by decide +kernel
theorem dX10_ballot_37 : decode cX10_ballot 37 = .ok (.iconst 0, 1) := by decide +kernel
theorem dX10_ballot_38 : decode cX10_ballot 38 = .ok (.ireturn, 1) := by decide +kernel
theorem dX10_ballot_39 : decode cX10_ballot 39 = .ok (.iconst 0, 1) := by decide +kernel
theorem dX10_ballot_40 : decode cX10_ballot 40 = .ok (.istore_n 3, 1) := by decide +kernel
theorem dX10_ballot_41 : decode cX10_ballot 41 = .ok (.iload_n 3, 1) := by decide +kernel
theorem dX10_ballot_42 : decode cX10_ballot 42 = .ok (.iconst 1, 1) := by decide +kernel
theorem dX10_ballot_43 : decode cX10_ballot 43 = .ok (.iadd, 1) := by decide +kernel
theorem dX10_ballot_44 : decode cX10_ballot 44 = .ok (.aload_n 0, 1) := by decide +kernel
theorem dX10_ballot_45 : decode cX10_ballot 45 = .ok (.getfield 237, 3) := by decide +kernel
theorem dX10_ballot_48 : decode cX10_ballot 48 = .ok (.if_icmp .ge 21, 3) := by decide +kernel
theorem dX10_ballot_51 : decode cX10_ballot 51 = .ok (.aload_n 0, 1) := by decide +kernel
theorem dX10_ballot_52 : decode cX10_ballot 52 = .ok (.getfield 23, 3) := by decide +kernel
theorem dX10_ballot_55 : decode cX10_ballot 55 = .ok (.iload_n 3, 1) := by decide +kernel
theorem dX10_ballot_56 : decode cX10_ballot 56 = .ok (.iconst 1, 1) := by decide +kernel
theorem dX10_ballot_57 : decode cX10_ballot 57 = .ok (.iadd, 1) := by decide +kernel
theorem dX10_ballot_58 : decode cX10_ballot 58 = .ok (.iaload, 1) := by decide +kernel
theorem dX10_ballot_59 : decode cX10_ballot 59 = .ok (.iload_n 1, 1) := by decide +kernel
theorem dX10_ballot_60 : decode cX10_ballot 60 = .ok (.if_icmp .gt 9, 3) := by decide +kernel
theorem dX10_ballot_63 : decode cX10_ballot 63 = .ok (.iinc 3 1, 3) := by decide +kernel
theorem dX10_ballot_66 : decode cX10_ballot 66 = .ok (.goto (-25), 3) := by decide +kernel
theorem dX10_ballot_69 : decode cX10_ballot 69 = .ok (.iload_n 2, 1) := by decide +kernel
theorem dX10_ballot_70 : decode cX10_ballot 70 = .ok (.ifCond .ne 7, 3) := by decide +kernel
theorem dX10_ballot_73 : decode cX10_ballot 73 = .ok (.iload_n 3, 1) := by decide +kernel
theorem dX10_ballot_74 : decode cX10_ballot 74 = .ok (.goto 37, 3) := by decide +kernel
theorem dX10_ballot_77 : decode cX10_ballot 77 = .ok (.iload_n 2, 1) := by decide +kernel
theorem dX10_ballot_78 : decode cX10_ballot 78 = .ok (.iconst 1, 1) := by decide +kernel
theorem dX10_ballot_79 : decode cX10_ballot 79 = .ok (.if_icmp .ne 12, 3) := by decide +kernel
theorem dX10_ballot_82 : decode cX10_ballot 82 = .ok (.aload_n 0, 1) := by decide +kernel
theorem dX10_ballot_83 : decode cX10_ballot 83 = .ok (.getfield 26, 3) := by decide +kernel
theorem dX10_ballot_86 : decode cX10_ballot 86 = .ok (.iload_n 1, 1) := by decide +kernel
theorem dX10_ballot_87 : decode cX10_ballot 87 = .ok (.baload, 1) := by decide +kernel
theorem dX10_ballot_88 : decode cX10_ballot 88 = .ok (.goto 23, 3) := by decide +kernel
theorem dX10_ballot_91 : decode cX10_ballot 91 = .ok (.iload_n 2, 1) := by decide +kernel
theorem dX10_ballot_92 : decode cX10_ballot 92 = .ok (.iconst 2, 1) := by decide +kernel
theorem dX10_ballot_93 : decode cX10_ballot 93 = .ok (.if_icmp .ne 12, 3) := by decide +kernel
theorem dX10_ballot_96 : decode cX10_ballot 96 = .ok (.aload_n 0, 1) := by decide +kernel
theorem dX10_ballot_97 : decode cX10_ballot 97 = .ok (.getfield 64, 3) := by decide +kernel
theorem dX10_ballot_100 : decode cX10_ballot 100 = .ok (.iload_n 1, 1) := by decide +kernel
theorem dX10_ballot_101 : decode cX10_ballot 101 = .ok (.baload, 1) := by decide +kernel
theorem dX10_ballot_102 : decode cX10_ballot 102 = .ok (.goto 9, 3) := by decide +kernel
theorem dX10_ballot_105 : decode cX10_ballot 105 = .ok (.aload_n 0, 1) := by decide +kernel
theorem dX10_ballot_106 : decode cX10_ballot 106 = .ok (.getfield 67, 3) := by decide +kernel
theorem dX10_ballot_109 : decode cX10_ballot 109 = .ok (.iload_n 1, 1) := by decide +kernel
theorem dX10_ballot_110 : decode cX10_ballot 110 = .ok (.iaload, 1) := by decide +kernel
theorem dX10_ballot_111 : decode cX10_ballot 111 = .ok (.ireturn, 1) := by decide +kernel
abbrev cX10_digest : ByteArray := prog_13_method_45_code
def yX10_digest : MethodName := ⟨RX10, "digest", "(II)I"⟩
theorem dX10_digest_0 : decode cX10_digest 0 = .ok (.aload_n 0, 1) := by decide +kernel
theorem dX10_digest_1 : decode cX10_digest 1 = .ok (.iload_n 2, 1) := by decide +kernel
theorem dX10_digest_2 : decode cX10_digest 2 = .ok (.ifCond .lt 9, 3) := by decide +kernel
theorem dX10_digest_5 : decode cX10_digest 5 = .ok (.iload_n 2, 1) := by decide +kernel
theorem dX10_digest_6 : decode cX10_digest 6 = .ok (.bipush 31, 2) := by decide +kernel
theorem dX10_digest_8 : decode cX10_digest 8 = .ok (.if_icmp .le 7, 3) := by decide +kernel
theorem dX10_digest_11 : decode cX10_digest 11 = .ok (.iconst 1, 1) := by decide +kernel
theorem dX10_digest_12 : decode cX10_digest 12 = .ok (.goto 13, 3) := by decide +kernel
theorem dX10_digest_15 : decode cX10_digest 15 = .ok (.iload_n 1, 1) := by decide +kernel
theorem dX10_digest_16 : decode cX10_digest 16 = .ok (.iconst 1, 1) := by decide +kernel
theorem dX10_digest_17 : decode cX10_digest 17 = .ok (.if_icmp .ge 7, 3) := by decide +kernel
theorem dX10_digest_20 : decode cX10_digest 20 = .ok (.iconst 2, 1) := by decide +kernel
theorem dX10_digest_21 : decode cX10_digest 21 = .ok (.goto 4, 3) := by decide +kernel
theorem dX10_digest_24 : decode cX10_digest 24 = .ok (.iconst 0, 1) := by decide +kernel
theorem dX10_digest_25 : decode cX10_digest 25 = .ok (.putfield 1, 3) := by decide +kernel
theorem dX10_digest_28 : decode cX10_digest 28 = .ok (.aload_n 0, 1) := by decide +kernel
theorem dX10_digest_29 : decode cX10_digest 29 = .ok (.getfield 1, 3) := by decide +kernel
theorem dX10_digest_32 : decode cX10_digest 32 = .ok (.ifCond .le 5, 3) := by decide +kernel
theorem dX10_digest_35 : decode cX10_digest 35 = .ok (.iconst 0, 1) := by decide +kernel
theorem dX10_digest_36 : decode cX10_digest 36 = .ok (.ireturn, 1) := by decide +kernel
theorem dX10_digest_37 : decode cX10_digest 37 = .ok (.aload_n 0, 1) := by decide +kernel
theorem dX10_digest_38 : decode cX10_digest 38 = .ok (.iload_n 1, 1) := by decide +kernel
theorem dX10_digest_39 : decode cX10_digest 39 = .ok (.invokevirtual 291, 3) := by decide +kernel
theorem dX10_digest_42 : decode cX10_digest 42 = .ok (.aload_n 0, 1) := by decide +kernel
theorem dX10_digest_43 : decode cX10_digest 43 = .ok (.getfield 176, 3) := by decide +kernel
theorem dX10_digest_46 : decode cX10_digest 46 = .ok (.iload_n 2, 1) := by decide +kernel
theorem dX10_digest_47 : decode cX10_digest 47 = .ok (.iaload, 1) := by decide +kernel
theorem dX10_digest_48 : decode cX10_digest 48 = .ok (.ireturn, 1) := by decide +kernel
abbrev cX10_risk : ByteArray := prog_13_method_49_code
def yX10_risk : MethodName := ⟨RX10, "risk", "(IIIII)I"⟩
theorem dX10_risk_0 : decode cX10_risk 0 = .ok (.iload_n 2, 1) := by decide +kernel
theorem dX10_risk_1 : decode cX10_risk 1 = .ok (.ifCond .lt 51, 3) := by decide +kernel
theorem dX10_risk_4 : decode cX10_risk 4 = .ok (.iload_n 2, 1) := by decide +kernel
theorem dX10_risk_5 : decode cX10_risk 5 = .ok (.bipush 30, 2) := by decide +kernel
theorem dX10_risk_7 : decode cX10_risk 7 = .ok (.if_icmp .gt 45, 3) := by decide +kernel
theorem dX10_risk_10 : decode cX10_risk 10 = .ok (.iload 5, 2) := by decide +kernel
theorem dX10_risk_12 : decode cX10_risk 12 = .ok (.iconst 1, 1) := by decide +kernel
theorem dX10_risk_13 : decode cX10_risk 13 = .ok (.if_icmp .lt 39, 3) := by decide +kernel
theorem dX10_risk_16 : decode cX10_risk 16 = .ok (.iload 5, 2) := by decide +kernel
theorem dX10_risk_18 : decode cX10_risk 18 = .ok (.sipush 20000, 3) := by decide +kernel
theorem dX10_risk_21 : decode cX10_risk 21 = .ok (.if_icmp .gt 31, 3) := by decide +kernel
theorem dX10_risk_24 : decode cX10_risk 24 = .ok (.iload_n 3, 1) := by decide +kernel
theorem dX10_risk_25 : decode cX10_risk 25 = .ok (.ifCond .lt 27, 3) := by decide +kernel
theorem dX10_risk_28 : decode cX10_risk 28 = .ok (.iload 4, 2) := by decide +kernel
theorem dX10_risk_30 : decode cX10_risk 30 = .ok (.ifCond .lt 22, 3) := by decide +kernel
theorem dX10_risk_33 : decode cX10_risk 33 = .ok (.iload_n 3, 1) := by decide +kernel
theorem dX10_risk_34 : decode cX10_risk 34 = .ok (.iload 5, 2) := by decide +kernel
theorem dX10_risk_36 : decode cX10_risk 36 = .ok (.if_icmp .gt 16, 3) := by decide +kernel
theorem dX10_risk_39 : decode cX10_risk 39 = .ok (.iload 4, 2) := by decide +kernel
theorem dX10_risk_41 : decode cX10_risk 41 = .ok (.iload 5, 2) := by decide +kernel
theorem dX10_risk_43 : decode cX10_risk 43 = .ok (.iload_n 3, 1) := by decide +kernel
theorem dX10_risk_44 : decode cX10_risk 44 = .ok (.isub, 1) := by decide +kernel
theorem dX10_risk_45 : decode cX10_risk 45 = .ok (.if_icmp .gt 7, 3) := by decide +kernel
theorem dX10_risk_48 : decode cX10_risk 48 = .ok (.iconst 1, 1) := by decide +kernel
theorem dX10_risk_49 : decode cX10_risk 49 = .ok (.goto 4, 3) := by decide +kernel
theorem dX10_risk_52 : decode cX10_risk 52 = .ok (.iconst 0, 1) := by decide +kernel
theorem dX10_risk_53 : decode cX10_risk 53 = .ok (.istore 6, 2) := by decide +kernel
theorem dX10_risk_55 : decode cX10_risk 55 = .ok (.aload_n 0, 1) := by decide +kernel
theorem dX10_risk_56 : decode cX10_risk 56 = .ok (.aload_n 0, 1) := by decide +kernel
theorem dX10_risk_57 : decode cX10_risk 57 = .ok (.getfield 231, 3) := by decide +kernel
theorem dX10_risk_60 : decode cX10_risk 60 = .ok (.ifCond .ne 7, 3) := by decide +kernel
theorem dX10_risk_63 : decode cX10_risk 63 = .ok (.iconst 1, 1) := by decide +kernel
theorem dX10_risk_64 : decode cX10_risk 64 = .ok (.goto 29, 3) := by decide +kernel
theorem dX10_risk_67 : decode cX10_risk 67 = .ok (.iload_n 1, 1) := by decide +kernel
theorem dX10_risk_68 : decode cX10_risk 68 = .ok (.ifCond .lt 11, 3) := by decide +kernel
theorem dX10_risk_71 : decode cX10_risk 71 = .ok (.iload_n 1, 1) := by decide +kernel
theorem dX10_risk_72 : decode cX10_risk 72 = .ok (.aload_n 0, 1) := by decide +kernel
theorem dX10_risk_73 : decode cX10_risk 73 = .ok (.getfield 250, 3) := by decide +kernel
theorem dX10_risk_76 : decode cX10_risk 76 = .ok (.if_icmp .lt 7, 3) := by decide +kernel
theorem dX10_risk_79 : decode cX10_risk 79 = .ok (.iconst 2, 1) := by decide +kernel
theorem dX10_risk_80 : decode cX10_risk 80 = .ok (.goto 13, 3) := by decide +kernel
theorem dX10_risk_83 : decode cX10_risk 83 = .ok (.iload 6, 2) := by decide +kernel
theorem dX10_risk_85 : decode cX10_risk 85 = .ok (.ifCond .ne 7, 3) := by decide +kernel
theorem dX10_risk_88 : decode cX10_risk 88 = .ok (.iconst 3, 1) := by decide +kernel
theorem dX10_risk_89 : decode cX10_risk 89 = .ok (.goto 4, 3) := by decide +kernel
theorem dX10_risk_92 : decode cX10_risk 92 = .ok (.iconst 0, 1) := by decide +kernel
theorem dX10_risk_93 : decode cX10_risk 93 = .ok (.putfield 1, 3) := by decide +kernel
theorem dX10_risk_96 : decode cX10_risk 96 = .ok (.aload_n 0, 1) := by decide +kernel
theorem dX10_risk_97 : decode cX10_risk 97 = .ok (.getfield 1, 3) := by decide +kernel
theorem dX10_risk_100 : decode cX10_risk 100 = .ok (.ifCond .le 5, 3) := by decide +kernel
theorem dX10_risk_103 : decode cX10_risk 103 = .ok (.iconst 0, 1) := by decide +kernel
theorem dX10_risk_104 : decode cX10_risk 104 = .ok (.ireturn, 1) := by decide +kernel
theorem dX10_risk_105 : decode cX10_risk 105 = .ok (.iconst 0, 1) := by decide +kernel
theorem dX10_risk_106 : decode cX10_risk 106 = .ok (.istore 7, 2) := by decide +kernel
theorem dX10_risk_108 : decode cX10_risk 108 = .ok (.iload 7, 2) := by decide +kernel
theorem dX10_risk_110 : decode cX10_risk 110 = .ok (.iload_n 2, 1) := by decide +kernel
theorem dX10_risk_111 : decode cX10_risk 111 = .ok (.if_icmp .gt 49, 3) := by decide +kernel
theorem dX10_risk_114 : decode cX10_risk 114 = .ok (.iconst 0, 1) := by decide +kernel
theorem dX10_risk_115 : decode cX10_risk 115 = .ok (.istore 8, 2) := by decide +kernel
theorem dX10_risk_117 : decode cX10_risk 117 = .ok (.iload 7, 2) := by decide +kernel
theorem dX10_risk_119 : decode cX10_risk 119 = .ok (.iload 8, 2) := by decide +kernel
theorem dX10_risk_121 : decode cX10_risk 121 = .ok (.iadd, 1) := by decide +kernel
theorem dX10_risk_122 : decode cX10_risk 122 = .ok (.iload_n 2, 1) := by decide +kernel
theorem dX10_risk_123 : decode cX10_risk 123 = .ok (.if_icmp .gt 31, 3) := by decide +kernel
theorem dX10_risk_126 : decode cX10_risk 126 = .ok (.aload_n 0, 1) := by decide +kernel
theorem dX10_risk_127 : decode cX10_risk 127 = .ok (.getfield 179, 3) := by decide +kernel
theorem dX10_risk_130 : decode cX10_risk 130 = .ok (.bipush 31, 2) := by decide +kernel
theorem dX10_risk_132 : decode cX10_risk 132 = .ok (.iload 7, 2) := by decide +kernel
theorem dX10_risk_134 : decode cX10_risk 134 = .ok (.imul, 1) := by decide +kernel
theorem dX10_risk_135 : decode cX10_risk 135 = .ok (.iload 8, 2) := by decide +kernel
theorem dX10_risk_137 : decode cX10_risk 137 = .ok (.iadd, 1) := by decide +kernel
theorem dX10_risk_138 : decode cX10_risk 138 = .ok (.aload_n 0, 1) := by decide +kernel
theorem dX10_risk_139 : decode cX10_risk 139 = .ok (.iload_n 1, 1) := by decide +kernel
theorem dX10_risk_140 : decode cX10_risk 140 = .ok (.iload 7, 2) := by decide +kernel
theorem dX10_risk_142 : decode cX10_risk 142 = .ok (.iload 8, 2) := by decide +kernel
theorem dX10_risk_144 : decode cX10_risk 144 = .ok (.invokevirtual 321, 3) := by decide +kernel
theorem dX10_risk_147 : decode cX10_risk 147 = .ok (.bastore, 1) := by decide +kernel
theorem dX10_risk_148 : decode cX10_risk 148 = .ok (.iinc 8 1, 3) := by decide +kernel
theorem dX10_risk_151 : decode cX10_risk 151 = .ok (.goto (-34), 3) := by decide +kernel
theorem dX10_risk_154 : decode cX10_risk 154 = .ok (.iinc 7 1, 3) := by decide +kernel
