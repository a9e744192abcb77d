set_option maxRecDepth 100000
theorem dX10_add_93 : decode cX10_add 93 = .ok (.sipush 1200, 3) := by decide +kernel
theorem dX10_add_96 : decode cX10_add 96 = .ok (.iload_n 2, 1) := by decide +kernel
theorem dX10_add_97 : decode cX10_add 97 = .ok (.imul, 1) := by decide +kernel
theorem dX10_add_98 : decode cX10_add 98 = .ok (.iload 5, 2) := by decide +kernel
theorem dX10_add_100 : decode cX10_add 100 = .ok (.iadd, 1) := by decide +kernel
theorem dX10_add_101 : decode cX10_add 101 = .ok (.iaload, 1) := by decide +kernel
theorem dX10_add_102 : decode cX10_add 102 = .ok (.goto 4, 3) := by decide +kernel
theorem dX10_add_105 : decode cX10_add 105 = .ok (.iconst 0, 1) := by decide +kernel
theorem dX10_add_106 : decode cX10_add 106 = .ok (.iadd, 1) := by decide +kernel
theorem dX10_add_107 : decode cX10_add 107 = .ok (.istore 6, 2) := by decide +kernel
theorem dX10_add_109 : decode cX10_add 109 = .ok (.aload_n 0, 1) := by decide +kernel
theorem dX10_add_110 : decode cX10_add 110 = .ok (.getfield 76, 3) := by decide +kernel
theorem dX10_add_113 : decode cX10_add 113 = .ok (.sipush 1200, 3) := by decide +kernel
theorem dX10_add_116 : decode cX10_add 116 = .ok (.iload_n 1, 1) := by decide +kernel
theorem dX10_add_117 : decode cX10_add 117 = .ok (.imul, 1) := by decide +kernel
theorem dX10_add_118 : decode cX10_add 118 = .ok (.iload 5, 2) := by decide +kernel
theorem dX10_add_120 : decode cX10_add 120 = .ok (.iadd, 1) := by decide +kernel
theorem dX10_add_121 : decode cX10_add 121 = .ok (.iload 6, 2) := by decide +kernel
theorem dX10_add_123 : decode cX10_add 123 = .ok (.ldc 194, 2) := by decide +kernel
theorem dX10_add_125 : decode cX10_add 125 = .ok (.iand, 1) := by decide +kernel
theorem dX10_add_126 : decode cX10_add 126 = .ok (.iastore, 1) := by decide +kernel
theorem dX10_add_127 : decode cX10_add 127 = .ok (.iload 6, 2) := by decide +kernel
theorem dX10_add_129 : decode cX10_add 129 = .ok (.bipush 16, 2) := by decide +kernel
theorem dX10_add_131 : decode cX10_add 131 = .ok (.ishr, 1) := by decide +kernel
theorem dX10_add_132 : decode cX10_add 132 = .ok (.istore_n 3, 1) := by decide +kernel
theorem dX10_add_133 : decode cX10_add 133 = .ok (.iload 5, 2) := by decide +kernel
theorem dX10_add_135 : decode cX10_add 135 = .ok (.iconst 1, 1) := by decide +kernel
theorem dX10_add_136 : decode cX10_add 136 = .ok (.iadd, 1) := by decide +kernel
theorem dX10_add_137 : decode cX10_add 137 = .ok (.iload 4, 2) := by decide +kernel
theorem dX10_add_139 : decode cX10_add 139 = .ok (.if_icmp .le 10, 3) := by decide +kernel
theorem dX10_add_142 : decode cX10_add 142 = .ok (.iload 5, 2) := by decide +kernel
theorem dX10_add_144 : decode cX10_add 144 = .ok (.iconst 1, 1) := by decide +kernel
theorem dX10_add_145 : decode cX10_add 145 = .ok (.iadd, 1) := by decide +kernel
theorem dX10_add_146 : decode cX10_add 146 = .ok (.goto 5, 3) := by decide +kernel
theorem dX10_add_149 : decode cX10_add 149 = .ok (.iload 4, 2) := by decide +kernel
theorem dX10_add_151 : decode cX10_add 151 = .ok (.istore 4, 2) := by decide +kernel
theorem dX10_add_153 : decode cX10_add 153 = .ok (.iinc 5 1, 3) := by decide +kernel
theorem dX10_add_156 : decode cX10_add 156 = .ok (.goto (-119), 3) := by decide +kernel
theorem dX10_add_159 : decode cX10_add 159 = .ok (.aload_n 0, 1) := by decide +kernel
theorem dX10_add_160 : decode cX10_add 160 = .ok (.getfield 79, 3) := by decide +kernel
theorem dX10_add_163 : decode cX10_add 163 = .ok (.iload_n 1, 1) := by decide +kernel
theorem dX10_add_164 : decode cX10_add 164 = .ok (.iload 4, 2) := by decide +kernel
theorem dX10_add_166 : decode cX10_add 166 = .ok (.iastore, 1) := by decide +kernel
theorem dX10_add_167 : decode cX10_add 167 = .ok (.aload_n 0, 1) := by decide +kernel
theorem dX10_add_168 : decode cX10_add 168 = .ok (.iload_n 1, 1) := by decide +kernel
theorem dX10_add_169 : decode cX10_add 169 = .ok (.invokevirtual 188, 3) := by decide +kernel
theorem dX10_add_172 : decode cX10_add 172 = .ok (.return_, 1) := by decide +kernel
abbrev cX10_lowest : ByteArray := prog_13_method_15_code
def yX10_lowest : MethodName := ⟨RX10, "lowest", "()V"⟩
theorem dX10_lowest_0 : decode cX10_lowest 0 = .ok (.aload_n 0, 1) := by decide +kernel
theorem dX10_lowest_1 : decode cX10_lowest 1 = .ok (.getfield 79, 3) := by decide +kernel
theorem dX10_lowest_4 : decode cX10_lowest 4 = .ok (.iconst 0, 1) := by decide +kernel
theorem dX10_lowest_5 : decode cX10_lowest 5 = .ok (.iaload, 1) := by decide +kernel
theorem dX10_lowest_6 : decode cX10_lowest 6 = .ok (.ifCond .ne 10, 3) := by decide +kernel
theorem dX10_lowest_9 : decode cX10_lowest 9 = .ok (.aload_n 0, 1) := by decide +kernel
theorem dX10_lowest_10 : decode cX10_lowest 10 = .ok (.iconst 1, 1) := by decide +kernel
theorem dX10_lowest_11 : decode cX10_lowest 11 = .ok (.lconst 1, 1) := by decide +kernel
theorem dX10_lowest_12 : decode cX10_lowest 12 = .ok (.invokevirtual 182, 3) := by decide +kernel
theorem dX10_lowest_15 : decode cX10_lowest 15 = .ok (.return_, 1) := by decide +kernel
theorem dX10_lowest_16 : decode cX10_lowest 16 = .ok (.aload_n 0, 1) := by decide +kernel
theorem dX10_lowest_17 : decode cX10_lowest 17 = .ok (.invokevirtual 214, 3) := by decide +kernel
theorem dX10_lowest_20 : decode cX10_lowest 20 = .ok (.aload_n 0, 1) := by decide +kernel
theorem dX10_lowest_21 : decode cX10_lowest 21 = .ok (.bipush 8, 2) := by decide +kernel
theorem dX10_lowest_23 : decode cX10_lowest 23 = .ok (.iconst 4, 1) := by decide +kernel
theorem dX10_lowest_24 : decode cX10_lowest 24 = .ok (.invokevirtual 195, 3) := by decide +kernel
theorem dX10_lowest_27 : decode cX10_lowest 27 = .ok (.aload_n 0, 1) := by decide +kernel
theorem dX10_lowest_28 : decode cX10_lowest 28 = .ok (.iconst 0, 1) := by decide +kernel
theorem dX10_lowest_29 : decode cX10_lowest 29 = .ok (.bipush 8, 2) := by decide +kernel
theorem dX10_lowest_31 : decode cX10_lowest 31 = .ok (.invokevirtual 217, 3) := by decide +kernel
theorem dX10_lowest_34 : decode cX10_lowest 34 = .ok (.aload_n 0, 1) := by decide +kernel
theorem dX10_lowest_35 : decode cX10_lowest 35 = .ok (.iconst 1, 1) := by decide +kernel
theorem dX10_lowest_36 : decode cX10_lowest 36 = .ok (.bipush 8, 2) := by decide +kernel
theorem dX10_lowest_38 : decode cX10_lowest 38 = .ok (.invokevirtual 217, 3) := by decide +kernel
theorem dX10_lowest_41 : decode cX10_lowest 41 = .ok (.return_, 1) := by decide +kernel
abbrev cX10_common : ByteArray := prog_13_method_13_code
def yX10_common : MethodName := ⟨RX10, "common", "()V"⟩
theorem dX10_common_0 : decode cX10_common 0 = .ok (.aload_n 0, 1) := by decide +kernel
theorem dX10_common_1 : decode cX10_common 1 = .ok (.iconst 4, 1) := by decide +kernel
theorem dX10_common_2 : decode cX10_common 2 = .ok (.iconst 0, 1) := by decide +kernel
theorem dX10_common_3 : decode cX10_common 3 = .ok (.invokevirtual 195, 3) := by decide +kernel
theorem dX10_common_6 : decode cX10_common 6 = .ok (.aload_n 0, 1) := by decide +kernel
theorem dX10_common_7 : decode cX10_common 7 = .ok (.iconst 5, 1) := by decide +kernel
theorem dX10_common_8 : decode cX10_common 8 = .ok (.iconst 1, 1) := by decide +kernel
theorem dX10_common_9 : decode cX10_common 9 = .ok (.invokevirtual 195, 3) := by decide +kernel
theorem dX10_common_12 : decode cX10_common 12 = .ok (.aload_n 0, 1) := by decide +kernel
theorem dX10_common_13 : decode cX10_common 13 = .ok (.iconst 4, 1) := by decide +kernel
theorem dX10_common_14 : decode cX10_common 14 = .ok (.invokevirtual 199, 3) := by decide +kernel
theorem dX10_common_17 : decode cX10_common 17 = .ok (.istore_n 1, 1) := by decide +kernel
theorem dX10_common_18 : decode cX10_common 18 = .ok (.aload_n 0, 1) := by decide +kernel
theorem dX10_common_19 : decode cX10_common 19 = .ok (.iconst 5, 1) := by decide +kernel
theorem dX10_common_20 : decode cX10_common 20 = .ok (.invokevirtual 199, 3) := by decide +kernel
theorem dX10_common_23 : decode cX10_common 23 = .ok (.istore_n 2, 1) := by decide +kernel
theorem dX10_common_24 : decode cX10_common 24 = .ok (.aload_n 0, 1) := by decide +kernel
theorem dX10_common_25 : decode cX10_common 25 = .ok (.getfield 79, 3) := by decide +kernel
theorem dX10_common_28 : decode cX10_common 28 = .ok (.iconst 5, 1) := by decide +kernel
theorem dX10_common_29 : decode cX10_common 29 = .ok (.iaload, 1) := by decide +kernel
theorem dX10_common_30 : decode cX10_common 30 = .ok (.ifCond .le 46, 3) := by decide +kernel
theorem dX10_common_33 : decode cX10_common 33 = .ok (.aload_n 0, 1) := by decide +kernel
theorem dX10_common_34 : decode cX10_common 34 = .ok (.iconst 4, 1) := by decide +kernel
theorem dX10_common_35 : decode cX10_common 35 = .ok (.iconst 5, 1) := by decide +kernel
theorem dX10_common_36 : decode cX10_common 36 = .ok (.invokevirtual 203, 3) := by decide +kernel
theorem dX10_common_39 : decode cX10_common 39 = .ok (.istore_n 3, 1) := by decide +kernel
theorem dX10_common_40 : decode cX10_common 40 = .ok (.iload_n 3, 1) := by decide +kernel
theorem dX10_common_41 : decode cX10_common 41 = .ok (.ifCond .le 19, 3) := by decide +kernel
theorem dX10_common_44 : decode cX10_common 44 = .ok (.aload_n 0, 1) := by decide +kernel
theorem dX10_common_45 : decode cX10_common 45 = .ok (.iconst 4, 1) := by decide +kernel
theorem dX10_common_46 : decode cX10_common 46 = .ok (.iconst 5, 1) := by decide +kernel
theorem dX10_common_47 : decode cX10_common 47 = .ok (.invokevirtual 207, 3) := by decide +kernel
theorem dX10_common_50 : decode cX10_common 50 = .ok (.aload_n 0, 1) := by decide +kernel
theorem dX10_common_51 : decode cX10_common 51 = .ok (.iconst 4, 1) := by decide +kernel
theorem dX10_common_52 : decode cX10_common 52 = .ok (.invokevirtual 199, 3) := by decide +kernel
theorem dX10_common_55 : decode cX10_common 55 = .ok (.istore 4, 2) := by decide +kernel
theorem dX10_common_57 : decode cX10_common 57 = .ok (.goto 16, 3) := by decide +kernel
theorem dX10_common_60 : decode cX10_common 60 = .ok (.aload_n 0, 1) := by decide +kernel
theorem dX10_common_61 : decode cX10_common 61 = .ok (.iconst 5, 1) := by decide +kernel
theorem dX10_common_62 : decode cX10_common 62 = .ok (.iconst 4, 1) := by decide +kernel
theorem dX10_common_63 : decode cX10_common 63 = .ok (.invokevirtual 207, 3) := by decide +kernel
theorem dX10_common_66 : decode cX10_common 66 = .ok (.aload_n 0, 1) := by decide +kernel
theorem dX10_common_67 : decode cX10_common 67 = .ok (.iconst 5, 1) := by decide +kernel
theorem dX10_common_68 : decode cX10_common 68 = .ok (.invokevirtual 199, 3) := by decide +kernel
theorem dX10_common_71 : decode cX10_common 71 = .ok (.istore 4, 2) := by decide +kernel
theorem dX10_common_73 : decode cX10_common 73 = .ok (.goto (-49), 3) := by decide +kernel
theorem dX10_common_76 : decode cX10_common 76 = .ok (.aload_n 0, 1) := by decide +kernel
theorem dX10_common_77 : decode cX10_common 77 = .ok (.iconst 4, 1) := by decide +kernel
theorem dX10_common_78 : decode cX10_common 78 = .ok (.iload_n 1, 1) := by decide +kernel
theorem dX10_common_79 : decode cX10_common 79 = .ok (.iload_n 2, 1) := by decide +kernel
theorem dX10_common_80 : decode cX10_common 80 = .ok (.if_icmp .ge 7, 3) := by decide +kernel
theorem dX10_common_83 : decode cX10_common 83 = .ok (.iload_n 1, 1) := by decide +kernel
theorem dX10_common_84 : decode cX10_common 84 = .ok (.goto 4, 3) := by decide +kernel
theorem dX10_common_87 : decode cX10_common 87 = .ok (.iload_n 2, 1) := by decide +kernel
theorem dX10_common_88 : decode cX10_common 88 = .ok (.invokevirtual 210, 3) := by decide +kernel
theorem dX10_common_91 : decode cX10_common 91 = .ok (.return_, 1) := by decide +kernel
abbrev cX10_halve : ByteArray := prog_13_method_11_code
def yX10_halve : MethodName := ⟨RX10, "halve", "(I)I"⟩
theorem dX10_halve_0 : decode cX10_halve 0 = .ok (.iconst 0, 1) := by decide +kernel
theorem dX10_halve_1 : decode cX10_halve 1 = .ok (.istore_n 2, 1) := by decide +kernel
theorem dX10_halve_2 : decode cX10_halve 2 = .ok (.iload_n 2, 1) := by decide +kernel
theorem dX10_halve_3 : decode cX10_halve 3 = .ok (.aload_n 0, 1) := by decide +kernel
theorem dX10_halve_4 : decode cX10_halve 4 = .ok (.getfield 79, 3) := by decide +kernel
theorem dX10_halve_7 : decode cX10_halve 7 = .ok (.iload_n 1, 1) := by decide +kernel
theorem dX10_halve_8 : decode cX10_halve 8 = .ok (.iaload, 1) := by decide +kernel
theorem dX10_halve_9 : decode cX10_halve 9 = .ok (.if_icmp .ge 24, 3) := by decide +kernel
theorem dX10_halve_12 : decode cX10_halve 12 = .ok (.aload_n 0, 1) := by decide +kernel
theorem dX10_halve_13 : decode cX10_halve 13 = .ok (.getfield 76, 3) := by decide +kernel
theorem dX10_halve_16 : decode cX10_halve 16 = .ok (.sipush 1200, 3) := by decide +kernel
theorem dX10_halve_19 : decode cX10_halve 19 = .ok (.iload_n 1, 1) := by decide +kernel
theorem dX10_halve_20 : decode cX10_halve 20 = .ok (.imul, 1) := by decide +kernel
theorem dX10_halve_21 : decode cX10_halve 21 = .ok (.iload_n 2, 1) := by decide +kernel
theorem dX10_halve_22 : decode cX10_halve 22 = .ok (.iadd, 1) := by decide +kernel
theorem dX10_halve_23 : decode cX10_halve 23 = .ok (.iaload, 1) := by decide +kernel
theorem dX10_halve_24 : decode cX10_halve 24 = .ok (.ifCond .ne 9, 3) := by decide +kernel
theorem dX10_halve_27 : decode cX10_halve 27 = .ok (.iinc 2 1, 3) := by decide +kernel
theorem dX10_halve_30 : decode cX10_halve 30 = .ok (.goto (-28), 3) := by decide +kernel
theorem dX10_halve_33 : decode cX10_halve 33 = .ok (.aload_n 0, 1) := by decide +kernel
theorem dX10_halve_34 : decode cX10_halve 34 = .ok (.getfield 79, 3) := by decide +kernel
theorem dX10_halve_37 : decode cX10_halve 37 = .ok (.iload_n 1, 1) := by decide +kernel
theorem dX10_halve_38 : decode cX10_halve 38 = .ok (.iaload, 1) := by decide +kernel
theorem dX10_halve_39 : decode cX10_halve 39 = .ok (.ifCond .ne 5, 3) := by decide +kernel
theorem dX10_halve_42 : decode cX10_halve 42 = .ok (.iconst 0, 1) := by decide +kernel
theorem dX10_halve_43 : decode cX10_halve 43 = .ok (.ireturn, 1) := by decide +kernel
theorem dX10_halve_44 : decode cX10_halve 44 = .ok (.iconst 0, 1) := by decide +kernel
theorem dX10_halve_45 : decode cX10_halve 45 = .ok (.istore_n 3, 1) := by decide +kernel
theorem dX10_halve_46 : decode cX10_halve 46 = .ok (.aload_n 0, 1) := by decide +kernel
theorem dX10_halve_47 : decode cX10_halve 47 = .ok (.getfield 76, 3) := by decide +kernel
theorem dX10_halve_50 : decode cX10_halve 50 = .ok (.sipush 1200, 3) := by decide +kernel
theorem dX10_halve_53 : decode cX10_halve 53 = .ok (.iload_n 1, 1) := by decide +kernel
theorem dX10_halve_54 : decode cX10_halve 54 = .ok (.imul, 1) := by decide +kernel
theorem dX10_halve_55 : decode cX10_halve 55 = .ok (.iload_n 2, 1) := by decide +kernel
theorem dX10_halve_56 : decode cX10_halve 56 = .ok (.iadd, 1) := by decide +kernel
theorem dX10_halve_57 : decode cX10_halve 57 = .ok (.iaload, 1) := by decide +kernel
theorem dX10_halve_58 : decode cX10_halve 58 = .ok (.iload_n 3, 1) := by decide +kernel
theorem dX10_halve_59 : decode cX10_halve 59 = .ok (.ishr, 1) := by decide +kernel
theorem dX10_halve_60 : decode cX10_halve 60 = .ok (.iconst 1, 1) := by decide +kernel
theorem dX10_halve_61 : decode cX10_halve 61 = .ok (.iand, 1) := by decide +kernel
theorem dX10_halve_62 : decode cX10_halve 62 = .ok (.ifCond .ne 9, 3) := by decide +kernel
theorem dX10_halve_65 : decode cX10_halve 65 = .ok (.iinc 3 1, 3) := by decide +kernel
theorem dX10_halve_68 : decode cX10_halve 68 = .ok (.goto (-22), 3) := by decide +kernel
theorem dX10_halve_71 : decode cX10_halve 71 = .ok (.aload_n 0, 1) := by decide +kernel
theorem dX10_halve_72 : decode cX10_halve 72 = .ok (.getfield 79, 3) := by decide +kernel
theorem dX10_halve_75 : decode cX10_halve 75 = .ok (.iload_n 1, 1) := by decide +kernel
theorem dX10_halve_76 : decode cX10_halve 76 = .ok (.iaload, 1) := by decide +kernel
theorem dX10_halve_77 : decode cX10_halve 77 = .ok (.iload_n 2, 1) := by decide +kernel
theorem dX10_halve_78 : decode cX10_halve 78 = .ok (.isub, 1) := by decide +kernel
theorem dX10_halve_79 : decode cX10_halve 79 = .ok (.istore 4, 2) := by decide +kernel
theorem dX10_halve_81 : decode cX10_halve 81 = .ok (.iconst 0, 1) := by decide +kernel
theorem dX10_halve_82 : decode cX10_halve 82 = .ok (.istore 5, 2) := by decide +kernel
theorem dX10_halve_84 : decode cX10_halve 84 = .ok (.iload 5, 2) := by decide +kernel
theorem dX10_halve_86 : decode cX10_halve 86 = .ok (.iload 4, 2) := by decide +kernel
theorem dX10_halve_88 : decode cX10_halve 88 = .ok (.if_icmp .ge 80, 3) := by decide +kernel
theorem dX10_halve_91 : decode cX10_halve 91 = .ok (.aload_n 0, 1) := by decide +kernel
theorem dX10_halve_92 : decode cX10_halve 92 = .ok (.getfield 76, 3) := by decide +kernel
theorem dX10_halve_95 : decode cX10_halve 95 = .ok (.sipush 1200, 3) := by decide +kernel
theorem dX10_halve_98 : decode cX10_halve 98 = .ok (.iload_n 1, 1) := by decide +kernel
theorem dX10_halve_99 : decode cX10_halve 99 = .ok (.imul, 1) := by decide +kernel
theorem dX10_halve_100 : decode cX10_halve 100 = .ok (.iload_n 2, 1) := by decide +kernel
theorem dX10_halve_101 : decode cX10_halve 101 = .ok (.iadd, 1) := by decide +kernel
theorem dX10_halve_102 : decode cX10_halve 102 = .ok (.iload 5, 2) := by decide +kernel
theorem dX10_halve_104 : decode cX10_halve 104 = .ok (.iadd, 1) := by decide +kernel
theorem dX10_halve_105 : decode cX10_halve 105 = .ok (.iaload, 1) := by decide +kernel
theorem dX10_halve_106 : decode cX10_halve 106 = .ok (.iload 5, 2) := by decide +kernel
theorem dX10_halve_108 : decode cX10_halve 108 = .ok (.iconst 1, 1) := by decide +kernel
theorem dX10_halve_109 : decode cX10_halve 109 = .ok (.iadd, 1) := by decide +kernel
theorem dX10_halve_110 : decode cX10_halve 110 = .ok (.iload 4, 2) := by decide +kernel
theorem dX10_halve_112 : decode cX10_halve 112 = .ok (.if_icmp .ge 26, 3) := by decide +kernel
theorem dX10_halve_115 : decode cX10_halve 115 = .ok (.aload_n 0, 1) := by decide +kernel
theorem dX10_halve_116 : decode cX10_halve 116 = .ok (.getfield 76, 3) := by decide +kernel
theorem dX10_halve_119 : decode cX10_halve 119 = .ok (.sipush 1200, 3) := by decide +kernel
theorem dX10_halve_122 : decode cX10_halve 122 = .ok (.iload_n 1, 1) := by decide +kernel
theorem dX10_halve_123 : decode cX10_halve 123 = .ok (.imul, 1) := by decide +kernel
theorem dX10_halve_124 : decode cX10_halve 124 = .ok (.iload_n 2, 1) := by decide +kernel
theorem dX10_halve_125 : decode cX10_halve 125 = .ok (.iadd, 1) := by decide +kernel
theorem dX10_halve_126 : decode cX10_halve 126 = .ok (.iload 5, 2) := by decide +kernel
theorem dX10_halve_128 : decode cX10_halve 128 = .ok (.iadd, 1) := by decide +kernel
theorem dX10_halve_129 : decode cX10_halve 129 = .ok (.iconst 1, 1) := by decide +kernel
theorem dX10_halve_130 : decode cX10_halve 130 = .ok (.iadd, 1) := by decide +kernel
theorem dX10_halve_131 : decode cX10_halve 131 = .ok (.iaload, 1) := by decide +kernel
theorem dX10_halve_132 : decode cX10_halve 132 = .ok (.bipush 16, 2) := by decide +kernel
theorem dX10_halve_134 : decode cX10_halve 134 = .ok (.ishl, 1) := by decide +kernel
theorem dX10_halve_135 : decode cX10_halve 135 = .ok (.goto 4, 3) := by decide +kernel
theorem dX10_halve_138 : decode cX10_halve 138 = .ok (.iconst 0, 1) := by decide +kernel
theorem dX10_halve_139 : decode cX10_halve 139 = .ok (.ior, 1) := by decide +kernel
theorem dX10_halve_140 : decode cX10_halve 140 = .ok (.istore 6, 2) := by decide +kernel
theorem dX10_halve_142 : decode cX10_halve 142 = .ok (.aload_n 0, 1) := by decide +kernel
theorem dX10_halve_143 : decode cX10_halve 143 = .ok (.getfield 76, 3) := by decide +kernel
theorem dX10_halve_146 : decode cX10_halve 146 = .ok (.sipush 1200, 3) := by decide +kernel
theorem dX10_halve_149 : decode cX10_halve 149 = .ok (.iload_n 1, 1) := by decide +kernel
theorem dX10_halve_150 : decode cX10_halve 150 = .ok (.imul, 1) := by decide +kernel
theorem dX10_halve_151 : decode cX10_halve 151 = .ok (.iload 5, 2) := by decide +kernel
theorem dX10_halve_153 : decode cX10_halve 153 = .ok (.iadd, 1) := by decide +kernel
theorem dX10_halve_154 : decode cX10_halve 154 = .ok (.iload 6, 2) := by decide +kernel
theorem dX10_halve_156 : decode cX10_halve 156 = .ok (.iload_n 3, 1) := by decide +kernel
theorem dX10_halve_157 : decode cX10_halve 157 = .ok (.iushr, 1) := by decide +kernel
theorem dX10_halve_158 : decode cX10_halve 158 = .ok (.ldc 194, 2) := by decide +kernel
theorem dX10_halve_160 : decode cX10_halve 160 = .ok (.iand, 1) := by decide +kernel
theorem dX10_halve_161 : decode cX10_halve 161 = .ok (.iastore, 1) := by decide +kernel
theorem dX10_halve_162 : decode cX10_halve 162 = .ok (.iinc 5 1, 3) := by decide +kernel
theorem dX10_halve_165 : decode cX10_halve 165 = .ok (.goto (-81), 3) := by decide +kernel
theorem dX10_halve_168 : decode cX10_halve 168 = .ok (.aload_n 0, 1) := by decide +kernel
theorem dX10_halve_169 : decode cX10_halve 169 = .ok (.getfield 79, 3) := by decide +kernel
theorem dX10_halve_172 : decode cX10_halve 172 = .ok (.iload_n 1, 1) := by decide +kernel
theorem dX10_halve_173 : decode cX10_halve 173 = .ok (.iload 4, 2) := by decide +kernel
theorem dX10_halve_175 : decode cX10_halve 175 = .ok (.iastore, 1) := by decide +kernel
theorem dX10_halve_176 : decode cX10_halve 176 = .ok (.aload_n 0, 1) := by decide +kernel
theorem dX10_halve_177 : decode cX10_halve 177 = .ok (.iload_n 1, 1) := by decide +kernel
theorem dX10_halve_178 : decode cX10_halve 178 = .ok (.invokevirtual 188, 3) := by decide +kernel
theorem dX10_halve_181 : decode cX10_halve 181 = .ok (.bipush 16, 2) := by decide +kernel
theorem dX10_halve_183 : decode cX10_halve 183 = .ok (.iload_n 2, 1) := by decide +kernel
theorem dX10_halve_184 : decode cX10_halve 184 = .ok (.imul, 1) := by decide +kernel
theorem dX10_halve_185 : decode cX10_halve 185 = .ok (.iload_n 3, 1) := by decide +kernel
theorem dX10_halve_186 : decode cX10_halve 186 = .ok (.iadd, 1) := by decide +kernel
theorem dX10_halve_187 : decode cX10_halve 187 = .ok (.ireturn, 1) := by decide +kernel
abbrev cX10_less : ByteArray := prog_13_method_10_code
def yX10_less : MethodName := ⟨RX10, "less", "(II)V"⟩
theorem dX10_less_0 : decode cX10_less 0 = .ok (.iconst 0, 1) := by decide +kernel
theorem dX10_less_1 : decode cX10_less 1 = .ok (.istore_n 3, 1) := by decide +kernel
theorem dX10_less_2 : decode cX10_less 2 = .ok (.iconst 0, 1) := by decide +kernel
theorem dX10_less_3 : decode cX10_less 3 = .ok (.istore 4, 2) := by decide +kernel
theorem dX10_less_5 : decode cX10_less 5 = .ok (.iload 4, 2) := by decide +kernel
theorem dX10_less_7 : decode cX10_less 7 = .ok (.aload_n 0, 1) := by decide +kernel
theorem dX10_less_8 : decode cX10_less 8 = .ok (.getfield 79, 3) := by decide +kernel
theorem dX10_less_11 : decode cX10_less 11 = .ok (.iload_n 1, 1) := by decide +kernel
theorem dX10_less_12 : decode cX10_less 12 = .ok (.iaload, 1) := by decide +kernel
theorem dX10_less_13 : decode cX10_less 13 = .ok (.if_icmp .ge 84, 3) := by decide +kernel
theorem dX10_less_16 : decode cX10_less 16 = .ok (.aload_n 0, 1) := by decide +kernel
theorem dX10_less_17 : decode cX10_less 17 = .ok (.getfield 76, 3) := by decide +kernel
theorem dX10_less_20 : decode cX10_less 20 = .ok (.sipush 1200, 3) := by decide +kernel
theorem dX10_less_23 : decode cX10_less 23 = .ok (.iload_n 1, 1) := by decide +kernel
theorem dX10_less_24 : decode cX10_less 24 = .ok (.imul, 1) := by decide +kernel
theorem dX10_less_25 : decode cX10_less 25 = .ok (.iload 4, 2) := by decide +kernel
theorem dX10_less_27 : decode cX10_less 27 = .ok (.iadd, 1) := by decide +kernel
theorem dX10_less_28 : decode cX10_less 28 = .ok (.iaload, 1) := by decide +kernel
theorem dX10_less_29 : decode cX10_less 29 = .ok (.iload 4, 2) := by decide +kernel
theorem dX10_less_31 : decode cX10_less 31 = .ok (.aload_n 0, 1) := by decide +kernel
theorem dX10_less_32 : decode cX10_less 32 = .ok (.getfield 79, 3) := by decide +kernel
theorem dX10_less_35 : decode cX10_less 35 = .ok (.iload_n 2, 1) := by decide +kernel
theorem dX10_less_36 : decode cX10_less 36 = .ok (.iaload, 1) := by decide +kernel
theorem dX10_less_37 : decode cX10_less 37 = .ok (.if_icmp .ge 19, 3) := by decide +kernel
theorem dX10_less_40 : decode cX10_less 40 = .ok (.aload_n 0, 1) := by decide +kernel
theorem dX10_less_41 : decode cX10_less 41 = .ok (.getfield 76, 3) := by decide +kernel
theorem dX10_less_44 : decode cX10_less 44 = .ok (.sipush 1200, 3) := by decide +kernel
theorem dX10_less_47 : decode cX10_less 47 = .ok (.iload_n 2, 1) := by decide +kernel
theorem dX10_less_48 : decode cX10_less 48 = .ok (.imul, 1) := by decide +kernel
theorem dX10_less_49 : decode cX10_less 49 = .ok (.iload 4, 2) := by decide +kernel
theorem dX10_less_51 : decode cX10_less 51 = .ok (.iadd, 1) := by decide +kernel
theorem dX10_less_52 : decode cX10_less 52 = .ok (.iaload, 1) := by decide +kernel
theorem dX10_less_53 : decode cX10_less 53 = .ok (.goto 4, 3) := by decide +kernel
theorem dX10_less_56 : decode cX10_less 56 = .ok (.iconst 0, 1) := by decide +kernel
theorem dX10_less_57 : decode cX10_less 57 = .ok (.isub, 1) := by decide +kernel
theorem dX10_less_58 : decode cX10_less 58 = .ok (.iload_n 3, 1) := by decide +kernel
theorem dX10_less_59 : decode cX10_less 59 = .ok (.isub, 1) := by decide +kernel
theorem dX10_less_60 : decode cX10_less 60 = .ok (.istore 5, 2) := by decide +kernel
theorem dX10_less_62 : decode cX10_less 62 = .ok (.aload_n 0, 1) := by decide +kernel
theorem dX10_less_63 : decode cX10_less 63 = .ok (.getfield 76, 3) := by decide +kernel
theorem dX10_less_66 : decode cX10_less 66 = .ok (.sipush 1200, 3) := by decide +kernel
theorem dX10_less_69 : decode cX10_less 69 = .ok (.iload_n 1, 1) := by decide +kernel
theorem dX10_less_70 : decode cX10_less 70 = .ok (.imul, 1) := by decide +kernel
theorem dX10_less_71 : decode cX10_less 71 = .ok (.iload 4, 2) := by decide +kernel
theorem dX10_less_73 : decode cX10_less 73 = .ok (.iadd, 1) := by decide +kernel
theorem dX10_less_74 : decode cX10_less 74 = .ok (.iload 5, 2) := by decide +kernel
theorem dX10_less_76 : decode cX10_less 76 = .ok (.ldc 194, 2) := by decide +kernel
theorem dX10_less_78 : decode cX10_less 78 = .ok (.iand, 1) := by decide +kernel
theorem dX10_less_79 : decode cX10_less 79 = .ok (.iastore, 1) := by decide +kernel
theorem dX10_less_80 : decode cX10_less 80 = .ok (.iload 5, 2) := by decide +kernel
theorem dX10_less_82 : decode cX10_less 82 = .ok (.ifCond .ge 7, 3) := by decide +kernel
theorem dX10_less_85 : decode cX10_less 85 = .ok (.iconst 1, 1) := by decide +kernel
theorem dX10_less_86 : decode cX10_less 86 = .ok (.goto 4, 3) := by decide +kernel
theorem dX10_less_89 : decode cX10_less 89 = .ok (.iconst 0, 1) := by decide +kernel
theorem dX10_less_90 : decode cX10_less 90 = .ok (.istore_n 3, 1) := by decide +kernel
theorem dX10_less_91 : decode cX10_less 91 = .ok (.iinc 4 1, 3) := by decide +kernel
theorem dX10_less_94 : decode cX10_less 94 = .ok (.goto (-89), 3) := by decide +kernel
theorem dX10_less_97 : decode cX10_less 97 = .ok (.aload_n 0, 1) := by decide +kernel
theorem dX10_less_98 : decode cX10_less 98 = .ok (.iload_n 1, 1) := by decide +kernel
theorem dX10_less_99 : decode cX10_less 99 = .ok (.invokevirtual 188, 3) := by decide +kernel
theorem dX10_less_102 : decode cX10_less 102 = .ok (.return_, 1) := by decide +kernel
abbrev cX10_twice : ByteArray := prog_13_method_12_code
def yX10_twice : MethodName := ⟨RX10, "twice", "(II)V"⟩
theorem dX10_twice_0 : decode cX10_twice 0 = .ok (.iload_n 2, 1) := by decide +kernel
theorem dX10_twice_1 : decode cX10_twice 1 = .ok (.istore_n 3, 1) := by decide +kernel
theorem dX10_twice_2 : decode cX10_twice 2 = .ok (.iload_n 3, 1) := by decide +kernel
theorem dX10_twice_3 : decode cX10_twice 3 = .ok (.ifCond .le 40, 3) := by decide +kernel
theorem dX10_twice_6 : decode cX10_twice 6 = .ok (.aload_n 0, 1) := by decide +kernel
theorem dX10_twice_7 : decode cX10_twice 7 = .ok (.iload_n 1, 1) := by decide +kernel
theorem dX10_twice_8 : decode cX10_twice 8 = .ok (.lconst 1, 1) := by decide +kernel
theorem dX10_twice_9 : decode cX10_twice 9 = .ok (.iload_n 3, 1) := by decide +kernel
theorem dX10_twice_10 : decode cX10_twice 10 = .ok (.bipush 40, 2) := by decide +kernel
theorem dX10_twice_12 : decode cX10_twice 12 = .ok (.if_icmp .le 8, 3) := by decide +kernel
theorem dX10_twice_15 : decode cX10_twice 15 = .ok (.bipush 40, 2) := by decide +kernel
theorem dX10_twice_17 : decode cX10_twice 17 = .ok (.goto 4, 3) := by decide +kernel
theorem dX10_twice_20 : decode cX10_twice 20 = .ok (.iload_n 3, 1) := by decide +kernel
theorem dX10_twice_21 : decode cX10_twice 21 = .ok (.lshl, 1) := by decide +kernel
theorem dX10_twice_22 : decode cX10_twice 22 = .ok (.invokevirtual 192, 3) := by decide +kernel
theorem dX10_twice_25 : decode cX10_twice 25 = .ok (.iload_n 3, 1) := by decide +kernel
theorem dX10_twice_26 : decode cX10_twice 26 = .ok (.iload_n 3, 1) := by decide +kernel
theorem dX10_twice_27 : decode cX10_twice 27 = .ok (.bipush 40, 2) := by decide +kernel
theorem dX10_twice_29 : decode cX10_twice 29 = .ok (.if_icmp .le 8, 3) := by decide +kernel
theorem dX10_twice_32 : decode cX10_twice 32 = .ok (.bipush 40, 2) := by decide +kernel
theorem dX10_twice_34 : decode cX10_twice 34 = .ok (.goto 4, 3) := by decide +kernel
theorem dX10_twice_37 : decode cX10_twice 37 = .ok (.iload_n 3, 1) := by decide +kernel
theorem dX10_twice_38 : decode cX10_twice 38 = .ok (.isub, 1) := by decide +kernel
theorem dX10_twice_39 : decode cX10_twice 39 = .ok (.istore_n 3, 1) := by decide +kernel
theorem dX10_twice_40 : decode cX10_twice 40 = .ok (.goto (-38), 3) := by decide +kernel
theorem dX10_twice_43 : decode cX10_twice 43 = .ok (.return_, 1) := by decide +kernel
abbrev cX10_divide : ByteArray := prog_13_method_14_code
def yX10_divide : MethodName := ⟨RX10, "divide", "(II)V"⟩
theorem dX10_divide_0 : decode cX10_divide 0 = .ok (.aload_n 0, 1) := by decide +kernel
theorem dX10_divide_1 : decode cX10_divide 1 = .ok (.getfield 79, 3) := by decide +kernel
theorem dX10_divide_4 : decode cX10_divide 4 = .ok (.iload_n 2, 1) := by decide +kernel
theorem dX10_divide_5 : decode cX10_divide 5 = .ok (.iaload, 1) := by decide +kernel
theorem dX10_divide_6 : decode cX10_divide 6 = .ok (.istore_n 3, 1) := by decide +kernel
theorem dX10_divide_7 : decode cX10_divide 7 = .ok (.iconst 0, 1) := by decide +kernel
theorem dX10_divide_8 : decode cX10_divide 8 = .ok (.istore 4, 2) := by decide +kernel
theorem dX10_divide_10 : decode cX10_divide 10 = .ok (.aload_n 0, 1) := by decide +kernel
theorem dX10_divide_11 : decode cX10_divide 11 = .ok (.getfield 76, 3) := by decide +kernel
theorem dX10_divide_14 : decode cX10_divide 14 = .ok (.sipush 1200, 3) := by decide +kernel
theorem dX10_divide_17 : decode cX10_divide 17 = .ok (.iload_n 2, 1) := by decide +kernel
theorem dX10_divide_18 : decode cX10_divide 18 = .ok (.imul, 1) := by decide +kernel
theorem dX10_divide_19 : decode cX10_divide 19 = .ok (.iload_n 3, 1) := by decide +kernel
theorem dX10_divide_20 : decode cX10_divide 20 = .ok (.iadd, 1) := by decide +kernel
theorem dX10_divide_21 : decode cX10_divide 21 = .ok (.iconst 1, 1) := by decide +kernel
theorem dX10_divide_22 : decode cX10_divide 22 = .ok (.isub, 1) := by decide +kernel
theorem dX10_divide_23 : decode cX10_divide 23 = .ok (.iaload, 1) := by decide +kernel
theorem dX10_divide_24 : decode cX10_divide 24 = .ok (.iload 4, 2) := by decide +kernel
theorem dX10_divide_26 : decode cX10_divide 26 = .ok (.ishl, 1) := by decide +kernel
theorem dX10_divide_27 : decode cX10_divide 27 = .ok (.ldc 213, 2) := by decide +kernel
theorem dX10_divide_29 : decode cX10_divide 29 = .ok (.iand, 1) := by decide +kernel
theorem dX10_divide_30 : decode cX10_divide 30 = .ok (.ifCond .ne 9, 3) := by decide +kernel
theorem dX10_divide_33 : decode cX10_divide 33 = .ok (.iinc 4 1, 3) := by decide +kernel
theorem dX10_divide_36 : decode cX10_divide 36 = .ok (.goto (-26), 3) := by decide +kernel
theorem dX10_divide_39 : decode cX10_divide 39 = .ok (.aload_n 0, 1) := by decide +kernel
theorem dX10_divide_40 : decode cX10_divide 40 = .ok (.iconst 2, 1) := by decide +kernel
theorem dX10_divide_41 : decode cX10_divide 41 = .ok (.iload_n 2, 1) := by decide +kernel
theorem dX10_divide_42 : decode cX10_divide 42 = .ok (.invokevirtual 195, 3) := by decide +kernel
theorem dX10_divide_45 : decode cX10_divide 45 = .ok (.aload_n 0, 1) := by decide +kernel
theorem dX10_divide_46 : decode cX10_divide 46 = .ok (.iconst 2, 1) := by decide +kernel
theorem dX10_divide_47 : decode cX10_divide 47 = .ok (.lconst 1, 1) := by decide +kernel
theorem dX10_divide_48 : decode cX10_divide 48 = .ok (.iload 4, 2) := by decide +kernel
theorem dX10_divide_50 : decode cX10_divide 50 = .ok (.lshl, 1) := by decide +kernel
theorem dX10_divide_51 : decode cX10_divide 51 = .ok (.invokevirtual 192, 3) := by decide +kernel
theorem dX10_divide_54 : decode cX10_divide 54 = .ok (.aload_n 0, 1) := by decide +kernel
theorem dX10_divide_55 : decode cX10_divide 55 = .ok (.iconst 3, 1) := by decide +kernel
theorem dX10_divide_56 : decode cX10_divide 56 = .ok (.iload_n 1, 1) := by decide +kernel
theorem dX10_divide_57 : decode cX10_divide 57 = .ok (.invokevirtual 195, 3) := by decide +kernel
theorem dX10_divide_60 : decode cX10_divide 60 = .ok (.aload_n 0, 1) := by decide +kernel
theorem dX10_divide_61 : decode cX10_divide 61 = .ok (.iconst 3, 1) := by decide +kernel
theorem dX10_divide_62 : decode cX10_divide 62 = .ok (.lconst 1, 1) := by decide +kernel
theorem dX10_divide_63 : decode cX10_divide 63 = .ok (.iload 4, 2) := by decide +kernel
theorem dX10_divide_65 : decode cX10_divide 65 = .ok (.lshl, 1) := by decide +kernel
theorem dX10_divide_66 : decode cX10_divide 66 = .ok (.invokevirtual 192, 3) := by decide +kernel
theorem dX10_divide_69 : decode cX10_divide 69 = .ok (.aload_n 0, 1) := by decide +kernel
theorem dX10_divide_70 : decode cX10_divide 70 = .ok (.getfield 79, 3) := by decide +kernel
theorem dX10_divide_73 : decode cX10_divide 73 = .ok (.iconst 3, 1) := by decide +kernel
theorem dX10_divide_74 : decode cX10_divide 74 = .ok (.iaload, 1) := by decide +kernel
theorem dX10_divide_75 : decode cX10_divide 75 = .ok (.iload_n 3, 1) := by decide +kernel
theorem dX10_divide_76 : decode cX10_divide 76 = .ok (.isub, 1) := by decide +kernel
theorem dX10_divide_77 : decode cX10_divide 77 = .ok (.istore 5, 2) := by decide +kernel
theorem dX10_divide_79 : decode cX10_divide 79 = .ok (.aload_n 0, 1) := by decide +kernel
theorem dX10_divide_80 : decode cX10_divide 80 = .ok (.getfield 76, 3) := by decide +kernel
theorem dX10_divide_83 : decode cX10_divide 83 = .ok (.sipush 3600, 3) := by decide +kernel
theorem dX10_divide_86 : decode cX10_divide 86 = .ok (.aload_n 0, 1) := by decide +kernel
theorem dX10_divide_87 : decode cX10_divide 87 = .ok (.getfield 79, 3) := by decide +kernel
theorem dX10_divide_90 : decode cX10_divide 90 = .ok (.iconst 3, 1) := by decide +kernel
theorem dX10_divide_91 : decode cX10_divide 91 = .ok (.iaload, 1) := by decide +kernel
theorem dX10_divide_92 : decode cX10_divide 92 = .ok (.iadd, 1) := by decide +kernel
theorem dX10_divide_93 : decode cX10_divide 93 = .ok (.iconst 0, 1) := by decide +kernel
theorem dX10_divide_94 : decode cX10_divide 94 = .ok (.iastore, 1) := by decide +kernel
theorem dX10_divide_95 : decode cX10_divide 95 = .ok (.aload_n 0, 1) := by decide +kernel
theorem dX10_divide_96 : decode cX10_divide 96 = .ok (.getfield 79, 3) := by decide +kernel
theorem dX10_divide_99 : decode cX10_divide 99 = .ok (.iload_n 1, 1) := by decide +kernel
theorem dX10_divide_100 : decode cX10_divide 100 = .ok (.iload 5, 2) := by decide +kernel
theorem dX10_divide_102 : decode cX10_divide 102 = .ok (.iconst 1, 1) := by decide +kernel
theorem dX10_divide_103 : decode cX10_divide 103 = .ok (.iadd, 1) := by decide +kernel
theorem dX10_divide_104 : decode cX10_divide 104 = .ok (.iastore, 1) := by decide +kernel
theorem dX10_divide_105 : decode cX10_divide 105 = .ok (.aload_n 0, 1) := by decide +kernel
theorem dX10_divide_106 : decode cX10_divide 106 = .ok (.getfield 76, 3) := by decide +kernel
theorem dX10_divide_109 : decode cX10_divide 109 = .ok (.sipush 2400, 3) := by decide +kernel
theorem dX10_divide_112 : decode cX10_divide 112 = .ok (.iload_n 3, 1) := by decide +kernel
theorem dX10_divide_113 : decode cX10_divide 113 = .ok (.iadd, 1) := by decide +kernel
theorem dX10_divide_114 : decode cX10_divide 114 = .ok (.iconst 1, 1) := by decide +kernel
theorem dX10_divide_115 : decode cX10_divide 115 = .ok (.isub, 1) := by decide +kernel
theorem dX10_divide_116 : decode cX10_divide 116 = .ok (.iaload, 1) := by decide +kernel
