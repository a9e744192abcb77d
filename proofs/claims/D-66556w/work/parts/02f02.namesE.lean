set_option maxRecDepth 100000
theorem dX10_digit_76 : decode cX10_digit 76 = .ok (.ireturn, 1) := by decide +kernel
abbrev cX10_coins : ByteArray := prog_13_method_26_code
def yX10_coins : MethodName := ⟨RX10, "coins", "(II)I"⟩
theorem dX10_coins_0 : decode cX10_coins 0 = .ok (.aload_n 0, 1) := by decide +kernel
theorem dX10_coins_1 : decode cX10_coins 1 = .ok (.iload_n 2, 1) := by decide +kernel
theorem dX10_coins_2 : decode cX10_coins 2 = .ok (.ifCond .lt 9, 3) := by decide +kernel
theorem dX10_coins_5 : decode cX10_coins 5 = .ok (.iload_n 2, 1) := by decide +kernel
theorem dX10_coins_6 : decode cX10_coins 6 = .ok (.bipush 32, 2) := by decide +kernel
theorem dX10_coins_8 : decode cX10_coins 8 = .ok (.if_icmp .le 7, 3) := by decide +kernel
theorem dX10_coins_11 : decode cX10_coins 11 = .ok (.iconst 1, 1) := by decide +kernel
theorem dX10_coins_12 : decode cX10_coins 12 = .ok (.goto 20, 3) := by decide +kernel
theorem dX10_coins_15 : decode cX10_coins 15 = .ok (.aload_n 0, 1) := by decide +kernel
theorem dX10_coins_16 : decode cX10_coins 16 = .ok (.getfield 247, 3) := by decide +kernel
theorem dX10_coins_19 : decode cX10_coins 19 = .ok (.iload_n 2, 1) := by decide +kernel
theorem dX10_coins_20 : decode cX10_coins 20 = .ok (.iadd, 1) := by decide +kernel
theorem dX10_coins_21 : decode cX10_coins 21 = .ok (.sipush 4000, 3) := by decide +kernel
theorem dX10_coins_24 : decode cX10_coins 24 = .ok (.if_icmp .le 7, 3) := by decide +kernel
theorem dX10_coins_27 : decode cX10_coins 27 = .ok (.iconst 2, 1) := by decide +kernel
theorem dX10_coins_28 : decode cX10_coins 28 = .ok (.goto 4, 3) := by decide +kernel
theorem dX10_coins_31 : decode cX10_coins 31 = .ok (.iconst 0, 1) := by decide +kernel
theorem dX10_coins_32 : decode cX10_coins 32 = .ok (.putfield 1, 3) := by decide +kernel
theorem dX10_coins_35 : decode cX10_coins 35 = .ok (.iload_n 2, 1) := by decide +kernel
theorem dX10_coins_36 : decode cX10_coins 36 = .ok (.iconst 1, 1) := by decide +kernel
theorem dX10_coins_37 : decode cX10_coins 37 = .ok (.isub, 1) := by decide +kernel
theorem dX10_coins_38 : decode cX10_coins 38 = .ok (.istore_n 3, 1) := by decide +kernel
theorem dX10_coins_39 : decode cX10_coins 39 = .ok (.iload_n 3, 1) := by decide +kernel
theorem dX10_coins_40 : decode cX10_coins 40 = .ok (.ifCond .lt 41, 3) := by decide +kernel
theorem dX10_coins_43 : decode cX10_coins 43 = .ok (.aload_n 0, 1) := by decide +kernel
theorem dX10_coins_44 : decode cX10_coins 44 = .ok (.getfield 1, 3) := by decide +kernel
theorem dX10_coins_47 : decode cX10_coins 47 = .ok (.ifCond .ne 34, 3) := by decide +kernel
theorem dX10_coins_50 : decode cX10_coins 50 = .ok (.aload_n 0, 1) := by decide +kernel
theorem dX10_coins_51 : decode cX10_coins 51 = .ok (.getfield 45, 3) := by decide +kernel
theorem dX10_coins_54 : decode cX10_coins 54 = .ok (.aload_n 0, 1) := by decide +kernel
theorem dX10_coins_55 : decode cX10_coins 55 = .ok (.getfield 247, 3) := by decide +kernel
theorem dX10_coins_58 : decode cX10_coins 58 = .ok (.iload_n 1, 1) := by decide +kernel
theorem dX10_coins_59 : decode cX10_coins 59 = .ok (.iload_n 3, 1) := by decide +kernel
theorem dX10_coins_60 : decode cX10_coins 60 = .ok (.ishr, 1) := by decide +kernel
theorem dX10_coins_61 : decode cX10_coins 61 = .ok (.iconst 1, 1) := by decide +kernel
theorem dX10_coins_62 : decode cX10_coins 62 = .ok (.iand, 1) := by decide +kernel
theorem dX10_coins_63 : decode cX10_coins 63 = .ok (.i2b, 1) := by decide +kernel
theorem dX10_coins_64 : decode cX10_coins 64 = .ok (.bastore, 1) := by decide +kernel
theorem dX10_coins_65 : decode cX10_coins 65 = .ok (.aload_n 0, 1) := by decide +kernel
theorem dX10_coins_66 : decode cX10_coins 66 = .ok (.dup, 1) := by decide +kernel
theorem dX10_coins_67 : decode cX10_coins 67 = .ok (.getfield 247, 3) := by decide +kernel
theorem dX10_coins_70 : decode cX10_coins 70 = .ok (.iconst 1, 1) := by decide +kernel
theorem dX10_coins_71 : decode cX10_coins 71 = .ok (.iadd, 1) := by decide +kernel
theorem dX10_coins_72 : decode cX10_coins 72 = .ok (.putfield 247, 3) := by decide +kernel
theorem dX10_coins_75 : decode cX10_coins 75 = .ok (.iinc 3 (-1), 3) := by decide +kernel
theorem dX10_coins_78 : decode cX10_coins 78 = .ok (.goto (-39), 3) := by decide +kernel
theorem dX10_coins_81 : decode cX10_coins 81 = .ok (.aload_n 0, 1) := by decide +kernel
theorem dX10_coins_82 : decode cX10_coins 82 = .ok (.getfield 1, 3) := by decide +kernel
theorem dX10_coins_85 : decode cX10_coins 85 = .ok (.ifCond .le 7, 3) := by decide +kernel
theorem dX10_coins_88 : decode cX10_coins 88 = .ok (.iconst 0, 1) := by decide +kernel
theorem dX10_coins_89 : decode cX10_coins 89 = .ok (.goto 7, 3) := by decide +kernel
theorem dX10_coins_92 : decode cX10_coins 92 = .ok (.aload_n 0, 1) := by decide +kernel
theorem dX10_coins_93 : decode cX10_coins 93 = .ok (.getfield 247, 3) := by decide +kernel
theorem dX10_coins_96 : decode cX10_coins 96 = .ok (.ireturn, 1) := by decide +kernel
abbrev cX10_start : ByteArray := prog_13_method_30_code
def yX10_start : MethodName := ⟨RX10, "start", "(ZZ)V"⟩
theorem dX10_start_0 : decode cX10_start 0 = .ok (.aload_n 0, 1) := by decide +kernel
theorem dX10_start_1 : decode cX10_start 1 = .ok (.getfield 231, 3) := by decide +kernel
theorem dX10_start_4 : decode cX10_start 4 = .ok (.ifCond .ne 32, 3) := by decide +kernel
theorem dX10_start_7 : decode cX10_start 7 = .ok (.aload_n 0, 1) := by decide +kernel
theorem dX10_start_8 : decode cX10_start 8 = .ok (.invokevirtual 253, 3) := by decide +kernel
theorem dX10_start_11 : decode cX10_start 11 = .ok (.ifCond .eq 25, 3) := by decide +kernel
theorem dX10_start_14 : decode cX10_start 14 = .ok (.aload_n 0, 1) := by decide +kernel
theorem dX10_start_15 : decode cX10_start 15 = .ok (.getfield 240, 3) := by decide +kernel
theorem dX10_start_18 : decode cX10_start 18 = .ok (.ifCond .le 18, 3) := by decide +kernel
theorem dX10_start_21 : decode cX10_start 21 = .ok (.iload_n 2, 1) := by decide +kernel
theorem dX10_start_22 : decode cX10_start 22 = .ok (.ifCond .eq 10, 3) := by decide +kernel
theorem dX10_start_25 : decode cX10_start 25 = .ok (.aload_n 0, 1) := by decide +kernel
theorem dX10_start_26 : decode cX10_start 26 = .ok (.getfield 220, 3) := by decide +kernel
theorem dX10_start_29 : decode cX10_start 29 = .ok (.ifCond .le 7, 3) := by decide +kernel
theorem dX10_start_32 : decode cX10_start 32 = .ok (.iconst 1, 1) := by decide +kernel
theorem dX10_start_33 : decode cX10_start 33 = .ok (.goto 4, 3) := by decide +kernel
theorem dX10_start_36 : decode cX10_start 36 = .ok (.iconst 0, 1) := by decide +kernel
theorem dX10_start_37 : decode cX10_start 37 = .ok (.istore_n 3, 1) := by decide +kernel
theorem dX10_start_38 : decode cX10_start 38 = .ok (.iconst 0, 1) := by decide +kernel
theorem dX10_start_39 : decode cX10_start 39 = .ok (.istore 4, 2) := by decide +kernel
theorem dX10_start_41 : decode cX10_start 41 = .ok (.iload 4, 2) := by decide +kernel
theorem dX10_start_43 : decode cX10_start 43 = .ok (.aload_n 0, 1) := by decide +kernel
theorem dX10_start_44 : decode cX10_start 44 = .ok (.getfield 234, 3) := by decide +kernel
theorem dX10_start_47 : decode cX10_start 47 = .ok (.if_icmp .ge 33, 3) := by decide +kernel
theorem dX10_start_50 : decode cX10_start 50 = .ok (.iload_n 3, 1) := by decide +kernel
theorem dX10_start_51 : decode cX10_start 51 = .ok (.ifCond .eq 21, 3) := by decide +kernel
theorem dX10_start_54 : decode cX10_start 54 = .ok (.aload_n 0, 1) := by decide +kernel
theorem dX10_start_55 : decode cX10_start 55 = .ok (.getfield 13, 3) := by decide +kernel
theorem dX10_start_58 : decode cX10_start 58 = .ok (.iload 4, 2) := by decide +kernel
theorem dX10_start_60 : decode cX10_start 60 = .ok (.iaload, 1) := by decide +kernel
theorem dX10_start_61 : decode cX10_start 61 = .ok (.aload_n 0, 1) := by decide +kernel
theorem dX10_start_62 : decode cX10_start 62 = .ok (.getfield 240, 3) := by decide +kernel
theorem dX10_start_65 : decode cX10_start 65 = .ok (.if_icmp .gt 7, 3) := by decide +kernel
theorem dX10_start_68 : decode cX10_start 68 = .ok (.iconst 1, 1) := by decide +kernel
theorem dX10_start_69 : decode cX10_start 69 = .ok (.goto 4, 3) := by decide +kernel
theorem dX10_start_72 : decode cX10_start 72 = .ok (.iconst 0, 1) := by decide +kernel
theorem dX10_start_73 : decode cX10_start 73 = .ok (.istore_n 3, 1) := by decide +kernel
theorem dX10_start_74 : decode cX10_start 74 = .ok (.iinc 4 1, 3) := by decide +kernel
theorem dX10_start_77 : decode cX10_start 77 = .ok (.goto (-36), 3) := by decide +kernel
theorem dX10_start_80 : decode cX10_start 80 = .ok (.aload_n 0, 1) := by decide +kernel
theorem dX10_start_81 : decode cX10_start 81 = .ok (.iload_n 3, 1) := by decide +kernel
theorem dX10_start_82 : decode cX10_start 82 = .ok (.ifCond .eq 7, 3) := by decide +kernel
theorem dX10_start_85 : decode cX10_start 85 = .ok (.iconst 0, 1) := by decide +kernel
theorem dX10_start_86 : decode cX10_start 86 = .ok (.goto 4, 3) := by decide +kernel
theorem dX10_start_89 : decode cX10_start 89 = .ok (.iconst 1, 1) := by decide +kernel
theorem dX10_start_90 : decode cX10_start 90 = .ok (.putfield 1, 3) := by decide +kernel
theorem dX10_start_93 : decode cX10_start 93 = .ok (.aload_n 0, 1) := by decide +kernel
theorem dX10_start_94 : decode cX10_start 94 = .ok (.getfield 1, 3) := by decide +kernel
theorem dX10_start_97 : decode cX10_start 97 = .ok (.ifCond .le 4, 3) := by decide +kernel
theorem dX10_start_100 : decode cX10_start 100 = .ok (.return_, 1) := by decide +kernel
theorem dX10_start_101 : decode cX10_start 101 = .ok (.aload_n 0, 1) := by decide +kernel
theorem dX10_start_102 : decode cX10_start 102 = .ok (.iload_n 1, 1) := by decide +kernel
theorem dX10_start_103 : decode cX10_start 103 = .ok (.putfield 257, 3) := by decide +kernel
theorem dX10_start_106 : decode cX10_start 106 = .ok (.aload_n 0, 1) := by decide +kernel
theorem dX10_start_107 : decode cX10_start 107 = .ok (.iload_n 2, 1) := by decide +kernel
theorem dX10_start_108 : decode cX10_start 108 = .ok (.putfield 261, 3) := by decide +kernel
theorem dX10_start_111 : decode cX10_start 111 = .ok (.aload_n 0, 1) := by decide +kernel
theorem dX10_start_112 : decode cX10_start 112 = .ok (.invokevirtual 264, 3) := by decide +kernel
theorem dX10_start_115 : decode cX10_start 115 = .ok (.aload_n 0, 1) := by decide +kernel
theorem dX10_start_116 : decode cX10_start 116 = .ok (.bipush 6, 2) := by decide +kernel
theorem dX10_start_118 : decode cX10_start 118 = .ok (.lconst 1, 1) := by decide +kernel
theorem dX10_start_119 : decode cX10_start 119 = .ok (.invokevirtual 182, 3) := by decide +kernel
theorem dX10_start_122 : decode cX10_start 122 = .ok (.aload_n 0, 1) := by decide +kernel
theorem dX10_start_123 : decode cX10_start 123 = .ok (.bipush 7, 2) := by decide +kernel
theorem dX10_start_125 : decode cX10_start 125 = .ok (.lconst 1, 1) := by decide +kernel
theorem dX10_start_126 : decode cX10_start 126 = .ok (.invokevirtual 182, 3) := by decide +kernel
theorem dX10_start_129 : decode cX10_start 129 = .ok (.aload_n 0, 1) := by decide +kernel
theorem dX10_start_130 : decode cX10_start 130 = .ok (.iconst 1, 1) := by decide +kernel
theorem dX10_start_131 : decode cX10_start 131 = .ok (.putfield 231, 3) := by decide +kernel
theorem dX10_start_134 : decode cX10_start 134 = .ok (.return_, 1) := by decide +kernel
abbrev cX10_choose : ByteArray := prog_13_method_27_code
def yX10_choose : MethodName := ⟨RX10, "choose", "()Z"⟩
theorem dX10_choose_0 : decode cX10_choose 0 = .ok (.aload_n 0, 1) := by decide +kernel
theorem dX10_choose_1 : decode cX10_choose 1 = .ok (.getfield 234, 3) := by decide +kernel
theorem dX10_choose_4 : decode cX10_choose 4 = .ok (.iconst 2, 1) := by decide +kernel
theorem dX10_choose_5 : decode cX10_choose 5 = .ok (.if_icmp .lt 14, 3) := by decide +kernel
theorem dX10_choose_8 : decode cX10_choose 8 = .ok (.aload_n 0, 1) := by decide +kernel
theorem dX10_choose_9 : decode cX10_choose 9 = .ok (.getfield 17, 3) := by decide +kernel
theorem dX10_choose_12 : decode cX10_choose 12 = .ok (.aload_n 0, 1) := by decide +kernel
theorem dX10_choose_13 : decode cX10_choose 13 = .ok (.getfield 234, 3) := by decide +kernel
theorem dX10_choose_16 : decode cX10_choose 16 = .ok (.if_icmp .lt 5, 3) := by decide +kernel
theorem dX10_choose_19 : decode cX10_choose 19 = .ok (.iconst 0, 1) := by decide +kernel
theorem dX10_choose_20 : decode cX10_choose 20 = .ok (.ireturn, 1) := by decide +kernel
theorem dX10_choose_21 : decode cX10_choose 21 = .ok (.iconst 0, 1) := by decide +kernel
theorem dX10_choose_22 : decode cX10_choose 22 = .ok (.istore_n 1, 1) := by decide +kernel
theorem dX10_choose_23 : decode cX10_choose 23 = .ok (.iload_n 1, 1) := by decide +kernel
theorem dX10_choose_24 : decode cX10_choose 24 = .ok (.aload_n 0, 1) := by decide +kernel
theorem dX10_choose_25 : decode cX10_choose 25 = .ok (.getfield 234, 3) := by decide +kernel
theorem dX10_choose_28 : decode cX10_choose 28 = .ok (.if_icmp .ge 118, 3) := by decide +kernel
theorem dX10_choose_31 : decode cX10_choose 31 = .ok (.iconst 0, 1) := by decide +kernel
theorem dX10_choose_32 : decode cX10_choose 32 = .ok (.istore_n 2, 1) := by decide +kernel
theorem dX10_choose_33 : decode cX10_choose 33 = .ok (.iconst 0, 1) := by decide +kernel
theorem dX10_choose_34 : decode cX10_choose 34 = .ok (.istore_n 3, 1) := by decide +kernel
theorem dX10_choose_35 : decode cX10_choose 35 = .ok (.iconst 0, 1) := by decide +kernel
theorem dX10_choose_36 : decode cX10_choose 36 = .ok (.istore 4, 2) := by decide +kernel
theorem dX10_choose_38 : decode cX10_choose 38 = .ok (.iload 4, 2) := by decide +kernel
theorem dX10_choose_40 : decode cX10_choose 40 = .ok (.aload_n 0, 1) := by decide +kernel
theorem dX10_choose_41 : decode cX10_choose 41 = .ok (.getfield 234, 3) := by decide +kernel
theorem dX10_choose_44 : decode cX10_choose 44 = .ok (.if_icmp .ge 57, 3) := by decide +kernel
theorem dX10_choose_47 : decode cX10_choose 47 = .ok (.iload_n 2, 1) := by decide +kernel
theorem dX10_choose_48 : decode cX10_choose 48 = .ok (.aload_n 0, 1) := by decide +kernel
theorem dX10_choose_49 : decode cX10_choose 49 = .ok (.getfield 13, 3) := by decide +kernel
theorem dX10_choose_52 : decode cX10_choose 52 = .ok (.iload 4, 2) := by decide +kernel
theorem dX10_choose_54 : decode cX10_choose 54 = .ok (.iaload, 1) := by decide +kernel
theorem dX10_choose_55 : decode cX10_choose 55 = .ok (.aload_n 0, 1) := by decide +kernel
theorem dX10_choose_56 : decode cX10_choose 56 = .ok (.getfield 13, 3) := by decide +kernel
theorem dX10_choose_59 : decode cX10_choose 59 = .ok (.iload_n 1, 1) := by decide +kernel
theorem dX10_choose_60 : decode cX10_choose 60 = .ok (.iaload, 1) := by decide +kernel
theorem dX10_choose_61 : decode cX10_choose 61 = .ok (.if_icmp .le 7, 3) := by decide +kernel
theorem dX10_choose_64 : decode cX10_choose 64 = .ok (.iconst 1, 1) := by decide +kernel
theorem dX10_choose_65 : decode cX10_choose 65 = .ok (.goto 4, 3) := by decide +kernel
theorem dX10_choose_68 : decode cX10_choose 68 = .ok (.iconst 0, 1) := by decide +kernel
theorem dX10_choose_69 : decode cX10_choose 69 = .ok (.iadd, 1) := by decide +kernel
theorem dX10_choose_70 : decode cX10_choose 70 = .ok (.istore_n 2, 1) := by decide +kernel
theorem dX10_choose_71 : decode cX10_choose 71 = .ok (.iload_n 3, 1) := by decide +kernel
theorem dX10_choose_72 : decode cX10_choose 72 = .ok (.aload_n 0, 1) := by decide +kernel
theorem dX10_choose_73 : decode cX10_choose 73 = .ok (.getfield 13, 3) := by decide +kernel
theorem dX10_choose_76 : decode cX10_choose 76 = .ok (.iload 4, 2) := by decide +kernel
theorem dX10_choose_78 : decode cX10_choose 78 = .ok (.iaload, 1) := by decide +kernel
theorem dX10_choose_79 : decode cX10_choose 79 = .ok (.aload_n 0, 1) := by decide +kernel
theorem dX10_choose_80 : decode cX10_choose 80 = .ok (.getfield 13, 3) := by decide +kernel
theorem dX10_choose_83 : decode cX10_choose 83 = .ok (.iload_n 1, 1) := by decide +kernel
theorem dX10_choose_84 : decode cX10_choose 84 = .ok (.iaload, 1) := by decide +kernel
theorem dX10_choose_85 : decode cX10_choose 85 = .ok (.if_icmp .ne 7, 3) := by decide +kernel
theorem dX10_choose_88 : decode cX10_choose 88 = .ok (.iconst 1, 1) := by decide +kernel
theorem dX10_choose_89 : decode cX10_choose 89 = .ok (.goto 4, 3) := by decide +kernel
theorem dX10_choose_92 : decode cX10_choose 92 = .ok (.iconst 0, 1) := by decide +kernel
theorem dX10_choose_93 : decode cX10_choose 93 = .ok (.iadd, 1) := by decide +kernel
theorem dX10_choose_94 : decode cX10_choose 94 = .ok (.istore_n 3, 1) := by decide +kernel
theorem dX10_choose_95 : decode cX10_choose 95 = .ok (.iinc 4 1, 3) := by decide +kernel
theorem dX10_choose_98 : decode cX10_choose 98 = .ok (.goto (-60), 3) := by decide +kernel
theorem dX10_choose_101 : decode cX10_choose 101 = .ok (.iload_n 2, 1) := by decide +kernel
theorem dX10_choose_102 : decode cX10_choose 102 = .ok (.aload_n 0, 1) := by decide +kernel
theorem dX10_choose_103 : decode cX10_choose 103 = .ok (.getfield 17, 3) := by decide +kernel
theorem dX10_choose_106 : decode cX10_choose 106 = .ok (.if_icmp .ge 15, 3) := by decide +kernel
theorem dX10_choose_109 : decode cX10_choose 109 = .ok (.iload_n 2, 1) := by decide +kernel
theorem dX10_choose_110 : decode cX10_choose 110 = .ok (.iload_n 3, 1) := by decide +kernel
theorem dX10_choose_111 : decode cX10_choose 111 = .ok (.iadd, 1) := by decide +kernel
theorem dX10_choose_112 : decode cX10_choose 112 = .ok (.aload_n 0, 1) := by decide +kernel
theorem dX10_choose_113 : decode cX10_choose 113 = .ok (.getfield 17, 3) := by decide +kernel
theorem dX10_choose_116 : decode cX10_choose 116 = .ok (.if_icmp .le 5, 3) := by decide +kernel
theorem dX10_choose_119 : decode cX10_choose 119 = .ok (.iconst 0, 1) := by decide +kernel
theorem dX10_choose_120 : decode cX10_choose 120 = .ok (.ireturn, 1) := by decide +kernel
theorem dX10_choose_121 : decode cX10_choose 121 = .ok (.aload_n 0, 1) := by decide +kernel
theorem dX10_choose_122 : decode cX10_choose 122 = .ok (.getfield 48, 3) := by decide +kernel
theorem dX10_choose_125 : decode cX10_choose 125 = .ok (.iload_n 1, 1) := by decide +kernel
theorem dX10_choose_126 : decode cX10_choose 126 = .ok (.iload_n 2, 1) := by decide +kernel
theorem dX10_choose_127 : decode cX10_choose 127 = .ok (.aload_n 0, 1) := by decide +kernel
theorem dX10_choose_128 : decode cX10_choose 128 = .ok (.getfield 17, 3) := by decide +kernel
theorem dX10_choose_131 : decode cX10_choose 131 = .ok (.if_icmp .ge 7, 3) := by decide +kernel
theorem dX10_choose_134 : decode cX10_choose 134 = .ok (.iconst 1, 1) := by decide +kernel
theorem dX10_choose_135 : decode cX10_choose 135 = .ok (.goto 4, 3) := by decide +kernel
theorem dX10_choose_138 : decode cX10_choose 138 = .ok (.iconst 0, 1) := by decide +kernel
theorem dX10_choose_139 : decode cX10_choose 139 = .ok (.bastore, 1) := by decide +kernel
theorem dX10_choose_140 : decode cX10_choose 140 = .ok (.iinc 1 1, 3) := by decide +kernel
theorem dX10_choose_143 : decode cX10_choose 143 = .ok (.goto (-120), 3) := by decide +kernel
theorem dX10_choose_146 : decode cX10_choose 146 = .ok (.iconst 1, 1) := by decide +kernel
theorem dX10_choose_147 : decode cX10_choose 147 = .ok (.ireturn, 1) := by decide +kernel
abbrev cX10_pairUp : ByteArray := prog_13_method_28_code
def yX10_pairUp : MethodName := ⟨RX10, "pairUp", "()V"⟩
theorem dX10_pairUp_0 : decode cX10_pairUp 0 = .ok (.aload_n 0, 1) := by decide +kernel
theorem dX10_pairUp_1 : decode cX10_pairUp 1 = .ok (.iconst 0, 1) := by decide +kernel
theorem dX10_pairUp_2 : decode cX10_pairUp 2 = .ok (.putfield 250, 3) := by decide +kernel
theorem dX10_pairUp_5 : decode cX10_pairUp 5 = .ok (.iconst 0, 1) := by decide +kernel
theorem dX10_pairUp_6 : decode cX10_pairUp 6 = .ok (.istore_n 1, 1) := by decide +kernel
theorem dX10_pairUp_7 : decode cX10_pairUp 7 = .ok (.iload_n 1, 1) := by decide +kernel
theorem dX10_pairUp_8 : decode cX10_pairUp 8 = .ok (.aload_n 0, 1) := by decide +kernel
theorem dX10_pairUp_9 : decode cX10_pairUp 9 = .ok (.getfield 234, 3) := by decide +kernel
theorem dX10_pairUp_12 : decode cX10_pairUp 12 = .ok (.if_icmp .ge 83, 3) := by decide +kernel
theorem dX10_pairUp_15 : decode cX10_pairUp 15 = .ok (.iconst 0, 1) := by decide +kernel
theorem dX10_pairUp_16 : decode cX10_pairUp 16 = .ok (.istore_n 2, 1) := by decide +kernel
theorem dX10_pairUp_17 : decode cX10_pairUp 17 = .ok (.iload_n 2, 1) := by decide +kernel
theorem dX10_pairUp_18 : decode cX10_pairUp 18 = .ok (.aload_n 0, 1) := by decide +kernel
theorem dX10_pairUp_19 : decode cX10_pairUp 19 = .ok (.getfield 234, 3) := by decide +kernel
theorem dX10_pairUp_22 : decode cX10_pairUp 22 = .ok (.if_icmp .ge 67, 3) := by decide +kernel
theorem dX10_pairUp_25 : decode cX10_pairUp 25 = .ok (.aload_n 0, 1) := by decide +kernel
theorem dX10_pairUp_26 : decode cX10_pairUp 26 = .ok (.getfield 48, 3) := by decide +kernel
theorem dX10_pairUp_29 : decode cX10_pairUp 29 = .ok (.iload_n 1, 1) := by decide +kernel
theorem dX10_pairUp_30 : decode cX10_pairUp 30 = .ok (.baload, 1) := by decide +kernel
theorem dX10_pairUp_31 : decode cX10_pairUp 31 = .ok (.ifCond .eq 52, 3) := by decide +kernel
theorem dX10_pairUp_34 : decode cX10_pairUp 34 = .ok (.aload_n 0, 1) := by decide +kernel
theorem dX10_pairUp_35 : decode cX10_pairUp 35 = .ok (.getfield 48, 3) := by decide +kernel
theorem dX10_pairUp_38 : decode cX10_pairUp 38 = .ok (.iload_n 2, 1) := by decide +kernel
theorem dX10_pairUp_39 : decode cX10_pairUp 39 = .ok (.baload, 1) := by decide +kernel
theorem dX10_pairUp_40 : decode cX10_pairUp 40 = .ok (.ifCond .ne 43, 3) := by decide +kernel
theorem dX10_pairUp_43 : decode cX10_pairUp 43 = .ok (.aload_n 0, 1) := by decide +kernel
theorem dX10_pairUp_44 : decode cX10_pairUp 44 = .ok (.getfield 52, 3) := by decide +kernel
theorem dX10_pairUp_47 : decode cX10_pairUp 47 = .ok (.aload_n 0, 1) := by decide +kernel
theorem dX10_pairUp_48 : decode cX10_pairUp 48 = .ok (.getfield 250, 3) := by decide +kernel
theorem dX10_pairUp_51 : decode cX10_pairUp 51 = .ok (.iload_n 1, 1) := by decide +kernel
theorem dX10_pairUp_52 : decode cX10_pairUp 52 = .ok (.iastore, 1) := by decide +kernel
theorem dX10_pairUp_53 : decode cX10_pairUp 53 = .ok (.aload_n 0, 1) := by decide +kernel
theorem dX10_pairUp_54 : decode cX10_pairUp 54 = .ok (.getfield 55, 3) := by decide +kernel
theorem dX10_pairUp_57 : decode cX10_pairUp 57 = .ok (.aload_n 0, 1) := by decide +kernel
theorem dX10_pairUp_58 : decode cX10_pairUp 58 = .ok (.getfield 250, 3) := by decide +kernel
theorem dX10_pairUp_61 : decode cX10_pairUp 61 = .ok (.iload_n 2, 1) := by decide +kernel
theorem dX10_pairUp_62 : decode cX10_pairUp 62 = .ok (.iastore, 1) := by decide +kernel
theorem dX10_pairUp_63 : decode cX10_pairUp 63 = .ok (.aload_n 0, 1) := by decide +kernel
theorem dX10_pairUp_64 : decode cX10_pairUp 64 = .ok (.getfield 58, 3) := by decide +kernel
theorem dX10_pairUp_67 : decode cX10_pairUp 67 = .ok (.aload_n 0, 1) := by decide +kernel
theorem dX10_pairUp_68 : decode cX10_pairUp 68 = .ok (.getfield 250, 3) := by decide +kernel
theorem dX10_pairUp_71 : decode cX10_pairUp 71 = .ok (.iconst (-1), 1) := by decide +kernel
theorem dX10_pairUp_72 : decode cX10_pairUp 72 = .ok (.iastore, 1) := by decide +kernel
theorem dX10_pairUp_73 : decode cX10_pairUp 73 = .ok (.aload_n 0, 1) := by decide +kernel
theorem dX10_pairUp_74 : decode cX10_pairUp 74 = .ok (.dup, 1) := by decide +kernel
theorem dX10_pairUp_75 : decode cX10_pairUp 75 = .ok (.getfield 250, 3) := by decide +kernel
theorem dX10_pairUp_78 : decode cX10_pairUp 78 = .ok (.iconst 1, 1) := by decide +kernel
theorem dX10_pairUp_79 : decode cX10_pairUp 79 = .ok (.iadd, 1) := by decide +kernel
theorem dX10_pairUp_80 : decode cX10_pairUp 80 = .ok (.putfield 250, 3) := by decide +kernel
theorem dX10_pairUp_83 : decode cX10_pairUp 83 = .ok (.iinc 2 1, 3) := by decide +kernel
theorem dX10_pairUp_86 : decode cX10_pairUp 86 = .ok (.goto (-69), 3) := by decide +kernel
theorem dX10_pairUp_89 : decode cX10_pairUp 89 = .ok (.iinc 1 1, 3) := by decide +kernel
theorem dX10_pairUp_92 : decode cX10_pairUp 92 = .ok (.goto (-85), 3) := by decide +kernel
theorem dX10_pairUp_95 : decode cX10_pairUp 95 = .ok (.return_, 1) := by decide +kernel
abbrev cX10_draw : ByteArray := prog_13_method_37_code
def yX10_draw : MethodName := ⟨RX10, "draw", "()I"⟩
theorem dX10_draw_0 : decode cX10_draw 0 = .ok (.aload_n 0, 1) := by decide +kernel
theorem dX10_draw_1 : decode cX10_draw 1 = .ok (.aload_n 0, 1) := by decide +kernel
theorem dX10_draw_2 : decode cX10_draw 2 = .ok (.getfield 231, 3) := by decide +kernel
theorem dX10_draw_5 : decode cX10_draw 5 = .ok (.iconst 1, 1) := by decide +kernel
theorem dX10_draw_6 : decode cX10_draw 6 = .ok (.if_icmp .ne 7, 3) := by decide +kernel
theorem dX10_draw_9 : decode cX10_draw 9 = .ok (.iconst 0, 1) := by decide +kernel
theorem dX10_draw_10 : decode cX10_draw 10 = .ok (.goto 4, 3) := by decide +kernel
theorem dX10_draw_13 : decode cX10_draw 13 = .ok (.iconst 1, 1) := by decide +kernel
theorem dX10_draw_14 : decode cX10_draw 14 = .ok (.putfield 1, 3) := by decide +kernel
theorem dX10_draw_17 : decode cX10_draw 17 = .ok (.aload_n 0, 1) := by decide +kernel
theorem dX10_draw_18 : decode cX10_draw 18 = .ok (.getfield 1, 3) := by decide +kernel
theorem dX10_draw_21 : decode cX10_draw 21 = .ok (.ifCond .le 5, 3) := by decide +kernel
theorem dX10_draw_24 : decode cX10_draw 24 = .ok (.iconst 0, 1) := by decide +kernel
theorem dX10_draw_25 : decode cX10_draw 25 = .ok (.ireturn, 1) := by decide +kernel
theorem dX10_draw_26 : decode cX10_draw 26 = .ok (.aload_n 0, 1) := by decide +kernel
theorem dX10_draw_27 : decode cX10_draw 27 = .ok (.invokevirtual 299, 3) := by decide +kernel
theorem dX10_draw_30 : decode cX10_draw 30 = .ok (.istore_n 1, 1) := by decide +kernel
theorem dX10_draw_31 : decode cX10_draw 31 = .ok (.iload_n 1, 1) := by decide +kernel
theorem dX10_draw_32 : decode cX10_draw 32 = .ok (.iconst (-1), 1) := by decide +kernel
theorem dX10_draw_33 : decode cX10_draw 33 = .ok (.if_icmp .ne 5, 3) := by decide +kernel
theorem dX10_draw_36 : decode cX10_draw 36 = .ok (.iconst (-1), 1) := by decide +kernel
theorem dX10_draw_37 : decode cX10_draw 37 = .ok (.ireturn, 1) := by decide +kernel
theorem dX10_draw_38 : decode cX10_draw 38 = .ok (.aload_n 0, 1) := by decide +kernel
theorem dX10_draw_39 : decode cX10_draw 39 = .ok (.dup, 1) := by decide +kernel
theorem dX10_draw_40 : decode cX10_draw 40 = .ok (.getfield 288, 3) := by decide +kernel
theorem dX10_draw_43 : decode cX10_draw 43 = .ok (.iconst 1, 1) := by decide +kernel
theorem dX10_draw_44 : decode cX10_draw 44 = .ok (.iadd, 1) := by decide +kernel
theorem dX10_draw_45 : decode cX10_draw 45 = .ok (.putfield 288, 3) := by decide +kernel
theorem dX10_draw_48 : decode cX10_draw 48 = .ok (.iload_n 1, 1) := by decide +kernel
theorem dX10_draw_49 : decode cX10_draw 49 = .ok (.bipush (-2), 2) := by decide +kernel
theorem dX10_draw_51 : decode cX10_draw 51 = .ok (.if_icmp .ne 16, 3) := by decide +kernel
theorem dX10_draw_54 : decode cX10_draw 54 = .ok (.aload_n 0, 1) := by decide +kernel
theorem dX10_draw_55 : decode cX10_draw 55 = .ok (.dup, 1) := by decide +kernel
theorem dX10_draw_56 : decode cX10_draw 56 = .ok (.getfield 302, 3) := by decide +kernel
theorem dX10_draw_59 : decode cX10_draw 59 = .ok (.iconst 1, 1) := by decide +kernel
theorem dX10_draw_60 : decode cX10_draw 60 = .ok (.iadd, 1) := by decide +kernel
theorem dX10_draw_61 : decode cX10_draw 61 = .ok (.putfield 302, 3) := by decide +kernel
theorem dX10_draw_64 : decode cX10_draw 64 = .ok (.goto 13, 3) := by decide +kernel
theorem dX10_draw_67 : decode cX10_draw 67 = .ok (.aload_n 0, 1) := by decide +kernel
theorem dX10_draw_68 : decode cX10_draw 68 = .ok (.getfield 67, 3) := by decide +kernel
theorem dX10_draw_71 : decode cX10_draw 71 = .ok (.iload_n 1, 1) := by decide +kernel
theorem dX10_draw_72 : decode cX10_draw 72 = .ok (.dup2, 1) := by decide +kernel
theorem dX10_draw_73 : decode cX10_draw 73 = .ok (.iaload, 1) := by decide +kernel
theorem dX10_draw_74 : decode cX10_draw 74 = .ok (.iconst 1, 1) := by decide +kernel
theorem dX10_draw_75 : decode cX10_draw 75 = .ok (.iadd, 1) := by decide +kernel
theorem dX10_draw_76 : decode cX10_draw 76 = .ok (.iastore, 1) := by decide +kernel
theorem dX10_draw_77 : decode cX10_draw 77 = .ok (.iload_n 1, 1) := by decide +kernel
theorem dX10_draw_78 : decode cX10_draw 78 = .ok (.bipush (-2), 2) := by decide +kernel
theorem dX10_draw_80 : decode cX10_draw 80 = .ok (.if_icmp .eq 27, 3) := by decide +kernel
theorem dX10_draw_83 : decode cX10_draw 83 = .ok (.aload_n 0, 1) := by decide +kernel
theorem dX10_draw_84 : decode cX10_draw 84 = .ok (.getfield 64, 3) := by decide +kernel
theorem dX10_draw_87 : decode cX10_draw 87 = .ok (.iload_n 1, 1) := by decide +kernel
theorem dX10_draw_88 : decode cX10_draw 88 = .ok (.baload, 1) := by decide +kernel
theorem dX10_draw_89 : decode cX10_draw 89 = .ok (.bipush (-2), 2) := by decide +kernel
theorem dX10_draw_91 : decode cX10_draw 91 = .ok (.if_icmp .ne 16, 3) := by decide +kernel
theorem dX10_draw_94 : decode cX10_draw 94 = .ok (.aload_n 0, 1) := by decide +kernel
theorem dX10_draw_95 : decode cX10_draw 95 = .ok (.iload_n 1, 1) := by decide +kernel
theorem dX10_draw_96 : decode cX10_draw 96 = .ok (.putfield 70, 3) := by decide +kernel
theorem dX10_draw_99 : decode cX10_draw 99 = .ok (.aload_n 0, 1) := by decide +kernel
theorem dX10_draw_100 : decode cX10_draw 100 = .ok (.iconst 2, 1) := by decide +kernel
theorem dX10_draw_101 : decode cX10_draw 101 = .ok (.putfield 231, 3) := by decide +kernel
theorem dX10_draw_104 : decode cX10_draw 104 = .ok (.goto 8, 3) := by decide +kernel
theorem dX10_draw_107 : decode cX10_draw 107 = .ok (.aload_n 0, 1) := by decide +kernel
theorem dX10_draw_108 : decode cX10_draw 108 = .ok (.iload_n 1, 1) := by decide +kernel
theorem dX10_draw_109 : decode cX10_draw 109 = .ok (.invokevirtual 305, 3) := by decide +kernel
theorem dX10_draw_112 : decode cX10_draw 112 = .ok (.iload_n 1, 1) := by decide +kernel
theorem dX10_draw_113 : decode cX10_draw 113 = .ok (.ireturn, 1) := by decide +kernel
abbrev cX10_number : ByteArray := prog_13_method_36_code
def yX10_number : MethodName := ⟨RX10, "number", "()I"⟩
theorem dX10_number_0 : decode cX10_number 0 = .ok (.aload_n 0, 1) := by decide +kernel
theorem dX10_number_1 : decode cX10_number 1 = .ok (.getfield 261, 3) := by decide +kernel
theorem dX10_number_4 : decode cX10_number 4 = .ok (.ifCond .eq 52, 3) := by decide +kernel
theorem dX10_number_7 : decode cX10_number 7 = .ok (.aload_n 0, 1) := by decide +kernel
theorem dX10_number_8 : decode cX10_number 8 = .ok (.aload_n 0, 1) := by decide +kernel
theorem dX10_number_9 : decode cX10_number 9 = .ok (.getfield 288, 3) := by decide +kernel
theorem dX10_number_12 : decode cX10_number 12 = .ok (.iconst 1, 1) := by decide +kernel
theorem dX10_number_13 : decode cX10_number 13 = .ok (.iadd, 1) := by decide +kernel
theorem dX10_number_14 : decode cX10_number 14 = .ok (.invokevirtual 291, 3) := by decide +kernel
theorem dX10_number_17 : decode cX10_number 17 = .ok (.lconst 0, 1) := by decide +kernel
theorem dX10_number_18 : decode cX10_number 18 = .ok (.lstore_n 1, 1) := by decide +kernel
theorem dX10_number_19 : decode cX10_number 19 = .ok (.iconst 0, 1) := by decide +kernel
theorem dX10_number_20 : decode cX10_number 20 = .ok (.istore_n 3, 1) := by decide +kernel
theorem dX10_number_21 : decode cX10_number 21 = .ok (.iload_n 3, 1) := by decide +kernel
theorem dX10_number_22 : decode cX10_number 22 = .ok (.bipush 32, 2) := by decide +kernel
theorem dX10_number_24 : decode cX10_number 24 = .ok (.if_icmp .ge 29, 3) := by decide +kernel
theorem dX10_number_27 : decode cX10_number 27 = .ok (.ldc2_w 294, 3) := by decide +kernel
theorem dX10_number_30 : decode cX10_number 30 = .ok (.lload_n 1, 1) := by decide +kernel
theorem dX10_number_31 : decode cX10_number 31 = .ok (.lmul, 1) := by decide +kernel
theorem dX10_number_32 : decode cX10_number 32 = .ok (.aload_n 0, 1) := by decide +kernel
theorem dX10_number_33 : decode cX10_number 33 = .ok (.getfield 176, 3) := by decide +kernel
theorem dX10_number_36 : decode cX10_number 36 = .ok (.iload_n 3, 1) := by decide +kernel
theorem dX10_number_37 : decode cX10_number 37 = .ok (.iaload, 1) := by decide +kernel
theorem dX10_number_38 : decode cX10_number 38 = .ok (.i2l, 1) := by decide +kernel
theorem dX10_number_39 : decode cX10_number 39 = .ok (.ladd, 1) := by decide +kernel
theorem dX10_number_40 : decode cX10_number 40 = .ok (.aload_n 0, 1) := by decide +kernel
theorem dX10_number_41 : decode cX10_number 41 = .ok (.getfield 240, 3) := by decide +kernel
theorem dX10_number_44 : decode cX10_number 44 = .ok (.i2l, 1) := by decide +kernel
theorem dX10_number_45 : decode cX10_number 45 = .ok (.lrem, 1) := by decide +kernel
theorem dX10_number_46 : decode cX10_number 46 = .ok (.lstore_n 1, 1) := by decide +kernel
theorem dX10_number_47 : decode cX10_number 47 = .ok (.iinc 3 1, 3) := by decide +kernel
theorem dX10_number_50 : decode cX10_number 50 = .ok (.goto (-29), 3) := by decide +kernel
theorem dX10_number_53 : decode cX10_number 53 = .ok (.lload_n 1, 1) := by decide +kernel
theorem dX10_number_54 : decode cX10_number 54 = .ok (.l2i, 1) := by decide +kernel
theorem dX10_number_55 : decode cX10_number 55 = .ok (.ireturn, 1) := by decide +kernel
theorem dX10_number_56 : decode cX10_number 56 = .ok (.aload_n 0, 1) := by decide +kernel
theorem dX10_number_57 : decode cX10_number 57 = .ok (.invokevirtual 296, 3) := by decide +kernel
theorem dX10_number_60 : decode cX10_number 60 = .ok (.istore_n 1, 1) := by decide +kernel
theorem dX10_number_61 : decode cX10_number 61 = .ok (.aload_n 0, 1) := by decide +kernel
theorem dX10_number_62 : decode cX10_number 62 = .ok (.getfield 247, 3) := by decide +kernel
theorem dX10_number_65 : decode cX10_number 65 = .ok (.iload_n 1, 1) := by decide +kernel
theorem dX10_number_66 : decode cX10_number 66 = .ok (.if_icmp .ge 5, 3) := by decide +kernel
theorem dX10_number_69 : decode cX10_number 69 = .ok (.iconst (-1), 1) := by decide +kernel
theorem dX10_number_70 : decode cX10_number 70 = .ok (.ireturn, 1) := by decide +kernel
theorem dX10_number_71 : decode cX10_number 71 = .ok (.iconst 0, 1) := by decide +kernel
theorem dX10_number_72 : decode cX10_number 72 = .ok (.istore_n 2, 1) := by decide +kernel
theorem dX10_number_73 : decode cX10_number 73 = .ok (.iconst 0, 1) := by decide +kernel
theorem dX10_number_74 : decode cX10_number 74 = .ok (.istore_n 3, 1) := by decide +kernel
theorem dX10_number_75 : decode cX10_number 75 = .ok (.iload_n 3, 1) := by decide +kernel
theorem dX10_number_76 : decode cX10_number 76 = .ok (.iload_n 1, 1) := by decide +kernel
theorem dX10_number_77 : decode cX10_number 77 = .ok (.if_icmp .ge 20, 3) := by decide +kernel
theorem dX10_number_80 : decode cX10_number 80 = .ok (.iconst 2, 1) := by decide +kernel
theorem dX10_number_81 : decode cX10_number 81 = .ok (.iload_n 2, 1) := by decide +kernel
theorem dX10_number_82 : decode cX10_number 82 = .ok (.imul, 1) := by decide +kernel
theorem dX10_number_83 : decode cX10_number 83 = .ok (.aload_n 0, 1) := by decide +kernel
theorem dX10_number_84 : decode cX10_number 84 = .ok (.getfield 45, 3) := by decide +kernel
theorem dX10_number_87 : decode cX10_number 87 = .ok (.iload_n 3, 1) := by decide +kernel
theorem dX10_number_88 : decode cX10_number 88 = .ok (.baload, 1) := by decide +kernel
theorem dX10_number_89 : decode cX10_number 89 = .ok (.iadd, 1) := by decide +kernel
theorem dX10_number_90 : decode cX10_number 90 = .ok (.istore_n 2, 1) := by decide +kernel
theorem dX10_number_91 : decode cX10_number 91 = .ok (.iinc 3 1, 3) := by decide +kernel
theorem dX10_number_94 : decode cX10_number 94 = .ok (.goto (-19), 3) := by decide +kernel
theorem dX10_number_97 : decode cX10_number 97 = .ok (.aload_n 0, 1) := by decide +kernel
theorem dX10_number_98 : decode cX10_number 98 = .ok (.dup, 1) := by decide +kernel
theorem dX10_number_99 : decode cX10_number 99 = .ok (.getfield 247, 3) := by decide +kernel
theorem dX10_number_102 : decode cX10_number 102 = .ok (.iload_n 1, 1) := by decide +kernel
theorem dX10_number_103 : decode cX10_number 103 = .ok (.isub, 1) := by decide +kernel
theorem dX10_number_104 : decode cX10_number 104 = .ok (.putfield 247, 3) := by decide +kernel
theorem dX10_number_107 : decode cX10_number 107 = .ok (.iconst 0, 1) := by decide +kernel
theorem dX10_number_108 : decode cX10_number 108 = .ok (.istore_n 3, 1) := by decide +kernel
theorem dX10_number_109 : decode cX10_number 109 = .ok (.iload_n 3, 1) := by decide +kernel
theorem dX10_number_110 : decode cX10_number 110 = .ok (.aload_n 0, 1) := by decide +kernel
theorem dX10_number_111 : decode cX10_number 111 = .ok (.getfield 247, 3) := by decide +kernel
theorem dX10_number_114 : decode cX10_number 114 = .ok (.if_icmp .ge 23, 3) := by decide +kernel
theorem dX10_number_117 : decode cX10_number 117 = .ok (.aload_n 0, 1) := by decide +kernel
theorem dX10_number_118 : decode cX10_number 118 = .ok (.getfield 45, 3) := by decide +kernel
