set_option maxRecDepth 100000
theorem dX10_times_75 : decode cX10_times 75 = .ok (.ifCond .eq 47, 3) := by decide +kernel
theorem dX10_times_78 : decode cX10_times 78 = .ok (.aload_n 0, 1) := by decide +kernel
theorem dX10_times_79 : decode cX10_times 79 = .ok (.getfield 76, 3) := by decide +kernel
theorem dX10_times_82 : decode cX10_times 82 = .ok (.sipush 1200, 3) := by decide +kernel
theorem dX10_times_85 : decode cX10_times 85 = .ok (.iload_n 1, 1) := by decide +kernel
theorem dX10_times_86 : decode cX10_times 86 = .ok (.imul, 1) := by decide +kernel
theorem dX10_times_87 : decode cX10_times 87 = .ok (.aload_n 0, 1) := by decide +kernel
theorem dX10_times_88 : decode cX10_times 88 = .ok (.getfield 79, 3) := by decide +kernel
theorem dX10_times_91 : decode cX10_times 91 = .ok (.iload_n 1, 1) := by decide +kernel
theorem dX10_times_92 : decode cX10_times 92 = .ok (.iaload, 1) := by decide +kernel
theorem dX10_times_93 : decode cX10_times 93 = .ok (.iadd, 1) := by decide +kernel
theorem dX10_times_94 : decode cX10_times 94 = .ok (.lload 4, 2) := by decide +kernel
theorem dX10_times_96 : decode cX10_times 96 = .ok (.ldc2_w 186, 3) := by decide +kernel
theorem dX10_times_99 : decode cX10_times 99 = .ok (.land, 1) := by decide +kernel
theorem dX10_times_100 : decode cX10_times 100 = .ok (.l2i, 1) := by decide +kernel
theorem dX10_times_101 : decode cX10_times 101 = .ok (.iastore, 1) := by decide +kernel
theorem dX10_times_102 : decode cX10_times 102 = .ok (.aload_n 0, 1) := by decide +kernel
theorem dX10_times_103 : decode cX10_times 103 = .ok (.getfield 79, 3) := by decide +kernel
theorem dX10_times_106 : decode cX10_times 106 = .ok (.iload_n 1, 1) := by decide +kernel
theorem dX10_times_107 : decode cX10_times 107 = .ok (.dup2, 1) := by decide +kernel
theorem dX10_times_108 : decode cX10_times 108 = .ok (.iaload, 1) := by decide +kernel
theorem dX10_times_109 : decode cX10_times 109 = .ok (.iconst 1, 1) := by decide +kernel
theorem dX10_times_110 : decode cX10_times 110 = .ok (.iadd, 1) := by decide +kernel
theorem dX10_times_111 : decode cX10_times 111 = .ok (.iastore, 1) := by decide +kernel
theorem dX10_times_112 : decode cX10_times 112 = .ok (.lload 4, 2) := by decide +kernel
theorem dX10_times_114 : decode cX10_times 114 = .ok (.bipush 16, 2) := by decide +kernel
theorem dX10_times_116 : decode cX10_times 116 = .ok (.lushr, 1) := by decide +kernel
theorem dX10_times_117 : decode cX10_times 117 = .ok (.lstore 4, 2) := by decide +kernel
theorem dX10_times_119 : decode cX10_times 119 = .ok (.goto (-48), 3) := by decide +kernel
theorem dX10_times_122 : decode cX10_times 122 = .ok (.aload_n 0, 1) := by decide +kernel
theorem dX10_times_123 : decode cX10_times 123 = .ok (.iload_n 1, 1) := by decide +kernel
theorem dX10_times_124 : decode cX10_times 124 = .ok (.invokevirtual 188, 3) := by decide +kernel
theorem dX10_times_127 : decode cX10_times 127 = .ok (.return_, 1) := by decide +kernel
abbrev cX10_trim : ByteArray := prog_13_method_3_code
def yX10_trim : MethodName := ⟨RX10, "trim", "(I)V"⟩
theorem dX10_trim_0 : decode cX10_trim 0 = .ok (.aload_n 0, 1) := by decide +kernel
theorem dX10_trim_1 : decode cX10_trim 1 = .ok (.getfield 79, 3) := by decide +kernel
theorem dX10_trim_4 : decode cX10_trim 4 = .ok (.iload_n 1, 1) := by decide +kernel
theorem dX10_trim_5 : decode cX10_trim 5 = .ok (.iaload, 1) := by decide +kernel
theorem dX10_trim_6 : decode cX10_trim 6 = .ok (.ifCond .le 38, 3) := by decide +kernel
theorem dX10_trim_9 : decode cX10_trim 9 = .ok (.aload_n 0, 1) := by decide +kernel
theorem dX10_trim_10 : decode cX10_trim 10 = .ok (.getfield 76, 3) := by decide +kernel
theorem dX10_trim_13 : decode cX10_trim 13 = .ok (.sipush 1200, 3) := by decide +kernel
theorem dX10_trim_16 : decode cX10_trim 16 = .ok (.iload_n 1, 1) := by decide +kernel
theorem dX10_trim_17 : decode cX10_trim 17 = .ok (.imul, 1) := by decide +kernel
theorem dX10_trim_18 : decode cX10_trim 18 = .ok (.aload_n 0, 1) := by decide +kernel
theorem dX10_trim_19 : decode cX10_trim 19 = .ok (.getfield 79, 3) := by decide +kernel
theorem dX10_trim_22 : decode cX10_trim 22 = .ok (.iload_n 1, 1) := by decide +kernel
theorem dX10_trim_23 : decode cX10_trim 23 = .ok (.iaload, 1) := by decide +kernel
theorem dX10_trim_24 : decode cX10_trim 24 = .ok (.iadd, 1) := by decide +kernel
theorem dX10_trim_25 : decode cX10_trim 25 = .ok (.iconst 1, 1) := by decide +kernel
theorem dX10_trim_26 : decode cX10_trim 26 = .ok (.isub, 1) := by decide +kernel
theorem dX10_trim_27 : decode cX10_trim 27 = .ok (.iaload, 1) := by decide +kernel
theorem dX10_trim_28 : decode cX10_trim 28 = .ok (.ifCond .ne 16, 3) := by decide +kernel
theorem dX10_trim_31 : decode cX10_trim 31 = .ok (.aload_n 0, 1) := by decide +kernel
theorem dX10_trim_32 : decode cX10_trim 32 = .ok (.getfield 79, 3) := by decide +kernel
theorem dX10_trim_35 : decode cX10_trim 35 = .ok (.iload_n 1, 1) := by decide +kernel
theorem dX10_trim_36 : decode cX10_trim 36 = .ok (.dup2, 1) := by decide +kernel
theorem dX10_trim_37 : decode cX10_trim 37 = .ok (.iaload, 1) := by decide +kernel
theorem dX10_trim_38 : decode cX10_trim 38 = .ok (.iconst 1, 1) := by decide +kernel
theorem dX10_trim_39 : decode cX10_trim 39 = .ok (.isub, 1) := by decide +kernel
theorem dX10_trim_40 : decode cX10_trim 40 = .ok (.iastore, 1) := by decide +kernel
theorem dX10_trim_41 : decode cX10_trim 41 = .ok (.goto (-41), 3) := by decide +kernel
theorem dX10_trim_44 : decode cX10_trim 44 = .ok (.return_, 1) := by decide +kernel
abbrev cX10_copy : ByteArray := prog_13_method_5_code
def yX10_copy : MethodName := ⟨RX10, "copy", "(II)V"⟩
theorem dX10_copy_0 : decode cX10_copy 0 = .ok (.aload_n 0, 1) := by decide +kernel
theorem dX10_copy_1 : decode cX10_copy 1 = .ok (.getfield 79, 3) := by decide +kernel
theorem dX10_copy_4 : decode cX10_copy 4 = .ok (.iload_n 1, 1) := by decide +kernel
theorem dX10_copy_5 : decode cX10_copy 5 = .ok (.aload_n 0, 1) := by decide +kernel
theorem dX10_copy_6 : decode cX10_copy 6 = .ok (.getfield 79, 3) := by decide +kernel
theorem dX10_copy_9 : decode cX10_copy 9 = .ok (.iload_n 2, 1) := by decide +kernel
theorem dX10_copy_10 : decode cX10_copy 10 = .ok (.iaload, 1) := by decide +kernel
theorem dX10_copy_11 : decode cX10_copy 11 = .ok (.iastore, 1) := by decide +kernel
theorem dX10_copy_12 : decode cX10_copy 12 = .ok (.iconst 0, 1) := by decide +kernel
theorem dX10_copy_13 : decode cX10_copy 13 = .ok (.istore_n 3, 1) := by decide +kernel
theorem dX10_copy_14 : decode cX10_copy 14 = .ok (.iload_n 3, 1) := by decide +kernel
theorem dX10_copy_15 : decode cX10_copy 15 = .ok (.aload_n 0, 1) := by decide +kernel
theorem dX10_copy_16 : decode cX10_copy 16 = .ok (.getfield 79, 3) := by decide +kernel
theorem dX10_copy_19 : decode cX10_copy 19 = .ok (.iload_n 2, 1) := by decide +kernel
theorem dX10_copy_20 : decode cX10_copy 20 = .ok (.iaload, 1) := by decide +kernel
theorem dX10_copy_21 : decode cX10_copy 21 = .ok (.if_icmp .ge 33, 3) := by decide +kernel
theorem dX10_copy_24 : decode cX10_copy 24 = .ok (.aload_n 0, 1) := by decide +kernel
theorem dX10_copy_25 : decode cX10_copy 25 = .ok (.getfield 76, 3) := by decide +kernel
theorem dX10_copy_28 : decode cX10_copy 28 = .ok (.sipush 1200, 3) := by decide +kernel
theorem dX10_copy_31 : decode cX10_copy 31 = .ok (.iload_n 1, 1) := by decide +kernel
theorem dX10_copy_32 : decode cX10_copy 32 = .ok (.imul, 1) := by decide +kernel
theorem dX10_copy_33 : decode cX10_copy 33 = .ok (.iload_n 3, 1) := by decide +kernel
theorem dX10_copy_34 : decode cX10_copy 34 = .ok (.iadd, 1) := by decide +kernel
theorem dX10_copy_35 : decode cX10_copy 35 = .ok (.aload_n 0, 1) := by decide +kernel
theorem dX10_copy_36 : decode cX10_copy 36 = .ok (.getfield 76, 3) := by decide +kernel
theorem dX10_copy_39 : decode cX10_copy 39 = .ok (.sipush 1200, 3) := by decide +kernel
theorem dX10_copy_42 : decode cX10_copy 42 = .ok (.iload_n 2, 1) := by decide +kernel
theorem dX10_copy_43 : decode cX10_copy 43 = .ok (.imul, 1) := by decide +kernel
theorem dX10_copy_44 : decode cX10_copy 44 = .ok (.iload_n 3, 1) := by decide +kernel
theorem dX10_copy_45 : decode cX10_copy 45 = .ok (.iadd, 1) := by decide +kernel
theorem dX10_copy_46 : decode cX10_copy 46 = .ok (.iaload, 1) := by decide +kernel
theorem dX10_copy_47 : decode cX10_copy 47 = .ok (.iastore, 1) := by decide +kernel
theorem dX10_copy_48 : decode cX10_copy 48 = .ok (.iinc 3 1, 3) := by decide +kernel
theorem dX10_copy_51 : decode cX10_copy 51 = .ok (.goto (-37), 3) := by decide +kernel
theorem dX10_copy_54 : decode cX10_copy 54 = .ok (.return_, 1) := by decide +kernel
abbrev cX10_compare : ByteArray := prog_13_method_8_code
def yX10_compare : MethodName := ⟨RX10, "compare", "(II)I"⟩
theorem dX10_compare_0 : decode cX10_compare 0 = .ok (.aload_n 0, 1) := by decide +kernel
theorem dX10_compare_1 : decode cX10_compare 1 = .ok (.getfield 79, 3) := by decide +kernel
theorem dX10_compare_4 : decode cX10_compare 4 = .ok (.iload_n 1, 1) := by decide +kernel
theorem dX10_compare_5 : decode cX10_compare 5 = .ok (.iaload, 1) := by decide +kernel
theorem dX10_compare_6 : decode cX10_compare 6 = .ok (.aload_n 0, 1) := by decide +kernel
theorem dX10_compare_7 : decode cX10_compare 7 = .ok (.getfield 79, 3) := by decide +kernel
theorem dX10_compare_10 : decode cX10_compare 10 = .ok (.iload_n 2, 1) := by decide +kernel
theorem dX10_compare_11 : decode cX10_compare 11 = .ok (.iaload, 1) := by decide +kernel
theorem dX10_compare_12 : decode cX10_compare 12 = .ok (.if_icmp .eq 24, 3) := by decide +kernel
theorem dX10_compare_15 : decode cX10_compare 15 = .ok (.aload_n 0, 1) := by decide +kernel
theorem dX10_compare_16 : decode cX10_compare 16 = .ok (.getfield 79, 3) := by decide +kernel
theorem dX10_compare_19 : decode cX10_compare 19 = .ok (.iload_n 1, 1) := by decide +kernel
theorem dX10_compare_20 : decode cX10_compare 20 = .ok (.iaload, 1) := by decide +kernel
theorem dX10_compare_21 : decode cX10_compare 21 = .ok (.aload_n 0, 1) := by decide +kernel
theorem dX10_compare_22 : decode cX10_compare 22 = .ok (.getfield 79, 3) := by decide +kernel
theorem dX10_compare_25 : decode cX10_compare 25 = .ok (.iload_n 2, 1) := by decide +kernel
theorem dX10_compare_26 : decode cX10_compare 26 = .ok (.iaload, 1) := by decide +kernel
theorem dX10_compare_27 : decode cX10_compare 27 = .ok (.if_icmp .ge 7, 3) := by decide +kernel
theorem dX10_compare_30 : decode cX10_compare 30 = .ok (.iconst (-1), 1) := by decide +kernel
theorem dX10_compare_31 : decode cX10_compare 31 = .ok (.goto 4, 3) := by decide +kernel
theorem dX10_compare_34 : decode cX10_compare 34 = .ok (.iconst 1, 1) := by decide +kernel
theorem dX10_compare_35 : decode cX10_compare 35 = .ok (.ireturn, 1) := by decide +kernel
theorem dX10_compare_36 : decode cX10_compare 36 = .ok (.aload_n 0, 1) := by decide +kernel
theorem dX10_compare_37 : decode cX10_compare 37 = .ok (.getfield 79, 3) := by decide +kernel
theorem dX10_compare_40 : decode cX10_compare 40 = .ok (.iload_n 1, 1) := by decide +kernel
theorem dX10_compare_41 : decode cX10_compare 41 = .ok (.iaload, 1) := by decide +kernel
theorem dX10_compare_42 : decode cX10_compare 42 = .ok (.iconst 1, 1) := by decide +kernel
theorem dX10_compare_43 : decode cX10_compare 43 = .ok (.isub, 1) := by decide +kernel
theorem dX10_compare_44 : decode cX10_compare 44 = .ok (.istore_n 3, 1) := by decide +kernel
theorem dX10_compare_45 : decode cX10_compare 45 = .ok (.iload_n 3, 1) := by decide +kernel
theorem dX10_compare_46 : decode cX10_compare 46 = .ok (.ifCond .lt 57, 3) := by decide +kernel
theorem dX10_compare_49 : decode cX10_compare 49 = .ok (.aload_n 0, 1) := by decide +kernel
theorem dX10_compare_50 : decode cX10_compare 50 = .ok (.getfield 76, 3) := by decide +kernel
theorem dX10_compare_53 : decode cX10_compare 53 = .ok (.sipush 1200, 3) := by decide +kernel
theorem dX10_compare_56 : decode cX10_compare 56 = .ok (.iload_n 1, 1) := by decide +kernel
theorem dX10_compare_57 : decode cX10_compare 57 = .ok (.imul, 1) := by decide +kernel
theorem dX10_compare_58 : decode cX10_compare 58 = .ok (.iload_n 3, 1) := by decide +kernel
theorem dX10_compare_59 : decode cX10_compare 59 = .ok (.iadd, 1) := by decide +kernel
theorem dX10_compare_60 : decode cX10_compare 60 = .ok (.iaload, 1) := by decide +kernel
theorem dX10_compare_61 : decode cX10_compare 61 = .ok (.istore 4, 2) := by decide +kernel
theorem dX10_compare_63 : decode cX10_compare 63 = .ok (.aload_n 0, 1) := by decide +kernel
theorem dX10_compare_64 : decode cX10_compare 64 = .ok (.getfield 76, 3) := by decide +kernel
theorem dX10_compare_67 : decode cX10_compare 67 = .ok (.sipush 1200, 3) := by decide +kernel
theorem dX10_compare_70 : decode cX10_compare 70 = .ok (.iload_n 2, 1) := by decide +kernel
theorem dX10_compare_71 : decode cX10_compare 71 = .ok (.imul, 1) := by decide +kernel
theorem dX10_compare_72 : decode cX10_compare 72 = .ok (.iload_n 3, 1) := by decide +kernel
theorem dX10_compare_73 : decode cX10_compare 73 = .ok (.iadd, 1) := by decide +kernel
theorem dX10_compare_74 : decode cX10_compare 74 = .ok (.iaload, 1) := by decide +kernel
theorem dX10_compare_75 : decode cX10_compare 75 = .ok (.istore 5, 2) := by decide +kernel
theorem dX10_compare_77 : decode cX10_compare 77 = .ok (.iload 4, 2) := by decide +kernel
theorem dX10_compare_79 : decode cX10_compare 79 = .ok (.iload 5, 2) := by decide +kernel
theorem dX10_compare_81 : decode cX10_compare 81 = .ok (.if_icmp .eq 16, 3) := by decide +kernel
theorem dX10_compare_84 : decode cX10_compare 84 = .ok (.iload 4, 2) := by decide +kernel
theorem dX10_compare_86 : decode cX10_compare 86 = .ok (.iload 5, 2) := by decide +kernel
theorem dX10_compare_88 : decode cX10_compare 88 = .ok (.if_icmp .ge 7, 3) := by decide +kernel
theorem dX10_compare_91 : decode cX10_compare 91 = .ok (.iconst (-1), 1) := by decide +kernel
theorem dX10_compare_92 : decode cX10_compare 92 = .ok (.goto 4, 3) := by decide +kernel
theorem dX10_compare_95 : decode cX10_compare 95 = .ok (.iconst 1, 1) := by decide +kernel
theorem dX10_compare_96 : decode cX10_compare 96 = .ok (.ireturn, 1) := by decide +kernel
theorem dX10_compare_97 : decode cX10_compare 97 = .ok (.iinc 3 (-1), 3) := by decide +kernel
theorem dX10_compare_100 : decode cX10_compare 100 = .ok (.goto (-55), 3) := by decide +kernel
theorem dX10_compare_103 : decode cX10_compare 103 = .ok (.iconst 0, 1) := by decide +kernel
theorem dX10_compare_104 : decode cX10_compare 104 = .ok (.ireturn, 1) := by decide +kernel
abbrev cX10_ratio : ByteArray := prog_13_method_32_code
def yX10_ratio : MethodName := ⟨RX10, "ratio", "(III)V"⟩
theorem dX10_ratio_0 : decode cX10_ratio 0 = .ok (.aload_n 0, 1) := by decide +kernel
theorem dX10_ratio_1 : decode cX10_ratio 1 = .ok (.getfield 52, 3) := by decide +kernel
theorem dX10_ratio_4 : decode cX10_ratio 4 = .ok (.iload_n 1, 1) := by decide +kernel
theorem dX10_ratio_5 : decode cX10_ratio 5 = .ok (.iaload, 1) := by decide +kernel
theorem dX10_ratio_6 : decode cX10_ratio 6 = .ok (.istore 4, 2) := by decide +kernel
theorem dX10_ratio_8 : decode cX10_ratio 8 = .ok (.aload_n 0, 1) := by decide +kernel
theorem dX10_ratio_9 : decode cX10_ratio 9 = .ok (.getfield 55, 3) := by decide +kernel
theorem dX10_ratio_12 : decode cX10_ratio 12 = .ok (.iload_n 1, 1) := by decide +kernel
theorem dX10_ratio_13 : decode cX10_ratio 13 = .ok (.iaload, 1) := by decide +kernel
theorem dX10_ratio_14 : decode cX10_ratio 14 = .ok (.istore 5, 2) := by decide +kernel
theorem dX10_ratio_16 : decode cX10_ratio 16 = .ok (.aload_n 0, 1) := by decide +kernel
theorem dX10_ratio_17 : decode cX10_ratio 17 = .ok (.iload_n 2, 1) := by decide +kernel
theorem dX10_ratio_18 : decode cX10_ratio 18 = .ok (.lconst 1, 1) := by decide +kernel
theorem dX10_ratio_19 : decode cX10_ratio 19 = .ok (.invokevirtual 182, 3) := by decide +kernel
theorem dX10_ratio_22 : decode cX10_ratio 22 = .ok (.aload_n 0, 1) := by decide +kernel
theorem dX10_ratio_23 : decode cX10_ratio 23 = .ok (.iload_n 3, 1) := by decide +kernel
theorem dX10_ratio_24 : decode cX10_ratio 24 = .ok (.lconst 1, 1) := by decide +kernel
theorem dX10_ratio_25 : decode cX10_ratio 25 = .ok (.invokevirtual 182, 3) := by decide +kernel
theorem dX10_ratio_28 : decode cX10_ratio 28 = .ok (.aload_n 0, 1) := by decide +kernel
theorem dX10_ratio_29 : decode cX10_ratio 29 = .ok (.getfield 257, 3) := by decide +kernel
theorem dX10_ratio_32 : decode cX10_ratio 32 = .ok (.ifCond .ne 88, 3) := by decide +kernel
theorem dX10_ratio_35 : decode cX10_ratio 35 = .ok (.aload_n 0, 1) := by decide +kernel
theorem dX10_ratio_36 : decode cX10_ratio 36 = .ok (.iload_n 2, 1) := by decide +kernel
theorem dX10_ratio_37 : decode cX10_ratio 37 = .ok (.ldc2_w 268, 3) := by decide +kernel
theorem dX10_ratio_40 : decode cX10_ratio 40 = .ok (.aload_n 0, 1) := by decide +kernel
theorem dX10_ratio_41 : decode cX10_ratio 41 = .ok (.getfield 13, 3) := by decide +kernel
theorem dX10_ratio_44 : decode cX10_ratio 44 = .ok (.iload 4, 2) := by decide +kernel
theorem dX10_ratio_46 : decode cX10_ratio 46 = .ok (.iaload, 1) := by decide +kernel
theorem dX10_ratio_47 : decode cX10_ratio 47 = .ok (.i2l, 1) := by decide +kernel
theorem dX10_ratio_48 : decode cX10_ratio 48 = .ok (.lmul, 1) := by decide +kernel
theorem dX10_ratio_49 : decode cX10_ratio 49 = .ok (.aload_n 0, 1) := by decide +kernel
theorem dX10_ratio_50 : decode cX10_ratio 50 = .ok (.getfield 61, 3) := by decide +kernel
theorem dX10_ratio_53 : decode cX10_ratio 53 = .ok (.iload 4, 2) := by decide +kernel
theorem dX10_ratio_55 : decode cX10_ratio 55 = .ok (.iaload, 1) := by decide +kernel
theorem dX10_ratio_56 : decode cX10_ratio 56 = .ok (.invokevirtual 270, 3) := by decide +kernel
theorem dX10_ratio_59 : decode cX10_ratio 59 = .ok (.aload_n 0, 1) := by decide +kernel
theorem dX10_ratio_60 : decode cX10_ratio 60 = .ok (.iload_n 2, 1) := by decide +kernel
theorem dX10_ratio_61 : decode cX10_ratio 61 = .ok (.ldc2_w 268, 3) := by decide +kernel
theorem dX10_ratio_64 : decode cX10_ratio 64 = .ok (.aload_n 0, 1) := by decide +kernel
theorem dX10_ratio_65 : decode cX10_ratio 65 = .ok (.getfield 13, 3) := by decide +kernel
theorem dX10_ratio_68 : decode cX10_ratio 68 = .ok (.iload 5, 2) := by decide +kernel
theorem dX10_ratio_70 : decode cX10_ratio 70 = .ok (.iaload, 1) := by decide +kernel
theorem dX10_ratio_71 : decode cX10_ratio 71 = .ok (.i2l, 1) := by decide +kernel
theorem dX10_ratio_72 : decode cX10_ratio 72 = .ok (.lmul, 1) := by decide +kernel
theorem dX10_ratio_73 : decode cX10_ratio 73 = .ok (.aload_n 0, 1) := by decide +kernel
theorem dX10_ratio_74 : decode cX10_ratio 74 = .ok (.getfield 61, 3) := by decide +kernel
theorem dX10_ratio_77 : decode cX10_ratio 77 = .ok (.iload 5, 2) := by decide +kernel
theorem dX10_ratio_79 : decode cX10_ratio 79 = .ok (.iaload, 1) := by decide +kernel
theorem dX10_ratio_80 : decode cX10_ratio 80 = .ok (.invokevirtual 270, 3) := by decide +kernel
theorem dX10_ratio_83 : decode cX10_ratio 83 = .ok (.aload_n 0, 1) := by decide +kernel
theorem dX10_ratio_84 : decode cX10_ratio 84 = .ok (.iload_n 3, 1) := by decide +kernel
theorem dX10_ratio_85 : decode cX10_ratio 85 = .ok (.aload_n 0, 1) := by decide +kernel
theorem dX10_ratio_86 : decode cX10_ratio 86 = .ok (.getfield 13, 3) := by decide +kernel
theorem dX10_ratio_89 : decode cX10_ratio 89 = .ok (.iload 4, 2) := by decide +kernel
theorem dX10_ratio_91 : decode cX10_ratio 91 = .ok (.iaload, 1) := by decide +kernel
theorem dX10_ratio_92 : decode cX10_ratio 92 = .ok (.i2l, 1) := by decide +kernel
theorem dX10_ratio_93 : decode cX10_ratio 93 = .ok (.aload_n 0, 1) := by decide +kernel
theorem dX10_ratio_94 : decode cX10_ratio 94 = .ok (.getfield 13, 3) := by decide +kernel
theorem dX10_ratio_97 : decode cX10_ratio 97 = .ok (.iload 5, 2) := by decide +kernel
theorem dX10_ratio_99 : decode cX10_ratio 99 = .ok (.iaload, 1) := by decide +kernel
theorem dX10_ratio_100 : decode cX10_ratio 100 = .ok (.i2l, 1) := by decide +kernel
theorem dX10_ratio_101 : decode cX10_ratio 101 = .ok (.ladd, 1) := by decide +kernel
theorem dX10_ratio_102 : decode cX10_ratio 102 = .ok (.aload_n 0, 1) := by decide +kernel
theorem dX10_ratio_103 : decode cX10_ratio 103 = .ok (.getfield 61, 3) := by decide +kernel
theorem dX10_ratio_106 : decode cX10_ratio 106 = .ok (.iload 4, 2) := by decide +kernel
theorem dX10_ratio_108 : decode cX10_ratio 108 = .ok (.iaload, 1) := by decide +kernel
theorem dX10_ratio_109 : decode cX10_ratio 109 = .ok (.aload_n 0, 1) := by decide +kernel
theorem dX10_ratio_110 : decode cX10_ratio 110 = .ok (.getfield 61, 3) := by decide +kernel
theorem dX10_ratio_113 : decode cX10_ratio 113 = .ok (.iload 5, 2) := by decide +kernel
theorem dX10_ratio_115 : decode cX10_ratio 115 = .ok (.iaload, 1) := by decide +kernel
theorem dX10_ratio_116 : decode cX10_ratio 116 = .ok (.iadd, 1) := by decide +kernel
theorem dX10_ratio_117 : decode cX10_ratio 117 = .ok (.invokevirtual 270, 3) := by decide +kernel
theorem dX10_ratio_120 : decode cX10_ratio 120 = .ok (.return_, 1) := by decide +kernel
abbrev cX10_power : ByteArray := prog_13_method_7_code
def yX10_power : MethodName := ⟨RX10, "power", "(IJI)V"⟩
theorem dX10_power_0 : decode cX10_power 0 = .ok (.iconst 0, 1) := by decide +kernel
theorem dX10_power_1 : decode cX10_power 1 = .ok (.istore 5, 2) := by decide +kernel
theorem dX10_power_3 : decode cX10_power 3 = .ok (.iload 5, 2) := by decide +kernel
theorem dX10_power_5 : decode cX10_power 5 = .ok (.iload 4, 2) := by decide +kernel
theorem dX10_power_7 : decode cX10_power 7 = .ok (.if_icmp .ge 15, 3) := by decide +kernel
theorem dX10_power_10 : decode cX10_power 10 = .ok (.aload_n 0, 1) := by decide +kernel
theorem dX10_power_11 : decode cX10_power 11 = .ok (.iload_n 1, 1) := by decide +kernel
theorem dX10_power_12 : decode cX10_power 12 = .ok (.lload_n 2, 1) := by decide +kernel
theorem dX10_power_13 : decode cX10_power 13 = .ok (.invokevirtual 192, 3) := by decide +kernel
theorem dX10_power_16 : decode cX10_power 16 = .ok (.iinc 5 1, 3) := by decide +kernel
theorem dX10_power_19 : decode cX10_power 19 = .ok (.goto (-16), 3) := by decide +kernel
theorem dX10_power_22 : decode cX10_power 22 = .ok (.return_, 1) := by decide +kernel
abbrev cX10_see : ByteArray := prog_13_method_38_code
def yX10_see : MethodName := ⟨RX10, "see", "(I)I"⟩
theorem dX10_see_0 : decode cX10_see 0 = .ok (.aload_n 0, 1) := by decide +kernel
theorem dX10_see_1 : decode cX10_see 1 = .ok (.aload_n 0, 1) := by decide +kernel
theorem dX10_see_2 : decode cX10_see 2 = .ok (.iload_n 1, 1) := by decide +kernel
theorem dX10_see_3 : decode cX10_see 3 = .ok (.invokevirtual 243, 3) := by decide +kernel
theorem dX10_see_6 : decode cX10_see 6 = .ok (.ifCond .ne 7, 3) := by decide +kernel
theorem dX10_see_9 : decode cX10_see 9 = .ok (.iconst 1, 1) := by decide +kernel
theorem dX10_see_10 : decode cX10_see 10 = .ok (.goto 16, 3) := by decide +kernel
theorem dX10_see_13 : decode cX10_see 13 = .ok (.aload_n 0, 1) := by decide +kernel
theorem dX10_see_14 : decode cX10_see 14 = .ok (.getfield 231, 3) := by decide +kernel
theorem dX10_see_17 : decode cX10_see 17 = .ok (.iconst 2, 1) := by decide +kernel
theorem dX10_see_18 : decode cX10_see 18 = .ok (.if_icmp .eq 7, 3) := by decide +kernel
theorem dX10_see_21 : decode cX10_see 21 = .ok (.iconst 2, 1) := by decide +kernel
theorem dX10_see_22 : decode cX10_see 22 = .ok (.goto 4, 3) := by decide +kernel
theorem dX10_see_25 : decode cX10_see 25 = .ok (.iconst 0, 1) := by decide +kernel
theorem dX10_see_26 : decode cX10_see 26 = .ok (.putfield 1, 3) := by decide +kernel
theorem dX10_see_29 : decode cX10_see 29 = .ok (.aload_n 0, 1) := by decide +kernel
theorem dX10_see_30 : decode cX10_see 30 = .ok (.getfield 1, 3) := by decide +kernel
theorem dX10_see_33 : decode cX10_see 33 = .ok (.ifCond .le 5, 3) := by decide +kernel
theorem dX10_see_36 : decode cX10_see 36 = .ok (.iconst 0, 1) := by decide +kernel
theorem dX10_see_37 : decode cX10_see 37 = .ok (.ireturn, 1) := by decide +kernel
theorem dX10_see_38 : decode cX10_see 38 = .ok (.aload_n 0, 1) := by decide +kernel
theorem dX10_see_39 : decode cX10_see 39 = .ok (.getfield 70, 3) := by decide +kernel
theorem dX10_see_42 : decode cX10_see 42 = .ok (.istore_n 2, 1) := by decide +kernel
theorem dX10_see_43 : decode cX10_see 43 = .ok (.aload_n 0, 1) := by decide +kernel
theorem dX10_see_44 : decode cX10_see 44 = .ok (.iconst (-1), 1) := by decide +kernel
theorem dX10_see_45 : decode cX10_see 45 = .ok (.putfield 70, 3) := by decide +kernel
theorem dX10_see_48 : decode cX10_see 48 = .ok (.aload_n 0, 1) := by decide +kernel
theorem dX10_see_49 : decode cX10_see 49 = .ok (.getfield 64, 3) := by decide +kernel
theorem dX10_see_52 : decode cX10_see 52 = .ok (.iload_n 2, 1) := by decide +kernel
theorem dX10_see_53 : decode cX10_see 53 = .ok (.iload_n 1, 1) := by decide +kernel
theorem dX10_see_54 : decode cX10_see 54 = .ok (.i2b, 1) := by decide +kernel
theorem dX10_see_55 : decode cX10_see 55 = .ok (.bastore, 1) := by decide +kernel
theorem dX10_see_56 : decode cX10_see 56 = .ok (.aload_n 0, 1) := by decide +kernel
theorem dX10_see_57 : decode cX10_see 57 = .ok (.dup, 1) := by decide +kernel
theorem dX10_see_58 : decode cX10_see 58 = .ok (.getfield 308, 3) := by decide +kernel
theorem dX10_see_61 : decode cX10_see 61 = .ok (.iconst 1, 1) := by decide +kernel
theorem dX10_see_62 : decode cX10_see 62 = .ok (.iadd, 1) := by decide +kernel
theorem dX10_see_63 : decode cX10_see 63 = .ok (.putfield 308, 3) := by decide +kernel
theorem dX10_see_66 : decode cX10_see 66 = .ok (.aload_n 0, 1) := by decide +kernel
theorem dX10_see_67 : decode cX10_see 67 = .ok (.iload_n 2, 1) := by decide +kernel
theorem dX10_see_68 : decode cX10_see 68 = .ok (.invokevirtual 305, 3) := by decide +kernel
theorem dX10_see_71 : decode cX10_see 71 = .ok (.aload_n 0, 1) := by decide +kernel
theorem dX10_see_72 : decode cX10_see 72 = .ok (.getfield 231, 3) := by decide +kernel
theorem dX10_see_75 : decode cX10_see 75 = .ok (.ireturn, 1) := by decide +kernel
abbrev cX10_counted : ByteArray := prog_13_method_39_code
def yX10_counted : MethodName := ⟨RX10, "counted", "(II)I"⟩
theorem dX10_counted_0 : decode cX10_counted 0 = .ok (.aload_n 0, 1) := by decide +kernel
theorem dX10_counted_1 : decode cX10_counted 1 = .ok (.iload_n 1, 1) := by decide +kernel
theorem dX10_counted_2 : decode cX10_counted 2 = .ok (.ifCond .lt 11, 3) := by decide +kernel
theorem dX10_counted_5 : decode cX10_counted 5 = .ok (.iload_n 1, 1) := by decide +kernel
theorem dX10_counted_6 : decode cX10_counted 6 = .ok (.aload_n 0, 1) := by decide +kernel
theorem dX10_counted_7 : decode cX10_counted 7 = .ok (.getfield 234, 3) := by decide +kernel
theorem dX10_counted_10 : decode cX10_counted 10 = .ok (.if_icmp .lt 7, 3) := by decide +kernel
theorem dX10_counted_13 : decode cX10_counted 13 = .ok (.iconst 1, 1) := by decide +kernel
theorem dX10_counted_14 : decode cX10_counted 14 = .ok (.goto 32, 3) := by decide +kernel
theorem dX10_counted_17 : decode cX10_counted 17 = .ok (.iload_n 2, 1) := by decide +kernel
theorem dX10_counted_18 : decode cX10_counted 18 = .ok (.ifCond .lt 11, 3) := by decide +kernel
theorem dX10_counted_21 : decode cX10_counted 21 = .ok (.iload_n 2, 1) := by decide +kernel
theorem dX10_counted_22 : decode cX10_counted 22 = .ok (.aload_n 0, 1) := by decide +kernel
theorem dX10_counted_23 : decode cX10_counted 23 = .ok (.getfield 240, 3) := by decide +kernel
theorem dX10_counted_26 : decode cX10_counted 26 = .ok (.if_icmp .le 7, 3) := by decide +kernel
theorem dX10_counted_29 : decode cX10_counted 29 = .ok (.iconst 2, 1) := by decide +kernel
theorem dX10_counted_30 : decode cX10_counted 30 = .ok (.goto 16, 3) := by decide +kernel
theorem dX10_counted_33 : decode cX10_counted 33 = .ok (.aload_n 0, 1) := by decide +kernel
theorem dX10_counted_34 : decode cX10_counted 34 = .ok (.getfield 231, 3) := by decide +kernel
theorem dX10_counted_37 : decode cX10_counted 37 = .ok (.iconst 4, 1) := by decide +kernel
theorem dX10_counted_38 : decode cX10_counted 38 = .ok (.if_icmp .eq 7, 3) := by decide +kernel
theorem dX10_counted_41 : decode cX10_counted 41 = .ok (.iconst 3, 1) := by decide +kernel
theorem dX10_counted_42 : decode cX10_counted 42 = .ok (.goto 4, 3) := by decide +kernel
theorem dX10_counted_45 : decode cX10_counted 45 = .ok (.iconst 0, 1) := by decide +kernel
theorem dX10_counted_46 : decode cX10_counted 46 = .ok (.putfield 1, 3) := by decide +kernel
theorem dX10_counted_49 : decode cX10_counted 49 = .ok (.aload_n 0, 1) := by decide +kernel
theorem dX10_counted_50 : decode cX10_counted 50 = .ok (.getfield 1, 3) := by decide +kernel
theorem dX10_counted_53 : decode cX10_counted 53 = .ok (.ifCond .le 5, 3) := by decide +kernel
theorem dX10_counted_56 : decode cX10_counted 56 = .ok (.iconst 0, 1) := by decide +kernel
theorem dX10_counted_57 : decode cX10_counted 57 = .ok (.ireturn, 1) := by decide +kernel
theorem dX10_counted_58 : decode cX10_counted 58 = .ok (.aload_n 0, 1) := by decide +kernel
theorem dX10_counted_59 : decode cX10_counted 59 = .ok (.getfield 73, 3) := by decide +kernel
theorem dX10_counted_62 : decode cX10_counted 62 = .ok (.iload_n 1, 1) := by decide +kernel
theorem dX10_counted_63 : decode cX10_counted 63 = .ok (.iload_n 2, 1) := by decide +kernel
theorem dX10_counted_64 : decode cX10_counted 64 = .ok (.iconst 1, 1) := by decide +kernel
theorem dX10_counted_65 : decode cX10_counted 65 = .ok (.iadd, 1) := by decide +kernel
theorem dX10_counted_66 : decode cX10_counted 66 = .ok (.iastore, 1) := by decide +kernel
theorem dX10_counted_67 : decode cX10_counted 67 = .ok (.iconst 0, 1) := by decide +kernel
theorem dX10_counted_68 : decode cX10_counted 68 = .ok (.istore_n 3, 1) := by decide +kernel
theorem dX10_counted_69 : decode cX10_counted 69 = .ok (.iconst 0, 1) := by decide +kernel
theorem dX10_counted_70 : decode cX10_counted 70 = .ok (.istore 4, 2) := by decide +kernel
theorem dX10_counted_72 : decode cX10_counted 72 = .ok (.iload 4, 2) := by decide +kernel
theorem dX10_counted_74 : decode cX10_counted 74 = .ok (.aload_n 0, 1) := by decide +kernel
theorem dX10_counted_75 : decode cX10_counted 75 = .ok (.getfield 234, 3) := by decide +kernel
theorem dX10_counted_78 : decode cX10_counted 78 = .ok (.if_icmp .ge 27, 3) := by decide +kernel
theorem dX10_counted_81 : decode cX10_counted 81 = .ok (.iload_n 3, 1) := by decide +kernel
theorem dX10_counted_82 : decode cX10_counted 82 = .ok (.aload_n 0, 1) := by decide +kernel
theorem dX10_counted_83 : decode cX10_counted 83 = .ok (.getfield 73, 3) := by decide +kernel
theorem dX10_counted_86 : decode cX10_counted 86 = .ok (.iload 4, 2) := by decide +kernel
theorem dX10_counted_88 : decode cX10_counted 88 = .ok (.iaload, 1) := by decide +kernel
theorem dX10_counted_89 : decode cX10_counted 89 = .ok (.ifCond .le 7, 3) := by decide +kernel
theorem dX10_counted_92 : decode cX10_counted 92 = .ok (.iconst 1, 1) := by decide +kernel
theorem dX10_counted_93 : decode cX10_counted 93 = .ok (.goto 4, 3) := by decide +kernel
theorem dX10_counted_96 : decode cX10_counted 96 = .ok (.iconst 0, 1) := by decide +kernel
theorem dX10_counted_97 : decode cX10_counted 97 = .ok (.iadd, 1) := by decide +kernel
theorem dX10_counted_98 : decode cX10_counted 98 = .ok (.istore_n 3, 1) := by decide +kernel
theorem dX10_counted_99 : decode cX10_counted 99 = .ok (.iinc 4 1, 3) := by decide +kernel
theorem dX10_counted_102 : decode cX10_counted 102 = .ok (.goto (-30), 3) := by decide +kernel
theorem dX10_counted_105 : decode cX10_counted 105 = .ok (.iload_n 3, 1) := by decide +kernel
theorem dX10_counted_106 : decode cX10_counted 106 = .ok (.aload_n 0, 1) := by decide +kernel
theorem dX10_counted_107 : decode cX10_counted 107 = .ok (.getfield 234, 3) := by decide +kernel
theorem dX10_counted_110 : decode cX10_counted 110 = .ok (.if_icmp .ne 74, 3) := by decide +kernel
theorem dX10_counted_113 : decode cX10_counted 113 = .ok (.aload_n 0, 1) := by decide +kernel
theorem dX10_counted_114 : decode cX10_counted 114 = .ok (.iconst 5, 1) := by decide +kernel
theorem dX10_counted_115 : decode cX10_counted 115 = .ok (.putfield 231, 3) := by decide +kernel
theorem dX10_counted_118 : decode cX10_counted 118 = .ok (.aload_n 0, 1) := by decide +kernel
theorem dX10_counted_119 : decode cX10_counted 119 = .ok (.iconst 1, 1) := by decide +kernel
theorem dX10_counted_120 : decode cX10_counted 120 = .ok (.putfield 311, 3) := by decide +kernel
theorem dX10_counted_123 : decode cX10_counted 123 = .ok (.iconst 0, 1) := by decide +kernel
theorem dX10_counted_124 : decode cX10_counted 124 = .ok (.istore 4, 2) := by decide +kernel
theorem dX10_counted_126 : decode cX10_counted 126 = .ok (.iload 4, 2) := by decide +kernel
theorem dX10_counted_128 : decode cX10_counted 128 = .ok (.aload_n 0, 1) := by decide +kernel
theorem dX10_counted_129 : decode cX10_counted 129 = .ok (.getfield 250, 3) := by decide +kernel
theorem dX10_counted_132 : decode cX10_counted 132 = .ok (.if_icmp .ge 52, 3) := by decide +kernel
theorem dX10_counted_135 : decode cX10_counted 135 = .ok (.aload_n 0, 1) := by decide +kernel
theorem dX10_counted_136 : decode cX10_counted 136 = .ok (.aload_n 0, 1) := by decide +kernel
theorem dX10_counted_137 : decode cX10_counted 137 = .ok (.getfield 311, 3) := by decide +kernel
theorem dX10_counted_140 : decode cX10_counted 140 = .ok (.ifCond .eq 34, 3) := by decide +kernel
theorem dX10_counted_143 : decode cX10_counted 143 = .ok (.aload_n 0, 1) := by decide +kernel
theorem dX10_counted_144 : decode cX10_counted 144 = .ok (.getfield 73, 3) := by decide +kernel
theorem dX10_counted_147 : decode cX10_counted 147 = .ok (.aload_n 0, 1) := by decide +kernel
theorem dX10_counted_148 : decode cX10_counted 148 = .ok (.getfield 52, 3) := by decide +kernel
theorem dX10_counted_151 : decode cX10_counted 151 = .ok (.iload 4, 2) := by decide +kernel
theorem dX10_counted_153 : decode cX10_counted 153 = .ok (.iaload, 1) := by decide +kernel
theorem dX10_counted_154 : decode cX10_counted 154 = .ok (.iaload, 1) := by decide +kernel
theorem dX10_counted_155 : decode cX10_counted 155 = .ok (.aload_n 0, 1) := by decide +kernel
theorem dX10_counted_156 : decode cX10_counted 156 = .ok (.getfield 73, 3) := by decide +kernel
theorem dX10_counted_159 : decode cX10_counted 159 = .ok (.aload_n 0, 1) := by decide +kernel
theorem dX10_counted_160 : decode cX10_counted 160 = .ok (.getfield 55, 3) := by decide +kernel
theorem dX10_counted_163 : decode cX10_counted 163 = .ok (.iload 4, 2) := by decide +kernel
theorem dX10_counted_165 : decode cX10_counted 165 = .ok (.iaload, 1) := by decide +kernel
theorem dX10_counted_166 : decode cX10_counted 166 = .ok (.iaload, 1) := by decide +kernel
theorem dX10_counted_167 : decode cX10_counted 167 = .ok (.if_icmp .le 7, 3) := by decide +kernel
theorem dX10_counted_170 : decode cX10_counted 170 = .ok (.iconst 1, 1) := by decide +kernel
theorem dX10_counted_171 : decode cX10_counted 171 = .ok (.goto 4, 3) := by decide +kernel
theorem dX10_counted_174 : decode cX10_counted 174 = .ok (.iconst 0, 1) := by decide +kernel
theorem dX10_counted_175 : decode cX10_counted 175 = .ok (.putfield 311, 3) := by decide +kernel
theorem dX10_counted_178 : decode cX10_counted 178 = .ok (.iinc 4 1, 3) := by decide +kernel
theorem dX10_counted_181 : decode cX10_counted 181 = .ok (.goto (-55), 3) := by decide +kernel
theorem dX10_counted_184 : decode cX10_counted 184 = .ok (.iload_n 3, 1) := by decide +kernel
theorem dX10_counted_185 : decode cX10_counted 185 = .ok (.ireturn, 1) := by decide +kernel
abbrev cX10_again : ByteArray := prog_13_method_40_code
def yX10_again : MethodName := ⟨RX10, "again", "()V"⟩
theorem dX10_again_0 : decode cX10_again 0 = .ok (.aload_n 0, 1) := by decide +kernel
theorem dX10_again_1 : decode cX10_again 1 = .ok (.iconst 0, 1) := by decide +kernel
theorem dX10_again_2 : decode cX10_again 2 = .ok (.putfield 1, 3) := by decide +kernel
theorem dX10_again_5 : decode cX10_again 5 = .ok (.aload_n 0, 1) := by decide +kernel
theorem dX10_again_6 : decode cX10_again 6 = .ok (.iconst 0, 1) := by decide +kernel
theorem dX10_again_7 : decode cX10_again 7 = .ok (.putfield 231, 3) := by decide +kernel
theorem dX10_again_10 : decode cX10_again 10 = .ok (.aload_n 0, 1) := by decide +kernel
theorem dX10_again_11 : decode cX10_again 11 = .ok (.iconst 0, 1) := by decide +kernel
theorem dX10_again_12 : decode cX10_again 12 = .ok (.putfield 250, 3) := by decide +kernel
theorem dX10_again_15 : decode cX10_again 15 = .ok (.iconst 0, 1) := by decide +kernel
theorem dX10_again_16 : decode cX10_again 16 = .ok (.istore_n 1, 1) := by decide +kernel
theorem dX10_again_17 : decode cX10_again 17 = .ok (.iload_n 1, 1) := by decide +kernel
theorem dX10_again_18 : decode cX10_again 18 = .ok (.bipush 8, 2) := by decide +kernel
theorem dX10_again_20 : decode cX10_again 20 = .ok (.if_icmp .ge 30, 3) := by decide +kernel
