set_option maxRecDepth 100000
theorem dX10_init_669 : decode cX10_init 669 = .ok (.lconst 1, 1) := by decide +kernel
theorem dX10_init_670 : decode cX10_init 670 = .ok (.invokevirtual 182, 3) := by decide +kernel
theorem dX10_init_673 : decode cX10_init 673 = .ok (.aload_n 0, 1) := by decide +kernel
theorem dX10_init_674 : decode cX10_init 674 = .ok (.bipush 6, 2) := by decide +kernel
theorem dX10_init_676 : decode cX10_init 676 = .ok (.lconst 1, 1) := by decide +kernel
theorem dX10_init_677 : decode cX10_init 677 = .ok (.invokevirtual 182, 3) := by decide +kernel
theorem dX10_init_680 : decode cX10_init 680 = .ok (.aload_n 0, 1) := by decide +kernel
theorem dX10_init_681 : decode cX10_init 681 = .ok (.bipush 7, 2) := by decide +kernel
theorem dX10_init_683 : decode cX10_init 683 = .ok (.lconst 1, 1) := by decide +kernel
theorem dX10_init_684 : decode cX10_init 684 = .ok (.invokevirtual 182, 3) := by decide +kernel
theorem dX10_init_687 : decode cX10_init 687 = .ok (.return_, 1) := by decide +kernel
abbrev cX10_give : ByteArray := prog_13_method_4_code
def yX10_give : MethodName := ⟨RX10, "give", "(IJ)V"⟩
theorem dX10_give_0 : decode cX10_give 0 = .ok (.aload_n 0, 1) := by decide +kernel
theorem dX10_give_1 : decode cX10_give 1 = .ok (.getfield 79, 3) := by decide +kernel
theorem dX10_give_4 : decode cX10_give 4 = .ok (.iload_n 1, 1) := by decide +kernel
theorem dX10_give_5 : decode cX10_give 5 = .ok (.iconst 0, 1) := by decide +kernel
theorem dX10_give_6 : decode cX10_give 6 = .ok (.iastore, 1) := by decide +kernel
theorem dX10_give_7 : decode cX10_give 7 = .ok (.lload_n 2, 1) := by decide +kernel
theorem dX10_give_8 : decode cX10_give 8 = .ok (.lstore 4, 2) := by decide +kernel
theorem dX10_give_10 : decode cX10_give 10 = .ok (.lload 4, 2) := by decide +kernel
theorem dX10_give_12 : decode cX10_give 12 = .ok (.lconst 0, 1) := by decide +kernel
theorem dX10_give_13 : decode cX10_give 13 = .ok (.lcmp, 1) := by decide +kernel
theorem dX10_give_14 : decode cX10_give 14 = .ok (.ifCond .eq 47, 3) := by decide +kernel
theorem dX10_give_17 : decode cX10_give 17 = .ok (.aload_n 0, 1) := by decide +kernel
theorem dX10_give_18 : decode cX10_give 18 = .ok (.getfield 76, 3) := by decide +kernel
theorem dX10_give_21 : decode cX10_give 21 = .ok (.sipush 1200, 3) := by decide +kernel
theorem dX10_give_24 : decode cX10_give 24 = .ok (.iload_n 1, 1) := by decide +kernel
theorem dX10_give_25 : decode cX10_give 25 = .ok (.imul, 1) := by decide +kernel
theorem dX10_give_26 : decode cX10_give 26 = .ok (.aload_n 0, 1) := by decide +kernel
theorem dX10_give_27 : decode cX10_give 27 = .ok (.getfield 79, 3) := by decide +kernel
theorem dX10_give_30 : decode cX10_give 30 = .ok (.iload_n 1, 1) := by decide +kernel
theorem dX10_give_31 : decode cX10_give 31 = .ok (.iaload, 1) := by decide +kernel
theorem dX10_give_32 : decode cX10_give 32 = .ok (.iadd, 1) := by decide +kernel
theorem dX10_give_33 : decode cX10_give 33 = .ok (.lload 4, 2) := by decide +kernel
theorem dX10_give_35 : decode cX10_give 35 = .ok (.ldc2_w 186, 3) := by decide +kernel
theorem dX10_give_38 : decode cX10_give 38 = .ok (.land, 1) := by decide +kernel
theorem dX10_give_39 : decode cX10_give 39 = .ok (.l2i, 1) := by decide +kernel
theorem dX10_give_40 : decode cX10_give 40 = .ok (.iastore, 1) := by decide +kernel
theorem dX10_give_41 : decode cX10_give 41 = .ok (.aload_n 0, 1) := by decide +kernel
theorem dX10_give_42 : decode cX10_give 42 = .ok (.getfield 79, 3) := by decide +kernel
theorem dX10_give_45 : decode cX10_give 45 = .ok (.iload_n 1, 1) := by decide +kernel
theorem dX10_give_46 : decode cX10_give 46 = .ok (.dup2, 1) := by decide +kernel
theorem dX10_give_47 : decode cX10_give 47 = .ok (.iaload, 1) := by decide +kernel
theorem dX10_give_48 : decode cX10_give 48 = .ok (.iconst 1, 1) := by decide +kernel
theorem dX10_give_49 : decode cX10_give 49 = .ok (.iadd, 1) := by decide +kernel
theorem dX10_give_50 : decode cX10_give 50 = .ok (.iastore, 1) := by decide +kernel
theorem dX10_give_51 : decode cX10_give 51 = .ok (.lload 4, 2) := by decide +kernel
theorem dX10_give_53 : decode cX10_give 53 = .ok (.bipush 16, 2) := by decide +kernel
theorem dX10_give_55 : decode cX10_give 55 = .ok (.lushr, 1) := by decide +kernel
theorem dX10_give_56 : decode cX10_give 56 = .ok (.lstore 4, 2) := by decide +kernel
theorem dX10_give_58 : decode cX10_give 58 = .ok (.goto (-48), 3) := by decide +kernel
theorem dX10_give_61 : decode cX10_give 61 = .ok (.return_, 1) := by decide +kernel
abbrev cX10_candidate : ByteArray := prog_13_method_19_code
def yX10_candidate : MethodName := ⟨RX10, "candidate", "(I)I"⟩
theorem dX10_candidate_0 : decode cX10_candidate 0 = .ok (.aload_n 0, 1) := by decide +kernel
theorem dX10_candidate_1 : decode cX10_candidate 1 = .ok (.iload_n 1, 1) := by decide +kernel
theorem dX10_candidate_2 : decode cX10_candidate 2 = .ok (.ifCond .lt 9, 3) := by decide +kernel
theorem dX10_candidate_5 : decode cX10_candidate 5 = .ok (.iload_n 1, 1) := by decide +kernel
theorem dX10_candidate_6 : decode cX10_candidate 6 = .ok (.ldc 230, 2) := by decide +kernel
theorem dX10_candidate_8 : decode cX10_candidate 8 = .ok (.if_icmp .le 7, 3) := by decide +kernel
theorem dX10_candidate_11 : decode cX10_candidate 11 = .ok (.iconst 1, 1) := by decide +kernel
theorem dX10_candidate_12 : decode cX10_candidate 12 = .ok (.goto 28, 3) := by decide +kernel
theorem dX10_candidate_15 : decode cX10_candidate 15 = .ok (.aload_n 0, 1) := by decide +kernel
theorem dX10_candidate_16 : decode cX10_candidate 16 = .ok (.getfield 231, 3) := by decide +kernel
theorem dX10_candidate_19 : decode cX10_candidate 19 = .ok (.ifCond .eq 7, 3) := by decide +kernel
theorem dX10_candidate_22 : decode cX10_candidate 22 = .ok (.iconst 2, 1) := by decide +kernel
theorem dX10_candidate_23 : decode cX10_candidate 23 = .ok (.goto 17, 3) := by decide +kernel
theorem dX10_candidate_26 : decode cX10_candidate 26 = .ok (.aload_n 0, 1) := by decide +kernel
theorem dX10_candidate_27 : decode cX10_candidate 27 = .ok (.getfield 234, 3) := by decide +kernel
theorem dX10_candidate_30 : decode cX10_candidate 30 = .ok (.bipush 8, 2) := by decide +kernel
theorem dX10_candidate_32 : decode cX10_candidate 32 = .ok (.if_icmp .ne 7, 3) := by decide +kernel
theorem dX10_candidate_35 : decode cX10_candidate 35 = .ok (.iconst 3, 1) := by decide +kernel
theorem dX10_candidate_36 : decode cX10_candidate 36 = .ok (.goto 4, 3) := by decide +kernel
theorem dX10_candidate_39 : decode cX10_candidate 39 = .ok (.iconst 0, 1) := by decide +kernel
theorem dX10_candidate_40 : decode cX10_candidate 40 = .ok (.putfield 1, 3) := by decide +kernel
theorem dX10_candidate_43 : decode cX10_candidate 43 = .ok (.aload_n 0, 1) := by decide +kernel
theorem dX10_candidate_44 : decode cX10_candidate 44 = .ok (.getfield 1, 3) := by decide +kernel
theorem dX10_candidate_47 : decode cX10_candidate 47 = .ok (.ifCond .le 5, 3) := by decide +kernel
theorem dX10_candidate_50 : decode cX10_candidate 50 = .ok (.iconst 0, 1) := by decide +kernel
theorem dX10_candidate_51 : decode cX10_candidate 51 = .ok (.ireturn, 1) := by decide +kernel
theorem dX10_candidate_52 : decode cX10_candidate 52 = .ok (.aload_n 0, 1) := by decide +kernel
theorem dX10_candidate_53 : decode cX10_candidate 53 = .ok (.getfield 13, 3) := by decide +kernel
theorem dX10_candidate_56 : decode cX10_candidate 56 = .ok (.aload_n 0, 1) := by decide +kernel
theorem dX10_candidate_57 : decode cX10_candidate 57 = .ok (.getfield 234, 3) := by decide +kernel
theorem dX10_candidate_60 : decode cX10_candidate 60 = .ok (.iload_n 1, 1) := by decide +kernel
theorem dX10_candidate_61 : decode cX10_candidate 61 = .ok (.iastore, 1) := by decide +kernel
theorem dX10_candidate_62 : decode cX10_candidate 62 = .ok (.aload_n 0, 1) := by decide +kernel
theorem dX10_candidate_63 : decode cX10_candidate 63 = .ok (.dup, 1) := by decide +kernel
theorem dX10_candidate_64 : decode cX10_candidate 64 = .ok (.getfield 234, 3) := by decide +kernel
theorem dX10_candidate_67 : decode cX10_candidate 67 = .ok (.iconst 1, 1) := by decide +kernel
theorem dX10_candidate_68 : decode cX10_candidate 68 = .ok (.iadd, 1) := by decide +kernel
theorem dX10_candidate_69 : decode cX10_candidate 69 = .ok (.putfield 234, 3) := by decide +kernel
theorem dX10_candidate_72 : decode cX10_candidate 72 = .ok (.aload_n 0, 1) := by decide +kernel
theorem dX10_candidate_73 : decode cX10_candidate 73 = .ok (.getfield 234, 3) := by decide +kernel
theorem dX10_candidate_76 : decode cX10_candidate 76 = .ok (.iconst 1, 1) := by decide +kernel
theorem dX10_candidate_77 : decode cX10_candidate 77 = .ok (.isub, 1) := by decide +kernel
theorem dX10_candidate_78 : decode cX10_candidate 78 = .ok (.ireturn, 1) := by decide +kernel
abbrev cX10_batch : ByteArray := prog_13_method_20_code
def yX10_batch : MethodName := ⟨RX10, "batch", "(I)I"⟩
theorem dX10_batch_0 : decode cX10_batch 0 = .ok (.aload_n 0, 1) := by decide +kernel
theorem dX10_batch_1 : decode cX10_batch 1 = .ok (.iload_n 1, 1) := by decide +kernel
theorem dX10_batch_2 : decode cX10_batch 2 = .ok (.iconst 1, 1) := by decide +kernel
theorem dX10_batch_3 : decode cX10_batch 3 = .ok (.if_icmp .lt 10, 3) := by decide +kernel
theorem dX10_batch_6 : decode cX10_batch 6 = .ok (.iload_n 1, 1) := by decide +kernel
theorem dX10_batch_7 : decode cX10_batch 7 = .ok (.sipush 4000, 3) := by decide +kernel
theorem dX10_batch_10 : decode cX10_batch 10 = .ok (.if_icmp .le 7, 3) := by decide +kernel
theorem dX10_batch_13 : decode cX10_batch 13 = .ok (.iconst 1, 1) := by decide +kernel
theorem dX10_batch_14 : decode cX10_batch 14 = .ok (.goto 40, 3) := by decide +kernel
theorem dX10_batch_17 : decode cX10_batch 17 = .ok (.aload_n 0, 1) := by decide +kernel
theorem dX10_batch_18 : decode cX10_batch 18 = .ok (.getfield 231, 3) := by decide +kernel
theorem dX10_batch_21 : decode cX10_batch 21 = .ok (.ifCond .eq 7, 3) := by decide +kernel
theorem dX10_batch_24 : decode cX10_batch 24 = .ok (.iconst 2, 1) := by decide +kernel
theorem dX10_batch_25 : decode cX10_batch 25 = .ok (.goto 29, 3) := by decide +kernel
theorem dX10_batch_28 : decode cX10_batch 28 = .ok (.aload_n 0, 1) := by decide +kernel
theorem dX10_batch_29 : decode cX10_batch 29 = .ok (.getfield 237, 3) := by decide +kernel
theorem dX10_batch_32 : decode cX10_batch 32 = .ok (.bipush 64, 2) := by decide +kernel
theorem dX10_batch_34 : decode cX10_batch 34 = .ok (.if_icmp .eq 15, 3) := by decide +kernel
theorem dX10_batch_37 : decode cX10_batch 37 = .ok (.aload_n 0, 1) := by decide +kernel
theorem dX10_batch_38 : decode cX10_batch 38 = .ok (.getfield 240, 3) := by decide +kernel
theorem dX10_batch_41 : decode cX10_batch 41 = .ok (.iload_n 1, 1) := by decide +kernel
theorem dX10_batch_42 : decode cX10_batch 42 = .ok (.iadd, 1) := by decide +kernel
theorem dX10_batch_43 : decode cX10_batch 43 = .ok (.sipush 20000, 3) := by decide +kernel
theorem dX10_batch_46 : decode cX10_batch 46 = .ok (.if_icmp .le 7, 3) := by decide +kernel
theorem dX10_batch_49 : decode cX10_batch 49 = .ok (.iconst 3, 1) := by decide +kernel
theorem dX10_batch_50 : decode cX10_batch 50 = .ok (.goto 4, 3) := by decide +kernel
theorem dX10_batch_53 : decode cX10_batch 53 = .ok (.iconst 0, 1) := by decide +kernel
theorem dX10_batch_54 : decode cX10_batch 54 = .ok (.putfield 1, 3) := by decide +kernel
theorem dX10_batch_57 : decode cX10_batch 57 = .ok (.aload_n 0, 1) := by decide +kernel
theorem dX10_batch_58 : decode cX10_batch 58 = .ok (.getfield 1, 3) := by decide +kernel
theorem dX10_batch_61 : decode cX10_batch 61 = .ok (.ifCond .le 5, 3) := by decide +kernel
theorem dX10_batch_64 : decode cX10_batch 64 = .ok (.iconst 0, 1) := by decide +kernel
theorem dX10_batch_65 : decode cX10_batch 65 = .ok (.ireturn, 1) := by decide +kernel
theorem dX10_batch_66 : decode cX10_batch 66 = .ok (.aload_n 0, 1) := by decide +kernel
theorem dX10_batch_67 : decode cX10_batch 67 = .ok (.getfield 23, 3) := by decide +kernel
theorem dX10_batch_70 : decode cX10_batch 70 = .ok (.aload_n 0, 1) := by decide +kernel
theorem dX10_batch_71 : decode cX10_batch 71 = .ok (.getfield 237, 3) := by decide +kernel
theorem dX10_batch_74 : decode cX10_batch 74 = .ok (.aload_n 0, 1) := by decide +kernel
theorem dX10_batch_75 : decode cX10_batch 75 = .ok (.getfield 240, 3) := by decide +kernel
theorem dX10_batch_78 : decode cX10_batch 78 = .ok (.iastore, 1) := by decide +kernel
theorem dX10_batch_79 : decode cX10_batch 79 = .ok (.aload_n 0, 1) := by decide +kernel
theorem dX10_batch_80 : decode cX10_batch 80 = .ok (.dup, 1) := by decide +kernel
theorem dX10_batch_81 : decode cX10_batch 81 = .ok (.getfield 237, 3) := by decide +kernel
theorem dX10_batch_84 : decode cX10_batch 84 = .ok (.iconst 1, 1) := by decide +kernel
theorem dX10_batch_85 : decode cX10_batch 85 = .ok (.iadd, 1) := by decide +kernel
theorem dX10_batch_86 : decode cX10_batch 86 = .ok (.putfield 237, 3) := by decide +kernel
theorem dX10_batch_89 : decode cX10_batch 89 = .ok (.iconst 0, 1) := by decide +kernel
theorem dX10_batch_90 : decode cX10_batch 90 = .ok (.istore_n 2, 1) := by decide +kernel
theorem dX10_batch_91 : decode cX10_batch 91 = .ok (.iload_n 2, 1) := by decide +kernel
theorem dX10_batch_92 : decode cX10_batch 92 = .ok (.iload_n 1, 1) := by decide +kernel
theorem dX10_batch_93 : decode cX10_batch 93 = .ok (.if_icmp .ge 46, 3) := by decide +kernel
theorem dX10_batch_96 : decode cX10_batch 96 = .ok (.aload_n 0, 1) := by decide +kernel
theorem dX10_batch_97 : decode cX10_batch 97 = .ok (.getfield 26, 3) := by decide +kernel
theorem dX10_batch_100 : decode cX10_batch 100 = .ok (.aload_n 0, 1) := by decide +kernel
theorem dX10_batch_101 : decode cX10_batch 101 = .ok (.getfield 240, 3) := by decide +kernel
theorem dX10_batch_104 : decode cX10_batch 104 = .ok (.iload_n 2, 1) := by decide +kernel
theorem dX10_batch_105 : decode cX10_batch 105 = .ok (.iadd, 1) := by decide +kernel
theorem dX10_batch_106 : decode cX10_batch 106 = .ok (.iconst (-1), 1) := by decide +kernel
theorem dX10_batch_107 : decode cX10_batch 107 = .ok (.bastore, 1) := by decide +kernel
theorem dX10_batch_108 : decode cX10_batch 108 = .ok (.aload_n 0, 1) := by decide +kernel
theorem dX10_batch_109 : decode cX10_batch 109 = .ok (.getfield 64, 3) := by decide +kernel
theorem dX10_batch_112 : decode cX10_batch 112 = .ok (.aload_n 0, 1) := by decide +kernel
theorem dX10_batch_113 : decode cX10_batch 113 = .ok (.getfield 240, 3) := by decide +kernel
theorem dX10_batch_116 : decode cX10_batch 116 = .ok (.iload_n 2, 1) := by decide +kernel
theorem dX10_batch_117 : decode cX10_batch 117 = .ok (.iadd, 1) := by decide +kernel
theorem dX10_batch_118 : decode cX10_batch 118 = .ok (.bipush (-2), 2) := by decide +kernel
theorem dX10_batch_120 : decode cX10_batch 120 = .ok (.bastore, 1) := by decide +kernel
theorem dX10_batch_121 : decode cX10_batch 121 = .ok (.aload_n 0, 1) := by decide +kernel
theorem dX10_batch_122 : decode cX10_batch 122 = .ok (.getfield 67, 3) := by decide +kernel
theorem dX10_batch_125 : decode cX10_batch 125 = .ok (.aload_n 0, 1) := by decide +kernel
theorem dX10_batch_126 : decode cX10_batch 126 = .ok (.getfield 240, 3) := by decide +kernel
theorem dX10_batch_129 : decode cX10_batch 129 = .ok (.iload_n 2, 1) := by decide +kernel
theorem dX10_batch_130 : decode cX10_batch 130 = .ok (.iadd, 1) := by decide +kernel
theorem dX10_batch_131 : decode cX10_batch 131 = .ok (.iconst 0, 1) := by decide +kernel
theorem dX10_batch_132 : decode cX10_batch 132 = .ok (.iastore, 1) := by decide +kernel
theorem dX10_batch_133 : decode cX10_batch 133 = .ok (.iinc 2 1, 3) := by decide +kernel
theorem dX10_batch_136 : decode cX10_batch 136 = .ok (.goto (-45), 3) := by decide +kernel
theorem dX10_batch_139 : decode cX10_batch 139 = .ok (.aload_n 0, 1) := by decide +kernel
theorem dX10_batch_140 : decode cX10_batch 140 = .ok (.dup, 1) := by decide +kernel
theorem dX10_batch_141 : decode cX10_batch 141 = .ok (.getfield 240, 3) := by decide +kernel
theorem dX10_batch_144 : decode cX10_batch 144 = .ok (.iload_n 1, 1) := by decide +kernel
theorem dX10_batch_145 : decode cX10_batch 145 = .ok (.iadd, 1) := by decide +kernel
theorem dX10_batch_146 : decode cX10_batch 146 = .ok (.putfield 240, 3) := by decide +kernel
theorem dX10_batch_149 : decode cX10_batch 149 = .ok (.aload_n 0, 1) := by decide +kernel
theorem dX10_batch_150 : decode cX10_batch 150 = .ok (.getfield 240, 3) := by decide +kernel
theorem dX10_batch_153 : decode cX10_batch 153 = .ok (.iload_n 1, 1) := by decide +kernel
theorem dX10_batch_154 : decode cX10_batch 154 = .ok (.isub, 1) := by decide +kernel
theorem dX10_batch_155 : decode cX10_batch 155 = .ok (.ireturn, 1) := by decide +kernel
abbrev cX10_set : ByteArray := prog_13_method_21_code
def yX10_set : MethodName := ⟨RX10, "set", "(II)I"⟩
theorem dX10_set_0 : decode cX10_set 0 = .ok (.aload_n 0, 1) := by decide +kernel
theorem dX10_set_1 : decode cX10_set 1 = .ok (.iload_n 1, 1) := by decide +kernel
theorem dX10_set_2 : decode cX10_set 2 = .ok (.ifCond .lt 8, 3) := by decide +kernel
theorem dX10_set_5 : decode cX10_set 5 = .ok (.iload_n 1, 1) := by decide +kernel
theorem dX10_set_6 : decode cX10_set 6 = .ok (.iconst 1, 1) := by decide +kernel
theorem dX10_set_7 : decode cX10_set 7 = .ok (.if_icmp .le 7, 3) := by decide +kernel
theorem dX10_set_10 : decode cX10_set 10 = .ok (.iconst 1, 1) := by decide +kernel
theorem dX10_set_11 : decode cX10_set 11 = .ok (.goto 40, 3) := by decide +kernel
theorem dX10_set_14 : decode cX10_set 14 = .ok (.iload_n 2, 1) := by decide +kernel
theorem dX10_set_15 : decode cX10_set 15 = .ok (.iconst 1, 1) := by decide +kernel
theorem dX10_set_16 : decode cX10_set 16 = .ok (.if_icmp .lt 19, 3) := by decide +kernel
theorem dX10_set_19 : decode cX10_set 19 = .ok (.iload_n 2, 1) := by decide +kernel
theorem dX10_set_20 : decode cX10_set 20 = .ok (.iload_n 1, 1) := by decide +kernel
theorem dX10_set_21 : decode cX10_set 21 = .ok (.ifCond .ne 8, 3) := by decide +kernel
theorem dX10_set_24 : decode cX10_set 24 = .ok (.bipush 7, 2) := by decide +kernel
theorem dX10_set_26 : decode cX10_set 26 = .ok (.goto 6, 3) := by decide +kernel
theorem dX10_set_29 : decode cX10_set 29 = .ok (.sipush 200, 3) := by decide +kernel
theorem dX10_set_32 : decode cX10_set 32 = .ok (.if_icmp .le 7, 3) := by decide +kernel
theorem dX10_set_35 : decode cX10_set 35 = .ok (.iconst 2, 1) := by decide +kernel
theorem dX10_set_36 : decode cX10_set 36 = .ok (.goto 15, 3) := by decide +kernel
theorem dX10_set_39 : decode cX10_set 39 = .ok (.aload_n 0, 1) := by decide +kernel
theorem dX10_set_40 : decode cX10_set 40 = .ok (.getfield 231, 3) := by decide +kernel
theorem dX10_set_43 : decode cX10_set 43 = .ok (.ifCond .eq 7, 3) := by decide +kernel
theorem dX10_set_46 : decode cX10_set 46 = .ok (.iconst 3, 1) := by decide +kernel
theorem dX10_set_47 : decode cX10_set 47 = .ok (.goto 4, 3) := by decide +kernel
theorem dX10_set_50 : decode cX10_set 50 = .ok (.iconst 0, 1) := by decide +kernel
theorem dX10_set_51 : decode cX10_set 51 = .ok (.putfield 1, 3) := by decide +kernel
theorem dX10_set_54 : decode cX10_set 54 = .ok (.aload_n 0, 1) := by decide +kernel
theorem dX10_set_55 : decode cX10_set 55 = .ok (.getfield 1, 3) := by decide +kernel
theorem dX10_set_58 : decode cX10_set 58 = .ok (.ifCond .le 5, 3) := by decide +kernel
theorem dX10_set_61 : decode cX10_set 61 = .ok (.iconst 0, 1) := by decide +kernel
theorem dX10_set_62 : decode cX10_set 62 = .ok (.ireturn, 1) := by decide +kernel
theorem dX10_set_63 : decode cX10_set 63 = .ok (.iload_n 1, 1) := by decide +kernel
theorem dX10_set_64 : decode cX10_set 64 = .ok (.ifCond .ne 10, 3) := by decide +kernel
theorem dX10_set_67 : decode cX10_set 67 = .ok (.aload_n 0, 1) := by decide +kernel
theorem dX10_set_68 : decode cX10_set 68 = .ok (.getfield 17, 3) := by decide +kernel
theorem dX10_set_71 : decode cX10_set 71 = .ok (.goto 7, 3) := by decide +kernel
theorem dX10_set_74 : decode cX10_set 74 = .ok (.aload_n 0, 1) := by decide +kernel
theorem dX10_set_75 : decode cX10_set 75 = .ok (.getfield 20, 3) := by decide +kernel
theorem dX10_set_78 : decode cX10_set 78 = .ok (.istore_n 3, 1) := by decide +kernel
theorem dX10_set_79 : decode cX10_set 79 = .ok (.aload_n 0, 1) := by decide +kernel
theorem dX10_set_80 : decode cX10_set 80 = .ok (.iload_n 1, 1) := by decide +kernel
theorem dX10_set_81 : decode cX10_set 81 = .ok (.ifCond .ne 7, 3) := by decide +kernel
theorem dX10_set_84 : decode cX10_set 84 = .ok (.iload_n 2, 1) := by decide +kernel
theorem dX10_set_85 : decode cX10_set 85 = .ok (.goto 7, 3) := by decide +kernel
theorem dX10_set_88 : decode cX10_set 88 = .ok (.aload_n 0, 1) := by decide +kernel
theorem dX10_set_89 : decode cX10_set 89 = .ok (.getfield 17, 3) := by decide +kernel
theorem dX10_set_92 : decode cX10_set 92 = .ok (.putfield 17, 3) := by decide +kernel
theorem dX10_set_95 : decode cX10_set 95 = .ok (.aload_n 0, 1) := by decide +kernel
theorem dX10_set_96 : decode cX10_set 96 = .ok (.iload_n 1, 1) := by decide +kernel
theorem dX10_set_97 : decode cX10_set 97 = .ok (.iconst 1, 1) := by decide +kernel
theorem dX10_set_98 : decode cX10_set 98 = .ok (.if_icmp .ne 7, 3) := by decide +kernel
theorem dX10_set_101 : decode cX10_set 101 = .ok (.iload_n 2, 1) := by decide +kernel
theorem dX10_set_102 : decode cX10_set 102 = .ok (.goto 7, 3) := by decide +kernel
theorem dX10_set_105 : decode cX10_set 105 = .ok (.aload_n 0, 1) := by decide +kernel
theorem dX10_set_106 : decode cX10_set 106 = .ok (.getfield 20, 3) := by decide +kernel
theorem dX10_set_109 : decode cX10_set 109 = .ok (.putfield 20, 3) := by decide +kernel
theorem dX10_set_112 : decode cX10_set 112 = .ok (.iload_n 3, 1) := by decide +kernel
theorem dX10_set_113 : decode cX10_set 113 = .ok (.ireturn, 1) := by decide +kernel
abbrev cX10_fraction : ByteArray := prog_13_method_22_code
def yX10_fraction : MethodName := ⟨RX10, "fraction", "(III)V"⟩
theorem dX10_fraction_0 : decode cX10_fraction 0 = .ok (.iload_n 2, 1) := by decide +kernel
theorem dX10_fraction_1 : decode cX10_fraction 1 = .ok (.iconst 1, 1) := by decide +kernel
theorem dX10_fraction_2 : decode cX10_fraction 2 = .ok (.if_icmp .lt 41, 3) := by decide +kernel
theorem dX10_fraction_5 : decode cX10_fraction 5 = .ok (.iload_n 2, 1) := by decide +kernel
theorem dX10_fraction_6 : decode cX10_fraction 6 = .ok (.ldc 230, 2) := by decide +kernel
theorem dX10_fraction_8 : decode cX10_fraction 8 = .ok (.if_icmp .gt 35, 3) := by decide +kernel
theorem dX10_fraction_11 : decode cX10_fraction 11 = .ok (.iload_n 3, 1) := by decide +kernel
theorem dX10_fraction_12 : decode cX10_fraction 12 = .ok (.iconst 1, 1) := by decide +kernel
theorem dX10_fraction_13 : decode cX10_fraction 13 = .ok (.if_icmp .lt 30, 3) := by decide +kernel
theorem dX10_fraction_16 : decode cX10_fraction 16 = .ok (.iload_n 3, 1) := by decide +kernel
theorem dX10_fraction_17 : decode cX10_fraction 17 = .ok (.ldc 230, 2) := by decide +kernel
theorem dX10_fraction_19 : decode cX10_fraction 19 = .ok (.if_icmp .gt 24, 3) := by decide +kernel
theorem dX10_fraction_22 : decode cX10_fraction 22 = .ok (.iload_n 1, 1) := by decide +kernel
theorem dX10_fraction_23 : decode cX10_fraction 23 = .ok (.ifCond .ne 11, 3) := by decide +kernel
theorem dX10_fraction_26 : decode cX10_fraction 26 = .ok (.iload_n 2, 1) := by decide +kernel
theorem dX10_fraction_27 : decode cX10_fraction 27 = .ok (.iload_n 3, 1) := by decide +kernel
theorem dX10_fraction_28 : decode cX10_fraction 28 = .ok (.if_icmp .ge 15, 3) := by decide +kernel
theorem dX10_fraction_31 : decode cX10_fraction 31 = .ok (.goto 8, 3) := by decide +kernel
theorem dX10_fraction_34 : decode cX10_fraction 34 = .ok (.iload_n 2, 1) := by decide +kernel
theorem dX10_fraction_35 : decode cX10_fraction 35 = .ok (.iload_n 3, 1) := by decide +kernel
theorem dX10_fraction_36 : decode cX10_fraction 36 = .ok (.if_icmp .le 7, 3) := by decide +kernel
theorem dX10_fraction_39 : decode cX10_fraction 39 = .ok (.iconst 1, 1) := by decide +kernel
theorem dX10_fraction_40 : decode cX10_fraction 40 = .ok (.goto 4, 3) := by decide +kernel
theorem dX10_fraction_43 : decode cX10_fraction 43 = .ok (.iconst 0, 1) := by decide +kernel
theorem dX10_fraction_44 : decode cX10_fraction 44 = .ok (.istore 4, 2) := by decide +kernel
theorem dX10_fraction_46 : decode cX10_fraction 46 = .ok (.aload_n 0, 1) := by decide +kernel
theorem dX10_fraction_47 : decode cX10_fraction 47 = .ok (.iload_n 1, 1) := by decide +kernel
theorem dX10_fraction_48 : decode cX10_fraction 48 = .ok (.ifCond .lt 8, 3) := by decide +kernel
theorem dX10_fraction_51 : decode cX10_fraction 51 = .ok (.iload_n 1, 1) := by decide +kernel
theorem dX10_fraction_52 : decode cX10_fraction 52 = .ok (.iconst 1, 1) := by decide +kernel
theorem dX10_fraction_53 : decode cX10_fraction 53 = .ok (.if_icmp .le 7, 3) := by decide +kernel
theorem dX10_fraction_56 : decode cX10_fraction 56 = .ok (.iconst 1, 1) := by decide +kernel
theorem dX10_fraction_57 : decode cX10_fraction 57 = .ok (.goto 24, 3) := by decide +kernel
theorem dX10_fraction_60 : decode cX10_fraction 60 = .ok (.iload 4, 2) := by decide +kernel
theorem dX10_fraction_62 : decode cX10_fraction 62 = .ok (.ifCond .ne 7, 3) := by decide +kernel
theorem dX10_fraction_65 : decode cX10_fraction 65 = .ok (.iconst 2, 1) := by decide +kernel
theorem dX10_fraction_66 : decode cX10_fraction 66 = .ok (.goto 15, 3) := by decide +kernel
theorem dX10_fraction_69 : decode cX10_fraction 69 = .ok (.aload_n 0, 1) := by decide +kernel
theorem dX10_fraction_70 : decode cX10_fraction 70 = .ok (.getfield 231, 3) := by decide +kernel
theorem dX10_fraction_73 : decode cX10_fraction 73 = .ok (.ifCond .eq 7, 3) := by decide +kernel
theorem dX10_fraction_76 : decode cX10_fraction 76 = .ok (.iconst 3, 1) := by decide +kernel
theorem dX10_fraction_77 : decode cX10_fraction 77 = .ok (.goto 4, 3) := by decide +kernel
theorem dX10_fraction_80 : decode cX10_fraction 80 = .ok (.iconst 0, 1) := by decide +kernel
theorem dX10_fraction_81 : decode cX10_fraction 81 = .ok (.putfield 1, 3) := by decide +kernel
theorem dX10_fraction_84 : decode cX10_fraction 84 = .ok (.aload_n 0, 1) := by decide +kernel
theorem dX10_fraction_85 : decode cX10_fraction 85 = .ok (.getfield 1, 3) := by decide +kernel
theorem dX10_fraction_88 : decode cX10_fraction 88 = .ok (.ifCond .le 4, 3) := by decide +kernel
theorem dX10_fraction_91 : decode cX10_fraction 91 = .ok (.return_, 1) := by decide +kernel
theorem dX10_fraction_92 : decode cX10_fraction 92 = .ok (.iload_n 1, 1) := by decide +kernel
theorem dX10_fraction_93 : decode cX10_fraction 93 = .ok (.ifCond .ne 16, 3) := by decide +kernel
theorem dX10_fraction_96 : decode cX10_fraction 96 = .ok (.aload_n 0, 1) := by decide +kernel
theorem dX10_fraction_97 : decode cX10_fraction 97 = .ok (.iload_n 2, 1) := by decide +kernel
theorem dX10_fraction_98 : decode cX10_fraction 98 = .ok (.putfield 30, 3) := by decide +kernel
theorem dX10_fraction_101 : decode cX10_fraction 101 = .ok (.aload_n 0, 1) := by decide +kernel
theorem dX10_fraction_102 : decode cX10_fraction 102 = .ok (.iload_n 3, 1) := by decide +kernel
theorem dX10_fraction_103 : decode cX10_fraction 103 = .ok (.putfield 33, 3) := by decide +kernel
theorem dX10_fraction_106 : decode cX10_fraction 106 = .ok (.goto 13, 3) := by decide +kernel
theorem dX10_fraction_109 : decode cX10_fraction 109 = .ok (.aload_n 0, 1) := by decide +kernel
theorem dX10_fraction_110 : decode cX10_fraction 110 = .ok (.iload_n 2, 1) := by decide +kernel
theorem dX10_fraction_111 : decode cX10_fraction 111 = .ok (.putfield 36, 3) := by decide +kernel
theorem dX10_fraction_114 : decode cX10_fraction 114 = .ok (.aload_n 0, 1) := by decide +kernel
theorem dX10_fraction_115 : decode cX10_fraction 115 = .ok (.iload_n 3, 1) := by decide +kernel
theorem dX10_fraction_116 : decode cX10_fraction 116 = .ok (.putfield 39, 3) := by decide +kernel
theorem dX10_fraction_119 : decode cX10_fraction 119 = .ok (.return_, 1) := by decide +kernel
abbrev cX10_record : ByteArray := prog_13_method_24_code
def yX10_record : MethodName := ⟨RX10, "record", "(III)V"⟩
theorem dX10_record_0 : decode cX10_record 0 = .ok (.aload_n 0, 1) := by decide +kernel
theorem dX10_record_1 : decode cX10_record 1 = .ok (.iload_n 1, 1) := by decide +kernel
theorem dX10_record_2 : decode cX10_record 2 = .ok (.ifCond .lt 34, 3) := by decide +kernel
theorem dX10_record_5 : decode cX10_record 5 = .ok (.iload_n 2, 1) := by decide +kernel
theorem dX10_record_6 : decode cX10_record 6 = .ok (.iconst 1, 1) := by decide +kernel
theorem dX10_record_7 : decode cX10_record 7 = .ok (.if_icmp .lt 29, 3) := by decide +kernel
theorem dX10_record_10 : decode cX10_record 10 = .ok (.iload_n 2, 1) := by decide +kernel
theorem dX10_record_11 : decode cX10_record 11 = .ok (.aload_n 0, 1) := by decide +kernel
theorem dX10_record_12 : decode cX10_record 12 = .ok (.getfield 240, 3) := by decide +kernel
theorem dX10_record_15 : decode cX10_record 15 = .ok (.if_icmp .gt 21, 3) := by decide +kernel
theorem dX10_record_18 : decode cX10_record 18 = .ok (.iload_n 1, 1) := by decide +kernel
theorem dX10_record_19 : decode cX10_record 19 = .ok (.aload_n 0, 1) := by decide +kernel
theorem dX10_record_20 : decode cX10_record 20 = .ok (.getfield 240, 3) := by decide +kernel
theorem dX10_record_23 : decode cX10_record 23 = .ok (.iload_n 2, 1) := by decide +kernel
theorem dX10_record_24 : decode cX10_record 24 = .ok (.isub, 1) := by decide +kernel
theorem dX10_record_25 : decode cX10_record 25 = .ok (.if_icmp .gt 11, 3) := by decide +kernel
theorem dX10_record_28 : decode cX10_record 28 = .ok (.aload_n 0, 1) := by decide +kernel
theorem dX10_record_29 : decode cX10_record 29 = .ok (.iload_n 3, 1) := by decide +kernel
theorem dX10_record_30 : decode cX10_record 30 = .ok (.invokevirtual 243, 3) := by decide +kernel
theorem dX10_record_33 : decode cX10_record 33 = .ok (.ifCond .ne 7, 3) := by decide +kernel
theorem dX10_record_36 : decode cX10_record 36 = .ok (.iconst 1, 1) := by decide +kernel
theorem dX10_record_37 : decode cX10_record 37 = .ok (.goto 15, 3) := by decide +kernel
theorem dX10_record_40 : decode cX10_record 40 = .ok (.aload_n 0, 1) := by decide +kernel
theorem dX10_record_41 : decode cX10_record 41 = .ok (.getfield 231, 3) := by decide +kernel
theorem dX10_record_44 : decode cX10_record 44 = .ok (.ifCond .eq 7, 3) := by decide +kernel
theorem dX10_record_47 : decode cX10_record 47 = .ok (.iconst 2, 1) := by decide +kernel
theorem dX10_record_48 : decode cX10_record 48 = .ok (.goto 4, 3) := by decide +kernel
theorem dX10_record_51 : decode cX10_record 51 = .ok (.iconst 0, 1) := by decide +kernel
theorem dX10_record_52 : decode cX10_record 52 = .ok (.putfield 1, 3) := by decide +kernel
theorem dX10_record_55 : decode cX10_record 55 = .ok (.iconst 0, 1) := by decide +kernel
theorem dX10_record_56 : decode cX10_record 56 = .ok (.istore 4, 2) := by decide +kernel
theorem dX10_record_58 : decode cX10_record 58 = .ok (.iload 4, 2) := by decide +kernel
theorem dX10_record_60 : decode cX10_record 60 = .ok (.iload_n 2, 1) := by decide +kernel
theorem dX10_record_61 : decode cX10_record 61 = .ok (.if_icmp .ge 27, 3) := by decide +kernel
theorem dX10_record_64 : decode cX10_record 64 = .ok (.aload_n 0, 1) := by decide +kernel
theorem dX10_record_65 : decode cX10_record 65 = .ok (.getfield 1, 3) := by decide +kernel
theorem dX10_record_68 : decode cX10_record 68 = .ok (.ifCond .ne 20, 3) := by decide +kernel
theorem dX10_record_71 : decode cX10_record 71 = .ok (.aload_n 0, 1) := by decide +kernel
theorem dX10_record_72 : decode cX10_record 72 = .ok (.getfield 26, 3) := by decide +kernel
theorem dX10_record_75 : decode cX10_record 75 = .ok (.iload_n 1, 1) := by decide +kernel
theorem dX10_record_76 : decode cX10_record 76 = .ok (.iload 4, 2) := by decide +kernel
theorem dX10_record_78 : decode cX10_record 78 = .ok (.iadd, 1) := by decide +kernel
theorem dX10_record_79 : decode cX10_record 79 = .ok (.iload_n 3, 1) := by decide +kernel
theorem dX10_record_80 : decode cX10_record 80 = .ok (.i2b, 1) := by decide +kernel
theorem dX10_record_81 : decode cX10_record 81 = .ok (.bastore, 1) := by decide +kernel
theorem dX10_record_82 : decode cX10_record 82 = .ok (.iinc 4 1, 3) := by decide +kernel
theorem dX10_record_85 : decode cX10_record 85 = .ok (.goto (-27), 3) := by decide +kernel
theorem dX10_record_88 : decode cX10_record 88 = .ok (.return_, 1) := by decide +kernel
abbrev cX10_isVote : ByteArray := prog_13_method_23_code
def yX10_isVote : MethodName := ⟨RX10, "isVote", "(I)Z"⟩
theorem dX10_isVote_0 : decode cX10_isVote 0 = .ok (.iload_n 1, 1) := by decide +kernel
theorem dX10_isVote_1 : decode cX10_isVote 1 = .ok (.iconst (-1), 1) := by decide +kernel
theorem dX10_isVote_2 : decode cX10_isVote 2 = .ok (.if_icmp .lt 15, 3) := by decide +kernel
theorem dX10_isVote_5 : decode cX10_isVote 5 = .ok (.iload_n 1, 1) := by decide +kernel
theorem dX10_isVote_6 : decode cX10_isVote 6 = .ok (.aload_n 0, 1) := by decide +kernel
theorem dX10_isVote_7 : decode cX10_isVote 7 = .ok (.getfield 234, 3) := by decide +kernel
theorem dX10_isVote_10 : decode cX10_isVote 10 = .ok (.if_icmp .ge 7, 3) := by decide +kernel
theorem dX10_isVote_13 : decode cX10_isVote 13 = .ok (.iconst 1, 1) := by decide +kernel
theorem dX10_isVote_14 : decode cX10_isVote 14 = .ok (.goto 4, 3) := by decide +kernel
theorem dX10_isVote_17 : decode cX10_isVote 17 = .ok (.iconst 0, 1) := by decide +kernel
theorem dX10_isVote_18 : decode cX10_isVote 18 = .ok (.ireturn, 1) := by decide +kernel
abbrev cX10_digit : ByteArray := prog_13_method_25_code
def yX10_digit : MethodName := ⟨RX10, "digit", "(I)I"⟩
theorem dX10_digit_0 : decode cX10_digit 0 = .ok (.aload_n 0, 1) := by decide +kernel
theorem dX10_digit_1 : decode cX10_digit 1 = .ok (.iload_n 1, 1) := by decide +kernel
theorem dX10_digit_2 : decode cX10_digit 2 = .ok (.ifCond .lt 9, 3) := by decide +kernel
theorem dX10_digit_5 : decode cX10_digit 5 = .ok (.iload_n 1, 1) := by decide +kernel
theorem dX10_digit_6 : decode cX10_digit 6 = .ok (.bipush 9, 2) := by decide +kernel
theorem dX10_digit_8 : decode cX10_digit 8 = .ok (.if_icmp .le 7, 3) := by decide +kernel
theorem dX10_digit_11 : decode cX10_digit 11 = .ok (.iconst 1, 1) := by decide +kernel
theorem dX10_digit_12 : decode cX10_digit 12 = .ok (.goto 28, 3) := by decide +kernel
theorem dX10_digit_15 : decode cX10_digit 15 = .ok (.aload_n 0, 1) := by decide +kernel
theorem dX10_digit_16 : decode cX10_digit 16 = .ok (.getfield 231, 3) := by decide +kernel
theorem dX10_digit_19 : decode cX10_digit 19 = .ok (.ifCond .eq 7, 3) := by decide +kernel
theorem dX10_digit_22 : decode cX10_digit 22 = .ok (.iconst 2, 1) := by decide +kernel
theorem dX10_digit_23 : decode cX10_digit 23 = .ok (.goto 17, 3) := by decide +kernel
theorem dX10_digit_26 : decode cX10_digit 26 = .ok (.aload_n 0, 1) := by decide +kernel
theorem dX10_digit_27 : decode cX10_digit 27 = .ok (.getfield 220, 3) := by decide +kernel
theorem dX10_digit_30 : decode cX10_digit 30 = .ok (.bipush 20, 2) := by decide +kernel
theorem dX10_digit_32 : decode cX10_digit 32 = .ok (.if_icmp .ne 7, 3) := by decide +kernel
theorem dX10_digit_35 : decode cX10_digit 35 = .ok (.iconst 3, 1) := by decide +kernel
theorem dX10_digit_36 : decode cX10_digit 36 = .ok (.goto 4, 3) := by decide +kernel
theorem dX10_digit_39 : decode cX10_digit 39 = .ok (.iconst 0, 1) := by decide +kernel
theorem dX10_digit_40 : decode cX10_digit 40 = .ok (.putfield 1, 3) := by decide +kernel
theorem dX10_digit_43 : decode cX10_digit 43 = .ok (.aload_n 0, 1) := by decide +kernel
theorem dX10_digit_44 : decode cX10_digit 44 = .ok (.getfield 1, 3) := by decide +kernel
theorem dX10_digit_47 : decode cX10_digit 47 = .ok (.ifCond .le 5, 3) := by decide +kernel
theorem dX10_digit_50 : decode cX10_digit 50 = .ok (.iconst 0, 1) := by decide +kernel
theorem dX10_digit_51 : decode cX10_digit 51 = .ok (.ireturn, 1) := by decide +kernel
theorem dX10_digit_52 : decode cX10_digit 52 = .ok (.aload_n 0, 1) := by decide +kernel
theorem dX10_digit_53 : decode cX10_digit 53 = .ok (.getfield 42, 3) := by decide +kernel
theorem dX10_digit_56 : decode cX10_digit 56 = .ok (.aload_n 0, 1) := by decide +kernel
theorem dX10_digit_57 : decode cX10_digit 57 = .ok (.getfield 220, 3) := by decide +kernel
theorem dX10_digit_60 : decode cX10_digit 60 = .ok (.iload_n 1, 1) := by decide +kernel
theorem dX10_digit_61 : decode cX10_digit 61 = .ok (.iastore, 1) := by decide +kernel
theorem dX10_digit_62 : decode cX10_digit 62 = .ok (.aload_n 0, 1) := by decide +kernel
theorem dX10_digit_63 : decode cX10_digit 63 = .ok (.dup, 1) := by decide +kernel
theorem dX10_digit_64 : decode cX10_digit 64 = .ok (.getfield 220, 3) := by decide +kernel
theorem dX10_digit_67 : decode cX10_digit 67 = .ok (.iconst 1, 1) := by decide +kernel
theorem dX10_digit_68 : decode cX10_digit 68 = .ok (.iadd, 1) := by decide +kernel
theorem dX10_digit_69 : decode cX10_digit 69 = .ok (.putfield 220, 3) := by decide +kernel
theorem dX10_digit_72 : decode cX10_digit 72 = .ok (.aload_n 0, 1) := by decide +kernel
theorem dX10_digit_73 : decode cX10_digit 73 = .ok (.getfield 220, 3) := by decide +kernel
