set_option maxRecDepth 100000
abbrev cX8_init : ByteArray := prog_8_method_1_code
def yX8_init : MethodName := ⟨RX8, "<init>", "()V"⟩
theorem dX8_init_0 : decode cX8_init 0 = .ok (.aload_n 0, 1) := by decide +kernel
theorem dX8_init_1 : decode cX8_init 1 = .ok (.invokespecial 1, 3) := by decide +kernel
theorem dX8_init_4 : decode cX8_init 4 = .ok (.aload_n 0, 1) := by decide +kernel
theorem dX8_init_5 : decode cX8_init 5 = .ok (.new 7, 3) := by decide +kernel
theorem dX8_init_8 : decode cX8_init 8 = .ok (.dup, 1) := by decide +kernel
theorem dX8_init_9 : decode cX8_init 9 = .ok (.bipush 64, 2) := by decide +kernel
theorem dX8_init_11 : decode cX8_init 11 = .ok (.invokespecial 9, 3) := by decide +kernel
theorem dX8_init_14 : decode cX8_init 14 = .ok (.putfield 12, 3) := by decide +kernel
theorem dX8_init_17 : decode cX8_init 17 = .ok (.aload_n 0, 1) := by decide +kernel
theorem dX8_init_18 : decode cX8_init 18 = .ok (.new 7, 3) := by decide +kernel
theorem dX8_init_21 : decode cX8_init 21 = .ok (.dup, 1) := by decide +kernel
theorem dX8_init_22 : decode cX8_init 22 = .ok (.bipush 64, 2) := by decide +kernel
theorem dX8_init_24 : decode cX8_init 24 = .ok (.invokespecial 9, 3) := by decide +kernel
theorem dX8_init_27 : decode cX8_init 27 = .ok (.putfield 18, 3) := by decide +kernel
theorem dX8_init_30 : decode cX8_init 30 = .ok (.aload_n 0, 1) := by decide +kernel
theorem dX8_init_31 : decode cX8_init 31 = .ok (.new 7, 3) := by decide +kernel
theorem dX8_init_34 : decode cX8_init 34 = .ok (.dup, 1) := by decide +kernel
theorem dX8_init_35 : decode cX8_init 35 = .ok (.bipush 64, 2) := by decide +kernel
theorem dX8_init_37 : decode cX8_init 37 = .ok (.invokespecial 9, 3) := by decide +kernel
theorem dX8_init_40 : decode cX8_init 40 = .ok (.putfield 21, 3) := by decide +kernel
theorem dX8_init_43 : decode cX8_init 43 = .ok (.aload_n 0, 1) := by decide +kernel
theorem dX8_init_44 : decode cX8_init 44 = .ok (.new 7, 3) := by decide +kernel
theorem dX8_init_47 : decode cX8_init 47 = .ok (.dup, 1) := by decide +kernel
theorem dX8_init_48 : decode cX8_init 48 = .ok (.bipush 64, 2) := by decide +kernel
theorem dX8_init_50 : decode cX8_init 50 = .ok (.invokespecial 9, 3) := by decide +kernel
theorem dX8_init_53 : decode cX8_init 53 = .ok (.putfield 24, 3) := by decide +kernel
theorem dX8_init_56 : decode cX8_init 56 = .ok (.aload_n 0, 1) := by decide +kernel
theorem dX8_init_57 : decode cX8_init 57 = .ok (.new 7, 3) := by decide +kernel
theorem dX8_init_60 : decode cX8_init 60 = .ok (.dup, 1) := by decide +kernel
theorem dX8_init_61 : decode cX8_init 61 = .ok (.bipush 64, 2) := by decide +kernel
theorem dX8_init_63 : decode cX8_init 63 = .ok (.invokespecial 9, 3) := by decide +kernel
theorem dX8_init_66 : decode cX8_init 66 = .ok (.putfield 27, 3) := by decide +kernel
theorem dX8_init_69 : decode cX8_init 69 = .ok (.aload_n 0, 1) := by decide +kernel
theorem dX8_init_70 : decode cX8_init 70 = .ok (.new 7, 3) := by decide +kernel
theorem dX8_init_73 : decode cX8_init 73 = .ok (.dup, 1) := by decide +kernel
theorem dX8_init_74 : decode cX8_init 74 = .ok (.bipush 64, 2) := by decide +kernel
theorem dX8_init_76 : decode cX8_init 76 = .ok (.invokespecial 9, 3) := by decide +kernel
theorem dX8_init_79 : decode cX8_init 79 = .ok (.putfield 30, 3) := by decide +kernel
theorem dX8_init_82 : decode cX8_init 82 = .ok (.aload_n 0, 1) := by decide +kernel
theorem dX8_init_83 : decode cX8_init 83 = .ok (.new 7, 3) := by decide +kernel
theorem dX8_init_86 : decode cX8_init 86 = .ok (.dup, 1) := by decide +kernel
theorem dX8_init_87 : decode cX8_init 87 = .ok (.bipush 64, 2) := by decide +kernel
theorem dX8_init_89 : decode cX8_init 89 = .ok (.invokespecial 9, 3) := by decide +kernel
theorem dX8_init_92 : decode cX8_init 92 = .ok (.putfield 33, 3) := by decide +kernel
theorem dX8_init_95 : decode cX8_init 95 = .ok (.aload_n 0, 1) := by decide +kernel
theorem dX8_init_96 : decode cX8_init 96 = .ok (.new 7, 3) := by decide +kernel
theorem dX8_init_99 : decode cX8_init 99 = .ok (.dup, 1) := by decide +kernel
theorem dX8_init_100 : decode cX8_init 100 = .ok (.bipush 64, 2) := by decide +kernel
theorem dX8_init_102 : decode cX8_init 102 = .ok (.invokespecial 9, 3) := by decide +kernel
theorem dX8_init_105 : decode cX8_init 105 = .ok (.putfield 36, 3) := by decide +kernel
theorem dX8_init_108 : decode cX8_init 108 = .ok (.aload_n 0, 1) := by decide +kernel
theorem dX8_init_109 : decode cX8_init 109 = .ok (.new 7, 3) := by decide +kernel
theorem dX8_init_112 : decode cX8_init 112 = .ok (.dup, 1) := by decide +kernel
theorem dX8_init_113 : decode cX8_init 113 = .ok (.bipush 64, 2) := by decide +kernel
theorem dX8_init_115 : decode cX8_init 115 = .ok (.invokespecial 9, 3) := by decide +kernel
theorem dX8_init_118 : decode cX8_init 118 = .ok (.putfield 39, 3) := by decide +kernel
theorem dX8_init_121 : decode cX8_init 121 = .ok (.aload_n 0, 1) := by decide +kernel
theorem dX8_init_122 : decode cX8_init 122 = .ok (.new 7, 3) := by decide +kernel
theorem dX8_init_125 : decode cX8_init 125 = .ok (.dup, 1) := by decide +kernel
theorem dX8_init_126 : decode cX8_init 126 = .ok (.bipush 64, 2) := by decide +kernel
theorem dX8_init_128 : decode cX8_init 128 = .ok (.invokespecial 9, 3) := by decide +kernel
theorem dX8_init_131 : decode cX8_init 131 = .ok (.putfield 42, 3) := by decide +kernel
theorem dX8_init_134 : decode cX8_init 134 = .ok (.aload_n 0, 1) := by decide +kernel
theorem dX8_init_135 : decode cX8_init 135 = .ok (.new 7, 3) := by decide +kernel
theorem dX8_init_138 : decode cX8_init 138 = .ok (.dup, 1) := by decide +kernel
theorem dX8_init_139 : decode cX8_init 139 = .ok (.bipush 64, 2) := by decide +kernel
theorem dX8_init_141 : decode cX8_init 141 = .ok (.invokespecial 9, 3) := by decide +kernel
theorem dX8_init_144 : decode cX8_init 144 = .ok (.putfield 45, 3) := by decide +kernel
theorem dX8_init_147 : decode cX8_init 147 = .ok (.return_, 1) := by decide +kernel
abbrev cX8_multiply : ByteArray := prog_8_method_5_code
def yX8_multiply : MethodName := ⟨RX8, "multiply", "(LPollAudit$Big;LPollAudit$Big;)V"⟩
theorem dX8_multiply_0 : decode cX8_multiply 0 = .ok (.aload_n 0, 1) := by decide +kernel
theorem dX8_multiply_1 : decode cX8_multiply 1 = .ok (.getfield 39, 3) := by decide +kernel
theorem dX8_multiply_4 : decode cX8_multiply 4 = .ok (.aload_n 1, 1) := by decide +kernel
theorem dX8_multiply_5 : decode cX8_multiply 5 = .ok (.aload_n 2, 1) := by decide +kernel
theorem dX8_multiply_6 : decode cX8_multiply 6 = .ok (.invokevirtual 70, 3) := by decide +kernel
theorem dX8_multiply_9 : decode cX8_multiply 9 = .ok (.aload_n 1, 1) := by decide +kernel
theorem dX8_multiply_10 : decode cX8_multiply 10 = .ok (.aload_n 0, 1) := by decide +kernel
theorem dX8_multiply_11 : decode cX8_multiply 11 = .ok (.getfield 39, 3) := by decide +kernel
theorem dX8_multiply_14 : decode cX8_multiply 14 = .ok (.invokevirtual 48, 3) := by decide +kernel
theorem dX8_multiply_17 : decode cX8_multiply 17 = .ok (.return_, 1) := by decide +kernel
abbrev cX8_reduce : ByteArray := prog_8_method_3_code
def yX8_reduce : MethodName := ⟨RX8, "reduce", "(LPollAudit$Big;LPollAudit$Big;)V"⟩
theorem dX8_reduce_0 : decode cX8_reduce 0 = .ok (.aload_n 0, 1) := by decide +kernel
theorem dX8_reduce_1 : decode cX8_reduce 1 = .ok (.aload_n 1, 1) := by decide +kernel
theorem dX8_reduce_2 : decode cX8_reduce 2 = .ok (.aload_n 2, 1) := by decide +kernel
theorem dX8_reduce_3 : decode cX8_reduce 3 = .ok (.aload_n 0, 1) := by decide +kernel
theorem dX8_reduce_4 : decode cX8_reduce 4 = .ok (.getfield 30, 3) := by decide +kernel
theorem dX8_reduce_7 : decode cX8_reduce 7 = .ok (.invokevirtual 60, 3) := by decide +kernel
theorem dX8_reduce_10 : decode cX8_reduce 10 = .ok (.aload_n 0, 1) := by decide +kernel
theorem dX8_reduce_11 : decode cX8_reduce 11 = .ok (.getfield 30, 3) := by decide +kernel
theorem dX8_reduce_14 : decode cX8_reduce 14 = .ok (.invokevirtual 63, 3) := by decide +kernel
theorem dX8_reduce_17 : decode cX8_reduce 17 = .ok (.ifCond .eq 4, 3) := by decide +kernel
theorem dX8_reduce_20 : decode cX8_reduce 20 = .ok (.return_, 1) := by decide +kernel
theorem dX8_reduce_21 : decode cX8_reduce 21 = .ok (.aload_n 0, 1) := by decide +kernel
theorem dX8_reduce_22 : decode cX8_reduce 22 = .ok (.aload_n 1, 1) := by decide +kernel
theorem dX8_reduce_23 : decode cX8_reduce 23 = .ok (.aload_n 0, 1) := by decide +kernel
theorem dX8_reduce_24 : decode cX8_reduce 24 = .ok (.getfield 30, 3) := by decide +kernel
theorem dX8_reduce_27 : decode cX8_reduce 27 = .ok (.invokevirtual 66, 3) := by decide +kernel
theorem dX8_reduce_30 : decode cX8_reduce 30 = .ok (.aload_n 0, 1) := by decide +kernel
theorem dX8_reduce_31 : decode cX8_reduce 31 = .ok (.aload_n 2, 1) := by decide +kernel
theorem dX8_reduce_32 : decode cX8_reduce 32 = .ok (.aload_n 0, 1) := by decide +kernel
theorem dX8_reduce_33 : decode cX8_reduce 33 = .ok (.getfield 30, 3) := by decide +kernel
theorem dX8_reduce_36 : decode cX8_reduce 36 = .ok (.invokevirtual 66, 3) := by decide +kernel
theorem dX8_reduce_39 : decode cX8_reduce 39 = .ok (.return_, 1) := by decide +kernel
abbrev cX8_common : ByteArray := prog_8_method_2_code
def yX8_common : MethodName := ⟨RX8, "common", "(LPollAudit$Big;LPollAudit$Big;LPollAudit$Big;)V"⟩
theorem dX8_common_0 : decode cX8_common 0 = .ok (.aload_n 0, 1) := by decide +kernel
theorem dX8_common_1 : decode cX8_common 1 = .ok (.getfield 12, 3) := by decide +kernel
theorem dX8_common_4 : decode cX8_common 4 = .ok (.aload_n 1, 1) := by decide +kernel
theorem dX8_common_5 : decode cX8_common 5 = .ok (.invokevirtual 48, 3) := by decide +kernel
theorem dX8_common_8 : decode cX8_common 8 = .ok (.aload_n 0, 1) := by decide +kernel
theorem dX8_common_9 : decode cX8_common 9 = .ok (.getfield 18, 3) := by decide +kernel
theorem dX8_common_12 : decode cX8_common 12 = .ok (.aload_n 2, 1) := by decide +kernel
theorem dX8_common_13 : decode cX8_common 13 = .ok (.invokevirtual 48, 3) := by decide +kernel
theorem dX8_common_16 : decode cX8_common 16 = .ok (.aload_n 0, 1) := by decide +kernel
theorem dX8_common_17 : decode cX8_common 17 = .ok (.getfield 18, 3) := by decide +kernel
theorem dX8_common_20 : decode cX8_common 20 = .ok (.invokevirtual 52, 3) := by decide +kernel
theorem dX8_common_23 : decode cX8_common 23 = .ok (.ifCond .ne 58, 3) := by decide +kernel
theorem dX8_common_26 : decode cX8_common 26 = .ok (.aload_n 0, 1) := by decide +kernel
theorem dX8_common_27 : decode cX8_common 27 = .ok (.getfield 12, 3) := by decide +kernel
theorem dX8_common_30 : decode cX8_common 30 = .ok (.aload_n 0, 1) := by decide +kernel
theorem dX8_common_31 : decode cX8_common 31 = .ok (.getfield 18, 3) := by decide +kernel
theorem dX8_common_34 : decode cX8_common 34 = .ok (.aload_n 0, 1) := by decide +kernel
theorem dX8_common_35 : decode cX8_common 35 = .ok (.getfield 21, 3) := by decide +kernel
theorem dX8_common_38 : decode cX8_common 38 = .ok (.aload_n 0, 1) := by decide +kernel
theorem dX8_common_39 : decode cX8_common 39 = .ok (.getfield 24, 3) := by decide +kernel
theorem dX8_common_42 : decode cX8_common 42 = .ok (.invokevirtual 56, 3) := by decide +kernel
theorem dX8_common_45 : decode cX8_common 45 = .ok (.aload_n 0, 1) := by decide +kernel
theorem dX8_common_46 : decode cX8_common 46 = .ok (.getfield 27, 3) := by decide +kernel
theorem dX8_common_49 : decode cX8_common 49 = .ok (.aload_n 0, 1) := by decide +kernel
theorem dX8_common_50 : decode cX8_common 50 = .ok (.getfield 12, 3) := by decide +kernel
theorem dX8_common_53 : decode cX8_common 53 = .ok (.invokevirtual 48, 3) := by decide +kernel
theorem dX8_common_56 : decode cX8_common 56 = .ok (.aload_n 0, 1) := by decide +kernel
theorem dX8_common_57 : decode cX8_common 57 = .ok (.getfield 12, 3) := by decide +kernel
theorem dX8_common_60 : decode cX8_common 60 = .ok (.aload_n 0, 1) := by decide +kernel
theorem dX8_common_61 : decode cX8_common 61 = .ok (.getfield 18, 3) := by decide +kernel
theorem dX8_common_64 : decode cX8_common 64 = .ok (.invokevirtual 48, 3) := by decide +kernel
theorem dX8_common_67 : decode cX8_common 67 = .ok (.aload_n 0, 1) := by decide +kernel
theorem dX8_common_68 : decode cX8_common 68 = .ok (.getfield 18, 3) := by decide +kernel
theorem dX8_common_71 : decode cX8_common 71 = .ok (.aload_n 0, 1) := by decide +kernel
theorem dX8_common_72 : decode cX8_common 72 = .ok (.getfield 27, 3) := by decide +kernel
theorem dX8_common_75 : decode cX8_common 75 = .ok (.invokevirtual 48, 3) := by decide +kernel
theorem dX8_common_78 : decode cX8_common 78 = .ok (.goto (-62), 3) := by decide +kernel
theorem dX8_common_81 : decode cX8_common 81 = .ok (.aload_n 3, 1) := by decide +kernel
theorem dX8_common_82 : decode cX8_common 82 = .ok (.aload_n 0, 1) := by decide +kernel
theorem dX8_common_83 : decode cX8_common 83 = .ok (.getfield 12, 3) := by decide +kernel
theorem dX8_common_86 : decode cX8_common 86 = .ok (.invokevirtual 48, 3) := by decide +kernel
theorem dX8_common_89 : decode cX8_common 89 = .ok (.return_, 1) := by decide +kernel
abbrev cX8_exact : ByteArray := prog_8_method_4_code
def yX8_exact : MethodName := ⟨RX8, "exact", "(LPollAudit$Big;LPollAudit$Big;)V"⟩
theorem dX8_exact_0 : decode cX8_exact 0 = .ok (.aload_n 1, 1) := by decide +kernel
theorem dX8_exact_1 : decode cX8_exact 1 = .ok (.aload_n 2, 1) := by decide +kernel
theorem dX8_exact_2 : decode cX8_exact 2 = .ok (.aload_n 0, 1) := by decide +kernel
theorem dX8_exact_3 : decode cX8_exact 3 = .ok (.getfield 33, 3) := by decide +kernel
theorem dX8_exact_6 : decode cX8_exact 6 = .ok (.aload_n 0, 1) := by decide +kernel
theorem dX8_exact_7 : decode cX8_exact 7 = .ok (.getfield 36, 3) := by decide +kernel
theorem dX8_exact_10 : decode cX8_exact 10 = .ok (.invokevirtual 56, 3) := by decide +kernel
theorem dX8_exact_13 : decode cX8_exact 13 = .ok (.aload_n 1, 1) := by decide +kernel
theorem dX8_exact_14 : decode cX8_exact 14 = .ok (.aload_n 0, 1) := by decide +kernel
theorem dX8_exact_15 : decode cX8_exact 15 = .ok (.getfield 33, 3) := by decide +kernel
theorem dX8_exact_18 : decode cX8_exact 18 = .ok (.invokevirtual 48, 3) := by decide +kernel
theorem dX8_exact_21 : decode cX8_exact 21 = .ok (.return_, 1) := by decide +kernel
theorem q60 : (Jvm.Cond.initialized "PollAudit$Reckoner") ∈ lw_all := lw_g (lw_at lw_m1 8 rfl) rfl
theorem q192 : (Jvm.Cond.instantiable "PollAudit$Reckoner" (11 : Nat)) ∈ lw_all := lw_g (lw_at lw_m1 140 rfl) rfl
theorem q194 : (Jvm.Cond.instanceMethod ({ cls := "PollAudit$Reckoner", name := "<init>", desc := "()V" } : Jvm.MethodName)) ∈ lw_all := lw_g (lw_at lw_m1 142 rfl) rfl
theorem q195 : (Jvm.Cond.code ({ cls := "PollAudit$Reckoner", name := "<init>", desc := "()V" } : Jvm.MethodName) prog_8_method_1_code (1 : Nat) (Option.none : Option Jvm.ClassFile.FieldType)) ∈ lw_all := lw_g (lw_at lw_m1 143 rfl) rfl
theorem q196 : (Jvm.Cond.methodLink "PollAudit$Reckoner" (1 : Nat) ({ cls := "java/lang/Object", name := "<init>", desc := "()V" } : Jvm.MethodName)) ∈ lw_all := lw_g (lw_at lw_m1 144 rfl) rfl
theorem q197 : (Jvm.Cond.classLink "PollAudit$Reckoner" (7 : Nat) "PollAudit$Big") ∈ lw_all := lw_g (lw_at lw_m1 145 rfl) rfl
theorem q198 : (Jvm.Cond.methodLink "PollAudit$Reckoner" (9 : Nat) ({ cls := "PollAudit$Big", name := "<init>", desc := "(I)V" } : Jvm.MethodName)) ∈ lw_all := lw_g (lw_at lw_m1 146 rfl) rfl
theorem q199 : (Jvm.Cond.fieldLink "PollAudit$Reckoner" (12 : Nat) "PollAudit$Reckoner" "x" "LPollAudit$Big;") ∈ lw_all := lw_g (lw_at lw_m1 147 rfl) rfl
theorem q200 : (Jvm.Cond.fieldLink "PollAudit$Reckoner" (18 : Nat) "PollAudit$Reckoner" "y" "LPollAudit$Big;") ∈ lw_all := lw_g (lw_at lw_m1 148 rfl) rfl
theorem q201 : (Jvm.Cond.fieldLink "PollAudit$Reckoner" (21 : Nat) "PollAudit$Reckoner" "q" "LPollAudit$Big;") ∈ lw_all := lw_g (lw_at lw_m1 149 rfl) rfl
theorem q202 : (Jvm.Cond.fieldLink "PollAudit$Reckoner" (24 : Nat) "PollAudit$Reckoner" "d" "LPollAudit$Big;") ∈ lw_all := lw_g (lw_at lw_m1 150 rfl) rfl
theorem q203 : (Jvm.Cond.fieldLink "PollAudit$Reckoner" (27 : Nat) "PollAudit$Reckoner" "t" "LPollAudit$Big;") ∈ lw_all := lw_g (lw_at lw_m1 151 rfl) rfl
theorem q204 : (Jvm.Cond.fieldLink "PollAudit$Reckoner" (30 : Nat) "PollAudit$Reckoner" "g" "LPollAudit$Big;") ∈ lw_all := lw_g (lw_at lw_m1 152 rfl) rfl
theorem q205 : (Jvm.Cond.fieldLink "PollAudit$Reckoner" (33 : Nat) "PollAudit$Reckoner" "e" "LPollAudit$Big;") ∈ lw_all := lw_g (lw_at lw_m1 153 rfl) rfl
theorem q206 : (Jvm.Cond.fieldLink "PollAudit$Reckoner" (36 : Nat) "PollAudit$Reckoner" "f" "LPollAudit$Big;") ∈ lw_all := lw_g (lw_at lw_m1 154 rfl) rfl
theorem q207 : (Jvm.Cond.fieldLink "PollAudit$Reckoner" (39 : Nat) "PollAudit$Reckoner" "m" "LPollAudit$Big;") ∈ lw_all := lw_g (lw_at lw_m1 155 rfl) rfl
theorem q208 : (Jvm.Cond.fieldLink "PollAudit$Reckoner" (42 : Nat) "PollAudit$Reckoner" "c" "LPollAudit$Big;") ∈ lw_all := lw_g (lw_at lw_m1 156 rfl) rfl
theorem q209 : (Jvm.Cond.fieldLink "PollAudit$Reckoner" (45 : Nat) "PollAudit$Reckoner" "\x72" "LPollAudit$Big;") ∈ lw_all := lw_g (lw_at lw_m1 157 rfl) rfl
theorem q210 : (Jvm.Cond.laysFinal "PollAudit$Reckoner" "PollAudit$Reckoner" "x" "LPollAudit$Big;") ∈ lw_all := lw_g (lw_at lw_m1 158 rfl) rfl
theorem q211 : (Jvm.Cond.soleField "PollAudit$Reckoner" "x") ∈ lw_all := lw_g (lw_at lw_m1 159 rfl) rfl
theorem q212 : (Jvm.Cond.laysFinal "PollAudit$Reckoner" "PollAudit$Reckoner" "y" "LPollAudit$Big;") ∈ lw_all := lw_g (lw_at lw_m1 160 rfl) rfl
theorem q213 : (Jvm.Cond.soleField "PollAudit$Reckoner" "y") ∈ lw_all := lw_g (lw_at lw_m1 161 rfl) rfl
theorem q214 : (Jvm.Cond.laysFinal "PollAudit$Reckoner" "PollAudit$Reckoner" "q" "LPollAudit$Big;") ∈ lw_all := lw_g (lw_at lw_m1 162 rfl) rfl
theorem q215 : (Jvm.Cond.soleField "PollAudit$Reckoner" "q") ∈ lw_all := lw_g (lw_at lw_m1 163 rfl) rfl
theorem q216 : (Jvm.Cond.laysFinal "PollAudit$Reckoner" "PollAudit$Reckoner" "d" "LPollAudit$Big;") ∈ lw_all := lw_g (lw_at lw_m1 164 rfl) rfl
theorem q217 : (Jvm.Cond.soleField "PollAudit$Reckoner" "d") ∈ lw_all := lw_g (lw_at lw_m1 165 rfl) rfl
theorem q218 : (Jvm.Cond.laysFinal "PollAudit$Reckoner" "PollAudit$Reckoner" "t" "LPollAudit$Big;") ∈ lw_all := lw_g (lw_at lw_m1 166 rfl) rfl
theorem q219 : (Jvm.Cond.soleField "PollAudit$Reckoner" "t") ∈ lw_all := lw_g (lw_at lw_m1 167 rfl) rfl
theorem q220 : (Jvm.Cond.laysFinal "PollAudit$Reckoner" "PollAudit$Reckoner" "g" "LPollAudit$Big;") ∈ lw_all := lw_g (lw_at lw_m1 168 rfl) rfl
theorem q221 : (Jvm.Cond.soleField "PollAudit$Reckoner" "g") ∈ lw_all := lw_g (lw_at lw_m1 169 rfl) rfl
theorem q222 : (Jvm.Cond.laysFinal "PollAudit$Reckoner" "PollAudit$Reckoner" "e" "LPollAudit$Big;") ∈ lw_all := lw_g (lw_at lw_m1 170 rfl) rfl
theorem q223 : (Jvm.Cond.soleField "PollAudit$Reckoner" "e") ∈ lw_all := lw_g (lw_at lw_m1 171 rfl) rfl
theorem q224 : (Jvm.Cond.laysFinal "PollAudit$Reckoner" "PollAudit$Reckoner" "f" "LPollAudit$Big;") ∈ lw_all := lw_g (lw_at lw_m1 172 rfl) rfl
theorem q225 : (Jvm.Cond.soleField "PollAudit$Reckoner" "f") ∈ lw_all := lw_g (lw_at lw_m1 173 rfl) rfl
theorem q226 : (Jvm.Cond.laysFinal "PollAudit$Reckoner" "PollAudit$Reckoner" "m" "LPollAudit$Big;") ∈ lw_all := lw_g (lw_at lw_m1 174 rfl) rfl
theorem q227 : (Jvm.Cond.soleField "PollAudit$Reckoner" "m") ∈ lw_all := lw_g (lw_at lw_m1 175 rfl) rfl
theorem q228 : (Jvm.Cond.laysFinal "PollAudit$Reckoner" "PollAudit$Reckoner" "c" "LPollAudit$Big;") ∈ lw_all := lw_g (lw_at lw_m1 176 rfl) rfl
theorem q229 : (Jvm.Cond.soleField "PollAudit$Reckoner" "c") ∈ lw_all := lw_g (lw_at lw_m1 177 rfl) rfl
theorem q230 : (Jvm.Cond.laysFinal "PollAudit$Reckoner" "PollAudit$Reckoner" "\x72" "LPollAudit$Big;") ∈ lw_all := lw_g (lw_at lw_m1 178 rfl) rfl
theorem q231 : (Jvm.Cond.soleField "PollAudit$Reckoner" "\x72") ∈ lw_all := lw_g (lw_at lw_m1 179 rfl) rfl
theorem q232 : (Jvm.Cond.superclass "PollAudit$Reckoner" "java/lang/Object") ∈ lw_all := lw_g (lw_at lw_m1 180 rfl) rfl
theorem q771 : (Jvm.Cond.instanceMethod ({ cls := "PollAudit$Reckoner", name := "multiply", desc := "(LPollAudit$Big;LPollAudit$Big;)V" } : Jvm.MethodName)) ∈ lw_all := lw_g (lw_at lw_m3 239 rfl) rfl
theorem q772 : (Jvm.Cond.selects "PollAudit$Reckoner" ({ cls := "PollAudit$Reckoner", name := "multiply", desc := "(LPollAudit$Big;LPollAudit$Big;)V" } : Jvm.MethodName) ({ cls := "PollAudit$Reckoner", name := "multiply", desc := "(LPollAudit$Big;LPollAudit$Big;)V" } : Jvm.MethodName)) ∈ lw_all := lw_g (lw_at lw_m4 0 rfl) rfl
theorem q773 : (Jvm.Cond.code ({ cls := "PollAudit$Reckoner", name := "multiply", desc := "(LPollAudit$Big;LPollAudit$Big;)V" } : Jvm.MethodName) prog_8_method_5_code (3 : Nat) (Option.none : Option Jvm.ClassFile.FieldType)) ∈ lw_all := lw_g (lw_at lw_m4 1 rfl) rfl
theorem q774 : (Jvm.Cond.methodLink "PollAudit$Reckoner" (70 : Nat) ({ cls := "PollAudit$Big", name := "product", desc := "(LPollAudit$Big;LPollAudit$Big;)V" } : Jvm.MethodName)) ∈ lw_all := lw_g (lw_at lw_m4 2 rfl) rfl
theorem q782 : (Jvm.Cond.methodLink "PollAudit$Reckoner" (48 : Nat) ({ cls := "PollAudit$Big", name := "copy", desc := "(LPollAudit$Big;)V" } : Jvm.MethodName)) ∈ lw_all := lw_g (lw_at lw_m4 10 rfl) rfl
theorem q924 : (Jvm.Cond.instanceMethod ({ cls := "PollAudit$Reckoner", name := "reduce", desc := "(LPollAudit$Big;LPollAudit$Big;)V" } : Jvm.MethodName)) ∈ lw_all := lw_g (lw_at lw_m4 152 rfl) rfl
theorem q925 : (Jvm.Cond.selects "PollAudit$Reckoner" ({ cls := "PollAudit$Reckoner", name := "reduce", desc := "(LPollAudit$Big;LPollAudit$Big;)V" } : Jvm.MethodName) ({ cls := "PollAudit$Reckoner", name := "reduce", desc := "(LPollAudit$Big;LPollAudit$Big;)V" } : Jvm.MethodName)) ∈ lw_all := lw_g (lw_at lw_m4 153 rfl) rfl
theorem q926 : (Jvm.Cond.code ({ cls := "PollAudit$Reckoner", name := "reduce", desc := "(LPollAudit$Big;LPollAudit$Big;)V" } : Jvm.MethodName) prog_8_method_3_code (3 : Nat) (Option.none : Option Jvm.ClassFile.FieldType)) ∈ lw_all := lw_g (lw_at lw_m4 154 rfl) rfl
theorem q927 : (Jvm.Cond.methodLink "PollAudit$Reckoner" (60 : Nat) ({ cls := "PollAudit$Reckoner", name := "common", desc := "(LPollAudit$Big;LPollAudit$Big;LPollAudit$Big;)V" } : Jvm.MethodName)) ∈ lw_all := lw_g (lw_at lw_m4 155 rfl) rfl
theorem q928 : (Jvm.Cond.instanceMethod ({ cls := "PollAudit$Reckoner", name := "common", desc := "(LPollAudit$Big;LPollAudit$Big;LPollAudit$Big;)V" } : Jvm.MethodName)) ∈ lw_all := lw_g (lw_at lw_m4 156 rfl) rfl
theorem q929 : (Jvm.Cond.selects "PollAudit$Reckoner" ({ cls := "PollAudit$Reckoner", name := "common", desc := "(LPollAudit$Big;LPollAudit$Big;LPollAudit$Big;)V" } : Jvm.MethodName) ({ cls := "PollAudit$Reckoner", name := "common", desc := "(LPollAudit$Big;LPollAudit$Big;LPollAudit$Big;)V" } : Jvm.MethodName)) ∈ lw_all := lw_g (lw_at lw_m4 157 rfl) rfl
theorem q930 : (Jvm.Cond.code ({ cls := "PollAudit$Reckoner", name := "common", desc := "(LPollAudit$Big;LPollAudit$Big;LPollAudit$Big;)V" } : Jvm.MethodName) prog_8_method_2_code (4 : Nat) (Option.none : Option Jvm.ClassFile.FieldType)) ∈ lw_all := lw_g (lw_at lw_m4 158 rfl) rfl
theorem q931 : (Jvm.Cond.methodLink "PollAudit$Reckoner" (52 : Nat) ({ cls := "PollAudit$Big", name := "isZero", desc := "()Z" } : Jvm.MethodName)) ∈ lw_all := lw_g (lw_at lw_m4 159 rfl) rfl
theorem q935 : (Jvm.Cond.methodLink "PollAudit$Reckoner" (56 : Nat) ({ cls := "PollAudit$Big", name := "divide", desc := "(LPollAudit$Big;LPollAudit$Big;LPollAudit$Big;)V" } : Jvm.MethodName)) ∈ lw_all := lw_g (lw_at lw_m4 163 rfl) rfl
theorem q968 : (Jvm.Cond.methodLink "PollAudit$Reckoner" (63 : Nat) ({ cls := "PollAudit$Big", name := "isOne", desc := "()Z" } : Jvm.MethodName)) ∈ lw_all := lw_g (lw_at lw_m4 196 rfl) rfl
theorem q972 : (Jvm.Cond.methodLink "PollAudit$Reckoner" (66 : Nat) ({ cls := "PollAudit$Reckoner", name := "exact", desc := "(LPollAudit$Big;LPollAudit$Big;)V" } : Jvm.MethodName)) ∈ lw_all := lw_g (lw_at lw_m4 200 rfl) rfl
theorem q973 : (Jvm.Cond.instanceMethod ({ cls := "PollAudit$Reckoner", name := "exact", desc := "(LPollAudit$Big;LPollAudit$Big;)V" } : Jvm.MethodName)) ∈ lw_all := lw_g (lw_at lw_m4 201 rfl) rfl
theorem q974 : (Jvm.Cond.selects "PollAudit$Reckoner" ({ cls := "PollAudit$Reckoner", name := "exact", desc := "(LPollAudit$Big;LPollAudit$Big;)V" } : Jvm.MethodName) ({ cls := "PollAudit$Reckoner", name := "exact", desc := "(LPollAudit$Big;LPollAudit$Big;)V" } : Jvm.MethodName)) ∈ lw_all := lw_g (lw_at lw_m4 202 rfl) rfl
theorem q975 : (Jvm.Cond.code ({ cls := "PollAudit$Reckoner", name := "exact", desc := "(LPollAudit$Big;LPollAudit$Big;)V" } : Jvm.MethodName) prog_8_method_4_code (3 : Nat) (Option.none : Option Jvm.ClassFile.FieldType)) ∈ lw_all := lw_g (lw_at lw_m4 203 rfl) rfl
abbrev cX9_init : ByteArray := prog_6_method_1_code
def yX9_init : MethodName := ⟨RX9, "<init>", "()V"⟩
theorem dX9_init_0 : decode cX9_init 0 = .ok (.aload_n 0, 1) := by decide +kernel
theorem dX9_init_1 : decode cX9_init 1 = .ok (.invokespecial 1, 3) := by decide +kernel
theorem dX9_init_4 : decode cX9_init 4 = .ok (.aload_n 0, 1) := by decide +kernel
theorem dX9_init_5 : decode cX9_init 5 = .ok (.new 7, 3) := by decide +kernel
theorem dX9_init_8 : decode cX9_init 8 = .ok (.dup, 1) := by decide +kernel
theorem dX9_init_9 : decode cX9_init 9 = .ok (.bipush 64, 2) := by decide +kernel
theorem dX9_init_11 : decode cX9_init 11 = .ok (.invokespecial 9, 3) := by decide +kernel
theorem dX9_init_14 : decode cX9_init 14 = .ok (.putfield 12, 3) := by decide +kernel
theorem dX9_init_17 : decode cX9_init 17 = .ok (.aload_n 0, 1) := by decide +kernel
theorem dX9_init_18 : decode cX9_init 18 = .ok (.new 7, 3) := by decide +kernel
theorem dX9_init_21 : decode cX9_init 21 = .ok (.dup, 1) := by decide +kernel
theorem dX9_init_22 : decode cX9_init 22 = .ok (.bipush 64, 2) := by decide +kernel
theorem dX9_init_24 : decode cX9_init 24 = .ok (.invokespecial 9, 3) := by decide +kernel
theorem dX9_init_27 : decode cX9_init 27 = .ok (.putfield 18, 3) := by decide +kernel
theorem dX9_init_30 : decode cX9_init 30 = .ok (.return_, 1) := by decide +kernel
theorem q61 : (Jvm.Cond.initialized "PollAudit$Pair") ∈ lw_all := lw_g (lw_at lw_m1 9 rfl) rfl
theorem q236 : (Jvm.Cond.instantiable "PollAudit$Pair" (5 : Nat)) ∈ lw_all := lw_g (lw_at lw_m1 184 rfl) rfl
theorem q238 : (Jvm.Cond.instanceMethod ({ cls := "PollAudit$Pair", name := "<init>", desc := "()V" } : Jvm.MethodName)) ∈ lw_all := lw_g (lw_at lw_m1 186 rfl) rfl
theorem q239 : (Jvm.Cond.code ({ cls := "PollAudit$Pair", name := "<init>", desc := "()V" } : Jvm.MethodName) prog_6_method_1_code (1 : Nat) (Option.none : Option Jvm.ClassFile.FieldType)) ∈ lw_all := lw_g (lw_at lw_m1 187 rfl) rfl
theorem q240 : (Jvm.Cond.methodLink "PollAudit$Pair" (1 : Nat) ({ cls := "java/lang/Object", name := "<init>", desc := "()V" } : Jvm.MethodName)) ∈ lw_all := lw_g (lw_at lw_m1 188 rfl) rfl
theorem q241 : (Jvm.Cond.classLink "PollAudit$Pair" (7 : Nat) "PollAudit$Big") ∈ lw_all := lw_g (lw_at lw_m1 189 rfl) rfl
theorem q242 : (Jvm.Cond.methodLink "PollAudit$Pair" (9 : Nat) ({ cls := "PollAudit$Big", name := "<init>", desc := "(I)V" } : Jvm.MethodName)) ∈ lw_all := lw_g (lw_at lw_m1 190 rfl) rfl
theorem q252 : (Jvm.Cond.fieldLink "PollAudit$Pair" (12 : Nat) "PollAudit$Pair" "above" "LPollAudit$Big;") ∈ lw_all := lw_g (lw_at lw_m1 200 rfl) rfl
theorem q256 : (Jvm.Cond.fieldLink "PollAudit$Pair" (18 : Nat) "PollAudit$Pair" "below" "LPollAudit$Big;") ∈ lw_all := lw_g (lw_at lw_m1 204 rfl) rfl
theorem q260 : (Jvm.Cond.lays "PollAudit$Pair" "PollAudit$Pair" "winner" "I") ∈ lw_all := lw_g (lw_at lw_m1 208 rfl) rfl
theorem q261 : (Jvm.Cond.soleField "PollAudit$Pair" "winner") ∈ lw_all := lw_g (lw_at lw_m1 209 rfl) rfl
theorem q262 : (Jvm.Cond.lays "PollAudit$Pair" "PollAudit$Pair" "loser" "I") ∈ lw_all := lw_g (lw_at lw_m1 210 rfl) rfl
theorem q263 : (Jvm.Cond.soleField "PollAudit$Pair" "loser") ∈ lw_all := lw_g (lw_at lw_m1 211 rfl) rfl
theorem q264 : (Jvm.Cond.lays "PollAudit$Pair" "PollAudit$Pair" "sure" "I") ∈ lw_all := lw_g (lw_at lw_m1 212 rfl) rfl
theorem q265 : (Jvm.Cond.soleField "PollAudit$Pair" "sure") ∈ lw_all := lw_g (lw_at lw_m1 213 rfl) rfl
theorem q266 : (Jvm.Cond.laysFinal "PollAudit$Pair" "PollAudit$Pair" "above" "LPollAudit$Big;") ∈ lw_all := lw_g (lw_at lw_m1 214 rfl) rfl
theorem q267 : (Jvm.Cond.soleField "PollAudit$Pair" "above") ∈ lw_all := lw_g (lw_at lw_m1 215 rfl) rfl
theorem q268 : (Jvm.Cond.laysFinal "PollAudit$Pair" "PollAudit$Pair" "below" "LPollAudit$Big;") ∈ lw_all := lw_g (lw_at lw_m1 216 rfl) rfl
theorem q269 : (Jvm.Cond.soleField "PollAudit$Pair" "below") ∈ lw_all := lw_g (lw_at lw_m1 217 rfl) rfl
theorem q270 : (Jvm.Cond.superclass "PollAudit$Pair" "java/lang/Object") ∈ lw_all := lw_g (lw_at lw_m1 218 rfl) rfl
abbrev cX2_init : ByteArray := prog_3_method_1_code
def yX2_init : MethodName := ⟨RX2, "<init>", "()V"⟩
theorem dX2_init_0 : decode cX2_init 0 = .ok (.aload_n 0, 1) := by decide +kernel
theorem dX2_init_1 : decode cX2_init 1 = .ok (.invokespecial 3, 3) := by decide +kernel
theorem dX2_init_4 : decode cX2_init 4 = .ok (.aload_n 0, 1) := by decide +kernel
theorem dX2_init_5 : decode cX2_init 5 = .ok (.sipush 4000, 3) := by decide +kernel
theorem dX2_init_8 : decode cX2_init 8 = .ok (.newarray .boolean, 2) := by decide +kernel
theorem dX2_init_10 : decode cX2_init 10 = .ok (.putfield 9, 3) := by decide +kernel
theorem dX2_init_13 : decode cX2_init 13 = .ok (.return_, 1) := by decide +kernel
abbrev cX2_add : ByteArray := prog_3_method_2_code
def yX2_add : MethodName := ⟨RX2, "add", "(Z)V"⟩
theorem dX2_add_0 : decode cX2_add 0 = .ok (.aload_n 0, 1) := by decide +kernel
theorem dX2_add_1 : decode cX2_add 1 = .ok (.getfield 9, 3) := by decide +kernel
theorem dX2_add_4 : decode cX2_add 4 = .ok (.aload_n 0, 1) := by decide +kernel
theorem dX2_add_5 : decode cX2_add 5 = .ok (.getfield 15, 3) := by decide +kernel
theorem dX2_add_8 : decode cX2_add 8 = .ok (.aload_n 0, 1) := by decide +kernel
theorem dX2_add_9 : decode cX2_add 9 = .ok (.dup, 1) := by decide +kernel
theorem dX2_add_10 : decode cX2_add 10 = .ok (.getfield 19, 3) := by decide +kernel
theorem dX2_add_13 : decode cX2_add 13 = .ok (.dup_x1, 1) := by decide +kernel
theorem dX2_add_14 : decode cX2_add 14 = .ok (.iconst 1, 1) := by decide +kernel
theorem dX2_add_15 : decode cX2_add 15 = .ok (.iadd, 1) := by decide +kernel
theorem dX2_add_16 : decode cX2_add 16 = .ok (.putfield 19, 3) := by decide +kernel
theorem dX2_add_19 : decode cX2_add 19 = .ok (.iadd, 1) := by decide +kernel
theorem dX2_add_20 : decode cX2_add 20 = .ok (.sipush 4000, 3) := by decide +kernel
theorem dX2_add_23 : decode cX2_add 23 = .ok (.irem, 1) := by decide +kernel
theorem dX2_add_24 : decode cX2_add 24 = .ok (.iload_n 1, 1) := by decide +kernel
theorem dX2_add_25 : decode cX2_add 25 = .ok (.bastore, 1) := by decide +kernel
theorem dX2_add_26 : decode cX2_add 26 = .ok (.return_, 1) := by decide +kernel
abbrev cX2_draw : ByteArray := prog_3_method_4_code
def yX2_draw : MethodName := ⟨RX2, "draw", "(II)I"⟩
theorem dX2_draw_0 : decode cX2_draw 0 = .ok (.iload_n 2, 1) := by decide +kernel
theorem dX2_draw_1 : decode cX2_draw 1 = .ok (.invokestatic 22, 3) := by decide +kernel
theorem dX2_draw_4 : decode cX2_draw 4 = .ok (.istore_n 3, 1) := by decide +kernel
theorem dX2_draw_5 : decode cX2_draw 5 = .ok (.aload_n 0, 1) := by decide +kernel
theorem dX2_draw_6 : decode cX2_draw 6 = .ok (.getfield 19, 3) := by decide +kernel
theorem dX2_draw_9 : decode cX2_draw 9 = .ok (.iload_n 3, 1) := by decide +kernel
theorem dX2_draw_10 : decode cX2_draw 10 = .ok (.if_icmp .ge 5, 3) := by decide +kernel
theorem dX2_draw_13 : decode cX2_draw 13 = .ok (.iconst (-1), 1) := by decide +kernel
theorem dX2_draw_14 : decode cX2_draw 14 = .ok (.ireturn, 1) := by decide +kernel
theorem dX2_draw_15 : decode cX2_draw 15 = .ok (.iconst 0, 1) := by decide +kernel
theorem dX2_draw_16 : decode cX2_draw 16 = .ok (.istore 4, 2) := by decide +kernel
theorem dX2_draw_18 : decode cX2_draw 18 = .ok (.iconst 0, 1) := by decide +kernel
theorem dX2_draw_19 : decode cX2_draw 19 = .ok (.istore 5, 2) := by decide +kernel
theorem dX2_draw_21 : decode cX2_draw 21 = .ok (.iload 5, 2) := by decide +kernel
theorem dX2_draw_23 : decode cX2_draw 23 = .ok (.iload_n 3, 1) := by decide +kernel
theorem dX2_draw_24 : decode cX2_draw 24 = .ok (.if_icmp .ge 47, 3) := by decide +kernel
theorem dX2_draw_27 : decode cX2_draw 27 = .ok (.iload 4, 2) := by decide +kernel
theorem dX2_draw_29 : decode cX2_draw 29 = .ok (.iconst 1, 1) := by decide +kernel
theorem dX2_draw_30 : decode cX2_draw 30 = .ok (.ishl, 1) := by decide +kernel
theorem dX2_draw_31 : decode cX2_draw 31 = .ok (.aload_n 0, 1) := by decide +kernel
theorem dX2_draw_32 : decode cX2_draw 32 = .ok (.getfield 9, 3) := by decide +kernel
theorem dX2_draw_35 : decode cX2_draw 35 = .ok (.aload_n 0, 1) := by decide +kernel
theorem dX2_draw_36 : decode cX2_draw 36 = .ok (.getfield 15, 3) := by decide +kernel
theorem dX2_draw_39 : decode cX2_draw 39 = .ok (.baload, 1) := by decide +kernel
theorem dX2_draw_40 : decode cX2_draw 40 = .ok (.ifCond .eq 7, 3) := by decide +kernel
theorem dX2_draw_43 : decode cX2_draw 43 = .ok (.iconst 1, 1) := by decide +kernel
theorem dX2_draw_44 : decode cX2_draw 44 = .ok (.goto 4, 3) := by decide +kernel
theorem dX2_draw_47 : decode cX2_draw 47 = .ok (.iconst 0, 1) := by decide +kernel
theorem dX2_draw_48 : decode cX2_draw 48 = .ok (.ior, 1) := by decide +kernel
theorem dX2_draw_49 : decode cX2_draw 49 = .ok (.istore 4, 2) := by decide +kernel
theorem dX2_draw_51 : decode cX2_draw 51 = .ok (.aload_n 0, 1) := by decide +kernel
theorem dX2_draw_52 : decode cX2_draw 52 = .ok (.aload_n 0, 1) := by decide +kernel
theorem dX2_draw_53 : decode cX2_draw 53 = .ok (.getfield 15, 3) := by decide +kernel
theorem dX2_draw_56 : decode cX2_draw 56 = .ok (.iconst 1, 1) := by decide +kernel
theorem dX2_draw_57 : decode cX2_draw 57 = .ok (.iadd, 1) := by decide +kernel
theorem dX2_draw_58 : decode cX2_draw 58 = .ok (.sipush 4000, 3) := by decide +kernel
theorem dX2_draw_61 : decode cX2_draw 61 = .ok (.irem, 1) := by decide +kernel
theorem dX2_draw_62 : decode cX2_draw 62 = .ok (.putfield 15, 3) := by decide +kernel
theorem dX2_draw_65 : decode cX2_draw 65 = .ok (.iinc 5 1, 3) := by decide +kernel
theorem dX2_draw_68 : decode cX2_draw 68 = .ok (.goto (-47), 3) := by decide +kernel
theorem dX2_draw_71 : decode cX2_draw 71 = .ok (.aload_n 0, 1) := by decide +kernel
theorem dX2_draw_72 : decode cX2_draw 72 = .ok (.dup, 1) := by decide +kernel
theorem dX2_draw_73 : decode cX2_draw 73 = .ok (.getfield 19, 3) := by decide +kernel
theorem dX2_draw_76 : decode cX2_draw 76 = .ok (.iload_n 3, 1) := by decide +kernel
theorem dX2_draw_77 : decode cX2_draw 77 = .ok (.isub, 1) := by decide +kernel
theorem dX2_draw_78 : decode cX2_draw 78 = .ok (.putfield 19, 3) := by decide +kernel
theorem dX2_draw_81 : decode cX2_draw 81 = .ok (.iload 4, 2) := by decide +kernel
theorem dX2_draw_83 : decode cX2_draw 83 = .ok (.ireturn, 1) := by decide +kernel
abbrev cX2_many : ByteArray := prog_3_method_3_code
def yX2_many : MethodName := ⟨RX2, "many", "(I)I"⟩
theorem dX2_many_0 : decode cX2_many 0 = .ok (.iconst 0, 1) := by decide +kernel
theorem dX2_many_1 : decode cX2_many 1 = .ok (.istore_n 1, 1) := by decide +kernel
theorem dX2_many_2 : decode cX2_many 2 = .ok (.iconst 1, 1) := by decide +kernel
theorem dX2_many_3 : decode cX2_many 3 = .ok (.iload_n 1, 1) := by decide +kernel
theorem dX2_many_4 : decode cX2_many 4 = .ok (.ishl, 1) := by decide +kernel
theorem dX2_many_5 : decode cX2_many 5 = .ok (.iload_n 0, 1) := by decide +kernel
theorem dX2_many_6 : decode cX2_many 6 = .ok (.if_icmp .ge 9, 3) := by decide +kernel
theorem dX2_many_9 : decode cX2_many 9 = .ok (.iinc 1 1, 3) := by decide +kernel
theorem dX2_many_12 : decode cX2_many 12 = .ok (.goto (-10), 3) := by decide +kernel
theorem dX2_many_15 : decode cX2_many 15 = .ok (.iload_n 1, 1) := by decide +kernel
theorem dX2_many_16 : decode cX2_many 16 = .ok (.ireturn, 1) := by decide +kernel
theorem q54 : (Jvm.Cond.initialized "PollAudit$Coins") ∈ lw_all := lw_g (lw_at lw_m1 2 rfl) rfl
theorem q87 : (Jvm.Cond.instantiable "PollAudit$Coins" (3 : Nat)) ∈ lw_all := lw_g (lw_at lw_m1 35 rfl) rfl
theorem q89 : (Jvm.Cond.instanceMethod ({ cls := "PollAudit$Coins", name := "<init>", desc := "()V" } : Jvm.MethodName)) ∈ lw_all := lw_g (lw_at lw_m1 37 rfl) rfl
theorem q90 : (Jvm.Cond.code ({ cls := "PollAudit$Coins", name := "<init>", desc := "()V" } : Jvm.MethodName) prog_3_method_1_code (1 : Nat) (Option.none : Option Jvm.ClassFile.FieldType)) ∈ lw_all := lw_g (lw_at lw_m1 38 rfl) rfl
theorem q91 : (Jvm.Cond.methodLink "PollAudit$Coins" (3 : Nat) ({ cls := "java/lang/Object", name := "<init>", desc := "()V" } : Jvm.MethodName)) ∈ lw_all := lw_g (lw_at lw_m1 39 rfl) rfl
theorem q92 : (Jvm.Cond.fieldLink "PollAudit$Coins" (9 : Nat) "PollAudit$Coins" "row" "[Z") ∈ lw_all := lw_g (lw_at lw_m1 40 rfl) rfl
theorem q93 : (Jvm.Cond.fieldLink "PollAudit$Coins" (15 : Nat) "PollAudit$Coins" "first" "I") ∈ lw_all := lw_g (lw_at lw_m1 41 rfl) rfl
theorem q94 : (Jvm.Cond.fieldLink "PollAudit$Coins" (19 : Nat) "PollAudit$Coins" "size" "I") ∈ lw_all := lw_g (lw_at lw_m1 42 rfl) rfl
theorem q96 : (Jvm.Cond.laysFinal "PollAudit$Coins" "PollAudit$Coins" "row" "[Z") ∈ lw_all := lw_g (lw_at lw_m1 44 rfl) rfl
theorem q97 : (Jvm.Cond.soleField "PollAudit$Coins" "row") ∈ lw_all := lw_g (lw_at lw_m1 45 rfl) rfl
theorem q98 : (Jvm.Cond.lays "PollAudit$Coins" "PollAudit$Coins" "first" "I") ∈ lw_all := lw_g (lw_at lw_m1 46 rfl) rfl
theorem q99 : (Jvm.Cond.soleField "PollAudit$Coins" "first") ∈ lw_all := lw_g (lw_at lw_m1 47 rfl) rfl
theorem q100 : (Jvm.Cond.lays "PollAudit$Coins" "PollAudit$Coins" "size" "I") ∈ lw_all := lw_g (lw_at lw_m1 48 rfl) rfl
theorem q101 : (Jvm.Cond.soleField "PollAudit$Coins" "size") ∈ lw_all := lw_g (lw_at lw_m1 49 rfl) rfl
theorem q102 : (Jvm.Cond.superclass "PollAudit$Coins" "java/lang/Object") ∈ lw_all := lw_g (lw_at lw_m1 50 rfl) rfl
theorem q650 : (Jvm.Cond.instanceMethod ({ cls := "PollAudit$Coins", name := "add", desc := "(Z)V" } : Jvm.MethodName)) ∈ lw_all := lw_g (lw_at lw_m3 118 rfl) rfl
theorem q651 : (Jvm.Cond.selects "PollAudit$Coins" ({ cls := "PollAudit$Coins", name := "add", desc := "(Z)V" } : Jvm.MethodName) ({ cls := "PollAudit$Coins", name := "add", desc := "(Z)V" } : Jvm.MethodName)) ∈ lw_all := lw_g (lw_at lw_m3 119 rfl) rfl
theorem q652 : (Jvm.Cond.code ({ cls := "PollAudit$Coins", name := "add", desc := "(Z)V" } : Jvm.MethodName) prog_3_method_2_code (2 : Nat) (Option.none : Option Jvm.ClassFile.FieldType)) ∈ lw_all := lw_g (lw_at lw_m3 120 rfl) rfl
theorem q693 : (Jvm.Cond.castable "PollAudit$Coins" "PollAudit$Source") ∈ lw_tbl := lw_at lw_m3 161 rfl
theorem q694 : (Jvm.Cond.selects "PollAudit$Coins" ({ cls := "PollAudit$Source", name := "draw", desc := "(II)I" } : Jvm.MethodName) ({ cls := "PollAudit$Coins", name := "draw", desc := "(II)I" } : Jvm.MethodName)) ∈ lw_all := lw_g (lw_at lw_m3 162 rfl) rfl
theorem q695 : (Jvm.Cond.unhidden "PollAudit$Coins" "draw" "(II)I") ∈ lw_tbl := lw_at lw_m3 163 rfl
theorem q696 : (Jvm.Cond.instanceMethod ({ cls := "PollAudit$Coins", name := "draw", desc := "(II)I" } : Jvm.MethodName)) ∈ lw_all := lw_g (lw_at lw_m3 164 rfl) rfl
theorem q697 : (Jvm.Cond.publicMethod ({ cls := "PollAudit$Coins", name := "draw", desc := "(II)I" } : Jvm.MethodName)) ∈ lw_tbl := lw_at lw_m3 165 rfl
theorem q698 : (Jvm.Cond.code ({ cls := "PollAudit$Coins", name := "draw", desc := "(II)I" } : Jvm.MethodName) prog_3_method_4_code (6 : Nat) (Option.some Jvm.ClassFile.FieldType.int)) ∈ lw_all := lw_g (lw_at lw_m3 166 rfl) rfl
theorem q699 : (Jvm.Cond.methodLink "PollAudit$Coins" (22 : Nat) ({ cls := "PollAudit$Coins", name := "many", desc := "(I)I" } : Jvm.MethodName)) ∈ lw_all := lw_g (lw_at lw_m3 167 rfl) rfl
theorem q700 : (Jvm.Cond.static ({ cls := "PollAudit$Coins", name := "many", desc := "(I)I" } : Jvm.MethodName)) ∈ lw_all := lw_g (lw_at lw_m3 168 rfl) rfl
theorem q701 : (Jvm.Cond.code ({ cls := "PollAudit$Coins", name := "many", desc := "(I)I" } : Jvm.MethodName) prog_3_method_3_code (2 : Nat) (Option.some Jvm.ClassFile.FieldType.int)) ∈ lw_all := lw_g (lw_at lw_m3 169 rfl) rfl
abbrev cX3_init : ByteArray := prog_9_method_1_code
def yX3_init : MethodName := ⟨RX3, "<init>", "()V"⟩
theorem dX3_init_0 : decode cX3_init 0 = .ok (.aload_n 0, 1) := by decide +kernel
theorem dX3_init_1 : decode cX3_init 1 = .ok (.invokespecial 3, 3) := by decide +kernel
theorem dX3_init_4 : decode cX3_init 4 = .ok (.aload_n 0, 1) := by decide +kernel
theorem dX3_init_5 : decode cX3_init 5 = .ok (.bipush 20, 2) := by decide +kernel
theorem dX3_init_7 : decode cX3_init 7 = .ok (.newarray .int, 2) := by decide +kernel
theorem dX3_init_9 : decode cX3_init 9 = .ok (.putfield 9, 3) := by decide +kernel
theorem dX3_init_12 : decode cX3_init 12 = .ok (.aload_n 0, 1) := by decide +kernel
theorem dX3_init_13 : decode cX3_init 13 = .ok (.new 15, 3) := by decide +kernel
theorem dX3_init_16 : decode cX3_init 16 = .ok (.dup, 1) := by decide +kernel
theorem dX3_init_17 : decode cX3_init 17 = .ok (.invokespecial 17, 3) := by decide +kernel
theorem dX3_init_20 : decode cX3_init 20 = .ok (.putfield 18, 3) := by decide +kernel
theorem dX3_init_23 : decode cX3_init 23 = .ok (.return_, 1) := by decide +kernel
abbrev cX3_draw : ByteArray := prog_9_method_3_code
def yX3_draw : MethodName := ⟨RX3, "draw", "(II)I"⟩
theorem dX3_draw_0 : decode cX3_draw 0 = .ok (.aload_n 0, 1) := by decide +kernel
theorem dX3_draw_1 : decode cX3_draw 1 = .ok (.iload_n 1, 1) := by decide +kernel
theorem dX3_draw_2 : decode cX3_draw 2 = .ok (.invokevirtual 36, 3) := by decide +kernel
theorem dX3_draw_5 : decode cX3_draw 5 = .ok (.aload_n 0, 1) := by decide +kernel
theorem dX3_draw_6 : decode cX3_draw 6 = .ok (.getfield 18, 3) := by decide +kernel
theorem dX3_draw_9 : decode cX3_draw 9 = .ok (.iload_n 2, 1) := by decide +kernel
theorem dX3_draw_10 : decode cX3_draw 10 = .ok (.invokevirtual 39, 3) := by decide +kernel
theorem dX3_draw_13 : decode cX3_draw 13 = .ok (.ireturn, 1) := by decide +kernel
abbrev cX3_work : ByteArray := prog_9_method_2_code
def yX3_work : MethodName := ⟨RX3, "work", "(I)V"⟩
theorem dX3_work_0 : decode cX3_work 0 = .ok (.aload_n 0, 1) := by decide +kernel
theorem dX3_work_1 : decode cX3_work 1 = .ok (.getfield 18, 3) := by decide +kernel
theorem dX3_work_4 : decode cX3_work 4 = .ok (.invokevirtual 22, 3) := by decide +kernel
theorem dX3_work_7 : decode cX3_work 7 = .ok (.iconst 0, 1) := by decide +kernel
theorem dX3_work_8 : decode cX3_work 8 = .ok (.istore_n 2, 1) := by decide +kernel
theorem dX3_work_9 : decode cX3_work 9 = .ok (.iload_n 2, 1) := by decide +kernel
theorem dX3_work_10 : decode cX3_work 10 = .ok (.aload_n 0, 1) := by decide +kernel
theorem dX3_work_11 : decode cX3_work 11 = .ok (.getfield 25, 3) := by decide +kernel
theorem dX3_work_14 : decode cX3_work 14 = .ok (.if_icmp .ge 25, 3) := by decide +kernel
theorem dX3_work_17 : decode cX3_work 17 = .ok (.aload_n 0, 1) := by decide +kernel
theorem dX3_work_18 : decode cX3_work 18 = .ok (.getfield 18, 3) := by decide +kernel
theorem dX3_work_21 : decode cX3_work 21 = .ok (.bipush 48, 2) := by decide +kernel
theorem dX3_work_23 : decode cX3_work 23 = .ok (.aload_n 0, 1) := by decide +kernel
theorem dX3_work_24 : decode cX3_work 24 = .ok (.getfield 9, 3) := by decide +kernel
theorem dX3_work_27 : decode cX3_work 27 = .ok (.iload_n 2, 1) := by decide +kernel
theorem dX3_work_28 : decode cX3_work 28 = .ok (.iaload, 1) := by decide +kernel
theorem dX3_work_29 : decode cX3_work 29 = .ok (.iadd, 1) := by decide +kernel
theorem dX3_work_30 : decode cX3_work 30 = .ok (.invokevirtual 29, 3) := by decide +kernel
theorem dX3_work_33 : decode cX3_work 33 = .ok (.iinc 2 1, 3) := by decide +kernel
theorem dX3_work_36 : decode cX3_work 36 = .ok (.goto (-27), 3) := by decide +kernel
theorem dX3_work_39 : decode cX3_work 39 = .ok (.aload_n 0, 1) := by decide +kernel
theorem dX3_work_40 : decode cX3_work 40 = .ok (.getfield 18, 3) := by decide +kernel
theorem dX3_work_43 : decode cX3_work 43 = .ok (.bipush 44, 2) := by decide +kernel
theorem dX3_work_45 : decode cX3_work 45 = .ok (.invokevirtual 29, 3) := by decide +kernel
theorem dX3_work_48 : decode cX3_work 48 = .ok (.iconst 1, 1) := by decide +kernel
theorem dX3_work_49 : decode cX3_work 49 = .ok (.istore_n 2, 1) := by decide +kernel
theorem dX3_work_50 : decode cX3_work 50 = .ok (.iload_n 1, 1) := by decide +kernel
theorem dX3_work_51 : decode cX3_work 51 = .ok (.iload_n 2, 1) := by decide +kernel
theorem dX3_work_52 : decode cX3_work 52 = .ok (.idiv, 1) := by decide +kernel
theorem dX3_work_53 : decode cX3_work 53 = .ok (.bipush 9, 2) := by decide +kernel
theorem dX3_work_55 : decode cX3_work 55 = .ok (.if_icmp .le 11, 3) := by decide +kernel
theorem dX3_work_58 : decode cX3_work 58 = .ok (.iload_n 2, 1) := by decide +kernel
theorem dX3_work_59 : decode cX3_work 59 = .ok (.bipush 10, 2) := by decide +kernel
theorem dX3_work_61 : decode cX3_work 61 = .ok (.imul, 1) := by decide +kernel
theorem dX3_work_62 : decode cX3_work 62 = .ok (.istore_n 2, 1) := by decide +kernel
theorem dX3_work_63 : decode cX3_work 63 = .ok (.goto (-13), 3) := by decide +kernel
theorem dX3_work_66 : decode cX3_work 66 = .ok (.iload_n 2, 1) := by decide +kernel
theorem dX3_work_67 : decode cX3_work 67 = .ok (.ifCond .le 27, 3) := by decide +kernel
theorem dX3_work_70 : decode cX3_work 70 = .ok (.aload_n 0, 1) := by decide +kernel
theorem dX3_work_71 : decode cX3_work 71 = .ok (.getfield 18, 3) := by decide +kernel
theorem dX3_work_74 : decode cX3_work 74 = .ok (.bipush 48, 2) := by decide +kernel
theorem dX3_work_76 : decode cX3_work 76 = .ok (.iload_n 1, 1) := by decide +kernel
theorem dX3_work_77 : decode cX3_work 77 = .ok (.iload_n 2, 1) := by decide +kernel
theorem dX3_work_78 : decode cX3_work 78 = .ok (.idiv, 1) := by decide +kernel
theorem dX3_work_79 : decode cX3_work 79 = .ok (.bipush 10, 2) := by decide +kernel
theorem dX3_work_81 : decode cX3_work 81 = .ok (.irem, 1) := by decide +kernel
theorem dX3_work_82 : decode cX3_work 82 = .ok (.iadd, 1) := by decide +kernel
theorem dX3_work_83 : decode cX3_work 83 = .ok (.invokevirtual 29, 3) := by decide +kernel
theorem dX3_work_86 : decode cX3_work 86 = .ok (.iload_n 2, 1) := by decide +kernel
theorem dX3_work_87 : decode cX3_work 87 = .ok (.bipush 10, 2) := by decide +kernel
theorem dX3_work_89 : decode cX3_work 89 = .ok (.idiv, 1) := by decide +kernel
theorem dX3_work_90 : decode cX3_work 90 = .ok (.istore_n 2, 1) := by decide +kernel
theorem dX3_work_91 : decode cX3_work 91 = .ok (.goto (-25), 3) := by decide +kernel
theorem dX3_work_94 : decode cX3_work 94 = .ok (.aload_n 0, 1) := by decide +kernel
theorem dX3_work_95 : decode cX3_work 95 = .ok (.getfield 18, 3) := by decide +kernel
theorem dX3_work_98 : decode cX3_work 98 = .ok (.invokevirtual 33, 3) := by decide +kernel
theorem dX3_work_101 : decode cX3_work 101 = .ok (.return_, 1) := by decide +kernel
theorem q55 : (Jvm.Cond.initialized "PollAudit$Seed") ∈ lw_all := lw_g (lw_at lw_m1 3 rfl) rfl
theorem q108 : (Jvm.Cond.instantiable "PollAudit$Seed" (3 : Nat)) ∈ lw_all := lw_g (lw_at lw_m1 56 rfl) rfl
theorem q110 : (Jvm.Cond.instanceMethod ({ cls := "PollAudit$Seed", name := "<init>", desc := "()V" } : Jvm.MethodName)) ∈ lw_all := lw_g (lw_at lw_m1 58 rfl) rfl
theorem q111 : (Jvm.Cond.code ({ cls := "PollAudit$Seed", name := "<init>", desc := "()V" } : Jvm.MethodName) prog_9_method_1_code (1 : Nat) (Option.none : Option Jvm.ClassFile.FieldType)) ∈ lw_all := lw_g (lw_at lw_m1 59 rfl) rfl
theorem q112 : (Jvm.Cond.methodLink "PollAudit$Seed" (3 : Nat) ({ cls := "java/lang/Object", name := "<init>", desc := "()V" } : Jvm.MethodName)) ∈ lw_all := lw_g (lw_at lw_m1 60 rfl) rfl
theorem q113 : (Jvm.Cond.classLink "PollAudit$Seed" (15 : Nat) "PollAudit$Digest") ∈ lw_all := lw_g (lw_at lw_m1 61 rfl) rfl
theorem q115 : (Jvm.Cond.methodLinkNest "PollAudit$Seed" (17 : Nat) ({ cls := "PollAudit$Digest", name := "<init>", desc := "()V" } : Jvm.MethodName) "PollAudit") ∈ lw_tbl := lw_at lw_m1 63 rfl
theorem q135 : (Jvm.Cond.fieldLink "PollAudit$Seed" (9 : Nat) "PollAudit$Seed" "digits" "[I") ∈ lw_all := lw_g (lw_at lw_m1 83 rfl) rfl
theorem q137 : (Jvm.Cond.fieldLink "PollAudit$Seed" (25 : Nat) "PollAudit$Seed" "size" "I") ∈ lw_all := lw_g (lw_at lw_m1 85 rfl) rfl
theorem q139 : (Jvm.Cond.fieldLink "PollAudit$Seed" (18 : Nat) "PollAudit$Seed" "digest" "LPollAudit$Digest;") ∈ lw_all := lw_g (lw_at lw_m1 87 rfl) rfl
theorem q141 : (Jvm.Cond.laysFinal "PollAudit$Seed" "PollAudit$Seed" "digits" "[I") ∈ lw_all := lw_g (lw_at lw_m1 89 rfl) rfl
theorem q142 : (Jvm.Cond.soleField "PollAudit$Seed" "digits") ∈ lw_all := lw_g (lw_at lw_m1 90 rfl) rfl
theorem q143 : (Jvm.Cond.lays "PollAudit$Seed" "PollAudit$Seed" "size" "I") ∈ lw_all := lw_g (lw_at lw_m1 91 rfl) rfl
theorem q144 : (Jvm.Cond.soleField "PollAudit$Seed" "size") ∈ lw_all := lw_g (lw_at lw_m1 92 rfl) rfl
theorem q145 : (Jvm.Cond.laysFinal "PollAudit$Seed" "PollAudit$Seed" "digest" "LPollAudit$Digest;") ∈ lw_all := lw_g (lw_at lw_m1 93 rfl) rfl
theorem q146 : (Jvm.Cond.soleField "PollAudit$Seed" "digest") ∈ lw_all := lw_g (lw_at lw_m1 94 rfl) rfl
theorem q147 : (Jvm.Cond.superclass "PollAudit$Seed" "java/lang/Object") ∈ lw_all := lw_g (lw_at lw_m1 95 rfl) rfl
theorem q702 : (Jvm.Cond.castable "PollAudit$Seed" "PollAudit$Source") ∈ lw_tbl := lw_at lw_m3 170 rfl
theorem q703 : (Jvm.Cond.selects "PollAudit$Seed" ({ cls := "PollAudit$Source", name := "draw", desc := "(II)I" } : Jvm.MethodName) ({ cls := "PollAudit$Seed", name := "draw", desc := "(II)I" } : Jvm.MethodName)) ∈ lw_all := lw_g (lw_at lw_m3 171 rfl) rfl
theorem q704 : (Jvm.Cond.unhidden "PollAudit$Seed" "draw" "(II)I") ∈ lw_tbl := lw_at lw_m3 172 rfl
theorem q705 : (Jvm.Cond.instanceMethod ({ cls := "PollAudit$Seed", name := "draw", desc := "(II)I" } : Jvm.MethodName)) ∈ lw_all := lw_g (lw_at lw_m3 173 rfl) rfl
theorem q706 : (Jvm.Cond.publicMethod ({ cls := "PollAudit$Seed", name := "draw", desc := "(II)I" } : Jvm.MethodName)) ∈ lw_tbl := lw_at lw_m3 174 rfl
theorem q707 : (Jvm.Cond.code ({ cls := "PollAudit$Seed", name := "draw", desc := "(II)I" } : Jvm.MethodName) prog_9_method_3_code (3 : Nat) (Option.some Jvm.ClassFile.FieldType.int)) ∈ lw_all := lw_g (lw_at lw_m3 175 rfl) rfl
theorem q708 : (Jvm.Cond.methodLink "PollAudit$Seed" (36 : Nat) ({ cls := "PollAudit$Seed", name := "work", desc := "(I)V" } : Jvm.MethodName)) ∈ lw_all := lw_g (lw_at lw_m3 176 rfl) rfl
theorem q709 : (Jvm.Cond.instanceMethod ({ cls := "PollAudit$Seed", name := "work", desc := "(I)V" } : Jvm.MethodName)) ∈ lw_all := lw_g (lw_at lw_m3 177 rfl) rfl
theorem q710 : (Jvm.Cond.selects "PollAudit$Seed" ({ cls := "PollAudit$Seed", name := "work", desc := "(I)V" } : Jvm.MethodName) ({ cls := "PollAudit$Seed", name := "work", desc := "(I)V" } : Jvm.MethodName)) ∈ lw_all := lw_g (lw_at lw_m3 178 rfl) rfl
theorem q711 : (Jvm.Cond.code ({ cls := "PollAudit$Seed", name := "work", desc := "(I)V" } : Jvm.MethodName) prog_9_method_2_code (3 : Nat) (Option.none : Option Jvm.ClassFile.FieldType)) ∈ lw_all := lw_g (lw_at lw_m3 179 rfl) rfl
theorem q712 : (Jvm.Cond.methodLink "PollAudit$Seed" (22 : Nat) ({ cls := "PollAudit$Digest", name := "begin", desc := "()V" } : Jvm.MethodName)) ∈ lw_all := lw_g (lw_at lw_m3 180 rfl) rfl
theorem q716 : (Jvm.Cond.methodLink "PollAudit$Seed" (29 : Nat) ({ cls := "PollAudit$Digest", name := "add", desc := "(I)V" } : Jvm.MethodName)) ∈ lw_all := lw_g (lw_at lw_m3 184 rfl) rfl
theorem q720 : (Jvm.Cond.methodLink "PollAudit$Seed" (33 : Nat) ({ cls := "PollAudit$Digest", name := "close", desc := "()V" } : Jvm.MethodName)) ∈ lw_all := lw_g (lw_at lw_m3 188 rfl) rfl
theorem q735 : (Jvm.Cond.methodLink "PollAudit$Seed" (39 : Nat) ({ cls := "PollAudit$Digest", name := "rest", desc := "(I)I" } : Jvm.MethodName)) ∈ lw_all := lw_g (lw_at lw_m3 203 rfl) rfl
abbrev cX4_init : ByteArray := prog_5_method_1_code
def yX4_init : MethodName := ⟨RX4, "<init>", "()V"⟩
theorem dX4_init_0 : decode cX4_init 0 = .ok (.aload_n 0, 1) := by decide +kernel
theorem dX4_init_1 : decode cX4_init 1 = .ok (.invokespecial 1, 3) := by decide +kernel
theorem dX4_init_4 : decode cX4_init 4 = .ok (.aload_n 0, 1) := by decide +kernel
theorem dX4_init_5 : decode cX4_init 5 = .ok (.bipush 8, 2) := by decide +kernel
theorem dX4_init_7 : decode cX4_init 7 = .ok (.newarray .int, 2) := by decide +kernel
theorem dX4_init_9 : decode cX4_init 9 = .ok (.putfield 7, 3) := by decide +kernel
theorem dX4_init_12 : decode cX4_init 12 = .ok (.aload_n 0, 1) := by decide +kernel
theorem dX4_init_13 : decode cX4_init 13 = .ok (.bipush 8, 2) := by decide +kernel
theorem dX4_init_15 : decode cX4_init 15 = .ok (.newarray .int, 2) := by decide +kernel
theorem dX4_init_17 : decode cX4_init 17 = .ok (.putfield 13, 3) := by decide +kernel
theorem dX4_init_20 : decode cX4_init 20 = .ok (.aload_n 0, 1) := by decide +kernel
theorem dX4_init_21 : decode cX4_init 21 = .ok (.bipush 64, 2) := by decide +kernel
theorem dX4_init_23 : decode cX4_init 23 = .ok (.newarray .int, 2) := by decide +kernel
theorem dX4_init_25 : decode cX4_init 25 = .ok (.putfield 16, 3) := by decide +kernel
theorem dX4_init_28 : decode cX4_init 28 = .ok (.aload_n 0, 1) := by decide +kernel
theorem dX4_init_29 : decode cX4_init 29 = .ok (.bipush 64, 2) := by decide +kernel
theorem dX4_init_31 : decode cX4_init 31 = .ok (.newarray .byte, 2) := by decide +kernel
theorem dX4_init_33 : decode cX4_init 33 = .ok (.putfield 19, 3) := by decide +kernel
theorem dX4_init_36 : decode cX4_init 36 = .ok (.return_, 1) := by decide +kernel
abbrev cX4_begin : ByteArray := prog_5_method_2_code
def yX4_begin : MethodName := ⟨RX4, "begin", "()V"⟩
theorem dX4_begin_0 : decode cX4_begin 0 = .ok (.aload_n 0, 1) := by decide +kernel
theorem dX4_begin_1 : decode cX4_begin 1 = .ok (.iconst 0, 1) := by decide +kernel
theorem dX4_begin_2 : decode cX4_begin 2 = .ok (.putfield 23, 3) := by decide +kernel
theorem dX4_begin_5 : decode cX4_begin 5 = .ok (.return_, 1) := by decide +kernel
abbrev cX4_add : ByteArray := prog_5_method_3_code
def yX4_add : MethodName := ⟨RX4, "add", "(I)V"⟩
theorem dX4_add_0 : decode cX4_add 0 = .ok (.aload_n 0, 1) := by decide +kernel
theorem dX4_add_1 : decode cX4_add 1 = .ok (.getfield 19, 3) := by decide +kernel
theorem dX4_add_4 : decode cX4_add 4 = .ok (.aload_n 0, 1) := by decide +kernel
theorem dX4_add_5 : decode cX4_add 5 = .ok (.dup, 1) := by decide +kernel
theorem dX4_add_6 : decode cX4_add 6 = .ok (.getfield 23, 3) := by decide +kernel
theorem dX4_add_9 : decode cX4_add 9 = .ok (.dup_x1, 1) := by decide +kernel
theorem dX4_add_10 : decode cX4_add 10 = .ok (.iconst 1, 1) := by decide +kernel
theorem dX4_add_11 : decode cX4_add 11 = .ok (.iadd, 1) := by decide +kernel
theorem dX4_add_12 : decode cX4_add 12 = .ok (.putfield 23, 3) := by decide +kernel
theorem dX4_add_15 : decode cX4_add 15 = .ok (.iload_n 1, 1) := by decide +kernel
theorem dX4_add_16 : decode cX4_add 16 = .ok (.i2b, 1) := by decide +kernel
theorem dX4_add_17 : decode cX4_add 17 = .ok (.bastore, 1) := by decide +kernel
theorem dX4_add_18 : decode cX4_add 18 = .ok (.return_, 1) := by decide +kernel
abbrev cX4_close : ByteArray := prog_5_method_5_code
def yX4_close : MethodName := ⟨RX4, "close", "()V"⟩
theorem dX4_close_0 : decode cX4_close 0 = .ok (.bipush 8, 2) := by decide +kernel
theorem dX4_close_2 : decode cX4_close 2 = .ok (.aload_n 0, 1) := by decide +kernel
theorem dX4_close_3 : decode cX4_close 3 = .ok (.getfield 23, 3) := by decide +kernel
theorem dX4_close_6 : decode cX4_close 6 = .ok (.imul, 1) := by decide +kernel
theorem dX4_close_7 : decode cX4_close 7 = .ok (.istore_n 1, 1) := by decide +kernel
theorem dX4_close_8 : decode cX4_close 8 = .ok (.aload_n 0, 1) := by decide +kernel
theorem dX4_close_9 : decode cX4_close 9 = .ok (.getfield 19, 3) := by decide +kernel
theorem dX4_close_12 : decode cX4_close 12 = .ok (.aload_n 0, 1) := by decide +kernel
theorem dX4_close_13 : decode cX4_close 13 = .ok (.getfield 23, 3) := by decide +kernel
theorem dX4_close_16 : decode cX4_close 16 = .ok (.bipush (-128), 2) := by decide +kernel
theorem dX4_close_18 : decode cX4_close 18 = .ok (.bastore, 1) := by decide +kernel
theorem dX4_close_19 : decode cX4_close 19 = .ok (.aload_n 0, 1) := by decide +kernel
theorem dX4_close_20 : decode cX4_close 20 = .ok (.getfield 23, 3) := by decide +kernel
theorem dX4_close_23 : decode cX4_close 23 = .ok (.iconst 1, 1) := by decide +kernel
theorem dX4_close_24 : decode cX4_close 24 = .ok (.iadd, 1) := by decide +kernel
theorem dX4_close_25 : decode cX4_close 25 = .ok (.istore_n 2, 1) := by decide +kernel
theorem dX4_close_26 : decode cX4_close 26 = .ok (.iload_n 2, 1) := by decide +kernel
theorem dX4_close_27 : decode cX4_close 27 = .ok (.bipush 62, 2) := by decide +kernel
theorem dX4_close_29 : decode cX4_close 29 = .ok (.if_icmp .ge 16, 3) := by decide +kernel
theorem dX4_close_32 : decode cX4_close 32 = .ok (.aload_n 0, 1) := by decide +kernel
theorem dX4_close_33 : decode cX4_close 33 = .ok (.getfield 19, 3) := by decide +kernel
theorem dX4_close_36 : decode cX4_close 36 = .ok (.iload_n 2, 1) := by decide +kernel
theorem dX4_close_37 : decode cX4_close 37 = .ok (.iconst 0, 1) := by decide +kernel
theorem dX4_close_38 : decode cX4_close 38 = .ok (.bastore, 1) := by decide +kernel
theorem dX4_close_39 : decode cX4_close 39 = .ok (.iinc 2 1, 3) := by decide +kernel
theorem dX4_close_42 : decode cX4_close 42 = .ok (.goto (-16), 3) := by decide +kernel
theorem dX4_close_45 : decode cX4_close 45 = .ok (.aload_n 0, 1) := by decide +kernel
theorem dX4_close_46 : decode cX4_close 46 = .ok (.getfield 19, 3) := by decide +kernel
theorem dX4_close_49 : decode cX4_close 49 = .ok (.bipush 62, 2) := by decide +kernel
theorem dX4_close_51 : decode cX4_close 51 = .ok (.iload_n 1, 1) := by decide +kernel
theorem dX4_close_52 : decode cX4_close 52 = .ok (.bipush 8, 2) := by decide +kernel
theorem dX4_close_54 : decode cX4_close 54 = .ok (.ishr, 1) := by decide +kernel
theorem dX4_close_55 : decode cX4_close 55 = .ok (.i2b, 1) := by decide +kernel
theorem dX4_close_56 : decode cX4_close 56 = .ok (.bastore, 1) := by decide +kernel
theorem dX4_close_57 : decode cX4_close 57 = .ok (.aload_n 0, 1) := by decide +kernel
theorem dX4_close_58 : decode cX4_close 58 = .ok (.getfield 19, 3) := by decide +kernel
theorem dX4_close_61 : decode cX4_close 61 = .ok (.bipush 63, 2) := by decide +kernel
theorem dX4_close_63 : decode cX4_close 63 = .ok (.iload_n 1, 1) := by decide +kernel
theorem dX4_close_64 : decode cX4_close 64 = .ok (.i2b, 1) := by decide +kernel
theorem dX4_close_65 : decode cX4_close 65 = .ok (.bastore, 1) := by decide +kernel
theorem dX4_close_66 : decode cX4_close 66 = .ok (.iconst 0, 1) := by decide +kernel
theorem dX4_close_67 : decode cX4_close 67 = .ok (.istore_n 2, 1) := by decide +kernel
theorem dX4_close_68 : decode cX4_close 68 = .ok (.iload_n 2, 1) := by decide +kernel
theorem dX4_close_69 : decode cX4_close 69 = .ok (.bipush 16, 2) := by decide +kernel
theorem dX4_close_71 : decode cX4_close 71 = .ok (.if_icmp .ge 81, 3) := by decide +kernel
theorem dX4_close_74 : decode cX4_close 74 = .ok (.aload_n 0, 1) := by decide +kernel
theorem dX4_close_75 : decode cX4_close 75 = .ok (.getfield 16, 3) := by decide +kernel
theorem dX4_close_78 : decode cX4_close 78 = .ok (.iload_n 2, 1) := by decide +kernel
theorem dX4_close_79 : decode cX4_close 79 = .ok (.aload_n 0, 1) := by decide +kernel
theorem dX4_close_80 : decode cX4_close 80 = .ok (.getfield 19, 3) := by decide +kernel
theorem dX4_close_83 : decode cX4_close 83 = .ok (.iconst 4, 1) := by decide +kernel
theorem dX4_close_84 : decode cX4_close 84 = .ok (.iload_n 2, 1) := by decide +kernel
theorem dX4_close_85 : decode cX4_close 85 = .ok (.imul, 1) := by decide +kernel
theorem dX4_close_86 : decode cX4_close 86 = .ok (.baload, 1) := by decide +kernel
theorem dX4_close_87 : decode cX4_close 87 = .ok (.sipush 255, 3) := by decide +kernel
theorem dX4_close_90 : decode cX4_close 90 = .ok (.iand, 1) := by decide +kernel
theorem dX4_close_91 : decode cX4_close 91 = .ok (.bipush 24, 2) := by decide +kernel
theorem dX4_close_93 : decode cX4_close 93 = .ok (.ishl, 1) := by decide +kernel
theorem dX4_close_94 : decode cX4_close 94 = .ok (.aload_n 0, 1) := by decide +kernel
theorem dX4_close_95 : decode cX4_close 95 = .ok (.getfield 19, 3) := by decide +kernel
theorem dX4_close_98 : decode cX4_close 98 = .ok (.iconst 4, 1) := by decide +kernel
theorem dX4_close_99 : decode cX4_close 99 = .ok (.iload_n 2, 1) := by decide +kernel
theorem dX4_close_100 : decode cX4_close 100 = .ok (.imul, 1) := by decide +kernel
theorem dX4_close_101 : decode cX4_close 101 = .ok (.iconst 1, 1) := by decide +kernel
theorem dX4_close_102 : decode cX4_close 102 = .ok (.iadd, 1) := by decide +kernel
theorem dX4_close_103 : decode cX4_close 103 = .ok (.baload, 1) := by decide +kernel
theorem dX4_close_104 : decode cX4_close 104 = .ok (.sipush 255, 3) := by decide +kernel
theorem dX4_close_107 : decode cX4_close 107 = .ok (.iand, 1) := by decide +kernel
theorem dX4_close_108 : decode cX4_close 108 = .ok (.bipush 16, 2) := by decide +kernel
theorem dX4_close_110 : decode cX4_close 110 = .ok (.ishl, 1) := by decide +kernel
theorem dX4_close_111 : decode cX4_close 111 = .ok (.ior, 1) := by decide +kernel
theorem dX4_close_112 : decode cX4_close 112 = .ok (.aload_n 0, 1) := by decide +kernel
theorem dX4_close_113 : decode cX4_close 113 = .ok (.getfield 19, 3) := by decide +kernel
theorem dX4_close_116 : decode cX4_close 116 = .ok (.iconst 4, 1) := by decide +kernel
theorem dX4_close_117 : decode cX4_close 117 = .ok (.iload_n 2, 1) := by decide +kernel
theorem dX4_close_118 : decode cX4_close 118 = .ok (.imul, 1) := by decide +kernel
theorem dX4_close_119 : decode cX4_close 119 = .ok (.iconst 2, 1) := by decide +kernel
theorem dX4_close_120 : decode cX4_close 120 = .ok (.iadd, 1) := by decide +kernel
theorem dX4_close_121 : decode cX4_close 121 = .ok (.baload, 1) := by decide +kernel
theorem dX4_close_122 : decode cX4_close 122 = .ok (.sipush 255, 3) := by decide +kernel
theorem dX4_close_125 : decode cX4_close 125 = .ok (.iand, 1) := by decide +kernel
theorem dX4_close_126 : decode cX4_close 126 = .ok (.bipush 8, 2) := by decide +kernel
theorem dX4_close_128 : decode cX4_close 128 = .ok (.ishl, 1) := by decide +kernel
theorem dX4_close_129 : decode cX4_close 129 = .ok (.ior, 1) := by decide +kernel
theorem dX4_close_130 : decode cX4_close 130 = .ok (.aload_n 0, 1) := by decide +kernel
theorem dX4_close_131 : decode cX4_close 131 = .ok (.getfield 19, 3) := by decide +kernel
theorem dX4_close_134 : decode cX4_close 134 = .ok (.iconst 4, 1) := by decide +kernel
theorem dX4_close_135 : decode cX4_close 135 = .ok (.iload_n 2, 1) := by decide +kernel
theorem dX4_close_136 : decode cX4_close 136 = .ok (.imul, 1) := by decide +kernel
theorem dX4_close_137 : decode cX4_close 137 = .ok (.iconst 3, 1) := by decide +kernel
theorem dX4_close_138 : decode cX4_close 138 = .ok (.iadd, 1) := by decide +kernel
theorem dX4_close_139 : decode cX4_close 139 = .ok (.baload, 1) := by decide +kernel
theorem dX4_close_140 : decode cX4_close 140 = .ok (.sipush 255, 3) := by decide +kernel
theorem dX4_close_143 : decode cX4_close 143 = .ok (.iand, 1) := by decide +kernel
theorem dX4_close_144 : decode cX4_close 144 = .ok (.ior, 1) := by decide +kernel
theorem dX4_close_145 : decode cX4_close 145 = .ok (.iastore, 1) := by decide +kernel
theorem dX4_close_146 : decode cX4_close 146 = .ok (.iinc 2 1, 3) := by decide +kernel
theorem dX4_close_149 : decode cX4_close 149 = .ok (.goto (-81), 3) := by decide +kernel
theorem dX4_close_152 : decode cX4_close 152 = .ok (.bipush 16, 2) := by decide +kernel
theorem dX4_close_154 : decode cX4_close 154 = .ok (.istore_n 2, 1) := by decide +kernel
theorem dX4_close_155 : decode cX4_close 155 = .ok (.iload_n 2, 1) := by decide +kernel
theorem dX4_close_156 : decode cX4_close 156 = .ok (.bipush 64, 2) := by decide +kernel
theorem dX4_close_158 : decode cX4_close 158 = .ok (.if_icmp .ge 94, 3) := by decide +kernel
theorem dX4_close_161 : decode cX4_close 161 = .ok (.aload_n 0, 1) := by decide +kernel
theorem dX4_close_162 : decode cX4_close 162 = .ok (.getfield 16, 3) := by decide +kernel
theorem dX4_close_165 : decode cX4_close 165 = .ok (.iload_n 2, 1) := by decide +kernel
theorem dX4_close_166 : decode cX4_close 166 = .ok (.bipush 15, 2) := by decide +kernel
theorem dX4_close_168 : decode cX4_close 168 = .ok (.isub, 1) := by decide +kernel
theorem dX4_close_169 : decode cX4_close 169 = .ok (.iaload, 1) := by decide +kernel
theorem dX4_close_170 : decode cX4_close 170 = .ok (.istore_n 3, 1) := by decide +kernel
theorem dX4_close_171 : decode cX4_close 171 = .ok (.aload_n 0, 1) := by decide +kernel
theorem dX4_close_172 : decode cX4_close 172 = .ok (.getfield 16, 3) := by decide +kernel
theorem dX4_close_175 : decode cX4_close 175 = .ok (.iload_n 2, 1) := by decide +kernel
theorem dX4_close_176 : decode cX4_close 176 = .ok (.iconst 2, 1) := by decide +kernel
theorem dX4_close_177 : decode cX4_close 177 = .ok (.isub, 1) := by decide +kernel
theorem dX4_close_178 : decode cX4_close 178 = .ok (.iaload, 1) := by decide +kernel
theorem dX4_close_179 : decode cX4_close 179 = .ok (.istore 4, 2) := by decide +kernel
theorem dX4_close_181 : decode cX4_close 181 = .ok (.aload_n 0, 1) := by decide +kernel
theorem dX4_close_182 : decode cX4_close 182 = .ok (.getfield 16, 3) := by decide +kernel
theorem dX4_close_185 : decode cX4_close 185 = .ok (.iload_n 2, 1) := by decide +kernel
theorem dX4_close_186 : decode cX4_close 186 = .ok (.aload_n 0, 1) := by decide +kernel
theorem dX4_close_187 : decode cX4_close 187 = .ok (.getfield 16, 3) := by decide +kernel
theorem dX4_close_190 : decode cX4_close 190 = .ok (.iload_n 2, 1) := by decide +kernel
theorem dX4_close_191 : decode cX4_close 191 = .ok (.bipush 16, 2) := by decide +kernel
theorem dX4_close_193 : decode cX4_close 193 = .ok (.isub, 1) := by decide +kernel
theorem dX4_close_194 : decode cX4_close 194 = .ok (.iaload, 1) := by decide +kernel
theorem dX4_close_195 : decode cX4_close 195 = .ok (.iload_n 3, 1) := by decide +kernel
theorem dX4_close_196 : decode cX4_close 196 = .ok (.bipush 7, 2) := by decide +kernel
theorem dX4_close_198 : decode cX4_close 198 = .ok (.invokestatic 27, 3) := by decide +kernel
theorem dX4_close_201 : decode cX4_close 201 = .ok (.iload_n 3, 1) := by decide +kernel
theorem dX4_close_202 : decode cX4_close 202 = .ok (.bipush 18, 2) := by decide +kernel
theorem dX4_close_204 : decode cX4_close 204 = .ok (.invokestatic 27, 3) := by decide +kernel
theorem dX4_close_207 : decode cX4_close 207 = .ok (.ixor, 1) := by decide +kernel
theorem dX4_close_208 : decode cX4_close 208 = .ok (.iload_n 3, 1) := by decide +kernel
theorem dX4_close_209 : decode cX4_close 209 = .ok (.iconst 3, 1) := by decide +kernel
theorem dX4_close_210 : decode cX4_close 210 = .ok (.iushr, 1) := by decide +kernel
theorem dX4_close_211 : decode cX4_close 211 = .ok (.ixor, 1) := by decide +kernel
theorem dX4_close_212 : decode cX4_close 212 = .ok (.iadd, 1) := by decide +kernel
theorem dX4_close_213 : decode cX4_close 213 = .ok (.aload_n 0, 1) := by decide +kernel
theorem dX4_close_214 : decode cX4_close 214 = .ok (.getfield 16, 3) := by decide +kernel
theorem dX4_close_217 : decode cX4_close 217 = .ok (.iload_n 2, 1) := by decide +kernel
theorem dX4_close_218 : decode cX4_close 218 = .ok (.bipush 7, 2) := by decide +kernel
theorem dX4_close_220 : decode cX4_close 220 = .ok (.isub, 1) := by decide +kernel
theorem dX4_close_221 : decode cX4_close 221 = .ok (.iaload, 1) := by decide +kernel
theorem dX4_close_222 : decode cX4_close 222 = .ok (.iadd, 1) := by decide +kernel
theorem dX4_close_223 : decode cX4_close 223 = .ok (.iload 4, 2) := by decide +kernel
theorem dX4_close_225 : decode cX4_close 225 = .ok (.bipush 17, 2) := by decide +kernel
theorem dX4_close_227 : decode cX4_close 227 = .ok (.invokestatic 27, 3) := by decide +kernel
theorem dX4_close_230 : decode cX4_close 230 = .ok (.iload 4, 2) := by decide +kernel
theorem dX4_close_232 : decode cX4_close 232 = .ok (.bipush 19, 2) := by decide +kernel
theorem dX4_close_234 : decode cX4_close 234 = .ok (.invokestatic 27, 3) := by decide +kernel
theorem dX4_close_237 : decode cX4_close 237 = .ok (.ixor, 1) := by decide +kernel
theorem dX4_close_238 : decode cX4_close 238 = .ok (.iload 4, 2) := by decide +kernel
theorem dX4_close_240 : decode cX4_close 240 = .ok (.bipush 10, 2) := by decide +kernel
theorem dX4_close_242 : decode cX4_close 242 = .ok (.iushr, 1) := by decide +kernel
theorem dX4_close_243 : decode cX4_close 243 = .ok (.ixor, 1) := by decide +kernel
theorem dX4_close_244 : decode cX4_close 244 = .ok (.iadd, 1) := by decide +kernel
theorem dX4_close_245 : decode cX4_close 245 = .ok (.iastore, 1) := by decide +kernel
theorem dX4_close_246 : decode cX4_close 246 = .ok (.iinc 2 1, 3) := by decide +kernel
theorem dX4_close_249 : decode cX4_close 249 = .ok (.goto (-94), 3) := by decide +kernel
theorem dX4_close_252 : decode cX4_close 252 = .ok (.iconst 0, 1) := by decide +kernel
theorem dX4_close_253 : decode cX4_close 253 = .ok (.istore_n 2, 1) := by decide +kernel
theorem dX4_close_254 : decode cX4_close 254 = .ok (.iload_n 2, 1) := by decide +kernel
theorem dX4_close_255 : decode cX4_close 255 = .ok (.bipush 8, 2) := by decide +kernel
theorem dX4_close_257 : decode cX4_close 257 = .ok (.if_icmp .ge 31, 3) := by decide +kernel
theorem dX4_close_260 : decode cX4_close 260 = .ok (.aload_n 0, 1) := by decide +kernel
theorem dX4_close_261 : decode cX4_close 261 = .ok (.getfield 7, 3) := by decide +kernel
theorem dX4_close_264 : decode cX4_close 264 = .ok (.iload_n 2, 1) := by decide +kernel
theorem dX4_close_265 : decode cX4_close 265 = .ok (.getstatic 31, 3) := by decide +kernel
theorem dX4_close_268 : decode cX4_close 268 = .ok (.iload_n 2, 1) := by decide +kernel
theorem dX4_close_269 : decode cX4_close 269 = .ok (.iaload, 1) := by decide +kernel
theorem dX4_close_270 : decode cX4_close 270 = .ok (.iastore, 1) := by decide +kernel
theorem dX4_close_271 : decode cX4_close 271 = .ok (.aload_n 0, 1) := by decide +kernel
theorem dX4_close_272 : decode cX4_close 272 = .ok (.getfield 13, 3) := by decide +kernel
theorem dX4_close_275 : decode cX4_close 275 = .ok (.iload_n 2, 1) := by decide +kernel
theorem dX4_close_276 : decode cX4_close 276 = .ok (.getstatic 31, 3) := by decide +kernel
theorem dX4_close_279 : decode cX4_close 279 = .ok (.iload_n 2, 1) := by decide +kernel
theorem dX4_close_280 : decode cX4_close 280 = .ok (.iaload, 1) := by decide +kernel
theorem dX4_close_281 : decode cX4_close 281 = .ok (.iastore, 1) := by decide +kernel
theorem dX4_close_282 : decode cX4_close 282 = .ok (.iinc 2 1, 3) := by decide +kernel
theorem dX4_close_285 : decode cX4_close 285 = .ok (.goto (-31), 3) := by decide +kernel
theorem dX4_close_288 : decode cX4_close 288 = .ok (.iconst 0, 1) := by decide +kernel
theorem dX4_close_289 : decode cX4_close 289 = .ok (.istore_n 2, 1) := by decide +kernel
theorem dX4_close_290 : decode cX4_close 290 = .ok (.iload_n 2, 1) := by decide +kernel
theorem dX4_close_291 : decode cX4_close 291 = .ok (.bipush 64, 2) := by decide +kernel
theorem dX4_close_293 : decode cX4_close 293 = .ok (.if_icmp .ge 14, 3) := by decide +kernel
theorem dX4_close_296 : decode cX4_close 296 = .ok (.aload_n 0, 1) := by decide +kernel
theorem dX4_close_297 : decode cX4_close 297 = .ok (.iload_n 2, 1) := by decide +kernel
theorem dX4_close_298 : decode cX4_close 298 = .ok (.invokevirtual 34, 3) := by decide +kernel
theorem dX4_close_301 : decode cX4_close 301 = .ok (.iinc 2 1, 3) := by decide +kernel
theorem dX4_close_304 : decode cX4_close 304 = .ok (.goto (-14), 3) := by decide +kernel
theorem dX4_close_307 : decode cX4_close 307 = .ok (.iconst 0, 1) := by decide +kernel
theorem dX4_close_308 : decode cX4_close 308 = .ok (.istore_n 2, 1) := by decide +kernel
theorem dX4_close_309 : decode cX4_close 309 = .ok (.iload_n 2, 1) := by decide +kernel
theorem dX4_close_310 : decode cX4_close 310 = .ok (.bipush 8, 2) := by decide +kernel
theorem dX4_close_312 : decode cX4_close 312 = .ok (.if_icmp .ge 24, 3) := by decide +kernel
theorem dX4_close_315 : decode cX4_close 315 = .ok (.aload_n 0, 1) := by decide +kernel
theorem dX4_close_316 : decode cX4_close 316 = .ok (.getfield 7, 3) := by decide +kernel
theorem dX4_close_319 : decode cX4_close 319 = .ok (.iload_n 2, 1) := by decide +kernel
theorem dX4_close_320 : decode cX4_close 320 = .ok (.dup2, 1) := by decide +kernel
theorem dX4_close_321 : decode cX4_close 321 = .ok (.iaload, 1) := by decide +kernel
theorem dX4_close_322 : decode cX4_close 322 = .ok (.aload_n 0, 1) := by decide +kernel
theorem dX4_close_323 : decode cX4_close 323 = .ok (.getfield 13, 3) := by decide +kernel
theorem dX4_close_326 : decode cX4_close 326 = .ok (.iload_n 2, 1) := by decide +kernel
theorem dX4_close_327 : decode cX4_close 327 = .ok (.iaload, 1) := by decide +kernel
theorem dX4_close_328 : decode cX4_close 328 = .ok (.iadd, 1) := by decide +kernel
theorem dX4_close_329 : decode cX4_close 329 = .ok (.iastore, 1) := by decide +kernel
theorem dX4_close_330 : decode cX4_close 330 = .ok (.iinc 2 1, 3) := by decide +kernel
theorem dX4_close_333 : decode cX4_close 333 = .ok (.goto (-24), 3) := by decide +kernel
theorem dX4_close_336 : decode cX4_close 336 = .ok (.return_, 1) := by decide +kernel
abbrev cX4_turn : ByteArray := prog_5_method_4_code
def yX4_turn : MethodName := ⟨RX4, "turn", "(II)I"⟩
theorem dX4_turn_0 : decode cX4_turn 0 = .ok (.iload_n 0, 1) := by decide +kernel
theorem dX4_turn_1 : decode cX4_turn 1 = .ok (.iload_n 1, 1) := by decide +kernel
theorem dX4_turn_2 : decode cX4_turn 2 = .ok (.iushr, 1) := by decide +kernel
theorem dX4_turn_3 : decode cX4_turn 3 = .ok (.iload_n 0, 1) := by decide +kernel
theorem dX4_turn_4 : decode cX4_turn 4 = .ok (.bipush 32, 2) := by decide +kernel
theorem dX4_turn_6 : decode cX4_turn 6 = .ok (.iload_n 1, 1) := by decide +kernel
theorem dX4_turn_7 : decode cX4_turn 7 = .ok (.isub, 1) := by decide +kernel
theorem dX4_turn_8 : decode cX4_turn 8 = .ok (.ishl, 1) := by decide +kernel
theorem dX4_turn_9 : decode cX4_turn 9 = .ok (.ior, 1) := by decide +kernel
theorem dX4_turn_10 : decode cX4_turn 10 = .ok (.ireturn, 1) := by decide +kernel
abbrev cX4_round : ByteArray := prog_5_method_6_code
def yX4_round : MethodName := ⟨RX4, "round", "(I)V"⟩
theorem dX4_round_0 : decode cX4_round 0 = .ok (.aload_n 0, 1) := by decide +kernel
theorem dX4_round_1 : decode cX4_round 1 = .ok (.getfield 13, 3) := by decide +kernel
theorem dX4_round_4 : decode cX4_round 4 = .ok (.iconst 4, 1) := by decide +kernel
theorem dX4_round_5 : decode cX4_round 5 = .ok (.iaload, 1) := by decide +kernel
theorem dX4_round_6 : decode cX4_round 6 = .ok (.istore_n 2, 1) := by decide +kernel
theorem dX4_round_7 : decode cX4_round 7 = .ok (.aload_n 0, 1) := by decide +kernel
theorem dX4_round_8 : decode cX4_round 8 = .ok (.getfield 13, 3) := by decide +kernel
theorem dX4_round_11 : decode cX4_round 11 = .ok (.iconst 0, 1) := by decide +kernel
theorem dX4_round_12 : decode cX4_round 12 = .ok (.iaload, 1) := by decide +kernel
theorem dX4_round_13 : decode cX4_round 13 = .ok (.istore_n 3, 1) := by decide +kernel
theorem dX4_round_14 : decode cX4_round 14 = .ok (.aload_n 0, 1) := by decide +kernel
theorem dX4_round_15 : decode cX4_round 15 = .ok (.getfield 13, 3) := by decide +kernel
theorem dX4_round_18 : decode cX4_round 18 = .ok (.bipush 7, 2) := by decide +kernel
theorem dX4_round_20 : decode cX4_round 20 = .ok (.iaload, 1) := by decide +kernel
theorem dX4_round_21 : decode cX4_round 21 = .ok (.iload_n 2, 1) := by decide +kernel
theorem dX4_round_22 : decode cX4_round 22 = .ok (.bipush 6, 2) := by decide +kernel
theorem dX4_round_24 : decode cX4_round 24 = .ok (.invokestatic 27, 3) := by decide +kernel
theorem dX4_round_27 : decode cX4_round 27 = .ok (.iload_n 2, 1) := by decide +kernel
theorem dX4_round_28 : decode cX4_round 28 = .ok (.bipush 11, 2) := by decide +kernel
theorem dX4_round_30 : decode cX4_round 30 = .ok (.invokestatic 27, 3) := by decide +kernel
theorem dX4_round_33 : decode cX4_round 33 = .ok (.ixor, 1) := by decide +kernel
theorem dX4_round_34 : decode cX4_round 34 = .ok (.iload_n 2, 1) := by decide +kernel
theorem dX4_round_35 : decode cX4_round 35 = .ok (.bipush 25, 2) := by decide +kernel
theorem dX4_round_37 : decode cX4_round 37 = .ok (.invokestatic 27, 3) := by decide +kernel
theorem dX4_round_40 : decode cX4_round 40 = .ok (.ixor, 1) := by decide +kernel
theorem dX4_round_41 : decode cX4_round 41 = .ok (.iadd, 1) := by decide +kernel
theorem dX4_round_42 : decode cX4_round 42 = .ok (.iload_n 2, 1) := by decide +kernel
theorem dX4_round_43 : decode cX4_round 43 = .ok (.aload_n 0, 1) := by decide +kernel
theorem dX4_round_44 : decode cX4_round 44 = .ok (.getfield 13, 3) := by decide +kernel
theorem dX4_round_47 : decode cX4_round 47 = .ok (.iconst 5, 1) := by decide +kernel
theorem dX4_round_48 : decode cX4_round 48 = .ok (.iaload, 1) := by decide +kernel
theorem dX4_round_49 : decode cX4_round 49 = .ok (.iand, 1) := by decide +kernel
theorem dX4_round_50 : decode cX4_round 50 = .ok (.iload_n 2, 1) := by decide +kernel
theorem dX4_round_51 : decode cX4_round 51 = .ok (.iconst (-1), 1) := by decide +kernel
theorem dX4_round_52 : decode cX4_round 52 = .ok (.ixor, 1) := by decide +kernel
theorem dX4_round_53 : decode cX4_round 53 = .ok (.aload_n 0, 1) := by decide +kernel
theorem dX4_round_54 : decode cX4_round 54 = .ok (.getfield 13, 3) := by decide +kernel
theorem dX4_round_57 : decode cX4_round 57 = .ok (.bipush 6, 2) := by decide +kernel
theorem dX4_round_59 : decode cX4_round 59 = .ok (.iaload, 1) := by decide +kernel
theorem dX4_round_60 : decode cX4_round 60 = .ok (.iand, 1) := by decide +kernel
theorem dX4_round_61 : decode cX4_round 61 = .ok (.ixor, 1) := by decide +kernel
theorem dX4_round_62 : decode cX4_round 62 = .ok (.iadd, 1) := by decide +kernel
theorem dX4_round_63 : decode cX4_round 63 = .ok (.getstatic 38, 3) := by decide +kernel
theorem dX4_round_66 : decode cX4_round 66 = .ok (.iload_n 1, 1) := by decide +kernel
theorem dX4_round_67 : decode cX4_round 67 = .ok (.iaload, 1) := by decide +kernel
theorem dX4_round_68 : decode cX4_round 68 = .ok (.iadd, 1) := by decide +kernel
theorem dX4_round_69 : decode cX4_round 69 = .ok (.aload_n 0, 1) := by decide +kernel
theorem dX4_round_70 : decode cX4_round 70 = .ok (.getfield 16, 3) := by decide +kernel
theorem dX4_round_73 : decode cX4_round 73 = .ok (.iload_n 1, 1) := by decide +kernel
theorem dX4_round_74 : decode cX4_round 74 = .ok (.iaload, 1) := by decide +kernel
theorem dX4_round_75 : decode cX4_round 75 = .ok (.iadd, 1) := by decide +kernel
theorem dX4_round_76 : decode cX4_round 76 = .ok (.istore 4, 2) := by decide +kernel
theorem dX4_round_78 : decode cX4_round 78 = .ok (.iload_n 3, 1) := by decide +kernel
theorem dX4_round_79 : decode cX4_round 79 = .ok (.iconst 2, 1) := by decide +kernel
theorem dX4_round_80 : decode cX4_round 80 = .ok (.invokestatic 27, 3) := by decide +kernel
theorem dX4_round_83 : decode cX4_round 83 = .ok (.iload_n 3, 1) := by decide +kernel
theorem dX4_round_84 : decode cX4_round 84 = .ok (.bipush 13, 2) := by decide +kernel
theorem dX4_round_86 : decode cX4_round 86 = .ok (.invokestatic 27, 3) := by decide +kernel
theorem dX4_round_89 : decode cX4_round 89 = .ok (.ixor, 1) := by decide +kernel
theorem dX4_round_90 : decode cX4_round 90 = .ok (.iload_n 3, 1) := by decide +kernel
theorem dX4_round_91 : decode cX4_round 91 = .ok (.bipush 22, 2) := by decide +kernel
theorem dX4_round_93 : decode cX4_round 93 = .ok (.invokestatic 27, 3) := by decide +kernel
theorem dX4_round_96 : decode cX4_round 96 = .ok (.ixor, 1) := by decide +kernel
theorem dX4_round_97 : decode cX4_round 97 = .ok (.iload_n 3, 1) := by decide +kernel
theorem dX4_round_98 : decode cX4_round 98 = .ok (.aload_n 0, 1) := by decide +kernel
theorem dX4_round_99 : decode cX4_round 99 = .ok (.getfield 13, 3) := by decide +kernel
theorem dX4_round_102 : decode cX4_round 102 = .ok (.iconst 1, 1) := by decide +kernel
theorem dX4_round_103 : decode cX4_round 103 = .ok (.iaload, 1) := by decide +kernel
theorem dX4_round_104 : decode cX4_round 104 = .ok (.iand, 1) := by decide +kernel
theorem dX4_round_105 : decode cX4_round 105 = .ok (.iload_n 3, 1) := by decide +kernel
theorem dX4_round_106 : decode cX4_round 106 = .ok (.aload_n 0, 1) := by decide +kernel
theorem dX4_round_107 : decode cX4_round 107 = .ok (.getfield 13, 3) := by decide +kernel
theorem dX4_round_110 : decode cX4_round 110 = .ok (.iconst 2, 1) := by decide +kernel
theorem dX4_round_111 : decode cX4_round 111 = .ok (.iaload, 1) := by decide +kernel
theorem dX4_round_112 : decode cX4_round 112 = .ok (.iand, 1) := by decide +kernel
theorem dX4_round_113 : decode cX4_round 113 = .ok (.ixor, 1) := by decide +kernel
theorem dX4_round_114 : decode cX4_round 114 = .ok (.aload_n 0, 1) := by decide +kernel
theorem dX4_round_115 : decode cX4_round 115 = .ok (.getfield 13, 3) := by decide +kernel
theorem dX4_round_118 : decode cX4_round 118 = .ok (.iconst 1, 1) := by decide +kernel
theorem dX4_round_119 : decode cX4_round 119 = .ok (.iaload, 1) := by decide +kernel
theorem dX4_round_120 : decode cX4_round 120 = .ok (.aload_n 0, 1) := by decide +kernel
theorem dX4_round_121 : decode cX4_round 121 = .ok (.getfield 13, 3) := by decide +kernel
theorem dX4_round_124 : decode cX4_round 124 = .ok (.iconst 2, 1) := by decide +kernel
theorem dX4_round_125 : decode cX4_round 125 = .ok (.iaload, 1) := by decide +kernel
theorem dX4_round_126 : decode cX4_round 126 = .ok (.iand, 1) := by decide +kernel
theorem dX4_round_127 : decode cX4_round 127 = .ok (.ixor, 1) := by decide +kernel
theorem dX4_round_128 : decode cX4_round 128 = .ok (.iadd, 1) := by decide +kernel
theorem dX4_round_129 : decode cX4_round 129 = .ok (.istore 5, 2) := by decide +kernel
theorem dX4_round_131 : decode cX4_round 131 = .ok (.bipush 7, 2) := by decide +kernel
theorem dX4_round_133 : decode cX4_round 133 = .ok (.istore 6, 2) := by decide +kernel
theorem dX4_round_135 : decode cX4_round 135 = .ok (.iload 6, 2) := by decide +kernel
theorem dX4_round_137 : decode cX4_round 137 = .ok (.ifCond .le 25, 3) := by decide +kernel
theorem dX4_round_140 : decode cX4_round 140 = .ok (.aload_n 0, 1) := by decide +kernel
theorem dX4_round_141 : decode cX4_round 141 = .ok (.getfield 13, 3) := by decide +kernel
theorem dX4_round_144 : decode cX4_round 144 = .ok (.iload 6, 2) := by decide +kernel
theorem dX4_round_146 : decode cX4_round 146 = .ok (.aload_n 0, 1) := by decide +kernel
theorem dX4_round_147 : decode cX4_round 147 = .ok (.getfield 13, 3) := by decide +kernel
theorem dX4_round_150 : decode cX4_round 150 = .ok (.iload 6, 2) := by decide +kernel
theorem dX4_round_152 : decode cX4_round 152 = .ok (.iconst 1, 1) := by decide +kernel
theorem dX4_round_153 : decode cX4_round 153 = .ok (.isub, 1) := by decide +kernel
theorem dX4_round_154 : decode cX4_round 154 = .ok (.iaload, 1) := by decide +kernel
theorem dX4_round_155 : decode cX4_round 155 = .ok (.iastore, 1) := by decide +kernel
theorem dX4_round_156 : decode cX4_round 156 = .ok (.iinc 6 (-1), 3) := by decide +kernel
theorem dX4_round_159 : decode cX4_round 159 = .ok (.goto (-24), 3) := by decide +kernel
theorem dX4_round_162 : decode cX4_round 162 = .ok (.aload_n 0, 1) := by decide +kernel
theorem dX4_round_163 : decode cX4_round 163 = .ok (.getfield 13, 3) := by decide +kernel
theorem dX4_round_166 : decode cX4_round 166 = .ok (.iconst 4, 1) := by decide +kernel
theorem dX4_round_167 : decode cX4_round 167 = .ok (.dup2, 1) := by decide +kernel
theorem dX4_round_168 : decode cX4_round 168 = .ok (.iaload, 1) := by decide +kernel
theorem dX4_round_169 : decode cX4_round 169 = .ok (.iload 4, 2) := by decide +kernel
theorem dX4_round_171 : decode cX4_round 171 = .ok (.iadd, 1) := by decide +kernel
theorem dX4_round_172 : decode cX4_round 172 = .ok (.iastore, 1) := by decide +kernel
theorem dX4_round_173 : decode cX4_round 173 = .ok (.aload_n 0, 1) := by decide +kernel
theorem dX4_round_174 : decode cX4_round 174 = .ok (.getfield 13, 3) := by decide +kernel
theorem dX4_round_177 : decode cX4_round 177 = .ok (.iconst 0, 1) := by decide +kernel
theorem dX4_round_178 : decode cX4_round 178 = .ok (.iload 4, 2) := by decide +kernel
theorem dX4_round_180 : decode cX4_round 180 = .ok (.iload 5, 2) := by decide +kernel
theorem dX4_round_182 : decode cX4_round 182 = .ok (.iadd, 1) := by decide +kernel
theorem dX4_round_183 : decode cX4_round 183 = .ok (.iastore, 1) := by decide +kernel
theorem dX4_round_184 : decode cX4_round 184 = .ok (.return_, 1) := by decide +kernel
abbrev cX4_rest : ByteArray := prog_5_method_8_code
def yX4_rest : MethodName := ⟨RX4, "rest", "(I)I"⟩
theorem dX4_rest_0 : decode cX4_rest 0 = .ok (.lconst 0, 1) := by decide +kernel
theorem dX4_rest_1 : decode cX4_rest 1 = .ok (.lstore_n 2, 1) := by decide +kernel
theorem dX4_rest_2 : decode cX4_rest 2 = .ok (.iconst 0, 1) := by decide +kernel
theorem dX4_rest_3 : decode cX4_rest 3 = .ok (.istore 4, 2) := by decide +kernel
theorem dX4_rest_5 : decode cX4_rest 5 = .ok (.iload 4, 2) := by decide +kernel
theorem dX4_rest_7 : decode cX4_rest 7 = .ok (.bipush 8, 2) := by decide +kernel
theorem dX4_rest_9 : decode cX4_rest 9 = .ok (.if_icmp .ge 30, 3) := by decide +kernel
theorem dX4_rest_12 : decode cX4_rest 12 = .ok (.lload_n 2, 1) := by decide +kernel
theorem dX4_rest_13 : decode cX4_rest 13 = .ok (.bipush 32, 2) := by decide +kernel
theorem dX4_rest_15 : decode cX4_rest 15 = .ok (.lshl, 1) := by decide +kernel
theorem dX4_rest_16 : decode cX4_rest 16 = .ok (.aload_n 0, 1) := by decide +kernel
theorem dX4_rest_17 : decode cX4_rest 17 = .ok (.getfield 7, 3) := by decide +kernel
theorem dX4_rest_20 : decode cX4_rest 20 = .ok (.iload 4, 2) := by decide +kernel
theorem dX4_rest_22 : decode cX4_rest 22 = .ok (.iaload, 1) := by decide +kernel
theorem dX4_rest_23 : decode cX4_rest 23 = .ok (.i2l, 1) := by decide +kernel
theorem dX4_rest_24 : decode cX4_rest 24 = .ok (.ldc2_w 41, 3) := by decide +kernel
theorem dX4_rest_27 : decode cX4_rest 27 = .ok (.land, 1) := by decide +kernel
theorem dX4_rest_28 : decode cX4_rest 28 = .ok (.ladd, 1) := by decide +kernel
theorem dX4_rest_29 : decode cX4_rest 29 = .ok (.iload_n 1, 1) := by decide +kernel
theorem dX4_rest_30 : decode cX4_rest 30 = .ok (.i2l, 1) := by decide +kernel
theorem dX4_rest_31 : decode cX4_rest 31 = .ok (.lrem, 1) := by decide +kernel
theorem dX4_rest_32 : decode cX4_rest 32 = .ok (.lstore_n 2, 1) := by decide +kernel
theorem dX4_rest_33 : decode cX4_rest 33 = .ok (.iinc 4 1, 3) := by decide +kernel
theorem dX4_rest_36 : decode cX4_rest 36 = .ok (.goto (-31), 3) := by decide +kernel
theorem dX4_rest_39 : decode cX4_rest 39 = .ok (.lload_n 2, 1) := by decide +kernel
theorem dX4_rest_40 : decode cX4_rest 40 = .ok (.l2i, 1) := by decide +kernel
theorem dX4_rest_41 : decode cX4_rest 41 = .ok (.ireturn, 1) := by decide +kernel
abbrev cX4_byteAt : ByteArray := prog_5_method_7_code
def yX4_byteAt : MethodName := ⟨RX4, "byteAt", "(I)I"⟩
theorem dX4_byteAt_0 : decode cX4_byteAt 0 = .ok (.aload_n 0, 1) := by decide +kernel
theorem dX4_byteAt_1 : decode cX4_byteAt 1 = .ok (.getfield 7, 3) := by decide +kernel
theorem dX4_byteAt_4 : decode cX4_byteAt 4 = .ok (.iload_n 1, 1) := by decide +kernel
theorem dX4_byteAt_5 : decode cX4_byteAt 5 = .ok (.iconst 2, 1) := by decide +kernel
theorem dX4_byteAt_6 : decode cX4_byteAt 6 = .ok (.ishr, 1) := by decide +kernel
theorem dX4_byteAt_7 : decode cX4_byteAt 7 = .ok (.iaload, 1) := by decide +kernel
theorem dX4_byteAt_8 : decode cX4_byteAt 8 = .ok (.bipush 24, 2) := by decide +kernel
theorem dX4_byteAt_10 : decode cX4_byteAt 10 = .ok (.bipush 8, 2) := by decide +kernel
theorem dX4_byteAt_12 : decode cX4_byteAt 12 = .ok (.iload_n 1, 1) := by decide +kernel
theorem dX4_byteAt_13 : decode cX4_byteAt 13 = .ok (.iconst 3, 1) := by decide +kernel
theorem dX4_byteAt_14 : decode cX4_byteAt 14 = .ok (.iand, 1) := by decide +kernel
theorem dX4_byteAt_15 : decode cX4_byteAt 15 = .ok (.imul, 1) := by decide +kernel
theorem dX4_byteAt_16 : decode cX4_byteAt 16 = .ok (.isub, 1) := by decide +kernel
theorem dX4_byteAt_17 : decode cX4_byteAt 17 = .ok (.ishr, 1) := by decide +kernel
theorem dX4_byteAt_18 : decode cX4_byteAt 18 = .ok (.sipush 255, 3) := by decide +kernel
theorem dX4_byteAt_21 : decode cX4_byteAt 21 = .ok (.iand, 1) := by decide +kernel
theorem dX4_byteAt_22 : decode cX4_byteAt 22 = .ok (.ireturn, 1) := by decide +kernel
theorem q56 : (Jvm.Cond.initialized "PollAudit$Digest") ∈ lw_all := lw_g (lw_at lw_m1 4 rfl) rfl
theorem q114 : (Jvm.Cond.instantiable "PollAudit$Digest" (5 : Nat)) ∈ lw_all := lw_g (lw_at lw_m1 62 rfl) rfl
theorem q116 : (Jvm.Cond.instanceMethod ({ cls := "PollAudit$Digest", name := "<init>", desc := "()V" } : Jvm.MethodName)) ∈ lw_all := lw_g (lw_at lw_m1 64 rfl) rfl
theorem q117 : (Jvm.Cond.code ({ cls := "PollAudit$Digest", name := "<init>", desc := "()V" } : Jvm.MethodName) prog_5_method_1_code (1 : Nat) (Option.none : Option Jvm.ClassFile.FieldType)) ∈ lw_all := lw_g (lw_at lw_m1 65 rfl) rfl
theorem q118 : (Jvm.Cond.methodLink "PollAudit$Digest" (1 : Nat) ({ cls := "java/lang/Object", name := "<init>", desc := "()V" } : Jvm.MethodName)) ∈ lw_all := lw_g (lw_at lw_m1 66 rfl) rfl
theorem q119 : (Jvm.Cond.fieldLink "PollAudit$Digest" (7 : Nat) "PollAudit$Digest" "state" "[I") ∈ lw_all := lw_g (lw_at lw_m1 67 rfl) rfl
theorem q120 : (Jvm.Cond.fieldLink "PollAudit$Digest" (13 : Nat) "PollAudit$Digest" "work" "[I") ∈ lw_all := lw_g (lw_at lw_m1 68 rfl) rfl
theorem q121 : (Jvm.Cond.fieldLink "PollAudit$Digest" (16 : Nat) "PollAudit$Digest" "words" "[I") ∈ lw_all := lw_g (lw_at lw_m1 69 rfl) rfl
theorem q122 : (Jvm.Cond.fieldLink "PollAudit$Digest" (19 : Nat) "PollAudit$Digest" "message" "[B") ∈ lw_all := lw_g (lw_at lw_m1 70 rfl) rfl
theorem q123 : (Jvm.Cond.fieldLink "PollAudit$Digest" (23 : Nat) "PollAudit$Digest" "size" "I") ∈ lw_all := lw_g (lw_at lw_m1 71 rfl) rfl
theorem q124 : (Jvm.Cond.laysFinal "PollAudit$Digest" "PollAudit$Digest" "state" "[I") ∈ lw_all := lw_g (lw_at lw_m1 72 rfl) rfl
theorem q125 : (Jvm.Cond.soleField "PollAudit$Digest" "state") ∈ lw_all := lw_g (lw_at lw_m1 73 rfl) rfl
theorem q126 : (Jvm.Cond.laysFinal "PollAudit$Digest" "PollAudit$Digest" "work" "[I") ∈ lw_all := lw_g (lw_at lw_m1 74 rfl) rfl
theorem q127 : (Jvm.Cond.soleField "PollAudit$Digest" "work") ∈ lw_all := lw_g (lw_at lw_m1 75 rfl) rfl
theorem q128 : (Jvm.Cond.laysFinal "PollAudit$Digest" "PollAudit$Digest" "words" "[I") ∈ lw_all := lw_g (lw_at lw_m1 76 rfl) rfl
theorem q129 : (Jvm.Cond.soleField "PollAudit$Digest" "words") ∈ lw_all := lw_g (lw_at lw_m1 77 rfl) rfl
theorem q130 : (Jvm.Cond.laysFinal "PollAudit$Digest" "PollAudit$Digest" "message" "[B") ∈ lw_all := lw_g (lw_at lw_m1 78 rfl) rfl
theorem q131 : (Jvm.Cond.soleField "PollAudit$Digest" "message") ∈ lw_all := lw_g (lw_at lw_m1 79 rfl) rfl
theorem q132 : (Jvm.Cond.lays "PollAudit$Digest" "PollAudit$Digest" "size" "I") ∈ lw_all := lw_g (lw_at lw_m1 80 rfl) rfl
theorem q133 : (Jvm.Cond.soleField "PollAudit$Digest" "size") ∈ lw_all := lw_g (lw_at lw_m1 81 rfl) rfl
theorem q134 : (Jvm.Cond.superclass "PollAudit$Digest" "java/lang/Object") ∈ lw_all := lw_g (lw_at lw_m1 82 rfl) rfl
theorem q713 : (Jvm.Cond.instanceMethod ({ cls := "PollAudit$Digest", name := "begin", desc := "()V" } : Jvm.MethodName)) ∈ lw_all := lw_g (lw_at lw_m3 181 rfl) rfl
theorem q714 : (Jvm.Cond.selects "PollAudit$Digest" ({ cls := "PollAudit$Digest", name := "begin", desc := "()V" } : Jvm.MethodName) ({ cls := "PollAudit$Digest", name := "begin", desc := "()V" } : Jvm.MethodName)) ∈ lw_all := lw_g (lw_at lw_m3 182 rfl) rfl
theorem q715 : (Jvm.Cond.code ({ cls := "PollAudit$Digest", name := "begin", desc := "()V" } : Jvm.MethodName) prog_5_method_2_code (1 : Nat) (Option.none : Option Jvm.ClassFile.FieldType)) ∈ lw_all := lw_g (lw_at lw_m3 183 rfl) rfl
theorem q717 : (Jvm.Cond.instanceMethod ({ cls := "PollAudit$Digest", name := "add", desc := "(I)V" } : Jvm.MethodName)) ∈ lw_all := lw_g (lw_at lw_m3 185 rfl) rfl
theorem q718 : (Jvm.Cond.selects "PollAudit$Digest" ({ cls := "PollAudit$Digest", name := "add", desc := "(I)V" } : Jvm.MethodName) ({ cls := "PollAudit$Digest", name := "add", desc := "(I)V" } : Jvm.MethodName)) ∈ lw_all := lw_g (lw_at lw_m3 186 rfl) rfl
theorem q719 : (Jvm.Cond.code ({ cls := "PollAudit$Digest", name := "add", desc := "(I)V" } : Jvm.MethodName) prog_5_method_3_code (2 : Nat) (Option.none : Option Jvm.ClassFile.FieldType)) ∈ lw_all := lw_g (lw_at lw_m3 187 rfl) rfl
theorem q721 : (Jvm.Cond.instanceMethod ({ cls := "PollAudit$Digest", name := "close", desc := "()V" } : Jvm.MethodName)) ∈ lw_all := lw_g (lw_at lw_m3 189 rfl) rfl
theorem q722 : (Jvm.Cond.selects "PollAudit$Digest" ({ cls := "PollAudit$Digest", name := "close", desc := "()V" } : Jvm.MethodName) ({ cls := "PollAudit$Digest", name := "close", desc := "()V" } : Jvm.MethodName)) ∈ lw_all := lw_g (lw_at lw_m3 190 rfl) rfl
theorem q723 : (Jvm.Cond.code ({ cls := "PollAudit$Digest", name := "close", desc := "()V" } : Jvm.MethodName) prog_5_method_5_code (5 : Nat) (Option.none : Option Jvm.ClassFile.FieldType)) ∈ lw_all := lw_g (lw_at lw_m3 191 rfl) rfl
theorem q724 : (Jvm.Cond.methodLink "PollAudit$Digest" (27 : Nat) ({ cls := "PollAudit$Digest", name := "turn", desc := "(II)I" } : Jvm.MethodName)) ∈ lw_all := lw_g (lw_at lw_m3 192 rfl) rfl
theorem q725 : (Jvm.Cond.static ({ cls := "PollAudit$Digest", name := "turn", desc := "(II)I" } : Jvm.MethodName)) ∈ lw_all := lw_g (lw_at lw_m3 193 rfl) rfl
theorem q726 : (Jvm.Cond.code ({ cls := "PollAudit$Digest", name := "turn", desc := "(II)I" } : Jvm.MethodName) prog_5_method_4_code (2 : Nat) (Option.some Jvm.ClassFile.FieldType.int)) ∈ lw_all := lw_g (lw_at lw_m3 194 rfl) rfl
theorem q727 : (Jvm.Cond.fieldLink "PollAudit$Digest" (31 : Nat) "PollAudit$Digest" "BEGIN" "[I") ∈ lw_all := lw_g (lw_at lw_m3 195 rfl) rfl
theorem q728 : (Jvm.Cond.laysStatic "PollAudit$Digest" "BEGIN" "[I") ∈ lw_tbl := lw_at lw_m3 196 rfl
theorem q729 : (Jvm.Cond.methodLink "PollAudit$Digest" (34 : Nat) ({ cls := "PollAudit$Digest", name := "round", desc := "(I)V" } : Jvm.MethodName)) ∈ lw_all := lw_g (lw_at lw_m3 197 rfl) rfl
theorem q730 : (Jvm.Cond.privateMethod ({ cls := "PollAudit$Digest", name := "round", desc := "(I)V" } : Jvm.MethodName)) ∈ lw_tbl := lw_at lw_m3 198 rfl
theorem q731 : (Jvm.Cond.instanceMethod ({ cls := "PollAudit$Digest", name := "round", desc := "(I)V" } : Jvm.MethodName)) ∈ lw_all := lw_g (lw_at lw_m3 199 rfl) rfl
theorem q732 : (Jvm.Cond.code ({ cls := "PollAudit$Digest", name := "round", desc := "(I)V" } : Jvm.MethodName) prog_5_method_6_code (7 : Nat) (Option.none : Option Jvm.ClassFile.FieldType)) ∈ lw_all := lw_g (lw_at lw_m3 200 rfl) rfl
theorem q733 : (Jvm.Cond.fieldLink "PollAudit$Digest" (38 : Nat) "PollAudit$Digest" "ROUNDS" "[I") ∈ lw_all := lw_g (lw_at lw_m3 201 rfl) rfl
theorem q734 : (Jvm.Cond.laysStatic "PollAudit$Digest" "ROUNDS" "[I") ∈ lw_tbl := lw_at lw_m3 202 rfl
theorem q736 : (Jvm.Cond.instanceMethod ({ cls := "PollAudit$Digest", name := "rest", desc := "(I)I" } : Jvm.MethodName)) ∈ lw_all := lw_g (lw_at lw_m3 204 rfl) rfl
theorem q737 : (Jvm.Cond.selects "PollAudit$Digest" ({ cls := "PollAudit$Digest", name := "rest", desc := "(I)I" } : Jvm.MethodName) ({ cls := "PollAudit$Digest", name := "rest", desc := "(I)I" } : Jvm.MethodName)) ∈ lw_all := lw_g (lw_at lw_m3 205 rfl) rfl
theorem q738 : (Jvm.Cond.code ({ cls := "PollAudit$Digest", name := "rest", desc := "(I)I" } : Jvm.MethodName) prog_5_method_8_code (5 : Nat) (Option.some Jvm.ClassFile.FieldType.int)) ∈ lw_all := lw_g (lw_at lw_m3 206 rfl) rfl
theorem q739 : (Jvm.Cond.constantLong "PollAudit$Digest" (41 : Nat) (4294967295 : Int64)) ∈ lw_all := lw_g (lw_at lw_m3 207 rfl) rfl
theorem q893 : (Jvm.Cond.instanceMethod ({ cls := "PollAudit$Digest", name := "byteAt", desc := "(I)I" } : Jvm.MethodName)) ∈ lw_all := lw_g (lw_at lw_m4 121 rfl) rfl
theorem q894 : (Jvm.Cond.selects "PollAudit$Digest" ({ cls := "PollAudit$Digest", name := "byteAt", desc := "(I)I" } : Jvm.MethodName) ({ cls := "PollAudit$Digest", name := "byteAt", desc := "(I)I" } : Jvm.MethodName)) ∈ lw_all := lw_g (lw_at lw_m4 122 rfl) rfl
theorem q895 : (Jvm.Cond.code ({ cls := "PollAudit$Digest", name := "byteAt", desc := "(I)I" } : Jvm.MethodName) prog_5_method_7_code (2 : Nat) (Option.some Jvm.ClassFile.FieldType.int)) ∈ lw_all := lw_g (lw_at lw_m4 123 rfl) rfl
