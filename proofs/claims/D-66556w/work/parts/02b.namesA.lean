set_option maxRecDepth 100000
def RJ12 : String := "java/lang/Object"
abbrev cJ12_init : ByteArray := object_method_1_code
def yJ12_init : MethodName := ⟨RJ12, "<init>", "()V"⟩
theorem dJ12_init_0 : decode cJ12_init 0 = .ok (.return_, 1) := by decide +kernel
theorem q82 : (Jvm.Cond.instanceMethod ({ cls := "java/lang/Object", name := "<init>", desc := "()V" } : Jvm.MethodName)) ∈ lw_all := lw_g (lw_at lw_m1 30 rfl) rfl
theorem q83 : (Jvm.Cond.code ({ cls := "java/lang/Object", name := "<init>", desc := "()V" } : Jvm.MethodName) object_method_1_code (1 : Nat) (Option.none : Option Jvm.ClassFile.FieldType)) ∈ lw_all := lw_g (lw_at lw_m1 31 rfl) rfl
theorem q85 : (Jvm.Cond.arrayOver (Jvm.ClassFile.FieldType.object "PollAudit$Pair")) ∈ lw_tbl := lw_at lw_m1 33 rfl
theorem q103 : (Jvm.Cond.arrayClass Jvm.ClassFile.FieldType.int) ∈ lw_all := lw_g (lw_at lw_m1 51 rfl) rfl
theorem q104 : (Jvm.Cond.arrayClass Jvm.ClassFile.FieldType.byte) ∈ lw_all := lw_g (lw_at lw_m1 52 rfl) rfl
theorem q105 : (Jvm.Cond.arrayClass Jvm.ClassFile.FieldType.short) ∈ lw_all := lw_g (lw_at lw_m1 53 rfl) rfl
theorem q106 : (Jvm.Cond.arrayClass Jvm.ClassFile.FieldType.boolean) ∈ lw_all := lw_g (lw_at lw_m1 54 rfl) rfl
theorem q235 : (Jvm.Cond.arrayOver (Jvm.ClassFile.FieldType.object "PollAudit$Big")) ∈ lw_tbl := lw_at lw_m1 183 rfl
theorem q1434 : (Jvm.Cond.arrayClass Jvm.ClassFile.FieldType.long) ∈ lw_all := lw_g (lw_at lw_m6 182 rfl) rfl
theorem q63 : (Jvm.Cond.initialized "java/lang/System") ∈ lw_all := lw_g (lw_at lw_m1 11 rfl) rfl
theorem q283 : (Jvm.Cond.static ({ cls := "java/lang/System", name := "arraycopy", desc := "(Ljava/lang/Object;ILjava/lang/Object;II)V" } : Jvm.MethodName)) ∈ lw_all := lw_g (lw_at lw_m1 231 rfl) rfl
theorem q284 : (Jvm.Cond.native ({ cls := "java/lang/System", name := "arraycopy", desc := "(Ljava/lang/Object;ILjava/lang/Object;II)V" } : Jvm.MethodName)) ∈ lw_all := lw_g (lw_at lw_m1 232 rfl) rfl
def RJ0 : String := "java/lang/Math"
abbrev cJ0_max : ByteArray := prog_21_method_65_code
def yJ0_max : MethodName := ⟨RJ0, "max", "(II)I"⟩
theorem dJ0_max_0 : decode cJ0_max 0 = .ok (.iload_n 0, 1) := by decide +kernel
theorem dJ0_max_1 : decode cJ0_max 1 = .ok (.iload_n 1, 1) := by decide +kernel
theorem dJ0_max_2 : decode cJ0_max 2 = .ok (.if_icmp .lt 7, 3) := by decide +kernel
theorem dJ0_max_5 : decode cJ0_max 5 = .ok (.iload_n 0, 1) := by decide +kernel
theorem dJ0_max_6 : decode cJ0_max 6 = .ok (.goto 4, 3) := by decide +kernel
theorem dJ0_max_9 : decode cJ0_max 9 = .ok (.iload_n 1, 1) := by decide +kernel
theorem dJ0_max_10 : decode cJ0_max 10 = .ok (.ireturn, 1) := by decide +kernel
abbrev cJ0_min : ByteArray := prog_21_method_69_code
def yJ0_min : MethodName := ⟨RJ0, "min", "(II)I"⟩
theorem dJ0_min_0 : decode cJ0_min 0 = .ok (.iload_n 0, 1) := by decide +kernel
theorem dJ0_min_1 : decode cJ0_min 1 = .ok (.iload_n 1, 1) := by decide +kernel
theorem dJ0_min_2 : decode cJ0_min 2 = .ok (.if_icmp .gt 7, 3) := by decide +kernel
theorem dJ0_min_5 : decode cJ0_min 5 = .ok (.iload_n 0, 1) := by decide +kernel
theorem dJ0_min_6 : decode cJ0_min 6 = .ok (.goto 4, 3) := by decide +kernel
theorem dJ0_min_9 : decode cJ0_min 9 = .ok (.iload_n 1, 1) := by decide +kernel
theorem dJ0_min_10 : decode cJ0_min 10 = .ok (.ireturn, 1) := by decide +kernel
theorem q62 : (Jvm.Cond.initialized "java/lang/Math") ∈ lw_all := lw_g (lw_at lw_m1 10 rfl) rfl
theorem q280 : (Jvm.Cond.static ({ cls := "java/lang/Math", name := "max", desc := "(II)I" } : Jvm.MethodName)) ∈ lw_all := lw_g (lw_at lw_m1 228 rfl) rfl
theorem q281 : (Jvm.Cond.code ({ cls := "java/lang/Math", name := "max", desc := "(II)I" } : Jvm.MethodName) prog_21_method_65_code (2 : Nat) (Option.some Jvm.ClassFile.FieldType.int)) ∈ lw_all := lw_g (lw_at lw_m1 229 rfl) rfl
theorem q768 : (Jvm.Cond.static ({ cls := "java/lang/Math", name := "min", desc := "(II)I" } : Jvm.MethodName)) ∈ lw_all := lw_g (lw_at lw_m3 236 rfl) rfl
theorem q769 : (Jvm.Cond.code ({ cls := "java/lang/Math", name := "min", desc := "(II)I" } : Jvm.MethodName) prog_21_method_69_code (2 : Nat) (Option.some Jvm.ClassFile.FieldType.int)) ∈ lw_all := lw_g (lw_at lw_m3 237 rfl) rfl
def RJ10 : String := "java/lang/Integer"
abbrev cJ10_compareUnsigned : ByteArray := prog_19_method_41_code
def yJ10_compareUnsigned : MethodName := ⟨RJ10, "compareUnsigned", "(II)I"⟩
theorem dJ10_compareUnsigned_0 : decode cJ10_compareUnsigned 0 = .ok (.iload_n 0, 1) := by decide +kernel
theorem dJ10_compareUnsigned_1 : decode cJ10_compareUnsigned 1 = .ok (.ldc 127, 2) := by decide +kernel
theorem dJ10_compareUnsigned_3 : decode cJ10_compareUnsigned 3 = .ok (.iadd, 1) := by decide +kernel
theorem dJ10_compareUnsigned_4 : decode cJ10_compareUnsigned 4 = .ok (.iload_n 1, 1) := by decide +kernel
theorem dJ10_compareUnsigned_5 : decode cJ10_compareUnsigned 5 = .ok (.ldc 127, 2) := by decide +kernel
theorem dJ10_compareUnsigned_7 : decode cJ10_compareUnsigned 7 = .ok (.iadd, 1) := by decide +kernel
theorem dJ10_compareUnsigned_8 : decode cJ10_compareUnsigned 8 = .ok (.invokestatic 259, 3) := by decide +kernel
theorem dJ10_compareUnsigned_11 : decode cJ10_compareUnsigned 11 = .ok (.ireturn, 1) := by decide +kernel
abbrev cJ10_compare : ByteArray := prog_19_method_40_code
def yJ10_compare : MethodName := ⟨RJ10, "compare", "(II)I"⟩
theorem dJ10_compare_0 : decode cJ10_compare 0 = .ok (.iload_n 0, 1) := by decide +kernel
theorem dJ10_compare_1 : decode cJ10_compare 1 = .ok (.iload_n 1, 1) := by decide +kernel
theorem dJ10_compare_2 : decode cJ10_compare 2 = .ok (.if_icmp .ge 7, 3) := by decide +kernel
theorem dJ10_compare_5 : decode cJ10_compare 5 = .ok (.iconst (-1), 1) := by decide +kernel
theorem dJ10_compare_6 : decode cJ10_compare 6 = .ok (.goto 13, 3) := by decide +kernel
theorem dJ10_compare_9 : decode cJ10_compare 9 = .ok (.iload_n 0, 1) := by decide +kernel
theorem dJ10_compare_10 : decode cJ10_compare 10 = .ok (.iload_n 1, 1) := by decide +kernel
theorem dJ10_compare_11 : decode cJ10_compare 11 = .ok (.if_icmp .ne 7, 3) := by decide +kernel
theorem dJ10_compare_14 : decode cJ10_compare 14 = .ok (.iconst 0, 1) := by decide +kernel
theorem dJ10_compare_15 : decode cJ10_compare 15 = .ok (.goto 4, 3) := by decide +kernel
theorem dJ10_compare_18 : decode cJ10_compare 18 = .ok (.iconst 1, 1) := by decide +kernel
theorem dJ10_compare_19 : decode cJ10_compare 19 = .ok (.ireturn, 1) := by decide +kernel
abbrev cJ10_numberOfLeadingZeros : ByteArray := prog_19_method_47_code
def yJ10_numberOfLeadingZeros : MethodName := ⟨RJ10, "numberOfLeadingZeros", "(I)I"⟩
theorem dJ10_numberOfLeadingZeros_0 : decode cJ10_numberOfLeadingZeros 0 = .ok (.iload_n 0, 1) := by decide +kernel
theorem dJ10_numberOfLeadingZeros_1 : decode cJ10_numberOfLeadingZeros 1 = .ok (.ifCond .gt 14, 3) := by decide +kernel
theorem dJ10_numberOfLeadingZeros_4 : decode cJ10_numberOfLeadingZeros 4 = .ok (.iload_n 0, 1) := by decide +kernel
theorem dJ10_numberOfLeadingZeros_5 : decode cJ10_numberOfLeadingZeros 5 = .ok (.ifCond .ne 8, 3) := by decide +kernel
theorem dJ10_numberOfLeadingZeros_8 : decode cJ10_numberOfLeadingZeros 8 = .ok (.bipush 32, 2) := by decide +kernel
theorem dJ10_numberOfLeadingZeros_10 : decode cJ10_numberOfLeadingZeros 10 = .ok (.goto 4, 3) := by decide +kernel
theorem dJ10_numberOfLeadingZeros_13 : decode cJ10_numberOfLeadingZeros 13 = .ok (.iconst 0, 1) := by decide +kernel
theorem dJ10_numberOfLeadingZeros_14 : decode cJ10_numberOfLeadingZeros 14 = .ok (.ireturn, 1) := by decide +kernel
theorem dJ10_numberOfLeadingZeros_15 : decode cJ10_numberOfLeadingZeros 15 = .ok (.bipush 31, 2) := by decide +kernel
theorem dJ10_numberOfLeadingZeros_17 : decode cJ10_numberOfLeadingZeros 17 = .ok (.istore_n 1, 1) := by decide +kernel
theorem dJ10_numberOfLeadingZeros_18 : decode cJ10_numberOfLeadingZeros 18 = .ok (.iload_n 0, 1) := by decide +kernel
theorem dJ10_numberOfLeadingZeros_19 : decode cJ10_numberOfLeadingZeros 19 = .ok (.ldc_w 264, 3) := by decide +kernel
theorem dJ10_numberOfLeadingZeros_22 : decode cJ10_numberOfLeadingZeros 22 = .ok (.if_icmp .lt 11, 3) := by decide +kernel
theorem dJ10_numberOfLeadingZeros_25 : decode cJ10_numberOfLeadingZeros 25 = .ok (.iinc 1 (-16), 3) := by decide +kernel
theorem dJ10_numberOfLeadingZeros_28 : decode cJ10_numberOfLeadingZeros 28 = .ok (.iload_n 0, 1) := by decide +kernel
theorem dJ10_numberOfLeadingZeros_29 : decode cJ10_numberOfLeadingZeros 29 = .ok (.bipush 16, 2) := by decide +kernel
theorem dJ10_numberOfLeadingZeros_31 : decode cJ10_numberOfLeadingZeros 31 = .ok (.iushr, 1) := by decide +kernel
theorem dJ10_numberOfLeadingZeros_32 : decode cJ10_numberOfLeadingZeros 32 = .ok (.istore_n 0, 1) := by decide +kernel
theorem dJ10_numberOfLeadingZeros_33 : decode cJ10_numberOfLeadingZeros 33 = .ok (.iload_n 0, 1) := by decide +kernel
theorem dJ10_numberOfLeadingZeros_34 : decode cJ10_numberOfLeadingZeros 34 = .ok (.sipush 256, 3) := by decide +kernel
theorem dJ10_numberOfLeadingZeros_37 : decode cJ10_numberOfLeadingZeros 37 = .ok (.if_icmp .lt 11, 3) := by decide +kernel
theorem dJ10_numberOfLeadingZeros_40 : decode cJ10_numberOfLeadingZeros 40 = .ok (.iinc 1 (-8), 3) := by decide +kernel
theorem dJ10_numberOfLeadingZeros_43 : decode cJ10_numberOfLeadingZeros 43 = .ok (.iload_n 0, 1) := by decide +kernel
theorem dJ10_numberOfLeadingZeros_44 : decode cJ10_numberOfLeadingZeros 44 = .ok (.bipush 8, 2) := by decide +kernel
theorem dJ10_numberOfLeadingZeros_46 : decode cJ10_numberOfLeadingZeros 46 = .ok (.iushr, 1) := by decide +kernel
theorem dJ10_numberOfLeadingZeros_47 : decode cJ10_numberOfLeadingZeros 47 = .ok (.istore_n 0, 1) := by decide +kernel
theorem dJ10_numberOfLeadingZeros_48 : decode cJ10_numberOfLeadingZeros 48 = .ok (.iload_n 0, 1) := by decide +kernel
theorem dJ10_numberOfLeadingZeros_49 : decode cJ10_numberOfLeadingZeros 49 = .ok (.bipush 16, 2) := by decide +kernel
theorem dJ10_numberOfLeadingZeros_51 : decode cJ10_numberOfLeadingZeros 51 = .ok (.if_icmp .lt 10, 3) := by decide +kernel
theorem dJ10_numberOfLeadingZeros_54 : decode cJ10_numberOfLeadingZeros 54 = .ok (.iinc 1 (-4), 3) := by decide +kernel
theorem dJ10_numberOfLeadingZeros_57 : decode cJ10_numberOfLeadingZeros 57 = .ok (.iload_n 0, 1) := by decide +kernel
theorem dJ10_numberOfLeadingZeros_58 : decode cJ10_numberOfLeadingZeros 58 = .ok (.iconst 4, 1) := by decide +kernel
theorem dJ10_numberOfLeadingZeros_59 : decode cJ10_numberOfLeadingZeros 59 = .ok (.iushr, 1) := by decide +kernel
theorem dJ10_numberOfLeadingZeros_60 : decode cJ10_numberOfLeadingZeros 60 = .ok (.istore_n 0, 1) := by decide +kernel
theorem dJ10_numberOfLeadingZeros_61 : decode cJ10_numberOfLeadingZeros 61 = .ok (.iload_n 0, 1) := by decide +kernel
theorem dJ10_numberOfLeadingZeros_62 : decode cJ10_numberOfLeadingZeros 62 = .ok (.iconst 4, 1) := by decide +kernel
theorem dJ10_numberOfLeadingZeros_63 : decode cJ10_numberOfLeadingZeros 63 = .ok (.if_icmp .lt 10, 3) := by decide +kernel
theorem dJ10_numberOfLeadingZeros_66 : decode cJ10_numberOfLeadingZeros 66 = .ok (.iinc 1 (-2), 3) := by decide +kernel
theorem dJ10_numberOfLeadingZeros_69 : decode cJ10_numberOfLeadingZeros 69 = .ok (.iload_n 0, 1) := by decide +kernel
theorem dJ10_numberOfLeadingZeros_70 : decode cJ10_numberOfLeadingZeros 70 = .ok (.iconst 2, 1) := by decide +kernel
theorem dJ10_numberOfLeadingZeros_71 : decode cJ10_numberOfLeadingZeros 71 = .ok (.iushr, 1) := by decide +kernel
theorem dJ10_numberOfLeadingZeros_72 : decode cJ10_numberOfLeadingZeros 72 = .ok (.istore_n 0, 1) := by decide +kernel
theorem dJ10_numberOfLeadingZeros_73 : decode cJ10_numberOfLeadingZeros 73 = .ok (.iload_n 1, 1) := by decide +kernel
theorem dJ10_numberOfLeadingZeros_74 : decode cJ10_numberOfLeadingZeros 74 = .ok (.iload_n 0, 1) := by decide +kernel
theorem dJ10_numberOfLeadingZeros_75 : decode cJ10_numberOfLeadingZeros 75 = .ok (.iconst 1, 1) := by decide +kernel
theorem dJ10_numberOfLeadingZeros_76 : decode cJ10_numberOfLeadingZeros 76 = .ok (.iushr, 1) := by decide +kernel
theorem dJ10_numberOfLeadingZeros_77 : decode cJ10_numberOfLeadingZeros 77 = .ok (.isub, 1) := by decide +kernel
theorem dJ10_numberOfLeadingZeros_78 : decode cJ10_numberOfLeadingZeros 78 = .ok (.ireturn, 1) := by decide +kernel
theorem q74 : (Jvm.Cond.initialized "java/lang/Integer") ∈ lw_all := lw_g (lw_at lw_m1 22 rfl) rfl
theorem q807 : (Jvm.Cond.static ({ cls := "java/lang/Integer", name := "compareUnsigned", desc := "(II)I" } : Jvm.MethodName)) ∈ lw_all := lw_g (lw_at lw_m4 35 rfl) rfl
theorem q808 : (Jvm.Cond.code ({ cls := "java/lang/Integer", name := "compareUnsigned", desc := "(II)I" } : Jvm.MethodName) prog_19_method_41_code (2 : Nat) (Option.some Jvm.ClassFile.FieldType.int)) ∈ lw_all := lw_g (lw_at lw_m4 36 rfl) rfl
theorem q809 : (Jvm.Cond.constant "java/lang/Integer" (127 : Nat) (-2147483648 : Int32)) ∈ lw_all := lw_g (lw_at lw_m4 37 rfl) rfl
theorem q810 : (Jvm.Cond.methodLink "java/lang/Integer" (259 : Nat) ({ cls := "java/lang/Integer", name := "compare", desc := "(II)I" } : Jvm.MethodName)) ∈ lw_all := lw_g (lw_at lw_m4 38 rfl) rfl
theorem q811 : (Jvm.Cond.static ({ cls := "java/lang/Integer", name := "compare", desc := "(II)I" } : Jvm.MethodName)) ∈ lw_all := lw_g (lw_at lw_m4 39 rfl) rfl
theorem q812 : (Jvm.Cond.code ({ cls := "java/lang/Integer", name := "compare", desc := "(II)I" } : Jvm.MethodName) prog_19_method_40_code (2 : Nat) (Option.some Jvm.ClassFile.FieldType.int)) ∈ lw_all := lw_g (lw_at lw_m4 40 rfl) rfl
theorem q941 : (Jvm.Cond.static ({ cls := "java/lang/Integer", name := "numberOfLeadingZeros", desc := "(I)I" } : Jvm.MethodName)) ∈ lw_all := lw_g (lw_at lw_m4 169 rfl) rfl
theorem q942 : (Jvm.Cond.code ({ cls := "java/lang/Integer", name := "numberOfLeadingZeros", desc := "(I)I" } : Jvm.MethodName) prog_19_method_47_code (2 : Nat) (Option.some Jvm.ClassFile.FieldType.int)) ∈ lw_all := lw_g (lw_at lw_m4 170 rfl) rfl
theorem q943 : (Jvm.Cond.constant "java/lang/Integer" (264 : Nat) (65536 : Int32)) ∈ lw_all := lw_g (lw_at lw_m4 171 rfl) rfl
def RJ11 : String := "java/lang/Long"
abbrev cJ11_divideUnsigned : ByteArray := prog_20_method_44_code
def yJ11_divideUnsigned : MethodName := ⟨RJ11, "divideUnsigned", "(JJ)J"⟩
theorem dJ11_divideUnsigned_0 : decode cJ11_divideUnsigned 0 = .ok (.lload_n 2, 1) := by decide +kernel
theorem dJ11_divideUnsigned_1 : decode cJ11_divideUnsigned 1 = .ok (.lconst 0, 1) := by decide +kernel
theorem dJ11_divideUnsigned_2 : decode cJ11_divideUnsigned 2 = .ok (.lcmp, 1) := by decide +kernel
theorem dJ11_divideUnsigned_3 : decode cJ11_divideUnsigned 3 = .ok (.ifCond .lt 38, 3) := by decide +kernel
theorem dJ11_divideUnsigned_6 : decode cJ11_divideUnsigned 6 = .ok (.lload_n 0, 1) := by decide +kernel
theorem dJ11_divideUnsigned_7 : decode cJ11_divideUnsigned 7 = .ok (.iconst 1, 1) := by decide +kernel
theorem dJ11_divideUnsigned_8 : decode cJ11_divideUnsigned 8 = .ok (.lushr, 1) := by decide +kernel
theorem dJ11_divideUnsigned_9 : decode cJ11_divideUnsigned 9 = .ok (.lload_n 2, 1) := by decide +kernel
theorem dJ11_divideUnsigned_10 : decode cJ11_divideUnsigned 10 = .ok (.ldiv, 1) := by decide +kernel
theorem dJ11_divideUnsigned_11 : decode cJ11_divideUnsigned 11 = .ok (.iconst 1, 1) := by decide +kernel
theorem dJ11_divideUnsigned_12 : decode cJ11_divideUnsigned 12 = .ok (.lshl, 1) := by decide +kernel
theorem dJ11_divideUnsigned_13 : decode cJ11_divideUnsigned 13 = .ok (.lstore 4, 2) := by decide +kernel
theorem dJ11_divideUnsigned_15 : decode cJ11_divideUnsigned 15 = .ok (.lload_n 0, 1) := by decide +kernel
theorem dJ11_divideUnsigned_16 : decode cJ11_divideUnsigned 16 = .ok (.lload 4, 2) := by decide +kernel
theorem dJ11_divideUnsigned_18 : decode cJ11_divideUnsigned 18 = .ok (.lload_n 2, 1) := by decide +kernel
theorem dJ11_divideUnsigned_19 : decode cJ11_divideUnsigned 19 = .ok (.lmul, 1) := by decide +kernel
theorem dJ11_divideUnsigned_20 : decode cJ11_divideUnsigned 20 = .ok (.lsub, 1) := by decide +kernel
theorem dJ11_divideUnsigned_21 : decode cJ11_divideUnsigned 21 = .ok (.lstore 6, 2) := by decide +kernel
theorem dJ11_divideUnsigned_23 : decode cJ11_divideUnsigned 23 = .ok (.lload 4, 2) := by decide +kernel
theorem dJ11_divideUnsigned_25 : decode cJ11_divideUnsigned 25 = .ok (.lload 6, 2) := by decide +kernel
theorem dJ11_divideUnsigned_27 : decode cJ11_divideUnsigned 27 = .ok (.lload 6, 2) := by decide +kernel
theorem dJ11_divideUnsigned_29 : decode cJ11_divideUnsigned 29 = .ok (.lload_n 2, 1) := by decide +kernel
theorem dJ11_divideUnsigned_30 : decode cJ11_divideUnsigned 30 = .ok (.lsub, 1) := by decide +kernel
theorem dJ11_divideUnsigned_31 : decode cJ11_divideUnsigned 31 = .ok (.ldc2_w 306, 3) := by decide +kernel
theorem dJ11_divideUnsigned_34 : decode cJ11_divideUnsigned 34 = .ok (.lxor, 1) := by decide +kernel
theorem dJ11_divideUnsigned_35 : decode cJ11_divideUnsigned 35 = .ok (.lor, 1) := by decide +kernel
theorem dJ11_divideUnsigned_36 : decode cJ11_divideUnsigned 36 = .ok (.bipush 63, 2) := by decide +kernel
theorem dJ11_divideUnsigned_38 : decode cJ11_divideUnsigned 38 = .ok (.lushr, 1) := by decide +kernel
theorem dJ11_divideUnsigned_39 : decode cJ11_divideUnsigned 39 = .ok (.ladd, 1) := by decide +kernel
theorem dJ11_divideUnsigned_40 : decode cJ11_divideUnsigned 40 = .ok (.lreturn, 1) := by decide +kernel
theorem dJ11_divideUnsigned_41 : decode cJ11_divideUnsigned 41 = .ok (.lload_n 0, 1) := by decide +kernel
theorem dJ11_divideUnsigned_42 : decode cJ11_divideUnsigned 42 = .ok (.lload_n 0, 1) := by decide +kernel
theorem dJ11_divideUnsigned_43 : decode cJ11_divideUnsigned 43 = .ok (.lload_n 2, 1) := by decide +kernel
theorem dJ11_divideUnsigned_44 : decode cJ11_divideUnsigned 44 = .ok (.lsub, 1) := by decide +kernel
theorem dJ11_divideUnsigned_45 : decode cJ11_divideUnsigned 45 = .ok (.ldc2_w 306, 3) := by decide +kernel
theorem dJ11_divideUnsigned_48 : decode cJ11_divideUnsigned 48 = .ok (.lxor, 1) := by decide +kernel
theorem dJ11_divideUnsigned_49 : decode cJ11_divideUnsigned 49 = .ok (.land, 1) := by decide +kernel
theorem dJ11_divideUnsigned_50 : decode cJ11_divideUnsigned 50 = .ok (.bipush 63, 2) := by decide +kernel
theorem dJ11_divideUnsigned_52 : decode cJ11_divideUnsigned 52 = .ok (.lushr, 1) := by decide +kernel
theorem dJ11_divideUnsigned_53 : decode cJ11_divideUnsigned 53 = .ok (.lreturn, 1) := by decide +kernel
abbrev cJ11_compareUnsigned : ByteArray := prog_20_method_43_code
def yJ11_compareUnsigned : MethodName := ⟨RJ11, "compareUnsigned", "(JJ)I"⟩
theorem dJ11_compareUnsigned_0 : decode cJ11_compareUnsigned 0 = .ok (.lload_n 0, 1) := by decide +kernel
theorem dJ11_compareUnsigned_1 : decode cJ11_compareUnsigned 1 = .ok (.ldc2_w 168, 3) := by decide +kernel
theorem dJ11_compareUnsigned_4 : decode cJ11_compareUnsigned 4 = .ok (.ladd, 1) := by decide +kernel
theorem dJ11_compareUnsigned_5 : decode cJ11_compareUnsigned 5 = .ok (.lload_n 2, 1) := by decide +kernel
theorem dJ11_compareUnsigned_6 : decode cJ11_compareUnsigned 6 = .ok (.ldc2_w 168, 3) := by decide +kernel
theorem dJ11_compareUnsigned_9 : decode cJ11_compareUnsigned 9 = .ok (.ladd, 1) := by decide +kernel
theorem dJ11_compareUnsigned_10 : decode cJ11_compareUnsigned 10 = .ok (.invokestatic 302, 3) := by decide +kernel
theorem dJ11_compareUnsigned_13 : decode cJ11_compareUnsigned 13 = .ok (.ireturn, 1) := by decide +kernel
abbrev cJ11_compare : ByteArray := prog_20_method_42_code
def yJ11_compare : MethodName := ⟨RJ11, "compare", "(JJ)I"⟩
theorem dJ11_compare_0 : decode cJ11_compare 0 = .ok (.lload_n 0, 1) := by decide +kernel
theorem dJ11_compare_1 : decode cJ11_compare 1 = .ok (.lload_n 2, 1) := by decide +kernel
theorem dJ11_compare_2 : decode cJ11_compare 2 = .ok (.lcmp, 1) := by decide +kernel
theorem dJ11_compare_3 : decode cJ11_compare 3 = .ok (.ifCond .ge 7, 3) := by decide +kernel
theorem dJ11_compare_6 : decode cJ11_compare 6 = .ok (.iconst (-1), 1) := by decide +kernel
theorem dJ11_compare_7 : decode cJ11_compare 7 = .ok (.goto 14, 3) := by decide +kernel
theorem dJ11_compare_10 : decode cJ11_compare 10 = .ok (.lload_n 0, 1) := by decide +kernel
theorem dJ11_compare_11 : decode cJ11_compare 11 = .ok (.lload_n 2, 1) := by decide +kernel
theorem dJ11_compare_12 : decode cJ11_compare 12 = .ok (.lcmp, 1) := by decide +kernel
theorem dJ11_compare_13 : decode cJ11_compare 13 = .ok (.ifCond .ne 7, 3) := by decide +kernel
theorem dJ11_compare_16 : decode cJ11_compare 16 = .ok (.iconst 0, 1) := by decide +kernel
theorem dJ11_compare_17 : decode cJ11_compare 17 = .ok (.goto 4, 3) := by decide +kernel
theorem dJ11_compare_20 : decode cJ11_compare 20 = .ok (.iconst 1, 1) := by decide +kernel
theorem dJ11_compare_21 : decode cJ11_compare 21 = .ok (.ireturn, 1) := by decide +kernel
theorem q75 : (Jvm.Cond.initialized "java/lang/Long") ∈ lw_all := lw_g (lw_at lw_m1 23 rfl) rfl
theorem q950 : (Jvm.Cond.static ({ cls := "java/lang/Long", name := "divideUnsigned", desc := "(JJ)J" } : Jvm.MethodName)) ∈ lw_all := lw_g (lw_at lw_m4 178 rfl) rfl
theorem q951 : (Jvm.Cond.code ({ cls := "java/lang/Long", name := "divideUnsigned", desc := "(JJ)J" } : Jvm.MethodName) prog_20_method_44_code (8 : Nat) (Option.some Jvm.ClassFile.FieldType.long)) ∈ lw_all := lw_g (lw_at lw_m4 179 rfl) rfl
theorem q952 : (Jvm.Cond.constantLong "java/lang/Long" (306 : Nat) (-1 : Int64)) ∈ lw_all := lw_g (lw_at lw_m4 180 rfl) rfl
theorem q954 : (Jvm.Cond.static ({ cls := "java/lang/Long", name := "compareUnsigned", desc := "(JJ)I" } : Jvm.MethodName)) ∈ lw_all := lw_g (lw_at lw_m4 182 rfl) rfl
theorem q955 : (Jvm.Cond.code ({ cls := "java/lang/Long", name := "compareUnsigned", desc := "(JJ)I" } : Jvm.MethodName) prog_20_method_43_code (4 : Nat) (Option.some Jvm.ClassFile.FieldType.int)) ∈ lw_all := lw_g (lw_at lw_m4 183 rfl) rfl
theorem q956 : (Jvm.Cond.constantLong "java/lang/Long" (168 : Nat) (-9223372036854775808 : Int64)) ∈ lw_all := lw_g (lw_at lw_m4 184 rfl) rfl
theorem q957 : (Jvm.Cond.methodLink "java/lang/Long" (302 : Nat) ({ cls := "java/lang/Long", name := "compare", desc := "(JJ)I" } : Jvm.MethodName)) ∈ lw_all := lw_g (lw_at lw_m4 185 rfl) rfl
theorem q958 : (Jvm.Cond.static ({ cls := "java/lang/Long", name := "compare", desc := "(JJ)I" } : Jvm.MethodName)) ∈ lw_all := lw_g (lw_at lw_m4 186 rfl) rfl
theorem q959 : (Jvm.Cond.code ({ cls := "java/lang/Long", name := "compare", desc := "(JJ)I" } : Jvm.MethodName) prog_20_method_42_code (4 : Nat) (Option.some Jvm.ClassFile.FieldType.int)) ∈ lw_all := lw_g (lw_at lw_m4 187 rfl) rfl
abbrev cX7_init : ByteArray := prog_2_method_1_code
def yX7_init : MethodName := ⟨RX7, "<init>", "(I)V"⟩
theorem dX7_init_0 : decode cX7_init 0 = .ok (.aload_n 0, 1) := by decide +kernel
theorem dX7_init_1 : decode cX7_init 1 = .ok (.invokespecial 1, 3) := by decide +kernel
theorem dX7_init_4 : decode cX7_init 4 = .ok (.aload_n 0, 1) := by decide +kernel
theorem dX7_init_5 : decode cX7_init 5 = .ok (.iload_n 1, 1) := by decide +kernel
theorem dX7_init_6 : decode cX7_init 6 = .ok (.newarray .int, 2) := by decide +kernel
theorem dX7_init_8 : decode cX7_init 8 = .ok (.putfield 7, 3) := by decide +kernel
theorem dX7_init_11 : decode cX7_init 11 = .ok (.return_, 1) := by decide +kernel
abbrev cX7_set : ByteArray := prog_2_method_4_code
def yX7_set : MethodName := ⟨RX7, "set", "(J)V"⟩
theorem dX7_set_0 : decode cX7_set 0 = .ok (.aload_n 0, 1) := by decide +kernel
theorem dX7_set_1 : decode cX7_set 1 = .ok (.iconst 2, 1) := by decide +kernel
theorem dX7_set_2 : decode cX7_set 2 = .ok (.invokevirtual 29, 3) := by decide +kernel
theorem dX7_set_5 : decode cX7_set 5 = .ok (.aload_n 0, 1) := by decide +kernel
theorem dX7_set_6 : decode cX7_set 6 = .ok (.getfield 7, 3) := by decide +kernel
theorem dX7_set_9 : decode cX7_set 9 = .ok (.iconst 0, 1) := by decide +kernel
theorem dX7_set_10 : decode cX7_set 10 = .ok (.lload_n 1, 1) := by decide +kernel
theorem dX7_set_11 : decode cX7_set 11 = .ok (.l2i, 1) := by decide +kernel
theorem dX7_set_12 : decode cX7_set 12 = .ok (.iastore, 1) := by decide +kernel
theorem dX7_set_13 : decode cX7_set 13 = .ok (.aload_n 0, 1) := by decide +kernel
theorem dX7_set_14 : decode cX7_set 14 = .ok (.getfield 7, 3) := by decide +kernel
theorem dX7_set_17 : decode cX7_set 17 = .ok (.iconst 1, 1) := by decide +kernel
theorem dX7_set_18 : decode cX7_set 18 = .ok (.lload_n 1, 1) := by decide +kernel
theorem dX7_set_19 : decode cX7_set 19 = .ok (.bipush 32, 2) := by decide +kernel
theorem dX7_set_21 : decode cX7_set 21 = .ok (.lushr, 1) := by decide +kernel
theorem dX7_set_22 : decode cX7_set 22 = .ok (.l2i, 1) := by decide +kernel
theorem dX7_set_23 : decode cX7_set 23 = .ok (.iastore, 1) := by decide +kernel
theorem dX7_set_24 : decode cX7_set 24 = .ok (.aload_n 0, 1) := by decide +kernel
theorem dX7_set_25 : decode cX7_set 25 = .ok (.iconst 2, 1) := by decide +kernel
theorem dX7_set_26 : decode cX7_set 26 = .ok (.putfield 19, 3) := by decide +kernel
theorem dX7_set_29 : decode cX7_set 29 = .ok (.aload_n 0, 1) := by decide +kernel
theorem dX7_set_30 : decode cX7_set 30 = .ok (.invokevirtual 33, 3) := by decide +kernel
theorem dX7_set_33 : decode cX7_set 33 = .ok (.return_, 1) := by decide +kernel
abbrev cX7_reserve : ByteArray := prog_2_method_2_code
def yX7_reserve : MethodName := ⟨RX7, "reserve", "(I)V"⟩
theorem dX7_reserve_0 : decode cX7_reserve 0 = .ok (.iload_n 1, 1) := by decide +kernel
theorem dX7_reserve_1 : decode cX7_reserve 1 = .ok (.aload_n 0, 1) := by decide +kernel
theorem dX7_reserve_2 : decode cX7_reserve 2 = .ok (.getfield 7, 3) := by decide +kernel
theorem dX7_reserve_5 : decode cX7_reserve 5 = .ok (.arraylength, 1) := by decide +kernel
theorem dX7_reserve_6 : decode cX7_reserve 6 = .ok (.if_icmp .gt 4, 3) := by decide +kernel
theorem dX7_reserve_9 : decode cX7_reserve 9 = .ok (.return_, 1) := by decide +kernel
theorem dX7_reserve_10 : decode cX7_reserve 10 = .ok (.iload_n 1, 1) := by decide +kernel
theorem dX7_reserve_11 : decode cX7_reserve 11 = .ok (.iconst 2, 1) := by decide +kernel
theorem dX7_reserve_12 : decode cX7_reserve 12 = .ok (.aload_n 0, 1) := by decide +kernel
theorem dX7_reserve_13 : decode cX7_reserve 13 = .ok (.getfield 7, 3) := by decide +kernel
theorem dX7_reserve_16 : decode cX7_reserve 16 = .ok (.arraylength, 1) := by decide +kernel
theorem dX7_reserve_17 : decode cX7_reserve 17 = .ok (.imul, 1) := by decide +kernel
theorem dX7_reserve_18 : decode cX7_reserve 18 = .ok (.invokestatic 13, 3) := by decide +kernel
theorem dX7_reserve_21 : decode cX7_reserve 21 = .ok (.newarray .int, 2) := by decide +kernel
theorem dX7_reserve_23 : decode cX7_reserve 23 = .ok (.astore_n 2, 1) := by decide +kernel
theorem dX7_reserve_24 : decode cX7_reserve 24 = .ok (.aload_n 0, 1) := by decide +kernel
theorem dX7_reserve_25 : decode cX7_reserve 25 = .ok (.getfield 7, 3) := by decide +kernel
theorem dX7_reserve_28 : decode cX7_reserve 28 = .ok (.iconst 0, 1) := by decide +kernel
theorem dX7_reserve_29 : decode cX7_reserve 29 = .ok (.aload_n 2, 1) := by decide +kernel
theorem dX7_reserve_30 : decode cX7_reserve 30 = .ok (.iconst 0, 1) := by decide +kernel
theorem dX7_reserve_31 : decode cX7_reserve 31 = .ok (.aload_n 0, 1) := by decide +kernel
theorem dX7_reserve_32 : decode cX7_reserve 32 = .ok (.getfield 19, 3) := by decide +kernel
theorem dX7_reserve_35 : decode cX7_reserve 35 = .ok (.invokestatic 23, 3) := by decide +kernel
theorem dX7_reserve_38 : decode cX7_reserve 38 = .ok (.aload_n 0, 1) := by decide +kernel
theorem dX7_reserve_39 : decode cX7_reserve 39 = .ok (.aload_n 2, 1) := by decide +kernel
theorem dX7_reserve_40 : decode cX7_reserve 40 = .ok (.putfield 7, 3) := by decide +kernel
theorem dX7_reserve_43 : decode cX7_reserve 43 = .ok (.return_, 1) := by decide +kernel
abbrev cX7_trim : ByteArray := prog_2_method_3_code
def yX7_trim : MethodName := ⟨RX7, "trim", "()V"⟩
theorem dX7_trim_0 : decode cX7_trim 0 = .ok (.aload_n 0, 1) := by decide +kernel
theorem dX7_trim_1 : decode cX7_trim 1 = .ok (.getfield 19, 3) := by decide +kernel
theorem dX7_trim_4 : decode cX7_trim 4 = .ok (.ifCond .le 30, 3) := by decide +kernel
theorem dX7_trim_7 : decode cX7_trim 7 = .ok (.aload_n 0, 1) := by decide +kernel
theorem dX7_trim_8 : decode cX7_trim 8 = .ok (.getfield 7, 3) := by decide +kernel
theorem dX7_trim_11 : decode cX7_trim 11 = .ok (.aload_n 0, 1) := by decide +kernel
theorem dX7_trim_12 : decode cX7_trim 12 = .ok (.getfield 19, 3) := by decide +kernel
theorem dX7_trim_15 : decode cX7_trim 15 = .ok (.iconst 1, 1) := by decide +kernel
theorem dX7_trim_16 : decode cX7_trim 16 = .ok (.isub, 1) := by decide +kernel
theorem dX7_trim_17 : decode cX7_trim 17 = .ok (.iaload, 1) := by decide +kernel
theorem dX7_trim_18 : decode cX7_trim 18 = .ok (.ifCond .ne 16, 3) := by decide +kernel
theorem dX7_trim_21 : decode cX7_trim 21 = .ok (.aload_n 0, 1) := by decide +kernel
theorem dX7_trim_22 : decode cX7_trim 22 = .ok (.dup, 1) := by decide +kernel
theorem dX7_trim_23 : decode cX7_trim 23 = .ok (.getfield 19, 3) := by decide +kernel
theorem dX7_trim_26 : decode cX7_trim 26 = .ok (.iconst 1, 1) := by decide +kernel
theorem dX7_trim_27 : decode cX7_trim 27 = .ok (.isub, 1) := by decide +kernel
theorem dX7_trim_28 : decode cX7_trim 28 = .ok (.putfield 19, 3) := by decide +kernel
theorem dX7_trim_31 : decode cX7_trim 31 = .ok (.goto (-31), 3) := by decide +kernel
theorem dX7_trim_34 : decode cX7_trim 34 = .ok (.return_, 1) := by decide +kernel
abbrev cX7_product : ByteArray := prog_2_method_13_code
def yX7_product : MethodName := ⟨RX7, "product", "(LPollAudit$Big;LPollAudit$Big;)V"⟩
theorem dX7_product_0 : decode cX7_product 0 = .ok (.aload_n 1, 1) := by decide +kernel
theorem dX7_product_1 : decode cX7_product 1 = .ok (.getfield 19, 3) := by decide +kernel
theorem dX7_product_4 : decode cX7_product 4 = .ok (.aload_n 2, 1) := by decide +kernel
theorem dX7_product_5 : decode cX7_product 5 = .ok (.getfield 19, 3) := by decide +kernel
theorem dX7_product_8 : decode cX7_product 8 = .ok (.iadd, 1) := by decide +kernel
theorem dX7_product_9 : decode cX7_product 9 = .ok (.istore_n 3, 1) := by decide +kernel
theorem dX7_product_10 : decode cX7_product 10 = .ok (.aload_n 0, 1) := by decide +kernel
theorem dX7_product_11 : decode cX7_product 11 = .ok (.iload_n 3, 1) := by decide +kernel
theorem dX7_product_12 : decode cX7_product 12 = .ok (.invokevirtual 29, 3) := by decide +kernel
theorem dX7_product_15 : decode cX7_product 15 = .ok (.iconst 0, 1) := by decide +kernel
theorem dX7_product_16 : decode cX7_product 16 = .ok (.istore 4, 2) := by decide +kernel
theorem dX7_product_18 : decode cX7_product 18 = .ok (.iload 4, 2) := by decide +kernel
theorem dX7_product_20 : decode cX7_product 20 = .ok (.iload_n 3, 1) := by decide +kernel
theorem dX7_product_21 : decode cX7_product 21 = .ok (.if_icmp .ge 17, 3) := by decide +kernel
theorem dX7_product_24 : decode cX7_product 24 = .ok (.aload_n 0, 1) := by decide +kernel
theorem dX7_product_25 : decode cX7_product 25 = .ok (.getfield 7, 3) := by decide +kernel
theorem dX7_product_28 : decode cX7_product 28 = .ok (.iload 4, 2) := by decide +kernel
theorem dX7_product_30 : decode cX7_product 30 = .ok (.iconst 0, 1) := by decide +kernel
theorem dX7_product_31 : decode cX7_product 31 = .ok (.iastore, 1) := by decide +kernel
theorem dX7_product_32 : decode cX7_product 32 = .ok (.iinc 4 1, 3) := by decide +kernel
theorem dX7_product_35 : decode cX7_product 35 = .ok (.goto (-17), 3) := by decide +kernel
theorem dX7_product_38 : decode cX7_product 38 = .ok (.iconst 0, 1) := by decide +kernel
theorem dX7_product_39 : decode cX7_product 39 = .ok (.istore 4, 2) := by decide +kernel
theorem dX7_product_41 : decode cX7_product 41 = .ok (.iload 4, 2) := by decide +kernel
theorem dX7_product_43 : decode cX7_product 43 = .ok (.aload_n 1, 1) := by decide +kernel
theorem dX7_product_44 : decode cX7_product 44 = .ok (.getfield 19, 3) := by decide +kernel
theorem dX7_product_47 : decode cX7_product 47 = .ok (.if_icmp .ge 109, 3) := by decide +kernel
theorem dX7_product_50 : decode cX7_product 50 = .ok (.lconst 0, 1) := by decide +kernel
theorem dX7_product_51 : decode cX7_product 51 = .ok (.lstore 5, 2) := by decide +kernel
theorem dX7_product_53 : decode cX7_product 53 = .ok (.aload_n 1, 1) := by decide +kernel
theorem dX7_product_54 : decode cX7_product 54 = .ok (.getfield 7, 3) := by decide +kernel
theorem dX7_product_57 : decode cX7_product 57 = .ok (.iload 4, 2) := by decide +kernel
theorem dX7_product_59 : decode cX7_product 59 = .ok (.iaload, 1) := by decide +kernel
theorem dX7_product_60 : decode cX7_product 60 = .ok (.invokestatic 47, 3) := by decide +kernel
theorem dX7_product_63 : decode cX7_product 63 = .ok (.lstore 7, 2) := by decide +kernel
theorem dX7_product_65 : decode cX7_product 65 = .ok (.iconst 0, 1) := by decide +kernel
theorem dX7_product_66 : decode cX7_product 66 = .ok (.istore 9, 2) := by decide +kernel
theorem dX7_product_68 : decode cX7_product 68 = .ok (.iload 9, 2) := by decide +kernel
theorem dX7_product_70 : decode cX7_product 70 = .ok (.aload_n 2, 1) := by decide +kernel
theorem dX7_product_71 : decode cX7_product 71 = .ok (.getfield 19, 3) := by decide +kernel
theorem dX7_product_74 : decode cX7_product 74 = .ok (.if_icmp .ge 61, 3) := by decide +kernel
theorem dX7_product_77 : decode cX7_product 77 = .ok (.lload 5, 2) := by decide +kernel
theorem dX7_product_79 : decode cX7_product 79 = .ok (.lload 7, 2) := by decide +kernel
theorem dX7_product_81 : decode cX7_product 81 = .ok (.aload_n 2, 1) := by decide +kernel
theorem dX7_product_82 : decode cX7_product 82 = .ok (.getfield 7, 3) := by decide +kernel
theorem dX7_product_85 : decode cX7_product 85 = .ok (.iload 9, 2) := by decide +kernel
theorem dX7_product_87 : decode cX7_product 87 = .ok (.iaload, 1) := by decide +kernel
theorem dX7_product_88 : decode cX7_product 88 = .ok (.invokestatic 47, 3) := by decide +kernel
theorem dX7_product_91 : decode cX7_product 91 = .ok (.lmul, 1) := by decide +kernel
theorem dX7_product_92 : decode cX7_product 92 = .ok (.aload_n 0, 1) := by decide +kernel
theorem dX7_product_93 : decode cX7_product 93 = .ok (.getfield 7, 3) := by decide +kernel
theorem dX7_product_96 : decode cX7_product 96 = .ok (.iload 4, 2) := by decide +kernel
theorem dX7_product_98 : decode cX7_product 98 = .ok (.iload 9, 2) := by decide +kernel
theorem dX7_product_100 : decode cX7_product 100 = .ok (.iadd, 1) := by decide +kernel
theorem dX7_product_101 : decode cX7_product 101 = .ok (.iaload, 1) := by decide +kernel
theorem dX7_product_102 : decode cX7_product 102 = .ok (.invokestatic 47, 3) := by decide +kernel
theorem dX7_product_105 : decode cX7_product 105 = .ok (.ladd, 1) := by decide +kernel
theorem dX7_product_106 : decode cX7_product 106 = .ok (.ladd, 1) := by decide +kernel
theorem dX7_product_107 : decode cX7_product 107 = .ok (.lstore 5, 2) := by decide +kernel
theorem dX7_product_109 : decode cX7_product 109 = .ok (.aload_n 0, 1) := by decide +kernel
theorem dX7_product_110 : decode cX7_product 110 = .ok (.getfield 7, 3) := by decide +kernel
theorem dX7_product_113 : decode cX7_product 113 = .ok (.iload 4, 2) := by decide +kernel
theorem dX7_product_115 : decode cX7_product 115 = .ok (.iload 9, 2) := by decide +kernel
theorem dX7_product_117 : decode cX7_product 117 = .ok (.iadd, 1) := by decide +kernel
theorem dX7_product_118 : decode cX7_product 118 = .ok (.lload 5, 2) := by decide +kernel
theorem dX7_product_120 : decode cX7_product 120 = .ok (.l2i, 1) := by decide +kernel
theorem dX7_product_121 : decode cX7_product 121 = .ok (.iastore, 1) := by decide +kernel
theorem dX7_product_122 : decode cX7_product 122 = .ok (.lload 5, 2) := by decide +kernel
theorem dX7_product_124 : decode cX7_product 124 = .ok (.bipush 32, 2) := by decide +kernel
theorem dX7_product_126 : decode cX7_product 126 = .ok (.lushr, 1) := by decide +kernel
theorem dX7_product_127 : decode cX7_product 127 = .ok (.lstore 5, 2) := by decide +kernel
theorem dX7_product_129 : decode cX7_product 129 = .ok (.iinc 9 1, 3) := by decide +kernel
theorem dX7_product_132 : decode cX7_product 132 = .ok (.goto (-64), 3) := by decide +kernel
theorem dX7_product_135 : decode cX7_product 135 = .ok (.aload_n 0, 1) := by decide +kernel
theorem dX7_product_136 : decode cX7_product 136 = .ok (.getfield 7, 3) := by decide +kernel
theorem dX7_product_139 : decode cX7_product 139 = .ok (.iload 4, 2) := by decide +kernel
theorem dX7_product_141 : decode cX7_product 141 = .ok (.aload_n 2, 1) := by decide +kernel
theorem dX7_product_142 : decode cX7_product 142 = .ok (.getfield 19, 3) := by decide +kernel
theorem dX7_product_145 : decode cX7_product 145 = .ok (.iadd, 1) := by decide +kernel
theorem dX7_product_146 : decode cX7_product 146 = .ok (.lload 5, 2) := by decide +kernel
theorem dX7_product_148 : decode cX7_product 148 = .ok (.l2i, 1) := by decide +kernel
theorem dX7_product_149 : decode cX7_product 149 = .ok (.iastore, 1) := by decide +kernel
theorem dX7_product_150 : decode cX7_product 150 = .ok (.iinc 4 1, 3) := by decide +kernel
theorem dX7_product_153 : decode cX7_product 153 = .ok (.goto (-112), 3) := by decide +kernel
theorem dX7_product_156 : decode cX7_product 156 = .ok (.aload_n 0, 1) := by decide +kernel
theorem dX7_product_157 : decode cX7_product 157 = .ok (.iload_n 3, 1) := by decide +kernel
theorem dX7_product_158 : decode cX7_product 158 = .ok (.putfield 19, 3) := by decide +kernel
theorem dX7_product_161 : decode cX7_product 161 = .ok (.aload_n 0, 1) := by decide +kernel
theorem dX7_product_162 : decode cX7_product 162 = .ok (.invokevirtual 33, 3) := by decide +kernel
theorem dX7_product_165 : decode cX7_product 165 = .ok (.return_, 1) := by decide +kernel
abbrev cX7_cell : ByteArray := prog_2_method_10_code
def yX7_cell : MethodName := ⟨RX7, "cell", "(I)J"⟩
theorem dX7_cell_0 : decode cX7_cell 0 = .ok (.iload_n 0, 1) := by decide +kernel
theorem dX7_cell_1 : decode cX7_cell 1 = .ok (.i2l, 1) := by decide +kernel
theorem dX7_cell_2 : decode cX7_cell 2 = .ok (.ldc2_w 45, 3) := by decide +kernel
theorem dX7_cell_5 : decode cX7_cell 5 = .ok (.land, 1) := by decide +kernel
theorem dX7_cell_6 : decode cX7_cell 6 = .ok (.lreturn, 1) := by decide +kernel
abbrev cX7_copy : ByteArray := prog_2_method_5_code
def yX7_copy : MethodName := ⟨RX7, "copy", "(LPollAudit$Big;)V"⟩
theorem dX7_copy_0 : decode cX7_copy 0 = .ok (.aload_n 0, 1) := by decide +kernel
theorem dX7_copy_1 : decode cX7_copy 1 = .ok (.aload_n 1, 1) := by decide +kernel
theorem dX7_copy_2 : decode cX7_copy 2 = .ok (.getfield 19, 3) := by decide +kernel
theorem dX7_copy_5 : decode cX7_copy 5 = .ok (.invokevirtual 29, 3) := by decide +kernel
theorem dX7_copy_8 : decode cX7_copy 8 = .ok (.aload_n 1, 1) := by decide +kernel
theorem dX7_copy_9 : decode cX7_copy 9 = .ok (.getfield 7, 3) := by decide +kernel
theorem dX7_copy_12 : decode cX7_copy 12 = .ok (.iconst 0, 1) := by decide +kernel
theorem dX7_copy_13 : decode cX7_copy 13 = .ok (.aload_n 0, 1) := by decide +kernel
theorem dX7_copy_14 : decode cX7_copy 14 = .ok (.getfield 7, 3) := by decide +kernel
theorem dX7_copy_17 : decode cX7_copy 17 = .ok (.iconst 0, 1) := by decide +kernel
theorem dX7_copy_18 : decode cX7_copy 18 = .ok (.aload_n 1, 1) := by decide +kernel
theorem dX7_copy_19 : decode cX7_copy 19 = .ok (.getfield 19, 3) := by decide +kernel
theorem dX7_copy_22 : decode cX7_copy 22 = .ok (.invokestatic 23, 3) := by decide +kernel
theorem dX7_copy_25 : decode cX7_copy 25 = .ok (.aload_n 0, 1) := by decide +kernel
theorem dX7_copy_26 : decode cX7_copy 26 = .ok (.aload_n 1, 1) := by decide +kernel
theorem dX7_copy_27 : decode cX7_copy 27 = .ok (.getfield 19, 3) := by decide +kernel
theorem dX7_copy_30 : decode cX7_copy 30 = .ok (.putfield 19, 3) := by decide +kernel
theorem dX7_copy_33 : decode cX7_copy 33 = .ok (.return_, 1) := by decide +kernel
abbrev cX7_times : ByteArray := prog_2_method_14_code
def yX7_times : MethodName := ⟨RX7, "times", "(I)V"⟩
theorem dX7_times_0 : decode cX7_times 0 = .ok (.aload_n 0, 1) := by decide +kernel
theorem dX7_times_1 : decode cX7_times 1 = .ok (.aload_n 0, 1) := by decide +kernel
theorem dX7_times_2 : decode cX7_times 2 = .ok (.getfield 19, 3) := by decide +kernel
theorem dX7_times_5 : decode cX7_times 5 = .ok (.iconst 1, 1) := by decide +kernel
theorem dX7_times_6 : decode cX7_times 6 = .ok (.iadd, 1) := by decide +kernel
theorem dX7_times_7 : decode cX7_times 7 = .ok (.invokevirtual 29, 3) := by decide +kernel
theorem dX7_times_10 : decode cX7_times 10 = .ok (.lconst 0, 1) := by decide +kernel
theorem dX7_times_11 : decode cX7_times 11 = .ok (.lstore_n 2, 1) := by decide +kernel
theorem dX7_times_12 : decode cX7_times 12 = .ok (.iconst 0, 1) := by decide +kernel
theorem dX7_times_13 : decode cX7_times 13 = .ok (.istore 4, 2) := by decide +kernel
theorem dX7_times_15 : decode cX7_times 15 = .ok (.iload 4, 2) := by decide +kernel
theorem dX7_times_17 : decode cX7_times 17 = .ok (.aload_n 0, 1) := by decide +kernel
theorem dX7_times_18 : decode cX7_times 18 = .ok (.getfield 19, 3) := by decide +kernel
theorem dX7_times_21 : decode cX7_times 21 = .ok (.if_icmp .ge 39, 3) := by decide +kernel
theorem dX7_times_24 : decode cX7_times 24 = .ok (.lload_n 2, 1) := by decide +kernel
theorem dX7_times_25 : decode cX7_times 25 = .ok (.aload_n 0, 1) := by decide +kernel
theorem dX7_times_26 : decode cX7_times 26 = .ok (.getfield 7, 3) := by decide +kernel
theorem dX7_times_29 : decode cX7_times 29 = .ok (.iload 4, 2) := by decide +kernel
theorem dX7_times_31 : decode cX7_times 31 = .ok (.iaload, 1) := by decide +kernel
theorem dX7_times_32 : decode cX7_times 32 = .ok (.invokestatic 47, 3) := by decide +kernel
theorem dX7_times_35 : decode cX7_times 35 = .ok (.iload_n 1, 1) := by decide +kernel
theorem dX7_times_36 : decode cX7_times 36 = .ok (.i2l, 1) := by decide +kernel
theorem dX7_times_37 : decode cX7_times 37 = .ok (.lmul, 1) := by decide +kernel
theorem dX7_times_38 : decode cX7_times 38 = .ok (.ladd, 1) := by decide +kernel
theorem dX7_times_39 : decode cX7_times 39 = .ok (.lstore_n 2, 1) := by decide +kernel
theorem dX7_times_40 : decode cX7_times 40 = .ok (.aload_n 0, 1) := by decide +kernel
theorem dX7_times_41 : decode cX7_times 41 = .ok (.getfield 7, 3) := by decide +kernel
theorem dX7_times_44 : decode cX7_times 44 = .ok (.iload 4, 2) := by decide +kernel
theorem dX7_times_46 : decode cX7_times 46 = .ok (.lload_n 2, 1) := by decide +kernel
theorem dX7_times_47 : decode cX7_times 47 = .ok (.l2i, 1) := by decide +kernel
theorem dX7_times_48 : decode cX7_times 48 = .ok (.iastore, 1) := by decide +kernel
theorem dX7_times_49 : decode cX7_times 49 = .ok (.lload_n 2, 1) := by decide +kernel
theorem dX7_times_50 : decode cX7_times 50 = .ok (.bipush 32, 2) := by decide +kernel
theorem dX7_times_52 : decode cX7_times 52 = .ok (.lushr, 1) := by decide +kernel
theorem dX7_times_53 : decode cX7_times 53 = .ok (.lstore_n 2, 1) := by decide +kernel
theorem dX7_times_54 : decode cX7_times 54 = .ok (.iinc 4 1, 3) := by decide +kernel
theorem dX7_times_57 : decode cX7_times 57 = .ok (.goto (-42), 3) := by decide +kernel
theorem dX7_times_60 : decode cX7_times 60 = .ok (.aload_n 0, 1) := by decide +kernel
theorem dX7_times_61 : decode cX7_times 61 = .ok (.getfield 7, 3) := by decide +kernel
theorem dX7_times_64 : decode cX7_times 64 = .ok (.aload_n 0, 1) := by decide +kernel
theorem dX7_times_65 : decode cX7_times 65 = .ok (.dup, 1) := by decide +kernel
theorem dX7_times_66 : decode cX7_times 66 = .ok (.getfield 19, 3) := by decide +kernel
theorem dX7_times_69 : decode cX7_times 69 = .ok (.dup_x1, 1) := by decide +kernel
theorem dX7_times_70 : decode cX7_times 70 = .ok (.iconst 1, 1) := by decide +kernel
theorem dX7_times_71 : decode cX7_times 71 = .ok (.iadd, 1) := by decide +kernel
theorem dX7_times_72 : decode cX7_times 72 = .ok (.putfield 19, 3) := by decide +kernel
theorem dX7_times_75 : decode cX7_times 75 = .ok (.lload_n 2, 1) := by decide +kernel
theorem dX7_times_76 : decode cX7_times 76 = .ok (.l2i, 1) := by decide +kernel
theorem dX7_times_77 : decode cX7_times 77 = .ok (.iastore, 1) := by decide +kernel
theorem dX7_times_78 : decode cX7_times 78 = .ok (.aload_n 0, 1) := by decide +kernel
theorem dX7_times_79 : decode cX7_times 79 = .ok (.invokevirtual 33, 3) := by decide +kernel
theorem dX7_times_82 : decode cX7_times 82 = .ok (.return_, 1) := by decide +kernel
abbrev cX7_compare : ByteArray := prog_2_method_9_code
def yX7_compare : MethodName := ⟨RX7, "compare", "(LPollAudit$Big;)I"⟩
theorem dX7_compare_0 : decode cX7_compare 0 = .ok (.aload_n 0, 1) := by decide +kernel
theorem dX7_compare_1 : decode cX7_compare 1 = .ok (.getfield 19, 3) := by decide +kernel
theorem dX7_compare_4 : decode cX7_compare 4 = .ok (.aload_n 1, 1) := by decide +kernel
theorem dX7_compare_5 : decode cX7_compare 5 = .ok (.getfield 19, 3) := by decide +kernel
theorem dX7_compare_8 : decode cX7_compare 8 = .ok (.if_icmp .eq 20, 3) := by decide +kernel
theorem dX7_compare_11 : decode cX7_compare 11 = .ok (.aload_n 0, 1) := by decide +kernel
theorem dX7_compare_12 : decode cX7_compare 12 = .ok (.getfield 19, 3) := by decide +kernel
theorem dX7_compare_15 : decode cX7_compare 15 = .ok (.aload_n 1, 1) := by decide +kernel
theorem dX7_compare_16 : decode cX7_compare 16 = .ok (.getfield 19, 3) := by decide +kernel
theorem dX7_compare_19 : decode cX7_compare 19 = .ok (.if_icmp .ge 7, 3) := by decide +kernel
theorem dX7_compare_22 : decode cX7_compare 22 = .ok (.iconst (-1), 1) := by decide +kernel
theorem dX7_compare_23 : decode cX7_compare 23 = .ok (.goto 4, 3) := by decide +kernel
theorem dX7_compare_26 : decode cX7_compare 26 = .ok (.iconst 1, 1) := by decide +kernel
theorem dX7_compare_27 : decode cX7_compare 27 = .ok (.ireturn, 1) := by decide +kernel
theorem dX7_compare_28 : decode cX7_compare 28 = .ok (.aload_n 0, 1) := by decide +kernel
theorem dX7_compare_29 : decode cX7_compare 29 = .ok (.getfield 19, 3) := by decide +kernel
theorem dX7_compare_32 : decode cX7_compare 32 = .ok (.iconst 1, 1) := by decide +kernel
theorem dX7_compare_33 : decode cX7_compare 33 = .ok (.isub, 1) := by decide +kernel
theorem dX7_compare_34 : decode cX7_compare 34 = .ok (.istore_n 2, 1) := by decide +kernel
theorem dX7_compare_35 : decode cX7_compare 35 = .ok (.iload_n 2, 1) := by decide +kernel
theorem dX7_compare_36 : decode cX7_compare 36 = .ok (.ifCond .lt 40, 3) := by decide +kernel
theorem dX7_compare_39 : decode cX7_compare 39 = .ok (.aload_n 0, 1) := by decide +kernel
theorem dX7_compare_40 : decode cX7_compare 40 = .ok (.getfield 7, 3) := by decide +kernel
theorem dX7_compare_43 : decode cX7_compare 43 = .ok (.iload_n 2, 1) := by decide +kernel
theorem dX7_compare_44 : decode cX7_compare 44 = .ok (.iaload, 1) := by decide +kernel
theorem dX7_compare_45 : decode cX7_compare 45 = .ok (.aload_n 1, 1) := by decide +kernel
theorem dX7_compare_46 : decode cX7_compare 46 = .ok (.getfield 7, 3) := by decide +kernel
theorem dX7_compare_49 : decode cX7_compare 49 = .ok (.iload_n 2, 1) := by decide +kernel
theorem dX7_compare_50 : decode cX7_compare 50 = .ok (.iaload, 1) := by decide +kernel
theorem dX7_compare_51 : decode cX7_compare 51 = .ok (.if_icmp .eq 19, 3) := by decide +kernel
theorem dX7_compare_54 : decode cX7_compare 54 = .ok (.aload_n 0, 1) := by decide +kernel
theorem dX7_compare_55 : decode cX7_compare 55 = .ok (.getfield 7, 3) := by decide +kernel
theorem dX7_compare_58 : decode cX7_compare 58 = .ok (.iload_n 2, 1) := by decide +kernel
theorem dX7_compare_59 : decode cX7_compare 59 = .ok (.iaload, 1) := by decide +kernel
theorem dX7_compare_60 : decode cX7_compare 60 = .ok (.aload_n 1, 1) := by decide +kernel
theorem dX7_compare_61 : decode cX7_compare 61 = .ok (.getfield 7, 3) := by decide +kernel
theorem dX7_compare_64 : decode cX7_compare 64 = .ok (.iload_n 2, 1) := by decide +kernel
theorem dX7_compare_65 : decode cX7_compare 65 = .ok (.iaload, 1) := by decide +kernel
theorem dX7_compare_66 : decode cX7_compare 66 = .ok (.invokestatic 42, 3) := by decide +kernel
theorem dX7_compare_69 : decode cX7_compare 69 = .ok (.ireturn, 1) := by decide +kernel
theorem dX7_compare_70 : decode cX7_compare 70 = .ok (.iinc 2 (-1), 3) := by decide +kernel
theorem dX7_compare_73 : decode cX7_compare 73 = .ok (.goto (-38), 3) := by decide +kernel
theorem dX7_compare_76 : decode cX7_compare 76 = .ok (.iconst 0, 1) := by decide +kernel
theorem dX7_compare_77 : decode cX7_compare 77 = .ok (.ireturn, 1) := by decide +kernel
abbrev cX7_add : ByteArray := prog_2_method_11_code
def yX7_add : MethodName := ⟨RX7, "add", "(LPollAudit$Big;)V"⟩
theorem dX7_add_0 : decode cX7_add 0 = .ok (.aload_n 0, 1) := by decide +kernel
theorem dX7_add_1 : decode cX7_add 1 = .ok (.getfield 19, 3) := by decide +kernel
theorem dX7_add_4 : decode cX7_add 4 = .ok (.aload_n 1, 1) := by decide +kernel
theorem dX7_add_5 : decode cX7_add 5 = .ok (.getfield 19, 3) := by decide +kernel
theorem dX7_add_8 : decode cX7_add 8 = .ok (.invokestatic 13, 3) := by decide +kernel
theorem dX7_add_11 : decode cX7_add 11 = .ok (.istore_n 2, 1) := by decide +kernel
theorem dX7_add_12 : decode cX7_add 12 = .ok (.aload_n 0, 1) := by decide +kernel
theorem dX7_add_13 : decode cX7_add 13 = .ok (.iload_n 2, 1) := by decide +kernel
theorem dX7_add_14 : decode cX7_add 14 = .ok (.iconst 1, 1) := by decide +kernel
theorem dX7_add_15 : decode cX7_add 15 = .ok (.iadd, 1) := by decide +kernel
theorem dX7_add_16 : decode cX7_add 16 = .ok (.invokevirtual 29, 3) := by decide +kernel
theorem dX7_add_19 : decode cX7_add 19 = .ok (.aload_n 0, 1) := by decide +kernel
theorem dX7_add_20 : decode cX7_add 20 = .ok (.getfield 19, 3) := by decide +kernel
theorem dX7_add_23 : decode cX7_add 23 = .ok (.istore_n 3, 1) := by decide +kernel
theorem dX7_add_24 : decode cX7_add 24 = .ok (.iload_n 3, 1) := by decide +kernel
theorem dX7_add_25 : decode cX7_add 25 = .ok (.iload_n 2, 1) := by decide +kernel
theorem dX7_add_26 : decode cX7_add 26 = .ok (.if_icmp .gt 16, 3) := by decide +kernel
theorem dX7_add_29 : decode cX7_add 29 = .ok (.aload_n 0, 1) := by decide +kernel
theorem dX7_add_30 : decode cX7_add 30 = .ok (.getfield 7, 3) := by decide +kernel
theorem dX7_add_33 : decode cX7_add 33 = .ok (.iload_n 3, 1) := by decide +kernel
theorem dX7_add_34 : decode cX7_add 34 = .ok (.iconst 0, 1) := by decide +kernel
theorem dX7_add_35 : decode cX7_add 35 = .ok (.iastore, 1) := by decide +kernel
theorem dX7_add_36 : decode cX7_add 36 = .ok (.iinc 3 1, 3) := by decide +kernel
theorem dX7_add_39 : decode cX7_add 39 = .ok (.goto (-15), 3) := by decide +kernel
theorem dX7_add_42 : decode cX7_add 42 = .ok (.lconst 0, 1) := by decide +kernel
theorem dX7_add_43 : decode cX7_add 43 = .ok (.lstore_n 3, 1) := by decide +kernel
theorem dX7_add_44 : decode cX7_add 44 = .ok (.iconst 0, 1) := by decide +kernel
theorem dX7_add_45 : decode cX7_add 45 = .ok (.istore 5, 2) := by decide +kernel
theorem dX7_add_47 : decode cX7_add 47 = .ok (.iload 5, 2) := by decide +kernel
theorem dX7_add_49 : decode cX7_add 49 = .ok (.iload_n 2, 1) := by decide +kernel
theorem dX7_add_50 : decode cX7_add 50 = .ok (.if_icmp .gt 60, 3) := by decide +kernel
theorem dX7_add_53 : decode cX7_add 53 = .ok (.lload_n 3, 1) := by decide +kernel
theorem dX7_add_54 : decode cX7_add 54 = .ok (.aload_n 0, 1) := by decide +kernel
theorem dX7_add_55 : decode cX7_add 55 = .ok (.getfield 7, 3) := by decide +kernel
theorem dX7_add_58 : decode cX7_add 58 = .ok (.iload 5, 2) := by decide +kernel
theorem dX7_add_60 : decode cX7_add 60 = .ok (.iaload, 1) := by decide +kernel
theorem dX7_add_61 : decode cX7_add 61 = .ok (.invokestatic 47, 3) := by decide +kernel
theorem dX7_add_64 : decode cX7_add 64 = .ok (.iload 5, 2) := by decide +kernel
theorem dX7_add_66 : decode cX7_add 66 = .ok (.aload_n 1, 1) := by decide +kernel
theorem dX7_add_67 : decode cX7_add 67 = .ok (.getfield 19, 3) := by decide +kernel
theorem dX7_add_70 : decode cX7_add 70 = .ok (.if_icmp .ge 16, 3) := by decide +kernel
theorem dX7_add_73 : decode cX7_add 73 = .ok (.aload_n 1, 1) := by decide +kernel
theorem dX7_add_74 : decode cX7_add 74 = .ok (.getfield 7, 3) := by decide +kernel
theorem dX7_add_77 : decode cX7_add 77 = .ok (.iload 5, 2) := by decide +kernel
theorem dX7_add_79 : decode cX7_add 79 = .ok (.iaload, 1) := by decide +kernel
theorem dX7_add_80 : decode cX7_add 80 = .ok (.invokestatic 47, 3) := by decide +kernel
theorem dX7_add_83 : decode cX7_add 83 = .ok (.goto 4, 3) := by decide +kernel
theorem dX7_add_86 : decode cX7_add 86 = .ok (.lconst 0, 1) := by decide +kernel
theorem dX7_add_87 : decode cX7_add 87 = .ok (.ladd, 1) := by decide +kernel
theorem dX7_add_88 : decode cX7_add 88 = .ok (.ladd, 1) := by decide +kernel
theorem dX7_add_89 : decode cX7_add 89 = .ok (.lstore_n 3, 1) := by decide +kernel
theorem dX7_add_90 : decode cX7_add 90 = .ok (.aload_n 0, 1) := by decide +kernel
theorem dX7_add_91 : decode cX7_add 91 = .ok (.getfield 7, 3) := by decide +kernel
theorem dX7_add_94 : decode cX7_add 94 = .ok (.iload 5, 2) := by decide +kernel
theorem dX7_add_96 : decode cX7_add 96 = .ok (.lload_n 3, 1) := by decide +kernel
theorem dX7_add_97 : decode cX7_add 97 = .ok (.l2i, 1) := by decide +kernel
theorem dX7_add_98 : decode cX7_add 98 = .ok (.iastore, 1) := by decide +kernel
theorem dX7_add_99 : decode cX7_add 99 = .ok (.lload_n 3, 1) := by decide +kernel
theorem dX7_add_100 : decode cX7_add 100 = .ok (.bipush 32, 2) := by decide +kernel
theorem dX7_add_102 : decode cX7_add 102 = .ok (.lushr, 1) := by decide +kernel
theorem dX7_add_103 : decode cX7_add 103 = .ok (.lstore_n 3, 1) := by decide +kernel
theorem dX7_add_104 : decode cX7_add 104 = .ok (.iinc 5 1, 3) := by decide +kernel
theorem dX7_add_107 : decode cX7_add 107 = .ok (.goto (-60), 3) := by decide +kernel
theorem dX7_add_110 : decode cX7_add 110 = .ok (.aload_n 0, 1) := by decide +kernel
theorem dX7_add_111 : decode cX7_add 111 = .ok (.iload_n 2, 1) := by decide +kernel
theorem dX7_add_112 : decode cX7_add 112 = .ok (.iconst 1, 1) := by decide +kernel
theorem dX7_add_113 : decode cX7_add 113 = .ok (.iadd, 1) := by decide +kernel
theorem dX7_add_114 : decode cX7_add 114 = .ok (.putfield 19, 3) := by decide +kernel
theorem dX7_add_117 : decode cX7_add 117 = .ok (.aload_n 0, 1) := by decide +kernel
theorem dX7_add_118 : decode cX7_add 118 = .ok (.invokevirtual 33, 3) := by decide +kernel
theorem dX7_add_121 : decode cX7_add 121 = .ok (.return_, 1) := by decide +kernel
abbrev cX7_isZero : ByteArray := prog_2_method_6_code
def yX7_isZero : MethodName := ⟨RX7, "isZero", "()Z"⟩
theorem dX7_isZero_0 : decode cX7_isZero 0 = .ok (.aload_n 0, 1) := by decide +kernel
theorem dX7_isZero_1 : decode cX7_isZero 1 = .ok (.getfield 19, 3) := by decide +kernel
theorem dX7_isZero_4 : decode cX7_isZero 4 = .ok (.ifCond .ne 7, 3) := by decide +kernel
theorem dX7_isZero_7 : decode cX7_isZero 7 = .ok (.iconst 1, 1) := by decide +kernel
theorem dX7_isZero_8 : decode cX7_isZero 8 = .ok (.goto 4, 3) := by decide +kernel
theorem dX7_isZero_11 : decode cX7_isZero 11 = .ok (.iconst 0, 1) := by decide +kernel
theorem dX7_isZero_12 : decode cX7_isZero 12 = .ok (.ireturn, 1) := by decide +kernel
abbrev cX7_divide : ByteArray := prog_2_method_17_code
def yX7_divide : MethodName := ⟨RX7, "divide", "(LPollAudit$Big;LPollAudit$Big;LPollAudit$Big;)V"⟩
theorem dX7_divide_0 : decode cX7_divide 0 = .ok (.aload_n 2, 1) := by decide +kernel
theorem dX7_divide_1 : decode cX7_divide 1 = .ok (.iconst 0, 1) := by decide +kernel
theorem dX7_divide_2 : decode cX7_divide 2 = .ok (.putfield 19, 3) := by decide +kernel
theorem dX7_divide_5 : decode cX7_divide 5 = .ok (.aload_n 0, 1) := by decide +kernel
theorem dX7_divide_6 : decode cX7_divide 6 = .ok (.aload_n 1, 1) := by decide +kernel
theorem dX7_divide_7 : decode cX7_divide 7 = .ok (.invokevirtual 51, 3) := by decide +kernel
theorem dX7_divide_10 : decode cX7_divide 10 = .ok (.ifCond .ge 4, 3) := by decide +kernel
theorem dX7_divide_13 : decode cX7_divide 13 = .ok (.return_, 1) := by decide +kernel
theorem dX7_divide_14 : decode cX7_divide 14 = .ok (.aload_n 1, 1) := by decide +kernel
theorem dX7_divide_15 : decode cX7_divide 15 = .ok (.getfield 7, 3) := by decide +kernel
theorem dX7_divide_18 : decode cX7_divide 18 = .ok (.aload_n 1, 1) := by decide +kernel
theorem dX7_divide_19 : decode cX7_divide 19 = .ok (.getfield 19, 3) := by decide +kernel
theorem dX7_divide_22 : decode cX7_divide 22 = .ok (.iconst 1, 1) := by decide +kernel
theorem dX7_divide_23 : decode cX7_divide 23 = .ok (.isub, 1) := by decide +kernel
theorem dX7_divide_24 : decode cX7_divide 24 = .ok (.iaload, 1) := by decide +kernel
theorem dX7_divide_25 : decode cX7_divide 25 = .ok (.invokestatic 36, 3) := by decide +kernel
theorem dX7_divide_28 : decode cX7_divide 28 = .ok (.istore 4, 2) := by decide +kernel
theorem dX7_divide_30 : decode cX7_divide 30 = .ok (.aload_n 3, 1) := by decide +kernel
theorem dX7_divide_31 : decode cX7_divide 31 = .ok (.aload_n 1, 1) := by decide +kernel
theorem dX7_divide_32 : decode cX7_divide 32 = .ok (.invokevirtual 55, 3) := by decide +kernel
theorem dX7_divide_35 : decode cX7_divide 35 = .ok (.aload_n 3, 1) := by decide +kernel
theorem dX7_divide_36 : decode cX7_divide 36 = .ok (.iload 4, 2) := by decide +kernel
theorem dX7_divide_38 : decode cX7_divide 38 = .ok (.invokevirtual 59, 3) := by decide +kernel
theorem dX7_divide_41 : decode cX7_divide 41 = .ok (.aload_n 0, 1) := by decide +kernel
theorem dX7_divide_42 : decode cX7_divide 42 = .ok (.iload 4, 2) := by decide +kernel
theorem dX7_divide_44 : decode cX7_divide 44 = .ok (.invokevirtual 59, 3) := by decide +kernel
theorem dX7_divide_47 : decode cX7_divide 47 = .ok (.aload_n 3, 1) := by decide +kernel
theorem dX7_divide_48 : decode cX7_divide 48 = .ok (.getfield 19, 3) := by decide +kernel
theorem dX7_divide_51 : decode cX7_divide 51 = .ok (.istore 5, 2) := by decide +kernel
theorem dX7_divide_53 : decode cX7_divide 53 = .ok (.aload_n 0, 1) := by decide +kernel
theorem dX7_divide_54 : decode cX7_divide 54 = .ok (.aload_n 0, 1) := by decide +kernel
theorem dX7_divide_55 : decode cX7_divide 55 = .ok (.getfield 19, 3) := by decide +kernel
theorem dX7_divide_58 : decode cX7_divide 58 = .ok (.iconst 1, 1) := by decide +kernel
theorem dX7_divide_59 : decode cX7_divide 59 = .ok (.iadd, 1) := by decide +kernel
theorem dX7_divide_60 : decode cX7_divide 60 = .ok (.invokevirtual 29, 3) := by decide +kernel
theorem dX7_divide_63 : decode cX7_divide 63 = .ok (.aload_n 0, 1) := by decide +kernel
theorem dX7_divide_64 : decode cX7_divide 64 = .ok (.getfield 7, 3) := by decide +kernel
theorem dX7_divide_67 : decode cX7_divide 67 = .ok (.aload_n 0, 1) := by decide +kernel
theorem dX7_divide_68 : decode cX7_divide 68 = .ok (.getfield 19, 3) := by decide +kernel
theorem dX7_divide_71 : decode cX7_divide 71 = .ok (.iconst 0, 1) := by decide +kernel
theorem dX7_divide_72 : decode cX7_divide 72 = .ok (.iastore, 1) := by decide +kernel
theorem dX7_divide_73 : decode cX7_divide 73 = .ok (.aload_n 0, 1) := by decide +kernel
theorem dX7_divide_74 : decode cX7_divide 74 = .ok (.getfield 19, 3) := by decide +kernel
theorem dX7_divide_77 : decode cX7_divide 77 = .ok (.iload 5, 2) := by decide +kernel
theorem dX7_divide_79 : decode cX7_divide 79 = .ok (.isub, 1) := by decide +kernel
theorem dX7_divide_80 : decode cX7_divide 80 = .ok (.istore 6, 2) := by decide +kernel
theorem dX7_divide_82 : decode cX7_divide 82 = .ok (.aload_n 2, 1) := by decide +kernel
theorem dX7_divide_83 : decode cX7_divide 83 = .ok (.iload 6, 2) := by decide +kernel
theorem dX7_divide_85 : decode cX7_divide 85 = .ok (.iconst 1, 1) := by decide +kernel
theorem dX7_divide_86 : decode cX7_divide 86 = .ok (.iadd, 1) := by decide +kernel
theorem dX7_divide_87 : decode cX7_divide 87 = .ok (.invokevirtual 29, 3) := by decide +kernel
theorem dX7_divide_90 : decode cX7_divide 90 = .ok (.aload_n 3, 1) := by decide +kernel
theorem dX7_divide_91 : decode cX7_divide 91 = .ok (.getfield 7, 3) := by decide +kernel
theorem dX7_divide_94 : decode cX7_divide 94 = .ok (.iload 5, 2) := by decide +kernel
theorem dX7_divide_96 : decode cX7_divide 96 = .ok (.iconst 1, 1) := by decide +kernel
theorem dX7_divide_97 : decode cX7_divide 97 = .ok (.isub, 1) := by decide +kernel
theorem dX7_divide_98 : decode cX7_divide 98 = .ok (.iaload, 1) := by decide +kernel
theorem dX7_divide_99 : decode cX7_divide 99 = .ok (.invokestatic 47, 3) := by decide +kernel
theorem dX7_divide_102 : decode cX7_divide 102 = .ok (.lstore 7, 2) := by decide +kernel
theorem dX7_divide_104 : decode cX7_divide 104 = .ok (.iload 5, 2) := by decide +kernel
theorem dX7_divide_106 : decode cX7_divide 106 = .ok (.iconst 1, 1) := by decide +kernel
theorem dX7_divide_107 : decode cX7_divide 107 = .ok (.if_icmp .le 18, 3) := by decide +kernel
theorem dX7_divide_110 : decode cX7_divide 110 = .ok (.aload_n 3, 1) := by decide +kernel
theorem dX7_divide_111 : decode cX7_divide 111 = .ok (.getfield 7, 3) := by decide +kernel
theorem dX7_divide_114 : decode cX7_divide 114 = .ok (.iload 5, 2) := by decide +kernel
theorem dX7_divide_116 : decode cX7_divide 116 = .ok (.iconst 2, 1) := by decide +kernel
theorem dX7_divide_117 : decode cX7_divide 117 = .ok (.isub, 1) := by decide +kernel
theorem dX7_divide_118 : decode cX7_divide 118 = .ok (.iaload, 1) := by decide +kernel
theorem dX7_divide_119 : decode cX7_divide 119 = .ok (.invokestatic 47, 3) := by decide +kernel
theorem dX7_divide_122 : decode cX7_divide 122 = .ok (.goto 4, 3) := by decide +kernel
theorem dX7_divide_125 : decode cX7_divide 125 = .ok (.lconst 0, 1) := by decide +kernel
theorem dX7_divide_126 : decode cX7_divide 126 = .ok (.lstore 9, 2) := by decide +kernel
theorem dX7_divide_128 : decode cX7_divide 128 = .ok (.iload 6, 2) := by decide +kernel
theorem dX7_divide_130 : decode cX7_divide 130 = .ok (.istore 11, 2) := by decide +kernel
theorem dX7_divide_132 : decode cX7_divide 132 = .ok (.iload 11, 2) := by decide +kernel
theorem dX7_divide_134 : decode cX7_divide 134 = .ok (.ifCond .lt 155, 3) := by decide +kernel
theorem dX7_divide_137 : decode cX7_divide 137 = .ok (.aload_n 0, 1) := by decide +kernel
theorem dX7_divide_138 : decode cX7_divide 138 = .ok (.getfield 7, 3) := by decide +kernel
theorem dX7_divide_141 : decode cX7_divide 141 = .ok (.iload 11, 2) := by decide +kernel
theorem dX7_divide_143 : decode cX7_divide 143 = .ok (.iload 5, 2) := by decide +kernel
theorem dX7_divide_145 : decode cX7_divide 145 = .ok (.iadd, 1) := by decide +kernel
theorem dX7_divide_146 : decode cX7_divide 146 = .ok (.iaload, 1) := by decide +kernel
theorem dX7_divide_147 : decode cX7_divide 147 = .ok (.invokestatic 47, 3) := by decide +kernel
theorem dX7_divide_150 : decode cX7_divide 150 = .ok (.bipush 32, 2) := by decide +kernel
theorem dX7_divide_152 : decode cX7_divide 152 = .ok (.lshl, 1) := by decide +kernel
theorem dX7_divide_153 : decode cX7_divide 153 = .ok (.aload_n 0, 1) := by decide +kernel
theorem dX7_divide_154 : decode cX7_divide 154 = .ok (.getfield 7, 3) := by decide +kernel
theorem dX7_divide_157 : decode cX7_divide 157 = .ok (.iload 11, 2) := by decide +kernel
theorem dX7_divide_159 : decode cX7_divide 159 = .ok (.iload 5, 2) := by decide +kernel
theorem dX7_divide_161 : decode cX7_divide 161 = .ok (.iadd, 1) := by decide +kernel
theorem dX7_divide_162 : decode cX7_divide 162 = .ok (.iconst 1, 1) := by decide +kernel
theorem dX7_divide_163 : decode cX7_divide 163 = .ok (.isub, 1) := by decide +kernel
theorem dX7_divide_164 : decode cX7_divide 164 = .ok (.iaload, 1) := by decide +kernel
theorem dX7_divide_165 : decode cX7_divide 165 = .ok (.invokestatic 47, 3) := by decide +kernel
theorem dX7_divide_168 : decode cX7_divide 168 = .ok (.lor, 1) := by decide +kernel
theorem dX7_divide_169 : decode cX7_divide 169 = .ok (.lstore 12, 2) := by decide +kernel
theorem dX7_divide_171 : decode cX7_divide 171 = .ok (.lload 12, 2) := by decide +kernel
theorem dX7_divide_173 : decode cX7_divide 173 = .ok (.lload 7, 2) := by decide +kernel
theorem dX7_divide_175 : decode cX7_divide 175 = .ok (.invokestatic 62, 3) := by decide +kernel
theorem dX7_divide_178 : decode cX7_divide 178 = .ok (.lstore 14, 2) := by decide +kernel
theorem dX7_divide_180 : decode cX7_divide 180 = .ok (.lload 12, 2) := by decide +kernel
theorem dX7_divide_182 : decode cX7_divide 182 = .ok (.lload 14, 2) := by decide +kernel
theorem dX7_divide_184 : decode cX7_divide 184 = .ok (.lload 7, 2) := by decide +kernel
theorem dX7_divide_186 : decode cX7_divide 186 = .ok (.lmul, 1) := by decide +kernel
theorem dX7_divide_187 : decode cX7_divide 187 = .ok (.lsub, 1) := by decide +kernel
theorem dX7_divide_188 : decode cX7_divide 188 = .ok (.lstore 16, 2) := by decide +kernel
theorem dX7_divide_190 : decode cX7_divide 190 = .ok (.lload 16, 2) := by decide +kernel
theorem dX7_divide_192 : decode cX7_divide 192 = .ok (.bipush 32, 2) := by decide +kernel
theorem dX7_divide_194 : decode cX7_divide 194 = .ok (.lushr, 1) := by decide +kernel
theorem dX7_divide_195 : decode cX7_divide 195 = .ok (.lconst 0, 1) := by decide +kernel
theorem dX7_divide_196 : decode cX7_divide 196 = .ok (.lcmp, 1) := by decide +kernel
theorem dX7_divide_197 : decode cX7_divide 197 = .ok (.ifCond .ne 67, 3) := by decide +kernel
theorem dX7_divide_200 : decode cX7_divide 200 = .ok (.lload 14, 2) := by decide +kernel
theorem dX7_divide_202 : decode cX7_divide 202 = .ok (.bipush 32, 2) := by decide +kernel
theorem dX7_divide_204 : decode cX7_divide 204 = .ok (.lushr, 1) := by decide +kernel
theorem dX7_divide_205 : decode cX7_divide 205 = .ok (.lconst 0, 1) := by decide +kernel
theorem dX7_divide_206 : decode cX7_divide 206 = .ok (.lcmp, 1) := by decide +kernel
theorem dX7_divide_207 : decode cX7_divide 207 = .ok (.ifCond .ne 41, 3) := by decide +kernel
theorem dX7_divide_210 : decode cX7_divide 210 = .ok (.iload 5, 2) := by decide +kernel
theorem dX7_divide_212 : decode cX7_divide 212 = .ok (.iconst 1, 1) := by decide +kernel
theorem dX7_divide_213 : decode cX7_divide 213 = .ok (.if_icmp .le 51, 3) := by decide +kernel
theorem dX7_divide_216 : decode cX7_divide 216 = .ok (.lload 14, 2) := by decide +kernel
theorem dX7_divide_218 : decode cX7_divide 218 = .ok (.lload 9, 2) := by decide +kernel
theorem dX7_divide_220 : decode cX7_divide 220 = .ok (.lmul, 1) := by decide +kernel
theorem dX7_divide_221 : decode cX7_divide 221 = .ok (.lload 16, 2) := by decide +kernel
theorem dX7_divide_223 : decode cX7_divide 223 = .ok (.bipush 32, 2) := by decide +kernel
theorem dX7_divide_225 : decode cX7_divide 225 = .ok (.lshl, 1) := by decide +kernel
theorem dX7_divide_226 : decode cX7_divide 226 = .ok (.aload_n 0, 1) := by decide +kernel
theorem dX7_divide_227 : decode cX7_divide 227 = .ok (.getfield 7, 3) := by decide +kernel
theorem dX7_divide_230 : decode cX7_divide 230 = .ok (.iload 11, 2) := by decide +kernel
theorem dX7_divide_232 : decode cX7_divide 232 = .ok (.iload 5, 2) := by decide +kernel
theorem dX7_divide_234 : decode cX7_divide 234 = .ok (.iadd, 1) := by decide +kernel
theorem dX7_divide_235 : decode cX7_divide 235 = .ok (.iconst 2, 1) := by decide +kernel
theorem dX7_divide_236 : decode cX7_divide 236 = .ok (.isub, 1) := by decide +kernel
theorem dX7_divide_237 : decode cX7_divide 237 = .ok (.iaload, 1) := by decide +kernel
theorem dX7_divide_238 : decode cX7_divide 238 = .ok (.invokestatic 47, 3) := by decide +kernel
theorem dX7_divide_241 : decode cX7_divide 241 = .ok (.lor, 1) := by decide +kernel
theorem dX7_divide_242 : decode cX7_divide 242 = .ok (.invokestatic 68, 3) := by decide +kernel
theorem dX7_divide_245 : decode cX7_divide 245 = .ok (.ifCond .le 19, 3) := by decide +kernel
theorem dX7_divide_248 : decode cX7_divide 248 = .ok (.lload 14, 2) := by decide +kernel
theorem dX7_divide_250 : decode cX7_divide 250 = .ok (.lconst 1, 1) := by decide +kernel
theorem dX7_divide_251 : decode cX7_divide 251 = .ok (.lsub, 1) := by decide +kernel
theorem dX7_divide_252 : decode cX7_divide 252 = .ok (.lstore 14, 2) := by decide +kernel
theorem dX7_divide_254 : decode cX7_divide 254 = .ok (.lload 16, 2) := by decide +kernel
theorem dX7_divide_256 : decode cX7_divide 256 = .ok (.lload 7, 2) := by decide +kernel
theorem dX7_divide_258 : decode cX7_divide 258 = .ok (.ladd, 1) := by decide +kernel
theorem dX7_divide_259 : decode cX7_divide 259 = .ok (.lstore 16, 2) := by decide +kernel
theorem dX7_divide_261 : decode cX7_divide 261 = .ok (.goto (-71), 3) := by decide +kernel
theorem dX7_divide_264 : decode cX7_divide 264 = .ok (.aload_n 2, 1) := by decide +kernel
theorem dX7_divide_265 : decode cX7_divide 265 = .ok (.getfield 7, 3) := by decide +kernel
theorem dX7_divide_268 : decode cX7_divide 268 = .ok (.iload 11, 2) := by decide +kernel
theorem dX7_divide_270 : decode cX7_divide 270 = .ok (.aload_n 0, 1) := by decide +kernel
theorem dX7_divide_271 : decode cX7_divide 271 = .ok (.aload_n 3, 1) := by decide +kernel
theorem dX7_divide_272 : decode cX7_divide 272 = .ok (.iload 11, 2) := by decide +kernel
theorem dX7_divide_274 : decode cX7_divide 274 = .ok (.iload 5, 2) := by decide +kernel
theorem dX7_divide_276 : decode cX7_divide 276 = .ok (.lload 14, 2) := by decide +kernel
theorem dX7_divide_278 : decode cX7_divide 278 = .ok (.invokevirtual 71, 3) := by decide +kernel
theorem dX7_divide_281 : decode cX7_divide 281 = .ok (.l2i, 1) := by decide +kernel
theorem dX7_divide_282 : decode cX7_divide 282 = .ok (.iastore, 1) := by decide +kernel
theorem dX7_divide_283 : decode cX7_divide 283 = .ok (.iinc 11 (-1), 3) := by decide +kernel
theorem dX7_divide_286 : decode cX7_divide 286 = .ok (.goto (-154), 3) := by decide +kernel
theorem dX7_divide_289 : decode cX7_divide 289 = .ok (.aload_n 2, 1) := by decide +kernel
theorem dX7_divide_290 : decode cX7_divide 290 = .ok (.iload 6, 2) := by decide +kernel
theorem dX7_divide_292 : decode cX7_divide 292 = .ok (.iconst 1, 1) := by decide +kernel
theorem dX7_divide_293 : decode cX7_divide 293 = .ok (.iadd, 1) := by decide +kernel
theorem dX7_divide_294 : decode cX7_divide 294 = .ok (.putfield 19, 3) := by decide +kernel
theorem dX7_divide_297 : decode cX7_divide 297 = .ok (.aload_n 2, 1) := by decide +kernel
theorem dX7_divide_298 : decode cX7_divide 298 = .ok (.invokevirtual 33, 3) := by decide +kernel
theorem dX7_divide_301 : decode cX7_divide 301 = .ok (.aload_n 0, 1) := by decide +kernel
theorem dX7_divide_302 : decode cX7_divide 302 = .ok (.iload 5, 2) := by decide +kernel
theorem dX7_divide_304 : decode cX7_divide 304 = .ok (.putfield 19, 3) := by decide +kernel
theorem dX7_divide_307 : decode cX7_divide 307 = .ok (.aload_n 0, 1) := by decide +kernel
theorem dX7_divide_308 : decode cX7_divide 308 = .ok (.invokevirtual 33, 3) := by decide +kernel
theorem dX7_divide_311 : decode cX7_divide 311 = .ok (.aload_n 0, 1) := by decide +kernel
theorem dX7_divide_312 : decode cX7_divide 312 = .ok (.iload 4, 2) := by decide +kernel
theorem dX7_divide_314 : decode cX7_divide 314 = .ok (.invokevirtual 75, 3) := by decide +kernel
theorem dX7_divide_317 : decode cX7_divide 317 = .ok (.return_, 1) := by decide +kernel
abbrev cX7_shiftLeft : ByteArray := prog_2_method_15_code
def yX7_shiftLeft : MethodName := ⟨RX7, "shiftLeft", "(I)V"⟩
theorem dX7_shiftLeft_0 : decode cX7_shiftLeft 0 = .ok (.iload_n 1, 1) := by decide +kernel
theorem dX7_shiftLeft_1 : decode cX7_shiftLeft 1 = .ok (.iconst 5, 1) := by decide +kernel
theorem dX7_shiftLeft_2 : decode cX7_shiftLeft 2 = .ok (.ishr, 1) := by decide +kernel
theorem dX7_shiftLeft_3 : decode cX7_shiftLeft 3 = .ok (.istore_n 2, 1) := by decide +kernel
theorem dX7_shiftLeft_4 : decode cX7_shiftLeft 4 = .ok (.iload_n 1, 1) := by decide +kernel
theorem dX7_shiftLeft_5 : decode cX7_shiftLeft 5 = .ok (.bipush 31, 2) := by decide +kernel
theorem dX7_shiftLeft_7 : decode cX7_shiftLeft 7 = .ok (.iand, 1) := by decide +kernel
theorem dX7_shiftLeft_8 : decode cX7_shiftLeft 8 = .ok (.istore_n 3, 1) := by decide +kernel
theorem dX7_shiftLeft_9 : decode cX7_shiftLeft 9 = .ok (.aload_n 0, 1) := by decide +kernel
theorem dX7_shiftLeft_10 : decode cX7_shiftLeft 10 = .ok (.getfield 19, 3) := by decide +kernel
theorem dX7_shiftLeft_13 : decode cX7_shiftLeft 13 = .ok (.iload_n 2, 1) := by decide +kernel
theorem dX7_shiftLeft_14 : decode cX7_shiftLeft 14 = .ok (.iadd, 1) := by decide +kernel
theorem dX7_shiftLeft_15 : decode cX7_shiftLeft 15 = .ok (.iconst 1, 1) := by decide +kernel
theorem dX7_shiftLeft_16 : decode cX7_shiftLeft 16 = .ok (.iadd, 1) := by decide +kernel
theorem dX7_shiftLeft_17 : decode cX7_shiftLeft 17 = .ok (.istore 4, 2) := by decide +kernel
theorem dX7_shiftLeft_19 : decode cX7_shiftLeft 19 = .ok (.aload_n 0, 1) := by decide +kernel
theorem dX7_shiftLeft_20 : decode cX7_shiftLeft 20 = .ok (.iload 4, 2) := by decide +kernel
theorem dX7_shiftLeft_22 : decode cX7_shiftLeft 22 = .ok (.invokevirtual 29, 3) := by decide +kernel
theorem dX7_shiftLeft_25 : decode cX7_shiftLeft 25 = .ok (.iload 4, 2) := by decide +kernel
theorem dX7_shiftLeft_27 : decode cX7_shiftLeft 27 = .ok (.iconst 1, 1) := by decide +kernel
theorem dX7_shiftLeft_28 : decode cX7_shiftLeft 28 = .ok (.isub, 1) := by decide +kernel
theorem dX7_shiftLeft_29 : decode cX7_shiftLeft 29 = .ok (.istore 5, 2) := by decide +kernel
theorem dX7_shiftLeft_31 : decode cX7_shiftLeft 31 = .ok (.iload 5, 2) := by decide +kernel
theorem dX7_shiftLeft_33 : decode cX7_shiftLeft 33 = .ok (.ifCond .lt 98, 3) := by decide +kernel
theorem dX7_shiftLeft_36 : decode cX7_shiftLeft 36 = .ok (.iload 5, 2) := by decide +kernel
theorem dX7_shiftLeft_38 : decode cX7_shiftLeft 38 = .ok (.iload_n 2, 1) := by decide +kernel
theorem dX7_shiftLeft_39 : decode cX7_shiftLeft 39 = .ok (.isub, 1) := by decide +kernel
theorem dX7_shiftLeft_40 : decode cX7_shiftLeft 40 = .ok (.istore 6, 2) := by decide +kernel
theorem dX7_shiftLeft_42 : decode cX7_shiftLeft 42 = .ok (.iload 6, 2) := by decide +kernel
theorem dX7_shiftLeft_44 : decode cX7_shiftLeft 44 = .ok (.ifCond .lt 27, 3) := by decide +kernel
theorem dX7_shiftLeft_47 : decode cX7_shiftLeft 47 = .ok (.iload 6, 2) := by decide +kernel
theorem dX7_shiftLeft_49 : decode cX7_shiftLeft 49 = .ok (.aload_n 0, 1) := by decide +kernel
theorem dX7_shiftLeft_50 : decode cX7_shiftLeft 50 = .ok (.getfield 19, 3) := by decide +kernel
theorem dX7_shiftLeft_53 : decode cX7_shiftLeft 53 = .ok (.if_icmp .ge 18, 3) := by decide +kernel
theorem dX7_shiftLeft_56 : decode cX7_shiftLeft 56 = .ok (.aload_n 0, 1) := by decide +kernel
theorem dX7_shiftLeft_57 : decode cX7_shiftLeft 57 = .ok (.getfield 7, 3) := by decide +kernel
theorem dX7_shiftLeft_60 : decode cX7_shiftLeft 60 = .ok (.iload 6, 2) := by decide +kernel
theorem dX7_shiftLeft_62 : decode cX7_shiftLeft 62 = .ok (.iaload, 1) := by decide +kernel
theorem dX7_shiftLeft_63 : decode cX7_shiftLeft 63 = .ok (.invokestatic 47, 3) := by decide +kernel
theorem dX7_shiftLeft_66 : decode cX7_shiftLeft 66 = .ok (.iload_n 3, 1) := by decide +kernel
theorem dX7_shiftLeft_67 : decode cX7_shiftLeft 67 = .ok (.lshl, 1) := by decide +kernel
theorem dX7_shiftLeft_68 : decode cX7_shiftLeft 68 = .ok (.goto 4, 3) := by decide +kernel
theorem dX7_shiftLeft_71 : decode cX7_shiftLeft 71 = .ok (.lconst 0, 1) := by decide +kernel
theorem dX7_shiftLeft_72 : decode cX7_shiftLeft 72 = .ok (.lstore 7, 2) := by decide +kernel
theorem dX7_shiftLeft_74 : decode cX7_shiftLeft 74 = .ok (.iload 6, 2) := by decide +kernel
theorem dX7_shiftLeft_76 : decode cX7_shiftLeft 76 = .ok (.iconst 1, 1) := by decide +kernel
theorem dX7_shiftLeft_77 : decode cX7_shiftLeft 77 = .ok (.if_icmp .lt 32, 3) := by decide +kernel
theorem dX7_shiftLeft_80 : decode cX7_shiftLeft 80 = .ok (.iload 6, 2) := by decide +kernel
theorem dX7_shiftLeft_82 : decode cX7_shiftLeft 82 = .ok (.aload_n 0, 1) := by decide +kernel
theorem dX7_shiftLeft_83 : decode cX7_shiftLeft 83 = .ok (.getfield 19, 3) := by decide +kernel
theorem dX7_shiftLeft_86 : decode cX7_shiftLeft 86 = .ok (.if_icmp .gt 23, 3) := by decide +kernel
theorem dX7_shiftLeft_89 : decode cX7_shiftLeft 89 = .ok (.aload_n 0, 1) := by decide +kernel
theorem dX7_shiftLeft_90 : decode cX7_shiftLeft 90 = .ok (.getfield 7, 3) := by decide +kernel
theorem dX7_shiftLeft_93 : decode cX7_shiftLeft 93 = .ok (.iload 6, 2) := by decide +kernel
theorem dX7_shiftLeft_95 : decode cX7_shiftLeft 95 = .ok (.iconst 1, 1) := by decide +kernel
theorem dX7_shiftLeft_96 : decode cX7_shiftLeft 96 = .ok (.isub, 1) := by decide +kernel
theorem dX7_shiftLeft_97 : decode cX7_shiftLeft 97 = .ok (.iaload, 1) := by decide +kernel
theorem dX7_shiftLeft_98 : decode cX7_shiftLeft 98 = .ok (.invokestatic 47, 3) := by decide +kernel
theorem dX7_shiftLeft_101 : decode cX7_shiftLeft 101 = .ok (.iload_n 3, 1) := by decide +kernel
theorem dX7_shiftLeft_102 : decode cX7_shiftLeft 102 = .ok (.lshl, 1) := by decide +kernel
theorem dX7_shiftLeft_103 : decode cX7_shiftLeft 103 = .ok (.bipush 32, 2) := by decide +kernel
theorem dX7_shiftLeft_105 : decode cX7_shiftLeft 105 = .ok (.lushr, 1) := by decide +kernel
theorem dX7_shiftLeft_106 : decode cX7_shiftLeft 106 = .ok (.goto 4, 3) := by decide +kernel
theorem dX7_shiftLeft_109 : decode cX7_shiftLeft 109 = .ok (.lconst 0, 1) := by decide +kernel
theorem dX7_shiftLeft_110 : decode cX7_shiftLeft 110 = .ok (.lstore 9, 2) := by decide +kernel
theorem dX7_shiftLeft_112 : decode cX7_shiftLeft 112 = .ok (.aload_n 0, 1) := by decide +kernel
theorem dX7_shiftLeft_113 : decode cX7_shiftLeft 113 = .ok (.getfield 7, 3) := by decide +kernel
theorem dX7_shiftLeft_116 : decode cX7_shiftLeft 116 = .ok (.iload 5, 2) := by decide +kernel
theorem dX7_shiftLeft_118 : decode cX7_shiftLeft 118 = .ok (.lload 7, 2) := by decide +kernel
theorem dX7_shiftLeft_120 : decode cX7_shiftLeft 120 = .ok (.lload 9, 2) := by decide +kernel
theorem dX7_shiftLeft_122 : decode cX7_shiftLeft 122 = .ok (.lor, 1) := by decide +kernel
theorem dX7_shiftLeft_123 : decode cX7_shiftLeft 123 = .ok (.l2i, 1) := by decide +kernel
theorem dX7_shiftLeft_124 : decode cX7_shiftLeft 124 = .ok (.iastore, 1) := by decide +kernel
theorem dX7_shiftLeft_125 : decode cX7_shiftLeft 125 = .ok (.iinc 5 (-1), 3) := by decide +kernel
theorem dX7_shiftLeft_128 : decode cX7_shiftLeft 128 = .ok (.goto (-97), 3) := by decide +kernel
theorem dX7_shiftLeft_131 : decode cX7_shiftLeft 131 = .ok (.aload_n 0, 1) := by decide +kernel
theorem dX7_shiftLeft_132 : decode cX7_shiftLeft 132 = .ok (.iload 4, 2) := by decide +kernel
theorem dX7_shiftLeft_134 : decode cX7_shiftLeft 134 = .ok (.putfield 19, 3) := by decide +kernel
theorem dX7_shiftLeft_137 : decode cX7_shiftLeft 137 = .ok (.aload_n 0, 1) := by decide +kernel
theorem dX7_shiftLeft_138 : decode cX7_shiftLeft 138 = .ok (.invokevirtual 33, 3) := by decide +kernel
theorem dX7_shiftLeft_141 : decode cX7_shiftLeft 141 = .ok (.return_, 1) := by decide +kernel
abbrev cX7_taken : ByteArray := prog_2_method_18_code
def yX7_taken : MethodName := ⟨RX7, "taken", "(LPollAudit$Big;IIJ)J"⟩
theorem dX7_taken_0 : decode cX7_taken 0 = .ok (.lconst 0, 1) := by decide +kernel
theorem dX7_taken_1 : decode cX7_taken 1 = .ok (.lstore 6, 2) := by decide +kernel
theorem dX7_taken_3 : decode cX7_taken 3 = .ok (.lconst 0, 1) := by decide +kernel
theorem dX7_taken_4 : decode cX7_taken 4 = .ok (.lstore 8, 2) := by decide +kernel
theorem dX7_taken_6 : decode cX7_taken 6 = .ok (.iconst 0, 1) := by decide +kernel
theorem dX7_taken_7 : decode cX7_taken 7 = .ok (.istore 10, 2) := by decide +kernel
theorem dX7_taken_9 : decode cX7_taken 9 = .ok (.iload 10, 2) := by decide +kernel
theorem dX7_taken_11 : decode cX7_taken 11 = .ok (.iload_n 3, 1) := by decide +kernel
theorem dX7_taken_12 : decode cX7_taken 12 = .ok (.if_icmp .ge 77, 3) := by decide +kernel
theorem dX7_taken_15 : decode cX7_taken 15 = .ok (.lload 8, 2) := by decide +kernel
theorem dX7_taken_17 : decode cX7_taken 17 = .ok (.lload 4, 2) := by decide +kernel
theorem dX7_taken_19 : decode cX7_taken 19 = .ok (.aload_n 1, 1) := by decide +kernel
theorem dX7_taken_20 : decode cX7_taken 20 = .ok (.getfield 7, 3) := by decide +kernel
theorem dX7_taken_23 : decode cX7_taken 23 = .ok (.iload 10, 2) := by decide +kernel
theorem dX7_taken_25 : decode cX7_taken 25 = .ok (.iaload, 1) := by decide +kernel
theorem dX7_taken_26 : decode cX7_taken 26 = .ok (.invokestatic 47, 3) := by decide +kernel
theorem dX7_taken_29 : decode cX7_taken 29 = .ok (.lmul, 1) := by decide +kernel
theorem dX7_taken_30 : decode cX7_taken 30 = .ok (.ladd, 1) := by decide +kernel
theorem dX7_taken_31 : decode cX7_taken 31 = .ok (.lstore 8, 2) := by decide +kernel
theorem dX7_taken_33 : decode cX7_taken 33 = .ok (.lload 6, 2) := by decide +kernel
theorem dX7_taken_35 : decode cX7_taken 35 = .ok (.aload_n 0, 1) := by decide +kernel
theorem dX7_taken_36 : decode cX7_taken 36 = .ok (.getfield 7, 3) := by decide +kernel
theorem dX7_taken_39 : decode cX7_taken 39 = .ok (.iload_n 2, 1) := by decide +kernel
theorem dX7_taken_40 : decode cX7_taken 40 = .ok (.iload 10, 2) := by decide +kernel
theorem dX7_taken_42 : decode cX7_taken 42 = .ok (.iadd, 1) := by decide +kernel
theorem dX7_taken_43 : decode cX7_taken 43 = .ok (.iaload, 1) := by decide +kernel
theorem dX7_taken_44 : decode cX7_taken 44 = .ok (.invokestatic 47, 3) := by decide +kernel
theorem dX7_taken_47 : decode cX7_taken 47 = .ok (.lload 8, 2) := by decide +kernel
theorem dX7_taken_49 : decode cX7_taken 49 = .ok (.ldc2_w 45, 3) := by decide +kernel
theorem dX7_taken_52 : decode cX7_taken 52 = .ok (.land, 1) := by decide +kernel
theorem dX7_taken_53 : decode cX7_taken 53 = .ok (.lsub, 1) := by decide +kernel
theorem dX7_taken_54 : decode cX7_taken 54 = .ok (.ladd, 1) := by decide +kernel
theorem dX7_taken_55 : decode cX7_taken 55 = .ok (.lstore 6, 2) := by decide +kernel
theorem dX7_taken_57 : decode cX7_taken 57 = .ok (.aload_n 0, 1) := by decide +kernel
theorem dX7_taken_58 : decode cX7_taken 58 = .ok (.getfield 7, 3) := by decide +kernel
theorem dX7_taken_61 : decode cX7_taken 61 = .ok (.iload_n 2, 1) := by decide +kernel
theorem dX7_taken_62 : decode cX7_taken 62 = .ok (.iload 10, 2) := by decide +kernel
theorem dX7_taken_64 : decode cX7_taken 64 = .ok (.iadd, 1) := by decide +kernel
theorem dX7_taken_65 : decode cX7_taken 65 = .ok (.lload 6, 2) := by decide +kernel
theorem dX7_taken_67 : decode cX7_taken 67 = .ok (.l2i, 1) := by decide +kernel
theorem dX7_taken_68 : decode cX7_taken 68 = .ok (.iastore, 1) := by decide +kernel
theorem dX7_taken_69 : decode cX7_taken 69 = .ok (.lload 6, 2) := by decide +kernel
theorem dX7_taken_71 : decode cX7_taken 71 = .ok (.bipush 32, 2) := by decide +kernel
theorem dX7_taken_73 : decode cX7_taken 73 = .ok (.lshr, 1) := by decide +kernel
theorem dX7_taken_74 : decode cX7_taken 74 = .ok (.lstore 6, 2) := by decide +kernel
theorem dX7_taken_76 : decode cX7_taken 76 = .ok (.lload 8, 2) := by decide +kernel
theorem dX7_taken_78 : decode cX7_taken 78 = .ok (.bipush 32, 2) := by decide +kernel
theorem dX7_taken_80 : decode cX7_taken 80 = .ok (.lushr, 1) := by decide +kernel
theorem dX7_taken_81 : decode cX7_taken 81 = .ok (.lstore 8, 2) := by decide +kernel
theorem dX7_taken_83 : decode cX7_taken 83 = .ok (.iinc 10 1, 3) := by decide +kernel
theorem dX7_taken_86 : decode cX7_taken 86 = .ok (.goto (-77), 3) := by decide +kernel
theorem dX7_taken_89 : decode cX7_taken 89 = .ok (.lload 6, 2) := by decide +kernel
theorem dX7_taken_91 : decode cX7_taken 91 = .ok (.aload_n 0, 1) := by decide +kernel
theorem dX7_taken_92 : decode cX7_taken 92 = .ok (.getfield 7, 3) := by decide +kernel
theorem dX7_taken_95 : decode cX7_taken 95 = .ok (.iload_n 2, 1) := by decide +kernel
theorem dX7_taken_96 : decode cX7_taken 96 = .ok (.iload_n 3, 1) := by decide +kernel
theorem dX7_taken_97 : decode cX7_taken 97 = .ok (.iadd, 1) := by decide +kernel
theorem dX7_taken_98 : decode cX7_taken 98 = .ok (.iaload, 1) := by decide +kernel
theorem dX7_taken_99 : decode cX7_taken 99 = .ok (.invokestatic 47, 3) := by decide +kernel
theorem dX7_taken_102 : decode cX7_taken 102 = .ok (.lload 8, 2) := by decide +kernel
theorem dX7_taken_104 : decode cX7_taken 104 = .ok (.lsub, 1) := by decide +kernel
theorem dX7_taken_105 : decode cX7_taken 105 = .ok (.ladd, 1) := by decide +kernel
theorem dX7_taken_106 : decode cX7_taken 106 = .ok (.lstore 6, 2) := by decide +kernel
theorem dX7_taken_108 : decode cX7_taken 108 = .ok (.aload_n 0, 1) := by decide +kernel
theorem dX7_taken_109 : decode cX7_taken 109 = .ok (.getfield 7, 3) := by decide +kernel
theorem dX7_taken_112 : decode cX7_taken 112 = .ok (.iload_n 2, 1) := by decide +kernel
theorem dX7_taken_113 : decode cX7_taken 113 = .ok (.iload_n 3, 1) := by decide +kernel
theorem dX7_taken_114 : decode cX7_taken 114 = .ok (.iadd, 1) := by decide +kernel
theorem dX7_taken_115 : decode cX7_taken 115 = .ok (.lload 6, 2) := by decide +kernel
theorem dX7_taken_117 : decode cX7_taken 117 = .ok (.l2i, 1) := by decide +kernel
theorem dX7_taken_118 : decode cX7_taken 118 = .ok (.iastore, 1) := by decide +kernel
theorem dX7_taken_119 : decode cX7_taken 119 = .ok (.lload 6, 2) := by decide +kernel
theorem dX7_taken_121 : decode cX7_taken 121 = .ok (.lconst 0, 1) := by decide +kernel
theorem dX7_taken_122 : decode cX7_taken 122 = .ok (.lcmp, 1) := by decide +kernel
theorem dX7_taken_123 : decode cX7_taken 123 = .ok (.ifCond .lt 6, 3) := by decide +kernel
theorem dX7_taken_126 : decode cX7_taken 126 = .ok (.lload 4, 2) := by decide +kernel
theorem dX7_taken_128 : decode cX7_taken 128 = .ok (.lreturn, 1) := by decide +kernel
theorem dX7_taken_129 : decode cX7_taken 129 = .ok (.lconst 0, 1) := by decide +kernel
theorem dX7_taken_130 : decode cX7_taken 130 = .ok (.lstore 10, 2) := by decide +kernel
theorem dX7_taken_132 : decode cX7_taken 132 = .ok (.iconst 0, 1) := by decide +kernel
theorem dX7_taken_133 : decode cX7_taken 133 = .ok (.istore 12, 2) := by decide +kernel
theorem dX7_taken_135 : decode cX7_taken 135 = .ok (.iload 12, 2) := by decide +kernel
theorem dX7_taken_137 : decode cX7_taken 137 = .ok (.iload_n 3, 1) := by decide +kernel
theorem dX7_taken_138 : decode cX7_taken 138 = .ok (.if_icmp .ge 56, 3) := by decide +kernel
theorem dX7_taken_141 : decode cX7_taken 141 = .ok (.lload 10, 2) := by decide +kernel
theorem dX7_taken_143 : decode cX7_taken 143 = .ok (.aload_n 0, 1) := by decide +kernel
theorem dX7_taken_144 : decode cX7_taken 144 = .ok (.getfield 7, 3) := by decide +kernel
theorem dX7_taken_147 : decode cX7_taken 147 = .ok (.iload_n 2, 1) := by decide +kernel
theorem dX7_taken_148 : decode cX7_taken 148 = .ok (.iload 12, 2) := by decide +kernel
theorem dX7_taken_150 : decode cX7_taken 150 = .ok (.iadd, 1) := by decide +kernel
theorem dX7_taken_151 : decode cX7_taken 151 = .ok (.iaload, 1) := by decide +kernel
theorem dX7_taken_152 : decode cX7_taken 152 = .ok (.invokestatic 47, 3) := by decide +kernel
theorem dX7_taken_155 : decode cX7_taken 155 = .ok (.aload_n 1, 1) := by decide +kernel
theorem dX7_taken_156 : decode cX7_taken 156 = .ok (.getfield 7, 3) := by decide +kernel
theorem dX7_taken_159 : decode cX7_taken 159 = .ok (.iload 12, 2) := by decide +kernel
theorem dX7_taken_161 : decode cX7_taken 161 = .ok (.iaload, 1) := by decide +kernel
theorem dX7_taken_162 : decode cX7_taken 162 = .ok (.invokestatic 47, 3) := by decide +kernel
theorem dX7_taken_165 : decode cX7_taken 165 = .ok (.ladd, 1) := by decide +kernel
theorem dX7_taken_166 : decode cX7_taken 166 = .ok (.ladd, 1) := by decide +kernel
theorem dX7_taken_167 : decode cX7_taken 167 = .ok (.lstore 10, 2) := by decide +kernel
theorem dX7_taken_169 : decode cX7_taken 169 = .ok (.aload_n 0, 1) := by decide +kernel
theorem dX7_taken_170 : decode cX7_taken 170 = .ok (.getfield 7, 3) := by decide +kernel
theorem dX7_taken_173 : decode cX7_taken 173 = .ok (.iload_n 2, 1) := by decide +kernel
theorem dX7_taken_174 : decode cX7_taken 174 = .ok (.iload 12, 2) := by decide +kernel
theorem dX7_taken_176 : decode cX7_taken 176 = .ok (.iadd, 1) := by decide +kernel
theorem dX7_taken_177 : decode cX7_taken 177 = .ok (.lload 10, 2) := by decide +kernel
theorem dX7_taken_179 : decode cX7_taken 179 = .ok (.l2i, 1) := by decide +kernel
theorem dX7_taken_180 : decode cX7_taken 180 = .ok (.iastore, 1) := by decide +kernel
theorem dX7_taken_181 : decode cX7_taken 181 = .ok (.lload 10, 2) := by decide +kernel
theorem dX7_taken_183 : decode cX7_taken 183 = .ok (.bipush 32, 2) := by decide +kernel
theorem dX7_taken_185 : decode cX7_taken 185 = .ok (.lushr, 1) := by decide +kernel
theorem dX7_taken_186 : decode cX7_taken 186 = .ok (.lstore 10, 2) := by decide +kernel
theorem dX7_taken_188 : decode cX7_taken 188 = .ok (.iinc 12 1, 3) := by decide +kernel
theorem dX7_taken_191 : decode cX7_taken 191 = .ok (.goto (-56), 3) := by decide +kernel
theorem dX7_taken_194 : decode cX7_taken 194 = .ok (.aload_n 0, 1) := by decide +kernel
theorem dX7_taken_195 : decode cX7_taken 195 = .ok (.getfield 7, 3) := by decide +kernel
theorem dX7_taken_198 : decode cX7_taken 198 = .ok (.iload_n 2, 1) := by decide +kernel
theorem dX7_taken_199 : decode cX7_taken 199 = .ok (.iload_n 3, 1) := by decide +kernel
theorem dX7_taken_200 : decode cX7_taken 200 = .ok (.iadd, 1) := by decide +kernel
theorem dX7_taken_201 : decode cX7_taken 201 = .ok (.dup2, 1) := by decide +kernel
theorem dX7_taken_202 : decode cX7_taken 202 = .ok (.iaload, 1) := by decide +kernel
theorem dX7_taken_203 : decode cX7_taken 203 = .ok (.lload 10, 2) := by decide +kernel
theorem dX7_taken_205 : decode cX7_taken 205 = .ok (.l2i, 1) := by decide +kernel
theorem dX7_taken_206 : decode cX7_taken 206 = .ok (.iadd, 1) := by decide +kernel
theorem dX7_taken_207 : decode cX7_taken 207 = .ok (.iastore, 1) := by decide +kernel
theorem dX7_taken_208 : decode cX7_taken 208 = .ok (.lload 4, 2) := by decide +kernel
theorem dX7_taken_210 : decode cX7_taken 210 = .ok (.lconst 1, 1) := by decide +kernel
theorem dX7_taken_211 : decode cX7_taken 211 = .ok (.lsub, 1) := by decide +kernel
theorem dX7_taken_212 : decode cX7_taken 212 = .ok (.lreturn, 1) := by decide +kernel
abbrev cX7_shiftRight : ByteArray := prog_2_method_16_code
def yX7_shiftRight : MethodName := ⟨RX7, "shiftRight", "(I)V"⟩
theorem dX7_shiftRight_0 : decode cX7_shiftRight 0 = .ok (.iload_n 1, 1) := by decide +kernel
theorem dX7_shiftRight_1 : decode cX7_shiftRight 1 = .ok (.bipush 31, 2) := by decide +kernel
theorem dX7_shiftRight_3 : decode cX7_shiftRight 3 = .ok (.iand, 1) := by decide +kernel
theorem dX7_shiftRight_4 : decode cX7_shiftRight 4 = .ok (.istore_n 2, 1) := by decide +kernel
theorem dX7_shiftRight_5 : decode cX7_shiftRight 5 = .ok (.iconst 0, 1) := by decide +kernel
theorem dX7_shiftRight_6 : decode cX7_shiftRight 6 = .ok (.istore_n 3, 1) := by decide +kernel
theorem dX7_shiftRight_7 : decode cX7_shiftRight 7 = .ok (.iload_n 3, 1) := by decide +kernel
theorem dX7_shiftRight_8 : decode cX7_shiftRight 8 = .ok (.aload_n 0, 1) := by decide +kernel
theorem dX7_shiftRight_9 : decode cX7_shiftRight 9 = .ok (.getfield 19, 3) := by decide +kernel
theorem dX7_shiftRight_12 : decode cX7_shiftRight 12 = .ok (.if_icmp .ge 60, 3) := by decide +kernel
theorem dX7_shiftRight_15 : decode cX7_shiftRight 15 = .ok (.iload_n 3, 1) := by decide +kernel
theorem dX7_shiftRight_16 : decode cX7_shiftRight 16 = .ok (.iconst 1, 1) := by decide +kernel
theorem dX7_shiftRight_17 : decode cX7_shiftRight 17 = .ok (.iadd, 1) := by decide +kernel
theorem dX7_shiftRight_18 : decode cX7_shiftRight 18 = .ok (.aload_n 0, 1) := by decide +kernel
theorem dX7_shiftRight_19 : decode cX7_shiftRight 19 = .ok (.getfield 19, 3) := by decide +kernel
theorem dX7_shiftRight_22 : decode cX7_shiftRight 22 = .ok (.if_icmp .ge 20, 3) := by decide +kernel
theorem dX7_shiftRight_25 : decode cX7_shiftRight 25 = .ok (.aload_n 0, 1) := by decide +kernel
theorem dX7_shiftRight_26 : decode cX7_shiftRight 26 = .ok (.getfield 7, 3) := by decide +kernel
theorem dX7_shiftRight_29 : decode cX7_shiftRight 29 = .ok (.iload_n 3, 1) := by decide +kernel
theorem dX7_shiftRight_30 : decode cX7_shiftRight 30 = .ok (.iconst 1, 1) := by decide +kernel
theorem dX7_shiftRight_31 : decode cX7_shiftRight 31 = .ok (.iadd, 1) := by decide +kernel
theorem dX7_shiftRight_32 : decode cX7_shiftRight 32 = .ok (.iaload, 1) := by decide +kernel
theorem dX7_shiftRight_33 : decode cX7_shiftRight 33 = .ok (.invokestatic 47, 3) := by decide +kernel
theorem dX7_shiftRight_36 : decode cX7_shiftRight 36 = .ok (.bipush 32, 2) := by decide +kernel
theorem dX7_shiftRight_38 : decode cX7_shiftRight 38 = .ok (.lshl, 1) := by decide +kernel
theorem dX7_shiftRight_39 : decode cX7_shiftRight 39 = .ok (.goto 4, 3) := by decide +kernel
theorem dX7_shiftRight_42 : decode cX7_shiftRight 42 = .ok (.lconst 0, 1) := by decide +kernel
theorem dX7_shiftRight_43 : decode cX7_shiftRight 43 = .ok (.lstore 4, 2) := by decide +kernel
theorem dX7_shiftRight_45 : decode cX7_shiftRight 45 = .ok (.aload_n 0, 1) := by decide +kernel
theorem dX7_shiftRight_46 : decode cX7_shiftRight 46 = .ok (.getfield 7, 3) := by decide +kernel
theorem dX7_shiftRight_49 : decode cX7_shiftRight 49 = .ok (.iload_n 3, 1) := by decide +kernel
theorem dX7_shiftRight_50 : decode cX7_shiftRight 50 = .ok (.lload 4, 2) := by decide +kernel
theorem dX7_shiftRight_52 : decode cX7_shiftRight 52 = .ok (.aload_n 0, 1) := by decide +kernel
theorem dX7_shiftRight_53 : decode cX7_shiftRight 53 = .ok (.getfield 7, 3) := by decide +kernel
theorem dX7_shiftRight_56 : decode cX7_shiftRight 56 = .ok (.iload_n 3, 1) := by decide +kernel
theorem dX7_shiftRight_57 : decode cX7_shiftRight 57 = .ok (.iaload, 1) := by decide +kernel
theorem dX7_shiftRight_58 : decode cX7_shiftRight 58 = .ok (.invokestatic 47, 3) := by decide +kernel
theorem dX7_shiftRight_61 : decode cX7_shiftRight 61 = .ok (.lor, 1) := by decide +kernel
theorem dX7_shiftRight_62 : decode cX7_shiftRight 62 = .ok (.iload_n 2, 1) := by decide +kernel
theorem dX7_shiftRight_63 : decode cX7_shiftRight 63 = .ok (.lushr, 1) := by decide +kernel
theorem dX7_shiftRight_64 : decode cX7_shiftRight 64 = .ok (.l2i, 1) := by decide +kernel
theorem dX7_shiftRight_65 : decode cX7_shiftRight 65 = .ok (.iastore, 1) := by decide +kernel
theorem dX7_shiftRight_66 : decode cX7_shiftRight 66 = .ok (.iinc 3 1, 3) := by decide +kernel
theorem dX7_shiftRight_69 : decode cX7_shiftRight 69 = .ok (.goto (-62), 3) := by decide +kernel
theorem dX7_shiftRight_72 : decode cX7_shiftRight 72 = .ok (.aload_n 0, 1) := by decide +kernel
theorem dX7_shiftRight_73 : decode cX7_shiftRight 73 = .ok (.invokevirtual 33, 3) := by decide +kernel
theorem dX7_shiftRight_76 : decode cX7_shiftRight 76 = .ok (.return_, 1) := by decide +kernel
abbrev cX7_isOne : ByteArray := prog_2_method_7_code
def yX7_isOne : MethodName := ⟨RX7, "isOne", "()Z"⟩
theorem dX7_isOne_0 : decode cX7_isOne 0 = .ok (.aload_n 0, 1) := by decide +kernel
theorem dX7_isOne_1 : decode cX7_isOne 1 = .ok (.getfield 19, 3) := by decide +kernel
theorem dX7_isOne_4 : decode cX7_isOne 4 = .ok (.iconst 1, 1) := by decide +kernel
theorem dX7_isOne_5 : decode cX7_isOne 5 = .ok (.if_icmp .ne 17, 3) := by decide +kernel
theorem dX7_isOne_8 : decode cX7_isOne 8 = .ok (.aload_n 0, 1) := by decide +kernel
theorem dX7_isOne_9 : decode cX7_isOne 9 = .ok (.getfield 7, 3) := by decide +kernel
theorem dX7_isOne_12 : decode cX7_isOne 12 = .ok (.iconst 0, 1) := by decide +kernel
theorem dX7_isOne_13 : decode cX7_isOne 13 = .ok (.iaload, 1) := by decide +kernel
theorem dX7_isOne_14 : decode cX7_isOne 14 = .ok (.iconst 1, 1) := by decide +kernel
theorem dX7_isOne_15 : decode cX7_isOne 15 = .ok (.if_icmp .ne 7, 3) := by decide +kernel
theorem dX7_isOne_18 : decode cX7_isOne 18 = .ok (.iconst 1, 1) := by decide +kernel
theorem dX7_isOne_19 : decode cX7_isOne 19 = .ok (.goto 4, 3) := by decide +kernel
theorem dX7_isOne_22 : decode cX7_isOne 22 = .ok (.iconst 0, 1) := by decide +kernel
theorem dX7_isOne_23 : decode cX7_isOne 23 = .ok (.ireturn, 1) := by decide +kernel
theorem q59 : (Jvm.Cond.initialized "PollAudit$Big") ∈ lw_all := lw_g (lw_at lw_m1 7 rfl) rfl
theorem q165 : (Jvm.Cond.instantiable "PollAudit$Big" (2 : Nat)) ∈ lw_all := lw_g (lw_at lw_m1 113 rfl) rfl
theorem q167 : (Jvm.Cond.instanceMethod ({ cls := "PollAudit$Big", name := "<init>", desc := "(I)V" } : Jvm.MethodName)) ∈ lw_all := lw_g (lw_at lw_m1 115 rfl) rfl
theorem q168 : (Jvm.Cond.code ({ cls := "PollAudit$Big", name := "<init>", desc := "(I)V" } : Jvm.MethodName) prog_2_method_1_code (2 : Nat) (Option.none : Option Jvm.ClassFile.FieldType)) ∈ lw_all := lw_g (lw_at lw_m1 116 rfl) rfl
theorem q169 : (Jvm.Cond.methodLink "PollAudit$Big" (1 : Nat) ({ cls := "java/lang/Object", name := "<init>", desc := "()V" } : Jvm.MethodName)) ∈ lw_all := lw_g (lw_at lw_m1 117 rfl) rfl
theorem q170 : (Jvm.Cond.fieldLink "PollAudit$Big" (7 : Nat) "PollAudit$Big" "cells" "[I") ∈ lw_all := lw_g (lw_at lw_m1 118 rfl) rfl
theorem q172 : (Jvm.Cond.fieldLink "PollAudit$Big" (19 : Nat) "PollAudit$Big" "size" "I") ∈ lw_all := lw_g (lw_at lw_m1 120 rfl) rfl
theorem q174 : (Jvm.Cond.lays "PollAudit$Big" "PollAudit$Big" "cells" "[I") ∈ lw_all := lw_g (lw_at lw_m1 122 rfl) rfl
theorem q175 : (Jvm.Cond.soleField "PollAudit$Big" "cells") ∈ lw_all := lw_g (lw_at lw_m1 123 rfl) rfl
theorem q176 : (Jvm.Cond.lays "PollAudit$Big" "PollAudit$Big" "size" "I") ∈ lw_all := lw_g (lw_at lw_m1 124 rfl) rfl
theorem q177 : (Jvm.Cond.soleField "PollAudit$Big" "size") ∈ lw_all := lw_g (lw_at lw_m1 125 rfl) rfl
theorem q178 : (Jvm.Cond.superclass "PollAudit$Big" "java/lang/Object") ∈ lw_all := lw_g (lw_at lw_m1 126 rfl) rfl
theorem q272 : (Jvm.Cond.instanceMethod ({ cls := "PollAudit$Big", name := "set", desc := "(J)V" } : Jvm.MethodName)) ∈ lw_all := lw_g (lw_at lw_m1 220 rfl) rfl
theorem q273 : (Jvm.Cond.selects "PollAudit$Big" ({ cls := "PollAudit$Big", name := "set", desc := "(J)V" } : Jvm.MethodName) ({ cls := "PollAudit$Big", name := "set", desc := "(J)V" } : Jvm.MethodName)) ∈ lw_all := lw_g (lw_at lw_m1 221 rfl) rfl
theorem q274 : (Jvm.Cond.code ({ cls := "PollAudit$Big", name := "set", desc := "(J)V" } : Jvm.MethodName) prog_2_method_4_code (3 : Nat) (Option.none : Option Jvm.ClassFile.FieldType)) ∈ lw_all := lw_g (lw_at lw_m1 222 rfl) rfl
theorem q275 : (Jvm.Cond.methodLink "PollAudit$Big" (29 : Nat) ({ cls := "PollAudit$Big", name := "reserve", desc := "(I)V" } : Jvm.MethodName)) ∈ lw_all := lw_g (lw_at lw_m1 223 rfl) rfl
theorem q276 : (Jvm.Cond.privateMethod ({ cls := "PollAudit$Big", name := "reserve", desc := "(I)V" } : Jvm.MethodName)) ∈ lw_tbl := lw_at lw_m1 224 rfl
theorem q277 : (Jvm.Cond.instanceMethod ({ cls := "PollAudit$Big", name := "reserve", desc := "(I)V" } : Jvm.MethodName)) ∈ lw_all := lw_g (lw_at lw_m1 225 rfl) rfl
theorem q278 : (Jvm.Cond.code ({ cls := "PollAudit$Big", name := "reserve", desc := "(I)V" } : Jvm.MethodName) prog_2_method_2_code (3 : Nat) (Option.none : Option Jvm.ClassFile.FieldType)) ∈ lw_all := lw_g (lw_at lw_m1 226 rfl) rfl
theorem q279 : (Jvm.Cond.methodLink "PollAudit$Big" (13 : Nat) ({ cls := "java/lang/Math", name := "max", desc := "(II)I" } : Jvm.MethodName)) ∈ lw_all := lw_g (lw_at lw_m1 227 rfl) rfl
theorem q282 : (Jvm.Cond.methodLink "PollAudit$Big" (23 : Nat) ({ cls := "java/lang/System", name := "arraycopy", desc := "(Ljava/lang/Object;ILjava/lang/Object;II)V" } : Jvm.MethodName)) ∈ lw_all := lw_g (lw_at lw_m1 230 rfl) rfl
theorem q285 : (Jvm.Cond.methodLink "PollAudit$Big" (33 : Nat) ({ cls := "PollAudit$Big", name := "trim", desc := "()V" } : Jvm.MethodName)) ∈ lw_all := lw_g (lw_at lw_m1 233 rfl) rfl
theorem q286 : (Jvm.Cond.privateMethod ({ cls := "PollAudit$Big", name := "trim", desc := "()V" } : Jvm.MethodName)) ∈ lw_tbl := lw_at lw_m1 234 rfl
theorem q287 : (Jvm.Cond.instanceMethod ({ cls := "PollAudit$Big", name := "trim", desc := "()V" } : Jvm.MethodName)) ∈ lw_all := lw_g (lw_at lw_m1 235 rfl) rfl
theorem q288 : (Jvm.Cond.code ({ cls := "PollAudit$Big", name := "trim", desc := "()V" } : Jvm.MethodName) prog_2_method_3_code (1 : Nat) (Option.none : Option Jvm.ClassFile.FieldType)) ∈ lw_all := lw_g (lw_at lw_m1 236 rfl) rfl
theorem q775 : (Jvm.Cond.instanceMethod ({ cls := "PollAudit$Big", name := "product", desc := "(LPollAudit$Big;LPollAudit$Big;)V" } : Jvm.MethodName)) ∈ lw_all := lw_g (lw_at lw_m4 3 rfl) rfl
theorem q776 : (Jvm.Cond.selects "PollAudit$Big" ({ cls := "PollAudit$Big", name := "product", desc := "(LPollAudit$Big;LPollAudit$Big;)V" } : Jvm.MethodName) ({ cls := "PollAudit$Big", name := "product", desc := "(LPollAudit$Big;LPollAudit$Big;)V" } : Jvm.MethodName)) ∈ lw_all := lw_g (lw_at lw_m4 4 rfl) rfl
theorem q777 : (Jvm.Cond.code ({ cls := "PollAudit$Big", name := "product", desc := "(LPollAudit$Big;LPollAudit$Big;)V" } : Jvm.MethodName) prog_2_method_13_code (10 : Nat) (Option.none : Option Jvm.ClassFile.FieldType)) ∈ lw_all := lw_g (lw_at lw_m4 5 rfl) rfl
theorem q778 : (Jvm.Cond.methodLink "PollAudit$Big" (47 : Nat) ({ cls := "PollAudit$Big", name := "cell", desc := "(I)J" } : Jvm.MethodName)) ∈ lw_all := lw_g (lw_at lw_m4 6 rfl) rfl
theorem q779 : (Jvm.Cond.static ({ cls := "PollAudit$Big", name := "cell", desc := "(I)J" } : Jvm.MethodName)) ∈ lw_all := lw_g (lw_at lw_m4 7 rfl) rfl
theorem q780 : (Jvm.Cond.code ({ cls := "PollAudit$Big", name := "cell", desc := "(I)J" } : Jvm.MethodName) prog_2_method_10_code (1 : Nat) (Option.some Jvm.ClassFile.FieldType.long)) ∈ lw_all := lw_g (lw_at lw_m4 8 rfl) rfl
theorem q781 : (Jvm.Cond.constantLong "PollAudit$Big" (45 : Nat) (4294967295 : Int64)) ∈ lw_all := lw_g (lw_at lw_m4 9 rfl) rfl
theorem q783 : (Jvm.Cond.instanceMethod ({ cls := "PollAudit$Big", name := "copy", desc := "(LPollAudit$Big;)V" } : Jvm.MethodName)) ∈ lw_all := lw_g (lw_at lw_m4 11 rfl) rfl
theorem q784 : (Jvm.Cond.selects "PollAudit$Big" ({ cls := "PollAudit$Big", name := "copy", desc := "(LPollAudit$Big;)V" } : Jvm.MethodName) ({ cls := "PollAudit$Big", name := "copy", desc := "(LPollAudit$Big;)V" } : Jvm.MethodName)) ∈ lw_all := lw_g (lw_at lw_m4 12 rfl) rfl
theorem q785 : (Jvm.Cond.code ({ cls := "PollAudit$Big", name := "copy", desc := "(LPollAudit$Big;)V" } : Jvm.MethodName) prog_2_method_5_code (2 : Nat) (Option.none : Option Jvm.ClassFile.FieldType)) ∈ lw_all := lw_g (lw_at lw_m4 13 rfl) rfl
theorem q787 : (Jvm.Cond.instanceMethod ({ cls := "PollAudit$Big", name := "times", desc := "(I)V" } : Jvm.MethodName)) ∈ lw_all := lw_g (lw_at lw_m4 15 rfl) rfl
theorem q788 : (Jvm.Cond.selects "PollAudit$Big" ({ cls := "PollAudit$Big", name := "times", desc := "(I)V" } : Jvm.MethodName) ({ cls := "PollAudit$Big", name := "times", desc := "(I)V" } : Jvm.MethodName)) ∈ lw_all := lw_g (lw_at lw_m4 16 rfl) rfl
theorem q789 : (Jvm.Cond.code ({ cls := "PollAudit$Big", name := "times", desc := "(I)V" } : Jvm.MethodName) prog_2_method_14_code (5 : Nat) (Option.none : Option Jvm.ClassFile.FieldType)) ∈ lw_all := lw_g (lw_at lw_m4 17 rfl) rfl
theorem q803 : (Jvm.Cond.instanceMethod ({ cls := "PollAudit$Big", name := "compare", desc := "(LPollAudit$Big;)I" } : Jvm.MethodName)) ∈ lw_all := lw_g (lw_at lw_m4 31 rfl) rfl
theorem q804 : (Jvm.Cond.selects "PollAudit$Big" ({ cls := "PollAudit$Big", name := "compare", desc := "(LPollAudit$Big;)I" } : Jvm.MethodName) ({ cls := "PollAudit$Big", name := "compare", desc := "(LPollAudit$Big;)I" } : Jvm.MethodName)) ∈ lw_all := lw_g (lw_at lw_m4 32 rfl) rfl
theorem q805 : (Jvm.Cond.code ({ cls := "PollAudit$Big", name := "compare", desc := "(LPollAudit$Big;)I" } : Jvm.MethodName) prog_2_method_9_code (3 : Nat) (Option.some Jvm.ClassFile.FieldType.int)) ∈ lw_all := lw_g (lw_at lw_m4 33 rfl) rfl
theorem q806 : (Jvm.Cond.methodLink "PollAudit$Big" (42 : Nat) ({ cls := "java/lang/Integer", name := "compareUnsigned", desc := "(II)I" } : Jvm.MethodName)) ∈ lw_all := lw_g (lw_at lw_m4 34 rfl) rfl
theorem q920 : (Jvm.Cond.instanceMethod ({ cls := "PollAudit$Big", name := "add", desc := "(LPollAudit$Big;)V" } : Jvm.MethodName)) ∈ lw_all := lw_g (lw_at lw_m4 148 rfl) rfl
theorem q921 : (Jvm.Cond.selects "PollAudit$Big" ({ cls := "PollAudit$Big", name := "add", desc := "(LPollAudit$Big;)V" } : Jvm.MethodName) ({ cls := "PollAudit$Big", name := "add", desc := "(LPollAudit$Big;)V" } : Jvm.MethodName)) ∈ lw_all := lw_g (lw_at lw_m4 149 rfl) rfl
theorem q922 : (Jvm.Cond.code ({ cls := "PollAudit$Big", name := "add", desc := "(LPollAudit$Big;)V" } : Jvm.MethodName) prog_2_method_11_code (6 : Nat) (Option.none : Option Jvm.ClassFile.FieldType)) ∈ lw_all := lw_g (lw_at lw_m4 150 rfl) rfl
theorem q932 : (Jvm.Cond.instanceMethod ({ cls := "PollAudit$Big", name := "isZero", desc := "()Z" } : Jvm.MethodName)) ∈ lw_all := lw_g (lw_at lw_m4 160 rfl) rfl
theorem q933 : (Jvm.Cond.selects "PollAudit$Big" ({ cls := "PollAudit$Big", name := "isZero", desc := "()Z" } : Jvm.MethodName) ({ cls := "PollAudit$Big", name := "isZero", desc := "()Z" } : Jvm.MethodName)) ∈ lw_all := lw_g (lw_at lw_m4 161 rfl) rfl
theorem q934 : (Jvm.Cond.code ({ cls := "PollAudit$Big", name := "isZero", desc := "()Z" } : Jvm.MethodName) prog_2_method_6_code (1 : Nat) (Option.some Jvm.ClassFile.FieldType.boolean)) ∈ lw_all := lw_g (lw_at lw_m4 162 rfl) rfl
theorem q936 : (Jvm.Cond.instanceMethod ({ cls := "PollAudit$Big", name := "divide", desc := "(LPollAudit$Big;LPollAudit$Big;LPollAudit$Big;)V" } : Jvm.MethodName)) ∈ lw_all := lw_g (lw_at lw_m4 164 rfl) rfl
theorem q937 : (Jvm.Cond.selects "PollAudit$Big" ({ cls := "PollAudit$Big", name := "divide", desc := "(LPollAudit$Big;LPollAudit$Big;LPollAudit$Big;)V" } : Jvm.MethodName) ({ cls := "PollAudit$Big", name := "divide", desc := "(LPollAudit$Big;LPollAudit$Big;LPollAudit$Big;)V" } : Jvm.MethodName)) ∈ lw_all := lw_g (lw_at lw_m4 165 rfl) rfl
theorem q938 : (Jvm.Cond.code ({ cls := "PollAudit$Big", name := "divide", desc := "(LPollAudit$Big;LPollAudit$Big;LPollAudit$Big;)V" } : Jvm.MethodName) prog_2_method_17_code (18 : Nat) (Option.none : Option Jvm.ClassFile.FieldType)) ∈ lw_all := lw_g (lw_at lw_m4 166 rfl) rfl
theorem q939 : (Jvm.Cond.methodLink "PollAudit$Big" (51 : Nat) ({ cls := "PollAudit$Big", name := "compare", desc := "(LPollAudit$Big;)I" } : Jvm.MethodName)) ∈ lw_all := lw_g (lw_at lw_m4 167 rfl) rfl
theorem q940 : (Jvm.Cond.methodLink "PollAudit$Big" (36 : Nat) ({ cls := "java/lang/Integer", name := "numberOfLeadingZeros", desc := "(I)I" } : Jvm.MethodName)) ∈ lw_all := lw_g (lw_at lw_m4 168 rfl) rfl
theorem q944 : (Jvm.Cond.methodLink "PollAudit$Big" (55 : Nat) ({ cls := "PollAudit$Big", name := "copy", desc := "(LPollAudit$Big;)V" } : Jvm.MethodName)) ∈ lw_all := lw_g (lw_at lw_m4 172 rfl) rfl
theorem q945 : (Jvm.Cond.methodLink "PollAudit$Big" (59 : Nat) ({ cls := "PollAudit$Big", name := "shiftLeft", desc := "(I)V" } : Jvm.MethodName)) ∈ lw_all := lw_g (lw_at lw_m4 173 rfl) rfl
theorem q946 : (Jvm.Cond.privateMethod ({ cls := "PollAudit$Big", name := "shiftLeft", desc := "(I)V" } : Jvm.MethodName)) ∈ lw_tbl := lw_at lw_m4 174 rfl
theorem q947 : (Jvm.Cond.instanceMethod ({ cls := "PollAudit$Big", name := "shiftLeft", desc := "(I)V" } : Jvm.MethodName)) ∈ lw_all := lw_g (lw_at lw_m4 175 rfl) rfl
theorem q948 : (Jvm.Cond.code ({ cls := "PollAudit$Big", name := "shiftLeft", desc := "(I)V" } : Jvm.MethodName) prog_2_method_15_code (11 : Nat) (Option.none : Option Jvm.ClassFile.FieldType)) ∈ lw_all := lw_g (lw_at lw_m4 176 rfl) rfl
theorem q949 : (Jvm.Cond.methodLink "PollAudit$Big" (62 : Nat) ({ cls := "java/lang/Long", name := "divideUnsigned", desc := "(JJ)J" } : Jvm.MethodName)) ∈ lw_all := lw_g (lw_at lw_m4 177 rfl) rfl
theorem q953 : (Jvm.Cond.methodLink "PollAudit$Big" (68 : Nat) ({ cls := "java/lang/Long", name := "compareUnsigned", desc := "(JJ)I" } : Jvm.MethodName)) ∈ lw_all := lw_g (lw_at lw_m4 181 rfl) rfl
theorem q960 : (Jvm.Cond.methodLink "PollAudit$Big" (71 : Nat) ({ cls := "PollAudit$Big", name := "taken", desc := "(LPollAudit$Big;IIJ)J" } : Jvm.MethodName)) ∈ lw_all := lw_g (lw_at lw_m4 188 rfl) rfl
theorem q961 : (Jvm.Cond.privateMethod ({ cls := "PollAudit$Big", name := "taken", desc := "(LPollAudit$Big;IIJ)J" } : Jvm.MethodName)) ∈ lw_tbl := lw_at lw_m4 189 rfl
theorem q962 : (Jvm.Cond.instanceMethod ({ cls := "PollAudit$Big", name := "taken", desc := "(LPollAudit$Big;IIJ)J" } : Jvm.MethodName)) ∈ lw_all := lw_g (lw_at lw_m4 190 rfl) rfl
theorem q963 : (Jvm.Cond.code ({ cls := "PollAudit$Big", name := "taken", desc := "(LPollAudit$Big;IIJ)J" } : Jvm.MethodName) prog_2_method_18_code (13 : Nat) (Option.some Jvm.ClassFile.FieldType.long)) ∈ lw_all := lw_g (lw_at lw_m4 191 rfl) rfl
theorem q964 : (Jvm.Cond.methodLink "PollAudit$Big" (75 : Nat) ({ cls := "PollAudit$Big", name := "shiftRight", desc := "(I)V" } : Jvm.MethodName)) ∈ lw_all := lw_g (lw_at lw_m4 192 rfl) rfl
theorem q965 : (Jvm.Cond.privateMethod ({ cls := "PollAudit$Big", name := "shiftRight", desc := "(I)V" } : Jvm.MethodName)) ∈ lw_tbl := lw_at lw_m4 193 rfl
theorem q966 : (Jvm.Cond.instanceMethod ({ cls := "PollAudit$Big", name := "shiftRight", desc := "(I)V" } : Jvm.MethodName)) ∈ lw_all := lw_g (lw_at lw_m4 194 rfl) rfl
theorem q967 : (Jvm.Cond.code ({ cls := "PollAudit$Big", name := "shiftRight", desc := "(I)V" } : Jvm.MethodName) prog_2_method_16_code (6 : Nat) (Option.none : Option Jvm.ClassFile.FieldType)) ∈ lw_all := lw_g (lw_at lw_m4 195 rfl) rfl
theorem q969 : (Jvm.Cond.instanceMethod ({ cls := "PollAudit$Big", name := "isOne", desc := "()Z" } : Jvm.MethodName)) ∈ lw_all := lw_g (lw_at lw_m4 197 rfl) rfl
theorem q970 : (Jvm.Cond.selects "PollAudit$Big" ({ cls := "PollAudit$Big", name := "isOne", desc := "()Z" } : Jvm.MethodName) ({ cls := "PollAudit$Big", name := "isOne", desc := "()Z" } : Jvm.MethodName)) ∈ lw_all := lw_g (lw_at lw_m4 198 rfl) rfl
theorem q971 : (Jvm.Cond.code ({ cls := "PollAudit$Big", name := "isOne", desc := "()Z" } : Jvm.MethodName) prog_2_method_7_code (1 : Nat) (Option.some Jvm.ClassFile.FieldType.boolean)) ∈ lw_all := lw_g (lw_at lw_m4 199 rfl) rfl
