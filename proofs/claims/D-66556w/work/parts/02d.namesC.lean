set_option maxRecDepth 100000
def RJ1 : String := "java/lang/Throwable"
def TJ1 : u_T := fun k => match k with
  | 0 => ("java/lang/Throwable", "cause", "Ljava/lang/Throwable;", false)
  | 1 => ("java/lang/Throwable", "stackTrace", "[Ljava/lang/StackTraceElement;", false)
  | 2 => ("java/lang/Throwable", "suppressedExceptions", "Ljava/util/List;", false)
  | 3 => ("java/lang/Throwable", "detailMessage", "Ljava/lang/String;", false)
  | _ => ("java/lang/Throwable", "backtrace", "Ljava/lang/Object;", false)
def tyJ1 : Nat → FieldType := fun k => match k with
  | 0 => .object "java/lang/Throwable"
  | 1 => .array (.object "java/lang/StackTraceElement")
  | 2 => .object "java/util/List"
  | 3 => .object "java/lang/String"
  | _ => .object "java/lang/Object"
abbrev wsJ10 : List Cond := u_ws RJ1 TJ1 5
theorem nmJ1 : ∀ a, a < 5 → ∀ b, b < 5 → a ≠ b → (TJ1 a).2.1 ≠ (TJ1 b).2.1 := by decide +kernel
theorem tyJ1_ok : ∀ k, k < 5 → parseFieldDescriptor (TJ1 k).2.2.1 = some (tyJ1 k) := by decide +kernel
abbrev cJ1_init : ByteArray := prog_25_method_1_code
def yJ1_init : MethodName := ⟨RJ1, "<init>", "()V"⟩
theorem dJ1_init_0 : decode cJ1_init 0 = .ok (.aload_n 0, 1) := by decide +kernel
theorem dJ1_init_1 : decode cJ1_init 1 = .ok (.invokespecial 1, 3) := by decide +kernel
theorem dJ1_init_4 : decode cJ1_init 4 = .ok (.aload_n 0, 1) := by decide +kernel
theorem dJ1_init_5 : decode cJ1_init 5 = .ok (.aload_n 0, 1) := by decide +kernel
theorem dJ1_init_6 : decode cJ1_init 6 = .ok (.putfield 7, 3) := by decide +kernel
theorem dJ1_init_9 : decode cJ1_init 9 = .ok (.aload_n 0, 1) := by decide +kernel
theorem dJ1_init_10 : decode cJ1_init 10 = .ok (.getstatic 13, 3) := by decide +kernel
theorem dJ1_init_13 : decode cJ1_init 13 = .ok (.putfield 17, 3) := by decide +kernel
theorem dJ1_init_16 : decode cJ1_init 16 = .ok (.aload_n 0, 1) := by decide +kernel
theorem dJ1_init_17 : decode cJ1_init 17 = .ok (.getstatic 20, 3) := by decide +kernel
theorem dJ1_init_20 : decode cJ1_init 20 = .ok (.putfield 24, 3) := by decide +kernel
theorem dJ1_init_23 : decode cJ1_init 23 = .ok (.aload_n 0, 1) := by decide +kernel
theorem dJ1_init_24 : decode cJ1_init 24 = .ok (.invokevirtual 27, 3) := by decide +kernel
theorem dJ1_init_27 : decode cJ1_init 27 = .ok (.pop, 1) := by decide +kernel
theorem dJ1_init_28 : decode cJ1_init 28 = .ok (.return_, 1) := by decide +kernel
abbrev cJ1_init_2 : ByteArray := prog_25_method_2_code
def yJ1_init_2 : MethodName := ⟨RJ1, "<init>", "(Ljava/lang/String;)V"⟩
theorem dJ1_init_2_0 : decode cJ1_init_2 0 = .ok (.aload_n 0, 1) := by decide +kernel
theorem dJ1_init_2_1 : decode cJ1_init_2 1 = .ok (.invokespecial 1, 3) := by decide +kernel
theorem dJ1_init_2_4 : decode cJ1_init_2 4 = .ok (.aload_n 0, 1) := by decide +kernel
theorem dJ1_init_2_5 : decode cJ1_init_2 5 = .ok (.aload_n 0, 1) := by decide +kernel
theorem dJ1_init_2_6 : decode cJ1_init_2 6 = .ok (.putfield 7, 3) := by decide +kernel
theorem dJ1_init_2_9 : decode cJ1_init_2 9 = .ok (.aload_n 0, 1) := by decide +kernel
theorem dJ1_init_2_10 : decode cJ1_init_2 10 = .ok (.getstatic 13, 3) := by decide +kernel
theorem dJ1_init_2_13 : decode cJ1_init_2 13 = .ok (.putfield 17, 3) := by decide +kernel
theorem dJ1_init_2_16 : decode cJ1_init_2 16 = .ok (.aload_n 0, 1) := by decide +kernel
theorem dJ1_init_2_17 : decode cJ1_init_2 17 = .ok (.getstatic 20, 3) := by decide +kernel
theorem dJ1_init_2_20 : decode cJ1_init_2 20 = .ok (.putfield 24, 3) := by decide +kernel
theorem dJ1_init_2_23 : decode cJ1_init_2 23 = .ok (.aload_n 0, 1) := by decide +kernel
theorem dJ1_init_2_24 : decode cJ1_init_2 24 = .ok (.invokevirtual 27, 3) := by decide +kernel
theorem dJ1_init_2_27 : decode cJ1_init_2 27 = .ok (.pop, 1) := by decide +kernel
theorem dJ1_init_2_28 : decode cJ1_init_2 28 = .ok (.aload_n 0, 1) := by decide +kernel
theorem dJ1_init_2_29 : decode cJ1_init_2 29 = .ok (.aload_n 1, 1) := by decide +kernel
theorem dJ1_init_2_30 : decode cJ1_init_2 30 = .ok (.putfield 31, 3) := by decide +kernel
theorem dJ1_init_2_33 : decode cJ1_init_2 33 = .ok (.return_, 1) := by decide +kernel
theorem q65 : (Jvm.Cond.initialized "java/lang/Throwable") ∈ lw_all := lw_g (lw_at lw_m1 13 rfl) rfl
theorem q451 : (Jvm.Cond.declares ({ cls := "java/lang/Throwable", name := "<init>", desc := "()V" } : Jvm.MethodName)) ∈ lw_tbl := lw_at lw_m2 159 rfl
theorem q452 : (Jvm.Cond.declares ({ cls := "java/lang/Throwable", name := "<init>", desc := "(Ljava/lang/String;)V" } : Jvm.MethodName)) ∈ lw_tbl := lw_at lw_m2 160 rfl
theorem q456 : (Jvm.Cond.lays "java/lang/Throwable" "java/lang/Throwable" "cause" "Ljava/lang/Throwable;") ∈ lw_all := lw_g (lw_at lw_m2 164 rfl) rfl
theorem q458 : (Jvm.Cond.lays "java/lang/Throwable" "java/lang/Throwable" "stackTrace" "[Ljava/lang/StackTraceElement;") ∈ lw_all := lw_g (lw_at lw_m2 166 rfl) rfl
theorem q460 : (Jvm.Cond.lays "java/lang/Throwable" "java/lang/Throwable" "suppressedExceptions" "Ljava/util/List;") ∈ lw_all := lw_g (lw_at lw_m2 168 rfl) rfl
theorem q462 : (Jvm.Cond.lays "java/lang/Throwable" "java/lang/Throwable" "detailMessage" "Ljava/lang/String;") ∈ lw_all := lw_g (lw_at lw_m2 170 rfl) rfl
theorem q464 : (Jvm.Cond.lays "java/lang/Throwable" "java/lang/Throwable" "backtrace" "Ljava/lang/Object;") ∈ lw_all := lw_g (lw_at lw_m2 172 rfl) rfl
theorem q465 : (Jvm.Cond.fieldLink "java/lang/Throwable" (198 : Nat) "java/lang/Throwable" "backtrace" "Ljava/lang/Object;") ∈ lw_all := lw_g (lw_at lw_m2 173 rfl) rfl
theorem q466 : (Jvm.Cond.superclass "java/lang/Throwable" "java/lang/Object") ∈ lw_all := lw_g (lw_at lw_m2 174 rfl) rfl
theorem q467 : (Jvm.Cond.instanceMethod ({ cls := "java/lang/Throwable", name := "<init>", desc := "()V" } : Jvm.MethodName)) ∈ lw_all := lw_g (lw_at lw_m2 175 rfl) rfl
theorem q468 : (Jvm.Cond.code ({ cls := "java/lang/Throwable", name := "<init>", desc := "()V" } : Jvm.MethodName) prog_25_method_1_code (1 : Nat) (Option.none : Option Jvm.ClassFile.FieldType)) ∈ lw_all := lw_g (lw_at lw_m2 176 rfl) rfl
theorem q469 : (Jvm.Cond.methodLink "java/lang/Throwable" (1 : Nat) ({ cls := "java/lang/Object", name := "<init>", desc := "()V" } : Jvm.MethodName)) ∈ lw_all := lw_g (lw_at lw_m2 177 rfl) rfl
theorem q470 : (Jvm.Cond.fieldLink "java/lang/Throwable" (13 : Nat) "java/lang/Throwable" "UNASSIGNED_STACK" "[Ljava/lang/StackTraceElement;") ∈ lw_all := lw_g (lw_at lw_m2 178 rfl) rfl
theorem q471 : (Jvm.Cond.laysStatic "java/lang/Throwable" "UNASSIGNED_STACK" "[Ljava/lang/StackTraceElement;") ∈ lw_tbl := lw_at lw_m2 179 rfl
theorem q472 : (Jvm.Cond.fieldLink "java/lang/Throwable" (20 : Nat) "java/lang/Throwable" "SUPPRESSED_SENTINEL" "Ljava/util/List;") ∈ lw_all := lw_g (lw_at lw_m2 180 rfl) rfl
theorem q473 : (Jvm.Cond.laysStatic "java/lang/Throwable" "SUPPRESSED_SENTINEL" "Ljava/util/List;") ∈ lw_tbl := lw_at lw_m2 181 rfl
theorem q474 : (Jvm.Cond.methodLink "java/lang/Throwable" (27 : Nat) ({ cls := "java/lang/Throwable", name := "fillInStackTrace", desc := "()Ljava/lang/Throwable;" } : Jvm.MethodName)) ∈ lw_all := lw_g (lw_at lw_m2 182 rfl) rfl
theorem q475 : (Jvm.Cond.instanceMethod ({ cls := "java/lang/Throwable", name := "fillInStackTrace", desc := "()Ljava/lang/Throwable;" } : Jvm.MethodName)) ∈ lw_all := lw_g (lw_at lw_m2 183 rfl) rfl
theorem q476 : (Jvm.Cond.sameMethod "java/lang/Throwable" "java/lang/Throwable" "fillInStackTrace" "()Ljava/lang/Throwable;") ∈ lw_all := lw_g (lw_at lw_m2 184 rfl) rfl
theorem q481 : (Jvm.Cond.codeSync ({ cls := "java/lang/Throwable", name := "fillInStackTrace", desc := "()Ljava/lang/Throwable;" } : Jvm.MethodName) prog_25_method_18_code (1 : Nat) (Option.some (Jvm.ClassFile.FieldType.object "java/lang/Throwable"))) ∈ lw_all := lw_g (lw_at lw_m2 189 rfl) rfl
theorem q482 : (Jvm.Cond.methodLink "java/lang/Throwable" (202 : Nat) ({ cls := "java/lang/Throwable", name := "fillInStackTrace", desc := "(I)Ljava/lang/Throwable;" } : Jvm.MethodName)) ∈ lw_all := lw_g (lw_at lw_m2 190 rfl) rfl
theorem q483 : (Jvm.Cond.privateMethod ({ cls := "java/lang/Throwable", name := "fillInStackTrace", desc := "(I)Ljava/lang/Throwable;" } : Jvm.MethodName)) ∈ lw_tbl := lw_at lw_m2 191 rfl
theorem q484 : (Jvm.Cond.instanceMethod ({ cls := "java/lang/Throwable", name := "fillInStackTrace", desc := "(I)Ljava/lang/Throwable;" } : Jvm.MethodName)) ∈ lw_all := lw_g (lw_at lw_m2 192 rfl) rfl
theorem q485 : (Jvm.Cond.instantiable "java/lang/Throwable" (6 : Nat)) ∈ lw_all := lw_g (lw_at lw_m2 193 rfl) rfl
theorem q486 : (Jvm.Cond.native ({ cls := "java/lang/Throwable", name := "fillInStackTrace", desc := "(I)Ljava/lang/Throwable;" } : Jvm.MethodName)) ∈ lw_all := lw_g (lw_at lw_m2 194 rfl) rfl
theorem q498 : (Jvm.Cond.instanceMethod ({ cls := "java/lang/Throwable", name := "<init>", desc := "(Ljava/lang/String;)V" } : Jvm.MethodName)) ∈ lw_all := lw_g (lw_at lw_m2 206 rfl) rfl
theorem q499 : (Jvm.Cond.code ({ cls := "java/lang/Throwable", name := "<init>", desc := "(Ljava/lang/String;)V" } : Jvm.MethodName) prog_25_method_2_code (2 : Nat) (Option.none : Option Jvm.ClassFile.FieldType)) ∈ lw_all := lw_g (lw_at lw_m2 207 rfl) rfl
theorem q500 : (Jvm.Cond.fieldLink "java/lang/Throwable" (198 : Nat) "java/lang/Throwable" "backtrace" "Ljava/lang/Object;") ∈ lw_all := lw_g (lw_at lw_m2 208 rfl) rfl
theorem q501 : (Jvm.Cond.fieldLink "java/lang/Throwable" (31 : Nat) "java/lang/Throwable" "detailMessage" "Ljava/lang/String;") ∈ lw_all := lw_g (lw_at lw_m2 209 rfl) rfl
theorem q502 : (Jvm.Cond.fieldLink "java/lang/Throwable" (7 : Nat) "java/lang/Throwable" "cause" "Ljava/lang/Throwable;") ∈ lw_all := lw_g (lw_at lw_m2 210 rfl) rfl
theorem q503 : (Jvm.Cond.fieldLink "java/lang/Throwable" (17 : Nat) "java/lang/Throwable" "stackTrace" "[Ljava/lang/StackTraceElement;") ∈ lw_all := lw_g (lw_at lw_m2 211 rfl) rfl
theorem q504 : (Jvm.Cond.fieldLink "java/lang/Throwable" (24 : Nat) "java/lang/Throwable" "suppressedExceptions" "Ljava/util/List;") ∈ lw_all := lw_g (lw_at lw_m2 212 rfl) rfl
theorem q505 : (Jvm.Cond.soleField "java/lang/Throwable" "backtrace") ∈ lw_all := lw_g (lw_at lw_m2 213 rfl) rfl
theorem q506 : (Jvm.Cond.soleField "java/lang/Throwable" "detailMessage") ∈ lw_all := lw_g (lw_at lw_m2 214 rfl) rfl
theorem q507 : (Jvm.Cond.soleField "java/lang/Throwable" "cause") ∈ lw_all := lw_g (lw_at lw_m2 215 rfl) rfl
theorem q508 : (Jvm.Cond.soleField "java/lang/Throwable" "stackTrace") ∈ lw_all := lw_g (lw_at lw_m2 216 rfl) rfl
theorem q510 : (Jvm.Cond.soleField "java/lang/Throwable" "depth") ∈ lw_all := lw_g (lw_at lw_m2 218 rfl) rfl
theorem q511 : (Jvm.Cond.soleField "java/lang/Throwable" "suppressedExceptions") ∈ lw_all := lw_g (lw_at lw_m2 219 rfl) rfl
theorem q1435 : (Jvm.Cond.sameMethod "java/lang/Throwable" "java/lang/Throwable" "fillInStackTrace" "(I)Ljava/lang/Throwable;") ∈ lw_all := lw_g (lw_at lw_m6 183 rfl) rfl
theorem in_J1 : ∀ w ∈ wsJ10, w ∈ lw_all := lw_in wsJ10 [456, 458, 460, 462, 464] (by decide +kernel) (by decide +kernel)
def RJ2 : String := "java/lang/Exception"
abbrev cJ2_init : ByteArray := prog_15_method_2_code
def yJ2_init : MethodName := ⟨RJ2, "<init>", "(Ljava/lang/String;)V"⟩
theorem dJ2_init_0 : decode cJ2_init 0 = .ok (.aload_n 0, 1) := by decide +kernel
theorem dJ2_init_1 : decode cJ2_init 1 = .ok (.aload_n 1, 1) := by decide +kernel
theorem dJ2_init_2 : decode cJ2_init 2 = .ok (.invokespecial 7, 3) := by decide +kernel
theorem dJ2_init_5 : decode cJ2_init 5 = .ok (.return_, 1) := by decide +kernel
abbrev cJ2_init_2 : ByteArray := prog_15_method_1_code
def yJ2_init_2 : MethodName := ⟨RJ2, "<init>", "()V"⟩
theorem dJ2_init_2_0 : decode cJ2_init_2 0 = .ok (.aload_n 0, 1) := by decide +kernel
theorem dJ2_init_2_1 : decode cJ2_init_2 1 = .ok (.invokespecial 1, 3) := by decide +kernel
theorem dJ2_init_2_4 : decode cJ2_init_2 4 = .ok (.return_, 1) := by decide +kernel
theorem q66 : (Jvm.Cond.initialized "java/lang/Exception") ∈ lw_all := lw_g (lw_at lw_m1 14 rfl) rfl
theorem q449 : (Jvm.Cond.declares ({ cls := "java/lang/Exception", name := "<init>", desc := "()V" } : Jvm.MethodName)) ∈ lw_tbl := lw_at lw_m2 157 rfl
theorem q450 : (Jvm.Cond.declares ({ cls := "java/lang/Exception", name := "<init>", desc := "(Ljava/lang/String;)V" } : Jvm.MethodName)) ∈ lw_tbl := lw_at lw_m2 158 rfl
theorem q495 : (Jvm.Cond.instanceMethod ({ cls := "java/lang/Exception", name := "<init>", desc := "(Ljava/lang/String;)V" } : Jvm.MethodName)) ∈ lw_all := lw_g (lw_at lw_m2 203 rfl) rfl
theorem q496 : (Jvm.Cond.code ({ cls := "java/lang/Exception", name := "<init>", desc := "(Ljava/lang/String;)V" } : Jvm.MethodName) prog_15_method_2_code (2 : Nat) (Option.none : Option Jvm.ClassFile.FieldType)) ∈ lw_all := lw_g (lw_at lw_m2 204 rfl) rfl
theorem q497 : (Jvm.Cond.methodLink "java/lang/Exception" (7 : Nat) ({ cls := "java/lang/Throwable", name := "<init>", desc := "(Ljava/lang/String;)V" } : Jvm.MethodName)) ∈ lw_all := lw_g (lw_at lw_m2 205 rfl) rfl
theorem q612 : (Jvm.Cond.instanceMethod ({ cls := "java/lang/Exception", name := "<init>", desc := "()V" } : Jvm.MethodName)) ∈ lw_all := lw_g (lw_at lw_m3 80 rfl) rfl
theorem q613 : (Jvm.Cond.code ({ cls := "java/lang/Exception", name := "<init>", desc := "()V" } : Jvm.MethodName) prog_15_method_1_code (1 : Nat) (Option.none : Option Jvm.ClassFile.FieldType)) ∈ lw_all := lw_g (lw_at lw_m3 81 rfl) rfl
theorem q614 : (Jvm.Cond.methodLink "java/lang/Exception" (1 : Nat) ({ cls := "java/lang/Throwable", name := "<init>", desc := "()V" } : Jvm.MethodName)) ∈ lw_all := lw_g (lw_at lw_m3 82 rfl) rfl
def RJ3 : String := "java/lang/RuntimeException"
abbrev cJ3_init : ByteArray := prog_22_method_2_code
def yJ3_init : MethodName := ⟨RJ3, "<init>", "(Ljava/lang/String;)V"⟩
theorem dJ3_init_0 : decode cJ3_init 0 = .ok (.aload_n 0, 1) := by decide +kernel
theorem dJ3_init_1 : decode cJ3_init 1 = .ok (.aload_n 1, 1) := by decide +kernel
theorem dJ3_init_2 : decode cJ3_init 2 = .ok (.invokespecial 7, 3) := by decide +kernel
theorem dJ3_init_5 : decode cJ3_init 5 = .ok (.return_, 1) := by decide +kernel
abbrev cJ3_init_2 : ByteArray := prog_22_method_1_code
def yJ3_init_2 : MethodName := ⟨RJ3, "<init>", "()V"⟩
theorem dJ3_init_2_0 : decode cJ3_init_2 0 = .ok (.aload_n 0, 1) := by decide +kernel
theorem dJ3_init_2_1 : decode cJ3_init_2 1 = .ok (.invokespecial 1, 3) := by decide +kernel
theorem dJ3_init_2_4 : decode cJ3_init_2 4 = .ok (.return_, 1) := by decide +kernel
theorem q67 : (Jvm.Cond.initialized "java/lang/RuntimeException") ∈ lw_all := lw_g (lw_at lw_m1 15 rfl) rfl
theorem q447 : (Jvm.Cond.declares ({ cls := "java/lang/RuntimeException", name := "<init>", desc := "()V" } : Jvm.MethodName)) ∈ lw_tbl := lw_at lw_m2 155 rfl
theorem q448 : (Jvm.Cond.declares ({ cls := "java/lang/RuntimeException", name := "<init>", desc := "(Ljava/lang/String;)V" } : Jvm.MethodName)) ∈ lw_tbl := lw_at lw_m2 156 rfl
theorem q492 : (Jvm.Cond.instanceMethod ({ cls := "java/lang/RuntimeException", name := "<init>", desc := "(Ljava/lang/String;)V" } : Jvm.MethodName)) ∈ lw_all := lw_g (lw_at lw_m2 200 rfl) rfl
theorem q493 : (Jvm.Cond.code ({ cls := "java/lang/RuntimeException", name := "<init>", desc := "(Ljava/lang/String;)V" } : Jvm.MethodName) prog_22_method_2_code (2 : Nat) (Option.none : Option Jvm.ClassFile.FieldType)) ∈ lw_all := lw_g (lw_at lw_m2 201 rfl) rfl
theorem q494 : (Jvm.Cond.methodLink "java/lang/RuntimeException" (7 : Nat) ({ cls := "java/lang/Exception", name := "<init>", desc := "(Ljava/lang/String;)V" } : Jvm.MethodName)) ∈ lw_all := lw_g (lw_at lw_m2 202 rfl) rfl
theorem q609 : (Jvm.Cond.instanceMethod ({ cls := "java/lang/RuntimeException", name := "<init>", desc := "()V" } : Jvm.MethodName)) ∈ lw_all := lw_g (lw_at lw_m3 77 rfl) rfl
theorem q610 : (Jvm.Cond.code ({ cls := "java/lang/RuntimeException", name := "<init>", desc := "()V" } : Jvm.MethodName) prog_22_method_1_code (1 : Nat) (Option.none : Option Jvm.ClassFile.FieldType)) ∈ lw_all := lw_g (lw_at lw_m3 78 rfl) rfl
theorem q611 : (Jvm.Cond.methodLink "java/lang/RuntimeException" (1 : Nat) ({ cls := "java/lang/Exception", name := "<init>", desc := "()V" } : Jvm.MethodName)) ∈ lw_all := lw_g (lw_at lw_m3 79 rfl) rfl
def RJ4 : String := "java/lang/IllegalArgumentException"
def TJ4 : u_T := fun k => match k with
  | 0 => ("java/lang/Throwable", "cause", "Ljava/lang/Throwable;", false)
  | 1 => ("java/lang/Throwable", "stackTrace", "[Ljava/lang/StackTraceElement;", false)
  | 2 => ("java/lang/Throwable", "suppressedExceptions", "Ljava/util/List;", false)
  | 3 => ("java/lang/Throwable", "detailMessage", "Ljava/lang/String;", false)
  | 4 => ("java/lang/Throwable", "backtrace", "Ljava/lang/Object;", false)
  | _ => ("java/lang/Throwable", "depth", "I", false)
def tyJ4 : Nat → FieldType := fun k => match k with
  | 0 => .object "java/lang/Throwable"
  | 1 => .array (.object "java/lang/StackTraceElement")
  | 2 => .object "java/util/List"
  | 3 => .object "java/lang/String"
  | 4 => .object "java/lang/Object"
  | _ => .int
abbrev wsJ40 : List Cond := u_ws RJ4 TJ4 6
theorem nmJ4 : ∀ a, a < 6 → ∀ b, b < 6 → a ≠ b → (TJ4 a).2.1 ≠ (TJ4 b).2.1 := by decide +kernel
theorem tyJ4_ok : ∀ k, k < 6 → parseFieldDescriptor (TJ4 k).2.2.1 = some (tyJ4 k) := by decide +kernel
abbrev cJ4_init : ByteArray := prog_16_method_2_code
def yJ4_init : MethodName := ⟨RJ4, "<init>", "(Ljava/lang/String;)V"⟩
theorem dJ4_init_0 : decode cJ4_init 0 = .ok (.aload_n 0, 1) := by decide +kernel
theorem dJ4_init_1 : decode cJ4_init 1 = .ok (.aload_n 1, 1) := by decide +kernel
theorem dJ4_init_2 : decode cJ4_init 2 = .ok (.invokespecial 7, 3) := by decide +kernel
theorem dJ4_init_5 : decode cJ4_init 5 = .ok (.return_, 1) := by decide +kernel
theorem q68 : (Jvm.Cond.initialized "java/lang/IllegalArgumentException") ∈ lw_all := lw_g (lw_at lw_m1 16 rfl) rfl
theorem q445 : (Jvm.Cond.instantiable "java/lang/IllegalArgumentException" (6 : Nat)) ∈ lw_all := lw_g (lw_at lw_m2 153 rfl) rfl
theorem q446 : (Jvm.Cond.castable "java/lang/IllegalArgumentException" "java/lang/IllegalArgumentException") ∈ lw_tbl := lw_at lw_m2 154 rfl
theorem q453 : (Jvm.Cond.selects "java/lang/IllegalArgumentException" ({ cls := "java/lang/Throwable", name := "fillInStackTrace", desc := "(I)Ljava/lang/Throwable;" } : Jvm.MethodName) ({ cls := "java/lang/Throwable", name := "fillInStackTrace", desc := "(I)Ljava/lang/Throwable;" } : Jvm.MethodName)) ∈ lw_all := lw_g (lw_at lw_m2 161 rfl) rfl
theorem q454 : (Jvm.Cond.selects "java/lang/IllegalArgumentException" ({ cls := "java/lang/Throwable", name := "fillInStackTrace", desc := "()Ljava/lang/Throwable;" } : Jvm.MethodName) ({ cls := "java/lang/Throwable", name := "fillInStackTrace", desc := "()Ljava/lang/Throwable;" } : Jvm.MethodName)) ∈ lw_all := lw_g (lw_at lw_m2 162 rfl) rfl
theorem q455 : (Jvm.Cond.lays "java/lang/IllegalArgumentException" "java/lang/Throwable" "cause" "Ljava/lang/Throwable;") ∈ lw_all := lw_g (lw_at lw_m2 163 rfl) rfl
theorem q457 : (Jvm.Cond.lays "java/lang/IllegalArgumentException" "java/lang/Throwable" "stackTrace" "[Ljava/lang/StackTraceElement;") ∈ lw_all := lw_g (lw_at lw_m2 165 rfl) rfl
theorem q459 : (Jvm.Cond.lays "java/lang/IllegalArgumentException" "java/lang/Throwable" "suppressedExceptions" "Ljava/util/List;") ∈ lw_all := lw_g (lw_at lw_m2 167 rfl) rfl
theorem q461 : (Jvm.Cond.lays "java/lang/IllegalArgumentException" "java/lang/Throwable" "detailMessage" "Ljava/lang/String;") ∈ lw_all := lw_g (lw_at lw_m2 169 rfl) rfl
theorem q463 : (Jvm.Cond.lays "java/lang/IllegalArgumentException" "java/lang/Throwable" "backtrace" "Ljava/lang/Object;") ∈ lw_all := lw_g (lw_at lw_m2 171 rfl) rfl
theorem q489 : (Jvm.Cond.instanceMethod ({ cls := "java/lang/IllegalArgumentException", name := "<init>", desc := "(Ljava/lang/String;)V" } : Jvm.MethodName)) ∈ lw_all := lw_g (lw_at lw_m2 197 rfl) rfl
theorem q490 : (Jvm.Cond.code ({ cls := "java/lang/IllegalArgumentException", name := "<init>", desc := "(Ljava/lang/String;)V" } : Jvm.MethodName) prog_16_method_2_code (2 : Nat) (Option.none : Option Jvm.ClassFile.FieldType)) ∈ lw_all := lw_g (lw_at lw_m2 198 rfl) rfl
theorem q491 : (Jvm.Cond.methodLink "java/lang/IllegalArgumentException" (7 : Nat) ({ cls := "java/lang/RuntimeException", name := "<init>", desc := "(Ljava/lang/String;)V" } : Jvm.MethodName)) ∈ lw_all := lw_g (lw_at lw_m2 199 rfl) rfl
theorem q509 : (Jvm.Cond.lays "java/lang/IllegalArgumentException" "java/lang/Throwable" "depth" "I") ∈ lw_all := lw_g (lw_at lw_m2 217 rfl) rfl
theorem q512 : (Jvm.Cond.superclass "java/lang/IllegalArgumentException" "java/lang/RuntimeException") ∈ lw_all := lw_g (lw_at lw_m2 220 rfl) rfl
theorem in_J4 : ∀ w ∈ wsJ40, w ∈ lw_all := lw_in wsJ40 [455, 457, 459, 461, 463, 509] (by decide +kernel) (by decide +kernel)
def RJ5 : String := "java/lang/IllegalStateException"
def TJ5 : u_T := fun k => match k with
  | 0 => ("java/lang/Throwable", "cause", "Ljava/lang/Throwable;", false)
  | 1 => ("java/lang/Throwable", "stackTrace", "[Ljava/lang/StackTraceElement;", false)
  | 2 => ("java/lang/Throwable", "suppressedExceptions", "Ljava/util/List;", false)
  | 3 => ("java/lang/Throwable", "detailMessage", "Ljava/lang/String;", false)
  | 4 => ("java/lang/Throwable", "backtrace", "Ljava/lang/Object;", false)
  | _ => ("java/lang/Throwable", "depth", "I", false)
def tyJ5 : Nat → FieldType := fun k => match k with
  | 0 => .object "java/lang/Throwable"
  | 1 => .array (.object "java/lang/StackTraceElement")
  | 2 => .object "java/util/List"
  | 3 => .object "java/lang/String"
  | 4 => .object "java/lang/Object"
  | _ => .int
abbrev wsJ50 : List Cond := u_ws RJ5 TJ5 6
theorem nmJ5 : ∀ a, a < 6 → ∀ b, b < 6 → a ≠ b → (TJ5 a).2.1 ≠ (TJ5 b).2.1 := by decide +kernel
theorem tyJ5_ok : ∀ k, k < 6 → parseFieldDescriptor (TJ5 k).2.2.1 = some (tyJ5 k) := by decide +kernel
abbrev cJ5_init : ByteArray := prog_17_method_2_code
def yJ5_init : MethodName := ⟨RJ5, "<init>", "(Ljava/lang/String;)V"⟩
theorem dJ5_init_0 : decode cJ5_init 0 = .ok (.aload_n 0, 1) := by decide +kernel
theorem dJ5_init_1 : decode cJ5_init 1 = .ok (.aload_n 1, 1) := by decide +kernel
theorem dJ5_init_2 : decode cJ5_init 2 = .ok (.invokespecial 7, 3) := by decide +kernel
theorem dJ5_init_5 : decode cJ5_init 5 = .ok (.return_, 1) := by decide +kernel
theorem q69 : (Jvm.Cond.initialized "java/lang/IllegalStateException") ∈ lw_all := lw_g (lw_at lw_m1 17 rfl) rfl
theorem q478 : (Jvm.Cond.selects "java/lang/IllegalStateException" ({ cls := "java/lang/Throwable", name := "fillInStackTrace", desc := "()Ljava/lang/Throwable;" } : Jvm.MethodName) ({ cls := "java/lang/Throwable", name := "fillInStackTrace", desc := "()Ljava/lang/Throwable;" } : Jvm.MethodName)) ∈ lw_all := lw_g (lw_at lw_m2 186 rfl) rfl
theorem q521 : (Jvm.Cond.instantiable "java/lang/IllegalStateException" (6 : Nat)) ∈ lw_all := lw_g (lw_at lw_m2 229 rfl) rfl
theorem q522 : (Jvm.Cond.castable "java/lang/IllegalStateException" "java/lang/IllegalStateException") ∈ lw_tbl := lw_at lw_m2 230 rfl
theorem q523 : (Jvm.Cond.selects "java/lang/IllegalStateException" ({ cls := "java/lang/Throwable", name := "fillInStackTrace", desc := "(I)Ljava/lang/Throwable;" } : Jvm.MethodName) ({ cls := "java/lang/Throwable", name := "fillInStackTrace", desc := "(I)Ljava/lang/Throwable;" } : Jvm.MethodName)) ∈ lw_all := lw_g (lw_at lw_m2 231 rfl) rfl
theorem q524 : (Jvm.Cond.lays "java/lang/IllegalStateException" "java/lang/Throwable" "cause" "Ljava/lang/Throwable;") ∈ lw_all := lw_g (lw_at lw_m2 232 rfl) rfl
theorem q525 : (Jvm.Cond.lays "java/lang/IllegalStateException" "java/lang/Throwable" "stackTrace" "[Ljava/lang/StackTraceElement;") ∈ lw_all := lw_g (lw_at lw_m2 233 rfl) rfl
theorem q526 : (Jvm.Cond.lays "java/lang/IllegalStateException" "java/lang/Throwable" "suppressedExceptions" "Ljava/util/List;") ∈ lw_all := lw_g (lw_at lw_m2 234 rfl) rfl
theorem q527 : (Jvm.Cond.lays "java/lang/IllegalStateException" "java/lang/Throwable" "detailMessage" "Ljava/lang/String;") ∈ lw_all := lw_g (lw_at lw_m2 235 rfl) rfl
theorem q528 : (Jvm.Cond.lays "java/lang/IllegalStateException" "java/lang/Throwable" "backtrace" "Ljava/lang/Object;") ∈ lw_all := lw_g (lw_at lw_m2 236 rfl) rfl
theorem q531 : (Jvm.Cond.instanceMethod ({ cls := "java/lang/IllegalStateException", name := "<init>", desc := "(Ljava/lang/String;)V" } : Jvm.MethodName)) ∈ lw_all := lw_g (lw_at lw_m2 239 rfl) rfl
theorem q532 : (Jvm.Cond.code ({ cls := "java/lang/IllegalStateException", name := "<init>", desc := "(Ljava/lang/String;)V" } : Jvm.MethodName) prog_17_method_2_code (2 : Nat) (Option.none : Option Jvm.ClassFile.FieldType)) ∈ lw_all := lw_g (lw_at lw_m3 0 rfl) rfl
theorem q533 : (Jvm.Cond.methodLink "java/lang/IllegalStateException" (7 : Nat) ({ cls := "java/lang/RuntimeException", name := "<init>", desc := "(Ljava/lang/String;)V" } : Jvm.MethodName)) ∈ lw_all := lw_g (lw_at lw_m3 1 rfl) rfl
theorem q534 : (Jvm.Cond.lays "java/lang/IllegalStateException" "java/lang/Throwable" "depth" "I") ∈ lw_all := lw_g (lw_at lw_m3 2 rfl) rfl
theorem q535 : (Jvm.Cond.superclass "java/lang/IllegalStateException" "java/lang/RuntimeException") ∈ lw_all := lw_g (lw_at lw_m3 3 rfl) rfl
theorem in_J5 : ∀ w ∈ wsJ50, w ∈ lw_all := lw_in wsJ50 [524, 525, 526, 527, 528, 534] (by decide +kernel) (by decide +kernel)
def RJ6 : String := "java/lang/UnsupportedOperationException"
def TJ6 : u_T := fun k => match k with
  | 0 => ("java/lang/Throwable", "cause", "Ljava/lang/Throwable;", false)
  | 1 => ("java/lang/Throwable", "stackTrace", "[Ljava/lang/StackTraceElement;", false)
  | 2 => ("java/lang/Throwable", "suppressedExceptions", "Ljava/util/List;", false)
  | 3 => ("java/lang/Throwable", "detailMessage", "Ljava/lang/String;", false)
  | 4 => ("java/lang/Throwable", "backtrace", "Ljava/lang/Object;", false)
  | _ => ("java/lang/Throwable", "depth", "I", false)
def tyJ6 : Nat → FieldType := fun k => match k with
  | 0 => .object "java/lang/Throwable"
  | 1 => .array (.object "java/lang/StackTraceElement")
  | 2 => .object "java/util/List"
  | 3 => .object "java/lang/String"
  | 4 => .object "java/lang/Object"
  | _ => .int
abbrev wsJ60 : List Cond := u_ws RJ6 TJ6 6
theorem nmJ6 : ∀ a, a < 6 → ∀ b, b < 6 → a ≠ b → (TJ6 a).2.1 ≠ (TJ6 b).2.1 := by decide +kernel
theorem tyJ6_ok : ∀ k, k < 6 → parseFieldDescriptor (TJ6 k).2.2.1 = some (tyJ6 k) := by decide +kernel
abbrev cJ6_init : ByteArray := prog_26_method_2_code
def yJ6_init : MethodName := ⟨RJ6, "<init>", "(Ljava/lang/String;)V"⟩
theorem dJ6_init_0 : decode cJ6_init 0 = .ok (.aload_n 0, 1) := by decide +kernel
theorem dJ6_init_1 : decode cJ6_init 1 = .ok (.aload_n 1, 1) := by decide +kernel
theorem dJ6_init_2 : decode cJ6_init 2 = .ok (.invokespecial 7, 3) := by decide +kernel
theorem dJ6_init_5 : decode cJ6_init 5 = .ok (.return_, 1) := by decide +kernel
theorem q70 : (Jvm.Cond.initialized "java/lang/UnsupportedOperationException") ∈ lw_all := lw_g (lw_at lw_m1 18 rfl) rfl
theorem q480 : (Jvm.Cond.selects "java/lang/UnsupportedOperationException" ({ cls := "java/lang/Throwable", name := "fillInStackTrace", desc := "()Ljava/lang/Throwable;" } : Jvm.MethodName) ({ cls := "java/lang/Throwable", name := "fillInStackTrace", desc := "()Ljava/lang/Throwable;" } : Jvm.MethodName)) ∈ lw_all := lw_g (lw_at lw_m2 188 rfl) rfl
theorem q540 : (Jvm.Cond.instantiable "java/lang/UnsupportedOperationException" (6 : Nat)) ∈ lw_all := lw_g (lw_at lw_m3 8 rfl) rfl
theorem q541 : (Jvm.Cond.castable "java/lang/UnsupportedOperationException" "java/lang/UnsupportedOperationException") ∈ lw_tbl := lw_at lw_m3 9 rfl
theorem q542 : (Jvm.Cond.selects "java/lang/UnsupportedOperationException" ({ cls := "java/lang/Throwable", name := "fillInStackTrace", desc := "(I)Ljava/lang/Throwable;" } : Jvm.MethodName) ({ cls := "java/lang/Throwable", name := "fillInStackTrace", desc := "(I)Ljava/lang/Throwable;" } : Jvm.MethodName)) ∈ lw_all := lw_g (lw_at lw_m3 10 rfl) rfl
theorem q543 : (Jvm.Cond.lays "java/lang/UnsupportedOperationException" "java/lang/Throwable" "cause" "Ljava/lang/Throwable;") ∈ lw_all := lw_g (lw_at lw_m3 11 rfl) rfl
theorem q544 : (Jvm.Cond.lays "java/lang/UnsupportedOperationException" "java/lang/Throwable" "stackTrace" "[Ljava/lang/StackTraceElement;") ∈ lw_all := lw_g (lw_at lw_m3 12 rfl) rfl
theorem q545 : (Jvm.Cond.lays "java/lang/UnsupportedOperationException" "java/lang/Throwable" "suppressedExceptions" "Ljava/util/List;") ∈ lw_all := lw_g (lw_at lw_m3 13 rfl) rfl
theorem q546 : (Jvm.Cond.lays "java/lang/UnsupportedOperationException" "java/lang/Throwable" "detailMessage" "Ljava/lang/String;") ∈ lw_all := lw_g (lw_at lw_m3 14 rfl) rfl
theorem q547 : (Jvm.Cond.lays "java/lang/UnsupportedOperationException" "java/lang/Throwable" "backtrace" "Ljava/lang/Object;") ∈ lw_all := lw_g (lw_at lw_m3 15 rfl) rfl
theorem q550 : (Jvm.Cond.instanceMethod ({ cls := "java/lang/UnsupportedOperationException", name := "<init>", desc := "(Ljava/lang/String;)V" } : Jvm.MethodName)) ∈ lw_all := lw_g (lw_at lw_m3 18 rfl) rfl
theorem q551 : (Jvm.Cond.code ({ cls := "java/lang/UnsupportedOperationException", name := "<init>", desc := "(Ljava/lang/String;)V" } : Jvm.MethodName) prog_26_method_2_code (2 : Nat) (Option.none : Option Jvm.ClassFile.FieldType)) ∈ lw_all := lw_g (lw_at lw_m3 19 rfl) rfl
theorem q552 : (Jvm.Cond.methodLink "java/lang/UnsupportedOperationException" (7 : Nat) ({ cls := "java/lang/RuntimeException", name := "<init>", desc := "(Ljava/lang/String;)V" } : Jvm.MethodName)) ∈ lw_all := lw_g (lw_at lw_m3 20 rfl) rfl
theorem q553 : (Jvm.Cond.lays "java/lang/UnsupportedOperationException" "java/lang/Throwable" "depth" "I") ∈ lw_all := lw_g (lw_at lw_m3 21 rfl) rfl
theorem q554 : (Jvm.Cond.superclass "java/lang/UnsupportedOperationException" "java/lang/RuntimeException") ∈ lw_all := lw_g (lw_at lw_m3 22 rfl) rfl
theorem in_J6 : ∀ w ∈ wsJ60, w ∈ lw_all := lw_in wsJ60 [543, 544, 545, 546, 547, 553] (by decide +kernel) (by decide +kernel)
def RJ7 : String := "java/lang/IndexOutOfBoundsException"
def TJ7 : u_T := fun k => match k with
  | 0 => ("java/lang/Throwable", "cause", "Ljava/lang/Throwable;", false)
  | 1 => ("java/lang/Throwable", "stackTrace", "[Ljava/lang/StackTraceElement;", false)
  | 2 => ("java/lang/Throwable", "suppressedExceptions", "Ljava/util/List;", false)
  | 3 => ("java/lang/Throwable", "detailMessage", "Ljava/lang/String;", false)
  | 4 => ("java/lang/Throwable", "backtrace", "Ljava/lang/Object;", false)
  | _ => ("java/lang/Throwable", "depth", "I", false)
def tyJ7 : Nat → FieldType := fun k => match k with
  | 0 => .object "java/lang/Throwable"
  | 1 => .array (.object "java/lang/StackTraceElement")
  | 2 => .object "java/util/List"
  | 3 => .object "java/lang/String"
  | 4 => .object "java/lang/Object"
  | _ => .int
abbrev wsJ70 : List Cond := u_ws RJ7 TJ7 6
theorem nmJ7 : ∀ a, a < 6 → ∀ b, b < 6 → a ≠ b → (TJ7 a).2.1 ≠ (TJ7 b).2.1 := by decide +kernel
theorem tyJ7_ok : ∀ k, k < 6 → parseFieldDescriptor (TJ7 k).2.2.1 = some (tyJ7 k) := by decide +kernel
abbrev cJ7_init : ByteArray := prog_18_method_2_code
def yJ7_init : MethodName := ⟨RJ7, "<init>", "(Ljava/lang/String;)V"⟩
theorem dJ7_init_0 : decode cJ7_init 0 = .ok (.aload_n 0, 1) := by decide +kernel
theorem dJ7_init_1 : decode cJ7_init 1 = .ok (.aload_n 1, 1) := by decide +kernel
theorem dJ7_init_2 : decode cJ7_init 2 = .ok (.invokespecial 7, 3) := by decide +kernel
theorem dJ7_init_5 : decode cJ7_init 5 = .ok (.return_, 1) := by decide +kernel
abbrev cJ7_init_2 : ByteArray := prog_18_method_1_code
def yJ7_init_2 : MethodName := ⟨RJ7, "<init>", "()V"⟩
theorem dJ7_init_2_0 : decode cJ7_init_2 0 = .ok (.aload_n 0, 1) := by decide +kernel
theorem dJ7_init_2_1 : decode cJ7_init_2 1 = .ok (.invokespecial 1, 3) := by decide +kernel
theorem dJ7_init_2_4 : decode cJ7_init_2 4 = .ok (.return_, 1) := by decide +kernel
theorem q71 : (Jvm.Cond.initialized "java/lang/IndexOutOfBoundsException") ∈ lw_all := lw_g (lw_at lw_m1 19 rfl) rfl
theorem q479 : (Jvm.Cond.selects "java/lang/IndexOutOfBoundsException" ({ cls := "java/lang/Throwable", name := "fillInStackTrace", desc := "()Ljava/lang/Throwable;" } : Jvm.MethodName) ({ cls := "java/lang/Throwable", name := "fillInStackTrace", desc := "()Ljava/lang/Throwable;" } : Jvm.MethodName)) ∈ lw_all := lw_g (lw_at lw_m2 187 rfl) rfl
theorem q570 : (Jvm.Cond.instanceMethod ({ cls := "java/lang/IndexOutOfBoundsException", name := "<init>", desc := "(Ljava/lang/String;)V" } : Jvm.MethodName)) ∈ lw_all := lw_g (lw_at lw_m3 38 rfl) rfl
theorem q571 : (Jvm.Cond.code ({ cls := "java/lang/IndexOutOfBoundsException", name := "<init>", desc := "(Ljava/lang/String;)V" } : Jvm.MethodName) prog_18_method_2_code (2 : Nat) (Option.none : Option Jvm.ClassFile.FieldType)) ∈ lw_all := lw_g (lw_at lw_m3 39 rfl) rfl
theorem q572 : (Jvm.Cond.methodLink "java/lang/IndexOutOfBoundsException" (7 : Nat) ({ cls := "java/lang/RuntimeException", name := "<init>", desc := "(Ljava/lang/String;)V" } : Jvm.MethodName)) ∈ lw_all := lw_g (lw_at lw_m3 40 rfl) rfl
theorem q581 : (Jvm.Cond.declares ({ cls := "java/lang/IndexOutOfBoundsException", name := "<init>", desc := "()V" } : Jvm.MethodName)) ∈ lw_tbl := lw_at lw_m3 49 rfl
theorem q582 : (Jvm.Cond.declares ({ cls := "java/lang/IndexOutOfBoundsException", name := "<init>", desc := "(Ljava/lang/String;)V" } : Jvm.MethodName)) ∈ lw_tbl := lw_at lw_m3 50 rfl
theorem q597 : (Jvm.Cond.instantiable "java/lang/IndexOutOfBoundsException" (6 : Nat)) ∈ lw_all := lw_g (lw_at lw_m3 65 rfl) rfl
theorem q598 : (Jvm.Cond.castable "java/lang/IndexOutOfBoundsException" "java/lang/IndexOutOfBoundsException") ∈ lw_tbl := lw_at lw_m3 66 rfl
theorem q599 : (Jvm.Cond.selects "java/lang/IndexOutOfBoundsException" ({ cls := "java/lang/Throwable", name := "fillInStackTrace", desc := "(I)Ljava/lang/Throwable;" } : Jvm.MethodName) ({ cls := "java/lang/Throwable", name := "fillInStackTrace", desc := "(I)Ljava/lang/Throwable;" } : Jvm.MethodName)) ∈ lw_all := lw_g (lw_at lw_m3 67 rfl) rfl
theorem q600 : (Jvm.Cond.lays "java/lang/IndexOutOfBoundsException" "java/lang/Throwable" "cause" "Ljava/lang/Throwable;") ∈ lw_all := lw_g (lw_at lw_m3 68 rfl) rfl
theorem q601 : (Jvm.Cond.lays "java/lang/IndexOutOfBoundsException" "java/lang/Throwable" "stackTrace" "[Ljava/lang/StackTraceElement;") ∈ lw_all := lw_g (lw_at lw_m3 69 rfl) rfl
theorem q602 : (Jvm.Cond.lays "java/lang/IndexOutOfBoundsException" "java/lang/Throwable" "suppressedExceptions" "Ljava/util/List;") ∈ lw_all := lw_g (lw_at lw_m3 70 rfl) rfl
theorem q603 : (Jvm.Cond.lays "java/lang/IndexOutOfBoundsException" "java/lang/Throwable" "detailMessage" "Ljava/lang/String;") ∈ lw_all := lw_g (lw_at lw_m3 71 rfl) rfl
theorem q604 : (Jvm.Cond.lays "java/lang/IndexOutOfBoundsException" "java/lang/Throwable" "backtrace" "Ljava/lang/Object;") ∈ lw_all := lw_g (lw_at lw_m3 72 rfl) rfl
theorem q606 : (Jvm.Cond.instanceMethod ({ cls := "java/lang/IndexOutOfBoundsException", name := "<init>", desc := "()V" } : Jvm.MethodName)) ∈ lw_all := lw_g (lw_at lw_m3 74 rfl) rfl
theorem q607 : (Jvm.Cond.code ({ cls := "java/lang/IndexOutOfBoundsException", name := "<init>", desc := "()V" } : Jvm.MethodName) prog_18_method_1_code (1 : Nat) (Option.none : Option Jvm.ClassFile.FieldType)) ∈ lw_all := lw_g (lw_at lw_m3 75 rfl) rfl
theorem q608 : (Jvm.Cond.methodLink "java/lang/IndexOutOfBoundsException" (1 : Nat) ({ cls := "java/lang/RuntimeException", name := "<init>", desc := "()V" } : Jvm.MethodName)) ∈ lw_all := lw_g (lw_at lw_m3 76 rfl) rfl
theorem q615 : (Jvm.Cond.lays "java/lang/IndexOutOfBoundsException" "java/lang/Throwable" "depth" "I") ∈ lw_all := lw_g (lw_at lw_m3 83 rfl) rfl
theorem q616 : (Jvm.Cond.superclass "java/lang/IndexOutOfBoundsException" "java/lang/RuntimeException") ∈ lw_all := lw_g (lw_at lw_m3 84 rfl) rfl
theorem in_J7 : ∀ w ∈ wsJ70, w ∈ lw_all := lw_in wsJ70 [600, 601, 602, 603, 604, 615] (by decide +kernel) (by decide +kernel)
def RJ8 : String := "java/lang/ArrayIndexOutOfBoundsException"
def TJ8 : u_T := fun k => match k with
  | 0 => ("java/lang/Throwable", "backtrace", "Ljava/lang/Object;", false)
  | 1 => ("java/lang/Throwable", "detailMessage", "Ljava/lang/String;", false)
  | 2 => ("java/lang/Throwable", "cause", "Ljava/lang/Throwable;", false)
  | 3 => ("java/lang/Throwable", "stackTrace", "[Ljava/lang/StackTraceElement;", false)
  | 4 => ("java/lang/Throwable", "depth", "I", false)
  | _ => ("java/lang/Throwable", "suppressedExceptions", "Ljava/util/List;", false)
def tyJ8 : Nat → FieldType := fun k => match k with
  | 0 => .object "java/lang/Object"
  | 1 => .object "java/lang/String"
  | 2 => .object "java/lang/Throwable"
  | 3 => .array (.object "java/lang/StackTraceElement")
  | 4 => .int
  | _ => .object "java/util/List"
abbrev wsJ80 : List Cond := u_ws RJ8 TJ8 6
theorem nmJ8 : ∀ a, a < 6 → ∀ b, b < 6 → a ≠ b → (TJ8 a).2.1 ≠ (TJ8 b).2.1 := by decide +kernel
theorem tyJ8_ok : ∀ k, k < 6 → parseFieldDescriptor (TJ8 k).2.2.1 = some (tyJ8 k) := by decide +kernel
abbrev cJ8_init : ByteArray := prog_14_method_2_code
def yJ8_init : MethodName := ⟨RJ8, "<init>", "(Ljava/lang/String;)V"⟩
theorem dJ8_init_0 : decode cJ8_init 0 = .ok (.aload_n 0, 1) := by decide +kernel
theorem dJ8_init_1 : decode cJ8_init 1 = .ok (.aload_n 1, 1) := by decide +kernel
theorem dJ8_init_2 : decode cJ8_init 2 = .ok (.invokespecial 7, 3) := by decide +kernel
theorem dJ8_init_5 : decode cJ8_init 5 = .ok (.return_, 1) := by decide +kernel
theorem q72 : (Jvm.Cond.initialized "java/lang/ArrayIndexOutOfBoundsException") ∈ lw_all := lw_g (lw_at lw_m1 20 rfl) rfl
theorem q477 : (Jvm.Cond.selects "java/lang/ArrayIndexOutOfBoundsException" ({ cls := "java/lang/Throwable", name := "fillInStackTrace", desc := "()Ljava/lang/Throwable;" } : Jvm.MethodName) ({ cls := "java/lang/Throwable", name := "fillInStackTrace", desc := "()Ljava/lang/Throwable;" } : Jvm.MethodName)) ∈ lw_all := lw_g (lw_at lw_m2 185 rfl) rfl
theorem q566 : (Jvm.Cond.instantiable "java/lang/ArrayIndexOutOfBoundsException" (6 : Nat)) ∈ lw_all := lw_g (lw_at lw_m3 34 rfl) rfl
theorem q567 : (Jvm.Cond.instanceMethod ({ cls := "java/lang/ArrayIndexOutOfBoundsException", name := "<init>", desc := "(Ljava/lang/String;)V" } : Jvm.MethodName)) ∈ lw_all := lw_g (lw_at lw_m3 35 rfl) rfl
theorem q568 : (Jvm.Cond.code ({ cls := "java/lang/ArrayIndexOutOfBoundsException", name := "<init>", desc := "(Ljava/lang/String;)V" } : Jvm.MethodName) prog_14_method_2_code (2 : Nat) (Option.none : Option Jvm.ClassFile.FieldType)) ∈ lw_all := lw_g (lw_at lw_m3 36 rfl) rfl
theorem q569 : (Jvm.Cond.methodLink "java/lang/ArrayIndexOutOfBoundsException" (7 : Nat) ({ cls := "java/lang/IndexOutOfBoundsException", name := "<init>", desc := "(Ljava/lang/String;)V" } : Jvm.MethodName)) ∈ lw_all := lw_g (lw_at lw_m3 37 rfl) rfl
theorem q573 : (Jvm.Cond.lays "java/lang/ArrayIndexOutOfBoundsException" "java/lang/Throwable" "backtrace" "Ljava/lang/Object;") ∈ lw_all := lw_g (lw_at lw_m3 41 rfl) rfl
theorem q574 : (Jvm.Cond.lays "java/lang/ArrayIndexOutOfBoundsException" "java/lang/Throwable" "detailMessage" "Ljava/lang/String;") ∈ lw_all := lw_g (lw_at lw_m3 42 rfl) rfl
theorem q575 : (Jvm.Cond.lays "java/lang/ArrayIndexOutOfBoundsException" "java/lang/Throwable" "cause" "Ljava/lang/Throwable;") ∈ lw_all := lw_g (lw_at lw_m3 43 rfl) rfl
theorem q576 : (Jvm.Cond.lays "java/lang/ArrayIndexOutOfBoundsException" "java/lang/Throwable" "stackTrace" "[Ljava/lang/StackTraceElement;") ∈ lw_all := lw_g (lw_at lw_m3 44 rfl) rfl
theorem q577 : (Jvm.Cond.lays "java/lang/ArrayIndexOutOfBoundsException" "java/lang/Throwable" "depth" "I") ∈ lw_all := lw_g (lw_at lw_m3 45 rfl) rfl
theorem q578 : (Jvm.Cond.lays "java/lang/ArrayIndexOutOfBoundsException" "java/lang/Throwable" "suppressedExceptions" "Ljava/util/List;") ∈ lw_all := lw_g (lw_at lw_m3 46 rfl) rfl
theorem q579 : (Jvm.Cond.superclass "java/lang/ArrayIndexOutOfBoundsException" "java/lang/IndexOutOfBoundsException") ∈ lw_all := lw_g (lw_at lw_m3 47 rfl) rfl
theorem q580 : (Jvm.Cond.castable "java/lang/ArrayIndexOutOfBoundsException" "java/lang/ArrayIndexOutOfBoundsException") ∈ lw_tbl := lw_at lw_m3 48 rfl
theorem q583 : (Jvm.Cond.selects "java/lang/ArrayIndexOutOfBoundsException" ({ cls := "java/lang/Throwable", name := "fillInStackTrace", desc := "(I)Ljava/lang/Throwable;" } : Jvm.MethodName) ({ cls := "java/lang/Throwable", name := "fillInStackTrace", desc := "(I)Ljava/lang/Throwable;" } : Jvm.MethodName)) ∈ lw_all := lw_g (lw_at lw_m3 51 rfl) rfl
theorem q1436 : (Jvm.Cond.castable "java/lang/ArrayIndexOutOfBoundsException" "java/lang/IndexOutOfBoundsException") ∈ lw_tbl := lw_at lw_m6 184 rfl
theorem in_J8 : ∀ w ∈ wsJ80, w ∈ lw_all := lw_in wsJ80 [573, 574, 575, 576, 577, 578] (by decide +kernel) (by decide +kernel)
def RJ9 : String := "java/lang/String"
def TJ9 : u_T := fun k => match k with
  | 0 => ("java/lang/String", "value", "[B", true)
  | _ => ("java/lang/String", "coder", "B", true)
def tyJ9 : Nat → FieldType := fun k => match k with
  | 0 => .array .byte
  | _ => .byte
abbrev wsJ90 : List Cond := u_ws RJ9 TJ9 2
theorem nmJ9 : ∀ a, a < 2 → ∀ b, b < 2 → a ≠ b → (TJ9 a).2.1 ≠ (TJ9 b).2.1 := by decide +kernel
theorem tyJ9_ok : ∀ k, k < 2 → parseFieldDescriptor (TJ9 k).2.2.1 = some (tyJ9 k) := by decide +kernel
theorem q73 : (Jvm.Cond.initialized "java/lang/String") ∈ lw_all := lw_g (lw_at lw_m1 21 rfl) rfl
theorem q584 : (Jvm.Cond.instantiable "java/lang/String" (4 : Nat)) ∈ lw_all := lw_g (lw_at lw_m3 52 rfl) rfl
theorem q585 : (Jvm.Cond.laysFinal "java/lang/String" "java/lang/String" "value" "[B") ∈ lw_all := lw_g (lw_at lw_m3 53 rfl) rfl
theorem q586 : (Jvm.Cond.soleField "java/lang/String" "value") ∈ lw_all := lw_g (lw_at lw_m3 54 rfl) rfl
theorem q587 : (Jvm.Cond.laysFinal "java/lang/String" "java/lang/String" "coder" "B") ∈ lw_all := lw_g (lw_at lw_m3 55 rfl) rfl
theorem q588 : (Jvm.Cond.soleField "java/lang/String" "coder") ∈ lw_all := lw_g (lw_at lw_m3 56 rfl) rfl
theorem in_J9 : ∀ w ∈ wsJ90, w ∈ lw_all := lw_in wsJ90 [585, 587] (by decide +kernel) (by decide +kernel)
abbrev cX5_init : ByteArray := prog_7_method_1_code
def yX5_init : MethodName := ⟨RX5, "<init>", "(LPollAudit;)V"⟩
theorem dX5_init_0 : decode cX5_init 0 = .ok (.aload_n 0, 1) := by decide +kernel
theorem dX5_init_1 : decode cX5_init 1 = .ok (.invokespecial 3, 3) := by decide +kernel
theorem dX5_init_4 : decode cX5_init 4 = .ok (.aload_n 0, 1) := by decide +kernel
theorem dX5_init_5 : decode cX5_init 5 = .ok (.aload_n 1, 1) := by decide +kernel
theorem dX5_init_6 : decode cX5_init 6 = .ok (.putfield 9, 3) := by decide +kernel
theorem dX5_init_9 : decode cX5_init 9 = .ok (.return_, 1) := by decide +kernel
abbrev cX5_begin : ByteArray := prog_7_method_2_code
def yX5_begin : MethodName := ⟨RX5, "begin", "()V"⟩
theorem dX5_begin_0 : decode cX5_begin 0 = .ok (.iconst 0, 1) := by decide +kernel
theorem dX5_begin_1 : decode cX5_begin 1 = .ok (.istore_n 1, 1) := by decide +kernel
theorem dX5_begin_2 : decode cX5_begin 2 = .ok (.iload_n 1, 1) := by decide +kernel
theorem dX5_begin_3 : decode cX5_begin 3 = .ok (.aload_n 0, 1) := by decide +kernel
theorem dX5_begin_4 : decode cX5_begin 4 = .ok (.getfield 9, 3) := by decide +kernel
theorem dX5_begin_7 : decode cX5_begin 7 = .ok (.getfield 15, 3) := by decide +kernel
theorem dX5_begin_10 : decode cX5_begin 10 = .ok (.if_icmp .ge 54, 3) := by decide +kernel
theorem dX5_begin_13 : decode cX5_begin 13 = .ok (.aload_n 0, 1) := by decide +kernel
theorem dX5_begin_14 : decode cX5_begin 14 = .ok (.getfield 9, 3) := by decide +kernel
theorem dX5_begin_17 : decode cX5_begin 17 = .ok (.getfield 19, 3) := by decide +kernel
theorem dX5_begin_20 : decode cX5_begin 20 = .ok (.iload_n 1, 1) := by decide +kernel
theorem dX5_begin_21 : decode cX5_begin 21 = .ok (.aaload, 1) := by decide +kernel
theorem dX5_begin_22 : decode cX5_begin 22 = .ok (.getfield 23, 3) := by decide +kernel
theorem dX5_begin_25 : decode cX5_begin 25 = .ok (.lconst 1, 1) := by decide +kernel
theorem dX5_begin_26 : decode cX5_begin 26 = .ok (.invokevirtual 29, 3) := by decide +kernel
theorem dX5_begin_29 : decode cX5_begin 29 = .ok (.aload_n 0, 1) := by decide +kernel
theorem dX5_begin_30 : decode cX5_begin 30 = .ok (.getfield 9, 3) := by decide +kernel
theorem dX5_begin_33 : decode cX5_begin 33 = .ok (.getfield 19, 3) := by decide +kernel
theorem dX5_begin_36 : decode cX5_begin 36 = .ok (.iload_n 1, 1) := by decide +kernel
theorem dX5_begin_37 : decode cX5_begin 37 = .ok (.aaload, 1) := by decide +kernel
theorem dX5_begin_38 : decode cX5_begin 38 = .ok (.getfield 35, 3) := by decide +kernel
theorem dX5_begin_41 : decode cX5_begin 41 = .ok (.lconst 1, 1) := by decide +kernel
theorem dX5_begin_42 : decode cX5_begin 42 = .ok (.invokevirtual 29, 3) := by decide +kernel
theorem dX5_begin_45 : decode cX5_begin 45 = .ok (.aload_n 0, 1) := by decide +kernel
theorem dX5_begin_46 : decode cX5_begin 46 = .ok (.getfield 9, 3) := by decide +kernel
theorem dX5_begin_49 : decode cX5_begin 49 = .ok (.getfield 19, 3) := by decide +kernel
theorem dX5_begin_52 : decode cX5_begin 52 = .ok (.iload_n 1, 1) := by decide +kernel
theorem dX5_begin_53 : decode cX5_begin 53 = .ok (.aaload, 1) := by decide +kernel
theorem dX5_begin_54 : decode cX5_begin 54 = .ok (.iconst (-1), 1) := by decide +kernel
theorem dX5_begin_55 : decode cX5_begin 55 = .ok (.putfield 38, 3) := by decide +kernel
theorem dX5_begin_58 : decode cX5_begin 58 = .ok (.iinc 1 1, 3) := by decide +kernel
theorem dX5_begin_61 : decode cX5_begin 61 = .ok (.goto (-59), 3) := by decide +kernel
theorem dX5_begin_64 : decode cX5_begin 64 = .ok (.return_, 1) := by decide +kernel
abbrev cX5_look : ByteArray := prog_7_method_3_code
def yX5_look : MethodName := ⟨RX5, "look", "(III)V"⟩
theorem dX5_look_0 : decode cX5_look 0 = .ok (.iconst 0, 1) := by decide +kernel
theorem dX5_look_1 : decode cX5_look 1 = .ok (.istore 4, 2) := by decide +kernel
theorem dX5_look_3 : decode cX5_look 3 = .ok (.iload 4, 2) := by decide +kernel
theorem dX5_look_5 : decode cX5_look 5 = .ok (.aload_n 0, 1) := by decide +kernel
theorem dX5_look_6 : decode cX5_look 6 = .ok (.getfield 9, 3) := by decide +kernel
theorem dX5_look_9 : decode cX5_look 9 = .ok (.getfield 15, 3) := by decide +kernel
theorem dX5_look_12 : decode cX5_look 12 = .ok (.if_icmp .ge 131, 3) := by decide +kernel
theorem dX5_look_15 : decode cX5_look 15 = .ok (.aload_n 0, 1) := by decide +kernel
theorem dX5_look_16 : decode cX5_look 16 = .ok (.getfield 9, 3) := by decide +kernel
theorem dX5_look_19 : decode cX5_look 19 = .ok (.getfield 19, 3) := by decide +kernel
theorem dX5_look_22 : decode cX5_look 22 = .ok (.iload 4, 2) := by decide +kernel
theorem dX5_look_24 : decode cX5_look 24 = .ok (.aaload, 1) := by decide +kernel
theorem dX5_look_25 : decode cX5_look 25 = .ok (.astore 5, 2) := by decide +kernel
theorem dX5_look_27 : decode cX5_look 27 = .ok (.iload_n 2, 1) := by decide +kernel
theorem dX5_look_28 : decode cX5_look 28 = .ok (.aload 5, 2) := by decide +kernel
theorem dX5_look_30 : decode cX5_look 30 = .ok (.getfield 41, 3) := by decide +kernel
theorem dX5_look_33 : decode cX5_look 33 = .ok (.if_icmp .eq 15, 3) := by decide +kernel
theorem dX5_look_36 : decode cX5_look 36 = .ok (.iload_n 2, 1) := by decide +kernel
theorem dX5_look_37 : decode cX5_look 37 = .ok (.aload 5, 2) := by decide +kernel
theorem dX5_look_39 : decode cX5_look 39 = .ok (.getfield 44, 3) := by decide +kernel
theorem dX5_look_42 : decode cX5_look 42 = .ok (.if_icmp .eq 6, 3) := by decide +kernel
theorem dX5_look_45 : decode cX5_look 45 = .ok (.goto 92, 3) := by decide +kernel
theorem dX5_look_48 : decode cX5_look 48 = .ok (.aload 5, 2) := by decide +kernel
theorem dX5_look_50 : decode cX5_look 50 = .ok (.getfield 23, 3) := by decide +kernel
theorem dX5_look_53 : decode cX5_look 53 = .ok (.iconst 2, 1) := by decide +kernel
theorem dX5_look_54 : decode cX5_look 54 = .ok (.aload_n 0, 1) := by decide +kernel
theorem dX5_look_55 : decode cX5_look 55 = .ok (.getfield 9, 3) := by decide +kernel
theorem dX5_look_58 : decode cX5_look 58 = .ok (.getfield 47, 3) := by decide +kernel
theorem dX5_look_61 : decode cX5_look 61 = .ok (.iload_n 2, 1) := by decide +kernel
theorem dX5_look_62 : decode cX5_look 62 = .ok (.iaload, 1) := by decide +kernel
theorem dX5_look_63 : decode cX5_look 63 = .ok (.imul, 1) := by decide +kernel
theorem dX5_look_64 : decode cX5_look 64 = .ok (.invokevirtual 51, 3) := by decide +kernel
theorem dX5_look_67 : decode cX5_look 67 = .ok (.aload 5, 2) := by decide +kernel
theorem dX5_look_69 : decode cX5_look 69 = .ok (.getfield 35, 3) := by decide +kernel
theorem dX5_look_72 : decode cX5_look 72 = .ok (.aload_n 0, 1) := by decide +kernel
theorem dX5_look_73 : decode cX5_look 73 = .ok (.getfield 9, 3) := by decide +kernel
theorem dX5_look_76 : decode cX5_look 76 = .ok (.getfield 47, 3) := by decide +kernel
theorem dX5_look_79 : decode cX5_look 79 = .ok (.aload 5, 2) := by decide +kernel
theorem dX5_look_81 : decode cX5_look 81 = .ok (.getfield 41, 3) := by decide +kernel
theorem dX5_look_84 : decode cX5_look 84 = .ok (.iaload, 1) := by decide +kernel
theorem dX5_look_85 : decode cX5_look 85 = .ok (.aload_n 0, 1) := by decide +kernel
theorem dX5_look_86 : decode cX5_look 86 = .ok (.getfield 9, 3) := by decide +kernel
theorem dX5_look_89 : decode cX5_look 89 = .ok (.getfield 47, 3) := by decide +kernel
theorem dX5_look_92 : decode cX5_look 92 = .ok (.aload 5, 2) := by decide +kernel
theorem dX5_look_94 : decode cX5_look 94 = .ok (.getfield 44, 3) := by decide +kernel
theorem dX5_look_97 : decode cX5_look 97 = .ok (.iaload, 1) := by decide +kernel
theorem dX5_look_98 : decode cX5_look 98 = .ok (.iadd, 1) := by decide +kernel
theorem dX5_look_99 : decode cX5_look 99 = .ok (.invokevirtual 51, 3) := by decide +kernel
theorem dX5_look_102 : decode cX5_look 102 = .ok (.aload 5, 2) := by decide +kernel
theorem dX5_look_104 : decode cX5_look 104 = .ok (.getfield 38, 3) := by decide +kernel
theorem dX5_look_107 : decode cX5_look 107 = .ok (.iconst (-1), 1) := by decide +kernel
theorem dX5_look_108 : decode cX5_look 108 = .ok (.if_icmp .ne 29, 3) := by decide +kernel
theorem dX5_look_111 : decode cX5_look 111 = .ok (.aload_n 0, 1) := by decide +kernel
theorem dX5_look_112 : decode cX5_look 112 = .ok (.getfield 9, 3) := by decide +kernel
theorem dX5_look_115 : decode cX5_look 115 = .ok (.aload 5, 2) := by decide +kernel
theorem dX5_look_117 : decode cX5_look 117 = .ok (.getfield 23, 3) := by decide +kernel
theorem dX5_look_120 : decode cX5_look 120 = .ok (.aload 5, 2) := by decide +kernel
theorem dX5_look_122 : decode cX5_look 122 = .ok (.getfield 35, 3) := by decide +kernel
theorem dX5_look_125 : decode cX5_look 125 = .ok (.invokevirtual 55, 3) := by decide +kernel
theorem dX5_look_128 : decode cX5_look 128 = .ok (.ifCond .eq 9, 3) := by decide +kernel
theorem dX5_look_131 : decode cX5_look 131 = .ok (.aload 5, 2) := by decide +kernel
theorem dX5_look_133 : decode cX5_look 133 = .ok (.iload_n 3, 1) := by decide +kernel
theorem dX5_look_134 : decode cX5_look 134 = .ok (.putfield 38, 3) := by decide +kernel
theorem dX5_look_137 : decode cX5_look 137 = .ok (.iinc 4 1, 3) := by decide +kernel
theorem dX5_look_140 : decode cX5_look 140 = .ok (.goto (-137), 3) := by decide +kernel
theorem dX5_look_143 : decode cX5_look 143 = .ok (.return_, 1) := by decide +kernel
abbrev cX5_isSure : ByteArray := prog_7_method_4_code
def yX5_isSure : MethodName := ⟨RX5, "isSure", "()Z"⟩
theorem dX5_isSure_0 : decode cX5_isSure 0 = .ok (.iconst 1, 1) := by decide +kernel
theorem dX5_isSure_1 : decode cX5_isSure 1 = .ok (.istore_n 1, 1) := by decide +kernel
theorem dX5_isSure_2 : decode cX5_isSure 2 = .ok (.iconst 0, 1) := by decide +kernel
theorem dX5_isSure_3 : decode cX5_isSure 3 = .ok (.istore_n 2, 1) := by decide +kernel
theorem dX5_isSure_4 : decode cX5_isSure 4 = .ok (.iload_n 2, 1) := by decide +kernel
theorem dX5_isSure_5 : decode cX5_isSure 5 = .ok (.aload_n 0, 1) := by decide +kernel
theorem dX5_isSure_6 : decode cX5_isSure 6 = .ok (.getfield 9, 3) := by decide +kernel
theorem dX5_isSure_9 : decode cX5_isSure 9 = .ok (.getfield 15, 3) := by decide +kernel
theorem dX5_isSure_12 : decode cX5_isSure 12 = .ok (.if_icmp .ge 33, 3) := by decide +kernel
theorem dX5_isSure_15 : decode cX5_isSure 15 = .ok (.iload_n 1, 1) := by decide +kernel
theorem dX5_isSure_16 : decode cX5_isSure 16 = .ok (.aload_n 0, 1) := by decide +kernel
theorem dX5_isSure_17 : decode cX5_isSure 17 = .ok (.getfield 9, 3) := by decide +kernel
theorem dX5_isSure_20 : decode cX5_isSure 20 = .ok (.getfield 19, 3) := by decide +kernel
theorem dX5_isSure_23 : decode cX5_isSure 23 = .ok (.iload_n 2, 1) := by decide +kernel
theorem dX5_isSure_24 : decode cX5_isSure 24 = .ok (.aaload, 1) := by decide +kernel
theorem dX5_isSure_25 : decode cX5_isSure 25 = .ok (.getfield 38, 3) := by decide +kernel
theorem dX5_isSure_28 : decode cX5_isSure 28 = .ok (.iconst (-1), 1) := by decide +kernel
theorem dX5_isSure_29 : decode cX5_isSure 29 = .ok (.if_icmp .eq 7, 3) := by decide +kernel
theorem dX5_isSure_32 : decode cX5_isSure 32 = .ok (.iconst 1, 1) := by decide +kernel
theorem dX5_isSure_33 : decode cX5_isSure 33 = .ok (.goto 4, 3) := by decide +kernel
theorem dX5_isSure_36 : decode cX5_isSure 36 = .ok (.iconst 0, 1) := by decide +kernel
theorem dX5_isSure_37 : decode cX5_isSure 37 = .ok (.iand, 1) := by decide +kernel
theorem dX5_isSure_38 : decode cX5_isSure 38 = .ok (.istore_n 1, 1) := by decide +kernel
theorem dX5_isSure_39 : decode cX5_isSure 39 = .ok (.iinc 2 1, 3) := by decide +kernel
theorem dX5_isSure_42 : decode cX5_isSure 42 = .ok (.goto (-38), 3) := by decide +kernel
theorem dX5_isSure_45 : decode cX5_isSure 45 = .ok (.iload_n 1, 1) := by decide +kernel
theorem dX5_isSure_46 : decode cX5_isSure 46 = .ok (.ireturn, 1) := by decide +kernel
theorem q57 : (Jvm.Cond.initialized "PollAudit$Polling") ∈ lw_all := lw_g (lw_at lw_m1 5 rfl) rfl
theorem q149 : (Jvm.Cond.instantiable "PollAudit$Polling" (1 : Nat)) ∈ lw_all := lw_g (lw_at lw_m1 97 rfl) rfl
theorem q151 : (Jvm.Cond.instanceMethod ({ cls := "PollAudit$Polling", name := "<init>", desc := "(LPollAudit;)V" } : Jvm.MethodName)) ∈ lw_all := lw_g (lw_at lw_m1 99 rfl) rfl
theorem q152 : (Jvm.Cond.code ({ cls := "PollAudit$Polling", name := "<init>", desc := "(LPollAudit;)V" } : Jvm.MethodName) prog_7_method_1_code (2 : Nat) (Option.none : Option Jvm.ClassFile.FieldType)) ∈ lw_all := lw_g (lw_at lw_m1 100 rfl) rfl
theorem q153 : (Jvm.Cond.methodLink "PollAudit$Polling" (3 : Nat) ({ cls := "java/lang/Object", name := "<init>", desc := "()V" } : Jvm.MethodName)) ∈ lw_all := lw_g (lw_at lw_m1 101 rfl) rfl
theorem q154 : (Jvm.Cond.fieldLink "PollAudit$Polling" (9 : Nat) "PollAudit$Polling" "o" "LPollAudit;") ∈ lw_all := lw_g (lw_at lw_m1 102 rfl) rfl
theorem q155 : (Jvm.Cond.laysFinal "PollAudit$Polling" "PollAudit$Polling" "o" "LPollAudit;") ∈ lw_all := lw_g (lw_at lw_m1 103 rfl) rfl
theorem q156 : (Jvm.Cond.soleField "PollAudit$Polling" "o") ∈ lw_all := lw_g (lw_at lw_m1 104 rfl) rfl
theorem q157 : (Jvm.Cond.superclass "PollAudit$Polling" "java/lang/Object") ∈ lw_all := lw_g (lw_at lw_m1 105 rfl) rfl
theorem q244 : (Jvm.Cond.fieldLinkNest "PollAudit$Polling" (41 : Nat) "PollAudit$Pair" "winner" "I" "PollAudit") ∈ lw_tbl := lw_at lw_m1 192 rfl
theorem q247 : (Jvm.Cond.fieldLinkNest "PollAudit$Polling" (44 : Nat) "PollAudit$Pair" "loser" "I" "PollAudit") ∈ lw_tbl := lw_at lw_m1 195 rfl
theorem q249 : (Jvm.Cond.fieldLinkNest "PollAudit$Polling" (38 : Nat) "PollAudit$Pair" "sure" "I" "PollAudit") ∈ lw_tbl := lw_at lw_m1 197 rfl
theorem q253 : (Jvm.Cond.fieldLinkNest "PollAudit$Polling" (23 : Nat) "PollAudit$Pair" "above" "LPollAudit$Big;" "PollAudit") ∈ lw_tbl := lw_at lw_m1 201 rfl
theorem q257 : (Jvm.Cond.fieldLinkNest "PollAudit$Polling" (35 : Nat) "PollAudit$Pair" "below" "LPollAudit$Big;" "PollAudit") ∈ lw_tbl := lw_at lw_m1 205 rfl
theorem q289 : (Jvm.Cond.fieldLinkNest "PollAudit$Polling" (47 : Nat) "PollAudit" "votes" "[I" "PollAudit") ∈ lw_tbl := lw_at lw_m1 237 rfl
theorem q318 : (Jvm.Cond.fieldLinkNest "PollAudit$Polling" (19 : Nat) "PollAudit" "all" "[LPollAudit$Pair;" "PollAudit") ∈ lw_tbl := lw_at lw_m2 26 rfl
theorem q321 : (Jvm.Cond.fieldLinkNest "PollAudit$Polling" (15 : Nat) "PollAudit" "pairs" "I" "PollAudit") ∈ lw_tbl := lw_at lw_m2 29 rfl
theorem q675 : (Jvm.Cond.castable "PollAudit$Polling" "PollAudit$Test") ∈ lw_tbl := lw_at lw_m3 143 rfl
theorem q676 : (Jvm.Cond.selects "PollAudit$Polling" ({ cls := "PollAudit$Test", name := "begin", desc := "()V" } : Jvm.MethodName) ({ cls := "PollAudit$Polling", name := "begin", desc := "()V" } : Jvm.MethodName)) ∈ lw_all := lw_g (lw_at lw_m3 144 rfl) rfl
theorem q677 : (Jvm.Cond.unhidden "PollAudit$Polling" "begin" "()V") ∈ lw_tbl := lw_at lw_m3 145 rfl
theorem q678 : (Jvm.Cond.instanceMethod ({ cls := "PollAudit$Polling", name := "begin", desc := "()V" } : Jvm.MethodName)) ∈ lw_all := lw_g (lw_at lw_m3 146 rfl) rfl
theorem q679 : (Jvm.Cond.publicMethod ({ cls := "PollAudit$Polling", name := "begin", desc := "()V" } : Jvm.MethodName)) ∈ lw_tbl := lw_at lw_m3 147 rfl
theorem q680 : (Jvm.Cond.code ({ cls := "PollAudit$Polling", name := "begin", desc := "()V" } : Jvm.MethodName) prog_7_method_2_code (2 : Nat) (Option.none : Option Jvm.ClassFile.FieldType)) ∈ lw_all := lw_g (lw_at lw_m3 148 rfl) rfl
theorem q681 : (Jvm.Cond.methodLink "PollAudit$Polling" (29 : Nat) ({ cls := "PollAudit$Big", name := "set", desc := "(J)V" } : Jvm.MethodName)) ∈ lw_all := lw_g (lw_at lw_m3 149 rfl) rfl
theorem q790 : (Jvm.Cond.selects "PollAudit$Polling" ({ cls := "PollAudit$Test", name := "look", desc := "(III)V" } : Jvm.MethodName) ({ cls := "PollAudit$Polling", name := "look", desc := "(III)V" } : Jvm.MethodName)) ∈ lw_all := lw_g (lw_at lw_m4 18 rfl) rfl
theorem q791 : (Jvm.Cond.unhidden "PollAudit$Polling" "look" "(III)V") ∈ lw_tbl := lw_at lw_m4 19 rfl
theorem q792 : (Jvm.Cond.instanceMethod ({ cls := "PollAudit$Polling", name := "look", desc := "(III)V" } : Jvm.MethodName)) ∈ lw_all := lw_g (lw_at lw_m4 20 rfl) rfl
theorem q793 : (Jvm.Cond.publicMethod ({ cls := "PollAudit$Polling", name := "look", desc := "(III)V" } : Jvm.MethodName)) ∈ lw_tbl := lw_at lw_m4 21 rfl
theorem q794 : (Jvm.Cond.code ({ cls := "PollAudit$Polling", name := "look", desc := "(III)V" } : Jvm.MethodName) prog_7_method_3_code (6 : Nat) (Option.none : Option Jvm.ClassFile.FieldType)) ∈ lw_all := lw_g (lw_at lw_m4 22 rfl) rfl
theorem q795 : (Jvm.Cond.methodLink "PollAudit$Polling" (51 : Nat) ({ cls := "PollAudit$Big", name := "times", desc := "(I)V" } : Jvm.MethodName)) ∈ lw_all := lw_g (lw_at lw_m4 23 rfl) rfl
theorem q796 : (Jvm.Cond.methodLinkNest "PollAudit$Polling" (55 : Nat) ({ cls := "PollAudit", name := "reaches", desc := "(LPollAudit$Big;LPollAudit$Big;)Z" } : Jvm.MethodName) "PollAudit") ∈ lw_tbl := lw_at lw_m4 24 rfl
theorem q824 : (Jvm.Cond.selects "PollAudit$Polling" ({ cls := "PollAudit$Test", name := "isSure", desc := "()Z" } : Jvm.MethodName) ({ cls := "PollAudit$Polling", name := "isSure", desc := "()Z" } : Jvm.MethodName)) ∈ lw_all := lw_g (lw_at lw_m4 52 rfl) rfl
theorem q825 : (Jvm.Cond.unhidden "PollAudit$Polling" "isSure" "()Z") ∈ lw_tbl := lw_at lw_m4 53 rfl
theorem q826 : (Jvm.Cond.instanceMethod ({ cls := "PollAudit$Polling", name := "isSure", desc := "()Z" } : Jvm.MethodName)) ∈ lw_all := lw_g (lw_at lw_m4 54 rfl) rfl
theorem q827 : (Jvm.Cond.publicMethod ({ cls := "PollAudit$Polling", name := "isSure", desc := "()Z" } : Jvm.MethodName)) ∈ lw_tbl := lw_at lw_m4 55 rfl
theorem q828 : (Jvm.Cond.code ({ cls := "PollAudit$Polling", name := "isSure", desc := "()Z" } : Jvm.MethodName) prog_7_method_4_code (3 : Nat) (Option.some Jvm.ClassFile.FieldType.boolean)) ∈ lw_all := lw_g (lw_at lw_m4 56 rfl) rfl
abbrev cX6_init : ByteArray := prog_4_method_1_code
def yX6_init : MethodName := ⟨RX6, "<init>", "(LPollAudit;)V"⟩
theorem dX6_init_0 : decode cX6_init 0 = .ok (.aload_n 0, 1) := by decide +kernel
theorem dX6_init_1 : decode cX6_init 1 = .ok (.invokespecial 3, 3) := by decide +kernel
theorem dX6_init_4 : decode cX6_init 4 = .ok (.aload_n 0, 1) := by decide +kernel
theorem dX6_init_5 : decode cX6_init 5 = .ok (.new 9, 3) := by decide +kernel
theorem dX6_init_8 : decode cX6_init 8 = .ok (.dup, 1) := by decide +kernel
theorem dX6_init_9 : decode cX6_init 9 = .ok (.bipush 64, 2) := by decide +kernel
theorem dX6_init_11 : decode cX6_init 11 = .ok (.invokespecial 11, 3) := by decide +kernel
theorem dX6_init_14 : decode cX6_init 14 = .ok (.putfield 14, 3) := by decide +kernel
theorem dX6_init_17 : decode cX6_init 17 = .ok (.aload_n 0, 1) := by decide +kernel
theorem dX6_init_18 : decode cX6_init 18 = .ok (.new 9, 3) := by decide +kernel
theorem dX6_init_21 : decode cX6_init 21 = .ok (.dup, 1) := by decide +kernel
theorem dX6_init_22 : decode cX6_init 22 = .ok (.bipush 64, 2) := by decide +kernel
theorem dX6_init_24 : decode cX6_init 24 = .ok (.invokespecial 11, 3) := by decide +kernel
theorem dX6_init_27 : decode cX6_init 27 = .ok (.putfield 20, 3) := by decide +kernel
theorem dX6_init_30 : decode cX6_init 30 = .ok (.aload_n 0, 1) := by decide +kernel
theorem dX6_init_31 : decode cX6_init 31 = .ok (.aload_n 1, 1) := by decide +kernel
theorem dX6_init_32 : decode cX6_init 32 = .ok (.putfield 23, 3) := by decide +kernel
theorem dX6_init_35 : decode cX6_init 35 = .ok (.return_, 1) := by decide +kernel
abbrev cX6_begin : ByteArray := prog_4_method_2_code
def yX6_begin : MethodName := ⟨RX6, "begin", "()V"⟩
theorem dX6_begin_0 : decode cX6_begin 0 = .ok (.aload_n 0, 1) := by decide +kernel
theorem dX6_begin_1 : decode cX6_begin 1 = .ok (.getfield 14, 3) := by decide +kernel
theorem dX6_begin_4 : decode cX6_begin 4 = .ok (.lconst 1, 1) := by decide +kernel
theorem dX6_begin_5 : decode cX6_begin 5 = .ok (.invokevirtual 27, 3) := by decide +kernel
theorem dX6_begin_8 : decode cX6_begin 8 = .ok (.aload_n 0, 1) := by decide +kernel
theorem dX6_begin_9 : decode cX6_begin 9 = .ok (.getfield 20, 3) := by decide +kernel
theorem dX6_begin_12 : decode cX6_begin 12 = .ok (.lconst 1, 1) := by decide +kernel
theorem dX6_begin_13 : decode cX6_begin 13 = .ok (.invokevirtual 27, 3) := by decide +kernel
theorem dX6_begin_16 : decode cX6_begin 16 = .ok (.iconst 0, 1) := by decide +kernel
theorem dX6_begin_17 : decode cX6_begin 17 = .ok (.istore_n 1, 1) := by decide +kernel
theorem dX6_begin_18 : decode cX6_begin 18 = .ok (.iload_n 1, 1) := by decide +kernel
theorem dX6_begin_19 : decode cX6_begin 19 = .ok (.aload_n 0, 1) := by decide +kernel
theorem dX6_begin_20 : decode cX6_begin 20 = .ok (.getfield 23, 3) := by decide +kernel
theorem dX6_begin_23 : decode cX6_begin 23 = .ok (.getfield 31, 3) := by decide +kernel
theorem dX6_begin_26 : decode cX6_begin 26 = .ok (.if_icmp .ge 54, 3) := by decide +kernel
theorem dX6_begin_29 : decode cX6_begin 29 = .ok (.aload_n 0, 1) := by decide +kernel
theorem dX6_begin_30 : decode cX6_begin 30 = .ok (.getfield 23, 3) := by decide +kernel
theorem dX6_begin_33 : decode cX6_begin 33 = .ok (.getfield 35, 3) := by decide +kernel
theorem dX6_begin_36 : decode cX6_begin 36 = .ok (.iload_n 1, 1) := by decide +kernel
theorem dX6_begin_37 : decode cX6_begin 37 = .ok (.aaload, 1) := by decide +kernel
theorem dX6_begin_38 : decode cX6_begin 38 = .ok (.getfield 39, 3) := by decide +kernel
theorem dX6_begin_41 : decode cX6_begin 41 = .ok (.lconst 1, 1) := by decide +kernel
theorem dX6_begin_42 : decode cX6_begin 42 = .ok (.invokevirtual 27, 3) := by decide +kernel
theorem dX6_begin_45 : decode cX6_begin 45 = .ok (.aload_n 0, 1) := by decide +kernel
theorem dX6_begin_46 : decode cX6_begin 46 = .ok (.getfield 23, 3) := by decide +kernel
theorem dX6_begin_49 : decode cX6_begin 49 = .ok (.getfield 35, 3) := by decide +kernel
theorem dX6_begin_52 : decode cX6_begin 52 = .ok (.iload_n 1, 1) := by decide +kernel
theorem dX6_begin_53 : decode cX6_begin 53 = .ok (.aaload, 1) := by decide +kernel
theorem dX6_begin_54 : decode cX6_begin 54 = .ok (.getfield 42, 3) := by decide +kernel
theorem dX6_begin_57 : decode cX6_begin 57 = .ok (.lconst 1, 1) := by decide +kernel
theorem dX6_begin_58 : decode cX6_begin 58 = .ok (.invokevirtual 27, 3) := by decide +kernel
theorem dX6_begin_61 : decode cX6_begin 61 = .ok (.aload_n 0, 1) := by decide +kernel
theorem dX6_begin_62 : decode cX6_begin 62 = .ok (.getfield 23, 3) := by decide +kernel
theorem dX6_begin_65 : decode cX6_begin 65 = .ok (.getfield 35, 3) := by decide +kernel
theorem dX6_begin_68 : decode cX6_begin 68 = .ok (.iload_n 1, 1) := by decide +kernel
theorem dX6_begin_69 : decode cX6_begin 69 = .ok (.aaload, 1) := by decide +kernel
theorem dX6_begin_70 : decode cX6_begin 70 = .ok (.iconst (-1), 1) := by decide +kernel
theorem dX6_begin_71 : decode cX6_begin 71 = .ok (.putfield 43, 3) := by decide +kernel
theorem dX6_begin_74 : decode cX6_begin 74 = .ok (.iinc 1 1, 3) := by decide +kernel
theorem dX6_begin_77 : decode cX6_begin 77 = .ok (.goto (-59), 3) := by decide +kernel
theorem dX6_begin_80 : decode cX6_begin 80 = .ok (.return_, 1) := by decide +kernel
abbrev cX6_look : ByteArray := prog_4_method_4_code
def yX6_look : MethodName := ⟨RX6, "look", "(III)V"⟩
theorem dX6_look_0 : decode cX6_look 0 = .ok (.lconst 0, 1) := by decide +kernel
theorem dX6_look_1 : decode cX6_look 1 = .ok (.lstore 4, 2) := by decide +kernel
theorem dX6_look_3 : decode cX6_look 3 = .ok (.lconst 1, 1) := by decide +kernel
theorem dX6_look_4 : decode cX6_look 4 = .ok (.lstore 6, 2) := by decide +kernel
theorem dX6_look_6 : decode cX6_look 6 = .ok (.iconst 0, 1) := by decide +kernel
theorem dX6_look_7 : decode cX6_look 7 = .ok (.istore 8, 2) := by decide +kernel
theorem dX6_look_9 : decode cX6_look 9 = .ok (.iload 8, 2) := by decide +kernel
theorem dX6_look_11 : decode cX6_look 11 = .ok (.aload_n 0, 1) := by decide +kernel
theorem dX6_look_12 : decode cX6_look 12 = .ok (.getfield 23, 3) := by decide +kernel
theorem dX6_look_15 : decode cX6_look 15 = .ok (.getfield 31, 3) := by decide +kernel
theorem dX6_look_18 : decode cX6_look 18 = .ok (.if_icmp .ge 86, 3) := by decide +kernel
theorem dX6_look_21 : decode cX6_look 21 = .ok (.iload_n 2, 1) := by decide +kernel
theorem dX6_look_22 : decode cX6_look 22 = .ok (.bipush (-2), 2) := by decide +kernel
theorem dX6_look_24 : decode cX6_look 24 = .ok (.if_icmp .eq 80, 3) := by decide +kernel
theorem dX6_look_27 : decode cX6_look 27 = .ok (.aload_n 0, 1) := by decide +kernel
theorem dX6_look_28 : decode cX6_look 28 = .ok (.aload_n 0, 1) := by decide +kernel
theorem dX6_look_29 : decode cX6_look 29 = .ok (.getfield 23, 3) := by decide +kernel
theorem dX6_look_32 : decode cX6_look 32 = .ok (.getfield 35, 3) := by decide +kernel
theorem dX6_look_35 : decode cX6_look 35 = .ok (.iload 8, 2) := by decide +kernel
theorem dX6_look_37 : decode cX6_look 37 = .ok (.aaload, 1) := by decide +kernel
theorem dX6_look_38 : decode cX6_look 38 = .ok (.iload_n 1, 1) := by decide +kernel
theorem dX6_look_39 : decode cX6_look 39 = .ok (.iload_n 2, 1) := by decide +kernel
theorem dX6_look_40 : decode cX6_look 40 = .ok (.invokevirtual 52, 3) := by decide +kernel
theorem dX6_look_43 : decode cX6_look 43 = .ok (.istore 9, 2) := by decide +kernel
theorem dX6_look_45 : decode cX6_look 45 = .ok (.aload_n 0, 1) := by decide +kernel
theorem dX6_look_46 : decode cX6_look 46 = .ok (.getfield 23, 3) := by decide +kernel
theorem dX6_look_49 : decode cX6_look 49 = .ok (.aload_n 0, 1) := by decide +kernel
theorem dX6_look_50 : decode cX6_look 50 = .ok (.getfield 23, 3) := by decide +kernel
theorem dX6_look_53 : decode cX6_look 53 = .ok (.getfield 35, 3) := by decide +kernel
theorem dX6_look_56 : decode cX6_look 56 = .ok (.iload 8, 2) := by decide +kernel
theorem dX6_look_58 : decode cX6_look 58 = .ok (.aaload, 1) := by decide +kernel
theorem dX6_look_59 : decode cX6_look 59 = .ok (.invokevirtual 56, 3) := by decide +kernel
theorem dX6_look_62 : decode cX6_look 62 = .ok (.istore 10, 2) := by decide +kernel
theorem dX6_look_64 : decode cX6_look 64 = .ok (.iload 8, 2) := by decide +kernel
theorem dX6_look_66 : decode cX6_look 66 = .ok (.ifCond .le 22, 3) := by decide +kernel
theorem dX6_look_69 : decode cX6_look 69 = .ok (.iload 9, 2) := by decide +kernel
theorem dX6_look_71 : decode cX6_look 71 = .ok (.i2l, 1) := by decide +kernel
theorem dX6_look_72 : decode cX6_look 72 = .ok (.lload 6, 2) := by decide +kernel
theorem dX6_look_74 : decode cX6_look 74 = .ok (.lmul, 1) := by decide +kernel
theorem dX6_look_75 : decode cX6_look 75 = .ok (.lload 4, 2) := by decide +kernel
theorem dX6_look_77 : decode cX6_look 77 = .ok (.iload 10, 2) := by decide +kernel
theorem dX6_look_79 : decode cX6_look 79 = .ok (.i2l, 1) := by decide +kernel
theorem dX6_look_80 : decode cX6_look 80 = .ok (.lmul, 1) := by decide +kernel
theorem dX6_look_81 : decode cX6_look 81 = .ok (.lcmp, 1) := by decide +kernel
theorem dX6_look_82 : decode cX6_look 82 = .ok (.ifCond .gt 6, 3) := by decide +kernel
theorem dX6_look_85 : decode cX6_look 85 = .ok (.goto 13, 3) := by decide +kernel
theorem dX6_look_88 : decode cX6_look 88 = .ok (.iload 9, 2) := by decide +kernel
theorem dX6_look_90 : decode cX6_look 90 = .ok (.i2l, 1) := by decide +kernel
theorem dX6_look_91 : decode cX6_look 91 = .ok (.lstore 4, 2) := by decide +kernel
theorem dX6_look_93 : decode cX6_look 93 = .ok (.iload 10, 2) := by decide +kernel
theorem dX6_look_95 : decode cX6_look 95 = .ok (.i2l, 1) := by decide +kernel
theorem dX6_look_96 : decode cX6_look 96 = .ok (.lstore 6, 2) := by decide +kernel
theorem dX6_look_98 : decode cX6_look 98 = .ok (.iinc 8 1, 3) := by decide +kernel
theorem dX6_look_101 : decode cX6_look 101 = .ok (.goto (-92), 3) := by decide +kernel
theorem dX6_look_104 : decode cX6_look 104 = .ok (.aload_n 0, 1) := by decide +kernel
theorem dX6_look_105 : decode cX6_look 105 = .ok (.getfield 23, 3) := by decide +kernel
theorem dX6_look_108 : decode cX6_look 108 = .ok (.getfield 60, 3) := by decide +kernel
theorem dX6_look_111 : decode cX6_look 111 = .ok (.ldc2_w 63, 3) := by decide +kernel
theorem dX6_look_114 : decode cX6_look 114 = .ok (.aload_n 0, 1) := by decide +kernel
theorem dX6_look_115 : decode cX6_look 115 = .ok (.getfield 23, 3) := by decide +kernel
theorem dX6_look_118 : decode cX6_look 118 = .ok (.getfield 65, 3) := by decide +kernel
theorem dX6_look_121 : decode cX6_look 121 = .ok (.i2l, 1) := by decide +kernel
theorem dX6_look_122 : decode cX6_look 122 = .ok (.lmul, 1) := by decide +kernel
theorem dX6_look_123 : decode cX6_look 123 = .ok (.aload_n 0, 1) := by decide +kernel
theorem dX6_look_124 : decode cX6_look 124 = .ok (.getfield 23, 3) := by decide +kernel
theorem dX6_look_127 : decode cX6_look 127 = .ok (.getfield 68, 3) := by decide +kernel
theorem dX6_look_130 : decode cX6_look 130 = .ok (.i2l, 1) := by decide +kernel
theorem dX6_look_131 : decode cX6_look 131 = .ok (.lmul, 1) := by decide +kernel
theorem dX6_look_132 : decode cX6_look 132 = .ok (.aload_n 0, 1) := by decide +kernel
theorem dX6_look_133 : decode cX6_look 133 = .ok (.getfield 23, 3) := by decide +kernel
theorem dX6_look_136 : decode cX6_look 136 = .ok (.invokevirtual 71, 3) := by decide +kernel
theorem dX6_look_139 : decode cX6_look 139 = .ok (.i2l, 1) := by decide +kernel
theorem dX6_look_140 : decode cX6_look 140 = .ok (.aload_n 0, 1) := by decide +kernel
theorem dX6_look_141 : decode cX6_look 141 = .ok (.getfield 23, 3) := by decide +kernel
theorem dX6_look_144 : decode cX6_look 144 = .ok (.getfield 75, 3) := by decide +kernel
theorem dX6_look_147 : decode cX6_look 147 = .ok (.i2l, 1) := by decide +kernel
theorem dX6_look_148 : decode cX6_look 148 = .ok (.lmul, 1) := by decide +kernel
theorem dX6_look_149 : decode cX6_look 149 = .ok (.lsub, 1) := by decide +kernel
theorem dX6_look_150 : decode cX6_look 150 = .ok (.invokevirtual 27, 3) := by decide +kernel
theorem dX6_look_153 : decode cX6_look 153 = .ok (.aload_n 0, 1) := by decide +kernel
theorem dX6_look_154 : decode cX6_look 154 = .ok (.getfield 23, 3) := by decide +kernel
theorem dX6_look_157 : decode cX6_look 157 = .ok (.getfield 78, 3) := by decide +kernel
theorem dX6_look_160 : decode cX6_look 160 = .ok (.aload_n 0, 1) := by decide +kernel
theorem dX6_look_161 : decode cX6_look 161 = .ok (.getfield 14, 3) := by decide +kernel
theorem dX6_look_164 : decode cX6_look 164 = .ok (.aload_n 0, 1) := by decide +kernel
theorem dX6_look_165 : decode cX6_look 165 = .ok (.getfield 23, 3) := by decide +kernel
theorem dX6_look_168 : decode cX6_look 168 = .ok (.getfield 60, 3) := by decide +kernel
theorem dX6_look_171 : decode cX6_look 171 = .ok (.invokevirtual 82, 3) := by decide +kernel
theorem dX6_look_174 : decode cX6_look 174 = .ok (.aload_n 0, 1) := by decide +kernel
theorem dX6_look_175 : decode cX6_look 175 = .ok (.getfield 23, 3) := by decide +kernel
theorem dX6_look_178 : decode cX6_look 178 = .ok (.getfield 60, 3) := by decide +kernel
theorem dX6_look_181 : decode cX6_look 181 = .ok (.lload 6, 2) := by decide +kernel
theorem dX6_look_183 : decode cX6_look 183 = .ok (.invokevirtual 27, 3) := by decide +kernel
theorem dX6_look_186 : decode cX6_look 186 = .ok (.aload_n 0, 1) := by decide +kernel
theorem dX6_look_187 : decode cX6_look 187 = .ok (.getfield 23, 3) := by decide +kernel
theorem dX6_look_190 : decode cX6_look 190 = .ok (.getfield 78, 3) := by decide +kernel
theorem dX6_look_193 : decode cX6_look 193 = .ok (.aload_n 0, 1) := by decide +kernel
theorem dX6_look_194 : decode cX6_look 194 = .ok (.getfield 14, 3) := by decide +kernel
theorem dX6_look_197 : decode cX6_look 197 = .ok (.aload_n 0, 1) := by decide +kernel
theorem dX6_look_198 : decode cX6_look 198 = .ok (.getfield 23, 3) := by decide +kernel
theorem dX6_look_201 : decode cX6_look 201 = .ok (.getfield 60, 3) := by decide +kernel
theorem dX6_look_204 : decode cX6_look 204 = .ok (.invokevirtual 82, 3) := by decide +kernel
theorem dX6_look_207 : decode cX6_look 207 = .ok (.aload_n 0, 1) := by decide +kernel
theorem dX6_look_208 : decode cX6_look 208 = .ok (.getfield 23, 3) := by decide +kernel
theorem dX6_look_211 : decode cX6_look 211 = .ok (.getfield 60, 3) := by decide +kernel
theorem dX6_look_214 : decode cX6_look 214 = .ok (.ldc2_w 63, 3) := by decide +kernel
theorem dX6_look_217 : decode cX6_look 217 = .ok (.aload_n 0, 1) := by decide +kernel
theorem dX6_look_218 : decode cX6_look 218 = .ok (.getfield 23, 3) := by decide +kernel
theorem dX6_look_221 : decode cX6_look 221 = .ok (.getfield 65, 3) := by decide +kernel
theorem dX6_look_224 : decode cX6_look 224 = .ok (.i2l, 1) := by decide +kernel
theorem dX6_look_225 : decode cX6_look 225 = .ok (.lmul, 1) := by decide +kernel
theorem dX6_look_226 : decode cX6_look 226 = .ok (.lload 6, 2) := by decide +kernel
theorem dX6_look_228 : decode cX6_look 228 = .ok (.lmul, 1) := by decide +kernel
theorem dX6_look_229 : decode cX6_look 229 = .ok (.lload 4, 2) := by decide +kernel
theorem dX6_look_231 : decode cX6_look 231 = .ok (.aload_n 0, 1) := by decide +kernel
theorem dX6_look_232 : decode cX6_look 232 = .ok (.getfield 23, 3) := by decide +kernel
theorem dX6_look_235 : decode cX6_look 235 = .ok (.invokevirtual 71, 3) := by decide +kernel
theorem dX6_look_238 : decode cX6_look 238 = .ok (.i2l, 1) := by decide +kernel
theorem dX6_look_239 : decode cX6_look 239 = .ok (.lmul, 1) := by decide +kernel
theorem dX6_look_240 : decode cX6_look 240 = .ok (.aload_n 0, 1) := by decide +kernel
theorem dX6_look_241 : decode cX6_look 241 = .ok (.getfield 23, 3) := by decide +kernel
theorem dX6_look_244 : decode cX6_look 244 = .ok (.getfield 75, 3) := by decide +kernel
theorem dX6_look_247 : decode cX6_look 247 = .ok (.i2l, 1) := by decide +kernel
theorem dX6_look_248 : decode cX6_look 248 = .ok (.lmul, 1) := by decide +kernel
theorem dX6_look_249 : decode cX6_look 249 = .ok (.lsub, 1) := by decide +kernel
theorem dX6_look_250 : decode cX6_look 250 = .ok (.invokevirtual 27, 3) := by decide +kernel
theorem dX6_look_253 : decode cX6_look 253 = .ok (.aload_n 0, 1) := by decide +kernel
theorem dX6_look_254 : decode cX6_look 254 = .ok (.getfield 23, 3) := by decide +kernel
theorem dX6_look_257 : decode cX6_look 257 = .ok (.getfield 78, 3) := by decide +kernel
theorem dX6_look_260 : decode cX6_look 260 = .ok (.aload_n 0, 1) := by decide +kernel
theorem dX6_look_261 : decode cX6_look 261 = .ok (.getfield 20, 3) := by decide +kernel
theorem dX6_look_264 : decode cX6_look 264 = .ok (.aload_n 0, 1) := by decide +kernel
theorem dX6_look_265 : decode cX6_look 265 = .ok (.getfield 23, 3) := by decide +kernel
theorem dX6_look_268 : decode cX6_look 268 = .ok (.getfield 60, 3) := by decide +kernel
theorem dX6_look_271 : decode cX6_look 271 = .ok (.invokevirtual 82, 3) := by decide +kernel
theorem dX6_look_274 : decode cX6_look 274 = .ok (.aload_n 0, 1) := by decide +kernel
theorem dX6_look_275 : decode cX6_look 275 = .ok (.getfield 20, 3) := by decide +kernel
theorem dX6_look_278 : decode cX6_look 278 = .ok (.aload_n 0, 1) := by decide +kernel
theorem dX6_look_279 : decode cX6_look 279 = .ok (.getfield 23, 3) := by decide +kernel
theorem dX6_look_282 : decode cX6_look 282 = .ok (.getfield 68, 3) := by decide +kernel
theorem dX6_look_285 : decode cX6_look 285 = .ok (.invokevirtual 88, 3) := by decide +kernel
theorem dX6_look_288 : decode cX6_look 288 = .ok (.return_, 1) := by decide +kernel
abbrev cX6_off : ByteArray := prog_4_method_3_code
def yX6_off : MethodName := ⟨RX6, "off", "(LPollAudit$Pair;II)I"⟩
theorem dX6_off_0 : decode cX6_off 0 = .ok (.iload_n 2, 1) := by decide +kernel
theorem dX6_off_1 : decode cX6_off 1 = .ok (.aload_n 1, 1) := by decide +kernel
theorem dX6_off_2 : decode cX6_off 2 = .ok (.getfield 46, 3) := by decide +kernel
theorem dX6_off_5 : decode cX6_off 5 = .ok (.if_icmp .ne 7, 3) := by decide +kernel
theorem dX6_off_8 : decode cX6_off 8 = .ok (.iconst 1, 1) := by decide +kernel
theorem dX6_off_9 : decode cX6_off 9 = .ok (.goto 4, 3) := by decide +kernel
theorem dX6_off_12 : decode cX6_off 12 = .ok (.iconst 0, 1) := by decide +kernel
theorem dX6_off_13 : decode cX6_off 13 = .ok (.iload_n 3, 1) := by decide +kernel
theorem dX6_off_14 : decode cX6_off 14 = .ok (.aload_n 1, 1) := by decide +kernel
theorem dX6_off_15 : decode cX6_off 15 = .ok (.getfield 46, 3) := by decide +kernel
theorem dX6_off_18 : decode cX6_off 18 = .ok (.if_icmp .ne 7, 3) := by decide +kernel
theorem dX6_off_21 : decode cX6_off 21 = .ok (.iconst 1, 1) := by decide +kernel
theorem dX6_off_22 : decode cX6_off 22 = .ok (.goto 4, 3) := by decide +kernel
theorem dX6_off_25 : decode cX6_off 25 = .ok (.iconst 0, 1) := by decide +kernel
theorem dX6_off_26 : decode cX6_off 26 = .ok (.isub, 1) := by decide +kernel
theorem dX6_off_27 : decode cX6_off 27 = .ok (.iload_n 2, 1) := by decide +kernel
theorem dX6_off_28 : decode cX6_off 28 = .ok (.aload_n 1, 1) := by decide +kernel
theorem dX6_off_29 : decode cX6_off 29 = .ok (.getfield 49, 3) := by decide +kernel
theorem dX6_off_32 : decode cX6_off 32 = .ok (.if_icmp .ne 7, 3) := by decide +kernel
theorem dX6_off_35 : decode cX6_off 35 = .ok (.iconst 1, 1) := by decide +kernel
theorem dX6_off_36 : decode cX6_off 36 = .ok (.goto 4, 3) := by decide +kernel
theorem dX6_off_39 : decode cX6_off 39 = .ok (.iconst 0, 1) := by decide +kernel
theorem dX6_off_40 : decode cX6_off 40 = .ok (.isub, 1) := by decide +kernel
theorem dX6_off_41 : decode cX6_off 41 = .ok (.iload_n 3, 1) := by decide +kernel
theorem dX6_off_42 : decode cX6_off 42 = .ok (.aload_n 1, 1) := by decide +kernel
theorem dX6_off_43 : decode cX6_off 43 = .ok (.getfield 49, 3) := by decide +kernel
theorem dX6_off_46 : decode cX6_off 46 = .ok (.if_icmp .ne 7, 3) := by decide +kernel
theorem dX6_off_49 : decode cX6_off 49 = .ok (.iconst 1, 1) := by decide +kernel
theorem dX6_off_50 : decode cX6_off 50 = .ok (.goto 4, 3) := by decide +kernel
theorem dX6_off_53 : decode cX6_off 53 = .ok (.iconst 0, 1) := by decide +kernel
theorem dX6_off_54 : decode cX6_off 54 = .ok (.iadd, 1) := by decide +kernel
theorem dX6_off_55 : decode cX6_off 55 = .ok (.ireturn, 1) := by decide +kernel
abbrev cX6_isSure : ByteArray := prog_4_method_5_code
def yX6_isSure : MethodName := ⟨RX6, "isSure", "()Z"⟩
theorem dX6_isSure_0 : decode cX6_isSure 0 = .ok (.aload_n 0, 1) := by decide +kernel
theorem dX6_isSure_1 : decode cX6_isSure 1 = .ok (.getfield 23, 3) := by decide +kernel
theorem dX6_isSure_4 : decode cX6_isSure 4 = .ok (.getfield 60, 3) := by decide +kernel
theorem dX6_isSure_7 : decode cX6_isSure 7 = .ok (.aload_n 0, 1) := by decide +kernel
theorem dX6_isSure_8 : decode cX6_isSure 8 = .ok (.getfield 14, 3) := by decide +kernel
theorem dX6_isSure_11 : decode cX6_isSure 11 = .ok (.invokevirtual 91, 3) := by decide +kernel
theorem dX6_isSure_14 : decode cX6_isSure 14 = .ok (.aload_n 0, 1) := by decide +kernel
theorem dX6_isSure_15 : decode cX6_isSure 15 = .ok (.getfield 23, 3) := by decide +kernel
theorem dX6_isSure_18 : decode cX6_isSure 18 = .ok (.getfield 60, 3) := by decide +kernel
theorem dX6_isSure_21 : decode cX6_isSure 21 = .ok (.aload_n 0, 1) := by decide +kernel
theorem dX6_isSure_22 : decode cX6_isSure 22 = .ok (.getfield 23, 3) := by decide +kernel
theorem dX6_isSure_25 : decode cX6_isSure 25 = .ok (.getfield 95, 3) := by decide +kernel
theorem dX6_isSure_28 : decode cX6_isSure 28 = .ok (.invokevirtual 88, 3) := by decide +kernel
theorem dX6_isSure_31 : decode cX6_isSure 31 = .ok (.aload_n 0, 1) := by decide +kernel
theorem dX6_isSure_32 : decode cX6_isSure 32 = .ok (.getfield 23, 3) := by decide +kernel
theorem dX6_isSure_35 : decode cX6_isSure 35 = .ok (.getfield 98, 3) := by decide +kernel
theorem dX6_isSure_38 : decode cX6_isSure 38 = .ok (.aload_n 0, 1) := by decide +kernel
theorem dX6_isSure_39 : decode cX6_isSure 39 = .ok (.getfield 20, 3) := by decide +kernel
theorem dX6_isSure_42 : decode cX6_isSure 42 = .ok (.invokevirtual 91, 3) := by decide +kernel
theorem dX6_isSure_45 : decode cX6_isSure 45 = .ok (.aload_n 0, 1) := by decide +kernel
theorem dX6_isSure_46 : decode cX6_isSure 46 = .ok (.getfield 23, 3) := by decide +kernel
theorem dX6_isSure_49 : decode cX6_isSure 49 = .ok (.getfield 98, 3) := by decide +kernel
theorem dX6_isSure_52 : decode cX6_isSure 52 = .ok (.aload_n 0, 1) := by decide +kernel
theorem dX6_isSure_53 : decode cX6_isSure 53 = .ok (.getfield 23, 3) := by decide +kernel
theorem dX6_isSure_56 : decode cX6_isSure 56 = .ok (.getfield 101, 3) := by decide +kernel
theorem dX6_isSure_59 : decode cX6_isSure 59 = .ok (.invokevirtual 88, 3) := by decide +kernel
theorem dX6_isSure_62 : decode cX6_isSure 62 = .ok (.aload_n 0, 1) := by decide +kernel
theorem dX6_isSure_63 : decode cX6_isSure 63 = .ok (.getfield 23, 3) := by decide +kernel
theorem dX6_isSure_66 : decode cX6_isSure 66 = .ok (.getfield 60, 3) := by decide +kernel
theorem dX6_isSure_69 : decode cX6_isSure 69 = .ok (.aload_n 0, 1) := by decide +kernel
theorem dX6_isSure_70 : decode cX6_isSure 70 = .ok (.getfield 23, 3) := by decide +kernel
theorem dX6_isSure_73 : decode cX6_isSure 73 = .ok (.getfield 98, 3) := by decide +kernel
theorem dX6_isSure_76 : decode cX6_isSure 76 = .ok (.invokevirtual 104, 3) := by decide +kernel
theorem dX6_isSure_79 : decode cX6_isSure 79 = .ok (.ifCond .gt 7, 3) := by decide +kernel
theorem dX6_isSure_82 : decode cX6_isSure 82 = .ok (.iconst 1, 1) := by decide +kernel
theorem dX6_isSure_83 : decode cX6_isSure 83 = .ok (.goto 4, 3) := by decide +kernel
theorem dX6_isSure_86 : decode cX6_isSure 86 = .ok (.iconst 0, 1) := by decide +kernel
theorem dX6_isSure_87 : decode cX6_isSure 87 = .ok (.ireturn, 1) := by decide +kernel
theorem q58 : (Jvm.Cond.initialized "PollAudit$Comparing") ∈ lw_all := lw_g (lw_at lw_m1 6 rfl) rfl
theorem q159 : (Jvm.Cond.instantiable "PollAudit$Comparing" (3 : Nat)) ∈ lw_all := lw_g (lw_at lw_m1 107 rfl) rfl
theorem q161 : (Jvm.Cond.instanceMethod ({ cls := "PollAudit$Comparing", name := "<init>", desc := "(LPollAudit;)V" } : Jvm.MethodName)) ∈ lw_all := lw_g (lw_at lw_m1 109 rfl) rfl
theorem q162 : (Jvm.Cond.code ({ cls := "PollAudit$Comparing", name := "<init>", desc := "(LPollAudit;)V" } : Jvm.MethodName) prog_4_method_1_code (2 : Nat) (Option.none : Option Jvm.ClassFile.FieldType)) ∈ lw_all := lw_g (lw_at lw_m1 110 rfl) rfl
theorem q163 : (Jvm.Cond.methodLink "PollAudit$Comparing" (3 : Nat) ({ cls := "java/lang/Object", name := "<init>", desc := "()V" } : Jvm.MethodName)) ∈ lw_all := lw_g (lw_at lw_m1 111 rfl) rfl
theorem q164 : (Jvm.Cond.classLink "PollAudit$Comparing" (9 : Nat) "PollAudit$Big") ∈ lw_all := lw_g (lw_at lw_m1 112 rfl) rfl
theorem q166 : (Jvm.Cond.methodLink "PollAudit$Comparing" (11 : Nat) ({ cls := "PollAudit$Big", name := "<init>", desc := "(I)V" } : Jvm.MethodName)) ∈ lw_all := lw_g (lw_at lw_m1 114 rfl) rfl
theorem q179 : (Jvm.Cond.fieldLink "PollAudit$Comparing" (23 : Nat) "PollAudit$Comparing" "o" "LPollAudit;") ∈ lw_all := lw_g (lw_at lw_m1 127 rfl) rfl
theorem q180 : (Jvm.Cond.fieldLink "PollAudit$Comparing" (14 : Nat) "PollAudit$Comparing" "above" "LPollAudit$Big;") ∈ lw_all := lw_g (lw_at lw_m1 128 rfl) rfl
theorem q182 : (Jvm.Cond.fieldLink "PollAudit$Comparing" (20 : Nat) "PollAudit$Comparing" "below" "LPollAudit$Big;") ∈ lw_all := lw_g (lw_at lw_m1 130 rfl) rfl
theorem q184 : (Jvm.Cond.laysFinal "PollAudit$Comparing" "PollAudit$Comparing" "o" "LPollAudit;") ∈ lw_all := lw_g (lw_at lw_m1 132 rfl) rfl
theorem q185 : (Jvm.Cond.soleField "PollAudit$Comparing" "o") ∈ lw_all := lw_g (lw_at lw_m1 133 rfl) rfl
theorem q186 : (Jvm.Cond.laysFinal "PollAudit$Comparing" "PollAudit$Comparing" "above" "LPollAudit$Big;") ∈ lw_all := lw_g (lw_at lw_m1 134 rfl) rfl
theorem q187 : (Jvm.Cond.soleField "PollAudit$Comparing" "above") ∈ lw_all := lw_g (lw_at lw_m1 135 rfl) rfl
theorem q188 : (Jvm.Cond.laysFinal "PollAudit$Comparing" "PollAudit$Comparing" "below" "LPollAudit$Big;") ∈ lw_all := lw_g (lw_at lw_m1 136 rfl) rfl
theorem q189 : (Jvm.Cond.soleField "PollAudit$Comparing" "below") ∈ lw_all := lw_g (lw_at lw_m1 137 rfl) rfl
theorem q190 : (Jvm.Cond.superclass "PollAudit$Comparing" "java/lang/Object") ∈ lw_all := lw_g (lw_at lw_m1 138 rfl) rfl
theorem q243 : (Jvm.Cond.fieldLinkNest "PollAudit$Comparing" (46 : Nat) "PollAudit$Pair" "winner" "I" "PollAudit") ∈ lw_tbl := lw_at lw_m1 191 rfl
theorem q246 : (Jvm.Cond.fieldLinkNest "PollAudit$Comparing" (49 : Nat) "PollAudit$Pair" "loser" "I" "PollAudit") ∈ lw_tbl := lw_at lw_m1 194 rfl
theorem q250 : (Jvm.Cond.fieldLinkNest "PollAudit$Comparing" (43 : Nat) "PollAudit$Pair" "sure" "I" "PollAudit") ∈ lw_tbl := lw_at lw_m1 198 rfl
theorem q254 : (Jvm.Cond.fieldLinkNest "PollAudit$Comparing" (39 : Nat) "PollAudit$Pair" "above" "LPollAudit$Big;" "PollAudit") ∈ lw_tbl := lw_at lw_m1 202 rfl
theorem q258 : (Jvm.Cond.fieldLinkNest "PollAudit$Comparing" (42 : Nat) "PollAudit$Pair" "below" "LPollAudit$Big;" "PollAudit") ∈ lw_tbl := lw_at lw_m1 206 rfl
theorem q294 : (Jvm.Cond.fieldLinkNest "PollAudit$Comparing" (68 : Nat) "PollAudit" "ballots" "I" "PollAudit") ∈ lw_tbl := lw_at lw_m2 2 rfl
theorem q299 : (Jvm.Cond.fieldLinkNest "PollAudit$Comparing" (101 : Nat) "PollAudit" "limitUp" "I" "PollAudit") ∈ lw_tbl := lw_at lw_m2 7 rfl
theorem q300 : (Jvm.Cond.fieldLinkNest "PollAudit$Comparing" (95 : Nat) "PollAudit" "limitLow" "I" "PollAudit") ∈ lw_tbl := lw_at lw_m2 8 rfl
theorem q302 : (Jvm.Cond.fieldLinkNest "PollAudit$Comparing" (65 : Nat) "PollAudit" "gammaUp" "I" "PollAudit") ∈ lw_tbl := lw_at lw_m2 10 rfl
theorem q304 : (Jvm.Cond.fieldLinkNest "PollAudit$Comparing" (75 : Nat) "PollAudit" "gammaLow" "I" "PollAudit") ∈ lw_tbl := lw_at lw_m2 12 rfl
theorem q319 : (Jvm.Cond.fieldLinkNest "PollAudit$Comparing" (35 : Nat) "PollAudit" "all" "[LPollAudit$Pair;" "PollAudit") ∈ lw_tbl := lw_at lw_m2 27 rfl
theorem q322 : (Jvm.Cond.fieldLinkNest "PollAudit$Comparing" (31 : Nat) "PollAudit" "pairs" "I" "PollAudit") ∈ lw_tbl := lw_at lw_m2 30 rfl
theorem q330 : (Jvm.Cond.fieldLinkNest "PollAudit$Comparing" (78 : Nat) "PollAudit" "reckoner" "LPollAudit$Reckoner;" "PollAudit") ∈ lw_tbl := lw_at lw_m2 38 rfl
theorem q332 : (Jvm.Cond.fieldLinkNest "PollAudit$Comparing" (60 : Nat) "PollAudit" "one" "LPollAudit$Big;" "PollAudit") ∈ lw_tbl := lw_at lw_m2 40 rfl
theorem q334 : (Jvm.Cond.fieldLinkNest "PollAudit$Comparing" (98 : Nat) "PollAudit" "two" "LPollAudit$Big;" "PollAudit") ∈ lw_tbl := lw_at lw_m2 42 rfl
theorem q668 : (Jvm.Cond.castable "PollAudit$Comparing" "PollAudit$Test") ∈ lw_tbl := lw_at lw_m3 136 rfl
theorem q669 : (Jvm.Cond.selects "PollAudit$Comparing" ({ cls := "PollAudit$Test", name := "begin", desc := "()V" } : Jvm.MethodName) ({ cls := "PollAudit$Comparing", name := "begin", desc := "()V" } : Jvm.MethodName)) ∈ lw_all := lw_g (lw_at lw_m3 137 rfl) rfl
theorem q670 : (Jvm.Cond.unhidden "PollAudit$Comparing" "begin" "()V") ∈ lw_tbl := lw_at lw_m3 138 rfl
theorem q671 : (Jvm.Cond.instanceMethod ({ cls := "PollAudit$Comparing", name := "begin", desc := "()V" } : Jvm.MethodName)) ∈ lw_all := lw_g (lw_at lw_m3 139 rfl) rfl
theorem q672 : (Jvm.Cond.publicMethod ({ cls := "PollAudit$Comparing", name := "begin", desc := "()V" } : Jvm.MethodName)) ∈ lw_tbl := lw_at lw_m3 140 rfl
theorem q673 : (Jvm.Cond.code ({ cls := "PollAudit$Comparing", name := "begin", desc := "()V" } : Jvm.MethodName) prog_4_method_2_code (2 : Nat) (Option.none : Option Jvm.ClassFile.FieldType)) ∈ lw_all := lw_g (lw_at lw_m3 141 rfl) rfl
theorem q674 : (Jvm.Cond.methodLink "PollAudit$Comparing" (27 : Nat) ({ cls := "PollAudit$Big", name := "set", desc := "(J)V" } : Jvm.MethodName)) ∈ lw_all := lw_g (lw_at lw_m3 142 rfl) rfl
theorem q748 : (Jvm.Cond.selects "PollAudit$Comparing" ({ cls := "PollAudit$Test", name := "look", desc := "(III)V" } : Jvm.MethodName) ({ cls := "PollAudit$Comparing", name := "look", desc := "(III)V" } : Jvm.MethodName)) ∈ lw_all := lw_g (lw_at lw_m3 216 rfl) rfl
theorem q749 : (Jvm.Cond.unhidden "PollAudit$Comparing" "look" "(III)V") ∈ lw_tbl := lw_at lw_m3 217 rfl
theorem q750 : (Jvm.Cond.instanceMethod ({ cls := "PollAudit$Comparing", name := "look", desc := "(III)V" } : Jvm.MethodName)) ∈ lw_all := lw_g (lw_at lw_m3 218 rfl) rfl
theorem q751 : (Jvm.Cond.publicMethod ({ cls := "PollAudit$Comparing", name := "look", desc := "(III)V" } : Jvm.MethodName)) ∈ lw_tbl := lw_at lw_m3 219 rfl
theorem q752 : (Jvm.Cond.code ({ cls := "PollAudit$Comparing", name := "look", desc := "(III)V" } : Jvm.MethodName) prog_4_method_4_code (11 : Nat) (Option.none : Option Jvm.ClassFile.FieldType)) ∈ lw_all := lw_g (lw_at lw_m3 220 rfl) rfl
theorem q753 : (Jvm.Cond.methodLink "PollAudit$Comparing" (52 : Nat) ({ cls := "PollAudit$Comparing", name := "off", desc := "(LPollAudit$Pair;II)I" } : Jvm.MethodName)) ∈ lw_all := lw_g (lw_at lw_m3 221 rfl) rfl
theorem q754 : (Jvm.Cond.privateMethod ({ cls := "PollAudit$Comparing", name := "off", desc := "(LPollAudit$Pair;II)I" } : Jvm.MethodName)) ∈ lw_tbl := lw_at lw_m3 222 rfl
theorem q755 : (Jvm.Cond.instanceMethod ({ cls := "PollAudit$Comparing", name := "off", desc := "(LPollAudit$Pair;II)I" } : Jvm.MethodName)) ∈ lw_all := lw_g (lw_at lw_m3 223 rfl) rfl
theorem q756 : (Jvm.Cond.code ({ cls := "PollAudit$Comparing", name := "off", desc := "(LPollAudit$Pair;II)I" } : Jvm.MethodName) prog_4_method_3_code (4 : Nat) (Option.some Jvm.ClassFile.FieldType.int)) ∈ lw_all := lw_g (lw_at lw_m3 224 rfl) rfl
theorem q757 : (Jvm.Cond.methodLinkNest "PollAudit$Comparing" (56 : Nat) ({ cls := "PollAudit", name := "margin", desc := "(LPollAudit$Pair;)I" } : Jvm.MethodName) "PollAudit") ∈ lw_tbl := lw_at lw_m3 225 rfl
theorem q761 : (Jvm.Cond.constantLong "PollAudit$Comparing" (63 : Nat) (2 : Int64)) ∈ lw_all := lw_g (lw_at lw_m3 229 rfl) rfl
theorem q762 : (Jvm.Cond.methodLinkNest "PollAudit$Comparing" (71 : Nat) ({ cls := "PollAudit", name := "least", desc := "()I" } : Jvm.MethodName) "PollAudit") ∈ lw_tbl := lw_at lw_m3 230 rfl
theorem q770 : (Jvm.Cond.methodLink "PollAudit$Comparing" (82 : Nat) ({ cls := "PollAudit$Reckoner", name := "multiply", desc := "(LPollAudit$Big;LPollAudit$Big;)V" } : Jvm.MethodName)) ∈ lw_all := lw_g (lw_at lw_m3 238 rfl) rfl
theorem q786 : (Jvm.Cond.methodLink "PollAudit$Comparing" (88 : Nat) ({ cls := "PollAudit$Big", name := "times", desc := "(I)V" } : Jvm.MethodName)) ∈ lw_all := lw_g (lw_at lw_m4 14 rfl) rfl
theorem q817 : (Jvm.Cond.selects "PollAudit$Comparing" ({ cls := "PollAudit$Test", name := "isSure", desc := "()Z" } : Jvm.MethodName) ({ cls := "PollAudit$Comparing", name := "isSure", desc := "()Z" } : Jvm.MethodName)) ∈ lw_all := lw_g (lw_at lw_m4 45 rfl) rfl
theorem q818 : (Jvm.Cond.unhidden "PollAudit$Comparing" "isSure" "()Z") ∈ lw_tbl := lw_at lw_m4 46 rfl
theorem q819 : (Jvm.Cond.instanceMethod ({ cls := "PollAudit$Comparing", name := "isSure", desc := "()Z" } : Jvm.MethodName)) ∈ lw_all := lw_g (lw_at lw_m4 47 rfl) rfl
theorem q820 : (Jvm.Cond.publicMethod ({ cls := "PollAudit$Comparing", name := "isSure", desc := "()Z" } : Jvm.MethodName)) ∈ lw_tbl := lw_at lw_m4 48 rfl
theorem q821 : (Jvm.Cond.code ({ cls := "PollAudit$Comparing", name := "isSure", desc := "()Z" } : Jvm.MethodName) prog_4_method_5_code (1 : Nat) (Option.some Jvm.ClassFile.FieldType.boolean)) ∈ lw_all := lw_g (lw_at lw_m4 49 rfl) rfl
theorem q822 : (Jvm.Cond.methodLink "PollAudit$Comparing" (91 : Nat) ({ cls := "PollAudit$Big", name := "copy", desc := "(LPollAudit$Big;)V" } : Jvm.MethodName)) ∈ lw_all := lw_g (lw_at lw_m4 50 rfl) rfl
theorem q823 : (Jvm.Cond.methodLink "PollAudit$Comparing" (104 : Nat) ({ cls := "PollAudit$Big", name := "compare", desc := "(LPollAudit$Big;)I" } : Jvm.MethodName)) ∈ lw_all := lw_g (lw_at lw_m4 51 rfl) rfl
theorem q691 : (Jvm.Cond.interfaceMethod "PollAudit$Source" "PollAudit$Source" "draw" "(II)I") ∈ lw_tbl := lw_at lw_m3 159 rfl
theorem q692 : (Jvm.Cond.declares ({ cls := "PollAudit$Source", name := "draw", desc := "(II)I" } : Jvm.MethodName)) ∈ lw_tbl := lw_at lw_m3 160 rfl
theorem q666 : (Jvm.Cond.interfaceMethod "PollAudit$Test" "PollAudit$Test" "begin" "()V") ∈ lw_tbl := lw_at lw_m3 134 rfl
theorem q667 : (Jvm.Cond.declares ({ cls := "PollAudit$Test", name := "begin", desc := "()V" } : Jvm.MethodName)) ∈ lw_tbl := lw_at lw_m3 135 rfl
theorem q746 : (Jvm.Cond.interfaceMethod "PollAudit$Test" "PollAudit$Test" "look" "(III)V") ∈ lw_tbl := lw_at lw_m3 214 rfl
theorem q747 : (Jvm.Cond.declares ({ cls := "PollAudit$Test", name := "look", desc := "(III)V" } : Jvm.MethodName)) ∈ lw_tbl := lw_at lw_m3 215 rfl
theorem q815 : (Jvm.Cond.interfaceMethod "PollAudit$Test" "PollAudit$Test" "isSure" "()Z") ∈ lw_tbl := lw_at lw_m4 43 rfl
theorem q816 : (Jvm.Cond.declares ({ cls := "PollAudit$Test", name := "isSure", desc := "()Z" } : Jvm.MethodName)) ∈ lw_tbl := lw_at lw_m4 44 rfl
