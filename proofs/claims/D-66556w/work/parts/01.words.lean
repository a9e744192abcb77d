-- ===== PART A: goes FIRST, ahead of the names: the tables' words, and 'selects' of the private methods out of them =====
/-- a private method of a class that the tables say can be made, by its rows of tables_1 -/
def lw_okq (q : MethodName × Nat) : Prop := (q.1.cls ≠ "java/lang/invoke/MethodHandle" ∧ q.1.cls ≠ "java/lang/invoke/VarHandle") ∧ Cond.instantiable q.1.cls q.2 ∈ tables_1 ∧ Cond.privateMethod q.1 ∈ tables_1 ∧ Cond.instanceMethod q.1 ∈ tables_1
set_option maxRecDepth 100000
theorem lw_t1 {w : Cond} (h : w ∈ tables_1_1) : w ∈ tables_1 := List.mem_append_left _ h
theorem lw_t2 {w : Cond} (h : w ∈ tables_1_2) : w ∈ tables_1 := List.mem_append_right _ (List.mem_append_left _ h)
theorem lw_t3 {w : Cond} (h : w ∈ tables_1_3) : w ∈ tables_1 := List.mem_append_right _ (List.mem_append_right _ (List.mem_append_left _ h))
theorem lw_t4 {w : Cond} (h : w ∈ tables_1_4) : w ∈ tables_1 := List.mem_append_right _ (List.mem_append_right _ (List.mem_append_right _ (List.mem_append_left _ h)))
theorem lw_t5 {w : Cond} (h : w ∈ tables_1_5) : w ∈ tables_1 := List.mem_append_right _ (List.mem_append_right _ (List.mem_append_right _ (List.mem_append_right _ (List.mem_append_left _ h))))
theorem lw_t6 {w : Cond} (h : w ∈ tables_1_6) : w ∈ tables_1 := List.mem_append_right _ (List.mem_append_right _ (List.mem_append_right _ (List.mem_append_right _ (List.mem_append_right _ h))))
theorem lw_p0 : lw_okq (⟨"PollAudit$Big", "reserve", "(I)V"⟩, 2) := ⟨⟨by decide +kernel, by decide +kernel⟩, lw_t1 (List.mem_of_getElem? (i := 113) rfl), lw_t1 (List.mem_of_getElem? (i := 224) rfl), lw_t1 (List.mem_of_getElem? (i := 225) rfl)⟩
theorem lw_p1 : lw_okq (⟨"PollAudit$Big", "trim", "()V"⟩, 2) := ⟨⟨by decide +kernel, by decide +kernel⟩, lw_t1 (List.mem_of_getElem? (i := 113) rfl), lw_t1 (List.mem_of_getElem? (i := 234) rfl), lw_t1 (List.mem_of_getElem? (i := 235) rfl)⟩
theorem lw_p2 : lw_okq (⟨"java/lang/Throwable", "fillInStackTrace", "(I)Ljava/lang/Throwable;"⟩, 6) := ⟨⟨by decide +kernel, by decide +kernel⟩, lw_t2 (List.mem_of_getElem? (i := 193) rfl), lw_t2 (List.mem_of_getElem? (i := 191) rfl), lw_t2 (List.mem_of_getElem? (i := 192) rfl)⟩
theorem lw_p3 : lw_okq (⟨"PollAudit", "setting", "()V"⟩, 41) := ⟨⟨by decide +kernel, by decide +kernel⟩, lw_t1 (List.mem_of_getElem? (i := 25) rfl), lw_t2 (List.mem_of_getElem? (i := 222) rfl), lw_t2 (List.mem_of_getElem? (i := 223) rfl)⟩
theorem lw_p4 : lw_okq (⟨"PollAudit", "isCandidate", "(I)Z"⟩, 41) := ⟨⟨by decide +kernel, by decide +kernel⟩, lw_t1 (List.mem_of_getElem? (i := 25) rfl), lw_t3 (List.mem_of_getElem? (i := 100) rfl), lw_t3 (List.mem_of_getElem? (i := 101) rfl)⟩
theorem lw_p5 : lw_okq (⟨"PollAudit", "findWinners", "()Z"⟩, 41) := ⟨⟨by decide +kernel, by decide +kernel⟩, lw_t1 (List.mem_of_getElem? (i := 25) rfl), lw_t3 (List.mem_of_getElem? (i := 129) rfl), lw_t3 (List.mem_of_getElem? (i := 130) rfl)⟩
theorem lw_p6 : lw_okq (⟨"PollAudit$Digest", "round", "(I)V"⟩, 5) := ⟨⟨by decide +kernel, by decide +kernel⟩, lw_t1 (List.mem_of_getElem? (i := 62) rfl), lw_t3 (List.mem_of_getElem? (i := 198) rfl), lw_t3 (List.mem_of_getElem? (i := 199) rfl)⟩
theorem lw_p7 : lw_okq (⟨"PollAudit", "look", "(I)V"⟩, 41) := ⟨⟨by decide +kernel, by decide +kernel⟩, lw_t1 (List.mem_of_getElem? (i := 25) rfl), lw_t3 (List.mem_of_getElem? (i := 209) rfl), lw_t3 (List.mem_of_getElem? (i := 210) rfl)⟩
theorem lw_p8 : lw_okq (⟨"PollAudit$Comparing", "off", "(LPollAudit$Pair;II)I"⟩, 3) := ⟨⟨by decide +kernel, by decide +kernel⟩, lw_t1 (List.mem_of_getElem? (i := 107) rfl), lw_t3 (List.mem_of_getElem? (i := 222) rfl), lw_t3 (List.mem_of_getElem? (i := 223) rfl)⟩
theorem lw_p9 : lw_okq (⟨"PollAudit", "margin", "(LPollAudit$Pair;)I"⟩, 41) := ⟨⟨by decide +kernel, by decide +kernel⟩, lw_t1 (List.mem_of_getElem? (i := 25) rfl), lw_t3 (List.mem_of_getElem? (i := 226) rfl), lw_t3 (List.mem_of_getElem? (i := 227) rfl)⟩
theorem lw_p10 : lw_okq (⟨"PollAudit", "least", "()I"⟩, 41) := ⟨⟨by decide +kernel, by decide +kernel⟩, lw_t1 (List.mem_of_getElem? (i := 25) rfl), lw_t3 (List.mem_of_getElem? (i := 231) rfl), lw_t3 (List.mem_of_getElem? (i := 232) rfl)⟩
theorem lw_p11 : lw_okq (⟨"PollAudit", "reaches", "(LPollAudit$Big;LPollAudit$Big;)Z"⟩, 41) := ⟨⟨by decide +kernel, by decide +kernel⟩, lw_t1 (List.mem_of_getElem? (i := 25) rfl), lw_t4 (List.mem_of_getElem? (i := 25) rfl), lw_t4 (List.mem_of_getElem? (i := 26) rfl)⟩
theorem lw_p12 : lw_okq (⟨"PollAudit", "surePairs", "()I"⟩, 41) := ⟨⟨by decide +kernel, by decide +kernel⟩, lw_t1 (List.mem_of_getElem? (i := 25) rfl), lw_t4 (List.mem_of_getElem? (i := 79) rfl), lw_t4 (List.mem_of_getElem? (i := 80) rfl)⟩
theorem lw_p13 : lw_okq (⟨"PollAudit", "pairIn", "(I)LPollAudit$Pair;"⟩, 41) := ⟨⟨by decide +kernel, by decide +kernel⟩, lw_t1 (List.mem_of_getElem? (i := 25) rfl), lw_t4 (List.mem_of_getElem? (i := 98) rfl), lw_t4 (List.mem_of_getElem? (i := 99) rfl)⟩
theorem lw_p14 : lw_okq (⟨"PollAudit", "batchOf", "(I)I"⟩, 41) := ⟨⟨by decide +kernel, by decide +kernel⟩, lw_t1 (List.mem_of_getElem? (i := 25) rfl), lw_t4 (List.mem_of_getElem? (i := 109) rfl), lw_t4 (List.mem_of_getElem? (i := 110) rfl)⟩
theorem lw_p15 : lw_okq (⟨"PollAudit", "findSure", "(LPollAudit$Pair;I)V"⟩, 41) := ⟨⟨by decide +kernel, by decide +kernel⟩, lw_t1 (List.mem_of_getElem? (i := 25) rfl), lw_t4 (List.mem_of_getElem? (i := 132) rfl), lw_t4 (List.mem_of_getElem? (i := 133) rfl)⟩
def lw_privs_1 : List (MethodName × Nat) := [(⟨"PollAudit$Big", "reserve", "(I)V"⟩, 2), (⟨"PollAudit$Big", "trim", "()V"⟩, 2), (⟨"java/lang/Throwable", "fillInStackTrace", "(I)Ljava/lang/Throwable;"⟩, 6), (⟨"PollAudit", "setting", "()V"⟩, 41), (⟨"PollAudit", "isCandidate", "(I)Z"⟩, 41), (⟨"PollAudit", "findWinners", "()Z"⟩, 41), (⟨"PollAudit$Digest", "round", "(I)V"⟩, 5), (⟨"PollAudit", "look", "(I)V"⟩, 41), (⟨"PollAudit$Comparing", "off", "(LPollAudit$Pair;II)I"⟩, 3), (⟨"PollAudit", "margin", "(LPollAudit$Pair;)I"⟩, 41), (⟨"PollAudit", "least", "()I"⟩, 41), (⟨"PollAudit", "reaches", "(LPollAudit$Big;LPollAudit$Big;)Z"⟩, 41), (⟨"PollAudit", "surePairs", "()I"⟩, 41), (⟨"PollAudit", "pairIn", "(I)LPollAudit$Pair;"⟩, 41), (⟨"PollAudit", "batchOf", "(I)I"⟩, 41), (⟨"PollAudit", "findSure", "(LPollAudit$Pair;I)V"⟩, 41)]
theorem lw_r1 : ∀ q ∈ lw_privs_1, lw_okq q := List.forall_mem_cons.mpr ⟨lw_p0, List.forall_mem_cons.mpr ⟨lw_p1, List.forall_mem_cons.mpr ⟨lw_p2, List.forall_mem_cons.mpr ⟨lw_p3, List.forall_mem_cons.mpr ⟨lw_p4, List.forall_mem_cons.mpr ⟨lw_p5, List.forall_mem_cons.mpr ⟨lw_p6, List.forall_mem_cons.mpr ⟨lw_p7, List.forall_mem_cons.mpr ⟨lw_p8, List.forall_mem_cons.mpr ⟨lw_p9, List.forall_mem_cons.mpr ⟨lw_p10, List.forall_mem_cons.mpr ⟨lw_p11, List.forall_mem_cons.mpr ⟨lw_p12, List.forall_mem_cons.mpr ⟨lw_p13, List.forall_mem_cons.mpr ⟨lw_p14, List.forall_mem_cons.mpr ⟨lw_p15, fun _ h => absurd h List.not_mem_nil⟩⟩⟩⟩⟩⟩⟩⟩⟩⟩⟩⟩⟩⟩⟩⟩
theorem lw_p16 : lw_okq (⟨"PollAudit", "drawMore", "(IIII)V"⟩, 41) := ⟨⟨by decide +kernel, by decide +kernel⟩, lw_t1 (List.mem_of_getElem? (i := 25) rfl), lw_t4 (List.mem_of_getElem? (i := 140) rfl), lw_t4 (List.mem_of_getElem? (i := 141) rfl)⟩
theorem lw_p17 : lw_okq (⟨"PollAudit", "more", "(LPollAudit$Big;LPollAudit$Big;I)V"⟩, 41) := ⟨⟨by decide +kernel, by decide +kernel⟩, lw_t1 (List.mem_of_getElem? (i := 25) rfl), lw_t4 (List.mem_of_getElem? (i := 144) rfl), lw_t4 (List.mem_of_getElem? (i := 145) rfl)⟩
theorem lw_p18 : lw_okq (⟨"PollAudit$Big", "shiftLeft", "(I)V"⟩, 2) := ⟨⟨by decide +kernel, by decide +kernel⟩, lw_t1 (List.mem_of_getElem? (i := 113) rfl), lw_t4 (List.mem_of_getElem? (i := 174) rfl), lw_t4 (List.mem_of_getElem? (i := 175) rfl)⟩
theorem lw_p19 : lw_okq (⟨"PollAudit$Big", "taken", "(LPollAudit$Big;IIJ)J"⟩, 2) := ⟨⟨by decide +kernel, by decide +kernel⟩, lw_t1 (List.mem_of_getElem? (i := 113) rfl), lw_t4 (List.mem_of_getElem? (i := 189) rfl), lw_t4 (List.mem_of_getElem? (i := 190) rfl)⟩
theorem lw_p20 : lw_okq (⟨"PollAudit$Big", "shiftRight", "(I)V"⟩, 2) := ⟨⟨by decide +kernel, by decide +kernel⟩, lw_t1 (List.mem_of_getElem? (i := 113) rfl), lw_t4 (List.mem_of_getElem? (i := 193) rfl), lw_t4 (List.mem_of_getElem? (i := 194) rfl)⟩
theorem lw_p21 : lw_okq (⟨"PollAudit", "part", "(I)LPollAudit$Big;"⟩, 41) := ⟨⟨by decide +kernel, by decide +kernel⟩, lw_t1 (List.mem_of_getElem? (i := 25) rfl), lw_t4 (List.mem_of_getElem? (i := 220) rfl), lw_t4 (List.mem_of_getElem? (i := 221) rfl)⟩
theorem lw_p22 : lw_okq (⟨"PollAuditModel", "give", "(IJ)V"⟩, 45) := ⟨⟨by decide +kernel, by decide +kernel⟩, lw_t4 (List.mem_of_getElem? (i := 235) rfl), lw_t5 (List.mem_of_getElem? (i := 74) rfl), lw_t5 (List.mem_of_getElem? (i := 75) rfl)⟩
theorem lw_p23 : lw_okq (⟨"PollAuditModel", "isVote", "(I)Z"⟩, 45) := ⟨⟨by decide +kernel, by decide +kernel⟩, lw_t4 (List.mem_of_getElem? (i := 235) rfl), lw_t5 (List.mem_of_getElem? (i := 236) rfl), lw_t5 (List.mem_of_getElem? (i := 237) rfl)⟩
theorem lw_p24 : lw_okq (⟨"PollAuditModel", "choose", "()Z"⟩, 45) := ⟨⟨by decide +kernel, by decide +kernel⟩, lw_t4 (List.mem_of_getElem? (i := 235) rfl), lw_t6 (List.mem_of_getElem? (i := 12) rfl), lw_t6 (List.mem_of_getElem? (i := 13) rfl)⟩
theorem lw_p25 : lw_okq (⟨"PollAuditModel", "pairUp", "()V"⟩, 45) := ⟨⟨by decide +kernel, by decide +kernel⟩, lw_t4 (List.mem_of_getElem? (i := 235) rfl), lw_t6 (List.mem_of_getElem? (i := 16) rfl), lw_t6 (List.mem_of_getElem? (i := 17) rfl)⟩
theorem lw_p26 : lw_okq (⟨"PollAuditModel", "number", "()I"⟩, 45) := ⟨⟨by decide +kernel, by decide +kernel⟩, lw_t4 (List.mem_of_getElem? (i := 235) rfl), lw_t6 (List.mem_of_getElem? (i := 24) rfl), lw_t6 (List.mem_of_getElem? (i := 25) rfl)⟩
theorem lw_p27 : lw_okq (⟨"PollAuditModel", "digestOf", "(I)V"⟩, 45) := ⟨⟨by decide +kernel, by decide +kernel⟩, lw_t4 (List.mem_of_getElem? (i := 235) rfl), lw_t6 (List.mem_of_getElem? (i := 28) rfl), lw_t6 (List.mem_of_getElem? (i := 29) rfl)⟩
theorem lw_p28 : lw_okq (⟨"PollAuditModel", "turned", "(II)I"⟩, 45) := ⟨⟨by decide +kernel, by decide +kernel⟩, lw_t4 (List.mem_of_getElem? (i := 235) rfl), lw_t6 (List.mem_of_getElem? (i := 33) rfl), lw_t6 (List.mem_of_getElem? (i := 34) rfl)⟩
theorem lw_p29 : lw_okq (⟨"PollAuditModel", "round", "(I)V"⟩, 45) := ⟨⟨by decide +kernel, by decide +kernel⟩, lw_t4 (List.mem_of_getElem? (i := 235) rfl), lw_t6 (List.mem_of_getElem? (i := 37) rfl), lw_t6 (List.mem_of_getElem? (i := 38) rfl)⟩
theorem lw_p30 : lw_okq (⟨"PollAuditModel", "coinsADraw", "()I"⟩, 45) := ⟨⟨by decide +kernel, by decide +kernel⟩, lw_t4 (List.mem_of_getElem? (i := 235) rfl), lw_t6 (List.mem_of_getElem? (i := 42) rfl), lw_t6 (List.mem_of_getElem? (i := 43) rfl)⟩
theorem lw_p31 : lw_okq (⟨"PollAuditModel", "count", "(I)V"⟩, 45) := ⟨⟨by decide +kernel, by decide +kernel⟩, lw_t4 (List.mem_of_getElem? (i := 235) rfl), lw_t6 (List.mem_of_getElem? (i := 46) rfl), lw_t6 (List.mem_of_getElem? (i := 47) rfl)⟩
def lw_privs_2 : List (MethodName × Nat) := [(⟨"PollAudit", "drawMore", "(IIII)V"⟩, 41), (⟨"PollAudit", "more", "(LPollAudit$Big;LPollAudit$Big;I)V"⟩, 41), (⟨"PollAudit$Big", "shiftLeft", "(I)V"⟩, 2), (⟨"PollAudit$Big", "taken", "(LPollAudit$Big;IIJ)J"⟩, 2), (⟨"PollAudit$Big", "shiftRight", "(I)V"⟩, 2), (⟨"PollAudit", "part", "(I)LPollAudit$Big;"⟩, 41), (⟨"PollAuditModel", "give", "(IJ)V"⟩, 45), (⟨"PollAuditModel", "isVote", "(I)Z"⟩, 45), (⟨"PollAuditModel", "choose", "()Z"⟩, 45), (⟨"PollAuditModel", "pairUp", "()V"⟩, 45), (⟨"PollAuditModel", "number", "()I"⟩, 45), (⟨"PollAuditModel", "digestOf", "(I)V"⟩, 45), (⟨"PollAuditModel", "turned", "(II)I"⟩, 45), (⟨"PollAuditModel", "round", "(I)V"⟩, 45), (⟨"PollAuditModel", "coinsADraw", "()I"⟩, 45), (⟨"PollAuditModel", "count", "(I)V"⟩, 45)]
theorem lw_r2 : ∀ q ∈ lw_privs_2, lw_okq q := List.forall_mem_cons.mpr ⟨lw_p16, List.forall_mem_cons.mpr ⟨lw_p17, List.forall_mem_cons.mpr ⟨lw_p18, List.forall_mem_cons.mpr ⟨lw_p19, List.forall_mem_cons.mpr ⟨lw_p20, List.forall_mem_cons.mpr ⟨lw_p21, List.forall_mem_cons.mpr ⟨lw_p22, List.forall_mem_cons.mpr ⟨lw_p23, List.forall_mem_cons.mpr ⟨lw_p24, List.forall_mem_cons.mpr ⟨lw_p25, List.forall_mem_cons.mpr ⟨lw_p26, List.forall_mem_cons.mpr ⟨lw_p27, List.forall_mem_cons.mpr ⟨lw_p28, List.forall_mem_cons.mpr ⟨lw_p29, List.forall_mem_cons.mpr ⟨lw_p30, List.forall_mem_cons.mpr ⟨lw_p31, fun _ h => absurd h List.not_mem_nil⟩⟩⟩⟩⟩⟩⟩⟩⟩⟩⟩⟩⟩⟩⟩⟩
theorem lw_p32 : lw_okq (⟨"PollAuditModel", "factor", "(I)V"⟩, 45) := ⟨⟨by decide +kernel, by decide +kernel⟩, lw_t4 (List.mem_of_getElem? (i := 235) rfl), lw_t6 (List.mem_of_getElem? (i := 50) rfl), lw_t6 (List.mem_of_getElem? (i := 51) rfl)⟩
theorem lw_p33 : lw_okq (⟨"PollAuditModel", "isFor", "(II)I"⟩, 45) := ⟨⟨by decide +kernel, by decide +kernel⟩, lw_t4 (List.mem_of_getElem? (i := 235) rfl), lw_t6 (List.mem_of_getElem? (i := 54) rfl), lw_t6 (List.mem_of_getElem? (i := 55) rfl)⟩
theorem lw_p34 : lw_okq (⟨"PollAuditModel", "margin", "()I"⟩, 45) := ⟨⟨by decide +kernel, by decide +kernel⟩, lw_t4 (List.mem_of_getElem? (i := 235) rfl), lw_t6 (List.mem_of_getElem? (i := 58) rfl), lw_t6 (List.mem_of_getElem? (i := 59) rfl)⟩
theorem lw_p35 : lw_okq (⟨"PollAuditModel", "times", "(IJ)V"⟩, 45) := ⟨⟨by decide +kernel, by decide +kernel⟩, lw_t4 (List.mem_of_getElem? (i := 235) rfl), lw_t6 (List.mem_of_getElem? (i := 64) rfl), lw_t6 (List.mem_of_getElem? (i := 65) rfl)⟩
theorem lw_p36 : lw_okq (⟨"PollAuditModel", "trim", "(I)V"⟩, 45) := ⟨⟨by decide +kernel, by decide +kernel⟩, lw_t4 (List.mem_of_getElem? (i := 235) rfl), lw_t6 (List.mem_of_getElem? (i := 68) rfl), lw_t6 (List.mem_of_getElem? (i := 69) rfl)⟩
theorem lw_p37 : lw_okq (⟨"PollAuditModel", "copy", "(II)V"⟩, 45) := ⟨⟨by decide +kernel, by decide +kernel⟩, lw_t4 (List.mem_of_getElem? (i := 235) rfl), lw_t6 (List.mem_of_getElem? (i := 72) rfl), lw_t6 (List.mem_of_getElem? (i := 73) rfl)⟩
theorem lw_p38 : lw_okq (⟨"PollAuditModel", "compare", "(II)I"⟩, 45) := ⟨⟨by decide +kernel, by decide +kernel⟩, lw_t4 (List.mem_of_getElem? (i := 235) rfl), lw_t6 (List.mem_of_getElem? (i := 76) rfl), lw_t6 (List.mem_of_getElem? (i := 77) rfl)⟩
theorem lw_p39 : lw_okq (⟨"PollAuditModel", "ratio", "(III)V"⟩, 45) := ⟨⟨by decide +kernel, by decide +kernel⟩, lw_t4 (List.mem_of_getElem? (i := 235) rfl), lw_t6 (List.mem_of_getElem? (i := 80) rfl), lw_t6 (List.mem_of_getElem? (i := 81) rfl)⟩
theorem lw_p40 : lw_okq (⟨"PollAuditModel", "power", "(IJI)V"⟩, 45) := ⟨⟨by decide +kernel, by decide +kernel⟩, lw_t4 (List.mem_of_getElem? (i := 235) rfl), lw_t6 (List.mem_of_getElem? (i := 84) rfl), lw_t6 (List.mem_of_getElem? (i := 85) rfl)⟩
theorem lw_p41 : lw_okq (⟨"PollAuditModel", "isSure", "(III)Z"⟩, 45) := ⟨⟨by decide +kernel, by decide +kernel⟩, lw_t4 (List.mem_of_getElem? (i := 235) rfl), lw_t6 (List.mem_of_getElem? (i := 124) rfl), lw_t6 (List.mem_of_getElem? (i := 125) rfl)⟩
theorem lw_p42 : lw_okq (⟨"PollAuditModel", "goOn", "(IIII)V"⟩, 45) := ⟨⟨by decide +kernel, by decide +kernel⟩, lw_t4 (List.mem_of_getElem? (i := 235) rfl), lw_t6 (List.mem_of_getElem? (i := 129) rfl), lw_t6 (List.mem_of_getElem? (i := 130) rfl)⟩
theorem lw_p43 : lw_okq (⟨"PollAuditModel", "pass", "(III)V"⟩, 45) := ⟨⟨by decide +kernel, by decide +kernel⟩, lw_t4 (List.mem_of_getElem? (i := 235) rfl), lw_t6 (List.mem_of_getElem? (i := 133) rfl), lw_t6 (List.mem_of_getElem? (i := 134) rfl)⟩
theorem lw_p44 : lw_okq (⟨"PollAuditModel", "add", "(II)V"⟩, 45) := ⟨⟨by decide +kernel, by decide +kernel⟩, lw_t4 (List.mem_of_getElem? (i := 235) rfl), lw_t6 (List.mem_of_getElem? (i := 137) rfl), lw_t6 (List.mem_of_getElem? (i := 138) rfl)⟩
theorem lw_p45 : lw_okq (⟨"PollAuditModel", "lowest", "()V"⟩, 45) := ⟨⟨by decide +kernel, by decide +kernel⟩, lw_t4 (List.mem_of_getElem? (i := 235) rfl), lw_t6 (List.mem_of_getElem? (i := 142) rfl), lw_t6 (List.mem_of_getElem? (i := 143) rfl)⟩
theorem lw_p46 : lw_okq (⟨"PollAuditModel", "common", "()V"⟩, 45) := ⟨⟨by decide +kernel, by decide +kernel⟩, lw_t4 (List.mem_of_getElem? (i := 235) rfl), lw_t6 (List.mem_of_getElem? (i := 146) rfl), lw_t6 (List.mem_of_getElem? (i := 147) rfl)⟩
theorem lw_p47 : lw_okq (⟨"PollAuditModel", "halve", "(I)I"⟩, 45) := ⟨⟨by decide +kernel, by decide +kernel⟩, lw_t4 (List.mem_of_getElem? (i := 235) rfl), lw_t6 (List.mem_of_getElem? (i := 150) rfl), lw_t6 (List.mem_of_getElem? (i := 151) rfl)⟩
def lw_privs_3 : List (MethodName × Nat) := [(⟨"PollAuditModel", "factor", "(I)V"⟩, 45), (⟨"PollAuditModel", "isFor", "(II)I"⟩, 45), (⟨"PollAuditModel", "margin", "()I"⟩, 45), (⟨"PollAuditModel", "times", "(IJ)V"⟩, 45), (⟨"PollAuditModel", "trim", "(I)V"⟩, 45), (⟨"PollAuditModel", "copy", "(II)V"⟩, 45), (⟨"PollAuditModel", "compare", "(II)I"⟩, 45), (⟨"PollAuditModel", "ratio", "(III)V"⟩, 45), (⟨"PollAuditModel", "power", "(IJI)V"⟩, 45), (⟨"PollAuditModel", "isSure", "(III)Z"⟩, 45), (⟨"PollAuditModel", "goOn", "(IIII)V"⟩, 45), (⟨"PollAuditModel", "pass", "(III)V"⟩, 45), (⟨"PollAuditModel", "add", "(II)V"⟩, 45), (⟨"PollAuditModel", "lowest", "()V"⟩, 45), (⟨"PollAuditModel", "common", "()V"⟩, 45), (⟨"PollAuditModel", "halve", "(I)I"⟩, 45)]
theorem lw_r3 : ∀ q ∈ lw_privs_3, lw_okq q := List.forall_mem_cons.mpr ⟨lw_p32, List.forall_mem_cons.mpr ⟨lw_p33, List.forall_mem_cons.mpr ⟨lw_p34, List.forall_mem_cons.mpr ⟨lw_p35, List.forall_mem_cons.mpr ⟨lw_p36, List.forall_mem_cons.mpr ⟨lw_p37, List.forall_mem_cons.mpr ⟨lw_p38, List.forall_mem_cons.mpr ⟨lw_p39, List.forall_mem_cons.mpr ⟨lw_p40, List.forall_mem_cons.mpr ⟨lw_p41, List.forall_mem_cons.mpr ⟨lw_p42, List.forall_mem_cons.mpr ⟨lw_p43, List.forall_mem_cons.mpr ⟨lw_p44, List.forall_mem_cons.mpr ⟨lw_p45, List.forall_mem_cons.mpr ⟨lw_p46, List.forall_mem_cons.mpr ⟨lw_p47, fun _ h => absurd h List.not_mem_nil⟩⟩⟩⟩⟩⟩⟩⟩⟩⟩⟩⟩⟩⟩⟩⟩
theorem lw_p48 : lw_okq (⟨"PollAuditModel", "less", "(II)V"⟩, 45) := ⟨⟨by decide +kernel, by decide +kernel⟩, lw_t4 (List.mem_of_getElem? (i := 235) rfl), lw_t6 (List.mem_of_getElem? (i := 154) rfl), lw_t6 (List.mem_of_getElem? (i := 155) rfl)⟩
theorem lw_p49 : lw_okq (⟨"PollAuditModel", "twice", "(II)V"⟩, 45) := ⟨⟨by decide +kernel, by decide +kernel⟩, lw_t4 (List.mem_of_getElem? (i := 235) rfl), lw_t6 (List.mem_of_getElem? (i := 158) rfl), lw_t6 (List.mem_of_getElem? (i := 159) rfl)⟩
theorem lw_p50 : lw_okq (⟨"PollAuditModel", "divide", "(II)V"⟩, 45) := ⟨⟨by decide +kernel, by decide +kernel⟩, lw_t4 (List.mem_of_getElem? (i := 235) rfl), lw_t6 (List.mem_of_getElem? (i := 162) rfl), lw_t6 (List.mem_of_getElem? (i := 163) rfl)⟩
theorem lw_p51 : lw_okq (⟨"PollAuditModel", "limbs", "(I)I"⟩, 45) := ⟨⟨by decide +kernel, by decide +kernel⟩, lw_t4 (List.mem_of_getElem? (i := 235) rfl), lw_t6 (List.mem_of_getElem? (i := 175) rfl), lw_t6 (List.mem_of_getElem? (i := 176) rfl)⟩
def lw_privs_4 : List (MethodName × Nat) := [(⟨"PollAuditModel", "less", "(II)V"⟩, 45), (⟨"PollAuditModel", "twice", "(II)V"⟩, 45), (⟨"PollAuditModel", "divide", "(II)V"⟩, 45), (⟨"PollAuditModel", "limbs", "(I)I"⟩, 45)]
theorem lw_r4 : ∀ q ∈ lw_privs_4, lw_okq q := List.forall_mem_cons.mpr ⟨lw_p48, List.forall_mem_cons.mpr ⟨lw_p49, List.forall_mem_cons.mpr ⟨lw_p50, List.forall_mem_cons.mpr ⟨lw_p51, fun _ h => absurd h List.not_mem_nil⟩⟩⟩⟩
def lw_privs : List (MethodName × Nat) := lw_privs_1 ++ (lw_privs_2 ++ (lw_privs_3 ++ (lw_privs_4)))
def lw_tbl : List Cond := k2_sels lw_privs ++ tables_1
theorem lw_privs_ok : ∀ q ∈ lw_privs, lw_okq q := by
  show ∀ q ∈ lw_privs_1 ++ (lw_privs_2 ++ (lw_privs_3 ++ (lw_privs_4))), lw_okq q
  exact List.forall_mem_append.mpr ⟨lw_r1, List.forall_mem_append.mpr ⟨lw_r2, List.forall_mem_append.mpr ⟨lw_r3, lw_r4⟩⟩⟩
-- ===== ONE list of words for every method: the tables' words that hold all through a run =====
def lw_all : List Cond := lw_tbl.filter goodWord
/-- a word of the tables by its place: claim/WORDS.tsv -/
theorem lw_w {w : Cond} (i : Nat) (h : lw_tbl[i]? = some w) (g : goodWord w = true) : w ∈ lw_all := List.mem_filter.mpr ⟨List.mem_of_getElem? h, g⟩
theorem lw_all_tbl {w : Cond} (h : w ∈ lw_all) : w ∈ lw_tbl := (List.mem_filter.mp h).1
theorem lw_self : GoodIn lw_all lw_all := fun w h => ⟨h, good_of_word (List.mem_filter.mp h).2⟩
/-- a class's field words, by their places -/
theorem lw_in (ws : List Cond) (ps : List Nat) (hp : ws = ps.filterMap (fun i => lw_tbl[i]?)) (hg : ws.all goodWord = true) : ∀ w ∈ ws, w ∈ lw_all := by
  intro w h
  have h1 := List.all_eq_true.mp hg w h
  rw [hp] at h
  obtain ⟨i, -, hi⟩ := List.mem_filterMap.mp h
  exact lw_w i hi h1
/-- the words of a contract for the method y with code b, L locals, answer r -/
abbrev ws_ (y : MethodName) (b : ByteArray) (L : Nat) (r : Option FieldType) : List Cond := Cond.code y b L r :: lw_all
theorem lw_meth {y : MethodName} {b : ByteArray} {L : Nat} {r : Option FieldType} (h : Cond.code y b L r ∈ lw_all) : GoodIn lw_all (ws_ y b L r) := by
  intro w hw
  rcases List.mem_cons.mp hw with e | e
  · rw [e]
    exact lw_self _ h
  · exact lw_self _ e
theorem lw_app {a c : List Cond} (ha : ∀ w ∈ a, w ∈ lw_all) (hc : GoodIn lw_all c) : GoodIn lw_all (a ++ c) := by
  intro w hw
  rcases List.mem_append.mp hw with e | e
  · exact lw_self w (ha w e)
  · exact hc w e
/-- what a call through an object asks: cwV n hts (lw_V ..) -/
theorem lw_V {own : String} {idx : Nat} {C : String} {y : MethodName} {b : ByteArray} {L : Nat} {r : Option FieldType} (h1 : Cond.methodLink own idx y ∈ lw_all) (h2 : Cond.instanceMethod y ∈ lw_all) (h3 : Cond.selects C y y ∈ lw_all) (h4 : Cond.initialized C ∈ lw_all) (h5 : Cond.code y b L r ∈ lw_all) : GoodIn lw_all (wsV own idx C y (ws_ y b L r)) := by
  refine lw_app ?_ (lw_meth h5)
  intro w hw
  simp only [List.mem_cons, List.not_mem_nil, or_false] at hw
  rcases hw with e | e | e | e
  · rw [e]; exact h1
  · rw [e]; exact h2
  · rw [e]; exact h3
  · rw [e]; exact h4
/-- what a static call asks: va_cwS n hts (lw_S ..) -/
theorem lw_S {own : String} {idx : Nat} {y : MethodName} {b : ByteArray} {L : Nat} {r : Option FieldType} (h1 : Cond.methodLink own idx y ∈ lw_all) (h2 : Cond.static y ∈ lw_all) (h3 : Cond.initialized y.cls ∈ lw_all) (h4 : Cond.code y b L r ∈ lw_all) : GoodIn lw_all (va_wsS own idx y (ws_ y b L r)) := by
  refine lw_app ?_ (lw_meth h4)
  intro w hw
  simp only [List.mem_cons, List.not_mem_nil, or_false] at hw
  rcases hw with e | e | e
  · rw [e]; exact h1
  · rw [e]; exact h2
  · rw [e]; exact h3
/-- the words of a contract for a method WITH HANDLERS (hh: its table) -/
abbrev wsW_ (y : MethodName) (b : ByteArray) (L : Nat) (r : Option FieldType) (hh : List (Nat × Nat × Nat × Nat)) : List Cond := Cond.codeWith y b L r hh :: lw_all
theorem lw_methW {y : MethodName} {b : ByteArray} {L : Nat} {r : Option FieldType} {hh : List (Nat × Nat × Nat × Nat)} (h : Cond.codeWith y b L r hh ∈ lw_all) : GoodIn lw_all (wsW_ y b L r hh) := by
  intro w hw
  rcases List.mem_cons.mp hw with e | e
  · rw [e]
    exact lw_self _ h
  · exact lw_self _ e
/-- any list of words by their places (lw_in), good -/
theorem lw_good {ws : List Cond} (h : ∀ w ∈ ws, w ∈ lw_all) : GoodIn lw_all ws := fun w hw => lw_self w (h w hw)
/-- what a call of a method with handlers asks: vx_cwVW n hts (lw_VW ..), vx_cwSW n hts (lw_SW ..) -/
theorem lw_VW {own : String} {idx : Nat} {C : String} {y : MethodName} {b : ByteArray} {L : Nat} {r : Option FieldType} {hh : List (Nat × Nat × Nat × Nat)} (h1 : Cond.methodLink own idx y ∈ lw_all) (h2 : Cond.instanceMethod y ∈ lw_all) (h3 : Cond.selects C y y ∈ lw_all) (h4 : Cond.initialized C ∈ lw_all) (h5 : Cond.codeWith y b L r hh ∈ lw_all) : GoodIn lw_all (wsV own idx C y (wsW_ y b L r hh)) := by
  refine lw_app ?_ (lw_methW h5)
  intro w hw
  simp only [List.mem_cons, List.not_mem_nil, or_false] at hw
  rcases hw with e | e | e | e
  · rw [e]; exact h1
  · rw [e]; exact h2
  · rw [e]; exact h3
  · rw [e]; exact h4
theorem lw_SW {own : String} {idx : Nat} {y : MethodName} {b : ByteArray} {L : Nat} {r : Option FieldType} {hh : List (Nat × Nat × Nat × Nat)} (h1 : Cond.methodLink own idx y ∈ lw_all) (h2 : Cond.static y ∈ lw_all) (h3 : Cond.initialized y.cls ∈ lw_all) (h4 : Cond.codeWith y b L r hh ∈ lw_all) : GoodIn lw_all (va_wsS own idx y (wsW_ y b L r hh)) := by
  refine lw_app ?_ (lw_methW h4)
  intro w hw
  simp only [List.mem_cons, List.not_mem_nil, or_false] at hw
  rcases hw with e | e | e
  · rw [e]; exact h1
  · rw [e]; exact h2
  · rw [e]; exact h3
/-- a word by its place in its run of the tables -/
theorem lw_at {r : List Cond} (hr : ∀ w ∈ r, w ∈ lw_tbl) {w : Cond} (i : Nat) (h : r[i]? = some w) : w ∈ lw_tbl := hr w (List.mem_of_getElem? h)
theorem lw_g {w : Cond} (h : w ∈ lw_tbl) (g : goodWord w = true) : w ∈ lw_all := List.mem_filter.mpr ⟨h, g⟩
theorem lw_ms : ∀ w ∈ k2_sels lw_privs, w ∈ lw_tbl := fun w h => show w ∈ k2_sels lw_privs ++ tables_1 from List.mem_append_left _ h
theorem lw_m1 : ∀ w ∈ tables_1_1, w ∈ lw_tbl := fun w h => show w ∈ k2_sels lw_privs ++ tables_1 from List.mem_append_right (k2_sels lw_privs) (show w ∈ tables_1 from List.mem_append_left _ h)
theorem lw_m2 : ∀ w ∈ tables_1_2, w ∈ lw_tbl := fun w h => show w ∈ k2_sels lw_privs ++ tables_1 from List.mem_append_right (k2_sels lw_privs) (show w ∈ tables_1 from List.mem_append_right _ (List.mem_append_left _ h))
theorem lw_m3 : ∀ w ∈ tables_1_3, w ∈ lw_tbl := fun w h => show w ∈ k2_sels lw_privs ++ tables_1 from List.mem_append_right (k2_sels lw_privs) (show w ∈ tables_1 from List.mem_append_right _ (List.mem_append_right _ (List.mem_append_left _ h)))
theorem lw_m4 : ∀ w ∈ tables_1_4, w ∈ lw_tbl := fun w h => show w ∈ k2_sels lw_privs ++ tables_1 from List.mem_append_right (k2_sels lw_privs) (show w ∈ tables_1 from List.mem_append_right _ (List.mem_append_right _ (List.mem_append_right _ (List.mem_append_left _ h))))
theorem lw_m5 : ∀ w ∈ tables_1_5, w ∈ lw_tbl := fun w h => show w ∈ k2_sels lw_privs ++ tables_1 from List.mem_append_right (k2_sels lw_privs) (show w ∈ tables_1 from List.mem_append_right _ (List.mem_append_right _ (List.mem_append_right _ (List.mem_append_right _ (List.mem_append_left _ h)))))
theorem lw_m6 : ∀ w ∈ tables_1_6, w ∈ lw_tbl := fun w h => show w ∈ k2_sels lw_privs ++ tables_1 from List.mem_append_right (k2_sels lw_privs) (show w ∈ tables_1 from List.mem_append_right _ (List.mem_append_right _ (List.mem_append_right _ (List.mem_append_right _ (List.mem_append_right _ h)))))
theorem qs0 : (Cond.selects "PollAudit$Big" ⟨"PollAudit$Big", "reserve", "(I)V"⟩ ⟨"PollAudit$Big", "reserve", "(I)V"⟩) ∈ lw_all := lw_g (lw_at lw_ms 0 rfl) rfl
theorem qs1 : (Cond.selects "PollAudit$Big" ⟨"PollAudit$Big", "trim", "()V"⟩ ⟨"PollAudit$Big", "trim", "()V"⟩) ∈ lw_all := lw_g (lw_at lw_ms 1 rfl) rfl
theorem qs2 : (Cond.selects "java/lang/Throwable" ⟨"java/lang/Throwable", "fillInStackTrace", "(I)Ljava/lang/Throwable;"⟩ ⟨"java/lang/Throwable", "fillInStackTrace", "(I)Ljava/lang/Throwable;"⟩) ∈ lw_all := lw_g (lw_at lw_ms 2 rfl) rfl
theorem qs3 : (Cond.selects "PollAudit" ⟨"PollAudit", "setting", "()V"⟩ ⟨"PollAudit", "setting", "()V"⟩) ∈ lw_all := lw_g (lw_at lw_ms 3 rfl) rfl
theorem qs4 : (Cond.selects "PollAudit" ⟨"PollAudit", "isCandidate", "(I)Z"⟩ ⟨"PollAudit", "isCandidate", "(I)Z"⟩) ∈ lw_all := lw_g (lw_at lw_ms 4 rfl) rfl
theorem qs5 : (Cond.selects "PollAudit" ⟨"PollAudit", "findWinners", "()Z"⟩ ⟨"PollAudit", "findWinners", "()Z"⟩) ∈ lw_all := lw_g (lw_at lw_ms 5 rfl) rfl
theorem qs6 : (Cond.selects "PollAudit$Digest" ⟨"PollAudit$Digest", "round", "(I)V"⟩ ⟨"PollAudit$Digest", "round", "(I)V"⟩) ∈ lw_all := lw_g (lw_at lw_ms 6 rfl) rfl
theorem qs7 : (Cond.selects "PollAudit" ⟨"PollAudit", "look", "(I)V"⟩ ⟨"PollAudit", "look", "(I)V"⟩) ∈ lw_all := lw_g (lw_at lw_ms 7 rfl) rfl
theorem qs8 : (Cond.selects "PollAudit$Comparing" ⟨"PollAudit$Comparing", "off", "(LPollAudit$Pair;II)I"⟩ ⟨"PollAudit$Comparing", "off", "(LPollAudit$Pair;II)I"⟩) ∈ lw_all := lw_g (lw_at lw_ms 8 rfl) rfl
theorem qs9 : (Cond.selects "PollAudit" ⟨"PollAudit", "margin", "(LPollAudit$Pair;)I"⟩ ⟨"PollAudit", "margin", "(LPollAudit$Pair;)I"⟩) ∈ lw_all := lw_g (lw_at lw_ms 9 rfl) rfl
theorem qs10 : (Cond.selects "PollAudit" ⟨"PollAudit", "least", "()I"⟩ ⟨"PollAudit", "least", "()I"⟩) ∈ lw_all := lw_g (lw_at lw_ms 10 rfl) rfl
theorem qs11 : (Cond.selects "PollAudit" ⟨"PollAudit", "reaches", "(LPollAudit$Big;LPollAudit$Big;)Z"⟩ ⟨"PollAudit", "reaches", "(LPollAudit$Big;LPollAudit$Big;)Z"⟩) ∈ lw_all := lw_g (lw_at lw_ms 11 rfl) rfl
theorem qs12 : (Cond.selects "PollAudit" ⟨"PollAudit", "surePairs", "()I"⟩ ⟨"PollAudit", "surePairs", "()I"⟩) ∈ lw_all := lw_g (lw_at lw_ms 12 rfl) rfl
theorem qs13 : (Cond.selects "PollAudit" ⟨"PollAudit", "pairIn", "(I)LPollAudit$Pair;"⟩ ⟨"PollAudit", "pairIn", "(I)LPollAudit$Pair;"⟩) ∈ lw_all := lw_g (lw_at lw_ms 13 rfl) rfl
theorem qs14 : (Cond.selects "PollAudit" ⟨"PollAudit", "batchOf", "(I)I"⟩ ⟨"PollAudit", "batchOf", "(I)I"⟩) ∈ lw_all := lw_g (lw_at lw_ms 14 rfl) rfl
theorem qs15 : (Cond.selects "PollAudit" ⟨"PollAudit", "findSure", "(LPollAudit$Pair;I)V"⟩ ⟨"PollAudit", "findSure", "(LPollAudit$Pair;I)V"⟩) ∈ lw_all := lw_g (lw_at lw_ms 15 rfl) rfl
theorem qs16 : (Cond.selects "PollAudit" ⟨"PollAudit", "drawMore", "(IIII)V"⟩ ⟨"PollAudit", "drawMore", "(IIII)V"⟩) ∈ lw_all := lw_g (lw_at lw_ms 16 rfl) rfl
theorem qs17 : (Cond.selects "PollAudit" ⟨"PollAudit", "more", "(LPollAudit$Big;LPollAudit$Big;I)V"⟩ ⟨"PollAudit", "more", "(LPollAudit$Big;LPollAudit$Big;I)V"⟩) ∈ lw_all := lw_g (lw_at lw_ms 17 rfl) rfl
theorem qs18 : (Cond.selects "PollAudit$Big" ⟨"PollAudit$Big", "shiftLeft", "(I)V"⟩ ⟨"PollAudit$Big", "shiftLeft", "(I)V"⟩) ∈ lw_all := lw_g (lw_at lw_ms 18 rfl) rfl
theorem qs19 : (Cond.selects "PollAudit$Big" ⟨"PollAudit$Big", "taken", "(LPollAudit$Big;IIJ)J"⟩ ⟨"PollAudit$Big", "taken", "(LPollAudit$Big;IIJ)J"⟩) ∈ lw_all := lw_g (lw_at lw_ms 19 rfl) rfl
theorem qs20 : (Cond.selects "PollAudit$Big" ⟨"PollAudit$Big", "shiftRight", "(I)V"⟩ ⟨"PollAudit$Big", "shiftRight", "(I)V"⟩) ∈ lw_all := lw_g (lw_at lw_ms 20 rfl) rfl
theorem qs21 : (Cond.selects "PollAudit" ⟨"PollAudit", "part", "(I)LPollAudit$Big;"⟩ ⟨"PollAudit", "part", "(I)LPollAudit$Big;"⟩) ∈ lw_all := lw_g (lw_at lw_ms 21 rfl) rfl
theorem qs22 : (Cond.selects "PollAuditModel" ⟨"PollAuditModel", "give", "(IJ)V"⟩ ⟨"PollAuditModel", "give", "(IJ)V"⟩) ∈ lw_all := lw_g (lw_at lw_ms 22 rfl) rfl
theorem qs23 : (Cond.selects "PollAuditModel" ⟨"PollAuditModel", "isVote", "(I)Z"⟩ ⟨"PollAuditModel", "isVote", "(I)Z"⟩) ∈ lw_all := lw_g (lw_at lw_ms 23 rfl) rfl
theorem qs24 : (Cond.selects "PollAuditModel" ⟨"PollAuditModel", "choose", "()Z"⟩ ⟨"PollAuditModel", "choose", "()Z"⟩) ∈ lw_all := lw_g (lw_at lw_ms 24 rfl) rfl
theorem qs25 : (Cond.selects "PollAuditModel" ⟨"PollAuditModel", "pairUp", "()V"⟩ ⟨"PollAuditModel", "pairUp", "()V"⟩) ∈ lw_all := lw_g (lw_at lw_ms 25 rfl) rfl
theorem qs26 : (Cond.selects "PollAuditModel" ⟨"PollAuditModel", "number", "()I"⟩ ⟨"PollAuditModel", "number", "()I"⟩) ∈ lw_all := lw_g (lw_at lw_ms 26 rfl) rfl
theorem qs27 : (Cond.selects "PollAuditModel" ⟨"PollAuditModel", "digestOf", "(I)V"⟩ ⟨"PollAuditModel", "digestOf", "(I)V"⟩) ∈ lw_all := lw_g (lw_at lw_ms 27 rfl) rfl
theorem qs28 : (Cond.selects "PollAuditModel" ⟨"PollAuditModel", "turned", "(II)I"⟩ ⟨"PollAuditModel", "turned", "(II)I"⟩) ∈ lw_all := lw_g (lw_at lw_ms 28 rfl) rfl
theorem qs29 : (Cond.selects "PollAuditModel" ⟨"PollAuditModel", "round", "(I)V"⟩ ⟨"PollAuditModel", "round", "(I)V"⟩) ∈ lw_all := lw_g (lw_at lw_ms 29 rfl) rfl
theorem qs30 : (Cond.selects "PollAuditModel" ⟨"PollAuditModel", "coinsADraw", "()I"⟩ ⟨"PollAuditModel", "coinsADraw", "()I"⟩) ∈ lw_all := lw_g (lw_at lw_ms 30 rfl) rfl
theorem qs31 : (Cond.selects "PollAuditModel" ⟨"PollAuditModel", "count", "(I)V"⟩ ⟨"PollAuditModel", "count", "(I)V"⟩) ∈ lw_all := lw_g (lw_at lw_ms 31 rfl) rfl
theorem qs32 : (Cond.selects "PollAuditModel" ⟨"PollAuditModel", "factor", "(I)V"⟩ ⟨"PollAuditModel", "factor", "(I)V"⟩) ∈ lw_all := lw_g (lw_at lw_ms 32 rfl) rfl
theorem qs33 : (Cond.selects "PollAuditModel" ⟨"PollAuditModel", "isFor", "(II)I"⟩ ⟨"PollAuditModel", "isFor", "(II)I"⟩) ∈ lw_all := lw_g (lw_at lw_ms 33 rfl) rfl
theorem qs34 : (Cond.selects "PollAuditModel" ⟨"PollAuditModel", "margin", "()I"⟩ ⟨"PollAuditModel", "margin", "()I"⟩) ∈ lw_all := lw_g (lw_at lw_ms 34 rfl) rfl
theorem qs35 : (Cond.selects "PollAuditModel" ⟨"PollAuditModel", "times", "(IJ)V"⟩ ⟨"PollAuditModel", "times", "(IJ)V"⟩) ∈ lw_all := lw_g (lw_at lw_ms 35 rfl) rfl
theorem qs36 : (Cond.selects "PollAuditModel" ⟨"PollAuditModel", "trim", "(I)V"⟩ ⟨"PollAuditModel", "trim", "(I)V"⟩) ∈ lw_all := lw_g (lw_at lw_ms 36 rfl) rfl
theorem qs37 : (Cond.selects "PollAuditModel" ⟨"PollAuditModel", "copy", "(II)V"⟩ ⟨"PollAuditModel", "copy", "(II)V"⟩) ∈ lw_all := lw_g (lw_at lw_ms 37 rfl) rfl
theorem qs38 : (Cond.selects "PollAuditModel" ⟨"PollAuditModel", "compare", "(II)I"⟩ ⟨"PollAuditModel", "compare", "(II)I"⟩) ∈ lw_all := lw_g (lw_at lw_ms 38 rfl) rfl
theorem qs39 : (Cond.selects "PollAuditModel" ⟨"PollAuditModel", "ratio", "(III)V"⟩ ⟨"PollAuditModel", "ratio", "(III)V"⟩) ∈ lw_all := lw_g (lw_at lw_ms 39 rfl) rfl
theorem qs40 : (Cond.selects "PollAuditModel" ⟨"PollAuditModel", "power", "(IJI)V"⟩ ⟨"PollAuditModel", "power", "(IJI)V"⟩) ∈ lw_all := lw_g (lw_at lw_ms 40 rfl) rfl
theorem qs41 : (Cond.selects "PollAuditModel" ⟨"PollAuditModel", "isSure", "(III)Z"⟩ ⟨"PollAuditModel", "isSure", "(III)Z"⟩) ∈ lw_all := lw_g (lw_at lw_ms 41 rfl) rfl
theorem qs42 : (Cond.selects "PollAuditModel" ⟨"PollAuditModel", "goOn", "(IIII)V"⟩ ⟨"PollAuditModel", "goOn", "(IIII)V"⟩) ∈ lw_all := lw_g (lw_at lw_ms 42 rfl) rfl
theorem qs43 : (Cond.selects "PollAuditModel" ⟨"PollAuditModel", "pass", "(III)V"⟩ ⟨"PollAuditModel", "pass", "(III)V"⟩) ∈ lw_all := lw_g (lw_at lw_ms 43 rfl) rfl
theorem qs44 : (Cond.selects "PollAuditModel" ⟨"PollAuditModel", "add", "(II)V"⟩ ⟨"PollAuditModel", "add", "(II)V"⟩) ∈ lw_all := lw_g (lw_at lw_ms 44 rfl) rfl
theorem qs45 : (Cond.selects "PollAuditModel" ⟨"PollAuditModel", "lowest", "()V"⟩ ⟨"PollAuditModel", "lowest", "()V"⟩) ∈ lw_all := lw_g (lw_at lw_ms 45 rfl) rfl
theorem qs46 : (Cond.selects "PollAuditModel" ⟨"PollAuditModel", "common", "()V"⟩ ⟨"PollAuditModel", "common", "()V"⟩) ∈ lw_all := lw_g (lw_at lw_ms 46 rfl) rfl
theorem qs47 : (Cond.selects "PollAuditModel" ⟨"PollAuditModel", "halve", "(I)I"⟩ ⟨"PollAuditModel", "halve", "(I)I"⟩) ∈ lw_all := lw_g (lw_at lw_ms 47 rfl) rfl
theorem qs48 : (Cond.selects "PollAuditModel" ⟨"PollAuditModel", "less", "(II)V"⟩ ⟨"PollAuditModel", "less", "(II)V"⟩) ∈ lw_all := lw_g (lw_at lw_ms 48 rfl) rfl
theorem qs49 : (Cond.selects "PollAuditModel" ⟨"PollAuditModel", "twice", "(II)V"⟩ ⟨"PollAuditModel", "twice", "(II)V"⟩) ∈ lw_all := lw_g (lw_at lw_ms 49 rfl) rfl
theorem qs50 : (Cond.selects "PollAuditModel" ⟨"PollAuditModel", "divide", "(II)V"⟩ ⟨"PollAuditModel", "divide", "(II)V"⟩) ∈ lw_all := lw_g (lw_at lw_ms 50 rfl) rfl
theorem qs51 : (Cond.selects "PollAuditModel" ⟨"PollAuditModel", "limbs", "(I)I"⟩ ⟨"PollAuditModel", "limbs", "(I)I"⟩) ∈ lw_all := lw_g (lw_at lw_ms 51 rfl) rfl
