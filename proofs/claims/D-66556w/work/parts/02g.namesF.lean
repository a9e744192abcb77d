set_option maxRecDepth 100000
def RX0 : String := "PollAuditLaw"
abbrev cX0_candidate : ByteArray := method_3_code
def yX0_candidate : MethodName := ⟨RX0, "candidate", "(LPollAudit;I[J)I"⟩
theorem dX0_candidate_0 : decode cX0_candidate 0 = .ok (.aload_n 2, 1) := by decide +kernel
theorem dX0_candidate_1 : decode cX0_candidate 1 = .ok (.iconst 0, 1) := by decide +kernel
theorem dX0_candidate_2 : decode cX0_candidate 2 = .ok (.aload_n 0, 1) := by decide +kernel
theorem dX0_candidate_3 : decode cX0_candidate 3 = .ok (.iload_n 1, 1) := by decide +kernel
theorem dX0_candidate_4 : decode cX0_candidate 4 = .ok (.invokevirtual 7, 3) := by decide +kernel
theorem dX0_candidate_7 : decode cX0_candidate 7 = .ok (.i2l, 1) := by decide +kernel
theorem dX0_candidate_8 : decode cX0_candidate 8 = .ok (.lastore, 1) := by decide +kernel
theorem dX0_candidate_9 : decode cX0_candidate 9 = .ok (.goto 12, 3) := by decide +kernel
theorem dX0_candidate_12 : decode cX0_candidate 12 = .ok (.astore_n 3, 1) := by decide +kernel
theorem dX0_candidate_13 : decode cX0_candidate 13 = .ok (.iconst 1, 1) := by decide +kernel
theorem dX0_candidate_14 : decode cX0_candidate 14 = .ok (.ireturn, 1) := by decide +kernel
theorem dX0_candidate_15 : decode cX0_candidate 15 = .ok (.astore_n 3, 1) := by decide +kernel
theorem dX0_candidate_16 : decode cX0_candidate 16 = .ok (.iconst 2, 1) := by decide +kernel
theorem dX0_candidate_17 : decode cX0_candidate 17 = .ok (.ireturn, 1) := by decide +kernel
theorem dX0_candidate_18 : decode cX0_candidate 18 = .ok (.astore_n 3, 1) := by decide +kernel
theorem dX0_candidate_19 : decode cX0_candidate 19 = .ok (.iconst 3, 1) := by decide +kernel
theorem dX0_candidate_20 : decode cX0_candidate 20 = .ok (.ireturn, 1) := by decide +kernel
theorem dX0_candidate_21 : decode cX0_candidate 21 = .ok (.iconst 0, 1) := by decide +kernel
theorem dX0_candidate_22 : decode cX0_candidate 22 = .ok (.ireturn, 1) := by decide +kernel
abbrev cX0_batch : ByteArray := method_4_code
def yX0_batch : MethodName := ⟨RX0, "batch", "(LPollAudit;I[J)I"⟩
theorem dX0_batch_0 : decode cX0_batch 0 = .ok (.aload_n 2, 1) := by decide +kernel
theorem dX0_batch_1 : decode cX0_batch 1 = .ok (.iconst 0, 1) := by decide +kernel
theorem dX0_batch_2 : decode cX0_batch 2 = .ok (.aload_n 0, 1) := by decide +kernel
theorem dX0_batch_3 : decode cX0_batch 3 = .ok (.iload_n 1, 1) := by decide +kernel
theorem dX0_batch_4 : decode cX0_batch 4 = .ok (.invokevirtual 19, 3) := by decide +kernel
theorem dX0_batch_7 : decode cX0_batch 7 = .ok (.i2l, 1) := by decide +kernel
theorem dX0_batch_8 : decode cX0_batch 8 = .ok (.lastore, 1) := by decide +kernel
theorem dX0_batch_9 : decode cX0_batch 9 = .ok (.goto 12, 3) := by decide +kernel
theorem dX0_batch_12 : decode cX0_batch 12 = .ok (.astore_n 3, 1) := by decide +kernel
theorem dX0_batch_13 : decode cX0_batch 13 = .ok (.iconst 1, 1) := by decide +kernel
theorem dX0_batch_14 : decode cX0_batch 14 = .ok (.ireturn, 1) := by decide +kernel
theorem dX0_batch_15 : decode cX0_batch 15 = .ok (.astore_n 3, 1) := by decide +kernel
theorem dX0_batch_16 : decode cX0_batch 16 = .ok (.iconst 2, 1) := by decide +kernel
theorem dX0_batch_17 : decode cX0_batch 17 = .ok (.ireturn, 1) := by decide +kernel
theorem dX0_batch_18 : decode cX0_batch 18 = .ok (.astore_n 3, 1) := by decide +kernel
theorem dX0_batch_19 : decode cX0_batch 19 = .ok (.iconst 3, 1) := by decide +kernel
theorem dX0_batch_20 : decode cX0_batch 20 = .ok (.ireturn, 1) := by decide +kernel
theorem dX0_batch_21 : decode cX0_batch 21 = .ok (.iconst 0, 1) := by decide +kernel
theorem dX0_batch_22 : decode cX0_batch 22 = .ok (.ireturn, 1) := by decide +kernel
abbrev cX0_set : ByteArray := method_5_code
def yX0_set : MethodName := ⟨RX0, "set", "(LPollAudit;II[J)I"⟩
theorem dX0_set_0 : decode cX0_set 0 = .ok (.aload_n 3, 1) := by decide +kernel
theorem dX0_set_1 : decode cX0_set 1 = .ok (.iconst 0, 1) := by decide +kernel
theorem dX0_set_2 : decode cX0_set 2 = .ok (.aload_n 0, 1) := by decide +kernel
theorem dX0_set_3 : decode cX0_set 3 = .ok (.iload_n 1, 1) := by decide +kernel
theorem dX0_set_4 : decode cX0_set 4 = .ok (.iload_n 2, 1) := by decide +kernel
theorem dX0_set_5 : decode cX0_set 5 = .ok (.invokevirtual 22, 3) := by decide +kernel
theorem dX0_set_8 : decode cX0_set 8 = .ok (.i2l, 1) := by decide +kernel
theorem dX0_set_9 : decode cX0_set 9 = .ok (.lastore, 1) := by decide +kernel
theorem dX0_set_10 : decode cX0_set 10 = .ok (.goto 15, 3) := by decide +kernel
theorem dX0_set_13 : decode cX0_set 13 = .ok (.astore 4, 2) := by decide +kernel
theorem dX0_set_15 : decode cX0_set 15 = .ok (.iconst 1, 1) := by decide +kernel
theorem dX0_set_16 : decode cX0_set 16 = .ok (.ireturn, 1) := by decide +kernel
theorem dX0_set_17 : decode cX0_set 17 = .ok (.astore 4, 2) := by decide +kernel
theorem dX0_set_19 : decode cX0_set 19 = .ok (.iconst 2, 1) := by decide +kernel
theorem dX0_set_20 : decode cX0_set 20 = .ok (.ireturn, 1) := by decide +kernel
theorem dX0_set_21 : decode cX0_set 21 = .ok (.astore 4, 2) := by decide +kernel
theorem dX0_set_23 : decode cX0_set 23 = .ok (.iconst 3, 1) := by decide +kernel
theorem dX0_set_24 : decode cX0_set 24 = .ok (.ireturn, 1) := by decide +kernel
theorem dX0_set_25 : decode cX0_set 25 = .ok (.iconst 0, 1) := by decide +kernel
theorem dX0_set_26 : decode cX0_set 26 = .ok (.ireturn, 1) := by decide +kernel
abbrev cX0_fraction : ByteArray := method_6_code
def yX0_fraction : MethodName := ⟨RX0, "fraction", "(LPollAudit;III)I"⟩
theorem dX0_fraction_0 : decode cX0_fraction 0 = .ok (.aload_n 0, 1) := by decide +kernel
theorem dX0_fraction_1 : decode cX0_fraction 1 = .ok (.iload_n 1, 1) := by decide +kernel
theorem dX0_fraction_2 : decode cX0_fraction 2 = .ok (.iload_n 2, 1) := by decide +kernel
theorem dX0_fraction_3 : decode cX0_fraction 3 = .ok (.iload_n 3, 1) := by decide +kernel
theorem dX0_fraction_4 : decode cX0_fraction 4 = .ok (.invokevirtual 28, 3) := by decide +kernel
theorem dX0_fraction_7 : decode cX0_fraction 7 = .ok (.goto 15, 3) := by decide +kernel
theorem dX0_fraction_10 : decode cX0_fraction 10 = .ok (.astore 4, 2) := by decide +kernel
theorem dX0_fraction_12 : decode cX0_fraction 12 = .ok (.iconst 1, 1) := by decide +kernel
theorem dX0_fraction_13 : decode cX0_fraction 13 = .ok (.ireturn, 1) := by decide +kernel
theorem dX0_fraction_14 : decode cX0_fraction 14 = .ok (.astore 4, 2) := by decide +kernel
theorem dX0_fraction_16 : decode cX0_fraction 16 = .ok (.iconst 2, 1) := by decide +kernel
theorem dX0_fraction_17 : decode cX0_fraction 17 = .ok (.ireturn, 1) := by decide +kernel
theorem dX0_fraction_18 : decode cX0_fraction 18 = .ok (.astore 4, 2) := by decide +kernel
theorem dX0_fraction_20 : decode cX0_fraction 20 = .ok (.iconst 3, 1) := by decide +kernel
theorem dX0_fraction_21 : decode cX0_fraction 21 = .ok (.ireturn, 1) := by decide +kernel
theorem dX0_fraction_22 : decode cX0_fraction 22 = .ok (.iconst 0, 1) := by decide +kernel
theorem dX0_fraction_23 : decode cX0_fraction 23 = .ok (.ireturn, 1) := by decide +kernel
abbrev cX0_record : ByteArray := method_7_code
def yX0_record : MethodName := ⟨RX0, "record", "(LPollAudit;III)I"⟩
theorem dX0_record_0 : decode cX0_record 0 = .ok (.aload_n 0, 1) := by decide +kernel
theorem dX0_record_1 : decode cX0_record 1 = .ok (.iload_n 1, 1) := by decide +kernel
theorem dX0_record_2 : decode cX0_record 2 = .ok (.iload_n 2, 1) := by decide +kernel
theorem dX0_record_3 : decode cX0_record 3 = .ok (.iload_n 3, 1) := by decide +kernel
theorem dX0_record_4 : decode cX0_record 4 = .ok (.invokevirtual 32, 3) := by decide +kernel
theorem dX0_record_7 : decode cX0_record 7 = .ok (.goto 11, 3) := by decide +kernel
theorem dX0_record_10 : decode cX0_record 10 = .ok (.astore 4, 2) := by decide +kernel
theorem dX0_record_12 : decode cX0_record 12 = .ok (.iconst 1, 1) := by decide +kernel
theorem dX0_record_13 : decode cX0_record 13 = .ok (.ireturn, 1) := by decide +kernel
theorem dX0_record_14 : decode cX0_record 14 = .ok (.astore 4, 2) := by decide +kernel
theorem dX0_record_16 : decode cX0_record 16 = .ok (.iconst 2, 1) := by decide +kernel
theorem dX0_record_17 : decode cX0_record 17 = .ok (.ireturn, 1) := by decide +kernel
theorem dX0_record_18 : decode cX0_record 18 = .ok (.iconst 0, 1) := by decide +kernel
theorem dX0_record_19 : decode cX0_record 19 = .ok (.ireturn, 1) := by decide +kernel
abbrev cX0_digit : ByteArray := method_8_code
def yX0_digit : MethodName := ⟨RX0, "digit", "(LPollAudit;I[J)I"⟩
theorem dX0_digit_0 : decode cX0_digit 0 = .ok (.aload_n 2, 1) := by decide +kernel
theorem dX0_digit_1 : decode cX0_digit 1 = .ok (.iconst 0, 1) := by decide +kernel
theorem dX0_digit_2 : decode cX0_digit 2 = .ok (.aload_n 0, 1) := by decide +kernel
theorem dX0_digit_3 : decode cX0_digit 3 = .ok (.iload_n 1, 1) := by decide +kernel
theorem dX0_digit_4 : decode cX0_digit 4 = .ok (.invokevirtual 35, 3) := by decide +kernel
theorem dX0_digit_7 : decode cX0_digit 7 = .ok (.i2l, 1) := by decide +kernel
theorem dX0_digit_8 : decode cX0_digit 8 = .ok (.lastore, 1) := by decide +kernel
theorem dX0_digit_9 : decode cX0_digit 9 = .ok (.goto 12, 3) := by decide +kernel
theorem dX0_digit_12 : decode cX0_digit 12 = .ok (.astore_n 3, 1) := by decide +kernel
theorem dX0_digit_13 : decode cX0_digit 13 = .ok (.iconst 1, 1) := by decide +kernel
theorem dX0_digit_14 : decode cX0_digit 14 = .ok (.ireturn, 1) := by decide +kernel
theorem dX0_digit_15 : decode cX0_digit 15 = .ok (.astore_n 3, 1) := by decide +kernel
theorem dX0_digit_16 : decode cX0_digit 16 = .ok (.iconst 2, 1) := by decide +kernel
theorem dX0_digit_17 : decode cX0_digit 17 = .ok (.ireturn, 1) := by decide +kernel
theorem dX0_digit_18 : decode cX0_digit 18 = .ok (.astore_n 3, 1) := by decide +kernel
theorem dX0_digit_19 : decode cX0_digit 19 = .ok (.iconst 3, 1) := by decide +kernel
theorem dX0_digit_20 : decode cX0_digit 20 = .ok (.ireturn, 1) := by decide +kernel
theorem dX0_digit_21 : decode cX0_digit 21 = .ok (.iconst 0, 1) := by decide +kernel
theorem dX0_digit_22 : decode cX0_digit 22 = .ok (.ireturn, 1) := by decide +kernel
abbrev cX0_coins : ByteArray := method_9_code
def yX0_coins : MethodName := ⟨RX0, "coins", "(LPollAudit;II[J)I"⟩
theorem dX0_coins_0 : decode cX0_coins 0 = .ok (.aload_n 3, 1) := by decide +kernel
theorem dX0_coins_1 : decode cX0_coins 1 = .ok (.iconst 0, 1) := by decide +kernel
theorem dX0_coins_2 : decode cX0_coins 2 = .ok (.aload_n 0, 1) := by decide +kernel
theorem dX0_coins_3 : decode cX0_coins 3 = .ok (.iload_n 1, 1) := by decide +kernel
theorem dX0_coins_4 : decode cX0_coins 4 = .ok (.iload_n 2, 1) := by decide +kernel
theorem dX0_coins_5 : decode cX0_coins 5 = .ok (.invokevirtual 38, 3) := by decide +kernel
theorem dX0_coins_8 : decode cX0_coins 8 = .ok (.i2l, 1) := by decide +kernel
theorem dX0_coins_9 : decode cX0_coins 9 = .ok (.lastore, 1) := by decide +kernel
theorem dX0_coins_10 : decode cX0_coins 10 = .ok (.goto 11, 3) := by decide +kernel
theorem dX0_coins_13 : decode cX0_coins 13 = .ok (.astore 4, 2) := by decide +kernel
theorem dX0_coins_15 : decode cX0_coins 15 = .ok (.iconst 1, 1) := by decide +kernel
theorem dX0_coins_16 : decode cX0_coins 16 = .ok (.ireturn, 1) := by decide +kernel
theorem dX0_coins_17 : decode cX0_coins 17 = .ok (.astore 4, 2) := by decide +kernel
theorem dX0_coins_19 : decode cX0_coins 19 = .ok (.iconst 2, 1) := by decide +kernel
theorem dX0_coins_20 : decode cX0_coins 20 = .ok (.ireturn, 1) := by decide +kernel
theorem dX0_coins_21 : decode cX0_coins 21 = .ok (.iconst 0, 1) := by decide +kernel
theorem dX0_coins_22 : decode cX0_coins 22 = .ok (.ireturn, 1) := by decide +kernel
abbrev cX0_start : ByteArray := method_10_code
def yX0_start : MethodName := ⟨RX0, "start", "(LPollAudit;ZZ)I"⟩
theorem dX0_start_0 : decode cX0_start 0 = .ok (.aload_n 0, 1) := by decide +kernel
theorem dX0_start_1 : decode cX0_start 1 = .ok (.iload_n 1, 1) := by decide +kernel
theorem dX0_start_2 : decode cX0_start 2 = .ok (.iload_n 2, 1) := by decide +kernel
theorem dX0_start_3 : decode cX0_start 3 = .ok (.invokevirtual 41, 3) := by decide +kernel
theorem dX0_start_6 : decode cX0_start 6 = .ok (.goto 6, 3) := by decide +kernel
theorem dX0_start_9 : decode cX0_start 9 = .ok (.astore_n 3, 1) := by decide +kernel
theorem dX0_start_10 : decode cX0_start 10 = .ok (.iconst 1, 1) := by decide +kernel
theorem dX0_start_11 : decode cX0_start 11 = .ok (.ireturn, 1) := by decide +kernel
theorem dX0_start_12 : decode cX0_start 12 = .ok (.iconst 0, 1) := by decide +kernel
theorem dX0_start_13 : decode cX0_start 13 = .ok (.ireturn, 1) := by decide +kernel
abbrev cX0_draw : ByteArray := method_11_code
def yX0_draw : MethodName := ⟨RX0, "draw", "(LPollAudit;[J)I"⟩
theorem dX0_draw_0 : decode cX0_draw 0 = .ok (.aload_n 1, 1) := by decide +kernel
theorem dX0_draw_1 : decode cX0_draw 1 = .ok (.iconst 0, 1) := by decide +kernel
theorem dX0_draw_2 : decode cX0_draw 2 = .ok (.aload_n 0, 1) := by decide +kernel
theorem dX0_draw_3 : decode cX0_draw 3 = .ok (.invokevirtual 45, 3) := by decide +kernel
theorem dX0_draw_6 : decode cX0_draw 6 = .ok (.i2l, 1) := by decide +kernel
theorem dX0_draw_7 : decode cX0_draw 7 = .ok (.lastore, 1) := by decide +kernel
theorem dX0_draw_8 : decode cX0_draw 8 = .ok (.goto 6, 3) := by decide +kernel
theorem dX0_draw_11 : decode cX0_draw 11 = .ok (.astore_n 2, 1) := by decide +kernel
theorem dX0_draw_12 : decode cX0_draw 12 = .ok (.iconst 1, 1) := by decide +kernel
theorem dX0_draw_13 : decode cX0_draw 13 = .ok (.ireturn, 1) := by decide +kernel
theorem dX0_draw_14 : decode cX0_draw 14 = .ok (.iconst 0, 1) := by decide +kernel
theorem dX0_draw_15 : decode cX0_draw 15 = .ok (.ireturn, 1) := by decide +kernel
abbrev cX0_see : ByteArray := method_12_code
def yX0_see : MethodName := ⟨RX0, "see", "(LPollAudit;I[J)I"⟩
theorem dX0_see_0 : decode cX0_see 0 = .ok (.aload_n 2, 1) := by decide +kernel
theorem dX0_see_1 : decode cX0_see 1 = .ok (.iconst 0, 1) := by decide +kernel
theorem dX0_see_2 : decode cX0_see 2 = .ok (.aload_n 0, 1) := by decide +kernel
theorem dX0_see_3 : decode cX0_see 3 = .ok (.iload_n 1, 1) := by decide +kernel
theorem dX0_see_4 : decode cX0_see 4 = .ok (.invokevirtual 49, 3) := by decide +kernel
theorem dX0_see_7 : decode cX0_see 7 = .ok (.i2l, 1) := by decide +kernel
theorem dX0_see_8 : decode cX0_see 8 = .ok (.lastore, 1) := by decide +kernel
theorem dX0_see_9 : decode cX0_see 9 = .ok (.goto 9, 3) := by decide +kernel
theorem dX0_see_12 : decode cX0_see 12 = .ok (.astore_n 3, 1) := by decide +kernel
theorem dX0_see_13 : decode cX0_see 13 = .ok (.iconst 1, 1) := by decide +kernel
theorem dX0_see_14 : decode cX0_see 14 = .ok (.ireturn, 1) := by decide +kernel
theorem dX0_see_15 : decode cX0_see 15 = .ok (.astore_n 3, 1) := by decide +kernel
theorem dX0_see_16 : decode cX0_see 16 = .ok (.iconst 2, 1) := by decide +kernel
theorem dX0_see_17 : decode cX0_see 17 = .ok (.ireturn, 1) := by decide +kernel
theorem dX0_see_18 : decode cX0_see 18 = .ok (.iconst 0, 1) := by decide +kernel
theorem dX0_see_19 : decode cX0_see 19 = .ok (.ireturn, 1) := by decide +kernel
abbrev cX0_counted : ByteArray := method_13_code
def yX0_counted : MethodName := ⟨RX0, "counted", "(LPollAudit;II[J)I"⟩
theorem dX0_counted_0 : decode cX0_counted 0 = .ok (.aload_n 3, 1) := by decide +kernel
theorem dX0_counted_1 : decode cX0_counted 1 = .ok (.iconst 0, 1) := by decide +kernel
theorem dX0_counted_2 : decode cX0_counted 2 = .ok (.aload_n 0, 1) := by decide +kernel
theorem dX0_counted_3 : decode cX0_counted 3 = .ok (.iload_n 1, 1) := by decide +kernel
theorem dX0_counted_4 : decode cX0_counted 4 = .ok (.iload_n 2, 1) := by decide +kernel
theorem dX0_counted_5 : decode cX0_counted 5 = .ok (.invokevirtual 52, 3) := by decide +kernel
theorem dX0_counted_8 : decode cX0_counted 8 = .ok (.i2l, 1) := by decide +kernel
theorem dX0_counted_9 : decode cX0_counted 9 = .ok (.lastore, 1) := by decide +kernel
theorem dX0_counted_10 : decode cX0_counted 10 = .ok (.goto 15, 3) := by decide +kernel
theorem dX0_counted_13 : decode cX0_counted 13 = .ok (.astore 4, 2) := by decide +kernel
theorem dX0_counted_15 : decode cX0_counted 15 = .ok (.iconst 1, 1) := by decide +kernel
theorem dX0_counted_16 : decode cX0_counted 16 = .ok (.ireturn, 1) := by decide +kernel
theorem dX0_counted_17 : decode cX0_counted 17 = .ok (.astore 4, 2) := by decide +kernel
theorem dX0_counted_19 : decode cX0_counted 19 = .ok (.iconst 2, 1) := by decide +kernel
theorem dX0_counted_20 : decode cX0_counted 20 = .ok (.ireturn, 1) := by decide +kernel
theorem dX0_counted_21 : decode cX0_counted 21 = .ok (.astore 4, 2) := by decide +kernel
theorem dX0_counted_23 : decode cX0_counted 23 = .ok (.iconst 3, 1) := by decide +kernel
theorem dX0_counted_24 : decode cX0_counted 24 = .ok (.ireturn, 1) := by decide +kernel
theorem dX0_counted_25 : decode cX0_counted 25 = .ok (.iconst 0, 1) := by decide +kernel
theorem dX0_counted_26 : decode cX0_counted 26 = .ok (.ireturn, 1) := by decide +kernel
abbrev cX0_told : ByteArray := method_14_code
def yX0_told : MethodName := ⟨RX0, "told", "(LPollAudit;I[J)I"⟩
theorem dX0_told_0 : decode cX0_told 0 = .ok (.aload_n 2, 1) := by decide +kernel
theorem dX0_told_1 : decode cX0_told 1 = .ok (.iconst 0, 1) := by decide +kernel
theorem dX0_told_2 : decode cX0_told 2 = .ok (.aload_n 0, 1) := by decide +kernel
theorem dX0_told_3 : decode cX0_told 3 = .ok (.iload_n 1, 1) := by decide +kernel
theorem dX0_told_4 : decode cX0_told 4 = .ok (.invokevirtual 55, 3) := by decide +kernel
theorem dX0_told_7 : decode cX0_told 7 = .ok (.i2l, 1) := by decide +kernel
theorem dX0_told_8 : decode cX0_told 8 = .ok (.lastore, 1) := by decide +kernel
theorem dX0_told_9 : decode cX0_told 9 = .ok (.goto 6, 3) := by decide +kernel
theorem dX0_told_12 : decode cX0_told 12 = .ok (.astore_n 3, 1) := by decide +kernel
theorem dX0_told_13 : decode cX0_told 13 = .ok (.iconst 1, 1) := by decide +kernel
theorem dX0_told_14 : decode cX0_told 14 = .ok (.ireturn, 1) := by decide +kernel
theorem dX0_told_15 : decode cX0_told 15 = .ok (.iconst 0, 1) := by decide +kernel
theorem dX0_told_16 : decode cX0_told 16 = .ok (.ireturn, 1) := by decide +kernel
abbrev cX0_of : ByteArray := method_15_code
def yX0_of : MethodName := ⟨RX0, "of", "(LPollAudit;II[J)I"⟩
theorem dX0_of_0 : decode cX0_of 0 = .ok (.aload_n 3, 1) := by decide +kernel
theorem dX0_of_1 : decode cX0_of 1 = .ok (.iconst 0, 1) := by decide +kernel
theorem dX0_of_2 : decode cX0_of 2 = .ok (.aload_n 0, 1) := by decide +kernel
theorem dX0_of_3 : decode cX0_of 3 = .ok (.iload_n 1, 1) := by decide +kernel
theorem dX0_of_4 : decode cX0_of 4 = .ok (.iload_n 2, 1) := by decide +kernel
theorem dX0_of_5 : decode cX0_of 5 = .ok (.invokevirtual 58, 3) := by decide +kernel
theorem dX0_of_8 : decode cX0_of 8 = .ok (.i2l, 1) := by decide +kernel
theorem dX0_of_9 : decode cX0_of 9 = .ok (.lastore, 1) := by decide +kernel
theorem dX0_of_10 : decode cX0_of 10 = .ok (.goto 7, 3) := by decide +kernel
theorem dX0_of_13 : decode cX0_of 13 = .ok (.astore 4, 2) := by decide +kernel
theorem dX0_of_15 : decode cX0_of 15 = .ok (.iconst 1, 1) := by decide +kernel
theorem dX0_of_16 : decode cX0_of 16 = .ok (.ireturn, 1) := by decide +kernel
theorem dX0_of_17 : decode cX0_of 17 = .ok (.iconst 0, 1) := by decide +kernel
theorem dX0_of_18 : decode cX0_of 18 = .ok (.ireturn, 1) := by decide +kernel
abbrev cX0_pair : ByteArray := method_16_code
def yX0_pair : MethodName := ⟨RX0, "pair", "(LPollAudit;II[J)I"⟩
theorem dX0_pair_0 : decode cX0_pair 0 = .ok (.aload_n 3, 1) := by decide +kernel
theorem dX0_pair_1 : decode cX0_pair 1 = .ok (.iconst 0, 1) := by decide +kernel
theorem dX0_pair_2 : decode cX0_pair 2 = .ok (.aload_n 0, 1) := by decide +kernel
theorem dX0_pair_3 : decode cX0_pair 3 = .ok (.iload_n 1, 1) := by decide +kernel
theorem dX0_pair_4 : decode cX0_pair 4 = .ok (.iload_n 2, 1) := by decide +kernel
theorem dX0_pair_5 : decode cX0_pair 5 = .ok (.invokevirtual 61, 3) := by decide +kernel
theorem dX0_pair_8 : decode cX0_pair 8 = .ok (.i2l, 1) := by decide +kernel
theorem dX0_pair_9 : decode cX0_pair 9 = .ok (.lastore, 1) := by decide +kernel
theorem dX0_pair_10 : decode cX0_pair 10 = .ok (.goto 7, 3) := by decide +kernel
theorem dX0_pair_13 : decode cX0_pair 13 = .ok (.astore 4, 2) := by decide +kernel
theorem dX0_pair_15 : decode cX0_pair 15 = .ok (.iconst 1, 1) := by decide +kernel
theorem dX0_pair_16 : decode cX0_pair 16 = .ok (.ireturn, 1) := by decide +kernel
theorem dX0_pair_17 : decode cX0_pair 17 = .ok (.iconst 0, 1) := by decide +kernel
theorem dX0_pair_18 : decode cX0_pair 18 = .ok (.ireturn, 1) := by decide +kernel
abbrev cX0_ballot : ByteArray := method_17_code
def yX0_ballot : MethodName := ⟨RX0, "ballot", "(LPollAudit;II[J)I"⟩
theorem dX0_ballot_0 : decode cX0_ballot 0 = .ok (.aload_n 3, 1) := by decide +kernel
theorem dX0_ballot_1 : decode cX0_ballot 1 = .ok (.iconst 0, 1) := by decide +kernel
theorem dX0_ballot_2 : decode cX0_ballot 2 = .ok (.aload_n 0, 1) := by decide +kernel
theorem dX0_ballot_3 : decode cX0_ballot 3 = .ok (.iload_n 1, 1) := by decide +kernel
theorem dX0_ballot_4 : decode cX0_ballot 4 = .ok (.iload_n 2, 1) := by decide +kernel
theorem dX0_ballot_5 : decode cX0_ballot 5 = .ok (.invokevirtual 64, 3) := by decide +kernel
theorem dX0_ballot_8 : decode cX0_ballot 8 = .ok (.i2l, 1) := by decide +kernel
theorem dX0_ballot_9 : decode cX0_ballot 9 = .ok (.lastore, 1) := by decide +kernel
theorem dX0_ballot_10 : decode cX0_ballot 10 = .ok (.goto 7, 3) := by decide +kernel
theorem dX0_ballot_13 : decode cX0_ballot 13 = .ok (.astore 4, 2) := by decide +kernel
theorem dX0_ballot_15 : decode cX0_ballot 15 = .ok (.iconst 1, 1) := by decide +kernel
theorem dX0_ballot_16 : decode cX0_ballot 16 = .ok (.ireturn, 1) := by decide +kernel
theorem dX0_ballot_17 : decode cX0_ballot 17 = .ok (.iconst 0, 1) := by decide +kernel
theorem dX0_ballot_18 : decode cX0_ballot 18 = .ok (.ireturn, 1) := by decide +kernel
abbrev cX0_digest : ByteArray := method_18_code
def yX0_digest : MethodName := ⟨RX0, "digest", "(LPollAudit;II[J)I"⟩
theorem dX0_digest_0 : decode cX0_digest 0 = .ok (.aload_n 3, 1) := by decide +kernel
theorem dX0_digest_1 : decode cX0_digest 1 = .ok (.iconst 0, 1) := by decide +kernel
theorem dX0_digest_2 : decode cX0_digest 2 = .ok (.aload_n 0, 1) := by decide +kernel
theorem dX0_digest_3 : decode cX0_digest 3 = .ok (.iload_n 1, 1) := by decide +kernel
theorem dX0_digest_4 : decode cX0_digest 4 = .ok (.iload_n 2, 1) := by decide +kernel
theorem dX0_digest_5 : decode cX0_digest 5 = .ok (.invokevirtual 67, 3) := by decide +kernel
theorem dX0_digest_8 : decode cX0_digest 8 = .ok (.i2l, 1) := by decide +kernel
theorem dX0_digest_9 : decode cX0_digest 9 = .ok (.lastore, 1) := by decide +kernel
theorem dX0_digest_10 : decode cX0_digest 10 = .ok (.goto 11, 3) := by decide +kernel
theorem dX0_digest_13 : decode cX0_digest 13 = .ok (.astore 4, 2) := by decide +kernel
theorem dX0_digest_15 : decode cX0_digest 15 = .ok (.iconst 1, 1) := by decide +kernel
theorem dX0_digest_16 : decode cX0_digest 16 = .ok (.ireturn, 1) := by decide +kernel
theorem dX0_digest_17 : decode cX0_digest 17 = .ok (.astore 4, 2) := by decide +kernel
theorem dX0_digest_19 : decode cX0_digest 19 = .ok (.iconst 2, 1) := by decide +kernel
theorem dX0_digest_20 : decode cX0_digest 20 = .ok (.ireturn, 1) := by decide +kernel
theorem dX0_digest_21 : decode cX0_digest 21 = .ok (.iconst 0, 1) := by decide +kernel
theorem dX0_digest_22 : decode cX0_digest 22 = .ok (.ireturn, 1) := by decide +kernel
abbrev cX0_risk : ByteArray := method_19_code
def yX0_risk : MethodName := ⟨RX0, "risk", "(LPollAudit;IIIII[J)I"⟩
theorem dX0_risk_0 : decode cX0_risk 0 = .ok (.aload 6, 2) := by decide +kernel
theorem dX0_risk_2 : decode cX0_risk 2 = .ok (.iconst 0, 1) := by decide +kernel
theorem dX0_risk_3 : decode cX0_risk 3 = .ok (.aload_n 0, 1) := by decide +kernel
theorem dX0_risk_4 : decode cX0_risk 4 = .ok (.iload_n 1, 1) := by decide +kernel
theorem dX0_risk_5 : decode cX0_risk 5 = .ok (.iload_n 2, 1) := by decide +kernel
theorem dX0_risk_6 : decode cX0_risk 6 = .ok (.iload_n 3, 1) := by decide +kernel
theorem dX0_risk_7 : decode cX0_risk 7 = .ok (.iload 4, 2) := by decide +kernel
theorem dX0_risk_9 : decode cX0_risk 9 = .ok (.iload 5, 2) := by decide +kernel
theorem dX0_risk_11 : decode cX0_risk 11 = .ok (.invokevirtual 70, 3) := by decide +kernel
theorem dX0_risk_14 : decode cX0_risk 14 = .ok (.i2l, 1) := by decide +kernel
theorem dX0_risk_15 : decode cX0_risk 15 = .ok (.lastore, 1) := by decide +kernel
theorem dX0_risk_16 : decode cX0_risk 16 = .ok (.goto 15, 3) := by decide +kernel
theorem dX0_risk_19 : decode cX0_risk 19 = .ok (.astore 7, 2) := by decide +kernel
theorem dX0_risk_21 : decode cX0_risk 21 = .ok (.iconst 1, 1) := by decide +kernel
theorem dX0_risk_22 : decode cX0_risk 22 = .ok (.ireturn, 1) := by decide +kernel
theorem dX0_risk_23 : decode cX0_risk 23 = .ok (.astore 7, 2) := by decide +kernel
theorem dX0_risk_25 : decode cX0_risk 25 = .ok (.iconst 2, 1) := by decide +kernel
theorem dX0_risk_26 : decode cX0_risk 26 = .ok (.ireturn, 1) := by decide +kernel
theorem dX0_risk_27 : decode cX0_risk 27 = .ok (.astore 7, 2) := by decide +kernel
theorem dX0_risk_29 : decode cX0_risk 29 = .ok (.iconst 3, 1) := by decide +kernel
theorem dX0_risk_30 : decode cX0_risk 30 = .ok (.ireturn, 1) := by decide +kernel
theorem dX0_risk_31 : decode cX0_risk 31 = .ok (.iconst 0, 1) := by decide +kernel
theorem dX0_risk_32 : decode cX0_risk 32 = .ok (.ireturn, 1) := by decide +kernel
abbrev cX0_show : ByteArray := method_20_code
def yX0_show : MethodName := ⟨RX0, "show", "(LPollAudit;II[J)I"⟩
theorem dX0_show_0 : decode cX0_show 0 = .ok (.aload_n 3, 1) := by decide +kernel
theorem dX0_show_1 : decode cX0_show 1 = .ok (.iconst 0, 1) := by decide +kernel
theorem dX0_show_2 : decode cX0_show 2 = .ok (.aload_n 0, 1) := by decide +kernel
theorem dX0_show_3 : decode cX0_show 3 = .ok (.iload_n 1, 1) := by decide +kernel
theorem dX0_show_4 : decode cX0_show 4 = .ok (.iload_n 2, 1) := by decide +kernel
theorem dX0_show_5 : decode cX0_show 5 = .ok (.invokevirtual 74, 3) := by decide +kernel
theorem dX0_show_8 : decode cX0_show 8 = .ok (.ifCond .eq 7, 3) := by decide +kernel
theorem dX0_show_11 : decode cX0_show 11 = .ok (.lconst 1, 1) := by decide +kernel
theorem dX0_show_12 : decode cX0_show 12 = .ok (.goto 4, 3) := by decide +kernel
theorem dX0_show_15 : decode cX0_show 15 = .ok (.lconst 0, 1) := by decide +kernel
theorem dX0_show_16 : decode cX0_show 16 = .ok (.lastore, 1) := by decide +kernel
theorem dX0_show_17 : decode cX0_show 17 = .ok (.goto 11, 3) := by decide +kernel
theorem dX0_show_20 : decode cX0_show 20 = .ok (.astore 4, 2) := by decide +kernel
theorem dX0_show_22 : decode cX0_show 22 = .ok (.iconst 1, 1) := by decide +kernel
theorem dX0_show_23 : decode cX0_show 23 = .ok (.ireturn, 1) := by decide +kernel
theorem dX0_show_24 : decode cX0_show 24 = .ok (.astore 4, 2) := by decide +kernel
theorem dX0_show_26 : decode cX0_show 26 = .ok (.iconst 2, 1) := by decide +kernel
theorem dX0_show_27 : decode cX0_show 27 = .ok (.ireturn, 1) := by decide +kernel
theorem dX0_show_28 : decode cX0_show 28 = .ok (.iconst 0, 1) := by decide +kernel
theorem dX0_show_29 : decode cX0_show 29 = .ok (.ireturn, 1) := by decide +kernel
abbrev cX0_size : ByteArray := method_21_code
def yX0_size : MethodName := ⟨RX0, "size", "(LPollAudit;I[J)I"⟩
theorem dX0_size_0 : decode cX0_size 0 = .ok (.aload_n 2, 1) := by decide +kernel
theorem dX0_size_1 : decode cX0_size 1 = .ok (.iconst 0, 1) := by decide +kernel
theorem dX0_size_2 : decode cX0_size 2 = .ok (.aload_n 0, 1) := by decide +kernel
theorem dX0_size_3 : decode cX0_size 3 = .ok (.iload_n 1, 1) := by decide +kernel
theorem dX0_size_4 : decode cX0_size 4 = .ok (.invokevirtual 78, 3) := by decide +kernel
theorem dX0_size_7 : decode cX0_size 7 = .ok (.i2l, 1) := by decide +kernel
theorem dX0_size_8 : decode cX0_size 8 = .ok (.lastore, 1) := by decide +kernel
theorem dX0_size_9 : decode cX0_size 9 = .ok (.goto 6, 3) := by decide +kernel
theorem dX0_size_12 : decode cX0_size 12 = .ok (.astore_n 3, 1) := by decide +kernel
theorem dX0_size_13 : decode cX0_size 13 = .ok (.iconst 1, 1) := by decide +kernel
theorem dX0_size_14 : decode cX0_size 14 = .ok (.ireturn, 1) := by decide +kernel
theorem dX0_size_15 : decode cX0_size 15 = .ok (.iconst 0, 1) := by decide +kernel
theorem dX0_size_16 : decode cX0_size 16 = .ok (.ireturn, 1) := by decide +kernel
abbrev cX0_limb : ByteArray := method_22_code
def yX0_limb : MethodName := ⟨RX0, "limb", "(LPollAudit;II[J)I"⟩
theorem dX0_limb_0 : decode cX0_limb 0 = .ok (.aload_n 3, 1) := by decide +kernel
theorem dX0_limb_1 : decode cX0_limb 1 = .ok (.iconst 0, 1) := by decide +kernel
theorem dX0_limb_2 : decode cX0_limb 2 = .ok (.aload_n 0, 1) := by decide +kernel
theorem dX0_limb_3 : decode cX0_limb 3 = .ok (.iload_n 1, 1) := by decide +kernel
theorem dX0_limb_4 : decode cX0_limb 4 = .ok (.iload_n 2, 1) := by decide +kernel
theorem dX0_limb_5 : decode cX0_limb 5 = .ok (.invokevirtual 81, 3) := by decide +kernel
theorem dX0_limb_8 : decode cX0_limb 8 = .ok (.i2l, 1) := by decide +kernel
theorem dX0_limb_9 : decode cX0_limb 9 = .ok (.lastore, 1) := by decide +kernel
theorem dX0_limb_10 : decode cX0_limb 10 = .ok (.goto 7, 3) := by decide +kernel
theorem dX0_limb_13 : decode cX0_limb 13 = .ok (.astore 4, 2) := by decide +kernel
theorem dX0_limb_15 : decode cX0_limb 15 = .ok (.iconst 1, 1) := by decide +kernel
theorem dX0_limb_16 : decode cX0_limb 16 = .ok (.ireturn, 1) := by decide +kernel
theorem dX0_limb_17 : decode cX0_limb 17 = .ok (.iconst 0, 1) := by decide +kernel
theorem dX0_limb_18 : decode cX0_limb 18 = .ok (.ireturn, 1) := by decide +kernel
theorem q52 : (Jvm.Cond.initialized "PollAuditLaw") ∈ lw_all := lw_g (lw_at lw_m1 0 rfl) rfl
theorem q76 : (Jvm.Cond.classLink "PollAuditLaw" (8 : Nat) "PollAudit") ∈ lw_all := lw_g (lw_at lw_m1 24 rfl) rfl
theorem q78 : (Jvm.Cond.methodLink "PollAuditLaw" (84 : Nat) ({ cls := "PollAudit", name := "<init>", desc := "()V" } : Jvm.MethodName)) ∈ lw_all := lw_g (lw_at lw_m1 26 rfl) rfl
theorem q426 : (Jvm.Cond.methodLink "PollAuditLaw" (131 : Nat) ({ cls := "PollAudit", name := "again", desc := "()V" } : Jvm.MethodName)) ∈ lw_all := lw_g (lw_at lw_m2 134 rfl) rfl
theorem q430 : (Jvm.Cond.methodLink "PollAuditLaw" (88 : Nat) ({ cls := "PollAuditLaw", name := "candidate", desc := "(LPollAudit;I[J)I" } : Jvm.MethodName)) ∈ lw_all := lw_g (lw_at lw_m2 138 rfl) rfl
theorem q431 : (Jvm.Cond.static ({ cls := "PollAuditLaw", name := "candidate", desc := "(LPollAudit;I[J)I" } : Jvm.MethodName)) ∈ lw_all := lw_g (lw_at lw_m2 139 rfl) rfl
theorem q432 : (Jvm.Cond.codeWith ({ cls := "PollAuditLaw", name := "candidate", desc := "(LPollAudit;I[J)I" } : Jvm.MethodName) method_3_code (4 : Nat) (Option.some Jvm.ClassFile.FieldType.int) [((0 : Nat), (9 : Nat), (12 : Nat), (13 : Nat)), ((0 : Nat), (9 : Nat), (15 : Nat), (15 : Nat)), ((0 : Nat), (9 : Nat), (18 : Nat), (17 : Nat))]) ∈ lw_all := lw_g (lw_at lw_m2 140 rfl) rfl
theorem q433 : (Jvm.Cond.classLink "PollAuditLaw" (13 : Nat) "java/lang/IllegalArgumentException") ∈ lw_all := lw_g (lw_at lw_m2 141 rfl) rfl
theorem q434 : (Jvm.Cond.classLink "PollAuditLaw" (15 : Nat) "java/lang/IllegalStateException") ∈ lw_all := lw_g (lw_at lw_m2 142 rfl) rfl
theorem q435 : (Jvm.Cond.classLink "PollAuditLaw" (17 : Nat) "java/lang/UnsupportedOperationException") ∈ lw_all := lw_g (lw_at lw_m2 143 rfl) rfl
theorem q436 : (Jvm.Cond.methodLink "PollAuditLaw" (7 : Nat) ({ cls := "PollAudit", name := "candidate", desc := "(I)I" } : Jvm.MethodName)) ∈ lw_all := lw_g (lw_at lw_m2 144 rfl) rfl
theorem q555 : (Jvm.Cond.methodLink "PollAuditLaw" (97 : Nat) ({ cls := "PollAuditLaw", name := "batch", desc := "(LPollAudit;I[J)I" } : Jvm.MethodName)) ∈ lw_all := lw_g (lw_at lw_m3 23 rfl) rfl
theorem q556 : (Jvm.Cond.static ({ cls := "PollAuditLaw", name := "batch", desc := "(LPollAudit;I[J)I" } : Jvm.MethodName)) ∈ lw_all := lw_g (lw_at lw_m3 24 rfl) rfl
theorem q557 : (Jvm.Cond.codeWith ({ cls := "PollAuditLaw", name := "batch", desc := "(LPollAudit;I[J)I" } : Jvm.MethodName) method_4_code (4 : Nat) (Option.some Jvm.ClassFile.FieldType.int) [((0 : Nat), (9 : Nat), (12 : Nat), (13 : Nat)), ((0 : Nat), (9 : Nat), (15 : Nat), (15 : Nat)), ((0 : Nat), (9 : Nat), (18 : Nat), (17 : Nat))]) ∈ lw_all := lw_g (lw_at lw_m3 25 rfl) rfl
theorem q558 : (Jvm.Cond.methodLink "PollAuditLaw" (19 : Nat) ({ cls := "PollAudit", name := "batch", desc := "(I)I" } : Jvm.MethodName)) ∈ lw_all := lw_g (lw_at lw_m3 26 rfl) rfl
theorem q562 : (Jvm.Cond.methodLink "PollAuditLaw" (100 : Nat) ({ cls := "PollAuditLaw", name := "set", desc := "(LPollAudit;II[J)I" } : Jvm.MethodName)) ∈ lw_all := lw_g (lw_at lw_m3 30 rfl) rfl
theorem q563 : (Jvm.Cond.static ({ cls := "PollAuditLaw", name := "set", desc := "(LPollAudit;II[J)I" } : Jvm.MethodName)) ∈ lw_all := lw_g (lw_at lw_m3 31 rfl) rfl
theorem q564 : (Jvm.Cond.codeWith ({ cls := "PollAuditLaw", name := "set", desc := "(LPollAudit;II[J)I" } : Jvm.MethodName) method_5_code (5 : Nat) (Option.some Jvm.ClassFile.FieldType.int) [((0 : Nat), (10 : Nat), (13 : Nat), (26 : Nat)), ((0 : Nat), (10 : Nat), (17 : Nat), (13 : Nat)), ((0 : Nat), (10 : Nat), (21 : Nat), (15 : Nat))]) ∈ lw_all := lw_g (lw_at lw_m3 32 rfl) rfl
theorem q565 : (Jvm.Cond.classLink "PollAuditLaw" (26 : Nat) "java/lang/IndexOutOfBoundsException") ∈ lw_all := lw_g (lw_at lw_m3 33 rfl) rfl
theorem q589 : (Jvm.Cond.methodLink "PollAuditLaw" (22 : Nat) ({ cls := "PollAudit", name := "set", desc := "(II)I" } : Jvm.MethodName)) ∈ lw_all := lw_g (lw_at lw_m3 57 rfl) rfl
theorem q617 : (Jvm.Cond.methodLink "PollAuditLaw" (104 : Nat) ({ cls := "PollAuditLaw", name := "fraction", desc := "(LPollAudit;III)I" } : Jvm.MethodName)) ∈ lw_all := lw_g (lw_at lw_m3 85 rfl) rfl
theorem q618 : (Jvm.Cond.static ({ cls := "PollAuditLaw", name := "fraction", desc := "(LPollAudit;III)I" } : Jvm.MethodName)) ∈ lw_all := lw_g (lw_at lw_m3 86 rfl) rfl
theorem q619 : (Jvm.Cond.codeWith ({ cls := "PollAuditLaw", name := "fraction", desc := "(LPollAudit;III)I" } : Jvm.MethodName) method_6_code (5 : Nat) (Option.some Jvm.ClassFile.FieldType.int) [((0 : Nat), (7 : Nat), (10 : Nat), (26 : Nat)), ((0 : Nat), (7 : Nat), (14 : Nat), (13 : Nat)), ((0 : Nat), (7 : Nat), (18 : Nat), (15 : Nat))]) ∈ lw_all := lw_g (lw_at lw_m3 87 rfl) rfl
theorem q620 : (Jvm.Cond.methodLink "PollAuditLaw" (28 : Nat) ({ cls := "PollAudit", name := "fraction", desc := "(III)V" } : Jvm.MethodName)) ∈ lw_all := lw_g (lw_at lw_m3 88 rfl) rfl
theorem q624 : (Jvm.Cond.methodLink "PollAuditLaw" (108 : Nat) ({ cls := "PollAuditLaw", name := "record", desc := "(LPollAudit;III)I" } : Jvm.MethodName)) ∈ lw_all := lw_g (lw_at lw_m3 92 rfl) rfl
theorem q625 : (Jvm.Cond.static ({ cls := "PollAuditLaw", name := "record", desc := "(LPollAudit;III)I" } : Jvm.MethodName)) ∈ lw_all := lw_g (lw_at lw_m3 93 rfl) rfl
theorem q626 : (Jvm.Cond.codeWith ({ cls := "PollAuditLaw", name := "record", desc := "(LPollAudit;III)I" } : Jvm.MethodName) method_7_code (5 : Nat) (Option.some Jvm.ClassFile.FieldType.int) [((0 : Nat), (7 : Nat), (10 : Nat), (26 : Nat)), ((0 : Nat), (7 : Nat), (14 : Nat), (15 : Nat))]) ∈ lw_all := lw_g (lw_at lw_m3 94 rfl) rfl
theorem q627 : (Jvm.Cond.methodLink "PollAuditLaw" (32 : Nat) ({ cls := "PollAudit", name := "record", desc := "(III)V" } : Jvm.MethodName)) ∈ lw_all := lw_g (lw_at lw_m3 95 rfl) rfl
theorem q635 : (Jvm.Cond.methodLink "PollAuditLaw" (111 : Nat) ({ cls := "PollAuditLaw", name := "digit", desc := "(LPollAudit;I[J)I" } : Jvm.MethodName)) ∈ lw_all := lw_g (lw_at lw_m3 103 rfl) rfl
theorem q636 : (Jvm.Cond.static ({ cls := "PollAuditLaw", name := "digit", desc := "(LPollAudit;I[J)I" } : Jvm.MethodName)) ∈ lw_all := lw_g (lw_at lw_m3 104 rfl) rfl
theorem q637 : (Jvm.Cond.codeWith ({ cls := "PollAuditLaw", name := "digit", desc := "(LPollAudit;I[J)I" } : Jvm.MethodName) method_8_code (4 : Nat) (Option.some Jvm.ClassFile.FieldType.int) [((0 : Nat), (9 : Nat), (12 : Nat), (13 : Nat)), ((0 : Nat), (9 : Nat), (15 : Nat), (15 : Nat)), ((0 : Nat), (9 : Nat), (18 : Nat), (17 : Nat))]) ∈ lw_all := lw_g (lw_at lw_m3 105 rfl) rfl
theorem q638 : (Jvm.Cond.methodLink "PollAuditLaw" (35 : Nat) ({ cls := "PollAudit", name := "digit", desc := "(I)I" } : Jvm.MethodName)) ∈ lw_all := lw_g (lw_at lw_m3 106 rfl) rfl
theorem q642 : (Jvm.Cond.methodLink "PollAuditLaw" (114 : Nat) ({ cls := "PollAuditLaw", name := "coins", desc := "(LPollAudit;II[J)I" } : Jvm.MethodName)) ∈ lw_all := lw_g (lw_at lw_m3 110 rfl) rfl
theorem q643 : (Jvm.Cond.static ({ cls := "PollAuditLaw", name := "coins", desc := "(LPollAudit;II[J)I" } : Jvm.MethodName)) ∈ lw_all := lw_g (lw_at lw_m3 111 rfl) rfl
theorem q644 : (Jvm.Cond.codeWith ({ cls := "PollAuditLaw", name := "coins", desc := "(LPollAudit;II[J)I" } : Jvm.MethodName) method_9_code (5 : Nat) (Option.some Jvm.ClassFile.FieldType.int) [((0 : Nat), (10 : Nat), (13 : Nat), (13 : Nat)), ((0 : Nat), (10 : Nat), (17 : Nat), (17 : Nat))]) ∈ lw_all := lw_g (lw_at lw_m3 112 rfl) rfl
theorem q645 : (Jvm.Cond.methodLink "PollAuditLaw" (38 : Nat) ({ cls := "PollAudit", name := "coins", desc := "(II)I" } : Jvm.MethodName)) ∈ lw_all := lw_g (lw_at lw_m3 113 rfl) rfl
theorem q653 : (Jvm.Cond.methodLink "PollAuditLaw" (117 : Nat) ({ cls := "PollAuditLaw", name := "start", desc := "(LPollAudit;ZZ)I" } : Jvm.MethodName)) ∈ lw_all := lw_g (lw_at lw_m3 121 rfl) rfl
theorem q654 : (Jvm.Cond.static ({ cls := "PollAuditLaw", name := "start", desc := "(LPollAudit;ZZ)I" } : Jvm.MethodName)) ∈ lw_all := lw_g (lw_at lw_m3 122 rfl) rfl
theorem q655 : (Jvm.Cond.codeWith ({ cls := "PollAuditLaw", name := "start", desc := "(LPollAudit;ZZ)I" } : Jvm.MethodName) method_10_code (4 : Nat) (Option.some Jvm.ClassFile.FieldType.int) [((0 : Nat), (6 : Nat), (9 : Nat), (15 : Nat))]) ∈ lw_all := lw_g (lw_at lw_m3 123 rfl) rfl
theorem q656 : (Jvm.Cond.methodLink "PollAuditLaw" (41 : Nat) ({ cls := "PollAudit", name := "start", desc := "(ZZ)V" } : Jvm.MethodName)) ∈ lw_all := lw_g (lw_at lw_m3 124 rfl) rfl
theorem q682 : (Jvm.Cond.methodLink "PollAuditLaw" (121 : Nat) ({ cls := "PollAuditLaw", name := "draw", desc := "(LPollAudit;[J)I" } : Jvm.MethodName)) ∈ lw_all := lw_g (lw_at lw_m3 150 rfl) rfl
theorem q683 : (Jvm.Cond.static ({ cls := "PollAuditLaw", name := "draw", desc := "(LPollAudit;[J)I" } : Jvm.MethodName)) ∈ lw_all := lw_g (lw_at lw_m3 151 rfl) rfl
theorem q684 : (Jvm.Cond.codeWith ({ cls := "PollAuditLaw", name := "draw", desc := "(LPollAudit;[J)I" } : Jvm.MethodName) method_11_code (3 : Nat) (Option.some Jvm.ClassFile.FieldType.int) [((0 : Nat), (8 : Nat), (11 : Nat), (15 : Nat))]) ∈ lw_all := lw_g (lw_at lw_m3 152 rfl) rfl
theorem q685 : (Jvm.Cond.methodLink "PollAuditLaw" (45 : Nat) ({ cls := "PollAudit", name := "draw", desc := "()I" } : Jvm.MethodName)) ∈ lw_all := lw_g (lw_at lw_m3 153 rfl) rfl
theorem q829 : (Jvm.Cond.methodLink "PollAuditLaw" (125 : Nat) ({ cls := "PollAuditLaw", name := "see", desc := "(LPollAudit;I[J)I" } : Jvm.MethodName)) ∈ lw_all := lw_g (lw_at lw_m4 57 rfl) rfl
theorem q830 : (Jvm.Cond.static ({ cls := "PollAuditLaw", name := "see", desc := "(LPollAudit;I[J)I" } : Jvm.MethodName)) ∈ lw_all := lw_g (lw_at lw_m4 58 rfl) rfl
theorem q831 : (Jvm.Cond.codeWith ({ cls := "PollAuditLaw", name := "see", desc := "(LPollAudit;I[J)I" } : Jvm.MethodName) method_12_code (4 : Nat) (Option.some Jvm.ClassFile.FieldType.int) [((0 : Nat), (9 : Nat), (12 : Nat), (26 : Nat)), ((0 : Nat), (9 : Nat), (15 : Nat), (15 : Nat))]) ∈ lw_all := lw_g (lw_at lw_m4 59 rfl) rfl
theorem q832 : (Jvm.Cond.methodLink "PollAuditLaw" (49 : Nat) ({ cls := "PollAudit", name := "see", desc := "(I)I" } : Jvm.MethodName)) ∈ lw_all := lw_g (lw_at lw_m4 60 rfl) rfl
theorem q836 : (Jvm.Cond.methodLink "PollAuditLaw" (128 : Nat) ({ cls := "PollAuditLaw", name := "counted", desc := "(LPollAudit;II[J)I" } : Jvm.MethodName)) ∈ lw_all := lw_g (lw_at lw_m4 64 rfl) rfl
theorem q837 : (Jvm.Cond.static ({ cls := "PollAuditLaw", name := "counted", desc := "(LPollAudit;II[J)I" } : Jvm.MethodName)) ∈ lw_all := lw_g (lw_at lw_m4 65 rfl) rfl
theorem q838 : (Jvm.Cond.codeWith ({ cls := "PollAuditLaw", name := "counted", desc := "(LPollAudit;II[J)I" } : Jvm.MethodName) method_13_code (5 : Nat) (Option.some Jvm.ClassFile.FieldType.int) [((0 : Nat), (10 : Nat), (13 : Nat), (26 : Nat)), ((0 : Nat), (10 : Nat), (17 : Nat), (13 : Nat)), ((0 : Nat), (10 : Nat), (21 : Nat), (15 : Nat))]) ∈ lw_all := lw_g (lw_at lw_m4 66 rfl) rfl
theorem q839 : (Jvm.Cond.methodLink "PollAuditLaw" (52 : Nat) ({ cls := "PollAudit", name := "counted", desc := "(II)I" } : Jvm.MethodName)) ∈ lw_all := lw_g (lw_at lw_m4 67 rfl) rfl
theorem q843 : (Jvm.Cond.methodLink "PollAuditLaw" (135 : Nat) ({ cls := "PollAuditLaw", name := "told", desc := "(LPollAudit;I[J)I" } : Jvm.MethodName)) ∈ lw_all := lw_g (lw_at lw_m4 71 rfl) rfl
theorem q844 : (Jvm.Cond.static ({ cls := "PollAuditLaw", name := "told", desc := "(LPollAudit;I[J)I" } : Jvm.MethodName)) ∈ lw_all := lw_g (lw_at lw_m4 72 rfl) rfl
theorem q845 : (Jvm.Cond.codeWith ({ cls := "PollAuditLaw", name := "told", desc := "(LPollAudit;I[J)I" } : Jvm.MethodName) method_14_code (4 : Nat) (Option.some Jvm.ClassFile.FieldType.int) [((0 : Nat), (9 : Nat), (12 : Nat), (26 : Nat))]) ∈ lw_all := lw_g (lw_at lw_m4 73 rfl) rfl
theorem q846 : (Jvm.Cond.methodLink "PollAuditLaw" (55 : Nat) ({ cls := "PollAudit", name := "told", desc := "(I)I" } : Jvm.MethodName)) ∈ lw_all := lw_g (lw_at lw_m4 74 rfl) rfl
theorem q855 : (Jvm.Cond.methodLink "PollAuditLaw" (138 : Nat) ({ cls := "PollAuditLaw", name := "of", desc := "(LPollAudit;II[J)I" } : Jvm.MethodName)) ∈ lw_all := lw_g (lw_at lw_m4 83 rfl) rfl
theorem q856 : (Jvm.Cond.static ({ cls := "PollAuditLaw", name := "of", desc := "(LPollAudit;II[J)I" } : Jvm.MethodName)) ∈ lw_all := lw_g (lw_at lw_m4 84 rfl) rfl
theorem q857 : (Jvm.Cond.codeWith ({ cls := "PollAuditLaw", name := "of", desc := "(LPollAudit;II[J)I" } : Jvm.MethodName) method_15_code (5 : Nat) (Option.some Jvm.ClassFile.FieldType.int) [((0 : Nat), (10 : Nat), (13 : Nat), (26 : Nat))]) ∈ lw_all := lw_g (lw_at lw_m4 85 rfl) rfl
theorem q858 : (Jvm.Cond.methodLink "PollAuditLaw" (58 : Nat) ({ cls := "PollAudit", name := "of", desc := "(II)I" } : Jvm.MethodName)) ∈ lw_all := lw_g (lw_at lw_m4 86 rfl) rfl
theorem q862 : (Jvm.Cond.methodLink "PollAuditLaw" (141 : Nat) ({ cls := "PollAuditLaw", name := "pair", desc := "(LPollAudit;II[J)I" } : Jvm.MethodName)) ∈ lw_all := lw_g (lw_at lw_m4 90 rfl) rfl
theorem q863 : (Jvm.Cond.static ({ cls := "PollAuditLaw", name := "pair", desc := "(LPollAudit;II[J)I" } : Jvm.MethodName)) ∈ lw_all := lw_g (lw_at lw_m4 91 rfl) rfl
theorem q864 : (Jvm.Cond.codeWith ({ cls := "PollAuditLaw", name := "pair", desc := "(LPollAudit;II[J)I" } : Jvm.MethodName) method_16_code (5 : Nat) (Option.some Jvm.ClassFile.FieldType.int) [((0 : Nat), (10 : Nat), (13 : Nat), (26 : Nat))]) ∈ lw_all := lw_g (lw_at lw_m4 92 rfl) rfl
theorem q865 : (Jvm.Cond.methodLink "PollAuditLaw" (61 : Nat) ({ cls := "PollAudit", name := "pair", desc := "(II)I" } : Jvm.MethodName)) ∈ lw_all := lw_g (lw_at lw_m4 93 rfl) rfl
theorem q873 : (Jvm.Cond.methodLink "PollAuditLaw" (144 : Nat) ({ cls := "PollAuditLaw", name := "ballot", desc := "(LPollAudit;II[J)I" } : Jvm.MethodName)) ∈ lw_all := lw_g (lw_at lw_m4 101 rfl) rfl
theorem q874 : (Jvm.Cond.static ({ cls := "PollAuditLaw", name := "ballot", desc := "(LPollAudit;II[J)I" } : Jvm.MethodName)) ∈ lw_all := lw_g (lw_at lw_m4 102 rfl) rfl
theorem q875 : (Jvm.Cond.codeWith ({ cls := "PollAuditLaw", name := "ballot", desc := "(LPollAudit;II[J)I" } : Jvm.MethodName) method_17_code (5 : Nat) (Option.some Jvm.ClassFile.FieldType.int) [((0 : Nat), (10 : Nat), (13 : Nat), (26 : Nat))]) ∈ lw_all := lw_g (lw_at lw_m4 103 rfl) rfl
theorem q876 : (Jvm.Cond.methodLink "PollAuditLaw" (64 : Nat) ({ cls := "PollAudit", name := "ballot", desc := "(II)I" } : Jvm.MethodName)) ∈ lw_all := lw_g (lw_at lw_m4 104 rfl) rfl
theorem q884 : (Jvm.Cond.methodLink "PollAuditLaw" (147 : Nat) ({ cls := "PollAuditLaw", name := "digest", desc := "(LPollAudit;II[J)I" } : Jvm.MethodName)) ∈ lw_all := lw_g (lw_at lw_m4 112 rfl) rfl
theorem q885 : (Jvm.Cond.static ({ cls := "PollAuditLaw", name := "digest", desc := "(LPollAudit;II[J)I" } : Jvm.MethodName)) ∈ lw_all := lw_g (lw_at lw_m4 113 rfl) rfl
theorem q886 : (Jvm.Cond.codeWith ({ cls := "PollAuditLaw", name := "digest", desc := "(LPollAudit;II[J)I" } : Jvm.MethodName) method_18_code (5 : Nat) (Option.some Jvm.ClassFile.FieldType.int) [((0 : Nat), (10 : Nat), (13 : Nat), (26 : Nat)), ((0 : Nat), (10 : Nat), (17 : Nat), (13 : Nat))]) ∈ lw_all := lw_g (lw_at lw_m4 114 rfl) rfl
theorem q887 : (Jvm.Cond.methodLink "PollAuditLaw" (67 : Nat) ({ cls := "PollAudit", name := "digest", desc := "(II)I" } : Jvm.MethodName)) ∈ lw_all := lw_g (lw_at lw_m4 115 rfl) rfl
theorem q896 : (Jvm.Cond.methodLink "PollAuditLaw" (150 : Nat) ({ cls := "PollAuditLaw", name := "risk", desc := "(LPollAudit;IIIII[J)I" } : Jvm.MethodName)) ∈ lw_all := lw_g (lw_at lw_m4 124 rfl) rfl
theorem q897 : (Jvm.Cond.static ({ cls := "PollAuditLaw", name := "risk", desc := "(LPollAudit;IIIII[J)I" } : Jvm.MethodName)) ∈ lw_all := lw_g (lw_at lw_m4 125 rfl) rfl
theorem q898 : (Jvm.Cond.codeWith ({ cls := "PollAuditLaw", name := "risk", desc := "(LPollAudit;IIIII[J)I" } : Jvm.MethodName) method_19_code (8 : Nat) (Option.some Jvm.ClassFile.FieldType.int) [((0 : Nat), (16 : Nat), (19 : Nat), (15 : Nat)), ((0 : Nat), (16 : Nat), (23 : Nat), (26 : Nat)), ((0 : Nat), (16 : Nat), (27 : Nat), (13 : Nat))]) ∈ lw_all := lw_g (lw_at lw_m4 126 rfl) rfl
theorem q899 : (Jvm.Cond.methodLink "PollAuditLaw" (70 : Nat) ({ cls := "PollAudit", name := "risk", desc := "(IIIII)I" } : Jvm.MethodName)) ∈ lw_all := lw_g (lw_at lw_m4 127 rfl) rfl
theorem q976 : (Jvm.Cond.methodLink "PollAuditLaw" (154 : Nat) ({ cls := "PollAuditLaw", name := "show", desc := "(LPollAudit;II[J)I" } : Jvm.MethodName)) ∈ lw_all := lw_g (lw_at lw_m4 204 rfl) rfl
theorem q977 : (Jvm.Cond.static ({ cls := "PollAuditLaw", name := "show", desc := "(LPollAudit;II[J)I" } : Jvm.MethodName)) ∈ lw_all := lw_g (lw_at lw_m4 205 rfl) rfl
theorem q978 : (Jvm.Cond.codeWith ({ cls := "PollAuditLaw", name := "show", desc := "(LPollAudit;II[J)I" } : Jvm.MethodName) method_20_code (5 : Nat) (Option.some Jvm.ClassFile.FieldType.int) [((0 : Nat), (17 : Nat), (20 : Nat), (26 : Nat)), ((0 : Nat), (17 : Nat), (24 : Nat), (15 : Nat))]) ∈ lw_all := lw_g (lw_at lw_m4 206 rfl) rfl
theorem q979 : (Jvm.Cond.methodLink "PollAuditLaw" (74 : Nat) ({ cls := "PollAudit", name := "show", desc := "(II)Z" } : Jvm.MethodName)) ∈ lw_all := lw_g (lw_at lw_m4 207 rfl) rfl
theorem q984 : (Jvm.Cond.methodLink "PollAuditLaw" (157 : Nat) ({ cls := "PollAuditLaw", name := "size", desc := "(LPollAudit;I[J)I" } : Jvm.MethodName)) ∈ lw_all := lw_g (lw_at lw_m4 212 rfl) rfl
theorem q985 : (Jvm.Cond.static ({ cls := "PollAuditLaw", name := "size", desc := "(LPollAudit;I[J)I" } : Jvm.MethodName)) ∈ lw_all := lw_g (lw_at lw_m4 213 rfl) rfl
theorem q986 : (Jvm.Cond.codeWith ({ cls := "PollAuditLaw", name := "size", desc := "(LPollAudit;I[J)I" } : Jvm.MethodName) method_21_code (4 : Nat) (Option.some Jvm.ClassFile.FieldType.int) [((0 : Nat), (9 : Nat), (12 : Nat), (26 : Nat))]) ∈ lw_all := lw_g (lw_at lw_m4 214 rfl) rfl
theorem q987 : (Jvm.Cond.methodLink "PollAuditLaw" (78 : Nat) ({ cls := "PollAudit", name := "size", desc := "(I)I" } : Jvm.MethodName)) ∈ lw_all := lw_g (lw_at lw_m4 215 rfl) rfl
theorem q995 : (Jvm.Cond.methodLink "PollAuditLaw" (160 : Nat) ({ cls := "PollAuditLaw", name := "limb", desc := "(LPollAudit;II[J)I" } : Jvm.MethodName)) ∈ lw_all := lw_g (lw_at lw_m4 223 rfl) rfl
theorem q996 : (Jvm.Cond.static ({ cls := "PollAuditLaw", name := "limb", desc := "(LPollAudit;II[J)I" } : Jvm.MethodName)) ∈ lw_all := lw_g (lw_at lw_m4 224 rfl) rfl
theorem q997 : (Jvm.Cond.codeWith ({ cls := "PollAuditLaw", name := "limb", desc := "(LPollAudit;II[J)I" } : Jvm.MethodName) method_22_code (5 : Nat) (Option.some Jvm.ClassFile.FieldType.int) [((0 : Nat), (10 : Nat), (13 : Nat), (26 : Nat))]) ∈ lw_all := lw_g (lw_at lw_m4 225 rfl) rfl
theorem q998 : (Jvm.Cond.methodLink "PollAuditLaw" (81 : Nat) ({ cls := "PollAudit", name := "limb", desc := "(II)I" } : Jvm.MethodName)) ∈ lw_all := lw_g (lw_at lw_m4 226 rfl) rfl
theorem q1002 : (Jvm.Cond.methodLink "PollAuditLaw" (94 : Nat) ({ cls := "PollAuditModel", name := "thrown", desc := "()I" } : Jvm.MethodName)) ∈ lw_all := lw_g (lw_at lw_m4 230 rfl) rfl
theorem q1006 : (Jvm.Cond.classLink "PollAuditLaw" (85 : Nat) "PollAuditModel") ∈ lw_all := lw_g (lw_at lw_m4 234 rfl) rfl
theorem q1008 : (Jvm.Cond.methodLink "PollAuditLaw" (87 : Nat) ({ cls := "PollAuditModel", name := "<init>", desc := "()V" } : Jvm.MethodName)) ∈ lw_all := lw_g (lw_at lw_m4 236 rfl) rfl
theorem q1226 : (Jvm.Cond.methodLink "PollAuditLaw" (93 : Nat) ({ cls := "PollAuditModel", name := "candidate", desc := "(I)I" } : Jvm.MethodName)) ∈ lw_all := lw_g (lw_at lw_m5 214 rfl) rfl
theorem q1231 : (Jvm.Cond.methodLink "PollAuditLaw" (99 : Nat) ({ cls := "PollAuditModel", name := "batch", desc := "(I)I" } : Jvm.MethodName)) ∈ lw_all := lw_g (lw_at lw_m5 219 rfl) rfl
theorem q1235 : (Jvm.Cond.methodLink "PollAuditLaw" (103 : Nat) ({ cls := "PollAuditModel", name := "set", desc := "(II)I" } : Jvm.MethodName)) ∈ lw_all := lw_g (lw_at lw_m5 223 rfl) rfl
theorem q1239 : (Jvm.Cond.methodLink "PollAuditLaw" (107 : Nat) ({ cls := "PollAuditModel", name := "fraction", desc := "(III)V" } : Jvm.MethodName)) ∈ lw_all := lw_g (lw_at lw_m5 227 rfl) rfl
theorem q1243 : (Jvm.Cond.methodLink "PollAuditLaw" (110 : Nat) ({ cls := "PollAuditModel", name := "record", desc := "(III)V" } : Jvm.MethodName)) ∈ lw_all := lw_g (lw_at lw_m5 231 rfl) rfl
theorem q1251 : (Jvm.Cond.methodLink "PollAuditLaw" (113 : Nat) ({ cls := "PollAuditModel", name := "digit", desc := "(I)I" } : Jvm.MethodName)) ∈ lw_all := lw_g (lw_at lw_m5 239 rfl) rfl
theorem q1255 : (Jvm.Cond.methodLink "PollAuditLaw" (116 : Nat) ({ cls := "PollAuditModel", name := "coins", desc := "(II)I" } : Jvm.MethodName)) ∈ lw_all := lw_g (lw_at lw_m6 3 rfl) rfl
theorem q1259 : (Jvm.Cond.methodLink "PollAuditLaw" (120 : Nat) ({ cls := "PollAuditModel", name := "start", desc := "(ZZ)V" } : Jvm.MethodName)) ∈ lw_all := lw_g (lw_at lw_m6 7 rfl) rfl
theorem q1271 : (Jvm.Cond.methodLink "PollAuditLaw" (124 : Nat) ({ cls := "PollAuditModel", name := "draw", desc := "()I" } : Jvm.MethodName)) ∈ lw_all := lw_g (lw_at lw_m6 19 rfl) rfl
theorem q1339 : (Jvm.Cond.methodLink "PollAuditLaw" (127 : Nat) ({ cls := "PollAuditModel", name := "see", desc := "(I)I" } : Jvm.MethodName)) ∈ lw_all := lw_g (lw_at lw_m6 87 rfl) rfl
theorem q1343 : (Jvm.Cond.methodLink "PollAuditLaw" (130 : Nat) ({ cls := "PollAuditModel", name := "counted", desc := "(II)I" } : Jvm.MethodName)) ∈ lw_all := lw_g (lw_at lw_m6 91 rfl) rfl
theorem q1347 : (Jvm.Cond.methodLink "PollAuditLaw" (134 : Nat) ({ cls := "PollAuditModel", name := "again", desc := "()V" } : Jvm.MethodName)) ∈ lw_all := lw_g (lw_at lw_m6 95 rfl) rfl
theorem q1351 : (Jvm.Cond.methodLink "PollAuditLaw" (137 : Nat) ({ cls := "PollAuditModel", name := "told", desc := "(I)I" } : Jvm.MethodName)) ∈ lw_all := lw_g (lw_at lw_m6 99 rfl) rfl
theorem q1355 : (Jvm.Cond.methodLink "PollAuditLaw" (140 : Nat) ({ cls := "PollAuditModel", name := "of", desc := "(II)I" } : Jvm.MethodName)) ∈ lw_all := lw_g (lw_at lw_m6 103 rfl) rfl
theorem q1359 : (Jvm.Cond.methodLink "PollAuditLaw" (143 : Nat) ({ cls := "PollAuditModel", name := "pair", desc := "(II)I" } : Jvm.MethodName)) ∈ lw_all := lw_g (lw_at lw_m6 107 rfl) rfl
theorem q1363 : (Jvm.Cond.methodLink "PollAuditLaw" (146 : Nat) ({ cls := "PollAuditModel", name := "ballot", desc := "(II)I" } : Jvm.MethodName)) ∈ lw_all := lw_g (lw_at lw_m6 111 rfl) rfl
theorem q1367 : (Jvm.Cond.methodLink "PollAuditLaw" (149 : Nat) ({ cls := "PollAuditModel", name := "digest", desc := "(II)I" } : Jvm.MethodName)) ∈ lw_all := lw_g (lw_at lw_m6 115 rfl) rfl
theorem q1371 : (Jvm.Cond.methodLink "PollAuditLaw" (153 : Nat) ({ cls := "PollAuditModel", name := "risk", desc := "(IIIII)I" } : Jvm.MethodName)) ∈ lw_all := lw_g (lw_at lw_m6 119 rfl) rfl
theorem q1418 : (Jvm.Cond.methodLink "PollAuditLaw" (156 : Nat) ({ cls := "PollAuditModel", name := "show", desc := "(II)Z" } : Jvm.MethodName)) ∈ lw_all := lw_g (lw_at lw_m6 166 rfl) rfl
theorem q1422 : (Jvm.Cond.methodLink "PollAuditLaw" (159 : Nat) ({ cls := "PollAuditModel", name := "size", desc := "(I)I" } : Jvm.MethodName)) ∈ lw_all := lw_g (lw_at lw_m6 170 rfl) rfl
theorem q1430 : (Jvm.Cond.methodLink "PollAuditLaw" (162 : Nat) ({ cls := "PollAuditModel", name := "limb", desc := "(II)I" } : Jvm.MethodName)) ∈ lw_all := lw_g (lw_at lw_m6 178 rfl) rfl
