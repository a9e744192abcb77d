set_option maxRecDepth 100000
theorem kd_J11_compare : yJ11_compare.cls ≠ "java/lang/invoke/MethodHandle" ∧ yJ11_compare.cls ≠ "java/lang/invoke/VarHandle" ∧ (parseMethodDescriptor yJ11_compare.desc).map (fun d => d.parameters.length) = some 2 := by decide +kernel
theorem kd_J11_compareUnsigned : yJ11_compareUnsigned.cls ≠ "java/lang/invoke/MethodHandle" ∧ yJ11_compareUnsigned.cls ≠ "java/lang/invoke/VarHandle" ∧ (parseMethodDescriptor yJ11_compareUnsigned.desc).map (fun d => d.parameters.length) = some 2 := by decide +kernel
theorem kd_J11_divideUnsigned : yJ11_divideUnsigned.cls ≠ "java/lang/invoke/MethodHandle" ∧ yJ11_divideUnsigned.cls ≠ "java/lang/invoke/VarHandle" ∧ (parseMethodDescriptor yJ11_divideUnsigned.desc).map (fun d => d.parameters.length) = some 2 := by decide +kernel
theorem kd_J10_numberOfLeadingZeros : yJ10_numberOfLeadingZeros.cls ≠ "java/lang/invoke/MethodHandle" ∧ yJ10_numberOfLeadingZeros.cls ≠ "java/lang/invoke/VarHandle" ∧ (parseMethodDescriptor yJ10_numberOfLeadingZeros.desc).map (fun d => d.parameters.length) = some 1 := by decide +kernel
theorem kd_X7_shiftLeft : yX7_shiftLeft.cls = RX7 ∧ yX7_shiftLeft.cls ≠ "java/lang/invoke/MethodHandle" ∧ yX7_shiftLeft.cls ≠ "java/lang/invoke/VarHandle" ∧ (parseMethodDescriptor yX7_shiftLeft.desc).map (fun d => d.parameters.length) = some 1 := by decide +kernel
theorem kd_X7_shiftRight : yX7_shiftRight.cls = RX7 ∧ yX7_shiftRight.cls ≠ "java/lang/invoke/MethodHandle" ∧ yX7_shiftRight.cls ≠ "java/lang/invoke/VarHandle" ∧ (parseMethodDescriptor yX7_shiftRight.desc).map (fun d => d.parameters.length) = some 1 := by decide +kernel
theorem kd_X7_taken : yX7_taken.cls = RX7 ∧ yX7_taken.cls ≠ "java/lang/invoke/MethodHandle" ∧ yX7_taken.cls ≠ "java/lang/invoke/VarHandle" ∧ (parseMethodDescriptor yX7_taken.desc).map (fun d => d.parameters.length) = some 4 := by decide +kernel
theorem kd_X7_divide : yX7_divide.cls = RX7 ∧ yX7_divide.cls ≠ "java/lang/invoke/MethodHandle" ∧ yX7_divide.cls ≠ "java/lang/invoke/VarHandle" ∧ (parseMethodDescriptor yX7_divide.desc).map (fun d => d.parameters.length) = some 3 := by decide +kernel

theorem lminadd {a : Nat} (ha : a < 2 ^ 64) : (lN a + (-9223372036854775808)).toInt = (a : Int) - 9223372036854775808 := by
  have h1 : (lN a + (-9223372036854775808)).toBitVec.toNat = (a + 9223372036854775808) % 18446744073709551616 := by
    rw [Int64.toBitVec_add, BitVec.toNat_add, wb_tn ha]; rfl
  show (lN a + (-9223372036854775808)).toBitVec.toInt = _
  rw [BitVec.toInt_eq_toNat_cond, h1]
  split <;> omega
theorem lcmpU {a b : Nat} (ha : a < 2 ^ 64) (hb : b < 2 ^ 64) : (if lN a + (-9223372036854775808) < lN b + (-9223372036854775808) then (-1 : Int32) else if lN a + (-9223372036854775808) = lN b + (-9223372036854775808) then 0 else 1) = cmpN a b := by
  unfold cmpN
  have hl : lN a + (-9223372036854775808) < lN b + (-9223372036854775808) ↔ a < b := by rw [Int64.lt_iff_toInt_lt, lminadd ha, lminadd hb]; omega
  have he : lN a + (-9223372036854775808) = lN b + (-9223372036854775808) ↔ a = b := by
    constructor
    · intro h
      have := congrArg Int64.toInt h
      rw [lminadd ha, lminadd hb] at this
      omega
    · intro h; rw [h]
  simp only [hl, he]

set_option maxHeartbeats 4000000 in
theorem m_J11_compare {E : GE} {l : Launch} {h : HH} {x y : Int64} : MM E l yJ11_compare cJ11_compare 4 (some .int) ({ frames := 0, cells := 0, slots := 0, locals := 0 } : Room) [.long x, .long y] h (fun rv h2 => rv = some (.int (if x < y then -1 else if x = y then 0 else 1)) ∧ h2 = h) := by
  refine hm_i (by decide) (Nat.le_of_ble_eq_true rfl) ?_
  intro p e s m below meth c C hnm Q Z ls T hl
  have hx := C.x
  have hb := C.b
  have hl : lv_has ls 4 [(0, .long x), (2, .long y)] := hl
  refine lv_lload_n hx hb dJ11_compare_0 rfl (lv_at hl 0 rfl) ?_
  refine lv_lload_n hx hb dJ11_compare_1 rfl (lv_at hl 1 rfl) ?_
  refine W.lcmp hx hb dJ11_compare_2 ?_
  refine rl_if_ge (tgt := 10) hx hb dJ11_compare_3 (by decide) (fun c1 => ?_) (fun c1 => ?_)
  · refine lv_lload_n hx hb dJ11_compare_10 rfl (lv_at hl 0 rfl) ?_
    refine lv_lload_n hx hb dJ11_compare_11 rfl (lv_at hl 1 rfl) ?_
    refine W.lcmp hx hb dJ11_compare_12 ?_
    refine rl_if_ne (tgt := 20) hx hb dJ11_compare_13 (by decide) (fun c2 => ?_) (fun c2 => ?_)
    · refine lv_iconst (v := nI 1) hx hb dJ11_compare_20 rfl ?_
      exact Z _ _ _ _ _ _ dJ11_compare_21 ⟨by rw [if_neg (fun z => absurd z (Int64.not_lt.mpr c1)), if_neg c2]; rfl, rfl⟩ T
    · refine lv_iconst (v := nI 0) hx hb dJ11_compare_16 rfl ?_
      refine lv_goto (tgt := 21) hx hb dJ11_compare_17 (by decide) ?_
      exact Z _ _ _ _ _ _ dJ11_compare_21 ⟨by rw [if_neg (fun z => absurd z (Int64.not_lt.mpr c1)), if_pos c2]; rfl, rfl⟩ T
  · refine lv_iconst (v := (-1)) hx hb dJ11_compare_6 rfl ?_
    refine lv_goto (tgt := 21) hx hb dJ11_compare_7 (by decide) ?_
    exact Z _ _ _ _ _ _ dJ11_compare_21 ⟨by rw [if_pos (Int64.not_le.mp c1)], rfl⟩ T

set_option maxHeartbeats 4000000 in
theorem m_J11_compareUnsigned {E : GE} {l : Launch} {h : HH} {a b : Nat} (ha : a < 2 ^ 64) (hb0 : b < 2 ^ 64) : MM E l yJ11_compareUnsigned cJ11_compareUnsigned 4 (some .int) ({ frames := 1, cells := 0, slots := 0, locals := 150 } : Room) [.long (lN a), .long (lN b)] h (fun rv h2 => rv = some (.int (cmpN a b)) ∧ h2 = h) := by
  refine hm_i (by decide) (Nat.le_of_ble_eq_true rfl) ?_
  intro p e s m below meth c C hnm Q Z ls T hl
  have hx := C.x
  have hb := C.b
  have hl : lv_has ls 4 [(0, .long (lN a)), (2, .long (lN b))] := hl
  refine lv_lload_n hx hb dJ11_compareUnsigned_0 rfl (lv_at hl 0 rfl) ?_
  refine lv_ldc2 (v := (-9223372036854775808)) hx hb C.ow (C.ts _ q956) dJ11_compareUnsigned_1 ?_
  refine lv_ladd hx hb dJ11_compareUnsigned_4 ?_
  refine lv_lload_n hx hb dJ11_compareUnsigned_5 rfl (lv_at hl 1 rfl) ?_
  refine lv_ldc2 (v := (-9223372036854775808)) hx hb C.ow (C.ts _ q956) dJ11_compareUnsigned_6 ?_
  refine lv_ladd hx hb dJ11_compareUnsigned_9 ?_
  refine hc_S C T hl.1 (m_J11_compare) q957 q958 q75 q959 kd_J11_compare rfl rfl ⟨Nat.le_of_ble_eq_true rfl, Nat.le_of_ble_eq_true rfl⟩ (Nat.le_of_ble_eq_true rfl) dJ11_compareUnsigned_10 ⟨Nat.le_of_ble_eq_true rfl, Nat.le_of_ble_eq_true rfl⟩ (fun rv h401 H401 locs401 hp401 T401 => ?_)
  obtain ⟨rfl, hq401⟩ := hp401
  rw [hq401] at T401
  exact Z _ _ _ _ _ _ dJ11_compareUnsigned_13 ⟨by rw [lcmpU ha hb0], rfl⟩ T401

theorem du_fix {r d : Nat} (hr : r < 2 ^ 40) (hd : d < 2 ^ 40) : ((lN r ||| ((lN r - lN d) ^^^ (-1))).toUInt64 >>> ((nI 63).toInt64.toUInt64 &&& Int64.toUInt64 63)).toInt64 = lN (if d ≤ r then 1 else 0) := by
  have key : ∀ n, n < 2 ^ 64 → lN r ||| ((lN r - lN d) ^^^ (-1)) = lN n → ((lN r ||| ((lN r - lN d) ^^^ (-1))).toUInt64 >>> ((nI 63).toInt64.toUInt64 &&& Int64.toUInt64 63)).toInt64 = lN (n / 2 ^ 63) := fun n hn e => by rw [e, wb_shr hn (by decide)]
  have hx : ∀ z : Int64, (z ^^^ (-1)).toBitVec = ~~~ z.toBitVec := fun z => by
    rw [Int64.toBitVec_xor, show (-1 : Int64).toBitVec = BitVec.allOnes 64 from by decide, BitVec.xor_allOnes]
  have hn := (lN r ||| ((lN r - lN d) ^^^ (-1))).toBitVec.isLt
  rw [key _ hn (lN_of _).symm]
  congr 1
  rw [Int64.toBitVec_or, hx, BitVec.toNat_or]
  have hb : ∀ v : Nat, v < 2 ^ 64 → v / 2 ^ 63 = if v.testBit 63 then 1 else 0 := by
    intro v hv
    rw [Nat.testBit_eq_decide_div_mod_eq]
    have : v / 2 ^ 63 < 2 := by omega
    split <;> simp_all <;> omega
  rw [hb _ (by rw [← BitVec.toNat_or]; exact BitVec.isLt _), Nat.testBit_or]
  have h1 : (lN r).toBitVec.toNat.testBit 63 = false := by
    rw [wb_tn (by omega)]
    exact Nat.testBit_lt_two_pow (by omega)
  have h2 : (~~~ (lN r - lN d).toBitVec).toNat.testBit 63 = decide (d ≤ r) := by
    rw [BitVec.testBit_toNat, BitVec.getLsbD_not]
    by_cases h : d ≤ r
    · rw [lN_sub h]
      have : (lN (r - d)).toBitVec.getLsbD 63 = false := by
        rw [← BitVec.testBit_toNat, wb_tn (by omega)]
        exact Nat.testBit_lt_two_pow (by omega)
      rw [this]; simp [h]
    · have e : (lN r - lN d).toBitVec.toNat = 2 ^ 64 - (d - r) := by
        rw [Int64.toBitVec_sub, BitVec.toNat_sub, wb_tn (by omega), wb_tn (by omega)]
        omega
      have : (lN r - lN d).toBitVec.getLsbD 63 = true := by
        rw [← BitVec.testBit_toNat, e, Nat.testBit_eq_decide_div_mod_eq]
        have : (2 ^ 64 - (d - r)) / 2 ^ 63 = 1 := by omega
        rw [this]; rfl
      rw [this]; simp [h]
  rw [h1, h2]
  by_cases h : d ≤ r <;> simp [h]
theorem du_val {a d : Nat} (hd : 0 < d) : (a / 2 / d) * 2 * d ≤ a ∧ a - (a / 2 / d) * 2 * d < 2 * d ∧ a / d = (a / 2 / d) * 2 + if d ≤ a - (a / 2 / d) * 2 * d then 1 else 0 := by
  have h1 := Nat.div_add_mod (a / 2) d
  have h2 := Nat.mod_lt (a / 2) hd
  generalize a / 2 / d = q at *
  have e : q * 2 * d = 2 * (d * q) := by rw [Nat.mul_comm q 2, Nat.mul_assoc, Nat.mul_comm q d]
  have h3 : q * 2 * d ≤ a := by omega
  have h4 : a - q * 2 * d < 2 * d := by omega
  refine ⟨h3, h4, ?_⟩
  by_cases h : d ≤ a - q * 2 * d
  · rw [if_pos h]
    apply Nat.div_eq_of_lt_le
    · rw [Nat.add_mul]; omega
    · rw [Nat.add_mul, Nat.add_mul]; omega
  · rw [if_neg h]
    apply Nat.div_eq_of_lt_le
    · omega
    · rw [Nat.add_mul, Nat.add_mul]; omega

set_option maxHeartbeats 4000000 in
theorem m_J11_divideUnsigned {E : GE} {l : Launch} {h : HH} {a b : Nat} (ha : a < 2 ^ 64) (hb1 : 0 < b) (hb2 : b < 2 ^ 32) : MM E l yJ11_divideUnsigned cJ11_divideUnsigned 8 (some .long) ({ frames := 0, cells := 0, slots := 0, locals := 0 } : Room) [.long (lN a), .long (lN b)] h (fun rv h2 => rv = some (.long (lN (a / b))) ∧ h2 = h) := by
  refine hm_l (by decide) (Nat.le_of_ble_eq_true rfl) ?_
  intro p e s m below meth c C hnm Q Z ls T hl
  have hx := C.x
  have hb := C.b
  have hl : lv_has ls 8 [(0, .long (lN a)), (2, .long (lN b))] := hl
  refine lv_lload_n hx hb dJ11_divideUnsigned_0 rfl (lv_at hl 1 rfl) ?_
  refine lv_lconst (v := lN 0) hx hb dJ11_divideUnsigned_1 rfl ?_
  refine W.lcmp hx hb dJ11_divideUnsigned_2 ?_
  refine hl_if_lt (tgt := 41) hx hb dJ11_divideUnsigned_3 (by decide) (by omega) (by omega) (fun c1 => absurd c1 (by omega)) (fun c1 => ?_)
  refine lv_lload_n hx hb dJ11_divideUnsigned_6 rfl (lv_at hl 0 rfl) ?_
  refine lv_iconst (v := nI 1) hx hb dJ11_divideUnsigned_7 rfl ?_
  refine hn_lushr hx hb dJ11_divideUnsigned_8 ha (by omega) ?_
  refine lv_lload_n hx hb dJ11_divideUnsigned_9 rfl (lv_at hl 1 rfl) ?_
  refine hn_ldiv hx hb dJ11_divideUnsigned_10 (by omega) hb1 (by omega) ?_
  refine lv_iconst (v := nI 1) hx hb dJ11_divideUnsigned_11 rfl ?_
  refine hn_lshl hx hb dJ11_divideUnsigned_12 (by omega) ?_
  refine lv_lstore (lv' := [(4, .long (lN (((a / 2 ^ 1) / b) * 2 ^ 1))), (0, .long (lN a)), (2, .long (lN b))]) hx hb dJ11_divideUnsigned_13 hl (by decide) rfl (fun ls402 hl402 => ?_)
  refine lv_lload_n hx hb dJ11_divideUnsigned_15 rfl (lv_at hl402 1 rfl) ?_
  refine lv_lload hx hb dJ11_divideUnsigned_16 (lv_at hl402 0 rfl) ?_
  refine lv_lload_n hx hb dJ11_divideUnsigned_18 rfl (lv_at hl402 2 rfl) ?_
  refine hn_lmul hx hb dJ11_divideUnsigned_19 ?_
  have dv : a / 2 ^ 1 / b * 2 ^ 1 * b ≤ a ∧ a - a / 2 ^ 1 / b * 2 ^ 1 * b < 2 * b ∧ a / b = a / 2 ^ 1 / b * 2 ^ 1 + (if b ≤ a - a / 2 ^ 1 / b * 2 ^ 1 * b then 1 else 0) := du_val hb1
  refine hn_lsub hx hb dJ11_divideUnsigned_20 (by show a / 2 ^ 1 / b * 2 ^ 1 * b ≤ a; exact dv.1) ?_
  refine lv_lstore (lv' := [(6, .long (lN (a - a / 2 ^ 1 / b * 2 ^ 1 * b))), (4, .long (lN (((a / 2 ^ 1) / b) * 2 ^ 1))), (0, .long (lN a)), (2, .long (lN b))]) hx hb dJ11_divideUnsigned_21 hl402 (by decide) rfl (fun ls403 hl403 => ?_)
  refine lv_lload hx hb dJ11_divideUnsigned_23 (lv_at hl403 1 rfl) ?_
  refine lv_lload hx hb dJ11_divideUnsigned_25 (lv_at hl403 0 rfl) ?_
  refine lv_lload hx hb dJ11_divideUnsigned_27 (lv_at hl403 0 rfl) ?_
  refine lv_lload_n hx hb dJ11_divideUnsigned_29 rfl (lv_at hl403 3 rfl) ?_
  refine lv_lsub hx hb dJ11_divideUnsigned_30 ?_
  refine lv_ldc2 (v := (-1)) hx hb C.ow (C.ts _ q952) dJ11_divideUnsigned_31 ?_
  refine lv_lxor hx hb dJ11_divideUnsigned_34 ?_
  refine lv_lor hx hb dJ11_divideUnsigned_35 ?_
  refine lv_bipush (v := nI 63) hx hb dJ11_divideUnsigned_36 rfl ?_
  refine lv_lushr (v := lN (if b ≤ a - a / 2 ^ 1 / b * 2 ^ 1 * b then 1 else 0)) hx hb dJ11_divideUnsigned_38 (du_fix (by have := dv.2.1; omega) (by omega)) ?_
  refine hn_ladd hx hb dJ11_divideUnsigned_39 ?_
  exact Z _ _ _ _ _ _ dJ11_divideUnsigned_40 ⟨by rw [dv.2.2], rfl⟩ T

theorem pos_nat {x : Int32} (h : 0 < x) : ∃ a : Nat, 0 < a ∧ a < 2147483648 ∧ x = nI a := by
  obtain ⟨j, hj, e⟩ := nI_of (x := x) (fun z => by rw [Int32.lt_iff_toInt_lt] at h z; omega)
  refine ⟨j, Nat.pos_of_ne_zero (fun z => ?_), hj, e⟩
  subst z
  rw [e] at h
  exact absurd h (by decide)
theorem neg_un {x : Int32} (h : ¬ 0 < x) (h0 : x ≠ 0) : 2147483648 ≤ un x := by
  rcases Nat.lt_or_ge (un x) 2147483648 with z | z
  · exfalso
    apply h
    rw [← nI_un x]
    rw [← nI_0]
    exact nI_lt (un_ne0 h0) z
  · exact z
theorem nlz_end {a n v : Nat} (hn : n ≤ 31) (hv : v = a / 2 ^ (31 - n)) (h0 : 0 < v) (h4 : v < 4) (ha : a < 2147483648) : n - v / 2 < 32 ∧ v / 2 ≤ n ∧ 2147483648 ≤ a * 2 ^ (n - v / 2) ∧ a * 2 ^ (n - v / 2) < 4294967296 := by
  have e : 2 ^ (31 - n) * 2 ^ n = 2147483648 := by rw [← Nat.pow_add, show 31 - n + n = 31 by omega]
  have hp : 0 < 2 ^ (31 - n) := Nat.two_pow_pos _
  have h1 : v * 2 ^ (31 - n) ≤ a := by rw [hv]; exact Nat.div_mul_le_self _ _
  have h2 : a < (v + 1) * 2 ^ (31 - n) := by rw [hv]; exact Nat.lt_mul_of_div_lt (Nat.lt_succ_self _) hp
  have m1 : v * 2147483648 ≤ a * 2 ^ n := by
    calc v * 2147483648 = v * 2 ^ (31 - n) * 2 ^ n := by rw [Nat.mul_assoc, e]
      _ ≤ a * 2 ^ n := Nat.mul_le_mul_right _ h1
  have m2 : a * 2 ^ n < (v + 1) * 2147483648 := by
    calc a * 2 ^ n < (v + 1) * 2 ^ (31 - n) * 2 ^ n := Nat.mul_lt_mul_of_pos_right h2 (Nat.two_pow_pos n)
      _ = (v + 1) * 2147483648 := by rw [Nat.mul_assoc, e]
  by_cases hv1 : v = 1
  · subst hv1
    simp only [show (1 : Nat) / 2 = 0 from rfl, Nat.sub_zero]
    omega
  · have hv2 : v / 2 = 1 := by omega
    rw [hv2]
    have hn1 : 1 ≤ n := by
      rcases Nat.eq_zero_or_pos n with z | z
      · subst z
        simp only [Nat.sub_zero, Nat.pow_zero] at m1
        omega
      · exact z
    have e2 : a * 2 ^ n = 2 * (a * 2 ^ (n - 1)) := by
      obtain ⟨k, rfl⟩ : ∃ k, n = k + 1 := ⟨n - 1, by omega⟩
      rw [Nat.add_sub_cancel, Nat.pow_succ, ← Nat.mul_assoc, Nat.mul_comm]
    omega
theorem nlz_st {a n v k : Nat} (hk : k ≤ n) (hn : n ≤ 31) (hv : v = a / 2 ^ (31 - n)) : v / 2 ^ k = a / 2 ^ (31 - (n - k)) := by
  rw [hv, Nat.div_div_eq_div_mul, ← Nat.pow_add, show 31 - n + k = 31 - (n - k) by omega]

set_option maxHeartbeats 4000000 in
theorem m_J10_numberOfLeadingZeros {E : GE} {l : Launch} {h : HH} {x : Int32} (hx0 : x ≠ 0) : MM E l yJ10_numberOfLeadingZeros cJ10_numberOfLeadingZeros 2 (some .int) ({ frames := 0, cells := 0, slots := 0, locals := 0 } : Room) [.int x] h (fun rv h2 => ∃ sh : Nat, rv = some (.int (nI sh)) ∧ h2 = h ∧ sh < 32 ∧ 2147483648 ≤ un x * 2 ^ sh ∧ un x * 2 ^ sh < 4294967296) := by
  refine hm_i (by decide) (Nat.le_of_ble_eq_true rfl) ?_
  intro p e s m below meth c C hnm Q Z ls T hl
  have hx := C.x
  have hb := C.b
  have hl : lv_has ls 2 [(0, .int x)] := hl
  refine lv_iload_n hx hb dJ10_numberOfLeadingZeros_0 rfl (lv_at hl 0 rfl) ?_
  refine lv_if_gt (tgt := 15) hx hb dJ10_numberOfLeadingZeros_1 (by decide) (fun c1 => ?_) (fun c1 => ?_)
  · obtain ⟨a, ha0, ha, rfl⟩ := pos_nat c1
    refine lv_bipush (v := nI 31) hx hb dJ10_numberOfLeadingZeros_15 rfl ?_
    refine lv_istore_n (lv' := [(1, .int (nI 31)), (0, .int (nI a))]) hx hb dJ10_numberOfLeadingZeros_17 rfl hl (by decide) rfl (fun ls404 hl404 => ?_)
    have J73 : ∀ (n v : Nat) (H405 : Heap) (locs405 : List Loc) (ls405 : Array Slot), (n ≤ 31) → (v = a / 2 ^ (31 - n)) → (0 < v) → (v < 4) → (1 ≤ n) → (St E s h H405 locs405) → (lv_has ls405 2 [(0, .int (nI v)), (1, .int (nI n))]) → W p l e ({ frames := 0, cells := 0, slots := 0, locals := 0 } : Room) s m ([.int (nI a)] : List Value).toArray below meth c H405 locs405 0 0 Q (F0 m 73 ls405 []) := by
      intro n v H405 locs405 ls405 hn hv hv0 hvb hn2 T405 hl405
      refine lv_iload_n hx hb dJ10_numberOfLeadingZeros_73 rfl (lv_at hl405 1 rfl) ?_
      refine lv_iload_n hx hb dJ10_numberOfLeadingZeros_74 rfl (lv_at hl405 0 rfl) ?_
      refine lv_iconst (v := nI 1) hx hb dJ10_numberOfLeadingZeros_75 rfl ?_
      have hend := nlz_end hn hv hv0 hvb ha
      refine lv_iushr (v := nI (v / 2)) hx hb dJ10_numberOfLeadingZeros_76 (pk_ushrN (by omega) (nI 1) 1 (by decide)) ?_
      refine hn_isub hx hb dJ10_numberOfLeadingZeros_77 hend.2.1 ?_
      exact Z _ _ _ _ _ _ dJ10_numberOfLeadingZeros_78 ⟨_, rfl, rfl, hend.1, by rw [un_nI' (by omega)]; exact hend.2.2.1, by rw [un_nI' (by omega)]; exact hend.2.2.2⟩ T405
    have J61 : ∀ (n v : Nat) (H406 : Heap) (locs406 : List Loc) (ls406 : Array Slot), (n ≤ 31) → (v = a / 2 ^ (31 - n)) → (0 < v) → (v < 16) → (3 ≤ n) → (St E s h H406 locs406) → (lv_has ls406 2 [(0, .int (nI v)), (1, .int (nI n))]) → W p l e ({ frames := 0, cells := 0, slots := 0, locals := 0 } : Room) s m ([.int (nI a)] : List Value).toArray below meth c H406 locs406 0 0 Q (F0 m 61 ls406 []) := by
      intro n v H406 locs406 ls406 hn hv hv0 hvb hn2 T406 hl406
      refine lv_iload_n hx hb dJ10_numberOfLeadingZeros_61 rfl (lv_at hl406 0 rfl) ?_
      refine lv_iconst (v := nI 4) hx hb dJ10_numberOfLeadingZeros_62 rfl ?_
      refine hn_icmp_lt (tgt := 73) hx hb dJ10_numberOfLeadingZeros_63 (by decide) (by omega) (by omega) (fun d1 => ?_) (fun d1 => ?_)
      · exact J73 n v _ _ _ hn hv hv0 (by omega) (by omega) T406 (lv_sub hl406 [0, 1] rfl)
      · refine lv_iinc (v := nI (n - 2)) (lv' := [(1, .int (nI (n - 2))), (0, .int (nI v))]) hx hb dJ10_numberOfLeadingZeros_66 hl406 (k := 1) rfl (by rw [show Int32.ofInt (-2) = -nI 2 from rfl, ← Int32.sub_eq_add_neg, pk_sub (by omega)]) (by decide) rfl (fun ls407 hl407 => ?_)
        refine lv_iload_n hx hb dJ10_numberOfLeadingZeros_69 rfl (lv_at hl407 1 rfl) ?_
        refine lv_iconst (v := nI 2) hx hb dJ10_numberOfLeadingZeros_70 rfl ?_
        refine lv_iushr (v := nI (v / 2 ^ 2)) hx hb dJ10_numberOfLeadingZeros_71 (pk_ushrN (by omega) (nI 2) 2 (by decide)) ?_
        refine lv_istore_n (lv' := [(0, .int (nI (v / 2 ^ 2))), (1, .int (nI (n - 2)))]) hx hb dJ10_numberOfLeadingZeros_72 rfl hl407 (by decide) rfl (fun ls408 hl408 => ?_)
        exact J73 (n - 2) (v / 2 ^ 2) _ _ _ (by omega) (nlz_st (by omega) hn hv) (by omega) (by omega) (by omega) T406 (lv_sub hl408 [0, 1] rfl)
    have J48 : ∀ (n v : Nat) (H409 : Heap) (locs409 : List Loc) (ls409 : Array Slot), (n ≤ 31) → (v = a / 2 ^ (31 - n)) → (0 < v) → (v < 256) → (7 ≤ n) → (St E s h H409 locs409) → (lv_has ls409 2 [(0, .int (nI v)), (1, .int (nI n))]) → W p l e ({ frames := 0, cells := 0, slots := 0, locals := 0 } : Room) s m ([.int (nI a)] : List Value).toArray below meth c H409 locs409 0 0 Q (F0 m 48 ls409 []) := by
      intro n v H409 locs409 ls409 hn hv hv0 hvb hn2 T409 hl409
      refine lv_iload_n hx hb dJ10_numberOfLeadingZeros_48 rfl (lv_at hl409 0 rfl) ?_
      refine lv_bipush (v := nI 16) hx hb dJ10_numberOfLeadingZeros_49 rfl ?_
      refine hn_icmp_lt (tgt := 61) hx hb dJ10_numberOfLeadingZeros_51 (by decide) (by omega) (by omega) (fun d1 => ?_) (fun d1 => ?_)
      · exact J61 n v _ _ _ hn hv hv0 (by omega) (by omega) T409 (lv_sub hl409 [0, 1] rfl)
      · refine lv_iinc (v := nI (n - 4)) (lv' := [(1, .int (nI (n - 4))), (0, .int (nI v))]) hx hb dJ10_numberOfLeadingZeros_54 hl409 (k := 1) rfl (by rw [show Int32.ofInt (-4) = -nI 4 from rfl, ← Int32.sub_eq_add_neg, pk_sub (by omega)]) (by decide) rfl (fun ls410 hl410 => ?_)
        refine lv_iload_n hx hb dJ10_numberOfLeadingZeros_57 rfl (lv_at hl410 1 rfl) ?_
        refine lv_iconst (v := nI 4) hx hb dJ10_numberOfLeadingZeros_58 rfl ?_
        refine lv_iushr (v := nI (v / 2 ^ 4)) hx hb dJ10_numberOfLeadingZeros_59 (pk_ushrN (by omega) (nI 4) 4 (by decide)) ?_
        refine lv_istore_n (lv' := [(0, .int (nI (v / 2 ^ 4))), (1, .int (nI (n - 4)))]) hx hb dJ10_numberOfLeadingZeros_60 rfl hl410 (by decide) rfl (fun ls411 hl411 => ?_)
        exact J61 (n - 4) (v / 2 ^ 4) _ _ _ (by omega) (nlz_st (by omega) hn hv) (by omega) (by omega) (by omega) T409 (lv_sub hl411 [0, 1] rfl)
    have J33 : ∀ (n v : Nat) (H412 : Heap) (locs412 : List Loc) (ls412 : Array Slot), (n ≤ 31) → (v = a / 2 ^ (31 - n)) → (0 < v) → (v < 65536) → (15 ≤ n) → (St E s h H412 locs412) → (lv_has ls412 2 [(0, .int (nI v)), (1, .int (nI n))]) → W p l e ({ frames := 0, cells := 0, slots := 0, locals := 0 } : Room) s m ([.int (nI a)] : List Value).toArray below meth c H412 locs412 0 0 Q (F0 m 33 ls412 []) := by
      intro n v H412 locs412 ls412 hn hv hv0 hvb hn2 T412 hl412
      refine lv_iload_n hx hb dJ10_numberOfLeadingZeros_33 rfl (lv_at hl412 0 rfl) ?_
      refine lv_sipush (v := nI 256) hx hb dJ10_numberOfLeadingZeros_34 rfl ?_
      refine hn_icmp_lt (tgt := 48) hx hb dJ10_numberOfLeadingZeros_37 (by decide) (by omega) (by omega) (fun d1 => ?_) (fun d1 => ?_)
      · exact J48 n v _ _ _ hn hv hv0 (by omega) (by omega) T412 (lv_sub hl412 [0, 1] rfl)
      · refine lv_iinc (v := nI (n - 8)) (lv' := [(1, .int (nI (n - 8))), (0, .int (nI v))]) hx hb dJ10_numberOfLeadingZeros_40 hl412 (k := 1) rfl (by rw [show Int32.ofInt (-8) = -nI 8 from rfl, ← Int32.sub_eq_add_neg, pk_sub (by omega)]) (by decide) rfl (fun ls413 hl413 => ?_)
        refine lv_iload_n hx hb dJ10_numberOfLeadingZeros_43 rfl (lv_at hl413 1 rfl) ?_
        refine lv_bipush (v := nI 8) hx hb dJ10_numberOfLeadingZeros_44 rfl ?_
        refine lv_iushr (v := nI (v / 2 ^ 8)) hx hb dJ10_numberOfLeadingZeros_46 (pk_ushrN (by omega) (nI 8) 8 (by decide)) ?_
        refine lv_istore_n (lv' := [(0, .int (nI (v / 2 ^ 8))), (1, .int (nI (n - 8)))]) hx hb dJ10_numberOfLeadingZeros_47 rfl hl413 (by decide) rfl (fun ls414 hl414 => ?_)
        exact J48 (n - 8) (v / 2 ^ 8) _ _ _ (by omega) (nlz_st (by omega) hn hv) (by omega) (by omega) (by omega) T412 (lv_sub hl414 [0, 1] rfl)
    refine lv_iload_n hx hb dJ10_numberOfLeadingZeros_18 rfl (lv_at hl404 1 rfl) ?_
    refine lv_ldcw (v := nI 65536) hx hb C.ow (C.ts _ q943) dJ10_numberOfLeadingZeros_19 ?_
    refine hn_icmp_lt (tgt := 33) hx hb dJ10_numberOfLeadingZeros_22 (by decide) (by omega) (by omega) (fun d1 => ?_) (fun d1 => ?_)
    · exact J33 31 a _ _ _ (by omega) (by simp) ha0 (by omega) (by omega) T (lv_sub hl404 [1, 0] rfl)
    · refine lv_iinc (v := nI (31 - 16)) (lv' := [(1, .int (nI (31 - 16))), (0, .int (nI a))]) hx hb dJ10_numberOfLeadingZeros_25 hl404 (k := 0) rfl (by rw [show Int32.ofInt (-16) = -nI 16 from rfl, ← Int32.sub_eq_add_neg, pk_sub (by omega)]) (by decide) rfl (fun ls415 hl415 => ?_)
      refine lv_iload_n hx hb dJ10_numberOfLeadingZeros_28 rfl (lv_at hl415 1 rfl) ?_
      refine lv_bipush (v := nI 16) hx hb dJ10_numberOfLeadingZeros_29 rfl ?_
      refine lv_iushr (v := nI (a / 2 ^ 16)) hx hb dJ10_numberOfLeadingZeros_31 (pk_ushrN (by omega) (nI 16) 16 (by decide)) ?_
      refine lv_istore_n (lv' := [(0, .int (nI (a / 2 ^ 16))), (1, .int (nI (31 - 16)))]) hx hb dJ10_numberOfLeadingZeros_32 rfl hl415 (by decide) rfl (fun ls416 hl416 => ?_)
      exact J33 (31 - 16) (a / 2 ^ 16) _ _ _ (by omega) (by simp) (by omega) (by omega) (by omega) T (lv_sub hl416 [0, 1] rfl)
  · refine lv_iload_n hx hb dJ10_numberOfLeadingZeros_4 rfl (lv_at hl 0 rfl) ?_
    refine lv_if_ne (tgt := 13) hx hb dJ10_numberOfLeadingZeros_5 (by decide) (fun c2 => ?_) (fun c2 => absurd c2 hx0)
    refine lv_iconst (v := nI 0) hx hb dJ10_numberOfLeadingZeros_13 rfl ?_
    exact Z _ _ _ _ _ _ dJ10_numberOfLeadingZeros_14 ⟨0, rfl, rfl, by decide, by have := neg_un c1 hx0; omega, by have := un_lt x; omega⟩ T
