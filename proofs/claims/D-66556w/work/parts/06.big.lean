set_option maxRecDepth 100000
theorem nIm1 {t : Nat} (h : 0 < t) : nI t - 1 = nI (t - 1) := pk_sub (a := t) (b := 1) h
theorem nIm1_neg {t : Nat} (ht : t < 2 ^ 31) : nI t - 1 < 0 ↔ t = 0 := by
  constructor
  · intro h
    rcases Nat.eq_zero_or_pos t with h0 | h0
    · exact h0
    · rw [nIm1 h0] at h; exact absurd h (nI_pos (by omega))
  · intro h; subst h; decide
/-- -1, 0 or 1 -/
def cmpN (a b : Nat) : Int32 := if a < b then -1 else if a = b then 0 else 1
theorem minadd (x : Int32) : (x + (-2147483648)).toInt = (un x : Int) - 2147483648 := by
  have h1 : (x + (-2147483648)).toBitVec.toNat = (un x + 2147483648) % 4294967296 := by
    rw [Int32.toBitVec_add, BitVec.toNat_add]; rfl
  have h2 := un_lt x
  show (x + (-2147483648)).toBitVec.toInt = _
  rw [BitVec.toInt_eq_toNat_cond, h1]
  split <;> omega
theorem cmpU (x y : Int32) : (if x + (-2147483648) < y + (-2147483648) then (-1 : Int32) else if x + (-2147483648) = y + (-2147483648) then 0 else 1) = cmpN (un x) (un y) := by
  unfold cmpN
  have hl : x + (-2147483648) < y + (-2147483648) ↔ un x < un y := by rw [Int32.lt_iff_toInt_lt, minadd, minadd]; omega
  have he : x + (-2147483648) = y + (-2147483648) ↔ un x = un y := by
    constructor
    · intro h
      have := congrArg Int32.toInt h
      rw [minadd, minadd] at this
      omega
    · intro h; rw [un_inj h]
  simp only [hl, he]
theorem bv_lt_of {f g : Nat → Int32} {k : Nat} : ∀ {n : Nat}, k < n → (∀ i, k < i → i < n → f i = g i) → un (f k) < un (g k) → bv f n < bv g n := by
  intro n
  induction n with
  | zero => intro h; omega
  | succ n ih =>
    intro hk he hl
    rw [bv_s, bv_s]
    by_cases h : k = n
    · subst h
      have h1 := bv_lt f k
      have h2 : (un (f k) + 1) * 4294967296 ^ k ≤ un (g k) * 4294967296 ^ k := Nat.mul_le_mul_right _ hl
      rw [Nat.add_mul] at h2
      omega
    · have h1 := ih (by omega) (fun i a b => he i a (by omega)) hl
      rw [he n (by omega) (by omega)]
      omega
theorem lm_lt_lt {a b : Nat} (h : lm a < lm b) : a < b := Nat.lt_of_not_le fun z => absurd (lm_mono z) (by omega)
theorem cmpN_lt {a b : Nat} (h : a < b) : cmpN a b = -1 := if_pos h
theorem cmpN_eq {a b : Nat} (h : a = b) : cmpN a b = 0 := by unfold cmpN; rw [if_neg (by omega), if_pos h]
theorem cmpN_gt {a b : Nat} (h : b < a) : cmpN a b = 1 := by unfold cmpN; rw [if_neg (by omega), if_neg (by omega)]

theorem kd_J10_compare : yJ10_compare.cls ≠ "java/lang/invoke/MethodHandle" ∧ yJ10_compare.cls ≠ "java/lang/invoke/VarHandle" ∧ (parseMethodDescriptor yJ10_compare.desc).map (fun d => d.parameters.length) = some 2 := by decide +kernel
theorem kd_J10_compareUnsigned : yJ10_compareUnsigned.cls ≠ "java/lang/invoke/MethodHandle" ∧ yJ10_compareUnsigned.cls ≠ "java/lang/invoke/VarHandle" ∧ (parseMethodDescriptor yJ10_compareUnsigned.desc).map (fun d => d.parameters.length) = some 2 := by decide +kernel
theorem kd_X7_cell : yX7_cell.cls ≠ "java/lang/invoke/MethodHandle" ∧ yX7_cell.cls ≠ "java/lang/invoke/VarHandle" ∧ (parseMethodDescriptor yX7_cell.desc).map (fun d => d.parameters.length) = some 1 := by decide +kernel
theorem kd_X7_init : yX7_init.cls ≠ "java/lang/invoke/MethodHandle" ∧ yX7_init.cls ≠ "java/lang/invoke/VarHandle" ∧ (parseMethodDescriptor yX7_init.desc).map (fun d => d.parameters.length) = some 1 := by decide +kernel
theorem kd_X7_trim : yX7_trim.cls = RX7 ∧ yX7_trim.cls ≠ "java/lang/invoke/MethodHandle" ∧ yX7_trim.cls ≠ "java/lang/invoke/VarHandle" ∧ (parseMethodDescriptor yX7_trim.desc).map (fun d => d.parameters.length) = some 0 := by decide +kernel
theorem kd_X7_reserve : yX7_reserve.cls = RX7 ∧ yX7_reserve.cls ≠ "java/lang/invoke/MethodHandle" ∧ yX7_reserve.cls ≠ "java/lang/invoke/VarHandle" ∧ (parseMethodDescriptor yX7_reserve.desc).map (fun d => d.parameters.length) = some 1 := by decide +kernel
theorem kd_X7_set : yX7_set.cls = RX7 ∧ yX7_set.cls ≠ "java/lang/invoke/MethodHandle" ∧ yX7_set.cls ≠ "java/lang/invoke/VarHandle" ∧ (parseMethodDescriptor yX7_set.desc).map (fun d => d.parameters.length) = some 1 := by decide +kernel
theorem kd_X7_copy : yX7_copy.cls = RX7 ∧ yX7_copy.cls ≠ "java/lang/invoke/MethodHandle" ∧ yX7_copy.cls ≠ "java/lang/invoke/VarHandle" ∧ (parseMethodDescriptor yX7_copy.desc).map (fun d => d.parameters.length) = some 1 := by decide +kernel
theorem kd_X7_isZero : yX7_isZero.cls = RX7 ∧ yX7_isZero.cls ≠ "java/lang/invoke/MethodHandle" ∧ yX7_isZero.cls ≠ "java/lang/invoke/VarHandle" ∧ (parseMethodDescriptor yX7_isZero.desc).map (fun d => d.parameters.length) = some 0 := by decide +kernel
theorem kd_X7_isOne : yX7_isOne.cls = RX7 ∧ yX7_isOne.cls ≠ "java/lang/invoke/MethodHandle" ∧ yX7_isOne.cls ≠ "java/lang/invoke/VarHandle" ∧ (parseMethodDescriptor yX7_isOne.desc).map (fun d => d.parameters.length) = some 0 := by decide +kernel
theorem kd_X7_compare : yX7_compare.cls = RX7 ∧ yX7_compare.cls ≠ "java/lang/invoke/MethodHandle" ∧ yX7_compare.cls ≠ "java/lang/invoke/VarHandle" ∧ (parseMethodDescriptor yX7_compare.desc).map (fun d => d.parameters.length) = some 1 := by decide +kernel
theorem kd_X7_add : yX7_add.cls = RX7 ∧ yX7_add.cls ≠ "java/lang/invoke/MethodHandle" ∧ yX7_add.cls ≠ "java/lang/invoke/VarHandle" ∧ (parseMethodDescriptor yX7_add.desc).map (fun d => d.parameters.length) = some 1 := by decide +kernel
theorem kd_X7_product : yX7_product.cls = RX7 ∧ yX7_product.cls ≠ "java/lang/invoke/MethodHandle" ∧ yX7_product.cls ≠ "java/lang/invoke/VarHandle" ∧ (parseMethodDescriptor yX7_product.desc).map (fun d => d.parameters.length) = some 2 := by decide +kernel
theorem kd_X7_times : yX7_times.cls = RX7 ∧ yX7_times.cls ≠ "java/lang/invoke/MethodHandle" ∧ yX7_times.cls ≠ "java/lang/invoke/VarHandle" ∧ (parseMethodDescriptor yX7_times.desc).map (fun d => d.parameters.length) = some 1 := by decide +kernel

section HMX
variable {p : Program} {l : Launch} {e : Env} {R : Room} {s : State} {m : MethodId} {args : Array Value} {below : List Frame} {meth : Method} {c : Code} {H : Heap} {locs : List Loc} {cells slots : Nat} {Q : State → Prop}
variable {cc : ByteArray} {nL : Nat} {own : String} {pc : Nat} {ls : Array Slot} {rest : List Value} {E : GE} {a b index : Nat}
theorem hn_mmax (C : Cx E p s m args meth c cc nL own) (hls : ls.size = nL) (hl : Cond.methodLink own index yJ0_max ∈ lw_all) (ha : a < 2 ^ 31) (hb : b < 2 ^ 31) (hfr : 1 ≤ R.frames) (hlo : (rest.map fun v => v.category).sum + 13 ≤ R.locals) (hc : cells ≤ R.cells) (hs : slots ≤ R.slots) (d : decode cc pc = .ok (.invokestatic index, 3))
    (kk : W p l e R s m args below meth c H locs cells slots Q (F0 m (pc + 3) ls (.int (nI (max a b)) :: rest))) : W p l e R s m args below meth c H locs cells slots Q (F0 m pc ls (.int (nI b) :: .int (nI a) :: rest)) :=
  va_mmax C.x C.b (by rw [C.ml, hls]) C.ow (C.ts _ hl) (C.ts _ q280) (C.ts _ q62) (C.ts _ q281) hfr hlo hc hs d (by
    rw [show (if nI a < nI b then nI b else nI a) = nI (max a b) from ?_]
    · exact kk
    · by_cases h : a < b
      · rw [if_pos ((nI_ltI ha hb).mpr h), Nat.max_eq_right (by omega)]
      · rw [if_neg (fun z => h ((nI_ltI ha hb).mp z)), Nat.max_eq_left (by omega)])
end HMX

set_option maxHeartbeats 4000000 in
theorem m_J10_compare {E : GE} {l : Launch} {h : HH} {x y : Int32} : MM E l yJ10_compare cJ10_compare 2 (some .int) ({ frames := 0, cells := 0, slots := 0, locals := 0 } : Room) [.int x, .int y] h (fun rv h2 => rv = some (.int (if x < y then -1 else if x = y then 0 else 1)) ∧ h2 = h) := by
  refine hm_i (by decide) (Nat.le_of_ble_eq_true rfl) ?_
  intro p e s m below meth c C hnm Q Z ls T hl
  have hx := C.x
  have hb := C.b
  have hl : lv_has ls 2 [(0, .int x), (1, .int y)] := hl
  refine lv_iload_n hx hb dJ10_compare_0 rfl (lv_at hl 0 rfl) ?_
  refine lv_iload_n hx hb dJ10_compare_1 rfl (lv_at hl 1 rfl) ?_
  refine lv_icmp_ge (tgt := 9) hx hb dJ10_compare_2 (by decide) (fun c1 => ?_) (fun c1 => ?_)
  · refine lv_iload_n hx hb dJ10_compare_9 rfl (lv_at hl 0 rfl) ?_
    refine lv_iload_n hx hb dJ10_compare_10 rfl (lv_at hl 1 rfl) ?_
    refine lv_icmp_ne (tgt := 18) hx hb dJ10_compare_11 (by decide) (fun c2 => ?_) (fun c2 => ?_)
    · refine lv_iconst (v := nI 1) hx hb dJ10_compare_18 rfl ?_
      exact Z _ _ _ _ _ _ dJ10_compare_19 ⟨by rw [if_neg (by intro z; exact absurd z (Int32.not_lt.mpr c1)), if_neg c2]; rfl, rfl⟩ T
    · refine lv_iconst (v := nI 0) hx hb dJ10_compare_14 rfl ?_
      refine lv_goto (tgt := 19) hx hb dJ10_compare_15 (by decide) ?_
      exact Z _ _ _ _ _ _ dJ10_compare_19 ⟨by rw [if_neg (by intro z; exact absurd z (Int32.not_lt.mpr c1)), if_pos c2]; rfl, rfl⟩ T
  · refine lv_iconst (v := (-1)) hx hb dJ10_compare_5 rfl ?_
    refine lv_goto (tgt := 19) hx hb dJ10_compare_6 (by decide) ?_
    exact Z _ _ _ _ _ _ dJ10_compare_19 ⟨by rw [if_pos (Int32.not_le.mp c1)], rfl⟩ T

set_option maxHeartbeats 4000000 in
theorem m_J10_compareUnsigned {E : GE} {l : Launch} {h : HH} {x y : Int32} : MM E l yJ10_compareUnsigned cJ10_compareUnsigned 2 (some .int) ({ frames := 1, cells := 0, slots := 0, locals := 150 } : Room) [.int x, .int y] h (fun rv h2 => rv = some (.int (cmpN (un x) (un y))) ∧ h2 = h) := by
  refine hm_i (by decide) (Nat.le_of_ble_eq_true rfl) ?_
  intro p e s m below meth c C hnm Q Z ls T hl
  have hx := C.x
  have hb := C.b
  have hl : lv_has ls 2 [(0, .int x), (1, .int y)] := hl
  refine lv_iload_n hx hb dJ10_compareUnsigned_0 rfl (lv_at hl 0 rfl) ?_
  refine lv_ldc (v := (-2147483648)) hx hb C.ow (C.ts _ q809) dJ10_compareUnsigned_1 ?_
  refine lv_iadd hx hb dJ10_compareUnsigned_3 ?_
  refine lv_iload_n hx hb dJ10_compareUnsigned_4 rfl (lv_at hl 1 rfl) ?_
  refine lv_ldc (v := (-2147483648)) hx hb C.ow (C.ts _ q809) dJ10_compareUnsigned_5 ?_
  refine lv_iadd hx hb dJ10_compareUnsigned_7 ?_
  refine hc_S C T hl.1 (m_J10_compare) q810 q811 q74 q812 kd_J10_compare rfl rfl ⟨Nat.le_of_ble_eq_true rfl, Nat.le_of_ble_eq_true rfl⟩ (Nat.le_of_ble_eq_true rfl) dJ10_compareUnsigned_8 ⟨Nat.le_of_ble_eq_true rfl, Nat.le_of_ble_eq_true rfl⟩ (fun rv h1 H1 locs1 hp1 T1 => ?_)
  obtain ⟨rfl, hq1⟩ := hp1
  rw [hq1] at T1
  exact Z _ _ _ _ _ _ dJ10_compareUnsigned_11 ⟨by rw [cmpU], rfl⟩ T1

set_option maxHeartbeats 4000000 in
theorem m_X7_cell {E : GE} {l : Launch} {h : HH} {x : Int32} : MM E l yX7_cell cX7_cell 1 (some .long) ({ frames := 0, cells := 0, slots := 0, locals := 0 } : Room) [.int x] h (fun rv h2 => rv = some (.long (lN (un x))) ∧ h2 = h) := by
  refine hm_l (by decide) (Nat.le_of_ble_eq_true rfl) ?_
  intro p e s m below meth c C hnm Q Z ls T hl
  have hx := C.x
  have hb := C.b
  have hl : lv_has ls 1 [(0, .int x)] := hl
  refine lv_iload_n hx hb dX7_cell_0 rfl (lv_at hl 0 rfl) ?_
  refine lv_i2l (v := x.toInt64) hx hb dX7_cell_1 rfl ?_
  refine lv_ldc2 (v := lN 4294967295) hx hb C.ow (C.ts _ q781) dX7_cell_2 ?_
  refine lv_land hx hb dX7_cell_5 ?_
  rw [show x.toInt64 &&& (lN 4294967295) = lN (un x) from cell_l x]
  exact Z _ _ _ _ _ _ dX7_cell_6 ⟨rfl, rfl⟩ T

set_option maxHeartbeats 4000000 in
theorem m_X7_trim {E : GE} {l : Launch} {h : HH} {b ca n cap : Nat} {f : Nat → Int32} (hB : BigC E h b ca n cap f) : MM E l yX7_trim cX7_trim 1 none ({ frames := 0, cells := 0, slots := 0, locals := 0 } : Room) [.ref b] h (fun rv h2 => rv = none ∧ ∃ k, k ≤ n ∧ BigC E h2 b ca k cap f ∧ Fr (· = b) h h2 ∧ (∀ i, k ≤ i → i < n → f i = 0) ∧ (k = 0 ∨ f (k - 1) ≠ 0)) := by
  refine hm_v (by decide) (Nat.le_of_ble_eq_true rfl) ?_
  intro p e s m below meth c C hnm Q Z ls T hl
  have hx := C.x
  have hb := C.b
  have hl : lv_has ls 1 [(0, .ref b)] := hl
  obtain ⟨hbo, hba, hbn, hb8, hbc⟩ := hB
  have L1 : ∀ (j : Nat) (k : Nat) (h2 : HH) (H2 : Heap) (locs2 : List Loc) (ls2 : Array Slot), (k < j) → (h2 b = some (.inr (1, [.ref ca, .int (nI k)]), b)) → (h2 ca = some (.inl (E.2.1 0, cap, .inl f), b)) → (k ≤ n) → (∀ i, k ≤ i → i < n → f i = 0) → (Fr (· = b) h h2) → (St E s h2 H2 locs2) → (lv_has ls2 1 [(0, .ref b)]) → W p l e ({ frames := 0, cells := 0, slots := 0, locals := 0 } : Room) s m ([.ref b] : List Value).toArray below meth c H2 locs2 0 0 Q (F0 m 0 ls2 []) := by
    intro j
    induction j with
    | zero => intro k h2 H2 locs2 ls2 hm2 ho_2 ha_2 hk hz hF T2 hl2; exact absurd hm2 (by omega)
    | succ j ih =>
      intro k h2 H2 locs2 ls2 hm2 ho_2 ha_2 hk hz hF T2 hl2
      refine lv_aload_n hx hb dX7_trim_0 rfl (lv_at hl2 0 rfl) ?_
      refine hr_get C T2 ho_2 rfl in_X7 1 (by decide) q172 rfl rfl dX7_trim_1 ?_
      refine hn_if_le (tgt := 34) hx hb dX7_trim_4 (by decide) (by omega) (fun c1 => ?_) (fun c1 => ?_)
      · exact Z _ _ _ _ _ dX7_trim_34 ⟨rfl, k, hk, ⟨ho_2, ha_2, by omega, by omega, by omega⟩, hF, hz, Or.inl c1⟩ T2
      · refine lv_aload_n hx hb dX7_trim_7 rfl (lv_at hl2 0 rfl) ?_
        refine hr_get C T2 ho_2 rfl in_X7 0 (by decide) q170 rfl rfl dX7_trim_8 ?_
        refine lv_aload_n hx hb dX7_trim_11 rfl (lv_at hl2 0 rfl) ?_
        refine hr_get C T2 ho_2 rfl in_X7 1 (by decide) q172 rfl rfl dX7_trim_12 ?_
        refine lv_iconst (v := nI 1) hx hb dX7_trim_15 rfl ?_
        refine hn_isub hx hb dX7_trim_16 (by omega) ?_
        refine hr_iald C T2 ha_2 (by omega) (by omega) dX7_trim_17 ?_
        refine lv_if_ne (tgt := 34) hx hb dX7_trim_18 (by decide) (fun c2 => ?_) (fun c2 => ?_)
        · exact Z _ _ _ _ _ dX7_trim_34 ⟨rfl, k, hk, ⟨ho_2, ha_2, by omega, by omega, by omega⟩, hF, hz, Or.inr c2⟩ T2
        · refine lv_aload_n hx hb dX7_trim_21 rfl (lv_at hl2 0 rfl) ?_
          refine lv_dup hx hb dX7_trim_22 rfl ?_
          refine hr_get C T2 ho_2 rfl in_X7 1 (by decide) q172 rfl rfl dX7_trim_23 ?_
          refine lv_iconst (v := nI 1) hx hb dX7_trim_26 rfl ?_
          refine hn_isub hx hb dX7_trim_27 (by omega) ?_
          refine hr_put C T2 ho_2 rfl in_X7 tyX7 tyX7_ok nmX7 1 (by decide) q172 rfl rfl rfl rfl (Nat.le_of_ble_eq_true rfl) dX7_trim_28 (fun h3 H3 locs3 eh3 T3 => ?_)
          have ho_3 : h3 b = some (.inr (1, [.ref ca, .int (nI (k - 1))]), b) := hu_s eh3
          have ha_3 : h3 ca = some (.inl (E.2.1 0, cap, .inl f), b) := hu_n eh3 (hne_of ha_2 ho_2 (fun z => by cases z)) ha_2
          have hF_3 : Fr (· = b) h h3 := hu_f eh3 hF ho_2 rfl
          refine lv_goto (tgt := 0) hx hb dX7_trim_31 (by decide) ?_
          exact ih (k - 1) _ _ _ _ (by omega) ho_3 ha_3 (by omega) (fun i h1 h2 => by rcases Nat.lt_or_ge i k with h3 | h3; exact (show i = k - 1 by omega) ▸ c2; exact hz i h3 h2) hF_3 T3 (lv_sub hl2 [0] rfl)
  exact L1 (n + 1) n _ _ _ _ (by omega) hbo hba (Nat.le_refl _) (fun i h1 h2 => absurd h1 (by omega)) Fr.rf T (lv_sub hl [0] rfl)

set_option maxHeartbeats 4000000 in
theorem m_X7_reserve0 {E : GE} {l : Launch} {h : HH} {b ca n cap mm : Nat} {f : Nat → Int32} (hB : BigC E h b ca n cap f) (hm : mm ≤ cap) : MM E l yX7_reserve cX7_reserve 3 none ({ frames := 1, cells := 0, slots := 0, locals := 150 } : Room) [.ref b, .int (nI mm)] h (fun rv h2 => rv = none ∧ h2 = h) := by
  refine hm_v (by decide) (Nat.le_of_ble_eq_true rfl) ?_
  intro p e s m below meth c C hnm Q Z ls T hl
  have hx := C.x
  have hb := C.b
  have hl : lv_has ls 3 [(0, .ref b), (1, .int (nI mm))] := hl
  obtain ⟨hbo, hba, hbn, hb8, hbc⟩ := hB
  refine lv_iload_n hx hb dX7_reserve_0 rfl (lv_at hl 1 rfl) ?_
  refine lv_aload_n hx hb dX7_reserve_1 rfl (lv_at hl 0 rfl) ?_
  refine hr_get C T hbo rfl in_X7 0 (by decide) q170 rfl rfl dX7_reserve_2 ?_
  refine hr_alenN C T 0 hba rfl dX7_reserve_5 ?_
  refine hn_icmp_gt (tgt := 10) hx hb dX7_reserve_6 (by decide) (by omega) (by omega) (fun c1 => absurd c1 (by omega)) (fun c1 => ?_)
  exact Z _ _ _ _ _ dX7_reserve_9 ⟨rfl, rfl⟩ T

set_option maxHeartbeats 4000000 in
theorem m_X7_reserve {E : GE} {l : Launch} {h : HH} {b ca n cap mm : Nat} {f : Nat → Int32} (hB : BigC E h b ca n cap f) (hm : mm ≤ 128) : MG E l yX7_reserve cX7_reserve 3 none ({ frames := 1, cells := gc cap mm, slots := gs cap mm, locals := 150 } : Room) [.ref b, .int (nI mm)] h (fun rv h2 dc ds => rv = none ∧ ∃ ca' f', BigC E h2 b ca' n (capr cap mm) f' ∧ (∀ i, i < n → f' i = f i) ∧ Fr (· = b) h h2 ∧ dc = gc cap mm ∧ ds = gs cap mm) := by
  refine hn_v (by decide) (Nat.le_of_ble_eq_true rfl) ?_
  intro p e s m below meth c C hnm Q Z ls T hl
  have hx := C.x
  have hb := C.b
  have hl : lv_has ls 3 [(0, .ref b), (1, .int (nI mm))] := hl
  obtain ⟨hbo, hba, hbn, hb8, hbc⟩ := hB
  have hF : Fr (· = b) h h := Fr.rf
  refine lv_iload_n hx hb dX7_reserve_0 rfl (lv_at hl 1 rfl) ?_
  refine lv_aload_n hx hb dX7_reserve_1 rfl (lv_at hl 0 rfl) ?_
  refine hr_get C T hbo rfl in_X7 0 (by decide) q170 rfl rfl dX7_reserve_2 ?_
  refine hr_alenN C T 0 hba rfl dX7_reserve_5 ?_
  refine hn_icmp_gt (tgt := 10) hx hb dX7_reserve_6 (by decide) (by omega) (by omega) (fun c1 => ?_) (fun c1 => ?_)
  · have cn : ¬ mm ≤ cap := by omega
    refine lv_iload_n hx hb dX7_reserve_10 rfl (lv_at hl 1 rfl) ?_
    refine lv_iconst (v := nI 2) hx hb dX7_reserve_11 rfl ?_
    refine lv_aload_n hx hb dX7_reserve_12 rfl (lv_at hl 0 rfl) ?_
    refine hr_get C T hbo rfl in_X7 0 (by decide) q170 rfl rfl dX7_reserve_13 ?_
    refine hr_alenN C T 0 hba rfl dX7_reserve_16 ?_
    refine hn_imul hx hb dX7_reserve_17 ?_
    refine hn_mmax C hl.1 q279 (by omega) (by omega) (Nat.le_of_ble_eq_true rfl) (Nat.le_of_ble_eq_true rfl) (Nat.zero_le _) (Nat.zero_le _) dX7_reserve_18 ?_
    refine hr_newa C T b 0 (atype := .int) q103 (ty := .int) rfl rfl (N := max mm (2 * cap)) (a0 := (max mm (2 * cap), (.inl (fun _ => 0)))) (fun cA => rfl) (by omega) (by show 0 + 1 ≤ gc cap mm; rw [gc_n cn]; omega) (by show 0 + max mm (2 * cap) ≤ gs cap mm; rw [gs_n cn]; omega) dX7_reserve_21 (fun h4 q4_ H4 hf4 eh4 T4 => ?_)
    have hbo_4 : h4 b = some (.inr (1, [.ref ca, .int (nI n)]), b) := hu_w eh4 hf4 hbo
    have hba_4 : h4 ca = some (.inl (E.2.1 0, cap, .inl f), b) := hu_w eh4 hf4 hba
    have hq_4 : h4 q4_ = some (.inl (E.2.1 0, (max mm (2 * cap)), .inl (fun _ => 0)), b) := hu_s eh4
    have hF_4 : Fr (· = b) h h4 := hu_fn eh4 hF hf4
    refine lv_astore_n (lv' := [(2, .ref q4_), (0, .ref b), (1, .int (nI mm))]) hx hb dX7_reserve_23 rfl hl (by decide) rfl (fun ls5 hl5 => ?_)
    refine lv_aload_n hx hb dX7_reserve_24 rfl (lv_at hl5 1 rfl) ?_
    refine hr_get C T4 hbo_4 rfl in_X7 0 (by decide) q170 rfl rfl dX7_reserve_25 ?_
    refine lv_iconst (v := nI 0) hx hb dX7_reserve_28 rfl ?_
    refine lv_aload_n hx hb dX7_reserve_29 rfl (lv_at hl5 0 rfl) ?_
    refine lv_iconst (v := nI 0) hx hb dX7_reserve_30 rfl ?_
    refine lv_aload_n hx hb dX7_reserve_31 rfl (lv_at hl5 1 rfl) ?_
    refine hr_get C T4 hbo_4 rfl in_X7 1 (by decide) q172 rfl rfl dX7_reserve_32 ?_
    refine hr_copy C T4 hl5.1 q282 q284 q283 q63 hba_4 hq_4 (by omega) (by omega) (by omega) (Nat.le_of_ble_eq_true rfl) (Nat.le_of_ble_eq_true rfl) dX7_reserve_35 (fun h6 H6 locs6 eh6 T6 => ?_)
    have hbo_6 : h6 b = some (.inr (1, [.ref ca, .int (nI n)]), b) := hu_n eh6 (hne_new hbo hf4) hbo_4
    have hba_6 : h6 ca = some (.inl (E.2.1 0, cap, .inl f), b) := hu_n eh6 (hne_new hba hf4) hba_4
    have hq_6 : h6 q4_ = some (.inl (E.2.1 0, max mm (2 * cap), .inl (va_cpy f (fun _ => 0) 0 0 n)), b) := hu_s eh6
    have hF_6 : Fr (· = b) h h6 := hu_f eh6 hF_4 hq_4 rfl
    refine lv_aload_n hx hb dX7_reserve_38 rfl (lv_at hl5 1 rfl) ?_
    refine lv_aload_n hx hb dX7_reserve_39 rfl (lv_at hl5 0 rfl) ?_
    refine hr_put C T6 hbo_6 rfl in_X7 tyX7 tyX7_ok nmX7 0 (by decide) q170 rfl rfl rfl rfl (Nat.le_of_ble_eq_true rfl) dX7_reserve_40 (fun h7 H7 locs7 eh7 T7 => ?_)
    have hbo_7 : h7 b = some (.inr (1, [.ref q4_, .int (nI n)]), b) := hu_s eh7
    have hba_7 : h7 ca = some (.inl (E.2.1 0, cap, .inl f), b) := hu_n eh7 (hne_of hba_6 hbo_6 (fun z => by cases z)) hba_6
    have hq_7 : h7 q4_ = some (.inl (E.2.1 0, max mm (2 * cap), .inl (va_cpy f (fun _ => 0) 0 0 n)), b) := hu_n eh7 (Ne.symm (hne_new hbo hf4)) hq_6
    have hF_7 : Fr (· = b) h h7 := hu_f eh7 hF_6 hbo_6 rfl
    exact Z _ _ _ _ _ _ _ dX7_reserve_43 (by show 0 + 1 ≤ gc cap mm; rw [gc_n cn]; omega) (by show 0 + max mm (2 * cap) ≤ gs cap mm; rw [gs_n cn]; omega) ⟨rfl, _, _, ⟨hbo_7, by rw [capr_n cn]; exact hq_7, by have := capr_ge cap mm; omega, by have := capr_ge cap mm; omega, capr_le hbc hm⟩, fun i hi => pk_cpy_in (Nat.zero_le i) (by omega) |>.trans (by rw [Nat.zero_add, Nat.sub_zero]), hF_7, by rw [gc_n cn], by rw [gs_n cn]; omega⟩ T7
  · exact Z _ _ _ _ _ _ _ dX7_reserve_9 (Nat.zero_le _) (Nat.zero_le _) ⟨rfl, ca, f, by rw [capr_y c1]; exact ⟨hbo, hba, hbn, hb8, hbc⟩, fun _ _ => rfl, Fr.rf, (gc_y c1).symm, (gs_y c1).symm⟩ T
