set_option maxRecDepth 100000
theorem dfX7 : ∀ j, j < 2 → defaultValue (tyX7 j) = vp_V [.null, .int 0] j := by
  intro j hj
  match j, hj with
  | 0, _ => rfl
  | 1, _ => rfl
  | j + 2, h => exact absurd h (by omega)

theorem dfX2 : ∀ j, j < 3 → defaultValue (tyX2 j) = vp_V [.null, .int 0, .int 0] j := by
  intro j hj
  match j, hj with
  | 0, _ => rfl
  | 1, _ => rfl
  | 2, _ => rfl
  | j + 3, h => exact absurd h (by omega)

theorem dfX3 : ∀ j, j < 3 → defaultValue (tyX3 j) = vp_V [.null, .int 0, .null] j := by
  intro j hj
  match j, hj with
  | 0, _ => rfl
  | 1, _ => rfl
  | 2, _ => rfl
  | j + 3, h => exact absurd h (by omega)

theorem dfX4 : ∀ j, j < 5 → defaultValue (tyX4 j) = vp_V [.null, .null, .null, .null, .int 0] j := by
  intro j hj
  match j, hj with
  | 0, _ => rfl
  | 1, _ => rfl
  | 2, _ => rfl
  | 3, _ => rfl
  | 4, _ => rfl
  | j + 5, h => exact absurd h (by omega)

theorem dfX5 : ∀ j, j < 1 → defaultValue (tyX5 j) = vp_V [.null] j := by
  intro j hj
  match j, hj with
  | 0, _ => rfl
  | j + 1, h => exact absurd h (by omega)

theorem dfX6 : ∀ j, j < 3 → defaultValue (tyX6 j) = vp_V [.null, .null, .null] j := by
  intro j hj
  match j, hj with
  | 0, _ => rfl
  | 1, _ => rfl
  | 2, _ => rfl
  | j + 3, h => exact absurd h (by omega)

theorem dfX8 : ∀ j, j < 11 → defaultValue (tyX8 j) = vp_V [.null, .null, .null, .null, .null, .null, .null, .null, .null, .null, .null] j := by
  intro j hj
  match j, hj with
  | 0, _ => rfl
  | 1, _ => rfl
  | 2, _ => rfl
  | 3, _ => rfl
  | 4, _ => rfl
  | 5, _ => rfl
  | 6, _ => rfl
  | 7, _ => rfl
  | 8, _ => rfl
  | 9, _ => rfl
  | 10, _ => rfl
  | j + 11, h => exact absurd h (by omega)

theorem dfX9 : ∀ j, j < 5 → defaultValue (tyX9 j) = vp_V [.int 0, .int 0, .int 0, .null, .null] j := by
  intro j hj
  match j, hj with
  | 0, _ => rfl
  | 1, _ => rfl
  | 2, _ => rfl
  | 3, _ => rfl
  | 4, _ => rfl
  | j + 5, h => exact absurd h (by omega)

theorem dfX1 : ∀ j, j < 41 → defaultValue (tyX1 j) = vp_V [.null, .int 0, .null, .int 0, .int 0, .int 0, .int 0, .int 0, .int 0, .int 0, .int 0, .null, .null, .null, .null, .null, .null, .int 0, .int 0, .int 0, .int 0, .int 0, .int 0, .null, .int 0, .null, .null, .null, .null, .null, .null, .null, .null, .null, .null, .null, .null, .null, .null, .null, .null] j := by
  intro j hj
  match j, hj with
  | 0, _ => rfl
  | 1, _ => rfl
  | 2, _ => rfl
  | 3, _ => rfl
  | 4, _ => rfl
  | 5, _ => rfl
  | 6, _ => rfl
  | 7, _ => rfl
  | 8, _ => rfl
  | 9, _ => rfl
  | 10, _ => rfl
  | 11, _ => rfl
  | 12, _ => rfl
  | 13, _ => rfl
  | 14, _ => rfl
  | 15, _ => rfl
  | 16, _ => rfl
  | 17, _ => rfl
  | 18, _ => rfl
  | 19, _ => rfl
  | 20, _ => rfl
  | 21, _ => rfl
  | 22, _ => rfl
  | 23, _ => rfl
  | 24, _ => rfl
  | 25, _ => rfl
  | 26, _ => rfl
  | 27, _ => rfl
  | 28, _ => rfl
  | 29, _ => rfl
  | 30, _ => rfl
  | 31, _ => rfl
  | 32, _ => rfl
  | 33, _ => rfl
  | 34, _ => rfl
  | 35, _ => rfl
  | 36, _ => rfl
  | 37, _ => rfl
  | 38, _ => rfl
  | 39, _ => rfl
  | 40, _ => rfl
  | j + 41, h => exact absurd h (by omega)

theorem kd_X2_init : yX2_init.cls ≠ "java/lang/invoke/MethodHandle" ∧ yX2_init.cls ≠ "java/lang/invoke/VarHandle" ∧ (parseMethodDescriptor yX2_init.desc).map (fun d => d.parameters.length) = some 0 := by decide +kernel
theorem kd_X3_init : yX3_init.cls ≠ "java/lang/invoke/MethodHandle" ∧ yX3_init.cls ≠ "java/lang/invoke/VarHandle" ∧ (parseMethodDescriptor yX3_init.desc).map (fun d => d.parameters.length) = some 0 := by decide +kernel
theorem kd_X4_init : yX4_init.cls ≠ "java/lang/invoke/MethodHandle" ∧ yX4_init.cls ≠ "java/lang/invoke/VarHandle" ∧ (parseMethodDescriptor yX4_init.desc).map (fun d => d.parameters.length) = some 0 := by decide +kernel
theorem kd_X5_init : yX5_init.cls ≠ "java/lang/invoke/MethodHandle" ∧ yX5_init.cls ≠ "java/lang/invoke/VarHandle" ∧ (parseMethodDescriptor yX5_init.desc).map (fun d => d.parameters.length) = some 1 := by decide +kernel
theorem kd_X6_init : yX6_init.cls ≠ "java/lang/invoke/MethodHandle" ∧ yX6_init.cls ≠ "java/lang/invoke/VarHandle" ∧ (parseMethodDescriptor yX6_init.desc).map (fun d => d.parameters.length) = some 1 := by decide +kernel
theorem kd_X8_init : yX8_init.cls ≠ "java/lang/invoke/MethodHandle" ∧ yX8_init.cls ≠ "java/lang/invoke/VarHandle" ∧ (parseMethodDescriptor yX8_init.desc).map (fun d => d.parameters.length) = some 0 := by decide +kernel
theorem kd_X9_init : yX9_init.cls ≠ "java/lang/invoke/MethodHandle" ∧ yX9_init.cls ≠ "java/lang/invoke/VarHandle" ∧ (parseMethodDescriptor yX9_init.desc).map (fun d => d.parameters.length) = some 0 := by decide +kernel

set_option maxHeartbeats 4000000 in
theorem m_X2_init {E : GE} {l : Launch} {h : HH} {b : Nat} (hbo : h b = some (.inr (2, [.null, .int 0, .int 0]), b)) : MG E l yX2_init cX2_init 1 none ({ frames := 1, cells := 1, slots := 4000, locals := 150 } : Room) [.ref b] h (fun rv h2 dc ds => rv = none ∧ ∃ q, h2 b = some (.inr (2, [.ref q, .int 0, .int 0]), b) ∧ h2 q = some (.inl (E.2.1 3, 4000, .inl (fun _ => 0)), b) ∧ FN b h h2 ∧ dc = 1 ∧ ds = 4000) := by
  refine hn_v (by decide) (Nat.le_of_ble_eq_true rfl) ?_
  intro p e s m below meth c C hnm Q Z ls T hl
  have hx := C.x
  have hb := C.b
  have hin : meth.name = "<init>" := hnm
  have hl : lv_has ls 1 [(0, .ref b)] := hl
  have hN : FN b h h := FN.rf
  refine lv_aload_n hx hb dX2_init_0 rfl (lv_at hl 0 rfl) ?_
  refine W.objInit hx hb C.ow (C.ts _ q91) (C.ts _ q82) (C.ts _ q83) rfl (by rw [C.ml]; exact hl.1) rfl dX2_init_1 (Nat.le_of_ble_eq_true rfl) (Nat.le_of_ble_eq_true rfl) ?_
  refine W.eq (g2 := F0 m 4 ls []) rfl ?_
  refine lv_aload_n hx hb dX2_init_4 rfl (lv_at hl 0 rfl) ?_
  refine lv_sipush (v := nI 4000) hx hb dX2_init_5 rfl ?_
  refine hr_newa C T b 3 (atype := .boolean) q106 (ty := .boolean) rfl rfl (N := 4000) (a0 := (4000, (.inl (fun _ => 0)))) (fun cA => rfl) (by omega) (by show 0 + 1 ≤ 1; omega) (by show 0 + 4000 ≤ 4000; omega) dX2_init_8 (fun h9001 q9001_ H9001 hf9001 eh9001 T9001 => ?_)
  have hra_9001 : h9001 q9001_ = some (.inl (E.2.1 3, 4000, .inl (fun _ => 0)), b) := hu_s eh9001
  have hbo_9001 : h9001 b = some (.inr (2, [.null, .int 0, .int 0]), b) := hu_w eh9001 hf9001 hbo
  refine hr_putF C T9001 hin hbo_9001 rfl in_X2 tyX2 tyX2_ok nmX2 0 (by decide) q92 rfl rfl rfl rfl rfl (Nat.le_of_ble_eq_true rfl) dX2_init_10 (fun h9002 H9002 locs9002 eh9002 T9002 => ?_)
  have hbo_9002 : h9002 b = some (.inr (2, [.ref q9001_, .int 0, .int 0]), b) := hu_s eh9002
  have hN_9001 : FN b h h9001 := hN.new hf9001 eh9001
  have hN_9002 : FN b h h9002 := hN_9001.up hbo_9001 eh9002
  have hra_9002 : h9002 q9001_ = some (.inl (E.2.1 3, 4000, .inl (fun _ => 0)), b) := hu_n eh9002 (Ne.symm (hne_new hbo hf9001)) hra_9001
  exact Z _ _ _ _ _ _ _ dX2_init_13 (Nat.le_refl _) (Nat.le_refl _) ⟨rfl, _, hbo_9002, hra_9002, hN_9002, rfl, rfl⟩ T9002

set_option maxHeartbeats 4000000 in
theorem m_X4_init {E : GE} {l : Launch} {h : HH} {b : Nat} (hbo : h b = some (.inr (4, [.null, .null, .null, .null, .int 0]), b)) : MG E l yX4_init cX4_init 1 none ({ frames := 1, cells := 4, slots := 144, locals := 150 } : Room) [.ref b] h (fun rv h2 dc ds => rv = none ∧ ∃ q1 q2 q3 q4, h2 b = some (.inr (4, [.ref q1, .ref q2, .ref q3, .ref q4, .int 0]), b) ∧ h2 q1 = some (.inl (E.2.1 0, 8, .inl (fun _ => 0)), b) ∧ h2 q2 = some (.inl (E.2.1 0, 8, .inl (fun _ => 0)), b) ∧ h2 q3 = some (.inl (E.2.1 0, 64, .inl (fun _ => 0)), b) ∧ h2 q4 = some (.inl (E.2.1 1, 64, .inl (fun _ => 0)), b) ∧ (q1 ≠ q2 ∧ q1 ≠ q3 ∧ q1 ≠ q4 ∧ q2 ≠ q3 ∧ q2 ≠ q4 ∧ q3 ≠ q4) ∧ FN b h h2 ∧ dc = 4 ∧ ds = 144) := by
  refine hn_v (by decide) (Nat.le_of_ble_eq_true rfl) ?_
  intro p e s m below meth c C hnm Q Z ls T hl
  have hx := C.x
  have hb := C.b
  have hin : meth.name = "<init>" := hnm
  have hl : lv_has ls 1 [(0, .ref b)] := hl
  have hN : FN b h h := FN.rf
  refine lv_aload_n hx hb dX4_init_0 rfl (lv_at hl 0 rfl) ?_
  refine W.objInit hx hb C.ow (C.ts _ q118) (C.ts _ q82) (C.ts _ q83) rfl (by rw [C.ml]; exact hl.1) rfl dX4_init_1 (Nat.le_of_ble_eq_true rfl) (Nat.le_of_ble_eq_true rfl) ?_
  refine W.eq (g2 := F0 m 4 ls []) rfl ?_
  refine lv_aload_n hx hb dX4_init_4 rfl (lv_at hl 0 rfl) ?_
  refine lv_bipush (v := nI 8) hx hb dX4_init_5 rfl ?_
  refine hr_newa C T b 0 (atype := .int) q103 (ty := .int) rfl rfl (N := 8) (a0 := (8, (.inl (fun _ => 0)))) (fun cA => rfl) (by omega) (by show 0 + 1 ≤ 4; omega) (by show 0 + 8 ≤ 144; omega) dX4_init_7 (fun h9003 q9003_ H9003 hf9003 eh9003 T9003 => ?_)
  have hs1_9003 : h9003 q9003_ = some (.inl (E.2.1 0, 8, .inl (fun _ => 0)), b) := hu_s eh9003
  have hbo_9003 : h9003 b = some (.inr (4, [.null, .null, .null, .null, .int 0]), b) := hu_w eh9003 hf9003 hbo
  refine hr_putF C T9003 hin hbo_9003 rfl in_X4 tyX4 tyX4_ok nmX4 0 (by decide) q119 rfl rfl rfl rfl rfl (Nat.le_of_ble_eq_true rfl) dX4_init_9 (fun h9004 H9004 locs9004 eh9004 T9004 => ?_)
  have hbo_9004 : h9004 b = some (.inr (4, [.ref q9003_, .null, .null, .null, .int 0]), b) := hu_s eh9004
  refine lv_aload_n hx hb dX4_init_12 rfl (lv_at hl 0 rfl) ?_
  refine lv_bipush (v := nI 8) hx hb dX4_init_13 rfl ?_
  refine hr_newa C T9004 b 0 (atype := .int) q103 (ty := .int) rfl rfl (N := 8) (a0 := (8, (.inl (fun _ => 0)))) (fun cA => rfl) (by omega) (by show 0 + 1 + 1 ≤ 4; omega) (by show 0 + 8 + 8 ≤ 144; omega) dX4_init_15 (fun h9005 q9005_ H9005 hf9005 eh9005 T9005 => ?_)
  have hs1_9004 : h9004 q9003_ = some (.inl (E.2.1 0, 8, .inl (fun _ => 0)), b) := hu_n eh9004 (Ne.symm (hne_new hbo hf9003)) hs1_9003
  have hs2_9005 : h9005 q9005_ = some (.inl (E.2.1 0, 8, .inl (fun _ => 0)), b) := hu_s eh9005
  have hbo_9005 : h9005 b = some (.inr (4, [.ref q9003_, .null, .null, .null, .int 0]), b) := hu_w eh9005 hf9005 hbo_9004
  refine hr_putF C T9005 hin hbo_9005 rfl in_X4 tyX4 tyX4_ok nmX4 1 (by decide) q120 rfl rfl rfl rfl rfl (Nat.le_of_ble_eq_true rfl) dX4_init_17 (fun h9006 H9006 locs9006 eh9006 T9006 => ?_)
  have hbo_9006 : h9006 b = some (.inr (4, [.ref q9003_, .ref q9005_, .null, .null, .int 0]), b) := hu_s eh9006
  refine lv_aload_n hx hb dX4_init_20 rfl (lv_at hl 0 rfl) ?_
  refine lv_bipush (v := nI 64) hx hb dX4_init_21 rfl ?_
  refine hr_newa C T9006 b 0 (atype := .int) q103 (ty := .int) rfl rfl (N := 64) (a0 := (64, (.inl (fun _ => 0)))) (fun cA => rfl) (by omega) (by show 0 + 1 + 1 + 1 ≤ 4; omega) (by show 0 + 8 + 8 + 64 ≤ 144; omega) dX4_init_23 (fun h9007 q9007_ H9007 hf9007 eh9007 T9007 => ?_)
  have hs1_9005 : h9005 q9003_ = some (.inl (E.2.1 0, 8, .inl (fun _ => 0)), b) := hu_w eh9005 hf9005 hs1_9004
  have hs1_9006 : h9006 q9003_ = some (.inl (E.2.1 0, 8, .inl (fun _ => 0)), b) := hu_n eh9006 (Ne.symm (hne_new hbo hf9003)) hs1_9005
  have hs2_9006 : h9006 q9005_ = some (.inl (E.2.1 0, 8, .inl (fun _ => 0)), b) := hu_n eh9006 (Ne.symm (hne_new hbo_9004 hf9005)) hs2_9005
  have hs3_9007 : h9007 q9007_ = some (.inl (E.2.1 0, 64, .inl (fun _ => 0)), b) := hu_s eh9007
  have hbo_9007 : h9007 b = some (.inr (4, [.ref q9003_, .ref q9005_, .null, .null, .int 0]), b) := hu_w eh9007 hf9007 hbo_9006
  refine hr_putF C T9007 hin hbo_9007 rfl in_X4 tyX4 tyX4_ok nmX4 2 (by decide) q121 rfl rfl rfl rfl rfl (Nat.le_of_ble_eq_true rfl) dX4_init_25 (fun h9008 H9008 locs9008 eh9008 T9008 => ?_)
  have hbo_9008 : h9008 b = some (.inr (4, [.ref q9003_, .ref q9005_, .ref q9007_, .null, .int 0]), b) := hu_s eh9008
  refine lv_aload_n hx hb dX4_init_28 rfl (lv_at hl 0 rfl) ?_
  refine lv_bipush (v := nI 64) hx hb dX4_init_29 rfl ?_
  refine hr_newa C T9008 b 1 (atype := .byte) q104 (ty := .byte) rfl rfl (N := 64) (a0 := (64, (.inl (fun _ => 0)))) (fun cA => rfl) (by omega) (by show 0 + 1 + 1 + 1 + 1 ≤ 4; omega) (by show 0 + 8 + 8 + 64 + 64 ≤ 144; omega) dX4_init_31 (fun h9009 q9009_ H9009 hf9009 eh9009 T9009 => ?_)
  have hs1_9007 : h9007 q9003_ = some (.inl (E.2.1 0, 8, .inl (fun _ => 0)), b) := hu_w eh9007 hf9007 hs1_9006
  have hs1_9008 : h9008 q9003_ = some (.inl (E.2.1 0, 8, .inl (fun _ => 0)), b) := hu_n eh9008 (Ne.symm (hne_new hbo hf9003)) hs1_9007
  have hs2_9007 : h9007 q9005_ = some (.inl (E.2.1 0, 8, .inl (fun _ => 0)), b) := hu_w eh9007 hf9007 hs2_9006
  have hs2_9008 : h9008 q9005_ = some (.inl (E.2.1 0, 8, .inl (fun _ => 0)), b) := hu_n eh9008 (Ne.symm (hne_new hbo_9004 hf9005)) hs2_9007
  have hs3_9008 : h9008 q9007_ = some (.inl (E.2.1 0, 64, .inl (fun _ => 0)), b) := hu_n eh9008 (Ne.symm (hne_new hbo_9006 hf9007)) hs3_9007
  have hs4_9009 : h9009 q9009_ = some (.inl (E.2.1 1, 64, .inl (fun _ => 0)), b) := hu_s eh9009
  have hbo_9009 : h9009 b = some (.inr (4, [.ref q9003_, .ref q9005_, .ref q9007_, .null, .int 0]), b) := hu_w eh9009 hf9009 hbo_9008
  refine hr_putF C T9009 hin hbo_9009 rfl in_X4 tyX4 tyX4_ok nmX4 3 (by decide) q122 rfl rfl rfl rfl rfl (Nat.le_of_ble_eq_true rfl) dX4_init_33 (fun h9010 H9010 locs9010 eh9010 T9010 => ?_)
  have hbo_9010 : h9010 b = some (.inr (4, [.ref q9003_, .ref q9005_, .ref q9007_, .ref q9009_, .int 0]), b) := hu_s eh9010
  have hN_9003 : FN b h h9003 := hN.new hf9003 eh9003
  have hN_9004 : FN b h h9004 := hN_9003.up hbo_9003 eh9004
  have hN_9005 : FN b h h9005 := hN_9004.new hf9005 eh9005
  have hN_9006 : FN b h h9006 := hN_9005.up hbo_9005 eh9006
  have hN_9007 : FN b h h9007 := hN_9006.new hf9007 eh9007
  have hN_9008 : FN b h h9008 := hN_9007.up hbo_9007 eh9008
  have hN_9009 : FN b h h9009 := hN_9008.new hf9009 eh9009
  have hN_9010 : FN b h h9010 := hN_9009.up hbo_9009 eh9010
  have hs1_9009 : h9009 q9003_ = some (.inl (E.2.1 0, 8, .inl (fun _ => 0)), b) := hu_w eh9009 hf9009 hs1_9008
  have hs1_9010 : h9010 q9003_ = some (.inl (E.2.1 0, 8, .inl (fun _ => 0)), b) := hu_n eh9010 (Ne.symm (hne_new hbo hf9003)) hs1_9009
  have hs2_9009 : h9009 q9005_ = some (.inl (E.2.1 0, 8, .inl (fun _ => 0)), b) := hu_w eh9009 hf9009 hs2_9008
  have hs2_9010 : h9010 q9005_ = some (.inl (E.2.1 0, 8, .inl (fun _ => 0)), b) := hu_n eh9010 (Ne.symm (hne_new hbo_9004 hf9005)) hs2_9009
  have hs3_9009 : h9009 q9007_ = some (.inl (E.2.1 0, 64, .inl (fun _ => 0)), b) := hu_w eh9009 hf9009 hs3_9008
  have hs3_9010 : h9010 q9007_ = some (.inl (E.2.1 0, 64, .inl (fun _ => 0)), b) := hu_n eh9010 (Ne.symm (hne_new hbo_9006 hf9007)) hs3_9009
  have hs4_9010 : h9010 q9009_ = some (.inl (E.2.1 1, 64, .inl (fun _ => 0)), b) := hu_n eh9010 (Ne.symm (hne_new hbo_9008 hf9009)) hs4_9009
  exact Z _ _ _ _ _ _ _ dX4_init_36 (Nat.le_refl _) (Nat.le_refl _) ⟨rfl, _, _, _, _, hbo_9010, hs1_9010, hs2_9010, hs3_9010, hs4_9010, ⟨(hne_new hs1_9004 hf9005), (hne_new hs1_9006 hf9007), (hne_new hs1_9008 hf9009), (hne_new hs2_9006 hf9007), (hne_new hs2_9008 hf9009), (hne_new hs3_9008 hf9009)⟩, hN_9010, rfl, rfl⟩ T9010

set_option maxHeartbeats 4000000 in
theorem m_X5_init {E : GE} {l : Launch} {h : HH} {b a : Nat} (hbo : h b = some (.inr (5, [.null]), b)) : MM E l yX5_init cX5_init 2 none ({ frames := 1, cells := 0, slots := 0, locals := 150 } : Room) [.ref b, .ref a] h (fun rv h2 => rv = none ∧ h2 b = some (.inr (5, [.ref a]), b) ∧ FN b h h2) := by
  refine hm_v (by decide) (Nat.le_of_ble_eq_true rfl) ?_
  intro p e s m below meth c C hnm Q Z ls T hl
  have hx := C.x
  have hb := C.b
  have hin : meth.name = "<init>" := hnm
  have hl : lv_has ls 2 [(0, .ref b), (1, .ref a)] := hl
  have hN : FN b h h := FN.rf
  refine lv_aload_n hx hb dX5_init_0 rfl (lv_at hl 0 rfl) ?_
  refine W.objInit hx hb C.ow (C.ts _ q153) (C.ts _ q82) (C.ts _ q83) rfl (by rw [C.ml]; exact hl.1) rfl dX5_init_1 (Nat.le_of_ble_eq_true rfl) (Nat.le_of_ble_eq_true rfl) ?_
  refine W.eq (g2 := F0 m 4 ls []) rfl ?_
  refine lv_aload_n hx hb dX5_init_4 rfl (lv_at hl 0 rfl) ?_
  refine lv_aload_n hx hb dX5_init_5 rfl (lv_at hl 1 rfl) ?_
  refine hr_putF C T hin hbo rfl in_X5 tyX5 tyX5_ok nmX5 0 (by decide) q154 rfl rfl rfl rfl rfl (Nat.le_of_ble_eq_true rfl) dX5_init_6 (fun h9011 H9011 locs9011 eh9011 T9011 => ?_)
  have hbo_9011 : h9011 b = some (.inr (5, [.ref a]), b) := hu_s eh9011
  have hN_9011 : FN b h h9011 := hN.up hbo eh9011
  exact Z _ _ _ _ _ dX5_init_9 ⟨rfl, hbo_9011, hN_9011⟩ T9011

set_option maxHeartbeats 4000000 in
theorem m_X9_init {E : GE} {l : Launch} {h : HH} {b n : Nat} {Bq cq : Nat → Nat} (hQ : PB E h Bq cq n)  (hbo : h b = some (.inr (8, [.int 0, .int 0, .int 0, .null, .null]), b)) : MG E l yX9_init cX9_init 1 none ({ frames := 2, cells := 4, slots := 132, locals := 300 } : Room) [.ref b] h (fun rv h2 dc ds => rv = none ∧ ∃ B2 c2, PB E h2 B2 c2 (n + 2) ∧ (∀ i, i < n → B2 i = Bq i ∧ c2 i = cq i) ∧ (∀ i, n ≤ i → i < n + 2 → c2 i = 64) ∧ h2 b = some (.inr (8, [.int 0, .int 0, .int 0, .ref (B2 n), .ref (B2 (n + 1))]), b) ∧ FN b h h2 ∧ dc = 4 ∧ ds = 132) := by
  refine hn_v (by decide) (Nat.le_of_ble_eq_true rfl) ?_
  intro p e s m below meth c C hnm Q Z ls T hl
  have hx := C.x
  have hb := C.b
  have hin : meth.name = "<init>" := hnm
  have hl : lv_has ls 1 [(0, .ref b)] := hl
  have hN : FN b h h := FN.rf
  refine lv_aload_n hx hb dX9_init_0 rfl (lv_at hl 0 rfl) ?_
  refine W.objInit hx hb C.ow (C.ts _ q240) (C.ts _ q82) (C.ts _ q83) rfl (by rw [C.ml]; exact hl.1) rfl dX9_init_1 (Nat.le_of_ble_eq_true rfl) (Nat.le_of_ble_eq_true rfl) ?_
  refine W.eq (g2 := F0 m 4 ls []) rfl ?_
  have hQb : ∀ i, i < n → Bq i ≠ b := hQ.neobj hbo (by decide)
  refine lv_aload_n hx hb dX9_init_4 rfl (lv_at hl 0 rfl) ?_
  refine hr_new C T (fun q => q) (ci := 1) rfl in_X7 tyX7 tyX7_ok q241 q165 q59 (fs := [.null, .int 0]) dfX7 (by show 0 + 1 ≤ 4; omega) (by show 0 + 2 ≤ 132; omega) dX9_init_5 (fun h9012 q9012_ H9012 hf9012 eh9012 T9012 => ?_)
  have hnb_9012 : h9012 q9012_ = some (.inr (1, [.null, .int 0]), q9012_) := hu_s eh9012
  refine lv_dup hx hb dX9_init_8 rfl ?_
  refine lv_bipush (v := nI 64) hx hb dX9_init_9 rfl ?_
  refine hg_I C T9012 hl.1 (m_X7_init hnb_9012 (by decide) (by decide)) q242 q167 q59 q168 rfl kd_X7_init rfl rfl ⟨Nat.le_of_ble_eq_true rfl, Nat.le_of_ble_eq_true rfl⟩ (Nat.le_of_ble_eq_true rfl) dX9_init_11 ⟨by show 0 + 1 + 1 ≤ 4; omega, by show 0 + 2 + 64 ≤ 132; omega⟩ (fun rv h9013 dc9013 ds9013 H9013 locs9013 hp9013 T9013 => ?_)
  obtain ⟨rfl, hbg9013, hF9013, rfl, rfl⟩ := hp9013
  have hQ9013 := hQ.add hf9012 eh9012 hF9013 hbg9013
  have hN_9013 : FN b h h9013 := hN.nest hf9012 eh9012 hF9013.fn
  refine W.eq (g2 := F0 m 14 ls [.ref q9012_, .ref b]) rfl ?_
  have hbo_9012 : h9012 b = some (.inr (8, [.int 0, .int 0, .int 0, .null, .null]), b) := hu_w eh9012 hf9012 hbo
  have hbo_9013 : h9013 b = some (.inr (8, [.int 0, .int 0, .int 0, .null, .null]), b) := hF9013 _ _ hbo_9012 (hne_new hbo hf9012)
  refine hr_putF C T9013 hin hbo_9013 rfl in_X9 tyX9 tyX9_ok nmX9 3 (by decide) q252 rfl rfl rfl rfl rfl (Nat.le_of_ble_eq_true rfl) dX9_init_14 (fun h9014 H9014 locs9014 eh9014 T9014 => ?_)
  have hbo_9014 : h9014 b = some (.inr (8, [.int 0, .int 0, .int 0, .ref q9012_, .null]), b) := hu_s eh9014
  refine lv_aload_n hx hb dX9_init_17 rfl (lv_at hl 0 rfl) ?_
  have hQ9013_9014 : PB E h9014 (nu Bq n q9012_) (nu cq n 64) (n + 1) := PB.kept (O := (· = b)) (hu_f eh9014 Fr.rf hbo_9013 rfl) (hQ9013.neobj hbo_9013 (by decide)) hQ9013
  have hN_9014 : FN b h h9014 := hN_9013.up hbo_9013 eh9014
  refine hr_new C T9014 (fun q => q) (ci := 1) rfl in_X7 tyX7 tyX7_ok q241 q165 q59 (fs := [.null, .int 0]) dfX7 (by show 0 + 1 + 1 + 1 ≤ 4; omega) (by show 0 + 2 + 64 + 2 ≤ 132; omega) dX9_init_18 (fun h9015 q9015_ H9015 hf9015 eh9015 T9015 => ?_)
  have hnb_9015 : h9015 q9015_ = some (.inr (1, [.null, .int 0]), q9015_) := hu_s eh9015
  refine lv_dup hx hb dX9_init_21 rfl ?_
  refine lv_bipush (v := nI 64) hx hb dX9_init_22 rfl ?_
  refine hg_I C T9015 hl.1 (m_X7_init hnb_9015 (by decide) (by decide)) q242 q167 q59 q168 rfl kd_X7_init rfl rfl ⟨Nat.le_of_ble_eq_true rfl, Nat.le_of_ble_eq_true rfl⟩ (Nat.le_of_ble_eq_true rfl) dX9_init_24 ⟨by show 0 + 1 + 1 + 1 + 1 ≤ 4; omega, by show 0 + 2 + 64 + 2 + 64 ≤ 132; omega⟩ (fun rv h9016 dc9016 ds9016 H9016 locs9016 hp9016 T9016 => ?_)
  obtain ⟨rfl, hbg9016, hF9016, rfl, rfl⟩ := hp9016
  have hQ9016 := hQ9013_9014.add hf9015 eh9015 hF9016 hbg9016
  have hN_9016 : FN b h h9016 := hN_9014.nest hf9015 eh9015 hF9016.fn
  refine W.eq (g2 := F0 m 27 ls [.ref q9015_, .ref b]) rfl ?_
  have hbo_9015 : h9015 b = some (.inr (8, [.int 0, .int 0, .int 0, .ref q9012_, .null]), b) := hu_w eh9015 hf9015 hbo_9014
  have hbo_9016 : h9016 b = some (.inr (8, [.int 0, .int 0, .int 0, .ref q9012_, .null]), b) := hF9016 _ _ hbo_9015 (hne_new hbo_9014 hf9015)
  refine hr_putF C T9016 hin hbo_9016 rfl in_X9 tyX9 tyX9_ok nmX9 4 (by decide) q256 rfl rfl rfl rfl rfl (Nat.le_of_ble_eq_true rfl) dX9_init_27 (fun h9017 H9017 locs9017 eh9017 T9017 => ?_)
  have hbo_9017 : h9017 b = some (.inr (8, [.int 0, .int 0, .int 0, .ref q9012_, .ref q9015_]), b) := hu_s eh9017
  have hN_9017 : FN b h h9017 := hN_9016.up hbo_9016 eh9017
  have hQ9016_9017 : PB E h9017 (nu (nu Bq n q9012_) (n + 1) q9015_) (nu (nu cq n 64) (n + 1) 64) (n + 2) := PB.kept (O := (· = b)) (hu_f eh9017 Fr.rf hbo_9016 rfl) (hQ9016.neobj hbo_9016 (by decide)) hQ9016
  obtain ⟨B2, hB2⟩ : ∃ B2 : Nat → Nat, B2 = (nu (nu Bq n q9012_) (n + 1) q9015_) := ⟨_, rfl⟩
  obtain ⟨c2, hc2⟩ : ∃ c2 : Nat → Nat, c2 = (nu (nu cq n 64) (n + 1) 64) := ⟨_, rfl⟩
  have hv0 : q9012_ = B2 (n) := by rw [hB2]; (repeat rw [nu_n (by omega)]); rw [nu_s]
  have hv1 : q9015_ = B2 (n + 1) := by rw [hB2]; (repeat rw [nu_n (by omega)]); rw [nu_s]
  have hQ2 : PB E h9017 B2 c2 (n + 2) := by rw [hB2, hc2]; exact hQ9016_9017
  have hob : h9017 b = some (.inr (8, [.int 0, .int 0, .int 0, .ref (B2 n), .ref (B2 (n + 1))]), b) := by rw [← hv0, ← hv1]; exact hbo_9017
  exact Z _ _ _ _ _ _ _ dX9_init_30 (Nat.le_refl _) (Nat.le_refl _) ⟨rfl, B2, c2, hQ2, fun i hi => by rw [hB2, hc2]; constructor <;> (repeat rw [nu_n (by omega)]), fun i h1 h2 => by rw [hc2]; (repeat (first | rw [nu_s] | rw [nu_n (by omega)])); first | rfl | (unfold nu; (repeat' split) <;> omega), hob, hN_9017, rfl, rfl⟩ T9017

set_option maxHeartbeats 4000000 in
theorem m_X6_init {E : GE} {l : Launch} {h : HH} {b n : Nat} {Bq cq : Nat → Nat} (hQ : PB E h Bq cq n)  {a : Nat} (hbo : h b = some (.inr (6, [.null, .null, .null]), b)) : MG E l yX6_init cX6_init 2 none ({ frames := 2, cells := 4, slots := 132, locals := 300 } : Room) [.ref b, .ref a] h (fun rv h2 dc ds => rv = none ∧ ∃ B2 c2, PB E h2 B2 c2 (n + 2) ∧ (∀ i, i < n → B2 i = Bq i ∧ c2 i = cq i) ∧ (∀ i, n ≤ i → i < n + 2 → c2 i = 64) ∧ h2 b = some (.inr (6, [.ref a, .ref (B2 n), .ref (B2 (n + 1))]), b) ∧ FN b h h2 ∧ dc = 4 ∧ ds = 132) := by
  refine hn_v (by decide) (Nat.le_of_ble_eq_true rfl) ?_
  intro p e s m below meth c C hnm Q Z ls T hl
  have hx := C.x
  have hb := C.b
  have hin : meth.name = "<init>" := hnm
  have hl : lv_has ls 2 [(0, .ref b), (1, .ref a)] := hl
  have hN : FN b h h := FN.rf
  refine lv_aload_n hx hb dX6_init_0 rfl (lv_at hl 0 rfl) ?_
  refine W.objInit hx hb C.ow (C.ts _ q163) (C.ts _ q82) (C.ts _ q83) rfl (by rw [C.ml]; exact hl.1) rfl dX6_init_1 (Nat.le_of_ble_eq_true rfl) (Nat.le_of_ble_eq_true rfl) ?_
  refine W.eq (g2 := F0 m 4 ls []) rfl ?_
  have hQb : ∀ i, i < n → Bq i ≠ b := hQ.neobj hbo (by decide)
  refine lv_aload_n hx hb dX6_init_4 rfl (lv_at hl 0 rfl) ?_
  refine hr_new C T (fun q => q) (ci := 1) rfl in_X7 tyX7 tyX7_ok q164 q165 q59 (fs := [.null, .int 0]) dfX7 (by show 0 + 1 ≤ 4; omega) (by show 0 + 2 ≤ 132; omega) dX6_init_5 (fun h9018 q9018_ H9018 hf9018 eh9018 T9018 => ?_)
  have hnb_9018 : h9018 q9018_ = some (.inr (1, [.null, .int 0]), q9018_) := hu_s eh9018
  refine lv_dup hx hb dX6_init_8 rfl ?_
  refine lv_bipush (v := nI 64) hx hb dX6_init_9 rfl ?_
  refine hg_I C T9018 hl.1 (m_X7_init hnb_9018 (by decide) (by decide)) q166 q167 q59 q168 rfl kd_X7_init rfl rfl ⟨Nat.le_of_ble_eq_true rfl, Nat.le_of_ble_eq_true rfl⟩ (Nat.le_of_ble_eq_true rfl) dX6_init_11 ⟨by show 0 + 1 + 1 ≤ 4; omega, by show 0 + 2 + 64 ≤ 132; omega⟩ (fun rv h9019 dc9019 ds9019 H9019 locs9019 hp9019 T9019 => ?_)
  obtain ⟨rfl, hbg9019, hF9019, rfl, rfl⟩ := hp9019
  have hQ9019 := hQ.add hf9018 eh9018 hF9019 hbg9019
  have hN_9019 : FN b h h9019 := hN.nest hf9018 eh9018 hF9019.fn
  refine W.eq (g2 := F0 m 14 ls [.ref q9018_, .ref b]) rfl ?_
  have hbo_9018 : h9018 b = some (.inr (6, [.null, .null, .null]), b) := hu_w eh9018 hf9018 hbo
  have hbo_9019 : h9019 b = some (.inr (6, [.null, .null, .null]), b) := hF9019 _ _ hbo_9018 (hne_new hbo hf9018)
  refine hr_putF C T9019 hin hbo_9019 rfl in_X6 tyX6 tyX6_ok nmX6 1 (by decide) q180 rfl rfl rfl rfl rfl (Nat.le_of_ble_eq_true rfl) dX6_init_14 (fun h9020 H9020 locs9020 eh9020 T9020 => ?_)
  have hbo_9020 : h9020 b = some (.inr (6, [.null, .ref q9018_, .null]), b) := hu_s eh9020
  refine lv_aload_n hx hb dX6_init_17 rfl (lv_at hl 0 rfl) ?_
  have hQ9019_9020 : PB E h9020 (nu Bq n q9018_) (nu cq n 64) (n + 1) := PB.kept (O := (· = b)) (hu_f eh9020 Fr.rf hbo_9019 rfl) (hQ9019.neobj hbo_9019 (by decide)) hQ9019
  have hN_9020 : FN b h h9020 := hN_9019.up hbo_9019 eh9020
  refine hr_new C T9020 (fun q => q) (ci := 1) rfl in_X7 tyX7 tyX7_ok q164 q165 q59 (fs := [.null, .int 0]) dfX7 (by show 0 + 1 + 1 + 1 ≤ 4; omega) (by show 0 + 2 + 64 + 2 ≤ 132; omega) dX6_init_18 (fun h9021 q9021_ H9021 hf9021 eh9021 T9021 => ?_)
  have hnb_9021 : h9021 q9021_ = some (.inr (1, [.null, .int 0]), q9021_) := hu_s eh9021
  refine lv_dup hx hb dX6_init_21 rfl ?_
  refine lv_bipush (v := nI 64) hx hb dX6_init_22 rfl ?_
  refine hg_I C T9021 hl.1 (m_X7_init hnb_9021 (by decide) (by decide)) q166 q167 q59 q168 rfl kd_X7_init rfl rfl ⟨Nat.le_of_ble_eq_true rfl, Nat.le_of_ble_eq_true rfl⟩ (Nat.le_of_ble_eq_true rfl) dX6_init_24 ⟨by show 0 + 1 + 1 + 1 + 1 ≤ 4; omega, by show 0 + 2 + 64 + 2 + 64 ≤ 132; omega⟩ (fun rv h9022 dc9022 ds9022 H9022 locs9022 hp9022 T9022 => ?_)
  obtain ⟨rfl, hbg9022, hF9022, rfl, rfl⟩ := hp9022
  have hQ9022 := hQ9019_9020.add hf9021 eh9021 hF9022 hbg9022
  have hN_9022 : FN b h h9022 := hN_9020.nest hf9021 eh9021 hF9022.fn
  refine W.eq (g2 := F0 m 27 ls [.ref q9021_, .ref b]) rfl ?_
  have hbo_9021 : h9021 b = some (.inr (6, [.null, .ref q9018_, .null]), b) := hu_w eh9021 hf9021 hbo_9020
  have hbo_9022 : h9022 b = some (.inr (6, [.null, .ref q9018_, .null]), b) := hF9022 _ _ hbo_9021 (hne_new hbo_9020 hf9021)
  refine hr_putF C T9022 hin hbo_9022 rfl in_X6 tyX6 tyX6_ok nmX6 2 (by decide) q182 rfl rfl rfl rfl rfl (Nat.le_of_ble_eq_true rfl) dX6_init_27 (fun h9023 H9023 locs9023 eh9023 T9023 => ?_)
  have hbo_9023 : h9023 b = some (.inr (6, [.null, .ref q9018_, .ref q9021_]), b) := hu_s eh9023
  refine lv_aload_n hx hb dX6_init_30 rfl (lv_at hl 0 rfl) ?_
  refine lv_aload_n hx hb dX6_init_31 rfl (lv_at hl 1 rfl) ?_
  refine hr_putF C T9023 hin hbo_9023 rfl in_X6 tyX6 tyX6_ok nmX6 0 (by decide) q179 rfl rfl rfl rfl rfl (Nat.le_of_ble_eq_true rfl) dX6_init_32 (fun h9024 H9024 locs9024 eh9024 T9024 => ?_)
  have hbo_9024 : h9024 b = some (.inr (6, [.ref a, .ref q9018_, .ref q9021_]), b) := hu_s eh9024
  have hN_9023 : FN b h h9023 := hN_9022.up hbo_9022 eh9023
  have hN_9024 : FN b h h9024 := hN_9023.up hbo_9023 eh9024
  have hQ9022_9023 : PB E h9023 (nu (nu Bq n q9018_) (n + 1) q9021_) (nu (nu cq n 64) (n + 1) 64) (n + 2) := PB.kept (O := (· = b)) (hu_f eh9023 Fr.rf hbo_9022 rfl) (hQ9022.neobj hbo_9022 (by decide)) hQ9022
  have hQ9022_9024 : PB E h9024 (nu (nu Bq n q9018_) (n + 1) q9021_) (nu (nu cq n 64) (n + 1) 64) (n + 2) := PB.kept (O := (· = b)) (hu_f eh9024 Fr.rf hbo_9023 rfl) (hQ9022.neobj hbo_9022 (by decide)) hQ9022_9023
  obtain ⟨B2, hB2⟩ : ∃ B2 : Nat → Nat, B2 = (nu (nu Bq n q9018_) (n + 1) q9021_) := ⟨_, rfl⟩
  obtain ⟨c2, hc2⟩ : ∃ c2 : Nat → Nat, c2 = (nu (nu cq n 64) (n + 1) 64) := ⟨_, rfl⟩
  have hv0 : q9018_ = B2 (n) := by rw [hB2]; (repeat rw [nu_n (by omega)]); rw [nu_s]
  have hv1 : q9021_ = B2 (n + 1) := by rw [hB2]; (repeat rw [nu_n (by omega)]); rw [nu_s]
  have hQ2 : PB E h9024 B2 c2 (n + 2) := by rw [hB2, hc2]; exact hQ9022_9024
  have hob : h9024 b = some (.inr (6, [.ref a, .ref (B2 n), .ref (B2 (n + 1))]), b) := by rw [← hv0, ← hv1]; exact hbo_9024
  exact Z _ _ _ _ _ _ _ dX6_init_35 (Nat.le_refl _) (Nat.le_refl _) ⟨rfl, B2, c2, hQ2, fun i hi => by rw [hB2, hc2]; constructor <;> (repeat rw [nu_n (by omega)]), fun i h1 h2 => by rw [hc2]; (repeat (first | rw [nu_s] | rw [nu_n (by omega)])); first | rfl | (unfold nu; (repeat' split) <;> omega), hob, hN_9024, rfl, rfl⟩ T9024

set_option maxHeartbeats 4000000 in
theorem m_X8_init {E : GE} {l : Launch} {h : HH} {b n : Nat} {Bq cq : Nat → Nat} (hQ : PB E h Bq cq n)  (hbo : h b = some (.inr (7, [.null, .null, .null, .null, .null, .null, .null, .null, .null, .null, .null]), b)) : MG E l yX8_init cX8_init 1 none ({ frames := 2, cells := 22, slots := 726, locals := 300 } : Room) [.ref b] h (fun rv h2 dc ds => rv = none ∧ ∃ B2 c2, PB E h2 B2 c2 (n + 11) ∧ (∀ i, i < n → B2 i = Bq i ∧ c2 i = cq i) ∧ (∀ i, n ≤ i → i < n + 11 → c2 i = 64) ∧ h2 b = some (.inr (7, [.ref (B2 n), .ref (B2 (n + 1)), .ref (B2 (n + 2)), .ref (B2 (n + 3)), .ref (B2 (n + 4)), .ref (B2 (n + 5)), .ref (B2 (n + 6)), .ref (B2 (n + 7)), .ref (B2 (n + 8)), .ref (B2 (n + 9)), .ref (B2 (n + 10))]), b) ∧ FN b h h2 ∧ dc = 22 ∧ ds = 726) := by
  refine hn_v (by decide) (Nat.le_of_ble_eq_true rfl) ?_
  intro p e s m below meth c C hnm Q Z ls T hl
  have hx := C.x
  have hb := C.b
  have hin : meth.name = "<init>" := hnm
  have hl : lv_has ls 1 [(0, .ref b)] := hl
  have hN : FN b h h := FN.rf
  refine lv_aload_n hx hb dX8_init_0 rfl (lv_at hl 0 rfl) ?_
  refine W.objInit hx hb C.ow (C.ts _ q196) (C.ts _ q82) (C.ts _ q83) rfl (by rw [C.ml]; exact hl.1) rfl dX8_init_1 (Nat.le_of_ble_eq_true rfl) (Nat.le_of_ble_eq_true rfl) ?_
  refine W.eq (g2 := F0 m 4 ls []) rfl ?_
  have hQb : ∀ i, i < n → Bq i ≠ b := hQ.neobj hbo (by decide)
  refine lv_aload_n hx hb dX8_init_4 rfl (lv_at hl 0 rfl) ?_
  refine hr_new C T (fun q => q) (ci := 1) rfl in_X7 tyX7 tyX7_ok q197 q165 q59 (fs := [.null, .int 0]) dfX7 (by show 0 + 1 ≤ 22; omega) (by show 0 + 2 ≤ 726; omega) dX8_init_5 (fun h9025 q9025_ H9025 hf9025 eh9025 T9025 => ?_)
  have hnb_9025 : h9025 q9025_ = some (.inr (1, [.null, .int 0]), q9025_) := hu_s eh9025
  refine lv_dup hx hb dX8_init_8 rfl ?_
  refine lv_bipush (v := nI 64) hx hb dX8_init_9 rfl ?_
  refine hg_I C T9025 hl.1 (m_X7_init hnb_9025 (by decide) (by decide)) q198 q167 q59 q168 rfl kd_X7_init rfl rfl ⟨Nat.le_of_ble_eq_true rfl, Nat.le_of_ble_eq_true rfl⟩ (Nat.le_of_ble_eq_true rfl) dX8_init_11 ⟨by show 0 + 1 + 1 ≤ 22; omega, by show 0 + 2 + 64 ≤ 726; omega⟩ (fun rv h9026 dc9026 ds9026 H9026 locs9026 hp9026 T9026 => ?_)
  obtain ⟨rfl, hbg9026, hF9026, rfl, rfl⟩ := hp9026
  have hQ9026 := hQ.add hf9025 eh9025 hF9026 hbg9026
  have hN_9026 : FN b h h9026 := hN.nest hf9025 eh9025 hF9026.fn
  refine W.eq (g2 := F0 m 14 ls [.ref q9025_, .ref b]) rfl ?_
  have hbo_9025 : h9025 b = some (.inr (7, [.null, .null, .null, .null, .null, .null, .null, .null, .null, .null, .null]), b) := hu_w eh9025 hf9025 hbo
  have hbo_9026 : h9026 b = some (.inr (7, [.null, .null, .null, .null, .null, .null, .null, .null, .null, .null, .null]), b) := hF9026 _ _ hbo_9025 (hne_new hbo hf9025)
  refine hr_putF C T9026 hin hbo_9026 rfl in_X8 tyX8 tyX8_ok nmX8 0 (by decide) q199 rfl rfl rfl rfl rfl (Nat.le_of_ble_eq_true rfl) dX8_init_14 (fun h9027 H9027 locs9027 eh9027 T9027 => ?_)
  have hbo_9027 : h9027 b = some (.inr (7, [.ref q9025_, .null, .null, .null, .null, .null, .null, .null, .null, .null, .null]), b) := hu_s eh9027
  refine lv_aload_n hx hb dX8_init_17 rfl (lv_at hl 0 rfl) ?_
  have hQ9026_9027 : PB E h9027 (nu Bq n q9025_) (nu cq n 64) (n + 1) := PB.kept (O := (· = b)) (hu_f eh9027 Fr.rf hbo_9026 rfl) (hQ9026.neobj hbo_9026 (by decide)) hQ9026
  have hN_9027 : FN b h h9027 := hN_9026.up hbo_9026 eh9027
  refine hr_new C T9027 (fun q => q) (ci := 1) rfl in_X7 tyX7 tyX7_ok q197 q165 q59 (fs := [.null, .int 0]) dfX7 (by show 0 + 1 + 1 + 1 ≤ 22; omega) (by show 0 + 2 + 64 + 2 ≤ 726; omega) dX8_init_18 (fun h9028 q9028_ H9028 hf9028 eh9028 T9028 => ?_)
  have hnb_9028 : h9028 q9028_ = some (.inr (1, [.null, .int 0]), q9028_) := hu_s eh9028
  refine lv_dup hx hb dX8_init_21 rfl ?_
  refine lv_bipush (v := nI 64) hx hb dX8_init_22 rfl ?_
  refine hg_I C T9028 hl.1 (m_X7_init hnb_9028 (by decide) (by decide)) q198 q167 q59 q168 rfl kd_X7_init rfl rfl ⟨Nat.le_of_ble_eq_true rfl, Nat.le_of_ble_eq_true rfl⟩ (Nat.le_of_ble_eq_true rfl) dX8_init_24 ⟨by show 0 + 1 + 1 + 1 + 1 ≤ 22; omega, by show 0 + 2 + 64 + 2 + 64 ≤ 726; omega⟩ (fun rv h9029 dc9029 ds9029 H9029 locs9029 hp9029 T9029 => ?_)
  obtain ⟨rfl, hbg9029, hF9029, rfl, rfl⟩ := hp9029
  have hQ9029 := hQ9026_9027.add hf9028 eh9028 hF9029 hbg9029
  have hN_9029 : FN b h h9029 := hN_9027.nest hf9028 eh9028 hF9029.fn
  refine W.eq (g2 := F0 m 27 ls [.ref q9028_, .ref b]) rfl ?_
  have hbo_9028 : h9028 b = some (.inr (7, [.ref q9025_, .null, .null, .null, .null, .null, .null, .null, .null, .null, .null]), b) := hu_w eh9028 hf9028 hbo_9027
  have hbo_9029 : h9029 b = some (.inr (7, [.ref q9025_, .null, .null, .null, .null, .null, .null, .null, .null, .null, .null]), b) := hF9029 _ _ hbo_9028 (hne_new hbo_9027 hf9028)
  refine hr_putF C T9029 hin hbo_9029 rfl in_X8 tyX8 tyX8_ok nmX8 1 (by decide) q200 rfl rfl rfl rfl rfl (Nat.le_of_ble_eq_true rfl) dX8_init_27 (fun h9030 H9030 locs9030 eh9030 T9030 => ?_)
  have hbo_9030 : h9030 b = some (.inr (7, [.ref q9025_, .ref q9028_, .null, .null, .null, .null, .null, .null, .null, .null, .null]), b) := hu_s eh9030
  refine lv_aload_n hx hb dX8_init_30 rfl (lv_at hl 0 rfl) ?_
  have hQ9029_9030 : PB E h9030 (nu (nu Bq n q9025_) (n + 1) q9028_) (nu (nu cq n 64) (n + 1) 64) (n + 2) := PB.kept (O := (· = b)) (hu_f eh9030 Fr.rf hbo_9029 rfl) (hQ9029.neobj hbo_9029 (by decide)) hQ9029
  have hN_9030 : FN b h h9030 := hN_9029.up hbo_9029 eh9030
  refine hr_new C T9030 (fun q => q) (ci := 1) rfl in_X7 tyX7 tyX7_ok q197 q165 q59 (fs := [.null, .int 0]) dfX7 (by show 0 + 1 + 1 + 1 + 1 + 1 ≤ 22; omega) (by show 0 + 2 + 64 + 2 + 64 + 2 ≤ 726; omega) dX8_init_31 (fun h9031 q9031_ H9031 hf9031 eh9031 T9031 => ?_)
  have hnb_9031 : h9031 q9031_ = some (.inr (1, [.null, .int 0]), q9031_) := hu_s eh9031
  refine lv_dup hx hb dX8_init_34 rfl ?_
  refine lv_bipush (v := nI 64) hx hb dX8_init_35 rfl ?_
  refine hg_I C T9031 hl.1 (m_X7_init hnb_9031 (by decide) (by decide)) q198 q167 q59 q168 rfl kd_X7_init rfl rfl ⟨Nat.le_of_ble_eq_true rfl, Nat.le_of_ble_eq_true rfl⟩ (Nat.le_of_ble_eq_true rfl) dX8_init_37 ⟨by show 0 + 1 + 1 + 1 + 1 + 1 + 1 ≤ 22; omega, by show 0 + 2 + 64 + 2 + 64 + 2 + 64 ≤ 726; omega⟩ (fun rv h9032 dc9032 ds9032 H9032 locs9032 hp9032 T9032 => ?_)
  obtain ⟨rfl, hbg9032, hF9032, rfl, rfl⟩ := hp9032
  have hQ9032 := hQ9029_9030.add hf9031 eh9031 hF9032 hbg9032
  have hN_9032 : FN b h h9032 := hN_9030.nest hf9031 eh9031 hF9032.fn
  refine W.eq (g2 := F0 m 40 ls [.ref q9031_, .ref b]) rfl ?_
  have hbo_9031 : h9031 b = some (.inr (7, [.ref q9025_, .ref q9028_, .null, .null, .null, .null, .null, .null, .null, .null, .null]), b) := hu_w eh9031 hf9031 hbo_9030
  have hbo_9032 : h9032 b = some (.inr (7, [.ref q9025_, .ref q9028_, .null, .null, .null, .null, .null, .null, .null, .null, .null]), b) := hF9032 _ _ hbo_9031 (hne_new hbo_9030 hf9031)
  refine hr_putF C T9032 hin hbo_9032 rfl in_X8 tyX8 tyX8_ok nmX8 2 (by decide) q201 rfl rfl rfl rfl rfl (Nat.le_of_ble_eq_true rfl) dX8_init_40 (fun h9033 H9033 locs9033 eh9033 T9033 => ?_)
  have hbo_9033 : h9033 b = some (.inr (7, [.ref q9025_, .ref q9028_, .ref q9031_, .null, .null, .null, .null, .null, .null, .null, .null]), b) := hu_s eh9033
  refine lv_aload_n hx hb dX8_init_43 rfl (lv_at hl 0 rfl) ?_
  have hQ9032_9033 : PB E h9033 (nu (nu (nu Bq n q9025_) (n + 1) q9028_) (n + 2) q9031_) (nu (nu (nu cq n 64) (n + 1) 64) (n + 2) 64) (n + 3) := PB.kept (O := (· = b)) (hu_f eh9033 Fr.rf hbo_9032 rfl) (hQ9032.neobj hbo_9032 (by decide)) hQ9032
  have hN_9033 : FN b h h9033 := hN_9032.up hbo_9032 eh9033
  refine hr_new C T9033 (fun q => q) (ci := 1) rfl in_X7 tyX7 tyX7_ok q197 q165 q59 (fs := [.null, .int 0]) dfX7 (by show 0 + 1 + 1 + 1 + 1 + 1 + 1 + 1 ≤ 22; omega) (by show 0 + 2 + 64 + 2 + 64 + 2 + 64 + 2 ≤ 726; omega) dX8_init_44 (fun h9034 q9034_ H9034 hf9034 eh9034 T9034 => ?_)
  have hnb_9034 : h9034 q9034_ = some (.inr (1, [.null, .int 0]), q9034_) := hu_s eh9034
  refine lv_dup hx hb dX8_init_47 rfl ?_
  refine lv_bipush (v := nI 64) hx hb dX8_init_48 rfl ?_
  refine hg_I C T9034 hl.1 (m_X7_init hnb_9034 (by decide) (by decide)) q198 q167 q59 q168 rfl kd_X7_init rfl rfl ⟨Nat.le_of_ble_eq_true rfl, Nat.le_of_ble_eq_true rfl⟩ (Nat.le_of_ble_eq_true rfl) dX8_init_50 ⟨by show 0 + 1 + 1 + 1 + 1 + 1 + 1 + 1 + 1 ≤ 22; omega, by show 0 + 2 + 64 + 2 + 64 + 2 + 64 + 2 + 64 ≤ 726; omega⟩ (fun rv h9035 dc9035 ds9035 H9035 locs9035 hp9035 T9035 => ?_)
  obtain ⟨rfl, hbg9035, hF9035, rfl, rfl⟩ := hp9035
  have hQ9035 := hQ9032_9033.add hf9034 eh9034 hF9035 hbg9035
  have hN_9035 : FN b h h9035 := hN_9033.nest hf9034 eh9034 hF9035.fn
  refine W.eq (g2 := F0 m 53 ls [.ref q9034_, .ref b]) rfl ?_
  have hbo_9034 : h9034 b = some (.inr (7, [.ref q9025_, .ref q9028_, .ref q9031_, .null, .null, .null, .null, .null, .null, .null, .null]), b) := hu_w eh9034 hf9034 hbo_9033
  have hbo_9035 : h9035 b = some (.inr (7, [.ref q9025_, .ref q9028_, .ref q9031_, .null, .null, .null, .null, .null, .null, .null, .null]), b) := hF9035 _ _ hbo_9034 (hne_new hbo_9033 hf9034)
  refine hr_putF C T9035 hin hbo_9035 rfl in_X8 tyX8 tyX8_ok nmX8 3 (by decide) q202 rfl rfl rfl rfl rfl (Nat.le_of_ble_eq_true rfl) dX8_init_53 (fun h9036 H9036 locs9036 eh9036 T9036 => ?_)
  have hbo_9036 : h9036 b = some (.inr (7, [.ref q9025_, .ref q9028_, .ref q9031_, .ref q9034_, .null, .null, .null, .null, .null, .null, .null]), b) := hu_s eh9036
  refine lv_aload_n hx hb dX8_init_56 rfl (lv_at hl 0 rfl) ?_
  have hQ9035_9036 : PB E h9036 (nu (nu (nu (nu Bq n q9025_) (n + 1) q9028_) (n + 2) q9031_) (n + 3) q9034_) (nu (nu (nu (nu cq n 64) (n + 1) 64) (n + 2) 64) (n + 3) 64) (n + 4) := PB.kept (O := (· = b)) (hu_f eh9036 Fr.rf hbo_9035 rfl) (hQ9035.neobj hbo_9035 (by decide)) hQ9035
  have hN_9036 : FN b h h9036 := hN_9035.up hbo_9035 eh9036
  refine hr_new C T9036 (fun q => q) (ci := 1) rfl in_X7 tyX7 tyX7_ok q197 q165 q59 (fs := [.null, .int 0]) dfX7 (by show 0 + 1 + 1 + 1 + 1 + 1 + 1 + 1 + 1 + 1 ≤ 22; omega) (by show 0 + 2 + 64 + 2 + 64 + 2 + 64 + 2 + 64 + 2 ≤ 726; omega) dX8_init_57 (fun h9037 q9037_ H9037 hf9037 eh9037 T9037 => ?_)
  have hnb_9037 : h9037 q9037_ = some (.inr (1, [.null, .int 0]), q9037_) := hu_s eh9037
  refine lv_dup hx hb dX8_init_60 rfl ?_
  refine lv_bipush (v := nI 64) hx hb dX8_init_61 rfl ?_
  refine hg_I C T9037 hl.1 (m_X7_init hnb_9037 (by decide) (by decide)) q198 q167 q59 q168 rfl kd_X7_init rfl rfl ⟨Nat.le_of_ble_eq_true rfl, Nat.le_of_ble_eq_true rfl⟩ (Nat.le_of_ble_eq_true rfl) dX8_init_63 ⟨by show 0 + 1 + 1 + 1 + 1 + 1 + 1 + 1 + 1 + 1 + 1 ≤ 22; omega, by show 0 + 2 + 64 + 2 + 64 + 2 + 64 + 2 + 64 + 2 + 64 ≤ 726; omega⟩ (fun rv h9038 dc9038 ds9038 H9038 locs9038 hp9038 T9038 => ?_)
  obtain ⟨rfl, hbg9038, hF9038, rfl, rfl⟩ := hp9038
  have hQ9038 := hQ9035_9036.add hf9037 eh9037 hF9038 hbg9038
  have hN_9038 : FN b h h9038 := hN_9036.nest hf9037 eh9037 hF9038.fn
  refine W.eq (g2 := F0 m 66 ls [.ref q9037_, .ref b]) rfl ?_
  have hbo_9037 : h9037 b = some (.inr (7, [.ref q9025_, .ref q9028_, .ref q9031_, .ref q9034_, .null, .null, .null, .null, .null, .null, .null]), b) := hu_w eh9037 hf9037 hbo_9036
  have hbo_9038 : h9038 b = some (.inr (7, [.ref q9025_, .ref q9028_, .ref q9031_, .ref q9034_, .null, .null, .null, .null, .null, .null, .null]), b) := hF9038 _ _ hbo_9037 (hne_new hbo_9036 hf9037)
  refine hr_putF C T9038 hin hbo_9038 rfl in_X8 tyX8 tyX8_ok nmX8 4 (by decide) q203 rfl rfl rfl rfl rfl (Nat.le_of_ble_eq_true rfl) dX8_init_66 (fun h9039 H9039 locs9039 eh9039 T9039 => ?_)
  have hbo_9039 : h9039 b = some (.inr (7, [.ref q9025_, .ref q9028_, .ref q9031_, .ref q9034_, .ref q9037_, .null, .null, .null, .null, .null, .null]), b) := hu_s eh9039
  refine lv_aload_n hx hb dX8_init_69 rfl (lv_at hl 0 rfl) ?_
  have hQ9038_9039 : PB E h9039 (nu (nu (nu (nu (nu Bq n q9025_) (n + 1) q9028_) (n + 2) q9031_) (n + 3) q9034_) (n + 4) q9037_) (nu (nu (nu (nu (nu cq n 64) (n + 1) 64) (n + 2) 64) (n + 3) 64) (n + 4) 64) (n + 5) := PB.kept (O := (· = b)) (hu_f eh9039 Fr.rf hbo_9038 rfl) (hQ9038.neobj hbo_9038 (by decide)) hQ9038
  have hN_9039 : FN b h h9039 := hN_9038.up hbo_9038 eh9039
  refine hr_new C T9039 (fun q => q) (ci := 1) rfl in_X7 tyX7 tyX7_ok q197 q165 q59 (fs := [.null, .int 0]) dfX7 (by show 0 + 1 + 1 + 1 + 1 + 1 + 1 + 1 + 1 + 1 + 1 + 1 ≤ 22; omega) (by show 0 + 2 + 64 + 2 + 64 + 2 + 64 + 2 + 64 + 2 + 64 + 2 ≤ 726; omega) dX8_init_70 (fun h9040 q9040_ H9040 hf9040 eh9040 T9040 => ?_)
  have hnb_9040 : h9040 q9040_ = some (.inr (1, [.null, .int 0]), q9040_) := hu_s eh9040
  refine lv_dup hx hb dX8_init_73 rfl ?_
  refine lv_bipush (v := nI 64) hx hb dX8_init_74 rfl ?_
  refine hg_I C T9040 hl.1 (m_X7_init hnb_9040 (by decide) (by decide)) q198 q167 q59 q168 rfl kd_X7_init rfl rfl ⟨Nat.le_of_ble_eq_true rfl, Nat.le_of_ble_eq_true rfl⟩ (Nat.le_of_ble_eq_true rfl) dX8_init_76 ⟨by show 0 + 1 + 1 + 1 + 1 + 1 + 1 + 1 + 1 + 1 + 1 + 1 + 1 ≤ 22; omega, by show 0 + 2 + 64 + 2 + 64 + 2 + 64 + 2 + 64 + 2 + 64 + 2 + 64 ≤ 726; omega⟩ (fun rv h9041 dc9041 ds9041 H9041 locs9041 hp9041 T9041 => ?_)
  obtain ⟨rfl, hbg9041, hF9041, rfl, rfl⟩ := hp9041
  have hQ9041 := hQ9038_9039.add hf9040 eh9040 hF9041 hbg9041
  have hN_9041 : FN b h h9041 := hN_9039.nest hf9040 eh9040 hF9041.fn
  refine W.eq (g2 := F0 m 79 ls [.ref q9040_, .ref b]) rfl ?_
  have hbo_9040 : h9040 b = some (.inr (7, [.ref q9025_, .ref q9028_, .ref q9031_, .ref q9034_, .ref q9037_, .null, .null, .null, .null, .null, .null]), b) := hu_w eh9040 hf9040 hbo_9039
  have hbo_9041 : h9041 b = some (.inr (7, [.ref q9025_, .ref q9028_, .ref q9031_, .ref q9034_, .ref q9037_, .null, .null, .null, .null, .null, .null]), b) := hF9041 _ _ hbo_9040 (hne_new hbo_9039 hf9040)
  refine hr_putF C T9041 hin hbo_9041 rfl in_X8 tyX8 tyX8_ok nmX8 5 (by decide) q204 rfl rfl rfl rfl rfl (Nat.le_of_ble_eq_true rfl) dX8_init_79 (fun h9042 H9042 locs9042 eh9042 T9042 => ?_)
  have hbo_9042 : h9042 b = some (.inr (7, [.ref q9025_, .ref q9028_, .ref q9031_, .ref q9034_, .ref q9037_, .ref q9040_, .null, .null, .null, .null, .null]), b) := hu_s eh9042
  refine lv_aload_n hx hb dX8_init_82 rfl (lv_at hl 0 rfl) ?_
  have hQ9041_9042 : PB E h9042 (nu (nu (nu (nu (nu (nu Bq n q9025_) (n + 1) q9028_) (n + 2) q9031_) (n + 3) q9034_) (n + 4) q9037_) (n + 5) q9040_) (nu (nu (nu (nu (nu (nu cq n 64) (n + 1) 64) (n + 2) 64) (n + 3) 64) (n + 4) 64) (n + 5) 64) (n + 6) := PB.kept (O := (· = b)) (hu_f eh9042 Fr.rf hbo_9041 rfl) (hQ9041.neobj hbo_9041 (by decide)) hQ9041
  have hN_9042 : FN b h h9042 := hN_9041.up hbo_9041 eh9042
  refine hr_new C T9042 (fun q => q) (ci := 1) rfl in_X7 tyX7 tyX7_ok q197 q165 q59 (fs := [.null, .int 0]) dfX7 (by show 0 + 1 + 1 + 1 + 1 + 1 + 1 + 1 + 1 + 1 + 1 + 1 + 1 + 1 ≤ 22; omega) (by show 0 + 2 + 64 + 2 + 64 + 2 + 64 + 2 + 64 + 2 + 64 + 2 + 64 + 2 ≤ 726; omega) dX8_init_83 (fun h9043 q9043_ H9043 hf9043 eh9043 T9043 => ?_)
  have hnb_9043 : h9043 q9043_ = some (.inr (1, [.null, .int 0]), q9043_) := hu_s eh9043
  refine lv_dup hx hb dX8_init_86 rfl ?_
  refine lv_bipush (v := nI 64) hx hb dX8_init_87 rfl ?_
  refine hg_I C T9043 hl.1 (m_X7_init hnb_9043 (by decide) (by decide)) q198 q167 q59 q168 rfl kd_X7_init rfl rfl ⟨Nat.le_of_ble_eq_true rfl, Nat.le_of_ble_eq_true rfl⟩ (Nat.le_of_ble_eq_true rfl) dX8_init_89 ⟨by show 0 + 1 + 1 + 1 + 1 + 1 + 1 + 1 + 1 + 1 + 1 + 1 + 1 + 1 + 1 ≤ 22; omega, by show 0 + 2 + 64 + 2 + 64 + 2 + 64 + 2 + 64 + 2 + 64 + 2 + 64 + 2 + 64 ≤ 726; omega⟩ (fun rv h9044 dc9044 ds9044 H9044 locs9044 hp9044 T9044 => ?_)
  obtain ⟨rfl, hbg9044, hF9044, rfl, rfl⟩ := hp9044
  have hQ9044 := hQ9041_9042.add hf9043 eh9043 hF9044 hbg9044
  have hN_9044 : FN b h h9044 := hN_9042.nest hf9043 eh9043 hF9044.fn
  refine W.eq (g2 := F0 m 92 ls [.ref q9043_, .ref b]) rfl ?_
  have hbo_9043 : h9043 b = some (.inr (7, [.ref q9025_, .ref q9028_, .ref q9031_, .ref q9034_, .ref q9037_, .ref q9040_, .null, .null, .null, .null, .null]), b) := hu_w eh9043 hf9043 hbo_9042
  have hbo_9044 : h9044 b = some (.inr (7, [.ref q9025_, .ref q9028_, .ref q9031_, .ref q9034_, .ref q9037_, .ref q9040_, .null, .null, .null, .null, .null]), b) := hF9044 _ _ hbo_9043 (hne_new hbo_9042 hf9043)
  refine hr_putF C T9044 hin hbo_9044 rfl in_X8 tyX8 tyX8_ok nmX8 6 (by decide) q205 rfl rfl rfl rfl rfl (Nat.le_of_ble_eq_true rfl) dX8_init_92 (fun h9045 H9045 locs9045 eh9045 T9045 => ?_)
  have hbo_9045 : h9045 b = some (.inr (7, [.ref q9025_, .ref q9028_, .ref q9031_, .ref q9034_, .ref q9037_, .ref q9040_, .ref q9043_, .null, .null, .null, .null]), b) := hu_s eh9045
  refine lv_aload_n hx hb dX8_init_95 rfl (lv_at hl 0 rfl) ?_
  have hQ9044_9045 : PB E h9045 (nu (nu (nu (nu (nu (nu (nu Bq n q9025_) (n + 1) q9028_) (n + 2) q9031_) (n + 3) q9034_) (n + 4) q9037_) (n + 5) q9040_) (n + 6) q9043_) (nu (nu (nu (nu (nu (nu (nu cq n 64) (n + 1) 64) (n + 2) 64) (n + 3) 64) (n + 4) 64) (n + 5) 64) (n + 6) 64) (n + 7) := PB.kept (O := (· = b)) (hu_f eh9045 Fr.rf hbo_9044 rfl) (hQ9044.neobj hbo_9044 (by decide)) hQ9044
  have hN_9045 : FN b h h9045 := hN_9044.up hbo_9044 eh9045
  refine hr_new C T9045 (fun q => q) (ci := 1) rfl in_X7 tyX7 tyX7_ok q197 q165 q59 (fs := [.null, .int 0]) dfX7 (by show 0 + 1 + 1 + 1 + 1 + 1 + 1 + 1 + 1 + 1 + 1 + 1 + 1 + 1 + 1 + 1 ≤ 22; omega) (by show 0 + 2 + 64 + 2 + 64 + 2 + 64 + 2 + 64 + 2 + 64 + 2 + 64 + 2 + 64 + 2 ≤ 726; omega) dX8_init_96 (fun h9046 q9046_ H9046 hf9046 eh9046 T9046 => ?_)
  have hnb_9046 : h9046 q9046_ = some (.inr (1, [.null, .int 0]), q9046_) := hu_s eh9046
  refine lv_dup hx hb dX8_init_99 rfl ?_
  refine lv_bipush (v := nI 64) hx hb dX8_init_100 rfl ?_
  refine hg_I C T9046 hl.1 (m_X7_init hnb_9046 (by decide) (by decide)) q198 q167 q59 q168 rfl kd_X7_init rfl rfl ⟨Nat.le_of_ble_eq_true rfl, Nat.le_of_ble_eq_true rfl⟩ (Nat.le_of_ble_eq_true rfl) dX8_init_102 ⟨by show 0 + 1 + 1 + 1 + 1 + 1 + 1 + 1 + 1 + 1 + 1 + 1 + 1 + 1 + 1 + 1 + 1 ≤ 22; omega, by show 0 + 2 + 64 + 2 + 64 + 2 + 64 + 2 + 64 + 2 + 64 + 2 + 64 + 2 + 64 + 2 + 64 ≤ 726; omega⟩ (fun rv h9047 dc9047 ds9047 H9047 locs9047 hp9047 T9047 => ?_)
  obtain ⟨rfl, hbg9047, hF9047, rfl, rfl⟩ := hp9047
  have hQ9047 := hQ9044_9045.add hf9046 eh9046 hF9047 hbg9047
  have hN_9047 : FN b h h9047 := hN_9045.nest hf9046 eh9046 hF9047.fn
  refine W.eq (g2 := F0 m 105 ls [.ref q9046_, .ref b]) rfl ?_
  have hbo_9046 : h9046 b = some (.inr (7, [.ref q9025_, .ref q9028_, .ref q9031_, .ref q9034_, .ref q9037_, .ref q9040_, .ref q9043_, .null, .null, .null, .null]), b) := hu_w eh9046 hf9046 hbo_9045
  have hbo_9047 : h9047 b = some (.inr (7, [.ref q9025_, .ref q9028_, .ref q9031_, .ref q9034_, .ref q9037_, .ref q9040_, .ref q9043_, .null, .null, .null, .null]), b) := hF9047 _ _ hbo_9046 (hne_new hbo_9045 hf9046)
  refine hr_putF C T9047 hin hbo_9047 rfl in_X8 tyX8 tyX8_ok nmX8 7 (by decide) q206 rfl rfl rfl rfl rfl (Nat.le_of_ble_eq_true rfl) dX8_init_105 (fun h9048 H9048 locs9048 eh9048 T9048 => ?_)
  have hbo_9048 : h9048 b = some (.inr (7, [.ref q9025_, .ref q9028_, .ref q9031_, .ref q9034_, .ref q9037_, .ref q9040_, .ref q9043_, .ref q9046_, .null, .null, .null]), b) := hu_s eh9048
  refine lv_aload_n hx hb dX8_init_108 rfl (lv_at hl 0 rfl) ?_
  have hQ9047_9048 : PB E h9048 (nu (nu (nu (nu (nu (nu (nu (nu Bq n q9025_) (n + 1) q9028_) (n + 2) q9031_) (n + 3) q9034_) (n + 4) q9037_) (n + 5) q9040_) (n + 6) q9043_) (n + 7) q9046_) (nu (nu (nu (nu (nu (nu (nu (nu cq n 64) (n + 1) 64) (n + 2) 64) (n + 3) 64) (n + 4) 64) (n + 5) 64) (n + 6) 64) (n + 7) 64) (n + 8) := PB.kept (O := (· = b)) (hu_f eh9048 Fr.rf hbo_9047 rfl) (hQ9047.neobj hbo_9047 (by decide)) hQ9047
  have hN_9048 : FN b h h9048 := hN_9047.up hbo_9047 eh9048
  refine hr_new C T9048 (fun q => q) (ci := 1) rfl in_X7 tyX7 tyX7_ok q197 q165 q59 (fs := [.null, .int 0]) dfX7 (by show 0 + 1 + 1 + 1 + 1 + 1 + 1 + 1 + 1 + 1 + 1 + 1 + 1 + 1 + 1 + 1 + 1 + 1 ≤ 22; omega) (by show 0 + 2 + 64 + 2 + 64 + 2 + 64 + 2 + 64 + 2 + 64 + 2 + 64 + 2 + 64 + 2 + 64 + 2 ≤ 726; omega) dX8_init_109 (fun h9049 q9049_ H9049 hf9049 eh9049 T9049 => ?_)
  have hnb_9049 : h9049 q9049_ = some (.inr (1, [.null, .int 0]), q9049_) := hu_s eh9049
  refine lv_dup hx hb dX8_init_112 rfl ?_
  refine lv_bipush (v := nI 64) hx hb dX8_init_113 rfl ?_
  refine hg_I C T9049 hl.1 (m_X7_init hnb_9049 (by decide) (by decide)) q198 q167 q59 q168 rfl kd_X7_init rfl rfl ⟨Nat.le_of_ble_eq_true rfl, Nat.le_of_ble_eq_true rfl⟩ (Nat.le_of_ble_eq_true rfl) dX8_init_115 ⟨by show 0 + 1 + 1 + 1 + 1 + 1 + 1 + 1 + 1 + 1 + 1 + 1 + 1 + 1 + 1 + 1 + 1 + 1 + 1 ≤ 22; omega, by show 0 + 2 + 64 + 2 + 64 + 2 + 64 + 2 + 64 + 2 + 64 + 2 + 64 + 2 + 64 + 2 + 64 + 2 + 64 ≤ 726; omega⟩ (fun rv h9050 dc9050 ds9050 H9050 locs9050 hp9050 T9050 => ?_)
  obtain ⟨rfl, hbg9050, hF9050, rfl, rfl⟩ := hp9050
  have hQ9050 := hQ9047_9048.add hf9049 eh9049 hF9050 hbg9050
  have hN_9050 : FN b h h9050 := hN_9048.nest hf9049 eh9049 hF9050.fn
  refine W.eq (g2 := F0 m 118 ls [.ref q9049_, .ref b]) rfl ?_
  have hbo_9049 : h9049 b = some (.inr (7, [.ref q9025_, .ref q9028_, .ref q9031_, .ref q9034_, .ref q9037_, .ref q9040_, .ref q9043_, .ref q9046_, .null, .null, .null]), b) := hu_w eh9049 hf9049 hbo_9048
  have hbo_9050 : h9050 b = some (.inr (7, [.ref q9025_, .ref q9028_, .ref q9031_, .ref q9034_, .ref q9037_, .ref q9040_, .ref q9043_, .ref q9046_, .null, .null, .null]), b) := hF9050 _ _ hbo_9049 (hne_new hbo_9048 hf9049)
  refine hr_putF C T9050 hin hbo_9050 rfl in_X8 tyX8 tyX8_ok nmX8 8 (by decide) q207 rfl rfl rfl rfl rfl (Nat.le_of_ble_eq_true rfl) dX8_init_118 (fun h9051 H9051 locs9051 eh9051 T9051 => ?_)
  have hbo_9051 : h9051 b = some (.inr (7, [.ref q9025_, .ref q9028_, .ref q9031_, .ref q9034_, .ref q9037_, .ref q9040_, .ref q9043_, .ref q9046_, .ref q9049_, .null, .null]), b) := hu_s eh9051
  refine lv_aload_n hx hb dX8_init_121 rfl (lv_at hl 0 rfl) ?_
  have hQ9050_9051 : PB E h9051 (nu (nu (nu (nu (nu (nu (nu (nu (nu Bq n q9025_) (n + 1) q9028_) (n + 2) q9031_) (n + 3) q9034_) (n + 4) q9037_) (n + 5) q9040_) (n + 6) q9043_) (n + 7) q9046_) (n + 8) q9049_) (nu (nu (nu (nu (nu (nu (nu (nu (nu cq n 64) (n + 1) 64) (n + 2) 64) (n + 3) 64) (n + 4) 64) (n + 5) 64) (n + 6) 64) (n + 7) 64) (n + 8) 64) (n + 9) := PB.kept (O := (· = b)) (hu_f eh9051 Fr.rf hbo_9050 rfl) (hQ9050.neobj hbo_9050 (by decide)) hQ9050
  have hN_9051 : FN b h h9051 := hN_9050.up hbo_9050 eh9051
  refine hr_new C T9051 (fun q => q) (ci := 1) rfl in_X7 tyX7 tyX7_ok q197 q165 q59 (fs := [.null, .int 0]) dfX7 (by show 0 + 1 + 1 + 1 + 1 + 1 + 1 + 1 + 1 + 1 + 1 + 1 + 1 + 1 + 1 + 1 + 1 + 1 + 1 + 1 ≤ 22; omega) (by show 0 + 2 + 64 + 2 + 64 + 2 + 64 + 2 + 64 + 2 + 64 + 2 + 64 + 2 + 64 + 2 + 64 + 2 + 64 + 2 ≤ 726; omega) dX8_init_122 (fun h9052 q9052_ H9052 hf9052 eh9052 T9052 => ?_)
  have hnb_9052 : h9052 q9052_ = some (.inr (1, [.null, .int 0]), q9052_) := hu_s eh9052
  refine lv_dup hx hb dX8_init_125 rfl ?_
  refine lv_bipush (v := nI 64) hx hb dX8_init_126 rfl ?_
  refine hg_I C T9052 hl.1 (m_X7_init hnb_9052 (by decide) (by decide)) q198 q167 q59 q168 rfl kd_X7_init rfl rfl ⟨Nat.le_of_ble_eq_true rfl, Nat.le_of_ble_eq_true rfl⟩ (Nat.le_of_ble_eq_true rfl) dX8_init_128 ⟨by show 0 + 1 + 1 + 1 + 1 + 1 + 1 + 1 + 1 + 1 + 1 + 1 + 1 + 1 + 1 + 1 + 1 + 1 + 1 + 1 + 1 ≤ 22; omega, by show 0 + 2 + 64 + 2 + 64 + 2 + 64 + 2 + 64 + 2 + 64 + 2 + 64 + 2 + 64 + 2 + 64 + 2 + 64 + 2 + 64 ≤ 726; omega⟩ (fun rv h9053 dc9053 ds9053 H9053 locs9053 hp9053 T9053 => ?_)
  obtain ⟨rfl, hbg9053, hF9053, rfl, rfl⟩ := hp9053
  have hQ9053 := hQ9050_9051.add hf9052 eh9052 hF9053 hbg9053
  have hN_9053 : FN b h h9053 := hN_9051.nest hf9052 eh9052 hF9053.fn
  refine W.eq (g2 := F0 m 131 ls [.ref q9052_, .ref b]) rfl ?_
  have hbo_9052 : h9052 b = some (.inr (7, [.ref q9025_, .ref q9028_, .ref q9031_, .ref q9034_, .ref q9037_, .ref q9040_, .ref q9043_, .ref q9046_, .ref q9049_, .null, .null]), b) := hu_w eh9052 hf9052 hbo_9051
  have hbo_9053 : h9053 b = some (.inr (7, [.ref q9025_, .ref q9028_, .ref q9031_, .ref q9034_, .ref q9037_, .ref q9040_, .ref q9043_, .ref q9046_, .ref q9049_, .null, .null]), b) := hF9053 _ _ hbo_9052 (hne_new hbo_9051 hf9052)
  refine hr_putF C T9053 hin hbo_9053 rfl in_X8 tyX8 tyX8_ok nmX8 9 (by decide) q208 rfl rfl rfl rfl rfl (Nat.le_of_ble_eq_true rfl) dX8_init_131 (fun h9054 H9054 locs9054 eh9054 T9054 => ?_)
  have hbo_9054 : h9054 b = some (.inr (7, [.ref q9025_, .ref q9028_, .ref q9031_, .ref q9034_, .ref q9037_, .ref q9040_, .ref q9043_, .ref q9046_, .ref q9049_, .ref q9052_, .null]), b) := hu_s eh9054
  refine lv_aload_n hx hb dX8_init_134 rfl (lv_at hl 0 rfl) ?_
  have hQ9053_9054 : PB E h9054 (nu (nu (nu (nu (nu (nu (nu (nu (nu (nu Bq n q9025_) (n + 1) q9028_) (n + 2) q9031_) (n + 3) q9034_) (n + 4) q9037_) (n + 5) q9040_) (n + 6) q9043_) (n + 7) q9046_) (n + 8) q9049_) (n + 9) q9052_) (nu (nu (nu (nu (nu (nu (nu (nu (nu (nu cq n 64) (n + 1) 64) (n + 2) 64) (n + 3) 64) (n + 4) 64) (n + 5) 64) (n + 6) 64) (n + 7) 64) (n + 8) 64) (n + 9) 64) (n + 10) := PB.kept (O := (· = b)) (hu_f eh9054 Fr.rf hbo_9053 rfl) (hQ9053.neobj hbo_9053 (by decide)) hQ9053
  have hN_9054 : FN b h h9054 := hN_9053.up hbo_9053 eh9054
  refine hr_new C T9054 (fun q => q) (ci := 1) rfl in_X7 tyX7 tyX7_ok q197 q165 q59 (fs := [.null, .int 0]) dfX7 (by show 0 + 1 + 1 + 1 + 1 + 1 + 1 + 1 + 1 + 1 + 1 + 1 + 1 + 1 + 1 + 1 + 1 + 1 + 1 + 1 + 1 + 1 ≤ 22; omega) (by show 0 + 2 + 64 + 2 + 64 + 2 + 64 + 2 + 64 + 2 + 64 + 2 + 64 + 2 + 64 + 2 + 64 + 2 + 64 + 2 + 64 + 2 ≤ 726; omega) dX8_init_135 (fun h9055 q9055_ H9055 hf9055 eh9055 T9055 => ?_)
  have hnb_9055 : h9055 q9055_ = some (.inr (1, [.null, .int 0]), q9055_) := hu_s eh9055
  refine lv_dup hx hb dX8_init_138 rfl ?_
  refine lv_bipush (v := nI 64) hx hb dX8_init_139 rfl ?_
  refine hg_I C T9055 hl.1 (m_X7_init hnb_9055 (by decide) (by decide)) q198 q167 q59 q168 rfl kd_X7_init rfl rfl ⟨Nat.le_of_ble_eq_true rfl, Nat.le_of_ble_eq_true rfl⟩ (Nat.le_of_ble_eq_true rfl) dX8_init_141 ⟨by show 0 + 1 + 1 + 1 + 1 + 1 + 1 + 1 + 1 + 1 + 1 + 1 + 1 + 1 + 1 + 1 + 1 + 1 + 1 + 1 + 1 + 1 + 1 ≤ 22; omega, by show 0 + 2 + 64 + 2 + 64 + 2 + 64 + 2 + 64 + 2 + 64 + 2 + 64 + 2 + 64 + 2 + 64 + 2 + 64 + 2 + 64 + 2 + 64 ≤ 726; omega⟩ (fun rv h9056 dc9056 ds9056 H9056 locs9056 hp9056 T9056 => ?_)
  obtain ⟨rfl, hbg9056, hF9056, rfl, rfl⟩ := hp9056
  have hQ9056 := hQ9053_9054.add hf9055 eh9055 hF9056 hbg9056
  have hN_9056 : FN b h h9056 := hN_9054.nest hf9055 eh9055 hF9056.fn
  refine W.eq (g2 := F0 m 144 ls [.ref q9055_, .ref b]) rfl ?_
  have hbo_9055 : h9055 b = some (.inr (7, [.ref q9025_, .ref q9028_, .ref q9031_, .ref q9034_, .ref q9037_, .ref q9040_, .ref q9043_, .ref q9046_, .ref q9049_, .ref q9052_, .null]), b) := hu_w eh9055 hf9055 hbo_9054
  have hbo_9056 : h9056 b = some (.inr (7, [.ref q9025_, .ref q9028_, .ref q9031_, .ref q9034_, .ref q9037_, .ref q9040_, .ref q9043_, .ref q9046_, .ref q9049_, .ref q9052_, .null]), b) := hF9056 _ _ hbo_9055 (hne_new hbo_9054 hf9055)
  refine hr_putF C T9056 hin hbo_9056 rfl in_X8 tyX8 tyX8_ok nmX8 10 (by decide) q209 rfl rfl rfl rfl rfl (Nat.le_of_ble_eq_true rfl) dX8_init_144 (fun h9057 H9057 locs9057 eh9057 T9057 => ?_)
  have hbo_9057 : h9057 b = some (.inr (7, [.ref q9025_, .ref q9028_, .ref q9031_, .ref q9034_, .ref q9037_, .ref q9040_, .ref q9043_, .ref q9046_, .ref q9049_, .ref q9052_, .ref q9055_]), b) := hu_s eh9057
  have hN_9057 : FN b h h9057 := hN_9056.up hbo_9056 eh9057
  have hQ9056_9057 : PB E h9057 (nu (nu (nu (nu (nu (nu (nu (nu (nu (nu (nu Bq n q9025_) (n + 1) q9028_) (n + 2) q9031_) (n + 3) q9034_) (n + 4) q9037_) (n + 5) q9040_) (n + 6) q9043_) (n + 7) q9046_) (n + 8) q9049_) (n + 9) q9052_) (n + 10) q9055_) (nu (nu (nu (nu (nu (nu (nu (nu (nu (nu (nu cq n 64) (n + 1) 64) (n + 2) 64) (n + 3) 64) (n + 4) 64) (n + 5) 64) (n + 6) 64) (n + 7) 64) (n + 8) 64) (n + 9) 64) (n + 10) 64) (n + 11) := PB.kept (O := (· = b)) (hu_f eh9057 Fr.rf hbo_9056 rfl) (hQ9056.neobj hbo_9056 (by decide)) hQ9056
  obtain ⟨B2, hB2⟩ : ∃ B2 : Nat → Nat, B2 = (nu (nu (nu (nu (nu (nu (nu (nu (nu (nu (nu Bq n q9025_) (n + 1) q9028_) (n + 2) q9031_) (n + 3) q9034_) (n + 4) q9037_) (n + 5) q9040_) (n + 6) q9043_) (n + 7) q9046_) (n + 8) q9049_) (n + 9) q9052_) (n + 10) q9055_) := ⟨_, rfl⟩
  obtain ⟨c2, hc2⟩ : ∃ c2 : Nat → Nat, c2 = (nu (nu (nu (nu (nu (nu (nu (nu (nu (nu (nu cq n 64) (n + 1) 64) (n + 2) 64) (n + 3) 64) (n + 4) 64) (n + 5) 64) (n + 6) 64) (n + 7) 64) (n + 8) 64) (n + 9) 64) (n + 10) 64) := ⟨_, rfl⟩
  have hv0 : q9025_ = B2 (n) := by rw [hB2]; (repeat rw [nu_n (by omega)]); rw [nu_s]
  have hv1 : q9028_ = B2 (n + 1) := by rw [hB2]; (repeat rw [nu_n (by omega)]); rw [nu_s]
  have hv2 : q9031_ = B2 (n + 2) := by rw [hB2]; (repeat rw [nu_n (by omega)]); rw [nu_s]
  have hv3 : q9034_ = B2 (n + 3) := by rw [hB2]; (repeat rw [nu_n (by omega)]); rw [nu_s]
  have hv4 : q9037_ = B2 (n + 4) := by rw [hB2]; (repeat rw [nu_n (by omega)]); rw [nu_s]
  have hv5 : q9040_ = B2 (n + 5) := by rw [hB2]; (repeat rw [nu_n (by omega)]); rw [nu_s]
  have hv6 : q9043_ = B2 (n + 6) := by rw [hB2]; (repeat rw [nu_n (by omega)]); rw [nu_s]
  have hv7 : q9046_ = B2 (n + 7) := by rw [hB2]; (repeat rw [nu_n (by omega)]); rw [nu_s]
  have hv8 : q9049_ = B2 (n + 8) := by rw [hB2]; (repeat rw [nu_n (by omega)]); rw [nu_s]
  have hv9 : q9052_ = B2 (n + 9) := by rw [hB2]; (repeat rw [nu_n (by omega)]); rw [nu_s]
  have hv10 : q9055_ = B2 (n + 10) := by rw [hB2]; (repeat rw [nu_n (by omega)]); rw [nu_s]
  have hQ2 : PB E h9057 B2 c2 (n + 11) := by rw [hB2, hc2]; exact hQ9056_9057
  have hob : h9057 b = some (.inr (7, [.ref (B2 n), .ref (B2 (n + 1)), .ref (B2 (n + 2)), .ref (B2 (n + 3)), .ref (B2 (n + 4)), .ref (B2 (n + 5)), .ref (B2 (n + 6)), .ref (B2 (n + 7)), .ref (B2 (n + 8)), .ref (B2 (n + 9)), .ref (B2 (n + 10))]), b) := by rw [← hv0, ← hv1, ← hv2, ← hv3, ← hv4, ← hv5, ← hv6, ← hv7, ← hv8, ← hv9, ← hv10]; exact hbo_9057
  exact Z _ _ _ _ _ _ _ dX8_init_147 (Nat.le_refl _) (Nat.le_refl _) ⟨rfl, B2, c2, hQ2, fun i hi => by rw [hB2, hc2]; constructor <;> (repeat rw [nu_n (by omega)]), fun i h1 h2 => by rw [hc2]; (repeat (first | rw [nu_s] | rw [nu_n (by omega)])); first | rfl | (unfold nu; (repeat' split) <;> omega), hob, hN_9057, rfl, rfl⟩ T9057
