set_option maxRecDepth 100000
theorem kd_X1_inside : yX1_inside.cls ≠ "java/lang/invoke/MethodHandle" ∧ yX1_inside.cls ≠ "java/lang/invoke/VarHandle" ∧ (parseMethodDescriptor yX1_inside.desc).map (fun d => d.parameters.length) = some 1 := by decide +kernel
theorem kd_X1_need : yX1_need.cls ≠ "java/lang/invoke/MethodHandle" ∧ yX1_need.cls ≠ "java/lang/invoke/VarHandle" ∧ (parseMethodDescriptor yX1_need.desc).map (fun d => d.parameters.length) = some 1 := by decide +kernel
theorem kd_X1_now : yX1_now.cls ≠ "java/lang/invoke/MethodHandle" ∧ yX1_now.cls ≠ "java/lang/invoke/VarHandle" ∧ (parseMethodDescriptor yX1_now.desc).map (fun d => d.parameters.length) = some 1 := by decide +kernel
theorem kd_X1_room : yX1_room.cls ≠ "java/lang/invoke/MethodHandle" ∧ yX1_room.cls ≠ "java/lang/invoke/VarHandle" ∧ (parseMethodDescriptor yX1_room.desc).map (fun d => d.parameters.length) = some 1 := by decide +kernel

set_option maxHeartbeats 4000000 in
theorem p_X1_inside {E : GE} {l : Launch} {h : HH}  : MP E l yX1_inside cX1_inside 1 none ({ frames := 0, cells := 0, slots := 0, locals := 0 } : Room) [.int (nI 1)] h (fun rv => rv = none) := by
  refine hp_v (by decide) (Nat.le_of_ble_eq_true rfl) ?_
  intro p e s m below meth c C Q Z ls T hl
  have hx := C.x
  have hb := C.b
  have hl : lv_has ls 1 [(0, .int (nI 1))] := hl
  refine lv_iload_n hx hb dX1_inside_0 rfl (lv_at hl 0 rfl) ?_
  refine hn_if_ne (tgt := 12) hx hb dX1_inside_1 (by decide) (by omega) (fun c1 => ?_) (fun c1 => absurd c1 (by decide))
  exact Z _ _ _ dX1_inside_12 rfl T

set_option maxHeartbeats 4000000 in
theorem t_X1_inside {E : GE} {l : Launch} {h : HH} (hfl : l.flags = flags0)  : MT E l yX1_inside cX1_inside 1 none ({ frames := 6, cells := 1, slots := 6, locals := 900 } : Room) [.int (nI 0)] h "java/lang/IndexOutOfBoundsException" (fun h' dc ds => h' = h ∧ dc = 1 ∧ ds = 6) := by
  refine ht_of (by decide) (Nat.le_of_ble_eq_true rfl) ?_
  intro p e s m below meth c C hno ls T hl
  have hx := C.x
  have hb := C.b
  have hl : lv_has ls 1 [(0, .int (nI 0))] := hl
  refine lv_iload_n hx hb dX1_inside_0 rfl (lv_at hl 0 rfl) ?_
  refine hn_if_ne (tgt := 12) hx hb dX1_inside_1 (by decide) (by omega) (fun c1 => absurd rfl c1) (fun c1 => ?_)
  refine hx_new C T q596 q597 q71 (Nat.le_of_ble_eq_true rfl) (Nat.le_of_ble_eq_true rfl) dX1_inside_4 (fun qa H1001 cX kX hfX hkX hcell hnew T1001 => ?_)
  refine lv_dup hx hb dX1_inside_7 rfl ?_
  exact hx_thr0 hfl C T hl.1 (by decide) (by decide) (ex_at C (by decide) ok_iob) hfX hkX hcell hnew dX1_inside_8 dX1_inside_11 hno (by decide) (by decide) ⟨Nat.le_of_ble_eq_true rfl, Nat.le_of_ble_eq_true rfl⟩ ⟨rfl, rfl, rfl⟩

set_option maxHeartbeats 4000000 in
theorem p_X1_need {E : GE} {l : Launch} {h : HH}  : MP E l yX1_need cX1_need 1 none ({ frames := 0, cells := 0, slots := 0, locals := 0 } : Room) [.int (nI 1)] h (fun rv => rv = none) := by
  refine hp_v (by decide) (Nat.le_of_ble_eq_true rfl) ?_
  intro p e s m below meth c C Q Z ls T hl
  have hx := C.x
  have hb := C.b
  have hl : lv_has ls 1 [(0, .int (nI 1))] := hl
  refine lv_iload_n hx hb dX1_need_0 rfl (lv_at hl 0 rfl) ?_
  refine hn_if_ne (tgt := 14) hx hb dX1_need_1 (by decide) (by omega) (fun c1 => ?_) (fun c1 => absurd c1 (by decide))
  exact Z _ _ _ dX1_need_14 rfl T

set_option maxHeartbeats 4000000 in
theorem t_X1_need {E : GE} {l : Launch} {h : HH} (hfl : l.flags = flags0)  : MT E l yX1_need cX1_need 1 none ({ frames := 6, cells := 1, slots := 6, locals := 900 } : Room) [.int (nI 0)] h "java/lang/IllegalArgumentException" (fun h' dc ds => h' = h ∧ dc = 1 ∧ ds = 6) := by
  refine ht_of (by decide) (Nat.le_of_ble_eq_true rfl) ?_
  intro p e s m below meth c C hno ls T hl
  have hx := C.x
  have hb := C.b
  have hl : lv_has ls 1 [(0, .int (nI 0))] := hl
  refine lv_iload_n hx hb dX1_need_0 rfl (lv_at hl 0 rfl) ?_
  refine hn_if_ne (tgt := 14) hx hb dX1_need_1 (by decide) (by omega) (fun c1 => absurd rfl c1) (fun c1 => ?_)
  refine hx_new C T q444 q445 q68 (Nat.le_of_ble_eq_true rfl) (Nat.le_of_ble_eq_true rfl) dX1_need_4 (fun qa H1002 cX kX hfX hkX hcell hnew T1002 => ?_)
  refine lv_dup hx hb dX1_need_7 rfl ?_
  refine va_ldcS hx hb C.ow (C.2.2.1.2.2.2.2.2.2.2.1) dX1_need_8 ?_
  exact hx_thrS hfl C T hl.1 (by decide) (by decide) (ex_at C (by decide) ok_iae) hfX hkX hcell hnew dX1_need_10 dX1_need_13 hno (by decide) (by decide) ⟨Nat.le_of_ble_eq_true rfl, Nat.le_of_ble_eq_true rfl⟩ ⟨rfl, rfl, rfl⟩

set_option maxHeartbeats 4000000 in
theorem p_X1_now {E : GE} {l : Launch} {h : HH}  : MP E l yX1_now cX1_now 1 none ({ frames := 0, cells := 0, slots := 0, locals := 0 } : Room) [.int (nI 1)] h (fun rv => rv = none) := by
  refine hp_v (by decide) (Nat.le_of_ble_eq_true rfl) ?_
  intro p e s m below meth c C Q Z ls T hl
  have hx := C.x
  have hb := C.b
  have hl : lv_has ls 1 [(0, .int (nI 1))] := hl
  refine lv_iload_n hx hb dX1_now_0 rfl (lv_at hl 0 rfl) ?_
  refine hn_if_ne (tgt := 14) hx hb dX1_now_1 (by decide) (by omega) (fun c1 => ?_) (fun c1 => absurd c1 (by decide))
  exact Z _ _ _ dX1_now_14 rfl T

set_option maxHeartbeats 4000000 in
theorem t_X1_now {E : GE} {l : Launch} {h : HH} (hfl : l.flags = flags0)  : MT E l yX1_now cX1_now 1 none ({ frames := 6, cells := 1, slots := 6, locals := 900 } : Room) [.int (nI 0)] h "java/lang/IllegalStateException" (fun h' dc ds => h' = h ∧ dc = 1 ∧ ds = 6) := by
  refine ht_of (by decide) (Nat.le_of_ble_eq_true rfl) ?_
  intro p e s m below meth c C hno ls T hl
  have hx := C.x
  have hb := C.b
  have hl : lv_has ls 1 [(0, .int (nI 0))] := hl
  refine lv_iload_n hx hb dX1_now_0 rfl (lv_at hl 0 rfl) ?_
  refine hn_if_ne (tgt := 14) hx hb dX1_now_1 (by decide) (by omega) (fun c1 => absurd rfl c1) (fun c1 => ?_)
  refine hx_new C T q520 q521 q69 (Nat.le_of_ble_eq_true rfl) (Nat.le_of_ble_eq_true rfl) dX1_now_4 (fun qa H1003 cX kX hfX hkX hcell hnew T1003 => ?_)
  refine lv_dup hx hb dX1_now_7 rfl ?_
  refine va_ldcS hx hb C.ow (C.2.2.1.2.2.2.2.2.2.2.2.1) dX1_now_8 ?_
  exact hx_thrS hfl C T hl.1 (by decide) (by decide) (ex_at C (by decide) ok_ise) hfX hkX hcell hnew dX1_now_10 dX1_now_13 hno (by decide) (by decide) ⟨Nat.le_of_ble_eq_true rfl, Nat.le_of_ble_eq_true rfl⟩ ⟨rfl, rfl, rfl⟩

set_option maxHeartbeats 4000000 in
theorem p_X1_room {E : GE} {l : Launch} {h : HH}  : MP E l yX1_room cX1_room 1 none ({ frames := 0, cells := 0, slots := 0, locals := 0 } : Room) [.int (nI 1)] h (fun rv => rv = none) := by
  refine hp_v (by decide) (Nat.le_of_ble_eq_true rfl) ?_
  intro p e s m below meth c C Q Z ls T hl
  have hx := C.x
  have hb := C.b
  have hl : lv_has ls 1 [(0, .int (nI 1))] := hl
  refine lv_iload_n hx hb dX1_room_0 rfl (lv_at hl 0 rfl) ?_
  refine hn_if_ne (tgt := 14) hx hb dX1_room_1 (by decide) (by omega) (fun c1 => ?_) (fun c1 => absurd c1 (by decide))
  exact Z _ _ _ dX1_room_14 rfl T

set_option maxHeartbeats 4000000 in
theorem t_X1_room {E : GE} {l : Launch} {h : HH} (hfl : l.flags = flags0)  : MT E l yX1_room cX1_room 1 none ({ frames := 6, cells := 1, slots := 6, locals := 900 } : Room) [.int (nI 0)] h "java/lang/UnsupportedOperationException" (fun h' dc ds => h' = h ∧ dc = 1 ∧ ds = 6) := by
  refine ht_of (by decide) (Nat.le_of_ble_eq_true rfl) ?_
  intro p e s m below meth c C hno ls T hl
  have hx := C.x
  have hb := C.b
  have hl : lv_has ls 1 [(0, .int (nI 0))] := hl
  refine lv_iload_n hx hb dX1_room_0 rfl (lv_at hl 0 rfl) ?_
  refine hn_if_ne (tgt := 14) hx hb dX1_room_1 (by decide) (by omega) (fun c1 => absurd rfl c1) (fun c1 => ?_)
  refine hx_new C T q539 q540 q70 (Nat.le_of_ble_eq_true rfl) (Nat.le_of_ble_eq_true rfl) dX1_room_4 (fun qa H1004 cX kX hfX hkX hcell hnew T1004 => ?_)
  refine lv_dup hx hb dX1_room_7 rfl ?_
  refine va_ldcS hx hb C.ow (C.2.2.1.2.2.2.2.2.2.2.2.2.1) dX1_room_8 ?_
  exact hx_thrS hfl C T hl.1 (by decide) (by decide) (ex_at C (by decide) ok_uoe) hfX hkX hcell hnew dX1_room_10 dX1_room_13 hno (by decide) (by decide) ⟨Nat.le_of_ble_eq_true rfl, Nat.le_of_ble_eq_true rfl⟩ ⟨rfl, rfl, rfl⟩
