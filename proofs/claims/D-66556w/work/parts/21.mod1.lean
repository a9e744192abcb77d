set_option maxRecDepth 100000
theorem kd_X10_trim : yX10_trim.cls = RX10 ∧ yX10_trim.cls ≠ "java/lang/invoke/MethodHandle" ∧ yX10_trim.cls ≠ "java/lang/invoke/VarHandle" ∧ (parseMethodDescriptor yX10_trim.desc).map (fun d => d.parameters.length) = some 1 := by decide +kernel
theorem kd_X10_give : yX10_give.cls = RX10 ∧ yX10_give.cls ≠ "java/lang/invoke/MethodHandle" ∧ yX10_give.cls ≠ "java/lang/invoke/VarHandle" ∧ (parseMethodDescriptor yX10_give.desc).map (fun d => d.parameters.length) = some 2 := by decide +kernel
theorem kd_X10_copy : yX10_copy.cls = RX10 ∧ yX10_copy.cls ≠ "java/lang/invoke/MethodHandle" ∧ yX10_copy.cls ≠ "java/lang/invoke/VarHandle" ∧ (parseMethodDescriptor yX10_copy.desc).map (fun d => d.parameters.length) = some 2 := by decide +kernel
theorem kd_X10_times : yX10_times.cls = RX10 ∧ yX10_times.cls ≠ "java/lang/invoke/MethodHandle" ∧ yX10_times.cls ≠ "java/lang/invoke/VarHandle" ∧ (parseMethodDescriptor yX10_times.desc).map (fun d => d.parameters.length) = some 2 := by decide +kernel
theorem kd_X10_power : yX10_power.cls = RX10 ∧ yX10_power.cls ≠ "java/lang/invoke/MethodHandle" ∧ yX10_power.cls ≠ "java/lang/invoke/VarHandle" ∧ (parseMethodDescriptor yX10_power.desc).map (fun d => d.parameters.length) = some 3 := by decide +kernel
theorem kd_X10_compare : yX10_compare.cls = RX10 ∧ yX10_compare.cls ≠ "java/lang/invoke/MethodHandle" ∧ yX10_compare.cls ≠ "java/lang/invoke/VarHandle" ∧ (parseMethodDescriptor yX10_compare.desc).map (fun d => d.parameters.length) = some 2 := by decide +kernel
theorem kd_X10_add : yX10_add.cls = RX10 ∧ yX10_add.cls ≠ "java/lang/invoke/MethodHandle" ∧ yX10_add.cls ≠ "java/lang/invoke/VarHandle" ∧ (parseMethodDescriptor yX10_add.desc).map (fun d => d.parameters.length) = some 2 := by decide +kernel
theorem kd_X10_less : yX10_less.cls = RX10 ∧ yX10_less.cls ≠ "java/lang/invoke/MethodHandle" ∧ yX10_less.cls ≠ "java/lang/invoke/VarHandle" ∧ (parseMethodDescriptor yX10_less.desc).map (fun d => d.parameters.length) = some 2 := by decide +kernel

theorem hup_2 {h : HH} {a : Nat} {x y : HE} : hup (hup h a x) a y = hup h a y := by
  funext q
  unfold hup
  split <;> rfl
theorem nu_2 {f : Nat → Nat} {i a b : Nat} : nu (nu f i a) i b = nu f i b := by
  funext q
  unfold nu
  split <;> rfl

set_option maxHeartbeats 4000000 in
theorem m_X10_trim {E : GE} {l : Launch} {h : HH} {A N : Nat → Nat} {mc : Nat} (hA : ∀ i j, i < 64 → j < 64 → i ≠ j → A i ≠ A j) (hmo : h (A 0) = some (.inr (9, [.int (nI mc), .ref (A 1), .int (nI (N 0)), .int (nI (N 3)), .int (nI (N 4)), .ref (A 5), .int (nI (N 1)), .int (nI (N 2)), .ref (A 8), .int (nI (N 5)), .int (nI (N 6)), .int (nI (N 7)), .int (nI (N 8)), .ref (A 13), .int (nI (N 9)), .ref (A 15), .int (nI (N 10)), .int (nI (N 11)), .int (nI (N 12)), .int (nI (N 13)), .ref (A 20), .ref (A 21), .ref (A 22), .ref (A 23), .int (nI (N 14)), .ref (A 25), .ref (A 26), .ref (A 27), .int (nI (N 15)), .int (nI (N 16)), .int (nI (N 17)), .int (nI (N 18) - 1), .ref (A 32), .int (nI (N 19)), .ref (A 34), .ref (A 35), .ref (A 36), .ref (A 37), .ref (A 38), .ref (A 39), .ref (A 40), .ref (A 41), .ref (A 42), .ref (A 43), .ref (A 44)]), A 0)) {gb sz : Nat → Nat} {sl : Nat} (hm34 : h (A 34) = some (.inl (E.2.1 0, 10800, .inl (nI1 gb)), A 0)) (hm35 : h (A 35) = some (.inl (E.2.1 0, 9, .inl (nI1 sz)), A 0)) (hg : ∀ i, gb i < 65536) (hs : sl < 9) (hz : sz sl ≤ 1200) : MM E l yX10_trim cX10_trim 2 none ({ frames := 0, cells := 0, slots := 0, locals := 0 } : Room) [.ref (A 0), .int (nI sl)] h (fun rv h2 => rv = none ∧ ∃ n, n ≤ sz sl ∧ h2 (A 35) = some (.inl (E.2.1 0, 9, .inl (nI1 (nu sz sl n))), A 0) ∧ vp16 gb (1200 * sl) n = vp16 gb (1200 * sl) (sz sl) ∧ (n = 0 ∨ gb (1200 * sl + (n - 1)) ≠ 0) ∧ (∀ q, q ≠ A 35 → h2 q = h q) ∧ Fr (· = A 0) h h2) := by
  refine hm_v (by decide) (Nat.le_of_ble_eq_true rfl) ?_
  intro p e s m below meth c C hnm Q Z ls T hl
  have hx := C.x
  have hb := C.b
  have hl : lv_has ls 2 [(0, .ref (A 0)), (1, .int (nI sl))] := hl
  have hF : Fr (· = A 0) h h := Fr.rf
  have L1 : ∀ (j : Nat) (n : Nat) (h20001 : HH) (H20001 : Heap) (locs20001 : List Loc) (ls20001 : Array Slot), (n < j) → (h20001 (A 0) = some (.inr (9, [.int (nI mc), .ref (A 1), .int (nI (N 0)), .int (nI (N 3)), .int (nI (N 4)), .ref (A 5), .int (nI (N 1)), .int (nI (N 2)), .ref (A 8), .int (nI (N 5)), .int (nI (N 6)), .int (nI (N 7)), .int (nI (N 8)), .ref (A 13), .int (nI (N 9)), .ref (A 15), .int (nI (N 10)), .int (nI (N 11)), .int (nI (N 12)), .int (nI (N 13)), .ref (A 20), .ref (A 21), .ref (A 22), .ref (A 23), .int (nI (N 14)), .ref (A 25), .ref (A 26), .ref (A 27), .int (nI (N 15)), .int (nI (N 16)), .int (nI (N 17)), .int (nI (N 18) - 1), .ref (A 32), .int (nI (N 19)), .ref (A 34), .ref (A 35), .ref (A 36), .ref (A 37), .ref (A 38), .ref (A 39), .ref (A 40), .ref (A 41), .ref (A 42), .ref (A 43), .ref (A 44)]), A 0)) → (h20001 (A 34) = some (.inl (E.2.1 0, 10800, .inl (nI1 gb)), A 0)) → (h20001 (A 35) = some (.inl (E.2.1 0, 9, .inl (nI1 (nu sz sl n))), A 0)) → (n ≤ sz sl) → (vp16 gb (1200 * sl) n = vp16 gb (1200 * sl) (sz sl)) → (h20001 = hup h (A 35) (.inl (E.2.1 0, 9, .inl (nI1 (nu sz sl n))), A 0)) → (Fr (· = A 0) h h20001) → (St E s h20001 H20001 locs20001) → (lv_has ls20001 2 [(0, .ref (A 0)), (1, .int (nI sl))]) → W p l e ({ frames := 0, cells := 0, slots := 0, locals := 0 } : Room) s m ([.ref (A 0), .int (nI sl)] : List Value).toArray below meth c H20001 locs20001 0 0 Q (F0 m 0 ls20001 []) := by
    intro j
    induction j with
    | zero => intro n h20001 H20001 locs20001 ls20001 hm20001 hmo_20001 hm34_20001 hm35_20001 hn hv hh hF_20001 T20001 hl20001; exact absurd hm20001 (by omega)
    | succ j ih20001 =>
      intro n h20001 H20001 locs20001 ls20001 hm20001 hmo_20001 hm34_20001 hm35_20001 hn hv hh hF_20001 T20001 hl20001
      refine lv_aload_n hx hb dX10_trim_0 rfl (lv_at hl20001 0 rfl) ?_
      refine hr_get C T20001 hmo_20001 rfl in_X10 35 (by decide) q1125 rfl rfl dX10_trim_1 ?_
      refine lv_iload_n hx hb dX10_trim_4 rfl (lv_at hl20001 1 rfl) ?_
      refine hr_iald C T20001 hm35_20001 (by omega) (by omega) dX10_trim_5 ?_
      rw [show nI1 (nu sz sl n) sl = nI n by unfold nI1; rw [nu_s]]
      refine hn_if_le (tgt := 44) hx hb dX10_trim_6 (by decide) (by omega) (fun c1 => ?_) (fun c1 => ?_)
      · exact Z _ _ _ _ _ dX10_trim_44 ⟨rfl, n, hn, hm35_20001, hv, Or.inl (by omega), fun q hq => by rw [hh, hup_n hq], hF_20001⟩ T20001
      · refine lv_aload_n hx hb dX10_trim_9 rfl (lv_at hl20001 0 rfl) ?_
        refine hr_get C T20001 hmo_20001 rfl in_X10 34 (by decide) q1124 rfl rfl dX10_trim_10 ?_
        refine lv_sipush (v := nI 1200) hx hb dX10_trim_13 rfl ?_
        refine lv_iload_n hx hb dX10_trim_16 rfl (lv_at hl20001 1 rfl) ?_
        refine hn_imul hx hb dX10_trim_17 ?_
        refine lv_aload_n hx hb dX10_trim_18 rfl (lv_at hl20001 0 rfl) ?_
        refine hr_get C T20001 hmo_20001 rfl in_X10 35 (by decide) q1125 rfl rfl dX10_trim_19 ?_
        refine lv_iload_n hx hb dX10_trim_22 rfl (lv_at hl20001 1 rfl) ?_
        refine hr_iald C T20001 hm35_20001 (by omega) (by omega) dX10_trim_23 ?_
        rw [show nI1 (nu sz sl n) sl = nI n by unfold nI1; rw [nu_s]]
        refine hn_iadd hx hb dX10_trim_24 ?_
        refine lv_iconst (v := nI 1) hx hb dX10_trim_25 rfl ?_
        refine hn_isub hx hb dX10_trim_26 (by omega) ?_
        refine hr_iald C T20001 hm34_20001 (by omega) (by omega) dX10_trim_27 ?_
        rw [show nI1 gb (1200 * sl + n - 1) = nI (gb (1200 * sl + n - 1)) from rfl]
        have hgb := hg (1200 * sl + n - 1)
        refine hn_if_ne (tgt := 44) hx hb dX10_trim_28 (by decide) (by omega) (fun c2 => ?_) (fun c2 => ?_)
        · exact Z _ _ _ _ _ dX10_trim_44 ⟨rfl, n, hn, hm35_20001, hv, Or.inr (by rw [show 1200 * sl + (n - 1) = 1200 * sl + n - 1 by omega]; exact c2), fun q hq => by rw [hh, hup_n hq], hF_20001⟩ T20001
        · refine lv_aload_n hx hb dX10_trim_31 rfl (lv_at hl20001 0 rfl) ?_
          refine hr_get C T20001 hmo_20001 rfl in_X10 35 (by decide) q1125 rfl rfl dX10_trim_32 ?_
          refine lv_iload_n hx hb dX10_trim_35 rfl (lv_at hl20001 1 rfl) ?_
          refine lv_dup2_11 hx hb dX10_trim_36 rfl rfl ?_
          refine hr_iald C T20001 hm35_20001 (by omega) (by omega) dX10_trim_37 ?_
          rw [show nI1 (nu sz sl n) sl = nI n by unfold nI1; rw [nu_s]]
          refine lv_iconst (v := nI 1) hx hb dX10_trim_38 rfl ?_
          refine hn_isub hx hb dX10_trim_39 (by omega) ?_
          refine hr_iast C T20001 hm35_20001 (by omega) (by omega) dX10_trim_40 (fun h20002 H20002 locs20002 eh20002 T20002 => ?_)
          have hm35_20002 : h20002 (A 35) = some (.inl (E.2.1 0, 9, .inl (upd (nI1 (nu sz sl n)) sl (nI (n - 1)))), A 0) := hu_s eh20002
          have hF_20002 : Fr (· = A 0) h h20002 := hu_f eh20002 hF_20001 hm35_20001 rfl
          rw [← nI1_up, nu_2] at eh20002 hm35_20002
          refine lv_goto (tgt := 0) hx hb dX10_trim_41 (by decide) ?_
          have hmo_20002 : h20002 (A 0) = some (.inr (9, [.int (nI mc), .ref (A 1), .int (nI (N 0)), .int (nI (N 3)), .int (nI (N 4)), .ref (A 5), .int (nI (N 1)), .int (nI (N 2)), .ref (A 8), .int (nI (N 5)), .int (nI (N 6)), .int (nI (N 7)), .int (nI (N 8)), .ref (A 13), .int (nI (N 9)), .ref (A 15), .int (nI (N 10)), .int (nI (N 11)), .int (nI (N 12)), .int (nI (N 13)), .ref (A 20), .ref (A 21), .ref (A 22), .ref (A 23), .int (nI (N 14)), .ref (A 25), .ref (A 26), .ref (A 27), .int (nI (N 15)), .int (nI (N 16)), .int (nI (N 17)), .int (nI (N 18) - 1), .ref (A 32), .int (nI (N 19)), .ref (A 34), .ref (A 35), .ref (A 36), .ref (A 37), .ref (A 38), .ref (A 39), .ref (A 40), .ref (A 41), .ref (A 42), .ref (A 43), .ref (A 44)]), A 0) := hu_n eh20002 (hA 0 35 (by decide) (by decide) (by decide)) hmo_20001
          have hm34_20002 : h20002 (A 34) = some (.inl (E.2.1 0, 10800, .inl (nI1 gb)), A 0) := hu_n eh20002 (hA 34 35 (by decide) (by decide) (by decide)) hm34_20001
          exact ih20001 (n - 1) _ _ _ _ (by omega) hmo_20002 hm34_20002 hm35_20002 (by omega) (by rw [← hv]; obtain ⟨k, rfl⟩ : ∃ k, n = k + 1 := ⟨n - 1, by omega⟩; rw [vp16_s, show 1200 * sl + k = 1200 * sl + (k + 1) - 1 by omega, c2, Nat.zero_mul, Nat.add_zero]; rfl) (by rw [eh20002, hh, hup_2]) hF_20002 T20002 (lv_sub hl20001 [0, 1] rfl)
  have hm35b : h (A 35) = some (.inl (E.2.1 0, 9, .inl (nI1 (nu sz sl (sz sl)))), A 0) := by rw [nu_same]; exact hm35
  exact L1 (sz sl + 1) (sz sl) _ _ _ _ (by omega) hmo hm34 hm35b (Nat.le_refl _) rfl (hup_0 hm35b) hF T (lv_sub hl [0, 1] rfl)
