set_option maxRecDepth 100000
set_option maxHeartbeats 4000000 in
theorem m_X3_init {E : GE} {l : Launch} {h : HH} {b : Nat} (hbo : h b = some (.inr (3, [.null, .int 0, .null]), b)) : MG E l yX3_init cX3_init 1 none ({ frames := 2, cells := 6, slots := 169, locals := 300 } : Room) [.ref b] h (fun rv h2 dc ds => rv = none ∧ ∃ qg qd d1 d2 d3 d4, h2 b = some (.inr (3, [.ref qg, .int 0, .ref qd]), b) ∧ h2 qg = some (.inl (E.2.1 0, 20, .inl (fun _ => 0)), b) ∧ h2 qd = some (.inr (4, [.ref d1, .ref d2, .ref d3, .ref d4, .int 0]), qd) ∧ h2 d1 = some (.inl (E.2.1 0, 8, .inl (fun _ => 0)), qd) ∧ h2 d2 = some (.inl (E.2.1 0, 8, .inl (fun _ => 0)), qd) ∧ h2 d3 = some (.inl (E.2.1 0, 64, .inl (fun _ => 0)), qd) ∧ h2 d4 = some (.inl (E.2.1 1, 64, .inl (fun _ => 0)), qd) ∧ (d1 ≠ d2 ∧ d1 ≠ d3 ∧ d1 ≠ d4 ∧ d2 ≠ d3 ∧ d2 ≠ d4 ∧ d3 ≠ d4) ∧ b ≠ qd ∧ FN b h h2 ∧ dc = 6 ∧ ds = 169) := by
  refine hn_v (by decide) (Nat.le_of_ble_eq_true rfl) ?_
  intro p e s m below meth c C hnm Q Z ls T hl
  have hx := C.x
  have hb := C.b
  have hin : meth.name = "<init>" := hnm
  have hl : lv_has ls 1 [(0, .ref b)] := hl
  have hN : FN b h h := FN.rf
  refine lv_aload_n hx hb dX3_init_0 rfl (lv_at hl 0 rfl) ?_
  refine W.objInit hx hb C.ow (C.ts _ q112) (C.ts _ q82) (C.ts _ q83) rfl (by rw [C.ml]; exact hl.1) rfl dX3_init_1 (Nat.le_of_ble_eq_true rfl) (Nat.le_of_ble_eq_true rfl) ?_
  refine W.eq (g2 := F0 m 4 ls []) rfl ?_
  refine lv_aload_n hx hb dX3_init_4 rfl (lv_at hl 0 rfl) ?_
  refine lv_bipush (v := nI 20) hx hb dX3_init_5 rfl ?_
  refine hr_newa C T b 0 (atype := .int) q103 (ty := .int) rfl rfl (N := 20) (a0 := (20, (.inl (fun _ => 0)))) (fun cA => rfl) (by omega) (by show 0 + 1 ≤ 6; omega) (by show 0 + 20 ≤ 169; omega) dX3_init_7 (fun h9601 q9601_ H9601 hf9601 eh9601 T9601 => ?_)
  have hdg_9601 : h9601 q9601_ = some (.inl (E.2.1 0, 20, .inl (fun _ => 0)), b) := hu_s eh9601
  have hbo_9601 : h9601 b = some (.inr (3, [.null, .int 0, .null]), b) := hu_w eh9601 hf9601 hbo
  refine hr_putF C T9601 hin hbo_9601 rfl in_X3 tyX3 tyX3_ok nmX3 0 (by decide) q135 rfl rfl rfl rfl rfl (Nat.le_of_ble_eq_true rfl) dX3_init_9 (fun h9602 H9602 locs9602 eh9602 T9602 => ?_)
  have hbo_9602 : h9602 b = some (.inr (3, [.ref q9601_, .int 0, .null]), b) := hu_s eh9602
  refine lv_aload_n hx hb dX3_init_12 rfl (lv_at hl 0 rfl) ?_
  have hN_9601 : FN b h h9601 := hN.new hf9601 eh9601
  have hN_9602 : FN b h h9602 := hN_9601.up hbo_9601 eh9602
  refine hr_new C T9602 (fun q => q) (ci := 4) rfl in_X4 tyX4 tyX4_ok q113 q114 q56 (fs := [.null, .null, .null, .null, .int 0]) dfX4 (by show 0 + 1 + 1 ≤ 6; omega) (by show 0 + 20 + 5 ≤ 169; omega) dX3_init_13 (fun h9603 q9603_ H9603 hf9603 eh9603 T9603 => ?_)
  have hdg_9602 : h9602 q9601_ = some (.inl (E.2.1 0, 20, .inl (fun _ => 0)), b) := hu_n eh9602 (Ne.symm (hne_new hbo hf9601)) hdg_9601
  have hdn_9603 : h9603 q9603_ = some (.inr (4, [.null, .null, .null, .null, .int 0]), q9603_) := hu_s eh9603
  refine lv_dup hx hb dX3_init_16 rfl ?_
  have hbo_9603 : h9603 b = some (.inr (3, [.ref q9601_, .int 0, .null]), b) := hu_w eh9603 hf9603 hbo_9602
  have hdg_9603 : h9603 q9601_ = some (.inl (E.2.1 0, 20, .inl (fun _ => 0)), b) := hu_w eh9603 hf9603 hdg_9602
  refine hg_IN C T9603 hl.1 (m_X4_init hdn_9603) 4 rfl q116 q56 q117 rfl kd_X4_init rfl rfl ⟨Nat.le_of_ble_eq_true rfl, Nat.le_of_ble_eq_true rfl⟩ (Nat.le_of_ble_eq_true rfl) dX3_init_17 ⟨by show 0 + 1 + 1 + 4 ≤ 6; omega, by show 0 + 20 + 5 + 144 ≤ 169; omega⟩ (fun rv h9604 dc9604 ds9604 H9604 locs9604 hp9604 T9604 => ?_)
  obtain ⟨rfl, d1, d2, d3, d4, hdo9604, hd19604, hd29604, hd39604, hd49604, hne9604, hM9604, rfl, rfl⟩ := hp9604
  have hN_9604 : FN b h h9604 := hN_9602.nest hf9603 eh9603 hM9604
  refine W.eq (g2 := F0 m 20 ls [.ref q9603_, .ref b]) rfl ?_
  have hbo_9604 : h9604 b = some (.inr (3, [.ref q9601_, .int 0, .null]), b) := hM9604.at hbo_9603 hbo_9603 (hne_new hbo_9602 hf9603)
  refine hr_putF C T9604 hin hbo_9604 rfl in_X3 tyX3 tyX3_ok nmX3 2 (by decide) q139 rfl rfl rfl rfl rfl (Nat.le_of_ble_eq_true rfl) dX3_init_20 (fun h9605 H9605 locs9605 eh9605 T9605 => ?_)
  have hbo_9605 : h9605 b = some (.inr (3, [.ref q9601_, .int 0, .ref q9603_]), b) := hu_s eh9605
  have hN_9605 : FN b h h9605 := hN_9604.up hbo_9604 eh9605
  have hdg_9604 : h9604 q9601_ = some (.inl (E.2.1 0, 20, .inl (fun _ => 0)), b) := hM9604.at hdg_9603 hbo_9603 (hne_new hbo_9602 hf9603)
  have hdg_9605 : h9605 q9601_ = some (.inl (E.2.1 0, 20, .inl (fun _ => 0)), b) := hu_n eh9605 (Ne.symm (hne_new hbo hf9601)) hdg_9604
  have hdo9604_9605 : h9605 q9603_ = some (.inr (4, [.ref d1, .ref d2, .ref d3, .ref d4, .int 0]), q9603_) := hu_n eh9605 (Ne.symm (hne_new hbo_9602 hf9603)) hdo9604
  have hd19604_9605 : h9605 d1 = some (.inl (E.2.1 0, 8, .inl (fun _ => 0)), q9603_) := hu_n eh9605 (hne_of hd19604 hbo_9604 (fun z => by cases z)) hd19604
  have hd29604_9605 : h9605 d2 = some (.inl (E.2.1 0, 8, .inl (fun _ => 0)), q9603_) := hu_n eh9605 (hne_of hd29604 hbo_9604 (fun z => by cases z)) hd29604
  have hd39604_9605 : h9605 d3 = some (.inl (E.2.1 0, 64, .inl (fun _ => 0)), q9603_) := hu_n eh9605 (hne_of hd39604 hbo_9604 (fun z => by cases z)) hd39604
  have hd49604_9605 : h9605 d4 = some (.inl (E.2.1 1, 64, .inl (fun _ => 0)), q9603_) := hu_n eh9605 (hne_of hd49604 hbo_9604 (fun z => by cases z)) hd49604
  exact Z _ _ _ _ _ _ _ dX3_init_23 (Nat.le_refl _) (Nat.le_refl _) ⟨rfl, _, _, d1, d2, d3, d4, hbo_9605, hdg_9605, hdo9604_9605, hd19604_9605, hd29604_9605, hd39604_9605, hd49604_9605, hne9604, (hne_new hbo_9602 hf9603), hN_9605, rfl, rfl⟩ T9605
