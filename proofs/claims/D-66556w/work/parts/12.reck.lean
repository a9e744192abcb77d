set_option maxRecDepth 100000
theorem lm_mul (a b : Nat) : lm (a * b) ≤ lm a + lm b := by
  apply lm_le
  rw [Nat.pow_add]
  rcases Nat.eq_zero_or_pos b with z | z
  · subst z
    rw [Nat.mul_zero]
    exact Nat.mul_pos (Nat.pow_pos (by decide)) (Nat.pow_pos (by decide))
  · exact Nat.lt_of_lt_of_le (Nat.mul_lt_mul_of_pos_right (lm_hi a) z) (Nat.mul_le_mul_left _ (Nat.le_of_lt (lm_hi b)))

theorem kd_X8_common : yX8_common.cls = RX8 ∧ yX8_common.cls ≠ "java/lang/invoke/MethodHandle" ∧ yX8_common.cls ≠ "java/lang/invoke/VarHandle" ∧ (parseMethodDescriptor yX8_common.desc).map (fun d => d.parameters.length) = some 3 := by decide +kernel
theorem kd_X8_reduce : yX8_reduce.cls = RX8 ∧ yX8_reduce.cls ≠ "java/lang/invoke/MethodHandle" ∧ yX8_reduce.cls ≠ "java/lang/invoke/VarHandle" ∧ (parseMethodDescriptor yX8_reduce.desc).map (fun d => d.parameters.length) = some 2 := by decide +kernel
theorem kd_X8_exact : yX8_exact.cls = RX8 ∧ yX8_exact.cls ≠ "java/lang/invoke/MethodHandle" ∧ yX8_exact.cls ≠ "java/lang/invoke/VarHandle" ∧ (parseMethodDescriptor yX8_exact.desc).map (fun d => d.parameters.length) = some 2 := by decide +kernel
theorem kd_X8_multiply : yX8_multiply.cls = RX8 ∧ yX8_multiply.cls ≠ "java/lang/invoke/MethodHandle" ∧ yX8_multiply.cls ≠ "java/lang/invoke/VarHandle" ∧ (parseMethodDescriptor yX8_multiply.desc).map (fun d => d.parameters.length) = some 2 := by decide +kernel

set_option maxHeartbeats 4000000 in
theorem m_X8_common {E : GE} {l : Launch} {h : HH} {B V cp : Nat → Nat} {a rr : Nat} (hB : Bgs E h B V cp) (hr : h rr = some (.inr (7, [.ref (B 8), .ref (B 9), .ref (B 10), .ref (B 11), .ref (B 12), .ref (B 13), .ref (B 14), .ref (B 15), .ref (B 16), .ref (B 17), .ref (B 18)]), a)) (hBa : ∀ i, i < NB → B i ≠ a) {i j k : Nat} (hi : i < NB) (hj : j < NB) (hk : k < NB) (hi2 : i < 8 ∨ 12 < i) (hj2 : j < 8 ∨ 12 < j) (hk2 : k < 8 ∨ 12 < k) (hmi : lm (V i) + 2 ≤ 128) (hmj : lm (V j) + 2 ≤ 128) : MG E l yX8_common cX8_common 4 none ({ frames := 4, cells := (KX - ksum cp NB) / 8 + 8, slots := 2 * (KX - ksum cp NB) + 2048, locals := 600 } : Room) [.ref rr, .ref (B i), .ref (B j), .ref (B k)] h (fun rv h2 dc ds => rv = none ∧ ∃ V2 c2, Bgs E h2 B V2 c2 ∧ V2 k = Nat.gcd (V i) (V j) ∧ (∀ n, (n < 8 ∨ 12 < n) → n ≠ k → V2 n = V n) ∧ Fr (BO B) h h2 ∧ Gw cp c2 dc ds) := by
  refine hn_v (by decide) (Nat.le_of_ble_eq_true rfl) ?_
  intro p e s m below meth c C hnm Q Z ls T hl
  have hx := C.x
  have hb := C.b
  have hl : lv_has ls 4 [(0, .ref rr), (1, .ref (B i)), (2, .ref (B j)), (3, .ref (B k))] := hl
  have hF : Fr (BO B) h h := Fr.rf
  refine lv_aload_n hx hb dX8_common_0 rfl (lv_at hl 0 rfl) ?_
  refine hr_get C T hr rfl in_X8 0 (by decide) q199 rfl rfl dX8_common_1 ?_
  refine lv_aload_n hx hb dX8_common_4 rfl (lv_at hl 1 rfl) ?_
  obtain ⟨ca1101, hbo1101⟩ := hB.o (i := 8) (by decide)
  refine hg_V C T hl.1 hbo1101 rfl (g_copy (i := 8) (j := i) hB (by decide) (show i < 1973 by omega) (by omega) (by omega)) q782 q783 q784 q59 q785 kd_X7_copy rfl rfl ⟨Nat.le_of_ble_eq_true rfl, Nat.le_of_ble_eq_true rfl⟩ (Nat.le_of_ble_eq_true rfl) dX8_common_5 ⟨by have hgw := (Gw.rf (cp := cp)); have hg1 := hgw.1; have hg2 := hgw.2; have hkm := hB.kmax; have := gc_le (cp 8) (lm (V i)); have := gs_le ((hB.1 8 (by decide)).cap.2.2) (show lm (V i) ≤ 128 from (by omega)); show 0 + (gc (cp 8) (lm (V i))) ≤ (KX - ksum cp NB) / 8 + 8; omega, by have hgw := (Gw.rf (cp := cp)); have hg1 := hgw.1; have hg2 := hgw.2; have hkm := hB.kmax; have := gc_le (cp 8) (lm (V i)); have := gs_le ((hB.1 8 (by decide)).cap.2.2) (show lm (V i) ≤ 128 from (by omega)); show 0 + (gs (cp 8) (lm (V i))) ≤ 2 * (KX - ksum cp NB) + 2048; omega⟩ (fun rv h1102 dc1102 ds1102 H1102 locs1102 hp1102 T1102 => ?_)
  obtain ⟨rfl, c1102, hB1102, hF1102, hw1102⟩ := hp1102
  have hW1102 := (Gw.rf (cp := cp)).tr hw1102
  have hF_1102 : Fr (BO B) h h1102 := hF.tr (hF1102.mono (fun _ z => z))
  refine W.eq (g2 := F0 m 8 ls []) rfl ?_
  refine lv_aload_n hx hb dX8_common_8 rfl (lv_at hl 0 rfl) ?_
  have hr_1102 : h1102 rr = some (.inr (7, [.ref (B 8), .ref (B 9), .ref (B 10), .ref (B 11), .ref (B 12), .ref (B 13), .ref (B 14), .ref (B 15), .ref (B 16), .ref (B 17), .ref (B 18)]), a) := hF1102 _ _ hr (fun ⟨i, hi, e⟩ => hBa i hi e.symm)
  refine hr_get C T1102 hr_1102 rfl in_X8 1 (by decide) q200 rfl rfl dX8_common_9 ?_
  refine lv_aload_n hx hb dX8_common_12 rfl (lv_at hl 2 rfl) ?_
  obtain ⟨ca1103, hbo1103⟩ := hB1102.o (i := 9) (by decide)
  refine hg_V C T1102 hl.1 hbo1103 rfl (g_copy (i := 9) (j := j) hB1102 (by decide) (show j < 1973 by omega) (by omega) (by rw [nu_n (show j ≠ 8 by omega)]; omega)) q782 q783 q784 q59 q785 kd_X7_copy rfl rfl ⟨Nat.le_of_ble_eq_true rfl, Nat.le_of_ble_eq_true rfl⟩ (Nat.le_of_ble_eq_true rfl) dX8_common_13 ⟨by have hgw := (hW1102); have hg1 := hgw.1; have hg2 := hgw.2; have hkm := hB1102.kmax; have := gc_le ((nu cp 8 c1102) 9) (lm ((nu V 8 (V i)) j)); have := gs_le ((hB1102.1 9 (by decide)).cap.2.2) (show lm ((nu V 8 (V i)) j) ≤ 128 from (by rw [nu_n (show j ≠ 8 by omega)]; omega)); show 0 + dc1102 + (gc ((nu cp 8 c1102) 9) (lm ((nu V 8 (V i)) j))) ≤ (KX - ksum cp NB) / 8 + 8; omega, by have hgw := (hW1102); have hg1 := hgw.1; have hg2 := hgw.2; have hkm := hB1102.kmax; have := gc_le ((nu cp 8 c1102) 9) (lm ((nu V 8 (V i)) j)); have := gs_le ((hB1102.1 9 (by decide)).cap.2.2) (show lm ((nu V 8 (V i)) j) ≤ 128 from (by rw [nu_n (show j ≠ 8 by omega)]; omega)); show 0 + ds1102 + (gs ((nu cp 8 c1102) 9) (lm ((nu V 8 (V i)) j))) ≤ 2 * (KX - ksum cp NB) + 2048; omega⟩ (fun rv h1104 dc1104 ds1104 H1104 locs1104 hp1104 T1104 => ?_)
  obtain ⟨rfl, c1104, hB1104, hF1104, hw1104⟩ := hp1104
  have hW1104 := (hW1102).tr hw1104
  have hF_1104 : Fr (BO B) h h1104 := hF_1102.tr (hF1104.mono (fun _ z => z))
  refine W.eq (g2 := F0 m 16 ls []) rfl ?_
  have L1 : ∀ (jm : Nat) (V2 c2 : Nat → Nat) (cc ss : Nat) (h1105 : HH) (H1105 : Heap) (locs1105 : List Loc) (ls1105 : Array Slot), (V2 9 < jm) → (h1105 rr = some (.inr (7, [.ref (B 8), .ref (B 9), .ref (B 10), .ref (B 11), .ref (B 12), .ref (B 13), .ref (B 14), .ref (B 15), .ref (B 16), .ref (B 17), .ref (B 18)]), a)) → (Bgs E h1105 B V2 c2) → (Gw cp c2 cc ss) → (∀ n, (n < 8 ∨ 12 < n) → V2 n = V n) → (Nat.gcd (V2 8) (V2 9) = Nat.gcd (V i) (V j)) → (lm (V2 8) ≤ 126) → (lm (V2 9) ≤ 126) → (Fr (BO B) h h1105) → (St E s h1105 H1105 locs1105) → (lv_has ls1105 4 [(0, .ref rr), (3, .ref (B k))]) → W p l e ({ frames := 4, cells := (KX - ksum cp NB) / 8 + 8, slots := 2 * (KX - ksum cp NB) + 2048, locals := 600 } : Room) s m ([.ref rr, .ref (B i), .ref (B j), .ref (B k)] : List Value).toArray below meth c H1105 locs1105 cc ss Q (F0 m 16 ls1105 []) := by
    intro jm
    induction jm with
    | zero => intro V2 c2 cc ss h1105 H1105 locs1105 ls1105 hm1105 hr_1105 hB hW hv hgcd h8 h9 hF_1105 T1105 hl1105; exact absurd hm1105 (by omega)
    | succ jm ih1105 =>
      intro V2 c2 cc ss h1105 H1105 locs1105 ls1105 hm1105 hr_1105 hB hW hv hgcd h8 h9 hF_1105 T1105 hl1105
      refine lv_aload_n hx hb dX8_common_16 rfl (lv_at hl1105 0 rfl) ?_
      refine hr_get C T1105 hr_1105 rfl in_X8 1 (by decide) q200 rfl rfl dX8_common_17 ?_
      obtain ⟨ca1106, hbo1106⟩ := hB.o (i := 9) (by decide)
      refine hc_V C T1105 hl1105.1 hbo1106 rfl (g_isZero (i := 9) hB (by decide)) q931 q932 q933 q59 q934 kd_X7_isZero rfl rfl ⟨Nat.le_of_ble_eq_true rfl, Nat.le_of_ble_eq_true rfl⟩ (Nat.le_of_ble_eq_true rfl) dX8_common_20 ⟨by have hgw := (hW); have hg1 := hgw.1; have hg2 := hgw.2; have hkm := hB.kmax; show cc + 0 ≤ (KX - ksum cp NB) / 8 + 8; omega, by have hgw := (hW); have hg1 := hgw.1; have hg2 := hgw.2; have hkm := hB.kmax; show ss + 0 ≤ 2 * (KX - ksum cp NB) + 2048; omega⟩ (fun rv h1107 H1107 locs1107 hp1107 T1107 => ?_)
      obtain ⟨rfl, hq1107⟩ := hp1107
      rw [hq1107] at T1107
      refine lv_if_ne (tgt := 81) hx hb dX8_common_23 (by decide) (fun c1 => ?_) (fun c1 => ?_)
      · have hy0 : V2 9 = 0 := Decidable.byContradiction fun z => c1 (by rw [if_neg z])
        rw [hy0, Nat.gcd_zero_right] at hgcd
        refine lv_aload_n hx hb dX8_common_81 rfl (lv_at hl1105 1 rfl) ?_
        refine lv_aload_n hx hb dX8_common_82 rfl (lv_at hl1105 0 rfl) ?_
        refine hr_get C T1107 hr_1105 rfl in_X8 0 (by decide) q199 rfl rfl dX8_common_83 ?_
        obtain ⟨ca1108, hbo1108⟩ := hB.o (i := k) (show k < 1973 by omega)
        refine hg_V C T1107 hl1105.1 hbo1108 rfl (g_copy (i := k) (j := 8) hB (show k < 1973 by omega) (by decide) (by omega) (by omega)) q782 q783 q784 q59 q785 kd_X7_copy rfl rfl ⟨Nat.le_of_ble_eq_true rfl, Nat.le_of_ble_eq_true rfl⟩ (Nat.le_of_ble_eq_true rfl) dX8_common_86 ⟨by have hgw := (hW); have hg1 := hgw.1; have hg2 := hgw.2; have hkm := hB.kmax; have := gc_le (c2 k) (lm (V2 8)); have := gs_le ((hB.1 k (show k < 1973 by omega)).cap.2.2) (show lm (V2 8) ≤ 128 from (by omega)); show cc + (gc (c2 k) (lm (V2 8))) ≤ (KX - ksum cp NB) / 8 + 8; omega, by have hgw := (hW); have hg1 := hgw.1; have hg2 := hgw.2; have hkm := hB.kmax; have := gc_le (c2 k) (lm (V2 8)); have := gs_le ((hB.1 k (show k < 1973 by omega)).cap.2.2) (show lm (V2 8) ≤ 128 from (by omega)); show ss + (gs (c2 k) (lm (V2 8))) ≤ 2 * (KX - ksum cp NB) + 2048; omega⟩ (fun rv h1109 dc1109 ds1109 H1109 locs1109 hp1109 T1109 => ?_)
        obtain ⟨rfl, c1109, hB1109, hF1109, hw1109⟩ := hp1109
        have hW1109 := (hW).tr hw1109
        have hF_1109 : Fr (BO B) h h1109 := hF_1105.tr (hF1109.mono (fun _ z => z))
        refine W.eq (g2 := F0 m 89 ls1105 []) rfl ?_
        exact Z _ _ _ _ _ _ _ dX8_common_89 (by have hgw := (hW1109); have hg1 := hgw.1; have hg2 := hgw.2; have hkm := hB1109.kmax; show cc + dc1109 ≤ (KX - ksum cp NB) / 8 + 8; omega) (by have hgw := (hW1109); have hg1 := hgw.1; have hg2 := hgw.2; have hkm := hB1109.kmax; show ss + ds1109 ≤ 2 * (KX - ksum cp NB) + 2048; omega) ⟨rfl, _, _, hB1109, by rw [nu_s, hgcd], fun n h1 h2 => by rw [nu_n h2, hv n h1], hF_1109, hW1109⟩ T1109
      · have hy0 : V2 9 ≠ 0 := fun z => by rw [if_pos z] at c1; exact absurd c1 (by decide)
        refine lv_aload_n hx hb dX8_common_26 rfl (lv_at hl1105 0 rfl) ?_
        refine hr_get C T1107 hr_1105 rfl in_X8 0 (by decide) q199 rfl rfl dX8_common_27 ?_
        refine lv_aload_n hx hb dX8_common_30 rfl (lv_at hl1105 0 rfl) ?_
        refine hr_get C T1107 hr_1105 rfl in_X8 1 (by decide) q200 rfl rfl dX8_common_31 ?_
        refine lv_aload_n hx hb dX8_common_34 rfl (lv_at hl1105 0 rfl) ?_
        refine hr_get C T1107 hr_1105 rfl in_X8 2 (by decide) q201 rfl rfl dX8_common_35 ?_
        refine lv_aload_n hx hb dX8_common_38 rfl (lv_at hl1105 0 rfl) ?_
        refine hr_get C T1107 hr_1105 rfl in_X8 3 (by decide) q202 rfl rfl dX8_common_39 ?_
        obtain ⟨ca1110, hbo1110⟩ := hB.o (i := 8) (by decide)
        refine hg_V C T1107 hl1105.1 hbo1110 rfl (g_divide (i := 8) (j := 9) (k := 10) (z := 11) hB (by decide) (by decide) (by decide) (by decide) (by decide) (by decide) (by decide) (by decide) (by decide) (by decide) hy0 (by omega)) q935 q936 q937 q59 q938 kd_X7_divide rfl rfl ⟨Nat.le_of_ble_eq_true rfl, Nat.le_of_ble_eq_true rfl⟩ (Nat.le_of_ble_eq_true rfl) dX8_common_42 ⟨by have hgw := (hW); have hg1 := hgw.1; have hg2 := hgw.2; have hkm := hB.kmax; show cc + 5 ≤ (KX - ksum cp NB) / 8 + 8; omega, by have hgw := (hW); have hg1 := hgw.1; have hg2 := hgw.2; have hkm := hB.kmax; show ss + 1280 ≤ 2 * (KX - ksum cp NB) + 2048; omega⟩ (fun rv h1111 dc1111 ds1111 H1111 locs1111 hp1111 T1111 => ?_)
        obtain ⟨rfl, ci1111, ck1111, cz1111, vz1111, hB1111, hF1111, hw1111⟩ := hp1111
        have hW1111 := (hW).tr hw1111
        have hF_1111 : Fr (BO B) h h1111 := hF_1105.tr (hF1111.mono (fun _ z => z))
        refine W.eq (g2 := F0 m 45 ls1105 []) rfl ?_
        have hlm : lm (V2 8 % V2 9) ≤ 126 := Nat.le_trans (lm_mono (Nat.mod_le _ _)) h8
        refine lv_aload_n hx hb dX8_common_45 rfl (lv_at hl1105 0 rfl) ?_
        have hr_1111 : h1111 rr = some (.inr (7, [.ref (B 8), .ref (B 9), .ref (B 10), .ref (B 11), .ref (B 12), .ref (B 13), .ref (B 14), .ref (B 15), .ref (B 16), .ref (B 17), .ref (B 18)]), a) := hF1111 _ _ hr_1105 (fun ⟨i, hi, e⟩ => hBa i hi e.symm)
        refine hr_get C T1111 hr_1111 rfl in_X8 4 (by decide) q203 rfl rfl dX8_common_46 ?_
        refine lv_aload_n hx hb dX8_common_49 rfl (lv_at hl1105 0 rfl) ?_
        refine hr_get C T1111 hr_1111 rfl in_X8 0 (by decide) q199 rfl rfl dX8_common_50 ?_
        obtain ⟨ca1112, hbo1112⟩ := hB1111.o (i := 12) (by decide)
        refine hg_V C T1111 hl1105.1 hbo1112 rfl (g_copy (i := 12) (j := 8) hB1111 (by decide) (by decide) (by decide) (show lm (V2 8 % V2 9) ≤ 128 by omega)) q782 q783 q784 q59 q785 kd_X7_copy rfl rfl ⟨Nat.le_of_ble_eq_true rfl, Nat.le_of_ble_eq_true rfl⟩ (Nat.le_of_ble_eq_true rfl) dX8_common_53 ⟨by have hgw := (hW1111); have hg1 := hgw.1; have hg2 := hgw.2; have hkm := hB1111.kmax; have := gc_le ((nu (nu (nu c2 8 ci1111) 10 ck1111) 11 cz1111) 12) (lm ((nu (nu (nu V2 8 (V2 8 % V2 9)) 10 (V2 8 / V2 9)) 11 vz1111) 8)); have := gs_le ((hB1111.1 12 (by decide)).cap.2.2) (show lm ((nu (nu (nu V2 8 (V2 8 % V2 9)) 10 (V2 8 / V2 9)) 11 vz1111) 8) ≤ 128 from (show lm (V2 8 % V2 9) ≤ 128 by omega)); show cc + dc1111 + (gc ((nu (nu (nu c2 8 ci1111) 10 ck1111) 11 cz1111) 12) (lm ((nu (nu (nu V2 8 (V2 8 % V2 9)) 10 (V2 8 / V2 9)) 11 vz1111) 8))) ≤ (KX - ksum cp NB) / 8 + 8; omega, by have hgw := (hW1111); have hg1 := hgw.1; have hg2 := hgw.2; have hkm := hB1111.kmax; have := gc_le ((nu (nu (nu c2 8 ci1111) 10 ck1111) 11 cz1111) 12) (lm ((nu (nu (nu V2 8 (V2 8 % V2 9)) 10 (V2 8 / V2 9)) 11 vz1111) 8)); have := gs_le ((hB1111.1 12 (by decide)).cap.2.2) (show lm ((nu (nu (nu V2 8 (V2 8 % V2 9)) 10 (V2 8 / V2 9)) 11 vz1111) 8) ≤ 128 from (show lm (V2 8 % V2 9) ≤ 128 by omega)); show ss + ds1111 + (gs ((nu (nu (nu c2 8 ci1111) 10 ck1111) 11 cz1111) 12) (lm ((nu (nu (nu V2 8 (V2 8 % V2 9)) 10 (V2 8 / V2 9)) 11 vz1111) 8))) ≤ 2 * (KX - ksum cp NB) + 2048; omega⟩ (fun rv h1113 dc1113 ds1113 H1113 locs1113 hp1113 T1113 => ?_)
        obtain ⟨rfl, c1113, hB1113, hF1113, hw1113⟩ := hp1113
        have hW1113 := (hW1111).tr hw1113
        have hF_1113 : Fr (BO B) h h1113 := hF_1111.tr (hF1113.mono (fun _ z => z))
        refine W.eq (g2 := F0 m 56 ls1105 []) rfl ?_
        refine lv_aload_n hx hb dX8_common_56 rfl (lv_at hl1105 0 rfl) ?_
        have hr_1113 : h1113 rr = some (.inr (7, [.ref (B 8), .ref (B 9), .ref (B 10), .ref (B 11), .ref (B 12), .ref (B 13), .ref (B 14), .ref (B 15), .ref (B 16), .ref (B 17), .ref (B 18)]), a) := hF1113 _ _ hr_1111 (fun ⟨i, hi, e⟩ => hBa i hi e.symm)
        refine hr_get C T1113 hr_1113 rfl in_X8 0 (by decide) q199 rfl rfl dX8_common_57 ?_
        refine lv_aload_n hx hb dX8_common_60 rfl (lv_at hl1105 0 rfl) ?_
        refine hr_get C T1113 hr_1113 rfl in_X8 1 (by decide) q200 rfl rfl dX8_common_61 ?_
        obtain ⟨ca1114, hbo1114⟩ := hB1113.o (i := 8) (by decide)
        refine hg_V C T1113 hl1105.1 hbo1114 rfl (g_copy (i := 8) (j := 9) hB1113 (by decide) (by decide) (by decide) (show lm (V2 9) ≤ 128 by omega)) q782 q783 q784 q59 q785 kd_X7_copy rfl rfl ⟨Nat.le_of_ble_eq_true rfl, Nat.le_of_ble_eq_true rfl⟩ (Nat.le_of_ble_eq_true rfl) dX8_common_64 ⟨by have hgw := (hW1113); have hg1 := hgw.1; have hg2 := hgw.2; have hkm := hB1113.kmax; have := gc_le ((nu (nu (nu (nu c2 8 ci1111) 10 ck1111) 11 cz1111) 12 c1113) 8) (lm ((nu (nu (nu (nu V2 8 (V2 8 % V2 9)) 10 (V2 8 / V2 9)) 11 vz1111) 12 ((nu (nu (nu V2 8 (V2 8 % V2 9)) 10 (V2 8 / V2 9)) 11 vz1111) 8)) 9)); have := gs_le ((hB1113.1 8 (by decide)).cap.2.2) (show lm ((nu (nu (nu (nu V2 8 (V2 8 % V2 9)) 10 (V2 8 / V2 9)) 11 vz1111) 12 ((nu (nu (nu V2 8 (V2 8 % V2 9)) 10 (V2 8 / V2 9)) 11 vz1111) 8)) 9) ≤ 128 from (show lm (V2 9) ≤ 128 by omega)); show cc + dc1111 + dc1113 + (gc ((nu (nu (nu (nu c2 8 ci1111) 10 ck1111) 11 cz1111) 12 c1113) 8) (lm ((nu (nu (nu (nu V2 8 (V2 8 % V2 9)) 10 (V2 8 / V2 9)) 11 vz1111) 12 ((nu (nu (nu V2 8 (V2 8 % V2 9)) 10 (V2 8 / V2 9)) 11 vz1111) 8)) 9))) ≤ (KX - ksum cp NB) / 8 + 8; omega, by have hgw := (hW1113); have hg1 := hgw.1; have hg2 := hgw.2; have hkm := hB1113.kmax; have := gc_le ((nu (nu (nu (nu c2 8 ci1111) 10 ck1111) 11 cz1111) 12 c1113) 8) (lm ((nu (nu (nu (nu V2 8 (V2 8 % V2 9)) 10 (V2 8 / V2 9)) 11 vz1111) 12 ((nu (nu (nu V2 8 (V2 8 % V2 9)) 10 (V2 8 / V2 9)) 11 vz1111) 8)) 9)); have := gs_le ((hB1113.1 8 (by decide)).cap.2.2) (show lm ((nu (nu (nu (nu V2 8 (V2 8 % V2 9)) 10 (V2 8 / V2 9)) 11 vz1111) 12 ((nu (nu (nu V2 8 (V2 8 % V2 9)) 10 (V2 8 / V2 9)) 11 vz1111) 8)) 9) ≤ 128 from (show lm (V2 9) ≤ 128 by omega)); show ss + ds1111 + ds1113 + (gs ((nu (nu (nu (nu c2 8 ci1111) 10 ck1111) 11 cz1111) 12 c1113) 8) (lm ((nu (nu (nu (nu V2 8 (V2 8 % V2 9)) 10 (V2 8 / V2 9)) 11 vz1111) 12 ((nu (nu (nu V2 8 (V2 8 % V2 9)) 10 (V2 8 / V2 9)) 11 vz1111) 8)) 9))) ≤ 2 * (KX - ksum cp NB) + 2048; omega⟩ (fun rv h1115 dc1115 ds1115 H1115 locs1115 hp1115 T1115 => ?_)
        obtain ⟨rfl, c1115, hB1115, hF1115, hw1115⟩ := hp1115
        have hW1115 := (hW1113).tr hw1115
        have hF_1115 : Fr (BO B) h h1115 := hF_1113.tr (hF1115.mono (fun _ z => z))
        refine W.eq (g2 := F0 m 67 ls1105 []) rfl ?_
        refine lv_aload_n hx hb dX8_common_67 rfl (lv_at hl1105 0 rfl) ?_
        have hr_1115 : h1115 rr = some (.inr (7, [.ref (B 8), .ref (B 9), .ref (B 10), .ref (B 11), .ref (B 12), .ref (B 13), .ref (B 14), .ref (B 15), .ref (B 16), .ref (B 17), .ref (B 18)]), a) := hF1115 _ _ hr_1113 (fun ⟨i, hi, e⟩ => hBa i hi e.symm)
        refine hr_get C T1115 hr_1115 rfl in_X8 1 (by decide) q200 rfl rfl dX8_common_68 ?_
        refine lv_aload_n hx hb dX8_common_71 rfl (lv_at hl1105 0 rfl) ?_
        refine hr_get C T1115 hr_1115 rfl in_X8 4 (by decide) q203 rfl rfl dX8_common_72 ?_
        obtain ⟨ca1116, hbo1116⟩ := hB1115.o (i := 9) (by decide)
        refine hg_V C T1115 hl1105.1 hbo1116 rfl (g_copy (i := 9) (j := 12) hB1115 (by decide) (by decide) (by decide) (show lm (V2 8 % V2 9) ≤ 128 by omega)) q782 q783 q784 q59 q785 kd_X7_copy rfl rfl ⟨Nat.le_of_ble_eq_true rfl, Nat.le_of_ble_eq_true rfl⟩ (Nat.le_of_ble_eq_true rfl) dX8_common_75 ⟨by have hgw := (hW1115); have hg1 := hgw.1; have hg2 := hgw.2; have hkm := hB1115.kmax; have := gc_le ((nu (nu (nu (nu (nu c2 8 ci1111) 10 ck1111) 11 cz1111) 12 c1113) 8 c1115) 9) (lm ((nu (nu (nu (nu (nu V2 8 (V2 8 % V2 9)) 10 (V2 8 / V2 9)) 11 vz1111) 12 ((nu (nu (nu V2 8 (V2 8 % V2 9)) 10 (V2 8 / V2 9)) 11 vz1111) 8)) 8 ((nu (nu (nu (nu V2 8 (V2 8 % V2 9)) 10 (V2 8 / V2 9)) 11 vz1111) 12 ((nu (nu (nu V2 8 (V2 8 % V2 9)) 10 (V2 8 / V2 9)) 11 vz1111) 8)) 9)) 12)); have := gs_le ((hB1115.1 9 (by decide)).cap.2.2) (show lm ((nu (nu (nu (nu (nu V2 8 (V2 8 % V2 9)) 10 (V2 8 / V2 9)) 11 vz1111) 12 ((nu (nu (nu V2 8 (V2 8 % V2 9)) 10 (V2 8 / V2 9)) 11 vz1111) 8)) 8 ((nu (nu (nu (nu V2 8 (V2 8 % V2 9)) 10 (V2 8 / V2 9)) 11 vz1111) 12 ((nu (nu (nu V2 8 (V2 8 % V2 9)) 10 (V2 8 / V2 9)) 11 vz1111) 8)) 9)) 12) ≤ 128 from (show lm (V2 8 % V2 9) ≤ 128 by omega)); show cc + dc1111 + dc1113 + dc1115 + (gc ((nu (nu (nu (nu (nu c2 8 ci1111) 10 ck1111) 11 cz1111) 12 c1113) 8 c1115) 9) (lm ((nu (nu (nu (nu (nu V2 8 (V2 8 % V2 9)) 10 (V2 8 / V2 9)) 11 vz1111) 12 ((nu (nu (nu V2 8 (V2 8 % V2 9)) 10 (V2 8 / V2 9)) 11 vz1111) 8)) 8 ((nu (nu (nu (nu V2 8 (V2 8 % V2 9)) 10 (V2 8 / V2 9)) 11 vz1111) 12 ((nu (nu (nu V2 8 (V2 8 % V2 9)) 10 (V2 8 / V2 9)) 11 vz1111) 8)) 9)) 12))) ≤ (KX - ksum cp NB) / 8 + 8; omega, by have hgw := (hW1115); have hg1 := hgw.1; have hg2 := hgw.2; have hkm := hB1115.kmax; have := gc_le ((nu (nu (nu (nu (nu c2 8 ci1111) 10 ck1111) 11 cz1111) 12 c1113) 8 c1115) 9) (lm ((nu (nu (nu (nu (nu V2 8 (V2 8 % V2 9)) 10 (V2 8 / V2 9)) 11 vz1111) 12 ((nu (nu (nu V2 8 (V2 8 % V2 9)) 10 (V2 8 / V2 9)) 11 vz1111) 8)) 8 ((nu (nu (nu (nu V2 8 (V2 8 % V2 9)) 10 (V2 8 / V2 9)) 11 vz1111) 12 ((nu (nu (nu V2 8 (V2 8 % V2 9)) 10 (V2 8 / V2 9)) 11 vz1111) 8)) 9)) 12)); have := gs_le ((hB1115.1 9 (by decide)).cap.2.2) (show lm ((nu (nu (nu (nu (nu V2 8 (V2 8 % V2 9)) 10 (V2 8 / V2 9)) 11 vz1111) 12 ((nu (nu (nu V2 8 (V2 8 % V2 9)) 10 (V2 8 / V2 9)) 11 vz1111) 8)) 8 ((nu (nu (nu (nu V2 8 (V2 8 % V2 9)) 10 (V2 8 / V2 9)) 11 vz1111) 12 ((nu (nu (nu V2 8 (V2 8 % V2 9)) 10 (V2 8 / V2 9)) 11 vz1111) 8)) 9)) 12) ≤ 128 from (show lm (V2 8 % V2 9) ≤ 128 by omega)); show ss + ds1111 + ds1113 + ds1115 + (gs ((nu (nu (nu (nu (nu c2 8 ci1111) 10 ck1111) 11 cz1111) 12 c1113) 8 c1115) 9) (lm ((nu (nu (nu (nu (nu V2 8 (V2 8 % V2 9)) 10 (V2 8 / V2 9)) 11 vz1111) 12 ((nu (nu (nu V2 8 (V2 8 % V2 9)) 10 (V2 8 / V2 9)) 11 vz1111) 8)) 8 ((nu (nu (nu (nu V2 8 (V2 8 % V2 9)) 10 (V2 8 / V2 9)) 11 vz1111) 12 ((nu (nu (nu V2 8 (V2 8 % V2 9)) 10 (V2 8 / V2 9)) 11 vz1111) 8)) 9)) 12))) ≤ 2 * (KX - ksum cp NB) + 2048; omega⟩ (fun rv h1117 dc1117 ds1117 H1117 locs1117 hp1117 T1117 => ?_)
        obtain ⟨rfl, c1117, hB1117, hF1117, hw1117⟩ := hp1117
        have hW1117 := (hW1115).tr hw1117
        have hF_1117 : Fr (BO B) h h1117 := hF_1115.tr (hF1117.mono (fun _ z => z))
        refine W.eq (g2 := F0 m 78 ls1105 []) rfl ?_
        refine lv_goto (tgt := 16) hx hb dX8_common_78 (by decide) ?_
        have hr_1117 : h1117 rr = some (.inr (7, [.ref (B 8), .ref (B 9), .ref (B 10), .ref (B 11), .ref (B 12), .ref (B 13), .ref (B 14), .ref (B 15), .ref (B 16), .ref (B 17), .ref (B 18)]), a) := hF1117 _ _ hr_1115 (fun ⟨i, hi, e⟩ => hBa i hi e.symm)
        exact ih1105 _ _ _ _ _ _ _ _ (by show V2 8 % V2 9 < jm; have := Nat.mod_lt (V2 8) (Nat.pos_of_ne_zero hy0); omega) hr_1117 hB1117 hW1117 (fun n hn => by rw [nu_n (by omega), nu_n (by omega), nu_n (by omega), nu_n (by omega), nu_n (by omega), nu_n (by omega)]; exact hv n hn) (by show Nat.gcd (V2 9) (V2 8 % V2 9) = _; rw [← hgcd, Nat.gcd_comm, ← Nat.gcd_rec, Nat.gcd_comm]) (show lm (V2 9) ≤ 126 from h9) (show lm (V2 8 % V2 9) ≤ 126 from hlm) hF_1117 T1117 (lv_sub hl1105 [0, 1] rfl)
  have hr_1104 : h1104 rr = some (.inr (7, [.ref (B 8), .ref (B 9), .ref (B 10), .ref (B 11), .ref (B 12), .ref (B 13), .ref (B 14), .ref (B 15), .ref (B 16), .ref (B 17), .ref (B 18)]), a) := hF1104 _ _ hr_1102 (fun ⟨i, hi, e⟩ => hBa i hi e.symm)
  exact L1 (V j + 1) _ _ _ _ _ _ _ _ (by show nu V 8 (V i) j < _; rw [nu_n (by omega)]; omega) hr_1104 hB1104 hW1104 (fun n hn => by rw [nu_n (by omega), nu_n (by omega)]) (by show Nat.gcd (V i) (nu V 8 (V i) j) = _; rw [nu_n (by omega)]) (show lm (V i) ≤ 126 by omega) (by show lm (nu V 8 (V i) j) ≤ 126; rw [nu_n (by omega)]; omega) hF_1104 T1104 (lv_sub hl [0, 3] rfl)

set_option maxHeartbeats 4000000 in
theorem m_X8_exact {E : GE} {l : Launch} {h : HH} {B V cp : Nat → Nat} {a rr : Nat} (hB : Bgs E h B V cp) (hr : h rr = some (.inr (7, [.ref (B 8), .ref (B 9), .ref (B 10), .ref (B 11), .ref (B 12), .ref (B 13), .ref (B 14), .ref (B 15), .ref (B 16), .ref (B 17), .ref (B 18)]), a)) (hBa : ∀ i, i < NB → B i ≠ a) {i j : Nat} (hi : i < NB) (hj : j < NB) (hij : i ≠ j) (hi2 : i < 14 ∨ 15 < i) (hj2 : j < 14 ∨ 15 < j) (hj0 : V j ≠ 0) (hmi : lm (V i) + 2 ≤ 128) : MG E l yX8_exact cX8_exact 3 none ({ frames := 4, cells := (KX - ksum cp NB) / 8 + 8, slots := 2 * (KX - ksum cp NB) + 2048, locals := 600 } : Room) [.ref rr, .ref (B i), .ref (B j)] h (fun rv h2 dc ds => rv = none ∧ ∃ V2 c2, Bgs E h2 B V2 c2 ∧ V2 i = V i / V j ∧ (∀ n, (n < 14 ∨ 15 < n) → n ≠ i → V2 n = V n) ∧ Fr (BO B) h h2 ∧ Gw cp c2 dc ds) := by
  refine hn_v (by decide) (Nat.le_of_ble_eq_true rfl) ?_
  intro p e s m below meth c C hnm Q Z ls T hl
  have hx := C.x
  have hb := C.b
  have hl : lv_has ls 3 [(0, .ref rr), (1, .ref (B i)), (2, .ref (B j))] := hl
  have hF : Fr (BO B) h h := Fr.rf
  refine lv_aload_n hx hb dX8_exact_0 rfl (lv_at hl 1 rfl) ?_
  refine lv_aload_n hx hb dX8_exact_1 rfl (lv_at hl 2 rfl) ?_
  refine lv_aload_n hx hb dX8_exact_2 rfl (lv_at hl 0 rfl) ?_
  refine hr_get C T hr rfl in_X8 6 (by decide) q205 rfl rfl dX8_exact_3 ?_
  refine lv_aload_n hx hb dX8_exact_6 rfl (lv_at hl 0 rfl) ?_
  refine hr_get C T hr rfl in_X8 7 (by decide) q206 rfl rfl dX8_exact_7 ?_
  obtain ⟨ca1118, hbo1118⟩ := hB.o (i := i) (show i < 1973 by omega)
  refine hg_V C T hl.1 hbo1118 rfl (g_divide (i := i) (j := j) (k := 14) (z := 15) hB (show i < 1973 by omega) (show j < 1973 by omega) (by decide) (by decide) (by omega) (by omega) (by omega) (by omega) (by omega) (by decide) hj0 (by omega)) q935 q936 q937 q59 q938 kd_X7_divide rfl rfl ⟨Nat.le_of_ble_eq_true rfl, Nat.le_of_ble_eq_true rfl⟩ (Nat.le_of_ble_eq_true rfl) dX8_exact_10 ⟨by have hgw := (Gw.rf (cp := cp)); have hg1 := hgw.1; have hg2 := hgw.2; have hkm := hB.kmax; show 0 + 5 ≤ (KX - ksum cp NB) / 8 + 8; omega, by have hgw := (Gw.rf (cp := cp)); have hg1 := hgw.1; have hg2 := hgw.2; have hkm := hB.kmax; show 0 + 1280 ≤ 2 * (KX - ksum cp NB) + 2048; omega⟩ (fun rv h1119 dc1119 ds1119 H1119 locs1119 hp1119 T1119 => ?_)
  obtain ⟨rfl, ci1119, ck1119, cz1119, vz1119, hB1119, hF1119, hw1119⟩ := hp1119
  have hW1119 := (Gw.rf (cp := cp)).tr hw1119
  have hF_1119 : Fr (BO B) h h1119 := hF.tr (hF1119.mono (fun _ z => z))
  refine W.eq (g2 := F0 m 13 ls []) rfl ?_
  refine lv_aload_n hx hb dX8_exact_13 rfl (lv_at hl 1 rfl) ?_
  refine lv_aload_n hx hb dX8_exact_14 rfl (lv_at hl 0 rfl) ?_
  have hr_1119 : h1119 rr = some (.inr (7, [.ref (B 8), .ref (B 9), .ref (B 10), .ref (B 11), .ref (B 12), .ref (B 13), .ref (B 14), .ref (B 15), .ref (B 16), .ref (B 17), .ref (B 18)]), a) := hF1119 _ _ hr (fun ⟨i, hi, e⟩ => hBa i hi e.symm)
  refine hr_get C T1119 hr_1119 rfl in_X8 6 (by decide) q205 rfl rfl dX8_exact_15 ?_
  obtain ⟨ca1120, hbo1120⟩ := hB1119.o (i := i) (show i < 1973 by omega)
  refine hg_V C T1119 hl.1 hbo1120 rfl (g_copy (i := i) (j := 14) hB1119 (show i < 1973 by omega) (by decide) (by omega) (by rw [nu_n (by decide), nu_s]; exact Nat.le_trans (lm_mono (Nat.div_le_self _ _)) (by omega))) q782 q783 q784 q59 q785 kd_X7_copy rfl rfl ⟨Nat.le_of_ble_eq_true rfl, Nat.le_of_ble_eq_true rfl⟩ (Nat.le_of_ble_eq_true rfl) dX8_exact_18 ⟨by have hgw := (hW1119); have hg1 := hgw.1; have hg2 := hgw.2; have hkm := hB1119.kmax; have := gc_le ((nu (nu (nu cp i ci1119) 14 ck1119) 15 cz1119) i) (lm ((nu (nu (nu V i (V i % V j)) 14 (V i / V j)) 15 vz1119) 14)); have := gs_le ((hB1119.1 i (show i < 1973 by omega)).cap.2.2) (show lm ((nu (nu (nu V i (V i % V j)) 14 (V i / V j)) 15 vz1119) 14) ≤ 128 from (by rw [nu_n (by decide), nu_s]; exact Nat.le_trans (lm_mono (Nat.div_le_self _ _)) (by omega))); show 0 + dc1119 + (gc ((nu (nu (nu cp i ci1119) 14 ck1119) 15 cz1119) i) (lm ((nu (nu (nu V i (V i % V j)) 14 (V i / V j)) 15 vz1119) 14))) ≤ (KX - ksum cp NB) / 8 + 8; omega, by have hgw := (hW1119); have hg1 := hgw.1; have hg2 := hgw.2; have hkm := hB1119.kmax; have := gc_le ((nu (nu (nu cp i ci1119) 14 ck1119) 15 cz1119) i) (lm ((nu (nu (nu V i (V i % V j)) 14 (V i / V j)) 15 vz1119) 14)); have := gs_le ((hB1119.1 i (show i < 1973 by omega)).cap.2.2) (show lm ((nu (nu (nu V i (V i % V j)) 14 (V i / V j)) 15 vz1119) 14) ≤ 128 from (by rw [nu_n (by decide), nu_s]; exact Nat.le_trans (lm_mono (Nat.div_le_self _ _)) (by omega))); show 0 + ds1119 + (gs ((nu (nu (nu cp i ci1119) 14 ck1119) 15 cz1119) i) (lm ((nu (nu (nu V i (V i % V j)) 14 (V i / V j)) 15 vz1119) 14))) ≤ 2 * (KX - ksum cp NB) + 2048; omega⟩ (fun rv h1121 dc1121 ds1121 H1121 locs1121 hp1121 T1121 => ?_)
  obtain ⟨rfl, c1121, hB1121, hF1121, hw1121⟩ := hp1121
  have hW1121 := (hW1119).tr hw1121
  have hF_1121 : Fr (BO B) h h1121 := hF_1119.tr (hF1121.mono (fun _ z => z))
  refine W.eq (g2 := F0 m 21 ls []) rfl ?_
  exact Z _ _ _ _ _ _ _ dX8_exact_21 (by have hgw := (hW1121); have hg1 := hgw.1; have hg2 := hgw.2; have hkm := hB1121.kmax; show 0 + dc1119 + dc1121 ≤ (KX - ksum cp NB) / 8 + 8; omega) (by have hgw := (hW1121); have hg1 := hgw.1; have hg2 := hgw.2; have hkm := hB1121.kmax; show 0 + ds1119 + ds1121 ≤ 2 * (KX - ksum cp NB) + 2048; omega) ⟨rfl, _, _, hB1121, by rw [nu_s, nu_n (by decide), nu_s], fun n h1 h2 => by rw [nu_n h2, nu_n (by omega), nu_n (by omega), nu_n h2], hF_1121, hW1121⟩ T1121

set_option maxHeartbeats 4000000 in
theorem m_X8_multiply {E : GE} {l : Launch} {h : HH} {B V cp : Nat → Nat} {a rr : Nat} (hB : Bgs E h B V cp) (hr : h rr = some (.inr (7, [.ref (B 8), .ref (B 9), .ref (B 10), .ref (B 11), .ref (B 12), .ref (B 13), .ref (B 14), .ref (B 15), .ref (B 16), .ref (B 17), .ref (B 18)]), a)) (hBa : ∀ i, i < NB → B i ≠ a) {i j : Nat} (hi : i < NB) (hj : j < NB) (hi2 : i ≠ 16) (hj2 : j ≠ 16) (hm : lm (V i) + lm (V j) ≤ 128) : MG E l yX8_multiply cX8_multiply 3 none ({ frames := 4, cells := (KX - ksum cp NB) / 8 + 8, slots := 2 * (KX - ksum cp NB) + 2048, locals := 600 } : Room) [.ref rr, .ref (B i), .ref (B j)] h (fun rv h2 dc ds => rv = none ∧ ∃ V2 c2, Bgs E h2 B V2 c2 ∧ V2 i = V i * V j ∧ (∀ n, n ≠ 16 → n ≠ i → V2 n = V n) ∧ Fr (BO B) h h2 ∧ Gw cp c2 dc ds) := by
  refine hn_v (by decide) (Nat.le_of_ble_eq_true rfl) ?_
  intro p e s m below meth c C hnm Q Z ls T hl
  have hx := C.x
  have hb := C.b
  have hl : lv_has ls 3 [(0, .ref rr), (1, .ref (B i)), (2, .ref (B j))] := hl
  have hF : Fr (BO B) h h := Fr.rf
  refine lv_aload_n hx hb dX8_multiply_0 rfl (lv_at hl 0 rfl) ?_
  refine hr_get C T hr rfl in_X8 8 (by decide) q207 rfl rfl dX8_multiply_1 ?_
  refine lv_aload_n hx hb dX8_multiply_4 rfl (lv_at hl 1 rfl) ?_
  refine lv_aload_n hx hb dX8_multiply_5 rfl (lv_at hl 2 rfl) ?_
  obtain ⟨ca1122, hbo1122⟩ := hB.o (i := 16) (by decide)
  refine hg_V C T hl.1 hbo1122 rfl (g_product (i := 16) (j := i) (k := j) hB (by decide) (show i < 1973 by omega) (show j < 1973 by omega) (by omega) (by omega) (by omega)) q774 q775 q776 q59 q777 kd_X7_product rfl rfl ⟨Nat.le_of_ble_eq_true rfl, Nat.le_of_ble_eq_true rfl⟩ (Nat.le_of_ble_eq_true rfl) dX8_multiply_6 ⟨by have hgw := (Gw.rf (cp := cp)); have hg1 := hgw.1; have hg2 := hgw.2; have hkm := hB.kmax; have := gc_le (cp 16) (lm (V i) + lm (V j)); have := gs_le ((hB.1 16 (by decide)).cap.2.2) (show lm (V i) + lm (V j) ≤ 128 from (by omega)); show 0 + (gc (cp 16) (lm (V i) + lm (V j))) ≤ (KX - ksum cp NB) / 8 + 8; omega, by have hgw := (Gw.rf (cp := cp)); have hg1 := hgw.1; have hg2 := hgw.2; have hkm := hB.kmax; have := gc_le (cp 16) (lm (V i) + lm (V j)); have := gs_le ((hB.1 16 (by decide)).cap.2.2) (show lm (V i) + lm (V j) ≤ 128 from (by omega)); show 0 + (gs (cp 16) (lm (V i) + lm (V j))) ≤ 2 * (KX - ksum cp NB) + 2048; omega⟩ (fun rv h1123 dc1123 ds1123 H1123 locs1123 hp1123 T1123 => ?_)
  obtain ⟨rfl, c1123, hB1123, hF1123, hw1123⟩ := hp1123
  have hW1123 := (Gw.rf (cp := cp)).tr hw1123
  have hF_1123 : Fr (BO B) h h1123 := hF.tr (hF1123.mono (fun _ z => z))
  refine W.eq (g2 := F0 m 9 ls []) rfl ?_
  refine lv_aload_n hx hb dX8_multiply_9 rfl (lv_at hl 1 rfl) ?_
  refine lv_aload_n hx hb dX8_multiply_10 rfl (lv_at hl 0 rfl) ?_
  have hr_1123 : h1123 rr = some (.inr (7, [.ref (B 8), .ref (B 9), .ref (B 10), .ref (B 11), .ref (B 12), .ref (B 13), .ref (B 14), .ref (B 15), .ref (B 16), .ref (B 17), .ref (B 18)]), a) := hF1123 _ _ hr (fun ⟨i, hi, e⟩ => hBa i hi e.symm)
  refine hr_get C T1123 hr_1123 rfl in_X8 8 (by decide) q207 rfl rfl dX8_multiply_11 ?_
  obtain ⟨ca1124, hbo1124⟩ := hB1123.o (i := i) (show i < 1973 by omega)
  refine hg_V C T1123 hl.1 hbo1124 rfl (g_copy (i := i) (j := 16) hB1123 (show i < 1973 by omega) (by decide) (by omega) (by rw [nu_s]; exact Nat.le_trans (lm_mul _ _) (by omega))) q782 q783 q784 q59 q785 kd_X7_copy rfl rfl ⟨Nat.le_of_ble_eq_true rfl, Nat.le_of_ble_eq_true rfl⟩ (Nat.le_of_ble_eq_true rfl) dX8_multiply_14 ⟨by have hgw := (hW1123); have hg1 := hgw.1; have hg2 := hgw.2; have hkm := hB1123.kmax; have := gc_le ((nu cp 16 c1123) i) (lm ((nu V 16 (V i * V j)) 16)); have := gs_le ((hB1123.1 i (show i < 1973 by omega)).cap.2.2) (show lm ((nu V 16 (V i * V j)) 16) ≤ 128 from (by rw [nu_s]; exact Nat.le_trans (lm_mul _ _) (by omega))); show 0 + dc1123 + (gc ((nu cp 16 c1123) i) (lm ((nu V 16 (V i * V j)) 16))) ≤ (KX - ksum cp NB) / 8 + 8; omega, by have hgw := (hW1123); have hg1 := hgw.1; have hg2 := hgw.2; have hkm := hB1123.kmax; have := gc_le ((nu cp 16 c1123) i) (lm ((nu V 16 (V i * V j)) 16)); have := gs_le ((hB1123.1 i (show i < 1973 by omega)).cap.2.2) (show lm ((nu V 16 (V i * V j)) 16) ≤ 128 from (by rw [nu_s]; exact Nat.le_trans (lm_mul _ _) (by omega))); show 0 + ds1123 + (gs ((nu cp 16 c1123) i) (lm ((nu V 16 (V i * V j)) 16))) ≤ 2 * (KX - ksum cp NB) + 2048; omega⟩ (fun rv h1125 dc1125 ds1125 H1125 locs1125 hp1125 T1125 => ?_)
  obtain ⟨rfl, c1125, hB1125, hF1125, hw1125⟩ := hp1125
  have hW1125 := (hW1123).tr hw1125
  have hF_1125 : Fr (BO B) h h1125 := hF_1123.tr (hF1125.mono (fun _ z => z))
  refine W.eq (g2 := F0 m 17 ls []) rfl ?_
  exact Z _ _ _ _ _ _ _ dX8_multiply_17 (by have hgw := (hW1125); have hg1 := hgw.1; have hg2 := hgw.2; have hkm := hB1125.kmax; show 0 + dc1123 + dc1125 ≤ (KX - ksum cp NB) / 8 + 8; omega) (by have hgw := (hW1125); have hg1 := hgw.1; have hg2 := hgw.2; have hkm := hB1125.kmax; show 0 + ds1123 + ds1125 ≤ 2 * (KX - ksum cp NB) + 2048; omega) ⟨rfl, _, _, hB1125, by rw [nu_s, nu_s], fun n h1 h2 => by rw [nu_n h2, nu_n h1], hF_1125, hW1125⟩ T1125

set_option maxHeartbeats 4000000 in
theorem m_X8_reduce {E : GE} {l : Launch} {h : HH} {B V cp : Nat → Nat} {a rr : Nat} (hB : Bgs E h B V cp) (hr : h rr = some (.inr (7, [.ref (B 8), .ref (B 9), .ref (B 10), .ref (B 11), .ref (B 12), .ref (B 13), .ref (B 14), .ref (B 15), .ref (B 16), .ref (B 17), .ref (B 18)]), a)) (hBa : ∀ i, i < NB → B i ≠ a) {i j : Nat} (hi : i < NB) (hj : j < NB) (hij : i ≠ j) (hi2 : i < 8 ∨ 15 < i) (hj2 : j < 8 ∨ 15 < j) (hnz : ¬ (V i = 0 ∧ V j = 0)) (hmi : lm (V i) + 2 ≤ 128) (hmj : lm (V j) + 2 ≤ 128) : MG E l yX8_reduce cX8_reduce 3 none ({ frames := 5, cells := (KX - ksum cp NB) / 8 + 8, slots := 2 * (KX - ksum cp NB) + 2048, locals := 750 } : Room) [.ref rr, .ref (B i), .ref (B j)] h (fun rv h2 dc ds => rv = none ∧ ∃ V2 c2, Bgs E h2 B V2 c2 ∧ V2 i = V i / Nat.gcd (V i) (V j) ∧ V2 j = V j / Nat.gcd (V i) (V j) ∧ (∀ n, (n < 8 ∨ 15 < n) → n ≠ i → n ≠ j → V2 n = V n) ∧ Fr (BO B) h h2 ∧ Gw cp c2 dc ds) := by
  refine hn_v (by decide) (Nat.le_of_ble_eq_true rfl) ?_
  intro p e s m below meth c C hnm Q Z ls T hl
  have hx := C.x
  have hb := C.b
  have hl : lv_has ls 3 [(0, .ref rr), (1, .ref (B i)), (2, .ref (B j))] := hl
  have hF : Fr (BO B) h h := Fr.rf
  have hgp : Nat.gcd (V i) (V j) ≠ 0 := fun z => hnz (Nat.gcd_eq_zero_iff.mp z)
  refine lv_aload_n hx hb dX8_reduce_0 rfl (lv_at hl 0 rfl) ?_
  refine lv_aload_n hx hb dX8_reduce_1 rfl (lv_at hl 1 rfl) ?_
  refine lv_aload_n hx hb dX8_reduce_2 rfl (lv_at hl 2 rfl) ?_
  refine lv_aload_n hx hb dX8_reduce_3 rfl (lv_at hl 0 rfl) ?_
  refine hr_get C T hr rfl in_X8 5 (by decide) q204 rfl rfl dX8_reduce_4 ?_
  refine hg_V C T hl.1 hr rfl (m_X8_common hB hr hBa hi hj (by decide) (by omega) (by omega) (by decide) hmi hmj) q927 q928 q929 q60 q930 kd_X8_common rfl rfl ⟨Nat.le_of_ble_eq_true rfl, Nat.le_of_ble_eq_true rfl⟩ (Nat.le_of_ble_eq_true rfl) dX8_reduce_7 ⟨by have hgw := (Gw.rf (cp := cp)); have hg1 := hgw.1; have hg2 := hgw.2; have hkm := hB.kmax; show 0 + ((KX - ksum cp NB) / 8 + 8) ≤ (KX - ksum cp NB) / 8 + 8; omega, by have hgw := (Gw.rf (cp := cp)); have hg1 := hgw.1; have hg2 := hgw.2; have hkm := hB.kmax; show 0 + (2 * (KX - ksum cp NB) + 2048) ≤ 2 * (KX - ksum cp NB) + 2048; omega⟩ (fun rv h1126 dc1126 ds1126 H1126 locs1126 hp1126 T1126 => ?_)
  obtain ⟨rfl, V1126, c1126, hB1126, hk1126, ho1126, hF1126, hw1126⟩ := hp1126
  have hW1126 := (Gw.rf (cp := cp)).tr hw1126
  have hF_1126 : Fr (BO B) h h1126 := hF.tr (hF1126.mono (fun _ z => z))
  refine W.eq (g2 := F0 m 10 ls []) rfl ?_
  refine lv_aload_n hx hb dX8_reduce_10 rfl (lv_at hl 0 rfl) ?_
  have hr_1126 : h1126 rr = some (.inr (7, [.ref (B 8), .ref (B 9), .ref (B 10), .ref (B 11), .ref (B 12), .ref (B 13), .ref (B 14), .ref (B 15), .ref (B 16), .ref (B 17), .ref (B 18)]), a) := hF1126 _ _ hr (fun ⟨i, hi, e⟩ => hBa i hi e.symm)
  refine hr_get C T1126 hr_1126 rfl in_X8 5 (by decide) q204 rfl rfl dX8_reduce_11 ?_
  obtain ⟨ca1127, hbo1127⟩ := hB1126.o (i := 13) (by decide)
  refine hc_V C T1126 hl.1 hbo1127 rfl (g_isOne (i := 13) hB1126 (by decide)) q968 q969 q970 q59 q971 kd_X7_isOne rfl rfl ⟨Nat.le_of_ble_eq_true rfl, Nat.le_of_ble_eq_true rfl⟩ (Nat.le_of_ble_eq_true rfl) dX8_reduce_14 ⟨by have hgw := (hW1126); have hg1 := hgw.1; have hg2 := hgw.2; have hkm := hB1126.kmax; show 0 + dc1126 + 0 ≤ (KX - ksum cp NB) / 8 + 8; omega, by have hgw := (hW1126); have hg1 := hgw.1; have hg2 := hgw.2; have hkm := hB1126.kmax; show 0 + ds1126 + 0 ≤ 2 * (KX - ksum cp NB) + 2048; omega⟩ (fun rv h1128 H1128 locs1128 hp1128 T1128 => ?_)
  obtain ⟨rfl, hq1128⟩ := hp1128
  rw [hq1128] at T1128
  rw [hk1126]
  refine lv_if_eq (tgt := 21) hx hb dX8_reduce_17 (by decide) (fun c1 => ?_) (fun c1 => ?_)
  · have hg1 : Nat.gcd (V i) (V j) ≠ 1 := fun z => by rw [if_pos z] at c1; exact absurd c1 (by decide)
    have hvi : V1126 i = V i := ho1126 i (by omega) (by omega)
    have hvj : V1126 j = V j := ho1126 j (by omega) (by omega)
    refine lv_aload_n hx hb dX8_reduce_21 rfl (lv_at hl 0 rfl) ?_
    refine lv_aload_n hx hb dX8_reduce_22 rfl (lv_at hl 1 rfl) ?_
    refine lv_aload_n hx hb dX8_reduce_23 rfl (lv_at hl 0 rfl) ?_
    refine hr_get C T1128 hr_1126 rfl in_X8 5 (by decide) q204 rfl rfl dX8_reduce_24 ?_
    refine hg_V C T1128 hl.1 hr_1126 rfl (m_X8_exact hB1126 hr_1126 hBa hi (show 13 < NB by decide) (by omega) (by omega) (by decide) (by rw [hk1126]; exact hgp) (by rw [hvi]; exact hmi)) q972 q973 q974 q60 q975 kd_X8_exact rfl rfl ⟨Nat.le_of_ble_eq_true rfl, Nat.le_of_ble_eq_true rfl⟩ (Nat.le_of_ble_eq_true rfl) dX8_reduce_27 ⟨by have hgw := (hW1126); have hg1 := hgw.1; have hg2 := hgw.2; have hkm := hB1126.kmax; show 0 + dc1126 + ((KX - ksum c1126 NB) / 8 + 8) ≤ (KX - ksum cp NB) / 8 + 8; omega, by have hgw := (hW1126); have hg1 := hgw.1; have hg2 := hgw.2; have hkm := hB1126.kmax; show 0 + ds1126 + (2 * (KX - ksum c1126 NB) + 2048) ≤ 2 * (KX - ksum cp NB) + 2048; omega⟩ (fun rv h1129 dc1129 ds1129 H1129 locs1129 hp1129 T1129 => ?_)
    obtain ⟨rfl, V1129, c1129, hB1129, hk1129, ho1129, hF1129, hw1129⟩ := hp1129
    have hW1129 := (hW1126).tr hw1129
    have hF_1129 : Fr (BO B) h h1129 := hF_1126.tr (hF1129.mono (fun _ z => z))
    refine W.eq (g2 := F0 m 30 ls []) rfl ?_
    have hvj2 : V1129 j = V j := (ho1129 j (by omega) (by omega)).trans hvj
    have hvg : V1129 13 = Nat.gcd (V i) (V j) := (ho1129 13 (by decide) (by omega)).trans hk1126
    refine lv_aload_n hx hb dX8_reduce_30 rfl (lv_at hl 0 rfl) ?_
    refine lv_aload_n hx hb dX8_reduce_31 rfl (lv_at hl 2 rfl) ?_
    refine lv_aload_n hx hb dX8_reduce_32 rfl (lv_at hl 0 rfl) ?_
    have hr_1129 : h1129 rr = some (.inr (7, [.ref (B 8), .ref (B 9), .ref (B 10), .ref (B 11), .ref (B 12), .ref (B 13), .ref (B 14), .ref (B 15), .ref (B 16), .ref (B 17), .ref (B 18)]), a) := hF1129 _ _ hr_1126 (fun ⟨i, hi, e⟩ => hBa i hi e.symm)
    refine hr_get C T1129 hr_1129 rfl in_X8 5 (by decide) q204 rfl rfl dX8_reduce_33 ?_
    refine hg_V C T1129 hl.1 hr_1129 rfl (m_X8_exact hB1129 hr_1129 hBa hj (show 13 < NB by decide) (by omega) (by omega) (by decide) (by rw [hvg]; exact hgp) (by rw [hvj2]; exact hmj)) q972 q973 q974 q60 q975 kd_X8_exact rfl rfl ⟨Nat.le_of_ble_eq_true rfl, Nat.le_of_ble_eq_true rfl⟩ (Nat.le_of_ble_eq_true rfl) dX8_reduce_36 ⟨by have hgw := (hW1129); have hg1 := hgw.1; have hg2 := hgw.2; have hkm := hB1129.kmax; show 0 + dc1126 + dc1129 + ((KX - ksum c1129 NB) / 8 + 8) ≤ (KX - ksum cp NB) / 8 + 8; omega, by have hgw := (hW1129); have hg1 := hgw.1; have hg2 := hgw.2; have hkm := hB1129.kmax; show 0 + ds1126 + ds1129 + (2 * (KX - ksum c1129 NB) + 2048) ≤ 2 * (KX - ksum cp NB) + 2048; omega⟩ (fun rv h1130 dc1130 ds1130 H1130 locs1130 hp1130 T1130 => ?_)
    obtain ⟨rfl, V1130, c1130, hB1130, hk1130, ho1130, hF1130, hw1130⟩ := hp1130
    have hW1130 := (hW1129).tr hw1130
    have hF_1130 : Fr (BO B) h h1130 := hF_1129.tr (hF1130.mono (fun _ z => z))
    refine W.eq (g2 := F0 m 39 ls []) rfl ?_
    exact Z _ _ _ _ _ _ _ dX8_reduce_39 (by have hgw := (hW1130); have hg1 := hgw.1; have hg2 := hgw.2; have hkm := hB1130.kmax; show 0 + dc1126 + dc1129 + dc1130 ≤ (KX - ksum cp NB) / 8 + 8; omega) (by have hgw := (hW1130); have hg1 := hgw.1; have hg2 := hgw.2; have hkm := hB1130.kmax; show 0 + ds1126 + ds1129 + ds1130 ≤ 2 * (KX - ksum cp NB) + 2048; omega) ⟨rfl, _, _, hB1130, by rw [ho1130 i (by omega) hij, hk1129, hvi, hk1126], by rw [hk1130, hvj2, hvg], fun n h1 h2 h3 => by rw [ho1130 n (by omega) h3, ho1129 n (by omega) h2, ho1126 n (by omega) (by omega)], hF_1130, hW1130⟩ T1130
  · have hg1 : Nat.gcd (V i) (V j) = 1 := Decidable.byContradiction fun z => c1 (by rw [if_neg z])
    exact Z _ _ _ _ _ _ _ dX8_reduce_20 (by have hgw := (hW1126); have hg1 := hgw.1; have hg2 := hgw.2; have hkm := hB1126.kmax; show 0 + dc1126 ≤ (KX - ksum cp NB) / 8 + 8; omega) (by have hgw := (hW1126); have hg1 := hgw.1; have hg2 := hgw.2; have hkm := hB1126.kmax; show 0 + ds1126 ≤ 2 * (KX - ksum cp NB) + 2048; omega) ⟨rfl, _, _, hB1126, by rw [hg1, Nat.div_one, ho1126 i (by omega) (by omega)], by rw [hg1, Nat.div_one, ho1126 j (by omega) (by omega)], fun n h1 h2 h3 => ho1126 n (by omega) (by omega), hF_1126, hW1126⟩ T1128
