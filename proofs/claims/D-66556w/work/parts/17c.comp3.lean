set_option maxRecDepth 100000
theorem kd_X1_surePairs : yX1_surePairs.cls = RX1 ∧ yX1_surePairs.cls ≠ "java/lang/invoke/MethodHandle" ∧ yX1_surePairs.cls ≠ "java/lang/invoke/VarHandle" ∧ (parseMethodDescriptor yX1_surePairs.desc).map (fun d => d.parameters.length) = some 0 := by decide +kernel
theorem kd_X1_pairIn : yX1_pairIn.cls = RX1 ∧ yX1_pairIn.cls ≠ "java/lang/invoke/MethodHandle" ∧ yX1_pairIn.cls ≠ "java/lang/invoke/VarHandle" ∧ (parseMethodDescriptor yX1_pairIn.desc).map (fun d => d.parameters.length) = some 1 := by decide +kernel
theorem kd_X1_batchOf : yX1_batchOf.cls = RX1 ∧ yX1_batchOf.cls ≠ "java/lang/invoke/MethodHandle" ∧ yX1_batchOf.cls ≠ "java/lang/invoke/VarHandle" ∧ (parseMethodDescriptor yX1_batchOf.desc).map (fun d => d.parameters.length) = some 1 := by decide +kernel
theorem kd_X1_part : yX1_part.cls = RX1 ∧ yX1_part.cls ≠ "java/lang/invoke/MethodHandle" ∧ yX1_part.cls ≠ "java/lang/invoke/VarHandle" ∧ (parseMethodDescriptor yX1_part.desc).map (fun d => d.parameters.length) = some 1 := by decide +kernel

def cd_digit (N : Nat → Nat) (x : Int32) : Nat := if x.toInt < 0 ∨ 9 < x.toInt then 1 else if N 11 ≠ 0 then 2 else if 20 ≤ N 9 then 3 else 0
theorem nI1_up {f : Nat → Nat} {k v : Nat} : nI1 (nu f k v) = upd (nI1 f) k (nI v) := by
  funext i
  unfold nI1 nu upd
  split <;> rfl

set_option maxHeartbeats 4000000 in
theorem m_X1_digit {E : GE} {l : Launch} {h : HH} (hfl : l.flags = flags0) {L B cp N : Nat → Nat} {M : Nat → Nat → Nat} {G : Nat → Nat → Int32} (hLay : Lay L B) (hI : Inv N M G) (hC : Cp E h L B cp N M G) {x : Int32} : MX E l yX1_digit cX1_digit 2 (some .int) ({ frames := 8, cells := 1, slots := 6, locals := 1200 } : Room) [.ref (L 0), .int x] h (fun rv h2 dc ds => cd_digit N x = 0 ∧ rv = some (.int (nI (N 9 + 1))) ∧ Cp E h2 L B cp (nu N 9 (N 9 + 1)) (mu M 6 (nu (M 6) (N 9) x.toInt.toNat)) G ∧ Fr (CO L B) h h2 ∧ dc = 0 ∧ ds = 0) (fun C h' dc ds => h' = h ∧ dc = 1 ∧ ds = 6 ∧ TC C (cd_digit N x) [xIAE, xISE, xUOE]) := by
  refine hx_i (by decide) (Nat.le_of_ble_eq_true rfl) ?_
  intro p e s m below meth c C hno Q Z Y ls T hl
  have hx := C.x
  have hb := C.b
  have hl : lv_has ls 2 [(0, .ref (L 0)), (1, .int x)] := hl
  obtain ⟨i0, i1, i2, i3, i4, i5, i7, i9, i10, i11, i15, iv, isz, isum, ital, itm, idg, icn, irec, isn, iout, ict, iwt, iwt2, iz, inz, iup, ish⟩ := hI
  obtain ⟨pp, f, rs, pw, pl, ps, V, ⟨ho0, ha1, ha3, ha12, ha13, ha14, ha15, ha16, ha17, ha39⟩, ⟨r1, r3, r12, r13, r14, r15, r16, r17, rp, rp16⟩, hVr, hSt, hPr, hCn, hSd, hDg, hB⟩ := hC
  have hF : Fr (CO L B) h h := Fr.rf
  refine lv_iload_n hx hb dX1_digit_0 rfl (lv_at hl 1 rfl) ?_
  refine zi_if_lt (tgt := 14) (X := (x).toInt) hx hb dX1_digit_1 (by decide) rfl (fun c1 => ?_) (fun c1 => ?_)
  · refine lv_iconst (v := nI 0) hx hb dX1_digit_14 rfl ?_
    have hcd : cd_digit N x = 1 := by unfold cd_digit; (repeat' split) <;> omega
    exact Y _ _ _ _ _ _ ((thr_S C T hl.1 (t_X1_need hfl) q441 q442 q53 q443 kd_X1_need rfl rfl ⟨Nat.le_of_ble_eq_true rfl, Nat.le_of_ble_eq_true rfl⟩ (Nat.le_of_ble_eq_true rfl) dX1_digit_15 ⟨Nat.le_of_ble_eq_true rfl, Nat.le_of_ble_eq_true rfl⟩).on C T hno ⟨Nat.le_of_ble_eq_true rfl, Nat.le_of_ble_eq_true rfl⟩ (fun h2 dc ds hp => by obtain ⟨rfl, rfl, rfl⟩ := hp; exact ⟨rfl, rfl, rfl, by rw [hcd]; exact ⟨by decide, rfl⟩⟩))
  · refine lv_iload_n hx hb dX1_digit_4 rfl (lv_at hl 1 rfl) ?_
    refine lv_bipush (v := nI 9) hx hb dX1_digit_5 rfl ?_
    refine zi_icmp_gt (tgt := 14) (X := (x).toInt) (Y := ((9 : Nat) : Int)) hx hb dX1_digit_7 (by decide) rfl (nI_toInt (by omega)) (fun c7 => ?_) (fun c7 => ?_)
    · refine lv_iconst (v := nI 0) hx hb dX1_digit_14 rfl ?_
      have hcd : cd_digit N x = 1 := by unfold cd_digit; (repeat' split) <;> omega
      exact Y _ _ _ _ _ _ ((thr_S C T hl.1 (t_X1_need hfl) q441 q442 q53 q443 kd_X1_need rfl rfl ⟨Nat.le_of_ble_eq_true rfl, Nat.le_of_ble_eq_true rfl⟩ (Nat.le_of_ble_eq_true rfl) dX1_digit_15 ⟨Nat.le_of_ble_eq_true rfl, Nat.le_of_ble_eq_true rfl⟩).on C T hno ⟨Nat.le_of_ble_eq_true rfl, Nat.le_of_ble_eq_true rfl⟩ (fun h2 dc ds hp => by obtain ⟨rfl, rfl, rfl⟩ := hp; exact ⟨rfl, rfl, rfl, by rw [hcd]; exact ⟨by decide, rfl⟩⟩))
    · refine lv_iconst (v := nI 1) hx hb dX1_digit_10 rfl ?_
      refine lv_goto (tgt := 15) hx hb dX1_digit_11 (by decide) ?_
      refine hp_S C T hl.1 (p_X1_need) q441 q442 q53 q443 kd_X1_need rfl rfl ⟨Nat.le_of_ble_eq_true rfl, Nat.le_of_ble_eq_true rfl⟩ (Nat.le_of_ble_eq_true rfl) dX1_digit_15 ⟨Nat.le_of_ble_eq_true rfl, Nat.le_of_ble_eq_true rfl⟩ (fun rv H2101 hp2101 T2101 => ?_)
      obtain rfl := hp2101
      refine W.eq (g2 := F0 m 18 ls []) rfl ?_
      refine lv_aload_n hx hb dX1_digit_18 rfl (lv_at hl 0 rfl) ?_
      by_cases cS : N 11 = 0
      · refine hp_V C T2101 hl.1 ho0 rfl (p_X1_setting i11.1 cS ho0) q513 q515 qs3 q53 q516 kd_X1_setting rfl rfl ⟨Nat.le_of_ble_eq_true rfl, Nat.le_of_ble_eq_true rfl⟩ (Nat.le_of_ble_eq_true rfl) dX1_digit_19 ⟨Nat.le_of_ble_eq_true rfl, Nat.le_of_ble_eq_true rfl⟩ (fun rv H2102 hp2102 T2102 => ?_)
        obtain rfl := hp2102
        refine W.eq (g2 := F0 m 22 ls []) rfl ?_
        obtain ⟨v, hv, rfl⟩ := nat_of (x := x) (by omega)
        have ev := nI_toInt hv
        have tv : (nI v).toInt.toNat = v := by rw [ev]; rfl
        obtain ⟨fg, hso, hsg, hfg, hnd, hg9⟩ := hSd
        refine lv_aload_n hx hb dX1_digit_22 rfl (lv_at hl 0 rfl) ?_
        refine hr_get C T2102 ho0 rfl in_X1 26 (by decide) q325 rfl rfl dX1_digit_23 ?_
        refine hr_getN C T2102 hso rfl in_X3 1 (by decide) 2 rfl rfl rfl dX1_digit_26 ?_
        refine lv_bipush (v := nI 20) hx hb dX1_digit_29 rfl ?_
        refine hn_icmp_ge (tgt := 38) hx hb dX1_digit_31 (by decide) (by omega) (by omega) (fun c31 => ?_) (fun c31 => ?_)
        · refine lv_iconst (v := nI 0) hx hb dX1_digit_38 rfl ?_
          have hcd : cd_digit N (nI v) = 3 := by unfold cd_digit; (repeat' split) <;> omega
          exact Y _ _ _ _ _ _ ((thr_S C T2102 hl.1 (t_X1_room hfl) q536 q537 q53 q538 kd_X1_room rfl rfl ⟨Nat.le_of_ble_eq_true rfl, Nat.le_of_ble_eq_true rfl⟩ (Nat.le_of_ble_eq_true rfl) dX1_digit_39 ⟨Nat.le_of_ble_eq_true rfl, Nat.le_of_ble_eq_true rfl⟩).on C T2102 hno ⟨Nat.le_of_ble_eq_true rfl, Nat.le_of_ble_eq_true rfl⟩ (fun h2 dc ds hp => by obtain ⟨rfl, rfl, rfl⟩ := hp; exact ⟨rfl, rfl, rfl, by rw [hcd]; exact ⟨by decide, rfl⟩⟩))
        · refine lv_iconst (v := nI 1) hx hb dX1_digit_34 rfl ?_
          refine lv_goto (tgt := 39) hx hb dX1_digit_35 (by decide) ?_
          refine hp_S C T2102 hl.1 (p_X1_room) q536 q537 q53 q538 kd_X1_room rfl rfl ⟨Nat.le_of_ble_eq_true rfl, Nat.le_of_ble_eq_true rfl⟩ (Nat.le_of_ble_eq_true rfl) dX1_digit_39 ⟨Nat.le_of_ble_eq_true rfl, Nat.le_of_ble_eq_true rfl⟩ (fun rv H2103 hp2103 T2103 => ?_)
          obtain rfl := hp2103
          refine W.eq (g2 := F0 m 42 ls []) rfl ?_
          refine lv_aload_n hx hb dX1_digit_42 rfl (lv_at hl 0 rfl) ?_
          refine hr_get C T2103 ho0 rfl in_X1 26 (by decide) q325 rfl rfl dX1_digit_43 ?_
          refine hr_getN C T2103 hso rfl in_X3 0 (by decide) 1 rfl rfl rfl dX1_digit_46 ?_
          refine lv_aload_n hx hb dX1_digit_49 rfl (lv_at hl 0 rfl) ?_
          refine hr_get C T2103 ho0 rfl in_X1 26 (by decide) q325 rfl rfl dX1_digit_50 ?_
          refine lv_dup hx hb dX1_digit_53 rfl ?_
          refine hr_getN C T2103 hso rfl in_X3 1 (by decide) 2 rfl rfl rfl dX1_digit_54 ?_
          refine lv_dup_x1 hx hb dX1_digit_57 rfl rfl ?_
          refine lv_iconst (v := nI 1) hx hb dX1_digit_58 rfl ?_
          refine hn_iadd hx hb dX1_digit_59 ?_
          refine hr_putN C T2103 hso rfl in_X3 tyX3 tyX3_ok nmX3 1 (by decide) 2 rfl rfl rfl rfl rfl (Nat.le_of_ble_eq_true rfl) dX1_digit_60 (fun h2104 H2104 locs2104 eh2104 T2104 => ?_)
          have hso_2104 : h2104 (L 27) = some (.inr (3, [.ref (L 61), .int (nI ((N 9) + 1)), .ref (L 62)]), L 27) := hu_s eh2104
          have hF_2104 : Fr (CO L B) h h2104 := hu_f eh2104 hF hso (Or.inr (Or.inr (Or.inr (Or.inl rfl))))
          refine lv_iload_n hx hb dX1_digit_63 rfl (lv_at hl 1 rfl) ?_
          have hsg_2104 : h2104 (L 61) = some (.inl (E.2.1 0, 20, .inl fg), L 27) := hu_n eh2104 (hLay.1 61 27 (by decide) (by decide) (by decide)) hsg
          refine hr_iast C T2104 hsg_2104 (by omega) (by omega) dX1_digit_64 (fun h2105 H2105 locs2105 eh2105 T2105 => ?_)
          have hsg_2105 : h2105 (L 61) = some (.inl (E.2.1 0, 20, .inl (upd fg (N 9) (nI v))), L 27) := hu_s eh2105
          have hF_2105 : Fr (CO L B) h h2105 := hu_f eh2105 hF_2104 hsg_2104 (Or.inr (Or.inr (Or.inr (Or.inl rfl))))
          refine lv_aload_n hx hb dX1_digit_65 rfl (lv_at hl 0 rfl) ?_
          have ho0_2104 : h2104 (L 0) = some (.inr (0, [.ref (L 1), .int (nI (N 0)), .ref (L 3), .int (nI (N 1)), .int (nI (N 2)), .int (nI (N 3)), .int (nI (N 4)), .int (nI (N 5)), .int (nI (N 6)), .int (nI (N 7)), .int (nI (N 8)), .ref (L 12), .ref (L 13), .ref (L 14), .ref (L 15), .ref (L 16), .ref (L 17), .int (nI (N 11)), .int (nI (N 15)), .int (nI (N 16)), .int (nI (N 17)), .int (nI (N 18) - 1), .int (nI (N 19)), .ref (L 24), .int (nI pp), .ref (L 26), .ref (L 27), .ref (if N 13 = 1 then L 27 else L 26), .ref (L 29), .ref (L 30), .ref (if N 12 = 1 then L 30 else L 29), .ref (L 32), .ref (B 0), .ref (B 1), .ref (B 2), .ref (B 3), .ref (L 37), .ref (L 38), .ref (L 39), .ref (B 4), .ref (B 5)]), L 0) := hu_n eh2104 (hLay.1 0 27 (by decide) (by decide) (by decide)) ho0
          have ho0_2105 : h2105 (L 0) = some (.inr (0, [.ref (L 1), .int (nI (N 0)), .ref (L 3), .int (nI (N 1)), .int (nI (N 2)), .int (nI (N 3)), .int (nI (N 4)), .int (nI (N 5)), .int (nI (N 6)), .int (nI (N 7)), .int (nI (N 8)), .ref (L 12), .ref (L 13), .ref (L 14), .ref (L 15), .ref (L 16), .ref (L 17), .int (nI (N 11)), .int (nI (N 15)), .int (nI (N 16)), .int (nI (N 17)), .int (nI (N 18) - 1), .int (nI (N 19)), .ref (L 24), .int (nI pp), .ref (L 26), .ref (L 27), .ref (if N 13 = 1 then L 27 else L 26), .ref (L 29), .ref (L 30), .ref (if N 12 = 1 then L 30 else L 29), .ref (L 32), .ref (B 0), .ref (B 1), .ref (B 2), .ref (B 3), .ref (L 37), .ref (L 38), .ref (L 39), .ref (B 4), .ref (B 5)]), L 0) := hu_n eh2105 (hLay.1 0 61 (by decide) (by decide) (by decide)) ho0_2104
          refine hr_get C T2105 ho0_2105 rfl in_X1 26 (by decide) q325 rfl rfl dX1_digit_66 ?_
          have hso_2105 : h2105 (L 27) = some (.inr (3, [.ref (L 61), .int (nI ((N 9) + 1)), .ref (L 62)]), L 27) := hu_n eh2105 (hLay.1 27 61 (by decide) (by decide) (by decide)) hso_2104
          refine hr_getN C T2105 hso_2105 rfl in_X3 1 (by decide) 2 rfl rfl rfl dX1_digit_69 ?_
          have hcd : cd_digit N (nI v) = 0 := by unfold cd_digit; (repeat' split) <;> omega
          have hSe : Sds h2105 E L (nI1 (nu (M 6) (N 9) v)) (N 9 + 1) := ⟨_, hso_2105, hsg_2105, fun i hi => by rw [nI1_up]; by_cases z : i = N 9; (rw [z, pk_us, pk_us]); (rw [pk_un z, pk_un z]; exact hfg i (by omega)), by omega, fun i hi => by rw [nI1_up]; by_cases z : i = N 9; (rw [z, pk_us, un_nI' (by omega)]; omega); (rw [pk_un z]; exact hg9 i (by omega))⟩
          have ha1_2104 : h2104 (L 1) = some (.inl (E.2.1 0, 8, .inl (f 1)), L 0) := hu_n eh2104 (hLay.1 1 27 (by decide) (by decide) (by decide)) ha1
          have ha1_2105 : h2105 (L 1) = some (.inl (E.2.1 0, 8, .inl (f 1)), L 0) := hu_n eh2105 (hLay.1 1 61 (by decide) (by decide) (by decide)) ha1_2104
          have ha3_2104 : h2104 (L 3) = some (.inl (E.2.1 0, 64, .inl (f 3)), L 0) := hu_n eh2104 (hLay.1 3 27 (by decide) (by decide) (by decide)) ha3
          have ha3_2105 : h2105 (L 3) = some (.inl (E.2.1 0, 64, .inl (f 3)), L 0) := hu_n eh2105 (hLay.1 3 61 (by decide) (by decide) (by decide)) ha3_2104
          have ha12_2104 : h2104 (L 12) = some (.inl (E.2.1 1, 20000, .inl (f 12)), L 0) := hu_n eh2104 (hLay.1 12 27 (by decide) (by decide) (by decide)) ha12
          have ha12_2105 : h2105 (L 12) = some (.inl (E.2.1 1, 20000, .inl (f 12)), L 0) := hu_n eh2105 (hLay.1 12 61 (by decide) (by decide) (by decide)) ha12_2104
          have ha13_2104 : h2104 (L 13) = some (.inl (E.2.1 1, 20000, .inl (f 13)), L 0) := hu_n eh2104 (hLay.1 13 27 (by decide) (by decide) (by decide)) ha13
          have ha13_2105 : h2105 (L 13) = some (.inl (E.2.1 1, 20000, .inl (f 13)), L 0) := hu_n eh2105 (hLay.1 13 61 (by decide) (by decide) (by decide)) ha13_2104
          have ha14_2104 : h2104 (L 14) = some (.inl (E.2.1 2, 20000, .inl (f 14)), L 0) := hu_n eh2104 (hLay.1 14 27 (by decide) (by decide) (by decide)) ha14
          have ha14_2105 : h2105 (L 14) = some (.inl (E.2.1 2, 20000, .inl (f 14)), L 0) := hu_n eh2105 (hLay.1 14 61 (by decide) (by decide) (by decide)) ha14_2104
          have ha15_2104 : h2104 (L 15) = some (.inl (E.2.1 3, 8, .inl (f 15)), L 0) := hu_n eh2104 (hLay.1 15 27 (by decide) (by decide) (by decide)) ha15
          have ha15_2105 : h2105 (L 15) = some (.inl (E.2.1 3, 8, .inl (f 15)), L 0) := hu_n eh2105 (hLay.1 15 61 (by decide) (by decide) (by decide)) ha15_2104
          have ha16_2104 : h2104 (L 16) = some (.inl (E.2.1 0, 8, .inl (f 16)), L 0) := hu_n eh2104 (hLay.1 16 27 (by decide) (by decide) (by decide)) ha16
          have ha16_2105 : h2105 (L 16) = some (.inl (E.2.1 0, 8, .inl (f 16)), L 0) := hu_n eh2105 (hLay.1 16 61 (by decide) (by decide) (by decide)) ha16_2104
          have ha17_2104 : h2104 (L 17) = some (.inl (E.2.1 0, 8, .inl (f 17)), L 0) := hu_n eh2104 (hLay.1 17 27 (by decide) (by decide) (by decide)) ha17
          have ha17_2105 : h2105 (L 17) = some (.inl (E.2.1 0, 8, .inl (f 17)), L 0) := hu_n eh2105 (hLay.1 17 61 (by decide) (by decide) (by decide)) ha17_2104
          have ha39_2104 : h2104 (L 39) = some (.inl (E.2.1 3, 961, .inl (f 39)), L 0) := hu_n eh2104 (hLay.1 39 27 (by decide) (by decide) (by decide)) ha39
          have ha39_2105 : h2105 (L 39) = some (.inl (E.2.1 3, 961, .inl (f 39)), L 0) := hu_n eh2105 (hLay.1 39 61 (by decide) (by decide) (by decide)) ha39_2104
          have hSt_2104 : Stt E L B h2104 := Stt.kept (O := (· = L 27)) (hu_f eh2104 Fr.rf hso rfl) (hLay.1 30 27 (by decide) (by decide) (by decide)) hSt
          have hSt_2105 : Stt E L B h2105 := Stt.kept (O := (· = L 27)) (hu_f eh2105 Fr.rf hsg_2104 rfl) (hLay.1 30 27 (by decide) (by decide) (by decide)) hSt_2104
          have hPr_2104 : Prs L B pw pl ps h2104 := Prs.kept (O := (· = L 27)) (hu_f eh2104 Fr.rf hso rfl) (hLay.1 24 27 (by decide) (by decide) (by decide)) hPr
          have hPr_2105 : Prs L B pw pl ps h2105 := Prs.kept (O := (· = L 27)) (hu_f eh2105 Fr.rf hsg_2104 rfl) (hLay.1 24 27 (by decide) (by decide) (by decide)) hPr_2104
          have hCn_2104 : Cns h2104 E L (nI1 (M 8)) (N 10) := Cns.kept (O := (· = L 27)) (hu_f eh2104 Fr.rf hso rfl) (hLay.1 26 27 (by decide) (by decide) (by decide)) hCn
          have hCn_2105 : Cns h2105 E L (nI1 (M 8)) (N 10) := Cns.kept (O := (· = L 27)) (hu_f eh2105 Fr.rf hsg_2104 rfl) (hLay.1 26 27 (by decide) (by decide) (by decide)) hCn_2104
          have hDg_2104 : Dgo h2104 E L rs := Dgo.kept (O := (· = L 27)) (hu_f eh2104 Fr.rf hso rfl) (hLay.1 62 27 (by decide) (by decide) (by decide)) hDg
          have hDg_2105 : Dgo h2105 E L rs := Dgo.kept (O := (· = L 27)) (hu_f eh2105 Fr.rf hsg_2104 rfl) (hLay.1 62 27 (by decide) (by decide) (by decide)) hDg_2104
          have hB_2104 : Bgs E h2104 B V cp := Bgs.kept (O := (· = L 27)) (hu_f eh2104 Fr.rf hso rfl) (fun i hi => hLay.2 i 27 hi (by decide)) hB
          have hB_2105 : Bgs E h2105 B V cp := Bgs.kept (O := (· = L 27)) (hu_f eh2105 Fr.rf hsg_2104 rfl) (fun i hi => hLay.2 i 27 hi (by decide)) hB_2104
          exact Z _ _ _ _ _ _ _ _ dX1_digit_72 (Nat.zero_le _) (Nat.zero_le _) ⟨hcd, rfl, by rw [tv]; exact ⟨pp, f, rs, pw, pl, ps, V, ⟨ho0_2105, ha1_2105, ha3_2105, ha12_2105, ha13_2105, ha14_2105, ha15_2105, ha16_2105, ha17_2105, ha39_2105⟩, ⟨r1, r3, r12, r13, r14, fun z => absurd cS z, r16, r17, rp, rp16⟩, Vr_votes hVr cS, hSt_2105, hPr_2105, hCn_2105, hSe, hDg_2105, hB_2105⟩, hF_2105, rfl, rfl⟩ T2105
      · have hcd : cd_digit N x = 2 := by unfold cd_digit; (repeat' split) <;> omega
        exact Y _ _ _ _ _ _ ((thr_V C T2101 hl.1 ho0 rfl (t_X1_setting hfl i11.1 cS ho0) q513 q515 qs3 q53 q516 kd_X1_setting rfl rfl ⟨Nat.le_of_ble_eq_true rfl, Nat.le_of_ble_eq_true rfl⟩ (Nat.le_of_ble_eq_true rfl) dX1_digit_19 ⟨Nat.le_of_ble_eq_true rfl, Nat.le_of_ble_eq_true rfl⟩).on C T2101 hno ⟨Nat.le_of_ble_eq_true rfl, Nat.le_of_ble_eq_true rfl⟩ (fun h2 dc ds hp => by obtain ⟨rfl, rfl, rfl⟩ := hp; exact ⟨rfl, rfl, rfl, by rw [hcd]; exact ⟨by decide, rfl⟩⟩))

def cd_coins (N : Nat → Nat) (y : Int32) : Nat := if y.toInt < 0 ∨ 32 < y.toInt then 1 else if 4000 < N 10 + y.toInt then 2 else 0
/-- a bit of an int -/
def bt (x : Int32) (k : Nat) : Nat := un (x >>> (nI k &&& 31) &&& nI 1)
theorem bt_lt (x : Int32) (k : Nat) : bt x k ≤ 1 := by
  have h : x >>> (nI k &&& 31) &&& nI 1 = nI ((x >>> (nI k &&& 31)).toBitVec.toNat % 2 ^ 1) := pk_and _ 1 (by decide)
  unfold bt
  rw [h, un_nI' (by omega)]
  omega
theorem bt_nI (x : Int32) (k : Nat) : x >>> (nI k &&& 31) &&& nI 1 = nI (bt x k) := (nI_un _).symm
/-- the coins behind c others: n bits of x, the highest first -/
def cnM (q : Nat → Nat) (c : Nat) (x : Int32) (n : Nat) : Nat → Nat := fun i => if i < c then q i else bt x (n - 1 - (i - c))

theorem Vr_same {V : Nat → Nat} {pw pl ps : Nat → Int32} {N N' : Nat → Nat} {M M' : Nat → Nat → Nat} {G G' : Nat → Nat → Int32} (H : Vr V pw pl ps N M G) (e1 : N' 22 = N 22 := by rfl) (e2 : N' 23 = N 23 := by rfl) (e3 : N' 11 = N 11 := by rfl) (e4 : N' 12 = N 12 := by rfl) (e5 : N' 20 = N 20 := by rfl) (e6 : N' 21 = N 21 := by rfl) (e7 : N' 14 = N 14 := by rfl) (e8 : M' 0 = M 0 := by rfl) (e9 : M' 2 = M 2 := by rfl) (f1 : M' 4 = M 4 := by rfl) (f2 : M' 5 = M 5 := by rfl) (f3 : G' 2 = G 2 := by rfl) : Vr V pw pl ps N' M' G' := by
  unfold Vr pA pB
  rw [e1, e2, e3, e4, e5, e6, e7, e8, e9, f1, f2, f3]
  exact H

set_option maxHeartbeats 4000000 in
theorem m_X1_coins {E : GE} {l : Launch} {h : HH} (hfl : l.flags = flags0) {L B cp N : Nat → Nat} {M : Nat → Nat → Nat} {G : Nat → Nat → Int32} (hLay : Lay L B) (hI : Inv N M G) (hC : Cp E h L B cp N M G) {x y : Int32} : MX E l yX1_coins cX1_coins 4 (some .int) ({ frames := 8, cells := 1, slots := 6, locals := 1200 } : Room) [.ref (L 0), .int x, .int y] h (fun rv h2 dc ds => cd_coins N y = 0 ∧ rv = some (.int (nI (N 10 + y.toInt.toNat))) ∧ Cp E h2 L B cp (nu N 10 (N 10 + y.toInt.toNat)) (mu M 8 (cnM (M 8) (N 10) x y.toInt.toNat)) G ∧ Fr (CO L B) h h2 ∧ dc = 0 ∧ ds = 0) (fun C h' dc ds => h' = h ∧ dc = 1 ∧ ds = 6 ∧ TC C (cd_coins N y) [xIAE, xUOE]) := by
  refine hx_i (by decide) (Nat.le_of_ble_eq_true rfl) ?_
  intro p e s m below meth c C hno Q Z Y ls T hl
  have hx := C.x
  have hb := C.b
  have hl : lv_has ls 4 [(0, .ref (L 0)), (1, .int x), (2, .int y)] := hl
  obtain ⟨i0, i1, i2, i3, i4, i5, i7, i9, i10, i11, i15, iv, isz, isum, ital, itm, idg, icn, irec, isn, iout, ict, iwt, iwt2, iz, inz, iup, ish⟩ := hI
  obtain ⟨pp, f, rs, pw, pl, ps, V, ⟨ho0, ha1, ha3, ha12, ha13, ha14, ha15, ha16, ha17, ha39⟩, ⟨r1, r3, r12, r13, r14, r15, r16, r17, rp, rp16⟩, hVr, hSt, hPr, hCn, hSd, hDg, hB⟩ := hC
  have hF : Fr (CO L B) h h := Fr.rf
  refine lv_iload_n hx hb dX1_coins_0 rfl (lv_at hl 2 rfl) ?_
  refine zi_if_lt (tgt := 14) (X := (y).toInt) hx hb dX1_coins_1 (by decide) rfl (fun c1 => ?_) (fun c1 => ?_)
  · refine lv_iconst (v := nI 0) hx hb dX1_coins_14 rfl ?_
    have hcd : cd_coins N y = 1 := by unfold cd_coins; (repeat' split) <;> omega
    exact Y _ _ _ _ _ _ ((thr_S C T hl.1 (t_X1_need hfl) q441 q442 q53 q443 kd_X1_need rfl rfl ⟨Nat.le_of_ble_eq_true rfl, Nat.le_of_ble_eq_true rfl⟩ (Nat.le_of_ble_eq_true rfl) dX1_coins_15 ⟨Nat.le_of_ble_eq_true rfl, Nat.le_of_ble_eq_true rfl⟩).on C T hno ⟨Nat.le_of_ble_eq_true rfl, Nat.le_of_ble_eq_true rfl⟩ (fun h2 dc ds hp => by obtain ⟨rfl, rfl, rfl⟩ := hp; exact ⟨rfl, rfl, rfl, by rw [hcd]; exact ⟨by decide, rfl⟩⟩))
  · refine lv_iload_n hx hb dX1_coins_4 rfl (lv_at hl 2 rfl) ?_
    refine lv_bipush (v := nI 32) hx hb dX1_coins_5 rfl ?_
    refine zi_icmp_gt (tgt := 14) (X := (y).toInt) (Y := ((32 : Nat) : Int)) hx hb dX1_coins_7 (by decide) rfl (nI_toInt (by omega)) (fun c7 => ?_) (fun c7 => ?_)
    · refine lv_iconst (v := nI 0) hx hb dX1_coins_14 rfl ?_
      have hcd : cd_coins N y = 1 := by unfold cd_coins; (repeat' split) <;> omega
      exact Y _ _ _ _ _ _ ((thr_S C T hl.1 (t_X1_need hfl) q441 q442 q53 q443 kd_X1_need rfl rfl ⟨Nat.le_of_ble_eq_true rfl, Nat.le_of_ble_eq_true rfl⟩ (Nat.le_of_ble_eq_true rfl) dX1_coins_15 ⟨Nat.le_of_ble_eq_true rfl, Nat.le_of_ble_eq_true rfl⟩).on C T hno ⟨Nat.le_of_ble_eq_true rfl, Nat.le_of_ble_eq_true rfl⟩ (fun h2 dc ds hp => by obtain ⟨rfl, rfl, rfl⟩ := hp; exact ⟨rfl, rfl, rfl, by rw [hcd]; exact ⟨by decide, rfl⟩⟩))
    · refine lv_iconst (v := nI 1) hx hb dX1_coins_10 rfl ?_
      refine lv_goto (tgt := 15) hx hb dX1_coins_11 (by decide) ?_
      refine hp_S C T hl.1 (p_X1_need) q441 q442 q53 q443 kd_X1_need rfl rfl ⟨Nat.le_of_ble_eq_true rfl, Nat.le_of_ble_eq_true rfl⟩ (Nat.le_of_ble_eq_true rfl) dX1_coins_15 ⟨Nat.le_of_ble_eq_true rfl, Nat.le_of_ble_eq_true rfl⟩ (fun rv H2107 hp2107 T2107 => ?_)
      obtain rfl := hp2107
      refine W.eq (g2 := F0 m 18 ls []) rfl ?_
      obtain ⟨v, hv, rfl⟩ := nat_of (x := y) (by omega)
      have ev := nI_toInt hv
      have tv : (nI v).toInt.toNat = v := by rw [ev]; rfl
      obtain ⟨fi, row, hco, hro, hfi, hn4, hrow, h01⟩ := id hCn
      refine lv_aload_n hx hb dX1_coins_18 rfl (lv_at hl 0 rfl) ?_
      refine hr_get C T2107 ho0 rfl in_X1 25 (by decide) q324 rfl rfl dX1_coins_19 ?_
      refine hr_getN C T2107 hco rfl in_X2 2 (by decide) 0 rfl rfl rfl dX1_coins_22 ?_
      refine lv_iload_n hx hb dX1_coins_25 rfl (lv_at hl 2 rfl) ?_
      refine hn_iadd hx hb dX1_coins_26 ?_
      refine lv_sipush (v := nI 4000) hx hb dX1_coins_27 rfl ?_
      refine hn_icmp_gt (tgt := 37) hx hb dX1_coins_30 (by decide) (by omega) (by omega) (fun c30 => ?_) (fun c30 => ?_)
      · refine lv_iconst (v := nI 0) hx hb dX1_coins_37 rfl ?_
        have hcd : cd_coins N (nI v) = 2 := by unfold cd_coins; (repeat' split) <;> omega
        exact Y _ _ _ _ _ _ ((thr_S C T2107 hl.1 (t_X1_room hfl) q536 q537 q53 q538 kd_X1_room rfl rfl ⟨Nat.le_of_ble_eq_true rfl, Nat.le_of_ble_eq_true rfl⟩ (Nat.le_of_ble_eq_true rfl) dX1_coins_38 ⟨Nat.le_of_ble_eq_true rfl, Nat.le_of_ble_eq_true rfl⟩).on C T2107 hno ⟨Nat.le_of_ble_eq_true rfl, Nat.le_of_ble_eq_true rfl⟩ (fun h2 dc ds hp => by obtain ⟨rfl, rfl, rfl⟩ := hp; exact ⟨rfl, rfl, rfl, by rw [hcd]; exact ⟨by decide, rfl⟩⟩))
      · refine lv_iconst (v := nI 1) hx hb dX1_coins_33 rfl ?_
        refine lv_goto (tgt := 38) hx hb dX1_coins_34 (by decide) ?_
        refine hp_S C T2107 hl.1 (p_X1_room) q536 q537 q53 q538 kd_X1_room rfl rfl ⟨Nat.le_of_ble_eq_true rfl, Nat.le_of_ble_eq_true rfl⟩ (Nat.le_of_ble_eq_true rfl) dX1_coins_38 ⟨Nat.le_of_ble_eq_true rfl, Nat.le_of_ble_eq_true rfl⟩ (fun rv H2108 hp2108 T2108 => ?_)
        obtain rfl := hp2108
        refine W.eq (g2 := F0 m 41 ls []) rfl ?_
        refine lv_iload_n hx hb dX1_coins_41 rfl (lv_at hl 2 rfl) ?_
        refine lv_iconst (v := nI 1) hx hb dX1_coins_42 rfl ?_
        refine lv_isub hx hb dX1_coins_43 ?_
        rw [show nI 1 = 1 from rfl]
        refine lv_istore_n (lv' := [(3, .int (nI v - 1)), (0, .ref (L 0)), (1, .int x), (2, .int (nI v))]) hx hb dX1_coins_44 rfl hl (by decide) rfl (fun ls2109 hl2109 => ?_)
        have hcd : cd_coins N (nI v) = 0 := by unfold cd_coins; (repeat' split) <;> omega
        have L1 : ∀ (j : Nat) (k : Nat) (h2110 : HH) (H2110 : Heap) (locs2110 : List Loc) (ls2110 : Array Slot), (k < j) → (h2110 (L 0) = some (.inr (0, [.ref (L 1), .int (nI (N 0)), .ref (L 3), .int (nI (N 1)), .int (nI (N 2)), .int (nI (N 3)), .int (nI (N 4)), .int (nI (N 5)), .int (nI (N 6)), .int (nI (N 7)), .int (nI (N 8)), .ref (L 12), .ref (L 13), .ref (L 14), .ref (L 15), .ref (L 16), .ref (L 17), .int (nI (N 11)), .int (nI (N 15)), .int (nI (N 16)), .int (nI (N 17)), .int (nI (N 18) - 1), .int (nI (N 19)), .ref (L 24), .int (nI pp), .ref (L 26), .ref (L 27), .ref (if N 13 = 1 then L 27 else L 26), .ref (L 29), .ref (L 30), .ref (if N 12 = 1 then L 30 else L 29), .ref (L 32), .ref (B 0), .ref (B 1), .ref (B 2), .ref (B 3), .ref (L 37), .ref (L 38), .ref (L 39), .ref (B 4), .ref (B 5)]), L 0)) → (k ≤ v) → (Cns h2110 E L (nI1 (cnM (M 8) (N 10) x v)) (N 10 + (v - k))) → (∀ q, q ≠ L 26 → q ≠ L 60 → h2110 q = h q) → (Fr (· = L 26) h h2110) → (St E s h2110 H2110 locs2110) → (lv_has ls2110 4 [(0, .ref (L 0)), (1, .int x), (3, .int (nI k - 1))]) → W p l e ({ frames := 8, cells := 1, slots := 6, locals := 1200 } : Room) s m ([.ref (L 0), .int x, .int (nI v)] : List Value).toArray below meth c H2110 locs2110 0 0 Q (F0 m 45 ls2110 []) := by
          intro j
          induction j with
          | zero => intro k h2110 H2110 locs2110 ls2110 hm2110 ho0_2110 hk hCn hoth hF6 T2110 hl2110; exact absurd hm2110 (by omega)
          | succ j ih2110 =>
            intro k h2110 H2110 locs2110 ls2110 hm2110 ho0_2110 hk hCn hoth hF6 T2110 hl2110
            refine lv_iload_n hx hb dX1_coins_45 rfl (lv_at hl2110 2 rfl) ?_
            refine lv_if_lt (tgt := 76) hx hb dX1_coins_46 (by decide) (fun c99 => ?_) (fun c99 => ?_)
            · have k0 : k = 0 := (nIm1_neg (by omega)).mp c99
              subst k0
              rw [Nat.sub_zero] at hCn
              have hCn2 := hCn
              obtain ⟨fi2, row2, hco2, hro2, -⟩ := hCn2
              refine lv_aload_n hx hb dX1_coins_76 rfl (lv_at hl2110 0 rfl) ?_
              have ho0_2111 : h2110 (L 0) = some (.inr (0, [.ref (L 1), .int (nI (N 0)), .ref (L 3), .int (nI (N 1)), .int (nI (N 2)), .int (nI (N 3)), .int (nI (N 4)), .int (nI (N 5)), .int (nI (N 6)), .int (nI (N 7)), .int (nI (N 8)), .ref (L 12), .ref (L 13), .ref (L 14), .ref (L 15), .ref (L 16), .ref (L 17), .int (nI (N 11)), .int (nI (N 15)), .int (nI (N 16)), .int (nI (N 17)), .int (nI (N 18) - 1), .int (nI (N 19)), .ref (L 24), .int (nI pp), .ref (L 26), .ref (L 27), .ref (if N 13 = 1 then L 27 else L 26), .ref (L 29), .ref (L 30), .ref (if N 12 = 1 then L 30 else L 29), .ref (L 32), .ref (B 0), .ref (B 1), .ref (B 2), .ref (B 3), .ref (L 37), .ref (L 38), .ref (L 39), .ref (B 4), .ref (B 5)]), L 0) := (hoth _ (hLay.1 0 26 (by decide) (by decide) (by decide)) (hLay.1 0 60 (by decide) (by decide) (by decide))).trans ho0
              refine hr_get C T2110 ho0_2111 rfl in_X1 25 (by decide) q324 rfl rfl dX1_coins_77 ?_
              refine hr_getN C T2110 hco2 rfl in_X2 2 (by decide) 0 rfl rfl rfl dX1_coins_80 ?_
              have ha1_2111 : h2110 (L 1) = some (.inl (E.2.1 0, 8, .inl (f 1)), L 0) := (hoth _ (hLay.1 1 26 (by decide) (by decide) (by decide)) (hLay.1 1 60 (by decide) (by decide) (by decide))).trans ha1
              have ha3_2111 : h2110 (L 3) = some (.inl (E.2.1 0, 64, .inl (f 3)), L 0) := (hoth _ (hLay.1 3 26 (by decide) (by decide) (by decide)) (hLay.1 3 60 (by decide) (by decide) (by decide))).trans ha3
              have ha12_2111 : h2110 (L 12) = some (.inl (E.2.1 1, 20000, .inl (f 12)), L 0) := (hoth _ (hLay.1 12 26 (by decide) (by decide) (by decide)) (hLay.1 12 60 (by decide) (by decide) (by decide))).trans ha12
              have ha13_2111 : h2110 (L 13) = some (.inl (E.2.1 1, 20000, .inl (f 13)), L 0) := (hoth _ (hLay.1 13 26 (by decide) (by decide) (by decide)) (hLay.1 13 60 (by decide) (by decide) (by decide))).trans ha13
              have ha14_2111 : h2110 (L 14) = some (.inl (E.2.1 2, 20000, .inl (f 14)), L 0) := (hoth _ (hLay.1 14 26 (by decide) (by decide) (by decide)) (hLay.1 14 60 (by decide) (by decide) (by decide))).trans ha14
              have ha15_2111 : h2110 (L 15) = some (.inl (E.2.1 3, 8, .inl (f 15)), L 0) := (hoth _ (hLay.1 15 26 (by decide) (by decide) (by decide)) (hLay.1 15 60 (by decide) (by decide) (by decide))).trans ha15
              have ha16_2111 : h2110 (L 16) = some (.inl (E.2.1 0, 8, .inl (f 16)), L 0) := (hoth _ (hLay.1 16 26 (by decide) (by decide) (by decide)) (hLay.1 16 60 (by decide) (by decide) (by decide))).trans ha16
              have ha17_2111 : h2110 (L 17) = some (.inl (E.2.1 0, 8, .inl (f 17)), L 0) := (hoth _ (hLay.1 17 26 (by decide) (by decide) (by decide)) (hLay.1 17 60 (by decide) (by decide) (by decide))).trans ha17
              have ha39_2111 : h2110 (L 39) = some (.inl (E.2.1 3, 961, .inl (f 39)), L 0) := (hoth _ (hLay.1 39 26 (by decide) (by decide) (by decide)) (hLay.1 39 60 (by decide) (by decide) (by decide))).trans ha39
              have hSt_2111 : Stt E L B h2110 := Stt.kept (O := (· = L 26)) hF6 (hLay.1 30 26 (by decide) (by decide) (by decide)) hSt
              have hPr_2111 : Prs L B pw pl ps h2110 := Prs.kept (O := (· = L 26)) hF6 (hLay.1 24 26 (by decide) (by decide) (by decide)) hPr
              have hSd_2111 : Sds h2110 E L (nI1 (M 6)) (N 9) := Sds.kept (O := (· = L 26)) hF6 (hLay.1 27 26 (by decide) (by decide) (by decide)) hSd
              have hDg_2111 : Dgo h2110 E L rs := Dgo.kept (O := (· = L 26)) hF6 (hLay.1 62 26 (by decide) (by decide) (by decide)) hDg
              have hB_2111 : Bgs E h2110 B V cp := Bgs.kept (O := (· = L 26)) hF6 (fun i hi => hLay.2 i 26 hi (by decide)) hB
              exact Z _ _ _ _ _ _ _ _ dX1_coins_83 (Nat.zero_le _) (Nat.zero_le _) ⟨hcd, by rw [tv], by rw [tv]; exact ⟨pp, f, rs, pw, pl, ps, V, ⟨ho0_2111, ha1_2111, ha3_2111, ha12_2111, ha13_2111, ha14_2111, ha15_2111, ha16_2111, ha17_2111, ha39_2111⟩, ⟨r1, r3, r12, r13, r14, r15, r16, r17, rp, rp16⟩, Vr_same hVr, hSt_2111, hPr_2111, hCn, hSd_2111, hDg_2111, hB_2111⟩, hF6.mono (fun _ z => Or.inr (Or.inr (Or.inl z))), rfl, rfl⟩ T2110
            · have k0 : 0 < k := Nat.pos_of_ne_zero fun z => c99 ((nIm1_neg (by omega)).mpr z)
              rw [nIm1 k0] at hl2110
              refine lv_aload_n hx hb dX1_coins_49 rfl (lv_at hl2110 0 rfl) ?_
              refine hr_get C T2110 ho0_2110 rfl in_X1 25 (by decide) q324 rfl rfl dX1_coins_50 ?_
              refine lv_iload_n hx hb dX1_coins_53 rfl (lv_at hl2110 1 rfl) ?_
              refine lv_iload_n hx hb dX1_coins_54 rfl (lv_at hl2110 2 rfl) ?_
              refine lv_ishr hx hb dX1_coins_55 ?_
              refine lv_iconst (v := nI 1) hx hb dX1_coins_56 rfl ?_
              refine lv_iand hx hb dX1_coins_57 ?_
              rw [bt_nI]
              have hbt := bt_lt x (k - 1)
              refine lv_iconst (v := nI 1) hx hb dX1_coins_58 rfl ?_
              have J67 : ∀ (z : Int32) (H2112 : Heap) (locs2112 : List Loc) (ls2112 : Array Slot), (z = nI (bt x (k - 1))) → (St E s h2110 H2112 locs2112) → (lv_has ls2112 4 [(0, .ref (L 0)), (1, .int x), (3, .int (nI (k - 1)))]) → W p l e ({ frames := 8, cells := 1, slots := 6, locals := 1200 } : Room) s m ([.ref (L 0), .int x, .int (nI v)] : List Value).toArray below meth c H2112 locs2112 0 0 Q (F0 m 67 ls2112 [.int z, .ref (L 26)]) := by
                intro z H2112 locs2112 ls2112 hz T2112 hl2112
                obtain ⟨fi2, row2, hco2, hro2, hfi2, hn42, hrow2, h012⟩ := id hCn
                have hz01 : z = 0 ∨ z = 1 := by rcases (show bt x (k - 1) = 0 ∨ bt x (k - 1) = 1 by omega) with y | y <;> rw [hz, y] <;> decide
                refine hc_V C T2112 hl2112.1 hco2 rfl (m_X2_add hLay.1 hCn (by omega) hz01) q649 q650 q651 q54 q652 kd_X2_add rfl rfl ⟨Nat.le_of_ble_eq_true rfl, Nat.le_of_ble_eq_true rfl⟩ (Nat.le_of_ble_eq_true rfl) dX1_coins_67 ⟨Nat.le_of_ble_eq_true rfl, Nat.le_of_ble_eq_true rfl⟩ (fun rv h2113 H2113 locs2113 hp2113 T2113 => ?_)
                obtain ⟨rfl, hC2113, hF2113, ho2113⟩ := hp2113
                refine W.eq (g2 := F0 m 70 ls2112 []) rfl ?_
                refine lv_iinc (v := nI (k - 1) - 1) (lv' := [(3, .int (nI (k - 1) - 1)), (0, .ref (L 0)), (1, .int x)]) hx hb dX1_coins_70 hl2112 (k := 2) rfl (by rw [Int32.sub_eq_add_neg]; rfl) (by decide) rfl (fun ls2114 hl2114 => ?_)
                refine lv_goto (tgt := 45) hx hb dX1_coins_73 (by decide) ?_
                have ho0_2113 : h2113 (L 0) = some (.inr (0, [.ref (L 1), .int (nI (N 0)), .ref (L 3), .int (nI (N 1)), .int (nI (N 2)), .int (nI (N 3)), .int (nI (N 4)), .int (nI (N 5)), .int (nI (N 6)), .int (nI (N 7)), .int (nI (N 8)), .ref (L 12), .ref (L 13), .ref (L 14), .ref (L 15), .ref (L 16), .ref (L 17), .int (nI (N 11)), .int (nI (N 15)), .int (nI (N 16)), .int (nI (N 17)), .int (nI (N 18) - 1), .int (nI (N 19)), .ref (L 24), .int (nI pp), .ref (L 26), .ref (L 27), .ref (if N 13 = 1 then L 27 else L 26), .ref (L 29), .ref (L 30), .ref (if N 12 = 1 then L 30 else L 29), .ref (L 32), .ref (B 0), .ref (B 1), .ref (B 2), .ref (B 3), .ref (L 37), .ref (L 38), .ref (L 39), .ref (B 4), .ref (B 5)]), L 0) := (ho2113 _ (hLay.1 0 26 (by decide) (by decide) (by decide)) (hLay.1 0 60 (by decide) (by decide) (by decide))).trans ho0_2110
                exact ih2110 (k - 1) _ _ _ _ (by omega) ho0_2113 (by omega) (by have e : N 10 + (v - k) + 1 = N 10 + (v - (k - 1)) := (by omega); rw [e] at hC2113; refine Cns.cong (fun i hi => ?_) hC2113; by_cases q : i = N 10 + (v - k); (rw [q, pk_us, hz]; show _ = nI (cnM _ _ _ _ _); unfold cnM; rw [if_neg (by omega)]; congr 2; omega); (rw [pk_un q])) (fun q z1 z2 => (ho2113 q z1 z2).trans (hoth q z1 z2)) (hF6.tr hF2113) T2113 (lv_sub hl2114 [1, 2, 0] rfl)
              refine hn_icmp_ne (tgt := 66) hx hb dX1_coins_59 (by decide) (by omega) (by omega) (fun c98 => ?_) (fun c98 => ?_)
              · refine lv_iconst (v := nI 0) hx hb dX1_coins_66 rfl ?_
                exact J67 _ _ _ _ (by rw [show bt x (k - 1) = 0 by omega]) T2110 (lv_sub hl2110 [0, 1, 2] rfl)
              · refine lv_iconst (v := nI 1) hx hb dX1_coins_62 rfl ?_
                refine lv_goto (tgt := 67) hx hb dX1_coins_63 (by decide) ?_
                exact J67 _ _ _ _ (by rw [c98]) T2110 (lv_sub hl2110 [0, 1, 2] rfl)
        have hCn0 : Cns h E L (nI1 (cnM (M 8) (N 10) x v)) (N 10 + (v - v)) := by rw [Nat.sub_self]; exact Cns.cong (fun i hi => by show nI _ = nI (cnM _ _ _ _ _); unfold cnM; rw [if_pos (show i < N 10 by omega)]) hCn
        exact L1 (v + 1) v _ _ _ _ (by omega) ho0 (Nat.le_refl _) hCn0 (fun _ _ _ => rfl) Fr.rf T2108 (lv_sub hl2109 [1, 2, 0] rfl)
