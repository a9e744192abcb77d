set_option maxRecDepth 100000
theorem p_X1_isC1 {E : GE} {l : Launch} {h : HH} {L B N : Nat → Nat} {p : Nat} {x : Int32} (i0 : N 0 ≤ 8) (hc : 0 ≤ x.toInt ∧ x.toInt < N 0) (ho0 : h (L 0) = some (.inr (0, [.ref (L 1), .int (nI (N 0)), .ref (L 3), .int (nI (N 1)), .int (nI (N 2)), .int (nI (N 3)), .int (nI (N 4)), .int (nI (N 5)), .int (nI (N 6)), .int (nI (N 7)), .int (nI (N 8)), .ref (L 12), .ref (L 13), .ref (L 14), .ref (L 15), .ref (L 16), .ref (L 17), .int (nI (N 11)), .int (nI (N 15)), .int (nI (N 16)), .int (nI (N 17)), .int (nI (N 18) - 1), .int (nI (N 19)), .ref (L 24), .int (nI p), .ref (L 26), .ref (L 27), .ref (if N 13 = 1 then L 27 else L 26), .ref (L 29), .ref (L 30), .ref (if N 12 = 1 then L 30 else L 29), .ref (L 32), .ref (B 0), .ref (B 1), .ref (B 2), .ref (B 3), .ref (L 37), .ref (L 38), .ref (L 39), .ref (B 4), .ref (B 5)]), L 0)) : MP E l yX1_isCandidate cX1_isCandidate 2 (some .boolean) ({ frames := 0, cells := 0, slots := 0, locals := 0 } : Room) [.ref (L 0), .int x] h (fun rv => rv = some (.int (nI 1))) := by
  have h9 := p_X1_isCandidate (E := E) (l := l) (x := x) i0 ho0
  rw [if_pos hc] at h9
  exact h9

theorem p_X1_isC0 {E : GE} {l : Launch} {h : HH} {L B N : Nat → Nat} {p : Nat} {x : Int32} (i0 : N 0 ≤ 8) (hc : ¬ (0 ≤ x.toInt ∧ x.toInt < N 0)) (ho0 : h (L 0) = some (.inr (0, [.ref (L 1), .int (nI (N 0)), .ref (L 3), .int (nI (N 1)), .int (nI (N 2)), .int (nI (N 3)), .int (nI (N 4)), .int (nI (N 5)), .int (nI (N 6)), .int (nI (N 7)), .int (nI (N 8)), .ref (L 12), .ref (L 13), .ref (L 14), .ref (L 15), .ref (L 16), .ref (L 17), .int (nI (N 11)), .int (nI (N 15)), .int (nI (N 16)), .int (nI (N 17)), .int (nI (N 18) - 1), .int (nI (N 19)), .ref (L 24), .int (nI p), .ref (L 26), .ref (L 27), .ref (if N 13 = 1 then L 27 else L 26), .ref (L 29), .ref (L 30), .ref (if N 12 = 1 then L 30 else L 29), .ref (L 32), .ref (B 0), .ref (B 1), .ref (B 2), .ref (B 3), .ref (L 37), .ref (L 38), .ref (L 39), .ref (B 4), .ref (B 5)]), L 0)) : MP E l yX1_isCandidate cX1_isCandidate 2 (some .boolean) ({ frames := 0, cells := 0, slots := 0, locals := 0 } : Room) [.ref (L 0), .int x] h (fun rv => rv = some (.int (nI 0))) := by
  have h9 := p_X1_isCandidate (E := E) (l := l) (x := x) i0 ho0
  rw [if_neg hc] at h9
  exact h9

def cd_batch (N : Nat → Nat) (x : Int32) : Nat := if x.toInt < 1 ∨ 4000 < x.toInt then 1 else if N 11 ≠ 0 then 2 else if 64 ≤ N 1 ∨ 20000 < N 2 + x.toInt then 3 else 0

set_option maxHeartbeats 4000000 in
theorem m_X1_batch {E : GE} {l : Launch} {h : HH} (hfl : l.flags = flags0) {L B cp N : Nat → Nat} {M : Nat → Nat → Nat} {G : Nat → Nat → Int32} (hLay : Lay L B) (hI : Inv N M G) (hC : Cp E h L B cp N M G) {x : Int32} : MX E l yX1_batch cX1_batch 2 (some .int) ({ frames := 8, cells := 1, slots := 6, locals := 1200 } : Room) [.ref (L 0), .int x] h (fun rv h2 dc ds => cd_batch N x = 0 ∧ rv = some (.int (nI (N 2))) ∧ Cp E h2 L B cp (nu (nu N 1 (N 1 + 1)) 2 (N 2 + x.toInt.toNat)) (mu M 1 (nu (M 1) (N 1) x.toInt.toNat)) G ∧ Fr (CO L B) h h2 ∧ dc = 0 ∧ ds = 0) (fun C h' dc ds => h' = h ∧ dc = 1 ∧ ds = 6 ∧ TC C (cd_batch N x) [xIAE, xISE, xUOE]) := by
  refine hx_i (by decide) (Nat.le_of_ble_eq_true rfl) ?_
  intro p e s m below meth c C hno Q Z Y ls T hl
  have hx := C.x
  have hb := C.b
  have hl : lv_has ls 2 [(0, .ref (L 0)), (1, .int x)] := hl
  obtain ⟨i0, i1, i2, i3, i4, i5, i7, i9, i10, i11, i15, iv, isz, isum, ital, itm, idg, icn, irec, isn, iout, ict, iwt, iwt2, iz, inz, iup, ish⟩ := hI
  obtain ⟨pp, f, rs, pw, pl, ps, V, ⟨ho0, ha1, ha3, ha12, ha13, ha14, ha15, ha16, ha17, ha39⟩, ⟨r1, r3, r12, r13, r14, r15, r16, r17, rp, rp16⟩, hVr, hSt, hPr, hCn, hSd, hDg, hB⟩ := hC
  have hF : Fr (CO L B) h h := Fr.rf
  refine lv_iload_n hx hb dX1_batch_0 rfl (lv_at hl 1 rfl) ?_
  refine lv_iconst (v := nI 1) hx hb dX1_batch_1 rfl ?_
  refine zi_icmp_lt (tgt := 16) (X := (x).toInt) (Y := ((1 : Nat) : Int)) hx hb dX1_batch_2 (by decide) rfl (nI_toInt (by omega)) (fun c2 => ?_) (fun c2 => ?_)
  · refine lv_iconst (v := nI 0) hx hb dX1_batch_16 rfl ?_
    have hcd : cd_batch N x = 1 := by unfold cd_batch; (repeat' split) <;> omega
    exact Y _ _ _ _ _ _ ((thr_S C T hl.1 (t_X1_need hfl) q441 q442 q53 q443 kd_X1_need rfl rfl ⟨Nat.le_of_ble_eq_true rfl, Nat.le_of_ble_eq_true rfl⟩ (Nat.le_of_ble_eq_true rfl) dX1_batch_17 ⟨Nat.le_of_ble_eq_true rfl, Nat.le_of_ble_eq_true rfl⟩).on C T hno ⟨Nat.le_of_ble_eq_true rfl, Nat.le_of_ble_eq_true rfl⟩ (fun h2 dc ds hp => by obtain ⟨rfl, rfl, rfl⟩ := hp; exact ⟨rfl, rfl, rfl, by rw [hcd]; exact ⟨by decide, rfl⟩⟩))
  · refine lv_iload_n hx hb dX1_batch_5 rfl (lv_at hl 1 rfl) ?_
    refine lv_sipush (v := nI 4000) hx hb dX1_batch_6 rfl ?_
    refine zi_icmp_gt (tgt := 16) (X := (x).toInt) (Y := ((4000 : Nat) : Int)) hx hb dX1_batch_9 (by decide) rfl (nI_toInt (by omega)) (fun c9 => ?_) (fun c9 => ?_)
    · refine lv_iconst (v := nI 0) hx hb dX1_batch_16 rfl ?_
      have hcd : cd_batch N x = 1 := by unfold cd_batch; (repeat' split) <;> omega
      exact Y _ _ _ _ _ _ ((thr_S C T hl.1 (t_X1_need hfl) q441 q442 q53 q443 kd_X1_need rfl rfl ⟨Nat.le_of_ble_eq_true rfl, Nat.le_of_ble_eq_true rfl⟩ (Nat.le_of_ble_eq_true rfl) dX1_batch_17 ⟨Nat.le_of_ble_eq_true rfl, Nat.le_of_ble_eq_true rfl⟩).on C T hno ⟨Nat.le_of_ble_eq_true rfl, Nat.le_of_ble_eq_true rfl⟩ (fun h2 dc ds hp => by obtain ⟨rfl, rfl, rfl⟩ := hp; exact ⟨rfl, rfl, rfl, by rw [hcd]; exact ⟨by decide, rfl⟩⟩))
    · refine lv_iconst (v := nI 1) hx hb dX1_batch_12 rfl ?_
      refine lv_goto (tgt := 17) hx hb dX1_batch_13 (by decide) ?_
      refine hp_S C T hl.1 (p_X1_need) q441 q442 q53 q443 kd_X1_need rfl rfl ⟨Nat.le_of_ble_eq_true rfl, Nat.le_of_ble_eq_true rfl⟩ (Nat.le_of_ble_eq_true rfl) dX1_batch_17 ⟨Nat.le_of_ble_eq_true rfl, Nat.le_of_ble_eq_true rfl⟩ (fun rv H1901 hp1901 T1901 => ?_)
      obtain rfl := hp1901
      refine W.eq (g2 := F0 m 20 ls []) rfl ?_
      obtain ⟨v, hv, rfl⟩ := nat_of (x := x) (by omega)
      have ev := nI_toInt hv
      have tv : (nI v).toInt.toNat = v := by rw [ev]; rfl
      refine lv_aload_n hx hb dX1_batch_20 rfl (lv_at hl 0 rfl) ?_
      by_cases cS : N 11 = 0
      · refine hp_V C T1901 hl.1 ho0 rfl (p_X1_setting i11.1 cS ho0) q513 q515 qs3 q53 q516 kd_X1_setting rfl rfl ⟨Nat.le_of_ble_eq_true rfl, Nat.le_of_ble_eq_true rfl⟩ (Nat.le_of_ble_eq_true rfl) dX1_batch_21 ⟨Nat.le_of_ble_eq_true rfl, Nat.le_of_ble_eq_true rfl⟩ (fun rv H1902 hp1902 T1902 => ?_)
        obtain rfl := hp1902
        refine W.eq (g2 := F0 m 24 ls []) rfl ?_
        refine lv_aload_n hx hb dX1_batch_24 rfl (lv_at hl 0 rfl) ?_
        refine hr_get C T1902 ho0 rfl in_X1 3 (by decide) q293 rfl rfl dX1_batch_25 ?_
        refine lv_bipush (v := nI 64) hx hb dX1_batch_28 rfl ?_
        refine hn_icmp_ge (tgt := 49) hx hb dX1_batch_30 (by decide) (by omega) (by omega) (fun c30 => ?_) (fun c30 => ?_)
        · refine lv_iconst (v := nI 0) hx hb dX1_batch_49 rfl ?_
          have hcd : cd_batch N (nI v) = 3 := by unfold cd_batch; (repeat' split) <;> omega
          exact Y _ _ _ _ _ _ ((thr_S C T1902 hl.1 (t_X1_room hfl) q536 q537 q53 q538 kd_X1_room rfl rfl ⟨Nat.le_of_ble_eq_true rfl, Nat.le_of_ble_eq_true rfl⟩ (Nat.le_of_ble_eq_true rfl) dX1_batch_50 ⟨Nat.le_of_ble_eq_true rfl, Nat.le_of_ble_eq_true rfl⟩).on C T1902 hno ⟨Nat.le_of_ble_eq_true rfl, Nat.le_of_ble_eq_true rfl⟩ (fun h2 dc ds hp => by obtain ⟨rfl, rfl, rfl⟩ := hp; exact ⟨rfl, rfl, rfl, by rw [hcd]; exact ⟨by decide, rfl⟩⟩))
        · refine lv_aload_n hx hb dX1_batch_33 rfl (lv_at hl 0 rfl) ?_
          refine hr_get C T1902 ho0 rfl in_X1 4 (by decide) q295 rfl rfl dX1_batch_34 ?_
          refine lv_iload_n hx hb dX1_batch_37 rfl (lv_at hl 1 rfl) ?_
          refine hn_iadd hx hb dX1_batch_38 ?_
          refine lv_sipush (v := nI 20000) hx hb dX1_batch_39 rfl ?_
          refine hn_icmp_gt (tgt := 49) hx hb dX1_batch_42 (by decide) (by omega) (by omega) (fun c42 => ?_) (fun c42 => ?_)
          · refine lv_iconst (v := nI 0) hx hb dX1_batch_49 rfl ?_
            have hcd : cd_batch N (nI v) = 3 := by unfold cd_batch; (repeat' split) <;> omega
            exact Y _ _ _ _ _ _ ((thr_S C T1902 hl.1 (t_X1_room hfl) q536 q537 q53 q538 kd_X1_room rfl rfl ⟨Nat.le_of_ble_eq_true rfl, Nat.le_of_ble_eq_true rfl⟩ (Nat.le_of_ble_eq_true rfl) dX1_batch_50 ⟨Nat.le_of_ble_eq_true rfl, Nat.le_of_ble_eq_true rfl⟩).on C T1902 hno ⟨Nat.le_of_ble_eq_true rfl, Nat.le_of_ble_eq_true rfl⟩ (fun h2 dc ds hp => by obtain ⟨rfl, rfl, rfl⟩ := hp; exact ⟨rfl, rfl, rfl, by rw [hcd]; exact ⟨by decide, rfl⟩⟩))
          · refine lv_iconst (v := nI 1) hx hb dX1_batch_45 rfl ?_
            refine lv_goto (tgt := 50) hx hb dX1_batch_46 (by decide) ?_
            refine hp_S C T1902 hl.1 (p_X1_room) q536 q537 q53 q538 kd_X1_room rfl rfl ⟨Nat.le_of_ble_eq_true rfl, Nat.le_of_ble_eq_true rfl⟩ (Nat.le_of_ble_eq_true rfl) dX1_batch_50 ⟨Nat.le_of_ble_eq_true rfl, Nat.le_of_ble_eq_true rfl⟩ (fun rv H1903 hp1903 T1903 => ?_)
            obtain rfl := hp1903
            refine W.eq (g2 := F0 m 53 ls []) rfl ?_
            refine lv_aload_n hx hb dX1_batch_53 rfl (lv_at hl 0 rfl) ?_
            refine hr_get C T1903 ho0 rfl in_X1 2 (by decide) q292 rfl rfl dX1_batch_54 ?_
            refine lv_aload_n hx hb dX1_batch_57 rfl (lv_at hl 0 rfl) ?_
            refine lv_dup hx hb dX1_batch_58 rfl ?_
            refine hr_get C T1903 ho0 rfl in_X1 3 (by decide) q293 rfl rfl dX1_batch_59 ?_
            refine lv_dup_x1 hx hb dX1_batch_62 rfl rfl ?_
            refine lv_iconst (v := nI 1) hx hb dX1_batch_63 rfl ?_
            refine hn_iadd hx hb dX1_batch_64 ?_
            refine hr_put C T1903 ho0 rfl in_X1 tyX1 tyX1_ok nmX1 3 (by decide) q293 rfl rfl rfl rfl (Nat.le_of_ble_eq_true rfl) dX1_batch_65 (fun h1904 H1904 locs1904 eh1904 T1904 => ?_)
            have ho0_1904 : h1904 (L 0) = some (.inr (0, [.ref (L 1), .int (nI (N 0)), .ref (L 3), .int (nI ((N 1) + 1)), .int (nI (N 2)), .int (nI (N 3)), .int (nI (N 4)), .int (nI (N 5)), .int (nI (N 6)), .int (nI (N 7)), .int (nI (N 8)), .ref (L 12), .ref (L 13), .ref (L 14), .ref (L 15), .ref (L 16), .ref (L 17), .int (nI (N 11)), .int (nI (N 15)), .int (nI (N 16)), .int (nI (N 17)), .int (nI (N 18) - 1), .int (nI (N 19)), .ref (L 24), .int (nI pp), .ref (L 26), .ref (L 27), .ref (if N 13 = 1 then L 27 else L 26), .ref (L 29), .ref (L 30), .ref (if N 12 = 1 then L 30 else L 29), .ref (L 32), .ref (B 0), .ref (B 1), .ref (B 2), .ref (B 3), .ref (L 37), .ref (L 38), .ref (L 39), .ref (B 4), .ref (B 5)]), L 0) := hu_s eh1904
            have hF_1904 : Fr (CO L B) h h1904 := hu_f eh1904 hF ho0 (Or.inl rfl)
            refine lv_iload_n hx hb dX1_batch_68 rfl (lv_at hl 1 rfl) ?_
            have ha3_1904 : h1904 (L 3) = some (.inl (E.2.1 0, 64, .inl (f 3)), L 0) := hu_n eh1904 (hLay.1 3 0 (by decide) (by decide) (by decide)) ha3
            refine hr_iast C T1904 ha3_1904 (by omega) (by omega) dX1_batch_69 (fun h1905 H1905 locs1905 eh1905 T1905 => ?_)
            have ha3_1905 : h1905 (L 3) = some (.inl (E.2.1 0, 64, .inl (upd (f 3) (N 1) (nI v))), L 0) := hu_s eh1905
            have hF_1905 : Fr (CO L B) h h1905 := hu_f eh1905 hF_1904 ha3_1904 (Or.inl rfl)
            refine lv_aload_n hx hb dX1_batch_70 rfl (lv_at hl 0 rfl) ?_
            refine lv_dup hx hb dX1_batch_71 rfl ?_
            have ho0_1905 : h1905 (L 0) = some (.inr (0, [.ref (L 1), .int (nI (N 0)), .ref (L 3), .int (nI ((N 1) + 1)), .int (nI (N 2)), .int (nI (N 3)), .int (nI (N 4)), .int (nI (N 5)), .int (nI (N 6)), .int (nI (N 7)), .int (nI (N 8)), .ref (L 12), .ref (L 13), .ref (L 14), .ref (L 15), .ref (L 16), .ref (L 17), .int (nI (N 11)), .int (nI (N 15)), .int (nI (N 16)), .int (nI (N 17)), .int (nI (N 18) - 1), .int (nI (N 19)), .ref (L 24), .int (nI pp), .ref (L 26), .ref (L 27), .ref (if N 13 = 1 then L 27 else L 26), .ref (L 29), .ref (L 30), .ref (if N 12 = 1 then L 30 else L 29), .ref (L 32), .ref (B 0), .ref (B 1), .ref (B 2), .ref (B 3), .ref (L 37), .ref (L 38), .ref (L 39), .ref (B 4), .ref (B 5)]), L 0) := hu_n eh1905 (hLay.1 0 3 (by decide) (by decide) (by decide)) ho0_1904
            refine hr_get C T1905 ho0_1905 rfl in_X1 4 (by decide) q295 rfl rfl dX1_batch_72 ?_
            refine lv_iload_n hx hb dX1_batch_75 rfl (lv_at hl 1 rfl) ?_
            refine hn_iadd hx hb dX1_batch_76 ?_
            refine hr_put C T1905 ho0_1905 rfl in_X1 tyX1 tyX1_ok nmX1 4 (by decide) q295 rfl rfl rfl rfl (Nat.le_of_ble_eq_true rfl) dX1_batch_77 (fun h1906 H1906 locs1906 eh1906 T1906 => ?_)
            have ho0_1906 : h1906 (L 0) = some (.inr (0, [.ref (L 1), .int (nI (N 0)), .ref (L 3), .int (nI ((N 1) + 1)), .int (nI ((N 2) + v)), .int (nI (N 3)), .int (nI (N 4)), .int (nI (N 5)), .int (nI (N 6)), .int (nI (N 7)), .int (nI (N 8)), .ref (L 12), .ref (L 13), .ref (L 14), .ref (L 15), .ref (L 16), .ref (L 17), .int (nI (N 11)), .int (nI (N 15)), .int (nI (N 16)), .int (nI (N 17)), .int (nI (N 18) - 1), .int (nI (N 19)), .ref (L 24), .int (nI pp), .ref (L 26), .ref (L 27), .ref (if N 13 = 1 then L 27 else L 26), .ref (L 29), .ref (L 30), .ref (if N 12 = 1 then L 30 else L 29), .ref (L 32), .ref (B 0), .ref (B 1), .ref (B 2), .ref (B 3), .ref (L 37), .ref (L 38), .ref (L 39), .ref (B 4), .ref (B 5)]), L 0) := hu_s eh1906
            have hF_1906 : Fr (CO L B) h h1906 := hu_f eh1906 hF_1905 ho0_1905 (Or.inl rfl)
            refine lv_aload_n hx hb dX1_batch_80 rfl (lv_at hl 0 rfl) ?_
            refine hr_get C T1906 ho0_1906 rfl in_X1 4 (by decide) q295 rfl rfl dX1_batch_81 ?_
            refine lv_iload_n hx hb dX1_batch_84 rfl (lv_at hl 1 rfl) ?_
            refine hn_isub hx hb dX1_batch_85 (by omega) ?_
            have hcd : cd_batch N (nI v) = 0 := by unfold cd_batch; (repeat' split) <;> omega
            have ha1_1904 : h1904 (L 1) = some (.inl (E.2.1 0, 8, .inl (f 1)), L 0) := hu_n eh1904 (hLay.1 1 0 (by decide) (by decide) (by decide)) ha1
            have ha1_1905 : h1905 (L 1) = some (.inl (E.2.1 0, 8, .inl (f 1)), L 0) := hu_n eh1905 (hLay.1 1 3 (by decide) (by decide) (by decide)) ha1_1904
            have ha1_1906 : h1906 (L 1) = some (.inl (E.2.1 0, 8, .inl (f 1)), L 0) := hu_n eh1906 (hLay.1 1 0 (by decide) (by decide) (by decide)) ha1_1905
            have ha3_1906 : h1906 (L 3) = some (.inl (E.2.1 0, 64, .inl (upd (f 3) (N 1) (nI v))), L 0) := hu_n eh1906 (hLay.1 3 0 (by decide) (by decide) (by decide)) ha3_1905
            have ha12_1904 : h1904 (L 12) = some (.inl (E.2.1 1, 20000, .inl (f 12)), L 0) := hu_n eh1904 (hLay.1 12 0 (by decide) (by decide) (by decide)) ha12
            have ha12_1905 : h1905 (L 12) = some (.inl (E.2.1 1, 20000, .inl (f 12)), L 0) := hu_n eh1905 (hLay.1 12 3 (by decide) (by decide) (by decide)) ha12_1904
            have ha12_1906 : h1906 (L 12) = some (.inl (E.2.1 1, 20000, .inl (f 12)), L 0) := hu_n eh1906 (hLay.1 12 0 (by decide) (by decide) (by decide)) ha12_1905
            have ha13_1904 : h1904 (L 13) = some (.inl (E.2.1 1, 20000, .inl (f 13)), L 0) := hu_n eh1904 (hLay.1 13 0 (by decide) (by decide) (by decide)) ha13
            have ha13_1905 : h1905 (L 13) = some (.inl (E.2.1 1, 20000, .inl (f 13)), L 0) := hu_n eh1905 (hLay.1 13 3 (by decide) (by decide) (by decide)) ha13_1904
            have ha13_1906 : h1906 (L 13) = some (.inl (E.2.1 1, 20000, .inl (f 13)), L 0) := hu_n eh1906 (hLay.1 13 0 (by decide) (by decide) (by decide)) ha13_1905
            have ha14_1904 : h1904 (L 14) = some (.inl (E.2.1 2, 20000, .inl (f 14)), L 0) := hu_n eh1904 (hLay.1 14 0 (by decide) (by decide) (by decide)) ha14
            have ha14_1905 : h1905 (L 14) = some (.inl (E.2.1 2, 20000, .inl (f 14)), L 0) := hu_n eh1905 (hLay.1 14 3 (by decide) (by decide) (by decide)) ha14_1904
            have ha14_1906 : h1906 (L 14) = some (.inl (E.2.1 2, 20000, .inl (f 14)), L 0) := hu_n eh1906 (hLay.1 14 0 (by decide) (by decide) (by decide)) ha14_1905
            have ha15_1904 : h1904 (L 15) = some (.inl (E.2.1 3, 8, .inl (f 15)), L 0) := hu_n eh1904 (hLay.1 15 0 (by decide) (by decide) (by decide)) ha15
            have ha15_1905 : h1905 (L 15) = some (.inl (E.2.1 3, 8, .inl (f 15)), L 0) := hu_n eh1905 (hLay.1 15 3 (by decide) (by decide) (by decide)) ha15_1904
            have ha15_1906 : h1906 (L 15) = some (.inl (E.2.1 3, 8, .inl (f 15)), L 0) := hu_n eh1906 (hLay.1 15 0 (by decide) (by decide) (by decide)) ha15_1905
            have ha16_1904 : h1904 (L 16) = some (.inl (E.2.1 0, 8, .inl (f 16)), L 0) := hu_n eh1904 (hLay.1 16 0 (by decide) (by decide) (by decide)) ha16
            have ha16_1905 : h1905 (L 16) = some (.inl (E.2.1 0, 8, .inl (f 16)), L 0) := hu_n eh1905 (hLay.1 16 3 (by decide) (by decide) (by decide)) ha16_1904
            have ha16_1906 : h1906 (L 16) = some (.inl (E.2.1 0, 8, .inl (f 16)), L 0) := hu_n eh1906 (hLay.1 16 0 (by decide) (by decide) (by decide)) ha16_1905
            have ha17_1904 : h1904 (L 17) = some (.inl (E.2.1 0, 8, .inl (f 17)), L 0) := hu_n eh1904 (hLay.1 17 0 (by decide) (by decide) (by decide)) ha17
            have ha17_1905 : h1905 (L 17) = some (.inl (E.2.1 0, 8, .inl (f 17)), L 0) := hu_n eh1905 (hLay.1 17 3 (by decide) (by decide) (by decide)) ha17_1904
            have ha17_1906 : h1906 (L 17) = some (.inl (E.2.1 0, 8, .inl (f 17)), L 0) := hu_n eh1906 (hLay.1 17 0 (by decide) (by decide) (by decide)) ha17_1905
            have ha39_1904 : h1904 (L 39) = some (.inl (E.2.1 3, 961, .inl (f 39)), L 0) := hu_n eh1904 (hLay.1 39 0 (by decide) (by decide) (by decide)) ha39
            have ha39_1905 : h1905 (L 39) = some (.inl (E.2.1 3, 961, .inl (f 39)), L 0) := hu_n eh1905 (hLay.1 39 3 (by decide) (by decide) (by decide)) ha39_1904
            have ha39_1906 : h1906 (L 39) = some (.inl (E.2.1 3, 961, .inl (f 39)), L 0) := hu_n eh1906 (hLay.1 39 0 (by decide) (by decide) (by decide)) ha39_1905
            have hSt_1904 : Stt E L B h1904 := Stt.kept (O := (· = L 0)) (hu_f eh1904 Fr.rf ho0 rfl) (hLay.1 30 0 (by decide) (by decide) (by decide)) hSt
            have hSt_1905 : Stt E L B h1905 := Stt.kept (O := (· = L 0)) (hu_f eh1905 Fr.rf ha3_1904 rfl) (hLay.1 30 0 (by decide) (by decide) (by decide)) hSt_1904
            have hSt_1906 : Stt E L B h1906 := Stt.kept (O := (· = L 0)) (hu_f eh1906 Fr.rf ho0_1905 rfl) (hLay.1 30 0 (by decide) (by decide) (by decide)) hSt_1905
            have hPr_1904 : Prs L B pw pl ps h1904 := Prs.kept (O := (· = L 0)) (hu_f eh1904 Fr.rf ho0 rfl) (hLay.1 24 0 (by decide) (by decide) (by decide)) hPr
            have hPr_1905 : Prs L B pw pl ps h1905 := Prs.kept (O := (· = L 0)) (hu_f eh1905 Fr.rf ha3_1904 rfl) (hLay.1 24 0 (by decide) (by decide) (by decide)) hPr_1904
            have hPr_1906 : Prs L B pw pl ps h1906 := Prs.kept (O := (· = L 0)) (hu_f eh1906 Fr.rf ho0_1905 rfl) (hLay.1 24 0 (by decide) (by decide) (by decide)) hPr_1905
            have hCn_1904 : Cns h1904 E L (nI1 (M 8)) (N 10) := Cns.kept (O := (· = L 0)) (hu_f eh1904 Fr.rf ho0 rfl) (hLay.1 26 0 (by decide) (by decide) (by decide)) hCn
            have hCn_1905 : Cns h1905 E L (nI1 (M 8)) (N 10) := Cns.kept (O := (· = L 0)) (hu_f eh1905 Fr.rf ha3_1904 rfl) (hLay.1 26 0 (by decide) (by decide) (by decide)) hCn_1904
            have hCn_1906 : Cns h1906 E L (nI1 (M 8)) (N 10) := Cns.kept (O := (· = L 0)) (hu_f eh1906 Fr.rf ho0_1905 rfl) (hLay.1 26 0 (by decide) (by decide) (by decide)) hCn_1905
            have hSd_1904 : Sds h1904 E L (nI1 (M 6)) (N 9) := Sds.kept (O := (· = L 0)) (hu_f eh1904 Fr.rf ho0 rfl) (hLay.1 27 0 (by decide) (by decide) (by decide)) hSd
            have hSd_1905 : Sds h1905 E L (nI1 (M 6)) (N 9) := Sds.kept (O := (· = L 0)) (hu_f eh1905 Fr.rf ha3_1904 rfl) (hLay.1 27 0 (by decide) (by decide) (by decide)) hSd_1904
            have hSd_1906 : Sds h1906 E L (nI1 (M 6)) (N 9) := Sds.kept (O := (· = L 0)) (hu_f eh1906 Fr.rf ho0_1905 rfl) (hLay.1 27 0 (by decide) (by decide) (by decide)) hSd_1905
            have hDg_1904 : Dgo h1904 E L rs := Dgo.kept (O := (· = L 0)) (hu_f eh1904 Fr.rf ho0 rfl) (hLay.1 62 0 (by decide) (by decide) (by decide)) hDg
            have hDg_1905 : Dgo h1905 E L rs := Dgo.kept (O := (· = L 0)) (hu_f eh1905 Fr.rf ha3_1904 rfl) (hLay.1 62 0 (by decide) (by decide) (by decide)) hDg_1904
            have hDg_1906 : Dgo h1906 E L rs := Dgo.kept (O := (· = L 0)) (hu_f eh1906 Fr.rf ho0_1905 rfl) (hLay.1 62 0 (by decide) (by decide) (by decide)) hDg_1905
            have hB_1904 : Bgs E h1904 B V cp := Bgs.kept (O := (· = L 0)) (hu_f eh1904 Fr.rf ho0 rfl) (fun i hi => hLay.2 i 0 hi (by decide)) hB
            have hB_1905 : Bgs E h1905 B V cp := Bgs.kept (O := (· = L 0)) (hu_f eh1905 Fr.rf ha3_1904 rfl) (fun i hi => hLay.2 i 0 hi (by decide)) hB_1904
            have hB_1906 : Bgs E h1906 B V cp := Bgs.kept (O := (· = L 0)) (hu_f eh1906 Fr.rf ho0_1905 rfl) (fun i hi => hLay.2 i 0 hi (by decide)) hB_1905
            exact Z _ _ _ _ _ _ _ _ dX1_batch_86 (Nat.zero_le _) (Nat.zero_le _) ⟨hcd, by rw [Nat.add_sub_cancel], by rw [tv]; exact ⟨pp, gu f 3 (upd (f 3) (N 1) (nI v)), rs, pw, pl, ps, V, ⟨ho0_1906, ha1_1906, ha3_1906, ha12_1906, ha13_1906, ha14_1906, ha15_1906, ha16_1906, ha17_1906, ha39_1906⟩, ⟨r1, fun i hi => by show upd (f 3) (N 1) (nI v) i = nI (nu (M 1) (N 1) v i); have hi2 : i < N 1 + 1 := hi; by_cases z : i = N 1; (rw [z, pk_us, nu_s]); (rw [pk_un z, nu_n z]; exact r3 i (by omega)), r12, r13, r14, fun z => absurd cS z, r16, r17, rp, rp16⟩, Vr_votes hVr cS, hSt_1906, hPr_1906, hCn_1906, hSd_1906, hDg_1906, hB_1906⟩, hF_1906, rfl, rfl⟩ T1906
      · have hcd : cd_batch N (nI v) = 2 := by unfold cd_batch; (repeat' split) <;> omega
        exact Y _ _ _ _ _ _ ((thr_V C T1901 hl.1 ho0 rfl (t_X1_setting hfl i11.1 cS ho0) q513 q515 qs3 q53 q516 kd_X1_setting rfl rfl ⟨Nat.le_of_ble_eq_true rfl, Nat.le_of_ble_eq_true rfl⟩ (Nat.le_of_ble_eq_true rfl) dX1_batch_21 ⟨Nat.le_of_ble_eq_true rfl, Nat.le_of_ble_eq_true rfl⟩).on C T1901 hno ⟨Nat.le_of_ble_eq_true rfl, Nat.le_of_ble_eq_true rfl⟩ (fun h2 dc ds hp => by obtain ⟨rfl, rfl, rfl⟩ := hp; exact ⟨rfl, rfl, rfl, by rw [hcd]; exact ⟨by decide, rfl⟩⟩))

def cd_set (N : Nat → Nat) (x y : Int32) : Nat := if x.toInt ≠ 0 ∧ x.toInt ≠ 1 then 1 else if y.toInt < 1 ∨ (x.toInt = 0 ∧ 7 < y.toInt) ∨ (x.toInt ≠ 0 ∧ 200 < y.toInt) then 2 else if N 11 ≠ 0 then 3 else 0
def setN (N : Nat → Nat) (x y : Int32) : Nat → Nat := if x.toInt = 0 then nu N 3 y.toInt.toNat else nu N 4 y.toInt.toNat

set_option maxHeartbeats 4000000 in
theorem m_X1_set {E : GE} {l : Launch} {h : HH} (hfl : l.flags = flags0) {L B cp N : Nat → Nat} {M : Nat → Nat → Nat} {G : Nat → Nat → Int32} (hLay : Lay L B) (hI : Inv N M G) (hC : Cp E h L B cp N M G) {x y : Int32} : MX E l yX1_set cX1_set 4 (some .int) ({ frames := 8, cells := 1, slots := 6, locals := 1200 } : Room) [.ref (L 0), .int x, .int y] h (fun rv h2 dc ds => cd_set N x y = 0 ∧ rv = some (.int (if x.toInt = 0 then nI (N 3) else nI (N 4))) ∧ Cp E h2 L B cp (setN N x y) M G ∧ Fr (CO L B) h h2 ∧ dc = 0 ∧ ds = 0) (fun C h' dc ds => h' = h ∧ dc = 1 ∧ ds = 6 ∧ TC C (cd_set N x y) [xIOB, xIAE, xISE]) := by
  refine hx_i (by decide) (Nat.le_of_ble_eq_true rfl) ?_
  intro p e s m below meth c C hno Q Z Y ls T hl
  have hx := C.x
  have hb := C.b
  have hl : lv_has ls 4 [(0, .ref (L 0)), (1, .int x), (2, .int y)] := hl
  obtain ⟨i0, i1, i2, i3, i4, i5, i7, i9, i10, i11, i15, iv, isz, isum, ital, itm, idg, icn, irec, isn, iout, ict, iwt, iwt2, iz, inz, iup, ish⟩ := hI
  obtain ⟨pp, f, rs, pw, pl, ps, V, ⟨ho0, ha1, ha3, ha12, ha13, ha14, ha15, ha16, ha17, ha39⟩, ⟨r1, r3, r12, r13, r14, r15, r16, r17, rp, rp16⟩, hVr, hSt, hPr, hCn, hSd, hDg, hB⟩ := hC
  have hF : Fr (CO L B) h h := Fr.rf
  refine lv_iload_n hx hb dX1_set_0 rfl (lv_at hl 1 rfl) ?_
  refine zi_if_eq (tgt := 9) (X := (x).toInt) hx hb dX1_set_1 (by decide) rfl (fun c1 => ?_) (fun c1 => ?_)
  · refine lv_iconst (v := nI 1) hx hb dX1_set_9 rfl ?_
    refine lv_goto (tgt := 14) hx hb dX1_set_10 (by decide) ?_
    refine hp_S C T hl.1 (p_X1_inside) q593 q594 q53 q595 kd_X1_inside rfl rfl ⟨Nat.le_of_ble_eq_true rfl, Nat.le_of_ble_eq_true rfl⟩ (Nat.le_of_ble_eq_true rfl) dX1_set_14 ⟨Nat.le_of_ble_eq_true rfl, Nat.le_of_ble_eq_true rfl⟩ (fun rv H1907 hp1907 T1907 => ?_)
    obtain rfl := hp1907
    refine W.eq (g2 := F0 m 17 ls []) rfl ?_
    refine lv_iload_n hx hb dX1_set_17 rfl (lv_at hl 2 rfl) ?_
    refine lv_iconst (v := nI 1) hx hb dX1_set_18 rfl ?_
    refine zi_icmp_lt (tgt := 42) (X := (y).toInt) (Y := ((1 : Nat) : Int)) hx hb dX1_set_19 (by decide) rfl (nI_toInt (by omega)) (fun c19 => ?_) (fun c19 => ?_)
    · refine lv_iconst (v := nI 0) hx hb dX1_set_42 rfl ?_
      have hcd : cd_set N x y = 2 := by unfold cd_set; (repeat' split) <;> omega
      exact Y _ _ _ _ _ _ ((thr_S C T1907 hl.1 (t_X1_need hfl) q441 q442 q53 q443 kd_X1_need rfl rfl ⟨Nat.le_of_ble_eq_true rfl, Nat.le_of_ble_eq_true rfl⟩ (Nat.le_of_ble_eq_true rfl) dX1_set_43 ⟨Nat.le_of_ble_eq_true rfl, Nat.le_of_ble_eq_true rfl⟩).on C T1907 hno ⟨Nat.le_of_ble_eq_true rfl, Nat.le_of_ble_eq_true rfl⟩ (fun h2 dc ds hp => by obtain ⟨rfl, rfl, rfl⟩ := hp; exact ⟨rfl, rfl, rfl, by rw [hcd]; exact ⟨by decide, rfl⟩⟩))
    · refine lv_iload_n hx hb dX1_set_22 rfl (lv_at hl 2 rfl) ?_
      refine lv_iload_n hx hb dX1_set_23 rfl (lv_at hl 1 rfl) ?_
      refine zi_if_ne (tgt := 32) (X := (x).toInt) hx hb dX1_set_24 (by decide) rfl (fun c24 => ?_) (fun c24 => ?_)
      · refine lv_sipush (v := nI 200) hx hb dX1_set_32 rfl ?_
        refine zi_icmp_gt (tgt := 42) (X := (y).toInt) (Y := ((200 : Nat) : Int)) hx hb dX1_set_35 (by decide) rfl (nI_toInt (by omega)) (fun c35 => ?_) (fun c35 => ?_)
        · refine lv_iconst (v := nI 0) hx hb dX1_set_42 rfl ?_
          have hcd : cd_set N x y = 2 := by unfold cd_set; (repeat' split) <;> omega
          exact Y _ _ _ _ _ _ ((thr_S C T1907 hl.1 (t_X1_need hfl) q441 q442 q53 q443 kd_X1_need rfl rfl ⟨Nat.le_of_ble_eq_true rfl, Nat.le_of_ble_eq_true rfl⟩ (Nat.le_of_ble_eq_true rfl) dX1_set_43 ⟨Nat.le_of_ble_eq_true rfl, Nat.le_of_ble_eq_true rfl⟩).on C T1907 hno ⟨Nat.le_of_ble_eq_true rfl, Nat.le_of_ble_eq_true rfl⟩ (fun h2 dc ds hp => by obtain ⟨rfl, rfl, rfl⟩ := hp; exact ⟨rfl, rfl, rfl, by rw [hcd]; exact ⟨by decide, rfl⟩⟩))
        · refine lv_iconst (v := nI 1) hx hb dX1_set_38 rfl ?_
          refine lv_goto (tgt := 43) hx hb dX1_set_39 (by decide) ?_
          refine hp_S C T1907 hl.1 (p_X1_need) q441 q442 q53 q443 kd_X1_need rfl rfl ⟨Nat.le_of_ble_eq_true rfl, Nat.le_of_ble_eq_true rfl⟩ (Nat.le_of_ble_eq_true rfl) dX1_set_43 ⟨Nat.le_of_ble_eq_true rfl, Nat.le_of_ble_eq_true rfl⟩ (fun rv H1908 hp1908 T1908 => ?_)
          obtain rfl := hp1908
          refine W.eq (g2 := F0 m 46 ls []) rfl ?_
          obtain ⟨v, hv, rfl⟩ := nat_of (x := y) (by omega)
          have ev := nI_toInt hv
          have tv : (nI v).toInt.toNat = v := by rw [ev]; rfl
          refine lv_aload_n hx hb dX1_set_46 rfl (lv_at hl 0 rfl) ?_
          by_cases cS : N 11 = 0
          · refine hp_V C T1908 hl.1 ho0 rfl (p_X1_setting i11.1 cS ho0) q513 q515 qs3 q53 q516 kd_X1_setting rfl rfl ⟨Nat.le_of_ble_eq_true rfl, Nat.le_of_ble_eq_true rfl⟩ (Nat.le_of_ble_eq_true rfl) dX1_set_47 ⟨Nat.le_of_ble_eq_true rfl, Nat.le_of_ble_eq_true rfl⟩ (fun rv H1909 hp1909 T1909 => ?_)
            obtain rfl := hp1909
            refine W.eq (g2 := F0 m 50 ls []) rfl ?_
            refine lv_iload_n hx hb dX1_set_50 rfl (lv_at hl 1 rfl) ?_
            refine zi_if_ne (tgt := 61) (X := (x).toInt) hx hb dX1_set_51 (by decide) rfl (fun c51 => ?_) (fun c51 => ?_)
            · refine lv_aload_n hx hb dX1_set_61 rfl (lv_at hl 0 rfl) ?_
              refine hr_get C T1909 ho0 rfl in_X1 6 (by decide) q297 rfl rfl dX1_set_62 ?_
              refine lv_istore_n (lv' := [(3, .int (nI (N 4))), (0, .ref (L 0)), (1, .int x), (2, .int (nI v))]) hx hb dX1_set_65 rfl hl (by decide) rfl (fun ls1910 hl1910 => ?_)
              refine lv_iload_n hx hb dX1_set_66 rfl (lv_at hl1910 2 rfl) ?_
              refine zi_if_ne (tgt := 78) (X := (x).toInt) hx hb dX1_set_67 (by decide) rfl (fun c67 => ?_) (fun c67 => absurd c67 c51)
              refine lv_aload_n hx hb dX1_set_78 rfl (lv_at hl1910 1 rfl) ?_
              refine lv_iload_n hx hb dX1_set_79 rfl (lv_at hl1910 3 rfl) ?_
              refine hr_put C T1909 ho0 rfl in_X1 tyX1 tyX1_ok nmX1 6 (by decide) q297 rfl rfl rfl rfl (Nat.le_of_ble_eq_true rfl) dX1_set_80 (fun h1911 H1911 locs1911 eh1911 T1911 => ?_)
              have ho0_1911 : h1911 (L 0) = some (.inr (0, [.ref (L 1), .int (nI (N 0)), .ref (L 3), .int (nI (N 1)), .int (nI (N 2)), .int (nI (N 3)), .int (nI v), .int (nI (N 5)), .int (nI (N 6)), .int (nI (N 7)), .int (nI (N 8)), .ref (L 12), .ref (L 13), .ref (L 14), .ref (L 15), .ref (L 16), .ref (L 17), .int (nI (N 11)), .int (nI (N 15)), .int (nI (N 16)), .int (nI (N 17)), .int (nI (N 18) - 1), .int (nI (N 19)), .ref (L 24), .int (nI pp), .ref (L 26), .ref (L 27), .ref (if N 13 = 1 then L 27 else L 26), .ref (L 29), .ref (L 30), .ref (if N 12 = 1 then L 30 else L 29), .ref (L 32), .ref (B 0), .ref (B 1), .ref (B 2), .ref (B 3), .ref (L 37), .ref (L 38), .ref (L 39), .ref (B 4), .ref (B 5)]), L 0) := hu_s eh1911
              have hF_1911 : Fr (CO L B) h h1911 := hu_f eh1911 hF ho0 (Or.inl rfl)
              refine lv_iload_n hx hb dX1_set_83 rfl (lv_at hl1910 0 rfl) ?_
              have hcd : cd_set N x (nI v) = 0 := by unfold cd_set; (repeat' split) <;> omega
              have ha1_1911 : h1911 (L 1) = some (.inl (E.2.1 0, 8, .inl (f 1)), L 0) := hu_n eh1911 (hLay.1 1 0 (by decide) (by decide) (by decide)) ha1
              have ha3_1911 : h1911 (L 3) = some (.inl (E.2.1 0, 64, .inl (f 3)), L 0) := hu_n eh1911 (hLay.1 3 0 (by decide) (by decide) (by decide)) ha3
              have ha12_1911 : h1911 (L 12) = some (.inl (E.2.1 1, 20000, .inl (f 12)), L 0) := hu_n eh1911 (hLay.1 12 0 (by decide) (by decide) (by decide)) ha12
              have ha13_1911 : h1911 (L 13) = some (.inl (E.2.1 1, 20000, .inl (f 13)), L 0) := hu_n eh1911 (hLay.1 13 0 (by decide) (by decide) (by decide)) ha13
              have ha14_1911 : h1911 (L 14) = some (.inl (E.2.1 2, 20000, .inl (f 14)), L 0) := hu_n eh1911 (hLay.1 14 0 (by decide) (by decide) (by decide)) ha14
              have ha15_1911 : h1911 (L 15) = some (.inl (E.2.1 3, 8, .inl (f 15)), L 0) := hu_n eh1911 (hLay.1 15 0 (by decide) (by decide) (by decide)) ha15
              have ha16_1911 : h1911 (L 16) = some (.inl (E.2.1 0, 8, .inl (f 16)), L 0) := hu_n eh1911 (hLay.1 16 0 (by decide) (by decide) (by decide)) ha16
              have ha17_1911 : h1911 (L 17) = some (.inl (E.2.1 0, 8, .inl (f 17)), L 0) := hu_n eh1911 (hLay.1 17 0 (by decide) (by decide) (by decide)) ha17
              have ha39_1911 : h1911 (L 39) = some (.inl (E.2.1 3, 961, .inl (f 39)), L 0) := hu_n eh1911 (hLay.1 39 0 (by decide) (by decide) (by decide)) ha39
              have hSt_1911 : Stt E L B h1911 := Stt.kept (O := (· = L 0)) (hu_f eh1911 Fr.rf ho0 rfl) (hLay.1 30 0 (by decide) (by decide) (by decide)) hSt
              have hPr_1911 : Prs L B pw pl ps h1911 := Prs.kept (O := (· = L 0)) (hu_f eh1911 Fr.rf ho0 rfl) (hLay.1 24 0 (by decide) (by decide) (by decide)) hPr
              have hCn_1911 : Cns h1911 E L (nI1 (M 8)) (N 10) := Cns.kept (O := (· = L 0)) (hu_f eh1911 Fr.rf ho0 rfl) (hLay.1 26 0 (by decide) (by decide) (by decide)) hCn
              have hSd_1911 : Sds h1911 E L (nI1 (M 6)) (N 9) := Sds.kept (O := (· = L 0)) (hu_f eh1911 Fr.rf ho0 rfl) (hLay.1 27 0 (by decide) (by decide) (by decide)) hSd
              have hDg_1911 : Dgo h1911 E L rs := Dgo.kept (O := (· = L 0)) (hu_f eh1911 Fr.rf ho0 rfl) (hLay.1 62 0 (by decide) (by decide) (by decide)) hDg
              have hB_1911 : Bgs E h1911 B V cp := Bgs.kept (O := (· = L 0)) (hu_f eh1911 Fr.rf ho0 rfl) (fun i hi => hLay.2 i 0 hi (by decide)) hB
              exact Z _ _ _ _ _ _ _ _ dX1_set_84 (Nat.zero_le _) (Nat.zero_le _) ⟨hcd, by rw [if_neg c51], by unfold setN; rw [if_neg c51, tv]; exact ⟨pp, f, rs, pw, pl, ps, V, ⟨ho0_1911, ha1_1911, ha3_1911, ha12_1911, ha13_1911, ha14_1911, ha15_1911, ha16_1911, ha17_1911, ha39_1911⟩, ⟨r1, r3, r12, r13, r14, fun z => absurd cS z, r16, r17, rp, rp16⟩, Vr_votes hVr cS, hSt_1911, hPr_1911, hCn_1911, hSd_1911, hDg_1911, hB_1911⟩, hF_1911, rfl, rfl⟩ T1911
            · refine lv_aload_n hx hb dX1_set_54 rfl (lv_at hl 0 rfl) ?_
              refine hr_get C T1909 ho0 rfl in_X1 5 (by decide) q296 rfl rfl dX1_set_55 ?_
              refine lv_goto (tgt := 65) hx hb dX1_set_58 (by decide) ?_
              refine lv_istore_n (lv' := [(3, .int (nI (N 3))), (0, .ref (L 0)), (1, .int x), (2, .int (nI v))]) hx hb dX1_set_65 rfl hl (by decide) rfl (fun ls1912 hl1912 => ?_)
              refine lv_iload_n hx hb dX1_set_66 rfl (lv_at hl1912 2 rfl) ?_
              refine zi_if_ne (tgt := 78) (X := (x).toInt) hx hb dX1_set_67 (by decide) rfl (fun c67 => absurd c51 c67) (fun c67 => ?_)
              refine lv_aload_n hx hb dX1_set_70 rfl (lv_at hl1912 1 rfl) ?_
              refine lv_iload_n hx hb dX1_set_71 rfl (lv_at hl1912 3 rfl) ?_
              refine hr_put C T1909 ho0 rfl in_X1 tyX1 tyX1_ok nmX1 5 (by decide) q296 rfl rfl rfl rfl (Nat.le_of_ble_eq_true rfl) dX1_set_72 (fun h1913 H1913 locs1913 eh1913 T1913 => ?_)
              have ho0_1913 : h1913 (L 0) = some (.inr (0, [.ref (L 1), .int (nI (N 0)), .ref (L 3), .int (nI (N 1)), .int (nI (N 2)), .int (nI v), .int (nI (N 4)), .int (nI (N 5)), .int (nI (N 6)), .int (nI (N 7)), .int (nI (N 8)), .ref (L 12), .ref (L 13), .ref (L 14), .ref (L 15), .ref (L 16), .ref (L 17), .int (nI (N 11)), .int (nI (N 15)), .int (nI (N 16)), .int (nI (N 17)), .int (nI (N 18) - 1), .int (nI (N 19)), .ref (L 24), .int (nI pp), .ref (L 26), .ref (L 27), .ref (if N 13 = 1 then L 27 else L 26), .ref (L 29), .ref (L 30), .ref (if N 12 = 1 then L 30 else L 29), .ref (L 32), .ref (B 0), .ref (B 1), .ref (B 2), .ref (B 3), .ref (L 37), .ref (L 38), .ref (L 39), .ref (B 4), .ref (B 5)]), L 0) := hu_s eh1913
              have hF_1913 : Fr (CO L B) h h1913 := hu_f eh1913 hF ho0 (Or.inl rfl)
              refine lv_goto (tgt := 83) hx hb dX1_set_75 (by decide) ?_
              refine lv_iload_n hx hb dX1_set_83 rfl (lv_at hl1912 0 rfl) ?_
              have hcd : cd_set N x (nI v) = 0 := by unfold cd_set; (repeat' split) <;> omega
              have ha1_1913 : h1913 (L 1) = some (.inl (E.2.1 0, 8, .inl (f 1)), L 0) := hu_n eh1913 (hLay.1 1 0 (by decide) (by decide) (by decide)) ha1
              have ha3_1913 : h1913 (L 3) = some (.inl (E.2.1 0, 64, .inl (f 3)), L 0) := hu_n eh1913 (hLay.1 3 0 (by decide) (by decide) (by decide)) ha3
              have ha12_1913 : h1913 (L 12) = some (.inl (E.2.1 1, 20000, .inl (f 12)), L 0) := hu_n eh1913 (hLay.1 12 0 (by decide) (by decide) (by decide)) ha12
              have ha13_1913 : h1913 (L 13) = some (.inl (E.2.1 1, 20000, .inl (f 13)), L 0) := hu_n eh1913 (hLay.1 13 0 (by decide) (by decide) (by decide)) ha13
              have ha14_1913 : h1913 (L 14) = some (.inl (E.2.1 2, 20000, .inl (f 14)), L 0) := hu_n eh1913 (hLay.1 14 0 (by decide) (by decide) (by decide)) ha14
              have ha15_1913 : h1913 (L 15) = some (.inl (E.2.1 3, 8, .inl (f 15)), L 0) := hu_n eh1913 (hLay.1 15 0 (by decide) (by decide) (by decide)) ha15
              have ha16_1913 : h1913 (L 16) = some (.inl (E.2.1 0, 8, .inl (f 16)), L 0) := hu_n eh1913 (hLay.1 16 0 (by decide) (by decide) (by decide)) ha16
              have ha17_1913 : h1913 (L 17) = some (.inl (E.2.1 0, 8, .inl (f 17)), L 0) := hu_n eh1913 (hLay.1 17 0 (by decide) (by decide) (by decide)) ha17
              have ha39_1913 : h1913 (L 39) = some (.inl (E.2.1 3, 961, .inl (f 39)), L 0) := hu_n eh1913 (hLay.1 39 0 (by decide) (by decide) (by decide)) ha39
              have hSt_1913 : Stt E L B h1913 := Stt.kept (O := (· = L 0)) (hu_f eh1913 Fr.rf ho0 rfl) (hLay.1 30 0 (by decide) (by decide) (by decide)) hSt
              have hPr_1913 : Prs L B pw pl ps h1913 := Prs.kept (O := (· = L 0)) (hu_f eh1913 Fr.rf ho0 rfl) (hLay.1 24 0 (by decide) (by decide) (by decide)) hPr
              have hCn_1913 : Cns h1913 E L (nI1 (M 8)) (N 10) := Cns.kept (O := (· = L 0)) (hu_f eh1913 Fr.rf ho0 rfl) (hLay.1 26 0 (by decide) (by decide) (by decide)) hCn
              have hSd_1913 : Sds h1913 E L (nI1 (M 6)) (N 9) := Sds.kept (O := (· = L 0)) (hu_f eh1913 Fr.rf ho0 rfl) (hLay.1 27 0 (by decide) (by decide) (by decide)) hSd
              have hDg_1913 : Dgo h1913 E L rs := Dgo.kept (O := (· = L 0)) (hu_f eh1913 Fr.rf ho0 rfl) (hLay.1 62 0 (by decide) (by decide) (by decide)) hDg
              have hB_1913 : Bgs E h1913 B V cp := Bgs.kept (O := (· = L 0)) (hu_f eh1913 Fr.rf ho0 rfl) (fun i hi => hLay.2 i 0 hi (by decide)) hB
              exact Z _ _ _ _ _ _ _ _ dX1_set_84 (Nat.zero_le _) (Nat.zero_le _) ⟨hcd, by rw [if_pos c51], by unfold setN; rw [if_pos c51, tv]; exact ⟨pp, f, rs, pw, pl, ps, V, ⟨ho0_1913, ha1_1913, ha3_1913, ha12_1913, ha13_1913, ha14_1913, ha15_1913, ha16_1913, ha17_1913, ha39_1913⟩, ⟨r1, r3, r12, r13, r14, fun z => absurd cS z, r16, r17, rp, rp16⟩, Vr_votes hVr cS, hSt_1913, hPr_1913, hCn_1913, hSd_1913, hDg_1913, hB_1913⟩, hF_1913, rfl, rfl⟩ T1913
          · have hcd : cd_set N x (nI v) = 3 := by unfold cd_set; (repeat' split) <;> omega
            exact Y _ _ _ _ _ _ ((thr_V C T1908 hl.1 ho0 rfl (t_X1_setting hfl i11.1 cS ho0) q513 q515 qs3 q53 q516 kd_X1_setting rfl rfl ⟨Nat.le_of_ble_eq_true rfl, Nat.le_of_ble_eq_true rfl⟩ (Nat.le_of_ble_eq_true rfl) dX1_set_47 ⟨Nat.le_of_ble_eq_true rfl, Nat.le_of_ble_eq_true rfl⟩).on C T1908 hno ⟨Nat.le_of_ble_eq_true rfl, Nat.le_of_ble_eq_true rfl⟩ (fun h2 dc ds hp => by obtain ⟨rfl, rfl, rfl⟩ := hp; exact ⟨rfl, rfl, rfl, by rw [hcd]; exact ⟨by decide, rfl⟩⟩))
      · refine lv_bipush (v := nI 7) hx hb dX1_set_27 rfl ?_
        refine lv_goto (tgt := 35) hx hb dX1_set_29 (by decide) ?_
        refine zi_icmp_gt (tgt := 42) (X := (y).toInt) (Y := ((7 : Nat) : Int)) hx hb dX1_set_35 (by decide) rfl (nI_toInt (by omega)) (fun c35 => ?_) (fun c35 => ?_)
        · refine lv_iconst (v := nI 0) hx hb dX1_set_42 rfl ?_
          have hcd : cd_set N x y = 2 := by unfold cd_set; (repeat' split) <;> omega
          exact Y _ _ _ _ _ _ ((thr_S C T1907 hl.1 (t_X1_need hfl) q441 q442 q53 q443 kd_X1_need rfl rfl ⟨Nat.le_of_ble_eq_true rfl, Nat.le_of_ble_eq_true rfl⟩ (Nat.le_of_ble_eq_true rfl) dX1_set_43 ⟨Nat.le_of_ble_eq_true rfl, Nat.le_of_ble_eq_true rfl⟩).on C T1907 hno ⟨Nat.le_of_ble_eq_true rfl, Nat.le_of_ble_eq_true rfl⟩ (fun h2 dc ds hp => by obtain ⟨rfl, rfl, rfl⟩ := hp; exact ⟨rfl, rfl, rfl, by rw [hcd]; exact ⟨by decide, rfl⟩⟩))
        · refine lv_iconst (v := nI 1) hx hb dX1_set_38 rfl ?_
          refine lv_goto (tgt := 43) hx hb dX1_set_39 (by decide) ?_
          refine hp_S C T1907 hl.1 (p_X1_need) q441 q442 q53 q443 kd_X1_need rfl rfl ⟨Nat.le_of_ble_eq_true rfl, Nat.le_of_ble_eq_true rfl⟩ (Nat.le_of_ble_eq_true rfl) dX1_set_43 ⟨Nat.le_of_ble_eq_true rfl, Nat.le_of_ble_eq_true rfl⟩ (fun rv H1914 hp1914 T1914 => ?_)
          obtain rfl := hp1914
          refine W.eq (g2 := F0 m 46 ls []) rfl ?_
          obtain ⟨v, hv, rfl⟩ := nat_of (x := y) (by omega)
          have ev := nI_toInt hv
          have tv : (nI v).toInt.toNat = v := by rw [ev]; rfl
          refine lv_aload_n hx hb dX1_set_46 rfl (lv_at hl 0 rfl) ?_
          by_cases cS : N 11 = 0
          · refine hp_V C T1914 hl.1 ho0 rfl (p_X1_setting i11.1 cS ho0) q513 q515 qs3 q53 q516 kd_X1_setting rfl rfl ⟨Nat.le_of_ble_eq_true rfl, Nat.le_of_ble_eq_true rfl⟩ (Nat.le_of_ble_eq_true rfl) dX1_set_47 ⟨Nat.le_of_ble_eq_true rfl, Nat.le_of_ble_eq_true rfl⟩ (fun rv H1915 hp1915 T1915 => ?_)
            obtain rfl := hp1915
            refine W.eq (g2 := F0 m 50 ls []) rfl ?_
            refine lv_iload_n hx hb dX1_set_50 rfl (lv_at hl 1 rfl) ?_
            refine zi_if_ne (tgt := 61) (X := (x).toInt) hx hb dX1_set_51 (by decide) rfl (fun c51 => ?_) (fun c51 => ?_)
            · refine lv_aload_n hx hb dX1_set_61 rfl (lv_at hl 0 rfl) ?_
              refine hr_get C T1915 ho0 rfl in_X1 6 (by decide) q297 rfl rfl dX1_set_62 ?_
              refine lv_istore_n (lv' := [(3, .int (nI (N 4))), (0, .ref (L 0)), (1, .int x), (2, .int (nI v))]) hx hb dX1_set_65 rfl hl (by decide) rfl (fun ls1916 hl1916 => ?_)
              refine lv_iload_n hx hb dX1_set_66 rfl (lv_at hl1916 2 rfl) ?_
              refine zi_if_ne (tgt := 78) (X := (x).toInt) hx hb dX1_set_67 (by decide) rfl (fun c67 => ?_) (fun c67 => absurd c67 c51)
              refine lv_aload_n hx hb dX1_set_78 rfl (lv_at hl1916 1 rfl) ?_
              refine lv_iload_n hx hb dX1_set_79 rfl (lv_at hl1916 3 rfl) ?_
              refine hr_put C T1915 ho0 rfl in_X1 tyX1 tyX1_ok nmX1 6 (by decide) q297 rfl rfl rfl rfl (Nat.le_of_ble_eq_true rfl) dX1_set_80 (fun h1917 H1917 locs1917 eh1917 T1917 => ?_)
              have ho0_1917 : h1917 (L 0) = some (.inr (0, [.ref (L 1), .int (nI (N 0)), .ref (L 3), .int (nI (N 1)), .int (nI (N 2)), .int (nI (N 3)), .int (nI v), .int (nI (N 5)), .int (nI (N 6)), .int (nI (N 7)), .int (nI (N 8)), .ref (L 12), .ref (L 13), .ref (L 14), .ref (L 15), .ref (L 16), .ref (L 17), .int (nI (N 11)), .int (nI (N 15)), .int (nI (N 16)), .int (nI (N 17)), .int (nI (N 18) - 1), .int (nI (N 19)), .ref (L 24), .int (nI pp), .ref (L 26), .ref (L 27), .ref (if N 13 = 1 then L 27 else L 26), .ref (L 29), .ref (L 30), .ref (if N 12 = 1 then L 30 else L 29), .ref (L 32), .ref (B 0), .ref (B 1), .ref (B 2), .ref (B 3), .ref (L 37), .ref (L 38), .ref (L 39), .ref (B 4), .ref (B 5)]), L 0) := hu_s eh1917
              have hF_1917 : Fr (CO L B) h h1917 := hu_f eh1917 hF ho0 (Or.inl rfl)
              refine lv_iload_n hx hb dX1_set_83 rfl (lv_at hl1916 0 rfl) ?_
              have hcd : cd_set N x (nI v) = 0 := by unfold cd_set; (repeat' split) <;> omega
              have ha1_1917 : h1917 (L 1) = some (.inl (E.2.1 0, 8, .inl (f 1)), L 0) := hu_n eh1917 (hLay.1 1 0 (by decide) (by decide) (by decide)) ha1
              have ha3_1917 : h1917 (L 3) = some (.inl (E.2.1 0, 64, .inl (f 3)), L 0) := hu_n eh1917 (hLay.1 3 0 (by decide) (by decide) (by decide)) ha3
              have ha12_1917 : h1917 (L 12) = some (.inl (E.2.1 1, 20000, .inl (f 12)), L 0) := hu_n eh1917 (hLay.1 12 0 (by decide) (by decide) (by decide)) ha12
              have ha13_1917 : h1917 (L 13) = some (.inl (E.2.1 1, 20000, .inl (f 13)), L 0) := hu_n eh1917 (hLay.1 13 0 (by decide) (by decide) (by decide)) ha13
              have ha14_1917 : h1917 (L 14) = some (.inl (E.2.1 2, 20000, .inl (f 14)), L 0) := hu_n eh1917 (hLay.1 14 0 (by decide) (by decide) (by decide)) ha14
              have ha15_1917 : h1917 (L 15) = some (.inl (E.2.1 3, 8, .inl (f 15)), L 0) := hu_n eh1917 (hLay.1 15 0 (by decide) (by decide) (by decide)) ha15
              have ha16_1917 : h1917 (L 16) = some (.inl (E.2.1 0, 8, .inl (f 16)), L 0) := hu_n eh1917 (hLay.1 16 0 (by decide) (by decide) (by decide)) ha16
              have ha17_1917 : h1917 (L 17) = some (.inl (E.2.1 0, 8, .inl (f 17)), L 0) := hu_n eh1917 (hLay.1 17 0 (by decide) (by decide) (by decide)) ha17
              have ha39_1917 : h1917 (L 39) = some (.inl (E.2.1 3, 961, .inl (f 39)), L 0) := hu_n eh1917 (hLay.1 39 0 (by decide) (by decide) (by decide)) ha39
              have hSt_1917 : Stt E L B h1917 := Stt.kept (O := (· = L 0)) (hu_f eh1917 Fr.rf ho0 rfl) (hLay.1 30 0 (by decide) (by decide) (by decide)) hSt
              have hPr_1917 : Prs L B pw pl ps h1917 := Prs.kept (O := (· = L 0)) (hu_f eh1917 Fr.rf ho0 rfl) (hLay.1 24 0 (by decide) (by decide) (by decide)) hPr
              have hCn_1917 : Cns h1917 E L (nI1 (M 8)) (N 10) := Cns.kept (O := (· = L 0)) (hu_f eh1917 Fr.rf ho0 rfl) (hLay.1 26 0 (by decide) (by decide) (by decide)) hCn
              have hSd_1917 : Sds h1917 E L (nI1 (M 6)) (N 9) := Sds.kept (O := (· = L 0)) (hu_f eh1917 Fr.rf ho0 rfl) (hLay.1 27 0 (by decide) (by decide) (by decide)) hSd
              have hDg_1917 : Dgo h1917 E L rs := Dgo.kept (O := (· = L 0)) (hu_f eh1917 Fr.rf ho0 rfl) (hLay.1 62 0 (by decide) (by decide) (by decide)) hDg
              have hB_1917 : Bgs E h1917 B V cp := Bgs.kept (O := (· = L 0)) (hu_f eh1917 Fr.rf ho0 rfl) (fun i hi => hLay.2 i 0 hi (by decide)) hB
              exact Z _ _ _ _ _ _ _ _ dX1_set_84 (Nat.zero_le _) (Nat.zero_le _) ⟨hcd, by rw [if_neg c51], by unfold setN; rw [if_neg c51, tv]; exact ⟨pp, f, rs, pw, pl, ps, V, ⟨ho0_1917, ha1_1917, ha3_1917, ha12_1917, ha13_1917, ha14_1917, ha15_1917, ha16_1917, ha17_1917, ha39_1917⟩, ⟨r1, r3, r12, r13, r14, fun z => absurd cS z, r16, r17, rp, rp16⟩, Vr_votes hVr cS, hSt_1917, hPr_1917, hCn_1917, hSd_1917, hDg_1917, hB_1917⟩, hF_1917, rfl, rfl⟩ T1917
            · refine lv_aload_n hx hb dX1_set_54 rfl (lv_at hl 0 rfl) ?_
              refine hr_get C T1915 ho0 rfl in_X1 5 (by decide) q296 rfl rfl dX1_set_55 ?_
              refine lv_goto (tgt := 65) hx hb dX1_set_58 (by decide) ?_
              refine lv_istore_n (lv' := [(3, .int (nI (N 3))), (0, .ref (L 0)), (1, .int x), (2, .int (nI v))]) hx hb dX1_set_65 rfl hl (by decide) rfl (fun ls1918 hl1918 => ?_)
              refine lv_iload_n hx hb dX1_set_66 rfl (lv_at hl1918 2 rfl) ?_
              refine zi_if_ne (tgt := 78) (X := (x).toInt) hx hb dX1_set_67 (by decide) rfl (fun c67 => absurd c51 c67) (fun c67 => ?_)
              refine lv_aload_n hx hb dX1_set_70 rfl (lv_at hl1918 1 rfl) ?_
              refine lv_iload_n hx hb dX1_set_71 rfl (lv_at hl1918 3 rfl) ?_
              refine hr_put C T1915 ho0 rfl in_X1 tyX1 tyX1_ok nmX1 5 (by decide) q296 rfl rfl rfl rfl (Nat.le_of_ble_eq_true rfl) dX1_set_72 (fun h1919 H1919 locs1919 eh1919 T1919 => ?_)
              have ho0_1919 : h1919 (L 0) = some (.inr (0, [.ref (L 1), .int (nI (N 0)), .ref (L 3), .int (nI (N 1)), .int (nI (N 2)), .int (nI v), .int (nI (N 4)), .int (nI (N 5)), .int (nI (N 6)), .int (nI (N 7)), .int (nI (N 8)), .ref (L 12), .ref (L 13), .ref (L 14), .ref (L 15), .ref (L 16), .ref (L 17), .int (nI (N 11)), .int (nI (N 15)), .int (nI (N 16)), .int (nI (N 17)), .int (nI (N 18) - 1), .int (nI (N 19)), .ref (L 24), .int (nI pp), .ref (L 26), .ref (L 27), .ref (if N 13 = 1 then L 27 else L 26), .ref (L 29), .ref (L 30), .ref (if N 12 = 1 then L 30 else L 29), .ref (L 32), .ref (B 0), .ref (B 1), .ref (B 2), .ref (B 3), .ref (L 37), .ref (L 38), .ref (L 39), .ref (B 4), .ref (B 5)]), L 0) := hu_s eh1919
              have hF_1919 : Fr (CO L B) h h1919 := hu_f eh1919 hF ho0 (Or.inl rfl)
              refine lv_goto (tgt := 83) hx hb dX1_set_75 (by decide) ?_
              refine lv_iload_n hx hb dX1_set_83 rfl (lv_at hl1918 0 rfl) ?_
              have hcd : cd_set N x (nI v) = 0 := by unfold cd_set; (repeat' split) <;> omega
              have ha1_1919 : h1919 (L 1) = some (.inl (E.2.1 0, 8, .inl (f 1)), L 0) := hu_n eh1919 (hLay.1 1 0 (by decide) (by decide) (by decide)) ha1
              have ha3_1919 : h1919 (L 3) = some (.inl (E.2.1 0, 64, .inl (f 3)), L 0) := hu_n eh1919 (hLay.1 3 0 (by decide) (by decide) (by decide)) ha3
              have ha12_1919 : h1919 (L 12) = some (.inl (E.2.1 1, 20000, .inl (f 12)), L 0) := hu_n eh1919 (hLay.1 12 0 (by decide) (by decide) (by decide)) ha12
              have ha13_1919 : h1919 (L 13) = some (.inl (E.2.1 1, 20000, .inl (f 13)), L 0) := hu_n eh1919 (hLay.1 13 0 (by decide) (by decide) (by decide)) ha13
              have ha14_1919 : h1919 (L 14) = some (.inl (E.2.1 2, 20000, .inl (f 14)), L 0) := hu_n eh1919 (hLay.1 14 0 (by decide) (by decide) (by decide)) ha14
              have ha15_1919 : h1919 (L 15) = some (.inl (E.2.1 3, 8, .inl (f 15)), L 0) := hu_n eh1919 (hLay.1 15 0 (by decide) (by decide) (by decide)) ha15
              have ha16_1919 : h1919 (L 16) = some (.inl (E.2.1 0, 8, .inl (f 16)), L 0) := hu_n eh1919 (hLay.1 16 0 (by decide) (by decide) (by decide)) ha16
              have ha17_1919 : h1919 (L 17) = some (.inl (E.2.1 0, 8, .inl (f 17)), L 0) := hu_n eh1919 (hLay.1 17 0 (by decide) (by decide) (by decide)) ha17
              have ha39_1919 : h1919 (L 39) = some (.inl (E.2.1 3, 961, .inl (f 39)), L 0) := hu_n eh1919 (hLay.1 39 0 (by decide) (by decide) (by decide)) ha39
              have hSt_1919 : Stt E L B h1919 := Stt.kept (O := (· = L 0)) (hu_f eh1919 Fr.rf ho0 rfl) (hLay.1 30 0 (by decide) (by decide) (by decide)) hSt
              have hPr_1919 : Prs L B pw pl ps h1919 := Prs.kept (O := (· = L 0)) (hu_f eh1919 Fr.rf ho0 rfl) (hLay.1 24 0 (by decide) (by decide) (by decide)) hPr
              have hCn_1919 : Cns h1919 E L (nI1 (M 8)) (N 10) := Cns.kept (O := (· = L 0)) (hu_f eh1919 Fr.rf ho0 rfl) (hLay.1 26 0 (by decide) (by decide) (by decide)) hCn
              have hSd_1919 : Sds h1919 E L (nI1 (M 6)) (N 9) := Sds.kept (O := (· = L 0)) (hu_f eh1919 Fr.rf ho0 rfl) (hLay.1 27 0 (by decide) (by decide) (by decide)) hSd
              have hDg_1919 : Dgo h1919 E L rs := Dgo.kept (O := (· = L 0)) (hu_f eh1919 Fr.rf ho0 rfl) (hLay.1 62 0 (by decide) (by decide) (by decide)) hDg
              have hB_1919 : Bgs E h1919 B V cp := Bgs.kept (O := (· = L 0)) (hu_f eh1919 Fr.rf ho0 rfl) (fun i hi => hLay.2 i 0 hi (by decide)) hB
              exact Z _ _ _ _ _ _ _ _ dX1_set_84 (Nat.zero_le _) (Nat.zero_le _) ⟨hcd, by rw [if_pos c51], by unfold setN; rw [if_pos c51, tv]; exact ⟨pp, f, rs, pw, pl, ps, V, ⟨ho0_1919, ha1_1919, ha3_1919, ha12_1919, ha13_1919, ha14_1919, ha15_1919, ha16_1919, ha17_1919, ha39_1919⟩, ⟨r1, r3, r12, r13, r14, fun z => absurd cS z, r16, r17, rp, rp16⟩, Vr_votes hVr cS, hSt_1919, hPr_1919, hCn_1919, hSd_1919, hDg_1919, hB_1919⟩, hF_1919, rfl, rfl⟩ T1919
          · have hcd : cd_set N x (nI v) = 3 := by unfold cd_set; (repeat' split) <;> omega
            exact Y _ _ _ _ _ _ ((thr_V C T1914 hl.1 ho0 rfl (t_X1_setting hfl i11.1 cS ho0) q513 q515 qs3 q53 q516 kd_X1_setting rfl rfl ⟨Nat.le_of_ble_eq_true rfl, Nat.le_of_ble_eq_true rfl⟩ (Nat.le_of_ble_eq_true rfl) dX1_set_47 ⟨Nat.le_of_ble_eq_true rfl, Nat.le_of_ble_eq_true rfl⟩).on C T1914 hno ⟨Nat.le_of_ble_eq_true rfl, Nat.le_of_ble_eq_true rfl⟩ (fun h2 dc ds hp => by obtain ⟨rfl, rfl, rfl⟩ := hp; exact ⟨rfl, rfl, rfl, by rw [hcd]; exact ⟨by decide, rfl⟩⟩))
  · refine lv_iload_n hx hb dX1_set_4 rfl (lv_at hl 1 rfl) ?_
    refine lv_iconst (v := nI 1) hx hb dX1_set_5 rfl ?_
    refine zi_icmp_ne (tgt := 13) (X := (x).toInt) (Y := ((1 : Nat) : Int)) hx hb dX1_set_6 (by decide) rfl (nI_toInt (by omega)) (fun c6 => ?_) (fun c6 => ?_)
    · refine lv_iconst (v := nI 0) hx hb dX1_set_13 rfl ?_
      have hcd : cd_set N x y = 1 := by unfold cd_set; (repeat' split) <;> omega
      exact Y _ _ _ _ _ _ ((thr_S C T hl.1 (t_X1_inside hfl) q593 q594 q53 q595 kd_X1_inside rfl rfl ⟨Nat.le_of_ble_eq_true rfl, Nat.le_of_ble_eq_true rfl⟩ (Nat.le_of_ble_eq_true rfl) dX1_set_14 ⟨Nat.le_of_ble_eq_true rfl, Nat.le_of_ble_eq_true rfl⟩).on C T hno ⟨Nat.le_of_ble_eq_true rfl, Nat.le_of_ble_eq_true rfl⟩ (fun h2 dc ds hp => by obtain ⟨rfl, rfl, rfl⟩ := hp; exact ⟨rfl, rfl, rfl, by rw [hcd]; exact ⟨by decide, rfl⟩⟩))
    · refine lv_iconst (v := nI 1) hx hb dX1_set_9 rfl ?_
      refine lv_goto (tgt := 14) hx hb dX1_set_10 (by decide) ?_
      refine hp_S C T hl.1 (p_X1_inside) q593 q594 q53 q595 kd_X1_inside rfl rfl ⟨Nat.le_of_ble_eq_true rfl, Nat.le_of_ble_eq_true rfl⟩ (Nat.le_of_ble_eq_true rfl) dX1_set_14 ⟨Nat.le_of_ble_eq_true rfl, Nat.le_of_ble_eq_true rfl⟩ (fun rv H1920 hp1920 T1920 => ?_)
      obtain rfl := hp1920
      refine W.eq (g2 := F0 m 17 ls []) rfl ?_
      refine lv_iload_n hx hb dX1_set_17 rfl (lv_at hl 2 rfl) ?_
      refine lv_iconst (v := nI 1) hx hb dX1_set_18 rfl ?_
      refine zi_icmp_lt (tgt := 42) (X := (y).toInt) (Y := ((1 : Nat) : Int)) hx hb dX1_set_19 (by decide) rfl (nI_toInt (by omega)) (fun c19 => ?_) (fun c19 => ?_)
      · refine lv_iconst (v := nI 0) hx hb dX1_set_42 rfl ?_
        have hcd : cd_set N x y = 2 := by unfold cd_set; (repeat' split) <;> omega
        exact Y _ _ _ _ _ _ ((thr_S C T1920 hl.1 (t_X1_need hfl) q441 q442 q53 q443 kd_X1_need rfl rfl ⟨Nat.le_of_ble_eq_true rfl, Nat.le_of_ble_eq_true rfl⟩ (Nat.le_of_ble_eq_true rfl) dX1_set_43 ⟨Nat.le_of_ble_eq_true rfl, Nat.le_of_ble_eq_true rfl⟩).on C T1920 hno ⟨Nat.le_of_ble_eq_true rfl, Nat.le_of_ble_eq_true rfl⟩ (fun h2 dc ds hp => by obtain ⟨rfl, rfl, rfl⟩ := hp; exact ⟨rfl, rfl, rfl, by rw [hcd]; exact ⟨by decide, rfl⟩⟩))
      · refine lv_iload_n hx hb dX1_set_22 rfl (lv_at hl 2 rfl) ?_
        refine lv_iload_n hx hb dX1_set_23 rfl (lv_at hl 1 rfl) ?_
        refine zi_if_ne (tgt := 32) (X := (x).toInt) hx hb dX1_set_24 (by decide) rfl (fun c24 => ?_) (fun c24 => ?_)
        · refine lv_sipush (v := nI 200) hx hb dX1_set_32 rfl ?_
          refine zi_icmp_gt (tgt := 42) (X := (y).toInt) (Y := ((200 : Nat) : Int)) hx hb dX1_set_35 (by decide) rfl (nI_toInt (by omega)) (fun c35 => ?_) (fun c35 => ?_)
          · refine lv_iconst (v := nI 0) hx hb dX1_set_42 rfl ?_
            have hcd : cd_set N x y = 2 := by unfold cd_set; (repeat' split) <;> omega
            exact Y _ _ _ _ _ _ ((thr_S C T1920 hl.1 (t_X1_need hfl) q441 q442 q53 q443 kd_X1_need rfl rfl ⟨Nat.le_of_ble_eq_true rfl, Nat.le_of_ble_eq_true rfl⟩ (Nat.le_of_ble_eq_true rfl) dX1_set_43 ⟨Nat.le_of_ble_eq_true rfl, Nat.le_of_ble_eq_true rfl⟩).on C T1920 hno ⟨Nat.le_of_ble_eq_true rfl, Nat.le_of_ble_eq_true rfl⟩ (fun h2 dc ds hp => by obtain ⟨rfl, rfl, rfl⟩ := hp; exact ⟨rfl, rfl, rfl, by rw [hcd]; exact ⟨by decide, rfl⟩⟩))
          · refine lv_iconst (v := nI 1) hx hb dX1_set_38 rfl ?_
            refine lv_goto (tgt := 43) hx hb dX1_set_39 (by decide) ?_
            refine hp_S C T1920 hl.1 (p_X1_need) q441 q442 q53 q443 kd_X1_need rfl rfl ⟨Nat.le_of_ble_eq_true rfl, Nat.le_of_ble_eq_true rfl⟩ (Nat.le_of_ble_eq_true rfl) dX1_set_43 ⟨Nat.le_of_ble_eq_true rfl, Nat.le_of_ble_eq_true rfl⟩ (fun rv H1921 hp1921 T1921 => ?_)
            obtain rfl := hp1921
            refine W.eq (g2 := F0 m 46 ls []) rfl ?_
            obtain ⟨v, hv, rfl⟩ := nat_of (x := y) (by omega)
            have ev := nI_toInt hv
            have tv : (nI v).toInt.toNat = v := by rw [ev]; rfl
            refine lv_aload_n hx hb dX1_set_46 rfl (lv_at hl 0 rfl) ?_
            by_cases cS : N 11 = 0
            · refine hp_V C T1921 hl.1 ho0 rfl (p_X1_setting i11.1 cS ho0) q513 q515 qs3 q53 q516 kd_X1_setting rfl rfl ⟨Nat.le_of_ble_eq_true rfl, Nat.le_of_ble_eq_true rfl⟩ (Nat.le_of_ble_eq_true rfl) dX1_set_47 ⟨Nat.le_of_ble_eq_true rfl, Nat.le_of_ble_eq_true rfl⟩ (fun rv H1922 hp1922 T1922 => ?_)
              obtain rfl := hp1922
              refine W.eq (g2 := F0 m 50 ls []) rfl ?_
              refine lv_iload_n hx hb dX1_set_50 rfl (lv_at hl 1 rfl) ?_
              refine zi_if_ne (tgt := 61) (X := (x).toInt) hx hb dX1_set_51 (by decide) rfl (fun c51 => ?_) (fun c51 => ?_)
              · refine lv_aload_n hx hb dX1_set_61 rfl (lv_at hl 0 rfl) ?_
                refine hr_get C T1922 ho0 rfl in_X1 6 (by decide) q297 rfl rfl dX1_set_62 ?_
                refine lv_istore_n (lv' := [(3, .int (nI (N 4))), (0, .ref (L 0)), (1, .int x), (2, .int (nI v))]) hx hb dX1_set_65 rfl hl (by decide) rfl (fun ls1923 hl1923 => ?_)
                refine lv_iload_n hx hb dX1_set_66 rfl (lv_at hl1923 2 rfl) ?_
                refine zi_if_ne (tgt := 78) (X := (x).toInt) hx hb dX1_set_67 (by decide) rfl (fun c67 => ?_) (fun c67 => absurd c67 c51)
                refine lv_aload_n hx hb dX1_set_78 rfl (lv_at hl1923 1 rfl) ?_
                refine lv_iload_n hx hb dX1_set_79 rfl (lv_at hl1923 3 rfl) ?_
                refine hr_put C T1922 ho0 rfl in_X1 tyX1 tyX1_ok nmX1 6 (by decide) q297 rfl rfl rfl rfl (Nat.le_of_ble_eq_true rfl) dX1_set_80 (fun h1924 H1924 locs1924 eh1924 T1924 => ?_)
                have ho0_1924 : h1924 (L 0) = some (.inr (0, [.ref (L 1), .int (nI (N 0)), .ref (L 3), .int (nI (N 1)), .int (nI (N 2)), .int (nI (N 3)), .int (nI v), .int (nI (N 5)), .int (nI (N 6)), .int (nI (N 7)), .int (nI (N 8)), .ref (L 12), .ref (L 13), .ref (L 14), .ref (L 15), .ref (L 16), .ref (L 17), .int (nI (N 11)), .int (nI (N 15)), .int (nI (N 16)), .int (nI (N 17)), .int (nI (N 18) - 1), .int (nI (N 19)), .ref (L 24), .int (nI pp), .ref (L 26), .ref (L 27), .ref (if N 13 = 1 then L 27 else L 26), .ref (L 29), .ref (L 30), .ref (if N 12 = 1 then L 30 else L 29), .ref (L 32), .ref (B 0), .ref (B 1), .ref (B 2), .ref (B 3), .ref (L 37), .ref (L 38), .ref (L 39), .ref (B 4), .ref (B 5)]), L 0) := hu_s eh1924
                have hF_1924 : Fr (CO L B) h h1924 := hu_f eh1924 hF ho0 (Or.inl rfl)
                refine lv_iload_n hx hb dX1_set_83 rfl (lv_at hl1923 0 rfl) ?_
                have hcd : cd_set N x (nI v) = 0 := by unfold cd_set; (repeat' split) <;> omega
                have ha1_1924 : h1924 (L 1) = some (.inl (E.2.1 0, 8, .inl (f 1)), L 0) := hu_n eh1924 (hLay.1 1 0 (by decide) (by decide) (by decide)) ha1
                have ha3_1924 : h1924 (L 3) = some (.inl (E.2.1 0, 64, .inl (f 3)), L 0) := hu_n eh1924 (hLay.1 3 0 (by decide) (by decide) (by decide)) ha3
                have ha12_1924 : h1924 (L 12) = some (.inl (E.2.1 1, 20000, .inl (f 12)), L 0) := hu_n eh1924 (hLay.1 12 0 (by decide) (by decide) (by decide)) ha12
                have ha13_1924 : h1924 (L 13) = some (.inl (E.2.1 1, 20000, .inl (f 13)), L 0) := hu_n eh1924 (hLay.1 13 0 (by decide) (by decide) (by decide)) ha13
                have ha14_1924 : h1924 (L 14) = some (.inl (E.2.1 2, 20000, .inl (f 14)), L 0) := hu_n eh1924 (hLay.1 14 0 (by decide) (by decide) (by decide)) ha14
                have ha15_1924 : h1924 (L 15) = some (.inl (E.2.1 3, 8, .inl (f 15)), L 0) := hu_n eh1924 (hLay.1 15 0 (by decide) (by decide) (by decide)) ha15
                have ha16_1924 : h1924 (L 16) = some (.inl (E.2.1 0, 8, .inl (f 16)), L 0) := hu_n eh1924 (hLay.1 16 0 (by decide) (by decide) (by decide)) ha16
                have ha17_1924 : h1924 (L 17) = some (.inl (E.2.1 0, 8, .inl (f 17)), L 0) := hu_n eh1924 (hLay.1 17 0 (by decide) (by decide) (by decide)) ha17
                have ha39_1924 : h1924 (L 39) = some (.inl (E.2.1 3, 961, .inl (f 39)), L 0) := hu_n eh1924 (hLay.1 39 0 (by decide) (by decide) (by decide)) ha39
                have hSt_1924 : Stt E L B h1924 := Stt.kept (O := (· = L 0)) (hu_f eh1924 Fr.rf ho0 rfl) (hLay.1 30 0 (by decide) (by decide) (by decide)) hSt
                have hPr_1924 : Prs L B pw pl ps h1924 := Prs.kept (O := (· = L 0)) (hu_f eh1924 Fr.rf ho0 rfl) (hLay.1 24 0 (by decide) (by decide) (by decide)) hPr
                have hCn_1924 : Cns h1924 E L (nI1 (M 8)) (N 10) := Cns.kept (O := (· = L 0)) (hu_f eh1924 Fr.rf ho0 rfl) (hLay.1 26 0 (by decide) (by decide) (by decide)) hCn
                have hSd_1924 : Sds h1924 E L (nI1 (M 6)) (N 9) := Sds.kept (O := (· = L 0)) (hu_f eh1924 Fr.rf ho0 rfl) (hLay.1 27 0 (by decide) (by decide) (by decide)) hSd
                have hDg_1924 : Dgo h1924 E L rs := Dgo.kept (O := (· = L 0)) (hu_f eh1924 Fr.rf ho0 rfl) (hLay.1 62 0 (by decide) (by decide) (by decide)) hDg
                have hB_1924 : Bgs E h1924 B V cp := Bgs.kept (O := (· = L 0)) (hu_f eh1924 Fr.rf ho0 rfl) (fun i hi => hLay.2 i 0 hi (by decide)) hB
                exact Z _ _ _ _ _ _ _ _ dX1_set_84 (Nat.zero_le _) (Nat.zero_le _) ⟨hcd, by rw [if_neg c51], by unfold setN; rw [if_neg c51, tv]; exact ⟨pp, f, rs, pw, pl, ps, V, ⟨ho0_1924, ha1_1924, ha3_1924, ha12_1924, ha13_1924, ha14_1924, ha15_1924, ha16_1924, ha17_1924, ha39_1924⟩, ⟨r1, r3, r12, r13, r14, fun z => absurd cS z, r16, r17, rp, rp16⟩, Vr_votes hVr cS, hSt_1924, hPr_1924, hCn_1924, hSd_1924, hDg_1924, hB_1924⟩, hF_1924, rfl, rfl⟩ T1924
              · refine lv_aload_n hx hb dX1_set_54 rfl (lv_at hl 0 rfl) ?_
                refine hr_get C T1922 ho0 rfl in_X1 5 (by decide) q296 rfl rfl dX1_set_55 ?_
                refine lv_goto (tgt := 65) hx hb dX1_set_58 (by decide) ?_
                refine lv_istore_n (lv' := [(3, .int (nI (N 3))), (0, .ref (L 0)), (1, .int x), (2, .int (nI v))]) hx hb dX1_set_65 rfl hl (by decide) rfl (fun ls1925 hl1925 => ?_)
                refine lv_iload_n hx hb dX1_set_66 rfl (lv_at hl1925 2 rfl) ?_
                refine zi_if_ne (tgt := 78) (X := (x).toInt) hx hb dX1_set_67 (by decide) rfl (fun c67 => absurd c51 c67) (fun c67 => ?_)
                refine lv_aload_n hx hb dX1_set_70 rfl (lv_at hl1925 1 rfl) ?_
                refine lv_iload_n hx hb dX1_set_71 rfl (lv_at hl1925 3 rfl) ?_
                refine hr_put C T1922 ho0 rfl in_X1 tyX1 tyX1_ok nmX1 5 (by decide) q296 rfl rfl rfl rfl (Nat.le_of_ble_eq_true rfl) dX1_set_72 (fun h1926 H1926 locs1926 eh1926 T1926 => ?_)
                have ho0_1926 : h1926 (L 0) = some (.inr (0, [.ref (L 1), .int (nI (N 0)), .ref (L 3), .int (nI (N 1)), .int (nI (N 2)), .int (nI v), .int (nI (N 4)), .int (nI (N 5)), .int (nI (N 6)), .int (nI (N 7)), .int (nI (N 8)), .ref (L 12), .ref (L 13), .ref (L 14), .ref (L 15), .ref (L 16), .ref (L 17), .int (nI (N 11)), .int (nI (N 15)), .int (nI (N 16)), .int (nI (N 17)), .int (nI (N 18) - 1), .int (nI (N 19)), .ref (L 24), .int (nI pp), .ref (L 26), .ref (L 27), .ref (if N 13 = 1 then L 27 else L 26), .ref (L 29), .ref (L 30), .ref (if N 12 = 1 then L 30 else L 29), .ref (L 32), .ref (B 0), .ref (B 1), .ref (B 2), .ref (B 3), .ref (L 37), .ref (L 38), .ref (L 39), .ref (B 4), .ref (B 5)]), L 0) := hu_s eh1926
                have hF_1926 : Fr (CO L B) h h1926 := hu_f eh1926 hF ho0 (Or.inl rfl)
                refine lv_goto (tgt := 83) hx hb dX1_set_75 (by decide) ?_
                refine lv_iload_n hx hb dX1_set_83 rfl (lv_at hl1925 0 rfl) ?_
                have hcd : cd_set N x (nI v) = 0 := by unfold cd_set; (repeat' split) <;> omega
                have ha1_1926 : h1926 (L 1) = some (.inl (E.2.1 0, 8, .inl (f 1)), L 0) := hu_n eh1926 (hLay.1 1 0 (by decide) (by decide) (by decide)) ha1
                have ha3_1926 : h1926 (L 3) = some (.inl (E.2.1 0, 64, .inl (f 3)), L 0) := hu_n eh1926 (hLay.1 3 0 (by decide) (by decide) (by decide)) ha3
                have ha12_1926 : h1926 (L 12) = some (.inl (E.2.1 1, 20000, .inl (f 12)), L 0) := hu_n eh1926 (hLay.1 12 0 (by decide) (by decide) (by decide)) ha12
                have ha13_1926 : h1926 (L 13) = some (.inl (E.2.1 1, 20000, .inl (f 13)), L 0) := hu_n eh1926 (hLay.1 13 0 (by decide) (by decide) (by decide)) ha13
                have ha14_1926 : h1926 (L 14) = some (.inl (E.2.1 2, 20000, .inl (f 14)), L 0) := hu_n eh1926 (hLay.1 14 0 (by decide) (by decide) (by decide)) ha14
                have ha15_1926 : h1926 (L 15) = some (.inl (E.2.1 3, 8, .inl (f 15)), L 0) := hu_n eh1926 (hLay.1 15 0 (by decide) (by decide) (by decide)) ha15
                have ha16_1926 : h1926 (L 16) = some (.inl (E.2.1 0, 8, .inl (f 16)), L 0) := hu_n eh1926 (hLay.1 16 0 (by decide) (by decide) (by decide)) ha16
                have ha17_1926 : h1926 (L 17) = some (.inl (E.2.1 0, 8, .inl (f 17)), L 0) := hu_n eh1926 (hLay.1 17 0 (by decide) (by decide) (by decide)) ha17
                have ha39_1926 : h1926 (L 39) = some (.inl (E.2.1 3, 961, .inl (f 39)), L 0) := hu_n eh1926 (hLay.1 39 0 (by decide) (by decide) (by decide)) ha39
                have hSt_1926 : Stt E L B h1926 := Stt.kept (O := (· = L 0)) (hu_f eh1926 Fr.rf ho0 rfl) (hLay.1 30 0 (by decide) (by decide) (by decide)) hSt
                have hPr_1926 : Prs L B pw pl ps h1926 := Prs.kept (O := (· = L 0)) (hu_f eh1926 Fr.rf ho0 rfl) (hLay.1 24 0 (by decide) (by decide) (by decide)) hPr
                have hCn_1926 : Cns h1926 E L (nI1 (M 8)) (N 10) := Cns.kept (O := (· = L 0)) (hu_f eh1926 Fr.rf ho0 rfl) (hLay.1 26 0 (by decide) (by decide) (by decide)) hCn
                have hSd_1926 : Sds h1926 E L (nI1 (M 6)) (N 9) := Sds.kept (O := (· = L 0)) (hu_f eh1926 Fr.rf ho0 rfl) (hLay.1 27 0 (by decide) (by decide) (by decide)) hSd
                have hDg_1926 : Dgo h1926 E L rs := Dgo.kept (O := (· = L 0)) (hu_f eh1926 Fr.rf ho0 rfl) (hLay.1 62 0 (by decide) (by decide) (by decide)) hDg
                have hB_1926 : Bgs E h1926 B V cp := Bgs.kept (O := (· = L 0)) (hu_f eh1926 Fr.rf ho0 rfl) (fun i hi => hLay.2 i 0 hi (by decide)) hB
                exact Z _ _ _ _ _ _ _ _ dX1_set_84 (Nat.zero_le _) (Nat.zero_le _) ⟨hcd, by rw [if_pos c51], by unfold setN; rw [if_pos c51, tv]; exact ⟨pp, f, rs, pw, pl, ps, V, ⟨ho0_1926, ha1_1926, ha3_1926, ha12_1926, ha13_1926, ha14_1926, ha15_1926, ha16_1926, ha17_1926, ha39_1926⟩, ⟨r1, r3, r12, r13, r14, fun z => absurd cS z, r16, r17, rp, rp16⟩, Vr_votes hVr cS, hSt_1926, hPr_1926, hCn_1926, hSd_1926, hDg_1926, hB_1926⟩, hF_1926, rfl, rfl⟩ T1926
            · have hcd : cd_set N x (nI v) = 3 := by unfold cd_set; (repeat' split) <;> omega
              exact Y _ _ _ _ _ _ ((thr_V C T1921 hl.1 ho0 rfl (t_X1_setting hfl i11.1 cS ho0) q513 q515 qs3 q53 q516 kd_X1_setting rfl rfl ⟨Nat.le_of_ble_eq_true rfl, Nat.le_of_ble_eq_true rfl⟩ (Nat.le_of_ble_eq_true rfl) dX1_set_47 ⟨Nat.le_of_ble_eq_true rfl, Nat.le_of_ble_eq_true rfl⟩).on C T1921 hno ⟨Nat.le_of_ble_eq_true rfl, Nat.le_of_ble_eq_true rfl⟩ (fun h2 dc ds hp => by obtain ⟨rfl, rfl, rfl⟩ := hp; exact ⟨rfl, rfl, rfl, by rw [hcd]; exact ⟨by decide, rfl⟩⟩))
        · refine lv_bipush (v := nI 7) hx hb dX1_set_27 rfl ?_
          refine lv_goto (tgt := 35) hx hb dX1_set_29 (by decide) ?_
          refine zi_icmp_gt (tgt := 42) (X := (y).toInt) (Y := ((7 : Nat) : Int)) hx hb dX1_set_35 (by decide) rfl (nI_toInt (by omega)) (fun c35 => ?_) (fun c35 => ?_)
          · refine lv_iconst (v := nI 0) hx hb dX1_set_42 rfl ?_
            have hcd : cd_set N x y = 2 := by unfold cd_set; (repeat' split) <;> omega
            exact Y _ _ _ _ _ _ ((thr_S C T1920 hl.1 (t_X1_need hfl) q441 q442 q53 q443 kd_X1_need rfl rfl ⟨Nat.le_of_ble_eq_true rfl, Nat.le_of_ble_eq_true rfl⟩ (Nat.le_of_ble_eq_true rfl) dX1_set_43 ⟨Nat.le_of_ble_eq_true rfl, Nat.le_of_ble_eq_true rfl⟩).on C T1920 hno ⟨Nat.le_of_ble_eq_true rfl, Nat.le_of_ble_eq_true rfl⟩ (fun h2 dc ds hp => by obtain ⟨rfl, rfl, rfl⟩ := hp; exact ⟨rfl, rfl, rfl, by rw [hcd]; exact ⟨by decide, rfl⟩⟩))
          · refine lv_iconst (v := nI 1) hx hb dX1_set_38 rfl ?_
            refine lv_goto (tgt := 43) hx hb dX1_set_39 (by decide) ?_
            refine hp_S C T1920 hl.1 (p_X1_need) q441 q442 q53 q443 kd_X1_need rfl rfl ⟨Nat.le_of_ble_eq_true rfl, Nat.le_of_ble_eq_true rfl⟩ (Nat.le_of_ble_eq_true rfl) dX1_set_43 ⟨Nat.le_of_ble_eq_true rfl, Nat.le_of_ble_eq_true rfl⟩ (fun rv H1927 hp1927 T1927 => ?_)
            obtain rfl := hp1927
            refine W.eq (g2 := F0 m 46 ls []) rfl ?_
            obtain ⟨v, hv, rfl⟩ := nat_of (x := y) (by omega)
            have ev := nI_toInt hv
            have tv : (nI v).toInt.toNat = v := by rw [ev]; rfl
            refine lv_aload_n hx hb dX1_set_46 rfl (lv_at hl 0 rfl) ?_
            by_cases cS : N 11 = 0
            · refine hp_V C T1927 hl.1 ho0 rfl (p_X1_setting i11.1 cS ho0) q513 q515 qs3 q53 q516 kd_X1_setting rfl rfl ⟨Nat.le_of_ble_eq_true rfl, Nat.le_of_ble_eq_true rfl⟩ (Nat.le_of_ble_eq_true rfl) dX1_set_47 ⟨Nat.le_of_ble_eq_true rfl, Nat.le_of_ble_eq_true rfl⟩ (fun rv H1928 hp1928 T1928 => ?_)
              obtain rfl := hp1928
              refine W.eq (g2 := F0 m 50 ls []) rfl ?_
              refine lv_iload_n hx hb dX1_set_50 rfl (lv_at hl 1 rfl) ?_
              refine zi_if_ne (tgt := 61) (X := (x).toInt) hx hb dX1_set_51 (by decide) rfl (fun c51 => ?_) (fun c51 => ?_)
              · refine lv_aload_n hx hb dX1_set_61 rfl (lv_at hl 0 rfl) ?_
                refine hr_get C T1928 ho0 rfl in_X1 6 (by decide) q297 rfl rfl dX1_set_62 ?_
                refine lv_istore_n (lv' := [(3, .int (nI (N 4))), (0, .ref (L 0)), (1, .int x), (2, .int (nI v))]) hx hb dX1_set_65 rfl hl (by decide) rfl (fun ls1929 hl1929 => ?_)
                refine lv_iload_n hx hb dX1_set_66 rfl (lv_at hl1929 2 rfl) ?_
                refine zi_if_ne (tgt := 78) (X := (x).toInt) hx hb dX1_set_67 (by decide) rfl (fun c67 => ?_) (fun c67 => absurd c67 c51)
                refine lv_aload_n hx hb dX1_set_78 rfl (lv_at hl1929 1 rfl) ?_
                refine lv_iload_n hx hb dX1_set_79 rfl (lv_at hl1929 3 rfl) ?_
                refine hr_put C T1928 ho0 rfl in_X1 tyX1 tyX1_ok nmX1 6 (by decide) q297 rfl rfl rfl rfl (Nat.le_of_ble_eq_true rfl) dX1_set_80 (fun h1930 H1930 locs1930 eh1930 T1930 => ?_)
                have ho0_1930 : h1930 (L 0) = some (.inr (0, [.ref (L 1), .int (nI (N 0)), .ref (L 3), .int (nI (N 1)), .int (nI (N 2)), .int (nI (N 3)), .int (nI v), .int (nI (N 5)), .int (nI (N 6)), .int (nI (N 7)), .int (nI (N 8)), .ref (L 12), .ref (L 13), .ref (L 14), .ref (L 15), .ref (L 16), .ref (L 17), .int (nI (N 11)), .int (nI (N 15)), .int (nI (N 16)), .int (nI (N 17)), .int (nI (N 18) - 1), .int (nI (N 19)), .ref (L 24), .int (nI pp), .ref (L 26), .ref (L 27), .ref (if N 13 = 1 then L 27 else L 26), .ref (L 29), .ref (L 30), .ref (if N 12 = 1 then L 30 else L 29), .ref (L 32), .ref (B 0), .ref (B 1), .ref (B 2), .ref (B 3), .ref (L 37), .ref (L 38), .ref (L 39), .ref (B 4), .ref (B 5)]), L 0) := hu_s eh1930
                have hF_1930 : Fr (CO L B) h h1930 := hu_f eh1930 hF ho0 (Or.inl rfl)
                refine lv_iload_n hx hb dX1_set_83 rfl (lv_at hl1929 0 rfl) ?_
                have hcd : cd_set N x (nI v) = 0 := by unfold cd_set; (repeat' split) <;> omega
                have ha1_1930 : h1930 (L 1) = some (.inl (E.2.1 0, 8, .inl (f 1)), L 0) := hu_n eh1930 (hLay.1 1 0 (by decide) (by decide) (by decide)) ha1
                have ha3_1930 : h1930 (L 3) = some (.inl (E.2.1 0, 64, .inl (f 3)), L 0) := hu_n eh1930 (hLay.1 3 0 (by decide) (by decide) (by decide)) ha3
                have ha12_1930 : h1930 (L 12) = some (.inl (E.2.1 1, 20000, .inl (f 12)), L 0) := hu_n eh1930 (hLay.1 12 0 (by decide) (by decide) (by decide)) ha12
                have ha13_1930 : h1930 (L 13) = some (.inl (E.2.1 1, 20000, .inl (f 13)), L 0) := hu_n eh1930 (hLay.1 13 0 (by decide) (by decide) (by decide)) ha13
                have ha14_1930 : h1930 (L 14) = some (.inl (E.2.1 2, 20000, .inl (f 14)), L 0) := hu_n eh1930 (hLay.1 14 0 (by decide) (by decide) (by decide)) ha14
                have ha15_1930 : h1930 (L 15) = some (.inl (E.2.1 3, 8, .inl (f 15)), L 0) := hu_n eh1930 (hLay.1 15 0 (by decide) (by decide) (by decide)) ha15
                have ha16_1930 : h1930 (L 16) = some (.inl (E.2.1 0, 8, .inl (f 16)), L 0) := hu_n eh1930 (hLay.1 16 0 (by decide) (by decide) (by decide)) ha16
                have ha17_1930 : h1930 (L 17) = some (.inl (E.2.1 0, 8, .inl (f 17)), L 0) := hu_n eh1930 (hLay.1 17 0 (by decide) (by decide) (by decide)) ha17
                have ha39_1930 : h1930 (L 39) = some (.inl (E.2.1 3, 961, .inl (f 39)), L 0) := hu_n eh1930 (hLay.1 39 0 (by decide) (by decide) (by decide)) ha39
                have hSt_1930 : Stt E L B h1930 := Stt.kept (O := (· = L 0)) (hu_f eh1930 Fr.rf ho0 rfl) (hLay.1 30 0 (by decide) (by decide) (by decide)) hSt
                have hPr_1930 : Prs L B pw pl ps h1930 := Prs.kept (O := (· = L 0)) (hu_f eh1930 Fr.rf ho0 rfl) (hLay.1 24 0 (by decide) (by decide) (by decide)) hPr
                have hCn_1930 : Cns h1930 E L (nI1 (M 8)) (N 10) := Cns.kept (O := (· = L 0)) (hu_f eh1930 Fr.rf ho0 rfl) (hLay.1 26 0 (by decide) (by decide) (by decide)) hCn
                have hSd_1930 : Sds h1930 E L (nI1 (M 6)) (N 9) := Sds.kept (O := (· = L 0)) (hu_f eh1930 Fr.rf ho0 rfl) (hLay.1 27 0 (by decide) (by decide) (by decide)) hSd
                have hDg_1930 : Dgo h1930 E L rs := Dgo.kept (O := (· = L 0)) (hu_f eh1930 Fr.rf ho0 rfl) (hLay.1 62 0 (by decide) (by decide) (by decide)) hDg
                have hB_1930 : Bgs E h1930 B V cp := Bgs.kept (O := (· = L 0)) (hu_f eh1930 Fr.rf ho0 rfl) (fun i hi => hLay.2 i 0 hi (by decide)) hB
                exact Z _ _ _ _ _ _ _ _ dX1_set_84 (Nat.zero_le _) (Nat.zero_le _) ⟨hcd, by rw [if_neg c51], by unfold setN; rw [if_neg c51, tv]; exact ⟨pp, f, rs, pw, pl, ps, V, ⟨ho0_1930, ha1_1930, ha3_1930, ha12_1930, ha13_1930, ha14_1930, ha15_1930, ha16_1930, ha17_1930, ha39_1930⟩, ⟨r1, r3, r12, r13, r14, fun z => absurd cS z, r16, r17, rp, rp16⟩, Vr_votes hVr cS, hSt_1930, hPr_1930, hCn_1930, hSd_1930, hDg_1930, hB_1930⟩, hF_1930, rfl, rfl⟩ T1930
              · refine lv_aload_n hx hb dX1_set_54 rfl (lv_at hl 0 rfl) ?_
                refine hr_get C T1928 ho0 rfl in_X1 5 (by decide) q296 rfl rfl dX1_set_55 ?_
                refine lv_goto (tgt := 65) hx hb dX1_set_58 (by decide) ?_
                refine lv_istore_n (lv' := [(3, .int (nI (N 3))), (0, .ref (L 0)), (1, .int x), (2, .int (nI v))]) hx hb dX1_set_65 rfl hl (by decide) rfl (fun ls1931 hl1931 => ?_)
                refine lv_iload_n hx hb dX1_set_66 rfl (lv_at hl1931 2 rfl) ?_
                refine zi_if_ne (tgt := 78) (X := (x).toInt) hx hb dX1_set_67 (by decide) rfl (fun c67 => absurd c51 c67) (fun c67 => ?_)
                refine lv_aload_n hx hb dX1_set_70 rfl (lv_at hl1931 1 rfl) ?_
                refine lv_iload_n hx hb dX1_set_71 rfl (lv_at hl1931 3 rfl) ?_
                refine hr_put C T1928 ho0 rfl in_X1 tyX1 tyX1_ok nmX1 5 (by decide) q296 rfl rfl rfl rfl (Nat.le_of_ble_eq_true rfl) dX1_set_72 (fun h1932 H1932 locs1932 eh1932 T1932 => ?_)
                have ho0_1932 : h1932 (L 0) = some (.inr (0, [.ref (L 1), .int (nI (N 0)), .ref (L 3), .int (nI (N 1)), .int (nI (N 2)), .int (nI v), .int (nI (N 4)), .int (nI (N 5)), .int (nI (N 6)), .int (nI (N 7)), .int (nI (N 8)), .ref (L 12), .ref (L 13), .ref (L 14), .ref (L 15), .ref (L 16), .ref (L 17), .int (nI (N 11)), .int (nI (N 15)), .int (nI (N 16)), .int (nI (N 17)), .int (nI (N 18) - 1), .int (nI (N 19)), .ref (L 24), .int (nI pp), .ref (L 26), .ref (L 27), .ref (if N 13 = 1 then L 27 else L 26), .ref (L 29), .ref (L 30), .ref (if N 12 = 1 then L 30 else L 29), .ref (L 32), .ref (B 0), .ref (B 1), .ref (B 2), .ref (B 3), .ref (L 37), .ref (L 38), .ref (L 39), .ref (B 4), .ref (B 5)]), L 0) := hu_s eh1932
                have hF_1932 : Fr (CO L B) h h1932 := hu_f eh1932 hF ho0 (Or.inl rfl)
                refine lv_goto (tgt := 83) hx hb dX1_set_75 (by decide) ?_
                refine lv_iload_n hx hb dX1_set_83 rfl (lv_at hl1931 0 rfl) ?_
                have hcd : cd_set N x (nI v) = 0 := by unfold cd_set; (repeat' split) <;> omega
                have ha1_1932 : h1932 (L 1) = some (.inl (E.2.1 0, 8, .inl (f 1)), L 0) := hu_n eh1932 (hLay.1 1 0 (by decide) (by decide) (by decide)) ha1
                have ha3_1932 : h1932 (L 3) = some (.inl (E.2.1 0, 64, .inl (f 3)), L 0) := hu_n eh1932 (hLay.1 3 0 (by decide) (by decide) (by decide)) ha3
                have ha12_1932 : h1932 (L 12) = some (.inl (E.2.1 1, 20000, .inl (f 12)), L 0) := hu_n eh1932 (hLay.1 12 0 (by decide) (by decide) (by decide)) ha12
                have ha13_1932 : h1932 (L 13) = some (.inl (E.2.1 1, 20000, .inl (f 13)), L 0) := hu_n eh1932 (hLay.1 13 0 (by decide) (by decide) (by decide)) ha13
                have ha14_1932 : h1932 (L 14) = some (.inl (E.2.1 2, 20000, .inl (f 14)), L 0) := hu_n eh1932 (hLay.1 14 0 (by decide) (by decide) (by decide)) ha14
                have ha15_1932 : h1932 (L 15) = some (.inl (E.2.1 3, 8, .inl (f 15)), L 0) := hu_n eh1932 (hLay.1 15 0 (by decide) (by decide) (by decide)) ha15
                have ha16_1932 : h1932 (L 16) = some (.inl (E.2.1 0, 8, .inl (f 16)), L 0) := hu_n eh1932 (hLay.1 16 0 (by decide) (by decide) (by decide)) ha16
                have ha17_1932 : h1932 (L 17) = some (.inl (E.2.1 0, 8, .inl (f 17)), L 0) := hu_n eh1932 (hLay.1 17 0 (by decide) (by decide) (by decide)) ha17
                have ha39_1932 : h1932 (L 39) = some (.inl (E.2.1 3, 961, .inl (f 39)), L 0) := hu_n eh1932 (hLay.1 39 0 (by decide) (by decide) (by decide)) ha39
                have hSt_1932 : Stt E L B h1932 := Stt.kept (O := (· = L 0)) (hu_f eh1932 Fr.rf ho0 rfl) (hLay.1 30 0 (by decide) (by decide) (by decide)) hSt
                have hPr_1932 : Prs L B pw pl ps h1932 := Prs.kept (O := (· = L 0)) (hu_f eh1932 Fr.rf ho0 rfl) (hLay.1 24 0 (by decide) (by decide) (by decide)) hPr
                have hCn_1932 : Cns h1932 E L (nI1 (M 8)) (N 10) := Cns.kept (O := (· = L 0)) (hu_f eh1932 Fr.rf ho0 rfl) (hLay.1 26 0 (by decide) (by decide) (by decide)) hCn
                have hSd_1932 : Sds h1932 E L (nI1 (M 6)) (N 9) := Sds.kept (O := (· = L 0)) (hu_f eh1932 Fr.rf ho0 rfl) (hLay.1 27 0 (by decide) (by decide) (by decide)) hSd
                have hDg_1932 : Dgo h1932 E L rs := Dgo.kept (O := (· = L 0)) (hu_f eh1932 Fr.rf ho0 rfl) (hLay.1 62 0 (by decide) (by decide) (by decide)) hDg
                have hB_1932 : Bgs E h1932 B V cp := Bgs.kept (O := (· = L 0)) (hu_f eh1932 Fr.rf ho0 rfl) (fun i hi => hLay.2 i 0 hi (by decide)) hB
                exact Z _ _ _ _ _ _ _ _ dX1_set_84 (Nat.zero_le _) (Nat.zero_le _) ⟨hcd, by rw [if_pos c51], by unfold setN; rw [if_pos c51, tv]; exact ⟨pp, f, rs, pw, pl, ps, V, ⟨ho0_1932, ha1_1932, ha3_1932, ha12_1932, ha13_1932, ha14_1932, ha15_1932, ha16_1932, ha17_1932, ha39_1932⟩, ⟨r1, r3, r12, r13, r14, fun z => absurd cS z, r16, r17, rp, rp16⟩, Vr_votes hVr cS, hSt_1932, hPr_1932, hCn_1932, hSd_1932, hDg_1932, hB_1932⟩, hF_1932, rfl, rfl⟩ T1932
            · have hcd : cd_set N x (nI v) = 3 := by unfold cd_set; (repeat' split) <;> omega
              exact Y _ _ _ _ _ _ ((thr_V C T1927 hl.1 ho0 rfl (t_X1_setting hfl i11.1 cS ho0) q513 q515 qs3 q53 q516 kd_X1_setting rfl rfl ⟨Nat.le_of_ble_eq_true rfl, Nat.le_of_ble_eq_true rfl⟩ (Nat.le_of_ble_eq_true rfl) dX1_set_47 ⟨Nat.le_of_ble_eq_true rfl, Nat.le_of_ble_eq_true rfl⟩).on C T1927 hno ⟨Nat.le_of_ble_eq_true rfl, Nat.le_of_ble_eq_true rfl⟩ (fun h2 dc ds hp => by obtain ⟨rfl, rfl, rfl⟩ := hp; exact ⟨rfl, rfl, rfl, by rw [hcd]; exact ⟨by decide, rfl⟩⟩))

def cd_fraction (N : Nat → Nat) (x y z : Int32) : Nat := if x.toInt ≠ 0 ∧ x.toInt ≠ 1 then 1 else if y.toInt < 1 ∨ 1000000 < y.toInt ∨ z.toInt < 1 ∨ 1000000 < z.toInt ∨ (x.toInt = 0 ∧ z.toInt ≤ y.toInt) ∨ (x.toInt ≠ 0 ∧ y.toInt ≤ z.toInt) then 2 else if N 11 ≠ 0 then 3 else 0
def frN (N : Nat → Nat) (x y z : Int32) : Nat → Nat := if x.toInt = 0 then nu (nu N 5 y.toInt.toNat) 6 z.toInt.toNat else nu (nu N 7 y.toInt.toNat) 8 z.toInt.toNat

set_option maxHeartbeats 4000000 in
theorem m_X1_fraction {E : GE} {l : Launch} {h : HH} (hfl : l.flags = flags0) {L B cp N : Nat → Nat} {M : Nat → Nat → Nat} {G : Nat → Nat → Int32} (hLay : Lay L B) (hI : Inv N M G) (hC : Cp E h L B cp N M G) {x y z : Int32} : MX E l yX1_fraction cX1_fraction 4 none ({ frames := 8, cells := 1, slots := 6, locals := 1200 } : Room) [.ref (L 0), .int x, .int y, .int z] h (fun rv h2 dc ds => cd_fraction N x y z = 0 ∧ rv = none ∧ Cp E h2 L B cp (frN N x y z) M G ∧ Fr (CO L B) h h2 ∧ dc = 0 ∧ ds = 0) (fun C h' dc ds => h' = h ∧ dc = 1 ∧ ds = 6 ∧ TC C (cd_fraction N x y z) [xIOB, xIAE, xISE]) := by
  refine hx_v (by decide) (Nat.le_of_ble_eq_true rfl) ?_
  intro p e s m below meth c C hno Q Z Y ls T hl
  have hx := C.x
  have hb := C.b
  have hl : lv_has ls 4 [(0, .ref (L 0)), (1, .int x), (2, .int y), (3, .int z)] := hl
  obtain ⟨i0, i1, i2, i3, i4, i5, i7, i9, i10, i11, i15, iv, isz, isum, ital, itm, idg, icn, irec, isn, iout, ict, iwt, iwt2, iz, inz, iup, ish⟩ := hI
  obtain ⟨pp, f, rs, pw, pl, ps, V, ⟨ho0, ha1, ha3, ha12, ha13, ha14, ha15, ha16, ha17, ha39⟩, ⟨r1, r3, r12, r13, r14, r15, r16, r17, rp, rp16⟩, hVr, hSt, hPr, hCn, hSd, hDg, hB⟩ := hC
  have hF : Fr (CO L B) h h := Fr.rf
  refine lv_iload_n hx hb dX1_fraction_0 rfl (lv_at hl 1 rfl) ?_
  refine zi_if_eq (tgt := 9) (X := (x).toInt) hx hb dX1_fraction_1 (by decide) rfl (fun c1 => ?_) (fun c1 => ?_)
  · refine lv_iconst (v := nI 1) hx hb dX1_fraction_9 rfl ?_
    refine lv_goto (tgt := 14) hx hb dX1_fraction_10 (by decide) ?_
    refine hp_S C T hl.1 (p_X1_inside) q593 q594 q53 q595 kd_X1_inside rfl rfl ⟨Nat.le_of_ble_eq_true rfl, Nat.le_of_ble_eq_true rfl⟩ (Nat.le_of_ble_eq_true rfl) dX1_fraction_14 ⟨Nat.le_of_ble_eq_true rfl, Nat.le_of_ble_eq_true rfl⟩ (fun rv H1933 hp1933 T1933 => ?_)
    obtain rfl := hp1933
    refine W.eq (g2 := F0 m 17 ls []) rfl ?_
    refine lv_iload_n hx hb dX1_fraction_17 rfl (lv_at hl 2 rfl) ?_
    refine lv_iconst (v := nI 1) hx hb dX1_fraction_18 rfl ?_
    refine zi_icmp_lt (tgt := 60) (X := (y).toInt) (Y := ((1 : Nat) : Int)) hx hb dX1_fraction_19 (by decide) rfl (nI_toInt (by omega)) (fun c19 => ?_) (fun c19 => ?_)
    · refine lv_iconst (v := nI 0) hx hb dX1_fraction_60 rfl ?_
      have hcd : cd_fraction N x y z = 2 := by unfold cd_fraction; (repeat' split) <;> omega
      exact Y _ _ _ _ _ _ ((thr_S C T1933 hl.1 (t_X1_need hfl) q441 q442 q53 q443 kd_X1_need rfl rfl ⟨Nat.le_of_ble_eq_true rfl, Nat.le_of_ble_eq_true rfl⟩ (Nat.le_of_ble_eq_true rfl) dX1_fraction_61 ⟨Nat.le_of_ble_eq_true rfl, Nat.le_of_ble_eq_true rfl⟩).on C T1933 hno ⟨Nat.le_of_ble_eq_true rfl, Nat.le_of_ble_eq_true rfl⟩ (fun h2 dc ds hp => by obtain ⟨rfl, rfl, rfl⟩ := hp; exact ⟨rfl, rfl, rfl, by rw [hcd]; exact ⟨by decide, rfl⟩⟩))
    · refine lv_iload_n hx hb dX1_fraction_22 rfl (lv_at hl 2 rfl) ?_
      refine lv_ldc (v := nI 1000000) hx hb C.ow (C.ts _ q440) dX1_fraction_23 ?_
      refine zi_icmp_gt (tgt := 60) (X := (y).toInt) (Y := ((1000000 : Nat) : Int)) hx hb dX1_fraction_25 (by decide) rfl (nI_toInt (by omega)) (fun c25 => ?_) (fun c25 => ?_)
      · refine lv_iconst (v := nI 0) hx hb dX1_fraction_60 rfl ?_
        have hcd : cd_fraction N x y z = 2 := by unfold cd_fraction; (repeat' split) <;> omega
        exact Y _ _ _ _ _ _ ((thr_S C T1933 hl.1 (t_X1_need hfl) q441 q442 q53 q443 kd_X1_need rfl rfl ⟨Nat.le_of_ble_eq_true rfl, Nat.le_of_ble_eq_true rfl⟩ (Nat.le_of_ble_eq_true rfl) dX1_fraction_61 ⟨Nat.le_of_ble_eq_true rfl, Nat.le_of_ble_eq_true rfl⟩).on C T1933 hno ⟨Nat.le_of_ble_eq_true rfl, Nat.le_of_ble_eq_true rfl⟩ (fun h2 dc ds hp => by obtain ⟨rfl, rfl, rfl⟩ := hp; exact ⟨rfl, rfl, rfl, by rw [hcd]; exact ⟨by decide, rfl⟩⟩))
      · refine lv_iload_n hx hb dX1_fraction_28 rfl (lv_at hl 3 rfl) ?_
        refine lv_iconst (v := nI 1) hx hb dX1_fraction_29 rfl ?_
        refine zi_icmp_lt (tgt := 60) (X := (z).toInt) (Y := ((1 : Nat) : Int)) hx hb dX1_fraction_30 (by decide) rfl (nI_toInt (by omega)) (fun c30 => ?_) (fun c30 => ?_)
        · refine lv_iconst (v := nI 0) hx hb dX1_fraction_60 rfl ?_
          have hcd : cd_fraction N x y z = 2 := by unfold cd_fraction; (repeat' split) <;> omega
          exact Y _ _ _ _ _ _ ((thr_S C T1933 hl.1 (t_X1_need hfl) q441 q442 q53 q443 kd_X1_need rfl rfl ⟨Nat.le_of_ble_eq_true rfl, Nat.le_of_ble_eq_true rfl⟩ (Nat.le_of_ble_eq_true rfl) dX1_fraction_61 ⟨Nat.le_of_ble_eq_true rfl, Nat.le_of_ble_eq_true rfl⟩).on C T1933 hno ⟨Nat.le_of_ble_eq_true rfl, Nat.le_of_ble_eq_true rfl⟩ (fun h2 dc ds hp => by obtain ⟨rfl, rfl, rfl⟩ := hp; exact ⟨rfl, rfl, rfl, by rw [hcd]; exact ⟨by decide, rfl⟩⟩))
        · refine lv_iload_n hx hb dX1_fraction_33 rfl (lv_at hl 3 rfl) ?_
          refine lv_ldc (v := nI 1000000) hx hb C.ow (C.ts _ q440) dX1_fraction_34 ?_
          refine zi_icmp_gt (tgt := 60) (X := (z).toInt) (Y := ((1000000 : Nat) : Int)) hx hb dX1_fraction_36 (by decide) rfl (nI_toInt (by omega)) (fun c36 => ?_) (fun c36 => ?_)
          · refine lv_iconst (v := nI 0) hx hb dX1_fraction_60 rfl ?_
            have hcd : cd_fraction N x y z = 2 := by unfold cd_fraction; (repeat' split) <;> omega
            exact Y _ _ _ _ _ _ ((thr_S C T1933 hl.1 (t_X1_need hfl) q441 q442 q53 q443 kd_X1_need rfl rfl ⟨Nat.le_of_ble_eq_true rfl, Nat.le_of_ble_eq_true rfl⟩ (Nat.le_of_ble_eq_true rfl) dX1_fraction_61 ⟨Nat.le_of_ble_eq_true rfl, Nat.le_of_ble_eq_true rfl⟩).on C T1933 hno ⟨Nat.le_of_ble_eq_true rfl, Nat.le_of_ble_eq_true rfl⟩ (fun h2 dc ds hp => by obtain ⟨rfl, rfl, rfl⟩ := hp; exact ⟨rfl, rfl, rfl, by rw [hcd]; exact ⟨by decide, rfl⟩⟩))
          · refine lv_iload_n hx hb dX1_fraction_39 rfl (lv_at hl 1 rfl) ?_
            refine zi_if_ne (tgt := 51) (X := (x).toInt) hx hb dX1_fraction_40 (by decide) rfl (fun c40 => ?_) (fun c40 => ?_)
            · refine lv_iload_n hx hb dX1_fraction_51 rfl (lv_at hl 2 rfl) ?_
              refine lv_iload_n hx hb dX1_fraction_52 rfl (lv_at hl 3 rfl) ?_
              refine zi_icmp_le (tgt := 60) (X := (y).toInt) (Y := (z).toInt) hx hb dX1_fraction_53 (by decide) rfl rfl (fun c53 => ?_) (fun c53 => ?_)
              · refine lv_iconst (v := nI 0) hx hb dX1_fraction_60 rfl ?_
                have hcd : cd_fraction N x y z = 2 := by unfold cd_fraction; (repeat' split) <;> omega
                exact Y _ _ _ _ _ _ ((thr_S C T1933 hl.1 (t_X1_need hfl) q441 q442 q53 q443 kd_X1_need rfl rfl ⟨Nat.le_of_ble_eq_true rfl, Nat.le_of_ble_eq_true rfl⟩ (Nat.le_of_ble_eq_true rfl) dX1_fraction_61 ⟨Nat.le_of_ble_eq_true rfl, Nat.le_of_ble_eq_true rfl⟩).on C T1933 hno ⟨Nat.le_of_ble_eq_true rfl, Nat.le_of_ble_eq_true rfl⟩ (fun h2 dc ds hp => by obtain ⟨rfl, rfl, rfl⟩ := hp; exact ⟨rfl, rfl, rfl, by rw [hcd]; exact ⟨by decide, rfl⟩⟩))
              · refine lv_iconst (v := nI 1) hx hb dX1_fraction_56 rfl ?_
                refine lv_goto (tgt := 61) hx hb dX1_fraction_57 (by decide) ?_
                refine hp_S C T1933 hl.1 (p_X1_need) q441 q442 q53 q443 kd_X1_need rfl rfl ⟨Nat.le_of_ble_eq_true rfl, Nat.le_of_ble_eq_true rfl⟩ (Nat.le_of_ble_eq_true rfl) dX1_fraction_61 ⟨Nat.le_of_ble_eq_true rfl, Nat.le_of_ble_eq_true rfl⟩ (fun rv H1934 hp1934 T1934 => ?_)
                obtain rfl := hp1934
                refine W.eq (g2 := F0 m 64 ls []) rfl ?_
                obtain ⟨v, hv, rfl⟩ := nat_of (x := y) (by omega)
                have ev := nI_toInt hv
                have tv : (nI v).toInt.toNat = v := by rw [ev]; rfl
                obtain ⟨u, hu, rfl⟩ := nat_of (x := z) (by omega)
                have eu := nI_toInt hu
                have tu : (nI u).toInt.toNat = u := by rw [eu]; rfl
                refine lv_aload_n hx hb dX1_fraction_64 rfl (lv_at hl 0 rfl) ?_
                by_cases cS : N 11 = 0
                · refine hp_V C T1934 hl.1 ho0 rfl (p_X1_setting i11.1 cS ho0) q513 q515 qs3 q53 q516 kd_X1_setting rfl rfl ⟨Nat.le_of_ble_eq_true rfl, Nat.le_of_ble_eq_true rfl⟩ (Nat.le_of_ble_eq_true rfl) dX1_fraction_65 ⟨Nat.le_of_ble_eq_true rfl, Nat.le_of_ble_eq_true rfl⟩ (fun rv H1935 hp1935 T1935 => ?_)
                  obtain rfl := hp1935
                  refine W.eq (g2 := F0 m 68 ls []) rfl ?_
                  refine lv_iload_n hx hb dX1_fraction_68 rfl (lv_at hl 1 rfl) ?_
                  refine zi_if_ne (tgt := 85) (X := (x).toInt) hx hb dX1_fraction_69 (by decide) rfl (fun c69 => ?_) (fun c69 => ?_)
                  · refine lv_aload_n hx hb dX1_fraction_85 rfl (lv_at hl 0 rfl) ?_
                    refine lv_iload_n hx hb dX1_fraction_86 rfl (lv_at hl 2 rfl) ?_
                    refine hr_put C T1935 ho0 rfl in_X1 tyX1 tyX1_ok nmX1 9 (by decide) q303 rfl rfl rfl rfl (Nat.le_of_ble_eq_true rfl) dX1_fraction_87 (fun h1936 H1936 locs1936 eh1936 T1936 => ?_)
                    have ho0_1936 : h1936 (L 0) = some (.inr (0, [.ref (L 1), .int (nI (N 0)), .ref (L 3), .int (nI (N 1)), .int (nI (N 2)), .int (nI (N 3)), .int (nI (N 4)), .int (nI (N 5)), .int (nI (N 6)), .int (nI v), .int (nI (N 8)), .ref (L 12), .ref (L 13), .ref (L 14), .ref (L 15), .ref (L 16), .ref (L 17), .int (nI (N 11)), .int (nI (N 15)), .int (nI (N 16)), .int (nI (N 17)), .int (nI (N 18) - 1), .int (nI (N 19)), .ref (L 24), .int (nI pp), .ref (L 26), .ref (L 27), .ref (if N 13 = 1 then L 27 else L 26), .ref (L 29), .ref (L 30), .ref (if N 12 = 1 then L 30 else L 29), .ref (L 32), .ref (B 0), .ref (B 1), .ref (B 2), .ref (B 3), .ref (L 37), .ref (L 38), .ref (L 39), .ref (B 4), .ref (B 5)]), L 0) := hu_s eh1936
                    have hF_1936 : Fr (CO L B) h h1936 := hu_f eh1936 hF ho0 (Or.inl rfl)
                    refine lv_aload_n hx hb dX1_fraction_90 rfl (lv_at hl 0 rfl) ?_
                    refine lv_iload_n hx hb dX1_fraction_91 rfl (lv_at hl 3 rfl) ?_
                    refine hr_put C T1936 ho0_1936 rfl in_X1 tyX1 tyX1_ok nmX1 10 (by decide) q305 rfl rfl rfl rfl (Nat.le_of_ble_eq_true rfl) dX1_fraction_92 (fun h1937 H1937 locs1937 eh1937 T1937 => ?_)
                    have ho0_1937 : h1937 (L 0) = some (.inr (0, [.ref (L 1), .int (nI (N 0)), .ref (L 3), .int (nI (N 1)), .int (nI (N 2)), .int (nI (N 3)), .int (nI (N 4)), .int (nI (N 5)), .int (nI (N 6)), .int (nI v), .int (nI u), .ref (L 12), .ref (L 13), .ref (L 14), .ref (L 15), .ref (L 16), .ref (L 17), .int (nI (N 11)), .int (nI (N 15)), .int (nI (N 16)), .int (nI (N 17)), .int (nI (N 18) - 1), .int (nI (N 19)), .ref (L 24), .int (nI pp), .ref (L 26), .ref (L 27), .ref (if N 13 = 1 then L 27 else L 26), .ref (L 29), .ref (L 30), .ref (if N 12 = 1 then L 30 else L 29), .ref (L 32), .ref (B 0), .ref (B 1), .ref (B 2), .ref (B 3), .ref (L 37), .ref (L 38), .ref (L 39), .ref (B 4), .ref (B 5)]), L 0) := hu_s eh1937
                    have hF_1937 : Fr (CO L B) h h1937 := hu_f eh1937 hF_1936 ho0_1936 (Or.inl rfl)
                    have hcd : cd_fraction N x (nI v) (nI u) = 0 := by unfold cd_fraction; (repeat' split) <;> omega
                    have ha1_1936 : h1936 (L 1) = some (.inl (E.2.1 0, 8, .inl (f 1)), L 0) := hu_n eh1936 (hLay.1 1 0 (by decide) (by decide) (by decide)) ha1
                    have ha1_1937 : h1937 (L 1) = some (.inl (E.2.1 0, 8, .inl (f 1)), L 0) := hu_n eh1937 (hLay.1 1 0 (by decide) (by decide) (by decide)) ha1_1936
                    have ha3_1936 : h1936 (L 3) = some (.inl (E.2.1 0, 64, .inl (f 3)), L 0) := hu_n eh1936 (hLay.1 3 0 (by decide) (by decide) (by decide)) ha3
                    have ha3_1937 : h1937 (L 3) = some (.inl (E.2.1 0, 64, .inl (f 3)), L 0) := hu_n eh1937 (hLay.1 3 0 (by decide) (by decide) (by decide)) ha3_1936
                    have ha12_1936 : h1936 (L 12) = some (.inl (E.2.1 1, 20000, .inl (f 12)), L 0) := hu_n eh1936 (hLay.1 12 0 (by decide) (by decide) (by decide)) ha12
                    have ha12_1937 : h1937 (L 12) = some (.inl (E.2.1 1, 20000, .inl (f 12)), L 0) := hu_n eh1937 (hLay.1 12 0 (by decide) (by decide) (by decide)) ha12_1936
                    have ha13_1936 : h1936 (L 13) = some (.inl (E.2.1 1, 20000, .inl (f 13)), L 0) := hu_n eh1936 (hLay.1 13 0 (by decide) (by decide) (by decide)) ha13
                    have ha13_1937 : h1937 (L 13) = some (.inl (E.2.1 1, 20000, .inl (f 13)), L 0) := hu_n eh1937 (hLay.1 13 0 (by decide) (by decide) (by decide)) ha13_1936
                    have ha14_1936 : h1936 (L 14) = some (.inl (E.2.1 2, 20000, .inl (f 14)), L 0) := hu_n eh1936 (hLay.1 14 0 (by decide) (by decide) (by decide)) ha14
                    have ha14_1937 : h1937 (L 14) = some (.inl (E.2.1 2, 20000, .inl (f 14)), L 0) := hu_n eh1937 (hLay.1 14 0 (by decide) (by decide) (by decide)) ha14_1936
                    have ha15_1936 : h1936 (L 15) = some (.inl (E.2.1 3, 8, .inl (f 15)), L 0) := hu_n eh1936 (hLay.1 15 0 (by decide) (by decide) (by decide)) ha15
                    have ha15_1937 : h1937 (L 15) = some (.inl (E.2.1 3, 8, .inl (f 15)), L 0) := hu_n eh1937 (hLay.1 15 0 (by decide) (by decide) (by decide)) ha15_1936
                    have ha16_1936 : h1936 (L 16) = some (.inl (E.2.1 0, 8, .inl (f 16)), L 0) := hu_n eh1936 (hLay.1 16 0 (by decide) (by decide) (by decide)) ha16
                    have ha16_1937 : h1937 (L 16) = some (.inl (E.2.1 0, 8, .inl (f 16)), L 0) := hu_n eh1937 (hLay.1 16 0 (by decide) (by decide) (by decide)) ha16_1936
                    have ha17_1936 : h1936 (L 17) = some (.inl (E.2.1 0, 8, .inl (f 17)), L 0) := hu_n eh1936 (hLay.1 17 0 (by decide) (by decide) (by decide)) ha17
                    have ha17_1937 : h1937 (L 17) = some (.inl (E.2.1 0, 8, .inl (f 17)), L 0) := hu_n eh1937 (hLay.1 17 0 (by decide) (by decide) (by decide)) ha17_1936
                    have ha39_1936 : h1936 (L 39) = some (.inl (E.2.1 3, 961, .inl (f 39)), L 0) := hu_n eh1936 (hLay.1 39 0 (by decide) (by decide) (by decide)) ha39
                    have ha39_1937 : h1937 (L 39) = some (.inl (E.2.1 3, 961, .inl (f 39)), L 0) := hu_n eh1937 (hLay.1 39 0 (by decide) (by decide) (by decide)) ha39_1936
                    have hSt_1936 : Stt E L B h1936 := Stt.kept (O := (· = L 0)) (hu_f eh1936 Fr.rf ho0 rfl) (hLay.1 30 0 (by decide) (by decide) (by decide)) hSt
                    have hSt_1937 : Stt E L B h1937 := Stt.kept (O := (· = L 0)) (hu_f eh1937 Fr.rf ho0_1936 rfl) (hLay.1 30 0 (by decide) (by decide) (by decide)) hSt_1936
                    have hPr_1936 : Prs L B pw pl ps h1936 := Prs.kept (O := (· = L 0)) (hu_f eh1936 Fr.rf ho0 rfl) (hLay.1 24 0 (by decide) (by decide) (by decide)) hPr
                    have hPr_1937 : Prs L B pw pl ps h1937 := Prs.kept (O := (· = L 0)) (hu_f eh1937 Fr.rf ho0_1936 rfl) (hLay.1 24 0 (by decide) (by decide) (by decide)) hPr_1936
                    have hCn_1936 : Cns h1936 E L (nI1 (M 8)) (N 10) := Cns.kept (O := (· = L 0)) (hu_f eh1936 Fr.rf ho0 rfl) (hLay.1 26 0 (by decide) (by decide) (by decide)) hCn
                    have hCn_1937 : Cns h1937 E L (nI1 (M 8)) (N 10) := Cns.kept (O := (· = L 0)) (hu_f eh1937 Fr.rf ho0_1936 rfl) (hLay.1 26 0 (by decide) (by decide) (by decide)) hCn_1936
                    have hSd_1936 : Sds h1936 E L (nI1 (M 6)) (N 9) := Sds.kept (O := (· = L 0)) (hu_f eh1936 Fr.rf ho0 rfl) (hLay.1 27 0 (by decide) (by decide) (by decide)) hSd
                    have hSd_1937 : Sds h1937 E L (nI1 (M 6)) (N 9) := Sds.kept (O := (· = L 0)) (hu_f eh1937 Fr.rf ho0_1936 rfl) (hLay.1 27 0 (by decide) (by decide) (by decide)) hSd_1936
                    have hDg_1936 : Dgo h1936 E L rs := Dgo.kept (O := (· = L 0)) (hu_f eh1936 Fr.rf ho0 rfl) (hLay.1 62 0 (by decide) (by decide) (by decide)) hDg
                    have hDg_1937 : Dgo h1937 E L rs := Dgo.kept (O := (· = L 0)) (hu_f eh1937 Fr.rf ho0_1936 rfl) (hLay.1 62 0 (by decide) (by decide) (by decide)) hDg_1936
                    have hB_1936 : Bgs E h1936 B V cp := Bgs.kept (O := (· = L 0)) (hu_f eh1936 Fr.rf ho0 rfl) (fun i hi => hLay.2 i 0 hi (by decide)) hB
                    have hB_1937 : Bgs E h1937 B V cp := Bgs.kept (O := (· = L 0)) (hu_f eh1937 Fr.rf ho0_1936 rfl) (fun i hi => hLay.2 i 0 hi (by decide)) hB_1936
                    exact Z _ _ _ _ _ _ _ dX1_fraction_95 (Nat.zero_le _) (Nat.zero_le _) ⟨hcd, rfl, by unfold frN; rw [if_neg c69, tv, tu]; exact ⟨pp, f, rs, pw, pl, ps, V, ⟨ho0_1937, ha1_1937, ha3_1937, ha12_1937, ha13_1937, ha14_1937, ha15_1937, ha16_1937, ha17_1937, ha39_1937⟩, ⟨r1, r3, r12, r13, r14, fun z => absurd cS z, r16, r17, rp, rp16⟩, Vr_votes hVr cS, hSt_1937, hPr_1937, hCn_1937, hSd_1937, hDg_1937, hB_1937⟩, hF_1937, rfl, rfl⟩ T1937
                  · refine lv_aload_n hx hb dX1_fraction_72 rfl (lv_at hl 0 rfl) ?_
                    refine lv_iload_n hx hb dX1_fraction_73 rfl (lv_at hl 2 rfl) ?_
                    refine hr_put C T1935 ho0 rfl in_X1 tyX1 tyX1_ok nmX1 7 (by decide) q298 rfl rfl rfl rfl (Nat.le_of_ble_eq_true rfl) dX1_fraction_74 (fun h1938 H1938 locs1938 eh1938 T1938 => ?_)
                    have ho0_1938 : h1938 (L 0) = some (.inr (0, [.ref (L 1), .int (nI (N 0)), .ref (L 3), .int (nI (N 1)), .int (nI (N 2)), .int (nI (N 3)), .int (nI (N 4)), .int (nI v), .int (nI (N 6)), .int (nI (N 7)), .int (nI (N 8)), .ref (L 12), .ref (L 13), .ref (L 14), .ref (L 15), .ref (L 16), .ref (L 17), .int (nI (N 11)), .int (nI (N 15)), .int (nI (N 16)), .int (nI (N 17)), .int (nI (N 18) - 1), .int (nI (N 19)), .ref (L 24), .int (nI pp), .ref (L 26), .ref (L 27), .ref (if N 13 = 1 then L 27 else L 26), .ref (L 29), .ref (L 30), .ref (if N 12 = 1 then L 30 else L 29), .ref (L 32), .ref (B 0), .ref (B 1), .ref (B 2), .ref (B 3), .ref (L 37), .ref (L 38), .ref (L 39), .ref (B 4), .ref (B 5)]), L 0) := hu_s eh1938
                    have hF_1938 : Fr (CO L B) h h1938 := hu_f eh1938 hF ho0 (Or.inl rfl)
                    refine lv_aload_n hx hb dX1_fraction_77 rfl (lv_at hl 0 rfl) ?_
                    refine lv_iload_n hx hb dX1_fraction_78 rfl (lv_at hl 3 rfl) ?_
                    refine hr_put C T1938 ho0_1938 rfl in_X1 tyX1 tyX1_ok nmX1 8 (by decide) q301 rfl rfl rfl rfl (Nat.le_of_ble_eq_true rfl) dX1_fraction_79 (fun h1939 H1939 locs1939 eh1939 T1939 => ?_)
                    have ho0_1939 : h1939 (L 0) = some (.inr (0, [.ref (L 1), .int (nI (N 0)), .ref (L 3), .int (nI (N 1)), .int (nI (N 2)), .int (nI (N 3)), .int (nI (N 4)), .int (nI v), .int (nI u), .int (nI (N 7)), .int (nI (N 8)), .ref (L 12), .ref (L 13), .ref (L 14), .ref (L 15), .ref (L 16), .ref (L 17), .int (nI (N 11)), .int (nI (N 15)), .int (nI (N 16)), .int (nI (N 17)), .int (nI (N 18) - 1), .int (nI (N 19)), .ref (L 24), .int (nI pp), .ref (L 26), .ref (L 27), .ref (if N 13 = 1 then L 27 else L 26), .ref (L 29), .ref (L 30), .ref (if N 12 = 1 then L 30 else L 29), .ref (L 32), .ref (B 0), .ref (B 1), .ref (B 2), .ref (B 3), .ref (L 37), .ref (L 38), .ref (L 39), .ref (B 4), .ref (B 5)]), L 0) := hu_s eh1939
                    have hF_1939 : Fr (CO L B) h h1939 := hu_f eh1939 hF_1938 ho0_1938 (Or.inl rfl)
                    refine lv_goto (tgt := 95) hx hb dX1_fraction_82 (by decide) ?_
                    have hcd : cd_fraction N x (nI v) (nI u) = 0 := by unfold cd_fraction; (repeat' split) <;> omega
                    have ha1_1938 : h1938 (L 1) = some (.inl (E.2.1 0, 8, .inl (f 1)), L 0) := hu_n eh1938 (hLay.1 1 0 (by decide) (by decide) (by decide)) ha1
                    have ha1_1939 : h1939 (L 1) = some (.inl (E.2.1 0, 8, .inl (f 1)), L 0) := hu_n eh1939 (hLay.1 1 0 (by decide) (by decide) (by decide)) ha1_1938
                    have ha3_1938 : h1938 (L 3) = some (.inl (E.2.1 0, 64, .inl (f 3)), L 0) := hu_n eh1938 (hLay.1 3 0 (by decide) (by decide) (by decide)) ha3
                    have ha3_1939 : h1939 (L 3) = some (.inl (E.2.1 0, 64, .inl (f 3)), L 0) := hu_n eh1939 (hLay.1 3 0 (by decide) (by decide) (by decide)) ha3_1938
                    have ha12_1938 : h1938 (L 12) = some (.inl (E.2.1 1, 20000, .inl (f 12)), L 0) := hu_n eh1938 (hLay.1 12 0 (by decide) (by decide) (by decide)) ha12
                    have ha12_1939 : h1939 (L 12) = some (.inl (E.2.1 1, 20000, .inl (f 12)), L 0) := hu_n eh1939 (hLay.1 12 0 (by decide) (by decide) (by decide)) ha12_1938
                    have ha13_1938 : h1938 (L 13) = some (.inl (E.2.1 1, 20000, .inl (f 13)), L 0) := hu_n eh1938 (hLay.1 13 0 (by decide) (by decide) (by decide)) ha13
                    have ha13_1939 : h1939 (L 13) = some (.inl (E.2.1 1, 20000, .inl (f 13)), L 0) := hu_n eh1939 (hLay.1 13 0 (by decide) (by decide) (by decide)) ha13_1938
                    have ha14_1938 : h1938 (L 14) = some (.inl (E.2.1 2, 20000, .inl (f 14)), L 0) := hu_n eh1938 (hLay.1 14 0 (by decide) (by decide) (by decide)) ha14
                    have ha14_1939 : h1939 (L 14) = some (.inl (E.2.1 2, 20000, .inl (f 14)), L 0) := hu_n eh1939 (hLay.1 14 0 (by decide) (by decide) (by decide)) ha14_1938
                    have ha15_1938 : h1938 (L 15) = some (.inl (E.2.1 3, 8, .inl (f 15)), L 0) := hu_n eh1938 (hLay.1 15 0 (by decide) (by decide) (by decide)) ha15
                    have ha15_1939 : h1939 (L 15) = some (.inl (E.2.1 3, 8, .inl (f 15)), L 0) := hu_n eh1939 (hLay.1 15 0 (by decide) (by decide) (by decide)) ha15_1938
                    have ha16_1938 : h1938 (L 16) = some (.inl (E.2.1 0, 8, .inl (f 16)), L 0) := hu_n eh1938 (hLay.1 16 0 (by decide) (by decide) (by decide)) ha16
                    have ha16_1939 : h1939 (L 16) = some (.inl (E.2.1 0, 8, .inl (f 16)), L 0) := hu_n eh1939 (hLay.1 16 0 (by decide) (by decide) (by decide)) ha16_1938
                    have ha17_1938 : h1938 (L 17) = some (.inl (E.2.1 0, 8, .inl (f 17)), L 0) := hu_n eh1938 (hLay.1 17 0 (by decide) (by decide) (by decide)) ha17
                    have ha17_1939 : h1939 (L 17) = some (.inl (E.2.1 0, 8, .inl (f 17)), L 0) := hu_n eh1939 (hLay.1 17 0 (by decide) (by decide) (by decide)) ha17_1938
                    have ha39_1938 : h1938 (L 39) = some (.inl (E.2.1 3, 961, .inl (f 39)), L 0) := hu_n eh1938 (hLay.1 39 0 (by decide) (by decide) (by decide)) ha39
                    have ha39_1939 : h1939 (L 39) = some (.inl (E.2.1 3, 961, .inl (f 39)), L 0) := hu_n eh1939 (hLay.1 39 0 (by decide) (by decide) (by decide)) ha39_1938
                    have hSt_1938 : Stt E L B h1938 := Stt.kept (O := (· = L 0)) (hu_f eh1938 Fr.rf ho0 rfl) (hLay.1 30 0 (by decide) (by decide) (by decide)) hSt
                    have hSt_1939 : Stt E L B h1939 := Stt.kept (O := (· = L 0)) (hu_f eh1939 Fr.rf ho0_1938 rfl) (hLay.1 30 0 (by decide) (by decide) (by decide)) hSt_1938
                    have hPr_1938 : Prs L B pw pl ps h1938 := Prs.kept (O := (· = L 0)) (hu_f eh1938 Fr.rf ho0 rfl) (hLay.1 24 0 (by decide) (by decide) (by decide)) hPr
                    have hPr_1939 : Prs L B pw pl ps h1939 := Prs.kept (O := (· = L 0)) (hu_f eh1939 Fr.rf ho0_1938 rfl) (hLay.1 24 0 (by decide) (by decide) (by decide)) hPr_1938
                    have hCn_1938 : Cns h1938 E L (nI1 (M 8)) (N 10) := Cns.kept (O := (· = L 0)) (hu_f eh1938 Fr.rf ho0 rfl) (hLay.1 26 0 (by decide) (by decide) (by decide)) hCn
                    have hCn_1939 : Cns h1939 E L (nI1 (M 8)) (N 10) := Cns.kept (O := (· = L 0)) (hu_f eh1939 Fr.rf ho0_1938 rfl) (hLay.1 26 0 (by decide) (by decide) (by decide)) hCn_1938
                    have hSd_1938 : Sds h1938 E L (nI1 (M 6)) (N 9) := Sds.kept (O := (· = L 0)) (hu_f eh1938 Fr.rf ho0 rfl) (hLay.1 27 0 (by decide) (by decide) (by decide)) hSd
                    have hSd_1939 : Sds h1939 E L (nI1 (M 6)) (N 9) := Sds.kept (O := (· = L 0)) (hu_f eh1939 Fr.rf ho0_1938 rfl) (hLay.1 27 0 (by decide) (by decide) (by decide)) hSd_1938
                    have hDg_1938 : Dgo h1938 E L rs := Dgo.kept (O := (· = L 0)) (hu_f eh1938 Fr.rf ho0 rfl) (hLay.1 62 0 (by decide) (by decide) (by decide)) hDg
                    have hDg_1939 : Dgo h1939 E L rs := Dgo.kept (O := (· = L 0)) (hu_f eh1939 Fr.rf ho0_1938 rfl) (hLay.1 62 0 (by decide) (by decide) (by decide)) hDg_1938
                    have hB_1938 : Bgs E h1938 B V cp := Bgs.kept (O := (· = L 0)) (hu_f eh1938 Fr.rf ho0 rfl) (fun i hi => hLay.2 i 0 hi (by decide)) hB
                    have hB_1939 : Bgs E h1939 B V cp := Bgs.kept (O := (· = L 0)) (hu_f eh1939 Fr.rf ho0_1938 rfl) (fun i hi => hLay.2 i 0 hi (by decide)) hB_1938
                    exact Z _ _ _ _ _ _ _ dX1_fraction_95 (Nat.zero_le _) (Nat.zero_le _) ⟨hcd, rfl, by unfold frN; rw [if_pos c69, tv, tu]; exact ⟨pp, f, rs, pw, pl, ps, V, ⟨ho0_1939, ha1_1939, ha3_1939, ha12_1939, ha13_1939, ha14_1939, ha15_1939, ha16_1939, ha17_1939, ha39_1939⟩, ⟨r1, r3, r12, r13, r14, fun z => absurd cS z, r16, r17, rp, rp16⟩, Vr_votes hVr cS, hSt_1939, hPr_1939, hCn_1939, hSd_1939, hDg_1939, hB_1939⟩, hF_1939, rfl, rfl⟩ T1939
                · have hcd : cd_fraction N x (nI v) (nI u) = 3 := by unfold cd_fraction; (repeat' split) <;> omega
                  exact Y _ _ _ _ _ _ ((thr_V C T1934 hl.1 ho0 rfl (t_X1_setting hfl i11.1 cS ho0) q513 q515 qs3 q53 q516 kd_X1_setting rfl rfl ⟨Nat.le_of_ble_eq_true rfl, Nat.le_of_ble_eq_true rfl⟩ (Nat.le_of_ble_eq_true rfl) dX1_fraction_65 ⟨Nat.le_of_ble_eq_true rfl, Nat.le_of_ble_eq_true rfl⟩).on C T1934 hno ⟨Nat.le_of_ble_eq_true rfl, Nat.le_of_ble_eq_true rfl⟩ (fun h2 dc ds hp => by obtain ⟨rfl, rfl, rfl⟩ := hp; exact ⟨rfl, rfl, rfl, by rw [hcd]; exact ⟨by decide, rfl⟩⟩))
            · refine lv_iload_n hx hb dX1_fraction_43 rfl (lv_at hl 2 rfl) ?_
              refine lv_iload_n hx hb dX1_fraction_44 rfl (lv_at hl 3 rfl) ?_
              refine zi_icmp_ge (tgt := 60) (X := (y).toInt) (Y := (z).toInt) hx hb dX1_fraction_45 (by decide) rfl rfl (fun c45 => ?_) (fun c45 => ?_)
              · refine lv_iconst (v := nI 0) hx hb dX1_fraction_60 rfl ?_
                have hcd : cd_fraction N x y z = 2 := by unfold cd_fraction; (repeat' split) <;> omega
                exact Y _ _ _ _ _ _ ((thr_S C T1933 hl.1 (t_X1_need hfl) q441 q442 q53 q443 kd_X1_need rfl rfl ⟨Nat.le_of_ble_eq_true rfl, Nat.le_of_ble_eq_true rfl⟩ (Nat.le_of_ble_eq_true rfl) dX1_fraction_61 ⟨Nat.le_of_ble_eq_true rfl, Nat.le_of_ble_eq_true rfl⟩).on C T1933 hno ⟨Nat.le_of_ble_eq_true rfl, Nat.le_of_ble_eq_true rfl⟩ (fun h2 dc ds hp => by obtain ⟨rfl, rfl, rfl⟩ := hp; exact ⟨rfl, rfl, rfl, by rw [hcd]; exact ⟨by decide, rfl⟩⟩))
              · refine lv_goto (tgt := 56) hx hb dX1_fraction_48 (by decide) ?_
                refine lv_iconst (v := nI 1) hx hb dX1_fraction_56 rfl ?_
                refine lv_goto (tgt := 61) hx hb dX1_fraction_57 (by decide) ?_
                refine hp_S C T1933 hl.1 (p_X1_need) q441 q442 q53 q443 kd_X1_need rfl rfl ⟨Nat.le_of_ble_eq_true rfl, Nat.le_of_ble_eq_true rfl⟩ (Nat.le_of_ble_eq_true rfl) dX1_fraction_61 ⟨Nat.le_of_ble_eq_true rfl, Nat.le_of_ble_eq_true rfl⟩ (fun rv H1940 hp1940 T1940 => ?_)
                obtain rfl := hp1940
                refine W.eq (g2 := F0 m 64 ls []) rfl ?_
                obtain ⟨v, hv, rfl⟩ := nat_of (x := y) (by omega)
                have ev := nI_toInt hv
                have tv : (nI v).toInt.toNat = v := by rw [ev]; rfl
                obtain ⟨u, hu, rfl⟩ := nat_of (x := z) (by omega)
                have eu := nI_toInt hu
                have tu : (nI u).toInt.toNat = u := by rw [eu]; rfl
                refine lv_aload_n hx hb dX1_fraction_64 rfl (lv_at hl 0 rfl) ?_
                by_cases cS : N 11 = 0
                · refine hp_V C T1940 hl.1 ho0 rfl (p_X1_setting i11.1 cS ho0) q513 q515 qs3 q53 q516 kd_X1_setting rfl rfl ⟨Nat.le_of_ble_eq_true rfl, Nat.le_of_ble_eq_true rfl⟩ (Nat.le_of_ble_eq_true rfl) dX1_fraction_65 ⟨Nat.le_of_ble_eq_true rfl, Nat.le_of_ble_eq_true rfl⟩ (fun rv H1941 hp1941 T1941 => ?_)
                  obtain rfl := hp1941
                  refine W.eq (g2 := F0 m 68 ls []) rfl ?_
                  refine lv_iload_n hx hb dX1_fraction_68 rfl (lv_at hl 1 rfl) ?_
                  refine zi_if_ne (tgt := 85) (X := (x).toInt) hx hb dX1_fraction_69 (by decide) rfl (fun c69 => ?_) (fun c69 => ?_)
                  · refine lv_aload_n hx hb dX1_fraction_85 rfl (lv_at hl 0 rfl) ?_
                    refine lv_iload_n hx hb dX1_fraction_86 rfl (lv_at hl 2 rfl) ?_
                    refine hr_put C T1941 ho0 rfl in_X1 tyX1 tyX1_ok nmX1 9 (by decide) q303 rfl rfl rfl rfl (Nat.le_of_ble_eq_true rfl) dX1_fraction_87 (fun h1942 H1942 locs1942 eh1942 T1942 => ?_)
                    have ho0_1942 : h1942 (L 0) = some (.inr (0, [.ref (L 1), .int (nI (N 0)), .ref (L 3), .int (nI (N 1)), .int (nI (N 2)), .int (nI (N 3)), .int (nI (N 4)), .int (nI (N 5)), .int (nI (N 6)), .int (nI v), .int (nI (N 8)), .ref (L 12), .ref (L 13), .ref (L 14), .ref (L 15), .ref (L 16), .ref (L 17), .int (nI (N 11)), .int (nI (N 15)), .int (nI (N 16)), .int (nI (N 17)), .int (nI (N 18) - 1), .int (nI (N 19)), .ref (L 24), .int (nI pp), .ref (L 26), .ref (L 27), .ref (if N 13 = 1 then L 27 else L 26), .ref (L 29), .ref (L 30), .ref (if N 12 = 1 then L 30 else L 29), .ref (L 32), .ref (B 0), .ref (B 1), .ref (B 2), .ref (B 3), .ref (L 37), .ref (L 38), .ref (L 39), .ref (B 4), .ref (B 5)]), L 0) := hu_s eh1942
                    have hF_1942 : Fr (CO L B) h h1942 := hu_f eh1942 hF ho0 (Or.inl rfl)
                    refine lv_aload_n hx hb dX1_fraction_90 rfl (lv_at hl 0 rfl) ?_
                    refine lv_iload_n hx hb dX1_fraction_91 rfl (lv_at hl 3 rfl) ?_
                    refine hr_put C T1942 ho0_1942 rfl in_X1 tyX1 tyX1_ok nmX1 10 (by decide) q305 rfl rfl rfl rfl (Nat.le_of_ble_eq_true rfl) dX1_fraction_92 (fun h1943 H1943 locs1943 eh1943 T1943 => ?_)
                    have ho0_1943 : h1943 (L 0) = some (.inr (0, [.ref (L 1), .int (nI (N 0)), .ref (L 3), .int (nI (N 1)), .int (nI (N 2)), .int (nI (N 3)), .int (nI (N 4)), .int (nI (N 5)), .int (nI (N 6)), .int (nI v), .int (nI u), .ref (L 12), .ref (L 13), .ref (L 14), .ref (L 15), .ref (L 16), .ref (L 17), .int (nI (N 11)), .int (nI (N 15)), .int (nI (N 16)), .int (nI (N 17)), .int (nI (N 18) - 1), .int (nI (N 19)), .ref (L 24), .int (nI pp), .ref (L 26), .ref (L 27), .ref (if N 13 = 1 then L 27 else L 26), .ref (L 29), .ref (L 30), .ref (if N 12 = 1 then L 30 else L 29), .ref (L 32), .ref (B 0), .ref (B 1), .ref (B 2), .ref (B 3), .ref (L 37), .ref (L 38), .ref (L 39), .ref (B 4), .ref (B 5)]), L 0) := hu_s eh1943
                    have hF_1943 : Fr (CO L B) h h1943 := hu_f eh1943 hF_1942 ho0_1942 (Or.inl rfl)
                    have hcd : cd_fraction N x (nI v) (nI u) = 0 := by unfold cd_fraction; (repeat' split) <;> omega
                    have ha1_1942 : h1942 (L 1) = some (.inl (E.2.1 0, 8, .inl (f 1)), L 0) := hu_n eh1942 (hLay.1 1 0 (by decide) (by decide) (by decide)) ha1
                    have ha1_1943 : h1943 (L 1) = some (.inl (E.2.1 0, 8, .inl (f 1)), L 0) := hu_n eh1943 (hLay.1 1 0 (by decide) (by decide) (by decide)) ha1_1942
                    have ha3_1942 : h1942 (L 3) = some (.inl (E.2.1 0, 64, .inl (f 3)), L 0) := hu_n eh1942 (hLay.1 3 0 (by decide) (by decide) (by decide)) ha3
                    have ha3_1943 : h1943 (L 3) = some (.inl (E.2.1 0, 64, .inl (f 3)), L 0) := hu_n eh1943 (hLay.1 3 0 (by decide) (by decide) (by decide)) ha3_1942
                    have ha12_1942 : h1942 (L 12) = some (.inl (E.2.1 1, 20000, .inl (f 12)), L 0) := hu_n eh1942 (hLay.1 12 0 (by decide) (by decide) (by decide)) ha12
                    have ha12_1943 : h1943 (L 12) = some (.inl (E.2.1 1, 20000, .inl (f 12)), L 0) := hu_n eh1943 (hLay.1 12 0 (by decide) (by decide) (by decide)) ha12_1942
                    have ha13_1942 : h1942 (L 13) = some (.inl (E.2.1 1, 20000, .inl (f 13)), L 0) := hu_n eh1942 (hLay.1 13 0 (by decide) (by decide) (by decide)) ha13
                    have ha13_1943 : h1943 (L 13) = some (.inl (E.2.1 1, 20000, .inl (f 13)), L 0) := hu_n eh1943 (hLay.1 13 0 (by decide) (by decide) (by decide)) ha13_1942
                    have ha14_1942 : h1942 (L 14) = some (.inl (E.2.1 2, 20000, .inl (f 14)), L 0) := hu_n eh1942 (hLay.1 14 0 (by decide) (by decide) (by decide)) ha14
                    have ha14_1943 : h1943 (L 14) = some (.inl (E.2.1 2, 20000, .inl (f 14)), L 0) := hu_n eh1943 (hLay.1 14 0 (by decide) (by decide) (by decide)) ha14_1942
                    have ha15_1942 : h1942 (L 15) = some (.inl (E.2.1 3, 8, .inl (f 15)), L 0) := hu_n eh1942 (hLay.1 15 0 (by decide) (by decide) (by decide)) ha15
                    have ha15_1943 : h1943 (L 15) = some (.inl (E.2.1 3, 8, .inl (f 15)), L 0) := hu_n eh1943 (hLay.1 15 0 (by decide) (by decide) (by decide)) ha15_1942
                    have ha16_1942 : h1942 (L 16) = some (.inl (E.2.1 0, 8, .inl (f 16)), L 0) := hu_n eh1942 (hLay.1 16 0 (by decide) (by decide) (by decide)) ha16
                    have ha16_1943 : h1943 (L 16) = some (.inl (E.2.1 0, 8, .inl (f 16)), L 0) := hu_n eh1943 (hLay.1 16 0 (by decide) (by decide) (by decide)) ha16_1942
                    have ha17_1942 : h1942 (L 17) = some (.inl (E.2.1 0, 8, .inl (f 17)), L 0) := hu_n eh1942 (hLay.1 17 0 (by decide) (by decide) (by decide)) ha17
                    have ha17_1943 : h1943 (L 17) = some (.inl (E.2.1 0, 8, .inl (f 17)), L 0) := hu_n eh1943 (hLay.1 17 0 (by decide) (by decide) (by decide)) ha17_1942
                    have ha39_1942 : h1942 (L 39) = some (.inl (E.2.1 3, 961, .inl (f 39)), L 0) := hu_n eh1942 (hLay.1 39 0 (by decide) (by decide) (by decide)) ha39
                    have ha39_1943 : h1943 (L 39) = some (.inl (E.2.1 3, 961, .inl (f 39)), L 0) := hu_n eh1943 (hLay.1 39 0 (by decide) (by decide) (by decide)) ha39_1942
                    have hSt_1942 : Stt E L B h1942 := Stt.kept (O := (· = L 0)) (hu_f eh1942 Fr.rf ho0 rfl) (hLay.1 30 0 (by decide) (by decide) (by decide)) hSt
                    have hSt_1943 : Stt E L B h1943 := Stt.kept (O := (· = L 0)) (hu_f eh1943 Fr.rf ho0_1942 rfl) (hLay.1 30 0 (by decide) (by decide) (by decide)) hSt_1942
                    have hPr_1942 : Prs L B pw pl ps h1942 := Prs.kept (O := (· = L 0)) (hu_f eh1942 Fr.rf ho0 rfl) (hLay.1 24 0 (by decide) (by decide) (by decide)) hPr
                    have hPr_1943 : Prs L B pw pl ps h1943 := Prs.kept (O := (· = L 0)) (hu_f eh1943 Fr.rf ho0_1942 rfl) (hLay.1 24 0 (by decide) (by decide) (by decide)) hPr_1942
                    have hCn_1942 : Cns h1942 E L (nI1 (M 8)) (N 10) := Cns.kept (O := (· = L 0)) (hu_f eh1942 Fr.rf ho0 rfl) (hLay.1 26 0 (by decide) (by decide) (by decide)) hCn
                    have hCn_1943 : Cns h1943 E L (nI1 (M 8)) (N 10) := Cns.kept (O := (· = L 0)) (hu_f eh1943 Fr.rf ho0_1942 rfl) (hLay.1 26 0 (by decide) (by decide) (by decide)) hCn_1942
                    have hSd_1942 : Sds h1942 E L (nI1 (M 6)) (N 9) := Sds.kept (O := (· = L 0)) (hu_f eh1942 Fr.rf ho0 rfl) (hLay.1 27 0 (by decide) (by decide) (by decide)) hSd
                    have hSd_1943 : Sds h1943 E L (nI1 (M 6)) (N 9) := Sds.kept (O := (· = L 0)) (hu_f eh1943 Fr.rf ho0_1942 rfl) (hLay.1 27 0 (by decide) (by decide) (by decide)) hSd_1942
                    have hDg_1942 : Dgo h1942 E L rs := Dgo.kept (O := (· = L 0)) (hu_f eh1942 Fr.rf ho0 rfl) (hLay.1 62 0 (by decide) (by decide) (by decide)) hDg
                    have hDg_1943 : Dgo h1943 E L rs := Dgo.kept (O := (· = L 0)) (hu_f eh1943 Fr.rf ho0_1942 rfl) (hLay.1 62 0 (by decide) (by decide) (by decide)) hDg_1942
                    have hB_1942 : Bgs E h1942 B V cp := Bgs.kept (O := (· = L 0)) (hu_f eh1942 Fr.rf ho0 rfl) (fun i hi => hLay.2 i 0 hi (by decide)) hB
                    have hB_1943 : Bgs E h1943 B V cp := Bgs.kept (O := (· = L 0)) (hu_f eh1943 Fr.rf ho0_1942 rfl) (fun i hi => hLay.2 i 0 hi (by decide)) hB_1942
                    exact Z _ _ _ _ _ _ _ dX1_fraction_95 (Nat.zero_le _) (Nat.zero_le _) ⟨hcd, rfl, by unfold frN; rw [if_neg c69, tv, tu]; exact ⟨pp, f, rs, pw, pl, ps, V, ⟨ho0_1943, ha1_1943, ha3_1943, ha12_1943, ha13_1943, ha14_1943, ha15_1943, ha16_1943, ha17_1943, ha39_1943⟩, ⟨r1, r3, r12, r13, r14, fun z => absurd cS z, r16, r17, rp, rp16⟩, Vr_votes hVr cS, hSt_1943, hPr_1943, hCn_1943, hSd_1943, hDg_1943, hB_1943⟩, hF_1943, rfl, rfl⟩ T1943
                  · refine lv_aload_n hx hb dX1_fraction_72 rfl (lv_at hl 0 rfl) ?_
                    refine lv_iload_n hx hb dX1_fraction_73 rfl (lv_at hl 2 rfl) ?_
                    refine hr_put C T1941 ho0 rfl in_X1 tyX1 tyX1_ok nmX1 7 (by decide) q298 rfl rfl rfl rfl (Nat.le_of_ble_eq_true rfl) dX1_fraction_74 (fun h1944 H1944 locs1944 eh1944 T1944 => ?_)
                    have ho0_1944 : h1944 (L 0) = some (.inr (0, [.ref (L 1), .int (nI (N 0)), .ref (L 3), .int (nI (N 1)), .int (nI (N 2)), .int (nI (N 3)), .int (nI (N 4)), .int (nI v), .int (nI (N 6)), .int (nI (N 7)), .int (nI (N 8)), .ref (L 12), .ref (L 13), .ref (L 14), .ref (L 15), .ref (L 16), .ref (L 17), .int (nI (N 11)), .int (nI (N 15)), .int (nI (N 16)), .int (nI (N 17)), .int (nI (N 18) - 1), .int (nI (N 19)), .ref (L 24), .int (nI pp), .ref (L 26), .ref (L 27), .ref (if N 13 = 1 then L 27 else L 26), .ref (L 29), .ref (L 30), .ref (if N 12 = 1 then L 30 else L 29), .ref (L 32), .ref (B 0), .ref (B 1), .ref (B 2), .ref (B 3), .ref (L 37), .ref (L 38), .ref (L 39), .ref (B 4), .ref (B 5)]), L 0) := hu_s eh1944
                    have hF_1944 : Fr (CO L B) h h1944 := hu_f eh1944 hF ho0 (Or.inl rfl)
                    refine lv_aload_n hx hb dX1_fraction_77 rfl (lv_at hl 0 rfl) ?_
                    refine lv_iload_n hx hb dX1_fraction_78 rfl (lv_at hl 3 rfl) ?_
                    refine hr_put C T1944 ho0_1944 rfl in_X1 tyX1 tyX1_ok nmX1 8 (by decide) q301 rfl rfl rfl rfl (Nat.le_of_ble_eq_true rfl) dX1_fraction_79 (fun h1945 H1945 locs1945 eh1945 T1945 => ?_)
                    have ho0_1945 : h1945 (L 0) = some (.inr (0, [.ref (L 1), .int (nI (N 0)), .ref (L 3), .int (nI (N 1)), .int (nI (N 2)), .int (nI (N 3)), .int (nI (N 4)), .int (nI v), .int (nI u), .int (nI (N 7)), .int (nI (N 8)), .ref (L 12), .ref (L 13), .ref (L 14), .ref (L 15), .ref (L 16), .ref (L 17), .int (nI (N 11)), .int (nI (N 15)), .int (nI (N 16)), .int (nI (N 17)), .int (nI (N 18) - 1), .int (nI (N 19)), .ref (L 24), .int (nI pp), .ref (L 26), .ref (L 27), .ref (if N 13 = 1 then L 27 else L 26), .ref (L 29), .ref (L 30), .ref (if N 12 = 1 then L 30 else L 29), .ref (L 32), .ref (B 0), .ref (B 1), .ref (B 2), .ref (B 3), .ref (L 37), .ref (L 38), .ref (L 39), .ref (B 4), .ref (B 5)]), L 0) := hu_s eh1945
                    have hF_1945 : Fr (CO L B) h h1945 := hu_f eh1945 hF_1944 ho0_1944 (Or.inl rfl)
                    refine lv_goto (tgt := 95) hx hb dX1_fraction_82 (by decide) ?_
                    have hcd : cd_fraction N x (nI v) (nI u) = 0 := by unfold cd_fraction; (repeat' split) <;> omega
                    have ha1_1944 : h1944 (L 1) = some (.inl (E.2.1 0, 8, .inl (f 1)), L 0) := hu_n eh1944 (hLay.1 1 0 (by decide) (by decide) (by decide)) ha1
                    have ha1_1945 : h1945 (L 1) = some (.inl (E.2.1 0, 8, .inl (f 1)), L 0) := hu_n eh1945 (hLay.1 1 0 (by decide) (by decide) (by decide)) ha1_1944
                    have ha3_1944 : h1944 (L 3) = some (.inl (E.2.1 0, 64, .inl (f 3)), L 0) := hu_n eh1944 (hLay.1 3 0 (by decide) (by decide) (by decide)) ha3
                    have ha3_1945 : h1945 (L 3) = some (.inl (E.2.1 0, 64, .inl (f 3)), L 0) := hu_n eh1945 (hLay.1 3 0 (by decide) (by decide) (by decide)) ha3_1944
                    have ha12_1944 : h1944 (L 12) = some (.inl (E.2.1 1, 20000, .inl (f 12)), L 0) := hu_n eh1944 (hLay.1 12 0 (by decide) (by decide) (by decide)) ha12
                    have ha12_1945 : h1945 (L 12) = some (.inl (E.2.1 1, 20000, .inl (f 12)), L 0) := hu_n eh1945 (hLay.1 12 0 (by decide) (by decide) (by decide)) ha12_1944
                    have ha13_1944 : h1944 (L 13) = some (.inl (E.2.1 1, 20000, .inl (f 13)), L 0) := hu_n eh1944 (hLay.1 13 0 (by decide) (by decide) (by decide)) ha13
                    have ha13_1945 : h1945 (L 13) = some (.inl (E.2.1 1, 20000, .inl (f 13)), L 0) := hu_n eh1945 (hLay.1 13 0 (by decide) (by decide) (by decide)) ha13_1944
                    have ha14_1944 : h1944 (L 14) = some (.inl (E.2.1 2, 20000, .inl (f 14)), L 0) := hu_n eh1944 (hLay.1 14 0 (by decide) (by decide) (by decide)) ha14
                    have ha14_1945 : h1945 (L 14) = some (.inl (E.2.1 2, 20000, .inl (f 14)), L 0) := hu_n eh1945 (hLay.1 14 0 (by decide) (by decide) (by decide)) ha14_1944
                    have ha15_1944 : h1944 (L 15) = some (.inl (E.2.1 3, 8, .inl (f 15)), L 0) := hu_n eh1944 (hLay.1 15 0 (by decide) (by decide) (by decide)) ha15
                    have ha15_1945 : h1945 (L 15) = some (.inl (E.2.1 3, 8, .inl (f 15)), L 0) := hu_n eh1945 (hLay.1 15 0 (by decide) (by decide) (by decide)) ha15_1944
                    have ha16_1944 : h1944 (L 16) = some (.inl (E.2.1 0, 8, .inl (f 16)), L 0) := hu_n eh1944 (hLay.1 16 0 (by decide) (by decide) (by decide)) ha16
                    have ha16_1945 : h1945 (L 16) = some (.inl (E.2.1 0, 8, .inl (f 16)), L 0) := hu_n eh1945 (hLay.1 16 0 (by decide) (by decide) (by decide)) ha16_1944
                    have ha17_1944 : h1944 (L 17) = some (.inl (E.2.1 0, 8, .inl (f 17)), L 0) := hu_n eh1944 (hLay.1 17 0 (by decide) (by decide) (by decide)) ha17
                    have ha17_1945 : h1945 (L 17) = some (.inl (E.2.1 0, 8, .inl (f 17)), L 0) := hu_n eh1945 (hLay.1 17 0 (by decide) (by decide) (by decide)) ha17_1944
                    have ha39_1944 : h1944 (L 39) = some (.inl (E.2.1 3, 961, .inl (f 39)), L 0) := hu_n eh1944 (hLay.1 39 0 (by decide) (by decide) (by decide)) ha39
                    have ha39_1945 : h1945 (L 39) = some (.inl (E.2.1 3, 961, .inl (f 39)), L 0) := hu_n eh1945 (hLay.1 39 0 (by decide) (by decide) (by decide)) ha39_1944
                    have hSt_1944 : Stt E L B h1944 := Stt.kept (O := (· = L 0)) (hu_f eh1944 Fr.rf ho0 rfl) (hLay.1 30 0 (by decide) (by decide) (by decide)) hSt
                    have hSt_1945 : Stt E L B h1945 := Stt.kept (O := (· = L 0)) (hu_f eh1945 Fr.rf ho0_1944 rfl) (hLay.1 30 0 (by decide) (by decide) (by decide)) hSt_1944
                    have hPr_1944 : Prs L B pw pl ps h1944 := Prs.kept (O := (· = L 0)) (hu_f eh1944 Fr.rf ho0 rfl) (hLay.1 24 0 (by decide) (by decide) (by decide)) hPr
                    have hPr_1945 : Prs L B pw pl ps h1945 := Prs.kept (O := (· = L 0)) (hu_f eh1945 Fr.rf ho0_1944 rfl) (hLay.1 24 0 (by decide) (by decide) (by decide)) hPr_1944
                    have hCn_1944 : Cns h1944 E L (nI1 (M 8)) (N 10) := Cns.kept (O := (· = L 0)) (hu_f eh1944 Fr.rf ho0 rfl) (hLay.1 26 0 (by decide) (by decide) (by decide)) hCn
                    have hCn_1945 : Cns h1945 E L (nI1 (M 8)) (N 10) := Cns.kept (O := (· = L 0)) (hu_f eh1945 Fr.rf ho0_1944 rfl) (hLay.1 26 0 (by decide) (by decide) (by decide)) hCn_1944
                    have hSd_1944 : Sds h1944 E L (nI1 (M 6)) (N 9) := Sds.kept (O := (· = L 0)) (hu_f eh1944 Fr.rf ho0 rfl) (hLay.1 27 0 (by decide) (by decide) (by decide)) hSd
                    have hSd_1945 : Sds h1945 E L (nI1 (M 6)) (N 9) := Sds.kept (O := (· = L 0)) (hu_f eh1945 Fr.rf ho0_1944 rfl) (hLay.1 27 0 (by decide) (by decide) (by decide)) hSd_1944
                    have hDg_1944 : Dgo h1944 E L rs := Dgo.kept (O := (· = L 0)) (hu_f eh1944 Fr.rf ho0 rfl) (hLay.1 62 0 (by decide) (by decide) (by decide)) hDg
                    have hDg_1945 : Dgo h1945 E L rs := Dgo.kept (O := (· = L 0)) (hu_f eh1945 Fr.rf ho0_1944 rfl) (hLay.1 62 0 (by decide) (by decide) (by decide)) hDg_1944
                    have hB_1944 : Bgs E h1944 B V cp := Bgs.kept (O := (· = L 0)) (hu_f eh1944 Fr.rf ho0 rfl) (fun i hi => hLay.2 i 0 hi (by decide)) hB
                    have hB_1945 : Bgs E h1945 B V cp := Bgs.kept (O := (· = L 0)) (hu_f eh1945 Fr.rf ho0_1944 rfl) (fun i hi => hLay.2 i 0 hi (by decide)) hB_1944
                    exact Z _ _ _ _ _ _ _ dX1_fraction_95 (Nat.zero_le _) (Nat.zero_le _) ⟨hcd, rfl, by unfold frN; rw [if_pos c69, tv, tu]; exact ⟨pp, f, rs, pw, pl, ps, V, ⟨ho0_1945, ha1_1945, ha3_1945, ha12_1945, ha13_1945, ha14_1945, ha15_1945, ha16_1945, ha17_1945, ha39_1945⟩, ⟨r1, r3, r12, r13, r14, fun z => absurd cS z, r16, r17, rp, rp16⟩, Vr_votes hVr cS, hSt_1945, hPr_1945, hCn_1945, hSd_1945, hDg_1945, hB_1945⟩, hF_1945, rfl, rfl⟩ T1945
                · have hcd : cd_fraction N x (nI v) (nI u) = 3 := by unfold cd_fraction; (repeat' split) <;> omega
                  exact Y _ _ _ _ _ _ ((thr_V C T1940 hl.1 ho0 rfl (t_X1_setting hfl i11.1 cS ho0) q513 q515 qs3 q53 q516 kd_X1_setting rfl rfl ⟨Nat.le_of_ble_eq_true rfl, Nat.le_of_ble_eq_true rfl⟩ (Nat.le_of_ble_eq_true rfl) dX1_fraction_65 ⟨Nat.le_of_ble_eq_true rfl, Nat.le_of_ble_eq_true rfl⟩).on C T1940 hno ⟨Nat.le_of_ble_eq_true rfl, Nat.le_of_ble_eq_true rfl⟩ (fun h2 dc ds hp => by obtain ⟨rfl, rfl, rfl⟩ := hp; exact ⟨rfl, rfl, rfl, by rw [hcd]; exact ⟨by decide, rfl⟩⟩))
  · refine lv_iload_n hx hb dX1_fraction_4 rfl (lv_at hl 1 rfl) ?_
    refine lv_iconst (v := nI 1) hx hb dX1_fraction_5 rfl ?_
    refine zi_icmp_ne (tgt := 13) (X := (x).toInt) (Y := ((1 : Nat) : Int)) hx hb dX1_fraction_6 (by decide) rfl (nI_toInt (by omega)) (fun c6 => ?_) (fun c6 => ?_)
    · refine lv_iconst (v := nI 0) hx hb dX1_fraction_13 rfl ?_
      have hcd : cd_fraction N x y z = 1 := by unfold cd_fraction; (repeat' split) <;> omega
      exact Y _ _ _ _ _ _ ((thr_S C T hl.1 (t_X1_inside hfl) q593 q594 q53 q595 kd_X1_inside rfl rfl ⟨Nat.le_of_ble_eq_true rfl, Nat.le_of_ble_eq_true rfl⟩ (Nat.le_of_ble_eq_true rfl) dX1_fraction_14 ⟨Nat.le_of_ble_eq_true rfl, Nat.le_of_ble_eq_true rfl⟩).on C T hno ⟨Nat.le_of_ble_eq_true rfl, Nat.le_of_ble_eq_true rfl⟩ (fun h2 dc ds hp => by obtain ⟨rfl, rfl, rfl⟩ := hp; exact ⟨rfl, rfl, rfl, by rw [hcd]; exact ⟨by decide, rfl⟩⟩))
    · refine lv_iconst (v := nI 1) hx hb dX1_fraction_9 rfl ?_
      refine lv_goto (tgt := 14) hx hb dX1_fraction_10 (by decide) ?_
      refine hp_S C T hl.1 (p_X1_inside) q593 q594 q53 q595 kd_X1_inside rfl rfl ⟨Nat.le_of_ble_eq_true rfl, Nat.le_of_ble_eq_true rfl⟩ (Nat.le_of_ble_eq_true rfl) dX1_fraction_14 ⟨Nat.le_of_ble_eq_true rfl, Nat.le_of_ble_eq_true rfl⟩ (fun rv H1946 hp1946 T1946 => ?_)
      obtain rfl := hp1946
      refine W.eq (g2 := F0 m 17 ls []) rfl ?_
      refine lv_iload_n hx hb dX1_fraction_17 rfl (lv_at hl 2 rfl) ?_
      refine lv_iconst (v := nI 1) hx hb dX1_fraction_18 rfl ?_
      refine zi_icmp_lt (tgt := 60) (X := (y).toInt) (Y := ((1 : Nat) : Int)) hx hb dX1_fraction_19 (by decide) rfl (nI_toInt (by omega)) (fun c19 => ?_) (fun c19 => ?_)
      · refine lv_iconst (v := nI 0) hx hb dX1_fraction_60 rfl ?_
        have hcd : cd_fraction N x y z = 2 := by unfold cd_fraction; (repeat' split) <;> omega
        exact Y _ _ _ _ _ _ ((thr_S C T1946 hl.1 (t_X1_need hfl) q441 q442 q53 q443 kd_X1_need rfl rfl ⟨Nat.le_of_ble_eq_true rfl, Nat.le_of_ble_eq_true rfl⟩ (Nat.le_of_ble_eq_true rfl) dX1_fraction_61 ⟨Nat.le_of_ble_eq_true rfl, Nat.le_of_ble_eq_true rfl⟩).on C T1946 hno ⟨Nat.le_of_ble_eq_true rfl, Nat.le_of_ble_eq_true rfl⟩ (fun h2 dc ds hp => by obtain ⟨rfl, rfl, rfl⟩ := hp; exact ⟨rfl, rfl, rfl, by rw [hcd]; exact ⟨by decide, rfl⟩⟩))
      · refine lv_iload_n hx hb dX1_fraction_22 rfl (lv_at hl 2 rfl) ?_
        refine lv_ldc (v := nI 1000000) hx hb C.ow (C.ts _ q440) dX1_fraction_23 ?_
        refine zi_icmp_gt (tgt := 60) (X := (y).toInt) (Y := ((1000000 : Nat) : Int)) hx hb dX1_fraction_25 (by decide) rfl (nI_toInt (by omega)) (fun c25 => ?_) (fun c25 => ?_)
        · refine lv_iconst (v := nI 0) hx hb dX1_fraction_60 rfl ?_
          have hcd : cd_fraction N x y z = 2 := by unfold cd_fraction; (repeat' split) <;> omega
          exact Y _ _ _ _ _ _ ((thr_S C T1946 hl.1 (t_X1_need hfl) q441 q442 q53 q443 kd_X1_need rfl rfl ⟨Nat.le_of_ble_eq_true rfl, Nat.le_of_ble_eq_true rfl⟩ (Nat.le_of_ble_eq_true rfl) dX1_fraction_61 ⟨Nat.le_of_ble_eq_true rfl, Nat.le_of_ble_eq_true rfl⟩).on C T1946 hno ⟨Nat.le_of_ble_eq_true rfl, Nat.le_of_ble_eq_true rfl⟩ (fun h2 dc ds hp => by obtain ⟨rfl, rfl, rfl⟩ := hp; exact ⟨rfl, rfl, rfl, by rw [hcd]; exact ⟨by decide, rfl⟩⟩))
        · refine lv_iload_n hx hb dX1_fraction_28 rfl (lv_at hl 3 rfl) ?_
          refine lv_iconst (v := nI 1) hx hb dX1_fraction_29 rfl ?_
          refine zi_icmp_lt (tgt := 60) (X := (z).toInt) (Y := ((1 : Nat) : Int)) hx hb dX1_fraction_30 (by decide) rfl (nI_toInt (by omega)) (fun c30 => ?_) (fun c30 => ?_)
          · refine lv_iconst (v := nI 0) hx hb dX1_fraction_60 rfl ?_
            have hcd : cd_fraction N x y z = 2 := by unfold cd_fraction; (repeat' split) <;> omega
            exact Y _ _ _ _ _ _ ((thr_S C T1946 hl.1 (t_X1_need hfl) q441 q442 q53 q443 kd_X1_need rfl rfl ⟨Nat.le_of_ble_eq_true rfl, Nat.le_of_ble_eq_true rfl⟩ (Nat.le_of_ble_eq_true rfl) dX1_fraction_61 ⟨Nat.le_of_ble_eq_true rfl, Nat.le_of_ble_eq_true rfl⟩).on C T1946 hno ⟨Nat.le_of_ble_eq_true rfl, Nat.le_of_ble_eq_true rfl⟩ (fun h2 dc ds hp => by obtain ⟨rfl, rfl, rfl⟩ := hp; exact ⟨rfl, rfl, rfl, by rw [hcd]; exact ⟨by decide, rfl⟩⟩))
          · refine lv_iload_n hx hb dX1_fraction_33 rfl (lv_at hl 3 rfl) ?_
            refine lv_ldc (v := nI 1000000) hx hb C.ow (C.ts _ q440) dX1_fraction_34 ?_
            refine zi_icmp_gt (tgt := 60) (X := (z).toInt) (Y := ((1000000 : Nat) : Int)) hx hb dX1_fraction_36 (by decide) rfl (nI_toInt (by omega)) (fun c36 => ?_) (fun c36 => ?_)
            · refine lv_iconst (v := nI 0) hx hb dX1_fraction_60 rfl ?_
              have hcd : cd_fraction N x y z = 2 := by unfold cd_fraction; (repeat' split) <;> omega
              exact Y _ _ _ _ _ _ ((thr_S C T1946 hl.1 (t_X1_need hfl) q441 q442 q53 q443 kd_X1_need rfl rfl ⟨Nat.le_of_ble_eq_true rfl, Nat.le_of_ble_eq_true rfl⟩ (Nat.le_of_ble_eq_true rfl) dX1_fraction_61 ⟨Nat.le_of_ble_eq_true rfl, Nat.le_of_ble_eq_true rfl⟩).on C T1946 hno ⟨Nat.le_of_ble_eq_true rfl, Nat.le_of_ble_eq_true rfl⟩ (fun h2 dc ds hp => by obtain ⟨rfl, rfl, rfl⟩ := hp; exact ⟨rfl, rfl, rfl, by rw [hcd]; exact ⟨by decide, rfl⟩⟩))
            · refine lv_iload_n hx hb dX1_fraction_39 rfl (lv_at hl 1 rfl) ?_
              refine zi_if_ne (tgt := 51) (X := (x).toInt) hx hb dX1_fraction_40 (by decide) rfl (fun c40 => ?_) (fun c40 => ?_)
              · refine lv_iload_n hx hb dX1_fraction_51 rfl (lv_at hl 2 rfl) ?_
                refine lv_iload_n hx hb dX1_fraction_52 rfl (lv_at hl 3 rfl) ?_
                refine zi_icmp_le (tgt := 60) (X := (y).toInt) (Y := (z).toInt) hx hb dX1_fraction_53 (by decide) rfl rfl (fun c53 => ?_) (fun c53 => ?_)
                · refine lv_iconst (v := nI 0) hx hb dX1_fraction_60 rfl ?_
                  have hcd : cd_fraction N x y z = 2 := by unfold cd_fraction; (repeat' split) <;> omega
                  exact Y _ _ _ _ _ _ ((thr_S C T1946 hl.1 (t_X1_need hfl) q441 q442 q53 q443 kd_X1_need rfl rfl ⟨Nat.le_of_ble_eq_true rfl, Nat.le_of_ble_eq_true rfl⟩ (Nat.le_of_ble_eq_true rfl) dX1_fraction_61 ⟨Nat.le_of_ble_eq_true rfl, Nat.le_of_ble_eq_true rfl⟩).on C T1946 hno ⟨Nat.le_of_ble_eq_true rfl, Nat.le_of_ble_eq_true rfl⟩ (fun h2 dc ds hp => by obtain ⟨rfl, rfl, rfl⟩ := hp; exact ⟨rfl, rfl, rfl, by rw [hcd]; exact ⟨by decide, rfl⟩⟩))
                · refine lv_iconst (v := nI 1) hx hb dX1_fraction_56 rfl ?_
                  refine lv_goto (tgt := 61) hx hb dX1_fraction_57 (by decide) ?_
                  refine hp_S C T1946 hl.1 (p_X1_need) q441 q442 q53 q443 kd_X1_need rfl rfl ⟨Nat.le_of_ble_eq_true rfl, Nat.le_of_ble_eq_true rfl⟩ (Nat.le_of_ble_eq_true rfl) dX1_fraction_61 ⟨Nat.le_of_ble_eq_true rfl, Nat.le_of_ble_eq_true rfl⟩ (fun rv H1947 hp1947 T1947 => ?_)
                  obtain rfl := hp1947
                  refine W.eq (g2 := F0 m 64 ls []) rfl ?_
                  obtain ⟨v, hv, rfl⟩ := nat_of (x := y) (by omega)
                  have ev := nI_toInt hv
                  have tv : (nI v).toInt.toNat = v := by rw [ev]; rfl
                  obtain ⟨u, hu, rfl⟩ := nat_of (x := z) (by omega)
                  have eu := nI_toInt hu
                  have tu : (nI u).toInt.toNat = u := by rw [eu]; rfl
                  refine lv_aload_n hx hb dX1_fraction_64 rfl (lv_at hl 0 rfl) ?_
                  by_cases cS : N 11 = 0
                  · refine hp_V C T1947 hl.1 ho0 rfl (p_X1_setting i11.1 cS ho0) q513 q515 qs3 q53 q516 kd_X1_setting rfl rfl ⟨Nat.le_of_ble_eq_true rfl, Nat.le_of_ble_eq_true rfl⟩ (Nat.le_of_ble_eq_true rfl) dX1_fraction_65 ⟨Nat.le_of_ble_eq_true rfl, Nat.le_of_ble_eq_true rfl⟩ (fun rv H1948 hp1948 T1948 => ?_)
                    obtain rfl := hp1948
                    refine W.eq (g2 := F0 m 68 ls []) rfl ?_
                    refine lv_iload_n hx hb dX1_fraction_68 rfl (lv_at hl 1 rfl) ?_
                    refine zi_if_ne (tgt := 85) (X := (x).toInt) hx hb dX1_fraction_69 (by decide) rfl (fun c69 => ?_) (fun c69 => ?_)
                    · refine lv_aload_n hx hb dX1_fraction_85 rfl (lv_at hl 0 rfl) ?_
                      refine lv_iload_n hx hb dX1_fraction_86 rfl (lv_at hl 2 rfl) ?_
                      refine hr_put C T1948 ho0 rfl in_X1 tyX1 tyX1_ok nmX1 9 (by decide) q303 rfl rfl rfl rfl (Nat.le_of_ble_eq_true rfl) dX1_fraction_87 (fun h1949 H1949 locs1949 eh1949 T1949 => ?_)
                      have ho0_1949 : h1949 (L 0) = some (.inr (0, [.ref (L 1), .int (nI (N 0)), .ref (L 3), .int (nI (N 1)), .int (nI (N 2)), .int (nI (N 3)), .int (nI (N 4)), .int (nI (N 5)), .int (nI (N 6)), .int (nI v), .int (nI (N 8)), .ref (L 12), .ref (L 13), .ref (L 14), .ref (L 15), .ref (L 16), .ref (L 17), .int (nI (N 11)), .int (nI (N 15)), .int (nI (N 16)), .int (nI (N 17)), .int (nI (N 18) - 1), .int (nI (N 19)), .ref (L 24), .int (nI pp), .ref (L 26), .ref (L 27), .ref (if N 13 = 1 then L 27 else L 26), .ref (L 29), .ref (L 30), .ref (if N 12 = 1 then L 30 else L 29), .ref (L 32), .ref (B 0), .ref (B 1), .ref (B 2), .ref (B 3), .ref (L 37), .ref (L 38), .ref (L 39), .ref (B 4), .ref (B 5)]), L 0) := hu_s eh1949
                      have hF_1949 : Fr (CO L B) h h1949 := hu_f eh1949 hF ho0 (Or.inl rfl)
                      refine lv_aload_n hx hb dX1_fraction_90 rfl (lv_at hl 0 rfl) ?_
                      refine lv_iload_n hx hb dX1_fraction_91 rfl (lv_at hl 3 rfl) ?_
                      refine hr_put C T1949 ho0_1949 rfl in_X1 tyX1 tyX1_ok nmX1 10 (by decide) q305 rfl rfl rfl rfl (Nat.le_of_ble_eq_true rfl) dX1_fraction_92 (fun h1950 H1950 locs1950 eh1950 T1950 => ?_)
                      have ho0_1950 : h1950 (L 0) = some (.inr (0, [.ref (L 1), .int (nI (N 0)), .ref (L 3), .int (nI (N 1)), .int (nI (N 2)), .int (nI (N 3)), .int (nI (N 4)), .int (nI (N 5)), .int (nI (N 6)), .int (nI v), .int (nI u), .ref (L 12), .ref (L 13), .ref (L 14), .ref (L 15), .ref (L 16), .ref (L 17), .int (nI (N 11)), .int (nI (N 15)), .int (nI (N 16)), .int (nI (N 17)), .int (nI (N 18) - 1), .int (nI (N 19)), .ref (L 24), .int (nI pp), .ref (L 26), .ref (L 27), .ref (if N 13 = 1 then L 27 else L 26), .ref (L 29), .ref (L 30), .ref (if N 12 = 1 then L 30 else L 29), .ref (L 32), .ref (B 0), .ref (B 1), .ref (B 2), .ref (B 3), .ref (L 37), .ref (L 38), .ref (L 39), .ref (B 4), .ref (B 5)]), L 0) := hu_s eh1950
                      have hF_1950 : Fr (CO L B) h h1950 := hu_f eh1950 hF_1949 ho0_1949 (Or.inl rfl)
                      have hcd : cd_fraction N x (nI v) (nI u) = 0 := by unfold cd_fraction; (repeat' split) <;> omega
                      have ha1_1949 : h1949 (L 1) = some (.inl (E.2.1 0, 8, .inl (f 1)), L 0) := hu_n eh1949 (hLay.1 1 0 (by decide) (by decide) (by decide)) ha1
                      have ha1_1950 : h1950 (L 1) = some (.inl (E.2.1 0, 8, .inl (f 1)), L 0) := hu_n eh1950 (hLay.1 1 0 (by decide) (by decide) (by decide)) ha1_1949
                      have ha3_1949 : h1949 (L 3) = some (.inl (E.2.1 0, 64, .inl (f 3)), L 0) := hu_n eh1949 (hLay.1 3 0 (by decide) (by decide) (by decide)) ha3
                      have ha3_1950 : h1950 (L 3) = some (.inl (E.2.1 0, 64, .inl (f 3)), L 0) := hu_n eh1950 (hLay.1 3 0 (by decide) (by decide) (by decide)) ha3_1949
                      have ha12_1949 : h1949 (L 12) = some (.inl (E.2.1 1, 20000, .inl (f 12)), L 0) := hu_n eh1949 (hLay.1 12 0 (by decide) (by decide) (by decide)) ha12
                      have ha12_1950 : h1950 (L 12) = some (.inl (E.2.1 1, 20000, .inl (f 12)), L 0) := hu_n eh1950 (hLay.1 12 0 (by decide) (by decide) (by decide)) ha12_1949
                      have ha13_1949 : h1949 (L 13) = some (.inl (E.2.1 1, 20000, .inl (f 13)), L 0) := hu_n eh1949 (hLay.1 13 0 (by decide) (by decide) (by decide)) ha13
                      have ha13_1950 : h1950 (L 13) = some (.inl (E.2.1 1, 20000, .inl (f 13)), L 0) := hu_n eh1950 (hLay.1 13 0 (by decide) (by decide) (by decide)) ha13_1949
                      have ha14_1949 : h1949 (L 14) = some (.inl (E.2.1 2, 20000, .inl (f 14)), L 0) := hu_n eh1949 (hLay.1 14 0 (by decide) (by decide) (by decide)) ha14
                      have ha14_1950 : h1950 (L 14) = some (.inl (E.2.1 2, 20000, .inl (f 14)), L 0) := hu_n eh1950 (hLay.1 14 0 (by decide) (by decide) (by decide)) ha14_1949
                      have ha15_1949 : h1949 (L 15) = some (.inl (E.2.1 3, 8, .inl (f 15)), L 0) := hu_n eh1949 (hLay.1 15 0 (by decide) (by decide) (by decide)) ha15
                      have ha15_1950 : h1950 (L 15) = some (.inl (E.2.1 3, 8, .inl (f 15)), L 0) := hu_n eh1950 (hLay.1 15 0 (by decide) (by decide) (by decide)) ha15_1949
                      have ha16_1949 : h1949 (L 16) = some (.inl (E.2.1 0, 8, .inl (f 16)), L 0) := hu_n eh1949 (hLay.1 16 0 (by decide) (by decide) (by decide)) ha16
                      have ha16_1950 : h1950 (L 16) = some (.inl (E.2.1 0, 8, .inl (f 16)), L 0) := hu_n eh1950 (hLay.1 16 0 (by decide) (by decide) (by decide)) ha16_1949
                      have ha17_1949 : h1949 (L 17) = some (.inl (E.2.1 0, 8, .inl (f 17)), L 0) := hu_n eh1949 (hLay.1 17 0 (by decide) (by decide) (by decide)) ha17
                      have ha17_1950 : h1950 (L 17) = some (.inl (E.2.1 0, 8, .inl (f 17)), L 0) := hu_n eh1950 (hLay.1 17 0 (by decide) (by decide) (by decide)) ha17_1949
                      have ha39_1949 : h1949 (L 39) = some (.inl (E.2.1 3, 961, .inl (f 39)), L 0) := hu_n eh1949 (hLay.1 39 0 (by decide) (by decide) (by decide)) ha39
                      have ha39_1950 : h1950 (L 39) = some (.inl (E.2.1 3, 961, .inl (f 39)), L 0) := hu_n eh1950 (hLay.1 39 0 (by decide) (by decide) (by decide)) ha39_1949
                      have hSt_1949 : Stt E L B h1949 := Stt.kept (O := (· = L 0)) (hu_f eh1949 Fr.rf ho0 rfl) (hLay.1 30 0 (by decide) (by decide) (by decide)) hSt
                      have hSt_1950 : Stt E L B h1950 := Stt.kept (O := (· = L 0)) (hu_f eh1950 Fr.rf ho0_1949 rfl) (hLay.1 30 0 (by decide) (by decide) (by decide)) hSt_1949
                      have hPr_1949 : Prs L B pw pl ps h1949 := Prs.kept (O := (· = L 0)) (hu_f eh1949 Fr.rf ho0 rfl) (hLay.1 24 0 (by decide) (by decide) (by decide)) hPr
                      have hPr_1950 : Prs L B pw pl ps h1950 := Prs.kept (O := (· = L 0)) (hu_f eh1950 Fr.rf ho0_1949 rfl) (hLay.1 24 0 (by decide) (by decide) (by decide)) hPr_1949
                      have hCn_1949 : Cns h1949 E L (nI1 (M 8)) (N 10) := Cns.kept (O := (· = L 0)) (hu_f eh1949 Fr.rf ho0 rfl) (hLay.1 26 0 (by decide) (by decide) (by decide)) hCn
                      have hCn_1950 : Cns h1950 E L (nI1 (M 8)) (N 10) := Cns.kept (O := (· = L 0)) (hu_f eh1950 Fr.rf ho0_1949 rfl) (hLay.1 26 0 (by decide) (by decide) (by decide)) hCn_1949
                      have hSd_1949 : Sds h1949 E L (nI1 (M 6)) (N 9) := Sds.kept (O := (· = L 0)) (hu_f eh1949 Fr.rf ho0 rfl) (hLay.1 27 0 (by decide) (by decide) (by decide)) hSd
                      have hSd_1950 : Sds h1950 E L (nI1 (M 6)) (N 9) := Sds.kept (O := (· = L 0)) (hu_f eh1950 Fr.rf ho0_1949 rfl) (hLay.1 27 0 (by decide) (by decide) (by decide)) hSd_1949
                      have hDg_1949 : Dgo h1949 E L rs := Dgo.kept (O := (· = L 0)) (hu_f eh1949 Fr.rf ho0 rfl) (hLay.1 62 0 (by decide) (by decide) (by decide)) hDg
                      have hDg_1950 : Dgo h1950 E L rs := Dgo.kept (O := (· = L 0)) (hu_f eh1950 Fr.rf ho0_1949 rfl) (hLay.1 62 0 (by decide) (by decide) (by decide)) hDg_1949
                      have hB_1949 : Bgs E h1949 B V cp := Bgs.kept (O := (· = L 0)) (hu_f eh1949 Fr.rf ho0 rfl) (fun i hi => hLay.2 i 0 hi (by decide)) hB
                      have hB_1950 : Bgs E h1950 B V cp := Bgs.kept (O := (· = L 0)) (hu_f eh1950 Fr.rf ho0_1949 rfl) (fun i hi => hLay.2 i 0 hi (by decide)) hB_1949
                      exact Z _ _ _ _ _ _ _ dX1_fraction_95 (Nat.zero_le _) (Nat.zero_le _) ⟨hcd, rfl, by unfold frN; rw [if_neg c69, tv, tu]; exact ⟨pp, f, rs, pw, pl, ps, V, ⟨ho0_1950, ha1_1950, ha3_1950, ha12_1950, ha13_1950, ha14_1950, ha15_1950, ha16_1950, ha17_1950, ha39_1950⟩, ⟨r1, r3, r12, r13, r14, fun z => absurd cS z, r16, r17, rp, rp16⟩, Vr_votes hVr cS, hSt_1950, hPr_1950, hCn_1950, hSd_1950, hDg_1950, hB_1950⟩, hF_1950, rfl, rfl⟩ T1950
                    · refine lv_aload_n hx hb dX1_fraction_72 rfl (lv_at hl 0 rfl) ?_
                      refine lv_iload_n hx hb dX1_fraction_73 rfl (lv_at hl 2 rfl) ?_
                      refine hr_put C T1948 ho0 rfl in_X1 tyX1 tyX1_ok nmX1 7 (by decide) q298 rfl rfl rfl rfl (Nat.le_of_ble_eq_true rfl) dX1_fraction_74 (fun h1951 H1951 locs1951 eh1951 T1951 => ?_)
                      have ho0_1951 : h1951 (L 0) = some (.inr (0, [.ref (L 1), .int (nI (N 0)), .ref (L 3), .int (nI (N 1)), .int (nI (N 2)), .int (nI (N 3)), .int (nI (N 4)), .int (nI v), .int (nI (N 6)), .int (nI (N 7)), .int (nI (N 8)), .ref (L 12), .ref (L 13), .ref (L 14), .ref (L 15), .ref (L 16), .ref (L 17), .int (nI (N 11)), .int (nI (N 15)), .int (nI (N 16)), .int (nI (N 17)), .int (nI (N 18) - 1), .int (nI (N 19)), .ref (L 24), .int (nI pp), .ref (L 26), .ref (L 27), .ref (if N 13 = 1 then L 27 else L 26), .ref (L 29), .ref (L 30), .ref (if N 12 = 1 then L 30 else L 29), .ref (L 32), .ref (B 0), .ref (B 1), .ref (B 2), .ref (B 3), .ref (L 37), .ref (L 38), .ref (L 39), .ref (B 4), .ref (B 5)]), L 0) := hu_s eh1951
                      have hF_1951 : Fr (CO L B) h h1951 := hu_f eh1951 hF ho0 (Or.inl rfl)
                      refine lv_aload_n hx hb dX1_fraction_77 rfl (lv_at hl 0 rfl) ?_
                      refine lv_iload_n hx hb dX1_fraction_78 rfl (lv_at hl 3 rfl) ?_
                      refine hr_put C T1951 ho0_1951 rfl in_X1 tyX1 tyX1_ok nmX1 8 (by decide) q301 rfl rfl rfl rfl (Nat.le_of_ble_eq_true rfl) dX1_fraction_79 (fun h1952 H1952 locs1952 eh1952 T1952 => ?_)
                      have ho0_1952 : h1952 (L 0) = some (.inr (0, [.ref (L 1), .int (nI (N 0)), .ref (L 3), .int (nI (N 1)), .int (nI (N 2)), .int (nI (N 3)), .int (nI (N 4)), .int (nI v), .int (nI u), .int (nI (N 7)), .int (nI (N 8)), .ref (L 12), .ref (L 13), .ref (L 14), .ref (L 15), .ref (L 16), .ref (L 17), .int (nI (N 11)), .int (nI (N 15)), .int (nI (N 16)), .int (nI (N 17)), .int (nI (N 18) - 1), .int (nI (N 19)), .ref (L 24), .int (nI pp), .ref (L 26), .ref (L 27), .ref (if N 13 = 1 then L 27 else L 26), .ref (L 29), .ref (L 30), .ref (if N 12 = 1 then L 30 else L 29), .ref (L 32), .ref (B 0), .ref (B 1), .ref (B 2), .ref (B 3), .ref (L 37), .ref (L 38), .ref (L 39), .ref (B 4), .ref (B 5)]), L 0) := hu_s eh1952
                      have hF_1952 : Fr (CO L B) h h1952 := hu_f eh1952 hF_1951 ho0_1951 (Or.inl rfl)
                      refine lv_goto (tgt := 95) hx hb dX1_fraction_82 (by decide) ?_
                      have hcd : cd_fraction N x (nI v) (nI u) = 0 := by unfold cd_fraction; (repeat' split) <;> omega
                      have ha1_1951 : h1951 (L 1) = some (.inl (E.2.1 0, 8, .inl (f 1)), L 0) := hu_n eh1951 (hLay.1 1 0 (by decide) (by decide) (by decide)) ha1
                      have ha1_1952 : h1952 (L 1) = some (.inl (E.2.1 0, 8, .inl (f 1)), L 0) := hu_n eh1952 (hLay.1 1 0 (by decide) (by decide) (by decide)) ha1_1951
                      have ha3_1951 : h1951 (L 3) = some (.inl (E.2.1 0, 64, .inl (f 3)), L 0) := hu_n eh1951 (hLay.1 3 0 (by decide) (by decide) (by decide)) ha3
                      have ha3_1952 : h1952 (L 3) = some (.inl (E.2.1 0, 64, .inl (f 3)), L 0) := hu_n eh1952 (hLay.1 3 0 (by decide) (by decide) (by decide)) ha3_1951
                      have ha12_1951 : h1951 (L 12) = some (.inl (E.2.1 1, 20000, .inl (f 12)), L 0) := hu_n eh1951 (hLay.1 12 0 (by decide) (by decide) (by decide)) ha12
                      have ha12_1952 : h1952 (L 12) = some (.inl (E.2.1 1, 20000, .inl (f 12)), L 0) := hu_n eh1952 (hLay.1 12 0 (by decide) (by decide) (by decide)) ha12_1951
                      have ha13_1951 : h1951 (L 13) = some (.inl (E.2.1 1, 20000, .inl (f 13)), L 0) := hu_n eh1951 (hLay.1 13 0 (by decide) (by decide) (by decide)) ha13
                      have ha13_1952 : h1952 (L 13) = some (.inl (E.2.1 1, 20000, .inl (f 13)), L 0) := hu_n eh1952 (hLay.1 13 0 (by decide) (by decide) (by decide)) ha13_1951
                      have ha14_1951 : h1951 (L 14) = some (.inl (E.2.1 2, 20000, .inl (f 14)), L 0) := hu_n eh1951 (hLay.1 14 0 (by decide) (by decide) (by decide)) ha14
                      have ha14_1952 : h1952 (L 14) = some (.inl (E.2.1 2, 20000, .inl (f 14)), L 0) := hu_n eh1952 (hLay.1 14 0 (by decide) (by decide) (by decide)) ha14_1951
                      have ha15_1951 : h1951 (L 15) = some (.inl (E.2.1 3, 8, .inl (f 15)), L 0) := hu_n eh1951 (hLay.1 15 0 (by decide) (by decide) (by decide)) ha15
                      have ha15_1952 : h1952 (L 15) = some (.inl (E.2.1 3, 8, .inl (f 15)), L 0) := hu_n eh1952 (hLay.1 15 0 (by decide) (by decide) (by decide)) ha15_1951
                      have ha16_1951 : h1951 (L 16) = some (.inl (E.2.1 0, 8, .inl (f 16)), L 0) := hu_n eh1951 (hLay.1 16 0 (by decide) (by decide) (by decide)) ha16
                      have ha16_1952 : h1952 (L 16) = some (.inl (E.2.1 0, 8, .inl (f 16)), L 0) := hu_n eh1952 (hLay.1 16 0 (by decide) (by decide) (by decide)) ha16_1951
                      have ha17_1951 : h1951 (L 17) = some (.inl (E.2.1 0, 8, .inl (f 17)), L 0) := hu_n eh1951 (hLay.1 17 0 (by decide) (by decide) (by decide)) ha17
                      have ha17_1952 : h1952 (L 17) = some (.inl (E.2.1 0, 8, .inl (f 17)), L 0) := hu_n eh1952 (hLay.1 17 0 (by decide) (by decide) (by decide)) ha17_1951
                      have ha39_1951 : h1951 (L 39) = some (.inl (E.2.1 3, 961, .inl (f 39)), L 0) := hu_n eh1951 (hLay.1 39 0 (by decide) (by decide) (by decide)) ha39
                      have ha39_1952 : h1952 (L 39) = some (.inl (E.2.1 3, 961, .inl (f 39)), L 0) := hu_n eh1952 (hLay.1 39 0 (by decide) (by decide) (by decide)) ha39_1951
                      have hSt_1951 : Stt E L B h1951 := Stt.kept (O := (· = L 0)) (hu_f eh1951 Fr.rf ho0 rfl) (hLay.1 30 0 (by decide) (by decide) (by decide)) hSt
                      have hSt_1952 : Stt E L B h1952 := Stt.kept (O := (· = L 0)) (hu_f eh1952 Fr.rf ho0_1951 rfl) (hLay.1 30 0 (by decide) (by decide) (by decide)) hSt_1951
                      have hPr_1951 : Prs L B pw pl ps h1951 := Prs.kept (O := (· = L 0)) (hu_f eh1951 Fr.rf ho0 rfl) (hLay.1 24 0 (by decide) (by decide) (by decide)) hPr
                      have hPr_1952 : Prs L B pw pl ps h1952 := Prs.kept (O := (· = L 0)) (hu_f eh1952 Fr.rf ho0_1951 rfl) (hLay.1 24 0 (by decide) (by decide) (by decide)) hPr_1951
                      have hCn_1951 : Cns h1951 E L (nI1 (M 8)) (N 10) := Cns.kept (O := (· = L 0)) (hu_f eh1951 Fr.rf ho0 rfl) (hLay.1 26 0 (by decide) (by decide) (by decide)) hCn
                      have hCn_1952 : Cns h1952 E L (nI1 (M 8)) (N 10) := Cns.kept (O := (· = L 0)) (hu_f eh1952 Fr.rf ho0_1951 rfl) (hLay.1 26 0 (by decide) (by decide) (by decide)) hCn_1951
                      have hSd_1951 : Sds h1951 E L (nI1 (M 6)) (N 9) := Sds.kept (O := (· = L 0)) (hu_f eh1951 Fr.rf ho0 rfl) (hLay.1 27 0 (by decide) (by decide) (by decide)) hSd
                      have hSd_1952 : Sds h1952 E L (nI1 (M 6)) (N 9) := Sds.kept (O := (· = L 0)) (hu_f eh1952 Fr.rf ho0_1951 rfl) (hLay.1 27 0 (by decide) (by decide) (by decide)) hSd_1951
                      have hDg_1951 : Dgo h1951 E L rs := Dgo.kept (O := (· = L 0)) (hu_f eh1951 Fr.rf ho0 rfl) (hLay.1 62 0 (by decide) (by decide) (by decide)) hDg
                      have hDg_1952 : Dgo h1952 E L rs := Dgo.kept (O := (· = L 0)) (hu_f eh1952 Fr.rf ho0_1951 rfl) (hLay.1 62 0 (by decide) (by decide) (by decide)) hDg_1951
                      have hB_1951 : Bgs E h1951 B V cp := Bgs.kept (O := (· = L 0)) (hu_f eh1951 Fr.rf ho0 rfl) (fun i hi => hLay.2 i 0 hi (by decide)) hB
                      have hB_1952 : Bgs E h1952 B V cp := Bgs.kept (O := (· = L 0)) (hu_f eh1952 Fr.rf ho0_1951 rfl) (fun i hi => hLay.2 i 0 hi (by decide)) hB_1951
                      exact Z _ _ _ _ _ _ _ dX1_fraction_95 (Nat.zero_le _) (Nat.zero_le _) ⟨hcd, rfl, by unfold frN; rw [if_pos c69, tv, tu]; exact ⟨pp, f, rs, pw, pl, ps, V, ⟨ho0_1952, ha1_1952, ha3_1952, ha12_1952, ha13_1952, ha14_1952, ha15_1952, ha16_1952, ha17_1952, ha39_1952⟩, ⟨r1, r3, r12, r13, r14, fun z => absurd cS z, r16, r17, rp, rp16⟩, Vr_votes hVr cS, hSt_1952, hPr_1952, hCn_1952, hSd_1952, hDg_1952, hB_1952⟩, hF_1952, rfl, rfl⟩ T1952
                  · have hcd : cd_fraction N x (nI v) (nI u) = 3 := by unfold cd_fraction; (repeat' split) <;> omega
                    exact Y _ _ _ _ _ _ ((thr_V C T1947 hl.1 ho0 rfl (t_X1_setting hfl i11.1 cS ho0) q513 q515 qs3 q53 q516 kd_X1_setting rfl rfl ⟨Nat.le_of_ble_eq_true rfl, Nat.le_of_ble_eq_true rfl⟩ (Nat.le_of_ble_eq_true rfl) dX1_fraction_65 ⟨Nat.le_of_ble_eq_true rfl, Nat.le_of_ble_eq_true rfl⟩).on C T1947 hno ⟨Nat.le_of_ble_eq_true rfl, Nat.le_of_ble_eq_true rfl⟩ (fun h2 dc ds hp => by obtain ⟨rfl, rfl, rfl⟩ := hp; exact ⟨rfl, rfl, rfl, by rw [hcd]; exact ⟨by decide, rfl⟩⟩))
              · refine lv_iload_n hx hb dX1_fraction_43 rfl (lv_at hl 2 rfl) ?_
                refine lv_iload_n hx hb dX1_fraction_44 rfl (lv_at hl 3 rfl) ?_
                refine zi_icmp_ge (tgt := 60) (X := (y).toInt) (Y := (z).toInt) hx hb dX1_fraction_45 (by decide) rfl rfl (fun c45 => ?_) (fun c45 => ?_)
                · refine lv_iconst (v := nI 0) hx hb dX1_fraction_60 rfl ?_
                  have hcd : cd_fraction N x y z = 2 := by unfold cd_fraction; (repeat' split) <;> omega
                  exact Y _ _ _ _ _ _ ((thr_S C T1946 hl.1 (t_X1_need hfl) q441 q442 q53 q443 kd_X1_need rfl rfl ⟨Nat.le_of_ble_eq_true rfl, Nat.le_of_ble_eq_true rfl⟩ (Nat.le_of_ble_eq_true rfl) dX1_fraction_61 ⟨Nat.le_of_ble_eq_true rfl, Nat.le_of_ble_eq_true rfl⟩).on C T1946 hno ⟨Nat.le_of_ble_eq_true rfl, Nat.le_of_ble_eq_true rfl⟩ (fun h2 dc ds hp => by obtain ⟨rfl, rfl, rfl⟩ := hp; exact ⟨rfl, rfl, rfl, by rw [hcd]; exact ⟨by decide, rfl⟩⟩))
                · refine lv_goto (tgt := 56) hx hb dX1_fraction_48 (by decide) ?_
                  refine lv_iconst (v := nI 1) hx hb dX1_fraction_56 rfl ?_
                  refine lv_goto (tgt := 61) hx hb dX1_fraction_57 (by decide) ?_
                  refine hp_S C T1946 hl.1 (p_X1_need) q441 q442 q53 q443 kd_X1_need rfl rfl ⟨Nat.le_of_ble_eq_true rfl, Nat.le_of_ble_eq_true rfl⟩ (Nat.le_of_ble_eq_true rfl) dX1_fraction_61 ⟨Nat.le_of_ble_eq_true rfl, Nat.le_of_ble_eq_true rfl⟩ (fun rv H1953 hp1953 T1953 => ?_)
                  obtain rfl := hp1953
                  refine W.eq (g2 := F0 m 64 ls []) rfl ?_
                  obtain ⟨v, hv, rfl⟩ := nat_of (x := y) (by omega)
                  have ev := nI_toInt hv
                  have tv : (nI v).toInt.toNat = v := by rw [ev]; rfl
                  obtain ⟨u, hu, rfl⟩ := nat_of (x := z) (by omega)
                  have eu := nI_toInt hu
                  have tu : (nI u).toInt.toNat = u := by rw [eu]; rfl
                  refine lv_aload_n hx hb dX1_fraction_64 rfl (lv_at hl 0 rfl) ?_
                  by_cases cS : N 11 = 0
                  · refine hp_V C T1953 hl.1 ho0 rfl (p_X1_setting i11.1 cS ho0) q513 q515 qs3 q53 q516 kd_X1_setting rfl rfl ⟨Nat.le_of_ble_eq_true rfl, Nat.le_of_ble_eq_true rfl⟩ (Nat.le_of_ble_eq_true rfl) dX1_fraction_65 ⟨Nat.le_of_ble_eq_true rfl, Nat.le_of_ble_eq_true rfl⟩ (fun rv H1954 hp1954 T1954 => ?_)
                    obtain rfl := hp1954
                    refine W.eq (g2 := F0 m 68 ls []) rfl ?_
                    refine lv_iload_n hx hb dX1_fraction_68 rfl (lv_at hl 1 rfl) ?_
                    refine zi_if_ne (tgt := 85) (X := (x).toInt) hx hb dX1_fraction_69 (by decide) rfl (fun c69 => ?_) (fun c69 => ?_)
                    · refine lv_aload_n hx hb dX1_fraction_85 rfl (lv_at hl 0 rfl) ?_
                      refine lv_iload_n hx hb dX1_fraction_86 rfl (lv_at hl 2 rfl) ?_
                      refine hr_put C T1954 ho0 rfl in_X1 tyX1 tyX1_ok nmX1 9 (by decide) q303 rfl rfl rfl rfl (Nat.le_of_ble_eq_true rfl) dX1_fraction_87 (fun h1955 H1955 locs1955 eh1955 T1955 => ?_)
                      have ho0_1955 : h1955 (L 0) = some (.inr (0, [.ref (L 1), .int (nI (N 0)), .ref (L 3), .int (nI (N 1)), .int (nI (N 2)), .int (nI (N 3)), .int (nI (N 4)), .int (nI (N 5)), .int (nI (N 6)), .int (nI v), .int (nI (N 8)), .ref (L 12), .ref (L 13), .ref (L 14), .ref (L 15), .ref (L 16), .ref (L 17), .int (nI (N 11)), .int (nI (N 15)), .int (nI (N 16)), .int (nI (N 17)), .int (nI (N 18) - 1), .int (nI (N 19)), .ref (L 24), .int (nI pp), .ref (L 26), .ref (L 27), .ref (if N 13 = 1 then L 27 else L 26), .ref (L 29), .ref (L 30), .ref (if N 12 = 1 then L 30 else L 29), .ref (L 32), .ref (B 0), .ref (B 1), .ref (B 2), .ref (B 3), .ref (L 37), .ref (L 38), .ref (L 39), .ref (B 4), .ref (B 5)]), L 0) := hu_s eh1955
                      have hF_1955 : Fr (CO L B) h h1955 := hu_f eh1955 hF ho0 (Or.inl rfl)
                      refine lv_aload_n hx hb dX1_fraction_90 rfl (lv_at hl 0 rfl) ?_
                      refine lv_iload_n hx hb dX1_fraction_91 rfl (lv_at hl 3 rfl) ?_
                      refine hr_put C T1955 ho0_1955 rfl in_X1 tyX1 tyX1_ok nmX1 10 (by decide) q305 rfl rfl rfl rfl (Nat.le_of_ble_eq_true rfl) dX1_fraction_92 (fun h1956 H1956 locs1956 eh1956 T1956 => ?_)
                      have ho0_1956 : h1956 (L 0) = some (.inr (0, [.ref (L 1), .int (nI (N 0)), .ref (L 3), .int (nI (N 1)), .int (nI (N 2)), .int (nI (N 3)), .int (nI (N 4)), .int (nI (N 5)), .int (nI (N 6)), .int (nI v), .int (nI u), .ref (L 12), .ref (L 13), .ref (L 14), .ref (L 15), .ref (L 16), .ref (L 17), .int (nI (N 11)), .int (nI (N 15)), .int (nI (N 16)), .int (nI (N 17)), .int (nI (N 18) - 1), .int (nI (N 19)), .ref (L 24), .int (nI pp), .ref (L 26), .ref (L 27), .ref (if N 13 = 1 then L 27 else L 26), .ref (L 29), .ref (L 30), .ref (if N 12 = 1 then L 30 else L 29), .ref (L 32), .ref (B 0), .ref (B 1), .ref (B 2), .ref (B 3), .ref (L 37), .ref (L 38), .ref (L 39), .ref (B 4), .ref (B 5)]), L 0) := hu_s eh1956
                      have hF_1956 : Fr (CO L B) h h1956 := hu_f eh1956 hF_1955 ho0_1955 (Or.inl rfl)
                      have hcd : cd_fraction N x (nI v) (nI u) = 0 := by unfold cd_fraction; (repeat' split) <;> omega
                      have ha1_1955 : h1955 (L 1) = some (.inl (E.2.1 0, 8, .inl (f 1)), L 0) := hu_n eh1955 (hLay.1 1 0 (by decide) (by decide) (by decide)) ha1
                      have ha1_1956 : h1956 (L 1) = some (.inl (E.2.1 0, 8, .inl (f 1)), L 0) := hu_n eh1956 (hLay.1 1 0 (by decide) (by decide) (by decide)) ha1_1955
                      have ha3_1955 : h1955 (L 3) = some (.inl (E.2.1 0, 64, .inl (f 3)), L 0) := hu_n eh1955 (hLay.1 3 0 (by decide) (by decide) (by decide)) ha3
                      have ha3_1956 : h1956 (L 3) = some (.inl (E.2.1 0, 64, .inl (f 3)), L 0) := hu_n eh1956 (hLay.1 3 0 (by decide) (by decide) (by decide)) ha3_1955
                      have ha12_1955 : h1955 (L 12) = some (.inl (E.2.1 1, 20000, .inl (f 12)), L 0) := hu_n eh1955 (hLay.1 12 0 (by decide) (by decide) (by decide)) ha12
                      have ha12_1956 : h1956 (L 12) = some (.inl (E.2.1 1, 20000, .inl (f 12)), L 0) := hu_n eh1956 (hLay.1 12 0 (by decide) (by decide) (by decide)) ha12_1955
                      have ha13_1955 : h1955 (L 13) = some (.inl (E.2.1 1, 20000, .inl (f 13)), L 0) := hu_n eh1955 (hLay.1 13 0 (by decide) (by decide) (by decide)) ha13
                      have ha13_1956 : h1956 (L 13) = some (.inl (E.2.1 1, 20000, .inl (f 13)), L 0) := hu_n eh1956 (hLay.1 13 0 (by decide) (by decide) (by decide)) ha13_1955
                      have ha14_1955 : h1955 (L 14) = some (.inl (E.2.1 2, 20000, .inl (f 14)), L 0) := hu_n eh1955 (hLay.1 14 0 (by decide) (by decide) (by decide)) ha14
                      have ha14_1956 : h1956 (L 14) = some (.inl (E.2.1 2, 20000, .inl (f 14)), L 0) := hu_n eh1956 (hLay.1 14 0 (by decide) (by decide) (by decide)) ha14_1955
                      have ha15_1955 : h1955 (L 15) = some (.inl (E.2.1 3, 8, .inl (f 15)), L 0) := hu_n eh1955 (hLay.1 15 0 (by decide) (by decide) (by decide)) ha15
                      have ha15_1956 : h1956 (L 15) = some (.inl (E.2.1 3, 8, .inl (f 15)), L 0) := hu_n eh1956 (hLay.1 15 0 (by decide) (by decide) (by decide)) ha15_1955
                      have ha16_1955 : h1955 (L 16) = some (.inl (E.2.1 0, 8, .inl (f 16)), L 0) := hu_n eh1955 (hLay.1 16 0 (by decide) (by decide) (by decide)) ha16
                      have ha16_1956 : h1956 (L 16) = some (.inl (E.2.1 0, 8, .inl (f 16)), L 0) := hu_n eh1956 (hLay.1 16 0 (by decide) (by decide) (by decide)) ha16_1955
                      have ha17_1955 : h1955 (L 17) = some (.inl (E.2.1 0, 8, .inl (f 17)), L 0) := hu_n eh1955 (hLay.1 17 0 (by decide) (by decide) (by decide)) ha17
                      have ha17_1956 : h1956 (L 17) = some (.inl (E.2.1 0, 8, .inl (f 17)), L 0) := hu_n eh1956 (hLay.1 17 0 (by decide) (by decide) (by decide)) ha17_1955
                      have ha39_1955 : h1955 (L 39) = some (.inl (E.2.1 3, 961, .inl (f 39)), L 0) := hu_n eh1955 (hLay.1 39 0 (by decide) (by decide) (by decide)) ha39
                      have ha39_1956 : h1956 (L 39) = some (.inl (E.2.1 3, 961, .inl (f 39)), L 0) := hu_n eh1956 (hLay.1 39 0 (by decide) (by decide) (by decide)) ha39_1955
                      have hSt_1955 : Stt E L B h1955 := Stt.kept (O := (· = L 0)) (hu_f eh1955 Fr.rf ho0 rfl) (hLay.1 30 0 (by decide) (by decide) (by decide)) hSt
                      have hSt_1956 : Stt E L B h1956 := Stt.kept (O := (· = L 0)) (hu_f eh1956 Fr.rf ho0_1955 rfl) (hLay.1 30 0 (by decide) (by decide) (by decide)) hSt_1955
                      have hPr_1955 : Prs L B pw pl ps h1955 := Prs.kept (O := (· = L 0)) (hu_f eh1955 Fr.rf ho0 rfl) (hLay.1 24 0 (by decide) (by decide) (by decide)) hPr
                      have hPr_1956 : Prs L B pw pl ps h1956 := Prs.kept (O := (· = L 0)) (hu_f eh1956 Fr.rf ho0_1955 rfl) (hLay.1 24 0 (by decide) (by decide) (by decide)) hPr_1955
                      have hCn_1955 : Cns h1955 E L (nI1 (M 8)) (N 10) := Cns.kept (O := (· = L 0)) (hu_f eh1955 Fr.rf ho0 rfl) (hLay.1 26 0 (by decide) (by decide) (by decide)) hCn
                      have hCn_1956 : Cns h1956 E L (nI1 (M 8)) (N 10) := Cns.kept (O := (· = L 0)) (hu_f eh1956 Fr.rf ho0_1955 rfl) (hLay.1 26 0 (by decide) (by decide) (by decide)) hCn_1955
                      have hSd_1955 : Sds h1955 E L (nI1 (M 6)) (N 9) := Sds.kept (O := (· = L 0)) (hu_f eh1955 Fr.rf ho0 rfl) (hLay.1 27 0 (by decide) (by decide) (by decide)) hSd
                      have hSd_1956 : Sds h1956 E L (nI1 (M 6)) (N 9) := Sds.kept (O := (· = L 0)) (hu_f eh1956 Fr.rf ho0_1955 rfl) (hLay.1 27 0 (by decide) (by decide) (by decide)) hSd_1955
                      have hDg_1955 : Dgo h1955 E L rs := Dgo.kept (O := (· = L 0)) (hu_f eh1955 Fr.rf ho0 rfl) (hLay.1 62 0 (by decide) (by decide) (by decide)) hDg
                      have hDg_1956 : Dgo h1956 E L rs := Dgo.kept (O := (· = L 0)) (hu_f eh1956 Fr.rf ho0_1955 rfl) (hLay.1 62 0 (by decide) (by decide) (by decide)) hDg_1955
                      have hB_1955 : Bgs E h1955 B V cp := Bgs.kept (O := (· = L 0)) (hu_f eh1955 Fr.rf ho0 rfl) (fun i hi => hLay.2 i 0 hi (by decide)) hB
                      have hB_1956 : Bgs E h1956 B V cp := Bgs.kept (O := (· = L 0)) (hu_f eh1956 Fr.rf ho0_1955 rfl) (fun i hi => hLay.2 i 0 hi (by decide)) hB_1955
                      exact Z _ _ _ _ _ _ _ dX1_fraction_95 (Nat.zero_le _) (Nat.zero_le _) ⟨hcd, rfl, by unfold frN; rw [if_neg c69, tv, tu]; exact ⟨pp, f, rs, pw, pl, ps, V, ⟨ho0_1956, ha1_1956, ha3_1956, ha12_1956, ha13_1956, ha14_1956, ha15_1956, ha16_1956, ha17_1956, ha39_1956⟩, ⟨r1, r3, r12, r13, r14, fun z => absurd cS z, r16, r17, rp, rp16⟩, Vr_votes hVr cS, hSt_1956, hPr_1956, hCn_1956, hSd_1956, hDg_1956, hB_1956⟩, hF_1956, rfl, rfl⟩ T1956
                    · refine lv_aload_n hx hb dX1_fraction_72 rfl (lv_at hl 0 rfl) ?_
                      refine lv_iload_n hx hb dX1_fraction_73 rfl (lv_at hl 2 rfl) ?_
                      refine hr_put C T1954 ho0 rfl in_X1 tyX1 tyX1_ok nmX1 7 (by decide) q298 rfl rfl rfl rfl (Nat.le_of_ble_eq_true rfl) dX1_fraction_74 (fun h1957 H1957 locs1957 eh1957 T1957 => ?_)
                      have ho0_1957 : h1957 (L 0) = some (.inr (0, [.ref (L 1), .int (nI (N 0)), .ref (L 3), .int (nI (N 1)), .int (nI (N 2)), .int (nI (N 3)), .int (nI (N 4)), .int (nI v), .int (nI (N 6)), .int (nI (N 7)), .int (nI (N 8)), .ref (L 12), .ref (L 13), .ref (L 14), .ref (L 15), .ref (L 16), .ref (L 17), .int (nI (N 11)), .int (nI (N 15)), .int (nI (N 16)), .int (nI (N 17)), .int (nI (N 18) - 1), .int (nI (N 19)), .ref (L 24), .int (nI pp), .ref (L 26), .ref (L 27), .ref (if N 13 = 1 then L 27 else L 26), .ref (L 29), .ref (L 30), .ref (if N 12 = 1 then L 30 else L 29), .ref (L 32), .ref (B 0), .ref (B 1), .ref (B 2), .ref (B 3), .ref (L 37), .ref (L 38), .ref (L 39), .ref (B 4), .ref (B 5)]), L 0) := hu_s eh1957
                      have hF_1957 : Fr (CO L B) h h1957 := hu_f eh1957 hF ho0 (Or.inl rfl)
                      refine lv_aload_n hx hb dX1_fraction_77 rfl (lv_at hl 0 rfl) ?_
                      refine lv_iload_n hx hb dX1_fraction_78 rfl (lv_at hl 3 rfl) ?_
                      refine hr_put C T1957 ho0_1957 rfl in_X1 tyX1 tyX1_ok nmX1 8 (by decide) q301 rfl rfl rfl rfl (Nat.le_of_ble_eq_true rfl) dX1_fraction_79 (fun h1958 H1958 locs1958 eh1958 T1958 => ?_)
                      have ho0_1958 : h1958 (L 0) = some (.inr (0, [.ref (L 1), .int (nI (N 0)), .ref (L 3), .int (nI (N 1)), .int (nI (N 2)), .int (nI (N 3)), .int (nI (N 4)), .int (nI v), .int (nI u), .int (nI (N 7)), .int (nI (N 8)), .ref (L 12), .ref (L 13), .ref (L 14), .ref (L 15), .ref (L 16), .ref (L 17), .int (nI (N 11)), .int (nI (N 15)), .int (nI (N 16)), .int (nI (N 17)), .int (nI (N 18) - 1), .int (nI (N 19)), .ref (L 24), .int (nI pp), .ref (L 26), .ref (L 27), .ref (if N 13 = 1 then L 27 else L 26), .ref (L 29), .ref (L 30), .ref (if N 12 = 1 then L 30 else L 29), .ref (L 32), .ref (B 0), .ref (B 1), .ref (B 2), .ref (B 3), .ref (L 37), .ref (L 38), .ref (L 39), .ref (B 4), .ref (B 5)]), L 0) := hu_s eh1958
                      have hF_1958 : Fr (CO L B) h h1958 := hu_f eh1958 hF_1957 ho0_1957 (Or.inl rfl)
                      refine lv_goto (tgt := 95) hx hb dX1_fraction_82 (by decide) ?_
                      have hcd : cd_fraction N x (nI v) (nI u) = 0 := by unfold cd_fraction; (repeat' split) <;> omega
                      have ha1_1957 : h1957 (L 1) = some (.inl (E.2.1 0, 8, .inl (f 1)), L 0) := hu_n eh1957 (hLay.1 1 0 (by decide) (by decide) (by decide)) ha1
                      have ha1_1958 : h1958 (L 1) = some (.inl (E.2.1 0, 8, .inl (f 1)), L 0) := hu_n eh1958 (hLay.1 1 0 (by decide) (by decide) (by decide)) ha1_1957
                      have ha3_1957 : h1957 (L 3) = some (.inl (E.2.1 0, 64, .inl (f 3)), L 0) := hu_n eh1957 (hLay.1 3 0 (by decide) (by decide) (by decide)) ha3
                      have ha3_1958 : h1958 (L 3) = some (.inl (E.2.1 0, 64, .inl (f 3)), L 0) := hu_n eh1958 (hLay.1 3 0 (by decide) (by decide) (by decide)) ha3_1957
                      have ha12_1957 : h1957 (L 12) = some (.inl (E.2.1 1, 20000, .inl (f 12)), L 0) := hu_n eh1957 (hLay.1 12 0 (by decide) (by decide) (by decide)) ha12
                      have ha12_1958 : h1958 (L 12) = some (.inl (E.2.1 1, 20000, .inl (f 12)), L 0) := hu_n eh1958 (hLay.1 12 0 (by decide) (by decide) (by decide)) ha12_1957
                      have ha13_1957 : h1957 (L 13) = some (.inl (E.2.1 1, 20000, .inl (f 13)), L 0) := hu_n eh1957 (hLay.1 13 0 (by decide) (by decide) (by decide)) ha13
                      have ha13_1958 : h1958 (L 13) = some (.inl (E.2.1 1, 20000, .inl (f 13)), L 0) := hu_n eh1958 (hLay.1 13 0 (by decide) (by decide) (by decide)) ha13_1957
                      have ha14_1957 : h1957 (L 14) = some (.inl (E.2.1 2, 20000, .inl (f 14)), L 0) := hu_n eh1957 (hLay.1 14 0 (by decide) (by decide) (by decide)) ha14
                      have ha14_1958 : h1958 (L 14) = some (.inl (E.2.1 2, 20000, .inl (f 14)), L 0) := hu_n eh1958 (hLay.1 14 0 (by decide) (by decide) (by decide)) ha14_1957
                      have ha15_1957 : h1957 (L 15) = some (.inl (E.2.1 3, 8, .inl (f 15)), L 0) := hu_n eh1957 (hLay.1 15 0 (by decide) (by decide) (by decide)) ha15
                      have ha15_1958 : h1958 (L 15) = some (.inl (E.2.1 3, 8, .inl (f 15)), L 0) := hu_n eh1958 (hLay.1 15 0 (by decide) (by decide) (by decide)) ha15_1957
                      have ha16_1957 : h1957 (L 16) = some (.inl (E.2.1 0, 8, .inl (f 16)), L 0) := hu_n eh1957 (hLay.1 16 0 (by decide) (by decide) (by decide)) ha16
                      have ha16_1958 : h1958 (L 16) = some (.inl (E.2.1 0, 8, .inl (f 16)), L 0) := hu_n eh1958 (hLay.1 16 0 (by decide) (by decide) (by decide)) ha16_1957
                      have ha17_1957 : h1957 (L 17) = some (.inl (E.2.1 0, 8, .inl (f 17)), L 0) := hu_n eh1957 (hLay.1 17 0 (by decide) (by decide) (by decide)) ha17
                      have ha17_1958 : h1958 (L 17) = some (.inl (E.2.1 0, 8, .inl (f 17)), L 0) := hu_n eh1958 (hLay.1 17 0 (by decide) (by decide) (by decide)) ha17_1957
                      have ha39_1957 : h1957 (L 39) = some (.inl (E.2.1 3, 961, .inl (f 39)), L 0) := hu_n eh1957 (hLay.1 39 0 (by decide) (by decide) (by decide)) ha39
                      have ha39_1958 : h1958 (L 39) = some (.inl (E.2.1 3, 961, .inl (f 39)), L 0) := hu_n eh1958 (hLay.1 39 0 (by decide) (by decide) (by decide)) ha39_1957
                      have hSt_1957 : Stt E L B h1957 := Stt.kept (O := (· = L 0)) (hu_f eh1957 Fr.rf ho0 rfl) (hLay.1 30 0 (by decide) (by decide) (by decide)) hSt
                      have hSt_1958 : Stt E L B h1958 := Stt.kept (O := (· = L 0)) (hu_f eh1958 Fr.rf ho0_1957 rfl) (hLay.1 30 0 (by decide) (by decide) (by decide)) hSt_1957
                      have hPr_1957 : Prs L B pw pl ps h1957 := Prs.kept (O := (· = L 0)) (hu_f eh1957 Fr.rf ho0 rfl) (hLay.1 24 0 (by decide) (by decide) (by decide)) hPr
                      have hPr_1958 : Prs L B pw pl ps h1958 := Prs.kept (O := (· = L 0)) (hu_f eh1958 Fr.rf ho0_1957 rfl) (hLay.1 24 0 (by decide) (by decide) (by decide)) hPr_1957
                      have hCn_1957 : Cns h1957 E L (nI1 (M 8)) (N 10) := Cns.kept (O := (· = L 0)) (hu_f eh1957 Fr.rf ho0 rfl) (hLay.1 26 0 (by decide) (by decide) (by decide)) hCn
                      have hCn_1958 : Cns h1958 E L (nI1 (M 8)) (N 10) := Cns.kept (O := (· = L 0)) (hu_f eh1958 Fr.rf ho0_1957 rfl) (hLay.1 26 0 (by decide) (by decide) (by decide)) hCn_1957
                      have hSd_1957 : Sds h1957 E L (nI1 (M 6)) (N 9) := Sds.kept (O := (· = L 0)) (hu_f eh1957 Fr.rf ho0 rfl) (hLay.1 27 0 (by decide) (by decide) (by decide)) hSd
                      have hSd_1958 : Sds h1958 E L (nI1 (M 6)) (N 9) := Sds.kept (O := (· = L 0)) (hu_f eh1958 Fr.rf ho0_1957 rfl) (hLay.1 27 0 (by decide) (by decide) (by decide)) hSd_1957
                      have hDg_1957 : Dgo h1957 E L rs := Dgo.kept (O := (· = L 0)) (hu_f eh1957 Fr.rf ho0 rfl) (hLay.1 62 0 (by decide) (by decide) (by decide)) hDg
                      have hDg_1958 : Dgo h1958 E L rs := Dgo.kept (O := (· = L 0)) (hu_f eh1958 Fr.rf ho0_1957 rfl) (hLay.1 62 0 (by decide) (by decide) (by decide)) hDg_1957
                      have hB_1957 : Bgs E h1957 B V cp := Bgs.kept (O := (· = L 0)) (hu_f eh1957 Fr.rf ho0 rfl) (fun i hi => hLay.2 i 0 hi (by decide)) hB
                      have hB_1958 : Bgs E h1958 B V cp := Bgs.kept (O := (· = L 0)) (hu_f eh1958 Fr.rf ho0_1957 rfl) (fun i hi => hLay.2 i 0 hi (by decide)) hB_1957
                      exact Z _ _ _ _ _ _ _ dX1_fraction_95 (Nat.zero_le _) (Nat.zero_le _) ⟨hcd, rfl, by unfold frN; rw [if_pos c69, tv, tu]; exact ⟨pp, f, rs, pw, pl, ps, V, ⟨ho0_1958, ha1_1958, ha3_1958, ha12_1958, ha13_1958, ha14_1958, ha15_1958, ha16_1958, ha17_1958, ha39_1958⟩, ⟨r1, r3, r12, r13, r14, fun z => absurd cS z, r16, r17, rp, rp16⟩, Vr_votes hVr cS, hSt_1958, hPr_1958, hCn_1958, hSd_1958, hDg_1958, hB_1958⟩, hF_1958, rfl, rfl⟩ T1958
                  · have hcd : cd_fraction N x (nI v) (nI u) = 3 := by unfold cd_fraction; (repeat' split) <;> omega
                    exact Y _ _ _ _ _ _ ((thr_V C T1953 hl.1 ho0 rfl (t_X1_setting hfl i11.1 cS ho0) q513 q515 qs3 q53 q516 kd_X1_setting rfl rfl ⟨Nat.le_of_ble_eq_true rfl, Nat.le_of_ble_eq_true rfl⟩ (Nat.le_of_ble_eq_true rfl) dX1_fraction_65 ⟨Nat.le_of_ble_eq_true rfl, Nat.le_of_ble_eq_true rfl⟩).on C T1953 hno ⟨Nat.le_of_ble_eq_true rfl, Nat.le_of_ble_eq_true rfl⟩ (fun h2 dc ds hp => by obtain ⟨rfl, rfl, rfl⟩ := hp; exact ⟨rfl, rfl, rfl, by rw [hcd]; exact ⟨by decide, rfl⟩⟩))

def cd_record (N : Nat → Nat) (x y z : Int32) : Nat := if x.toInt < 0 ∨ N 2 ≤ x.toInt ∨ y.toInt < 1 ∨ N 2 - x.toInt < y.toInt ∨ ¬ (z.toInt = -1 ∨ (0 ≤ z.toInt ∧ z.toInt < N 0)) then 1 else if N 11 ≠ 0 then 2 else 0
def recG (G : Nat → Nat → Int32) (b n : Nat) (c : Int32) : Nat → Nat → Int32 := gu G 0 (fun i => if b ≤ i ∧ i < b + n then c else G 0 i)
theorem byte_id {x : Int32} (h : x.toInt = -1 ∨ (0 ≤ x.toInt ∧ x.toInt < 8)) : x.toInt8.toInt32 = x := by
  rcases h with h | ⟨h1, h2⟩
  · rw [show x = -1 from Int32.toInt_inj.mp h]; decide
  · obtain ⟨v, hv, rfl⟩ := nat_of h1
    have e := nI_toInt hv
    have : ∀ v, v < 8 → (nI v).toInt8.toInt32 = nI v := by decide +kernel
    exact this v (by omega)

set_option maxHeartbeats 4000000 in
theorem m_X1_record {E : GE} {l : Launch} {h : HH} (hfl : l.flags = flags0) {L B cp N : Nat → Nat} {M : Nat → Nat → Nat} {G : Nat → Nat → Int32} (hLay : Lay L B) (hI : Inv N M G) (hC : Cp E h L B cp N M G) {x y z : Int32} : MX E l yX1_record cX1_record 5 none ({ frames := 8, cells := 1, slots := 6, locals := 1200 } : Room) [.ref (L 0), .int x, .int y, .int z] h (fun rv h2 dc ds => cd_record N x y z = 0 ∧ rv = none ∧ Cp E h2 L B cp N M (recG G x.toInt.toNat y.toInt.toNat z) ∧ Fr (CO L B) h h2 ∧ dc = 0 ∧ ds = 0) (fun C h' dc ds => h' = h ∧ dc = 1 ∧ ds = 6 ∧ TC C (cd_record N x y z) [xIOB, xISE]) := by
  refine hx_v (by decide) (Nat.le_of_ble_eq_true rfl) ?_
  intro p e s m below meth c C hno Q Z Y ls T hl
  have hx := C.x
  have hb := C.b
  have hl : lv_has ls 5 [(0, .ref (L 0)), (1, .int x), (2, .int y), (3, .int z)] := hl
  obtain ⟨i0, i1, i2, i3, i4, i5, i7, i9, i10, i11, i15, iv, isz, isum, ital, itm, idg, icn, irec, isn, iout, ict, iwt, iwt2, iz, inz, iup, ish⟩ := hI
  obtain ⟨pp, f, rs, pw, pl, ps, V, ⟨ho0, ha1, ha3, ha12, ha13, ha14, ha15, ha16, ha17, ha39⟩, ⟨r1, r3, r12, r13, r14, r15, r16, r17, rp, rp16⟩, hVr, hSt, hPr, hCn, hSd, hDg, hB⟩ := hC
  have hF : Fr (CO L B) h h := Fr.rf
  refine lv_iload_n hx hb dX1_record_0 rfl (lv_at hl 1 rfl) ?_
  refine zi_if_lt (tgt := 44) (X := (x).toInt) hx hb dX1_record_1 (by decide) rfl (fun c1 => ?_) (fun c1 => ?_)
  · refine lv_iconst (v := nI 0) hx hb dX1_record_44 rfl ?_
    have hcd : cd_record N x y z = 1 := by unfold cd_record; (repeat' split) <;> omega
    exact Y _ _ _ _ _ _ ((thr_S C T hl.1 (t_X1_inside hfl) q593 q594 q53 q595 kd_X1_inside rfl rfl ⟨Nat.le_of_ble_eq_true rfl, Nat.le_of_ble_eq_true rfl⟩ (Nat.le_of_ble_eq_true rfl) dX1_record_45 ⟨Nat.le_of_ble_eq_true rfl, Nat.le_of_ble_eq_true rfl⟩).on C T hno ⟨Nat.le_of_ble_eq_true rfl, Nat.le_of_ble_eq_true rfl⟩ (fun h2 dc ds hp => by obtain ⟨rfl, rfl, rfl⟩ := hp; exact ⟨rfl, rfl, rfl, by rw [hcd]; exact ⟨by decide, rfl⟩⟩))
  · refine lv_iload_n hx hb dX1_record_4 rfl (lv_at hl 1 rfl) ?_
    refine lv_aload_n hx hb dX1_record_5 rfl (lv_at hl 0 rfl) ?_
    refine hr_get C T ho0 rfl in_X1 4 (by decide) q295 rfl rfl dX1_record_6 ?_
    refine zi_icmp_ge (tgt := 44) (X := (x).toInt) (Y := ((N 2 : Nat) : Int)) hx hb dX1_record_9 (by decide) rfl (nI_toInt (by omega)) (fun c9 => ?_) (fun c9 => ?_)
    · refine lv_iconst (v := nI 0) hx hb dX1_record_44 rfl ?_
      have hcd : cd_record N x y z = 1 := by unfold cd_record; (repeat' split) <;> omega
      exact Y _ _ _ _ _ _ ((thr_S C T hl.1 (t_X1_inside hfl) q593 q594 q53 q595 kd_X1_inside rfl rfl ⟨Nat.le_of_ble_eq_true rfl, Nat.le_of_ble_eq_true rfl⟩ (Nat.le_of_ble_eq_true rfl) dX1_record_45 ⟨Nat.le_of_ble_eq_true rfl, Nat.le_of_ble_eq_true rfl⟩).on C T hno ⟨Nat.le_of_ble_eq_true rfl, Nat.le_of_ble_eq_true rfl⟩ (fun h2 dc ds hp => by obtain ⟨rfl, rfl, rfl⟩ := hp; exact ⟨rfl, rfl, rfl, by rw [hcd]; exact ⟨by decide, rfl⟩⟩))
    · obtain ⟨bb, hbb, rfl⟩ := nat_of (x := x) (by omega)
      have ebb := nI_toInt hbb
      have tbb : (nI bb).toInt.toNat = bb := by rw [ebb]; rfl
      refine lv_iload_n hx hb dX1_record_12 rfl (lv_at hl 2 rfl) ?_
      refine lv_iconst (v := nI 1) hx hb dX1_record_13 rfl ?_
      refine zi_icmp_lt (tgt := 44) (X := (y).toInt) (Y := ((1 : Nat) : Int)) hx hb dX1_record_14 (by decide) rfl (nI_toInt (by omega)) (fun c14 => ?_) (fun c14 => ?_)
      · refine lv_iconst (v := nI 0) hx hb dX1_record_44 rfl ?_
        have hcd : cd_record N (nI bb) y z = 1 := by unfold cd_record; (repeat' split) <;> omega
        exact Y _ _ _ _ _ _ ((thr_S C T hl.1 (t_X1_inside hfl) q593 q594 q53 q595 kd_X1_inside rfl rfl ⟨Nat.le_of_ble_eq_true rfl, Nat.le_of_ble_eq_true rfl⟩ (Nat.le_of_ble_eq_true rfl) dX1_record_45 ⟨Nat.le_of_ble_eq_true rfl, Nat.le_of_ble_eq_true rfl⟩).on C T hno ⟨Nat.le_of_ble_eq_true rfl, Nat.le_of_ble_eq_true rfl⟩ (fun h2 dc ds hp => by obtain ⟨rfl, rfl, rfl⟩ := hp; exact ⟨rfl, rfl, rfl, by rw [hcd]; exact ⟨by decide, rfl⟩⟩))
      · refine lv_iload_n hx hb dX1_record_17 rfl (lv_at hl 2 rfl) ?_
        refine lv_aload_n hx hb dX1_record_18 rfl (lv_at hl 0 rfl) ?_
        refine hr_get C T ho0 rfl in_X1 4 (by decide) q295 rfl rfl dX1_record_19 ?_
        refine lv_iload_n hx hb dX1_record_22 rfl (lv_at hl 1 rfl) ?_
        refine hn_isub hx hb dX1_record_23 (by omega) ?_
        refine zi_icmp_gt (tgt := 44) (X := (y).toInt) (Y := (((N 2) - bb : Nat) : Int)) hx hb dX1_record_24 (by decide) rfl (nI_toInt (by omega)) (fun c24 => ?_) (fun c24 => ?_)
        · refine lv_iconst (v := nI 0) hx hb dX1_record_44 rfl ?_
          have hcd : cd_record N (nI bb) y z = 1 := by unfold cd_record; (repeat' split) <;> omega
          exact Y _ _ _ _ _ _ ((thr_S C T hl.1 (t_X1_inside hfl) q593 q594 q53 q595 kd_X1_inside rfl rfl ⟨Nat.le_of_ble_eq_true rfl, Nat.le_of_ble_eq_true rfl⟩ (Nat.le_of_ble_eq_true rfl) dX1_record_45 ⟨Nat.le_of_ble_eq_true rfl, Nat.le_of_ble_eq_true rfl⟩).on C T hno ⟨Nat.le_of_ble_eq_true rfl, Nat.le_of_ble_eq_true rfl⟩ (fun h2 dc ds hp => by obtain ⟨rfl, rfl, rfl⟩ := hp; exact ⟨rfl, rfl, rfl, by rw [hcd]; exact ⟨by decide, rfl⟩⟩))
        · refine lv_iload_n hx hb dX1_record_27 rfl (lv_at hl 3 rfl) ?_
          refine lv_iconst (v := (-1)) hx hb dX1_record_28 rfl ?_
          refine zi_icmp_eq (tgt := 40) (X := (z).toInt) (Y := (-1)) hx hb dX1_record_29 (by decide) rfl rfl (fun c29 => ?_) (fun c29 => ?_)
          · refine lv_iconst (v := nI 1) hx hb dX1_record_40 rfl ?_
            refine lv_goto (tgt := 45) hx hb dX1_record_41 (by decide) ?_
            refine hp_S C T hl.1 (p_X1_inside) q593 q594 q53 q595 kd_X1_inside rfl rfl ⟨Nat.le_of_ble_eq_true rfl, Nat.le_of_ble_eq_true rfl⟩ (Nat.le_of_ble_eq_true rfl) dX1_record_45 ⟨Nat.le_of_ble_eq_true rfl, Nat.le_of_ble_eq_true rfl⟩ (fun rv H1959 hp1959 T1959 => ?_)
            obtain rfl := hp1959
            refine W.eq (g2 := F0 m 48 ls []) rfl ?_
            obtain ⟨k0, hk0, rfl⟩ := nat_of (x := y) (by omega)
            have ek0 := nI_toInt hk0
            have tk0 : (nI k0).toInt.toNat = k0 := by rw [ek0]; rfl
            refine lv_aload_n hx hb dX1_record_48 rfl (lv_at hl 0 rfl) ?_
            by_cases cS : N 11 = 0
            · refine hp_V C T1959 hl.1 ho0 rfl (p_X1_setting i11.1 cS ho0) q513 q515 qs3 q53 q516 kd_X1_setting rfl rfl ⟨Nat.le_of_ble_eq_true rfl, Nat.le_of_ble_eq_true rfl⟩ (Nat.le_of_ble_eq_true rfl) dX1_record_49 ⟨Nat.le_of_ble_eq_true rfl, Nat.le_of_ble_eq_true rfl⟩ (fun rv H1960 hp1960 T1960 => ?_)
              obtain rfl := hp1960
              refine W.eq (g2 := F0 m 52 ls []) rfl ?_
              refine lv_iconst (v := nI 0) hx hb dX1_record_52 rfl ?_
              refine lv_istore (lv' := [(4, .int (nI 0)), (0, .ref (L 0)), (1, .int (nI bb)), (2, .int (nI k0)), (3, .int z)]) hx hb dX1_record_53 hl (by decide) rfl (fun ls1961 hl1961 => ?_)
              have hcd : cd_record N (nI bb) (nI k0) z = 0 := by unfold cd_record; (repeat' split) <;> omega
              have hbz : z.toInt8.toInt32 = z := byte_id (by omega)
              have L1 : ∀ (j : Nat) (k : Nat) (r : Nat → Int32) (h1962 : HH) (H1962 : Heap) (locs1962 : List Loc) (ls1962 : Array Slot), (k0 + 1 ≤ k + j) → (h1962 (L 0) = some (.inr (0, [.ref (L 1), .int (nI (N 0)), .ref (L 3), .int (nI (N 1)), .int (nI (N 2)), .int (nI (N 3)), .int (nI (N 4)), .int (nI (N 5)), .int (nI (N 6)), .int (nI (N 7)), .int (nI (N 8)), .ref (L 12), .ref (L 13), .ref (L 14), .ref (L 15), .ref (L 16), .ref (L 17), .int (nI (N 11)), .int (nI (N 15)), .int (nI (N 16)), .int (nI (N 17)), .int (nI (N 18) - 1), .int (nI (N 19)), .ref (L 24), .int (nI pp), .ref (L 26), .ref (L 27), .ref (if N 13 = 1 then L 27 else L 26), .ref (L 29), .ref (L 30), .ref (if N 12 = 1 then L 30 else L 29), .ref (L 32), .ref (B 0), .ref (B 1), .ref (B 2), .ref (B 3), .ref (L 37), .ref (L 38), .ref (L 39), .ref (B 4), .ref (B 5)]), L 0)) → (h1962 (L 12) = some (.inl (E.2.1 1, 20000, .inl r), L 0)) → (k ≤ k0) → (∀ i, i < 20000 → r i = if bb ≤ i ∧ i < bb + k then z else f 12 i) → (h1962 = hup h (L 12) (.inl (E.2.1 1, 20000, .inl r), L 0)) → (Fr (CO L B) h h1962) → (St E s h1962 H1962 locs1962) → (lv_has ls1962 5 [(0, .ref (L 0)), (1, .int (nI bb)), (2, .int (nI k0)), (3, .int z), (4, .int (nI k))]) → W p l e ({ frames := 8, cells := 1, slots := 6, locals := 1200 } : Room) s m ([.ref (L 0), .int (nI bb), .int (nI k0), .int z] : List Value).toArray below meth c H1962 locs1962 0 0 Q (F0 m 55 ls1962 []) := by
                intro j
                induction j with
                | zero => intro k r h1962 H1962 locs1962 ls1962 hm1962 ho0_1962 ha12_1962 hk hr hh hF_1962 T1962 hl1962; exact absurd hm1962 (by omega)
                | succ j ih1962 =>
                  intro k r h1962 H1962 locs1962 ls1962 hm1962 ho0_1962 ha12_1962 hk hr hh hF_1962 T1962 hl1962
                  refine lv_iload hx hb dX1_record_55 (lv_at hl1962 4 rfl) ?_
                  refine lv_iload_n hx hb dX1_record_57 rfl (lv_at hl1962 2 rfl) ?_
                  refine hn_icmp_ge (tgt := 78) hx hb dX1_record_58 (by decide) (by omega) (by omega) (fun c99 => ?_) (fun c99 => ?_)
                  · have e1 : k = k0 := by omega
                    subst e1
                    have ha1_1963 : h1962 (L 1) = some (.inl (E.2.1 0, 8, .inl (f 1)), L 0) := hu_n hh (hLay.1 1 12 (by decide) (by decide) (by decide)) ha1
                    have ha3_1963 : h1962 (L 3) = some (.inl (E.2.1 0, 64, .inl (f 3)), L 0) := hu_n hh (hLay.1 3 12 (by decide) (by decide) (by decide)) ha3
                    have ha13_1963 : h1962 (L 13) = some (.inl (E.2.1 1, 20000, .inl (f 13)), L 0) := hu_n hh (hLay.1 13 12 (by decide) (by decide) (by decide)) ha13
                    have ha14_1963 : h1962 (L 14) = some (.inl (E.2.1 2, 20000, .inl (f 14)), L 0) := hu_n hh (hLay.1 14 12 (by decide) (by decide) (by decide)) ha14
                    have ha15_1963 : h1962 (L 15) = some (.inl (E.2.1 3, 8, .inl (f 15)), L 0) := hu_n hh (hLay.1 15 12 (by decide) (by decide) (by decide)) ha15
                    have ha16_1963 : h1962 (L 16) = some (.inl (E.2.1 0, 8, .inl (f 16)), L 0) := hu_n hh (hLay.1 16 12 (by decide) (by decide) (by decide)) ha16
                    have ha17_1963 : h1962 (L 17) = some (.inl (E.2.1 0, 8, .inl (f 17)), L 0) := hu_n hh (hLay.1 17 12 (by decide) (by decide) (by decide)) ha17
                    have ha39_1963 : h1962 (L 39) = some (.inl (E.2.1 3, 961, .inl (f 39)), L 0) := hu_n hh (hLay.1 39 12 (by decide) (by decide) (by decide)) ha39
                    have hSt_1963 : Stt E L B h1962 := Stt.kept (O := (· = L 0)) (hu_f hh Fr.rf ha12 rfl) (hLay.1 30 0 (by decide) (by decide) (by decide)) hSt
                    have hPr_1963 : Prs L B pw pl ps h1962 := Prs.kept (O := (· = L 0)) (hu_f hh Fr.rf ha12 rfl) (hLay.1 24 0 (by decide) (by decide) (by decide)) hPr
                    have hCn_1963 : Cns h1962 E L (nI1 (M 8)) (N 10) := Cns.kept (O := (· = L 0)) (hu_f hh Fr.rf ha12 rfl) (hLay.1 26 0 (by decide) (by decide) (by decide)) hCn
                    have hSd_1963 : Sds h1962 E L (nI1 (M 6)) (N 9) := Sds.kept (O := (· = L 0)) (hu_f hh Fr.rf ha12 rfl) (hLay.1 27 0 (by decide) (by decide) (by decide)) hSd
                    have hDg_1963 : Dgo h1962 E L rs := Dgo.kept (O := (· = L 0)) (hu_f hh Fr.rf ha12 rfl) (hLay.1 62 0 (by decide) (by decide) (by decide)) hDg
                    have hB_1963 : Bgs E h1962 B V cp := Bgs.kept (O := (· = L 0)) (hu_f hh Fr.rf ha12 rfl) (fun i hi => hLay.2 i 0 hi (by decide)) hB
                    exact Z _ _ _ _ _ _ _ dX1_record_78 (Nat.zero_le _) (Nat.zero_le _) ⟨hcd, rfl, by rw [tbb, tk0]; exact ⟨pp, gu f 12 r, rs, pw, pl, ps, V, ⟨ho0_1962, ha1_1963, ha3_1963, ha12_1962, ha13_1963, ha14_1963, ha15_1963, ha16_1963, ha17_1963, ha39_1963⟩, ⟨r1, r3, fun i hi => by show r i = if bb ≤ i ∧ i < bb + k then z else G 0 i; rw [hr i hi, r12 i hi], r13, r14, fun z => absurd cS z, r16, r17, rp, rp16⟩, Vr_votes hVr cS, hSt_1963, hPr_1963, hCn_1963, hSd_1963, hDg_1963, hB_1963⟩, hF_1962, rfl, rfl⟩ T1962
                  · refine lv_aload_n hx hb dX1_record_61 rfl (lv_at hl1962 0 rfl) ?_
                    refine hr_get C T1962 ho0_1962 rfl in_X1 11 (by decide) q306 rfl rfl dX1_record_62 ?_
                    refine lv_iload_n hx hb dX1_record_65 rfl (lv_at hl1962 1 rfl) ?_
                    refine lv_iload hx hb dX1_record_66 (lv_at hl1962 4 rfl) ?_
                    refine hn_iadd hx hb dX1_record_68 ?_
                    refine lv_iload_n hx hb dX1_record_69 rfl (lv_at hl1962 3 rfl) ?_
                    refine lv_i2b (v := z) hx hb dX1_record_70 hbz ?_
                    refine hr_bast C T1962 ha12_1962 (by omega) (by omega) (show vp_nar .byte z = z by rw [vp_nar_byte, hbz]) dX1_record_71 (fun h1964 H1964 locs1964 eh1964 T1964 => ?_)
                    have ha12_1964 : h1964 (L 12) = some (.inl (E.2.1 1, 20000, .inl (upd r (bb + k) z)), L 0) := hu_s eh1964
                    have hF_1964 : Fr (CO L B) h h1964 := hu_f eh1964 hF_1962 ha12_1962 (Or.inl rfl)
                    refine lv_iinc (v := nI (k + 1)) (lv' := [(4, .int (nI (k + 1))), (0, .ref (L 0)), (1, .int (nI bb)), (2, .int (nI k0)), (3, .int z)]) hx hb dX1_record_72 hl1962 (k := 4) rfl (nI_add k 1) (by decide) rfl (fun ls1965 hl1965 => ?_)
                    refine lv_goto (tgt := 55) hx hb dX1_record_75 (by decide) ?_
                    have ho0_1964 : h1964 (L 0) = some (.inr (0, [.ref (L 1), .int (nI (N 0)), .ref (L 3), .int (nI (N 1)), .int (nI (N 2)), .int (nI (N 3)), .int (nI (N 4)), .int (nI (N 5)), .int (nI (N 6)), .int (nI (N 7)), .int (nI (N 8)), .ref (L 12), .ref (L 13), .ref (L 14), .ref (L 15), .ref (L 16), .ref (L 17), .int (nI (N 11)), .int (nI (N 15)), .int (nI (N 16)), .int (nI (N 17)), .int (nI (N 18) - 1), .int (nI (N 19)), .ref (L 24), .int (nI pp), .ref (L 26), .ref (L 27), .ref (if N 13 = 1 then L 27 else L 26), .ref (L 29), .ref (L 30), .ref (if N 12 = 1 then L 30 else L 29), .ref (L 32), .ref (B 0), .ref (B 1), .ref (B 2), .ref (B 3), .ref (L 37), .ref (L 38), .ref (L 39), .ref (B 4), .ref (B 5)]), L 0) := hu_n eh1964 (hLay.1 0 12 (by decide) (by decide) (by decide)) ho0_1962
                    exact ih1962 (k + 1) _ _ _ _ _ (by omega) ho0_1964 ha12_1964 (by omega) (fun i hi => by by_cases q : i = bb + k; (rw [q, pk_us, if_pos (by omega)]); (rw [pk_un q, hr i hi]; by_cases q2 : bb ≤ i ∧ i < bb + k; (rw [if_pos q2, if_pos (by omega)]); (rw [if_neg q2, if_neg (by omega)]))) (hup_ih hh eh1964) hF_1964 T1964 (lv_sub hl1965 [1, 2, 3, 4, 0] rfl)
              exact L1 (k0 + 1) 0 _ _ _ _ _ (by omega) ho0 ha12 (Nat.zero_le _) (fun i _ => by rw [if_neg (by omega)]) (hup_0 ha12) hF T1960 (lv_sub hl1961 [1, 2, 3, 4, 0] rfl)
            · have hcd : cd_record N (nI bb) (nI k0) z = 2 := by unfold cd_record; (repeat' split) <;> omega
              exact Y _ _ _ _ _ _ ((thr_V C T1959 hl.1 ho0 rfl (t_X1_setting hfl i11.1 cS ho0) q513 q515 qs3 q53 q516 kd_X1_setting rfl rfl ⟨Nat.le_of_ble_eq_true rfl, Nat.le_of_ble_eq_true rfl⟩ (Nat.le_of_ble_eq_true rfl) dX1_record_49 ⟨Nat.le_of_ble_eq_true rfl, Nat.le_of_ble_eq_true rfl⟩).on C T1959 hno ⟨Nat.le_of_ble_eq_true rfl, Nat.le_of_ble_eq_true rfl⟩ (fun h2 dc ds hp => by obtain ⟨rfl, rfl, rfl⟩ := hp; exact ⟨rfl, rfl, rfl, by rw [hcd]; exact ⟨by decide, rfl⟩⟩))
          · refine lv_aload_n hx hb dX1_record_32 rfl (lv_at hl 0 rfl) ?_
            refine lv_iload_n hx hb dX1_record_33 rfl (lv_at hl 3 rfl) ?_
            by_cases cI34 : 0 ≤ (z).toInt ∧ (z).toInt < N 0
            · refine hp_V C T hl.1 ho0 rfl (p_X1_isC1 (x := z) i0 cI34 ho0) q631 q633 qs4 q53 q634 kd_X1_isCandidate rfl rfl ⟨Nat.le_of_ble_eq_true rfl, Nat.le_of_ble_eq_true rfl⟩ (Nat.le_of_ble_eq_true rfl) dX1_record_34 ⟨Nat.le_of_ble_eq_true rfl, Nat.le_of_ble_eq_true rfl⟩ (fun rv H1966 hp1966 T1966 => ?_)
              obtain rfl := hp1966
              refine W.eq (g2 := F0 m 37 ls [.int (nI 1)]) rfl ?_
              refine hn_if_eq (tgt := 44) hx hb dX1_record_37 (by decide) (by omega) (fun c37 => ?_) (fun c37 => ?_)
              · refine lv_iconst (v := nI 0) hx hb dX1_record_44 rfl ?_
                have hcd : cd_record N (nI bb) y z = 1 := by unfold cd_record; (repeat' split) <;> omega
                exact Y _ _ _ _ _ _ ((thr_S C T1966 hl.1 (t_X1_inside hfl) q593 q594 q53 q595 kd_X1_inside rfl rfl ⟨Nat.le_of_ble_eq_true rfl, Nat.le_of_ble_eq_true rfl⟩ (Nat.le_of_ble_eq_true rfl) dX1_record_45 ⟨Nat.le_of_ble_eq_true rfl, Nat.le_of_ble_eq_true rfl⟩).on C T1966 hno ⟨Nat.le_of_ble_eq_true rfl, Nat.le_of_ble_eq_true rfl⟩ (fun h2 dc ds hp => by obtain ⟨rfl, rfl, rfl⟩ := hp; exact ⟨rfl, rfl, rfl, by rw [hcd]; exact ⟨by decide, rfl⟩⟩))
              · refine lv_iconst (v := nI 1) hx hb dX1_record_40 rfl ?_
                refine lv_goto (tgt := 45) hx hb dX1_record_41 (by decide) ?_
                refine hp_S C T1966 hl.1 (p_X1_inside) q593 q594 q53 q595 kd_X1_inside rfl rfl ⟨Nat.le_of_ble_eq_true rfl, Nat.le_of_ble_eq_true rfl⟩ (Nat.le_of_ble_eq_true rfl) dX1_record_45 ⟨Nat.le_of_ble_eq_true rfl, Nat.le_of_ble_eq_true rfl⟩ (fun rv H1968 hp1968 T1968 => ?_)
                obtain rfl := hp1968
                refine W.eq (g2 := F0 m 48 ls []) rfl ?_
                obtain ⟨k0, hk0, rfl⟩ := nat_of (x := y) (by omega)
                have ek0 := nI_toInt hk0
                have tk0 : (nI k0).toInt.toNat = k0 := by rw [ek0]; rfl
                refine lv_aload_n hx hb dX1_record_48 rfl (lv_at hl 0 rfl) ?_
                by_cases cS : N 11 = 0
                · refine hp_V C T1968 hl.1 ho0 rfl (p_X1_setting i11.1 cS ho0) q513 q515 qs3 q53 q516 kd_X1_setting rfl rfl ⟨Nat.le_of_ble_eq_true rfl, Nat.le_of_ble_eq_true rfl⟩ (Nat.le_of_ble_eq_true rfl) dX1_record_49 ⟨Nat.le_of_ble_eq_true rfl, Nat.le_of_ble_eq_true rfl⟩ (fun rv H1969 hp1969 T1969 => ?_)
                  obtain rfl := hp1969
                  refine W.eq (g2 := F0 m 52 ls []) rfl ?_
                  refine lv_iconst (v := nI 0) hx hb dX1_record_52 rfl ?_
                  refine lv_istore (lv' := [(4, .int (nI 0)), (0, .ref (L 0)), (1, .int (nI bb)), (2, .int (nI k0)), (3, .int z)]) hx hb dX1_record_53 hl (by decide) rfl (fun ls1970 hl1970 => ?_)
                  have hcd : cd_record N (nI bb) (nI k0) z = 0 := by unfold cd_record; (repeat' split) <;> omega
                  have hbz : z.toInt8.toInt32 = z := byte_id (by omega)
                  have L1 : ∀ (j : Nat) (k : Nat) (r : Nat → Int32) (h1971 : HH) (H1971 : Heap) (locs1971 : List Loc) (ls1971 : Array Slot), (k0 + 1 ≤ k + j) → (h1971 (L 0) = some (.inr (0, [.ref (L 1), .int (nI (N 0)), .ref (L 3), .int (nI (N 1)), .int (nI (N 2)), .int (nI (N 3)), .int (nI (N 4)), .int (nI (N 5)), .int (nI (N 6)), .int (nI (N 7)), .int (nI (N 8)), .ref (L 12), .ref (L 13), .ref (L 14), .ref (L 15), .ref (L 16), .ref (L 17), .int (nI (N 11)), .int (nI (N 15)), .int (nI (N 16)), .int (nI (N 17)), .int (nI (N 18) - 1), .int (nI (N 19)), .ref (L 24), .int (nI pp), .ref (L 26), .ref (L 27), .ref (if N 13 = 1 then L 27 else L 26), .ref (L 29), .ref (L 30), .ref (if N 12 = 1 then L 30 else L 29), .ref (L 32), .ref (B 0), .ref (B 1), .ref (B 2), .ref (B 3), .ref (L 37), .ref (L 38), .ref (L 39), .ref (B 4), .ref (B 5)]), L 0)) → (h1971 (L 12) = some (.inl (E.2.1 1, 20000, .inl r), L 0)) → (k ≤ k0) → (∀ i, i < 20000 → r i = if bb ≤ i ∧ i < bb + k then z else f 12 i) → (h1971 = hup h (L 12) (.inl (E.2.1 1, 20000, .inl r), L 0)) → (Fr (CO L B) h h1971) → (St E s h1971 H1971 locs1971) → (lv_has ls1971 5 [(0, .ref (L 0)), (1, .int (nI bb)), (2, .int (nI k0)), (3, .int z), (4, .int (nI k))]) → W p l e ({ frames := 8, cells := 1, slots := 6, locals := 1200 } : Room) s m ([.ref (L 0), .int (nI bb), .int (nI k0), .int z] : List Value).toArray below meth c H1971 locs1971 0 0 Q (F0 m 55 ls1971 []) := by
                    intro j
                    induction j with
                    | zero => intro k r h1971 H1971 locs1971 ls1971 hm1971 ho0_1971 ha12_1971 hk hr hh hF_1971 T1971 hl1971; exact absurd hm1971 (by omega)
                    | succ j ih1971 =>
                      intro k r h1971 H1971 locs1971 ls1971 hm1971 ho0_1971 ha12_1971 hk hr hh hF_1971 T1971 hl1971
                      refine lv_iload hx hb dX1_record_55 (lv_at hl1971 4 rfl) ?_
                      refine lv_iload_n hx hb dX1_record_57 rfl (lv_at hl1971 2 rfl) ?_
                      refine hn_icmp_ge (tgt := 78) hx hb dX1_record_58 (by decide) (by omega) (by omega) (fun c99 => ?_) (fun c99 => ?_)
                      · have e1 : k = k0 := by omega
                        subst e1
                        have ha1_1972 : h1971 (L 1) = some (.inl (E.2.1 0, 8, .inl (f 1)), L 0) := hu_n hh (hLay.1 1 12 (by decide) (by decide) (by decide)) ha1
                        have ha3_1972 : h1971 (L 3) = some (.inl (E.2.1 0, 64, .inl (f 3)), L 0) := hu_n hh (hLay.1 3 12 (by decide) (by decide) (by decide)) ha3
                        have ha13_1972 : h1971 (L 13) = some (.inl (E.2.1 1, 20000, .inl (f 13)), L 0) := hu_n hh (hLay.1 13 12 (by decide) (by decide) (by decide)) ha13
                        have ha14_1972 : h1971 (L 14) = some (.inl (E.2.1 2, 20000, .inl (f 14)), L 0) := hu_n hh (hLay.1 14 12 (by decide) (by decide) (by decide)) ha14
                        have ha15_1972 : h1971 (L 15) = some (.inl (E.2.1 3, 8, .inl (f 15)), L 0) := hu_n hh (hLay.1 15 12 (by decide) (by decide) (by decide)) ha15
                        have ha16_1972 : h1971 (L 16) = some (.inl (E.2.1 0, 8, .inl (f 16)), L 0) := hu_n hh (hLay.1 16 12 (by decide) (by decide) (by decide)) ha16
                        have ha17_1972 : h1971 (L 17) = some (.inl (E.2.1 0, 8, .inl (f 17)), L 0) := hu_n hh (hLay.1 17 12 (by decide) (by decide) (by decide)) ha17
                        have ha39_1972 : h1971 (L 39) = some (.inl (E.2.1 3, 961, .inl (f 39)), L 0) := hu_n hh (hLay.1 39 12 (by decide) (by decide) (by decide)) ha39
                        have hSt_1972 : Stt E L B h1971 := Stt.kept (O := (· = L 0)) (hu_f hh Fr.rf ha12 rfl) (hLay.1 30 0 (by decide) (by decide) (by decide)) hSt
                        have hPr_1972 : Prs L B pw pl ps h1971 := Prs.kept (O := (· = L 0)) (hu_f hh Fr.rf ha12 rfl) (hLay.1 24 0 (by decide) (by decide) (by decide)) hPr
                        have hCn_1972 : Cns h1971 E L (nI1 (M 8)) (N 10) := Cns.kept (O := (· = L 0)) (hu_f hh Fr.rf ha12 rfl) (hLay.1 26 0 (by decide) (by decide) (by decide)) hCn
                        have hSd_1972 : Sds h1971 E L (nI1 (M 6)) (N 9) := Sds.kept (O := (· = L 0)) (hu_f hh Fr.rf ha12 rfl) (hLay.1 27 0 (by decide) (by decide) (by decide)) hSd
                        have hDg_1972 : Dgo h1971 E L rs := Dgo.kept (O := (· = L 0)) (hu_f hh Fr.rf ha12 rfl) (hLay.1 62 0 (by decide) (by decide) (by decide)) hDg
                        have hB_1972 : Bgs E h1971 B V cp := Bgs.kept (O := (· = L 0)) (hu_f hh Fr.rf ha12 rfl) (fun i hi => hLay.2 i 0 hi (by decide)) hB
                        exact Z _ _ _ _ _ _ _ dX1_record_78 (Nat.zero_le _) (Nat.zero_le _) ⟨hcd, rfl, by rw [tbb, tk0]; exact ⟨pp, gu f 12 r, rs, pw, pl, ps, V, ⟨ho0_1971, ha1_1972, ha3_1972, ha12_1971, ha13_1972, ha14_1972, ha15_1972, ha16_1972, ha17_1972, ha39_1972⟩, ⟨r1, r3, fun i hi => by show r i = if bb ≤ i ∧ i < bb + k then z else G 0 i; rw [hr i hi, r12 i hi], r13, r14, fun z => absurd cS z, r16, r17, rp, rp16⟩, Vr_votes hVr cS, hSt_1972, hPr_1972, hCn_1972, hSd_1972, hDg_1972, hB_1972⟩, hF_1971, rfl, rfl⟩ T1971
                      · refine lv_aload_n hx hb dX1_record_61 rfl (lv_at hl1971 0 rfl) ?_
                        refine hr_get C T1971 ho0_1971 rfl in_X1 11 (by decide) q306 rfl rfl dX1_record_62 ?_
                        refine lv_iload_n hx hb dX1_record_65 rfl (lv_at hl1971 1 rfl) ?_
                        refine lv_iload hx hb dX1_record_66 (lv_at hl1971 4 rfl) ?_
                        refine hn_iadd hx hb dX1_record_68 ?_
                        refine lv_iload_n hx hb dX1_record_69 rfl (lv_at hl1971 3 rfl) ?_
                        refine lv_i2b (v := z) hx hb dX1_record_70 hbz ?_
                        refine hr_bast C T1971 ha12_1971 (by omega) (by omega) (show vp_nar .byte z = z by rw [vp_nar_byte, hbz]) dX1_record_71 (fun h1973 H1973 locs1973 eh1973 T1973 => ?_)
                        have ha12_1973 : h1973 (L 12) = some (.inl (E.2.1 1, 20000, .inl (upd r (bb + k) z)), L 0) := hu_s eh1973
                        have hF_1973 : Fr (CO L B) h h1973 := hu_f eh1973 hF_1971 ha12_1971 (Or.inl rfl)
                        refine lv_iinc (v := nI (k + 1)) (lv' := [(4, .int (nI (k + 1))), (0, .ref (L 0)), (1, .int (nI bb)), (2, .int (nI k0)), (3, .int z)]) hx hb dX1_record_72 hl1971 (k := 4) rfl (nI_add k 1) (by decide) rfl (fun ls1974 hl1974 => ?_)
                        refine lv_goto (tgt := 55) hx hb dX1_record_75 (by decide) ?_
                        have ho0_1973 : h1973 (L 0) = some (.inr (0, [.ref (L 1), .int (nI (N 0)), .ref (L 3), .int (nI (N 1)), .int (nI (N 2)), .int (nI (N 3)), .int (nI (N 4)), .int (nI (N 5)), .int (nI (N 6)), .int (nI (N 7)), .int (nI (N 8)), .ref (L 12), .ref (L 13), .ref (L 14), .ref (L 15), .ref (L 16), .ref (L 17), .int (nI (N 11)), .int (nI (N 15)), .int (nI (N 16)), .int (nI (N 17)), .int (nI (N 18) - 1), .int (nI (N 19)), .ref (L 24), .int (nI pp), .ref (L 26), .ref (L 27), .ref (if N 13 = 1 then L 27 else L 26), .ref (L 29), .ref (L 30), .ref (if N 12 = 1 then L 30 else L 29), .ref (L 32), .ref (B 0), .ref (B 1), .ref (B 2), .ref (B 3), .ref (L 37), .ref (L 38), .ref (L 39), .ref (B 4), .ref (B 5)]), L 0) := hu_n eh1973 (hLay.1 0 12 (by decide) (by decide) (by decide)) ho0_1971
                        exact ih1971 (k + 1) _ _ _ _ _ (by omega) ho0_1973 ha12_1973 (by omega) (fun i hi => by by_cases q : i = bb + k; (rw [q, pk_us, if_pos (by omega)]); (rw [pk_un q, hr i hi]; by_cases q2 : bb ≤ i ∧ i < bb + k; (rw [if_pos q2, if_pos (by omega)]); (rw [if_neg q2, if_neg (by omega)]))) (hup_ih hh eh1973) hF_1973 T1973 (lv_sub hl1974 [1, 2, 3, 4, 0] rfl)
                  exact L1 (k0 + 1) 0 _ _ _ _ _ (by omega) ho0 ha12 (Nat.zero_le _) (fun i _ => by rw [if_neg (by omega)]) (hup_0 ha12) hF T1969 (lv_sub hl1970 [1, 2, 3, 4, 0] rfl)
                · have hcd : cd_record N (nI bb) (nI k0) z = 2 := by unfold cd_record; (repeat' split) <;> omega
                  exact Y _ _ _ _ _ _ ((thr_V C T1968 hl.1 ho0 rfl (t_X1_setting hfl i11.1 cS ho0) q513 q515 qs3 q53 q516 kd_X1_setting rfl rfl ⟨Nat.le_of_ble_eq_true rfl, Nat.le_of_ble_eq_true rfl⟩ (Nat.le_of_ble_eq_true rfl) dX1_record_49 ⟨Nat.le_of_ble_eq_true rfl, Nat.le_of_ble_eq_true rfl⟩).on C T1968 hno ⟨Nat.le_of_ble_eq_true rfl, Nat.le_of_ble_eq_true rfl⟩ (fun h2 dc ds hp => by obtain ⟨rfl, rfl, rfl⟩ := hp; exact ⟨rfl, rfl, rfl, by rw [hcd]; exact ⟨by decide, rfl⟩⟩))
            · refine hp_V C T hl.1 ho0 rfl (p_X1_isC0 (x := z) i0 cI34 ho0) q631 q633 qs4 q53 q634 kd_X1_isCandidate rfl rfl ⟨Nat.le_of_ble_eq_true rfl, Nat.le_of_ble_eq_true rfl⟩ (Nat.le_of_ble_eq_true rfl) dX1_record_34 ⟨Nat.le_of_ble_eq_true rfl, Nat.le_of_ble_eq_true rfl⟩ (fun rv H1967 hp1967 T1967 => ?_)
              obtain rfl := hp1967
              refine W.eq (g2 := F0 m 37 ls [.int (nI 0)]) rfl ?_
              refine hn_if_eq (tgt := 44) hx hb dX1_record_37 (by decide) (by omega) (fun c37 => ?_) (fun c37 => ?_)
              · refine lv_iconst (v := nI 0) hx hb dX1_record_44 rfl ?_
                have hcd : cd_record N (nI bb) y z = 1 := by unfold cd_record; (repeat' split) <;> omega
                exact Y _ _ _ _ _ _ ((thr_S C T1967 hl.1 (t_X1_inside hfl) q593 q594 q53 q595 kd_X1_inside rfl rfl ⟨Nat.le_of_ble_eq_true rfl, Nat.le_of_ble_eq_true rfl⟩ (Nat.le_of_ble_eq_true rfl) dX1_record_45 ⟨Nat.le_of_ble_eq_true rfl, Nat.le_of_ble_eq_true rfl⟩).on C T1967 hno ⟨Nat.le_of_ble_eq_true rfl, Nat.le_of_ble_eq_true rfl⟩ (fun h2 dc ds hp => by obtain ⟨rfl, rfl, rfl⟩ := hp; exact ⟨rfl, rfl, rfl, by rw [hcd]; exact ⟨by decide, rfl⟩⟩))
              · refine lv_iconst (v := nI 1) hx hb dX1_record_40 rfl ?_
                refine lv_goto (tgt := 45) hx hb dX1_record_41 (by decide) ?_
                refine hp_S C T1967 hl.1 (p_X1_inside) q593 q594 q53 q595 kd_X1_inside rfl rfl ⟨Nat.le_of_ble_eq_true rfl, Nat.le_of_ble_eq_true rfl⟩ (Nat.le_of_ble_eq_true rfl) dX1_record_45 ⟨Nat.le_of_ble_eq_true rfl, Nat.le_of_ble_eq_true rfl⟩ (fun rv H1975 hp1975 T1975 => ?_)
                obtain rfl := hp1975
                refine W.eq (g2 := F0 m 48 ls []) rfl ?_
                obtain ⟨k0, hk0, rfl⟩ := nat_of (x := y) (by omega)
                have ek0 := nI_toInt hk0
                have tk0 : (nI k0).toInt.toNat = k0 := by rw [ek0]; rfl
                refine lv_aload_n hx hb dX1_record_48 rfl (lv_at hl 0 rfl) ?_
                by_cases cS : N 11 = 0
                · refine hp_V C T1975 hl.1 ho0 rfl (p_X1_setting i11.1 cS ho0) q513 q515 qs3 q53 q516 kd_X1_setting rfl rfl ⟨Nat.le_of_ble_eq_true rfl, Nat.le_of_ble_eq_true rfl⟩ (Nat.le_of_ble_eq_true rfl) dX1_record_49 ⟨Nat.le_of_ble_eq_true rfl, Nat.le_of_ble_eq_true rfl⟩ (fun rv H1976 hp1976 T1976 => ?_)
                  obtain rfl := hp1976
                  refine W.eq (g2 := F0 m 52 ls []) rfl ?_
                  refine lv_iconst (v := nI 0) hx hb dX1_record_52 rfl ?_
                  refine lv_istore (lv' := [(4, .int (nI 0)), (0, .ref (L 0)), (1, .int (nI bb)), (2, .int (nI k0)), (3, .int z)]) hx hb dX1_record_53 hl (by decide) rfl (fun ls1977 hl1977 => ?_)
                  have hcd : cd_record N (nI bb) (nI k0) z = 0 := by unfold cd_record; (repeat' split) <;> omega
                  have hbz : z.toInt8.toInt32 = z := byte_id (by omega)
                  have L1 : ∀ (j : Nat) (k : Nat) (r : Nat → Int32) (h1978 : HH) (H1978 : Heap) (locs1978 : List Loc) (ls1978 : Array Slot), (k0 + 1 ≤ k + j) → (h1978 (L 0) = some (.inr (0, [.ref (L 1), .int (nI (N 0)), .ref (L 3), .int (nI (N 1)), .int (nI (N 2)), .int (nI (N 3)), .int (nI (N 4)), .int (nI (N 5)), .int (nI (N 6)), .int (nI (N 7)), .int (nI (N 8)), .ref (L 12), .ref (L 13), .ref (L 14), .ref (L 15), .ref (L 16), .ref (L 17), .int (nI (N 11)), .int (nI (N 15)), .int (nI (N 16)), .int (nI (N 17)), .int (nI (N 18) - 1), .int (nI (N 19)), .ref (L 24), .int (nI pp), .ref (L 26), .ref (L 27), .ref (if N 13 = 1 then L 27 else L 26), .ref (L 29), .ref (L 30), .ref (if N 12 = 1 then L 30 else L 29), .ref (L 32), .ref (B 0), .ref (B 1), .ref (B 2), .ref (B 3), .ref (L 37), .ref (L 38), .ref (L 39), .ref (B 4), .ref (B 5)]), L 0)) → (h1978 (L 12) = some (.inl (E.2.1 1, 20000, .inl r), L 0)) → (k ≤ k0) → (∀ i, i < 20000 → r i = if bb ≤ i ∧ i < bb + k then z else f 12 i) → (h1978 = hup h (L 12) (.inl (E.2.1 1, 20000, .inl r), L 0)) → (Fr (CO L B) h h1978) → (St E s h1978 H1978 locs1978) → (lv_has ls1978 5 [(0, .ref (L 0)), (1, .int (nI bb)), (2, .int (nI k0)), (3, .int z), (4, .int (nI k))]) → W p l e ({ frames := 8, cells := 1, slots := 6, locals := 1200 } : Room) s m ([.ref (L 0), .int (nI bb), .int (nI k0), .int z] : List Value).toArray below meth c H1978 locs1978 0 0 Q (F0 m 55 ls1978 []) := by
                    intro j
                    induction j with
                    | zero => intro k r h1978 H1978 locs1978 ls1978 hm1978 ho0_1978 ha12_1978 hk hr hh hF_1978 T1978 hl1978; exact absurd hm1978 (by omega)
                    | succ j ih1978 =>
                      intro k r h1978 H1978 locs1978 ls1978 hm1978 ho0_1978 ha12_1978 hk hr hh hF_1978 T1978 hl1978
                      refine lv_iload hx hb dX1_record_55 (lv_at hl1978 4 rfl) ?_
                      refine lv_iload_n hx hb dX1_record_57 rfl (lv_at hl1978 2 rfl) ?_
                      refine hn_icmp_ge (tgt := 78) hx hb dX1_record_58 (by decide) (by omega) (by omega) (fun c99 => ?_) (fun c99 => ?_)
                      · have e1 : k = k0 := by omega
                        subst e1
                        have ha1_1979 : h1978 (L 1) = some (.inl (E.2.1 0, 8, .inl (f 1)), L 0) := hu_n hh (hLay.1 1 12 (by decide) (by decide) (by decide)) ha1
                        have ha3_1979 : h1978 (L 3) = some (.inl (E.2.1 0, 64, .inl (f 3)), L 0) := hu_n hh (hLay.1 3 12 (by decide) (by decide) (by decide)) ha3
                        have ha13_1979 : h1978 (L 13) = some (.inl (E.2.1 1, 20000, .inl (f 13)), L 0) := hu_n hh (hLay.1 13 12 (by decide) (by decide) (by decide)) ha13
                        have ha14_1979 : h1978 (L 14) = some (.inl (E.2.1 2, 20000, .inl (f 14)), L 0) := hu_n hh (hLay.1 14 12 (by decide) (by decide) (by decide)) ha14
                        have ha15_1979 : h1978 (L 15) = some (.inl (E.2.1 3, 8, .inl (f 15)), L 0) := hu_n hh (hLay.1 15 12 (by decide) (by decide) (by decide)) ha15
                        have ha16_1979 : h1978 (L 16) = some (.inl (E.2.1 0, 8, .inl (f 16)), L 0) := hu_n hh (hLay.1 16 12 (by decide) (by decide) (by decide)) ha16
                        have ha17_1979 : h1978 (L 17) = some (.inl (E.2.1 0, 8, .inl (f 17)), L 0) := hu_n hh (hLay.1 17 12 (by decide) (by decide) (by decide)) ha17
                        have ha39_1979 : h1978 (L 39) = some (.inl (E.2.1 3, 961, .inl (f 39)), L 0) := hu_n hh (hLay.1 39 12 (by decide) (by decide) (by decide)) ha39
                        have hSt_1979 : Stt E L B h1978 := Stt.kept (O := (· = L 0)) (hu_f hh Fr.rf ha12 rfl) (hLay.1 30 0 (by decide) (by decide) (by decide)) hSt
                        have hPr_1979 : Prs L B pw pl ps h1978 := Prs.kept (O := (· = L 0)) (hu_f hh Fr.rf ha12 rfl) (hLay.1 24 0 (by decide) (by decide) (by decide)) hPr
                        have hCn_1979 : Cns h1978 E L (nI1 (M 8)) (N 10) := Cns.kept (O := (· = L 0)) (hu_f hh Fr.rf ha12 rfl) (hLay.1 26 0 (by decide) (by decide) (by decide)) hCn
                        have hSd_1979 : Sds h1978 E L (nI1 (M 6)) (N 9) := Sds.kept (O := (· = L 0)) (hu_f hh Fr.rf ha12 rfl) (hLay.1 27 0 (by decide) (by decide) (by decide)) hSd
                        have hDg_1979 : Dgo h1978 E L rs := Dgo.kept (O := (· = L 0)) (hu_f hh Fr.rf ha12 rfl) (hLay.1 62 0 (by decide) (by decide) (by decide)) hDg
                        have hB_1979 : Bgs E h1978 B V cp := Bgs.kept (O := (· = L 0)) (hu_f hh Fr.rf ha12 rfl) (fun i hi => hLay.2 i 0 hi (by decide)) hB
                        exact Z _ _ _ _ _ _ _ dX1_record_78 (Nat.zero_le _) (Nat.zero_le _) ⟨hcd, rfl, by rw [tbb, tk0]; exact ⟨pp, gu f 12 r, rs, pw, pl, ps, V, ⟨ho0_1978, ha1_1979, ha3_1979, ha12_1978, ha13_1979, ha14_1979, ha15_1979, ha16_1979, ha17_1979, ha39_1979⟩, ⟨r1, r3, fun i hi => by show r i = if bb ≤ i ∧ i < bb + k then z else G 0 i; rw [hr i hi, r12 i hi], r13, r14, fun z => absurd cS z, r16, r17, rp, rp16⟩, Vr_votes hVr cS, hSt_1979, hPr_1979, hCn_1979, hSd_1979, hDg_1979, hB_1979⟩, hF_1978, rfl, rfl⟩ T1978
                      · refine lv_aload_n hx hb dX1_record_61 rfl (lv_at hl1978 0 rfl) ?_
                        refine hr_get C T1978 ho0_1978 rfl in_X1 11 (by decide) q306 rfl rfl dX1_record_62 ?_
                        refine lv_iload_n hx hb dX1_record_65 rfl (lv_at hl1978 1 rfl) ?_
                        refine lv_iload hx hb dX1_record_66 (lv_at hl1978 4 rfl) ?_
                        refine hn_iadd hx hb dX1_record_68 ?_
                        refine lv_iload_n hx hb dX1_record_69 rfl (lv_at hl1978 3 rfl) ?_
                        refine lv_i2b (v := z) hx hb dX1_record_70 hbz ?_
                        refine hr_bast C T1978 ha12_1978 (by omega) (by omega) (show vp_nar .byte z = z by rw [vp_nar_byte, hbz]) dX1_record_71 (fun h1980 H1980 locs1980 eh1980 T1980 => ?_)
                        have ha12_1980 : h1980 (L 12) = some (.inl (E.2.1 1, 20000, .inl (upd r (bb + k) z)), L 0) := hu_s eh1980
                        have hF_1980 : Fr (CO L B) h h1980 := hu_f eh1980 hF_1978 ha12_1978 (Or.inl rfl)
                        refine lv_iinc (v := nI (k + 1)) (lv' := [(4, .int (nI (k + 1))), (0, .ref (L 0)), (1, .int (nI bb)), (2, .int (nI k0)), (3, .int z)]) hx hb dX1_record_72 hl1978 (k := 4) rfl (nI_add k 1) (by decide) rfl (fun ls1981 hl1981 => ?_)
                        refine lv_goto (tgt := 55) hx hb dX1_record_75 (by decide) ?_
                        have ho0_1980 : h1980 (L 0) = some (.inr (0, [.ref (L 1), .int (nI (N 0)), .ref (L 3), .int (nI (N 1)), .int (nI (N 2)), .int (nI (N 3)), .int (nI (N 4)), .int (nI (N 5)), .int (nI (N 6)), .int (nI (N 7)), .int (nI (N 8)), .ref (L 12), .ref (L 13), .ref (L 14), .ref (L 15), .ref (L 16), .ref (L 17), .int (nI (N 11)), .int (nI (N 15)), .int (nI (N 16)), .int (nI (N 17)), .int (nI (N 18) - 1), .int (nI (N 19)), .ref (L 24), .int (nI pp), .ref (L 26), .ref (L 27), .ref (if N 13 = 1 then L 27 else L 26), .ref (L 29), .ref (L 30), .ref (if N 12 = 1 then L 30 else L 29), .ref (L 32), .ref (B 0), .ref (B 1), .ref (B 2), .ref (B 3), .ref (L 37), .ref (L 38), .ref (L 39), .ref (B 4), .ref (B 5)]), L 0) := hu_n eh1980 (hLay.1 0 12 (by decide) (by decide) (by decide)) ho0_1978
                        exact ih1978 (k + 1) _ _ _ _ _ (by omega) ho0_1980 ha12_1980 (by omega) (fun i hi => by by_cases q : i = bb + k; (rw [q, pk_us, if_pos (by omega)]); (rw [pk_un q, hr i hi]; by_cases q2 : bb ≤ i ∧ i < bb + k; (rw [if_pos q2, if_pos (by omega)]); (rw [if_neg q2, if_neg (by omega)]))) (hup_ih hh eh1980) hF_1980 T1980 (lv_sub hl1981 [1, 2, 3, 4, 0] rfl)
                  exact L1 (k0 + 1) 0 _ _ _ _ _ (by omega) ho0 ha12 (Nat.zero_le _) (fun i _ => by rw [if_neg (by omega)]) (hup_0 ha12) hF T1976 (lv_sub hl1977 [1, 2, 3, 4, 0] rfl)
                · have hcd : cd_record N (nI bb) (nI k0) z = 2 := by unfold cd_record; (repeat' split) <;> omega
                  exact Y _ _ _ _ _ _ ((thr_V C T1975 hl.1 ho0 rfl (t_X1_setting hfl i11.1 cS ho0) q513 q515 qs3 q53 q516 kd_X1_setting rfl rfl ⟨Nat.le_of_ble_eq_true rfl, Nat.le_of_ble_eq_true rfl⟩ (Nat.le_of_ble_eq_true rfl) dX1_record_49 ⟨Nat.le_of_ble_eq_true rfl, Nat.le_of_ble_eq_true rfl⟩).on C T1975 hno ⟨Nat.le_of_ble_eq_true rfl, Nat.le_of_ble_eq_true rfl⟩ (fun h2 dc ds hp => by obtain ⟨rfl, rfl, rfl⟩ := hp; exact ⟨rfl, rfl, rfl, by rw [hcd]; exact ⟨by decide, rfl⟩⟩))
