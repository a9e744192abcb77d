set_option maxRecDepth 100000
theorem kd_X1_isCandidate : yX1_isCandidate.cls = RX1 ∧ yX1_isCandidate.cls ≠ "java/lang/invoke/MethodHandle" ∧ yX1_isCandidate.cls ≠ "java/lang/invoke/VarHandle" ∧ (parseMethodDescriptor yX1_isCandidate.desc).map (fun d => d.parameters.length) = some 1 := by decide +kernel
theorem kd_X1_setting : yX1_setting.cls = RX1 ∧ yX1_setting.cls ≠ "java/lang/invoke/MethodHandle" ∧ yX1_setting.cls ≠ "java/lang/invoke/VarHandle" ∧ (parseMethodDescriptor yX1_setting.desc).map (fun d => d.parameters.length) = some 0 := by decide +kernel

/-- the class of the exception that a code stands for -/
def TC (C : String) (k : Nat) (ls : List String) : Prop := k ≠ 0 ∧ ls[k - 1]? = some C
abbrev xIOB : String := "java/lang/IndexOutOfBoundsException"
abbrev xIAE : String := "java/lang/IllegalArgumentException"
abbrev xISE : String := "java/lang/IllegalStateException"
abbrev xUOE : String := "java/lang/UnsupportedOperationException"
theorem mu_s {M : Nat → Nat → Nat} {i : Nat} {g : Nat → Nat} : mu M i g i = g := if_pos rfl
theorem mu_n {M : Nat → Nat → Nat} {i j : Nat} {g : Nat → Nat} (h : j ≠ i) : mu M i g j = M j := if_neg h
/-- a Boolean as an int -/
def bI (p : Bool) : Int32 := if p then 1 else 0

set_option maxHeartbeats 4000000 in
theorem p_X1_isCandidate {E : GE} {l : Launch} {h : HH} {L B N : Nat → Nat} {p : Nat} {x : Int32} (i0 : N 0 ≤ 8) (ho0 : h (L 0) = some (.inr (0, [.ref (L 1), .int (nI (N 0)), .ref (L 3), .int (nI (N 1)), .int (nI (N 2)), .int (nI (N 3)), .int (nI (N 4)), .int (nI (N 5)), .int (nI (N 6)), .int (nI (N 7)), .int (nI (N 8)), .ref (L 12), .ref (L 13), .ref (L 14), .ref (L 15), .ref (L 16), .ref (L 17), .int (nI (N 11)), .int (nI (N 15)), .int (nI (N 16)), .int (nI (N 17)), .int (nI (N 18) - 1), .int (nI (N 19)), .ref (L 24), .int (nI p), .ref (L 26), .ref (L 27), .ref (if N 13 = 1 then L 27 else L 26), .ref (L 29), .ref (L 30), .ref (if N 12 = 1 then L 30 else L 29), .ref (L 32), .ref (B 0), .ref (B 1), .ref (B 2), .ref (B 3), .ref (L 37), .ref (L 38), .ref (L 39), .ref (B 4), .ref (B 5)]), L 0)) : MP E l yX1_isCandidate cX1_isCandidate 2 (some .boolean) ({ frames := 0, cells := 0, slots := 0, locals := 0 } : Room) [.ref (L 0), .int x] h (fun rv => rv = some (.int (if 0 ≤ x.toInt ∧ x.toInt < N 0 then 1 else 0))) := by
  refine hp_z (by decide) (Nat.le_of_ble_eq_true rfl) ?_
  intro p_ e s m below meth c C Q Z ls T hl
  have hx := C.x
  have hb := C.b
  have hl : lv_has ls 2 [(0, .ref (L 0)), (1, .int x)] := hl
  refine lv_iload_n hx hb dX1_isCandidate_0 rfl (lv_at hl 1 rfl) ?_
  refine zi_if_lt (tgt := 16) (X := (x).toInt) hx hb dX1_isCandidate_1 (by decide) rfl (fun c1 => ?_) (fun c1 => ?_)
  · refine lv_iconst (v := nI 0) hx hb dX1_isCandidate_16 rfl ?_
    exact Z _ _ _ _ dX1_isCandidate_17 (Or.inl rfl) (by rw [if_neg (by omega)]; rfl) T
  · refine lv_iload_n hx hb dX1_isCandidate_4 rfl (lv_at hl 1 rfl) ?_
    refine lv_aload_n hx hb dX1_isCandidate_5 rfl (lv_at hl 0 rfl) ?_
    refine hr_get C T ho0 rfl in_X1 1 (by decide) q291 rfl rfl dX1_isCandidate_6 ?_
    refine zi_icmp_ge (tgt := 16) (X := (x).toInt) (Y := ((N 0 : Nat) : Int)) hx hb dX1_isCandidate_9 (by decide) rfl (nI_toInt (by omega)) (fun c2 => ?_) (fun c2 => ?_)
    · refine lv_iconst (v := nI 0) hx hb dX1_isCandidate_16 rfl ?_
      exact Z _ _ _ _ dX1_isCandidate_17 (Or.inl rfl) (by rw [if_neg (by omega)]; rfl) T
    · refine lv_iconst (v := nI 1) hx hb dX1_isCandidate_12 rfl ?_
      refine lv_goto (tgt := 17) hx hb dX1_isCandidate_13 (by decide) ?_
      exact Z _ _ _ _ dX1_isCandidate_17 (Or.inr rfl) (by rw [if_pos (by omega)]; rfl) T

set_option maxHeartbeats 4000000 in
theorem p_X1_setting {E : GE} {l : Launch} {h : HH} {L B N : Nat → Nat} {pp : Nat} (i11 : N 11 ≤ 5) (hs : N 11 = 0) (ho0 : h (L 0) = some (.inr (0, [.ref (L 1), .int (nI (N 0)), .ref (L 3), .int (nI (N 1)), .int (nI (N 2)), .int (nI (N 3)), .int (nI (N 4)), .int (nI (N 5)), .int (nI (N 6)), .int (nI (N 7)), .int (nI (N 8)), .ref (L 12), .ref (L 13), .ref (L 14), .ref (L 15), .ref (L 16), .ref (L 17), .int (nI (N 11)), .int (nI (N 15)), .int (nI (N 16)), .int (nI (N 17)), .int (nI (N 18) - 1), .int (nI (N 19)), .ref (L 24), .int (nI pp), .ref (L 26), .ref (L 27), .ref (if N 13 = 1 then L 27 else L 26), .ref (L 29), .ref (L 30), .ref (if N 12 = 1 then L 30 else L 29), .ref (L 32), .ref (B 0), .ref (B 1), .ref (B 2), .ref (B 3), .ref (L 37), .ref (L 38), .ref (L 39), .ref (B 4), .ref (B 5)]), L 0)) : MP E l yX1_setting cX1_setting 1 none ({ frames := 1, cells := 0, slots := 0, locals := 150 } : Room) [.ref (L 0)] h (fun rv => rv = none) := by
  refine hp_v (by decide) (Nat.le_of_ble_eq_true rfl) ?_
  intro p e s m below meth c C Q Z ls T hl
  have hx := C.x
  have hb := C.b
  have hl : lv_has ls 1 [(0, .ref (L 0))] := hl
  refine lv_aload_n hx hb dX1_setting_0 rfl (lv_at hl 0 rfl) ?_
  refine hr_get C T ho0 rfl in_X1 17 (by decide) q312 rfl rfl dX1_setting_1 ?_
  refine hn_if_ne (tgt := 11) hx hb dX1_setting_4 (by decide) (by omega) (fun c1 => absurd hs c1) (fun c1 => ?_)
  refine lv_iconst (v := nI 1) hx hb dX1_setting_7 rfl ?_
  refine lv_goto (tgt := 12) hx hb dX1_setting_8 (by decide) ?_
  refine hp_S C T hl.1 (p_X1_now) q517 q518 q53 q519 kd_X1_now rfl rfl ⟨Nat.le_of_ble_eq_true rfl, Nat.le_of_ble_eq_true rfl⟩ (Nat.le_of_ble_eq_true rfl) dX1_setting_12 ⟨Nat.le_of_ble_eq_true rfl, Nat.le_of_ble_eq_true rfl⟩ (fun rv H1801 hp1801 T1801 => ?_)
  obtain rfl := hp1801
  refine W.eq (g2 := F0 m 15 ls []) rfl ?_
  exact Z _ _ _ dX1_setting_15 rfl T1801

set_option maxHeartbeats 4000000 in
theorem t_X1_setting {E : GE} {l : Launch} {h : HH} (hfl : l.flags = flags0) {L B N : Nat → Nat} {pp : Nat} (i11 : N 11 ≤ 5) (hs : N 11 ≠ 0) (ho0 : h (L 0) = some (.inr (0, [.ref (L 1), .int (nI (N 0)), .ref (L 3), .int (nI (N 1)), .int (nI (N 2)), .int (nI (N 3)), .int (nI (N 4)), .int (nI (N 5)), .int (nI (N 6)), .int (nI (N 7)), .int (nI (N 8)), .ref (L 12), .ref (L 13), .ref (L 14), .ref (L 15), .ref (L 16), .ref (L 17), .int (nI (N 11)), .int (nI (N 15)), .int (nI (N 16)), .int (nI (N 17)), .int (nI (N 18) - 1), .int (nI (N 19)), .ref (L 24), .int (nI pp), .ref (L 26), .ref (L 27), .ref (if N 13 = 1 then L 27 else L 26), .ref (L 29), .ref (L 30), .ref (if N 12 = 1 then L 30 else L 29), .ref (L 32), .ref (B 0), .ref (B 1), .ref (B 2), .ref (B 3), .ref (L 37), .ref (L 38), .ref (L 39), .ref (B 4), .ref (B 5)]), L 0)) : MT E l yX1_setting cX1_setting 1 none ({ frames := 7, cells := 1, slots := 6, locals := 1050 } : Room) [.ref (L 0)] h "java/lang/IllegalStateException" (fun h' dc ds => h' = h ∧ dc = 1 ∧ ds = 6) := by
  refine ht_of (by decide) (Nat.le_of_ble_eq_true rfl) ?_
  intro p e s m below meth c C hno ls T hl
  have hx := C.x
  have hb := C.b
  have hl : lv_has ls 1 [(0, .ref (L 0))] := hl
  refine lv_aload_n hx hb dX1_setting_0 rfl (lv_at hl 0 rfl) ?_
  refine hr_get C T ho0 rfl in_X1 17 (by decide) q312 rfl rfl dX1_setting_1 ?_
  refine hn_if_ne (tgt := 11) hx hb dX1_setting_4 (by decide) (by omega) (fun c1 => ?_) (fun c1 => absurd c1 hs)
  refine lv_iconst (v := nI 0) hx hb dX1_setting_11 rfl ?_
  exact (thr_S C T hl.1 (t_X1_now hfl) q517 q518 q53 q519 kd_X1_now rfl rfl ⟨Nat.le_of_ble_eq_true rfl, Nat.le_of_ble_eq_true rfl⟩ (Nat.le_of_ble_eq_true rfl) dX1_setting_12 ⟨Nat.le_of_ble_eq_true rfl, Nat.le_of_ble_eq_true rfl⟩).on C T hno ⟨Nat.le_of_ble_eq_true rfl, Nat.le_of_ble_eq_true rfl⟩ (fun h2 dc ds hp => by obtain ⟨rfl, rfl, rfl⟩ := hp; exact ⟨rfl, rfl, rfl⟩)

def cd_candidate (N : Nat → Nat) (x : Int32) : Nat := if x.toInt < 0 ∨ 1000000 < x.toInt then 1 else if N 11 ≠ 0 then 2 else if 8 ≤ N 0 then 3 else 0

theorem Vr_votes {V : Nat → Nat} {pw pl ps : Nat → Int32} {N N' : Nat → Nat} {M M' : Nat → Nat → Nat} {G G' : Nat → Nat → Int32} (H : Vr V pw pl ps N M G) (hs : N 11 = 0) (e1 : N' 22 = N 22 := by rfl) (e2 : N' 23 = N 23 := by rfl) (e3 : N' 11 = N 11 := by rfl) : Vr V pw pl ps N' M' G' := ⟨by rw [e1]; exact H.1, by rw [e2]; exact H.2.1, fun z => absurd (e3.trans hs) z, fun z => absurd (e3.trans hs) z⟩

set_option maxHeartbeats 4000000 in
theorem m_X1_candidate {E : GE} {l : Launch} {h : HH} (hfl : l.flags = flags0) {L B cp N : Nat → Nat} {M : Nat → Nat → Nat} {G : Nat → Nat → Int32} (hLay : Lay L B) (hI : Inv N M G) (hC : Cp E h L B cp N M G) {x : Int32} : MX E l yX1_candidate cX1_candidate 2 (some .int) ({ frames := 8, cells := 1, slots := 6, locals := 1200 } : Room) [.ref (L 0), .int x] h (fun rv h2 dc ds => cd_candidate N x = 0 ∧ rv = some (.int (nI (N 0))) ∧ Cp E h2 L B cp (nu N 0 (N 0 + 1)) (mu M 0 (nu (M 0) (N 0) x.toInt.toNat)) G ∧ Fr (CO L B) h h2 ∧ dc = 0 ∧ ds = 0) (fun C h' dc ds => h' = h ∧ dc = 1 ∧ ds = 6 ∧ TC C (cd_candidate N x) [xIAE, xISE, xUOE]) := by
  refine hx_i (by decide) (Nat.le_of_ble_eq_true rfl) ?_
  intro p e s m below meth c C hno Q Z Y ls T hl
  have hx := C.x
  have hb := C.b
  have hl : lv_has ls 2 [(0, .ref (L 0)), (1, .int x)] := hl
  obtain ⟨i0, i1, i2, i3, i4, i5, i7, i9, i10, i11, i15, iv, isz, isum, ital, itm, idg, icn, irec, isn, iout, ict, iwt, iwt2, iz, inz, iup, ish⟩ := hI
  obtain ⟨pp, f, rs, pw, pl, ps, V, ⟨ho0, ha1, ha3, ha12, ha13, ha14, ha15, ha16, ha17, ha39⟩, ⟨r1, r3, r12, r13, r14, r15, r16, r17, rp, rp16⟩, hVr, hSt, hPr, hCn, hSd, hDg, hB⟩ := hC
  have hF : Fr (CO L B) h h := Fr.rf
  refine lv_iload_n hx hb dX1_candidate_0 rfl (lv_at hl 1 rfl) ?_
  refine zi_if_lt (tgt := 14) (X := (x).toInt) hx hb dX1_candidate_1 (by decide) rfl (fun c1 => ?_) (fun c1 => ?_)
  · refine lv_iconst (v := nI 0) hx hb dX1_candidate_14 rfl ?_
    have hcd : cd_candidate N x = 1 := by unfold cd_candidate; (repeat' split) <;> omega
    exact Y _ _ _ _ _ _ ((thr_S C T hl.1 (t_X1_need hfl) q441 q442 q53 q443 kd_X1_need rfl rfl ⟨Nat.le_of_ble_eq_true rfl, Nat.le_of_ble_eq_true rfl⟩ (Nat.le_of_ble_eq_true rfl) dX1_candidate_15 ⟨Nat.le_of_ble_eq_true rfl, Nat.le_of_ble_eq_true rfl⟩).on C T hno ⟨Nat.le_of_ble_eq_true rfl, Nat.le_of_ble_eq_true rfl⟩ (fun h2 dc ds hp => by obtain ⟨rfl, rfl, rfl⟩ := hp; exact ⟨rfl, rfl, rfl, by rw [hcd]; exact ⟨by decide, rfl⟩⟩))
  · refine lv_iload_n hx hb dX1_candidate_4 rfl (lv_at hl 1 rfl) ?_
    refine lv_ldc (v := nI 1000000) hx hb C.ow (C.ts _ q440) dX1_candidate_5 ?_
    refine zi_icmp_gt (tgt := 14) (X := (x).toInt) (Y := ((1000000 : Nat) : Int)) hx hb dX1_candidate_7 (by decide) rfl (nI_toInt (by omega)) (fun c7 => ?_) (fun c7 => ?_)
    · refine lv_iconst (v := nI 0) hx hb dX1_candidate_14 rfl ?_
      have hcd : cd_candidate N x = 1 := by unfold cd_candidate; (repeat' split) <;> omega
      exact Y _ _ _ _ _ _ ((thr_S C T hl.1 (t_X1_need hfl) q441 q442 q53 q443 kd_X1_need rfl rfl ⟨Nat.le_of_ble_eq_true rfl, Nat.le_of_ble_eq_true rfl⟩ (Nat.le_of_ble_eq_true rfl) dX1_candidate_15 ⟨Nat.le_of_ble_eq_true rfl, Nat.le_of_ble_eq_true rfl⟩).on C T hno ⟨Nat.le_of_ble_eq_true rfl, Nat.le_of_ble_eq_true rfl⟩ (fun h2 dc ds hp => by obtain ⟨rfl, rfl, rfl⟩ := hp; exact ⟨rfl, rfl, rfl, by rw [hcd]; exact ⟨by decide, rfl⟩⟩))
    · refine lv_iconst (v := nI 1) hx hb dX1_candidate_10 rfl ?_
      refine lv_goto (tgt := 15) hx hb dX1_candidate_11 (by decide) ?_
      refine hp_S C T hl.1 (p_X1_need) q441 q442 q53 q443 kd_X1_need rfl rfl ⟨Nat.le_of_ble_eq_true rfl, Nat.le_of_ble_eq_true rfl⟩ (Nat.le_of_ble_eq_true rfl) dX1_candidate_15 ⟨Nat.le_of_ble_eq_true rfl, Nat.le_of_ble_eq_true rfl⟩ (fun rv H1802 hp1802 T1802 => ?_)
      obtain rfl := hp1802
      refine W.eq (g2 := F0 m 18 ls []) rfl ?_
      refine lv_aload_n hx hb dX1_candidate_18 rfl (lv_at hl 0 rfl) ?_
      by_cases cS : N 11 = 0
      · refine hp_V C T1802 hl.1 ho0 rfl (p_X1_setting i11.1 cS ho0) q513 q515 qs3 q53 q516 kd_X1_setting rfl rfl ⟨Nat.le_of_ble_eq_true rfl, Nat.le_of_ble_eq_true rfl⟩ (Nat.le_of_ble_eq_true rfl) dX1_candidate_19 ⟨Nat.le_of_ble_eq_true rfl, Nat.le_of_ble_eq_true rfl⟩ (fun rv H1803 hp1803 T1803 => ?_)
        obtain rfl := hp1803
        refine W.eq (g2 := F0 m 22 ls []) rfl ?_
        refine lv_aload_n hx hb dX1_candidate_22 rfl (lv_at hl 0 rfl) ?_
        refine hr_get C T1803 ho0 rfl in_X1 1 (by decide) q291 rfl rfl dX1_candidate_23 ?_
        refine lv_bipush (v := nI 8) hx hb dX1_candidate_26 rfl ?_
        refine hn_icmp_ge (tgt := 35) hx hb dX1_candidate_28 (by decide) (by omega) (by omega) (fun c28 => ?_) (fun c28 => ?_)
        · refine lv_iconst (v := nI 0) hx hb dX1_candidate_35 rfl ?_
          have hcd : cd_candidate N x = 3 := by unfold cd_candidate; (repeat' split) <;> omega
          exact Y _ _ _ _ _ _ ((thr_S C T1803 hl.1 (t_X1_room hfl) q536 q537 q53 q538 kd_X1_room rfl rfl ⟨Nat.le_of_ble_eq_true rfl, Nat.le_of_ble_eq_true rfl⟩ (Nat.le_of_ble_eq_true rfl) dX1_candidate_36 ⟨Nat.le_of_ble_eq_true rfl, Nat.le_of_ble_eq_true rfl⟩).on C T1803 hno ⟨Nat.le_of_ble_eq_true rfl, Nat.le_of_ble_eq_true rfl⟩ (fun h2 dc ds hp => by obtain ⟨rfl, rfl, rfl⟩ := hp; exact ⟨rfl, rfl, rfl, by rw [hcd]; exact ⟨by decide, rfl⟩⟩))
        · refine lv_iconst (v := nI 1) hx hb dX1_candidate_31 rfl ?_
          refine lv_goto (tgt := 36) hx hb dX1_candidate_32 (by decide) ?_
          refine hp_S C T1803 hl.1 (p_X1_room) q536 q537 q53 q538 kd_X1_room rfl rfl ⟨Nat.le_of_ble_eq_true rfl, Nat.le_of_ble_eq_true rfl⟩ (Nat.le_of_ble_eq_true rfl) dX1_candidate_36 ⟨Nat.le_of_ble_eq_true rfl, Nat.le_of_ble_eq_true rfl⟩ (fun rv H1804 hp1804 T1804 => ?_)
          obtain rfl := hp1804
          refine W.eq (g2 := F0 m 39 ls []) rfl ?_
          refine lv_aload_n hx hb dX1_candidate_39 rfl (lv_at hl 0 rfl) ?_
          obtain ⟨v, hv, rfl⟩ := nat_of (x := x) c1
          have ev := nI_toInt hv
          have tv : (nI v).toInt.toNat = v := by rw [ev]; rfl
          refine hr_get C T1804 ho0 rfl in_X1 0 (by decide) q290 rfl rfl dX1_candidate_40 ?_
          refine lv_aload_n hx hb dX1_candidate_43 rfl (lv_at hl 0 rfl) ?_
          refine hr_get C T1804 ho0 rfl in_X1 1 (by decide) q291 rfl rfl dX1_candidate_44 ?_
          refine lv_iload_n hx hb dX1_candidate_47 rfl (lv_at hl 1 rfl) ?_
          refine hr_iast C T1804 ha1 (by omega) (by omega) dX1_candidate_48 (fun h1805 H1805 locs1805 eh1805 T1805 => ?_)
          have ha1_1805 : h1805 (L 1) = some (.inl (E.2.1 0, 8, .inl (upd (f 1) (N 0) (nI v))), L 0) := hu_s eh1805
          have hF_1805 : Fr (CO L B) h h1805 := hu_f eh1805 hF ha1 (Or.inl rfl)
          refine lv_aload_n hx hb dX1_candidate_49 rfl (lv_at hl 0 rfl) ?_
          refine lv_dup hx hb dX1_candidate_50 rfl ?_
          have ho0_1805 : h1805 (L 0) = some (.inr (0, [.ref (L 1), .int (nI (N 0)), .ref (L 3), .int (nI (N 1)), .int (nI (N 2)), .int (nI (N 3)), .int (nI (N 4)), .int (nI (N 5)), .int (nI (N 6)), .int (nI (N 7)), .int (nI (N 8)), .ref (L 12), .ref (L 13), .ref (L 14), .ref (L 15), .ref (L 16), .ref (L 17), .int (nI (N 11)), .int (nI (N 15)), .int (nI (N 16)), .int (nI (N 17)), .int (nI (N 18) - 1), .int (nI (N 19)), .ref (L 24), .int (nI pp), .ref (L 26), .ref (L 27), .ref (if N 13 = 1 then L 27 else L 26), .ref (L 29), .ref (L 30), .ref (if N 12 = 1 then L 30 else L 29), .ref (L 32), .ref (B 0), .ref (B 1), .ref (B 2), .ref (B 3), .ref (L 37), .ref (L 38), .ref (L 39), .ref (B 4), .ref (B 5)]), L 0) := hu_n eh1805 (hLay.1 0 1 (by decide) (by decide) (by decide)) ho0
          refine hr_get C T1805 ho0_1805 rfl in_X1 1 (by decide) q291 rfl rfl dX1_candidate_51 ?_
          refine lv_dup_x1 hx hb dX1_candidate_54 rfl rfl ?_
          refine lv_iconst (v := nI 1) hx hb dX1_candidate_55 rfl ?_
          refine hn_iadd hx hb dX1_candidate_56 ?_
          refine hr_put C T1805 ho0_1805 rfl in_X1 tyX1 tyX1_ok nmX1 1 (by decide) q291 rfl rfl rfl rfl (Nat.le_of_ble_eq_true rfl) dX1_candidate_57 (fun h1806 H1806 locs1806 eh1806 T1806 => ?_)
          have ho0_1806 : h1806 (L 0) = some (.inr (0, [.ref (L 1), .int (nI ((N 0) + 1)), .ref (L 3), .int (nI (N 1)), .int (nI (N 2)), .int (nI (N 3)), .int (nI (N 4)), .int (nI (N 5)), .int (nI (N 6)), .int (nI (N 7)), .int (nI (N 8)), .ref (L 12), .ref (L 13), .ref (L 14), .ref (L 15), .ref (L 16), .ref (L 17), .int (nI (N 11)), .int (nI (N 15)), .int (nI (N 16)), .int (nI (N 17)), .int (nI (N 18) - 1), .int (nI (N 19)), .ref (L 24), .int (nI pp), .ref (L 26), .ref (L 27), .ref (if N 13 = 1 then L 27 else L 26), .ref (L 29), .ref (L 30), .ref (if N 12 = 1 then L 30 else L 29), .ref (L 32), .ref (B 0), .ref (B 1), .ref (B 2), .ref (B 3), .ref (L 37), .ref (L 38), .ref (L 39), .ref (B 4), .ref (B 5)]), L 0) := hu_s eh1806
          have hF_1806 : Fr (CO L B) h h1806 := hu_f eh1806 hF_1805 ho0_1805 (Or.inl rfl)
          have hcd : cd_candidate N (nI v) = 0 := by unfold cd_candidate; (repeat' split) <;> omega
          have ha1_1806 : h1806 (L 1) = some (.inl (E.2.1 0, 8, .inl (upd (f 1) (N 0) (nI v))), L 0) := hu_n eh1806 (hLay.1 1 0 (by decide) (by decide) (by decide)) ha1_1805
          have ha3_1805 : h1805 (L 3) = some (.inl (E.2.1 0, 64, .inl (f 3)), L 0) := hu_n eh1805 (hLay.1 3 1 (by decide) (by decide) (by decide)) ha3
          have ha3_1806 : h1806 (L 3) = some (.inl (E.2.1 0, 64, .inl (f 3)), L 0) := hu_n eh1806 (hLay.1 3 0 (by decide) (by decide) (by decide)) ha3_1805
          have ha12_1805 : h1805 (L 12) = some (.inl (E.2.1 1, 20000, .inl (f 12)), L 0) := hu_n eh1805 (hLay.1 12 1 (by decide) (by decide) (by decide)) ha12
          have ha12_1806 : h1806 (L 12) = some (.inl (E.2.1 1, 20000, .inl (f 12)), L 0) := hu_n eh1806 (hLay.1 12 0 (by decide) (by decide) (by decide)) ha12_1805
          have ha13_1805 : h1805 (L 13) = some (.inl (E.2.1 1, 20000, .inl (f 13)), L 0) := hu_n eh1805 (hLay.1 13 1 (by decide) (by decide) (by decide)) ha13
          have ha13_1806 : h1806 (L 13) = some (.inl (E.2.1 1, 20000, .inl (f 13)), L 0) := hu_n eh1806 (hLay.1 13 0 (by decide) (by decide) (by decide)) ha13_1805
          have ha14_1805 : h1805 (L 14) = some (.inl (E.2.1 2, 20000, .inl (f 14)), L 0) := hu_n eh1805 (hLay.1 14 1 (by decide) (by decide) (by decide)) ha14
          have ha14_1806 : h1806 (L 14) = some (.inl (E.2.1 2, 20000, .inl (f 14)), L 0) := hu_n eh1806 (hLay.1 14 0 (by decide) (by decide) (by decide)) ha14_1805
          have ha15_1805 : h1805 (L 15) = some (.inl (E.2.1 3, 8, .inl (f 15)), L 0) := hu_n eh1805 (hLay.1 15 1 (by decide) (by decide) (by decide)) ha15
          have ha15_1806 : h1806 (L 15) = some (.inl (E.2.1 3, 8, .inl (f 15)), L 0) := hu_n eh1806 (hLay.1 15 0 (by decide) (by decide) (by decide)) ha15_1805
          have ha16_1805 : h1805 (L 16) = some (.inl (E.2.1 0, 8, .inl (f 16)), L 0) := hu_n eh1805 (hLay.1 16 1 (by decide) (by decide) (by decide)) ha16
          have ha16_1806 : h1806 (L 16) = some (.inl (E.2.1 0, 8, .inl (f 16)), L 0) := hu_n eh1806 (hLay.1 16 0 (by decide) (by decide) (by decide)) ha16_1805
          have ha17_1805 : h1805 (L 17) = some (.inl (E.2.1 0, 8, .inl (f 17)), L 0) := hu_n eh1805 (hLay.1 17 1 (by decide) (by decide) (by decide)) ha17
          have ha17_1806 : h1806 (L 17) = some (.inl (E.2.1 0, 8, .inl (f 17)), L 0) := hu_n eh1806 (hLay.1 17 0 (by decide) (by decide) (by decide)) ha17_1805
          have ha39_1805 : h1805 (L 39) = some (.inl (E.2.1 3, 961, .inl (f 39)), L 0) := hu_n eh1805 (hLay.1 39 1 (by decide) (by decide) (by decide)) ha39
          have ha39_1806 : h1806 (L 39) = some (.inl (E.2.1 3, 961, .inl (f 39)), L 0) := hu_n eh1806 (hLay.1 39 0 (by decide) (by decide) (by decide)) ha39_1805
          have hSt_1805 : Stt E L B h1805 := Stt.kept (O := (· = L 0)) (hu_f eh1805 Fr.rf ha1 rfl) (hLay.1 30 0 (by decide) (by decide) (by decide)) hSt
          have hSt_1806 : Stt E L B h1806 := Stt.kept (O := (· = L 0)) (hu_f eh1806 Fr.rf ho0_1805 rfl) (hLay.1 30 0 (by decide) (by decide) (by decide)) hSt_1805
          have hPr_1805 : Prs L B pw pl ps h1805 := Prs.kept (O := (· = L 0)) (hu_f eh1805 Fr.rf ha1 rfl) (hLay.1 24 0 (by decide) (by decide) (by decide)) hPr
          have hPr_1806 : Prs L B pw pl ps h1806 := Prs.kept (O := (· = L 0)) (hu_f eh1806 Fr.rf ho0_1805 rfl) (hLay.1 24 0 (by decide) (by decide) (by decide)) hPr_1805
          have hCn_1805 : Cns h1805 E L (nI1 (M 8)) (N 10) := Cns.kept (O := (· = L 0)) (hu_f eh1805 Fr.rf ha1 rfl) (hLay.1 26 0 (by decide) (by decide) (by decide)) hCn
          have hCn_1806 : Cns h1806 E L (nI1 (M 8)) (N 10) := Cns.kept (O := (· = L 0)) (hu_f eh1806 Fr.rf ho0_1805 rfl) (hLay.1 26 0 (by decide) (by decide) (by decide)) hCn_1805
          have hSd_1805 : Sds h1805 E L (nI1 (M 6)) (N 9) := Sds.kept (O := (· = L 0)) (hu_f eh1805 Fr.rf ha1 rfl) (hLay.1 27 0 (by decide) (by decide) (by decide)) hSd
          have hSd_1806 : Sds h1806 E L (nI1 (M 6)) (N 9) := Sds.kept (O := (· = L 0)) (hu_f eh1806 Fr.rf ho0_1805 rfl) (hLay.1 27 0 (by decide) (by decide) (by decide)) hSd_1805
          have hDg_1805 : Dgo h1805 E L rs := Dgo.kept (O := (· = L 0)) (hu_f eh1805 Fr.rf ha1 rfl) (hLay.1 62 0 (by decide) (by decide) (by decide)) hDg
          have hDg_1806 : Dgo h1806 E L rs := Dgo.kept (O := (· = L 0)) (hu_f eh1806 Fr.rf ho0_1805 rfl) (hLay.1 62 0 (by decide) (by decide) (by decide)) hDg_1805
          have hB_1805 : Bgs E h1805 B V cp := Bgs.kept (O := (· = L 0)) (hu_f eh1805 Fr.rf ha1 rfl) (fun i hi => hLay.2 i 0 hi (by decide)) hB
          have hB_1806 : Bgs E h1806 B V cp := Bgs.kept (O := (· = L 0)) (hu_f eh1806 Fr.rf ho0_1805 rfl) (fun i hi => hLay.2 i 0 hi (by decide)) hB_1805
          exact Z _ _ _ _ _ _ _ _ dX1_candidate_60 (Nat.zero_le _) (Nat.zero_le _) ⟨hcd, rfl, ⟨pp, gu f 1 (upd (f 1) (N 0) (nI v)), rs, pw, pl, ps, V, ⟨ho0_1806, ha1_1806, ha3_1806, ha12_1806, ha13_1806, ha14_1806, ha15_1806, ha16_1806, ha17_1806, ha39_1806⟩, ⟨fun i hi => by show upd (f 1) (N 0) (nI v) i = nI (nu (M 0) (N 0) ((nI v).toInt.toNat) i); rw [tv]; by_cases z : i = N 0; (rw [z, pk_us, nu_s]); (rw [pk_un z, nu_n z]; exact r1 i hi), r3, r12, r13, r14, fun z => absurd cS z, r16, r17, rp, rp16⟩, Vr_votes hVr cS, hSt_1806, hPr_1806, hCn_1806, hSd_1806, hDg_1806, hB_1806⟩, hF_1806, rfl, rfl⟩ T1806
      · have hcd : cd_candidate N x = 2 := by unfold cd_candidate; (repeat' split) <;> omega
        exact Y _ _ _ _ _ _ ((thr_V C T1802 hl.1 ho0 rfl (t_X1_setting hfl i11.1 cS ho0) q513 q515 qs3 q53 q516 kd_X1_setting rfl rfl ⟨Nat.le_of_ble_eq_true rfl, Nat.le_of_ble_eq_true rfl⟩ (Nat.le_of_ble_eq_true rfl) dX1_candidate_19 ⟨Nat.le_of_ble_eq_true rfl, Nat.le_of_ble_eq_true rfl⟩).on C T1802 hno ⟨Nat.le_of_ble_eq_true rfl, Nat.le_of_ble_eq_true rfl⟩ (fun h2 dc ds hp => by obtain ⟨rfl, rfl, rfl⟩ := hp; exact ⟨rfl, rfl, rfl, by rw [hcd]; exact ⟨by decide, rfl⟩⟩))
