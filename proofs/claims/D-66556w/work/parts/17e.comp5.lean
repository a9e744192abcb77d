set_option maxRecDepth 100000
/-- a place of a number, 32 bits each -/
theorem bv_dig {f : Nat → Int32} {n i : Nat} (hi : i < n) : f i = nI (bv f n / 4294967296 ^ i) := by
  have h1 := bv_split f i (n - i)
  rw [show i + (n - i) = n by omega] at h1
  have h2 := bv_lt f i
  have h3 : bv f n / 4294967296 ^ i = bw f i (n - i) := by
    rw [h1, Nat.add_mul_div_right _ _ (Nat.pow_pos (by decide)), Nat.div_eq_of_lt h2, Nat.zero_add]
  have h4 := bv_split (fun k => f (i + k)) 1 (n - i - 1)
  rw [show 1 + (n - i - 1) = n - i by omega] at h4
  have h5 : bw f i (n - i) = un (f i) + bw (fun k => f (i + k)) 1 (n - i - 1) * 4294967296 := by
    show bv (fun k => f (i + k)) (n - i) = _
    rw [h4, Nat.pow_one]
    show 0 + un (f (i + 0)) * 4294967296 ^ 0 + _ = _
    rw [Nat.pow_zero, Nat.mul_one, Nat.zero_add, Nat.add_zero]
  rw [h3, h5, ← nI_mod, Nat.add_mul_mod_self_right, nI_mod, nI_un]
/-- a number's place -/
def dig (N i : Nat) : Int32 := nI (N / 4294967296 ^ i)
theorem narz {x : Nat} (h : x ≤ 1) : narrow .boolean (.int (nI x)) = .int (nI x) := by
  rcases (show x = 0 ∨ x = 1 by omega) with z | z <;> rw [z] <;> rfl


set_option maxHeartbeats 4000000 in
theorem m_X1_size {E : GE} {l : Launch} {h : HH} (hfl : l.flags = flags0) {L B cp N : Nat → Nat} {M : Nat → Nat → Nat} {G : Nat → Nat → Int32} (hLay : Lay L B) (hI : Inv N M G) (hC : Cp E h L B cp N M G) {x : Int32} : MX E l yX1_size cX1_size 2 (some .int) ({ frames := 8, cells := 1, slots := 6, locals := 1200 } : Room) [.ref (L 0), .int x] h (fun rv h2 dc ds => cd_size x = 0 ∧ rv = some (.int (nI (lm (if x.toInt = 0 then N 22 else N 23)))) ∧ h2 = h ∧ dc = 0 ∧ ds = 0) (fun C h' dc ds => h' = h ∧ dc = 1 ∧ ds = 6 ∧ TC C (cd_size x) [xIOB]) := by
  refine hx_i (by decide) (Nat.le_of_ble_eq_true rfl) ?_
  intro p e s m below meth c C hno Q Z Y ls T hl
  have hx := C.x
  have hb := C.b
  have hl : lv_has ls 2 [(0, .ref (L 0)), (1, .int x)] := hl
  obtain ⟨i0, i1, i2, i3, i4, i5, i7, i9, i10, i11, i15, iv, isz, isum, ital, itm, idg, icn, irec, isn, iout, ict, iwt, iwt2, iz, inz, iup, ish⟩ := hI
  obtain ⟨pp, f, rs, pw, pl, ps, V, ⟨ho0, ha1, ha3, ha12, ha13, ha14, ha15, ha16, ha17, ha39⟩, ⟨r1, r3, r12, r13, r14, r15, r16, r17, rp, rp16⟩, hVr, hSt, hPr, hCn, hSd, hDg, hB⟩ := hC
  have hF : Fr (CO L B) h h := Fr.rf
  refine lv_aload_n hx hb dX1_size_0 rfl (lv_at hl 0 rfl) ?_
  refine lv_iload_n hx hb dX1_size_1 rfl (lv_at hl 1 rfl) ?_
  by_cases cP : x.toInt = 0 ∨ x.toInt = 1
  · refine hc_V C T hl.1 ho0 rfl (m_X1_part cP ho0) q991 q993 qs21 q53 q994 kd_X1_part rfl rfl ⟨Nat.le_of_ble_eq_true rfl, Nat.le_of_ble_eq_true rfl⟩ (Nat.le_of_ble_eq_true rfl) dX1_size_2 ⟨Nat.le_of_ble_eq_true rfl, Nat.le_of_ble_eq_true rfl⟩ (fun rv h2701 H2701 locs2701 hp2701 T2701 => ?_)
    obtain ⟨rfl, hq2701⟩ := hp2701
    rw [hq2701] at T2701
    by_cases cQ : x.toInt = 0
    · rw [if_pos cQ]
      have hbv := hVr.1
      have hlm : lm (V 2) ≤ 112 := by rw [hbv]; exact ish.2.1
      obtain ⟨ca, bf, ⟨hbo, hba, hbn, hb8, hb256⟩, hbval⟩ := hB.1 2 (by decide)
      refine hr_getN C T2701 hbo rfl in_X7 1 (by decide) 5 rfl rfl rfl dX1_size_5 ?_
      have hcd : cd_size x = 0 := by unfold cd_size; (repeat' split) <;> omega
      exact Z _ _ _ _ _ _ _ _ dX1_size_8 (Nat.zero_le _) (Nat.zero_le _) ⟨hcd, by rw [hbv, if_pos cQ], rfl, rfl, rfl⟩ T2701
    · rw [if_neg cQ]
      have hbv := hVr.2.1
      have hlm : lm (V 3) ≤ 112 := by rw [hbv]; exact ish.2.2
      obtain ⟨ca, bf, ⟨hbo, hba, hbn, hb8, hb256⟩, hbval⟩ := hB.1 3 (by decide)
      refine hr_getN C T2701 hbo rfl in_X7 1 (by decide) 5 rfl rfl rfl dX1_size_5 ?_
      have hcd : cd_size x = 0 := by unfold cd_size; (repeat' split) <;> omega
      exact Z _ _ _ _ _ _ _ _ dX1_size_8 (Nat.zero_le _) (Nat.zero_le _) ⟨hcd, by rw [hbv, if_neg cQ], rfl, rfl, rfl⟩ T2701
  · have hcd : cd_size x = 1 := by unfold cd_size; (repeat' split) <;> omega
    exact Y _ _ _ _ _ _ ((thr_V C T hl.1 ho0 rfl (t_X1_part hfl cP ho0) q991 q993 qs21 q53 q994 kd_X1_part rfl rfl ⟨Nat.le_of_ble_eq_true rfl, Nat.le_of_ble_eq_true rfl⟩ (Nat.le_of_ble_eq_true rfl) dX1_size_2 ⟨Nat.le_of_ble_eq_true rfl, Nat.le_of_ble_eq_true rfl⟩).on C T hno ⟨Nat.le_of_ble_eq_true rfl, Nat.le_of_ble_eq_true rfl⟩ (fun h2 dc ds hp => by obtain ⟨rfl, rfl, rfl⟩ := hp; exact ⟨rfl, rfl, rfl, by rw [hcd]; exact ⟨by decide, rfl⟩⟩))

set_option maxHeartbeats 4000000 in
theorem m_X1_limb {E : GE} {l : Launch} {h : HH} (hfl : l.flags = flags0) {L B cp N : Nat → Nat} {M : Nat → Nat → Nat} {G : Nat → Nat → Int32} (hLay : Lay L B) (hI : Inv N M G) (hC : Cp E h L B cp N M G) {x y : Int32} : MX E l yX1_limb cX1_limb 4 (some .int) ({ frames := 8, cells := 1, slots := 6, locals := 1200 } : Room) [.ref (L 0), .int x, .int y] h (fun rv h2 dc ds => cd_limb N x y = 0 ∧ rv = some (.int (dig (if x.toInt = 0 then N 22 else N 23) y.toInt.toNat)) ∧ h2 = h ∧ dc = 0 ∧ ds = 0) (fun C h' dc ds => h' = h ∧ dc = 1 ∧ ds = 6 ∧ TC C (cd_limb N x y) [xIOB]) := by
  refine hx_i (by decide) (Nat.le_of_ble_eq_true rfl) ?_
  intro p e s m below meth c C hno Q Z Y ls T hl
  have hx := C.x
  have hb := C.b
  have hl : lv_has ls 4 [(0, .ref (L 0)), (1, .int x), (2, .int y)] := hl
  obtain ⟨i0, i1, i2, i3, i4, i5, i7, i9, i10, i11, i15, iv, isz, isum, ital, itm, idg, icn, irec, isn, iout, ict, iwt, iwt2, iz, inz, iup, ish⟩ := hI
  obtain ⟨pp, f, rs, pw, pl, ps, V, ⟨ho0, ha1, ha3, ha12, ha13, ha14, ha15, ha16, ha17, ha39⟩, ⟨r1, r3, r12, r13, r14, r15, r16, r17, rp, rp16⟩, hVr, hSt, hPr, hCn, hSd, hDg, hB⟩ := hC
  have hF : Fr (CO L B) h h := Fr.rf
  refine lv_aload_n hx hb dX1_limb_0 rfl (lv_at hl 0 rfl) ?_
  refine lv_iload_n hx hb dX1_limb_1 rfl (lv_at hl 1 rfl) ?_
  by_cases cP : x.toInt = 0 ∨ x.toInt = 1
  · refine hc_V C T hl.1 ho0 rfl (m_X1_part cP ho0) q991 q993 qs21 q53 q994 kd_X1_part rfl rfl ⟨Nat.le_of_ble_eq_true rfl, Nat.le_of_ble_eq_true rfl⟩ (Nat.le_of_ble_eq_true rfl) dX1_limb_2 ⟨Nat.le_of_ble_eq_true rfl, Nat.le_of_ble_eq_true rfl⟩ (fun rv h2702 H2702 locs2702 hp2702 T2702 => ?_)
    obtain ⟨rfl, hq2702⟩ := hp2702
    rw [hq2702] at T2702
    by_cases cQ : x.toInt = 0
    · rw [if_pos cQ]
      have hbv := hVr.1
      have hlm : lm (V 2) ≤ 112 := by rw [hbv]; exact ish.2.1
      have hcdu : cd_limb N x y = if 0 ≤ y.toInt ∧ y.toInt < lm (V 2) then 0 else 1 := by unfold cd_limb; rw [if_pos cQ, ← hbv]; (repeat' split) <;> omega
      obtain ⟨ca, bf, ⟨hbo, hba, hbn, hb8, hb256⟩, hbval⟩ := hB.1 2 (by decide)
      refine lv_astore_n (lv' := [(3, .ref (B 2)), (0, .ref (L 0)), (1, .int x), (2, .int y)]) hx hb dX1_limb_5 rfl hl (by decide) rfl (fun ls2703 hl2703 => ?_)
      refine lv_iload_n hx hb dX1_limb_6 rfl (lv_at hl2703 3 rfl) ?_
      refine zi_if_lt (tgt := 22) (X := (y).toInt) hx hb dX1_limb_7 (by decide) rfl (fun c7 => ?_) (fun c7 => ?_)
      · refine lv_iconst (v := nI 0) hx hb dX1_limb_22 rfl ?_
        have hcd : cd_limb N x y = 1 := by rw [hcdu, if_neg (by omega)]
        exact Y _ _ _ _ _ _ ((thr_S C T2702 hl2703.1 (t_X1_inside hfl) q593 q594 q53 q595 kd_X1_inside rfl rfl ⟨Nat.le_of_ble_eq_true rfl, Nat.le_of_ble_eq_true rfl⟩ (Nat.le_of_ble_eq_true rfl) dX1_limb_23 ⟨Nat.le_of_ble_eq_true rfl, Nat.le_of_ble_eq_true rfl⟩).on C T2702 hno ⟨Nat.le_of_ble_eq_true rfl, Nat.le_of_ble_eq_true rfl⟩ (fun h2 dc ds hp => by obtain ⟨rfl, rfl, rfl⟩ := hp; exact ⟨rfl, rfl, rfl, by rw [hcd]; exact ⟨by decide, rfl⟩⟩))
      · refine lv_iload_n hx hb dX1_limb_10 rfl (lv_at hl2703 3 rfl) ?_
        refine lv_aload_n hx hb dX1_limb_11 rfl (lv_at hl2703 0 rfl) ?_
        refine hr_getN C T2702 hbo rfl in_X7 1 (by decide) 5 rfl rfl rfl dX1_limb_12 ?_
        refine zi_icmp_ge (tgt := 22) (X := (y).toInt) (Y := ((lm (V 2) : Nat) : Int)) hx hb dX1_limb_15 (by decide) rfl (nI_toInt (by omega)) (fun c15 => ?_) (fun c15 => ?_)
        · refine lv_iconst (v := nI 0) hx hb dX1_limb_22 rfl ?_
          have hcd : cd_limb N x y = 1 := by rw [hcdu, if_neg (by omega)]
          exact Y _ _ _ _ _ _ ((thr_S C T2702 hl2703.1 (t_X1_inside hfl) q593 q594 q53 q595 kd_X1_inside rfl rfl ⟨Nat.le_of_ble_eq_true rfl, Nat.le_of_ble_eq_true rfl⟩ (Nat.le_of_ble_eq_true rfl) dX1_limb_23 ⟨Nat.le_of_ble_eq_true rfl, Nat.le_of_ble_eq_true rfl⟩).on C T2702 hno ⟨Nat.le_of_ble_eq_true rfl, Nat.le_of_ble_eq_true rfl⟩ (fun h2 dc ds hp => by obtain ⟨rfl, rfl, rfl⟩ := hp; exact ⟨rfl, rfl, rfl, by rw [hcd]; exact ⟨by decide, rfl⟩⟩))
        · refine lv_iconst (v := nI 1) hx hb dX1_limb_18 rfl ?_
          refine lv_goto (tgt := 23) hx hb dX1_limb_19 (by decide) ?_
          refine hp_S C T2702 hl2703.1 (p_X1_inside) q593 q594 q53 q595 kd_X1_inside rfl rfl ⟨Nat.le_of_ble_eq_true rfl, Nat.le_of_ble_eq_true rfl⟩ (Nat.le_of_ble_eq_true rfl) dX1_limb_23 ⟨Nat.le_of_ble_eq_true rfl, Nat.le_of_ble_eq_true rfl⟩ (fun rv H2704 hp2704 T2704 => ?_)
          obtain rfl := hp2704
          refine W.eq (g2 := F0 m 26 ls2703 []) rfl ?_
          obtain ⟨v, hv, rfl⟩ := nat_of (x := y) (by omega)
          have ev := nI_toInt hv
          have tv : (nI v).toInt.toNat = v := by rw [ev]; rfl
          refine lv_aload_n hx hb dX1_limb_26 rfl (lv_at hl2703 0 rfl) ?_
          refine hr_getN C T2704 hbo rfl in_X7 0 (by decide) 4 rfl rfl rfl dX1_limb_27 ?_
          refine lv_iload_n hx hb dX1_limb_30 rfl (lv_at hl2703 3 rfl) ?_
          refine hr_iald C T2704 hba (by omega) (by omega) dX1_limb_31 ?_
          have hcd : cd_limb N x (nI v) = 0 := by rw [hcdu, if_pos (by omega)]
          exact Z _ _ _ _ _ _ _ _ dX1_limb_32 (Nat.zero_le _) (Nat.zero_le _) ⟨hcd, by rw [tv, if_pos cQ, ← hbv]; exact congrArg (fun z => some (Value.int z)) (by rw [bv_dig (f := bf) (show v < lm (V 2) by omega), hbval]; rfl), rfl, rfl, rfl⟩ T2704
    · rw [if_neg cQ]
      have hbv := hVr.2.1
      have hlm : lm (V 3) ≤ 112 := by rw [hbv]; exact ish.2.2
      have hcdu : cd_limb N x y = if 0 ≤ y.toInt ∧ y.toInt < lm (V 3) then 0 else 1 := by unfold cd_limb; rw [if_neg cQ, ← hbv]; (repeat' split) <;> omega
      obtain ⟨ca, bf, ⟨hbo, hba, hbn, hb8, hb256⟩, hbval⟩ := hB.1 3 (by decide)
      refine lv_astore_n (lv' := [(3, .ref (B 3)), (0, .ref (L 0)), (1, .int x), (2, .int y)]) hx hb dX1_limb_5 rfl hl (by decide) rfl (fun ls2705 hl2705 => ?_)
      refine lv_iload_n hx hb dX1_limb_6 rfl (lv_at hl2705 3 rfl) ?_
      refine zi_if_lt (tgt := 22) (X := (y).toInt) hx hb dX1_limb_7 (by decide) rfl (fun c7 => ?_) (fun c7 => ?_)
      · refine lv_iconst (v := nI 0) hx hb dX1_limb_22 rfl ?_
        have hcd : cd_limb N x y = 1 := by rw [hcdu, if_neg (by omega)]
        exact Y _ _ _ _ _ _ ((thr_S C T2702 hl2705.1 (t_X1_inside hfl) q593 q594 q53 q595 kd_X1_inside rfl rfl ⟨Nat.le_of_ble_eq_true rfl, Nat.le_of_ble_eq_true rfl⟩ (Nat.le_of_ble_eq_true rfl) dX1_limb_23 ⟨Nat.le_of_ble_eq_true rfl, Nat.le_of_ble_eq_true rfl⟩).on C T2702 hno ⟨Nat.le_of_ble_eq_true rfl, Nat.le_of_ble_eq_true rfl⟩ (fun h2 dc ds hp => by obtain ⟨rfl, rfl, rfl⟩ := hp; exact ⟨rfl, rfl, rfl, by rw [hcd]; exact ⟨by decide, rfl⟩⟩))
      · refine lv_iload_n hx hb dX1_limb_10 rfl (lv_at hl2705 3 rfl) ?_
        refine lv_aload_n hx hb dX1_limb_11 rfl (lv_at hl2705 0 rfl) ?_
        refine hr_getN C T2702 hbo rfl in_X7 1 (by decide) 5 rfl rfl rfl dX1_limb_12 ?_
        refine zi_icmp_ge (tgt := 22) (X := (y).toInt) (Y := ((lm (V 3) : Nat) : Int)) hx hb dX1_limb_15 (by decide) rfl (nI_toInt (by omega)) (fun c15 => ?_) (fun c15 => ?_)
        · refine lv_iconst (v := nI 0) hx hb dX1_limb_22 rfl ?_
          have hcd : cd_limb N x y = 1 := by rw [hcdu, if_neg (by omega)]
          exact Y _ _ _ _ _ _ ((thr_S C T2702 hl2705.1 (t_X1_inside hfl) q593 q594 q53 q595 kd_X1_inside rfl rfl ⟨Nat.le_of_ble_eq_true rfl, Nat.le_of_ble_eq_true rfl⟩ (Nat.le_of_ble_eq_true rfl) dX1_limb_23 ⟨Nat.le_of_ble_eq_true rfl, Nat.le_of_ble_eq_true rfl⟩).on C T2702 hno ⟨Nat.le_of_ble_eq_true rfl, Nat.le_of_ble_eq_true rfl⟩ (fun h2 dc ds hp => by obtain ⟨rfl, rfl, rfl⟩ := hp; exact ⟨rfl, rfl, rfl, by rw [hcd]; exact ⟨by decide, rfl⟩⟩))
        · refine lv_iconst (v := nI 1) hx hb dX1_limb_18 rfl ?_
          refine lv_goto (tgt := 23) hx hb dX1_limb_19 (by decide) ?_
          refine hp_S C T2702 hl2705.1 (p_X1_inside) q593 q594 q53 q595 kd_X1_inside rfl rfl ⟨Nat.le_of_ble_eq_true rfl, Nat.le_of_ble_eq_true rfl⟩ (Nat.le_of_ble_eq_true rfl) dX1_limb_23 ⟨Nat.le_of_ble_eq_true rfl, Nat.le_of_ble_eq_true rfl⟩ (fun rv H2706 hp2706 T2706 => ?_)
          obtain rfl := hp2706
          refine W.eq (g2 := F0 m 26 ls2705 []) rfl ?_
          obtain ⟨v, hv, rfl⟩ := nat_of (x := y) (by omega)
          have ev := nI_toInt hv
          have tv : (nI v).toInt.toNat = v := by rw [ev]; rfl
          refine lv_aload_n hx hb dX1_limb_26 rfl (lv_at hl2705 0 rfl) ?_
          refine hr_getN C T2706 hbo rfl in_X7 0 (by decide) 4 rfl rfl rfl dX1_limb_27 ?_
          refine lv_iload_n hx hb dX1_limb_30 rfl (lv_at hl2705 3 rfl) ?_
          refine hr_iald C T2706 hba (by omega) (by omega) dX1_limb_31 ?_
          have hcd : cd_limb N x (nI v) = 0 := by rw [hcdu, if_pos (by omega)]
          exact Z _ _ _ _ _ _ _ _ dX1_limb_32 (Nat.zero_le _) (Nat.zero_le _) ⟨hcd, by rw [tv, if_neg cQ, ← hbv]; exact congrArg (fun z => some (Value.int z)) (by rw [bv_dig (f := bf) (show v < lm (V 3) by omega), hbval]; rfl), rfl, rfl, rfl⟩ T2706
  · have hcd : cd_limb N x y = 1 := by unfold cd_limb; (repeat' split) <;> omega
    exact Y _ _ _ _ _ _ ((thr_V C T hl.1 ho0 rfl (t_X1_part hfl cP ho0) q991 q993 qs21 q53 q994 kd_X1_part rfl rfl ⟨Nat.le_of_ble_eq_true rfl, Nat.le_of_ble_eq_true rfl⟩ (Nat.le_of_ble_eq_true rfl) dX1_limb_2 ⟨Nat.le_of_ble_eq_true rfl, Nat.le_of_ble_eq_true rfl⟩).on C T hno ⟨Nat.le_of_ble_eq_true rfl, Nat.le_of_ble_eq_true rfl⟩ (fun h2 dc ds hp => by obtain ⟨rfl, rfl, rfl⟩ := hp; exact ⟨rfl, rfl, rfl, by rw [hcd]; exact ⟨by decide, rfl⟩⟩))

def agN (N : Nat → Nat) : Nat → Nat := nu (nu (nu (nu (nu (nu (nu (nu (nu (nu N 11 0) 15 0) 16 0) 17 0) 18 0) 19 0) 10 0) 14 0) 20 1) 21 1
def agM (M : Nat → Nat → Nat) : Nat → Nat → Nat := mu (mu M 2 (fun _ => 0)) 3 (fun _ => 0)
def agG (G : Nat → Nat → Int32) : Nat → Nat → Int32 := gu (gu G 1 (fun _ => -2)) 3 (fun _ => -1)
theorem Cns.zero {h : HH} {E : GE} {L : Nat → Nat} {q : Nat → Int32} {fi : Nat} {row : Nat → Int32} (h1 : h (L 26) = some (.inr (2, [.ref (L 60), .int (nI fi), .int (nI 0)]), L 26)) (h2 : h (L 60) = some (.inl (E.2.1 3, 4000, .inl row), L 26)) (h3 : fi < 4000) : Cns h E L q 0 := ⟨fi, row, h1, h2, h3, Nat.zero_le _, fun i hi => absurd hi (by omega), fun i hi => absurd hi (by omega)⟩

set_option maxHeartbeats 4000000 in
theorem m_X1_again {E : GE} {l : Launch} {h : HH} {L B cp N : Nat → Nat} {M : Nat → Nat → Nat} {G : Nat → Nat → Int32} (hLay : Lay L B) (hI : Inv N M G) (hC : Cp E h L B cp N M G) : MM E l yX1_again cX1_again 2 none ({ frames := 0, cells := 0, slots := 0, locals := 0 } : Room) [.ref (L 0)] h (fun rv h2 => rv = none ∧ Cp E h2 L B cp (agN N) (agM M) (agG G) ∧ Fr (CO L B) h h2) := by
  refine hm_v (by decide) (Nat.le_of_ble_eq_true rfl) ?_
  intro p e s m below meth c C hnm Q Z ls T hl
  have hx := C.x
  have hb := C.b
  have hl : lv_has ls 2 [(0, .ref (L 0))] := hl
  obtain ⟨i0, i1, i2, i3, i4, i5, i7, i9, i10, i11, i15, iv, isz, isum, ital, itm, idg, icn, irec, isn, iout, ict, iwt, iwt2, iz, inz, iup, ish⟩ := hI
  obtain ⟨pp, f, rs, pw, pl, ps, V, ⟨ho0, ha1, ha3, ha12, ha13, ha14, ha15, ha16, ha17, ha39⟩, ⟨r1, r3, r12, r13, r14, r15, r16, r17, rp, rp16⟩, hVr, hSt, hPr, hCn, hSd, hDg, hB⟩ := hC
  have hF : Fr (CO L B) h h := Fr.rf
  refine lv_aload_n hx hb dX1_again_0 rfl (lv_at hl 0 rfl) ?_
  refine lv_iconst (v := nI 0) hx hb dX1_again_1 rfl ?_
  refine hr_put C T ho0 rfl in_X1 tyX1 tyX1_ok nmX1 17 (by decide) q312 rfl rfl rfl rfl (Nat.le_of_ble_eq_true rfl) dX1_again_2 (fun h2707 H2707 locs2707 eh2707 T2707 => ?_)
  have ho0_2707 : h2707 (L 0) = some (.inr (0, [.ref (L 1), .int (nI (N 0)), .ref (L 3), .int (nI (N 1)), .int (nI (N 2)), .int (nI (N 3)), .int (nI (N 4)), .int (nI (N 5)), .int (nI (N 6)), .int (nI (N 7)), .int (nI (N 8)), .ref (L 12), .ref (L 13), .ref (L 14), .ref (L 15), .ref (L 16), .ref (L 17), .int (nI 0), .int (nI (N 15)), .int (nI (N 16)), .int (nI (N 17)), .int (nI (N 18) - 1), .int (nI (N 19)), .ref (L 24), .int (nI pp), .ref (L 26), .ref (L 27), .ref (if N 13 = 1 then L 27 else L 26), .ref (L 29), .ref (L 30), .ref (if N 12 = 1 then L 30 else L 29), .ref (L 32), .ref (B 0), .ref (B 1), .ref (B 2), .ref (B 3), .ref (L 37), .ref (L 38), .ref (L 39), .ref (B 4), .ref (B 5)]), L 0) := hu_s eh2707
  have hF_2707 : Fr (CO L B) h h2707 := hu_f eh2707 hF ho0 (Or.inl rfl)
  refine lv_aload_n hx hb dX1_again_5 rfl (lv_at hl 0 rfl) ?_
  refine lv_iconst (v := nI 0) hx hb dX1_again_6 rfl ?_
  refine hr_put C T2707 ho0_2707 rfl in_X1 tyX1 tyX1_ok nmX1 18 (by decide) q313 rfl rfl rfl rfl (Nat.le_of_ble_eq_true rfl) dX1_again_7 (fun h2708 H2708 locs2708 eh2708 T2708 => ?_)
  have ho0_2708 : h2708 (L 0) = some (.inr (0, [.ref (L 1), .int (nI (N 0)), .ref (L 3), .int (nI (N 1)), .int (nI (N 2)), .int (nI (N 3)), .int (nI (N 4)), .int (nI (N 5)), .int (nI (N 6)), .int (nI (N 7)), .int (nI (N 8)), .ref (L 12), .ref (L 13), .ref (L 14), .ref (L 15), .ref (L 16), .ref (L 17), .int (nI 0), .int (nI 0), .int (nI (N 16)), .int (nI (N 17)), .int (nI (N 18) - 1), .int (nI (N 19)), .ref (L 24), .int (nI pp), .ref (L 26), .ref (L 27), .ref (if N 13 = 1 then L 27 else L 26), .ref (L 29), .ref (L 30), .ref (if N 12 = 1 then L 30 else L 29), .ref (L 32), .ref (B 0), .ref (B 1), .ref (B 2), .ref (B 3), .ref (L 37), .ref (L 38), .ref (L 39), .ref (B 4), .ref (B 5)]), L 0) := hu_s eh2708
  have hF_2708 : Fr (CO L B) h h2708 := hu_f eh2708 hF_2707 ho0_2707 (Or.inl rfl)
  refine lv_aload_n hx hb dX1_again_10 rfl (lv_at hl 0 rfl) ?_
  refine lv_iconst (v := nI 0) hx hb dX1_again_11 rfl ?_
  refine hr_put C T2708 ho0_2708 rfl in_X1 tyX1 tyX1_ok nmX1 19 (by decide) q314 rfl rfl rfl rfl (Nat.le_of_ble_eq_true rfl) dX1_again_12 (fun h2709 H2709 locs2709 eh2709 T2709 => ?_)
  have ho0_2709 : h2709 (L 0) = some (.inr (0, [.ref (L 1), .int (nI (N 0)), .ref (L 3), .int (nI (N 1)), .int (nI (N 2)), .int (nI (N 3)), .int (nI (N 4)), .int (nI (N 5)), .int (nI (N 6)), .int (nI (N 7)), .int (nI (N 8)), .ref (L 12), .ref (L 13), .ref (L 14), .ref (L 15), .ref (L 16), .ref (L 17), .int (nI 0), .int (nI 0), .int (nI 0), .int (nI (N 17)), .int (nI (N 18) - 1), .int (nI (N 19)), .ref (L 24), .int (nI pp), .ref (L 26), .ref (L 27), .ref (if N 13 = 1 then L 27 else L 26), .ref (L 29), .ref (L 30), .ref (if N 12 = 1 then L 30 else L 29), .ref (L 32), .ref (B 0), .ref (B 1), .ref (B 2), .ref (B 3), .ref (L 37), .ref (L 38), .ref (L 39), .ref (B 4), .ref (B 5)]), L 0) := hu_s eh2709
  have hF_2709 : Fr (CO L B) h h2709 := hu_f eh2709 hF_2708 ho0_2708 (Or.inl rfl)
  refine lv_aload_n hx hb dX1_again_15 rfl (lv_at hl 0 rfl) ?_
  refine lv_iconst (v := nI 0) hx hb dX1_again_16 rfl ?_
  refine hr_put C T2709 ho0_2709 rfl in_X1 tyX1 tyX1_ok nmX1 20 (by decide) q315 rfl rfl rfl rfl (Nat.le_of_ble_eq_true rfl) dX1_again_17 (fun h2710 H2710 locs2710 eh2710 T2710 => ?_)
  have ho0_2710 : h2710 (L 0) = some (.inr (0, [.ref (L 1), .int (nI (N 0)), .ref (L 3), .int (nI (N 1)), .int (nI (N 2)), .int (nI (N 3)), .int (nI (N 4)), .int (nI (N 5)), .int (nI (N 6)), .int (nI (N 7)), .int (nI (N 8)), .ref (L 12), .ref (L 13), .ref (L 14), .ref (L 15), .ref (L 16), .ref (L 17), .int (nI 0), .int (nI 0), .int (nI 0), .int (nI 0), .int (nI (N 18) - 1), .int (nI (N 19)), .ref (L 24), .int (nI pp), .ref (L 26), .ref (L 27), .ref (if N 13 = 1 then L 27 else L 26), .ref (L 29), .ref (L 30), .ref (if N 12 = 1 then L 30 else L 29), .ref (L 32), .ref (B 0), .ref (B 1), .ref (B 2), .ref (B 3), .ref (L 37), .ref (L 38), .ref (L 39), .ref (B 4), .ref (B 5)]), L 0) := hu_s eh2710
  have hF_2710 : Fr (CO L B) h h2710 := hu_f eh2710 hF_2709 ho0_2709 (Or.inl rfl)
  refine lv_aload_n hx hb dX1_again_20 rfl (lv_at hl 0 rfl) ?_
  refine lv_iconst (v := (-1)) hx hb dX1_again_21 rfl ?_
  rw [show (-1) = nI 0 - 1 from (by decide)]
  refine hr_put C T2710 ho0_2710 rfl in_X1 tyX1 tyX1_ok nmX1 21 (by decide) q316 rfl rfl rfl rfl (Nat.le_of_ble_eq_true rfl) dX1_again_22 (fun h2711 H2711 locs2711 eh2711 T2711 => ?_)
  have ho0_2711 : h2711 (L 0) = some (.inr (0, [.ref (L 1), .int (nI (N 0)), .ref (L 3), .int (nI (N 1)), .int (nI (N 2)), .int (nI (N 3)), .int (nI (N 4)), .int (nI (N 5)), .int (nI (N 6)), .int (nI (N 7)), .int (nI (N 8)), .ref (L 12), .ref (L 13), .ref (L 14), .ref (L 15), .ref (L 16), .ref (L 17), .int (nI 0), .int (nI 0), .int (nI 0), .int (nI 0), .int (nI 0 - 1), .int (nI (N 19)), .ref (L 24), .int (nI pp), .ref (L 26), .ref (L 27), .ref (if N 13 = 1 then L 27 else L 26), .ref (L 29), .ref (L 30), .ref (if N 12 = 1 then L 30 else L 29), .ref (L 32), .ref (B 0), .ref (B 1), .ref (B 2), .ref (B 3), .ref (L 37), .ref (L 38), .ref (L 39), .ref (B 4), .ref (B 5)]), L 0) := hu_s eh2711
  have hF_2711 : Fr (CO L B) h h2711 := hu_f eh2711 hF_2710 ho0_2710 (Or.inl rfl)
  refine lv_aload_n hx hb dX1_again_25 rfl (lv_at hl 0 rfl) ?_
  refine lv_iconst (v := nI 0) hx hb dX1_again_26 rfl ?_
  refine hr_put C T2711 ho0_2711 rfl in_X1 tyX1 tyX1_ok nmX1 22 (by decide) q317 rfl rfl rfl rfl (Nat.le_of_ble_eq_true rfl) dX1_again_27 (fun h2712 H2712 locs2712 eh2712 T2712 => ?_)
  have ho0_2712 : h2712 (L 0) = some (.inr (0, [.ref (L 1), .int (nI (N 0)), .ref (L 3), .int (nI (N 1)), .int (nI (N 2)), .int (nI (N 3)), .int (nI (N 4)), .int (nI (N 5)), .int (nI (N 6)), .int (nI (N 7)), .int (nI (N 8)), .ref (L 12), .ref (L 13), .ref (L 14), .ref (L 15), .ref (L 16), .ref (L 17), .int (nI 0), .int (nI 0), .int (nI 0), .int (nI 0), .int (nI 0 - 1), .int (nI 0), .ref (L 24), .int (nI pp), .ref (L 26), .ref (L 27), .ref (if N 13 = 1 then L 27 else L 26), .ref (L 29), .ref (L 30), .ref (if N 12 = 1 then L 30 else L 29), .ref (L 32), .ref (B 0), .ref (B 1), .ref (B 2), .ref (B 3), .ref (L 37), .ref (L 38), .ref (L 39), .ref (B 4), .ref (B 5)]), L 0) := hu_s eh2712
  have hF_2712 : Fr (CO L B) h h2712 := hu_f eh2712 hF_2711 ho0_2711 (Or.inl rfl)
  refine lv_aload_n hx hb dX1_again_30 rfl (lv_at hl 0 rfl) ?_
  refine hr_get C T2712 ho0_2712 rfl in_X1 25 (by decide) q324 rfl rfl dX1_again_31 ?_
  have hCn_2707 : Cns h2707 E L (nI1 (M 8)) (N 10) := Cns.kept (O := (· = L 0)) (hu_f eh2707 Fr.rf ho0 rfl) (hLay.1 26 0 (by decide) (by decide) (by decide)) hCn
  have hCn_2708 : Cns h2708 E L (nI1 (M 8)) (N 10) := Cns.kept (O := (· = L 0)) (hu_f eh2708 Fr.rf ho0_2707 rfl) (hLay.1 26 0 (by decide) (by decide) (by decide)) hCn_2707
  have hCn_2709 : Cns h2709 E L (nI1 (M 8)) (N 10) := Cns.kept (O := (· = L 0)) (hu_f eh2709 Fr.rf ho0_2708 rfl) (hLay.1 26 0 (by decide) (by decide) (by decide)) hCn_2708
  have hCn_2710 : Cns h2710 E L (nI1 (M 8)) (N 10) := Cns.kept (O := (· = L 0)) (hu_f eh2710 Fr.rf ho0_2709 rfl) (hLay.1 26 0 (by decide) (by decide) (by decide)) hCn_2709
  have hCn_2711 : Cns h2711 E L (nI1 (M 8)) (N 10) := Cns.kept (O := (· = L 0)) (hu_f eh2711 Fr.rf ho0_2710 rfl) (hLay.1 26 0 (by decide) (by decide) (by decide)) hCn_2710
  have hCn_2712 : Cns h2712 E L (nI1 (M 8)) (N 10) := Cns.kept (O := (· = L 0)) (hu_f eh2712 Fr.rf ho0_2711 rfl) (hLay.1 26 0 (by decide) (by decide) (by decide)) hCn_2711
  obtain ⟨fi, row, hco, hro, hfi, hn4, hrow, h01⟩ := id hCn_2712
  refine lv_iconst (v := nI 0) hx hb dX1_again_34 rfl ?_
  refine hr_putN C T2712 hco rfl in_X2 tyX2 tyX2_ok nmX2 2 (by decide) 0 rfl rfl rfl rfl rfl (Nat.le_of_ble_eq_true rfl) dX1_again_35 (fun h2713 H2713 locs2713 eh2713 T2713 => ?_)
  have hco_2713 : h2713 (L 26) = some (.inr (2, [.ref (L 60), .int (nI fi), .int (nI 0)]), L 26) := hu_s eh2713
  have hF_2713 : Fr (CO L B) h h2713 := hu_f eh2713 hF_2712 hco (Or.inr (Or.inr (Or.inl rfl)))
  refine lv_iconst (v := nI 0) hx hb dX1_again_38 rfl ?_
  refine lv_istore_n (lv' := [(1, .int (nI 0)), (0, .ref (L 0))]) hx hb dX1_again_39 rfl hl (by decide) rfl (fun ls2714 hl2714 => ?_)
  have La : ∀ (j : Nat) (k : Nat) (raLa rbLa : Nat → Int32) (h2715 : HH) (H2715 : Heap) (locs2715 : List Loc) (ls2715 : Array Slot), (20000 + 1 ≤ k + j) → (h2715 (L 0) = some (.inr (0, [.ref (L 1), .int (nI (N 0)), .ref (L 3), .int (nI (N 1)), .int (nI (N 2)), .int (nI (N 3)), .int (nI (N 4)), .int (nI (N 5)), .int (nI (N 6)), .int (nI (N 7)), .int (nI (N 8)), .ref (L 12), .ref (L 13), .ref (L 14), .ref (L 15), .ref (L 16), .ref (L 17), .int (nI 0), .int (nI 0), .int (nI 0), .int (nI 0), .int (nI 0 - 1), .int (nI 0), .ref (L 24), .int (nI pp), .ref (L 26), .ref (L 27), .ref (if N 13 = 1 then L 27 else L 26), .ref (L 29), .ref (L 30), .ref (if N 12 = 1 then L 30 else L 29), .ref (L 32), .ref (B 0), .ref (B 1), .ref (B 2), .ref (B 3), .ref (L 37), .ref (L 38), .ref (L 39), .ref (B 4), .ref (B 5)]), L 0)) → (h2715 (L 13) = some (.inl (E.2.1 1, 20000, .inl raLa), L 0)) → (h2715 (L 14) = some (.inl (E.2.1 2, 20000, .inl rbLa), L 0)) → (k ≤ 20000) → (∀ i, i < k → raLa i = (-2)) → (∀ i, i < k → rbLa i = nI 0) → (∀ q, q ≠ L 13 → q ≠ L 14 → h2715 q = h2713 q) → (Fr (· = L 0) h2713 h2715) → (Fr (CO L B) h h2715) → (St E s h2715 H2715 locs2715) → (lv_has ls2715 2 [(0, .ref (L 0)), (1, .int (nI k))]) → W p l e ({ frames := 0, cells := 0, slots := 0, locals := 0 } : Room) s m ([.ref (L 0)] : List Value).toArray below meth c H2715 locs2715 0 0 Q (F0 m 40 ls2715 []) := by
    intro j
    induction j with
    | zero => intro k raLa rbLa h2715 H2715 locs2715 ls2715 hm2715 ho0_2715 hra_2715 hrb_2715 hk hraLa hrbLa hothLa hFoLa hF_2715 T2715 hl2715; exact absurd hm2715 (by omega)
    | succ j ih2715 =>
      intro k raLa rbLa h2715 H2715 locs2715 ls2715 hm2715 ho0_2715 hra_2715 hrb_2715 hk hraLa hrbLa hothLa hFoLa hF_2715 T2715 hl2715
      refine lv_iload_n hx hb dX1_again_40 rfl (lv_at hl2715 1 rfl) ?_
      refine lv_sipush (v := nI 20000) hx hb dX1_again_41 rfl ?_
      refine hn_icmp_ge (tgt := 68) hx hb dX1_again_44 (by decide) (by omega) (by omega) (fun c9 => ?_) (fun c9 => ?_)
      · have e1 : k = 20000 := by omega
        subst e1
        refine lv_iconst (v := nI 0) hx hb dX1_again_68 rfl ?_
        refine lv_istore_n (lv' := [(1, .int (nI 0)), (0, .ref (L 0))]) hx hb dX1_again_69 rfl hl2715 (by decide) rfl (fun ls2720 hl2720 => ?_)
        have Lb : ∀ (j : Nat) (k : Nat) (raLb rbLb : Nat → Int32) (h2721 : HH) (H2721 : Heap) (locs2721 : List Loc) (ls2721 : Array Slot), (8 + 1 ≤ k + j) → (h2721 (L 0) = some (.inr (0, [.ref (L 1), .int (nI (N 0)), .ref (L 3), .int (nI (N 1)), .int (nI (N 2)), .int (nI (N 3)), .int (nI (N 4)), .int (nI (N 5)), .int (nI (N 6)), .int (nI (N 7)), .int (nI (N 8)), .ref (L 12), .ref (L 13), .ref (L 14), .ref (L 15), .ref (L 16), .ref (L 17), .int (nI 0), .int (nI 0), .int (nI 0), .int (nI 0), .int (nI 0 - 1), .int (nI 0), .ref (L 24), .int (nI pp), .ref (L 26), .ref (L 27), .ref (if N 13 = 1 then L 27 else L 26), .ref (L 29), .ref (L 30), .ref (if N 12 = 1 then L 30 else L 29), .ref (L 32), .ref (B 0), .ref (B 1), .ref (B 2), .ref (B 3), .ref (L 37), .ref (L 38), .ref (L 39), .ref (B 4), .ref (B 5)]), L 0)) → (h2721 (L 16) = some (.inl (E.2.1 0, 8, .inl raLb), L 0)) → (h2721 (L 17) = some (.inl (E.2.1 0, 8, .inl rbLb), L 0)) → (k ≤ 8) → (∀ i, i < k → raLb i = nI 0) → (∀ i, i < k → rbLb i = (-1)) → (∀ q, q ≠ L 16 → q ≠ L 17 → h2721 q = h2715 q) → (Fr (· = L 0) h2715 h2721) → (Fr (CO L B) h h2721) → (St E s h2721 H2721 locs2721) → (lv_has ls2721 2 [(0, .ref (L 0)), (1, .int (nI k))]) → W p l e ({ frames := 0, cells := 0, slots := 0, locals := 0 } : Room) s m ([.ref (L 0)] : List Value).toArray below meth c H2721 locs2721 0 0 Q (F0 m 70 ls2721 []) := by
          intro j
          induction j with
          | zero => intro k raLb rbLb h2721 H2721 locs2721 ls2721 hm2721 ho0_2721 hra_2721 hrb_2721 hk hraLb hrbLb hothLb hFoLb hF_2721 T2721 hl2721; exact absurd hm2721 (by omega)
          | succ j ih2721 =>
            intro k raLb rbLb h2721 H2721 locs2721 ls2721 hm2721 ho0_2721 hra_2721 hrb_2721 hk hraLb hrbLb hothLb hFoLb hF_2721 T2721 hl2721
            refine lv_iload_n hx hb dX1_again_70 rfl (lv_at hl2721 1 rfl) ?_
            refine lv_bipush (v := nI 8) hx hb dX1_again_71 rfl ?_
            refine hn_icmp_ge (tgt := 96) hx hb dX1_again_73 (by decide) (by omega) (by omega) (fun c9 => ?_) (fun c9 => ?_)
            · have e1 : k = 8 := by omega
              subst e1
              have ha1_2707 : h2707 (L 1) = some (.inl (E.2.1 0, 8, .inl (f 1)), L 0) := hu_n eh2707 (hLay.1 1 0 (by decide) (by decide) (by decide)) ha1
              have ha1_2708 : h2708 (L 1) = some (.inl (E.2.1 0, 8, .inl (f 1)), L 0) := hu_n eh2708 (hLay.1 1 0 (by decide) (by decide) (by decide)) ha1_2707
              have ha1_2709 : h2709 (L 1) = some (.inl (E.2.1 0, 8, .inl (f 1)), L 0) := hu_n eh2709 (hLay.1 1 0 (by decide) (by decide) (by decide)) ha1_2708
              have ha1_2710 : h2710 (L 1) = some (.inl (E.2.1 0, 8, .inl (f 1)), L 0) := hu_n eh2710 (hLay.1 1 0 (by decide) (by decide) (by decide)) ha1_2709
              have ha1_2711 : h2711 (L 1) = some (.inl (E.2.1 0, 8, .inl (f 1)), L 0) := hu_n eh2711 (hLay.1 1 0 (by decide) (by decide) (by decide)) ha1_2710
              have ha1_2712 : h2712 (L 1) = some (.inl (E.2.1 0, 8, .inl (f 1)), L 0) := hu_n eh2712 (hLay.1 1 0 (by decide) (by decide) (by decide)) ha1_2711
              have ha1_2713 : h2713 (L 1) = some (.inl (E.2.1 0, 8, .inl (f 1)), L 0) := hu_n eh2713 (hLay.1 1 26 (by decide) (by decide) (by decide)) ha1_2712
              have ha1_2719 : h2715 (L 1) = some (.inl (E.2.1 0, 8, .inl (f 1)), L 0) := (hothLa _ (hLay.1 1 13 (by decide) (by decide) (by decide)) (hLay.1 1 14 (by decide) (by decide) (by decide))).trans ha1_2713
              have ha1_2725 : h2721 (L 1) = some (.inl (E.2.1 0, 8, .inl (f 1)), L 0) := (hothLb _ (hLay.1 1 16 (by decide) (by decide) (by decide)) (hLay.1 1 17 (by decide) (by decide) (by decide))).trans ha1_2719
              have ha3_2707 : h2707 (L 3) = some (.inl (E.2.1 0, 64, .inl (f 3)), L 0) := hu_n eh2707 (hLay.1 3 0 (by decide) (by decide) (by decide)) ha3
              have ha3_2708 : h2708 (L 3) = some (.inl (E.2.1 0, 64, .inl (f 3)), L 0) := hu_n eh2708 (hLay.1 3 0 (by decide) (by decide) (by decide)) ha3_2707
              have ha3_2709 : h2709 (L 3) = some (.inl (E.2.1 0, 64, .inl (f 3)), L 0) := hu_n eh2709 (hLay.1 3 0 (by decide) (by decide) (by decide)) ha3_2708
              have ha3_2710 : h2710 (L 3) = some (.inl (E.2.1 0, 64, .inl (f 3)), L 0) := hu_n eh2710 (hLay.1 3 0 (by decide) (by decide) (by decide)) ha3_2709
              have ha3_2711 : h2711 (L 3) = some (.inl (E.2.1 0, 64, .inl (f 3)), L 0) := hu_n eh2711 (hLay.1 3 0 (by decide) (by decide) (by decide)) ha3_2710
              have ha3_2712 : h2712 (L 3) = some (.inl (E.2.1 0, 64, .inl (f 3)), L 0) := hu_n eh2712 (hLay.1 3 0 (by decide) (by decide) (by decide)) ha3_2711
              have ha3_2713 : h2713 (L 3) = some (.inl (E.2.1 0, 64, .inl (f 3)), L 0) := hu_n eh2713 (hLay.1 3 26 (by decide) (by decide) (by decide)) ha3_2712
              have ha3_2719 : h2715 (L 3) = some (.inl (E.2.1 0, 64, .inl (f 3)), L 0) := (hothLa _ (hLay.1 3 13 (by decide) (by decide) (by decide)) (hLay.1 3 14 (by decide) (by decide) (by decide))).trans ha3_2713
              have ha3_2725 : h2721 (L 3) = some (.inl (E.2.1 0, 64, .inl (f 3)), L 0) := (hothLb _ (hLay.1 3 16 (by decide) (by decide) (by decide)) (hLay.1 3 17 (by decide) (by decide) (by decide))).trans ha3_2719
              have ha12_2707 : h2707 (L 12) = some (.inl (E.2.1 1, 20000, .inl (f 12)), L 0) := hu_n eh2707 (hLay.1 12 0 (by decide) (by decide) (by decide)) ha12
              have ha12_2708 : h2708 (L 12) = some (.inl (E.2.1 1, 20000, .inl (f 12)), L 0) := hu_n eh2708 (hLay.1 12 0 (by decide) (by decide) (by decide)) ha12_2707
              have ha12_2709 : h2709 (L 12) = some (.inl (E.2.1 1, 20000, .inl (f 12)), L 0) := hu_n eh2709 (hLay.1 12 0 (by decide) (by decide) (by decide)) ha12_2708
              have ha12_2710 : h2710 (L 12) = some (.inl (E.2.1 1, 20000, .inl (f 12)), L 0) := hu_n eh2710 (hLay.1 12 0 (by decide) (by decide) (by decide)) ha12_2709
              have ha12_2711 : h2711 (L 12) = some (.inl (E.2.1 1, 20000, .inl (f 12)), L 0) := hu_n eh2711 (hLay.1 12 0 (by decide) (by decide) (by decide)) ha12_2710
              have ha12_2712 : h2712 (L 12) = some (.inl (E.2.1 1, 20000, .inl (f 12)), L 0) := hu_n eh2712 (hLay.1 12 0 (by decide) (by decide) (by decide)) ha12_2711
              have ha12_2713 : h2713 (L 12) = some (.inl (E.2.1 1, 20000, .inl (f 12)), L 0) := hu_n eh2713 (hLay.1 12 26 (by decide) (by decide) (by decide)) ha12_2712
              have ha12_2719 : h2715 (L 12) = some (.inl (E.2.1 1, 20000, .inl (f 12)), L 0) := (hothLa _ (hLay.1 12 13 (by decide) (by decide) (by decide)) (hLay.1 12 14 (by decide) (by decide) (by decide))).trans ha12_2713
              have ha12_2725 : h2721 (L 12) = some (.inl (E.2.1 1, 20000, .inl (f 12)), L 0) := (hothLb _ (hLay.1 12 16 (by decide) (by decide) (by decide)) (hLay.1 12 17 (by decide) (by decide) (by decide))).trans ha12_2719
              have hra_2725 : h2721 (L 13) = some (.inl (E.2.1 1, 20000, .inl raLa), L 0) := (hothLb _ (hLay.1 13 16 (by decide) (by decide) (by decide)) (hLay.1 13 17 (by decide) (by decide) (by decide))).trans hra_2715
              have hrb_2725 : h2721 (L 14) = some (.inl (E.2.1 2, 20000, .inl rbLa), L 0) := (hothLb _ (hLay.1 14 16 (by decide) (by decide) (by decide)) (hLay.1 14 17 (by decide) (by decide) (by decide))).trans hrb_2715
              have ha15_2707 : h2707 (L 15) = some (.inl (E.2.1 3, 8, .inl (f 15)), L 0) := hu_n eh2707 (hLay.1 15 0 (by decide) (by decide) (by decide)) ha15
              have ha15_2708 : h2708 (L 15) = some (.inl (E.2.1 3, 8, .inl (f 15)), L 0) := hu_n eh2708 (hLay.1 15 0 (by decide) (by decide) (by decide)) ha15_2707
              have ha15_2709 : h2709 (L 15) = some (.inl (E.2.1 3, 8, .inl (f 15)), L 0) := hu_n eh2709 (hLay.1 15 0 (by decide) (by decide) (by decide)) ha15_2708
              have ha15_2710 : h2710 (L 15) = some (.inl (E.2.1 3, 8, .inl (f 15)), L 0) := hu_n eh2710 (hLay.1 15 0 (by decide) (by decide) (by decide)) ha15_2709
              have ha15_2711 : h2711 (L 15) = some (.inl (E.2.1 3, 8, .inl (f 15)), L 0) := hu_n eh2711 (hLay.1 15 0 (by decide) (by decide) (by decide)) ha15_2710
              have ha15_2712 : h2712 (L 15) = some (.inl (E.2.1 3, 8, .inl (f 15)), L 0) := hu_n eh2712 (hLay.1 15 0 (by decide) (by decide) (by decide)) ha15_2711
              have ha15_2713 : h2713 (L 15) = some (.inl (E.2.1 3, 8, .inl (f 15)), L 0) := hu_n eh2713 (hLay.1 15 26 (by decide) (by decide) (by decide)) ha15_2712
              have ha15_2719 : h2715 (L 15) = some (.inl (E.2.1 3, 8, .inl (f 15)), L 0) := (hothLa _ (hLay.1 15 13 (by decide) (by decide) (by decide)) (hLay.1 15 14 (by decide) (by decide) (by decide))).trans ha15_2713
              have ha15_2725 : h2721 (L 15) = some (.inl (E.2.1 3, 8, .inl (f 15)), L 0) := (hothLb _ (hLay.1 15 16 (by decide) (by decide) (by decide)) (hLay.1 15 17 (by decide) (by decide) (by decide))).trans ha15_2719
              have ha39_2707 : h2707 (L 39) = some (.inl (E.2.1 3, 961, .inl (f 39)), L 0) := hu_n eh2707 (hLay.1 39 0 (by decide) (by decide) (by decide)) ha39
              have ha39_2708 : h2708 (L 39) = some (.inl (E.2.1 3, 961, .inl (f 39)), L 0) := hu_n eh2708 (hLay.1 39 0 (by decide) (by decide) (by decide)) ha39_2707
              have ha39_2709 : h2709 (L 39) = some (.inl (E.2.1 3, 961, .inl (f 39)), L 0) := hu_n eh2709 (hLay.1 39 0 (by decide) (by decide) (by decide)) ha39_2708
              have ha39_2710 : h2710 (L 39) = some (.inl (E.2.1 3, 961, .inl (f 39)), L 0) := hu_n eh2710 (hLay.1 39 0 (by decide) (by decide) (by decide)) ha39_2709
              have ha39_2711 : h2711 (L 39) = some (.inl (E.2.1 3, 961, .inl (f 39)), L 0) := hu_n eh2711 (hLay.1 39 0 (by decide) (by decide) (by decide)) ha39_2710
              have ha39_2712 : h2712 (L 39) = some (.inl (E.2.1 3, 961, .inl (f 39)), L 0) := hu_n eh2712 (hLay.1 39 0 (by decide) (by decide) (by decide)) ha39_2711
              have ha39_2713 : h2713 (L 39) = some (.inl (E.2.1 3, 961, .inl (f 39)), L 0) := hu_n eh2713 (hLay.1 39 26 (by decide) (by decide) (by decide)) ha39_2712
              have ha39_2719 : h2715 (L 39) = some (.inl (E.2.1 3, 961, .inl (f 39)), L 0) := (hothLa _ (hLay.1 39 13 (by decide) (by decide) (by decide)) (hLay.1 39 14 (by decide) (by decide) (by decide))).trans ha39_2713
              have ha39_2725 : h2721 (L 39) = some (.inl (E.2.1 3, 961, .inl (f 39)), L 0) := (hothLb _ (hLay.1 39 16 (by decide) (by decide) (by decide)) (hLay.1 39 17 (by decide) (by decide) (by decide))).trans ha39_2719
              have hco_2719 : h2715 (L 26) = some (.inr (2, [.ref (L 60), .int (nI fi), .int (nI 0)]), L 26) := (hothLa _ (hLay.1 26 13 (by decide) (by decide) (by decide)) (hLay.1 26 14 (by decide) (by decide) (by decide))).trans hco_2713
              have hco_2725 : h2721 (L 26) = some (.inr (2, [.ref (L 60), .int (nI fi), .int (nI 0)]), L 26) := (hothLb _ (hLay.1 26 16 (by decide) (by decide) (by decide)) (hLay.1 26 17 (by decide) (by decide) (by decide))).trans hco_2719
              have hro_2713 : h2713 (L 60) = some (.inl (E.2.1 3, 4000, .inl row), L 26) := hu_n eh2713 (hLay.1 60 26 (by decide) (by decide) (by decide)) hro
              have hro_2719 : h2715 (L 60) = some (.inl (E.2.1 3, 4000, .inl row), L 26) := (hothLa _ (hLay.1 60 13 (by decide) (by decide) (by decide)) (hLay.1 60 14 (by decide) (by decide) (by decide))).trans hro_2713
              have hro_2725 : h2721 (L 60) = some (.inl (E.2.1 3, 4000, .inl row), L 26) := (hothLb _ (hLay.1 60 16 (by decide) (by decide) (by decide)) (hLay.1 60 17 (by decide) (by decide) (by decide))).trans hro_2719
              have hCz : Cns h2721 E L (nI1 (M 8)) 0 := Cns.zero hco_2725 hro_2725 hfi
              have hSt_2707 : Stt E L B h2707 := Stt.kept (O := (· = L 0)) (hu_f eh2707 Fr.rf ho0 rfl) (hLay.1 30 0 (by decide) (by decide) (by decide)) hSt
              have hSt_2708 : Stt E L B h2708 := Stt.kept (O := (· = L 0)) (hu_f eh2708 Fr.rf ho0_2707 rfl) (hLay.1 30 0 (by decide) (by decide) (by decide)) hSt_2707
              have hSt_2709 : Stt E L B h2709 := Stt.kept (O := (· = L 0)) (hu_f eh2709 Fr.rf ho0_2708 rfl) (hLay.1 30 0 (by decide) (by decide) (by decide)) hSt_2708
              have hSt_2710 : Stt E L B h2710 := Stt.kept (O := (· = L 0)) (hu_f eh2710 Fr.rf ho0_2709 rfl) (hLay.1 30 0 (by decide) (by decide) (by decide)) hSt_2709
              have hSt_2711 : Stt E L B h2711 := Stt.kept (O := (· = L 0)) (hu_f eh2711 Fr.rf ho0_2710 rfl) (hLay.1 30 0 (by decide) (by decide) (by decide)) hSt_2710
              have hSt_2712 : Stt E L B h2712 := Stt.kept (O := (· = L 0)) (hu_f eh2712 Fr.rf ho0_2711 rfl) (hLay.1 30 0 (by decide) (by decide) (by decide)) hSt_2711
              have hSt_2713 : Stt E L B h2713 := Stt.kept (O := (· = L 26)) (hu_f eh2713 Fr.rf hco rfl) (hLay.1 30 26 (by decide) (by decide) (by decide)) hSt_2712
              have hSt_2719 : Stt E L B h2715 := Stt.kept (O := (· = L 0)) hFoLa (hLay.1 30 0 (by decide) (by decide) (by decide)) hSt_2713
              have hSt_2725 : Stt E L B h2721 := Stt.kept (O := (· = L 0)) hFoLb (hLay.1 30 0 (by decide) (by decide) (by decide)) hSt_2719
              have hPr_2707 : Prs L B pw pl ps h2707 := Prs.kept (O := (· = L 0)) (hu_f eh2707 Fr.rf ho0 rfl) (hLay.1 24 0 (by decide) (by decide) (by decide)) hPr
              have hPr_2708 : Prs L B pw pl ps h2708 := Prs.kept (O := (· = L 0)) (hu_f eh2708 Fr.rf ho0_2707 rfl) (hLay.1 24 0 (by decide) (by decide) (by decide)) hPr_2707
              have hPr_2709 : Prs L B pw pl ps h2709 := Prs.kept (O := (· = L 0)) (hu_f eh2709 Fr.rf ho0_2708 rfl) (hLay.1 24 0 (by decide) (by decide) (by decide)) hPr_2708
              have hPr_2710 : Prs L B pw pl ps h2710 := Prs.kept (O := (· = L 0)) (hu_f eh2710 Fr.rf ho0_2709 rfl) (hLay.1 24 0 (by decide) (by decide) (by decide)) hPr_2709
              have hPr_2711 : Prs L B pw pl ps h2711 := Prs.kept (O := (· = L 0)) (hu_f eh2711 Fr.rf ho0_2710 rfl) (hLay.1 24 0 (by decide) (by decide) (by decide)) hPr_2710
              have hPr_2712 : Prs L B pw pl ps h2712 := Prs.kept (O := (· = L 0)) (hu_f eh2712 Fr.rf ho0_2711 rfl) (hLay.1 24 0 (by decide) (by decide) (by decide)) hPr_2711
              have hPr_2713 : Prs L B pw pl ps h2713 := Prs.kept (O := (· = L 26)) (hu_f eh2713 Fr.rf hco rfl) (hLay.1 24 26 (by decide) (by decide) (by decide)) hPr_2712
              have hPr_2719 : Prs L B pw pl ps h2715 := Prs.kept (O := (· = L 0)) hFoLa (hLay.1 24 0 (by decide) (by decide) (by decide)) hPr_2713
              have hPr_2725 : Prs L B pw pl ps h2721 := Prs.kept (O := (· = L 0)) hFoLb (hLay.1 24 0 (by decide) (by decide) (by decide)) hPr_2719
              have hSd_2707 : Sds h2707 E L (nI1 (M 6)) (N 9) := Sds.kept (O := (· = L 0)) (hu_f eh2707 Fr.rf ho0 rfl) (hLay.1 27 0 (by decide) (by decide) (by decide)) hSd
              have hSd_2708 : Sds h2708 E L (nI1 (M 6)) (N 9) := Sds.kept (O := (· = L 0)) (hu_f eh2708 Fr.rf ho0_2707 rfl) (hLay.1 27 0 (by decide) (by decide) (by decide)) hSd_2707
              have hSd_2709 : Sds h2709 E L (nI1 (M 6)) (N 9) := Sds.kept (O := (· = L 0)) (hu_f eh2709 Fr.rf ho0_2708 rfl) (hLay.1 27 0 (by decide) (by decide) (by decide)) hSd_2708
              have hSd_2710 : Sds h2710 E L (nI1 (M 6)) (N 9) := Sds.kept (O := (· = L 0)) (hu_f eh2710 Fr.rf ho0_2709 rfl) (hLay.1 27 0 (by decide) (by decide) (by decide)) hSd_2709
              have hSd_2711 : Sds h2711 E L (nI1 (M 6)) (N 9) := Sds.kept (O := (· = L 0)) (hu_f eh2711 Fr.rf ho0_2710 rfl) (hLay.1 27 0 (by decide) (by decide) (by decide)) hSd_2710
              have hSd_2712 : Sds h2712 E L (nI1 (M 6)) (N 9) := Sds.kept (O := (· = L 0)) (hu_f eh2712 Fr.rf ho0_2711 rfl) (hLay.1 27 0 (by decide) (by decide) (by decide)) hSd_2711
              have hSd_2713 : Sds h2713 E L (nI1 (M 6)) (N 9) := Sds.kept (O := (· = L 26)) (hu_f eh2713 Fr.rf hco rfl) (hLay.1 27 26 (by decide) (by decide) (by decide)) hSd_2712
              have hSd_2719 : Sds h2715 E L (nI1 (M 6)) (N 9) := Sds.kept (O := (· = L 0)) hFoLa (hLay.1 27 0 (by decide) (by decide) (by decide)) hSd_2713
              have hSd_2725 : Sds h2721 E L (nI1 (M 6)) (N 9) := Sds.kept (O := (· = L 0)) hFoLb (hLay.1 27 0 (by decide) (by decide) (by decide)) hSd_2719
              have hDg_2707 : Dgo h2707 E L rs := Dgo.kept (O := (· = L 0)) (hu_f eh2707 Fr.rf ho0 rfl) (hLay.1 62 0 (by decide) (by decide) (by decide)) hDg
              have hDg_2708 : Dgo h2708 E L rs := Dgo.kept (O := (· = L 0)) (hu_f eh2708 Fr.rf ho0_2707 rfl) (hLay.1 62 0 (by decide) (by decide) (by decide)) hDg_2707
              have hDg_2709 : Dgo h2709 E L rs := Dgo.kept (O := (· = L 0)) (hu_f eh2709 Fr.rf ho0_2708 rfl) (hLay.1 62 0 (by decide) (by decide) (by decide)) hDg_2708
              have hDg_2710 : Dgo h2710 E L rs := Dgo.kept (O := (· = L 0)) (hu_f eh2710 Fr.rf ho0_2709 rfl) (hLay.1 62 0 (by decide) (by decide) (by decide)) hDg_2709
              have hDg_2711 : Dgo h2711 E L rs := Dgo.kept (O := (· = L 0)) (hu_f eh2711 Fr.rf ho0_2710 rfl) (hLay.1 62 0 (by decide) (by decide) (by decide)) hDg_2710
              have hDg_2712 : Dgo h2712 E L rs := Dgo.kept (O := (· = L 0)) (hu_f eh2712 Fr.rf ho0_2711 rfl) (hLay.1 62 0 (by decide) (by decide) (by decide)) hDg_2711
              have hDg_2713 : Dgo h2713 E L rs := Dgo.kept (O := (· = L 26)) (hu_f eh2713 Fr.rf hco rfl) (hLay.1 62 26 (by decide) (by decide) (by decide)) hDg_2712
              have hDg_2719 : Dgo h2715 E L rs := Dgo.kept (O := (· = L 0)) hFoLa (hLay.1 62 0 (by decide) (by decide) (by decide)) hDg_2713
              have hDg_2725 : Dgo h2721 E L rs := Dgo.kept (O := (· = L 0)) hFoLb (hLay.1 62 0 (by decide) (by decide) (by decide)) hDg_2719
              have hB_2707 : Bgs E h2707 B V cp := Bgs.kept (O := (· = L 0)) (hu_f eh2707 Fr.rf ho0 rfl) (fun i hi => hLay.2 i 0 hi (by decide)) hB
              have hB_2708 : Bgs E h2708 B V cp := Bgs.kept (O := (· = L 0)) (hu_f eh2708 Fr.rf ho0_2707 rfl) (fun i hi => hLay.2 i 0 hi (by decide)) hB_2707
              have hB_2709 : Bgs E h2709 B V cp := Bgs.kept (O := (· = L 0)) (hu_f eh2709 Fr.rf ho0_2708 rfl) (fun i hi => hLay.2 i 0 hi (by decide)) hB_2708
              have hB_2710 : Bgs E h2710 B V cp := Bgs.kept (O := (· = L 0)) (hu_f eh2710 Fr.rf ho0_2709 rfl) (fun i hi => hLay.2 i 0 hi (by decide)) hB_2709
              have hB_2711 : Bgs E h2711 B V cp := Bgs.kept (O := (· = L 0)) (hu_f eh2711 Fr.rf ho0_2710 rfl) (fun i hi => hLay.2 i 0 hi (by decide)) hB_2710
              have hB_2712 : Bgs E h2712 B V cp := Bgs.kept (O := (· = L 0)) (hu_f eh2712 Fr.rf ho0_2711 rfl) (fun i hi => hLay.2 i 0 hi (by decide)) hB_2711
              have hB_2713 : Bgs E h2713 B V cp := Bgs.kept (O := (· = L 26)) (hu_f eh2713 Fr.rf hco rfl) (fun i hi => hLay.2 i 26 hi (by decide)) hB_2712
              have hB_2719 : Bgs E h2715 B V cp := Bgs.kept (O := (· = L 0)) hFoLa (fun i hi => hLay.2 i 0 hi (by decide)) hB_2713
              have hB_2725 : Bgs E h2721 B V cp := Bgs.kept (O := (· = L 0)) hFoLb (fun i hi => hLay.2 i 0 hi (by decide)) hB_2719
              exact Z _ _ _ _ _ dX1_again_96 ⟨rfl, ⟨pp, (fun k => if k = 13 then raLa else if k = 14 then rbLa else if k = 16 then raLb else if k = 17 then rbLb else f k), rs, pw, pl, ps, V, ⟨ho0_2721, ha1_2725, ha3_2725, ha12_2725, hra_2725, hrb_2725, ha15_2725, hra_2721, hrb_2721, ha39_2725⟩, ⟨r1, r3, r12, hraLa, hrbLa, fun z => absurd rfl z, hraLb, hrbLb, fun z => absurd rfl z, rp16⟩, ⟨hVr.1, hVr.2.1, fun z => absurd rfl z, fun z => absurd rfl z⟩, hSt_2725, hPr_2725, hCz, hSd_2725, hDg_2725, hB_2725⟩, hF_2721⟩ T2721
            · refine lv_aload_n hx hb dX1_again_76 rfl (lv_at hl2721 0 rfl) ?_
              refine hr_get C T2721 ho0_2721 rfl in_X1 15 (by decide) q310 rfl rfl dX1_again_77 ?_
              refine lv_iload_n hx hb dX1_again_80 rfl (lv_at hl2721 1 rfl) ?_
              refine lv_iconst (v := nI 0) hx hb dX1_again_81 rfl ?_
              refine hr_iast C T2721 hra_2721 (by omega) (by omega) dX1_again_82 (fun h2722 H2722 locs2722 eh2722 T2722 => ?_)
              have hra_2722 : h2722 (L 16) = some (.inl (E.2.1 0, 8, .inl (upd raLb k (nI 0))), L 0) := hu_s eh2722
              have hF_2722 : Fr (CO L B) h h2722 := hu_f eh2722 hF_2721 hra_2721 (Or.inl rfl)
              refine lv_aload_n hx hb dX1_again_83 rfl (lv_at hl2721 0 rfl) ?_
              have ho0_2722 : h2722 (L 0) = some (.inr (0, [.ref (L 1), .int (nI (N 0)), .ref (L 3), .int (nI (N 1)), .int (nI (N 2)), .int (nI (N 3)), .int (nI (N 4)), .int (nI (N 5)), .int (nI (N 6)), .int (nI (N 7)), .int (nI (N 8)), .ref (L 12), .ref (L 13), .ref (L 14), .ref (L 15), .ref (L 16), .ref (L 17), .int (nI 0), .int (nI 0), .int (nI 0), .int (nI 0), .int (nI 0 - 1), .int (nI 0), .ref (L 24), .int (nI pp), .ref (L 26), .ref (L 27), .ref (if N 13 = 1 then L 27 else L 26), .ref (L 29), .ref (L 30), .ref (if N 12 = 1 then L 30 else L 29), .ref (L 32), .ref (B 0), .ref (B 1), .ref (B 2), .ref (B 3), .ref (L 37), .ref (L 38), .ref (L 39), .ref (B 4), .ref (B 5)]), L 0) := hu_n eh2722 (hLay.1 0 16 (by decide) (by decide) (by decide)) ho0_2721
              refine hr_get C T2722 ho0_2722 rfl in_X1 16 (by decide) q311 rfl rfl dX1_again_84 ?_
              refine lv_iload_n hx hb dX1_again_87 rfl (lv_at hl2721 1 rfl) ?_
              refine lv_iconst (v := (-1)) hx hb dX1_again_88 rfl ?_
              have hrb_2722 : h2722 (L 17) = some (.inl (E.2.1 0, 8, .inl rbLb), L 0) := hu_n eh2722 (hLay.1 17 16 (by decide) (by decide) (by decide)) hrb_2721
              refine hr_iast C T2722 hrb_2722 (by omega) (by omega) dX1_again_89 (fun h2723 H2723 locs2723 eh2723 T2723 => ?_)
              have hrb_2723 : h2723 (L 17) = some (.inl (E.2.1 0, 8, .inl (upd rbLb k (-1))), L 0) := hu_s eh2723
              have hF_2723 : Fr (CO L B) h h2723 := hu_f eh2723 hF_2722 hrb_2722 (Or.inl rfl)
              refine lv_iinc (v := nI (k + 1)) (lv' := [(1, .int (nI (k + 1))), (0, .ref (L 0))]) hx hb dX1_again_90 hl2721 (k := 1) rfl (nI_add k 1) (by decide) rfl (fun ls2724 hl2724 => ?_)
              refine lv_goto (tgt := 70) hx hb dX1_again_93 (by decide) ?_
              have ho0_2723 : h2723 (L 0) = some (.inr (0, [.ref (L 1), .int (nI (N 0)), .ref (L 3), .int (nI (N 1)), .int (nI (N 2)), .int (nI (N 3)), .int (nI (N 4)), .int (nI (N 5)), .int (nI (N 6)), .int (nI (N 7)), .int (nI (N 8)), .ref (L 12), .ref (L 13), .ref (L 14), .ref (L 15), .ref (L 16), .ref (L 17), .int (nI 0), .int (nI 0), .int (nI 0), .int (nI 0), .int (nI 0 - 1), .int (nI 0), .ref (L 24), .int (nI pp), .ref (L 26), .ref (L 27), .ref (if N 13 = 1 then L 27 else L 26), .ref (L 29), .ref (L 30), .ref (if N 12 = 1 then L 30 else L 29), .ref (L 32), .ref (B 0), .ref (B 1), .ref (B 2), .ref (B 3), .ref (L 37), .ref (L 38), .ref (L 39), .ref (B 4), .ref (B 5)]), L 0) := hu_n eh2723 (hLay.1 0 17 (by decide) (by decide) (by decide)) ho0_2722
              have hra_2723 : h2723 (L 16) = some (.inl (E.2.1 0, 8, .inl (upd raLb k (nI 0))), L 0) := hu_n eh2723 (hLay.1 16 17 (by decide) (by decide) (by decide)) hra_2722
              exact ih2721 (k + 1) _ _ _ _ _ _ (by omega) ho0_2723 hra_2723 hrb_2723 (by omega) (fun i hi => by rcases Nat.lt_or_ge i k with z | z; (rw [pk_un (by omega)]; exact hraLb i z); (rw [show i = k by omega, pk_us])) (fun i hi => by rcases Nat.lt_or_ge i k with z | z; (rw [pk_un (by omega)]; exact hrbLb i z); (rw [show i = k by omega, pk_us])) (fun q z1 z2 => by rw [eh2723, hup_n z2, eh2722, hup_n z1]; exact hothLb q z1 z2) (hu_f eh2723 (hu_f eh2722 hFoLb hra_2721 rfl) hrb_2722 rfl) hF_2723 T2723 (lv_sub hl2724 [1, 0] rfl)
        have ha16_2707 : h2707 (L 16) = some (.inl (E.2.1 0, 8, .inl (f 16)), L 0) := hu_n eh2707 (hLay.1 16 0 (by decide) (by decide) (by decide)) ha16
        have ha16_2708 : h2708 (L 16) = some (.inl (E.2.1 0, 8, .inl (f 16)), L 0) := hu_n eh2708 (hLay.1 16 0 (by decide) (by decide) (by decide)) ha16_2707
        have ha16_2709 : h2709 (L 16) = some (.inl (E.2.1 0, 8, .inl (f 16)), L 0) := hu_n eh2709 (hLay.1 16 0 (by decide) (by decide) (by decide)) ha16_2708
        have ha16_2710 : h2710 (L 16) = some (.inl (E.2.1 0, 8, .inl (f 16)), L 0) := hu_n eh2710 (hLay.1 16 0 (by decide) (by decide) (by decide)) ha16_2709
        have ha16_2711 : h2711 (L 16) = some (.inl (E.2.1 0, 8, .inl (f 16)), L 0) := hu_n eh2711 (hLay.1 16 0 (by decide) (by decide) (by decide)) ha16_2710
        have ha16_2712 : h2712 (L 16) = some (.inl (E.2.1 0, 8, .inl (f 16)), L 0) := hu_n eh2712 (hLay.1 16 0 (by decide) (by decide) (by decide)) ha16_2711
        have ha16_2713 : h2713 (L 16) = some (.inl (E.2.1 0, 8, .inl (f 16)), L 0) := hu_n eh2713 (hLay.1 16 26 (by decide) (by decide) (by decide)) ha16_2712
        have ha16_2719 : h2715 (L 16) = some (.inl (E.2.1 0, 8, .inl (f 16)), L 0) := (hothLa _ (hLay.1 16 13 (by decide) (by decide) (by decide)) (hLay.1 16 14 (by decide) (by decide) (by decide))).trans ha16_2713
        have ha17_2707 : h2707 (L 17) = some (.inl (E.2.1 0, 8, .inl (f 17)), L 0) := hu_n eh2707 (hLay.1 17 0 (by decide) (by decide) (by decide)) ha17
        have ha17_2708 : h2708 (L 17) = some (.inl (E.2.1 0, 8, .inl (f 17)), L 0) := hu_n eh2708 (hLay.1 17 0 (by decide) (by decide) (by decide)) ha17_2707
        have ha17_2709 : h2709 (L 17) = some (.inl (E.2.1 0, 8, .inl (f 17)), L 0) := hu_n eh2709 (hLay.1 17 0 (by decide) (by decide) (by decide)) ha17_2708
        have ha17_2710 : h2710 (L 17) = some (.inl (E.2.1 0, 8, .inl (f 17)), L 0) := hu_n eh2710 (hLay.1 17 0 (by decide) (by decide) (by decide)) ha17_2709
        have ha17_2711 : h2711 (L 17) = some (.inl (E.2.1 0, 8, .inl (f 17)), L 0) := hu_n eh2711 (hLay.1 17 0 (by decide) (by decide) (by decide)) ha17_2710
        have ha17_2712 : h2712 (L 17) = some (.inl (E.2.1 0, 8, .inl (f 17)), L 0) := hu_n eh2712 (hLay.1 17 0 (by decide) (by decide) (by decide)) ha17_2711
        have ha17_2713 : h2713 (L 17) = some (.inl (E.2.1 0, 8, .inl (f 17)), L 0) := hu_n eh2713 (hLay.1 17 26 (by decide) (by decide) (by decide)) ha17_2712
        have ha17_2719 : h2715 (L 17) = some (.inl (E.2.1 0, 8, .inl (f 17)), L 0) := (hothLa _ (hLay.1 17 13 (by decide) (by decide) (by decide)) (hLay.1 17 14 (by decide) (by decide) (by decide))).trans ha17_2713
        exact Lb (8 + 1) 0 _ _ _ _ _ _ (by omega) ho0_2715 ha16_2719 ha17_2719 (Nat.zero_le _) (fun i hi => absurd hi (by omega)) (fun i hi => absurd hi (by omega)) (fun _ _ _ => rfl) Fr.rf hF_2715 T2715 (lv_sub hl2720 [1, 0] rfl)
      · refine lv_aload_n hx hb dX1_again_47 rfl (lv_at hl2715 0 rfl) ?_
        refine hr_get C T2715 ho0_2715 rfl in_X1 12 (by decide) q307 rfl rfl dX1_again_48 ?_
        refine lv_iload_n hx hb dX1_again_51 rfl (lv_at hl2715 1 rfl) ?_
        refine lv_bipush (v := (-2)) hx hb dX1_again_52 rfl ?_
        refine hr_bast C T2715 hra_2715 (by omega) (by omega) (show vp_nar .byte (-2) = -2 by decide) dX1_again_54 (fun h2716 H2716 locs2716 eh2716 T2716 => ?_)
        have hra_2716 : h2716 (L 13) = some (.inl (E.2.1 1, 20000, .inl (upd raLa k (-2))), L 0) := hu_s eh2716
        have hF_2716 : Fr (CO L B) h h2716 := hu_f eh2716 hF_2715 hra_2715 (Or.inl rfl)
        refine lv_aload_n hx hb dX1_again_55 rfl (lv_at hl2715 0 rfl) ?_
        have ho0_2716 : h2716 (L 0) = some (.inr (0, [.ref (L 1), .int (nI (N 0)), .ref (L 3), .int (nI (N 1)), .int (nI (N 2)), .int (nI (N 3)), .int (nI (N 4)), .int (nI (N 5)), .int (nI (N 6)), .int (nI (N 7)), .int (nI (N 8)), .ref (L 12), .ref (L 13), .ref (L 14), .ref (L 15), .ref (L 16), .ref (L 17), .int (nI 0), .int (nI 0), .int (nI 0), .int (nI 0), .int (nI 0 - 1), .int (nI 0), .ref (L 24), .int (nI pp), .ref (L 26), .ref (L 27), .ref (if N 13 = 1 then L 27 else L 26), .ref (L 29), .ref (L 30), .ref (if N 12 = 1 then L 30 else L 29), .ref (L 32), .ref (B 0), .ref (B 1), .ref (B 2), .ref (B 3), .ref (L 37), .ref (L 38), .ref (L 39), .ref (B 4), .ref (B 5)]), L 0) := hu_n eh2716 (hLay.1 0 13 (by decide) (by decide) (by decide)) ho0_2715
        refine hr_get C T2716 ho0_2716 rfl in_X1 13 (by decide) q308 rfl rfl dX1_again_56 ?_
        refine lv_iload_n hx hb dX1_again_59 rfl (lv_at hl2715 1 rfl) ?_
        refine lv_iconst (v := nI 0) hx hb dX1_again_60 rfl ?_
        have hrb_2716 : h2716 (L 14) = some (.inl (E.2.1 2, 20000, .inl rbLa), L 0) := hu_n eh2716 (hLay.1 14 13 (by decide) (by decide) (by decide)) hrb_2715
        refine hr_sast C T2716 hrb_2716 (by omega) (by omega) (show vp_nar .short (nI 0) = nI 0 by decide) dX1_again_61 (fun h2717 H2717 locs2717 eh2717 T2717 => ?_)
        have hrb_2717 : h2717 (L 14) = some (.inl (E.2.1 2, 20000, .inl (upd rbLa k (nI 0))), L 0) := hu_s eh2717
        have hF_2717 : Fr (CO L B) h h2717 := hu_f eh2717 hF_2716 hrb_2716 (Or.inl rfl)
        refine lv_iinc (v := nI (k + 1)) (lv' := [(1, .int (nI (k + 1))), (0, .ref (L 0))]) hx hb dX1_again_62 hl2715 (k := 1) rfl (nI_add k 1) (by decide) rfl (fun ls2718 hl2718 => ?_)
        refine lv_goto (tgt := 40) hx hb dX1_again_65 (by decide) ?_
        have ho0_2717 : h2717 (L 0) = some (.inr (0, [.ref (L 1), .int (nI (N 0)), .ref (L 3), .int (nI (N 1)), .int (nI (N 2)), .int (nI (N 3)), .int (nI (N 4)), .int (nI (N 5)), .int (nI (N 6)), .int (nI (N 7)), .int (nI (N 8)), .ref (L 12), .ref (L 13), .ref (L 14), .ref (L 15), .ref (L 16), .ref (L 17), .int (nI 0), .int (nI 0), .int (nI 0), .int (nI 0), .int (nI 0 - 1), .int (nI 0), .ref (L 24), .int (nI pp), .ref (L 26), .ref (L 27), .ref (if N 13 = 1 then L 27 else L 26), .ref (L 29), .ref (L 30), .ref (if N 12 = 1 then L 30 else L 29), .ref (L 32), .ref (B 0), .ref (B 1), .ref (B 2), .ref (B 3), .ref (L 37), .ref (L 38), .ref (L 39), .ref (B 4), .ref (B 5)]), L 0) := hu_n eh2717 (hLay.1 0 14 (by decide) (by decide) (by decide)) ho0_2716
        have hra_2717 : h2717 (L 13) = some (.inl (E.2.1 1, 20000, .inl (upd raLa k (-2))), L 0) := hu_n eh2717 (hLay.1 13 14 (by decide) (by decide) (by decide)) hra_2716
        exact ih2715 (k + 1) _ _ _ _ _ _ (by omega) ho0_2717 hra_2717 hrb_2717 (by omega) (fun i hi => by rcases Nat.lt_or_ge i k with z | z; (rw [pk_un (by omega)]; exact hraLa i z); (rw [show i = k by omega, pk_us])) (fun i hi => by rcases Nat.lt_or_ge i k with z | z; (rw [pk_un (by omega)]; exact hrbLa i z); (rw [show i = k by omega, pk_us])) (fun q z1 z2 => by rw [eh2717, hup_n z2, eh2716, hup_n z1]; exact hothLa q z1 z2) (hu_f eh2717 (hu_f eh2716 hFoLa hra_2715 rfl) hrb_2716 rfl) hF_2717 T2717 (lv_sub hl2718 [1, 0] rfl)
  have ho0_2713 : h2713 (L 0) = some (.inr (0, [.ref (L 1), .int (nI (N 0)), .ref (L 3), .int (nI (N 1)), .int (nI (N 2)), .int (nI (N 3)), .int (nI (N 4)), .int (nI (N 5)), .int (nI (N 6)), .int (nI (N 7)), .int (nI (N 8)), .ref (L 12), .ref (L 13), .ref (L 14), .ref (L 15), .ref (L 16), .ref (L 17), .int (nI 0), .int (nI 0), .int (nI 0), .int (nI 0), .int (nI 0 - 1), .int (nI 0), .ref (L 24), .int (nI pp), .ref (L 26), .ref (L 27), .ref (if N 13 = 1 then L 27 else L 26), .ref (L 29), .ref (L 30), .ref (if N 12 = 1 then L 30 else L 29), .ref (L 32), .ref (B 0), .ref (B 1), .ref (B 2), .ref (B 3), .ref (L 37), .ref (L 38), .ref (L 39), .ref (B 4), .ref (B 5)]), L 0) := hu_n eh2713 (hLay.1 0 26 (by decide) (by decide) (by decide)) ho0_2712
  have ha13_2707 : h2707 (L 13) = some (.inl (E.2.1 1, 20000, .inl (f 13)), L 0) := hu_n eh2707 (hLay.1 13 0 (by decide) (by decide) (by decide)) ha13
  have ha13_2708 : h2708 (L 13) = some (.inl (E.2.1 1, 20000, .inl (f 13)), L 0) := hu_n eh2708 (hLay.1 13 0 (by decide) (by decide) (by decide)) ha13_2707
  have ha13_2709 : h2709 (L 13) = some (.inl (E.2.1 1, 20000, .inl (f 13)), L 0) := hu_n eh2709 (hLay.1 13 0 (by decide) (by decide) (by decide)) ha13_2708
  have ha13_2710 : h2710 (L 13) = some (.inl (E.2.1 1, 20000, .inl (f 13)), L 0) := hu_n eh2710 (hLay.1 13 0 (by decide) (by decide) (by decide)) ha13_2709
  have ha13_2711 : h2711 (L 13) = some (.inl (E.2.1 1, 20000, .inl (f 13)), L 0) := hu_n eh2711 (hLay.1 13 0 (by decide) (by decide) (by decide)) ha13_2710
  have ha13_2712 : h2712 (L 13) = some (.inl (E.2.1 1, 20000, .inl (f 13)), L 0) := hu_n eh2712 (hLay.1 13 0 (by decide) (by decide) (by decide)) ha13_2711
  have ha13_2713 : h2713 (L 13) = some (.inl (E.2.1 1, 20000, .inl (f 13)), L 0) := hu_n eh2713 (hLay.1 13 26 (by decide) (by decide) (by decide)) ha13_2712
  have ha14_2707 : h2707 (L 14) = some (.inl (E.2.1 2, 20000, .inl (f 14)), L 0) := hu_n eh2707 (hLay.1 14 0 (by decide) (by decide) (by decide)) ha14
  have ha14_2708 : h2708 (L 14) = some (.inl (E.2.1 2, 20000, .inl (f 14)), L 0) := hu_n eh2708 (hLay.1 14 0 (by decide) (by decide) (by decide)) ha14_2707
  have ha14_2709 : h2709 (L 14) = some (.inl (E.2.1 2, 20000, .inl (f 14)), L 0) := hu_n eh2709 (hLay.1 14 0 (by decide) (by decide) (by decide)) ha14_2708
  have ha14_2710 : h2710 (L 14) = some (.inl (E.2.1 2, 20000, .inl (f 14)), L 0) := hu_n eh2710 (hLay.1 14 0 (by decide) (by decide) (by decide)) ha14_2709
  have ha14_2711 : h2711 (L 14) = some (.inl (E.2.1 2, 20000, .inl (f 14)), L 0) := hu_n eh2711 (hLay.1 14 0 (by decide) (by decide) (by decide)) ha14_2710
  have ha14_2712 : h2712 (L 14) = some (.inl (E.2.1 2, 20000, .inl (f 14)), L 0) := hu_n eh2712 (hLay.1 14 0 (by decide) (by decide) (by decide)) ha14_2711
  have ha14_2713 : h2713 (L 14) = some (.inl (E.2.1 2, 20000, .inl (f 14)), L 0) := hu_n eh2713 (hLay.1 14 26 (by decide) (by decide) (by decide)) ha14_2712
  exact La (20000 + 1) 0 _ _ _ _ _ _ (by omega) ho0_2713 ha13_2713 ha14_2713 (Nat.zero_le _) (fun i hi => absurd hi (by omega)) (fun i hi => absurd hi (by omega)) (fun _ _ _ => rfl) Fr.rf hF_2713 T2713 (lv_sub hl2714 [1, 0] rfl)
