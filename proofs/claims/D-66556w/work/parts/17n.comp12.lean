set_option maxRecDepth 100000
theorem dgr_cong {w w' : Nat → Int32} {n : Nat} : ∀ {k : Nat}, (∀ i, i < k → w i = w' i) → dgr w n k = dgr w' n k := by
  intro k
  induction k with
  | zero => intro _; rfl
  | succ k ih => intro h; unfold dgr; rw [ih fun i hi => h i (by omega), h k (by omega)]
theorem dgr_lt {w : Nat → Int32} {n k : Nat} (h : 0 < n) : dgr w n (k + 1) < n := Nat.mod_lt _ h
theorem Cp.kmax {E : GE} {h : HH} {L B cp N : Nat → Nat} {M : Nat → Nat → Nat} {G : Nat → Nat → Int32} (H : Cp E h L B cp N M G) : ksum cp NB ≤ KX := by
  obtain ⟨_, _, _, _, _, _, _, _, _, _, _, _, _, _, _, hB⟩ := H
  exact hB.kmax
theorem short_id {v : Nat} (h : v < 66) : (nI v).toInt16.toInt32 = nI v := by
  have : ∀ v, v < 66 → (nI v).toInt16.toInt32 = nI v := by decide +kernel
  exact this v h
theorem up_lm {v k : Nat} (hk : k ≤ 64) (h : v < 2 ^ (52 * k + 1)) : lm v ≤ 105 := by
  apply lm_le
  have e : (4294967296 : Nat) ^ 105 = 2 ^ 3360 := by rw [show (4294967296 : Nat) = 2 ^ 32 from rfl, ← Nat.pow_mul]
  rw [e]
  exact Nat.lt_of_lt_of_le h (Nat.pow_le_pow_right (by decide) (by omega))
theorem LI_of {N N' : Nat → Nat} {M M' : Nat → Nat → Nat} {G G' : Nat → Nat → Int32} (hI : Inv N M G) (h11 : N 11 ≠ 0) (e : ∀ i, i < 15 → i ≠ 10 → N' i = N i) (h15 : N' 15 ≤ 64) (e20 : N' 20 = N 20) (e21 : N' 21 = N 21) (m0 : M' 0 = M 0) (m2 : M' 2 = M 2) (m4 : M' 4 = M 4) (m5 : M' 5 = M 5) (g : G' 2 = G 2) : LI N' M' G' := by
  obtain ⟨i0, i1, i2, i3, i4, i5, i7, i9, i10, i11, i15, iv, isz, isum, ital, itm, idg, icn, irec, isn, iout, ict, iwt, iwt2, iz, inz, iup, ish⟩ := hI
  obtain ⟨⟨n1, n2, n3, n4, n5⟩, n6, n7, n8, n9, n10, n11⟩ := inz h11
  unfold LI pA pB
  rw [e 11 (by decide) (by decide), e 12 (by decide) (by decide), e 0 (by decide) (by decide), e 2 (by decide) (by decide), e 4 (by decide) (by decide), e 5 (by decide) (by decide), e 6 (by decide) (by decide), e 7 (by decide) (by decide), e 8 (by decide) (by decide), e 14 (by decide) (by decide), e20, e21, m0, m2, m4, m5, g]
  refine ⟨⟨h11, i11.1, i11.2.1⟩, ⟨i0, i2, i4.2⟩, i5, i7, ⟨h15, n4, i11.2.2.2⟩, iv, fun i hi => Nat.le_trans (ital i hi) i15.1, n6, n8, ⟨?_, ?_⟩, fun q k hk => ?_⟩
  · have := up_lm i15.1 iup.2.2.1; omega
  · have := up_lm i15.1 iup.2.2.2; omega
  · have := n11 (by omega) k hk
    unfold pA pB at this
    exact this
/-- the number of a draw -/
def drK (N : Nat → Nat) (M : Nat → Nat → Nat) : Nat := if N 13 = 1 then dgr (dgw (msgF (nI1 (M 6)) (N 9) (N 15 + 1))) (N 2) 8 else cv (nI1 (M 8)) (mny (N 2))
abbrev drNo (N : Nat → Nat) : Prop := N 13 ≠ 1 ∧ N 10 < mny (N 2)
def dqN (N : Nat → Nat) : Nat → Nat := if N 13 = 1 then nu N 15 (N 15 + 1) else nu (nu N 10 (N 10 - mny (N 2))) 15 (N 15 + 1)
def dqM (N : Nat → Nat) (M : Nat → Nat → Nat) : Nat → Nat → Nat := if N 13 = 1 then M else mu M 8 (fun i => M 8 (i + mny (N 2)))
def dbN (N : Nat → Nat) : Nat → Nat := nu (dqN N) 17 (N 17 + 1)
def dbM (N : Nat → Nat) (M : Nat → Nat → Nat) (K : Nat) : Nat → Nat → Nat := mu (dqM N M) 3 (nu (M 3) K (M 3 K + 1))
abbrev SS : Type := (Nat → Nat) × (Nat → Nat → Nat) × (Nat → Nat → Int32)
def lkS (N : Nat → Nat) (M : Nat → Nat → Nat) (G : Nat → Nat → Int32) (r c : Int32) : SS := (lkN N M (G 2) r c, lkM M c, lkG N M G c)
/-- the state behind a draw, and what it answers -/
def drS (N : Nat → Nat) (M : Nat → Nat → Nat) (G : Nat → Nat → Int32) : SS := if drNo N then (N, M, G) else if N 2 ≤ drK N M then lkS (dbN N) (dqM N M) G (-1) (-2) else if G 1 (drK N M) = -2 then (nu (nu (dqN N) 18 (drK N M + 1)) 11 2, dbM N M (drK N M), G) else lkS (dqN N) (dbM N M (drK N M)) G (G 0 (drK N M)) (G 1 (drK N M))
def drV (N : Nat → Nat) (M : Nat → Nat → Nat) : Int32 := if drNo N then -1 else if N 2 ≤ drK N M then -2 else nI (drK N M)
def cd_draw (N : Nat → Nat) : Nat := if N 11 = 1 then 0 else 1
def cd_see (N : Nat → Nat) (x : Int32) : Nat := if ¬ (x.toInt = -1 ∨ (0 ≤ x.toInt ∧ x.toInt < N 0)) then 1 else if N 11 ≠ 2 then 2 else 0
def seS (N : Nat → Nat) (M : Nat → Nat → Nat) (G : Nat → Nat → Int32) (x : Int32) : SS := lkS (nu N 16 (N 16 + 1)) M (gu G 1 (upd (G 1) (N 18 - 1) x)) (G 0 (N 18 - 1)) x

set_option maxHeartbeats 4000000 in
theorem m_X1_draw {E : GE} {l : Launch} {h : HH} (hfl : l.flags = flags0) {L B cp N : Nat → Nat} {M : Nat → Nat → Nat} {G : Nat → Nat → Int32} (hLay : Lay L B) (hI : Inv N M G) (hC : Cp E h L B cp N M G) (h15 : N 15 < 64) : MX E l yX1_draw cX1_draw 2 (some .int) ({ frames := 8, cells := (KX - ksum cp NB) / 8 + 8, slots := 2 * (KX - ksum cp NB) + 2048, locals := 1200 } : Room) [.ref (L 0)] h (fun rv h2 dc ds => cd_draw N = 0 ∧ rv = some (.int (drV N M)) ∧ ∃ c2, Cp E h2 L B c2 (drS N M G).1 (drS N M G).2.1 (drS N M G).2.2 ∧ Fr (CO L B) h h2 ∧ Gw cp c2 dc ds) (fun C h' dc ds => h' = h ∧ dc = 1 ∧ ds = 6 ∧ TC C (cd_draw N) [xISE]) := by
  refine hx_i (by decide) (Nat.le_of_ble_eq_true rfl) ?_
  intro p e s m below meth c C hno Q Z Y ls T hl
  have hx := C.x
  have hb := C.b
  have hl : lv_has ls 2 [(0, .ref (L 0))] := hl
  have hC0 := hC
  have hI0 := hI
  obtain ⟨i0, i1, i2, i3, i4, i5, i7, i9, i10, i11, i15, iv, isz, isum, ital, itm, idg, icn, irec, isn, iout, ict, iwt, iwt2, iz, inz, iup, ish⟩ := hI
  obtain ⟨pp, f, rs, pw, pl, ps, V, ⟨ho0, ha1, ha3, ha12, ha13, ha14, ha15, ha16, ha17, ha39⟩, ⟨r1, r3, r12, r13, r14, r15, r16, r17, rp, rp16⟩, hVr, hSt, hPr, hCn, hSd, hDg, hB⟩ := hC
  have hF : Fr (CO L B) h h := Fr.rf
  refine lv_aload_n hx hb dX1_draw_0 rfl (lv_at hl 0 rfl) ?_
  refine hr_get C T ho0 rfl in_X1 17 (by decide) q312 rfl rfl dX1_draw_1 ?_
  refine lv_iconst (v := nI 1) hx hb dX1_draw_4 rfl ?_
  refine hn_icmp_ne (tgt := 12) hx hb dX1_draw_5 (by decide) (by omega) (by omega) (fun c1 => ?_) (fun c1 => ?_)
  · refine lv_iconst (v := nI 0) hx hb dX1_draw_12 rfl ?_
    have hcd : cd_draw N = 1 := by unfold cd_draw; (repeat' split) <;> omega
    exact Y _ _ _ _ _ _ ((thr_S C T hl.1 (t_X1_now hfl) q517 q518 q53 q519 kd_X1_now rfl rfl ⟨Nat.le_of_ble_eq_true rfl, Nat.le_of_ble_eq_true rfl⟩ (Nat.le_of_ble_eq_true rfl) dX1_draw_13 ⟨by show 0 + 1 ≤ (KX - ksum cp NB) / 8 + 8; omega, by show 0 + 6 ≤ 2 * (KX - ksum cp NB) + 2048; omega⟩).on C T hno ⟨by show 0 + 1 ≤ (KX - ksum cp NB) / 8 + 8; omega, by show 0 + 6 ≤ 2 * (KX - ksum cp NB) + 2048; omega⟩ (fun h2 dc ds hp => by obtain ⟨rfl, rfl, rfl⟩ := hp; exact ⟨rfl, rfl, rfl, by rw [hcd]; exact ⟨by decide, rfl⟩⟩))
  · refine lv_iconst (v := nI 1) hx hb dX1_draw_8 rfl ?_
    refine lv_goto (tgt := 13) hx hb dX1_draw_9 (by decide) ?_
    refine hp_S C T hl.1 (p_X1_now) q517 q518 q53 q519 kd_X1_now rfl rfl ⟨Nat.le_of_ble_eq_true rfl, Nat.le_of_ble_eq_true rfl⟩ (Nat.le_of_ble_eq_true rfl) dX1_draw_13 ⟨by show 0 + 0 ≤ (KX - ksum cp NB) / 8 + 8; omega, by show 0 + 0 ≤ 2 * (KX - ksum cp NB) + 2048; omega⟩ (fun rv H5501 hp5501 T5501 => ?_)
    obtain rfl := hp5501
    refine W.eq (g2 := F0 m 16 ls []) rfl ?_
    have hcd : cd_draw N = 0 := by unfold cd_draw; rw [if_pos c1]
    have h11 : N 11 ≠ 0 := by omega
    have hin := inz h11
    have rpp := rp h11
    refine lv_aload_n hx hb dX1_draw_16 rfl (lv_at hl 0 rfl) ?_
    refine hr_get C T5501 ho0 rfl in_X1 27 (by decide) q326 rfl rfl dX1_draw_17 ?_
    by_cases c13 : N 13 = 1
    · rw [if_pos c13]
      have hno : ¬ drNo N := fun z => z.1 c13
      obtain ⟨fg, hso, hsg, hfg, hnd, hg9⟩ := id hSd
      refine lv_aload_n hx hb dX1_draw_20 rfl (lv_at hl 0 rfl) ?_
      refine hr_get C T5501 ho0 rfl in_X1 18 (by decide) q313 rfl rfl dX1_draw_21 ?_
      refine lv_iconst (v := nI 1) hx hb dX1_draw_24 rfl ?_
      refine hn_iadd hx hb dX1_draw_25 ?_
      refine lv_aload_n hx hb dX1_draw_26 rfl (lv_at hl 0 rfl) ?_
      refine hr_get C T5501 ho0 rfl in_X1 4 (by decide) q295 rfl rfl dX1_draw_27 ?_
      refine hc_F C T5501 hl.1 hso rfl (m_X3_draw hLay.1 hSd hDg (show 1 ≤ N 15 + 1 by omega) (show N 15 + 1 < 2147483648 by omega) hin.1.2.2.1 (show N 2 < 65536 by omega)) 1 rfl q690 q703 q705 q55 q707 kdF_1 rfl rfl ⟨Nat.le_of_ble_eq_true rfl, Nat.le_of_ble_eq_true rfl⟩ (Nat.le_of_ble_eq_true rfl) dX1_draw_30 ⟨by show 0 + 0 ≤ (KX - ksum cp NB) / 8 + 8; omega, by show 0 + 0 ≤ 2 * (KX - ksum cp NB) + 2048; omega⟩ (fun rv h5502 H5502 locs5502 hp5502 T5502 => ?_)
      obtain ⟨rs2, rfl, hD5502, hdw5502, hF5502, ho5502⟩ := hp5502
      have hF_5502 : Fr (CO L B) h h5502 := hF.tr (hF5502.mono (fun _ z => Or.inr (Or.inr (Or.inr (Or.inr (Or.inl z))))))
      refine W.eq (g2 := F0 m 35 ls [.int (nI (dgr rs2 (N 2) 8))]) rfl ?_
      obtain ⟨K, hK⟩ : ∃ K, K = drK N M := ⟨_, rfl⟩
      have hK2 : dgr rs2 (N 2) 8 = K := by rw [hK]; unfold drK; rw [if_pos c13]; exact dgr_cong fun i hi => hdw5502 i hi
      rw [hK2]
      have hKl : K < N 2 := by rw [← hK2]; exact dgr_lt hin.1.2.2.1
      have eqN : dqN N = nu N 15 (N 15 + 1) := if_pos c13
      have eqM : dqM N M = M := if_pos c13
      refine lv_istore_n (lv' := [(1, .int (nI K)), (0, .ref (L 0))]) hx hb dX1_draw_35 rfl hl (by decide) rfl (fun ls5503 hl5503 => ?_)
      refine lv_iload_n hx hb dX1_draw_36 rfl (lv_at hl5503 0 rfl) ?_
      refine lv_iconst (v := (-1)) hx hb dX1_draw_37 rfl ?_
      refine zi_icmp_ne (tgt := 43) (X := ((K : Nat) : Int)) (Y := (-1)) hx hb dX1_draw_38 (by decide) (nI_toInt (by omega)) rfl (fun c2 => ?_) (fun c2 => absurd c2 (by omega))
      refine lv_aload_n hx hb dX1_draw_43 rfl (lv_at hl5503 1 rfl) ?_
      refine lv_dup hx hb dX1_draw_44 rfl ?_
      have ho0_5502 : h5502 (L 0) = some (.inr (0, [.ref (L 1), .int (nI (N 0)), .ref (L 3), .int (nI (N 1)), .int (nI (N 2)), .int (nI (N 3)), .int (nI (N 4)), .int (nI (N 5)), .int (nI (N 6)), .int (nI (N 7)), .int (nI (N 8)), .ref (L 12), .ref (L 13), .ref (L 14), .ref (L 15), .ref (L 16), .ref (L 17), .int (nI (N 11)), .int (nI (N 15)), .int (nI (N 16)), .int (nI (N 17)), .int (nI (N 18) - 1), .int (nI (N 19)), .ref (L 24), .int (nI pp), .ref (L 26), .ref (L 27), .ref (if N 13 = 1 then L 27 else L 26), .ref (L 29), .ref (L 30), .ref (if N 12 = 1 then L 30 else L 29), .ref (L 32), .ref (B 0), .ref (B 1), .ref (B 2), .ref (B 3), .ref (L 37), .ref (L 38), .ref (L 39), .ref (B 4), .ref (B 5)]), L 0) := (ho5502 _ (hLay.1 0 62 (by decide) (by decide) (by decide)) (hLay.1 0 63 (by decide) (by decide) (by decide)) (hLay.1 0 64 (by decide) (by decide) (by decide)) (hLay.1 0 65 (by decide) (by decide) (by decide)) (hLay.1 0 66 (by decide) (by decide) (by decide))).trans ho0
      refine hr_get C T5502 ho0_5502 rfl in_X1 18 (by decide) q313 rfl rfl dX1_draw_45 ?_
      refine lv_iconst (v := nI 1) hx hb dX1_draw_48 rfl ?_
      refine hn_iadd hx hb dX1_draw_49 ?_
      refine hr_put C T5502 ho0_5502 rfl in_X1 tyX1 tyX1_ok nmX1 18 (by decide) q313 rfl rfl rfl rfl (Nat.le_of_ble_eq_true rfl) dX1_draw_50 (fun h5504 H5504 locs5504 eh5504 T5504 => ?_)
      have ho0_5504 : h5504 (L 0) = some (.inr (0, [.ref (L 1), .int (nI (N 0)), .ref (L 3), .int (nI (N 1)), .int (nI (N 2)), .int (nI (N 3)), .int (nI (N 4)), .int (nI (N 5)), .int (nI (N 6)), .int (nI (N 7)), .int (nI (N 8)), .ref (L 12), .ref (L 13), .ref (L 14), .ref (L 15), .ref (L 16), .ref (L 17), .int (nI (N 11)), .int (nI ((N 15) + 1)), .int (nI (N 16)), .int (nI (N 17)), .int (nI (N 18) - 1), .int (nI (N 19)), .ref (L 24), .int (nI pp), .ref (L 26), .ref (L 27), .ref (if N 13 = 1 then L 27 else L 26), .ref (L 29), .ref (L 30), .ref (if N 12 = 1 then L 30 else L 29), .ref (L 32), .ref (B 0), .ref (B 1), .ref (B 2), .ref (B 3), .ref (L 37), .ref (L 38), .ref (L 39), .ref (B 4), .ref (B 5)]), L 0) := hu_s eh5504
      have hF_5504 : Fr (CO L B) h h5504 := hu_f eh5504 hF_5502 ho0_5502 (Or.inl rfl)
      refine lv_iload_n hx hb dX1_draw_53 rfl (lv_at hl5503 0 rfl) ?_
      refine lv_aload_n hx hb dX1_draw_54 rfl (lv_at hl5503 1 rfl) ?_
      refine hr_get C T5504 ho0_5504 rfl in_X1 4 (by decide) q295 rfl rfl dX1_draw_55 ?_
      refine hn_icmp_lt (tgt := 80) hx hb dX1_draw_58 (by decide) (by omega) (by omega) (fun c3 => ?_) (fun c3 => ?_)
      · have hk9 : ¬ N 2 ≤ drK N M := by omega
        have hK20 : K < 20000 := by omega
        have hm3 := itm K
        refine lv_aload_n hx hb dX1_draw_80 rfl (lv_at hl5503 1 rfl) ?_
        refine hr_get C T5504 ho0_5504 rfl in_X1 13 (by decide) q308 rfl rfl dX1_draw_81 ?_
        refine lv_iload_n hx hb dX1_draw_84 rfl (lv_at hl5503 0 rfl) ?_
        refine lv_dup2_11 hx hb dX1_draw_85 rfl rfl ?_
        have ha14_5502 : h5502 (L 14) = some (.inl (E.2.1 2, 20000, .inl (f 14)), L 0) := (ho5502 _ (hLay.1 14 62 (by decide) (by decide) (by decide)) (hLay.1 14 63 (by decide) (by decide) (by decide)) (hLay.1 14 64 (by decide) (by decide) (by decide)) (hLay.1 14 65 (by decide) (by decide) (by decide)) (hLay.1 14 66 (by decide) (by decide) (by decide))).trans ha14
        have ha14_5504 : h5504 (L 14) = some (.inl (E.2.1 2, 20000, .inl (f 14)), L 0) := hu_n eh5504 (hLay.1 14 0 (by decide) (by decide) (by decide)) ha14_5502
        refine hr_sald C T5504 ha14_5504 (by omega) (by omega) dX1_draw_86 ?_
        rw [r14 K hK20]
        refine lv_iconst (v := nI 1) hx hb dX1_draw_87 rfl ?_
        refine hn_iadd hx hb dX1_draw_88 ?_
        refine lv_i2s (v := nI (M 3 K + 1)) hx hb dX1_draw_89 (short_id (by omega)) ?_
        refine hr_sast C T5504 ha14_5504 hK20 (by omega) (show vp_nar .short (nI (M 3 K + 1)) = nI (M 3 K + 1) by rw [vp_nar_short, short_id (by omega)]) dX1_draw_90 (fun h5508 H5508 locs5508 eh5508 T5508 => ?_)
        have ha14_5508 : h5508 (L 14) = some (.inl (E.2.1 2, 20000, .inl (upd (f 14) K (nI (M 3 K + 1)))), L 0) := hu_s eh5508
        have hF_5508 : Fr (CO L B) h h5508 := hu_f eh5508 hF_5504 ha14_5504 (Or.inl rfl)
        refine lv_aload_n hx hb dX1_draw_91 rfl (lv_at hl5503 1 rfl) ?_
        have ho0_5508 : h5508 (L 0) = some (.inr (0, [.ref (L 1), .int (nI (N 0)), .ref (L 3), .int (nI (N 1)), .int (nI (N 2)), .int (nI (N 3)), .int (nI (N 4)), .int (nI (N 5)), .int (nI (N 6)), .int (nI (N 7)), .int (nI (N 8)), .ref (L 12), .ref (L 13), .ref (L 14), .ref (L 15), .ref (L 16), .ref (L 17), .int (nI (N 11)), .int (nI ((N 15) + 1)), .int (nI (N 16)), .int (nI (N 17)), .int (nI (N 18) - 1), .int (nI (N 19)), .ref (L 24), .int (nI pp), .ref (L 26), .ref (L 27), .ref (if N 13 = 1 then L 27 else L 26), .ref (L 29), .ref (L 30), .ref (if N 12 = 1 then L 30 else L 29), .ref (L 32), .ref (B 0), .ref (B 1), .ref (B 2), .ref (B 3), .ref (L 37), .ref (L 38), .ref (L 39), .ref (B 4), .ref (B 5)]), L 0) := hu_n eh5508 (hLay.1 0 14 (by decide) (by decide) (by decide)) ho0_5504
        refine hr_get C T5508 ho0_5508 rfl in_X1 12 (by decide) q307 rfl rfl dX1_draw_92 ?_
        refine lv_iload_n hx hb dX1_draw_95 rfl (lv_at hl5503 0 rfl) ?_
        have ha13_5502 : h5502 (L 13) = some (.inl (E.2.1 1, 20000, .inl (f 13)), L 0) := (ho5502 _ (hLay.1 13 62 (by decide) (by decide) (by decide)) (hLay.1 13 63 (by decide) (by decide) (by decide)) (hLay.1 13 64 (by decide) (by decide) (by decide)) (hLay.1 13 65 (by decide) (by decide) (by decide)) (hLay.1 13 66 (by decide) (by decide) (by decide))).trans ha13
        have ha13_5504 : h5504 (L 13) = some (.inl (E.2.1 1, 20000, .inl (f 13)), L 0) := hu_n eh5504 (hLay.1 13 0 (by decide) (by decide) (by decide)) ha13_5502
        have ha13_5508 : h5508 (L 13) = some (.inl (E.2.1 1, 20000, .inl (f 13)), L 0) := hu_n eh5508 (hLay.1 13 14 (by decide) (by decide) (by decide)) ha13_5504
        refine hr_bald C T5508 ha13_5508 (by omega) (by omega) dX1_draw_96 ?_
        rw [r13 K hK20]
        refine lv_bipush (v := (-2)) hx hb dX1_draw_97 rfl ?_
        refine lv_icmp_eq (tgt := 110) hx hb dX1_draw_99 (by decide) (fun c4 => ?_) (fun c4 => ?_)
        · refine lv_aload_n hx hb dX1_draw_110 rfl (lv_at hl5503 1 rfl) ?_
          refine lv_iload_n hx hb dX1_draw_111 rfl (lv_at hl5503 0 rfl) ?_
          rw [show nI K = nI (K + 1) - 1 from (nIm1 (Nat.succ_pos K)).symm]
          refine hr_put C T5508 ho0_5508 rfl in_X1 tyX1 tyX1_ok nmX1 21 (by decide) q316 rfl rfl rfl rfl (Nat.le_of_ble_eq_true rfl) dX1_draw_112 (fun h5511 H5511 locs5511 eh5511 T5511 => ?_)
          have ho0_5511 : h5511 (L 0) = some (.inr (0, [.ref (L 1), .int (nI (N 0)), .ref (L 3), .int (nI (N 1)), .int (nI (N 2)), .int (nI (N 3)), .int (nI (N 4)), .int (nI (N 5)), .int (nI (N 6)), .int (nI (N 7)), .int (nI (N 8)), .ref (L 12), .ref (L 13), .ref (L 14), .ref (L 15), .ref (L 16), .ref (L 17), .int (nI (N 11)), .int (nI ((N 15) + 1)), .int (nI (N 16)), .int (nI (N 17)), .int (nI (K + 1) - 1), .int (nI (N 19)), .ref (L 24), .int (nI pp), .ref (L 26), .ref (L 27), .ref (if N 13 = 1 then L 27 else L 26), .ref (L 29), .ref (L 30), .ref (if N 12 = 1 then L 30 else L 29), .ref (L 32), .ref (B 0), .ref (B 1), .ref (B 2), .ref (B 3), .ref (L 37), .ref (L 38), .ref (L 39), .ref (B 4), .ref (B 5)]), L 0) := hu_s eh5511
          have hF_5511 : Fr (CO L B) h h5511 := hu_f eh5511 hF_5508 ho0_5508 (Or.inl rfl)
          refine lv_aload_n hx hb dX1_draw_115 rfl (lv_at hl5503 1 rfl) ?_
          refine lv_iconst (v := nI 2) hx hb dX1_draw_116 rfl ?_
          refine hr_put C T5511 ho0_5511 rfl in_X1 tyX1 tyX1_ok nmX1 17 (by decide) q312 rfl rfl rfl rfl (Nat.le_of_ble_eq_true rfl) dX1_draw_117 (fun h5512 H5512 locs5512 eh5512 T5512 => ?_)
          have ho0_5512 : h5512 (L 0) = some (.inr (0, [.ref (L 1), .int (nI (N 0)), .ref (L 3), .int (nI (N 1)), .int (nI (N 2)), .int (nI (N 3)), .int (nI (N 4)), .int (nI (N 5)), .int (nI (N 6)), .int (nI (N 7)), .int (nI (N 8)), .ref (L 12), .ref (L 13), .ref (L 14), .ref (L 15), .ref (L 16), .ref (L 17), .int (nI 2), .int (nI ((N 15) + 1)), .int (nI (N 16)), .int (nI (N 17)), .int (nI (K + 1) - 1), .int (nI (N 19)), .ref (L 24), .int (nI pp), .ref (L 26), .ref (L 27), .ref (if N 13 = 1 then L 27 else L 26), .ref (L 29), .ref (L 30), .ref (if N 12 = 1 then L 30 else L 29), .ref (L 32), .ref (B 0), .ref (B 1), .ref (B 2), .ref (B 3), .ref (L 37), .ref (L 38), .ref (L 39), .ref (B 4), .ref (B 5)]), L 0) := hu_s eh5512
          have hF_5512 : Fr (CO L B) h h5512 := hu_f eh5512 hF_5511 ho0_5511 (Or.inl rfl)
          refine lv_iload_n hx hb dX1_draw_120 rfl (lv_at hl5503 0 rfl) ?_
          have ha1_5502 : h5502 (L 1) = some (.inl (E.2.1 0, 8, .inl (f 1)), L 0) := (ho5502 _ (hLay.1 1 62 (by decide) (by decide) (by decide)) (hLay.1 1 63 (by decide) (by decide) (by decide)) (hLay.1 1 64 (by decide) (by decide) (by decide)) (hLay.1 1 65 (by decide) (by decide) (by decide)) (hLay.1 1 66 (by decide) (by decide) (by decide))).trans ha1
          have ha1_5504 : h5504 (L 1) = some (.inl (E.2.1 0, 8, .inl (f 1)), L 0) := hu_n eh5504 (hLay.1 1 0 (by decide) (by decide) (by decide)) ha1_5502
          have ha1_5508 : h5508 (L 1) = some (.inl (E.2.1 0, 8, .inl (f 1)), L 0) := hu_n eh5508 (hLay.1 1 14 (by decide) (by decide) (by decide)) ha1_5504
          have ha1_5511 : h5511 (L 1) = some (.inl (E.2.1 0, 8, .inl (f 1)), L 0) := hu_n eh5511 (hLay.1 1 0 (by decide) (by decide) (by decide)) ha1_5508
          have ha1_5512 : h5512 (L 1) = some (.inl (E.2.1 0, 8, .inl (f 1)), L 0) := hu_n eh5512 (hLay.1 1 0 (by decide) (by decide) (by decide)) ha1_5511
          have ha3_5502 : h5502 (L 3) = some (.inl (E.2.1 0, 64, .inl (f 3)), L 0) := (ho5502 _ (hLay.1 3 62 (by decide) (by decide) (by decide)) (hLay.1 3 63 (by decide) (by decide) (by decide)) (hLay.1 3 64 (by decide) (by decide) (by decide)) (hLay.1 3 65 (by decide) (by decide) (by decide)) (hLay.1 3 66 (by decide) (by decide) (by decide))).trans ha3
          have ha3_5504 : h5504 (L 3) = some (.inl (E.2.1 0, 64, .inl (f 3)), L 0) := hu_n eh5504 (hLay.1 3 0 (by decide) (by decide) (by decide)) ha3_5502
          have ha3_5508 : h5508 (L 3) = some (.inl (E.2.1 0, 64, .inl (f 3)), L 0) := hu_n eh5508 (hLay.1 3 14 (by decide) (by decide) (by decide)) ha3_5504
          have ha3_5511 : h5511 (L 3) = some (.inl (E.2.1 0, 64, .inl (f 3)), L 0) := hu_n eh5511 (hLay.1 3 0 (by decide) (by decide) (by decide)) ha3_5508
          have ha3_5512 : h5512 (L 3) = some (.inl (E.2.1 0, 64, .inl (f 3)), L 0) := hu_n eh5512 (hLay.1 3 0 (by decide) (by decide) (by decide)) ha3_5511
          have ha12_5502 : h5502 (L 12) = some (.inl (E.2.1 1, 20000, .inl (f 12)), L 0) := (ho5502 _ (hLay.1 12 62 (by decide) (by decide) (by decide)) (hLay.1 12 63 (by decide) (by decide) (by decide)) (hLay.1 12 64 (by decide) (by decide) (by decide)) (hLay.1 12 65 (by decide) (by decide) (by decide)) (hLay.1 12 66 (by decide) (by decide) (by decide))).trans ha12
          have ha12_5504 : h5504 (L 12) = some (.inl (E.2.1 1, 20000, .inl (f 12)), L 0) := hu_n eh5504 (hLay.1 12 0 (by decide) (by decide) (by decide)) ha12_5502
          have ha12_5508 : h5508 (L 12) = some (.inl (E.2.1 1, 20000, .inl (f 12)), L 0) := hu_n eh5508 (hLay.1 12 14 (by decide) (by decide) (by decide)) ha12_5504
          have ha12_5511 : h5511 (L 12) = some (.inl (E.2.1 1, 20000, .inl (f 12)), L 0) := hu_n eh5511 (hLay.1 12 0 (by decide) (by decide) (by decide)) ha12_5508
          have ha12_5512 : h5512 (L 12) = some (.inl (E.2.1 1, 20000, .inl (f 12)), L 0) := hu_n eh5512 (hLay.1 12 0 (by decide) (by decide) (by decide)) ha12_5511
          have ha13_5511 : h5511 (L 13) = some (.inl (E.2.1 1, 20000, .inl (f 13)), L 0) := hu_n eh5511 (hLay.1 13 0 (by decide) (by decide) (by decide)) ha13_5508
          have ha13_5512 : h5512 (L 13) = some (.inl (E.2.1 1, 20000, .inl (f 13)), L 0) := hu_n eh5512 (hLay.1 13 0 (by decide) (by decide) (by decide)) ha13_5511
          have ha14_5511 : h5511 (L 14) = some (.inl (E.2.1 2, 20000, .inl (upd (f 14) K (nI (M 3 K + 1)))), L 0) := hu_n eh5511 (hLay.1 14 0 (by decide) (by decide) (by decide)) ha14_5508
          have ha14_5512 : h5512 (L 14) = some (.inl (E.2.1 2, 20000, .inl (upd (f 14) K (nI (M 3 K + 1)))), L 0) := hu_n eh5512 (hLay.1 14 0 (by decide) (by decide) (by decide)) ha14_5511
          have ha15_5502 : h5502 (L 15) = some (.inl (E.2.1 3, 8, .inl (f 15)), L 0) := (ho5502 _ (hLay.1 15 62 (by decide) (by decide) (by decide)) (hLay.1 15 63 (by decide) (by decide) (by decide)) (hLay.1 15 64 (by decide) (by decide) (by decide)) (hLay.1 15 65 (by decide) (by decide) (by decide)) (hLay.1 15 66 (by decide) (by decide) (by decide))).trans ha15
          have ha15_5504 : h5504 (L 15) = some (.inl (E.2.1 3, 8, .inl (f 15)), L 0) := hu_n eh5504 (hLay.1 15 0 (by decide) (by decide) (by decide)) ha15_5502
          have ha15_5508 : h5508 (L 15) = some (.inl (E.2.1 3, 8, .inl (f 15)), L 0) := hu_n eh5508 (hLay.1 15 14 (by decide) (by decide) (by decide)) ha15_5504
          have ha15_5511 : h5511 (L 15) = some (.inl (E.2.1 3, 8, .inl (f 15)), L 0) := hu_n eh5511 (hLay.1 15 0 (by decide) (by decide) (by decide)) ha15_5508
          have ha15_5512 : h5512 (L 15) = some (.inl (E.2.1 3, 8, .inl (f 15)), L 0) := hu_n eh5512 (hLay.1 15 0 (by decide) (by decide) (by decide)) ha15_5511
          have ha16_5502 : h5502 (L 16) = some (.inl (E.2.1 0, 8, .inl (f 16)), L 0) := (ho5502 _ (hLay.1 16 62 (by decide) (by decide) (by decide)) (hLay.1 16 63 (by decide) (by decide) (by decide)) (hLay.1 16 64 (by decide) (by decide) (by decide)) (hLay.1 16 65 (by decide) (by decide) (by decide)) (hLay.1 16 66 (by decide) (by decide) (by decide))).trans ha16
          have ha16_5504 : h5504 (L 16) = some (.inl (E.2.1 0, 8, .inl (f 16)), L 0) := hu_n eh5504 (hLay.1 16 0 (by decide) (by decide) (by decide)) ha16_5502
          have ha16_5508 : h5508 (L 16) = some (.inl (E.2.1 0, 8, .inl (f 16)), L 0) := hu_n eh5508 (hLay.1 16 14 (by decide) (by decide) (by decide)) ha16_5504
          have ha16_5511 : h5511 (L 16) = some (.inl (E.2.1 0, 8, .inl (f 16)), L 0) := hu_n eh5511 (hLay.1 16 0 (by decide) (by decide) (by decide)) ha16_5508
          have ha16_5512 : h5512 (L 16) = some (.inl (E.2.1 0, 8, .inl (f 16)), L 0) := hu_n eh5512 (hLay.1 16 0 (by decide) (by decide) (by decide)) ha16_5511
          have ha17_5502 : h5502 (L 17) = some (.inl (E.2.1 0, 8, .inl (f 17)), L 0) := (ho5502 _ (hLay.1 17 62 (by decide) (by decide) (by decide)) (hLay.1 17 63 (by decide) (by decide) (by decide)) (hLay.1 17 64 (by decide) (by decide) (by decide)) (hLay.1 17 65 (by decide) (by decide) (by decide)) (hLay.1 17 66 (by decide) (by decide) (by decide))).trans ha17
          have ha17_5504 : h5504 (L 17) = some (.inl (E.2.1 0, 8, .inl (f 17)), L 0) := hu_n eh5504 (hLay.1 17 0 (by decide) (by decide) (by decide)) ha17_5502
          have ha17_5508 : h5508 (L 17) = some (.inl (E.2.1 0, 8, .inl (f 17)), L 0) := hu_n eh5508 (hLay.1 17 14 (by decide) (by decide) (by decide)) ha17_5504
          have ha17_5511 : h5511 (L 17) = some (.inl (E.2.1 0, 8, .inl (f 17)), L 0) := hu_n eh5511 (hLay.1 17 0 (by decide) (by decide) (by decide)) ha17_5508
          have ha17_5512 : h5512 (L 17) = some (.inl (E.2.1 0, 8, .inl (f 17)), L 0) := hu_n eh5512 (hLay.1 17 0 (by decide) (by decide) (by decide)) ha17_5511
          have ha39_5502 : h5502 (L 39) = some (.inl (E.2.1 3, 961, .inl (f 39)), L 0) := (ho5502 _ (hLay.1 39 62 (by decide) (by decide) (by decide)) (hLay.1 39 63 (by decide) (by decide) (by decide)) (hLay.1 39 64 (by decide) (by decide) (by decide)) (hLay.1 39 65 (by decide) (by decide) (by decide)) (hLay.1 39 66 (by decide) (by decide) (by decide))).trans ha39
          have ha39_5504 : h5504 (L 39) = some (.inl (E.2.1 3, 961, .inl (f 39)), L 0) := hu_n eh5504 (hLay.1 39 0 (by decide) (by decide) (by decide)) ha39_5502
          have ha39_5508 : h5508 (L 39) = some (.inl (E.2.1 3, 961, .inl (f 39)), L 0) := hu_n eh5508 (hLay.1 39 14 (by decide) (by decide) (by decide)) ha39_5504
          have ha39_5511 : h5511 (L 39) = some (.inl (E.2.1 3, 961, .inl (f 39)), L 0) := hu_n eh5511 (hLay.1 39 0 (by decide) (by decide) (by decide)) ha39_5508
          have ha39_5512 : h5512 (L 39) = some (.inl (E.2.1 3, 961, .inl (f 39)), L 0) := hu_n eh5512 (hLay.1 39 0 (by decide) (by decide) (by decide)) ha39_5511
          have hSt_5502 : Stt E L B h5502 := Stt.kept (O := (· = L 62)) hF5502 (hLay.1 30 62 (by decide) (by decide) (by decide)) hSt
          have hSt_5504 : Stt E L B h5504 := Stt.kept (O := (· = L 0)) (hu_f eh5504 Fr.rf ho0_5502 rfl) (hLay.1 30 0 (by decide) (by decide) (by decide)) hSt_5502
          have hSt_5508 : Stt E L B h5508 := Stt.kept (O := (· = L 0)) (hu_f eh5508 Fr.rf ha14_5504 rfl) (hLay.1 30 0 (by decide) (by decide) (by decide)) hSt_5504
          have hSt_5511 : Stt E L B h5511 := Stt.kept (O := (· = L 0)) (hu_f eh5511 Fr.rf ho0_5508 rfl) (hLay.1 30 0 (by decide) (by decide) (by decide)) hSt_5508
          have hSt_5512 : Stt E L B h5512 := Stt.kept (O := (· = L 0)) (hu_f eh5512 Fr.rf ho0_5511 rfl) (hLay.1 30 0 (by decide) (by decide) (by decide)) hSt_5511
          have hPr_5502 : Prs L B pw pl ps h5502 := Prs.kept (O := (· = L 62)) hF5502 (hLay.1 24 62 (by decide) (by decide) (by decide)) hPr
          have hPr_5504 : Prs L B pw pl ps h5504 := Prs.kept (O := (· = L 0)) (hu_f eh5504 Fr.rf ho0_5502 rfl) (hLay.1 24 0 (by decide) (by decide) (by decide)) hPr_5502
          have hPr_5508 : Prs L B pw pl ps h5508 := Prs.kept (O := (· = L 0)) (hu_f eh5508 Fr.rf ha14_5504 rfl) (hLay.1 24 0 (by decide) (by decide) (by decide)) hPr_5504
          have hPr_5511 : Prs L B pw pl ps h5511 := Prs.kept (O := (· = L 0)) (hu_f eh5511 Fr.rf ho0_5508 rfl) (hLay.1 24 0 (by decide) (by decide) (by decide)) hPr_5508
          have hPr_5512 : Prs L B pw pl ps h5512 := Prs.kept (O := (· = L 0)) (hu_f eh5512 Fr.rf ho0_5511 rfl) (hLay.1 24 0 (by decide) (by decide) (by decide)) hPr_5511
          have hCn_5502 : Cns h5502 E L (nI1 (M 8)) (N 10) := Cns.kept (O := (· = L 62)) hF5502 (hLay.1 26 62 (by decide) (by decide) (by decide)) hCn
          have hCn_5504 : Cns h5504 E L (nI1 (M 8)) (N 10) := Cns.kept (O := (· = L 0)) (hu_f eh5504 Fr.rf ho0_5502 rfl) (hLay.1 26 0 (by decide) (by decide) (by decide)) hCn_5502
          have hCn_5508 : Cns h5508 E L (nI1 (M 8)) (N 10) := Cns.kept (O := (· = L 0)) (hu_f eh5508 Fr.rf ha14_5504 rfl) (hLay.1 26 0 (by decide) (by decide) (by decide)) hCn_5504
          have hCn_5511 : Cns h5511 E L (nI1 (M 8)) (N 10) := Cns.kept (O := (· = L 0)) (hu_f eh5511 Fr.rf ho0_5508 rfl) (hLay.1 26 0 (by decide) (by decide) (by decide)) hCn_5508
          have hCn_5512 : Cns h5512 E L (nI1 (M 8)) (N 10) := Cns.kept (O := (· = L 0)) (hu_f eh5512 Fr.rf ho0_5511 rfl) (hLay.1 26 0 (by decide) (by decide) (by decide)) hCn_5511
          have hSd_5502 : Sds h5502 E L (nI1 (M 6)) (N 9) := Sds.kept (O := (· = L 62)) hF5502 (hLay.1 27 62 (by decide) (by decide) (by decide)) hSd
          have hSd_5504 : Sds h5504 E L (nI1 (M 6)) (N 9) := Sds.kept (O := (· = L 0)) (hu_f eh5504 Fr.rf ho0_5502 rfl) (hLay.1 27 0 (by decide) (by decide) (by decide)) hSd_5502
          have hSd_5508 : Sds h5508 E L (nI1 (M 6)) (N 9) := Sds.kept (O := (· = L 0)) (hu_f eh5508 Fr.rf ha14_5504 rfl) (hLay.1 27 0 (by decide) (by decide) (by decide)) hSd_5504
          have hSd_5511 : Sds h5511 E L (nI1 (M 6)) (N 9) := Sds.kept (O := (· = L 0)) (hu_f eh5511 Fr.rf ho0_5508 rfl) (hLay.1 27 0 (by decide) (by decide) (by decide)) hSd_5508
          have hSd_5512 : Sds h5512 E L (nI1 (M 6)) (N 9) := Sds.kept (O := (· = L 0)) (hu_f eh5512 Fr.rf ho0_5511 rfl) (hLay.1 27 0 (by decide) (by decide) (by decide)) hSd_5511
          have hD5502_5504 : Dgo h5504 E L rs2 := Dgo.kept (O := (· = L 0)) (hu_f eh5504 Fr.rf ho0_5502 rfl) (hLay.1 62 0 (by decide) (by decide) (by decide)) hD5502
          have hD5502_5508 : Dgo h5508 E L rs2 := Dgo.kept (O := (· = L 0)) (hu_f eh5508 Fr.rf ha14_5504 rfl) (hLay.1 62 0 (by decide) (by decide) (by decide)) hD5502_5504
          have hD5502_5511 : Dgo h5511 E L rs2 := Dgo.kept (O := (· = L 0)) (hu_f eh5511 Fr.rf ho0_5508 rfl) (hLay.1 62 0 (by decide) (by decide) (by decide)) hD5502_5508
          have hD5502_5512 : Dgo h5512 E L rs2 := Dgo.kept (O := (· = L 0)) (hu_f eh5512 Fr.rf ho0_5511 rfl) (hLay.1 62 0 (by decide) (by decide) (by decide)) hD5502_5511
          have hB_5502 : Bgs E h5502 B V cp := Bgs.kept (O := (· = L 62)) hF5502 (fun i hi => hLay.2 i 62 hi (by decide)) hB
          have hB_5504 : Bgs E h5504 B V cp := Bgs.kept (O := (· = L 0)) (hu_f eh5504 Fr.rf ho0_5502 rfl) (fun i hi => hLay.2 i 0 hi (by decide)) hB_5502
          have hB_5508 : Bgs E h5508 B V cp := Bgs.kept (O := (· = L 0)) (hu_f eh5508 Fr.rf ha14_5504 rfl) (fun i hi => hLay.2 i 0 hi (by decide)) hB_5504
          have hB_5511 : Bgs E h5511 B V cp := Bgs.kept (O := (· = L 0)) (hu_f eh5511 Fr.rf ho0_5508 rfl) (fun i hi => hLay.2 i 0 hi (by decide)) hB_5508
          have hB_5512 : Bgs E h5512 B V cp := Bgs.kept (O := (· = L 0)) (hu_f eh5512 Fr.rf ho0_5511 rfl) (fun i hi => hLay.2 i 0 hi (by decide)) hB_5511
          exact Z _ _ _ _ _ _ _ _ dX1_draw_121 (by have hgw := (Gw.rf (cp := cp)); have hg1 := hgw.1; have hg2 := hgw.2; have hkm := hB_5512.kmax; show 0 ≤ (KX - ksum cp NB) / 8 + 8; omega) (by have hgw := (Gw.rf (cp := cp)); have hg1 := hgw.1; have hg2 := hgw.2; have hkm := hB_5512.kmax; show 0 ≤ 2 * (KX - ksum cp NB) + 2048; omega) ⟨hcd, by unfold drV; rw [if_neg hno, if_neg hk9, ← hK], cp, by unfold drS dbM; rw [if_neg hno, if_neg hk9, ← hK, if_pos c4, eqN, eqM]; exact ⟨pp, gu f 14 (upd (f 14) K (nI (M 3 K + 1))), rs2, pw, pl, ps, V, ⟨ho0_5512, ha1_5512, ha3_5512, ha12_5512, ha13_5512, ha14_5512, ha15_5512, ha16_5512, ha17_5512, ha39_5512⟩, ⟨r1, r3, r12, r13, fun i hi => by show upd (f 14) K (nI (M 3 K + 1)) i = nI (nu (M 3) K (M 3 K + 1) i); by_cases z : i = K; (rw [z, pk_us, nu_s]); (rw [pk_un z, nu_n z]; exact r14 i hi), fun _ => r15 h11, r16, r17, fun _ => rpp, rp16⟩, Vr_st hVr h11, hSt_5512, hPr_5512, hCn_5512, hSd_5512, hD5502_5512, hB_5512⟩, hF_5512, Gw.rf (cp := cp)⟩ T5512
        · refine lv_aload_n hx hb dX1_draw_102 rfl (lv_at hl5503 1 rfl) ?_
          refine lv_iload_n hx hb dX1_draw_103 rfl (lv_at hl5503 0 rfl) ?_
          have ha1_5502 : h5502 (L 1) = some (.inl (E.2.1 0, 8, .inl (f 1)), L 0) := (ho5502 _ (hLay.1 1 62 (by decide) (by decide) (by decide)) (hLay.1 1 63 (by decide) (by decide) (by decide)) (hLay.1 1 64 (by decide) (by decide) (by decide)) (hLay.1 1 65 (by decide) (by decide) (by decide)) (hLay.1 1 66 (by decide) (by decide) (by decide))).trans ha1
          have ha1_5504 : h5504 (L 1) = some (.inl (E.2.1 0, 8, .inl (f 1)), L 0) := hu_n eh5504 (hLay.1 1 0 (by decide) (by decide) (by decide)) ha1_5502
          have ha1_5508 : h5508 (L 1) = some (.inl (E.2.1 0, 8, .inl (f 1)), L 0) := hu_n eh5508 (hLay.1 1 14 (by decide) (by decide) (by decide)) ha1_5504
          have ha3_5502 : h5502 (L 3) = some (.inl (E.2.1 0, 64, .inl (f 3)), L 0) := (ho5502 _ (hLay.1 3 62 (by decide) (by decide) (by decide)) (hLay.1 3 63 (by decide) (by decide) (by decide)) (hLay.1 3 64 (by decide) (by decide) (by decide)) (hLay.1 3 65 (by decide) (by decide) (by decide)) (hLay.1 3 66 (by decide) (by decide) (by decide))).trans ha3
          have ha3_5504 : h5504 (L 3) = some (.inl (E.2.1 0, 64, .inl (f 3)), L 0) := hu_n eh5504 (hLay.1 3 0 (by decide) (by decide) (by decide)) ha3_5502
          have ha3_5508 : h5508 (L 3) = some (.inl (E.2.1 0, 64, .inl (f 3)), L 0) := hu_n eh5508 (hLay.1 3 14 (by decide) (by decide) (by decide)) ha3_5504
          have ha12_5502 : h5502 (L 12) = some (.inl (E.2.1 1, 20000, .inl (f 12)), L 0) := (ho5502 _ (hLay.1 12 62 (by decide) (by decide) (by decide)) (hLay.1 12 63 (by decide) (by decide) (by decide)) (hLay.1 12 64 (by decide) (by decide) (by decide)) (hLay.1 12 65 (by decide) (by decide) (by decide)) (hLay.1 12 66 (by decide) (by decide) (by decide))).trans ha12
          have ha12_5504 : h5504 (L 12) = some (.inl (E.2.1 1, 20000, .inl (f 12)), L 0) := hu_n eh5504 (hLay.1 12 0 (by decide) (by decide) (by decide)) ha12_5502
          have ha12_5508 : h5508 (L 12) = some (.inl (E.2.1 1, 20000, .inl (f 12)), L 0) := hu_n eh5508 (hLay.1 12 14 (by decide) (by decide) (by decide)) ha12_5504
          have ha15_5502 : h5502 (L 15) = some (.inl (E.2.1 3, 8, .inl (f 15)), L 0) := (ho5502 _ (hLay.1 15 62 (by decide) (by decide) (by decide)) (hLay.1 15 63 (by decide) (by decide) (by decide)) (hLay.1 15 64 (by decide) (by decide) (by decide)) (hLay.1 15 65 (by decide) (by decide) (by decide)) (hLay.1 15 66 (by decide) (by decide) (by decide))).trans ha15
          have ha15_5504 : h5504 (L 15) = some (.inl (E.2.1 3, 8, .inl (f 15)), L 0) := hu_n eh5504 (hLay.1 15 0 (by decide) (by decide) (by decide)) ha15_5502
          have ha15_5508 : h5508 (L 15) = some (.inl (E.2.1 3, 8, .inl (f 15)), L 0) := hu_n eh5508 (hLay.1 15 14 (by decide) (by decide) (by decide)) ha15_5504
          have ha16_5502 : h5502 (L 16) = some (.inl (E.2.1 0, 8, .inl (f 16)), L 0) := (ho5502 _ (hLay.1 16 62 (by decide) (by decide) (by decide)) (hLay.1 16 63 (by decide) (by decide) (by decide)) (hLay.1 16 64 (by decide) (by decide) (by decide)) (hLay.1 16 65 (by decide) (by decide) (by decide)) (hLay.1 16 66 (by decide) (by decide) (by decide))).trans ha16
          have ha16_5504 : h5504 (L 16) = some (.inl (E.2.1 0, 8, .inl (f 16)), L 0) := hu_n eh5504 (hLay.1 16 0 (by decide) (by decide) (by decide)) ha16_5502
          have ha16_5508 : h5508 (L 16) = some (.inl (E.2.1 0, 8, .inl (f 16)), L 0) := hu_n eh5508 (hLay.1 16 14 (by decide) (by decide) (by decide)) ha16_5504
          have ha17_5502 : h5502 (L 17) = some (.inl (E.2.1 0, 8, .inl (f 17)), L 0) := (ho5502 _ (hLay.1 17 62 (by decide) (by decide) (by decide)) (hLay.1 17 63 (by decide) (by decide) (by decide)) (hLay.1 17 64 (by decide) (by decide) (by decide)) (hLay.1 17 65 (by decide) (by decide) (by decide)) (hLay.1 17 66 (by decide) (by decide) (by decide))).trans ha17
          have ha17_5504 : h5504 (L 17) = some (.inl (E.2.1 0, 8, .inl (f 17)), L 0) := hu_n eh5504 (hLay.1 17 0 (by decide) (by decide) (by decide)) ha17_5502
          have ha17_5508 : h5508 (L 17) = some (.inl (E.2.1 0, 8, .inl (f 17)), L 0) := hu_n eh5508 (hLay.1 17 14 (by decide) (by decide) (by decide)) ha17_5504
          have ha39_5502 : h5502 (L 39) = some (.inl (E.2.1 3, 961, .inl (f 39)), L 0) := (ho5502 _ (hLay.1 39 62 (by decide) (by decide) (by decide)) (hLay.1 39 63 (by decide) (by decide) (by decide)) (hLay.1 39 64 (by decide) (by decide) (by decide)) (hLay.1 39 65 (by decide) (by decide) (by decide)) (hLay.1 39 66 (by decide) (by decide) (by decide))).trans ha39
          have ha39_5504 : h5504 (L 39) = some (.inl (E.2.1 3, 961, .inl (f 39)), L 0) := hu_n eh5504 (hLay.1 39 0 (by decide) (by decide) (by decide)) ha39_5502
          have ha39_5508 : h5508 (L 39) = some (.inl (E.2.1 3, 961, .inl (f 39)), L 0) := hu_n eh5508 (hLay.1 39 14 (by decide) (by decide) (by decide)) ha39_5504
          have hSt_5502 : Stt E L B h5502 := Stt.kept (O := (· = L 62)) hF5502 (hLay.1 30 62 (by decide) (by decide) (by decide)) hSt
          have hSt_5504 : Stt E L B h5504 := Stt.kept (O := (· = L 0)) (hu_f eh5504 Fr.rf ho0_5502 rfl) (hLay.1 30 0 (by decide) (by decide) (by decide)) hSt_5502
          have hSt_5508 : Stt E L B h5508 := Stt.kept (O := (· = L 0)) (hu_f eh5508 Fr.rf ha14_5504 rfl) (hLay.1 30 0 (by decide) (by decide) (by decide)) hSt_5504
          have hPr_5502 : Prs L B pw pl ps h5502 := Prs.kept (O := (· = L 62)) hF5502 (hLay.1 24 62 (by decide) (by decide) (by decide)) hPr
          have hPr_5504 : Prs L B pw pl ps h5504 := Prs.kept (O := (· = L 0)) (hu_f eh5504 Fr.rf ho0_5502 rfl) (hLay.1 24 0 (by decide) (by decide) (by decide)) hPr_5502
          have hPr_5508 : Prs L B pw pl ps h5508 := Prs.kept (O := (· = L 0)) (hu_f eh5508 Fr.rf ha14_5504 rfl) (hLay.1 24 0 (by decide) (by decide) (by decide)) hPr_5504
          have hCn_5502 : Cns h5502 E L (nI1 (M 8)) (N 10) := Cns.kept (O := (· = L 62)) hF5502 (hLay.1 26 62 (by decide) (by decide) (by decide)) hCn
          have hCn_5504 : Cns h5504 E L (nI1 (M 8)) (N 10) := Cns.kept (O := (· = L 0)) (hu_f eh5504 Fr.rf ho0_5502 rfl) (hLay.1 26 0 (by decide) (by decide) (by decide)) hCn_5502
          have hCn_5508 : Cns h5508 E L (nI1 (M 8)) (N 10) := Cns.kept (O := (· = L 0)) (hu_f eh5508 Fr.rf ha14_5504 rfl) (hLay.1 26 0 (by decide) (by decide) (by decide)) hCn_5504
          have hSd_5502 : Sds h5502 E L (nI1 (M 6)) (N 9) := Sds.kept (O := (· = L 62)) hF5502 (hLay.1 27 62 (by decide) (by decide) (by decide)) hSd
          have hSd_5504 : Sds h5504 E L (nI1 (M 6)) (N 9) := Sds.kept (O := (· = L 0)) (hu_f eh5504 Fr.rf ho0_5502 rfl) (hLay.1 27 0 (by decide) (by decide) (by decide)) hSd_5502
          have hSd_5508 : Sds h5508 E L (nI1 (M 6)) (N 9) := Sds.kept (O := (· = L 0)) (hu_f eh5508 Fr.rf ha14_5504 rfl) (hLay.1 27 0 (by decide) (by decide) (by decide)) hSd_5504
          have hD5502_5504 : Dgo h5504 E L rs2 := Dgo.kept (O := (· = L 0)) (hu_f eh5504 Fr.rf ho0_5502 rfl) (hLay.1 62 0 (by decide) (by decide) (by decide)) hD5502
          have hD5502_5508 : Dgo h5508 E L rs2 := Dgo.kept (O := (· = L 0)) (hu_f eh5508 Fr.rf ha14_5504 rfl) (hLay.1 62 0 (by decide) (by decide) (by decide)) hD5502_5504
          have hB_5502 : Bgs E h5502 B V cp := Bgs.kept (O := (· = L 62)) hF5502 (fun i hi => hLay.2 i 62 hi (by decide)) hB
          have hB_5504 : Bgs E h5504 B V cp := Bgs.kept (O := (· = L 0)) (hu_f eh5504 Fr.rf ho0_5502 rfl) (fun i hi => hLay.2 i 0 hi (by decide)) hB_5502
          have hB_5508 : Bgs E h5508 B V cp := Bgs.kept (O := (· = L 0)) (hu_f eh5508 Fr.rf ha14_5504 rfl) (fun i hi => hLay.2 i 0 hi (by decide)) hB_5504
          have hCq : Cp E h5508 L B cp (nu N 15 (N 15 + 1)) (mu (M) 3 (nu (M 3) K (M 3 K + 1))) G := ⟨pp, gu f 14 (upd (f 14) K (nI (M 3 K + 1))), rs2, pw, pl, ps, V, ⟨ho0_5508, ha1_5508, ha3_5508, ha12_5508, ha13_5508, ha14_5508, ha15_5508, ha16_5508, ha17_5508, ha39_5508⟩, ⟨r1, r3, r12, r13, fun i hi => by show upd (f 14) K (nI (M 3 K + 1)) i = nI (nu (M 3) K (M 3 K + 1) i); by_cases z : i = K; (rw [z, pk_us, nu_s]); (rw [pk_un z, nu_n z]; exact r14 i hi), fun _ => r15 h11, r16, r17, fun _ => rpp, rp16⟩, Vr_same hVr, hSt_5508, hPr_5508, hCn_5508, hSd_5508, hD5502_5508, hB_5508⟩
          have hLI5509 : LI (nu N 15 (N 15 + 1)) (mu (M) 3 (nu (M 3) K (M 3 K + 1))) (G) := (LI_of hI0 h11 (fun i h1 h2 => by repeat rw [nu_n (by omega)]) (show N 15 + 1 ≤ 64 by omega) rfl rfl rfl rfl rfl rfl rfl)
          refine hg_V C T5508 hl5503.1 ho0_5508 rfl (m_X1_look hLay hLI5509 hCq ⟨Or.inr ⟨K, hK20, rfl, rfl, rfl⟩, isn K⟩) q740 q742 qs7 q53 q743 kd_X1_look rfl rfl ⟨Nat.le_of_ble_eq_true rfl, Nat.le_of_ble_eq_true rfl⟩ (Nat.le_of_ble_eq_true rfl) dX1_draw_104 ⟨by have hgw := (Gw.rf (cp := cp)); have hg1 := hgw.1; have hg2 := hgw.2; have hkm := hB_5508.kmax; show 0 + ((KX - ksum cp NB) / 8 + 8) ≤ (KX - ksum cp NB) / 8 + 8; omega, by have hgw := (Gw.rf (cp := cp)); have hg1 := hgw.1; have hg2 := hgw.2; have hkm := hB_5508.kmax; show 0 + (2 * (KX - ksum cp NB) + 2048) ≤ 2 * (KX - ksum cp NB) + 2048; omega⟩ (fun rv h5510 dc5510 ds5510 H5510 locs5510 hp5510 T5510 => ?_)
          obtain ⟨rfl, c5510, hC5510, hF5510, hw5510⟩ := hp5510
          have hW5510 := (Gw.rf (cp := cp)).tr hw5510
          have hF_5510 : Fr (CO L B) h h5510 := hF_5508.tr (hF5510.mono (fun _ z => z))
          refine W.eq (g2 := F0 m 107 ls5503 []) rfl ?_
          refine lv_goto (tgt := 120) hx hb dX1_draw_107 (by decide) ?_
          refine lv_iload_n hx hb dX1_draw_120 rfl (lv_at hl5503 0 rfl) ?_
          exact Z _ _ _ _ _ _ _ _ dX1_draw_121 (by have hg1 := (hW5510).1; have hg2 := (hW5510).2; have hkm := hC5510.kmax; show 0 + dc5510 ≤ (KX - ksum cp NB) / 8 + 8; omega) (by have hg1 := (hW5510).1; have hg2 := (hW5510).2; have hkm := hC5510.kmax; show 0 + ds5510 ≤ 2 * (KX - ksum cp NB) + 2048; omega) ⟨hcd, by unfold drV; rw [if_neg hno, if_neg hk9, ← hK], _, by unfold drS dbM; rw [if_neg hno, if_neg hk9, ← hK, if_neg c4, eqN, eqM]; exact hC5510, hF_5510, hW5510⟩ T5510
      · have hk9 : N 2 ≤ drK N M := by omega
        refine lv_aload_n hx hb dX1_draw_61 rfl (lv_at hl5503 1 rfl) ?_
        refine lv_dup hx hb dX1_draw_62 rfl ?_
        refine hr_get C T5504 ho0_5504 rfl in_X1 20 (by decide) q315 rfl rfl dX1_draw_63 ?_
        refine lv_iconst (v := nI 1) hx hb dX1_draw_66 rfl ?_
        refine hn_iadd hx hb dX1_draw_67 ?_
        refine hr_put C T5504 ho0_5504 rfl in_X1 tyX1 tyX1_ok nmX1 20 (by decide) q315 rfl rfl rfl rfl (Nat.le_of_ble_eq_true rfl) dX1_draw_68 (fun h5505 H5505 locs5505 eh5505 T5505 => ?_)
        have ho0_5505 : h5505 (L 0) = some (.inr (0, [.ref (L 1), .int (nI (N 0)), .ref (L 3), .int (nI (N 1)), .int (nI (N 2)), .int (nI (N 3)), .int (nI (N 4)), .int (nI (N 5)), .int (nI (N 6)), .int (nI (N 7)), .int (nI (N 8)), .ref (L 12), .ref (L 13), .ref (L 14), .ref (L 15), .ref (L 16), .ref (L 17), .int (nI (N 11)), .int (nI ((N 15) + 1)), .int (nI (N 16)), .int (nI ((N 17) + 1)), .int (nI (N 18) - 1), .int (nI (N 19)), .ref (L 24), .int (nI pp), .ref (L 26), .ref (L 27), .ref (if N 13 = 1 then L 27 else L 26), .ref (L 29), .ref (L 30), .ref (if N 12 = 1 then L 30 else L 29), .ref (L 32), .ref (B 0), .ref (B 1), .ref (B 2), .ref (B 3), .ref (L 37), .ref (L 38), .ref (L 39), .ref (B 4), .ref (B 5)]), L 0) := hu_s eh5505
        have hF_5505 : Fr (CO L B) h h5505 := hu_f eh5505 hF_5504 ho0_5504 (Or.inl rfl)
        refine lv_aload_n hx hb dX1_draw_71 rfl (lv_at hl5503 1 rfl) ?_
        refine lv_bipush (v := (-2)) hx hb dX1_draw_72 rfl ?_
        have ha1_5502 : h5502 (L 1) = some (.inl (E.2.1 0, 8, .inl (f 1)), L 0) := (ho5502 _ (hLay.1 1 62 (by decide) (by decide) (by decide)) (hLay.1 1 63 (by decide) (by decide) (by decide)) (hLay.1 1 64 (by decide) (by decide) (by decide)) (hLay.1 1 65 (by decide) (by decide) (by decide)) (hLay.1 1 66 (by decide) (by decide) (by decide))).trans ha1
        have ha1_5504 : h5504 (L 1) = some (.inl (E.2.1 0, 8, .inl (f 1)), L 0) := hu_n eh5504 (hLay.1 1 0 (by decide) (by decide) (by decide)) ha1_5502
        have ha1_5505 : h5505 (L 1) = some (.inl (E.2.1 0, 8, .inl (f 1)), L 0) := hu_n eh5505 (hLay.1 1 0 (by decide) (by decide) (by decide)) ha1_5504
        have ha3_5502 : h5502 (L 3) = some (.inl (E.2.1 0, 64, .inl (f 3)), L 0) := (ho5502 _ (hLay.1 3 62 (by decide) (by decide) (by decide)) (hLay.1 3 63 (by decide) (by decide) (by decide)) (hLay.1 3 64 (by decide) (by decide) (by decide)) (hLay.1 3 65 (by decide) (by decide) (by decide)) (hLay.1 3 66 (by decide) (by decide) (by decide))).trans ha3
        have ha3_5504 : h5504 (L 3) = some (.inl (E.2.1 0, 64, .inl (f 3)), L 0) := hu_n eh5504 (hLay.1 3 0 (by decide) (by decide) (by decide)) ha3_5502
        have ha3_5505 : h5505 (L 3) = some (.inl (E.2.1 0, 64, .inl (f 3)), L 0) := hu_n eh5505 (hLay.1 3 0 (by decide) (by decide) (by decide)) ha3_5504
        have ha12_5502 : h5502 (L 12) = some (.inl (E.2.1 1, 20000, .inl (f 12)), L 0) := (ho5502 _ (hLay.1 12 62 (by decide) (by decide) (by decide)) (hLay.1 12 63 (by decide) (by decide) (by decide)) (hLay.1 12 64 (by decide) (by decide) (by decide)) (hLay.1 12 65 (by decide) (by decide) (by decide)) (hLay.1 12 66 (by decide) (by decide) (by decide))).trans ha12
        have ha12_5504 : h5504 (L 12) = some (.inl (E.2.1 1, 20000, .inl (f 12)), L 0) := hu_n eh5504 (hLay.1 12 0 (by decide) (by decide) (by decide)) ha12_5502
        have ha12_5505 : h5505 (L 12) = some (.inl (E.2.1 1, 20000, .inl (f 12)), L 0) := hu_n eh5505 (hLay.1 12 0 (by decide) (by decide) (by decide)) ha12_5504
        have ha13_5502 : h5502 (L 13) = some (.inl (E.2.1 1, 20000, .inl (f 13)), L 0) := (ho5502 _ (hLay.1 13 62 (by decide) (by decide) (by decide)) (hLay.1 13 63 (by decide) (by decide) (by decide)) (hLay.1 13 64 (by decide) (by decide) (by decide)) (hLay.1 13 65 (by decide) (by decide) (by decide)) (hLay.1 13 66 (by decide) (by decide) (by decide))).trans ha13
        have ha13_5504 : h5504 (L 13) = some (.inl (E.2.1 1, 20000, .inl (f 13)), L 0) := hu_n eh5504 (hLay.1 13 0 (by decide) (by decide) (by decide)) ha13_5502
        have ha13_5505 : h5505 (L 13) = some (.inl (E.2.1 1, 20000, .inl (f 13)), L 0) := hu_n eh5505 (hLay.1 13 0 (by decide) (by decide) (by decide)) ha13_5504
        have ha14_5502 : h5502 (L 14) = some (.inl (E.2.1 2, 20000, .inl (f 14)), L 0) := (ho5502 _ (hLay.1 14 62 (by decide) (by decide) (by decide)) (hLay.1 14 63 (by decide) (by decide) (by decide)) (hLay.1 14 64 (by decide) (by decide) (by decide)) (hLay.1 14 65 (by decide) (by decide) (by decide)) (hLay.1 14 66 (by decide) (by decide) (by decide))).trans ha14
        have ha14_5504 : h5504 (L 14) = some (.inl (E.2.1 2, 20000, .inl (f 14)), L 0) := hu_n eh5504 (hLay.1 14 0 (by decide) (by decide) (by decide)) ha14_5502
        have ha14_5505 : h5505 (L 14) = some (.inl (E.2.1 2, 20000, .inl (f 14)), L 0) := hu_n eh5505 (hLay.1 14 0 (by decide) (by decide) (by decide)) ha14_5504
        have ha15_5502 : h5502 (L 15) = some (.inl (E.2.1 3, 8, .inl (f 15)), L 0) := (ho5502 _ (hLay.1 15 62 (by decide) (by decide) (by decide)) (hLay.1 15 63 (by decide) (by decide) (by decide)) (hLay.1 15 64 (by decide) (by decide) (by decide)) (hLay.1 15 65 (by decide) (by decide) (by decide)) (hLay.1 15 66 (by decide) (by decide) (by decide))).trans ha15
        have ha15_5504 : h5504 (L 15) = some (.inl (E.2.1 3, 8, .inl (f 15)), L 0) := hu_n eh5504 (hLay.1 15 0 (by decide) (by decide) (by decide)) ha15_5502
        have ha15_5505 : h5505 (L 15) = some (.inl (E.2.1 3, 8, .inl (f 15)), L 0) := hu_n eh5505 (hLay.1 15 0 (by decide) (by decide) (by decide)) ha15_5504
        have ha16_5502 : h5502 (L 16) = some (.inl (E.2.1 0, 8, .inl (f 16)), L 0) := (ho5502 _ (hLay.1 16 62 (by decide) (by decide) (by decide)) (hLay.1 16 63 (by decide) (by decide) (by decide)) (hLay.1 16 64 (by decide) (by decide) (by decide)) (hLay.1 16 65 (by decide) (by decide) (by decide)) (hLay.1 16 66 (by decide) (by decide) (by decide))).trans ha16
        have ha16_5504 : h5504 (L 16) = some (.inl (E.2.1 0, 8, .inl (f 16)), L 0) := hu_n eh5504 (hLay.1 16 0 (by decide) (by decide) (by decide)) ha16_5502
        have ha16_5505 : h5505 (L 16) = some (.inl (E.2.1 0, 8, .inl (f 16)), L 0) := hu_n eh5505 (hLay.1 16 0 (by decide) (by decide) (by decide)) ha16_5504
        have ha17_5502 : h5502 (L 17) = some (.inl (E.2.1 0, 8, .inl (f 17)), L 0) := (ho5502 _ (hLay.1 17 62 (by decide) (by decide) (by decide)) (hLay.1 17 63 (by decide) (by decide) (by decide)) (hLay.1 17 64 (by decide) (by decide) (by decide)) (hLay.1 17 65 (by decide) (by decide) (by decide)) (hLay.1 17 66 (by decide) (by decide) (by decide))).trans ha17
        have ha17_5504 : h5504 (L 17) = some (.inl (E.2.1 0, 8, .inl (f 17)), L 0) := hu_n eh5504 (hLay.1 17 0 (by decide) (by decide) (by decide)) ha17_5502
        have ha17_5505 : h5505 (L 17) = some (.inl (E.2.1 0, 8, .inl (f 17)), L 0) := hu_n eh5505 (hLay.1 17 0 (by decide) (by decide) (by decide)) ha17_5504
        have ha39_5502 : h5502 (L 39) = some (.inl (E.2.1 3, 961, .inl (f 39)), L 0) := (ho5502 _ (hLay.1 39 62 (by decide) (by decide) (by decide)) (hLay.1 39 63 (by decide) (by decide) (by decide)) (hLay.1 39 64 (by decide) (by decide) (by decide)) (hLay.1 39 65 (by decide) (by decide) (by decide)) (hLay.1 39 66 (by decide) (by decide) (by decide))).trans ha39
        have ha39_5504 : h5504 (L 39) = some (.inl (E.2.1 3, 961, .inl (f 39)), L 0) := hu_n eh5504 (hLay.1 39 0 (by decide) (by decide) (by decide)) ha39_5502
        have ha39_5505 : h5505 (L 39) = some (.inl (E.2.1 3, 961, .inl (f 39)), L 0) := hu_n eh5505 (hLay.1 39 0 (by decide) (by decide) (by decide)) ha39_5504
        have hSt_5502 : Stt E L B h5502 := Stt.kept (O := (· = L 62)) hF5502 (hLay.1 30 62 (by decide) (by decide) (by decide)) hSt
        have hSt_5504 : Stt E L B h5504 := Stt.kept (O := (· = L 0)) (hu_f eh5504 Fr.rf ho0_5502 rfl) (hLay.1 30 0 (by decide) (by decide) (by decide)) hSt_5502
        have hSt_5505 : Stt E L B h5505 := Stt.kept (O := (· = L 0)) (hu_f eh5505 Fr.rf ho0_5504 rfl) (hLay.1 30 0 (by decide) (by decide) (by decide)) hSt_5504
        have hPr_5502 : Prs L B pw pl ps h5502 := Prs.kept (O := (· = L 62)) hF5502 (hLay.1 24 62 (by decide) (by decide) (by decide)) hPr
        have hPr_5504 : Prs L B pw pl ps h5504 := Prs.kept (O := (· = L 0)) (hu_f eh5504 Fr.rf ho0_5502 rfl) (hLay.1 24 0 (by decide) (by decide) (by decide)) hPr_5502
        have hPr_5505 : Prs L B pw pl ps h5505 := Prs.kept (O := (· = L 0)) (hu_f eh5505 Fr.rf ho0_5504 rfl) (hLay.1 24 0 (by decide) (by decide) (by decide)) hPr_5504
        have hCn_5502 : Cns h5502 E L (nI1 (M 8)) (N 10) := Cns.kept (O := (· = L 62)) hF5502 (hLay.1 26 62 (by decide) (by decide) (by decide)) hCn
        have hCn_5504 : Cns h5504 E L (nI1 (M 8)) (N 10) := Cns.kept (O := (· = L 0)) (hu_f eh5504 Fr.rf ho0_5502 rfl) (hLay.1 26 0 (by decide) (by decide) (by decide)) hCn_5502
        have hCn_5505 : Cns h5505 E L (nI1 (M 8)) (N 10) := Cns.kept (O := (· = L 0)) (hu_f eh5505 Fr.rf ho0_5504 rfl) (hLay.1 26 0 (by decide) (by decide) (by decide)) hCn_5504
        have hSd_5502 : Sds h5502 E L (nI1 (M 6)) (N 9) := Sds.kept (O := (· = L 62)) hF5502 (hLay.1 27 62 (by decide) (by decide) (by decide)) hSd
        have hSd_5504 : Sds h5504 E L (nI1 (M 6)) (N 9) := Sds.kept (O := (· = L 0)) (hu_f eh5504 Fr.rf ho0_5502 rfl) (hLay.1 27 0 (by decide) (by decide) (by decide)) hSd_5502
        have hSd_5505 : Sds h5505 E L (nI1 (M 6)) (N 9) := Sds.kept (O := (· = L 0)) (hu_f eh5505 Fr.rf ho0_5504 rfl) (hLay.1 27 0 (by decide) (by decide) (by decide)) hSd_5504
        have hD5502_5504 : Dgo h5504 E L rs2 := Dgo.kept (O := (· = L 0)) (hu_f eh5504 Fr.rf ho0_5502 rfl) (hLay.1 62 0 (by decide) (by decide) (by decide)) hD5502
        have hD5502_5505 : Dgo h5505 E L rs2 := Dgo.kept (O := (· = L 0)) (hu_f eh5505 Fr.rf ho0_5504 rfl) (hLay.1 62 0 (by decide) (by decide) (by decide)) hD5502_5504
        have hB_5502 : Bgs E h5502 B V cp := Bgs.kept (O := (· = L 62)) hF5502 (fun i hi => hLay.2 i 62 hi (by decide)) hB
        have hB_5504 : Bgs E h5504 B V cp := Bgs.kept (O := (· = L 0)) (hu_f eh5504 Fr.rf ho0_5502 rfl) (fun i hi => hLay.2 i 0 hi (by decide)) hB_5502
        have hB_5505 : Bgs E h5505 B V cp := Bgs.kept (O := (· = L 0)) (hu_f eh5505 Fr.rf ho0_5504 rfl) (fun i hi => hLay.2 i 0 hi (by decide)) hB_5504
        have hCq : Cp E h5505 L B cp (nu (nu N 15 (N 15 + 1)) 17 (N 17 + 1)) (M) G := ⟨pp, f, rs2, pw, pl, ps, V, ⟨ho0_5505, ha1_5505, ha3_5505, ha12_5505, ha13_5505, ha14_5505, ha15_5505, ha16_5505, ha17_5505, ha39_5505⟩, ⟨r1, r3, r12, r13, r14, fun _ => r15 h11, r16, r17, fun _ => rpp, rp16⟩, Vr_same hVr, hSt_5505, hPr_5505, hCn_5505, hSd_5505, hD5502_5505, hB_5505⟩
        have hLI5506 : LI (nu (nu N 15 (N 15 + 1)) 17 (N 17 + 1)) (M) (G) := (LI_of hI0 h11 (fun i h1 h2 => by repeat rw [nu_n (by omega)]) (show N 15 + 1 ≤ 64 by omega) rfl rfl rfl rfl rfl rfl rfl)
        refine hg_V C T5505 hl5503.1 ho0_5505 rfl (m_X1_look hLay hLI5506 hCq ⟨Or.inl ⟨rfl, rfl, rfl⟩, Or.inl rfl⟩) q740 q742 qs7 q53 q743 kd_X1_look rfl rfl ⟨Nat.le_of_ble_eq_true rfl, Nat.le_of_ble_eq_true rfl⟩ (Nat.le_of_ble_eq_true rfl) dX1_draw_74 ⟨by have hgw := (Gw.rf (cp := cp)); have hg1 := hgw.1; have hg2 := hgw.2; have hkm := hB_5505.kmax; show 0 + ((KX - ksum cp NB) / 8 + 8) ≤ (KX - ksum cp NB) / 8 + 8; omega, by have hgw := (Gw.rf (cp := cp)); have hg1 := hgw.1; have hg2 := hgw.2; have hkm := hB_5505.kmax; show 0 + (2 * (KX - ksum cp NB) + 2048) ≤ 2 * (KX - ksum cp NB) + 2048; omega⟩ (fun rv h5507 dc5507 ds5507 H5507 locs5507 hp5507 T5507 => ?_)
        obtain ⟨rfl, c5507, hC5507, hF5507, hw5507⟩ := hp5507
        have hW5507 := (Gw.rf (cp := cp)).tr hw5507
        have hF_5507 : Fr (CO L B) h h5507 := hF_5505.tr (hF5507.mono (fun _ z => z))
        refine W.eq (g2 := F0 m 77 ls5503 []) rfl ?_
        refine lv_bipush (v := (-2)) hx hb dX1_draw_77 rfl ?_
        exact Z _ _ _ _ _ _ _ _ dX1_draw_79 (by have hg1 := (hW5507).1; have hg2 := (hW5507).2; have hkm := hC5507.kmax; show 0 + dc5507 ≤ (KX - ksum cp NB) / 8 + 8; omega) (by have hg1 := (hW5507).1; have hg2 := (hW5507).2; have hkm := hC5507.kmax; show 0 + ds5507 ≤ 2 * (KX - ksum cp NB) + 2048; omega) ⟨hcd, by unfold drV; rw [if_neg hno, if_pos hk9], _, by unfold drS dbN; rw [if_neg hno, if_pos hk9, eqN, eqM]; exact hC5507, hF_5507, hW5507⟩ T5507
    · rw [if_neg c13]
      obtain ⟨fi, row, hco, hro, hfi, hn4, hrow, h01⟩ := id hCn
      refine lv_aload_n hx hb dX1_draw_20 rfl (lv_at hl 0 rfl) ?_
      refine hr_get C T5501 ho0 rfl in_X1 18 (by decide) q313 rfl rfl dX1_draw_21 ?_
      refine lv_iconst (v := nI 1) hx hb dX1_draw_24 rfl ?_
      refine hn_iadd hx hb dX1_draw_25 ?_
      refine lv_aload_n hx hb dX1_draw_26 rfl (lv_at hl 0 rfl) ?_
      refine hr_get C T5501 ho0 rfl in_X1 4 (by decide) q295 rfl rfl dX1_draw_27 ?_
      by_cases c14 : N 10 < mny (N 2)
      · refine hc_F C T5501 hl.1 hco rfl (m_X2_draw hLay.1 hCn (show N 2 ≤ 32768 by omega)) 0 rfl q690 q694 q696 q54 q698 kdF_0 rfl rfl ⟨Nat.le_of_ble_eq_true rfl, Nat.le_of_ble_eq_true rfl⟩ (Nat.le_of_ble_eq_true rfl) dX1_draw_30 ⟨by show 0 + 0 ≤ (KX - ksum cp NB) / 8 + 8; omega, by show 0 + 0 ≤ 2 * (KX - ksum cp NB) + 2048; omega⟩ (fun rv h5513 H5513 locs5513 hp5513 T5513 => ?_)
        obtain ⟨rfl, hq5513⟩ := hp5513.2 c14
        rw [hq5513] at T5513
        refine W.eq (g2 := F0 m 35 ls [.int (-1)]) rfl ?_
        refine lv_istore_n (lv' := [(1, .int (-1)), (0, .ref (L 0))]) hx hb dX1_draw_35 rfl hl (by decide) rfl (fun ls5514 hl5514 => ?_)
        refine lv_iload_n hx hb dX1_draw_36 rfl (lv_at hl5514 0 rfl) ?_
        refine lv_iconst (v := (-1)) hx hb dX1_draw_37 rfl ?_
        refine lv_icmp_ne (tgt := 43) hx hb dX1_draw_38 (by decide) (fun c2 => absurd rfl c2) (fun c2 => ?_)
        refine lv_iconst (v := (-1)) hx hb dX1_draw_41 rfl ?_
        exact Z _ _ _ _ _ _ _ _ dX1_draw_42 (Nat.zero_le _) (Nat.zero_le _) ⟨hcd, by unfold drV; rw [if_pos ⟨c13, c14⟩], cp, by unfold drS; rw [if_pos ⟨c13, c14⟩]; exact hC0, hF, Gw.rf⟩ T5513
      · have hno : ¬ drNo N := fun z => c14 z.2
        refine hc_F C T5501 hl.1 hco rfl (m_X2_draw hLay.1 hCn (show N 2 ≤ 32768 by omega)) 0 rfl q690 q694 q696 q54 q698 kdF_0 rfl rfl ⟨Nat.le_of_ble_eq_true rfl, Nat.le_of_ble_eq_true rfl⟩ (Nat.le_of_ble_eq_true rfl) dX1_draw_30 ⟨by show 0 + 0 ≤ (KX - ksum cp NB) / 8 + 8; omega, by show 0 + 0 ≤ 2 * (KX - ksum cp NB) + 2048; omega⟩ (fun rv h5515 H5515 locs5515 hp5515 T5515 => ?_)
        obtain ⟨rfl, hC5515, hF5515, ho5515⟩ := hp5515.1 (by omega)
        have hF_5515 : Fr (CO L B) h h5515 := hF.tr (hF5515.mono (fun _ z => Or.inr (Or.inr (Or.inl z))))
        refine W.eq (g2 := F0 m 35 ls [.int (nI (cv (nI1 (M 8)) (mny (N 2))))]) rfl ?_
        have hmn : mny (N 2) ≤ 15 := mny_le (by omega)
        have hcv := cv_lt (q := nI1 (M 8)) (n := mny (N 2)) fun i hi => h01 i (by omega)
        have hp2 : 2 ^ mny (N 2) ≤ 2 ^ 15 := Nat.pow_le_pow_right (by decide) hmn
        obtain ⟨K, hK⟩ : ∃ K, K = drK N M := ⟨_, rfl⟩
        have hK2 : cv (nI1 (M 8)) (mny (N 2)) = K := by rw [hK]; unfold drK; rw [if_neg c13]
        rw [hK2]
        rw [hK2] at hcv
        have hKl : K < 32768 := by omega
        have eqN : dqN N = nu (nu N 10 (N 10 - mny (N 2))) 15 (N 15 + 1) := if_neg c13
        have eqM : dqM N M = mu M 8 (fun i => M 8 (i + mny (N 2))) := if_neg c13
        refine lv_istore_n (lv' := [(1, .int (nI K)), (0, .ref (L 0))]) hx hb dX1_draw_35 rfl hl (by decide) rfl (fun ls5516 hl5516 => ?_)
        refine lv_iload_n hx hb dX1_draw_36 rfl (lv_at hl5516 0 rfl) ?_
        refine lv_iconst (v := (-1)) hx hb dX1_draw_37 rfl ?_
        refine zi_icmp_ne (tgt := 43) (X := ((K : Nat) : Int)) (Y := (-1)) hx hb dX1_draw_38 (by decide) (nI_toInt (by omega)) rfl (fun c2 => ?_) (fun c2 => absurd c2 (by omega))
        refine lv_aload_n hx hb dX1_draw_43 rfl (lv_at hl5516 1 rfl) ?_
        refine lv_dup hx hb dX1_draw_44 rfl ?_
        have ho0_5515 : h5515 (L 0) = some (.inr (0, [.ref (L 1), .int (nI (N 0)), .ref (L 3), .int (nI (N 1)), .int (nI (N 2)), .int (nI (N 3)), .int (nI (N 4)), .int (nI (N 5)), .int (nI (N 6)), .int (nI (N 7)), .int (nI (N 8)), .ref (L 12), .ref (L 13), .ref (L 14), .ref (L 15), .ref (L 16), .ref (L 17), .int (nI (N 11)), .int (nI (N 15)), .int (nI (N 16)), .int (nI (N 17)), .int (nI (N 18) - 1), .int (nI (N 19)), .ref (L 24), .int (nI pp), .ref (L 26), .ref (L 27), .ref (if N 13 = 1 then L 27 else L 26), .ref (L 29), .ref (L 30), .ref (if N 12 = 1 then L 30 else L 29), .ref (L 32), .ref (B 0), .ref (B 1), .ref (B 2), .ref (B 3), .ref (L 37), .ref (L 38), .ref (L 39), .ref (B 4), .ref (B 5)]), L 0) := (ho5515 _ (hLay.1 0 26 (by decide) (by decide) (by decide)) (hLay.1 0 60 (by decide) (by decide) (by decide))).trans ho0
        refine hr_get C T5515 ho0_5515 rfl in_X1 18 (by decide) q313 rfl rfl dX1_draw_45 ?_
        refine lv_iconst (v := nI 1) hx hb dX1_draw_48 rfl ?_
        refine hn_iadd hx hb dX1_draw_49 ?_
        refine hr_put C T5515 ho0_5515 rfl in_X1 tyX1 tyX1_ok nmX1 18 (by decide) q313 rfl rfl rfl rfl (Nat.le_of_ble_eq_true rfl) dX1_draw_50 (fun h5517 H5517 locs5517 eh5517 T5517 => ?_)
        have ho0_5517 : h5517 (L 0) = some (.inr (0, [.ref (L 1), .int (nI (N 0)), .ref (L 3), .int (nI (N 1)), .int (nI (N 2)), .int (nI (N 3)), .int (nI (N 4)), .int (nI (N 5)), .int (nI (N 6)), .int (nI (N 7)), .int (nI (N 8)), .ref (L 12), .ref (L 13), .ref (L 14), .ref (L 15), .ref (L 16), .ref (L 17), .int (nI (N 11)), .int (nI ((N 15) + 1)), .int (nI (N 16)), .int (nI (N 17)), .int (nI (N 18) - 1), .int (nI (N 19)), .ref (L 24), .int (nI pp), .ref (L 26), .ref (L 27), .ref (if N 13 = 1 then L 27 else L 26), .ref (L 29), .ref (L 30), .ref (if N 12 = 1 then L 30 else L 29), .ref (L 32), .ref (B 0), .ref (B 1), .ref (B 2), .ref (B 3), .ref (L 37), .ref (L 38), .ref (L 39), .ref (B 4), .ref (B 5)]), L 0) := hu_s eh5517
        have hF_5517 : Fr (CO L B) h h5517 := hu_f eh5517 hF_5515 ho0_5515 (Or.inl rfl)
        refine lv_iload_n hx hb dX1_draw_53 rfl (lv_at hl5516 0 rfl) ?_
        refine lv_aload_n hx hb dX1_draw_54 rfl (lv_at hl5516 1 rfl) ?_
        refine hr_get C T5517 ho0_5517 rfl in_X1 4 (by decide) q295 rfl rfl dX1_draw_55 ?_
        refine hn_icmp_lt (tgt := 80) hx hb dX1_draw_58 (by decide) (by omega) (by omega) (fun c3 => ?_) (fun c3 => ?_)
        · have hk9 : ¬ N 2 ≤ drK N M := by omega
          have hK20 : K < 20000 := by omega
          have hm3 := itm K
          refine lv_aload_n hx hb dX1_draw_80 rfl (lv_at hl5516 1 rfl) ?_
          refine hr_get C T5517 ho0_5517 rfl in_X1 13 (by decide) q308 rfl rfl dX1_draw_81 ?_
          refine lv_iload_n hx hb dX1_draw_84 rfl (lv_at hl5516 0 rfl) ?_
          refine lv_dup2_11 hx hb dX1_draw_85 rfl rfl ?_
          have ha14_5515 : h5515 (L 14) = some (.inl (E.2.1 2, 20000, .inl (f 14)), L 0) := (ho5515 _ (hLay.1 14 26 (by decide) (by decide) (by decide)) (hLay.1 14 60 (by decide) (by decide) (by decide))).trans ha14
          have ha14_5517 : h5517 (L 14) = some (.inl (E.2.1 2, 20000, .inl (f 14)), L 0) := hu_n eh5517 (hLay.1 14 0 (by decide) (by decide) (by decide)) ha14_5515
          refine hr_sald C T5517 ha14_5517 (by omega) (by omega) dX1_draw_86 ?_
          rw [r14 K hK20]
          refine lv_iconst (v := nI 1) hx hb dX1_draw_87 rfl ?_
          refine hn_iadd hx hb dX1_draw_88 ?_
          refine lv_i2s (v := nI (M 3 K + 1)) hx hb dX1_draw_89 (short_id (by omega)) ?_
          refine hr_sast C T5517 ha14_5517 hK20 (by omega) (show vp_nar .short (nI (M 3 K + 1)) = nI (M 3 K + 1) by rw [vp_nar_short, short_id (by omega)]) dX1_draw_90 (fun h5521 H5521 locs5521 eh5521 T5521 => ?_)
          have ha14_5521 : h5521 (L 14) = some (.inl (E.2.1 2, 20000, .inl (upd (f 14) K (nI (M 3 K + 1)))), L 0) := hu_s eh5521
          have hF_5521 : Fr (CO L B) h h5521 := hu_f eh5521 hF_5517 ha14_5517 (Or.inl rfl)
          refine lv_aload_n hx hb dX1_draw_91 rfl (lv_at hl5516 1 rfl) ?_
          have ho0_5521 : h5521 (L 0) = some (.inr (0, [.ref (L 1), .int (nI (N 0)), .ref (L 3), .int (nI (N 1)), .int (nI (N 2)), .int (nI (N 3)), .int (nI (N 4)), .int (nI (N 5)), .int (nI (N 6)), .int (nI (N 7)), .int (nI (N 8)), .ref (L 12), .ref (L 13), .ref (L 14), .ref (L 15), .ref (L 16), .ref (L 17), .int (nI (N 11)), .int (nI ((N 15) + 1)), .int (nI (N 16)), .int (nI (N 17)), .int (nI (N 18) - 1), .int (nI (N 19)), .ref (L 24), .int (nI pp), .ref (L 26), .ref (L 27), .ref (if N 13 = 1 then L 27 else L 26), .ref (L 29), .ref (L 30), .ref (if N 12 = 1 then L 30 else L 29), .ref (L 32), .ref (B 0), .ref (B 1), .ref (B 2), .ref (B 3), .ref (L 37), .ref (L 38), .ref (L 39), .ref (B 4), .ref (B 5)]), L 0) := hu_n eh5521 (hLay.1 0 14 (by decide) (by decide) (by decide)) ho0_5517
          refine hr_get C T5521 ho0_5521 rfl in_X1 12 (by decide) q307 rfl rfl dX1_draw_92 ?_
          refine lv_iload_n hx hb dX1_draw_95 rfl (lv_at hl5516 0 rfl) ?_
          have ha13_5515 : h5515 (L 13) = some (.inl (E.2.1 1, 20000, .inl (f 13)), L 0) := (ho5515 _ (hLay.1 13 26 (by decide) (by decide) (by decide)) (hLay.1 13 60 (by decide) (by decide) (by decide))).trans ha13
          have ha13_5517 : h5517 (L 13) = some (.inl (E.2.1 1, 20000, .inl (f 13)), L 0) := hu_n eh5517 (hLay.1 13 0 (by decide) (by decide) (by decide)) ha13_5515
          have ha13_5521 : h5521 (L 13) = some (.inl (E.2.1 1, 20000, .inl (f 13)), L 0) := hu_n eh5521 (hLay.1 13 14 (by decide) (by decide) (by decide)) ha13_5517
          refine hr_bald C T5521 ha13_5521 (by omega) (by omega) dX1_draw_96 ?_
          rw [r13 K hK20]
          refine lv_bipush (v := (-2)) hx hb dX1_draw_97 rfl ?_
          refine lv_icmp_eq (tgt := 110) hx hb dX1_draw_99 (by decide) (fun c4 => ?_) (fun c4 => ?_)
          · refine lv_aload_n hx hb dX1_draw_110 rfl (lv_at hl5516 1 rfl) ?_
            refine lv_iload_n hx hb dX1_draw_111 rfl (lv_at hl5516 0 rfl) ?_
            rw [show nI K = nI (K + 1) - 1 from (nIm1 (Nat.succ_pos K)).symm]
            refine hr_put C T5521 ho0_5521 rfl in_X1 tyX1 tyX1_ok nmX1 21 (by decide) q316 rfl rfl rfl rfl (Nat.le_of_ble_eq_true rfl) dX1_draw_112 (fun h5524 H5524 locs5524 eh5524 T5524 => ?_)
            have ho0_5524 : h5524 (L 0) = some (.inr (0, [.ref (L 1), .int (nI (N 0)), .ref (L 3), .int (nI (N 1)), .int (nI (N 2)), .int (nI (N 3)), .int (nI (N 4)), .int (nI (N 5)), .int (nI (N 6)), .int (nI (N 7)), .int (nI (N 8)), .ref (L 12), .ref (L 13), .ref (L 14), .ref (L 15), .ref (L 16), .ref (L 17), .int (nI (N 11)), .int (nI ((N 15) + 1)), .int (nI (N 16)), .int (nI (N 17)), .int (nI (K + 1) - 1), .int (nI (N 19)), .ref (L 24), .int (nI pp), .ref (L 26), .ref (L 27), .ref (if N 13 = 1 then L 27 else L 26), .ref (L 29), .ref (L 30), .ref (if N 12 = 1 then L 30 else L 29), .ref (L 32), .ref (B 0), .ref (B 1), .ref (B 2), .ref (B 3), .ref (L 37), .ref (L 38), .ref (L 39), .ref (B 4), .ref (B 5)]), L 0) := hu_s eh5524
            have hF_5524 : Fr (CO L B) h h5524 := hu_f eh5524 hF_5521 ho0_5521 (Or.inl rfl)
            refine lv_aload_n hx hb dX1_draw_115 rfl (lv_at hl5516 1 rfl) ?_
            refine lv_iconst (v := nI 2) hx hb dX1_draw_116 rfl ?_
            refine hr_put C T5524 ho0_5524 rfl in_X1 tyX1 tyX1_ok nmX1 17 (by decide) q312 rfl rfl rfl rfl (Nat.le_of_ble_eq_true rfl) dX1_draw_117 (fun h5525 H5525 locs5525 eh5525 T5525 => ?_)
            have ho0_5525 : h5525 (L 0) = some (.inr (0, [.ref (L 1), .int (nI (N 0)), .ref (L 3), .int (nI (N 1)), .int (nI (N 2)), .int (nI (N 3)), .int (nI (N 4)), .int (nI (N 5)), .int (nI (N 6)), .int (nI (N 7)), .int (nI (N 8)), .ref (L 12), .ref (L 13), .ref (L 14), .ref (L 15), .ref (L 16), .ref (L 17), .int (nI 2), .int (nI ((N 15) + 1)), .int (nI (N 16)), .int (nI (N 17)), .int (nI (K + 1) - 1), .int (nI (N 19)), .ref (L 24), .int (nI pp), .ref (L 26), .ref (L 27), .ref (if N 13 = 1 then L 27 else L 26), .ref (L 29), .ref (L 30), .ref (if N 12 = 1 then L 30 else L 29), .ref (L 32), .ref (B 0), .ref (B 1), .ref (B 2), .ref (B 3), .ref (L 37), .ref (L 38), .ref (L 39), .ref (B 4), .ref (B 5)]), L 0) := hu_s eh5525
            have hF_5525 : Fr (CO L B) h h5525 := hu_f eh5525 hF_5524 ho0_5524 (Or.inl rfl)
            refine lv_iload_n hx hb dX1_draw_120 rfl (lv_at hl5516 0 rfl) ?_
            have ha1_5515 : h5515 (L 1) = some (.inl (E.2.1 0, 8, .inl (f 1)), L 0) := (ho5515 _ (hLay.1 1 26 (by decide) (by decide) (by decide)) (hLay.1 1 60 (by decide) (by decide) (by decide))).trans ha1
            have ha1_5517 : h5517 (L 1) = some (.inl (E.2.1 0, 8, .inl (f 1)), L 0) := hu_n eh5517 (hLay.1 1 0 (by decide) (by decide) (by decide)) ha1_5515
            have ha1_5521 : h5521 (L 1) = some (.inl (E.2.1 0, 8, .inl (f 1)), L 0) := hu_n eh5521 (hLay.1 1 14 (by decide) (by decide) (by decide)) ha1_5517
            have ha1_5524 : h5524 (L 1) = some (.inl (E.2.1 0, 8, .inl (f 1)), L 0) := hu_n eh5524 (hLay.1 1 0 (by decide) (by decide) (by decide)) ha1_5521
            have ha1_5525 : h5525 (L 1) = some (.inl (E.2.1 0, 8, .inl (f 1)), L 0) := hu_n eh5525 (hLay.1 1 0 (by decide) (by decide) (by decide)) ha1_5524
            have ha3_5515 : h5515 (L 3) = some (.inl (E.2.1 0, 64, .inl (f 3)), L 0) := (ho5515 _ (hLay.1 3 26 (by decide) (by decide) (by decide)) (hLay.1 3 60 (by decide) (by decide) (by decide))).trans ha3
            have ha3_5517 : h5517 (L 3) = some (.inl (E.2.1 0, 64, .inl (f 3)), L 0) := hu_n eh5517 (hLay.1 3 0 (by decide) (by decide) (by decide)) ha3_5515
            have ha3_5521 : h5521 (L 3) = some (.inl (E.2.1 0, 64, .inl (f 3)), L 0) := hu_n eh5521 (hLay.1 3 14 (by decide) (by decide) (by decide)) ha3_5517
            have ha3_5524 : h5524 (L 3) = some (.inl (E.2.1 0, 64, .inl (f 3)), L 0) := hu_n eh5524 (hLay.1 3 0 (by decide) (by decide) (by decide)) ha3_5521
            have ha3_5525 : h5525 (L 3) = some (.inl (E.2.1 0, 64, .inl (f 3)), L 0) := hu_n eh5525 (hLay.1 3 0 (by decide) (by decide) (by decide)) ha3_5524
            have ha12_5515 : h5515 (L 12) = some (.inl (E.2.1 1, 20000, .inl (f 12)), L 0) := (ho5515 _ (hLay.1 12 26 (by decide) (by decide) (by decide)) (hLay.1 12 60 (by decide) (by decide) (by decide))).trans ha12
            have ha12_5517 : h5517 (L 12) = some (.inl (E.2.1 1, 20000, .inl (f 12)), L 0) := hu_n eh5517 (hLay.1 12 0 (by decide) (by decide) (by decide)) ha12_5515
            have ha12_5521 : h5521 (L 12) = some (.inl (E.2.1 1, 20000, .inl (f 12)), L 0) := hu_n eh5521 (hLay.1 12 14 (by decide) (by decide) (by decide)) ha12_5517
            have ha12_5524 : h5524 (L 12) = some (.inl (E.2.1 1, 20000, .inl (f 12)), L 0) := hu_n eh5524 (hLay.1 12 0 (by decide) (by decide) (by decide)) ha12_5521
            have ha12_5525 : h5525 (L 12) = some (.inl (E.2.1 1, 20000, .inl (f 12)), L 0) := hu_n eh5525 (hLay.1 12 0 (by decide) (by decide) (by decide)) ha12_5524
            have ha13_5524 : h5524 (L 13) = some (.inl (E.2.1 1, 20000, .inl (f 13)), L 0) := hu_n eh5524 (hLay.1 13 0 (by decide) (by decide) (by decide)) ha13_5521
            have ha13_5525 : h5525 (L 13) = some (.inl (E.2.1 1, 20000, .inl (f 13)), L 0) := hu_n eh5525 (hLay.1 13 0 (by decide) (by decide) (by decide)) ha13_5524
            have ha14_5524 : h5524 (L 14) = some (.inl (E.2.1 2, 20000, .inl (upd (f 14) K (nI (M 3 K + 1)))), L 0) := hu_n eh5524 (hLay.1 14 0 (by decide) (by decide) (by decide)) ha14_5521
            have ha14_5525 : h5525 (L 14) = some (.inl (E.2.1 2, 20000, .inl (upd (f 14) K (nI (M 3 K + 1)))), L 0) := hu_n eh5525 (hLay.1 14 0 (by decide) (by decide) (by decide)) ha14_5524
            have ha15_5515 : h5515 (L 15) = some (.inl (E.2.1 3, 8, .inl (f 15)), L 0) := (ho5515 _ (hLay.1 15 26 (by decide) (by decide) (by decide)) (hLay.1 15 60 (by decide) (by decide) (by decide))).trans ha15
            have ha15_5517 : h5517 (L 15) = some (.inl (E.2.1 3, 8, .inl (f 15)), L 0) := hu_n eh5517 (hLay.1 15 0 (by decide) (by decide) (by decide)) ha15_5515
            have ha15_5521 : h5521 (L 15) = some (.inl (E.2.1 3, 8, .inl (f 15)), L 0) := hu_n eh5521 (hLay.1 15 14 (by decide) (by decide) (by decide)) ha15_5517
            have ha15_5524 : h5524 (L 15) = some (.inl (E.2.1 3, 8, .inl (f 15)), L 0) := hu_n eh5524 (hLay.1 15 0 (by decide) (by decide) (by decide)) ha15_5521
            have ha15_5525 : h5525 (L 15) = some (.inl (E.2.1 3, 8, .inl (f 15)), L 0) := hu_n eh5525 (hLay.1 15 0 (by decide) (by decide) (by decide)) ha15_5524
            have ha16_5515 : h5515 (L 16) = some (.inl (E.2.1 0, 8, .inl (f 16)), L 0) := (ho5515 _ (hLay.1 16 26 (by decide) (by decide) (by decide)) (hLay.1 16 60 (by decide) (by decide) (by decide))).trans ha16
            have ha16_5517 : h5517 (L 16) = some (.inl (E.2.1 0, 8, .inl (f 16)), L 0) := hu_n eh5517 (hLay.1 16 0 (by decide) (by decide) (by decide)) ha16_5515
            have ha16_5521 : h5521 (L 16) = some (.inl (E.2.1 0, 8, .inl (f 16)), L 0) := hu_n eh5521 (hLay.1 16 14 (by decide) (by decide) (by decide)) ha16_5517
            have ha16_5524 : h5524 (L 16) = some (.inl (E.2.1 0, 8, .inl (f 16)), L 0) := hu_n eh5524 (hLay.1 16 0 (by decide) (by decide) (by decide)) ha16_5521
            have ha16_5525 : h5525 (L 16) = some (.inl (E.2.1 0, 8, .inl (f 16)), L 0) := hu_n eh5525 (hLay.1 16 0 (by decide) (by decide) (by decide)) ha16_5524
            have ha17_5515 : h5515 (L 17) = some (.inl (E.2.1 0, 8, .inl (f 17)), L 0) := (ho5515 _ (hLay.1 17 26 (by decide) (by decide) (by decide)) (hLay.1 17 60 (by decide) (by decide) (by decide))).trans ha17
            have ha17_5517 : h5517 (L 17) = some (.inl (E.2.1 0, 8, .inl (f 17)), L 0) := hu_n eh5517 (hLay.1 17 0 (by decide) (by decide) (by decide)) ha17_5515
            have ha17_5521 : h5521 (L 17) = some (.inl (E.2.1 0, 8, .inl (f 17)), L 0) := hu_n eh5521 (hLay.1 17 14 (by decide) (by decide) (by decide)) ha17_5517
            have ha17_5524 : h5524 (L 17) = some (.inl (E.2.1 0, 8, .inl (f 17)), L 0) := hu_n eh5524 (hLay.1 17 0 (by decide) (by decide) (by decide)) ha17_5521
            have ha17_5525 : h5525 (L 17) = some (.inl (E.2.1 0, 8, .inl (f 17)), L 0) := hu_n eh5525 (hLay.1 17 0 (by decide) (by decide) (by decide)) ha17_5524
            have ha39_5515 : h5515 (L 39) = some (.inl (E.2.1 3, 961, .inl (f 39)), L 0) := (ho5515 _ (hLay.1 39 26 (by decide) (by decide) (by decide)) (hLay.1 39 60 (by decide) (by decide) (by decide))).trans ha39
            have ha39_5517 : h5517 (L 39) = some (.inl (E.2.1 3, 961, .inl (f 39)), L 0) := hu_n eh5517 (hLay.1 39 0 (by decide) (by decide) (by decide)) ha39_5515
            have ha39_5521 : h5521 (L 39) = some (.inl (E.2.1 3, 961, .inl (f 39)), L 0) := hu_n eh5521 (hLay.1 39 14 (by decide) (by decide) (by decide)) ha39_5517
            have ha39_5524 : h5524 (L 39) = some (.inl (E.2.1 3, 961, .inl (f 39)), L 0) := hu_n eh5524 (hLay.1 39 0 (by decide) (by decide) (by decide)) ha39_5521
            have ha39_5525 : h5525 (L 39) = some (.inl (E.2.1 3, 961, .inl (f 39)), L 0) := hu_n eh5525 (hLay.1 39 0 (by decide) (by decide) (by decide)) ha39_5524
            have hSt_5515 : Stt E L B h5515 := Stt.kept (O := (· = L 26)) hF5515 (hLay.1 30 26 (by decide) (by decide) (by decide)) hSt
            have hSt_5517 : Stt E L B h5517 := Stt.kept (O := (· = L 0)) (hu_f eh5517 Fr.rf ho0_5515 rfl) (hLay.1 30 0 (by decide) (by decide) (by decide)) hSt_5515
            have hSt_5521 : Stt E L B h5521 := Stt.kept (O := (· = L 0)) (hu_f eh5521 Fr.rf ha14_5517 rfl) (hLay.1 30 0 (by decide) (by decide) (by decide)) hSt_5517
            have hSt_5524 : Stt E L B h5524 := Stt.kept (O := (· = L 0)) (hu_f eh5524 Fr.rf ho0_5521 rfl) (hLay.1 30 0 (by decide) (by decide) (by decide)) hSt_5521
            have hSt_5525 : Stt E L B h5525 := Stt.kept (O := (· = L 0)) (hu_f eh5525 Fr.rf ho0_5524 rfl) (hLay.1 30 0 (by decide) (by decide) (by decide)) hSt_5524
            have hPr_5515 : Prs L B pw pl ps h5515 := Prs.kept (O := (· = L 26)) hF5515 (hLay.1 24 26 (by decide) (by decide) (by decide)) hPr
            have hPr_5517 : Prs L B pw pl ps h5517 := Prs.kept (O := (· = L 0)) (hu_f eh5517 Fr.rf ho0_5515 rfl) (hLay.1 24 0 (by decide) (by decide) (by decide)) hPr_5515
            have hPr_5521 : Prs L B pw pl ps h5521 := Prs.kept (O := (· = L 0)) (hu_f eh5521 Fr.rf ha14_5517 rfl) (hLay.1 24 0 (by decide) (by decide) (by decide)) hPr_5517
            have hPr_5524 : Prs L B pw pl ps h5524 := Prs.kept (O := (· = L 0)) (hu_f eh5524 Fr.rf ho0_5521 rfl) (hLay.1 24 0 (by decide) (by decide) (by decide)) hPr_5521
            have hPr_5525 : Prs L B pw pl ps h5525 := Prs.kept (O := (· = L 0)) (hu_f eh5525 Fr.rf ho0_5524 rfl) (hLay.1 24 0 (by decide) (by decide) (by decide)) hPr_5524
            have hC5515_5517 : Cns h5517 E L (nI1 (fun i => M 8 (i + mny (N 2)))) (N 10 - mny (N 2)) := Cns.kept (O := (· = L 0)) (hu_f eh5517 Fr.rf ho0_5515 rfl) (hLay.1 26 0 (by decide) (by decide) (by decide)) hC5515
            have hC5515_5521 : Cns h5521 E L (nI1 (fun i => M 8 (i + mny (N 2)))) (N 10 - mny (N 2)) := Cns.kept (O := (· = L 0)) (hu_f eh5521 Fr.rf ha14_5517 rfl) (hLay.1 26 0 (by decide) (by decide) (by decide)) hC5515_5517
            have hC5515_5524 : Cns h5524 E L (nI1 (fun i => M 8 (i + mny (N 2)))) (N 10 - mny (N 2)) := Cns.kept (O := (· = L 0)) (hu_f eh5524 Fr.rf ho0_5521 rfl) (hLay.1 26 0 (by decide) (by decide) (by decide)) hC5515_5521
            have hC5515_5525 : Cns h5525 E L (nI1 (fun i => M 8 (i + mny (N 2)))) (N 10 - mny (N 2)) := Cns.kept (O := (· = L 0)) (hu_f eh5525 Fr.rf ho0_5524 rfl) (hLay.1 26 0 (by decide) (by decide) (by decide)) hC5515_5524
            have hSd_5515 : Sds h5515 E L (nI1 (M 6)) (N 9) := Sds.kept (O := (· = L 26)) hF5515 (hLay.1 27 26 (by decide) (by decide) (by decide)) hSd
            have hSd_5517 : Sds h5517 E L (nI1 (M 6)) (N 9) := Sds.kept (O := (· = L 0)) (hu_f eh5517 Fr.rf ho0_5515 rfl) (hLay.1 27 0 (by decide) (by decide) (by decide)) hSd_5515
            have hSd_5521 : Sds h5521 E L (nI1 (M 6)) (N 9) := Sds.kept (O := (· = L 0)) (hu_f eh5521 Fr.rf ha14_5517 rfl) (hLay.1 27 0 (by decide) (by decide) (by decide)) hSd_5517
            have hSd_5524 : Sds h5524 E L (nI1 (M 6)) (N 9) := Sds.kept (O := (· = L 0)) (hu_f eh5524 Fr.rf ho0_5521 rfl) (hLay.1 27 0 (by decide) (by decide) (by decide)) hSd_5521
            have hSd_5525 : Sds h5525 E L (nI1 (M 6)) (N 9) := Sds.kept (O := (· = L 0)) (hu_f eh5525 Fr.rf ho0_5524 rfl) (hLay.1 27 0 (by decide) (by decide) (by decide)) hSd_5524
            have hDg_5515 : Dgo h5515 E L rs := Dgo.kept (O := (· = L 26)) hF5515 (hLay.1 62 26 (by decide) (by decide) (by decide)) hDg
            have hDg_5517 : Dgo h5517 E L rs := Dgo.kept (O := (· = L 0)) (hu_f eh5517 Fr.rf ho0_5515 rfl) (hLay.1 62 0 (by decide) (by decide) (by decide)) hDg_5515
            have hDg_5521 : Dgo h5521 E L rs := Dgo.kept (O := (· = L 0)) (hu_f eh5521 Fr.rf ha14_5517 rfl) (hLay.1 62 0 (by decide) (by decide) (by decide)) hDg_5517
            have hDg_5524 : Dgo h5524 E L rs := Dgo.kept (O := (· = L 0)) (hu_f eh5524 Fr.rf ho0_5521 rfl) (hLay.1 62 0 (by decide) (by decide) (by decide)) hDg_5521
            have hDg_5525 : Dgo h5525 E L rs := Dgo.kept (O := (· = L 0)) (hu_f eh5525 Fr.rf ho0_5524 rfl) (hLay.1 62 0 (by decide) (by decide) (by decide)) hDg_5524
            have hB_5515 : Bgs E h5515 B V cp := Bgs.kept (O := (· = L 26)) hF5515 (fun i hi => hLay.2 i 26 hi (by decide)) hB
            have hB_5517 : Bgs E h5517 B V cp := Bgs.kept (O := (· = L 0)) (hu_f eh5517 Fr.rf ho0_5515 rfl) (fun i hi => hLay.2 i 0 hi (by decide)) hB_5515
            have hB_5521 : Bgs E h5521 B V cp := Bgs.kept (O := (· = L 0)) (hu_f eh5521 Fr.rf ha14_5517 rfl) (fun i hi => hLay.2 i 0 hi (by decide)) hB_5517
            have hB_5524 : Bgs E h5524 B V cp := Bgs.kept (O := (· = L 0)) (hu_f eh5524 Fr.rf ho0_5521 rfl) (fun i hi => hLay.2 i 0 hi (by decide)) hB_5521
            have hB_5525 : Bgs E h5525 B V cp := Bgs.kept (O := (· = L 0)) (hu_f eh5525 Fr.rf ho0_5524 rfl) (fun i hi => hLay.2 i 0 hi (by decide)) hB_5524
            exact Z _ _ _ _ _ _ _ _ dX1_draw_121 (by have hgw := (Gw.rf (cp := cp)); have hg1 := hgw.1; have hg2 := hgw.2; have hkm := hB_5525.kmax; show 0 ≤ (KX - ksum cp NB) / 8 + 8; omega) (by have hgw := (Gw.rf (cp := cp)); have hg1 := hgw.1; have hg2 := hgw.2; have hkm := hB_5525.kmax; show 0 ≤ 2 * (KX - ksum cp NB) + 2048; omega) ⟨hcd, by unfold drV; rw [if_neg hno, if_neg hk9, ← hK], cp, by unfold drS dbM; rw [if_neg hno, if_neg hk9, ← hK, if_pos c4, eqN, eqM]; exact ⟨pp, gu f 14 (upd (f 14) K (nI (M 3 K + 1))), rs, pw, pl, ps, V, ⟨ho0_5525, ha1_5525, ha3_5525, ha12_5525, ha13_5525, ha14_5525, ha15_5525, ha16_5525, ha17_5525, ha39_5525⟩, ⟨r1, r3, r12, r13, fun i hi => by show upd (f 14) K (nI (M 3 K + 1)) i = nI (nu (M 3) K (M 3 K + 1) i); by_cases z : i = K; (rw [z, pk_us, nu_s]); (rw [pk_un z, nu_n z]; exact r14 i hi), fun _ => r15 h11, r16, r17, fun _ => rpp, rp16⟩, Vr_st hVr h11, hSt_5525, hPr_5525, hC5515_5525, hSd_5525, hDg_5525, hB_5525⟩, hF_5525, Gw.rf (cp := cp)⟩ T5525
          · refine lv_aload_n hx hb dX1_draw_102 rfl (lv_at hl5516 1 rfl) ?_
            refine lv_iload_n hx hb dX1_draw_103 rfl (lv_at hl5516 0 rfl) ?_
            have ha1_5515 : h5515 (L 1) = some (.inl (E.2.1 0, 8, .inl (f 1)), L 0) := (ho5515 _ (hLay.1 1 26 (by decide) (by decide) (by decide)) (hLay.1 1 60 (by decide) (by decide) (by decide))).trans ha1
            have ha1_5517 : h5517 (L 1) = some (.inl (E.2.1 0, 8, .inl (f 1)), L 0) := hu_n eh5517 (hLay.1 1 0 (by decide) (by decide) (by decide)) ha1_5515
            have ha1_5521 : h5521 (L 1) = some (.inl (E.2.1 0, 8, .inl (f 1)), L 0) := hu_n eh5521 (hLay.1 1 14 (by decide) (by decide) (by decide)) ha1_5517
            have ha3_5515 : h5515 (L 3) = some (.inl (E.2.1 0, 64, .inl (f 3)), L 0) := (ho5515 _ (hLay.1 3 26 (by decide) (by decide) (by decide)) (hLay.1 3 60 (by decide) (by decide) (by decide))).trans ha3
            have ha3_5517 : h5517 (L 3) = some (.inl (E.2.1 0, 64, .inl (f 3)), L 0) := hu_n eh5517 (hLay.1 3 0 (by decide) (by decide) (by decide)) ha3_5515
            have ha3_5521 : h5521 (L 3) = some (.inl (E.2.1 0, 64, .inl (f 3)), L 0) := hu_n eh5521 (hLay.1 3 14 (by decide) (by decide) (by decide)) ha3_5517
            have ha12_5515 : h5515 (L 12) = some (.inl (E.2.1 1, 20000, .inl (f 12)), L 0) := (ho5515 _ (hLay.1 12 26 (by decide) (by decide) (by decide)) (hLay.1 12 60 (by decide) (by decide) (by decide))).trans ha12
            have ha12_5517 : h5517 (L 12) = some (.inl (E.2.1 1, 20000, .inl (f 12)), L 0) := hu_n eh5517 (hLay.1 12 0 (by decide) (by decide) (by decide)) ha12_5515
            have ha12_5521 : h5521 (L 12) = some (.inl (E.2.1 1, 20000, .inl (f 12)), L 0) := hu_n eh5521 (hLay.1 12 14 (by decide) (by decide) (by decide)) ha12_5517
            have ha15_5515 : h5515 (L 15) = some (.inl (E.2.1 3, 8, .inl (f 15)), L 0) := (ho5515 _ (hLay.1 15 26 (by decide) (by decide) (by decide)) (hLay.1 15 60 (by decide) (by decide) (by decide))).trans ha15
            have ha15_5517 : h5517 (L 15) = some (.inl (E.2.1 3, 8, .inl (f 15)), L 0) := hu_n eh5517 (hLay.1 15 0 (by decide) (by decide) (by decide)) ha15_5515
            have ha15_5521 : h5521 (L 15) = some (.inl (E.2.1 3, 8, .inl (f 15)), L 0) := hu_n eh5521 (hLay.1 15 14 (by decide) (by decide) (by decide)) ha15_5517
            have ha16_5515 : h5515 (L 16) = some (.inl (E.2.1 0, 8, .inl (f 16)), L 0) := (ho5515 _ (hLay.1 16 26 (by decide) (by decide) (by decide)) (hLay.1 16 60 (by decide) (by decide) (by decide))).trans ha16
            have ha16_5517 : h5517 (L 16) = some (.inl (E.2.1 0, 8, .inl (f 16)), L 0) := hu_n eh5517 (hLay.1 16 0 (by decide) (by decide) (by decide)) ha16_5515
            have ha16_5521 : h5521 (L 16) = some (.inl (E.2.1 0, 8, .inl (f 16)), L 0) := hu_n eh5521 (hLay.1 16 14 (by decide) (by decide) (by decide)) ha16_5517
            have ha17_5515 : h5515 (L 17) = some (.inl (E.2.1 0, 8, .inl (f 17)), L 0) := (ho5515 _ (hLay.1 17 26 (by decide) (by decide) (by decide)) (hLay.1 17 60 (by decide) (by decide) (by decide))).trans ha17
            have ha17_5517 : h5517 (L 17) = some (.inl (E.2.1 0, 8, .inl (f 17)), L 0) := hu_n eh5517 (hLay.1 17 0 (by decide) (by decide) (by decide)) ha17_5515
            have ha17_5521 : h5521 (L 17) = some (.inl (E.2.1 0, 8, .inl (f 17)), L 0) := hu_n eh5521 (hLay.1 17 14 (by decide) (by decide) (by decide)) ha17_5517
            have ha39_5515 : h5515 (L 39) = some (.inl (E.2.1 3, 961, .inl (f 39)), L 0) := (ho5515 _ (hLay.1 39 26 (by decide) (by decide) (by decide)) (hLay.1 39 60 (by decide) (by decide) (by decide))).trans ha39
            have ha39_5517 : h5517 (L 39) = some (.inl (E.2.1 3, 961, .inl (f 39)), L 0) := hu_n eh5517 (hLay.1 39 0 (by decide) (by decide) (by decide)) ha39_5515
            have ha39_5521 : h5521 (L 39) = some (.inl (E.2.1 3, 961, .inl (f 39)), L 0) := hu_n eh5521 (hLay.1 39 14 (by decide) (by decide) (by decide)) ha39_5517
            have hSt_5515 : Stt E L B h5515 := Stt.kept (O := (· = L 26)) hF5515 (hLay.1 30 26 (by decide) (by decide) (by decide)) hSt
            have hSt_5517 : Stt E L B h5517 := Stt.kept (O := (· = L 0)) (hu_f eh5517 Fr.rf ho0_5515 rfl) (hLay.1 30 0 (by decide) (by decide) (by decide)) hSt_5515
            have hSt_5521 : Stt E L B h5521 := Stt.kept (O := (· = L 0)) (hu_f eh5521 Fr.rf ha14_5517 rfl) (hLay.1 30 0 (by decide) (by decide) (by decide)) hSt_5517
            have hPr_5515 : Prs L B pw pl ps h5515 := Prs.kept (O := (· = L 26)) hF5515 (hLay.1 24 26 (by decide) (by decide) (by decide)) hPr
            have hPr_5517 : Prs L B pw pl ps h5517 := Prs.kept (O := (· = L 0)) (hu_f eh5517 Fr.rf ho0_5515 rfl) (hLay.1 24 0 (by decide) (by decide) (by decide)) hPr_5515
            have hPr_5521 : Prs L B pw pl ps h5521 := Prs.kept (O := (· = L 0)) (hu_f eh5521 Fr.rf ha14_5517 rfl) (hLay.1 24 0 (by decide) (by decide) (by decide)) hPr_5517
            have hC5515_5517 : Cns h5517 E L (nI1 (fun i => M 8 (i + mny (N 2)))) (N 10 - mny (N 2)) := Cns.kept (O := (· = L 0)) (hu_f eh5517 Fr.rf ho0_5515 rfl) (hLay.1 26 0 (by decide) (by decide) (by decide)) hC5515
            have hC5515_5521 : Cns h5521 E L (nI1 (fun i => M 8 (i + mny (N 2)))) (N 10 - mny (N 2)) := Cns.kept (O := (· = L 0)) (hu_f eh5521 Fr.rf ha14_5517 rfl) (hLay.1 26 0 (by decide) (by decide) (by decide)) hC5515_5517
            have hSd_5515 : Sds h5515 E L (nI1 (M 6)) (N 9) := Sds.kept (O := (· = L 26)) hF5515 (hLay.1 27 26 (by decide) (by decide) (by decide)) hSd
            have hSd_5517 : Sds h5517 E L (nI1 (M 6)) (N 9) := Sds.kept (O := (· = L 0)) (hu_f eh5517 Fr.rf ho0_5515 rfl) (hLay.1 27 0 (by decide) (by decide) (by decide)) hSd_5515
            have hSd_5521 : Sds h5521 E L (nI1 (M 6)) (N 9) := Sds.kept (O := (· = L 0)) (hu_f eh5521 Fr.rf ha14_5517 rfl) (hLay.1 27 0 (by decide) (by decide) (by decide)) hSd_5517
            have hDg_5515 : Dgo h5515 E L rs := Dgo.kept (O := (· = L 26)) hF5515 (hLay.1 62 26 (by decide) (by decide) (by decide)) hDg
            have hDg_5517 : Dgo h5517 E L rs := Dgo.kept (O := (· = L 0)) (hu_f eh5517 Fr.rf ho0_5515 rfl) (hLay.1 62 0 (by decide) (by decide) (by decide)) hDg_5515
            have hDg_5521 : Dgo h5521 E L rs := Dgo.kept (O := (· = L 0)) (hu_f eh5521 Fr.rf ha14_5517 rfl) (hLay.1 62 0 (by decide) (by decide) (by decide)) hDg_5517
            have hB_5515 : Bgs E h5515 B V cp := Bgs.kept (O := (· = L 26)) hF5515 (fun i hi => hLay.2 i 26 hi (by decide)) hB
            have hB_5517 : Bgs E h5517 B V cp := Bgs.kept (O := (· = L 0)) (hu_f eh5517 Fr.rf ho0_5515 rfl) (fun i hi => hLay.2 i 0 hi (by decide)) hB_5515
            have hB_5521 : Bgs E h5521 B V cp := Bgs.kept (O := (· = L 0)) (hu_f eh5521 Fr.rf ha14_5517 rfl) (fun i hi => hLay.2 i 0 hi (by decide)) hB_5517
            have hCq : Cp E h5521 L B cp (nu (nu N 10 (N 10 - mny (N 2))) 15 (N 15 + 1)) (mu (mu M 8 (fun i => M 8 (i + mny (N 2)))) 3 (nu (M 3) K (M 3 K + 1))) G := ⟨pp, gu f 14 (upd (f 14) K (nI (M 3 K + 1))), rs, pw, pl, ps, V, ⟨ho0_5521, ha1_5521, ha3_5521, ha12_5521, ha13_5521, ha14_5521, ha15_5521, ha16_5521, ha17_5521, ha39_5521⟩, ⟨r1, r3, r12, r13, fun i hi => by show upd (f 14) K (nI (M 3 K + 1)) i = nI (nu (M 3) K (M 3 K + 1) i); by_cases z : i = K; (rw [z, pk_us, nu_s]); (rw [pk_un z, nu_n z]; exact r14 i hi), fun _ => r15 h11, r16, r17, fun _ => rpp, rp16⟩, Vr_same hVr, hSt_5521, hPr_5521, hC5515_5521, hSd_5521, hDg_5521, hB_5521⟩
            have hLI5522 : LI (nu (nu N 10 (N 10 - mny (N 2))) 15 (N 15 + 1)) (mu (mu M 8 (fun i => M 8 (i + mny (N 2)))) 3 (nu (M 3) K (M 3 K + 1))) (G) := (LI_of hI0 h11 (fun i h1 h2 => by repeat rw [nu_n (by omega)]) (show N 15 + 1 ≤ 64 by omega) rfl rfl rfl rfl rfl rfl rfl)
            refine hg_V C T5521 hl5516.1 ho0_5521 rfl (m_X1_look hLay hLI5522 hCq ⟨Or.inr ⟨K, hK20, rfl, rfl, rfl⟩, isn K⟩) q740 q742 qs7 q53 q743 kd_X1_look rfl rfl ⟨Nat.le_of_ble_eq_true rfl, Nat.le_of_ble_eq_true rfl⟩ (Nat.le_of_ble_eq_true rfl) dX1_draw_104 ⟨by have hgw := (Gw.rf (cp := cp)); have hg1 := hgw.1; have hg2 := hgw.2; have hkm := hB_5521.kmax; show 0 + ((KX - ksum cp NB) / 8 + 8) ≤ (KX - ksum cp NB) / 8 + 8; omega, by have hgw := (Gw.rf (cp := cp)); have hg1 := hgw.1; have hg2 := hgw.2; have hkm := hB_5521.kmax; show 0 + (2 * (KX - ksum cp NB) + 2048) ≤ 2 * (KX - ksum cp NB) + 2048; omega⟩ (fun rv h5523 dc5523 ds5523 H5523 locs5523 hp5523 T5523 => ?_)
            obtain ⟨rfl, c5523, hC5523, hF5523, hw5523⟩ := hp5523
            have hW5523 := (Gw.rf (cp := cp)).tr hw5523
            have hF_5523 : Fr (CO L B) h h5523 := hF_5521.tr (hF5523.mono (fun _ z => z))
            refine W.eq (g2 := F0 m 107 ls5516 []) rfl ?_
            refine lv_goto (tgt := 120) hx hb dX1_draw_107 (by decide) ?_
            refine lv_iload_n hx hb dX1_draw_120 rfl (lv_at hl5516 0 rfl) ?_
            exact Z _ _ _ _ _ _ _ _ dX1_draw_121 (by have hg1 := (hW5523).1; have hg2 := (hW5523).2; have hkm := hC5523.kmax; show 0 + dc5523 ≤ (KX - ksum cp NB) / 8 + 8; omega) (by have hg1 := (hW5523).1; have hg2 := (hW5523).2; have hkm := hC5523.kmax; show 0 + ds5523 ≤ 2 * (KX - ksum cp NB) + 2048; omega) ⟨hcd, by unfold drV; rw [if_neg hno, if_neg hk9, ← hK], _, by unfold drS dbM; rw [if_neg hno, if_neg hk9, ← hK, if_neg c4, eqN, eqM]; exact hC5523, hF_5523, hW5523⟩ T5523
        · have hk9 : N 2 ≤ drK N M := by omega
          refine lv_aload_n hx hb dX1_draw_61 rfl (lv_at hl5516 1 rfl) ?_
          refine lv_dup hx hb dX1_draw_62 rfl ?_
          refine hr_get C T5517 ho0_5517 rfl in_X1 20 (by decide) q315 rfl rfl dX1_draw_63 ?_
          refine lv_iconst (v := nI 1) hx hb dX1_draw_66 rfl ?_
          refine hn_iadd hx hb dX1_draw_67 ?_
          refine hr_put C T5517 ho0_5517 rfl in_X1 tyX1 tyX1_ok nmX1 20 (by decide) q315 rfl rfl rfl rfl (Nat.le_of_ble_eq_true rfl) dX1_draw_68 (fun h5518 H5518 locs5518 eh5518 T5518 => ?_)
          have ho0_5518 : h5518 (L 0) = some (.inr (0, [.ref (L 1), .int (nI (N 0)), .ref (L 3), .int (nI (N 1)), .int (nI (N 2)), .int (nI (N 3)), .int (nI (N 4)), .int (nI (N 5)), .int (nI (N 6)), .int (nI (N 7)), .int (nI (N 8)), .ref (L 12), .ref (L 13), .ref (L 14), .ref (L 15), .ref (L 16), .ref (L 17), .int (nI (N 11)), .int (nI ((N 15) + 1)), .int (nI (N 16)), .int (nI ((N 17) + 1)), .int (nI (N 18) - 1), .int (nI (N 19)), .ref (L 24), .int (nI pp), .ref (L 26), .ref (L 27), .ref (if N 13 = 1 then L 27 else L 26), .ref (L 29), .ref (L 30), .ref (if N 12 = 1 then L 30 else L 29), .ref (L 32), .ref (B 0), .ref (B 1), .ref (B 2), .ref (B 3), .ref (L 37), .ref (L 38), .ref (L 39), .ref (B 4), .ref (B 5)]), L 0) := hu_s eh5518
          have hF_5518 : Fr (CO L B) h h5518 := hu_f eh5518 hF_5517 ho0_5517 (Or.inl rfl)
          refine lv_aload_n hx hb dX1_draw_71 rfl (lv_at hl5516 1 rfl) ?_
          refine lv_bipush (v := (-2)) hx hb dX1_draw_72 rfl ?_
          have ha1_5515 : h5515 (L 1) = some (.inl (E.2.1 0, 8, .inl (f 1)), L 0) := (ho5515 _ (hLay.1 1 26 (by decide) (by decide) (by decide)) (hLay.1 1 60 (by decide) (by decide) (by decide))).trans ha1
          have ha1_5517 : h5517 (L 1) = some (.inl (E.2.1 0, 8, .inl (f 1)), L 0) := hu_n eh5517 (hLay.1 1 0 (by decide) (by decide) (by decide)) ha1_5515
          have ha1_5518 : h5518 (L 1) = some (.inl (E.2.1 0, 8, .inl (f 1)), L 0) := hu_n eh5518 (hLay.1 1 0 (by decide) (by decide) (by decide)) ha1_5517
          have ha3_5515 : h5515 (L 3) = some (.inl (E.2.1 0, 64, .inl (f 3)), L 0) := (ho5515 _ (hLay.1 3 26 (by decide) (by decide) (by decide)) (hLay.1 3 60 (by decide) (by decide) (by decide))).trans ha3
          have ha3_5517 : h5517 (L 3) = some (.inl (E.2.1 0, 64, .inl (f 3)), L 0) := hu_n eh5517 (hLay.1 3 0 (by decide) (by decide) (by decide)) ha3_5515
          have ha3_5518 : h5518 (L 3) = some (.inl (E.2.1 0, 64, .inl (f 3)), L 0) := hu_n eh5518 (hLay.1 3 0 (by decide) (by decide) (by decide)) ha3_5517
          have ha12_5515 : h5515 (L 12) = some (.inl (E.2.1 1, 20000, .inl (f 12)), L 0) := (ho5515 _ (hLay.1 12 26 (by decide) (by decide) (by decide)) (hLay.1 12 60 (by decide) (by decide) (by decide))).trans ha12
          have ha12_5517 : h5517 (L 12) = some (.inl (E.2.1 1, 20000, .inl (f 12)), L 0) := hu_n eh5517 (hLay.1 12 0 (by decide) (by decide) (by decide)) ha12_5515
          have ha12_5518 : h5518 (L 12) = some (.inl (E.2.1 1, 20000, .inl (f 12)), L 0) := hu_n eh5518 (hLay.1 12 0 (by decide) (by decide) (by decide)) ha12_5517
          have ha13_5515 : h5515 (L 13) = some (.inl (E.2.1 1, 20000, .inl (f 13)), L 0) := (ho5515 _ (hLay.1 13 26 (by decide) (by decide) (by decide)) (hLay.1 13 60 (by decide) (by decide) (by decide))).trans ha13
          have ha13_5517 : h5517 (L 13) = some (.inl (E.2.1 1, 20000, .inl (f 13)), L 0) := hu_n eh5517 (hLay.1 13 0 (by decide) (by decide) (by decide)) ha13_5515
          have ha13_5518 : h5518 (L 13) = some (.inl (E.2.1 1, 20000, .inl (f 13)), L 0) := hu_n eh5518 (hLay.1 13 0 (by decide) (by decide) (by decide)) ha13_5517
          have ha14_5515 : h5515 (L 14) = some (.inl (E.2.1 2, 20000, .inl (f 14)), L 0) := (ho5515 _ (hLay.1 14 26 (by decide) (by decide) (by decide)) (hLay.1 14 60 (by decide) (by decide) (by decide))).trans ha14
          have ha14_5517 : h5517 (L 14) = some (.inl (E.2.1 2, 20000, .inl (f 14)), L 0) := hu_n eh5517 (hLay.1 14 0 (by decide) (by decide) (by decide)) ha14_5515
          have ha14_5518 : h5518 (L 14) = some (.inl (E.2.1 2, 20000, .inl (f 14)), L 0) := hu_n eh5518 (hLay.1 14 0 (by decide) (by decide) (by decide)) ha14_5517
          have ha15_5515 : h5515 (L 15) = some (.inl (E.2.1 3, 8, .inl (f 15)), L 0) := (ho5515 _ (hLay.1 15 26 (by decide) (by decide) (by decide)) (hLay.1 15 60 (by decide) (by decide) (by decide))).trans ha15
          have ha15_5517 : h5517 (L 15) = some (.inl (E.2.1 3, 8, .inl (f 15)), L 0) := hu_n eh5517 (hLay.1 15 0 (by decide) (by decide) (by decide)) ha15_5515
          have ha15_5518 : h5518 (L 15) = some (.inl (E.2.1 3, 8, .inl (f 15)), L 0) := hu_n eh5518 (hLay.1 15 0 (by decide) (by decide) (by decide)) ha15_5517
          have ha16_5515 : h5515 (L 16) = some (.inl (E.2.1 0, 8, .inl (f 16)), L 0) := (ho5515 _ (hLay.1 16 26 (by decide) (by decide) (by decide)) (hLay.1 16 60 (by decide) (by decide) (by decide))).trans ha16
          have ha16_5517 : h5517 (L 16) = some (.inl (E.2.1 0, 8, .inl (f 16)), L 0) := hu_n eh5517 (hLay.1 16 0 (by decide) (by decide) (by decide)) ha16_5515
          have ha16_5518 : h5518 (L 16) = some (.inl (E.2.1 0, 8, .inl (f 16)), L 0) := hu_n eh5518 (hLay.1 16 0 (by decide) (by decide) (by decide)) ha16_5517
          have ha17_5515 : h5515 (L 17) = some (.inl (E.2.1 0, 8, .inl (f 17)), L 0) := (ho5515 _ (hLay.1 17 26 (by decide) (by decide) (by decide)) (hLay.1 17 60 (by decide) (by decide) (by decide))).trans ha17
          have ha17_5517 : h5517 (L 17) = some (.inl (E.2.1 0, 8, .inl (f 17)), L 0) := hu_n eh5517 (hLay.1 17 0 (by decide) (by decide) (by decide)) ha17_5515
          have ha17_5518 : h5518 (L 17) = some (.inl (E.2.1 0, 8, .inl (f 17)), L 0) := hu_n eh5518 (hLay.1 17 0 (by decide) (by decide) (by decide)) ha17_5517
          have ha39_5515 : h5515 (L 39) = some (.inl (E.2.1 3, 961, .inl (f 39)), L 0) := (ho5515 _ (hLay.1 39 26 (by decide) (by decide) (by decide)) (hLay.1 39 60 (by decide) (by decide) (by decide))).trans ha39
          have ha39_5517 : h5517 (L 39) = some (.inl (E.2.1 3, 961, .inl (f 39)), L 0) := hu_n eh5517 (hLay.1 39 0 (by decide) (by decide) (by decide)) ha39_5515
          have ha39_5518 : h5518 (L 39) = some (.inl (E.2.1 3, 961, .inl (f 39)), L 0) := hu_n eh5518 (hLay.1 39 0 (by decide) (by decide) (by decide)) ha39_5517
          have hSt_5515 : Stt E L B h5515 := Stt.kept (O := (· = L 26)) hF5515 (hLay.1 30 26 (by decide) (by decide) (by decide)) hSt
          have hSt_5517 : Stt E L B h5517 := Stt.kept (O := (· = L 0)) (hu_f eh5517 Fr.rf ho0_5515 rfl) (hLay.1 30 0 (by decide) (by decide) (by decide)) hSt_5515
          have hSt_5518 : Stt E L B h5518 := Stt.kept (O := (· = L 0)) (hu_f eh5518 Fr.rf ho0_5517 rfl) (hLay.1 30 0 (by decide) (by decide) (by decide)) hSt_5517
          have hPr_5515 : Prs L B pw pl ps h5515 := Prs.kept (O := (· = L 26)) hF5515 (hLay.1 24 26 (by decide) (by decide) (by decide)) hPr
          have hPr_5517 : Prs L B pw pl ps h5517 := Prs.kept (O := (· = L 0)) (hu_f eh5517 Fr.rf ho0_5515 rfl) (hLay.1 24 0 (by decide) (by decide) (by decide)) hPr_5515
          have hPr_5518 : Prs L B pw pl ps h5518 := Prs.kept (O := (· = L 0)) (hu_f eh5518 Fr.rf ho0_5517 rfl) (hLay.1 24 0 (by decide) (by decide) (by decide)) hPr_5517
          have hC5515_5517 : Cns h5517 E L (nI1 (fun i => M 8 (i + mny (N 2)))) (N 10 - mny (N 2)) := Cns.kept (O := (· = L 0)) (hu_f eh5517 Fr.rf ho0_5515 rfl) (hLay.1 26 0 (by decide) (by decide) (by decide)) hC5515
          have hC5515_5518 : Cns h5518 E L (nI1 (fun i => M 8 (i + mny (N 2)))) (N 10 - mny (N 2)) := Cns.kept (O := (· = L 0)) (hu_f eh5518 Fr.rf ho0_5517 rfl) (hLay.1 26 0 (by decide) (by decide) (by decide)) hC5515_5517
          have hSd_5515 : Sds h5515 E L (nI1 (M 6)) (N 9) := Sds.kept (O := (· = L 26)) hF5515 (hLay.1 27 26 (by decide) (by decide) (by decide)) hSd
          have hSd_5517 : Sds h5517 E L (nI1 (M 6)) (N 9) := Sds.kept (O := (· = L 0)) (hu_f eh5517 Fr.rf ho0_5515 rfl) (hLay.1 27 0 (by decide) (by decide) (by decide)) hSd_5515
          have hSd_5518 : Sds h5518 E L (nI1 (M 6)) (N 9) := Sds.kept (O := (· = L 0)) (hu_f eh5518 Fr.rf ho0_5517 rfl) (hLay.1 27 0 (by decide) (by decide) (by decide)) hSd_5517
          have hDg_5515 : Dgo h5515 E L rs := Dgo.kept (O := (· = L 26)) hF5515 (hLay.1 62 26 (by decide) (by decide) (by decide)) hDg
          have hDg_5517 : Dgo h5517 E L rs := Dgo.kept (O := (· = L 0)) (hu_f eh5517 Fr.rf ho0_5515 rfl) (hLay.1 62 0 (by decide) (by decide) (by decide)) hDg_5515
          have hDg_5518 : Dgo h5518 E L rs := Dgo.kept (O := (· = L 0)) (hu_f eh5518 Fr.rf ho0_5517 rfl) (hLay.1 62 0 (by decide) (by decide) (by decide)) hDg_5517
          have hB_5515 : Bgs E h5515 B V cp := Bgs.kept (O := (· = L 26)) hF5515 (fun i hi => hLay.2 i 26 hi (by decide)) hB
          have hB_5517 : Bgs E h5517 B V cp := Bgs.kept (O := (· = L 0)) (hu_f eh5517 Fr.rf ho0_5515 rfl) (fun i hi => hLay.2 i 0 hi (by decide)) hB_5515
          have hB_5518 : Bgs E h5518 B V cp := Bgs.kept (O := (· = L 0)) (hu_f eh5518 Fr.rf ho0_5517 rfl) (fun i hi => hLay.2 i 0 hi (by decide)) hB_5517
          have hCq : Cp E h5518 L B cp (nu (nu (nu N 10 (N 10 - mny (N 2))) 15 (N 15 + 1)) 17 (N 17 + 1)) (mu M 8 (fun i => M 8 (i + mny (N 2)))) G := ⟨pp, f, rs, pw, pl, ps, V, ⟨ho0_5518, ha1_5518, ha3_5518, ha12_5518, ha13_5518, ha14_5518, ha15_5518, ha16_5518, ha17_5518, ha39_5518⟩, ⟨r1, r3, r12, r13, r14, fun _ => r15 h11, r16, r17, fun _ => rpp, rp16⟩, Vr_same hVr, hSt_5518, hPr_5518, hC5515_5518, hSd_5518, hDg_5518, hB_5518⟩
          have hLI5519 : LI (nu (nu (nu N 10 (N 10 - mny (N 2))) 15 (N 15 + 1)) 17 (N 17 + 1)) (mu M 8 (fun i => M 8 (i + mny (N 2)))) (G) := (LI_of hI0 h11 (fun i h1 h2 => by repeat rw [nu_n (by omega)]) (show N 15 + 1 ≤ 64 by omega) rfl rfl rfl rfl rfl rfl rfl)
          refine hg_V C T5518 hl5516.1 ho0_5518 rfl (m_X1_look hLay hLI5519 hCq ⟨Or.inl ⟨rfl, rfl, rfl⟩, Or.inl rfl⟩) q740 q742 qs7 q53 q743 kd_X1_look rfl rfl ⟨Nat.le_of_ble_eq_true rfl, Nat.le_of_ble_eq_true rfl⟩ (Nat.le_of_ble_eq_true rfl) dX1_draw_74 ⟨by have hgw := (Gw.rf (cp := cp)); have hg1 := hgw.1; have hg2 := hgw.2; have hkm := hB_5518.kmax; show 0 + ((KX - ksum cp NB) / 8 + 8) ≤ (KX - ksum cp NB) / 8 + 8; omega, by have hgw := (Gw.rf (cp := cp)); have hg1 := hgw.1; have hg2 := hgw.2; have hkm := hB_5518.kmax; show 0 + (2 * (KX - ksum cp NB) + 2048) ≤ 2 * (KX - ksum cp NB) + 2048; omega⟩ (fun rv h5520 dc5520 ds5520 H5520 locs5520 hp5520 T5520 => ?_)
          obtain ⟨rfl, c5520, hC5520, hF5520, hw5520⟩ := hp5520
          have hW5520 := (Gw.rf (cp := cp)).tr hw5520
          have hF_5520 : Fr (CO L B) h h5520 := hF_5518.tr (hF5520.mono (fun _ z => z))
          refine W.eq (g2 := F0 m 77 ls5516 []) rfl ?_
          refine lv_bipush (v := (-2)) hx hb dX1_draw_77 rfl ?_
          exact Z _ _ _ _ _ _ _ _ dX1_draw_79 (by have hg1 := (hW5520).1; have hg2 := (hW5520).2; have hkm := hC5520.kmax; show 0 + dc5520 ≤ (KX - ksum cp NB) / 8 + 8; omega) (by have hg1 := (hW5520).1; have hg2 := (hW5520).2; have hkm := hC5520.kmax; show 0 + ds5520 ≤ 2 * (KX - ksum cp NB) + 2048; omega) ⟨hcd, by unfold drV; rw [if_neg hno, if_pos hk9], _, by unfold drS dbN; rw [if_neg hno, if_pos hk9, eqN, eqM]; exact hC5520, hF_5520, hW5520⟩ T5520

set_option maxHeartbeats 4000000 in
theorem m_X1_see {E : GE} {l : Launch} {h : HH} (hfl : l.flags = flags0) {L B cp N : Nat → Nat} {M : Nat → Nat → Nat} {G : Nat → Nat → Int32} (hLay : Lay L B) (hI : Inv N M G) (hC : Cp E h L B cp N M G) {x : Int32} : MX E l yX1_see cX1_see 2 (some .int) ({ frames := 8, cells := (KX - ksum cp NB) / 8 + 8, slots := 2 * (KX - ksum cp NB) + 2048, locals := 1200 } : Room) [.ref (L 0), .int x] h (fun rv h2 dc ds => cd_see N x = 0 ∧ rv = some (.int (nI ((seS N M G x).1 11))) ∧ ∃ c2, Cp E h2 L B c2 (nu (seS N M G x).1 18 0) (seS N M G x).2.1 (seS N M G x).2.2 ∧ Fr (CO L B) h h2 ∧ Gw cp c2 dc ds) (fun C h' dc ds => h' = h ∧ dc = 1 ∧ ds = 6 ∧ TC C (cd_see N x) [xIOB, xISE]) := by
  refine hx_i (by decide) (Nat.le_of_ble_eq_true rfl) ?_
  intro p e s m below meth c C hno Q Z Y ls T hl
  have hx := C.x
  have hb := C.b
  have hl : lv_has ls 2 [(0, .ref (L 0)), (1, .int x)] := hl
  have hC0 := hC
  have hI0 := hI
  obtain ⟨i0, i1, i2, i3, i4, i5, i7, i9, i10, i11, i15, iv, isz, isum, ital, itm, idg, icn, irec, isn, iout, ict, iwt, iwt2, iz, inz, iup, ish⟩ := hI
  obtain ⟨pp, f, rs, pw, pl, ps, V, ⟨ho0, ha1, ha3, ha12, ha13, ha14, ha15, ha16, ha17, ha39⟩, ⟨r1, r3, r12, r13, r14, r15, r16, r17, rp, rp16⟩, hVr, hSt, hPr, hCn, hSd, hDg, hB⟩ := hC
  have hF : Fr (CO L B) h h := Fr.rf
  refine lv_iload_n hx hb dX1_see_0 rfl (lv_at hl 1 rfl) ?_
  refine lv_iconst (v := (-1)) hx hb dX1_see_1 rfl ?_
  refine zi_icmp_eq (tgt := 13) (X := (x).toInt) (Y := (-1)) hx hb dX1_see_2 (by decide) rfl rfl (fun c1 => ?_) (fun c1 => ?_)
  · refine lv_iconst (v := nI 1) hx hb dX1_see_13 rfl ?_
    refine lv_goto (tgt := 18) hx hb dX1_see_14 (by decide) ?_
    have hxc : x.toInt = -1 ∨ (0 ≤ x.toInt ∧ x.toInt < N 0) := by omega
    refine hp_S C T hl.1 (p_X1_inside) q593 q594 q53 q595 kd_X1_inside rfl rfl ⟨Nat.le_of_ble_eq_true rfl, Nat.le_of_ble_eq_true rfl⟩ (Nat.le_of_ble_eq_true rfl) dX1_see_18 ⟨by show 0 + 0 ≤ (KX - ksum cp NB) / 8 + 8; omega, by show 0 + 0 ≤ 2 * (KX - ksum cp NB) + 2048; omega⟩ (fun rv H5528 hp5528 T5528 => ?_)
    obtain rfl := hp5528
    refine W.eq (g2 := F0 m 21 ls []) rfl ?_
    refine lv_aload_n hx hb dX1_see_21 rfl (lv_at hl 0 rfl) ?_
    refine hr_get C T5528 ho0 rfl in_X1 17 (by decide) q312 rfl rfl dX1_see_22 ?_
    refine lv_iconst (v := nI 2) hx hb dX1_see_25 rfl ?_
    refine hn_icmp_ne (tgt := 33) hx hb dX1_see_26 (by decide) (by omega) (by omega) (fun c3 => ?_) (fun c3 => ?_)
    · refine lv_iconst (v := nI 0) hx hb dX1_see_33 rfl ?_
      have hcd : cd_see N x = 2 := by unfold cd_see; (repeat' split) <;> omega
      exact Y _ _ _ _ _ _ ((thr_S C T5528 hl.1 (t_X1_now hfl) q517 q518 q53 q519 kd_X1_now rfl rfl ⟨Nat.le_of_ble_eq_true rfl, Nat.le_of_ble_eq_true rfl⟩ (Nat.le_of_ble_eq_true rfl) dX1_see_34 ⟨by show 0 + 1 ≤ (KX - ksum cp NB) / 8 + 8; omega, by show 0 + 6 ≤ 2 * (KX - ksum cp NB) + 2048; omega⟩).on C T5528 hno ⟨by show 0 + 1 ≤ (KX - ksum cp NB) / 8 + 8; omega, by show 0 + 6 ≤ 2 * (KX - ksum cp NB) + 2048; omega⟩ (fun h2 dc ds hp => by obtain ⟨rfl, rfl, rfl⟩ := hp; exact ⟨rfl, rfl, rfl, by rw [hcd]; exact ⟨by decide, rfl⟩⟩))
    · refine lv_iconst (v := nI 1) hx hb dX1_see_29 rfl ?_
      refine lv_goto (tgt := 34) hx hb dX1_see_30 (by decide) ?_
      refine hp_S C T5528 hl.1 (p_X1_now) q517 q518 q53 q519 kd_X1_now rfl rfl ⟨Nat.le_of_ble_eq_true rfl, Nat.le_of_ble_eq_true rfl⟩ (Nat.le_of_ble_eq_true rfl) dX1_see_34 ⟨by show 0 + 0 ≤ (KX - ksum cp NB) / 8 + 8; omega, by show 0 + 0 ≤ 2 * (KX - ksum cp NB) + 2048; omega⟩ (fun rv H5529 hp5529 T5529 => ?_)
      obtain rfl := hp5529
      refine W.eq (g2 := F0 m 37 ls []) rfl ?_
      have hcd : cd_see N x = 0 := by unfold cd_see; rw [if_neg (by omega), if_neg (by omega)]
      have h11 : N 11 ≠ 0 := by omega
      have hin := inz h11
      have rpp := rp h11
      obtain ⟨hw0, hw1⟩ := iwt2 (by omega)
      have hbz : x.toInt8.toInt32 = x := byte_id (by omega)
      have hws : nI (N 18) - 1 = nI (N 18 - 1) := nIm1 (by omega)
      refine lv_aload_n hx hb dX1_see_37 rfl (lv_at hl 0 rfl) ?_
      refine hr_get C T5529 ho0 rfl in_X1 12 (by decide) q307 rfl rfl dX1_see_38 ?_
      refine lv_aload_n hx hb dX1_see_41 rfl (lv_at hl 0 rfl) ?_
      refine hr_get C T5529 ho0 rfl in_X1 21 (by decide) q316 rfl rfl dX1_see_42 ?_
      rw [hws]
      refine lv_iload_n hx hb dX1_see_45 rfl (lv_at hl 1 rfl) ?_
      refine lv_i2b (v := x) hx hb dX1_see_46 hbz ?_
      refine hr_bast C T5529 ha13 (by omega) (by omega) (show vp_nar .byte x = x by rw [vp_nar_byte, hbz]) dX1_see_47 (fun h5530 H5530 locs5530 eh5530 T5530 => ?_)
      have ha13_5530 : h5530 (L 13) = some (.inl (E.2.1 1, 20000, .inl (upd (f 13) (N 18 - 1) x)), L 0) := hu_s eh5530
      have hF_5530 : Fr (CO L B) h h5530 := hu_f eh5530 hF ha13 (Or.inl rfl)
      refine lv_aload_n hx hb dX1_see_48 rfl (lv_at hl 0 rfl) ?_
      refine lv_dup hx hb dX1_see_49 rfl ?_
      have ho0_5530 : h5530 (L 0) = some (.inr (0, [.ref (L 1), .int (nI (N 0)), .ref (L 3), .int (nI (N 1)), .int (nI (N 2)), .int (nI (N 3)), .int (nI (N 4)), .int (nI (N 5)), .int (nI (N 6)), .int (nI (N 7)), .int (nI (N 8)), .ref (L 12), .ref (L 13), .ref (L 14), .ref (L 15), .ref (L 16), .ref (L 17), .int (nI (N 11)), .int (nI (N 15)), .int (nI (N 16)), .int (nI (N 17)), .int (nI (N 18) - 1), .int (nI (N 19)), .ref (L 24), .int (nI pp), .ref (L 26), .ref (L 27), .ref (if N 13 = 1 then L 27 else L 26), .ref (L 29), .ref (L 30), .ref (if N 12 = 1 then L 30 else L 29), .ref (L 32), .ref (B 0), .ref (B 1), .ref (B 2), .ref (B 3), .ref (L 37), .ref (L 38), .ref (L 39), .ref (B 4), .ref (B 5)]), L 0) := hu_n eh5530 (hLay.1 0 13 (by decide) (by decide) (by decide)) ho0
      refine hr_get C T5530 ho0_5530 rfl in_X1 19 (by decide) q314 rfl rfl dX1_see_50 ?_
      refine lv_iconst (v := nI 1) hx hb dX1_see_53 rfl ?_
      refine hn_iadd hx hb dX1_see_54 ?_
      refine hr_put C T5530 ho0_5530 rfl in_X1 tyX1 tyX1_ok nmX1 19 (by decide) q314 rfl rfl rfl rfl (Nat.le_of_ble_eq_true rfl) dX1_see_55 (fun h5531 H5531 locs5531 eh5531 T5531 => ?_)
      have ho0_5531 : h5531 (L 0) = some (.inr (0, [.ref (L 1), .int (nI (N 0)), .ref (L 3), .int (nI (N 1)), .int (nI (N 2)), .int (nI (N 3)), .int (nI (N 4)), .int (nI (N 5)), .int (nI (N 6)), .int (nI (N 7)), .int (nI (N 8)), .ref (L 12), .ref (L 13), .ref (L 14), .ref (L 15), .ref (L 16), .ref (L 17), .int (nI (N 11)), .int (nI (N 15)), .int (nI ((N 16) + 1)), .int (nI (N 17)), .int (nI (N 18) - 1), .int (nI (N 19)), .ref (L 24), .int (nI pp), .ref (L 26), .ref (L 27), .ref (if N 13 = 1 then L 27 else L 26), .ref (L 29), .ref (L 30), .ref (if N 12 = 1 then L 30 else L 29), .ref (L 32), .ref (B 0), .ref (B 1), .ref (B 2), .ref (B 3), .ref (L 37), .ref (L 38), .ref (L 39), .ref (B 4), .ref (B 5)]), L 0) := hu_s eh5531
      have hF_5531 : Fr (CO L B) h h5531 := hu_f eh5531 hF_5530 ho0_5530 (Or.inl rfl)
      refine lv_aload_n hx hb dX1_see_58 rfl (lv_at hl 0 rfl) ?_
      refine lv_aload_n hx hb dX1_see_59 rfl (lv_at hl 0 rfl) ?_
      refine hr_get C T5531 ho0_5531 rfl in_X1 21 (by decide) q316 rfl rfl dX1_see_60 ?_
      rw [hws]
      have ha1_5530 : h5530 (L 1) = some (.inl (E.2.1 0, 8, .inl (f 1)), L 0) := hu_n eh5530 (hLay.1 1 13 (by decide) (by decide) (by decide)) ha1
      have ha1_5531 : h5531 (L 1) = some (.inl (E.2.1 0, 8, .inl (f 1)), L 0) := hu_n eh5531 (hLay.1 1 0 (by decide) (by decide) (by decide)) ha1_5530
      have ha3_5530 : h5530 (L 3) = some (.inl (E.2.1 0, 64, .inl (f 3)), L 0) := hu_n eh5530 (hLay.1 3 13 (by decide) (by decide) (by decide)) ha3
      have ha3_5531 : h5531 (L 3) = some (.inl (E.2.1 0, 64, .inl (f 3)), L 0) := hu_n eh5531 (hLay.1 3 0 (by decide) (by decide) (by decide)) ha3_5530
      have ha12_5530 : h5530 (L 12) = some (.inl (E.2.1 1, 20000, .inl (f 12)), L 0) := hu_n eh5530 (hLay.1 12 13 (by decide) (by decide) (by decide)) ha12
      have ha12_5531 : h5531 (L 12) = some (.inl (E.2.1 1, 20000, .inl (f 12)), L 0) := hu_n eh5531 (hLay.1 12 0 (by decide) (by decide) (by decide)) ha12_5530
      have ha13_5531 : h5531 (L 13) = some (.inl (E.2.1 1, 20000, .inl (upd (f 13) (N 18 - 1) x)), L 0) := hu_n eh5531 (hLay.1 13 0 (by decide) (by decide) (by decide)) ha13_5530
      have ha14_5530 : h5530 (L 14) = some (.inl (E.2.1 2, 20000, .inl (f 14)), L 0) := hu_n eh5530 (hLay.1 14 13 (by decide) (by decide) (by decide)) ha14
      have ha14_5531 : h5531 (L 14) = some (.inl (E.2.1 2, 20000, .inl (f 14)), L 0) := hu_n eh5531 (hLay.1 14 0 (by decide) (by decide) (by decide)) ha14_5530
      have ha15_5530 : h5530 (L 15) = some (.inl (E.2.1 3, 8, .inl (f 15)), L 0) := hu_n eh5530 (hLay.1 15 13 (by decide) (by decide) (by decide)) ha15
      have ha15_5531 : h5531 (L 15) = some (.inl (E.2.1 3, 8, .inl (f 15)), L 0) := hu_n eh5531 (hLay.1 15 0 (by decide) (by decide) (by decide)) ha15_5530
      have ha16_5530 : h5530 (L 16) = some (.inl (E.2.1 0, 8, .inl (f 16)), L 0) := hu_n eh5530 (hLay.1 16 13 (by decide) (by decide) (by decide)) ha16
      have ha16_5531 : h5531 (L 16) = some (.inl (E.2.1 0, 8, .inl (f 16)), L 0) := hu_n eh5531 (hLay.1 16 0 (by decide) (by decide) (by decide)) ha16_5530
      have ha17_5530 : h5530 (L 17) = some (.inl (E.2.1 0, 8, .inl (f 17)), L 0) := hu_n eh5530 (hLay.1 17 13 (by decide) (by decide) (by decide)) ha17
      have ha17_5531 : h5531 (L 17) = some (.inl (E.2.1 0, 8, .inl (f 17)), L 0) := hu_n eh5531 (hLay.1 17 0 (by decide) (by decide) (by decide)) ha17_5530
      have ha39_5530 : h5530 (L 39) = some (.inl (E.2.1 3, 961, .inl (f 39)), L 0) := hu_n eh5530 (hLay.1 39 13 (by decide) (by decide) (by decide)) ha39
      have ha39_5531 : h5531 (L 39) = some (.inl (E.2.1 3, 961, .inl (f 39)), L 0) := hu_n eh5531 (hLay.1 39 0 (by decide) (by decide) (by decide)) ha39_5530
      have hSt_5530 : Stt E L B h5530 := Stt.kept (O := (· = L 0)) (hu_f eh5530 Fr.rf ha13 rfl) (hLay.1 30 0 (by decide) (by decide) (by decide)) hSt
      have hSt_5531 : Stt E L B h5531 := Stt.kept (O := (· = L 0)) (hu_f eh5531 Fr.rf ho0_5530 rfl) (hLay.1 30 0 (by decide) (by decide) (by decide)) hSt_5530
      have hPr_5530 : Prs L B pw pl ps h5530 := Prs.kept (O := (· = L 0)) (hu_f eh5530 Fr.rf ha13 rfl) (hLay.1 24 0 (by decide) (by decide) (by decide)) hPr
      have hPr_5531 : Prs L B pw pl ps h5531 := Prs.kept (O := (· = L 0)) (hu_f eh5531 Fr.rf ho0_5530 rfl) (hLay.1 24 0 (by decide) (by decide) (by decide)) hPr_5530
      have hCn_5530 : Cns h5530 E L (nI1 (M 8)) (N 10) := Cns.kept (O := (· = L 0)) (hu_f eh5530 Fr.rf ha13 rfl) (hLay.1 26 0 (by decide) (by decide) (by decide)) hCn
      have hCn_5531 : Cns h5531 E L (nI1 (M 8)) (N 10) := Cns.kept (O := (· = L 0)) (hu_f eh5531 Fr.rf ho0_5530 rfl) (hLay.1 26 0 (by decide) (by decide) (by decide)) hCn_5530
      have hSd_5530 : Sds h5530 E L (nI1 (M 6)) (N 9) := Sds.kept (O := (· = L 0)) (hu_f eh5530 Fr.rf ha13 rfl) (hLay.1 27 0 (by decide) (by decide) (by decide)) hSd
      have hSd_5531 : Sds h5531 E L (nI1 (M 6)) (N 9) := Sds.kept (O := (· = L 0)) (hu_f eh5531 Fr.rf ho0_5530 rfl) (hLay.1 27 0 (by decide) (by decide) (by decide)) hSd_5530
      have hDg_5530 : Dgo h5530 E L rs := Dgo.kept (O := (· = L 0)) (hu_f eh5530 Fr.rf ha13 rfl) (hLay.1 62 0 (by decide) (by decide) (by decide)) hDg
      have hDg_5531 : Dgo h5531 E L rs := Dgo.kept (O := (· = L 0)) (hu_f eh5531 Fr.rf ho0_5530 rfl) (hLay.1 62 0 (by decide) (by decide) (by decide)) hDg_5530
      have hB_5530 : Bgs E h5530 B V cp := Bgs.kept (O := (· = L 0)) (hu_f eh5530 Fr.rf ha13 rfl) (fun i hi => hLay.2 i 0 hi (by decide)) hB
      have hB_5531 : Bgs E h5531 B V cp := Bgs.kept (O := (· = L 0)) (hu_f eh5531 Fr.rf ho0_5530 rfl) (fun i hi => hLay.2 i 0 hi (by decide)) hB_5530
      have hCq : Cp E h5531 L B cp (nu N 16 (N 16 + 1)) M (gu G 1 (upd (G 1) (N 18 - 1) x)) := ⟨pp, gu f 13 (upd (f 13) (N 18 - 1) x), rs, pw, pl, ps, V, ⟨ho0_5531, ha1_5531, ha3_5531, ha12_5531, ha13_5531, ha14_5531, ha15_5531, ha16_5531, ha17_5531, ha39_5531⟩, ⟨r1, r3, r12, fun i hi => by show upd (f 13) (N 18 - 1) x i = upd (G 1) (N 18 - 1) x i; by_cases z : i = N 18 - 1; (rw [z, pk_us, pk_us]); (rw [pk_un z, pk_un z]; exact r13 i hi), r14, fun _ => r15 h11, r16, r17, fun _ => rpp, rp16⟩, Vr_same hVr, hSt_5531, hPr_5531, hCn_5531, hSd_5531, hDg_5531, hB_5531⟩
      have hxv : x = -2 ∨ x = -1 ∨ ∃ a, a < N 0 ∧ x = nI a := by rcases hxc with z | z; exact Or.inr (Or.inl (im1.mp z)); (obtain ⟨v, hv, e⟩ := nat_of z.1; refine Or.inr (Or.inr ⟨v, ?_, e⟩); have := nI_toInt hv; rw [e, this] at z; omega)
      have hLI5532 : LI (nu N 16 (N 16 + 1)) (M) (gu G 1 (upd (G 1) (N 18 - 1) x)) := (LI_of hI0 h11 (fun i h1 h2 => by show nu _ _ _ i = _; rw [nu_n (by omega)]) (show N 15 ≤ 64 by omega) rfl rfl rfl rfl rfl rfl rfl)
      refine hg_V C T5531 hl.1 ho0_5531 rfl (m_X1_look hLay hLI5532 hCq ⟨Or.inr ⟨N 18 - 1, by omega, rfl, (pk_us (f := G 1)).symm, rfl⟩, hxv⟩) q740 q742 qs7 q53 q743 kd_X1_look rfl rfl ⟨Nat.le_of_ble_eq_true rfl, Nat.le_of_ble_eq_true rfl⟩ (Nat.le_of_ble_eq_true rfl) dX1_see_63 ⟨by have hgw := (Gw.rf (cp := cp)); have hg1 := hgw.1; have hg2 := hgw.2; have hkm := hB_5531.kmax; show 0 + ((KX - ksum cp NB) / 8 + 8) ≤ (KX - ksum cp NB) / 8 + 8; omega, by have hgw := (Gw.rf (cp := cp)); have hg1 := hgw.1; have hg2 := hgw.2; have hkm := hB_5531.kmax; show 0 + (2 * (KX - ksum cp NB) + 2048) ≤ 2 * (KX - ksum cp NB) + 2048; omega⟩ (fun rv h5533 dc5533 ds5533 H5533 locs5533 hp5533 T5533 => ?_)
      obtain ⟨rfl, c5533, hC5533, hF5533, hw5533⟩ := hp5533
      have hW5533 := (Gw.rf (cp := cp)).tr hw5533
      have hF_5533 : Fr (CO L B) h h5533 := hF_5531.tr (hF5533.mono (fun _ z => z))
      refine W.eq (g2 := F0 m 66 ls []) rfl ?_
      obtain ⟨N2, hN2⟩ : ∃ N2, N2 = lkN (nu N 16 (N 16 + 1)) M ((gu G 1 (upd (G 1) (N 18 - 1) x)) 2) ((gu G 1 (upd (G 1) (N 18 - 1) x)) 0 (N 18 - 1)) x := ⟨_, rfl⟩
      rw [← hN2] at hC5533
      have hC9 := hC5533
      obtain ⟨pp2, f2, rs2, pw2, pl2, ps2, V2, ⟨ho0b, hb1, hb3, hb12, hb13, hb14, hb15, hb16, hb17, hb39⟩, q1, q2, q3, q4, q5, q6, q7, q8⟩ := hC5533
      refine lv_aload_n hx hb dX1_see_66 rfl (lv_at hl 0 rfl) ?_
      refine lv_iconst (v := (-1)) hx hb dX1_see_67 rfl ?_
      rw [show (-1) = nI 0 - 1 from (by decide)]
      refine hr_put C T5533 ho0b rfl in_X1 tyX1 tyX1_ok nmX1 21 (by decide) q316 rfl rfl rfl rfl (Nat.le_of_ble_eq_true rfl) dX1_see_68 (fun h5534 H5534 locs5534 eh5534 T5534 => ?_)
      have ho0b_5534 : h5534 (L 0) = some (.inr (0, [.ref (L 1), .int (nI (N2 0)), .ref (L 3), .int (nI (N2 1)), .int (nI (N2 2)), .int (nI (N2 3)), .int (nI (N2 4)), .int (nI (N2 5)), .int (nI (N2 6)), .int (nI (N2 7)), .int (nI (N2 8)), .ref (L 12), .ref (L 13), .ref (L 14), .ref (L 15), .ref (L 16), .ref (L 17), .int (nI (N2 11)), .int (nI (N2 15)), .int (nI (N2 16)), .int (nI (N2 17)), .int (nI 0 - 1), .int (nI (N2 19)), .ref (L 24), .int (nI pp2), .ref (L 26), .ref (L 27), .ref (if N2 13 = 1 then L 27 else L 26), .ref (L 29), .ref (L 30), .ref (if N2 12 = 1 then L 30 else L 29), .ref (L 32), .ref (B 0), .ref (B 1), .ref (B 2), .ref (B 3), .ref (L 37), .ref (L 38), .ref (L 39), .ref (B 4), .ref (B 5)]), L 0) := hu_s eh5534
      have hF_5534 : Fr (CO L B) h h5534 := hu_f eh5534 hF_5533 ho0b (Or.inl rfl)
      refine lv_aload_n hx hb dX1_see_71 rfl (lv_at hl 0 rfl) ?_
      refine hr_get C T5534 ho0b_5534 rfl in_X1 17 (by decide) q312 rfl rfl dX1_see_72 ?_
      have hst9 : N2 11 = (seS N M G x).1 11 := by rw [hN2]; rfl
      have hN3 : nu N2 18 0 = nu (seS N M G x).1 18 0 := by rw [hN2]; rfl
      have hb1_5534 : h5534 (L 1) = some (.inl (E.2.1 0, 8, .inl (f2 1)), L 0) := hu_n eh5534 (hLay.1 1 0 (by decide) (by decide) (by decide)) hb1
      have hb3_5534 : h5534 (L 3) = some (.inl (E.2.1 0, 64, .inl (f2 3)), L 0) := hu_n eh5534 (hLay.1 3 0 (by decide) (by decide) (by decide)) hb3
      have hb12_5534 : h5534 (L 12) = some (.inl (E.2.1 1, 20000, .inl (f2 12)), L 0) := hu_n eh5534 (hLay.1 12 0 (by decide) (by decide) (by decide)) hb12
      have hb13_5534 : h5534 (L 13) = some (.inl (E.2.1 1, 20000, .inl (f2 13)), L 0) := hu_n eh5534 (hLay.1 13 0 (by decide) (by decide) (by decide)) hb13
      have hb14_5534 : h5534 (L 14) = some (.inl (E.2.1 2, 20000, .inl (f2 14)), L 0) := hu_n eh5534 (hLay.1 14 0 (by decide) (by decide) (by decide)) hb14
      have hb15_5534 : h5534 (L 15) = some (.inl (E.2.1 3, 8, .inl (f2 15)), L 0) := hu_n eh5534 (hLay.1 15 0 (by decide) (by decide) (by decide)) hb15
      have hb16_5534 : h5534 (L 16) = some (.inl (E.2.1 0, 8, .inl (f2 16)), L 0) := hu_n eh5534 (hLay.1 16 0 (by decide) (by decide) (by decide)) hb16
      have hb17_5534 : h5534 (L 17) = some (.inl (E.2.1 0, 8, .inl (f2 17)), L 0) := hu_n eh5534 (hLay.1 17 0 (by decide) (by decide) (by decide)) hb17
      have hb39_5534 : h5534 (L 39) = some (.inl (E.2.1 3, 961, .inl (f2 39)), L 0) := hu_n eh5534 (hLay.1 39 0 (by decide) (by decide) (by decide)) hb39
      have q3_5534 : Stt E L B h5534 := Stt.kept (O := (· = L 0)) (hu_f eh5534 Fr.rf ho0b rfl) (hLay.1 30 0 (by decide) (by decide) (by decide)) q3
      have q4_5534 : Prs L B pw2 pl2 ps2 h5534 := Prs.kept (O := (· = L 0)) (hu_f eh5534 Fr.rf ho0b rfl) (hLay.1 24 0 (by decide) (by decide) (by decide)) q4
      have q5_5534 : Cns h5534 E L (nI1 (lkM M x 8)) (N2 10) := Cns.kept (O := (· = L 0)) (hu_f eh5534 Fr.rf ho0b rfl) (hLay.1 26 0 (by decide) (by decide) (by decide)) q5
      have q6_5534 : Sds h5534 E L (nI1 (lkM M x 6)) (N2 9) := Sds.kept (O := (· = L 0)) (hu_f eh5534 Fr.rf ho0b rfl) (hLay.1 27 0 (by decide) (by decide) (by decide)) q6
      have q7_5534 : Dgo h5534 E L rs2 := Dgo.kept (O := (· = L 0)) (hu_f eh5534 Fr.rf ho0b rfl) (hLay.1 62 0 (by decide) (by decide) (by decide)) q7
      have q8_5534 : Bgs E h5534 B V2 c5533 := Bgs.kept (O := (· = L 0)) (hu_f eh5534 Fr.rf ho0b rfl) (fun i hi => hLay.2 i 0 hi (by decide)) q8
      exact Z _ _ _ _ _ _ _ _ dX1_see_75 (by have hg1 := (hW5533).1; have hg2 := (hW5533).2; have hkm := hC9.kmax; show 0 + dc5533 ≤ (KX - ksum cp NB) / 8 + 8; omega) (by have hg1 := (hW5533).1; have hg2 := (hW5533).2; have hkm := hC9.kmax; show 0 + ds5533 ≤ 2 * (KX - ksum cp NB) + 2048; omega) ⟨hcd, by rw [hst9], _, by rw [← hN3]; exact ⟨pp2, f2, rs2, pw2, pl2, ps2, V2, ⟨ho0b_5534, hb1_5534, hb3_5534, hb12_5534, hb13_5534, hb14_5534, hb15_5534, hb16_5534, hb17_5534, hb39_5534⟩, ⟨q1.1, q1.2.1, q1.2.2.1, q1.2.2.2.1, q1.2.2.2.2.1, q1.2.2.2.2.2.1, q1.2.2.2.2.2.2.1, q1.2.2.2.2.2.2.2.1, q1.2.2.2.2.2.2.2.2.1, q1.2.2.2.2.2.2.2.2.2⟩, Vr_same q2, q3_5534, q4_5534, q5_5534, q6_5534, q7_5534, q8_5534⟩, hF_5534, hW5533⟩ T5534
  · refine lv_aload_n hx hb dX1_see_5 rfl (lv_at hl 0 rfl) ?_
    refine lv_iload_n hx hb dX1_see_6 rfl (lv_at hl 1 rfl) ?_
    by_cases cI : 0 ≤ x.toInt ∧ x.toInt < N 0
    · refine hp_V C T hl.1 ho0 rfl (p_X1_isC1 (x := x) i0 cI ho0) q631 q633 qs4 q53 q634 kd_X1_isCandidate rfl rfl ⟨Nat.le_of_ble_eq_true rfl, Nat.le_of_ble_eq_true rfl⟩ (Nat.le_of_ble_eq_true rfl) dX1_see_7 ⟨by show 0 + 0 ≤ (KX - ksum cp NB) / 8 + 8; omega, by show 0 + 0 ≤ 2 * (KX - ksum cp NB) + 2048; omega⟩ (fun rv H5526 hp5526 T5526 => ?_)
      obtain rfl := hp5526
      refine W.eq (g2 := F0 m 10 ls [.int (nI 1)]) rfl ?_
      refine hn_if_eq (tgt := 17) hx hb dX1_see_10 (by decide) (by omega) (fun c2 => absurd c2 (by decide)) (fun c2 => ?_)
      refine lv_iconst (v := nI 1) hx hb dX1_see_13 rfl ?_
      refine lv_goto (tgt := 18) hx hb dX1_see_14 (by decide) ?_
      have hxc : x.toInt = -1 ∨ (0 ≤ x.toInt ∧ x.toInt < N 0) := by omega
      refine hp_S C T5526 hl.1 (p_X1_inside) q593 q594 q53 q595 kd_X1_inside rfl rfl ⟨Nat.le_of_ble_eq_true rfl, Nat.le_of_ble_eq_true rfl⟩ (Nat.le_of_ble_eq_true rfl) dX1_see_18 ⟨by show 0 + 0 ≤ (KX - ksum cp NB) / 8 + 8; omega, by show 0 + 0 ≤ 2 * (KX - ksum cp NB) + 2048; omega⟩ (fun rv H5535 hp5535 T5535 => ?_)
      obtain rfl := hp5535
      refine W.eq (g2 := F0 m 21 ls []) rfl ?_
      refine lv_aload_n hx hb dX1_see_21 rfl (lv_at hl 0 rfl) ?_
      refine hr_get C T5535 ho0 rfl in_X1 17 (by decide) q312 rfl rfl dX1_see_22 ?_
      refine lv_iconst (v := nI 2) hx hb dX1_see_25 rfl ?_
      refine hn_icmp_ne (tgt := 33) hx hb dX1_see_26 (by decide) (by omega) (by omega) (fun c3 => ?_) (fun c3 => ?_)
      · refine lv_iconst (v := nI 0) hx hb dX1_see_33 rfl ?_
        have hcd : cd_see N x = 2 := by unfold cd_see; (repeat' split) <;> omega
        exact Y _ _ _ _ _ _ ((thr_S C T5535 hl.1 (t_X1_now hfl) q517 q518 q53 q519 kd_X1_now rfl rfl ⟨Nat.le_of_ble_eq_true rfl, Nat.le_of_ble_eq_true rfl⟩ (Nat.le_of_ble_eq_true rfl) dX1_see_34 ⟨by show 0 + 1 ≤ (KX - ksum cp NB) / 8 + 8; omega, by show 0 + 6 ≤ 2 * (KX - ksum cp NB) + 2048; omega⟩).on C T5535 hno ⟨by show 0 + 1 ≤ (KX - ksum cp NB) / 8 + 8; omega, by show 0 + 6 ≤ 2 * (KX - ksum cp NB) + 2048; omega⟩ (fun h2 dc ds hp => by obtain ⟨rfl, rfl, rfl⟩ := hp; exact ⟨rfl, rfl, rfl, by rw [hcd]; exact ⟨by decide, rfl⟩⟩))
      · refine lv_iconst (v := nI 1) hx hb dX1_see_29 rfl ?_
        refine lv_goto (tgt := 34) hx hb dX1_see_30 (by decide) ?_
        refine hp_S C T5535 hl.1 (p_X1_now) q517 q518 q53 q519 kd_X1_now rfl rfl ⟨Nat.le_of_ble_eq_true rfl, Nat.le_of_ble_eq_true rfl⟩ (Nat.le_of_ble_eq_true rfl) dX1_see_34 ⟨by show 0 + 0 ≤ (KX - ksum cp NB) / 8 + 8; omega, by show 0 + 0 ≤ 2 * (KX - ksum cp NB) + 2048; omega⟩ (fun rv H5536 hp5536 T5536 => ?_)
        obtain rfl := hp5536
        refine W.eq (g2 := F0 m 37 ls []) rfl ?_
        have hcd : cd_see N x = 0 := by unfold cd_see; rw [if_neg (by omega), if_neg (by omega)]
        have h11 : N 11 ≠ 0 := by omega
        have hin := inz h11
        have rpp := rp h11
        obtain ⟨hw0, hw1⟩ := iwt2 (by omega)
        have hbz : x.toInt8.toInt32 = x := byte_id (by omega)
        have hws : nI (N 18) - 1 = nI (N 18 - 1) := nIm1 (by omega)
        refine lv_aload_n hx hb dX1_see_37 rfl (lv_at hl 0 rfl) ?_
        refine hr_get C T5536 ho0 rfl in_X1 12 (by decide) q307 rfl rfl dX1_see_38 ?_
        refine lv_aload_n hx hb dX1_see_41 rfl (lv_at hl 0 rfl) ?_
        refine hr_get C T5536 ho0 rfl in_X1 21 (by decide) q316 rfl rfl dX1_see_42 ?_
        rw [hws]
        refine lv_iload_n hx hb dX1_see_45 rfl (lv_at hl 1 rfl) ?_
        refine lv_i2b (v := x) hx hb dX1_see_46 hbz ?_
        refine hr_bast C T5536 ha13 (by omega) (by omega) (show vp_nar .byte x = x by rw [vp_nar_byte, hbz]) dX1_see_47 (fun h5537 H5537 locs5537 eh5537 T5537 => ?_)
        have ha13_5537 : h5537 (L 13) = some (.inl (E.2.1 1, 20000, .inl (upd (f 13) (N 18 - 1) x)), L 0) := hu_s eh5537
        have hF_5537 : Fr (CO L B) h h5537 := hu_f eh5537 hF ha13 (Or.inl rfl)
        refine lv_aload_n hx hb dX1_see_48 rfl (lv_at hl 0 rfl) ?_
        refine lv_dup hx hb dX1_see_49 rfl ?_
        have ho0_5537 : h5537 (L 0) = some (.inr (0, [.ref (L 1), .int (nI (N 0)), .ref (L 3), .int (nI (N 1)), .int (nI (N 2)), .int (nI (N 3)), .int (nI (N 4)), .int (nI (N 5)), .int (nI (N 6)), .int (nI (N 7)), .int (nI (N 8)), .ref (L 12), .ref (L 13), .ref (L 14), .ref (L 15), .ref (L 16), .ref (L 17), .int (nI (N 11)), .int (nI (N 15)), .int (nI (N 16)), .int (nI (N 17)), .int (nI (N 18) - 1), .int (nI (N 19)), .ref (L 24), .int (nI pp), .ref (L 26), .ref (L 27), .ref (if N 13 = 1 then L 27 else L 26), .ref (L 29), .ref (L 30), .ref (if N 12 = 1 then L 30 else L 29), .ref (L 32), .ref (B 0), .ref (B 1), .ref (B 2), .ref (B 3), .ref (L 37), .ref (L 38), .ref (L 39), .ref (B 4), .ref (B 5)]), L 0) := hu_n eh5537 (hLay.1 0 13 (by decide) (by decide) (by decide)) ho0
        refine hr_get C T5537 ho0_5537 rfl in_X1 19 (by decide) q314 rfl rfl dX1_see_50 ?_
        refine lv_iconst (v := nI 1) hx hb dX1_see_53 rfl ?_
        refine hn_iadd hx hb dX1_see_54 ?_
        refine hr_put C T5537 ho0_5537 rfl in_X1 tyX1 tyX1_ok nmX1 19 (by decide) q314 rfl rfl rfl rfl (Nat.le_of_ble_eq_true rfl) dX1_see_55 (fun h5538 H5538 locs5538 eh5538 T5538 => ?_)
        have ho0_5538 : h5538 (L 0) = some (.inr (0, [.ref (L 1), .int (nI (N 0)), .ref (L 3), .int (nI (N 1)), .int (nI (N 2)), .int (nI (N 3)), .int (nI (N 4)), .int (nI (N 5)), .int (nI (N 6)), .int (nI (N 7)), .int (nI (N 8)), .ref (L 12), .ref (L 13), .ref (L 14), .ref (L 15), .ref (L 16), .ref (L 17), .int (nI (N 11)), .int (nI (N 15)), .int (nI ((N 16) + 1)), .int (nI (N 17)), .int (nI (N 18) - 1), .int (nI (N 19)), .ref (L 24), .int (nI pp), .ref (L 26), .ref (L 27), .ref (if N 13 = 1 then L 27 else L 26), .ref (L 29), .ref (L 30), .ref (if N 12 = 1 then L 30 else L 29), .ref (L 32), .ref (B 0), .ref (B 1), .ref (B 2), .ref (B 3), .ref (L 37), .ref (L 38), .ref (L 39), .ref (B 4), .ref (B 5)]), L 0) := hu_s eh5538
        have hF_5538 : Fr (CO L B) h h5538 := hu_f eh5538 hF_5537 ho0_5537 (Or.inl rfl)
        refine lv_aload_n hx hb dX1_see_58 rfl (lv_at hl 0 rfl) ?_
        refine lv_aload_n hx hb dX1_see_59 rfl (lv_at hl 0 rfl) ?_
        refine hr_get C T5538 ho0_5538 rfl in_X1 21 (by decide) q316 rfl rfl dX1_see_60 ?_
        rw [hws]
        have ha1_5537 : h5537 (L 1) = some (.inl (E.2.1 0, 8, .inl (f 1)), L 0) := hu_n eh5537 (hLay.1 1 13 (by decide) (by decide) (by decide)) ha1
        have ha1_5538 : h5538 (L 1) = some (.inl (E.2.1 0, 8, .inl (f 1)), L 0) := hu_n eh5538 (hLay.1 1 0 (by decide) (by decide) (by decide)) ha1_5537
        have ha3_5537 : h5537 (L 3) = some (.inl (E.2.1 0, 64, .inl (f 3)), L 0) := hu_n eh5537 (hLay.1 3 13 (by decide) (by decide) (by decide)) ha3
        have ha3_5538 : h5538 (L 3) = some (.inl (E.2.1 0, 64, .inl (f 3)), L 0) := hu_n eh5538 (hLay.1 3 0 (by decide) (by decide) (by decide)) ha3_5537
        have ha12_5537 : h5537 (L 12) = some (.inl (E.2.1 1, 20000, .inl (f 12)), L 0) := hu_n eh5537 (hLay.1 12 13 (by decide) (by decide) (by decide)) ha12
        have ha12_5538 : h5538 (L 12) = some (.inl (E.2.1 1, 20000, .inl (f 12)), L 0) := hu_n eh5538 (hLay.1 12 0 (by decide) (by decide) (by decide)) ha12_5537
        have ha13_5538 : h5538 (L 13) = some (.inl (E.2.1 1, 20000, .inl (upd (f 13) (N 18 - 1) x)), L 0) := hu_n eh5538 (hLay.1 13 0 (by decide) (by decide) (by decide)) ha13_5537
        have ha14_5537 : h5537 (L 14) = some (.inl (E.2.1 2, 20000, .inl (f 14)), L 0) := hu_n eh5537 (hLay.1 14 13 (by decide) (by decide) (by decide)) ha14
        have ha14_5538 : h5538 (L 14) = some (.inl (E.2.1 2, 20000, .inl (f 14)), L 0) := hu_n eh5538 (hLay.1 14 0 (by decide) (by decide) (by decide)) ha14_5537
        have ha15_5537 : h5537 (L 15) = some (.inl (E.2.1 3, 8, .inl (f 15)), L 0) := hu_n eh5537 (hLay.1 15 13 (by decide) (by decide) (by decide)) ha15
        have ha15_5538 : h5538 (L 15) = some (.inl (E.2.1 3, 8, .inl (f 15)), L 0) := hu_n eh5538 (hLay.1 15 0 (by decide) (by decide) (by decide)) ha15_5537
        have ha16_5537 : h5537 (L 16) = some (.inl (E.2.1 0, 8, .inl (f 16)), L 0) := hu_n eh5537 (hLay.1 16 13 (by decide) (by decide) (by decide)) ha16
        have ha16_5538 : h5538 (L 16) = some (.inl (E.2.1 0, 8, .inl (f 16)), L 0) := hu_n eh5538 (hLay.1 16 0 (by decide) (by decide) (by decide)) ha16_5537
        have ha17_5537 : h5537 (L 17) = some (.inl (E.2.1 0, 8, .inl (f 17)), L 0) := hu_n eh5537 (hLay.1 17 13 (by decide) (by decide) (by decide)) ha17
        have ha17_5538 : h5538 (L 17) = some (.inl (E.2.1 0, 8, .inl (f 17)), L 0) := hu_n eh5538 (hLay.1 17 0 (by decide) (by decide) (by decide)) ha17_5537
        have ha39_5537 : h5537 (L 39) = some (.inl (E.2.1 3, 961, .inl (f 39)), L 0) := hu_n eh5537 (hLay.1 39 13 (by decide) (by decide) (by decide)) ha39
        have ha39_5538 : h5538 (L 39) = some (.inl (E.2.1 3, 961, .inl (f 39)), L 0) := hu_n eh5538 (hLay.1 39 0 (by decide) (by decide) (by decide)) ha39_5537
        have hSt_5537 : Stt E L B h5537 := Stt.kept (O := (· = L 0)) (hu_f eh5537 Fr.rf ha13 rfl) (hLay.1 30 0 (by decide) (by decide) (by decide)) hSt
        have hSt_5538 : Stt E L B h5538 := Stt.kept (O := (· = L 0)) (hu_f eh5538 Fr.rf ho0_5537 rfl) (hLay.1 30 0 (by decide) (by decide) (by decide)) hSt_5537
        have hPr_5537 : Prs L B pw pl ps h5537 := Prs.kept (O := (· = L 0)) (hu_f eh5537 Fr.rf ha13 rfl) (hLay.1 24 0 (by decide) (by decide) (by decide)) hPr
        have hPr_5538 : Prs L B pw pl ps h5538 := Prs.kept (O := (· = L 0)) (hu_f eh5538 Fr.rf ho0_5537 rfl) (hLay.1 24 0 (by decide) (by decide) (by decide)) hPr_5537
        have hCn_5537 : Cns h5537 E L (nI1 (M 8)) (N 10) := Cns.kept (O := (· = L 0)) (hu_f eh5537 Fr.rf ha13 rfl) (hLay.1 26 0 (by decide) (by decide) (by decide)) hCn
        have hCn_5538 : Cns h5538 E L (nI1 (M 8)) (N 10) := Cns.kept (O := (· = L 0)) (hu_f eh5538 Fr.rf ho0_5537 rfl) (hLay.1 26 0 (by decide) (by decide) (by decide)) hCn_5537
        have hSd_5537 : Sds h5537 E L (nI1 (M 6)) (N 9) := Sds.kept (O := (· = L 0)) (hu_f eh5537 Fr.rf ha13 rfl) (hLay.1 27 0 (by decide) (by decide) (by decide)) hSd
        have hSd_5538 : Sds h5538 E L (nI1 (M 6)) (N 9) := Sds.kept (O := (· = L 0)) (hu_f eh5538 Fr.rf ho0_5537 rfl) (hLay.1 27 0 (by decide) (by decide) (by decide)) hSd_5537
        have hDg_5537 : Dgo h5537 E L rs := Dgo.kept (O := (· = L 0)) (hu_f eh5537 Fr.rf ha13 rfl) (hLay.1 62 0 (by decide) (by decide) (by decide)) hDg
        have hDg_5538 : Dgo h5538 E L rs := Dgo.kept (O := (· = L 0)) (hu_f eh5538 Fr.rf ho0_5537 rfl) (hLay.1 62 0 (by decide) (by decide) (by decide)) hDg_5537
        have hB_5537 : Bgs E h5537 B V cp := Bgs.kept (O := (· = L 0)) (hu_f eh5537 Fr.rf ha13 rfl) (fun i hi => hLay.2 i 0 hi (by decide)) hB
        have hB_5538 : Bgs E h5538 B V cp := Bgs.kept (O := (· = L 0)) (hu_f eh5538 Fr.rf ho0_5537 rfl) (fun i hi => hLay.2 i 0 hi (by decide)) hB_5537
        have hCq : Cp E h5538 L B cp (nu N 16 (N 16 + 1)) M (gu G 1 (upd (G 1) (N 18 - 1) x)) := ⟨pp, gu f 13 (upd (f 13) (N 18 - 1) x), rs, pw, pl, ps, V, ⟨ho0_5538, ha1_5538, ha3_5538, ha12_5538, ha13_5538, ha14_5538, ha15_5538, ha16_5538, ha17_5538, ha39_5538⟩, ⟨r1, r3, r12, fun i hi => by show upd (f 13) (N 18 - 1) x i = upd (G 1) (N 18 - 1) x i; by_cases z : i = N 18 - 1; (rw [z, pk_us, pk_us]); (rw [pk_un z, pk_un z]; exact r13 i hi), r14, fun _ => r15 h11, r16, r17, fun _ => rpp, rp16⟩, Vr_same hVr, hSt_5538, hPr_5538, hCn_5538, hSd_5538, hDg_5538, hB_5538⟩
        have hxv : x = -2 ∨ x = -1 ∨ ∃ a, a < N 0 ∧ x = nI a := by rcases hxc with z | z; exact Or.inr (Or.inl (im1.mp z)); (obtain ⟨v, hv, e⟩ := nat_of z.1; refine Or.inr (Or.inr ⟨v, ?_, e⟩); have := nI_toInt hv; rw [e, this] at z; omega)
        have hLI5539 : LI (nu N 16 (N 16 + 1)) (M) (gu G 1 (upd (G 1) (N 18 - 1) x)) := (LI_of hI0 h11 (fun i h1 h2 => by show nu _ _ _ i = _; rw [nu_n (by omega)]) (show N 15 ≤ 64 by omega) rfl rfl rfl rfl rfl rfl rfl)
        refine hg_V C T5538 hl.1 ho0_5538 rfl (m_X1_look hLay hLI5539 hCq ⟨Or.inr ⟨N 18 - 1, by omega, rfl, (pk_us (f := G 1)).symm, rfl⟩, hxv⟩) q740 q742 qs7 q53 q743 kd_X1_look rfl rfl ⟨Nat.le_of_ble_eq_true rfl, Nat.le_of_ble_eq_true rfl⟩ (Nat.le_of_ble_eq_true rfl) dX1_see_63 ⟨by have hgw := (Gw.rf (cp := cp)); have hg1 := hgw.1; have hg2 := hgw.2; have hkm := hB_5538.kmax; show 0 + ((KX - ksum cp NB) / 8 + 8) ≤ (KX - ksum cp NB) / 8 + 8; omega, by have hgw := (Gw.rf (cp := cp)); have hg1 := hgw.1; have hg2 := hgw.2; have hkm := hB_5538.kmax; show 0 + (2 * (KX - ksum cp NB) + 2048) ≤ 2 * (KX - ksum cp NB) + 2048; omega⟩ (fun rv h5540 dc5540 ds5540 H5540 locs5540 hp5540 T5540 => ?_)
        obtain ⟨rfl, c5540, hC5540, hF5540, hw5540⟩ := hp5540
        have hW5540 := (Gw.rf (cp := cp)).tr hw5540
        have hF_5540 : Fr (CO L B) h h5540 := hF_5538.tr (hF5540.mono (fun _ z => z))
        refine W.eq (g2 := F0 m 66 ls []) rfl ?_
        obtain ⟨N2, hN2⟩ : ∃ N2, N2 = lkN (nu N 16 (N 16 + 1)) M ((gu G 1 (upd (G 1) (N 18 - 1) x)) 2) ((gu G 1 (upd (G 1) (N 18 - 1) x)) 0 (N 18 - 1)) x := ⟨_, rfl⟩
        rw [← hN2] at hC5540
        have hC9 := hC5540
        obtain ⟨pp2, f2, rs2, pw2, pl2, ps2, V2, ⟨ho0b, hb1, hb3, hb12, hb13, hb14, hb15, hb16, hb17, hb39⟩, q1, q2, q3, q4, q5, q6, q7, q8⟩ := hC5540
        refine lv_aload_n hx hb dX1_see_66 rfl (lv_at hl 0 rfl) ?_
        refine lv_iconst (v := (-1)) hx hb dX1_see_67 rfl ?_
        rw [show (-1) = nI 0 - 1 from (by decide)]
        refine hr_put C T5540 ho0b rfl in_X1 tyX1 tyX1_ok nmX1 21 (by decide) q316 rfl rfl rfl rfl (Nat.le_of_ble_eq_true rfl) dX1_see_68 (fun h5541 H5541 locs5541 eh5541 T5541 => ?_)
        have ho0b_5541 : h5541 (L 0) = some (.inr (0, [.ref (L 1), .int (nI (N2 0)), .ref (L 3), .int (nI (N2 1)), .int (nI (N2 2)), .int (nI (N2 3)), .int (nI (N2 4)), .int (nI (N2 5)), .int (nI (N2 6)), .int (nI (N2 7)), .int (nI (N2 8)), .ref (L 12), .ref (L 13), .ref (L 14), .ref (L 15), .ref (L 16), .ref (L 17), .int (nI (N2 11)), .int (nI (N2 15)), .int (nI (N2 16)), .int (nI (N2 17)), .int (nI 0 - 1), .int (nI (N2 19)), .ref (L 24), .int (nI pp2), .ref (L 26), .ref (L 27), .ref (if N2 13 = 1 then L 27 else L 26), .ref (L 29), .ref (L 30), .ref (if N2 12 = 1 then L 30 else L 29), .ref (L 32), .ref (B 0), .ref (B 1), .ref (B 2), .ref (B 3), .ref (L 37), .ref (L 38), .ref (L 39), .ref (B 4), .ref (B 5)]), L 0) := hu_s eh5541
        have hF_5541 : Fr (CO L B) h h5541 := hu_f eh5541 hF_5540 ho0b (Or.inl rfl)
        refine lv_aload_n hx hb dX1_see_71 rfl (lv_at hl 0 rfl) ?_
        refine hr_get C T5541 ho0b_5541 rfl in_X1 17 (by decide) q312 rfl rfl dX1_see_72 ?_
        have hst9 : N2 11 = (seS N M G x).1 11 := by rw [hN2]; rfl
        have hN3 : nu N2 18 0 = nu (seS N M G x).1 18 0 := by rw [hN2]; rfl
        have hb1_5541 : h5541 (L 1) = some (.inl (E.2.1 0, 8, .inl (f2 1)), L 0) := hu_n eh5541 (hLay.1 1 0 (by decide) (by decide) (by decide)) hb1
        have hb3_5541 : h5541 (L 3) = some (.inl (E.2.1 0, 64, .inl (f2 3)), L 0) := hu_n eh5541 (hLay.1 3 0 (by decide) (by decide) (by decide)) hb3
        have hb12_5541 : h5541 (L 12) = some (.inl (E.2.1 1, 20000, .inl (f2 12)), L 0) := hu_n eh5541 (hLay.1 12 0 (by decide) (by decide) (by decide)) hb12
        have hb13_5541 : h5541 (L 13) = some (.inl (E.2.1 1, 20000, .inl (f2 13)), L 0) := hu_n eh5541 (hLay.1 13 0 (by decide) (by decide) (by decide)) hb13
        have hb14_5541 : h5541 (L 14) = some (.inl (E.2.1 2, 20000, .inl (f2 14)), L 0) := hu_n eh5541 (hLay.1 14 0 (by decide) (by decide) (by decide)) hb14
        have hb15_5541 : h5541 (L 15) = some (.inl (E.2.1 3, 8, .inl (f2 15)), L 0) := hu_n eh5541 (hLay.1 15 0 (by decide) (by decide) (by decide)) hb15
        have hb16_5541 : h5541 (L 16) = some (.inl (E.2.1 0, 8, .inl (f2 16)), L 0) := hu_n eh5541 (hLay.1 16 0 (by decide) (by decide) (by decide)) hb16
        have hb17_5541 : h5541 (L 17) = some (.inl (E.2.1 0, 8, .inl (f2 17)), L 0) := hu_n eh5541 (hLay.1 17 0 (by decide) (by decide) (by decide)) hb17
        have hb39_5541 : h5541 (L 39) = some (.inl (E.2.1 3, 961, .inl (f2 39)), L 0) := hu_n eh5541 (hLay.1 39 0 (by decide) (by decide) (by decide)) hb39
        have q3_5541 : Stt E L B h5541 := Stt.kept (O := (· = L 0)) (hu_f eh5541 Fr.rf ho0b rfl) (hLay.1 30 0 (by decide) (by decide) (by decide)) q3
        have q4_5541 : Prs L B pw2 pl2 ps2 h5541 := Prs.kept (O := (· = L 0)) (hu_f eh5541 Fr.rf ho0b rfl) (hLay.1 24 0 (by decide) (by decide) (by decide)) q4
        have q5_5541 : Cns h5541 E L (nI1 (lkM M x 8)) (N2 10) := Cns.kept (O := (· = L 0)) (hu_f eh5541 Fr.rf ho0b rfl) (hLay.1 26 0 (by decide) (by decide) (by decide)) q5
        have q6_5541 : Sds h5541 E L (nI1 (lkM M x 6)) (N2 9) := Sds.kept (O := (· = L 0)) (hu_f eh5541 Fr.rf ho0b rfl) (hLay.1 27 0 (by decide) (by decide) (by decide)) q6
        have q7_5541 : Dgo h5541 E L rs2 := Dgo.kept (O := (· = L 0)) (hu_f eh5541 Fr.rf ho0b rfl) (hLay.1 62 0 (by decide) (by decide) (by decide)) q7
        have q8_5541 : Bgs E h5541 B V2 c5540 := Bgs.kept (O := (· = L 0)) (hu_f eh5541 Fr.rf ho0b rfl) (fun i hi => hLay.2 i 0 hi (by decide)) q8
        exact Z _ _ _ _ _ _ _ _ dX1_see_75 (by have hg1 := (hW5540).1; have hg2 := (hW5540).2; have hkm := hC9.kmax; show 0 + dc5540 ≤ (KX - ksum cp NB) / 8 + 8; omega) (by have hg1 := (hW5540).1; have hg2 := (hW5540).2; have hkm := hC9.kmax; show 0 + ds5540 ≤ 2 * (KX - ksum cp NB) + 2048; omega) ⟨hcd, by rw [hst9], _, by rw [← hN3]; exact ⟨pp2, f2, rs2, pw2, pl2, ps2, V2, ⟨ho0b_5541, hb1_5541, hb3_5541, hb12_5541, hb13_5541, hb14_5541, hb15_5541, hb16_5541, hb17_5541, hb39_5541⟩, ⟨q1.1, q1.2.1, q1.2.2.1, q1.2.2.2.1, q1.2.2.2.2.1, q1.2.2.2.2.2.1, q1.2.2.2.2.2.2.1, q1.2.2.2.2.2.2.2.1, q1.2.2.2.2.2.2.2.2.1, q1.2.2.2.2.2.2.2.2.2⟩, Vr_same q2, q3_5541, q4_5541, q5_5541, q6_5541, q7_5541, q8_5541⟩, hF_5541, hW5540⟩ T5541
    · refine hp_V C T hl.1 ho0 rfl (p_X1_isC0 (x := x) i0 cI ho0) q631 q633 qs4 q53 q634 kd_X1_isCandidate rfl rfl ⟨Nat.le_of_ble_eq_true rfl, Nat.le_of_ble_eq_true rfl⟩ (Nat.le_of_ble_eq_true rfl) dX1_see_7 ⟨by show 0 + 0 ≤ (KX - ksum cp NB) / 8 + 8; omega, by show 0 + 0 ≤ 2 * (KX - ksum cp NB) + 2048; omega⟩ (fun rv H5527 hp5527 T5527 => ?_)
      obtain rfl := hp5527
      refine W.eq (g2 := F0 m 10 ls [.int (nI 0)]) rfl ?_
      refine hn_if_eq (tgt := 17) hx hb dX1_see_10 (by decide) (by omega) (fun c2 => ?_) (fun c2 => absurd rfl c2)
      refine lv_iconst (v := nI 0) hx hb dX1_see_17 rfl ?_
      have hcd : cd_see N x = 1 := by unfold cd_see; (repeat' split) <;> omega
      exact Y _ _ _ _ _ _ ((thr_S C T5527 hl.1 (t_X1_inside hfl) q593 q594 q53 q595 kd_X1_inside rfl rfl ⟨Nat.le_of_ble_eq_true rfl, Nat.le_of_ble_eq_true rfl⟩ (Nat.le_of_ble_eq_true rfl) dX1_see_18 ⟨by show 0 + 1 ≤ (KX - ksum cp NB) / 8 + 8; omega, by show 0 + 6 ≤ 2 * (KX - ksum cp NB) + 2048; omega⟩).on C T5527 hno ⟨by show 0 + 1 ≤ (KX - ksum cp NB) / 8 + 8; omega, by show 0 + 6 ≤ 2 * (KX - ksum cp NB) + 2048; omega⟩ (fun h2 dc ds hp => by obtain ⟨rfl, rfl, rfl⟩ := hp; exact ⟨rfl, rfl, rfl, by rw [hcd]; exact ⟨by decide, rfl⟩⟩))
