set_option maxRecDepth 100000
def cd_start (N : Nat → Nat) (M : Nat → Nat → Nat) (sd : Nat) : Nat := if N 11 = 0 ∧ fw N M = 1 ∧ 0 < N 2 ∧ (sd = 0 ∨ 0 < N 9) then 0 else 1
def stN (N : Nat → Nat) (M : Nat → Nat → Nat) (cm sd : Nat) : Nat → Nat := nu (nu (nu (nu (nu (nu N 11 1) 12 cm) 13 sd) 14 (pcn (wn N M) (N 0) (N 0 * N 0))) 20 1) 21 1
def stM (N : Nat → Nat) (M : Nat → Nat → Nat) : Nat → Nat → Nat := mu (mu (mu M 4 (pwF (wn N M) (N 0) (N 0 * N 0))) 5 (plF (wn N M) (N 0) (N 0 * N 0))) 7 (wn N M)
def stG (G : Nat → Nat → Int32) : Nat → Nat → Int32 := gu G 2 (fun _ => -1)

theorem st_pA {N : Nat → Nat} {M : Nat → Nat → Nat} {cm sd : Nat} (hz : ∀ i, i < 8 → M 2 i = 0) (hn : N 0 ≤ 8) (k : Nat) (hk : k < pcn (wn N M) (N 0) (N 0 * N 0)) : pA (stN N M cm sd) (stM N M) k = 1 ∧ pB (stN N M cm sd) (stM N M) k = 1 := by
  have h1 := pairs_ok (w := wn N M) (n := N 0) (Nat.le_refl _) k hk
  have e1 : stM N M 2 (stM N M 4 k) = 0 := hz _ (by show pwF (wn N M) (N 0) (N 0 * N 0) k < 8; omega)
  have e2 : stM N M 2 (stM N M 5 k) = 0 := hz _ (by show plF (wn N M) (N 0) (N 0 * N 0) k < 8; omega)
  unfold pA pB
  rw [e1, e2]
  refine ⟨?_, ?_⟩ <;> split <;> simp

set_option maxHeartbeats 4000000 in
theorem m_X1_start {E : GE} {l : Launch} {h : HH} (hfl : l.flags = flags0) {L B cp N : Nat → Nat} {M : Nat → Nat → Nat} {G : Nat → Nat → Int32} (hLay : Lay L B) (hI : Inv N M G) (hC : Cp E h L B cp N M G) {cm sd : Nat} (hcm : cm ≤ 1) (hsd : sd ≤ 1) : MX E l yX1_start cX1_start 5 none ({ frames := 8, cells := 1, slots := 6, locals := 1200 } : Room) [.ref (L 0), .int (nI cm), .int (nI sd)] h (fun rv h2 dc ds => cd_start N M sd = 0 ∧ rv = none ∧ Cp E h2 L B cp (stN N M cm sd) (stM N M) (stG G) ∧ Fr (CO L B) h h2 ∧ dc = 0 ∧ ds = 0) (fun C h' dc ds => Cp E h' L B cp N M G ∧ Fr (CO L B) h h' ∧ dc = 1 ∧ ds = 6 ∧ TC C (cd_start N M sd) [xISE]) := by
  refine hx_v (by decide) (Nat.le_of_ble_eq_true rfl) ?_
  intro p e s m below meth c C hno Q Z Y ls T hl
  have hx := C.x
  have hb := C.b
  have hl : lv_has ls 5 [(0, .ref (L 0)), (1, .int (nI cm)), (2, .int (nI sd))] := hl
  have hC0 := hC
  obtain ⟨i0, i1, i2, i3, i4, i5, i7, i9, i10, i11, i15, iv, isz, isum, ital, itm, idg, icn, irec, isn, iout, ict, iwt, iwt2, iz, inz, iup, ish⟩ := hI
  obtain ⟨pp, f, rs, pw, pl, ps, V, ⟨ho0, ha1, ha3, ha12, ha13, ha14, ha15, ha16, ha17, ha39⟩, ⟨r1, r3, r12, r13, r14, r15, r16, r17, rp, rp16⟩, hVr, hSt, hPr, hCn, hSd, hDg, hB⟩ := hC
  have hF : Fr (CO L B) h h := Fr.rf
  refine lv_aload_n hx hb dX1_start_0 rfl (lv_at hl 0 rfl) ?_
  by_cases cS : N 11 = 0
  · refine hp_V C T hl.1 ho0 rfl (p_X1_setting i11.1 cS ho0) q513 q515 qs3 q53 q516 kd_X1_setting rfl rfl ⟨Nat.le_of_ble_eq_true rfl, Nat.le_of_ble_eq_true rfl⟩ (Nat.le_of_ble_eq_true rfl) dX1_start_1 ⟨Nat.le_of_ble_eq_true rfl, Nat.le_of_ble_eq_true rfl⟩ (fun rv H4501 hp4501 T4501 => ?_)
    obtain rfl := hp4501
    refine W.eq (g2 := F0 m 4 ls []) rfl ?_
    refine lv_aload_n hx hb dX1_start_4 rfl (lv_at hl 0 rfl) ?_
    refine hc_V C T4501 hl.1 ho0 rfl (m_X1_findWinners (M := M) hLay i0 i2 i3 iv ho0 ha1 ha15 r1) q660 q662 qs5 q53 q663 kd_X1_findWinners rfl rfl ⟨Nat.le_of_ble_eq_true rfl, Nat.le_of_ble_eq_true rfl⟩ (Nat.le_of_ble_eq_true rfl) dX1_start_5 ⟨Nat.le_of_ble_eq_true rfl, Nat.le_of_ble_eq_true rfl⟩ (fun rv h4502 H4502 locs4502 hp4502 T4502 => ?_)
    obtain ⟨r, rfl, hh4502, hr⟩ := hp4502
    refine W.eq (g2 := F0 m 8 ls [.int (nI (fw N M))]) rfl ?_
    have ha15_4502 : h4502 (L 15) = some (.inl (E.2.1 3, 8, .inl r), L 0) := hu_s hh4502
    have hF_4502 : Fr (CO L B) h h4502 := hu_f hh4502 hF ha15 (Or.inl rfl)
    have hfw : fw N M ≤ 1 := by unfold fw; split <;> omega
    have ho0_4502 : h4502 (L 0) = some (.inr (0, [.ref (L 1), .int (nI (N 0)), .ref (L 3), .int (nI (N 1)), .int (nI (N 2)), .int (nI (N 3)), .int (nI (N 4)), .int (nI (N 5)), .int (nI (N 6)), .int (nI (N 7)), .int (nI (N 8)), .ref (L 12), .ref (L 13), .ref (L 14), .ref (L 15), .ref (L 16), .ref (L 17), .int (nI (N 11)), .int (nI (N 15)), .int (nI (N 16)), .int (nI (N 17)), .int (nI (N 18) - 1), .int (nI (N 19)), .ref (L 24), .int (nI pp), .ref (L 26), .ref (L 27), .ref (if N 13 = 1 then L 27 else L 26), .ref (L 29), .ref (L 30), .ref (if N 12 = 1 then L 30 else L 29), .ref (L 32), .ref (B 0), .ref (B 1), .ref (B 2), .ref (B 3), .ref (L 37), .ref (L 38), .ref (L 39), .ref (B 4), .ref (B 5)]), L 0) := hu_n hh4502 (hLay.1 0 15 (by decide) (by decide) (by decide)) ho0
    have ha1_4502 : h4502 (L 1) = some (.inl (E.2.1 0, 8, .inl (f 1)), L 0) := hu_n hh4502 (hLay.1 1 15 (by decide) (by decide) (by decide)) ha1
    have ha3_4502 : h4502 (L 3) = some (.inl (E.2.1 0, 64, .inl (f 3)), L 0) := hu_n hh4502 (hLay.1 3 15 (by decide) (by decide) (by decide)) ha3
    have ha12_4502 : h4502 (L 12) = some (.inl (E.2.1 1, 20000, .inl (f 12)), L 0) := hu_n hh4502 (hLay.1 12 15 (by decide) (by decide) (by decide)) ha12
    have ha13_4502 : h4502 (L 13) = some (.inl (E.2.1 1, 20000, .inl (f 13)), L 0) := hu_n hh4502 (hLay.1 13 15 (by decide) (by decide) (by decide)) ha13
    have ha14_4502 : h4502 (L 14) = some (.inl (E.2.1 2, 20000, .inl (f 14)), L 0) := hu_n hh4502 (hLay.1 14 15 (by decide) (by decide) (by decide)) ha14
    have ha16_4502 : h4502 (L 16) = some (.inl (E.2.1 0, 8, .inl (f 16)), L 0) := hu_n hh4502 (hLay.1 16 15 (by decide) (by decide) (by decide)) ha16
    have ha17_4502 : h4502 (L 17) = some (.inl (E.2.1 0, 8, .inl (f 17)), L 0) := hu_n hh4502 (hLay.1 17 15 (by decide) (by decide) (by decide)) ha17
    have ha39_4502 : h4502 (L 39) = some (.inl (E.2.1 3, 961, .inl (f 39)), L 0) := hu_n hh4502 (hLay.1 39 15 (by decide) (by decide) (by decide)) ha39
    have hSt_4502 : Stt E L B h4502 := Stt.kept (O := (· = L 0)) (hu_f hh4502 Fr.rf ha15 rfl) (hLay.1 30 0 (by decide) (by decide) (by decide)) hSt
    have hPr_4502 : Prs L B pw pl ps h4502 := Prs.kept (O := (· = L 0)) (hu_f hh4502 Fr.rf ha15 rfl) (hLay.1 24 0 (by decide) (by decide) (by decide)) hPr
    have hCn_4502 : Cns h4502 E L (nI1 (M 8)) (N 10) := Cns.kept (O := (· = L 0)) (hu_f hh4502 Fr.rf ha15 rfl) (hLay.1 26 0 (by decide) (by decide) (by decide)) hCn
    have hSd_4502 : Sds h4502 E L (nI1 (M 6)) (N 9) := Sds.kept (O := (· = L 0)) (hu_f hh4502 Fr.rf ha15 rfl) (hLay.1 27 0 (by decide) (by decide) (by decide)) hSd
    have hDg_4502 : Dgo h4502 E L rs := Dgo.kept (O := (· = L 0)) (hu_f hh4502 Fr.rf ha15 rfl) (hLay.1 62 0 (by decide) (by decide) (by decide)) hDg
    have hB_4502 : Bgs E h4502 B V cp := Bgs.kept (O := (· = L 0)) (hu_f hh4502 Fr.rf ha15 rfl) (fun i hi => hLay.2 i 0 hi (by decide)) hB
    have hCp9 : Cp E h4502 L B cp N M G := ⟨pp, gu f 15 r, rs, pw, pl, ps, V, ⟨ho0_4502, ha1_4502, ha3_4502, ha12_4502, ha13_4502, ha14_4502, ha15_4502, ha16_4502, ha17_4502, ha39_4502⟩, ⟨r1, r3, r12, r13, r14, fun z => absurd cS z, r16, r17, rp, rp16⟩, Vr_votes hVr cS, hSt_4502, hPr_4502, hCn_4502, hSd_4502, hDg_4502, hB_4502⟩
    refine hn_if_eq (tgt := 36) hx hb dX1_start_8 (by decide) (by omega) (fun c1 => ?_) (fun c1 => ?_)
    · refine lv_iconst (v := nI 0) hx hb dX1_start_36 rfl ?_
      have hcd : cd_start N M sd = 1 := by unfold cd_start; rw [if_neg (by omega)]
      exact Y _ _ _ _ _ _ ((thr_S C T4502 hl.1 (t_X1_now hfl) q517 q518 q53 q519 kd_X1_now rfl rfl ⟨Nat.le_of_ble_eq_true rfl, Nat.le_of_ble_eq_true rfl⟩ (Nat.le_of_ble_eq_true rfl) dX1_start_37 ⟨Nat.le_of_ble_eq_true rfl, Nat.le_of_ble_eq_true rfl⟩).on C T4502 hno ⟨Nat.le_of_ble_eq_true rfl, Nat.le_of_ble_eq_true rfl⟩ (fun h2 dc ds hp => by obtain ⟨rfl, rfl, rfl⟩ := hp; exact ⟨hCp9, hF_4502, rfl, rfl, by rw [hcd]; exact ⟨by decide, rfl⟩⟩))
    · refine lv_aload_n hx hb dX1_start_11 rfl (lv_at hl 0 rfl) ?_
      refine hr_get C T4502 ho0_4502 rfl in_X1 4 (by decide) q295 rfl rfl dX1_start_12 ?_
      refine hn_if_le (tgt := 36) hx hb dX1_start_15 (by decide) (by omega) (fun c2 => ?_) (fun c2 => ?_)
      · refine lv_iconst (v := nI 0) hx hb dX1_start_36 rfl ?_
        have hcd : cd_start N M sd = 1 := by unfold cd_start; rw [if_neg (by omega)]
        exact Y _ _ _ _ _ _ ((thr_S C T4502 hl.1 (t_X1_now hfl) q517 q518 q53 q519 kd_X1_now rfl rfl ⟨Nat.le_of_ble_eq_true rfl, Nat.le_of_ble_eq_true rfl⟩ (Nat.le_of_ble_eq_true rfl) dX1_start_37 ⟨Nat.le_of_ble_eq_true rfl, Nat.le_of_ble_eq_true rfl⟩).on C T4502 hno ⟨Nat.le_of_ble_eq_true rfl, Nat.le_of_ble_eq_true rfl⟩ (fun h2 dc ds hp => by obtain ⟨rfl, rfl, rfl⟩ := hp; exact ⟨hCp9, hF_4502, rfl, rfl, by rw [hcd]; exact ⟨by decide, rfl⟩⟩))
      · refine lv_iload_n hx hb dX1_start_18 rfl (lv_at hl 2 rfl) ?_
        have J32 : ∀  (H4503 : Heap) (locs4503 : List Loc) (ls4503 : Array Slot), (sd = 0 ∨ 0 < N 9) → (St E s h4502 H4503 locs4503) → (lv_has ls4503 5 [(0, .ref (L 0)), (1, .int (nI cm)), (2, .int (nI sd))]) → W p l e ({ frames := 8, cells := 1, slots := 6, locals := 1200 } : Room) s m ([.ref (L 0), .int (nI cm), .int (nI sd)] : List Value).toArray below meth c H4503 locs4503 0 0 Q (F0 m 32 ls4503 []) := by
          intro  H4503 locs4503 ls4503 hsd9 T4503 hl4503
          have hfw1 : fw N M = 1 := by omega
          have hcd : cd_start N M sd = 0 := by unfold cd_start; rw [if_pos ⟨cS, hfw1, by omega, hsd9⟩]
          have hrw := hr hfw1
          have hn2 : 0 < N 0 := by unfold fw at hfw1; split at hfw1; omega; omega
          refine lv_iconst (v := nI 1) hx hb dX1_start_32 rfl ?_
          refine lv_goto (tgt := 37) hx hb dX1_start_33 (by decide) ?_
          refine hp_S C T4503 hl4503.1 (p_X1_now) q517 q518 q53 q519 kd_X1_now rfl rfl ⟨Nat.le_of_ble_eq_true rfl, Nat.le_of_ble_eq_true rfl⟩ (Nat.le_of_ble_eq_true rfl) dX1_start_37 ⟨Nat.le_of_ble_eq_true rfl, Nat.le_of_ble_eq_true rfl⟩ (fun rv H4504 hp4504 T4504 => ?_)
          obtain rfl := hp4504
          refine W.eq (g2 := F0 m 40 ls4503 []) rfl ?_
          refine lv_aload_n hx hb dX1_start_40 rfl (lv_at hl4503 0 rfl) ?_
          refine lv_iconst (v := nI 0) hx hb dX1_start_41 rfl ?_
          refine hr_put C T4504 ho0_4502 rfl in_X1 tyX1 tyX1_ok nmX1 24 (by decide) q323 rfl rfl rfl rfl (Nat.le_of_ble_eq_true rfl) dX1_start_42 (fun h4505 H4505 locs4505 eh4505 T4505 => ?_)
          have ho0_4505 : h4505 (L 0) = some (.inr (0, [.ref (L 1), .int (nI (N 0)), .ref (L 3), .int (nI (N 1)), .int (nI (N 2)), .int (nI (N 3)), .int (nI (N 4)), .int (nI (N 5)), .int (nI (N 6)), .int (nI (N 7)), .int (nI (N 8)), .ref (L 12), .ref (L 13), .ref (L 14), .ref (L 15), .ref (L 16), .ref (L 17), .int (nI (N 11)), .int (nI (N 15)), .int (nI (N 16)), .int (nI (N 17)), .int (nI (N 18) - 1), .int (nI (N 19)), .ref (L 24), .int (nI 0), .ref (L 26), .ref (L 27), .ref (if N 13 = 1 then L 27 else L 26), .ref (L 29), .ref (L 30), .ref (if N 12 = 1 then L 30 else L 29), .ref (L 32), .ref (B 0), .ref (B 1), .ref (B 2), .ref (B 3), .ref (L 37), .ref (L 38), .ref (L 39), .ref (B 4), .ref (B 5)]), L 0) := hu_s eh4505
          have hF_4505 : Fr (CO L B) h h4505 := hu_f eh4505 hF_4502 ho0_4502 (Or.inl rfl)
          refine lv_iconst (v := nI 0) hx hb dX1_start_45 rfl ?_
          refine lv_istore_n (lv' := [(3, .int (nI 0)), (0, .ref (L 0)), (1, .int (nI cm)), (2, .int (nI sd))]) hx hb dX1_start_46 rfl hl4503 (by decide) rfl (fun ls4506 hl4506 => ?_)
          have L1 : ∀ (j : Nat) (a K : Nat) (pw2 pl2 : Nat → Int32) (h4507 : HH) (H4507 : Heap) (locs4507 : List Loc) (ls4507 : Array Slot), (N 0 + 1 ≤ a + j) → (h4507 (L 0) = some (.inr (0, [.ref (L 1), .int (nI (N 0)), .ref (L 3), .int (nI (N 1)), .int (nI (N 2)), .int (nI (N 3)), .int (nI (N 4)), .int (nI (N 5)), .int (nI (N 6)), .int (nI (N 7)), .int (nI (N 8)), .ref (L 12), .ref (L 13), .ref (L 14), .ref (L 15), .ref (L 16), .ref (L 17), .int (nI (N 11)), .int (nI (N 15)), .int (nI (N 16)), .int (nI (N 17)), .int (nI (N 18) - 1), .int (nI (N 19)), .ref (L 24), .int (nI K), .ref (L 26), .ref (L 27), .ref (if N 13 = 1 then L 27 else L 26), .ref (L 29), .ref (L 30), .ref (if N 12 = 1 then L 30 else L 29), .ref (L 32), .ref (B 0), .ref (B 1), .ref (B 2), .ref (B 3), .ref (L 37), .ref (L 38), .ref (L 39), .ref (B 4), .ref (B 5)]), L 0)) → (a ≤ N 0) → (K = pcn (wn N M) (N 0) (a * N 0)) → (∀ i, i < K → pw2 i = nI (pwF (wn N M) (N 0) (a * N 0) i) ∧ pl2 i = nI (plF (wn N M) (N 0) (a * N 0) i)) → (Prs L B pw2 pl2 ps h4507) → (∀ q, q ≠ L 0 → (∀ k, k < 16 → q ≠ L (70 + k)) → h4507 q = h4505 q) → (Fr (fun o => o = L 0 ∨ o = L 24) h4505 h4507) → (Fr (CO L B) h h4507) → (St E s h4507 H4507 locs4507) → (lv_has ls4507 5 [(0, .ref (L 0)), (1, .int (nI cm)), (2, .int (nI sd)), (3, .int (nI a))]) → W p l e ({ frames := 8, cells := 1, slots := 6, locals := 1200 } : Room) s m ([.ref (L 0), .int (nI cm), .int (nI sd)] : List Value).toArray below meth c H4507 locs4507 0 0 Q (F0 m 47 ls4507 []) := by
            intro j
            induction j with
            | zero => intro a K pw2 pl2 h4507 H4507 locs4507 ls4507 hm4507 ho0_4507 ha hK hpw2 hP2 hoth hFo hF_4507 T4507 hl4507; exact absurd hm4507 (by omega)
            | succ j ih4507 =>
              intro a K pw2 pl2 h4507 H4507 locs4507 ls4507 hm4507 ho0_4507 ha hK hpw2 hP2 hoth hFo hF_4507 T4507 hl4507
              refine lv_iload_n hx hb dX1_start_47 rfl (lv_at hl4507 3 rfl) ?_
              refine lv_aload_n hx hb dX1_start_48 rfl (lv_at hl4507 0 rfl) ?_
              refine hr_get C T4507 ho0_4507 rfl in_X1 1 (by decide) q291 rfl rfl dX1_start_49 ?_
              refine hn_icmp_ge (tgt := 135) hx hb dX1_start_52 (by decide) (by omega) (by omega) (fun c5 => ?_) (fun c5 => ?_)
              · have e5 : a = N 0 := by omega
                rw [e5] at hK hpw2
                have hK16 : K ≤ 16 := by rw [hK]; exact pcn_16 i0
                refine lv_aload_n hx hb dX1_start_135 rfl (lv_at hl4507 0 rfl) ?_
                refine lv_iload_n hx hb dX1_start_136 rfl (lv_at hl4507 2 rfl) ?_
                refine hn_if_eq (tgt := 147) hx hb dX1_start_137 (by decide) (by omega) (fun c9 => ?_) (fun c9 => ?_)
                · obtain rfl : sd = 0 := c9
                  refine lv_aload_n hx hb dX1_start_147 rfl (lv_at hl4507 0 rfl) ?_
                  refine hr_get C T4507 ho0_4507 rfl in_X1 25 (by decide) q324 rfl rfl dX1_start_148 ?_
                  refine hr_put C T4507 ho0_4507 rfl in_X1 tyX1 tyX1_ok nmX1 27 (by decide) q326 rfl rfl rfl rfl (Nat.le_of_ble_eq_true rfl) dX1_start_151 (fun h4522 H4522 locs4522 eh4522 T4522 => ?_)
                  have ho0_4522 : h4522 (L 0) = some (.inr (0, [.ref (L 1), .int (nI (N 0)), .ref (L 3), .int (nI (N 1)), .int (nI (N 2)), .int (nI (N 3)), .int (nI (N 4)), .int (nI (N 5)), .int (nI (N 6)), .int (nI (N 7)), .int (nI (N 8)), .ref (L 12), .ref (L 13), .ref (L 14), .ref (L 15), .ref (L 16), .ref (L 17), .int (nI (N 11)), .int (nI (N 15)), .int (nI (N 16)), .int (nI (N 17)), .int (nI (N 18) - 1), .int (nI (N 19)), .ref (L 24), .int (nI K), .ref (L 26), .ref (L 27), .ref (L 26), .ref (L 29), .ref (L 30), .ref (if N 12 = 1 then L 30 else L 29), .ref (L 32), .ref (B 0), .ref (B 1), .ref (B 2), .ref (B 3), .ref (L 37), .ref (L 38), .ref (L 39), .ref (B 4), .ref (B 5)]), L 0) := hu_s eh4522
                  have hF_4522 : Fr (CO L B) h h4522 := hu_f eh4522 hF_4507 ho0_4507 (Or.inl rfl)
                  refine lv_aload_n hx hb dX1_start_154 rfl (lv_at hl4507 0 rfl) ?_
                  refine lv_iload_n hx hb dX1_start_155 rfl (lv_at hl4507 1 rfl) ?_
                  refine hn_if_eq (tgt := 166) hx hb dX1_start_156 (by decide) (by omega) (fun c10 => ?_) (fun c10 => ?_)
                  · obtain rfl : cm = 0 := c10
                    have hSt_4505 : Stt E L B h4505 := Stt.kept (O := (· = L 0)) (hu_f eh4505 Fr.rf ho0_4502 rfl) (hLay.1 30 0 (by decide) (by decide) (by decide)) hSt_4502
                    have hSt_4508 : Stt E L B h4507 := Stt.kept hFo (fun z => z.elim (hLay.1 30 0 (by decide) (by decide) (by decide)) (hLay.1 30 24 (by decide) (by decide) (by decide))) hSt_4505
                    have hSt_4522 : Stt E L B h4522 := Stt.kept (O := (· = L 0)) (hu_f eh4522 Fr.rf ho0_4507 rfl) (hLay.1 30 0 (by decide) (by decide) (by decide)) hSt_4508
                    have hst29x4523 := (hSt_4522).2.2.2.1
                    refine lv_aload_n hx hb dX1_start_166 rfl (lv_at hl4507 0 rfl) ?_
                    refine hr_get C T4522 ho0_4522 rfl in_X1 28 (by decide) q327 rfl rfl dX1_start_167 ?_
                    refine hr_put C T4522 ho0_4522 rfl in_X1 tyX1 tyX1_ok nmX1 30 (by decide) q329 rfl rfl rfl rfl (Nat.le_of_ble_eq_true rfl) dX1_start_170 (fun h4524 H4524 locs4524 eh4524 T4524 => ?_)
                    have ho0_4524 : h4524 (L 0) = some (.inr (0, [.ref (L 1), .int (nI (N 0)), .ref (L 3), .int (nI (N 1)), .int (nI (N 2)), .int (nI (N 3)), .int (nI (N 4)), .int (nI (N 5)), .int (nI (N 6)), .int (nI (N 7)), .int (nI (N 8)), .ref (L 12), .ref (L 13), .ref (L 14), .ref (L 15), .ref (L 16), .ref (L 17), .int (nI (N 11)), .int (nI (N 15)), .int (nI (N 16)), .int (nI (N 17)), .int (nI (N 18) - 1), .int (nI (N 19)), .ref (L 24), .int (nI K), .ref (L 26), .ref (L 27), .ref (L 26), .ref (L 29), .ref (L 30), .ref (L 29), .ref (L 32), .ref (B 0), .ref (B 1), .ref (B 2), .ref (B 3), .ref (L 37), .ref (L 38), .ref (L 39), .ref (B 4), .ref (B 5)]), L 0) := hu_s eh4524
                    have hF_4524 : Fr (CO L B) h h4524 := hu_f eh4524 hF_4522 ho0_4522 (Or.inl rfl)
                    refine lv_aload_n hx hb dX1_start_173 rfl (lv_at hl4507 0 rfl) ?_
                    refine hr_get C T4524 ho0_4524 rfl in_X1 30 (by decide) q329 rfl rfl dX1_start_174 ?_
                    have hB_4505 : Bgs E h4505 B V cp := Bgs.kept (O := (· = L 0)) (hu_f eh4505 Fr.rf ho0_4502 rfl) (fun i hi => hLay.2 i 0 hi (by decide)) hB_4502
                    have hB_4508 : Bgs E h4507 B V cp := Bgs.kept hFo (fun i hi z => z.elim (hLay.2 i 0 hi (by decide)) (hLay.2 i 24 hi (by decide))) hB_4505
                    have hB_4522 : Bgs E h4522 B V cp := Bgs.kept (O := (· = L 0)) (hu_f eh4522 Fr.rf ho0_4507 rfl) (fun i hi => hLay.2 i 0 hi (by decide)) hB_4508
                    have hB_4524 : Bgs E h4524 B V cp := Bgs.kept (O := (· = L 0)) (hu_f eh4524 Fr.rf ho0_4522 rfl) (fun i hi => hLay.2 i 0 hi (by decide)) hB_4522
                    have hSt_4524 : Stt E L B h4524 := Stt.kept (O := (· = L 0)) (hu_f eh4524 Fr.rf ho0_4522 rfl) (hLay.1 30 0 (by decide) (by decide) (by decide)) hSt_4522
                    have hP2_4522 : Prs L B pw2 pl2 ps h4522 := Prs.kept (O := (· = L 0)) (hu_f eh4522 Fr.rf ho0_4507 rfl) (hLay.1 24 0 (by decide) (by decide) (by decide)) hP2
                    have hP2_4524 : Prs L B pw2 pl2 ps h4524 := Prs.kept (O := (· = L 0)) (hu_f eh4524 Fr.rf ho0_4522 rfl) (hLay.1 24 0 (by decide) (by decide) (by decide)) hP2_4522
                    have hst29x4523_4524 : h4524 (L 29) = some (.inr (5, [.ref (L 0)]), L 30) := hu_n eh4524 (hLay.1 29 0 (by decide) (by decide) (by decide)) hst29x4523
                    refine hc_F C T4524 hl4507.1 hst29x4523_4524 rfl (m_X5_begin (M := M) (g := f 1) (N := nu (nu N 12 0) 13 0) (pp := K) hLay hB_4524 ho0_4524 hSt_4524 hP2_4524 hK16) 2 rfl q665 q676 q678 q57 q680 kdF_2 rfl rfl ⟨Nat.le_of_ble_eq_true rfl, Nat.le_of_ble_eq_true rfl⟩ (Nat.le_of_ble_eq_true rfl) dX1_start_177 ⟨Nat.le_of_ble_eq_true rfl, Nat.le_of_ble_eq_true rfl⟩ (fun rv h4525 H4525 locs4525 hp4525 T4525 => ?_)
                    obtain ⟨rfl, V2, ps2, hB4525, hP4525, hv4525, hkp4525, hF4525⟩ := hp4525
                    have hF_4525 : Fr (CO L B) h h4525 := hF_4524.tr (hF4525.mono (fun _ z => z.elim (fun z => Or.inr (Or.inl z)) (fun z => Or.inr (Or.inr (Or.inr (Or.inr (Or.inr z)))))))
                    refine W.eq (g2 := F0 m 182 ls4507 []) rfl ?_
                    refine lv_aload_n hx hb dX1_start_182 rfl (lv_at hl4507 0 rfl) ?_
                    refine lv_iconst (v := nI 1) hx hb dX1_start_183 rfl ?_
                    have ho0_4525 : h4525 (L 0) = some (.inr (0, [.ref (L 1), .int (nI (N 0)), .ref (L 3), .int (nI (N 1)), .int (nI (N 2)), .int (nI (N 3)), .int (nI (N 4)), .int (nI (N 5)), .int (nI (N 6)), .int (nI (N 7)), .int (nI (N 8)), .ref (L 12), .ref (L 13), .ref (L 14), .ref (L 15), .ref (L 16), .ref (L 17), .int (nI (N 11)), .int (nI (N 15)), .int (nI (N 16)), .int (nI (N 17)), .int (nI (N 18) - 1), .int (nI (N 19)), .ref (L 24), .int (nI K), .ref (L 26), .ref (L 27), .ref (L 26), .ref (L 29), .ref (L 30), .ref (L 29), .ref (L 32), .ref (B 0), .ref (B 1), .ref (B 2), .ref (B 3), .ref (L 37), .ref (L 38), .ref (L 39), .ref (B 4), .ref (B 5)]), L 0) := hF4525 _ _ ho0_4524 (fun z => z.elim (hLay.1 0 24 (by decide) (by decide) (by decide)) (fun ⟨i, hi, e⟩ => hLay.2 i 0 hi (by decide) e.symm))
                    refine hr_put C T4525 ho0_4525 rfl in_X1 tyX1 tyX1_ok nmX1 17 (by decide) q312 rfl rfl rfl rfl (Nat.le_of_ble_eq_true rfl) dX1_start_184 (fun h4526 H4526 locs4526 eh4526 T4526 => ?_)
                    have ho0_4526 : h4526 (L 0) = some (.inr (0, [.ref (L 1), .int (nI (N 0)), .ref (L 3), .int (nI (N 1)), .int (nI (N 2)), .int (nI (N 3)), .int (nI (N 4)), .int (nI (N 5)), .int (nI (N 6)), .int (nI (N 7)), .int (nI (N 8)), .ref (L 12), .ref (L 13), .ref (L 14), .ref (L 15), .ref (L 16), .ref (L 17), .int (nI 1), .int (nI (N 15)), .int (nI (N 16)), .int (nI (N 17)), .int (nI (N 18) - 1), .int (nI (N 19)), .ref (L 24), .int (nI K), .ref (L 26), .ref (L 27), .ref (L 26), .ref (L 29), .ref (L 30), .ref (L 29), .ref (L 32), .ref (B 0), .ref (B 1), .ref (B 2), .ref (B 3), .ref (L 37), .ref (L 38), .ref (L 39), .ref (B 4), .ref (B 5)]), L 0) := hu_s eh4526
                    have hF_4526 : Fr (CO L B) h h4526 := hu_f eh4526 hF_4525 ho0_4525 (Or.inl rfl)
                    have ha1_4505 : h4505 (L 1) = some (.inl (E.2.1 0, 8, .inl (f 1)), L 0) := hu_n eh4505 (hLay.1 1 0 (by decide) (by decide) (by decide)) ha1_4502
                    have ha1_4508 : h4507 (L 1) = some (.inl (E.2.1 0, 8, .inl (f 1)), L 0) := (hoth _ (hLay.1 1 0 (by decide) (by decide) (by decide)) (fun k hk => hLay.1 1 (70 + k) (by decide) (by omega) (by omega))).trans ha1_4505
                    have ha1_4522 : h4522 (L 1) = some (.inl (E.2.1 0, 8, .inl (f 1)), L 0) := hu_n eh4522 (hLay.1 1 0 (by decide) (by decide) (by decide)) ha1_4508
                    have ha1_4524 : h4524 (L 1) = some (.inl (E.2.1 0, 8, .inl (f 1)), L 0) := hu_n eh4524 (hLay.1 1 0 (by decide) (by decide) (by decide)) ha1_4522
                    have ha1_4525 : h4525 (L 1) = some (.inl (E.2.1 0, 8, .inl (f 1)), L 0) := hF4525 _ _ ha1_4524 (fun z => z.elim (hLay.1 0 24 (by decide) (by decide) (by decide)) (fun ⟨i, hi, e⟩ => hLay.2 i 0 hi (by decide) e.symm))
                    have ha1_4526 : h4526 (L 1) = some (.inl (E.2.1 0, 8, .inl (f 1)), L 0) := hu_n eh4526 (hLay.1 1 0 (by decide) (by decide) (by decide)) ha1_4525
                    have ha3_4505 : h4505 (L 3) = some (.inl (E.2.1 0, 64, .inl (f 3)), L 0) := hu_n eh4505 (hLay.1 3 0 (by decide) (by decide) (by decide)) ha3_4502
                    have ha3_4508 : h4507 (L 3) = some (.inl (E.2.1 0, 64, .inl (f 3)), L 0) := (hoth _ (hLay.1 3 0 (by decide) (by decide) (by decide)) (fun k hk => hLay.1 3 (70 + k) (by decide) (by omega) (by omega))).trans ha3_4505
                    have ha3_4522 : h4522 (L 3) = some (.inl (E.2.1 0, 64, .inl (f 3)), L 0) := hu_n eh4522 (hLay.1 3 0 (by decide) (by decide) (by decide)) ha3_4508
                    have ha3_4524 : h4524 (L 3) = some (.inl (E.2.1 0, 64, .inl (f 3)), L 0) := hu_n eh4524 (hLay.1 3 0 (by decide) (by decide) (by decide)) ha3_4522
                    have ha3_4525 : h4525 (L 3) = some (.inl (E.2.1 0, 64, .inl (f 3)), L 0) := hF4525 _ _ ha3_4524 (fun z => z.elim (hLay.1 0 24 (by decide) (by decide) (by decide)) (fun ⟨i, hi, e⟩ => hLay.2 i 0 hi (by decide) e.symm))
                    have ha3_4526 : h4526 (L 3) = some (.inl (E.2.1 0, 64, .inl (f 3)), L 0) := hu_n eh4526 (hLay.1 3 0 (by decide) (by decide) (by decide)) ha3_4525
                    have ha12_4505 : h4505 (L 12) = some (.inl (E.2.1 1, 20000, .inl (f 12)), L 0) := hu_n eh4505 (hLay.1 12 0 (by decide) (by decide) (by decide)) ha12_4502
                    have ha12_4508 : h4507 (L 12) = some (.inl (E.2.1 1, 20000, .inl (f 12)), L 0) := (hoth _ (hLay.1 12 0 (by decide) (by decide) (by decide)) (fun k hk => hLay.1 12 (70 + k) (by decide) (by omega) (by omega))).trans ha12_4505
                    have ha12_4522 : h4522 (L 12) = some (.inl (E.2.1 1, 20000, .inl (f 12)), L 0) := hu_n eh4522 (hLay.1 12 0 (by decide) (by decide) (by decide)) ha12_4508
                    have ha12_4524 : h4524 (L 12) = some (.inl (E.2.1 1, 20000, .inl (f 12)), L 0) := hu_n eh4524 (hLay.1 12 0 (by decide) (by decide) (by decide)) ha12_4522
                    have ha12_4525 : h4525 (L 12) = some (.inl (E.2.1 1, 20000, .inl (f 12)), L 0) := hF4525 _ _ ha12_4524 (fun z => z.elim (hLay.1 0 24 (by decide) (by decide) (by decide)) (fun ⟨i, hi, e⟩ => hLay.2 i 0 hi (by decide) e.symm))
                    have ha12_4526 : h4526 (L 12) = some (.inl (E.2.1 1, 20000, .inl (f 12)), L 0) := hu_n eh4526 (hLay.1 12 0 (by decide) (by decide) (by decide)) ha12_4525
                    have ha13_4505 : h4505 (L 13) = some (.inl (E.2.1 1, 20000, .inl (f 13)), L 0) := hu_n eh4505 (hLay.1 13 0 (by decide) (by decide) (by decide)) ha13_4502
                    have ha13_4508 : h4507 (L 13) = some (.inl (E.2.1 1, 20000, .inl (f 13)), L 0) := (hoth _ (hLay.1 13 0 (by decide) (by decide) (by decide)) (fun k hk => hLay.1 13 (70 + k) (by decide) (by omega) (by omega))).trans ha13_4505
                    have ha13_4522 : h4522 (L 13) = some (.inl (E.2.1 1, 20000, .inl (f 13)), L 0) := hu_n eh4522 (hLay.1 13 0 (by decide) (by decide) (by decide)) ha13_4508
                    have ha13_4524 : h4524 (L 13) = some (.inl (E.2.1 1, 20000, .inl (f 13)), L 0) := hu_n eh4524 (hLay.1 13 0 (by decide) (by decide) (by decide)) ha13_4522
                    have ha13_4525 : h4525 (L 13) = some (.inl (E.2.1 1, 20000, .inl (f 13)), L 0) := hF4525 _ _ ha13_4524 (fun z => z.elim (hLay.1 0 24 (by decide) (by decide) (by decide)) (fun ⟨i, hi, e⟩ => hLay.2 i 0 hi (by decide) e.symm))
                    have ha13_4526 : h4526 (L 13) = some (.inl (E.2.1 1, 20000, .inl (f 13)), L 0) := hu_n eh4526 (hLay.1 13 0 (by decide) (by decide) (by decide)) ha13_4525
                    have ha14_4505 : h4505 (L 14) = some (.inl (E.2.1 2, 20000, .inl (f 14)), L 0) := hu_n eh4505 (hLay.1 14 0 (by decide) (by decide) (by decide)) ha14_4502
                    have ha14_4508 : h4507 (L 14) = some (.inl (E.2.1 2, 20000, .inl (f 14)), L 0) := (hoth _ (hLay.1 14 0 (by decide) (by decide) (by decide)) (fun k hk => hLay.1 14 (70 + k) (by decide) (by omega) (by omega))).trans ha14_4505
                    have ha14_4522 : h4522 (L 14) = some (.inl (E.2.1 2, 20000, .inl (f 14)), L 0) := hu_n eh4522 (hLay.1 14 0 (by decide) (by decide) (by decide)) ha14_4508
                    have ha14_4524 : h4524 (L 14) = some (.inl (E.2.1 2, 20000, .inl (f 14)), L 0) := hu_n eh4524 (hLay.1 14 0 (by decide) (by decide) (by decide)) ha14_4522
                    have ha14_4525 : h4525 (L 14) = some (.inl (E.2.1 2, 20000, .inl (f 14)), L 0) := hF4525 _ _ ha14_4524 (fun z => z.elim (hLay.1 0 24 (by decide) (by decide) (by decide)) (fun ⟨i, hi, e⟩ => hLay.2 i 0 hi (by decide) e.symm))
                    have ha14_4526 : h4526 (L 14) = some (.inl (E.2.1 2, 20000, .inl (f 14)), L 0) := hu_n eh4526 (hLay.1 14 0 (by decide) (by decide) (by decide)) ha14_4525
                    have ha15_4505 : h4505 (L 15) = some (.inl (E.2.1 3, 8, .inl r), L 0) := hu_n eh4505 (hLay.1 15 0 (by decide) (by decide) (by decide)) ha15_4502
                    have ha15_4508 : h4507 (L 15) = some (.inl (E.2.1 3, 8, .inl r), L 0) := (hoth _ (hLay.1 15 0 (by decide) (by decide) (by decide)) (fun k hk => hLay.1 15 (70 + k) (by decide) (by omega) (by omega))).trans ha15_4505
                    have ha15_4522 : h4522 (L 15) = some (.inl (E.2.1 3, 8, .inl r), L 0) := hu_n eh4522 (hLay.1 15 0 (by decide) (by decide) (by decide)) ha15_4508
                    have ha15_4524 : h4524 (L 15) = some (.inl (E.2.1 3, 8, .inl r), L 0) := hu_n eh4524 (hLay.1 15 0 (by decide) (by decide) (by decide)) ha15_4522
                    have ha15_4525 : h4525 (L 15) = some (.inl (E.2.1 3, 8, .inl r), L 0) := hF4525 _ _ ha15_4524 (fun z => z.elim (hLay.1 0 24 (by decide) (by decide) (by decide)) (fun ⟨i, hi, e⟩ => hLay.2 i 0 hi (by decide) e.symm))
                    have ha15_4526 : h4526 (L 15) = some (.inl (E.2.1 3, 8, .inl r), L 0) := hu_n eh4526 (hLay.1 15 0 (by decide) (by decide) (by decide)) ha15_4525
                    have ha16_4505 : h4505 (L 16) = some (.inl (E.2.1 0, 8, .inl (f 16)), L 0) := hu_n eh4505 (hLay.1 16 0 (by decide) (by decide) (by decide)) ha16_4502
                    have ha16_4508 : h4507 (L 16) = some (.inl (E.2.1 0, 8, .inl (f 16)), L 0) := (hoth _ (hLay.1 16 0 (by decide) (by decide) (by decide)) (fun k hk => hLay.1 16 (70 + k) (by decide) (by omega) (by omega))).trans ha16_4505
                    have ha16_4522 : h4522 (L 16) = some (.inl (E.2.1 0, 8, .inl (f 16)), L 0) := hu_n eh4522 (hLay.1 16 0 (by decide) (by decide) (by decide)) ha16_4508
                    have ha16_4524 : h4524 (L 16) = some (.inl (E.2.1 0, 8, .inl (f 16)), L 0) := hu_n eh4524 (hLay.1 16 0 (by decide) (by decide) (by decide)) ha16_4522
                    have ha16_4525 : h4525 (L 16) = some (.inl (E.2.1 0, 8, .inl (f 16)), L 0) := hF4525 _ _ ha16_4524 (fun z => z.elim (hLay.1 0 24 (by decide) (by decide) (by decide)) (fun ⟨i, hi, e⟩ => hLay.2 i 0 hi (by decide) e.symm))
                    have ha16_4526 : h4526 (L 16) = some (.inl (E.2.1 0, 8, .inl (f 16)), L 0) := hu_n eh4526 (hLay.1 16 0 (by decide) (by decide) (by decide)) ha16_4525
                    have ha17_4505 : h4505 (L 17) = some (.inl (E.2.1 0, 8, .inl (f 17)), L 0) := hu_n eh4505 (hLay.1 17 0 (by decide) (by decide) (by decide)) ha17_4502
                    have ha17_4508 : h4507 (L 17) = some (.inl (E.2.1 0, 8, .inl (f 17)), L 0) := (hoth _ (hLay.1 17 0 (by decide) (by decide) (by decide)) (fun k hk => hLay.1 17 (70 + k) (by decide) (by omega) (by omega))).trans ha17_4505
                    have ha17_4522 : h4522 (L 17) = some (.inl (E.2.1 0, 8, .inl (f 17)), L 0) := hu_n eh4522 (hLay.1 17 0 (by decide) (by decide) (by decide)) ha17_4508
                    have ha17_4524 : h4524 (L 17) = some (.inl (E.2.1 0, 8, .inl (f 17)), L 0) := hu_n eh4524 (hLay.1 17 0 (by decide) (by decide) (by decide)) ha17_4522
                    have ha17_4525 : h4525 (L 17) = some (.inl (E.2.1 0, 8, .inl (f 17)), L 0) := hF4525 _ _ ha17_4524 (fun z => z.elim (hLay.1 0 24 (by decide) (by decide) (by decide)) (fun ⟨i, hi, e⟩ => hLay.2 i 0 hi (by decide) e.symm))
                    have ha17_4526 : h4526 (L 17) = some (.inl (E.2.1 0, 8, .inl (f 17)), L 0) := hu_n eh4526 (hLay.1 17 0 (by decide) (by decide) (by decide)) ha17_4525
                    have ha39_4505 : h4505 (L 39) = some (.inl (E.2.1 3, 961, .inl (f 39)), L 0) := hu_n eh4505 (hLay.1 39 0 (by decide) (by decide) (by decide)) ha39_4502
                    have ha39_4508 : h4507 (L 39) = some (.inl (E.2.1 3, 961, .inl (f 39)), L 0) := (hoth _ (hLay.1 39 0 (by decide) (by decide) (by decide)) (fun k hk => hLay.1 39 (70 + k) (by decide) (by omega) (by omega))).trans ha39_4505
                    have ha39_4522 : h4522 (L 39) = some (.inl (E.2.1 3, 961, .inl (f 39)), L 0) := hu_n eh4522 (hLay.1 39 0 (by decide) (by decide) (by decide)) ha39_4508
                    have ha39_4524 : h4524 (L 39) = some (.inl (E.2.1 3, 961, .inl (f 39)), L 0) := hu_n eh4524 (hLay.1 39 0 (by decide) (by decide) (by decide)) ha39_4522
                    have ha39_4525 : h4525 (L 39) = some (.inl (E.2.1 3, 961, .inl (f 39)), L 0) := hF4525 _ _ ha39_4524 (fun z => z.elim (hLay.1 0 24 (by decide) (by decide) (by decide)) (fun ⟨i, hi, e⟩ => hLay.2 i 0 hi (by decide) e.symm))
                    have ha39_4526 : h4526 (L 39) = some (.inl (E.2.1 3, 961, .inl (f 39)), L 0) := hu_n eh4526 (hLay.1 39 0 (by decide) (by decide) (by decide)) ha39_4525
                    have hSt_4525 : Stt E L B h4525 := Stt.kept hF4525 (fun z => z.elim (hLay.1 30 24 (by decide) (by decide) (by decide)) (fun ⟨i, hi, e⟩ => hLay.2 i 30 hi (by decide) e.symm)) hSt_4524
                    have hSt_4526 : Stt E L B h4526 := Stt.kept (O := (· = L 0)) (hu_f eh4526 Fr.rf ho0_4525 rfl) (hLay.1 30 0 (by decide) (by decide) (by decide)) hSt_4525
                    have hP4525_4526 : Prs L B pw2 pl2 ps2 h4526 := Prs.kept (O := (· = L 0)) (hu_f eh4526 Fr.rf ho0_4525 rfl) (hLay.1 24 0 (by decide) (by decide) (by decide)) hP4525
                    have hCn_4505 : Cns h4505 E L (nI1 (M 8)) (N 10) := Cns.kept (O := (· = L 0)) (hu_f eh4505 Fr.rf ho0_4502 rfl) (hLay.1 26 0 (by decide) (by decide) (by decide)) hCn_4502
                    have hCn_4508 : Cns h4507 E L (nI1 (M 8)) (N 10) := Cns.kept hFo (fun z => z.elim (hLay.1 26 0 (by decide) (by decide) (by decide)) (hLay.1 26 24 (by decide) (by decide) (by decide))) hCn_4505
                    have hCn_4522 : Cns h4522 E L (nI1 (M 8)) (N 10) := Cns.kept (O := (· = L 0)) (hu_f eh4522 Fr.rf ho0_4507 rfl) (hLay.1 26 0 (by decide) (by decide) (by decide)) hCn_4508
                    have hCn_4524 : Cns h4524 E L (nI1 (M 8)) (N 10) := Cns.kept (O := (· = L 0)) (hu_f eh4524 Fr.rf ho0_4522 rfl) (hLay.1 26 0 (by decide) (by decide) (by decide)) hCn_4522
                    have hCn_4525 : Cns h4525 E L (nI1 (M 8)) (N 10) := Cns.kept hF4525 (fun z => z.elim (hLay.1 26 24 (by decide) (by decide) (by decide)) (fun ⟨i, hi, e⟩ => hLay.2 i 26 hi (by decide) e.symm)) hCn_4524
                    have hCn_4526 : Cns h4526 E L (nI1 (M 8)) (N 10) := Cns.kept (O := (· = L 0)) (hu_f eh4526 Fr.rf ho0_4525 rfl) (hLay.1 26 0 (by decide) (by decide) (by decide)) hCn_4525
                    have hSd_4505 : Sds h4505 E L (nI1 (M 6)) (N 9) := Sds.kept (O := (· = L 0)) (hu_f eh4505 Fr.rf ho0_4502 rfl) (hLay.1 27 0 (by decide) (by decide) (by decide)) hSd_4502
                    have hSd_4508 : Sds h4507 E L (nI1 (M 6)) (N 9) := Sds.kept hFo (fun z => z.elim (hLay.1 27 0 (by decide) (by decide) (by decide)) (hLay.1 27 24 (by decide) (by decide) (by decide))) hSd_4505
                    have hSd_4522 : Sds h4522 E L (nI1 (M 6)) (N 9) := Sds.kept (O := (· = L 0)) (hu_f eh4522 Fr.rf ho0_4507 rfl) (hLay.1 27 0 (by decide) (by decide) (by decide)) hSd_4508
                    have hSd_4524 : Sds h4524 E L (nI1 (M 6)) (N 9) := Sds.kept (O := (· = L 0)) (hu_f eh4524 Fr.rf ho0_4522 rfl) (hLay.1 27 0 (by decide) (by decide) (by decide)) hSd_4522
                    have hSd_4525 : Sds h4525 E L (nI1 (M 6)) (N 9) := Sds.kept hF4525 (fun z => z.elim (hLay.1 27 24 (by decide) (by decide) (by decide)) (fun ⟨i, hi, e⟩ => hLay.2 i 27 hi (by decide) e.symm)) hSd_4524
                    have hSd_4526 : Sds h4526 E L (nI1 (M 6)) (N 9) := Sds.kept (O := (· = L 0)) (hu_f eh4526 Fr.rf ho0_4525 rfl) (hLay.1 27 0 (by decide) (by decide) (by decide)) hSd_4525
                    have hDg_4505 : Dgo h4505 E L rs := Dgo.kept (O := (· = L 0)) (hu_f eh4505 Fr.rf ho0_4502 rfl) (hLay.1 62 0 (by decide) (by decide) (by decide)) hDg_4502
                    have hDg_4508 : Dgo h4507 E L rs := Dgo.kept hFo (fun z => z.elim (hLay.1 62 0 (by decide) (by decide) (by decide)) (hLay.1 62 24 (by decide) (by decide) (by decide))) hDg_4505
                    have hDg_4522 : Dgo h4522 E L rs := Dgo.kept (O := (· = L 0)) (hu_f eh4522 Fr.rf ho0_4507 rfl) (hLay.1 62 0 (by decide) (by decide) (by decide)) hDg_4508
                    have hDg_4524 : Dgo h4524 E L rs := Dgo.kept (O := (· = L 0)) (hu_f eh4524 Fr.rf ho0_4522 rfl) (hLay.1 62 0 (by decide) (by decide) (by decide)) hDg_4522
                    have hDg_4525 : Dgo h4525 E L rs := Dgo.kept hF4525 (fun z => z.elim (hLay.1 62 24 (by decide) (by decide) (by decide)) (fun ⟨i, hi, e⟩ => hLay.2 i 62 hi (by decide) e.symm)) hDg_4524
                    have hDg_4526 : Dgo h4526 E L rs := Dgo.kept (O := (· = L 0)) (hu_f eh4526 Fr.rf ho0_4525 rfl) (hLay.1 62 0 (by decide) (by decide) (by decide)) hDg_4525
                    have hB4525_4526 : Bgs E h4526 B V2 cp := Bgs.kept (O := (· = L 0)) (hu_f eh4526 Fr.rf ho0_4525 rfl) (fun i hi => hLay.2 i 0 hi (by decide)) hB4525
                    exact Z _ _ _ _ _ _ _ dX1_start_187 (Nat.zero_le _) (Nat.zero_le _) ⟨hcd, rfl, ⟨K, gu f 15 r, rs, pw2, pl2, ps2, V2, ⟨ho0_4526, ha1_4526, ha3_4526, ha12_4526, ha13_4526, ha14_4526, ha15_4526, ha16_4526, ha17_4526, ha39_4526⟩, ⟨r1, r3, r12, r13, r14, fun _ => hrw, r16, r17, fun _ => hK, hK16⟩, ⟨(hkp4525 2 (by decide)).trans hVr.1, (hkp4525 3 (by decide)).trans hVr.2.1, fun _ z => absurd z (show (0 : Nat) ≠ 1 by decide), fun _ k hk => ⟨(hv4525 k (by rw [hK]; exact hk)).1.trans (st_pA (iz cS).1 i0 k hk).1.symm, (hv4525 k (by rw [hK]; exact hk)).2.1.trans (st_pA (iz cS).1 i0 k hk).2.symm, (hpw2 k (by rw [hK]; exact hk)).1, (hpw2 k (by rw [hK]; exact hk)).2, (hv4525 k (by rw [hK]; exact hk)).2.2⟩⟩, hSt_4526, hP4525_4526, hCn_4526, hSd_4526, hDg_4526, hB4525_4526⟩, hF_4526, rfl, rfl⟩ T4526
                  · obtain rfl : cm = 1 := (by omega)
                    have hSt_4505 : Stt E L B h4505 := Stt.kept (O := (· = L 0)) (hu_f eh4505 Fr.rf ho0_4502 rfl) (hLay.1 30 0 (by decide) (by decide) (by decide)) hSt_4502
                    have hSt_4508 : Stt E L B h4507 := Stt.kept hFo (fun z => z.elim (hLay.1 30 0 (by decide) (by decide) (by decide)) (hLay.1 30 24 (by decide) (by decide) (by decide))) hSt_4505
                    have hSt_4522 : Stt E L B h4522 := Stt.kept (O := (· = L 0)) (hu_f eh4522 Fr.rf ho0_4507 rfl) (hLay.1 30 0 (by decide) (by decide) (by decide)) hSt_4508
                    have hst30x4527 := (hSt_4522).2.2.2.2.1
                    refine lv_aload_n hx hb dX1_start_159 rfl (lv_at hl4507 0 rfl) ?_
                    refine hr_get C T4522 ho0_4522 rfl in_X1 29 (by decide) q328 rfl rfl dX1_start_160 ?_
                    refine lv_goto (tgt := 170) hx hb dX1_start_163 (by decide) ?_
                    refine hr_put C T4522 ho0_4522 rfl in_X1 tyX1 tyX1_ok nmX1 30 (by decide) q329 rfl rfl rfl rfl (Nat.le_of_ble_eq_true rfl) dX1_start_170 (fun h4528 H4528 locs4528 eh4528 T4528 => ?_)
                    have ho0_4528 : h4528 (L 0) = some (.inr (0, [.ref (L 1), .int (nI (N 0)), .ref (L 3), .int (nI (N 1)), .int (nI (N 2)), .int (nI (N 3)), .int (nI (N 4)), .int (nI (N 5)), .int (nI (N 6)), .int (nI (N 7)), .int (nI (N 8)), .ref (L 12), .ref (L 13), .ref (L 14), .ref (L 15), .ref (L 16), .ref (L 17), .int (nI (N 11)), .int (nI (N 15)), .int (nI (N 16)), .int (nI (N 17)), .int (nI (N 18) - 1), .int (nI (N 19)), .ref (L 24), .int (nI K), .ref (L 26), .ref (L 27), .ref (L 26), .ref (L 29), .ref (L 30), .ref (L 30), .ref (L 32), .ref (B 0), .ref (B 1), .ref (B 2), .ref (B 3), .ref (L 37), .ref (L 38), .ref (L 39), .ref (B 4), .ref (B 5)]), L 0) := hu_s eh4528
                    have hF_4528 : Fr (CO L B) h h4528 := hu_f eh4528 hF_4522 ho0_4522 (Or.inl rfl)
                    refine lv_aload_n hx hb dX1_start_173 rfl (lv_at hl4507 0 rfl) ?_
                    refine hr_get C T4528 ho0_4528 rfl in_X1 30 (by decide) q329 rfl rfl dX1_start_174 ?_
                    have hB_4505 : Bgs E h4505 B V cp := Bgs.kept (O := (· = L 0)) (hu_f eh4505 Fr.rf ho0_4502 rfl) (fun i hi => hLay.2 i 0 hi (by decide)) hB_4502
                    have hB_4508 : Bgs E h4507 B V cp := Bgs.kept hFo (fun i hi z => z.elim (hLay.2 i 0 hi (by decide)) (hLay.2 i 24 hi (by decide))) hB_4505
                    have hB_4522 : Bgs E h4522 B V cp := Bgs.kept (O := (· = L 0)) (hu_f eh4522 Fr.rf ho0_4507 rfl) (fun i hi => hLay.2 i 0 hi (by decide)) hB_4508
                    have hB_4528 : Bgs E h4528 B V cp := Bgs.kept (O := (· = L 0)) (hu_f eh4528 Fr.rf ho0_4522 rfl) (fun i hi => hLay.2 i 0 hi (by decide)) hB_4522
                    have hSt_4528 : Stt E L B h4528 := Stt.kept (O := (· = L 0)) (hu_f eh4528 Fr.rf ho0_4522 rfl) (hLay.1 30 0 (by decide) (by decide) (by decide)) hSt_4522
                    have hP2_4522 : Prs L B pw2 pl2 ps h4522 := Prs.kept (O := (· = L 0)) (hu_f eh4522 Fr.rf ho0_4507 rfl) (hLay.1 24 0 (by decide) (by decide) (by decide)) hP2
                    have hP2_4528 : Prs L B pw2 pl2 ps h4528 := Prs.kept (O := (· = L 0)) (hu_f eh4528 Fr.rf ho0_4522 rfl) (hLay.1 24 0 (by decide) (by decide) (by decide)) hP2_4522
                    have hst30x4527_4528 : h4528 (L 30) = some (.inr (6, [.ref (L 0), .ref (B 6), .ref (B 7)]), L 30) := hu_n eh4528 (hLay.1 30 0 (by decide) (by decide) (by decide)) hst30x4527
                    refine hc_F C T4528 hl4507.1 hst30x4527_4528 rfl (m_X6_begin (M := M) (g := f 1) (N := nu (nu N 12 1) 13 0) (pp := K) hLay hB_4528 ho0_4528 hSt_4528 hP2_4528 hK16) 5 rfl q665 q669 q671 q58 q673 kdF_5 rfl rfl ⟨Nat.le_of_ble_eq_true rfl, Nat.le_of_ble_eq_true rfl⟩ (Nat.le_of_ble_eq_true rfl) dX1_start_177 ⟨Nat.le_of_ble_eq_true rfl, Nat.le_of_ble_eq_true rfl⟩ (fun rv h4529 H4529 locs4529 hp4529 T4529 => ?_)
                    obtain ⟨rfl, V2, ps2, hB4529, hP4529, hv4529, hkp4529, hF4529⟩ := hp4529
                    have hF_4529 : Fr (CO L B) h h4529 := hF_4528.tr (hF4529.mono (fun _ z => z.elim (fun z => Or.inr (Or.inl z)) (fun z => Or.inr (Or.inr (Or.inr (Or.inr (Or.inr z)))))))
                    refine W.eq (g2 := F0 m 182 ls4507 []) rfl ?_
                    refine lv_aload_n hx hb dX1_start_182 rfl (lv_at hl4507 0 rfl) ?_
                    refine lv_iconst (v := nI 1) hx hb dX1_start_183 rfl ?_
                    have ho0_4529 : h4529 (L 0) = some (.inr (0, [.ref (L 1), .int (nI (N 0)), .ref (L 3), .int (nI (N 1)), .int (nI (N 2)), .int (nI (N 3)), .int (nI (N 4)), .int (nI (N 5)), .int (nI (N 6)), .int (nI (N 7)), .int (nI (N 8)), .ref (L 12), .ref (L 13), .ref (L 14), .ref (L 15), .ref (L 16), .ref (L 17), .int (nI (N 11)), .int (nI (N 15)), .int (nI (N 16)), .int (nI (N 17)), .int (nI (N 18) - 1), .int (nI (N 19)), .ref (L 24), .int (nI K), .ref (L 26), .ref (L 27), .ref (L 26), .ref (L 29), .ref (L 30), .ref (L 30), .ref (L 32), .ref (B 0), .ref (B 1), .ref (B 2), .ref (B 3), .ref (L 37), .ref (L 38), .ref (L 39), .ref (B 4), .ref (B 5)]), L 0) := hF4529 _ _ ho0_4528 (fun z => z.elim (hLay.1 0 24 (by decide) (by decide) (by decide)) (fun ⟨i, hi, e⟩ => hLay.2 i 0 hi (by decide) e.symm))
                    refine hr_put C T4529 ho0_4529 rfl in_X1 tyX1 tyX1_ok nmX1 17 (by decide) q312 rfl rfl rfl rfl (Nat.le_of_ble_eq_true rfl) dX1_start_184 (fun h4530 H4530 locs4530 eh4530 T4530 => ?_)
                    have ho0_4530 : h4530 (L 0) = some (.inr (0, [.ref (L 1), .int (nI (N 0)), .ref (L 3), .int (nI (N 1)), .int (nI (N 2)), .int (nI (N 3)), .int (nI (N 4)), .int (nI (N 5)), .int (nI (N 6)), .int (nI (N 7)), .int (nI (N 8)), .ref (L 12), .ref (L 13), .ref (L 14), .ref (L 15), .ref (L 16), .ref (L 17), .int (nI 1), .int (nI (N 15)), .int (nI (N 16)), .int (nI (N 17)), .int (nI (N 18) - 1), .int (nI (N 19)), .ref (L 24), .int (nI K), .ref (L 26), .ref (L 27), .ref (L 26), .ref (L 29), .ref (L 30), .ref (L 30), .ref (L 32), .ref (B 0), .ref (B 1), .ref (B 2), .ref (B 3), .ref (L 37), .ref (L 38), .ref (L 39), .ref (B 4), .ref (B 5)]), L 0) := hu_s eh4530
                    have hF_4530 : Fr (CO L B) h h4530 := hu_f eh4530 hF_4529 ho0_4529 (Or.inl rfl)
                    have ha1_4505 : h4505 (L 1) = some (.inl (E.2.1 0, 8, .inl (f 1)), L 0) := hu_n eh4505 (hLay.1 1 0 (by decide) (by decide) (by decide)) ha1_4502
                    have ha1_4508 : h4507 (L 1) = some (.inl (E.2.1 0, 8, .inl (f 1)), L 0) := (hoth _ (hLay.1 1 0 (by decide) (by decide) (by decide)) (fun k hk => hLay.1 1 (70 + k) (by decide) (by omega) (by omega))).trans ha1_4505
                    have ha1_4522 : h4522 (L 1) = some (.inl (E.2.1 0, 8, .inl (f 1)), L 0) := hu_n eh4522 (hLay.1 1 0 (by decide) (by decide) (by decide)) ha1_4508
                    have ha1_4528 : h4528 (L 1) = some (.inl (E.2.1 0, 8, .inl (f 1)), L 0) := hu_n eh4528 (hLay.1 1 0 (by decide) (by decide) (by decide)) ha1_4522
                    have ha1_4529 : h4529 (L 1) = some (.inl (E.2.1 0, 8, .inl (f 1)), L 0) := hF4529 _ _ ha1_4528 (fun z => z.elim (hLay.1 0 24 (by decide) (by decide) (by decide)) (fun ⟨i, hi, e⟩ => hLay.2 i 0 hi (by decide) e.symm))
                    have ha1_4530 : h4530 (L 1) = some (.inl (E.2.1 0, 8, .inl (f 1)), L 0) := hu_n eh4530 (hLay.1 1 0 (by decide) (by decide) (by decide)) ha1_4529
                    have ha3_4505 : h4505 (L 3) = some (.inl (E.2.1 0, 64, .inl (f 3)), L 0) := hu_n eh4505 (hLay.1 3 0 (by decide) (by decide) (by decide)) ha3_4502
                    have ha3_4508 : h4507 (L 3) = some (.inl (E.2.1 0, 64, .inl (f 3)), L 0) := (hoth _ (hLay.1 3 0 (by decide) (by decide) (by decide)) (fun k hk => hLay.1 3 (70 + k) (by decide) (by omega) (by omega))).trans ha3_4505
                    have ha3_4522 : h4522 (L 3) = some (.inl (E.2.1 0, 64, .inl (f 3)), L 0) := hu_n eh4522 (hLay.1 3 0 (by decide) (by decide) (by decide)) ha3_4508
                    have ha3_4528 : h4528 (L 3) = some (.inl (E.2.1 0, 64, .inl (f 3)), L 0) := hu_n eh4528 (hLay.1 3 0 (by decide) (by decide) (by decide)) ha3_4522
                    have ha3_4529 : h4529 (L 3) = some (.inl (E.2.1 0, 64, .inl (f 3)), L 0) := hF4529 _ _ ha3_4528 (fun z => z.elim (hLay.1 0 24 (by decide) (by decide) (by decide)) (fun ⟨i, hi, e⟩ => hLay.2 i 0 hi (by decide) e.symm))
                    have ha3_4530 : h4530 (L 3) = some (.inl (E.2.1 0, 64, .inl (f 3)), L 0) := hu_n eh4530 (hLay.1 3 0 (by decide) (by decide) (by decide)) ha3_4529
                    have ha12_4505 : h4505 (L 12) = some (.inl (E.2.1 1, 20000, .inl (f 12)), L 0) := hu_n eh4505 (hLay.1 12 0 (by decide) (by decide) (by decide)) ha12_4502
                    have ha12_4508 : h4507 (L 12) = some (.inl (E.2.1 1, 20000, .inl (f 12)), L 0) := (hoth _ (hLay.1 12 0 (by decide) (by decide) (by decide)) (fun k hk => hLay.1 12 (70 + k) (by decide) (by omega) (by omega))).trans ha12_4505
                    have ha12_4522 : h4522 (L 12) = some (.inl (E.2.1 1, 20000, .inl (f 12)), L 0) := hu_n eh4522 (hLay.1 12 0 (by decide) (by decide) (by decide)) ha12_4508
                    have ha12_4528 : h4528 (L 12) = some (.inl (E.2.1 1, 20000, .inl (f 12)), L 0) := hu_n eh4528 (hLay.1 12 0 (by decide) (by decide) (by decide)) ha12_4522
                    have ha12_4529 : h4529 (L 12) = some (.inl (E.2.1 1, 20000, .inl (f 12)), L 0) := hF4529 _ _ ha12_4528 (fun z => z.elim (hLay.1 0 24 (by decide) (by decide) (by decide)) (fun ⟨i, hi, e⟩ => hLay.2 i 0 hi (by decide) e.symm))
                    have ha12_4530 : h4530 (L 12) = some (.inl (E.2.1 1, 20000, .inl (f 12)), L 0) := hu_n eh4530 (hLay.1 12 0 (by decide) (by decide) (by decide)) ha12_4529
                    have ha13_4505 : h4505 (L 13) = some (.inl (E.2.1 1, 20000, .inl (f 13)), L 0) := hu_n eh4505 (hLay.1 13 0 (by decide) (by decide) (by decide)) ha13_4502
                    have ha13_4508 : h4507 (L 13) = some (.inl (E.2.1 1, 20000, .inl (f 13)), L 0) := (hoth _ (hLay.1 13 0 (by decide) (by decide) (by decide)) (fun k hk => hLay.1 13 (70 + k) (by decide) (by omega) (by omega))).trans ha13_4505
                    have ha13_4522 : h4522 (L 13) = some (.inl (E.2.1 1, 20000, .inl (f 13)), L 0) := hu_n eh4522 (hLay.1 13 0 (by decide) (by decide) (by decide)) ha13_4508
                    have ha13_4528 : h4528 (L 13) = some (.inl (E.2.1 1, 20000, .inl (f 13)), L 0) := hu_n eh4528 (hLay.1 13 0 (by decide) (by decide) (by decide)) ha13_4522
                    have ha13_4529 : h4529 (L 13) = some (.inl (E.2.1 1, 20000, .inl (f 13)), L 0) := hF4529 _ _ ha13_4528 (fun z => z.elim (hLay.1 0 24 (by decide) (by decide) (by decide)) (fun ⟨i, hi, e⟩ => hLay.2 i 0 hi (by decide) e.symm))
                    have ha13_4530 : h4530 (L 13) = some (.inl (E.2.1 1, 20000, .inl (f 13)), L 0) := hu_n eh4530 (hLay.1 13 0 (by decide) (by decide) (by decide)) ha13_4529
                    have ha14_4505 : h4505 (L 14) = some (.inl (E.2.1 2, 20000, .inl (f 14)), L 0) := hu_n eh4505 (hLay.1 14 0 (by decide) (by decide) (by decide)) ha14_4502
                    have ha14_4508 : h4507 (L 14) = some (.inl (E.2.1 2, 20000, .inl (f 14)), L 0) := (hoth _ (hLay.1 14 0 (by decide) (by decide) (by decide)) (fun k hk => hLay.1 14 (70 + k) (by decide) (by omega) (by omega))).trans ha14_4505
                    have ha14_4522 : h4522 (L 14) = some (.inl (E.2.1 2, 20000, .inl (f 14)), L 0) := hu_n eh4522 (hLay.1 14 0 (by decide) (by decide) (by decide)) ha14_4508
                    have ha14_4528 : h4528 (L 14) = some (.inl (E.2.1 2, 20000, .inl (f 14)), L 0) := hu_n eh4528 (hLay.1 14 0 (by decide) (by decide) (by decide)) ha14_4522
                    have ha14_4529 : h4529 (L 14) = some (.inl (E.2.1 2, 20000, .inl (f 14)), L 0) := hF4529 _ _ ha14_4528 (fun z => z.elim (hLay.1 0 24 (by decide) (by decide) (by decide)) (fun ⟨i, hi, e⟩ => hLay.2 i 0 hi (by decide) e.symm))
                    have ha14_4530 : h4530 (L 14) = some (.inl (E.2.1 2, 20000, .inl (f 14)), L 0) := hu_n eh4530 (hLay.1 14 0 (by decide) (by decide) (by decide)) ha14_4529
                    have ha15_4505 : h4505 (L 15) = some (.inl (E.2.1 3, 8, .inl r), L 0) := hu_n eh4505 (hLay.1 15 0 (by decide) (by decide) (by decide)) ha15_4502
                    have ha15_4508 : h4507 (L 15) = some (.inl (E.2.1 3, 8, .inl r), L 0) := (hoth _ (hLay.1 15 0 (by decide) (by decide) (by decide)) (fun k hk => hLay.1 15 (70 + k) (by decide) (by omega) (by omega))).trans ha15_4505
                    have ha15_4522 : h4522 (L 15) = some (.inl (E.2.1 3, 8, .inl r), L 0) := hu_n eh4522 (hLay.1 15 0 (by decide) (by decide) (by decide)) ha15_4508
                    have ha15_4528 : h4528 (L 15) = some (.inl (E.2.1 3, 8, .inl r), L 0) := hu_n eh4528 (hLay.1 15 0 (by decide) (by decide) (by decide)) ha15_4522
                    have ha15_4529 : h4529 (L 15) = some (.inl (E.2.1 3, 8, .inl r), L 0) := hF4529 _ _ ha15_4528 (fun z => z.elim (hLay.1 0 24 (by decide) (by decide) (by decide)) (fun ⟨i, hi, e⟩ => hLay.2 i 0 hi (by decide) e.symm))
                    have ha15_4530 : h4530 (L 15) = some (.inl (E.2.1 3, 8, .inl r), L 0) := hu_n eh4530 (hLay.1 15 0 (by decide) (by decide) (by decide)) ha15_4529
                    have ha16_4505 : h4505 (L 16) = some (.inl (E.2.1 0, 8, .inl (f 16)), L 0) := hu_n eh4505 (hLay.1 16 0 (by decide) (by decide) (by decide)) ha16_4502
                    have ha16_4508 : h4507 (L 16) = some (.inl (E.2.1 0, 8, .inl (f 16)), L 0) := (hoth _ (hLay.1 16 0 (by decide) (by decide) (by decide)) (fun k hk => hLay.1 16 (70 + k) (by decide) (by omega) (by omega))).trans ha16_4505
                    have ha16_4522 : h4522 (L 16) = some (.inl (E.2.1 0, 8, .inl (f 16)), L 0) := hu_n eh4522 (hLay.1 16 0 (by decide) (by decide) (by decide)) ha16_4508
                    have ha16_4528 : h4528 (L 16) = some (.inl (E.2.1 0, 8, .inl (f 16)), L 0) := hu_n eh4528 (hLay.1 16 0 (by decide) (by decide) (by decide)) ha16_4522
                    have ha16_4529 : h4529 (L 16) = some (.inl (E.2.1 0, 8, .inl (f 16)), L 0) := hF4529 _ _ ha16_4528 (fun z => z.elim (hLay.1 0 24 (by decide) (by decide) (by decide)) (fun ⟨i, hi, e⟩ => hLay.2 i 0 hi (by decide) e.symm))
                    have ha16_4530 : h4530 (L 16) = some (.inl (E.2.1 0, 8, .inl (f 16)), L 0) := hu_n eh4530 (hLay.1 16 0 (by decide) (by decide) (by decide)) ha16_4529
                    have ha17_4505 : h4505 (L 17) = some (.inl (E.2.1 0, 8, .inl (f 17)), L 0) := hu_n eh4505 (hLay.1 17 0 (by decide) (by decide) (by decide)) ha17_4502
                    have ha17_4508 : h4507 (L 17) = some (.inl (E.2.1 0, 8, .inl (f 17)), L 0) := (hoth _ (hLay.1 17 0 (by decide) (by decide) (by decide)) (fun k hk => hLay.1 17 (70 + k) (by decide) (by omega) (by omega))).trans ha17_4505
                    have ha17_4522 : h4522 (L 17) = some (.inl (E.2.1 0, 8, .inl (f 17)), L 0) := hu_n eh4522 (hLay.1 17 0 (by decide) (by decide) (by decide)) ha17_4508
                    have ha17_4528 : h4528 (L 17) = some (.inl (E.2.1 0, 8, .inl (f 17)), L 0) := hu_n eh4528 (hLay.1 17 0 (by decide) (by decide) (by decide)) ha17_4522
                    have ha17_4529 : h4529 (L 17) = some (.inl (E.2.1 0, 8, .inl (f 17)), L 0) := hF4529 _ _ ha17_4528 (fun z => z.elim (hLay.1 0 24 (by decide) (by decide) (by decide)) (fun ⟨i, hi, e⟩ => hLay.2 i 0 hi (by decide) e.symm))
                    have ha17_4530 : h4530 (L 17) = some (.inl (E.2.1 0, 8, .inl (f 17)), L 0) := hu_n eh4530 (hLay.1 17 0 (by decide) (by decide) (by decide)) ha17_4529
                    have ha39_4505 : h4505 (L 39) = some (.inl (E.2.1 3, 961, .inl (f 39)), L 0) := hu_n eh4505 (hLay.1 39 0 (by decide) (by decide) (by decide)) ha39_4502
                    have ha39_4508 : h4507 (L 39) = some (.inl (E.2.1 3, 961, .inl (f 39)), L 0) := (hoth _ (hLay.1 39 0 (by decide) (by decide) (by decide)) (fun k hk => hLay.1 39 (70 + k) (by decide) (by omega) (by omega))).trans ha39_4505
                    have ha39_4522 : h4522 (L 39) = some (.inl (E.2.1 3, 961, .inl (f 39)), L 0) := hu_n eh4522 (hLay.1 39 0 (by decide) (by decide) (by decide)) ha39_4508
                    have ha39_4528 : h4528 (L 39) = some (.inl (E.2.1 3, 961, .inl (f 39)), L 0) := hu_n eh4528 (hLay.1 39 0 (by decide) (by decide) (by decide)) ha39_4522
                    have ha39_4529 : h4529 (L 39) = some (.inl (E.2.1 3, 961, .inl (f 39)), L 0) := hF4529 _ _ ha39_4528 (fun z => z.elim (hLay.1 0 24 (by decide) (by decide) (by decide)) (fun ⟨i, hi, e⟩ => hLay.2 i 0 hi (by decide) e.symm))
                    have ha39_4530 : h4530 (L 39) = some (.inl (E.2.1 3, 961, .inl (f 39)), L 0) := hu_n eh4530 (hLay.1 39 0 (by decide) (by decide) (by decide)) ha39_4529
                    have hSt_4529 : Stt E L B h4529 := Stt.kept hF4529 (fun z => z.elim (hLay.1 30 24 (by decide) (by decide) (by decide)) (fun ⟨i, hi, e⟩ => hLay.2 i 30 hi (by decide) e.symm)) hSt_4528
                    have hSt_4530 : Stt E L B h4530 := Stt.kept (O := (· = L 0)) (hu_f eh4530 Fr.rf ho0_4529 rfl) (hLay.1 30 0 (by decide) (by decide) (by decide)) hSt_4529
                    have hP4529_4530 : Prs L B pw2 pl2 ps2 h4530 := Prs.kept (O := (· = L 0)) (hu_f eh4530 Fr.rf ho0_4529 rfl) (hLay.1 24 0 (by decide) (by decide) (by decide)) hP4529
                    have hCn_4505 : Cns h4505 E L (nI1 (M 8)) (N 10) := Cns.kept (O := (· = L 0)) (hu_f eh4505 Fr.rf ho0_4502 rfl) (hLay.1 26 0 (by decide) (by decide) (by decide)) hCn_4502
                    have hCn_4508 : Cns h4507 E L (nI1 (M 8)) (N 10) := Cns.kept hFo (fun z => z.elim (hLay.1 26 0 (by decide) (by decide) (by decide)) (hLay.1 26 24 (by decide) (by decide) (by decide))) hCn_4505
                    have hCn_4522 : Cns h4522 E L (nI1 (M 8)) (N 10) := Cns.kept (O := (· = L 0)) (hu_f eh4522 Fr.rf ho0_4507 rfl) (hLay.1 26 0 (by decide) (by decide) (by decide)) hCn_4508
                    have hCn_4528 : Cns h4528 E L (nI1 (M 8)) (N 10) := Cns.kept (O := (· = L 0)) (hu_f eh4528 Fr.rf ho0_4522 rfl) (hLay.1 26 0 (by decide) (by decide) (by decide)) hCn_4522
                    have hCn_4529 : Cns h4529 E L (nI1 (M 8)) (N 10) := Cns.kept hF4529 (fun z => z.elim (hLay.1 26 24 (by decide) (by decide) (by decide)) (fun ⟨i, hi, e⟩ => hLay.2 i 26 hi (by decide) e.symm)) hCn_4528
                    have hCn_4530 : Cns h4530 E L (nI1 (M 8)) (N 10) := Cns.kept (O := (· = L 0)) (hu_f eh4530 Fr.rf ho0_4529 rfl) (hLay.1 26 0 (by decide) (by decide) (by decide)) hCn_4529
                    have hSd_4505 : Sds h4505 E L (nI1 (M 6)) (N 9) := Sds.kept (O := (· = L 0)) (hu_f eh4505 Fr.rf ho0_4502 rfl) (hLay.1 27 0 (by decide) (by decide) (by decide)) hSd_4502
                    have hSd_4508 : Sds h4507 E L (nI1 (M 6)) (N 9) := Sds.kept hFo (fun z => z.elim (hLay.1 27 0 (by decide) (by decide) (by decide)) (hLay.1 27 24 (by decide) (by decide) (by decide))) hSd_4505
                    have hSd_4522 : Sds h4522 E L (nI1 (M 6)) (N 9) := Sds.kept (O := (· = L 0)) (hu_f eh4522 Fr.rf ho0_4507 rfl) (hLay.1 27 0 (by decide) (by decide) (by decide)) hSd_4508
                    have hSd_4528 : Sds h4528 E L (nI1 (M 6)) (N 9) := Sds.kept (O := (· = L 0)) (hu_f eh4528 Fr.rf ho0_4522 rfl) (hLay.1 27 0 (by decide) (by decide) (by decide)) hSd_4522
                    have hSd_4529 : Sds h4529 E L (nI1 (M 6)) (N 9) := Sds.kept hF4529 (fun z => z.elim (hLay.1 27 24 (by decide) (by decide) (by decide)) (fun ⟨i, hi, e⟩ => hLay.2 i 27 hi (by decide) e.symm)) hSd_4528
                    have hSd_4530 : Sds h4530 E L (nI1 (M 6)) (N 9) := Sds.kept (O := (· = L 0)) (hu_f eh4530 Fr.rf ho0_4529 rfl) (hLay.1 27 0 (by decide) (by decide) (by decide)) hSd_4529
                    have hDg_4505 : Dgo h4505 E L rs := Dgo.kept (O := (· = L 0)) (hu_f eh4505 Fr.rf ho0_4502 rfl) (hLay.1 62 0 (by decide) (by decide) (by decide)) hDg_4502
                    have hDg_4508 : Dgo h4507 E L rs := Dgo.kept hFo (fun z => z.elim (hLay.1 62 0 (by decide) (by decide) (by decide)) (hLay.1 62 24 (by decide) (by decide) (by decide))) hDg_4505
                    have hDg_4522 : Dgo h4522 E L rs := Dgo.kept (O := (· = L 0)) (hu_f eh4522 Fr.rf ho0_4507 rfl) (hLay.1 62 0 (by decide) (by decide) (by decide)) hDg_4508
                    have hDg_4528 : Dgo h4528 E L rs := Dgo.kept (O := (· = L 0)) (hu_f eh4528 Fr.rf ho0_4522 rfl) (hLay.1 62 0 (by decide) (by decide) (by decide)) hDg_4522
                    have hDg_4529 : Dgo h4529 E L rs := Dgo.kept hF4529 (fun z => z.elim (hLay.1 62 24 (by decide) (by decide) (by decide)) (fun ⟨i, hi, e⟩ => hLay.2 i 62 hi (by decide) e.symm)) hDg_4528
                    have hDg_4530 : Dgo h4530 E L rs := Dgo.kept (O := (· = L 0)) (hu_f eh4530 Fr.rf ho0_4529 rfl) (hLay.1 62 0 (by decide) (by decide) (by decide)) hDg_4529
                    have hB4529_4530 : Bgs E h4530 B V2 cp := Bgs.kept (O := (· = L 0)) (hu_f eh4530 Fr.rf ho0_4529 rfl) (fun i hi => hLay.2 i 0 hi (by decide)) hB4529
                    exact Z _ _ _ _ _ _ _ dX1_start_187 (Nat.zero_le _) (Nat.zero_le _) ⟨hcd, rfl, ⟨K, gu f 15 r, rs, pw2, pl2, ps2, V2, ⟨ho0_4530, ha1_4530, ha3_4530, ha12_4530, ha13_4530, ha14_4530, ha15_4530, ha16_4530, ha17_4530, ha39_4530⟩, ⟨r1, r3, r12, r13, r14, fun _ => hrw, r16, r17, fun _ => hK, hK16⟩, ⟨(hkp4529 2 (by decide)).trans hVr.1, (hkp4529 3 (by decide)).trans hVr.2.1, fun _ z => ⟨by rw [hkp4529 6 (by decide)]; rfl, by rw [hkp4529 7 (by decide)]; rfl⟩, fun _ k hk => ⟨(hv4529 k (by rw [hK]; exact hk)).1.trans (st_pA (iz cS).1 i0 k hk).1.symm, (hv4529 k (by rw [hK]; exact hk)).2.1.trans (st_pA (iz cS).1 i0 k hk).2.symm, (hpw2 k (by rw [hK]; exact hk)).1, (hpw2 k (by rw [hK]; exact hk)).2, (hv4529 k (by rw [hK]; exact hk)).2.2⟩⟩, hSt_4530, hP4529_4530, hCn_4530, hSd_4530, hDg_4530, hB4529_4530⟩, hF_4530, rfl, rfl⟩ T4530
                · obtain rfl : sd = 1 := (by omega)
                  refine lv_aload_n hx hb dX1_start_140 rfl (lv_at hl4507 0 rfl) ?_
                  refine hr_get C T4507 ho0_4507 rfl in_X1 26 (by decide) q325 rfl rfl dX1_start_141 ?_
                  refine lv_goto (tgt := 151) hx hb dX1_start_144 (by decide) ?_
                  refine hr_put C T4507 ho0_4507 rfl in_X1 tyX1 tyX1_ok nmX1 27 (by decide) q326 rfl rfl rfl rfl (Nat.le_of_ble_eq_true rfl) dX1_start_151 (fun h4531 H4531 locs4531 eh4531 T4531 => ?_)
                  have ho0_4531 : h4531 (L 0) = some (.inr (0, [.ref (L 1), .int (nI (N 0)), .ref (L 3), .int (nI (N 1)), .int (nI (N 2)), .int (nI (N 3)), .int (nI (N 4)), .int (nI (N 5)), .int (nI (N 6)), .int (nI (N 7)), .int (nI (N 8)), .ref (L 12), .ref (L 13), .ref (L 14), .ref (L 15), .ref (L 16), .ref (L 17), .int (nI (N 11)), .int (nI (N 15)), .int (nI (N 16)), .int (nI (N 17)), .int (nI (N 18) - 1), .int (nI (N 19)), .ref (L 24), .int (nI K), .ref (L 26), .ref (L 27), .ref (L 27), .ref (L 29), .ref (L 30), .ref (if N 12 = 1 then L 30 else L 29), .ref (L 32), .ref (B 0), .ref (B 1), .ref (B 2), .ref (B 3), .ref (L 37), .ref (L 38), .ref (L 39), .ref (B 4), .ref (B 5)]), L 0) := hu_s eh4531
                  have hF_4531 : Fr (CO L B) h h4531 := hu_f eh4531 hF_4507 ho0_4507 (Or.inl rfl)
                  refine lv_aload_n hx hb dX1_start_154 rfl (lv_at hl4507 0 rfl) ?_
                  refine lv_iload_n hx hb dX1_start_155 rfl (lv_at hl4507 1 rfl) ?_
                  refine hn_if_eq (tgt := 166) hx hb dX1_start_156 (by decide) (by omega) (fun c10 => ?_) (fun c10 => ?_)
                  · obtain rfl : cm = 0 := c10
                    have hSt_4505 : Stt E L B h4505 := Stt.kept (O := (· = L 0)) (hu_f eh4505 Fr.rf ho0_4502 rfl) (hLay.1 30 0 (by decide) (by decide) (by decide)) hSt_4502
                    have hSt_4508 : Stt E L B h4507 := Stt.kept hFo (fun z => z.elim (hLay.1 30 0 (by decide) (by decide) (by decide)) (hLay.1 30 24 (by decide) (by decide) (by decide))) hSt_4505
                    have hSt_4531 : Stt E L B h4531 := Stt.kept (O := (· = L 0)) (hu_f eh4531 Fr.rf ho0_4507 rfl) (hLay.1 30 0 (by decide) (by decide) (by decide)) hSt_4508
                    have hst29x4532 := (hSt_4531).2.2.2.1
                    refine lv_aload_n hx hb dX1_start_166 rfl (lv_at hl4507 0 rfl) ?_
                    refine hr_get C T4531 ho0_4531 rfl in_X1 28 (by decide) q327 rfl rfl dX1_start_167 ?_
                    refine hr_put C T4531 ho0_4531 rfl in_X1 tyX1 tyX1_ok nmX1 30 (by decide) q329 rfl rfl rfl rfl (Nat.le_of_ble_eq_true rfl) dX1_start_170 (fun h4533 H4533 locs4533 eh4533 T4533 => ?_)
                    have ho0_4533 : h4533 (L 0) = some (.inr (0, [.ref (L 1), .int (nI (N 0)), .ref (L 3), .int (nI (N 1)), .int (nI (N 2)), .int (nI (N 3)), .int (nI (N 4)), .int (nI (N 5)), .int (nI (N 6)), .int (nI (N 7)), .int (nI (N 8)), .ref (L 12), .ref (L 13), .ref (L 14), .ref (L 15), .ref (L 16), .ref (L 17), .int (nI (N 11)), .int (nI (N 15)), .int (nI (N 16)), .int (nI (N 17)), .int (nI (N 18) - 1), .int (nI (N 19)), .ref (L 24), .int (nI K), .ref (L 26), .ref (L 27), .ref (L 27), .ref (L 29), .ref (L 30), .ref (L 29), .ref (L 32), .ref (B 0), .ref (B 1), .ref (B 2), .ref (B 3), .ref (L 37), .ref (L 38), .ref (L 39), .ref (B 4), .ref (B 5)]), L 0) := hu_s eh4533
                    have hF_4533 : Fr (CO L B) h h4533 := hu_f eh4533 hF_4531 ho0_4531 (Or.inl rfl)
                    refine lv_aload_n hx hb dX1_start_173 rfl (lv_at hl4507 0 rfl) ?_
                    refine hr_get C T4533 ho0_4533 rfl in_X1 30 (by decide) q329 rfl rfl dX1_start_174 ?_
                    have hB_4505 : Bgs E h4505 B V cp := Bgs.kept (O := (· = L 0)) (hu_f eh4505 Fr.rf ho0_4502 rfl) (fun i hi => hLay.2 i 0 hi (by decide)) hB_4502
                    have hB_4508 : Bgs E h4507 B V cp := Bgs.kept hFo (fun i hi z => z.elim (hLay.2 i 0 hi (by decide)) (hLay.2 i 24 hi (by decide))) hB_4505
                    have hB_4531 : Bgs E h4531 B V cp := Bgs.kept (O := (· = L 0)) (hu_f eh4531 Fr.rf ho0_4507 rfl) (fun i hi => hLay.2 i 0 hi (by decide)) hB_4508
                    have hB_4533 : Bgs E h4533 B V cp := Bgs.kept (O := (· = L 0)) (hu_f eh4533 Fr.rf ho0_4531 rfl) (fun i hi => hLay.2 i 0 hi (by decide)) hB_4531
                    have hSt_4533 : Stt E L B h4533 := Stt.kept (O := (· = L 0)) (hu_f eh4533 Fr.rf ho0_4531 rfl) (hLay.1 30 0 (by decide) (by decide) (by decide)) hSt_4531
                    have hP2_4531 : Prs L B pw2 pl2 ps h4531 := Prs.kept (O := (· = L 0)) (hu_f eh4531 Fr.rf ho0_4507 rfl) (hLay.1 24 0 (by decide) (by decide) (by decide)) hP2
                    have hP2_4533 : Prs L B pw2 pl2 ps h4533 := Prs.kept (O := (· = L 0)) (hu_f eh4533 Fr.rf ho0_4531 rfl) (hLay.1 24 0 (by decide) (by decide) (by decide)) hP2_4531
                    have hst29x4532_4533 : h4533 (L 29) = some (.inr (5, [.ref (L 0)]), L 30) := hu_n eh4533 (hLay.1 29 0 (by decide) (by decide) (by decide)) hst29x4532
                    refine hc_F C T4533 hl4507.1 hst29x4532_4533 rfl (m_X5_begin (M := M) (g := f 1) (N := nu (nu N 12 0) 13 1) (pp := K) hLay hB_4533 ho0_4533 hSt_4533 hP2_4533 hK16) 2 rfl q665 q676 q678 q57 q680 kdF_2 rfl rfl ⟨Nat.le_of_ble_eq_true rfl, Nat.le_of_ble_eq_true rfl⟩ (Nat.le_of_ble_eq_true rfl) dX1_start_177 ⟨Nat.le_of_ble_eq_true rfl, Nat.le_of_ble_eq_true rfl⟩ (fun rv h4534 H4534 locs4534 hp4534 T4534 => ?_)
                    obtain ⟨rfl, V2, ps2, hB4534, hP4534, hv4534, hkp4534, hF4534⟩ := hp4534
                    have hF_4534 : Fr (CO L B) h h4534 := hF_4533.tr (hF4534.mono (fun _ z => z.elim (fun z => Or.inr (Or.inl z)) (fun z => Or.inr (Or.inr (Or.inr (Or.inr (Or.inr z)))))))
                    refine W.eq (g2 := F0 m 182 ls4507 []) rfl ?_
                    refine lv_aload_n hx hb dX1_start_182 rfl (lv_at hl4507 0 rfl) ?_
                    refine lv_iconst (v := nI 1) hx hb dX1_start_183 rfl ?_
                    have ho0_4534 : h4534 (L 0) = some (.inr (0, [.ref (L 1), .int (nI (N 0)), .ref (L 3), .int (nI (N 1)), .int (nI (N 2)), .int (nI (N 3)), .int (nI (N 4)), .int (nI (N 5)), .int (nI (N 6)), .int (nI (N 7)), .int (nI (N 8)), .ref (L 12), .ref (L 13), .ref (L 14), .ref (L 15), .ref (L 16), .ref (L 17), .int (nI (N 11)), .int (nI (N 15)), .int (nI (N 16)), .int (nI (N 17)), .int (nI (N 18) - 1), .int (nI (N 19)), .ref (L 24), .int (nI K), .ref (L 26), .ref (L 27), .ref (L 27), .ref (L 29), .ref (L 30), .ref (L 29), .ref (L 32), .ref (B 0), .ref (B 1), .ref (B 2), .ref (B 3), .ref (L 37), .ref (L 38), .ref (L 39), .ref (B 4), .ref (B 5)]), L 0) := hF4534 _ _ ho0_4533 (fun z => z.elim (hLay.1 0 24 (by decide) (by decide) (by decide)) (fun ⟨i, hi, e⟩ => hLay.2 i 0 hi (by decide) e.symm))
                    refine hr_put C T4534 ho0_4534 rfl in_X1 tyX1 tyX1_ok nmX1 17 (by decide) q312 rfl rfl rfl rfl (Nat.le_of_ble_eq_true rfl) dX1_start_184 (fun h4535 H4535 locs4535 eh4535 T4535 => ?_)
                    have ho0_4535 : h4535 (L 0) = some (.inr (0, [.ref (L 1), .int (nI (N 0)), .ref (L 3), .int (nI (N 1)), .int (nI (N 2)), .int (nI (N 3)), .int (nI (N 4)), .int (nI (N 5)), .int (nI (N 6)), .int (nI (N 7)), .int (nI (N 8)), .ref (L 12), .ref (L 13), .ref (L 14), .ref (L 15), .ref (L 16), .ref (L 17), .int (nI 1), .int (nI (N 15)), .int (nI (N 16)), .int (nI (N 17)), .int (nI (N 18) - 1), .int (nI (N 19)), .ref (L 24), .int (nI K), .ref (L 26), .ref (L 27), .ref (L 27), .ref (L 29), .ref (L 30), .ref (L 29), .ref (L 32), .ref (B 0), .ref (B 1), .ref (B 2), .ref (B 3), .ref (L 37), .ref (L 38), .ref (L 39), .ref (B 4), .ref (B 5)]), L 0) := hu_s eh4535
                    have hF_4535 : Fr (CO L B) h h4535 := hu_f eh4535 hF_4534 ho0_4534 (Or.inl rfl)
                    have ha1_4505 : h4505 (L 1) = some (.inl (E.2.1 0, 8, .inl (f 1)), L 0) := hu_n eh4505 (hLay.1 1 0 (by decide) (by decide) (by decide)) ha1_4502
                    have ha1_4508 : h4507 (L 1) = some (.inl (E.2.1 0, 8, .inl (f 1)), L 0) := (hoth _ (hLay.1 1 0 (by decide) (by decide) (by decide)) (fun k hk => hLay.1 1 (70 + k) (by decide) (by omega) (by omega))).trans ha1_4505
                    have ha1_4531 : h4531 (L 1) = some (.inl (E.2.1 0, 8, .inl (f 1)), L 0) := hu_n eh4531 (hLay.1 1 0 (by decide) (by decide) (by decide)) ha1_4508
                    have ha1_4533 : h4533 (L 1) = some (.inl (E.2.1 0, 8, .inl (f 1)), L 0) := hu_n eh4533 (hLay.1 1 0 (by decide) (by decide) (by decide)) ha1_4531
                    have ha1_4534 : h4534 (L 1) = some (.inl (E.2.1 0, 8, .inl (f 1)), L 0) := hF4534 _ _ ha1_4533 (fun z => z.elim (hLay.1 0 24 (by decide) (by decide) (by decide)) (fun ⟨i, hi, e⟩ => hLay.2 i 0 hi (by decide) e.symm))
                    have ha1_4535 : h4535 (L 1) = some (.inl (E.2.1 0, 8, .inl (f 1)), L 0) := hu_n eh4535 (hLay.1 1 0 (by decide) (by decide) (by decide)) ha1_4534
                    have ha3_4505 : h4505 (L 3) = some (.inl (E.2.1 0, 64, .inl (f 3)), L 0) := hu_n eh4505 (hLay.1 3 0 (by decide) (by decide) (by decide)) ha3_4502
                    have ha3_4508 : h4507 (L 3) = some (.inl (E.2.1 0, 64, .inl (f 3)), L 0) := (hoth _ (hLay.1 3 0 (by decide) (by decide) (by decide)) (fun k hk => hLay.1 3 (70 + k) (by decide) (by omega) (by omega))).trans ha3_4505
                    have ha3_4531 : h4531 (L 3) = some (.inl (E.2.1 0, 64, .inl (f 3)), L 0) := hu_n eh4531 (hLay.1 3 0 (by decide) (by decide) (by decide)) ha3_4508
                    have ha3_4533 : h4533 (L 3) = some (.inl (E.2.1 0, 64, .inl (f 3)), L 0) := hu_n eh4533 (hLay.1 3 0 (by decide) (by decide) (by decide)) ha3_4531
                    have ha3_4534 : h4534 (L 3) = some (.inl (E.2.1 0, 64, .inl (f 3)), L 0) := hF4534 _ _ ha3_4533 (fun z => z.elim (hLay.1 0 24 (by decide) (by decide) (by decide)) (fun ⟨i, hi, e⟩ => hLay.2 i 0 hi (by decide) e.symm))
                    have ha3_4535 : h4535 (L 3) = some (.inl (E.2.1 0, 64, .inl (f 3)), L 0) := hu_n eh4535 (hLay.1 3 0 (by decide) (by decide) (by decide)) ha3_4534
                    have ha12_4505 : h4505 (L 12) = some (.inl (E.2.1 1, 20000, .inl (f 12)), L 0) := hu_n eh4505 (hLay.1 12 0 (by decide) (by decide) (by decide)) ha12_4502
                    have ha12_4508 : h4507 (L 12) = some (.inl (E.2.1 1, 20000, .inl (f 12)), L 0) := (hoth _ (hLay.1 12 0 (by decide) (by decide) (by decide)) (fun k hk => hLay.1 12 (70 + k) (by decide) (by omega) (by omega))).trans ha12_4505
                    have ha12_4531 : h4531 (L 12) = some (.inl (E.2.1 1, 20000, .inl (f 12)), L 0) := hu_n eh4531 (hLay.1 12 0 (by decide) (by decide) (by decide)) ha12_4508
                    have ha12_4533 : h4533 (L 12) = some (.inl (E.2.1 1, 20000, .inl (f 12)), L 0) := hu_n eh4533 (hLay.1 12 0 (by decide) (by decide) (by decide)) ha12_4531
                    have ha12_4534 : h4534 (L 12) = some (.inl (E.2.1 1, 20000, .inl (f 12)), L 0) := hF4534 _ _ ha12_4533 (fun z => z.elim (hLay.1 0 24 (by decide) (by decide) (by decide)) (fun ⟨i, hi, e⟩ => hLay.2 i 0 hi (by decide) e.symm))
                    have ha12_4535 : h4535 (L 12) = some (.inl (E.2.1 1, 20000, .inl (f 12)), L 0) := hu_n eh4535 (hLay.1 12 0 (by decide) (by decide) (by decide)) ha12_4534
                    have ha13_4505 : h4505 (L 13) = some (.inl (E.2.1 1, 20000, .inl (f 13)), L 0) := hu_n eh4505 (hLay.1 13 0 (by decide) (by decide) (by decide)) ha13_4502
                    have ha13_4508 : h4507 (L 13) = some (.inl (E.2.1 1, 20000, .inl (f 13)), L 0) := (hoth _ (hLay.1 13 0 (by decide) (by decide) (by decide)) (fun k hk => hLay.1 13 (70 + k) (by decide) (by omega) (by omega))).trans ha13_4505
                    have ha13_4531 : h4531 (L 13) = some (.inl (E.2.1 1, 20000, .inl (f 13)), L 0) := hu_n eh4531 (hLay.1 13 0 (by decide) (by decide) (by decide)) ha13_4508
                    have ha13_4533 : h4533 (L 13) = some (.inl (E.2.1 1, 20000, .inl (f 13)), L 0) := hu_n eh4533 (hLay.1 13 0 (by decide) (by decide) (by decide)) ha13_4531
                    have ha13_4534 : h4534 (L 13) = some (.inl (E.2.1 1, 20000, .inl (f 13)), L 0) := hF4534 _ _ ha13_4533 (fun z => z.elim (hLay.1 0 24 (by decide) (by decide) (by decide)) (fun ⟨i, hi, e⟩ => hLay.2 i 0 hi (by decide) e.symm))
                    have ha13_4535 : h4535 (L 13) = some (.inl (E.2.1 1, 20000, .inl (f 13)), L 0) := hu_n eh4535 (hLay.1 13 0 (by decide) (by decide) (by decide)) ha13_4534
                    have ha14_4505 : h4505 (L 14) = some (.inl (E.2.1 2, 20000, .inl (f 14)), L 0) := hu_n eh4505 (hLay.1 14 0 (by decide) (by decide) (by decide)) ha14_4502
                    have ha14_4508 : h4507 (L 14) = some (.inl (E.2.1 2, 20000, .inl (f 14)), L 0) := (hoth _ (hLay.1 14 0 (by decide) (by decide) (by decide)) (fun k hk => hLay.1 14 (70 + k) (by decide) (by omega) (by omega))).trans ha14_4505
                    have ha14_4531 : h4531 (L 14) = some (.inl (E.2.1 2, 20000, .inl (f 14)), L 0) := hu_n eh4531 (hLay.1 14 0 (by decide) (by decide) (by decide)) ha14_4508
                    have ha14_4533 : h4533 (L 14) = some (.inl (E.2.1 2, 20000, .inl (f 14)), L 0) := hu_n eh4533 (hLay.1 14 0 (by decide) (by decide) (by decide)) ha14_4531
                    have ha14_4534 : h4534 (L 14) = some (.inl (E.2.1 2, 20000, .inl (f 14)), L 0) := hF4534 _ _ ha14_4533 (fun z => z.elim (hLay.1 0 24 (by decide) (by decide) (by decide)) (fun ⟨i, hi, e⟩ => hLay.2 i 0 hi (by decide) e.symm))
                    have ha14_4535 : h4535 (L 14) = some (.inl (E.2.1 2, 20000, .inl (f 14)), L 0) := hu_n eh4535 (hLay.1 14 0 (by decide) (by decide) (by decide)) ha14_4534
                    have ha15_4505 : h4505 (L 15) = some (.inl (E.2.1 3, 8, .inl r), L 0) := hu_n eh4505 (hLay.1 15 0 (by decide) (by decide) (by decide)) ha15_4502
                    have ha15_4508 : h4507 (L 15) = some (.inl (E.2.1 3, 8, .inl r), L 0) := (hoth _ (hLay.1 15 0 (by decide) (by decide) (by decide)) (fun k hk => hLay.1 15 (70 + k) (by decide) (by omega) (by omega))).trans ha15_4505
                    have ha15_4531 : h4531 (L 15) = some (.inl (E.2.1 3, 8, .inl r), L 0) := hu_n eh4531 (hLay.1 15 0 (by decide) (by decide) (by decide)) ha15_4508
                    have ha15_4533 : h4533 (L 15) = some (.inl (E.2.1 3, 8, .inl r), L 0) := hu_n eh4533 (hLay.1 15 0 (by decide) (by decide) (by decide)) ha15_4531
                    have ha15_4534 : h4534 (L 15) = some (.inl (E.2.1 3, 8, .inl r), L 0) := hF4534 _ _ ha15_4533 (fun z => z.elim (hLay.1 0 24 (by decide) (by decide) (by decide)) (fun ⟨i, hi, e⟩ => hLay.2 i 0 hi (by decide) e.symm))
                    have ha15_4535 : h4535 (L 15) = some (.inl (E.2.1 3, 8, .inl r), L 0) := hu_n eh4535 (hLay.1 15 0 (by decide) (by decide) (by decide)) ha15_4534
                    have ha16_4505 : h4505 (L 16) = some (.inl (E.2.1 0, 8, .inl (f 16)), L 0) := hu_n eh4505 (hLay.1 16 0 (by decide) (by decide) (by decide)) ha16_4502
                    have ha16_4508 : h4507 (L 16) = some (.inl (E.2.1 0, 8, .inl (f 16)), L 0) := (hoth _ (hLay.1 16 0 (by decide) (by decide) (by decide)) (fun k hk => hLay.1 16 (70 + k) (by decide) (by omega) (by omega))).trans ha16_4505
                    have ha16_4531 : h4531 (L 16) = some (.inl (E.2.1 0, 8, .inl (f 16)), L 0) := hu_n eh4531 (hLay.1 16 0 (by decide) (by decide) (by decide)) ha16_4508
                    have ha16_4533 : h4533 (L 16) = some (.inl (E.2.1 0, 8, .inl (f 16)), L 0) := hu_n eh4533 (hLay.1 16 0 (by decide) (by decide) (by decide)) ha16_4531
                    have ha16_4534 : h4534 (L 16) = some (.inl (E.2.1 0, 8, .inl (f 16)), L 0) := hF4534 _ _ ha16_4533 (fun z => z.elim (hLay.1 0 24 (by decide) (by decide) (by decide)) (fun ⟨i, hi, e⟩ => hLay.2 i 0 hi (by decide) e.symm))
                    have ha16_4535 : h4535 (L 16) = some (.inl (E.2.1 0, 8, .inl (f 16)), L 0) := hu_n eh4535 (hLay.1 16 0 (by decide) (by decide) (by decide)) ha16_4534
                    have ha17_4505 : h4505 (L 17) = some (.inl (E.2.1 0, 8, .inl (f 17)), L 0) := hu_n eh4505 (hLay.1 17 0 (by decide) (by decide) (by decide)) ha17_4502
                    have ha17_4508 : h4507 (L 17) = some (.inl (E.2.1 0, 8, .inl (f 17)), L 0) := (hoth _ (hLay.1 17 0 (by decide) (by decide) (by decide)) (fun k hk => hLay.1 17 (70 + k) (by decide) (by omega) (by omega))).trans ha17_4505
                    have ha17_4531 : h4531 (L 17) = some (.inl (E.2.1 0, 8, .inl (f 17)), L 0) := hu_n eh4531 (hLay.1 17 0 (by decide) (by decide) (by decide)) ha17_4508
                    have ha17_4533 : h4533 (L 17) = some (.inl (E.2.1 0, 8, .inl (f 17)), L 0) := hu_n eh4533 (hLay.1 17 0 (by decide) (by decide) (by decide)) ha17_4531
                    have ha17_4534 : h4534 (L 17) = some (.inl (E.2.1 0, 8, .inl (f 17)), L 0) := hF4534 _ _ ha17_4533 (fun z => z.elim (hLay.1 0 24 (by decide) (by decide) (by decide)) (fun ⟨i, hi, e⟩ => hLay.2 i 0 hi (by decide) e.symm))
                    have ha17_4535 : h4535 (L 17) = some (.inl (E.2.1 0, 8, .inl (f 17)), L 0) := hu_n eh4535 (hLay.1 17 0 (by decide) (by decide) (by decide)) ha17_4534
                    have ha39_4505 : h4505 (L 39) = some (.inl (E.2.1 3, 961, .inl (f 39)), L 0) := hu_n eh4505 (hLay.1 39 0 (by decide) (by decide) (by decide)) ha39_4502
                    have ha39_4508 : h4507 (L 39) = some (.inl (E.2.1 3, 961, .inl (f 39)), L 0) := (hoth _ (hLay.1 39 0 (by decide) (by decide) (by decide)) (fun k hk => hLay.1 39 (70 + k) (by decide) (by omega) (by omega))).trans ha39_4505
                    have ha39_4531 : h4531 (L 39) = some (.inl (E.2.1 3, 961, .inl (f 39)), L 0) := hu_n eh4531 (hLay.1 39 0 (by decide) (by decide) (by decide)) ha39_4508
                    have ha39_4533 : h4533 (L 39) = some (.inl (E.2.1 3, 961, .inl (f 39)), L 0) := hu_n eh4533 (hLay.1 39 0 (by decide) (by decide) (by decide)) ha39_4531
                    have ha39_4534 : h4534 (L 39) = some (.inl (E.2.1 3, 961, .inl (f 39)), L 0) := hF4534 _ _ ha39_4533 (fun z => z.elim (hLay.1 0 24 (by decide) (by decide) (by decide)) (fun ⟨i, hi, e⟩ => hLay.2 i 0 hi (by decide) e.symm))
                    have ha39_4535 : h4535 (L 39) = some (.inl (E.2.1 3, 961, .inl (f 39)), L 0) := hu_n eh4535 (hLay.1 39 0 (by decide) (by decide) (by decide)) ha39_4534
                    have hSt_4534 : Stt E L B h4534 := Stt.kept hF4534 (fun z => z.elim (hLay.1 30 24 (by decide) (by decide) (by decide)) (fun ⟨i, hi, e⟩ => hLay.2 i 30 hi (by decide) e.symm)) hSt_4533
                    have hSt_4535 : Stt E L B h4535 := Stt.kept (O := (· = L 0)) (hu_f eh4535 Fr.rf ho0_4534 rfl) (hLay.1 30 0 (by decide) (by decide) (by decide)) hSt_4534
                    have hP4534_4535 : Prs L B pw2 pl2 ps2 h4535 := Prs.kept (O := (· = L 0)) (hu_f eh4535 Fr.rf ho0_4534 rfl) (hLay.1 24 0 (by decide) (by decide) (by decide)) hP4534
                    have hCn_4505 : Cns h4505 E L (nI1 (M 8)) (N 10) := Cns.kept (O := (· = L 0)) (hu_f eh4505 Fr.rf ho0_4502 rfl) (hLay.1 26 0 (by decide) (by decide) (by decide)) hCn_4502
                    have hCn_4508 : Cns h4507 E L (nI1 (M 8)) (N 10) := Cns.kept hFo (fun z => z.elim (hLay.1 26 0 (by decide) (by decide) (by decide)) (hLay.1 26 24 (by decide) (by decide) (by decide))) hCn_4505
                    have hCn_4531 : Cns h4531 E L (nI1 (M 8)) (N 10) := Cns.kept (O := (· = L 0)) (hu_f eh4531 Fr.rf ho0_4507 rfl) (hLay.1 26 0 (by decide) (by decide) (by decide)) hCn_4508
                    have hCn_4533 : Cns h4533 E L (nI1 (M 8)) (N 10) := Cns.kept (O := (· = L 0)) (hu_f eh4533 Fr.rf ho0_4531 rfl) (hLay.1 26 0 (by decide) (by decide) (by decide)) hCn_4531
                    have hCn_4534 : Cns h4534 E L (nI1 (M 8)) (N 10) := Cns.kept hF4534 (fun z => z.elim (hLay.1 26 24 (by decide) (by decide) (by decide)) (fun ⟨i, hi, e⟩ => hLay.2 i 26 hi (by decide) e.symm)) hCn_4533
                    have hCn_4535 : Cns h4535 E L (nI1 (M 8)) (N 10) := Cns.kept (O := (· = L 0)) (hu_f eh4535 Fr.rf ho0_4534 rfl) (hLay.1 26 0 (by decide) (by decide) (by decide)) hCn_4534
                    have hSd_4505 : Sds h4505 E L (nI1 (M 6)) (N 9) := Sds.kept (O := (· = L 0)) (hu_f eh4505 Fr.rf ho0_4502 rfl) (hLay.1 27 0 (by decide) (by decide) (by decide)) hSd_4502
                    have hSd_4508 : Sds h4507 E L (nI1 (M 6)) (N 9) := Sds.kept hFo (fun z => z.elim (hLay.1 27 0 (by decide) (by decide) (by decide)) (hLay.1 27 24 (by decide) (by decide) (by decide))) hSd_4505
                    have hSd_4531 : Sds h4531 E L (nI1 (M 6)) (N 9) := Sds.kept (O := (· = L 0)) (hu_f eh4531 Fr.rf ho0_4507 rfl) (hLay.1 27 0 (by decide) (by decide) (by decide)) hSd_4508
                    have hSd_4533 : Sds h4533 E L (nI1 (M 6)) (N 9) := Sds.kept (O := (· = L 0)) (hu_f eh4533 Fr.rf ho0_4531 rfl) (hLay.1 27 0 (by decide) (by decide) (by decide)) hSd_4531
                    have hSd_4534 : Sds h4534 E L (nI1 (M 6)) (N 9) := Sds.kept hF4534 (fun z => z.elim (hLay.1 27 24 (by decide) (by decide) (by decide)) (fun ⟨i, hi, e⟩ => hLay.2 i 27 hi (by decide) e.symm)) hSd_4533
                    have hSd_4535 : Sds h4535 E L (nI1 (M 6)) (N 9) := Sds.kept (O := (· = L 0)) (hu_f eh4535 Fr.rf ho0_4534 rfl) (hLay.1 27 0 (by decide) (by decide) (by decide)) hSd_4534
                    have hDg_4505 : Dgo h4505 E L rs := Dgo.kept (O := (· = L 0)) (hu_f eh4505 Fr.rf ho0_4502 rfl) (hLay.1 62 0 (by decide) (by decide) (by decide)) hDg_4502
                    have hDg_4508 : Dgo h4507 E L rs := Dgo.kept hFo (fun z => z.elim (hLay.1 62 0 (by decide) (by decide) (by decide)) (hLay.1 62 24 (by decide) (by decide) (by decide))) hDg_4505
                    have hDg_4531 : Dgo h4531 E L rs := Dgo.kept (O := (· = L 0)) (hu_f eh4531 Fr.rf ho0_4507 rfl) (hLay.1 62 0 (by decide) (by decide) (by decide)) hDg_4508
                    have hDg_4533 : Dgo h4533 E L rs := Dgo.kept (O := (· = L 0)) (hu_f eh4533 Fr.rf ho0_4531 rfl) (hLay.1 62 0 (by decide) (by decide) (by decide)) hDg_4531
                    have hDg_4534 : Dgo h4534 E L rs := Dgo.kept hF4534 (fun z => z.elim (hLay.1 62 24 (by decide) (by decide) (by decide)) (fun ⟨i, hi, e⟩ => hLay.2 i 62 hi (by decide) e.symm)) hDg_4533
                    have hDg_4535 : Dgo h4535 E L rs := Dgo.kept (O := (· = L 0)) (hu_f eh4535 Fr.rf ho0_4534 rfl) (hLay.1 62 0 (by decide) (by decide) (by decide)) hDg_4534
                    have hB4534_4535 : Bgs E h4535 B V2 cp := Bgs.kept (O := (· = L 0)) (hu_f eh4535 Fr.rf ho0_4534 rfl) (fun i hi => hLay.2 i 0 hi (by decide)) hB4534
                    exact Z _ _ _ _ _ _ _ dX1_start_187 (Nat.zero_le _) (Nat.zero_le _) ⟨hcd, rfl, ⟨K, gu f 15 r, rs, pw2, pl2, ps2, V2, ⟨ho0_4535, ha1_4535, ha3_4535, ha12_4535, ha13_4535, ha14_4535, ha15_4535, ha16_4535, ha17_4535, ha39_4535⟩, ⟨r1, r3, r12, r13, r14, fun _ => hrw, r16, r17, fun _ => hK, hK16⟩, ⟨(hkp4534 2 (by decide)).trans hVr.1, (hkp4534 3 (by decide)).trans hVr.2.1, fun _ z => absurd z (show (0 : Nat) ≠ 1 by decide), fun _ k hk => ⟨(hv4534 k (by rw [hK]; exact hk)).1.trans (st_pA (iz cS).1 i0 k hk).1.symm, (hv4534 k (by rw [hK]; exact hk)).2.1.trans (st_pA (iz cS).1 i0 k hk).2.symm, (hpw2 k (by rw [hK]; exact hk)).1, (hpw2 k (by rw [hK]; exact hk)).2, (hv4534 k (by rw [hK]; exact hk)).2.2⟩⟩, hSt_4535, hP4534_4535, hCn_4535, hSd_4535, hDg_4535, hB4534_4535⟩, hF_4535, rfl, rfl⟩ T4535
                  · obtain rfl : cm = 1 := (by omega)
                    have hSt_4505 : Stt E L B h4505 := Stt.kept (O := (· = L 0)) (hu_f eh4505 Fr.rf ho0_4502 rfl) (hLay.1 30 0 (by decide) (by decide) (by decide)) hSt_4502
                    have hSt_4508 : Stt E L B h4507 := Stt.kept hFo (fun z => z.elim (hLay.1 30 0 (by decide) (by decide) (by decide)) (hLay.1 30 24 (by decide) (by decide) (by decide))) hSt_4505
                    have hSt_4531 : Stt E L B h4531 := Stt.kept (O := (· = L 0)) (hu_f eh4531 Fr.rf ho0_4507 rfl) (hLay.1 30 0 (by decide) (by decide) (by decide)) hSt_4508
                    have hst30x4536 := (hSt_4531).2.2.2.2.1
                    refine lv_aload_n hx hb dX1_start_159 rfl (lv_at hl4507 0 rfl) ?_
                    refine hr_get C T4531 ho0_4531 rfl in_X1 29 (by decide) q328 rfl rfl dX1_start_160 ?_
                    refine lv_goto (tgt := 170) hx hb dX1_start_163 (by decide) ?_
                    refine hr_put C T4531 ho0_4531 rfl in_X1 tyX1 tyX1_ok nmX1 30 (by decide) q329 rfl rfl rfl rfl (Nat.le_of_ble_eq_true rfl) dX1_start_170 (fun h4537 H4537 locs4537 eh4537 T4537 => ?_)
                    have ho0_4537 : h4537 (L 0) = some (.inr (0, [.ref (L 1), .int (nI (N 0)), .ref (L 3), .int (nI (N 1)), .int (nI (N 2)), .int (nI (N 3)), .int (nI (N 4)), .int (nI (N 5)), .int (nI (N 6)), .int (nI (N 7)), .int (nI (N 8)), .ref (L 12), .ref (L 13), .ref (L 14), .ref (L 15), .ref (L 16), .ref (L 17), .int (nI (N 11)), .int (nI (N 15)), .int (nI (N 16)), .int (nI (N 17)), .int (nI (N 18) - 1), .int (nI (N 19)), .ref (L 24), .int (nI K), .ref (L 26), .ref (L 27), .ref (L 27), .ref (L 29), .ref (L 30), .ref (L 30), .ref (L 32), .ref (B 0), .ref (B 1), .ref (B 2), .ref (B 3), .ref (L 37), .ref (L 38), .ref (L 39), .ref (B 4), .ref (B 5)]), L 0) := hu_s eh4537
                    have hF_4537 : Fr (CO L B) h h4537 := hu_f eh4537 hF_4531 ho0_4531 (Or.inl rfl)
                    refine lv_aload_n hx hb dX1_start_173 rfl (lv_at hl4507 0 rfl) ?_
                    refine hr_get C T4537 ho0_4537 rfl in_X1 30 (by decide) q329 rfl rfl dX1_start_174 ?_
                    have hB_4505 : Bgs E h4505 B V cp := Bgs.kept (O := (· = L 0)) (hu_f eh4505 Fr.rf ho0_4502 rfl) (fun i hi => hLay.2 i 0 hi (by decide)) hB_4502
                    have hB_4508 : Bgs E h4507 B V cp := Bgs.kept hFo (fun i hi z => z.elim (hLay.2 i 0 hi (by decide)) (hLay.2 i 24 hi (by decide))) hB_4505
                    have hB_4531 : Bgs E h4531 B V cp := Bgs.kept (O := (· = L 0)) (hu_f eh4531 Fr.rf ho0_4507 rfl) (fun i hi => hLay.2 i 0 hi (by decide)) hB_4508
                    have hB_4537 : Bgs E h4537 B V cp := Bgs.kept (O := (· = L 0)) (hu_f eh4537 Fr.rf ho0_4531 rfl) (fun i hi => hLay.2 i 0 hi (by decide)) hB_4531
                    have hSt_4537 : Stt E L B h4537 := Stt.kept (O := (· = L 0)) (hu_f eh4537 Fr.rf ho0_4531 rfl) (hLay.1 30 0 (by decide) (by decide) (by decide)) hSt_4531
                    have hP2_4531 : Prs L B pw2 pl2 ps h4531 := Prs.kept (O := (· = L 0)) (hu_f eh4531 Fr.rf ho0_4507 rfl) (hLay.1 24 0 (by decide) (by decide) (by decide)) hP2
                    have hP2_4537 : Prs L B pw2 pl2 ps h4537 := Prs.kept (O := (· = L 0)) (hu_f eh4537 Fr.rf ho0_4531 rfl) (hLay.1 24 0 (by decide) (by decide) (by decide)) hP2_4531
                    have hst30x4536_4537 : h4537 (L 30) = some (.inr (6, [.ref (L 0), .ref (B 6), .ref (B 7)]), L 30) := hu_n eh4537 (hLay.1 30 0 (by decide) (by decide) (by decide)) hst30x4536
                    refine hc_F C T4537 hl4507.1 hst30x4536_4537 rfl (m_X6_begin (M := M) (g := f 1) (N := nu (nu N 12 1) 13 1) (pp := K) hLay hB_4537 ho0_4537 hSt_4537 hP2_4537 hK16) 5 rfl q665 q669 q671 q58 q673 kdF_5 rfl rfl ⟨Nat.le_of_ble_eq_true rfl, Nat.le_of_ble_eq_true rfl⟩ (Nat.le_of_ble_eq_true rfl) dX1_start_177 ⟨Nat.le_of_ble_eq_true rfl, Nat.le_of_ble_eq_true rfl⟩ (fun rv h4538 H4538 locs4538 hp4538 T4538 => ?_)
                    obtain ⟨rfl, V2, ps2, hB4538, hP4538, hv4538, hkp4538, hF4538⟩ := hp4538
                    have hF_4538 : Fr (CO L B) h h4538 := hF_4537.tr (hF4538.mono (fun _ z => z.elim (fun z => Or.inr (Or.inl z)) (fun z => Or.inr (Or.inr (Or.inr (Or.inr (Or.inr z)))))))
                    refine W.eq (g2 := F0 m 182 ls4507 []) rfl ?_
                    refine lv_aload_n hx hb dX1_start_182 rfl (lv_at hl4507 0 rfl) ?_
                    refine lv_iconst (v := nI 1) hx hb dX1_start_183 rfl ?_
                    have ho0_4538 : h4538 (L 0) = some (.inr (0, [.ref (L 1), .int (nI (N 0)), .ref (L 3), .int (nI (N 1)), .int (nI (N 2)), .int (nI (N 3)), .int (nI (N 4)), .int (nI (N 5)), .int (nI (N 6)), .int (nI (N 7)), .int (nI (N 8)), .ref (L 12), .ref (L 13), .ref (L 14), .ref (L 15), .ref (L 16), .ref (L 17), .int (nI (N 11)), .int (nI (N 15)), .int (nI (N 16)), .int (nI (N 17)), .int (nI (N 18) - 1), .int (nI (N 19)), .ref (L 24), .int (nI K), .ref (L 26), .ref (L 27), .ref (L 27), .ref (L 29), .ref (L 30), .ref (L 30), .ref (L 32), .ref (B 0), .ref (B 1), .ref (B 2), .ref (B 3), .ref (L 37), .ref (L 38), .ref (L 39), .ref (B 4), .ref (B 5)]), L 0) := hF4538 _ _ ho0_4537 (fun z => z.elim (hLay.1 0 24 (by decide) (by decide) (by decide)) (fun ⟨i, hi, e⟩ => hLay.2 i 0 hi (by decide) e.symm))
                    refine hr_put C T4538 ho0_4538 rfl in_X1 tyX1 tyX1_ok nmX1 17 (by decide) q312 rfl rfl rfl rfl (Nat.le_of_ble_eq_true rfl) dX1_start_184 (fun h4539 H4539 locs4539 eh4539 T4539 => ?_)
                    have ho0_4539 : h4539 (L 0) = some (.inr (0, [.ref (L 1), .int (nI (N 0)), .ref (L 3), .int (nI (N 1)), .int (nI (N 2)), .int (nI (N 3)), .int (nI (N 4)), .int (nI (N 5)), .int (nI (N 6)), .int (nI (N 7)), .int (nI (N 8)), .ref (L 12), .ref (L 13), .ref (L 14), .ref (L 15), .ref (L 16), .ref (L 17), .int (nI 1), .int (nI (N 15)), .int (nI (N 16)), .int (nI (N 17)), .int (nI (N 18) - 1), .int (nI (N 19)), .ref (L 24), .int (nI K), .ref (L 26), .ref (L 27), .ref (L 27), .ref (L 29), .ref (L 30), .ref (L 30), .ref (L 32), .ref (B 0), .ref (B 1), .ref (B 2), .ref (B 3), .ref (L 37), .ref (L 38), .ref (L 39), .ref (B 4), .ref (B 5)]), L 0) := hu_s eh4539
                    have hF_4539 : Fr (CO L B) h h4539 := hu_f eh4539 hF_4538 ho0_4538 (Or.inl rfl)
                    have ha1_4505 : h4505 (L 1) = some (.inl (E.2.1 0, 8, .inl (f 1)), L 0) := hu_n eh4505 (hLay.1 1 0 (by decide) (by decide) (by decide)) ha1_4502
                    have ha1_4508 : h4507 (L 1) = some (.inl (E.2.1 0, 8, .inl (f 1)), L 0) := (hoth _ (hLay.1 1 0 (by decide) (by decide) (by decide)) (fun k hk => hLay.1 1 (70 + k) (by decide) (by omega) (by omega))).trans ha1_4505
                    have ha1_4531 : h4531 (L 1) = some (.inl (E.2.1 0, 8, .inl (f 1)), L 0) := hu_n eh4531 (hLay.1 1 0 (by decide) (by decide) (by decide)) ha1_4508
                    have ha1_4537 : h4537 (L 1) = some (.inl (E.2.1 0, 8, .inl (f 1)), L 0) := hu_n eh4537 (hLay.1 1 0 (by decide) (by decide) (by decide)) ha1_4531
                    have ha1_4538 : h4538 (L 1) = some (.inl (E.2.1 0, 8, .inl (f 1)), L 0) := hF4538 _ _ ha1_4537 (fun z => z.elim (hLay.1 0 24 (by decide) (by decide) (by decide)) (fun ⟨i, hi, e⟩ => hLay.2 i 0 hi (by decide) e.symm))
                    have ha1_4539 : h4539 (L 1) = some (.inl (E.2.1 0, 8, .inl (f 1)), L 0) := hu_n eh4539 (hLay.1 1 0 (by decide) (by decide) (by decide)) ha1_4538
                    have ha3_4505 : h4505 (L 3) = some (.inl (E.2.1 0, 64, .inl (f 3)), L 0) := hu_n eh4505 (hLay.1 3 0 (by decide) (by decide) (by decide)) ha3_4502
                    have ha3_4508 : h4507 (L 3) = some (.inl (E.2.1 0, 64, .inl (f 3)), L 0) := (hoth _ (hLay.1 3 0 (by decide) (by decide) (by decide)) (fun k hk => hLay.1 3 (70 + k) (by decide) (by omega) (by omega))).trans ha3_4505
                    have ha3_4531 : h4531 (L 3) = some (.inl (E.2.1 0, 64, .inl (f 3)), L 0) := hu_n eh4531 (hLay.1 3 0 (by decide) (by decide) (by decide)) ha3_4508
                    have ha3_4537 : h4537 (L 3) = some (.inl (E.2.1 0, 64, .inl (f 3)), L 0) := hu_n eh4537 (hLay.1 3 0 (by decide) (by decide) (by decide)) ha3_4531
                    have ha3_4538 : h4538 (L 3) = some (.inl (E.2.1 0, 64, .inl (f 3)), L 0) := hF4538 _ _ ha3_4537 (fun z => z.elim (hLay.1 0 24 (by decide) (by decide) (by decide)) (fun ⟨i, hi, e⟩ => hLay.2 i 0 hi (by decide) e.symm))
                    have ha3_4539 : h4539 (L 3) = some (.inl (E.2.1 0, 64, .inl (f 3)), L 0) := hu_n eh4539 (hLay.1 3 0 (by decide) (by decide) (by decide)) ha3_4538
                    have ha12_4505 : h4505 (L 12) = some (.inl (E.2.1 1, 20000, .inl (f 12)), L 0) := hu_n eh4505 (hLay.1 12 0 (by decide) (by decide) (by decide)) ha12_4502
                    have ha12_4508 : h4507 (L 12) = some (.inl (E.2.1 1, 20000, .inl (f 12)), L 0) := (hoth _ (hLay.1 12 0 (by decide) (by decide) (by decide)) (fun k hk => hLay.1 12 (70 + k) (by decide) (by omega) (by omega))).trans ha12_4505
                    have ha12_4531 : h4531 (L 12) = some (.inl (E.2.1 1, 20000, .inl (f 12)), L 0) := hu_n eh4531 (hLay.1 12 0 (by decide) (by decide) (by decide)) ha12_4508
                    have ha12_4537 : h4537 (L 12) = some (.inl (E.2.1 1, 20000, .inl (f 12)), L 0) := hu_n eh4537 (hLay.1 12 0 (by decide) (by decide) (by decide)) ha12_4531
                    have ha12_4538 : h4538 (L 12) = some (.inl (E.2.1 1, 20000, .inl (f 12)), L 0) := hF4538 _ _ ha12_4537 (fun z => z.elim (hLay.1 0 24 (by decide) (by decide) (by decide)) (fun ⟨i, hi, e⟩ => hLay.2 i 0 hi (by decide) e.symm))
                    have ha12_4539 : h4539 (L 12) = some (.inl (E.2.1 1, 20000, .inl (f 12)), L 0) := hu_n eh4539 (hLay.1 12 0 (by decide) (by decide) (by decide)) ha12_4538
                    have ha13_4505 : h4505 (L 13) = some (.inl (E.2.1 1, 20000, .inl (f 13)), L 0) := hu_n eh4505 (hLay.1 13 0 (by decide) (by decide) (by decide)) ha13_4502
                    have ha13_4508 : h4507 (L 13) = some (.inl (E.2.1 1, 20000, .inl (f 13)), L 0) := (hoth _ (hLay.1 13 0 (by decide) (by decide) (by decide)) (fun k hk => hLay.1 13 (70 + k) (by decide) (by omega) (by omega))).trans ha13_4505
                    have ha13_4531 : h4531 (L 13) = some (.inl (E.2.1 1, 20000, .inl (f 13)), L 0) := hu_n eh4531 (hLay.1 13 0 (by decide) (by decide) (by decide)) ha13_4508
                    have ha13_4537 : h4537 (L 13) = some (.inl (E.2.1 1, 20000, .inl (f 13)), L 0) := hu_n eh4537 (hLay.1 13 0 (by decide) (by decide) (by decide)) ha13_4531
                    have ha13_4538 : h4538 (L 13) = some (.inl (E.2.1 1, 20000, .inl (f 13)), L 0) := hF4538 _ _ ha13_4537 (fun z => z.elim (hLay.1 0 24 (by decide) (by decide) (by decide)) (fun ⟨i, hi, e⟩ => hLay.2 i 0 hi (by decide) e.symm))
                    have ha13_4539 : h4539 (L 13) = some (.inl (E.2.1 1, 20000, .inl (f 13)), L 0) := hu_n eh4539 (hLay.1 13 0 (by decide) (by decide) (by decide)) ha13_4538
                    have ha14_4505 : h4505 (L 14) = some (.inl (E.2.1 2, 20000, .inl (f 14)), L 0) := hu_n eh4505 (hLay.1 14 0 (by decide) (by decide) (by decide)) ha14_4502
                    have ha14_4508 : h4507 (L 14) = some (.inl (E.2.1 2, 20000, .inl (f 14)), L 0) := (hoth _ (hLay.1 14 0 (by decide) (by decide) (by decide)) (fun k hk => hLay.1 14 (70 + k) (by decide) (by omega) (by omega))).trans ha14_4505
                    have ha14_4531 : h4531 (L 14) = some (.inl (E.2.1 2, 20000, .inl (f 14)), L 0) := hu_n eh4531 (hLay.1 14 0 (by decide) (by decide) (by decide)) ha14_4508
                    have ha14_4537 : h4537 (L 14) = some (.inl (E.2.1 2, 20000, .inl (f 14)), L 0) := hu_n eh4537 (hLay.1 14 0 (by decide) (by decide) (by decide)) ha14_4531
                    have ha14_4538 : h4538 (L 14) = some (.inl (E.2.1 2, 20000, .inl (f 14)), L 0) := hF4538 _ _ ha14_4537 (fun z => z.elim (hLay.1 0 24 (by decide) (by decide) (by decide)) (fun ⟨i, hi, e⟩ => hLay.2 i 0 hi (by decide) e.symm))
                    have ha14_4539 : h4539 (L 14) = some (.inl (E.2.1 2, 20000, .inl (f 14)), L 0) := hu_n eh4539 (hLay.1 14 0 (by decide) (by decide) (by decide)) ha14_4538
                    have ha15_4505 : h4505 (L 15) = some (.inl (E.2.1 3, 8, .inl r), L 0) := hu_n eh4505 (hLay.1 15 0 (by decide) (by decide) (by decide)) ha15_4502
                    have ha15_4508 : h4507 (L 15) = some (.inl (E.2.1 3, 8, .inl r), L 0) := (hoth _ (hLay.1 15 0 (by decide) (by decide) (by decide)) (fun k hk => hLay.1 15 (70 + k) (by decide) (by omega) (by omega))).trans ha15_4505
                    have ha15_4531 : h4531 (L 15) = some (.inl (E.2.1 3, 8, .inl r), L 0) := hu_n eh4531 (hLay.1 15 0 (by decide) (by decide) (by decide)) ha15_4508
                    have ha15_4537 : h4537 (L 15) = some (.inl (E.2.1 3, 8, .inl r), L 0) := hu_n eh4537 (hLay.1 15 0 (by decide) (by decide) (by decide)) ha15_4531
                    have ha15_4538 : h4538 (L 15) = some (.inl (E.2.1 3, 8, .inl r), L 0) := hF4538 _ _ ha15_4537 (fun z => z.elim (hLay.1 0 24 (by decide) (by decide) (by decide)) (fun ⟨i, hi, e⟩ => hLay.2 i 0 hi (by decide) e.symm))
                    have ha15_4539 : h4539 (L 15) = some (.inl (E.2.1 3, 8, .inl r), L 0) := hu_n eh4539 (hLay.1 15 0 (by decide) (by decide) (by decide)) ha15_4538
                    have ha16_4505 : h4505 (L 16) = some (.inl (E.2.1 0, 8, .inl (f 16)), L 0) := hu_n eh4505 (hLay.1 16 0 (by decide) (by decide) (by decide)) ha16_4502
                    have ha16_4508 : h4507 (L 16) = some (.inl (E.2.1 0, 8, .inl (f 16)), L 0) := (hoth _ (hLay.1 16 0 (by decide) (by decide) (by decide)) (fun k hk => hLay.1 16 (70 + k) (by decide) (by omega) (by omega))).trans ha16_4505
                    have ha16_4531 : h4531 (L 16) = some (.inl (E.2.1 0, 8, .inl (f 16)), L 0) := hu_n eh4531 (hLay.1 16 0 (by decide) (by decide) (by decide)) ha16_4508
                    have ha16_4537 : h4537 (L 16) = some (.inl (E.2.1 0, 8, .inl (f 16)), L 0) := hu_n eh4537 (hLay.1 16 0 (by decide) (by decide) (by decide)) ha16_4531
                    have ha16_4538 : h4538 (L 16) = some (.inl (E.2.1 0, 8, .inl (f 16)), L 0) := hF4538 _ _ ha16_4537 (fun z => z.elim (hLay.1 0 24 (by decide) (by decide) (by decide)) (fun ⟨i, hi, e⟩ => hLay.2 i 0 hi (by decide) e.symm))
                    have ha16_4539 : h4539 (L 16) = some (.inl (E.2.1 0, 8, .inl (f 16)), L 0) := hu_n eh4539 (hLay.1 16 0 (by decide) (by decide) (by decide)) ha16_4538
                    have ha17_4505 : h4505 (L 17) = some (.inl (E.2.1 0, 8, .inl (f 17)), L 0) := hu_n eh4505 (hLay.1 17 0 (by decide) (by decide) (by decide)) ha17_4502
                    have ha17_4508 : h4507 (L 17) = some (.inl (E.2.1 0, 8, .inl (f 17)), L 0) := (hoth _ (hLay.1 17 0 (by decide) (by decide) (by decide)) (fun k hk => hLay.1 17 (70 + k) (by decide) (by omega) (by omega))).trans ha17_4505
                    have ha17_4531 : h4531 (L 17) = some (.inl (E.2.1 0, 8, .inl (f 17)), L 0) := hu_n eh4531 (hLay.1 17 0 (by decide) (by decide) (by decide)) ha17_4508
                    have ha17_4537 : h4537 (L 17) = some (.inl (E.2.1 0, 8, .inl (f 17)), L 0) := hu_n eh4537 (hLay.1 17 0 (by decide) (by decide) (by decide)) ha17_4531
                    have ha17_4538 : h4538 (L 17) = some (.inl (E.2.1 0, 8, .inl (f 17)), L 0) := hF4538 _ _ ha17_4537 (fun z => z.elim (hLay.1 0 24 (by decide) (by decide) (by decide)) (fun ⟨i, hi, e⟩ => hLay.2 i 0 hi (by decide) e.symm))
                    have ha17_4539 : h4539 (L 17) = some (.inl (E.2.1 0, 8, .inl (f 17)), L 0) := hu_n eh4539 (hLay.1 17 0 (by decide) (by decide) (by decide)) ha17_4538
                    have ha39_4505 : h4505 (L 39) = some (.inl (E.2.1 3, 961, .inl (f 39)), L 0) := hu_n eh4505 (hLay.1 39 0 (by decide) (by decide) (by decide)) ha39_4502
                    have ha39_4508 : h4507 (L 39) = some (.inl (E.2.1 3, 961, .inl (f 39)), L 0) := (hoth _ (hLay.1 39 0 (by decide) (by decide) (by decide)) (fun k hk => hLay.1 39 (70 + k) (by decide) (by omega) (by omega))).trans ha39_4505
                    have ha39_4531 : h4531 (L 39) = some (.inl (E.2.1 3, 961, .inl (f 39)), L 0) := hu_n eh4531 (hLay.1 39 0 (by decide) (by decide) (by decide)) ha39_4508
                    have ha39_4537 : h4537 (L 39) = some (.inl (E.2.1 3, 961, .inl (f 39)), L 0) := hu_n eh4537 (hLay.1 39 0 (by decide) (by decide) (by decide)) ha39_4531
                    have ha39_4538 : h4538 (L 39) = some (.inl (E.2.1 3, 961, .inl (f 39)), L 0) := hF4538 _ _ ha39_4537 (fun z => z.elim (hLay.1 0 24 (by decide) (by decide) (by decide)) (fun ⟨i, hi, e⟩ => hLay.2 i 0 hi (by decide) e.symm))
                    have ha39_4539 : h4539 (L 39) = some (.inl (E.2.1 3, 961, .inl (f 39)), L 0) := hu_n eh4539 (hLay.1 39 0 (by decide) (by decide) (by decide)) ha39_4538
                    have hSt_4538 : Stt E L B h4538 := Stt.kept hF4538 (fun z => z.elim (hLay.1 30 24 (by decide) (by decide) (by decide)) (fun ⟨i, hi, e⟩ => hLay.2 i 30 hi (by decide) e.symm)) hSt_4537
                    have hSt_4539 : Stt E L B h4539 := Stt.kept (O := (· = L 0)) (hu_f eh4539 Fr.rf ho0_4538 rfl) (hLay.1 30 0 (by decide) (by decide) (by decide)) hSt_4538
                    have hP4538_4539 : Prs L B pw2 pl2 ps2 h4539 := Prs.kept (O := (· = L 0)) (hu_f eh4539 Fr.rf ho0_4538 rfl) (hLay.1 24 0 (by decide) (by decide) (by decide)) hP4538
                    have hCn_4505 : Cns h4505 E L (nI1 (M 8)) (N 10) := Cns.kept (O := (· = L 0)) (hu_f eh4505 Fr.rf ho0_4502 rfl) (hLay.1 26 0 (by decide) (by decide) (by decide)) hCn_4502
                    have hCn_4508 : Cns h4507 E L (nI1 (M 8)) (N 10) := Cns.kept hFo (fun z => z.elim (hLay.1 26 0 (by decide) (by decide) (by decide)) (hLay.1 26 24 (by decide) (by decide) (by decide))) hCn_4505
                    have hCn_4531 : Cns h4531 E L (nI1 (M 8)) (N 10) := Cns.kept (O := (· = L 0)) (hu_f eh4531 Fr.rf ho0_4507 rfl) (hLay.1 26 0 (by decide) (by decide) (by decide)) hCn_4508
                    have hCn_4537 : Cns h4537 E L (nI1 (M 8)) (N 10) := Cns.kept (O := (· = L 0)) (hu_f eh4537 Fr.rf ho0_4531 rfl) (hLay.1 26 0 (by decide) (by decide) (by decide)) hCn_4531
                    have hCn_4538 : Cns h4538 E L (nI1 (M 8)) (N 10) := Cns.kept hF4538 (fun z => z.elim (hLay.1 26 24 (by decide) (by decide) (by decide)) (fun ⟨i, hi, e⟩ => hLay.2 i 26 hi (by decide) e.symm)) hCn_4537
                    have hCn_4539 : Cns h4539 E L (nI1 (M 8)) (N 10) := Cns.kept (O := (· = L 0)) (hu_f eh4539 Fr.rf ho0_4538 rfl) (hLay.1 26 0 (by decide) (by decide) (by decide)) hCn_4538
                    have hSd_4505 : Sds h4505 E L (nI1 (M 6)) (N 9) := Sds.kept (O := (· = L 0)) (hu_f eh4505 Fr.rf ho0_4502 rfl) (hLay.1 27 0 (by decide) (by decide) (by decide)) hSd_4502
                    have hSd_4508 : Sds h4507 E L (nI1 (M 6)) (N 9) := Sds.kept hFo (fun z => z.elim (hLay.1 27 0 (by decide) (by decide) (by decide)) (hLay.1 27 24 (by decide) (by decide) (by decide))) hSd_4505
                    have hSd_4531 : Sds h4531 E L (nI1 (M 6)) (N 9) := Sds.kept (O := (· = L 0)) (hu_f eh4531 Fr.rf ho0_4507 rfl) (hLay.1 27 0 (by decide) (by decide) (by decide)) hSd_4508
                    have hSd_4537 : Sds h4537 E L (nI1 (M 6)) (N 9) := Sds.kept (O := (· = L 0)) (hu_f eh4537 Fr.rf ho0_4531 rfl) (hLay.1 27 0 (by decide) (by decide) (by decide)) hSd_4531
                    have hSd_4538 : Sds h4538 E L (nI1 (M 6)) (N 9) := Sds.kept hF4538 (fun z => z.elim (hLay.1 27 24 (by decide) (by decide) (by decide)) (fun ⟨i, hi, e⟩ => hLay.2 i 27 hi (by decide) e.symm)) hSd_4537
                    have hSd_4539 : Sds h4539 E L (nI1 (M 6)) (N 9) := Sds.kept (O := (· = L 0)) (hu_f eh4539 Fr.rf ho0_4538 rfl) (hLay.1 27 0 (by decide) (by decide) (by decide)) hSd_4538
                    have hDg_4505 : Dgo h4505 E L rs := Dgo.kept (O := (· = L 0)) (hu_f eh4505 Fr.rf ho0_4502 rfl) (hLay.1 62 0 (by decide) (by decide) (by decide)) hDg_4502
                    have hDg_4508 : Dgo h4507 E L rs := Dgo.kept hFo (fun z => z.elim (hLay.1 62 0 (by decide) (by decide) (by decide)) (hLay.1 62 24 (by decide) (by decide) (by decide))) hDg_4505
                    have hDg_4531 : Dgo h4531 E L rs := Dgo.kept (O := (· = L 0)) (hu_f eh4531 Fr.rf ho0_4507 rfl) (hLay.1 62 0 (by decide) (by decide) (by decide)) hDg_4508
                    have hDg_4537 : Dgo h4537 E L rs := Dgo.kept (O := (· = L 0)) (hu_f eh4537 Fr.rf ho0_4531 rfl) (hLay.1 62 0 (by decide) (by decide) (by decide)) hDg_4531
                    have hDg_4538 : Dgo h4538 E L rs := Dgo.kept hF4538 (fun z => z.elim (hLay.1 62 24 (by decide) (by decide) (by decide)) (fun ⟨i, hi, e⟩ => hLay.2 i 62 hi (by decide) e.symm)) hDg_4537
                    have hDg_4539 : Dgo h4539 E L rs := Dgo.kept (O := (· = L 0)) (hu_f eh4539 Fr.rf ho0_4538 rfl) (hLay.1 62 0 (by decide) (by decide) (by decide)) hDg_4538
                    have hB4538_4539 : Bgs E h4539 B V2 cp := Bgs.kept (O := (· = L 0)) (hu_f eh4539 Fr.rf ho0_4538 rfl) (fun i hi => hLay.2 i 0 hi (by decide)) hB4538
                    exact Z _ _ _ _ _ _ _ dX1_start_187 (Nat.zero_le _) (Nat.zero_le _) ⟨hcd, rfl, ⟨K, gu f 15 r, rs, pw2, pl2, ps2, V2, ⟨ho0_4539, ha1_4539, ha3_4539, ha12_4539, ha13_4539, ha14_4539, ha15_4539, ha16_4539, ha17_4539, ha39_4539⟩, ⟨r1, r3, r12, r13, r14, fun _ => hrw, r16, r17, fun _ => hK, hK16⟩, ⟨(hkp4538 2 (by decide)).trans hVr.1, (hkp4538 3 (by decide)).trans hVr.2.1, fun _ z => ⟨by rw [hkp4538 6 (by decide)]; rfl, by rw [hkp4538 7 (by decide)]; rfl⟩, fun _ k hk => ⟨(hv4538 k (by rw [hK]; exact hk)).1.trans (st_pA (iz cS).1 i0 k hk).1.symm, (hv4538 k (by rw [hK]; exact hk)).2.1.trans (st_pA (iz cS).1 i0 k hk).2.symm, (hpw2 k (by rw [hK]; exact hk)).1, (hpw2 k (by rw [hK]; exact hk)).2, (hv4538 k (by rw [hK]; exact hk)).2.2⟩⟩, hSt_4539, hP4538_4539, hCn_4539, hSd_4539, hDg_4539, hB4538_4539⟩, hF_4539, rfl, rfl⟩ T4539
              · refine lv_iconst (v := nI 0) hx hb dX1_start_55 rfl ?_
                refine lv_istore (lv' := [(4, .int (nI 0)), (0, .ref (L 0)), (1, .int (nI cm)), (2, .int (nI sd)), (3, .int (nI a))]) hx hb dX1_start_56 hl4507 (by decide) rfl (fun ls4509 hl4509 => ?_)
                have L2 : ∀ (j2 : Nat) (b K : Nat) (pw3 pl3 : Nat → Int32) (h4510 : HH) (H4510 : Heap) (locs4510 : List Loc) (ls4510 : Array Slot), (N 0 + 1 ≤ b + j2) → (h4510 (L 0) = some (.inr (0, [.ref (L 1), .int (nI (N 0)), .ref (L 3), .int (nI (N 1)), .int (nI (N 2)), .int (nI (N 3)), .int (nI (N 4)), .int (nI (N 5)), .int (nI (N 6)), .int (nI (N 7)), .int (nI (N 8)), .ref (L 12), .ref (L 13), .ref (L 14), .ref (L 15), .ref (L 16), .ref (L 17), .int (nI (N 11)), .int (nI (N 15)), .int (nI (N 16)), .int (nI (N 17)), .int (nI (N 18) - 1), .int (nI (N 19)), .ref (L 24), .int (nI K), .ref (L 26), .ref (L 27), .ref (if N 13 = 1 then L 27 else L 26), .ref (L 29), .ref (L 30), .ref (if N 12 = 1 then L 30 else L 29), .ref (L 32), .ref (B 0), .ref (B 1), .ref (B 2), .ref (B 3), .ref (L 37), .ref (L 38), .ref (L 39), .ref (B 4), .ref (B 5)]), L 0)) → (b ≤ N 0) → (K = pcn (wn N M) (N 0) (a * N 0 + b)) → (∀ i, i < K → pw3 i = nI (pwF (wn N M) (N 0) (a * N 0 + b) i) ∧ pl3 i = nI (plF (wn N M) (N 0) (a * N 0 + b) i)) → (Prs L B pw3 pl3 ps h4510) → (∀ q, q ≠ L 0 → (∀ k, k < 16 → q ≠ L (70 + k)) → h4510 q = h4505 q) → (Fr (fun o => o = L 0 ∨ o = L 24) h4505 h4510) → (Fr (CO L B) h h4510) → (St E s h4510 H4510 locs4510) → (lv_has ls4510 5 [(0, .ref (L 0)), (1, .int (nI cm)), (2, .int (nI sd)), (3, .int (nI a)), (4, .int (nI b))]) → W p l e ({ frames := 8, cells := 1, slots := 6, locals := 1200 } : Room) s m ([.ref (L 0), .int (nI cm), .int (nI sd)] : List Value).toArray below meth c H4510 locs4510 0 0 Q (F0 m 58 ls4510 []) := by
                  intro j2
                  induction j2 with
                  | zero => intro b K pw3 pl3 h4510 H4510 locs4510 ls4510 hm4510 ho0_4510 hb0 hK3 hpw3 hP3 hoth3 hFo3 hF_4510 T4510 hl4510; exact absurd hm4510 (by omega)
                  | succ j2 ih4510 =>
                    intro b K pw3 pl3 h4510 H4510 locs4510 ls4510 hm4510 ho0_4510 hb0 hK3 hpw3 hP3 hoth3 hFo3 hF_4510 T4510 hl4510
                    refine lv_iload hx hb dX1_start_58 (lv_at hl4510 4 rfl) ?_
                    refine lv_aload_n hx hb dX1_start_60 rfl (lv_at hl4510 0 rfl) ?_
                    refine hr_get C T4510 ho0_4510 rfl in_X1 1 (by decide) q291 rfl rfl dX1_start_61 ?_
                    refine hn_icmp_ge (tgt := 129) hx hb dX1_start_64 (by decide) (by omega) (by omega) (fun c6 => ?_) (fun c6 => ?_)
                    · have e6 : b = N 0 := by omega
                      have e7 : a * N 0 + b = (a + 1) * N 0 := by rw [e6, Nat.succ_mul]
                      rw [e7] at hK3 hpw3
                      refine lv_iinc (v := nI (a + 1)) (lv' := [(3, .int (nI (a + 1))), (0, .ref (L 0)), (1, .int (nI cm)), (2, .int (nI sd)), (4, .int (nI b))]) hx hb dX1_start_129 hl4510 (k := 3) rfl (nI_add a 1) (by decide) rfl (fun ls4512 hl4512 => ?_)
                      refine lv_goto (tgt := 47) hx hb dX1_start_132 (by decide) ?_
                      exact ih4507 (a + 1) K pw3 pl3 _ _ _ _ (by omega) ho0_4510 (by omega) hK3 hpw3 hP3 hoth3 hFo3 hF_4510 T4510 (lv_sub hl4512 [1, 2, 3, 0] rfl)
                    · have hwa := wn_le N M a
                      have hwb := wn_le N M b
                      refine lv_aload_n hx hb dX1_start_67 rfl (lv_at hl4510 0 rfl) ?_
                      refine hr_get C T4510 ho0_4510 rfl in_X1 14 (by decide) q309 rfl rfl dX1_start_68 ?_
                      refine lv_iload_n hx hb dX1_start_71 rfl (lv_at hl4510 3 rfl) ?_
                      have ha15_4505 : h4505 (L 15) = some (.inl (E.2.1 3, 8, .inl r), L 0) := hu_n eh4505 (hLay.1 15 0 (by decide) (by decide) (by decide)) ha15_4502
                      have ha15_4511 : h4510 (L 15) = some (.inl (E.2.1 3, 8, .inl r), L 0) := (hoth3 _ (hLay.1 15 0 (by decide) (by decide) (by decide)) (fun k hk => hLay.1 15 (70 + k) (by decide) (by omega) (by omega))).trans ha15_4505
                      refine hr_zald C T4510 ha15_4511 (by omega) (by omega) dX1_start_72 ?_
                      rw [show r a = nI (wn N M a) from hrw a (by omega)]
                      refine hn_if_eq (tgt := 123) hx hb dX1_start_73 (by decide) (by omega) (fun c7 => ?_) (fun c7 => ?_)
                      · have hpn := pcn_n (w := wn N M) (n := N 0) (a := a) (b := b) (by omega) (fun z => z.1 c7)
                        refine lv_iinc (v := nI (b + 1)) (lv' := [(4, .int (nI (b + 1))), (0, .ref (L 0)), (1, .int (nI cm)), (2, .int (nI sd)), (3, .int (nI a))]) hx hb dX1_start_123 hl4510 (k := 4) rfl (nI_add b 1) (by decide) rfl (fun ls4513 hl4513 => ?_)
                        refine lv_goto (tgt := 58) hx hb dX1_start_126 (by decide) ?_
                        exact ih4510 (b + 1) K pw3 pl3 _ _ _ _ (by omega) ho0_4510 (by omega) (hK3.trans hpn.1.symm) (fun i hi => by rw [show a * N 0 + (b + 1) = a * N 0 + b + 1 from rfl, hpn.2.1, hpn.2.2]; exact hpw3 i hi) hP3 hoth3 hFo3 hF_4510 T4510 (lv_sub hl4513 [1, 2, 3, 4, 0] rfl)
                      · refine lv_aload_n hx hb dX1_start_76 rfl (lv_at hl4510 0 rfl) ?_
                        refine hr_get C T4510 ho0_4510 rfl in_X1 14 (by decide) q309 rfl rfl dX1_start_77 ?_
                        refine lv_iload hx hb dX1_start_80 (lv_at hl4510 4 rfl) ?_
                        refine hr_zald C T4510 ha15_4511 (by omega) (by omega) dX1_start_82 ?_
                        rw [show r b = nI (wn N M b) from hrw b (by omega)]
                        refine hn_if_eq (tgt := 89) hx hb dX1_start_83 (by decide) (by omega) (fun c8 => ?_) (fun c8 => ?_)
                        · have hpy := pcn_y (w := wn N M) (n := N 0) (a := a) (b := b) (by omega) c7 c8
                          have hK16 : K < 16 := by rw [hK3]; exact pcn_lt i0 (by omega) (by omega) c7 c8
                          refine lv_aload_n hx hb dX1_start_89 rfl (lv_at hl4510 0 rfl) ?_
                          refine hr_get C T4510 ho0_4510 rfl in_X1 23 (by decide) q320 rfl rfl dX1_start_90 ?_
                          refine lv_aload_n hx hb dX1_start_93 rfl (lv_at hl4510 0 rfl) ?_
                          refine hr_get C T4510 ho0_4510 rfl in_X1 24 (by decide) q323 rfl rfl dX1_start_94 ?_
                          have hSt_4505 : Stt E L B h4505 := Stt.kept (O := (· = L 0)) (hu_f eh4505 Fr.rf ho0_4502 rfl) (hLay.1 30 0 (by decide) (by decide) (by decide)) hSt_4502
                          have hSt_4511 : Stt E L B h4510 := Stt.kept hFo3 (fun z => z.elim (hLay.1 30 0 (by decide) (by decide) (by decide)) (hLay.1 30 24 (by decide) (by decide) (by decide))) hSt_4505
                          have hst24x4515 := (hSt_4511).1
                          refine hr_aald C T4510 6 rfl hst24x4515 (by omega) (by omega) rfl dX1_start_97 ?_
                          have hpr4516 := hP3 K (by omega)
                          refine lv_iload_n hx hb dX1_start_98 rfl (lv_at hl4510 3 rfl) ?_
                          refine hr_putN C T4510 hpr4516 rfl in_X9 tyX9 tyX9_ok nmX9 0 (by decide) 8 rfl rfl rfl rfl rfl (Nat.le_of_ble_eq_true rfl) dX1_start_99 (fun h4517 H4517 locs4517 eh4517 T4517 => ?_)
                          have hpr4516_4517 : h4517 (L (70 + K)) = some (.inr (8, [.int (nI a), .int (pl3 K), .int (ps K), .ref (B (19 + 2 * K)), .ref (B (20 + 2 * K))]), L 24) := hu_s eh4517
                          have hF_4517 : Fr (CO L B) h h4517 := hu_f eh4517 hF_4510 hpr4516 (Or.inr (Or.inl rfl))
                          have hP4 : Prs L B (upd pw3 K (nI a)) pl3 ps h4517 := hP3.putw hLay hK16 eh4517
                          refine lv_aload_n hx hb dX1_start_102 rfl (lv_at hl4510 0 rfl) ?_
                          have ho0_4517 : h4517 (L 0) = some (.inr (0, [.ref (L 1), .int (nI (N 0)), .ref (L 3), .int (nI (N 1)), .int (nI (N 2)), .int (nI (N 3)), .int (nI (N 4)), .int (nI (N 5)), .int (nI (N 6)), .int (nI (N 7)), .int (nI (N 8)), .ref (L 12), .ref (L 13), .ref (L 14), .ref (L 15), .ref (L 16), .ref (L 17), .int (nI (N 11)), .int (nI (N 15)), .int (nI (N 16)), .int (nI (N 17)), .int (nI (N 18) - 1), .int (nI (N 19)), .ref (L 24), .int (nI K), .ref (L 26), .ref (L 27), .ref (if N 13 = 1 then L 27 else L 26), .ref (L 29), .ref (L 30), .ref (if N 12 = 1 then L 30 else L 29), .ref (L 32), .ref (B 0), .ref (B 1), .ref (B 2), .ref (B 3), .ref (L 37), .ref (L 38), .ref (L 39), .ref (B 4), .ref (B 5)]), L 0) := hu_n eh4517 (hLay.1 0 (70 + K) (by omega) (by omega) (by omega)) ho0_4510
                          refine hr_get C T4517 ho0_4517 rfl in_X1 23 (by decide) q320 rfl rfl dX1_start_103 ?_
                          refine lv_aload_n hx hb dX1_start_106 rfl (lv_at hl4510 0 rfl) ?_
                          refine lv_dup hx hb dX1_start_107 rfl ?_
                          refine hr_get C T4517 ho0_4517 rfl in_X1 24 (by decide) q323 rfl rfl dX1_start_108 ?_
                          refine lv_dup_x1 hx hb dX1_start_111 rfl rfl ?_
                          refine lv_iconst (v := nI 1) hx hb dX1_start_112 rfl ?_
                          refine hn_iadd hx hb dX1_start_113 ?_
                          refine hr_put C T4517 ho0_4517 rfl in_X1 tyX1 tyX1_ok nmX1 24 (by decide) q323 rfl rfl rfl rfl (Nat.le_of_ble_eq_true rfl) dX1_start_114 (fun h4518 H4518 locs4518 eh4518 T4518 => ?_)
                          have ho0_4518 : h4518 (L 0) = some (.inr (0, [.ref (L 1), .int (nI (N 0)), .ref (L 3), .int (nI (N 1)), .int (nI (N 2)), .int (nI (N 3)), .int (nI (N 4)), .int (nI (N 5)), .int (nI (N 6)), .int (nI (N 7)), .int (nI (N 8)), .ref (L 12), .ref (L 13), .ref (L 14), .ref (L 15), .ref (L 16), .ref (L 17), .int (nI (N 11)), .int (nI (N 15)), .int (nI (N 16)), .int (nI (N 17)), .int (nI (N 18) - 1), .int (nI (N 19)), .ref (L 24), .int (nI (K + 1)), .ref (L 26), .ref (L 27), .ref (if N 13 = 1 then L 27 else L 26), .ref (L 29), .ref (L 30), .ref (if N 12 = 1 then L 30 else L 29), .ref (L 32), .ref (B 0), .ref (B 1), .ref (B 2), .ref (B 3), .ref (L 37), .ref (L 38), .ref (L 39), .ref (B 4), .ref (B 5)]), L 0) := hu_s eh4518
                          have hF_4518 : Fr (CO L B) h h4518 := hu_f eh4518 hF_4517 ho0_4517 (Or.inl rfl)
                          have hst24x4515_4517 : h4517 (L 24) = some (.inl (E.2.1 6, 16, .inr (.inr (.inr (.inr (fun k => some (L (70 + k))))))), L 30) := hu_n eh4517 (hLay.1 24 (70 + K) (by omega) (by omega) (by omega)) hst24x4515
                          have hst24x4515_4518 : h4518 (L 24) = some (.inl (E.2.1 6, 16, .inr (.inr (.inr (.inr (fun k => some (L (70 + k))))))), L 30) := hu_n eh4518 (hLay.1 24 0 (by decide) (by decide) (by decide)) hst24x4515_4517
                          refine hr_aald C T4518 6 rfl hst24x4515_4518 (by omega) (by omega) rfl dX1_start_117 ?_
                          have hP4_4518 : Prs L B (upd pw3 K (nI a)) pl3 ps h4518 := Prs.kept (O := (· = L 0)) (hu_f eh4518 Fr.rf ho0_4517 rfl) (hLay.1 24 0 (by decide) (by decide) (by decide)) hP4
                          have hpr4519 := hP4_4518 K (by omega)
                          refine lv_iload hx hb dX1_start_118 (lv_at hl4510 4 rfl) ?_
                          refine hr_putN C T4518 hpr4519 rfl in_X9 tyX9 tyX9_ok nmX9 1 (by decide) 9 rfl rfl rfl rfl rfl (Nat.le_of_ble_eq_true rfl) dX1_start_120 (fun h4520 H4520 locs4520 eh4520 T4520 => ?_)
                          have hpr4519_4520 : h4520 (L (70 + K)) = some (.inr (8, [.int ((upd pw3 K (nI a)) K), .int (nI b), .int (ps K), .ref (B (19 + 2 * K)), .ref (B (20 + 2 * K))]), L 24) := hu_s eh4520
                          have hF_4520 : Fr (CO L B) h h4520 := hu_f eh4520 hF_4518 hpr4519 (Or.inr (Or.inl rfl))
                          have hP5 : Prs L B (upd pw3 K (nI a)) (upd pl3 K (nI b)) ps h4520 := hP4_4518.putl hLay hK16 eh4520
                          refine lv_iinc (v := nI (b + 1)) (lv' := [(4, .int (nI (b + 1))), (0, .ref (L 0)), (1, .int (nI cm)), (2, .int (nI sd)), (3, .int (nI a))]) hx hb dX1_start_123 hl4510 (k := 4) rfl (nI_add b 1) (by decide) rfl (fun ls4521 hl4521 => ?_)
                          refine lv_goto (tgt := 58) hx hb dX1_start_126 (by decide) ?_
                          have ho0_4520 : h4520 (L 0) = some (.inr (0, [.ref (L 1), .int (nI (N 0)), .ref (L 3), .int (nI (N 1)), .int (nI (N 2)), .int (nI (N 3)), .int (nI (N 4)), .int (nI (N 5)), .int (nI (N 6)), .int (nI (N 7)), .int (nI (N 8)), .ref (L 12), .ref (L 13), .ref (L 14), .ref (L 15), .ref (L 16), .ref (L 17), .int (nI (N 11)), .int (nI (N 15)), .int (nI (N 16)), .int (nI (N 17)), .int (nI (N 18) - 1), .int (nI (N 19)), .ref (L 24), .int (nI (K + 1)), .ref (L 26), .ref (L 27), .ref (if N 13 = 1 then L 27 else L 26), .ref (L 29), .ref (L 30), .ref (if N 12 = 1 then L 30 else L 29), .ref (L 32), .ref (B 0), .ref (B 1), .ref (B 2), .ref (B 3), .ref (L 37), .ref (L 38), .ref (L 39), .ref (B 4), .ref (B 5)]), L 0) := hu_n eh4520 (hLay.1 0 (70 + K) (by omega) (by omega) (by omega)) ho0_4518
                          exact ih4510 (b + 1) (K + 1) _ _ _ _ _ _ (by omega) ho0_4520 (by omega) (by rw [show a * N 0 + (b + 1) = a * N 0 + b + 1 from rfl, hpy.1, hK3]) (fun i hi => by rw [show a * N 0 + (b + 1) = a * N 0 + b + 1 from rfl, hpy.2.1, hpy.2.2, ← hK3]; by_cases z : i = K; (rw [z, pk_us, pk_us, nu_s, nu_s]; exact ⟨rfl, rfl⟩); (rw [pk_un z, pk_un z, nu_n z, nu_n z]; exact hpw3 i (by omega))) hP5 (fun q z1 z2 => by rw [eh4520, hup_n (z2 K hK16), eh4518, hup_n z1, eh4517, hup_n (z2 K hK16)]; exact hoth3 q z1 z2) (hu_f eh4520 (hu_f eh4518 (hu_f eh4517 hFo3 hpr4516 (Or.inr rfl)) ho0_4517 (Or.inl rfl)) hpr4519 (Or.inr rfl)) hF_4520 T4520 (lv_sub hl4521 [1, 2, 3, 4, 0] rfl)
                        · have hpn := pcn_n (w := wn N M) (n := N 0) (a := a) (b := b) (by omega) (fun z => c8 z.2)
                          refine lv_goto (tgt := 123) hx hb dX1_start_86 (by decide) ?_
                          refine lv_iinc (v := nI (b + 1)) (lv' := [(4, .int (nI (b + 1))), (0, .ref (L 0)), (1, .int (nI cm)), (2, .int (nI sd)), (3, .int (nI a))]) hx hb dX1_start_123 hl4510 (k := 4) rfl (nI_add b 1) (by decide) rfl (fun ls4514 hl4514 => ?_)
                          refine lv_goto (tgt := 58) hx hb dX1_start_126 (by decide) ?_
                          exact ih4510 (b + 1) K pw3 pl3 _ _ _ _ (by omega) ho0_4510 (by omega) (hK3.trans hpn.1.symm) (fun i hi => by rw [show a * N 0 + (b + 1) = a * N 0 + b + 1 from rfl, hpn.2.1, hpn.2.2]; exact hpw3 i hi) hP3 hoth3 hFo3 hF_4510 T4510 (lv_sub hl4514 [1, 2, 3, 4, 0] rfl)
                exact L2 (N 0 + 1) 0 K pw2 pl2 _ _ _ _ (by omega) ho0_4507 (Nat.zero_le _) (by rw [Nat.add_zero]; exact hK) (by rw [Nat.add_zero]; exact hpw2) hP2 hoth hFo hF_4507 T4507 (lv_sub hl4509 [1, 2, 3, 4, 0] rfl)
          have hPr_4505 : Prs L B pw pl ps h4505 := Prs.kept (O := (· = L 0)) (hu_f eh4505 Fr.rf ho0_4502 rfl) (hLay.1 24 0 (by decide) (by decide) (by decide)) hPr_4502
          have hPr0 := hPr_4505
          exact L1 (N 0 + 1) 0 0 pw pl _ _ _ _ (by omega) ho0_4505 (Nat.zero_le _) (by rw [Nat.zero_mul]; rfl) (fun i hi => absurd hi (by omega)) hPr0 (fun _ _ _ => rfl) Fr.rf hF_4505 T4505 (lv_sub hl4506 [1, 2, 3, 0] rfl)
        refine hn_if_eq (tgt := 32) hx hb dX1_start_19 (by decide) (by omega) (fun c3 => ?_) (fun c3 => ?_)
        · exact J32 _ _ _ (Or.inl c3) T4502 (lv_sub hl [0, 1, 2] rfl)
        · refine lv_aload_n hx hb dX1_start_22 rfl (lv_at hl 0 rfl) ?_
          refine hr_get C T4502 ho0_4502 rfl in_X1 26 (by decide) q325 rfl rfl dX1_start_23 ?_
          obtain ⟨fg, hso, hsg, hfg, hnd, hg9⟩ := id hSd_4502
          refine hr_getN C T4502 hso rfl in_X3 1 (by decide) 2 rfl rfl rfl dX1_start_26 ?_
          refine hn_if_le (tgt := 36) hx hb dX1_start_29 (by decide) (by omega) (fun c4 => ?_) (fun c4 => ?_)
          · refine lv_iconst (v := nI 0) hx hb dX1_start_36 rfl ?_
            have hcd : cd_start N M sd = 1 := by unfold cd_start; rw [if_neg (by omega)]
            exact Y _ _ _ _ _ _ ((thr_S C T4502 hl.1 (t_X1_now hfl) q517 q518 q53 q519 kd_X1_now rfl rfl ⟨Nat.le_of_ble_eq_true rfl, Nat.le_of_ble_eq_true rfl⟩ (Nat.le_of_ble_eq_true rfl) dX1_start_37 ⟨Nat.le_of_ble_eq_true rfl, Nat.le_of_ble_eq_true rfl⟩).on C T4502 hno ⟨Nat.le_of_ble_eq_true rfl, Nat.le_of_ble_eq_true rfl⟩ (fun h2 dc ds hp => by obtain ⟨rfl, rfl, rfl⟩ := hp; exact ⟨hCp9, hF_4502, rfl, rfl, by rw [hcd]; exact ⟨by decide, rfl⟩⟩))
          · exact J32 _ _ _ (Or.inr (by omega)) T4502 (lv_sub hl [0, 1, 2] rfl)
  · have hcd : cd_start N M sd = 1 := by unfold cd_start; rw [if_neg (fun z => cS z.1)]
    exact Y _ _ _ _ _ _ ((thr_V C T hl.1 ho0 rfl (t_X1_setting hfl i11.1 cS ho0) q513 q515 qs3 q53 q516 kd_X1_setting rfl rfl ⟨Nat.le_of_ble_eq_true rfl, Nat.le_of_ble_eq_true rfl⟩ (Nat.le_of_ble_eq_true rfl) dX1_start_1 ⟨Nat.le_of_ble_eq_true rfl, Nat.le_of_ble_eq_true rfl⟩).on C T hno ⟨Nat.le_of_ble_eq_true rfl, Nat.le_of_ble_eq_true rfl⟩ (fun h2 dc ds hp => by obtain ⟨rfl, rfl, rfl⟩ := hp; exact ⟨hC0, Fr.rf, rfl, rfl, by rw [hcd]; exact ⟨by decide, rfl⟩⟩))
