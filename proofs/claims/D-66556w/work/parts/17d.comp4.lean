set_option maxRecDepth 100000
/-- how many of a row are sure -/
def sures (g : Nat → Int32) : Nat → Nat
  | 0 => 0
  | n + 1 => sures g n + if g n = -1 then 0 else 1
theorem sures_le (g : Nat → Int32) : ∀ n, sures g n ≤ n := by
  intro n
  induction n with
  | zero => exact Nat.le_refl _
  | succ n ih => unfold sures; split <;> omega
theorem sures_cong {g g' : Nat → Int32} : ∀ {n : Nat}, (∀ i, i < n → g i = g' i) → sures g n = sures g' n := by
  intro n
  induction n with
  | zero => intro _; rfl
  | succ n ih => intro h; unfold sures; rw [ih fun i hi => h i (by omega), h n (by omega)]
theorem im1 {x : Int32} : x.toInt = -1 ↔ x = -1 := ⟨fun z => Int32.toInt_inj.mp z, fun z => by rw [z]; rfl⟩

set_option maxHeartbeats 4000000 in
theorem m_X1_surePairs {E : GE} {l : Launch} {h : HH} {L B N : Nat → Nat} {pp : Nat} {pw pl ps : Nat → Int32} (hLay : Lay L B) (ho0 : h (L 0) = some (.inr (0, [.ref (L 1), .int (nI (N 0)), .ref (L 3), .int (nI (N 1)), .int (nI (N 2)), .int (nI (N 3)), .int (nI (N 4)), .int (nI (N 5)), .int (nI (N 6)), .int (nI (N 7)), .int (nI (N 8)), .ref (L 12), .ref (L 13), .ref (L 14), .ref (L 15), .ref (L 16), .ref (L 17), .int (nI (N 11)), .int (nI (N 15)), .int (nI (N 16)), .int (nI (N 17)), .int (nI (N 18) - 1), .int (nI (N 19)), .ref (L 24), .int (nI pp), .ref (L 26), .ref (L 27), .ref (if N 13 = 1 then L 27 else L 26), .ref (L 29), .ref (L 30), .ref (if N 12 = 1 then L 30 else L 29), .ref (L 32), .ref (B 0), .ref (B 1), .ref (B 2), .ref (B 3), .ref (L 37), .ref (L 38), .ref (L 39), .ref (B 4), .ref (B 5)]), L 0)) (hSt : Stt E L B h) (hPr : Prs L B pw pl ps h) (rp16 : pp ≤ 16) : MM E l yX1_surePairs cX1_surePairs 3 (some .int) ({ frames := 0, cells := 0, slots := 0, locals := 0 } : Room) [.ref (L 0)] h (fun rv h2 => rv = some (.int (nI (sures ps pp))) ∧ h2 = h) := by
  refine hm_i (by decide) (Nat.le_of_ble_eq_true rfl) ?_
  intro p e s m below meth c C hnm Q Z ls T hl
  have hx := C.x
  have hb := C.b
  have hl : lv_has ls 3 [(0, .ref (L 0))] := hl
  have hst24x2301 := (hSt).1
  refine lv_iconst (v := nI 0) hx hb dX1_surePairs_0 rfl ?_
  refine lv_istore_n (lv' := [(1, .int (nI 0)), (0, .ref (L 0))]) hx hb dX1_surePairs_1 rfl hl (by decide) rfl (fun ls2302 hl2302 => ?_)
  refine lv_iconst (v := nI 0) hx hb dX1_surePairs_2 rfl ?_
  refine lv_istore_n (lv' := [(2, .int (nI 0)), (1, .int (nI 0)), (0, .ref (L 0))]) hx hb dX1_surePairs_3 rfl hl2302 (by decide) rfl (fun ls2303 hl2303 => ?_)
  have L1 : ∀ (j : Nat) (k : Nat) (H2304 : Heap) (locs2304 : List Loc) (ls2304 : Array Slot), (pp + 1 ≤ k + j) → (k ≤ pp) → (St E s h H2304 locs2304) → (lv_has ls2304 3 [(0, .ref (L 0)), (1, .int (nI (sures ps k))), (2, .int (nI k))]) → W p l e ({ frames := 0, cells := 0, slots := 0, locals := 0 } : Room) s m ([.ref (L 0)] : List Value).toArray below meth c H2304 locs2304 0 0 Q (F0 m 4 ls2304 []) := by
    intro j
    induction j with
    | zero => intro k H2304 locs2304 ls2304 hm2304 hk T2304 hl2304; exact absurd hm2304 (by omega)
    | succ j ih2304 =>
      intro k H2304 locs2304 ls2304 hm2304 hk T2304 hl2304
      have hsl := sures_le ps k
      refine lv_iload_n hx hb dX1_surePairs_4 rfl (lv_at hl2304 2 rfl) ?_
      refine lv_aload_n hx hb dX1_surePairs_5 rfl (lv_at hl2304 0 rfl) ?_
      refine hr_get C T2304 ho0 rfl in_X1 24 (by decide) q323 rfl rfl dX1_surePairs_6 ?_
      refine hn_icmp_ge (tgt := 39) hx hb dX1_surePairs_9 (by decide) (by omega) (by omega) (fun c1 => ?_) (fun c1 => ?_)
      · have e1 : k = pp := by omega
        refine lv_iload_n hx hb dX1_surePairs_39 rfl (lv_at hl2304 1 rfl) ?_
        exact Z _ _ _ _ _ _ dX1_surePairs_40 ⟨by rw [e1], rfl⟩ T2304
      · refine lv_iload_n hx hb dX1_surePairs_12 rfl (lv_at hl2304 1 rfl) ?_
        refine lv_aload_n hx hb dX1_surePairs_13 rfl (lv_at hl2304 0 rfl) ?_
        refine hr_get C T2304 ho0 rfl in_X1 23 (by decide) q320 rfl rfl dX1_surePairs_14 ?_
        refine lv_iload_n hx hb dX1_surePairs_17 rfl (lv_at hl2304 2 rfl) ?_
        refine hr_aald C T2304 6 rfl hst24x2301 (by omega) (by omega) rfl dX1_surePairs_18 ?_
        have hpr2305 := hPr k (by omega)
        refine hr_getN C T2304 hpr2305 rfl in_X9 2 (by decide) 10 rfl rfl rfl dX1_surePairs_19 ?_
        refine lv_iconst (v := (-1)) hx hb dX1_surePairs_22 rfl ?_
        have J31 : ∀ (x : Nat) (H2306 : Heap) (locs2306 : List Loc) (ls2306 : Array Slot), (sures ps (k + 1) = sures ps k + x) → (St E s h H2306 locs2306) → (lv_has ls2306 3 [(0, .ref (L 0)), (1, .int (nI (sures ps k))), (2, .int (nI k))]) → W p l e ({ frames := 0, cells := 0, slots := 0, locals := 0 } : Room) s m ([.ref (L 0)] : List Value).toArray below meth c H2306 locs2306 0 0 Q (F0 m 31 ls2306 [.int (nI x), .int (nI (sures ps k))]) := by
          intro x H2306 locs2306 ls2306 hx2 T2306 hl2306
          refine hn_iadd hx hb dX1_surePairs_31 ?_
          refine lv_istore_n (lv' := [(1, .int (nI ((sures ps k) + x))), (0, .ref (L 0)), (2, .int (nI k))]) hx hb dX1_surePairs_32 rfl hl2306 (by decide) rfl (fun ls2307 hl2307 => ?_)
          refine lv_iinc (v := nI (k + 1)) (lv' := [(2, .int (nI (k + 1))), (1, .int (nI ((sures ps k) + x))), (0, .ref (L 0))]) hx hb dX1_surePairs_33 hl2307 (k := 2) rfl (nI_add k 1) (by decide) rfl (fun ls2308 hl2308 => ?_)
          refine lv_goto (tgt := 4) hx hb dX1_surePairs_36 (by decide) ?_
          rw [← hx2] at hl2308
          exact ih2304 (k + 1) _ _ _ (by omega) (by omega) T2306 (lv_sub hl2308 [2, 1, 0] rfl)
        refine zi_icmp_eq (tgt := 30) (X := (ps k).toInt) (Y := (-1)) hx hb dX1_surePairs_23 (by decide) rfl rfl (fun c2 => ?_) (fun c2 => ?_)
        · refine lv_iconst (v := nI 0) hx hb dX1_surePairs_30 rfl ?_
          exact J31 0 _ _ _ (by rw [sures, if_pos (im1.mp c2)]) T2304 (lv_sub hl2304 [0, 1, 2] rfl)
        · refine lv_iconst (v := nI 1) hx hb dX1_surePairs_26 rfl ?_
          refine lv_goto (tgt := 31) hx hb dX1_surePairs_27 (by decide) ?_
          exact J31 1 _ _ _ (by rw [sures, if_neg (fun z => c2 (im1.mpr z))]) T2304 (lv_sub hl2304 [0, 1, 2] rfl)
  exact L1 (pp + 1) 0 _ _ _ (by omega) (Nat.zero_le _) T (lv_sub hl2303 [2, 1, 0] rfl)

def cd_told (x : Int32) : Nat := if x.toInt < 0 ∨ 12 < x.toInt then 1 else 0
def vl_told (N : Nat → Nat) (G : Nat → Nat → Int32) : Nat → Int32
  | 0 => nI (N 11) | 1 => nI (N 0) | 2 => nI (N 1) | 3 => nI (N 2) | 4 => nI (N 15) | 5 => nI (N 16) | 6 => nI (N 17) | 7 => nI (N 10) | 8 => nI (N 14)
  | 9 => nI (sures (G 2) (N 14)) | 10 => nI (N 18) - 1 | 11 => nI (mny (N 2)) | _ => nI (N 19)


set_option maxHeartbeats 4000000 in
theorem m_X1_told {E : GE} {l : Launch} {h : HH} (hfl : l.flags = flags0) {L B cp N : Nat → Nat} {M : Nat → Nat → Nat} {G : Nat → Nat → Int32} (hLay : Lay L B) (hI : Inv N M G) (hC : Cp E h L B cp N M G) {x : Int32} : MX E l yX1_told cX1_told 2 (some .int) ({ frames := 8, cells := 1, slots := 6, locals := 1200 } : Room) [.ref (L 0), .int x] h (fun rv h2 dc ds => cd_told x = 0 ∧ rv = some (.int (vl_told N G x.toInt.toNat)) ∧ h2 = h ∧ dc = 0 ∧ ds = 0) (fun C h' dc ds => h' = h ∧ dc = 1 ∧ ds = 6 ∧ TC C (cd_told x) [xIOB]) := by
  refine hx_i (by decide) (Nat.le_of_ble_eq_true rfl) ?_
  intro p e s m below meth c C hno Q Z Y ls T hl
  have hx := C.x
  have hb := C.b
  have hl : lv_has ls 2 [(0, .ref (L 0)), (1, .int x)] := hl
  obtain ⟨i0, i1, i2, i3, i4, i5, i7, i9, i10, i11, i15, iv, isz, isum, ital, itm, idg, icn, irec, isn, iout, ict, iwt, iwt2, iz, inz, iup, ish⟩ := hI
  obtain ⟨pp, f, rs, pw, pl, ps, V, ⟨ho0, ha1, ha3, ha12, ha13, ha14, ha15, ha16, ha17, ha39⟩, ⟨r1, r3, r12, r13, r14, r15, r16, r17, rp, rp16⟩, hVr, hSt, hPr, hCn, hSd, hDg, hB⟩ := hC
  have hF : Fr (CO L B) h h := Fr.rf
  refine lv_iload_n hx hb dX1_told_0 rfl (lv_at hl 1 rfl) ?_
  rcases (show (x).toInt = 0 ∨ (x).toInt = 1 ∨ (x).toInt = 2 ∨ (x).toInt = 3 ∨ (x).toInt = 4 ∨ (x).toInt = 5 ∨ (x).toInt = 6 ∨ (x).toInt = 7 ∨ (x).toInt = 8 ∨ (x).toInt = 9 ∨ (x).toInt = 10 ∨ (x).toInt = 11 ∨ (x).toInt = 12 ∨ ((x).toInt < 0 ∨ 12 < (x).toInt) by omega) with cw | cw | cw | cw | cw | cw | cw | cw | cw | cw | cw | cw | cw | cw
  · refine lv_tableIn (tgt := 68) hx hb dX1_told_1 (by omega) (by omega) (by rw [cw]; rfl) (by decide) ?_
    refine lv_aload_n hx hb dX1_told_68 rfl (lv_at hl 0 rfl) ?_
    refine hr_get C T ho0 rfl in_X1 17 (by decide) q312 rfl rfl dX1_told_69 ?_
    have hcd : cd_told x = 0 := by unfold cd_told; (repeat' split) <;> omega
    exact Z _ _ _ _ _ _ _ _ dX1_told_72 (Nat.zero_le _) (Nat.zero_le _) ⟨hcd, by rw [cw]; rfl, rfl, rfl, rfl⟩ T
  · refine lv_tableIn (tgt := 73) hx hb dX1_told_1 (by omega) (by omega) (by rw [cw]; rfl) (by decide) ?_
    refine lv_aload_n hx hb dX1_told_73 rfl (lv_at hl 0 rfl) ?_
    refine hr_get C T ho0 rfl in_X1 1 (by decide) q291 rfl rfl dX1_told_74 ?_
    have hcd : cd_told x = 0 := by unfold cd_told; (repeat' split) <;> omega
    exact Z _ _ _ _ _ _ _ _ dX1_told_77 (Nat.zero_le _) (Nat.zero_le _) ⟨hcd, by rw [cw]; rfl, rfl, rfl, rfl⟩ T
  · refine lv_tableIn (tgt := 78) hx hb dX1_told_1 (by omega) (by omega) (by rw [cw]; rfl) (by decide) ?_
    refine lv_aload_n hx hb dX1_told_78 rfl (lv_at hl 0 rfl) ?_
    refine hr_get C T ho0 rfl in_X1 3 (by decide) q293 rfl rfl dX1_told_79 ?_
    have hcd : cd_told x = 0 := by unfold cd_told; (repeat' split) <;> omega
    exact Z _ _ _ _ _ _ _ _ dX1_told_82 (Nat.zero_le _) (Nat.zero_le _) ⟨hcd, by rw [cw]; rfl, rfl, rfl, rfl⟩ T
  · refine lv_tableIn (tgt := 83) hx hb dX1_told_1 (by omega) (by omega) (by rw [cw]; rfl) (by decide) ?_
    refine lv_aload_n hx hb dX1_told_83 rfl (lv_at hl 0 rfl) ?_
    refine hr_get C T ho0 rfl in_X1 4 (by decide) q295 rfl rfl dX1_told_84 ?_
    have hcd : cd_told x = 0 := by unfold cd_told; (repeat' split) <;> omega
    exact Z _ _ _ _ _ _ _ _ dX1_told_87 (Nat.zero_le _) (Nat.zero_le _) ⟨hcd, by rw [cw]; rfl, rfl, rfl, rfl⟩ T
  · refine lv_tableIn (tgt := 88) hx hb dX1_told_1 (by omega) (by omega) (by rw [cw]; rfl) (by decide) ?_
    refine lv_aload_n hx hb dX1_told_88 rfl (lv_at hl 0 rfl) ?_
    refine hr_get C T ho0 rfl in_X1 18 (by decide) q313 rfl rfl dX1_told_89 ?_
    have hcd : cd_told x = 0 := by unfold cd_told; (repeat' split) <;> omega
    exact Z _ _ _ _ _ _ _ _ dX1_told_92 (Nat.zero_le _) (Nat.zero_le _) ⟨hcd, by rw [cw]; rfl, rfl, rfl, rfl⟩ T
  · refine lv_tableIn (tgt := 93) hx hb dX1_told_1 (by omega) (by omega) (by rw [cw]; rfl) (by decide) ?_
    refine lv_aload_n hx hb dX1_told_93 rfl (lv_at hl 0 rfl) ?_
    refine hr_get C T ho0 rfl in_X1 19 (by decide) q314 rfl rfl dX1_told_94 ?_
    have hcd : cd_told x = 0 := by unfold cd_told; (repeat' split) <;> omega
    exact Z _ _ _ _ _ _ _ _ dX1_told_97 (Nat.zero_le _) (Nat.zero_le _) ⟨hcd, by rw [cw]; rfl, rfl, rfl, rfl⟩ T
  · refine lv_tableIn (tgt := 98) hx hb dX1_told_1 (by omega) (by omega) (by rw [cw]; rfl) (by decide) ?_
    refine lv_aload_n hx hb dX1_told_98 rfl (lv_at hl 0 rfl) ?_
    refine hr_get C T ho0 rfl in_X1 20 (by decide) q315 rfl rfl dX1_told_99 ?_
    have hcd : cd_told x = 0 := by unfold cd_told; (repeat' split) <;> omega
    exact Z _ _ _ _ _ _ _ _ dX1_told_102 (Nat.zero_le _) (Nat.zero_le _) ⟨hcd, by rw [cw]; rfl, rfl, rfl, rfl⟩ T
  · refine lv_tableIn (tgt := 103) hx hb dX1_told_1 (by omega) (by omega) (by rw [cw]; rfl) (by decide) ?_
    refine lv_aload_n hx hb dX1_told_103 rfl (lv_at hl 0 rfl) ?_
    refine hr_get C T ho0 rfl in_X1 25 (by decide) q324 rfl rfl dX1_told_104 ?_
    obtain ⟨fi, row, hco, hro, hfi, hn4, hrow, h01⟩ := id hCn
    refine hr_getN C T hco rfl in_X2 2 (by decide) 0 rfl rfl rfl dX1_told_107 ?_
    have hcd : cd_told x = 0 := by unfold cd_told; (repeat' split) <;> omega
    exact Z _ _ _ _ _ _ _ _ dX1_told_110 (Nat.zero_le _) (Nat.zero_le _) ⟨hcd, by rw [cw]; rfl, rfl, rfl, rfl⟩ T
  · refine lv_tableIn (tgt := 111) hx hb dX1_told_1 (by omega) (by omega) (by rw [cw]; rfl) (by decide) ?_
    refine lv_aload_n hx hb dX1_told_111 rfl (lv_at hl 0 rfl) ?_
    refine hr_get C T ho0 rfl in_X1 17 (by decide) q312 rfl rfl dX1_told_112 ?_
    refine hn_if_ne (tgt := 122) hx hb dX1_told_115 (by decide) (by omega) (fun c1 => ?_) (fun c1 => ?_)
    · refine lv_aload_n hx hb dX1_told_122 rfl (lv_at hl 0 rfl) ?_
      refine hr_get C T ho0 rfl in_X1 24 (by decide) q323 rfl rfl dX1_told_123 ?_
      have hcd : cd_told x = 0 := by unfold cd_told; (repeat' split) <;> omega
      exact Z _ _ _ _ _ _ _ _ dX1_told_126 (Nat.zero_le _) (Nat.zero_le _) ⟨hcd, by rw [cw]; show _ = some (Value.int (nI (N 14))); rw [rp c1], rfl, rfl, rfl⟩ T
    · refine lv_iconst (v := nI 0) hx hb dX1_told_118 rfl ?_
      refine lv_goto (tgt := 126) hx hb dX1_told_119 (by decide) ?_
      have hcd : cd_told x = 0 := by unfold cd_told; (repeat' split) <;> omega
      exact Z _ _ _ _ _ _ _ _ dX1_told_126 (Nat.zero_le _) (Nat.zero_le _) ⟨hcd, by rw [cw]; show _ = some (Value.int (nI (N 14))); rw [(iz (by omega)).2.2.2.2.1], rfl, rfl, rfl⟩ T
  · refine lv_tableIn (tgt := 127) hx hb dX1_told_1 (by omega) (by omega) (by rw [cw]; rfl) (by decide) ?_
    refine lv_aload_n hx hb dX1_told_127 rfl (lv_at hl 0 rfl) ?_
    refine hr_get C T ho0 rfl in_X1 17 (by decide) q312 rfl rfl dX1_told_128 ?_
    refine hn_if_ne (tgt := 138) hx hb dX1_told_131 (by decide) (by omega) (fun c1 => ?_) (fun c1 => ?_)
    · refine lv_aload_n hx hb dX1_told_138 rfl (lv_at hl 0 rfl) ?_
      refine hc_V C T hl.1 ho0 rfl (m_X1_surePairs hLay ho0 hSt hPr rp16) q850 q852 qs12 q53 q853 kd_X1_surePairs rfl rfl ⟨Nat.le_of_ble_eq_true rfl, Nat.le_of_ble_eq_true rfl⟩ (Nat.le_of_ble_eq_true rfl) dX1_told_139 ⟨Nat.le_of_ble_eq_true rfl, Nat.le_of_ble_eq_true rfl⟩ (fun rv h2309 H2309 locs2309 hp2309 T2309 => ?_)
      obtain ⟨rfl, hq2309⟩ := hp2309
      rw [hq2309] at T2309
      have hcd : cd_told x = 0 := by unfold cd_told; (repeat' split) <;> omega
      exact Z _ _ _ _ _ _ _ _ dX1_told_142 (Nat.zero_le _) (Nat.zero_le _) ⟨hcd, by rw [cw]; show _ = some (Value.int (nI (sures (G 2) (N 14)))); rw [← rp c1, sures_cong fun i hi => ((hVr.2.2.2 c1 i (by rw [← rp c1]; exact hi)).2.2.2.2)], rfl, rfl, rfl⟩ T2309
    · refine lv_iconst (v := nI 0) hx hb dX1_told_134 rfl ?_
      refine lv_goto (tgt := 142) hx hb dX1_told_135 (by decide) ?_
      have hcd : cd_told x = 0 := by unfold cd_told; (repeat' split) <;> omega
      exact Z _ _ _ _ _ _ _ _ dX1_told_142 (Nat.zero_le _) (Nat.zero_le _) ⟨hcd, by rw [cw]; show _ = some (Value.int (nI (sures (G 2) (N 14)))); rw [(iz (by omega)).2.2.2.2.1]; rfl, rfl, rfl, rfl⟩ T
  · refine lv_tableIn (tgt := 143) hx hb dX1_told_1 (by omega) (by omega) (by rw [cw]; rfl) (by decide) ?_
    refine lv_aload_n hx hb dX1_told_143 rfl (lv_at hl 0 rfl) ?_
    refine hr_get C T ho0 rfl in_X1 21 (by decide) q316 rfl rfl dX1_told_144 ?_
    have hcd : cd_told x = 0 := by unfold cd_told; (repeat' split) <;> omega
    exact Z _ _ _ _ _ _ _ _ dX1_told_147 (Nat.zero_le _) (Nat.zero_le _) ⟨hcd, by rw [cw]; rfl, rfl, rfl, rfl⟩ T
  · refine lv_tableIn (tgt := 148) hx hb dX1_told_1 (by omega) (by omega) (by rw [cw]; rfl) (by decide) ?_
    refine lv_aload_n hx hb dX1_told_148 rfl (lv_at hl 0 rfl) ?_
    refine hr_get C T ho0 rfl in_X1 4 (by decide) q295 rfl rfl dX1_told_149 ?_
    refine hc_S C T hl.1 (m_X2_many (show N 2 ≤ 32768 by omega)) q854 q700 q54 q701 kd_X2_many rfl rfl ⟨Nat.le_of_ble_eq_true rfl, Nat.le_of_ble_eq_true rfl⟩ (Nat.le_of_ble_eq_true rfl) dX1_told_152 ⟨Nat.le_of_ble_eq_true rfl, Nat.le_of_ble_eq_true rfl⟩ (fun rv h2310 H2310 locs2310 hp2310 T2310 => ?_)
    obtain ⟨rfl, hq2310⟩ := hp2310
    rw [hq2310] at T2310
    have hcd : cd_told x = 0 := by unfold cd_told; (repeat' split) <;> omega
    exact Z _ _ _ _ _ _ _ _ dX1_told_155 (Nat.zero_le _) (Nat.zero_le _) ⟨hcd, by rw [cw]; rfl, rfl, rfl, rfl⟩ T2310
  · refine lv_tableIn (tgt := 156) hx hb dX1_told_1 (by omega) (by omega) (by rw [cw]; rfl) (by decide) ?_
    refine lv_aload_n hx hb dX1_told_156 rfl (lv_at hl 0 rfl) ?_
    refine hr_get C T ho0 rfl in_X1 22 (by decide) q317 rfl rfl dX1_told_157 ?_
    refine hn_if_eq (tgt := 167) hx hb dX1_told_160 (by decide) (by omega) (fun c1 => ?_) (fun c1 => ?_)
    · refine lv_iconst (v := nI 0) hx hb dX1_told_167 rfl ?_
      have hcd : cd_told x = 0 := by unfold cd_told; (repeat' split) <;> omega
      exact Z _ _ _ _ _ _ _ _ dX1_told_168 (Nat.zero_le _) (Nat.zero_le _) ⟨hcd, by rw [cw]; show _ = some (Value.int (nI (N 19))); rw [c1], rfl, rfl, rfl⟩ T
    · refine lv_iconst (v := nI 1) hx hb dX1_told_163 rfl ?_
      refine lv_goto (tgt := 168) hx hb dX1_told_164 (by decide) ?_
      have hcd : cd_told x = 0 := by unfold cd_told; (repeat' split) <;> omega
      exact Z _ _ _ _ _ _ _ _ dX1_told_168 (Nat.zero_le _) (Nat.zero_le _) ⟨hcd, by rw [cw]; show _ = some (Value.int (nI (N 19))); rw [show N 19 = 1 by omega], rfl, rfl, rfl⟩ T
  · refine lv_tableOut (tgt := 169) hx hb dX1_told_1 cw (by decide) ?_
    have hcd : cd_told x = 1 := by unfold cd_told; (repeat' split) <;> omega
    refine Y "java/lang/IndexOutOfBoundsException" _ _ _ _ _ ?_
    refine hx_new C T q596 q597 q71 (Nat.le_of_ble_eq_true rfl) (Nat.le_of_ble_eq_true rfl) dX1_told_169 (fun qa H2311 cX kX hfX hkX hcell hnew T2311 => ?_)
    refine lv_dup hx hb dX1_told_172 rfl ?_
    exact hx_thr0 hfl C T hl.1 (by decide) (by decide) (ex_at C (by decide) ok_iob) hfX hkX hcell hnew dX1_told_173 dX1_told_176 hno (by decide) (by decide) ⟨Nat.le_of_ble_eq_true rfl, Nat.le_of_ble_eq_true rfl⟩ ⟨rfl, rfl, rfl, by rw [hcd]; exact ⟨by decide, rfl⟩⟩

def cd_of (N : Nat → Nat) (x y : Int32) : Nat := if x.toInt < 0 ∨ N 0 ≤ x.toInt ∨ y.toInt < 0 ∨ 3 < y.toInt then 1 else 0
def vl_of (N : Nat → Nat) (M : Nat → Nat → Nat) (G : Nat → Nat → Int32) (c : Nat) : Nat → Int32
  | 0 => nI (M 0 c) | 1 => nI (if N 11 = 0 then 0 else M 7 c) | 2 => nI (M 2 c) | _ => G 3 c

set_option maxHeartbeats 4000000 in
theorem m_X1_of {E : GE} {l : Launch} {h : HH} (hfl : l.flags = flags0) {L B cp N : Nat → Nat} {M : Nat → Nat → Nat} {G : Nat → Nat → Int32} (hLay : Lay L B) (hI : Inv N M G) (hC : Cp E h L B cp N M G) {x y : Int32} : MX E l yX1_of cX1_of 3 (some .int) ({ frames := 8, cells := 1, slots := 6, locals := 1200 } : Room) [.ref (L 0), .int x, .int y] h (fun rv h2 dc ds => cd_of N x y = 0 ∧ rv = some (.int (vl_of N M G x.toInt.toNat y.toInt.toNat)) ∧ h2 = h ∧ dc = 0 ∧ ds = 0) (fun C h' dc ds => h' = h ∧ dc = 1 ∧ ds = 6 ∧ TC C (cd_of N x y) [xIOB]) := by
  refine hx_i (by decide) (Nat.le_of_ble_eq_true rfl) ?_
  intro p e s m below meth c C hno Q Z Y ls T hl
  have hx := C.x
  have hb := C.b
  have hl : lv_has ls 3 [(0, .ref (L 0)), (1, .int x), (2, .int y)] := hl
  obtain ⟨i0, i1, i2, i3, i4, i5, i7, i9, i10, i11, i15, iv, isz, isum, ital, itm, idg, icn, irec, isn, iout, ict, iwt, iwt2, iz, inz, iup, ish⟩ := hI
  obtain ⟨pp, f, rs, pw, pl, ps, V, ⟨ho0, ha1, ha3, ha12, ha13, ha14, ha15, ha16, ha17, ha39⟩, ⟨r1, r3, r12, r13, r14, r15, r16, r17, rp, rp16⟩, hVr, hSt, hPr, hCn, hSd, hDg, hB⟩ := hC
  have hF : Fr (CO L B) h h := Fr.rf
  refine lv_aload_n hx hb dX1_of_0 rfl (lv_at hl 0 rfl) ?_
  refine lv_iload_n hx hb dX1_of_1 rfl (lv_at hl 1 rfl) ?_
  by_cases cI2 : 0 ≤ (x).toInt ∧ (x).toInt < N 0
  · refine hp_V C T hl.1 ho0 rfl (p_X1_isC1 (x := x) i0 cI2 ho0) q631 q633 qs4 q53 q634 kd_X1_isCandidate rfl rfl ⟨Nat.le_of_ble_eq_true rfl, Nat.le_of_ble_eq_true rfl⟩ (Nat.le_of_ble_eq_true rfl) dX1_of_2 ⟨Nat.le_of_ble_eq_true rfl, Nat.le_of_ble_eq_true rfl⟩ (fun rv H2312 hp2312 T2312 => ?_)
    obtain rfl := hp2312
    refine W.eq (g2 := F0 m 5 ls [.int (nI 1)]) rfl ?_
    refine hp_S C T2312 hl.1 (p_X1_inside) q593 q594 q53 q595 kd_X1_inside rfl rfl ⟨Nat.le_of_ble_eq_true rfl, Nat.le_of_ble_eq_true rfl⟩ (Nat.le_of_ble_eq_true rfl) dX1_of_5 ⟨Nat.le_of_ble_eq_true rfl, Nat.le_of_ble_eq_true rfl⟩ (fun rv H2314 hp2314 T2314 => ?_)
    obtain rfl := hp2314
    refine W.eq (g2 := F0 m 8 ls []) rfl ?_
    obtain ⟨v, hv, rfl⟩ := nat_of (x := x) (by omega)
    have ev := nI_toInt hv
    have tv : (nI v).toInt.toNat = v := by rw [ev]; rfl
    refine lv_iload_n hx hb dX1_of_8 rfl (lv_at hl 2 rfl) ?_
    rcases (show (y).toInt = 0 ∨ (y).toInt = 1 ∨ (y).toInt = 2 ∨ (y).toInt = 3 ∨ ((y).toInt < 0 ∨ 3 < (y).toInt) by omega) with cw | cw | cw | cw | cw
    · refine lv_tableIn (tgt := 40) hx hb dX1_of_9 (by omega) (by omega) (by rw [cw]; rfl) (by decide) ?_
      refine lv_aload_n hx hb dX1_of_40 rfl (lv_at hl 0 rfl) ?_
      refine hr_get C T2314 ho0 rfl in_X1 0 (by decide) q290 rfl rfl dX1_of_41 ?_
      refine lv_iload_n hx hb dX1_of_44 rfl (lv_at hl 1 rfl) ?_
      refine hr_iald C T2314 ha1 (by omega) (by omega) dX1_of_45 ?_
      have hcd : cd_of N (nI v) y = 0 := by unfold cd_of; (repeat' split) <;> omega
      exact Z _ _ _ _ _ _ _ _ dX1_of_46 (Nat.zero_le _) (Nat.zero_le _) ⟨hcd, by rw [cw, tv]; exact congrArg (fun z => some (Value.int z)) (r1 v (by omega)), rfl, rfl, rfl⟩ T2314
    · refine lv_tableIn (tgt := 47) hx hb dX1_of_9 (by omega) (by omega) (by rw [cw]; rfl) (by decide) ?_
      refine lv_aload_n hx hb dX1_of_47 rfl (lv_at hl 0 rfl) ?_
      refine hr_get C T2314 ho0 rfl in_X1 17 (by decide) q312 rfl rfl dX1_of_48 ?_
      refine hn_if_eq (tgt := 67) hx hb dX1_of_51 (by decide) (by omega) (fun c1 => ?_) (fun c1 => ?_)
      · refine lv_iconst (v := nI 0) hx hb dX1_of_67 rfl ?_
        have hcd : cd_of N (nI v) y = 0 := by unfold cd_of; (repeat' split) <;> omega
        exact Z _ _ _ _ _ _ _ _ dX1_of_68 (Nat.zero_le _) (Nat.zero_le _) ⟨hcd, by rw [cw, tv]; show _ = some (Value.int (nI (if N 11 = 0 then 0 else M 7 v))); rw [if_pos c1], rfl, rfl, rfl⟩ T2314
      · refine lv_aload_n hx hb dX1_of_54 rfl (lv_at hl 0 rfl) ?_
        refine hr_get C T2314 ho0 rfl in_X1 14 (by decide) q309 rfl rfl dX1_of_55 ?_
        refine lv_iload_n hx hb dX1_of_58 rfl (lv_at hl 1 rfl) ?_
        refine hr_zald C T2314 ha15 (by omega) (by omega) dX1_of_59 ?_
        have hw7 := r15 c1 v (by omega)
        have hw8 := (inz c1).2.2.1 v (by omega)
        rw [hw7]
        refine hn_if_eq (tgt := 67) hx hb dX1_of_60 (by decide) (by omega) (fun c2 => ?_) (fun c2 => ?_)
        · refine lv_iconst (v := nI 0) hx hb dX1_of_67 rfl ?_
          have hcd : cd_of N (nI v) y = 0 := by unfold cd_of; (repeat' split) <;> omega
          exact Z _ _ _ _ _ _ _ _ dX1_of_68 (Nat.zero_le _) (Nat.zero_le _) ⟨hcd, by rw [cw, tv]; show _ = some (Value.int (nI (if N 11 = 0 then 0 else M 7 v))); rw [if_neg c1, c2], rfl, rfl, rfl⟩ T2314
        · refine lv_iconst (v := nI 1) hx hb dX1_of_63 rfl ?_
          refine lv_goto (tgt := 68) hx hb dX1_of_64 (by decide) ?_
          have hcd : cd_of N (nI v) y = 0 := by unfold cd_of; (repeat' split) <;> omega
          exact Z _ _ _ _ _ _ _ _ dX1_of_68 (Nat.zero_le _) (Nat.zero_le _) ⟨hcd, by rw [cw, tv]; show _ = some (Value.int (nI (if N 11 = 0 then 0 else M 7 v))); rw [if_neg c1, show M 7 v = 1 by omega], rfl, rfl, rfl⟩ T2314
    · refine lv_tableIn (tgt := 69) hx hb dX1_of_9 (by omega) (by omega) (by rw [cw]; rfl) (by decide) ?_
      refine lv_aload_n hx hb dX1_of_69 rfl (lv_at hl 0 rfl) ?_
      refine hr_get C T2314 ho0 rfl in_X1 15 (by decide) q310 rfl rfl dX1_of_70 ?_
      refine lv_iload_n hx hb dX1_of_73 rfl (lv_at hl 1 rfl) ?_
      refine hr_iald C T2314 ha16 (by omega) (by omega) dX1_of_74 ?_
      have hcd : cd_of N (nI v) y = 0 := by unfold cd_of; (repeat' split) <;> omega
      exact Z _ _ _ _ _ _ _ _ dX1_of_75 (Nat.zero_le _) (Nat.zero_le _) ⟨hcd, by rw [cw, tv]; exact congrArg (fun z => some (Value.int z)) (r16 v (by omega)), rfl, rfl, rfl⟩ T2314
    · refine lv_tableIn (tgt := 76) hx hb dX1_of_9 (by omega) (by omega) (by rw [cw]; rfl) (by decide) ?_
      refine lv_aload_n hx hb dX1_of_76 rfl (lv_at hl 0 rfl) ?_
      refine hr_get C T2314 ho0 rfl in_X1 16 (by decide) q311 rfl rfl dX1_of_77 ?_
      refine lv_iload_n hx hb dX1_of_80 rfl (lv_at hl 1 rfl) ?_
      refine hr_iald C T2314 ha17 (by omega) (by omega) dX1_of_81 ?_
      have hcd : cd_of N (nI v) y = 0 := by unfold cd_of; (repeat' split) <;> omega
      exact Z _ _ _ _ _ _ _ _ dX1_of_82 (Nat.zero_le _) (Nat.zero_le _) ⟨hcd, by rw [cw, tv]; exact congrArg (fun z => some (Value.int z)) (r17 v (by omega)), rfl, rfl, rfl⟩ T2314
    · refine lv_tableOut (tgt := 83) hx hb dX1_of_9 cw (by decide) ?_
      have hcd : cd_of N (nI v) y = 1 := by unfold cd_of; (repeat' split) <;> omega
      refine Y "java/lang/IndexOutOfBoundsException" _ _ _ _ _ ?_
      refine hx_new C T2314 q596 q597 q71 (Nat.le_of_ble_eq_true rfl) (Nat.le_of_ble_eq_true rfl) dX1_of_83 (fun qa H2315 cX kX hfX hkX hcell hnew T2315 => ?_)
      refine lv_dup hx hb dX1_of_86 rfl ?_
      exact hx_thr0 hfl C T hl.1 (by decide) (by decide) (ex_at C (by decide) ok_iob) hfX hkX hcell hnew dX1_of_87 dX1_of_90 hno (by decide) (by decide) ⟨Nat.le_of_ble_eq_true rfl, Nat.le_of_ble_eq_true rfl⟩ ⟨rfl, rfl, rfl, by rw [hcd]; exact ⟨by decide, rfl⟩⟩
  · refine hp_V C T hl.1 ho0 rfl (p_X1_isC0 (x := x) i0 cI2 ho0) q631 q633 qs4 q53 q634 kd_X1_isCandidate rfl rfl ⟨Nat.le_of_ble_eq_true rfl, Nat.le_of_ble_eq_true rfl⟩ (Nat.le_of_ble_eq_true rfl) dX1_of_2 ⟨Nat.le_of_ble_eq_true rfl, Nat.le_of_ble_eq_true rfl⟩ (fun rv H2313 hp2313 T2313 => ?_)
    obtain rfl := hp2313
    refine W.eq (g2 := F0 m 5 ls [.int (nI 0)]) rfl ?_
    have hcd : cd_of N x y = 1 := by unfold cd_of; (repeat' split) <;> omega
    exact Y _ _ _ _ _ _ ((thr_S C T2313 hl.1 (t_X1_inside hfl) q593 q594 q53 q595 kd_X1_inside rfl rfl ⟨Nat.le_of_ble_eq_true rfl, Nat.le_of_ble_eq_true rfl⟩ (Nat.le_of_ble_eq_true rfl) dX1_of_5 ⟨Nat.le_of_ble_eq_true rfl, Nat.le_of_ble_eq_true rfl⟩).on C T2313 hno ⟨Nat.le_of_ble_eq_true rfl, Nat.le_of_ble_eq_true rfl⟩ (fun h2 dc ds hp => by obtain ⟨rfl, rfl, rfl⟩ := hp; exact ⟨rfl, rfl, rfl, by rw [hcd]; exact ⟨by decide, rfl⟩⟩))

set_option maxHeartbeats 4000000 in
theorem m_X1_pairIn {E : GE} {l : Launch} {h : HH} {L B N : Nat → Nat} {pp k : Nat} (hs : N 11 ≠ 0) (hk0 : k < pp) (rp16 : pp ≤ 16) (i11 : N 11 ≤ 5) (ho0 : h (L 0) = some (.inr (0, [.ref (L 1), .int (nI (N 0)), .ref (L 3), .int (nI (N 1)), .int (nI (N 2)), .int (nI (N 3)), .int (nI (N 4)), .int (nI (N 5)), .int (nI (N 6)), .int (nI (N 7)), .int (nI (N 8)), .ref (L 12), .ref (L 13), .ref (L 14), .ref (L 15), .ref (L 16), .ref (L 17), .int (nI (N 11)), .int (nI (N 15)), .int (nI (N 16)), .int (nI (N 17)), .int (nI (N 18) - 1), .int (nI (N 19)), .ref (L 24), .int (nI pp), .ref (L 26), .ref (L 27), .ref (if N 13 = 1 then L 27 else L 26), .ref (L 29), .ref (L 30), .ref (if N 12 = 1 then L 30 else L 29), .ref (L 32), .ref (B 0), .ref (B 1), .ref (B 2), .ref (B 3), .ref (L 37), .ref (L 38), .ref (L 39), .ref (B 4), .ref (B 5)]), L 0)) (hSt : Stt E L B h) : MM E l yX1_pairIn cX1_pairIn 2 (some (.object "PollAudit$Pair")) ({ frames := 1, cells := 0, slots := 0, locals := 150 } : Room) [.ref (L 0), .int (nI k)] h (fun rv h2 => rv = some (.ref (L (70 + k))) ∧ h2 = h) := by
  refine hm_r (by decide) (Nat.le_of_ble_eq_true rfl) ?_
  intro p e s m below meth c C hnm Q Z ls T hl
  have hx := C.x
  have hb := C.b
  have hl : lv_has ls 2 [(0, .ref (L 0)), (1, .int (nI k))] := hl
  refine lv_aload_n hx hb dX1_pairIn_0 rfl (lv_at hl 0 rfl) ?_
  refine hr_get C T ho0 rfl in_X1 17 (by decide) q312 rfl rfl dX1_pairIn_1 ?_
  refine hn_if_eq (tgt := 23) hx hb dX1_pairIn_4 (by decide) (by omega) (fun c1 => absurd c1 hs) (fun c1 => ?_)
  refine lv_iload_n hx hb dX1_pairIn_7 rfl (lv_at hl 1 rfl) ?_
  refine hn_if_lt (tgt := 23) hx hb dX1_pairIn_8 (by decide) (by omega) ?_
  refine lv_iload_n hx hb dX1_pairIn_11 rfl (lv_at hl 1 rfl) ?_
  refine lv_aload_n hx hb dX1_pairIn_12 rfl (lv_at hl 0 rfl) ?_
  refine hr_get C T ho0 rfl in_X1 24 (by decide) q323 rfl rfl dX1_pairIn_13 ?_
  refine hn_icmp_ge (tgt := 23) hx hb dX1_pairIn_16 (by decide) (by omega) (by omega) (fun c3 => absurd hk0 (by omega)) (fun c3 => ?_)
  refine lv_iconst (v := nI 1) hx hb dX1_pairIn_19 rfl ?_
  refine lv_goto (tgt := 24) hx hb dX1_pairIn_20 (by decide) ?_
  refine hp_S C T hl.1 (p_X1_inside) q593 q594 q53 q595 kd_X1_inside rfl rfl ⟨Nat.le_of_ble_eq_true rfl, Nat.le_of_ble_eq_true rfl⟩ (Nat.le_of_ble_eq_true rfl) dX1_pairIn_24 ⟨Nat.le_of_ble_eq_true rfl, Nat.le_of_ble_eq_true rfl⟩ (fun rv H2316 hp2316 T2316 => ?_)
  obtain rfl := hp2316
  refine W.eq (g2 := F0 m 27 ls []) rfl ?_
  refine lv_aload_n hx hb dX1_pairIn_27 rfl (lv_at hl 0 rfl) ?_
  refine hr_get C T2316 ho0 rfl in_X1 23 (by decide) q320 rfl rfl dX1_pairIn_28 ?_
  refine lv_iload_n hx hb dX1_pairIn_31 rfl (lv_at hl 1 rfl) ?_
  have hst24x2317 := (hSt).1
  refine hr_aald C T2316 6 rfl hst24x2317 (by omega) (by omega) rfl dX1_pairIn_32 ?_
  exact Z _ _ _ _ _ _ dX1_pairIn_33 ⟨rfl, rfl⟩ T2316

set_option maxHeartbeats 4000000 in
theorem t_X1_pairIn {E : GE} {l : Launch} {h : HH} (hfl : l.flags = flags0) {L B N : Nat → Nat} {pp : Nat} {x : Int32} (i11 : N 11 ≤ 5) (hs : ¬ (N 11 ≠ 0 ∧ 0 ≤ x.toInt ∧ x.toInt < pp)) (rp16 : pp ≤ 16) (ho0 : h (L 0) = some (.inr (0, [.ref (L 1), .int (nI (N 0)), .ref (L 3), .int (nI (N 1)), .int (nI (N 2)), .int (nI (N 3)), .int (nI (N 4)), .int (nI (N 5)), .int (nI (N 6)), .int (nI (N 7)), .int (nI (N 8)), .ref (L 12), .ref (L 13), .ref (L 14), .ref (L 15), .ref (L 16), .ref (L 17), .int (nI (N 11)), .int (nI (N 15)), .int (nI (N 16)), .int (nI (N 17)), .int (nI (N 18) - 1), .int (nI (N 19)), .ref (L 24), .int (nI pp), .ref (L 26), .ref (L 27), .ref (if N 13 = 1 then L 27 else L 26), .ref (L 29), .ref (L 30), .ref (if N 12 = 1 then L 30 else L 29), .ref (L 32), .ref (B 0), .ref (B 1), .ref (B 2), .ref (B 3), .ref (L 37), .ref (L 38), .ref (L 39), .ref (B 4), .ref (B 5)]), L 0)) : MT E l yX1_pairIn cX1_pairIn 2 (some (.object "PollAudit$Pair")) ({ frames := 7, cells := 1, slots := 6, locals := 1050 } : Room) [.ref (L 0), .int x] h "java/lang/IndexOutOfBoundsException" (fun h' dc ds => h' = h ∧ dc = 1 ∧ ds = 6) := by
  refine ht_of (by decide) (Nat.le_of_ble_eq_true rfl) ?_
  intro p e s m below meth c C hno ls T hl
  have hx := C.x
  have hb := C.b
  have hl : lv_has ls 2 [(0, .ref (L 0)), (1, .int x)] := hl
  refine lv_aload_n hx hb dX1_pairIn_0 rfl (lv_at hl 0 rfl) ?_
  refine hr_get C T ho0 rfl in_X1 17 (by decide) q312 rfl rfl dX1_pairIn_1 ?_
  refine hn_if_eq (tgt := 23) hx hb dX1_pairIn_4 (by decide) (by omega) (fun c1 => ?_) (fun c1 => ?_)
  · refine lv_iconst (v := nI 0) hx hb dX1_pairIn_23 rfl ?_
    exact (thr_S C T hl.1 (t_X1_inside hfl) q593 q594 q53 q595 kd_X1_inside rfl rfl ⟨Nat.le_of_ble_eq_true rfl, Nat.le_of_ble_eq_true rfl⟩ (Nat.le_of_ble_eq_true rfl) dX1_pairIn_24 ⟨Nat.le_of_ble_eq_true rfl, Nat.le_of_ble_eq_true rfl⟩).on C T hno ⟨Nat.le_of_ble_eq_true rfl, Nat.le_of_ble_eq_true rfl⟩ (fun h2 dc ds hp => by obtain ⟨rfl, rfl, rfl⟩ := hp; exact ⟨rfl, rfl, rfl⟩)
  · refine lv_iload_n hx hb dX1_pairIn_7 rfl (lv_at hl 1 rfl) ?_
    refine zi_if_lt (tgt := 23) (X := (x).toInt) hx hb dX1_pairIn_8 (by decide) rfl (fun c2 => ?_) (fun c2 => ?_)
    · refine lv_iconst (v := nI 0) hx hb dX1_pairIn_23 rfl ?_
      exact (thr_S C T hl.1 (t_X1_inside hfl) q593 q594 q53 q595 kd_X1_inside rfl rfl ⟨Nat.le_of_ble_eq_true rfl, Nat.le_of_ble_eq_true rfl⟩ (Nat.le_of_ble_eq_true rfl) dX1_pairIn_24 ⟨Nat.le_of_ble_eq_true rfl, Nat.le_of_ble_eq_true rfl⟩).on C T hno ⟨Nat.le_of_ble_eq_true rfl, Nat.le_of_ble_eq_true rfl⟩ (fun h2 dc ds hp => by obtain ⟨rfl, rfl, rfl⟩ := hp; exact ⟨rfl, rfl, rfl⟩)
    · refine lv_iload_n hx hb dX1_pairIn_11 rfl (lv_at hl 1 rfl) ?_
      refine lv_aload_n hx hb dX1_pairIn_12 rfl (lv_at hl 0 rfl) ?_
      refine hr_get C T ho0 rfl in_X1 24 (by decide) q323 rfl rfl dX1_pairIn_13 ?_
      refine zi_icmp_ge (tgt := 23) (X := (x).toInt) (Y := ((pp : Nat) : Int)) hx hb dX1_pairIn_16 (by decide) rfl (nI_toInt (by omega)) (fun c3 => ?_) (fun c3 => ?_)
      · refine lv_iconst (v := nI 0) hx hb dX1_pairIn_23 rfl ?_
        exact (thr_S C T hl.1 (t_X1_inside hfl) q593 q594 q53 q595 kd_X1_inside rfl rfl ⟨Nat.le_of_ble_eq_true rfl, Nat.le_of_ble_eq_true rfl⟩ (Nat.le_of_ble_eq_true rfl) dX1_pairIn_24 ⟨Nat.le_of_ble_eq_true rfl, Nat.le_of_ble_eq_true rfl⟩).on C T hno ⟨Nat.le_of_ble_eq_true rfl, Nat.le_of_ble_eq_true rfl⟩ (fun h2 dc ds hp => by obtain ⟨rfl, rfl, rfl⟩ := hp; exact ⟨rfl, rfl, rfl⟩)
      · exact absurd (show N 11 ≠ 0 ∧ 0 ≤ x.toInt ∧ x.toInt < pp from ⟨c1, by omega, by omega⟩) hs

def cd_pair (N : Nat → Nat) (x y : Int32) : Nat := if x.toInt < 0 ∨ N 14 ≤ x.toInt ∨ y.toInt < 0 ∨ 2 < y.toInt then 1 else 0
def vl_pair (M : Nat → Nat → Nat) (G : Nat → Nat → Int32) (k : Nat) : Nat → Int32
  | 0 => nI (M 4 k) | 1 => nI (M 5 k) | _ => G 2 k


set_option maxHeartbeats 4000000 in
theorem m_X1_pair {E : GE} {l : Launch} {h : HH} (hfl : l.flags = flags0) {L B cp N : Nat → Nat} {M : Nat → Nat → Nat} {G : Nat → Nat → Int32} (hLay : Lay L B) (hI : Inv N M G) (hC : Cp E h L B cp N M G) {x y : Int32} : MX E l yX1_pair cX1_pair 4 (some .int) ({ frames := 8, cells := 1, slots := 6, locals := 1200 } : Room) [.ref (L 0), .int x, .int y] h (fun rv h2 dc ds => cd_pair N x y = 0 ∧ rv = some (.int (vl_pair M G x.toInt.toNat y.toInt.toNat)) ∧ h2 = h ∧ dc = 0 ∧ ds = 0) (fun C h' dc ds => h' = h ∧ dc = 1 ∧ ds = 6 ∧ TC C (cd_pair N x y) [xIOB]) := by
  refine hx_i (by decide) (Nat.le_of_ble_eq_true rfl) ?_
  intro p e s m below meth c C hno Q Z Y ls T hl
  have hx := C.x
  have hb := C.b
  have hl : lv_has ls 4 [(0, .ref (L 0)), (1, .int x), (2, .int y)] := hl
  obtain ⟨i0, i1, i2, i3, i4, i5, i7, i9, i10, i11, i15, iv, isz, isum, ital, itm, idg, icn, irec, isn, iout, ict, iwt, iwt2, iz, inz, iup, ish⟩ := hI
  obtain ⟨pp, f, rs, pw, pl, ps, V, ⟨ho0, ha1, ha3, ha12, ha13, ha14, ha15, ha16, ha17, ha39⟩, ⟨r1, r3, r12, r13, r14, r15, r16, r17, rp, rp16⟩, hVr, hSt, hPr, hCn, hSd, hDg, hB⟩ := hC
  have hF : Fr (CO L B) h h := Fr.rf
  refine lv_aload_n hx hb dX1_pair_0 rfl (lv_at hl 0 rfl) ?_
  refine lv_iload_n hx hb dX1_pair_1 rfl (lv_at hl 1 rfl) ?_
  by_cases cP : N 11 ≠ 0 ∧ 0 ≤ (x).toInt ∧ (x).toInt < pp
  · have cS := cP.1
    have rpp := rp cS
    have cP1 := cP.2.1
    have cP2 := cP.2.2
    obtain ⟨v, hv, rfl⟩ := nat_of (x := x) cP1
    have ev := nI_toInt hv
    have tv : (nI v).toInt.toNat = v := by rw [ev]; rfl
    refine hc_V C T hl.1 ho0 rfl (m_X1_pairIn cS (show v < pp by omega) rp16 i11.1 ho0 hSt) q869 q871 qs13 q53 q872 kd_X1_pairIn rfl rfl ⟨Nat.le_of_ble_eq_true rfl, Nat.le_of_ble_eq_true rfl⟩ (Nat.le_of_ble_eq_true rfl) dX1_pair_2 ⟨Nat.le_of_ble_eq_true rfl, Nat.le_of_ble_eq_true rfl⟩ (fun rv h2318 H2318 locs2318 hp2318 T2318 => ?_)
    obtain ⟨rfl, hq2318⟩ := hp2318
    rw [hq2318] at T2318
    have hpr2319 := hPr v (by omega)
    refine lv_astore_n (lv' := [(3, .ref (L (70 + v))), (0, .ref (L 0)), (1, .int (nI v)), (2, .int y)]) hx hb dX1_pair_5 rfl hl (by decide) rfl (fun ls2320 hl2320 => ?_)
    refine lv_iload_n hx hb dX1_pair_6 rfl (lv_at hl2320 3 rfl) ?_
    refine zi_if_lt (tgt := 19) (X := (y).toInt) hx hb dX1_pair_7 (by decide) rfl (fun c7 => ?_) (fun c7 => ?_)
    · refine lv_iconst (v := nI 0) hx hb dX1_pair_19 rfl ?_
      have hcd : cd_pair N (nI v) y = 1 := by unfold cd_pair; (repeat' split) <;> omega
      exact Y _ _ _ _ _ _ ((thr_S C T2318 hl2320.1 (t_X1_inside hfl) q593 q594 q53 q595 kd_X1_inside rfl rfl ⟨Nat.le_of_ble_eq_true rfl, Nat.le_of_ble_eq_true rfl⟩ (Nat.le_of_ble_eq_true rfl) dX1_pair_20 ⟨Nat.le_of_ble_eq_true rfl, Nat.le_of_ble_eq_true rfl⟩).on C T2318 hno ⟨Nat.le_of_ble_eq_true rfl, Nat.le_of_ble_eq_true rfl⟩ (fun h2 dc ds hp => by obtain ⟨rfl, rfl, rfl⟩ := hp; exact ⟨rfl, rfl, rfl, by rw [hcd]; exact ⟨by decide, rfl⟩⟩))
    · refine lv_iload_n hx hb dX1_pair_10 rfl (lv_at hl2320 3 rfl) ?_
      refine lv_iconst (v := nI 2) hx hb dX1_pair_11 rfl ?_
      refine zi_icmp_gt (tgt := 19) (X := (y).toInt) (Y := ((2 : Nat) : Int)) hx hb dX1_pair_12 (by decide) rfl (nI_toInt (by omega)) (fun c12 => ?_) (fun c12 => ?_)
      · refine lv_iconst (v := nI 0) hx hb dX1_pair_19 rfl ?_
        have hcd : cd_pair N (nI v) y = 1 := by unfold cd_pair; (repeat' split) <;> omega
        exact Y _ _ _ _ _ _ ((thr_S C T2318 hl2320.1 (t_X1_inside hfl) q593 q594 q53 q595 kd_X1_inside rfl rfl ⟨Nat.le_of_ble_eq_true rfl, Nat.le_of_ble_eq_true rfl⟩ (Nat.le_of_ble_eq_true rfl) dX1_pair_20 ⟨Nat.le_of_ble_eq_true rfl, Nat.le_of_ble_eq_true rfl⟩).on C T2318 hno ⟨Nat.le_of_ble_eq_true rfl, Nat.le_of_ble_eq_true rfl⟩ (fun h2 dc ds hp => by obtain ⟨rfl, rfl, rfl⟩ := hp; exact ⟨rfl, rfl, rfl, by rw [hcd]; exact ⟨by decide, rfl⟩⟩))
      · refine lv_iconst (v := nI 1) hx hb dX1_pair_15 rfl ?_
        refine lv_goto (tgt := 20) hx hb dX1_pair_16 (by decide) ?_
        refine hp_S C T2318 hl2320.1 (p_X1_inside) q593 q594 q53 q595 kd_X1_inside rfl rfl ⟨Nat.le_of_ble_eq_true rfl, Nat.le_of_ble_eq_true rfl⟩ (Nat.le_of_ble_eq_true rfl) dX1_pair_20 ⟨Nat.le_of_ble_eq_true rfl, Nat.le_of_ble_eq_true rfl⟩ (fun rv H2321 hp2321 T2321 => ?_)
        obtain rfl := hp2321
        refine W.eq (g2 := F0 m 23 ls2320 []) rfl ?_
        refine lv_iload_n hx hb dX1_pair_23 rfl (lv_at hl2320 3 rfl) ?_
        refine zi_if_ne (tgt := 34) (X := (y).toInt) hx hb dX1_pair_24 (by decide) rfl (fun c24 => ?_) (fun c24 => ?_)
        · refine lv_iload_n hx hb dX1_pair_34 rfl (lv_at hl2320 3 rfl) ?_
          refine lv_iconst (v := nI 1) hx hb dX1_pair_35 rfl ?_
          refine zi_icmp_ne (tgt := 46) (X := (y).toInt) (Y := ((1 : Nat) : Int)) hx hb dX1_pair_36 (by decide) rfl (nI_toInt (by omega)) (fun c36 => ?_) (fun c36 => ?_)
          · refine lv_aload_n hx hb dX1_pair_46 rfl (lv_at hl2320 0 rfl) ?_
            refine hr_getN C T2321 hpr2319 rfl in_X9 2 (by decide) 10 rfl rfl rfl dX1_pair_47 ?_
            have hcd : cd_pair N (nI v) y = 0 := by unfold cd_pair; (repeat' split) <;> omega
            obtain ⟨-, -, hw1, hw2, hw3⟩ := hVr.2.2.2 cS v (by omega)
            exact Z _ _ _ _ _ _ _ _ dX1_pair_50 (Nat.zero_le _) (Nat.zero_le _) ⟨hcd, by rw [tv, show y.toInt.toNat = 2 by omega]; exact congrArg (fun z => some (Value.int z)) hw3, rfl, rfl, rfl⟩ T2321
          · refine lv_aload_n hx hb dX1_pair_39 rfl (lv_at hl2320 0 rfl) ?_
            refine hr_getN C T2321 hpr2319 rfl in_X9 1 (by decide) 9 rfl rfl rfl dX1_pair_40 ?_
            refine lv_goto (tgt := 50) hx hb dX1_pair_43 (by decide) ?_
            have hcd : cd_pair N (nI v) y = 0 := by unfold cd_pair; (repeat' split) <;> omega
            obtain ⟨-, -, hw1, hw2, hw3⟩ := hVr.2.2.2 cS v (by omega)
            exact Z _ _ _ _ _ _ _ _ dX1_pair_50 (Nat.zero_le _) (Nat.zero_le _) ⟨hcd, by rw [tv, show y.toInt.toNat = 1 by omega]; exact congrArg (fun z => some (Value.int z)) hw2, rfl, rfl, rfl⟩ T2321
        · refine lv_aload_n hx hb dX1_pair_27 rfl (lv_at hl2320 0 rfl) ?_
          refine hr_getN C T2321 hpr2319 rfl in_X9 0 (by decide) 8 rfl rfl rfl dX1_pair_28 ?_
          refine lv_goto (tgt := 50) hx hb dX1_pair_31 (by decide) ?_
          have hcd : cd_pair N (nI v) y = 0 := by unfold cd_pair; (repeat' split) <;> omega
          obtain ⟨-, -, hw1, hw2, hw3⟩ := hVr.2.2.2 cS v (by omega)
          exact Z _ _ _ _ _ _ _ _ dX1_pair_50 (Nat.zero_le _) (Nat.zero_le _) ⟨hcd, by rw [tv, show y.toInt.toNat = 0 by omega]; exact congrArg (fun z => some (Value.int z)) hw1, rfl, rfl, rfl⟩ T2321
  · have hz9 : ¬ (N 11 ≠ 0 ∧ 0 ≤ (x).toInt ∧ (x).toInt < N 14) := fun z => cP ⟨z.1, z.2.1, by rw [rp z.1]; exact z.2.2⟩
    have hz8 := fun z => (iz z).2.2.2.2.1
    have hcd : cd_pair N x y = 1 := by unfold cd_pair; (repeat' split) <;> omega
    exact Y _ _ _ _ _ _ ((thr_V C T hl.1 ho0 rfl (t_X1_pairIn hfl i11.1 cP rp16 ho0) q869 q871 qs13 q53 q872 kd_X1_pairIn rfl rfl ⟨Nat.le_of_ble_eq_true rfl, Nat.le_of_ble_eq_true rfl⟩ (Nat.le_of_ble_eq_true rfl) dX1_pair_2 ⟨Nat.le_of_ble_eq_true rfl, Nat.le_of_ble_eq_true rfl⟩).on C T hno ⟨Nat.le_of_ble_eq_true rfl, Nat.le_of_ble_eq_true rfl⟩ (fun h2 dc ds hp => by obtain ⟨rfl, rfl, rfl⟩ := hp; exact ⟨rfl, rfl, rfl, by rw [hcd]; exact ⟨by decide, rfl⟩⟩))

set_option maxHeartbeats 4000000 in
theorem m_X1_batchOf {E : GE} {l : Launch} {h : HH} {L B N : Nat → Nat} {M : Nat → Nat → Nat} {pp v : Nat} {f : Nat → Nat → Int32} (hLay : Lay L B) (i1 : N 1 ≤ 64) (i2 : N 2 ≤ 20000) (isz : ∀ i, i < N 1 → 1 ≤ M 1 i ∧ M 1 i ≤ 4000) (isum : ksum (M 1) (N 1) = N 2) (hv : v < N 2) (ho0 : h (L 0) = some (.inr (0, [.ref (L 1), .int (nI (N 0)), .ref (L 3), .int (nI (N 1)), .int (nI (N 2)), .int (nI (N 3)), .int (nI (N 4)), .int (nI (N 5)), .int (nI (N 6)), .int (nI (N 7)), .int (nI (N 8)), .ref (L 12), .ref (L 13), .ref (L 14), .ref (L 15), .ref (L 16), .ref (L 17), .int (nI (N 11)), .int (nI (N 15)), .int (nI (N 16)), .int (nI (N 17)), .int (nI (N 18) - 1), .int (nI (N 19)), .ref (L 24), .int (nI pp), .ref (L 26), .ref (L 27), .ref (if N 13 = 1 then L 27 else L 26), .ref (L 29), .ref (L 30), .ref (if N 12 = 1 then L 30 else L 29), .ref (L 32), .ref (B 0), .ref (B 1), .ref (B 2), .ref (B 3), .ref (L 37), .ref (L 38), .ref (L 39), .ref (B 4), .ref (B 5)]), L 0)) (ha3 : h (L 3) = some (.inl (E.2.1 0, 64, .inl (f 3)), L 0)) (r3 : ∀ i, i < N 1 → f 3 i = nI (M 1 i)) : MM E l yX1_batchOf cX1_batchOf 4 (some .int) ({ frames := 0, cells := 0, slots := 0, locals := 0 } : Room) [.ref (L 0), .int (nI v)] h (fun rv h2 => (∃ k, rv = some (.int (nI k)) ∧ k < N 1 ∧ ksum (M 1) k ≤ v ∧ v < ksum (M 1) (k + 1)) ∧ h2 = h) := by
  refine hm_i (by decide) (Nat.le_of_ble_eq_true rfl) ?_
  intro p e s m below meth c C hnm Q Z ls T hl
  have hx := C.x
  have hb := C.b
  have hl : lv_has ls 4 [(0, .ref (L 0)), (1, .int (nI v))] := hl
  have hn0 : 0 < N 1 := Nat.pos_of_ne_zero fun z => by rw [z] at isum; have : N 2 = 0 := isum.symm; omega
  refine lv_iconst (v := nI 0) hx hb dX1_batchOf_0 rfl ?_
  refine lv_istore_n (lv' := [(2, .int (nI 0)), (0, .ref (L 0)), (1, .int (nI v))]) hx hb dX1_batchOf_1 rfl hl (by decide) rfl (fun ls2322 hl2322 => ?_)
  refine lv_aload_n hx hb dX1_batchOf_2 rfl (lv_at hl2322 1 rfl) ?_
  refine hr_get C T ho0 rfl in_X1 2 (by decide) q292 rfl rfl dX1_batchOf_3 ?_
  refine lv_iconst (v := nI 0) hx hb dX1_batchOf_6 rfl ?_
  refine hr_iald C T ha3 (by omega) (by omega) dX1_batchOf_7 ?_
  rw [show (f 3) 0 = nI (ksum (M 1) 1) from (show f 3 0 = nI (0 + M 1 0) by rw [r3 0 hn0, Nat.zero_add])]
  refine lv_istore_n (lv' := [(3, .int (nI (ksum (M 1) 1))), (2, .int (nI 0)), (0, .ref (L 0)), (1, .int (nI v))]) hx hb dX1_batchOf_8 rfl hl2322 (by decide) rfl (fun ls2323 hl2323 => ?_)
  have L1 : ∀ (j : Nat) (k : Nat) (H2324 : Heap) (locs2324 : List Loc) (ls2324 : Array Slot), (N 1 ≤ k + j) → (k < N 1) → (ksum (M 1) k ≤ v) → (St E s h H2324 locs2324) → (lv_has ls2324 4 [(0, .ref (L 0)), (1, .int (nI v)), (2, .int (nI k)), (3, .int (nI (ksum (M 1) (k + 1))))]) → W p l e ({ frames := 0, cells := 0, slots := 0, locals := 0 } : Room) s m ([.ref (L 0), .int (nI v)] : List Value).toArray below meth c H2324 locs2324 0 0 Q (F0 m 9 ls2324 []) := by
    intro j
    induction j with
    | zero => intro k H2324 locs2324 ls2324 hm2324 hk hkv T2324 hl2324; exact absurd hm2324 (by omega)
    | succ j ih2324 =>
      intro k H2324 locs2324 ls2324 hm2324 hk hkv T2324 hl2324
      have hkm : ksum (M 1) (k + 1) ≤ (k + 1) * 4000 := ksum_le fun i hi => (isz i (by omega)).2
      refine lv_iload_n hx hb dX1_batchOf_9 rfl (lv_at hl2324 1 rfl) ?_
      refine lv_iload_n hx hb dX1_batchOf_10 rfl (lv_at hl2324 3 rfl) ?_
      refine hn_icmp_lt (tgt := 29) hx hb dX1_batchOf_11 (by decide) (by omega) (by omega) (fun c1 => ?_) (fun c1 => ?_)
      · refine lv_iload_n hx hb dX1_batchOf_29 rfl (lv_at hl2324 2 rfl) ?_
        exact Z _ _ _ _ _ _ dX1_batchOf_30 ⟨⟨k, rfl, hk, hkv, c1⟩, rfl⟩ T2324
      · have hk2 : k + 1 < N 1 := Nat.lt_of_not_le fun z => by have e : k + 1 = N 1 := (by omega); rw [e, isum] at c1; omega
        refine lv_iload_n hx hb dX1_batchOf_14 rfl (lv_at hl2324 3 rfl) ?_
        refine lv_aload_n hx hb dX1_batchOf_15 rfl (lv_at hl2324 0 rfl) ?_
        refine hr_get C T2324 ho0 rfl in_X1 2 (by decide) q292 rfl rfl dX1_batchOf_16 ?_
        refine lv_iinc (v := nI (k + 1)) (lv' := [(2, .int (nI (k + 1))), (0, .ref (L 0)), (1, .int (nI v)), (3, .int (nI (ksum (M 1) (k + 1))))]) hx hb dX1_batchOf_19 hl2324 (k := 2) rfl (nI_add k 1) (by decide) rfl (fun ls2325 hl2325 => ?_)
        refine lv_iload_n hx hb dX1_batchOf_22 rfl (lv_at hl2325 0 rfl) ?_
        refine hr_iald C T2324 ha3 (by omega) (by omega) dX1_batchOf_23 ?_
        rw [r3 (k + 1) hk2]
        refine hn_iadd hx hb dX1_batchOf_24 ?_
        refine lv_istore_n (lv' := [(3, .int (nI (ksum (M 1) (k + 1 + 1)))), (2, .int (nI (k + 1))), (0, .ref (L 0)), (1, .int (nI v))]) hx hb dX1_batchOf_25 rfl hl2325 (by decide) rfl (fun ls2326 hl2326 => ?_)
        refine lv_goto (tgt := 9) hx hb dX1_batchOf_26 (by decide) ?_
        exact ih2324 (k + 1) _ _ _ (by omega) hk2 c1 T2324 (lv_sub hl2326 [2, 3, 1, 0] rfl)
  exact L1 (N 1) 0 _ _ _ (by omega) hn0 (Nat.zero_le _) T (lv_sub hl2323 [2, 3, 1, 0] rfl)

def cd_ballot (N : Nat → Nat) (x y : Int32) : Nat := if x.toInt < 0 ∨ N 2 ≤ x.toInt ∨ y.toInt < 0 ∨ 3 < y.toInt then 1 else 0
/-- what a ballot is told to be -/
def vl_ballot (N : Nat → Nat) (M : Nat → Nat → Nat) (G : Nat → Nat → Int32) (b : Nat) (y : Nat) (r : Int32) : Prop :=
  (y = 0 → ∃ k, r = nI k ∧ k < N 1 ∧ ksum (M 1) k ≤ b ∧ b < ksum (M 1) (k + 1)) ∧ (y = 1 → r = G 0 b) ∧ (y = 2 → r = G 1 b) ∧ (y = 3 → r = nI (M 3 b))

set_option maxHeartbeats 4000000 in
theorem m_X1_ballot {E : GE} {l : Launch} {h : HH} (hfl : l.flags = flags0) {L B cp N : Nat → Nat} {M : Nat → Nat → Nat} {G : Nat → Nat → Int32} (hLay : Lay L B) (hI : Inv N M G) (hC : Cp E h L B cp N M G) {x y : Int32} : MX E l yX1_ballot cX1_ballot 3 (some .int) ({ frames := 8, cells := 1, slots := 6, locals := 1200 } : Room) [.ref (L 0), .int x, .int y] h (fun rv h2 dc ds => cd_ballot N x y = 0 ∧ ∃ r, rv = some (.int r) ∧ vl_ballot N M G x.toInt.toNat y.toInt.toNat r ∧ h2 = h ∧ dc = 0 ∧ ds = 0) (fun C h' dc ds => h' = h ∧ dc = 1 ∧ ds = 6 ∧ TC C (cd_ballot N x y) [xIOB]) := by
  refine hx_i (by decide) (Nat.le_of_ble_eq_true rfl) ?_
  intro p e s m below meth c C hno Q Z Y ls T hl
  have hx := C.x
  have hb := C.b
  have hl : lv_has ls 3 [(0, .ref (L 0)), (1, .int x), (2, .int y)] := hl
  obtain ⟨i0, i1, i2, i3, i4, i5, i7, i9, i10, i11, i15, iv, isz, isum, ital, itm, idg, icn, irec, isn, iout, ict, iwt, iwt2, iz, inz, iup, ish⟩ := hI
  obtain ⟨pp, f, rs, pw, pl, ps, V, ⟨ho0, ha1, ha3, ha12, ha13, ha14, ha15, ha16, ha17, ha39⟩, ⟨r1, r3, r12, r13, r14, r15, r16, r17, rp, rp16⟩, hVr, hSt, hPr, hCn, hSd, hDg, hB⟩ := hC
  have hF : Fr (CO L B) h h := Fr.rf
  refine lv_iload_n hx hb dX1_ballot_0 rfl (lv_at hl 1 rfl) ?_
  refine zi_if_lt (tgt := 16) (X := (x).toInt) hx hb dX1_ballot_1 (by decide) rfl (fun c1 => ?_) (fun c1 => ?_)
  · refine lv_iconst (v := nI 0) hx hb dX1_ballot_16 rfl ?_
    have hcd : cd_ballot N x y = 1 := by unfold cd_ballot; (repeat' split) <;> omega
    exact Y _ _ _ _ _ _ ((thr_S C T hl.1 (t_X1_inside hfl) q593 q594 q53 q595 kd_X1_inside rfl rfl ⟨Nat.le_of_ble_eq_true rfl, Nat.le_of_ble_eq_true rfl⟩ (Nat.le_of_ble_eq_true rfl) dX1_ballot_17 ⟨Nat.le_of_ble_eq_true rfl, Nat.le_of_ble_eq_true rfl⟩).on C T hno ⟨Nat.le_of_ble_eq_true rfl, Nat.le_of_ble_eq_true rfl⟩ (fun h2 dc ds hp => by obtain ⟨rfl, rfl, rfl⟩ := hp; exact ⟨rfl, rfl, rfl, by rw [hcd]; exact ⟨by decide, rfl⟩⟩))
  · refine lv_iload_n hx hb dX1_ballot_4 rfl (lv_at hl 1 rfl) ?_
    refine lv_aload_n hx hb dX1_ballot_5 rfl (lv_at hl 0 rfl) ?_
    refine hr_get C T ho0 rfl in_X1 4 (by decide) q295 rfl rfl dX1_ballot_6 ?_
    refine zi_icmp_ge (tgt := 16) (X := (x).toInt) (Y := ((N 2 : Nat) : Int)) hx hb dX1_ballot_9 (by decide) rfl (nI_toInt (by omega)) (fun c9 => ?_) (fun c9 => ?_)
    · refine lv_iconst (v := nI 0) hx hb dX1_ballot_16 rfl ?_
      have hcd : cd_ballot N x y = 1 := by unfold cd_ballot; (repeat' split) <;> omega
      exact Y _ _ _ _ _ _ ((thr_S C T hl.1 (t_X1_inside hfl) q593 q594 q53 q595 kd_X1_inside rfl rfl ⟨Nat.le_of_ble_eq_true rfl, Nat.le_of_ble_eq_true rfl⟩ (Nat.le_of_ble_eq_true rfl) dX1_ballot_17 ⟨Nat.le_of_ble_eq_true rfl, Nat.le_of_ble_eq_true rfl⟩).on C T hno ⟨Nat.le_of_ble_eq_true rfl, Nat.le_of_ble_eq_true rfl⟩ (fun h2 dc ds hp => by obtain ⟨rfl, rfl, rfl⟩ := hp; exact ⟨rfl, rfl, rfl, by rw [hcd]; exact ⟨by decide, rfl⟩⟩))
    · refine lv_iconst (v := nI 1) hx hb dX1_ballot_12 rfl ?_
      refine lv_goto (tgt := 17) hx hb dX1_ballot_13 (by decide) ?_
      refine hp_S C T hl.1 (p_X1_inside) q593 q594 q53 q595 kd_X1_inside rfl rfl ⟨Nat.le_of_ble_eq_true rfl, Nat.le_of_ble_eq_true rfl⟩ (Nat.le_of_ble_eq_true rfl) dX1_ballot_17 ⟨Nat.le_of_ble_eq_true rfl, Nat.le_of_ble_eq_true rfl⟩ (fun rv H2327 hp2327 T2327 => ?_)
      obtain rfl := hp2327
      refine W.eq (g2 := F0 m 20 ls []) rfl ?_
      obtain ⟨v, hv, rfl⟩ := nat_of (x := x) (by omega)
      have ev := nI_toInt hv
      have tv : (nI v).toInt.toNat = v := by rw [ev]; rfl
      refine lv_iload_n hx hb dX1_ballot_20 rfl (lv_at hl 2 rfl) ?_
      rcases (show (y).toInt = 0 ∨ (y).toInt = 1 ∨ (y).toInt = 2 ∨ (y).toInt = 3 ∨ ((y).toInt < 0 ∨ 3 < (y).toInt) by omega) with cw | cw | cw | cw | cw
      · refine lv_tableIn (tgt := 52) hx hb dX1_ballot_21 (by omega) (by omega) (by rw [cw]; rfl) (by decide) ?_
        refine lv_aload_n hx hb dX1_ballot_52 rfl (lv_at hl 0 rfl) ?_
        refine lv_iload_n hx hb dX1_ballot_53 rfl (lv_at hl 1 rfl) ?_
        refine hc_V C T2327 hl.1 ho0 rfl (m_X1_batchOf hLay i1 i2 isz isum (show v < N 2 by omega) ho0 ha3 r3) q880 q882 qs14 q53 q883 kd_X1_batchOf rfl rfl ⟨Nat.le_of_ble_eq_true rfl, Nat.le_of_ble_eq_true rfl⟩ (Nat.le_of_ble_eq_true rfl) dX1_ballot_54 ⟨Nat.le_of_ble_eq_true rfl, Nat.le_of_ble_eq_true rfl⟩ (fun rv h2328 H2328 locs2328 hp2328 T2328 => ?_)
        obtain ⟨⟨kk, rfl, hkk⟩, hq2328⟩ := hp2328
        rw [hq2328] at T2328
        replace hkk : ∃ k, nI kk = nI k ∧ k < N 1 ∧ ksum (M 1) k ≤ v ∧ v < ksum (M 1) (k + 1) := ⟨kk, rfl, hkk⟩
        refine W.eq (g2 := F0 m 57 ls [.int (nI kk)]) rfl ?_
        have hcd : cd_ballot N (nI v) y = 0 := by unfold cd_ballot; (repeat' split) <;> omega
        exact Z _ _ _ _ _ _ _ _ dX1_ballot_57 (Nat.zero_le _) (Nat.zero_le _) ⟨hcd, _, rfl, by rw [cw, tv]; exact ⟨fun _ => hkk, fun z => absurd z (by decide), fun z => absurd z (by decide), fun z => absurd z (by decide)⟩, rfl, rfl, rfl⟩ T2328
      · refine lv_tableIn (tgt := 58) hx hb dX1_ballot_21 (by omega) (by omega) (by rw [cw]; rfl) (by decide) ?_
        refine lv_aload_n hx hb dX1_ballot_58 rfl (lv_at hl 0 rfl) ?_
        refine hr_get C T2327 ho0 rfl in_X1 11 (by decide) q306 rfl rfl dX1_ballot_59 ?_
        refine lv_iload_n hx hb dX1_ballot_62 rfl (lv_at hl 1 rfl) ?_
        refine hr_bald C T2327 ha12 (by omega) (by omega) dX1_ballot_63 ?_
        have hcd : cd_ballot N (nI v) y = 0 := by unfold cd_ballot; (repeat' split) <;> omega
        exact Z _ _ _ _ _ _ _ _ dX1_ballot_64 (Nat.zero_le _) (Nat.zero_le _) ⟨hcd, _, rfl, by rw [cw, tv]; exact ⟨fun z => absurd z (by decide), fun _ => r12 v (by omega), fun z => absurd z (by decide), fun z => absurd z (by decide)⟩, rfl, rfl, rfl⟩ T2327
      · refine lv_tableIn (tgt := 65) hx hb dX1_ballot_21 (by omega) (by omega) (by rw [cw]; rfl) (by decide) ?_
        refine lv_aload_n hx hb dX1_ballot_65 rfl (lv_at hl 0 rfl) ?_
        refine hr_get C T2327 ho0 rfl in_X1 12 (by decide) q307 rfl rfl dX1_ballot_66 ?_
        refine lv_iload_n hx hb dX1_ballot_69 rfl (lv_at hl 1 rfl) ?_
        refine hr_bald C T2327 ha13 (by omega) (by omega) dX1_ballot_70 ?_
        have hcd : cd_ballot N (nI v) y = 0 := by unfold cd_ballot; (repeat' split) <;> omega
        exact Z _ _ _ _ _ _ _ _ dX1_ballot_71 (Nat.zero_le _) (Nat.zero_le _) ⟨hcd, _, rfl, by rw [cw, tv]; exact ⟨fun z => absurd z (by decide), fun z => absurd z (by decide), fun _ => r13 v (by omega), fun z => absurd z (by decide)⟩, rfl, rfl, rfl⟩ T2327
      · refine lv_tableIn (tgt := 72) hx hb dX1_ballot_21 (by omega) (by omega) (by rw [cw]; rfl) (by decide) ?_
        refine lv_aload_n hx hb dX1_ballot_72 rfl (lv_at hl 0 rfl) ?_
        refine hr_get C T2327 ho0 rfl in_X1 13 (by decide) q308 rfl rfl dX1_ballot_73 ?_
        refine lv_iload_n hx hb dX1_ballot_76 rfl (lv_at hl 1 rfl) ?_
        refine hr_sald C T2327 ha14 (by omega) (by omega) dX1_ballot_77 ?_
        have hcd : cd_ballot N (nI v) y = 0 := by unfold cd_ballot; (repeat' split) <;> omega
        exact Z _ _ _ _ _ _ _ _ dX1_ballot_78 (Nat.zero_le _) (Nat.zero_le _) ⟨hcd, _, rfl, by rw [cw, tv]; exact ⟨fun z => absurd z (by decide), fun z => absurd z (by decide), fun z => absurd z (by decide), fun _ => r14 v (by omega)⟩, rfl, rfl, rfl⟩ T2327
      · refine lv_tableOut (tgt := 79) hx hb dX1_ballot_21 cw (by decide) ?_
        have hcd : cd_ballot N (nI v) y = 1 := by unfold cd_ballot; (repeat' split) <;> omega
        refine Y "java/lang/IndexOutOfBoundsException" _ _ _ _ _ ?_
        refine hx_new C T2327 q596 q597 q71 (Nat.le_of_ble_eq_true rfl) (Nat.le_of_ble_eq_true rfl) dX1_ballot_79 (fun qa H2329 cX kX hfX hkX hcell hnew T2329 => ?_)
        refine lv_dup hx hb dX1_ballot_82 rfl ?_
        exact hx_thr0 hfl C T hl.1 (by decide) (by decide) (ex_at C (by decide) ok_iob) hfX hkX hcell hnew dX1_ballot_83 dX1_ballot_86 hno (by decide) (by decide) ⟨Nat.le_of_ble_eq_true rfl, Nat.le_of_ble_eq_true rfl⟩ ⟨rfl, rfl, rfl, by rw [hcd]; exact ⟨by decide, rfl⟩⟩

def cd_digest (x y : Int32) : Nat := if y.toInt < 0 ∨ 31 < y.toInt then 1 else if x.toInt < 1 then 2 else 0
def vl_digest (N : Nat → Nat) (M : Nat → Nat → Nat) (n i : Nat) : Int32 := dgb (dgw (msgF (nI1 (M 6)) (N 9) n)) i


set_option maxHeartbeats 4000000 in
theorem m_X1_digest {E : GE} {l : Launch} {h : HH} (hfl : l.flags = flags0) {L B cp N : Nat → Nat} {M : Nat → Nat → Nat} {G : Nat → Nat → Int32} (hLay : Lay L B) (hI : Inv N M G) (hC : Cp E h L B cp N M G) {x y : Int32} : MX E l yX1_digest cX1_digest 3 (some .int) ({ frames := 8, cells := 1, slots := 6, locals := 1200 } : Room) [.ref (L 0), .int x, .int y] h (fun rv h2 dc ds => cd_digest x y = 0 ∧ rv = some (.int (vl_digest N M x.toInt.toNat y.toInt.toNat)) ∧ Cp E h2 L B cp N M G ∧ Fr (CO L B) h h2 ∧ dc = 0 ∧ ds = 0) (fun C h' dc ds => h' = h ∧ dc = 1 ∧ ds = 6 ∧ TC C (cd_digest x y) [xIOB, xIAE]) := by
  refine hx_i (by decide) (Nat.le_of_ble_eq_true rfl) ?_
  intro p e s m below meth c C hno Q Z Y ls T hl
  have hx := C.x
  have hb := C.b
  have hl : lv_has ls 3 [(0, .ref (L 0)), (1, .int x), (2, .int y)] := hl
  obtain ⟨i0, i1, i2, i3, i4, i5, i7, i9, i10, i11, i15, iv, isz, isum, ital, itm, idg, icn, irec, isn, iout, ict, iwt, iwt2, iz, inz, iup, ish⟩ := hI
  obtain ⟨pp, f, rs, pw, pl, ps, V, ⟨ho0, ha1, ha3, ha12, ha13, ha14, ha15, ha16, ha17, ha39⟩, ⟨r1, r3, r12, r13, r14, r15, r16, r17, rp, rp16⟩, hVr, hSt, hPr, hCn, hSd, hDg, hB⟩ := hC
  have hF : Fr (CO L B) h h := Fr.rf
  refine lv_iload_n hx hb dX1_digest_0 rfl (lv_at hl 2 rfl) ?_
  refine zi_if_lt (tgt := 14) (X := (y).toInt) hx hb dX1_digest_1 (by decide) rfl (fun c1 => ?_) (fun c1 => ?_)
  · refine lv_iconst (v := nI 0) hx hb dX1_digest_14 rfl ?_
    have hcd : cd_digest x y = 1 := by unfold cd_digest; (repeat' split) <;> omega
    exact Y _ _ _ _ _ _ ((thr_S C T hl.1 (t_X1_inside hfl) q593 q594 q53 q595 kd_X1_inside rfl rfl ⟨Nat.le_of_ble_eq_true rfl, Nat.le_of_ble_eq_true rfl⟩ (Nat.le_of_ble_eq_true rfl) dX1_digest_15 ⟨Nat.le_of_ble_eq_true rfl, Nat.le_of_ble_eq_true rfl⟩).on C T hno ⟨Nat.le_of_ble_eq_true rfl, Nat.le_of_ble_eq_true rfl⟩ (fun h2 dc ds hp => by obtain ⟨rfl, rfl, rfl⟩ := hp; exact ⟨rfl, rfl, rfl, by rw [hcd]; exact ⟨by decide, rfl⟩⟩))
  · refine lv_iload_n hx hb dX1_digest_4 rfl (lv_at hl 2 rfl) ?_
    refine lv_bipush (v := nI 32) hx hb dX1_digest_5 rfl ?_
    refine zi_icmp_ge (tgt := 14) (X := (y).toInt) (Y := ((32 : Nat) : Int)) hx hb dX1_digest_7 (by decide) rfl (nI_toInt (by omega)) (fun c7 => ?_) (fun c7 => ?_)
    · refine lv_iconst (v := nI 0) hx hb dX1_digest_14 rfl ?_
      have hcd : cd_digest x y = 1 := by unfold cd_digest; (repeat' split) <;> omega
      exact Y _ _ _ _ _ _ ((thr_S C T hl.1 (t_X1_inside hfl) q593 q594 q53 q595 kd_X1_inside rfl rfl ⟨Nat.le_of_ble_eq_true rfl, Nat.le_of_ble_eq_true rfl⟩ (Nat.le_of_ble_eq_true rfl) dX1_digest_15 ⟨Nat.le_of_ble_eq_true rfl, Nat.le_of_ble_eq_true rfl⟩).on C T hno ⟨Nat.le_of_ble_eq_true rfl, Nat.le_of_ble_eq_true rfl⟩ (fun h2 dc ds hp => by obtain ⟨rfl, rfl, rfl⟩ := hp; exact ⟨rfl, rfl, rfl, by rw [hcd]; exact ⟨by decide, rfl⟩⟩))
    · refine lv_iconst (v := nI 1) hx hb dX1_digest_10 rfl ?_
      refine lv_goto (tgt := 15) hx hb dX1_digest_11 (by decide) ?_
      refine hp_S C T hl.1 (p_X1_inside) q593 q594 q53 q595 kd_X1_inside rfl rfl ⟨Nat.le_of_ble_eq_true rfl, Nat.le_of_ble_eq_true rfl⟩ (Nat.le_of_ble_eq_true rfl) dX1_digest_15 ⟨Nat.le_of_ble_eq_true rfl, Nat.le_of_ble_eq_true rfl⟩ (fun rv H2330 hp2330 T2330 => ?_)
      obtain rfl := hp2330
      refine W.eq (g2 := F0 m 18 ls []) rfl ?_
      obtain ⟨u, hu, rfl⟩ := nat_of (x := y) (by omega)
      have eu := nI_toInt hu
      have tu : (nI u).toInt.toNat = u := by rw [eu]; rfl
      refine lv_iload_n hx hb dX1_digest_18 rfl (lv_at hl 1 rfl) ?_
      refine lv_iconst (v := nI 1) hx hb dX1_digest_19 rfl ?_
      refine zi_icmp_lt (tgt := 27) (X := (x).toInt) (Y := ((1 : Nat) : Int)) hx hb dX1_digest_20 (by decide) rfl (nI_toInt (by omega)) (fun c20 => ?_) (fun c20 => ?_)
      · refine lv_iconst (v := nI 0) hx hb dX1_digest_27 rfl ?_
        have hcd : cd_digest x (nI u) = 2 := by unfold cd_digest; (repeat' split) <;> omega
        exact Y _ _ _ _ _ _ ((thr_S C T2330 hl.1 (t_X1_need hfl) q441 q442 q53 q443 kd_X1_need rfl rfl ⟨Nat.le_of_ble_eq_true rfl, Nat.le_of_ble_eq_true rfl⟩ (Nat.le_of_ble_eq_true rfl) dX1_digest_28 ⟨Nat.le_of_ble_eq_true rfl, Nat.le_of_ble_eq_true rfl⟩).on C T2330 hno ⟨Nat.le_of_ble_eq_true rfl, Nat.le_of_ble_eq_true rfl⟩ (fun h2 dc ds hp => by obtain ⟨rfl, rfl, rfl⟩ := hp; exact ⟨rfl, rfl, rfl, by rw [hcd]; exact ⟨by decide, rfl⟩⟩))
      · refine lv_iconst (v := nI 1) hx hb dX1_digest_23 rfl ?_
        refine lv_goto (tgt := 28) hx hb dX1_digest_24 (by decide) ?_
        refine hp_S C T2330 hl.1 (p_X1_need) q441 q442 q53 q443 kd_X1_need rfl rfl ⟨Nat.le_of_ble_eq_true rfl, Nat.le_of_ble_eq_true rfl⟩ (Nat.le_of_ble_eq_true rfl) dX1_digest_28 ⟨Nat.le_of_ble_eq_true rfl, Nat.le_of_ble_eq_true rfl⟩ (fun rv H2331 hp2331 T2331 => ?_)
        obtain rfl := hp2331
        refine W.eq (g2 := F0 m 31 ls []) rfl ?_
        obtain ⟨v, hv, rfl⟩ := nat_of (x := x) (by omega)
        have ev := nI_toInt hv
        have tv : (nI v).toInt.toNat = v := by rw [ev]; rfl
        refine lv_aload_n hx hb dX1_digest_31 rfl (lv_at hl 0 rfl) ?_
        refine hr_get C T2331 ho0 rfl in_X1 26 (by decide) q325 rfl rfl dX1_digest_32 ?_
        refine lv_iload_n hx hb dX1_digest_35 rfl (lv_at hl 1 rfl) ?_
        obtain ⟨fg, hso, hsg, hfg⟩ := id hSd
        refine hc_V C T2331 hl.1 hso rfl (m_X3_work hLay.1 hSd hDg (show 1 ≤ v by omega) (show v < 2147483648 by omega)) q891 q709 q710 q55 q711 kd_X3_work rfl rfl ⟨Nat.le_of_ble_eq_true rfl, Nat.le_of_ble_eq_true rfl⟩ (Nat.le_of_ble_eq_true rfl) dX1_digest_36 ⟨Nat.le_of_ble_eq_true rfl, Nat.le_of_ble_eq_true rfl⟩ (fun rv h2332 H2332 locs2332 hp2332 T2332 => ?_)
        obtain ⟨rfl, rs2, hD2332, hdw2332, hF2332, ho2332⟩ := hp2332
        have hF_2332 : Fr (CO L B) h h2332 := hF.tr (hF2332.mono (fun _ z => Or.inr (Or.inr (Or.inr (Or.inr (Or.inl z))))))
        refine W.eq (g2 := F0 m 39 ls []) rfl ?_
        refine lv_aload_n hx hb dX1_digest_39 rfl (lv_at hl 0 rfl) ?_
        have ho0_2332 : h2332 (L 0) = some (.inr (0, [.ref (L 1), .int (nI (N 0)), .ref (L 3), .int (nI (N 1)), .int (nI (N 2)), .int (nI (N 3)), .int (nI (N 4)), .int (nI (N 5)), .int (nI (N 6)), .int (nI (N 7)), .int (nI (N 8)), .ref (L 12), .ref (L 13), .ref (L 14), .ref (L 15), .ref (L 16), .ref (L 17), .int (nI (N 11)), .int (nI (N 15)), .int (nI (N 16)), .int (nI (N 17)), .int (nI (N 18) - 1), .int (nI (N 19)), .ref (L 24), .int (nI pp), .ref (L 26), .ref (L 27), .ref (if N 13 = 1 then L 27 else L 26), .ref (L 29), .ref (L 30), .ref (if N 12 = 1 then L 30 else L 29), .ref (L 32), .ref (B 0), .ref (B 1), .ref (B 2), .ref (B 3), .ref (L 37), .ref (L 38), .ref (L 39), .ref (B 4), .ref (B 5)]), L 0) := (ho2332 _ (hLay.1 0 62 (by decide) (by decide) (by decide)) (hLay.1 0 63 (by decide) (by decide) (by decide)) (hLay.1 0 64 (by decide) (by decide) (by decide)) (hLay.1 0 65 (by decide) (by decide) (by decide)) (hLay.1 0 66 (by decide) (by decide) (by decide))).trans ho0
        refine hr_get C T2332 ho0_2332 rfl in_X1 26 (by decide) q325 rfl rfl dX1_digest_40 ?_
        have hso_2332 : h2332 (L 27) = some (.inr (3, [.ref (L 61), .int (nI (N 9)), .ref (L 62)]), L 27) := (ho2332 _ (hLay.1 27 62 (by decide) (by decide) (by decide)) (hLay.1 27 63 (by decide) (by decide) (by decide)) (hLay.1 27 64 (by decide) (by decide) (by decide)) (hLay.1 27 65 (by decide) (by decide) (by decide)) (hLay.1 27 66 (by decide) (by decide) (by decide))).trans hso
        refine hr_getN C T2332 hso_2332 rfl in_X3 2 (by decide) 3 rfl rfl rfl dX1_digest_43 ?_
        refine lv_iload_n hx hb dX1_digest_46 rfl (lv_at hl 2 rfl) ?_
        obtain ⟨dn, d1, d2, d3, d4, d5, d6⟩ := id hD2332
        refine hp_V C T2332 hl.1 d4 rfl (p_X4_byteAt (show u < 32 by omega) d4 d5) q892 q893 q894 q56 q895 kd_X4_byteAt rfl rfl ⟨Nat.le_of_ble_eq_true rfl, Nat.le_of_ble_eq_true rfl⟩ (Nat.le_of_ble_eq_true rfl) dX1_digest_47 ⟨Nat.le_of_ble_eq_true rfl, Nat.le_of_ble_eq_true rfl⟩ (fun rv H2333 hp2333 T2333 => ?_)
        obtain rfl := hp2333
        refine W.eq (g2 := F0 m 50 ls [.int (dgb rs2 u)]) rfl ?_
        have hcd : cd_digest (nI v) (nI u) = 0 := by unfold cd_digest; (repeat' split) <;> omega
        have ha1_2332 : h2332 (L 1) = some (.inl (E.2.1 0, 8, .inl (f 1)), L 0) := (ho2332 _ (hLay.1 1 62 (by decide) (by decide) (by decide)) (hLay.1 1 63 (by decide) (by decide) (by decide)) (hLay.1 1 64 (by decide) (by decide) (by decide)) (hLay.1 1 65 (by decide) (by decide) (by decide)) (hLay.1 1 66 (by decide) (by decide) (by decide))).trans ha1
        have ha3_2332 : h2332 (L 3) = some (.inl (E.2.1 0, 64, .inl (f 3)), L 0) := (ho2332 _ (hLay.1 3 62 (by decide) (by decide) (by decide)) (hLay.1 3 63 (by decide) (by decide) (by decide)) (hLay.1 3 64 (by decide) (by decide) (by decide)) (hLay.1 3 65 (by decide) (by decide) (by decide)) (hLay.1 3 66 (by decide) (by decide) (by decide))).trans ha3
        have ha12_2332 : h2332 (L 12) = some (.inl (E.2.1 1, 20000, .inl (f 12)), L 0) := (ho2332 _ (hLay.1 12 62 (by decide) (by decide) (by decide)) (hLay.1 12 63 (by decide) (by decide) (by decide)) (hLay.1 12 64 (by decide) (by decide) (by decide)) (hLay.1 12 65 (by decide) (by decide) (by decide)) (hLay.1 12 66 (by decide) (by decide) (by decide))).trans ha12
        have ha13_2332 : h2332 (L 13) = some (.inl (E.2.1 1, 20000, .inl (f 13)), L 0) := (ho2332 _ (hLay.1 13 62 (by decide) (by decide) (by decide)) (hLay.1 13 63 (by decide) (by decide) (by decide)) (hLay.1 13 64 (by decide) (by decide) (by decide)) (hLay.1 13 65 (by decide) (by decide) (by decide)) (hLay.1 13 66 (by decide) (by decide) (by decide))).trans ha13
        have ha14_2332 : h2332 (L 14) = some (.inl (E.2.1 2, 20000, .inl (f 14)), L 0) := (ho2332 _ (hLay.1 14 62 (by decide) (by decide) (by decide)) (hLay.1 14 63 (by decide) (by decide) (by decide)) (hLay.1 14 64 (by decide) (by decide) (by decide)) (hLay.1 14 65 (by decide) (by decide) (by decide)) (hLay.1 14 66 (by decide) (by decide) (by decide))).trans ha14
        have ha15_2332 : h2332 (L 15) = some (.inl (E.2.1 3, 8, .inl (f 15)), L 0) := (ho2332 _ (hLay.1 15 62 (by decide) (by decide) (by decide)) (hLay.1 15 63 (by decide) (by decide) (by decide)) (hLay.1 15 64 (by decide) (by decide) (by decide)) (hLay.1 15 65 (by decide) (by decide) (by decide)) (hLay.1 15 66 (by decide) (by decide) (by decide))).trans ha15
        have ha16_2332 : h2332 (L 16) = some (.inl (E.2.1 0, 8, .inl (f 16)), L 0) := (ho2332 _ (hLay.1 16 62 (by decide) (by decide) (by decide)) (hLay.1 16 63 (by decide) (by decide) (by decide)) (hLay.1 16 64 (by decide) (by decide) (by decide)) (hLay.1 16 65 (by decide) (by decide) (by decide)) (hLay.1 16 66 (by decide) (by decide) (by decide))).trans ha16
        have ha17_2332 : h2332 (L 17) = some (.inl (E.2.1 0, 8, .inl (f 17)), L 0) := (ho2332 _ (hLay.1 17 62 (by decide) (by decide) (by decide)) (hLay.1 17 63 (by decide) (by decide) (by decide)) (hLay.1 17 64 (by decide) (by decide) (by decide)) (hLay.1 17 65 (by decide) (by decide) (by decide)) (hLay.1 17 66 (by decide) (by decide) (by decide))).trans ha17
        have ha39_2332 : h2332 (L 39) = some (.inl (E.2.1 3, 961, .inl (f 39)), L 0) := (ho2332 _ (hLay.1 39 62 (by decide) (by decide) (by decide)) (hLay.1 39 63 (by decide) (by decide) (by decide)) (hLay.1 39 64 (by decide) (by decide) (by decide)) (hLay.1 39 65 (by decide) (by decide) (by decide)) (hLay.1 39 66 (by decide) (by decide) (by decide))).trans ha39
        have hSt_2332 : Stt E L B h2332 := Stt.kept (O := (· = L 62)) hF2332 (hLay.1 30 62 (by decide) (by decide) (by decide)) hSt
        have hPr_2332 : Prs L B pw pl ps h2332 := Prs.kept (O := (· = L 62)) hF2332 (hLay.1 24 62 (by decide) (by decide) (by decide)) hPr
        have hCn_2332 : Cns h2332 E L (nI1 (M 8)) (N 10) := Cns.kept (O := (· = L 62)) hF2332 (hLay.1 26 62 (by decide) (by decide) (by decide)) hCn
        have hSd_2332 : Sds h2332 E L (nI1 (M 6)) (N 9) := Sds.kept (O := (· = L 62)) hF2332 (hLay.1 27 62 (by decide) (by decide) (by decide)) hSd
        have hB_2332 : Bgs E h2332 B V cp := Bgs.kept (O := (· = L 62)) hF2332 (fun i hi => hLay.2 i 62 hi (by decide)) hB
        exact Z _ _ _ _ _ _ _ _ dX1_digest_50 (Nat.zero_le _) (Nat.zero_le _) ⟨hcd, by rw [tv, tu]; unfold vl_digest dgb; rw [hdw2332 (u / 4) (by omega)], ⟨pp, f, rs2, pw, pl, ps, V, ⟨ho0_2332, ha1_2332, ha3_2332, ha12_2332, ha13_2332, ha14_2332, ha15_2332, ha16_2332, ha17_2332, ha39_2332⟩, ⟨r1, r3, r12, r13, r14, r15, r16, r17, rp, rp16⟩, hVr, hSt_2332, hPr_2332, hCn_2332, hSd_2332, hD2332, hB_2332⟩, hF_2332, rfl, rfl⟩ T2333

set_option maxHeartbeats 4000000 in
theorem m_X1_part {E : GE} {l : Launch} {h : HH} {L B N : Nat → Nat} {pp : Nat} {x : Int32} (hx01 : x.toInt = 0 ∨ x.toInt = 1) (ho0 : h (L 0) = some (.inr (0, [.ref (L 1), .int (nI (N 0)), .ref (L 3), .int (nI (N 1)), .int (nI (N 2)), .int (nI (N 3)), .int (nI (N 4)), .int (nI (N 5)), .int (nI (N 6)), .int (nI (N 7)), .int (nI (N 8)), .ref (L 12), .ref (L 13), .ref (L 14), .ref (L 15), .ref (L 16), .ref (L 17), .int (nI (N 11)), .int (nI (N 15)), .int (nI (N 16)), .int (nI (N 17)), .int (nI (N 18) - 1), .int (nI (N 19)), .ref (L 24), .int (nI pp), .ref (L 26), .ref (L 27), .ref (if N 13 = 1 then L 27 else L 26), .ref (L 29), .ref (L 30), .ref (if N 12 = 1 then L 30 else L 29), .ref (L 32), .ref (B 0), .ref (B 1), .ref (B 2), .ref (B 3), .ref (L 37), .ref (L 38), .ref (L 39), .ref (B 4), .ref (B 5)]), L 0)) : MM E l yX1_part cX1_part 2 (some (.object "PollAudit$Big")) ({ frames := 1, cells := 0, slots := 0, locals := 150 } : Room) [.ref (L 0), .int x] h (fun rv h2 => rv = some (.ref (if x.toInt = 0 then B 2 else B 3)) ∧ h2 = h) := by
  refine hm_r (by decide) (Nat.le_of_ble_eq_true rfl) ?_
  intro p e s m below meth c C hnm Q Z ls T hl
  have hx := C.x
  have hb := C.b
  have hl : lv_has ls 2 [(0, .ref (L 0)), (1, .int x)] := hl
  refine lv_iload_n hx hb dX1_part_0 rfl (lv_at hl 1 rfl) ?_
  refine zi_if_eq (tgt := 9) (X := (x).toInt) hx hb dX1_part_1 (by decide) rfl (fun c1 => ?_) (fun c1 => ?_)
  · refine lv_iconst (v := nI 1) hx hb dX1_part_9 rfl ?_
    refine lv_goto (tgt := 14) hx hb dX1_part_10 (by decide) ?_
    refine hp_S C T hl.1 (p_X1_inside) q593 q594 q53 q595 kd_X1_inside rfl rfl ⟨Nat.le_of_ble_eq_true rfl, Nat.le_of_ble_eq_true rfl⟩ (Nat.le_of_ble_eq_true rfl) dX1_part_14 ⟨Nat.le_of_ble_eq_true rfl, Nat.le_of_ble_eq_true rfl⟩ (fun rv H2334 hp2334 T2334 => ?_)
    obtain rfl := hp2334
    refine W.eq (g2 := F0 m 17 ls []) rfl ?_
    refine lv_iload_n hx hb dX1_part_17 rfl (lv_at hl 1 rfl) ?_
    refine zi_if_ne (tgt := 28) (X := (x).toInt) hx hb dX1_part_18 (by decide) rfl (fun c4 => absurd c1 c4) (fun c4 => ?_)
    refine lv_aload_n hx hb dX1_part_21 rfl (lv_at hl 0 rfl) ?_
    refine hr_get C T2334 ho0 rfl in_X1 34 (by decide) q336 rfl rfl dX1_part_22 ?_
    refine lv_goto (tgt := 32) hx hb dX1_part_25 (by decide) ?_
    exact Z _ _ _ _ _ _ dX1_part_32 ⟨by rw [if_pos c1], rfl⟩ T2334
  · refine lv_iload_n hx hb dX1_part_4 rfl (lv_at hl 1 rfl) ?_
    refine lv_iconst (v := nI 1) hx hb dX1_part_5 rfl ?_
    refine zi_icmp_ne (tgt := 13) (X := (x).toInt) (Y := ((1 : Nat) : Int)) hx hb dX1_part_6 (by decide) rfl (nI_toInt (by omega)) (fun c2 => ?_) (fun c2 => ?_)
    · exact absurd c2 (by omega)
    · refine lv_iconst (v := nI 1) hx hb dX1_part_9 rfl ?_
      refine lv_goto (tgt := 14) hx hb dX1_part_10 (by decide) ?_
      refine hp_S C T hl.1 (p_X1_inside) q593 q594 q53 q595 kd_X1_inside rfl rfl ⟨Nat.le_of_ble_eq_true rfl, Nat.le_of_ble_eq_true rfl⟩ (Nat.le_of_ble_eq_true rfl) dX1_part_14 ⟨Nat.le_of_ble_eq_true rfl, Nat.le_of_ble_eq_true rfl⟩ (fun rv H2335 hp2335 T2335 => ?_)
      obtain rfl := hp2335
      refine W.eq (g2 := F0 m 17 ls []) rfl ?_
      refine lv_iload_n hx hb dX1_part_17 rfl (lv_at hl 1 rfl) ?_
      refine zi_if_ne (tgt := 28) (X := (x).toInt) hx hb dX1_part_18 (by decide) rfl (fun c4 => ?_) (fun c4 => absurd c4 (by omega))
      refine lv_aload_n hx hb dX1_part_28 rfl (lv_at hl 0 rfl) ?_
      refine hr_get C T2335 ho0 rfl in_X1 35 (by decide) q337 rfl rfl dX1_part_29 ?_
      exact Z _ _ _ _ _ _ dX1_part_32 ⟨by rw [if_neg c1], rfl⟩ T2335

set_option maxHeartbeats 4000000 in
theorem t_X1_part {E : GE} {l : Launch} {h : HH} (hfl : l.flags = flags0) {L B N : Nat → Nat} {pp : Nat} {x : Int32} (hx01 : ¬ (x.toInt = 0 ∨ x.toInt = 1)) (ho0 : h (L 0) = some (.inr (0, [.ref (L 1), .int (nI (N 0)), .ref (L 3), .int (nI (N 1)), .int (nI (N 2)), .int (nI (N 3)), .int (nI (N 4)), .int (nI (N 5)), .int (nI (N 6)), .int (nI (N 7)), .int (nI (N 8)), .ref (L 12), .ref (L 13), .ref (L 14), .ref (L 15), .ref (L 16), .ref (L 17), .int (nI (N 11)), .int (nI (N 15)), .int (nI (N 16)), .int (nI (N 17)), .int (nI (N 18) - 1), .int (nI (N 19)), .ref (L 24), .int (nI pp), .ref (L 26), .ref (L 27), .ref (if N 13 = 1 then L 27 else L 26), .ref (L 29), .ref (L 30), .ref (if N 12 = 1 then L 30 else L 29), .ref (L 32), .ref (B 0), .ref (B 1), .ref (B 2), .ref (B 3), .ref (L 37), .ref (L 38), .ref (L 39), .ref (B 4), .ref (B 5)]), L 0)) : MT E l yX1_part cX1_part 2 (some (.object "PollAudit$Big")) ({ frames := 7, cells := 1, slots := 6, locals := 1050 } : Room) [.ref (L 0), .int x] h "java/lang/IndexOutOfBoundsException" (fun h' dc ds => h' = h ∧ dc = 1 ∧ ds = 6) := by
  refine ht_of (by decide) (Nat.le_of_ble_eq_true rfl) ?_
  intro p e s m below meth c C hno ls T hl
  have hx := C.x
  have hb := C.b
  have hl : lv_has ls 2 [(0, .ref (L 0)), (1, .int x)] := hl
  refine lv_iload_n hx hb dX1_part_0 rfl (lv_at hl 1 rfl) ?_
  refine zi_if_eq (tgt := 9) (X := (x).toInt) hx hb dX1_part_1 (by decide) rfl (fun c1 => ?_) (fun c1 => ?_)
  · exact absurd (Or.inl c1) hx01
  · refine lv_iload_n hx hb dX1_part_4 rfl (lv_at hl 1 rfl) ?_
    refine lv_iconst (v := nI 1) hx hb dX1_part_5 rfl ?_
    refine zi_icmp_ne (tgt := 13) (X := (x).toInt) (Y := ((1 : Nat) : Int)) hx hb dX1_part_6 (by decide) rfl (nI_toInt (by omega)) (fun c2 => ?_) (fun c2 => ?_)
    · refine lv_iconst (v := nI 0) hx hb dX1_part_13 rfl ?_
      exact (thr_S C T hl.1 (t_X1_inside hfl) q593 q594 q53 q595 kd_X1_inside rfl rfl ⟨Nat.le_of_ble_eq_true rfl, Nat.le_of_ble_eq_true rfl⟩ (Nat.le_of_ble_eq_true rfl) dX1_part_14 ⟨Nat.le_of_ble_eq_true rfl, Nat.le_of_ble_eq_true rfl⟩).on C T hno ⟨Nat.le_of_ble_eq_true rfl, Nat.le_of_ble_eq_true rfl⟩ (fun h2 dc ds hp => by obtain ⟨rfl, rfl, rfl⟩ := hp; exact ⟨rfl, rfl, rfl⟩)
    · exact absurd (Or.inr (by omega)) hx01

def cd_size (x : Int32) : Nat := if x.toInt = 0 ∨ x.toInt = 1 then 0 else 1
def cd_limb (N : Nat → Nat) (x y : Int32) : Nat := if (x.toInt = 0 ∨ x.toInt = 1) ∧ 0 ≤ y.toInt ∧ y.toInt < lm (if x.toInt = 0 then N 22 else N 23) then 0 else 1
