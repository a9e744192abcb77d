set_option maxRecDepth 100000
set_option maxHeartbeats 4000000 in
theorem m_X7_shiftLeft {E : GE} {l : Launch} {h : HH} {b N cap sh : Nat} (hB : Big E h b N cap) (hs : sh < 32) (hm : lm N + 1 ≤ 128) : MG E l yX7_shiftLeft cX7_shiftLeft 11 none ({ frames := 2, cells := gc cap (lm N + 1), slots := gs cap (lm N + 1), locals := 300 } : Room) [.ref b, .int (nI sh)] h (fun rv h2 dc ds => rv = none ∧ Big E h2 b (N * 2 ^ sh) (capr cap (lm N + 1)) ∧ Fr (· = b) h h2 ∧ dc = gc cap (lm N + 1) ∧ ds = gs cap (lm N + 1)) := by
  refine hn_v (by decide) (Nat.le_of_ble_eq_true rfl) ?_
  intro p e s m below meth c C hnm Q Z ls T hl
  have hx := C.x
  have hb := C.b
  have hl : lv_has ls 11 [(0, .ref b), (1, .int (nI sh))] := hl
  obtain ⟨ca, f, ⟨hbo, hba, hbn, hb8, hbc⟩, hv⟩ := hB
  refine lv_iload_n hx hb dX7_shiftLeft_0 rfl (lv_at hl 1 rfl) ?_
  refine lv_iconst (v := nI 5) hx hb dX7_shiftLeft_1 rfl ?_
  refine lv_ishr hx hb dX7_shiftLeft_2 ?_
  rw [show (nI sh) >>> ((nI 5) &&& 31) = nI 0 from shr5 sh hs]
  refine lv_istore_n (lv' := [(2, .int (nI 0)), (0, .ref b), (1, .int (nI sh))]) hx hb dX7_shiftLeft_3 rfl hl (by decide) rfl (fun ls501 hl501 => ?_)
  refine lv_iload_n hx hb dX7_shiftLeft_4 rfl (lv_at hl501 2 rfl) ?_
  refine lv_bipush (v := nI 31) hx hb dX7_shiftLeft_5 rfl ?_
  refine lv_iand hx hb dX7_shiftLeft_7 ?_
  rw [show (nI sh) &&& (nI 31) = nI sh from and31 sh hs]
  refine lv_istore_n (lv' := [(3, .int (nI sh)), (2, .int (nI 0)), (0, .ref b), (1, .int (nI sh))]) hx hb dX7_shiftLeft_8 rfl hl501 (by decide) rfl (fun ls502 hl502 => ?_)
  refine lv_aload_n hx hb dX7_shiftLeft_9 rfl (lv_at hl502 2 rfl) ?_
  refine hr_get C T hbo rfl in_X7 1 (by decide) q172 rfl rfl dX7_shiftLeft_10 ?_
  refine lv_iload_n hx hb dX7_shiftLeft_13 rfl (lv_at hl502 1 rfl) ?_
  refine hn_iadd hx hb dX7_shiftLeft_14 ?_
  refine lv_iconst (v := nI 1) hx hb dX7_shiftLeft_15 rfl ?_
  refine hn_iadd hx hb dX7_shiftLeft_16 ?_
  refine lv_istore (lv' := [(4, .int (nI (((lm N) + 0) + 1))), (3, .int (nI sh)), (2, .int (nI 0)), (0, .ref b), (1, .int (nI sh))]) hx hb dX7_shiftLeft_17 hl502 (by decide) rfl (fun ls503 hl503 => ?_)
  refine lv_aload_n hx hb dX7_shiftLeft_19 rfl (lv_at hl503 3 rfl) ?_
  refine lv_iload hx hb dX7_shiftLeft_20 (lv_at hl503 0 rfl) ?_
  refine hg_V C T hl503.1 hbo rfl (m_X7_reserve ⟨hbo, hba, hbn, hb8, hbc⟩ (by omega)) q275 q277 qs0 q59 q278 kd_X7_reserve rfl rfl ⟨Nat.le_of_ble_eq_true rfl, Nat.le_of_ble_eq_true rfl⟩ (Nat.le_of_ble_eq_true rfl) dX7_shiftLeft_22 ⟨Nat.le_of_eq (Nat.zero_add _), Nat.le_of_eq (Nat.zero_add _)⟩ (fun rv h504 dc504 ds504 H504 locs504 hp504 T504 => ?_)
  obtain ⟨rfl, ca', f', ⟨bo2, ba2, bn2, b8, bc⟩, hf', hF2, rfl, rfl⟩ := hp504
  have hcr := capr_ge cap (lm N + 0 + 1)
  rw [show lm N + 0 + 1 = lm N + 1 from rfl] at *
  generalize capr cap (lm N + 1) = cap2 at *
  generalize gc cap (lm N + 1) = gk at *
  generalize gs cap (lm N + 1) = gn at *
  rw [show (none : Option Value).toList ++ ([] : List Value) = [] from rfl]
  have hl503 : lv_has ls503 11 [(4, .int (nI (lm N + 1))), (3, .int (nI sh)), (2, .int (nI 0)), (0, .ref b), (1, .int (nI sh))] := hl503
  have hv2 : bv f' (lm N) = N := by rw [bv_cong hf']; exact hv
  refine lv_iload hx hb dX7_shiftLeft_25 (lv_at hl503 0 rfl) ?_
  refine lv_iconst (v := nI 1) hx hb dX7_shiftLeft_27 rfl ?_
  refine lv_isub hx hb dX7_shiftLeft_28 ?_
  rw [show nI 1 = 1 from rfl]
  refine lv_istore (lv' := [(5, .int (nI (lm N + 1) - 1)), (4, .int (nI (lm N + 1))), (3, .int (nI sh)), (2, .int (nI 0)), (0, .ref b), (1, .int (nI sh))]) hx hb dX7_shiftLeft_29 hl503 (by decide) rfl (fun ls505 hl505 => ?_)
  have L1 : ∀ (j : Nat) (k : Nat) (r : Nat → Int32) (h506 : HH) (H506 : Heap) (locs506 : List Loc) (ls506 : Array Slot), (k < j) → (h506 b = some (.inr (1, [.ref ca', .int (nI (lm N))]), b)) → (h506 ca' = some (.inl (E.2.1 0, cap2, .inl r), b)) → (k ≤ lm N + 1) → (∀ i, i < k → r i = f' i) → (∀ i, k ≤ i → i < lm N + 1 → r i = slw f' (lm N) sh i) → (Fr (· = b) h h506) → (St E s h506 H506 locs506) → (lv_has ls506 11 [(0, .ref b), (2, .int (nI 0)), (3, .int (nI sh)), (4, .int (nI (lm N + 1))), (5, .int (nI k - 1))]) → W p l e ({ frames := 2, cells := gk, slots := gn, locals := 300 } : Room) s m ([.ref b, .int (nI sh)] : List Value).toArray below meth c H506 locs506 (0 + gk) (0 + gn) Q (F0 m 31 ls506 []) := by
    intro j
    induction j with
    | zero => intro k r h506 H506 locs506 ls506 hm506 bo2_506 ba2_506 hk hlo hhi hF_506 T506 hl506; exact absurd hm506 (by omega)
    | succ j ih506 =>
      intro k r h506 H506 locs506 ls506 hm506 bo2_506 ba2_506 hk hlo hhi hF_506 T506 hl506
      refine lv_iload hx hb dX7_shiftLeft_31 (lv_at hl506 4 rfl) ?_
      refine lv_if_lt (tgt := 131) hx hb dX7_shiftLeft_33 (by decide) (fun c1 => ?_) (fun c1 => ?_)
      · have k0 : k = 0 := (nIm1_neg (by omega)).mp c1
        subst k0
        have hend : bv r (lm N + 1) = N * 2 ^ sh := by rw [bv_cong (g := slw f' (lm N) sh) (fun i hi => hhi i (Nat.zero_le _) hi), slw_val f' (lm N) hs, hv2]
        refine lv_aload_n hx hb dX7_shiftLeft_131 rfl (lv_at hl506 0 rfl) ?_
        refine lv_iload hx hb dX7_shiftLeft_132 (lv_at hl506 3 rfl) ?_
        refine hr_put C T506 bo2_506 rfl in_X7 tyX7 tyX7_ok nmX7 1 (by decide) q172 rfl rfl rfl rfl (Nat.le_of_ble_eq_true rfl) dX7_shiftLeft_134 (fun h507 H507 locs507 eh507 T507 => ?_)
        have bo2_507 : h507 b = some (.inr (1, [.ref ca', .int (nI (lm N + 1))]), b) := hu_s eh507
        have hF_507 : Fr (· = b) h h507 := hu_f eh507 hF_506 bo2_506 rfl
        refine lv_aload_n hx hb dX7_shiftLeft_137 rfl (lv_at hl506 0 rfl) ?_
        have ba2_507 : h507 ca' = some (.inl (E.2.1 0, cap2, .inl r), b) := hu_n eh507 (hne_of ba2_506 bo2_506 (fun z => by cases z)) ba2_506
        refine hc_V C T507 hl506.1 bo2_507 rfl (m_X7_trim ⟨bo2_507, ba2_507, by omega, b8, bc⟩) q285 q287 qs1 q59 q288 kd_X7_trim rfl rfl ⟨Nat.le_of_ble_eq_true rfl, Nat.le_of_ble_eq_true rfl⟩ (Nat.le_of_ble_eq_true rfl) dX7_shiftLeft_138 ⟨Nat.le_of_eq (Nat.zero_add _), Nat.le_of_eq (Nat.zero_add _)⟩ (fun rv h508 H508 locs508 hp508 T508 => ?_)
        obtain ⟨rfl, k2, hk2, hB3, hF3, hz, hn⟩ := hp508
        rw [show (none : Option Value).toList ++ ([] : List Value) = [] from rfl]
        exact Z _ _ _ _ _ _ _ dX7_shiftLeft_141 (Nat.le_of_eq (Nat.zero_add _)) (Nat.le_of_eq (Nat.zero_add _)) ⟨rfl, Big.of hB3 (by rw [← bv_tail hk2 hz, hend]) hn, hF_507.tr hF3, Nat.zero_add _, Nat.zero_add _⟩ T508
      · have k0 : 0 < k := Nat.pos_of_ne_zero fun z => c1 ((nIm1_neg (by omega)).mpr z)
        rw [nIm1 k0] at hl506
        refine lv_iload hx hb dX7_shiftLeft_36 (lv_at hl506 4 rfl) ?_
        refine lv_iload_n hx hb dX7_shiftLeft_38 rfl (lv_at hl506 1 rfl) ?_
        refine hn_isub hx hb dX7_shiftLeft_39 (by omega) ?_
        refine lv_istore (lv' := [(6, .int (nI ((k - 1) - 0))), (0, .ref b), (2, .int (nI 0)), (3, .int (nI sh)), (4, .int (nI (lm N + 1))), (5, .int (nI (k - 1)))]) hx hb dX7_shiftLeft_40 hl506 (by decide) rfl (fun ls509 hl509 => ?_)
        have J110 : ∀ (v u : Nat) (H510 : Heap) (locs510 : List Loc) (ls510 : Array Slot), (v = un (bz f' (lm N) (k - 1)) * 2 ^ sh) → (u = (if k - 1 = 0 then 0 else un (bz f' (lm N) (k - 1 - 1)) * 2 ^ sh / 4294967296)) → (St E s h506 H510 locs510) → (lv_has ls510 11 [(0, .ref b), (2, .int (nI 0)), (3, .int (nI sh)), (4, .int (nI (lm N + 1))), (5, .int (nI (k - 1))), (7, .long (lN v)), (9, .long (lN u))]) → W p l e ({ frames := 2, cells := gk, slots := gn, locals := 300 } : Room) s m ([.ref b, .int (nI sh)] : List Value).toArray below meth c H510 locs510 (0 + gk) (0 + gn) Q (F0 m 112 ls510 []) := by
          intro v u H510 locs510 ls510 hv3 hu3 T510 hl510
          have hu4 : u < 2 ^ sh := by rw [hu3]; split; exact Nat.two_pow_pos sh; exact sh_lt (un_lt _)
          have hv4 : un (bz f' (lm N) (k - 1)) * 2 ^ sh ≤ 4294967295 * 2147483648 := Nat.mul_le_mul (by have := un_lt (bz f' (lm N) (k - 1)); omega) (pow_le32 hs)
          have hp32 := pow_le32 hs
          refine lv_aload_n hx hb dX7_shiftLeft_112 rfl (lv_at hl510 0 rfl) ?_
          refine hr_get C T510 bo2_506 rfl in_X7 0 (by decide) q170 rfl rfl dX7_shiftLeft_113 ?_
          refine lv_iload hx hb dX7_shiftLeft_116 (lv_at hl510 4 rfl) ?_
          refine lv_lload hx hb dX7_shiftLeft_118 (lv_at hl510 5 rfl) ?_
          refine lv_lload hx hb dX7_shiftLeft_120 (lv_at hl510 6 rfl) ?_
          refine lv_lor hx hb dX7_shiftLeft_122 ?_
          rw [show (lN v) ||| (lN u) = lN (v + u) from by rw [hv3]; exact lor_sum hu4 (by omega)]
          refine hn_l2i hx hb dX7_shiftLeft_123 ?_
          refine hr_iast C T510 ba2_506 (by omega) (by omega) dX7_shiftLeft_124 (fun h511 H511 locs511 eh511 T511 => ?_)
          have ba2_511 : h511 ca' = some (.inl (E.2.1 0, cap2, .inl (upd r (k - 1) (nI (v + u)))), b) := hu_s eh511
          have hF_511 : Fr (· = b) h h511 := hu_f eh511 hF_506 ba2_506 rfl
          refine lv_iinc (v := nI (k - 1) - 1) (lv' := [(5, .int (nI (k - 1) - 1)), (0, .ref b), (2, .int (nI 0)), (3, .int (nI sh)), (4, .int (nI (lm N + 1))), (7, .long (lN v)), (9, .long (lN u))]) hx hb dX7_shiftLeft_125 hl510 (k := 4) rfl (by rw [Int32.sub_eq_add_neg]; rfl) (by decide) rfl (fun ls512 hl512 => ?_)
          refine lv_goto (tgt := 31) hx hb dX7_shiftLeft_128 (by decide) ?_
          have bo2_511 : h511 b = some (.inr (1, [.ref ca', .int (nI (lm N))]), b) := hu_n eh511 (hne_of bo2_506 ba2_506 (fun z => by cases z)) bo2_506
          exact ih506 (k - 1) _ _ _ _ _ (by omega) bo2_511 ba2_511 (by omega) (fun i hi => (pk_un (by omega)).trans (hlo i (by omega))) (fun i h1 h2 => by by_cases z : i = k - 1; (subst z; rw [pk_us]; unfold slw; rw [hv3, hu3]); (rw [pk_un z]; exact hhi i (by omega) h2)) hF_511 T511 (lv_sub hl512 [1, 2, 3, 4, 0] rfl)
        have J72 : ∀ (v : Nat) (H513 : Heap) (locs513 : List Loc) (ls513 : Array Slot), (v = un (bz f' (lm N) (k - 1)) * 2 ^ sh) → (St E s h506 H513 locs513) → (lv_has ls513 11 [(6, .int (nI ((k - 1) - 0))), (0, .ref b), (2, .int (nI 0)), (3, .int (nI sh)), (4, .int (nI (lm N + 1))), (5, .int (nI (k - 1)))]) → W p l e ({ frames := 2, cells := gk, slots := gn, locals := 300 } : Room) s m ([.ref b, .int (nI sh)] : List Value).toArray below meth c H513 locs513 (0 + gk) (0 + gn) Q (F0 m 72 ls513 [.long (lN v)]) := by
          intro v H513 locs513 ls513 hv3 T513 hl513
          refine lv_lstore (lv' := [(7, .long (lN v)), (6, .int (nI ((k - 1) - 0))), (0, .ref b), (2, .int (nI 0)), (3, .int (nI sh)), (4, .int (nI (lm N + 1))), (5, .int (nI (k - 1)))]) hx hb dX7_shiftLeft_72 hl513 (by decide) rfl (fun ls514 hl514 => ?_)
          refine lv_iload hx hb dX7_shiftLeft_74 (lv_at hl514 1 rfl) ?_
          refine lv_iconst (v := nI 1) hx hb dX7_shiftLeft_76 rfl ?_
          refine hn_icmp_lt (tgt := 109) hx hb dX7_shiftLeft_77 (by decide) (by omega) (by omega) (fun c3 => ?_) (fun c3 => ?_)
          · refine lv_lconst (v := lN 0) hx hb dX7_shiftLeft_109 rfl ?_
            refine lv_lstore (lv' := [(9, .long (lN 0)), (7, .long (lN v)), (6, .int (nI ((k - 1) - 0))), (0, .ref b), (2, .int (nI 0)), (3, .int (nI sh)), (4, .int (nI (lm N + 1))), (5, .int (nI (k - 1)))]) hx hb dX7_shiftLeft_110 hl514 (by decide) rfl (fun ls515 hl515 => ?_)
            exact J110 _ 0 _ _ _ hv3 (by rw [if_pos (by omega)]) T513 (lv_sub hl515 [3, 4, 5, 6, 7, 1, 0] rfl)
          · refine lv_iload hx hb dX7_shiftLeft_80 (lv_at hl514 1 rfl) ?_
            refine lv_aload_n hx hb dX7_shiftLeft_82 rfl (lv_at hl514 2 rfl) ?_
            refine hr_get C T513 bo2_506 rfl in_X7 1 (by decide) q172 rfl rfl dX7_shiftLeft_83 ?_
            refine hn_icmp_gt (tgt := 109) hx hb dX7_shiftLeft_86 (by decide) (by omega) (by omega) (fun c4 => absurd c4 (by omega)) (fun c4 => ?_)
            refine lv_aload_n hx hb dX7_shiftLeft_89 rfl (lv_at hl514 2 rfl) ?_
            refine hr_get C T513 bo2_506 rfl in_X7 0 (by decide) q170 rfl rfl dX7_shiftLeft_90 ?_
            refine lv_iload hx hb dX7_shiftLeft_93 (lv_at hl514 1 rfl) ?_
            refine lv_iconst (v := nI 1) hx hb dX7_shiftLeft_95 rfl ?_
            refine hn_isub hx hb dX7_shiftLeft_96 (by omega) ?_
            refine hr_iald C T513 ba2_506 (by omega) (by omega) dX7_shiftLeft_97 ?_
            rw [hlo _ (by omega)]
            refine hc_S C T513 hl514.1 (m_X7_cell) q778 q779 q59 q780 kd_X7_cell rfl rfl ⟨Nat.le_of_ble_eq_true rfl, Nat.le_of_ble_eq_true rfl⟩ (Nat.le_of_ble_eq_true rfl) dX7_shiftLeft_98 ⟨Nat.le_of_eq (Nat.zero_add _), Nat.le_of_eq (Nat.zero_add _)⟩ (fun rv h516 H516 locs516 hp516 T516 => ?_)
            obtain ⟨rfl, hq516⟩ := hp516
            rw [hq516] at T516
            have hv5 : un (f' (k - 1 - 0 - 1)) * 2 ^ sh < 2 ^ 64 := by have h1 := un_lt (f' (k - 1 - 0 - 1)); have h2 := pow_le32 hs; have : un (f' (k - 1 - 0 - 1)) * 2 ^ sh ≤ 4294967295 * 2147483648 := Nat.mul_le_mul (by omega) h2; omega
            refine lv_iload_n hx hb dX7_shiftLeft_101 rfl (lv_at hl514 4 rfl) ?_
            refine hn_lshl hx hb dX7_shiftLeft_102 (by omega) ?_
            refine lv_bipush (v := nI 32) hx hb dX7_shiftLeft_103 rfl ?_
            refine hn_lushr hx hb dX7_shiftLeft_105 hv5 (by omega) ?_
            refine lv_goto (tgt := 110) hx hb dX7_shiftLeft_106 (by decide) ?_
            refine lv_lstore (lv' := [(9, .long (lN (((un (f' (k - 1 - 0 - 1))) * 2 ^ sh) / 2 ^ 32))), (7, .long (lN v)), (6, .int (nI ((k - 1) - 0))), (0, .ref b), (2, .int (nI 0)), (3, .int (nI sh)), (4, .int (nI (lm N + 1))), (5, .int (nI (k - 1)))]) hx hb dX7_shiftLeft_110 hl514 (by decide) rfl (fun ls517 hl517 => ?_)
            exact J110 _ _ _ _ _ hv3 (by rw [if_neg (by omega), bz_in (by omega)]; rfl) T516 (lv_sub hl517 [3, 4, 5, 6, 7, 1, 0] rfl)
        refine lv_iload hx hb dX7_shiftLeft_42 (lv_at hl509 0 rfl) ?_
        refine hn_if_lt (tgt := 71) hx hb dX7_shiftLeft_44 (by decide) (by omega) ?_
        refine lv_iload hx hb dX7_shiftLeft_47 (lv_at hl509 0 rfl) ?_
        refine lv_aload_n hx hb dX7_shiftLeft_49 rfl (lv_at hl509 1 rfl) ?_
        refine hr_get C T506 bo2_506 rfl in_X7 1 (by decide) q172 rfl rfl dX7_shiftLeft_50 ?_
        refine hn_icmp_ge (tgt := 71) hx hb dX7_shiftLeft_53 (by decide) (by omega) (by omega) (fun c2 => ?_) (fun c2 => ?_)
        · refine lv_lconst (v := lN 0) hx hb dX7_shiftLeft_71 rfl ?_
          exact J72 0 _ _ _ (by rw [bz_out (by omega)]; rw [un_0, Nat.zero_mul]) T506 (lv_sub hl509 [0, 1, 2, 3, 4, 5] rfl)
        · refine lv_aload_n hx hb dX7_shiftLeft_56 rfl (lv_at hl509 1 rfl) ?_
          refine hr_get C T506 bo2_506 rfl in_X7 0 (by decide) q170 rfl rfl dX7_shiftLeft_57 ?_
          refine lv_iload hx hb dX7_shiftLeft_60 (lv_at hl509 0 rfl) ?_
          refine hr_iald C T506 ba2_506 (by omega) (by omega) dX7_shiftLeft_62 ?_
          rw [hlo _ (by omega)]
          refine hc_S C T506 hl509.1 (m_X7_cell) q778 q779 q59 q780 kd_X7_cell rfl rfl ⟨Nat.le_of_ble_eq_true rfl, Nat.le_of_ble_eq_true rfl⟩ (Nat.le_of_ble_eq_true rfl) dX7_shiftLeft_63 ⟨Nat.le_of_eq (Nat.zero_add _), Nat.le_of_eq (Nat.zero_add _)⟩ (fun rv h518 H518 locs518 hp518 T518 => ?_)
          obtain ⟨rfl, hq518⟩ := hp518
          rw [hq518] at T518
          refine lv_iload_n hx hb dX7_shiftLeft_66 rfl (lv_at hl509 3 rfl) ?_
          refine hn_lshl hx hb dX7_shiftLeft_67 (by omega) ?_
          refine lv_goto (tgt := 72) hx hb dX7_shiftLeft_68 (by decide) ?_
          exact J72 _ _ _ _ (by rw [bz_in (by omega)]; rfl) T518 (lv_sub hl509 [0, 1, 2, 3, 4, 5] rfl)
  exact L1 (lm N + 2) (lm N + 1) f' _ _ _ _ (by omega) bo2 ba2 (Nat.le_refl _) (fun _ _ => rfl) (fun i h1 h2 => absurd h1 (by omega)) hF2 T504 (lv_sub hl505 [4, 3, 2, 1, 0] rfl)

set_option maxHeartbeats 4000000 in
theorem m_X7_shiftRight {E : GE} {l : Launch} {h : HH} {b N cap sh : Nat} (hB : Big E h b N cap) (hs : sh < 32) : MM E l yX7_shiftRight cX7_shiftRight 6 none ({ frames := 1, cells := 0, slots := 0, locals := 150 } : Room) [.ref b, .int (nI sh)] h (fun rv h2 => rv = none ∧ Big E h2 b (N / 2 ^ sh) cap ∧ Fr (· = b) h h2) := by
  refine hm_v (by decide) (Nat.le_of_ble_eq_true rfl) ?_
  intro p e s m below meth c C hnm Q Z ls T hl
  have hx := C.x
  have hb := C.b
  have hl : lv_has ls 6 [(0, .ref b), (1, .int (nI sh))] := hl
  obtain ⟨ca, f, ⟨hbo, hba, hbn, hb8, hbc⟩, hv⟩ := hB
  refine lv_iload_n hx hb dX7_shiftRight_0 rfl (lv_at hl 1 rfl) ?_
  refine lv_bipush (v := nI 31) hx hb dX7_shiftRight_1 rfl ?_
  refine lv_iand hx hb dX7_shiftRight_3 ?_
  rw [show (nI sh) &&& (nI 31) = nI sh from and31 sh hs]
  refine lv_istore_n (lv' := [(2, .int (nI sh)), (0, .ref b), (1, .int (nI sh))]) hx hb dX7_shiftRight_4 rfl hl (by decide) rfl (fun ls519 hl519 => ?_)
  refine lv_iconst (v := nI 0) hx hb dX7_shiftRight_5 rfl ?_
  refine lv_istore_n (lv' := [(3, .int (nI 0)), (2, .int (nI sh)), (0, .ref b), (1, .int (nI sh))]) hx hb dX7_shiftRight_6 rfl hl519 (by decide) rfl (fun ls520 hl520 => ?_)
  have L1 : ∀ (j : Nat) (k : Nat) (r : Nat → Int32) (h521 : HH) (H521 : Heap) (locs521 : List Loc) (ls521 : Array Slot), (lm N + 1 ≤ k + j) → (h521 b = some (.inr (1, [.ref ca, .int (nI (lm N))]), b)) → (h521 ca = some (.inl (E.2.1 0, cap, .inl r), b)) → (k ≤ lm N) → (∀ i, i < k → r i = srw f (lm N) sh i) → (∀ i, k ≤ i → i < lm N → r i = f i) → (Fr (· = b) h h521) → (St E s h521 H521 locs521) → (lv_has ls521 6 [(0, .ref b), (2, .int (nI sh)), (3, .int (nI k))]) → W p l e ({ frames := 1, cells := 0, slots := 0, locals := 150 } : Room) s m ([.ref b, .int (nI sh)] : List Value).toArray below meth c H521 locs521 0 0 Q (F0 m 7 ls521 []) := by
    intro j
    induction j with
    | zero => intro k r h521 H521 locs521 ls521 hm521 hbo_521 hba_521 hk hlo hhi hF_521 T521 hl521; exact absurd hm521 (by omega)
    | succ j ih521 =>
      intro k r h521 H521 locs521 ls521 hm521 hbo_521 hba_521 hk hlo hhi hF_521 T521 hl521
      refine lv_iload_n hx hb dX7_shiftRight_7 rfl (lv_at hl521 2 rfl) ?_
      refine lv_aload_n hx hb dX7_shiftRight_8 rfl (lv_at hl521 0 rfl) ?_
      refine hr_get C T521 hbo_521 rfl in_X7 1 (by decide) q172 rfl rfl dX7_shiftRight_9 ?_
      refine hn_icmp_ge (tgt := 72) hx hb dX7_shiftRight_12 (by decide) (by omega) (by omega) (fun c1 => ?_) (fun c1 => ?_)
      · have e1 : k = lm N := by omega
        have hend : bv r (lm N) = N / 2 ^ sh := by rw [bv_cong (g := srw f (lm N) sh) (fun i hi => hlo i (by omega)), srw_val f (lm N) hs, hv]
        refine lv_aload_n hx hb dX7_shiftRight_72 rfl (lv_at hl521 0 rfl) ?_
        refine hc_V C T521 hl521.1 hbo_521 rfl (m_X7_trim ⟨hbo_521, hba_521, by omega, hb8, hbc⟩) q285 q287 qs1 q59 q288 kd_X7_trim rfl rfl ⟨Nat.le_of_ble_eq_true rfl, Nat.le_of_ble_eq_true rfl⟩ (Nat.le_of_ble_eq_true rfl) dX7_shiftRight_73 ⟨Nat.le_of_ble_eq_true rfl, Nat.le_of_ble_eq_true rfl⟩ (fun rv h522 H522 locs522 hp522 T522 => ?_)
        obtain ⟨rfl, k2, hk2, hB3, hF3, hz, hn⟩ := hp522
        rw [show (none : Option Value).toList ++ ([] : List Value) = [] from rfl]
        exact Z _ _ _ _ _ dX7_shiftRight_76 ⟨rfl, Big.of hB3 (by rw [← bv_tail hk2 hz, hend]) hn, hF_521.tr hF3⟩ T522
      · refine lv_iload_n hx hb dX7_shiftRight_15 rfl (lv_at hl521 2 rfl) ?_
        refine lv_iconst (v := nI 1) hx hb dX7_shiftRight_16 rfl ?_
        refine hn_iadd hx hb dX7_shiftRight_17 ?_
        refine lv_aload_n hx hb dX7_shiftRight_18 rfl (lv_at hl521 0 rfl) ?_
        refine hr_get C T521 hbo_521 rfl in_X7 1 (by decide) q172 rfl rfl dX7_shiftRight_19 ?_
        have J43 : ∀ (v : Nat) (H523 : Heap) (locs523 : List Loc) (ls523 : Array Slot), (v = un (bz f (lm N) (k + 1)) * 2 ^ 32) → (St E s h521 H523 locs523) → (lv_has ls523 6 [(0, .ref b), (2, .int (nI sh)), (3, .int (nI k))]) → W p l e ({ frames := 1, cells := 0, slots := 0, locals := 150 } : Room) s m ([.ref b, .int (nI sh)] : List Value).toArray below meth c H523 locs523 0 0 Q (F0 m 43 ls523 [.long (lN v)]) := by
          intro v H523 locs523 ls523 hv3 T523 hl523
          have hv4 := un_lt (bz f (lm N) (k + 1))
          have hv5 := un_lt (f k)
          refine lv_lstore (lv' := [(4, .long (lN v)), (0, .ref b), (2, .int (nI sh)), (3, .int (nI k))]) hx hb dX7_shiftRight_43 hl523 (by decide) rfl (fun ls524 hl524 => ?_)
          refine lv_aload_n hx hb dX7_shiftRight_45 rfl (lv_at hl524 1 rfl) ?_
          refine hr_get C T523 hbo_521 rfl in_X7 0 (by decide) q170 rfl rfl dX7_shiftRight_46 ?_
          refine lv_iload_n hx hb dX7_shiftRight_49 rfl (lv_at hl524 3 rfl) ?_
          refine lv_lload hx hb dX7_shiftRight_50 (lv_at hl524 0 rfl) ?_
          refine lv_aload_n hx hb dX7_shiftRight_52 rfl (lv_at hl524 1 rfl) ?_
          refine hr_get C T523 hbo_521 rfl in_X7 0 (by decide) q170 rfl rfl dX7_shiftRight_53 ?_
          refine lv_iload_n hx hb dX7_shiftRight_56 rfl (lv_at hl524 3 rfl) ?_
          refine hr_iald C T523 hba_521 (by omega) (by omega) dX7_shiftRight_57 ?_
          rw [hhi k (Nat.le_refl _) (by omega)]
          refine hc_S C T523 hl524.1 (m_X7_cell) q778 q779 q59 q780 kd_X7_cell rfl rfl ⟨Nat.le_of_ble_eq_true rfl, Nat.le_of_ble_eq_true rfl⟩ (Nat.le_of_ble_eq_true rfl) dX7_shiftRight_58 ⟨Nat.le_of_ble_eq_true rfl, Nat.le_of_ble_eq_true rfl⟩ (fun rv h525 H525 locs525 hp525 T525 => ?_)
          obtain ⟨rfl, hq525⟩ := hp525
          rw [hq525] at T525
          refine lv_lor hx hb dX7_shiftRight_61 ?_
          rw [show (lN v) ||| (lN (un (f k))) = lN (v + un (f k)) from by rw [hv3]; exact lor_sum (by omega) (by omega)]
          refine lv_iload_n hx hb dX7_shiftRight_62 rfl (lv_at hl524 2 rfl) ?_
          refine hn_lushr hx hb dX7_shiftRight_63 (by omega) (by omega) ?_
          refine hn_l2i hx hb dX7_shiftRight_64 ?_
          refine hr_iast C T525 hba_521 (by omega) (by omega) dX7_shiftRight_65 (fun h526 H526 locs526 eh526 T526 => ?_)
          have hba_526 : h526 ca = some (.inl (E.2.1 0, cap, .inl (upd r k (nI ((v + un (f k)) / 2 ^ sh)))), b) := hu_s eh526
          have hF_526 : Fr (· = b) h h526 := hu_f eh526 hF_521 hba_521 rfl
          refine lv_iinc (v := nI (k + 1)) (lv' := [(3, .int (nI (k + 1))), (4, .long (lN v)), (0, .ref b), (2, .int (nI sh))]) hx hb dX7_shiftRight_66 hl524 (k := 3) rfl (nI_add k 1) (by decide) rfl (fun ls527 hl527 => ?_)
          refine lv_goto (tgt := 7) hx hb dX7_shiftRight_69 (by decide) ?_
          have hbo_526 : h526 b = some (.inr (1, [.ref ca, .int (nI (lm N))]), b) := hu_n eh526 (hne_of hbo_521 hba_521 (fun z => by cases z)) hbo_521
          exact ih521 (k + 1) _ _ _ _ _ (by omega) hbo_526 hba_526 (by omega) (fun i hi => by by_cases z : i = k; (subst z; rw [pk_us]; unfold srw; rw [hv3]); (rw [pk_un z]; exact hlo i (by omega))) (fun i h1 h2 => (pk_un (by omega)).trans (hhi i (by omega) h2)) hF_526 T526 (lv_sub hl527 [2, 3, 0] rfl)
        refine hn_icmp_ge (tgt := 42) hx hb dX7_shiftRight_22 (by decide) (by omega) (by omega) (fun c2 => ?_) (fun c2 => ?_)
        · refine lv_lconst (v := lN 0) hx hb dX7_shiftRight_42 rfl ?_
          exact J43 0 _ _ _ (by rw [bz_out (by omega)]; rw [un_0, Nat.zero_mul]) T521 (lv_sub hl521 [0, 1, 2] rfl)
        · refine lv_aload_n hx hb dX7_shiftRight_25 rfl (lv_at hl521 0 rfl) ?_
          refine hr_get C T521 hbo_521 rfl in_X7 0 (by decide) q170 rfl rfl dX7_shiftRight_26 ?_
          refine lv_iload_n hx hb dX7_shiftRight_29 rfl (lv_at hl521 2 rfl) ?_
          refine lv_iconst (v := nI 1) hx hb dX7_shiftRight_30 rfl ?_
          refine hn_iadd hx hb dX7_shiftRight_31 ?_
          refine hr_iald C T521 hba_521 (by omega) (by omega) dX7_shiftRight_32 ?_
          rw [hhi (k + 1) (by omega) (by omega)]
          refine hc_S C T521 hl521.1 (m_X7_cell) q778 q779 q59 q780 kd_X7_cell rfl rfl ⟨Nat.le_of_ble_eq_true rfl, Nat.le_of_ble_eq_true rfl⟩ (Nat.le_of_ble_eq_true rfl) dX7_shiftRight_33 ⟨Nat.le_of_ble_eq_true rfl, Nat.le_of_ble_eq_true rfl⟩ (fun rv h528 H528 locs528 hp528 T528 => ?_)
          obtain ⟨rfl, hq528⟩ := hp528
          rw [hq528] at T528
          refine lv_bipush (v := nI 32) hx hb dX7_shiftRight_36 rfl ?_
          refine hn_lshl hx hb dX7_shiftRight_38 (by omega) ?_
          refine lv_goto (tgt := 43) hx hb dX7_shiftRight_39 (by decide) ?_
          exact J43 _ _ _ _ (by rw [bz_in (by omega)]) T528 (lv_sub hl521 [0, 1, 2] rfl)
  exact L1 (lm N + 1) 0 f _ _ _ _ (by omega) hbo hba (Nat.zero_le _) (fun i hi => absurd hi (by omega)) (fun _ _ _ => rfl) Fr.rf T (lv_sub hl520 [2, 1, 0] rfl)
