set_option maxRecDepth 100000
set_option maxHeartbeats 4000000 in
theorem m_X7_init {E : GE} {l : Launch} {h : HH} {b cap : Nat} (hbo : h b = some (.inr (1, [.null, .int 0]), b)) (h8 : 8 ≤ cap) (hc : cap ≤ 256) : MG E l yX7_init cX7_init 2 none ({ frames := 1, cells := 1, slots := cap, locals := 150 } : Room) [.ref b, .int (nI cap)] h (fun rv h2 dc ds => rv = none ∧ Big E h2 b 0 cap ∧ Fr (· = b) h h2 ∧ dc = 1 ∧ ds = cap) := by
  refine hn_v (by decide) (Nat.le_of_ble_eq_true rfl) ?_
  intro p e s m below meth c C hnm Q Z ls T hl
  have hx := C.x
  have hb := C.b
  have hl : lv_has ls 2 [(0, .ref b), (1, .int (nI cap))] := hl
  have hF : Fr (· = b) h h := Fr.rf
  refine lv_aload_n hx hb dX7_init_0 rfl (lv_at hl 0 rfl) ?_
  refine W.objInit hx hb C.ow (C.ts _ q169) (C.ts _ q82) (C.ts _ q83) rfl (by rw [C.ml]; exact hl.1) rfl dX7_init_1 (Nat.le_of_ble_eq_true rfl) (Nat.le_of_ble_eq_true rfl) ?_
  refine W.eq (g2 := F0 m 4 ls []) rfl ?_
  refine lv_aload_n hx hb dX7_init_4 rfl (lv_at hl 0 rfl) ?_
  refine lv_iload_n hx hb dX7_init_5 rfl (lv_at hl 1 rfl) ?_
  refine hr_newa C T b 0 (atype := .int) q103 (ty := .int) rfl rfl (N := cap) (a0 := (cap, (.inl (fun _ => 0)))) (fun cA => rfl) (by omega) (Nat.le_of_ble_eq_true rfl) (Nat.le_of_eq (Nat.zero_add cap)) dX7_init_6 (fun h101 q101_ H101 hf101 eh101 T101 => ?_)
  have hbo_101 : h101 b = some (.inr (1, [.null, .int 0]), b) := hu_w eh101 hf101 hbo
  have hq_101 : h101 q101_ = some (.inl (E.2.1 0, cap, .inl (fun _ => 0)), b) := hu_s eh101
  have hF_101 : Fr (· = b) h h101 := hu_fn eh101 hF hf101
  refine hr_put C T101 hbo_101 rfl in_X7 tyX7 tyX7_ok nmX7 0 (by decide) q170 rfl rfl rfl rfl (Nat.le_of_ble_eq_true rfl) dX7_init_8 (fun h102 H102 locs102 eh102 T102 => ?_)
  have hbo_102 : h102 b = some (.inr (1, [.ref q101_, .int 0]), b) := hu_s eh102
  have hq_102 : h102 q101_ = some (.inl (E.2.1 0, cap, .inl (fun _ => 0)), b) := hu_n eh102 (Ne.symm (hne_new hbo hf101)) hq_101
  have hF_102 : Fr (· = b) h h102 := hu_f eh102 hF_101 hbo_101 rfl
  exact Z _ _ _ _ _ _ _ dX7_init_11 (Nat.le_refl _) (Nat.le_of_eq (Nat.zero_add cap)) ⟨rfl, ⟨q101_, fun _ => 0, ⟨hbo_102, hq_102, Nat.zero_le _, h8, hc⟩, rfl⟩, hF_102, rfl, Nat.zero_add cap⟩ T102

set_option maxHeartbeats 4000000 in
theorem m_X7_isZero {E : GE} {l : Launch} {h : HH} {b N cap : Nat} (hB : Big E h b N cap) : MM E l yX7_isZero cX7_isZero 1 (some .boolean) ({ frames := 0, cells := 0, slots := 0, locals := 0 } : Room) [.ref b] h (fun rv h2 => rv = some (.int (if N = 0 then 1 else 0)) ∧ h2 = h) := by
  refine hm_z (by decide) (Nat.le_of_ble_eq_true rfl) ?_
  intro p e s m below meth c C hnm Q Z ls T hl
  have hx := C.x
  have hb := C.b
  have hl : lv_has ls 1 [(0, .ref b)] := hl
  obtain ⟨ca, f, ⟨hbo, hba, hbn, hb8, hbc⟩, hv⟩ := hB
  refine lv_aload_n hx hb dX7_isZero_0 rfl (lv_at hl 0 rfl) ?_
  refine hr_get C T hbo rfl in_X7 1 (by decide) q172 rfl rfl dX7_isZero_1 ?_
  refine hn_if_ne (tgt := 11) hx hb dX7_isZero_4 (by decide) (by omega) (fun c1 => ?_) (fun c1 => ?_)
  · refine lv_iconst (v := nI 0) hx hb dX7_isZero_11 rfl ?_
    exact Z _ _ _ _ _ _ dX7_isZero_12 (Or.inl rfl) ⟨by rw [if_neg (fun z => c1 (by rw [z]; rfl))]; rfl, rfl⟩ T
  · refine lv_iconst (v := nI 1) hx hb dX7_isZero_7 rfl ?_
    refine lv_goto (tgt := 12) hx hb dX7_isZero_8 (by decide) ?_
    exact Z _ _ _ _ _ _ dX7_isZero_12 (Or.inr rfl) ⟨by rw [if_pos (Decidable.byContradiction fun z => by have := lm_pos z; omega)]; rfl, rfl⟩ T

set_option maxHeartbeats 4000000 in
theorem m_X7_isOne {E : GE} {l : Launch} {h : HH} {b N cap : Nat} (hB : Big E h b N cap) : MM E l yX7_isOne cX7_isOne 1 (some .boolean) ({ frames := 0, cells := 0, slots := 0, locals := 0 } : Room) [.ref b] h (fun rv h2 => rv = some (.int (if N = 1 then 1 else 0)) ∧ h2 = h) := by
  refine hm_z (by decide) (Nat.le_of_ble_eq_true rfl) ?_
  intro p e s m below meth c C hnm Q Z ls T hl
  have hx := C.x
  have hb := C.b
  have hl : lv_has ls 1 [(0, .ref b)] := hl
  obtain ⟨ca, f, ⟨hbo, hba, hbn, hb8, hbc⟩, hv⟩ := hB
  refine lv_aload_n hx hb dX7_isOne_0 rfl (lv_at hl 0 rfl) ?_
  refine hr_get C T hbo rfl in_X7 1 (by decide) q172 rfl rfl dX7_isOne_1 ?_
  refine lv_iconst (v := nI 1) hx hb dX7_isOne_4 rfl ?_
  refine hn_icmp_ne (tgt := 22) hx hb dX7_isOne_5 (by decide) (by omega) (by omega) (fun c1 => ?_) (fun c1 => ?_)
  · refine lv_iconst (v := nI 0) hx hb dX7_isOne_22 rfl ?_
    exact Z _ _ _ _ _ _ dX7_isOne_23 (Or.inl rfl) ⟨by rw [if_neg (fun z => c1 (by rw [z]; decide +kernel))]; rfl, rfl⟩ T
  · have e1 : N = un (f 0) := by rw [← hv, c1]; show 0 + un (f 0) * 1 = _; omega
    refine lv_aload_n hx hb dX7_isOne_8 rfl (lv_at hl 0 rfl) ?_
    refine hr_get C T hbo rfl in_X7 0 (by decide) q170 rfl rfl dX7_isOne_9 ?_
    refine lv_iconst (v := nI 0) hx hb dX7_isOne_12 rfl ?_
    refine hr_iald C T hba (by omega) (by omega) dX7_isOne_13 ?_
    refine lv_iconst (v := nI 1) hx hb dX7_isOne_14 rfl ?_
    refine lv_icmp_ne (tgt := 22) hx hb dX7_isOne_15 (by decide) (fun c2 => ?_) (fun c2 => ?_)
    · refine lv_iconst (v := nI 0) hx hb dX7_isOne_22 rfl ?_
      exact Z _ _ _ _ _ _ dX7_isOne_23 (Or.inl rfl) ⟨by rw [if_neg (fun z => c2 (un_inj (by rw [← e1, z]; rfl)))]; rfl, rfl⟩ T
    · refine lv_iconst (v := nI 1) hx hb dX7_isOne_18 rfl ?_
      refine lv_goto (tgt := 23) hx hb dX7_isOne_19 (by decide) ?_
      exact Z _ _ _ _ _ _ dX7_isOne_23 (Or.inr rfl) ⟨by rw [if_pos (by rw [e1, c2]; rfl)]; rfl, rfl⟩ T

set_option maxHeartbeats 4000000 in
theorem m_X7_compare {E : GE} {l : Launch} {h : HH} {b x N M cap capx : Nat} (hB : Big E h b N cap) (hX : Big E h x M capx) : MM E l yX7_compare cX7_compare 3 (some .int) ({ frames := 2, cells := 0, slots := 0, locals := 300 } : Room) [.ref b, .ref x] h (fun rv h2 => rv = some (.int (cmpN N M)) ∧ h2 = h) := by
  refine hm_i (by decide) (Nat.le_of_ble_eq_true rfl) ?_
  intro p e s m below meth c C hnm Q Z ls T hl
  have hx := C.x
  have hb := C.b
  have hl : lv_has ls 3 [(0, .ref b), (1, .ref x)] := hl
  obtain ⟨ca, f, ⟨hbo, hba, hbn, hb8, hbc⟩, hv⟩ := hB
  obtain ⟨cx, g, ⟨gxo, gxa, hxn, hx8, hxc⟩, hw⟩ := hX
  refine lv_aload_n hx hb dX7_compare_0 rfl (lv_at hl 0 rfl) ?_
  refine hr_get C T hbo rfl in_X7 1 (by decide) q172 rfl rfl dX7_compare_1 ?_
  refine lv_aload_n hx hb dX7_compare_4 rfl (lv_at hl 1 rfl) ?_
  refine hr_get C T gxo rfl in_X7 1 (by decide) q172 rfl rfl dX7_compare_5 ?_
  refine hn_icmp_eq (tgt := 28) hx hb dX7_compare_8 (by decide) (by omega) (by omega) (fun c1 => ?_) (fun c1 => ?_)
  · refine lv_aload_n hx hb dX7_compare_28 rfl (lv_at hl 0 rfl) ?_
    refine hr_get C T hbo rfl in_X7 1 (by decide) q172 rfl rfl dX7_compare_29 ?_
    refine lv_iconst (v := nI 1) hx hb dX7_compare_32 rfl ?_
    refine lv_isub hx hb dX7_compare_33 ?_
    rw [show nI 1 = 1 from rfl]
    refine lv_istore_n (lv' := [(2, .int (nI (lm N) - 1)), (0, .ref b), (1, .ref x)]) hx hb dX7_compare_34 rfl hl (by decide) rfl (fun ls103 hl103 => ?_)
    have L1 : ∀ (j : Nat) (k : Nat) (H104 : Heap) (locs104 : List Loc) (ls104 : Array Slot), (k < j) → (k ≤ lm N) → (∀ i, k ≤ i → i < lm N → f i = g i) → (St E s h H104 locs104) → (lv_has ls104 3 [(0, .ref b), (1, .ref x), (2, .int (nI k - 1))]) → W p l e ({ frames := 2, cells := 0, slots := 0, locals := 300 } : Room) s m ([.ref b, .ref x] : List Value).toArray below meth c H104 locs104 0 0 Q (F0 m 35 ls104 []) := by
      intro j
      induction j with
      | zero => intro k H104 locs104 ls104 hm104 hk he T104 hl104; exact absurd hm104 (by omega)
      | succ j ih =>
        intro k H104 locs104 ls104 hm104 hk he T104 hl104
        refine lv_iload_n hx hb dX7_compare_35 rfl (lv_at hl104 2 rfl) ?_
        refine lv_if_lt (tgt := 76) hx hb dX7_compare_36 (by decide) (fun c3 => ?_) (fun c3 => ?_)
        · have k0 : k = 0 := (nIm1_neg (by omega)).mp c3
          refine lv_iconst (v := nI 0) hx hb dX7_compare_76 rfl ?_
          exact Z _ _ _ _ _ _ dX7_compare_77 ⟨by rw [cmpN_eq (by rw [← hv, ← hw, ← c1]; exact bv_cong fun i hi => he i (by omega) hi)]; rfl, rfl⟩ T104
        · have k0 : 0 < k := Nat.pos_of_ne_zero fun z => c3 ((nIm1_neg (by omega)).mpr z)
          rw [nIm1 k0] at hl104
          refine lv_aload_n hx hb dX7_compare_39 rfl (lv_at hl104 0 rfl) ?_
          refine hr_get C T104 hbo rfl in_X7 0 (by decide) q170 rfl rfl dX7_compare_40 ?_
          refine lv_iload_n hx hb dX7_compare_43 rfl (lv_at hl104 2 rfl) ?_
          refine hr_iald C T104 hba (by omega) (by omega) dX7_compare_44 ?_
          refine lv_aload_n hx hb dX7_compare_45 rfl (lv_at hl104 1 rfl) ?_
          refine hr_get C T104 gxo rfl in_X7 0 (by decide) q170 rfl rfl dX7_compare_46 ?_
          refine lv_iload_n hx hb dX7_compare_49 rfl (lv_at hl104 2 rfl) ?_
          refine hr_iald C T104 gxa (by omega) (by omega) dX7_compare_50 ?_
          refine lv_icmp_eq (tgt := 70) hx hb dX7_compare_51 (by decide) (fun c4 => ?_) (fun c4 => ?_)
          · refine lv_iinc (v := nI (k - 1) - 1) (lv' := [(2, .int (nI (k - 1) - 1)), (0, .ref b), (1, .ref x)]) hx hb dX7_compare_70 hl104 (k := 2) rfl (by rw [Int32.sub_eq_add_neg]; rfl) (by decide) rfl (fun ls105 hl105 => ?_)
            refine lv_goto (tgt := 35) hx hb dX7_compare_73 (by decide) ?_
            exact ih (k - 1) _ _ _ (by omega) (by omega) (fun i h1 h2 => by rcases Nat.lt_or_ge i k with h3 | h3; exact (show i = k - 1 by omega) ▸ c4; exact he i h3 h2) T104 (lv_sub hl105 [1, 2, 0] rfl)
          · refine lv_aload_n hx hb dX7_compare_54 rfl (lv_at hl104 0 rfl) ?_
            refine hr_get C T104 hbo rfl in_X7 0 (by decide) q170 rfl rfl dX7_compare_55 ?_
            refine lv_iload_n hx hb dX7_compare_58 rfl (lv_at hl104 2 rfl) ?_
            refine hr_iald C T104 hba (by omega) (by omega) dX7_compare_59 ?_
            refine lv_aload_n hx hb dX7_compare_60 rfl (lv_at hl104 1 rfl) ?_
            refine hr_get C T104 gxo rfl in_X7 0 (by decide) q170 rfl rfl dX7_compare_61 ?_
            refine lv_iload_n hx hb dX7_compare_64 rfl (lv_at hl104 2 rfl) ?_
            refine hr_iald C T104 gxa (by omega) (by omega) dX7_compare_65 ?_
            refine hc_S C T104 hl104.1 (m_J10_compareUnsigned) q806 q807 q74 q808 kd_J10_compareUnsigned rfl rfl ⟨Nat.le_of_ble_eq_true rfl, Nat.le_of_ble_eq_true rfl⟩ (Nat.le_of_ble_eq_true rfl) dX7_compare_66 ⟨Nat.le_of_ble_eq_true rfl, Nat.le_of_ble_eq_true rfl⟩ (fun rv h106 H106 locs106 hp106 T106 => ?_)
            obtain ⟨rfl, hq106⟩ := hp106
            rw [hq106] at T106
            have hne : un (f (k - 1)) ≠ un (g (k - 1)) := fun z => c4 (un_inj z)
            exact Z _ _ _ _ _ _ dX7_compare_69 ⟨by rw [show cmpN (un (f (k - 1))) (un (g (k - 1))) = cmpN N M from by rcases Nat.lt_or_gt_of_ne hne with z | z; (rw [cmpN_lt z, cmpN_lt]; rw [← hv, ← hw, ← c1]; exact bv_lt_of (by omega) (fun i h1 h2 => he i (by omega) h2) z); (rw [cmpN_gt z, cmpN_gt]; rw [← hv, ← hw, ← c1]; exact bv_lt_of (by omega) (fun i h1 h2 => (he i (by omega) h2).symm) z)], rfl⟩ T106
    exact L1 (lm N + 1) (lm N) _ _ _ (by omega) (Nat.le_refl _) (fun i h1 h2 => absurd h1 (by omega)) T (lv_sub hl103 [1, 2, 0] rfl)
  · refine lv_aload_n hx hb dX7_compare_11 rfl (lv_at hl 0 rfl) ?_
    refine hr_get C T hbo rfl in_X7 1 (by decide) q172 rfl rfl dX7_compare_12 ?_
    refine lv_aload_n hx hb dX7_compare_15 rfl (lv_at hl 1 rfl) ?_
    refine hr_get C T gxo rfl in_X7 1 (by decide) q172 rfl rfl dX7_compare_16 ?_
    refine hn_icmp_ge (tgt := 26) hx hb dX7_compare_19 (by decide) (by omega) (by omega) (fun c2 => ?_) (fun c2 => ?_)
    · refine lv_iconst (v := nI 1) hx hb dX7_compare_26 rfl ?_
      exact Z _ _ _ _ _ _ dX7_compare_27 ⟨by rw [cmpN_gt (lm_lt_lt (by omega))]; rfl, rfl⟩ T
    · refine lv_iconst (v := (-1)) hx hb dX7_compare_22 rfl ?_
      refine lv_goto (tgt := 27) hx hb dX7_compare_23 (by decide) ?_
      exact Z _ _ _ _ _ _ dX7_compare_27 ⟨by rw [cmpN_lt (lm_lt_lt (by omega))], rfl⟩ T

theorem set_val (f : Nat → Int32) {v : Nat} (hv : v < 2 ^ 64) : bv (upd (upd f 0 (nI v)) 1 (nI (v / 2 ^ 32))) 2 = v := by
  show 0 + un (upd (upd f 0 (nI v)) 1 (nI (v / 2 ^ 32)) 0) * 4294967296 ^ 0 + un (upd (upd f 0 (nI v)) 1 (nI (v / 2 ^ 32)) 1) * 4294967296 ^ 1 = v
  rw [pk_us, pk_un (by decide), pk_us, un_nI, un_nI]
  omega

set_option maxHeartbeats 4000000 in
theorem m_X7_set {E : GE} {l : Launch} {h : HH} {b ca n cap v : Nat} {f : Nat → Int32} (hB : BigC E h b ca n cap f) (hv : v < 2 ^ 64) : MM E l yX7_set cX7_set 3 none ({ frames := 2, cells := 0, slots := 0, locals := 300 } : Room) [.ref b, .long (lN v)] h (fun rv h2 => rv = none ∧ Big E h2 b v cap ∧ Fr (· = b) h h2) := by
  refine hm_v (by decide) (Nat.le_of_ble_eq_true rfl) ?_
  intro p e s m below meth c C hnm Q Z ls T hl
  have hx := C.x
  have hb := C.b
  have hl : lv_has ls 3 [(0, .ref b), (1, .long (lN v))] := hl
  obtain ⟨hbo, hba, hbn, hb8, hbc⟩ := hB
  have hF : Fr (· = b) h h := Fr.rf
  refine lv_aload_n hx hb dX7_set_0 rfl (lv_at hl 0 rfl) ?_
  refine lv_iconst (v := nI 2) hx hb dX7_set_1 rfl ?_
  refine hc_V C T hl.1 hbo rfl (m_X7_reserve0 ⟨hbo, hba, hbn, hb8, hbc⟩ (by omega)) q275 q277 qs0 q59 q278 kd_X7_reserve rfl rfl ⟨Nat.le_of_ble_eq_true rfl, Nat.le_of_ble_eq_true rfl⟩ (Nat.le_of_ble_eq_true rfl) dX7_set_2 ⟨Nat.le_of_ble_eq_true rfl, Nat.le_of_ble_eq_true rfl⟩ (fun rv h107 H107 locs107 hp107 T107 => ?_)
  obtain ⟨rfl, hq107⟩ := hp107
  rw [hq107] at T107
  refine lv_aload_n hx hb dX7_set_5 rfl (lv_at hl 0 rfl) ?_
  refine hr_get C T107 hbo rfl in_X7 0 (by decide) q170 rfl rfl dX7_set_6 ?_
  refine lv_iconst (v := nI 0) hx hb dX7_set_9 rfl ?_
  refine lv_lload_n hx hb dX7_set_10 rfl (lv_at hl 1 rfl) ?_
  refine hn_l2i hx hb dX7_set_11 ?_
  refine hr_iast C T107 hba (by omega) (by omega) dX7_set_12 (fun h108 H108 locs108 eh108 T108 => ?_)
  have hbo_108 : h108 b = some (.inr (1, [.ref ca, .int (nI n)]), b) := hu_n eh108 (hne_of hbo hba (fun z => by cases z)) hbo
  have hba_108 : h108 ca = some (.inl (E.2.1 0, cap, .inl (upd f 0 (nI v))), b) := hu_s eh108
  have hF_108 : Fr (· = b) h h108 := hu_f eh108 hF hba rfl
  refine lv_aload_n hx hb dX7_set_13 rfl (lv_at hl 0 rfl) ?_
  refine hr_get C T108 hbo_108 rfl in_X7 0 (by decide) q170 rfl rfl dX7_set_14 ?_
  refine lv_iconst (v := nI 1) hx hb dX7_set_17 rfl ?_
  refine lv_lload_n hx hb dX7_set_18 rfl (lv_at hl 1 rfl) ?_
  refine lv_bipush (v := nI 32) hx hb dX7_set_19 rfl ?_
  refine hn_lushr hx hb dX7_set_21 (by omega) (by omega) ?_
  refine hn_l2i hx hb dX7_set_22 ?_
  refine hr_iast C T108 hba_108 (by omega) (by omega) dX7_set_23 (fun h109 H109 locs109 eh109 T109 => ?_)
  have hbo_109 : h109 b = some (.inr (1, [.ref ca, .int (nI n)]), b) := hu_n eh109 (hne_of hbo_108 hba_108 (fun z => by cases z)) hbo_108
  have hba_109 : h109 ca = some (.inl (E.2.1 0, cap, .inl (upd (upd f 0 (nI v)) 1 (nI (v / 2 ^ 32)))), b) := hu_s eh109
  have hF_109 : Fr (· = b) h h109 := hu_f eh109 hF_108 hba_108 rfl
  refine lv_aload_n hx hb dX7_set_24 rfl (lv_at hl 0 rfl) ?_
  refine lv_iconst (v := nI 2) hx hb dX7_set_25 rfl ?_
  refine hr_put C T109 hbo_109 rfl in_X7 tyX7 tyX7_ok nmX7 1 (by decide) q172 rfl rfl rfl rfl (Nat.le_of_ble_eq_true rfl) dX7_set_26 (fun h110 H110 locs110 eh110 T110 => ?_)
  have hbo_110 : h110 b = some (.inr (1, [.ref ca, .int (nI 2)]), b) := hu_s eh110
  have hba_110 : h110 ca = some (.inl (E.2.1 0, cap, .inl (upd (upd f 0 (nI v)) 1 (nI (v / 2 ^ 32)))), b) := hu_n eh110 (hne_of hba_109 hbo_109 (fun z => by cases z)) hba_109
  have hF_110 : Fr (· = b) h h110 := hu_f eh110 hF_109 hbo_109 rfl
  refine lv_aload_n hx hb dX7_set_29 rfl (lv_at hl 0 rfl) ?_
  refine hc_V C T110 hl.1 hbo_110 rfl (m_X7_trim ⟨hbo_110, hba_110, by omega, hb8, hbc⟩) q285 q287 qs1 q59 q288 kd_X7_trim rfl rfl ⟨Nat.le_of_ble_eq_true rfl, Nat.le_of_ble_eq_true rfl⟩ (Nat.le_of_ble_eq_true rfl) dX7_set_30 ⟨Nat.le_of_ble_eq_true rfl, Nat.le_of_ble_eq_true rfl⟩ (fun rv h111 H111 locs111 hp111 T111 => ?_)
  obtain ⟨rfl, k, hk, hB2, hF2, hz, hn⟩ := hp111
  rw [show (none : Option Value).toList ++ ([] : List Value) = [] from rfl]
  exact Z _ _ _ _ _ dX7_set_33 ⟨rfl, Big.of hB2 (by rw [← bv_tail hk hz]; exact set_val f hv) hn, hF_110.tr hF2⟩ T111

set_option maxHeartbeats 4000000 in
theorem m_X7_copy {E : GE} {l : Launch} {h : HH} {b x ca n cap M capx : Nat} {f : Nat → Int32} (hB : BigC E h b ca n cap f) (hX : Big E h x M capx) (hbx : b ≠ x) (hm : lm M ≤ 128) : MG E l yX7_copy cX7_copy 2 none ({ frames := 2, cells := gc cap (lm M), slots := gs cap (lm M), locals := 300 } : Room) [.ref b, .ref x] h (fun rv h2 dc ds => rv = none ∧ Big E h2 b M (capr cap (lm M)) ∧ Fr (· = b) h h2 ∧ dc = gc cap (lm M) ∧ ds = gs cap (lm M)) := by
  refine hn_v (by decide) (Nat.le_of_ble_eq_true rfl) ?_
  intro p e s m below meth c C hnm Q Z ls T hl
  have hx := C.x
  have hb := C.b
  have hl : lv_has ls 2 [(0, .ref b), (1, .ref x)] := hl
  obtain ⟨hbo, hba, hbn, hb8, hbc⟩ := hB
  obtain ⟨cx, g, ⟨gxo, gxa, hxn, hx8, hxc⟩, hw⟩ := hX
  refine lv_aload_n hx hb dX7_copy_0 rfl (lv_at hl 0 rfl) ?_
  refine lv_aload_n hx hb dX7_copy_1 rfl (lv_at hl 1 rfl) ?_
  refine hr_get C T gxo rfl in_X7 1 (by decide) q172 rfl rfl dX7_copy_2 ?_
  refine hg_V C T hl.1 hbo rfl (m_X7_reserve ⟨hbo, hba, hbn, hb8, hbc⟩ hm) q275 q277 qs0 q59 q278 kd_X7_reserve rfl rfl ⟨Nat.le_of_ble_eq_true rfl, Nat.le_of_ble_eq_true rfl⟩ (Nat.le_of_ble_eq_true rfl) dX7_copy_5 ⟨Nat.le_of_eq (Nat.zero_add _), Nat.le_of_eq (Nat.zero_add _)⟩ (fun rv h112 dc112 ds112 H112 locs112 hp112 T112 => ?_)
  obtain ⟨rfl, ca', f', ⟨bo2, ba2, bn2, b8, bc⟩, hf', hF2, rfl, rfl⟩ := hp112
  have go2 := hF2 _ _ gxo (Ne.symm hbx)
  have ga2 := hF2 _ _ gxa (Ne.symm hbx)
  rw [show (none : Option Value).toList ++ ([] : List Value) = [] from rfl]
  refine lv_aload_n hx hb dX7_copy_8 rfl (lv_at hl 1 rfl) ?_
  refine hr_get C T112 go2 rfl in_X7 0 (by decide) q170 rfl rfl dX7_copy_9 ?_
  refine lv_iconst (v := nI 0) hx hb dX7_copy_12 rfl ?_
  refine lv_aload_n hx hb dX7_copy_13 rfl (lv_at hl 0 rfl) ?_
  refine hr_get C T112 bo2 rfl in_X7 0 (by decide) q170 rfl rfl dX7_copy_14 ?_
  refine lv_iconst (v := nI 0) hx hb dX7_copy_17 rfl ?_
  refine lv_aload_n hx hb dX7_copy_18 rfl (lv_at hl 1 rfl) ?_
  refine hr_get C T112 go2 rfl in_X7 1 (by decide) q172 rfl rfl dX7_copy_19 ?_
  have hcr := capr_ge cap (lm M)
  refine hr_copy C T112 hl.1 q282 q284 q283 q63 ga2 ba2 (by omega) (by omega) (by omega) (Nat.le_of_ble_eq_true rfl) (Nat.le_of_ble_eq_true rfl) dX7_copy_22 (fun h113 H113 locs113 eh113 T113 => ?_)
  have bo2_113 : h113 b = some (.inr (1, [.ref ca', .int (nI n)]), b) := hu_n eh113 (hne_of bo2 ba2 (fun z => by cases z)) bo2
  have ba2_113 : h113 ca' = some (.inl (E.2.1 0, capr cap (lm M), .inl (va_cpy g f' 0 0 (lm M))), b) := hu_s eh113
  have go2_113 : h113 x = some (.inr (1, [.ref cx, .int (nI (lm M))]), x) := hu_n eh113 (hne_of go2 ba2 (fun z => hbx (congrArg Prod.snd z).symm)) go2
  have ga2_113 : h113 cx = some (.inl (E.2.1 0, capx, .inl g), x) := hu_n eh113 (hne_of ga2 ba2 (fun z => hbx (congrArg Prod.snd z).symm)) ga2
  have hF2_113 : Fr (· = b) h h113 := hu_f eh113 hF2 ba2 rfl
  refine lv_aload_n hx hb dX7_copy_25 rfl (lv_at hl 0 rfl) ?_
  refine lv_aload_n hx hb dX7_copy_26 rfl (lv_at hl 1 rfl) ?_
  refine hr_get C T113 go2_113 rfl in_X7 1 (by decide) q172 rfl rfl dX7_copy_27 ?_
  refine hr_put C T113 bo2_113 rfl in_X7 tyX7 tyX7_ok nmX7 1 (by decide) q172 rfl rfl rfl rfl (Nat.le_of_ble_eq_true rfl) dX7_copy_30 (fun h114 H114 locs114 eh114 T114 => ?_)
  have bo2_114 : h114 b = some (.inr (1, [.ref ca', .int (nI (lm M))]), b) := hu_s eh114
  have ba2_114 : h114 ca' = some (.inl (E.2.1 0, capr cap (lm M), .inl (va_cpy g f' 0 0 (lm M))), b) := hu_n eh114 (hne_of ba2_113 bo2_113 (fun z => by cases z)) ba2_113
  have go2_114 : h114 x = some (.inr (1, [.ref cx, .int (nI (lm M))]), x) := hu_n eh114 (Ne.symm hbx) go2_113
  have ga2_114 : h114 cx = some (.inl (E.2.1 0, capx, .inl g), x) := hu_n eh114 (hne_of ga2_113 bo2_113 (fun z => hbx (congrArg Prod.snd z).symm)) ga2_113
  have hF2_114 : Fr (· = b) h h114 := hu_f eh114 hF2_113 bo2_113 rfl
  exact Z _ _ _ _ _ _ _ dX7_copy_33 (Nat.le_of_eq (Nat.zero_add _)) (Nat.le_of_eq (Nat.zero_add _)) ⟨rfl, ⟨_, _, ⟨bo2_114, ba2_114, by omega, b8, bc⟩, by rw [bv_cong (g := g) (fun i hi => pk_cpy_in (Nat.zero_le i) (by omega) |>.trans (by rw [Nat.zero_add, Nat.sub_zero]))]; exact hw⟩, hF2_114, Nat.zero_add _, Nat.zero_add _⟩ T114

set_option maxHeartbeats 4000000 in
theorem m_X7_times {E : GE} {l : Launch} {h : HH} {b N cap v : Nat} (hB : Big E h b N cap) (hvv : v < 2147483648) (hm : lm N + 1 ≤ 128) : MG E l yX7_times cX7_times 5 none ({ frames := 2, cells := gc cap (lm N + 1), slots := gs cap (lm N + 1), locals := 300 } : Room) [.ref b, .int (nI v)] h (fun rv h2 dc ds => rv = none ∧ Big E h2 b (N * v) (capr cap (lm N + 1)) ∧ Fr (· = b) h h2 ∧ dc = gc cap (lm N + 1) ∧ ds = gs cap (lm N + 1)) := by
  refine hn_v (by decide) (Nat.le_of_ble_eq_true rfl) ?_
  intro p e s m below meth c C hnm Q Z ls T hl
  have hx := C.x
  have hb := C.b
  have hl : lv_has ls 5 [(0, .ref b), (1, .int (nI v))] := hl
  obtain ⟨ca, f, ⟨hbo, hba, hbn, hb8, hbc⟩, hv⟩ := hB
  refine lv_aload_n hx hb dX7_times_0 rfl (lv_at hl 0 rfl) ?_
  refine lv_aload_n hx hb dX7_times_1 rfl (lv_at hl 0 rfl) ?_
  refine hr_get C T hbo rfl in_X7 1 (by decide) q172 rfl rfl dX7_times_2 ?_
  refine lv_iconst (v := nI 1) hx hb dX7_times_5 rfl ?_
  refine hn_iadd hx hb dX7_times_6 ?_
  refine hg_V C T hl.1 hbo rfl (m_X7_reserve ⟨hbo, hba, hbn, hb8, hbc⟩ hm) q275 q277 qs0 q59 q278 kd_X7_reserve rfl rfl ⟨Nat.le_of_ble_eq_true rfl, Nat.le_of_ble_eq_true rfl⟩ (Nat.le_of_ble_eq_true rfl) dX7_times_7 ⟨Nat.le_of_eq (Nat.zero_add _), Nat.le_of_eq (Nat.zero_add _)⟩ (fun rv h115 dc115 ds115 H115 locs115 hp115 T115 => ?_)
  obtain ⟨rfl, ca', f', ⟨bo2, ba2, bn2, b8, bc⟩, hf', hF2, rfl, rfl⟩ := hp115
  have hcr := capr_ge cap (lm N + 1)
  generalize capr cap (lm N + 1) = cap2 at *
  rw [show (none : Option Value).toList ++ ([] : List Value) = [] from rfl]
  have hv2 : bv f' (lm N) = N := by rw [bv_cong hf']; exact hv
  refine lv_lconst (v := lN 0) hx hb dX7_times_10 rfl ?_
  refine lv_lstore_n (lv' := [(2, .long (lN 0)), (0, .ref b), (1, .int (nI v))]) hx hb dX7_times_11 rfl hl (by decide) rfl (fun ls116 hl116 => ?_)
  refine lv_iconst (v := nI 0) hx hb dX7_times_12 rfl ?_
  refine lv_istore (lv' := [(4, .int (nI 0)), (2, .long (lN 0)), (0, .ref b), (1, .int (nI v))]) hx hb dX7_times_13 hl116 (by decide) rfl (fun ls117 hl117 => ?_)
  have L1 : ∀ (j : Nat) (k cy : Nat) (g : Nat → Int32) (h118 : HH) (H118 : Heap) (locs118 : List Loc) (ls118 : Array Slot), (lm N + 1 ≤ k + j) → (h118 b = some (.inr (1, [.ref ca', .int (nI (lm N))]), b)) → (h118 ca' = some (.inl (E.2.1 0, cap2, .inl g), b)) → (k ≤ lm N) → (cy ≤ v) → (∀ i, k ≤ i → i < lm N → g i = f' i) → (bv g k + cy * 4294967296 ^ k = bv f' k * v) → (Fr (· = b) h h118) → (St E s h118 H118 locs118) → (lv_has ls118 5 [(0, .ref b), (1, .int (nI v)), (2, .long (lN cy)), (4, .int (nI k))]) → W p l e ({ frames := 2, cells := gc cap (lm N + 1), slots := gs cap (lm N + 1), locals := 300 } : Room) s m ([.ref b, .int (nI v)] : List Value).toArray below meth c H118 locs118 (0 + gc cap (lm N + 1)) (0 + gs cap (lm N + 1)) Q (F0 m 15 ls118 []) := by
    intro j
    induction j with
    | zero => intro k cy g h118 H118 locs118 ls118 hm118 go_118 ga_118 hk hc hg hi hF T118 hl118; exact absurd hm118 (by omega)
    | succ j ih =>
      intro k cy g h118 H118 locs118 ls118 hm118 go_118 ga_118 hk hc hg hi hF T118 hl118
      refine lv_iload hx hb dX7_times_15 (lv_at hl118 3 rfl) ?_
      refine lv_aload_n hx hb dX7_times_17 rfl (lv_at hl118 0 rfl) ?_
      refine hr_get C T118 go_118 rfl in_X7 1 (by decide) q172 rfl rfl dX7_times_18 ?_
      refine hn_icmp_ge (tgt := 60) hx hb dX7_times_21 (by decide) (by omega) (by omega) (fun c1 => ?_) (fun c1 => ?_)
      · have e1 : k = lm N := by omega
        subst e1
        refine lv_aload_n hx hb dX7_times_60 rfl (lv_at hl118 0 rfl) ?_
        refine hr_get C T118 go_118 rfl in_X7 0 (by decide) q170 rfl rfl dX7_times_61 ?_
        refine lv_aload_n hx hb dX7_times_64 rfl (lv_at hl118 0 rfl) ?_
        refine lv_dup hx hb dX7_times_65 rfl ?_
        refine hr_get C T118 go_118 rfl in_X7 1 (by decide) q172 rfl rfl dX7_times_66 ?_
        refine lv_dup_x1 hx hb dX7_times_69 rfl rfl ?_
        refine lv_iconst (v := nI 1) hx hb dX7_times_70 rfl ?_
        refine hn_iadd hx hb dX7_times_71 ?_
        refine hr_put C T118 go_118 rfl in_X7 tyX7 tyX7_ok nmX7 1 (by decide) q172 rfl rfl rfl rfl (Nat.le_of_ble_eq_true rfl) dX7_times_72 (fun h119 H119 locs119 eh119 T119 => ?_)
        have go_119 : h119 b = some (.inr (1, [.ref ca', .int (nI ((lm N) + 1))]), b) := hu_s eh119
        have ga_119 : h119 ca' = some (.inl (E.2.1 0, cap2, .inl g), b) := hu_n eh119 (hne_of ga_118 go_118 (fun z => by cases z)) ga_118
        have hF_119 : Fr (· = b) h h119 := hu_f eh119 hF go_118 rfl
        refine lv_lload_n hx hb dX7_times_75 rfl (lv_at hl118 2 rfl) ?_
        refine hn_l2i hx hb dX7_times_76 ?_
        refine hr_iast C T119 ga_119 (by omega) (by omega) dX7_times_77 (fun h120 H120 locs120 eh120 T120 => ?_)
        have go_120 : h120 b = some (.inr (1, [.ref ca', .int (nI ((lm N) + 1))]), b) := hu_n eh120 (hne_of go_119 ga_119 (fun z => by cases z)) go_119
        have ga_120 : h120 ca' = some (.inl (E.2.1 0, cap2, .inl (upd g (lm N) (nI cy))), b) := hu_s eh120
        have hF_120 : Fr (· = b) h h120 := hu_f eh120 hF_119 ga_119 rfl
        refine lv_aload_n hx hb dX7_times_78 rfl (lv_at hl118 0 rfl) ?_
        refine hc_V C T120 hl118.1 go_120 rfl (m_X7_trim ⟨go_120, ga_120, by omega, b8, bc⟩) q285 q287 qs1 q59 q288 kd_X7_trim rfl rfl ⟨Nat.le_of_ble_eq_true rfl, Nat.le_of_ble_eq_true rfl⟩ (Nat.le_of_ble_eq_true rfl) dX7_times_79 ⟨Nat.le_of_eq (Nat.zero_add _), Nat.le_of_eq (Nat.zero_add _)⟩ (fun rv h121 H121 locs121 hp121 T121 => ?_)
        obtain ⟨rfl, k2, hk2, hB3, hF3, hz, hn⟩ := hp121
        rw [show (none : Option Value).toList ++ ([] : List Value) = [] from rfl]
        exact Z _ _ _ _ _ _ _ dX7_times_82 (Nat.le_of_eq (Nat.zero_add _)) (Nat.le_of_eq (Nat.zero_add _)) ⟨rfl, Big.of hB3 (by rw [← bv_tail hk2 hz, bv_put, un_nI' (by omega), hi, hv2]) hn, hF_120.tr hF3, Nat.zero_add _, Nat.zero_add _⟩ T121
      · have hgk := hg k (Nat.le_refl _) (by omega)
        have hcar := times_car hc (un_lt (g k)) hvv
        refine lv_lload_n hx hb dX7_times_24 rfl (lv_at hl118 2 rfl) ?_
        refine lv_aload_n hx hb dX7_times_25 rfl (lv_at hl118 0 rfl) ?_
        refine hr_get C T118 go_118 rfl in_X7 0 (by decide) q170 rfl rfl dX7_times_26 ?_
        refine lv_iload hx hb dX7_times_29 (lv_at hl118 3 rfl) ?_
        refine hr_iald C T118 ga_118 (by omega) (by omega) dX7_times_31 ?_
        refine hc_S C T118 hl118.1 (m_X7_cell) q778 q779 q59 q780 kd_X7_cell rfl rfl ⟨Nat.le_of_ble_eq_true rfl, Nat.le_of_ble_eq_true rfl⟩ (Nat.le_of_ble_eq_true rfl) dX7_times_32 ⟨Nat.le_of_eq (Nat.zero_add _), Nat.le_of_eq (Nat.zero_add _)⟩ (fun rv h122 H122 locs122 hp122 T122 => ?_)
        obtain ⟨rfl, hq122⟩ := hp122
        rw [hq122] at T122
        refine lv_iload_n hx hb dX7_times_35 rfl (lv_at hl118 1 rfl) ?_
        refine hn_i2l hx hb dX7_times_36 (by omega) ?_
        refine hn_lmul hx hb dX7_times_37 ?_
        refine hn_ladd hx hb dX7_times_38 ?_
        refine lv_lstore_n (lv' := [(2, .long (lN (cy + ((un (g k)) * v)))), (0, .ref b), (1, .int (nI v)), (4, .int (nI k))]) hx hb dX7_times_39 rfl hl118 (by decide) rfl (fun ls123 hl123 => ?_)
        refine lv_aload_n hx hb dX7_times_40 rfl (lv_at hl123 1 rfl) ?_
        refine hr_get C T122 go_118 rfl in_X7 0 (by decide) q170 rfl rfl dX7_times_41 ?_
        refine lv_iload hx hb dX7_times_44 (lv_at hl123 3 rfl) ?_
        refine lv_lload_n hx hb dX7_times_46 rfl (lv_at hl123 0 rfl) ?_
        refine hn_l2i hx hb dX7_times_47 ?_
        refine hr_iast C T122 ga_118 (by omega) (by omega) dX7_times_48 (fun h124 H124 locs124 eh124 T124 => ?_)
        have go_124 : h124 b = some (.inr (1, [.ref ca', .int (nI (lm N))]), b) := hu_n eh124 (hne_of go_118 ga_118 (fun z => by cases z)) go_118
        have ga_124 : h124 ca' = some (.inl (E.2.1 0, cap2, .inl (upd g k (nI (cy + ((un (g k)) * v))))), b) := hu_s eh124
        have hF_124 : Fr (· = b) h h124 := hu_f eh124 hF ga_118 rfl
        refine lv_lload_n hx hb dX7_times_49 rfl (lv_at hl123 0 rfl) ?_
        refine lv_bipush (v := nI 32) hx hb dX7_times_50 rfl ?_
        refine hn_lushr hx hb dX7_times_52 hcar.2 (by omega) ?_
        refine lv_lstore_n (lv' := [(2, .long (lN ((cy + ((un (g k)) * v)) / 2 ^ 32))), (0, .ref b), (1, .int (nI v)), (4, .int (nI k))]) hx hb dX7_times_53 rfl hl123 (by decide) rfl (fun ls125 hl125 => ?_)
        refine lv_iinc (v := nI (k + 1)) (lv' := [(4, .int (nI (k + 1))), (2, .long (lN ((cy + ((un (g k)) * v)) / 2 ^ 32))), (0, .ref b), (1, .int (nI v))]) hx hb dX7_times_54 hl125 (k := 3) rfl (nI_add k 1) (by decide) rfl (fun ls126 hl126 => ?_)
        refine lv_goto (tgt := 15) hx hb dX7_times_57 (by decide) ?_
        exact ih (k + 1) _ _ _ _ _ _ (by omega) go_124 ga_124 (by omega) hcar.1 (fun i h1 h2 => (pk_un (by omega)).trans (hg i (by omega) h2)) (times_step hgk hi) hF_124 T124 (lv_sub hl126 [2, 3, 1, 0] rfl)
  exact L1 (lm N + 1) 0 0 f' _ _ _ _ (by omega) bo2 ba2 (Nat.zero_le _) (Nat.zero_le _) (fun _ _ _ => rfl) (by simp [bv]) hF2 T115 (lv_sub hl117 [2, 3, 1, 0] rfl)
