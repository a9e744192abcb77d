set_option maxRecDepth 100000
theorem lkM_eq (M : Nat → Nat → Nat) (c : Int32) : lkM M c = mu M 2 (lkM M c 2) := by
  funext i
  by_cases z : i = 2
  · rw [z, mu_s]
  · rw [lkM_ne z, mu_n z]
theorem fS_lkg {N : Nat → Nat} {M : Nat → Nat → Nat} {V : Nat → Nat} {ps g : Nat → Int32} {c : Int32} {k : Nat} (h12 : N 12 ≠ 1) (h4 : M 4 k < 8) (h5 : M 5 k < 8) (hne : M 4 k ≠ M 5 k) (hc : c = -2 ∨ c = -1 ∨ ∃ a, a < 8 ∧ c = nI a) (hv : V (19 + 2 * k) = pA N M k ∧ V (20 + 2 * k) = pB N M k) (hps : ps k = g k) (hun : g k = -1 → pA N M k * N 5 < pB N M k * N 6) : fS N M V ps c (nI (N 15)) k = lkg N M g c k := by
  obtain ⟨e1, e2⟩ := pA_hit h12 h4 h5 hne hc hv
  unfold fS lkg
  rw [e1, e2, hps, if_neg h12]
  by_cases z : hit M c k
  · by_cases y : g k = -1 ∧ pB N (lkM M c) k * N 6 ≤ pA N (lkM M c) k * N 5
    · rw [if_pos y, if_pos ⟨z, y.1, y.2⟩]
    · rw [if_neg y, if_neg (fun q => y q.2)]
  · rw [if_neg (fun q => z q.1)]
    obtain ⟨e3, e4⟩ := hit_dec (N := N) hc h4 h5 z
    rw [e3, e4, if_neg (fun q => absurd (hun q.1) (by omega))]
/-- what look asks -/
def LX (N : Nat → Nat) (G : Nat → Nat → Int32) (xb sc rc : Int32) : Prop := ((xb = -2 ∧ sc = -2 ∧ rc = -1) ∨ (∃ b, b < 20000 ∧ xb = nI b ∧ sc = G 1 b ∧ rc = G 0 b)) ∧ (sc = -2 ∨ sc = -1 ∨ ∃ a, a < N 0 ∧ sc = nI a)

theorem kd_X1_look : yX1_look.cls = RX1 ∧ yX1_look.cls ≠ "java/lang/invoke/MethodHandle" ∧ yX1_look.cls ≠ "java/lang/invoke/VarHandle" ∧ (parseMethodDescriptor yX1_look.desc).map (fun d => d.parameters.length) = some 1 := by decide +kernel

theorem lk_lm {N : Nat → Nat} {M : Nat → Nat → Nat} {r c : Int32} (hp : ∀ k, k < N 14 → M 4 k < N 0 ∧ M 5 k < N 0 ∧ M 0 (M 5 k) < M 0 (M 4 k)) (hv : ∀ i, i < N 0 → M 0 i ≤ N 2) (h2 : N 2 ≤ 20000) (h0 : N 0 ≤ 8) (h7 : 1 ≤ N 8 ∧ N 8 < N 7 ∧ N 7 ≤ 1000000) (h14 : 0 < N 14) (l1 : lm (N 20) ≤ 106) (l2 : lm (N 21) ≤ 106) : lm (N 20 * cxA N M (N 14) * (bsz M r c (N 14)).2) ≤ 120 ∧ lm (N 21 * cxB N M (N 14) (bsz M r c (N 14)) * N 2) ≤ 120 := by
  have hm : ∀ i, i < N 14 → mgn M i ≤ 20000 := fun i hi => by have := hv _ (hp i hi).1; unfold mgn; omega
  have hz2 : (bsz M r c (N 14)).2 ≤ 20000 := by
    unfold bsz
    split
    · decide
    · exact bst_up hm (by decide) _ (Nat.le_refl _)
  have hz1 : -2 ≤ (bsz M r c (N 14)).1 ∧ (bsz M r c (N 14)).1 ≤ 2 := by
    unfold bsz
    split
    · exact ⟨show (-2 : Int) ≤ 0 by decide, show (0 : Int) ≤ 2 by decide⟩
    · exact bst_rng _ _ _ _
  have hl : lst M (N 14 - 1) ≤ 20000 := Nat.le_trans (lst_min _ 0 (Nat.zero_le _)) (hm 0 h14)
  have hA : cxA N M (N 14) < 18446744073709551616 := by
    have := Nat.mul_le_mul (show 2 * N 7 ≤ 2000000 by omega) h2
    unfold cxA
    omega
  have hB : cxB N M (N 14) (bsz M r c (N 14)) < 18446744073709551616 := by
    have := cx_up (l := lst M (N 14 - 1)) (m := (bsz M r c (N 14)).2) (a := N 7) (b := N 8) hz1.1 hz1.2 (by omega) (by omega) (by omega) (by omega)
    unfold cxB
    omega
  have a1 := lm_2 hA
  have a2 := lm_2 hB
  have a3 := lm_1 (v := (bsz M r c (N 14)).2) (by omega)
  have a4 := lm_1 (v := N 2) (by omega)
  refine ⟨Nat.le_trans (lm_mul _ _) ?_, Nat.le_trans (lm_mul _ _) ?_⟩
  · have := lm_mul (N 20) (cxA N M (N 14)); omega
  · have := lm_mul (N 21) (cxB N M (N 14) (bsz M r c (N 14))); omega

set_option maxHeartbeats 4000000 in
theorem m_X1_look {E : GE} {l : Launch} {h : HH} {L B cp N : Nat → Nat} {M : Nat → Nat → Nat} {G : Nat → Nat → Int32} (hLay : Lay L B) (hI : LI N M G) (hC : Cp E h L B cp N M G) {xb sc rc : Int32} (hLX : LX N G xb sc rc) : MG E l yX1_look cX1_look 3 none ({ frames := 6, cells := (KX - ksum cp NB) / 8 + 8, slots := 2 * (KX - ksum cp NB) + 2048, locals := 900 } : Room) [.ref (L 0), .int xb] h (fun rv h2 dc ds => rv = none ∧ ∃ c2, Cp E h2 L B c2 (lkN N M (G 2) rc sc) (lkM M sc) (lkG N M G sc) ∧ Fr (CO L B) h h2 ∧ Gw cp c2 dc ds) := by
  refine hn_v (by decide) (Nat.le_of_ble_eq_true rfl) ?_
  intro p e s m below meth c C hnm Q Z ls T hl
  have hx := C.x
  have hb := C.b
  have hl : lv_has ls 3 [(0, .ref (L 0)), (1, .int xb)] := hl
  obtain ⟨⟨l11, l11b, l12⟩, ⟨i0, i2, i4⟩, i5, i7, ⟨l15, l14, l16⟩, iv, ital, ivn, ipr, ⟨l20, l21⟩, iun⟩ := hI
  obtain ⟨pp, f, rs, pw, pl, ps, V, ⟨ho0, ha1, ha3, ha12, ha13, ha14, ha15, ha16, ha17, ha39⟩, ⟨r1, r3, r12, r13, r14, r15, r16, r17, rp, rp16⟩, hVr, hSt, hPr, hCn, hSd, hDg, hB⟩ := hC
  have hF : Fr (CO L B) h h := Fr.rf
  have rpp := rp l11
  obtain ⟨hxx, hcc⟩ := hLX
  have hcc8 : sc = -2 ∨ sc = -1 ∨ ∃ a, a < 8 ∧ sc = nI a := by rcases hcc with q | q | ⟨a, q1, q2⟩; exact Or.inl q; exact Or.inr (Or.inl q); exact Or.inr (Or.inr ⟨a, by omega, q2⟩)
  have hPW : PWh M pw pl pp := fun k hk => by have h1 := hVr.2.2.2 l11 k (by omega); have h2 := ipr k (by omega); exact ⟨h1.2.2.1, h1.2.2.2.1, by omega, by omega, h2.2.2⟩
  refine lv_iload_n hx hb dX1_look_0 rfl (lv_at hl 1 rfl) ?_
  refine lv_bipush (v := (-2)) hx hb dX1_look_1 rfl ?_
  have J17 : ∀  (H5001 : Heap) (locs5001 : List Loc) (ls5001 : Array Slot), (St E s h H5001 locs5001) → (lv_has ls5001 3 [(0, .ref (L 0)), (1, .int xb)]) → W p l e ({ frames := 6, cells := (KX - ksum cp NB) / 8 + 8, slots := 2 * (KX - ksum cp NB) + 2048, locals := 900 } : Room) s m ([.ref (L 0), .int xb] : List Value).toArray below meth c H5001 locs5001 0 0 Q (F0 m 17 ls5001 [.int sc]) := by
    intro  H5001 locs5001 ls5001 T5001 hl5001
    have J32 : ∀ (g16 : Nat → Int32) (h5002 : HH) (H5002 : Heap) (locs5002 : List Loc) (ls5002 : Array Slot), (h5002 (L 16) = some (.inl (E.2.1 0, 8, .inl g16), L 0)) → (∀ i, i < 8 → g16 i = nI (lkM M sc 2 i)) → (h5002 = hup h (L 16) (.inl (E.2.1 0, 8, .inl g16), L 0)) → (Fr (CO L B) h h5002) → (St E s h5002 H5002 locs5002) → (lv_has ls5002 3 [(0, .ref (L 0)), (1, .int xb), (2, .int sc)]) → W p l e ({ frames := 6, cells := (KX - ksum cp NB) / 8 + 8, slots := 2 * (KX - ksum cp NB) + 2048, locals := 900 } : Room) s m ([.ref (L 0), .int xb] : List Value).toArray below meth c H5002 locs5002 0 0 Q (F0 m 32 ls5002 []) := by
      intro g16 h5002 H5002 locs5002 ls5002 ha16_5002 hg16 hh hF_5002 T5002 hl5002
      by_cases c12 : N 12 = 1
      · have hV6 := (hVr.2.2.1 l11 c12).1
        have hV7 := (hVr.2.2.1 l11 c12).2
        have hvn0 : mgn M 0 ≤ N 2 := by have := ivn _ (ipr 0 l14).1; unfold mgn; omega
        have hSt_5003 : Stt E L B h5002 := Stt.kept (O := (· = L 0)) (hu_f hh Fr.rf ha16 rfl) (hLay.1 30 0 (by decide) (by decide) (by decide)) hSt
        have hst30x5004 := (hSt_5003).2.2.2.2.1
        refine lv_aload_n hx hb dX1_look_32 rfl (lv_at hl5002 0 rfl) ?_
        have ho0_5003 : h5002 (L 0) = some (.inr (0, [.ref (L 1), .int (nI (N 0)), .ref (L 3), .int (nI (N 1)), .int (nI (N 2)), .int (nI (N 3)), .int (nI (N 4)), .int (nI (N 5)), .int (nI (N 6)), .int (nI (N 7)), .int (nI (N 8)), .ref (L 12), .ref (L 13), .ref (L 14), .ref (L 15), .ref (L 16), .ref (L 17), .int (nI (N 11)), .int (nI (N 15)), .int (nI (N 16)), .int (nI (N 17)), .int (nI (N 18) - 1), .int (nI (N 19)), .ref (L 24), .int (nI pp), .ref (L 26), .ref (L 27), .ref (if N 13 = 1 then L 27 else L 26), .ref (L 29), .ref (L 30), .ref (if N 12 = 1 then L 30 else L 29), .ref (L 32), .ref (B 0), .ref (B 1), .ref (B 2), .ref (B 3), .ref (L 37), .ref (L 38), .ref (L 39), .ref (B 4), .ref (B 5)]), L 0) := hu_n hh (hLay.1 0 16 (by decide) (by decide) (by decide)) ho0
        refine hr_get C T5002 ho0_5003 rfl in_X1 30 (by decide) q329 rfl rfl dX1_look_33 ?_
        rw [if_pos c12]
        refine lv_iload_n hx hb dX1_look_36 rfl (lv_at hl5002 1 rfl) ?_
        refine lv_bipush (v := (-2)) hx hb dX1_look_37 rfl ?_
        have J52 : ∀  (H5005 : Heap) (locs5005 : List Loc) (ls5005 : Array Slot), (St E s h5002 H5005 locs5005) → (lv_has ls5005 3 [(0, .ref (L 0)), (1, .int xb), (2, .int sc)]) → W p l e ({ frames := 6, cells := (KX - ksum cp NB) / 8 + 8, slots := 2 * (KX - ksum cp NB) + 2048, locals := 900 } : Room) s m ([.ref (L 0), .int xb] : List Value).toArray below meth c H5005 locs5005 0 0 Q (F0 m 52 ls5005 [.int rc, .ref (L 30)]) := by
          intro  H5005 locs5005 ls5005 T5005 hl5005
          refine lv_iload_n hx hb dX1_look_52 rfl (lv_at hl5005 2 rfl) ?_
          refine lv_aload_n hx hb dX1_look_53 rfl (lv_at hl5005 0 rfl) ?_
          refine hr_get C T5005 ho0_5003 rfl in_X1 18 (by decide) q313 rfl rfl dX1_look_54 ?_
          have hB_5003 : Bgs E h5002 B V cp := Bgs.kept (O := (· = L 0)) (hu_f hh Fr.rf ha16 rfl) (fun i hi => hLay.2 i 0 hi (by decide)) hB
          have hPr_5003 : Prs L B pw pl ps h5002 := Prs.kept (O := (· = L 0)) (hu_f hh Fr.rf ha16 rfl) (hLay.1 24 0 (by decide) (by decide) (by decide)) hPr
          have ha1_5003 : h5002 (L 1) = some (.inl (E.2.1 0, 8, .inl (f 1)), L 0) := hu_n hh (hLay.1 1 16 (by decide) (by decide) (by decide)) ha1
          refine hg_F C T5005 hl5005.1 hst30x5004 rfl (m_X6_look (M := M) (g := f 1) hLay hB_5003 ho0_5003 hSt_5003 hPr_5003 rp16 ha1_5003 r1 iv hPW (by omega) i7.2.1 i7.2.2 i2 hvn0 (by rw [hV6]; exact l20) (by rw [hV7]; exact l21)) 6 rfl q745 q748 q750 q58 q752 kdF_6 rfl rfl ⟨Nat.le_of_ble_eq_true rfl, Nat.le_of_ble_eq_true rfl⟩ (Nat.le_of_ble_eq_true rfl) dX1_look_57 ⟨by have hgw := (Gw.rf (cp := cp)); have hg1 := hgw.1; have hg2 := hgw.2; have hkm := hB_5003.kmax; show 0 + ((KX - ksum cp NB) / 8 + 8) ≤ (KX - ksum cp NB) / 8 + 8; omega, by have hgw := (Gw.rf (cp := cp)); have hg1 := hgw.1; have hg2 := hgw.2; have hkm := hB_5003.kmax; show 0 + (2 * (KX - ksum cp NB) + 2048) ≤ 2 * (KX - ksum cp NB) + 2048; omega⟩ (fun rv h5006 dc5006 ds5006 H5006 locs5006 hp5006 T5006 => ?_)
          obtain ⟨rfl, V5006, c5006, hB5006, hk6, hk7, ho5006, hF5006, hw5006⟩ := hp5006
          have hW5006 := (Gw.rf (cp := cp)).tr hw5006
          have hF_5006 : Fr (CO L B) h h5006 := hF_5002.tr (hF5006.mono (fun _ z => Or.inr (Or.inr (Or.inr (Or.inr (Or.inr z))))))
          refine W.eq (g2 := F0 m 62 ls5005 []) rfl ?_
          rw [hV6, rpp] at hk6
          rw [hV7, rpp] at hk7
          have e20 : lk20 N M rc sc = N 20 * cxA N M (N 14) * (bsz M rc sc (N 14)).2 := if_pos c12
          have e21 : lk21 N M rc sc = N 21 * cxB N M (N 14) (bsz M rc sc (N 14)) * N 2 := if_pos c12
          rw [← e20] at hk6
          rw [← e21] at hk7
          have hmm : mgn M 0 ≤ 20000 := by omega
          have hlm6 : lm (lk20 N M rc sc) ≤ 120 ∧ lm (lk21 N M rc sc) ≤ 120 := by rw [e20, e21]; exact lk_lm ipr ivn i2 (by omega) i7 l14 l20 l21
          refine lv_aload_n hx hb dX1_look_62 rfl (lv_at hl5005 0 rfl) ?_
          refine lv_aload_n hx hb dX1_look_63 rfl (lv_at hl5005 0 rfl) ?_
          have ho0_5006 : h5006 (L 0) = some (.inr (0, [.ref (L 1), .int (nI (N 0)), .ref (L 3), .int (nI (N 1)), .int (nI (N 2)), .int (nI (N 3)), .int (nI (N 4)), .int (nI (N 5)), .int (nI (N 6)), .int (nI (N 7)), .int (nI (N 8)), .ref (L 12), .ref (L 13), .ref (L 14), .ref (L 15), .ref (L 16), .ref (L 17), .int (nI (N 11)), .int (nI (N 15)), .int (nI (N 16)), .int (nI (N 17)), .int (nI (N 18) - 1), .int (nI (N 19)), .ref (L 24), .int (nI pp), .ref (L 26), .ref (L 27), .ref (if N 13 = 1 then L 27 else L 26), .ref (L 29), .ref (L 30), .ref (if N 12 = 1 then L 30 else L 29), .ref (L 32), .ref (B 0), .ref (B 1), .ref (B 2), .ref (B 3), .ref (L 37), .ref (L 38), .ref (L 39), .ref (B 4), .ref (B 5)]), L 0) := hF5006 _ _ ho0_5003 (fun ⟨i, hi, e⟩ => hLay.2 i 0 hi (by decide) e.symm)
          refine hr_get C T5006 ho0_5006 rfl in_X1 30 (by decide) q329 rfl rfl dX1_look_64 ?_
          rw [if_pos c12]
          have hSt_5006 : Stt E L B h5006 := Stt.kept hF5006 (fun ⟨i, hi, e⟩ => hLay.2 i 30 hi (by decide) e.symm) hSt_5003
          have hst30x5004_5006 : h5006 (L 30) = some (.inr (6, [.ref (L 0), .ref (B 6), .ref (B 7)]), L 30) := hF5006 _ _ hst30x5004 (fun ⟨i, hi, e⟩ => hLay.2 i 30 hi (by decide) e.symm)
          refine hg_F C T5006 hl5005.1 hst30x5004_5006 rfl (m_X6_isSure hLay hB5006 ho0_5006 hSt_5006 (by omega) (by omega) (by rw [hk6]; exact hlm6.1) (by rw [hk7]; exact hlm6.2)) 7 rfl q814 q817 q819 q58 q821 kdF_7 rfl rfl ⟨Nat.le_of_ble_eq_true rfl, Nat.le_of_ble_eq_true rfl⟩ (Nat.le_of_ble_eq_true rfl) dX1_look_67 ⟨by have hgw := (hW5006); have hg1 := hgw.1; have hg2 := hgw.2; have hkm := hB5006.kmax; show 0 + dc5006 + ((KX - ksum c5006 NB) / 8 + 8) ≤ (KX - ksum cp NB) / 8 + 8; omega, by have hgw := (hW5006); have hg1 := hgw.1; have hg2 := hgw.2; have hkm := hB5006.kmax; show 0 + ds5006 + (2 * (KX - ksum c5006 NB) + 2048) ≤ 2 * (KX - ksum cp NB) + 2048; omega⟩ (fun rv h5007 dc5007 ds5007 H5007 locs5007 hp5007 T5007 => ?_)
          obtain ⟨rfl, V5007, c5007, hB5007, ho5007, hF5007, hw5007⟩ := hp5007
          have hW5007 := (hW5006).tr hw5007
          have hF_5007 : Fr (CO L B) h h5007 := hF_5006.tr (hF5007.mono (fun _ z => Or.inr (Or.inr (Or.inr (Or.inr (Or.inr z))))))
          refine W.eq (g2 := F0 m 72 ls5005 [.int (if V5006 6 * N 6 ≤ V5006 7 * N 5 then 1 else 0), .ref (L 0)]) rfl ?_
          rw [hk6, hk7]
          have hsr : (if N 12 = 1 then lk20 N M rc sc * N 6 ≤ lk21 N M rc sc * N 5 else asr (lkg N M (G 2) sc) (N 14) = 1) ↔ lk20 N M rc sc * N 6 ≤ lk21 N M rc sc * N 5 := by rw [if_pos c12]
          have hVr2 : Vr V5007 pw pl ps (lkN N M (G 2) rc sc) (lkM M sc) (lkG N M G sc) := ⟨(ho5007 2 (by decide) (by decide)).trans ((ho5006 2 (by decide) (by decide) (by decide) (by decide)).trans hVr.1), (ho5007 3 (by decide) (by decide)).trans ((ho5006 3 (by decide) (by decide) (by decide) (by decide)).trans hVr.2.1), fun _ _ => ⟨(ho5007 6 (by decide) (by decide)).trans hk6, (ho5007 7 (by decide) (by decide)).trans hk7⟩, fun _ k hk => by have hk9 : k < N 14 := hk; obtain ⟨v1, v2, v3, v4, v5⟩ := hVr.2.2.2 l11 k hk9; have pq := pA_one (M := M) (k := k) c12; have pq2 := pA_one (M := lkM M sc) (k := k) c12; refine ⟨(ho5007 _ (by omega) (by omega)).trans ((ho5006 _ (by omega) (by omega) (by omega) (by omega)).trans (v1.trans (pq.1.trans pq2.1.symm))), (ho5007 _ (by omega) (by omega)).trans ((ho5006 _ (by omega) (by omega) (by omega) (by omega)).trans (v2.trans (pq.2.trans pq2.2.symm))), by rw [lkM_ne (by decide)]; exact v3, by rw [lkM_ne (by decide)]; exact v4, v5.trans ?_⟩; show G 2 k = lkg N M (G 2) sc k; unfold lkg; rw [if_pos c12]⟩
          refine lv_if_eq (tgt := 79) hx hb dX1_look_72 (by decide) (fun c5 => ?_) (fun c5 => ?_)
          · have hsr2 : ¬ lk20 N M rc sc * N 6 ≤ lk21 N M rc sc * N 5 := fun z => by rw [if_pos z] at c5; exact absurd c5 (by decide)
            refine lv_aload_n hx hb dX1_look_79 rfl (lv_at hl5005 0 rfl) ?_
            have ho0_5007 : h5007 (L 0) = some (.inr (0, [.ref (L 1), .int (nI (N 0)), .ref (L 3), .int (nI (N 1)), .int (nI (N 2)), .int (nI (N 3)), .int (nI (N 4)), .int (nI (N 5)), .int (nI (N 6)), .int (nI (N 7)), .int (nI (N 8)), .ref (L 12), .ref (L 13), .ref (L 14), .ref (L 15), .ref (L 16), .ref (L 17), .int (nI (N 11)), .int (nI (N 15)), .int (nI (N 16)), .int (nI (N 17)), .int (nI (N 18) - 1), .int (nI (N 19)), .ref (L 24), .int (nI pp), .ref (L 26), .ref (L 27), .ref (if N 13 = 1 then L 27 else L 26), .ref (L 29), .ref (L 30), .ref (if N 12 = 1 then L 30 else L 29), .ref (L 32), .ref (B 0), .ref (B 1), .ref (B 2), .ref (B 3), .ref (L 37), .ref (L 38), .ref (L 39), .ref (B 4), .ref (B 5)]), L 0) := hF5007 _ _ ho0_5006 (fun ⟨i, hi, e⟩ => hLay.2 i 0 hi (by decide) e.symm)
            refine hr_get C T5007 ho0_5007 rfl in_X1 18 (by decide) q313 rfl rfl dX1_look_80 ?_
            refine lv_aload_n hx hb dX1_look_83 rfl (lv_at hl5005 0 rfl) ?_
            refine hr_get C T5007 ho0_5007 rfl in_X1 6 (by decide) q297 rfl rfl dX1_look_84 ?_
            refine hn_icmp_ne (tgt := 94) hx hb dX1_look_87 (by decide) (by omega) (by omega) (fun c6 => ?_) (fun c6 => ?_)
            · have hst9 : lkst N M (G 2) rc sc = 1 := by unfold lkst; rw [if_neg (fun z => hsr2 (hsr.mp z)), if_neg c6]
              refine lv_iconst (v := nI 1) hx hb dX1_look_94 rfl ?_
              rw [show nI 1 = nI (lkst N M (G 2) rc sc) from (by rw [hst9])]
              rw [lkM_eq] at hVr2
              have hg16b := hg16
              refine hr_put C T5007 ho0_5007 rfl in_X1 tyX1 tyX1_ok nmX1 17 (by decide) q312 rfl rfl rfl rfl (Nat.le_of_ble_eq_true rfl) dX1_look_95 (fun h5009 H5009 locs5009 eh5009 T5009 => ?_)
              have ho0_5009 : h5009 (L 0) = some (.inr (0, [.ref (L 1), .int (nI (N 0)), .ref (L 3), .int (nI (N 1)), .int (nI (N 2)), .int (nI (N 3)), .int (nI (N 4)), .int (nI (N 5)), .int (nI (N 6)), .int (nI (N 7)), .int (nI (N 8)), .ref (L 12), .ref (L 13), .ref (L 14), .ref (L 15), .ref (L 16), .ref (L 17), .int (nI (lkst N M (G 2) rc sc)), .int (nI (N 15)), .int (nI (N 16)), .int (nI (N 17)), .int (nI (N 18) - 1), .int (nI (N 19)), .ref (L 24), .int (nI pp), .ref (L 26), .ref (L 27), .ref (if N 13 = 1 then L 27 else L 26), .ref (L 29), .ref (L 30), .ref (if N 12 = 1 then L 30 else L 29), .ref (L 32), .ref (B 0), .ref (B 1), .ref (B 2), .ref (B 3), .ref (L 37), .ref (L 38), .ref (L 39), .ref (B 4), .ref (B 5)]), L 0) := hu_s eh5009
              have hF_5009 : Fr (CO L B) h h5009 := hu_f eh5009 hF_5007 ho0_5007 (Or.inl rfl)
              have ha1_5006 : h5006 (L 1) = some (.inl (E.2.1 0, 8, .inl (f 1)), L 0) := hF5006 _ _ ha1_5003 (fun ⟨i, hi, e⟩ => hLay.2 i 0 hi (by decide) e.symm)
              have ha1_5007 : h5007 (L 1) = some (.inl (E.2.1 0, 8, .inl (f 1)), L 0) := hF5007 _ _ ha1_5006 (fun ⟨i, hi, e⟩ => hLay.2 i 0 hi (by decide) e.symm)
              have ha1_5009 : h5009 (L 1) = some (.inl (E.2.1 0, 8, .inl (f 1)), L 0) := hu_n eh5009 (hLay.1 1 0 (by decide) (by decide) (by decide)) ha1_5007
              have ha3_5003 : h5002 (L 3) = some (.inl (E.2.1 0, 64, .inl (f 3)), L 0) := hu_n hh (hLay.1 3 16 (by decide) (by decide) (by decide)) ha3
              have ha3_5006 : h5006 (L 3) = some (.inl (E.2.1 0, 64, .inl (f 3)), L 0) := hF5006 _ _ ha3_5003 (fun ⟨i, hi, e⟩ => hLay.2 i 0 hi (by decide) e.symm)
              have ha3_5007 : h5007 (L 3) = some (.inl (E.2.1 0, 64, .inl (f 3)), L 0) := hF5007 _ _ ha3_5006 (fun ⟨i, hi, e⟩ => hLay.2 i 0 hi (by decide) e.symm)
              have ha3_5009 : h5009 (L 3) = some (.inl (E.2.1 0, 64, .inl (f 3)), L 0) := hu_n eh5009 (hLay.1 3 0 (by decide) (by decide) (by decide)) ha3_5007
              have ha12_5003 : h5002 (L 12) = some (.inl (E.2.1 1, 20000, .inl (f 12)), L 0) := hu_n hh (hLay.1 12 16 (by decide) (by decide) (by decide)) ha12
              have ha12_5006 : h5006 (L 12) = some (.inl (E.2.1 1, 20000, .inl (f 12)), L 0) := hF5006 _ _ ha12_5003 (fun ⟨i, hi, e⟩ => hLay.2 i 0 hi (by decide) e.symm)
              have ha12_5007 : h5007 (L 12) = some (.inl (E.2.1 1, 20000, .inl (f 12)), L 0) := hF5007 _ _ ha12_5006 (fun ⟨i, hi, e⟩ => hLay.2 i 0 hi (by decide) e.symm)
              have ha12_5009 : h5009 (L 12) = some (.inl (E.2.1 1, 20000, .inl (f 12)), L 0) := hu_n eh5009 (hLay.1 12 0 (by decide) (by decide) (by decide)) ha12_5007
              have ha13_5003 : h5002 (L 13) = some (.inl (E.2.1 1, 20000, .inl (f 13)), L 0) := hu_n hh (hLay.1 13 16 (by decide) (by decide) (by decide)) ha13
              have ha13_5006 : h5006 (L 13) = some (.inl (E.2.1 1, 20000, .inl (f 13)), L 0) := hF5006 _ _ ha13_5003 (fun ⟨i, hi, e⟩ => hLay.2 i 0 hi (by decide) e.symm)
              have ha13_5007 : h5007 (L 13) = some (.inl (E.2.1 1, 20000, .inl (f 13)), L 0) := hF5007 _ _ ha13_5006 (fun ⟨i, hi, e⟩ => hLay.2 i 0 hi (by decide) e.symm)
              have ha13_5009 : h5009 (L 13) = some (.inl (E.2.1 1, 20000, .inl (f 13)), L 0) := hu_n eh5009 (hLay.1 13 0 (by decide) (by decide) (by decide)) ha13_5007
              have ha14_5003 : h5002 (L 14) = some (.inl (E.2.1 2, 20000, .inl (f 14)), L 0) := hu_n hh (hLay.1 14 16 (by decide) (by decide) (by decide)) ha14
              have ha14_5006 : h5006 (L 14) = some (.inl (E.2.1 2, 20000, .inl (f 14)), L 0) := hF5006 _ _ ha14_5003 (fun ⟨i, hi, e⟩ => hLay.2 i 0 hi (by decide) e.symm)
              have ha14_5007 : h5007 (L 14) = some (.inl (E.2.1 2, 20000, .inl (f 14)), L 0) := hF5007 _ _ ha14_5006 (fun ⟨i, hi, e⟩ => hLay.2 i 0 hi (by decide) e.symm)
              have ha14_5009 : h5009 (L 14) = some (.inl (E.2.1 2, 20000, .inl (f 14)), L 0) := hu_n eh5009 (hLay.1 14 0 (by decide) (by decide) (by decide)) ha14_5007
              have ha15_5003 : h5002 (L 15) = some (.inl (E.2.1 3, 8, .inl (f 15)), L 0) := hu_n hh (hLay.1 15 16 (by decide) (by decide) (by decide)) ha15
              have ha15_5006 : h5006 (L 15) = some (.inl (E.2.1 3, 8, .inl (f 15)), L 0) := hF5006 _ _ ha15_5003 (fun ⟨i, hi, e⟩ => hLay.2 i 0 hi (by decide) e.symm)
              have ha15_5007 : h5007 (L 15) = some (.inl (E.2.1 3, 8, .inl (f 15)), L 0) := hF5007 _ _ ha15_5006 (fun ⟨i, hi, e⟩ => hLay.2 i 0 hi (by decide) e.symm)
              have ha15_5009 : h5009 (L 15) = some (.inl (E.2.1 3, 8, .inl (f 15)), L 0) := hu_n eh5009 (hLay.1 15 0 (by decide) (by decide) (by decide)) ha15_5007
              have ha16_5006 : h5006 (L 16) = some (.inl (E.2.1 0, 8, .inl g16), L 0) := hF5006 _ _ ha16_5002 (fun ⟨i, hi, e⟩ => hLay.2 i 0 hi (by decide) e.symm)
              have ha16_5007 : h5007 (L 16) = some (.inl (E.2.1 0, 8, .inl g16), L 0) := hF5007 _ _ ha16_5006 (fun ⟨i, hi, e⟩ => hLay.2 i 0 hi (by decide) e.symm)
              have ha16_5009 : h5009 (L 16) = some (.inl (E.2.1 0, 8, .inl g16), L 0) := hu_n eh5009 (hLay.1 16 0 (by decide) (by decide) (by decide)) ha16_5007
              have ha17_5003 : h5002 (L 17) = some (.inl (E.2.1 0, 8, .inl (f 17)), L 0) := hu_n hh (hLay.1 17 16 (by decide) (by decide) (by decide)) ha17
              have ha17_5006 : h5006 (L 17) = some (.inl (E.2.1 0, 8, .inl (f 17)), L 0) := hF5006 _ _ ha17_5003 (fun ⟨i, hi, e⟩ => hLay.2 i 0 hi (by decide) e.symm)
              have ha17_5007 : h5007 (L 17) = some (.inl (E.2.1 0, 8, .inl (f 17)), L 0) := hF5007 _ _ ha17_5006 (fun ⟨i, hi, e⟩ => hLay.2 i 0 hi (by decide) e.symm)
              have ha17_5009 : h5009 (L 17) = some (.inl (E.2.1 0, 8, .inl (f 17)), L 0) := hu_n eh5009 (hLay.1 17 0 (by decide) (by decide) (by decide)) ha17_5007
              have ha39_5003 : h5002 (L 39) = some (.inl (E.2.1 3, 961, .inl (f 39)), L 0) := hu_n hh (hLay.1 39 16 (by decide) (by decide) (by decide)) ha39
              have ha39_5006 : h5006 (L 39) = some (.inl (E.2.1 3, 961, .inl (f 39)), L 0) := hF5006 _ _ ha39_5003 (fun ⟨i, hi, e⟩ => hLay.2 i 0 hi (by decide) e.symm)
              have ha39_5007 : h5007 (L 39) = some (.inl (E.2.1 3, 961, .inl (f 39)), L 0) := hF5007 _ _ ha39_5006 (fun ⟨i, hi, e⟩ => hLay.2 i 0 hi (by decide) e.symm)
              have ha39_5009 : h5009 (L 39) = some (.inl (E.2.1 3, 961, .inl (f 39)), L 0) := hu_n eh5009 (hLay.1 39 0 (by decide) (by decide) (by decide)) ha39_5007
              have hSt_5007 : Stt E L B h5007 := Stt.kept hF5007 (fun ⟨i, hi, e⟩ => hLay.2 i 30 hi (by decide) e.symm) hSt_5006
              have hSt_5009 : Stt E L B h5009 := Stt.kept (O := (· = L 0)) (hu_f eh5009 Fr.rf ho0_5007 rfl) (hLay.1 30 0 (by decide) (by decide) (by decide)) hSt_5007
              have hPr_5006 : Prs L B pw pl ps h5006 := Prs.kept hF5006 (fun ⟨i, hi, e⟩ => hLay.2 i 24 hi (by decide) e.symm) hPr_5003
              have hPr_5007 : Prs L B pw pl ps h5007 := Prs.kept hF5007 (fun ⟨i, hi, e⟩ => hLay.2 i 24 hi (by decide) e.symm) hPr_5006
              have hPr_5009 : Prs L B pw pl ps h5009 := Prs.kept (O := (· = L 0)) (hu_f eh5009 Fr.rf ho0_5007 rfl) (hLay.1 24 0 (by decide) (by decide) (by decide)) hPr_5007
              have hCn_5003 : Cns h5002 E L (nI1 (M 8)) (N 10) := Cns.kept (O := (· = L 0)) (hu_f hh Fr.rf ha16 rfl) (hLay.1 26 0 (by decide) (by decide) (by decide)) hCn
              have hCn_5006 : Cns h5006 E L (nI1 (M 8)) (N 10) := Cns.kept hF5006 (fun ⟨i, hi, e⟩ => hLay.2 i 26 hi (by decide) e.symm) hCn_5003
              have hCn_5007 : Cns h5007 E L (nI1 (M 8)) (N 10) := Cns.kept hF5007 (fun ⟨i, hi, e⟩ => hLay.2 i 26 hi (by decide) e.symm) hCn_5006
              have hCn_5009 : Cns h5009 E L (nI1 (M 8)) (N 10) := Cns.kept (O := (· = L 0)) (hu_f eh5009 Fr.rf ho0_5007 rfl) (hLay.1 26 0 (by decide) (by decide) (by decide)) hCn_5007
              have hSd_5003 : Sds h5002 E L (nI1 (M 6)) (N 9) := Sds.kept (O := (· = L 0)) (hu_f hh Fr.rf ha16 rfl) (hLay.1 27 0 (by decide) (by decide) (by decide)) hSd
              have hSd_5006 : Sds h5006 E L (nI1 (M 6)) (N 9) := Sds.kept hF5006 (fun ⟨i, hi, e⟩ => hLay.2 i 27 hi (by decide) e.symm) hSd_5003
              have hSd_5007 : Sds h5007 E L (nI1 (M 6)) (N 9) := Sds.kept hF5007 (fun ⟨i, hi, e⟩ => hLay.2 i 27 hi (by decide) e.symm) hSd_5006
              have hSd_5009 : Sds h5009 E L (nI1 (M 6)) (N 9) := Sds.kept (O := (· = L 0)) (hu_f eh5009 Fr.rf ho0_5007 rfl) (hLay.1 27 0 (by decide) (by decide) (by decide)) hSd_5007
              have hDg_5003 : Dgo h5002 E L rs := Dgo.kept (O := (· = L 0)) (hu_f hh Fr.rf ha16 rfl) (hLay.1 62 0 (by decide) (by decide) (by decide)) hDg
              have hDg_5006 : Dgo h5006 E L rs := Dgo.kept hF5006 (fun ⟨i, hi, e⟩ => hLay.2 i 62 hi (by decide) e.symm) hDg_5003
              have hDg_5007 : Dgo h5007 E L rs := Dgo.kept hF5007 (fun ⟨i, hi, e⟩ => hLay.2 i 62 hi (by decide) e.symm) hDg_5006
              have hDg_5009 : Dgo h5009 E L rs := Dgo.kept (O := (· = L 0)) (hu_f eh5009 Fr.rf ho0_5007 rfl) (hLay.1 62 0 (by decide) (by decide) (by decide)) hDg_5007
              have hB5007_5009 : Bgs E h5009 B V5007 c5007 := Bgs.kept (O := (· = L 0)) (hu_f eh5009 Fr.rf ho0_5007 rfl) (fun i hi => hLay.2 i 0 hi (by decide)) hB5007
              exact Z _ _ _ _ _ _ _ dX1_look_98 (by have hgw := (hW5007); have hg1 := hgw.1; have hg2 := hgw.2; have hkm := hB5007_5009.kmax; show 0 + dc5006 + dc5007 ≤ (KX - ksum cp NB) / 8 + 8; omega) (by have hgw := (hW5007); have hg1 := hgw.1; have hg2 := hgw.2; have hkm := hB5007_5009.kmax; show 0 + ds5006 + ds5007 ≤ 2 * (KX - ksum cp NB) + 2048; omega) ⟨rfl, _, by rw [lkM_eq]; exact ⟨pp, gu f 16 g16, rs, pw, pl, ps, V5007, ⟨ho0_5009, ha1_5009, ha3_5009, ha12_5009, ha13_5009, ha14_5009, ha15_5009, ha16_5009, ha17_5009, ha39_5009⟩, ⟨r1, r3, r12, r13, r14, fun _ => r15 l11, hg16b, r17, fun _ => rpp, rp16⟩, hVr2, hSt_5009, hPr_5009, hCn_5009, hSd_5009, hDg_5009, hB5007_5009⟩, hF_5009, hW5007⟩ T5009
            · have hst9 : lkst N M (G 2) rc sc = 4 := by unfold lkst; rw [if_neg (fun z => hsr2 (hsr.mp z)), if_pos c6]
              refine lv_iconst (v := nI 4) hx hb dX1_look_90 rfl ?_
              refine lv_goto (tgt := 95) hx hb dX1_look_91 (by decide) ?_
              rw [show nI 4 = nI (lkst N M (G 2) rc sc) from (by rw [hst9])]
              rw [lkM_eq] at hVr2
              have hg16b := hg16
              refine hr_put C T5007 ho0_5007 rfl in_X1 tyX1 tyX1_ok nmX1 17 (by decide) q312 rfl rfl rfl rfl (Nat.le_of_ble_eq_true rfl) dX1_look_95 (fun h5010 H5010 locs5010 eh5010 T5010 => ?_)
              have ho0_5010 : h5010 (L 0) = some (.inr (0, [.ref (L 1), .int (nI (N 0)), .ref (L 3), .int (nI (N 1)), .int (nI (N 2)), .int (nI (N 3)), .int (nI (N 4)), .int (nI (N 5)), .int (nI (N 6)), .int (nI (N 7)), .int (nI (N 8)), .ref (L 12), .ref (L 13), .ref (L 14), .ref (L 15), .ref (L 16), .ref (L 17), .int (nI (lkst N M (G 2) rc sc)), .int (nI (N 15)), .int (nI (N 16)), .int (nI (N 17)), .int (nI (N 18) - 1), .int (nI (N 19)), .ref (L 24), .int (nI pp), .ref (L 26), .ref (L 27), .ref (if N 13 = 1 then L 27 else L 26), .ref (L 29), .ref (L 30), .ref (if N 12 = 1 then L 30 else L 29), .ref (L 32), .ref (B 0), .ref (B 1), .ref (B 2), .ref (B 3), .ref (L 37), .ref (L 38), .ref (L 39), .ref (B 4), .ref (B 5)]), L 0) := hu_s eh5010
              have hF_5010 : Fr (CO L B) h h5010 := hu_f eh5010 hF_5007 ho0_5007 (Or.inl rfl)
              have ha1_5006 : h5006 (L 1) = some (.inl (E.2.1 0, 8, .inl (f 1)), L 0) := hF5006 _ _ ha1_5003 (fun ⟨i, hi, e⟩ => hLay.2 i 0 hi (by decide) e.symm)
              have ha1_5007 : h5007 (L 1) = some (.inl (E.2.1 0, 8, .inl (f 1)), L 0) := hF5007 _ _ ha1_5006 (fun ⟨i, hi, e⟩ => hLay.2 i 0 hi (by decide) e.symm)
              have ha1_5010 : h5010 (L 1) = some (.inl (E.2.1 0, 8, .inl (f 1)), L 0) := hu_n eh5010 (hLay.1 1 0 (by decide) (by decide) (by decide)) ha1_5007
              have ha3_5003 : h5002 (L 3) = some (.inl (E.2.1 0, 64, .inl (f 3)), L 0) := hu_n hh (hLay.1 3 16 (by decide) (by decide) (by decide)) ha3
              have ha3_5006 : h5006 (L 3) = some (.inl (E.2.1 0, 64, .inl (f 3)), L 0) := hF5006 _ _ ha3_5003 (fun ⟨i, hi, e⟩ => hLay.2 i 0 hi (by decide) e.symm)
              have ha3_5007 : h5007 (L 3) = some (.inl (E.2.1 0, 64, .inl (f 3)), L 0) := hF5007 _ _ ha3_5006 (fun ⟨i, hi, e⟩ => hLay.2 i 0 hi (by decide) e.symm)
              have ha3_5010 : h5010 (L 3) = some (.inl (E.2.1 0, 64, .inl (f 3)), L 0) := hu_n eh5010 (hLay.1 3 0 (by decide) (by decide) (by decide)) ha3_5007
              have ha12_5003 : h5002 (L 12) = some (.inl (E.2.1 1, 20000, .inl (f 12)), L 0) := hu_n hh (hLay.1 12 16 (by decide) (by decide) (by decide)) ha12
              have ha12_5006 : h5006 (L 12) = some (.inl (E.2.1 1, 20000, .inl (f 12)), L 0) := hF5006 _ _ ha12_5003 (fun ⟨i, hi, e⟩ => hLay.2 i 0 hi (by decide) e.symm)
              have ha12_5007 : h5007 (L 12) = some (.inl (E.2.1 1, 20000, .inl (f 12)), L 0) := hF5007 _ _ ha12_5006 (fun ⟨i, hi, e⟩ => hLay.2 i 0 hi (by decide) e.symm)
              have ha12_5010 : h5010 (L 12) = some (.inl (E.2.1 1, 20000, .inl (f 12)), L 0) := hu_n eh5010 (hLay.1 12 0 (by decide) (by decide) (by decide)) ha12_5007
              have ha13_5003 : h5002 (L 13) = some (.inl (E.2.1 1, 20000, .inl (f 13)), L 0) := hu_n hh (hLay.1 13 16 (by decide) (by decide) (by decide)) ha13
              have ha13_5006 : h5006 (L 13) = some (.inl (E.2.1 1, 20000, .inl (f 13)), L 0) := hF5006 _ _ ha13_5003 (fun ⟨i, hi, e⟩ => hLay.2 i 0 hi (by decide) e.symm)
              have ha13_5007 : h5007 (L 13) = some (.inl (E.2.1 1, 20000, .inl (f 13)), L 0) := hF5007 _ _ ha13_5006 (fun ⟨i, hi, e⟩ => hLay.2 i 0 hi (by decide) e.symm)
              have ha13_5010 : h5010 (L 13) = some (.inl (E.2.1 1, 20000, .inl (f 13)), L 0) := hu_n eh5010 (hLay.1 13 0 (by decide) (by decide) (by decide)) ha13_5007
              have ha14_5003 : h5002 (L 14) = some (.inl (E.2.1 2, 20000, .inl (f 14)), L 0) := hu_n hh (hLay.1 14 16 (by decide) (by decide) (by decide)) ha14
              have ha14_5006 : h5006 (L 14) = some (.inl (E.2.1 2, 20000, .inl (f 14)), L 0) := hF5006 _ _ ha14_5003 (fun ⟨i, hi, e⟩ => hLay.2 i 0 hi (by decide) e.symm)
              have ha14_5007 : h5007 (L 14) = some (.inl (E.2.1 2, 20000, .inl (f 14)), L 0) := hF5007 _ _ ha14_5006 (fun ⟨i, hi, e⟩ => hLay.2 i 0 hi (by decide) e.symm)
              have ha14_5010 : h5010 (L 14) = some (.inl (E.2.1 2, 20000, .inl (f 14)), L 0) := hu_n eh5010 (hLay.1 14 0 (by decide) (by decide) (by decide)) ha14_5007
              have ha15_5003 : h5002 (L 15) = some (.inl (E.2.1 3, 8, .inl (f 15)), L 0) := hu_n hh (hLay.1 15 16 (by decide) (by decide) (by decide)) ha15
              have ha15_5006 : h5006 (L 15) = some (.inl (E.2.1 3, 8, .inl (f 15)), L 0) := hF5006 _ _ ha15_5003 (fun ⟨i, hi, e⟩ => hLay.2 i 0 hi (by decide) e.symm)
              have ha15_5007 : h5007 (L 15) = some (.inl (E.2.1 3, 8, .inl (f 15)), L 0) := hF5007 _ _ ha15_5006 (fun ⟨i, hi, e⟩ => hLay.2 i 0 hi (by decide) e.symm)
              have ha15_5010 : h5010 (L 15) = some (.inl (E.2.1 3, 8, .inl (f 15)), L 0) := hu_n eh5010 (hLay.1 15 0 (by decide) (by decide) (by decide)) ha15_5007
              have ha16_5006 : h5006 (L 16) = some (.inl (E.2.1 0, 8, .inl g16), L 0) := hF5006 _ _ ha16_5002 (fun ⟨i, hi, e⟩ => hLay.2 i 0 hi (by decide) e.symm)
              have ha16_5007 : h5007 (L 16) = some (.inl (E.2.1 0, 8, .inl g16), L 0) := hF5007 _ _ ha16_5006 (fun ⟨i, hi, e⟩ => hLay.2 i 0 hi (by decide) e.symm)
              have ha16_5010 : h5010 (L 16) = some (.inl (E.2.1 0, 8, .inl g16), L 0) := hu_n eh5010 (hLay.1 16 0 (by decide) (by decide) (by decide)) ha16_5007
              have ha17_5003 : h5002 (L 17) = some (.inl (E.2.1 0, 8, .inl (f 17)), L 0) := hu_n hh (hLay.1 17 16 (by decide) (by decide) (by decide)) ha17
              have ha17_5006 : h5006 (L 17) = some (.inl (E.2.1 0, 8, .inl (f 17)), L 0) := hF5006 _ _ ha17_5003 (fun ⟨i, hi, e⟩ => hLay.2 i 0 hi (by decide) e.symm)
              have ha17_5007 : h5007 (L 17) = some (.inl (E.2.1 0, 8, .inl (f 17)), L 0) := hF5007 _ _ ha17_5006 (fun ⟨i, hi, e⟩ => hLay.2 i 0 hi (by decide) e.symm)
              have ha17_5010 : h5010 (L 17) = some (.inl (E.2.1 0, 8, .inl (f 17)), L 0) := hu_n eh5010 (hLay.1 17 0 (by decide) (by decide) (by decide)) ha17_5007
              have ha39_5003 : h5002 (L 39) = some (.inl (E.2.1 3, 961, .inl (f 39)), L 0) := hu_n hh (hLay.1 39 16 (by decide) (by decide) (by decide)) ha39
              have ha39_5006 : h5006 (L 39) = some (.inl (E.2.1 3, 961, .inl (f 39)), L 0) := hF5006 _ _ ha39_5003 (fun ⟨i, hi, e⟩ => hLay.2 i 0 hi (by decide) e.symm)
              have ha39_5007 : h5007 (L 39) = some (.inl (E.2.1 3, 961, .inl (f 39)), L 0) := hF5007 _ _ ha39_5006 (fun ⟨i, hi, e⟩ => hLay.2 i 0 hi (by decide) e.symm)
              have ha39_5010 : h5010 (L 39) = some (.inl (E.2.1 3, 961, .inl (f 39)), L 0) := hu_n eh5010 (hLay.1 39 0 (by decide) (by decide) (by decide)) ha39_5007
              have hSt_5007 : Stt E L B h5007 := Stt.kept hF5007 (fun ⟨i, hi, e⟩ => hLay.2 i 30 hi (by decide) e.symm) hSt_5006
              have hSt_5010 : Stt E L B h5010 := Stt.kept (O := (· = L 0)) (hu_f eh5010 Fr.rf ho0_5007 rfl) (hLay.1 30 0 (by decide) (by decide) (by decide)) hSt_5007
              have hPr_5006 : Prs L B pw pl ps h5006 := Prs.kept hF5006 (fun ⟨i, hi, e⟩ => hLay.2 i 24 hi (by decide) e.symm) hPr_5003
              have hPr_5007 : Prs L B pw pl ps h5007 := Prs.kept hF5007 (fun ⟨i, hi, e⟩ => hLay.2 i 24 hi (by decide) e.symm) hPr_5006
              have hPr_5010 : Prs L B pw pl ps h5010 := Prs.kept (O := (· = L 0)) (hu_f eh5010 Fr.rf ho0_5007 rfl) (hLay.1 24 0 (by decide) (by decide) (by decide)) hPr_5007
              have hCn_5003 : Cns h5002 E L (nI1 (M 8)) (N 10) := Cns.kept (O := (· = L 0)) (hu_f hh Fr.rf ha16 rfl) (hLay.1 26 0 (by decide) (by decide) (by decide)) hCn
              have hCn_5006 : Cns h5006 E L (nI1 (M 8)) (N 10) := Cns.kept hF5006 (fun ⟨i, hi, e⟩ => hLay.2 i 26 hi (by decide) e.symm) hCn_5003
              have hCn_5007 : Cns h5007 E L (nI1 (M 8)) (N 10) := Cns.kept hF5007 (fun ⟨i, hi, e⟩ => hLay.2 i 26 hi (by decide) e.symm) hCn_5006
              have hCn_5010 : Cns h5010 E L (nI1 (M 8)) (N 10) := Cns.kept (O := (· = L 0)) (hu_f eh5010 Fr.rf ho0_5007 rfl) (hLay.1 26 0 (by decide) (by decide) (by decide)) hCn_5007
              have hSd_5003 : Sds h5002 E L (nI1 (M 6)) (N 9) := Sds.kept (O := (· = L 0)) (hu_f hh Fr.rf ha16 rfl) (hLay.1 27 0 (by decide) (by decide) (by decide)) hSd
              have hSd_5006 : Sds h5006 E L (nI1 (M 6)) (N 9) := Sds.kept hF5006 (fun ⟨i, hi, e⟩ => hLay.2 i 27 hi (by decide) e.symm) hSd_5003
              have hSd_5007 : Sds h5007 E L (nI1 (M 6)) (N 9) := Sds.kept hF5007 (fun ⟨i, hi, e⟩ => hLay.2 i 27 hi (by decide) e.symm) hSd_5006
              have hSd_5010 : Sds h5010 E L (nI1 (M 6)) (N 9) := Sds.kept (O := (· = L 0)) (hu_f eh5010 Fr.rf ho0_5007 rfl) (hLay.1 27 0 (by decide) (by decide) (by decide)) hSd_5007
              have hDg_5003 : Dgo h5002 E L rs := Dgo.kept (O := (· = L 0)) (hu_f hh Fr.rf ha16 rfl) (hLay.1 62 0 (by decide) (by decide) (by decide)) hDg
              have hDg_5006 : Dgo h5006 E L rs := Dgo.kept hF5006 (fun ⟨i, hi, e⟩ => hLay.2 i 62 hi (by decide) e.symm) hDg_5003
              have hDg_5007 : Dgo h5007 E L rs := Dgo.kept hF5007 (fun ⟨i, hi, e⟩ => hLay.2 i 62 hi (by decide) e.symm) hDg_5006
              have hDg_5010 : Dgo h5010 E L rs := Dgo.kept (O := (· = L 0)) (hu_f eh5010 Fr.rf ho0_5007 rfl) (hLay.1 62 0 (by decide) (by decide) (by decide)) hDg_5007
              have hB5007_5010 : Bgs E h5010 B V5007 c5007 := Bgs.kept (O := (· = L 0)) (hu_f eh5010 Fr.rf ho0_5007 rfl) (fun i hi => hLay.2 i 0 hi (by decide)) hB5007
              exact Z _ _ _ _ _ _ _ dX1_look_98 (by have hgw := (hW5007); have hg1 := hgw.1; have hg2 := hgw.2; have hkm := hB5007_5010.kmax; show 0 + dc5006 + dc5007 ≤ (KX - ksum cp NB) / 8 + 8; omega) (by have hgw := (hW5007); have hg1 := hgw.1; have hg2 := hgw.2; have hkm := hB5007_5010.kmax; show 0 + ds5006 + ds5007 ≤ 2 * (KX - ksum cp NB) + 2048; omega) ⟨rfl, _, by rw [lkM_eq]; exact ⟨pp, gu f 16 g16, rs, pw, pl, ps, V5007, ⟨ho0_5010, ha1_5010, ha3_5010, ha12_5010, ha13_5010, ha14_5010, ha15_5010, ha16_5010, ha17_5010, ha39_5010⟩, ⟨r1, r3, r12, r13, r14, fun _ => r15 l11, hg16b, r17, fun _ => rpp, rp16⟩, hVr2, hSt_5010, hPr_5010, hCn_5010, hSd_5010, hDg_5010, hB5007_5010⟩, hF_5010, hW5007⟩ T5010
          · have hsr2 : lk20 N M rc sc * N 6 ≤ lk21 N M rc sc * N 5 := Decidable.byContradiction fun z => c5 (by rw [if_neg z])
            have hst9 : lkst N M (G 2) rc sc = 3 := by unfold lkst; rw [if_pos (hsr.mpr hsr2)]
            refine lv_iconst (v := nI 3) hx hb dX1_look_75 rfl ?_
            refine lv_goto (tgt := 95) hx hb dX1_look_76 (by decide) ?_
            rw [show nI 3 = nI (lkst N M (G 2) rc sc) from (by rw [hst9])]
            rw [lkM_eq] at hVr2
            have hg16b := hg16
            have ho0_5007 : h5007 (L 0) = some (.inr (0, [.ref (L 1), .int (nI (N 0)), .ref (L 3), .int (nI (N 1)), .int (nI (N 2)), .int (nI (N 3)), .int (nI (N 4)), .int (nI (N 5)), .int (nI (N 6)), .int (nI (N 7)), .int (nI (N 8)), .ref (L 12), .ref (L 13), .ref (L 14), .ref (L 15), .ref (L 16), .ref (L 17), .int (nI (N 11)), .int (nI (N 15)), .int (nI (N 16)), .int (nI (N 17)), .int (nI (N 18) - 1), .int (nI (N 19)), .ref (L 24), .int (nI pp), .ref (L 26), .ref (L 27), .ref (if N 13 = 1 then L 27 else L 26), .ref (L 29), .ref (L 30), .ref (if N 12 = 1 then L 30 else L 29), .ref (L 32), .ref (B 0), .ref (B 1), .ref (B 2), .ref (B 3), .ref (L 37), .ref (L 38), .ref (L 39), .ref (B 4), .ref (B 5)]), L 0) := hF5007 _ _ ho0_5006 (fun ⟨i, hi, e⟩ => hLay.2 i 0 hi (by decide) e.symm)
            refine hr_put C T5007 ho0_5007 rfl in_X1 tyX1 tyX1_ok nmX1 17 (by decide) q312 rfl rfl rfl rfl (Nat.le_of_ble_eq_true rfl) dX1_look_95 (fun h5008 H5008 locs5008 eh5008 T5008 => ?_)
            have ho0_5008 : h5008 (L 0) = some (.inr (0, [.ref (L 1), .int (nI (N 0)), .ref (L 3), .int (nI (N 1)), .int (nI (N 2)), .int (nI (N 3)), .int (nI (N 4)), .int (nI (N 5)), .int (nI (N 6)), .int (nI (N 7)), .int (nI (N 8)), .ref (L 12), .ref (L 13), .ref (L 14), .ref (L 15), .ref (L 16), .ref (L 17), .int (nI (lkst N M (G 2) rc sc)), .int (nI (N 15)), .int (nI (N 16)), .int (nI (N 17)), .int (nI (N 18) - 1), .int (nI (N 19)), .ref (L 24), .int (nI pp), .ref (L 26), .ref (L 27), .ref (if N 13 = 1 then L 27 else L 26), .ref (L 29), .ref (L 30), .ref (if N 12 = 1 then L 30 else L 29), .ref (L 32), .ref (B 0), .ref (B 1), .ref (B 2), .ref (B 3), .ref (L 37), .ref (L 38), .ref (L 39), .ref (B 4), .ref (B 5)]), L 0) := hu_s eh5008
            have hF_5008 : Fr (CO L B) h h5008 := hu_f eh5008 hF_5007 ho0_5007 (Or.inl rfl)
            have ha1_5006 : h5006 (L 1) = some (.inl (E.2.1 0, 8, .inl (f 1)), L 0) := hF5006 _ _ ha1_5003 (fun ⟨i, hi, e⟩ => hLay.2 i 0 hi (by decide) e.symm)
            have ha1_5007 : h5007 (L 1) = some (.inl (E.2.1 0, 8, .inl (f 1)), L 0) := hF5007 _ _ ha1_5006 (fun ⟨i, hi, e⟩ => hLay.2 i 0 hi (by decide) e.symm)
            have ha1_5008 : h5008 (L 1) = some (.inl (E.2.1 0, 8, .inl (f 1)), L 0) := hu_n eh5008 (hLay.1 1 0 (by decide) (by decide) (by decide)) ha1_5007
            have ha3_5003 : h5002 (L 3) = some (.inl (E.2.1 0, 64, .inl (f 3)), L 0) := hu_n hh (hLay.1 3 16 (by decide) (by decide) (by decide)) ha3
            have ha3_5006 : h5006 (L 3) = some (.inl (E.2.1 0, 64, .inl (f 3)), L 0) := hF5006 _ _ ha3_5003 (fun ⟨i, hi, e⟩ => hLay.2 i 0 hi (by decide) e.symm)
            have ha3_5007 : h5007 (L 3) = some (.inl (E.2.1 0, 64, .inl (f 3)), L 0) := hF5007 _ _ ha3_5006 (fun ⟨i, hi, e⟩ => hLay.2 i 0 hi (by decide) e.symm)
            have ha3_5008 : h5008 (L 3) = some (.inl (E.2.1 0, 64, .inl (f 3)), L 0) := hu_n eh5008 (hLay.1 3 0 (by decide) (by decide) (by decide)) ha3_5007
            have ha12_5003 : h5002 (L 12) = some (.inl (E.2.1 1, 20000, .inl (f 12)), L 0) := hu_n hh (hLay.1 12 16 (by decide) (by decide) (by decide)) ha12
            have ha12_5006 : h5006 (L 12) = some (.inl (E.2.1 1, 20000, .inl (f 12)), L 0) := hF5006 _ _ ha12_5003 (fun ⟨i, hi, e⟩ => hLay.2 i 0 hi (by decide) e.symm)
            have ha12_5007 : h5007 (L 12) = some (.inl (E.2.1 1, 20000, .inl (f 12)), L 0) := hF5007 _ _ ha12_5006 (fun ⟨i, hi, e⟩ => hLay.2 i 0 hi (by decide) e.symm)
            have ha12_5008 : h5008 (L 12) = some (.inl (E.2.1 1, 20000, .inl (f 12)), L 0) := hu_n eh5008 (hLay.1 12 0 (by decide) (by decide) (by decide)) ha12_5007
            have ha13_5003 : h5002 (L 13) = some (.inl (E.2.1 1, 20000, .inl (f 13)), L 0) := hu_n hh (hLay.1 13 16 (by decide) (by decide) (by decide)) ha13
            have ha13_5006 : h5006 (L 13) = some (.inl (E.2.1 1, 20000, .inl (f 13)), L 0) := hF5006 _ _ ha13_5003 (fun ⟨i, hi, e⟩ => hLay.2 i 0 hi (by decide) e.symm)
            have ha13_5007 : h5007 (L 13) = some (.inl (E.2.1 1, 20000, .inl (f 13)), L 0) := hF5007 _ _ ha13_5006 (fun ⟨i, hi, e⟩ => hLay.2 i 0 hi (by decide) e.symm)
            have ha13_5008 : h5008 (L 13) = some (.inl (E.2.1 1, 20000, .inl (f 13)), L 0) := hu_n eh5008 (hLay.1 13 0 (by decide) (by decide) (by decide)) ha13_5007
            have ha14_5003 : h5002 (L 14) = some (.inl (E.2.1 2, 20000, .inl (f 14)), L 0) := hu_n hh (hLay.1 14 16 (by decide) (by decide) (by decide)) ha14
            have ha14_5006 : h5006 (L 14) = some (.inl (E.2.1 2, 20000, .inl (f 14)), L 0) := hF5006 _ _ ha14_5003 (fun ⟨i, hi, e⟩ => hLay.2 i 0 hi (by decide) e.symm)
            have ha14_5007 : h5007 (L 14) = some (.inl (E.2.1 2, 20000, .inl (f 14)), L 0) := hF5007 _ _ ha14_5006 (fun ⟨i, hi, e⟩ => hLay.2 i 0 hi (by decide) e.symm)
            have ha14_5008 : h5008 (L 14) = some (.inl (E.2.1 2, 20000, .inl (f 14)), L 0) := hu_n eh5008 (hLay.1 14 0 (by decide) (by decide) (by decide)) ha14_5007
            have ha15_5003 : h5002 (L 15) = some (.inl (E.2.1 3, 8, .inl (f 15)), L 0) := hu_n hh (hLay.1 15 16 (by decide) (by decide) (by decide)) ha15
            have ha15_5006 : h5006 (L 15) = some (.inl (E.2.1 3, 8, .inl (f 15)), L 0) := hF5006 _ _ ha15_5003 (fun ⟨i, hi, e⟩ => hLay.2 i 0 hi (by decide) e.symm)
            have ha15_5007 : h5007 (L 15) = some (.inl (E.2.1 3, 8, .inl (f 15)), L 0) := hF5007 _ _ ha15_5006 (fun ⟨i, hi, e⟩ => hLay.2 i 0 hi (by decide) e.symm)
            have ha15_5008 : h5008 (L 15) = some (.inl (E.2.1 3, 8, .inl (f 15)), L 0) := hu_n eh5008 (hLay.1 15 0 (by decide) (by decide) (by decide)) ha15_5007
            have ha16_5006 : h5006 (L 16) = some (.inl (E.2.1 0, 8, .inl g16), L 0) := hF5006 _ _ ha16_5002 (fun ⟨i, hi, e⟩ => hLay.2 i 0 hi (by decide) e.symm)
            have ha16_5007 : h5007 (L 16) = some (.inl (E.2.1 0, 8, .inl g16), L 0) := hF5007 _ _ ha16_5006 (fun ⟨i, hi, e⟩ => hLay.2 i 0 hi (by decide) e.symm)
            have ha16_5008 : h5008 (L 16) = some (.inl (E.2.1 0, 8, .inl g16), L 0) := hu_n eh5008 (hLay.1 16 0 (by decide) (by decide) (by decide)) ha16_5007
            have ha17_5003 : h5002 (L 17) = some (.inl (E.2.1 0, 8, .inl (f 17)), L 0) := hu_n hh (hLay.1 17 16 (by decide) (by decide) (by decide)) ha17
            have ha17_5006 : h5006 (L 17) = some (.inl (E.2.1 0, 8, .inl (f 17)), L 0) := hF5006 _ _ ha17_5003 (fun ⟨i, hi, e⟩ => hLay.2 i 0 hi (by decide) e.symm)
            have ha17_5007 : h5007 (L 17) = some (.inl (E.2.1 0, 8, .inl (f 17)), L 0) := hF5007 _ _ ha17_5006 (fun ⟨i, hi, e⟩ => hLay.2 i 0 hi (by decide) e.symm)
            have ha17_5008 : h5008 (L 17) = some (.inl (E.2.1 0, 8, .inl (f 17)), L 0) := hu_n eh5008 (hLay.1 17 0 (by decide) (by decide) (by decide)) ha17_5007
            have ha39_5003 : h5002 (L 39) = some (.inl (E.2.1 3, 961, .inl (f 39)), L 0) := hu_n hh (hLay.1 39 16 (by decide) (by decide) (by decide)) ha39
            have ha39_5006 : h5006 (L 39) = some (.inl (E.2.1 3, 961, .inl (f 39)), L 0) := hF5006 _ _ ha39_5003 (fun ⟨i, hi, e⟩ => hLay.2 i 0 hi (by decide) e.symm)
            have ha39_5007 : h5007 (L 39) = some (.inl (E.2.1 3, 961, .inl (f 39)), L 0) := hF5007 _ _ ha39_5006 (fun ⟨i, hi, e⟩ => hLay.2 i 0 hi (by decide) e.symm)
            have ha39_5008 : h5008 (L 39) = some (.inl (E.2.1 3, 961, .inl (f 39)), L 0) := hu_n eh5008 (hLay.1 39 0 (by decide) (by decide) (by decide)) ha39_5007
            have hSt_5007 : Stt E L B h5007 := Stt.kept hF5007 (fun ⟨i, hi, e⟩ => hLay.2 i 30 hi (by decide) e.symm) hSt_5006
            have hSt_5008 : Stt E L B h5008 := Stt.kept (O := (· = L 0)) (hu_f eh5008 Fr.rf ho0_5007 rfl) (hLay.1 30 0 (by decide) (by decide) (by decide)) hSt_5007
            have hPr_5006 : Prs L B pw pl ps h5006 := Prs.kept hF5006 (fun ⟨i, hi, e⟩ => hLay.2 i 24 hi (by decide) e.symm) hPr_5003
            have hPr_5007 : Prs L B pw pl ps h5007 := Prs.kept hF5007 (fun ⟨i, hi, e⟩ => hLay.2 i 24 hi (by decide) e.symm) hPr_5006
            have hPr_5008 : Prs L B pw pl ps h5008 := Prs.kept (O := (· = L 0)) (hu_f eh5008 Fr.rf ho0_5007 rfl) (hLay.1 24 0 (by decide) (by decide) (by decide)) hPr_5007
            have hCn_5003 : Cns h5002 E L (nI1 (M 8)) (N 10) := Cns.kept (O := (· = L 0)) (hu_f hh Fr.rf ha16 rfl) (hLay.1 26 0 (by decide) (by decide) (by decide)) hCn
            have hCn_5006 : Cns h5006 E L (nI1 (M 8)) (N 10) := Cns.kept hF5006 (fun ⟨i, hi, e⟩ => hLay.2 i 26 hi (by decide) e.symm) hCn_5003
            have hCn_5007 : Cns h5007 E L (nI1 (M 8)) (N 10) := Cns.kept hF5007 (fun ⟨i, hi, e⟩ => hLay.2 i 26 hi (by decide) e.symm) hCn_5006
            have hCn_5008 : Cns h5008 E L (nI1 (M 8)) (N 10) := Cns.kept (O := (· = L 0)) (hu_f eh5008 Fr.rf ho0_5007 rfl) (hLay.1 26 0 (by decide) (by decide) (by decide)) hCn_5007
            have hSd_5003 : Sds h5002 E L (nI1 (M 6)) (N 9) := Sds.kept (O := (· = L 0)) (hu_f hh Fr.rf ha16 rfl) (hLay.1 27 0 (by decide) (by decide) (by decide)) hSd
            have hSd_5006 : Sds h5006 E L (nI1 (M 6)) (N 9) := Sds.kept hF5006 (fun ⟨i, hi, e⟩ => hLay.2 i 27 hi (by decide) e.symm) hSd_5003
            have hSd_5007 : Sds h5007 E L (nI1 (M 6)) (N 9) := Sds.kept hF5007 (fun ⟨i, hi, e⟩ => hLay.2 i 27 hi (by decide) e.symm) hSd_5006
            have hSd_5008 : Sds h5008 E L (nI1 (M 6)) (N 9) := Sds.kept (O := (· = L 0)) (hu_f eh5008 Fr.rf ho0_5007 rfl) (hLay.1 27 0 (by decide) (by decide) (by decide)) hSd_5007
            have hDg_5003 : Dgo h5002 E L rs := Dgo.kept (O := (· = L 0)) (hu_f hh Fr.rf ha16 rfl) (hLay.1 62 0 (by decide) (by decide) (by decide)) hDg
            have hDg_5006 : Dgo h5006 E L rs := Dgo.kept hF5006 (fun ⟨i, hi, e⟩ => hLay.2 i 62 hi (by decide) e.symm) hDg_5003
            have hDg_5007 : Dgo h5007 E L rs := Dgo.kept hF5007 (fun ⟨i, hi, e⟩ => hLay.2 i 62 hi (by decide) e.symm) hDg_5006
            have hDg_5008 : Dgo h5008 E L rs := Dgo.kept (O := (· = L 0)) (hu_f eh5008 Fr.rf ho0_5007 rfl) (hLay.1 62 0 (by decide) (by decide) (by decide)) hDg_5007
            have hB5007_5008 : Bgs E h5008 B V5007 c5007 := Bgs.kept (O := (· = L 0)) (hu_f eh5008 Fr.rf ho0_5007 rfl) (fun i hi => hLay.2 i 0 hi (by decide)) hB5007
            exact Z _ _ _ _ _ _ _ dX1_look_98 (by have hgw := (hW5007); have hg1 := hgw.1; have hg2 := hgw.2; have hkm := hB5007_5008.kmax; show 0 + dc5006 + dc5007 ≤ (KX - ksum cp NB) / 8 + 8; omega) (by have hgw := (hW5007); have hg1 := hgw.1; have hg2 := hgw.2; have hkm := hB5007_5008.kmax; show 0 + ds5006 + ds5007 ≤ 2 * (KX - ksum cp NB) + 2048; omega) ⟨rfl, _, by rw [lkM_eq]; exact ⟨pp, gu f 16 g16, rs, pw, pl, ps, V5007, ⟨ho0_5008, ha1_5008, ha3_5008, ha12_5008, ha13_5008, ha14_5008, ha15_5008, ha16_5008, ha17_5008, ha39_5008⟩, ⟨r1, r3, r12, r13, r14, fun _ => r15 l11, hg16b, r17, fun _ => rpp, rp16⟩, hVr2, hSt_5008, hPr_5008, hCn_5008, hSd_5008, hDg_5008, hB5007_5008⟩, hF_5008, hW5007⟩ T5008
        refine lv_icmp_ne (tgt := 46) hx hb dX1_look_39 (by decide) (fun c1 => ?_) (fun c1 => ?_)
        · obtain ⟨b, hb2, rfl, hs1, hr1⟩ : ∃ b, b < 20000 ∧ xb = nI b ∧ sc = G 1 b ∧ rc = G 0 b := by rcases hxx with q | q; exact absurd q.1 c1; exact q
          refine lv_aload_n hx hb dX1_look_46 rfl (lv_at hl5002 0 rfl) ?_
          refine hr_get C T5002 ho0_5003 rfl in_X1 11 (by decide) q306 rfl rfl dX1_look_47 ?_
          refine lv_iload_n hx hb dX1_look_50 rfl (lv_at hl5002 1 rfl) ?_
          have ha12_5003 : h5002 (L 12) = some (.inl (E.2.1 1, 20000, .inl (f 12)), L 0) := hu_n hh (hLay.1 12 16 (by decide) (by decide) (by decide)) ha12
          refine hr_bald C T5002 ha12_5003 (by omega) (by omega) dX1_look_51 ?_
          rw [show f 12 b = rc by rw [hr1]; exact r12 b hb2]
          exact J52 _ _ _ T5002 (lv_sub hl5002 [0, 1, 2] rfl)
        · have hr1 : rc = -1 := by rcases hxx with q | ⟨b, hb2, q, _⟩; exact q.2.2; (exfalso; have z1 := congrArg Int32.toInt c1; rw [q, nI_toInt (by omega)] at z1; have : (-2 : Int32).toInt = -2 := rfl; omega)
          refine lv_iconst (v := (-1)) hx hb dX1_look_42 rfl ?_
          refine lv_goto (tgt := 52) hx hb dX1_look_43 (by decide) ?_
          rw [show ((-1) : Int32) = rc from hr1.symm]
          exact J52 _ _ _ T5002 (lv_sub hl5002 [0, 1, 2] rfl)
      · have hlmk : ∀ k, k < pp → lm (V (19 + 2 * k)) ≤ 120 ∧ lm (V (20 + 2 * k)) ≤ 120 := fun k hk => by have h1 := hVr.2.2.2 l11 k (by omega); have h2 := ipr k (by omega); rw [h1.1, h1.2.1]; have h3 := pAB_lm (N := N) (k := k) iv ital (by omega) (by omega); omega
        have hSt_5003 : Stt E L B h5002 := Stt.kept (O := (· = L 0)) (hu_f hh Fr.rf ha16 rfl) (hLay.1 30 0 (by decide) (by decide) (by decide)) hSt
        have hst29x5011 := (hSt_5003).2.2.2.1
        refine lv_aload_n hx hb dX1_look_32 rfl (lv_at hl5002 0 rfl) ?_
        have ho0_5003 : h5002 (L 0) = some (.inr (0, [.ref (L 1), .int (nI (N 0)), .ref (L 3), .int (nI (N 1)), .int (nI (N 2)), .int (nI (N 3)), .int (nI (N 4)), .int (nI (N 5)), .int (nI (N 6)), .int (nI (N 7)), .int (nI (N 8)), .ref (L 12), .ref (L 13), .ref (L 14), .ref (L 15), .ref (L 16), .ref (L 17), .int (nI (N 11)), .int (nI (N 15)), .int (nI (N 16)), .int (nI (N 17)), .int (nI (N 18) - 1), .int (nI (N 19)), .ref (L 24), .int (nI pp), .ref (L 26), .ref (L 27), .ref (if N 13 = 1 then L 27 else L 26), .ref (L 29), .ref (L 30), .ref (if N 12 = 1 then L 30 else L 29), .ref (L 32), .ref (B 0), .ref (B 1), .ref (B 2), .ref (B 3), .ref (L 37), .ref (L 38), .ref (L 39), .ref (B 4), .ref (B 5)]), L 0) := hu_n hh (hLay.1 0 16 (by decide) (by decide) (by decide)) ho0
        refine hr_get C T5002 ho0_5003 rfl in_X1 30 (by decide) q329 rfl rfl dX1_look_33 ?_
        rw [if_neg c12]
        refine lv_iload_n hx hb dX1_look_36 rfl (lv_at hl5002 1 rfl) ?_
        refine lv_bipush (v := (-2)) hx hb dX1_look_37 rfl ?_
        have J52 : ∀  (H5012 : Heap) (locs5012 : List Loc) (ls5012 : Array Slot), (St E s h5002 H5012 locs5012) → (lv_has ls5012 3 [(0, .ref (L 0)), (1, .int xb), (2, .int sc)]) → W p l e ({ frames := 6, cells := (KX - ksum cp NB) / 8 + 8, slots := 2 * (KX - ksum cp NB) + 2048, locals := 900 } : Room) s m ([.ref (L 0), .int xb] : List Value).toArray below meth c H5012 locs5012 0 0 Q (F0 m 52 ls5012 [.int rc, .ref (L 29)]) := by
          intro  H5012 locs5012 ls5012 T5012 hl5012
          refine lv_iload_n hx hb dX1_look_52 rfl (lv_at hl5012 2 rfl) ?_
          refine lv_aload_n hx hb dX1_look_53 rfl (lv_at hl5012 0 rfl) ?_
          refine hr_get C T5012 ho0_5003 rfl in_X1 18 (by decide) q313 rfl rfl dX1_look_54 ?_
          have hB_5003 : Bgs E h5002 B V cp := Bgs.kept (O := (· = L 0)) (hu_f hh Fr.rf ha16 rfl) (fun i hi => hLay.2 i 0 hi (by decide)) hB
          have hPr_5003 : Prs L B pw pl ps h5002 := Prs.kept (O := (· = L 0)) (hu_f hh Fr.rf ha16 rfl) (hLay.1 24 0 (by decide) (by decide) (by decide)) hPr
          have ha1_5003 : h5002 (L 1) = some (.inl (E.2.1 0, 8, .inl (f 1)), L 0) := hu_n hh (hLay.1 1 16 (by decide) (by decide) (by decide)) ha1
          refine hg_F C T5012 hl5012.1 hst29x5011 rfl (m_X5_look (M := M) (g := f 1) hLay hB_5003 ho0_5003 hSt_5003 hPr_5003 rp16 ha1_5003 r1 iv hPW (by omega) (by omega) hlmk) 3 rfl q745 q790 q792 q57 q794 kdF_3 rfl rfl ⟨Nat.le_of_ble_eq_true rfl, Nat.le_of_ble_eq_true rfl⟩ (Nat.le_of_ble_eq_true rfl) dX1_look_57 ⟨by have hgw := (Gw.rf (cp := cp)); have hg1 := hgw.1; have hg2 := hgw.2; have hkm := hB_5003.kmax; show 0 + ((KX - ksum cp NB) / 8 + 8) ≤ (KX - ksum cp NB) / 8 + 8; omega, by have hgw := (Gw.rf (cp := cp)); have hg1 := hgw.1; have hg2 := hgw.2; have hkm := hB_5003.kmax; show 0 + (2 * (KX - ksum cp NB) + 2048) ≤ 2 * (KX - ksum cp NB) + 2048; omega⟩ (fun rv h5013 dc5013 ds5013 H5013 locs5013 hp5013 T5013 => ?_)
          obtain ⟨rfl, V5013, c5013, ps2, hB5013, hP5013, hvv, hkp, hF5013, hw5013⟩ := hp5013
          have hW5013 := (Gw.rf (cp := cp)).tr hw5013
          have hF_5013 : Fr (CO L B) h h5013 := hF_5002.tr (hF5013.mono (fun _ z => z.elim (fun z => Or.inr (Or.inl z)) (fun z => Or.inr (Or.inr (Or.inr (Or.inr (Or.inr z)))))))
          refine W.eq (g2 := F0 m 62 ls5012 []) rfl ?_
          have e20 : lk20 N M rc sc = N 20 := if_neg c12
          have e21 : lk21 N M rc sc = N 21 := if_neg c12
          have hpk : ∀ k, k < pp → V5013 (19 + 2 * k) = pA N (lkM M sc) k ∧ V5013 (20 + 2 * k) = pB N (lkM M sc) k ∧ ps2 k = lkg N M (G 2) sc k := fun k hk => by obtain ⟨q1, q2, q3⟩ := hvv k hk; obtain ⟨p1, p2, p3, p4, p5⟩ := hPW k hk; obtain ⟨v1, v2, v3, v4, v5⟩ := hVr.2.2.2 l11 k (by omega); have hne : M 4 k ≠ M 5 k := (fun z => by rw [z] at p5; omega); obtain ⟨w1, w2⟩ := pA_hit c12 p3 p4 hne hcc8 ⟨v1, v2⟩; exact ⟨q1.trans w1, q2.trans w2, q3.trans (fS_lkg c12 p3 p4 hne hcc8 ⟨v1, v2⟩ v5 (iun c12 k (by omega)))⟩
          refine lv_aload_n hx hb dX1_look_62 rfl (lv_at hl5012 0 rfl) ?_
          refine lv_aload_n hx hb dX1_look_63 rfl (lv_at hl5012 0 rfl) ?_
          have ho0_5013 : h5013 (L 0) = some (.inr (0, [.ref (L 1), .int (nI (N 0)), .ref (L 3), .int (nI (N 1)), .int (nI (N 2)), .int (nI (N 3)), .int (nI (N 4)), .int (nI (N 5)), .int (nI (N 6)), .int (nI (N 7)), .int (nI (N 8)), .ref (L 12), .ref (L 13), .ref (L 14), .ref (L 15), .ref (L 16), .ref (L 17), .int (nI (N 11)), .int (nI (N 15)), .int (nI (N 16)), .int (nI (N 17)), .int (nI (N 18) - 1), .int (nI (N 19)), .ref (L 24), .int (nI pp), .ref (L 26), .ref (L 27), .ref (if N 13 = 1 then L 27 else L 26), .ref (L 29), .ref (L 30), .ref (if N 12 = 1 then L 30 else L 29), .ref (L 32), .ref (B 0), .ref (B 1), .ref (B 2), .ref (B 3), .ref (L 37), .ref (L 38), .ref (L 39), .ref (B 4), .ref (B 5)]), L 0) := hF5013 _ _ ho0_5003 (fun z => z.elim (hLay.1 0 24 (by decide) (by decide) (by decide)) (fun ⟨i, hi, e⟩ => hLay.2 i 0 hi (by decide) e.symm))
          refine hr_get C T5013 ho0_5013 rfl in_X1 30 (by decide) q329 rfl rfl dX1_look_64 ?_
          rw [if_neg c12]
          have hSt_5013 : Stt E L B h5013 := Stt.kept hF5013 (fun z => z.elim (hLay.1 30 24 (by decide) (by decide) (by decide)) (fun ⟨i, hi, e⟩ => hLay.2 i 30 hi (by decide) e.symm)) hSt_5003
          have hst29x5011_5013 : h5013 (L 29) = some (.inr (5, [.ref (L 0)]), L 30) := hF5013 _ _ hst29x5011 (fun z => z.elim (hLay.1 30 24 (by decide) (by decide) (by decide)) (fun ⟨i, hi, e⟩ => hLay.2 i 30 hi (by decide) e.symm))
          refine hc_F C T5013 hl5012.1 hst29x5011_5013 rfl (m_X5_isSure hLay ho0_5013 hSt_5013 hP5013 rp16) 4 rfl q814 q824 q826 q57 q828 kdF_4 rfl rfl ⟨Nat.le_of_ble_eq_true rfl, Nat.le_of_ble_eq_true rfl⟩ (Nat.le_of_ble_eq_true rfl) dX1_look_67 ⟨by have hgw := (hW5013); have hg1 := hgw.1; have hg2 := hgw.2; have hkm := hB5013.kmax; show 0 + dc5013 + 0 ≤ (KX - ksum cp NB) / 8 + 8; omega, by have hgw := (hW5013); have hg1 := hgw.1; have hg2 := hgw.2; have hkm := hB5013.kmax; show 0 + ds5013 + 0 ≤ 2 * (KX - ksum cp NB) + 2048; omega⟩ (fun rv h5014 H5014 locs5014 hp5014 T5014 => ?_)
          obtain ⟨rfl, hq5014⟩ := hp5014
          rw [hq5014] at T5014
          refine W.eq (g2 := F0 m 72 ls5012 [.int (nI (asr ps2 pp)), .ref (L 0)]) rfl ?_
          have ha9 : asr ps2 pp = asr (lkg N M (G 2) sc) (N 14) := by rw [rpp]; exact asr_cong fun i hi => (hpk i (by omega)).2.2
          rw [ha9]
          have hal := asr_le (lkg N M (G 2) sc) (N 14)
          have hsr : (if N 12 = 1 then lk20 N M rc sc * N 6 ≤ lk21 N M rc sc * N 5 else asr (lkg N M (G 2) sc) (N 14) = 1) ↔ asr (lkg N M (G 2) sc) (N 14) = 1 := by rw [if_neg c12]
          have hVr2 : Vr V5013 pw pl ps2 (lkN N M (G 2) rc sc) (lkM M sc) (lkG N M G sc) := ⟨(hkp 2 (by decide) (by decide)).trans hVr.1, (hkp 3 (by decide) (by decide)).trans hVr.2.1, fun _ z => absurd z c12, fun _ k hk => by have hk9 : k < N 14 := hk; obtain ⟨v1, v2, v3, v4, v5⟩ := hVr.2.2.2 l11 k hk9; obtain ⟨q1, q2, q3⟩ := hpk k (by omega); exact ⟨q1, q2, by rw [lkM_ne (by decide)]; exact v3, by rw [lkM_ne (by decide)]; exact v4, q3⟩⟩
          refine hn_if_eq (tgt := 79) hx hb dX1_look_72 (by decide) (by omega) (fun c5 => ?_) (fun c5 => ?_)
          · have hsr2 : ¬ asr (lkg N M (G 2) sc) (N 14) = 1 := by omega
            refine lv_aload_n hx hb dX1_look_79 rfl (lv_at hl5012 0 rfl) ?_
            refine hr_get C T5014 ho0_5013 rfl in_X1 18 (by decide) q313 rfl rfl dX1_look_80 ?_
            refine lv_aload_n hx hb dX1_look_83 rfl (lv_at hl5012 0 rfl) ?_
            refine hr_get C T5014 ho0_5013 rfl in_X1 6 (by decide) q297 rfl rfl dX1_look_84 ?_
            refine hn_icmp_ne (tgt := 94) hx hb dX1_look_87 (by decide) (by omega) (by omega) (fun c6 => ?_) (fun c6 => ?_)
            · have hst9 : lkst N M (G 2) rc sc = 1 := by unfold lkst; rw [if_neg (fun z => hsr2 (hsr.mp z)), if_neg c6]
              refine lv_iconst (v := nI 1) hx hb dX1_look_94 rfl ?_
              rw [show nI 1 = nI (lkst N M (G 2) rc sc) from (by rw [hst9])]
              rw [lkM_eq] at hVr2
              have hg16b := hg16
              refine hr_put C T5014 ho0_5013 rfl in_X1 tyX1 tyX1_ok nmX1 17 (by decide) q312 rfl rfl rfl rfl (Nat.le_of_ble_eq_true rfl) dX1_look_95 (fun h5016 H5016 locs5016 eh5016 T5016 => ?_)
              have ho0_5016 : h5016 (L 0) = some (.inr (0, [.ref (L 1), .int (nI (N 0)), .ref (L 3), .int (nI (N 1)), .int (nI (N 2)), .int (nI (N 3)), .int (nI (N 4)), .int (nI (N 5)), .int (nI (N 6)), .int (nI (N 7)), .int (nI (N 8)), .ref (L 12), .ref (L 13), .ref (L 14), .ref (L 15), .ref (L 16), .ref (L 17), .int (nI (lkst N M (G 2) rc sc)), .int (nI (N 15)), .int (nI (N 16)), .int (nI (N 17)), .int (nI (N 18) - 1), .int (nI (N 19)), .ref (L 24), .int (nI pp), .ref (L 26), .ref (L 27), .ref (if N 13 = 1 then L 27 else L 26), .ref (L 29), .ref (L 30), .ref (if N 12 = 1 then L 30 else L 29), .ref (L 32), .ref (B 0), .ref (B 1), .ref (B 2), .ref (B 3), .ref (L 37), .ref (L 38), .ref (L 39), .ref (B 4), .ref (B 5)]), L 0) := hu_s eh5016
              have hF_5016 : Fr (CO L B) h h5016 := hu_f eh5016 hF_5013 ho0_5013 (Or.inl rfl)
              have ha1_5013 : h5013 (L 1) = some (.inl (E.2.1 0, 8, .inl (f 1)), L 0) := hF5013 _ _ ha1_5003 (fun z => z.elim (hLay.1 0 24 (by decide) (by decide) (by decide)) (fun ⟨i, hi, e⟩ => hLay.2 i 0 hi (by decide) e.symm))
              have ha1_5016 : h5016 (L 1) = some (.inl (E.2.1 0, 8, .inl (f 1)), L 0) := hu_n eh5016 (hLay.1 1 0 (by decide) (by decide) (by decide)) ha1_5013
              have ha3_5003 : h5002 (L 3) = some (.inl (E.2.1 0, 64, .inl (f 3)), L 0) := hu_n hh (hLay.1 3 16 (by decide) (by decide) (by decide)) ha3
              have ha3_5013 : h5013 (L 3) = some (.inl (E.2.1 0, 64, .inl (f 3)), L 0) := hF5013 _ _ ha3_5003 (fun z => z.elim (hLay.1 0 24 (by decide) (by decide) (by decide)) (fun ⟨i, hi, e⟩ => hLay.2 i 0 hi (by decide) e.symm))
              have ha3_5016 : h5016 (L 3) = some (.inl (E.2.1 0, 64, .inl (f 3)), L 0) := hu_n eh5016 (hLay.1 3 0 (by decide) (by decide) (by decide)) ha3_5013
              have ha12_5003 : h5002 (L 12) = some (.inl (E.2.1 1, 20000, .inl (f 12)), L 0) := hu_n hh (hLay.1 12 16 (by decide) (by decide) (by decide)) ha12
              have ha12_5013 : h5013 (L 12) = some (.inl (E.2.1 1, 20000, .inl (f 12)), L 0) := hF5013 _ _ ha12_5003 (fun z => z.elim (hLay.1 0 24 (by decide) (by decide) (by decide)) (fun ⟨i, hi, e⟩ => hLay.2 i 0 hi (by decide) e.symm))
              have ha12_5016 : h5016 (L 12) = some (.inl (E.2.1 1, 20000, .inl (f 12)), L 0) := hu_n eh5016 (hLay.1 12 0 (by decide) (by decide) (by decide)) ha12_5013
              have ha13_5003 : h5002 (L 13) = some (.inl (E.2.1 1, 20000, .inl (f 13)), L 0) := hu_n hh (hLay.1 13 16 (by decide) (by decide) (by decide)) ha13
              have ha13_5013 : h5013 (L 13) = some (.inl (E.2.1 1, 20000, .inl (f 13)), L 0) := hF5013 _ _ ha13_5003 (fun z => z.elim (hLay.1 0 24 (by decide) (by decide) (by decide)) (fun ⟨i, hi, e⟩ => hLay.2 i 0 hi (by decide) e.symm))
              have ha13_5016 : h5016 (L 13) = some (.inl (E.2.1 1, 20000, .inl (f 13)), L 0) := hu_n eh5016 (hLay.1 13 0 (by decide) (by decide) (by decide)) ha13_5013
              have ha14_5003 : h5002 (L 14) = some (.inl (E.2.1 2, 20000, .inl (f 14)), L 0) := hu_n hh (hLay.1 14 16 (by decide) (by decide) (by decide)) ha14
              have ha14_5013 : h5013 (L 14) = some (.inl (E.2.1 2, 20000, .inl (f 14)), L 0) := hF5013 _ _ ha14_5003 (fun z => z.elim (hLay.1 0 24 (by decide) (by decide) (by decide)) (fun ⟨i, hi, e⟩ => hLay.2 i 0 hi (by decide) e.symm))
              have ha14_5016 : h5016 (L 14) = some (.inl (E.2.1 2, 20000, .inl (f 14)), L 0) := hu_n eh5016 (hLay.1 14 0 (by decide) (by decide) (by decide)) ha14_5013
              have ha15_5003 : h5002 (L 15) = some (.inl (E.2.1 3, 8, .inl (f 15)), L 0) := hu_n hh (hLay.1 15 16 (by decide) (by decide) (by decide)) ha15
              have ha15_5013 : h5013 (L 15) = some (.inl (E.2.1 3, 8, .inl (f 15)), L 0) := hF5013 _ _ ha15_5003 (fun z => z.elim (hLay.1 0 24 (by decide) (by decide) (by decide)) (fun ⟨i, hi, e⟩ => hLay.2 i 0 hi (by decide) e.symm))
              have ha15_5016 : h5016 (L 15) = some (.inl (E.2.1 3, 8, .inl (f 15)), L 0) := hu_n eh5016 (hLay.1 15 0 (by decide) (by decide) (by decide)) ha15_5013
              have ha16_5013 : h5013 (L 16) = some (.inl (E.2.1 0, 8, .inl g16), L 0) := hF5013 _ _ ha16_5002 (fun z => z.elim (hLay.1 0 24 (by decide) (by decide) (by decide)) (fun ⟨i, hi, e⟩ => hLay.2 i 0 hi (by decide) e.symm))
              have ha16_5016 : h5016 (L 16) = some (.inl (E.2.1 0, 8, .inl g16), L 0) := hu_n eh5016 (hLay.1 16 0 (by decide) (by decide) (by decide)) ha16_5013
              have ha17_5003 : h5002 (L 17) = some (.inl (E.2.1 0, 8, .inl (f 17)), L 0) := hu_n hh (hLay.1 17 16 (by decide) (by decide) (by decide)) ha17
              have ha17_5013 : h5013 (L 17) = some (.inl (E.2.1 0, 8, .inl (f 17)), L 0) := hF5013 _ _ ha17_5003 (fun z => z.elim (hLay.1 0 24 (by decide) (by decide) (by decide)) (fun ⟨i, hi, e⟩ => hLay.2 i 0 hi (by decide) e.symm))
              have ha17_5016 : h5016 (L 17) = some (.inl (E.2.1 0, 8, .inl (f 17)), L 0) := hu_n eh5016 (hLay.1 17 0 (by decide) (by decide) (by decide)) ha17_5013
              have ha39_5003 : h5002 (L 39) = some (.inl (E.2.1 3, 961, .inl (f 39)), L 0) := hu_n hh (hLay.1 39 16 (by decide) (by decide) (by decide)) ha39
              have ha39_5013 : h5013 (L 39) = some (.inl (E.2.1 3, 961, .inl (f 39)), L 0) := hF5013 _ _ ha39_5003 (fun z => z.elim (hLay.1 0 24 (by decide) (by decide) (by decide)) (fun ⟨i, hi, e⟩ => hLay.2 i 0 hi (by decide) e.symm))
              have ha39_5016 : h5016 (L 39) = some (.inl (E.2.1 3, 961, .inl (f 39)), L 0) := hu_n eh5016 (hLay.1 39 0 (by decide) (by decide) (by decide)) ha39_5013
              have hSt_5016 : Stt E L B h5016 := Stt.kept (O := (· = L 0)) (hu_f eh5016 Fr.rf ho0_5013 rfl) (hLay.1 30 0 (by decide) (by decide) (by decide)) hSt_5013
              have hP5013_5016 : Prs L B pw pl ps2 h5016 := Prs.kept (O := (· = L 0)) (hu_f eh5016 Fr.rf ho0_5013 rfl) (hLay.1 24 0 (by decide) (by decide) (by decide)) hP5013
              have hCn_5003 : Cns h5002 E L (nI1 (M 8)) (N 10) := Cns.kept (O := (· = L 0)) (hu_f hh Fr.rf ha16 rfl) (hLay.1 26 0 (by decide) (by decide) (by decide)) hCn
              have hCn_5013 : Cns h5013 E L (nI1 (M 8)) (N 10) := Cns.kept hF5013 (fun z => z.elim (hLay.1 26 24 (by decide) (by decide) (by decide)) (fun ⟨i, hi, e⟩ => hLay.2 i 26 hi (by decide) e.symm)) hCn_5003
              have hCn_5016 : Cns h5016 E L (nI1 (M 8)) (N 10) := Cns.kept (O := (· = L 0)) (hu_f eh5016 Fr.rf ho0_5013 rfl) (hLay.1 26 0 (by decide) (by decide) (by decide)) hCn_5013
              have hSd_5003 : Sds h5002 E L (nI1 (M 6)) (N 9) := Sds.kept (O := (· = L 0)) (hu_f hh Fr.rf ha16 rfl) (hLay.1 27 0 (by decide) (by decide) (by decide)) hSd
              have hSd_5013 : Sds h5013 E L (nI1 (M 6)) (N 9) := Sds.kept hF5013 (fun z => z.elim (hLay.1 27 24 (by decide) (by decide) (by decide)) (fun ⟨i, hi, e⟩ => hLay.2 i 27 hi (by decide) e.symm)) hSd_5003
              have hSd_5016 : Sds h5016 E L (nI1 (M 6)) (N 9) := Sds.kept (O := (· = L 0)) (hu_f eh5016 Fr.rf ho0_5013 rfl) (hLay.1 27 0 (by decide) (by decide) (by decide)) hSd_5013
              have hDg_5003 : Dgo h5002 E L rs := Dgo.kept (O := (· = L 0)) (hu_f hh Fr.rf ha16 rfl) (hLay.1 62 0 (by decide) (by decide) (by decide)) hDg
              have hDg_5013 : Dgo h5013 E L rs := Dgo.kept hF5013 (fun z => z.elim (hLay.1 62 24 (by decide) (by decide) (by decide)) (fun ⟨i, hi, e⟩ => hLay.2 i 62 hi (by decide) e.symm)) hDg_5003
              have hDg_5016 : Dgo h5016 E L rs := Dgo.kept (O := (· = L 0)) (hu_f eh5016 Fr.rf ho0_5013 rfl) (hLay.1 62 0 (by decide) (by decide) (by decide)) hDg_5013
              have hB5013_5016 : Bgs E h5016 B V5013 c5013 := Bgs.kept (O := (· = L 0)) (hu_f eh5016 Fr.rf ho0_5013 rfl) (fun i hi => hLay.2 i 0 hi (by decide)) hB5013
              exact Z _ _ _ _ _ _ _ dX1_look_98 (by have hgw := (hW5013); have hg1 := hgw.1; have hg2 := hgw.2; have hkm := hB5013_5016.kmax; show 0 + dc5013 ≤ (KX - ksum cp NB) / 8 + 8; omega) (by have hgw := (hW5013); have hg1 := hgw.1; have hg2 := hgw.2; have hkm := hB5013_5016.kmax; show 0 + ds5013 ≤ 2 * (KX - ksum cp NB) + 2048; omega) ⟨rfl, _, by rw [lkM_eq]; exact ⟨pp, gu f 16 g16, rs, pw, pl, ps2, V5013, ⟨ho0_5016, ha1_5016, ha3_5016, ha12_5016, ha13_5016, ha14_5016, ha15_5016, ha16_5016, ha17_5016, ha39_5016⟩, ⟨r1, r3, r12, r13, r14, fun _ => r15 l11, hg16b, r17, fun _ => rpp, rp16⟩, hVr2, hSt_5016, hP5013_5016, hCn_5016, hSd_5016, hDg_5016, hB5013_5016⟩, hF_5016, hW5013⟩ T5016
            · have hst9 : lkst N M (G 2) rc sc = 4 := by unfold lkst; rw [if_neg (fun z => hsr2 (hsr.mp z)), if_pos c6]
              refine lv_iconst (v := nI 4) hx hb dX1_look_90 rfl ?_
              refine lv_goto (tgt := 95) hx hb dX1_look_91 (by decide) ?_
              rw [show nI 4 = nI (lkst N M (G 2) rc sc) from (by rw [hst9])]
              rw [lkM_eq] at hVr2
              have hg16b := hg16
              refine hr_put C T5014 ho0_5013 rfl in_X1 tyX1 tyX1_ok nmX1 17 (by decide) q312 rfl rfl rfl rfl (Nat.le_of_ble_eq_true rfl) dX1_look_95 (fun h5017 H5017 locs5017 eh5017 T5017 => ?_)
              have ho0_5017 : h5017 (L 0) = some (.inr (0, [.ref (L 1), .int (nI (N 0)), .ref (L 3), .int (nI (N 1)), .int (nI (N 2)), .int (nI (N 3)), .int (nI (N 4)), .int (nI (N 5)), .int (nI (N 6)), .int (nI (N 7)), .int (nI (N 8)), .ref (L 12), .ref (L 13), .ref (L 14), .ref (L 15), .ref (L 16), .ref (L 17), .int (nI (lkst N M (G 2) rc sc)), .int (nI (N 15)), .int (nI (N 16)), .int (nI (N 17)), .int (nI (N 18) - 1), .int (nI (N 19)), .ref (L 24), .int (nI pp), .ref (L 26), .ref (L 27), .ref (if N 13 = 1 then L 27 else L 26), .ref (L 29), .ref (L 30), .ref (if N 12 = 1 then L 30 else L 29), .ref (L 32), .ref (B 0), .ref (B 1), .ref (B 2), .ref (B 3), .ref (L 37), .ref (L 38), .ref (L 39), .ref (B 4), .ref (B 5)]), L 0) := hu_s eh5017
              have hF_5017 : Fr (CO L B) h h5017 := hu_f eh5017 hF_5013 ho0_5013 (Or.inl rfl)
              have ha1_5013 : h5013 (L 1) = some (.inl (E.2.1 0, 8, .inl (f 1)), L 0) := hF5013 _ _ ha1_5003 (fun z => z.elim (hLay.1 0 24 (by decide) (by decide) (by decide)) (fun ⟨i, hi, e⟩ => hLay.2 i 0 hi (by decide) e.symm))
              have ha1_5017 : h5017 (L 1) = some (.inl (E.2.1 0, 8, .inl (f 1)), L 0) := hu_n eh5017 (hLay.1 1 0 (by decide) (by decide) (by decide)) ha1_5013
              have ha3_5003 : h5002 (L 3) = some (.inl (E.2.1 0, 64, .inl (f 3)), L 0) := hu_n hh (hLay.1 3 16 (by decide) (by decide) (by decide)) ha3
              have ha3_5013 : h5013 (L 3) = some (.inl (E.2.1 0, 64, .inl (f 3)), L 0) := hF5013 _ _ ha3_5003 (fun z => z.elim (hLay.1 0 24 (by decide) (by decide) (by decide)) (fun ⟨i, hi, e⟩ => hLay.2 i 0 hi (by decide) e.symm))
              have ha3_5017 : h5017 (L 3) = some (.inl (E.2.1 0, 64, .inl (f 3)), L 0) := hu_n eh5017 (hLay.1 3 0 (by decide) (by decide) (by decide)) ha3_5013
              have ha12_5003 : h5002 (L 12) = some (.inl (E.2.1 1, 20000, .inl (f 12)), L 0) := hu_n hh (hLay.1 12 16 (by decide) (by decide) (by decide)) ha12
              have ha12_5013 : h5013 (L 12) = some (.inl (E.2.1 1, 20000, .inl (f 12)), L 0) := hF5013 _ _ ha12_5003 (fun z => z.elim (hLay.1 0 24 (by decide) (by decide) (by decide)) (fun ⟨i, hi, e⟩ => hLay.2 i 0 hi (by decide) e.symm))
              have ha12_5017 : h5017 (L 12) = some (.inl (E.2.1 1, 20000, .inl (f 12)), L 0) := hu_n eh5017 (hLay.1 12 0 (by decide) (by decide) (by decide)) ha12_5013
              have ha13_5003 : h5002 (L 13) = some (.inl (E.2.1 1, 20000, .inl (f 13)), L 0) := hu_n hh (hLay.1 13 16 (by decide) (by decide) (by decide)) ha13
              have ha13_5013 : h5013 (L 13) = some (.inl (E.2.1 1, 20000, .inl (f 13)), L 0) := hF5013 _ _ ha13_5003 (fun z => z.elim (hLay.1 0 24 (by decide) (by decide) (by decide)) (fun ⟨i, hi, e⟩ => hLay.2 i 0 hi (by decide) e.symm))
              have ha13_5017 : h5017 (L 13) = some (.inl (E.2.1 1, 20000, .inl (f 13)), L 0) := hu_n eh5017 (hLay.1 13 0 (by decide) (by decide) (by decide)) ha13_5013
              have ha14_5003 : h5002 (L 14) = some (.inl (E.2.1 2, 20000, .inl (f 14)), L 0) := hu_n hh (hLay.1 14 16 (by decide) (by decide) (by decide)) ha14
              have ha14_5013 : h5013 (L 14) = some (.inl (E.2.1 2, 20000, .inl (f 14)), L 0) := hF5013 _ _ ha14_5003 (fun z => z.elim (hLay.1 0 24 (by decide) (by decide) (by decide)) (fun ⟨i, hi, e⟩ => hLay.2 i 0 hi (by decide) e.symm))
              have ha14_5017 : h5017 (L 14) = some (.inl (E.2.1 2, 20000, .inl (f 14)), L 0) := hu_n eh5017 (hLay.1 14 0 (by decide) (by decide) (by decide)) ha14_5013
              have ha15_5003 : h5002 (L 15) = some (.inl (E.2.1 3, 8, .inl (f 15)), L 0) := hu_n hh (hLay.1 15 16 (by decide) (by decide) (by decide)) ha15
              have ha15_5013 : h5013 (L 15) = some (.inl (E.2.1 3, 8, .inl (f 15)), L 0) := hF5013 _ _ ha15_5003 (fun z => z.elim (hLay.1 0 24 (by decide) (by decide) (by decide)) (fun ⟨i, hi, e⟩ => hLay.2 i 0 hi (by decide) e.symm))
              have ha15_5017 : h5017 (L 15) = some (.inl (E.2.1 3, 8, .inl (f 15)), L 0) := hu_n eh5017 (hLay.1 15 0 (by decide) (by decide) (by decide)) ha15_5013
              have ha16_5013 : h5013 (L 16) = some (.inl (E.2.1 0, 8, .inl g16), L 0) := hF5013 _ _ ha16_5002 (fun z => z.elim (hLay.1 0 24 (by decide) (by decide) (by decide)) (fun ⟨i, hi, e⟩ => hLay.2 i 0 hi (by decide) e.symm))
              have ha16_5017 : h5017 (L 16) = some (.inl (E.2.1 0, 8, .inl g16), L 0) := hu_n eh5017 (hLay.1 16 0 (by decide) (by decide) (by decide)) ha16_5013
              have ha17_5003 : h5002 (L 17) = some (.inl (E.2.1 0, 8, .inl (f 17)), L 0) := hu_n hh (hLay.1 17 16 (by decide) (by decide) (by decide)) ha17
              have ha17_5013 : h5013 (L 17) = some (.inl (E.2.1 0, 8, .inl (f 17)), L 0) := hF5013 _ _ ha17_5003 (fun z => z.elim (hLay.1 0 24 (by decide) (by decide) (by decide)) (fun ⟨i, hi, e⟩ => hLay.2 i 0 hi (by decide) e.symm))
              have ha17_5017 : h5017 (L 17) = some (.inl (E.2.1 0, 8, .inl (f 17)), L 0) := hu_n eh5017 (hLay.1 17 0 (by decide) (by decide) (by decide)) ha17_5013
              have ha39_5003 : h5002 (L 39) = some (.inl (E.2.1 3, 961, .inl (f 39)), L 0) := hu_n hh (hLay.1 39 16 (by decide) (by decide) (by decide)) ha39
              have ha39_5013 : h5013 (L 39) = some (.inl (E.2.1 3, 961, .inl (f 39)), L 0) := hF5013 _ _ ha39_5003 (fun z => z.elim (hLay.1 0 24 (by decide) (by decide) (by decide)) (fun ⟨i, hi, e⟩ => hLay.2 i 0 hi (by decide) e.symm))
              have ha39_5017 : h5017 (L 39) = some (.inl (E.2.1 3, 961, .inl (f 39)), L 0) := hu_n eh5017 (hLay.1 39 0 (by decide) (by decide) (by decide)) ha39_5013
              have hSt_5017 : Stt E L B h5017 := Stt.kept (O := (· = L 0)) (hu_f eh5017 Fr.rf ho0_5013 rfl) (hLay.1 30 0 (by decide) (by decide) (by decide)) hSt_5013
              have hP5013_5017 : Prs L B pw pl ps2 h5017 := Prs.kept (O := (· = L 0)) (hu_f eh5017 Fr.rf ho0_5013 rfl) (hLay.1 24 0 (by decide) (by decide) (by decide)) hP5013
              have hCn_5003 : Cns h5002 E L (nI1 (M 8)) (N 10) := Cns.kept (O := (· = L 0)) (hu_f hh Fr.rf ha16 rfl) (hLay.1 26 0 (by decide) (by decide) (by decide)) hCn
              have hCn_5013 : Cns h5013 E L (nI1 (M 8)) (N 10) := Cns.kept hF5013 (fun z => z.elim (hLay.1 26 24 (by decide) (by decide) (by decide)) (fun ⟨i, hi, e⟩ => hLay.2 i 26 hi (by decide) e.symm)) hCn_5003
              have hCn_5017 : Cns h5017 E L (nI1 (M 8)) (N 10) := Cns.kept (O := (· = L 0)) (hu_f eh5017 Fr.rf ho0_5013 rfl) (hLay.1 26 0 (by decide) (by decide) (by decide)) hCn_5013
              have hSd_5003 : Sds h5002 E L (nI1 (M 6)) (N 9) := Sds.kept (O := (· = L 0)) (hu_f hh Fr.rf ha16 rfl) (hLay.1 27 0 (by decide) (by decide) (by decide)) hSd
              have hSd_5013 : Sds h5013 E L (nI1 (M 6)) (N 9) := Sds.kept hF5013 (fun z => z.elim (hLay.1 27 24 (by decide) (by decide) (by decide)) (fun ⟨i, hi, e⟩ => hLay.2 i 27 hi (by decide) e.symm)) hSd_5003
              have hSd_5017 : Sds h5017 E L (nI1 (M 6)) (N 9) := Sds.kept (O := (· = L 0)) (hu_f eh5017 Fr.rf ho0_5013 rfl) (hLay.1 27 0 (by decide) (by decide) (by decide)) hSd_5013
              have hDg_5003 : Dgo h5002 E L rs := Dgo.kept (O := (· = L 0)) (hu_f hh Fr.rf ha16 rfl) (hLay.1 62 0 (by decide) (by decide) (by decide)) hDg
              have hDg_5013 : Dgo h5013 E L rs := Dgo.kept hF5013 (fun z => z.elim (hLay.1 62 24 (by decide) (by decide) (by decide)) (fun ⟨i, hi, e⟩ => hLay.2 i 62 hi (by decide) e.symm)) hDg_5003
              have hDg_5017 : Dgo h5017 E L rs := Dgo.kept (O := (· = L 0)) (hu_f eh5017 Fr.rf ho0_5013 rfl) (hLay.1 62 0 (by decide) (by decide) (by decide)) hDg_5013
              have hB5013_5017 : Bgs E h5017 B V5013 c5013 := Bgs.kept (O := (· = L 0)) (hu_f eh5017 Fr.rf ho0_5013 rfl) (fun i hi => hLay.2 i 0 hi (by decide)) hB5013
              exact Z _ _ _ _ _ _ _ dX1_look_98 (by have hgw := (hW5013); have hg1 := hgw.1; have hg2 := hgw.2; have hkm := hB5013_5017.kmax; show 0 + dc5013 ≤ (KX - ksum cp NB) / 8 + 8; omega) (by have hgw := (hW5013); have hg1 := hgw.1; have hg2 := hgw.2; have hkm := hB5013_5017.kmax; show 0 + ds5013 ≤ 2 * (KX - ksum cp NB) + 2048; omega) ⟨rfl, _, by rw [lkM_eq]; exact ⟨pp, gu f 16 g16, rs, pw, pl, ps2, V5013, ⟨ho0_5017, ha1_5017, ha3_5017, ha12_5017, ha13_5017, ha14_5017, ha15_5017, ha16_5017, ha17_5017, ha39_5017⟩, ⟨r1, r3, r12, r13, r14, fun _ => r15 l11, hg16b, r17, fun _ => rpp, rp16⟩, hVr2, hSt_5017, hP5013_5017, hCn_5017, hSd_5017, hDg_5017, hB5013_5017⟩, hF_5017, hW5013⟩ T5017
          · have hsr2 : asr (lkg N M (G 2) sc) (N 14) = 1 := by omega
            have hst9 : lkst N M (G 2) rc sc = 3 := by unfold lkst; rw [if_pos (hsr.mpr hsr2)]
            refine lv_iconst (v := nI 3) hx hb dX1_look_75 rfl ?_
            refine lv_goto (tgt := 95) hx hb dX1_look_76 (by decide) ?_
            rw [show nI 3 = nI (lkst N M (G 2) rc sc) from (by rw [hst9])]
            rw [lkM_eq] at hVr2
            have hg16b := hg16
            refine hr_put C T5014 ho0_5013 rfl in_X1 tyX1 tyX1_ok nmX1 17 (by decide) q312 rfl rfl rfl rfl (Nat.le_of_ble_eq_true rfl) dX1_look_95 (fun h5015 H5015 locs5015 eh5015 T5015 => ?_)
            have ho0_5015 : h5015 (L 0) = some (.inr (0, [.ref (L 1), .int (nI (N 0)), .ref (L 3), .int (nI (N 1)), .int (nI (N 2)), .int (nI (N 3)), .int (nI (N 4)), .int (nI (N 5)), .int (nI (N 6)), .int (nI (N 7)), .int (nI (N 8)), .ref (L 12), .ref (L 13), .ref (L 14), .ref (L 15), .ref (L 16), .ref (L 17), .int (nI (lkst N M (G 2) rc sc)), .int (nI (N 15)), .int (nI (N 16)), .int (nI (N 17)), .int (nI (N 18) - 1), .int (nI (N 19)), .ref (L 24), .int (nI pp), .ref (L 26), .ref (L 27), .ref (if N 13 = 1 then L 27 else L 26), .ref (L 29), .ref (L 30), .ref (if N 12 = 1 then L 30 else L 29), .ref (L 32), .ref (B 0), .ref (B 1), .ref (B 2), .ref (B 3), .ref (L 37), .ref (L 38), .ref (L 39), .ref (B 4), .ref (B 5)]), L 0) := hu_s eh5015
            have hF_5015 : Fr (CO L B) h h5015 := hu_f eh5015 hF_5013 ho0_5013 (Or.inl rfl)
            have ha1_5013 : h5013 (L 1) = some (.inl (E.2.1 0, 8, .inl (f 1)), L 0) := hF5013 _ _ ha1_5003 (fun z => z.elim (hLay.1 0 24 (by decide) (by decide) (by decide)) (fun ⟨i, hi, e⟩ => hLay.2 i 0 hi (by decide) e.symm))
            have ha1_5015 : h5015 (L 1) = some (.inl (E.2.1 0, 8, .inl (f 1)), L 0) := hu_n eh5015 (hLay.1 1 0 (by decide) (by decide) (by decide)) ha1_5013
            have ha3_5003 : h5002 (L 3) = some (.inl (E.2.1 0, 64, .inl (f 3)), L 0) := hu_n hh (hLay.1 3 16 (by decide) (by decide) (by decide)) ha3
            have ha3_5013 : h5013 (L 3) = some (.inl (E.2.1 0, 64, .inl (f 3)), L 0) := hF5013 _ _ ha3_5003 (fun z => z.elim (hLay.1 0 24 (by decide) (by decide) (by decide)) (fun ⟨i, hi, e⟩ => hLay.2 i 0 hi (by decide) e.symm))
            have ha3_5015 : h5015 (L 3) = some (.inl (E.2.1 0, 64, .inl (f 3)), L 0) := hu_n eh5015 (hLay.1 3 0 (by decide) (by decide) (by decide)) ha3_5013
            have ha12_5003 : h5002 (L 12) = some (.inl (E.2.1 1, 20000, .inl (f 12)), L 0) := hu_n hh (hLay.1 12 16 (by decide) (by decide) (by decide)) ha12
            have ha12_5013 : h5013 (L 12) = some (.inl (E.2.1 1, 20000, .inl (f 12)), L 0) := hF5013 _ _ ha12_5003 (fun z => z.elim (hLay.1 0 24 (by decide) (by decide) (by decide)) (fun ⟨i, hi, e⟩ => hLay.2 i 0 hi (by decide) e.symm))
            have ha12_5015 : h5015 (L 12) = some (.inl (E.2.1 1, 20000, .inl (f 12)), L 0) := hu_n eh5015 (hLay.1 12 0 (by decide) (by decide) (by decide)) ha12_5013
            have ha13_5003 : h5002 (L 13) = some (.inl (E.2.1 1, 20000, .inl (f 13)), L 0) := hu_n hh (hLay.1 13 16 (by decide) (by decide) (by decide)) ha13
            have ha13_5013 : h5013 (L 13) = some (.inl (E.2.1 1, 20000, .inl (f 13)), L 0) := hF5013 _ _ ha13_5003 (fun z => z.elim (hLay.1 0 24 (by decide) (by decide) (by decide)) (fun ⟨i, hi, e⟩ => hLay.2 i 0 hi (by decide) e.symm))
            have ha13_5015 : h5015 (L 13) = some (.inl (E.2.1 1, 20000, .inl (f 13)), L 0) := hu_n eh5015 (hLay.1 13 0 (by decide) (by decide) (by decide)) ha13_5013
            have ha14_5003 : h5002 (L 14) = some (.inl (E.2.1 2, 20000, .inl (f 14)), L 0) := hu_n hh (hLay.1 14 16 (by decide) (by decide) (by decide)) ha14
            have ha14_5013 : h5013 (L 14) = some (.inl (E.2.1 2, 20000, .inl (f 14)), L 0) := hF5013 _ _ ha14_5003 (fun z => z.elim (hLay.1 0 24 (by decide) (by decide) (by decide)) (fun ⟨i, hi, e⟩ => hLay.2 i 0 hi (by decide) e.symm))
            have ha14_5015 : h5015 (L 14) = some (.inl (E.2.1 2, 20000, .inl (f 14)), L 0) := hu_n eh5015 (hLay.1 14 0 (by decide) (by decide) (by decide)) ha14_5013
            have ha15_5003 : h5002 (L 15) = some (.inl (E.2.1 3, 8, .inl (f 15)), L 0) := hu_n hh (hLay.1 15 16 (by decide) (by decide) (by decide)) ha15
            have ha15_5013 : h5013 (L 15) = some (.inl (E.2.1 3, 8, .inl (f 15)), L 0) := hF5013 _ _ ha15_5003 (fun z => z.elim (hLay.1 0 24 (by decide) (by decide) (by decide)) (fun ⟨i, hi, e⟩ => hLay.2 i 0 hi (by decide) e.symm))
            have ha15_5015 : h5015 (L 15) = some (.inl (E.2.1 3, 8, .inl (f 15)), L 0) := hu_n eh5015 (hLay.1 15 0 (by decide) (by decide) (by decide)) ha15_5013
            have ha16_5013 : h5013 (L 16) = some (.inl (E.2.1 0, 8, .inl g16), L 0) := hF5013 _ _ ha16_5002 (fun z => z.elim (hLay.1 0 24 (by decide) (by decide) (by decide)) (fun ⟨i, hi, e⟩ => hLay.2 i 0 hi (by decide) e.symm))
            have ha16_5015 : h5015 (L 16) = some (.inl (E.2.1 0, 8, .inl g16), L 0) := hu_n eh5015 (hLay.1 16 0 (by decide) (by decide) (by decide)) ha16_5013
            have ha17_5003 : h5002 (L 17) = some (.inl (E.2.1 0, 8, .inl (f 17)), L 0) := hu_n hh (hLay.1 17 16 (by decide) (by decide) (by decide)) ha17
            have ha17_5013 : h5013 (L 17) = some (.inl (E.2.1 0, 8, .inl (f 17)), L 0) := hF5013 _ _ ha17_5003 (fun z => z.elim (hLay.1 0 24 (by decide) (by decide) (by decide)) (fun ⟨i, hi, e⟩ => hLay.2 i 0 hi (by decide) e.symm))
            have ha17_5015 : h5015 (L 17) = some (.inl (E.2.1 0, 8, .inl (f 17)), L 0) := hu_n eh5015 (hLay.1 17 0 (by decide) (by decide) (by decide)) ha17_5013
            have ha39_5003 : h5002 (L 39) = some (.inl (E.2.1 3, 961, .inl (f 39)), L 0) := hu_n hh (hLay.1 39 16 (by decide) (by decide) (by decide)) ha39
            have ha39_5013 : h5013 (L 39) = some (.inl (E.2.1 3, 961, .inl (f 39)), L 0) := hF5013 _ _ ha39_5003 (fun z => z.elim (hLay.1 0 24 (by decide) (by decide) (by decide)) (fun ⟨i, hi, e⟩ => hLay.2 i 0 hi (by decide) e.symm))
            have ha39_5015 : h5015 (L 39) = some (.inl (E.2.1 3, 961, .inl (f 39)), L 0) := hu_n eh5015 (hLay.1 39 0 (by decide) (by decide) (by decide)) ha39_5013
            have hSt_5015 : Stt E L B h5015 := Stt.kept (O := (· = L 0)) (hu_f eh5015 Fr.rf ho0_5013 rfl) (hLay.1 30 0 (by decide) (by decide) (by decide)) hSt_5013
            have hP5013_5015 : Prs L B pw pl ps2 h5015 := Prs.kept (O := (· = L 0)) (hu_f eh5015 Fr.rf ho0_5013 rfl) (hLay.1 24 0 (by decide) (by decide) (by decide)) hP5013
            have hCn_5003 : Cns h5002 E L (nI1 (M 8)) (N 10) := Cns.kept (O := (· = L 0)) (hu_f hh Fr.rf ha16 rfl) (hLay.1 26 0 (by decide) (by decide) (by decide)) hCn
            have hCn_5013 : Cns h5013 E L (nI1 (M 8)) (N 10) := Cns.kept hF5013 (fun z => z.elim (hLay.1 26 24 (by decide) (by decide) (by decide)) (fun ⟨i, hi, e⟩ => hLay.2 i 26 hi (by decide) e.symm)) hCn_5003
            have hCn_5015 : Cns h5015 E L (nI1 (M 8)) (N 10) := Cns.kept (O := (· = L 0)) (hu_f eh5015 Fr.rf ho0_5013 rfl) (hLay.1 26 0 (by decide) (by decide) (by decide)) hCn_5013
            have hSd_5003 : Sds h5002 E L (nI1 (M 6)) (N 9) := Sds.kept (O := (· = L 0)) (hu_f hh Fr.rf ha16 rfl) (hLay.1 27 0 (by decide) (by decide) (by decide)) hSd
            have hSd_5013 : Sds h5013 E L (nI1 (M 6)) (N 9) := Sds.kept hF5013 (fun z => z.elim (hLay.1 27 24 (by decide) (by decide) (by decide)) (fun ⟨i, hi, e⟩ => hLay.2 i 27 hi (by decide) e.symm)) hSd_5003
            have hSd_5015 : Sds h5015 E L (nI1 (M 6)) (N 9) := Sds.kept (O := (· = L 0)) (hu_f eh5015 Fr.rf ho0_5013 rfl) (hLay.1 27 0 (by decide) (by decide) (by decide)) hSd_5013
            have hDg_5003 : Dgo h5002 E L rs := Dgo.kept (O := (· = L 0)) (hu_f hh Fr.rf ha16 rfl) (hLay.1 62 0 (by decide) (by decide) (by decide)) hDg
            have hDg_5013 : Dgo h5013 E L rs := Dgo.kept hF5013 (fun z => z.elim (hLay.1 62 24 (by decide) (by decide) (by decide)) (fun ⟨i, hi, e⟩ => hLay.2 i 62 hi (by decide) e.symm)) hDg_5003
            have hDg_5015 : Dgo h5015 E L rs := Dgo.kept (O := (· = L 0)) (hu_f eh5015 Fr.rf ho0_5013 rfl) (hLay.1 62 0 (by decide) (by decide) (by decide)) hDg_5013
            have hB5013_5015 : Bgs E h5015 B V5013 c5013 := Bgs.kept (O := (· = L 0)) (hu_f eh5015 Fr.rf ho0_5013 rfl) (fun i hi => hLay.2 i 0 hi (by decide)) hB5013
            exact Z _ _ _ _ _ _ _ dX1_look_98 (by have hgw := (hW5013); have hg1 := hgw.1; have hg2 := hgw.2; have hkm := hB5013_5015.kmax; show 0 + dc5013 ≤ (KX - ksum cp NB) / 8 + 8; omega) (by have hgw := (hW5013); have hg1 := hgw.1; have hg2 := hgw.2; have hkm := hB5013_5015.kmax; show 0 + ds5013 ≤ 2 * (KX - ksum cp NB) + 2048; omega) ⟨rfl, _, by rw [lkM_eq]; exact ⟨pp, gu f 16 g16, rs, pw, pl, ps2, V5013, ⟨ho0_5015, ha1_5015, ha3_5015, ha12_5015, ha13_5015, ha14_5015, ha15_5015, ha16_5015, ha17_5015, ha39_5015⟩, ⟨r1, r3, r12, r13, r14, fun _ => r15 l11, hg16b, r17, fun _ => rpp, rp16⟩, hVr2, hSt_5015, hP5013_5015, hCn_5015, hSd_5015, hDg_5015, hB5013_5015⟩, hF_5015, hW5013⟩ T5015
        refine lv_icmp_ne (tgt := 46) hx hb dX1_look_39 (by decide) (fun c1 => ?_) (fun c1 => ?_)
        · obtain ⟨b, hb2, rfl, hs1, hr1⟩ : ∃ b, b < 20000 ∧ xb = nI b ∧ sc = G 1 b ∧ rc = G 0 b := by rcases hxx with q | q; exact absurd q.1 c1; exact q
          refine lv_aload_n hx hb dX1_look_46 rfl (lv_at hl5002 0 rfl) ?_
          refine hr_get C T5002 ho0_5003 rfl in_X1 11 (by decide) q306 rfl rfl dX1_look_47 ?_
          refine lv_iload_n hx hb dX1_look_50 rfl (lv_at hl5002 1 rfl) ?_
          have ha12_5003 : h5002 (L 12) = some (.inl (E.2.1 1, 20000, .inl (f 12)), L 0) := hu_n hh (hLay.1 12 16 (by decide) (by decide) (by decide)) ha12
          refine hr_bald C T5002 ha12_5003 (by omega) (by omega) dX1_look_51 ?_
          rw [show f 12 b = rc by rw [hr1]; exact r12 b hb2]
          exact J52 _ _ _ T5002 (lv_sub hl5002 [0, 1, 2] rfl)
        · have hr1 : rc = -1 := by rcases hxx with q | ⟨b, hb2, q, _⟩; exact q.2.2; (exfalso; have z1 := congrArg Int32.toInt c1; rw [q, nI_toInt (by omega)] at z1; have : (-2 : Int32).toInt = -2 := rfl; omega)
          refine lv_iconst (v := (-1)) hx hb dX1_look_42 rfl ?_
          refine lv_goto (tgt := 52) hx hb dX1_look_43 (by decide) ?_
          rw [show ((-1) : Int32) = rc from hr1.symm]
          exact J52 _ _ _ T5002 (lv_sub hl5002 [0, 1, 2] rfl)
    refine lv_istore_n (lv' := [(2, .int sc), (0, .ref (L 0)), (1, .int xb)]) hx hb dX1_look_17 rfl hl5001 (by decide) rfl (fun ls5018 hl5018 => ?_)
    refine lv_iload_n hx hb dX1_look_18 rfl (lv_at hl5018 0 rfl) ?_
    refine zi_if_lt (tgt := 32) (X := (sc).toInt) hx hb dX1_look_19 (by decide) rfl (fun c2 => ?_) (fun c2 => ?_)
    · exact J32 (f 16) _ _ _ _ ha16 (fun i hi => by rw [lkM_2n (by omega)]; exact r16 i hi) (hup_0 ha16) hF T5001 (lv_sub hl5018 [1, 2, 0] rfl)
    · obtain ⟨a, ha, rfl⟩ : ∃ a, a < N 0 ∧ sc = nI a := by rcases hcc with q | q | q; (rw [q] at c2; exact absurd c2 (by decide)); (rw [q] at c2; exact absurd c2 (by decide)); exact q
      have ha8 : a < 8 := by omega
      have hun : un (nI a) = a := un_nI' (by omega)
      have hta := ital a ha8
      refine lv_aload_n hx hb dX1_look_22 rfl (lv_at hl5018 1 rfl) ?_
      refine hr_get C T5001 ho0 rfl in_X1 15 (by decide) q310 rfl rfl dX1_look_23 ?_
      refine lv_iload_n hx hb dX1_look_26 rfl (lv_at hl5018 0 rfl) ?_
      refine lv_dup2_11 hx hb dX1_look_27 rfl rfl ?_
      refine hr_iald C T5001 ha16 (by omega) (by omega) dX1_look_28 ?_
      rw [show (f 16) a = nI (M 2 a) from r16 a ha8]
      refine lv_iconst (v := nI 1) hx hb dX1_look_29 rfl ?_
      refine hn_iadd hx hb dX1_look_30 ?_
      refine hr_iast C T5001 ha16 (by omega) (by omega) dX1_look_31 (fun h5019 H5019 locs5019 eh5019 T5019 => ?_)
      have ha16_5019 : h5019 (L 16) = some (.inl (E.2.1 0, 8, .inl (upd (f 16) a (nI ((M 2 a) + 1)))), L 0) := hu_s eh5019
      have hF_5019 : Fr (CO L B) h h5019 := hu_f eh5019 hF ha16 (Or.inl rfl)
      exact J32 _ _ _ _ _ ha16_5019 (fun i hi => by rw [lkM_2 (by rw [nI_toInt (by omega)]; omega), hun]; by_cases z : i = a; (rw [z, pk_us, nu_s]); (rw [pk_un z, nu_n z]; exact r16 i hi)) eh5019 hF_5019 T5019 (lv_sub hl5018 [1, 2, 0] rfl)
  refine lv_icmp_ne (tgt := 11) hx hb dX1_look_3 (by decide) (fun c1 => ?_) (fun c1 => ?_)
  · obtain ⟨b, hb2, rfl, hs1, hr1⟩ : ∃ b, b < 20000 ∧ xb = nI b ∧ sc = G 1 b ∧ rc = G 0 b := by rcases hxx with q | q; exact absurd q.1 c1; exact q
    refine lv_aload_n hx hb dX1_look_11 rfl (lv_at hl 0 rfl) ?_
    refine hr_get C T ho0 rfl in_X1 12 (by decide) q307 rfl rfl dX1_look_12 ?_
    refine lv_iload_n hx hb dX1_look_15 rfl (lv_at hl 1 rfl) ?_
    refine hr_bald C T ha13 (by omega) (by omega) dX1_look_16 ?_
    rw [show f 13 b = sc by rw [hs1]; exact r13 b hb2]
    exact J17 _ _ _ T (lv_sub hl [0, 1] rfl)
  · have hs1 : sc = -2 := by rcases hxx with q | ⟨b, hb2, q, _⟩; exact q.2.1; (exfalso; have z1 := congrArg Int32.toInt c1; rw [q, nI_toInt (by omega)] at z1; have : (-2 : Int32).toInt = -2 := rfl; omega)
    refine lv_bipush (v := (-2)) hx hb dX1_look_6 rfl ?_
    refine lv_goto (tgt := 17) hx hb dX1_look_8 (by decide) ?_
    rw [show ((-2) : Int32) = sc from hs1.symm]
    exact J17 _ _ _ T (lv_sub hl [0, 1] rfl)
