set_option maxRecDepth 100000
def cd_show (N : Nat → Nat) (x y : Int32) : Nat := if x.toInt < 0 ∨ 4 < x.toInt then 1 else if x.toInt ≠ 4 ∧ N 11 = 0 then 2 else if (x.toInt = 0 ∨ x.toInt = 2) ∧ ¬ (0 ≤ y.toInt ∧ y.toInt < N 14) then 1 else 0
/-- what is shown -/
def shA (N : Nat → Nat) (M : Nat → Nat → Nat) (x y : Nat) : Nat := match x with
  | 0 => pA N M y | 1 => N 20 | 2 => M 0 (M 4 y) | 3 => lst M (N 14 - 1) | _ => N 5
def shB (N : Nat → Nat) (M : Nat → Nat → Nat) (x y : Nat) : Nat := match x with
  | 0 => pB N M y | 1 => N 21 | 2 => M 0 (M 4 y) + M 0 (M 5 y) | 3 => N 2 | _ => N 6
def rdN (N : Nat → Nat) (a b : Nat) : Nat → Nat := nu (nu N 22 (a / Nat.gcd a b)) 23 (b / Nat.gcd a b)
theorem Vr_sh {V V' : Nat → Nat} {pw pl ps : Nat → Int32} {N : Nat → Nat} {M : Nat → Nat → Nat} {G : Nat → Nat → Int32} {a b : Nat} (H : Vr V pw pl ps N M G) (h2 : V' 2 = a / Nat.gcd a b) (h3 : V' 3 = b / Nat.gcd a b) (h6 : V' 6 = V 6) (h7 : V' 7 = V 7) (hp : ∀ k, 19 ≤ k → k < 51 → V' k = V k) (e14 : N 14 ≤ 16) : Vr V' pw pl ps (rdN N a b) M G := by
  obtain ⟨g1, g2, g3, g4⟩ := H
  refine ⟨h2, h3, fun z1 z2 => ?_, fun z1 k hk => ?_⟩
  · obtain ⟨q1, q2⟩ := g3 z1 z2
    exact ⟨h6.trans q1, h7.trans q2⟩
  · have hk2 : k < N 14 := hk
    obtain ⟨q1, q2, q3⟩ := g4 z1 k hk2
    exact ⟨(hp _ (by omega) (by omega)).trans q1, (hp _ (by omega) (by omega)).trans q2, q3⟩
theorem pB_pos {N : Nat → Nat} {M : Nat → Nat → Nat} {k : Nat} (h : M 0 (M 5 k) < M 0 (M 4 k)) : pB N M k ≠ 0 := by
  unfold pB
  split
  · decide
  · exact Nat.pos_iff_ne_zero.mp (Nat.pow_pos (by omega))


set_option maxHeartbeats 4000000 in
theorem m_X1_show {E : GE} {l : Launch} {h : HH} (hfl : l.flags = flags0) {L B cp N : Nat → Nat} {M : Nat → Nat → Nat} {G : Nat → Nat → Int32} (hLay : Lay L B) (hI : Inv N M G) (hC : Cp E h L B cp N M G) {x y : Int32} : MX E l yX1_show cX1_show 4 (some .boolean) ({ frames := 8, cells := (KX - ksum cp NB) / 8 + 8, slots := 2 * (KX - ksum cp NB) + 2048, locals := 1200 } : Room) [.ref (L 0), .int x, .int y] h (fun rv h2 dc ds => cd_show N x y = 0 ∧ rv = some (.int (if shB N M x.toInt.toNat y.toInt.toNat / Nat.gcd (shA N M x.toInt.toNat y.toInt.toNat) (shB N M x.toInt.toNat y.toInt.toNat) ≤ shA N M x.toInt.toNat y.toInt.toNat / Nat.gcd (shA N M x.toInt.toNat y.toInt.toNat) (shB N M x.toInt.toNat y.toInt.toNat) then 1 else 0)) ∧ ∃ c2, Cp E h2 L B c2 (rdN N (shA N M x.toInt.toNat y.toInt.toNat) (shB N M x.toInt.toNat y.toInt.toNat)) M G ∧ Fr (CO L B) h h2 ∧ Gw cp c2 dc ds) (fun C h' dc ds => h' = h ∧ dc = 1 ∧ ds = 6 ∧ TC C (cd_show N x y) [xIOB, xISE]) := by
  refine hx_z (by decide) (Nat.le_of_ble_eq_true rfl) ?_
  intro p e s m below meth c C hno Q Z Y ls T hl
  have hx := C.x
  have hb := C.b
  have hl : lv_has ls 4 [(0, .ref (L 0)), (1, .int x), (2, .int y)] := hl
  have hC0 := hC
  have hI0 := hI
  obtain ⟨i0, i1, i2, i3, i4, i5, i7, i9, i10, i11, i15, iv, isz, isum, ital, itm, idg, icn, irec, isn, iout, ict, iwt, iwt2, iz, inz, iup, ish⟩ := hI
  obtain ⟨pp, f, rs, pw, pl, ps, V, ⟨ho0, ha1, ha3, ha12, ha13, ha14, ha15, ha16, ha17, ha39⟩, ⟨r1, r3, r12, r13, r14, r15, r16, r17, rp, rp16⟩, hVr, hSt, hPr, hCn, hSd, hDg, hB⟩ := hC
  have hF : Fr (CO L B) h h := Fr.rf
  refine lv_iload_n hx hb dX1_show_0 rfl (lv_at hl 1 rfl) ?_
  refine zi_if_lt (tgt := 13) (X := (x).toInt) hx hb dX1_show_1 (by decide) rfl (fun c1 => ?_) (fun c1 => ?_)
  · refine lv_iconst (v := nI 0) hx hb dX1_show_13 rfl ?_
    have hcd : cd_show N x y = 1 := by unfold cd_show; (repeat' split) <;> omega
    exact Y _ _ _ _ _ _ ((thr_S C T hl.1 (t_X1_inside hfl) q593 q594 q53 q595 kd_X1_inside rfl rfl ⟨Nat.le_of_ble_eq_true rfl, Nat.le_of_ble_eq_true rfl⟩ (Nat.le_of_ble_eq_true rfl) dX1_show_14 ⟨by show 0 + 1 ≤ (KX - ksum cp NB) / 8 + 8; omega, by show 0 + 6 ≤ 2 * (KX - ksum cp NB) + 2048; omega⟩).on C T hno ⟨by show 0 + 1 ≤ (KX - ksum cp NB) / 8 + 8; omega, by show 0 + 6 ≤ 2 * (KX - ksum cp NB) + 2048; omega⟩ (fun h2 dc ds hp => by obtain ⟨rfl, rfl, rfl⟩ := hp; exact ⟨rfl, rfl, rfl, by rw [hcd]; exact ⟨by decide, rfl⟩⟩))
  · refine lv_iload_n hx hb dX1_show_4 rfl (lv_at hl 1 rfl) ?_
    refine lv_iconst (v := nI 4) hx hb dX1_show_5 rfl ?_
    refine zi_icmp_gt (tgt := 13) (X := (x).toInt) (Y := ((4 : Nat) : Int)) hx hb dX1_show_6 (by decide) rfl (nI_toInt (by omega)) (fun c2 => ?_) (fun c2 => ?_)
    · refine lv_iconst (v := nI 0) hx hb dX1_show_13 rfl ?_
      have hcd : cd_show N x y = 1 := by unfold cd_show; (repeat' split) <;> omega
      exact Y _ _ _ _ _ _ ((thr_S C T hl.1 (t_X1_inside hfl) q593 q594 q53 q595 kd_X1_inside rfl rfl ⟨Nat.le_of_ble_eq_true rfl, Nat.le_of_ble_eq_true rfl⟩ (Nat.le_of_ble_eq_true rfl) dX1_show_14 ⟨by show 0 + 1 ≤ (KX - ksum cp NB) / 8 + 8; omega, by show 0 + 6 ≤ 2 * (KX - ksum cp NB) + 2048; omega⟩).on C T hno ⟨by show 0 + 1 ≤ (KX - ksum cp NB) / 8 + 8; omega, by show 0 + 6 ≤ 2 * (KX - ksum cp NB) + 2048; omega⟩ (fun h2 dc ds hp => by obtain ⟨rfl, rfl, rfl⟩ := hp; exact ⟨rfl, rfl, rfl, by rw [hcd]; exact ⟨by decide, rfl⟩⟩))
    · refine lv_iconst (v := nI 1) hx hb dX1_show_9 rfl ?_
      refine lv_goto (tgt := 14) hx hb dX1_show_10 (by decide) ?_
      refine hp_S C T hl.1 (p_X1_inside) q593 q594 q53 q595 kd_X1_inside rfl rfl ⟨Nat.le_of_ble_eq_true rfl, Nat.le_of_ble_eq_true rfl⟩ (Nat.le_of_ble_eq_true rfl) dX1_show_14 ⟨by show 0 + 0 ≤ (KX - ksum cp NB) / 8 + 8; omega, by show 0 + 0 ≤ 2 * (KX - ksum cp NB) + 2048; omega⟩ (fun rv H6201 hp6201 T6201 => ?_)
      obtain rfl := hp6201
      refine W.eq (g2 := F0 m 17 ls []) rfl ?_
      refine lv_iload_n hx hb dX1_show_17 rfl (lv_at hl 1 rfl) ?_
      refine lv_iconst (v := nI 4) hx hb dX1_show_18 rfl ?_
      refine zi_icmp_eq (tgt := 29) (X := (x).toInt) (Y := ((4 : Nat) : Int)) hx hb dX1_show_19 (by decide) rfl (nI_toInt (by omega)) (fun c3 => ?_) (fun c3 => ?_)
      · refine lv_iconst (v := nI 1) hx hb dX1_show_29 rfl ?_
        refine lv_goto (tgt := 34) hx hb dX1_show_30 (by decide) ?_
        refine hp_S C T6201 hl.1 (p_X1_now) q517 q518 q53 q519 kd_X1_now rfl rfl ⟨Nat.le_of_ble_eq_true rfl, Nat.le_of_ble_eq_true rfl⟩ (Nat.le_of_ble_eq_true rfl) dX1_show_34 ⟨by show 0 + 0 ≤ (KX - ksum cp NB) / 8 + 8; omega, by show 0 + 0 ≤ 2 * (KX - ksum cp NB) + 2048; omega⟩ (fun rv H6202 hp6202 T6202 => ?_)
        obtain rfl := hp6202
        refine W.eq (g2 := F0 m 37 ls []) rfl ?_
        refine lv_iload_n hx hb dX1_show_37 rfl (lv_at hl 1 rfl) ?_
        refine zi_if_ne (tgt := 72) (X := (x).toInt) hx hb dX1_show_38 (by decide) rfl (fun c5 => ?_) (fun c5 => absurd c5 (by omega))
        refine lv_iload_n hx hb dX1_show_72 rfl (lv_at hl 1 rfl) ?_
        refine lv_iconst (v := nI 1) hx hb dX1_show_73 rfl ?_
        refine zi_icmp_ne (tgt := 135) (X := (x).toInt) (Y := ((1 : Nat) : Int)) hx hb dX1_show_74 (by decide) rfl (nI_toInt (by omega)) (fun c6 => ?_) (fun c6 => absurd c6 (by omega))
        refine lv_iload_n hx hb dX1_show_135 rfl (lv_at hl 1 rfl) ?_
        refine lv_iconst (v := nI 2) hx hb dX1_show_136 rfl ?_
        refine zi_icmp_ne (tgt := 193) (X := (x).toInt) (Y := ((2 : Nat) : Int)) hx hb dX1_show_137 (by decide) rfl (nI_toInt (by omega)) (fun c7 => ?_) (fun c7 => absurd c7 (by omega))
        refine lv_aload_n hx hb dX1_show_193 rfl (lv_at hl 0 rfl) ?_
        refine hr_get C T6202 ho0 rfl in_X1 34 (by decide) q336 rfl rfl dX1_show_194 ?_
        refine lv_iload_n hx hb dX1_show_197 rfl (lv_at hl 1 rfl) ?_
        refine lv_iconst (v := nI 3) hx hb dX1_show_198 rfl ?_
        refine zi_icmp_ne (tgt := 210) (X := (x).toInt) (Y := ((3 : Nat) : Int)) hx hb dX1_show_199 (by decide) rfl (nI_toInt (by omega)) (fun c8 => ?_) (fun c8 => absurd c8 (by omega))
        refine lv_aload_n hx hb dX1_show_210 rfl (lv_at hl 0 rfl) ?_
        refine hr_get C T6202 ho0 rfl in_X1 7 (by decide) q298 rfl rfl dX1_show_211 ?_
        refine hn_i2l hx hb dX1_show_214 (by omega) ?_
        obtain ⟨ca6204, hbo6204⟩ := hB.o (i := 2) (by decide)
        refine hc_V C T6202 hl.1 hbo6204 rfl (g_set (i := 2) hB (by decide) (by omega)) q271 q272 q273 q59 q274 kd_X7_set rfl rfl ⟨Nat.le_of_ble_eq_true rfl, Nat.le_of_ble_eq_true rfl⟩ (Nat.le_of_ble_eq_true rfl) dX1_show_215 ⟨by have hgw := (Gw.rf (cp := cp)); have hg1 := hgw.1; have hg2 := hgw.2; have hkm := hB.kmax; show 0 + 0 ≤ (KX - ksum cp NB) / 8 + 8; omega, by have hgw := (Gw.rf (cp := cp)); have hg1 := hgw.1; have hg2 := hgw.2; have hkm := hB.kmax; show 0 + 0 ≤ 2 * (KX - ksum cp NB) + 2048; omega⟩ (fun rv h6205 H6205 locs6205 hp6205 T6205 => ?_)
        obtain ⟨rfl, hB6205, hF6205⟩ := hp6205
        have hF_6205 : Fr (CO L B) h h6205 := hF.tr (hF6205.mono (fun _ z => Or.inr (Or.inr (Or.inr (Or.inr (Or.inr z))))))
        refine W.eq (g2 := F0 m 218 ls []) rfl ?_
        refine lv_aload_n hx hb dX1_show_218 rfl (lv_at hl 0 rfl) ?_
        have ho0_6205 : h6205 (L 0) = some (.inr (0, [.ref (L 1), .int (nI (N 0)), .ref (L 3), .int (nI (N 1)), .int (nI (N 2)), .int (nI (N 3)), .int (nI (N 4)), .int (nI (N 5)), .int (nI (N 6)), .int (nI (N 7)), .int (nI (N 8)), .ref (L 12), .ref (L 13), .ref (L 14), .ref (L 15), .ref (L 16), .ref (L 17), .int (nI (N 11)), .int (nI (N 15)), .int (nI (N 16)), .int (nI (N 17)), .int (nI (N 18) - 1), .int (nI (N 19)), .ref (L 24), .int (nI pp), .ref (L 26), .ref (L 27), .ref (if N 13 = 1 then L 27 else L 26), .ref (L 29), .ref (L 30), .ref (if N 12 = 1 then L 30 else L 29), .ref (L 32), .ref (B 0), .ref (B 1), .ref (B 2), .ref (B 3), .ref (L 37), .ref (L 38), .ref (L 39), .ref (B 4), .ref (B 5)]), L 0) := hF6205 _ _ ho0 (fun ⟨i, hi, e⟩ => hLay.2 i 0 hi (by decide) e.symm)
        refine hr_get C T6205 ho0_6205 rfl in_X1 35 (by decide) q337 rfl rfl dX1_show_219 ?_
        refine lv_iload_n hx hb dX1_show_222 rfl (lv_at hl 1 rfl) ?_
        refine lv_iconst (v := nI 3) hx hb dX1_show_223 rfl ?_
        refine zi_icmp_ne (tgt := 235) (X := (x).toInt) (Y := ((3 : Nat) : Int)) hx hb dX1_show_224 (by decide) rfl (nI_toInt (by omega)) (fun c10 => ?_) (fun c10 => absurd c10 (by omega))
        refine lv_aload_n hx hb dX1_show_235 rfl (lv_at hl 0 rfl) ?_
        refine hr_get C T6205 ho0_6205 rfl in_X1 8 (by decide) q301 rfl rfl dX1_show_236 ?_
        refine hn_i2l hx hb dX1_show_239 (by omega) ?_
        obtain ⟨ca6206, hbo6206⟩ := hB6205.o (i := 3) (by decide)
        refine hc_V C T6205 hl.1 hbo6206 rfl (g_set (i := 3) hB6205 (by decide) (by omega)) q271 q272 q273 q59 q274 kd_X7_set rfl rfl ⟨Nat.le_of_ble_eq_true rfl, Nat.le_of_ble_eq_true rfl⟩ (Nat.le_of_ble_eq_true rfl) dX1_show_240 ⟨by have hgw := (Gw.rf (cp := cp)); have hg1 := hgw.1; have hg2 := hgw.2; have hkm := hB6205.kmax; show 0 + 0 ≤ (KX - ksum cp NB) / 8 + 8; omega, by have hgw := (Gw.rf (cp := cp)); have hg1 := hgw.1; have hg2 := hgw.2; have hkm := hB6205.kmax; show 0 + 0 ≤ 2 * (KX - ksum cp NB) + 2048; omega⟩ (fun rv h6207 H6207 locs6207 hp6207 T6207 => ?_)
        obtain ⟨rfl, hB6207, hF6207⟩ := hp6207
        have hF_6207 : Fr (CO L B) h h6207 := hF_6205.tr (hF6207.mono (fun _ z => Or.inr (Or.inr (Or.inr (Or.inr (Or.inr z))))))
        refine W.eq (g2 := F0 m 243 ls []) rfl ?_
        have hxa : (nu (nu V 2 (N 5)) 3 (N 6)) 2 = shA N M 4 y.toInt.toNat := rfl
        have hxb : (nu (nu V 2 (N 5)) 3 (N 6)) 3 = shB N M 4 y.toInt.toNat := rfl
        have hxo : ∀ n, n ≠ 2 → n ≠ 3 → (nu (nu V 2 (N 5)) 3 (N 6)) n = V n := fun n h1 h2 => by repeat rw [nu_n (by omega)]
        have hnb : shB N M 4 y.toInt.toNat ≠ 0 := by show N 6 ≠ 0; omega
        have hla : lm (shA N M 4 y.toInt.toNat) ≤ 112 := Nat.le_trans (lm_1 (v := N 5) (by omega)) (by decide)
        have hlb : lm (shB N M 4 y.toInt.toNat) ≤ 112 := Nat.le_trans (lm_1 (v := N 6) (by omega)) (by decide)
        refine lv_aload_n hx hb dX1_show_243 rfl (lv_at hl 0 rfl) ?_
        have ho0_6207 : h6207 (L 0) = some (.inr (0, [.ref (L 1), .int (nI (N 0)), .ref (L 3), .int (nI (N 1)), .int (nI (N 2)), .int (nI (N 3)), .int (nI (N 4)), .int (nI (N 5)), .int (nI (N 6)), .int (nI (N 7)), .int (nI (N 8)), .ref (L 12), .ref (L 13), .ref (L 14), .ref (L 15), .ref (L 16), .ref (L 17), .int (nI (N 11)), .int (nI (N 15)), .int (nI (N 16)), .int (nI (N 17)), .int (nI (N 18) - 1), .int (nI (N 19)), .ref (L 24), .int (nI pp), .ref (L 26), .ref (L 27), .ref (if N 13 = 1 then L 27 else L 26), .ref (L 29), .ref (L 30), .ref (if N 12 = 1 then L 30 else L 29), .ref (L 32), .ref (B 0), .ref (B 1), .ref (B 2), .ref (B 3), .ref (L 37), .ref (L 38), .ref (L 39), .ref (B 4), .ref (B 5)]), L 0) := hF6207 _ _ ho0_6205 (fun ⟨i, hi, e⟩ => hLay.2 i 0 hi (by decide) e.symm)
        refine hr_get C T6207 ho0_6207 rfl in_X1 31 (by decide) q331 rfl rfl dX1_show_244 ?_
        refine lv_aload_n hx hb dX1_show_247 rfl (lv_at hl 0 rfl) ?_
        refine hr_get C T6207 ho0_6207 rfl in_X1 34 (by decide) q336 rfl rfl dX1_show_248 ?_
        refine lv_aload_n hx hb dX1_show_251 rfl (lv_at hl 0 rfl) ?_
        refine hr_get C T6207 ho0_6207 rfl in_X1 35 (by decide) q337 rfl rfl dX1_show_252 ?_
        have hSt_6205 : Stt E L B h6205 := Stt.kept hF6205 (fun ⟨i, hi, e⟩ => hLay.2 i 30 hi (by decide) e.symm) hSt
        have hSt_6207 : Stt E L B h6207 := Stt.kept hF6207 (fun ⟨i, hi, e⟩ => hLay.2 i 30 hi (by decide) e.symm) hSt_6205
        have hst32x6208 := (hSt_6207).2.2.2.2.2
        refine hg_V C T6207 hl.1 hst32x6208 rfl (m_X8_reduce (i := 2) (j := 3) hB6207 hst32x6208 (fun i hi => hLay.2 i 30 hi (by decide)) (by decide) (by decide) (by decide) (by decide) (by decide) (by rw [hxb]; exact fun z => hnb z.2) (by rw [hxa]; omega) (by rw [hxb]; omega)) q923 q924 q925 q60 q926 kd_X8_reduce rfl rfl ⟨Nat.le_of_ble_eq_true rfl, Nat.le_of_ble_eq_true rfl⟩ (Nat.le_of_ble_eq_true rfl) dX1_show_255 ⟨by have hgw := (Gw.rf (cp := cp)); have hg1 := hgw.1; have hg2 := hgw.2; have hkm := hB6207.kmax; show 0 + ((KX - ksum cp NB) / 8 + 8) ≤ (KX - ksum cp NB) / 8 + 8; omega, by have hgw := (Gw.rf (cp := cp)); have hg1 := hgw.1; have hg2 := hgw.2; have hkm := hB6207.kmax; show 0 + (2 * (KX - ksum cp NB) + 2048) ≤ 2 * (KX - ksum cp NB) + 2048; omega⟩ (fun rv h6209 dc6209 ds6209 H6209 locs6209 hp6209 T6209 => ?_)
        obtain ⟨rfl, V6209, c6209, hB6209, hk6209, hj6209, ho6209, hF6209, hw6209⟩ := hp6209
        have hW6209 := (Gw.rf (cp := cp)).tr hw6209
        have hF_6209 : Fr (CO L B) h h6209 := hF_6207.tr (hF6209.mono (fun _ z => Or.inr (Or.inr (Or.inr (Or.inr (Or.inr z))))))
        refine W.eq (g2 := F0 m 258 ls []) rfl ?_
        rw [hxa, hxb] at hk6209 hj6209
        refine lv_aload_n hx hb dX1_show_258 rfl (lv_at hl 0 rfl) ?_
        have ho0_6209 : h6209 (L 0) = some (.inr (0, [.ref (L 1), .int (nI (N 0)), .ref (L 3), .int (nI (N 1)), .int (nI (N 2)), .int (nI (N 3)), .int (nI (N 4)), .int (nI (N 5)), .int (nI (N 6)), .int (nI (N 7)), .int (nI (N 8)), .ref (L 12), .ref (L 13), .ref (L 14), .ref (L 15), .ref (L 16), .ref (L 17), .int (nI (N 11)), .int (nI (N 15)), .int (nI (N 16)), .int (nI (N 17)), .int (nI (N 18) - 1), .int (nI (N 19)), .ref (L 24), .int (nI pp), .ref (L 26), .ref (L 27), .ref (if N 13 = 1 then L 27 else L 26), .ref (L 29), .ref (L 30), .ref (if N 12 = 1 then L 30 else L 29), .ref (L 32), .ref (B 0), .ref (B 1), .ref (B 2), .ref (B 3), .ref (L 37), .ref (L 38), .ref (L 39), .ref (B 4), .ref (B 5)]), L 0) := hF6209 _ _ ho0_6207 (fun ⟨i, hi, e⟩ => hLay.2 i 0 hi (by decide) e.symm)
        refine hr_get C T6209 ho0_6209 rfl in_X1 34 (by decide) q336 rfl rfl dX1_show_259 ?_
        refine lv_aload_n hx hb dX1_show_262 rfl (lv_at hl 0 rfl) ?_
        refine hr_get C T6209 ho0_6209 rfl in_X1 35 (by decide) q337 rfl rfl dX1_show_263 ?_
        obtain ⟨ca6210, hbo6210⟩ := hB6209.o (i := 2) (by decide)
        refine hc_V C T6209 hl.1 hbo6210 rfl (g_compare (i := 2) (j := 3) hB6209 (by decide) (by decide)) q802 q803 q804 q59 q805 kd_X7_compare rfl rfl ⟨Nat.le_of_ble_eq_true rfl, Nat.le_of_ble_eq_true rfl⟩ (Nat.le_of_ble_eq_true rfl) dX1_show_266 ⟨by have hgw := (hW6209); have hg1 := hgw.1; have hg2 := hgw.2; have hkm := hB6209.kmax; show 0 + dc6209 + 0 ≤ (KX - ksum cp NB) / 8 + 8; omega, by have hgw := (hW6209); have hg1 := hgw.1; have hg2 := hgw.2; have hkm := hB6209.kmax; show 0 + ds6209 + 0 ≤ 2 * (KX - ksum cp NB) + 2048; omega⟩ (fun rv h6211 H6211 locs6211 hp6211 T6211 => ?_)
        obtain ⟨rfl, hq6211⟩ := hp6211
        rw [hq6211] at T6211
        rw [hk6209, hj6209]
        refine zi_if_lt (tgt := 276) (X := (cmpN (shA N M 4 y.toInt.toNat / Nat.gcd (shA N M 4 y.toInt.toNat) (shB N M 4 y.toInt.toNat)) (shB N M 4 y.toInt.toNat / Nat.gcd (shA N M 4 y.toInt.toNat) (shB N M 4 y.toInt.toNat))).toInt) hx hb dX1_show_269 (by decide) rfl (fun c9 => ?_) (fun c9 => ?_)
        · have hcd : cd_show N x y = 0 := by unfold cd_show; rw [if_neg (by omega), if_neg (by omega), if_neg (by omega)]
          refine lv_iconst (v := nI 0) hx hb dX1_show_276 rfl ?_
          have ha1_6205 : h6205 (L 1) = some (.inl (E.2.1 0, 8, .inl (f 1)), L 0) := hF6205 _ _ ha1 (fun ⟨i, hi, e⟩ => hLay.2 i 0 hi (by decide) e.symm)
          have ha1_6207 : h6207 (L 1) = some (.inl (E.2.1 0, 8, .inl (f 1)), L 0) := hF6207 _ _ ha1_6205 (fun ⟨i, hi, e⟩ => hLay.2 i 0 hi (by decide) e.symm)
          have ha1_6209 : h6209 (L 1) = some (.inl (E.2.1 0, 8, .inl (f 1)), L 0) := hF6209 _ _ ha1_6207 (fun ⟨i, hi, e⟩ => hLay.2 i 0 hi (by decide) e.symm)
          have ha3_6205 : h6205 (L 3) = some (.inl (E.2.1 0, 64, .inl (f 3)), L 0) := hF6205 _ _ ha3 (fun ⟨i, hi, e⟩ => hLay.2 i 0 hi (by decide) e.symm)
          have ha3_6207 : h6207 (L 3) = some (.inl (E.2.1 0, 64, .inl (f 3)), L 0) := hF6207 _ _ ha3_6205 (fun ⟨i, hi, e⟩ => hLay.2 i 0 hi (by decide) e.symm)
          have ha3_6209 : h6209 (L 3) = some (.inl (E.2.1 0, 64, .inl (f 3)), L 0) := hF6209 _ _ ha3_6207 (fun ⟨i, hi, e⟩ => hLay.2 i 0 hi (by decide) e.symm)
          have ha12_6205 : h6205 (L 12) = some (.inl (E.2.1 1, 20000, .inl (f 12)), L 0) := hF6205 _ _ ha12 (fun ⟨i, hi, e⟩ => hLay.2 i 0 hi (by decide) e.symm)
          have ha12_6207 : h6207 (L 12) = some (.inl (E.2.1 1, 20000, .inl (f 12)), L 0) := hF6207 _ _ ha12_6205 (fun ⟨i, hi, e⟩ => hLay.2 i 0 hi (by decide) e.symm)
          have ha12_6209 : h6209 (L 12) = some (.inl (E.2.1 1, 20000, .inl (f 12)), L 0) := hF6209 _ _ ha12_6207 (fun ⟨i, hi, e⟩ => hLay.2 i 0 hi (by decide) e.symm)
          have ha13_6205 : h6205 (L 13) = some (.inl (E.2.1 1, 20000, .inl (f 13)), L 0) := hF6205 _ _ ha13 (fun ⟨i, hi, e⟩ => hLay.2 i 0 hi (by decide) e.symm)
          have ha13_6207 : h6207 (L 13) = some (.inl (E.2.1 1, 20000, .inl (f 13)), L 0) := hF6207 _ _ ha13_6205 (fun ⟨i, hi, e⟩ => hLay.2 i 0 hi (by decide) e.symm)
          have ha13_6209 : h6209 (L 13) = some (.inl (E.2.1 1, 20000, .inl (f 13)), L 0) := hF6209 _ _ ha13_6207 (fun ⟨i, hi, e⟩ => hLay.2 i 0 hi (by decide) e.symm)
          have ha14_6205 : h6205 (L 14) = some (.inl (E.2.1 2, 20000, .inl (f 14)), L 0) := hF6205 _ _ ha14 (fun ⟨i, hi, e⟩ => hLay.2 i 0 hi (by decide) e.symm)
          have ha14_6207 : h6207 (L 14) = some (.inl (E.2.1 2, 20000, .inl (f 14)), L 0) := hF6207 _ _ ha14_6205 (fun ⟨i, hi, e⟩ => hLay.2 i 0 hi (by decide) e.symm)
          have ha14_6209 : h6209 (L 14) = some (.inl (E.2.1 2, 20000, .inl (f 14)), L 0) := hF6209 _ _ ha14_6207 (fun ⟨i, hi, e⟩ => hLay.2 i 0 hi (by decide) e.symm)
          have ha15_6205 : h6205 (L 15) = some (.inl (E.2.1 3, 8, .inl (f 15)), L 0) := hF6205 _ _ ha15 (fun ⟨i, hi, e⟩ => hLay.2 i 0 hi (by decide) e.symm)
          have ha15_6207 : h6207 (L 15) = some (.inl (E.2.1 3, 8, .inl (f 15)), L 0) := hF6207 _ _ ha15_6205 (fun ⟨i, hi, e⟩ => hLay.2 i 0 hi (by decide) e.symm)
          have ha15_6209 : h6209 (L 15) = some (.inl (E.2.1 3, 8, .inl (f 15)), L 0) := hF6209 _ _ ha15_6207 (fun ⟨i, hi, e⟩ => hLay.2 i 0 hi (by decide) e.symm)
          have ha16_6205 : h6205 (L 16) = some (.inl (E.2.1 0, 8, .inl (f 16)), L 0) := hF6205 _ _ ha16 (fun ⟨i, hi, e⟩ => hLay.2 i 0 hi (by decide) e.symm)
          have ha16_6207 : h6207 (L 16) = some (.inl (E.2.1 0, 8, .inl (f 16)), L 0) := hF6207 _ _ ha16_6205 (fun ⟨i, hi, e⟩ => hLay.2 i 0 hi (by decide) e.symm)
          have ha16_6209 : h6209 (L 16) = some (.inl (E.2.1 0, 8, .inl (f 16)), L 0) := hF6209 _ _ ha16_6207 (fun ⟨i, hi, e⟩ => hLay.2 i 0 hi (by decide) e.symm)
          have ha17_6205 : h6205 (L 17) = some (.inl (E.2.1 0, 8, .inl (f 17)), L 0) := hF6205 _ _ ha17 (fun ⟨i, hi, e⟩ => hLay.2 i 0 hi (by decide) e.symm)
          have ha17_6207 : h6207 (L 17) = some (.inl (E.2.1 0, 8, .inl (f 17)), L 0) := hF6207 _ _ ha17_6205 (fun ⟨i, hi, e⟩ => hLay.2 i 0 hi (by decide) e.symm)
          have ha17_6209 : h6209 (L 17) = some (.inl (E.2.1 0, 8, .inl (f 17)), L 0) := hF6209 _ _ ha17_6207 (fun ⟨i, hi, e⟩ => hLay.2 i 0 hi (by decide) e.symm)
          have ha39_6205 : h6205 (L 39) = some (.inl (E.2.1 3, 961, .inl (f 39)), L 0) := hF6205 _ _ ha39 (fun ⟨i, hi, e⟩ => hLay.2 i 0 hi (by decide) e.symm)
          have ha39_6207 : h6207 (L 39) = some (.inl (E.2.1 3, 961, .inl (f 39)), L 0) := hF6207 _ _ ha39_6205 (fun ⟨i, hi, e⟩ => hLay.2 i 0 hi (by decide) e.symm)
          have ha39_6209 : h6209 (L 39) = some (.inl (E.2.1 3, 961, .inl (f 39)), L 0) := hF6209 _ _ ha39_6207 (fun ⟨i, hi, e⟩ => hLay.2 i 0 hi (by decide) e.symm)
          have hSt_6209 : Stt E L B h6209 := Stt.kept hF6209 (fun ⟨i, hi, e⟩ => hLay.2 i 30 hi (by decide) e.symm) hSt_6207
          have hPr_6205 : Prs L B pw pl ps h6205 := Prs.kept hF6205 (fun ⟨i, hi, e⟩ => hLay.2 i 24 hi (by decide) e.symm) hPr
          have hPr_6207 : Prs L B pw pl ps h6207 := Prs.kept hF6207 (fun ⟨i, hi, e⟩ => hLay.2 i 24 hi (by decide) e.symm) hPr_6205
          have hPr_6209 : Prs L B pw pl ps h6209 := Prs.kept hF6209 (fun ⟨i, hi, e⟩ => hLay.2 i 24 hi (by decide) e.symm) hPr_6207
          have hCn_6205 : Cns h6205 E L (nI1 (M 8)) (N 10) := Cns.kept hF6205 (fun ⟨i, hi, e⟩ => hLay.2 i 26 hi (by decide) e.symm) hCn
          have hCn_6207 : Cns h6207 E L (nI1 (M 8)) (N 10) := Cns.kept hF6207 (fun ⟨i, hi, e⟩ => hLay.2 i 26 hi (by decide) e.symm) hCn_6205
          have hCn_6209 : Cns h6209 E L (nI1 (M 8)) (N 10) := Cns.kept hF6209 (fun ⟨i, hi, e⟩ => hLay.2 i 26 hi (by decide) e.symm) hCn_6207
          have hSd_6205 : Sds h6205 E L (nI1 (M 6)) (N 9) := Sds.kept hF6205 (fun ⟨i, hi, e⟩ => hLay.2 i 27 hi (by decide) e.symm) hSd
          have hSd_6207 : Sds h6207 E L (nI1 (M 6)) (N 9) := Sds.kept hF6207 (fun ⟨i, hi, e⟩ => hLay.2 i 27 hi (by decide) e.symm) hSd_6205
          have hSd_6209 : Sds h6209 E L (nI1 (M 6)) (N 9) := Sds.kept hF6209 (fun ⟨i, hi, e⟩ => hLay.2 i 27 hi (by decide) e.symm) hSd_6207
          have hDg_6205 : Dgo h6205 E L rs := Dgo.kept hF6205 (fun ⟨i, hi, e⟩ => hLay.2 i 62 hi (by decide) e.symm) hDg
          have hDg_6207 : Dgo h6207 E L rs := Dgo.kept hF6207 (fun ⟨i, hi, e⟩ => hLay.2 i 62 hi (by decide) e.symm) hDg_6205
          have hDg_6209 : Dgo h6209 E L rs := Dgo.kept hF6209 (fun ⟨i, hi, e⟩ => hLay.2 i 62 hi (by decide) e.symm) hDg_6207
          exact Z _ _ _ _ _ _ _ _ dX1_show_277 (by have hgw := (hW6209); have hg1 := hgw.1; have hg2 := hgw.2; have hkm := hB6209.kmax; show 0 + dc6209 ≤ (KX - ksum cp NB) / 8 + 8; omega) (by have hgw := (hW6209); have hg1 := hgw.1; have hg2 := hgw.2; have hkm := hB6209.kmax; show 0 + ds6209 ≤ 2 * (KX - ksum cp NB) + 2048; omega) (Or.inl rfl) ⟨hcd, by rw [show x.toInt.toNat = 4 by omega, if_neg (by have := cmpN_neg.mp c9; omega)]; rfl, _, by rw [show x.toInt.toNat = 4 by omega]; exact ⟨pp, f, rs, pw, pl, ps, V6209, ⟨ho0_6209, ha1_6209, ha3_6209, ha12_6209, ha13_6209, ha14_6209, ha15_6209, ha16_6209, ha17_6209, ha39_6209⟩, ⟨r1, r3, r12, r13, r14, r15, r16, r17, rp, rp16⟩, Vr_sh hVr hk6209 hj6209 ((ho6209 6 (by decide) (by decide) (by decide)).trans (hxo 6 (by decide) (by decide))) ((ho6209 7 (by decide) (by decide) (by decide)).trans (hxo 7 (by decide) (by decide))) (fun k h1 h2 => (ho6209 k (by omega) (by omega) (by omega)).trans (hxo k (by omega) (by omega))) i11.2.2.2, hSt_6209, hPr_6209, hCn_6209, hSd_6209, hDg_6209, hB6209⟩, hF_6209, hW6209⟩ T6211
        · have hcd : cd_show N x y = 0 := by unfold cd_show; rw [if_neg (by omega), if_neg (by omega), if_neg (by omega)]
          refine lv_iconst (v := nI 1) hx hb dX1_show_272 rfl ?_
          refine lv_goto (tgt := 277) hx hb dX1_show_273 (by decide) ?_
          have ha1_6205 : h6205 (L 1) = some (.inl (E.2.1 0, 8, .inl (f 1)), L 0) := hF6205 _ _ ha1 (fun ⟨i, hi, e⟩ => hLay.2 i 0 hi (by decide) e.symm)
          have ha1_6207 : h6207 (L 1) = some (.inl (E.2.1 0, 8, .inl (f 1)), L 0) := hF6207 _ _ ha1_6205 (fun ⟨i, hi, e⟩ => hLay.2 i 0 hi (by decide) e.symm)
          have ha1_6209 : h6209 (L 1) = some (.inl (E.2.1 0, 8, .inl (f 1)), L 0) := hF6209 _ _ ha1_6207 (fun ⟨i, hi, e⟩ => hLay.2 i 0 hi (by decide) e.symm)
          have ha3_6205 : h6205 (L 3) = some (.inl (E.2.1 0, 64, .inl (f 3)), L 0) := hF6205 _ _ ha3 (fun ⟨i, hi, e⟩ => hLay.2 i 0 hi (by decide) e.symm)
          have ha3_6207 : h6207 (L 3) = some (.inl (E.2.1 0, 64, .inl (f 3)), L 0) := hF6207 _ _ ha3_6205 (fun ⟨i, hi, e⟩ => hLay.2 i 0 hi (by decide) e.symm)
          have ha3_6209 : h6209 (L 3) = some (.inl (E.2.1 0, 64, .inl (f 3)), L 0) := hF6209 _ _ ha3_6207 (fun ⟨i, hi, e⟩ => hLay.2 i 0 hi (by decide) e.symm)
          have ha12_6205 : h6205 (L 12) = some (.inl (E.2.1 1, 20000, .inl (f 12)), L 0) := hF6205 _ _ ha12 (fun ⟨i, hi, e⟩ => hLay.2 i 0 hi (by decide) e.symm)
          have ha12_6207 : h6207 (L 12) = some (.inl (E.2.1 1, 20000, .inl (f 12)), L 0) := hF6207 _ _ ha12_6205 (fun ⟨i, hi, e⟩ => hLay.2 i 0 hi (by decide) e.symm)
          have ha12_6209 : h6209 (L 12) = some (.inl (E.2.1 1, 20000, .inl (f 12)), L 0) := hF6209 _ _ ha12_6207 (fun ⟨i, hi, e⟩ => hLay.2 i 0 hi (by decide) e.symm)
          have ha13_6205 : h6205 (L 13) = some (.inl (E.2.1 1, 20000, .inl (f 13)), L 0) := hF6205 _ _ ha13 (fun ⟨i, hi, e⟩ => hLay.2 i 0 hi (by decide) e.symm)
          have ha13_6207 : h6207 (L 13) = some (.inl (E.2.1 1, 20000, .inl (f 13)), L 0) := hF6207 _ _ ha13_6205 (fun ⟨i, hi, e⟩ => hLay.2 i 0 hi (by decide) e.symm)
          have ha13_6209 : h6209 (L 13) = some (.inl (E.2.1 1, 20000, .inl (f 13)), L 0) := hF6209 _ _ ha13_6207 (fun ⟨i, hi, e⟩ => hLay.2 i 0 hi (by decide) e.symm)
          have ha14_6205 : h6205 (L 14) = some (.inl (E.2.1 2, 20000, .inl (f 14)), L 0) := hF6205 _ _ ha14 (fun ⟨i, hi, e⟩ => hLay.2 i 0 hi (by decide) e.symm)
          have ha14_6207 : h6207 (L 14) = some (.inl (E.2.1 2, 20000, .inl (f 14)), L 0) := hF6207 _ _ ha14_6205 (fun ⟨i, hi, e⟩ => hLay.2 i 0 hi (by decide) e.symm)
          have ha14_6209 : h6209 (L 14) = some (.inl (E.2.1 2, 20000, .inl (f 14)), L 0) := hF6209 _ _ ha14_6207 (fun ⟨i, hi, e⟩ => hLay.2 i 0 hi (by decide) e.symm)
          have ha15_6205 : h6205 (L 15) = some (.inl (E.2.1 3, 8, .inl (f 15)), L 0) := hF6205 _ _ ha15 (fun ⟨i, hi, e⟩ => hLay.2 i 0 hi (by decide) e.symm)
          have ha15_6207 : h6207 (L 15) = some (.inl (E.2.1 3, 8, .inl (f 15)), L 0) := hF6207 _ _ ha15_6205 (fun ⟨i, hi, e⟩ => hLay.2 i 0 hi (by decide) e.symm)
          have ha15_6209 : h6209 (L 15) = some (.inl (E.2.1 3, 8, .inl (f 15)), L 0) := hF6209 _ _ ha15_6207 (fun ⟨i, hi, e⟩ => hLay.2 i 0 hi (by decide) e.symm)
          have ha16_6205 : h6205 (L 16) = some (.inl (E.2.1 0, 8, .inl (f 16)), L 0) := hF6205 _ _ ha16 (fun ⟨i, hi, e⟩ => hLay.2 i 0 hi (by decide) e.symm)
          have ha16_6207 : h6207 (L 16) = some (.inl (E.2.1 0, 8, .inl (f 16)), L 0) := hF6207 _ _ ha16_6205 (fun ⟨i, hi, e⟩ => hLay.2 i 0 hi (by decide) e.symm)
          have ha16_6209 : h6209 (L 16) = some (.inl (E.2.1 0, 8, .inl (f 16)), L 0) := hF6209 _ _ ha16_6207 (fun ⟨i, hi, e⟩ => hLay.2 i 0 hi (by decide) e.symm)
          have ha17_6205 : h6205 (L 17) = some (.inl (E.2.1 0, 8, .inl (f 17)), L 0) := hF6205 _ _ ha17 (fun ⟨i, hi, e⟩ => hLay.2 i 0 hi (by decide) e.symm)
          have ha17_6207 : h6207 (L 17) = some (.inl (E.2.1 0, 8, .inl (f 17)), L 0) := hF6207 _ _ ha17_6205 (fun ⟨i, hi, e⟩ => hLay.2 i 0 hi (by decide) e.symm)
          have ha17_6209 : h6209 (L 17) = some (.inl (E.2.1 0, 8, .inl (f 17)), L 0) := hF6209 _ _ ha17_6207 (fun ⟨i, hi, e⟩ => hLay.2 i 0 hi (by decide) e.symm)
          have ha39_6205 : h6205 (L 39) = some (.inl (E.2.1 3, 961, .inl (f 39)), L 0) := hF6205 _ _ ha39 (fun ⟨i, hi, e⟩ => hLay.2 i 0 hi (by decide) e.symm)
          have ha39_6207 : h6207 (L 39) = some (.inl (E.2.1 3, 961, .inl (f 39)), L 0) := hF6207 _ _ ha39_6205 (fun ⟨i, hi, e⟩ => hLay.2 i 0 hi (by decide) e.symm)
          have ha39_6209 : h6209 (L 39) = some (.inl (E.2.1 3, 961, .inl (f 39)), L 0) := hF6209 _ _ ha39_6207 (fun ⟨i, hi, e⟩ => hLay.2 i 0 hi (by decide) e.symm)
          have hSt_6209 : Stt E L B h6209 := Stt.kept hF6209 (fun ⟨i, hi, e⟩ => hLay.2 i 30 hi (by decide) e.symm) hSt_6207
          have hPr_6205 : Prs L B pw pl ps h6205 := Prs.kept hF6205 (fun ⟨i, hi, e⟩ => hLay.2 i 24 hi (by decide) e.symm) hPr
          have hPr_6207 : Prs L B pw pl ps h6207 := Prs.kept hF6207 (fun ⟨i, hi, e⟩ => hLay.2 i 24 hi (by decide) e.symm) hPr_6205
          have hPr_6209 : Prs L B pw pl ps h6209 := Prs.kept hF6209 (fun ⟨i, hi, e⟩ => hLay.2 i 24 hi (by decide) e.symm) hPr_6207
          have hCn_6205 : Cns h6205 E L (nI1 (M 8)) (N 10) := Cns.kept hF6205 (fun ⟨i, hi, e⟩ => hLay.2 i 26 hi (by decide) e.symm) hCn
          have hCn_6207 : Cns h6207 E L (nI1 (M 8)) (N 10) := Cns.kept hF6207 (fun ⟨i, hi, e⟩ => hLay.2 i 26 hi (by decide) e.symm) hCn_6205
          have hCn_6209 : Cns h6209 E L (nI1 (M 8)) (N 10) := Cns.kept hF6209 (fun ⟨i, hi, e⟩ => hLay.2 i 26 hi (by decide) e.symm) hCn_6207
          have hSd_6205 : Sds h6205 E L (nI1 (M 6)) (N 9) := Sds.kept hF6205 (fun ⟨i, hi, e⟩ => hLay.2 i 27 hi (by decide) e.symm) hSd
          have hSd_6207 : Sds h6207 E L (nI1 (M 6)) (N 9) := Sds.kept hF6207 (fun ⟨i, hi, e⟩ => hLay.2 i 27 hi (by decide) e.symm) hSd_6205
          have hSd_6209 : Sds h6209 E L (nI1 (M 6)) (N 9) := Sds.kept hF6209 (fun ⟨i, hi, e⟩ => hLay.2 i 27 hi (by decide) e.symm) hSd_6207
          have hDg_6205 : Dgo h6205 E L rs := Dgo.kept hF6205 (fun ⟨i, hi, e⟩ => hLay.2 i 62 hi (by decide) e.symm) hDg
          have hDg_6207 : Dgo h6207 E L rs := Dgo.kept hF6207 (fun ⟨i, hi, e⟩ => hLay.2 i 62 hi (by decide) e.symm) hDg_6205
          have hDg_6209 : Dgo h6209 E L rs := Dgo.kept hF6209 (fun ⟨i, hi, e⟩ => hLay.2 i 62 hi (by decide) e.symm) hDg_6207
          exact Z _ _ _ _ _ _ _ _ dX1_show_277 (by have hgw := (hW6209); have hg1 := hgw.1; have hg2 := hgw.2; have hkm := hB6209.kmax; show 0 + dc6209 ≤ (KX - ksum cp NB) / 8 + 8; omega) (by have hgw := (hW6209); have hg1 := hgw.1; have hg2 := hgw.2; have hkm := hB6209.kmax; show 0 + ds6209 ≤ 2 * (KX - ksum cp NB) + 2048; omega) (Or.inr rfl) ⟨hcd, by rw [show x.toInt.toNat = 4 by omega, if_pos (Nat.le_of_not_lt fun z => absurd (cmpN_neg.mpr z) (by omega))]; rfl, _, by rw [show x.toInt.toNat = 4 by omega]; exact ⟨pp, f, rs, pw, pl, ps, V6209, ⟨ho0_6209, ha1_6209, ha3_6209, ha12_6209, ha13_6209, ha14_6209, ha15_6209, ha16_6209, ha17_6209, ha39_6209⟩, ⟨r1, r3, r12, r13, r14, r15, r16, r17, rp, rp16⟩, Vr_sh hVr hk6209 hj6209 ((ho6209 6 (by decide) (by decide) (by decide)).trans (hxo 6 (by decide) (by decide))) ((ho6209 7 (by decide) (by decide) (by decide)).trans (hxo 7 (by decide) (by decide))) (fun k h1 h2 => (ho6209 k (by omega) (by omega) (by omega)).trans (hxo k (by omega) (by omega))) i11.2.2.2, hSt_6209, hPr_6209, hCn_6209, hSd_6209, hDg_6209, hB6209⟩, hF_6209, hW6209⟩ T6211
      · refine lv_aload_n hx hb dX1_show_22 rfl (lv_at hl 0 rfl) ?_
        refine hr_get C T6201 ho0 rfl in_X1 17 (by decide) q312 rfl rfl dX1_show_23 ?_
        refine hn_if_eq (tgt := 33) hx hb dX1_show_26 (by decide) (by omega) (fun c4 => ?_) (fun c4 => ?_)
        · refine lv_iconst (v := nI 0) hx hb dX1_show_33 rfl ?_
          have hcd : cd_show N x y = 2 := by unfold cd_show; (repeat' split) <;> omega
          exact Y _ _ _ _ _ _ ((thr_S C T6201 hl.1 (t_X1_now hfl) q517 q518 q53 q519 kd_X1_now rfl rfl ⟨Nat.le_of_ble_eq_true rfl, Nat.le_of_ble_eq_true rfl⟩ (Nat.le_of_ble_eq_true rfl) dX1_show_34 ⟨by show 0 + 1 ≤ (KX - ksum cp NB) / 8 + 8; omega, by show 0 + 6 ≤ 2 * (KX - ksum cp NB) + 2048; omega⟩).on C T6201 hno ⟨by show 0 + 1 ≤ (KX - ksum cp NB) / 8 + 8; omega, by show 0 + 6 ≤ 2 * (KX - ksum cp NB) + 2048; omega⟩ (fun h2 dc ds hp => by obtain ⟨rfl, rfl, rfl⟩ := hp; exact ⟨rfl, rfl, rfl, by rw [hcd]; exact ⟨by decide, rfl⟩⟩))
        · refine lv_iconst (v := nI 1) hx hb dX1_show_29 rfl ?_
          refine lv_goto (tgt := 34) hx hb dX1_show_30 (by decide) ?_
          refine hp_S C T6201 hl.1 (p_X1_now) q517 q518 q53 q519 kd_X1_now rfl rfl ⟨Nat.le_of_ble_eq_true rfl, Nat.le_of_ble_eq_true rfl⟩ (Nat.le_of_ble_eq_true rfl) dX1_show_34 ⟨by show 0 + 0 ≤ (KX - ksum cp NB) / 8 + 8; omega, by show 0 + 0 ≤ 2 * (KX - ksum cp NB) + 2048; omega⟩ (fun rv H6203 hp6203 T6203 => ?_)
          obtain rfl := hp6203
          refine W.eq (g2 := F0 m 37 ls []) rfl ?_
          have cS : N 11 ≠ 0 := c4
          have rpp := rp cS
          have hin := inz cS
          refine lv_iload_n hx hb dX1_show_37 rfl (lv_at hl 1 rfl) ?_
          refine zi_if_ne (tgt := 72) (X := (x).toInt) hx hb dX1_show_38 (by decide) rfl (fun c5 => ?_) (fun c5 => ?_)
          · refine lv_iload_n hx hb dX1_show_72 rfl (lv_at hl 1 rfl) ?_
            refine lv_iconst (v := nI 1) hx hb dX1_show_73 rfl ?_
            refine zi_icmp_ne (tgt := 135) (X := (x).toInt) (Y := ((1 : Nat) : Int)) hx hb dX1_show_74 (by decide) rfl (nI_toInt (by omega)) (fun c6 => ?_) (fun c6 => ?_)
            · refine lv_iload_n hx hb dX1_show_135 rfl (lv_at hl 1 rfl) ?_
              refine lv_iconst (v := nI 2) hx hb dX1_show_136 rfl ?_
              refine zi_icmp_ne (tgt := 193) (X := (x).toInt) (Y := ((2 : Nat) : Int)) hx hb dX1_show_137 (by decide) rfl (nI_toInt (by omega)) (fun c7 => ?_) (fun c7 => ?_)
              · have hPW : PWh M pw pl pp := fun k hk => by have h1 := hVr.2.2.2 cS k (by omega); have h2 := hin.2.2.2.1 k (by omega); exact ⟨h1.2.2.1, h1.2.2.2.1, by omega, by omega, h2.2.2⟩
                have hls := lst_le iv (hPW 0 (by omega)).2.2.1 (N 14 - 1)
                refine lv_aload_n hx hb dX1_show_193 rfl (lv_at hl 0 rfl) ?_
                refine hr_get C T6203 ho0 rfl in_X1 34 (by decide) q336 rfl rfl dX1_show_194 ?_
                refine lv_iload_n hx hb dX1_show_197 rfl (lv_at hl 1 rfl) ?_
                refine lv_iconst (v := nI 3) hx hb dX1_show_198 rfl ?_
                refine zi_icmp_ne (tgt := 210) (X := (x).toInt) (Y := ((3 : Nat) : Int)) hx hb dX1_show_199 (by decide) rfl (nI_toInt (by omega)) (fun c8 => absurd c8 (by omega)) (fun c8 => ?_)
                refine lv_aload_n hx hb dX1_show_202 rfl (lv_at hl 0 rfl) ?_
                refine hc_V C T6203 hl.1 ho0 rfl (m_X1_least (M := M) ho0 ha1 hSt hPr (by omega) rp16 r1 iv hPW) q983 q764 qs10 q53 q765 kd_X1_least rfl rfl ⟨Nat.le_of_ble_eq_true rfl, Nat.le_of_ble_eq_true rfl⟩ (Nat.le_of_ble_eq_true rfl) dX1_show_203 ⟨by show 0 + 0 ≤ (KX - ksum cp NB) / 8 + 8; omega, by show 0 + 0 ≤ 2 * (KX - ksum cp NB) + 2048; omega⟩ (fun rv h6251 H6251 locs6251 hp6251 T6251 => ?_)
                obtain ⟨rfl, hq6251⟩ := hp6251
                rw [hq6251] at T6251
                refine W.eq (g2 := F0 m 206 ls [.int (nI (lst M (pp - 1))), .ref (B 2)]) rfl ?_
                rw [rpp]
                refine hn_i2l hx hb dX1_show_206 (by omega) ?_
                refine lv_goto (tgt := 215) hx hb dX1_show_207 (by decide) ?_
                obtain ⟨ca6252, hbo6252⟩ := hB.o (i := 2) (by decide)
                refine hc_V C T6251 hl.1 hbo6252 rfl (g_set (i := 2) hB (by decide) (by omega)) q271 q272 q273 q59 q274 kd_X7_set rfl rfl ⟨Nat.le_of_ble_eq_true rfl, Nat.le_of_ble_eq_true rfl⟩ (Nat.le_of_ble_eq_true rfl) dX1_show_215 ⟨by have hgw := (Gw.rf (cp := cp)); have hg1 := hgw.1; have hg2 := hgw.2; have hkm := hB.kmax; show 0 + 0 ≤ (KX - ksum cp NB) / 8 + 8; omega, by have hgw := (Gw.rf (cp := cp)); have hg1 := hgw.1; have hg2 := hgw.2; have hkm := hB.kmax; show 0 + 0 ≤ 2 * (KX - ksum cp NB) + 2048; omega⟩ (fun rv h6253 H6253 locs6253 hp6253 T6253 => ?_)
                obtain ⟨rfl, hB6253, hF6253⟩ := hp6253
                have hF_6253 : Fr (CO L B) h h6253 := hF.tr (hF6253.mono (fun _ z => Or.inr (Or.inr (Or.inr (Or.inr (Or.inr z))))))
                refine W.eq (g2 := F0 m 218 ls []) rfl ?_
                refine lv_aload_n hx hb dX1_show_218 rfl (lv_at hl 0 rfl) ?_
                have ho0_6253 : h6253 (L 0) = some (.inr (0, [.ref (L 1), .int (nI (N 0)), .ref (L 3), .int (nI (N 1)), .int (nI (N 2)), .int (nI (N 3)), .int (nI (N 4)), .int (nI (N 5)), .int (nI (N 6)), .int (nI (N 7)), .int (nI (N 8)), .ref (L 12), .ref (L 13), .ref (L 14), .ref (L 15), .ref (L 16), .ref (L 17), .int (nI (N 11)), .int (nI (N 15)), .int (nI (N 16)), .int (nI (N 17)), .int (nI (N 18) - 1), .int (nI (N 19)), .ref (L 24), .int (nI pp), .ref (L 26), .ref (L 27), .ref (if N 13 = 1 then L 27 else L 26), .ref (L 29), .ref (L 30), .ref (if N 12 = 1 then L 30 else L 29), .ref (L 32), .ref (B 0), .ref (B 1), .ref (B 2), .ref (B 3), .ref (L 37), .ref (L 38), .ref (L 39), .ref (B 4), .ref (B 5)]), L 0) := hF6253 _ _ ho0 (fun ⟨i, hi, e⟩ => hLay.2 i 0 hi (by decide) e.symm)
                refine hr_get C T6253 ho0_6253 rfl in_X1 35 (by decide) q337 rfl rfl dX1_show_219 ?_
                refine lv_iload_n hx hb dX1_show_222 rfl (lv_at hl 1 rfl) ?_
                refine lv_iconst (v := nI 3) hx hb dX1_show_223 rfl ?_
                refine zi_icmp_ne (tgt := 235) (X := (x).toInt) (Y := ((3 : Nat) : Int)) hx hb dX1_show_224 (by decide) rfl (nI_toInt (by omega)) (fun c10 => absurd c10 (by omega)) (fun c10 => ?_)
                refine lv_aload_n hx hb dX1_show_227 rfl (lv_at hl 0 rfl) ?_
                refine hr_get C T6253 ho0_6253 rfl in_X1 4 (by decide) q295 rfl rfl dX1_show_228 ?_
                refine hn_i2l hx hb dX1_show_231 (by omega) ?_
                refine lv_goto (tgt := 240) hx hb dX1_show_232 (by decide) ?_
                obtain ⟨ca6254, hbo6254⟩ := hB6253.o (i := 3) (by decide)
                refine hc_V C T6253 hl.1 hbo6254 rfl (g_set (i := 3) hB6253 (by decide) (by omega)) q271 q272 q273 q59 q274 kd_X7_set rfl rfl ⟨Nat.le_of_ble_eq_true rfl, Nat.le_of_ble_eq_true rfl⟩ (Nat.le_of_ble_eq_true rfl) dX1_show_240 ⟨by have hgw := (Gw.rf (cp := cp)); have hg1 := hgw.1; have hg2 := hgw.2; have hkm := hB6253.kmax; show 0 + 0 ≤ (KX - ksum cp NB) / 8 + 8; omega, by have hgw := (Gw.rf (cp := cp)); have hg1 := hgw.1; have hg2 := hgw.2; have hkm := hB6253.kmax; show 0 + 0 ≤ 2 * (KX - ksum cp NB) + 2048; omega⟩ (fun rv h6255 H6255 locs6255 hp6255 T6255 => ?_)
                obtain ⟨rfl, hB6255, hF6255⟩ := hp6255
                have hF_6255 : Fr (CO L B) h h6255 := hF_6253.tr (hF6255.mono (fun _ z => Or.inr (Or.inr (Or.inr (Or.inr (Or.inr z))))))
                refine W.eq (g2 := F0 m 243 ls []) rfl ?_
                have hxa : (nu (nu V 2 (lst M (N 14 - 1))) 3 (N 2)) 2 = shA N M 3 y.toInt.toNat := rfl
                have hxb : (nu (nu V 2 (lst M (N 14 - 1))) 3 (N 2)) 3 = shB N M 3 y.toInt.toNat := rfl
                have hxo : ∀ n, n ≠ 2 → n ≠ 3 → (nu (nu V 2 (lst M (N 14 - 1))) 3 (N 2)) n = V n := fun n h1 h2 => by repeat rw [nu_n (by omega)]
                have hnb : shB N M 3 y.toInt.toNat ≠ 0 := by show N 2 ≠ 0; have := hin.1.2.2.1; omega
                have hla : lm (shA N M 3 y.toInt.toNat) ≤ 112 := Nat.le_trans (lm_1 (v := lst M (N 14 - 1)) (by omega)) (by decide)
                have hlb : lm (shB N M 3 y.toInt.toNat) ≤ 112 := Nat.le_trans (lm_1 (v := N 2) (by omega)) (by decide)
                refine lv_aload_n hx hb dX1_show_243 rfl (lv_at hl 0 rfl) ?_
                have ho0_6255 : h6255 (L 0) = some (.inr (0, [.ref (L 1), .int (nI (N 0)), .ref (L 3), .int (nI (N 1)), .int (nI (N 2)), .int (nI (N 3)), .int (nI (N 4)), .int (nI (N 5)), .int (nI (N 6)), .int (nI (N 7)), .int (nI (N 8)), .ref (L 12), .ref (L 13), .ref (L 14), .ref (L 15), .ref (L 16), .ref (L 17), .int (nI (N 11)), .int (nI (N 15)), .int (nI (N 16)), .int (nI (N 17)), .int (nI (N 18) - 1), .int (nI (N 19)), .ref (L 24), .int (nI pp), .ref (L 26), .ref (L 27), .ref (if N 13 = 1 then L 27 else L 26), .ref (L 29), .ref (L 30), .ref (if N 12 = 1 then L 30 else L 29), .ref (L 32), .ref (B 0), .ref (B 1), .ref (B 2), .ref (B 3), .ref (L 37), .ref (L 38), .ref (L 39), .ref (B 4), .ref (B 5)]), L 0) := hF6255 _ _ ho0_6253 (fun ⟨i, hi, e⟩ => hLay.2 i 0 hi (by decide) e.symm)
                refine hr_get C T6255 ho0_6255 rfl in_X1 31 (by decide) q331 rfl rfl dX1_show_244 ?_
                refine lv_aload_n hx hb dX1_show_247 rfl (lv_at hl 0 rfl) ?_
                refine hr_get C T6255 ho0_6255 rfl in_X1 34 (by decide) q336 rfl rfl dX1_show_248 ?_
                refine lv_aload_n hx hb dX1_show_251 rfl (lv_at hl 0 rfl) ?_
                refine hr_get C T6255 ho0_6255 rfl in_X1 35 (by decide) q337 rfl rfl dX1_show_252 ?_
                have hSt_6253 : Stt E L B h6253 := Stt.kept hF6253 (fun ⟨i, hi, e⟩ => hLay.2 i 30 hi (by decide) e.symm) hSt
                have hSt_6255 : Stt E L B h6255 := Stt.kept hF6255 (fun ⟨i, hi, e⟩ => hLay.2 i 30 hi (by decide) e.symm) hSt_6253
                have hst32x6256 := (hSt_6255).2.2.2.2.2
                refine hg_V C T6255 hl.1 hst32x6256 rfl (m_X8_reduce (i := 2) (j := 3) hB6255 hst32x6256 (fun i hi => hLay.2 i 30 hi (by decide)) (by decide) (by decide) (by decide) (by decide) (by decide) (by rw [hxb]; exact fun z => hnb z.2) (by rw [hxa]; omega) (by rw [hxb]; omega)) q923 q924 q925 q60 q926 kd_X8_reduce rfl rfl ⟨Nat.le_of_ble_eq_true rfl, Nat.le_of_ble_eq_true rfl⟩ (Nat.le_of_ble_eq_true rfl) dX1_show_255 ⟨by have hgw := (Gw.rf (cp := cp)); have hg1 := hgw.1; have hg2 := hgw.2; have hkm := hB6255.kmax; show 0 + ((KX - ksum cp NB) / 8 + 8) ≤ (KX - ksum cp NB) / 8 + 8; omega, by have hgw := (Gw.rf (cp := cp)); have hg1 := hgw.1; have hg2 := hgw.2; have hkm := hB6255.kmax; show 0 + (2 * (KX - ksum cp NB) + 2048) ≤ 2 * (KX - ksum cp NB) + 2048; omega⟩ (fun rv h6257 dc6257 ds6257 H6257 locs6257 hp6257 T6257 => ?_)
                obtain ⟨rfl, V6257, c6257, hB6257, hk6257, hj6257, ho6257, hF6257, hw6257⟩ := hp6257
                have hW6257 := (Gw.rf (cp := cp)).tr hw6257
                have hF_6257 : Fr (CO L B) h h6257 := hF_6255.tr (hF6257.mono (fun _ z => Or.inr (Or.inr (Or.inr (Or.inr (Or.inr z))))))
                refine W.eq (g2 := F0 m 258 ls []) rfl ?_
                rw [hxa, hxb] at hk6257 hj6257
                refine lv_aload_n hx hb dX1_show_258 rfl (lv_at hl 0 rfl) ?_
                have ho0_6257 : h6257 (L 0) = some (.inr (0, [.ref (L 1), .int (nI (N 0)), .ref (L 3), .int (nI (N 1)), .int (nI (N 2)), .int (nI (N 3)), .int (nI (N 4)), .int (nI (N 5)), .int (nI (N 6)), .int (nI (N 7)), .int (nI (N 8)), .ref (L 12), .ref (L 13), .ref (L 14), .ref (L 15), .ref (L 16), .ref (L 17), .int (nI (N 11)), .int (nI (N 15)), .int (nI (N 16)), .int (nI (N 17)), .int (nI (N 18) - 1), .int (nI (N 19)), .ref (L 24), .int (nI pp), .ref (L 26), .ref (L 27), .ref (if N 13 = 1 then L 27 else L 26), .ref (L 29), .ref (L 30), .ref (if N 12 = 1 then L 30 else L 29), .ref (L 32), .ref (B 0), .ref (B 1), .ref (B 2), .ref (B 3), .ref (L 37), .ref (L 38), .ref (L 39), .ref (B 4), .ref (B 5)]), L 0) := hF6257 _ _ ho0_6255 (fun ⟨i, hi, e⟩ => hLay.2 i 0 hi (by decide) e.symm)
                refine hr_get C T6257 ho0_6257 rfl in_X1 34 (by decide) q336 rfl rfl dX1_show_259 ?_
                refine lv_aload_n hx hb dX1_show_262 rfl (lv_at hl 0 rfl) ?_
                refine hr_get C T6257 ho0_6257 rfl in_X1 35 (by decide) q337 rfl rfl dX1_show_263 ?_
                obtain ⟨ca6258, hbo6258⟩ := hB6257.o (i := 2) (by decide)
                refine hc_V C T6257 hl.1 hbo6258 rfl (g_compare (i := 2) (j := 3) hB6257 (by decide) (by decide)) q802 q803 q804 q59 q805 kd_X7_compare rfl rfl ⟨Nat.le_of_ble_eq_true rfl, Nat.le_of_ble_eq_true rfl⟩ (Nat.le_of_ble_eq_true rfl) dX1_show_266 ⟨by have hgw := (hW6257); have hg1 := hgw.1; have hg2 := hgw.2; have hkm := hB6257.kmax; show 0 + dc6257 + 0 ≤ (KX - ksum cp NB) / 8 + 8; omega, by have hgw := (hW6257); have hg1 := hgw.1; have hg2 := hgw.2; have hkm := hB6257.kmax; show 0 + ds6257 + 0 ≤ 2 * (KX - ksum cp NB) + 2048; omega⟩ (fun rv h6259 H6259 locs6259 hp6259 T6259 => ?_)
                obtain ⟨rfl, hq6259⟩ := hp6259
                rw [hq6259] at T6259
                rw [hk6257, hj6257]
                refine zi_if_lt (tgt := 276) (X := (cmpN (shA N M 3 y.toInt.toNat / Nat.gcd (shA N M 3 y.toInt.toNat) (shB N M 3 y.toInt.toNat)) (shB N M 3 y.toInt.toNat / Nat.gcd (shA N M 3 y.toInt.toNat) (shB N M 3 y.toInt.toNat))).toInt) hx hb dX1_show_269 (by decide) rfl (fun c9 => ?_) (fun c9 => ?_)
                · have hcd : cd_show N x y = 0 := by unfold cd_show; rw [if_neg (by omega), if_neg (by omega), if_neg (by omega)]
                  refine lv_iconst (v := nI 0) hx hb dX1_show_276 rfl ?_
                  have ha1_6253 : h6253 (L 1) = some (.inl (E.2.1 0, 8, .inl (f 1)), L 0) := hF6253 _ _ ha1 (fun ⟨i, hi, e⟩ => hLay.2 i 0 hi (by decide) e.symm)
                  have ha1_6255 : h6255 (L 1) = some (.inl (E.2.1 0, 8, .inl (f 1)), L 0) := hF6255 _ _ ha1_6253 (fun ⟨i, hi, e⟩ => hLay.2 i 0 hi (by decide) e.symm)
                  have ha1_6257 : h6257 (L 1) = some (.inl (E.2.1 0, 8, .inl (f 1)), L 0) := hF6257 _ _ ha1_6255 (fun ⟨i, hi, e⟩ => hLay.2 i 0 hi (by decide) e.symm)
                  have ha3_6253 : h6253 (L 3) = some (.inl (E.2.1 0, 64, .inl (f 3)), L 0) := hF6253 _ _ ha3 (fun ⟨i, hi, e⟩ => hLay.2 i 0 hi (by decide) e.symm)
                  have ha3_6255 : h6255 (L 3) = some (.inl (E.2.1 0, 64, .inl (f 3)), L 0) := hF6255 _ _ ha3_6253 (fun ⟨i, hi, e⟩ => hLay.2 i 0 hi (by decide) e.symm)
                  have ha3_6257 : h6257 (L 3) = some (.inl (E.2.1 0, 64, .inl (f 3)), L 0) := hF6257 _ _ ha3_6255 (fun ⟨i, hi, e⟩ => hLay.2 i 0 hi (by decide) e.symm)
                  have ha12_6253 : h6253 (L 12) = some (.inl (E.2.1 1, 20000, .inl (f 12)), L 0) := hF6253 _ _ ha12 (fun ⟨i, hi, e⟩ => hLay.2 i 0 hi (by decide) e.symm)
                  have ha12_6255 : h6255 (L 12) = some (.inl (E.2.1 1, 20000, .inl (f 12)), L 0) := hF6255 _ _ ha12_6253 (fun ⟨i, hi, e⟩ => hLay.2 i 0 hi (by decide) e.symm)
                  have ha12_6257 : h6257 (L 12) = some (.inl (E.2.1 1, 20000, .inl (f 12)), L 0) := hF6257 _ _ ha12_6255 (fun ⟨i, hi, e⟩ => hLay.2 i 0 hi (by decide) e.symm)
                  have ha13_6253 : h6253 (L 13) = some (.inl (E.2.1 1, 20000, .inl (f 13)), L 0) := hF6253 _ _ ha13 (fun ⟨i, hi, e⟩ => hLay.2 i 0 hi (by decide) e.symm)
                  have ha13_6255 : h6255 (L 13) = some (.inl (E.2.1 1, 20000, .inl (f 13)), L 0) := hF6255 _ _ ha13_6253 (fun ⟨i, hi, e⟩ => hLay.2 i 0 hi (by decide) e.symm)
                  have ha13_6257 : h6257 (L 13) = some (.inl (E.2.1 1, 20000, .inl (f 13)), L 0) := hF6257 _ _ ha13_6255 (fun ⟨i, hi, e⟩ => hLay.2 i 0 hi (by decide) e.symm)
                  have ha14_6253 : h6253 (L 14) = some (.inl (E.2.1 2, 20000, .inl (f 14)), L 0) := hF6253 _ _ ha14 (fun ⟨i, hi, e⟩ => hLay.2 i 0 hi (by decide) e.symm)
                  have ha14_6255 : h6255 (L 14) = some (.inl (E.2.1 2, 20000, .inl (f 14)), L 0) := hF6255 _ _ ha14_6253 (fun ⟨i, hi, e⟩ => hLay.2 i 0 hi (by decide) e.symm)
                  have ha14_6257 : h6257 (L 14) = some (.inl (E.2.1 2, 20000, .inl (f 14)), L 0) := hF6257 _ _ ha14_6255 (fun ⟨i, hi, e⟩ => hLay.2 i 0 hi (by decide) e.symm)
                  have ha15_6253 : h6253 (L 15) = some (.inl (E.2.1 3, 8, .inl (f 15)), L 0) := hF6253 _ _ ha15 (fun ⟨i, hi, e⟩ => hLay.2 i 0 hi (by decide) e.symm)
                  have ha15_6255 : h6255 (L 15) = some (.inl (E.2.1 3, 8, .inl (f 15)), L 0) := hF6255 _ _ ha15_6253 (fun ⟨i, hi, e⟩ => hLay.2 i 0 hi (by decide) e.symm)
                  have ha15_6257 : h6257 (L 15) = some (.inl (E.2.1 3, 8, .inl (f 15)), L 0) := hF6257 _ _ ha15_6255 (fun ⟨i, hi, e⟩ => hLay.2 i 0 hi (by decide) e.symm)
                  have ha16_6253 : h6253 (L 16) = some (.inl (E.2.1 0, 8, .inl (f 16)), L 0) := hF6253 _ _ ha16 (fun ⟨i, hi, e⟩ => hLay.2 i 0 hi (by decide) e.symm)
                  have ha16_6255 : h6255 (L 16) = some (.inl (E.2.1 0, 8, .inl (f 16)), L 0) := hF6255 _ _ ha16_6253 (fun ⟨i, hi, e⟩ => hLay.2 i 0 hi (by decide) e.symm)
                  have ha16_6257 : h6257 (L 16) = some (.inl (E.2.1 0, 8, .inl (f 16)), L 0) := hF6257 _ _ ha16_6255 (fun ⟨i, hi, e⟩ => hLay.2 i 0 hi (by decide) e.symm)
                  have ha17_6253 : h6253 (L 17) = some (.inl (E.2.1 0, 8, .inl (f 17)), L 0) := hF6253 _ _ ha17 (fun ⟨i, hi, e⟩ => hLay.2 i 0 hi (by decide) e.symm)
                  have ha17_6255 : h6255 (L 17) = some (.inl (E.2.1 0, 8, .inl (f 17)), L 0) := hF6255 _ _ ha17_6253 (fun ⟨i, hi, e⟩ => hLay.2 i 0 hi (by decide) e.symm)
                  have ha17_6257 : h6257 (L 17) = some (.inl (E.2.1 0, 8, .inl (f 17)), L 0) := hF6257 _ _ ha17_6255 (fun ⟨i, hi, e⟩ => hLay.2 i 0 hi (by decide) e.symm)
                  have ha39_6253 : h6253 (L 39) = some (.inl (E.2.1 3, 961, .inl (f 39)), L 0) := hF6253 _ _ ha39 (fun ⟨i, hi, e⟩ => hLay.2 i 0 hi (by decide) e.symm)
                  have ha39_6255 : h6255 (L 39) = some (.inl (E.2.1 3, 961, .inl (f 39)), L 0) := hF6255 _ _ ha39_6253 (fun ⟨i, hi, e⟩ => hLay.2 i 0 hi (by decide) e.symm)
                  have ha39_6257 : h6257 (L 39) = some (.inl (E.2.1 3, 961, .inl (f 39)), L 0) := hF6257 _ _ ha39_6255 (fun ⟨i, hi, e⟩ => hLay.2 i 0 hi (by decide) e.symm)
                  have hSt_6257 : Stt E L B h6257 := Stt.kept hF6257 (fun ⟨i, hi, e⟩ => hLay.2 i 30 hi (by decide) e.symm) hSt_6255
                  have hPr_6253 : Prs L B pw pl ps h6253 := Prs.kept hF6253 (fun ⟨i, hi, e⟩ => hLay.2 i 24 hi (by decide) e.symm) hPr
                  have hPr_6255 : Prs L B pw pl ps h6255 := Prs.kept hF6255 (fun ⟨i, hi, e⟩ => hLay.2 i 24 hi (by decide) e.symm) hPr_6253
                  have hPr_6257 : Prs L B pw pl ps h6257 := Prs.kept hF6257 (fun ⟨i, hi, e⟩ => hLay.2 i 24 hi (by decide) e.symm) hPr_6255
                  have hCn_6253 : Cns h6253 E L (nI1 (M 8)) (N 10) := Cns.kept hF6253 (fun ⟨i, hi, e⟩ => hLay.2 i 26 hi (by decide) e.symm) hCn
                  have hCn_6255 : Cns h6255 E L (nI1 (M 8)) (N 10) := Cns.kept hF6255 (fun ⟨i, hi, e⟩ => hLay.2 i 26 hi (by decide) e.symm) hCn_6253
                  have hCn_6257 : Cns h6257 E L (nI1 (M 8)) (N 10) := Cns.kept hF6257 (fun ⟨i, hi, e⟩ => hLay.2 i 26 hi (by decide) e.symm) hCn_6255
                  have hSd_6253 : Sds h6253 E L (nI1 (M 6)) (N 9) := Sds.kept hF6253 (fun ⟨i, hi, e⟩ => hLay.2 i 27 hi (by decide) e.symm) hSd
                  have hSd_6255 : Sds h6255 E L (nI1 (M 6)) (N 9) := Sds.kept hF6255 (fun ⟨i, hi, e⟩ => hLay.2 i 27 hi (by decide) e.symm) hSd_6253
                  have hSd_6257 : Sds h6257 E L (nI1 (M 6)) (N 9) := Sds.kept hF6257 (fun ⟨i, hi, e⟩ => hLay.2 i 27 hi (by decide) e.symm) hSd_6255
                  have hDg_6253 : Dgo h6253 E L rs := Dgo.kept hF6253 (fun ⟨i, hi, e⟩ => hLay.2 i 62 hi (by decide) e.symm) hDg
                  have hDg_6255 : Dgo h6255 E L rs := Dgo.kept hF6255 (fun ⟨i, hi, e⟩ => hLay.2 i 62 hi (by decide) e.symm) hDg_6253
                  have hDg_6257 : Dgo h6257 E L rs := Dgo.kept hF6257 (fun ⟨i, hi, e⟩ => hLay.2 i 62 hi (by decide) e.symm) hDg_6255
                  exact Z _ _ _ _ _ _ _ _ dX1_show_277 (by have hgw := (hW6257); have hg1 := hgw.1; have hg2 := hgw.2; have hkm := hB6257.kmax; show 0 + dc6257 ≤ (KX - ksum cp NB) / 8 + 8; omega) (by have hgw := (hW6257); have hg1 := hgw.1; have hg2 := hgw.2; have hkm := hB6257.kmax; show 0 + ds6257 ≤ 2 * (KX - ksum cp NB) + 2048; omega) (Or.inl rfl) ⟨hcd, by rw [show x.toInt.toNat = 3 by omega, if_neg (by have := cmpN_neg.mp c9; omega)]; rfl, _, by rw [show x.toInt.toNat = 3 by omega]; exact ⟨pp, f, rs, pw, pl, ps, V6257, ⟨ho0_6257, ha1_6257, ha3_6257, ha12_6257, ha13_6257, ha14_6257, ha15_6257, ha16_6257, ha17_6257, ha39_6257⟩, ⟨r1, r3, r12, r13, r14, r15, r16, r17, rp, rp16⟩, Vr_sh hVr hk6257 hj6257 ((ho6257 6 (by decide) (by decide) (by decide)).trans (hxo 6 (by decide) (by decide))) ((ho6257 7 (by decide) (by decide) (by decide)).trans (hxo 7 (by decide) (by decide))) (fun k h1 h2 => (ho6257 k (by omega) (by omega) (by omega)).trans (hxo k (by omega) (by omega))) i11.2.2.2, hSt_6257, hPr_6257, hCn_6257, hSd_6257, hDg_6257, hB6257⟩, hF_6257, hW6257⟩ T6259
                · have hcd : cd_show N x y = 0 := by unfold cd_show; rw [if_neg (by omega), if_neg (by omega), if_neg (by omega)]
                  refine lv_iconst (v := nI 1) hx hb dX1_show_272 rfl ?_
                  refine lv_goto (tgt := 277) hx hb dX1_show_273 (by decide) ?_
                  have ha1_6253 : h6253 (L 1) = some (.inl (E.2.1 0, 8, .inl (f 1)), L 0) := hF6253 _ _ ha1 (fun ⟨i, hi, e⟩ => hLay.2 i 0 hi (by decide) e.symm)
                  have ha1_6255 : h6255 (L 1) = some (.inl (E.2.1 0, 8, .inl (f 1)), L 0) := hF6255 _ _ ha1_6253 (fun ⟨i, hi, e⟩ => hLay.2 i 0 hi (by decide) e.symm)
                  have ha1_6257 : h6257 (L 1) = some (.inl (E.2.1 0, 8, .inl (f 1)), L 0) := hF6257 _ _ ha1_6255 (fun ⟨i, hi, e⟩ => hLay.2 i 0 hi (by decide) e.symm)
                  have ha3_6253 : h6253 (L 3) = some (.inl (E.2.1 0, 64, .inl (f 3)), L 0) := hF6253 _ _ ha3 (fun ⟨i, hi, e⟩ => hLay.2 i 0 hi (by decide) e.symm)
                  have ha3_6255 : h6255 (L 3) = some (.inl (E.2.1 0, 64, .inl (f 3)), L 0) := hF6255 _ _ ha3_6253 (fun ⟨i, hi, e⟩ => hLay.2 i 0 hi (by decide) e.symm)
                  have ha3_6257 : h6257 (L 3) = some (.inl (E.2.1 0, 64, .inl (f 3)), L 0) := hF6257 _ _ ha3_6255 (fun ⟨i, hi, e⟩ => hLay.2 i 0 hi (by decide) e.symm)
                  have ha12_6253 : h6253 (L 12) = some (.inl (E.2.1 1, 20000, .inl (f 12)), L 0) := hF6253 _ _ ha12 (fun ⟨i, hi, e⟩ => hLay.2 i 0 hi (by decide) e.symm)
                  have ha12_6255 : h6255 (L 12) = some (.inl (E.2.1 1, 20000, .inl (f 12)), L 0) := hF6255 _ _ ha12_6253 (fun ⟨i, hi, e⟩ => hLay.2 i 0 hi (by decide) e.symm)
                  have ha12_6257 : h6257 (L 12) = some (.inl (E.2.1 1, 20000, .inl (f 12)), L 0) := hF6257 _ _ ha12_6255 (fun ⟨i, hi, e⟩ => hLay.2 i 0 hi (by decide) e.symm)
                  have ha13_6253 : h6253 (L 13) = some (.inl (E.2.1 1, 20000, .inl (f 13)), L 0) := hF6253 _ _ ha13 (fun ⟨i, hi, e⟩ => hLay.2 i 0 hi (by decide) e.symm)
                  have ha13_6255 : h6255 (L 13) = some (.inl (E.2.1 1, 20000, .inl (f 13)), L 0) := hF6255 _ _ ha13_6253 (fun ⟨i, hi, e⟩ => hLay.2 i 0 hi (by decide) e.symm)
                  have ha13_6257 : h6257 (L 13) = some (.inl (E.2.1 1, 20000, .inl (f 13)), L 0) := hF6257 _ _ ha13_6255 (fun ⟨i, hi, e⟩ => hLay.2 i 0 hi (by decide) e.symm)
                  have ha14_6253 : h6253 (L 14) = some (.inl (E.2.1 2, 20000, .inl (f 14)), L 0) := hF6253 _ _ ha14 (fun ⟨i, hi, e⟩ => hLay.2 i 0 hi (by decide) e.symm)
                  have ha14_6255 : h6255 (L 14) = some (.inl (E.2.1 2, 20000, .inl (f 14)), L 0) := hF6255 _ _ ha14_6253 (fun ⟨i, hi, e⟩ => hLay.2 i 0 hi (by decide) e.symm)
                  have ha14_6257 : h6257 (L 14) = some (.inl (E.2.1 2, 20000, .inl (f 14)), L 0) := hF6257 _ _ ha14_6255 (fun ⟨i, hi, e⟩ => hLay.2 i 0 hi (by decide) e.symm)
                  have ha15_6253 : h6253 (L 15) = some (.inl (E.2.1 3, 8, .inl (f 15)), L 0) := hF6253 _ _ ha15 (fun ⟨i, hi, e⟩ => hLay.2 i 0 hi (by decide) e.symm)
                  have ha15_6255 : h6255 (L 15) = some (.inl (E.2.1 3, 8, .inl (f 15)), L 0) := hF6255 _ _ ha15_6253 (fun ⟨i, hi, e⟩ => hLay.2 i 0 hi (by decide) e.symm)
                  have ha15_6257 : h6257 (L 15) = some (.inl (E.2.1 3, 8, .inl (f 15)), L 0) := hF6257 _ _ ha15_6255 (fun ⟨i, hi, e⟩ => hLay.2 i 0 hi (by decide) e.symm)
                  have ha16_6253 : h6253 (L 16) = some (.inl (E.2.1 0, 8, .inl (f 16)), L 0) := hF6253 _ _ ha16 (fun ⟨i, hi, e⟩ => hLay.2 i 0 hi (by decide) e.symm)
                  have ha16_6255 : h6255 (L 16) = some (.inl (E.2.1 0, 8, .inl (f 16)), L 0) := hF6255 _ _ ha16_6253 (fun ⟨i, hi, e⟩ => hLay.2 i 0 hi (by decide) e.symm)
                  have ha16_6257 : h6257 (L 16) = some (.inl (E.2.1 0, 8, .inl (f 16)), L 0) := hF6257 _ _ ha16_6255 (fun ⟨i, hi, e⟩ => hLay.2 i 0 hi (by decide) e.symm)
                  have ha17_6253 : h6253 (L 17) = some (.inl (E.2.1 0, 8, .inl (f 17)), L 0) := hF6253 _ _ ha17 (fun ⟨i, hi, e⟩ => hLay.2 i 0 hi (by decide) e.symm)
                  have ha17_6255 : h6255 (L 17) = some (.inl (E.2.1 0, 8, .inl (f 17)), L 0) := hF6255 _ _ ha17_6253 (fun ⟨i, hi, e⟩ => hLay.2 i 0 hi (by decide) e.symm)
                  have ha17_6257 : h6257 (L 17) = some (.inl (E.2.1 0, 8, .inl (f 17)), L 0) := hF6257 _ _ ha17_6255 (fun ⟨i, hi, e⟩ => hLay.2 i 0 hi (by decide) e.symm)
                  have ha39_6253 : h6253 (L 39) = some (.inl (E.2.1 3, 961, .inl (f 39)), L 0) := hF6253 _ _ ha39 (fun ⟨i, hi, e⟩ => hLay.2 i 0 hi (by decide) e.symm)
                  have ha39_6255 : h6255 (L 39) = some (.inl (E.2.1 3, 961, .inl (f 39)), L 0) := hF6255 _ _ ha39_6253 (fun ⟨i, hi, e⟩ => hLay.2 i 0 hi (by decide) e.symm)
                  have ha39_6257 : h6257 (L 39) = some (.inl (E.2.1 3, 961, .inl (f 39)), L 0) := hF6257 _ _ ha39_6255 (fun ⟨i, hi, e⟩ => hLay.2 i 0 hi (by decide) e.symm)
                  have hSt_6257 : Stt E L B h6257 := Stt.kept hF6257 (fun ⟨i, hi, e⟩ => hLay.2 i 30 hi (by decide) e.symm) hSt_6255
                  have hPr_6253 : Prs L B pw pl ps h6253 := Prs.kept hF6253 (fun ⟨i, hi, e⟩ => hLay.2 i 24 hi (by decide) e.symm) hPr
                  have hPr_6255 : Prs L B pw pl ps h6255 := Prs.kept hF6255 (fun ⟨i, hi, e⟩ => hLay.2 i 24 hi (by decide) e.symm) hPr_6253
                  have hPr_6257 : Prs L B pw pl ps h6257 := Prs.kept hF6257 (fun ⟨i, hi, e⟩ => hLay.2 i 24 hi (by decide) e.symm) hPr_6255
                  have hCn_6253 : Cns h6253 E L (nI1 (M 8)) (N 10) := Cns.kept hF6253 (fun ⟨i, hi, e⟩ => hLay.2 i 26 hi (by decide) e.symm) hCn
                  have hCn_6255 : Cns h6255 E L (nI1 (M 8)) (N 10) := Cns.kept hF6255 (fun ⟨i, hi, e⟩ => hLay.2 i 26 hi (by decide) e.symm) hCn_6253
                  have hCn_6257 : Cns h6257 E L (nI1 (M 8)) (N 10) := Cns.kept hF6257 (fun ⟨i, hi, e⟩ => hLay.2 i 26 hi (by decide) e.symm) hCn_6255
                  have hSd_6253 : Sds h6253 E L (nI1 (M 6)) (N 9) := Sds.kept hF6253 (fun ⟨i, hi, e⟩ => hLay.2 i 27 hi (by decide) e.symm) hSd
                  have hSd_6255 : Sds h6255 E L (nI1 (M 6)) (N 9) := Sds.kept hF6255 (fun ⟨i, hi, e⟩ => hLay.2 i 27 hi (by decide) e.symm) hSd_6253
                  have hSd_6257 : Sds h6257 E L (nI1 (M 6)) (N 9) := Sds.kept hF6257 (fun ⟨i, hi, e⟩ => hLay.2 i 27 hi (by decide) e.symm) hSd_6255
                  have hDg_6253 : Dgo h6253 E L rs := Dgo.kept hF6253 (fun ⟨i, hi, e⟩ => hLay.2 i 62 hi (by decide) e.symm) hDg
                  have hDg_6255 : Dgo h6255 E L rs := Dgo.kept hF6255 (fun ⟨i, hi, e⟩ => hLay.2 i 62 hi (by decide) e.symm) hDg_6253
                  have hDg_6257 : Dgo h6257 E L rs := Dgo.kept hF6257 (fun ⟨i, hi, e⟩ => hLay.2 i 62 hi (by decide) e.symm) hDg_6255
                  exact Z _ _ _ _ _ _ _ _ dX1_show_277 (by have hgw := (hW6257); have hg1 := hgw.1; have hg2 := hgw.2; have hkm := hB6257.kmax; show 0 + dc6257 ≤ (KX - ksum cp NB) / 8 + 8; omega) (by have hgw := (hW6257); have hg1 := hgw.1; have hg2 := hgw.2; have hkm := hB6257.kmax; show 0 + ds6257 ≤ 2 * (KX - ksum cp NB) + 2048; omega) (Or.inr rfl) ⟨hcd, by rw [show x.toInt.toNat = 3 by omega, if_pos (Nat.le_of_not_lt fun z => absurd (cmpN_neg.mpr z) (by omega))]; rfl, _, by rw [show x.toInt.toNat = 3 by omega]; exact ⟨pp, f, rs, pw, pl, ps, V6257, ⟨ho0_6257, ha1_6257, ha3_6257, ha12_6257, ha13_6257, ha14_6257, ha15_6257, ha16_6257, ha17_6257, ha39_6257⟩, ⟨r1, r3, r12, r13, r14, r15, r16, r17, rp, rp16⟩, Vr_sh hVr hk6257 hj6257 ((ho6257 6 (by decide) (by decide) (by decide)).trans (hxo 6 (by decide) (by decide))) ((ho6257 7 (by decide) (by decide) (by decide)).trans (hxo 7 (by decide) (by decide))) (fun k h1 h2 => (ho6257 k (by omega) (by omega) (by omega)).trans (hxo k (by omega) (by omega))) i11.2.2.2, hSt_6257, hPr_6257, hCn_6257, hSd_6257, hDg_6257, hB6257⟩, hF_6257, hW6257⟩ T6259
              · refine lv_aload_n hx hb dX1_show_140 rfl (lv_at hl 0 rfl) ?_
                refine lv_iload_n hx hb dX1_show_141 rfl (lv_at hl 2 rfl) ?_
                by_cases cP : N 11 ≠ 0 ∧ 0 ≤ (y).toInt ∧ (y).toInt < pp
                · have cS := cP.1
                  have rpp := rp cS
                  have cP1 := cP.2.1
                  have cP2 := cP.2.2
                  obtain ⟨v, hv, rfl⟩ := nat_of (x := y) cP1
                  have ev := nI_toInt hv
                  have tv : (nI v).toInt.toNat = v := by rw [ev]; rfl
                  refine hc_V C T6203 hl.1 ho0 rfl (m_X1_pairIn cS (show v < pp by omega) rp16 i11.1 ho0 hSt) q869 q871 qs13 q53 q872 kd_X1_pairIn rfl rfl ⟨Nat.le_of_ble_eq_true rfl, Nat.le_of_ble_eq_true rfl⟩ (Nat.le_of_ble_eq_true rfl) dX1_show_142 ⟨by show 0 + 0 ≤ (KX - ksum cp NB) / 8 + 8; omega, by show 0 + 0 ≤ 2 * (KX - ksum cp NB) + 2048; omega⟩ (fun rv h6240 H6240 locs6240 hp6240 T6240 => ?_)
                  obtain ⟨rfl, hq6240⟩ := hp6240
                  rw [hq6240] at T6240
                  refine W.eq (g2 := F0 m 145 ls [.ref (L (70 + v))]) rfl ?_
                  have hpr6241 := hPr v (by omega)
                  have hin := inz cS
                  have hp4 := hin.2.2.2.1 v (by omega)
                  have hvv := hVr.2.2.2 cS v (by omega)
                  have hv4 := iv _ (show M 4 v < 8 by omega)
                  have hv5 := iv _ (show M 5 v < 8 by omega)
                  refine lv_astore_n (lv' := [(3, .ref (L (70 + v))), (0, .ref (L 0)), (1, .int x), (2, .int (nI v))]) hx hb dX1_show_145 rfl hl (by decide) rfl (fun ls6242 hl6242 => ?_)
                  refine lv_aload_n hx hb dX1_show_146 rfl (lv_at hl6242 1 rfl) ?_
                  refine hr_get C T6240 ho0 rfl in_X1 34 (by decide) q336 rfl rfl dX1_show_147 ?_
                  refine lv_aload_n hx hb dX1_show_150 rfl (lv_at hl6242 1 rfl) ?_
                  refine hr_get C T6240 ho0 rfl in_X1 0 (by decide) q290 rfl rfl dX1_show_151 ?_
                  refine lv_aload_n hx hb dX1_show_154 rfl (lv_at hl6242 0 rfl) ?_
                  refine hr_getN C T6240 hpr6241 rfl in_X9 0 (by decide) 8 rfl rfl rfl dX1_show_155 ?_
                  rw [show pw v = nI (M 4 v) from hvv.2.2.1]
                  refine hr_iald C T6240 ha1 (by omega) (by omega) dX1_show_158 ?_
                  rw [show (f 1) (M 4 v) = nI (M 0 (M 4 v)) from r1 _ (by omega)]
                  refine hn_i2l hx hb dX1_show_159 (by omega) ?_
                  obtain ⟨ca6243, hbo6243⟩ := hB.o (i := 2) (by decide)
                  refine hc_V C T6240 hl6242.1 hbo6243 rfl (g_set (i := 2) hB (by decide) (by omega)) q271 q272 q273 q59 q274 kd_X7_set rfl rfl ⟨Nat.le_of_ble_eq_true rfl, Nat.le_of_ble_eq_true rfl⟩ (Nat.le_of_ble_eq_true rfl) dX1_show_160 ⟨by have hgw := (Gw.rf (cp := cp)); have hg1 := hgw.1; have hg2 := hgw.2; have hkm := hB.kmax; show 0 + 0 ≤ (KX - ksum cp NB) / 8 + 8; omega, by have hgw := (Gw.rf (cp := cp)); have hg1 := hgw.1; have hg2 := hgw.2; have hkm := hB.kmax; show 0 + 0 ≤ 2 * (KX - ksum cp NB) + 2048; omega⟩ (fun rv h6244 H6244 locs6244 hp6244 T6244 => ?_)
                  obtain ⟨rfl, hB6244, hF6244⟩ := hp6244
                  have hF_6244 : Fr (CO L B) h h6244 := hF.tr (hF6244.mono (fun _ z => Or.inr (Or.inr (Or.inr (Or.inr (Or.inr z))))))
                  refine W.eq (g2 := F0 m 163 ls6242 []) rfl ?_
                  refine lv_aload_n hx hb dX1_show_163 rfl (lv_at hl6242 1 rfl) ?_
                  have ho0_6244 : h6244 (L 0) = some (.inr (0, [.ref (L 1), .int (nI (N 0)), .ref (L 3), .int (nI (N 1)), .int (nI (N 2)), .int (nI (N 3)), .int (nI (N 4)), .int (nI (N 5)), .int (nI (N 6)), .int (nI (N 7)), .int (nI (N 8)), .ref (L 12), .ref (L 13), .ref (L 14), .ref (L 15), .ref (L 16), .ref (L 17), .int (nI (N 11)), .int (nI (N 15)), .int (nI (N 16)), .int (nI (N 17)), .int (nI (N 18) - 1), .int (nI (N 19)), .ref (L 24), .int (nI pp), .ref (L 26), .ref (L 27), .ref (if N 13 = 1 then L 27 else L 26), .ref (L 29), .ref (L 30), .ref (if N 12 = 1 then L 30 else L 29), .ref (L 32), .ref (B 0), .ref (B 1), .ref (B 2), .ref (B 3), .ref (L 37), .ref (L 38), .ref (L 39), .ref (B 4), .ref (B 5)]), L 0) := hF6244 _ _ ho0 (fun ⟨i, hi, e⟩ => hLay.2 i 0 hi (by decide) e.symm)
                  refine hr_get C T6244 ho0_6244 rfl in_X1 35 (by decide) q337 rfl rfl dX1_show_164 ?_
                  refine lv_aload_n hx hb dX1_show_167 rfl (lv_at hl6242 1 rfl) ?_
                  refine hr_get C T6244 ho0_6244 rfl in_X1 0 (by decide) q290 rfl rfl dX1_show_168 ?_
                  refine lv_aload_n hx hb dX1_show_171 rfl (lv_at hl6242 0 rfl) ?_
                  have hpr6241_6244 : h6244 (L (70 + v)) = some (.inr (8, [.int (pw v), .int (pl v), .int (ps v), .ref (B (19 + 2 * v)), .ref (B (20 + 2 * v))]), L 24) := hF6244 _ _ hpr6241 (fun ⟨i, hi, e⟩ => hLay.2 i 24 hi (by decide) e.symm)
                  refine hr_getN C T6244 hpr6241_6244 rfl in_X9 0 (by decide) 8 rfl rfl rfl dX1_show_172 ?_
                  rw [show pw v = nI (M 4 v) from hvv.2.2.1]
                  have ha1_6244 : h6244 (L 1) = some (.inl (E.2.1 0, 8, .inl (f 1)), L 0) := hF6244 _ _ ha1 (fun ⟨i, hi, e⟩ => hLay.2 i 0 hi (by decide) e.symm)
                  refine hr_iald C T6244 ha1_6244 (by omega) (by omega) dX1_show_175 ?_
                  rw [show (f 1) (M 4 v) = nI (M 0 (M 4 v)) from r1 _ (by omega)]
                  refine lv_aload_n hx hb dX1_show_176 rfl (lv_at hl6242 1 rfl) ?_
                  refine hr_get C T6244 ho0_6244 rfl in_X1 0 (by decide) q290 rfl rfl dX1_show_177 ?_
                  refine lv_aload_n hx hb dX1_show_180 rfl (lv_at hl6242 0 rfl) ?_
                  refine hr_getN C T6244 hpr6241_6244 rfl in_X9 1 (by decide) 9 rfl rfl rfl dX1_show_181 ?_
                  rw [show pl v = nI (M 5 v) from hvv.2.2.2.1]
                  refine hr_iald C T6244 ha1_6244 (by omega) (by omega) dX1_show_184 ?_
                  rw [show (f 1) (M 5 v) = nI (M 0 (M 5 v)) from r1 _ (by omega)]
                  refine hn_iadd hx hb dX1_show_185 ?_
                  refine hn_i2l hx hb dX1_show_186 (by omega) ?_
                  obtain ⟨ca6245, hbo6245⟩ := hB6244.o (i := 3) (by decide)
                  refine hc_V C T6244 hl6242.1 hbo6245 rfl (g_set (i := 3) hB6244 (by decide) (by omega)) q271 q272 q273 q59 q274 kd_X7_set rfl rfl ⟨Nat.le_of_ble_eq_true rfl, Nat.le_of_ble_eq_true rfl⟩ (Nat.le_of_ble_eq_true rfl) dX1_show_187 ⟨by have hgw := (Gw.rf (cp := cp)); have hg1 := hgw.1; have hg2 := hgw.2; have hkm := hB6244.kmax; show 0 + 0 ≤ (KX - ksum cp NB) / 8 + 8; omega, by have hgw := (Gw.rf (cp := cp)); have hg1 := hgw.1; have hg2 := hgw.2; have hkm := hB6244.kmax; show 0 + 0 ≤ 2 * (KX - ksum cp NB) + 2048; omega⟩ (fun rv h6246 H6246 locs6246 hp6246 T6246 => ?_)
                  obtain ⟨rfl, hB6246, hF6246⟩ := hp6246
                  have hF_6246 : Fr (CO L B) h h6246 := hF_6244.tr (hF6246.mono (fun _ z => Or.inr (Or.inr (Or.inr (Or.inr (Or.inr z))))))
                  refine W.eq (g2 := F0 m 190 ls6242 []) rfl ?_
                  have hxa : (nu (nu V 2 (M 0 (M 4 v))) 3 (M 0 (M 4 v) + M 0 (M 5 v))) 2 = shA N M 2 v := rfl
                  have hxb : (nu (nu V 2 (M 0 (M 4 v))) 3 (M 0 (M 4 v) + M 0 (M 5 v))) 3 = shB N M 2 v := rfl
                  have hxo : ∀ n, n ≠ 2 → n ≠ 3 → (nu (nu V 2 (M 0 (M 4 v))) 3 (M 0 (M 4 v) + M 0 (M 5 v))) n = V n := fun n h1 h2 => by repeat rw [nu_n (by omega)]
                  have hnb : shB N M 2 v ≠ 0 := by show M 0 (M 4 v) + M 0 (M 5 v) ≠ 0; omega
                  have hla : lm (shA N M 2 v) ≤ 112 := Nat.le_trans (lm_1 (v := M 0 (M 4 v)) (by omega)) (by decide)
                  have hlb : lm (shB N M 2 v) ≤ 112 := Nat.le_trans (lm_1 (v := M 0 (M 4 v) + M 0 (M 5 v)) (by omega)) (by decide)
                  refine lv_goto (tgt := 243) hx hb dX1_show_190 (by decide) ?_
                  refine lv_aload_n hx hb dX1_show_243 rfl (lv_at hl6242 1 rfl) ?_
                  have ho0_6246 : h6246 (L 0) = some (.inr (0, [.ref (L 1), .int (nI (N 0)), .ref (L 3), .int (nI (N 1)), .int (nI (N 2)), .int (nI (N 3)), .int (nI (N 4)), .int (nI (N 5)), .int (nI (N 6)), .int (nI (N 7)), .int (nI (N 8)), .ref (L 12), .ref (L 13), .ref (L 14), .ref (L 15), .ref (L 16), .ref (L 17), .int (nI (N 11)), .int (nI (N 15)), .int (nI (N 16)), .int (nI (N 17)), .int (nI (N 18) - 1), .int (nI (N 19)), .ref (L 24), .int (nI pp), .ref (L 26), .ref (L 27), .ref (if N 13 = 1 then L 27 else L 26), .ref (L 29), .ref (L 30), .ref (if N 12 = 1 then L 30 else L 29), .ref (L 32), .ref (B 0), .ref (B 1), .ref (B 2), .ref (B 3), .ref (L 37), .ref (L 38), .ref (L 39), .ref (B 4), .ref (B 5)]), L 0) := hF6246 _ _ ho0_6244 (fun ⟨i, hi, e⟩ => hLay.2 i 0 hi (by decide) e.symm)
                  refine hr_get C T6246 ho0_6246 rfl in_X1 31 (by decide) q331 rfl rfl dX1_show_244 ?_
                  refine lv_aload_n hx hb dX1_show_247 rfl (lv_at hl6242 1 rfl) ?_
                  refine hr_get C T6246 ho0_6246 rfl in_X1 34 (by decide) q336 rfl rfl dX1_show_248 ?_
                  refine lv_aload_n hx hb dX1_show_251 rfl (lv_at hl6242 1 rfl) ?_
                  refine hr_get C T6246 ho0_6246 rfl in_X1 35 (by decide) q337 rfl rfl dX1_show_252 ?_
                  have hSt_6244 : Stt E L B h6244 := Stt.kept hF6244 (fun ⟨i, hi, e⟩ => hLay.2 i 30 hi (by decide) e.symm) hSt
                  have hSt_6246 : Stt E L B h6246 := Stt.kept hF6246 (fun ⟨i, hi, e⟩ => hLay.2 i 30 hi (by decide) e.symm) hSt_6244
                  have hst32x6247 := (hSt_6246).2.2.2.2.2
                  refine hg_V C T6246 hl6242.1 hst32x6247 rfl (m_X8_reduce (i := 2) (j := 3) hB6246 hst32x6247 (fun i hi => hLay.2 i 30 hi (by decide)) (by decide) (by decide) (by decide) (by decide) (by decide) (by rw [hxb]; exact fun z => hnb z.2) (by rw [hxa]; omega) (by rw [hxb]; omega)) q923 q924 q925 q60 q926 kd_X8_reduce rfl rfl ⟨Nat.le_of_ble_eq_true rfl, Nat.le_of_ble_eq_true rfl⟩ (Nat.le_of_ble_eq_true rfl) dX1_show_255 ⟨by have hgw := (Gw.rf (cp := cp)); have hg1 := hgw.1; have hg2 := hgw.2; have hkm := hB6246.kmax; show 0 + ((KX - ksum cp NB) / 8 + 8) ≤ (KX - ksum cp NB) / 8 + 8; omega, by have hgw := (Gw.rf (cp := cp)); have hg1 := hgw.1; have hg2 := hgw.2; have hkm := hB6246.kmax; show 0 + (2 * (KX - ksum cp NB) + 2048) ≤ 2 * (KX - ksum cp NB) + 2048; omega⟩ (fun rv h6248 dc6248 ds6248 H6248 locs6248 hp6248 T6248 => ?_)
                  obtain ⟨rfl, V6248, c6248, hB6248, hk6248, hj6248, ho6248, hF6248, hw6248⟩ := hp6248
                  have hW6248 := (Gw.rf (cp := cp)).tr hw6248
                  have hF_6248 : Fr (CO L B) h h6248 := hF_6246.tr (hF6248.mono (fun _ z => Or.inr (Or.inr (Or.inr (Or.inr (Or.inr z))))))
                  refine W.eq (g2 := F0 m 258 ls6242 []) rfl ?_
                  rw [hxa, hxb] at hk6248 hj6248
                  refine lv_aload_n hx hb dX1_show_258 rfl (lv_at hl6242 1 rfl) ?_
                  have ho0_6248 : h6248 (L 0) = some (.inr (0, [.ref (L 1), .int (nI (N 0)), .ref (L 3), .int (nI (N 1)), .int (nI (N 2)), .int (nI (N 3)), .int (nI (N 4)), .int (nI (N 5)), .int (nI (N 6)), .int (nI (N 7)), .int (nI (N 8)), .ref (L 12), .ref (L 13), .ref (L 14), .ref (L 15), .ref (L 16), .ref (L 17), .int (nI (N 11)), .int (nI (N 15)), .int (nI (N 16)), .int (nI (N 17)), .int (nI (N 18) - 1), .int (nI (N 19)), .ref (L 24), .int (nI pp), .ref (L 26), .ref (L 27), .ref (if N 13 = 1 then L 27 else L 26), .ref (L 29), .ref (L 30), .ref (if N 12 = 1 then L 30 else L 29), .ref (L 32), .ref (B 0), .ref (B 1), .ref (B 2), .ref (B 3), .ref (L 37), .ref (L 38), .ref (L 39), .ref (B 4), .ref (B 5)]), L 0) := hF6248 _ _ ho0_6246 (fun ⟨i, hi, e⟩ => hLay.2 i 0 hi (by decide) e.symm)
                  refine hr_get C T6248 ho0_6248 rfl in_X1 34 (by decide) q336 rfl rfl dX1_show_259 ?_
                  refine lv_aload_n hx hb dX1_show_262 rfl (lv_at hl6242 1 rfl) ?_
                  refine hr_get C T6248 ho0_6248 rfl in_X1 35 (by decide) q337 rfl rfl dX1_show_263 ?_
                  obtain ⟨ca6249, hbo6249⟩ := hB6248.o (i := 2) (by decide)
                  refine hc_V C T6248 hl6242.1 hbo6249 rfl (g_compare (i := 2) (j := 3) hB6248 (by decide) (by decide)) q802 q803 q804 q59 q805 kd_X7_compare rfl rfl ⟨Nat.le_of_ble_eq_true rfl, Nat.le_of_ble_eq_true rfl⟩ (Nat.le_of_ble_eq_true rfl) dX1_show_266 ⟨by have hgw := (hW6248); have hg1 := hgw.1; have hg2 := hgw.2; have hkm := hB6248.kmax; show 0 + dc6248 + 0 ≤ (KX - ksum cp NB) / 8 + 8; omega, by have hgw := (hW6248); have hg1 := hgw.1; have hg2 := hgw.2; have hkm := hB6248.kmax; show 0 + ds6248 + 0 ≤ 2 * (KX - ksum cp NB) + 2048; omega⟩ (fun rv h6250 H6250 locs6250 hp6250 T6250 => ?_)
                  obtain ⟨rfl, hq6250⟩ := hp6250
                  rw [hq6250] at T6250
                  rw [hk6248, hj6248]
                  refine zi_if_lt (tgt := 276) (X := (cmpN (shA N M 2 v / Nat.gcd (shA N M 2 v) (shB N M 2 v)) (shB N M 2 v / Nat.gcd (shA N M 2 v) (shB N M 2 v))).toInt) hx hb dX1_show_269 (by decide) rfl (fun c9 => ?_) (fun c9 => ?_)
                  · have hcd : cd_show N x (nI v) = 0 := by unfold cd_show; rw [if_neg (by omega), if_neg (by omega), if_neg (by omega)]
                    refine lv_iconst (v := nI 0) hx hb dX1_show_276 rfl ?_
                    have ha1_6246 : h6246 (L 1) = some (.inl (E.2.1 0, 8, .inl (f 1)), L 0) := hF6246 _ _ ha1_6244 (fun ⟨i, hi, e⟩ => hLay.2 i 0 hi (by decide) e.symm)
                    have ha1_6248 : h6248 (L 1) = some (.inl (E.2.1 0, 8, .inl (f 1)), L 0) := hF6248 _ _ ha1_6246 (fun ⟨i, hi, e⟩ => hLay.2 i 0 hi (by decide) e.symm)
                    have ha3_6244 : h6244 (L 3) = some (.inl (E.2.1 0, 64, .inl (f 3)), L 0) := hF6244 _ _ ha3 (fun ⟨i, hi, e⟩ => hLay.2 i 0 hi (by decide) e.symm)
                    have ha3_6246 : h6246 (L 3) = some (.inl (E.2.1 0, 64, .inl (f 3)), L 0) := hF6246 _ _ ha3_6244 (fun ⟨i, hi, e⟩ => hLay.2 i 0 hi (by decide) e.symm)
                    have ha3_6248 : h6248 (L 3) = some (.inl (E.2.1 0, 64, .inl (f 3)), L 0) := hF6248 _ _ ha3_6246 (fun ⟨i, hi, e⟩ => hLay.2 i 0 hi (by decide) e.symm)
                    have ha12_6244 : h6244 (L 12) = some (.inl (E.2.1 1, 20000, .inl (f 12)), L 0) := hF6244 _ _ ha12 (fun ⟨i, hi, e⟩ => hLay.2 i 0 hi (by decide) e.symm)
                    have ha12_6246 : h6246 (L 12) = some (.inl (E.2.1 1, 20000, .inl (f 12)), L 0) := hF6246 _ _ ha12_6244 (fun ⟨i, hi, e⟩ => hLay.2 i 0 hi (by decide) e.symm)
                    have ha12_6248 : h6248 (L 12) = some (.inl (E.2.1 1, 20000, .inl (f 12)), L 0) := hF6248 _ _ ha12_6246 (fun ⟨i, hi, e⟩ => hLay.2 i 0 hi (by decide) e.symm)
                    have ha13_6244 : h6244 (L 13) = some (.inl (E.2.1 1, 20000, .inl (f 13)), L 0) := hF6244 _ _ ha13 (fun ⟨i, hi, e⟩ => hLay.2 i 0 hi (by decide) e.symm)
                    have ha13_6246 : h6246 (L 13) = some (.inl (E.2.1 1, 20000, .inl (f 13)), L 0) := hF6246 _ _ ha13_6244 (fun ⟨i, hi, e⟩ => hLay.2 i 0 hi (by decide) e.symm)
                    have ha13_6248 : h6248 (L 13) = some (.inl (E.2.1 1, 20000, .inl (f 13)), L 0) := hF6248 _ _ ha13_6246 (fun ⟨i, hi, e⟩ => hLay.2 i 0 hi (by decide) e.symm)
                    have ha14_6244 : h6244 (L 14) = some (.inl (E.2.1 2, 20000, .inl (f 14)), L 0) := hF6244 _ _ ha14 (fun ⟨i, hi, e⟩ => hLay.2 i 0 hi (by decide) e.symm)
                    have ha14_6246 : h6246 (L 14) = some (.inl (E.2.1 2, 20000, .inl (f 14)), L 0) := hF6246 _ _ ha14_6244 (fun ⟨i, hi, e⟩ => hLay.2 i 0 hi (by decide) e.symm)
                    have ha14_6248 : h6248 (L 14) = some (.inl (E.2.1 2, 20000, .inl (f 14)), L 0) := hF6248 _ _ ha14_6246 (fun ⟨i, hi, e⟩ => hLay.2 i 0 hi (by decide) e.symm)
                    have ha15_6244 : h6244 (L 15) = some (.inl (E.2.1 3, 8, .inl (f 15)), L 0) := hF6244 _ _ ha15 (fun ⟨i, hi, e⟩ => hLay.2 i 0 hi (by decide) e.symm)
                    have ha15_6246 : h6246 (L 15) = some (.inl (E.2.1 3, 8, .inl (f 15)), L 0) := hF6246 _ _ ha15_6244 (fun ⟨i, hi, e⟩ => hLay.2 i 0 hi (by decide) e.symm)
                    have ha15_6248 : h6248 (L 15) = some (.inl (E.2.1 3, 8, .inl (f 15)), L 0) := hF6248 _ _ ha15_6246 (fun ⟨i, hi, e⟩ => hLay.2 i 0 hi (by decide) e.symm)
                    have ha16_6244 : h6244 (L 16) = some (.inl (E.2.1 0, 8, .inl (f 16)), L 0) := hF6244 _ _ ha16 (fun ⟨i, hi, e⟩ => hLay.2 i 0 hi (by decide) e.symm)
                    have ha16_6246 : h6246 (L 16) = some (.inl (E.2.1 0, 8, .inl (f 16)), L 0) := hF6246 _ _ ha16_6244 (fun ⟨i, hi, e⟩ => hLay.2 i 0 hi (by decide) e.symm)
                    have ha16_6248 : h6248 (L 16) = some (.inl (E.2.1 0, 8, .inl (f 16)), L 0) := hF6248 _ _ ha16_6246 (fun ⟨i, hi, e⟩ => hLay.2 i 0 hi (by decide) e.symm)
                    have ha17_6244 : h6244 (L 17) = some (.inl (E.2.1 0, 8, .inl (f 17)), L 0) := hF6244 _ _ ha17 (fun ⟨i, hi, e⟩ => hLay.2 i 0 hi (by decide) e.symm)
                    have ha17_6246 : h6246 (L 17) = some (.inl (E.2.1 0, 8, .inl (f 17)), L 0) := hF6246 _ _ ha17_6244 (fun ⟨i, hi, e⟩ => hLay.2 i 0 hi (by decide) e.symm)
                    have ha17_6248 : h6248 (L 17) = some (.inl (E.2.1 0, 8, .inl (f 17)), L 0) := hF6248 _ _ ha17_6246 (fun ⟨i, hi, e⟩ => hLay.2 i 0 hi (by decide) e.symm)
                    have ha39_6244 : h6244 (L 39) = some (.inl (E.2.1 3, 961, .inl (f 39)), L 0) := hF6244 _ _ ha39 (fun ⟨i, hi, e⟩ => hLay.2 i 0 hi (by decide) e.symm)
                    have ha39_6246 : h6246 (L 39) = some (.inl (E.2.1 3, 961, .inl (f 39)), L 0) := hF6246 _ _ ha39_6244 (fun ⟨i, hi, e⟩ => hLay.2 i 0 hi (by decide) e.symm)
                    have ha39_6248 : h6248 (L 39) = some (.inl (E.2.1 3, 961, .inl (f 39)), L 0) := hF6248 _ _ ha39_6246 (fun ⟨i, hi, e⟩ => hLay.2 i 0 hi (by decide) e.symm)
                    have hSt_6248 : Stt E L B h6248 := Stt.kept hF6248 (fun ⟨i, hi, e⟩ => hLay.2 i 30 hi (by decide) e.symm) hSt_6246
                    have hPr_6244 : Prs L B pw pl ps h6244 := Prs.kept hF6244 (fun ⟨i, hi, e⟩ => hLay.2 i 24 hi (by decide) e.symm) hPr
                    have hPr_6246 : Prs L B pw pl ps h6246 := Prs.kept hF6246 (fun ⟨i, hi, e⟩ => hLay.2 i 24 hi (by decide) e.symm) hPr_6244
                    have hPr_6248 : Prs L B pw pl ps h6248 := Prs.kept hF6248 (fun ⟨i, hi, e⟩ => hLay.2 i 24 hi (by decide) e.symm) hPr_6246
                    have hCn_6244 : Cns h6244 E L (nI1 (M 8)) (N 10) := Cns.kept hF6244 (fun ⟨i, hi, e⟩ => hLay.2 i 26 hi (by decide) e.symm) hCn
                    have hCn_6246 : Cns h6246 E L (nI1 (M 8)) (N 10) := Cns.kept hF6246 (fun ⟨i, hi, e⟩ => hLay.2 i 26 hi (by decide) e.symm) hCn_6244
                    have hCn_6248 : Cns h6248 E L (nI1 (M 8)) (N 10) := Cns.kept hF6248 (fun ⟨i, hi, e⟩ => hLay.2 i 26 hi (by decide) e.symm) hCn_6246
                    have hSd_6244 : Sds h6244 E L (nI1 (M 6)) (N 9) := Sds.kept hF6244 (fun ⟨i, hi, e⟩ => hLay.2 i 27 hi (by decide) e.symm) hSd
                    have hSd_6246 : Sds h6246 E L (nI1 (M 6)) (N 9) := Sds.kept hF6246 (fun ⟨i, hi, e⟩ => hLay.2 i 27 hi (by decide) e.symm) hSd_6244
                    have hSd_6248 : Sds h6248 E L (nI1 (M 6)) (N 9) := Sds.kept hF6248 (fun ⟨i, hi, e⟩ => hLay.2 i 27 hi (by decide) e.symm) hSd_6246
                    have hDg_6244 : Dgo h6244 E L rs := Dgo.kept hF6244 (fun ⟨i, hi, e⟩ => hLay.2 i 62 hi (by decide) e.symm) hDg
                    have hDg_6246 : Dgo h6246 E L rs := Dgo.kept hF6246 (fun ⟨i, hi, e⟩ => hLay.2 i 62 hi (by decide) e.symm) hDg_6244
                    have hDg_6248 : Dgo h6248 E L rs := Dgo.kept hF6248 (fun ⟨i, hi, e⟩ => hLay.2 i 62 hi (by decide) e.symm) hDg_6246
                    exact Z _ _ _ _ _ _ _ _ dX1_show_277 (by have hgw := (hW6248); have hg1 := hgw.1; have hg2 := hgw.2; have hkm := hB6248.kmax; show 0 + dc6248 ≤ (KX - ksum cp NB) / 8 + 8; omega) (by have hgw := (hW6248); have hg1 := hgw.1; have hg2 := hgw.2; have hkm := hB6248.kmax; show 0 + ds6248 ≤ 2 * (KX - ksum cp NB) + 2048; omega) (Or.inl rfl) ⟨hcd, by rw [show x.toInt.toNat = 2 by omega, tv, if_neg (by have := cmpN_neg.mp c9; omega)]; rfl, _, by rw [show x.toInt.toNat = 2 by omega, tv]; exact ⟨pp, f, rs, pw, pl, ps, V6248, ⟨ho0_6248, ha1_6248, ha3_6248, ha12_6248, ha13_6248, ha14_6248, ha15_6248, ha16_6248, ha17_6248, ha39_6248⟩, ⟨r1, r3, r12, r13, r14, r15, r16, r17, rp, rp16⟩, Vr_sh hVr hk6248 hj6248 ((ho6248 6 (by decide) (by decide) (by decide)).trans (hxo 6 (by decide) (by decide))) ((ho6248 7 (by decide) (by decide) (by decide)).trans (hxo 7 (by decide) (by decide))) (fun k h1 h2 => (ho6248 k (by omega) (by omega) (by omega)).trans (hxo k (by omega) (by omega))) i11.2.2.2, hSt_6248, hPr_6248, hCn_6248, hSd_6248, hDg_6248, hB6248⟩, hF_6248, hW6248⟩ T6250
                  · have hcd : cd_show N x (nI v) = 0 := by unfold cd_show; rw [if_neg (by omega), if_neg (by omega), if_neg (by omega)]
                    refine lv_iconst (v := nI 1) hx hb dX1_show_272 rfl ?_
                    refine lv_goto (tgt := 277) hx hb dX1_show_273 (by decide) ?_
                    have ha1_6246 : h6246 (L 1) = some (.inl (E.2.1 0, 8, .inl (f 1)), L 0) := hF6246 _ _ ha1_6244 (fun ⟨i, hi, e⟩ => hLay.2 i 0 hi (by decide) e.symm)
                    have ha1_6248 : h6248 (L 1) = some (.inl (E.2.1 0, 8, .inl (f 1)), L 0) := hF6248 _ _ ha1_6246 (fun ⟨i, hi, e⟩ => hLay.2 i 0 hi (by decide) e.symm)
                    have ha3_6244 : h6244 (L 3) = some (.inl (E.2.1 0, 64, .inl (f 3)), L 0) := hF6244 _ _ ha3 (fun ⟨i, hi, e⟩ => hLay.2 i 0 hi (by decide) e.symm)
                    have ha3_6246 : h6246 (L 3) = some (.inl (E.2.1 0, 64, .inl (f 3)), L 0) := hF6246 _ _ ha3_6244 (fun ⟨i, hi, e⟩ => hLay.2 i 0 hi (by decide) e.symm)
                    have ha3_6248 : h6248 (L 3) = some (.inl (E.2.1 0, 64, .inl (f 3)), L 0) := hF6248 _ _ ha3_6246 (fun ⟨i, hi, e⟩ => hLay.2 i 0 hi (by decide) e.symm)
                    have ha12_6244 : h6244 (L 12) = some (.inl (E.2.1 1, 20000, .inl (f 12)), L 0) := hF6244 _ _ ha12 (fun ⟨i, hi, e⟩ => hLay.2 i 0 hi (by decide) e.symm)
                    have ha12_6246 : h6246 (L 12) = some (.inl (E.2.1 1, 20000, .inl (f 12)), L 0) := hF6246 _ _ ha12_6244 (fun ⟨i, hi, e⟩ => hLay.2 i 0 hi (by decide) e.symm)
                    have ha12_6248 : h6248 (L 12) = some (.inl (E.2.1 1, 20000, .inl (f 12)), L 0) := hF6248 _ _ ha12_6246 (fun ⟨i, hi, e⟩ => hLay.2 i 0 hi (by decide) e.symm)
                    have ha13_6244 : h6244 (L 13) = some (.inl (E.2.1 1, 20000, .inl (f 13)), L 0) := hF6244 _ _ ha13 (fun ⟨i, hi, e⟩ => hLay.2 i 0 hi (by decide) e.symm)
                    have ha13_6246 : h6246 (L 13) = some (.inl (E.2.1 1, 20000, .inl (f 13)), L 0) := hF6246 _ _ ha13_6244 (fun ⟨i, hi, e⟩ => hLay.2 i 0 hi (by decide) e.symm)
                    have ha13_6248 : h6248 (L 13) = some (.inl (E.2.1 1, 20000, .inl (f 13)), L 0) := hF6248 _ _ ha13_6246 (fun ⟨i, hi, e⟩ => hLay.2 i 0 hi (by decide) e.symm)
                    have ha14_6244 : h6244 (L 14) = some (.inl (E.2.1 2, 20000, .inl (f 14)), L 0) := hF6244 _ _ ha14 (fun ⟨i, hi, e⟩ => hLay.2 i 0 hi (by decide) e.symm)
                    have ha14_6246 : h6246 (L 14) = some (.inl (E.2.1 2, 20000, .inl (f 14)), L 0) := hF6246 _ _ ha14_6244 (fun ⟨i, hi, e⟩ => hLay.2 i 0 hi (by decide) e.symm)
                    have ha14_6248 : h6248 (L 14) = some (.inl (E.2.1 2, 20000, .inl (f 14)), L 0) := hF6248 _ _ ha14_6246 (fun ⟨i, hi, e⟩ => hLay.2 i 0 hi (by decide) e.symm)
                    have ha15_6244 : h6244 (L 15) = some (.inl (E.2.1 3, 8, .inl (f 15)), L 0) := hF6244 _ _ ha15 (fun ⟨i, hi, e⟩ => hLay.2 i 0 hi (by decide) e.symm)
                    have ha15_6246 : h6246 (L 15) = some (.inl (E.2.1 3, 8, .inl (f 15)), L 0) := hF6246 _ _ ha15_6244 (fun ⟨i, hi, e⟩ => hLay.2 i 0 hi (by decide) e.symm)
                    have ha15_6248 : h6248 (L 15) = some (.inl (E.2.1 3, 8, .inl (f 15)), L 0) := hF6248 _ _ ha15_6246 (fun ⟨i, hi, e⟩ => hLay.2 i 0 hi (by decide) e.symm)
                    have ha16_6244 : h6244 (L 16) = some (.inl (E.2.1 0, 8, .inl (f 16)), L 0) := hF6244 _ _ ha16 (fun ⟨i, hi, e⟩ => hLay.2 i 0 hi (by decide) e.symm)
                    have ha16_6246 : h6246 (L 16) = some (.inl (E.2.1 0, 8, .inl (f 16)), L 0) := hF6246 _ _ ha16_6244 (fun ⟨i, hi, e⟩ => hLay.2 i 0 hi (by decide) e.symm)
                    have ha16_6248 : h6248 (L 16) = some (.inl (E.2.1 0, 8, .inl (f 16)), L 0) := hF6248 _ _ ha16_6246 (fun ⟨i, hi, e⟩ => hLay.2 i 0 hi (by decide) e.symm)
                    have ha17_6244 : h6244 (L 17) = some (.inl (E.2.1 0, 8, .inl (f 17)), L 0) := hF6244 _ _ ha17 (fun ⟨i, hi, e⟩ => hLay.2 i 0 hi (by decide) e.symm)
                    have ha17_6246 : h6246 (L 17) = some (.inl (E.2.1 0, 8, .inl (f 17)), L 0) := hF6246 _ _ ha17_6244 (fun ⟨i, hi, e⟩ => hLay.2 i 0 hi (by decide) e.symm)
                    have ha17_6248 : h6248 (L 17) = some (.inl (E.2.1 0, 8, .inl (f 17)), L 0) := hF6248 _ _ ha17_6246 (fun ⟨i, hi, e⟩ => hLay.2 i 0 hi (by decide) e.symm)
                    have ha39_6244 : h6244 (L 39) = some (.inl (E.2.1 3, 961, .inl (f 39)), L 0) := hF6244 _ _ ha39 (fun ⟨i, hi, e⟩ => hLay.2 i 0 hi (by decide) e.symm)
                    have ha39_6246 : h6246 (L 39) = some (.inl (E.2.1 3, 961, .inl (f 39)), L 0) := hF6246 _ _ ha39_6244 (fun ⟨i, hi, e⟩ => hLay.2 i 0 hi (by decide) e.symm)
                    have ha39_6248 : h6248 (L 39) = some (.inl (E.2.1 3, 961, .inl (f 39)), L 0) := hF6248 _ _ ha39_6246 (fun ⟨i, hi, e⟩ => hLay.2 i 0 hi (by decide) e.symm)
                    have hSt_6248 : Stt E L B h6248 := Stt.kept hF6248 (fun ⟨i, hi, e⟩ => hLay.2 i 30 hi (by decide) e.symm) hSt_6246
                    have hPr_6244 : Prs L B pw pl ps h6244 := Prs.kept hF6244 (fun ⟨i, hi, e⟩ => hLay.2 i 24 hi (by decide) e.symm) hPr
                    have hPr_6246 : Prs L B pw pl ps h6246 := Prs.kept hF6246 (fun ⟨i, hi, e⟩ => hLay.2 i 24 hi (by decide) e.symm) hPr_6244
                    have hPr_6248 : Prs L B pw pl ps h6248 := Prs.kept hF6248 (fun ⟨i, hi, e⟩ => hLay.2 i 24 hi (by decide) e.symm) hPr_6246
                    have hCn_6244 : Cns h6244 E L (nI1 (M 8)) (N 10) := Cns.kept hF6244 (fun ⟨i, hi, e⟩ => hLay.2 i 26 hi (by decide) e.symm) hCn
                    have hCn_6246 : Cns h6246 E L (nI1 (M 8)) (N 10) := Cns.kept hF6246 (fun ⟨i, hi, e⟩ => hLay.2 i 26 hi (by decide) e.symm) hCn_6244
                    have hCn_6248 : Cns h6248 E L (nI1 (M 8)) (N 10) := Cns.kept hF6248 (fun ⟨i, hi, e⟩ => hLay.2 i 26 hi (by decide) e.symm) hCn_6246
                    have hSd_6244 : Sds h6244 E L (nI1 (M 6)) (N 9) := Sds.kept hF6244 (fun ⟨i, hi, e⟩ => hLay.2 i 27 hi (by decide) e.symm) hSd
                    have hSd_6246 : Sds h6246 E L (nI1 (M 6)) (N 9) := Sds.kept hF6246 (fun ⟨i, hi, e⟩ => hLay.2 i 27 hi (by decide) e.symm) hSd_6244
                    have hSd_6248 : Sds h6248 E L (nI1 (M 6)) (N 9) := Sds.kept hF6248 (fun ⟨i, hi, e⟩ => hLay.2 i 27 hi (by decide) e.symm) hSd_6246
                    have hDg_6244 : Dgo h6244 E L rs := Dgo.kept hF6244 (fun ⟨i, hi, e⟩ => hLay.2 i 62 hi (by decide) e.symm) hDg
                    have hDg_6246 : Dgo h6246 E L rs := Dgo.kept hF6246 (fun ⟨i, hi, e⟩ => hLay.2 i 62 hi (by decide) e.symm) hDg_6244
                    have hDg_6248 : Dgo h6248 E L rs := Dgo.kept hF6248 (fun ⟨i, hi, e⟩ => hLay.2 i 62 hi (by decide) e.symm) hDg_6246
                    exact Z _ _ _ _ _ _ _ _ dX1_show_277 (by have hgw := (hW6248); have hg1 := hgw.1; have hg2 := hgw.2; have hkm := hB6248.kmax; show 0 + dc6248 ≤ (KX - ksum cp NB) / 8 + 8; omega) (by have hgw := (hW6248); have hg1 := hgw.1; have hg2 := hgw.2; have hkm := hB6248.kmax; show 0 + ds6248 ≤ 2 * (KX - ksum cp NB) + 2048; omega) (Or.inr rfl) ⟨hcd, by rw [show x.toInt.toNat = 2 by omega, tv, if_pos (Nat.le_of_not_lt fun z => absurd (cmpN_neg.mpr z) (by omega))]; rfl, _, by rw [show x.toInt.toNat = 2 by omega, tv]; exact ⟨pp, f, rs, pw, pl, ps, V6248, ⟨ho0_6248, ha1_6248, ha3_6248, ha12_6248, ha13_6248, ha14_6248, ha15_6248, ha16_6248, ha17_6248, ha39_6248⟩, ⟨r1, r3, r12, r13, r14, r15, r16, r17, rp, rp16⟩, Vr_sh hVr hk6248 hj6248 ((ho6248 6 (by decide) (by decide) (by decide)).trans (hxo 6 (by decide) (by decide))) ((ho6248 7 (by decide) (by decide) (by decide)).trans (hxo 7 (by decide) (by decide))) (fun k h1 h2 => (ho6248 k (by omega) (by omega) (by omega)).trans (hxo k (by omega) (by omega))) i11.2.2.2, hSt_6248, hPr_6248, hCn_6248, hSd_6248, hDg_6248, hB6248⟩, hF_6248, hW6248⟩ T6250
                · have hz9 : ¬ (N 11 ≠ 0 ∧ 0 ≤ (y).toInt ∧ (y).toInt < N 14) := fun z => cP ⟨z.1, z.2.1, by rw [rp z.1]; exact z.2.2⟩
                  have hcd : cd_show N x y = 1 := by unfold cd_show; rw [if_neg (by omega), if_neg (by omega), if_pos ⟨by omega, by omega⟩]
                  exact Y _ _ _ _ _ _ ((thr_V C T6203 hl.1 ho0 rfl (t_X1_pairIn hfl i11.1 cP rp16 ho0) q869 q871 qs13 q53 q872 kd_X1_pairIn rfl rfl ⟨Nat.le_of_ble_eq_true rfl, Nat.le_of_ble_eq_true rfl⟩ (Nat.le_of_ble_eq_true rfl) dX1_show_142 ⟨by show 0 + 1 ≤ (KX - ksum cp NB) / 8 + 8; omega, by show 0 + 6 ≤ 2 * (KX - ksum cp NB) + 2048; omega⟩).on C T6203 hno ⟨by show 0 + 1 ≤ (KX - ksum cp NB) / 8 + 8; omega, by show 0 + 6 ≤ 2 * (KX - ksum cp NB) + 2048; omega⟩ (fun h2 dc ds hp => by obtain ⟨rfl, rfl, rfl⟩ := hp; exact ⟨rfl, rfl, rfl, by rw [hcd]; exact ⟨by decide, rfl⟩⟩))
            · have hu1 := up_lm i15.1 iup.2.2.1
              have hu2 := up_lm i15.1 iup.2.2.2
              refine lv_aload_n hx hb dX1_show_77 rfl (lv_at hl 0 rfl) ?_
              refine hr_get C T6203 ho0 rfl in_X1 34 (by decide) q336 rfl rfl dX1_show_78 ?_
              refine lv_lconst (v := lN 1) hx hb dX1_show_81 rfl ?_
              obtain ⟨ca6223, hbo6223⟩ := hB.o (i := 2) (by decide)
              refine hc_V C T6203 hl.1 hbo6223 rfl (g_set (i := 2) hB (by decide) (by decide)) q271 q272 q273 q59 q274 kd_X7_set rfl rfl ⟨Nat.le_of_ble_eq_true rfl, Nat.le_of_ble_eq_true rfl⟩ (Nat.le_of_ble_eq_true rfl) dX1_show_82 ⟨by have hgw := (Gw.rf (cp := cp)); have hg1 := hgw.1; have hg2 := hgw.2; have hkm := hB.kmax; show 0 + 0 ≤ (KX - ksum cp NB) / 8 + 8; omega, by have hgw := (Gw.rf (cp := cp)); have hg1 := hgw.1; have hg2 := hgw.2; have hkm := hB.kmax; show 0 + 0 ≤ 2 * (KX - ksum cp NB) + 2048; omega⟩ (fun rv h6224 H6224 locs6224 hp6224 T6224 => ?_)
              obtain ⟨rfl, hB6224, hF6224⟩ := hp6224
              have hF_6224 : Fr (CO L B) h h6224 := hF.tr (hF6224.mono (fun _ z => Or.inr (Or.inr (Or.inr (Or.inr (Or.inr z))))))
              refine W.eq (g2 := F0 m 85 ls []) rfl ?_
              refine lv_aload_n hx hb dX1_show_85 rfl (lv_at hl 0 rfl) ?_
              have ho0_6224 : h6224 (L 0) = some (.inr (0, [.ref (L 1), .int (nI (N 0)), .ref (L 3), .int (nI (N 1)), .int (nI (N 2)), .int (nI (N 3)), .int (nI (N 4)), .int (nI (N 5)), .int (nI (N 6)), .int (nI (N 7)), .int (nI (N 8)), .ref (L 12), .ref (L 13), .ref (L 14), .ref (L 15), .ref (L 16), .ref (L 17), .int (nI (N 11)), .int (nI (N 15)), .int (nI (N 16)), .int (nI (N 17)), .int (nI (N 18) - 1), .int (nI (N 19)), .ref (L 24), .int (nI pp), .ref (L 26), .ref (L 27), .ref (if N 13 = 1 then L 27 else L 26), .ref (L 29), .ref (L 30), .ref (if N 12 = 1 then L 30 else L 29), .ref (L 32), .ref (B 0), .ref (B 1), .ref (B 2), .ref (B 3), .ref (L 37), .ref (L 38), .ref (L 39), .ref (B 4), .ref (B 5)]), L 0) := hF6224 _ _ ho0 (fun ⟨i, hi, e⟩ => hLay.2 i 0 hi (by decide) e.symm)
              refine hr_get C T6224 ho0_6224 rfl in_X1 35 (by decide) q337 rfl rfl dX1_show_86 ?_
              refine lv_lconst (v := lN 1) hx hb dX1_show_89 rfl ?_
              obtain ⟨ca6225, hbo6225⟩ := hB6224.o (i := 3) (by decide)
              refine hc_V C T6224 hl.1 hbo6225 rfl (g_set (i := 3) hB6224 (by decide) (by decide)) q271 q272 q273 q59 q274 kd_X7_set rfl rfl ⟨Nat.le_of_ble_eq_true rfl, Nat.le_of_ble_eq_true rfl⟩ (Nat.le_of_ble_eq_true rfl) dX1_show_90 ⟨by have hgw := (Gw.rf (cp := cp)); have hg1 := hgw.1; have hg2 := hgw.2; have hkm := hB6224.kmax; show 0 + 0 ≤ (KX - ksum cp NB) / 8 + 8; omega, by have hgw := (Gw.rf (cp := cp)); have hg1 := hgw.1; have hg2 := hgw.2; have hkm := hB6224.kmax; show 0 + 0 ≤ 2 * (KX - ksum cp NB) + 2048; omega⟩ (fun rv h6226 H6226 locs6226 hp6226 T6226 => ?_)
              obtain ⟨rfl, hB6226, hF6226⟩ := hp6226
              have hF_6226 : Fr (CO L B) h h6226 := hF_6224.tr (hF6226.mono (fun _ z => Or.inr (Or.inr (Or.inr (Or.inr (Or.inr z))))))
              refine W.eq (g2 := F0 m 93 ls []) rfl ?_
              refine lv_aload_n hx hb dX1_show_93 rfl (lv_at hl 0 rfl) ?_
              have ho0_6226 : h6226 (L 0) = some (.inr (0, [.ref (L 1), .int (nI (N 0)), .ref (L 3), .int (nI (N 1)), .int (nI (N 2)), .int (nI (N 3)), .int (nI (N 4)), .int (nI (N 5)), .int (nI (N 6)), .int (nI (N 7)), .int (nI (N 8)), .ref (L 12), .ref (L 13), .ref (L 14), .ref (L 15), .ref (L 16), .ref (L 17), .int (nI (N 11)), .int (nI (N 15)), .int (nI (N 16)), .int (nI (N 17)), .int (nI (N 18) - 1), .int (nI (N 19)), .ref (L 24), .int (nI pp), .ref (L 26), .ref (L 27), .ref (if N 13 = 1 then L 27 else L 26), .ref (L 29), .ref (L 30), .ref (if N 12 = 1 then L 30 else L 29), .ref (L 32), .ref (B 0), .ref (B 1), .ref (B 2), .ref (B 3), .ref (L 37), .ref (L 38), .ref (L 39), .ref (B 4), .ref (B 5)]), L 0) := hF6226 _ _ ho0_6224 (fun ⟨i, hi, e⟩ => hLay.2 i 0 hi (by decide) e.symm)
              refine hr_get C T6226 ho0_6226 rfl in_X1 30 (by decide) q329 rfl rfl dX1_show_94 ?_
              refine lv_aload_n hx hb dX1_show_97 rfl (lv_at hl 0 rfl) ?_
              refine hr_get C T6226 ho0_6226 rfl in_X1 29 (by decide) q328 rfl rfl dX1_show_98 ?_
              by_cases c12 : N 12 = 1
              · rw [if_pos c12]
                refine lv_acmp_ne (rx := some (L 30)) (ry := some (L 30)) (tgt := 243) hx hb dX1_show_101 (by decide) (fun z => absurd rfl z) (fun _ => ?_)
                have hv6 := hVr.2.2.1 cS c12
                have hSt_6224 : Stt E L B h6224 := Stt.kept hF6224 (fun ⟨i, hi, e⟩ => hLay.2 i 30 hi (by decide) e.symm) hSt
                have hSt_6226 : Stt E L B h6226 := Stt.kept hF6226 (fun ⟨i, hi, e⟩ => hLay.2 i 30 hi (by decide) e.symm) hSt_6224
                have hst30x6227 := (hSt_6226).2.2.2.2.1
                refine lv_aload_n hx hb dX1_show_104 rfl (lv_at hl 0 rfl) ?_
                refine hr_get C T6226 ho0_6226 rfl in_X1 34 (by decide) q336 rfl rfl dX1_show_105 ?_
                refine lv_aload_n hx hb dX1_show_108 rfl (lv_at hl 0 rfl) ?_
                refine hr_get C T6226 ho0_6226 rfl in_X1 29 (by decide) q328 rfl rfl dX1_show_109 ?_
                refine hr_getN C T6226 hst30x6227 rfl in_X6 1 (by decide) 6 rfl rfl rfl dX1_show_112 ?_
                obtain ⟨ca6228, hbo6228⟩ := hB6226.o (i := 2) (by decide)
                refine hg_V C T6226 hl.1 hbo6228 rfl (g_copy (i := 2) (j := 6) hB6226 (by decide) (by decide) (by decide) (by show lm (V 6) ≤ 128; rw [hv6.1]; omega)) q800 q783 q784 q59 q785 kd_X7_copy rfl rfl ⟨Nat.le_of_ble_eq_true rfl, Nat.le_of_ble_eq_true rfl⟩ (Nat.le_of_ble_eq_true rfl) dX1_show_115 ⟨by have hgw := (Gw.rf (cp := cp)); have hg1 := hgw.1; have hg2 := hgw.2; have hkm := hB6226.kmax; have := gc_le (cp 2) (lm ((nu (nu V 2 1) 3 1) 6)); have := gs_le ((hB6226.1 2 (by decide)).cap.2.2) (show lm ((nu (nu V 2 1) 3 1) 6) ≤ 128 from (by show lm (V 6) ≤ 128; rw [hv6.1]; omega)); show 0 + (gc (cp 2) (lm ((nu (nu V 2 1) 3 1) 6))) ≤ (KX - ksum cp NB) / 8 + 8; omega, by have hgw := (Gw.rf (cp := cp)); have hg1 := hgw.1; have hg2 := hgw.2; have hkm := hB6226.kmax; have := gc_le (cp 2) (lm ((nu (nu V 2 1) 3 1) 6)); have := gs_le ((hB6226.1 2 (by decide)).cap.2.2) (show lm ((nu (nu V 2 1) 3 1) 6) ≤ 128 from (by show lm (V 6) ≤ 128; rw [hv6.1]; omega)); show 0 + (gs (cp 2) (lm ((nu (nu V 2 1) 3 1) 6))) ≤ 2 * (KX - ksum cp NB) + 2048; omega⟩ (fun rv h6229 dc6229 ds6229 H6229 locs6229 hp6229 T6229 => ?_)
                obtain ⟨rfl, c6229, hB6229, hF6229, hw6229⟩ := hp6229
                have hW6229 := (Gw.rf (cp := cp)).tr hw6229
                have hF_6229 : Fr (CO L B) h h6229 := hF_6226.tr (hF6229.mono (fun _ z => Or.inr (Or.inr (Or.inr (Or.inr (Or.inr z))))))
                refine W.eq (g2 := F0 m 118 ls []) rfl ?_
                refine lv_aload_n hx hb dX1_show_118 rfl (lv_at hl 0 rfl) ?_
                have ho0_6229 : h6229 (L 0) = some (.inr (0, [.ref (L 1), .int (nI (N 0)), .ref (L 3), .int (nI (N 1)), .int (nI (N 2)), .int (nI (N 3)), .int (nI (N 4)), .int (nI (N 5)), .int (nI (N 6)), .int (nI (N 7)), .int (nI (N 8)), .ref (L 12), .ref (L 13), .ref (L 14), .ref (L 15), .ref (L 16), .ref (L 17), .int (nI (N 11)), .int (nI (N 15)), .int (nI (N 16)), .int (nI (N 17)), .int (nI (N 18) - 1), .int (nI (N 19)), .ref (L 24), .int (nI pp), .ref (L 26), .ref (L 27), .ref (if N 13 = 1 then L 27 else L 26), .ref (L 29), .ref (L 30), .ref (if N 12 = 1 then L 30 else L 29), .ref (L 32), .ref (B 0), .ref (B 1), .ref (B 2), .ref (B 3), .ref (L 37), .ref (L 38), .ref (L 39), .ref (B 4), .ref (B 5)]), L 0) := hF6229 _ _ ho0_6226 (fun ⟨i, hi, e⟩ => hLay.2 i 0 hi (by decide) e.symm)
                refine hr_get C T6229 ho0_6229 rfl in_X1 35 (by decide) q337 rfl rfl dX1_show_119 ?_
                refine lv_aload_n hx hb dX1_show_122 rfl (lv_at hl 0 rfl) ?_
                refine hr_get C T6229 ho0_6229 rfl in_X1 29 (by decide) q328 rfl rfl dX1_show_123 ?_
                have hst30x6227_6229 : h6229 (L 30) = some (.inr (6, [.ref (L 0), .ref (B 6), .ref (B 7)]), L 30) := hF6229 _ _ hst30x6227 (fun ⟨i, hi, e⟩ => hLay.2 i 30 hi (by decide) e.symm)
                refine hr_getN C T6229 hst30x6227_6229 rfl in_X6 2 (by decide) 7 rfl rfl rfl dX1_show_126 ?_
                obtain ⟨ca6230, hbo6230⟩ := hB6229.o (i := 3) (by decide)
                refine hg_V C T6229 hl.1 hbo6230 rfl (g_copy (i := 3) (j := 7) hB6229 (by decide) (by decide) (by decide) (by show lm (V 7) ≤ 128; rw [hv6.2]; omega)) q800 q783 q784 q59 q785 kd_X7_copy rfl rfl ⟨Nat.le_of_ble_eq_true rfl, Nat.le_of_ble_eq_true rfl⟩ (Nat.le_of_ble_eq_true rfl) dX1_show_129 ⟨by have hgw := (hW6229); have hg1 := hgw.1; have hg2 := hgw.2; have hkm := hB6229.kmax; have := gc_le ((nu cp 2 c6229) 3) (lm ((nu (nu (nu V 2 1) 3 1) 2 ((nu (nu V 2 1) 3 1) 6)) 7)); have := gs_le ((hB6229.1 3 (by decide)).cap.2.2) (show lm ((nu (nu (nu V 2 1) 3 1) 2 ((nu (nu V 2 1) 3 1) 6)) 7) ≤ 128 from (by show lm (V 7) ≤ 128; rw [hv6.2]; omega)); show 0 + dc6229 + (gc ((nu cp 2 c6229) 3) (lm ((nu (nu (nu V 2 1) 3 1) 2 ((nu (nu V 2 1) 3 1) 6)) 7))) ≤ (KX - ksum cp NB) / 8 + 8; omega, by have hgw := (hW6229); have hg1 := hgw.1; have hg2 := hgw.2; have hkm := hB6229.kmax; have := gc_le ((nu cp 2 c6229) 3) (lm ((nu (nu (nu V 2 1) 3 1) 2 ((nu (nu V 2 1) 3 1) 6)) 7)); have := gs_le ((hB6229.1 3 (by decide)).cap.2.2) (show lm ((nu (nu (nu V 2 1) 3 1) 2 ((nu (nu V 2 1) 3 1) 6)) 7) ≤ 128 from (by show lm (V 7) ≤ 128; rw [hv6.2]; omega)); show 0 + ds6229 + (gs ((nu cp 2 c6229) 3) (lm ((nu (nu (nu V 2 1) 3 1) 2 ((nu (nu V 2 1) 3 1) 6)) 7))) ≤ 2 * (KX - ksum cp NB) + 2048; omega⟩ (fun rv h6231 dc6231 ds6231 H6231 locs6231 hp6231 T6231 => ?_)
                obtain ⟨rfl, c6231, hB6231, hF6231, hw6231⟩ := hp6231
                have hW6231 := (hW6229).tr hw6231
                have hF_6231 : Fr (CO L B) h h6231 := hF_6229.tr (hF6231.mono (fun _ z => Or.inr (Or.inr (Or.inr (Or.inr (Or.inr z))))))
                refine W.eq (g2 := F0 m 132 ls []) rfl ?_
                have hxa : (nu (nu (nu (nu V 2 1) 3 1) 2 ((nu (nu V 2 1) 3 1) 6)) 3 ((nu (nu (nu V 2 1) 3 1) 2 ((nu (nu V 2 1) 3 1) 6)) 7)) 2 = shA N M 1 y.toInt.toNat := by show V 6 = N 20; exact hv6.1
                have hxb : (nu (nu (nu (nu V 2 1) 3 1) 2 ((nu (nu V 2 1) 3 1) 6)) 3 ((nu (nu (nu V 2 1) 3 1) 2 ((nu (nu V 2 1) 3 1) 6)) 7)) 3 = shB N M 1 y.toInt.toNat := by show V 7 = N 21; exact hv6.2
                have hxo : ∀ n, n ≠ 2 → n ≠ 3 → (nu (nu (nu (nu V 2 1) 3 1) 2 ((nu (nu V 2 1) 3 1) 6)) 3 ((nu (nu (nu V 2 1) 3 1) 2 ((nu (nu V 2 1) 3 1) 6)) 7)) n = V n := fun n h1 h2 => by repeat rw [nu_n (by omega)]
                have hnb : shB N M 1 y.toInt.toNat ≠ 0 := by show N 21 ≠ 0; omega
                have hla : lm (shA N M 1 y.toInt.toNat) ≤ 112 := by show lm (N 20) ≤ 112; omega
                have hlb : lm (shB N M 1 y.toInt.toNat) ≤ 112 := by show lm (N 21) ≤ 112; omega
                refine lv_goto (tgt := 243) hx hb dX1_show_132 (by decide) ?_
                refine lv_aload_n hx hb dX1_show_243 rfl (lv_at hl 0 rfl) ?_
                have ho0_6231 : h6231 (L 0) = some (.inr (0, [.ref (L 1), .int (nI (N 0)), .ref (L 3), .int (nI (N 1)), .int (nI (N 2)), .int (nI (N 3)), .int (nI (N 4)), .int (nI (N 5)), .int (nI (N 6)), .int (nI (N 7)), .int (nI (N 8)), .ref (L 12), .ref (L 13), .ref (L 14), .ref (L 15), .ref (L 16), .ref (L 17), .int (nI (N 11)), .int (nI (N 15)), .int (nI (N 16)), .int (nI (N 17)), .int (nI (N 18) - 1), .int (nI (N 19)), .ref (L 24), .int (nI pp), .ref (L 26), .ref (L 27), .ref (if N 13 = 1 then L 27 else L 26), .ref (L 29), .ref (L 30), .ref (if N 12 = 1 then L 30 else L 29), .ref (L 32), .ref (B 0), .ref (B 1), .ref (B 2), .ref (B 3), .ref (L 37), .ref (L 38), .ref (L 39), .ref (B 4), .ref (B 5)]), L 0) := hF6231 _ _ ho0_6229 (fun ⟨i, hi, e⟩ => hLay.2 i 0 hi (by decide) e.symm)
                refine hr_get C T6231 ho0_6231 rfl in_X1 31 (by decide) q331 rfl rfl dX1_show_244 ?_
                refine lv_aload_n hx hb dX1_show_247 rfl (lv_at hl 0 rfl) ?_
                refine hr_get C T6231 ho0_6231 rfl in_X1 34 (by decide) q336 rfl rfl dX1_show_248 ?_
                refine lv_aload_n hx hb dX1_show_251 rfl (lv_at hl 0 rfl) ?_
                refine hr_get C T6231 ho0_6231 rfl in_X1 35 (by decide) q337 rfl rfl dX1_show_252 ?_
                have hSt_6229 : Stt E L B h6229 := Stt.kept hF6229 (fun ⟨i, hi, e⟩ => hLay.2 i 30 hi (by decide) e.symm) hSt_6226
                have hSt_6231 : Stt E L B h6231 := Stt.kept hF6231 (fun ⟨i, hi, e⟩ => hLay.2 i 30 hi (by decide) e.symm) hSt_6229
                have hst32x6232 := (hSt_6231).2.2.2.2.2
                refine hg_V C T6231 hl.1 hst32x6232 rfl (m_X8_reduce (i := 2) (j := 3) hB6231 hst32x6232 (fun i hi => hLay.2 i 30 hi (by decide)) (by decide) (by decide) (by decide) (by decide) (by decide) (by rw [hxb]; exact fun z => hnb z.2) (by rw [hxa]; omega) (by rw [hxb]; omega)) q923 q924 q925 q60 q926 kd_X8_reduce rfl rfl ⟨Nat.le_of_ble_eq_true rfl, Nat.le_of_ble_eq_true rfl⟩ (Nat.le_of_ble_eq_true rfl) dX1_show_255 ⟨by have hgw := (hW6231); have hg1 := hgw.1; have hg2 := hgw.2; have hkm := hB6231.kmax; show 0 + dc6229 + dc6231 + ((KX - ksum (nu (nu cp 2 c6229) 3 c6231) NB) / 8 + 8) ≤ (KX - ksum cp NB) / 8 + 8; omega, by have hgw := (hW6231); have hg1 := hgw.1; have hg2 := hgw.2; have hkm := hB6231.kmax; show 0 + ds6229 + ds6231 + (2 * (KX - ksum (nu (nu cp 2 c6229) 3 c6231) NB) + 2048) ≤ 2 * (KX - ksum cp NB) + 2048; omega⟩ (fun rv h6233 dc6233 ds6233 H6233 locs6233 hp6233 T6233 => ?_)
                obtain ⟨rfl, V6233, c6233, hB6233, hk6233, hj6233, ho6233, hF6233, hw6233⟩ := hp6233
                have hW6233 := (hW6231).tr hw6233
                have hF_6233 : Fr (CO L B) h h6233 := hF_6231.tr (hF6233.mono (fun _ z => Or.inr (Or.inr (Or.inr (Or.inr (Or.inr z))))))
                refine W.eq (g2 := F0 m 258 ls []) rfl ?_
                rw [hxa, hxb] at hk6233 hj6233
                refine lv_aload_n hx hb dX1_show_258 rfl (lv_at hl 0 rfl) ?_
                have ho0_6233 : h6233 (L 0) = some (.inr (0, [.ref (L 1), .int (nI (N 0)), .ref (L 3), .int (nI (N 1)), .int (nI (N 2)), .int (nI (N 3)), .int (nI (N 4)), .int (nI (N 5)), .int (nI (N 6)), .int (nI (N 7)), .int (nI (N 8)), .ref (L 12), .ref (L 13), .ref (L 14), .ref (L 15), .ref (L 16), .ref (L 17), .int (nI (N 11)), .int (nI (N 15)), .int (nI (N 16)), .int (nI (N 17)), .int (nI (N 18) - 1), .int (nI (N 19)), .ref (L 24), .int (nI pp), .ref (L 26), .ref (L 27), .ref (if N 13 = 1 then L 27 else L 26), .ref (L 29), .ref (L 30), .ref (if N 12 = 1 then L 30 else L 29), .ref (L 32), .ref (B 0), .ref (B 1), .ref (B 2), .ref (B 3), .ref (L 37), .ref (L 38), .ref (L 39), .ref (B 4), .ref (B 5)]), L 0) := hF6233 _ _ ho0_6231 (fun ⟨i, hi, e⟩ => hLay.2 i 0 hi (by decide) e.symm)
                refine hr_get C T6233 ho0_6233 rfl in_X1 34 (by decide) q336 rfl rfl dX1_show_259 ?_
                refine lv_aload_n hx hb dX1_show_262 rfl (lv_at hl 0 rfl) ?_
                refine hr_get C T6233 ho0_6233 rfl in_X1 35 (by decide) q337 rfl rfl dX1_show_263 ?_
                obtain ⟨ca6234, hbo6234⟩ := hB6233.o (i := 2) (by decide)
                refine hc_V C T6233 hl.1 hbo6234 rfl (g_compare (i := 2) (j := 3) hB6233 (by decide) (by decide)) q802 q803 q804 q59 q805 kd_X7_compare rfl rfl ⟨Nat.le_of_ble_eq_true rfl, Nat.le_of_ble_eq_true rfl⟩ (Nat.le_of_ble_eq_true rfl) dX1_show_266 ⟨by have hgw := (hW6233); have hg1 := hgw.1; have hg2 := hgw.2; have hkm := hB6233.kmax; show 0 + dc6229 + dc6231 + dc6233 + 0 ≤ (KX - ksum cp NB) / 8 + 8; omega, by have hgw := (hW6233); have hg1 := hgw.1; have hg2 := hgw.2; have hkm := hB6233.kmax; show 0 + ds6229 + ds6231 + ds6233 + 0 ≤ 2 * (KX - ksum cp NB) + 2048; omega⟩ (fun rv h6235 H6235 locs6235 hp6235 T6235 => ?_)
                obtain ⟨rfl, hq6235⟩ := hp6235
                rw [hq6235] at T6235
                rw [hk6233, hj6233]
                refine zi_if_lt (tgt := 276) (X := (cmpN (shA N M 1 y.toInt.toNat / Nat.gcd (shA N M 1 y.toInt.toNat) (shB N M 1 y.toInt.toNat)) (shB N M 1 y.toInt.toNat / Nat.gcd (shA N M 1 y.toInt.toNat) (shB N M 1 y.toInt.toNat))).toInt) hx hb dX1_show_269 (by decide) rfl (fun c9 => ?_) (fun c9 => ?_)
                · have hcd : cd_show N x y = 0 := by unfold cd_show; rw [if_neg (by omega), if_neg (by omega), if_neg (by omega)]
                  refine lv_iconst (v := nI 0) hx hb dX1_show_276 rfl ?_
                  have ha1_6224 : h6224 (L 1) = some (.inl (E.2.1 0, 8, .inl (f 1)), L 0) := hF6224 _ _ ha1 (fun ⟨i, hi, e⟩ => hLay.2 i 0 hi (by decide) e.symm)
                  have ha1_6226 : h6226 (L 1) = some (.inl (E.2.1 0, 8, .inl (f 1)), L 0) := hF6226 _ _ ha1_6224 (fun ⟨i, hi, e⟩ => hLay.2 i 0 hi (by decide) e.symm)
                  have ha1_6229 : h6229 (L 1) = some (.inl (E.2.1 0, 8, .inl (f 1)), L 0) := hF6229 _ _ ha1_6226 (fun ⟨i, hi, e⟩ => hLay.2 i 0 hi (by decide) e.symm)
                  have ha1_6231 : h6231 (L 1) = some (.inl (E.2.1 0, 8, .inl (f 1)), L 0) := hF6231 _ _ ha1_6229 (fun ⟨i, hi, e⟩ => hLay.2 i 0 hi (by decide) e.symm)
                  have ha1_6233 : h6233 (L 1) = some (.inl (E.2.1 0, 8, .inl (f 1)), L 0) := hF6233 _ _ ha1_6231 (fun ⟨i, hi, e⟩ => hLay.2 i 0 hi (by decide) e.symm)
                  have ha3_6224 : h6224 (L 3) = some (.inl (E.2.1 0, 64, .inl (f 3)), L 0) := hF6224 _ _ ha3 (fun ⟨i, hi, e⟩ => hLay.2 i 0 hi (by decide) e.symm)
                  have ha3_6226 : h6226 (L 3) = some (.inl (E.2.1 0, 64, .inl (f 3)), L 0) := hF6226 _ _ ha3_6224 (fun ⟨i, hi, e⟩ => hLay.2 i 0 hi (by decide) e.symm)
                  have ha3_6229 : h6229 (L 3) = some (.inl (E.2.1 0, 64, .inl (f 3)), L 0) := hF6229 _ _ ha3_6226 (fun ⟨i, hi, e⟩ => hLay.2 i 0 hi (by decide) e.symm)
                  have ha3_6231 : h6231 (L 3) = some (.inl (E.2.1 0, 64, .inl (f 3)), L 0) := hF6231 _ _ ha3_6229 (fun ⟨i, hi, e⟩ => hLay.2 i 0 hi (by decide) e.symm)
                  have ha3_6233 : h6233 (L 3) = some (.inl (E.2.1 0, 64, .inl (f 3)), L 0) := hF6233 _ _ ha3_6231 (fun ⟨i, hi, e⟩ => hLay.2 i 0 hi (by decide) e.symm)
                  have ha12_6224 : h6224 (L 12) = some (.inl (E.2.1 1, 20000, .inl (f 12)), L 0) := hF6224 _ _ ha12 (fun ⟨i, hi, e⟩ => hLay.2 i 0 hi (by decide) e.symm)
                  have ha12_6226 : h6226 (L 12) = some (.inl (E.2.1 1, 20000, .inl (f 12)), L 0) := hF6226 _ _ ha12_6224 (fun ⟨i, hi, e⟩ => hLay.2 i 0 hi (by decide) e.symm)
                  have ha12_6229 : h6229 (L 12) = some (.inl (E.2.1 1, 20000, .inl (f 12)), L 0) := hF6229 _ _ ha12_6226 (fun ⟨i, hi, e⟩ => hLay.2 i 0 hi (by decide) e.symm)
                  have ha12_6231 : h6231 (L 12) = some (.inl (E.2.1 1, 20000, .inl (f 12)), L 0) := hF6231 _ _ ha12_6229 (fun ⟨i, hi, e⟩ => hLay.2 i 0 hi (by decide) e.symm)
                  have ha12_6233 : h6233 (L 12) = some (.inl (E.2.1 1, 20000, .inl (f 12)), L 0) := hF6233 _ _ ha12_6231 (fun ⟨i, hi, e⟩ => hLay.2 i 0 hi (by decide) e.symm)
                  have ha13_6224 : h6224 (L 13) = some (.inl (E.2.1 1, 20000, .inl (f 13)), L 0) := hF6224 _ _ ha13 (fun ⟨i, hi, e⟩ => hLay.2 i 0 hi (by decide) e.symm)
                  have ha13_6226 : h6226 (L 13) = some (.inl (E.2.1 1, 20000, .inl (f 13)), L 0) := hF6226 _ _ ha13_6224 (fun ⟨i, hi, e⟩ => hLay.2 i 0 hi (by decide) e.symm)
                  have ha13_6229 : h6229 (L 13) = some (.inl (E.2.1 1, 20000, .inl (f 13)), L 0) := hF6229 _ _ ha13_6226 (fun ⟨i, hi, e⟩ => hLay.2 i 0 hi (by decide) e.symm)
                  have ha13_6231 : h6231 (L 13) = some (.inl (E.2.1 1, 20000, .inl (f 13)), L 0) := hF6231 _ _ ha13_6229 (fun ⟨i, hi, e⟩ => hLay.2 i 0 hi (by decide) e.symm)
                  have ha13_6233 : h6233 (L 13) = some (.inl (E.2.1 1, 20000, .inl (f 13)), L 0) := hF6233 _ _ ha13_6231 (fun ⟨i, hi, e⟩ => hLay.2 i 0 hi (by decide) e.symm)
                  have ha14_6224 : h6224 (L 14) = some (.inl (E.2.1 2, 20000, .inl (f 14)), L 0) := hF6224 _ _ ha14 (fun ⟨i, hi, e⟩ => hLay.2 i 0 hi (by decide) e.symm)
                  have ha14_6226 : h6226 (L 14) = some (.inl (E.2.1 2, 20000, .inl (f 14)), L 0) := hF6226 _ _ ha14_6224 (fun ⟨i, hi, e⟩ => hLay.2 i 0 hi (by decide) e.symm)
                  have ha14_6229 : h6229 (L 14) = some (.inl (E.2.1 2, 20000, .inl (f 14)), L 0) := hF6229 _ _ ha14_6226 (fun ⟨i, hi, e⟩ => hLay.2 i 0 hi (by decide) e.symm)
                  have ha14_6231 : h6231 (L 14) = some (.inl (E.2.1 2, 20000, .inl (f 14)), L 0) := hF6231 _ _ ha14_6229 (fun ⟨i, hi, e⟩ => hLay.2 i 0 hi (by decide) e.symm)
                  have ha14_6233 : h6233 (L 14) = some (.inl (E.2.1 2, 20000, .inl (f 14)), L 0) := hF6233 _ _ ha14_6231 (fun ⟨i, hi, e⟩ => hLay.2 i 0 hi (by decide) e.symm)
                  have ha15_6224 : h6224 (L 15) = some (.inl (E.2.1 3, 8, .inl (f 15)), L 0) := hF6224 _ _ ha15 (fun ⟨i, hi, e⟩ => hLay.2 i 0 hi (by decide) e.symm)
                  have ha15_6226 : h6226 (L 15) = some (.inl (E.2.1 3, 8, .inl (f 15)), L 0) := hF6226 _ _ ha15_6224 (fun ⟨i, hi, e⟩ => hLay.2 i 0 hi (by decide) e.symm)
                  have ha15_6229 : h6229 (L 15) = some (.inl (E.2.1 3, 8, .inl (f 15)), L 0) := hF6229 _ _ ha15_6226 (fun ⟨i, hi, e⟩ => hLay.2 i 0 hi (by decide) e.symm)
                  have ha15_6231 : h6231 (L 15) = some (.inl (E.2.1 3, 8, .inl (f 15)), L 0) := hF6231 _ _ ha15_6229 (fun ⟨i, hi, e⟩ => hLay.2 i 0 hi (by decide) e.symm)
                  have ha15_6233 : h6233 (L 15) = some (.inl (E.2.1 3, 8, .inl (f 15)), L 0) := hF6233 _ _ ha15_6231 (fun ⟨i, hi, e⟩ => hLay.2 i 0 hi (by decide) e.symm)
                  have ha16_6224 : h6224 (L 16) = some (.inl (E.2.1 0, 8, .inl (f 16)), L 0) := hF6224 _ _ ha16 (fun ⟨i, hi, e⟩ => hLay.2 i 0 hi (by decide) e.symm)
                  have ha16_6226 : h6226 (L 16) = some (.inl (E.2.1 0, 8, .inl (f 16)), L 0) := hF6226 _ _ ha16_6224 (fun ⟨i, hi, e⟩ => hLay.2 i 0 hi (by decide) e.symm)
                  have ha16_6229 : h6229 (L 16) = some (.inl (E.2.1 0, 8, .inl (f 16)), L 0) := hF6229 _ _ ha16_6226 (fun ⟨i, hi, e⟩ => hLay.2 i 0 hi (by decide) e.symm)
                  have ha16_6231 : h6231 (L 16) = some (.inl (E.2.1 0, 8, .inl (f 16)), L 0) := hF6231 _ _ ha16_6229 (fun ⟨i, hi, e⟩ => hLay.2 i 0 hi (by decide) e.symm)
                  have ha16_6233 : h6233 (L 16) = some (.inl (E.2.1 0, 8, .inl (f 16)), L 0) := hF6233 _ _ ha16_6231 (fun ⟨i, hi, e⟩ => hLay.2 i 0 hi (by decide) e.symm)
                  have ha17_6224 : h6224 (L 17) = some (.inl (E.2.1 0, 8, .inl (f 17)), L 0) := hF6224 _ _ ha17 (fun ⟨i, hi, e⟩ => hLay.2 i 0 hi (by decide) e.symm)
                  have ha17_6226 : h6226 (L 17) = some (.inl (E.2.1 0, 8, .inl (f 17)), L 0) := hF6226 _ _ ha17_6224 (fun ⟨i, hi, e⟩ => hLay.2 i 0 hi (by decide) e.symm)
                  have ha17_6229 : h6229 (L 17) = some (.inl (E.2.1 0, 8, .inl (f 17)), L 0) := hF6229 _ _ ha17_6226 (fun ⟨i, hi, e⟩ => hLay.2 i 0 hi (by decide) e.symm)
                  have ha17_6231 : h6231 (L 17) = some (.inl (E.2.1 0, 8, .inl (f 17)), L 0) := hF6231 _ _ ha17_6229 (fun ⟨i, hi, e⟩ => hLay.2 i 0 hi (by decide) e.symm)
                  have ha17_6233 : h6233 (L 17) = some (.inl (E.2.1 0, 8, .inl (f 17)), L 0) := hF6233 _ _ ha17_6231 (fun ⟨i, hi, e⟩ => hLay.2 i 0 hi (by decide) e.symm)
                  have ha39_6224 : h6224 (L 39) = some (.inl (E.2.1 3, 961, .inl (f 39)), L 0) := hF6224 _ _ ha39 (fun ⟨i, hi, e⟩ => hLay.2 i 0 hi (by decide) e.symm)
                  have ha39_6226 : h6226 (L 39) = some (.inl (E.2.1 3, 961, .inl (f 39)), L 0) := hF6226 _ _ ha39_6224 (fun ⟨i, hi, e⟩ => hLay.2 i 0 hi (by decide) e.symm)
                  have ha39_6229 : h6229 (L 39) = some (.inl (E.2.1 3, 961, .inl (f 39)), L 0) := hF6229 _ _ ha39_6226 (fun ⟨i, hi, e⟩ => hLay.2 i 0 hi (by decide) e.symm)
                  have ha39_6231 : h6231 (L 39) = some (.inl (E.2.1 3, 961, .inl (f 39)), L 0) := hF6231 _ _ ha39_6229 (fun ⟨i, hi, e⟩ => hLay.2 i 0 hi (by decide) e.symm)
                  have ha39_6233 : h6233 (L 39) = some (.inl (E.2.1 3, 961, .inl (f 39)), L 0) := hF6233 _ _ ha39_6231 (fun ⟨i, hi, e⟩ => hLay.2 i 0 hi (by decide) e.symm)
                  have hSt_6233 : Stt E L B h6233 := Stt.kept hF6233 (fun ⟨i, hi, e⟩ => hLay.2 i 30 hi (by decide) e.symm) hSt_6231
                  have hPr_6224 : Prs L B pw pl ps h6224 := Prs.kept hF6224 (fun ⟨i, hi, e⟩ => hLay.2 i 24 hi (by decide) e.symm) hPr
                  have hPr_6226 : Prs L B pw pl ps h6226 := Prs.kept hF6226 (fun ⟨i, hi, e⟩ => hLay.2 i 24 hi (by decide) e.symm) hPr_6224
                  have hPr_6229 : Prs L B pw pl ps h6229 := Prs.kept hF6229 (fun ⟨i, hi, e⟩ => hLay.2 i 24 hi (by decide) e.symm) hPr_6226
                  have hPr_6231 : Prs L B pw pl ps h6231 := Prs.kept hF6231 (fun ⟨i, hi, e⟩ => hLay.2 i 24 hi (by decide) e.symm) hPr_6229
                  have hPr_6233 : Prs L B pw pl ps h6233 := Prs.kept hF6233 (fun ⟨i, hi, e⟩ => hLay.2 i 24 hi (by decide) e.symm) hPr_6231
                  have hCn_6224 : Cns h6224 E L (nI1 (M 8)) (N 10) := Cns.kept hF6224 (fun ⟨i, hi, e⟩ => hLay.2 i 26 hi (by decide) e.symm) hCn
                  have hCn_6226 : Cns h6226 E L (nI1 (M 8)) (N 10) := Cns.kept hF6226 (fun ⟨i, hi, e⟩ => hLay.2 i 26 hi (by decide) e.symm) hCn_6224
                  have hCn_6229 : Cns h6229 E L (nI1 (M 8)) (N 10) := Cns.kept hF6229 (fun ⟨i, hi, e⟩ => hLay.2 i 26 hi (by decide) e.symm) hCn_6226
                  have hCn_6231 : Cns h6231 E L (nI1 (M 8)) (N 10) := Cns.kept hF6231 (fun ⟨i, hi, e⟩ => hLay.2 i 26 hi (by decide) e.symm) hCn_6229
                  have hCn_6233 : Cns h6233 E L (nI1 (M 8)) (N 10) := Cns.kept hF6233 (fun ⟨i, hi, e⟩ => hLay.2 i 26 hi (by decide) e.symm) hCn_6231
                  have hSd_6224 : Sds h6224 E L (nI1 (M 6)) (N 9) := Sds.kept hF6224 (fun ⟨i, hi, e⟩ => hLay.2 i 27 hi (by decide) e.symm) hSd
                  have hSd_6226 : Sds h6226 E L (nI1 (M 6)) (N 9) := Sds.kept hF6226 (fun ⟨i, hi, e⟩ => hLay.2 i 27 hi (by decide) e.symm) hSd_6224
                  have hSd_6229 : Sds h6229 E L (nI1 (M 6)) (N 9) := Sds.kept hF6229 (fun ⟨i, hi, e⟩ => hLay.2 i 27 hi (by decide) e.symm) hSd_6226
                  have hSd_6231 : Sds h6231 E L (nI1 (M 6)) (N 9) := Sds.kept hF6231 (fun ⟨i, hi, e⟩ => hLay.2 i 27 hi (by decide) e.symm) hSd_6229
                  have hSd_6233 : Sds h6233 E L (nI1 (M 6)) (N 9) := Sds.kept hF6233 (fun ⟨i, hi, e⟩ => hLay.2 i 27 hi (by decide) e.symm) hSd_6231
                  have hDg_6224 : Dgo h6224 E L rs := Dgo.kept hF6224 (fun ⟨i, hi, e⟩ => hLay.2 i 62 hi (by decide) e.symm) hDg
                  have hDg_6226 : Dgo h6226 E L rs := Dgo.kept hF6226 (fun ⟨i, hi, e⟩ => hLay.2 i 62 hi (by decide) e.symm) hDg_6224
                  have hDg_6229 : Dgo h6229 E L rs := Dgo.kept hF6229 (fun ⟨i, hi, e⟩ => hLay.2 i 62 hi (by decide) e.symm) hDg_6226
                  have hDg_6231 : Dgo h6231 E L rs := Dgo.kept hF6231 (fun ⟨i, hi, e⟩ => hLay.2 i 62 hi (by decide) e.symm) hDg_6229
                  have hDg_6233 : Dgo h6233 E L rs := Dgo.kept hF6233 (fun ⟨i, hi, e⟩ => hLay.2 i 62 hi (by decide) e.symm) hDg_6231
                  exact Z _ _ _ _ _ _ _ _ dX1_show_277 (by have hgw := (hW6233); have hg1 := hgw.1; have hg2 := hgw.2; have hkm := hB6233.kmax; show 0 + dc6229 + dc6231 + dc6233 ≤ (KX - ksum cp NB) / 8 + 8; omega) (by have hgw := (hW6233); have hg1 := hgw.1; have hg2 := hgw.2; have hkm := hB6233.kmax; show 0 + ds6229 + ds6231 + ds6233 ≤ 2 * (KX - ksum cp NB) + 2048; omega) (Or.inl rfl) ⟨hcd, by rw [show x.toInt.toNat = 1 by omega, if_neg (by have := cmpN_neg.mp c9; omega)]; rfl, _, by rw [show x.toInt.toNat = 1 by omega]; exact ⟨pp, f, rs, pw, pl, ps, V6233, ⟨ho0_6233, ha1_6233, ha3_6233, ha12_6233, ha13_6233, ha14_6233, ha15_6233, ha16_6233, ha17_6233, ha39_6233⟩, ⟨r1, r3, r12, r13, r14, r15, r16, r17, rp, rp16⟩, Vr_sh hVr hk6233 hj6233 ((ho6233 6 (by decide) (by decide) (by decide)).trans (hxo 6 (by decide) (by decide))) ((ho6233 7 (by decide) (by decide) (by decide)).trans (hxo 7 (by decide) (by decide))) (fun k h1 h2 => (ho6233 k (by omega) (by omega) (by omega)).trans (hxo k (by omega) (by omega))) i11.2.2.2, hSt_6233, hPr_6233, hCn_6233, hSd_6233, hDg_6233, hB6233⟩, hF_6233, hW6233⟩ T6235
                · have hcd : cd_show N x y = 0 := by unfold cd_show; rw [if_neg (by omega), if_neg (by omega), if_neg (by omega)]
                  refine lv_iconst (v := nI 1) hx hb dX1_show_272 rfl ?_
                  refine lv_goto (tgt := 277) hx hb dX1_show_273 (by decide) ?_
                  have ha1_6224 : h6224 (L 1) = some (.inl (E.2.1 0, 8, .inl (f 1)), L 0) := hF6224 _ _ ha1 (fun ⟨i, hi, e⟩ => hLay.2 i 0 hi (by decide) e.symm)
                  have ha1_6226 : h6226 (L 1) = some (.inl (E.2.1 0, 8, .inl (f 1)), L 0) := hF6226 _ _ ha1_6224 (fun ⟨i, hi, e⟩ => hLay.2 i 0 hi (by decide) e.symm)
                  have ha1_6229 : h6229 (L 1) = some (.inl (E.2.1 0, 8, .inl (f 1)), L 0) := hF6229 _ _ ha1_6226 (fun ⟨i, hi, e⟩ => hLay.2 i 0 hi (by decide) e.symm)
                  have ha1_6231 : h6231 (L 1) = some (.inl (E.2.1 0, 8, .inl (f 1)), L 0) := hF6231 _ _ ha1_6229 (fun ⟨i, hi, e⟩ => hLay.2 i 0 hi (by decide) e.symm)
                  have ha1_6233 : h6233 (L 1) = some (.inl (E.2.1 0, 8, .inl (f 1)), L 0) := hF6233 _ _ ha1_6231 (fun ⟨i, hi, e⟩ => hLay.2 i 0 hi (by decide) e.symm)
                  have ha3_6224 : h6224 (L 3) = some (.inl (E.2.1 0, 64, .inl (f 3)), L 0) := hF6224 _ _ ha3 (fun ⟨i, hi, e⟩ => hLay.2 i 0 hi (by decide) e.symm)
                  have ha3_6226 : h6226 (L 3) = some (.inl (E.2.1 0, 64, .inl (f 3)), L 0) := hF6226 _ _ ha3_6224 (fun ⟨i, hi, e⟩ => hLay.2 i 0 hi (by decide) e.symm)
                  have ha3_6229 : h6229 (L 3) = some (.inl (E.2.1 0, 64, .inl (f 3)), L 0) := hF6229 _ _ ha3_6226 (fun ⟨i, hi, e⟩ => hLay.2 i 0 hi (by decide) e.symm)
                  have ha3_6231 : h6231 (L 3) = some (.inl (E.2.1 0, 64, .inl (f 3)), L 0) := hF6231 _ _ ha3_6229 (fun ⟨i, hi, e⟩ => hLay.2 i 0 hi (by decide) e.symm)
                  have ha3_6233 : h6233 (L 3) = some (.inl (E.2.1 0, 64, .inl (f 3)), L 0) := hF6233 _ _ ha3_6231 (fun ⟨i, hi, e⟩ => hLay.2 i 0 hi (by decide) e.symm)
                  have ha12_6224 : h6224 (L 12) = some (.inl (E.2.1 1, 20000, .inl (f 12)), L 0) := hF6224 _ _ ha12 (fun ⟨i, hi, e⟩ => hLay.2 i 0 hi (by decide) e.symm)
                  have ha12_6226 : h6226 (L 12) = some (.inl (E.2.1 1, 20000, .inl (f 12)), L 0) := hF6226 _ _ ha12_6224 (fun ⟨i, hi, e⟩ => hLay.2 i 0 hi (by decide) e.symm)
                  have ha12_6229 : h6229 (L 12) = some (.inl (E.2.1 1, 20000, .inl (f 12)), L 0) := hF6229 _ _ ha12_6226 (fun ⟨i, hi, e⟩ => hLay.2 i 0 hi (by decide) e.symm)
                  have ha12_6231 : h6231 (L 12) = some (.inl (E.2.1 1, 20000, .inl (f 12)), L 0) := hF6231 _ _ ha12_6229 (fun ⟨i, hi, e⟩ => hLay.2 i 0 hi (by decide) e.symm)
                  have ha12_6233 : h6233 (L 12) = some (.inl (E.2.1 1, 20000, .inl (f 12)), L 0) := hF6233 _ _ ha12_6231 (fun ⟨i, hi, e⟩ => hLay.2 i 0 hi (by decide) e.symm)
                  have ha13_6224 : h6224 (L 13) = some (.inl (E.2.1 1, 20000, .inl (f 13)), L 0) := hF6224 _ _ ha13 (fun ⟨i, hi, e⟩ => hLay.2 i 0 hi (by decide) e.symm)
                  have ha13_6226 : h6226 (L 13) = some (.inl (E.2.1 1, 20000, .inl (f 13)), L 0) := hF6226 _ _ ha13_6224 (fun ⟨i, hi, e⟩ => hLay.2 i 0 hi (by decide) e.symm)
                  have ha13_6229 : h6229 (L 13) = some (.inl (E.2.1 1, 20000, .inl (f 13)), L 0) := hF6229 _ _ ha13_6226 (fun ⟨i, hi, e⟩ => hLay.2 i 0 hi (by decide) e.symm)
                  have ha13_6231 : h6231 (L 13) = some (.inl (E.2.1 1, 20000, .inl (f 13)), L 0) := hF6231 _ _ ha13_6229 (fun ⟨i, hi, e⟩ => hLay.2 i 0 hi (by decide) e.symm)
                  have ha13_6233 : h6233 (L 13) = some (.inl (E.2.1 1, 20000, .inl (f 13)), L 0) := hF6233 _ _ ha13_6231 (fun ⟨i, hi, e⟩ => hLay.2 i 0 hi (by decide) e.symm)
                  have ha14_6224 : h6224 (L 14) = some (.inl (E.2.1 2, 20000, .inl (f 14)), L 0) := hF6224 _ _ ha14 (fun ⟨i, hi, e⟩ => hLay.2 i 0 hi (by decide) e.symm)
                  have ha14_6226 : h6226 (L 14) = some (.inl (E.2.1 2, 20000, .inl (f 14)), L 0) := hF6226 _ _ ha14_6224 (fun ⟨i, hi, e⟩ => hLay.2 i 0 hi (by decide) e.symm)
                  have ha14_6229 : h6229 (L 14) = some (.inl (E.2.1 2, 20000, .inl (f 14)), L 0) := hF6229 _ _ ha14_6226 (fun ⟨i, hi, e⟩ => hLay.2 i 0 hi (by decide) e.symm)
                  have ha14_6231 : h6231 (L 14) = some (.inl (E.2.1 2, 20000, .inl (f 14)), L 0) := hF6231 _ _ ha14_6229 (fun ⟨i, hi, e⟩ => hLay.2 i 0 hi (by decide) e.symm)
                  have ha14_6233 : h6233 (L 14) = some (.inl (E.2.1 2, 20000, .inl (f 14)), L 0) := hF6233 _ _ ha14_6231 (fun ⟨i, hi, e⟩ => hLay.2 i 0 hi (by decide) e.symm)
                  have ha15_6224 : h6224 (L 15) = some (.inl (E.2.1 3, 8, .inl (f 15)), L 0) := hF6224 _ _ ha15 (fun ⟨i, hi, e⟩ => hLay.2 i 0 hi (by decide) e.symm)
                  have ha15_6226 : h6226 (L 15) = some (.inl (E.2.1 3, 8, .inl (f 15)), L 0) := hF6226 _ _ ha15_6224 (fun ⟨i, hi, e⟩ => hLay.2 i 0 hi (by decide) e.symm)
                  have ha15_6229 : h6229 (L 15) = some (.inl (E.2.1 3, 8, .inl (f 15)), L 0) := hF6229 _ _ ha15_6226 (fun ⟨i, hi, e⟩ => hLay.2 i 0 hi (by decide) e.symm)
                  have ha15_6231 : h6231 (L 15) = some (.inl (E.2.1 3, 8, .inl (f 15)), L 0) := hF6231 _ _ ha15_6229 (fun ⟨i, hi, e⟩ => hLay.2 i 0 hi (by decide) e.symm)
                  have ha15_6233 : h6233 (L 15) = some (.inl (E.2.1 3, 8, .inl (f 15)), L 0) := hF6233 _ _ ha15_6231 (fun ⟨i, hi, e⟩ => hLay.2 i 0 hi (by decide) e.symm)
                  have ha16_6224 : h6224 (L 16) = some (.inl (E.2.1 0, 8, .inl (f 16)), L 0) := hF6224 _ _ ha16 (fun ⟨i, hi, e⟩ => hLay.2 i 0 hi (by decide) e.symm)
                  have ha16_6226 : h6226 (L 16) = some (.inl (E.2.1 0, 8, .inl (f 16)), L 0) := hF6226 _ _ ha16_6224 (fun ⟨i, hi, e⟩ => hLay.2 i 0 hi (by decide) e.symm)
                  have ha16_6229 : h6229 (L 16) = some (.inl (E.2.1 0, 8, .inl (f 16)), L 0) := hF6229 _ _ ha16_6226 (fun ⟨i, hi, e⟩ => hLay.2 i 0 hi (by decide) e.symm)
                  have ha16_6231 : h6231 (L 16) = some (.inl (E.2.1 0, 8, .inl (f 16)), L 0) := hF6231 _ _ ha16_6229 (fun ⟨i, hi, e⟩ => hLay.2 i 0 hi (by decide) e.symm)
                  have ha16_6233 : h6233 (L 16) = some (.inl (E.2.1 0, 8, .inl (f 16)), L 0) := hF6233 _ _ ha16_6231 (fun ⟨i, hi, e⟩ => hLay.2 i 0 hi (by decide) e.symm)
                  have ha17_6224 : h6224 (L 17) = some (.inl (E.2.1 0, 8, .inl (f 17)), L 0) := hF6224 _ _ ha17 (fun ⟨i, hi, e⟩ => hLay.2 i 0 hi (by decide) e.symm)
                  have ha17_6226 : h6226 (L 17) = some (.inl (E.2.1 0, 8, .inl (f 17)), L 0) := hF6226 _ _ ha17_6224 (fun ⟨i, hi, e⟩ => hLay.2 i 0 hi (by decide) e.symm)
                  have ha17_6229 : h6229 (L 17) = some (.inl (E.2.1 0, 8, .inl (f 17)), L 0) := hF6229 _ _ ha17_6226 (fun ⟨i, hi, e⟩ => hLay.2 i 0 hi (by decide) e.symm)
                  have ha17_6231 : h6231 (L 17) = some (.inl (E.2.1 0, 8, .inl (f 17)), L 0) := hF6231 _ _ ha17_6229 (fun ⟨i, hi, e⟩ => hLay.2 i 0 hi (by decide) e.symm)
                  have ha17_6233 : h6233 (L 17) = some (.inl (E.2.1 0, 8, .inl (f 17)), L 0) := hF6233 _ _ ha17_6231 (fun ⟨i, hi, e⟩ => hLay.2 i 0 hi (by decide) e.symm)
                  have ha39_6224 : h6224 (L 39) = some (.inl (E.2.1 3, 961, .inl (f 39)), L 0) := hF6224 _ _ ha39 (fun ⟨i, hi, e⟩ => hLay.2 i 0 hi (by decide) e.symm)
                  have ha39_6226 : h6226 (L 39) = some (.inl (E.2.1 3, 961, .inl (f 39)), L 0) := hF6226 _ _ ha39_6224 (fun ⟨i, hi, e⟩ => hLay.2 i 0 hi (by decide) e.symm)
                  have ha39_6229 : h6229 (L 39) = some (.inl (E.2.1 3, 961, .inl (f 39)), L 0) := hF6229 _ _ ha39_6226 (fun ⟨i, hi, e⟩ => hLay.2 i 0 hi (by decide) e.symm)
                  have ha39_6231 : h6231 (L 39) = some (.inl (E.2.1 3, 961, .inl (f 39)), L 0) := hF6231 _ _ ha39_6229 (fun ⟨i, hi, e⟩ => hLay.2 i 0 hi (by decide) e.symm)
                  have ha39_6233 : h6233 (L 39) = some (.inl (E.2.1 3, 961, .inl (f 39)), L 0) := hF6233 _ _ ha39_6231 (fun ⟨i, hi, e⟩ => hLay.2 i 0 hi (by decide) e.symm)
                  have hSt_6233 : Stt E L B h6233 := Stt.kept hF6233 (fun ⟨i, hi, e⟩ => hLay.2 i 30 hi (by decide) e.symm) hSt_6231
                  have hPr_6224 : Prs L B pw pl ps h6224 := Prs.kept hF6224 (fun ⟨i, hi, e⟩ => hLay.2 i 24 hi (by decide) e.symm) hPr
                  have hPr_6226 : Prs L B pw pl ps h6226 := Prs.kept hF6226 (fun ⟨i, hi, e⟩ => hLay.2 i 24 hi (by decide) e.symm) hPr_6224
                  have hPr_6229 : Prs L B pw pl ps h6229 := Prs.kept hF6229 (fun ⟨i, hi, e⟩ => hLay.2 i 24 hi (by decide) e.symm) hPr_6226
                  have hPr_6231 : Prs L B pw pl ps h6231 := Prs.kept hF6231 (fun ⟨i, hi, e⟩ => hLay.2 i 24 hi (by decide) e.symm) hPr_6229
                  have hPr_6233 : Prs L B pw pl ps h6233 := Prs.kept hF6233 (fun ⟨i, hi, e⟩ => hLay.2 i 24 hi (by decide) e.symm) hPr_6231
                  have hCn_6224 : Cns h6224 E L (nI1 (M 8)) (N 10) := Cns.kept hF6224 (fun ⟨i, hi, e⟩ => hLay.2 i 26 hi (by decide) e.symm) hCn
                  have hCn_6226 : Cns h6226 E L (nI1 (M 8)) (N 10) := Cns.kept hF6226 (fun ⟨i, hi, e⟩ => hLay.2 i 26 hi (by decide) e.symm) hCn_6224
                  have hCn_6229 : Cns h6229 E L (nI1 (M 8)) (N 10) := Cns.kept hF6229 (fun ⟨i, hi, e⟩ => hLay.2 i 26 hi (by decide) e.symm) hCn_6226
                  have hCn_6231 : Cns h6231 E L (nI1 (M 8)) (N 10) := Cns.kept hF6231 (fun ⟨i, hi, e⟩ => hLay.2 i 26 hi (by decide) e.symm) hCn_6229
                  have hCn_6233 : Cns h6233 E L (nI1 (M 8)) (N 10) := Cns.kept hF6233 (fun ⟨i, hi, e⟩ => hLay.2 i 26 hi (by decide) e.symm) hCn_6231
                  have hSd_6224 : Sds h6224 E L (nI1 (M 6)) (N 9) := Sds.kept hF6224 (fun ⟨i, hi, e⟩ => hLay.2 i 27 hi (by decide) e.symm) hSd
                  have hSd_6226 : Sds h6226 E L (nI1 (M 6)) (N 9) := Sds.kept hF6226 (fun ⟨i, hi, e⟩ => hLay.2 i 27 hi (by decide) e.symm) hSd_6224
                  have hSd_6229 : Sds h6229 E L (nI1 (M 6)) (N 9) := Sds.kept hF6229 (fun ⟨i, hi, e⟩ => hLay.2 i 27 hi (by decide) e.symm) hSd_6226
                  have hSd_6231 : Sds h6231 E L (nI1 (M 6)) (N 9) := Sds.kept hF6231 (fun ⟨i, hi, e⟩ => hLay.2 i 27 hi (by decide) e.symm) hSd_6229
                  have hSd_6233 : Sds h6233 E L (nI1 (M 6)) (N 9) := Sds.kept hF6233 (fun ⟨i, hi, e⟩ => hLay.2 i 27 hi (by decide) e.symm) hSd_6231
                  have hDg_6224 : Dgo h6224 E L rs := Dgo.kept hF6224 (fun ⟨i, hi, e⟩ => hLay.2 i 62 hi (by decide) e.symm) hDg
                  have hDg_6226 : Dgo h6226 E L rs := Dgo.kept hF6226 (fun ⟨i, hi, e⟩ => hLay.2 i 62 hi (by decide) e.symm) hDg_6224
                  have hDg_6229 : Dgo h6229 E L rs := Dgo.kept hF6229 (fun ⟨i, hi, e⟩ => hLay.2 i 62 hi (by decide) e.symm) hDg_6226
                  have hDg_6231 : Dgo h6231 E L rs := Dgo.kept hF6231 (fun ⟨i, hi, e⟩ => hLay.2 i 62 hi (by decide) e.symm) hDg_6229
                  have hDg_6233 : Dgo h6233 E L rs := Dgo.kept hF6233 (fun ⟨i, hi, e⟩ => hLay.2 i 62 hi (by decide) e.symm) hDg_6231
                  exact Z _ _ _ _ _ _ _ _ dX1_show_277 (by have hgw := (hW6233); have hg1 := hgw.1; have hg2 := hgw.2; have hkm := hB6233.kmax; show 0 + dc6229 + dc6231 + dc6233 ≤ (KX - ksum cp NB) / 8 + 8; omega) (by have hgw := (hW6233); have hg1 := hgw.1; have hg2 := hgw.2; have hkm := hB6233.kmax; show 0 + ds6229 + ds6231 + ds6233 ≤ 2 * (KX - ksum cp NB) + 2048; omega) (Or.inr rfl) ⟨hcd, by rw [show x.toInt.toNat = 1 by omega, if_pos (Nat.le_of_not_lt fun z => absurd (cmpN_neg.mpr z) (by omega))]; rfl, _, by rw [show x.toInt.toNat = 1 by omega]; exact ⟨pp, f, rs, pw, pl, ps, V6233, ⟨ho0_6233, ha1_6233, ha3_6233, ha12_6233, ha13_6233, ha14_6233, ha15_6233, ha16_6233, ha17_6233, ha39_6233⟩, ⟨r1, r3, r12, r13, r14, r15, r16, r17, rp, rp16⟩, Vr_sh hVr hk6233 hj6233 ((ho6233 6 (by decide) (by decide) (by decide)).trans (hxo 6 (by decide) (by decide))) ((ho6233 7 (by decide) (by decide) (by decide)).trans (hxo 7 (by decide) (by decide))) (fun k h1 h2 => (ho6233 k (by omega) (by omega) (by omega)).trans (hxo k (by omega) (by omega))) i11.2.2.2, hSt_6233, hPr_6233, hCn_6233, hSd_6233, hDg_6233, hB6233⟩, hF_6233, hW6233⟩ T6235
              · rw [if_neg c12]
                refine lv_acmp_ne (rx := some (L 29)) (ry := some (L 30)) (tgt := 243) hx hb dX1_show_101 (by decide) (fun _ => ?_) (fun z => absurd (Option.some.inj z) (hLay.1 29 30 (by decide) (by decide) (by decide)))
                have h21 := hin.2.2.2.2.1 (by omega)
                have hxa : (nu (nu V 2 1) 3 1) 2 = shA N M 1 y.toInt.toNat := by show 1 = N 20; exact h21.1.symm
                have hxb : (nu (nu V 2 1) 3 1) 3 = shB N M 1 y.toInt.toNat := by show 1 = N 21; exact h21.2.symm
                have hxo : ∀ n, n ≠ 2 → n ≠ 3 → (nu (nu V 2 1) 3 1) n = V n := fun n h1 h2 => by repeat rw [nu_n (by omega)]
                have hnb : shB N M 1 y.toInt.toNat ≠ 0 := by show N 21 ≠ 0; omega
                have hla : lm (shA N M 1 y.toInt.toNat) ≤ 112 := by show lm (N 20) ≤ 112; omega
                have hlb : lm (shB N M 1 y.toInt.toNat) ≤ 112 := by show lm (N 21) ≤ 112; omega
                refine lv_aload_n hx hb dX1_show_243 rfl (lv_at hl 0 rfl) ?_
                refine hr_get C T6226 ho0_6226 rfl in_X1 31 (by decide) q331 rfl rfl dX1_show_244 ?_
                refine lv_aload_n hx hb dX1_show_247 rfl (lv_at hl 0 rfl) ?_
                refine hr_get C T6226 ho0_6226 rfl in_X1 34 (by decide) q336 rfl rfl dX1_show_248 ?_
                refine lv_aload_n hx hb dX1_show_251 rfl (lv_at hl 0 rfl) ?_
                refine hr_get C T6226 ho0_6226 rfl in_X1 35 (by decide) q337 rfl rfl dX1_show_252 ?_
                have hSt_6224 : Stt E L B h6224 := Stt.kept hF6224 (fun ⟨i, hi, e⟩ => hLay.2 i 30 hi (by decide) e.symm) hSt
                have hSt_6226 : Stt E L B h6226 := Stt.kept hF6226 (fun ⟨i, hi, e⟩ => hLay.2 i 30 hi (by decide) e.symm) hSt_6224
                have hst32x6236 := (hSt_6226).2.2.2.2.2
                refine hg_V C T6226 hl.1 hst32x6236 rfl (m_X8_reduce (i := 2) (j := 3) hB6226 hst32x6236 (fun i hi => hLay.2 i 30 hi (by decide)) (by decide) (by decide) (by decide) (by decide) (by decide) (by rw [hxb]; exact fun z => hnb z.2) (by rw [hxa]; omega) (by rw [hxb]; omega)) q923 q924 q925 q60 q926 kd_X8_reduce rfl rfl ⟨Nat.le_of_ble_eq_true rfl, Nat.le_of_ble_eq_true rfl⟩ (Nat.le_of_ble_eq_true rfl) dX1_show_255 ⟨by have hgw := (Gw.rf (cp := cp)); have hg1 := hgw.1; have hg2 := hgw.2; have hkm := hB6226.kmax; show 0 + ((KX - ksum cp NB) / 8 + 8) ≤ (KX - ksum cp NB) / 8 + 8; omega, by have hgw := (Gw.rf (cp := cp)); have hg1 := hgw.1; have hg2 := hgw.2; have hkm := hB6226.kmax; show 0 + (2 * (KX - ksum cp NB) + 2048) ≤ 2 * (KX - ksum cp NB) + 2048; omega⟩ (fun rv h6237 dc6237 ds6237 H6237 locs6237 hp6237 T6237 => ?_)
                obtain ⟨rfl, V6237, c6237, hB6237, hk6237, hj6237, ho6237, hF6237, hw6237⟩ := hp6237
                have hW6237 := (Gw.rf (cp := cp)).tr hw6237
                have hF_6237 : Fr (CO L B) h h6237 := hF_6226.tr (hF6237.mono (fun _ z => Or.inr (Or.inr (Or.inr (Or.inr (Or.inr z))))))
                refine W.eq (g2 := F0 m 258 ls []) rfl ?_
                rw [hxa, hxb] at hk6237 hj6237
                refine lv_aload_n hx hb dX1_show_258 rfl (lv_at hl 0 rfl) ?_
                have ho0_6237 : h6237 (L 0) = some (.inr (0, [.ref (L 1), .int (nI (N 0)), .ref (L 3), .int (nI (N 1)), .int (nI (N 2)), .int (nI (N 3)), .int (nI (N 4)), .int (nI (N 5)), .int (nI (N 6)), .int (nI (N 7)), .int (nI (N 8)), .ref (L 12), .ref (L 13), .ref (L 14), .ref (L 15), .ref (L 16), .ref (L 17), .int (nI (N 11)), .int (nI (N 15)), .int (nI (N 16)), .int (nI (N 17)), .int (nI (N 18) - 1), .int (nI (N 19)), .ref (L 24), .int (nI pp), .ref (L 26), .ref (L 27), .ref (if N 13 = 1 then L 27 else L 26), .ref (L 29), .ref (L 30), .ref (if N 12 = 1 then L 30 else L 29), .ref (L 32), .ref (B 0), .ref (B 1), .ref (B 2), .ref (B 3), .ref (L 37), .ref (L 38), .ref (L 39), .ref (B 4), .ref (B 5)]), L 0) := hF6237 _ _ ho0_6226 (fun ⟨i, hi, e⟩ => hLay.2 i 0 hi (by decide) e.symm)
                refine hr_get C T6237 ho0_6237 rfl in_X1 34 (by decide) q336 rfl rfl dX1_show_259 ?_
                refine lv_aload_n hx hb dX1_show_262 rfl (lv_at hl 0 rfl) ?_
                refine hr_get C T6237 ho0_6237 rfl in_X1 35 (by decide) q337 rfl rfl dX1_show_263 ?_
                obtain ⟨ca6238, hbo6238⟩ := hB6237.o (i := 2) (by decide)
                refine hc_V C T6237 hl.1 hbo6238 rfl (g_compare (i := 2) (j := 3) hB6237 (by decide) (by decide)) q802 q803 q804 q59 q805 kd_X7_compare rfl rfl ⟨Nat.le_of_ble_eq_true rfl, Nat.le_of_ble_eq_true rfl⟩ (Nat.le_of_ble_eq_true rfl) dX1_show_266 ⟨by have hgw := (hW6237); have hg1 := hgw.1; have hg2 := hgw.2; have hkm := hB6237.kmax; show 0 + dc6237 + 0 ≤ (KX - ksum cp NB) / 8 + 8; omega, by have hgw := (hW6237); have hg1 := hgw.1; have hg2 := hgw.2; have hkm := hB6237.kmax; show 0 + ds6237 + 0 ≤ 2 * (KX - ksum cp NB) + 2048; omega⟩ (fun rv h6239 H6239 locs6239 hp6239 T6239 => ?_)
                obtain ⟨rfl, hq6239⟩ := hp6239
                rw [hq6239] at T6239
                rw [hk6237, hj6237]
                refine zi_if_lt (tgt := 276) (X := (cmpN (shA N M 1 y.toInt.toNat / Nat.gcd (shA N M 1 y.toInt.toNat) (shB N M 1 y.toInt.toNat)) (shB N M 1 y.toInt.toNat / Nat.gcd (shA N M 1 y.toInt.toNat) (shB N M 1 y.toInt.toNat))).toInt) hx hb dX1_show_269 (by decide) rfl (fun c9 => ?_) (fun c9 => ?_)
                · have hcd : cd_show N x y = 0 := by unfold cd_show; rw [if_neg (by omega), if_neg (by omega), if_neg (by omega)]
                  refine lv_iconst (v := nI 0) hx hb dX1_show_276 rfl ?_
                  have ha1_6224 : h6224 (L 1) = some (.inl (E.2.1 0, 8, .inl (f 1)), L 0) := hF6224 _ _ ha1 (fun ⟨i, hi, e⟩ => hLay.2 i 0 hi (by decide) e.symm)
                  have ha1_6226 : h6226 (L 1) = some (.inl (E.2.1 0, 8, .inl (f 1)), L 0) := hF6226 _ _ ha1_6224 (fun ⟨i, hi, e⟩ => hLay.2 i 0 hi (by decide) e.symm)
                  have ha1_6237 : h6237 (L 1) = some (.inl (E.2.1 0, 8, .inl (f 1)), L 0) := hF6237 _ _ ha1_6226 (fun ⟨i, hi, e⟩ => hLay.2 i 0 hi (by decide) e.symm)
                  have ha3_6224 : h6224 (L 3) = some (.inl (E.2.1 0, 64, .inl (f 3)), L 0) := hF6224 _ _ ha3 (fun ⟨i, hi, e⟩ => hLay.2 i 0 hi (by decide) e.symm)
                  have ha3_6226 : h6226 (L 3) = some (.inl (E.2.1 0, 64, .inl (f 3)), L 0) := hF6226 _ _ ha3_6224 (fun ⟨i, hi, e⟩ => hLay.2 i 0 hi (by decide) e.symm)
                  have ha3_6237 : h6237 (L 3) = some (.inl (E.2.1 0, 64, .inl (f 3)), L 0) := hF6237 _ _ ha3_6226 (fun ⟨i, hi, e⟩ => hLay.2 i 0 hi (by decide) e.symm)
                  have ha12_6224 : h6224 (L 12) = some (.inl (E.2.1 1, 20000, .inl (f 12)), L 0) := hF6224 _ _ ha12 (fun ⟨i, hi, e⟩ => hLay.2 i 0 hi (by decide) e.symm)
                  have ha12_6226 : h6226 (L 12) = some (.inl (E.2.1 1, 20000, .inl (f 12)), L 0) := hF6226 _ _ ha12_6224 (fun ⟨i, hi, e⟩ => hLay.2 i 0 hi (by decide) e.symm)
                  have ha12_6237 : h6237 (L 12) = some (.inl (E.2.1 1, 20000, .inl (f 12)), L 0) := hF6237 _ _ ha12_6226 (fun ⟨i, hi, e⟩ => hLay.2 i 0 hi (by decide) e.symm)
                  have ha13_6224 : h6224 (L 13) = some (.inl (E.2.1 1, 20000, .inl (f 13)), L 0) := hF6224 _ _ ha13 (fun ⟨i, hi, e⟩ => hLay.2 i 0 hi (by decide) e.symm)
                  have ha13_6226 : h6226 (L 13) = some (.inl (E.2.1 1, 20000, .inl (f 13)), L 0) := hF6226 _ _ ha13_6224 (fun ⟨i, hi, e⟩ => hLay.2 i 0 hi (by decide) e.symm)
                  have ha13_6237 : h6237 (L 13) = some (.inl (E.2.1 1, 20000, .inl (f 13)), L 0) := hF6237 _ _ ha13_6226 (fun ⟨i, hi, e⟩ => hLay.2 i 0 hi (by decide) e.symm)
                  have ha14_6224 : h6224 (L 14) = some (.inl (E.2.1 2, 20000, .inl (f 14)), L 0) := hF6224 _ _ ha14 (fun ⟨i, hi, e⟩ => hLay.2 i 0 hi (by decide) e.symm)
                  have ha14_6226 : h6226 (L 14) = some (.inl (E.2.1 2, 20000, .inl (f 14)), L 0) := hF6226 _ _ ha14_6224 (fun ⟨i, hi, e⟩ => hLay.2 i 0 hi (by decide) e.symm)
                  have ha14_6237 : h6237 (L 14) = some (.inl (E.2.1 2, 20000, .inl (f 14)), L 0) := hF6237 _ _ ha14_6226 (fun ⟨i, hi, e⟩ => hLay.2 i 0 hi (by decide) e.symm)
                  have ha15_6224 : h6224 (L 15) = some (.inl (E.2.1 3, 8, .inl (f 15)), L 0) := hF6224 _ _ ha15 (fun ⟨i, hi, e⟩ => hLay.2 i 0 hi (by decide) e.symm)
                  have ha15_6226 : h6226 (L 15) = some (.inl (E.2.1 3, 8, .inl (f 15)), L 0) := hF6226 _ _ ha15_6224 (fun ⟨i, hi, e⟩ => hLay.2 i 0 hi (by decide) e.symm)
                  have ha15_6237 : h6237 (L 15) = some (.inl (E.2.1 3, 8, .inl (f 15)), L 0) := hF6237 _ _ ha15_6226 (fun ⟨i, hi, e⟩ => hLay.2 i 0 hi (by decide) e.symm)
                  have ha16_6224 : h6224 (L 16) = some (.inl (E.2.1 0, 8, .inl (f 16)), L 0) := hF6224 _ _ ha16 (fun ⟨i, hi, e⟩ => hLay.2 i 0 hi (by decide) e.symm)
                  have ha16_6226 : h6226 (L 16) = some (.inl (E.2.1 0, 8, .inl (f 16)), L 0) := hF6226 _ _ ha16_6224 (fun ⟨i, hi, e⟩ => hLay.2 i 0 hi (by decide) e.symm)
                  have ha16_6237 : h6237 (L 16) = some (.inl (E.2.1 0, 8, .inl (f 16)), L 0) := hF6237 _ _ ha16_6226 (fun ⟨i, hi, e⟩ => hLay.2 i 0 hi (by decide) e.symm)
                  have ha17_6224 : h6224 (L 17) = some (.inl (E.2.1 0, 8, .inl (f 17)), L 0) := hF6224 _ _ ha17 (fun ⟨i, hi, e⟩ => hLay.2 i 0 hi (by decide) e.symm)
                  have ha17_6226 : h6226 (L 17) = some (.inl (E.2.1 0, 8, .inl (f 17)), L 0) := hF6226 _ _ ha17_6224 (fun ⟨i, hi, e⟩ => hLay.2 i 0 hi (by decide) e.symm)
                  have ha17_6237 : h6237 (L 17) = some (.inl (E.2.1 0, 8, .inl (f 17)), L 0) := hF6237 _ _ ha17_6226 (fun ⟨i, hi, e⟩ => hLay.2 i 0 hi (by decide) e.symm)
                  have ha39_6224 : h6224 (L 39) = some (.inl (E.2.1 3, 961, .inl (f 39)), L 0) := hF6224 _ _ ha39 (fun ⟨i, hi, e⟩ => hLay.2 i 0 hi (by decide) e.symm)
                  have ha39_6226 : h6226 (L 39) = some (.inl (E.2.1 3, 961, .inl (f 39)), L 0) := hF6226 _ _ ha39_6224 (fun ⟨i, hi, e⟩ => hLay.2 i 0 hi (by decide) e.symm)
                  have ha39_6237 : h6237 (L 39) = some (.inl (E.2.1 3, 961, .inl (f 39)), L 0) := hF6237 _ _ ha39_6226 (fun ⟨i, hi, e⟩ => hLay.2 i 0 hi (by decide) e.symm)
                  have hSt_6237 : Stt E L B h6237 := Stt.kept hF6237 (fun ⟨i, hi, e⟩ => hLay.2 i 30 hi (by decide) e.symm) hSt_6226
                  have hPr_6224 : Prs L B pw pl ps h6224 := Prs.kept hF6224 (fun ⟨i, hi, e⟩ => hLay.2 i 24 hi (by decide) e.symm) hPr
                  have hPr_6226 : Prs L B pw pl ps h6226 := Prs.kept hF6226 (fun ⟨i, hi, e⟩ => hLay.2 i 24 hi (by decide) e.symm) hPr_6224
                  have hPr_6237 : Prs L B pw pl ps h6237 := Prs.kept hF6237 (fun ⟨i, hi, e⟩ => hLay.2 i 24 hi (by decide) e.symm) hPr_6226
                  have hCn_6224 : Cns h6224 E L (nI1 (M 8)) (N 10) := Cns.kept hF6224 (fun ⟨i, hi, e⟩ => hLay.2 i 26 hi (by decide) e.symm) hCn
                  have hCn_6226 : Cns h6226 E L (nI1 (M 8)) (N 10) := Cns.kept hF6226 (fun ⟨i, hi, e⟩ => hLay.2 i 26 hi (by decide) e.symm) hCn_6224
                  have hCn_6237 : Cns h6237 E L (nI1 (M 8)) (N 10) := Cns.kept hF6237 (fun ⟨i, hi, e⟩ => hLay.2 i 26 hi (by decide) e.symm) hCn_6226
                  have hSd_6224 : Sds h6224 E L (nI1 (M 6)) (N 9) := Sds.kept hF6224 (fun ⟨i, hi, e⟩ => hLay.2 i 27 hi (by decide) e.symm) hSd
                  have hSd_6226 : Sds h6226 E L (nI1 (M 6)) (N 9) := Sds.kept hF6226 (fun ⟨i, hi, e⟩ => hLay.2 i 27 hi (by decide) e.symm) hSd_6224
                  have hSd_6237 : Sds h6237 E L (nI1 (M 6)) (N 9) := Sds.kept hF6237 (fun ⟨i, hi, e⟩ => hLay.2 i 27 hi (by decide) e.symm) hSd_6226
                  have hDg_6224 : Dgo h6224 E L rs := Dgo.kept hF6224 (fun ⟨i, hi, e⟩ => hLay.2 i 62 hi (by decide) e.symm) hDg
                  have hDg_6226 : Dgo h6226 E L rs := Dgo.kept hF6226 (fun ⟨i, hi, e⟩ => hLay.2 i 62 hi (by decide) e.symm) hDg_6224
                  have hDg_6237 : Dgo h6237 E L rs := Dgo.kept hF6237 (fun ⟨i, hi, e⟩ => hLay.2 i 62 hi (by decide) e.symm) hDg_6226
                  exact Z _ _ _ _ _ _ _ _ dX1_show_277 (by have hgw := (hW6237); have hg1 := hgw.1; have hg2 := hgw.2; have hkm := hB6237.kmax; show 0 + dc6237 ≤ (KX - ksum cp NB) / 8 + 8; omega) (by have hgw := (hW6237); have hg1 := hgw.1; have hg2 := hgw.2; have hkm := hB6237.kmax; show 0 + ds6237 ≤ 2 * (KX - ksum cp NB) + 2048; omega) (Or.inl rfl) ⟨hcd, by rw [show x.toInt.toNat = 1 by omega, if_neg (by have := cmpN_neg.mp c9; omega)]; rfl, _, by rw [show x.toInt.toNat = 1 by omega]; exact ⟨pp, f, rs, pw, pl, ps, V6237, ⟨ho0_6237, ha1_6237, ha3_6237, ha12_6237, ha13_6237, ha14_6237, ha15_6237, ha16_6237, ha17_6237, ha39_6237⟩, ⟨r1, r3, r12, r13, r14, r15, r16, r17, rp, rp16⟩, Vr_sh hVr hk6237 hj6237 ((ho6237 6 (by decide) (by decide) (by decide)).trans (hxo 6 (by decide) (by decide))) ((ho6237 7 (by decide) (by decide) (by decide)).trans (hxo 7 (by decide) (by decide))) (fun k h1 h2 => (ho6237 k (by omega) (by omega) (by omega)).trans (hxo k (by omega) (by omega))) i11.2.2.2, hSt_6237, hPr_6237, hCn_6237, hSd_6237, hDg_6237, hB6237⟩, hF_6237, hW6237⟩ T6239
                · have hcd : cd_show N x y = 0 := by unfold cd_show; rw [if_neg (by omega), if_neg (by omega), if_neg (by omega)]
                  refine lv_iconst (v := nI 1) hx hb dX1_show_272 rfl ?_
                  refine lv_goto (tgt := 277) hx hb dX1_show_273 (by decide) ?_
                  have ha1_6224 : h6224 (L 1) = some (.inl (E.2.1 0, 8, .inl (f 1)), L 0) := hF6224 _ _ ha1 (fun ⟨i, hi, e⟩ => hLay.2 i 0 hi (by decide) e.symm)
                  have ha1_6226 : h6226 (L 1) = some (.inl (E.2.1 0, 8, .inl (f 1)), L 0) := hF6226 _ _ ha1_6224 (fun ⟨i, hi, e⟩ => hLay.2 i 0 hi (by decide) e.symm)
                  have ha1_6237 : h6237 (L 1) = some (.inl (E.2.1 0, 8, .inl (f 1)), L 0) := hF6237 _ _ ha1_6226 (fun ⟨i, hi, e⟩ => hLay.2 i 0 hi (by decide) e.symm)
                  have ha3_6224 : h6224 (L 3) = some (.inl (E.2.1 0, 64, .inl (f 3)), L 0) := hF6224 _ _ ha3 (fun ⟨i, hi, e⟩ => hLay.2 i 0 hi (by decide) e.symm)
                  have ha3_6226 : h6226 (L 3) = some (.inl (E.2.1 0, 64, .inl (f 3)), L 0) := hF6226 _ _ ha3_6224 (fun ⟨i, hi, e⟩ => hLay.2 i 0 hi (by decide) e.symm)
                  have ha3_6237 : h6237 (L 3) = some (.inl (E.2.1 0, 64, .inl (f 3)), L 0) := hF6237 _ _ ha3_6226 (fun ⟨i, hi, e⟩ => hLay.2 i 0 hi (by decide) e.symm)
                  have ha12_6224 : h6224 (L 12) = some (.inl (E.2.1 1, 20000, .inl (f 12)), L 0) := hF6224 _ _ ha12 (fun ⟨i, hi, e⟩ => hLay.2 i 0 hi (by decide) e.symm)
                  have ha12_6226 : h6226 (L 12) = some (.inl (E.2.1 1, 20000, .inl (f 12)), L 0) := hF6226 _ _ ha12_6224 (fun ⟨i, hi, e⟩ => hLay.2 i 0 hi (by decide) e.symm)
                  have ha12_6237 : h6237 (L 12) = some (.inl (E.2.1 1, 20000, .inl (f 12)), L 0) := hF6237 _ _ ha12_6226 (fun ⟨i, hi, e⟩ => hLay.2 i 0 hi (by decide) e.symm)
                  have ha13_6224 : h6224 (L 13) = some (.inl (E.2.1 1, 20000, .inl (f 13)), L 0) := hF6224 _ _ ha13 (fun ⟨i, hi, e⟩ => hLay.2 i 0 hi (by decide) e.symm)
                  have ha13_6226 : h6226 (L 13) = some (.inl (E.2.1 1, 20000, .inl (f 13)), L 0) := hF6226 _ _ ha13_6224 (fun ⟨i, hi, e⟩ => hLay.2 i 0 hi (by decide) e.symm)
                  have ha13_6237 : h6237 (L 13) = some (.inl (E.2.1 1, 20000, .inl (f 13)), L 0) := hF6237 _ _ ha13_6226 (fun ⟨i, hi, e⟩ => hLay.2 i 0 hi (by decide) e.symm)
                  have ha14_6224 : h6224 (L 14) = some (.inl (E.2.1 2, 20000, .inl (f 14)), L 0) := hF6224 _ _ ha14 (fun ⟨i, hi, e⟩ => hLay.2 i 0 hi (by decide) e.symm)
                  have ha14_6226 : h6226 (L 14) = some (.inl (E.2.1 2, 20000, .inl (f 14)), L 0) := hF6226 _ _ ha14_6224 (fun ⟨i, hi, e⟩ => hLay.2 i 0 hi (by decide) e.symm)
                  have ha14_6237 : h6237 (L 14) = some (.inl (E.2.1 2, 20000, .inl (f 14)), L 0) := hF6237 _ _ ha14_6226 (fun ⟨i, hi, e⟩ => hLay.2 i 0 hi (by decide) e.symm)
                  have ha15_6224 : h6224 (L 15) = some (.inl (E.2.1 3, 8, .inl (f 15)), L 0) := hF6224 _ _ ha15 (fun ⟨i, hi, e⟩ => hLay.2 i 0 hi (by decide) e.symm)
                  have ha15_6226 : h6226 (L 15) = some (.inl (E.2.1 3, 8, .inl (f 15)), L 0) := hF6226 _ _ ha15_6224 (fun ⟨i, hi, e⟩ => hLay.2 i 0 hi (by decide) e.symm)
                  have ha15_6237 : h6237 (L 15) = some (.inl (E.2.1 3, 8, .inl (f 15)), L 0) := hF6237 _ _ ha15_6226 (fun ⟨i, hi, e⟩ => hLay.2 i 0 hi (by decide) e.symm)
                  have ha16_6224 : h6224 (L 16) = some (.inl (E.2.1 0, 8, .inl (f 16)), L 0) := hF6224 _ _ ha16 (fun ⟨i, hi, e⟩ => hLay.2 i 0 hi (by decide) e.symm)
                  have ha16_6226 : h6226 (L 16) = some (.inl (E.2.1 0, 8, .inl (f 16)), L 0) := hF6226 _ _ ha16_6224 (fun ⟨i, hi, e⟩ => hLay.2 i 0 hi (by decide) e.symm)
                  have ha16_6237 : h6237 (L 16) = some (.inl (E.2.1 0, 8, .inl (f 16)), L 0) := hF6237 _ _ ha16_6226 (fun ⟨i, hi, e⟩ => hLay.2 i 0 hi (by decide) e.symm)
                  have ha17_6224 : h6224 (L 17) = some (.inl (E.2.1 0, 8, .inl (f 17)), L 0) := hF6224 _ _ ha17 (fun ⟨i, hi, e⟩ => hLay.2 i 0 hi (by decide) e.symm)
                  have ha17_6226 : h6226 (L 17) = some (.inl (E.2.1 0, 8, .inl (f 17)), L 0) := hF6226 _ _ ha17_6224 (fun ⟨i, hi, e⟩ => hLay.2 i 0 hi (by decide) e.symm)
                  have ha17_6237 : h6237 (L 17) = some (.inl (E.2.1 0, 8, .inl (f 17)), L 0) := hF6237 _ _ ha17_6226 (fun ⟨i, hi, e⟩ => hLay.2 i 0 hi (by decide) e.symm)
                  have ha39_6224 : h6224 (L 39) = some (.inl (E.2.1 3, 961, .inl (f 39)), L 0) := hF6224 _ _ ha39 (fun ⟨i, hi, e⟩ => hLay.2 i 0 hi (by decide) e.symm)
                  have ha39_6226 : h6226 (L 39) = some (.inl (E.2.1 3, 961, .inl (f 39)), L 0) := hF6226 _ _ ha39_6224 (fun ⟨i, hi, e⟩ => hLay.2 i 0 hi (by decide) e.symm)
                  have ha39_6237 : h6237 (L 39) = some (.inl (E.2.1 3, 961, .inl (f 39)), L 0) := hF6237 _ _ ha39_6226 (fun ⟨i, hi, e⟩ => hLay.2 i 0 hi (by decide) e.symm)
                  have hSt_6237 : Stt E L B h6237 := Stt.kept hF6237 (fun ⟨i, hi, e⟩ => hLay.2 i 30 hi (by decide) e.symm) hSt_6226
                  have hPr_6224 : Prs L B pw pl ps h6224 := Prs.kept hF6224 (fun ⟨i, hi, e⟩ => hLay.2 i 24 hi (by decide) e.symm) hPr
                  have hPr_6226 : Prs L B pw pl ps h6226 := Prs.kept hF6226 (fun ⟨i, hi, e⟩ => hLay.2 i 24 hi (by decide) e.symm) hPr_6224
                  have hPr_6237 : Prs L B pw pl ps h6237 := Prs.kept hF6237 (fun ⟨i, hi, e⟩ => hLay.2 i 24 hi (by decide) e.symm) hPr_6226
                  have hCn_6224 : Cns h6224 E L (nI1 (M 8)) (N 10) := Cns.kept hF6224 (fun ⟨i, hi, e⟩ => hLay.2 i 26 hi (by decide) e.symm) hCn
                  have hCn_6226 : Cns h6226 E L (nI1 (M 8)) (N 10) := Cns.kept hF6226 (fun ⟨i, hi, e⟩ => hLay.2 i 26 hi (by decide) e.symm) hCn_6224
                  have hCn_6237 : Cns h6237 E L (nI1 (M 8)) (N 10) := Cns.kept hF6237 (fun ⟨i, hi, e⟩ => hLay.2 i 26 hi (by decide) e.symm) hCn_6226
                  have hSd_6224 : Sds h6224 E L (nI1 (M 6)) (N 9) := Sds.kept hF6224 (fun ⟨i, hi, e⟩ => hLay.2 i 27 hi (by decide) e.symm) hSd
                  have hSd_6226 : Sds h6226 E L (nI1 (M 6)) (N 9) := Sds.kept hF6226 (fun ⟨i, hi, e⟩ => hLay.2 i 27 hi (by decide) e.symm) hSd_6224
                  have hSd_6237 : Sds h6237 E L (nI1 (M 6)) (N 9) := Sds.kept hF6237 (fun ⟨i, hi, e⟩ => hLay.2 i 27 hi (by decide) e.symm) hSd_6226
                  have hDg_6224 : Dgo h6224 E L rs := Dgo.kept hF6224 (fun ⟨i, hi, e⟩ => hLay.2 i 62 hi (by decide) e.symm) hDg
                  have hDg_6226 : Dgo h6226 E L rs := Dgo.kept hF6226 (fun ⟨i, hi, e⟩ => hLay.2 i 62 hi (by decide) e.symm) hDg_6224
                  have hDg_6237 : Dgo h6237 E L rs := Dgo.kept hF6237 (fun ⟨i, hi, e⟩ => hLay.2 i 62 hi (by decide) e.symm) hDg_6226
                  exact Z _ _ _ _ _ _ _ _ dX1_show_277 (by have hgw := (hW6237); have hg1 := hgw.1; have hg2 := hgw.2; have hkm := hB6237.kmax; show 0 + dc6237 ≤ (KX - ksum cp NB) / 8 + 8; omega) (by have hgw := (hW6237); have hg1 := hgw.1; have hg2 := hgw.2; have hkm := hB6237.kmax; show 0 + ds6237 ≤ 2 * (KX - ksum cp NB) + 2048; omega) (Or.inr rfl) ⟨hcd, by rw [show x.toInt.toNat = 1 by omega, if_pos (Nat.le_of_not_lt fun z => absurd (cmpN_neg.mpr z) (by omega))]; rfl, _, by rw [show x.toInt.toNat = 1 by omega]; exact ⟨pp, f, rs, pw, pl, ps, V6237, ⟨ho0_6237, ha1_6237, ha3_6237, ha12_6237, ha13_6237, ha14_6237, ha15_6237, ha16_6237, ha17_6237, ha39_6237⟩, ⟨r1, r3, r12, r13, r14, r15, r16, r17, rp, rp16⟩, Vr_sh hVr hk6237 hj6237 ((ho6237 6 (by decide) (by decide) (by decide)).trans (hxo 6 (by decide) (by decide))) ((ho6237 7 (by decide) (by decide) (by decide)).trans (hxo 7 (by decide) (by decide))) (fun k h1 h2 => (ho6237 k (by omega) (by omega) (by omega)).trans (hxo k (by omega) (by omega))) i11.2.2.2, hSt_6237, hPr_6237, hCn_6237, hSd_6237, hDg_6237, hB6237⟩, hF_6237, hW6237⟩ T6239
          · refine lv_aload_n hx hb dX1_show_41 rfl (lv_at hl 0 rfl) ?_
            refine lv_iload_n hx hb dX1_show_42 rfl (lv_at hl 2 rfl) ?_
            by_cases cP : N 11 ≠ 0 ∧ 0 ≤ (y).toInt ∧ (y).toInt < pp
            · have cS := cP.1
              have rpp := rp cS
              have cP1 := cP.2.1
              have cP2 := cP.2.2
              obtain ⟨v, hv, rfl⟩ := nat_of (x := y) cP1
              have ev := nI_toInt hv
              have tv : (nI v).toInt.toNat = v := by rw [ev]; rfl
              refine hc_V C T6203 hl.1 ho0 rfl (m_X1_pairIn cS (show v < pp by omega) rp16 i11.1 ho0 hSt) q869 q871 qs13 q53 q872 kd_X1_pairIn rfl rfl ⟨Nat.le_of_ble_eq_true rfl, Nat.le_of_ble_eq_true rfl⟩ (Nat.le_of_ble_eq_true rfl) dX1_show_43 ⟨by show 0 + 0 ≤ (KX - ksum cp NB) / 8 + 8; omega, by show 0 + 0 ≤ 2 * (KX - ksum cp NB) + 2048; omega⟩ (fun rv h6212 H6212 locs6212 hp6212 T6212 => ?_)
              obtain ⟨rfl, hq6212⟩ := hp6212
              rw [hq6212] at T6212
              refine W.eq (g2 := F0 m 46 ls [.ref (L (70 + v))]) rfl ?_
              have hpr6213 := hPr v (by omega)
              have hin := inz cS
              have hp4 := hin.2.2.2.1 v (by omega)
              have hvv := hVr.2.2.2 cS v (by omega)
              refine lv_astore_n (lv' := [(3, .ref (L (70 + v))), (0, .ref (L 0)), (1, .int x), (2, .int (nI v))]) hx hb dX1_show_46 rfl hl (by decide) rfl (fun ls6214 hl6214 => ?_)
              refine lv_aload_n hx hb dX1_show_47 rfl (lv_at hl6214 1 rfl) ?_
              refine hr_get C T6212 ho0 rfl in_X1 34 (by decide) q336 rfl rfl dX1_show_48 ?_
              refine lv_aload_n hx hb dX1_show_51 rfl (lv_at hl6214 0 rfl) ?_
              refine hr_getN C T6212 hpr6213 rfl in_X9 3 (by decide) 11 rfl rfl rfl dX1_show_52 ?_
              obtain ⟨ca6215, hbo6215⟩ := hB.o (i := 2) (by decide)
              refine hg_V C T6212 hl6214.1 hbo6215 rfl (g_copy (i := 2) (j := 19 + 2 * v) hB (by decide) (show 19 + 2 * v < 1973 by omega) (by omega) (by rw [hvv.1]; have := pAB_lm (N := N) (k := v) iv (fun i hi => Nat.le_trans (ital i hi) i15.1) (by omega) (by omega); omega)) q800 q783 q784 q59 q785 kd_X7_copy rfl rfl ⟨Nat.le_of_ble_eq_true rfl, Nat.le_of_ble_eq_true rfl⟩ (Nat.le_of_ble_eq_true rfl) dX1_show_55 ⟨by have hgw := (Gw.rf (cp := cp)); have hg1 := hgw.1; have hg2 := hgw.2; have hkm := hB.kmax; have := gc_le (cp 2) (lm (V (19 + 2 * v))); have := gs_le ((hB.1 2 (by decide)).cap.2.2) (show lm (V (19 + 2 * v)) ≤ 128 from (by rw [hvv.1]; have := pAB_lm (N := N) (k := v) iv (fun i hi => Nat.le_trans (ital i hi) i15.1) (by omega) (by omega); omega)); show 0 + (gc (cp 2) (lm (V (19 + 2 * v)))) ≤ (KX - ksum cp NB) / 8 + 8; omega, by have hgw := (Gw.rf (cp := cp)); have hg1 := hgw.1; have hg2 := hgw.2; have hkm := hB.kmax; have := gc_le (cp 2) (lm (V (19 + 2 * v))); have := gs_le ((hB.1 2 (by decide)).cap.2.2) (show lm (V (19 + 2 * v)) ≤ 128 from (by rw [hvv.1]; have := pAB_lm (N := N) (k := v) iv (fun i hi => Nat.le_trans (ital i hi) i15.1) (by omega) (by omega); omega)); show 0 + (gs (cp 2) (lm (V (19 + 2 * v)))) ≤ 2 * (KX - ksum cp NB) + 2048; omega⟩ (fun rv h6216 dc6216 ds6216 H6216 locs6216 hp6216 T6216 => ?_)
              obtain ⟨rfl, c6216, hB6216, hF6216, hw6216⟩ := hp6216
              have hW6216 := (Gw.rf (cp := cp)).tr hw6216
              have hF_6216 : Fr (CO L B) h h6216 := hF.tr (hF6216.mono (fun _ z => Or.inr (Or.inr (Or.inr (Or.inr (Or.inr z))))))
              refine W.eq (g2 := F0 m 58 ls6214 []) rfl ?_
              refine lv_aload_n hx hb dX1_show_58 rfl (lv_at hl6214 1 rfl) ?_
              have ho0_6216 : h6216 (L 0) = some (.inr (0, [.ref (L 1), .int (nI (N 0)), .ref (L 3), .int (nI (N 1)), .int (nI (N 2)), .int (nI (N 3)), .int (nI (N 4)), .int (nI (N 5)), .int (nI (N 6)), .int (nI (N 7)), .int (nI (N 8)), .ref (L 12), .ref (L 13), .ref (L 14), .ref (L 15), .ref (L 16), .ref (L 17), .int (nI (N 11)), .int (nI (N 15)), .int (nI (N 16)), .int (nI (N 17)), .int (nI (N 18) - 1), .int (nI (N 19)), .ref (L 24), .int (nI pp), .ref (L 26), .ref (L 27), .ref (if N 13 = 1 then L 27 else L 26), .ref (L 29), .ref (L 30), .ref (if N 12 = 1 then L 30 else L 29), .ref (L 32), .ref (B 0), .ref (B 1), .ref (B 2), .ref (B 3), .ref (L 37), .ref (L 38), .ref (L 39), .ref (B 4), .ref (B 5)]), L 0) := hF6216 _ _ ho0 (fun ⟨i, hi, e⟩ => hLay.2 i 0 hi (by decide) e.symm)
              refine hr_get C T6216 ho0_6216 rfl in_X1 35 (by decide) q337 rfl rfl dX1_show_59 ?_
              refine lv_aload_n hx hb dX1_show_62 rfl (lv_at hl6214 0 rfl) ?_
              have hpr6213_6216 : h6216 (L (70 + v)) = some (.inr (8, [.int (pw v), .int (pl v), .int (ps v), .ref (B (19 + 2 * v)), .ref (B (20 + 2 * v))]), L 24) := hF6216 _ _ hpr6213 (fun ⟨i, hi, e⟩ => hLay.2 i 24 hi (by decide) e.symm)
              refine hr_getN C T6216 hpr6213_6216 rfl in_X9 4 (by decide) 12 rfl rfl rfl dX1_show_63 ?_
              obtain ⟨ca6217, hbo6217⟩ := hB6216.o (i := 3) (by decide)
              refine hg_V C T6216 hl6214.1 hbo6217 rfl (g_copy (i := 3) (j := 20 + 2 * v) hB6216 (by decide) (show 20 + 2 * v < 1973 by omega) (by omega) (by rw [nu_n (by omega), hvv.2.1]; have := pAB_lm (N := N) (k := v) iv (fun i hi => Nat.le_trans (ital i hi) i15.1) (by omega) (by omega); omega)) q800 q783 q784 q59 q785 kd_X7_copy rfl rfl ⟨Nat.le_of_ble_eq_true rfl, Nat.le_of_ble_eq_true rfl⟩ (Nat.le_of_ble_eq_true rfl) dX1_show_66 ⟨by have hgw := (hW6216); have hg1 := hgw.1; have hg2 := hgw.2; have hkm := hB6216.kmax; have := gc_le ((nu cp 2 c6216) 3) (lm ((nu V 2 (V (19 + 2 * v))) (20 + 2 * v))); have := gs_le ((hB6216.1 3 (by decide)).cap.2.2) (show lm ((nu V 2 (V (19 + 2 * v))) (20 + 2 * v)) ≤ 128 from (by rw [nu_n (by omega), hvv.2.1]; have := pAB_lm (N := N) (k := v) iv (fun i hi => Nat.le_trans (ital i hi) i15.1) (by omega) (by omega); omega)); show 0 + dc6216 + (gc ((nu cp 2 c6216) 3) (lm ((nu V 2 (V (19 + 2 * v))) (20 + 2 * v)))) ≤ (KX - ksum cp NB) / 8 + 8; omega, by have hgw := (hW6216); have hg1 := hgw.1; have hg2 := hgw.2; have hkm := hB6216.kmax; have := gc_le ((nu cp 2 c6216) 3) (lm ((nu V 2 (V (19 + 2 * v))) (20 + 2 * v))); have := gs_le ((hB6216.1 3 (by decide)).cap.2.2) (show lm ((nu V 2 (V (19 + 2 * v))) (20 + 2 * v)) ≤ 128 from (by rw [nu_n (by omega), hvv.2.1]; have := pAB_lm (N := N) (k := v) iv (fun i hi => Nat.le_trans (ital i hi) i15.1) (by omega) (by omega); omega)); show 0 + ds6216 + (gs ((nu cp 2 c6216) 3) (lm ((nu V 2 (V (19 + 2 * v))) (20 + 2 * v)))) ≤ 2 * (KX - ksum cp NB) + 2048; omega⟩ (fun rv h6218 dc6218 ds6218 H6218 locs6218 hp6218 T6218 => ?_)
              obtain ⟨rfl, c6218, hB6218, hF6218, hw6218⟩ := hp6218
              have hW6218 := (hW6216).tr hw6218
              have hF_6218 : Fr (CO L B) h h6218 := hF_6216.tr (hF6218.mono (fun _ z => Or.inr (Or.inr (Or.inr (Or.inr (Or.inr z))))))
              refine W.eq (g2 := F0 m 69 ls6214 []) rfl ?_
              have hxa : (nu (nu V 2 (V (19 + 2 * v))) 3 ((nu V 2 (V (19 + 2 * v))) (20 + 2 * v))) 2 = shA N M 0 v := by rw [nu_n (by decide), nu_s]; exact hvv.1
              have hxb : (nu (nu V 2 (V (19 + 2 * v))) 3 ((nu V 2 (V (19 + 2 * v))) (20 + 2 * v))) 3 = shB N M 0 v := by rw [nu_s, nu_n (by omega)]; exact hvv.2.1
              have hxo : ∀ n, n ≠ 2 → n ≠ 3 → (nu (nu V 2 (V (19 + 2 * v))) 3 ((nu V 2 (V (19 + 2 * v))) (20 + 2 * v))) n = V n := fun n h1 h2 => by repeat rw [nu_n (by omega)]
              have hnb : shB N M 0 v ≠ 0 := pB_pos hp4.2.2
              have hla : lm (shA N M 0 v) ≤ 112 := by have h3 := pAB_lm (N := N) (k := v) iv (fun i hi => Nat.le_trans (ital i hi) i15.1) (by omega) (by omega); show lm (pA N M v) ≤ 112; omega
              have hlb : lm (shB N M 0 v) ≤ 112 := by have h3 := pAB_lm (N := N) (k := v) iv (fun i hi => Nat.le_trans (ital i hi) i15.1) (by omega) (by omega); show lm (pB N M v) ≤ 112; omega
              refine lv_goto (tgt := 243) hx hb dX1_show_69 (by decide) ?_
              refine lv_aload_n hx hb dX1_show_243 rfl (lv_at hl6214 1 rfl) ?_
              have ho0_6218 : h6218 (L 0) = some (.inr (0, [.ref (L 1), .int (nI (N 0)), .ref (L 3), .int (nI (N 1)), .int (nI (N 2)), .int (nI (N 3)), .int (nI (N 4)), .int (nI (N 5)), .int (nI (N 6)), .int (nI (N 7)), .int (nI (N 8)), .ref (L 12), .ref (L 13), .ref (L 14), .ref (L 15), .ref (L 16), .ref (L 17), .int (nI (N 11)), .int (nI (N 15)), .int (nI (N 16)), .int (nI (N 17)), .int (nI (N 18) - 1), .int (nI (N 19)), .ref (L 24), .int (nI pp), .ref (L 26), .ref (L 27), .ref (if N 13 = 1 then L 27 else L 26), .ref (L 29), .ref (L 30), .ref (if N 12 = 1 then L 30 else L 29), .ref (L 32), .ref (B 0), .ref (B 1), .ref (B 2), .ref (B 3), .ref (L 37), .ref (L 38), .ref (L 39), .ref (B 4), .ref (B 5)]), L 0) := hF6218 _ _ ho0_6216 (fun ⟨i, hi, e⟩ => hLay.2 i 0 hi (by decide) e.symm)
              refine hr_get C T6218 ho0_6218 rfl in_X1 31 (by decide) q331 rfl rfl dX1_show_244 ?_
              refine lv_aload_n hx hb dX1_show_247 rfl (lv_at hl6214 1 rfl) ?_
              refine hr_get C T6218 ho0_6218 rfl in_X1 34 (by decide) q336 rfl rfl dX1_show_248 ?_
              refine lv_aload_n hx hb dX1_show_251 rfl (lv_at hl6214 1 rfl) ?_
              refine hr_get C T6218 ho0_6218 rfl in_X1 35 (by decide) q337 rfl rfl dX1_show_252 ?_
              have hSt_6216 : Stt E L B h6216 := Stt.kept hF6216 (fun ⟨i, hi, e⟩ => hLay.2 i 30 hi (by decide) e.symm) hSt
              have hSt_6218 : Stt E L B h6218 := Stt.kept hF6218 (fun ⟨i, hi, e⟩ => hLay.2 i 30 hi (by decide) e.symm) hSt_6216
              have hst32x6219 := (hSt_6218).2.2.2.2.2
              refine hg_V C T6218 hl6214.1 hst32x6219 rfl (m_X8_reduce (i := 2) (j := 3) hB6218 hst32x6219 (fun i hi => hLay.2 i 30 hi (by decide)) (by decide) (by decide) (by decide) (by decide) (by decide) (by rw [hxb]; exact fun z => hnb z.2) (by rw [hxa]; omega) (by rw [hxb]; omega)) q923 q924 q925 q60 q926 kd_X8_reduce rfl rfl ⟨Nat.le_of_ble_eq_true rfl, Nat.le_of_ble_eq_true rfl⟩ (Nat.le_of_ble_eq_true rfl) dX1_show_255 ⟨by have hgw := (hW6218); have hg1 := hgw.1; have hg2 := hgw.2; have hkm := hB6218.kmax; show 0 + dc6216 + dc6218 + ((KX - ksum (nu (nu cp 2 c6216) 3 c6218) NB) / 8 + 8) ≤ (KX - ksum cp NB) / 8 + 8; omega, by have hgw := (hW6218); have hg1 := hgw.1; have hg2 := hgw.2; have hkm := hB6218.kmax; show 0 + ds6216 + ds6218 + (2 * (KX - ksum (nu (nu cp 2 c6216) 3 c6218) NB) + 2048) ≤ 2 * (KX - ksum cp NB) + 2048; omega⟩ (fun rv h6220 dc6220 ds6220 H6220 locs6220 hp6220 T6220 => ?_)
              obtain ⟨rfl, V6220, c6220, hB6220, hk6220, hj6220, ho6220, hF6220, hw6220⟩ := hp6220
              have hW6220 := (hW6218).tr hw6220
              have hF_6220 : Fr (CO L B) h h6220 := hF_6218.tr (hF6220.mono (fun _ z => Or.inr (Or.inr (Or.inr (Or.inr (Or.inr z))))))
              refine W.eq (g2 := F0 m 258 ls6214 []) rfl ?_
              rw [hxa, hxb] at hk6220 hj6220
              refine lv_aload_n hx hb dX1_show_258 rfl (lv_at hl6214 1 rfl) ?_
              have ho0_6220 : h6220 (L 0) = some (.inr (0, [.ref (L 1), .int (nI (N 0)), .ref (L 3), .int (nI (N 1)), .int (nI (N 2)), .int (nI (N 3)), .int (nI (N 4)), .int (nI (N 5)), .int (nI (N 6)), .int (nI (N 7)), .int (nI (N 8)), .ref (L 12), .ref (L 13), .ref (L 14), .ref (L 15), .ref (L 16), .ref (L 17), .int (nI (N 11)), .int (nI (N 15)), .int (nI (N 16)), .int (nI (N 17)), .int (nI (N 18) - 1), .int (nI (N 19)), .ref (L 24), .int (nI pp), .ref (L 26), .ref (L 27), .ref (if N 13 = 1 then L 27 else L 26), .ref (L 29), .ref (L 30), .ref (if N 12 = 1 then L 30 else L 29), .ref (L 32), .ref (B 0), .ref (B 1), .ref (B 2), .ref (B 3), .ref (L 37), .ref (L 38), .ref (L 39), .ref (B 4), .ref (B 5)]), L 0) := hF6220 _ _ ho0_6218 (fun ⟨i, hi, e⟩ => hLay.2 i 0 hi (by decide) e.symm)
              refine hr_get C T6220 ho0_6220 rfl in_X1 34 (by decide) q336 rfl rfl dX1_show_259 ?_
              refine lv_aload_n hx hb dX1_show_262 rfl (lv_at hl6214 1 rfl) ?_
              refine hr_get C T6220 ho0_6220 rfl in_X1 35 (by decide) q337 rfl rfl dX1_show_263 ?_
              obtain ⟨ca6221, hbo6221⟩ := hB6220.o (i := 2) (by decide)
              refine hc_V C T6220 hl6214.1 hbo6221 rfl (g_compare (i := 2) (j := 3) hB6220 (by decide) (by decide)) q802 q803 q804 q59 q805 kd_X7_compare rfl rfl ⟨Nat.le_of_ble_eq_true rfl, Nat.le_of_ble_eq_true rfl⟩ (Nat.le_of_ble_eq_true rfl) dX1_show_266 ⟨by have hgw := (hW6220); have hg1 := hgw.1; have hg2 := hgw.2; have hkm := hB6220.kmax; show 0 + dc6216 + dc6218 + dc6220 + 0 ≤ (KX - ksum cp NB) / 8 + 8; omega, by have hgw := (hW6220); have hg1 := hgw.1; have hg2 := hgw.2; have hkm := hB6220.kmax; show 0 + ds6216 + ds6218 + ds6220 + 0 ≤ 2 * (KX - ksum cp NB) + 2048; omega⟩ (fun rv h6222 H6222 locs6222 hp6222 T6222 => ?_)
              obtain ⟨rfl, hq6222⟩ := hp6222
              rw [hq6222] at T6222
              rw [hk6220, hj6220]
              refine zi_if_lt (tgt := 276) (X := (cmpN (shA N M 0 v / Nat.gcd (shA N M 0 v) (shB N M 0 v)) (shB N M 0 v / Nat.gcd (shA N M 0 v) (shB N M 0 v))).toInt) hx hb dX1_show_269 (by decide) rfl (fun c9 => ?_) (fun c9 => ?_)
              · have hcd : cd_show N x (nI v) = 0 := by unfold cd_show; rw [if_neg (by omega), if_neg (by omega), if_neg (by omega)]
                refine lv_iconst (v := nI 0) hx hb dX1_show_276 rfl ?_
                have ha1_6216 : h6216 (L 1) = some (.inl (E.2.1 0, 8, .inl (f 1)), L 0) := hF6216 _ _ ha1 (fun ⟨i, hi, e⟩ => hLay.2 i 0 hi (by decide) e.symm)
                have ha1_6218 : h6218 (L 1) = some (.inl (E.2.1 0, 8, .inl (f 1)), L 0) := hF6218 _ _ ha1_6216 (fun ⟨i, hi, e⟩ => hLay.2 i 0 hi (by decide) e.symm)
                have ha1_6220 : h6220 (L 1) = some (.inl (E.2.1 0, 8, .inl (f 1)), L 0) := hF6220 _ _ ha1_6218 (fun ⟨i, hi, e⟩ => hLay.2 i 0 hi (by decide) e.symm)
                have ha3_6216 : h6216 (L 3) = some (.inl (E.2.1 0, 64, .inl (f 3)), L 0) := hF6216 _ _ ha3 (fun ⟨i, hi, e⟩ => hLay.2 i 0 hi (by decide) e.symm)
                have ha3_6218 : h6218 (L 3) = some (.inl (E.2.1 0, 64, .inl (f 3)), L 0) := hF6218 _ _ ha3_6216 (fun ⟨i, hi, e⟩ => hLay.2 i 0 hi (by decide) e.symm)
                have ha3_6220 : h6220 (L 3) = some (.inl (E.2.1 0, 64, .inl (f 3)), L 0) := hF6220 _ _ ha3_6218 (fun ⟨i, hi, e⟩ => hLay.2 i 0 hi (by decide) e.symm)
                have ha12_6216 : h6216 (L 12) = some (.inl (E.2.1 1, 20000, .inl (f 12)), L 0) := hF6216 _ _ ha12 (fun ⟨i, hi, e⟩ => hLay.2 i 0 hi (by decide) e.symm)
                have ha12_6218 : h6218 (L 12) = some (.inl (E.2.1 1, 20000, .inl (f 12)), L 0) := hF6218 _ _ ha12_6216 (fun ⟨i, hi, e⟩ => hLay.2 i 0 hi (by decide) e.symm)
                have ha12_6220 : h6220 (L 12) = some (.inl (E.2.1 1, 20000, .inl (f 12)), L 0) := hF6220 _ _ ha12_6218 (fun ⟨i, hi, e⟩ => hLay.2 i 0 hi (by decide) e.symm)
                have ha13_6216 : h6216 (L 13) = some (.inl (E.2.1 1, 20000, .inl (f 13)), L 0) := hF6216 _ _ ha13 (fun ⟨i, hi, e⟩ => hLay.2 i 0 hi (by decide) e.symm)
                have ha13_6218 : h6218 (L 13) = some (.inl (E.2.1 1, 20000, .inl (f 13)), L 0) := hF6218 _ _ ha13_6216 (fun ⟨i, hi, e⟩ => hLay.2 i 0 hi (by decide) e.symm)
                have ha13_6220 : h6220 (L 13) = some (.inl (E.2.1 1, 20000, .inl (f 13)), L 0) := hF6220 _ _ ha13_6218 (fun ⟨i, hi, e⟩ => hLay.2 i 0 hi (by decide) e.symm)
                have ha14_6216 : h6216 (L 14) = some (.inl (E.2.1 2, 20000, .inl (f 14)), L 0) := hF6216 _ _ ha14 (fun ⟨i, hi, e⟩ => hLay.2 i 0 hi (by decide) e.symm)
                have ha14_6218 : h6218 (L 14) = some (.inl (E.2.1 2, 20000, .inl (f 14)), L 0) := hF6218 _ _ ha14_6216 (fun ⟨i, hi, e⟩ => hLay.2 i 0 hi (by decide) e.symm)
                have ha14_6220 : h6220 (L 14) = some (.inl (E.2.1 2, 20000, .inl (f 14)), L 0) := hF6220 _ _ ha14_6218 (fun ⟨i, hi, e⟩ => hLay.2 i 0 hi (by decide) e.symm)
                have ha15_6216 : h6216 (L 15) = some (.inl (E.2.1 3, 8, .inl (f 15)), L 0) := hF6216 _ _ ha15 (fun ⟨i, hi, e⟩ => hLay.2 i 0 hi (by decide) e.symm)
                have ha15_6218 : h6218 (L 15) = some (.inl (E.2.1 3, 8, .inl (f 15)), L 0) := hF6218 _ _ ha15_6216 (fun ⟨i, hi, e⟩ => hLay.2 i 0 hi (by decide) e.symm)
                have ha15_6220 : h6220 (L 15) = some (.inl (E.2.1 3, 8, .inl (f 15)), L 0) := hF6220 _ _ ha15_6218 (fun ⟨i, hi, e⟩ => hLay.2 i 0 hi (by decide) e.symm)
                have ha16_6216 : h6216 (L 16) = some (.inl (E.2.1 0, 8, .inl (f 16)), L 0) := hF6216 _ _ ha16 (fun ⟨i, hi, e⟩ => hLay.2 i 0 hi (by decide) e.symm)
                have ha16_6218 : h6218 (L 16) = some (.inl (E.2.1 0, 8, .inl (f 16)), L 0) := hF6218 _ _ ha16_6216 (fun ⟨i, hi, e⟩ => hLay.2 i 0 hi (by decide) e.symm)
                have ha16_6220 : h6220 (L 16) = some (.inl (E.2.1 0, 8, .inl (f 16)), L 0) := hF6220 _ _ ha16_6218 (fun ⟨i, hi, e⟩ => hLay.2 i 0 hi (by decide) e.symm)
                have ha17_6216 : h6216 (L 17) = some (.inl (E.2.1 0, 8, .inl (f 17)), L 0) := hF6216 _ _ ha17 (fun ⟨i, hi, e⟩ => hLay.2 i 0 hi (by decide) e.symm)
                have ha17_6218 : h6218 (L 17) = some (.inl (E.2.1 0, 8, .inl (f 17)), L 0) := hF6218 _ _ ha17_6216 (fun ⟨i, hi, e⟩ => hLay.2 i 0 hi (by decide) e.symm)
                have ha17_6220 : h6220 (L 17) = some (.inl (E.2.1 0, 8, .inl (f 17)), L 0) := hF6220 _ _ ha17_6218 (fun ⟨i, hi, e⟩ => hLay.2 i 0 hi (by decide) e.symm)
                have ha39_6216 : h6216 (L 39) = some (.inl (E.2.1 3, 961, .inl (f 39)), L 0) := hF6216 _ _ ha39 (fun ⟨i, hi, e⟩ => hLay.2 i 0 hi (by decide) e.symm)
                have ha39_6218 : h6218 (L 39) = some (.inl (E.2.1 3, 961, .inl (f 39)), L 0) := hF6218 _ _ ha39_6216 (fun ⟨i, hi, e⟩ => hLay.2 i 0 hi (by decide) e.symm)
                have ha39_6220 : h6220 (L 39) = some (.inl (E.2.1 3, 961, .inl (f 39)), L 0) := hF6220 _ _ ha39_6218 (fun ⟨i, hi, e⟩ => hLay.2 i 0 hi (by decide) e.symm)
                have hSt_6220 : Stt E L B h6220 := Stt.kept hF6220 (fun ⟨i, hi, e⟩ => hLay.2 i 30 hi (by decide) e.symm) hSt_6218
                have hPr_6216 : Prs L B pw pl ps h6216 := Prs.kept hF6216 (fun ⟨i, hi, e⟩ => hLay.2 i 24 hi (by decide) e.symm) hPr
                have hPr_6218 : Prs L B pw pl ps h6218 := Prs.kept hF6218 (fun ⟨i, hi, e⟩ => hLay.2 i 24 hi (by decide) e.symm) hPr_6216
                have hPr_6220 : Prs L B pw pl ps h6220 := Prs.kept hF6220 (fun ⟨i, hi, e⟩ => hLay.2 i 24 hi (by decide) e.symm) hPr_6218
                have hCn_6216 : Cns h6216 E L (nI1 (M 8)) (N 10) := Cns.kept hF6216 (fun ⟨i, hi, e⟩ => hLay.2 i 26 hi (by decide) e.symm) hCn
                have hCn_6218 : Cns h6218 E L (nI1 (M 8)) (N 10) := Cns.kept hF6218 (fun ⟨i, hi, e⟩ => hLay.2 i 26 hi (by decide) e.symm) hCn_6216
                have hCn_6220 : Cns h6220 E L (nI1 (M 8)) (N 10) := Cns.kept hF6220 (fun ⟨i, hi, e⟩ => hLay.2 i 26 hi (by decide) e.symm) hCn_6218
                have hSd_6216 : Sds h6216 E L (nI1 (M 6)) (N 9) := Sds.kept hF6216 (fun ⟨i, hi, e⟩ => hLay.2 i 27 hi (by decide) e.symm) hSd
                have hSd_6218 : Sds h6218 E L (nI1 (M 6)) (N 9) := Sds.kept hF6218 (fun ⟨i, hi, e⟩ => hLay.2 i 27 hi (by decide) e.symm) hSd_6216
                have hSd_6220 : Sds h6220 E L (nI1 (M 6)) (N 9) := Sds.kept hF6220 (fun ⟨i, hi, e⟩ => hLay.2 i 27 hi (by decide) e.symm) hSd_6218
                have hDg_6216 : Dgo h6216 E L rs := Dgo.kept hF6216 (fun ⟨i, hi, e⟩ => hLay.2 i 62 hi (by decide) e.symm) hDg
                have hDg_6218 : Dgo h6218 E L rs := Dgo.kept hF6218 (fun ⟨i, hi, e⟩ => hLay.2 i 62 hi (by decide) e.symm) hDg_6216
                have hDg_6220 : Dgo h6220 E L rs := Dgo.kept hF6220 (fun ⟨i, hi, e⟩ => hLay.2 i 62 hi (by decide) e.symm) hDg_6218
                exact Z _ _ _ _ _ _ _ _ dX1_show_277 (by have hgw := (hW6220); have hg1 := hgw.1; have hg2 := hgw.2; have hkm := hB6220.kmax; show 0 + dc6216 + dc6218 + dc6220 ≤ (KX - ksum cp NB) / 8 + 8; omega) (by have hgw := (hW6220); have hg1 := hgw.1; have hg2 := hgw.2; have hkm := hB6220.kmax; show 0 + ds6216 + ds6218 + ds6220 ≤ 2 * (KX - ksum cp NB) + 2048; omega) (Or.inl rfl) ⟨hcd, by rw [show x.toInt.toNat = 0 by omega, tv, if_neg (by have := cmpN_neg.mp c9; omega)]; rfl, _, by rw [show x.toInt.toNat = 0 by omega, tv]; exact ⟨pp, f, rs, pw, pl, ps, V6220, ⟨ho0_6220, ha1_6220, ha3_6220, ha12_6220, ha13_6220, ha14_6220, ha15_6220, ha16_6220, ha17_6220, ha39_6220⟩, ⟨r1, r3, r12, r13, r14, r15, r16, r17, rp, rp16⟩, Vr_sh hVr hk6220 hj6220 ((ho6220 6 (by decide) (by decide) (by decide)).trans (hxo 6 (by decide) (by decide))) ((ho6220 7 (by decide) (by decide) (by decide)).trans (hxo 7 (by decide) (by decide))) (fun k h1 h2 => (ho6220 k (by omega) (by omega) (by omega)).trans (hxo k (by omega) (by omega))) i11.2.2.2, hSt_6220, hPr_6220, hCn_6220, hSd_6220, hDg_6220, hB6220⟩, hF_6220, hW6220⟩ T6222
              · have hcd : cd_show N x (nI v) = 0 := by unfold cd_show; rw [if_neg (by omega), if_neg (by omega), if_neg (by omega)]
                refine lv_iconst (v := nI 1) hx hb dX1_show_272 rfl ?_
                refine lv_goto (tgt := 277) hx hb dX1_show_273 (by decide) ?_
                have ha1_6216 : h6216 (L 1) = some (.inl (E.2.1 0, 8, .inl (f 1)), L 0) := hF6216 _ _ ha1 (fun ⟨i, hi, e⟩ => hLay.2 i 0 hi (by decide) e.symm)
                have ha1_6218 : h6218 (L 1) = some (.inl (E.2.1 0, 8, .inl (f 1)), L 0) := hF6218 _ _ ha1_6216 (fun ⟨i, hi, e⟩ => hLay.2 i 0 hi (by decide) e.symm)
                have ha1_6220 : h6220 (L 1) = some (.inl (E.2.1 0, 8, .inl (f 1)), L 0) := hF6220 _ _ ha1_6218 (fun ⟨i, hi, e⟩ => hLay.2 i 0 hi (by decide) e.symm)
                have ha3_6216 : h6216 (L 3) = some (.inl (E.2.1 0, 64, .inl (f 3)), L 0) := hF6216 _ _ ha3 (fun ⟨i, hi, e⟩ => hLay.2 i 0 hi (by decide) e.symm)
                have ha3_6218 : h6218 (L 3) = some (.inl (E.2.1 0, 64, .inl (f 3)), L 0) := hF6218 _ _ ha3_6216 (fun ⟨i, hi, e⟩ => hLay.2 i 0 hi (by decide) e.symm)
                have ha3_6220 : h6220 (L 3) = some (.inl (E.2.1 0, 64, .inl (f 3)), L 0) := hF6220 _ _ ha3_6218 (fun ⟨i, hi, e⟩ => hLay.2 i 0 hi (by decide) e.symm)
                have ha12_6216 : h6216 (L 12) = some (.inl (E.2.1 1, 20000, .inl (f 12)), L 0) := hF6216 _ _ ha12 (fun ⟨i, hi, e⟩ => hLay.2 i 0 hi (by decide) e.symm)
                have ha12_6218 : h6218 (L 12) = some (.inl (E.2.1 1, 20000, .inl (f 12)), L 0) := hF6218 _ _ ha12_6216 (fun ⟨i, hi, e⟩ => hLay.2 i 0 hi (by decide) e.symm)
                have ha12_6220 : h6220 (L 12) = some (.inl (E.2.1 1, 20000, .inl (f 12)), L 0) := hF6220 _ _ ha12_6218 (fun ⟨i, hi, e⟩ => hLay.2 i 0 hi (by decide) e.symm)
                have ha13_6216 : h6216 (L 13) = some (.inl (E.2.1 1, 20000, .inl (f 13)), L 0) := hF6216 _ _ ha13 (fun ⟨i, hi, e⟩ => hLay.2 i 0 hi (by decide) e.symm)
                have ha13_6218 : h6218 (L 13) = some (.inl (E.2.1 1, 20000, .inl (f 13)), L 0) := hF6218 _ _ ha13_6216 (fun ⟨i, hi, e⟩ => hLay.2 i 0 hi (by decide) e.symm)
                have ha13_6220 : h6220 (L 13) = some (.inl (E.2.1 1, 20000, .inl (f 13)), L 0) := hF6220 _ _ ha13_6218 (fun ⟨i, hi, e⟩ => hLay.2 i 0 hi (by decide) e.symm)
                have ha14_6216 : h6216 (L 14) = some (.inl (E.2.1 2, 20000, .inl (f 14)), L 0) := hF6216 _ _ ha14 (fun ⟨i, hi, e⟩ => hLay.2 i 0 hi (by decide) e.symm)
                have ha14_6218 : h6218 (L 14) = some (.inl (E.2.1 2, 20000, .inl (f 14)), L 0) := hF6218 _ _ ha14_6216 (fun ⟨i, hi, e⟩ => hLay.2 i 0 hi (by decide) e.symm)
                have ha14_6220 : h6220 (L 14) = some (.inl (E.2.1 2, 20000, .inl (f 14)), L 0) := hF6220 _ _ ha14_6218 (fun ⟨i, hi, e⟩ => hLay.2 i 0 hi (by decide) e.symm)
                have ha15_6216 : h6216 (L 15) = some (.inl (E.2.1 3, 8, .inl (f 15)), L 0) := hF6216 _ _ ha15 (fun ⟨i, hi, e⟩ => hLay.2 i 0 hi (by decide) e.symm)
                have ha15_6218 : h6218 (L 15) = some (.inl (E.2.1 3, 8, .inl (f 15)), L 0) := hF6218 _ _ ha15_6216 (fun ⟨i, hi, e⟩ => hLay.2 i 0 hi (by decide) e.symm)
                have ha15_6220 : h6220 (L 15) = some (.inl (E.2.1 3, 8, .inl (f 15)), L 0) := hF6220 _ _ ha15_6218 (fun ⟨i, hi, e⟩ => hLay.2 i 0 hi (by decide) e.symm)
                have ha16_6216 : h6216 (L 16) = some (.inl (E.2.1 0, 8, .inl (f 16)), L 0) := hF6216 _ _ ha16 (fun ⟨i, hi, e⟩ => hLay.2 i 0 hi (by decide) e.symm)
                have ha16_6218 : h6218 (L 16) = some (.inl (E.2.1 0, 8, .inl (f 16)), L 0) := hF6218 _ _ ha16_6216 (fun ⟨i, hi, e⟩ => hLay.2 i 0 hi (by decide) e.symm)
                have ha16_6220 : h6220 (L 16) = some (.inl (E.2.1 0, 8, .inl (f 16)), L 0) := hF6220 _ _ ha16_6218 (fun ⟨i, hi, e⟩ => hLay.2 i 0 hi (by decide) e.symm)
                have ha17_6216 : h6216 (L 17) = some (.inl (E.2.1 0, 8, .inl (f 17)), L 0) := hF6216 _ _ ha17 (fun ⟨i, hi, e⟩ => hLay.2 i 0 hi (by decide) e.symm)
                have ha17_6218 : h6218 (L 17) = some (.inl (E.2.1 0, 8, .inl (f 17)), L 0) := hF6218 _ _ ha17_6216 (fun ⟨i, hi, e⟩ => hLay.2 i 0 hi (by decide) e.symm)
                have ha17_6220 : h6220 (L 17) = some (.inl (E.2.1 0, 8, .inl (f 17)), L 0) := hF6220 _ _ ha17_6218 (fun ⟨i, hi, e⟩ => hLay.2 i 0 hi (by decide) e.symm)
                have ha39_6216 : h6216 (L 39) = some (.inl (E.2.1 3, 961, .inl (f 39)), L 0) := hF6216 _ _ ha39 (fun ⟨i, hi, e⟩ => hLay.2 i 0 hi (by decide) e.symm)
                have ha39_6218 : h6218 (L 39) = some (.inl (E.2.1 3, 961, .inl (f 39)), L 0) := hF6218 _ _ ha39_6216 (fun ⟨i, hi, e⟩ => hLay.2 i 0 hi (by decide) e.symm)
                have ha39_6220 : h6220 (L 39) = some (.inl (E.2.1 3, 961, .inl (f 39)), L 0) := hF6220 _ _ ha39_6218 (fun ⟨i, hi, e⟩ => hLay.2 i 0 hi (by decide) e.symm)
                have hSt_6220 : Stt E L B h6220 := Stt.kept hF6220 (fun ⟨i, hi, e⟩ => hLay.2 i 30 hi (by decide) e.symm) hSt_6218
                have hPr_6216 : Prs L B pw pl ps h6216 := Prs.kept hF6216 (fun ⟨i, hi, e⟩ => hLay.2 i 24 hi (by decide) e.symm) hPr
                have hPr_6218 : Prs L B pw pl ps h6218 := Prs.kept hF6218 (fun ⟨i, hi, e⟩ => hLay.2 i 24 hi (by decide) e.symm) hPr_6216
                have hPr_6220 : Prs L B pw pl ps h6220 := Prs.kept hF6220 (fun ⟨i, hi, e⟩ => hLay.2 i 24 hi (by decide) e.symm) hPr_6218
                have hCn_6216 : Cns h6216 E L (nI1 (M 8)) (N 10) := Cns.kept hF6216 (fun ⟨i, hi, e⟩ => hLay.2 i 26 hi (by decide) e.symm) hCn
                have hCn_6218 : Cns h6218 E L (nI1 (M 8)) (N 10) := Cns.kept hF6218 (fun ⟨i, hi, e⟩ => hLay.2 i 26 hi (by decide) e.symm) hCn_6216
                have hCn_6220 : Cns h6220 E L (nI1 (M 8)) (N 10) := Cns.kept hF6220 (fun ⟨i, hi, e⟩ => hLay.2 i 26 hi (by decide) e.symm) hCn_6218
                have hSd_6216 : Sds h6216 E L (nI1 (M 6)) (N 9) := Sds.kept hF6216 (fun ⟨i, hi, e⟩ => hLay.2 i 27 hi (by decide) e.symm) hSd
                have hSd_6218 : Sds h6218 E L (nI1 (M 6)) (N 9) := Sds.kept hF6218 (fun ⟨i, hi, e⟩ => hLay.2 i 27 hi (by decide) e.symm) hSd_6216
                have hSd_6220 : Sds h6220 E L (nI1 (M 6)) (N 9) := Sds.kept hF6220 (fun ⟨i, hi, e⟩ => hLay.2 i 27 hi (by decide) e.symm) hSd_6218
                have hDg_6216 : Dgo h6216 E L rs := Dgo.kept hF6216 (fun ⟨i, hi, e⟩ => hLay.2 i 62 hi (by decide) e.symm) hDg
                have hDg_6218 : Dgo h6218 E L rs := Dgo.kept hF6218 (fun ⟨i, hi, e⟩ => hLay.2 i 62 hi (by decide) e.symm) hDg_6216
                have hDg_6220 : Dgo h6220 E L rs := Dgo.kept hF6220 (fun ⟨i, hi, e⟩ => hLay.2 i 62 hi (by decide) e.symm) hDg_6218
                exact Z _ _ _ _ _ _ _ _ dX1_show_277 (by have hgw := (hW6220); have hg1 := hgw.1; have hg2 := hgw.2; have hkm := hB6220.kmax; show 0 + dc6216 + dc6218 + dc6220 ≤ (KX - ksum cp NB) / 8 + 8; omega) (by have hgw := (hW6220); have hg1 := hgw.1; have hg2 := hgw.2; have hkm := hB6220.kmax; show 0 + ds6216 + ds6218 + ds6220 ≤ 2 * (KX - ksum cp NB) + 2048; omega) (Or.inr rfl) ⟨hcd, by rw [show x.toInt.toNat = 0 by omega, tv, if_pos (Nat.le_of_not_lt fun z => absurd (cmpN_neg.mpr z) (by omega))]; rfl, _, by rw [show x.toInt.toNat = 0 by omega, tv]; exact ⟨pp, f, rs, pw, pl, ps, V6220, ⟨ho0_6220, ha1_6220, ha3_6220, ha12_6220, ha13_6220, ha14_6220, ha15_6220, ha16_6220, ha17_6220, ha39_6220⟩, ⟨r1, r3, r12, r13, r14, r15, r16, r17, rp, rp16⟩, Vr_sh hVr hk6220 hj6220 ((ho6220 6 (by decide) (by decide) (by decide)).trans (hxo 6 (by decide) (by decide))) ((ho6220 7 (by decide) (by decide) (by decide)).trans (hxo 7 (by decide) (by decide))) (fun k h1 h2 => (ho6220 k (by omega) (by omega) (by omega)).trans (hxo k (by omega) (by omega))) i11.2.2.2, hSt_6220, hPr_6220, hCn_6220, hSd_6220, hDg_6220, hB6220⟩, hF_6220, hW6220⟩ T6222
            · have hz9 : ¬ (N 11 ≠ 0 ∧ 0 ≤ (y).toInt ∧ (y).toInt < N 14) := fun z => cP ⟨z.1, z.2.1, by rw [rp z.1]; exact z.2.2⟩
              have hcd : cd_show N x y = 1 := by unfold cd_show; rw [if_neg (by omega), if_neg (by omega), if_pos ⟨by omega, by omega⟩]
              exact Y _ _ _ _ _ _ ((thr_V C T6203 hl.1 ho0 rfl (t_X1_pairIn hfl i11.1 cP rp16 ho0) q869 q871 qs13 q53 q872 kd_X1_pairIn rfl rfl ⟨Nat.le_of_ble_eq_true rfl, Nat.le_of_ble_eq_true rfl⟩ (Nat.le_of_ble_eq_true rfl) dX1_show_43 ⟨by show 0 + 1 ≤ (KX - ksum cp NB) / 8 + 8; omega, by show 0 + 6 ≤ 2 * (KX - ksum cp NB) + 2048; omega⟩).on C T6203 hno ⟨by show 0 + 1 ≤ (KX - ksum cp NB) / 8 + 8; omega, by show 0 + 6 ≤ 2 * (KX - ksum cp NB) + 2048; omega⟩ (fun h2 dc ds hp => by obtain ⟨rfl, rfl, rfl⟩ := hp; exact ⟨rfl, rfl, rfl, by rw [hcd]; exact ⟨by decide, rfl⟩⟩))
