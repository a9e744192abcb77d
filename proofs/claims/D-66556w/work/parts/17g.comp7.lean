set_option maxRecDepth 100000
/-- the pairs' objects and the great numbers -/
def PO (L B : Nat → Nat) : Nat → Prop := fun o => o = L 24 ∨ BO B o
theorem upd_same {f : Nat → Int32} {k : Nat} : upd f k (f k) = f := by
  funext i
  by_cases z : i = k
  · rw [z, pk_us]
  · rw [pk_un z]
theorem Prs.put {L B : Nat → Nat} {pw pl ps : Nat → Int32} {h h2 : HH} {k : Nat} {w l s : Int32} (H : Prs L B pw pl ps h) (hLay : Lay L B) (hk : k < 16) (e : h2 = hup h (L (70 + k)) (.inr (8, [.int w, .int l, .int s, .ref (B (19 + 2 * k)), .ref (B (20 + 2 * k))]), L 24)) : Prs L B (upd pw k w) (upd pl k l) (upd ps k s) h2 := by
  intro i hi
  rw [e]
  by_cases z : i = k
  · rw [z, hup_s, pk_us, pk_us, pk_us]
  · rw [hup_n (hLay.1 _ _ (by omega) (by omega) (by omega)), pk_un z, pk_un z, pk_un z]
    exact H i hi
theorem Prs.puts {L B : Nat → Nat} {pw pl ps : Nat → Int32} {h h2 : HH} {k : Nat} {s : Int32} (H : Prs L B pw pl ps h) (hLay : Lay L B) (hk : k < 16) (e : h2 = hup h (L (70 + k)) (.inr (8, [.int (pw k), .int (pl k), .int s, .ref (B (19 + 2 * k)), .ref (B (20 + 2 * k))]), L 24)) : Prs L B pw pl (upd ps k s) h2 := by
  have h1 := H.put hLay hk e
  rw [upd_same, upd_same] at h1
  exact h1
theorem Prs.putw {L B : Nat → Nat} {pw pl ps : Nat → Int32} {h h2 : HH} {k : Nat} {w : Int32} (H : Prs L B pw pl ps h) (hLay : Lay L B) (hk : k < 16) (e : h2 = hup h (L (70 + k)) (.inr (8, [.int w, .int (pl k), .int (ps k), .ref (B (19 + 2 * k)), .ref (B (20 + 2 * k))]), L 24)) : Prs L B (upd pw k w) pl ps h2 := by
  have h1 := H.put hLay hk e
  rw [upd_same, upd_same] at h1
  exact h1
theorem Prs.putl {L B : Nat → Nat} {pw pl ps : Nat → Int32} {h h2 : HH} {k : Nat} {l : Int32} (H : Prs L B pw pl ps h) (hLay : Lay L B) (hk : k < 16) (e : h2 = hup h (L (70 + k)) (.inr (8, [.int (pw k), .int l, .int (ps k), .ref (B (19 + 2 * k)), .ref (B (20 + 2 * k))]), L 24)) : Prs L B pw (upd pl k l) ps h2 := by
  have h1 := H.put hLay hk e
  rw [upd_same, upd_same] at h1
  exact h1
/-- whether a ballot is for one of a pair -/
abbrev hit (M : Nat → Nat → Nat) (c : Int32) (k : Nat) : Prop := c = nI (M 4 k) ∨ c = nI (M 5 k)
def fA (M : Nat → Nat → Nat) (V : Nat → Nat) (c : Int32) (k : Nat) : Nat := if hit M c k then V (19 + 2 * k) * (2 * M 0 (un c)) else V (19 + 2 * k)
def fB (M : Nat → Nat → Nat) (V : Nat → Nat) (c : Int32) (k : Nat) : Nat := if hit M c k then V (20 + 2 * k) * (M 0 (M 4 k) + M 0 (M 5 k)) else V (20 + 2 * k)
def fS (N : Nat → Nat) (M : Nat → Nat → Nat) (V : Nat → Nat) (ps : Nat → Int32) (c d : Int32) (k : Nat) : Int32 := if hit M c k ∧ ps k = -1 ∧ fB M V c k * N 6 ≤ fA M V c k * N 5 then d else ps k
/-- whether all of a row are sure -/
def asr (g : Nat → Int32) : Nat → Nat
  | 0 => 1
  | k + 1 => if asr g k = 1 ∧ g k ≠ -1 then 1 else 0
theorem asr_le (g : Nat → Int32) : ∀ k, asr g k ≤ 1 := by
  intro k
  cases k with
  | zero => exact Nat.le_refl _
  | succ k => unfold asr; split <;> omega
theorem asr_and {g : Nat → Int32} {k x : Nat} (h2 : x ≤ 1) (h3 : x = 1 ↔ g k ≠ -1) : nI (asr g k) &&& nI x = nI (asr g (k + 1)) := by
  have e : asr g (k + 1) = if asr g k = 1 ∧ g k ≠ -1 then 1 else 0 := rfl
  have h1 := asr_le g k
  rw [e]
  simp only [← h3]
  rcases (show asr g k = 0 ∨ asr g k = 1 by omega) with z | z <;> rcases (show x = 0 ∨ x = 1 by omega) with y | y <;> rw [z, y] <;> decide

theorem kdN_X1_margin : True := trivial
set_option maxHeartbeats 4000000 in
theorem m_X5_begin {E : GE} {l : Launch} {h : HH} {L B N V cp : Nat → Nat} {M : Nat → Nat → Nat} {pp : Nat} {g pw pl ps : Nat → Int32} (hLay : Lay L B) (hB : Bgs E h B V cp) (ho0 : h (L 0) = some (.inr (0, [.ref (L 1), .int (nI (N 0)), .ref (L 3), .int (nI (N 1)), .int (nI (N 2)), .int (nI (N 3)), .int (nI (N 4)), .int (nI (N 5)), .int (nI (N 6)), .int (nI (N 7)), .int (nI (N 8)), .ref (L 12), .ref (L 13), .ref (L 14), .ref (L 15), .ref (L 16), .ref (L 17), .int (nI (N 11)), .int (nI (N 15)), .int (nI (N 16)), .int (nI (N 17)), .int (nI (N 18) - 1), .int (nI (N 19)), .ref (L 24), .int (nI pp), .ref (L 26), .ref (L 27), .ref (if N 13 = 1 then L 27 else L 26), .ref (L 29), .ref (L 30), .ref (if N 12 = 1 then L 30 else L 29), .ref (L 32), .ref (B 0), .ref (B 1), .ref (B 2), .ref (B 3), .ref (L 37), .ref (L 38), .ref (L 39), .ref (B 4), .ref (B 5)]), L 0)) (hSt : Stt E L B h) (hPr : Prs L B pw pl ps h) (rp16 : pp ≤ 16) : MM E l yX5_begin cX5_begin 2 none ({ frames := 3, cells := 0, slots := 0, locals := 450 } : Room) [.ref (L 29)] h (fun rv h2 => rv = none ∧ ∃ V2 ps2, Bgs E h2 B V2 cp ∧ Prs L B pw pl ps2 h2 ∧ (∀ i, i < pp → V2 (19 + 2 * i) = 1 ∧ V2 (20 + 2 * i) = 1 ∧ ps2 i = -1) ∧ (∀ n, (n < 19 ∨ 50 < n) → V2 n = V n) ∧ Fr (PO L B) h h2) := by
  refine hm_v (by decide) (Nat.le_of_ble_eq_true rfl) ?_
  intro p e s m below meth c C hnm Q Z ls T hl
  have hx := C.x
  have hb := C.b
  have hl : lv_has ls 2 [(0, .ref (L 29))] := hl
  have hF : Fr (PO L B) h h := Fr.rf
  have hst29x3301 := (hSt).2.2.2.1
  refine lv_iconst (v := nI 0) hx hb dX5_begin_0 rfl ?_
  refine lv_istore_n (lv' := [(1, .int (nI 0)), (0, .ref (L 29))]) hx hb dX5_begin_1 rfl hl (by decide) rfl (fun ls3302 hl3302 => ?_)
  have L1 : ∀ (j : Nat) (k : Nat) (V2 : Nat → Nat) (ps2 : Nat → Int32) (h3303 : HH) (H3303 : Heap) (locs3303 : List Loc) (ls3303 : Array Slot), (pp + 1 ≤ k + j) → (h3303 (L 0) = some (.inr (0, [.ref (L 1), .int (nI (N 0)), .ref (L 3), .int (nI (N 1)), .int (nI (N 2)), .int (nI (N 3)), .int (nI (N 4)), .int (nI (N 5)), .int (nI (N 6)), .int (nI (N 7)), .int (nI (N 8)), .ref (L 12), .ref (L 13), .ref (L 14), .ref (L 15), .ref (L 16), .ref (L 17), .int (nI (N 11)), .int (nI (N 15)), .int (nI (N 16)), .int (nI (N 17)), .int (nI (N 18) - 1), .int (nI (N 19)), .ref (L 24), .int (nI pp), .ref (L 26), .ref (L 27), .ref (if N 13 = 1 then L 27 else L 26), .ref (L 29), .ref (L 30), .ref (if N 12 = 1 then L 30 else L 29), .ref (L 32), .ref (B 0), .ref (B 1), .ref (B 2), .ref (B 3), .ref (L 37), .ref (L 38), .ref (L 39), .ref (B 4), .ref (B 5)]), L 0)) → (k ≤ pp) → (Bgs E h3303 B V2 cp) → (Stt E L B h3303) → (Prs L B pw pl ps2 h3303) → (∀ i, i < k → V2 (19 + 2 * i) = 1 ∧ V2 (20 + 2 * i) = 1 ∧ ps2 i = -1) → (∀ n, (n < 19 ∨ 50 < n) → V2 n = V n) → (Fr (PO L B) h h3303) → (St E s h3303 H3303 locs3303) → (lv_has ls3303 2 [(0, .ref (L 29)), (1, .int (nI k))]) → W p l e ({ frames := 3, cells := 0, slots := 0, locals := 450 } : Room) s m ([.ref (L 29)] : List Value).toArray below meth c H3303 locs3303 0 0 Q (F0 m 2 ls3303 []) := by
    intro j
    induction j with
    | zero => intro k V2 ps2 h3303 H3303 locs3303 ls3303 hm3303 ho0_3303 hk hB hSt hPr hv hkp hF_3303 T3303 hl3303; exact absurd hm3303 (by omega)
    | succ j ih3303 =>
      intro k V2 ps2 h3303 H3303 locs3303 ls3303 hm3303 ho0_3303 hk hB hSt hPr hv hkp hF_3303 T3303 hl3303
      have hst29x3304 := (hSt).2.2.2.1
      refine lv_iload_n hx hb dX5_begin_2 rfl (lv_at hl3303 1 rfl) ?_
      refine lv_aload_n hx hb dX5_begin_3 rfl (lv_at hl3303 0 rfl) ?_
      refine hr_get C T3303 hst29x3304 rfl in_X5 0 (by decide) q154 rfl rfl dX5_begin_4 ?_
      refine hr_getN C T3303 ho0_3303 rfl in_X1 24 (by decide) 20 rfl rfl rfl dX5_begin_7 ?_
      refine hn_icmp_ge (tgt := 64) hx hb dX5_begin_10 (by decide) (by omega) (by omega) (fun c1 => ?_) (fun c1 => ?_)
      · have e1 : k = pp := by omega
        subst e1
        exact Z _ _ _ _ _ dX5_begin_64 ⟨rfl, V2, ps2, hB, hPr, hv, hkp, hF_3303⟩ T3303
      · refine lv_aload_n hx hb dX5_begin_13 rfl (lv_at hl3303 0 rfl) ?_
        refine hr_get C T3303 hst29x3304 rfl in_X5 0 (by decide) q154 rfl rfl dX5_begin_14 ?_
        refine hr_getN C T3303 ho0_3303 rfl in_X1 23 (by decide) 19 rfl rfl rfl dX5_begin_17 ?_
        refine lv_iload_n hx hb dX5_begin_20 rfl (lv_at hl3303 1 rfl) ?_
        have hst24x3305 := (hSt).1
        refine hr_aald C T3303 6 rfl hst24x3305 (by omega) (by omega) rfl dX5_begin_21 ?_
        have hpr3306 := hPr k (by omega)
        refine hr_getN C T3303 hpr3306 rfl in_X9 3 (by decide) 16 rfl rfl rfl dX5_begin_22 ?_
        refine lv_lconst (v := lN 1) hx hb dX5_begin_25 rfl ?_
        obtain ⟨ca3307, hbo3307⟩ := hB.o (i := 19 + 2 * k) (show 19 + 2 * k < 1973 by omega)
        refine hc_V C T3303 hl3303.1 hbo3307 rfl (g_set (i := 19 + 2 * k) hB (show 19 + 2 * k < 1973 by omega) (by decide)) q681 q272 q273 q59 q274 kd_X7_set rfl rfl ⟨Nat.le_of_ble_eq_true rfl, Nat.le_of_ble_eq_true rfl⟩ (Nat.le_of_ble_eq_true rfl) dX5_begin_26 ⟨by have hgw := (Gw.rf (cp := cp)); have hg1 := hgw.1; have hg2 := hgw.2; have hkm := hB.kmax; show 0 + 0 ≤ 0; omega, by have hgw := (Gw.rf (cp := cp)); have hg1 := hgw.1; have hg2 := hgw.2; have hkm := hB.kmax; show 0 + 0 ≤ 0; omega⟩ (fun rv h3308 H3308 locs3308 hp3308 T3308 => ?_)
        obtain ⟨rfl, hB3308, hF3308⟩ := hp3308
        have hF_3308 : Fr (PO L B) h h3308 := hF_3303.tr (hF3308.mono (fun _ z => Or.inr z))
        refine W.eq (g2 := F0 m 29 ls3303 []) rfl ?_
        refine lv_aload_n hx hb dX5_begin_29 rfl (lv_at hl3303 0 rfl) ?_
        have hst29x3304_3308 : h3308 (L 29) = some (.inr (5, [.ref (L 0)]), L 30) := hF3308 _ _ hst29x3304 (fun ⟨i, hi, e⟩ => hLay.2 i 30 hi (by decide) e.symm)
        refine hr_get C T3308 hst29x3304_3308 rfl in_X5 0 (by decide) q154 rfl rfl dX5_begin_30 ?_
        have ho0_3308 : h3308 (L 0) = some (.inr (0, [.ref (L 1), .int (nI (N 0)), .ref (L 3), .int (nI (N 1)), .int (nI (N 2)), .int (nI (N 3)), .int (nI (N 4)), .int (nI (N 5)), .int (nI (N 6)), .int (nI (N 7)), .int (nI (N 8)), .ref (L 12), .ref (L 13), .ref (L 14), .ref (L 15), .ref (L 16), .ref (L 17), .int (nI (N 11)), .int (nI (N 15)), .int (nI (N 16)), .int (nI (N 17)), .int (nI (N 18) - 1), .int (nI (N 19)), .ref (L 24), .int (nI pp), .ref (L 26), .ref (L 27), .ref (if N 13 = 1 then L 27 else L 26), .ref (L 29), .ref (L 30), .ref (if N 12 = 1 then L 30 else L 29), .ref (L 32), .ref (B 0), .ref (B 1), .ref (B 2), .ref (B 3), .ref (L 37), .ref (L 38), .ref (L 39), .ref (B 4), .ref (B 5)]), L 0) := hF3308 _ _ ho0_3303 (fun ⟨i, hi, e⟩ => hLay.2 i 0 hi (by decide) e.symm)
        refine hr_getN C T3308 ho0_3308 rfl in_X1 23 (by decide) 19 rfl rfl rfl dX5_begin_33 ?_
        refine lv_iload_n hx hb dX5_begin_36 rfl (lv_at hl3303 1 rfl) ?_
        have hst24x3305_3308 : h3308 (L 24) = some (.inl (E.2.1 6, 16, .inr (.inr (.inr (.inr (fun k => some (L (70 + k))))))), L 30) := hF3308 _ _ hst24x3305 (fun ⟨i, hi, e⟩ => hLay.2 i 30 hi (by decide) e.symm)
        refine hr_aald C T3308 6 rfl hst24x3305_3308 (by omega) (by omega) rfl dX5_begin_37 ?_
        have hpr3306_3308 : h3308 (L (70 + k)) = some (.inr (8, [.int (pw k), .int (pl k), .int (ps2 k), .ref (B (19 + 2 * k)), .ref (B (20 + 2 * k))]), L 24) := hF3308 _ _ hpr3306 (fun ⟨i, hi, e⟩ => hLay.2 i 24 hi (by decide) e.symm)
        refine hr_getN C T3308 hpr3306_3308 rfl in_X9 4 (by decide) 17 rfl rfl rfl dX5_begin_38 ?_
        refine lv_lconst (v := lN 1) hx hb dX5_begin_41 rfl ?_
        obtain ⟨ca3309, hbo3309⟩ := hB3308.o (i := 20 + 2 * k) (show 20 + 2 * k < 1973 by omega)
        refine hc_V C T3308 hl3303.1 hbo3309 rfl (g_set (i := 20 + 2 * k) hB3308 (show 20 + 2 * k < 1973 by omega) (by decide)) q681 q272 q273 q59 q274 kd_X7_set rfl rfl ⟨Nat.le_of_ble_eq_true rfl, Nat.le_of_ble_eq_true rfl⟩ (Nat.le_of_ble_eq_true rfl) dX5_begin_42 ⟨by have hgw := (Gw.rf (cp := cp)); have hg1 := hgw.1; have hg2 := hgw.2; have hkm := hB3308.kmax; show 0 + 0 ≤ 0; omega, by have hgw := (Gw.rf (cp := cp)); have hg1 := hgw.1; have hg2 := hgw.2; have hkm := hB3308.kmax; show 0 + 0 ≤ 0; omega⟩ (fun rv h3310 H3310 locs3310 hp3310 T3310 => ?_)
        obtain ⟨rfl, hB3310, hF3310⟩ := hp3310
        have hF_3310 : Fr (PO L B) h h3310 := hF_3308.tr (hF3310.mono (fun _ z => Or.inr z))
        refine W.eq (g2 := F0 m 45 ls3303 []) rfl ?_
        refine lv_aload_n hx hb dX5_begin_45 rfl (lv_at hl3303 0 rfl) ?_
        have hst29x3304_3310 : h3310 (L 29) = some (.inr (5, [.ref (L 0)]), L 30) := hF3310 _ _ hst29x3304_3308 (fun ⟨i, hi, e⟩ => hLay.2 i 30 hi (by decide) e.symm)
        refine hr_get C T3310 hst29x3304_3310 rfl in_X5 0 (by decide) q154 rfl rfl dX5_begin_46 ?_
        have ho0_3310 : h3310 (L 0) = some (.inr (0, [.ref (L 1), .int (nI (N 0)), .ref (L 3), .int (nI (N 1)), .int (nI (N 2)), .int (nI (N 3)), .int (nI (N 4)), .int (nI (N 5)), .int (nI (N 6)), .int (nI (N 7)), .int (nI (N 8)), .ref (L 12), .ref (L 13), .ref (L 14), .ref (L 15), .ref (L 16), .ref (L 17), .int (nI (N 11)), .int (nI (N 15)), .int (nI (N 16)), .int (nI (N 17)), .int (nI (N 18) - 1), .int (nI (N 19)), .ref (L 24), .int (nI pp), .ref (L 26), .ref (L 27), .ref (if N 13 = 1 then L 27 else L 26), .ref (L 29), .ref (L 30), .ref (if N 12 = 1 then L 30 else L 29), .ref (L 32), .ref (B 0), .ref (B 1), .ref (B 2), .ref (B 3), .ref (L 37), .ref (L 38), .ref (L 39), .ref (B 4), .ref (B 5)]), L 0) := hF3310 _ _ ho0_3308 (fun ⟨i, hi, e⟩ => hLay.2 i 0 hi (by decide) e.symm)
        refine hr_getN C T3310 ho0_3310 rfl in_X1 23 (by decide) 19 rfl rfl rfl dX5_begin_49 ?_
        refine lv_iload_n hx hb dX5_begin_52 rfl (lv_at hl3303 1 rfl) ?_
        have hst24x3305_3310 : h3310 (L 24) = some (.inl (E.2.1 6, 16, .inr (.inr (.inr (.inr (fun k => some (L (70 + k))))))), L 30) := hF3310 _ _ hst24x3305_3308 (fun ⟨i, hi, e⟩ => hLay.2 i 30 hi (by decide) e.symm)
        refine hr_aald C T3310 6 rfl hst24x3305_3310 (by omega) (by omega) rfl dX5_begin_53 ?_
        have hpr3306_3310 : h3310 (L (70 + k)) = some (.inr (8, [.int (pw k), .int (pl k), .int (ps2 k), .ref (B (19 + 2 * k)), .ref (B (20 + 2 * k))]), L 24) := hF3310 _ _ hpr3306_3308 (fun ⟨i, hi, e⟩ => hLay.2 i 24 hi (by decide) e.symm)
        have hPr_3308 : Prs L B pw pl ps2 h3308 := Prs.kept hF3308 (fun ⟨i, hi, e⟩ => hLay.2 i 24 hi (by decide) e.symm) hPr
        have hPr_3310 : Prs L B pw pl ps2 h3310 := Prs.kept hF3310 (fun ⟨i, hi, e⟩ => hLay.2 i 24 hi (by decide) e.symm) hPr_3308
        refine lv_iconst (v := (-1)) hx hb dX5_begin_54 rfl ?_
        refine hr_putN C T3310 hpr3306_3310 rfl in_X9 tyX9 tyX9_ok nmX9 2 (by decide) 15 rfl rfl rfl rfl rfl (Nat.le_of_ble_eq_true rfl) dX5_begin_55 (fun h3311 H3311 locs3311 eh3311 T3311 => ?_)
        have hpr3306_3311 : h3311 (L (70 + k)) = some (.inr (8, [.int (pw k), .int (pl k), .int (-1), .ref (B (19 + 2 * k)), .ref (B (20 + 2 * k))]), L 24) := hu_s eh3311
        have hF_3311 : Fr (PO L B) h h3311 := hu_f eh3311 hF_3310 hpr3306_3310 (Or.inl rfl)
        have hP2 : Prs L B pw pl (upd ps2 k (-1)) h3311 := hPr_3310.puts hLay (by omega) eh3311
        refine lv_iinc (v := nI (k + 1)) (lv' := [(1, .int (nI (k + 1))), (0, .ref (L 29))]) hx hb dX5_begin_58 hl3303 (k := 1) rfl (nI_add k 1) (by decide) rfl (fun ls3312 hl3312 => ?_)
        refine lv_goto (tgt := 2) hx hb dX5_begin_61 (by decide) ?_
        have hB3310_3311 : Bgs E h3311 B (nu (nu V2 (19 + 2 * k) 1) (20 + 2 * k) 1) cp := Bgs.kept (O := (· = L 24)) (hu_f eh3311 Fr.rf hpr3306_3310 rfl) (fun i hi => hLay.2 i 24 hi (by decide)) hB3310
        have hSt_3308 : Stt E L B h3308 := Stt.kept hF3308 (fun ⟨i, hi, e⟩ => hLay.2 i 30 hi (by decide) e.symm) hSt
        have hSt_3310 : Stt E L B h3310 := Stt.kept hF3310 (fun ⟨i, hi, e⟩ => hLay.2 i 30 hi (by decide) e.symm) hSt_3308
        have hSt_3311 : Stt E L B h3311 := Stt.kept (O := (· = L 24)) (hu_f eh3311 Fr.rf hpr3306_3310 rfl) (hLay.1 30 24 (by decide) (by decide) (by decide)) hSt_3310
        have ho0_3311 : h3311 (L 0) = some (.inr (0, [.ref (L 1), .int (nI (N 0)), .ref (L 3), .int (nI (N 1)), .int (nI (N 2)), .int (nI (N 3)), .int (nI (N 4)), .int (nI (N 5)), .int (nI (N 6)), .int (nI (N 7)), .int (nI (N 8)), .ref (L 12), .ref (L 13), .ref (L 14), .ref (L 15), .ref (L 16), .ref (L 17), .int (nI (N 11)), .int (nI (N 15)), .int (nI (N 16)), .int (nI (N 17)), .int (nI (N 18) - 1), .int (nI (N 19)), .ref (L 24), .int (nI pp), .ref (L 26), .ref (L 27), .ref (if N 13 = 1 then L 27 else L 26), .ref (L 29), .ref (L 30), .ref (if N 12 = 1 then L 30 else L 29), .ref (L 32), .ref (B 0), .ref (B 1), .ref (B 2), .ref (B 3), .ref (L 37), .ref (L 38), .ref (L 39), .ref (B 4), .ref (B 5)]), L 0) := hu_n eh3311 (hLay.1 0 (70 + k) (by omega) (by omega) (by omega)) ho0_3310
        exact ih3303 (k + 1) _ _ _ _ _ _ (by omega) ho0_3311 (by omega) hB3310_3311 hSt_3311 hP2 (fun i hi => by by_cases z : i = k; (rw [z, nu_n (show 19 + 2 * k ≠ 20 + 2 * k by omega), nu_s, nu_s, pk_us]; exact ⟨rfl, rfl, rfl⟩); (rw [nu_n (show 19 + 2 * i ≠ 20 + 2 * k by omega), nu_n (show 19 + 2 * i ≠ 19 + 2 * k by omega), nu_n (show 20 + 2 * i ≠ 20 + 2 * k by omega), nu_n (show 20 + 2 * i ≠ 19 + 2 * k by omega), pk_un z]; exact hv i (by omega))) (fun n hn => by rw [nu_n (by omega), nu_n (by omega)]; exact hkp n hn) hF_3311 T3311 (lv_sub hl3312 [1, 0] rfl)
  exact L1 (pp + 1) 0 (V) ps _ _ _ _ (by omega) ho0 (Nat.zero_le _) hB hSt hPr (fun i hi => absurd hi (by omega)) (fun _ _ => rfl) hF T (lv_sub hl3302 [1, 0] rfl)

set_option maxHeartbeats 4000000 in
theorem m_X6_begin {E : GE} {l : Launch} {h : HH} {L B N V cp : Nat → Nat} {M : Nat → Nat → Nat} {pp : Nat} {g pw pl ps : Nat → Int32} (hLay : Lay L B) (hB : Bgs E h B V cp) (ho0 : h (L 0) = some (.inr (0, [.ref (L 1), .int (nI (N 0)), .ref (L 3), .int (nI (N 1)), .int (nI (N 2)), .int (nI (N 3)), .int (nI (N 4)), .int (nI (N 5)), .int (nI (N 6)), .int (nI (N 7)), .int (nI (N 8)), .ref (L 12), .ref (L 13), .ref (L 14), .ref (L 15), .ref (L 16), .ref (L 17), .int (nI (N 11)), .int (nI (N 15)), .int (nI (N 16)), .int (nI (N 17)), .int (nI (N 18) - 1), .int (nI (N 19)), .ref (L 24), .int (nI pp), .ref (L 26), .ref (L 27), .ref (if N 13 = 1 then L 27 else L 26), .ref (L 29), .ref (L 30), .ref (if N 12 = 1 then L 30 else L 29), .ref (L 32), .ref (B 0), .ref (B 1), .ref (B 2), .ref (B 3), .ref (L 37), .ref (L 38), .ref (L 39), .ref (B 4), .ref (B 5)]), L 0)) (hSt : Stt E L B h) (hPr : Prs L B pw pl ps h) (rp16 : pp ≤ 16) : MM E l yX6_begin cX6_begin 2 none ({ frames := 3, cells := 0, slots := 0, locals := 450 } : Room) [.ref (L 30)] h (fun rv h2 => rv = none ∧ ∃ V2 ps2, Bgs E h2 B V2 cp ∧ Prs L B pw pl ps2 h2 ∧ (∀ i, i < pp → V2 (19 + 2 * i) = 1 ∧ V2 (20 + 2 * i) = 1 ∧ ps2 i = -1) ∧ (∀ n, (n < 19 ∨ 50 < n) → V2 n = nu (nu V 6 1) 7 1 n) ∧ Fr (PO L B) h h2) := by
  refine hm_v (by decide) (Nat.le_of_ble_eq_true rfl) ?_
  intro p e s m below meth c C hnm Q Z ls T hl
  have hx := C.x
  have hb := C.b
  have hl : lv_has ls 2 [(0, .ref (L 30))] := hl
  have hF : Fr (PO L B) h h := Fr.rf
  have hst30x3313 := (hSt).2.2.2.2.1
  refine lv_aload_n hx hb dX6_begin_0 rfl (lv_at hl 0 rfl) ?_
  refine hr_get C T hst30x3313 rfl in_X6 1 (by decide) q180 rfl rfl dX6_begin_1 ?_
  refine lv_lconst (v := lN 1) hx hb dX6_begin_4 rfl ?_
  obtain ⟨ca3314, hbo3314⟩ := hB.o (i := 6) (by decide)
  refine hc_V C T hl.1 hbo3314 rfl (g_set (i := 6) hB (by decide) (by decide)) q674 q272 q273 q59 q274 kd_X7_set rfl rfl ⟨Nat.le_of_ble_eq_true rfl, Nat.le_of_ble_eq_true rfl⟩ (Nat.le_of_ble_eq_true rfl) dX6_begin_5 ⟨by have hgw := (Gw.rf (cp := cp)); have hg1 := hgw.1; have hg2 := hgw.2; have hkm := hB.kmax; show 0 + 0 ≤ 0; omega, by have hgw := (Gw.rf (cp := cp)); have hg1 := hgw.1; have hg2 := hgw.2; have hkm := hB.kmax; show 0 + 0 ≤ 0; omega⟩ (fun rv h3315 H3315 locs3315 hp3315 T3315 => ?_)
  obtain ⟨rfl, hB3315, hF3315⟩ := hp3315
  have hF_3315 : Fr (PO L B) h h3315 := hF.tr (hF3315.mono (fun _ z => Or.inr z))
  refine W.eq (g2 := F0 m 8 ls []) rfl ?_
  refine lv_aload_n hx hb dX6_begin_8 rfl (lv_at hl 0 rfl) ?_
  have hst30x3313_3315 : h3315 (L 30) = some (.inr (6, [.ref (L 0), .ref (B 6), .ref (B 7)]), L 30) := hF3315 _ _ hst30x3313 (fun ⟨i, hi, e⟩ => hLay.2 i 30 hi (by decide) e.symm)
  refine hr_get C T3315 hst30x3313_3315 rfl in_X6 2 (by decide) q182 rfl rfl dX6_begin_9 ?_
  refine lv_lconst (v := lN 1) hx hb dX6_begin_12 rfl ?_
  obtain ⟨ca3316, hbo3316⟩ := hB3315.o (i := 7) (by decide)
  refine hc_V C T3315 hl.1 hbo3316 rfl (g_set (i := 7) hB3315 (by decide) (by decide)) q674 q272 q273 q59 q274 kd_X7_set rfl rfl ⟨Nat.le_of_ble_eq_true rfl, Nat.le_of_ble_eq_true rfl⟩ (Nat.le_of_ble_eq_true rfl) dX6_begin_13 ⟨by have hgw := (Gw.rf (cp := cp)); have hg1 := hgw.1; have hg2 := hgw.2; have hkm := hB3315.kmax; show 0 + 0 ≤ 0; omega, by have hgw := (Gw.rf (cp := cp)); have hg1 := hgw.1; have hg2 := hgw.2; have hkm := hB3315.kmax; show 0 + 0 ≤ 0; omega⟩ (fun rv h3317 H3317 locs3317 hp3317 T3317 => ?_)
  obtain ⟨rfl, hB3317, hF3317⟩ := hp3317
  have hF_3317 : Fr (PO L B) h h3317 := hF_3315.tr (hF3317.mono (fun _ z => Or.inr z))
  refine W.eq (g2 := F0 m 16 ls []) rfl ?_
  refine lv_iconst (v := nI 0) hx hb dX6_begin_16 rfl ?_
  refine lv_istore_n (lv' := [(1, .int (nI 0)), (0, .ref (L 30))]) hx hb dX6_begin_17 rfl hl (by decide) rfl (fun ls3318 hl3318 => ?_)
  have L1 : ∀ (j : Nat) (k : Nat) (V2 : Nat → Nat) (ps2 : Nat → Int32) (h3319 : HH) (H3319 : Heap) (locs3319 : List Loc) (ls3319 : Array Slot), (pp + 1 ≤ k + j) → (h3319 (L 0) = some (.inr (0, [.ref (L 1), .int (nI (N 0)), .ref (L 3), .int (nI (N 1)), .int (nI (N 2)), .int (nI (N 3)), .int (nI (N 4)), .int (nI (N 5)), .int (nI (N 6)), .int (nI (N 7)), .int (nI (N 8)), .ref (L 12), .ref (L 13), .ref (L 14), .ref (L 15), .ref (L 16), .ref (L 17), .int (nI (N 11)), .int (nI (N 15)), .int (nI (N 16)), .int (nI (N 17)), .int (nI (N 18) - 1), .int (nI (N 19)), .ref (L 24), .int (nI pp), .ref (L 26), .ref (L 27), .ref (if N 13 = 1 then L 27 else L 26), .ref (L 29), .ref (L 30), .ref (if N 12 = 1 then L 30 else L 29), .ref (L 32), .ref (B 0), .ref (B 1), .ref (B 2), .ref (B 3), .ref (L 37), .ref (L 38), .ref (L 39), .ref (B 4), .ref (B 5)]), L 0)) → (k ≤ pp) → (Bgs E h3319 B V2 cp) → (Stt E L B h3319) → (Prs L B pw pl ps2 h3319) → (∀ i, i < k → V2 (19 + 2 * i) = 1 ∧ V2 (20 + 2 * i) = 1 ∧ ps2 i = -1) → (∀ n, (n < 19 ∨ 50 < n) → V2 n = nu (nu V 6 1) 7 1 n) → (Fr (PO L B) h h3319) → (St E s h3319 H3319 locs3319) → (lv_has ls3319 2 [(0, .ref (L 30)), (1, .int (nI k))]) → W p l e ({ frames := 3, cells := 0, slots := 0, locals := 450 } : Room) s m ([.ref (L 30)] : List Value).toArray below meth c H3319 locs3319 0 0 Q (F0 m 18 ls3319 []) := by
    intro j
    induction j with
    | zero => intro k V2 ps2 h3319 H3319 locs3319 ls3319 hm3319 ho0_3319 hk hB hSt hPr hv hkp hF_3319 T3319 hl3319; exact absurd hm3319 (by omega)
    | succ j ih3319 =>
      intro k V2 ps2 h3319 H3319 locs3319 ls3319 hm3319 ho0_3319 hk hB hSt hPr hv hkp hF_3319 T3319 hl3319
      have hst30x3320 := (hSt).2.2.2.2.1
      refine lv_iload_n hx hb dX6_begin_18 rfl (lv_at hl3319 1 rfl) ?_
      refine lv_aload_n hx hb dX6_begin_19 rfl (lv_at hl3319 0 rfl) ?_
      refine hr_get C T3319 hst30x3320 rfl in_X6 0 (by decide) q179 rfl rfl dX6_begin_20 ?_
      refine hr_getN C T3319 ho0_3319 rfl in_X1 24 (by decide) 32 rfl rfl rfl dX6_begin_23 ?_
      refine hn_icmp_ge (tgt := 80) hx hb dX6_begin_26 (by decide) (by omega) (by omega) (fun c1 => ?_) (fun c1 => ?_)
      · have e1 : k = pp := by omega
        subst e1
        exact Z _ _ _ _ _ dX6_begin_80 ⟨rfl, V2, ps2, hB, hPr, hv, hkp, hF_3319⟩ T3319
      · refine lv_aload_n hx hb dX6_begin_29 rfl (lv_at hl3319 0 rfl) ?_
        refine hr_get C T3319 hst30x3320 rfl in_X6 0 (by decide) q179 rfl rfl dX6_begin_30 ?_
        refine hr_getN C T3319 ho0_3319 rfl in_X1 23 (by decide) 31 rfl rfl rfl dX6_begin_33 ?_
        refine lv_iload_n hx hb dX6_begin_36 rfl (lv_at hl3319 1 rfl) ?_
        have hst24x3321 := (hSt).1
        refine hr_aald C T3319 6 rfl hst24x3321 (by omega) (by omega) rfl dX6_begin_37 ?_
        have hpr3322 := hPr k (by omega)
        refine hr_getN C T3319 hpr3322 rfl in_X9 3 (by decide) 24 rfl rfl rfl dX6_begin_38 ?_
        refine lv_lconst (v := lN 1) hx hb dX6_begin_41 rfl ?_
        obtain ⟨ca3323, hbo3323⟩ := hB.o (i := 19 + 2 * k) (show 19 + 2 * k < 1973 by omega)
        refine hc_V C T3319 hl3319.1 hbo3323 rfl (g_set (i := 19 + 2 * k) hB (show 19 + 2 * k < 1973 by omega) (by decide)) q674 q272 q273 q59 q274 kd_X7_set rfl rfl ⟨Nat.le_of_ble_eq_true rfl, Nat.le_of_ble_eq_true rfl⟩ (Nat.le_of_ble_eq_true rfl) dX6_begin_42 ⟨by have hgw := (Gw.rf (cp := cp)); have hg1 := hgw.1; have hg2 := hgw.2; have hkm := hB.kmax; show 0 + 0 ≤ 0; omega, by have hgw := (Gw.rf (cp := cp)); have hg1 := hgw.1; have hg2 := hgw.2; have hkm := hB.kmax; show 0 + 0 ≤ 0; omega⟩ (fun rv h3324 H3324 locs3324 hp3324 T3324 => ?_)
        obtain ⟨rfl, hB3324, hF3324⟩ := hp3324
        have hF_3324 : Fr (PO L B) h h3324 := hF_3319.tr (hF3324.mono (fun _ z => Or.inr z))
        refine W.eq (g2 := F0 m 45 ls3319 []) rfl ?_
        refine lv_aload_n hx hb dX6_begin_45 rfl (lv_at hl3319 0 rfl) ?_
        have hst30x3320_3324 : h3324 (L 30) = some (.inr (6, [.ref (L 0), .ref (B 6), .ref (B 7)]), L 30) := hF3324 _ _ hst30x3320 (fun ⟨i, hi, e⟩ => hLay.2 i 30 hi (by decide) e.symm)
        refine hr_get C T3324 hst30x3320_3324 rfl in_X6 0 (by decide) q179 rfl rfl dX6_begin_46 ?_
        have ho0_3324 : h3324 (L 0) = some (.inr (0, [.ref (L 1), .int (nI (N 0)), .ref (L 3), .int (nI (N 1)), .int (nI (N 2)), .int (nI (N 3)), .int (nI (N 4)), .int (nI (N 5)), .int (nI (N 6)), .int (nI (N 7)), .int (nI (N 8)), .ref (L 12), .ref (L 13), .ref (L 14), .ref (L 15), .ref (L 16), .ref (L 17), .int (nI (N 11)), .int (nI (N 15)), .int (nI (N 16)), .int (nI (N 17)), .int (nI (N 18) - 1), .int (nI (N 19)), .ref (L 24), .int (nI pp), .ref (L 26), .ref (L 27), .ref (if N 13 = 1 then L 27 else L 26), .ref (L 29), .ref (L 30), .ref (if N 12 = 1 then L 30 else L 29), .ref (L 32), .ref (B 0), .ref (B 1), .ref (B 2), .ref (B 3), .ref (L 37), .ref (L 38), .ref (L 39), .ref (B 4), .ref (B 5)]), L 0) := hF3324 _ _ ho0_3319 (fun ⟨i, hi, e⟩ => hLay.2 i 0 hi (by decide) e.symm)
        refine hr_getN C T3324 ho0_3324 rfl in_X1 23 (by decide) 31 rfl rfl rfl dX6_begin_49 ?_
        refine lv_iload_n hx hb dX6_begin_52 rfl (lv_at hl3319 1 rfl) ?_
        have hst24x3321_3324 : h3324 (L 24) = some (.inl (E.2.1 6, 16, .inr (.inr (.inr (.inr (fun k => some (L (70 + k))))))), L 30) := hF3324 _ _ hst24x3321 (fun ⟨i, hi, e⟩ => hLay.2 i 30 hi (by decide) e.symm)
        refine hr_aald C T3324 6 rfl hst24x3321_3324 (by omega) (by omega) rfl dX6_begin_53 ?_
        have hpr3322_3324 : h3324 (L (70 + k)) = some (.inr (8, [.int (pw k), .int (pl k), .int (ps2 k), .ref (B (19 + 2 * k)), .ref (B (20 + 2 * k))]), L 24) := hF3324 _ _ hpr3322 (fun ⟨i, hi, e⟩ => hLay.2 i 24 hi (by decide) e.symm)
        refine hr_getN C T3324 hpr3322_3324 rfl in_X9 4 (by decide) 25 rfl rfl rfl dX6_begin_54 ?_
        refine lv_lconst (v := lN 1) hx hb dX6_begin_57 rfl ?_
        obtain ⟨ca3325, hbo3325⟩ := hB3324.o (i := 20 + 2 * k) (show 20 + 2 * k < 1973 by omega)
        refine hc_V C T3324 hl3319.1 hbo3325 rfl (g_set (i := 20 + 2 * k) hB3324 (show 20 + 2 * k < 1973 by omega) (by decide)) q674 q272 q273 q59 q274 kd_X7_set rfl rfl ⟨Nat.le_of_ble_eq_true rfl, Nat.le_of_ble_eq_true rfl⟩ (Nat.le_of_ble_eq_true rfl) dX6_begin_58 ⟨by have hgw := (Gw.rf (cp := cp)); have hg1 := hgw.1; have hg2 := hgw.2; have hkm := hB3324.kmax; show 0 + 0 ≤ 0; omega, by have hgw := (Gw.rf (cp := cp)); have hg1 := hgw.1; have hg2 := hgw.2; have hkm := hB3324.kmax; show 0 + 0 ≤ 0; omega⟩ (fun rv h3326 H3326 locs3326 hp3326 T3326 => ?_)
        obtain ⟨rfl, hB3326, hF3326⟩ := hp3326
        have hF_3326 : Fr (PO L B) h h3326 := hF_3324.tr (hF3326.mono (fun _ z => Or.inr z))
        refine W.eq (g2 := F0 m 61 ls3319 []) rfl ?_
        refine lv_aload_n hx hb dX6_begin_61 rfl (lv_at hl3319 0 rfl) ?_
        have hst30x3320_3326 : h3326 (L 30) = some (.inr (6, [.ref (L 0), .ref (B 6), .ref (B 7)]), L 30) := hF3326 _ _ hst30x3320_3324 (fun ⟨i, hi, e⟩ => hLay.2 i 30 hi (by decide) e.symm)
        refine hr_get C T3326 hst30x3320_3326 rfl in_X6 0 (by decide) q179 rfl rfl dX6_begin_62 ?_
        have ho0_3326 : h3326 (L 0) = some (.inr (0, [.ref (L 1), .int (nI (N 0)), .ref (L 3), .int (nI (N 1)), .int (nI (N 2)), .int (nI (N 3)), .int (nI (N 4)), .int (nI (N 5)), .int (nI (N 6)), .int (nI (N 7)), .int (nI (N 8)), .ref (L 12), .ref (L 13), .ref (L 14), .ref (L 15), .ref (L 16), .ref (L 17), .int (nI (N 11)), .int (nI (N 15)), .int (nI (N 16)), .int (nI (N 17)), .int (nI (N 18) - 1), .int (nI (N 19)), .ref (L 24), .int (nI pp), .ref (L 26), .ref (L 27), .ref (if N 13 = 1 then L 27 else L 26), .ref (L 29), .ref (L 30), .ref (if N 12 = 1 then L 30 else L 29), .ref (L 32), .ref (B 0), .ref (B 1), .ref (B 2), .ref (B 3), .ref (L 37), .ref (L 38), .ref (L 39), .ref (B 4), .ref (B 5)]), L 0) := hF3326 _ _ ho0_3324 (fun ⟨i, hi, e⟩ => hLay.2 i 0 hi (by decide) e.symm)
        refine hr_getN C T3326 ho0_3326 rfl in_X1 23 (by decide) 31 rfl rfl rfl dX6_begin_65 ?_
        refine lv_iload_n hx hb dX6_begin_68 rfl (lv_at hl3319 1 rfl) ?_
        have hst24x3321_3326 : h3326 (L 24) = some (.inl (E.2.1 6, 16, .inr (.inr (.inr (.inr (fun k => some (L (70 + k))))))), L 30) := hF3326 _ _ hst24x3321_3324 (fun ⟨i, hi, e⟩ => hLay.2 i 30 hi (by decide) e.symm)
        refine hr_aald C T3326 6 rfl hst24x3321_3326 (by omega) (by omega) rfl dX6_begin_69 ?_
        have hpr3322_3326 : h3326 (L (70 + k)) = some (.inr (8, [.int (pw k), .int (pl k), .int (ps2 k), .ref (B (19 + 2 * k)), .ref (B (20 + 2 * k))]), L 24) := hF3326 _ _ hpr3322_3324 (fun ⟨i, hi, e⟩ => hLay.2 i 24 hi (by decide) e.symm)
        have hPr_3324 : Prs L B pw pl ps2 h3324 := Prs.kept hF3324 (fun ⟨i, hi, e⟩ => hLay.2 i 24 hi (by decide) e.symm) hPr
        have hPr_3326 : Prs L B pw pl ps2 h3326 := Prs.kept hF3326 (fun ⟨i, hi, e⟩ => hLay.2 i 24 hi (by decide) e.symm) hPr_3324
        refine lv_iconst (v := (-1)) hx hb dX6_begin_70 rfl ?_
        refine hr_putN C T3326 hpr3322_3326 rfl in_X9 tyX9 tyX9_ok nmX9 2 (by decide) 23 rfl rfl rfl rfl rfl (Nat.le_of_ble_eq_true rfl) dX6_begin_71 (fun h3327 H3327 locs3327 eh3327 T3327 => ?_)
        have hpr3322_3327 : h3327 (L (70 + k)) = some (.inr (8, [.int (pw k), .int (pl k), .int (-1), .ref (B (19 + 2 * k)), .ref (B (20 + 2 * k))]), L 24) := hu_s eh3327
        have hF_3327 : Fr (PO L B) h h3327 := hu_f eh3327 hF_3326 hpr3322_3326 (Or.inl rfl)
        have hP2 : Prs L B pw pl (upd ps2 k (-1)) h3327 := hPr_3326.puts hLay (by omega) eh3327
        refine lv_iinc (v := nI (k + 1)) (lv' := [(1, .int (nI (k + 1))), (0, .ref (L 30))]) hx hb dX6_begin_74 hl3319 (k := 1) rfl (nI_add k 1) (by decide) rfl (fun ls3328 hl3328 => ?_)
        refine lv_goto (tgt := 18) hx hb dX6_begin_77 (by decide) ?_
        have hB3326_3327 : Bgs E h3327 B (nu (nu V2 (19 + 2 * k) 1) (20 + 2 * k) 1) cp := Bgs.kept (O := (· = L 24)) (hu_f eh3327 Fr.rf hpr3322_3326 rfl) (fun i hi => hLay.2 i 24 hi (by decide)) hB3326
        have hSt_3324 : Stt E L B h3324 := Stt.kept hF3324 (fun ⟨i, hi, e⟩ => hLay.2 i 30 hi (by decide) e.symm) hSt
        have hSt_3326 : Stt E L B h3326 := Stt.kept hF3326 (fun ⟨i, hi, e⟩ => hLay.2 i 30 hi (by decide) e.symm) hSt_3324
        have hSt_3327 : Stt E L B h3327 := Stt.kept (O := (· = L 24)) (hu_f eh3327 Fr.rf hpr3322_3326 rfl) (hLay.1 30 24 (by decide) (by decide) (by decide)) hSt_3326
        have ho0_3327 : h3327 (L 0) = some (.inr (0, [.ref (L 1), .int (nI (N 0)), .ref (L 3), .int (nI (N 1)), .int (nI (N 2)), .int (nI (N 3)), .int (nI (N 4)), .int (nI (N 5)), .int (nI (N 6)), .int (nI (N 7)), .int (nI (N 8)), .ref (L 12), .ref (L 13), .ref (L 14), .ref (L 15), .ref (L 16), .ref (L 17), .int (nI (N 11)), .int (nI (N 15)), .int (nI (N 16)), .int (nI (N 17)), .int (nI (N 18) - 1), .int (nI (N 19)), .ref (L 24), .int (nI pp), .ref (L 26), .ref (L 27), .ref (if N 13 = 1 then L 27 else L 26), .ref (L 29), .ref (L 30), .ref (if N 12 = 1 then L 30 else L 29), .ref (L 32), .ref (B 0), .ref (B 1), .ref (B 2), .ref (B 3), .ref (L 37), .ref (L 38), .ref (L 39), .ref (B 4), .ref (B 5)]), L 0) := hu_n eh3327 (hLay.1 0 (70 + k) (by omega) (by omega) (by omega)) ho0_3326
        exact ih3319 (k + 1) _ _ _ _ _ _ (by omega) ho0_3327 (by omega) hB3326_3327 hSt_3327 hP2 (fun i hi => by by_cases z : i = k; (rw [z, nu_n (show 19 + 2 * k ≠ 20 + 2 * k by omega), nu_s, nu_s, pk_us]; exact ⟨rfl, rfl, rfl⟩); (rw [nu_n (show 19 + 2 * i ≠ 20 + 2 * k by omega), nu_n (show 19 + 2 * i ≠ 19 + 2 * k by omega), nu_n (show 20 + 2 * i ≠ 20 + 2 * k by omega), nu_n (show 20 + 2 * i ≠ 19 + 2 * k by omega), pk_un z]; exact hv i (by omega))) (fun n hn => by rw [nu_n (by omega), nu_n (by omega)]; exact hkp n hn) hF_3327 T3327 (lv_sub hl3328 [1, 0] rfl)
  have hSt_3315 : Stt E L B h3315 := Stt.kept hF3315 (fun ⟨i, hi, e⟩ => hLay.2 i 30 hi (by decide) e.symm) hSt
  have hSt_3317 : Stt E L B h3317 := Stt.kept hF3317 (fun ⟨i, hi, e⟩ => hLay.2 i 30 hi (by decide) e.symm) hSt_3315
  have hPr_3315 : Prs L B pw pl ps h3315 := Prs.kept hF3315 (fun ⟨i, hi, e⟩ => hLay.2 i 24 hi (by decide) e.symm) hPr
  have hPr_3317 : Prs L B pw pl ps h3317 := Prs.kept hF3317 (fun ⟨i, hi, e⟩ => hLay.2 i 24 hi (by decide) e.symm) hPr_3315
  have ho0_3315 : h3315 (L 0) = some (.inr (0, [.ref (L 1), .int (nI (N 0)), .ref (L 3), .int (nI (N 1)), .int (nI (N 2)), .int (nI (N 3)), .int (nI (N 4)), .int (nI (N 5)), .int (nI (N 6)), .int (nI (N 7)), .int (nI (N 8)), .ref (L 12), .ref (L 13), .ref (L 14), .ref (L 15), .ref (L 16), .ref (L 17), .int (nI (N 11)), .int (nI (N 15)), .int (nI (N 16)), .int (nI (N 17)), .int (nI (N 18) - 1), .int (nI (N 19)), .ref (L 24), .int (nI pp), .ref (L 26), .ref (L 27), .ref (if N 13 = 1 then L 27 else L 26), .ref (L 29), .ref (L 30), .ref (if N 12 = 1 then L 30 else L 29), .ref (L 32), .ref (B 0), .ref (B 1), .ref (B 2), .ref (B 3), .ref (L 37), .ref (L 38), .ref (L 39), .ref (B 4), .ref (B 5)]), L 0) := hF3315 _ _ ho0 (fun ⟨i, hi, e⟩ => hLay.2 i 0 hi (by decide) e.symm)
  have ho0_3317 : h3317 (L 0) = some (.inr (0, [.ref (L 1), .int (nI (N 0)), .ref (L 3), .int (nI (N 1)), .int (nI (N 2)), .int (nI (N 3)), .int (nI (N 4)), .int (nI (N 5)), .int (nI (N 6)), .int (nI (N 7)), .int (nI (N 8)), .ref (L 12), .ref (L 13), .ref (L 14), .ref (L 15), .ref (L 16), .ref (L 17), .int (nI (N 11)), .int (nI (N 15)), .int (nI (N 16)), .int (nI (N 17)), .int (nI (N 18) - 1), .int (nI (N 19)), .ref (L 24), .int (nI pp), .ref (L 26), .ref (L 27), .ref (if N 13 = 1 then L 27 else L 26), .ref (L 29), .ref (L 30), .ref (if N 12 = 1 then L 30 else L 29), .ref (L 32), .ref (B 0), .ref (B 1), .ref (B 2), .ref (B 3), .ref (L 37), .ref (L 38), .ref (L 39), .ref (B 4), .ref (B 5)]), L 0) := hF3317 _ _ ho0_3315 (fun ⟨i, hi, e⟩ => hLay.2 i 0 hi (by decide) e.symm)
  exact L1 (pp + 1) 0 (nu (nu V 6 1) 7 1) ps _ _ _ _ (by omega) ho0_3317 (Nat.zero_le _) hB3317 hSt_3317 hPr_3317 (fun i hi => absurd hi (by omega)) (fun _ _ => rfl) hF_3317 T3317 (lv_sub hl3318 [1, 0] rfl)

set_option maxHeartbeats 4000000 in
theorem m_X5_look {E : GE} {l : Launch} {h : HH} {L B N V cp : Nat → Nat} {M : Nat → Nat → Nat} {pp : Nat} {g pw pl ps : Nat → Int32} (hLay : Lay L B) (hB : Bgs E h B V cp) (ho0 : h (L 0) = some (.inr (0, [.ref (L 1), .int (nI (N 0)), .ref (L 3), .int (nI (N 1)), .int (nI (N 2)), .int (nI (N 3)), .int (nI (N 4)), .int (nI (N 5)), .int (nI (N 6)), .int (nI (N 7)), .int (nI (N 8)), .ref (L 12), .ref (L 13), .ref (L 14), .ref (L 15), .ref (L 16), .ref (L 17), .int (nI (N 11)), .int (nI (N 15)), .int (nI (N 16)), .int (nI (N 17)), .int (nI (N 18) - 1), .int (nI (N 19)), .ref (L 24), .int (nI pp), .ref (L 26), .ref (L 27), .ref (if N 13 = 1 then L 27 else L 26), .ref (L 29), .ref (L 30), .ref (if N 12 = 1 then L 30 else L 29), .ref (L 32), .ref (B 0), .ref (B 1), .ref (B 2), .ref (B 3), .ref (L 37), .ref (L 38), .ref (L 39), .ref (B 4), .ref (B 5)]), L 0)) (hSt : Stt E L B h) (hPr : Prs L B pw pl ps h) (rp16 : pp ≤ 16) (ha1 : h (L 1) = some (.inl (E.2.1 0, 8, .inl g), L 0)) (r1 : ∀ i, i < 8 → g i = nI (M 0 i)) (iv : ∀ i, i < 8 → M 0 i ≤ 1000000) (hPW : PWh M pw pl pp) {r x d : Int32} (hl5 : N 5 ≤ 1000000) (hl6 : N 6 ≤ 1000000) (hlm : ∀ k, k < pp → lm (V (19 + 2 * k)) ≤ 120 ∧ lm (V (20 + 2 * k)) ≤ 120) : MG E l yX5_look cX5_look 6 none ({ frames := 4, cells := (KX - ksum cp NB) / 8 + 8, slots := 2 * (KX - ksum cp NB) + 2048, locals := 600 } : Room) [.ref (L 29), .int r, .int x, .int d] h (fun rv h2 dc ds => rv = none ∧ ∃ V2 c2 ps2, Bgs E h2 B V2 c2 ∧ Prs L B pw pl ps2 h2 ∧ (∀ i, i < pp → V2 (19 + 2 * i) = fA M V x i ∧ V2 (20 + 2 * i) = fB M V x i ∧ ps2 i = fS N M V ps x d i) ∧ (∀ n, 1 < n → (n < 19 ∨ 50 < n) → V2 n = V n) ∧ Fr (PO L B) h h2 ∧ Gw cp c2 dc ds) := by
  refine hn_v (by decide) (Nat.le_of_ble_eq_true rfl) ?_
  intro p e s m below meth c C hnm Q Z ls T hl
  have hx := C.x
  have hb := C.b
  have hl : lv_has ls 6 [(0, .ref (L 29)), (1, .int r), (2, .int x), (3, .int d)] := hl
  have hF : Fr (PO L B) h h := Fr.rf
  have hst29x3329 := (hSt).2.2.2.1
  refine lv_iconst (v := nI 0) hx hb dX5_look_0 rfl ?_
  refine lv_istore (lv' := [(4, .int (nI 0)), (0, .ref (L 29)), (1, .int r), (2, .int x), (3, .int d)]) hx hb dX5_look_1 hl (by decide) rfl (fun ls3330 hl3330 => ?_)
  have L1 : ∀ (j : Nat) (k : Nat) (V2 c2 : Nat → Nat) (ps2 : Nat → Int32) (cc_ ss_ : Nat) (h3331 : HH) (H3331 : Heap) (locs3331 : List Loc) (ls3331 : Array Slot), (pp + 1 ≤ k + j) → (h3331 (L 0) = some (.inr (0, [.ref (L 1), .int (nI (N 0)), .ref (L 3), .int (nI (N 1)), .int (nI (N 2)), .int (nI (N 3)), .int (nI (N 4)), .int (nI (N 5)), .int (nI (N 6)), .int (nI (N 7)), .int (nI (N 8)), .ref (L 12), .ref (L 13), .ref (L 14), .ref (L 15), .ref (L 16), .ref (L 17), .int (nI (N 11)), .int (nI (N 15)), .int (nI (N 16)), .int (nI (N 17)), .int (nI (N 18) - 1), .int (nI (N 19)), .ref (L 24), .int (nI pp), .ref (L 26), .ref (L 27), .ref (if N 13 = 1 then L 27 else L 26), .ref (L 29), .ref (L 30), .ref (if N 12 = 1 then L 30 else L 29), .ref (L 32), .ref (B 0), .ref (B 1), .ref (B 2), .ref (B 3), .ref (L 37), .ref (L 38), .ref (L 39), .ref (B 4), .ref (B 5)]), L 0)) → (h3331 (L 1) = some (.inl (E.2.1 0, 8, .inl g), L 0)) → (k ≤ pp) → (Bgs E h3331 B V2 c2) → (Gw cp c2 cc_ ss_) → (Stt E L B h3331) → (Prs L B pw pl ps2 h3331) → (∀ i, i < k → V2 (19 + 2 * i) = fA M V x i ∧ V2 (20 + 2 * i) = fB M V x i ∧ ps2 i = fS N M V ps x d i) → (∀ i, k ≤ i → i < 16 → V2 (19 + 2 * i) = V (19 + 2 * i) ∧ V2 (20 + 2 * i) = V (20 + 2 * i) ∧ ps2 i = ps i) → (∀ n, 1 < n → (n < 19 ∨ 50 < n) → V2 n = V n) → (Fr (PO L B) h h3331) → (St E s h3331 H3331 locs3331) → (lv_has ls3331 6 [(0, .ref (L 29)), (2, .int x), (3, .int d), (4, .int (nI k))]) → W p l e ({ frames := 4, cells := (KX - ksum cp NB) / 8 + 8, slots := 2 * (KX - ksum cp NB) + 2048, locals := 600 } : Room) s m ([.ref (L 29), .int r, .int x, .int d] : List Value).toArray below meth c H3331 locs3331 cc_ ss_ Q (F0 m 3 ls3331 []) := by
    intro j
    induction j with
    | zero => intro k V2 c2 ps2 cc_ ss_ h3331 H3331 locs3331 ls3331 hm3331 ho0_3331 ha1_3331 hk hB hW hSt hPr hv hv2 hkp hF_3331 T3331 hl3331; exact absurd hm3331 (by omega)
    | succ j ih3331 =>
      intro k V2 c2 ps2 cc_ ss_ h3331 H3331 locs3331 ls3331 hm3331 ho0_3331 ha1_3331 hk hB hW hSt hPr hv hv2 hkp hF_3331 T3331 hl3331
      have hst29x3332 := (hSt).2.2.2.1
      refine lv_iload hx hb dX5_look_3 (lv_at hl3331 3 rfl) ?_
      refine lv_aload_n hx hb dX5_look_5 rfl (lv_at hl3331 0 rfl) ?_
      refine hr_get C T3331 hst29x3332 rfl in_X5 0 (by decide) q154 rfl rfl dX5_look_6 ?_
      refine hr_getN C T3331 ho0_3331 rfl in_X1 24 (by decide) 20 rfl rfl rfl dX5_look_9 ?_
      refine hn_icmp_ge (tgt := 143) hx hb dX5_look_12 (by decide) (by omega) (by omega) (fun c1 => ?_) (fun c1 => ?_)
      · have e1 : k = pp := by omega
        subst e1
        exact Z _ _ _ _ _ _ _ dX5_look_143 (by have hgw := (hW); have hg1 := hgw.1; have hg2 := hgw.2; have hkm := hB.kmax; show cc_ ≤ (KX - ksum cp NB) / 8 + 8; omega) (by have hgw := (hW); have hg1 := hgw.1; have hg2 := hgw.2; have hkm := hB.kmax; show ss_ ≤ 2 * (KX - ksum cp NB) + 2048; omega) ⟨rfl, V2, c2, ps2, hB, hPr, hv, hkp, hF_3331, hW⟩ T3331
      · obtain ⟨hw1, hw2, hw4, hw5, hlt⟩ := hPW k (by omega)
        obtain ⟨hv20, hv21, hv22⟩ := hv2 k (Nat.le_refl _) (by omega)
        obtain ⟨hlm1, hlm2⟩ := hlm k (by omega)
        refine lv_aload_n hx hb dX5_look_15 rfl (lv_at hl3331 0 rfl) ?_
        refine hr_get C T3331 hst29x3332 rfl in_X5 0 (by decide) q154 rfl rfl dX5_look_16 ?_
        refine hr_getN C T3331 ho0_3331 rfl in_X1 23 (by decide) 19 rfl rfl rfl dX5_look_19 ?_
        refine lv_iload hx hb dX5_look_22 (lv_at hl3331 3 rfl) ?_
        have hst24x3333 := (hSt).1
        refine hr_aald C T3331 6 rfl hst24x3333 (by omega) (by omega) rfl dX5_look_24 ?_
        have hpr3334 := hPr k (by omega)
        refine lv_astore (lv' := [(5, .ref (L (70 + k))), (0, .ref (L 29)), (2, .int x), (3, .int d), (4, .int (nI k))]) hx hb dX5_look_25 hl3331 (by decide) rfl (fun ls3335 hl3335 => ?_)
        refine lv_iload_n hx hb dX5_look_27 rfl (lv_at hl3335 2 rfl) ?_
        refine lv_aload hx hb dX5_look_28 (lv_at hl3335 0 rfl) ?_
        refine hr_getN C T3331 hpr3334 rfl in_X9 0 (by decide) 13 rfl rfl rfl dX5_look_30 ?_
        rw [show pw k = nI (M 4 k) from hw1]
        have J48 : ∀  (H3336 : Heap) (locs3336 : List Loc) (ls3336 : Array Slot), (hit M x k) → (St E s h3331 H3336 locs3336) → (lv_has ls3336 6 [(5, .ref (L (70 + k))), (0, .ref (L 29)), (2, .int x), (3, .int d), (4, .int (nI k))]) → W p l e ({ frames := 4, cells := (KX - ksum cp NB) / 8 + 8, slots := 2 * (KX - ksum cp NB) + 2048, locals := 600 } : Room) s m ([.ref (L 29), .int r, .int x, .int d] : List Value).toArray below meth c H3336 locs3336 cc_ ss_ Q (F0 m 48 ls3336 []) := by
          intro  H3336 locs3336 ls3336 hh T3336 hl3336
          obtain ⟨a, ha8, rfl⟩ : ∃ a, a < 8 ∧ x = nI a := by rcases hh with z | z; exact ⟨_, hw4, z⟩; exact ⟨_, hw5, z⟩
          have hun : un (nI a) = a := un_nI' (by omega)
          have hva := iv a ha8
          have hv4 := iv _ hw4
          have hv5 := iv _ hw5
          refine lv_aload hx hb dX5_look_48 (lv_at hl3336 0 rfl) ?_
          refine hr_getN C T3336 hpr3334 rfl in_X9 3 (by decide) 16 rfl rfl rfl dX5_look_50 ?_
          refine lv_iconst (v := nI 2) hx hb dX5_look_53 rfl ?_
          refine lv_aload_n hx hb dX5_look_54 rfl (lv_at hl3336 1 rfl) ?_
          refine hr_get C T3336 hst29x3332 rfl in_X5 0 (by decide) q154 rfl rfl dX5_look_55 ?_
          refine hr_getN C T3336 ho0_3331 rfl in_X1 0 (by decide) 18 rfl rfl rfl dX5_look_58 ?_
          refine lv_iload_n hx hb dX5_look_61 rfl (lv_at hl3336 2 rfl) ?_
          refine hr_iald C T3336 ha1_3331 (by omega) (by omega) dX5_look_62 ?_
          rw [show g a = nI (M 0 a) from r1 a ha8]
          refine hn_imul hx hb dX5_look_63 ?_
          obtain ⟨ca3337, hbo3337⟩ := hB.o (i := 19 + 2 * k) (show 19 + 2 * k < 1973 by omega)
          refine hg_V C T3336 hl3336.1 hbo3337 rfl (g_times (i := 19 + 2 * k) hB (show 19 + 2 * k < 1973 by omega) (by omega) (by rw [hv20]; omega)) q795 q787 q788 q59 q789 kd_X7_times rfl rfl ⟨Nat.le_of_ble_eq_true rfl, Nat.le_of_ble_eq_true rfl⟩ (Nat.le_of_ble_eq_true rfl) dX5_look_64 ⟨by have hgw := (hW); have hg1 := hgw.1; have hg2 := hgw.2; have hkm := hB.kmax; have := gc_le (c2 (19 + 2 * k)) (lm (V2 (19 + 2 * k)) + 1); have := gs_le ((hB.1 (19 + 2 * k) (show 19 + 2 * k < 1973 by omega)).cap.2.2) (show lm (V2 (19 + 2 * k)) + 1 ≤ 128 from (by rw [hv20]; omega)); show cc_ + (gc (c2 (19 + 2 * k)) (lm (V2 (19 + 2 * k)) + 1)) ≤ (KX - ksum cp NB) / 8 + 8; omega, by have hgw := (hW); have hg1 := hgw.1; have hg2 := hgw.2; have hkm := hB.kmax; have := gc_le (c2 (19 + 2 * k)) (lm (V2 (19 + 2 * k)) + 1); have := gs_le ((hB.1 (19 + 2 * k) (show 19 + 2 * k < 1973 by omega)).cap.2.2) (show lm (V2 (19 + 2 * k)) + 1 ≤ 128 from (by rw [hv20]; omega)); show ss_ + (gs (c2 (19 + 2 * k)) (lm (V2 (19 + 2 * k)) + 1)) ≤ 2 * (KX - ksum cp NB) + 2048; omega⟩ (fun rv h3338 dc3338 ds3338 H3338 locs3338 hp3338 T3338 => ?_)
          obtain ⟨rfl, c3338, hB3338, hF3338, hw3338⟩ := hp3338
          have hW3338 := (hW).tr hw3338
          have hF_3338 : Fr (PO L B) h h3338 := hF_3331.tr (hF3338.mono (fun _ z => Or.inr z))
          refine W.eq (g2 := F0 m 67 ls3336 []) rfl ?_
          refine lv_aload hx hb dX5_look_67 (lv_at hl3336 0 rfl) ?_
          have hpr3334_3338 : h3338 (L (70 + k)) = some (.inr (8, [.int (pw k), .int (pl k), .int (ps2 k), .ref (B (19 + 2 * k)), .ref (B (20 + 2 * k))]), L 24) := hF3338 _ _ hpr3334 (fun ⟨i, hi, e⟩ => hLay.2 i 24 hi (by decide) e.symm)
          refine hr_getN C T3338 hpr3334_3338 rfl in_X9 4 (by decide) 17 rfl rfl rfl dX5_look_69 ?_
          refine lv_aload_n hx hb dX5_look_72 rfl (lv_at hl3336 1 rfl) ?_
          have hst29x3332_3338 : h3338 (L 29) = some (.inr (5, [.ref (L 0)]), L 30) := hF3338 _ _ hst29x3332 (fun ⟨i, hi, e⟩ => hLay.2 i 30 hi (by decide) e.symm)
          refine hr_get C T3338 hst29x3332_3338 rfl in_X5 0 (by decide) q154 rfl rfl dX5_look_73 ?_
          have ho0_3338 : h3338 (L 0) = some (.inr (0, [.ref (L 1), .int (nI (N 0)), .ref (L 3), .int (nI (N 1)), .int (nI (N 2)), .int (nI (N 3)), .int (nI (N 4)), .int (nI (N 5)), .int (nI (N 6)), .int (nI (N 7)), .int (nI (N 8)), .ref (L 12), .ref (L 13), .ref (L 14), .ref (L 15), .ref (L 16), .ref (L 17), .int (nI (N 11)), .int (nI (N 15)), .int (nI (N 16)), .int (nI (N 17)), .int (nI (N 18) - 1), .int (nI (N 19)), .ref (L 24), .int (nI pp), .ref (L 26), .ref (L 27), .ref (if N 13 = 1 then L 27 else L 26), .ref (L 29), .ref (L 30), .ref (if N 12 = 1 then L 30 else L 29), .ref (L 32), .ref (B 0), .ref (B 1), .ref (B 2), .ref (B 3), .ref (L 37), .ref (L 38), .ref (L 39), .ref (B 4), .ref (B 5)]), L 0) := hF3338 _ _ ho0_3331 (fun ⟨i, hi, e⟩ => hLay.2 i 0 hi (by decide) e.symm)
          refine hr_getN C T3338 ho0_3338 rfl in_X1 0 (by decide) 18 rfl rfl rfl dX5_look_76 ?_
          refine lv_aload hx hb dX5_look_79 (lv_at hl3336 0 rfl) ?_
          refine hr_getN C T3338 hpr3334_3338 rfl in_X9 0 (by decide) 13 rfl rfl rfl dX5_look_81 ?_
          rw [show pw k = nI (M 4 k) from hw1]
          have ha1_3338 : h3338 (L 1) = some (.inl (E.2.1 0, 8, .inl g), L 0) := hF3338 _ _ ha1_3331 (fun ⟨i, hi, e⟩ => hLay.2 i 0 hi (by decide) e.symm)
          refine hr_iald C T3338 ha1_3338 (by omega) (by omega) dX5_look_84 ?_
          rw [show g (M 4 k) = nI (M 0 (M 4 k)) from r1 _ hw4]
          refine lv_aload_n hx hb dX5_look_85 rfl (lv_at hl3336 1 rfl) ?_
          refine hr_get C T3338 hst29x3332_3338 rfl in_X5 0 (by decide) q154 rfl rfl dX5_look_86 ?_
          refine hr_getN C T3338 ho0_3338 rfl in_X1 0 (by decide) 18 rfl rfl rfl dX5_look_89 ?_
          refine lv_aload hx hb dX5_look_92 (lv_at hl3336 0 rfl) ?_
          refine hr_getN C T3338 hpr3334_3338 rfl in_X9 1 (by decide) 14 rfl rfl rfl dX5_look_94 ?_
          rw [show pl k = nI (M 5 k) from hw2]
          refine hr_iald C T3338 ha1_3338 (by omega) (by omega) dX5_look_97 ?_
          rw [show g (M 5 k) = nI (M 0 (M 5 k)) from r1 _ hw5]
          refine hn_iadd hx hb dX5_look_98 ?_
          obtain ⟨ca3339, hbo3339⟩ := hB3338.o (i := 20 + 2 * k) (show 20 + 2 * k < 1973 by omega)
          refine hg_V C T3338 hl3336.1 hbo3339 rfl (g_times (i := 20 + 2 * k) hB3338 (show 20 + 2 * k < 1973 by omega) (by omega) (by rw [nu_n (by omega), hv21]; omega)) q795 q787 q788 q59 q789 kd_X7_times rfl rfl ⟨Nat.le_of_ble_eq_true rfl, Nat.le_of_ble_eq_true rfl⟩ (Nat.le_of_ble_eq_true rfl) dX5_look_99 ⟨by have hgw := (hW3338); have hg1 := hgw.1; have hg2 := hgw.2; have hkm := hB3338.kmax; have := gc_le ((nu c2 (19 + 2 * k) c3338) (20 + 2 * k)) (lm ((nu V2 (19 + 2 * k) (V2 (19 + 2 * k) * (2 * M 0 a))) (20 + 2 * k)) + 1); have := gs_le ((hB3338.1 (20 + 2 * k) (show 20 + 2 * k < 1973 by omega)).cap.2.2) (show lm ((nu V2 (19 + 2 * k) (V2 (19 + 2 * k) * (2 * M 0 a))) (20 + 2 * k)) + 1 ≤ 128 from (by rw [nu_n (by omega), hv21]; omega)); show cc_ + dc3338 + (gc ((nu c2 (19 + 2 * k) c3338) (20 + 2 * k)) (lm ((nu V2 (19 + 2 * k) (V2 (19 + 2 * k) * (2 * M 0 a))) (20 + 2 * k)) + 1)) ≤ (KX - ksum cp NB) / 8 + 8; omega, by have hgw := (hW3338); have hg1 := hgw.1; have hg2 := hgw.2; have hkm := hB3338.kmax; have := gc_le ((nu c2 (19 + 2 * k) c3338) (20 + 2 * k)) (lm ((nu V2 (19 + 2 * k) (V2 (19 + 2 * k) * (2 * M 0 a))) (20 + 2 * k)) + 1); have := gs_le ((hB3338.1 (20 + 2 * k) (show 20 + 2 * k < 1973 by omega)).cap.2.2) (show lm ((nu V2 (19 + 2 * k) (V2 (19 + 2 * k) * (2 * M 0 a))) (20 + 2 * k)) + 1 ≤ 128 from (by rw [nu_n (by omega), hv21]; omega)); show ss_ + ds3338 + (gs ((nu c2 (19 + 2 * k) c3338) (20 + 2 * k)) (lm ((nu V2 (19 + 2 * k) (V2 (19 + 2 * k) * (2 * M 0 a))) (20 + 2 * k)) + 1)) ≤ 2 * (KX - ksum cp NB) + 2048; omega⟩ (fun rv h3340 dc3340 ds3340 H3340 locs3340 hp3340 T3340 => ?_)
          obtain ⟨rfl, c3340, hB3340, hF3340, hw3340⟩ := hp3340
          have hW3340 := (hW3338).tr hw3340
          have hF_3340 : Fr (PO L B) h h3340 := hF_3338.tr (hF3340.mono (fun _ z => Or.inr z))
          refine W.eq (g2 := F0 m 102 ls3336 []) rfl ?_
          have hA : (nu (nu V2 (19 + 2 * k) (V2 (19 + 2 * k) * (2 * M 0 a))) (20 + 2 * k) ((nu V2 (19 + 2 * k) (V2 (19 + 2 * k) * (2 * M 0 a))) (20 + 2 * k) * (M 0 (M 4 k) + M 0 (M 5 k)))) (19 + 2 * k) = fA M V (nI a) k := by rw [nu_n (by omega), nu_s, hv20]; unfold fA; rw [if_pos hh, hun]
          have hBB : (nu (nu V2 (19 + 2 * k) (V2 (19 + 2 * k) * (2 * M 0 a))) (20 + 2 * k) ((nu V2 (19 + 2 * k) (V2 (19 + 2 * k) * (2 * M 0 a))) (20 + 2 * k) * (M 0 (M 4 k) + M 0 (M 5 k)))) (20 + 2 * k) = fB M V (nI a) k := by rw [nu_s, nu_n (by omega), hv21]; unfold fB; rw [if_pos hh]
          have hlA : lm (fA M V (nI a) k) + 1 ≤ 128 := by rw [← hA, nu_n (by omega), nu_s, hv20]; have := lm_mul1 (a := V (19 + 2 * k)) (show 2 * M 0 a < 4294967296 by omega); omega
          have hlB : lm (fB M V (nI a) k) + 1 ≤ 128 := by rw [← hBB, nu_s, nu_n (by omega), hv21]; have := lm_mul1 (a := V (20 + 2 * k)) (show M 0 (M 4 k) + M 0 (M 5 k) < 4294967296 by omega); omega
          have hot : ∀ n, n ≠ 19 + 2 * k → n ≠ 20 + 2 * k → (nu (nu V2 (19 + 2 * k) (V2 (19 + 2 * k) * (2 * M 0 a))) (20 + 2 * k) ((nu V2 (19 + 2 * k) (V2 (19 + 2 * k) * (2 * M 0 a))) (20 + 2 * k) * (M 0 (M 4 k) + M 0 (M 5 k)))) n = V2 n := fun n h1 h2 => by rw [nu_n h2, nu_n h1]
          generalize nu (nu V2 (19 + 2 * k) (V2 (19 + 2 * k) * (2 * M 0 a))) (20 + 2 * k) ((nu V2 (19 + 2 * k) (V2 (19 + 2 * k) * (2 * M 0 a))) (20 + 2 * k) * (M 0 (M 4 k) + M 0 (M 5 k))) = Vy at *
          generalize nu (nu c2 (19 + 2 * k) c3338) (20 + 2 * k) c3340 = cy at *
          refine lv_aload hx hb dX5_look_102 (lv_at hl3336 0 rfl) ?_
          have hpr3334_3340 : h3340 (L (70 + k)) = some (.inr (8, [.int (pw k), .int (pl k), .int (ps2 k), .ref (B (19 + 2 * k)), .ref (B (20 + 2 * k))]), L 24) := hF3340 _ _ hpr3334_3338 (fun ⟨i, hi, e⟩ => hLay.2 i 24 hi (by decide) e.symm)
          refine hr_getN C T3340 hpr3334_3340 rfl in_X9 2 (by decide) 15 rfl rfl rfl dX5_look_104 ?_
          refine lv_iconst (v := (-1)) hx hb dX5_look_107 rfl ?_
          refine zi_icmp_ne (tgt := 137) (X := (ps2 k).toInt) (Y := (-1)) hx hb dX5_look_108 (by decide) rfl rfl (fun c3 => ?_) (fun c3 => ?_)
          · have hot2 : ∀ n, n ≠ 0 → n ≠ 1 → n ≠ 19 + 2 * k → n ≠ 20 + 2 * k → Vy n = V2 n := fun n _ _ h1 h2 => hot n h1 h2
            refine lv_iinc (v := nI (k + 1)) (lv' := [(4, .int (nI (k + 1))), (5, .ref (L (70 + k))), (0, .ref (L 29)), (2, .int (nI a)), (3, .int d)]) hx hb dX5_look_137 hl3336 (k := 4) rfl (nI_add k 1) (by decide) rfl (fun ls3341 hl3341 => ?_)
            refine lv_goto (tgt := 3) hx hb dX5_look_140 (by decide) ?_
            have hSt_3338 : Stt E L B h3338 := Stt.kept hF3338 (fun ⟨i, hi, e⟩ => hLay.2 i 30 hi (by decide) e.symm) hSt
            have hSt_3340 : Stt E L B h3340 := Stt.kept hF3340 (fun ⟨i, hi, e⟩ => hLay.2 i 30 hi (by decide) e.symm) hSt_3338
            have hPr_3338 : Prs L B pw pl ps2 h3338 := Prs.kept hF3338 (fun ⟨i, hi, e⟩ => hLay.2 i 24 hi (by decide) e.symm) hPr
            have hPr_3340 : Prs L B pw pl ps2 h3340 := Prs.kept hF3340 (fun ⟨i, hi, e⟩ => hLay.2 i 24 hi (by decide) e.symm) hPr_3338
            have ho0_3340 : h3340 (L 0) = some (.inr (0, [.ref (L 1), .int (nI (N 0)), .ref (L 3), .int (nI (N 1)), .int (nI (N 2)), .int (nI (N 3)), .int (nI (N 4)), .int (nI (N 5)), .int (nI (N 6)), .int (nI (N 7)), .int (nI (N 8)), .ref (L 12), .ref (L 13), .ref (L 14), .ref (L 15), .ref (L 16), .ref (L 17), .int (nI (N 11)), .int (nI (N 15)), .int (nI (N 16)), .int (nI (N 17)), .int (nI (N 18) - 1), .int (nI (N 19)), .ref (L 24), .int (nI pp), .ref (L 26), .ref (L 27), .ref (if N 13 = 1 then L 27 else L 26), .ref (L 29), .ref (L 30), .ref (if N 12 = 1 then L 30 else L 29), .ref (L 32), .ref (B 0), .ref (B 1), .ref (B 2), .ref (B 3), .ref (L 37), .ref (L 38), .ref (L 39), .ref (B 4), .ref (B 5)]), L 0) := hF3340 _ _ ho0_3338 (fun ⟨i, hi, e⟩ => hLay.2 i 0 hi (by decide) e.symm)
            have ha1_3340 : h3340 (L 1) = some (.inl (E.2.1 0, 8, .inl g), L 0) := hF3340 _ _ ha1_3338 (fun ⟨i, hi, e⟩ => hLay.2 i 0 hi (by decide) e.symm)
            exact ih3331 (k + 1) _ _ _ _ _ _ _ _ _ (by omega) ho0_3340 ha1_3340 (by omega) hB3340 hW3340 hSt_3340 hPr_3340 (fun i hi => by by_cases z : i = k; (rw [z]; exact ⟨hA, hBB, by unfold fS; rw [if_neg (fun z => c3 (im1.mpr (hv22.trans z.2.1)))]; exact hv22⟩); (rw [hot2 _ (by omega) (by omega) (by omega) (by omega), hot2 _ (by omega) (by omega) (by omega) (by omega)]; exact ⟨(hv i (by omega)).1, (hv i (by omega)).2.1, (hv i (by omega)).2.2⟩)) (fun i h1 h2 => by rw [hot2 _ (by omega) (by omega) (by omega) (by omega), hot2 _ (by omega) (by omega) (by omega) (by omega)]; exact ⟨(hv2 i (by omega) h2).1, (hv2 i (by omega) h2).2.1, (hv2 i (by omega) h2).2.2⟩) (fun n h1 hn => by rw [hot2 n (by omega) (by omega) (by omega) (by omega)]; exact hkp n h1 hn) hF_3340 T3340 (lv_sub hl3341 [2, 3, 4, 0] rfl)
          · refine lv_aload_n hx hb dX5_look_111 rfl (lv_at hl3336 1 rfl) ?_
            have hst29x3332_3340 : h3340 (L 29) = some (.inr (5, [.ref (L 0)]), L 30) := hF3340 _ _ hst29x3332_3338 (fun ⟨i, hi, e⟩ => hLay.2 i 30 hi (by decide) e.symm)
            refine hr_get C T3340 hst29x3332_3340 rfl in_X5 0 (by decide) q154 rfl rfl dX5_look_112 ?_
            refine lv_aload hx hb dX5_look_115 (lv_at hl3336 0 rfl) ?_
            refine hr_getN C T3340 hpr3334_3340 rfl in_X9 3 (by decide) 16 rfl rfl rfl dX5_look_117 ?_
            refine lv_aload hx hb dX5_look_120 (lv_at hl3336 0 rfl) ?_
            refine hr_getN C T3340 hpr3334_3340 rfl in_X9 4 (by decide) 17 rfl rfl rfl dX5_look_122 ?_
            have ho0_3340 : h3340 (L 0) = some (.inr (0, [.ref (L 1), .int (nI (N 0)), .ref (L 3), .int (nI (N 1)), .int (nI (N 2)), .int (nI (N 3)), .int (nI (N 4)), .int (nI (N 5)), .int (nI (N 6)), .int (nI (N 7)), .int (nI (N 8)), .ref (L 12), .ref (L 13), .ref (L 14), .ref (L 15), .ref (L 16), .ref (L 17), .int (nI (N 11)), .int (nI (N 15)), .int (nI (N 16)), .int (nI (N 17)), .int (nI (N 18) - 1), .int (nI (N 19)), .ref (L 24), .int (nI pp), .ref (L 26), .ref (L 27), .ref (if N 13 = 1 then L 27 else L 26), .ref (L 29), .ref (L 30), .ref (if N 12 = 1 then L 30 else L 29), .ref (L 32), .ref (B 0), .ref (B 1), .ref (B 2), .ref (B 3), .ref (L 37), .ref (L 38), .ref (L 39), .ref (B 4), .ref (B 5)]), L 0) := hF3340 _ _ ho0_3338 (fun ⟨i, hi, e⟩ => hLay.2 i 0 hi (by decide) e.symm)
            refine hg_VN C T3340 hl3336.1 ho0_3340 rfl (m_X1_reaches hLay hB3340 ho0_3340 (show 19 + 2 * k < 1973 by omega) (show 20 + 2 * k < 1973 by omega) (by omega) (by omega) hl5 hl6 (by rw [hA]; exact hlA) (by rw [hBB]; exact hlB)) 5 rfl q798 qs11 q53 q799 kd_X1_reaches.2 rfl rfl ⟨Nat.le_of_ble_eq_true rfl, Nat.le_of_ble_eq_true rfl⟩ (Nat.le_of_ble_eq_true rfl) dX5_look_125 ⟨by have hgw := (hW3340); have hg1 := hgw.1; have hg2 := hgw.2; have hkm := hB3340.kmax; show cc_ + dc3338 + dc3340 + ((KX - ksum cy NB) / 8 + 8) ≤ (KX - ksum cp NB) / 8 + 8; omega, by have hgw := (hW3340); have hg1 := hgw.1; have hg2 := hgw.2; have hkm := hB3340.kmax; show ss_ + ds3338 + ds3340 + (2 * (KX - ksum cy NB) + 2048) ≤ 2 * (KX - ksum cp NB) + 2048; omega⟩ (fun rv h3342 dc3342 ds3342 H3342 locs3342 hp3342 T3342 => ?_)
            obtain ⟨rfl, V3342, c3342, hB3342, ho3342, hF3342, hw3342⟩ := hp3342
            have hW3342 := (hW3340).tr hw3342
            have hF_3342 : Fr (PO L B) h h3342 := hF_3340.tr (hF3342.mono (fun _ z => Or.inr z))
            refine W.eq (g2 := F0 m 128 ls3336 [.int (if Vy (20 + 2 * k) * N 6 ≤ Vy (19 + 2 * k) * N 5 then 1 else 0)]) rfl ?_
            rw [hA, hBB]
            have hot2 : ∀ n, n ≠ 0 → n ≠ 1 → n ≠ 19 + 2 * k → n ≠ 20 + 2 * k → V3342 n = V2 n := fun n h0 h1 h2 h3 => (ho3342 n h0 h1).trans (hot n h2 h3)
            have hA3 : V3342 (19 + 2 * k) = fA M V (nI a) k := (ho3342 _ (by omega) (by omega)).trans hA
            have hB3 : V3342 (20 + 2 * k) = fB M V (nI a) k := (ho3342 _ (by omega) (by omega)).trans hBB
            refine lv_if_eq (tgt := 137) hx hb dX5_look_128 (by decide) (fun c4 => ?_) (fun c4 => ?_)
            · have c5 : ¬ fB M V (nI a) k * N 6 ≤ fA M V (nI a) k * N 5 := fun z => by rw [if_pos z] at c4; exact absurd c4 (by decide)
              refine lv_iinc (v := nI (k + 1)) (lv' := [(4, .int (nI (k + 1))), (5, .ref (L (70 + k))), (0, .ref (L 29)), (2, .int (nI a)), (3, .int d)]) hx hb dX5_look_137 hl3336 (k := 4) rfl (nI_add k 1) (by decide) rfl (fun ls3343 hl3343 => ?_)
              refine lv_goto (tgt := 3) hx hb dX5_look_140 (by decide) ?_
              have hSt_3338 : Stt E L B h3338 := Stt.kept hF3338 (fun ⟨i, hi, e⟩ => hLay.2 i 30 hi (by decide) e.symm) hSt
              have hSt_3340 : Stt E L B h3340 := Stt.kept hF3340 (fun ⟨i, hi, e⟩ => hLay.2 i 30 hi (by decide) e.symm) hSt_3338
              have hSt_3342 : Stt E L B h3342 := Stt.kept hF3342 (fun ⟨i, hi, e⟩ => hLay.2 i 30 hi (by decide) e.symm) hSt_3340
              have hPr_3338 : Prs L B pw pl ps2 h3338 := Prs.kept hF3338 (fun ⟨i, hi, e⟩ => hLay.2 i 24 hi (by decide) e.symm) hPr
              have hPr_3340 : Prs L B pw pl ps2 h3340 := Prs.kept hF3340 (fun ⟨i, hi, e⟩ => hLay.2 i 24 hi (by decide) e.symm) hPr_3338
              have hPr_3342 : Prs L B pw pl ps2 h3342 := Prs.kept hF3342 (fun ⟨i, hi, e⟩ => hLay.2 i 24 hi (by decide) e.symm) hPr_3340
              have ho0_3342 : h3342 (L 0) = some (.inr (0, [.ref (L 1), .int (nI (N 0)), .ref (L 3), .int (nI (N 1)), .int (nI (N 2)), .int (nI (N 3)), .int (nI (N 4)), .int (nI (N 5)), .int (nI (N 6)), .int (nI (N 7)), .int (nI (N 8)), .ref (L 12), .ref (L 13), .ref (L 14), .ref (L 15), .ref (L 16), .ref (L 17), .int (nI (N 11)), .int (nI (N 15)), .int (nI (N 16)), .int (nI (N 17)), .int (nI (N 18) - 1), .int (nI (N 19)), .ref (L 24), .int (nI pp), .ref (L 26), .ref (L 27), .ref (if N 13 = 1 then L 27 else L 26), .ref (L 29), .ref (L 30), .ref (if N 12 = 1 then L 30 else L 29), .ref (L 32), .ref (B 0), .ref (B 1), .ref (B 2), .ref (B 3), .ref (L 37), .ref (L 38), .ref (L 39), .ref (B 4), .ref (B 5)]), L 0) := hF3342 _ _ ho0_3340 (fun ⟨i, hi, e⟩ => hLay.2 i 0 hi (by decide) e.symm)
              have ha1_3340 : h3340 (L 1) = some (.inl (E.2.1 0, 8, .inl g), L 0) := hF3340 _ _ ha1_3338 (fun ⟨i, hi, e⟩ => hLay.2 i 0 hi (by decide) e.symm)
              have ha1_3342 : h3342 (L 1) = some (.inl (E.2.1 0, 8, .inl g), L 0) := hF3342 _ _ ha1_3340 (fun ⟨i, hi, e⟩ => hLay.2 i 0 hi (by decide) e.symm)
              exact ih3331 (k + 1) _ _ _ _ _ _ _ _ _ (by omega) ho0_3342 ha1_3342 (by omega) hB3342 hW3342 hSt_3342 hPr_3342 (fun i hi => by by_cases z : i = k; (rw [z]; exact ⟨hA3, hB3, by unfold fS; rw [if_neg (fun z => c5 z.2.2)]; exact hv22⟩); (rw [hot2 _ (by omega) (by omega) (by omega) (by omega), hot2 _ (by omega) (by omega) (by omega) (by omega)]; exact ⟨(hv i (by omega)).1, (hv i (by omega)).2.1, (hv i (by omega)).2.2⟩)) (fun i h1 h2 => by rw [hot2 _ (by omega) (by omega) (by omega) (by omega), hot2 _ (by omega) (by omega) (by omega) (by omega)]; exact ⟨(hv2 i (by omega) h2).1, (hv2 i (by omega) h2).2.1, (hv2 i (by omega) h2).2.2⟩) (fun n h1 hn => by rw [hot2 n (by omega) (by omega) (by omega) (by omega)]; exact hkp n h1 hn) hF_3342 T3342 (lv_sub hl3343 [2, 3, 4, 0] rfl)
            · have c5 : fB M V (nI a) k * N 6 ≤ fA M V (nI a) k * N 5 := Decidable.byContradiction fun z => c4 (by rw [if_neg z])
              refine lv_aload hx hb dX5_look_131 (lv_at hl3336 0 rfl) ?_
              refine lv_iload_n hx hb dX5_look_133 rfl (lv_at hl3336 3 rfl) ?_
              have hpr3334_3342 : h3342 (L (70 + k)) = some (.inr (8, [.int (pw k), .int (pl k), .int (ps2 k), .ref (B (19 + 2 * k)), .ref (B (20 + 2 * k))]), L 24) := hF3342 _ _ hpr3334_3340 (fun ⟨i, hi, e⟩ => hLay.2 i 24 hi (by decide) e.symm)
              have hPr_3338 : Prs L B pw pl ps2 h3338 := Prs.kept hF3338 (fun ⟨i, hi, e⟩ => hLay.2 i 24 hi (by decide) e.symm) hPr
              have hPr_3340 : Prs L B pw pl ps2 h3340 := Prs.kept hF3340 (fun ⟨i, hi, e⟩ => hLay.2 i 24 hi (by decide) e.symm) hPr_3338
              have hPr_3342 : Prs L B pw pl ps2 h3342 := Prs.kept hF3342 (fun ⟨i, hi, e⟩ => hLay.2 i 24 hi (by decide) e.symm) hPr_3340
              refine hr_putN C T3342 hpr3334_3342 rfl in_X9 tyX9 tyX9_ok nmX9 2 (by decide) 15 rfl rfl rfl rfl rfl (Nat.le_of_ble_eq_true rfl) dX5_look_134 (fun h3344 H3344 locs3344 eh3344 T3344 => ?_)
              have hpr3334_3344 : h3344 (L (70 + k)) = some (.inr (8, [.int (pw k), .int (pl k), .int d, .ref (B (19 + 2 * k)), .ref (B (20 + 2 * k))]), L 24) := hu_s eh3344
              have hF_3344 : Fr (PO L B) h h3344 := hu_f eh3344 hF_3342 hpr3334_3342 (Or.inl rfl)
              have hP2 : Prs L B pw pl (upd ps2 k d) h3344 := hPr_3342.puts hLay (by omega) eh3344
              refine lv_iinc (v := nI (k + 1)) (lv' := [(4, .int (nI (k + 1))), (5, .ref (L (70 + k))), (0, .ref (L 29)), (2, .int (nI a)), (3, .int d)]) hx hb dX5_look_137 hl3336 (k := 4) rfl (nI_add k 1) (by decide) rfl (fun ls3345 hl3345 => ?_)
              refine lv_goto (tgt := 3) hx hb dX5_look_140 (by decide) ?_
              have hB3342_3344 : Bgs E h3344 B V3342 c3342 := Bgs.kept (O := (· = L 24)) (hu_f eh3344 Fr.rf hpr3334_3342 rfl) (fun i hi => hLay.2 i 24 hi (by decide)) hB3342
              have hSt_3338 : Stt E L B h3338 := Stt.kept hF3338 (fun ⟨i, hi, e⟩ => hLay.2 i 30 hi (by decide) e.symm) hSt
              have hSt_3340 : Stt E L B h3340 := Stt.kept hF3340 (fun ⟨i, hi, e⟩ => hLay.2 i 30 hi (by decide) e.symm) hSt_3338
              have hSt_3342 : Stt E L B h3342 := Stt.kept hF3342 (fun ⟨i, hi, e⟩ => hLay.2 i 30 hi (by decide) e.symm) hSt_3340
              have hSt_3344 : Stt E L B h3344 := Stt.kept (O := (· = L 24)) (hu_f eh3344 Fr.rf hpr3334_3342 rfl) (hLay.1 30 24 (by decide) (by decide) (by decide)) hSt_3342
              have ho0_3342 : h3342 (L 0) = some (.inr (0, [.ref (L 1), .int (nI (N 0)), .ref (L 3), .int (nI (N 1)), .int (nI (N 2)), .int (nI (N 3)), .int (nI (N 4)), .int (nI (N 5)), .int (nI (N 6)), .int (nI (N 7)), .int (nI (N 8)), .ref (L 12), .ref (L 13), .ref (L 14), .ref (L 15), .ref (L 16), .ref (L 17), .int (nI (N 11)), .int (nI (N 15)), .int (nI (N 16)), .int (nI (N 17)), .int (nI (N 18) - 1), .int (nI (N 19)), .ref (L 24), .int (nI pp), .ref (L 26), .ref (L 27), .ref (if N 13 = 1 then L 27 else L 26), .ref (L 29), .ref (L 30), .ref (if N 12 = 1 then L 30 else L 29), .ref (L 32), .ref (B 0), .ref (B 1), .ref (B 2), .ref (B 3), .ref (L 37), .ref (L 38), .ref (L 39), .ref (B 4), .ref (B 5)]), L 0) := hF3342 _ _ ho0_3340 (fun ⟨i, hi, e⟩ => hLay.2 i 0 hi (by decide) e.symm)
              have ho0_3344 : h3344 (L 0) = some (.inr (0, [.ref (L 1), .int (nI (N 0)), .ref (L 3), .int (nI (N 1)), .int (nI (N 2)), .int (nI (N 3)), .int (nI (N 4)), .int (nI (N 5)), .int (nI (N 6)), .int (nI (N 7)), .int (nI (N 8)), .ref (L 12), .ref (L 13), .ref (L 14), .ref (L 15), .ref (L 16), .ref (L 17), .int (nI (N 11)), .int (nI (N 15)), .int (nI (N 16)), .int (nI (N 17)), .int (nI (N 18) - 1), .int (nI (N 19)), .ref (L 24), .int (nI pp), .ref (L 26), .ref (L 27), .ref (if N 13 = 1 then L 27 else L 26), .ref (L 29), .ref (L 30), .ref (if N 12 = 1 then L 30 else L 29), .ref (L 32), .ref (B 0), .ref (B 1), .ref (B 2), .ref (B 3), .ref (L 37), .ref (L 38), .ref (L 39), .ref (B 4), .ref (B 5)]), L 0) := hu_n eh3344 (hLay.1 0 (70 + k) (by omega) (by omega) (by omega)) ho0_3342
              have ha1_3340 : h3340 (L 1) = some (.inl (E.2.1 0, 8, .inl g), L 0) := hF3340 _ _ ha1_3338 (fun ⟨i, hi, e⟩ => hLay.2 i 0 hi (by decide) e.symm)
              have ha1_3342 : h3342 (L 1) = some (.inl (E.2.1 0, 8, .inl g), L 0) := hF3342 _ _ ha1_3340 (fun ⟨i, hi, e⟩ => hLay.2 i 0 hi (by decide) e.symm)
              have ha1_3344 : h3344 (L 1) = some (.inl (E.2.1 0, 8, .inl g), L 0) := hu_n eh3344 (hLay.1 1 (70 + k) (by omega) (by omega) (by omega)) ha1_3342
              exact ih3331 (k + 1) _ _ _ _ _ _ _ _ _ (by omega) ho0_3344 ha1_3344 (by omega) hB3342_3344 hW3342 hSt_3344 hP2 (fun i hi => by by_cases z : i = k; (rw [z]; exact ⟨hA3, hB3, by rw [pk_us]; unfold fS; rw [if_pos ⟨hh, hv22.symm.trans (im1.mp (by omega)), c5⟩]⟩); (rw [hot2 _ (by omega) (by omega) (by omega) (by omega), hot2 _ (by omega) (by omega) (by omega) (by omega)]; exact ⟨(hv i (by omega)).1, (hv i (by omega)).2.1, by rw [pk_un z]; exact (hv i (by omega)).2.2⟩)) (fun i h1 h2 => by rw [hot2 _ (by omega) (by omega) (by omega) (by omega), hot2 _ (by omega) (by omega) (by omega) (by omega)]; exact ⟨(hv2 i (by omega) h2).1, (hv2 i (by omega) h2).2.1, by rw [pk_un (by omega)]; exact (hv2 i (by omega) h2).2.2⟩) (fun n h1 hn => by rw [hot2 n (by omega) (by omega) (by omega) (by omega)]; exact hkp n h1 hn) hF_3344 T3344 (lv_sub hl3345 [2, 3, 4, 0] rfl)
        refine lv_icmp_eq (tgt := 48) hx hb dX5_look_33 (by decide) (fun c2 => ?_) (fun c2 => ?_)
        · exact J48 _ _ _ (Or.inl c2) T3331 (lv_sub hl3335 [0, 1, 2, 3, 4] rfl)
        · refine lv_iload_n hx hb dX5_look_36 rfl (lv_at hl3335 2 rfl) ?_
          refine lv_aload hx hb dX5_look_37 (lv_at hl3335 0 rfl) ?_
          refine hr_getN C T3331 hpr3334 rfl in_X9 1 (by decide) 14 rfl rfl rfl dX5_look_39 ?_
          rw [show pl k = nI (M 5 k) from hw2]
          refine lv_icmp_eq (tgt := 48) hx hb dX5_look_42 (by decide) (fun c6 => ?_) (fun c6 => ?_)
          · exact J48 _ _ _ (Or.inr c6) T3331 (lv_sub hl3335 [0, 1, 2, 3, 4] rfl)
          · have hh : ¬ hit M x k := fun z => z.elim c2 c6
            have hot2 : ∀ n, n ≠ 0 → n ≠ 1 → n ≠ 19 + 2 * k → n ≠ 20 + 2 * k → V2 n = V2 n := fun n _ _ _ _ => rfl
            refine lv_goto (tgt := 137) hx hb dX5_look_45 (by decide) ?_
            refine lv_iinc (v := nI (k + 1)) (lv' := [(4, .int (nI (k + 1))), (5, .ref (L (70 + k))), (0, .ref (L 29)), (2, .int x), (3, .int d)]) hx hb dX5_look_137 hl3335 (k := 4) rfl (nI_add k 1) (by decide) rfl (fun ls3346 hl3346 => ?_)
            refine lv_goto (tgt := 3) hx hb dX5_look_140 (by decide) ?_
            exact ih3331 (k + 1) _ _ _ _ _ _ _ _ _ (by omega) ho0_3331 ha1_3331 (by omega) hB hW hSt hPr (fun i hi => by by_cases z : i = k; (rw [z]; exact ⟨by unfold fA; rw [if_neg hh]; exact hv20, by unfold fB; rw [if_neg hh]; exact hv21, by unfold fS; rw [if_neg (fun z => hh z.1)]; exact hv22⟩); (exact ⟨(hv i (by omega)).1, (hv i (by omega)).2.1, (hv i (by omega)).2.2⟩)) (fun i h1 h2 => by exact ⟨(hv2 i (by omega) h2).1, (hv2 i (by omega) h2).2.1, (hv2 i (by omega) h2).2.2⟩) (fun n h1 hn => hkp n h1 hn) hF_3331 T3331 (lv_sub hl3346 [2, 3, 4, 0] rfl)
  exact L1 (pp + 1) 0 _ _ _ _ _ _ _ _ _ (by omega) ho0 ha1 (Nat.zero_le _) hB (Gw.rf (cp := cp)) hSt hPr (fun i hi => absurd hi (by omega)) (fun _ _ _ => ⟨rfl, rfl, rfl⟩) (fun _ _ _ => rfl) hF T (lv_sub hl3330 [1, 3, 4, 0] rfl)

set_option maxHeartbeats 4000000 in
theorem m_X5_isSure {E : GE} {l : Launch} {h : HH} {L B N : Nat → Nat} {pp : Nat} {pw pl ps : Nat → Int32} (hLay : Lay L B) (ho0 : h (L 0) = some (.inr (0, [.ref (L 1), .int (nI (N 0)), .ref (L 3), .int (nI (N 1)), .int (nI (N 2)), .int (nI (N 3)), .int (nI (N 4)), .int (nI (N 5)), .int (nI (N 6)), .int (nI (N 7)), .int (nI (N 8)), .ref (L 12), .ref (L 13), .ref (L 14), .ref (L 15), .ref (L 16), .ref (L 17), .int (nI (N 11)), .int (nI (N 15)), .int (nI (N 16)), .int (nI (N 17)), .int (nI (N 18) - 1), .int (nI (N 19)), .ref (L 24), .int (nI pp), .ref (L 26), .ref (L 27), .ref (if N 13 = 1 then L 27 else L 26), .ref (L 29), .ref (L 30), .ref (if N 12 = 1 then L 30 else L 29), .ref (L 32), .ref (B 0), .ref (B 1), .ref (B 2), .ref (B 3), .ref (L 37), .ref (L 38), .ref (L 39), .ref (B 4), .ref (B 5)]), L 0)) (hSt : Stt E L B h) (hPr : Prs L B pw pl ps h) (rp16 : pp ≤ 16) : MM E l yX5_isSure cX5_isSure 3 (some .boolean) ({ frames := 0, cells := 0, slots := 0, locals := 0 } : Room) [.ref (L 29)] h (fun rv h2 => rv = some (.int (nI (asr ps pp))) ∧ h2 = h) := by
  refine hm_z (by decide) (Nat.le_of_ble_eq_true rfl) ?_
  intro p e s m below meth c C hnm Q Z ls T hl
  have hx := C.x
  have hb := C.b
  have hl : lv_has ls 3 [(0, .ref (L 29))] := hl
  have hst24x3347 := (hSt).1
  have hst29x3348 := (hSt).2.2.2.1
  refine lv_iconst (v := nI 1) hx hb dX5_isSure_0 rfl ?_
  refine lv_istore_n (lv' := [(1, .int (nI 1)), (0, .ref (L 29))]) hx hb dX5_isSure_1 rfl hl (by decide) rfl (fun ls3349 hl3349 => ?_)
  refine lv_iconst (v := nI 0) hx hb dX5_isSure_2 rfl ?_
  refine lv_istore_n (lv' := [(2, .int (nI 0)), (1, .int (nI 1)), (0, .ref (L 29))]) hx hb dX5_isSure_3 rfl hl3349 (by decide) rfl (fun ls3350 hl3350 => ?_)
  have L1 : ∀ (j : Nat) (k : Nat) (H3351 : Heap) (locs3351 : List Loc) (ls3351 : Array Slot), (pp + 1 ≤ k + j) → (k ≤ pp) → (St E s h H3351 locs3351) → (lv_has ls3351 3 [(0, .ref (L 29)), (1, .int (nI (asr ps k))), (2, .int (nI k))]) → W p l e ({ frames := 0, cells := 0, slots := 0, locals := 0 } : Room) s m ([.ref (L 29)] : List Value).toArray below meth c H3351 locs3351 0 0 Q (F0 m 4 ls3351 []) := by
    intro j
    induction j with
    | zero => intro k H3351 locs3351 ls3351 hm3351 hk T3351 hl3351; exact absurd hm3351 (by omega)
    | succ j ih3351 =>
      intro k H3351 locs3351 ls3351 hm3351 hk T3351 hl3351
      have hsl := asr_le ps k
      refine lv_iload_n hx hb dX5_isSure_4 rfl (lv_at hl3351 2 rfl) ?_
      refine lv_aload_n hx hb dX5_isSure_5 rfl (lv_at hl3351 0 rfl) ?_
      refine hr_get C T3351 hst29x3348 rfl in_X5 0 (by decide) q154 rfl rfl dX5_isSure_6 ?_
      refine hr_getN C T3351 ho0 rfl in_X1 24 (by decide) 20 rfl rfl rfl dX5_isSure_9 ?_
      refine hn_icmp_ge (tgt := 45) hx hb dX5_isSure_12 (by decide) (by omega) (by omega) (fun c1 => ?_) (fun c1 => ?_)
      · have e1 : k = pp := by omega
        rw [e1] at hsl
        refine lv_iload_n hx hb dX5_isSure_45 rfl (lv_at hl3351 1 rfl) ?_
        exact Z _ _ _ _ _ _ dX5_isSure_46 (by rw [e1]; rcases (show asr ps pp = 0 ∨ asr ps pp = 1 by omega) with z | z <;> rw [z] <;> first | exact Or.inl rfl | exact Or.inr rfl) ⟨by rw [e1], rfl⟩ T3351
      · refine lv_iload_n hx hb dX5_isSure_15 rfl (lv_at hl3351 1 rfl) ?_
        refine lv_aload_n hx hb dX5_isSure_16 rfl (lv_at hl3351 0 rfl) ?_
        refine hr_get C T3351 hst29x3348 rfl in_X5 0 (by decide) q154 rfl rfl dX5_isSure_17 ?_
        refine hr_getN C T3351 ho0 rfl in_X1 23 (by decide) 19 rfl rfl rfl dX5_isSure_20 ?_
        refine lv_iload_n hx hb dX5_isSure_23 rfl (lv_at hl3351 2 rfl) ?_
        refine hr_aald C T3351 6 rfl hst24x3347 (by omega) (by omega) rfl dX5_isSure_24 ?_
        have hpr3352 := hPr k (by omega)
        refine hr_getN C T3351 hpr3352 rfl in_X9 2 (by decide) 15 rfl rfl rfl dX5_isSure_25 ?_
        refine lv_iconst (v := (-1)) hx hb dX5_isSure_28 rfl ?_
        have J37 : ∀ (x : Nat) (H3353 : Heap) (locs3353 : List Loc) (ls3353 : Array Slot), (x ≤ 1) → (x = 1 ↔ ps k ≠ -1) → (St E s h H3353 locs3353) → (lv_has ls3353 3 [(0, .ref (L 29)), (1, .int (nI (asr ps k))), (2, .int (nI k))]) → W p l e ({ frames := 0, cells := 0, slots := 0, locals := 0 } : Room) s m ([.ref (L 29)] : List Value).toArray below meth c H3353 locs3353 0 0 Q (F0 m 37 ls3353 [.int (nI x), .int (nI (asr ps k))]) := by
          intro x H3353 locs3353 ls3353 hx2 hx3 T3353 hl3353
          refine lv_iand hx hb dX5_isSure_37 ?_
          rw [show (nI (asr ps k)) &&& (nI x) = nI (asr ps (k + 1)) from (asr_and hx2 hx3)]
          refine lv_istore_n (lv' := [(1, .int (nI (asr ps (k + 1)))), (0, .ref (L 29)), (2, .int (nI k))]) hx hb dX5_isSure_38 rfl hl3353 (by decide) rfl (fun ls3354 hl3354 => ?_)
          refine lv_iinc (v := nI (k + 1)) (lv' := [(2, .int (nI (k + 1))), (1, .int (nI (asr ps (k + 1)))), (0, .ref (L 29))]) hx hb dX5_isSure_39 hl3354 (k := 2) rfl (nI_add k 1) (by decide) rfl (fun ls3355 hl3355 => ?_)
          refine lv_goto (tgt := 4) hx hb dX5_isSure_42 (by decide) ?_
          exact ih3351 (k + 1) _ _ _ (by omega) (by omega) T3353 (lv_sub hl3355 [2, 1, 0] rfl)
        refine zi_icmp_eq (tgt := 36) (X := (ps k).toInt) (Y := (-1)) hx hb dX5_isSure_29 (by decide) rfl rfl (fun c2 => ?_) (fun c2 => ?_)
        · refine lv_iconst (v := nI 0) hx hb dX5_isSure_36 rfl ?_
          exact J37 0 _ _ _ (by decide) ⟨fun z => absurd z (by decide), fun z => absurd (im1.mp c2) z⟩ T3351 (lv_sub hl3351 [0, 1, 2] rfl)
        · refine lv_iconst (v := nI 1) hx hb dX5_isSure_32 rfl ?_
          refine lv_goto (tgt := 37) hx hb dX5_isSure_33 (by decide) ?_
          exact J37 1 _ _ _ (by decide) ⟨fun _ z => c2 (im1.mpr z), fun _ => rfl⟩ T3351 (lv_sub hl3351 [0, 1, 2] rfl)
  exact L1 (pp + 1) 0 _ _ _ (by omega) (Nat.zero_le _) T (lv_sub hl3350 [2, 1, 0] rfl)
