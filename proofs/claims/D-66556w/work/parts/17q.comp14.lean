set_option maxRecDepth 100000
theorem kd_X1_at : yX1_at.cls ≠ "java/lang/invoke/MethodHandle" ∧ yX1_at.cls ≠ "java/lang/invoke/VarHandle" ∧ (parseMethodDescriptor yX1_at.desc).map (fun d => d.parameters.length) = some 2 := by decide +kernel
theorem kd_X1_more : yX1_more.cls = RX1 ∧ yX1_more.cls ≠ "java/lang/invoke/MethodHandle" ∧ yX1_more.cls ≠ "java/lang/invoke/VarHandle" ∧ (parseMethodDescriptor yX1_more.desc).map (fun d => d.parameters.length) = some 3 := by decide +kernel
theorem kd_X1_findSure : yX1_findSure.cls = RX1 ∧ yX1_findSure.cls ≠ "java/lang/invoke/MethodHandle" ∧ yX1_findSure.cls ≠ "java/lang/invoke/VarHandle" ∧ (parseMethodDescriptor yX1_findSure.desc).map (fun d => d.parameters.length) = some 2 := by decide +kernel
theorem kd_X1_drawMore : yX1_drawMore.cls = RX1 ∧ yX1_drawMore.cls ≠ "java/lang/invoke/MethodHandle" ∧ yX1_drawMore.cls ≠ "java/lang/invoke/VarHandle" ∧ (parseMethodDescriptor yX1_drawMore.desc).map (fun d => d.parameters.length) = some 4 := by decide +kernel

set_option maxHeartbeats 4000000 in
theorem p_X1_at {E : GE} {l : Launch} {h : HH} {a b : Nat} : MP E l yX1_at cX1_at 2 (some .int) ({ frames := 0, cells := 0, slots := 0, locals := 0 } : Room) [.int (nI a), .int (nI b)] h (fun rv => rv = some (.int (nI (a * 31 + b)))) := by
  refine hp_i (by decide) (Nat.le_of_ble_eq_true rfl) ?_
  intro p e s m below meth c C Q Z ls T hl
  have hx := C.x
  have hb := C.b
  have hl : lv_has ls 2 [(0, .int (nI a)), (1, .int (nI b))] := hl
  refine lv_iload_n hx hb dX1_at_0 rfl (lv_at hl 0 rfl) ?_
  refine lv_bipush (v := nI 31) hx hb dX1_at_1 rfl ?_
  refine hn_imul hx hb dX1_at_3 ?_
  refine lv_iload_n hx hb dX1_at_4 rfl (lv_at hl 1 rfl) ?_
  refine hn_iadd hx hb dX1_at_5 ?_
  exact Z _ _ _ _ dX1_at_6 rfl T

set_option maxHeartbeats 4000000 in
theorem m_X1_more {E : GE} {l : Launch} {h : HH} {L B N V cp : Nat → Nat} {pp i k v : Nat} (hLay : Lay L B) (hB : Bgs E h B V cp) (ho0 : h (L 0) = some (.inr (0, [.ref (L 1), .int (nI (N 0)), .ref (L 3), .int (nI (N 1)), .int (nI (N 2)), .int (nI (N 3)), .int (nI (N 4)), .int (nI (N 5)), .int (nI (N 6)), .int (nI (N 7)), .int (nI (N 8)), .ref (L 12), .ref (L 13), .ref (L 14), .ref (L 15), .ref (L 16), .ref (L 17), .int (nI (N 11)), .int (nI (N 15)), .int (nI (N 16)), .int (nI (N 17)), .int (nI (N 18) - 1), .int (nI (N 19)), .ref (L 24), .int (nI pp), .ref (L 26), .ref (L 27), .ref (if N 13 = 1 then L 27 else L 26), .ref (L 29), .ref (L 30), .ref (if N 12 = 1 then L 30 else L 29), .ref (L 32), .ref (B 0), .ref (B 1), .ref (B 2), .ref (B 3), .ref (L 37), .ref (L 38), .ref (L 39), .ref (B 4), .ref (B 5)]), L 0)) (hi : i < NB) (hk : k < NB) (hi0 : 0 < i) (hk0 : 0 < k) (hv : v < 2147483648) (hmk : lm (V k) + 1 ≤ 128) (hm : max (lm (V i)) (lm (V k * v)) + 1 ≤ 128) : MG E l yX1_more cX1_more 4 none ({ frames := 3, cells := (KX - ksum cp NB) / 8 + 8, slots := 2 * (KX - ksum cp NB) + 2048, locals := 450 } : Room) [.ref (L 0), .ref (B i), .ref (B k), .int (nI v)] h (fun rv h2 dc ds => rv = none ∧ ∃ V2 c2, Bgs E h2 B V2 c2 ∧ V2 i = V i + V k * v ∧ (∀ n, n ≠ 0 → n ≠ i → V2 n = V n) ∧ Fr (BO B) h h2 ∧ Gw cp c2 dc ds) := by
  refine hn_v (by decide) (Nat.le_of_ble_eq_true rfl) ?_
  intro p e s m below meth c C hnm Q Z ls T hl
  have hx := C.x
  have hb := C.b
  have hl : lv_has ls 4 [(0, .ref (L 0)), (1, .ref (B i)), (2, .ref (B k)), (3, .int (nI v))] := hl
  have hF : Fr (BO B) h h := Fr.rf
  refine lv_aload_n hx hb dX1_more_0 rfl (lv_at hl 0 rfl) ?_
  refine hr_get C T ho0 rfl in_X1 32 (by decide) q333 rfl rfl dX1_more_1 ?_
  refine lv_aload_n hx hb dX1_more_4 rfl (lv_at hl 2 rfl) ?_
  obtain ⟨ca7001, hbo7001⟩ := hB.o (i := 0) (by decide)
  refine hg_V C T hl.1 hbo7001 rfl (g_copy (i := 0) (j := k) hB (by decide) (show k < 1973 by omega) (by omega) (by omega)) q800 q783 q784 q59 q785 kd_X7_copy rfl rfl ⟨Nat.le_of_ble_eq_true rfl, Nat.le_of_ble_eq_true rfl⟩ (Nat.le_of_ble_eq_true rfl) dX1_more_5 ⟨by have hgw := (Gw.rf (cp := cp)); have hg1 := hgw.1; have hg2 := hgw.2; have hkm := hB.kmax; have := gc_le (cp 0) (lm (V k)); have := gs_le ((hB.1 0 (by decide)).cap.2.2) (show lm (V k) ≤ 128 from (by omega)); show 0 + (gc (cp 0) (lm (V k))) ≤ (KX - ksum cp NB) / 8 + 8; omega, by have hgw := (Gw.rf (cp := cp)); have hg1 := hgw.1; have hg2 := hgw.2; have hkm := hB.kmax; have := gc_le (cp 0) (lm (V k)); have := gs_le ((hB.1 0 (by decide)).cap.2.2) (show lm (V k) ≤ 128 from (by omega)); show 0 + (gs (cp 0) (lm (V k))) ≤ 2 * (KX - ksum cp NB) + 2048; omega⟩ (fun rv h7002 dc7002 ds7002 H7002 locs7002 hp7002 T7002 => ?_)
  obtain ⟨rfl, c7002, hB7002, hF7002, hw7002⟩ := hp7002
  have hW7002 := (Gw.rf (cp := cp)).tr hw7002
  have hF_7002 : Fr (BO B) h h7002 := hF.tr (hF7002.mono (fun _ z => z))
  refine W.eq (g2 := F0 m 8 ls []) rfl ?_
  refine lv_aload_n hx hb dX1_more_8 rfl (lv_at hl 0 rfl) ?_
  have ho0_7002 : h7002 (L 0) = some (.inr (0, [.ref (L 1), .int (nI (N 0)), .ref (L 3), .int (nI (N 1)), .int (nI (N 2)), .int (nI (N 3)), .int (nI (N 4)), .int (nI (N 5)), .int (nI (N 6)), .int (nI (N 7)), .int (nI (N 8)), .ref (L 12), .ref (L 13), .ref (L 14), .ref (L 15), .ref (L 16), .ref (L 17), .int (nI (N 11)), .int (nI (N 15)), .int (nI (N 16)), .int (nI (N 17)), .int (nI (N 18) - 1), .int (nI (N 19)), .ref (L 24), .int (nI pp), .ref (L 26), .ref (L 27), .ref (if N 13 = 1 then L 27 else L 26), .ref (L 29), .ref (L 30), .ref (if N 12 = 1 then L 30 else L 29), .ref (L 32), .ref (B 0), .ref (B 1), .ref (B 2), .ref (B 3), .ref (L 37), .ref (L 38), .ref (L 39), .ref (B 4), .ref (B 5)]), L 0) := hF7002 _ _ ho0 (fun ⟨i, hi, e⟩ => hLay.2 i 0 hi (by decide) e.symm)
  refine hr_get C T7002 ho0_7002 rfl in_X1 32 (by decide) q333 rfl rfl dX1_more_9 ?_
  refine lv_iload_n hx hb dX1_more_12 rfl (lv_at hl 3 rfl) ?_
  obtain ⟨ca7003, hbo7003⟩ := hB7002.o (i := 0) (by decide)
  refine hg_V C T7002 hl.1 hbo7003 rfl (g_times (i := 0) hB7002 (by decide) (by omega) (by rw [nu_s]; omega)) q801 q787 q788 q59 q789 kd_X7_times rfl rfl ⟨Nat.le_of_ble_eq_true rfl, Nat.le_of_ble_eq_true rfl⟩ (Nat.le_of_ble_eq_true rfl) dX1_more_13 ⟨by have hgw := (hW7002); have hg1 := hgw.1; have hg2 := hgw.2; have hkm := hB7002.kmax; have := gc_le ((nu cp 0 c7002) 0) (lm ((nu V 0 (V k)) 0) + 1); have := gs_le ((hB7002.1 0 (by decide)).cap.2.2) (show lm ((nu V 0 (V k)) 0) + 1 ≤ 128 from (by rw [nu_s]; omega)); show 0 + dc7002 + (gc ((nu cp 0 c7002) 0) (lm ((nu V 0 (V k)) 0) + 1)) ≤ (KX - ksum cp NB) / 8 + 8; omega, by have hgw := (hW7002); have hg1 := hgw.1; have hg2 := hgw.2; have hkm := hB7002.kmax; have := gc_le ((nu cp 0 c7002) 0) (lm ((nu V 0 (V k)) 0) + 1); have := gs_le ((hB7002.1 0 (by decide)).cap.2.2) (show lm ((nu V 0 (V k)) 0) + 1 ≤ 128 from (by rw [nu_s]; omega)); show 0 + ds7002 + (gs ((nu cp 0 c7002) 0) (lm ((nu V 0 (V k)) 0) + 1)) ≤ 2 * (KX - ksum cp NB) + 2048; omega⟩ (fun rv h7004 dc7004 ds7004 H7004 locs7004 hp7004 T7004 => ?_)
  obtain ⟨rfl, c7004, hB7004, hF7004, hw7004⟩ := hp7004
  have hW7004 := (hW7002).tr hw7004
  have hF_7004 : Fr (BO B) h h7004 := hF_7002.tr (hF7004.mono (fun _ z => z))
  refine W.eq (g2 := F0 m 16 ls []) rfl ?_
  refine lv_aload_n hx hb dX1_more_16 rfl (lv_at hl 1 rfl) ?_
  refine lv_aload_n hx hb dX1_more_17 rfl (lv_at hl 0 rfl) ?_
  have ho0_7004 : h7004 (L 0) = some (.inr (0, [.ref (L 1), .int (nI (N 0)), .ref (L 3), .int (nI (N 1)), .int (nI (N 2)), .int (nI (N 3)), .int (nI (N 4)), .int (nI (N 5)), .int (nI (N 6)), .int (nI (N 7)), .int (nI (N 8)), .ref (L 12), .ref (L 13), .ref (L 14), .ref (L 15), .ref (L 16), .ref (L 17), .int (nI (N 11)), .int (nI (N 15)), .int (nI (N 16)), .int (nI (N 17)), .int (nI (N 18) - 1), .int (nI (N 19)), .ref (L 24), .int (nI pp), .ref (L 26), .ref (L 27), .ref (if N 13 = 1 then L 27 else L 26), .ref (L 29), .ref (L 30), .ref (if N 12 = 1 then L 30 else L 29), .ref (L 32), .ref (B 0), .ref (B 1), .ref (B 2), .ref (B 3), .ref (L 37), .ref (L 38), .ref (L 39), .ref (B 4), .ref (B 5)]), L 0) := hF7004 _ _ ho0_7002 (fun ⟨i, hi, e⟩ => hLay.2 i 0 hi (by decide) e.symm)
  refine hr_get C T7004 ho0_7004 rfl in_X1 32 (by decide) q333 rfl rfl dX1_more_18 ?_
  have hv0 : (nu (nu V 0 (V k)) 0 ((nu V 0 (V k)) 0 * v)) 0 = V k * v := by rw [nu_s, nu_s]
  have hvi : (nu (nu V 0 (V k)) 0 ((nu V 0 (V k)) 0 * v)) i = V i := by rw [nu_n (by omega), nu_n (by omega)]
  obtain ⟨ca7005, hbo7005⟩ := hB7004.o (i := i) (show i < 1973 by omega)
  refine hg_V C T7004 hl.1 hbo7005 rfl (g_add (i := i) (j := 0) hB7004 (show i < 1973 by omega) (by decide) (by omega) (by rw [hv0, hvi]; exact hm)) q919 q920 q921 q59 q922 kd_X7_add rfl rfl ⟨Nat.le_of_ble_eq_true rfl, Nat.le_of_ble_eq_true rfl⟩ (Nat.le_of_ble_eq_true rfl) dX1_more_21 ⟨by have hgw := (hW7004); have hg1 := hgw.1; have hg2 := hgw.2; have hkm := hB7004.kmax; have := gc_le ((nu (nu cp 0 c7002) 0 c7004) i) (max (lm ((nu (nu V 0 (V k)) 0 ((nu V 0 (V k)) 0 * v)) i)) (lm ((nu (nu V 0 (V k)) 0 ((nu V 0 (V k)) 0 * v)) 0)) + 1); have := gs_le ((hB7004.1 i (show i < 1973 by omega)).cap.2.2) (show max (lm ((nu (nu V 0 (V k)) 0 ((nu V 0 (V k)) 0 * v)) i)) (lm ((nu (nu V 0 (V k)) 0 ((nu V 0 (V k)) 0 * v)) 0)) + 1 ≤ 128 from (by rw [hv0, hvi]; exact hm)); show 0 + dc7002 + dc7004 + (gc ((nu (nu cp 0 c7002) 0 c7004) i) (max (lm ((nu (nu V 0 (V k)) 0 ((nu V 0 (V k)) 0 * v)) i)) (lm ((nu (nu V 0 (V k)) 0 ((nu V 0 (V k)) 0 * v)) 0)) + 1)) ≤ (KX - ksum cp NB) / 8 + 8; omega, by have hgw := (hW7004); have hg1 := hgw.1; have hg2 := hgw.2; have hkm := hB7004.kmax; have := gc_le ((nu (nu cp 0 c7002) 0 c7004) i) (max (lm ((nu (nu V 0 (V k)) 0 ((nu V 0 (V k)) 0 * v)) i)) (lm ((nu (nu V 0 (V k)) 0 ((nu V 0 (V k)) 0 * v)) 0)) + 1); have := gs_le ((hB7004.1 i (show i < 1973 by omega)).cap.2.2) (show max (lm ((nu (nu V 0 (V k)) 0 ((nu V 0 (V k)) 0 * v)) i)) (lm ((nu (nu V 0 (V k)) 0 ((nu V 0 (V k)) 0 * v)) 0)) + 1 ≤ 128 from (by rw [hv0, hvi]; exact hm)); show 0 + ds7002 + ds7004 + (gs ((nu (nu cp 0 c7002) 0 c7004) i) (max (lm ((nu (nu V 0 (V k)) 0 ((nu V 0 (V k)) 0 * v)) i)) (lm ((nu (nu V 0 (V k)) 0 ((nu V 0 (V k)) 0 * v)) 0)) + 1)) ≤ 2 * (KX - ksum cp NB) + 2048; omega⟩ (fun rv h7006 dc7006 ds7006 H7006 locs7006 hp7006 T7006 => ?_)
  obtain ⟨rfl, c7006, hB7006, hF7006, hw7006⟩ := hp7006
  have hW7006 := (hW7004).tr hw7006
  have hF_7006 : Fr (BO B) h h7006 := hF_7004.tr (hF7006.mono (fun _ z => z))
  refine W.eq (g2 := F0 m 24 ls []) rfl ?_
  exact Z _ _ _ _ _ _ _ dX1_more_24 (by have hgw := (hW7006); have hg1 := hgw.1; have hg2 := hgw.2; have hkm := hB7006.kmax; show 0 + dc7002 + dc7004 + dc7006 ≤ (KX - ksum cp NB) / 8 + 8; omega) (by have hgw := (hW7006); have hg1 := hgw.1; have hg2 := hgw.2; have hkm := hB7006.kmax; show 0 + ds7002 + ds7004 + ds7006 ≤ 2 * (KX - ksum cp NB) + 2048; omega) ⟨rfl, _, _, hB7006, by rw [nu_s, hv0, hvi], fun n h0 h1 => by rw [nu_n h1, nu_n h0, nu_n h0], hF_7006, hW7006⟩ T7006

def RO (L B : Nat → Nat) : Nat → Prop := fun o => o = L 0 ∨ BO B o

set_option maxHeartbeats 4000000 in
theorem m_X1_findSure {E : GE} {l : Launch} {h : HH} {L B N V cp : Nat → Nat} {M : Nat → Nat → Nat} {pp k n a4 a5 : Nat} {g su pw pl ps : Nat → Int32} (hLay : Lay L B) (hB : Bgs E h B V cp) (ho0 : h (L 0) = some (.inr (0, [.ref (L 1), .int (nI (N 0)), .ref (L 3), .int (nI (N 1)), .int (nI (N 2)), .int (nI (N 3)), .int (nI (N 4)), .int (nI (N 5)), .int (nI (N 6)), .int (nI (N 7)), .int (nI (N 8)), .ref (L 12), .ref (L 13), .ref (L 14), .ref (L 15), .ref (L 16), .ref (L 17), .int (nI (N 11)), .int (nI (N 15)), .int (nI (N 16)), .int (nI (N 17)), .int (nI (N 18) - 1), .int (nI (N 19)), .ref (L 24), .int (nI pp), .ref (L 26), .ref (L 27), .ref (if N 13 = 1 then L 27 else L 26), .ref (L 29), .ref (L 30), .ref (if N 12 = 1 then L 30 else L 29), .ref (L 32), .ref (B 0), .ref (B 1), .ref (B 2), .ref (B 3), .ref (L 37), .ref (L 38), .ref (L 39), .ref (B 4), .ref (B 5)]), L 0)) (ha1 : h (L 1) = some (.inl (E.2.1 0, 8, .inl g), L 0)) (hpk : h (L (70 + k)) = some (.inr (8, [.int (pw k), .int (pl k), .int (ps k), .ref (B (19 + 2 * k)), .ref (B (20 + 2 * k))]), L 24)) (ha39 : h (L 39) = some (.inl (E.2.1 3, 961, .inl su), L 0)) (hk16 : k < 16) (hn : n ≤ 30) (hw1 : pw k = nI a4) (hw2 : pl k = nI a5) (ha4 : a4 < 8) (ha5 : a5 < 8) (iv : ∀ i, i < 8 → M 0 i ≤ 1000000) (r1 : ∀ i, i < 8 → g i = nI (M 0 i)) (hl5_ : N 5 ≤ 1000000) (hl6_ : N 6 ≤ 1000000) : MG E l yX1_findSure cX1_findSure 6 none ({ frames := 4, cells := (KX - ksum cp NB) / 8 + 8, slots := 2 * (KX - ksum cp NB) + 2048, locals := 600 } : Room) [.ref (L 0), .ref (L (70 + k)), .int (nI n)] h (fun rv h2 dc ds => rv = none ∧ ∃ r V2 c2, Bgs E h2 B V2 c2 ∧ h2 (L 39) = some (.inl (E.2.1 3, 961, .inl r), L 0) ∧ (∀ i j, i + j ≤ n → r (i * 31 + j) = nI (suN N (M 0 a4) (M 0 a5) i j)) ∧ (∀ i, i ≠ 0 → i ≠ 1 → i ≠ 4 → i ≠ 5 → V2 i = V i) ∧ FrX (L 39) (BO B) h h2 ∧ Fr (RO L B) h h2 ∧ Gw cp c2 dc ds) := by
  refine hn_v (by decide) (Nat.le_of_ble_eq_true rfl) ?_
  intro p e s m below meth c C hnm Q Z ls T hl
  have hx := C.x
  have hb := C.b
  have hl : lv_has ls 6 [(0, .ref (L 0)), (1, .ref (L (70 + k))), (2, .int (nI n))] := hl
  have hF : Fr (RO L B) h h := Fr.rf
  have hva := iv a4 ha4
  have hvd := iv a5 ha5
  refine lv_iconst (v := nI 0) hx hb dX1_findSure_0 rfl ?_
  refine lv_istore_n (lv' := [(3, .int (nI 0)), (0, .ref (L 0)), (1, .ref (L (70 + k))), (2, .int (nI n))]) hx hb dX1_findSure_1 rfl hl (by decide) rfl (fun ls7007 hl7007 => ?_)
  have L1 : ∀ (j : Nat) (a : Nat) (r : Nat → Int32) (V2 c2 : Nat → Nat) (cc_ ss_ : Nat) (h7008 : HH) (H7008 : Heap) (locs7008 : List Loc) (ls7008 : Array Slot), (n + 2 ≤ a + j) → (h7008 (L 0) = some (.inr (0, [.ref (L 1), .int (nI (N 0)), .ref (L 3), .int (nI (N 1)), .int (nI (N 2)), .int (nI (N 3)), .int (nI (N 4)), .int (nI (N 5)), .int (nI (N 6)), .int (nI (N 7)), .int (nI (N 8)), .ref (L 12), .ref (L 13), .ref (L 14), .ref (L 15), .ref (L 16), .ref (L 17), .int (nI (N 11)), .int (nI (N 15)), .int (nI (N 16)), .int (nI (N 17)), .int (nI (N 18) - 1), .int (nI (N 19)), .ref (L 24), .int (nI pp), .ref (L 26), .ref (L 27), .ref (if N 13 = 1 then L 27 else L 26), .ref (L 29), .ref (L 30), .ref (if N 12 = 1 then L 30 else L 29), .ref (L 32), .ref (B 0), .ref (B 1), .ref (B 2), .ref (B 3), .ref (L 37), .ref (L 38), .ref (L 39), .ref (B 4), .ref (B 5)]), L 0)) → (h7008 (L 1) = some (.inl (E.2.1 0, 8, .inl g), L 0)) → (h7008 (L (70 + k)) = some (.inr (8, [.int (pw k), .int (pl k), .int (ps k), .ref (B (19 + 2 * k)), .ref (B (20 + 2 * k))]), L 24)) → (h7008 (L 39) = some (.inl (E.2.1 3, 961, .inl r), L 0)) → (a ≤ n + 1) → (∀ i j, i + j ≤ n → (i < a ∨ (i = a ∧ j < 0)) → r (i * 31 + j) = nI (suN N (M 0 a4) (M 0 a5) i j)) → (Bgs E h7008 B V2 c2) → (Gw cp c2 cc_ ss_) → (∀ i, i ≠ 0 → i ≠ 1 → i ≠ 4 → i ≠ 5 → V2 i = V i) → (FrX (L 39) (BO B) h h7008) → (Fr (RO L B) h h7008) → (St E s h7008 H7008 locs7008) → (lv_has ls7008 6 [(0, .ref (L 0)), (1, .ref (L (70 + k))), (2, .int (nI n)), (3, .int (nI a))]) → W p l e ({ frames := 4, cells := (KX - ksum cp NB) / 8 + 8, slots := 2 * (KX - ksum cp NB) + 2048, locals := 600 } : Room) s m ([.ref (L 0), .ref (L (70 + k)), .int (nI n)] : List Value).toArray below meth c H7008 locs7008 cc_ ss_ Q (F0 m 2 ls7008 []) := by
    intro j
    induction j with
    | zero => intro a r V2 c2 cc_ ss_ h7008 H7008 locs7008 ls7008 hm7008 ho0_7008 ha1_7008 hpk_7008 ha39_7008 ha hd hB hW hvk hfx hF_7008 T7008 hl7008; exact absurd hm7008 (by omega)
    | succ j ih7008 =>
      intro a r V2 c2 cc_ ss_ h7008 H7008 locs7008 ls7008 hm7008 ho0_7008 ha1_7008 hpk_7008 ha39_7008 ha hd hB hW hvk hfx hF_7008 T7008 hl7008
      refine lv_iload_n hx hb dX1_findSure_2 rfl (lv_at hl7008 3 rfl) ?_
      refine lv_iload_n hx hb dX1_findSure_3 rfl (lv_at hl7008 2 rfl) ?_
      refine hn_icmp_gt (tgt := 180) hx hb dX1_findSure_4 (by decide) (by omega) (by omega) (fun c1 => ?_) (fun c1 => ?_)
      · exact Z _ _ _ _ _ _ _ dX1_findSure_180 (by have hgw := (hW); have hg1 := hgw.1; have hg2 := hgw.2; have hkm := hB.kmax; show cc_ ≤ (KX - ksum cp NB) / 8 + 8; omega) (by have hgw := (hW); have hg1 := hgw.1; have hg2 := hgw.2; have hkm := hB.kmax; show ss_ ≤ 2 * (KX - ksum cp NB) + 2048; omega) ⟨rfl, r, V2, c2, hB, ha39_7008, fun i j hij => hd i j hij (Or.inl (by omega)), hvk, hfx, hF_7008, hW⟩ T7008
      · refine lv_iconst (v := nI 0) hx hb dX1_findSure_7 rfl ?_
        refine lv_istore (lv' := [(4, .int (nI 0)), (0, .ref (L 0)), (1, .ref (L (70 + k))), (2, .int (nI n)), (3, .int (nI a))]) hx hb dX1_findSure_8 hl7008 (by decide) rfl (fun ls7009 hl7009 => ?_)
        have L2 : ∀ (j2 : Nat) (b : Nat) (r : Nat → Int32) (V2 c2 : Nat → Nat) (cc_ ss_ : Nat) (h7010 : HH) (H7010 : Heap) (locs7010 : List Loc) (ls7010 : Array Slot), (n + 2 ≤ b + j2) → (h7010 (L 0) = some (.inr (0, [.ref (L 1), .int (nI (N 0)), .ref (L 3), .int (nI (N 1)), .int (nI (N 2)), .int (nI (N 3)), .int (nI (N 4)), .int (nI (N 5)), .int (nI (N 6)), .int (nI (N 7)), .int (nI (N 8)), .ref (L 12), .ref (L 13), .ref (L 14), .ref (L 15), .ref (L 16), .ref (L 17), .int (nI (N 11)), .int (nI (N 15)), .int (nI (N 16)), .int (nI (N 17)), .int (nI (N 18) - 1), .int (nI (N 19)), .ref (L 24), .int (nI pp), .ref (L 26), .ref (L 27), .ref (if N 13 = 1 then L 27 else L 26), .ref (L 29), .ref (L 30), .ref (if N 12 = 1 then L 30 else L 29), .ref (L 32), .ref (B 0), .ref (B 1), .ref (B 2), .ref (B 3), .ref (L 37), .ref (L 38), .ref (L 39), .ref (B 4), .ref (B 5)]), L 0)) → (h7010 (L 1) = some (.inl (E.2.1 0, 8, .inl g), L 0)) → (h7010 (L (70 + k)) = some (.inr (8, [.int (pw k), .int (pl k), .int (ps k), .ref (B (19 + 2 * k)), .ref (B (20 + 2 * k))]), L 24)) → (h7010 (L 39) = some (.inl (E.2.1 3, 961, .inl r), L 0)) → (a + b ≤ n + 1) → (∀ i j, i + j ≤ n → (i < a ∨ (i = a ∧ j < b)) → r (i * 31 + j) = nI (suN N (M 0 a4) (M 0 a5) i j)) → (Bgs E h7010 B V2 c2) → (Gw cp c2 cc_ ss_) → (∀ i, i ≠ 0 → i ≠ 1 → i ≠ 4 → i ≠ 5 → V2 i = V i) → (FrX (L 39) (BO B) h h7010) → (Fr (RO L B) h h7010) → (St E s h7010 H7010 locs7010) → (lv_has ls7010 6 [(0, .ref (L 0)), (1, .ref (L (70 + k))), (2, .int (nI n)), (3, .int (nI a)), (4, .int (nI b))]) → W p l e ({ frames := 4, cells := (KX - ksum cp NB) / 8 + 8, slots := 2 * (KX - ksum cp NB) + 2048, locals := 600 } : Room) s m ([.ref (L 0), .ref (L (70 + k)), .int (nI n)] : List Value).toArray below meth c H7010 locs7010 cc_ ss_ Q (F0 m 10 ls7010 []) := by
          intro j2
          induction j2 with
          | zero => intro b r V2 c2 cc_ ss_ h7010 H7010 locs7010 ls7010 hm7010 ho0_7010 ha1_7010 hpk_7010 ha39_7010 hb0 hd hB hW hvk hfx hF_7010 T7010 hl7010; exact absurd hm7010 (by omega)
          | succ j2 ih7010 =>
            intro b r V2 c2 cc_ ss_ h7010 H7010 locs7010 ls7010 hm7010 ho0_7010 ha1_7010 hpk_7010 ha39_7010 hb0 hd hB hW hvk hfx hF_7010 T7010 hl7010
            refine lv_iload_n hx hb dX1_findSure_10 rfl (lv_at hl7010 3 rfl) ?_
            refine lv_iload hx hb dX1_findSure_11 (lv_at hl7010 4 rfl) ?_
            refine hn_iadd hx hb dX1_findSure_13 ?_
            refine lv_iload_n hx hb dX1_findSure_14 rfl (lv_at hl7010 2 rfl) ?_
            refine hn_icmp_gt (tgt := 174) hx hb dX1_findSure_15 (by decide) (by omega) (by omega) (fun c2 => ?_) (fun c2 => ?_)
            · refine lv_iinc (v := nI (a + 1)) (lv' := [(3, .int (nI (a + 1))), (0, .ref (L 0)), (1, .ref (L (70 + k))), (2, .int (nI n)), (4, .int (nI b))]) hx hb dX1_findSure_174 hl7010 (k := 3) rfl (nI_add a 1) (by decide) rfl (fun ls7011 hl7011 => ?_)
              refine lv_goto (tgt := 2) hx hb dX1_findSure_177 (by decide) ?_
              exact ih7008 (a + 1) _ _ _ _ _ _ _ _ _ (by omega) ho0_7010 ha1_7010 hpk_7010 ha39_7010 (by omega) (fun i j h1 h2 => hd i j h1 (by omega)) hB hW hvk hfx hF_7010 T7010 (lv_sub hl7011 [1, 2, 3, 0] rfl)
            · refine lv_aload_n hx hb dX1_findSure_18 rfl (lv_at hl7010 0 rfl) ?_
              refine hr_get C T7010 ho0_7010 rfl in_X1 40 (by decide) q342 rfl rfl dX1_findSure_19 ?_
              refine lv_lconst (v := lN 1) hx hb dX1_findSure_22 rfl ?_
              obtain ⟨ca7012, hbo7012⟩ := hB.o (i := 5) (by decide)
              refine hc_V C T7010 hl7010.1 hbo7012 rfl (g_set (i := 5) hB (by decide) (by decide)) q271 q272 q273 q59 q274 kd_X7_set rfl rfl ⟨Nat.le_of_ble_eq_true rfl, Nat.le_of_ble_eq_true rfl⟩ (Nat.le_of_ble_eq_true rfl) dX1_findSure_23 ⟨by have hgw := (hW); have hg1 := hgw.1; have hg2 := hgw.2; have hkm := hB.kmax; show cc_ + 0 ≤ (KX - ksum cp NB) / 8 + 8; omega, by have hgw := (hW); have hg1 := hgw.1; have hg2 := hgw.2; have hkm := hB.kmax; show ss_ + 0 ≤ 2 * (KX - ksum cp NB) + 2048; omega⟩ (fun rv h7013 H7013 locs7013 hp7013 T7013 => ?_)
              obtain ⟨rfl, hB7013, hF7013⟩ := hp7013
              have hF_7013 : Fr (RO L B) h h7013 := hF_7010.tr (hF7013.mono (fun _ z => Or.inr z))
              refine W.eq (g2 := F0 m 26 ls7010 []) rfl ?_
              refine lv_aload_n hx hb dX1_findSure_26 rfl (lv_at hl7010 0 rfl) ?_
              have ho0_7013 : h7013 (L 0) = some (.inr (0, [.ref (L 1), .int (nI (N 0)), .ref (L 3), .int (nI (N 1)), .int (nI (N 2)), .int (nI (N 3)), .int (nI (N 4)), .int (nI (N 5)), .int (nI (N 6)), .int (nI (N 7)), .int (nI (N 8)), .ref (L 12), .ref (L 13), .ref (L 14), .ref (L 15), .ref (L 16), .ref (L 17), .int (nI (N 11)), .int (nI (N 15)), .int (nI (N 16)), .int (nI (N 17)), .int (nI (N 18) - 1), .int (nI (N 19)), .ref (L 24), .int (nI pp), .ref (L 26), .ref (L 27), .ref (if N 13 = 1 then L 27 else L 26), .ref (L 29), .ref (L 30), .ref (if N 12 = 1 then L 30 else L 29), .ref (L 32), .ref (B 0), .ref (B 1), .ref (B 2), .ref (B 3), .ref (L 37), .ref (L 38), .ref (L 39), .ref (B 4), .ref (B 5)]), L 0) := hF7013 _ _ ho0_7010 (fun ⟨i, hi, e⟩ => hLay.2 i 0 hi (by decide) e.symm)
              refine hr_get C T7013 ho0_7013 rfl in_X1 39 (by decide) q341 rfl rfl dX1_findSure_27 ?_
              refine lv_lconst (v := lN 1) hx hb dX1_findSure_30 rfl ?_
              obtain ⟨ca7014, hbo7014⟩ := hB7013.o (i := 4) (by decide)
              refine hc_V C T7013 hl7010.1 hbo7014 rfl (g_set (i := 4) hB7013 (by decide) (by decide)) q271 q272 q273 q59 q274 kd_X7_set rfl rfl ⟨Nat.le_of_ble_eq_true rfl, Nat.le_of_ble_eq_true rfl⟩ (Nat.le_of_ble_eq_true rfl) dX1_findSure_31 ⟨by have hgw := (hW); have hg1 := hgw.1; have hg2 := hgw.2; have hkm := hB7013.kmax; show cc_ + 0 ≤ (KX - ksum cp NB) / 8 + 8; omega, by have hgw := (hW); have hg1 := hgw.1; have hg2 := hgw.2; have hkm := hB7013.kmax; show ss_ + 0 ≤ 2 * (KX - ksum cp NB) + 2048; omega⟩ (fun rv h7015 H7015 locs7015 hp7015 T7015 => ?_)
              obtain ⟨rfl, hB7015, hF7015⟩ := hp7015
              have hF_7015 : Fr (RO L B) h h7015 := hF_7013.tr (hF7015.mono (fun _ z => Or.inr z))
              refine W.eq (g2 := F0 m 34 ls7010 []) rfl ?_
              refine lv_iconst (v := nI 0) hx hb dX1_findSure_34 rfl ?_
              refine lv_istore (lv' := [(5, .int (nI 0)), (0, .ref (L 0)), (1, .ref (L (70 + k))), (2, .int (nI n)), (3, .int (nI a)), (4, .int (nI b))]) hx hb dX1_findSure_35 hl7010 (by decide) rfl (fun ls7016 hl7016 => ?_)
              have L5 : ∀ (j5 : Nat) (q : Nat) (V3 c3 : Nat → Nat) (c_ s_ : Nat) (h7017 : HH) (H7017 : Heap) (locs7017 : List Loc) (ls7017 : Array Slot), (a + 1 ≤ q + j5) → (h7017 (L 0) = some (.inr (0, [.ref (L 1), .int (nI (N 0)), .ref (L 3), .int (nI (N 1)), .int (nI (N 2)), .int (nI (N 3)), .int (nI (N 4)), .int (nI (N 5)), .int (nI (N 6)), .int (nI (N 7)), .int (nI (N 8)), .ref (L 12), .ref (L 13), .ref (L 14), .ref (L 15), .ref (L 16), .ref (L 17), .int (nI (N 11)), .int (nI (N 15)), .int (nI (N 16)), .int (nI (N 17)), .int (nI (N 18) - 1), .int (nI (N 19)), .ref (L 24), .int (nI pp), .ref (L 26), .ref (L 27), .ref (if N 13 = 1 then L 27 else L 26), .ref (L 29), .ref (L 30), .ref (if N 12 = 1 then L 30 else L 29), .ref (L 32), .ref (B 0), .ref (B 1), .ref (B 2), .ref (B 3), .ref (L 37), .ref (L 38), .ref (L 39), .ref (B 4), .ref (B 5)]), L 0)) → (h7017 (L 1) = some (.inl (E.2.1 0, 8, .inl g), L 0)) → (h7017 (L (70 + k)) = some (.inr (8, [.int (pw k), .int (pl k), .int (ps k), .ref (B (19 + 2 * k)), .ref (B (20 + 2 * k))]), L 24)) → (h7017 (L 39) = some (.inl (E.2.1 3, 961, .inl r), L 0)) → (q ≤ a) → (Bgs E h7017 B V3 c3) → (Gw cp c3 c_ s_) → (V3 5 = (2 * M 0 a4) ^ q) → (V3 4 = 1) → (∀ i, i ≠ 0 → i ≠ 1 → i ≠ 4 → i ≠ 5 → V3 i = V i) → (FrX (L 39) (BO B) h h7017) → (Fr (RO L B) h h7017) → (St E s h7017 H7017 locs7017) → (lv_has ls7017 6 [(0, .ref (L 0)), (1, .ref (L (70 + k))), (2, .int (nI n)), (3, .int (nI a)), (4, .int (nI b)), (5, .int (nI q))]) → W p l e ({ frames := 4, cells := (KX - ksum cp NB) / 8 + 8, slots := 2 * (KX - ksum cp NB) + 2048, locals := 600 } : Room) s m ([.ref (L 0), .ref (L (70 + k)), .int (nI n)] : List Value).toArray below meth c H7017 locs7017 c_ s_ Q (F0 m 37 ls7017 []) := by
                intro j5
                induction j5 with
                | zero => intro q V3 c3 c_ s_ h7017 H7017 locs7017 ls7017 hm7017 ho0_7017 ha1_7017 hpk_7017 ha39_7017 hq hB3 hW3 hv3 hv4 hvk3 hfx3 hF_7017 T7017 hl7017; exact absurd hm7017 (by omega)
                | succ j5 ih7017 =>
                  intro q V3 c3 c_ s_ h7017 H7017 locs7017 ls7017 hm7017 ho0_7017 ha1_7017 hpk_7017 ha39_7017 hq hB3 hW3 hv3 hv4 hvk3 hfx3 hF_7017 T7017 hl7017
                  refine lv_iload hx hb dX1_findSure_37 (lv_at hl7017 5 rfl) ?_
                  refine lv_iload_n hx hb dX1_findSure_39 rfl (lv_at hl7017 3 rfl) ?_
                  refine hn_icmp_ge (tgt := 67) hx hb dX1_findSure_40 (by decide) (by omega) (by omega) (fun c5 => ?_) (fun c5 => ?_)
                  · have e5 : q = a := by omega
                    rw [e5] at hv3
                    refine lv_iconst (v := nI 0) hx hb dX1_findSure_67 rfl ?_
                    refine lv_istore (lv' := [(5, .int (nI 0)), (0, .ref (L 0)), (1, .ref (L (70 + k))), (2, .int (nI n)), (3, .int (nI a)), (4, .int (nI b))]) hx hb dX1_findSure_68 hl7017 (by decide) rfl (fun ls7021 hl7021 => ?_)
                    have L6 : ∀ (j6 : Nat) (q : Nat) (V3 c3 : Nat → Nat) (c_ s_ : Nat) (h7022 : HH) (H7022 : Heap) (locs7022 : List Loc) (ls7022 : Array Slot), (b + 1 ≤ q + j6) → (h7022 (L 0) = some (.inr (0, [.ref (L 1), .int (nI (N 0)), .ref (L 3), .int (nI (N 1)), .int (nI (N 2)), .int (nI (N 3)), .int (nI (N 4)), .int (nI (N 5)), .int (nI (N 6)), .int (nI (N 7)), .int (nI (N 8)), .ref (L 12), .ref (L 13), .ref (L 14), .ref (L 15), .ref (L 16), .ref (L 17), .int (nI (N 11)), .int (nI (N 15)), .int (nI (N 16)), .int (nI (N 17)), .int (nI (N 18) - 1), .int (nI (N 19)), .ref (L 24), .int (nI pp), .ref (L 26), .ref (L 27), .ref (if N 13 = 1 then L 27 else L 26), .ref (L 29), .ref (L 30), .ref (if N 12 = 1 then L 30 else L 29), .ref (L 32), .ref (B 0), .ref (B 1), .ref (B 2), .ref (B 3), .ref (L 37), .ref (L 38), .ref (L 39), .ref (B 4), .ref (B 5)]), L 0)) → (h7022 (L 1) = some (.inl (E.2.1 0, 8, .inl g), L 0)) → (h7022 (L (70 + k)) = some (.inr (8, [.int (pw k), .int (pl k), .int (ps k), .ref (B (19 + 2 * k)), .ref (B (20 + 2 * k))]), L 24)) → (h7022 (L 39) = some (.inl (E.2.1 3, 961, .inl r), L 0)) → (q ≤ b) → (Bgs E h7022 B V3 c3) → (Gw cp c3 c_ s_) → (V3 5 = (2 * M 0 a4) ^ a * (2 * M 0 a5) ^ q) → (V3 4 = 1) → (∀ i, i ≠ 0 → i ≠ 1 → i ≠ 4 → i ≠ 5 → V3 i = V i) → (FrX (L 39) (BO B) h h7022) → (Fr (RO L B) h h7022) → (St E s h7022 H7022 locs7022) → (lv_has ls7022 6 [(0, .ref (L 0)), (1, .ref (L (70 + k))), (2, .int (nI n)), (3, .int (nI a)), (4, .int (nI b)), (5, .int (nI q))]) → W p l e ({ frames := 4, cells := (KX - ksum cp NB) / 8 + 8, slots := 2 * (KX - ksum cp NB) + 2048, locals := 600 } : Room) s m ([.ref (L 0), .ref (L (70 + k)), .int (nI n)] : List Value).toArray below meth c H7022 locs7022 c_ s_ Q (F0 m 70 ls7022 []) := by
                      intro j6
                      induction j6 with
                      | zero => intro q V3 c3 c_ s_ h7022 H7022 locs7022 ls7022 hm7022 ho0_7022 ha1_7022 hpk_7022 ha39_7022 hq hB3 hW3 hv3 hv4 hvk3 hfx3 hF_7022 T7022 hl7022; exact absurd hm7022 (by omega)
                      | succ j6 ih7022 =>
                        intro q V3 c3 c_ s_ h7022 H7022 locs7022 ls7022 hm7022 ho0_7022 ha1_7022 hpk_7022 ha39_7022 hq hB3 hW3 hv3 hv4 hvk3 hfx3 hF_7022 T7022 hl7022
                        refine lv_iload hx hb dX1_findSure_70 (lv_at hl7022 5 rfl) ?_
                        refine lv_iload hx hb dX1_findSure_72 (lv_at hl7022 4 rfl) ?_
                        refine hn_icmp_ge (tgt := 101) hx hb dX1_findSure_74 (by decide) (by omega) (by omega) (fun c6 => ?_) (fun c6 => ?_)
                        · have e6 : q = b := by omega
                          rw [e6] at hv3
                          refine lv_iconst (v := nI 0) hx hb dX1_findSure_101 rfl ?_
                          refine lv_istore (lv' := [(5, .int (nI 0)), (0, .ref (L 0)), (1, .ref (L (70 + k))), (2, .int (nI n)), (3, .int (nI a)), (4, .int (nI b))]) hx hb dX1_findSure_102 hl7022 (by decide) rfl (fun ls7026 hl7026 => ?_)
                          have L7 : ∀ (j7 : Nat) (q : Nat) (V3 c3 : Nat → Nat) (c_ s_ : Nat) (h7027 : HH) (H7027 : Heap) (locs7027 : List Loc) (ls7027 : Array Slot), ((a + b) + 1 ≤ q + j7) → (h7027 (L 0) = some (.inr (0, [.ref (L 1), .int (nI (N 0)), .ref (L 3), .int (nI (N 1)), .int (nI (N 2)), .int (nI (N 3)), .int (nI (N 4)), .int (nI (N 5)), .int (nI (N 6)), .int (nI (N 7)), .int (nI (N 8)), .ref (L 12), .ref (L 13), .ref (L 14), .ref (L 15), .ref (L 16), .ref (L 17), .int (nI (N 11)), .int (nI (N 15)), .int (nI (N 16)), .int (nI (N 17)), .int (nI (N 18) - 1), .int (nI (N 19)), .ref (L 24), .int (nI pp), .ref (L 26), .ref (L 27), .ref (if N 13 = 1 then L 27 else L 26), .ref (L 29), .ref (L 30), .ref (if N 12 = 1 then L 30 else L 29), .ref (L 32), .ref (B 0), .ref (B 1), .ref (B 2), .ref (B 3), .ref (L 37), .ref (L 38), .ref (L 39), .ref (B 4), .ref (B 5)]), L 0)) → (h7027 (L 1) = some (.inl (E.2.1 0, 8, .inl g), L 0)) → (h7027 (L (70 + k)) = some (.inr (8, [.int (pw k), .int (pl k), .int (ps k), .ref (B (19 + 2 * k)), .ref (B (20 + 2 * k))]), L 24)) → (h7027 (L 39) = some (.inl (E.2.1 3, 961, .inl r), L 0)) → (q ≤ (a + b)) → (Bgs E h7027 B V3 c3) → (Gw cp c3 c_ s_) → (V3 4 = (M 0 a4 + M 0 a5) ^ q) → (V3 5 = (2 * M 0 a4) ^ a * (2 * M 0 a5) ^ b) → (∀ i, i ≠ 0 → i ≠ 1 → i ≠ 4 → i ≠ 5 → V3 i = V i) → (FrX (L 39) (BO B) h h7027) → (Fr (RO L B) h h7027) → (St E s h7027 H7027 locs7027) → (lv_has ls7027 6 [(0, .ref (L 0)), (1, .ref (L (70 + k))), (2, .int (nI n)), (3, .int (nI a)), (4, .int (nI b)), (5, .int (nI q))]) → W p l e ({ frames := 4, cells := (KX - ksum cp NB) / 8 + 8, slots := 2 * (KX - ksum cp NB) + 2048, locals := 600 } : Room) s m ([.ref (L 0), .ref (L (70 + k)), .int (nI n)] : List Value).toArray below meth c H7027 locs7027 c_ s_ Q (F0 m 104 ls7027 []) := by
                            intro j7
                            induction j7 with
                            | zero => intro q V3 c3 c_ s_ h7027 H7027 locs7027 ls7027 hm7027 ho0_7027 ha1_7027 hpk_7027 ha39_7027 hq hB3 hW3 hv3 hv4 hvk3 hfx3 hF_7027 T7027 hl7027; exact absurd hm7027 (by omega)
                            | succ j7 ih7027 =>
                              intro q V3 c3 c_ s_ h7027 H7027 locs7027 ls7027 hm7027 ho0_7027 ha1_7027 hpk_7027 ha39_7027 hq hB3 hW3 hv3 hv4 hvk3 hfx3 hF_7027 T7027 hl7027
                              refine lv_iload hx hb dX1_findSure_104 (lv_at hl7027 5 rfl) ?_
                              refine lv_iload_n hx hb dX1_findSure_106 rfl (lv_at hl7027 3 rfl) ?_
                              refine lv_iload hx hb dX1_findSure_107 (lv_at hl7027 4 rfl) ?_
                              refine hn_iadd hx hb dX1_findSure_109 ?_
                              refine hn_icmp_ge (tgt := 145) hx hb dX1_findSure_110 (by decide) (by omega) (by omega) (fun c7 => ?_) (fun c7 => ?_)
                              · have e7 : q = a + b := by omega
                                rw [e7] at hv3
                                have hl4 : lm (V3 4) ≤ 20 := by rw [hv3]; exact lm20 (ps_le hva hvd (by omega))
                                have hl5 : lm (V3 5) ≤ 20 := by rw [hv4]; exact lm20 (pv_le hva hvd (by omega))
                                refine lv_aload_n hx hb dX1_findSure_145 rfl (lv_at hl7027 0 rfl) ?_
                                refine hr_get C T7027 ho0_7027 rfl in_X1 38 (by decide) q340 rfl rfl dX1_findSure_146 ?_
                                refine lv_iload_n hx hb dX1_findSure_149 rfl (lv_at hl7027 3 rfl) ?_
                                refine lv_iload hx hb dX1_findSure_150 (lv_at hl7027 4 rfl) ?_
                                refine hp_S C T7027 hl7027.1 (p_X1_at) q907 q908 q53 q909 kd_X1_at rfl rfl ⟨Nat.le_of_ble_eq_true rfl, Nat.le_of_ble_eq_true rfl⟩ (Nat.le_of_ble_eq_true rfl) dX1_findSure_152 ⟨by have hgw := (hW3); have hg1 := hgw.1; have hg2 := hgw.2; have hkm := hB3.kmax; show c_ + 0 ≤ (KX - ksum cp NB) / 8 + 8; omega, by have hgw := (hW3); have hg1 := hgw.1; have hg2 := hgw.2; have hkm := hB3.kmax; show s_ + 0 ≤ 2 * (KX - ksum cp NB) + 2048; omega⟩ (fun rv H7031 hp7031 T7031 => ?_)
                                obtain rfl := hp7031
                                refine W.eq (g2 := F0 m 155 ls7027 [.int (nI (a * 31 + b)), .ref (L 39)]) rfl ?_
                                refine lv_aload_n hx hb dX1_findSure_155 rfl (lv_at hl7027 0 rfl) ?_
                                refine lv_aload_n hx hb dX1_findSure_156 rfl (lv_at hl7027 0 rfl) ?_
                                refine hr_get C T7031 ho0_7027 rfl in_X1 40 (by decide) q342 rfl rfl dX1_findSure_157 ?_
                                refine lv_aload_n hx hb dX1_findSure_160 rfl (lv_at hl7027 0 rfl) ?_
                                refine hr_get C T7031 ho0_7027 rfl in_X1 39 (by decide) q341 rfl rfl dX1_findSure_161 ?_
                                refine hg_V C T7031 hl7027.1 ho0_7027 rfl (m_X1_reaches hLay hB3 ho0_7027 (i := 5) (k := 4) (by decide) (by decide) (by decide) (by decide) hl5_ hl6_ (by omega) (by omega)) q910 q798 qs11 q53 q799 kd_X1_reaches rfl rfl ⟨Nat.le_of_ble_eq_true rfl, Nat.le_of_ble_eq_true rfl⟩ (Nat.le_of_ble_eq_true rfl) dX1_findSure_164 ⟨by have hgw := (hW3); have hg1 := hgw.1; have hg2 := hgw.2; have hkm := hB3.kmax; show c_ + ((KX - ksum c3 NB) / 8 + 8) ≤ (KX - ksum cp NB) / 8 + 8; omega, by have hgw := (hW3); have hg1 := hgw.1; have hg2 := hgw.2; have hkm := hB3.kmax; show s_ + (2 * (KX - ksum c3 NB) + 2048) ≤ 2 * (KX - ksum cp NB) + 2048; omega⟩ (fun rv h7032 dc7032 ds7032 H7032 locs7032 hp7032 T7032 => ?_)
                                obtain ⟨rfl, V7032, c7032, hB7032, ho7032, hF7032, hw7032⟩ := hp7032
                                have hW7032 := (hW3).tr hw7032
                                have hF_7032 : Fr (RO L B) h h7032 := hF_7027.tr (hF7032.mono (fun _ z => Or.inr z))
                                refine W.eq (g2 := F0 m 167 ls7027 [.int (if V3 4 * N 6 ≤ V3 5 * N 5 then 1 else 0), .int (nI (a * 31 + b)), .ref (L 39)]) rfl ?_
                                rw [show (if V3 4 * N 6 ≤ V3 5 * N 5 then (1 : Int32) else 0) = nI (suN N (M 0 a4) (M 0 a5) a b) by rw [hv3, hv4]; unfold suN; split <;> rfl]
                                have ha39_7032 : h7032 (L 39) = some (.inl (E.2.1 3, 961, .inl r), L 0) := hF7032 _ _ ha39_7027 (fun ⟨i, hi, e⟩ => hLay.2 i 0 hi (by decide) e.symm)
                                refine hr_zast C T7032 ha39_7032 (by omega) (by omega) (nar_z (nz01 (suN_le _ _ _ _ _))) dX1_findSure_167 (fun h7033 H7033 locs7033 eh7033 T7033 => ?_)
                                have ha39_7033 : h7033 (L 39) = some (.inl (E.2.1 3, 961, .inl (upd r (a * 31 + b) (nI (suN N (M 0 a4) (M 0 a5) a b)))), L 0) := hu_s eh7033
                                have hF_7033 : Fr (RO L B) h h7033 := hu_f eh7033 hF_7032 ha39_7032 (Or.inl rfl)
                                refine lv_iinc (v := nI (b + 1)) (lv' := [(4, .int (nI (b + 1))), (0, .ref (L 0)), (1, .ref (L (70 + k))), (2, .int (nI n)), (3, .int (nI a)), (5, .int (nI q))]) hx hb dX1_findSure_168 hl7027 (k := 4) rfl (nI_add b 1) (by decide) rfl (fun ls7034 hl7034 => ?_)
                                refine lv_goto (tgt := 10) hx hb dX1_findSure_171 (by decide) ?_
                                have hB7032_7033 : Bgs E h7033 B V7032 c7032 := Bgs.kept (O := (· = L 0)) (hu_f eh7033 Fr.rf ha39_7032 rfl) (fun i hi => hLay.2 i 0 hi (by decide)) hB7032
                                have ho0_7032 : h7032 (L 0) = some (.inr (0, [.ref (L 1), .int (nI (N 0)), .ref (L 3), .int (nI (N 1)), .int (nI (N 2)), .int (nI (N 3)), .int (nI (N 4)), .int (nI (N 5)), .int (nI (N 6)), .int (nI (N 7)), .int (nI (N 8)), .ref (L 12), .ref (L 13), .ref (L 14), .ref (L 15), .ref (L 16), .ref (L 17), .int (nI (N 11)), .int (nI (N 15)), .int (nI (N 16)), .int (nI (N 17)), .int (nI (N 18) - 1), .int (nI (N 19)), .ref (L 24), .int (nI pp), .ref (L 26), .ref (L 27), .ref (if N 13 = 1 then L 27 else L 26), .ref (L 29), .ref (L 30), .ref (if N 12 = 1 then L 30 else L 29), .ref (L 32), .ref (B 0), .ref (B 1), .ref (B 2), .ref (B 3), .ref (L 37), .ref (L 38), .ref (L 39), .ref (B 4), .ref (B 5)]), L 0) := hF7032 _ _ ho0_7027 (fun ⟨i, hi, e⟩ => hLay.2 i 0 hi (by decide) e.symm)
                                have ho0_7033 : h7033 (L 0) = some (.inr (0, [.ref (L 1), .int (nI (N 0)), .ref (L 3), .int (nI (N 1)), .int (nI (N 2)), .int (nI (N 3)), .int (nI (N 4)), .int (nI (N 5)), .int (nI (N 6)), .int (nI (N 7)), .int (nI (N 8)), .ref (L 12), .ref (L 13), .ref (L 14), .ref (L 15), .ref (L 16), .ref (L 17), .int (nI (N 11)), .int (nI (N 15)), .int (nI (N 16)), .int (nI (N 17)), .int (nI (N 18) - 1), .int (nI (N 19)), .ref (L 24), .int (nI pp), .ref (L 26), .ref (L 27), .ref (if N 13 = 1 then L 27 else L 26), .ref (L 29), .ref (L 30), .ref (if N 12 = 1 then L 30 else L 29), .ref (L 32), .ref (B 0), .ref (B 1), .ref (B 2), .ref (B 3), .ref (L 37), .ref (L 38), .ref (L 39), .ref (B 4), .ref (B 5)]), L 0) := hu_n eh7033 (hLay.1 0 39 (by decide) (by decide) (by decide)) ho0_7032
                                have ha1_7032 : h7032 (L 1) = some (.inl (E.2.1 0, 8, .inl g), L 0) := hF7032 _ _ ha1_7027 (fun ⟨i, hi, e⟩ => hLay.2 i 0 hi (by decide) e.symm)
                                have ha1_7033 : h7033 (L 1) = some (.inl (E.2.1 0, 8, .inl g), L 0) := hu_n eh7033 (hLay.1 1 39 (by decide) (by decide) (by decide)) ha1_7032
                                have hpk_7032 : h7032 (L (70 + k)) = some (.inr (8, [.int (pw k), .int (pl k), .int (ps k), .ref (B (19 + 2 * k)), .ref (B (20 + 2 * k))]), L 24) := hF7032 _ _ hpk_7027 (fun ⟨i, hi, e⟩ => hLay.2 i 24 hi (by decide) e.symm)
                                have hpk_7033 : h7033 (L (70 + k)) = some (.inr (8, [.int (pw k), .int (pl k), .int (ps k), .ref (B (19 + 2 * k)), .ref (B (20 + 2 * k))]), L 24) := hu_n eh7033 (hLay.1 (70 + k) 39 (by omega) (by omega) (by omega)) hpk_7032
                                exact ih7010 (b + 1) _ _ _ _ _ _ _ _ _ (by omega) ho0_7033 ha1_7033 hpk_7033 ha39_7033 (by omega) (fun i j h1 h2 => by by_cases z : i = a ∧ j = b; (rw [z.1, z.2, pk_us]); (rw [pk_un (by omega)]; exact hd i j h1 (by omega))) hB7032_7033 hW7032 (fun i h0 h1 h4 h5 => (ho7032 i h0 h1).trans (hvk3 i h0 h1 h4 h5)) ((hfx3.fr hF7032).up eh7033) hF_7033 T7033 (lv_sub hl7034 [1, 2, 3, 4, 0] rfl)
                              · have hlm4 : lm (V3 4) ≤ 20 := by rw [hv3]; exact lm20 (ps_le hva hvd (by omega))
                                refine lv_aload_n hx hb dX1_findSure_113 rfl (lv_at hl7027 0 rfl) ?_
                                refine hr_get C T7027 ho0_7027 rfl in_X1 39 (by decide) q341 rfl rfl dX1_findSure_114 ?_
                                refine lv_aload_n hx hb dX1_findSure_117 rfl (lv_at hl7027 0 rfl) ?_
                                refine hr_get C T7027 ho0_7027 rfl in_X1 0 (by decide) q290 rfl rfl dX1_findSure_118 ?_
                                refine lv_aload_n hx hb dX1_findSure_121 rfl (lv_at hl7027 1 rfl) ?_
                                refine hr_getN C T7027 hpk_7027 rfl in_X9 0 (by decide) 8 rfl rfl rfl dX1_findSure_122 ?_
                                rw [show pw k = nI a4 from hw1]
                                refine hr_iald C T7027 ha1_7027 (by omega) (by omega) dX1_findSure_125 ?_
                                rw [show g a4 = nI (M 0 a4) from r1 a4 ha4]
                                refine lv_aload_n hx hb dX1_findSure_126 rfl (lv_at hl7027 0 rfl) ?_
                                refine hr_get C T7027 ho0_7027 rfl in_X1 0 (by decide) q290 rfl rfl dX1_findSure_127 ?_
                                refine lv_aload_n hx hb dX1_findSure_130 rfl (lv_at hl7027 1 rfl) ?_
                                refine hr_getN C T7027 hpk_7027 rfl in_X9 1 (by decide) 9 rfl rfl rfl dX1_findSure_131 ?_
                                rw [show pl k = nI a5 from hw2]
                                refine hr_iald C T7027 ha1_7027 (by omega) (by omega) dX1_findSure_134 ?_
                                rw [show g a5 = nI (M 0 a5) from r1 a5 ha5]
                                refine hn_iadd hx hb dX1_findSure_135 ?_
                                obtain ⟨ca7028, hbo7028⟩ := hB3.o (i := 4) (by decide)
                                refine hg_V C T7027 hl7027.1 hbo7028 rfl (g_times (i := 4) hB3 (by decide) (by omega) (by omega)) q801 q787 q788 q59 q789 kd_X7_times rfl rfl ⟨Nat.le_of_ble_eq_true rfl, Nat.le_of_ble_eq_true rfl⟩ (Nat.le_of_ble_eq_true rfl) dX1_findSure_136 ⟨by have hgw := (hW3); have hg1 := hgw.1; have hg2 := hgw.2; have hkm := hB3.kmax; have := gc_le (c3 4) (lm (V3 4) + 1); have := gs_le ((hB3.1 4 (by decide)).cap.2.2) (show lm (V3 4) + 1 ≤ 128 from (by omega)); show c_ + (gc (c3 4) (lm (V3 4) + 1)) ≤ (KX - ksum cp NB) / 8 + 8; omega, by have hgw := (hW3); have hg1 := hgw.1; have hg2 := hgw.2; have hkm := hB3.kmax; have := gc_le (c3 4) (lm (V3 4) + 1); have := gs_le ((hB3.1 4 (by decide)).cap.2.2) (show lm (V3 4) + 1 ≤ 128 from (by omega)); show s_ + (gs (c3 4) (lm (V3 4) + 1)) ≤ 2 * (KX - ksum cp NB) + 2048; omega⟩ (fun rv h7029 dc7029 ds7029 H7029 locs7029 hp7029 T7029 => ?_)
                                obtain ⟨rfl, c7029, hB7029, hF7029, hw7029⟩ := hp7029
                                have hW7029 := (hW3).tr hw7029
                                have hF_7029 : Fr (RO L B) h h7029 := hF_7027.tr (hF7029.mono (fun _ z => Or.inr z))
                                refine W.eq (g2 := F0 m 139 ls7027 []) rfl ?_
                                refine lv_iinc (v := nI (q + 1)) (lv' := [(5, .int (nI (q + 1))), (0, .ref (L 0)), (1, .ref (L (70 + k))), (2, .int (nI n)), (3, .int (nI a)), (4, .int (nI b))]) hx hb dX1_findSure_139 hl7027 (k := 5) rfl (nI_add q 1) (by decide) rfl (fun ls7030 hl7030 => ?_)
                                refine lv_goto (tgt := 104) hx hb dX1_findSure_142 (by decide) ?_
                                have ho0_7029 : h7029 (L 0) = some (.inr (0, [.ref (L 1), .int (nI (N 0)), .ref (L 3), .int (nI (N 1)), .int (nI (N 2)), .int (nI (N 3)), .int (nI (N 4)), .int (nI (N 5)), .int (nI (N 6)), .int (nI (N 7)), .int (nI (N 8)), .ref (L 12), .ref (L 13), .ref (L 14), .ref (L 15), .ref (L 16), .ref (L 17), .int (nI (N 11)), .int (nI (N 15)), .int (nI (N 16)), .int (nI (N 17)), .int (nI (N 18) - 1), .int (nI (N 19)), .ref (L 24), .int (nI pp), .ref (L 26), .ref (L 27), .ref (if N 13 = 1 then L 27 else L 26), .ref (L 29), .ref (L 30), .ref (if N 12 = 1 then L 30 else L 29), .ref (L 32), .ref (B 0), .ref (B 1), .ref (B 2), .ref (B 3), .ref (L 37), .ref (L 38), .ref (L 39), .ref (B 4), .ref (B 5)]), L 0) := hF7029 _ _ ho0_7027 (fun ⟨i, hi, e⟩ => hLay.2 i 0 hi (by decide) e.symm)
                                have ha1_7029 : h7029 (L 1) = some (.inl (E.2.1 0, 8, .inl g), L 0) := hF7029 _ _ ha1_7027 (fun ⟨i, hi, e⟩ => hLay.2 i 0 hi (by decide) e.symm)
                                have hpk_7029 : h7029 (L (70 + k)) = some (.inr (8, [.int (pw k), .int (pl k), .int (ps k), .ref (B (19 + 2 * k)), .ref (B (20 + 2 * k))]), L 24) := hF7029 _ _ hpk_7027 (fun ⟨i, hi, e⟩ => hLay.2 i 24 hi (by decide) e.symm)
                                have ha39_7029 : h7029 (L 39) = some (.inl (E.2.1 3, 961, .inl r), L 0) := hF7029 _ _ ha39_7027 (fun ⟨i, hi, e⟩ => hLay.2 i 0 hi (by decide) e.symm)
                                exact ih7027 (q + 1) _ _ _ _ _ _ _ _ (by omega) ho0_7029 ha1_7029 hpk_7029 ha39_7029 (by omega) hB7029 hW7029 (by rw [nu_s, hv3, Nat.pow_succ]) (by rw [nu_n (by decide)]; exact hv4) (fun i h0 h1 h4 h5 => by rw [nu_n h4]; exact hvk3 i h0 h1 h4 h5) (hfx3.fr hF7029) hF_7029 T7029 (lv_sub hl7030 [1, 2, 3, 4, 5, 0] rfl)
                          exact L7 (a + b + 1) 0 _ _ _ _ _ _ _ _ (by omega) ho0_7022 ha1_7022 hpk_7022 ha39_7022 (Nat.zero_le _) hB3 hW3 (by rw [Nat.pow_zero]; exact hv4) hv3 hvk3 hfx3 hF_7022 T7022 (lv_sub hl7026 [1, 2, 3, 4, 5, 0] rfl)
                        · have hlm5 : lm (V3 5) ≤ 20 := by rw [hv3]; exact lm20 (pv_le hva hvd (by omega))
                          refine lv_aload_n hx hb dX1_findSure_77 rfl (lv_at hl7022 0 rfl) ?_
                          refine hr_get C T7022 ho0_7022 rfl in_X1 40 (by decide) q342 rfl rfl dX1_findSure_78 ?_
                          refine lv_iconst (v := nI 2) hx hb dX1_findSure_81 rfl ?_
                          refine lv_aload_n hx hb dX1_findSure_82 rfl (lv_at hl7022 0 rfl) ?_
                          refine hr_get C T7022 ho0_7022 rfl in_X1 0 (by decide) q290 rfl rfl dX1_findSure_83 ?_
                          refine lv_aload_n hx hb dX1_findSure_86 rfl (lv_at hl7022 1 rfl) ?_
                          refine hr_getN C T7022 hpk_7022 rfl in_X9 1 (by decide) 9 rfl rfl rfl dX1_findSure_87 ?_
                          rw [show pl k = nI a5 from hw2]
                          refine hr_iald C T7022 ha1_7022 (by omega) (by omega) dX1_findSure_90 ?_
                          rw [show g a5 = nI (M 0 a5) from r1 a5 ha5]
                          refine hn_imul hx hb dX1_findSure_91 ?_
                          obtain ⟨ca7023, hbo7023⟩ := hB3.o (i := 5) (by decide)
                          refine hg_V C T7022 hl7022.1 hbo7023 rfl (g_times (i := 5) hB3 (by decide) (by omega) (by omega)) q801 q787 q788 q59 q789 kd_X7_times rfl rfl ⟨Nat.le_of_ble_eq_true rfl, Nat.le_of_ble_eq_true rfl⟩ (Nat.le_of_ble_eq_true rfl) dX1_findSure_92 ⟨by have hgw := (hW3); have hg1 := hgw.1; have hg2 := hgw.2; have hkm := hB3.kmax; have := gc_le (c3 5) (lm (V3 5) + 1); have := gs_le ((hB3.1 5 (by decide)).cap.2.2) (show lm (V3 5) + 1 ≤ 128 from (by omega)); show c_ + (gc (c3 5) (lm (V3 5) + 1)) ≤ (KX - ksum cp NB) / 8 + 8; omega, by have hgw := (hW3); have hg1 := hgw.1; have hg2 := hgw.2; have hkm := hB3.kmax; have := gc_le (c3 5) (lm (V3 5) + 1); have := gs_le ((hB3.1 5 (by decide)).cap.2.2) (show lm (V3 5) + 1 ≤ 128 from (by omega)); show s_ + (gs (c3 5) (lm (V3 5) + 1)) ≤ 2 * (KX - ksum cp NB) + 2048; omega⟩ (fun rv h7024 dc7024 ds7024 H7024 locs7024 hp7024 T7024 => ?_)
                          obtain ⟨rfl, c7024, hB7024, hF7024, hw7024⟩ := hp7024
                          have hW7024 := (hW3).tr hw7024
                          have hF_7024 : Fr (RO L B) h h7024 := hF_7022.tr (hF7024.mono (fun _ z => Or.inr z))
                          refine W.eq (g2 := F0 m 95 ls7022 []) rfl ?_
                          refine lv_iinc (v := nI (q + 1)) (lv' := [(5, .int (nI (q + 1))), (0, .ref (L 0)), (1, .ref (L (70 + k))), (2, .int (nI n)), (3, .int (nI a)), (4, .int (nI b))]) hx hb dX1_findSure_95 hl7022 (k := 5) rfl (nI_add q 1) (by decide) rfl (fun ls7025 hl7025 => ?_)
                          refine lv_goto (tgt := 70) hx hb dX1_findSure_98 (by decide) ?_
                          have ho0_7024 : h7024 (L 0) = some (.inr (0, [.ref (L 1), .int (nI (N 0)), .ref (L 3), .int (nI (N 1)), .int (nI (N 2)), .int (nI (N 3)), .int (nI (N 4)), .int (nI (N 5)), .int (nI (N 6)), .int (nI (N 7)), .int (nI (N 8)), .ref (L 12), .ref (L 13), .ref (L 14), .ref (L 15), .ref (L 16), .ref (L 17), .int (nI (N 11)), .int (nI (N 15)), .int (nI (N 16)), .int (nI (N 17)), .int (nI (N 18) - 1), .int (nI (N 19)), .ref (L 24), .int (nI pp), .ref (L 26), .ref (L 27), .ref (if N 13 = 1 then L 27 else L 26), .ref (L 29), .ref (L 30), .ref (if N 12 = 1 then L 30 else L 29), .ref (L 32), .ref (B 0), .ref (B 1), .ref (B 2), .ref (B 3), .ref (L 37), .ref (L 38), .ref (L 39), .ref (B 4), .ref (B 5)]), L 0) := hF7024 _ _ ho0_7022 (fun ⟨i, hi, e⟩ => hLay.2 i 0 hi (by decide) e.symm)
                          have ha1_7024 : h7024 (L 1) = some (.inl (E.2.1 0, 8, .inl g), L 0) := hF7024 _ _ ha1_7022 (fun ⟨i, hi, e⟩ => hLay.2 i 0 hi (by decide) e.symm)
                          have hpk_7024 : h7024 (L (70 + k)) = some (.inr (8, [.int (pw k), .int (pl k), .int (ps k), .ref (B (19 + 2 * k)), .ref (B (20 + 2 * k))]), L 24) := hF7024 _ _ hpk_7022 (fun ⟨i, hi, e⟩ => hLay.2 i 24 hi (by decide) e.symm)
                          have ha39_7024 : h7024 (L 39) = some (.inl (E.2.1 3, 961, .inl r), L 0) := hF7024 _ _ ha39_7022 (fun ⟨i, hi, e⟩ => hLay.2 i 0 hi (by decide) e.symm)
                          exact ih7022 (q + 1) _ _ _ _ _ _ _ _ (by omega) ho0_7024 ha1_7024 hpk_7024 ha39_7024 (by omega) hB7024 hW7024 (by rw [nu_s, hv3, Nat.pow_succ, Nat.mul_assoc]) (by rw [nu_n (by decide)]; exact hv4) (fun i h0 h1 h4 h5 => by rw [nu_n h5]; exact hvk3 i h0 h1 h4 h5) (hfx3.fr hF7024) hF_7024 T7024 (lv_sub hl7025 [1, 2, 3, 4, 5, 0] rfl)
                    exact L6 (b + 1) 0 _ _ _ _ _ _ _ _ (by omega) ho0_7017 ha1_7017 hpk_7017 ha39_7017 (Nat.zero_le _) hB3 hW3 (by rw [hv3, Nat.pow_zero, Nat.mul_one]) hv4 hvk3 hfx3 hF_7017 T7017 (lv_sub hl7021 [1, 2, 3, 4, 5, 0] rfl)
                  · have hlm5 : lm (V3 5) ≤ 20 := by rw [hv3]; have := pv_le (a := q) (b := 0) hva hvd (by omega); rw [Nat.pow_zero, Nat.mul_one] at this; exact lm20 this
                    refine lv_aload_n hx hb dX1_findSure_43 rfl (lv_at hl7017 0 rfl) ?_
                    refine hr_get C T7017 ho0_7017 rfl in_X1 40 (by decide) q342 rfl rfl dX1_findSure_44 ?_
                    refine lv_iconst (v := nI 2) hx hb dX1_findSure_47 rfl ?_
                    refine lv_aload_n hx hb dX1_findSure_48 rfl (lv_at hl7017 0 rfl) ?_
                    refine hr_get C T7017 ho0_7017 rfl in_X1 0 (by decide) q290 rfl rfl dX1_findSure_49 ?_
                    refine lv_aload_n hx hb dX1_findSure_52 rfl (lv_at hl7017 1 rfl) ?_
                    refine hr_getN C T7017 hpk_7017 rfl in_X9 0 (by decide) 8 rfl rfl rfl dX1_findSure_53 ?_
                    rw [show pw k = nI a4 from hw1]
                    refine hr_iald C T7017 ha1_7017 (by omega) (by omega) dX1_findSure_56 ?_
                    rw [show g a4 = nI (M 0 a4) from r1 a4 ha4]
                    refine hn_imul hx hb dX1_findSure_57 ?_
                    obtain ⟨ca7018, hbo7018⟩ := hB3.o (i := 5) (by decide)
                    refine hg_V C T7017 hl7017.1 hbo7018 rfl (g_times (i := 5) hB3 (by decide) (by omega) (by omega)) q801 q787 q788 q59 q789 kd_X7_times rfl rfl ⟨Nat.le_of_ble_eq_true rfl, Nat.le_of_ble_eq_true rfl⟩ (Nat.le_of_ble_eq_true rfl) dX1_findSure_58 ⟨by have hgw := (hW3); have hg1 := hgw.1; have hg2 := hgw.2; have hkm := hB3.kmax; have := gc_le (c3 5) (lm (V3 5) + 1); have := gs_le ((hB3.1 5 (by decide)).cap.2.2) (show lm (V3 5) + 1 ≤ 128 from (by omega)); show c_ + (gc (c3 5) (lm (V3 5) + 1)) ≤ (KX - ksum cp NB) / 8 + 8; omega, by have hgw := (hW3); have hg1 := hgw.1; have hg2 := hgw.2; have hkm := hB3.kmax; have := gc_le (c3 5) (lm (V3 5) + 1); have := gs_le ((hB3.1 5 (by decide)).cap.2.2) (show lm (V3 5) + 1 ≤ 128 from (by omega)); show s_ + (gs (c3 5) (lm (V3 5) + 1)) ≤ 2 * (KX - ksum cp NB) + 2048; omega⟩ (fun rv h7019 dc7019 ds7019 H7019 locs7019 hp7019 T7019 => ?_)
                    obtain ⟨rfl, c7019, hB7019, hF7019, hw7019⟩ := hp7019
                    have hW7019 := (hW3).tr hw7019
                    have hF_7019 : Fr (RO L B) h h7019 := hF_7017.tr (hF7019.mono (fun _ z => Or.inr z))
                    refine W.eq (g2 := F0 m 61 ls7017 []) rfl ?_
                    refine lv_iinc (v := nI (q + 1)) (lv' := [(5, .int (nI (q + 1))), (0, .ref (L 0)), (1, .ref (L (70 + k))), (2, .int (nI n)), (3, .int (nI a)), (4, .int (nI b))]) hx hb dX1_findSure_61 hl7017 (k := 5) rfl (nI_add q 1) (by decide) rfl (fun ls7020 hl7020 => ?_)
                    refine lv_goto (tgt := 37) hx hb dX1_findSure_64 (by decide) ?_
                    have ho0_7019 : h7019 (L 0) = some (.inr (0, [.ref (L 1), .int (nI (N 0)), .ref (L 3), .int (nI (N 1)), .int (nI (N 2)), .int (nI (N 3)), .int (nI (N 4)), .int (nI (N 5)), .int (nI (N 6)), .int (nI (N 7)), .int (nI (N 8)), .ref (L 12), .ref (L 13), .ref (L 14), .ref (L 15), .ref (L 16), .ref (L 17), .int (nI (N 11)), .int (nI (N 15)), .int (nI (N 16)), .int (nI (N 17)), .int (nI (N 18) - 1), .int (nI (N 19)), .ref (L 24), .int (nI pp), .ref (L 26), .ref (L 27), .ref (if N 13 = 1 then L 27 else L 26), .ref (L 29), .ref (L 30), .ref (if N 12 = 1 then L 30 else L 29), .ref (L 32), .ref (B 0), .ref (B 1), .ref (B 2), .ref (B 3), .ref (L 37), .ref (L 38), .ref (L 39), .ref (B 4), .ref (B 5)]), L 0) := hF7019 _ _ ho0_7017 (fun ⟨i, hi, e⟩ => hLay.2 i 0 hi (by decide) e.symm)
                    have ha1_7019 : h7019 (L 1) = some (.inl (E.2.1 0, 8, .inl g), L 0) := hF7019 _ _ ha1_7017 (fun ⟨i, hi, e⟩ => hLay.2 i 0 hi (by decide) e.symm)
                    have hpk_7019 : h7019 (L (70 + k)) = some (.inr (8, [.int (pw k), .int (pl k), .int (ps k), .ref (B (19 + 2 * k)), .ref (B (20 + 2 * k))]), L 24) := hF7019 _ _ hpk_7017 (fun ⟨i, hi, e⟩ => hLay.2 i 24 hi (by decide) e.symm)
                    have ha39_7019 : h7019 (L 39) = some (.inl (E.2.1 3, 961, .inl r), L 0) := hF7019 _ _ ha39_7017 (fun ⟨i, hi, e⟩ => hLay.2 i 0 hi (by decide) e.symm)
                    exact ih7017 (q + 1) _ _ _ _ _ _ _ _ (by omega) ho0_7019 ha1_7019 hpk_7019 ha39_7019 (by omega) hB7019 hW7019 (by rw [nu_s, hv3, Nat.pow_succ]) (by rw [nu_n (by decide)]; exact hv4) (fun i h0 h1 h4 h5 => by rw [nu_n h5]; exact hvk3 i h0 h1 h4 h5) (hfx3.fr hF7019) hF_7019 T7019 (lv_sub hl7020 [1, 2, 3, 4, 5, 0] rfl)
              have ho0_7015 : h7015 (L 0) = some (.inr (0, [.ref (L 1), .int (nI (N 0)), .ref (L 3), .int (nI (N 1)), .int (nI (N 2)), .int (nI (N 3)), .int (nI (N 4)), .int (nI (N 5)), .int (nI (N 6)), .int (nI (N 7)), .int (nI (N 8)), .ref (L 12), .ref (L 13), .ref (L 14), .ref (L 15), .ref (L 16), .ref (L 17), .int (nI (N 11)), .int (nI (N 15)), .int (nI (N 16)), .int (nI (N 17)), .int (nI (N 18) - 1), .int (nI (N 19)), .ref (L 24), .int (nI pp), .ref (L 26), .ref (L 27), .ref (if N 13 = 1 then L 27 else L 26), .ref (L 29), .ref (L 30), .ref (if N 12 = 1 then L 30 else L 29), .ref (L 32), .ref (B 0), .ref (B 1), .ref (B 2), .ref (B 3), .ref (L 37), .ref (L 38), .ref (L 39), .ref (B 4), .ref (B 5)]), L 0) := hF7015 _ _ ho0_7013 (fun ⟨i, hi, e⟩ => hLay.2 i 0 hi (by decide) e.symm)
              have ha1_7013 : h7013 (L 1) = some (.inl (E.2.1 0, 8, .inl g), L 0) := hF7013 _ _ ha1_7010 (fun ⟨i, hi, e⟩ => hLay.2 i 0 hi (by decide) e.symm)
              have ha1_7015 : h7015 (L 1) = some (.inl (E.2.1 0, 8, .inl g), L 0) := hF7015 _ _ ha1_7013 (fun ⟨i, hi, e⟩ => hLay.2 i 0 hi (by decide) e.symm)
              have hpk_7013 : h7013 (L (70 + k)) = some (.inr (8, [.int (pw k), .int (pl k), .int (ps k), .ref (B (19 + 2 * k)), .ref (B (20 + 2 * k))]), L 24) := hF7013 _ _ hpk_7010 (fun ⟨i, hi, e⟩ => hLay.2 i 24 hi (by decide) e.symm)
              have hpk_7015 : h7015 (L (70 + k)) = some (.inr (8, [.int (pw k), .int (pl k), .int (ps k), .ref (B (19 + 2 * k)), .ref (B (20 + 2 * k))]), L 24) := hF7015 _ _ hpk_7013 (fun ⟨i, hi, e⟩ => hLay.2 i 24 hi (by decide) e.symm)
              have ha39_7013 : h7013 (L 39) = some (.inl (E.2.1 3, 961, .inl r), L 0) := hF7013 _ _ ha39_7010 (fun ⟨i, hi, e⟩ => hLay.2 i 0 hi (by decide) e.symm)
              have ha39_7015 : h7015 (L 39) = some (.inl (E.2.1 3, 961, .inl r), L 0) := hF7015 _ _ ha39_7013 (fun ⟨i, hi, e⟩ => hLay.2 i 0 hi (by decide) e.symm)
              exact L5 (a + 1) 0 _ _ _ _ _ _ _ _ (by omega) ho0_7015 ha1_7015 hpk_7015 ha39_7015 (Nat.zero_le _) hB7015 hW (by rw [nu_n (by decide), nu_s, Nat.pow_zero]) (by rw [nu_s]) (fun i h0 h1 h4 h5 => by rw [nu_n h4, nu_n h5]; exact hvk i h0 h1 h4 h5) ((hfx.fr hF7013).fr hF7015) hF_7015 T7015 (lv_sub hl7016 [1, 2, 3, 4, 5, 0] rfl)
        exact L2 (n + 2) 0 _ _ _ _ _ _ _ _ _ (by omega) ho0_7008 ha1_7008 hpk_7008 ha39_7008 (by omega) hd hB hW hvk hfx hF_7008 T7008 (lv_sub hl7009 [1, 2, 3, 4, 0] rfl)
  exact L1 (n + 2) 0 _ _ _ _ _ _ _ _ _ (by omega) ho0 ha1 hpk ha39 (Nat.zero_le _) (fun i j h1 h2 => absurd h2 (by omega)) hB (Gw.rf (cp := cp)) (fun _ _ _ _ _ => rfl) FrX.rf hF T (lv_sub hl7007 [1, 2, 3, 0] rfl)
