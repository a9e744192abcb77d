set_option maxRecDepth 100000
theorem l16_and (x : Nat) : lN x &&& 65535 = lN (x % 65536) := by
  apply Int64.toBitVec_inj.mp
  apply BitVec.eq_of_toNat_eq
  rw [Int64.toBitVec_and, BitVec.toNat_and, lN_tnm, lN_tnm, show (65535 : Int64).toBitVec.toNat = 2 ^ 16 - 1 by decide, Nat.and_two_pow_sub_one_eq_mod]
  omega
def gv16 (g : Nat → Nat) (o v n : Nat) : Nat → Nat := fun i => if o ≤ i ∧ i < o + n then v / 65536 ^ (i - o) % 65536 else g i
theorem gv16_0 {g : Nat → Nat} {o v : Nat} : gv16 g o v 0 = g := by
  funext i
  unfold gv16
  rw [if_neg (by omega)]
theorem gv16_s {g : Nat → Nat} {o v n : Nat} : nu (gv16 g o v n) (o + n) (v / 65536 ^ n % 65536) = gv16 g o v (n + 1) := by
  funext i
  by_cases z : i = o + n
  · rw [z, nu_s]
    unfold gv16
    rw [if_pos (by omega), show o + n - o = n by omega]
  · rw [nu_n z]
    unfold gv16
    by_cases y : o ≤ i ∧ i < o + n
    · rw [if_pos y, if_pos (by omega)]
    · rw [if_neg y, if_neg (by omega)]
theorem gv16_v {g : Nat → Nat} {o v : Nat} : ∀ {n m : Nat}, m ≤ n → vp16 (gv16 g o v n) o m = v % 65536 ^ m := by
  intro n m
  induction m with
  | zero => intro _; rw [Nat.pow_zero, Nat.mod_one]; rfl
  | succ m ih =>
    intro hm
    rw [vp16_s, ih (by omega), Nat.mod_pow_succ]
    unfold gv16
    rw [if_pos (by omega), show o + m - o = m by omega, Nat.mul_comm]
theorem gv16_lt {g : Nat → Nat} (h : ∀ i, g i < 65536) (o v n : Nat) : ∀ i, gv16 g o v n i < 65536 := fun i => by
  unfold gv16
  split
  · exact Nat.mod_lt _ (by decide)
  · exact h i

set_option maxHeartbeats 4000000 in
theorem m_X10_give0 {E : GE} {l : Launch} {h : HH} {A N : Nat → Nat} {mc : Nat} (hA : ∀ i j, i < 64 → j < 64 → i ≠ j → A i ≠ A j) (hmo : h (A 0) = some (.inr (9, [.int (nI mc), .ref (A 1), .int (nI (N 0)), .int (nI (N 3)), .int (nI (N 4)), .ref (A 5), .int (nI (N 1)), .int (nI (N 2)), .ref (A 8), .int (nI (N 5)), .int (nI (N 6)), .int (nI (N 7)), .int (nI (N 8)), .ref (A 13), .int (nI (N 9)), .ref (A 15), .int (nI (N 10)), .int (nI (N 11)), .int (nI (N 12)), .int (nI (N 13)), .ref (A 20), .ref (A 21), .ref (A 22), .ref (A 23), .int (nI (N 14)), .ref (A 25), .ref (A 26), .ref (A 27), .int (nI (N 15)), .int (nI (N 16)), .int (nI (N 17)), .int (nI (N 18) - 1), .ref (A 32), .int (nI (N 19)), .ref (A 34), .ref (A 35), .ref (A 36), .ref (A 37), .ref (A 38), .ref (A 39), .ref (A 40), .ref (A 41), .ref (A 42), .ref (A 43), .ref (A 44)]), A 0)) {gb sz : Nat → Nat} {sl v : Nat} (hm34 : h (A 34) = some (.inl (E.2.1 0, 10800, .inl (nI1 gb)), A 0)) (hm35 : h (A 35) = some (.inl (E.2.1 0, 9, .inl (nI1 sz)), A 0)) (hs : sl < 9) (hv : v < 9223372036854775808) : MM E l yX10_give cX10_give 6 none ({ frames := 0, cells := 0, slots := 0, locals := 0 } : Room) [.ref (A 0), .int (nI sl), .long (lN v)] h (fun rv h2 => rv = none ∧ ∃ n, h2 (A 34) = some (.inl (E.2.1 0, 10800, .inl (nI1 (gv16 gb (1200 * sl) v n))), A 0) ∧ h2 (A 35) = some (.inl (E.2.1 0, 9, .inl (nI1 (nu sz sl n))), A 0) ∧ v / 65536 ^ n = 0 ∧ (n = 0 ∨ v / 65536 ^ (n - 1) ≠ 0) ∧ n ≤ 4 ∧ (∀ q, q ≠ A 34 → q ≠ A 35 → h2 q = h q) ∧ Fr (· = A 0) h h2) := by
  refine hm_v (by decide) (Nat.le_of_ble_eq_true rfl) ?_
  intro p e s m below meth c C hnm Q Z ls T hl
  have hx := C.x
  have hb := C.b
  have hl : lv_has ls 6 [(0, .ref (A 0)), (1, .int (nI sl)), (2, .long (lN v))] := hl
  have hF : Fr (· = A 0) h h := Fr.rf
  refine lv_aload_n hx hb dX10_give_0 rfl (lv_at hl 0 rfl) ?_
  refine hr_get C T hmo rfl in_X10 35 (by decide) q1125 rfl rfl dX10_give_1 ?_
  refine lv_iload_n hx hb dX10_give_4 rfl (lv_at hl 1 rfl) ?_
  refine lv_iconst (v := nI 0) hx hb dX10_give_5 rfl ?_
  refine hr_iast C T hm35 (by omega) (by omega) dX10_give_6 (fun h20501 H20501 locs20501 eh20501 T20501 => ?_)
  have hm35_20501 : h20501 (A 35) = some (.inl (E.2.1 0, 9, .inl (upd (nI1 sz) sl (nI 0))), A 0) := hu_s eh20501
  have hF_20501 : Fr (· = A 0) h h20501 := hu_f eh20501 hF hm35 rfl
  rw [← nI1_up] at eh20501 hm35_20501
  refine lv_lload_n hx hb dX10_give_7 rfl (lv_at hl 2 rfl) ?_
  refine lv_lstore (lv' := [(4, .long (lN v)), (0, .ref (A 0)), (1, .int (nI sl)), (2, .long (lN v))]) hx hb dX10_give_8 hl (by decide) rfl (fun ls20502 hl20502 => ?_)
  have L1 : ∀ (j : Nat) (n : Nat) (h20503 : HH) (H20503 : Heap) (locs20503 : List Loc) (ls20503 : Array Slot), (5 ≤ n + j) → (h20503 (A 0) = some (.inr (9, [.int (nI mc), .ref (A 1), .int (nI (N 0)), .int (nI (N 3)), .int (nI (N 4)), .ref (A 5), .int (nI (N 1)), .int (nI (N 2)), .ref (A 8), .int (nI (N 5)), .int (nI (N 6)), .int (nI (N 7)), .int (nI (N 8)), .ref (A 13), .int (nI (N 9)), .ref (A 15), .int (nI (N 10)), .int (nI (N 11)), .int (nI (N 12)), .int (nI (N 13)), .ref (A 20), .ref (A 21), .ref (A 22), .ref (A 23), .int (nI (N 14)), .ref (A 25), .ref (A 26), .ref (A 27), .int (nI (N 15)), .int (nI (N 16)), .int (nI (N 17)), .int (nI (N 18) - 1), .ref (A 32), .int (nI (N 19)), .ref (A 34), .ref (A 35), .ref (A 36), .ref (A 37), .ref (A 38), .ref (A 39), .ref (A 40), .ref (A 41), .ref (A 42), .ref (A 43), .ref (A 44)]), A 0)) → (h20503 (A 34) = some (.inl (E.2.1 0, 10800, .inl (nI1 (gv16 gb (1200 * sl) v n))), A 0)) → (h20503 (A 35) = some (.inl (E.2.1 0, 9, .inl (nI1 (nu sz sl n))), A 0)) → (n ≤ 4) → (n = 0 ∨ v / 65536 ^ (n - 1) ≠ 0) → (∀ q, q ≠ A 34 → q ≠ A 35 → h20503 q = h q) → (Fr (· = A 0) h h20503) → (St E s h20503 H20503 locs20503) → (lv_has ls20503 6 [(0, .ref (A 0)), (1, .int (nI sl)), (4, .long (lN (v / 65536 ^ n)))]) → W p l e ({ frames := 0, cells := 0, slots := 0, locals := 0 } : Room) s m ([.ref (A 0), .int (nI sl), .long (lN v)] : List Value).toArray below meth c H20503 locs20503 0 0 Q (F0 m 10 ls20503 []) := by
    intro j
    induction j with
    | zero => intro n h20503 H20503 locs20503 ls20503 hm20503 hmo_20503 hm34_20503 hm35_20503 hn hnz hoth hF_20503 T20503 hl20503; exact absurd hm20503 (by omega)
    | succ j ih20503 =>
      intro n h20503 H20503 locs20503 ls20503 hm20503 hmo_20503 hm34_20503 hm35_20503 hn hnz hoth hF_20503 T20503 hl20503
      have hvl : v / 65536 ^ n ≤ v := Nat.div_le_self _ _
      refine lv_lload hx hb dX10_give_10 (lv_at hl20503 2 rfl) ?_
      refine lv_lconst (v := lN 0) hx hb dX10_give_12 rfl ?_
      refine W.lcmp hx hb dX10_give_13 ?_
      refine hl_if_eq (tgt := 61) hx hb dX10_give_14 (by decide) (by omega) (by omega) (fun c1 => ?_) (fun c1 => ?_)
      · exact Z _ _ _ _ _ dX10_give_61 ⟨rfl, n, hm34_20503, hm35_20503, c1, hnz, hn, hoth, hF_20503⟩ T20503
      · have hn4 : n < 4 := Nat.lt_of_not_le fun z => c1 (by rw [show n = 4 by omega]; exact Nat.div_eq_of_lt (by omega))
        refine lv_aload_n hx hb dX10_give_17 rfl (lv_at hl20503 0 rfl) ?_
        refine hr_get C T20503 hmo_20503 rfl in_X10 34 (by decide) q1124 rfl rfl dX10_give_18 ?_
        refine lv_sipush (v := nI 1200) hx hb dX10_give_21 rfl ?_
        refine lv_iload_n hx hb dX10_give_24 rfl (lv_at hl20503 1 rfl) ?_
        refine hn_imul hx hb dX10_give_25 ?_
        refine lv_aload_n hx hb dX10_give_26 rfl (lv_at hl20503 0 rfl) ?_
        refine hr_get C T20503 hmo_20503 rfl in_X10 35 (by decide) q1125 rfl rfl dX10_give_27 ?_
        refine lv_iload_n hx hb dX10_give_30 rfl (lv_at hl20503 1 rfl) ?_
        refine hr_iald C T20503 hm35_20503 (by omega) (by omega) dX10_give_31 ?_
        rw [show nI1 (nu sz sl n) sl = nI n by unfold nI1; rw [nu_s]]
        refine hn_iadd hx hb dX10_give_32 ?_
        refine lv_lload hx hb dX10_give_33 (lv_at hl20503 2 rfl) ?_
        refine lv_ldc2 (v := lN 65535) hx hb C.ow (C.ts _ q1089) dX10_give_35 ?_
        refine lv_land hx hb dX10_give_38 ?_
        rw [show lN (v / 65536 ^ n) &&& lN 65535 = lN (v / 65536 ^ n % 65536) from l16_and _]
        refine hn_l2i hx hb dX10_give_39 ?_
        refine hr_iast C T20503 hm34_20503 (by omega) (by omega) dX10_give_40 (fun h20504 H20504 locs20504 eh20504 T20504 => ?_)
        have hm34_20504 : h20504 (A 34) = some (.inl (E.2.1 0, 10800, .inl (upd (nI1 (gv16 gb (1200 * sl) v n)) ((1200 * sl) + n) (nI (v / 65536 ^ n % 65536)))), A 0) := hu_s eh20504
        have hF_20504 : Fr (· = A 0) h h20504 := hu_f eh20504 hF_20503 hm34_20503 rfl
        rw [← nI1_up, gv16_s] at eh20504 hm34_20504
        refine lv_aload_n hx hb dX10_give_41 rfl (lv_at hl20503 0 rfl) ?_
        have hmo_20504 : h20504 (A 0) = some (.inr (9, [.int (nI mc), .ref (A 1), .int (nI (N 0)), .int (nI (N 3)), .int (nI (N 4)), .ref (A 5), .int (nI (N 1)), .int (nI (N 2)), .ref (A 8), .int (nI (N 5)), .int (nI (N 6)), .int (nI (N 7)), .int (nI (N 8)), .ref (A 13), .int (nI (N 9)), .ref (A 15), .int (nI (N 10)), .int (nI (N 11)), .int (nI (N 12)), .int (nI (N 13)), .ref (A 20), .ref (A 21), .ref (A 22), .ref (A 23), .int (nI (N 14)), .ref (A 25), .ref (A 26), .ref (A 27), .int (nI (N 15)), .int (nI (N 16)), .int (nI (N 17)), .int (nI (N 18) - 1), .ref (A 32), .int (nI (N 19)), .ref (A 34), .ref (A 35), .ref (A 36), .ref (A 37), .ref (A 38), .ref (A 39), .ref (A 40), .ref (A 41), .ref (A 42), .ref (A 43), .ref (A 44)]), A 0) := hu_n eh20504 (hA 0 34 (by decide) (by decide) (by decide)) hmo_20503
        refine hr_get C T20504 hmo_20504 rfl in_X10 35 (by decide) q1125 rfl rfl dX10_give_42 ?_
        refine lv_iload_n hx hb dX10_give_45 rfl (lv_at hl20503 1 rfl) ?_
        refine lv_dup2_11 hx hb dX10_give_46 rfl rfl ?_
        have hm35_20504 : h20504 (A 35) = some (.inl (E.2.1 0, 9, .inl (nI1 (nu sz sl n))), A 0) := hu_n eh20504 (hA 35 34 (by decide) (by decide) (by decide)) hm35_20503
        refine hr_iald C T20504 hm35_20504 (by omega) (by omega) dX10_give_47 ?_
        rw [show nI1 (nu sz sl n) sl = nI n by unfold nI1; rw [nu_s]]
        refine lv_iconst (v := nI 1) hx hb dX10_give_48 rfl ?_
        refine hn_iadd hx hb dX10_give_49 ?_
        refine hr_iast C T20504 hm35_20504 (by omega) (by omega) dX10_give_50 (fun h20505 H20505 locs20505 eh20505 T20505 => ?_)
        have hm35_20505 : h20505 (A 35) = some (.inl (E.2.1 0, 9, .inl (upd (nI1 (nu sz sl n)) sl (nI (n + 1)))), A 0) := hu_s eh20505
        have hF_20505 : Fr (· = A 0) h h20505 := hu_f eh20505 hF_20504 hm35_20504 rfl
        rw [← nI1_up, nu_2] at eh20505 hm35_20505
        refine lv_lload hx hb dX10_give_51 (lv_at hl20503 2 rfl) ?_
        refine lv_bipush (v := nI 16) hx hb dX10_give_53 rfl ?_
        refine hn_lushr hx hb dX10_give_55 (by omega) (by omega) ?_
        refine lv_lstore (lv' := [(4, .long (lN ((v / 65536 ^ n) / 2 ^ 16))), (0, .ref (A 0)), (1, .int (nI sl))]) hx hb dX10_give_56 hl20503 (by decide) rfl (fun ls20506 hl20506 => ?_)
        refine lv_goto (tgt := 10) hx hb dX10_give_58 (by decide) ?_
        rw [show v / 65536 ^ n / 2 ^ 16 = v / 65536 ^ (n + 1) by rw [Nat.div_div_eq_div_mul]; rfl] at hl20506
        have hmo_20505 : h20505 (A 0) = some (.inr (9, [.int (nI mc), .ref (A 1), .int (nI (N 0)), .int (nI (N 3)), .int (nI (N 4)), .ref (A 5), .int (nI (N 1)), .int (nI (N 2)), .ref (A 8), .int (nI (N 5)), .int (nI (N 6)), .int (nI (N 7)), .int (nI (N 8)), .ref (A 13), .int (nI (N 9)), .ref (A 15), .int (nI (N 10)), .int (nI (N 11)), .int (nI (N 12)), .int (nI (N 13)), .ref (A 20), .ref (A 21), .ref (A 22), .ref (A 23), .int (nI (N 14)), .ref (A 25), .ref (A 26), .ref (A 27), .int (nI (N 15)), .int (nI (N 16)), .int (nI (N 17)), .int (nI (N 18) - 1), .ref (A 32), .int (nI (N 19)), .ref (A 34), .ref (A 35), .ref (A 36), .ref (A 37), .ref (A 38), .ref (A 39), .ref (A 40), .ref (A 41), .ref (A 42), .ref (A 43), .ref (A 44)]), A 0) := hu_n eh20505 (hA 0 35 (by decide) (by decide) (by decide)) hmo_20504
        have hm34_20505 : h20505 (A 34) = some (.inl (E.2.1 0, 10800, .inl (nI1 (gv16 gb (1200 * sl) v (n + 1)))), A 0) := hu_n eh20505 (hA 34 35 (by decide) (by decide) (by decide)) hm34_20504
        exact ih20503 (n + 1) _ _ _ _ (by omega) hmo_20505 hm34_20505 hm35_20505 (by omega) (Or.inr c1) (fun q z1 z2 => by rw [eh20505, hup_n z2, eh20504, hup_n z1]; exact hoth q z1 z2) hF_20505 T20505 (lv_sub hl20506 [1, 2, 0] rfl)
  have hm34_20501 : h20501 (A 34) = some (.inl (E.2.1 0, 10800, .inl (nI1 gb)), A 0) := hu_n eh20501 (hA 34 35 (by decide) (by decide) (by decide)) hm34
  rw [← gv16_0 (g := gb) (o := (1200 * sl)) (v := v)] at hm34_20501
  rw [show lN v = lN (v / 65536 ^ 0) by rw [Nat.pow_zero, Nat.div_one]] at hl20502
  have hmo_20501 : h20501 (A 0) = some (.inr (9, [.int (nI mc), .ref (A 1), .int (nI (N 0)), .int (nI (N 3)), .int (nI (N 4)), .ref (A 5), .int (nI (N 1)), .int (nI (N 2)), .ref (A 8), .int (nI (N 5)), .int (nI (N 6)), .int (nI (N 7)), .int (nI (N 8)), .ref (A 13), .int (nI (N 9)), .ref (A 15), .int (nI (N 10)), .int (nI (N 11)), .int (nI (N 12)), .int (nI (N 13)), .ref (A 20), .ref (A 21), .ref (A 22), .ref (A 23), .int (nI (N 14)), .ref (A 25), .ref (A 26), .ref (A 27), .int (nI (N 15)), .int (nI (N 16)), .int (nI (N 17)), .int (nI (N 18) - 1), .ref (A 32), .int (nI (N 19)), .ref (A 34), .ref (A 35), .ref (A 36), .ref (A 37), .ref (A 38), .ref (A 39), .ref (A 40), .ref (A 41), .ref (A 42), .ref (A 43), .ref (A 44)]), A 0) := hu_n eh20501 (hA 0 35 (by decide) (by decide) (by decide)) hmo
  exact L1 5 0 _ _ _ _ (by omega) hmo_20501 hm34_20501 hm35_20501 (by decide) (Or.inl rfl) (fun q z1 z2 => by rw [eh20501, hup_n z2]) hF_20501 T20501 (lv_sub hl20502 [1, 2, 0] rfl)

/-- a slot anew, the others as they were -/
theorem Gv.put {E : GE} {A W : Nat → Nat} {h2 : HH} {gb sz gb2 : Nat → Nat} {sl n v : Nat} (hz : ∀ s, s < 9 → sz s ≤ 1200) (hS : ∀ s, s < 9 → Sl gb sz s (W s)) (h34 : h2 (A 34) = some (.inl (E.2.1 0, 10800, .inl (nI1 gb2)), A 0)) (h35 : h2 (A 35) = some (.inl (E.2.1 0, 9, .inl (nI1 (nu sz sl n))), A 0)) (hg2 : ∀ i, gb2 i < 65536) (hn : n ≤ 1200) (ho : ∀ i, ¬ (1200 * sl ≤ i ∧ i < 1200 * sl + 1200) → gb2 i = gb i) (hv : vp16 gb2 (1200 * sl) n = v) (hnz : n = 0 ∨ gb2 (1200 * sl + (n - 1)) ≠ 0) : Gv E A (nu W sl v) h2 := by
  refine ⟨gb2, nu sz sl n, ⟨h34, h35, hg2, fun s hs => ?_⟩, fun s hs => ?_⟩
  · by_cases z : s = sl
    · rw [z, nu_s]; exact hn
    · rw [nu_n z]; exact hz s hs
  · by_cases z : s = sl
    · rw [z, nu_s]
      exact ⟨by rw [nu_s]; exact hv, by rw [nu_s]; exact hnz⟩
    · rw [nu_n z]
      exact (hS s hs).other (hz s hs) (nu_n z) (fun i hi => ho _ (by omega))
theorem m_X10_give {E : GE} {l : Launch} {h : HH} {A N : Nat → Nat} {mc : Nat} (hA : ∀ i j, i < 64 → j < 64 → i ≠ j → A i ≠ A j) (hmo : h (A 0) = some (.inr (9, [.int (nI mc), .ref (A 1), .int (nI (N 0)), .int (nI (N 3)), .int (nI (N 4)), .ref (A 5), .int (nI (N 1)), .int (nI (N 2)), .ref (A 8), .int (nI (N 5)), .int (nI (N 6)), .int (nI (N 7)), .int (nI (N 8)), .ref (A 13), .int (nI (N 9)), .ref (A 15), .int (nI (N 10)), .int (nI (N 11)), .int (nI (N 12)), .int (nI (N 13)), .ref (A 20), .ref (A 21), .ref (A 22), .ref (A 23), .int (nI (N 14)), .ref (A 25), .ref (A 26), .ref (A 27), .int (nI (N 15)), .int (nI (N 16)), .int (nI (N 17)), .int (nI (N 18) - 1), .ref (A 32), .int (nI (N 19)), .ref (A 34), .ref (A 35), .ref (A 36), .ref (A 37), .ref (A 38), .ref (A 39), .ref (A 40), .ref (A 41), .ref (A 42), .ref (A 43), .ref (A 44)]), A 0)) {W : Nat → Nat} {sl v : Nat} (hG : Gv E A W h) (hs : sl < 9) (hv : v < 9223372036854775808) : MM E l yX10_give cX10_give 6 none ({ frames := 0, cells := 0, slots := 0, locals := 0 } : Room) [.ref (A 0), .int (nI sl), .long (lN v)] h (fun rv h2 => rv = none ∧ Gv E A (nu W sl v) h2 ∧ (∀ q, q ≠ A 34 → q ≠ A 35 → h2 q = h q) ∧ Fr (· = A 0) h h2) := by
  obtain ⟨gb, sz, ⟨h34, h35, hg, hz⟩, hS⟩ := hG
  refine MM.imp (m_X10_give0 hA hmo h34 h35 hs hv) ?_
  rintro rv h2 ⟨e, n, a1, a2, a3, a4, a5, a6, a7⟩
  refine ⟨e, Gv.put hz hS a1 a2 (gv16_lt hg _ _ _) (by omega) (fun i hi => ?_) ?_ ?_, a6, a7⟩
  · unfold gv16
    rw [if_neg (by omega)]
  · rw [gv16_v (Nat.le_refl n), Nat.mod_eq_of_lt]
    exact Nat.lt_of_not_le fun z => absurd a3 (Nat.pos_iff_ne_zero.mp (Nat.div_pos z (Nat.pow_pos (by decide))))
  · rcases a4 with z | z
    · exact Or.inl z
    · by_cases y : n = 0
      · exact Or.inl y
      · refine Or.inr ?_
        unfold gv16
        rw [if_pos (by omega), show 1200 * sl + (n - 1) - 1200 * sl = n - 1 by omega, Nat.mod_eq_of_lt]
        · exact z
        · have h5 : v < 65536 ^ n := Nat.lt_of_not_le fun z => absurd a3 (Nat.pos_iff_ne_zero.mp (Nat.div_pos z (Nat.pow_pos (by decide))))
          apply Nat.div_lt_of_lt_mul
          rw [← Nat.pow_succ, show (n - 1).succ = n by omega]
          exact h5
