set_option maxRecDepth 100000
theorem iZ_l {z : Int} (h1 : -2147483648 ≤ z) (h2 : z < 2147483648) : (iZ z).toInt64 = lZ z := by
  apply Int64.toInt_inj.mp
  rw [Int32.toInt_toInt64, lZ_toInt (by omega) (by omega)]
  exact Int32.toInt_ofInt_of_le (by omega) (by omega)
/-- how a ballot is off for a pair -/
def offZ (r c : Int32) (a d : Nat) : Int := (if r = nI a then 1 else 0) - (if c = nI a then 1 else 0) - (if r = nI d then 1 else 0) + (if c = nI d then 1 else 0)
theorem offZ_rng (r c : Int32) (a d : Nat) : -2 ≤ offZ r c a d ∧ offZ r c a d ≤ 2 := by
  unfold offZ
  (repeat' split) <;> omega
theorem off_val (x y u v : Nat) : nI x - nI y - nI u + nI v = iZ ((x : Int) - y - u + v) := by rw [nI_Z, nI_Z, nI_Z, nI_Z, iZ_sub, iZ_sub, iZ_add]
/-- the greatest of off over margin of the pairs before k -/
def bst (M : Nat → Nat → Nat) (r c : Int32) : Nat → Int × Nat
  | 0 => (0, 1)
  | k + 1 => if k = 0 ∨ (bst M r c k).1 * mgn M k < offZ r c (M 4 k) (M 5 k) * (bst M r c k).2 then (offZ r c (M 4 k) (M 5 k), mgn M k) else bst M r c k
theorem bst_s (M : Nat → Nat → Nat) (r c : Int32) (k : Nat) : bst M r c (k + 1) = if k = 0 ∨ (bst M r c k).1 * mgn M k < offZ r c (M 4 k) (M 5 k) * (bst M r c k).2 then (offZ r c (M 4 k) (M 5 k), mgn M k) else bst M r c k := rfl
theorem bst_rng (M : Nat → Nat → Nat) (r c : Int32) : ∀ k, -2 ≤ (bst M r c k).1 ∧ (bst M r c k).1 ≤ 2 := by
  intro k
  induction k with
  | zero => exact ⟨show (-2 : Int) ≤ 0 by decide, show (0 : Int) ≤ 2 by decide⟩
  | succ k ih => rw [bst_s]; split; exact offZ_rng _ _ _ _; exact ih
theorem bst_mem {M : Nat → Nat → Nat} {r c : Int32} : ∀ k, 0 < k → ∃ i, i < k ∧ (bst M r c k).2 = mgn M i := by
  intro k
  induction k with
  | zero => intro h; exact absurd h (by decide)
  | succ k ih =>
    intro _
    rw [bst_s]
    split
    · exact ⟨k, by omega, rfl⟩
    · obtain ⟨i, h1, h2⟩ := ih (by omega)
      exact ⟨i, by omega, h2⟩
theorem bst_up {M : Nat → Nat → Nat} {r c : Int32} {n m : Nat} (h : ∀ i, i < n → mgn M i ≤ m) (hm : 1 ≤ m) : ∀ k, k ≤ n → (bst M r c k).2 ≤ m := by
  intro k
  induction k with
  | zero => intro _; exact hm
  | succ k ih => intro hk; rw [bst_s]; split; exact h k (by omega); exact ih (by omega)
theorem lst_min {M : Nat → Nat → Nat} : ∀ n k, k ≤ n → lst M n ≤ mgn M k := by
  intro n
  induction n with
  | zero => intro k hk; rw [show k = 0 by omega]; exact Nat.le_refl _
  | succ n ih =>
    intro k hk
    rcases Nat.lt_or_ge k (n + 1) with z | z
    · exact Nat.le_trans (Nat.min_le_left _ _) (ih k (by omega))
    · rw [show k = n + 1 by omega]; exact Nat.min_le_right _ _
/-- off and margin of a draw; a blank one is off by nothing -/
def bsz (M : Nat → Nat → Nat) (r c : Int32) (n : Nat) : Int × Nat := if c = -2 then (0, 1) else bst M r c n
def cxA (N : Nat → Nat) (M : Nat → Nat → Nat) (n : Nat) : Nat := 2 * N 7 * N 2 - lst M (n - 1) * N 8
def cxB (N : Nat → Nat) (M : Nat → Nat → Nat) (n : Nat) (z : Int × Nat) : Nat := (((2 * N 7 * z.2 : Nat) : Int) - z.1 * ((lst M (n - 1) : Nat) : Int) * ((N 8 : Nat) : Int)).toNat
theorem cx_nn {o : Int} {l m a b : Nat} (h1 : -2 ≤ o) (h2 : o ≤ 2) (h3 : 0 < o → l ≤ m) (h4 : b ≤ a) : 0 ≤ ((2 * a * m : Nat) : Int) - o * (l : Int) * (b : Int) := by
  rcases (show o ≤ 0 ∨ 0 < o by omega) with z | z
  · have : o * (l : Int) * (b : Int) ≤ 0 := by
      rw [Int.mul_assoc]
      exact Int.mul_nonpos_of_nonpos_of_nonneg z (Int.mul_nonneg (by omega) (by omega))
    omega
  · have h5 := Nat.mul_le_mul (h3 z) h4
    have h6 : o * (l : Int) * (b : Int) ≤ 2 * ((l * b : Nat) : Int) := by
      rw [Int.mul_assoc, Int.natCast_mul]
      exact Int.mul_le_mul_of_nonneg_right h2 (Int.mul_nonneg (by omega) (by omega))
    have h7 : 2 * a * m = 2 * (m * a) := by rw [Nat.mul_assoc, Nat.mul_comm a m]
    omega
theorem cx_up {o : Int} {l m a b : Nat} (h1 : -2 ≤ o) (h2 : o ≤ 2) (h3 : l ≤ 1000000) (h4 : m ≤ 1000000) (h5 : a ≤ 1000000) (h6 : b ≤ 1000000) : ((2 * a * m : Nat) : Int) - o * (l : Int) * (b : Int) < 4398046511104 := by
  have h7 := Nat.mul_le_mul h5 h4
  have h8 := Nat.mul_le_mul h3 h6
  have h9 : 2 * a * m = 2 * (a * m) := Nat.mul_assoc _ _ _
  have e : o * (l : Int) * (b : Int) = o * ((l * b : Nat) : Int) := by rw [Int.mul_assoc, Int.natCast_mul]
  rw [e, h9]
  have h10 : (-2) * ((l * b : Nat) : Int) ≤ o * ((l * b : Nat) : Int) := Int.mul_le_mul_of_nonneg_right h1 (by omega)
  omega
theorem lm_2 {v : Nat} (h : v < 18446744073709551616) : lm v ≤ 2 := lm_le (by rw [show (4294967296 : Nat) ^ 2 = 18446744073709551616 from rfl]; exact h)

set_option maxHeartbeats 4000000 in
theorem m_X1_margin {E : GE} {l : Launch} {h : HH} {L B N : Nat → Nat} {M : Nat → Nat → Nat} {pp k a d : Nat} {g pw pl ps : Nat → Int32} (ho0 : h (L 0) = some (.inr (0, [.ref (L 1), .int (nI (N 0)), .ref (L 3), .int (nI (N 1)), .int (nI (N 2)), .int (nI (N 3)), .int (nI (N 4)), .int (nI (N 5)), .int (nI (N 6)), .int (nI (N 7)), .int (nI (N 8)), .ref (L 12), .ref (L 13), .ref (L 14), .ref (L 15), .ref (L 16), .ref (L 17), .int (nI (N 11)), .int (nI (N 15)), .int (nI (N 16)), .int (nI (N 17)), .int (nI (N 18) - 1), .int (nI (N 19)), .ref (L 24), .int (nI pp), .ref (L 26), .ref (L 27), .ref (if N 13 = 1 then L 27 else L 26), .ref (L 29), .ref (L 30), .ref (if N 12 = 1 then L 30 else L 29), .ref (L 32), .ref (B 0), .ref (B 1), .ref (B 2), .ref (B 3), .ref (L 37), .ref (L 38), .ref (L 39), .ref (B 4), .ref (B 5)]), L 0)) (ha1 : h (L 1) = some (.inl (E.2.1 0, 8, .inl g), L 0)) (hpk : h (L (70 + k)) = some (.inr (8, [.int (pw k), .int (pl k), .int (ps k), .ref (B (19 + 2 * k)), .ref (B (20 + 2 * k))]), L 24)) (hw1 : pw k = nI a) (hw2 : pl k = nI d) (ha : a < 8) (hd : d < 8) (r1 : ∀ i, i < 8 → g i = nI (M 0 i)) (hle : M 0 d ≤ M 0 a) : MM E l yX1_margin cX1_margin 2 (some .int) ({ frames := 0, cells := 0, slots := 0, locals := 0 } : Room) [.ref (L 0), .ref (L (70 + k))] h (fun rv h2 => rv = some (.int (nI (M 0 a - M 0 d))) ∧ h2 = h) := by
  refine hm_i (by decide) (Nat.le_of_ble_eq_true rfl) ?_
  intro p e s m below meth c C hnm Q Z ls T hl
  have hx := C.x
  have hb := C.b
  have hl : lv_has ls 2 [(0, .ref (L 0)), (1, .ref (L (70 + k)))] := hl
  refine lv_aload_n hx hb dX1_margin_0 rfl (lv_at hl 0 rfl) ?_
  refine hr_get C T ho0 rfl in_X1 0 (by decide) q290 rfl rfl dX1_margin_1 ?_
  refine lv_aload_n hx hb dX1_margin_4 rfl (lv_at hl 1 rfl) ?_
  refine hr_getN C T hpk rfl in_X9 0 (by decide) 8 rfl rfl rfl dX1_margin_5 ?_
  rw [show pw k = nI a from hw1]
  refine hr_iald C T ha1 (by omega) (by omega) dX1_margin_8 ?_
  rw [show g a = nI (M 0 a) from r1 a ha]
  refine lv_aload_n hx hb dX1_margin_9 rfl (lv_at hl 0 rfl) ?_
  refine hr_get C T ho0 rfl in_X1 0 (by decide) q290 rfl rfl dX1_margin_10 ?_
  refine lv_aload_n hx hb dX1_margin_13 rfl (lv_at hl 1 rfl) ?_
  refine hr_getN C T hpk rfl in_X9 1 (by decide) 9 rfl rfl rfl dX1_margin_14 ?_
  rw [show pl k = nI d from hw2]
  refine hr_iald C T ha1 (by omega) (by omega) dX1_margin_17 ?_
  rw [show g d = nI (M 0 d) from r1 d hd]
  refine hn_isub hx hb dX1_margin_18 (by omega) ?_
  exact Z _ _ _ _ _ _ dX1_margin_19 ⟨rfl, rfl⟩ T

theorem kd_X6_off : yX6_off.cls = RX6 ∧ yX6_off.cls ≠ "java/lang/invoke/MethodHandle" ∧ yX6_off.cls ≠ "java/lang/invoke/VarHandle" ∧ (parseMethodDescriptor yX6_off.desc).map (fun d => d.parameters.length) = some 3 := by decide +kernel

set_option maxHeartbeats 4000000 in
theorem m_X6_off {E : GE} {l : Launch} {h : HH} {L B : Nat → Nat} {k a d : Nat} {pw pl ps : Nat → Int32} {r x : Int32} (hpk : h (L (70 + k)) = some (.inr (8, [.int (pw k), .int (pl k), .int (ps k), .ref (B (19 + 2 * k)), .ref (B (20 + 2 * k))]), L 24)) (hw1 : pw k = nI a) (hw2 : pl k = nI d) : MM E l yX6_off cX6_off 4 (some .int) ({ frames := 0, cells := 0, slots := 0, locals := 0 } : Room) [.ref (L 30), .ref (L (70 + k)), .int r, .int x] h (fun rv h2 => rv = some (.int (iZ (offZ r x a d))) ∧ h2 = h) := by
  refine hm_i (by decide) (Nat.le_of_ble_eq_true rfl) ?_
  intro p e s m below meth c C hnm Q Z ls T hl
  have hx := C.x
  have hb := C.b
  have hl : lv_has ls 4 [(0, .ref (L 30)), (1, .ref (L (70 + k))), (2, .int r), (3, .int x)] := hl
  refine lv_iload_n hx hb dX6_off_0 rfl (lv_at hl 2 rfl) ?_
  refine lv_aload_n hx hb dX6_off_1 rfl (lv_at hl 1 rfl) ?_
  refine hr_getN C T hpk rfl in_X9 0 (by decide) 21 rfl rfl rfl dX6_off_2 ?_
  rw [show pw k = nI a from hw1]
  have Ju1 : ∀ (u1 : Nat) (H3801 : Heap) (locs3801 : List Loc) (ls3801 : Array Slot), (((u1 : Nat) : Int) = if r = nI a then 1 else 0) → (St E s h H3801 locs3801) → (lv_has ls3801 4 [(0, .ref (L 30)), (1, .ref (L (70 + k))), (2, .int r), (3, .int x)]) → W p l e ({ frames := 0, cells := 0, slots := 0, locals := 0 } : Room) s m ([.ref (L 30), .ref (L (70 + k)), .int r, .int x] : List Value).toArray below meth c H3801 locs3801 0 0 Q (F0 m 13 ls3801 [.int (nI u1)]) := by
    intro u1 H3801 locs3801 ls3801 hu1 T3801 hl3801
    refine lv_iload_n hx hb dX6_off_13 rfl (lv_at hl3801 3 rfl) ?_
    refine lv_aload_n hx hb dX6_off_14 rfl (lv_at hl3801 1 rfl) ?_
    refine hr_getN C T3801 hpk rfl in_X9 0 (by decide) 21 rfl rfl rfl dX6_off_15 ?_
    rw [show pw k = nI a from hw1]
    have Ju2 : ∀ (u2 : Nat) (H3802 : Heap) (locs3802 : List Loc) (ls3802 : Array Slot), (((u2 : Nat) : Int) = if x = nI a then 1 else 0) → (St E s h H3802 locs3802) → (lv_has ls3802 4 [(0, .ref (L 30)), (1, .ref (L (70 + k))), (2, .int r), (3, .int x)]) → W p l e ({ frames := 0, cells := 0, slots := 0, locals := 0 } : Room) s m ([.ref (L 30), .ref (L (70 + k)), .int r, .int x] : List Value).toArray below meth c H3802 locs3802 0 0 Q (F0 m 26 ls3802 [.int (nI u2), .int (nI u1)]) := by
      intro u2 H3802 locs3802 ls3802 hu2 T3802 hl3802
      refine lv_isub hx hb dX6_off_26 ?_
      refine lv_iload_n hx hb dX6_off_27 rfl (lv_at hl3802 2 rfl) ?_
      refine lv_aload_n hx hb dX6_off_28 rfl (lv_at hl3802 1 rfl) ?_
      refine hr_getN C T3802 hpk rfl in_X9 1 (by decide) 22 rfl rfl rfl dX6_off_29 ?_
      rw [show pl k = nI d from hw2]
      have Ju3 : ∀ (u3 : Nat) (H3803 : Heap) (locs3803 : List Loc) (ls3803 : Array Slot), (((u3 : Nat) : Int) = if r = nI d then 1 else 0) → (St E s h H3803 locs3803) → (lv_has ls3803 4 [(0, .ref (L 30)), (1, .ref (L (70 + k))), (2, .int r), (3, .int x)]) → W p l e ({ frames := 0, cells := 0, slots := 0, locals := 0 } : Room) s m ([.ref (L 30), .ref (L (70 + k)), .int r, .int x] : List Value).toArray below meth c H3803 locs3803 0 0 Q (F0 m 40 ls3803 [.int (nI u3), .int ((nI u1) - (nI u2))]) := by
        intro u3 H3803 locs3803 ls3803 hu3 T3803 hl3803
        refine lv_isub hx hb dX6_off_40 ?_
        refine lv_iload_n hx hb dX6_off_41 rfl (lv_at hl3803 3 rfl) ?_
        refine lv_aload_n hx hb dX6_off_42 rfl (lv_at hl3803 1 rfl) ?_
        refine hr_getN C T3803 hpk rfl in_X9 1 (by decide) 22 rfl rfl rfl dX6_off_43 ?_
        rw [show pl k = nI d from hw2]
        have Ju4 : ∀ (u4 : Nat) (H3804 : Heap) (locs3804 : List Loc) (ls3804 : Array Slot), (((u4 : Nat) : Int) = if x = nI d then 1 else 0) → (St E s h H3804 locs3804) → (lv_has ls3804 4 [(0, .ref (L 30)), (1, .ref (L (70 + k))), (2, .int r), (3, .int x)]) → W p l e ({ frames := 0, cells := 0, slots := 0, locals := 0 } : Room) s m ([.ref (L 30), .ref (L (70 + k)), .int r, .int x] : List Value).toArray below meth c H3804 locs3804 0 0 Q (F0 m 54 ls3804 [.int (nI u4), .int (((nI u1) - (nI u2)) - (nI u3))]) := by
          intro u4 H3804 locs3804 ls3804 hu4 T3804 hl3804
          refine lv_iadd hx hb dX6_off_54 ?_
          rw [show (((nI u1) - (nI u2)) - (nI u3)) + (nI u4) = iZ (offZ r x a d) from (by rw [off_val, hu1, hu2, hu3, hu4]; rfl)]
          exact Z _ _ _ _ _ _ dX6_off_55 ⟨rfl, rfl⟩ T3804
        refine lv_icmp_ne (tgt := 53) hx hb dX6_off_46 (by decide) (fun cu4 => ?_) (fun cu4 => ?_)
        · refine lv_iconst (v := nI 0) hx hb dX6_off_53 rfl ?_
          exact Ju4 0 _ _ _ (by rw [if_neg cu4]; rfl) T3803 (lv_sub hl3803 [0, 1, 2, 3] rfl)
        · refine lv_iconst (v := nI 1) hx hb dX6_off_49 rfl ?_
          refine lv_goto (tgt := 54) hx hb dX6_off_50 (by decide) ?_
          exact Ju4 1 _ _ _ (by rw [if_pos cu4]; rfl) T3803 (lv_sub hl3803 [0, 1, 2, 3] rfl)
      refine lv_icmp_ne (tgt := 39) hx hb dX6_off_32 (by decide) (fun cu3 => ?_) (fun cu3 => ?_)
      · refine lv_iconst (v := nI 0) hx hb dX6_off_39 rfl ?_
        exact Ju3 0 _ _ _ (by rw [if_neg cu3]; rfl) T3802 (lv_sub hl3802 [0, 1, 2, 3] rfl)
      · refine lv_iconst (v := nI 1) hx hb dX6_off_35 rfl ?_
        refine lv_goto (tgt := 40) hx hb dX6_off_36 (by decide) ?_
        exact Ju3 1 _ _ _ (by rw [if_pos cu3]; rfl) T3802 (lv_sub hl3802 [0, 1, 2, 3] rfl)
    refine lv_icmp_ne (tgt := 25) hx hb dX6_off_18 (by decide) (fun cu2 => ?_) (fun cu2 => ?_)
    · refine lv_iconst (v := nI 0) hx hb dX6_off_25 rfl ?_
      exact Ju2 0 _ _ _ (by rw [if_neg cu2]; rfl) T3801 (lv_sub hl3801 [0, 1, 2, 3] rfl)
    · refine lv_iconst (v := nI 1) hx hb dX6_off_21 rfl ?_
      refine lv_goto (tgt := 26) hx hb dX6_off_22 (by decide) ?_
      exact Ju2 1 _ _ _ (by rw [if_pos cu2]; rfl) T3801 (lv_sub hl3801 [0, 1, 2, 3] rfl)
  refine lv_icmp_ne (tgt := 12) hx hb dX6_off_5 (by decide) (fun cu1 => ?_) (fun cu1 => ?_)
  · refine lv_iconst (v := nI 0) hx hb dX6_off_12 rfl ?_
    exact Ju1 0 _ _ _ (by rw [if_neg cu1]; rfl) T (lv_sub hl [0, 1, 2, 3] rfl)
  · refine lv_iconst (v := nI 1) hx hb dX6_off_8 rfl ?_
    refine lv_goto (tgt := 13) hx hb dX6_off_9 (by decide) ?_
    exact Ju1 1 _ _ _ (by rw [if_pos cu1]; rfl) T (lv_sub hl [0, 1, 2, 3] rfl)

set_option maxHeartbeats 4000000 in
theorem m_X6_look {E : GE} {l : Launch} {h : HH} {L B N V cp : Nat → Nat} {M : Nat → Nat → Nat} {pp : Nat} {g pw pl ps : Nat → Int32} (hLay : Lay L B) (hB : Bgs E h B V cp) (ho0 : h (L 0) = some (.inr (0, [.ref (L 1), .int (nI (N 0)), .ref (L 3), .int (nI (N 1)), .int (nI (N 2)), .int (nI (N 3)), .int (nI (N 4)), .int (nI (N 5)), .int (nI (N 6)), .int (nI (N 7)), .int (nI (N 8)), .ref (L 12), .ref (L 13), .ref (L 14), .ref (L 15), .ref (L 16), .ref (L 17), .int (nI (N 11)), .int (nI (N 15)), .int (nI (N 16)), .int (nI (N 17)), .int (nI (N 18) - 1), .int (nI (N 19)), .ref (L 24), .int (nI pp), .ref (L 26), .ref (L 27), .ref (if N 13 = 1 then L 27 else L 26), .ref (L 29), .ref (L 30), .ref (if N 12 = 1 then L 30 else L 29), .ref (L 32), .ref (B 0), .ref (B 1), .ref (B 2), .ref (B 3), .ref (L 37), .ref (L 38), .ref (L 39), .ref (B 4), .ref (B 5)]), L 0)) (hSt : Stt E L B h) (hPr : Prs L B pw pl ps h) (rp16 : pp ≤ 16) (ha1 : h (L 1) = some (.inl (E.2.1 0, 8, .inl g), L 0)) (r1 : ∀ i, i < 8 → g i = nI (M 0 i)) (iv : ∀ i, i < 8 → M 0 i ≤ 1000000) (hPW : PWh M pw pl pp) {r x d : Int32} (hp0 : 0 < pp) (hg8 : N 8 < N 7) (hg7 : N 7 ≤ 1000000) (hn2 : N 2 ≤ 20000) (hvn : mgn M 0 ≤ N 2) (hlm6 : lm (V 6) ≤ 106) (hlm7 : lm (V 7) ≤ 106) : MG E l yX6_look cX6_look 11 none ({ frames := 5, cells := (KX - ksum cp NB) / 8 + 8, slots := 2 * (KX - ksum cp NB) + 2048, locals := 750 } : Room) [.ref (L 30), .int r, .int x, .int d] h (fun rv h2 dc ds => rv = none ∧ ∃ V2 c2, Bgs E h2 B V2 c2 ∧ V2 6 = V 6 * cxA N M pp * (bsz M r x pp).2 ∧ V2 7 = V 7 * cxB N M pp (bsz M r x pp) * N 2 ∧ (∀ n, n ≠ 0 → n ≠ 6 → n ≠ 7 → n ≠ 16 → V2 n = V n) ∧ Fr (BO B) h h2 ∧ Gw cp c2 dc ds) := by
  refine hn_v (by decide) (Nat.le_of_ble_eq_true rfl) ?_
  intro p e s m below meth c C hnm Q Z ls T hl
  have hx := C.x
  have hb := C.b
  have hl : lv_has ls 11 [(0, .ref (L 30)), (1, .int r), (2, .int x), (3, .int d)] := hl
  have hF : Fr (BO B) h h := Fr.rf
  have hst30x3805 := (hSt).2.2.2.2.1
  have hst32x3806 := (hSt).2.2.2.2.2
  have hst24x3807 := (hSt).1
  have hmg : ∀ i, i < pp → 1 ≤ mgn M i ∧ mgn M i ≤ 1000000 := fun i hi => by have h1 := hPW i hi; have h2 := iv _ h1.2.2.1; unfold mgn; omega
  have hbu : ∀ k, k ≤ pp → (bst M r x k).2 ≤ 1000000 := bst_up (fun i hi => (hmg i hi).2) (by decide)
  have hbr := bst_rng M r x
  have hls : lst M (pp - 1) ≤ mgn M 0 := lst_min _ 0 (Nat.zero_le _)
  have hls1 := (hmg 0 hp0).2
  refine lv_lconst (v := lN 0) hx hb dX6_look_0 rfl ?_
  rw [show lN 0 = lZ 0 from (lN_Z 0)]
  refine lv_lstore (lv' := [(4, .long (lZ 0)), (0, .ref (L 30)), (1, .int r), (2, .int x), (3, .int d)]) hx hb dX6_look_1 hl (by decide) rfl (fun ls3808 hl3808 => ?_)
  refine lv_lconst (v := lN 1) hx hb dX6_look_3 rfl ?_
  refine lv_lstore (lv' := [(6, .long (lN 1)), (4, .long (lZ 0)), (0, .ref (L 30)), (1, .int r), (2, .int x), (3, .int d)]) hx hb dX6_look_4 hl3808 (by decide) rfl (fun ls3809 hl3809 => ?_)
  refine lv_iconst (v := nI 0) hx hb dX6_look_6 rfl ?_
  refine lv_istore (lv' := [(8, .int (nI 0)), (6, .long (lN 1)), (4, .long (lZ 0)), (0, .ref (L 30)), (1, .int r), (2, .int x), (3, .int d)]) hx hb dX6_look_7 hl3809 (by decide) rfl (fun ls3810 hl3810 => ?_)
  have J104 : ∀ (z : Int × Nat) (H3811 : Heap) (locs3811 : List Loc) (ls3811 : Array Slot), (z = bsz M r x pp) → (St E s h H3811 locs3811) → (lv_has ls3811 11 [(0, .ref (L 30)), (4, .long (lZ z.1)), (6, .long (lN z.2))]) → W p l e ({ frames := 5, cells := (KX - ksum cp NB) / 8 + 8, slots := 2 * (KX - ksum cp NB) + 2048, locals := 750 } : Room) s m ([.ref (L 30), .int r, .int x, .int d] : List Value).toArray below meth c H3811 locs3811 0 0 Q (F0 m 104 ls3811 []) := by
    intro z H3811 locs3811 ls3811 hz T3811 hl3811
    have hz1 : -2 ≤ z.1 ∧ z.1 ≤ 2 := by rw [hz]; unfold bsz; split; exact ⟨by decide, by decide⟩; exact hbr pp
    have hz2 : z.2 ≤ 1000000 := by rw [hz]; unfold bsz; split; decide; exact hbu pp (Nat.le_refl _)
    have hz3 : 0 < z.1 → lst M (pp - 1) ≤ z.2 := by rw [hz]; unfold bsz; split; (intro q; exact absurd q (by decide)); (intro _; obtain ⟨i, q1, q2⟩ := bst_mem (M := M) (r := r) (c := x) pp hp0; rw [q2]; exact lst_min _ i (by omega))
    have hx2n := cx_nn (l := lst M (pp - 1)) (m := z.2) (a := N 7) (b := N 8) hz1.1 hz1.2 hz3 (by omega)
    have hx2u := cx_up (l := lst M (pp - 1)) (m := z.2) (a := N 7) (b := N 8) hz1.1 hz1.2 (by omega) hz2 (by omega) (by omega)
    have hp1 := Nat.mul_le_mul (show 2 * N 7 ≤ 2000000 by omega) (show N 2 ≤ 20000 by omega)
    have hp2 := Nat.mul_le_mul (show lst M (pp - 1) ≤ N 2 by omega) (show N 8 ≤ N 7 by omega)
    have hp3 : 2 * N 7 * N 2 = 2 * (N 2 * N 7) := by rw [Nat.mul_assoc, Nat.mul_comm (N 7)]
    refine lv_aload_n hx hb dX6_look_104 rfl (lv_at hl3811 0 rfl) ?_
    refine hr_get C T3811 hst30x3805 rfl in_X6 0 (by decide) q179 rfl rfl dX6_look_105 ?_
    refine hr_getN C T3811 ho0 rfl in_X1 32 (by decide) 34 rfl rfl rfl dX6_look_108 ?_
    refine lv_ldc2 (v := lN 2) hx hb C.ow (C.ts _ q761) dX6_look_111 ?_
    refine lv_aload_n hx hb dX6_look_114 rfl (lv_at hl3811 0 rfl) ?_
    refine hr_get C T3811 hst30x3805 rfl in_X6 0 (by decide) q179 rfl rfl dX6_look_115 ?_
    refine hr_getN C T3811 ho0 rfl in_X1 9 (by decide) 29 rfl rfl rfl dX6_look_118 ?_
    refine hn_i2l hx hb dX6_look_121 (by omega) ?_
    refine hn_lmul hx hb dX6_look_122 ?_
    refine lv_aload_n hx hb dX6_look_123 rfl (lv_at hl3811 0 rfl) ?_
    refine hr_get C T3811 hst30x3805 rfl in_X6 0 (by decide) q179 rfl rfl dX6_look_124 ?_
    refine hr_getN C T3811 ho0 rfl in_X1 4 (by decide) 26 rfl rfl rfl dX6_look_127 ?_
    refine hn_i2l hx hb dX6_look_130 (by omega) ?_
    refine hn_lmul hx hb dX6_look_131 ?_
    refine lv_aload_n hx hb dX6_look_132 rfl (lv_at hl3811 0 rfl) ?_
    refine hr_get C T3811 hst30x3805 rfl in_X6 0 (by decide) q179 rfl rfl dX6_look_133 ?_
    refine hc_VN C T3811 hl3811.1 ho0 rfl (m_X1_least (M := M) ho0 ha1 hSt hPr hp0 rp16 r1 iv hPW) 7 rfl q764 qs10 q53 q765 kd_X1_least.2 rfl rfl ⟨Nat.le_of_ble_eq_true rfl, Nat.le_of_ble_eq_true rfl⟩ (Nat.le_of_ble_eq_true rfl) dX6_look_136 ⟨by have hgw := (Gw.rf (cp := cp)); have hg1 := hgw.1; have hg2 := hgw.2; have hkm := hB.kmax; show 0 + 0 ≤ (KX - ksum cp NB) / 8 + 8; omega, by have hgw := (Gw.rf (cp := cp)); have hg1 := hgw.1; have hg2 := hgw.2; have hkm := hB.kmax; show 0 + 0 ≤ 2 * (KX - ksum cp NB) + 2048; omega⟩ (fun rv h3823 H3823 locs3823 hp3823 T3823 => ?_)
    obtain ⟨rfl, hq3823⟩ := hp3823
    rw [hq3823] at T3823
    refine W.eq (g2 := F0 m 139 ls3811 [.int (nI (lst M (pp - 1))), .long (lN ((2 * (N 7)) * (N 2))), .ref (B 0)]) rfl ?_
    refine hn_i2l hx hb dX6_look_139 (by omega) ?_
    refine lv_aload_n hx hb dX6_look_140 rfl (lv_at hl3811 0 rfl) ?_
    refine hr_get C T3823 hst30x3805 rfl in_X6 0 (by decide) q179 rfl rfl dX6_look_141 ?_
    refine hr_getN C T3823 ho0 rfl in_X1 10 (by decide) 30 rfl rfl rfl dX6_look_144 ?_
    refine hn_i2l hx hb dX6_look_147 (by omega) ?_
    refine hn_lmul hx hb dX6_look_148 ?_
    refine hn_lsub hx hb dX6_look_149 (by omega) ?_
    obtain ⟨ca3824, hbo3824⟩ := hB.o (i := 0) (by decide)
    refine hc_V C T3823 hl3811.1 hbo3824 rfl (g_set (i := 0) hB (by decide) (by omega)) q674 q272 q273 q59 q274 kd_X7_set rfl rfl ⟨Nat.le_of_ble_eq_true rfl, Nat.le_of_ble_eq_true rfl⟩ (Nat.le_of_ble_eq_true rfl) dX6_look_150 ⟨by have hgw := (Gw.rf (cp := cp)); have hg1 := hgw.1; have hg2 := hgw.2; have hkm := hB.kmax; show 0 + 0 ≤ (KX - ksum cp NB) / 8 + 8; omega, by have hgw := (Gw.rf (cp := cp)); have hg1 := hgw.1; have hg2 := hgw.2; have hkm := hB.kmax; show 0 + 0 ≤ 2 * (KX - ksum cp NB) + 2048; omega⟩ (fun rv h3825 H3825 locs3825 hp3825 T3825 => ?_)
    obtain ⟨rfl, hB3825, hF3825⟩ := hp3825
    have hF_3825 : Fr (BO B) h h3825 := hF.tr (hF3825.mono (fun _ z => z))
    refine W.eq (g2 := F0 m 153 ls3811 []) rfl ?_
    refine lv_aload_n hx hb dX6_look_153 rfl (lv_at hl3811 0 rfl) ?_
    have hst30x3805_3825 : h3825 (L 30) = some (.inr (6, [.ref (L 0), .ref (B 6), .ref (B 7)]), L 30) := hF3825 _ _ hst30x3805 (fun ⟨i, hi, e⟩ => hLay.2 i 30 hi (by decide) e.symm)
    refine hr_get C T3825 hst30x3805_3825 rfl in_X6 0 (by decide) q179 rfl rfl dX6_look_154 ?_
    have ho0_3825 : h3825 (L 0) = some (.inr (0, [.ref (L 1), .int (nI (N 0)), .ref (L 3), .int (nI (N 1)), .int (nI (N 2)), .int (nI (N 3)), .int (nI (N 4)), .int (nI (N 5)), .int (nI (N 6)), .int (nI (N 7)), .int (nI (N 8)), .ref (L 12), .ref (L 13), .ref (L 14), .ref (L 15), .ref (L 16), .ref (L 17), .int (nI (N 11)), .int (nI (N 15)), .int (nI (N 16)), .int (nI (N 17)), .int (nI (N 18) - 1), .int (nI (N 19)), .ref (L 24), .int (nI pp), .ref (L 26), .ref (L 27), .ref (if N 13 = 1 then L 27 else L 26), .ref (L 29), .ref (L 30), .ref (if N 12 = 1 then L 30 else L 29), .ref (L 32), .ref (B 0), .ref (B 1), .ref (B 2), .ref (B 3), .ref (L 37), .ref (L 38), .ref (L 39), .ref (B 4), .ref (B 5)]), L 0) := hF3825 _ _ ho0 (fun ⟨i, hi, e⟩ => hLay.2 i 0 hi (by decide) e.symm)
    refine hr_getN C T3825 ho0_3825 rfl in_X1 31 (by decide) 33 rfl rfl rfl dX6_look_157 ?_
    refine lv_aload_n hx hb dX6_look_160 rfl (lv_at hl3811 0 rfl) ?_
    refine hr_get C T3825 hst30x3805_3825 rfl in_X6 1 (by decide) q180 rfl rfl dX6_look_161 ?_
    refine lv_aload_n hx hb dX6_look_164 rfl (lv_at hl3811 0 rfl) ?_
    refine hr_get C T3825 hst30x3805_3825 rfl in_X6 0 (by decide) q179 rfl rfl dX6_look_165 ?_
    refine hr_getN C T3825 ho0_3825 rfl in_X1 32 (by decide) 34 rfl rfl rfl dX6_look_168 ?_
    have hst32x3806_3825 : h3825 (L 32) = some (.inr (7, [.ref (B 8), .ref (B 9), .ref (B 10), .ref (B 11), .ref (B 12), .ref (B 13), .ref (B 14), .ref (B 15), .ref (B 16), .ref (B 17), .ref (B 18)]), L 30) := hF3825 _ _ hst32x3806 (fun ⟨i, hi, e⟩ => hLay.2 i 30 hi (by decide) e.symm)
    refine hg_V C T3825 hl3811.1 hst32x3806_3825 rfl (m_X8_multiply hB3825 hst32x3806_3825 (fun i hi => hLay.2 i 30 hi (by decide)) (i := 6) (j := 0) (by decide) (by decide) (by decide) (by decide) (by rw [nu_n (by decide), nu_s]; have := lm_2 (v := 2 * N 7 * N 2 - lst M (pp - 1) * N 8) (by omega); omega)) q770 q771 q772 q60 q773 kd_X8_multiply rfl rfl ⟨Nat.le_of_ble_eq_true rfl, Nat.le_of_ble_eq_true rfl⟩ (Nat.le_of_ble_eq_true rfl) dX6_look_171 ⟨by have hgw := (Gw.rf (cp := cp)); have hg1 := hgw.1; have hg2 := hgw.2; have hkm := hB3825.kmax; show 0 + ((KX - ksum cp NB) / 8 + 8) ≤ (KX - ksum cp NB) / 8 + 8; omega, by have hgw := (Gw.rf (cp := cp)); have hg1 := hgw.1; have hg2 := hgw.2; have hkm := hB3825.kmax; show 0 + (2 * (KX - ksum cp NB) + 2048) ≤ 2 * (KX - ksum cp NB) + 2048; omega⟩ (fun rv h3826 dc3826 ds3826 H3826 locs3826 hp3826 T3826 => ?_)
    obtain ⟨rfl, V3826, c3826, hB3826, hk3826, ho3826, hF3826, hw3826⟩ := hp3826
    have hW3826 := (Gw.rf (cp := cp)).tr hw3826
    have hF_3826 : Fr (BO B) h h3826 := hF_3825.tr (hF3826.mono (fun _ z => z))
    refine W.eq (g2 := F0 m 174 ls3811 []) rfl ?_
    rw [nu_n (by decide), nu_s] at hk3826
    have hl1 : lm (V3826 6) ≤ 108 := by rw [hk3826]; exact Nat.le_trans (lm_mul _ _) (by have := lm_2 (v := 2 * N 7 * N 2 - lst M (pp - 1) * N 8) (by omega); omega)
    refine lv_aload_n hx hb dX6_look_174 rfl (lv_at hl3811 0 rfl) ?_
    have hst30x3805_3826 : h3826 (L 30) = some (.inr (6, [.ref (L 0), .ref (B 6), .ref (B 7)]), L 30) := hF3826 _ _ hst30x3805_3825 (fun ⟨i, hi, e⟩ => hLay.2 i 30 hi (by decide) e.symm)
    refine hr_get C T3826 hst30x3805_3826 rfl in_X6 0 (by decide) q179 rfl rfl dX6_look_175 ?_
    have ho0_3826 : h3826 (L 0) = some (.inr (0, [.ref (L 1), .int (nI (N 0)), .ref (L 3), .int (nI (N 1)), .int (nI (N 2)), .int (nI (N 3)), .int (nI (N 4)), .int (nI (N 5)), .int (nI (N 6)), .int (nI (N 7)), .int (nI (N 8)), .ref (L 12), .ref (L 13), .ref (L 14), .ref (L 15), .ref (L 16), .ref (L 17), .int (nI (N 11)), .int (nI (N 15)), .int (nI (N 16)), .int (nI (N 17)), .int (nI (N 18) - 1), .int (nI (N 19)), .ref (L 24), .int (nI pp), .ref (L 26), .ref (L 27), .ref (if N 13 = 1 then L 27 else L 26), .ref (L 29), .ref (L 30), .ref (if N 12 = 1 then L 30 else L 29), .ref (L 32), .ref (B 0), .ref (B 1), .ref (B 2), .ref (B 3), .ref (L 37), .ref (L 38), .ref (L 39), .ref (B 4), .ref (B 5)]), L 0) := hF3826 _ _ ho0_3825 (fun ⟨i, hi, e⟩ => hLay.2 i 0 hi (by decide) e.symm)
    refine hr_getN C T3826 ho0_3826 rfl in_X1 32 (by decide) 34 rfl rfl rfl dX6_look_178 ?_
    refine lv_lload hx hb dX6_look_181 (lv_at hl3811 2 rfl) ?_
    obtain ⟨ca3827, hbo3827⟩ := hB3826.o (i := 0) (by decide)
    refine hc_V C T3826 hl3811.1 hbo3827 rfl (g_set (i := 0) hB3826 (by decide) (by omega)) q674 q272 q273 q59 q274 kd_X7_set rfl rfl ⟨Nat.le_of_ble_eq_true rfl, Nat.le_of_ble_eq_true rfl⟩ (Nat.le_of_ble_eq_true rfl) dX6_look_183 ⟨by have hgw := (hW3826); have hg1 := hgw.1; have hg2 := hgw.2; have hkm := hB3826.kmax; show 0 + dc3826 + 0 ≤ (KX - ksum cp NB) / 8 + 8; omega, by have hgw := (hW3826); have hg1 := hgw.1; have hg2 := hgw.2; have hkm := hB3826.kmax; show 0 + ds3826 + 0 ≤ 2 * (KX - ksum cp NB) + 2048; omega⟩ (fun rv h3828 H3828 locs3828 hp3828 T3828 => ?_)
    obtain ⟨rfl, hB3828, hF3828⟩ := hp3828
    have hF_3828 : Fr (BO B) h h3828 := hF_3826.tr (hF3828.mono (fun _ z => z))
    refine W.eq (g2 := F0 m 186 ls3811 []) rfl ?_
    refine lv_aload_n hx hb dX6_look_186 rfl (lv_at hl3811 0 rfl) ?_
    have hst30x3805_3828 : h3828 (L 30) = some (.inr (6, [.ref (L 0), .ref (B 6), .ref (B 7)]), L 30) := hF3828 _ _ hst30x3805_3826 (fun ⟨i, hi, e⟩ => hLay.2 i 30 hi (by decide) e.symm)
    refine hr_get C T3828 hst30x3805_3828 rfl in_X6 0 (by decide) q179 rfl rfl dX6_look_187 ?_
    have ho0_3828 : h3828 (L 0) = some (.inr (0, [.ref (L 1), .int (nI (N 0)), .ref (L 3), .int (nI (N 1)), .int (nI (N 2)), .int (nI (N 3)), .int (nI (N 4)), .int (nI (N 5)), .int (nI (N 6)), .int (nI (N 7)), .int (nI (N 8)), .ref (L 12), .ref (L 13), .ref (L 14), .ref (L 15), .ref (L 16), .ref (L 17), .int (nI (N 11)), .int (nI (N 15)), .int (nI (N 16)), .int (nI (N 17)), .int (nI (N 18) - 1), .int (nI (N 19)), .ref (L 24), .int (nI pp), .ref (L 26), .ref (L 27), .ref (if N 13 = 1 then L 27 else L 26), .ref (L 29), .ref (L 30), .ref (if N 12 = 1 then L 30 else L 29), .ref (L 32), .ref (B 0), .ref (B 1), .ref (B 2), .ref (B 3), .ref (L 37), .ref (L 38), .ref (L 39), .ref (B 4), .ref (B 5)]), L 0) := hF3828 _ _ ho0_3826 (fun ⟨i, hi, e⟩ => hLay.2 i 0 hi (by decide) e.symm)
    refine hr_getN C T3828 ho0_3828 rfl in_X1 31 (by decide) 33 rfl rfl rfl dX6_look_190 ?_
    refine lv_aload_n hx hb dX6_look_193 rfl (lv_at hl3811 0 rfl) ?_
    refine hr_get C T3828 hst30x3805_3828 rfl in_X6 1 (by decide) q180 rfl rfl dX6_look_194 ?_
    refine lv_aload_n hx hb dX6_look_197 rfl (lv_at hl3811 0 rfl) ?_
    refine hr_get C T3828 hst30x3805_3828 rfl in_X6 0 (by decide) q179 rfl rfl dX6_look_198 ?_
    refine hr_getN C T3828 ho0_3828 rfl in_X1 32 (by decide) 34 rfl rfl rfl dX6_look_201 ?_
    have hst32x3806_3826 : h3826 (L 32) = some (.inr (7, [.ref (B 8), .ref (B 9), .ref (B 10), .ref (B 11), .ref (B 12), .ref (B 13), .ref (B 14), .ref (B 15), .ref (B 16), .ref (B 17), .ref (B 18)]), L 30) := hF3826 _ _ hst32x3806_3825 (fun ⟨i, hi, e⟩ => hLay.2 i 30 hi (by decide) e.symm)
    have hst32x3806_3828 : h3828 (L 32) = some (.inr (7, [.ref (B 8), .ref (B 9), .ref (B 10), .ref (B 11), .ref (B 12), .ref (B 13), .ref (B 14), .ref (B 15), .ref (B 16), .ref (B 17), .ref (B 18)]), L 30) := hF3828 _ _ hst32x3806_3826 (fun ⟨i, hi, e⟩ => hLay.2 i 30 hi (by decide) e.symm)
    refine hg_V C T3828 hl3811.1 hst32x3806_3828 rfl (m_X8_multiply hB3828 hst32x3806_3828 (fun i hi => hLay.2 i 30 hi (by decide)) (i := 6) (j := 0) (by decide) (by decide) (by decide) (by decide) (by rw [nu_n (by decide), nu_s]; have := lm_1 (v := z.2) (by omega); omega)) q770 q771 q772 q60 q773 kd_X8_multiply rfl rfl ⟨Nat.le_of_ble_eq_true rfl, Nat.le_of_ble_eq_true rfl⟩ (Nat.le_of_ble_eq_true rfl) dX6_look_204 ⟨by have hgw := (hW3826); have hg1 := hgw.1; have hg2 := hgw.2; have hkm := hB3828.kmax; show 0 + dc3826 + ((KX - ksum c3826 NB) / 8 + 8) ≤ (KX - ksum cp NB) / 8 + 8; omega, by have hgw := (hW3826); have hg1 := hgw.1; have hg2 := hgw.2; have hkm := hB3828.kmax; show 0 + ds3826 + (2 * (KX - ksum c3826 NB) + 2048) ≤ 2 * (KX - ksum cp NB) + 2048; omega⟩ (fun rv h3829 dc3829 ds3829 H3829 locs3829 hp3829 T3829 => ?_)
    obtain ⟨rfl, V3829, c3829, hB3829, hk3829, ho3829, hF3829, hw3829⟩ := hp3829
    have hW3829 := (hW3826).tr hw3829
    have hF_3829 : Fr (BO B) h h3829 := hF_3828.tr (hF3829.mono (fun _ z => z))
    refine W.eq (g2 := F0 m 207 ls3811 []) rfl ?_
    rw [nu_n (by decide), nu_s, hk3826] at hk3829
    refine lv_aload_n hx hb dX6_look_207 rfl (lv_at hl3811 0 rfl) ?_
    have hst30x3805_3829 : h3829 (L 30) = some (.inr (6, [.ref (L 0), .ref (B 6), .ref (B 7)]), L 30) := hF3829 _ _ hst30x3805_3828 (fun ⟨i, hi, e⟩ => hLay.2 i 30 hi (by decide) e.symm)
    refine hr_get C T3829 hst30x3805_3829 rfl in_X6 0 (by decide) q179 rfl rfl dX6_look_208 ?_
    have ho0_3829 : h3829 (L 0) = some (.inr (0, [.ref (L 1), .int (nI (N 0)), .ref (L 3), .int (nI (N 1)), .int (nI (N 2)), .int (nI (N 3)), .int (nI (N 4)), .int (nI (N 5)), .int (nI (N 6)), .int (nI (N 7)), .int (nI (N 8)), .ref (L 12), .ref (L 13), .ref (L 14), .ref (L 15), .ref (L 16), .ref (L 17), .int (nI (N 11)), .int (nI (N 15)), .int (nI (N 16)), .int (nI (N 17)), .int (nI (N 18) - 1), .int (nI (N 19)), .ref (L 24), .int (nI pp), .ref (L 26), .ref (L 27), .ref (if N 13 = 1 then L 27 else L 26), .ref (L 29), .ref (L 30), .ref (if N 12 = 1 then L 30 else L 29), .ref (L 32), .ref (B 0), .ref (B 1), .ref (B 2), .ref (B 3), .ref (L 37), .ref (L 38), .ref (L 39), .ref (B 4), .ref (B 5)]), L 0) := hF3829 _ _ ho0_3828 (fun ⟨i, hi, e⟩ => hLay.2 i 0 hi (by decide) e.symm)
    refine hr_getN C T3829 ho0_3829 rfl in_X1 32 (by decide) 34 rfl rfl rfl dX6_look_211 ?_
    refine lv_ldc2 (v := lN 2) hx hb C.ow (C.ts _ q761) dX6_look_214 ?_
    refine lv_aload_n hx hb dX6_look_217 rfl (lv_at hl3811 0 rfl) ?_
    refine hr_get C T3829 hst30x3805_3829 rfl in_X6 0 (by decide) q179 rfl rfl dX6_look_218 ?_
    refine hr_getN C T3829 ho0_3829 rfl in_X1 9 (by decide) 29 rfl rfl rfl dX6_look_221 ?_
    refine hn_i2l hx hb dX6_look_224 (by omega) ?_
    refine hn_lmul hx hb dX6_look_225 ?_
    refine lv_lload hx hb dX6_look_226 (lv_at hl3811 2 rfl) ?_
    refine hn_lmul hx hb dX6_look_228 ?_
    refine lv_lload hx hb dX6_look_229 (lv_at hl3811 1 rfl) ?_
    refine lv_aload_n hx hb dX6_look_231 rfl (lv_at hl3811 0 rfl) ?_
    refine hr_get C T3829 hst30x3805_3829 rfl in_X6 0 (by decide) q179 rfl rfl dX6_look_232 ?_
    have ha1_3825 : h3825 (L 1) = some (.inl (E.2.1 0, 8, .inl g), L 0) := hF3825 _ _ ha1 (fun ⟨i, hi, e⟩ => hLay.2 i 0 hi (by decide) e.symm)
    have ha1_3826 : h3826 (L 1) = some (.inl (E.2.1 0, 8, .inl g), L 0) := hF3826 _ _ ha1_3825 (fun ⟨i, hi, e⟩ => hLay.2 i 0 hi (by decide) e.symm)
    have ha1_3828 : h3828 (L 1) = some (.inl (E.2.1 0, 8, .inl g), L 0) := hF3828 _ _ ha1_3826 (fun ⟨i, hi, e⟩ => hLay.2 i 0 hi (by decide) e.symm)
    have ha1_3829 : h3829 (L 1) = some (.inl (E.2.1 0, 8, .inl g), L 0) := hF3829 _ _ ha1_3828 (fun ⟨i, hi, e⟩ => hLay.2 i 0 hi (by decide) e.symm)
    have hSt_3825 : Stt E L B h3825 := Stt.kept hF3825 (fun ⟨i, hi, e⟩ => hLay.2 i 30 hi (by decide) e.symm) hSt
    have hSt_3826 : Stt E L B h3826 := Stt.kept hF3826 (fun ⟨i, hi, e⟩ => hLay.2 i 30 hi (by decide) e.symm) hSt_3825
    have hSt_3828 : Stt E L B h3828 := Stt.kept hF3828 (fun ⟨i, hi, e⟩ => hLay.2 i 30 hi (by decide) e.symm) hSt_3826
    have hSt_3829 : Stt E L B h3829 := Stt.kept hF3829 (fun ⟨i, hi, e⟩ => hLay.2 i 30 hi (by decide) e.symm) hSt_3828
    have hPr_3825 : Prs L B pw pl ps h3825 := Prs.kept hF3825 (fun ⟨i, hi, e⟩ => hLay.2 i 24 hi (by decide) e.symm) hPr
    have hPr_3826 : Prs L B pw pl ps h3826 := Prs.kept hF3826 (fun ⟨i, hi, e⟩ => hLay.2 i 24 hi (by decide) e.symm) hPr_3825
    have hPr_3828 : Prs L B pw pl ps h3828 := Prs.kept hF3828 (fun ⟨i, hi, e⟩ => hLay.2 i 24 hi (by decide) e.symm) hPr_3826
    have hPr_3829 : Prs L B pw pl ps h3829 := Prs.kept hF3829 (fun ⟨i, hi, e⟩ => hLay.2 i 24 hi (by decide) e.symm) hPr_3828
    refine hc_VN C T3829 hl3811.1 ho0_3829 rfl (m_X1_least (M := M) ho0_3829 ha1_3829 hSt_3829 hPr_3829 hp0 rp16 r1 iv hPW) 7 rfl q764 qs10 q53 q765 kd_X1_least.2 rfl rfl ⟨Nat.le_of_ble_eq_true rfl, Nat.le_of_ble_eq_true rfl⟩ (Nat.le_of_ble_eq_true rfl) dX6_look_235 ⟨by have hgw := (hW3829); have hg1 := hgw.1; have hg2 := hgw.2; have hkm := hB3829.kmax; show 0 + dc3826 + dc3829 + 0 ≤ (KX - ksum cp NB) / 8 + 8; omega, by have hgw := (hW3829); have hg1 := hgw.1; have hg2 := hgw.2; have hkm := hB3829.kmax; show 0 + ds3826 + ds3829 + 0 ≤ 2 * (KX - ksum cp NB) + 2048; omega⟩ (fun rv h3830 H3830 locs3830 hp3830 T3830 => ?_)
    obtain ⟨rfl, hq3830⟩ := hp3830
    rw [hq3830] at T3830
    refine W.eq (g2 := F0 m 238 ls3811 [.int (nI (lst M (pp - 1))), .long (lZ z.1), .long (lN ((2 * (N 7)) * z.2)), .ref (B 0)]) rfl ?_
    refine hn_i2l hx hb dX6_look_238 (by omega) ?_
    refine lv_lmul hx hb dX6_look_239 ?_
    rw [zn_mul]
    refine lv_aload_n hx hb dX6_look_240 rfl (lv_at hl3811 0 rfl) ?_
    refine hr_get C T3830 hst30x3805_3829 rfl in_X6 0 (by decide) q179 rfl rfl dX6_look_241 ?_
    refine hr_getN C T3830 ho0_3829 rfl in_X1 10 (by decide) 30 rfl rfl rfl dX6_look_244 ?_
    refine hn_i2l hx hb dX6_look_247 (by omega) ?_
    refine lv_lmul hx hb dX6_look_248 ?_
    rw [zn_mul]
    refine lv_lsub hx hb dX6_look_249 ?_
    rw [nz_sub]
    rw [show lZ ((((2 * (N 7)) * z.2 : Nat) : Int) - (((z.1) * ((lst M (pp - 1) : Nat) : Int)) * ((N 8 : Nat) : Int))) = lN (cxB N M pp z) from lZ_N hx2n]
    have hxb : cxB N M pp z < 4398046511104 := by unfold cxB; omega
    obtain ⟨ca3831, hbo3831⟩ := hB3829.o (i := 0) (by decide)
    refine hc_V C T3830 hl3811.1 hbo3831 rfl (g_set (i := 0) hB3829 (by decide) (by omega)) q674 q272 q273 q59 q274 kd_X7_set rfl rfl ⟨Nat.le_of_ble_eq_true rfl, Nat.le_of_ble_eq_true rfl⟩ (Nat.le_of_ble_eq_true rfl) dX6_look_250 ⟨by have hgw := (hW3829); have hg1 := hgw.1; have hg2 := hgw.2; have hkm := hB3829.kmax; show 0 + dc3826 + dc3829 + 0 ≤ (KX - ksum cp NB) / 8 + 8; omega, by have hgw := (hW3829); have hg1 := hgw.1; have hg2 := hgw.2; have hkm := hB3829.kmax; show 0 + ds3826 + ds3829 + 0 ≤ 2 * (KX - ksum cp NB) + 2048; omega⟩ (fun rv h3832 H3832 locs3832 hp3832 T3832 => ?_)
    obtain ⟨rfl, hB3832, hF3832⟩ := hp3832
    have hF_3832 : Fr (BO B) h h3832 := hF_3829.tr (hF3832.mono (fun _ z => z))
    refine W.eq (g2 := F0 m 253 ls3811 []) rfl ?_
    refine lv_aload_n hx hb dX6_look_253 rfl (lv_at hl3811 0 rfl) ?_
    have hst30x3805_3832 : h3832 (L 30) = some (.inr (6, [.ref (L 0), .ref (B 6), .ref (B 7)]), L 30) := hF3832 _ _ hst30x3805_3829 (fun ⟨i, hi, e⟩ => hLay.2 i 30 hi (by decide) e.symm)
    refine hr_get C T3832 hst30x3805_3832 rfl in_X6 0 (by decide) q179 rfl rfl dX6_look_254 ?_
    have ho0_3832 : h3832 (L 0) = some (.inr (0, [.ref (L 1), .int (nI (N 0)), .ref (L 3), .int (nI (N 1)), .int (nI (N 2)), .int (nI (N 3)), .int (nI (N 4)), .int (nI (N 5)), .int (nI (N 6)), .int (nI (N 7)), .int (nI (N 8)), .ref (L 12), .ref (L 13), .ref (L 14), .ref (L 15), .ref (L 16), .ref (L 17), .int (nI (N 11)), .int (nI (N 15)), .int (nI (N 16)), .int (nI (N 17)), .int (nI (N 18) - 1), .int (nI (N 19)), .ref (L 24), .int (nI pp), .ref (L 26), .ref (L 27), .ref (if N 13 = 1 then L 27 else L 26), .ref (L 29), .ref (L 30), .ref (if N 12 = 1 then L 30 else L 29), .ref (L 32), .ref (B 0), .ref (B 1), .ref (B 2), .ref (B 3), .ref (L 37), .ref (L 38), .ref (L 39), .ref (B 4), .ref (B 5)]), L 0) := hF3832 _ _ ho0_3829 (fun ⟨i, hi, e⟩ => hLay.2 i 0 hi (by decide) e.symm)
    refine hr_getN C T3832 ho0_3832 rfl in_X1 31 (by decide) 33 rfl rfl rfl dX6_look_257 ?_
    refine lv_aload_n hx hb dX6_look_260 rfl (lv_at hl3811 0 rfl) ?_
    refine hr_get C T3832 hst30x3805_3832 rfl in_X6 2 (by decide) q182 rfl rfl dX6_look_261 ?_
    refine lv_aload_n hx hb dX6_look_264 rfl (lv_at hl3811 0 rfl) ?_
    refine hr_get C T3832 hst30x3805_3832 rfl in_X6 0 (by decide) q179 rfl rfl dX6_look_265 ?_
    refine hr_getN C T3832 ho0_3832 rfl in_X1 32 (by decide) 34 rfl rfl rfl dX6_look_268 ?_
    have hv7 : V3829 7 = V 7 := by rw [ho3829 7 (by decide) (by decide), nu_n (by decide), ho3826 7 (by decide) (by decide), nu_n (by decide)]
    have hst32x3806_3829 : h3829 (L 32) = some (.inr (7, [.ref (B 8), .ref (B 9), .ref (B 10), .ref (B 11), .ref (B 12), .ref (B 13), .ref (B 14), .ref (B 15), .ref (B 16), .ref (B 17), .ref (B 18)]), L 30) := hF3829 _ _ hst32x3806_3828 (fun ⟨i, hi, e⟩ => hLay.2 i 30 hi (by decide) e.symm)
    have hst32x3806_3832 : h3832 (L 32) = some (.inr (7, [.ref (B 8), .ref (B 9), .ref (B 10), .ref (B 11), .ref (B 12), .ref (B 13), .ref (B 14), .ref (B 15), .ref (B 16), .ref (B 17), .ref (B 18)]), L 30) := hF3832 _ _ hst32x3806_3829 (fun ⟨i, hi, e⟩ => hLay.2 i 30 hi (by decide) e.symm)
    refine hg_V C T3832 hl3811.1 hst32x3806_3832 rfl (m_X8_multiply hB3832 hst32x3806_3832 (fun i hi => hLay.2 i 30 hi (by decide)) (i := 7) (j := 0) (by decide) (by decide) (by decide) (by decide) (by rw [nu_n (by decide), nu_s, hv7]; have := lm_2 (v := cxB N M pp z) (by omega); omega)) q770 q771 q772 q60 q773 kd_X8_multiply rfl rfl ⟨Nat.le_of_ble_eq_true rfl, Nat.le_of_ble_eq_true rfl⟩ (Nat.le_of_ble_eq_true rfl) dX6_look_271 ⟨by have hgw := (hW3829); have hg1 := hgw.1; have hg2 := hgw.2; have hkm := hB3832.kmax; show 0 + dc3826 + dc3829 + ((KX - ksum c3829 NB) / 8 + 8) ≤ (KX - ksum cp NB) / 8 + 8; omega, by have hgw := (hW3829); have hg1 := hgw.1; have hg2 := hgw.2; have hkm := hB3832.kmax; show 0 + ds3826 + ds3829 + (2 * (KX - ksum c3829 NB) + 2048) ≤ 2 * (KX - ksum cp NB) + 2048; omega⟩ (fun rv h3833 dc3833 ds3833 H3833 locs3833 hp3833 T3833 => ?_)
    obtain ⟨rfl, V3833, c3833, hB3833, hk3833, ho3833, hF3833, hw3833⟩ := hp3833
    have hW3833 := (hW3829).tr hw3833
    have hF_3833 : Fr (BO B) h h3833 := hF_3832.tr (hF3833.mono (fun _ z => z))
    refine W.eq (g2 := F0 m 274 ls3811 []) rfl ?_
    rw [nu_n (by decide), nu_s, hv7] at hk3833
    have hl3 : lm (V3833 7) ≤ 108 := by rw [hk3833]; exact Nat.le_trans (lm_mul _ _) (by have := lm_2 (v := cxB N M pp z) (by omega); omega)
    refine lv_aload_n hx hb dX6_look_274 rfl (lv_at hl3811 0 rfl) ?_
    have hst30x3805_3833 : h3833 (L 30) = some (.inr (6, [.ref (L 0), .ref (B 6), .ref (B 7)]), L 30) := hF3833 _ _ hst30x3805_3832 (fun ⟨i, hi, e⟩ => hLay.2 i 30 hi (by decide) e.symm)
    refine hr_get C T3833 hst30x3805_3833 rfl in_X6 2 (by decide) q182 rfl rfl dX6_look_275 ?_
    refine lv_aload_n hx hb dX6_look_278 rfl (lv_at hl3811 0 rfl) ?_
    refine hr_get C T3833 hst30x3805_3833 rfl in_X6 0 (by decide) q179 rfl rfl dX6_look_279 ?_
    have ho0_3833 : h3833 (L 0) = some (.inr (0, [.ref (L 1), .int (nI (N 0)), .ref (L 3), .int (nI (N 1)), .int (nI (N 2)), .int (nI (N 3)), .int (nI (N 4)), .int (nI (N 5)), .int (nI (N 6)), .int (nI (N 7)), .int (nI (N 8)), .ref (L 12), .ref (L 13), .ref (L 14), .ref (L 15), .ref (L 16), .ref (L 17), .int (nI (N 11)), .int (nI (N 15)), .int (nI (N 16)), .int (nI (N 17)), .int (nI (N 18) - 1), .int (nI (N 19)), .ref (L 24), .int (nI pp), .ref (L 26), .ref (L 27), .ref (if N 13 = 1 then L 27 else L 26), .ref (L 29), .ref (L 30), .ref (if N 12 = 1 then L 30 else L 29), .ref (L 32), .ref (B 0), .ref (B 1), .ref (B 2), .ref (B 3), .ref (L 37), .ref (L 38), .ref (L 39), .ref (B 4), .ref (B 5)]), L 0) := hF3833 _ _ ho0_3832 (fun ⟨i, hi, e⟩ => hLay.2 i 0 hi (by decide) e.symm)
    refine hr_getN C T3833 ho0_3833 rfl in_X1 4 (by decide) 26 rfl rfl rfl dX6_look_282 ?_
    obtain ⟨ca3834, hbo3834⟩ := hB3833.o (i := 7) (by decide)
    refine hg_V C T3833 hl3811.1 hbo3834 rfl (g_times (i := 7) hB3833 (by decide) (by omega) (by omega)) q786 q787 q788 q59 q789 kd_X7_times rfl rfl ⟨Nat.le_of_ble_eq_true rfl, Nat.le_of_ble_eq_true rfl⟩ (Nat.le_of_ble_eq_true rfl) dX6_look_285 ⟨by have hgw := (hW3833); have hg1 := hgw.1; have hg2 := hgw.2; have hkm := hB3833.kmax; have := gc_le (c3833 7) (lm (V3833 7) + 1); have := gs_le ((hB3833.1 7 (by decide)).cap.2.2) (show lm (V3833 7) + 1 ≤ 128 from (by omega)); show 0 + dc3826 + dc3829 + dc3833 + (gc (c3833 7) (lm (V3833 7) + 1)) ≤ (KX - ksum cp NB) / 8 + 8; omega, by have hgw := (hW3833); have hg1 := hgw.1; have hg2 := hgw.2; have hkm := hB3833.kmax; have := gc_le (c3833 7) (lm (V3833 7) + 1); have := gs_le ((hB3833.1 7 (by decide)).cap.2.2) (show lm (V3833 7) + 1 ≤ 128 from (by omega)); show 0 + ds3826 + ds3829 + ds3833 + (gs (c3833 7) (lm (V3833 7) + 1)) ≤ 2 * (KX - ksum cp NB) + 2048; omega⟩ (fun rv h3835 dc3835 ds3835 H3835 locs3835 hp3835 T3835 => ?_)
    obtain ⟨rfl, c3835, hB3835, hF3835, hw3835⟩ := hp3835
    have hW3835 := (hW3833).tr hw3835
    have hF_3835 : Fr (BO B) h h3835 := hF_3833.tr (hF3835.mono (fun _ z => z))
    refine W.eq (g2 := F0 m 288 ls3811 []) rfl ?_
    exact Z _ _ _ _ _ _ _ dX6_look_288 (by have hgw := (hW3835); have hg1 := hgw.1; have hg2 := hgw.2; have hkm := hB3835.kmax; show 0 + dc3826 + dc3829 + dc3833 + dc3835 ≤ (KX - ksum cp NB) / 8 + 8; omega) (by have hgw := (hW3835); have hg1 := hgw.1; have hg2 := hgw.2; have hkm := hB3835.kmax; show 0 + ds3826 + ds3829 + ds3833 + ds3835 ≤ 2 * (KX - ksum cp NB) + 2048; omega) ⟨rfl, _, _, hB3835, by rw [nu_n (by decide), ho3833 6 (by decide) (by decide), nu_n (by decide), hk3829, ← hz]; rfl, by rw [nu_s, hk3833, ← hz], fun n h0 h6 h7 h16 => by rw [nu_n h7, ho3833 n h16 h7, nu_n h0, ho3829 n h16 h6, nu_n h0, ho3826 n h16 h6, nu_n h0], hF_3835, hW3835⟩ T3835
  have L1 : ∀ (j : Nat) (k : Nat) (H3812 : Heap) (locs3812 : List Loc) (ls3812 : Array Slot), (pp + 1 ≤ k + j) → (k ≤ pp) → (0 < k → x ≠ -2) → (St E s h H3812 locs3812) → (lv_has ls3812 11 [(0, .ref (L 30)), (1, .int r), (2, .int x), (4, .long (lZ ((bst M r x k).1))), (6, .long (lN ((bst M r x k).2))), (8, .int (nI k))]) → W p l e ({ frames := 5, cells := (KX - ksum cp NB) / 8 + 8, slots := 2 * (KX - ksum cp NB) + 2048, locals := 750 } : Room) s m ([.ref (L 30), .int r, .int x, .int d] : List Value).toArray below meth c H3812 locs3812 0 0 Q (F0 m 9 ls3812 []) := by
    intro j
    induction j with
    | zero => intro k H3812 locs3812 ls3812 hm3812 hk hk0 T3812 hl3812; exact absurd hm3812 (by omega)
    | succ j ih3812 =>
      intro k H3812 locs3812 ls3812 hm3812 hk hk0 T3812 hl3812
      refine lv_iload hx hb dX6_look_9 (lv_at hl3812 5 rfl) ?_
      refine lv_aload_n hx hb dX6_look_11 rfl (lv_at hl3812 0 rfl) ?_
      refine hr_get C T3812 hst30x3805 rfl in_X6 0 (by decide) q179 rfl rfl dX6_look_12 ?_
      refine hr_getN C T3812 ho0 rfl in_X1 24 (by decide) 32 rfl rfl rfl dX6_look_15 ?_
      refine hn_icmp_ge (tgt := 104) hx hb dX6_look_18 (by decide) (by omega) (by omega) (fun c1 => ?_) (fun c1 => ?_)
      · have e1 : k = pp := by omega
        exact J104 (bst M r x k) _ _ _ (by rw [e1]; unfold bsz; rw [if_neg (hk0 (by omega))]) T3812 (lv_sub hl3812 [0, 3, 4] rfl)
      · refine lv_iload_n hx hb dX6_look_21 rfl (lv_at hl3812 2 rfl) ?_
        refine lv_bipush (v := (-2)) hx hb dX6_look_22 rfl ?_
        refine lv_icmp_eq (tgt := 104) hx hb dX6_look_24 (by decide) (fun c2 => ?_) (fun c2 => ?_)
        · exact J104 (bst M r x k) _ _ _ (by rw [show k = 0 from Nat.eq_zero_of_not_pos fun q => hk0 q c2]; unfold bsz; rw [if_pos c2]; rfl) T3812 (lv_sub hl3812 [0, 3, 4] rfl)
        · obtain ⟨hw1, hw2, hw4, hw5, hlt⟩ := hPW k (by omega)
          have hor := offZ_rng r x (M 4 k) (M 5 k)
          have hmk := hmg k (by omega)
          have hb1 := hbr k
          have hb2 := hbu k (by omega)
          refine lv_aload_n hx hb dX6_look_27 rfl (lv_at hl3812 0 rfl) ?_
          refine lv_aload_n hx hb dX6_look_28 rfl (lv_at hl3812 0 rfl) ?_
          refine hr_get C T3812 hst30x3805 rfl in_X6 0 (by decide) q179 rfl rfl dX6_look_29 ?_
          refine hr_getN C T3812 ho0 rfl in_X1 23 (by decide) 31 rfl rfl rfl dX6_look_32 ?_
          refine lv_iload hx hb dX6_look_35 (lv_at hl3812 5 rfl) ?_
          refine hr_aald C T3812 6 rfl hst24x3807 (by omega) (by omega) rfl dX6_look_37 ?_
          have hpr3813 := hPr k (by omega)
          refine lv_iload_n hx hb dX6_look_38 rfl (lv_at hl3812 1 rfl) ?_
          refine lv_iload_n hx hb dX6_look_39 rfl (lv_at hl3812 2 rfl) ?_
          refine hc_V C T3812 hl3812.1 hst30x3805 rfl (m_X6_off hpr3813 hw1 hw2) q753 q755 qs8 q58 q756 kd_X6_off rfl rfl ⟨Nat.le_of_ble_eq_true rfl, Nat.le_of_ble_eq_true rfl⟩ (Nat.le_of_ble_eq_true rfl) dX6_look_40 ⟨by have hgw := (Gw.rf (cp := cp)); have hg1 := hgw.1; have hg2 := hgw.2; have hkm := hB.kmax; show 0 + 0 ≤ (KX - ksum cp NB) / 8 + 8; omega, by have hgw := (Gw.rf (cp := cp)); have hg1 := hgw.1; have hg2 := hgw.2; have hkm := hB.kmax; show 0 + 0 ≤ 2 * (KX - ksum cp NB) + 2048; omega⟩ (fun rv h3814 H3814 locs3814 hp3814 T3814 => ?_)
          obtain ⟨rfl, hq3814⟩ := hp3814
          rw [hq3814] at T3814
          refine W.eq (g2 := F0 m 43 ls3812 [.int (iZ (offZ r x (M 4 k) (M 5 k)))]) rfl ?_
          refine lv_istore (lv' := [(9, .int (iZ (offZ r x (M 4 k) (M 5 k)))), (0, .ref (L 30)), (1, .int r), (2, .int x), (4, .long (lZ ((bst M r x k).1))), (6, .long (lN ((bst M r x k).2))), (8, .int (nI k))]) hx hb dX6_look_43 hl3812 (by decide) rfl (fun ls3815 hl3815 => ?_)
          refine lv_aload_n hx hb dX6_look_45 rfl (lv_at hl3815 1 rfl) ?_
          refine hr_get C T3814 hst30x3805 rfl in_X6 0 (by decide) q179 rfl rfl dX6_look_46 ?_
          refine lv_aload_n hx hb dX6_look_49 rfl (lv_at hl3815 1 rfl) ?_
          refine hr_get C T3814 hst30x3805 rfl in_X6 0 (by decide) q179 rfl rfl dX6_look_50 ?_
          refine hr_getN C T3814 ho0 rfl in_X1 23 (by decide) 31 rfl rfl rfl dX6_look_53 ?_
          refine lv_iload hx hb dX6_look_56 (lv_at hl3815 6 rfl) ?_
          refine hr_aald C T3814 6 rfl hst24x3807 (by omega) (by omega) rfl dX6_look_58 ?_
          refine hc_VN C T3814 hl3815.1 ho0 rfl (m_X1_margin (M := M) ho0 ha1 hpr3813 hw1 hw2 hw4 hw5 r1 (Nat.le_of_lt hlt)) 6 rfl q759 qs9 q53 q760 kd_X1_margin.2 rfl rfl ⟨Nat.le_of_ble_eq_true rfl, Nat.le_of_ble_eq_true rfl⟩ (Nat.le_of_ble_eq_true rfl) dX6_look_59 ⟨by have hgw := (Gw.rf (cp := cp)); have hg1 := hgw.1; have hg2 := hgw.2; have hkm := hB.kmax; show 0 + 0 ≤ (KX - ksum cp NB) / 8 + 8; omega, by have hgw := (Gw.rf (cp := cp)); have hg1 := hgw.1; have hg2 := hgw.2; have hkm := hB.kmax; show 0 + 0 ≤ 2 * (KX - ksum cp NB) + 2048; omega⟩ (fun rv h3816 H3816 locs3816 hp3816 T3816 => ?_)
          obtain ⟨rfl, hq3816⟩ := hp3816
          rw [hq3816] at T3816
          refine W.eq (g2 := F0 m 62 ls3815 [.int (nI (mgn M k))]) rfl ?_
          refine lv_istore (lv' := [(10, .int (nI (mgn M k))), (9, .int (iZ (offZ r x (M 4 k) (M 5 k)))), (0, .ref (L 30)), (1, .int r), (2, .int x), (4, .long (lZ ((bst M r x k).1))), (6, .long (lN ((bst M r x k).2))), (8, .int (nI k))]) hx hb dX6_look_62 hl3815 (by decide) rfl (fun ls3817 hl3817 => ?_)
          refine lv_iload hx hb dX6_look_64 (lv_at hl3817 7 rfl) ?_
          have J88 : ∀  (H3818 : Heap) (locs3818 : List Loc) (ls3818 : Array Slot), (bst M r x (k + 1) = (offZ r x (M 4 k) (M 5 k), mgn M k)) → (St E s h H3818 locs3818) → (lv_has ls3818 11 [(10, .int (nI (mgn M k))), (9, .int (iZ (offZ r x (M 4 k) (M 5 k)))), (0, .ref (L 30)), (1, .int r), (2, .int x), (4, .long (lZ ((bst M r x k).1))), (6, .long (lN ((bst M r x k).2))), (8, .int (nI k))]) → W p l e ({ frames := 5, cells := (KX - ksum cp NB) / 8 + 8, slots := 2 * (KX - ksum cp NB) + 2048, locals := 750 } : Room) s m ([.ref (L 30), .int r, .int x, .int d] : List Value).toArray below meth c H3818 locs3818 0 0 Q (F0 m 88 ls3818 []) := by
            intro  H3818 locs3818 ls3818 hbs T3818 hl3818
            refine lv_iload hx hb dX6_look_88 (lv_at hl3818 1 rfl) ?_
            refine lv_i2l (v := lZ (offZ r x (M 4 k) (M 5 k))) hx hb dX6_look_90 (iZ_l (by omega) (by omega)) ?_
            refine lv_lstore (lv' := [(4, .long (lZ (offZ r x (M 4 k) (M 5 k)))), (10, .int (nI (mgn M k))), (9, .int (iZ (offZ r x (M 4 k) (M 5 k)))), (0, .ref (L 30)), (1, .int r), (2, .int x), (6, .long (lN ((bst M r x k).2))), (8, .int (nI k))]) hx hb dX6_look_91 hl3818 (by decide) rfl (fun ls3819 hl3819 => ?_)
            refine lv_iload hx hb dX6_look_93 (lv_at hl3819 1 rfl) ?_
            refine hn_i2l hx hb dX6_look_95 (by omega) ?_
            refine lv_lstore (lv' := [(6, .long (lN (mgn M k))), (4, .long (lZ (offZ r x (M 4 k) (M 5 k)))), (10, .int (nI (mgn M k))), (9, .int (iZ (offZ r x (M 4 k) (M 5 k)))), (0, .ref (L 30)), (1, .int r), (2, .int x), (8, .int (nI k))]) hx hb dX6_look_96 hl3819 (by decide) rfl (fun ls3820 hl3820 => ?_)
            refine lv_iinc (v := nI (k + 1)) (lv' := [(8, .int (nI (k + 1))), (6, .long (lN (mgn M k))), (4, .long (lZ (offZ r x (M 4 k) (M 5 k)))), (10, .int (nI (mgn M k))), (9, .int (iZ (offZ r x (M 4 k) (M 5 k)))), (0, .ref (L 30)), (1, .int r), (2, .int x)]) hx hb dX6_look_98 hl3820 (k := 7) rfl (nI_add k 1) (by decide) rfl (fun ls3821 hl3821 => ?_)
            refine lv_goto (tgt := 9) hx hb dX6_look_101 (by decide) ?_
            rw [show lZ (offZ r x (M 4 k) (M 5 k)) = lZ (bst M r x (k + 1)).1 by rw [hbs], show lN (mgn M k) = lN (bst M r x (k + 1)).2 by rw [hbs]] at hl3821
            exact ih3812 (k + 1) _ _ _ (by omega) (by omega) (fun _ => c2) T3818 (lv_sub hl3821 [5, 6, 7, 2, 1, 0] rfl)
          refine hn_if_le (tgt := 88) hx hb dX6_look_66 (by decide) (by omega) (fun c3 => ?_) (fun c3 => ?_)
          · exact J88 _ _ _ (by rw [bst_s, if_pos (Or.inl (by omega))]) T3816 (lv_sub hl3817 [0, 1, 2, 3, 4, 5, 6, 7] rfl)
          · refine lv_iload hx hb dX6_look_69 (lv_at hl3817 1 rfl) ?_
            refine lv_i2l (v := lZ (offZ r x (M 4 k) (M 5 k))) hx hb dX6_look_71 (iZ_l (by omega) (by omega)) ?_
            refine lv_lload hx hb dX6_look_72 (lv_at hl3817 6 rfl) ?_
            refine lv_lmul hx hb dX6_look_74 ?_
            rw [zn_mul]
            refine lv_lload hx hb dX6_look_75 (lv_at hl3817 5 rfl) ?_
            refine lv_iload hx hb dX6_look_77 (lv_at hl3817 0 rfl) ?_
            refine hn_i2l hx hb dX6_look_79 (by omega) ?_
            refine lv_lmul hx hb dX6_look_80 ?_
            rw [zn_mul]
            refine W.lcmp hx hb dX6_look_81 ?_
            have hq1 : offZ r x (M 4 k) (M 5 k) * ((bst M r x k).2 : Int) ≤ 2 * 1000000 := Int.le_trans (Int.mul_le_mul_of_nonneg_right hor.2 (by omega)) (by omega)
            have hq2 : (-2) * 1000000 ≤ offZ r x (M 4 k) (M 5 k) * ((bst M r x k).2 : Int) := Int.le_trans (by omega) (Int.mul_le_mul_of_nonneg_right hor.1 (by omega))
            have hq3 : (bst M r x k).1 * (mgn M k : Int) ≤ 2 * 1000000 := Int.le_trans (Int.mul_le_mul_of_nonneg_right hb1.2 (by omega)) (by omega)
            have hq4 : (-2) * 1000000 ≤ (bst M r x k).1 * (mgn M k : Int) := Int.le_trans (by omega) (Int.mul_le_mul_of_nonneg_right hb1.1 (by omega))
            refine rl_if_gt (tgt := 88) hx hb dX6_look_82 (by decide) (fun c4 => ?_) (fun c4 => ?_)
            · exact J88 _ _ _ (by rw [bst_s, if_pos (Or.inr ((lZ_lt (by omega) (by omega) (by omega) (by omega)).mp c4))]) T3816 (lv_sub hl3817 [0, 1, 2, 3, 4, 5, 6, 7] rfl)
            · have hbs : bst M r x (k + 1) = bst M r x k := by rw [bst_s, if_neg (fun q => q.elim (by omega) (fun q => c4 ((lZ_lt (by omega) (by omega) (by omega) (by omega)).mpr q)))]
              refine lv_goto (tgt := 98) hx hb dX6_look_85 (by decide) ?_
              refine lv_iinc (v := nI (k + 1)) (lv' := [(8, .int (nI (k + 1))), (10, .int (nI (mgn M k))), (9, .int (iZ (offZ r x (M 4 k) (M 5 k)))), (0, .ref (L 30)), (1, .int r), (2, .int x), (4, .long (lZ ((bst M r x k).1))), (6, .long (lN ((bst M r x k).2)))]) hx hb dX6_look_98 hl3817 (k := 7) rfl (nI_add k 1) (by decide) rfl (fun ls3822 hl3822 => ?_)
              refine lv_goto (tgt := 9) hx hb dX6_look_101 (by decide) ?_
              rw [show lZ ((bst M r x k).1) = lZ (bst M r x (k + 1)).1 by rw [hbs], show lN ((bst M r x k).2) = lN (bst M r x (k + 1)).2 by rw [hbs]] at hl3822
              exact ih3812 (k + 1) _ _ _ (by omega) (by omega) (fun _ => c2) T3816 (lv_sub hl3822 [3, 4, 5, 6, 7, 0] rfl)
  exact L1 (pp + 1) 0 _ _ _ (by omega) (Nat.zero_le _) (fun q => absurd q (by decide)) T (lv_sub hl3810 [3, 4, 5, 2, 1, 0] rfl)

set_option maxHeartbeats 4000000 in
theorem m_X6_isSure {E : GE} {l : Launch} {h : HH} {L B N V cp : Nat → Nat} {pp : Nat} (hLay : Lay L B) (hB : Bgs E h B V cp) (ho0 : h (L 0) = some (.inr (0, [.ref (L 1), .int (nI (N 0)), .ref (L 3), .int (nI (N 1)), .int (nI (N 2)), .int (nI (N 3)), .int (nI (N 4)), .int (nI (N 5)), .int (nI (N 6)), .int (nI (N 7)), .int (nI (N 8)), .ref (L 12), .ref (L 13), .ref (L 14), .ref (L 15), .ref (L 16), .ref (L 17), .int (nI (N 11)), .int (nI (N 15)), .int (nI (N 16)), .int (nI (N 17)), .int (nI (N 18) - 1), .int (nI (N 19)), .ref (L 24), .int (nI pp), .ref (L 26), .ref (L 27), .ref (if N 13 = 1 then L 27 else L 26), .ref (L 29), .ref (L 30), .ref (if N 12 = 1 then L 30 else L 29), .ref (L 32), .ref (B 0), .ref (B 1), .ref (B 2), .ref (B 3), .ref (L 37), .ref (L 38), .ref (L 39), .ref (B 4), .ref (B 5)]), L 0)) (hSt : Stt E L B h) (hl5 : N 5 ≤ 1000000) (hl6 : N 6 ≤ 1000000) (hlm6 : lm (V 6) ≤ 120) (hlm7 : lm (V 7) ≤ 120) : MG E l yX6_isSure cX6_isSure 1 (some .boolean) ({ frames := 3, cells := (KX - ksum cp NB) / 8 + 8, slots := 2 * (KX - ksum cp NB) + 2048, locals := 450 } : Room) [.ref (L 30)] h (fun rv h2 dc ds => rv = some (.int (if V 6 * N 6 ≤ V 7 * N 5 then 1 else 0)) ∧ ∃ V2 c2, Bgs E h2 B V2 c2 ∧ (∀ n, n ≠ 0 → n ≠ 1 → V2 n = V n) ∧ Fr (BO B) h h2 ∧ Gw cp c2 dc ds) := by
  refine hn_z (by decide) (Nat.le_of_ble_eq_true rfl) ?_
  intro p e s m below meth c C hnm Q Z ls T hl
  have hx := C.x
  have hb := C.b
  have hl : lv_has ls 1 [(0, .ref (L 30))] := hl
  have hF : Fr (BO B) h h := Fr.rf
  have hst30x3836 := (hSt).2.2.2.2.1
  refine lv_aload_n hx hb dX6_isSure_0 rfl (lv_at hl 0 rfl) ?_
  refine hr_get C T hst30x3836 rfl in_X6 0 (by decide) q179 rfl rfl dX6_isSure_1 ?_
  refine hr_getN C T ho0 rfl in_X1 32 (by decide) 34 rfl rfl rfl dX6_isSure_4 ?_
  refine lv_aload_n hx hb dX6_isSure_7 rfl (lv_at hl 0 rfl) ?_
  refine hr_get C T hst30x3836 rfl in_X6 1 (by decide) q180 rfl rfl dX6_isSure_8 ?_
  obtain ⟨ca3837, hbo3837⟩ := hB.o (i := 0) (by decide)
  refine hg_V C T hl.1 hbo3837 rfl (g_copy (i := 0) (j := 6) hB (by decide) (by decide) (by decide) (by omega)) q822 q783 q784 q59 q785 kd_X7_copy rfl rfl ⟨Nat.le_of_ble_eq_true rfl, Nat.le_of_ble_eq_true rfl⟩ (Nat.le_of_ble_eq_true rfl) dX6_isSure_11 ⟨by have hgw := (Gw.rf (cp := cp)); have hg1 := hgw.1; have hg2 := hgw.2; have hkm := hB.kmax; have := gc_le (cp 0) (lm (V 6)); have := gs_le ((hB.1 0 (by decide)).cap.2.2) (show lm (V 6) ≤ 128 from (by omega)); show 0 + (gc (cp 0) (lm (V 6))) ≤ (KX - ksum cp NB) / 8 + 8; omega, by have hgw := (Gw.rf (cp := cp)); have hg1 := hgw.1; have hg2 := hgw.2; have hkm := hB.kmax; have := gc_le (cp 0) (lm (V 6)); have := gs_le ((hB.1 0 (by decide)).cap.2.2) (show lm (V 6) ≤ 128 from (by omega)); show 0 + (gs (cp 0) (lm (V 6))) ≤ 2 * (KX - ksum cp NB) + 2048; omega⟩ (fun rv h3838 dc3838 ds3838 H3838 locs3838 hp3838 T3838 => ?_)
  obtain ⟨rfl, c3838, hB3838, hF3838, hw3838⟩ := hp3838
  have hW3838 := (Gw.rf (cp := cp)).tr hw3838
  have hF_3838 : Fr (BO B) h h3838 := hF.tr (hF3838.mono (fun _ z => z))
  refine W.eq (g2 := F0 m 14 ls []) rfl ?_
  refine lv_aload_n hx hb dX6_isSure_14 rfl (lv_at hl 0 rfl) ?_
  have hst30x3836_3838 : h3838 (L 30) = some (.inr (6, [.ref (L 0), .ref (B 6), .ref (B 7)]), L 30) := hF3838 _ _ hst30x3836 (fun ⟨i, hi, e⟩ => hLay.2 i 30 hi (by decide) e.symm)
  refine hr_get C T3838 hst30x3836_3838 rfl in_X6 0 (by decide) q179 rfl rfl dX6_isSure_15 ?_
  have ho0_3838 : h3838 (L 0) = some (.inr (0, [.ref (L 1), .int (nI (N 0)), .ref (L 3), .int (nI (N 1)), .int (nI (N 2)), .int (nI (N 3)), .int (nI (N 4)), .int (nI (N 5)), .int (nI (N 6)), .int (nI (N 7)), .int (nI (N 8)), .ref (L 12), .ref (L 13), .ref (L 14), .ref (L 15), .ref (L 16), .ref (L 17), .int (nI (N 11)), .int (nI (N 15)), .int (nI (N 16)), .int (nI (N 17)), .int (nI (N 18) - 1), .int (nI (N 19)), .ref (L 24), .int (nI pp), .ref (L 26), .ref (L 27), .ref (if N 13 = 1 then L 27 else L 26), .ref (L 29), .ref (L 30), .ref (if N 12 = 1 then L 30 else L 29), .ref (L 32), .ref (B 0), .ref (B 1), .ref (B 2), .ref (B 3), .ref (L 37), .ref (L 38), .ref (L 39), .ref (B 4), .ref (B 5)]), L 0) := hF3838 _ _ ho0 (fun ⟨i, hi, e⟩ => hLay.2 i 0 hi (by decide) e.symm)
  refine hr_getN C T3838 ho0_3838 rfl in_X1 32 (by decide) 34 rfl rfl rfl dX6_isSure_18 ?_
  refine lv_aload_n hx hb dX6_isSure_21 rfl (lv_at hl 0 rfl) ?_
  refine hr_get C T3838 hst30x3836_3838 rfl in_X6 0 (by decide) q179 rfl rfl dX6_isSure_22 ?_
  refine hr_getN C T3838 ho0_3838 rfl in_X1 8 (by decide) 28 rfl rfl rfl dX6_isSure_25 ?_
  obtain ⟨ca3839, hbo3839⟩ := hB3838.o (i := 0) (by decide)
  refine hg_V C T3838 hl.1 hbo3839 rfl (g_times (i := 0) hB3838 (by decide) (by omega) (by rw [nu_s]; omega)) q786 q787 q788 q59 q789 kd_X7_times rfl rfl ⟨Nat.le_of_ble_eq_true rfl, Nat.le_of_ble_eq_true rfl⟩ (Nat.le_of_ble_eq_true rfl) dX6_isSure_28 ⟨by have hgw := (hW3838); have hg1 := hgw.1; have hg2 := hgw.2; have hkm := hB3838.kmax; have := gc_le ((nu cp 0 c3838) 0) (lm ((nu V 0 (V 6)) 0) + 1); have := gs_le ((hB3838.1 0 (by decide)).cap.2.2) (show lm ((nu V 0 (V 6)) 0) + 1 ≤ 128 from (by rw [nu_s]; omega)); show 0 + dc3838 + (gc ((nu cp 0 c3838) 0) (lm ((nu V 0 (V 6)) 0) + 1)) ≤ (KX - ksum cp NB) / 8 + 8; omega, by have hgw := (hW3838); have hg1 := hgw.1; have hg2 := hgw.2; have hkm := hB3838.kmax; have := gc_le ((nu cp 0 c3838) 0) (lm ((nu V 0 (V 6)) 0) + 1); have := gs_le ((hB3838.1 0 (by decide)).cap.2.2) (show lm ((nu V 0 (V 6)) 0) + 1 ≤ 128 from (by rw [nu_s]; omega)); show 0 + ds3838 + (gs ((nu cp 0 c3838) 0) (lm ((nu V 0 (V 6)) 0) + 1)) ≤ 2 * (KX - ksum cp NB) + 2048; omega⟩ (fun rv h3840 dc3840 ds3840 H3840 locs3840 hp3840 T3840 => ?_)
  obtain ⟨rfl, c3840, hB3840, hF3840, hw3840⟩ := hp3840
  have hW3840 := (hW3838).tr hw3840
  have hF_3840 : Fr (BO B) h h3840 := hF_3838.tr (hF3840.mono (fun _ z => z))
  refine W.eq (g2 := F0 m 31 ls []) rfl ?_
  refine lv_aload_n hx hb dX6_isSure_31 rfl (lv_at hl 0 rfl) ?_
  have hst30x3836_3840 : h3840 (L 30) = some (.inr (6, [.ref (L 0), .ref (B 6), .ref (B 7)]), L 30) := hF3840 _ _ hst30x3836_3838 (fun ⟨i, hi, e⟩ => hLay.2 i 30 hi (by decide) e.symm)
  refine hr_get C T3840 hst30x3836_3840 rfl in_X6 0 (by decide) q179 rfl rfl dX6_isSure_32 ?_
  have ho0_3840 : h3840 (L 0) = some (.inr (0, [.ref (L 1), .int (nI (N 0)), .ref (L 3), .int (nI (N 1)), .int (nI (N 2)), .int (nI (N 3)), .int (nI (N 4)), .int (nI (N 5)), .int (nI (N 6)), .int (nI (N 7)), .int (nI (N 8)), .ref (L 12), .ref (L 13), .ref (L 14), .ref (L 15), .ref (L 16), .ref (L 17), .int (nI (N 11)), .int (nI (N 15)), .int (nI (N 16)), .int (nI (N 17)), .int (nI (N 18) - 1), .int (nI (N 19)), .ref (L 24), .int (nI pp), .ref (L 26), .ref (L 27), .ref (if N 13 = 1 then L 27 else L 26), .ref (L 29), .ref (L 30), .ref (if N 12 = 1 then L 30 else L 29), .ref (L 32), .ref (B 0), .ref (B 1), .ref (B 2), .ref (B 3), .ref (L 37), .ref (L 38), .ref (L 39), .ref (B 4), .ref (B 5)]), L 0) := hF3840 _ _ ho0_3838 (fun ⟨i, hi, e⟩ => hLay.2 i 0 hi (by decide) e.symm)
  refine hr_getN C T3840 ho0_3840 rfl in_X1 33 (by decide) 35 rfl rfl rfl dX6_isSure_35 ?_
  refine lv_aload_n hx hb dX6_isSure_38 rfl (lv_at hl 0 rfl) ?_
  refine hr_get C T3840 hst30x3836_3840 rfl in_X6 2 (by decide) q182 rfl rfl dX6_isSure_39 ?_
  obtain ⟨ca3841, hbo3841⟩ := hB3840.o (i := 1) (by decide)
  refine hg_V C T3840 hl.1 hbo3841 rfl (g_copy (i := 1) (j := 7) hB3840 (by decide) (by decide) (by decide) (by rw [nu_n (by decide), nu_n (by decide)]; omega)) q822 q783 q784 q59 q785 kd_X7_copy rfl rfl ⟨Nat.le_of_ble_eq_true rfl, Nat.le_of_ble_eq_true rfl⟩ (Nat.le_of_ble_eq_true rfl) dX6_isSure_42 ⟨by have hgw := (hW3840); have hg1 := hgw.1; have hg2 := hgw.2; have hkm := hB3840.kmax; have := gc_le ((nu (nu cp 0 c3838) 0 c3840) 1) (lm ((nu (nu V 0 (V 6)) 0 ((nu V 0 (V 6)) 0 * (N 6))) 7)); have := gs_le ((hB3840.1 1 (by decide)).cap.2.2) (show lm ((nu (nu V 0 (V 6)) 0 ((nu V 0 (V 6)) 0 * (N 6))) 7) ≤ 128 from (by rw [nu_n (by decide), nu_n (by decide)]; omega)); show 0 + dc3838 + dc3840 + (gc ((nu (nu cp 0 c3838) 0 c3840) 1) (lm ((nu (nu V 0 (V 6)) 0 ((nu V 0 (V 6)) 0 * (N 6))) 7))) ≤ (KX - ksum cp NB) / 8 + 8; omega, by have hgw := (hW3840); have hg1 := hgw.1; have hg2 := hgw.2; have hkm := hB3840.kmax; have := gc_le ((nu (nu cp 0 c3838) 0 c3840) 1) (lm ((nu (nu V 0 (V 6)) 0 ((nu V 0 (V 6)) 0 * (N 6))) 7)); have := gs_le ((hB3840.1 1 (by decide)).cap.2.2) (show lm ((nu (nu V 0 (V 6)) 0 ((nu V 0 (V 6)) 0 * (N 6))) 7) ≤ 128 from (by rw [nu_n (by decide), nu_n (by decide)]; omega)); show 0 + ds3838 + ds3840 + (gs ((nu (nu cp 0 c3838) 0 c3840) 1) (lm ((nu (nu V 0 (V 6)) 0 ((nu V 0 (V 6)) 0 * (N 6))) 7))) ≤ 2 * (KX - ksum cp NB) + 2048; omega⟩ (fun rv h3842 dc3842 ds3842 H3842 locs3842 hp3842 T3842 => ?_)
  obtain ⟨rfl, c3842, hB3842, hF3842, hw3842⟩ := hp3842
  have hW3842 := (hW3840).tr hw3842
  have hF_3842 : Fr (BO B) h h3842 := hF_3840.tr (hF3842.mono (fun _ z => z))
  refine W.eq (g2 := F0 m 45 ls []) rfl ?_
  refine lv_aload_n hx hb dX6_isSure_45 rfl (lv_at hl 0 rfl) ?_
  have hst30x3836_3842 : h3842 (L 30) = some (.inr (6, [.ref (L 0), .ref (B 6), .ref (B 7)]), L 30) := hF3842 _ _ hst30x3836_3840 (fun ⟨i, hi, e⟩ => hLay.2 i 30 hi (by decide) e.symm)
  refine hr_get C T3842 hst30x3836_3842 rfl in_X6 0 (by decide) q179 rfl rfl dX6_isSure_46 ?_
  have ho0_3842 : h3842 (L 0) = some (.inr (0, [.ref (L 1), .int (nI (N 0)), .ref (L 3), .int (nI (N 1)), .int (nI (N 2)), .int (nI (N 3)), .int (nI (N 4)), .int (nI (N 5)), .int (nI (N 6)), .int (nI (N 7)), .int (nI (N 8)), .ref (L 12), .ref (L 13), .ref (L 14), .ref (L 15), .ref (L 16), .ref (L 17), .int (nI (N 11)), .int (nI (N 15)), .int (nI (N 16)), .int (nI (N 17)), .int (nI (N 18) - 1), .int (nI (N 19)), .ref (L 24), .int (nI pp), .ref (L 26), .ref (L 27), .ref (if N 13 = 1 then L 27 else L 26), .ref (L 29), .ref (L 30), .ref (if N 12 = 1 then L 30 else L 29), .ref (L 32), .ref (B 0), .ref (B 1), .ref (B 2), .ref (B 3), .ref (L 37), .ref (L 38), .ref (L 39), .ref (B 4), .ref (B 5)]), L 0) := hF3842 _ _ ho0_3840 (fun ⟨i, hi, e⟩ => hLay.2 i 0 hi (by decide) e.symm)
  refine hr_getN C T3842 ho0_3842 rfl in_X1 33 (by decide) 35 rfl rfl rfl dX6_isSure_49 ?_
  refine lv_aload_n hx hb dX6_isSure_52 rfl (lv_at hl 0 rfl) ?_
  refine hr_get C T3842 hst30x3836_3842 rfl in_X6 0 (by decide) q179 rfl rfl dX6_isSure_53 ?_
  refine hr_getN C T3842 ho0_3842 rfl in_X1 7 (by decide) 27 rfl rfl rfl dX6_isSure_56 ?_
  obtain ⟨ca3843, hbo3843⟩ := hB3842.o (i := 1) (by decide)
  refine hg_V C T3842 hl.1 hbo3843 rfl (g_times (i := 1) hB3842 (by decide) (by omega) (by rw [nu_s, nu_n (by decide), nu_n (by decide)]; omega)) q786 q787 q788 q59 q789 kd_X7_times rfl rfl ⟨Nat.le_of_ble_eq_true rfl, Nat.le_of_ble_eq_true rfl⟩ (Nat.le_of_ble_eq_true rfl) dX6_isSure_59 ⟨by have hgw := (hW3842); have hg1 := hgw.1; have hg2 := hgw.2; have hkm := hB3842.kmax; have := gc_le ((nu (nu (nu cp 0 c3838) 0 c3840) 1 c3842) 1) (lm ((nu (nu (nu V 0 (V 6)) 0 ((nu V 0 (V 6)) 0 * (N 6))) 1 ((nu (nu V 0 (V 6)) 0 ((nu V 0 (V 6)) 0 * (N 6))) 7)) 1) + 1); have := gs_le ((hB3842.1 1 (by decide)).cap.2.2) (show lm ((nu (nu (nu V 0 (V 6)) 0 ((nu V 0 (V 6)) 0 * (N 6))) 1 ((nu (nu V 0 (V 6)) 0 ((nu V 0 (V 6)) 0 * (N 6))) 7)) 1) + 1 ≤ 128 from (by rw [nu_s, nu_n (by decide), nu_n (by decide)]; omega)); show 0 + dc3838 + dc3840 + dc3842 + (gc ((nu (nu (nu cp 0 c3838) 0 c3840) 1 c3842) 1) (lm ((nu (nu (nu V 0 (V 6)) 0 ((nu V 0 (V 6)) 0 * (N 6))) 1 ((nu (nu V 0 (V 6)) 0 ((nu V 0 (V 6)) 0 * (N 6))) 7)) 1) + 1)) ≤ (KX - ksum cp NB) / 8 + 8; omega, by have hgw := (hW3842); have hg1 := hgw.1; have hg2 := hgw.2; have hkm := hB3842.kmax; have := gc_le ((nu (nu (nu cp 0 c3838) 0 c3840) 1 c3842) 1) (lm ((nu (nu (nu V 0 (V 6)) 0 ((nu V 0 (V 6)) 0 * (N 6))) 1 ((nu (nu V 0 (V 6)) 0 ((nu V 0 (V 6)) 0 * (N 6))) 7)) 1) + 1); have := gs_le ((hB3842.1 1 (by decide)).cap.2.2) (show lm ((nu (nu (nu V 0 (V 6)) 0 ((nu V 0 (V 6)) 0 * (N 6))) 1 ((nu (nu V 0 (V 6)) 0 ((nu V 0 (V 6)) 0 * (N 6))) 7)) 1) + 1 ≤ 128 from (by rw [nu_s, nu_n (by decide), nu_n (by decide)]; omega)); show 0 + ds3838 + ds3840 + ds3842 + (gs ((nu (nu (nu cp 0 c3838) 0 c3840) 1 c3842) 1) (lm ((nu (nu (nu V 0 (V 6)) 0 ((nu V 0 (V 6)) 0 * (N 6))) 1 ((nu (nu V 0 (V 6)) 0 ((nu V 0 (V 6)) 0 * (N 6))) 7)) 1) + 1)) ≤ 2 * (KX - ksum cp NB) + 2048; omega⟩ (fun rv h3844 dc3844 ds3844 H3844 locs3844 hp3844 T3844 => ?_)
  obtain ⟨rfl, c3844, hB3844, hF3844, hw3844⟩ := hp3844
  have hW3844 := (hW3842).tr hw3844
  have hF_3844 : Fr (BO B) h h3844 := hF_3842.tr (hF3844.mono (fun _ z => z))
  refine W.eq (g2 := F0 m 62 ls []) rfl ?_
  refine lv_aload_n hx hb dX6_isSure_62 rfl (lv_at hl 0 rfl) ?_
  have hst30x3836_3844 : h3844 (L 30) = some (.inr (6, [.ref (L 0), .ref (B 6), .ref (B 7)]), L 30) := hF3844 _ _ hst30x3836_3842 (fun ⟨i, hi, e⟩ => hLay.2 i 30 hi (by decide) e.symm)
  refine hr_get C T3844 hst30x3836_3844 rfl in_X6 0 (by decide) q179 rfl rfl dX6_isSure_63 ?_
  have ho0_3844 : h3844 (L 0) = some (.inr (0, [.ref (L 1), .int (nI (N 0)), .ref (L 3), .int (nI (N 1)), .int (nI (N 2)), .int (nI (N 3)), .int (nI (N 4)), .int (nI (N 5)), .int (nI (N 6)), .int (nI (N 7)), .int (nI (N 8)), .ref (L 12), .ref (L 13), .ref (L 14), .ref (L 15), .ref (L 16), .ref (L 17), .int (nI (N 11)), .int (nI (N 15)), .int (nI (N 16)), .int (nI (N 17)), .int (nI (N 18) - 1), .int (nI (N 19)), .ref (L 24), .int (nI pp), .ref (L 26), .ref (L 27), .ref (if N 13 = 1 then L 27 else L 26), .ref (L 29), .ref (L 30), .ref (if N 12 = 1 then L 30 else L 29), .ref (L 32), .ref (B 0), .ref (B 1), .ref (B 2), .ref (B 3), .ref (L 37), .ref (L 38), .ref (L 39), .ref (B 4), .ref (B 5)]), L 0) := hF3844 _ _ ho0_3842 (fun ⟨i, hi, e⟩ => hLay.2 i 0 hi (by decide) e.symm)
  refine hr_getN C T3844 ho0_3844 rfl in_X1 32 (by decide) 34 rfl rfl rfl dX6_isSure_66 ?_
  refine lv_aload_n hx hb dX6_isSure_69 rfl (lv_at hl 0 rfl) ?_
  refine hr_get C T3844 hst30x3836_3844 rfl in_X6 0 (by decide) q179 rfl rfl dX6_isSure_70 ?_
  refine hr_getN C T3844 ho0_3844 rfl in_X1 33 (by decide) 35 rfl rfl rfl dX6_isSure_73 ?_
  obtain ⟨ca3845, hbo3845⟩ := hB3844.o (i := 0) (by decide)
  refine hc_V C T3844 hl.1 hbo3845 rfl (g_compare (i := 0) (j := 1) hB3844 (by decide) (by decide)) q823 q803 q804 q59 q805 kd_X7_compare rfl rfl ⟨Nat.le_of_ble_eq_true rfl, Nat.le_of_ble_eq_true rfl⟩ (Nat.le_of_ble_eq_true rfl) dX6_isSure_76 ⟨by have hgw := (hW3844); have hg1 := hgw.1; have hg2 := hgw.2; have hkm := hB3844.kmax; show 0 + dc3838 + dc3840 + dc3842 + dc3844 + 0 ≤ (KX - ksum cp NB) / 8 + 8; omega, by have hgw := (hW3844); have hg1 := hgw.1; have hg2 := hgw.2; have hkm := hB3844.kmax; show 0 + ds3838 + ds3840 + ds3842 + ds3844 + 0 ≤ 2 * (KX - ksum cp NB) + 2048; omega⟩ (fun rv h3846 H3846 locs3846 hp3846 T3846 => ?_)
  obtain ⟨rfl, hq3846⟩ := hp3846
  rw [hq3846] at T3846
  rw [show cmpN ((nu (nu (nu (nu V 0 (V 6)) 0 ((nu V 0 (V 6)) 0 * (N 6))) 1 ((nu (nu V 0 (V 6)) 0 ((nu V 0 (V 6)) 0 * (N 6))) 7)) 1 ((nu (nu (nu V 0 (V 6)) 0 ((nu V 0 (V 6)) 0 * (N 6))) 1 ((nu (nu V 0 (V 6)) 0 ((nu V 0 (V 6)) 0 * (N 6))) 7)) 1 * (N 5))) 0) ((nu (nu (nu (nu V 0 (V 6)) 0 ((nu V 0 (V 6)) 0 * (N 6))) 1 ((nu (nu V 0 (V 6)) 0 ((nu V 0 (V 6)) 0 * (N 6))) 7)) 1 ((nu (nu (nu V 0 (V 6)) 0 ((nu V 0 (V 6)) 0 * (N 6))) 1 ((nu (nu V 0 (V 6)) 0 ((nu V 0 (V 6)) 0 * (N 6))) 7)) 1 * (N 5))) 1) = cmpN (V 6 * N 6) (V 7 * N 5) from rfl]
  refine zi_if_gt (tgt := 86) (X := (cmpN (V 6 * N 6) (V 7 * N 5)).toInt) hx hb dX6_isSure_79 (by decide) rfl (fun c1 => ?_) (fun c1 => ?_)
  · refine lv_iconst (v := nI 0) hx hb dX6_isSure_86 rfl ?_
    exact Z _ _ _ _ _ _ _ _ dX6_isSure_87 (by have hgw := (hW3844); have hg1 := hgw.1; have hg2 := hgw.2; have hkm := hB3844.kmax; show 0 + dc3838 + dc3840 + dc3842 + dc3844 ≤ (KX - ksum cp NB) / 8 + 8; omega) (by have hgw := (hW3844); have hg1 := hgw.1; have hg2 := hgw.2; have hkm := hB3844.kmax; show 0 + ds3838 + ds3840 + ds3842 + ds3844 ≤ 2 * (KX - ksum cp NB) + 2048; omega) (Or.inl rfl) ⟨by rw [if_neg (fun z => absurd (cmpN_npos.mpr z) (by omega))]; rfl, _, _, hB3844, fun n h0 h1 => by rw [nu_n h1, nu_n h1, nu_n h0, nu_n h0], hF_3844, hW3844⟩ T3846
  · refine lv_iconst (v := nI 1) hx hb dX6_isSure_82 rfl ?_
    refine lv_goto (tgt := 87) hx hb dX6_isSure_83 (by decide) ?_
    exact Z _ _ _ _ _ _ _ _ dX6_isSure_87 (by have hgw := (hW3844); have hg1 := hgw.1; have hg2 := hgw.2; have hkm := hB3844.kmax; show 0 + dc3838 + dc3840 + dc3842 + dc3844 ≤ (KX - ksum cp NB) / 8 + 8; omega) (by have hgw := (hW3844); have hg1 := hgw.1; have hg2 := hgw.2; have hkm := hB3844.kmax; show 0 + ds3838 + ds3840 + ds3842 + ds3844 ≤ 2 * (KX - ksum cp NB) + 2048; omega) (Or.inr rfl) ⟨by rw [if_pos (cmpN_npos.mp (by omega))]; rfl, _, _, hB3844, fun n h0 h1 => by rw [nu_n h1, nu_n h1, nu_n h0, nu_n h0], hF_3844, hW3844⟩ T3846
