set_option maxRecDepth 100000
/-- how many decimal places -/
def dl (n : Nat) : Nat := if n < 10 then 1 else if n < 100 then 2 else if n < 1000 then 3 else if n < 10000 then 4 else if n < 100000 then 5 else if n < 1000000 then 6 else if n < 10000000 then 7 else if n < 100000000 then 8 else if n < 1000000000 then 9 else 10
theorem dl_of {n t : Nat} (h : t = 0 ∨ 10 ^ t ≤ n) (h2 : n < 10 ^ (t + 1)) (h3 : n < 2147483648) : t + 1 = dl n := by
  have ht : t < 10 := Nat.lt_of_not_le fun z => by
    have : 10 ^ 10 ≤ 10 ^ t := Nat.pow_le_pow_right (by decide) z
    omega
  unfold dl
  rcases (show t = 0 ∨ t = 1 ∨ t = 2 ∨ t = 3 ∨ t = 4 ∨ t = 5 ∨ t = 6 ∨ t = 7 ∨ t = 8 ∨ t = 9 by omega) with z | z | z | z | z | z | z | z | z | z <;> subst z <;> simp only [Nat.reducePow, Nat.reduceAdd] at h h2 <;> (repeat' split) <;> omega
theorem dl_le (n : Nat) : 1 ≤ dl n ∧ dl n ≤ 10 := by
  unfold dl
  (repeat' split) <;> omega
/-- the message: the seed's digits, a comma, a number; then how it is closed -/
def msgF (g : Nat → Int32) (nd n : Nat) : Nat → Nat := fun i =>
  if i < nd then 48 + un (g i) else if i = nd then 44 else if i < nd + 1 + dl n then 48 + n / 10 ^ (nd + dl n - i) % 10 else if i = nd + 1 + dl n then 128 else if i = 63 then 8 * (nd + 1 + dl n) else 0
theorem msg_dig {g : Nat → Int32} {nd n i : Nat} (h : i < nd) : msgF g nd n i = 48 + un (g i) := if_pos h
theorem msg_com {g : Nat → Int32} {nd n : Nat} : msgF g nd n nd = 44 := by unfold msgF; rw [if_neg (by omega), if_pos rfl]
theorem msg_num {g : Nat → Int32} {nd n c : Nat} (h : 0 < c) (h2 : c ≤ dl n) : msgF g nd n (nd + 1 + (dl n - c)) = 48 + n / 10 ^ (c - 1) % 10 := by
  unfold msgF
  rw [if_neg (by omega), if_neg (by omega), if_pos (by omega), show nd + dl n - (nd + 1 + (dl n - c)) = c - 1 by omega]
theorem msg_end {g : Nat → Int32} {nd n : Nat} : msgF g nd n (nd + 1 + dl n) = 128 := by unfold msgF; rw [if_neg (by omega), if_neg (by have := dl_le n; omega), if_neg (by omega), if_pos rfl]
theorem msg_zero {g : Nat → Int32} {nd n i : Nat} (h : nd + 1 + dl n < i) (h2 : i < 63) : msgF g nd n i = 0 := by unfold msgF; rw [if_neg (by omega), if_neg (by omega), if_neg (by omega), if_neg (by omega), if_neg (by omega)]
theorem msg_63 {g : Nat → Int32} {nd n : Nat} (h : nd ≤ 20) : msgF g nd n 63 = 8 * (nd + 1 + dl n) := by
  have := dl_le n
  unfold msgF
  rw [if_neg (by omega), if_neg (by omega), if_neg (by omega), if_neg (by omega), if_pos rfl]
theorem msg_lt {g : Nat → Int32} {nd n : Nat} (h : nd ≤ 20) (hg : ∀ i, i < nd → un (g i) ≤ 9) (i : Nat) : msgF g nd n i < 256 := by
  have := dl_le n
  unfold msgF
  split
  · have := hg i (by assumption); omega
  · split
    · decide
    · split
      · have := Nat.mod_lt (n / 10 ^ (nd + dl n - i)) (show 0 < 10 by decide); omega
      · split
        · decide
        · split <;> omega
/-- the digest's object, its words rs -/
def Dgo (h : HH) (E : GE) (L : Nat → Nat) (rs : Nat → Int32) : Prop := ∃ (n : Nat) (fw fd fm : Nat → Int32), h (L 62) = some (.inr (4, [.ref (L 63), .ref (L 64), .ref (L 65), .ref (L 66), .int (nI n)]), L 62) ∧ h (L 63) = some (.inl (E.2.1 0, 8, .inl rs), L 62) ∧ h (L 64) = some (.inl (E.2.1 0, 8, .inl fw), L 62) ∧ h (L 65) = some (.inl (E.2.1 0, 64, .inl fd), L 62) ∧ h (L 66) = some (.inl (E.2.1 1, 64, .inl fm), L 62)
/-- the seed: nd digits g -/
def Sds (h : HH) (E : GE) (L : Nat → Nat) (g : Nat → Int32) (nd : Nat) : Prop := ∃ fg : Nat → Int32, h (L 27) = some (.inr (3, [.ref (L 61), .int (nI nd), .ref (L 62)]), L 27) ∧ h (L 61) = some (.inl (E.2.1 0, 20, .inl fg), L 27) ∧ (∀ i, i < nd → fg i = g i) ∧ nd ≤ 20 ∧ ∀ i, i < nd → un (g i) ≤ 9

theorem kd_X3_work : yX3_work.cls = RX3 ∧ yX3_work.cls ≠ "java/lang/invoke/MethodHandle" ∧ yX3_work.cls ≠ "java/lang/invoke/VarHandle" ∧ (parseMethodDescriptor yX3_work.desc).map (fun d => d.parameters.length) = some 1 := by decide +kernel
theorem kd_X3_draw : yX3_draw.cls = RX3 ∧ yX3_draw.cls ≠ "java/lang/invoke/MethodHandle" ∧ yX3_draw.cls ≠ "java/lang/invoke/VarHandle" ∧ (parseMethodDescriptor yX3_draw.desc).map (fun d => d.parameters.length) = some 2 := by decide +kernel

set_option maxHeartbeats 4000000 in
theorem m_X3_work {E : GE} {l : Launch} {h : HH} {L : Nat → Nat} (hL : ∀ i j, i < 128 → j < 128 → i ≠ j → L i ≠ L j) {n nd : Nat} {g rs0 : Nat → Int32} (hS : Sds h E L g nd) (hD : Dgo h E L rs0) (hn1 : 1 ≤ n) (hn31 : n < 2147483648) : MM E l yX3_work cX3_work 3 none ({ frames := 3, cells := 0, slots := 0, locals := 450 } : Room) [.ref (L 27), .int (nI n)] h (fun rv h2 => rv = none ∧ ∃ rs, Dgo h2 E L rs ∧ (∀ i, i < 8 → rs i = dgw (msgF g nd n) i) ∧ Fr (· = L 62) h h2 ∧ (∀ q, q ≠ L 62 → q ≠ L 63 → q ≠ L 64 → q ≠ L 65 → q ≠ L 66 → h2 q = h q)) := by
  refine hm_v (by decide) (Nat.le_of_ble_eq_true rfl) ?_
  intro p e s m below meth c C hnm Q Z ls T hl
  have hx := C.x
  have hb := C.b
  have hl : lv_has ls 3 [(0, .ref (L 27)), (1, .int (nI n))] := hl
  obtain ⟨fg, hso, hsg, hfg, hnd, hg9⟩ := hS
  obtain ⟨n0, fw, fd, fm, hdo, hst, hwk, hwd, hms⟩ := hD
  have hF : Fr (· = L 62) h h := Fr.rf
  have hdl := dl_le n
  refine lv_aload_n hx hb dX3_work_0 rfl (lv_at hl 0 rfl) ?_
  refine hr_get C T hso rfl in_X3 2 (by decide) q139 rfl rfl dX3_work_1 ?_
  refine hc_V C T hl.1 hdo rfl (m_X4_begin hdo) q712 q713 q714 q56 q715 kd_X4_begin rfl rfl ⟨Nat.le_of_ble_eq_true rfl, Nat.le_of_ble_eq_true rfl⟩ (Nat.le_of_ble_eq_true rfl) dX3_work_4 ⟨Nat.le_of_ble_eq_true rfl, Nat.le_of_ble_eq_true rfl⟩ (fun rv h1601 H1601 locs1601 hp1601 T1601 => ?_)
  obtain ⟨rfl, he1601⟩ := hp1601
  have hs1601 := hu_s he1601
  have hF1601 : Fr (· = L 62) h h1601 := hu_f he1601 Fr.rf hdo rfl
  have ho1601 : ∀ q, q ≠ L 62 → h1601 q = h q := fun q z => by rw [he1601, hup_n z]
  have hF_1601 : Fr (· = L 62) h h1601 := hF.tr (hF1601.mono (fun _ z => z))
  refine W.eq (g2 := F0 m 7 ls []) rfl ?_
  refine lv_iconst (v := nI 0) hx hb dX3_work_7 rfl ?_
  refine lv_istore_n (lv' := [(2, .int (nI 0)), (0, .ref (L 27)), (1, .int (nI n))]) hx hb dX3_work_8 rfl hl (by decide) rfl (fun ls1602 hl1602 => ?_)
  have LC : ∀ (j : Nat) (cr : Nat) (r : Nat → Int32) (h1603 : HH) (H1603 : Heap) (locs1603 : List Loc) (ls1603 : Array Slot), (cr < j) → (h1603 (L 27) = some (.inr (3, [.ref (L 61), .int (nI nd), .ref (L 62)]), L 27)) → (h1603 (L 61) = some (.inl (E.2.1 0, 20, .inl fg), L 27)) → (h1603 (L 62) = some (.inr (4, [.ref (L 63), .ref (L 64), .ref (L 65), .ref (L 66), .int (nI (nd + 1 + (dl n - cr)))]), L 62)) → (h1603 (L 63) = some (.inl (E.2.1 0, 8, .inl rs0), L 62)) → (h1603 (L 64) = some (.inl (E.2.1 0, 8, .inl fw), L 62)) → (h1603 (L 65) = some (.inl (E.2.1 0, 64, .inl fd), L 62)) → (h1603 (L 66) = some (.inl (E.2.1 1, 64, .inl r), L 62)) → (cr ≤ dl n) → (∀ i, i < nd + 1 + (dl n - cr) → r i = b8 (msgF g nd n i)) → (∀ q, q ≠ L 62 → q ≠ L 66 → h1603 q = h q) → (Fr (· = L 62) h h1603) → (St E s h1603 H1603 locs1603) → (lv_has ls1603 3 [(0, .ref (L 27)), (1, .int (nI n)), (2, .int (nI (10 ^ cr / 10)))]) → W p l e ({ frames := 3, cells := 0, slots := 0, locals := 450 } : Room) s m ([.ref (L 27), .int (nI n)] : List Value).toArray below meth c H1603 locs1603 0 0 Q (F0 m 66 ls1603 []) := by
    intro j
    induction j with
    | zero => intro cr r h1603 H1603 locs1603 ls1603 hm1603 hso_1603 hsg_1603 hdo_1603 hst_1603 hwk_1603 hwd_1603 hms_1603 hc hr ho hF_1603 T1603 hl1603; exact absurd hm1603 (by omega)
    | succ j ih1603 =>
      intro cr r h1603 H1603 locs1603 ls1603 hm1603 hso_1603 hsg_1603 hdo_1603 hst_1603 hwk_1603 hwd_1603 hms_1603 hc hr ho hF_1603 T1603 hl1603
      have hp10 : 10 ^ cr ≤ 10000000000 := Nat.pow_le_pow_right (show 0 < 10 by decide) (show cr ≤ 10 by omega)
      refine lv_iload_n hx hb dX3_work_66 rfl (lv_at hl1603 2 rfl) ?_
      refine hn_if_le (tgt := 94) hx hb dX3_work_67 (by decide) (by omega) (fun c1 => ?_) (fun c1 => ?_)
      · have c0 : cr = 0 := Decidable.byContradiction fun z => by have : 10 ^ 1 ≤ 10 ^ cr := Nat.pow_le_pow_right (show 0 < 10 by decide) (show 1 ≤ cr by omega); omega
        subst c0
        rw [Nat.sub_zero] at hr
        rw [Nat.sub_zero] at hdo_1603
        refine lv_aload_n hx hb dX3_work_94 rfl (lv_at hl1603 0 rfl) ?_
        refine hr_get C T1603 hso_1603 rfl in_X3 2 (by decide) q139 rfl rfl dX3_work_95 ?_
        refine hc_V C T1603 hl1603.1 hdo_1603 rfl (m_X4_close hL (mb := msgF g nd n) (by omega) hr msg_end (fun i z1 z2 => msg_zero z1 z2) (msg_63 hnd) (fun i _ => msg_lt hnd hg9 i) hdo_1603 hst_1603 hwk_1603 hwd_1603 hms_1603) q720 q721 q722 q56 q723 kd_X4_close rfl rfl ⟨Nat.le_of_ble_eq_true rfl, Nat.le_of_ble_eq_true rfl⟩ (Nat.le_of_ble_eq_true rfl) dX3_work_98 ⟨Nat.le_of_ble_eq_true rfl, Nat.le_of_ble_eq_true rfl⟩ (fun rv h1604 H1604 locs1604 hp1604 T1604 => ?_)
        obtain ⟨rfl, rs, rw_, rd, rm_, y1, y2, y3, y4, y5, hrs, hF1604, ho1604⟩ := hp1604
        have hF_1604 : Fr (· = L 62) h h1604 := hF_1603.tr (hF1604.mono (fun _ z => z))
        refine W.eq (g2 := F0 m 101 ls1603 []) rfl ?_
        exact Z _ _ _ _ _ dX3_work_101 ⟨rfl, rs, ⟨_, _, _, _, y1, y2, y3, y4, y5⟩, hrs, hF_1604, fun q z1 z2 z3 z4 z5 => (ho1604 q z2 z3 z4 z5).trans (ho q z1 z5)⟩ T1604
      · have c0 : 0 < cr := Nat.pos_of_ne_zero fun z => by subst z; exact absurd c1 (by decide)
        obtain ⟨d, rfl⟩ : ∃ d, cr = d + 1 := ⟨cr - 1, by omega⟩
        have e10 : 10 ^ (d + 1) / 10 = 10 ^ d := by rw [Nat.pow_succ, Nat.mul_div_cancel _ (by decide)]
        rw [e10] at hl1603
        have hd10 : 10 ^ d ≤ 1000000000 := Nat.pow_le_pow_right (show 0 < 10 by decide) (show d ≤ 9 by omega)
        have hd0 : 0 < 10 ^ d := Nat.pow_pos (by decide)
        have hdv : n / 10 ^ d ≤ n := Nat.div_le_self _ _
        refine lv_aload_n hx hb dX3_work_70 rfl (lv_at hl1603 0 rfl) ?_
        refine hr_get C T1603 hso_1603 rfl in_X3 2 (by decide) q139 rfl rfl dX3_work_71 ?_
        refine lv_bipush (v := nI 48) hx hb dX3_work_74 rfl ?_
        refine lv_iload_n hx hb dX3_work_76 rfl (lv_at hl1603 1 rfl) ?_
        refine lv_iload_n hx hb dX3_work_77 rfl (lv_at hl1603 2 rfl) ?_
        refine hn_idiv hx hb dX3_work_78 hn31 hd0 (by omega) ?_
        refine lv_bipush (v := nI 10) hx hb dX3_work_79 rfl ?_
        refine hn_irem hx hb dX3_work_81 (by omega) (by decide) (by decide) ?_
        refine hn_iadd hx hb dX3_work_82 ?_
        refine hc_V C T1603 hl1603.1 hdo_1603 rfl (m_X4_add hL (n := nd + 1 + (dl n - (d + 1))) (b := 48 + n / 10 ^ d % 10) (by omega) hdo_1603 hms_1603) q716 q717 q718 q56 q719 kd_X4_add rfl rfl ⟨Nat.le_of_ble_eq_true rfl, Nat.le_of_ble_eq_true rfl⟩ (Nat.le_of_ble_eq_true rfl) dX3_work_83 ⟨Nat.le_of_ble_eq_true rfl, Nat.le_of_ble_eq_true rfl⟩ (fun rv h1605 H1605 locs1605 hp1605 T1605 => ?_)
        obtain ⟨rfl, hd1605, hm1605, hF1605, ho1605⟩ := hp1605
        have hF_1605 : Fr (· = L 62) h h1605 := hF_1603.tr (hF1605.mono (fun _ z => z))
        refine W.eq (g2 := F0 m 86 ls1603 []) rfl ?_
        refine lv_iload_n hx hb dX3_work_86 rfl (lv_at hl1603 2 rfl) ?_
        refine lv_bipush (v := nI 10) hx hb dX3_work_87 rfl ?_
        refine hn_idiv hx hb dX3_work_89 (by omega) (by decide) (by decide) ?_
        refine lv_istore_n (lv' := [(2, .int (nI ((10 ^ d) / 10))), (0, .ref (L 27)), (1, .int (nI n))]) hx hb dX3_work_90 rfl hl1603 (by decide) rfl (fun ls1606 hl1606 => ?_)
        refine lv_goto (tgt := 66) hx hb dX3_work_91 (by decide) ?_
        have e11 : nd + 1 + (dl n - (d + 1)) + 1 = nd + 1 + (dl n - d) := by omega
        rw [e11] at hd1605
        have hso_1605 : h1605 (L 27) = some (.inr (3, [.ref (L 61), .int (nI nd), .ref (L 62)]), L 27) := (ho1605 _ (hL 27 62 (by decide) (by decide) (by decide)) (hL 27 66 (by decide) (by decide) (by decide))).trans hso_1603
        have hsg_1605 : h1605 (L 61) = some (.inl (E.2.1 0, 20, .inl fg), L 27) := (ho1605 _ (hL 61 62 (by decide) (by decide) (by decide)) (hL 61 66 (by decide) (by decide) (by decide))).trans hsg_1603
        have hst_1605 : h1605 (L 63) = some (.inl (E.2.1 0, 8, .inl rs0), L 62) := (ho1605 _ (hL 63 62 (by decide) (by decide) (by decide)) (hL 63 66 (by decide) (by decide) (by decide))).trans hst_1603
        have hwk_1605 : h1605 (L 64) = some (.inl (E.2.1 0, 8, .inl fw), L 62) := (ho1605 _ (hL 64 62 (by decide) (by decide) (by decide)) (hL 64 66 (by decide) (by decide) (by decide))).trans hwk_1603
        have hwd_1605 : h1605 (L 65) = some (.inl (E.2.1 0, 64, .inl fd), L 62) := (ho1605 _ (hL 65 62 (by decide) (by decide) (by decide)) (hL 65 66 (by decide) (by decide) (by decide))).trans hwd_1603
        exact ih1603 d _ _ _ _ _ (by omega) hso_1605 hsg_1605 hd1605 hst_1605 hwk_1605 hwd_1605 hm1605 (by omega) (fun i hi => by by_cases z : i = nd + 1 + (dl n - (d + 1)); (rw [z, pk_us, msg_num (by omega) hc]; rfl); (rw [pk_un z]; exact hr i (by omega))) (fun q z1 z2 => (ho1605 q z1 z2).trans (ho q z1 z2)) hF_1605 T1605 (lv_sub hl1606 [1, 2, 0] rfl)
  have LA : ∀ (j : Nat) (k : Nat) (r : Nat → Int32) (h1607 : HH) (H1607 : Heap) (locs1607 : List Loc) (ls1607 : Array Slot), (nd + 1 ≤ k + j) → (h1607 (L 27) = some (.inr (3, [.ref (L 61), .int (nI nd), .ref (L 62)]), L 27)) → (h1607 (L 61) = some (.inl (E.2.1 0, 20, .inl fg), L 27)) → (h1607 (L 62) = some (.inr (4, [.ref (L 63), .ref (L 64), .ref (L 65), .ref (L 66), .int (nI k)]), L 62)) → (h1607 (L 63) = some (.inl (E.2.1 0, 8, .inl rs0), L 62)) → (h1607 (L 64) = some (.inl (E.2.1 0, 8, .inl fw), L 62)) → (h1607 (L 65) = some (.inl (E.2.1 0, 64, .inl fd), L 62)) → (h1607 (L 66) = some (.inl (E.2.1 1, 64, .inl r), L 62)) → (k ≤ nd) → (∀ i, i < k → r i = b8 (msgF g nd n i)) → (∀ q, q ≠ L 62 → q ≠ L 66 → h1607 q = h q) → (Fr (· = L 62) h h1607) → (St E s h1607 H1607 locs1607) → (lv_has ls1607 3 [(0, .ref (L 27)), (1, .int (nI n)), (2, .int (nI k))]) → W p l e ({ frames := 3, cells := 0, slots := 0, locals := 450 } : Room) s m ([.ref (L 27), .int (nI n)] : List Value).toArray below meth c H1607 locs1607 0 0 Q (F0 m 9 ls1607 []) := by
    intro j
    induction j with
    | zero => intro k r h1607 H1607 locs1607 ls1607 hm1607 hso_1607 hsg_1607 hdo_1607 hst_1607 hwk_1607 hwd_1607 hms_1607 hk hr ho hF_1607 T1607 hl1607; exact absurd hm1607 (by omega)
    | succ j ih1607 =>
      intro k r h1607 H1607 locs1607 ls1607 hm1607 hso_1607 hsg_1607 hdo_1607 hst_1607 hwk_1607 hwd_1607 hms_1607 hk hr ho hF_1607 T1607 hl1607
      refine lv_iload_n hx hb dX3_work_9 rfl (lv_at hl1607 2 rfl) ?_
      refine lv_aload_n hx hb dX3_work_10 rfl (lv_at hl1607 0 rfl) ?_
      refine hr_get C T1607 hso_1607 rfl in_X3 1 (by decide) q137 rfl rfl dX3_work_11 ?_
      refine hn_icmp_ge (tgt := 39) hx hb dX3_work_14 (by decide) (by omega) (by omega) (fun c1 => ?_) (fun c1 => ?_)
      · have e1 : nd = k := by omega
        subst e1
        refine lv_aload_n hx hb dX3_work_39 rfl (lv_at hl1607 0 rfl) ?_
        refine hr_get C T1607 hso_1607 rfl in_X3 2 (by decide) q139 rfl rfl dX3_work_40 ?_
        refine lv_bipush (v := nI 44) hx hb dX3_work_43 rfl ?_
        refine hc_V C T1607 hl1607.1 hdo_1607 rfl (m_X4_add hL (n := nd) (b := 44) (by omega) hdo_1607 hms_1607) q716 q717 q718 q56 q719 kd_X4_add rfl rfl ⟨Nat.le_of_ble_eq_true rfl, Nat.le_of_ble_eq_true rfl⟩ (Nat.le_of_ble_eq_true rfl) dX3_work_45 ⟨Nat.le_of_ble_eq_true rfl, Nat.le_of_ble_eq_true rfl⟩ (fun rv h1608 H1608 locs1608 hp1608 T1608 => ?_)
        obtain ⟨rfl, hd1608, hm1608, hF1608, ho1608⟩ := hp1608
        have hF_1608 : Fr (· = L 62) h h1608 := hF_1607.tr (hF1608.mono (fun _ z => z))
        refine W.eq (g2 := F0 m 48 ls1607 []) rfl ?_
        refine lv_iconst (v := nI 1) hx hb dX3_work_48 rfl ?_
        refine lv_istore_n (lv' := [(2, .int (nI 1)), (0, .ref (L 27)), (1, .int (nI n))]) hx hb dX3_work_49 rfl hl1607 (by decide) rfl (fun ls1609 hl1609 => ?_)
        have LB : ∀ (j : Nat) (u : Nat) (H1610 : Heap) (locs1610 : List Loc) (ls1610 : Array Slot), (u + j = 11) → (u = 0 ∨ 10 ^ u ≤ n) → (St E s h1608 H1610 locs1610) → (lv_has ls1610 3 [(0, .ref (L 27)), (1, .int (nI n)), (2, .int (nI (10 ^ u)))]) → W p l e ({ frames := 3, cells := 0, slots := 0, locals := 450 } : Room) s m ([.ref (L 27), .int (nI n)] : List Value).toArray below meth c H1610 locs1610 0 0 Q (F0 m 50 ls1610 []) := by
          intro j
          induction j with
          | zero => intro u H1610 locs1610 ls1610 hm1610 hu T1610 hl1610; exact absurd hm1610 (by intro z; have : 10 ^ 11 ≤ 10 ^ u := Nat.pow_le_pow_right (by decide) (by omega); rcases hu with y | y <;> omega)
          | succ j ih1610 =>
            intro u H1610 locs1610 ls1610 hm1610 hu T1610 hl1610
            have hu9 : 10 ^ u ≤ 2147483647 := by rcases hu with y | y; (subst y; decide); omega
            have hu0 : 0 < 10 ^ u := Nat.pow_pos (by decide)
            have hdv : n / 10 ^ u ≤ n := Nat.div_le_self _ _
            refine lv_iload_n hx hb dX3_work_50 rfl (lv_at hl1610 1 rfl) ?_
            refine lv_iload_n hx hb dX3_work_51 rfl (lv_at hl1610 2 rfl) ?_
            refine hn_idiv hx hb dX3_work_52 hn31 hu0 (by omega) ?_
            refine lv_bipush (v := nI 9) hx hb dX3_work_53 rfl ?_
            refine hn_icmp_le (tgt := 66) hx hb dX3_work_55 (by decide) (by omega) (by omega) (fun c2 => ?_) (fun c2 => ?_)
            · have hul : n < 10 ^ (u + 1) := by rw [Nat.pow_succ]; exact Nat.lt_mul_of_div_lt (show n / 10 ^ u < 10 by omega) hu0 |> fun z => by rw [Nat.mul_comm] at z; omega
              have hdn := dl_of hu hul hn31
              have hl1610 : lv_has ls1610 3 [(0, .ref (L 27)), (1, .int (nI n)), (2, .int (nI (10 ^ dl n / 10)))] := by rw [← hdn, Nat.pow_succ, Nat.mul_div_cancel _ (by decide)]; exact hl1610
              have hd1608x : h1608 (L 62) = some (.inr (4, [.ref (L 63), .ref (L 64), .ref (L 65), .ref (L 66), .int (nI (nd + 1 + (dl n - dl n)))]), L 62) := by rw [Nat.sub_self]; exact hd1608
              have hso_1608 : h1608 (L 27) = some (.inr (3, [.ref (L 61), .int (nI nd), .ref (L 62)]), L 27) := (ho1608 _ (hL 27 62 (by decide) (by decide) (by decide)) (hL 27 66 (by decide) (by decide) (by decide))).trans hso_1607
              have hsg_1608 : h1608 (L 61) = some (.inl (E.2.1 0, 20, .inl fg), L 27) := (ho1608 _ (hL 61 62 (by decide) (by decide) (by decide)) (hL 61 66 (by decide) (by decide) (by decide))).trans hsg_1607
              have hst_1608 : h1608 (L 63) = some (.inl (E.2.1 0, 8, .inl rs0), L 62) := (ho1608 _ (hL 63 62 (by decide) (by decide) (by decide)) (hL 63 66 (by decide) (by decide) (by decide))).trans hst_1607
              have hwk_1608 : h1608 (L 64) = some (.inl (E.2.1 0, 8, .inl fw), L 62) := (ho1608 _ (hL 64 62 (by decide) (by decide) (by decide)) (hL 64 66 (by decide) (by decide) (by decide))).trans hwk_1607
              have hwd_1608 : h1608 (L 65) = some (.inl (E.2.1 0, 64, .inl fd), L 62) := (ho1608 _ (hL 65 62 (by decide) (by decide) (by decide)) (hL 65 66 (by decide) (by decide) (by decide))).trans hwd_1607
              exact LC (dl n + 1) (dl n) _ _ _ _ _ (by omega) hso_1608 hsg_1608 hd1608x hst_1608 hwk_1608 hwd_1608 hm1608 (Nat.le_refl _) (fun i hi => by by_cases z : i = nd; (rw [z, pk_us, msg_com]); (rw [pk_un z]; exact hr i (by omega))) (fun q z1 z2 => (ho1608 q z1 z2).trans (ho q z1 z2)) hF_1608 T1610 (lv_sub hl1610 [0, 1, 2] rfl)
            · refine lv_iload_n hx hb dX3_work_58 rfl (lv_at hl1610 2 rfl) ?_
              refine lv_bipush (v := nI 10) hx hb dX3_work_59 rfl ?_
              refine hn_imul hx hb dX3_work_61 ?_
              refine lv_istore_n (lv' := [(2, .int (nI ((10 ^ u) * 10))), (0, .ref (L 27)), (1, .int (nI n))]) hx hb dX3_work_62 rfl hl1610 (by decide) rfl (fun ls1611 hl1611 => ?_)
              refine lv_goto (tgt := 50) hx hb dX3_work_63 (by decide) ?_
              exact ih1610 (u + 1) _ _ _ (by omega) (Or.inr (by rw [Nat.pow_succ]; have := Nat.div_mul_le_self n (10 ^ u); have h9 : 10 * 10 ^ u ≤ n / 10 ^ u * 10 ^ u := Nat.mul_le_mul_right _ (by omega); omega)) T1610 (lv_sub hl1611 [1, 2, 0] rfl)
        exact LB 11 0 _ _ _ (by omega) (Or.inl rfl) T1608 (lv_sub hl1609 [1, 2, 0] rfl)
      · have hg := hfg k (by omega)
        have hg9k := hg9 k (by omega)
        refine lv_aload_n hx hb dX3_work_17 rfl (lv_at hl1607 0 rfl) ?_
        refine hr_get C T1607 hso_1607 rfl in_X3 2 (by decide) q139 rfl rfl dX3_work_18 ?_
        refine lv_bipush (v := nI 48) hx hb dX3_work_21 rfl ?_
        refine lv_aload_n hx hb dX3_work_23 rfl (lv_at hl1607 0 rfl) ?_
        refine hr_get C T1607 hso_1607 rfl in_X3 0 (by decide) q135 rfl rfl dX3_work_24 ?_
        refine lv_iload_n hx hb dX3_work_27 rfl (lv_at hl1607 2 rfl) ?_
        refine hr_iald C T1607 hsg_1607 (by omega) (by omega) dX3_work_28 ?_
        rw [hg, ← nI_un (g k)]
        refine hn_iadd hx hb dX3_work_29 ?_
        refine hc_V C T1607 hl1607.1 hdo_1607 rfl (m_X4_add hL (n := k) (b := 48 + un (g k)) (by omega) hdo_1607 hms_1607) q716 q717 q718 q56 q719 kd_X4_add rfl rfl ⟨Nat.le_of_ble_eq_true rfl, Nat.le_of_ble_eq_true rfl⟩ (Nat.le_of_ble_eq_true rfl) dX3_work_30 ⟨Nat.le_of_ble_eq_true rfl, Nat.le_of_ble_eq_true rfl⟩ (fun rv h1612 H1612 locs1612 hp1612 T1612 => ?_)
        obtain ⟨rfl, hd1612, hm1612, hF1612, ho1612⟩ := hp1612
        have hF_1612 : Fr (· = L 62) h h1612 := hF_1607.tr (hF1612.mono (fun _ z => z))
        refine W.eq (g2 := F0 m 33 ls1607 []) rfl ?_
        refine lv_iinc (v := nI (k + 1)) (lv' := [(2, .int (nI (k + 1))), (0, .ref (L 27)), (1, .int (nI n))]) hx hb dX3_work_33 hl1607 (k := 2) rfl (nI_add k 1) (by decide) rfl (fun ls1613 hl1613 => ?_)
        refine lv_goto (tgt := 9) hx hb dX3_work_36 (by decide) ?_
        have hso_1612 : h1612 (L 27) = some (.inr (3, [.ref (L 61), .int (nI nd), .ref (L 62)]), L 27) := (ho1612 _ (hL 27 62 (by decide) (by decide) (by decide)) (hL 27 66 (by decide) (by decide) (by decide))).trans hso_1607
        have hsg_1612 : h1612 (L 61) = some (.inl (E.2.1 0, 20, .inl fg), L 27) := (ho1612 _ (hL 61 62 (by decide) (by decide) (by decide)) (hL 61 66 (by decide) (by decide) (by decide))).trans hsg_1607
        have hst_1612 : h1612 (L 63) = some (.inl (E.2.1 0, 8, .inl rs0), L 62) := (ho1612 _ (hL 63 62 (by decide) (by decide) (by decide)) (hL 63 66 (by decide) (by decide) (by decide))).trans hst_1607
        have hwk_1612 : h1612 (L 64) = some (.inl (E.2.1 0, 8, .inl fw), L 62) := (ho1612 _ (hL 64 62 (by decide) (by decide) (by decide)) (hL 64 66 (by decide) (by decide) (by decide))).trans hwk_1607
        have hwd_1612 : h1612 (L 65) = some (.inl (E.2.1 0, 64, .inl fd), L 62) := (ho1612 _ (hL 65 62 (by decide) (by decide) (by decide)) (hL 65 66 (by decide) (by decide) (by decide))).trans hwd_1607
        exact ih1607 (k + 1) _ _ _ _ _ (by omega) hso_1612 hsg_1612 hd1612 hst_1612 hwk_1612 hwd_1612 hm1612 (by omega) (fun i hi => by by_cases z : i = k; (rw [z, pk_us, msg_dig (by omega)]); (rw [pk_un z]; exact hr i (by omega))) (fun q z1 z2 => (ho1612 q z1 z2).trans (ho q z1 z2)) hF_1612 T1612 (lv_sub hl1613 [1, 2, 0] rfl)
  have hso_1601 : h1601 (L 27) = some (.inr (3, [.ref (L 61), .int (nI nd), .ref (L 62)]), L 27) := (ho1601 _ (hL 27 62 (by decide) (by decide) (by decide))).trans hso
  have hsg_1601 : h1601 (L 61) = some (.inl (E.2.1 0, 20, .inl fg), L 27) := (ho1601 _ (hL 61 62 (by decide) (by decide) (by decide))).trans hsg
  have hst_1601 : h1601 (L 63) = some (.inl (E.2.1 0, 8, .inl rs0), L 62) := (ho1601 _ (hL 63 62 (by decide) (by decide) (by decide))).trans hst
  have hwk_1601 : h1601 (L 64) = some (.inl (E.2.1 0, 8, .inl fw), L 62) := (ho1601 _ (hL 64 62 (by decide) (by decide) (by decide))).trans hwk
  have hwd_1601 : h1601 (L 65) = some (.inl (E.2.1 0, 64, .inl fd), L 62) := (ho1601 _ (hL 65 62 (by decide) (by decide) (by decide))).trans hwd
  have hms_1601 : h1601 (L 66) = some (.inl (E.2.1 1, 64, .inl fm), L 62) := (ho1601 _ (hL 66 62 (by decide) (by decide) (by decide))).trans hms
  exact LA (nd + 1) 0 fm _ _ _ _ (by omega) hso_1601 hsg_1601 hs1601 hst_1601 hwk_1601 hwd_1601 hms_1601 (Nat.zero_le _) (fun i hi => absurd hi (by omega)) (fun q z1 _ => ho1601 q z1) hF_1601 T1601 (lv_sub hl1602 [1, 2, 0] rfl)

set_option maxHeartbeats 4000000 in
theorem m_X3_draw {E : GE} {l : Launch} {h : HH} {L : Nat → Nat} (hL : ∀ i j, i < 128 → j < 128 → i ≠ j → L i ≠ L j) {n nd b : Nat} {g rs0 : Nat → Int32} (hS : Sds h E L g nd) (hD : Dgo h E L rs0) (hn1 : 1 ≤ n) (hn31 : n < 2147483648) (hb0 : 0 < b) (hb1 : b < 65536) : MM E l yX3_draw cX3_draw 3 (some .int) ({ frames := 4, cells := 0, slots := 0, locals := 600 } : Room) [.ref (L 27), .int (nI n), .int (nI b)] h (fun rv h2 => ∃ rs, rv = some (.int (nI (dgr rs b 8))) ∧ Dgo h2 E L rs ∧ (∀ i, i < 8 → rs i = dgw (msgF g nd n) i) ∧ Fr (· = L 62) h h2 ∧ (∀ q, q ≠ L 62 → q ≠ L 63 → q ≠ L 64 → q ≠ L 65 → q ≠ L 66 → h2 q = h q)) := by
  refine hm_i (by decide) (Nat.le_of_ble_eq_true rfl) ?_
  intro p e s m below meth c C hnm Q Z ls T hl
  have hx := C.x
  have hb := C.b
  have hl : lv_has ls 3 [(0, .ref (L 27)), (1, .int (nI n)), (2, .int (nI b))] := hl
  have hS0 := hS
  obtain ⟨fg, hso, hsg, hfg, hnd, hg9⟩ := hS0
  have hF : Fr (· = L 62) h h := Fr.rf
  refine lv_aload_n hx hb dX3_draw_0 rfl (lv_at hl 0 rfl) ?_
  refine lv_iload_n hx hb dX3_draw_1 rfl (lv_at hl 1 rfl) ?_
  refine hc_V C T hl.1 hso rfl (m_X3_work hL hS hD hn1 hn31) q708 q709 q710 q55 q711 kd_X3_work rfl rfl ⟨Nat.le_of_ble_eq_true rfl, Nat.le_of_ble_eq_true rfl⟩ (Nat.le_of_ble_eq_true rfl) dX3_draw_2 ⟨Nat.le_of_ble_eq_true rfl, Nat.le_of_ble_eq_true rfl⟩ (fun rv h1614 H1614 locs1614 hp1614 T1614 => ?_)
  obtain ⟨rfl, rs, hD1614, hrs, hF1614, ho1614⟩ := hp1614
  have hDk := hD1614
  obtain ⟨n9, fw9, fd9, fm9, hdo9, hst9, hwk9, hwd9, hms9⟩ := hD1614
  have hF_1614 : Fr (· = L 62) h h1614 := hF.tr (hF1614.mono (fun _ z => z))
  refine W.eq (g2 := F0 m 5 ls []) rfl ?_
  refine lv_aload_n hx hb dX3_draw_5 rfl (lv_at hl 0 rfl) ?_
  have hso_1614 : h1614 (L 27) = some (.inr (3, [.ref (L 61), .int (nI nd), .ref (L 62)]), L 27) := (ho1614 _ (hL 27 62 (by decide) (by decide) (by decide)) (hL 27 63 (by decide) (by decide) (by decide)) (hL 27 64 (by decide) (by decide) (by decide)) (hL 27 65 (by decide) (by decide) (by decide)) (hL 27 66 (by decide) (by decide) (by decide))).trans hso
  refine hr_get C T1614 hso_1614 rfl in_X3 2 (by decide) q139 rfl rfl dX3_draw_6 ?_
  refine lv_iload_n hx hb dX3_draw_9 rfl (lv_at hl 2 rfl) ?_
  refine hc_V C T1614 hl.1 hdo9 rfl (m_X4_rest hb0 hb1 hdo9 hst9) q735 q736 q737 q56 q738 kd_X4_rest rfl rfl ⟨Nat.le_of_ble_eq_true rfl, Nat.le_of_ble_eq_true rfl⟩ (Nat.le_of_ble_eq_true rfl) dX3_draw_10 ⟨Nat.le_of_ble_eq_true rfl, Nat.le_of_ble_eq_true rfl⟩ (fun rv h1615 H1615 locs1615 hp1615 T1615 => ?_)
  obtain ⟨rfl, hq1615⟩ := hp1615
  rw [hq1615] at T1615
  exact Z _ _ _ _ _ _ dX3_draw_13 ⟨rs, rfl, hDk, hrs, hF_1614, ho1614⟩ T1615
