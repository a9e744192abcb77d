set_option maxRecDepth 100000
/-- the least k with b ≤ 2 ^ k -/
def mny (b : Nat) : Nat := Nat.log2 (2 * b - 1)
theorem mny_of {b k : Nat} (h1 : b ≤ 2 ^ k) (h2 : ∀ i, i < k → 2 ^ i < b) : k = mny b := by
  unfold mny
  by_cases hb : b = 0
  · subst hb
    rcases Nat.eq_zero_or_pos k with z | z
    · subst z; decide
    · exact absurd (h2 0 z) (by omega)
  · have hn : 2 * b - 1 ≠ 0 := by omega
    have a1 : (2 * b - 1).log2 < k + 1 := (Nat.log2_lt hn).mpr (by rw [Nat.pow_succ]; omega)
    have a2 : k ≤ (2 * b - 1).log2 := (Nat.le_log2 hn).mpr (by
      rcases Nat.eq_zero_or_pos k with z | z
      · subst z; simp; omega
      · have := h2 (k - 1) (by omega)
        have e : 2 ^ k = 2 ^ (k - 1) * 2 := by
          obtain ⟨m, rfl⟩ : ∃ m, k = m + 1 := ⟨k - 1, by omega⟩
          rw [Nat.add_sub_cancel, Nat.pow_succ]
        omega)
    omega
theorem mny_hi (b : Nat) : b ≤ 2 ^ mny b := by
  unfold mny
  by_cases hb : b = 0
  · subst hb; exact Nat.zero_le _
  · have hn : 2 * b - 1 ≠ 0 := by omega
    have := (Nat.log2_lt hn).mp (Nat.lt_succ_self (2 * b - 1).log2)
    rw [Nat.pow_succ] at this
    omega
theorem mny_le {b : Nat} (h : b ≤ 32768) : mny b ≤ 15 := by
  unfold mny
  by_cases hb : b = 0
  · subst hb; decide
  · have hn : 2 * b - 1 ≠ 0 := by omega
    exact Nat.le_of_lt_succ ((Nat.log2_lt hn).mpr (by omega))
theorem sh1k : ∀ k, k < 16 → nI 1 <<< (nI k &&& 31) = nI (2 ^ k) := by decide +kernel
/-- a number out of bits, the highest first -/
def cv (q : Nat → Int32) : Nat → Nat
  | 0 => 0
  | k + 1 => cv q k * 2 + un (q k)
theorem cv_cong {f g : Nat → Int32} : ∀ {n : Nat}, (∀ i, i < n → f i = g i) → cv f n = cv g n := by
  intro n
  induction n with
  | zero => intro _; rfl
  | succ n ih => intro h; rw [cv, cv, ih (fun i hi => h i (by omega)), h n (by omega)]
theorem cv_lt {q : Nat → Int32} : ∀ {n : Nat}, (∀ i, i < n → q i = 0 ∨ q i = 1) → cv q n < 2 ^ n := by
  intro n
  induction n with
  | zero => intro _; exact Nat.zero_lt_one
  | succ n ih =>
    intro h
    have h1 := ih fun i hi => h i (by omega)
    have h2 : un (q n) ≤ 1 := by rcases h n (by omega) with z | z <;> rw [z] <;> decide
    rw [cv, Nat.pow_succ]
    omega
theorem iN_or {u s a : Nat} (h : a < 2 ^ s) (h2 : u * 2 ^ s + a < 2 ^ 32) : nI (u * 2 ^ s) ||| nI a = nI (u * 2 ^ s + a) := by
  apply Int32.toBitVec_inj.mp
  apply BitVec.eq_of_toNat_eq
  rw [Int32.toBitVec_or, BitVec.toNat_or, pk_tn (by omega), pk_tn (by omega), pk_tn h2, Nat.mul_comm, ← Nat.two_pow_add_eq_or_of_lt h]
theorem cv_or {v x : Nat} (hv : v < 65536) (hx : x < 2) : nI v <<< (nI 1 &&& 31) ||| nI x = nI (v * 2 + x) := by
  have e : nI v <<< (nI 1 &&& 31) = nI (v * 2 ^ 1) := pk_shlN (nI 1 &&& 31) 1 (by decide) (by omega)
  rw [e]
  exact iN_or (s := 1) (by omega) (by omega)
/-- the coins: a queue q of n bits -/
def Cns (h : HH) (E : GE) (L : Nat → Nat) (q : Nat → Int32) (n : Nat) : Prop := ∃ (fi : Nat) (row : Nat → Int32), h (L 26) = some (.inr (2, [.ref (L 60), .int (nI fi), .int (nI n)]), L 26) ∧ h (L 60) = some (.inl (E.2.1 3, 4000, .inl row), L 26) ∧ fi < 4000 ∧ n ≤ 4000 ∧ (∀ i, i < n → row ((fi + i) % 4000) = q i) ∧ (∀ i, i < n → q i = 0 ∨ q i = 1)
theorem Cns.cong {h : HH} {E : GE} {L : Nat → Nat} {q q' : Nat → Int32} {n : Nat} (hq : ∀ i, i < n → q i = q' i) (H : Cns h E L q n) : Cns h E L q' n := by
  obtain ⟨fi, row, h1, h2, h3, h4, h5, h6⟩ := H
  exact ⟨fi, row, h1, h2, h3, h4, fun i hi => (h5 i hi).trans (hq i hi), fun i hi => by rw [← hq i hi]; exact h6 i hi⟩
theorem nar_z {x : Int32} (h : x = 0 ∨ x = 1) : vp_nar .boolean x = x := by rcases h with z | z <;> rw [z] <;> decide

theorem kd_X2_add : yX2_add.cls = RX2 ∧ yX2_add.cls ≠ "java/lang/invoke/MethodHandle" ∧ yX2_add.cls ≠ "java/lang/invoke/VarHandle" ∧ (parseMethodDescriptor yX2_add.desc).map (fun d => d.parameters.length) = some 1 := by decide +kernel
theorem kd_X2_many : yX2_many.cls ≠ "java/lang/invoke/MethodHandle" ∧ yX2_many.cls ≠ "java/lang/invoke/VarHandle" ∧ (parseMethodDescriptor yX2_many.desc).map (fun d => d.parameters.length) = some 1 := by decide +kernel
theorem kd_X2_draw : yX2_draw.cls = RX2 ∧ yX2_draw.cls ≠ "java/lang/invoke/MethodHandle" ∧ yX2_draw.cls ≠ "java/lang/invoke/VarHandle" ∧ (parseMethodDescriptor yX2_draw.desc).map (fun d => d.parameters.length) = some 2 := by decide +kernel

set_option maxHeartbeats 4000000 in
theorem m_X2_add {E : GE} {l : Launch} {h : HH} {L : Nat → Nat} (hL : ∀ i j, i < 128 → j < 128 → i ≠ j → L i ≠ L j) {n : Nat} {q : Nat → Int32} {x : Int32} (hC : Cns h E L q n) (hn : n < 4000) (hx01 : x = 0 ∨ x = 1) : MM E l yX2_add cX2_add 2 none ({ frames := 0, cells := 0, slots := 0, locals := 0 } : Room) [.ref (L 26), .int x] h (fun rv h2 => rv = none ∧ Cns h2 E L (upd q n x) (n + 1) ∧ Fr (· = L 26) h h2 ∧ (∀ q, q ≠ L 26 → q ≠ L 60 → h2 q = h q)) := by
  refine hm_v (by decide) (Nat.le_of_ble_eq_true rfl) ?_
  intro p e s m below meth c C hnm Q Z ls T hl
  have hx := C.x
  have hb := C.b
  have hl : lv_has ls 2 [(0, .ref (L 26)), (1, .int x)] := hl
  obtain ⟨fi, row, hco, hro, hfi, hn4, hrow, h01⟩ := hC
  have hF : Fr (· = L 26) h h := Fr.rf
  refine lv_aload_n hx hb dX2_add_0 rfl (lv_at hl 0 rfl) ?_
  refine hr_get C T hco rfl in_X2 0 (by decide) q92 rfl rfl dX2_add_1 ?_
  refine lv_aload_n hx hb dX2_add_4 rfl (lv_at hl 0 rfl) ?_
  refine hr_get C T hco rfl in_X2 1 (by decide) q93 rfl rfl dX2_add_5 ?_
  refine lv_aload_n hx hb dX2_add_8 rfl (lv_at hl 0 rfl) ?_
  refine lv_dup hx hb dX2_add_9 rfl ?_
  refine hr_get C T hco rfl in_X2 2 (by decide) q94 rfl rfl dX2_add_10 ?_
  refine lv_dup_x1 hx hb dX2_add_13 rfl rfl ?_
  refine lv_iconst (v := nI 1) hx hb dX2_add_14 rfl ?_
  refine hn_iadd hx hb dX2_add_15 ?_
  refine hr_put C T hco rfl in_X2 tyX2 tyX2_ok nmX2 2 (by decide) q94 rfl rfl rfl rfl (Nat.le_of_ble_eq_true rfl) dX2_add_16 (fun h1501 H1501 locs1501 eh1501 T1501 => ?_)
  have hco_1501 : h1501 (L 26) = some (.inr (2, [.ref (L 60), .int (nI fi), .int (nI (n + 1))]), L 26) := hu_s eh1501
  have hF_1501 : Fr (· = L 26) h h1501 := hu_f eh1501 hF hco rfl
  refine hn_iadd hx hb dX2_add_19 ?_
  refine lv_sipush (v := nI 4000) hx hb dX2_add_20 rfl ?_
  refine hn_irem hx hb dX2_add_23 (by omega) (by omega) (by omega) ?_
  refine lv_iload_n hx hb dX2_add_24 rfl (lv_at hl 1 rfl) ?_
  have hro_1501 : h1501 (L 60) = some (.inl (E.2.1 3, 4000, .inl row), L 26) := hu_n eh1501 (hL 60 26 (by decide) (by decide) (by decide)) hro
  refine hr_zast C T1501 hro_1501 (Nat.mod_lt _ (by decide)) (by omega) (nar_z hx01) dX2_add_25 (fun h1502 H1502 locs1502 eh1502 T1502 => ?_)
  have hro_1502 : h1502 (L 60) = some (.inl (E.2.1 3, 4000, .inl (upd row ((fi + n) % 4000) x)), L 26) := hu_s eh1502
  have hF_1502 : Fr (· = L 26) h h1502 := hu_f eh1502 hF_1501 hro_1501 rfl
  have hco_1502 : h1502 (L 26) = some (.inr (2, [.ref (L 60), .int (nI fi), .int (nI (n + 1))]), L 26) := hu_n eh1502 (hL 26 60 (by decide) (by decide) (by decide)) hco_1501
  exact Z _ _ _ _ _ dX2_add_26 ⟨rfl, ⟨fi, _, hco_1502, hro_1502, hfi, by omega, fun i hi => by by_cases z : i = n; (rw [z, pk_us, pk_us]); (rw [pk_un z, pk_un (by omega)]; exact hrow i (by omega)), fun i hi => by by_cases z : i = n; (rw [z, pk_us]; exact hx01); (rw [pk_un z]; exact h01 i (by omega))⟩, hF_1502, fun q h1 h2 => by rw [eh1502, hup_n h2, eh1501, hup_n h1]⟩ T1502

set_option maxHeartbeats 4000000 in
theorem m_X2_many {E : GE} {l : Launch} {h : HH} {b : Nat} (hb0 : b ≤ 32768) : MM E l yX2_many cX2_many 2 (some .int) ({ frames := 0, cells := 0, slots := 0, locals := 0 } : Room) [.int (nI b)] h (fun rv h2 => rv = some (.int (nI (mny b))) ∧ h2 = h) := by
  refine hm_i (by decide) (Nat.le_of_ble_eq_true rfl) ?_
  intro p e s m below meth c C hnm Q Z ls T hl
  have hx := C.x
  have hb := C.b
  have hl : lv_has ls 2 [(0, .int (nI b))] := hl
  refine lv_iconst (v := nI 0) hx hb dX2_many_0 rfl ?_
  refine lv_istore_n (lv' := [(1, .int (nI 0)), (0, .int (nI b))]) hx hb dX2_many_1 rfl hl (by decide) rfl (fun ls1503 hl1503 => ?_)
  have L1 : ∀ (j : Nat) (k : Nat) (H1504 : Heap) (locs1504 : List Loc) (ls1504 : Array Slot), (k + j = 17) → (∀ i, i < k → 2 ^ i < b) → (St E s h H1504 locs1504) → (lv_has ls1504 2 [(0, .int (nI b)), (1, .int (nI k))]) → W p l e ({ frames := 0, cells := 0, slots := 0, locals := 0 } : Room) s m ([.int (nI b)] : List Value).toArray below meth c H1504 locs1504 0 0 Q (F0 m 2 ls1504 []) := by
    intro j
    induction j with
    | zero => intro k H1504 locs1504 ls1504 hm1504 hk T1504 hl1504; exact absurd hm1504 (by intro z; have := hk 15 (by omega); omega)
    | succ j ih1504 =>
      intro k H1504 locs1504 ls1504 hm1504 hk T1504 hl1504
      have hk16 : k < 16 := Nat.lt_of_not_le fun z => by have := hk 15 (by omega); omega
      have hp : 2 ^ k ≤ 32768 := Nat.pow_le_pow_right (by decide) (show k ≤ 15 by omega)
      refine lv_iconst (v := nI 1) hx hb dX2_many_2 rfl ?_
      refine lv_iload_n hx hb dX2_many_3 rfl (lv_at hl1504 1 rfl) ?_
      refine lv_ishl hx hb dX2_many_4 ?_
      rw [show (nI 1) <<< ((nI k) &&& 31) = nI (2 ^ k) from sh1k k hk16]
      refine lv_iload_n hx hb dX2_many_5 rfl (lv_at hl1504 0 rfl) ?_
      refine hn_icmp_ge (tgt := 15) hx hb dX2_many_6 (by decide) (by omega) (by omega) (fun c1 => ?_) (fun c1 => ?_)
      · refine lv_iload_n hx hb dX2_many_15 rfl (lv_at hl1504 1 rfl) ?_
        exact Z _ _ _ _ _ _ dX2_many_16 ⟨by rw [mny_of c1 hk], rfl⟩ T1504
      · refine lv_iinc (v := nI (k + 1)) (lv' := [(1, .int (nI (k + 1))), (0, .int (nI b))]) hx hb dX2_many_9 hl1504 (k := 1) rfl (nI_add k 1) (by decide) rfl (fun ls1505 hl1505 => ?_)
        refine lv_goto (tgt := 2) hx hb dX2_many_12 (by decide) ?_
        exact ih1504 (k + 1) _ _ _ (by omega) (fun i hi => by rcases Nat.lt_or_ge i k with z | z; exact hk i z; (rw [show i = k by omega]; exact c1)) T1504 (lv_sub hl1505 [1, 0] rfl)
  exact L1 17 0 _ _ _ (by omega) (fun i hi => absurd hi (by omega)) T (lv_sub hl1503 [1, 0] rfl)

set_option maxHeartbeats 4000000 in
theorem m_X2_draw {E : GE} {l : Launch} {h : HH} {L : Nat → Nat} (hL : ∀ i j, i < 128 → j < 128 → i ≠ j → L i ≠ L j) {n nu_ b : Nat} {q : Nat → Int32} (hC : Cns h E L q n) (hb0 : b ≤ 32768) : MM E l yX2_draw cX2_draw 6 (some .int) ({ frames := 1, cells := 0, slots := 0, locals := 150 } : Room) [.ref (L 26), .int (nI nu_), .int (nI b)] h (fun rv h2 => (mny b ≤ n → rv = some (.int (nI (cv q (mny b)))) ∧ Cns h2 E L (fun i => q (i + mny b)) (n - mny b) ∧ Fr (· = L 26) h h2 ∧ (∀ q, q ≠ L 26 → q ≠ L 60 → h2 q = h q)) ∧ (n < mny b → rv = some (.int (-1)) ∧ h2 = h)) := by
  refine hm_i (by decide) (Nat.le_of_ble_eq_true rfl) ?_
  intro p e s m below meth c C hnm Q Z ls T hl
  have hx := C.x
  have hb := C.b
  have hl : lv_has ls 6 [(0, .ref (L 26)), (1, .int (nI nu_)), (2, .int (nI b))] := hl
  obtain ⟨fi, row, hco, hro, hfi, hn4, hrow, h01⟩ := hC
  have hF : Fr (· = L 26) h h := Fr.rf
  have hmn := mny_le hb0
  refine lv_iload_n hx hb dX2_draw_0 rfl (lv_at hl 2 rfl) ?_
  refine hc_S C T hl.1 (m_X2_many hb0) q699 q700 q54 q701 kd_X2_many rfl rfl ⟨Nat.le_of_ble_eq_true rfl, Nat.le_of_ble_eq_true rfl⟩ (Nat.le_of_ble_eq_true rfl) dX2_draw_1 ⟨Nat.le_of_ble_eq_true rfl, Nat.le_of_ble_eq_true rfl⟩ (fun rv h1506 H1506 locs1506 hp1506 T1506 => ?_)
  obtain ⟨rfl, hq1506⟩ := hp1506
  rw [hq1506] at T1506
  refine lv_istore_n (lv' := [(3, .int (nI (mny b))), (0, .ref (L 26)), (1, .int (nI nu_)), (2, .int (nI b))]) hx hb dX2_draw_4 rfl hl (by decide) rfl (fun ls1507 hl1507 => ?_)
  refine lv_aload_n hx hb dX2_draw_5 rfl (lv_at hl1507 1 rfl) ?_
  refine hr_get C T1506 hco rfl in_X2 2 (by decide) q94 rfl rfl dX2_draw_6 ?_
  refine lv_iload_n hx hb dX2_draw_9 rfl (lv_at hl1507 0 rfl) ?_
  refine hn_icmp_ge (tgt := 15) hx hb dX2_draw_10 (by decide) (by omega) (by omega) (fun c1 => ?_) (fun c1 => ?_)
  · refine lv_iconst (v := nI 0) hx hb dX2_draw_15 rfl ?_
    refine lv_istore (lv' := [(4, .int (nI 0)), (3, .int (nI (mny b))), (0, .ref (L 26)), (1, .int (nI nu_)), (2, .int (nI b))]) hx hb dX2_draw_16 hl1507 (by decide) rfl (fun ls1508 hl1508 => ?_)
    refine lv_iconst (v := nI 0) hx hb dX2_draw_18 rfl ?_
    refine lv_istore (lv' := [(5, .int (nI 0)), (4, .int (nI 0)), (3, .int (nI (mny b))), (0, .ref (L 26)), (1, .int (nI nu_)), (2, .int (nI b))]) hx hb dX2_draw_19 hl1508 (by decide) rfl (fun ls1509 hl1509 => ?_)
    have L1 : ∀ (j : Nat) (k : Nat) (h1510 : HH) (H1510 : Heap) (locs1510 : List Loc) (ls1510 : Array Slot), (mny b + 1 ≤ k + j) → (h1510 (L 26) = some (.inr (2, [.ref (L 60), .int (nI ((fi + k) % 4000)), .int (nI n)]), L 26)) → (h1510 (L 60) = some (.inl (E.2.1 3, 4000, .inl row), L 26)) → (k ≤ mny b) → (h1510 = hup h (L 26) (.inr (2, [.ref (L 60), .int (nI ((fi + k) % 4000)), .int (nI n)]), L 26)) → (Fr (· = L 26) h h1510) → (St E s h1510 H1510 locs1510) → (lv_has ls1510 6 [(0, .ref (L 26)), (3, .int (nI (mny b))), (4, .int (nI (cv q k))), (5, .int (nI k))]) → W p l e ({ frames := 1, cells := 0, slots := 0, locals := 150 } : Room) s m ([.ref (L 26), .int (nI nu_), .int (nI b)] : List Value).toArray below meth c H1510 locs1510 0 0 Q (F0 m 21 ls1510 []) := by
      intro j
      induction j with
      | zero => intro k h1510 H1510 locs1510 ls1510 hm1510 hco_1510 hro_1510 hk hh hF_1510 T1510 hl1510; exact absurd hm1510 (by omega)
      | succ j ih1510 =>
        intro k h1510 H1510 locs1510 ls1510 hm1510 hco_1510 hro_1510 hk hh hF_1510 T1510 hl1510
        have hcv : cv q k < 2 ^ k := cv_lt fun i hi => h01 i (by omega)
        have hp : 2 ^ k ≤ 32768 := Nat.pow_le_pow_right (by decide) (show k ≤ 15 by omega)
        refine lv_iload hx hb dX2_draw_21 (lv_at hl1510 3 rfl) ?_
        refine lv_iload_n hx hb dX2_draw_23 rfl (lv_at hl1510 1 rfl) ?_
        refine hn_icmp_ge (tgt := 71) hx hb dX2_draw_24 (by decide) (by omega) (by omega) (fun c2 => ?_) (fun c2 => ?_)
        · have e1 : k = mny b := by omega
          refine lv_aload_n hx hb dX2_draw_71 rfl (lv_at hl1510 0 rfl) ?_
          refine lv_dup hx hb dX2_draw_72 rfl ?_
          refine hr_get C T1510 hco_1510 rfl in_X2 2 (by decide) q94 rfl rfl dX2_draw_73 ?_
          refine lv_iload_n hx hb dX2_draw_76 rfl (lv_at hl1510 1 rfl) ?_
          refine hn_isub hx hb dX2_draw_77 (by omega) ?_
          refine hr_put C T1510 hco_1510 rfl in_X2 tyX2 tyX2_ok nmX2 2 (by decide) q94 rfl rfl rfl rfl (Nat.le_of_ble_eq_true rfl) dX2_draw_78 (fun h1511 H1511 locs1511 eh1511 T1511 => ?_)
          have hco_1511 : h1511 (L 26) = some (.inr (2, [.ref (L 60), .int (nI ((fi + k) % 4000)), .int (nI (n - (mny b)))]), L 26) := hu_s eh1511
          have hF_1511 : Fr (· = L 26) h h1511 := hu_f eh1511 hF_1510 hco_1510 rfl
          refine lv_iload hx hb dX2_draw_81 (lv_at hl1510 2 rfl) ?_
          have hro_1511 : h1511 (L 60) = some (.inl (E.2.1 3, 4000, .inl row), L 26) := hu_n eh1511 (hL 60 26 (by decide) (by decide) (by decide)) hro_1510
          exact Z _ _ _ _ _ _ dX2_draw_83 ⟨fun _ => ⟨by rw [e1], ⟨_, row, hco_1511, hro_1511, Nat.mod_lt _ (by decide), by omega, fun i hi => by show _ = q (i + mny b); rw [← hrow (i + mny b) (by omega)]; congr 1; omega, fun i hi => h01 _ (by omega)⟩, hF_1511, fun q h1 _ => by rw [eh1511, hup_n h1, hh, hup_n h1]⟩, fun z => absurd z (by omega)⟩ T1511
        · have hq := hrow k (by omega)
          refine lv_iload hx hb dX2_draw_27 (lv_at hl1510 2 rfl) ?_
          refine lv_iconst (v := nI 1) hx hb dX2_draw_29 rfl ?_
          refine lv_ishl hx hb dX2_draw_30 ?_
          refine lv_aload_n hx hb dX2_draw_31 rfl (lv_at hl1510 0 rfl) ?_
          refine hr_get C T1510 hco_1510 rfl in_X2 0 (by decide) q92 rfl rfl dX2_draw_32 ?_
          refine lv_aload_n hx hb dX2_draw_35 rfl (lv_at hl1510 0 rfl) ?_
          refine hr_get C T1510 hco_1510 rfl in_X2 1 (by decide) q93 rfl rfl dX2_draw_36 ?_
          refine hr_zald C T1510 hro_1510 (Nat.mod_lt _ (by decide)) (by omega) dX2_draw_39 ?_
          rw [hq]
          have J48 : ∀ (x : Nat) (H1512 : Heap) (locs1512 : List Loc) (ls1512 : Array Slot), (x = un (q k)) → (x < 2) → (St E s h1510 H1512 locs1512) → (lv_has ls1512 6 [(0, .ref (L 26)), (3, .int (nI (mny b))), (4, .int (nI (cv q k))), (5, .int (nI k))]) → W p l e ({ frames := 1, cells := 0, slots := 0, locals := 150 } : Room) s m ([.ref (L 26), .int (nI nu_), .int (nI b)] : List Value).toArray below meth c H1512 locs1512 0 0 Q (F0 m 48 ls1512 [.int (nI x), .int (nI (cv q k) <<< (nI 1 &&& 31))]) := by
            intro x H1512 locs1512 ls1512 hx2 hx3 T1512 hl1512
            refine lv_ior hx hb dX2_draw_48 ?_
            rw [show (nI (cv q k) <<< (nI 1 &&& 31)) ||| (nI x) = nI (cv q (k + 1)) from by rw [cv, ← hx2]; exact cv_or (by omega) hx3]
            refine lv_istore (lv' := [(4, .int (nI (cv q (k + 1)))), (0, .ref (L 26)), (3, .int (nI (mny b))), (5, .int (nI k))]) hx hb dX2_draw_49 hl1512 (by decide) rfl (fun ls1513 hl1513 => ?_)
            refine lv_aload_n hx hb dX2_draw_51 rfl (lv_at hl1513 1 rfl) ?_
            refine lv_aload_n hx hb dX2_draw_52 rfl (lv_at hl1513 1 rfl) ?_
            refine hr_get C T1512 hco_1510 rfl in_X2 1 (by decide) q93 rfl rfl dX2_draw_53 ?_
            refine lv_iconst (v := nI 1) hx hb dX2_draw_56 rfl ?_
            refine hn_iadd hx hb dX2_draw_57 ?_
            refine lv_sipush (v := nI 4000) hx hb dX2_draw_58 rfl ?_
            refine hn_irem hx hb dX2_draw_61 (by have := Nat.mod_lt (fi + k) (show 0 < 4000 by decide); omega) (by omega) (by omega) ?_
            refine hr_put C T1512 hco_1510 rfl in_X2 tyX2 tyX2_ok nmX2 1 (by decide) q93 rfl rfl rfl rfl (Nat.le_of_ble_eq_true rfl) dX2_draw_62 (fun h1514 H1514 locs1514 eh1514 T1514 => ?_)
            have hco_1514 : h1514 (L 26) = some (.inr (2, [.ref (L 60), .int (nI ((((fi + k) % 4000) + 1) % 4000)), .int (nI n)]), L 26) := hu_s eh1514
            have hF_1514 : Fr (· = L 26) h h1514 := hu_f eh1514 hF_1510 hco_1510 rfl
            refine lv_iinc (v := nI (k + 1)) (lv' := [(5, .int (nI (k + 1))), (4, .int (nI (cv q (k + 1)))), (0, .ref (L 26)), (3, .int (nI (mny b)))]) hx hb dX2_draw_65 hl1513 (k := 3) rfl (nI_add k 1) (by decide) rfl (fun ls1515 hl1515 => ?_)
            refine lv_goto (tgt := 21) hx hb dX2_draw_68 (by decide) ?_
            have e9 : ((fi + k) % 4000 + 1) % 4000 = (fi + (k + 1)) % 4000 := by omega
            rw [e9] at eh1514
            rw [e9] at hco_1514
            have hro_1514 : h1514 (L 60) = some (.inl (E.2.1 3, 4000, .inl row), L 26) := hu_n eh1514 (hL 60 26 (by decide) (by decide) (by decide)) hro_1510
            exact ih1510 (k + 1) _ _ _ _ (by omega) hco_1514 hro_1514 (by omega) (hup_ih hh eh1514) hF_1514 T1514 (lv_sub hl1515 [2, 3, 1, 0] rfl)
          refine lv_if_eq (tgt := 47) hx hb dX2_draw_40 (by decide) (fun c3 => ?_) (fun c3 => ?_)
          · refine lv_iconst (v := nI 0) hx hb dX2_draw_47 rfl ?_
            exact J48 0 _ _ _ (by rw [c3]; rfl) (by decide) T1510 (lv_sub hl1510 [0, 1, 2, 3] rfl)
          · refine lv_iconst (v := nI 1) hx hb dX2_draw_43 rfl ?_
            refine lv_goto (tgt := 48) hx hb dX2_draw_44 (by decide) ?_
            exact J48 1 _ _ _ (by rcases h01 k (by omega) with z | z; exact absurd z c3; (rw [z]; rfl)) (by decide) T1510 (lv_sub hl1510 [0, 1, 2, 3] rfl)
    have hco0 : h (L 26) = some (.inr (2, [.ref (L 60), .int (nI ((fi + 0) % 4000)), .int (nI n)]), L 26) := by rw [show (fi + 0) % 4000 = fi from Nat.mod_eq_of_lt hfi]; exact hco
    exact L1 (mny b + 1) 0 _ _ _ _ (by omega) hco0 hro (Nat.zero_le _) (hup_0 hco0) hF T1506 (lv_sub hl1509 [3, 2, 1, 0] rfl)
  · refine lv_iconst (v := (-1)) hx hb dX2_draw_13 rfl ?_
    exact Z _ _ _ _ _ _ dX2_draw_14 ⟨fun z => absurd z (by omega), fun _ => ⟨rfl, rfl⟩⟩ T1506
