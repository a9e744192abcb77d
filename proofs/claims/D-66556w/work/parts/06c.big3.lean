set_option maxRecDepth 100000
/-- a row beyond its size: 0 -/
def bz (g : Nat → Int32) (n : Nat) : Nat → Int32 := fun k => if k < n then g k else 0
theorem bz_in {g : Nat → Int32} {n k : Nat} (h : k < n) : bz g n k = g k := if_pos h
theorem bz_out {g : Nat → Int32} {n k : Nat} (h : n ≤ k) : bz g n k = 0 := if_neg (by omega)
theorem bz_bv {g : Nat → Int32} {n m : Nat} (h : n ≤ m) : bv (bz g n) m = bv g n := by
  rw [bv_tail h (fun i h1 _ => bz_out h1)]
  exact bv_cong fun i hi => bz_in hi
theorem add_end {n r N M c : Nat} (hN : N < 4294967296 ^ n) (hM : M < 4294967296 ^ n) (h : r + c * 4294967296 ^ (n + 1) = N + M) : r = N + M := by
  rw [Nat.pow_succ] at h
  rcases Nat.eq_zero_or_pos c with h0 | h0
  · subst h0; omega
  · have h1 : 1 * (4294967296 ^ n * 4294967296) ≤ c * (4294967296 ^ n * 4294967296) := Nat.mul_le_mul_right _ h0
    omega
theorem pow_max_l {N : Nat} (a : Nat) : N < 4294967296 ^ max (lm N) a := Nat.lt_of_lt_of_le (lm_hi N) (pow_le_of (Nat.le_max_left _ _))
theorem pow_max_r {N : Nat} (a : Nat) : N < 4294967296 ^ max a (lm N) := Nat.lt_of_lt_of_le (lm_hi N) (pow_le_of (Nat.le_max_right _ _))

set_option maxHeartbeats 4000000 in
theorem m_X7_add {E : GE} {l : Launch} {h : HH} {b x N M cap capx : Nat} (hB : Big E h b N cap) (hX : Big E h x M capx) (hbx : b ≠ x) (hm : max (lm N) (lm M) + 1 ≤ 128) : MG E l yX7_add cX7_add 6 none ({ frames := 2, cells := gc cap (max (lm N) (lm M) + 1), slots := gs cap (max (lm N) (lm M) + 1), locals := 300 } : Room) [.ref b, .ref x] h (fun rv h2 dc ds => rv = none ∧ Big E h2 b (N + M) (capr cap (max (lm N) (lm M) + 1)) ∧ Fr (· = b) h h2 ∧ dc = gc cap (max (lm N) (lm M) + 1) ∧ ds = gs cap (max (lm N) (lm M) + 1)) := by
  refine hn_v (by decide) (Nat.le_of_ble_eq_true rfl) ?_
  intro p e s m below meth c C hnm Q Z ls T hl
  have hx := C.x
  have hb := C.b
  have hl : lv_has ls 6 [(0, .ref b), (1, .ref x)] := hl
  obtain ⟨ca, f, ⟨hbo, hba, hbn, hb8, hbc⟩, hv⟩ := hB
  obtain ⟨cx, g, ⟨gxo, gxa, hxn, hx8, hxc⟩, hw⟩ := hX
  refine lv_aload_n hx hb dX7_add_0 rfl (lv_at hl 0 rfl) ?_
  refine hr_get C T hbo rfl in_X7 1 (by decide) q172 rfl rfl dX7_add_1 ?_
  refine lv_aload_n hx hb dX7_add_4 rfl (lv_at hl 1 rfl) ?_
  refine hr_get C T gxo rfl in_X7 1 (by decide) q172 rfl rfl dX7_add_5 ?_
  refine hn_mmax C hl.1 q279 (by omega) (by omega) (Nat.le_of_ble_eq_true rfl) (Nat.le_of_ble_eq_true rfl) (Nat.zero_le _) (Nat.zero_le _) dX7_add_8 ?_
  refine lv_istore_n (lv' := [(2, .int (nI (max (lm N) (lm M)))), (0, .ref b), (1, .ref x)]) hx hb dX7_add_11 rfl hl (by decide) rfl (fun ls201 hl201 => ?_)
  refine lv_aload_n hx hb dX7_add_12 rfl (lv_at hl201 1 rfl) ?_
  refine lv_iload_n hx hb dX7_add_13 rfl (lv_at hl201 0 rfl) ?_
  refine lv_iconst (v := nI 1) hx hb dX7_add_14 rfl ?_
  refine hn_iadd hx hb dX7_add_15 ?_
  refine hg_V C T hl201.1 hbo rfl (m_X7_reserve ⟨hbo, hba, hbn, hb8, hbc⟩ hm) q275 q277 qs0 q59 q278 kd_X7_reserve rfl rfl ⟨Nat.le_of_ble_eq_true rfl, Nat.le_of_ble_eq_true rfl⟩ (Nat.le_of_ble_eq_true rfl) dX7_add_16 ⟨Nat.le_of_eq (Nat.zero_add _), Nat.le_of_eq (Nat.zero_add _)⟩ (fun rv h202 dc202 ds202 H202 locs202 hp202 T202 => ?_)
  obtain ⟨rfl, ca', f', ⟨bo2, ba2, bn2, b8, bc⟩, hf', hF2, rfl, rfl⟩ := hp202
  have go2 := hF2 _ _ gxo (Ne.symm hbx)
  have ga2 := hF2 _ _ gxa (Ne.symm hbx)
  have hcr := capr_ge cap (max (lm N) (lm M) + 1)
  have hNn := pow_max_l (N := N) (lm M)
  have hMn := pow_max_r (N := M) (lm N)
  have hnl : lm N ≤ max (lm N) (lm M) := Nat.le_max_left _ _
  have hnr : lm M ≤ max (lm N) (lm M) := Nat.le_max_right _ _
  generalize capr cap (max (lm N) (lm M) + 1) = cap2 at *
  generalize gc cap (max (lm N) (lm M) + 1) = gk at *
  generalize gs cap (max (lm N) (lm M) + 1) = gn at *
  generalize max (lm N) (lm M) = mx at *
  rw [show (none : Option Value).toList ++ ([] : List Value) = [] from rfl]
  have hv2 : bv f' (lm N) = N := by rw [bv_cong hf']; exact hv
  refine lv_aload_n hx hb dX7_add_19 rfl (lv_at hl201 1 rfl) ?_
  refine hr_get C T202 bo2 rfl in_X7 1 (by decide) q172 rfl rfl dX7_add_20 ?_
  refine lv_istore_n (lv' := [(3, .int (nI (lm N))), (2, .int (nI mx)), (0, .ref b), (1, .ref x)]) hx hb dX7_add_23 rfl hl201 (by decide) rfl (fun ls203 hl203 => ?_)
  have L2 : ∀ (j : Nat) (k cy : Nat) (r : Nat → Int32) (h204 : HH) (H204 : Heap) (locs204 : List Loc) (ls204 : Array Slot), (mx + 2 ≤ k + j) → (h204 b = some (.inr (1, [.ref ca', .int (nI (lm N))]), b)) → (h204 ca' = some (.inl (E.2.1 0, cap2, .inl r), b)) → (h204 x = some (.inr (1, [.ref cx, .int (nI (lm M))]), x)) → (h204 cx = some (.inl (E.2.1 0, capx, .inl g), x)) → (k ≤ mx + 1) → (cy ≤ 1) → (∀ i, k ≤ i → i < mx + 1 → r i = bz f' (lm N) i) → (bv r k + cy * 4294967296 ^ k = bv (bz f' (lm N)) k + bv (bz g (lm M)) k) → (Fr (· = b) h h204) → (St E s h204 H204 locs204) → (lv_has ls204 6 [(0, .ref b), (1, .ref x), (2, .int (nI mx)), (3, .long (lN cy)), (5, .int (nI k))]) → W p l e ({ frames := 2, cells := gk, slots := gn, locals := 300 } : Room) s m ([.ref b, .ref x] : List Value).toArray below meth c H204 locs204 (0 + gk) (0 + gn) Q (F0 m 47 ls204 []) := by
    intro j
    induction j with
    | zero => intro k cy r h204 H204 locs204 ls204 hm204 go_204 ga_204 gxo_204 gxa_204 hk hc hg hi hF T204 hl204; exact absurd hm204 (by omega)
    | succ j ih =>
      intro k cy r h204 H204 locs204 ls204 hm204 go_204 ga_204 gxo_204 gxa_204 hk hc hg hi hF T204 hl204
      refine lv_iload hx hb dX7_add_47 (lv_at hl204 4 rfl) ?_
      refine lv_iload_n hx hb dX7_add_49 rfl (lv_at hl204 2 rfl) ?_
      refine hn_icmp_gt (tgt := 110) hx hb dX7_add_50 (by decide) (by omega) (by omega) (fun c1 => ?_) (fun c1 => ?_)
      · have e1 : k = mx + 1 := by omega
        subst e1
        have hend : bv r (mx + 1) = N + M := add_end hNn hMn (by rw [hi, bz_bv (by omega), bz_bv (by omega), hv2, hw])
        refine lv_aload_n hx hb dX7_add_110 rfl (lv_at hl204 0 rfl) ?_
        refine lv_iload_n hx hb dX7_add_111 rfl (lv_at hl204 2 rfl) ?_
        refine lv_iconst (v := nI 1) hx hb dX7_add_112 rfl ?_
        refine hn_iadd hx hb dX7_add_113 ?_
        refine hr_put C T204 go_204 rfl in_X7 tyX7 tyX7_ok nmX7 1 (by decide) q172 rfl rfl rfl rfl (Nat.le_of_ble_eq_true rfl) dX7_add_114 (fun h205 H205 locs205 eh205 T205 => ?_)
        have go_205 : h205 b = some (.inr (1, [.ref ca', .int (nI (mx + 1))]), b) := hu_s eh205
        have ga_205 : h205 ca' = some (.inl (E.2.1 0, cap2, .inl r), b) := hu_n eh205 (hne_of ga_204 go_204 (fun z => by cases z)) ga_204
        have gxo_205 : h205 x = some (.inr (1, [.ref cx, .int (nI (lm M))]), x) := hu_n eh205 (Ne.symm hbx) gxo_204
        have gxa_205 : h205 cx = some (.inl (E.2.1 0, capx, .inl g), x) := hu_n eh205 (hne_of gxa_204 go_204 (fun z => hbx (congrArg Prod.snd z).symm)) gxa_204
        have hF_205 : Fr (· = b) h h205 := hu_f eh205 hF go_204 rfl
        refine lv_aload_n hx hb dX7_add_117 rfl (lv_at hl204 0 rfl) ?_
        refine hc_V C T205 hl204.1 go_205 rfl (m_X7_trim ⟨go_205, ga_205, by omega, b8, bc⟩) q285 q287 qs1 q59 q288 kd_X7_trim rfl rfl ⟨Nat.le_of_ble_eq_true rfl, Nat.le_of_ble_eq_true rfl⟩ (Nat.le_of_ble_eq_true rfl) dX7_add_118 ⟨Nat.le_of_eq (Nat.zero_add _), Nat.le_of_eq (Nat.zero_add _)⟩ (fun rv h206 H206 locs206 hp206 T206 => ?_)
        obtain ⟨rfl, k2, hk2, hB3, hF3, hz, hn⟩ := hp206
        rw [show (none : Option Value).toList ++ ([] : List Value) = [] from rfl]
        exact Z _ _ _ _ _ _ _ dX7_add_121 (Nat.le_of_eq (Nat.zero_add _)) (Nat.le_of_eq (Nat.zero_add _)) ⟨rfl, Big.of hB3 (by rw [← bv_tail hk2 hz, hend]) hn, hF_205.tr hF3, Nat.zero_add _, Nat.zero_add _⟩ T206
      · have hgk := hg k (Nat.le_refl _) (by omega)
        refine lv_lload_n hx hb dX7_add_53 rfl (lv_at hl204 3 rfl) ?_
        refine lv_aload_n hx hb dX7_add_54 rfl (lv_at hl204 0 rfl) ?_
        refine hr_get C T204 go_204 rfl in_X7 0 (by decide) q170 rfl rfl dX7_add_55 ?_
        refine lv_iload hx hb dX7_add_58 (lv_at hl204 4 rfl) ?_
        refine hr_iald C T204 ga_204 (by omega) (by omega) dX7_add_60 ?_
        refine hc_S C T204 hl204.1 (m_X7_cell) q778 q779 q59 q780 kd_X7_cell rfl rfl ⟨Nat.le_of_ble_eq_true rfl, Nat.le_of_ble_eq_true rfl⟩ (Nat.le_of_ble_eq_true rfl) dX7_add_61 ⟨Nat.le_of_eq (Nat.zero_add _), Nat.le_of_eq (Nat.zero_add _)⟩ (fun rv h207 H207 locs207 hp207 T207 => ?_)
        obtain ⟨rfl, hq207⟩ := hp207
        rw [hq207] at T207
        refine lv_iload hx hb dX7_add_64 (lv_at hl204 4 rfl) ?_
        refine lv_aload_n hx hb dX7_add_66 rfl (lv_at hl204 1 rfl) ?_
        refine hr_get C T207 gxo_204 rfl in_X7 1 (by decide) q172 rfl rfl dX7_add_67 ?_
        have J1 : ∀ (y : Nat) (H208 : Heap) (locs208 : List Loc) (ls208 : Array Slot), (y = un (bz g (lm M) k)) → (St E s h204 H208 locs208) → (lv_has ls208 6 [(0, .ref b), (1, .ref x), (2, .int (nI mx)), (3, .long (lN cy)), (5, .int (nI k))]) → W p l e ({ frames := 2, cells := gk, slots := gn, locals := 300 } : Room) s m ([.ref b, .ref x] : List Value).toArray below meth c H208 locs208 (0 + gk) (0 + gn) Q (F0 m 87 ls208 [.long (lN y), .long (lN (un (r k))), .long (lN cy)]) := by
          intro y H208 locs208 ls208 hy T208 hl208
          have hy2 : y < 4294967296 := by rw [hy]; exact un_lt _
          have hcar := add_car hc (un_lt (r k)) hy2
          refine hn_ladd hx hb dX7_add_87 ?_
          refine hn_ladd hx hb dX7_add_88 ?_
          refine lv_lstore_n (lv' := [(3, .long (lN (cy + ((un (r k)) + y)))), (0, .ref b), (1, .ref x), (2, .int (nI mx)), (5, .int (nI k))]) hx hb dX7_add_89 rfl hl208 (by decide) rfl (fun ls209 hl209 => ?_)
          refine lv_aload_n hx hb dX7_add_90 rfl (lv_at hl209 1 rfl) ?_
          refine hr_get C T208 go_204 rfl in_X7 0 (by decide) q170 rfl rfl dX7_add_91 ?_
          refine lv_iload hx hb dX7_add_94 (lv_at hl209 4 rfl) ?_
          refine lv_lload_n hx hb dX7_add_96 rfl (lv_at hl209 0 rfl) ?_
          refine hn_l2i hx hb dX7_add_97 ?_
          refine hr_iast C T208 ga_204 (by omega) (by omega) dX7_add_98 (fun h210 H210 locs210 eh210 T210 => ?_)
          have go_210 : h210 b = some (.inr (1, [.ref ca', .int (nI (lm N))]), b) := hu_n eh210 (hne_of go_204 ga_204 (fun z => by cases z)) go_204
          have ga_210 : h210 ca' = some (.inl (E.2.1 0, cap2, .inl (upd r k (nI (cy + ((un (r k)) + y))))), b) := hu_s eh210
          have gxo_210 : h210 x = some (.inr (1, [.ref cx, .int (nI (lm M))]), x) := hu_n eh210 (hne_of gxo_204 ga_204 (fun z => hbx (congrArg Prod.snd z).symm)) gxo_204
          have gxa_210 : h210 cx = some (.inl (E.2.1 0, capx, .inl g), x) := hu_n eh210 (hne_of gxa_204 ga_204 (fun z => hbx (congrArg Prod.snd z).symm)) gxa_204
          have hF_210 : Fr (· = b) h h210 := hu_f eh210 hF ga_204 rfl
          refine lv_lload_n hx hb dX7_add_99 rfl (lv_at hl209 0 rfl) ?_
          refine lv_bipush (v := nI 32) hx hb dX7_add_100 rfl ?_
          refine hn_lushr hx hb dX7_add_102 hcar.2 (by omega) ?_
          refine lv_lstore_n (lv' := [(3, .long (lN ((cy + ((un (r k)) + y)) / 2 ^ 32))), (0, .ref b), (1, .ref x), (2, .int (nI mx)), (5, .int (nI k))]) hx hb dX7_add_103 rfl hl209 (by decide) rfl (fun ls211 hl211 => ?_)
          refine lv_iinc (v := nI (k + 1)) (lv' := [(5, .int (nI (k + 1))), (3, .long (lN ((cy + ((un (r k)) + y)) / 2 ^ 32))), (0, .ref b), (1, .ref x), (2, .int (nI mx))]) hx hb dX7_add_104 hl211 (k := 4) rfl (nI_add k 1) (by decide) rfl (fun ls212 hl212 => ?_)
          refine lv_goto (tgt := 47) hx hb dX7_add_107 (by decide) ?_
          exact ih (k + 1) _ _ _ _ _ _ (by omega) go_210 ga_210 gxo_210 gxa_210 (by omega) hcar.1 (fun i h1 h2 => (pk_un (by omega)).trans (hg i (by omega) h2)) (add_step hgk hi hy) hF_210 T210 (lv_sub hl212 [2, 3, 4, 1, 0] rfl)
        refine hn_icmp_ge (tgt := 86) hx hb dX7_add_70 (by decide) (by omega) (by omega) (fun c3 => ?_) (fun c3 => ?_)
        · refine lv_lconst (v := lN 0) hx hb dX7_add_86 rfl ?_
          exact J1 0 _ _ _ (by rw [bz_out c3]; rfl) T207 (lv_sub hl204 [0, 1, 2, 3, 4] rfl)
        · refine lv_aload_n hx hb dX7_add_73 rfl (lv_at hl204 1 rfl) ?_
          refine hr_get C T207 gxo_204 rfl in_X7 0 (by decide) q170 rfl rfl dX7_add_74 ?_
          refine lv_iload hx hb dX7_add_77 (lv_at hl204 4 rfl) ?_
          refine hr_iald C T207 gxa_204 (by omega) (by omega) dX7_add_79 ?_
          refine hc_S C T207 hl204.1 (m_X7_cell) q778 q779 q59 q780 kd_X7_cell rfl rfl ⟨Nat.le_of_ble_eq_true rfl, Nat.le_of_ble_eq_true rfl⟩ (Nat.le_of_ble_eq_true rfl) dX7_add_80 ⟨Nat.le_of_eq (Nat.zero_add _), Nat.le_of_eq (Nat.zero_add _)⟩ (fun rv h213 H213 locs213 hp213 T213 => ?_)
          obtain ⟨rfl, hq213⟩ := hp213
          rw [hq213] at T213
          refine lv_goto (tgt := 87) hx hb dX7_add_83 (by decide) ?_
          exact J1 _ _ _ _ (by rw [bz_in c3]) T213 (lv_sub hl204 [0, 1, 2, 3, 4] rfl)
  have L1 : ∀ (j : Nat) (k : Nat) (r : Nat → Int32) (h214 : HH) (H214 : Heap) (locs214 : List Loc) (ls214 : Array Slot), (mx + 2 ≤ k + j) → (h214 b = some (.inr (1, [.ref ca', .int (nI (lm N))]), b)) → (h214 ca' = some (.inl (E.2.1 0, cap2, .inl r), b)) → (h214 x = some (.inr (1, [.ref cx, .int (nI (lm M))]), x)) → (h214 cx = some (.inl (E.2.1 0, capx, .inl g), x)) → (k ≤ mx + 1) → (lm N ≤ k) → (∀ i, i < k → r i = bz f' (lm N) i) → (Fr (· = b) h h214) → (St E s h214 H214 locs214) → (lv_has ls214 6 [(0, .ref b), (1, .ref x), (2, .int (nI mx)), (3, .int (nI k))]) → W p l e ({ frames := 2, cells := gk, slots := gn, locals := 300 } : Room) s m ([.ref b, .ref x] : List Value).toArray below meth c H214 locs214 (0 + gk) (0 + gn) Q (F0 m 24 ls214 []) := by
    intro j
    induction j with
    | zero => intro k r h214 H214 locs214 ls214 hm214 go_214 ga_214 gxo_214 gxa_214 hk hk2 hg hF T214 hl214; exact absurd hm214 (by omega)
    | succ j ih =>
      intro k r h214 H214 locs214 ls214 hm214 go_214 ga_214 gxo_214 gxa_214 hk hk2 hg hF T214 hl214
      refine lv_iload_n hx hb dX7_add_24 rfl (lv_at hl214 3 rfl) ?_
      refine lv_iload_n hx hb dX7_add_25 rfl (lv_at hl214 2 rfl) ?_
      refine hn_icmp_gt (tgt := 42) hx hb dX7_add_26 (by decide) (by omega) (by omega) (fun c1 => ?_) (fun c1 => ?_)
      · refine lv_lconst (v := lN 0) hx hb dX7_add_42 rfl ?_
        refine lv_lstore_n (lv' := [(3, .long (lN 0)), (0, .ref b), (1, .ref x), (2, .int (nI mx))]) hx hb dX7_add_43 rfl hl214 (by decide) rfl (fun ls215 hl215 => ?_)
        refine lv_iconst (v := nI 0) hx hb dX7_add_44 rfl ?_
        refine lv_istore (lv' := [(5, .int (nI 0)), (3, .long (lN 0)), (0, .ref b), (1, .ref x), (2, .int (nI mx))]) hx hb dX7_add_45 hl215 (by decide) rfl (fun ls216 hl216 => ?_)
        exact L2 (mx + 2) 0 0 r _ _ _ _ (by omega) go_214 ga_214 gxo_214 gxa_214 (Nat.zero_le _) (Nat.zero_le _) (fun i _ h2 => hg i (by omega)) (by simp [bv]) hF T214 (lv_sub hl216 [2, 3, 4, 1, 0] rfl)
      · refine lv_aload_n hx hb dX7_add_29 rfl (lv_at hl214 0 rfl) ?_
        refine hr_get C T214 go_214 rfl in_X7 0 (by decide) q170 rfl rfl dX7_add_30 ?_
        refine lv_iload_n hx hb dX7_add_33 rfl (lv_at hl214 3 rfl) ?_
        refine lv_iconst (v := nI 0) hx hb dX7_add_34 rfl ?_
        refine hr_iast C T214 ga_214 (by omega) (by omega) dX7_add_35 (fun h217 H217 locs217 eh217 T217 => ?_)
        have go_217 : h217 b = some (.inr (1, [.ref ca', .int (nI (lm N))]), b) := hu_n eh217 (hne_of go_214 ga_214 (fun z => by cases z)) go_214
        have ga_217 : h217 ca' = some (.inl (E.2.1 0, cap2, .inl (upd r k (nI 0))), b) := hu_s eh217
        have gxo_217 : h217 x = some (.inr (1, [.ref cx, .int (nI (lm M))]), x) := hu_n eh217 (hne_of gxo_214 ga_214 (fun z => hbx (congrArg Prod.snd z).symm)) gxo_214
        have gxa_217 : h217 cx = some (.inl (E.2.1 0, capx, .inl g), x) := hu_n eh217 (hne_of gxa_214 ga_214 (fun z => hbx (congrArg Prod.snd z).symm)) gxa_214
        have hF_217 : Fr (· = b) h h217 := hu_f eh217 hF ga_214 rfl
        refine lv_iinc (v := nI (k + 1)) (lv' := [(3, .int (nI (k + 1))), (0, .ref b), (1, .ref x), (2, .int (nI mx))]) hx hb dX7_add_36 hl214 (k := 3) rfl (nI_add k 1) (by decide) rfl (fun ls218 hl218 => ?_)
        refine lv_goto (tgt := 24) hx hb dX7_add_39 (by decide) ?_
        exact ih (k + 1) _ _ _ _ _ (by omega) go_217 ga_217 gxo_217 gxa_217 (by omega) (by omega) (fun i hi => by by_cases z : i = k; (subst z; rw [pk_us, bz_out hk2]; rfl); (rw [pk_un z]; exact hg i (by omega))) hF_217 T217 (lv_sub hl218 [1, 2, 3, 0] rfl)
  exact L1 (mx + 2) (lm N) f' _ _ _ _ (by omega) bo2 ba2 go2 ga2 (by omega) (Nat.le_refl _) (fun i hi => (bz_in hi).symm) hF2 T202 (lv_sub hl203 [2, 3, 1, 0] rfl)

theorem prod_step {r r0 g : Nat → Int32} {i j cy x : Nat} (hr : r (i + j) = r0 (i + j)) (hi : bv r (i + j) + cy * 4294967296 ^ (i + j) = bv r0 (i + j) + x * bv g j * 4294967296 ^ i) :
    bv (upd r (i + j) (nI (cy + (x * un (g j) + un (r (i + j)))))) (i + (j + 1)) + (cy + (x * un (g j) + un (r (i + j)))) / 4294967296 * 4294967296 ^ (i + (j + 1)) = bv r0 (i + (j + 1)) + x * bv g (j + 1) * 4294967296 ^ i := by
  rw [show i + (j + 1) = (i + j) + 1 from rfl, bv_pn, bv_s r0, bv_s g, hr, Nat.add_mul, Nat.add_mul, Nat.mul_add, Nat.add_mul]
  have h1 : x * un (g j) * 4294967296 ^ (i + j) = x * (un (g j) * 4294967296 ^ j) * 4294967296 ^ i := by
    rw [Nat.pow_add, Nat.mul_comm (4294967296 ^ i), ← Nat.mul_assoc, ← Nat.mul_assoc]
  omega
theorem prod_car {c x y z : Nat} (hc : c < 4294967296) (hx : x < 4294967296) (hy : y < 4294967296) (hz : z < 4294967296) : (c + (x * y + z)) / 4294967296 < 4294967296 ∧ c + (x * y + z) < 2 ^ 64 := by
  have h1 : x * y ≤ 4294967295 * 4294967295 := Nat.mul_le_mul (by omega) (by omega)
  omega
theorem prod_end {r r0 f g : Nat → Int32} {i n cy M : Nat} (hc : cy < 4294967296) (hM : bv g n = M) (h0 : bv r0 (i + n) = bv f i * M) (hi : bv r (i + n) + cy * 4294967296 ^ (i + n) = bv r0 (i + n) + un (f i) * bv g n * 4294967296 ^ i) : bv (upd r (i + n) (nI cy)) (i + 1 + n) = bv f (i + 1) * M := by
  rw [show i + 1 + n = (i + n) + 1 by omega, bv_put, un_nI' hc, hi, h0, hM, bv_s, Nat.add_mul]
  have h1 : un (f i) * M * 4294967296 ^ i = un (f i) * 4294967296 ^ i * M := by
    rw [Nat.mul_assoc, Nat.mul_comm M, ← Nat.mul_assoc]
  omega

set_option maxHeartbeats 4000000 in
theorem m_X7_product {E : GE} {l : Launch} {h : HH} {b x y ca n0 cap N M capx capy : Nat} {f0 : Nat → Int32} (hB : BigC E h b ca n0 cap f0) (hX : Big E h x N capx) (hY : Big E h y M capy) (hbx : b ≠ x) (hby : b ≠ y) (hm : lm N + lm M ≤ 128) : MG E l yX7_product cX7_product 10 none ({ frames := 2, cells := gc cap (lm N + lm M), slots := gs cap (lm N + lm M), locals := 300 } : Room) [.ref b, .ref x, .ref y] h (fun rv h2 dc ds => rv = none ∧ Big E h2 b (N * M) (capr cap (lm N + lm M)) ∧ Fr (· = b) h h2 ∧ dc = gc cap (lm N + lm M) ∧ ds = gs cap (lm N + lm M)) := by
  refine hn_v (by decide) (Nat.le_of_ble_eq_true rfl) ?_
  intro p e s m below meth c C hnm Q Z ls T hl
  have hx := C.x
  have hb := C.b
  have hl : lv_has ls 10 [(0, .ref b), (1, .ref x), (2, .ref y)] := hl
  obtain ⟨hbo, hba, hbn, hb8, hbc⟩ := hB
  obtain ⟨cx, f, ⟨gxo, gxa, hxn, hx8, hxc⟩, hv⟩ := hX
  obtain ⟨cy_, g, ⟨gyo, gya, hyn, hy8, hyc⟩, hw⟩ := hY
  refine lv_aload_n hx hb dX7_product_0 rfl (lv_at hl 1 rfl) ?_
  refine hr_get C T gxo rfl in_X7 1 (by decide) q172 rfl rfl dX7_product_1 ?_
  refine lv_aload_n hx hb dX7_product_4 rfl (lv_at hl 2 rfl) ?_
  refine hr_get C T gyo rfl in_X7 1 (by decide) q172 rfl rfl dX7_product_5 ?_
  refine hn_iadd hx hb dX7_product_8 ?_
  refine lv_istore_n (lv' := [(3, .int (nI ((lm N) + (lm M)))), (0, .ref b), (1, .ref x), (2, .ref y)]) hx hb dX7_product_9 rfl hl (by decide) rfl (fun ls219 hl219 => ?_)
  refine lv_aload_n hx hb dX7_product_10 rfl (lv_at hl219 1 rfl) ?_
  refine lv_iload_n hx hb dX7_product_11 rfl (lv_at hl219 0 rfl) ?_
  refine hg_V C T hl219.1 hbo rfl (m_X7_reserve ⟨hbo, hba, hbn, hb8, hbc⟩ hm) q275 q277 qs0 q59 q278 kd_X7_reserve rfl rfl ⟨Nat.le_of_ble_eq_true rfl, Nat.le_of_ble_eq_true rfl⟩ (Nat.le_of_ble_eq_true rfl) dX7_product_12 ⟨Nat.le_of_eq (Nat.zero_add _), Nat.le_of_eq (Nat.zero_add _)⟩ (fun rv h220 dc220 ds220 H220 locs220 hp220 T220 => ?_)
  obtain ⟨rfl, ca', f', ⟨bo2, ba2, bn2, b8, bc⟩, hf', hF2, rfl, rfl⟩ := hp220
  have kxo := hF2 _ _ gxo (Ne.symm hbx)
  have kxa := hF2 _ _ gxa (Ne.symm hbx)
  have kyo := hF2 _ _ gyo (Ne.symm hby)
  have kya := hF2 _ _ gya (Ne.symm hby)
  have hcr := capr_ge cap (lm N + lm M)
  generalize capr cap (lm N + lm M) = cap2 at *
  generalize gc cap (lm N + lm M) = gk at *
  generalize gs cap (lm N + lm M) = gn at *
  rw [show (none : Option Value).toList ++ ([] : List Value) = [] from rfl]
  refine lv_iconst (v := nI 0) hx hb dX7_product_15 rfl ?_
  refine lv_istore (lv' := [(4, .int (nI 0)), (3, .int (nI ((lm N) + (lm M)))), (0, .ref b), (1, .ref x), (2, .ref y)]) hx hb dX7_product_16 hl219 (by decide) rfl (fun ls221 hl221 => ?_)
  have L2 : ∀ (j : Nat) (i : Nat) (r : Nat → Int32) (h222 : HH) (H222 : Heap) (locs222 : List Loc) (ls222 : Array Slot), (lm N + 1 ≤ i + j) → (h222 b = some (.inr (1, [.ref ca', .int (nI n0)]), b)) → (h222 ca' = some (.inl (E.2.1 0, cap2, .inl r), b)) → (h222 x = some (.inr (1, [.ref cx, .int (nI (lm N))]), x)) → (h222 cx = some (.inl (E.2.1 0, capx, .inl f), x)) → (h222 y = some (.inr (1, [.ref cy_, .int (nI (lm M))]), y)) → (h222 cy_ = some (.inl (E.2.1 0, capy, .inl g), y)) → (i ≤ lm N) → (∀ t, i + lm M ≤ t → t < lm N + lm M → r t = 0) → (bv r (i + lm M) = bv f i * M) → (Fr (· = b) h h222) → (St E s h222 H222 locs222) → (lv_has ls222 10 [(0, .ref b), (1, .ref x), (2, .ref y), (3, .int (nI (lm N + lm M))), (4, .int (nI i))]) → W p l e ({ frames := 2, cells := gk, slots := gn, locals := 300 } : Room) s m ([.ref b, .ref x, .ref y] : List Value).toArray below meth c H222 locs222 (0 + gk) (0 + gn) Q (F0 m 41 ls222 []) := by
    intro j
    induction j with
    | zero => intro i r h222 H222 locs222 ls222 hm222 go_222 ga_222 gxo_222 gxa_222 gyo_222 gya_222 hi hz hv1 hF T222 hl222; exact absurd hm222 (by omega)
    | succ j ih =>
      intro i r h222 H222 locs222 ls222 hm222 go_222 ga_222 gxo_222 gxa_222 gyo_222 gya_222 hi hz hv1 hF T222 hl222
      refine lv_iload hx hb dX7_product_41 (lv_at hl222 4 rfl) ?_
      refine lv_aload_n hx hb dX7_product_43 rfl (lv_at hl222 1 rfl) ?_
      refine hr_get C T222 gxo_222 rfl in_X7 1 (by decide) q172 rfl rfl dX7_product_44 ?_
      refine hn_icmp_ge (tgt := 156) hx hb dX7_product_47 (by decide) (by omega) (by omega) (fun c1 => ?_) (fun c1 => ?_)
      · have e1 : i = lm N := by omega
        subst e1
        refine lv_aload_n hx hb dX7_product_156 rfl (lv_at hl222 0 rfl) ?_
        refine lv_iload_n hx hb dX7_product_157 rfl (lv_at hl222 3 rfl) ?_
        refine hr_put C T222 go_222 rfl in_X7 tyX7 tyX7_ok nmX7 1 (by decide) q172 rfl rfl rfl rfl (Nat.le_of_ble_eq_true rfl) dX7_product_158 (fun h223 H223 locs223 eh223 T223 => ?_)
        have go_223 : h223 b = some (.inr (1, [.ref ca', .int (nI (lm N + lm M))]), b) := hu_s eh223
        have ga_223 : h223 ca' = some (.inl (E.2.1 0, cap2, .inl r), b) := hu_n eh223 (hne_of ga_222 go_222 (fun z => by cases z)) ga_222
        have gxo_223 : h223 x = some (.inr (1, [.ref cx, .int (nI (lm N))]), x) := hu_n eh223 (Ne.symm hbx) gxo_222
        have gxa_223 : h223 cx = some (.inl (E.2.1 0, capx, .inl f), x) := hu_n eh223 (hne_of gxa_222 go_222 (fun z => hbx (congrArg Prod.snd z).symm)) gxa_222
        have gyo_223 : h223 y = some (.inr (1, [.ref cy_, .int (nI (lm M))]), y) := hu_n eh223 (Ne.symm hby) gyo_222
        have gya_223 : h223 cy_ = some (.inl (E.2.1 0, capy, .inl g), y) := hu_n eh223 (hne_of gya_222 go_222 (fun z => hby (congrArg Prod.snd z).symm)) gya_222
        have hF_223 : Fr (· = b) h h223 := hu_f eh223 hF go_222 rfl
        refine lv_aload_n hx hb dX7_product_161 rfl (lv_at hl222 0 rfl) ?_
        refine hc_V C T223 hl222.1 go_223 rfl (m_X7_trim ⟨go_223, ga_223, by omega, b8, bc⟩) q285 q287 qs1 q59 q288 kd_X7_trim rfl rfl ⟨Nat.le_of_ble_eq_true rfl, Nat.le_of_ble_eq_true rfl⟩ (Nat.le_of_ble_eq_true rfl) dX7_product_162 ⟨Nat.le_of_eq (Nat.zero_add _), Nat.le_of_eq (Nat.zero_add _)⟩ (fun rv h224 H224 locs224 hp224 T224 => ?_)
        obtain ⟨rfl, k2, hk2, hB3, hF3, hz2, hn⟩ := hp224
        rw [show (none : Option Value).toList ++ ([] : List Value) = [] from rfl]
        exact Z _ _ _ _ _ _ _ dX7_product_165 (Nat.le_of_eq (Nat.zero_add _)) (Nat.le_of_eq (Nat.zero_add _)) ⟨rfl, Big.of hB3 (by rw [← bv_tail hk2 hz2, hv1, hv]) hn, hF_223.tr hF3, Nat.zero_add _, Nat.zero_add _⟩ T224
      · refine lv_lconst (v := lN 0) hx hb dX7_product_50 rfl ?_
        refine lv_lstore (lv' := [(5, .long (lN 0)), (0, .ref b), (1, .ref x), (2, .ref y), (3, .int (nI (lm N + lm M))), (4, .int (nI i))]) hx hb dX7_product_51 hl222 (by decide) rfl (fun ls225 hl225 => ?_)
        refine lv_aload_n hx hb dX7_product_53 rfl (lv_at hl225 2 rfl) ?_
        refine hr_get C T222 gxo_222 rfl in_X7 0 (by decide) q170 rfl rfl dX7_product_54 ?_
        refine lv_iload hx hb dX7_product_57 (lv_at hl225 5 rfl) ?_
        refine hr_iald C T222 gxa_222 (by omega) (by omega) dX7_product_59 ?_
        refine hc_S C T222 hl225.1 (m_X7_cell) q778 q779 q59 q780 kd_X7_cell rfl rfl ⟨Nat.le_of_ble_eq_true rfl, Nat.le_of_ble_eq_true rfl⟩ (Nat.le_of_ble_eq_true rfl) dX7_product_60 ⟨Nat.le_of_eq (Nat.zero_add _), Nat.le_of_eq (Nat.zero_add _)⟩ (fun rv h226 H226 locs226 hp226 T226 => ?_)
        obtain ⟨rfl, hq226⟩ := hp226
        rw [hq226] at T226
        refine lv_lstore (lv' := [(7, .long (lN (un (f i)))), (5, .long (lN 0)), (0, .ref b), (1, .ref x), (2, .ref y), (3, .int (nI (lm N + lm M))), (4, .int (nI i))]) hx hb dX7_product_63 hl225 (by decide) rfl (fun ls227 hl227 => ?_)
        refine lv_iconst (v := nI 0) hx hb dX7_product_65 rfl ?_
        refine lv_istore (lv' := [(9, .int (nI 0)), (7, .long (lN (un (f i)))), (5, .long (lN 0)), (0, .ref b), (1, .ref x), (2, .ref y), (3, .int (nI (lm N + lm M))), (4, .int (nI i))]) hx hb dX7_product_66 hl227 (by decide) rfl (fun ls228 hl228 => ?_)
        have ihO := ih
        have L3 : ∀ (j : Nat) (jj cy : Nat) (r1 : Nat → Int32) (h229 : HH) (H229 : Heap) (locs229 : List Loc) (ls229 : Array Slot), (lm M + 1 ≤ jj + j) → (h229 b = some (.inr (1, [.ref ca', .int (nI n0)]), b)) → (h229 ca' = some (.inl (E.2.1 0, cap2, .inl r1), b)) → (h229 x = some (.inr (1, [.ref cx, .int (nI (lm N))]), x)) → (h229 cx = some (.inl (E.2.1 0, capx, .inl f), x)) → (h229 y = some (.inr (1, [.ref cy_, .int (nI (lm M))]), y)) → (h229 cy_ = some (.inl (E.2.1 0, capy, .inl g), y)) → (jj ≤ lm M) → (cy < 4294967296) → (∀ t, i + jj ≤ t → t < lm N + lm M → r1 t = r t) → (bv r1 (i + jj) + cy * 4294967296 ^ (i + jj) = bv r (i + jj) + un (f i) * bv g jj * 4294967296 ^ i) → (Fr (· = b) h h229) → (St E s h229 H229 locs229) → (lv_has ls229 10 [(0, .ref b), (1, .ref x), (2, .ref y), (3, .int (nI (lm N + lm M))), (4, .int (nI i)), (5, .long (lN cy)), (7, .long (lN (un (f i)))), (9, .int (nI jj))]) → W p l e ({ frames := 2, cells := gk, slots := gn, locals := 300 } : Room) s m ([.ref b, .ref x, .ref y] : List Value).toArray below meth c H229 locs229 (0 + gk) (0 + gn) Q (F0 m 68 ls229 []) := by
          intro j
          induction j with
          | zero => intro jj cy r1 h229 H229 locs229 ls229 hm229 do_229 da_229 dxo_229 dxa_229 dyo_229 dya_229 hj hc ho hi2 hF4 T229 hl229; exact absurd hm229 (by omega)
          | succ j ih =>
            intro jj cy r1 h229 H229 locs229 ls229 hm229 do_229 da_229 dxo_229 dxa_229 dyo_229 dya_229 hj hc ho hi2 hF4 T229 hl229
            refine lv_iload hx hb dX7_product_68 (lv_at hl229 7 rfl) ?_
            refine lv_aload_n hx hb dX7_product_70 rfl (lv_at hl229 2 rfl) ?_
            refine hr_get C T229 dyo_229 rfl in_X7 1 (by decide) q172 rfl rfl dX7_product_71 ?_
            refine hn_icmp_ge (tgt := 135) hx hb dX7_product_74 (by decide) (by omega) (by omega) (fun c2 => ?_) (fun c2 => ?_)
            · have e2 : jj = lm M := by omega
              subst e2
              refine lv_aload_n hx hb dX7_product_135 rfl (lv_at hl229 0 rfl) ?_
              refine hr_get C T229 do_229 rfl in_X7 0 (by decide) q170 rfl rfl dX7_product_136 ?_
              refine lv_iload hx hb dX7_product_139 (lv_at hl229 4 rfl) ?_
              refine lv_aload_n hx hb dX7_product_141 rfl (lv_at hl229 2 rfl) ?_
              refine hr_get C T229 dyo_229 rfl in_X7 1 (by decide) q172 rfl rfl dX7_product_142 ?_
              refine hn_iadd hx hb dX7_product_145 ?_
              refine lv_lload hx hb dX7_product_146 (lv_at hl229 5 rfl) ?_
              refine hn_l2i hx hb dX7_product_148 ?_
              refine hr_iast C T229 da_229 (by omega) (by omega) dX7_product_149 (fun h230 H230 locs230 eh230 T230 => ?_)
              have do_230 : h230 b = some (.inr (1, [.ref ca', .int (nI n0)]), b) := hu_n eh230 (hne_of do_229 da_229 (fun z => by cases z)) do_229
              have da_230 : h230 ca' = some (.inl (E.2.1 0, cap2, .inl (upd r1 (i + (lm M)) (nI cy))), b) := hu_s eh230
              have dxo_230 : h230 x = some (.inr (1, [.ref cx, .int (nI (lm N))]), x) := hu_n eh230 (hne_of dxo_229 da_229 (fun z => hbx (congrArg Prod.snd z).symm)) dxo_229
              have dxa_230 : h230 cx = some (.inl (E.2.1 0, capx, .inl f), x) := hu_n eh230 (hne_of dxa_229 da_229 (fun z => hbx (congrArg Prod.snd z).symm)) dxa_229
              have dyo_230 : h230 y = some (.inr (1, [.ref cy_, .int (nI (lm M))]), y) := hu_n eh230 (hne_of dyo_229 da_229 (fun z => hby (congrArg Prod.snd z).symm)) dyo_229
              have dya_230 : h230 cy_ = some (.inl (E.2.1 0, capy, .inl g), y) := hu_n eh230 (hne_of dya_229 da_229 (fun z => hby (congrArg Prod.snd z).symm)) dya_229
              have hF4_230 : Fr (· = b) h h230 := hu_f eh230 hF4 da_229 rfl
              refine lv_iinc (v := nI (i + 1)) (lv' := [(4, .int (nI (i + 1))), (0, .ref b), (1, .ref x), (2, .ref y), (3, .int (nI (lm N + lm M))), (5, .long (lN cy)), (7, .long (lN (un (f i)))), (9, .int (nI (lm M)))]) hx hb dX7_product_150 hl229 (k := 4) rfl (nI_add i 1) (by decide) rfl (fun ls231 hl231 => ?_)
              refine lv_goto (tgt := 41) hx hb dX7_product_153 (by decide) ?_
              exact ihO  (i + 1) _ _ _ _ _ (by omega) do_230 da_230 dxo_230 dxa_230 dyo_230 dya_230 (by omega) (fun t h1 h2 => (pk_un (by omega)).trans ((ho t (by omega) h2).trans (hz t (by omega) h2))) (prod_end hc hw hv1 hi2) hF4_230 T230 (lv_sub hl231 [1, 2, 3, 4, 0] rfl)
            · have hrj := ho (i + jj) (Nat.le_refl _) (by omega)
              have hcar := prod_car hc (un_lt (f i)) (un_lt (g jj)) (un_lt (r1 (i + jj)))
              refine lv_lload hx hb dX7_product_77 (lv_at hl229 5 rfl) ?_
              refine lv_lload hx hb dX7_product_79 (lv_at hl229 6 rfl) ?_
              refine lv_aload_n hx hb dX7_product_81 rfl (lv_at hl229 2 rfl) ?_
              refine hr_get C T229 dyo_229 rfl in_X7 0 (by decide) q170 rfl rfl dX7_product_82 ?_
              refine lv_iload hx hb dX7_product_85 (lv_at hl229 7 rfl) ?_
              refine hr_iald C T229 dya_229 (by omega) (by omega) dX7_product_87 ?_
              refine hc_S C T229 hl229.1 (m_X7_cell) q778 q779 q59 q780 kd_X7_cell rfl rfl ⟨Nat.le_of_ble_eq_true rfl, Nat.le_of_ble_eq_true rfl⟩ (Nat.le_of_ble_eq_true rfl) dX7_product_88 ⟨Nat.le_of_eq (Nat.zero_add _), Nat.le_of_eq (Nat.zero_add _)⟩ (fun rv h232 H232 locs232 hp232 T232 => ?_)
              obtain ⟨rfl, hq232⟩ := hp232
              rw [hq232] at T232
              refine hn_lmul hx hb dX7_product_91 ?_
              refine lv_aload_n hx hb dX7_product_92 rfl (lv_at hl229 0 rfl) ?_
              refine hr_get C T232 do_229 rfl in_X7 0 (by decide) q170 rfl rfl dX7_product_93 ?_
              refine lv_iload hx hb dX7_product_96 (lv_at hl229 4 rfl) ?_
              refine lv_iload hx hb dX7_product_98 (lv_at hl229 7 rfl) ?_
              refine hn_iadd hx hb dX7_product_100 ?_
              refine hr_iald C T232 da_229 (by omega) (by omega) dX7_product_101 ?_
              refine hc_S C T232 hl229.1 (m_X7_cell) q778 q779 q59 q780 kd_X7_cell rfl rfl ⟨Nat.le_of_ble_eq_true rfl, Nat.le_of_ble_eq_true rfl⟩ (Nat.le_of_ble_eq_true rfl) dX7_product_102 ⟨Nat.le_of_eq (Nat.zero_add _), Nat.le_of_eq (Nat.zero_add _)⟩ (fun rv h233 H233 locs233 hp233 T233 => ?_)
              obtain ⟨rfl, hq233⟩ := hp233
              rw [hq233] at T233
              refine hn_ladd hx hb dX7_product_105 ?_
              refine hn_ladd hx hb dX7_product_106 ?_
              refine lv_lstore (lv' := [(5, .long (lN (cy + (((un (f i)) * (un (g jj))) + (un (r1 (i + jj))))))), (0, .ref b), (1, .ref x), (2, .ref y), (3, .int (nI (lm N + lm M))), (4, .int (nI i)), (7, .long (lN (un (f i)))), (9, .int (nI jj))]) hx hb dX7_product_107 hl229 (by decide) rfl (fun ls234 hl234 => ?_)
              refine lv_aload_n hx hb dX7_product_109 rfl (lv_at hl234 1 rfl) ?_
              refine hr_get C T233 do_229 rfl in_X7 0 (by decide) q170 rfl rfl dX7_product_110 ?_
              refine lv_iload hx hb dX7_product_113 (lv_at hl234 5 rfl) ?_
              refine lv_iload hx hb dX7_product_115 (lv_at hl234 7 rfl) ?_
              refine hn_iadd hx hb dX7_product_117 ?_
              refine lv_lload hx hb dX7_product_118 (lv_at hl234 0 rfl) ?_
              refine hn_l2i hx hb dX7_product_120 ?_
              refine hr_iast C T233 da_229 (by omega) (by omega) dX7_product_121 (fun h235 H235 locs235 eh235 T235 => ?_)
              have do_235 : h235 b = some (.inr (1, [.ref ca', .int (nI n0)]), b) := hu_n eh235 (hne_of do_229 da_229 (fun z => by cases z)) do_229
              have da_235 : h235 ca' = some (.inl (E.2.1 0, cap2, .inl (upd r1 (i + jj) (nI (cy + (((un (f i)) * (un (g jj))) + (un (r1 (i + jj)))))))), b) := hu_s eh235
              have dxo_235 : h235 x = some (.inr (1, [.ref cx, .int (nI (lm N))]), x) := hu_n eh235 (hne_of dxo_229 da_229 (fun z => hbx (congrArg Prod.snd z).symm)) dxo_229
              have dxa_235 : h235 cx = some (.inl (E.2.1 0, capx, .inl f), x) := hu_n eh235 (hne_of dxa_229 da_229 (fun z => hbx (congrArg Prod.snd z).symm)) dxa_229
              have dyo_235 : h235 y = some (.inr (1, [.ref cy_, .int (nI (lm M))]), y) := hu_n eh235 (hne_of dyo_229 da_229 (fun z => hby (congrArg Prod.snd z).symm)) dyo_229
              have dya_235 : h235 cy_ = some (.inl (E.2.1 0, capy, .inl g), y) := hu_n eh235 (hne_of dya_229 da_229 (fun z => hby (congrArg Prod.snd z).symm)) dya_229
              have hF4_235 : Fr (· = b) h h235 := hu_f eh235 hF4 da_229 rfl
              refine lv_lload hx hb dX7_product_122 (lv_at hl234 0 rfl) ?_
              refine lv_bipush (v := nI 32) hx hb dX7_product_124 rfl ?_
              refine hn_lushr hx hb dX7_product_126 hcar.2 (by omega) ?_
              refine lv_lstore (lv' := [(5, .long (lN ((cy + (((un (f i)) * (un (g jj))) + (un (r1 (i + jj))))) / 2 ^ 32))), (0, .ref b), (1, .ref x), (2, .ref y), (3, .int (nI (lm N + lm M))), (4, .int (nI i)), (7, .long (lN (un (f i)))), (9, .int (nI jj))]) hx hb dX7_product_127 hl234 (by decide) rfl (fun ls236 hl236 => ?_)
              refine lv_iinc (v := nI (jj + 1)) (lv' := [(9, .int (nI (jj + 1))), (5, .long (lN ((cy + (((un (f i)) * (un (g jj))) + (un (r1 (i + jj))))) / 2 ^ 32))), (0, .ref b), (1, .ref x), (2, .ref y), (3, .int (nI (lm N + lm M))), (4, .int (nI i)), (7, .long (lN (un (f i))))]) hx hb dX7_product_129 hl236 (k := 7) rfl (nI_add jj 1) (by decide) rfl (fun ls237 hl237 => ?_)
              refine lv_goto (tgt := 68) hx hb dX7_product_132 (by decide) ?_
              exact ih (jj + 1) _ _ _ _ _ _ (by omega) do_235 da_235 dxo_235 dxa_235 dyo_235 dya_235 (by omega) hcar.1 (fun t h1 h2 => (pk_un (by omega)).trans (ho t (by omega) h2)) (prod_step hrj hi2) hF4_235 T235 (lv_sub hl237 [2, 3, 4, 5, 6, 1, 7, 0] rfl)
        exact L3 (lm M + 1) 0 0 r _ _ _ _ (by omega) go_222 ga_222 gxo_222 gxa_222 gyo_222 gya_222 (Nat.zero_le _) (by decide) (fun _ _ _ => rfl) (by simp [bv]) hF T226 (lv_sub hl228 [3, 4, 5, 6, 7, 2, 1, 0] rfl)
  have L1 : ∀ (j : Nat) (k : Nat) (r : Nat → Int32) (h238 : HH) (H238 : Heap) (locs238 : List Loc) (ls238 : Array Slot), (lm N + lm M + 1 ≤ k + j) → (h238 b = some (.inr (1, [.ref ca', .int (nI n0)]), b)) → (h238 ca' = some (.inl (E.2.1 0, cap2, .inl r), b)) → (h238 x = some (.inr (1, [.ref cx, .int (nI (lm N))]), x)) → (h238 cx = some (.inl (E.2.1 0, capx, .inl f), x)) → (h238 y = some (.inr (1, [.ref cy_, .int (nI (lm M))]), y)) → (h238 cy_ = some (.inl (E.2.1 0, capy, .inl g), y)) → (k ≤ lm N + lm M) → (∀ i, i < k → r i = 0) → (Fr (· = b) h h238) → (St E s h238 H238 locs238) → (lv_has ls238 10 [(0, .ref b), (1, .ref x), (2, .ref y), (3, .int (nI (lm N + lm M))), (4, .int (nI k))]) → W p l e ({ frames := 2, cells := gk, slots := gn, locals := 300 } : Room) s m ([.ref b, .ref x, .ref y] : List Value).toArray below meth c H238 locs238 (0 + gk) (0 + gn) Q (F0 m 18 ls238 []) := by
    intro j
    induction j with
    | zero => intro k r h238 H238 locs238 ls238 hm238 go_238 ga_238 gxo_238 gxa_238 gyo_238 gya_238 hk hg hF T238 hl238; exact absurd hm238 (by omega)
    | succ j ih =>
      intro k r h238 H238 locs238 ls238 hm238 go_238 ga_238 gxo_238 gxa_238 gyo_238 gya_238 hk hg hF T238 hl238
      refine lv_iload hx hb dX7_product_18 (lv_at hl238 4 rfl) ?_
      refine lv_iload_n hx hb dX7_product_20 rfl (lv_at hl238 3 rfl) ?_
      refine hn_icmp_ge (tgt := 38) hx hb dX7_product_21 (by decide) (by omega) (by omega) (fun c1 => ?_) (fun c1 => ?_)
      · refine lv_iconst (v := nI 0) hx hb dX7_product_38 rfl ?_
        refine lv_istore (lv' := [(4, .int (nI 0)), (0, .ref b), (1, .ref x), (2, .ref y), (3, .int (nI (lm N + lm M)))]) hx hb dX7_product_39 hl238 (by decide) rfl (fun ls239 hl239 => ?_)
        exact L2 (lm N + 1) 0 r _ _ _ _ (by omega) go_238 ga_238 gxo_238 gxa_238 gyo_238 gya_238 (Nat.zero_le _) (fun t _ h2 => hg t (by omega)) (by rw [Nat.zero_add, bv_tail (Nat.zero_le _) (fun i _ h2 => hg i (by omega))]; simp [bv]) hF T238 (lv_sub hl239 [1, 2, 3, 4, 0] rfl)
      · refine lv_aload_n hx hb dX7_product_24 rfl (lv_at hl238 0 rfl) ?_
        refine hr_get C T238 go_238 rfl in_X7 0 (by decide) q170 rfl rfl dX7_product_25 ?_
        refine lv_iload hx hb dX7_product_28 (lv_at hl238 4 rfl) ?_
        refine lv_iconst (v := nI 0) hx hb dX7_product_30 rfl ?_
        refine hr_iast C T238 ga_238 (by omega) (by omega) dX7_product_31 (fun h240 H240 locs240 eh240 T240 => ?_)
        have go_240 : h240 b = some (.inr (1, [.ref ca', .int (nI n0)]), b) := hu_n eh240 (hne_of go_238 ga_238 (fun z => by cases z)) go_238
        have ga_240 : h240 ca' = some (.inl (E.2.1 0, cap2, .inl (upd r k (nI 0))), b) := hu_s eh240
        have gxo_240 : h240 x = some (.inr (1, [.ref cx, .int (nI (lm N))]), x) := hu_n eh240 (hne_of gxo_238 ga_238 (fun z => hbx (congrArg Prod.snd z).symm)) gxo_238
        have gxa_240 : h240 cx = some (.inl (E.2.1 0, capx, .inl f), x) := hu_n eh240 (hne_of gxa_238 ga_238 (fun z => hbx (congrArg Prod.snd z).symm)) gxa_238
        have gyo_240 : h240 y = some (.inr (1, [.ref cy_, .int (nI (lm M))]), y) := hu_n eh240 (hne_of gyo_238 ga_238 (fun z => hby (congrArg Prod.snd z).symm)) gyo_238
        have gya_240 : h240 cy_ = some (.inl (E.2.1 0, capy, .inl g), y) := hu_n eh240 (hne_of gya_238 ga_238 (fun z => hby (congrArg Prod.snd z).symm)) gya_238
        have hF_240 : Fr (· = b) h h240 := hu_f eh240 hF ga_238 rfl
        refine lv_iinc (v := nI (k + 1)) (lv' := [(4, .int (nI (k + 1))), (0, .ref b), (1, .ref x), (2, .ref y), (3, .int (nI (lm N + lm M)))]) hx hb dX7_product_32 hl238 (k := 4) rfl (nI_add k 1) (by decide) rfl (fun ls241 hl241 => ?_)
        refine lv_goto (tgt := 18) hx hb dX7_product_35 (by decide) ?_
        exact ih (k + 1) _ _ _ _ _ (by omega) go_240 ga_240 gxo_240 gxa_240 gyo_240 gya_240 (by omega) (fun i hi => by by_cases z : i = k; (subst z; rw [pk_us]; rfl); (rw [pk_un z]; exact hg i (by omega))) hF_240 T240 (lv_sub hl241 [1, 2, 3, 4, 0] rfl)
  exact L1 (lm N + lm M + 1) 0 f' _ _ _ _ (by omega) bo2 ba2 kxo kxa kyo kya (Nat.zero_le _) (fun i hi => absurd hi (by omega)) hF2 T220 (lv_sub hl221 [2, 3, 4, 1, 0] rfl)
