set_option maxRecDepth 100000
theorem cmpN_neg {a b : Nat} : (cmpN a b).toInt < 0 ↔ a < b := by
  unfold cmpN
  split
  · exact ⟨fun _ => by assumption, fun _ => by decide⟩
  · split
    · exact ⟨fun z => absurd z (by decide), fun z => by omega⟩
    · exact ⟨fun z => absurd z (by decide), fun z => by omega⟩
theorem cmpN_npos {a b : Nat} : (cmpN a b).toInt ≤ 0 ↔ a ≤ b := by
  unfold cmpN
  split
  · exact ⟨fun _ => by omega, fun _ => by decide⟩
  · split
    · exact ⟨fun _ => by omega, fun _ => by decide⟩
    · exact ⟨fun z => absurd z (by decide), fun z => by omega⟩
theorem fitz {x : Nat} (h : x ≤ 1) : fits .boolean (.int (nI x)) = true := by
  rcases (show x = 0 ∨ x = 1 by omega) with z | z <;> rw [z] <;> rfl
theorem lm_1 {v : Nat} (h : v < 4294967296) : lm v ≤ 1 := lm_le (by rw [Nat.pow_one]; exact h)
theorem lm_mul1 {a v : Nat} (h : v < 4294967296) : lm (a * v) ≤ lm a + 1 := Nat.le_trans (lm_mul a v) (by have := lm_1 h; omega)

theorem kd_X1_margin : yX1_margin.cls = RX1 ∧ yX1_margin.cls ≠ "java/lang/invoke/MethodHandle" ∧ yX1_margin.cls ≠ "java/lang/invoke/VarHandle" ∧ (parseMethodDescriptor yX1_margin.desc).map (fun d => d.parameters.length) = some 1 := by decide +kernel
theorem kd_X1_least : yX1_least.cls = RX1 ∧ yX1_least.cls ≠ "java/lang/invoke/MethodHandle" ∧ yX1_least.cls ≠ "java/lang/invoke/VarHandle" ∧ (parseMethodDescriptor yX1_least.desc).map (fun d => d.parameters.length) = some 0 := by decide +kernel
theorem kd_X1_reaches : yX1_reaches.cls = RX1 ∧ yX1_reaches.cls ≠ "java/lang/invoke/MethodHandle" ∧ yX1_reaches.cls ≠ "java/lang/invoke/VarHandle" ∧ (parseMethodDescriptor yX1_reaches.desc).map (fun d => d.parameters.length) = some 2 := by decide +kernel

section HMN
variable {p : Program} {l : Launch} {e : Env} {R : Room} {s : State} {m : MethodId} {args : Array Value} {below : List Frame} {meth : Method} {c : Code} {H : Heap} {locs : List Loc} {cells slots : Nat} {Q : State → Prop}
variable {cc : ByteArray} {nL : Nat} {own : String} {pc : Nat} {ls : Array Slot} {rest : List Value} {E : GE} {a b index : Nat}
theorem hn_mmin (C : Cx E p s m args meth c cc nL own) (hls : ls.size = nL) (hl : Cond.methodLink own index yJ0_min ∈ lw_all) (ha : a < 2 ^ 31) (hb : b < 2 ^ 31) (hfr : 1 ≤ R.frames) (hlo : (rest.map fun v => v.category).sum + 13 ≤ R.locals) (hc : cells ≤ R.cells) (hs : slots ≤ R.slots) (d : decode cc pc = .ok (.invokestatic index, 3))
    (kk : W p l e R s m args below meth c H locs cells slots Q (F0 m (pc + 3) ls (.int (nI (min a b)) :: rest))) : W p l e R s m args below meth c H locs cells slots Q (F0 m pc ls (.int (nI b) :: .int (nI a) :: rest)) :=
  va_mmin C.x C.b (by rw [C.ml, hls]) C.ow (C.ts _ hl) (C.ts _ q768) (C.ts _ q62) (C.ts _ q769) hfr hlo hc hs d (by
    rw [show (if nI b < nI a then nI b else nI a) = nI (min a b) from ?_]
    · exact kk
    · by_cases h : b < a
      · rw [if_pos ((nI_ltI hb ha).mpr h), Nat.min_eq_right (by omega)]
      · rw [if_neg (fun z => h ((nI_ltI hb ha).mp z)), Nat.min_eq_left (by omega)])
end HMN

set_option maxHeartbeats 4000000 in
theorem p_X1_margin {E : GE} {l : Launch} {h : HH} {L B N : Nat → Nat} {M : Nat → Nat → Nat} {pp k a d : Nat} {g pw pl ps : Nat → Int32} (ho0 : h (L 0) = some (.inr (0, [.ref (L 1), .int (nI (N 0)), .ref (L 3), .int (nI (N 1)), .int (nI (N 2)), .int (nI (N 3)), .int (nI (N 4)), .int (nI (N 5)), .int (nI (N 6)), .int (nI (N 7)), .int (nI (N 8)), .ref (L 12), .ref (L 13), .ref (L 14), .ref (L 15), .ref (L 16), .ref (L 17), .int (nI (N 11)), .int (nI (N 15)), .int (nI (N 16)), .int (nI (N 17)), .int (nI (N 18) - 1), .int (nI (N 19)), .ref (L 24), .int (nI pp), .ref (L 26), .ref (L 27), .ref (if N 13 = 1 then L 27 else L 26), .ref (L 29), .ref (L 30), .ref (if N 12 = 1 then L 30 else L 29), .ref (L 32), .ref (B 0), .ref (B 1), .ref (B 2), .ref (B 3), .ref (L 37), .ref (L 38), .ref (L 39), .ref (B 4), .ref (B 5)]), L 0)) (ha1 : h (L 1) = some (.inl (E.2.1 0, 8, .inl g), L 0)) (hpk : h (L (70 + k)) = some (.inr (8, [.int (pw k), .int (pl k), .int (ps k), .ref (B (19 + 2 * k)), .ref (B (20 + 2 * k))]), L 24)) (hw1 : pw k = nI a) (hw2 : pl k = nI d) (ha : a < 8) (hd : d < 8) (r1 : ∀ i, i < 8 → g i = nI (M 0 i)) (hle : M 0 d ≤ M 0 a) : MP E l yX1_margin cX1_margin 2 (some .int) ({ frames := 0, cells := 0, slots := 0, locals := 0 } : Room) [.ref (L 0), .ref (L (70 + k))] h (fun rv => rv = some (.int (nI (M 0 a - M 0 d)))) := by
  refine hp_i (by decide) (Nat.le_of_ble_eq_true rfl) ?_
  intro p e s m below meth c C Q Z ls T hl
  have hx := C.x
  have hb := C.b
  have hl : lv_has ls 2 [(0, .ref (L 0)), (1, .ref (L (70 + k)))] := hl
  refine lv_aload_n hx hb dX1_margin_0 rfl (lv_at hl 0 rfl) ?_
  refine hr_get C T ho0 rfl in_X1 0 (by decide) q290 rfl rfl dX1_margin_1 ?_
  refine lv_aload_n hx hb dX1_margin_4 rfl (lv_at hl 1 rfl) ?_
  refine hr_getN C T hpk rfl in_X9 0 (by decide) 8 rfl rfl rfl dX1_margin_5 ?_
  rw [show pw k = nI a from hw1]
  refine hr_iald C T ha1 (by omega) (by omega) dX1_margin_8 ?_
  rw [show g a = nI (M 0 a) from r1 a ha]
  refine lv_aload_n hx hb dX1_margin_9 rfl (lv_at hl 0 rfl) ?_
  refine hr_get C T ho0 rfl in_X1 0 (by decide) q290 rfl rfl dX1_margin_10 ?_
  refine lv_aload_n hx hb dX1_margin_13 rfl (lv_at hl 1 rfl) ?_
  refine hr_getN C T hpk rfl in_X9 1 (by decide) 9 rfl rfl rfl dX1_margin_14 ?_
  rw [show pl k = nI d from hw2]
  refine hr_iald C T ha1 (by omega) (by omega) dX1_margin_17 ?_
  rw [show g d = nI (M 0 d) from r1 d hd]
  refine hn_isub hx hb dX1_margin_18 (by omega) ?_
  exact Z _ _ _ _ dX1_margin_19 rfl T

def mgn (M : Nat → Nat → Nat) (k : Nat) : Nat := M 0 (M 4 k) - M 0 (M 5 k)
/-- the least margin of pairs 0 .. n -/
def lst (M : Nat → Nat → Nat) : Nat → Nat
  | 0 => mgn M 0
  | n + 1 => min (lst M n) (mgn M (n + 1))
theorem lst_le {M : Nat → Nat → Nat} (h : ∀ i, i < 8 → M 0 i ≤ 1000000) (h4 : M 4 0 < 8) : ∀ n, lst M n ≤ 1000000 := by
  intro n
  induction n with
  | zero => have := h _ h4; unfold lst mgn; omega
  | succ n ih => exact Nat.le_trans (Nat.min_le_left _ _) ih
/-- the pairs as they stand -/
def PWh (M : Nat → Nat → Nat) (pw pl : Nat → Int32) (pp : Nat) : Prop := ∀ k, k < pp → pw k = nI (M 4 k) ∧ pl k = nI (M 5 k) ∧ M 4 k < 8 ∧ M 5 k < 8 ∧ M 0 (M 5 k) < M 0 (M 4 k)

set_option maxHeartbeats 4000000 in
theorem m_X1_least {E : GE} {l : Launch} {h : HH} {L B N : Nat → Nat} {M : Nat → Nat → Nat} {pp : Nat} {g pw pl ps : Nat → Int32} (ho0 : h (L 0) = some (.inr (0, [.ref (L 1), .int (nI (N 0)), .ref (L 3), .int (nI (N 1)), .int (nI (N 2)), .int (nI (N 3)), .int (nI (N 4)), .int (nI (N 5)), .int (nI (N 6)), .int (nI (N 7)), .int (nI (N 8)), .ref (L 12), .ref (L 13), .ref (L 14), .ref (L 15), .ref (L 16), .ref (L 17), .int (nI (N 11)), .int (nI (N 15)), .int (nI (N 16)), .int (nI (N 17)), .int (nI (N 18) - 1), .int (nI (N 19)), .ref (L 24), .int (nI pp), .ref (L 26), .ref (L 27), .ref (if N 13 = 1 then L 27 else L 26), .ref (L 29), .ref (L 30), .ref (if N 12 = 1 then L 30 else L 29), .ref (L 32), .ref (B 0), .ref (B 1), .ref (B 2), .ref (B 3), .ref (L 37), .ref (L 38), .ref (L 39), .ref (B 4), .ref (B 5)]), L 0)) (ha1 : h (L 1) = some (.inl (E.2.1 0, 8, .inl g), L 0)) (hSt : Stt E L B h) (hPr : Prs L B pw pl ps h) (hp0 : 0 < pp) (rp16 : pp ≤ 16) (r1 : ∀ i, i < 8 → g i = nI (M 0 i)) (iv : ∀ i, i < 8 → M 0 i ≤ 1000000) (hPW : PWh M pw pl pp) : MM E l yX1_least cX1_least 3 (some .int) ({ frames := 1, cells := 0, slots := 0, locals := 150 } : Room) [.ref (L 0)] h (fun rv h2 => rv = some (.int (nI (lst M (pp - 1)))) ∧ h2 = h) := by
  refine hm_i (by decide) (Nat.le_of_ble_eq_true rfl) ?_
  intro p e s m below meth c C hnm Q Z ls T hl
  have hx := C.x
  have hb := C.b
  have hl : lv_has ls 3 [(0, .ref (L 0))] := hl
  refine lv_aload_n hx hb dX1_least_0 rfl (lv_at hl 0 rfl) ?_
  refine lv_aload_n hx hb dX1_least_1 rfl (lv_at hl 0 rfl) ?_
  refine hr_get C T ho0 rfl in_X1 23 (by decide) q320 rfl rfl dX1_least_2 ?_
  refine lv_iconst (v := nI 0) hx hb dX1_least_5 rfl ?_
  have hst24x2901 := (hSt).1
  refine hr_aald C T 6 rfl hst24x2901 (by omega) (by omega) rfl dX1_least_6 ?_
  have hpr2902 := hPr 0 (by omega)
  obtain ⟨ma2903, mb2903, mc2903, md2903, me2903⟩ := hPW 0 (by omega)
  refine hp_V C T hl.1 ho0 rfl (p_X1_margin (M := M) ho0 ha1 hpr2902 ma2903 mb2903 mc2903 md2903 r1 (Nat.le_of_lt me2903)) q766 q759 qs9 q53 q760 kd_X1_margin rfl rfl ⟨Nat.le_of_ble_eq_true rfl, Nat.le_of_ble_eq_true rfl⟩ (Nat.le_of_ble_eq_true rfl) dX1_least_7 ⟨Nat.le_of_ble_eq_true rfl, Nat.le_of_ble_eq_true rfl⟩ (fun rv H2904 hp2904 T2904 => ?_)
  obtain rfl := hp2904
  refine W.eq (g2 := F0 m 10 ls [.int (nI (mgn M 0))]) rfl ?_
  have mh2903 := iv _ mc2903
  have mg2903 : mgn M 0 ≤ 1000000 := Nat.le_trans (Nat.sub_le _ _) mh2903
  have hl0 := lst_le iv (hPW 0 (by omega)).2.2.1
  refine lv_istore_n (lv' := [(1, .int (nI (lst M 0))), (0, .ref (L 0))]) hx hb dX1_least_10 rfl hl (by decide) rfl (fun ls2905 hl2905 => ?_)
  refine lv_iconst (v := nI 1) hx hb dX1_least_11 rfl ?_
  refine lv_istore_n (lv' := [(2, .int (nI 1)), (1, .int (nI (lst M 0))), (0, .ref (L 0))]) hx hb dX1_least_12 rfl hl2905 (by decide) rfl (fun ls2906 hl2906 => ?_)
  have L1 : ∀ (j : Nat) (k : Nat) (H2907 : Heap) (locs2907 : List Loc) (ls2907 : Array Slot), (pp + 1 ≤ k + 1 + j) → (k + 1 ≤ pp) → (St E s h H2907 locs2907) → (lv_has ls2907 3 [(0, .ref (L 0)), (1, .int (nI (lst M k))), (2, .int (nI (k + 1)))]) → W p l e ({ frames := 1, cells := 0, slots := 0, locals := 150 } : Room) s m ([.ref (L 0)] : List Value).toArray below meth c H2907 locs2907 0 0 Q (F0 m 13 ls2907 []) := by
    intro j
    induction j with
    | zero => intro k H2907 locs2907 ls2907 hm2907 hk T2907 hl2907; exact absurd hm2907 (by omega)
    | succ j ih2907 =>
      intro k H2907 locs2907 ls2907 hm2907 hk T2907 hl2907
      have hlk := hl0 k
      refine lv_iload_n hx hb dX1_least_13 rfl (lv_at hl2907 2 rfl) ?_
      refine lv_aload_n hx hb dX1_least_14 rfl (lv_at hl2907 0 rfl) ?_
      refine hr_get C T2907 ho0 rfl in_X1 24 (by decide) q323 rfl rfl dX1_least_15 ?_
      refine hn_icmp_ge (tgt := 42) hx hb dX1_least_18 (by decide) (by omega) (by omega) (fun c1 => ?_) (fun c1 => ?_)
      · have e1 : k = pp - 1 := by omega
        refine lv_iload_n hx hb dX1_least_42 rfl (lv_at hl2907 1 rfl) ?_
        exact Z _ _ _ _ _ _ dX1_least_43 ⟨by rw [e1], rfl⟩ T2907
      · refine lv_iload_n hx hb dX1_least_21 rfl (lv_at hl2907 1 rfl) ?_
        refine lv_aload_n hx hb dX1_least_22 rfl (lv_at hl2907 0 rfl) ?_
        refine lv_aload_n hx hb dX1_least_23 rfl (lv_at hl2907 0 rfl) ?_
        refine hr_get C T2907 ho0 rfl in_X1 23 (by decide) q320 rfl rfl dX1_least_24 ?_
        refine lv_iload_n hx hb dX1_least_27 rfl (lv_at hl2907 2 rfl) ?_
        refine hr_aald C T2907 6 rfl hst24x2901 (by omega) (by omega) rfl dX1_least_28 ?_
        have hpr2908 := hPr (k + 1) (by omega)
        obtain ⟨ma2909, mb2909, mc2909, md2909, me2909⟩ := hPW (k + 1) (by omega)
        refine hp_V C T2907 hl2907.1 ho0 rfl (p_X1_margin (M := M) ho0 ha1 hpr2908 ma2909 mb2909 mc2909 md2909 r1 (Nat.le_of_lt me2909)) q766 q759 qs9 q53 q760 kd_X1_margin rfl rfl ⟨Nat.le_of_ble_eq_true rfl, Nat.le_of_ble_eq_true rfl⟩ (Nat.le_of_ble_eq_true rfl) dX1_least_29 ⟨Nat.le_of_ble_eq_true rfl, Nat.le_of_ble_eq_true rfl⟩ (fun rv H2910 hp2910 T2910 => ?_)
        obtain rfl := hp2910
        refine W.eq (g2 := F0 m 32 ls2907 [.int (nI (mgn M (k + 1))), .int (nI (lst M k))]) rfl ?_
        have mh2909 := iv _ mc2909
        have mg2909 : mgn M (k + 1) ≤ 1000000 := Nat.le_trans (Nat.sub_le _ _) mh2909
        refine hn_mmin C hl2907.1 q767 (by omega) (by omega) (Nat.le_of_ble_eq_true rfl) (Nat.le_of_ble_eq_true rfl) (Nat.zero_le _) (Nat.zero_le _) dX1_least_32 ?_
        refine lv_istore_n (lv' := [(1, .int (nI (lst M (k + 1)))), (0, .ref (L 0)), (2, .int (nI (k + 1)))]) hx hb dX1_least_35 rfl hl2907 (by decide) rfl (fun ls2911 hl2911 => ?_)
        refine lv_iinc (v := nI (k + 1 + 1)) (lv' := [(2, .int (nI (k + 1 + 1))), (1, .int (nI (lst M (k + 1)))), (0, .ref (L 0))]) hx hb dX1_least_36 hl2911 (k := 2) rfl (nI_add (k + 1) 1) (by decide) rfl (fun ls2912 hl2912 => ?_)
        refine lv_goto (tgt := 13) hx hb dX1_least_39 (by decide) ?_
        exact ih2907 (k + 1) _ _ _ (by omega) (by omega) T2910 (lv_sub hl2912 [2, 1, 0] rfl)
  exact L1 (pp + 1) 0 _ _ _ (by omega) (by omega) T2904 (lv_sub hl2906 [2, 1, 0] rfl)

set_option maxHeartbeats 4000000 in
theorem m_X1_reaches {E : GE} {l : Launch} {h : HH} {L B N V cp : Nat → Nat} {pp i k : Nat} (hLay : Lay L B) (hB : Bgs E h B V cp) (ho0 : h (L 0) = some (.inr (0, [.ref (L 1), .int (nI (N 0)), .ref (L 3), .int (nI (N 1)), .int (nI (N 2)), .int (nI (N 3)), .int (nI (N 4)), .int (nI (N 5)), .int (nI (N 6)), .int (nI (N 7)), .int (nI (N 8)), .ref (L 12), .ref (L 13), .ref (L 14), .ref (L 15), .ref (L 16), .ref (L 17), .int (nI (N 11)), .int (nI (N 15)), .int (nI (N 16)), .int (nI (N 17)), .int (nI (N 18) - 1), .int (nI (N 19)), .ref (L 24), .int (nI pp), .ref (L 26), .ref (L 27), .ref (if N 13 = 1 then L 27 else L 26), .ref (L 29), .ref (L 30), .ref (if N 12 = 1 then L 30 else L 29), .ref (L 32), .ref (B 0), .ref (B 1), .ref (B 2), .ref (B 3), .ref (L 37), .ref (L 38), .ref (L 39), .ref (B 4), .ref (B 5)]), L 0)) (hi : i < NB) (hk : k < NB) (hi2 : 1 < i) (hk2 : 1 < k) (hl5 : N 5 ≤ 1000000) (hl6 : N 6 ≤ 1000000) (hmi : lm (V i) + 1 ≤ 128) (hmk : lm (V k) + 1 ≤ 128) : MG E l yX1_reaches cX1_reaches 3 (some .boolean) ({ frames := 3, cells := (KX - ksum cp NB) / 8 + 8, slots := 2 * (KX - ksum cp NB) + 2048, locals := 450 } : Room) [.ref (L 0), .ref (B i), .ref (B k)] h (fun rv h2 dc ds => rv = some (.int (if V k * N 6 ≤ V i * N 5 then 1 else 0)) ∧ ∃ V2 c2, Bgs E h2 B V2 c2 ∧ (∀ n, n ≠ 0 → n ≠ 1 → V2 n = V n) ∧ Fr (BO B) h h2 ∧ Gw cp c2 dc ds) := by
  refine hn_z (by decide) (Nat.le_of_ble_eq_true rfl) ?_
  intro p e s m below meth c C hnm Q Z ls T hl
  have hx := C.x
  have hb := C.b
  have hl : lv_has ls 3 [(0, .ref (L 0)), (1, .ref (B i)), (2, .ref (B k))] := hl
  have hF : Fr (BO B) h h := Fr.rf
  refine lv_aload_n hx hb dX1_reaches_0 rfl (lv_at hl 0 rfl) ?_
  refine hr_get C T ho0 rfl in_X1 32 (by decide) q333 rfl rfl dX1_reaches_1 ?_
  refine lv_aload_n hx hb dX1_reaches_4 rfl (lv_at hl 1 rfl) ?_
  obtain ⟨ca2913, hbo2913⟩ := hB.o (i := 0) (by decide)
  refine hg_V C T hl.1 hbo2913 rfl (g_copy (i := 0) (j := i) hB (by decide) (show i < 1973 by omega) (by omega) (by omega)) q800 q783 q784 q59 q785 kd_X7_copy rfl rfl ⟨Nat.le_of_ble_eq_true rfl, Nat.le_of_ble_eq_true rfl⟩ (Nat.le_of_ble_eq_true rfl) dX1_reaches_5 ⟨by have hgw := (Gw.rf (cp := cp)); have hg1 := hgw.1; have hg2 := hgw.2; have hkm := hB.kmax; have := gc_le (cp 0) (lm (V i)); have := gs_le ((hB.1 0 (by decide)).cap.2.2) (show lm (V i) ≤ 128 from (by omega)); show 0 + (gc (cp 0) (lm (V i))) ≤ (KX - ksum cp NB) / 8 + 8; omega, by have hgw := (Gw.rf (cp := cp)); have hg1 := hgw.1; have hg2 := hgw.2; have hkm := hB.kmax; have := gc_le (cp 0) (lm (V i)); have := gs_le ((hB.1 0 (by decide)).cap.2.2) (show lm (V i) ≤ 128 from (by omega)); show 0 + (gs (cp 0) (lm (V i))) ≤ 2 * (KX - ksum cp NB) + 2048; omega⟩ (fun rv h2914 dc2914 ds2914 H2914 locs2914 hp2914 T2914 => ?_)
  obtain ⟨rfl, c2914, hB2914, hF2914, hw2914⟩ := hp2914
  have hW2914 := (Gw.rf (cp := cp)).tr hw2914
  have hF_2914 : Fr (BO B) h h2914 := hF.tr (hF2914.mono (fun _ z => z))
  refine W.eq (g2 := F0 m 8 ls []) rfl ?_
  refine lv_aload_n hx hb dX1_reaches_8 rfl (lv_at hl 0 rfl) ?_
  have ho0_2914 : h2914 (L 0) = some (.inr (0, [.ref (L 1), .int (nI (N 0)), .ref (L 3), .int (nI (N 1)), .int (nI (N 2)), .int (nI (N 3)), .int (nI (N 4)), .int (nI (N 5)), .int (nI (N 6)), .int (nI (N 7)), .int (nI (N 8)), .ref (L 12), .ref (L 13), .ref (L 14), .ref (L 15), .ref (L 16), .ref (L 17), .int (nI (N 11)), .int (nI (N 15)), .int (nI (N 16)), .int (nI (N 17)), .int (nI (N 18) - 1), .int (nI (N 19)), .ref (L 24), .int (nI pp), .ref (L 26), .ref (L 27), .ref (if N 13 = 1 then L 27 else L 26), .ref (L 29), .ref (L 30), .ref (if N 12 = 1 then L 30 else L 29), .ref (L 32), .ref (B 0), .ref (B 1), .ref (B 2), .ref (B 3), .ref (L 37), .ref (L 38), .ref (L 39), .ref (B 4), .ref (B 5)]), L 0) := hF2914 _ _ ho0 (fun ⟨i, hi, e⟩ => hLay.2 i 0 hi (by decide) e.symm)
  refine hr_get C T2914 ho0_2914 rfl in_X1 32 (by decide) q333 rfl rfl dX1_reaches_9 ?_
  refine lv_aload_n hx hb dX1_reaches_12 rfl (lv_at hl 0 rfl) ?_
  refine hr_get C T2914 ho0_2914 rfl in_X1 7 (by decide) q298 rfl rfl dX1_reaches_13 ?_
  obtain ⟨ca2915, hbo2915⟩ := hB2914.o (i := 0) (by decide)
  refine hg_V C T2914 hl.1 hbo2915 rfl (g_times (i := 0) hB2914 (by decide) (by omega) (by rw [nu_s]; omega)) q801 q787 q788 q59 q789 kd_X7_times rfl rfl ⟨Nat.le_of_ble_eq_true rfl, Nat.le_of_ble_eq_true rfl⟩ (Nat.le_of_ble_eq_true rfl) dX1_reaches_16 ⟨by have hgw := (hW2914); have hg1 := hgw.1; have hg2 := hgw.2; have hkm := hB2914.kmax; have := gc_le ((nu cp 0 c2914) 0) (lm ((nu V 0 (V i)) 0) + 1); have := gs_le ((hB2914.1 0 (by decide)).cap.2.2) (show lm ((nu V 0 (V i)) 0) + 1 ≤ 128 from (by rw [nu_s]; omega)); show 0 + dc2914 + (gc ((nu cp 0 c2914) 0) (lm ((nu V 0 (V i)) 0) + 1)) ≤ (KX - ksum cp NB) / 8 + 8; omega, by have hgw := (hW2914); have hg1 := hgw.1; have hg2 := hgw.2; have hkm := hB2914.kmax; have := gc_le ((nu cp 0 c2914) 0) (lm ((nu V 0 (V i)) 0) + 1); have := gs_le ((hB2914.1 0 (by decide)).cap.2.2) (show lm ((nu V 0 (V i)) 0) + 1 ≤ 128 from (by rw [nu_s]; omega)); show 0 + ds2914 + (gs ((nu cp 0 c2914) 0) (lm ((nu V 0 (V i)) 0) + 1)) ≤ 2 * (KX - ksum cp NB) + 2048; omega⟩ (fun rv h2916 dc2916 ds2916 H2916 locs2916 hp2916 T2916 => ?_)
  obtain ⟨rfl, c2916, hB2916, hF2916, hw2916⟩ := hp2916
  have hW2916 := (hW2914).tr hw2916
  have hF_2916 : Fr (BO B) h h2916 := hF_2914.tr (hF2916.mono (fun _ z => z))
  refine W.eq (g2 := F0 m 19 ls []) rfl ?_
  refine lv_aload_n hx hb dX1_reaches_19 rfl (lv_at hl 0 rfl) ?_
  have ho0_2916 : h2916 (L 0) = some (.inr (0, [.ref (L 1), .int (nI (N 0)), .ref (L 3), .int (nI (N 1)), .int (nI (N 2)), .int (nI (N 3)), .int (nI (N 4)), .int (nI (N 5)), .int (nI (N 6)), .int (nI (N 7)), .int (nI (N 8)), .ref (L 12), .ref (L 13), .ref (L 14), .ref (L 15), .ref (L 16), .ref (L 17), .int (nI (N 11)), .int (nI (N 15)), .int (nI (N 16)), .int (nI (N 17)), .int (nI (N 18) - 1), .int (nI (N 19)), .ref (L 24), .int (nI pp), .ref (L 26), .ref (L 27), .ref (if N 13 = 1 then L 27 else L 26), .ref (L 29), .ref (L 30), .ref (if N 12 = 1 then L 30 else L 29), .ref (L 32), .ref (B 0), .ref (B 1), .ref (B 2), .ref (B 3), .ref (L 37), .ref (L 38), .ref (L 39), .ref (B 4), .ref (B 5)]), L 0) := hF2916 _ _ ho0_2914 (fun ⟨i, hi, e⟩ => hLay.2 i 0 hi (by decide) e.symm)
  refine hr_get C T2916 ho0_2916 rfl in_X1 33 (by decide) q335 rfl rfl dX1_reaches_20 ?_
  refine lv_aload_n hx hb dX1_reaches_23 rfl (lv_at hl 2 rfl) ?_
  obtain ⟨ca2917, hbo2917⟩ := hB2916.o (i := 1) (by decide)
  refine hg_V C T2916 hl.1 hbo2917 rfl (g_copy (i := 1) (j := k) hB2916 (by decide) (show k < 1973 by omega) (by omega) (by rw [nu_n (show k ≠ 0 by omega), nu_n (show k ≠ 0 by omega)]; omega)) q800 q783 q784 q59 q785 kd_X7_copy rfl rfl ⟨Nat.le_of_ble_eq_true rfl, Nat.le_of_ble_eq_true rfl⟩ (Nat.le_of_ble_eq_true rfl) dX1_reaches_24 ⟨by have hgw := (hW2916); have hg1 := hgw.1; have hg2 := hgw.2; have hkm := hB2916.kmax; have := gc_le ((nu (nu cp 0 c2914) 0 c2916) 1) (lm ((nu (nu V 0 (V i)) 0 ((nu V 0 (V i)) 0 * (N 5))) k)); have := gs_le ((hB2916.1 1 (by decide)).cap.2.2) (show lm ((nu (nu V 0 (V i)) 0 ((nu V 0 (V i)) 0 * (N 5))) k) ≤ 128 from (by rw [nu_n (show k ≠ 0 by omega), nu_n (show k ≠ 0 by omega)]; omega)); show 0 + dc2914 + dc2916 + (gc ((nu (nu cp 0 c2914) 0 c2916) 1) (lm ((nu (nu V 0 (V i)) 0 ((nu V 0 (V i)) 0 * (N 5))) k))) ≤ (KX - ksum cp NB) / 8 + 8; omega, by have hgw := (hW2916); have hg1 := hgw.1; have hg2 := hgw.2; have hkm := hB2916.kmax; have := gc_le ((nu (nu cp 0 c2914) 0 c2916) 1) (lm ((nu (nu V 0 (V i)) 0 ((nu V 0 (V i)) 0 * (N 5))) k)); have := gs_le ((hB2916.1 1 (by decide)).cap.2.2) (show lm ((nu (nu V 0 (V i)) 0 ((nu V 0 (V i)) 0 * (N 5))) k) ≤ 128 from (by rw [nu_n (show k ≠ 0 by omega), nu_n (show k ≠ 0 by omega)]; omega)); show 0 + ds2914 + ds2916 + (gs ((nu (nu cp 0 c2914) 0 c2916) 1) (lm ((nu (nu V 0 (V i)) 0 ((nu V 0 (V i)) 0 * (N 5))) k))) ≤ 2 * (KX - ksum cp NB) + 2048; omega⟩ (fun rv h2918 dc2918 ds2918 H2918 locs2918 hp2918 T2918 => ?_)
  obtain ⟨rfl, c2918, hB2918, hF2918, hw2918⟩ := hp2918
  have hW2918 := (hW2916).tr hw2918
  have hF_2918 : Fr (BO B) h h2918 := hF_2916.tr (hF2918.mono (fun _ z => z))
  refine W.eq (g2 := F0 m 27 ls []) rfl ?_
  refine lv_aload_n hx hb dX1_reaches_27 rfl (lv_at hl 0 rfl) ?_
  have ho0_2918 : h2918 (L 0) = some (.inr (0, [.ref (L 1), .int (nI (N 0)), .ref (L 3), .int (nI (N 1)), .int (nI (N 2)), .int (nI (N 3)), .int (nI (N 4)), .int (nI (N 5)), .int (nI (N 6)), .int (nI (N 7)), .int (nI (N 8)), .ref (L 12), .ref (L 13), .ref (L 14), .ref (L 15), .ref (L 16), .ref (L 17), .int (nI (N 11)), .int (nI (N 15)), .int (nI (N 16)), .int (nI (N 17)), .int (nI (N 18) - 1), .int (nI (N 19)), .ref (L 24), .int (nI pp), .ref (L 26), .ref (L 27), .ref (if N 13 = 1 then L 27 else L 26), .ref (L 29), .ref (L 30), .ref (if N 12 = 1 then L 30 else L 29), .ref (L 32), .ref (B 0), .ref (B 1), .ref (B 2), .ref (B 3), .ref (L 37), .ref (L 38), .ref (L 39), .ref (B 4), .ref (B 5)]), L 0) := hF2918 _ _ ho0_2916 (fun ⟨i, hi, e⟩ => hLay.2 i 0 hi (by decide) e.symm)
  refine hr_get C T2918 ho0_2918 rfl in_X1 33 (by decide) q335 rfl rfl dX1_reaches_28 ?_
  refine lv_aload_n hx hb dX1_reaches_31 rfl (lv_at hl 0 rfl) ?_
  refine hr_get C T2918 ho0_2918 rfl in_X1 8 (by decide) q301 rfl rfl dX1_reaches_32 ?_
  obtain ⟨ca2919, hbo2919⟩ := hB2918.o (i := 1) (by decide)
  refine hg_V C T2918 hl.1 hbo2919 rfl (g_times (i := 1) hB2918 (by decide) (by omega) (by rw [nu_s, nu_n (show k ≠ 0 by omega), nu_n (show k ≠ 0 by omega)]; omega)) q801 q787 q788 q59 q789 kd_X7_times rfl rfl ⟨Nat.le_of_ble_eq_true rfl, Nat.le_of_ble_eq_true rfl⟩ (Nat.le_of_ble_eq_true rfl) dX1_reaches_35 ⟨by have hgw := (hW2918); have hg1 := hgw.1; have hg2 := hgw.2; have hkm := hB2918.kmax; have := gc_le ((nu (nu (nu cp 0 c2914) 0 c2916) 1 c2918) 1) (lm ((nu (nu (nu V 0 (V i)) 0 ((nu V 0 (V i)) 0 * (N 5))) 1 ((nu (nu V 0 (V i)) 0 ((nu V 0 (V i)) 0 * (N 5))) k)) 1) + 1); have := gs_le ((hB2918.1 1 (by decide)).cap.2.2) (show lm ((nu (nu (nu V 0 (V i)) 0 ((nu V 0 (V i)) 0 * (N 5))) 1 ((nu (nu V 0 (V i)) 0 ((nu V 0 (V i)) 0 * (N 5))) k)) 1) + 1 ≤ 128 from (by rw [nu_s, nu_n (show k ≠ 0 by omega), nu_n (show k ≠ 0 by omega)]; omega)); show 0 + dc2914 + dc2916 + dc2918 + (gc ((nu (nu (nu cp 0 c2914) 0 c2916) 1 c2918) 1) (lm ((nu (nu (nu V 0 (V i)) 0 ((nu V 0 (V i)) 0 * (N 5))) 1 ((nu (nu V 0 (V i)) 0 ((nu V 0 (V i)) 0 * (N 5))) k)) 1) + 1)) ≤ (KX - ksum cp NB) / 8 + 8; omega, by have hgw := (hW2918); have hg1 := hgw.1; have hg2 := hgw.2; have hkm := hB2918.kmax; have := gc_le ((nu (nu (nu cp 0 c2914) 0 c2916) 1 c2918) 1) (lm ((nu (nu (nu V 0 (V i)) 0 ((nu V 0 (V i)) 0 * (N 5))) 1 ((nu (nu V 0 (V i)) 0 ((nu V 0 (V i)) 0 * (N 5))) k)) 1) + 1); have := gs_le ((hB2918.1 1 (by decide)).cap.2.2) (show lm ((nu (nu (nu V 0 (V i)) 0 ((nu V 0 (V i)) 0 * (N 5))) 1 ((nu (nu V 0 (V i)) 0 ((nu V 0 (V i)) 0 * (N 5))) k)) 1) + 1 ≤ 128 from (by rw [nu_s, nu_n (show k ≠ 0 by omega), nu_n (show k ≠ 0 by omega)]; omega)); show 0 + ds2914 + ds2916 + ds2918 + (gs ((nu (nu (nu cp 0 c2914) 0 c2916) 1 c2918) 1) (lm ((nu (nu (nu V 0 (V i)) 0 ((nu V 0 (V i)) 0 * (N 5))) 1 ((nu (nu V 0 (V i)) 0 ((nu V 0 (V i)) 0 * (N 5))) k)) 1) + 1)) ≤ 2 * (KX - ksum cp NB) + 2048; omega⟩ (fun rv h2920 dc2920 ds2920 H2920 locs2920 hp2920 T2920 => ?_)
  obtain ⟨rfl, c2920, hB2920, hF2920, hw2920⟩ := hp2920
  have hW2920 := (hW2918).tr hw2920
  have hF_2920 : Fr (BO B) h h2920 := hF_2918.tr (hF2920.mono (fun _ z => z))
  refine W.eq (g2 := F0 m 38 ls []) rfl ?_
  refine lv_aload_n hx hb dX1_reaches_38 rfl (lv_at hl 0 rfl) ?_
  have ho0_2920 : h2920 (L 0) = some (.inr (0, [.ref (L 1), .int (nI (N 0)), .ref (L 3), .int (nI (N 1)), .int (nI (N 2)), .int (nI (N 3)), .int (nI (N 4)), .int (nI (N 5)), .int (nI (N 6)), .int (nI (N 7)), .int (nI (N 8)), .ref (L 12), .ref (L 13), .ref (L 14), .ref (L 15), .ref (L 16), .ref (L 17), .int (nI (N 11)), .int (nI (N 15)), .int (nI (N 16)), .int (nI (N 17)), .int (nI (N 18) - 1), .int (nI (N 19)), .ref (L 24), .int (nI pp), .ref (L 26), .ref (L 27), .ref (if N 13 = 1 then L 27 else L 26), .ref (L 29), .ref (L 30), .ref (if N 12 = 1 then L 30 else L 29), .ref (L 32), .ref (B 0), .ref (B 1), .ref (B 2), .ref (B 3), .ref (L 37), .ref (L 38), .ref (L 39), .ref (B 4), .ref (B 5)]), L 0) := hF2920 _ _ ho0_2918 (fun ⟨i, hi, e⟩ => hLay.2 i 0 hi (by decide) e.symm)
  refine hr_get C T2920 ho0_2920 rfl in_X1 32 (by decide) q333 rfl rfl dX1_reaches_39 ?_
  refine lv_aload_n hx hb dX1_reaches_42 rfl (lv_at hl 0 rfl) ?_
  refine hr_get C T2920 ho0_2920 rfl in_X1 33 (by decide) q335 rfl rfl dX1_reaches_43 ?_
  obtain ⟨ca2921, hbo2921⟩ := hB2920.o (i := 0) (by decide)
  refine hc_V C T2920 hl.1 hbo2921 rfl (g_compare (i := 0) (j := 1) hB2920 (by decide) (by decide)) q802 q803 q804 q59 q805 kd_X7_compare rfl rfl ⟨Nat.le_of_ble_eq_true rfl, Nat.le_of_ble_eq_true rfl⟩ (Nat.le_of_ble_eq_true rfl) dX1_reaches_46 ⟨by have hgw := (hW2920); have hg1 := hgw.1; have hg2 := hgw.2; have hkm := hB2920.kmax; show 0 + dc2914 + dc2916 + dc2918 + dc2920 + 0 ≤ (KX - ksum cp NB) / 8 + 8; omega, by have hgw := (hW2920); have hg1 := hgw.1; have hg2 := hgw.2; have hkm := hB2920.kmax; show 0 + ds2914 + ds2916 + ds2918 + ds2920 + 0 ≤ 2 * (KX - ksum cp NB) + 2048; omega⟩ (fun rv h2922 H2922 locs2922 hp2922 T2922 => ?_)
  obtain ⟨rfl, hq2922⟩ := hp2922
  rw [hq2922] at T2922
  rw [show cmpN ((nu (nu (nu (nu V 0 (V i)) 0 ((nu V 0 (V i)) 0 * (N 5))) 1 ((nu (nu V 0 (V i)) 0 ((nu V 0 (V i)) 0 * (N 5))) k)) 1 ((nu (nu (nu V 0 (V i)) 0 ((nu V 0 (V i)) 0 * (N 5))) 1 ((nu (nu V 0 (V i)) 0 ((nu V 0 (V i)) 0 * (N 5))) k)) 1 * (N 6))) 0) ((nu (nu (nu (nu V 0 (V i)) 0 ((nu V 0 (V i)) 0 * (N 5))) 1 ((nu (nu V 0 (V i)) 0 ((nu V 0 (V i)) 0 * (N 5))) k)) 1 ((nu (nu (nu V 0 (V i)) 0 ((nu V 0 (V i)) 0 * (N 5))) 1 ((nu (nu V 0 (V i)) 0 ((nu V 0 (V i)) 0 * (N 5))) k)) 1 * (N 6))) 1) = cmpN (V i * N 5) (V k * N 6) from by rw [nu_n (show (0 : Nat) ≠ 1 by decide), nu_n (show (0 : Nat) ≠ 1 by decide), nu_s, nu_s, nu_s, nu_s, nu_n (show k ≠ 0 by omega), nu_n (show k ≠ 0 by omega)]]
  refine zi_if_lt (tgt := 56) (X := (cmpN (V i * N 5) (V k * N 6)).toInt) hx hb dX1_reaches_49 (by decide) rfl (fun c1 => ?_) (fun c1 => ?_)
  · refine lv_iconst (v := nI 0) hx hb dX1_reaches_56 rfl ?_
    exact Z _ _ _ _ _ _ _ _ dX1_reaches_57 (by have hgw := (hW2920); have hg1 := hgw.1; have hg2 := hgw.2; have hkm := hB2920.kmax; show 0 + dc2914 + dc2916 + dc2918 + dc2920 ≤ (KX - ksum cp NB) / 8 + 8; omega) (by have hgw := (hW2920); have hg1 := hgw.1; have hg2 := hgw.2; have hkm := hB2920.kmax; show 0 + ds2914 + ds2916 + ds2918 + ds2920 ≤ 2 * (KX - ksum cp NB) + 2048; omega) (Or.inl rfl) ⟨by rw [if_neg (by have := cmpN_neg.mp c1; omega)]; rfl, _, _, hB2920, fun n h0 h1 => by rw [nu_n h1, nu_n h1, nu_n h0, nu_n h0], hF_2920, hW2920⟩ T2922
  · refine lv_iconst (v := nI 1) hx hb dX1_reaches_52 rfl ?_
    refine lv_goto (tgt := 57) hx hb dX1_reaches_53 (by decide) ?_
    exact Z _ _ _ _ _ _ _ _ dX1_reaches_57 (by have hgw := (hW2920); have hg1 := hgw.1; have hg2 := hgw.2; have hkm := hB2920.kmax; show 0 + dc2914 + dc2916 + dc2918 + dc2920 ≤ (KX - ksum cp NB) / 8 + 8; omega) (by have hgw := (hW2920); have hg1 := hgw.1; have hg2 := hgw.2; have hkm := hB2920.kmax; show 0 + ds2914 + ds2916 + ds2918 + ds2920 ≤ 2 * (KX - ksum cp NB) + 2048; omega) (Or.inr rfl) ⟨by rw [if_pos (Nat.le_of_not_lt fun z => absurd (cmpN_neg.mpr z) (by omega))]; rfl, _, _, hB2920, fun n h0 h1 => by rw [nu_n h1, nu_n h1, nu_n h0, nu_n h0], hF_2920, hW2920⟩ T2922

def cd_counted (N : Nat → Nat) (x y : Int32) : Nat := if x.toInt < 0 ∨ N 0 ≤ x.toInt then 1 else if y.toInt < 0 ∨ N 2 < y.toInt then 2 else if N 11 ≠ 4 then 3 else 0
/-- whether the winners of the pairs before k have more -/
def rgt (g : Nat → Int32) (M : Nat → Nat → Nat) : Nat → Nat
  | 0 => 1
  | k + 1 => if rgt g M k = 1 ∧ (g (M 5 k)).toInt < (g (M 4 k)).toInt then 1 else 0
theorem rgt_le (g : Nat → Int32) (M : Nat → Nat → Nat) : ∀ k, rgt g M k ≤ 1 := by
  intro k
  cases k with
  | zero => exact Nat.le_refl _
  | succ k => unfold rgt; split <;> omega
theorem rgt_cong {g g' : Nat → Int32} {M : Nat → Nat → Nat} (h : ∀ i, i < 8 → g i = g' i) : ∀ {k : Nat}, (∀ i, i < k → M 4 i < 8 ∧ M 5 i < 8) → rgt g M k = rgt g' M k := by
  intro k
  induction k with
  | zero => intro _; rfl
  | succ k ih => intro h2; unfold rgt; rw [ih fun i hi => h2 i (by omega), h _ (h2 k (by omega)).1, h _ (h2 k (by omega)).2]
def ctG (G : Nat → Nat → Int32) (c : Nat) (v : Int32) : Nat → Nat → Int32 := gu G 3 (upd (G 3) c v)
def ctN (N : Nat → Nat) (M : Nat → Nat → Nat) (g : Nat → Int32) : Nat → Nat := if sures g (N 0) = N 0 then nu (nu N 11 5) 19 (rgt g M (N 14)) else N
theorem Vr_st {V : Nat → Nat} {pw pl ps : Nat → Int32} {N N' : Nat → Nat} {M M' : Nat → Nat → Nat} {G G' : Nat → Nat → Int32} (H : Vr V pw pl ps N M G) (hs : N 11 ≠ 0) (e1 : N' 22 = N 22 := by rfl) (e2 : N' 23 = N 23 := by rfl) (e4 : N' 12 = N 12 := by rfl) (e5 : N' 20 = N 20 := by rfl) (e6 : N' 21 = N 21 := by rfl) (e7 : N' 14 = N 14 := by rfl) (e8 : M' 0 = M 0 := by rfl) (e9 : M' 2 = M 2 := by rfl) (f1 : M' 4 = M 4 := by rfl) (f2 : M' 5 = M 5 := by rfl) (f3 : G' 2 = G 2 := by rfl) : Vr V pw pl ps N' M' G' := by
  obtain ⟨h1, h2, h3, h4⟩ := H
  refine ⟨by rw [e1]; exact h1, by rw [e2]; exact h2, fun _ z => ?_, fun _ k hk => ?_⟩
  · rw [e5, e6]
    exact h3 hs (e4 ▸ z)
  · unfold pA pB
    rw [e4, e8, e9, f1, f2, f3]
    exact h4 hs k (e7 ▸ hk)

theorem rgt_and {g : Nat → Int32} {M : Nat → Nat → Nat} {k x : Nat} (h1 : rgt g M k ≤ 1) (h2 : x ≤ 1) (h3 : x = 1 ↔ (g (M 5 k)).toInt < (g (M 4 k)).toInt) : nI (rgt g M k) &&& nI x = nI (rgt g M (k + 1)) := by
  have e : rgt g M (k + 1) = if rgt g M k = 1 ∧ (g (M 5 k)).toInt < (g (M 4 k)).toInt then 1 else 0 := rfl
  rw [e]
  simp only [← h3]
  rcases (show rgt g M k = 0 ∨ rgt g M k = 1 by omega) with z | z <;> rcases (show x = 0 ∨ x = 1 by omega) with y | y <;> rw [z, y] <;> decide

set_option maxHeartbeats 4000000 in
theorem m_X1_counted {E : GE} {l : Launch} {h : HH} (hfl : l.flags = flags0) {L B cp N : Nat → Nat} {M : Nat → Nat → Nat} {G : Nat → Nat → Int32} (hLay : Lay L B) (hI : Inv N M G) (hC : Cp E h L B cp N M G) {x y : Int32} : MX E l yX1_counted cX1_counted 5 (some .int) ({ frames := 8, cells := 1, slots := 6, locals := 1200 } : Room) [.ref (L 0), .int x, .int y] h (fun rv h2 dc ds => cd_counted N x y = 0 ∧ rv = some (.int (nI (sures (upd (G 3) x.toInt.toNat (nI y.toInt.toNat)) (N 0)))) ∧ Cp E h2 L B cp (ctN N M (upd (G 3) x.toInt.toNat (nI y.toInt.toNat))) M (ctG G x.toInt.toNat (nI y.toInt.toNat)) ∧ Fr (CO L B) h h2 ∧ dc = 0 ∧ ds = 0) (fun C h' dc ds => h' = h ∧ dc = 1 ∧ ds = 6 ∧ TC C (cd_counted N x y) [xIOB, xIAE, xISE]) := by
  refine hx_i (by decide) (Nat.le_of_ble_eq_true rfl) ?_
  intro p e s m below meth c C hno Q Z Y ls T hl
  have hx := C.x
  have hb := C.b
  have hl : lv_has ls 5 [(0, .ref (L 0)), (1, .int x), (2, .int y)] := hl
  obtain ⟨i0, i1, i2, i3, i4, i5, i7, i9, i10, i11, i15, iv, isz, isum, ital, itm, idg, icn, irec, isn, iout, ict, iwt, iwt2, iz, inz, iup, ish⟩ := hI
  obtain ⟨pp, f, rs, pw, pl, ps, V, ⟨ho0, ha1, ha3, ha12, ha13, ha14, ha15, ha16, ha17, ha39⟩, ⟨r1, r3, r12, r13, r14, r15, r16, r17, rp, rp16⟩, hVr, hSt, hPr, hCn, hSd, hDg, hB⟩ := hC
  have hF : Fr (CO L B) h h := Fr.rf
  refine lv_aload_n hx hb dX1_counted_0 rfl (lv_at hl 0 rfl) ?_
  refine lv_iload_n hx hb dX1_counted_1 rfl (lv_at hl 1 rfl) ?_
  by_cases cI2 : 0 ≤ (x).toInt ∧ (x).toInt < N 0
  · refine hp_V C T hl.1 ho0 rfl (p_X1_isC1 (x := x) i0 cI2 ho0) q631 q633 qs4 q53 q634 kd_X1_isCandidate rfl rfl ⟨Nat.le_of_ble_eq_true rfl, Nat.le_of_ble_eq_true rfl⟩ (Nat.le_of_ble_eq_true rfl) dX1_counted_2 ⟨Nat.le_of_ble_eq_true rfl, Nat.le_of_ble_eq_true rfl⟩ (fun rv H2923 hp2923 T2923 => ?_)
    obtain rfl := hp2923
    refine W.eq (g2 := F0 m 5 ls [.int (nI 1)]) rfl ?_
    refine hp_S C T2923 hl.1 (p_X1_inside) q593 q594 q53 q595 kd_X1_inside rfl rfl ⟨Nat.le_of_ble_eq_true rfl, Nat.le_of_ble_eq_true rfl⟩ (Nat.le_of_ble_eq_true rfl) dX1_counted_5 ⟨Nat.le_of_ble_eq_true rfl, Nat.le_of_ble_eq_true rfl⟩ (fun rv H2925 hp2925 T2925 => ?_)
    obtain rfl := hp2925
    refine W.eq (g2 := F0 m 8 ls []) rfl ?_
    obtain ⟨c0, hc0, rfl⟩ := nat_of (x := x) (by omega)
    have ec0 := nI_toInt hc0
    have tc0 : (nI c0).toInt.toNat = c0 := by rw [ec0]; rfl
    refine lv_iload_n hx hb dX1_counted_8 rfl (lv_at hl 2 rfl) ?_
    refine zi_if_lt (tgt := 24) (X := (y).toInt) hx hb dX1_counted_9 (by decide) rfl (fun c9 => ?_) (fun c9 => ?_)
    · refine lv_iconst (v := nI 0) hx hb dX1_counted_24 rfl ?_
      have hcd : cd_counted N (nI c0) y = 2 := by unfold cd_counted; (repeat' split) <;> omega
      exact Y _ _ _ _ _ _ ((thr_S C T2925 hl.1 (t_X1_need hfl) q441 q442 q53 q443 kd_X1_need rfl rfl ⟨Nat.le_of_ble_eq_true rfl, Nat.le_of_ble_eq_true rfl⟩ (Nat.le_of_ble_eq_true rfl) dX1_counted_25 ⟨Nat.le_of_ble_eq_true rfl, Nat.le_of_ble_eq_true rfl⟩).on C T2925 hno ⟨Nat.le_of_ble_eq_true rfl, Nat.le_of_ble_eq_true rfl⟩ (fun h2 dc ds hp => by obtain ⟨rfl, rfl, rfl⟩ := hp; exact ⟨rfl, rfl, rfl, by rw [hcd]; exact ⟨by decide, rfl⟩⟩))
    · obtain ⟨v, hv, rfl⟩ := nat_of (x := y) (by omega)
      have ev := nI_toInt hv
      have tv : (nI v).toInt.toNat = v := by rw [ev]; rfl
      refine lv_iload_n hx hb dX1_counted_12 rfl (lv_at hl 2 rfl) ?_
      refine lv_aload_n hx hb dX1_counted_13 rfl (lv_at hl 0 rfl) ?_
      refine hr_get C T2925 ho0 rfl in_X1 4 (by decide) q295 rfl rfl dX1_counted_14 ?_
      refine hn_icmp_gt (tgt := 24) hx hb dX1_counted_17 (by decide) (by omega) (by omega) (fun c17 => ?_) (fun c17 => ?_)
      · refine lv_iconst (v := nI 0) hx hb dX1_counted_24 rfl ?_
        have hcd : cd_counted N (nI c0) (nI v) = 2 := by unfold cd_counted; (repeat' split) <;> omega
        exact Y _ _ _ _ _ _ ((thr_S C T2925 hl.1 (t_X1_need hfl) q441 q442 q53 q443 kd_X1_need rfl rfl ⟨Nat.le_of_ble_eq_true rfl, Nat.le_of_ble_eq_true rfl⟩ (Nat.le_of_ble_eq_true rfl) dX1_counted_25 ⟨Nat.le_of_ble_eq_true rfl, Nat.le_of_ble_eq_true rfl⟩).on C T2925 hno ⟨Nat.le_of_ble_eq_true rfl, Nat.le_of_ble_eq_true rfl⟩ (fun h2 dc ds hp => by obtain ⟨rfl, rfl, rfl⟩ := hp; exact ⟨rfl, rfl, rfl, by rw [hcd]; exact ⟨by decide, rfl⟩⟩))
      · refine lv_iconst (v := nI 1) hx hb dX1_counted_20 rfl ?_
        refine lv_goto (tgt := 25) hx hb dX1_counted_21 (by decide) ?_
        refine hp_S C T2925 hl.1 (p_X1_need) q441 q442 q53 q443 kd_X1_need rfl rfl ⟨Nat.le_of_ble_eq_true rfl, Nat.le_of_ble_eq_true rfl⟩ (Nat.le_of_ble_eq_true rfl) dX1_counted_25 ⟨Nat.le_of_ble_eq_true rfl, Nat.le_of_ble_eq_true rfl⟩ (fun rv H2926 hp2926 T2926 => ?_)
        obtain rfl := hp2926
        refine W.eq (g2 := F0 m 28 ls []) rfl ?_
        refine lv_aload_n hx hb dX1_counted_28 rfl (lv_at hl 0 rfl) ?_
        refine hr_get C T2926 ho0 rfl in_X1 17 (by decide) q312 rfl rfl dX1_counted_29 ?_
        refine lv_iconst (v := nI 4) hx hb dX1_counted_32 rfl ?_
        refine hn_icmp_ne (tgt := 40) hx hb dX1_counted_33 (by decide) (by omega) (by omega) (fun c33 => ?_) (fun c33 => ?_)
        · refine lv_iconst (v := nI 0) hx hb dX1_counted_40 rfl ?_
          have hcd : cd_counted N (nI c0) (nI v) = 3 := by unfold cd_counted; (repeat' split) <;> omega
          exact Y _ _ _ _ _ _ ((thr_S C T2926 hl.1 (t_X1_now hfl) q517 q518 q53 q519 kd_X1_now rfl rfl ⟨Nat.le_of_ble_eq_true rfl, Nat.le_of_ble_eq_true rfl⟩ (Nat.le_of_ble_eq_true rfl) dX1_counted_41 ⟨Nat.le_of_ble_eq_true rfl, Nat.le_of_ble_eq_true rfl⟩).on C T2926 hno ⟨Nat.le_of_ble_eq_true rfl, Nat.le_of_ble_eq_true rfl⟩ (fun h2 dc ds hp => by obtain ⟨rfl, rfl, rfl⟩ := hp; exact ⟨rfl, rfl, rfl, by rw [hcd]; exact ⟨by decide, rfl⟩⟩))
        · refine lv_iconst (v := nI 1) hx hb dX1_counted_36 rfl ?_
          refine lv_goto (tgt := 41) hx hb dX1_counted_37 (by decide) ?_
          refine hp_S C T2926 hl.1 (p_X1_now) q517 q518 q53 q519 kd_X1_now rfl rfl ⟨Nat.le_of_ble_eq_true rfl, Nat.le_of_ble_eq_true rfl⟩ (Nat.le_of_ble_eq_true rfl) dX1_counted_41 ⟨Nat.le_of_ble_eq_true rfl, Nat.le_of_ble_eq_true rfl⟩ (fun rv H2927 hp2927 T2927 => ?_)
          obtain rfl := hp2927
          refine W.eq (g2 := F0 m 44 ls []) rfl ?_
          refine lv_aload_n hx hb dX1_counted_44 rfl (lv_at hl 0 rfl) ?_
          refine hr_get C T2927 ho0 rfl in_X1 16 (by decide) q311 rfl rfl dX1_counted_45 ?_
          refine lv_iload_n hx hb dX1_counted_48 rfl (lv_at hl 1 rfl) ?_
          refine lv_iload_n hx hb dX1_counted_49 rfl (lv_at hl 2 rfl) ?_
          refine hr_iast C T2927 ha17 (by omega) (by omega) dX1_counted_50 (fun h2928 H2928 locs2928 eh2928 T2928 => ?_)
          have ha17_2928 : h2928 (L 17) = some (.inl (E.2.1 0, 8, .inl (upd (f 17) c0 (nI v))), L 0) := hu_s eh2928
          have hF_2928 : Fr (CO L B) h h2928 := hu_f eh2928 hF ha17 (Or.inl rfl)
          have hcd : cd_counted N (nI c0) (nI v) = 0 := by unfold cd_counted; (repeat' split) <;> omega
          have hs11 : N 11 ≠ 0 := by omega
          have rpp := rp hs11
          have hG3 : ∀ i, i < 8 → upd (f 17) c0 (nI v) i = upd (G 3) c0 (nI v) i := fun i hi => by by_cases z : i = c0; (rw [z, pk_us, pk_us]); (rw [pk_un z, pk_un z]; exact r17 i hi)
          generalize hgr9 : upd (f 17) c0 (nI v) = gr at *
          refine lv_iconst (v := nI 0) hx hb dX1_counted_51 rfl ?_
          refine lv_istore_n (lv' := [(3, .int (nI 0)), (0, .ref (L 0)), (1, .int (nI c0)), (2, .int (nI v))]) hx hb dX1_counted_52 rfl hl (by decide) rfl (fun ls2929 hl2929 => ?_)
          refine lv_iconst (v := nI 0) hx hb dX1_counted_53 rfl ?_
          refine lv_istore (lv' := [(4, .int (nI 0)), (3, .int (nI 0)), (0, .ref (L 0)), (1, .int (nI c0)), (2, .int (nI v))]) hx hb dX1_counted_54 hl2929 (by decide) rfl (fun ls2930 hl2930 => ?_)
          have L1 : ∀ (j : Nat) (k : Nat) (H2931 : Heap) (locs2931 : List Loc) (ls2931 : Array Slot), (N 0 + 1 ≤ k + j) → (k ≤ N 0) → (St E s h2928 H2931 locs2931) → (lv_has ls2931 5 [(0, .ref (L 0)), (1, .int (nI c0)), (3, .int (nI (sures gr k))), (4, .int (nI k))]) → W p l e ({ frames := 8, cells := 1, slots := 6, locals := 1200 } : Room) s m ([.ref (L 0), .int (nI c0), .int (nI v)] : List Value).toArray below meth c H2931 locs2931 0 0 Q (F0 m 56 ls2931 []) := by
            intro j
            induction j with
            | zero => intro k H2931 locs2931 ls2931 hm2931 hk T2931 hl2931; exact absurd hm2931 (by omega)
            | succ j ih2931 =>
              intro k H2931 locs2931 ls2931 hm2931 hk T2931 hl2931
              have hsl := sures_le gr k
              refine lv_iload hx hb dX1_counted_56 (lv_at hl2931 3 rfl) ?_
              refine lv_aload_n hx hb dX1_counted_58 rfl (lv_at hl2931 0 rfl) ?_
              have ho0_2928 : h2928 (L 0) = some (.inr (0, [.ref (L 1), .int (nI (N 0)), .ref (L 3), .int (nI (N 1)), .int (nI (N 2)), .int (nI (N 3)), .int (nI (N 4)), .int (nI (N 5)), .int (nI (N 6)), .int (nI (N 7)), .int (nI (N 8)), .ref (L 12), .ref (L 13), .ref (L 14), .ref (L 15), .ref (L 16), .ref (L 17), .int (nI (N 11)), .int (nI (N 15)), .int (nI (N 16)), .int (nI (N 17)), .int (nI (N 18) - 1), .int (nI (N 19)), .ref (L 24), .int (nI pp), .ref (L 26), .ref (L 27), .ref (if N 13 = 1 then L 27 else L 26), .ref (L 29), .ref (L 30), .ref (if N 12 = 1 then L 30 else L 29), .ref (L 32), .ref (B 0), .ref (B 1), .ref (B 2), .ref (B 3), .ref (L 37), .ref (L 38), .ref (L 39), .ref (B 4), .ref (B 5)]), L 0) := hu_n eh2928 (hLay.1 0 17 (by decide) (by decide) (by decide)) ho0
              refine hr_get C T2931 ho0_2928 rfl in_X1 1 (by decide) q291 rfl rfl dX1_counted_59 ?_
              refine hn_icmp_ge (tgt := 90) hx hb dX1_counted_62 (by decide) (by omega) (by omega) (fun c99 => ?_) (fun c99 => ?_)
              · have e1 : k = N 0 := by omega
                rw [e1] at hl2931 hsl
                have hsG : sures gr (N 0) = sures (upd (G 3) c0 (nI v)) (N 0) := sures_cong fun i hi => hG3 i (by omega)
                refine lv_iload_n hx hb dX1_counted_90 rfl (lv_at hl2931 2 rfl) ?_
                refine lv_aload_n hx hb dX1_counted_91 rfl (lv_at hl2931 0 rfl) ?_
                refine hr_get C T2931 ho0_2928 rfl in_X1 1 (by decide) q291 rfl rfl dX1_counted_92 ?_
                refine hn_icmp_ne (tgt := 173) hx hb dX1_counted_95 (by decide) (by omega) (by omega) (fun c3 => ?_) (fun c3 => ?_)
                · refine lv_iload_n hx hb dX1_counted_173 rfl (lv_at hl2931 2 rfl) ?_
                  have ha1_2928 : h2928 (L 1) = some (.inl (E.2.1 0, 8, .inl (f 1)), L 0) := hu_n eh2928 (hLay.1 1 17 (by decide) (by decide) (by decide)) ha1
                  have ha3_2928 : h2928 (L 3) = some (.inl (E.2.1 0, 64, .inl (f 3)), L 0) := hu_n eh2928 (hLay.1 3 17 (by decide) (by decide) (by decide)) ha3
                  have ha12_2928 : h2928 (L 12) = some (.inl (E.2.1 1, 20000, .inl (f 12)), L 0) := hu_n eh2928 (hLay.1 12 17 (by decide) (by decide) (by decide)) ha12
                  have ha13_2928 : h2928 (L 13) = some (.inl (E.2.1 1, 20000, .inl (f 13)), L 0) := hu_n eh2928 (hLay.1 13 17 (by decide) (by decide) (by decide)) ha13
                  have ha14_2928 : h2928 (L 14) = some (.inl (E.2.1 2, 20000, .inl (f 14)), L 0) := hu_n eh2928 (hLay.1 14 17 (by decide) (by decide) (by decide)) ha14
                  have ha15_2928 : h2928 (L 15) = some (.inl (E.2.1 3, 8, .inl (f 15)), L 0) := hu_n eh2928 (hLay.1 15 17 (by decide) (by decide) (by decide)) ha15
                  have ha16_2928 : h2928 (L 16) = some (.inl (E.2.1 0, 8, .inl (f 16)), L 0) := hu_n eh2928 (hLay.1 16 17 (by decide) (by decide) (by decide)) ha16
                  have ha39_2928 : h2928 (L 39) = some (.inl (E.2.1 3, 961, .inl (f 39)), L 0) := hu_n eh2928 (hLay.1 39 17 (by decide) (by decide) (by decide)) ha39
                  have hSt_2928 : Stt E L B h2928 := Stt.kept (O := (· = L 0)) (hu_f eh2928 Fr.rf ha17 rfl) (hLay.1 30 0 (by decide) (by decide) (by decide)) hSt
                  have hPr_2928 : Prs L B pw pl ps h2928 := Prs.kept (O := (· = L 0)) (hu_f eh2928 Fr.rf ha17 rfl) (hLay.1 24 0 (by decide) (by decide) (by decide)) hPr
                  have hCn_2928 : Cns h2928 E L (nI1 (M 8)) (N 10) := Cns.kept (O := (· = L 0)) (hu_f eh2928 Fr.rf ha17 rfl) (hLay.1 26 0 (by decide) (by decide) (by decide)) hCn
                  have hSd_2928 : Sds h2928 E L (nI1 (M 6)) (N 9) := Sds.kept (O := (· = L 0)) (hu_f eh2928 Fr.rf ha17 rfl) (hLay.1 27 0 (by decide) (by decide) (by decide)) hSd
                  have hDg_2928 : Dgo h2928 E L rs := Dgo.kept (O := (· = L 0)) (hu_f eh2928 Fr.rf ha17 rfl) (hLay.1 62 0 (by decide) (by decide) (by decide)) hDg
                  have hB_2928 : Bgs E h2928 B V cp := Bgs.kept (O := (· = L 0)) (hu_f eh2928 Fr.rf ha17 rfl) (fun i hi => hLay.2 i 0 hi (by decide)) hB
                  exact Z _ _ _ _ _ _ _ _ dX1_counted_174 (Nat.zero_le _) (Nat.zero_le _) ⟨hcd, by rw [tc0, tv, hsG], by rw [tc0, tv]; unfold ctN; rw [if_neg (by rw [← hsG]; exact c3)]; exact ⟨pp, gu f 17 gr, rs, pw, pl, ps, V, ⟨ho0_2928, ha1_2928, ha3_2928, ha12_2928, ha13_2928, ha14_2928, ha15_2928, ha16_2928, ha17_2928, ha39_2928⟩, ⟨r1, r3, r12, r13, r14, r15, r16, fun i hi => by show gr i = upd (G 3) c0 (nI v) i; exact hG3 i hi, rp, rp16⟩, Vr_same hVr, hSt_2928, hPr_2928, hCn_2928, hSd_2928, hDg_2928, hB_2928⟩, hF_2928, rfl, rfl⟩ T2931
                · have hPW : ∀ k, k < pp → pw k = nI (M 4 k) ∧ pl k = nI (M 5 k) ∧ M 4 k < 8 ∧ M 5 k < 8 := fun k hk => by have h1 := hVr.2.2.2 hs11 k (by omega); have h2 := (inz hs11).2.2.2.1 k (by omega); exact ⟨h1.2.2.1, h1.2.2.2.1, by omega, by omega⟩
                  refine lv_aload_n hx hb dX1_counted_98 rfl (lv_at hl2931 0 rfl) ?_
                  refine lv_iconst (v := nI 5) hx hb dX1_counted_99 rfl ?_
                  refine hr_put C T2931 ho0_2928 rfl in_X1 tyX1 tyX1_ok nmX1 17 (by decide) q312 rfl rfl rfl rfl (Nat.le_of_ble_eq_true rfl) dX1_counted_100 (fun h2935 H2935 locs2935 eh2935 T2935 => ?_)
                  have ho0_2935 : h2935 (L 0) = some (.inr (0, [.ref (L 1), .int (nI (N 0)), .ref (L 3), .int (nI (N 1)), .int (nI (N 2)), .int (nI (N 3)), .int (nI (N 4)), .int (nI (N 5)), .int (nI (N 6)), .int (nI (N 7)), .int (nI (N 8)), .ref (L 12), .ref (L 13), .ref (L 14), .ref (L 15), .ref (L 16), .ref (L 17), .int (nI 5), .int (nI (N 15)), .int (nI (N 16)), .int (nI (N 17)), .int (nI (N 18) - 1), .int (nI (N 19)), .ref (L 24), .int (nI pp), .ref (L 26), .ref (L 27), .ref (if N 13 = 1 then L 27 else L 26), .ref (L 29), .ref (L 30), .ref (if N 12 = 1 then L 30 else L 29), .ref (L 32), .ref (B 0), .ref (B 1), .ref (B 2), .ref (B 3), .ref (L 37), .ref (L 38), .ref (L 39), .ref (B 4), .ref (B 5)]), L 0) := hu_s eh2935
                  have hF_2935 : Fr (CO L B) h h2935 := hu_f eh2935 hF_2928 ho0_2928 (Or.inl rfl)
                  refine lv_aload_n hx hb dX1_counted_103 rfl (lv_at hl2931 0 rfl) ?_
                  refine lv_iconst (v := nI 1) hx hb dX1_counted_104 rfl ?_
                  refine hr_put C T2935 ho0_2935 rfl in_X1 tyX1 tyX1_ok nmX1 22 (by decide) q317 rfl rfl rfl rfl (Nat.le_of_ble_eq_true rfl) dX1_counted_105 (fun h2936 H2936 locs2936 eh2936 T2936 => ?_)
                  have ho0_2936 : h2936 (L 0) = some (.inr (0, [.ref (L 1), .int (nI (N 0)), .ref (L 3), .int (nI (N 1)), .int (nI (N 2)), .int (nI (N 3)), .int (nI (N 4)), .int (nI (N 5)), .int (nI (N 6)), .int (nI (N 7)), .int (nI (N 8)), .ref (L 12), .ref (L 13), .ref (L 14), .ref (L 15), .ref (L 16), .ref (L 17), .int (nI 5), .int (nI (N 15)), .int (nI (N 16)), .int (nI (N 17)), .int (nI (N 18) - 1), .int (nI 1), .ref (L 24), .int (nI pp), .ref (L 26), .ref (L 27), .ref (if N 13 = 1 then L 27 else L 26), .ref (L 29), .ref (L 30), .ref (if N 12 = 1 then L 30 else L 29), .ref (L 32), .ref (B 0), .ref (B 1), .ref (B 2), .ref (B 3), .ref (L 37), .ref (L 38), .ref (L 39), .ref (B 4), .ref (B 5)]), L 0) := hu_s eh2936
                  have hF_2936 : Fr (CO L B) h h2936 := hu_f eh2936 hF_2935 ho0_2935 (Or.inl rfl)
                  refine lv_iconst (v := nI 0) hx hb dX1_counted_108 rfl ?_
                  refine lv_istore (lv' := [(4, .int (nI 0)), (0, .ref (L 0)), (1, .int (nI c0)), (3, .int (nI (sures gr (N 0))))]) hx hb dX1_counted_109 hl2931 (by decide) rfl (fun ls2937 hl2937 => ?_)
                  have L2 : ∀ (j : Nat) (k : Nat) (h2938 : HH) (H2938 : Heap) (locs2938 : List Loc) (ls2938 : Array Slot), (pp + 1 ≤ k + j) → (h2938 (L 0) = some (.inr (0, [.ref (L 1), .int (nI (N 0)), .ref (L 3), .int (nI (N 1)), .int (nI (N 2)), .int (nI (N 3)), .int (nI (N 4)), .int (nI (N 5)), .int (nI (N 6)), .int (nI (N 7)), .int (nI (N 8)), .ref (L 12), .ref (L 13), .ref (L 14), .ref (L 15), .ref (L 16), .ref (L 17), .int (nI 5), .int (nI (N 15)), .int (nI (N 16)), .int (nI (N 17)), .int (nI (N 18) - 1), .int (nI (rgt gr M k)), .ref (L 24), .int (nI pp), .ref (L 26), .ref (L 27), .ref (if N 13 = 1 then L 27 else L 26), .ref (L 29), .ref (L 30), .ref (if N 12 = 1 then L 30 else L 29), .ref (L 32), .ref (B 0), .ref (B 1), .ref (B 2), .ref (B 3), .ref (L 37), .ref (L 38), .ref (L 39), .ref (B 4), .ref (B 5)]), L 0)) → (k ≤ pp) → (∀ q, q ≠ L 0 → h2938 q = h2936 q) → (Fr (· = L 0) h2936 h2938) → (Fr (CO L B) h h2938) → (St E s h2938 H2938 locs2938) → (lv_has ls2938 5 [(0, .ref (L 0)), (3, .int (nI (sures gr (N 0)))), (4, .int (nI k))]) → W p l e ({ frames := 8, cells := 1, slots := 6, locals := 1200 } : Room) s m ([.ref (L 0), .int (nI c0), .int (nI v)] : List Value).toArray below meth c H2938 locs2938 0 0 Q (F0 m 111 ls2938 []) := by
                    intro j
                    induction j with
                    | zero => intro k h2938 H2938 locs2938 ls2938 hm2938 ho0_2938 hk hoth hFo hF_2938 T2938 hl2938; exact absurd hm2938 (by omega)
                    | succ j ih2938 =>
                      intro k h2938 H2938 locs2938 ls2938 hm2938 ho0_2938 hk hoth hFo hF_2938 T2938 hl2938
                      have hrl := rgt_le gr M k
                      refine lv_iload hx hb dX1_counted_111 (lv_at hl2938 2 rfl) ?_
                      refine lv_aload_n hx hb dX1_counted_113 rfl (lv_at hl2938 0 rfl) ?_
                      refine hr_get C T2938 ho0_2938 rfl in_X1 24 (by decide) q323 rfl rfl dX1_counted_114 ?_
                      refine hn_icmp_ge (tgt := 173) hx hb dX1_counted_117 (by decide) (by omega) (by omega) (fun c4 => ?_) (fun c4 => ?_)
                      · have e2 : k = N 14 := by omega
                        rw [e2] at ho0_2938
                        have hrG : rgt gr M (N 14) = rgt (upd (G 3) c0 (nI v)) M (N 14) := rgt_cong hG3 fun i hi => by have := hPW i (by omega); exact ⟨this.2.2.1, this.2.2.2⟩
                        rw [hrG] at ho0_2938
                        refine lv_iload_n hx hb dX1_counted_173 rfl (lv_at hl2938 1 rfl) ?_
                        have ha1_2928 : h2928 (L 1) = some (.inl (E.2.1 0, 8, .inl (f 1)), L 0) := hu_n eh2928 (hLay.1 1 17 (by decide) (by decide) (by decide)) ha1
                        have ha1_2935 : h2935 (L 1) = some (.inl (E.2.1 0, 8, .inl (f 1)), L 0) := hu_n eh2935 (hLay.1 1 0 (by decide) (by decide) (by decide)) ha1_2928
                        have ha1_2936 : h2936 (L 1) = some (.inl (E.2.1 0, 8, .inl (f 1)), L 0) := hu_n eh2936 (hLay.1 1 0 (by decide) (by decide) (by decide)) ha1_2935
                        have ha1_2939 : h2938 (L 1) = some (.inl (E.2.1 0, 8, .inl (f 1)), L 0) := (hoth _ (hLay.1 1 0 (by decide) (by decide) (by decide))).trans ha1_2936
                        have ha3_2928 : h2928 (L 3) = some (.inl (E.2.1 0, 64, .inl (f 3)), L 0) := hu_n eh2928 (hLay.1 3 17 (by decide) (by decide) (by decide)) ha3
                        have ha3_2935 : h2935 (L 3) = some (.inl (E.2.1 0, 64, .inl (f 3)), L 0) := hu_n eh2935 (hLay.1 3 0 (by decide) (by decide) (by decide)) ha3_2928
                        have ha3_2936 : h2936 (L 3) = some (.inl (E.2.1 0, 64, .inl (f 3)), L 0) := hu_n eh2936 (hLay.1 3 0 (by decide) (by decide) (by decide)) ha3_2935
                        have ha3_2939 : h2938 (L 3) = some (.inl (E.2.1 0, 64, .inl (f 3)), L 0) := (hoth _ (hLay.1 3 0 (by decide) (by decide) (by decide))).trans ha3_2936
                        have ha12_2928 : h2928 (L 12) = some (.inl (E.2.1 1, 20000, .inl (f 12)), L 0) := hu_n eh2928 (hLay.1 12 17 (by decide) (by decide) (by decide)) ha12
                        have ha12_2935 : h2935 (L 12) = some (.inl (E.2.1 1, 20000, .inl (f 12)), L 0) := hu_n eh2935 (hLay.1 12 0 (by decide) (by decide) (by decide)) ha12_2928
                        have ha12_2936 : h2936 (L 12) = some (.inl (E.2.1 1, 20000, .inl (f 12)), L 0) := hu_n eh2936 (hLay.1 12 0 (by decide) (by decide) (by decide)) ha12_2935
                        have ha12_2939 : h2938 (L 12) = some (.inl (E.2.1 1, 20000, .inl (f 12)), L 0) := (hoth _ (hLay.1 12 0 (by decide) (by decide) (by decide))).trans ha12_2936
                        have ha13_2928 : h2928 (L 13) = some (.inl (E.2.1 1, 20000, .inl (f 13)), L 0) := hu_n eh2928 (hLay.1 13 17 (by decide) (by decide) (by decide)) ha13
                        have ha13_2935 : h2935 (L 13) = some (.inl (E.2.1 1, 20000, .inl (f 13)), L 0) := hu_n eh2935 (hLay.1 13 0 (by decide) (by decide) (by decide)) ha13_2928
                        have ha13_2936 : h2936 (L 13) = some (.inl (E.2.1 1, 20000, .inl (f 13)), L 0) := hu_n eh2936 (hLay.1 13 0 (by decide) (by decide) (by decide)) ha13_2935
                        have ha13_2939 : h2938 (L 13) = some (.inl (E.2.1 1, 20000, .inl (f 13)), L 0) := (hoth _ (hLay.1 13 0 (by decide) (by decide) (by decide))).trans ha13_2936
                        have ha14_2928 : h2928 (L 14) = some (.inl (E.2.1 2, 20000, .inl (f 14)), L 0) := hu_n eh2928 (hLay.1 14 17 (by decide) (by decide) (by decide)) ha14
                        have ha14_2935 : h2935 (L 14) = some (.inl (E.2.1 2, 20000, .inl (f 14)), L 0) := hu_n eh2935 (hLay.1 14 0 (by decide) (by decide) (by decide)) ha14_2928
                        have ha14_2936 : h2936 (L 14) = some (.inl (E.2.1 2, 20000, .inl (f 14)), L 0) := hu_n eh2936 (hLay.1 14 0 (by decide) (by decide) (by decide)) ha14_2935
                        have ha14_2939 : h2938 (L 14) = some (.inl (E.2.1 2, 20000, .inl (f 14)), L 0) := (hoth _ (hLay.1 14 0 (by decide) (by decide) (by decide))).trans ha14_2936
                        have ha15_2928 : h2928 (L 15) = some (.inl (E.2.1 3, 8, .inl (f 15)), L 0) := hu_n eh2928 (hLay.1 15 17 (by decide) (by decide) (by decide)) ha15
                        have ha15_2935 : h2935 (L 15) = some (.inl (E.2.1 3, 8, .inl (f 15)), L 0) := hu_n eh2935 (hLay.1 15 0 (by decide) (by decide) (by decide)) ha15_2928
                        have ha15_2936 : h2936 (L 15) = some (.inl (E.2.1 3, 8, .inl (f 15)), L 0) := hu_n eh2936 (hLay.1 15 0 (by decide) (by decide) (by decide)) ha15_2935
                        have ha15_2939 : h2938 (L 15) = some (.inl (E.2.1 3, 8, .inl (f 15)), L 0) := (hoth _ (hLay.1 15 0 (by decide) (by decide) (by decide))).trans ha15_2936
                        have ha16_2928 : h2928 (L 16) = some (.inl (E.2.1 0, 8, .inl (f 16)), L 0) := hu_n eh2928 (hLay.1 16 17 (by decide) (by decide) (by decide)) ha16
                        have ha16_2935 : h2935 (L 16) = some (.inl (E.2.1 0, 8, .inl (f 16)), L 0) := hu_n eh2935 (hLay.1 16 0 (by decide) (by decide) (by decide)) ha16_2928
                        have ha16_2936 : h2936 (L 16) = some (.inl (E.2.1 0, 8, .inl (f 16)), L 0) := hu_n eh2936 (hLay.1 16 0 (by decide) (by decide) (by decide)) ha16_2935
                        have ha16_2939 : h2938 (L 16) = some (.inl (E.2.1 0, 8, .inl (f 16)), L 0) := (hoth _ (hLay.1 16 0 (by decide) (by decide) (by decide))).trans ha16_2936
                        have ha17_2935 : h2935 (L 17) = some (.inl (E.2.1 0, 8, .inl gr), L 0) := hu_n eh2935 (hLay.1 17 0 (by decide) (by decide) (by decide)) ha17_2928
                        have ha17_2936 : h2936 (L 17) = some (.inl (E.2.1 0, 8, .inl gr), L 0) := hu_n eh2936 (hLay.1 17 0 (by decide) (by decide) (by decide)) ha17_2935
                        have ha17_2939 : h2938 (L 17) = some (.inl (E.2.1 0, 8, .inl gr), L 0) := (hoth _ (hLay.1 17 0 (by decide) (by decide) (by decide))).trans ha17_2936
                        have ha39_2928 : h2928 (L 39) = some (.inl (E.2.1 3, 961, .inl (f 39)), L 0) := hu_n eh2928 (hLay.1 39 17 (by decide) (by decide) (by decide)) ha39
                        have ha39_2935 : h2935 (L 39) = some (.inl (E.2.1 3, 961, .inl (f 39)), L 0) := hu_n eh2935 (hLay.1 39 0 (by decide) (by decide) (by decide)) ha39_2928
                        have ha39_2936 : h2936 (L 39) = some (.inl (E.2.1 3, 961, .inl (f 39)), L 0) := hu_n eh2936 (hLay.1 39 0 (by decide) (by decide) (by decide)) ha39_2935
                        have ha39_2939 : h2938 (L 39) = some (.inl (E.2.1 3, 961, .inl (f 39)), L 0) := (hoth _ (hLay.1 39 0 (by decide) (by decide) (by decide))).trans ha39_2936
                        have hSt_2928 : Stt E L B h2928 := Stt.kept (O := (· = L 0)) (hu_f eh2928 Fr.rf ha17 rfl) (hLay.1 30 0 (by decide) (by decide) (by decide)) hSt
                        have hSt_2935 : Stt E L B h2935 := Stt.kept (O := (· = L 0)) (hu_f eh2935 Fr.rf ho0_2928 rfl) (hLay.1 30 0 (by decide) (by decide) (by decide)) hSt_2928
                        have hSt_2936 : Stt E L B h2936 := Stt.kept (O := (· = L 0)) (hu_f eh2936 Fr.rf ho0_2935 rfl) (hLay.1 30 0 (by decide) (by decide) (by decide)) hSt_2935
                        have hSt_2939 : Stt E L B h2938 := Stt.kept (O := (· = L 0)) hFo (hLay.1 30 0 (by decide) (by decide) (by decide)) hSt_2936
                        have hPr_2928 : Prs L B pw pl ps h2928 := Prs.kept (O := (· = L 0)) (hu_f eh2928 Fr.rf ha17 rfl) (hLay.1 24 0 (by decide) (by decide) (by decide)) hPr
                        have hPr_2935 : Prs L B pw pl ps h2935 := Prs.kept (O := (· = L 0)) (hu_f eh2935 Fr.rf ho0_2928 rfl) (hLay.1 24 0 (by decide) (by decide) (by decide)) hPr_2928
                        have hPr_2936 : Prs L B pw pl ps h2936 := Prs.kept (O := (· = L 0)) (hu_f eh2936 Fr.rf ho0_2935 rfl) (hLay.1 24 0 (by decide) (by decide) (by decide)) hPr_2935
                        have hPr_2939 : Prs L B pw pl ps h2938 := Prs.kept (O := (· = L 0)) hFo (hLay.1 24 0 (by decide) (by decide) (by decide)) hPr_2936
                        have hCn_2928 : Cns h2928 E L (nI1 (M 8)) (N 10) := Cns.kept (O := (· = L 0)) (hu_f eh2928 Fr.rf ha17 rfl) (hLay.1 26 0 (by decide) (by decide) (by decide)) hCn
                        have hCn_2935 : Cns h2935 E L (nI1 (M 8)) (N 10) := Cns.kept (O := (· = L 0)) (hu_f eh2935 Fr.rf ho0_2928 rfl) (hLay.1 26 0 (by decide) (by decide) (by decide)) hCn_2928
                        have hCn_2936 : Cns h2936 E L (nI1 (M 8)) (N 10) := Cns.kept (O := (· = L 0)) (hu_f eh2936 Fr.rf ho0_2935 rfl) (hLay.1 26 0 (by decide) (by decide) (by decide)) hCn_2935
                        have hCn_2939 : Cns h2938 E L (nI1 (M 8)) (N 10) := Cns.kept (O := (· = L 0)) hFo (hLay.1 26 0 (by decide) (by decide) (by decide)) hCn_2936
                        have hSd_2928 : Sds h2928 E L (nI1 (M 6)) (N 9) := Sds.kept (O := (· = L 0)) (hu_f eh2928 Fr.rf ha17 rfl) (hLay.1 27 0 (by decide) (by decide) (by decide)) hSd
                        have hSd_2935 : Sds h2935 E L (nI1 (M 6)) (N 9) := Sds.kept (O := (· = L 0)) (hu_f eh2935 Fr.rf ho0_2928 rfl) (hLay.1 27 0 (by decide) (by decide) (by decide)) hSd_2928
                        have hSd_2936 : Sds h2936 E L (nI1 (M 6)) (N 9) := Sds.kept (O := (· = L 0)) (hu_f eh2936 Fr.rf ho0_2935 rfl) (hLay.1 27 0 (by decide) (by decide) (by decide)) hSd_2935
                        have hSd_2939 : Sds h2938 E L (nI1 (M 6)) (N 9) := Sds.kept (O := (· = L 0)) hFo (hLay.1 27 0 (by decide) (by decide) (by decide)) hSd_2936
                        have hDg_2928 : Dgo h2928 E L rs := Dgo.kept (O := (· = L 0)) (hu_f eh2928 Fr.rf ha17 rfl) (hLay.1 62 0 (by decide) (by decide) (by decide)) hDg
                        have hDg_2935 : Dgo h2935 E L rs := Dgo.kept (O := (· = L 0)) (hu_f eh2935 Fr.rf ho0_2928 rfl) (hLay.1 62 0 (by decide) (by decide) (by decide)) hDg_2928
                        have hDg_2936 : Dgo h2936 E L rs := Dgo.kept (O := (· = L 0)) (hu_f eh2936 Fr.rf ho0_2935 rfl) (hLay.1 62 0 (by decide) (by decide) (by decide)) hDg_2935
                        have hDg_2939 : Dgo h2938 E L rs := Dgo.kept (O := (· = L 0)) hFo (hLay.1 62 0 (by decide) (by decide) (by decide)) hDg_2936
                        have hB_2928 : Bgs E h2928 B V cp := Bgs.kept (O := (· = L 0)) (hu_f eh2928 Fr.rf ha17 rfl) (fun i hi => hLay.2 i 0 hi (by decide)) hB
                        have hB_2935 : Bgs E h2935 B V cp := Bgs.kept (O := (· = L 0)) (hu_f eh2935 Fr.rf ho0_2928 rfl) (fun i hi => hLay.2 i 0 hi (by decide)) hB_2928
                        have hB_2936 : Bgs E h2936 B V cp := Bgs.kept (O := (· = L 0)) (hu_f eh2936 Fr.rf ho0_2935 rfl) (fun i hi => hLay.2 i 0 hi (by decide)) hB_2935
                        have hB_2939 : Bgs E h2938 B V cp := Bgs.kept (O := (· = L 0)) hFo (fun i hi => hLay.2 i 0 hi (by decide)) hB_2936
                        exact Z _ _ _ _ _ _ _ _ dX1_counted_174 (Nat.zero_le _) (Nat.zero_le _) ⟨hcd, by rw [tc0, tv, hsG], by rw [tc0, tv]; unfold ctN; rw [if_pos (by rw [← hsG]; exact c3)]; exact ⟨pp, gu f 17 gr, rs, pw, pl, ps, V, ⟨ho0_2938, ha1_2939, ha3_2939, ha12_2939, ha13_2939, ha14_2939, ha15_2939, ha16_2939, ha17_2939, ha39_2939⟩, ⟨r1, r3, r12, r13, r14, fun _ => r15 hs11, r16, fun i hi => by show gr i = upd (G 3) c0 (nI v) i; exact hG3 i hi, fun _ => rpp, rp16⟩, Vr_st hVr hs11, hSt_2939, hPr_2939, hCn_2939, hSd_2939, hDg_2939, hB_2939⟩, hF_2938, rfl, rfl⟩ T2938
                      · obtain ⟨hw1, hw2, hw3, hw4⟩ := hPW k (by omega)
                        refine lv_aload_n hx hb dX1_counted_120 rfl (lv_at hl2938 0 rfl) ?_
                        refine lv_dup hx hb dX1_counted_121 rfl ?_
                        refine hr_get C T2938 ho0_2938 rfl in_X1 22 (by decide) q317 rfl rfl dX1_counted_122 ?_
                        refine lv_aload_n hx hb dX1_counted_125 rfl (lv_at hl2938 0 rfl) ?_
                        refine hr_get C T2938 ho0_2938 rfl in_X1 16 (by decide) q311 rfl rfl dX1_counted_126 ?_
                        refine lv_aload_n hx hb dX1_counted_129 rfl (lv_at hl2938 0 rfl) ?_
                        refine hr_get C T2938 ho0_2938 rfl in_X1 23 (by decide) q320 rfl rfl dX1_counted_130 ?_
                        refine lv_iload hx hb dX1_counted_133 (lv_at hl2938 2 rfl) ?_
                        have hSt_2928 : Stt E L B h2928 := Stt.kept (O := (· = L 0)) (hu_f eh2928 Fr.rf ha17 rfl) (hLay.1 30 0 (by decide) (by decide) (by decide)) hSt
                        have hSt_2935 : Stt E L B h2935 := Stt.kept (O := (· = L 0)) (hu_f eh2935 Fr.rf ho0_2928 rfl) (hLay.1 30 0 (by decide) (by decide) (by decide)) hSt_2928
                        have hSt_2936 : Stt E L B h2936 := Stt.kept (O := (· = L 0)) (hu_f eh2936 Fr.rf ho0_2935 rfl) (hLay.1 30 0 (by decide) (by decide) (by decide)) hSt_2935
                        have hSt_2939 : Stt E L B h2938 := Stt.kept (O := (· = L 0)) hFo (hLay.1 30 0 (by decide) (by decide) (by decide)) hSt_2936
                        have hst24x2940 := (hSt_2939).1
                        refine hr_aald C T2938 6 rfl hst24x2940 (by omega) (by omega) rfl dX1_counted_135 ?_
                        have hPr_2928 : Prs L B pw pl ps h2928 := Prs.kept (O := (· = L 0)) (hu_f eh2928 Fr.rf ha17 rfl) (hLay.1 24 0 (by decide) (by decide) (by decide)) hPr
                        have hPr_2935 : Prs L B pw pl ps h2935 := Prs.kept (O := (· = L 0)) (hu_f eh2935 Fr.rf ho0_2928 rfl) (hLay.1 24 0 (by decide) (by decide) (by decide)) hPr_2928
                        have hPr_2936 : Prs L B pw pl ps h2936 := Prs.kept (O := (· = L 0)) (hu_f eh2936 Fr.rf ho0_2935 rfl) (hLay.1 24 0 (by decide) (by decide) (by decide)) hPr_2935
                        have hPr_2939 : Prs L B pw pl ps h2938 := Prs.kept (O := (· = L 0)) hFo (hLay.1 24 0 (by decide) (by decide) (by decide)) hPr_2936
                        have hpr2941 := hPr_2939 k (by omega)
                        refine hr_getN C T2938 hpr2941 rfl in_X9 0 (by decide) 8 rfl rfl rfl dX1_counted_136 ?_
                        rw [show pw k = nI (M 4 k) from hw1]
                        have ha17_2935 : h2935 (L 17) = some (.inl (E.2.1 0, 8, .inl gr), L 0) := hu_n eh2935 (hLay.1 17 0 (by decide) (by decide) (by decide)) ha17_2928
                        have ha17_2936 : h2936 (L 17) = some (.inl (E.2.1 0, 8, .inl gr), L 0) := hu_n eh2936 (hLay.1 17 0 (by decide) (by decide) (by decide)) ha17_2935
                        have ha17_2939 : h2938 (L 17) = some (.inl (E.2.1 0, 8, .inl gr), L 0) := (hoth _ (hLay.1 17 0 (by decide) (by decide) (by decide))).trans ha17_2936
                        refine hr_iald C T2938 ha17_2939 (by omega) (by omega) dX1_counted_139 ?_
                        refine lv_aload_n hx hb dX1_counted_140 rfl (lv_at hl2938 0 rfl) ?_
                        refine hr_get C T2938 ho0_2938 rfl in_X1 16 (by decide) q311 rfl rfl dX1_counted_141 ?_
                        refine lv_aload_n hx hb dX1_counted_144 rfl (lv_at hl2938 0 rfl) ?_
                        refine hr_get C T2938 ho0_2938 rfl in_X1 23 (by decide) q320 rfl rfl dX1_counted_145 ?_
                        refine lv_iload hx hb dX1_counted_148 (lv_at hl2938 2 rfl) ?_
                        refine hr_aald C T2938 6 rfl hst24x2940 (by omega) (by omega) rfl dX1_counted_150 ?_
                        refine hr_getN C T2938 hpr2941 rfl in_X9 1 (by decide) 9 rfl rfl rfl dX1_counted_151 ?_
                        rw [show pl k = nI (M 5 k) from hw2]
                        refine hr_iald C T2938 ha17_2939 (by omega) (by omega) dX1_counted_154 ?_
                        have J163 : ∀ (x : Nat) (H2942 : Heap) (locs2942 : List Loc) (ls2942 : Array Slot), (x ≤ 1) → (x = 1 ↔ (gr (M 5 k)).toInt < (gr (M 4 k)).toInt) → (St E s h2938 H2942 locs2942) → (lv_has ls2942 5 [(0, .ref (L 0)), (3, .int (nI (sures gr (N 0)))), (4, .int (nI k))]) → W p l e ({ frames := 8, cells := 1, slots := 6, locals := 1200 } : Room) s m ([.ref (L 0), .int (nI c0), .int (nI v)] : List Value).toArray below meth c H2942 locs2942 0 0 Q (F0 m 163 ls2942 [.int (nI x), .int (nI (rgt gr M k)), .ref (L 0)]) := by
                          intro x H2942 locs2942 ls2942 hx2 hx3 T2942 hl2942
                          refine lv_iand hx hb dX1_counted_163 ?_
                          rw [show (nI (rgt gr M k)) &&& (nI x) = nI (rgt gr M (k + 1)) from (rgt_and hrl hx2 hx3)]
                          refine hr_put C T2942 ho0_2938 rfl in_X1 tyX1 tyX1_ok nmX1 22 (by decide) q317 rfl rfl (show narrow .boolean _ = _ from narz (rgt_le gr M (k + 1))) (show fits .boolean _ = true from fitz (rgt_le gr M (k + 1))) (Nat.le_of_ble_eq_true rfl) dX1_counted_164 (fun h2943 H2943 locs2943 eh2943 T2943 => ?_)
                          have ho0_2943 : h2943 (L 0) = some (.inr (0, [.ref (L 1), .int (nI (N 0)), .ref (L 3), .int (nI (N 1)), .int (nI (N 2)), .int (nI (N 3)), .int (nI (N 4)), .int (nI (N 5)), .int (nI (N 6)), .int (nI (N 7)), .int (nI (N 8)), .ref (L 12), .ref (L 13), .ref (L 14), .ref (L 15), .ref (L 16), .ref (L 17), .int (nI 5), .int (nI (N 15)), .int (nI (N 16)), .int (nI (N 17)), .int (nI (N 18) - 1), .int (nI (rgt gr M (k + 1))), .ref (L 24), .int (nI pp), .ref (L 26), .ref (L 27), .ref (if N 13 = 1 then L 27 else L 26), .ref (L 29), .ref (L 30), .ref (if N 12 = 1 then L 30 else L 29), .ref (L 32), .ref (B 0), .ref (B 1), .ref (B 2), .ref (B 3), .ref (L 37), .ref (L 38), .ref (L 39), .ref (B 4), .ref (B 5)]), L 0) := hu_s eh2943
                          have hF_2943 : Fr (CO L B) h h2943 := hu_f eh2943 hF_2938 ho0_2938 (Or.inl rfl)
                          refine lv_iinc (v := nI (k + 1)) (lv' := [(4, .int (nI (k + 1))), (0, .ref (L 0)), (3, .int (nI (sures gr (N 0))))]) hx hb dX1_counted_167 hl2942 (k := 2) rfl (nI_add k 1) (by decide) rfl (fun ls2944 hl2944 => ?_)
                          refine lv_goto (tgt := 111) hx hb dX1_counted_170 (by decide) ?_
                          exact ih2938 (k + 1) _ _ _ _ (by omega) ho0_2943 (by omega) (fun q z1 => by rw [eh2943, hup_n z1]; exact hoth q z1) (hu_f eh2943 hFo ho0_2938 rfl) hF_2943 T2943 (lv_sub hl2944 [1, 2, 0] rfl)
                        refine zi_icmp_le (tgt := 162) (X := (gr (M 4 k)).toInt) (Y := (gr (M 5 k)).toInt) hx hb dX1_counted_155 (by decide) rfl rfl (fun c5 => ?_) (fun c5 => ?_)
                        · refine lv_iconst (v := nI 0) hx hb dX1_counted_162 rfl ?_
                          exact J163 0 _ _ _ (by decide) ⟨fun z => absurd z (by decide), fun z => by omega⟩ T2938 (lv_sub hl2938 [0, 1, 2] rfl)
                        · refine lv_iconst (v := nI 1) hx hb dX1_counted_158 rfl ?_
                          refine lv_goto (tgt := 163) hx hb dX1_counted_159 (by decide) ?_
                          exact J163 1 _ _ _ (by decide) ⟨fun _ => by omega, fun _ => rfl⟩ T2938 (lv_sub hl2938 [0, 1, 2] rfl)
                  exact L2 (pp + 1) 0 _ _ _ _ (by omega) ho0_2936 (Nat.zero_le _) (fun _ _ => rfl) Fr.rf hF_2936 T2936 (lv_sub hl2937 [1, 3, 0] rfl)
              · refine lv_iload_n hx hb dX1_counted_65 rfl (lv_at hl2931 2 rfl) ?_
                refine lv_aload_n hx hb dX1_counted_66 rfl (lv_at hl2931 0 rfl) ?_
                refine hr_get C T2931 ho0_2928 rfl in_X1 16 (by decide) q311 rfl rfl dX1_counted_67 ?_
                refine lv_iload hx hb dX1_counted_70 (lv_at hl2931 3 rfl) ?_
                refine hr_iald C T2931 ha17_2928 (by omega) (by omega) dX1_counted_72 ?_
                refine lv_iconst (v := (-1)) hx hb dX1_counted_73 rfl ?_
                have J82 : ∀ (x : Nat) (H2932 : Heap) (locs2932 : List Loc) (ls2932 : Array Slot), (sures gr (k + 1) = sures gr k + x) → (St E s h2928 H2932 locs2932) → (lv_has ls2932 5 [(0, .ref (L 0)), (1, .int (nI c0)), (3, .int (nI (sures gr k))), (4, .int (nI k))]) → W p l e ({ frames := 8, cells := 1, slots := 6, locals := 1200 } : Room) s m ([.ref (L 0), .int (nI c0), .int (nI v)] : List Value).toArray below meth c H2932 locs2932 0 0 Q (F0 m 82 ls2932 [.int (nI x), .int (nI (sures gr k))]) := by
                  intro x H2932 locs2932 ls2932 hx2 T2932 hl2932
                  refine hn_iadd hx hb dX1_counted_82 ?_
                  refine lv_istore_n (lv' := [(3, .int (nI ((sures gr k) + x))), (0, .ref (L 0)), (1, .int (nI c0)), (4, .int (nI k))]) hx hb dX1_counted_83 rfl hl2932 (by decide) rfl (fun ls2933 hl2933 => ?_)
                  refine lv_iinc (v := nI (k + 1)) (lv' := [(4, .int (nI (k + 1))), (3, .int (nI ((sures gr k) + x))), (0, .ref (L 0)), (1, .int (nI c0))]) hx hb dX1_counted_84 hl2933 (k := 3) rfl (nI_add k 1) (by decide) rfl (fun ls2934 hl2934 => ?_)
                  refine lv_goto (tgt := 56) hx hb dX1_counted_87 (by decide) ?_
                  rw [← hx2] at hl2934
                  exact ih2931 (k + 1) _ _ _ (by omega) (by omega) T2932 (lv_sub hl2934 [2, 3, 1, 0] rfl)
                refine zi_icmp_ne (tgt := 81) (X := (gr k).toInt) (Y := (-1)) hx hb dX1_counted_74 (by decide) rfl rfl (fun c2 => ?_) (fun c2 => ?_)
                · refine lv_iconst (v := nI 1) hx hb dX1_counted_81 rfl ?_
                  exact J82 1 _ _ _ (by rw [sures, if_neg (fun z => c2 (im1.mpr z))]) T2931 (lv_sub hl2931 [0, 1, 2, 3] rfl)
                · refine lv_iconst (v := nI 0) hx hb dX1_counted_77 rfl ?_
                  refine lv_goto (tgt := 82) hx hb dX1_counted_78 (by decide) ?_
                  exact J82 0 _ _ _ (by rw [sures, if_pos (im1.mp (by omega))]) T2931 (lv_sub hl2931 [0, 1, 2, 3] rfl)
          exact L1 (N 0 + 1) 0 _ _ _ (by omega) (Nat.zero_le _) T2928 (lv_sub hl2930 [2, 3, 1, 0] rfl)
  · refine hp_V C T hl.1 ho0 rfl (p_X1_isC0 (x := x) i0 cI2 ho0) q631 q633 qs4 q53 q634 kd_X1_isCandidate rfl rfl ⟨Nat.le_of_ble_eq_true rfl, Nat.le_of_ble_eq_true rfl⟩ (Nat.le_of_ble_eq_true rfl) dX1_counted_2 ⟨Nat.le_of_ble_eq_true rfl, Nat.le_of_ble_eq_true rfl⟩ (fun rv H2924 hp2924 T2924 => ?_)
    obtain rfl := hp2924
    refine W.eq (g2 := F0 m 5 ls [.int (nI 0)]) rfl ?_
    have hcd : cd_counted N x y = 1 := by unfold cd_counted; (repeat' split) <;> omega
    exact Y _ _ _ _ _ _ ((thr_S C T2924 hl.1 (t_X1_inside hfl) q593 q594 q53 q595 kd_X1_inside rfl rfl ⟨Nat.le_of_ble_eq_true rfl, Nat.le_of_ble_eq_true rfl⟩ (Nat.le_of_ble_eq_true rfl) dX1_counted_5 ⟨Nat.le_of_ble_eq_true rfl, Nat.le_of_ble_eq_true rfl⟩).on C T2924 hno ⟨Nat.le_of_ble_eq_true rfl, Nat.le_of_ble_eq_true rfl⟩ (fun h2 dc ds hp => by obtain ⟨rfl, rfl, rfl⟩ := hp; exact ⟨rfl, rfl, rfl, by rw [hcd]; exact ⟨by decide, rfl⟩⟩))
