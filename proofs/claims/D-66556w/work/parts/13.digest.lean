set_option maxRecDepth 100000
theorem hup_hup {h : HH} {a : Nat} {x y : HE} : hup (hup h a x) a y = hup h a y := by
  funext q
  unfold hup
  split <;> rfl
theorem hup_ih {h0 h h2 : HH} {a : Nat} {x y : HE} (e1 : h = hup h0 a x) (e2 : h2 = hup h a y) : h2 = hup h0 a y := by rw [e2, e1, hup_hup]
theorem hup_0 {h : HH} {a : Nat} {x : HE} (e : h a = some x) : h = hup h a x := by
  funext q
  unfold hup
  split
  · rename_i z; rw [z]; exact e
  · rfl
/-! digests: both sides reckon these -/
def trn (x : Int32) (k : Nat) : Int32 := (x.toUInt32 >>> ((nI k).toUInt32 &&& Int32.toUInt32 31)).toInt32 ||| x <<< (nI (32 - k) &&& 31)
def ush (x : Int32) (k : Nat) : Int32 := (x.toUInt32 >>> ((nI k).toUInt32 &&& Int32.toUInt32 31)).toInt32
def shs (w : Nat → Int32) (k : Nat) : Int32 := w (k - 16) + (trn (w (k - 15)) 7 ^^^ trn (w (k - 15)) 18 ^^^ ush (w (k - 15)) 3) + w (k - 7) + (trn (w (k - 2)) 17 ^^^ trn (w (k - 2)) 19 ^^^ ush (w (k - 2)) 10)
def shF (m : Nat → Int32) : Nat → Nat → Int32
  | 0 => m
  | n + 1 => upd (shF m n) (16 + n) (shs (shF m n) (16 + n))
def sh1 (s : Nat → Int32) (rk wk : Int32) : Int32 := s 7 + (trn (s 4) 6 ^^^ trn (s 4) 11 ^^^ trn (s 4) 25) + (s 4 &&& s 5 ^^^ (s 4 ^^^ (-1)) &&& s 6) + rk + wk
def sh2 (s : Nat → Int32) : Int32 := (trn (s 0) 2 ^^^ trn (s 0) 13 ^^^ trn (s 0) 22) + (s 0 &&& s 1 ^^^ s 0 &&& s 2 ^^^ s 1 &&& s 2)
def shR (s : Nat → Int32) (rk wk : Int32) : Nat → Int32 := fun i => if i = 0 then sh1 s rk wk + sh2 s else if i = 4 then s 3 + sh1 s rk wk else s (i - 1)
def shI (s w : Nat → Int32) : Nat → Nat → Int32
  | 0 => s
  | n + 1 => shR (shI s w n) (rkL.getD n 0) (w n)
def shm (b : Nat → Nat) (k : Nat) : Int32 := nI (b (4 * k)) <<< (nI 24 &&& 31) ||| nI (b (4 * k + 1)) <<< (nI 16 &&& 31) ||| nI (b (4 * k + 2)) <<< (nI 8 &&& 31) ||| nI (b (4 * k + 3))
def bg0 : Nat → Int32 := fun i => bgL.getD i 0
/-- the digest's eight words, of a message of one block -/
def dgw (b : Nat → Nat) (k : Nat) : Int32 := bg0 k + shI bg0 (shF (shm b) 48) 64 k
theorem shs_cong {w w' : Nat → Int32} {k : Nat} (hk : 16 ≤ k) (h : ∀ i, i < k → w i = w' i) : shs w k = shs w' k := by
  unfold shs
  rw [h (k - 16) (by omega), h (k - 15) (by omega), h (k - 7) (by omega), h (k - 2) (by omega)]
theorem shR_cong {s s' : Nat → Int32} {a b a' b' : Int32} (h : ∀ i, i < 8 → s i = s' i) (ha : a = a') (hb : b = b') : ∀ i, i < 8 → shR s a b i = shR s' a' b' i := by
  intro i hi
  have h1 : sh1 s a b = sh1 s' a' b' := by unfold sh1; rw [h 7 (by omega), h 4 (by omega), h 5 (by omega), h 6 (by omega), ha, hb]
  have h2 : sh2 s = sh2 s' := by unfold sh2; rw [h 0 (by omega), h 1 (by omega), h 2 (by omega)]
  unfold shR
  rw [h1, h2, h 3 (by omega)]
  split
  · rfl
  · split
    · rfl
    · exact h (i - 1) (by omega)
theorem shI_cong {s w w' : Nat → Int32} : ∀ {n : Nat}, (∀ i, i < n → w i = w' i) → ∀ i, i < 8 → shI s w n i = shI s w' n i := by
  intro n
  induction n with
  | zero => intro _ i _; rfl
  | succ n ih => intro h; exact shR_cong (ih fun i hi => h i (by omega)) rfl (h n (by omega))
theorem shF_step {m w : Nat → Int32} {n : Nat} (h : ∀ i, i < 16 + n → w i = shF m n i) {x : Int32} (hx : x = shs w (16 + n)) : ∀ i, i < 16 + (n + 1) → upd w (16 + n) x i = shF m (n + 1) i := by
  intro i hi
  show _ = upd (shF m n) (16 + n) _ i
  by_cases e : i = 16 + n
  · rw [e, pk_us, pk_us, hx]
    exact shs_cong (by omega) h
  · rw [pk_un e, pk_un e]
    exact h i (by omega)
/-- a byte -/
def b8 (n : Nat) : Int32 := (nI n).toInt8.toInt32
theorem b8_and : ∀ b, b < 256 → b8 b &&& nI 255 = nI b := by decide +kernel
theorem b8_128 : (-128 : Int32) = b8 128 := by decide +kernel
theorem b8_0 : nI 0 = b8 0 := by decide +kernel

theorem kd_X4_turn : yX4_turn.cls ≠ "java/lang/invoke/MethodHandle" ∧ yX4_turn.cls ≠ "java/lang/invoke/VarHandle" ∧ (parseMethodDescriptor yX4_turn.desc).map (fun d => d.parameters.length) = some 2 := by decide +kernel
theorem kd_X4_round : yX4_round.cls = RX4 ∧ yX4_round.cls ≠ "java/lang/invoke/MethodHandle" ∧ yX4_round.cls ≠ "java/lang/invoke/VarHandle" ∧ (parseMethodDescriptor yX4_round.desc).map (fun d => d.parameters.length) = some 1 := by decide +kernel
theorem kd_X4_begin : yX4_begin.cls = RX4 ∧ yX4_begin.cls ≠ "java/lang/invoke/MethodHandle" ∧ yX4_begin.cls ≠ "java/lang/invoke/VarHandle" ∧ (parseMethodDescriptor yX4_begin.desc).map (fun d => d.parameters.length) = some 0 := by decide +kernel
theorem kd_X4_add : yX4_add.cls = RX4 ∧ yX4_add.cls ≠ "java/lang/invoke/MethodHandle" ∧ yX4_add.cls ≠ "java/lang/invoke/VarHandle" ∧ (parseMethodDescriptor yX4_add.desc).map (fun d => d.parameters.length) = some 1 := by decide +kernel
theorem kd_X4_close : yX4_close.cls = RX4 ∧ yX4_close.cls ≠ "java/lang/invoke/MethodHandle" ∧ yX4_close.cls ≠ "java/lang/invoke/VarHandle" ∧ (parseMethodDescriptor yX4_close.desc).map (fun d => d.parameters.length) = some 0 := by decide +kernel
theorem kd_X4_byteAt : yX4_byteAt.cls = RX4 ∧ yX4_byteAt.cls ≠ "java/lang/invoke/MethodHandle" ∧ yX4_byteAt.cls ≠ "java/lang/invoke/VarHandle" ∧ (parseMethodDescriptor yX4_byteAt.desc).map (fun d => d.parameters.length) = some 1 := by decide +kernel
theorem kd_X4_rest : yX4_rest.cls = RX4 ∧ yX4_rest.cls ≠ "java/lang/invoke/MethodHandle" ∧ yX4_rest.cls ≠ "java/lang/invoke/VarHandle" ∧ (parseMethodDescriptor yX4_rest.desc).map (fun d => d.parameters.length) = some 1 := by decide +kernel

set_option maxHeartbeats 4000000 in
theorem p_X4_turn {E : GE} {l : Launch} {h : HH} {x : Int32} {k : Nat} (hk : k ≤ 32) : MP E l yX4_turn cX4_turn 2 (some .int) ({ frames := 0, cells := 0, slots := 0, locals := 0 } : Room) [.int x, .int (nI k)] h (fun rv => rv = some (.int (trn x k))) := by
  refine hp_i (by decide) (Nat.le_of_ble_eq_true rfl) ?_
  intro p e s m below meth c C Q Z ls T hl
  have hx := C.x
  have hb := C.b
  have hl : lv_has ls 2 [(0, .int x), (1, .int (nI k))] := hl
  refine lv_iload_n hx hb dX4_turn_0 rfl (lv_at hl 0 rfl) ?_
  refine lv_iload_n hx hb dX4_turn_1 rfl (lv_at hl 1 rfl) ?_
  refine lv_iushr (v := (x.toUInt32 >>> ((nI k).toUInt32 &&& Int32.toUInt32 31)).toInt32) hx hb dX4_turn_2 rfl ?_
  refine lv_iload_n hx hb dX4_turn_3 rfl (lv_at hl 0 rfl) ?_
  refine lv_bipush (v := nI 32) hx hb dX4_turn_4 rfl ?_
  refine lv_iload_n hx hb dX4_turn_6 rfl (lv_at hl 1 rfl) ?_
  refine hn_isub hx hb dX4_turn_7 (by omega) ?_
  refine lv_ishl hx hb dX4_turn_8 ?_
  refine lv_ior hx hb dX4_turn_9 ?_
  exact Z _ _ _ _ dX4_turn_10 rfl T

set_option maxHeartbeats 4000000 in
theorem m_X4_begin {E : GE} {l : Launch} {h : HH} {L : Nat → Nat} {n : Nat} (hdo : h (L 62) = some (.inr (4, [.ref (L 63), .ref (L 64), .ref (L 65), .ref (L 66), .int (nI n)]), L 62)) : MM E l yX4_begin cX4_begin 1 none ({ frames := 0, cells := 0, slots := 0, locals := 0 } : Room) [.ref (L 62)] h (fun rv h2 => rv = none ∧ h2 = hup h (L 62) (.inr (4, [.ref (L 63), .ref (L 64), .ref (L 65), .ref (L 66), .int (nI 0)]), L 62)) := by
  refine hm_v (by decide) (Nat.le_of_ble_eq_true rfl) ?_
  intro p e s m below meth c C hnm Q Z ls T hl
  have hx := C.x
  have hb := C.b
  have hl : lv_has ls 1 [(0, .ref (L 62))] := hl
  refine lv_aload_n hx hb dX4_begin_0 rfl (lv_at hl 0 rfl) ?_
  refine lv_iconst (v := nI 0) hx hb dX4_begin_1 rfl ?_
  refine hr_put C T hdo rfl in_X4 tyX4 tyX4_ok nmX4 4 (by decide) q123 rfl rfl rfl rfl (Nat.le_of_ble_eq_true rfl) dX4_begin_2 (fun h1301 H1301 locs1301 eh1301 T1301 => ?_)
  have hdo_1301 : h1301 (L 62) = some (.inr (4, [.ref (L 63), .ref (L 64), .ref (L 65), .ref (L 66), .int (nI 0)]), L 62) := hu_s eh1301
  exact Z _ _ _ _ _ dX4_begin_5 ⟨rfl, eh1301⟩ T1301

set_option maxHeartbeats 4000000 in
theorem m_X4_add {E : GE} {l : Launch} {h : HH} {L : Nat → Nat} (hL : ∀ i j, i < 128 → j < 128 → i ≠ j → L i ≠ L j) {n b : Nat} {fm : Nat → Int32} (hn : n < 64) (hdo : h (L 62) = some (.inr (4, [.ref (L 63), .ref (L 64), .ref (L 65), .ref (L 66), .int (nI n)]), L 62)) (hms : h (L 66) = some (.inl (E.2.1 1, 64, .inl fm), L 62)) : MM E l yX4_add cX4_add 2 none ({ frames := 0, cells := 0, slots := 0, locals := 0 } : Room) [.ref (L 62), .int (nI b)] h (fun rv h2 => rv = none ∧ h2 (L 62) = some (.inr (4, [.ref (L 63), .ref (L 64), .ref (L 65), .ref (L 66), .int (nI (n + 1))]), L 62) ∧ h2 (L 66) = some (.inl (E.2.1 1, 64, .inl (upd fm n (b8 b))), L 62) ∧ Fr (· = L 62) h h2 ∧ (∀ q, q ≠ L 62 → q ≠ L 66 → h2 q = h q)) := by
  refine hm_v (by decide) (Nat.le_of_ble_eq_true rfl) ?_
  intro p e s m below meth c C hnm Q Z ls T hl
  have hx := C.x
  have hb := C.b
  have hl : lv_has ls 2 [(0, .ref (L 62)), (1, .int (nI b))] := hl
  have hF : Fr (· = L 62) h h := Fr.rf
  refine lv_aload_n hx hb dX4_add_0 rfl (lv_at hl 0 rfl) ?_
  refine hr_get C T hdo rfl in_X4 3 (by decide) q122 rfl rfl dX4_add_1 ?_
  refine lv_aload_n hx hb dX4_add_4 rfl (lv_at hl 0 rfl) ?_
  refine lv_dup hx hb dX4_add_5 rfl ?_
  refine hr_get C T hdo rfl in_X4 4 (by decide) q123 rfl rfl dX4_add_6 ?_
  refine lv_dup_x1 hx hb dX4_add_9 rfl rfl ?_
  refine lv_iconst (v := nI 1) hx hb dX4_add_10 rfl ?_
  refine hn_iadd hx hb dX4_add_11 ?_
  refine hr_put C T hdo rfl in_X4 tyX4 tyX4_ok nmX4 4 (by decide) q123 rfl rfl rfl rfl (Nat.le_of_ble_eq_true rfl) dX4_add_12 (fun h1302 H1302 locs1302 eh1302 T1302 => ?_)
  have hdo_1302 : h1302 (L 62) = some (.inr (4, [.ref (L 63), .ref (L 64), .ref (L 65), .ref (L 66), .int (nI (n + 1))]), L 62) := hu_s eh1302
  have hF_1302 : Fr (· = L 62) h h1302 := hu_f eh1302 hF hdo rfl
  refine lv_iload_n hx hb dX4_add_15 rfl (lv_at hl 1 rfl) ?_
  refine lv_i2b (v := b8 b) hx hb dX4_add_16 rfl ?_
  have hms_1302 : h1302 (L 66) = some (.inl (E.2.1 1, 64, .inl fm), L 62) := hu_n eh1302 (hL 66 62 (by decide) (by decide) (by decide)) hms
  refine hr_bast C T1302 hms_1302 (by omega) (by omega) (pk_vb _) dX4_add_17 (fun h1303 H1303 locs1303 eh1303 T1303 => ?_)
  have hms_1303 : h1303 (L 66) = some (.inl (E.2.1 1, 64, .inl (upd fm n (b8 b))), L 62) := hu_s eh1303
  have hF_1303 : Fr (· = L 62) h h1303 := hu_f eh1303 hF_1302 hms_1302 rfl
  have hdo_1303 : h1303 (L 62) = some (.inr (4, [.ref (L 63), .ref (L 64), .ref (L 65), .ref (L 66), .int (nI (n + 1))]), L 62) := hu_n eh1303 (hL 62 66 (by decide) (by decide) (by decide)) hdo_1302
  exact Z _ _ _ _ _ dX4_add_18 ⟨rfl, hdo_1303, hms_1303, hF_1303, fun q h1 h2 => by rw [eh1303, hup_n h2, eh1302, hup_n h1]⟩ T1303

set_option maxHeartbeats 4000000 in
theorem m_X4_round {E : GE} {l : Launch} {h : HH} {L : Nat → Nat} (hL : ∀ i j, i < 128 → j < 128 → i ≠ j → L i ≠ L j) {n k : Nat} {fw fd : Nat → Int32} (hk : k < 64) (hdo : h (L 62) = some (.inr (4, [.ref (L 63), .ref (L 64), .ref (L 65), .ref (L 66), .int (nI n)]), L 62)) (hwk : h (L 64) = some (.inl (E.2.1 0, 8, .inl fw), L 62)) (hwd : h (L 65) = some (.inl (E.2.1 0, 64, .inl fd), L 62)) : MM E l yX4_round cX4_round 7 none ({ frames := 1, cells := 0, slots := 0, locals := 150 } : Room) [.ref (L 62), .int (nI k)] h (fun rv h2 => rv = none ∧ ∃ r, h2 = hup h (L 64) (.inl (E.2.1 0, 8, .inl r), L 62) ∧ ∀ i, i < 8 → r i = shR fw (rkL.getD k 0) (fd k) i) := by
  refine hm_v (by decide) (Nat.le_of_ble_eq_true rfl) ?_
  intro p e s m below meth c C hnm Q Z ls T hl
  have hx := C.x
  have hb := C.b
  have hl : lv_has ls 7 [(0, .ref (L 62)), (1, .int (nI k))] := hl
  refine lv_aload_n hx hb dX4_round_0 rfl (lv_at hl 0 rfl) ?_
  refine hr_get C T hdo rfl in_X4 1 (by decide) q120 rfl rfl dX4_round_1 ?_
  refine lv_iconst (v := nI 4) hx hb dX4_round_4 rfl ?_
  refine hr_iald C T hwk (by omega) (by omega) dX4_round_5 ?_
  refine lv_istore_n (lv' := [(2, .int (fw 4)), (0, .ref (L 62)), (1, .int (nI k))]) hx hb dX4_round_6 rfl hl (by decide) rfl (fun ls1304 hl1304 => ?_)
  refine lv_aload_n hx hb dX4_round_7 rfl (lv_at hl1304 1 rfl) ?_
  refine hr_get C T hdo rfl in_X4 1 (by decide) q120 rfl rfl dX4_round_8 ?_
  refine lv_iconst (v := nI 0) hx hb dX4_round_11 rfl ?_
  refine hr_iald C T hwk (by omega) (by omega) dX4_round_12 ?_
  refine lv_istore_n (lv' := [(3, .int (fw 0)), (2, .int (fw 4)), (0, .ref (L 62)), (1, .int (nI k))]) hx hb dX4_round_13 rfl hl1304 (by decide) rfl (fun ls1305 hl1305 => ?_)
  refine lv_aload_n hx hb dX4_round_14 rfl (lv_at hl1305 2 rfl) ?_
  refine hr_get C T hdo rfl in_X4 1 (by decide) q120 rfl rfl dX4_round_15 ?_
  refine lv_bipush (v := nI 7) hx hb dX4_round_18 rfl ?_
  refine hr_iald C T hwk (by omega) (by omega) dX4_round_20 ?_
  refine lv_iload_n hx hb dX4_round_21 rfl (lv_at hl1305 1 rfl) ?_
  refine lv_bipush (v := nI 6) hx hb dX4_round_22 rfl ?_
  refine hp_S C T hl1305.1 (p_X4_turn (x := fw 4) (k := 6) (by decide)) q724 q725 q56 q726 kd_X4_turn rfl rfl ⟨Nat.le_of_ble_eq_true rfl, Nat.le_of_ble_eq_true rfl⟩ (Nat.le_of_ble_eq_true rfl) dX4_round_24 ⟨Nat.le_of_ble_eq_true rfl, Nat.le_of_ble_eq_true rfl⟩ (fun rv H1306 hp1306 T1306 => ?_)
  obtain rfl := hp1306
  refine W.eq (g2 := F0 m 27 ls1305 [.int (trn (fw 4) 6), .int (fw 7)]) rfl ?_
  refine lv_iload_n hx hb dX4_round_27 rfl (lv_at hl1305 1 rfl) ?_
  refine lv_bipush (v := nI 11) hx hb dX4_round_28 rfl ?_
  refine hp_S C T1306 hl1305.1 (p_X4_turn (x := fw 4) (k := 11) (by decide)) q724 q725 q56 q726 kd_X4_turn rfl rfl ⟨Nat.le_of_ble_eq_true rfl, Nat.le_of_ble_eq_true rfl⟩ (Nat.le_of_ble_eq_true rfl) dX4_round_30 ⟨Nat.le_of_ble_eq_true rfl, Nat.le_of_ble_eq_true rfl⟩ (fun rv H1307 hp1307 T1307 => ?_)
  obtain rfl := hp1307
  refine W.eq (g2 := F0 m 33 ls1305 [.int (trn (fw 4) 11), .int (trn (fw 4) 6), .int (fw 7)]) rfl ?_
  refine lv_ixor hx hb dX4_round_33 ?_
  refine lv_iload_n hx hb dX4_round_34 rfl (lv_at hl1305 1 rfl) ?_
  refine lv_bipush (v := nI 25) hx hb dX4_round_35 rfl ?_
  refine hp_S C T1307 hl1305.1 (p_X4_turn (x := fw 4) (k := 25) (by decide)) q724 q725 q56 q726 kd_X4_turn rfl rfl ⟨Nat.le_of_ble_eq_true rfl, Nat.le_of_ble_eq_true rfl⟩ (Nat.le_of_ble_eq_true rfl) dX4_round_37 ⟨Nat.le_of_ble_eq_true rfl, Nat.le_of_ble_eq_true rfl⟩ (fun rv H1308 hp1308 T1308 => ?_)
  obtain rfl := hp1308
  refine W.eq (g2 := F0 m 40 ls1305 [.int (trn (fw 4) 25), .int ((trn (fw 4) 6) ^^^ (trn (fw 4) 11)), .int (fw 7)]) rfl ?_
  refine lv_ixor hx hb dX4_round_40 ?_
  refine lv_iadd hx hb dX4_round_41 ?_
  refine lv_iload_n hx hb dX4_round_42 rfl (lv_at hl1305 1 rfl) ?_
  refine lv_aload_n hx hb dX4_round_43 rfl (lv_at hl1305 2 rfl) ?_
  refine hr_get C T1308 hdo rfl in_X4 1 (by decide) q120 rfl rfl dX4_round_44 ?_
  refine lv_iconst (v := nI 5) hx hb dX4_round_47 rfl ?_
  refine hr_iald C T1308 hwk (by omega) (by omega) dX4_round_48 ?_
  refine lv_iand hx hb dX4_round_49 ?_
  refine lv_iload_n hx hb dX4_round_50 rfl (lv_at hl1305 1 rfl) ?_
  refine lv_iconst (v := (-1)) hx hb dX4_round_51 rfl ?_
  refine lv_ixor hx hb dX4_round_52 ?_
  refine lv_aload_n hx hb dX4_round_53 rfl (lv_at hl1305 2 rfl) ?_
  refine hr_get C T1308 hdo rfl in_X4 1 (by decide) q120 rfl rfl dX4_round_54 ?_
  refine lv_bipush (v := nI 6) hx hb dX4_round_57 rfl ?_
  refine hr_iald C T1308 hwk (by omega) (by omega) dX4_round_59 ?_
  refine lv_iand hx hb dX4_round_60 ?_
  refine lv_ixor hx hb dX4_round_61 ?_
  refine lv_iadd hx hb dX4_round_62 ?_
  refine va_gets hx hb C.2.2.2.2.1 T1308.2 C.ow (C.ts _ q733) (fun _ z => z) dX4_round_63 ?_
  refine lv_iload_n hx hb dX4_round_66 rfl (lv_at hl1305 3 rfl) ?_
  refine va_ti hx hb C.2.2.2.2.2.1 T1308.2 (vp_in_nI (by omega) (by omega)) (v := .int (rkL.getD k 0)) (by rw [nI_clamp (by omega)]) dX4_round_67 ?_
  refine lv_iadd hx hb dX4_round_68 ?_
  refine lv_aload_n hx hb dX4_round_69 rfl (lv_at hl1305 2 rfl) ?_
  refine hr_get C T1308 hdo rfl in_X4 2 (by decide) q121 rfl rfl dX4_round_70 ?_
  refine lv_iload_n hx hb dX4_round_73 rfl (lv_at hl1305 3 rfl) ?_
  refine hr_iald C T1308 hwd (by omega) (by omega) dX4_round_74 ?_
  refine lv_iadd hx hb dX4_round_75 ?_
  refine lv_istore (lv' := [(4, .int (((((fw 7) + (((trn (fw 4) 6) ^^^ (trn (fw 4) 11)) ^^^ (trn (fw 4) 25))) + (((fw 4) &&& (fw 5)) ^^^ (((fw 4) ^^^ (-1)) &&& (fw 6)))) + (rkL.getD k 0)) + (fd k))), (3, .int (fw 0)), (2, .int (fw 4)), (0, .ref (L 62)), (1, .int (nI k))]) hx hb dX4_round_76 hl1305 (by decide) rfl (fun ls1309 hl1309 => ?_)
  refine lv_iload_n hx hb dX4_round_78 rfl (lv_at hl1309 1 rfl) ?_
  refine lv_iconst (v := nI 2) hx hb dX4_round_79 rfl ?_
  refine hp_S C T1308 hl1309.1 (p_X4_turn (x := fw 0) (k := 2) (by decide)) q724 q725 q56 q726 kd_X4_turn rfl rfl ⟨Nat.le_of_ble_eq_true rfl, Nat.le_of_ble_eq_true rfl⟩ (Nat.le_of_ble_eq_true rfl) dX4_round_80 ⟨Nat.le_of_ble_eq_true rfl, Nat.le_of_ble_eq_true rfl⟩ (fun rv H1310 hp1310 T1310 => ?_)
  obtain rfl := hp1310
  refine W.eq (g2 := F0 m 83 ls1309 [.int (trn (fw 0) 2)]) rfl ?_
  refine lv_iload_n hx hb dX4_round_83 rfl (lv_at hl1309 1 rfl) ?_
  refine lv_bipush (v := nI 13) hx hb dX4_round_84 rfl ?_
  refine hp_S C T1310 hl1309.1 (p_X4_turn (x := fw 0) (k := 13) (by decide)) q724 q725 q56 q726 kd_X4_turn rfl rfl ⟨Nat.le_of_ble_eq_true rfl, Nat.le_of_ble_eq_true rfl⟩ (Nat.le_of_ble_eq_true rfl) dX4_round_86 ⟨Nat.le_of_ble_eq_true rfl, Nat.le_of_ble_eq_true rfl⟩ (fun rv H1311 hp1311 T1311 => ?_)
  obtain rfl := hp1311
  refine W.eq (g2 := F0 m 89 ls1309 [.int (trn (fw 0) 13), .int (trn (fw 0) 2)]) rfl ?_
  refine lv_ixor hx hb dX4_round_89 ?_
  refine lv_iload_n hx hb dX4_round_90 rfl (lv_at hl1309 1 rfl) ?_
  refine lv_bipush (v := nI 22) hx hb dX4_round_91 rfl ?_
  refine hp_S C T1311 hl1309.1 (p_X4_turn (x := fw 0) (k := 22) (by decide)) q724 q725 q56 q726 kd_X4_turn rfl rfl ⟨Nat.le_of_ble_eq_true rfl, Nat.le_of_ble_eq_true rfl⟩ (Nat.le_of_ble_eq_true rfl) dX4_round_93 ⟨Nat.le_of_ble_eq_true rfl, Nat.le_of_ble_eq_true rfl⟩ (fun rv H1312 hp1312 T1312 => ?_)
  obtain rfl := hp1312
  refine W.eq (g2 := F0 m 96 ls1309 [.int (trn (fw 0) 22), .int ((trn (fw 0) 2) ^^^ (trn (fw 0) 13))]) rfl ?_
  refine lv_ixor hx hb dX4_round_96 ?_
  refine lv_iload_n hx hb dX4_round_97 rfl (lv_at hl1309 1 rfl) ?_
  refine lv_aload_n hx hb dX4_round_98 rfl (lv_at hl1309 3 rfl) ?_
  refine hr_get C T1312 hdo rfl in_X4 1 (by decide) q120 rfl rfl dX4_round_99 ?_
  refine lv_iconst (v := nI 1) hx hb dX4_round_102 rfl ?_
  refine hr_iald C T1312 hwk (by omega) (by omega) dX4_round_103 ?_
  refine lv_iand hx hb dX4_round_104 ?_
  refine lv_iload_n hx hb dX4_round_105 rfl (lv_at hl1309 1 rfl) ?_
  refine lv_aload_n hx hb dX4_round_106 rfl (lv_at hl1309 3 rfl) ?_
  refine hr_get C T1312 hdo rfl in_X4 1 (by decide) q120 rfl rfl dX4_round_107 ?_
  refine lv_iconst (v := nI 2) hx hb dX4_round_110 rfl ?_
  refine hr_iald C T1312 hwk (by omega) (by omega) dX4_round_111 ?_
  refine lv_iand hx hb dX4_round_112 ?_
  refine lv_ixor hx hb dX4_round_113 ?_
  refine lv_aload_n hx hb dX4_round_114 rfl (lv_at hl1309 3 rfl) ?_
  refine hr_get C T1312 hdo rfl in_X4 1 (by decide) q120 rfl rfl dX4_round_115 ?_
  refine lv_iconst (v := nI 1) hx hb dX4_round_118 rfl ?_
  refine hr_iald C T1312 hwk (by omega) (by omega) dX4_round_119 ?_
  refine lv_aload_n hx hb dX4_round_120 rfl (lv_at hl1309 3 rfl) ?_
  refine hr_get C T1312 hdo rfl in_X4 1 (by decide) q120 rfl rfl dX4_round_121 ?_
  refine lv_iconst (v := nI 2) hx hb dX4_round_124 rfl ?_
  refine hr_iald C T1312 hwk (by omega) (by omega) dX4_round_125 ?_
  refine lv_iand hx hb dX4_round_126 ?_
  refine lv_ixor hx hb dX4_round_127 ?_
  refine lv_iadd hx hb dX4_round_128 ?_
  refine lv_istore (lv' := [(5, .int ((((trn (fw 0) 2) ^^^ (trn (fw 0) 13)) ^^^ (trn (fw 0) 22)) + ((((fw 0) &&& (fw 1)) ^^^ ((fw 0) &&& (fw 2))) ^^^ ((fw 1) &&& (fw 2))))), (4, .int (((((fw 7) + (((trn (fw 4) 6) ^^^ (trn (fw 4) 11)) ^^^ (trn (fw 4) 25))) + (((fw 4) &&& (fw 5)) ^^^ (((fw 4) ^^^ (-1)) &&& (fw 6)))) + (rkL.getD k 0)) + (fd k))), (3, .int (fw 0)), (2, .int (fw 4)), (0, .ref (L 62)), (1, .int (nI k))]) hx hb dX4_round_129 hl1309 (by decide) rfl (fun ls1313 hl1313 => ?_)
  refine lv_bipush (v := nI 7) hx hb dX4_round_131 rfl ?_
  refine lv_istore (lv' := [(6, .int (nI 7)), (5, .int ((((trn (fw 0) 2) ^^^ (trn (fw 0) 13)) ^^^ (trn (fw 0) 22)) + ((((fw 0) &&& (fw 1)) ^^^ ((fw 0) &&& (fw 2))) ^^^ ((fw 1) &&& (fw 2))))), (4, .int (((((fw 7) + (((trn (fw 4) 6) ^^^ (trn (fw 4) 11)) ^^^ (trn (fw 4) 25))) + (((fw 4) &&& (fw 5)) ^^^ (((fw 4) ^^^ (-1)) &&& (fw 6)))) + (rkL.getD k 0)) + (fd k))), (3, .int (fw 0)), (2, .int (fw 4)), (0, .ref (L 62)), (1, .int (nI k))]) hx hb dX4_round_133 hl1313 (by decide) rfl (fun ls1314 hl1314 => ?_)
  have hl1314 : lv_has ls1314 7 [(0, .ref (L 62)), (4, .int (sh1 fw (rkL.getD k 0) (fd k))), (5, .int (sh2 fw)), (6, .int (nI 7))] := lv_sub hl1314 [5, 2, 1, 0] rfl
  have L1 : ∀ (j : Nat) (t : Nat) (r : Nat → Int32) (h1315 : HH) (H1315 : Heap) (locs1315 : List Loc) (ls1315 : Array Slot), (t < j) → (h1315 (L 62) = some (.inr (4, [.ref (L 63), .ref (L 64), .ref (L 65), .ref (L 66), .int (nI n)]), L 62)) → (h1315 (L 64) = some (.inl (E.2.1 0, 8, .inl r), L 62)) → (t ≤ 7) → (∀ i, t < i → i < 8 → r i = fw (i - 1)) → (∀ i, i ≤ t → r i = fw i) → (h1315 = hup h (L 64) (.inl (E.2.1 0, 8, .inl r), L 62)) → (St E s h1315 H1315 locs1315) → (lv_has ls1315 7 [(0, .ref (L 62)), (4, .int (sh1 fw (rkL.getD k 0) (fd k))), (5, .int (sh2 fw)), (6, .int (nI t))]) → W p l e ({ frames := 1, cells := 0, slots := 0, locals := 150 } : Room) s m ([.ref (L 62), .int (nI k)] : List Value).toArray below meth c H1315 locs1315 0 0 Q (F0 m 135 ls1315 []) := by
    intro j
    induction j with
    | zero => intro t r h1315 H1315 locs1315 ls1315 hm1315 hdo_1315 hwk_1315 ht hr1 hr2 hh T1315 hl1315; exact absurd hm1315 (by omega)
    | succ j ih1315 =>
      intro t r h1315 H1315 locs1315 ls1315 hm1315 hdo_1315 hwk_1315 ht hr1 hr2 hh T1315 hl1315
      refine lv_iload hx hb dX4_round_135 (lv_at hl1315 3 rfl) ?_
      refine hn_if_le (tgt := 162) hx hb dX4_round_137 (by decide) (by omega) (fun c1 => ?_) (fun c1 => ?_)
      · refine lv_aload_n hx hb dX4_round_162 rfl (lv_at hl1315 0 rfl) ?_
        refine hr_get C T1315 hdo_1315 rfl in_X4 1 (by decide) q120 rfl rfl dX4_round_163 ?_
        refine lv_iconst (v := nI 4) hx hb dX4_round_166 rfl ?_
        refine lv_dup2_11 hx hb dX4_round_167 rfl rfl ?_
        refine hr_iald C T1315 hwk_1315 (by omega) (by omega) dX4_round_168 ?_
        refine lv_iload hx hb dX4_round_169 (lv_at hl1315 1 rfl) ?_
        refine lv_iadd hx hb dX4_round_171 ?_
        refine hr_iast C T1315 hwk_1315 (by omega) (by omega) dX4_round_172 (fun h1316 H1316 locs1316 eh1316 T1316 => ?_)
        have hwk_1316 : h1316 (L 64) = some (.inl (E.2.1 0, 8, .inl (upd r 4 ((r 4) + (sh1 fw (rkL.getD k 0) (fd k))))), L 62) := hu_s eh1316
        refine lv_aload_n hx hb dX4_round_173 rfl (lv_at hl1315 0 rfl) ?_
        have hdo_1316 : h1316 (L 62) = some (.inr (4, [.ref (L 63), .ref (L 64), .ref (L 65), .ref (L 66), .int (nI n)]), L 62) := hu_n eh1316 (hL 62 64 (by decide) (by decide) (by decide)) hdo_1315
        refine hr_get C T1316 hdo_1316 rfl in_X4 1 (by decide) q120 rfl rfl dX4_round_174 ?_
        refine lv_iconst (v := nI 0) hx hb dX4_round_177 rfl ?_
        refine lv_iload hx hb dX4_round_178 (lv_at hl1315 1 rfl) ?_
        refine lv_iload hx hb dX4_round_180 (lv_at hl1315 2 rfl) ?_
        refine lv_iadd hx hb dX4_round_182 ?_
        refine hr_iast C T1316 hwk_1316 (by omega) (by omega) dX4_round_183 (fun h1317 H1317 locs1317 eh1317 T1317 => ?_)
        have hwk_1317 : h1317 (L 64) = some (.inl (E.2.1 0, 8, .inl (upd (upd r 4 ((r 4) + (sh1 fw (rkL.getD k 0) (fd k)))) 0 ((sh1 fw (rkL.getD k 0) (fd k)) + (sh2 fw)))), L 62) := hu_s eh1317
        have hr4 : r 4 = fw 3 := hr1 4 (by omega) (by omega)
        exact Z _ _ _ _ _ dX4_round_184 ⟨rfl, _, hup_ih (hup_ih hh eh1316) eh1317, fun i hi => by unfold shR; by_cases z : i = 0; (rw [if_pos z, z, pk_us]); (rw [if_neg z, pk_un z]; by_cases y : i = 4; (rw [if_pos y, y, pk_us, hr4]); (rw [if_neg y, pk_un y]; exact hr1 i (by omega) hi))⟩ T1317
      · refine lv_aload_n hx hb dX4_round_140 rfl (lv_at hl1315 0 rfl) ?_
        refine hr_get C T1315 hdo_1315 rfl in_X4 1 (by decide) q120 rfl rfl dX4_round_141 ?_
        refine lv_iload hx hb dX4_round_144 (lv_at hl1315 3 rfl) ?_
        refine lv_aload_n hx hb dX4_round_146 rfl (lv_at hl1315 0 rfl) ?_
        refine hr_get C T1315 hdo_1315 rfl in_X4 1 (by decide) q120 rfl rfl dX4_round_147 ?_
        refine lv_iload hx hb dX4_round_150 (lv_at hl1315 3 rfl) ?_
        refine lv_iconst (v := nI 1) hx hb dX4_round_152 rfl ?_
        refine hn_isub hx hb dX4_round_153 (by omega) ?_
        refine hr_iald C T1315 hwk_1315 (by omega) (by omega) dX4_round_154 ?_
        refine hr_iast C T1315 hwk_1315 (by omega) (by omega) dX4_round_155 (fun h1318 H1318 locs1318 eh1318 T1318 => ?_)
        have hwk_1318 : h1318 (L 64) = some (.inl (E.2.1 0, 8, .inl (upd r t (r (t - 1)))), L 62) := hu_s eh1318
        refine lv_iinc (v := nI (t - 1)) (lv' := [(6, .int (nI (t - 1))), (0, .ref (L 62)), (4, .int (sh1 fw (rkL.getD k 0) (fd k))), (5, .int (sh2 fw))]) hx hb dX4_round_156 hl1315 (k := 3) rfl (by rw [show Int32.ofInt (-1) = -nI 1 from rfl, ← Int32.sub_eq_add_neg, pk_sub (by omega)]) (by decide) rfl (fun ls1319 hl1319 => ?_)
        refine lv_goto (tgt := 135) hx hb dX4_round_159 (by decide) ?_
        have hdo_1318 : h1318 (L 62) = some (.inr (4, [.ref (L 63), .ref (L 64), .ref (L 65), .ref (L 66), .int (nI n)]), L 62) := hu_n eh1318 (hL 62 64 (by decide) (by decide) (by decide)) hdo_1315
        exact ih1315 (t - 1) _ _ _ _ _ (by omega) hdo_1318 hwk_1318 (by omega) (fun i h1 h2 => by by_cases z : i = t; (rw [z, pk_us]; exact hr2 _ (by omega)); (rw [pk_un z]; exact hr1 i (by omega) h2)) (fun i h1 => by rw [pk_un (by omega)]; exact hr2 i (by omega)) (hup_ih hh eh1318) T1318 (lv_sub hl1319 [1, 2, 3, 0] rfl)
  exact L1 8 7 fw _ _ _ _ (by omega) hdo hwk (by omega) (fun i h1 h2 => absurd h1 (by omega)) (fun _ _ => rfl) (hup_0 hwk) T1312 (lv_sub hl1314 [0, 1, 2, 3] rfl)

theorem sh8 {n : Nat} (h : n < 32) : nI (8 * n) >>> (nI 8 &&& 31) = nI 0 := by
  have : ∀ n, n < 32 → nI (8 * n) >>> (nI 8 &&& 31) = nI 0 := by decide +kernel
  exact this n h

set_option maxHeartbeats 4000000 in
theorem m_X4_close {E : GE} {l : Launch} {h : HH} {L : Nat → Nat} (hL : ∀ i j, i < 128 → j < 128 → i ≠ j → L i ≠ L j) {n : Nat} {fs fw fd fm : Nat → Int32} {mb : Nat → Nat} (hn : n < 32) (hm : ∀ i, i < n → fm i = b8 (mb i)) (hmn : mb n = 128) (hmz : ∀ i, n < i → i < 63 → mb i = 0) (hm63 : mb 63 = 8 * n) (hmb : ∀ i, i < 64 → mb i < 256) (hdo : h (L 62) = some (.inr (4, [.ref (L 63), .ref (L 64), .ref (L 65), .ref (L 66), .int (nI n)]), L 62)) (hst : h (L 63) = some (.inl (E.2.1 0, 8, .inl fs), L 62)) (hwk : h (L 64) = some (.inl (E.2.1 0, 8, .inl fw), L 62)) (hwd : h (L 65) = some (.inl (E.2.1 0, 64, .inl fd), L 62)) (hms : h (L 66) = some (.inl (E.2.1 1, 64, .inl fm), L 62)) : MM E l yX4_close cX4_close 5 none ({ frames := 2, cells := 0, slots := 0, locals := 300 } : Room) [.ref (L 62)] h (fun rv h2 => rv = none ∧ ∃ rs rw rd rm, h2 (L 62) = some (.inr (4, [.ref (L 63), .ref (L 64), .ref (L 65), .ref (L 66), .int (nI n)]), L 62) ∧ h2 (L 63) = some (.inl (E.2.1 0, 8, .inl rs), L 62) ∧ h2 (L 64) = some (.inl (E.2.1 0, 8, .inl rw), L 62) ∧ h2 (L 65) = some (.inl (E.2.1 0, 64, .inl rd), L 62) ∧ h2 (L 66) = some (.inl (E.2.1 1, 64, .inl rm), L 62) ∧ (∀ i, i < 8 → rs i = dgw mb i) ∧ Fr (· = L 62) h h2 ∧ (∀ q, q ≠ L 63 → q ≠ L 64 → q ≠ L 65 → q ≠ L 66 → h2 q = h q)) := by
  refine hm_v (by decide) (Nat.le_of_ble_eq_true rfl) ?_
  intro p e s m below meth c C hnm Q Z ls T hl
  have hx := C.x
  have hb := C.b
  have hl : lv_has ls 5 [(0, .ref (L 62))] := hl
  have hF : Fr (· = L 62) h h := Fr.rf
  refine lv_bipush (v := nI 8) hx hb dX4_close_0 rfl ?_
  refine lv_aload_n hx hb dX4_close_2 rfl (lv_at hl 0 rfl) ?_
  refine hr_get C T hdo rfl in_X4 4 (by decide) q123 rfl rfl dX4_close_3 ?_
  refine hn_imul hx hb dX4_close_6 ?_
  refine lv_istore_n (lv' := [(1, .int (nI (8 * n))), (0, .ref (L 62))]) hx hb dX4_close_7 rfl hl (by decide) rfl (fun ls1320 hl1320 => ?_)
  refine lv_aload_n hx hb dX4_close_8 rfl (lv_at hl1320 1 rfl) ?_
  refine hr_get C T hdo rfl in_X4 3 (by decide) q122 rfl rfl dX4_close_9 ?_
  refine lv_aload_n hx hb dX4_close_12 rfl (lv_at hl1320 1 rfl) ?_
  refine hr_get C T hdo rfl in_X4 4 (by decide) q123 rfl rfl dX4_close_13 ?_
  refine lv_bipush (v := (-128)) hx hb dX4_close_16 rfl ?_
  rw [b8_128]
  refine hr_bast C T hms (by omega) (by omega) (pk_vb _) dX4_close_18 (fun h1321 H1321 locs1321 eh1321 T1321 => ?_)
  have hms_1321 : h1321 (L 66) = some (.inl (E.2.1 1, 64, .inl (upd fm n (b8 128))), L 62) := hu_s eh1321
  have hF_1321 : Fr (· = L 62) h h1321 := hu_f eh1321 hF hms rfl
  refine lv_aload_n hx hb dX4_close_19 rfl (lv_at hl1320 1 rfl) ?_
  have hdo_1321 : h1321 (L 62) = some (.inr (4, [.ref (L 63), .ref (L 64), .ref (L 65), .ref (L 66), .int (nI n)]), L 62) := hu_n eh1321 (hL 62 66 (by decide) (by decide) (by decide)) hdo
  refine hr_get C T1321 hdo_1321 rfl in_X4 4 (by decide) q123 rfl rfl dX4_close_20 ?_
  refine lv_iconst (v := nI 1) hx hb dX4_close_23 rfl ?_
  refine hn_iadd hx hb dX4_close_24 ?_
  refine lv_istore_n (lv' := [(2, .int (nI (n + 1))), (1, .int (nI (8 * n))), (0, .ref (L 62))]) hx hb dX4_close_25 rfl hl1320 (by decide) rfl (fun ls1322 hl1322 => ?_)
  have hn2 : n < 62 := by omega
  have L5 : ∀ (j : Nat) (k : Nat) (rs rw rd rm : Nat → Int32) (h1323 : HH) (H1323 : Heap) (locs1323 : List Loc) (ls1323 : Array Slot), (9 ≤ k + j) → (h1323 (L 62) = some (.inr (4, [.ref (L 63), .ref (L 64), .ref (L 65), .ref (L 66), .int (nI n)]), L 62)) → (h1323 (L 63) = some (.inl (E.2.1 0, 8, .inl rs), L 62)) → (h1323 (L 64) = some (.inl (E.2.1 0, 8, .inl rw), L 62)) → (h1323 (L 65) = some (.inl (E.2.1 0, 64, .inl rd), L 62)) → (h1323 (L 66) = some (.inl (E.2.1 1, 64, .inl rm), L 62)) → (k ≤ 8) → (∀ i, i < k → rs i = dgw mb i) → (∀ i, k ≤ i → i < 8 → rs i = bg0 i) → (∀ i, i < 8 → rw i = shI bg0 (shF (shm mb) 48) 64 i) → (∀ q, q ≠ L 63 → q ≠ L 64 → q ≠ L 65 → q ≠ L 66 → h1323 q = h q) → (Fr (· = L 62) h h1323) → (St E s h1323 H1323 locs1323) → (lv_has ls1323 5 [(0, .ref (L 62)), (2, .int (nI k))]) → W p l e ({ frames := 2, cells := 0, slots := 0, locals := 300 } : Room) s m ([.ref (L 62)] : List Value).toArray below meth c H1323 locs1323 0 0 Q (F0 m 309 ls1323 []) := by
    intro j
    induction j with
    | zero => intro k rs rw rd rm h1323 H1323 locs1323 ls1323 hm1323 hdo_1323 hst_1323 hwk_1323 hwd_1323 hms_1323 hk h1 h2 h3 ho hF_1323 T1323 hl1323; exact absurd hm1323 (by omega)
    | succ j ih1323 =>
      intro k rs rw rd rm h1323 H1323 locs1323 ls1323 hm1323 hdo_1323 hst_1323 hwk_1323 hwd_1323 hms_1323 hk h1 h2 h3 ho hF_1323 T1323 hl1323
      refine lv_iload_n hx hb dX4_close_309 rfl (lv_at hl1323 1 rfl) ?_
      refine lv_bipush (v := nI 8) hx hb dX4_close_310 rfl ?_
      refine hn_icmp_ge (tgt := 336) hx hb dX4_close_312 (by decide) (by omega) (by omega) (fun c1 => ?_) (fun c1 => ?_)
      · exact Z _ _ _ _ _ dX4_close_336 ⟨rfl, rs, rw, rd, rm, hdo_1323, hst_1323, hwk_1323, hwd_1323, hms_1323, fun i hi => h1 i (by omega), hF_1323, ho⟩ T1323
      · refine lv_aload_n hx hb dX4_close_315 rfl (lv_at hl1323 0 rfl) ?_
        refine hr_get C T1323 hdo_1323 rfl in_X4 0 (by decide) q119 rfl rfl dX4_close_316 ?_
        refine lv_iload_n hx hb dX4_close_319 rfl (lv_at hl1323 1 rfl) ?_
        refine lv_dup2_11 hx hb dX4_close_320 rfl rfl ?_
        refine hr_iald C T1323 hst_1323 (by omega) (by omega) dX4_close_321 ?_
        refine lv_aload_n hx hb dX4_close_322 rfl (lv_at hl1323 0 rfl) ?_
        refine hr_get C T1323 hdo_1323 rfl in_X4 1 (by decide) q120 rfl rfl dX4_close_323 ?_
        refine lv_iload_n hx hb dX4_close_326 rfl (lv_at hl1323 1 rfl) ?_
        refine hr_iald C T1323 hwk_1323 (by omega) (by omega) dX4_close_327 ?_
        refine lv_iadd hx hb dX4_close_328 ?_
        refine hr_iast C T1323 hst_1323 (by omega) (by omega) dX4_close_329 (fun h1324 H1324 locs1324 eh1324 T1324 => ?_)
        have hst_1324 : h1324 (L 63) = some (.inl (E.2.1 0, 8, .inl (upd rs k ((rs k) + (rw k)))), L 62) := hu_s eh1324
        have hF_1324 : Fr (· = L 62) h h1324 := hu_f eh1324 hF_1323 hst_1323 rfl
        refine lv_iinc (v := nI (k + 1)) (lv' := [(2, .int (nI (k + 1))), (0, .ref (L 62))]) hx hb dX4_close_330 hl1323 (k := 1) rfl (nI_add k 1) (by decide) rfl (fun ls1325 hl1325 => ?_)
        refine lv_goto (tgt := 309) hx hb dX4_close_333 (by decide) ?_
        have hdo_1324 : h1324 (L 62) = some (.inr (4, [.ref (L 63), .ref (L 64), .ref (L 65), .ref (L 66), .int (nI n)]), L 62) := hu_n eh1324 (hL 62 63 (by decide) (by decide) (by decide)) hdo_1323
        have hwk_1324 : h1324 (L 64) = some (.inl (E.2.1 0, 8, .inl rw), L 62) := hu_n eh1324 (hL 64 63 (by decide) (by decide) (by decide)) hwk_1323
        have hwd_1324 : h1324 (L 65) = some (.inl (E.2.1 0, 64, .inl rd), L 62) := hu_n eh1324 (hL 65 63 (by decide) (by decide) (by decide)) hwd_1323
        have hms_1324 : h1324 (L 66) = some (.inl (E.2.1 1, 64, .inl rm), L 62) := hu_n eh1324 (hL 66 63 (by decide) (by decide) (by decide)) hms_1323
        exact ih1323 (k + 1) _ _ _ _ _ _ _ _ (by omega) hdo_1324 hst_1324 hwk_1324 hwd_1324 hms_1324 (by omega) (fun i hi => by by_cases z : i = k; (rw [z, pk_us, h2 k (Nat.le_refl _) (by omega), h3 k (by omega)]; rfl); (rw [pk_un z]; exact h1 i (by omega))) (fun i z1 z2 => by rw [pk_un (by omega)]; exact h2 i (by omega) z2) h3 (fun q z1 z2 z3 z4 => by rw [eh1324, hup_n z1]; exact ho q z1 z2 z3 z4) hF_1324 T1324 (lv_sub hl1325 [1, 0] rfl)
  have L4 : ∀ (j : Nat) (k : Nat) (rs rw rd rm : Nat → Int32) (h1326 : HH) (H1326 : Heap) (locs1326 : List Loc) (ls1326 : Array Slot), (65 ≤ k + j) → (h1326 (L 62) = some (.inr (4, [.ref (L 63), .ref (L 64), .ref (L 65), .ref (L 66), .int (nI n)]), L 62)) → (h1326 (L 63) = some (.inl (E.2.1 0, 8, .inl rs), L 62)) → (h1326 (L 64) = some (.inl (E.2.1 0, 8, .inl rw), L 62)) → (h1326 (L 65) = some (.inl (E.2.1 0, 64, .inl rd), L 62)) → (h1326 (L 66) = some (.inl (E.2.1 1, 64, .inl rm), L 62)) → (k ≤ 64) → (∀ i, i < 8 → rs i = bg0 i) → (∀ i, i < 8 → rw i = shI bg0 (shF (shm mb) 48) k i) → (∀ i, i < 64 → rd i = shF (shm mb) 48 i) → (∀ q, q ≠ L 63 → q ≠ L 64 → q ≠ L 65 → q ≠ L 66 → h1326 q = h q) → (Fr (· = L 62) h h1326) → (St E s h1326 H1326 locs1326) → (lv_has ls1326 5 [(0, .ref (L 62)), (2, .int (nI k))]) → W p l e ({ frames := 2, cells := 0, slots := 0, locals := 300 } : Room) s m ([.ref (L 62)] : List Value).toArray below meth c H1326 locs1326 0 0 Q (F0 m 290 ls1326 []) := by
    intro j
    induction j with
    | zero => intro k rs rw rd rm h1326 H1326 locs1326 ls1326 hm1326 hdo_1326 hst_1326 hwk_1326 hwd_1326 hms_1326 hk h2 h3 h4 ho hF_1326 T1326 hl1326; exact absurd hm1326 (by omega)
    | succ j ih1326 =>
      intro k rs rw rd rm h1326 H1326 locs1326 ls1326 hm1326 hdo_1326 hst_1326 hwk_1326 hwd_1326 hms_1326 hk h2 h3 h4 ho hF_1326 T1326 hl1326
      refine lv_iload_n hx hb dX4_close_290 rfl (lv_at hl1326 1 rfl) ?_
      refine lv_bipush (v := nI 64) hx hb dX4_close_291 rfl ?_
      refine hn_icmp_ge (tgt := 307) hx hb dX4_close_293 (by decide) (by omega) (by omega) (fun c1 => ?_) (fun c1 => ?_)
      · have e1 : k = 64 := by omega
        subst e1
        refine lv_iconst (v := nI 0) hx hb dX4_close_307 rfl ?_
        refine lv_istore_n (lv' := [(2, .int (nI 0)), (0, .ref (L 62))]) hx hb dX4_close_308 rfl hl1326 (by decide) rfl (fun ls1327 hl1327 => ?_)
        exact L5 9 0 _ _ _ _ _ _ _ _ (by omega) hdo_1326 hst_1326 hwk_1326 hwd_1326 hms_1326 (Nat.zero_le _) (fun i hi => absurd hi (by omega)) (fun i _ z => h2 i z) h3 ho hF_1326 T1326 (lv_sub hl1327 [1, 0] rfl)
      · refine lv_aload_n hx hb dX4_close_296 rfl (lv_at hl1326 0 rfl) ?_
        refine lv_iload_n hx hb dX4_close_297 rfl (lv_at hl1326 1 rfl) ?_
        refine hc_V C T1326 hl1326.1 hdo_1326 rfl (m_X4_round hL (k := k) (by omega) hdo_1326 hwk_1326 hwd_1326) q729 q731 qs6 q56 q732 kd_X4_round rfl rfl ⟨Nat.le_of_ble_eq_true rfl, Nat.le_of_ble_eq_true rfl⟩ (Nat.le_of_ble_eq_true rfl) dX4_close_298 ⟨Nat.le_of_ble_eq_true rfl, Nat.le_of_ble_eq_true rfl⟩ (fun rv h1328 H1328 locs1328 hp1328 T1328 => ?_)
        obtain ⟨rfl, r2, he1328, hr2⟩ := hp1328
        have hs1328 := hu_s he1328
        have hF1328 : Fr (· = L 62) h1326 h1328 := hu_f he1328 Fr.rf hwk_1326 rfl
        have ho1328 : ∀ q, q ≠ L 64 → h1328 q = h1326 q := fun q z => by rw [he1328, hup_n z]
        have hF_1328 : Fr (· = L 62) h h1328 := hF_1326.tr (hF1328.mono (fun _ z => z))
        refine W.eq (g2 := F0 m 301 ls1326 []) rfl ?_
        refine lv_iinc (v := nI (k + 1)) (lv' := [(2, .int (nI (k + 1))), (0, .ref (L 62))]) hx hb dX4_close_301 hl1326 (k := 1) rfl (nI_add k 1) (by decide) rfl (fun ls1329 hl1329 => ?_)
        refine lv_goto (tgt := 290) hx hb dX4_close_304 (by decide) ?_
        have hdo_1328 : h1328 (L 62) = some (.inr (4, [.ref (L 63), .ref (L 64), .ref (L 65), .ref (L 66), .int (nI n)]), L 62) := (ho1328 _ (hL 62 64 (by decide) (by decide) (by decide))).trans hdo_1326
        have hst_1328 : h1328 (L 63) = some (.inl (E.2.1 0, 8, .inl rs), L 62) := (ho1328 _ (hL 63 64 (by decide) (by decide) (by decide))).trans hst_1326
        have hwd_1328 : h1328 (L 65) = some (.inl (E.2.1 0, 64, .inl rd), L 62) := (ho1328 _ (hL 65 64 (by decide) (by decide) (by decide))).trans hwd_1326
        have hms_1328 : h1328 (L 66) = some (.inl (E.2.1 1, 64, .inl rm), L 62) := (ho1328 _ (hL 66 64 (by decide) (by decide) (by decide))).trans hms_1326
        exact ih1326 (k + 1) _ _ _ _ _ _ _ _ (by omega) hdo_1328 hst_1328 hs1328 hwd_1328 hms_1328 (by omega) h2 (fun i hi => (hr2 i hi).trans (shR_cong h3 rfl (h4 k (by omega)) i hi)) h4 (fun q z1 z2 z3 z4 => (ho1328 q z2).trans (ho q z1 z2 z3 z4)) hF_1328 T1328 (lv_sub hl1329 [1, 0] rfl)
  have L3 : ∀ (j : Nat) (k : Nat) (rs rw rd rm : Nat → Int32) (h1330 : HH) (H1330 : Heap) (locs1330 : List Loc) (ls1330 : Array Slot), (9 ≤ k + j) → (h1330 (L 62) = some (.inr (4, [.ref (L 63), .ref (L 64), .ref (L 65), .ref (L 66), .int (nI n)]), L 62)) → (h1330 (L 63) = some (.inl (E.2.1 0, 8, .inl rs), L 62)) → (h1330 (L 64) = some (.inl (E.2.1 0, 8, .inl rw), L 62)) → (h1330 (L 65) = some (.inl (E.2.1 0, 64, .inl rd), L 62)) → (h1330 (L 66) = some (.inl (E.2.1 1, 64, .inl rm), L 62)) → (k ≤ 8) → (∀ i, i < k → rs i = bg0 i) → (∀ i, i < k → rw i = bg0 i) → (∀ i, i < 64 → rd i = shF (shm mb) 48 i) → (∀ q, q ≠ L 63 → q ≠ L 64 → q ≠ L 65 → q ≠ L 66 → h1330 q = h q) → (Fr (· = L 62) h h1330) → (St E s h1330 H1330 locs1330) → (lv_has ls1330 5 [(0, .ref (L 62)), (2, .int (nI k))]) → W p l e ({ frames := 2, cells := 0, slots := 0, locals := 300 } : Room) s m ([.ref (L 62)] : List Value).toArray below meth c H1330 locs1330 0 0 Q (F0 m 254 ls1330 []) := by
    intro j
    induction j with
    | zero => intro k rs rw rd rm h1330 H1330 locs1330 ls1330 hm1330 hdo_1330 hst_1330 hwk_1330 hwd_1330 hms_1330 hk h2 h3 h4 ho hF_1330 T1330 hl1330; exact absurd hm1330 (by omega)
    | succ j ih1330 =>
      intro k rs rw rd rm h1330 H1330 locs1330 ls1330 hm1330 hdo_1330 hst_1330 hwk_1330 hwd_1330 hms_1330 hk h2 h3 h4 ho hF_1330 T1330 hl1330
      refine lv_iload_n hx hb dX4_close_254 rfl (lv_at hl1330 1 rfl) ?_
      refine lv_bipush (v := nI 8) hx hb dX4_close_255 rfl ?_
      refine hn_icmp_ge (tgt := 288) hx hb dX4_close_257 (by decide) (by omega) (by omega) (fun c1 => ?_) (fun c1 => ?_)
      · refine lv_iconst (v := nI 0) hx hb dX4_close_288 rfl ?_
        refine lv_istore_n (lv' := [(2, .int (nI 0)), (0, .ref (L 62))]) hx hb dX4_close_289 rfl hl1330 (by decide) rfl (fun ls1331 hl1331 => ?_)
        exact L4 65 0 _ _ _ _ _ _ _ _ (by omega) hdo_1330 hst_1330 hwk_1330 hwd_1330 hms_1330 (Nat.zero_le _) (fun i z => h2 i (by omega)) (fun i z => h3 i (by omega)) h4 ho hF_1330 T1330 (lv_sub hl1331 [1, 0] rfl)
      · refine lv_aload_n hx hb dX4_close_260 rfl (lv_at hl1330 0 rfl) ?_
        refine hr_get C T1330 hdo_1330 rfl in_X4 0 (by decide) q119 rfl rfl dX4_close_261 ?_
        refine lv_iload_n hx hb dX4_close_264 rfl (lv_at hl1330 1 rfl) ?_
        refine va_gets hx hb C.2.2.2.2.2.2.1 T1330.2 C.ow (C.ts _ q727) (fun _ z => z) dX4_close_265 ?_
        refine lv_iload_n hx hb dX4_close_268 rfl (lv_at hl1330 1 rfl) ?_
        refine va_ti hx hb C.2.2.2.2.2.2.2.1 T1330.2 (vp_in_nI (by omega) (by omega)) (v := .int (bgL.getD k 0)) (by rw [nI_clamp (by omega)]) dX4_close_269 ?_
        refine hr_iast C T1330 hst_1330 (by omega) (by omega) dX4_close_270 (fun h1332 H1332 locs1332 eh1332 T1332 => ?_)
        have hst_1332 : h1332 (L 63) = some (.inl (E.2.1 0, 8, .inl (upd rs k (bgL.getD k 0))), L 62) := hu_s eh1332
        have hF_1332 : Fr (· = L 62) h h1332 := hu_f eh1332 hF_1330 hst_1330 rfl
        refine lv_aload_n hx hb dX4_close_271 rfl (lv_at hl1330 0 rfl) ?_
        have hdo_1332 : h1332 (L 62) = some (.inr (4, [.ref (L 63), .ref (L 64), .ref (L 65), .ref (L 66), .int (nI n)]), L 62) := hu_n eh1332 (hL 62 63 (by decide) (by decide) (by decide)) hdo_1330
        refine hr_get C T1332 hdo_1332 rfl in_X4 1 (by decide) q120 rfl rfl dX4_close_272 ?_
        refine lv_iload_n hx hb dX4_close_275 rfl (lv_at hl1330 1 rfl) ?_
        refine va_gets hx hb C.2.2.2.2.2.2.1 T1332.2 C.ow (C.ts _ q727) (fun _ z => z) dX4_close_276 ?_
        refine lv_iload_n hx hb dX4_close_279 rfl (lv_at hl1330 1 rfl) ?_
        refine va_ti hx hb C.2.2.2.2.2.2.2.1 T1332.2 (vp_in_nI (by omega) (by omega)) (v := .int (bgL.getD k 0)) (by rw [nI_clamp (by omega)]) dX4_close_280 ?_
        have hwk_1332 : h1332 (L 64) = some (.inl (E.2.1 0, 8, .inl rw), L 62) := hu_n eh1332 (hL 64 63 (by decide) (by decide) (by decide)) hwk_1330
        refine hr_iast C T1332 hwk_1332 (by omega) (by omega) dX4_close_281 (fun h1333 H1333 locs1333 eh1333 T1333 => ?_)
        have hwk_1333 : h1333 (L 64) = some (.inl (E.2.1 0, 8, .inl (upd rw k (bgL.getD k 0))), L 62) := hu_s eh1333
        have hF_1333 : Fr (· = L 62) h h1333 := hu_f eh1333 hF_1332 hwk_1332 rfl
        refine lv_iinc (v := nI (k + 1)) (lv' := [(2, .int (nI (k + 1))), (0, .ref (L 62))]) hx hb dX4_close_282 hl1330 (k := 1) rfl (nI_add k 1) (by decide) rfl (fun ls1334 hl1334 => ?_)
        refine lv_goto (tgt := 254) hx hb dX4_close_285 (by decide) ?_
        have hdo_1333 : h1333 (L 62) = some (.inr (4, [.ref (L 63), .ref (L 64), .ref (L 65), .ref (L 66), .int (nI n)]), L 62) := hu_n eh1333 (hL 62 64 (by decide) (by decide) (by decide)) hdo_1332
        have hst_1333 : h1333 (L 63) = some (.inl (E.2.1 0, 8, .inl (upd rs k (bgL.getD k 0))), L 62) := hu_n eh1333 (hL 63 64 (by decide) (by decide) (by decide)) hst_1332
        have hwd_1332 : h1332 (L 65) = some (.inl (E.2.1 0, 64, .inl rd), L 62) := hu_n eh1332 (hL 65 63 (by decide) (by decide) (by decide)) hwd_1330
        have hwd_1333 : h1333 (L 65) = some (.inl (E.2.1 0, 64, .inl rd), L 62) := hu_n eh1333 (hL 65 64 (by decide) (by decide) (by decide)) hwd_1332
        have hms_1332 : h1332 (L 66) = some (.inl (E.2.1 1, 64, .inl rm), L 62) := hu_n eh1332 (hL 66 63 (by decide) (by decide) (by decide)) hms_1330
        have hms_1333 : h1333 (L 66) = some (.inl (E.2.1 1, 64, .inl rm), L 62) := hu_n eh1333 (hL 66 64 (by decide) (by decide) (by decide)) hms_1332
        exact ih1330 (k + 1) _ _ _ _ _ _ _ _ (by omega) hdo_1333 hst_1333 hwk_1333 hwd_1333 hms_1333 (by omega) (fun i z => by by_cases y : i = k; (rw [y, pk_us]; rfl); (rw [pk_un y]; exact h2 i (by omega))) (fun i z => by by_cases y : i = k; (rw [y, pk_us]; rfl); (rw [pk_un y]; exact h3 i (by omega))) h4 (fun q z1 z2 z3 z4 => by rw [eh1333, hup_n z2, eh1332, hup_n z1]; exact ho q z1 z2 z3 z4) hF_1333 T1333 (lv_sub hl1334 [1, 0] rfl)
  have L2 : ∀ (j : Nat) (k : Nat) (rs rw rd rm : Nat → Int32) (h1335 : HH) (H1335 : Heap) (locs1335 : List Loc) (ls1335 : Array Slot), (49 ≤ k + j) → (h1335 (L 62) = some (.inr (4, [.ref (L 63), .ref (L 64), .ref (L 65), .ref (L 66), .int (nI n)]), L 62)) → (h1335 (L 63) = some (.inl (E.2.1 0, 8, .inl rs), L 62)) → (h1335 (L 64) = some (.inl (E.2.1 0, 8, .inl rw), L 62)) → (h1335 (L 65) = some (.inl (E.2.1 0, 64, .inl rd), L 62)) → (h1335 (L 66) = some (.inl (E.2.1 1, 64, .inl rm), L 62)) → (k ≤ 48) → (∀ i, i < 16 + k → rd i = shF (shm mb) k i) → (∀ q, q ≠ L 63 → q ≠ L 64 → q ≠ L 65 → q ≠ L 66 → h1335 q = h q) → (Fr (· = L 62) h h1335) → (St E s h1335 H1335 locs1335) → (lv_has ls1335 5 [(0, .ref (L 62)), (2, .int (nI (16 + k)))]) → W p l e ({ frames := 2, cells := 0, slots := 0, locals := 300 } : Room) s m ([.ref (L 62)] : List Value).toArray below meth c H1335 locs1335 0 0 Q (F0 m 155 ls1335 []) := by
    intro j
    induction j with
    | zero => intro k rs rw rd rm h1335 H1335 locs1335 ls1335 hm1335 hdo_1335 hst_1335 hwk_1335 hwd_1335 hms_1335 hk h4 ho hF_1335 T1335 hl1335; exact absurd hm1335 (by omega)
    | succ j ih1335 =>
      intro k rs rw rd rm h1335 H1335 locs1335 ls1335 hm1335 hdo_1335 hst_1335 hwk_1335 hwd_1335 hms_1335 hk h4 ho hF_1335 T1335 hl1335
      refine lv_iload_n hx hb dX4_close_155 rfl (lv_at hl1335 1 rfl) ?_
      refine lv_bipush (v := nI 64) hx hb dX4_close_156 rfl ?_
      refine hn_icmp_ge (tgt := 252) hx hb dX4_close_158 (by decide) (by omega) (by omega) (fun c1 => ?_) (fun c1 => ?_)
      · have e1 : k = 48 := by omega
        subst e1
        refine lv_iconst (v := nI 0) hx hb dX4_close_252 rfl ?_
        refine lv_istore_n (lv' := [(2, .int (nI 0)), (0, .ref (L 62))]) hx hb dX4_close_253 rfl hl1335 (by decide) rfl (fun ls1336 hl1336 => ?_)
        exact L3 9 0 _ _ _ _ _ _ _ _ (by omega) hdo_1335 hst_1335 hwk_1335 hwd_1335 hms_1335 (Nat.zero_le _) (fun i hi => absurd hi (by omega)) (fun i hi => absurd hi (by omega)) (fun i z => h4 i (by omega)) ho hF_1335 T1335 (lv_sub hl1336 [1, 0] rfl)
      · refine lv_aload_n hx hb dX4_close_161 rfl (lv_at hl1335 0 rfl) ?_
        refine hr_get C T1335 hdo_1335 rfl in_X4 2 (by decide) q121 rfl rfl dX4_close_162 ?_
        refine lv_iload_n hx hb dX4_close_165 rfl (lv_at hl1335 1 rfl) ?_
        refine lv_bipush (v := nI 15) hx hb dX4_close_166 rfl ?_
        refine hn_isub hx hb dX4_close_168 (by omega) ?_
        refine hr_iald C T1335 hwd_1335 (by omega) (by omega) dX4_close_169 ?_
        refine lv_istore_n (lv' := [(3, .int (rd ((16 + k) - 15))), (0, .ref (L 62)), (2, .int (nI (16 + k)))]) hx hb dX4_close_170 rfl hl1335 (by decide) rfl (fun ls1337 hl1337 => ?_)
        refine lv_aload_n hx hb dX4_close_171 rfl (lv_at hl1337 1 rfl) ?_
        refine hr_get C T1335 hdo_1335 rfl in_X4 2 (by decide) q121 rfl rfl dX4_close_172 ?_
        refine lv_iload_n hx hb dX4_close_175 rfl (lv_at hl1337 2 rfl) ?_
        refine lv_iconst (v := nI 2) hx hb dX4_close_176 rfl ?_
        refine hn_isub hx hb dX4_close_177 (by omega) ?_
        refine hr_iald C T1335 hwd_1335 (by omega) (by omega) dX4_close_178 ?_
        refine lv_istore (lv' := [(4, .int (rd ((16 + k) - 2))), (3, .int (rd ((16 + k) - 15))), (0, .ref (L 62)), (2, .int (nI (16 + k)))]) hx hb dX4_close_179 hl1337 (by decide) rfl (fun ls1338 hl1338 => ?_)
        refine lv_aload_n hx hb dX4_close_181 rfl (lv_at hl1338 2 rfl) ?_
        refine hr_get C T1335 hdo_1335 rfl in_X4 2 (by decide) q121 rfl rfl dX4_close_182 ?_
        refine lv_iload_n hx hb dX4_close_185 rfl (lv_at hl1338 3 rfl) ?_
        refine lv_aload_n hx hb dX4_close_186 rfl (lv_at hl1338 2 rfl) ?_
        refine hr_get C T1335 hdo_1335 rfl in_X4 2 (by decide) q121 rfl rfl dX4_close_187 ?_
        refine lv_iload_n hx hb dX4_close_190 rfl (lv_at hl1338 3 rfl) ?_
        refine lv_bipush (v := nI 16) hx hb dX4_close_191 rfl ?_
        refine hn_isub hx hb dX4_close_193 (by omega) ?_
        refine hr_iald C T1335 hwd_1335 (by omega) (by omega) dX4_close_194 ?_
        refine lv_iload_n hx hb dX4_close_195 rfl (lv_at hl1338 1 rfl) ?_
        refine lv_bipush (v := nI 7) hx hb dX4_close_196 rfl ?_
        refine hp_S C T1335 hl1338.1 (p_X4_turn (x := rd ((16 + k) - 15)) (k := 7) (by decide)) q724 q725 q56 q726 kd_X4_turn rfl rfl ⟨Nat.le_of_ble_eq_true rfl, Nat.le_of_ble_eq_true rfl⟩ (Nat.le_of_ble_eq_true rfl) dX4_close_198 ⟨Nat.le_of_ble_eq_true rfl, Nat.le_of_ble_eq_true rfl⟩ (fun rv H1339 hp1339 T1339 => ?_)
        obtain rfl := hp1339
        refine W.eq (g2 := F0 m 201 ls1338 [.int (trn (rd ((16 + k) - 15)) 7), .int (rd ((16 + k) - 16)), .int (nI (16 + k)), .ref (L 65)]) rfl ?_
        refine lv_iload_n hx hb dX4_close_201 rfl (lv_at hl1338 1 rfl) ?_
        refine lv_bipush (v := nI 18) hx hb dX4_close_202 rfl ?_
        refine hp_S C T1339 hl1338.1 (p_X4_turn (x := rd ((16 + k) - 15)) (k := 18) (by decide)) q724 q725 q56 q726 kd_X4_turn rfl rfl ⟨Nat.le_of_ble_eq_true rfl, Nat.le_of_ble_eq_true rfl⟩ (Nat.le_of_ble_eq_true rfl) dX4_close_204 ⟨Nat.le_of_ble_eq_true rfl, Nat.le_of_ble_eq_true rfl⟩ (fun rv H1340 hp1340 T1340 => ?_)
        obtain rfl := hp1340
        refine W.eq (g2 := F0 m 207 ls1338 [.int (trn (rd ((16 + k) - 15)) 18), .int (trn (rd ((16 + k) - 15)) 7), .int (rd ((16 + k) - 16)), .int (nI (16 + k)), .ref (L 65)]) rfl ?_
        refine lv_ixor hx hb dX4_close_207 ?_
        refine lv_iload_n hx hb dX4_close_208 rfl (lv_at hl1338 1 rfl) ?_
        refine lv_iconst (v := nI 3) hx hb dX4_close_209 rfl ?_
        refine lv_iushr (v := ((rd ((16 + k) - 15)).toUInt32 >>> ((nI 3).toUInt32 &&& Int32.toUInt32 31)).toInt32) hx hb dX4_close_210 rfl ?_
        refine lv_ixor hx hb dX4_close_211 ?_
        refine lv_iadd hx hb dX4_close_212 ?_
        refine lv_aload_n hx hb dX4_close_213 rfl (lv_at hl1338 2 rfl) ?_
        refine hr_get C T1340 hdo_1335 rfl in_X4 2 (by decide) q121 rfl rfl dX4_close_214 ?_
        refine lv_iload_n hx hb dX4_close_217 rfl (lv_at hl1338 3 rfl) ?_
        refine lv_bipush (v := nI 7) hx hb dX4_close_218 rfl ?_
        refine hn_isub hx hb dX4_close_220 (by omega) ?_
        refine hr_iald C T1340 hwd_1335 (by omega) (by omega) dX4_close_221 ?_
        refine lv_iadd hx hb dX4_close_222 ?_
        refine lv_iload hx hb dX4_close_223 (lv_at hl1338 0 rfl) ?_
        refine lv_bipush (v := nI 17) hx hb dX4_close_225 rfl ?_
        refine hp_S C T1340 hl1338.1 (p_X4_turn (x := rd ((16 + k) - 2)) (k := 17) (by decide)) q724 q725 q56 q726 kd_X4_turn rfl rfl ⟨Nat.le_of_ble_eq_true rfl, Nat.le_of_ble_eq_true rfl⟩ (Nat.le_of_ble_eq_true rfl) dX4_close_227 ⟨Nat.le_of_ble_eq_true rfl, Nat.le_of_ble_eq_true rfl⟩ (fun rv H1341 hp1341 T1341 => ?_)
        obtain rfl := hp1341
        refine W.eq (g2 := F0 m 230 ls1338 [.int (trn (rd ((16 + k) - 2)) 17), .int (((rd ((16 + k) - 16)) + (((trn (rd ((16 + k) - 15)) 7) ^^^ (trn (rd ((16 + k) - 15)) 18)) ^^^ (((rd ((16 + k) - 15)).toUInt32 >>> ((nI 3).toUInt32 &&& Int32.toUInt32 31)).toInt32))) + (rd ((16 + k) - 7))), .int (nI (16 + k)), .ref (L 65)]) rfl ?_
        refine lv_iload hx hb dX4_close_230 (lv_at hl1338 0 rfl) ?_
        refine lv_bipush (v := nI 19) hx hb dX4_close_232 rfl ?_
        refine hp_S C T1341 hl1338.1 (p_X4_turn (x := rd ((16 + k) - 2)) (k := 19) (by decide)) q724 q725 q56 q726 kd_X4_turn rfl rfl ⟨Nat.le_of_ble_eq_true rfl, Nat.le_of_ble_eq_true rfl⟩ (Nat.le_of_ble_eq_true rfl) dX4_close_234 ⟨Nat.le_of_ble_eq_true rfl, Nat.le_of_ble_eq_true rfl⟩ (fun rv H1342 hp1342 T1342 => ?_)
        obtain rfl := hp1342
        refine W.eq (g2 := F0 m 237 ls1338 [.int (trn (rd ((16 + k) - 2)) 19), .int (trn (rd ((16 + k) - 2)) 17), .int (((rd ((16 + k) - 16)) + (((trn (rd ((16 + k) - 15)) 7) ^^^ (trn (rd ((16 + k) - 15)) 18)) ^^^ (((rd ((16 + k) - 15)).toUInt32 >>> ((nI 3).toUInt32 &&& Int32.toUInt32 31)).toInt32))) + (rd ((16 + k) - 7))), .int (nI (16 + k)), .ref (L 65)]) rfl ?_
        refine lv_ixor hx hb dX4_close_237 ?_
        refine lv_iload hx hb dX4_close_238 (lv_at hl1338 0 rfl) ?_
        refine lv_bipush (v := nI 10) hx hb dX4_close_240 rfl ?_
        refine lv_iushr (v := ((rd ((16 + k) - 2)).toUInt32 >>> ((nI 10).toUInt32 &&& Int32.toUInt32 31)).toInt32) hx hb dX4_close_242 rfl ?_
        refine lv_ixor hx hb dX4_close_243 ?_
        refine lv_iadd hx hb dX4_close_244 ?_
        rw [show (((rd ((16 + k) - 16)) + (((trn (rd ((16 + k) - 15)) 7) ^^^ (trn (rd ((16 + k) - 15)) 18)) ^^^ (((rd ((16 + k) - 15)).toUInt32 >>> ((nI 3).toUInt32 &&& Int32.toUInt32 31)).toInt32))) + (rd ((16 + k) - 7))) + (((trn (rd ((16 + k) - 2)) 17) ^^^ (trn (rd ((16 + k) - 2)) 19)) ^^^ (((rd ((16 + k) - 2)).toUInt32 >>> ((nI 10).toUInt32 &&& Int32.toUInt32 31)).toInt32)) = shs rd (16 + k) from rfl]
        refine hr_iast C T1342 hwd_1335 (by omega) (by omega) dX4_close_245 (fun h1343 H1343 locs1343 eh1343 T1343 => ?_)
        have hwd_1343 : h1343 (L 65) = some (.inl (E.2.1 0, 64, .inl (upd rd (16 + k) (shs rd (16 + k)))), L 62) := hu_s eh1343
        have hF_1343 : Fr (· = L 62) h h1343 := hu_f eh1343 hF_1335 hwd_1335 rfl
        refine lv_iinc (v := nI (16 + k + 1)) (lv' := [(2, .int (nI (16 + k + 1))), (4, .int (rd ((16 + k) - 2))), (3, .int (rd ((16 + k) - 15))), (0, .ref (L 62))]) hx hb dX4_close_246 hl1338 (k := 3) rfl (nI_add (16 + k) 1) (by decide) rfl (fun ls1344 hl1344 => ?_)
        refine lv_goto (tgt := 155) hx hb dX4_close_249 (by decide) ?_
        have hdo_1343 : h1343 (L 62) = some (.inr (4, [.ref (L 63), .ref (L 64), .ref (L 65), .ref (L 66), .int (nI n)]), L 62) := hu_n eh1343 (hL 62 65 (by decide) (by decide) (by decide)) hdo_1335
        have hst_1343 : h1343 (L 63) = some (.inl (E.2.1 0, 8, .inl rs), L 62) := hu_n eh1343 (hL 63 65 (by decide) (by decide) (by decide)) hst_1335
        have hwk_1343 : h1343 (L 64) = some (.inl (E.2.1 0, 8, .inl rw), L 62) := hu_n eh1343 (hL 64 65 (by decide) (by decide) (by decide)) hwk_1335
        have hms_1343 : h1343 (L 66) = some (.inl (E.2.1 1, 64, .inl rm), L 62) := hu_n eh1343 (hL 66 65 (by decide) (by decide) (by decide)) hms_1335
        exact ih1335 (k + 1) _ _ _ _ _ _ _ _ (by omega) hdo_1343 hst_1343 hwk_1343 hwd_1343 hms_1343 (by omega) (shF_step h4 rfl) (fun q z1 z2 z3 z4 => by rw [eh1343, hup_n z3]; exact ho q z1 z2 z3 z4) hF_1343 T1343 (lv_sub hl1344 [3, 0] rfl)
  have L1b : ∀ (j : Nat) (k : Nat) (rs rw rd rm : Nat → Int32) (h1345 : HH) (H1345 : Heap) (locs1345 : List Loc) (ls1345 : Array Slot), (17 ≤ k + j) → (h1345 (L 62) = some (.inr (4, [.ref (L 63), .ref (L 64), .ref (L 65), .ref (L 66), .int (nI n)]), L 62)) → (h1345 (L 63) = some (.inl (E.2.1 0, 8, .inl rs), L 62)) → (h1345 (L 64) = some (.inl (E.2.1 0, 8, .inl rw), L 62)) → (h1345 (L 65) = some (.inl (E.2.1 0, 64, .inl rd), L 62)) → (h1345 (L 66) = some (.inl (E.2.1 1, 64, .inl rm), L 62)) → (k ≤ 16) → (∀ i, i < k → rd i = shm mb i) → (∀ i, i < 64 → rm i = b8 (mb i)) → (∀ q, q ≠ L 63 → q ≠ L 64 → q ≠ L 65 → q ≠ L 66 → h1345 q = h q) → (Fr (· = L 62) h h1345) → (St E s h1345 H1345 locs1345) → (lv_has ls1345 5 [(0, .ref (L 62)), (2, .int (nI k))]) → W p l e ({ frames := 2, cells := 0, slots := 0, locals := 300 } : Room) s m ([.ref (L 62)] : List Value).toArray below meth c H1345 locs1345 0 0 Q (F0 m 68 ls1345 []) := by
    intro j
    induction j with
    | zero => intro k rs rw rd rm h1345 H1345 locs1345 ls1345 hm1345 hdo_1345 hst_1345 hwk_1345 hwd_1345 hms_1345 hk h4 h5 ho hF_1345 T1345 hl1345; exact absurd hm1345 (by omega)
    | succ j ih1345 =>
      intro k rs rw rd rm h1345 H1345 locs1345 ls1345 hm1345 hdo_1345 hst_1345 hwk_1345 hwd_1345 hms_1345 hk h4 h5 ho hF_1345 T1345 hl1345
      refine lv_iload_n hx hb dX4_close_68 rfl (lv_at hl1345 1 rfl) ?_
      refine lv_bipush (v := nI 16) hx hb dX4_close_69 rfl ?_
      refine hn_icmp_ge (tgt := 152) hx hb dX4_close_71 (by decide) (by omega) (by omega) (fun c1 => ?_) (fun c1 => ?_)
      · have e1 : k = 16 := by omega
        subst e1
        refine lv_bipush (v := nI 16) hx hb dX4_close_152 rfl ?_
        refine lv_istore_n (lv' := [(2, .int (nI 16)), (0, .ref (L 62))]) hx hb dX4_close_154 rfl hl1345 (by decide) rfl (fun ls1346 hl1346 => ?_)
        exact L2 49 0 _ _ _ _ _ _ _ _ (by omega) hdo_1345 hst_1345 hwk_1345 hwd_1345 hms_1345 (Nat.zero_le _) (fun i z => h4 i (by omega)) ho hF_1345 T1345 (lv_sub hl1346 [1, 0] rfl)
      · refine lv_aload_n hx hb dX4_close_74 rfl (lv_at hl1345 0 rfl) ?_
        refine hr_get C T1345 hdo_1345 rfl in_X4 2 (by decide) q121 rfl rfl dX4_close_75 ?_
        refine lv_iload_n hx hb dX4_close_78 rfl (lv_at hl1345 1 rfl) ?_
        refine lv_aload_n hx hb dX4_close_79 rfl (lv_at hl1345 0 rfl) ?_
        refine hr_get C T1345 hdo_1345 rfl in_X4 3 (by decide) q122 rfl rfl dX4_close_80 ?_
        refine lv_iconst (v := nI 4) hx hb dX4_close_83 rfl ?_
        refine lv_iload_n hx hb dX4_close_84 rfl (lv_at hl1345 1 rfl) ?_
        refine hn_imul hx hb dX4_close_85 ?_
        refine hr_bald C T1345 hms_1345 (by omega) (by omega) dX4_close_86 ?_
        rw [h5 (4 * k) (by omega)]
        refine lv_sipush (v := nI 255) hx hb dX4_close_87 rfl ?_
        refine lv_iand hx hb dX4_close_90 ?_
        rw [show (b8 (mb (4 * k))) &&& (nI 255) = nI (mb (4 * k)) from b8_and _ (hmb _ (by omega))]
        refine lv_bipush (v := nI 24) hx hb dX4_close_91 rfl ?_
        refine lv_ishl hx hb dX4_close_93 ?_
        refine lv_aload_n hx hb dX4_close_94 rfl (lv_at hl1345 0 rfl) ?_
        refine hr_get C T1345 hdo_1345 rfl in_X4 3 (by decide) q122 rfl rfl dX4_close_95 ?_
        refine lv_iconst (v := nI 4) hx hb dX4_close_98 rfl ?_
        refine lv_iload_n hx hb dX4_close_99 rfl (lv_at hl1345 1 rfl) ?_
        refine hn_imul hx hb dX4_close_100 ?_
        refine lv_iconst (v := nI 1) hx hb dX4_close_101 rfl ?_
        refine hn_iadd hx hb dX4_close_102 ?_
        refine hr_bald C T1345 hms_1345 (by omega) (by omega) dX4_close_103 ?_
        rw [h5 (4 * k + 1) (by omega)]
        refine lv_sipush (v := nI 255) hx hb dX4_close_104 rfl ?_
        refine lv_iand hx hb dX4_close_107 ?_
        rw [show (b8 (mb (4 * k + 1))) &&& (nI 255) = nI (mb (4 * k + 1)) from b8_and _ (hmb _ (by omega))]
        refine lv_bipush (v := nI 16) hx hb dX4_close_108 rfl ?_
        refine lv_ishl hx hb dX4_close_110 ?_
        refine lv_ior hx hb dX4_close_111 ?_
        refine lv_aload_n hx hb dX4_close_112 rfl (lv_at hl1345 0 rfl) ?_
        refine hr_get C T1345 hdo_1345 rfl in_X4 3 (by decide) q122 rfl rfl dX4_close_113 ?_
        refine lv_iconst (v := nI 4) hx hb dX4_close_116 rfl ?_
        refine lv_iload_n hx hb dX4_close_117 rfl (lv_at hl1345 1 rfl) ?_
        refine hn_imul hx hb dX4_close_118 ?_
        refine lv_iconst (v := nI 2) hx hb dX4_close_119 rfl ?_
        refine hn_iadd hx hb dX4_close_120 ?_
        refine hr_bald C T1345 hms_1345 (by omega) (by omega) dX4_close_121 ?_
        rw [h5 (4 * k + 2) (by omega)]
        refine lv_sipush (v := nI 255) hx hb dX4_close_122 rfl ?_
        refine lv_iand hx hb dX4_close_125 ?_
        rw [show (b8 (mb (4 * k + 2))) &&& (nI 255) = nI (mb (4 * k + 2)) from b8_and _ (hmb _ (by omega))]
        refine lv_bipush (v := nI 8) hx hb dX4_close_126 rfl ?_
        refine lv_ishl hx hb dX4_close_128 ?_
        refine lv_ior hx hb dX4_close_129 ?_
        refine lv_aload_n hx hb dX4_close_130 rfl (lv_at hl1345 0 rfl) ?_
        refine hr_get C T1345 hdo_1345 rfl in_X4 3 (by decide) q122 rfl rfl dX4_close_131 ?_
        refine lv_iconst (v := nI 4) hx hb dX4_close_134 rfl ?_
        refine lv_iload_n hx hb dX4_close_135 rfl (lv_at hl1345 1 rfl) ?_
        refine hn_imul hx hb dX4_close_136 ?_
        refine lv_iconst (v := nI 3) hx hb dX4_close_137 rfl ?_
        refine hn_iadd hx hb dX4_close_138 ?_
        refine hr_bald C T1345 hms_1345 (by omega) (by omega) dX4_close_139 ?_
        rw [h5 (4 * k + 3) (by omega)]
        refine lv_sipush (v := nI 255) hx hb dX4_close_140 rfl ?_
        refine lv_iand hx hb dX4_close_143 ?_
        rw [show (b8 (mb (4 * k + 3))) &&& (nI 255) = nI (mb (4 * k + 3)) from b8_and _ (hmb _ (by omega))]
        refine lv_ior hx hb dX4_close_144 ?_
        refine hr_iast C T1345 hwd_1345 (by omega) (by omega) dX4_close_145 (fun h1347 H1347 locs1347 eh1347 T1347 => ?_)
        have hwd_1347 : h1347 (L 65) = some (.inl (E.2.1 0, 64, .inl (upd rd k (((((nI (mb (4 * k))) <<< ((nI 24) &&& 31)) ||| ((nI (mb (4 * k + 1))) <<< ((nI 16) &&& 31))) ||| ((nI (mb (4 * k + 2))) <<< ((nI 8) &&& 31))) ||| (nI (mb (4 * k + 3)))))), L 62) := hu_s eh1347
        have hF_1347 : Fr (· = L 62) h h1347 := hu_f eh1347 hF_1345 hwd_1345 rfl
        refine lv_iinc (v := nI (k + 1)) (lv' := [(2, .int (nI (k + 1))), (0, .ref (L 62))]) hx hb dX4_close_146 hl1345 (k := 1) rfl (nI_add k 1) (by decide) rfl (fun ls1348 hl1348 => ?_)
        refine lv_goto (tgt := 68) hx hb dX4_close_149 (by decide) ?_
        have hdo_1347 : h1347 (L 62) = some (.inr (4, [.ref (L 63), .ref (L 64), .ref (L 65), .ref (L 66), .int (nI n)]), L 62) := hu_n eh1347 (hL 62 65 (by decide) (by decide) (by decide)) hdo_1345
        have hst_1347 : h1347 (L 63) = some (.inl (E.2.1 0, 8, .inl rs), L 62) := hu_n eh1347 (hL 63 65 (by decide) (by decide) (by decide)) hst_1345
        have hwk_1347 : h1347 (L 64) = some (.inl (E.2.1 0, 8, .inl rw), L 62) := hu_n eh1347 (hL 64 65 (by decide) (by decide) (by decide)) hwk_1345
        have hms_1347 : h1347 (L 66) = some (.inl (E.2.1 1, 64, .inl rm), L 62) := hu_n eh1347 (hL 66 65 (by decide) (by decide) (by decide)) hms_1345
        exact ih1345 (k + 1) _ _ _ _ _ _ _ _ (by omega) hdo_1347 hst_1347 hwk_1347 hwd_1347 hms_1347 (by omega) (fun i z => by by_cases y : i = k; (rw [y, pk_us]; rfl); (rw [pk_un y]; exact h4 i (by omega))) h5 (fun q z1 z2 z3 z4 => by rw [eh1347, hup_n z3]; exact ho q z1 z2 z3 z4) hF_1347 T1347 (lv_sub hl1348 [1, 0] rfl)
  have L0 : ∀ (j : Nat) (k : Nat) (rm : Nat → Int32) (h1349 : HH) (H1349 : Heap) (locs1349 : List Loc) (ls1349 : Array Slot), (63 ≤ k + j) → (h1349 (L 62) = some (.inr (4, [.ref (L 63), .ref (L 64), .ref (L 65), .ref (L 66), .int (nI n)]), L 62)) → (h1349 (L 63) = some (.inl (E.2.1 0, 8, .inl fs), L 62)) → (h1349 (L 64) = some (.inl (E.2.1 0, 8, .inl fw), L 62)) → (h1349 (L 65) = some (.inl (E.2.1 0, 64, .inl fd), L 62)) → (h1349 (L 66) = some (.inl (E.2.1 1, 64, .inl rm), L 62)) → (k ≤ 62) → (n + 1 ≤ k) → (∀ i, i < k → rm i = b8 (mb i)) → (∀ q, q ≠ L 63 → q ≠ L 64 → q ≠ L 65 → q ≠ L 66 → h1349 q = h q) → (Fr (· = L 62) h h1349) → (St E s h1349 H1349 locs1349) → (lv_has ls1349 5 [(0, .ref (L 62)), (1, .int (nI (8 * n))), (2, .int (nI k))]) → W p l e ({ frames := 2, cells := 0, slots := 0, locals := 300 } : Room) s m ([.ref (L 62)] : List Value).toArray below meth c H1349 locs1349 0 0 Q (F0 m 26 ls1349 []) := by
    intro j
    induction j with
    | zero => intro k rm h1349 H1349 locs1349 ls1349 hm1349 hdo_1349 hst_1349 hwk_1349 hwd_1349 hms_1349 hk hk2 h5 ho hF_1349 T1349 hl1349; exact absurd hm1349 (by omega)
    | succ j ih1349 =>
      intro k rm h1349 H1349 locs1349 ls1349 hm1349 hdo_1349 hst_1349 hwk_1349 hwd_1349 hms_1349 hk hk2 h5 ho hF_1349 T1349 hl1349
      refine lv_iload_n hx hb dX4_close_26 rfl (lv_at hl1349 2 rfl) ?_
      refine lv_bipush (v := nI 62) hx hb dX4_close_27 rfl ?_
      refine hn_icmp_ge (tgt := 45) hx hb dX4_close_29 (by decide) (by omega) (by omega) (fun c1 => ?_) (fun c1 => ?_)
      · have e1 : k = 62 := by omega
        subst e1
        refine lv_aload_n hx hb dX4_close_45 rfl (lv_at hl1349 0 rfl) ?_
        refine hr_get C T1349 hdo_1349 rfl in_X4 3 (by decide) q122 rfl rfl dX4_close_46 ?_
        refine lv_bipush (v := nI 62) hx hb dX4_close_49 rfl ?_
        refine lv_iload_n hx hb dX4_close_51 rfl (lv_at hl1349 1 rfl) ?_
        refine lv_bipush (v := nI 8) hx hb dX4_close_52 rfl ?_
        refine lv_ishr hx hb dX4_close_54 ?_
        rw [show (nI (8 * n)) >>> ((nI 8) &&& 31) = nI 0 from sh8 (by omega)]
        refine lv_i2b (v := b8 0) hx hb dX4_close_55 rfl ?_
        refine hr_bast C T1349 hms_1349 (by omega) (by omega) (pk_vb _) dX4_close_56 (fun h1350 H1350 locs1350 eh1350 T1350 => ?_)
        have hms_1350 : h1350 (L 66) = some (.inl (E.2.1 1, 64, .inl (upd rm 62 (b8 0))), L 62) := hu_s eh1350
        have hF_1350 : Fr (· = L 62) h h1350 := hu_f eh1350 hF_1349 hms_1349 rfl
        refine lv_aload_n hx hb dX4_close_57 rfl (lv_at hl1349 0 rfl) ?_
        have hdo_1350 : h1350 (L 62) = some (.inr (4, [.ref (L 63), .ref (L 64), .ref (L 65), .ref (L 66), .int (nI n)]), L 62) := hu_n eh1350 (hL 62 66 (by decide) (by decide) (by decide)) hdo_1349
        refine hr_get C T1350 hdo_1350 rfl in_X4 3 (by decide) q122 rfl rfl dX4_close_58 ?_
        refine lv_bipush (v := nI 63) hx hb dX4_close_61 rfl ?_
        refine lv_iload_n hx hb dX4_close_63 rfl (lv_at hl1349 1 rfl) ?_
        refine lv_i2b (v := b8 (8 * n)) hx hb dX4_close_64 rfl ?_
        refine hr_bast C T1350 hms_1350 (by omega) (by omega) (pk_vb _) dX4_close_65 (fun h1351 H1351 locs1351 eh1351 T1351 => ?_)
        have hms_1351 : h1351 (L 66) = some (.inl (E.2.1 1, 64, .inl (upd (upd rm 62 (b8 0)) 63 (b8 (8 * n)))), L 62) := hu_s eh1351
        have hF_1351 : Fr (· = L 62) h h1351 := hu_f eh1351 hF_1350 hms_1350 rfl
        refine lv_iconst (v := nI 0) hx hb dX4_close_66 rfl ?_
        refine lv_istore_n (lv' := [(2, .int (nI 0)), (0, .ref (L 62)), (1, .int (nI (8 * n)))]) hx hb dX4_close_67 rfl hl1349 (by decide) rfl (fun ls1352 hl1352 => ?_)
        have hdo_1351 : h1351 (L 62) = some (.inr (4, [.ref (L 63), .ref (L 64), .ref (L 65), .ref (L 66), .int (nI n)]), L 62) := hu_n eh1351 (hL 62 66 (by decide) (by decide) (by decide)) hdo_1350
        have hst_1350 : h1350 (L 63) = some (.inl (E.2.1 0, 8, .inl fs), L 62) := hu_n eh1350 (hL 63 66 (by decide) (by decide) (by decide)) hst_1349
        have hst_1351 : h1351 (L 63) = some (.inl (E.2.1 0, 8, .inl fs), L 62) := hu_n eh1351 (hL 63 66 (by decide) (by decide) (by decide)) hst_1350
        have hwk_1350 : h1350 (L 64) = some (.inl (E.2.1 0, 8, .inl fw), L 62) := hu_n eh1350 (hL 64 66 (by decide) (by decide) (by decide)) hwk_1349
        have hwk_1351 : h1351 (L 64) = some (.inl (E.2.1 0, 8, .inl fw), L 62) := hu_n eh1351 (hL 64 66 (by decide) (by decide) (by decide)) hwk_1350
        have hwd_1350 : h1350 (L 65) = some (.inl (E.2.1 0, 64, .inl fd), L 62) := hu_n eh1350 (hL 65 66 (by decide) (by decide) (by decide)) hwd_1349
        have hwd_1351 : h1351 (L 65) = some (.inl (E.2.1 0, 64, .inl fd), L 62) := hu_n eh1351 (hL 65 66 (by decide) (by decide) (by decide)) hwd_1350
        exact L1b 17 0 _ _ _ _ _ _ _ _ (by omega) hdo_1351 hst_1351 hwk_1351 hwd_1351 hms_1351 (Nat.zero_le _) (fun i hi => absurd hi (by omega)) (fun i z => by by_cases y : i = 63; (rw [y, pk_us, hm63]); (rw [pk_un y]; by_cases x : i = 62; (rw [x, pk_us, hmz 62 (by omega) (by omega)]); (rw [pk_un x]; exact h5 i (by omega)))) (fun q z1 z2 z3 z4 => by rw [eh1351, hup_n z4, eh1350, hup_n z4]; exact ho q z1 z2 z3 z4) hF_1351 T1351 (lv_sub hl1352 [1, 0] rfl)
      · refine lv_aload_n hx hb dX4_close_32 rfl (lv_at hl1349 0 rfl) ?_
        refine hr_get C T1349 hdo_1349 rfl in_X4 3 (by decide) q122 rfl rfl dX4_close_33 ?_
        refine lv_iload_n hx hb dX4_close_36 rfl (lv_at hl1349 2 rfl) ?_
        refine lv_iconst (v := nI 0) hx hb dX4_close_37 rfl ?_
        rw [b8_0]
        refine hr_bast C T1349 hms_1349 (by omega) (by omega) (pk_vb _) dX4_close_38 (fun h1353 H1353 locs1353 eh1353 T1353 => ?_)
        have hms_1353 : h1353 (L 66) = some (.inl (E.2.1 1, 64, .inl (upd rm k (b8 0))), L 62) := hu_s eh1353
        have hF_1353 : Fr (· = L 62) h h1353 := hu_f eh1353 hF_1349 hms_1349 rfl
        refine lv_iinc (v := nI (k + 1)) (lv' := [(2, .int (nI (k + 1))), (0, .ref (L 62)), (1, .int (nI (8 * n)))]) hx hb dX4_close_39 hl1349 (k := 2) rfl (nI_add k 1) (by decide) rfl (fun ls1354 hl1354 => ?_)
        refine lv_goto (tgt := 26) hx hb dX4_close_42 (by decide) ?_
        have hdo_1353 : h1353 (L 62) = some (.inr (4, [.ref (L 63), .ref (L 64), .ref (L 65), .ref (L 66), .int (nI n)]), L 62) := hu_n eh1353 (hL 62 66 (by decide) (by decide) (by decide)) hdo_1349
        have hst_1353 : h1353 (L 63) = some (.inl (E.2.1 0, 8, .inl fs), L 62) := hu_n eh1353 (hL 63 66 (by decide) (by decide) (by decide)) hst_1349
        have hwk_1353 : h1353 (L 64) = some (.inl (E.2.1 0, 8, .inl fw), L 62) := hu_n eh1353 (hL 64 66 (by decide) (by decide) (by decide)) hwk_1349
        have hwd_1353 : h1353 (L 65) = some (.inl (E.2.1 0, 64, .inl fd), L 62) := hu_n eh1353 (hL 65 66 (by decide) (by decide) (by decide)) hwd_1349
        exact ih1349 (k + 1) _ _ _ _ _ (by omega) hdo_1353 hst_1353 hwk_1353 hwd_1353 hms_1353 (by omega) (by omega) (fun i z => by by_cases y : i = k; (rw [y, pk_us, hmz k (by omega) (by omega)]); (rw [pk_un y]; exact h5 i (by omega))) (fun q z1 z2 z3 z4 => by rw [eh1353, hup_n z4]; exact ho q z1 z2 z3 z4) hF_1353 T1353 (lv_sub hl1354 [1, 2, 0] rfl)
  have hst_1321 : h1321 (L 63) = some (.inl (E.2.1 0, 8, .inl fs), L 62) := hu_n eh1321 (hL 63 66 (by decide) (by decide) (by decide)) hst
  have hwk_1321 : h1321 (L 64) = some (.inl (E.2.1 0, 8, .inl fw), L 62) := hu_n eh1321 (hL 64 66 (by decide) (by decide) (by decide)) hwk
  have hwd_1321 : h1321 (L 65) = some (.inl (E.2.1 0, 64, .inl fd), L 62) := hu_n eh1321 (hL 65 66 (by decide) (by decide) (by decide)) hwd
  exact L0 63 (n + 1) _ _ _ _ _ (by omega) hdo_1321 hst_1321 hwk_1321 hwd_1321 hms_1321 (by omega) (Nat.le_refl _) (fun i z => by by_cases y : i = n; (rw [y, pk_us, hmn]); (rw [pk_un y]; exact hm i (by omega))) (fun q z1 z2 z3 z4 => by rw [eh1321, hup_n z4]) hF_1321 T1321 (lv_sub hl1322 [2, 1, 0] rfl)

/-- a byte of a digest -/
def dgb (w : Nat → Int32) (i : Nat) : Int32 := w (i / 4) >>> (nI (24 - 8 * (i % 4)) &&& 31) &&& nI 255
theorem sh2i {i : Nat} (h : i < 32) : nI i >>> (nI 2 &&& 31) = nI (i / 4) := by
  have : ∀ n, n < 32 → nI n >>> (nI 2 &&& 31) = nI (n / 4) := by decide +kernel
  exact this i h
theorem an3i {i : Nat} (h : i < 32) : nI i &&& nI 3 = nI (i % 4) := by
  have : ∀ n, n < 32 → nI n &&& nI 3 = nI (n % 4) := by decide +kernel
  exact this i h
/-- a digest as a number, modulo n -/
def dgr (w : Nat → Int32) (n : Nat) : Nat → Nat
  | 0 => 0
  | k + 1 => (dgr w n k * 4294967296 + un (w k)) % n

set_option maxHeartbeats 4000000 in
theorem p_X4_byteAt {E : GE} {l : Launch} {h : HH} {L : Nat → Nat} {n i : Nat} {fs : Nat → Int32} (hi : i < 32) (hdo : h (L 62) = some (.inr (4, [.ref (L 63), .ref (L 64), .ref (L 65), .ref (L 66), .int (nI n)]), L 62)) (hst : h (L 63) = some (.inl (E.2.1 0, 8, .inl fs), L 62)) : MP E l yX4_byteAt cX4_byteAt 2 (some .int) ({ frames := 0, cells := 0, slots := 0, locals := 0 } : Room) [.ref (L 62), .int (nI i)] h (fun rv => rv = some (.int (dgb fs i))) := by
  refine hp_i (by decide) (Nat.le_of_ble_eq_true rfl) ?_
  intro p e s m below meth c C Q Z ls T hl
  have hx := C.x
  have hb := C.b
  have hl : lv_has ls 2 [(0, .ref (L 62)), (1, .int (nI i))] := hl
  refine lv_aload_n hx hb dX4_byteAt_0 rfl (lv_at hl 0 rfl) ?_
  refine hr_get C T hdo rfl in_X4 0 (by decide) q119 rfl rfl dX4_byteAt_1 ?_
  refine lv_iload_n hx hb dX4_byteAt_4 rfl (lv_at hl 1 rfl) ?_
  refine lv_iconst (v := nI 2) hx hb dX4_byteAt_5 rfl ?_
  refine lv_ishr hx hb dX4_byteAt_6 ?_
  rw [show (nI i) >>> ((nI 2) &&& 31) = nI (i / 4) from sh2i hi]
  refine hr_iald C T hst (by omega) (by omega) dX4_byteAt_7 ?_
  refine lv_bipush (v := nI 24) hx hb dX4_byteAt_8 rfl ?_
  refine lv_bipush (v := nI 8) hx hb dX4_byteAt_10 rfl ?_
  refine lv_iload_n hx hb dX4_byteAt_12 rfl (lv_at hl 1 rfl) ?_
  refine lv_iconst (v := nI 3) hx hb dX4_byteAt_13 rfl ?_
  refine lv_iand hx hb dX4_byteAt_14 ?_
  rw [show (nI i) &&& (nI 3) = nI (i % 4) from an3i hi]
  refine hn_imul hx hb dX4_byteAt_15 ?_
  refine hn_isub hx hb dX4_byteAt_16 (by omega) ?_
  refine lv_ishr hx hb dX4_byteAt_17 ?_
  refine lv_sipush (v := nI 255) hx hb dX4_byteAt_18 rfl ?_
  refine lv_iand hx hb dX4_byteAt_21 ?_
  exact Z _ _ _ _ dX4_byteAt_22 rfl T

set_option maxHeartbeats 4000000 in
theorem m_X4_rest {E : GE} {l : Launch} {h : HH} {L : Nat → Nat} {n q : Nat} {fs : Nat → Int32} (hq0 : 0 < q) (hq : q < 65536) (hdo : h (L 62) = some (.inr (4, [.ref (L 63), .ref (L 64), .ref (L 65), .ref (L 66), .int (nI n)]), L 62)) (hst : h (L 63) = some (.inl (E.2.1 0, 8, .inl fs), L 62)) : MM E l yX4_rest cX4_rest 5 (some .int) ({ frames := 0, cells := 0, slots := 0, locals := 0 } : Room) [.ref (L 62), .int (nI q)] h (fun rv h2 => rv = some (.int (nI (dgr fs q 8))) ∧ h2 = h) := by
  refine hm_i (by decide) (Nat.le_of_ble_eq_true rfl) ?_
  intro p e s m below meth c C hnm Q Z ls T hl
  have hx := C.x
  have hb := C.b
  have hl : lv_has ls 5 [(0, .ref (L 62)), (1, .int (nI q))] := hl
  refine lv_lconst (v := lN 0) hx hb dX4_rest_0 rfl ?_
  refine lv_lstore_n (lv' := [(2, .long (lN 0)), (0, .ref (L 62)), (1, .int (nI q))]) hx hb dX4_rest_1 rfl hl (by decide) rfl (fun ls1355 hl1355 => ?_)
  refine lv_iconst (v := nI 0) hx hb dX4_rest_2 rfl ?_
  refine lv_istore (lv' := [(4, .int (nI 0)), (2, .long (lN 0)), (0, .ref (L 62)), (1, .int (nI q))]) hx hb dX4_rest_3 hl1355 (by decide) rfl (fun ls1356 hl1356 => ?_)
  have L1 : ∀ (j : Nat) (k : Nat) (H1357 : Heap) (locs1357 : List Loc) (ls1357 : Array Slot), (9 ≤ k + j) → (k ≤ 8) → (St E s h H1357 locs1357) → (lv_has ls1357 5 [(0, .ref (L 62)), (1, .int (nI q)), (2, .long (lN (dgr fs q k))), (4, .int (nI k))]) → W p l e ({ frames := 0, cells := 0, slots := 0, locals := 0 } : Room) s m ([.ref (L 62), .int (nI q)] : List Value).toArray below meth c H1357 locs1357 0 0 Q (F0 m 5 ls1357 []) := by
    intro j
    induction j with
    | zero => intro k H1357 locs1357 ls1357 hm1357 hk T1357 hl1357; exact absurd hm1357 (by omega)
    | succ j ih1357 =>
      intro k H1357 locs1357 ls1357 hm1357 hk T1357 hl1357
      have hlt : dgr fs q k < q := by cases k with | zero => exact hq0 | succ k => exact Nat.mod_lt _ hq0
      refine lv_iload hx hb dX4_rest_5 (lv_at hl1357 3 rfl) ?_
      refine lv_bipush (v := nI 8) hx hb dX4_rest_7 rfl ?_
      refine hn_icmp_ge (tgt := 39) hx hb dX4_rest_9 (by decide) (by omega) (by omega) (fun c1 => ?_) (fun c1 => ?_)
      · have e1 : k = 8 := by omega
        subst e1
        refine lv_lload_n hx hb dX4_rest_39 rfl (lv_at hl1357 2 rfl) ?_
        refine hn_l2i hx hb dX4_rest_40 ?_
        exact Z _ _ _ _ _ _ dX4_rest_41 ⟨rfl, rfl⟩ T1357
      · have hu := un_lt (fs k)
        refine lv_lload_n hx hb dX4_rest_12 rfl (lv_at hl1357 2 rfl) ?_
        refine lv_bipush (v := nI 32) hx hb dX4_rest_13 rfl ?_
        refine hn_lshl hx hb dX4_rest_15 (by omega) ?_
        refine lv_aload_n hx hb dX4_rest_16 rfl (lv_at hl1357 0 rfl) ?_
        refine hr_get C T1357 hdo rfl in_X4 0 (by decide) q119 rfl rfl dX4_rest_17 ?_
        refine lv_iload hx hb dX4_rest_20 (lv_at hl1357 3 rfl) ?_
        refine hr_iald C T1357 hst (by omega) (by omega) dX4_rest_22 ?_
        refine lv_i2l (v := (fs k).toInt64) hx hb dX4_rest_23 rfl ?_
        refine lv_ldc2 (v := lN 4294967295) hx hb C.ow (C.ts _ q739) dX4_rest_24 ?_
        rw [show lN 4294967295 = 4294967295 from rfl]
        refine lv_land hx hb dX4_rest_27 ?_
        rw [show (fs k).toInt64 &&& 4294967295 = lN (un (fs k)) from cell_l (fs k)]
        refine hn_ladd hx hb dX4_rest_28 ?_
        refine lv_iload_n hx hb dX4_rest_29 rfl (lv_at hl1357 1 rfl) ?_
        refine hn_i2l hx hb dX4_rest_30 (by omega) ?_
        refine hn_lrem hx hb dX4_rest_31 (by omega) hq0 (by omega) ?_
        refine lv_lstore_n (lv' := [(2, .long (lN ((((dgr fs q k) * 2 ^ 32) + (un (fs k))) % q))), (0, .ref (L 62)), (1, .int (nI q)), (4, .int (nI k))]) hx hb dX4_rest_32 rfl hl1357 (by decide) rfl (fun ls1358 hl1358 => ?_)
        refine lv_iinc (v := nI (k + 1)) (lv' := [(4, .int (nI (k + 1))), (2, .long (lN ((((dgr fs q k) * 2 ^ 32) + (un (fs k))) % q))), (0, .ref (L 62)), (1, .int (nI q))]) hx hb dX4_rest_33 hl1358 (k := 3) rfl (nI_add k 1) (by decide) rfl (fun ls1359 hl1359 => ?_)
        refine lv_goto (tgt := 5) hx hb dX4_rest_36 (by decide) ?_
        exact ih1357 (k + 1) _ _ _ (by omega) (by omega) T1357 (lv_sub hl1359 [2, 3, 1, 0] rfl)
  exact L1 9 0 _ _ _ (by omega) (Nat.zero_le _) T (lv_sub hl1356 [2, 3, 1, 0] rfl)
