set_option maxRecDepth 100000
def inN : Nat → Nat := fun i => [0, 0, 0, 1, 100, 1, 10, 11, 10, 0, 0, 0, 0, 0, 0, 0, 0, 0, 0, 0, 1, 1, 0, 1].getD i 0
def DA (t : Nat → Nat) : Prop := t 1 ≠ t 3 ∧ t 1 ≠ t 12 ∧ t 1 ≠ t 13 ∧ t 1 ≠ t 14 ∧ t 1 ≠ t 15 ∧ t 1 ≠ t 16 ∧ t 1 ≠ t 17 ∧ t 1 ≠ t 24 ∧ t 1 ≠ t 37 ∧ t 1 ≠ t 38 ∧ t 1 ≠ t 39 ∧ t 3 ≠ t 12 ∧ t 3 ≠ t 13 ∧ t 3 ≠ t 14 ∧ t 3 ≠ t 15 ∧ t 3 ≠ t 16 ∧ t 3 ≠ t 17 ∧ t 3 ≠ t 24 ∧ t 3 ≠ t 37 ∧ t 3 ≠ t 38 ∧ t 3 ≠ t 39 ∧ t 12 ≠ t 13 ∧ t 12 ≠ t 14 ∧ t 12 ≠ t 15 ∧ t 12 ≠ t 16 ∧ t 12 ≠ t 17 ∧ t 12 ≠ t 24 ∧ t 12 ≠ t 37 ∧ t 12 ≠ t 38 ∧ t 12 ≠ t 39 ∧ t 13 ≠ t 14 ∧ t 13 ≠ t 15 ∧ t 13 ≠ t 16 ∧ t 13 ≠ t 17 ∧ t 13 ≠ t 24 ∧ t 13 ≠ t 37 ∧ t 13 ≠ t 38 ∧ t 13 ≠ t 39 ∧ t 14 ≠ t 15 ∧ t 14 ≠ t 16 ∧ t 14 ≠ t 17 ∧ t 14 ≠ t 24 ∧ t 14 ≠ t 37 ∧ t 14 ≠ t 38 ∧ t 14 ≠ t 39 ∧ t 15 ≠ t 16 ∧ t 15 ≠ t 17 ∧ t 15 ≠ t 24 ∧ t 15 ≠ t 37 ∧ t 15 ≠ t 38 ∧ t 15 ≠ t 39 ∧ t 16 ≠ t 17 ∧ t 16 ≠ t 24 ∧ t 16 ≠ t 37 ∧ t 16 ≠ t 38 ∧ t 16 ≠ t 39 ∧ t 17 ≠ t 24 ∧ t 17 ≠ t 37 ∧ t 17 ≠ t 38 ∧ t 17 ≠ t 39 ∧ t 24 ≠ t 37 ∧ t 24 ≠ t 38 ∧ t 24 ≠ t 39 ∧ t 37 ≠ t 38 ∧ t 37 ≠ t 39 ∧ t 38 ≠ t 39
def DD (t : Nat → Nat) : Prop := t 63 ≠ t 64 ∧ t 63 ≠ t 65 ∧ t 63 ≠ t 66 ∧ t 64 ≠ t 65 ∧ t 64 ≠ t 66 ∧ t 65 ≠ t 66
/-- what the class's constructor leaves -/
def Raw (E : GE) (h : HH) (t pa B cp : Nat → Nat) (f : Nat → Nat → Int32) (g : Nat → Nat → Option Nat) : Prop :=
  h (t 0) = some (.inr (0, [.ref (t 1), .int (nI (inN 0)), .ref (t 3), .int (nI (inN 1)), .int (nI (inN 2)), .int (nI (inN 3)), .int (nI (inN 4)), .int (nI (inN 5)), .int (nI (inN 6)), .int (nI (inN 7)), .int (nI (inN 8)), .ref (t 12), .ref (t 13), .ref (t 14), .ref (t 15), .ref (t 16), .ref (t 17), .int (nI (inN 11)), .int (nI (inN 15)), .int (nI (inN 16)), .int (nI (inN 17)), .int (nI (inN 18) - 1), .int (nI (inN 19)), .ref (t 24), .int (nI 0), .ref (t 26), .ref (t 27), .ref (if inN 13 = 1 then t 27 else t 26), .ref (t 29), .ref (t 30), .ref (if inN 12 = 1 then t 30 else t 29), .ref (t 32), .ref (B 0), .ref (B 1), .ref (B 2), .ref (B 3), .ref (t 37), .ref (t 38), .ref (t 39), .ref (B 4), .ref (B 5)]), t 0) ∧
  (h (t 1) = some (.inl (E.2.1 0, 8, .inl (f 1)), t 0) ∧ h (t 3) = some (.inl (E.2.1 0, 64, .inl (f 3)), t 0) ∧ h (t 12) = some (.inl (E.2.1 1, 20000, .inl (f 12)), t 0) ∧ h (t 13) = some (.inl (E.2.1 1, 20000, .inl (f 13)), t 0) ∧ h (t 14) = some (.inl (E.2.1 2, 20000, .inl (f 14)), t 0) ∧ h (t 15) = some (.inl (E.2.1 3, 8, .inl (f 15)), t 0) ∧ h (t 16) = some (.inl (E.2.1 0, 8, .inl (f 16)), t 0) ∧ h (t 17) = some (.inl (E.2.1 0, 8, .inl (f 17)), t 0) ∧ h (t 39) = some (.inl (E.2.1 3, 961, .inl (f 39)), t 0)) ∧
  (h (t 24) = some (.inl (E.2.1 6, 16, .inr (.inr (.inr (.inr (g 24))))), t 0) ∧ h (t 37) = some (.inl (E.2.1 5, 961, .inr (.inr (.inr (.inr (g 37))))), t 0) ∧ h (t 38) = some (.inl (E.2.1 5, 961, .inr (.inr (.inr (.inr (g 38))))), t 0)) ∧
  (h (t 29) = some (.inr (5, [.ref (t 0)]), t 29) ∧ h (t 30) = some (.inr (6, [.ref (t 0), .ref (B 6), .ref (B 7)]), t 30) ∧ h (t 32) = some (.inr (7, [.ref (B 8), .ref (B 9), .ref (B 10), .ref (B 11), .ref (B 12), .ref (B 13), .ref (B 14), .ref (B 15), .ref (B 16), .ref (B 17), .ref (B 18)]), t 32)) ∧
  (h (t 26) = some (.inr (2, [.ref (t 60), .int 0, .int 0]), t 26) ∧ h (t 60) = some (.inl (E.2.1 3, 4000, .inl (fun _ => 0)), t 26)) ∧
  (h (t 27) = some (.inr (3, [.ref (t 61), .int 0, .ref (t 62)]), t 27) ∧ h (t 61) = some (.inl (E.2.1 0, 20, .inl (fun _ => 0)), t 27)) ∧
  (h (t 62) = some (.inr (4, [.ref (t 63), .ref (t 64), .ref (t 65), .ref (t 66), .int 0]), t 62) ∧ h (t 63) = some (.inl (E.2.1 0, 8, .inl (fun _ => 0)), t 62) ∧ h (t 64) = some (.inl (E.2.1 0, 8, .inl (fun _ => 0)), t 62) ∧ h (t 65) = some (.inl (E.2.1 0, 64, .inl (fun _ => 0)), t 62) ∧ h (t 66) = some (.inl (E.2.1 1, 64, .inl (fun _ => 0)), t 62)) ∧
  (∀ i, i < 16 → h (pa i) = some (.inr (8, [.int 0, .int 0, .int 0, .ref (B (19 + 2 * i)), .ref (B (20 + 2 * i))]), pa i)) ∧
  ((∀ i, i < 16 → g 24 i = some (pa i)) ∧ (∀ i, i < 961 → g 37 i = some (B (51 + i))) ∧ (∀ i, i < 961 → g 38 i = some (B (1012 + i)))) ∧
  Bgs E h B (nu (fun _ => 0) 3 1) cp ∧
  ((∀ i, f 1 i = 0) ∧ (∀ i, f 14 i = 0) ∧ (∀ i, f 16 i = 0) ∧ (∀ i, i < 20000 → f 12 i = -1) ∧ (∀ i, i < 20000 → f 13 i = -2) ∧ (∀ i, i < 8 → f 17 i = -1)) ∧ DA t ∧ DD t

theorem PB.add2 {E : GE} {h h1 h2 : HH} {Bq cq : Nat → Nat} {n q c : Nat} {x : HE} (H : PB E h Bq cq n) (hq : h q = none) (e : h1 = hup h q x) (F : Fr (· = q) h1 h2) (hB : Big E h2 q 0 c) : ∃ B2 c2, PB E h2 B2 c2 (n + 1) ∧ (∀ i, i < n → B2 i = Bq i ∧ c2 i = cq i) ∧ B2 n = q ∧ c2 n = c := ⟨_, _, H.add hq e F hB, fun i hi => ⟨nu_n (by omega), nu_n (by omega)⟩, nu_s, nu_s⟩

/-- the order of making -/
def tq (i : Nat) : Nat := if i < 6 then 13 + i else if i < 19 then i - 6 else if i < 51 then i else if i < 1012 then 51 + 2 * (i - 51) else 52 + 2 * (i - 1012)
theorem tq_lt {i : Nat} (h : i < 1973) : tq i < 1973 := by unfold tq; (repeat' split) <;> omega
theorem tq_inj {i j : Nat} (hi : i < 1973) (hj : j < 1973) (h : i ≠ j) : tq i ≠ tq j := by unfold tq; (repeat' split) <;> omega
theorem PB.bgs {E : GE} {h : HH} {Bq cq : Nat → Nat} (H : PB E h Bq cq 1973) : Bgs E h (fun i => Bq (tq i)) (fun _ => 0) (fun i => cq (tq i)) := ⟨fun i hi => H.1 _ (tq_lt hi), fun i j hi hj hij => H.2 _ _ (tq_lt hi) (tq_lt hj) (tq_inj hi hj hij)⟩

theorem Bgs.neobj {E : GE} {h : HH} {B V cp : Nat → Nat} {b k o : Nat} {fs : List Value} (H : Bgs E h B V cp) (hb : h b = some (.inr (k, fs), o)) (hk : k ≠ 1) : ∀ i, i < NB → B i ≠ b := fun i hi => by
  obtain ⟨ca, h1⟩ := (H.1 i hi).obj
  exact hne_of h1 hb (fun z => hk (by cases z; rfl))
theorem Bgs.nearr {E : GE} {h : HH} {B V cp : Nat → Nat} {b o : Nat} {x : ClassId × vp_A} (H : Bgs E h B V cp) (hb : h b = some (.inl x, o)) : ∀ i, i < NB → B i ≠ b := fun i hi => by
  obtain ⟨ca, h1⟩ := (H.1 i hi).obj
  exact hne_of h1 hb (fun z => by cases z)

set_option maxHeartbeats 4000000 in
theorem m_X1_init {E : GE} {l : Launch} {h : HH} {a sc : Nat} {xs : ClassId × vp_A} (hao : h a = some (.inr (0, [.null, .int 0, .null, .int 0, .int 0, .int 0, .int 0, .int 0, .int 0, .int 0, .int 0, .null, .null, .null, .null, .null, .null, .int 0, .int 0, .int 0, .int 0, .int 0, .int 0, .null, .int 0, .null, .null, .null, .null, .null, .null, .null, .null, .null, .null, .null, .null, .null, .null, .null, .null]), a)) (hsc : h sc = some (.inl xs, sc)) (hsa : sc ≠ a) : MG E l yX1_init cX1_init 2 none ({ frames := 4, cells := 4200, slots := 100000, locals := 600 } : Room) [.ref a] h (fun rv h2 dc ds => rv = none ∧ ∃ t pa B cp f g, Raw E h2 t pa B cp f g ∧ t 0 = a ∧ h2 sc = some (.inl xs, sc)) := by
  refine hn_v (by decide) (Nat.le_of_ble_eq_true rfl) ?_
  intro p e s m below meth c C hnm Q Z ls T hl
  have hx := C.x
  have hb := C.b
  have hin : meth.name = "<init>" := hnm
  have hl : lv_has ls 2 [(0, .ref a)] := hl
  have hN : FN a h h := FN.rf
  have hQ0 : PB E h (fun _ => 0) (fun _ => 0) 0 := PB.zero
  refine lv_aload_n hx hb dX1_init_0 rfl (lv_at hl 0 rfl) ?_
  refine W.objInit hx hb C.ow (C.ts _ q81) (C.ts _ q82) (C.ts _ q83) rfl (by rw [C.ml]; exact hl.1) rfl dX1_init_1 (Nat.le_of_ble_eq_true rfl) (Nat.le_of_ble_eq_true rfl) ?_
  refine W.eq (g2 := F0 m 4 ls []) rfl ?_
  refine lv_aload_n hx hb dX1_init_4 rfl (lv_at hl 0 rfl) ?_
  refine lv_bipush (v := nI 8) hx hb dX1_init_5 rfl ?_
  refine hr_newa C T a 0 (atype := .int) q103 (ty := .int) rfl rfl (N := 8) (a0 := (8, (.inl (fun _ => 0)))) (fun cA => rfl) (by omega) (by show 0 + 1 ≤ 4200; omega) (by show 0 + 8 ≤ 100000; omega) dX1_init_7 (fun h10001 q10001_ H10001 hf10001 eh10001 T10001 => ?_)
  have hn7x_10001 : h10001 q10001_ = some (.inl (E.2.1 0, 8, .inl (fun _ => 0)), a) := hu_s eh10001
  have hao_10001 : h10001 a = some (.inr (0, [.null, .int 0, .null, .int 0, .int 0, .int 0, .int 0, .int 0, .int 0, .int 0, .int 0, .null, .null, .null, .null, .null, .null, .int 0, .int 0, .int 0, .int 0, .int 0, .int 0, .null, .int 0, .null, .null, .null, .null, .null, .null, .null, .null, .null, .null, .null, .null, .null, .null, .null, .null]), a) := hu_w eh10001 hf10001 hao
  refine hr_putF C T10001 hin hao_10001 rfl in_X1 tyX1 tyX1_ok nmX1 0 (by decide) q290 rfl rfl rfl rfl rfl (Nat.le_of_ble_eq_true rfl) dX1_init_9 (fun h10002 H10002 locs10002 eh10002 T10002 => ?_)
  have hao_10002 : h10002 a = some (.inr (0, [.ref q10001_, .int 0, .null, .int 0, .int 0, .int 0, .int 0, .int 0, .int 0, .int 0, .int 0, .null, .null, .null, .null, .null, .null, .int 0, .int 0, .int 0, .int 0, .int 0, .int 0, .null, .int 0, .null, .null, .null, .null, .null, .null, .null, .null, .null, .null, .null, .null, .null, .null, .null, .null]), a) := hu_s eh10002
  refine lv_aload_n hx hb dX1_init_12 rfl (lv_at hl 0 rfl) ?_
  refine lv_bipush (v := nI 64) hx hb dX1_init_13 rfl ?_
  refine hr_newa C T10002 a 0 (atype := .int) q103 (ty := .int) rfl rfl (N := 64) (a0 := (64, (.inl (fun _ => 0)))) (fun cA => rfl) (by omega) (by show 0 + 1 + 1 ≤ 4200; omega) (by show 0 + 8 + 64 ≤ 100000; omega) dX1_init_15 (fun h10003 q10003_ H10003 hf10003 eh10003 T10003 => ?_)
  have hsc_10001 : h10001 sc = some (.inl xs, sc) := hu_w eh10001 hf10001 hsc
  have hsc_10002 : h10002 sc = some (.inl xs, sc) := hu_n eh10002 hsa hsc_10001
  have hn7x_10002 : h10002 q10001_ = some (.inl (E.2.1 0, 8, .inl (fun _ => 0)), a) := hu_n eh10002 (Ne.symm (hne_new hao hf10001)) hn7x_10001
  have hn15x_10003 : h10003 q10003_ = some (.inl (E.2.1 0, 64, .inl (fun _ => 0)), a) := hu_s eh10003
  have hao_10003 : h10003 a = some (.inr (0, [.ref q10001_, .int 0, .null, .int 0, .int 0, .int 0, .int 0, .int 0, .int 0, .int 0, .int 0, .null, .null, .null, .null, .null, .null, .int 0, .int 0, .int 0, .int 0, .int 0, .int 0, .null, .int 0, .null, .null, .null, .null, .null, .null, .null, .null, .null, .null, .null, .null, .null, .null, .null, .null]), a) := hu_w eh10003 hf10003 hao_10002
  refine hr_putF C T10003 hin hao_10003 rfl in_X1 tyX1 tyX1_ok nmX1 2 (by decide) q292 rfl rfl rfl rfl rfl (Nat.le_of_ble_eq_true rfl) dX1_init_17 (fun h10004 H10004 locs10004 eh10004 T10004 => ?_)
  have hao_10004 : h10004 a = some (.inr (0, [.ref q10001_, .int 0, .ref q10003_, .int 0, .int 0, .int 0, .int 0, .int 0, .int 0, .int 0, .int 0, .null, .null, .null, .null, .null, .null, .int 0, .int 0, .int 0, .int 0, .int 0, .int 0, .null, .int 0, .null, .null, .null, .null, .null, .null, .null, .null, .null, .null, .null, .null, .null, .null, .null, .null]), a) := hu_s eh10004
  refine lv_aload_n hx hb dX1_init_20 rfl (lv_at hl 0 rfl) ?_
  refine lv_iconst (v := nI 1) hx hb dX1_init_21 rfl ?_
  refine hr_put C T10004 hao_10004 rfl in_X1 tyX1 tyX1_ok nmX1 5 (by decide) q296 rfl rfl rfl rfl (Nat.le_of_ble_eq_true rfl) dX1_init_22 (fun h10005 H10005 locs10005 eh10005 T10005 => ?_)
  have hao_10005 : h10005 a = some (.inr (0, [.ref q10001_, .int 0, .ref q10003_, .int 0, .int 0, .int (nI 1), .int 0, .int 0, .int 0, .int 0, .int 0, .null, .null, .null, .null, .null, .null, .int 0, .int 0, .int 0, .int 0, .int 0, .int 0, .null, .int 0, .null, .null, .null, .null, .null, .null, .null, .null, .null, .null, .null, .null, .null, .null, .null, .null]), a) := hu_s eh10005
  refine lv_aload_n hx hb dX1_init_25 rfl (lv_at hl 0 rfl) ?_
  refine lv_bipush (v := nI 100) hx hb dX1_init_26 rfl ?_
  refine hr_put C T10005 hao_10005 rfl in_X1 tyX1 tyX1_ok nmX1 6 (by decide) q297 rfl rfl rfl rfl (Nat.le_of_ble_eq_true rfl) dX1_init_28 (fun h10006 H10006 locs10006 eh10006 T10006 => ?_)
  have hao_10006 : h10006 a = some (.inr (0, [.ref q10001_, .int 0, .ref q10003_, .int 0, .int 0, .int (nI 1), .int (nI 100), .int 0, .int 0, .int 0, .int 0, .null, .null, .null, .null, .null, .null, .int 0, .int 0, .int 0, .int 0, .int 0, .int 0, .null, .int 0, .null, .null, .null, .null, .null, .null, .null, .null, .null, .null, .null, .null, .null, .null, .null, .null]), a) := hu_s eh10006
  refine lv_aload_n hx hb dX1_init_31 rfl (lv_at hl 0 rfl) ?_
  refine lv_iconst (v := nI 1) hx hb dX1_init_32 rfl ?_
  refine hr_put C T10006 hao_10006 rfl in_X1 tyX1 tyX1_ok nmX1 7 (by decide) q298 rfl rfl rfl rfl (Nat.le_of_ble_eq_true rfl) dX1_init_33 (fun h10007 H10007 locs10007 eh10007 T10007 => ?_)
  have hao_10007 : h10007 a = some (.inr (0, [.ref q10001_, .int 0, .ref q10003_, .int 0, .int 0, .int (nI 1), .int (nI 100), .int (nI 1), .int 0, .int 0, .int 0, .null, .null, .null, .null, .null, .null, .int 0, .int 0, .int 0, .int 0, .int 0, .int 0, .null, .int 0, .null, .null, .null, .null, .null, .null, .null, .null, .null, .null, .null, .null, .null, .null, .null, .null]), a) := hu_s eh10007
  refine lv_aload_n hx hb dX1_init_36 rfl (lv_at hl 0 rfl) ?_
  refine lv_bipush (v := nI 10) hx hb dX1_init_37 rfl ?_
  refine hr_put C T10007 hao_10007 rfl in_X1 tyX1 tyX1_ok nmX1 8 (by decide) q301 rfl rfl rfl rfl (Nat.le_of_ble_eq_true rfl) dX1_init_39 (fun h10008 H10008 locs10008 eh10008 T10008 => ?_)
  have hao_10008 : h10008 a = some (.inr (0, [.ref q10001_, .int 0, .ref q10003_, .int 0, .int 0, .int (nI 1), .int (nI 100), .int (nI 1), .int (nI 10), .int 0, .int 0, .null, .null, .null, .null, .null, .null, .int 0, .int 0, .int 0, .int 0, .int 0, .int 0, .null, .int 0, .null, .null, .null, .null, .null, .null, .null, .null, .null, .null, .null, .null, .null, .null, .null, .null]), a) := hu_s eh10008
  refine lv_aload_n hx hb dX1_init_42 rfl (lv_at hl 0 rfl) ?_
  refine lv_bipush (v := nI 11) hx hb dX1_init_43 rfl ?_
  refine hr_put C T10008 hao_10008 rfl in_X1 tyX1 tyX1_ok nmX1 9 (by decide) q303 rfl rfl rfl rfl (Nat.le_of_ble_eq_true rfl) dX1_init_45 (fun h10009 H10009 locs10009 eh10009 T10009 => ?_)
  have hao_10009 : h10009 a = some (.inr (0, [.ref q10001_, .int 0, .ref q10003_, .int 0, .int 0, .int (nI 1), .int (nI 100), .int (nI 1), .int (nI 10), .int (nI 11), .int 0, .null, .null, .null, .null, .null, .null, .int 0, .int 0, .int 0, .int 0, .int 0, .int 0, .null, .int 0, .null, .null, .null, .null, .null, .null, .null, .null, .null, .null, .null, .null, .null, .null, .null, .null]), a) := hu_s eh10009
  refine lv_aload_n hx hb dX1_init_48 rfl (lv_at hl 0 rfl) ?_
  refine lv_bipush (v := nI 10) hx hb dX1_init_49 rfl ?_
  refine hr_put C T10009 hao_10009 rfl in_X1 tyX1 tyX1_ok nmX1 10 (by decide) q305 rfl rfl rfl rfl (Nat.le_of_ble_eq_true rfl) dX1_init_51 (fun h10010 H10010 locs10010 eh10010 T10010 => ?_)
  have hao_10010 : h10010 a = some (.inr (0, [.ref q10001_, .int 0, .ref q10003_, .int 0, .int 0, .int (nI 1), .int (nI 100), .int (nI 1), .int (nI 10), .int (nI 11), .int (nI 10), .null, .null, .null, .null, .null, .null, .int 0, .int 0, .int 0, .int 0, .int 0, .int 0, .null, .int 0, .null, .null, .null, .null, .null, .null, .null, .null, .null, .null, .null, .null, .null, .null, .null, .null]), a) := hu_s eh10010
  refine lv_aload_n hx hb dX1_init_54 rfl (lv_at hl 0 rfl) ?_
  refine lv_sipush (v := nI 20000) hx hb dX1_init_55 rfl ?_
  refine hr_newa C T10010 a 1 (atype := .byte) q104 (ty := .byte) rfl rfl (N := 20000) (a0 := (20000, (.inl (fun _ => 0)))) (fun cA => rfl) (by omega) (by show 0 + 1 + 1 + 1 ≤ 4200; omega) (by show 0 + 8 + 64 + 20000 ≤ 100000; omega) dX1_init_58 (fun h10011 q10011_ H10011 hf10011 eh10011 T10011 => ?_)
  have hsc_10003 : h10003 sc = some (.inl xs, sc) := hu_w eh10003 hf10003 hsc_10002
  have hsc_10004 : h10004 sc = some (.inl xs, sc) := hu_n eh10004 hsa hsc_10003
  have hsc_10005 : h10005 sc = some (.inl xs, sc) := hu_n eh10005 hsa hsc_10004
  have hsc_10006 : h10006 sc = some (.inl xs, sc) := hu_n eh10006 hsa hsc_10005
  have hsc_10007 : h10007 sc = some (.inl xs, sc) := hu_n eh10007 hsa hsc_10006
  have hsc_10008 : h10008 sc = some (.inl xs, sc) := hu_n eh10008 hsa hsc_10007
  have hsc_10009 : h10009 sc = some (.inl xs, sc) := hu_n eh10009 hsa hsc_10008
  have hsc_10010 : h10010 sc = some (.inl xs, sc) := hu_n eh10010 hsa hsc_10009
  have hn7x_10003 : h10003 q10001_ = some (.inl (E.2.1 0, 8, .inl (fun _ => 0)), a) := hu_w eh10003 hf10003 hn7x_10002
  have hn7x_10004 : h10004 q10001_ = some (.inl (E.2.1 0, 8, .inl (fun _ => 0)), a) := hu_n eh10004 (Ne.symm (hne_new hao hf10001)) hn7x_10003
  have hn7x_10005 : h10005 q10001_ = some (.inl (E.2.1 0, 8, .inl (fun _ => 0)), a) := hu_n eh10005 (Ne.symm (hne_new hao hf10001)) hn7x_10004
  have hn7x_10006 : h10006 q10001_ = some (.inl (E.2.1 0, 8, .inl (fun _ => 0)), a) := hu_n eh10006 (Ne.symm (hne_new hao hf10001)) hn7x_10005
  have hn7x_10007 : h10007 q10001_ = some (.inl (E.2.1 0, 8, .inl (fun _ => 0)), a) := hu_n eh10007 (Ne.symm (hne_new hao hf10001)) hn7x_10006
  have hn7x_10008 : h10008 q10001_ = some (.inl (E.2.1 0, 8, .inl (fun _ => 0)), a) := hu_n eh10008 (Ne.symm (hne_new hao hf10001)) hn7x_10007
  have hn7x_10009 : h10009 q10001_ = some (.inl (E.2.1 0, 8, .inl (fun _ => 0)), a) := hu_n eh10009 (Ne.symm (hne_new hao hf10001)) hn7x_10008
  have hn7x_10010 : h10010 q10001_ = some (.inl (E.2.1 0, 8, .inl (fun _ => 0)), a) := hu_n eh10010 (Ne.symm (hne_new hao hf10001)) hn7x_10009
  have hn15x_10004 : h10004 q10003_ = some (.inl (E.2.1 0, 64, .inl (fun _ => 0)), a) := hu_n eh10004 (Ne.symm (hne_new hao_10002 hf10003)) hn15x_10003
  have hn15x_10005 : h10005 q10003_ = some (.inl (E.2.1 0, 64, .inl (fun _ => 0)), a) := hu_n eh10005 (Ne.symm (hne_new hao_10002 hf10003)) hn15x_10004
  have hn15x_10006 : h10006 q10003_ = some (.inl (E.2.1 0, 64, .inl (fun _ => 0)), a) := hu_n eh10006 (Ne.symm (hne_new hao_10002 hf10003)) hn15x_10005
  have hn15x_10007 : h10007 q10003_ = some (.inl (E.2.1 0, 64, .inl (fun _ => 0)), a) := hu_n eh10007 (Ne.symm (hne_new hao_10002 hf10003)) hn15x_10006
  have hn15x_10008 : h10008 q10003_ = some (.inl (E.2.1 0, 64, .inl (fun _ => 0)), a) := hu_n eh10008 (Ne.symm (hne_new hao_10002 hf10003)) hn15x_10007
  have hn15x_10009 : h10009 q10003_ = some (.inl (E.2.1 0, 64, .inl (fun _ => 0)), a) := hu_n eh10009 (Ne.symm (hne_new hao_10002 hf10003)) hn15x_10008
  have hn15x_10010 : h10010 q10003_ = some (.inl (E.2.1 0, 64, .inl (fun _ => 0)), a) := hu_n eh10010 (Ne.symm (hne_new hao_10002 hf10003)) hn15x_10009
  have hn58x_10011 : h10011 q10011_ = some (.inl (E.2.1 1, 20000, .inl (fun _ => 0)), a) := hu_s eh10011
  have hao_10011 : h10011 a = some (.inr (0, [.ref q10001_, .int 0, .ref q10003_, .int 0, .int 0, .int (nI 1), .int (nI 100), .int (nI 1), .int (nI 10), .int (nI 11), .int (nI 10), .null, .null, .null, .null, .null, .null, .int 0, .int 0, .int 0, .int 0, .int 0, .int 0, .null, .int 0, .null, .null, .null, .null, .null, .null, .null, .null, .null, .null, .null, .null, .null, .null, .null, .null]), a) := hu_w eh10011 hf10011 hao_10010
  refine hr_putF C T10011 hin hao_10011 rfl in_X1 tyX1 tyX1_ok nmX1 11 (by decide) q306 rfl rfl rfl rfl rfl (Nat.le_of_ble_eq_true rfl) dX1_init_60 (fun h10012 H10012 locs10012 eh10012 T10012 => ?_)
  have hao_10012 : h10012 a = some (.inr (0, [.ref q10001_, .int 0, .ref q10003_, .int 0, .int 0, .int (nI 1), .int (nI 100), .int (nI 1), .int (nI 10), .int (nI 11), .int (nI 10), .ref q10011_, .null, .null, .null, .null, .null, .int 0, .int 0, .int 0, .int 0, .int 0, .int 0, .null, .int 0, .null, .null, .null, .null, .null, .null, .null, .null, .null, .null, .null, .null, .null, .null, .null, .null]), a) := hu_s eh10012
  refine lv_aload_n hx hb dX1_init_63 rfl (lv_at hl 0 rfl) ?_
  refine lv_sipush (v := nI 20000) hx hb dX1_init_64 rfl ?_
  refine hr_newa C T10012 a 1 (atype := .byte) q104 (ty := .byte) rfl rfl (N := 20000) (a0 := (20000, (.inl (fun _ => 0)))) (fun cA => rfl) (by omega) (by show 0 + 1 + 1 + 1 + 1 ≤ 4200; omega) (by show 0 + 8 + 64 + 20000 + 20000 ≤ 100000; omega) dX1_init_67 (fun h10013 q10013_ H10013 hf10013 eh10013 T10013 => ?_)
  have hsc_10011 : h10011 sc = some (.inl xs, sc) := hu_w eh10011 hf10011 hsc_10010
  have hsc_10012 : h10012 sc = some (.inl xs, sc) := hu_n eh10012 hsa hsc_10011
  have hn7x_10011 : h10011 q10001_ = some (.inl (E.2.1 0, 8, .inl (fun _ => 0)), a) := hu_w eh10011 hf10011 hn7x_10010
  have hn7x_10012 : h10012 q10001_ = some (.inl (E.2.1 0, 8, .inl (fun _ => 0)), a) := hu_n eh10012 (Ne.symm (hne_new hao hf10001)) hn7x_10011
  have hn15x_10011 : h10011 q10003_ = some (.inl (E.2.1 0, 64, .inl (fun _ => 0)), a) := hu_w eh10011 hf10011 hn15x_10010
  have hn15x_10012 : h10012 q10003_ = some (.inl (E.2.1 0, 64, .inl (fun _ => 0)), a) := hu_n eh10012 (Ne.symm (hne_new hao_10002 hf10003)) hn15x_10011
  have hn58x_10012 : h10012 q10011_ = some (.inl (E.2.1 1, 20000, .inl (fun _ => 0)), a) := hu_n eh10012 (Ne.symm (hne_new hao_10010 hf10011)) hn58x_10011
  have hn67x_10013 : h10013 q10013_ = some (.inl (E.2.1 1, 20000, .inl (fun _ => 0)), a) := hu_s eh10013
  have hao_10013 : h10013 a = some (.inr (0, [.ref q10001_, .int 0, .ref q10003_, .int 0, .int 0, .int (nI 1), .int (nI 100), .int (nI 1), .int (nI 10), .int (nI 11), .int (nI 10), .ref q10011_, .null, .null, .null, .null, .null, .int 0, .int 0, .int 0, .int 0, .int 0, .int 0, .null, .int 0, .null, .null, .null, .null, .null, .null, .null, .null, .null, .null, .null, .null, .null, .null, .null, .null]), a) := hu_w eh10013 hf10013 hao_10012
  refine hr_putF C T10013 hin hao_10013 rfl in_X1 tyX1 tyX1_ok nmX1 12 (by decide) q307 rfl rfl rfl rfl rfl (Nat.le_of_ble_eq_true rfl) dX1_init_69 (fun h10014 H10014 locs10014 eh10014 T10014 => ?_)
  have hao_10014 : h10014 a = some (.inr (0, [.ref q10001_, .int 0, .ref q10003_, .int 0, .int 0, .int (nI 1), .int (nI 100), .int (nI 1), .int (nI 10), .int (nI 11), .int (nI 10), .ref q10011_, .ref q10013_, .null, .null, .null, .null, .int 0, .int 0, .int 0, .int 0, .int 0, .int 0, .null, .int 0, .null, .null, .null, .null, .null, .null, .null, .null, .null, .null, .null, .null, .null, .null, .null, .null]), a) := hu_s eh10014
  refine lv_aload_n hx hb dX1_init_72 rfl (lv_at hl 0 rfl) ?_
  refine lv_sipush (v := nI 20000) hx hb dX1_init_73 rfl ?_
  refine hr_newa C T10014 a 2 (atype := .short) q105 (ty := .short) rfl rfl (N := 20000) (a0 := (20000, (.inl (fun _ => 0)))) (fun cA => rfl) (by omega) (by show 0 + 1 + 1 + 1 + 1 + 1 ≤ 4200; omega) (by show 0 + 8 + 64 + 20000 + 20000 + 20000 ≤ 100000; omega) dX1_init_76 (fun h10015 q10015_ H10015 hf10015 eh10015 T10015 => ?_)
  have hsc_10013 : h10013 sc = some (.inl xs, sc) := hu_w eh10013 hf10013 hsc_10012
  have hsc_10014 : h10014 sc = some (.inl xs, sc) := hu_n eh10014 hsa hsc_10013
  have hn7x_10013 : h10013 q10001_ = some (.inl (E.2.1 0, 8, .inl (fun _ => 0)), a) := hu_w eh10013 hf10013 hn7x_10012
  have hn7x_10014 : h10014 q10001_ = some (.inl (E.2.1 0, 8, .inl (fun _ => 0)), a) := hu_n eh10014 (Ne.symm (hne_new hao hf10001)) hn7x_10013
  have hn15x_10013 : h10013 q10003_ = some (.inl (E.2.1 0, 64, .inl (fun _ => 0)), a) := hu_w eh10013 hf10013 hn15x_10012
  have hn15x_10014 : h10014 q10003_ = some (.inl (E.2.1 0, 64, .inl (fun _ => 0)), a) := hu_n eh10014 (Ne.symm (hne_new hao_10002 hf10003)) hn15x_10013
  have hn58x_10013 : h10013 q10011_ = some (.inl (E.2.1 1, 20000, .inl (fun _ => 0)), a) := hu_w eh10013 hf10013 hn58x_10012
  have hn58x_10014 : h10014 q10011_ = some (.inl (E.2.1 1, 20000, .inl (fun _ => 0)), a) := hu_n eh10014 (Ne.symm (hne_new hao_10010 hf10011)) hn58x_10013
  have hn67x_10014 : h10014 q10013_ = some (.inl (E.2.1 1, 20000, .inl (fun _ => 0)), a) := hu_n eh10014 (Ne.symm (hne_new hao_10012 hf10013)) hn67x_10013
  have hn76x_10015 : h10015 q10015_ = some (.inl (E.2.1 2, 20000, .inl (fun _ => 0)), a) := hu_s eh10015
  have hao_10015 : h10015 a = some (.inr (0, [.ref q10001_, .int 0, .ref q10003_, .int 0, .int 0, .int (nI 1), .int (nI 100), .int (nI 1), .int (nI 10), .int (nI 11), .int (nI 10), .ref q10011_, .ref q10013_, .null, .null, .null, .null, .int 0, .int 0, .int 0, .int 0, .int 0, .int 0, .null, .int 0, .null, .null, .null, .null, .null, .null, .null, .null, .null, .null, .null, .null, .null, .null, .null, .null]), a) := hu_w eh10015 hf10015 hao_10014
  refine hr_putF C T10015 hin hao_10015 rfl in_X1 tyX1 tyX1_ok nmX1 13 (by decide) q308 rfl rfl rfl rfl rfl (Nat.le_of_ble_eq_true rfl) dX1_init_78 (fun h10016 H10016 locs10016 eh10016 T10016 => ?_)
  have hao_10016 : h10016 a = some (.inr (0, [.ref q10001_, .int 0, .ref q10003_, .int 0, .int 0, .int (nI 1), .int (nI 100), .int (nI 1), .int (nI 10), .int (nI 11), .int (nI 10), .ref q10011_, .ref q10013_, .ref q10015_, .null, .null, .null, .int 0, .int 0, .int 0, .int 0, .int 0, .int 0, .null, .int 0, .null, .null, .null, .null, .null, .null, .null, .null, .null, .null, .null, .null, .null, .null, .null, .null]), a) := hu_s eh10016
  refine lv_aload_n hx hb dX1_init_81 rfl (lv_at hl 0 rfl) ?_
  refine lv_bipush (v := nI 8) hx hb dX1_init_82 rfl ?_
  refine hr_newa C T10016 a 3 (atype := .boolean) q106 (ty := .boolean) rfl rfl (N := 8) (a0 := (8, (.inl (fun _ => 0)))) (fun cA => rfl) (by omega) (by show 0 + 1 + 1 + 1 + 1 + 1 + 1 ≤ 4200; omega) (by show 0 + 8 + 64 + 20000 + 20000 + 20000 + 8 ≤ 100000; omega) dX1_init_84 (fun h10017 q10017_ H10017 hf10017 eh10017 T10017 => ?_)
  have hsc_10015 : h10015 sc = some (.inl xs, sc) := hu_w eh10015 hf10015 hsc_10014
  have hsc_10016 : h10016 sc = some (.inl xs, sc) := hu_n eh10016 hsa hsc_10015
  have hn7x_10015 : h10015 q10001_ = some (.inl (E.2.1 0, 8, .inl (fun _ => 0)), a) := hu_w eh10015 hf10015 hn7x_10014
  have hn7x_10016 : h10016 q10001_ = some (.inl (E.2.1 0, 8, .inl (fun _ => 0)), a) := hu_n eh10016 (Ne.symm (hne_new hao hf10001)) hn7x_10015
  have hn15x_10015 : h10015 q10003_ = some (.inl (E.2.1 0, 64, .inl (fun _ => 0)), a) := hu_w eh10015 hf10015 hn15x_10014
  have hn15x_10016 : h10016 q10003_ = some (.inl (E.2.1 0, 64, .inl (fun _ => 0)), a) := hu_n eh10016 (Ne.symm (hne_new hao_10002 hf10003)) hn15x_10015
  have hn58x_10015 : h10015 q10011_ = some (.inl (E.2.1 1, 20000, .inl (fun _ => 0)), a) := hu_w eh10015 hf10015 hn58x_10014
  have hn58x_10016 : h10016 q10011_ = some (.inl (E.2.1 1, 20000, .inl (fun _ => 0)), a) := hu_n eh10016 (Ne.symm (hne_new hao_10010 hf10011)) hn58x_10015
  have hn67x_10015 : h10015 q10013_ = some (.inl (E.2.1 1, 20000, .inl (fun _ => 0)), a) := hu_w eh10015 hf10015 hn67x_10014
  have hn67x_10016 : h10016 q10013_ = some (.inl (E.2.1 1, 20000, .inl (fun _ => 0)), a) := hu_n eh10016 (Ne.symm (hne_new hao_10012 hf10013)) hn67x_10015
  have hn76x_10016 : h10016 q10015_ = some (.inl (E.2.1 2, 20000, .inl (fun _ => 0)), a) := hu_n eh10016 (Ne.symm (hne_new hao_10014 hf10015)) hn76x_10015
  have hn84x_10017 : h10017 q10017_ = some (.inl (E.2.1 3, 8, .inl (fun _ => 0)), a) := hu_s eh10017
  have hao_10017 : h10017 a = some (.inr (0, [.ref q10001_, .int 0, .ref q10003_, .int 0, .int 0, .int (nI 1), .int (nI 100), .int (nI 1), .int (nI 10), .int (nI 11), .int (nI 10), .ref q10011_, .ref q10013_, .ref q10015_, .null, .null, .null, .int 0, .int 0, .int 0, .int 0, .int 0, .int 0, .null, .int 0, .null, .null, .null, .null, .null, .null, .null, .null, .null, .null, .null, .null, .null, .null, .null, .null]), a) := hu_w eh10017 hf10017 hao_10016
  refine hr_putF C T10017 hin hao_10017 rfl in_X1 tyX1 tyX1_ok nmX1 14 (by decide) q309 rfl rfl rfl rfl rfl (Nat.le_of_ble_eq_true rfl) dX1_init_86 (fun h10018 H10018 locs10018 eh10018 T10018 => ?_)
  have hao_10018 : h10018 a = some (.inr (0, [.ref q10001_, .int 0, .ref q10003_, .int 0, .int 0, .int (nI 1), .int (nI 100), .int (nI 1), .int (nI 10), .int (nI 11), .int (nI 10), .ref q10011_, .ref q10013_, .ref q10015_, .ref q10017_, .null, .null, .int 0, .int 0, .int 0, .int 0, .int 0, .int 0, .null, .int 0, .null, .null, .null, .null, .null, .null, .null, .null, .null, .null, .null, .null, .null, .null, .null, .null]), a) := hu_s eh10018
  refine lv_aload_n hx hb dX1_init_89 rfl (lv_at hl 0 rfl) ?_
  refine lv_bipush (v := nI 8) hx hb dX1_init_90 rfl ?_
  refine hr_newa C T10018 a 0 (atype := .int) q103 (ty := .int) rfl rfl (N := 8) (a0 := (8, (.inl (fun _ => 0)))) (fun cA => rfl) (by omega) (by show 0 + 1 + 1 + 1 + 1 + 1 + 1 + 1 ≤ 4200; omega) (by show 0 + 8 + 64 + 20000 + 20000 + 20000 + 8 + 8 ≤ 100000; omega) dX1_init_92 (fun h10019 q10019_ H10019 hf10019 eh10019 T10019 => ?_)
  have hsc_10017 : h10017 sc = some (.inl xs, sc) := hu_w eh10017 hf10017 hsc_10016
  have hsc_10018 : h10018 sc = some (.inl xs, sc) := hu_n eh10018 hsa hsc_10017
  have hn7x_10017 : h10017 q10001_ = some (.inl (E.2.1 0, 8, .inl (fun _ => 0)), a) := hu_w eh10017 hf10017 hn7x_10016
  have hn7x_10018 : h10018 q10001_ = some (.inl (E.2.1 0, 8, .inl (fun _ => 0)), a) := hu_n eh10018 (Ne.symm (hne_new hao hf10001)) hn7x_10017
  have hn15x_10017 : h10017 q10003_ = some (.inl (E.2.1 0, 64, .inl (fun _ => 0)), a) := hu_w eh10017 hf10017 hn15x_10016
  have hn15x_10018 : h10018 q10003_ = some (.inl (E.2.1 0, 64, .inl (fun _ => 0)), a) := hu_n eh10018 (Ne.symm (hne_new hao_10002 hf10003)) hn15x_10017
  have hn58x_10017 : h10017 q10011_ = some (.inl (E.2.1 1, 20000, .inl (fun _ => 0)), a) := hu_w eh10017 hf10017 hn58x_10016
  have hn58x_10018 : h10018 q10011_ = some (.inl (E.2.1 1, 20000, .inl (fun _ => 0)), a) := hu_n eh10018 (Ne.symm (hne_new hao_10010 hf10011)) hn58x_10017
  have hn67x_10017 : h10017 q10013_ = some (.inl (E.2.1 1, 20000, .inl (fun _ => 0)), a) := hu_w eh10017 hf10017 hn67x_10016
  have hn67x_10018 : h10018 q10013_ = some (.inl (E.2.1 1, 20000, .inl (fun _ => 0)), a) := hu_n eh10018 (Ne.symm (hne_new hao_10012 hf10013)) hn67x_10017
  have hn76x_10017 : h10017 q10015_ = some (.inl (E.2.1 2, 20000, .inl (fun _ => 0)), a) := hu_w eh10017 hf10017 hn76x_10016
  have hn76x_10018 : h10018 q10015_ = some (.inl (E.2.1 2, 20000, .inl (fun _ => 0)), a) := hu_n eh10018 (Ne.symm (hne_new hao_10014 hf10015)) hn76x_10017
  have hn84x_10018 : h10018 q10017_ = some (.inl (E.2.1 3, 8, .inl (fun _ => 0)), a) := hu_n eh10018 (Ne.symm (hne_new hao_10016 hf10017)) hn84x_10017
  have hn92x_10019 : h10019 q10019_ = some (.inl (E.2.1 0, 8, .inl (fun _ => 0)), a) := hu_s eh10019
  have hao_10019 : h10019 a = some (.inr (0, [.ref q10001_, .int 0, .ref q10003_, .int 0, .int 0, .int (nI 1), .int (nI 100), .int (nI 1), .int (nI 10), .int (nI 11), .int (nI 10), .ref q10011_, .ref q10013_, .ref q10015_, .ref q10017_, .null, .null, .int 0, .int 0, .int 0, .int 0, .int 0, .int 0, .null, .int 0, .null, .null, .null, .null, .null, .null, .null, .null, .null, .null, .null, .null, .null, .null, .null, .null]), a) := hu_w eh10019 hf10019 hao_10018
  refine hr_putF C T10019 hin hao_10019 rfl in_X1 tyX1 tyX1_ok nmX1 15 (by decide) q310 rfl rfl rfl rfl rfl (Nat.le_of_ble_eq_true rfl) dX1_init_94 (fun h10020 H10020 locs10020 eh10020 T10020 => ?_)
  have hao_10020 : h10020 a = some (.inr (0, [.ref q10001_, .int 0, .ref q10003_, .int 0, .int 0, .int (nI 1), .int (nI 100), .int (nI 1), .int (nI 10), .int (nI 11), .int (nI 10), .ref q10011_, .ref q10013_, .ref q10015_, .ref q10017_, .ref q10019_, .null, .int 0, .int 0, .int 0, .int 0, .int 0, .int 0, .null, .int 0, .null, .null, .null, .null, .null, .null, .null, .null, .null, .null, .null, .null, .null, .null, .null, .null]), a) := hu_s eh10020
  refine lv_aload_n hx hb dX1_init_97 rfl (lv_at hl 0 rfl) ?_
  refine lv_bipush (v := nI 8) hx hb dX1_init_98 rfl ?_
  refine hr_newa C T10020 a 0 (atype := .int) q103 (ty := .int) rfl rfl (N := 8) (a0 := (8, (.inl (fun _ => 0)))) (fun cA => rfl) (by omega) (by show 0 + 1 + 1 + 1 + 1 + 1 + 1 + 1 + 1 ≤ 4200; omega) (by show 0 + 8 + 64 + 20000 + 20000 + 20000 + 8 + 8 + 8 ≤ 100000; omega) dX1_init_100 (fun h10021 q10021_ H10021 hf10021 eh10021 T10021 => ?_)
  have hsc_10019 : h10019 sc = some (.inl xs, sc) := hu_w eh10019 hf10019 hsc_10018
  have hsc_10020 : h10020 sc = some (.inl xs, sc) := hu_n eh10020 hsa hsc_10019
  have hn7x_10019 : h10019 q10001_ = some (.inl (E.2.1 0, 8, .inl (fun _ => 0)), a) := hu_w eh10019 hf10019 hn7x_10018
  have hn7x_10020 : h10020 q10001_ = some (.inl (E.2.1 0, 8, .inl (fun _ => 0)), a) := hu_n eh10020 (Ne.symm (hne_new hao hf10001)) hn7x_10019
  have hn15x_10019 : h10019 q10003_ = some (.inl (E.2.1 0, 64, .inl (fun _ => 0)), a) := hu_w eh10019 hf10019 hn15x_10018
  have hn15x_10020 : h10020 q10003_ = some (.inl (E.2.1 0, 64, .inl (fun _ => 0)), a) := hu_n eh10020 (Ne.symm (hne_new hao_10002 hf10003)) hn15x_10019
  have hn58x_10019 : h10019 q10011_ = some (.inl (E.2.1 1, 20000, .inl (fun _ => 0)), a) := hu_w eh10019 hf10019 hn58x_10018
  have hn58x_10020 : h10020 q10011_ = some (.inl (E.2.1 1, 20000, .inl (fun _ => 0)), a) := hu_n eh10020 (Ne.symm (hne_new hao_10010 hf10011)) hn58x_10019
  have hn67x_10019 : h10019 q10013_ = some (.inl (E.2.1 1, 20000, .inl (fun _ => 0)), a) := hu_w eh10019 hf10019 hn67x_10018
  have hn67x_10020 : h10020 q10013_ = some (.inl (E.2.1 1, 20000, .inl (fun _ => 0)), a) := hu_n eh10020 (Ne.symm (hne_new hao_10012 hf10013)) hn67x_10019
  have hn76x_10019 : h10019 q10015_ = some (.inl (E.2.1 2, 20000, .inl (fun _ => 0)), a) := hu_w eh10019 hf10019 hn76x_10018
  have hn76x_10020 : h10020 q10015_ = some (.inl (E.2.1 2, 20000, .inl (fun _ => 0)), a) := hu_n eh10020 (Ne.symm (hne_new hao_10014 hf10015)) hn76x_10019
  have hn84x_10019 : h10019 q10017_ = some (.inl (E.2.1 3, 8, .inl (fun _ => 0)), a) := hu_w eh10019 hf10019 hn84x_10018
  have hn84x_10020 : h10020 q10017_ = some (.inl (E.2.1 3, 8, .inl (fun _ => 0)), a) := hu_n eh10020 (Ne.symm (hne_new hao_10016 hf10017)) hn84x_10019
  have hn92x_10020 : h10020 q10019_ = some (.inl (E.2.1 0, 8, .inl (fun _ => 0)), a) := hu_n eh10020 (Ne.symm (hne_new hao_10018 hf10019)) hn92x_10019
  have hn100x_10021 : h10021 q10021_ = some (.inl (E.2.1 0, 8, .inl (fun _ => 0)), a) := hu_s eh10021
  have hao_10021 : h10021 a = some (.inr (0, [.ref q10001_, .int 0, .ref q10003_, .int 0, .int 0, .int (nI 1), .int (nI 100), .int (nI 1), .int (nI 10), .int (nI 11), .int (nI 10), .ref q10011_, .ref q10013_, .ref q10015_, .ref q10017_, .ref q10019_, .null, .int 0, .int 0, .int 0, .int 0, .int 0, .int 0, .null, .int 0, .null, .null, .null, .null, .null, .null, .null, .null, .null, .null, .null, .null, .null, .null, .null, .null]), a) := hu_w eh10021 hf10021 hao_10020
  refine hr_putF C T10021 hin hao_10021 rfl in_X1 tyX1 tyX1_ok nmX1 16 (by decide) q311 rfl rfl rfl rfl rfl (Nat.le_of_ble_eq_true rfl) dX1_init_102 (fun h10022 H10022 locs10022 eh10022 T10022 => ?_)
  have hao_10022 : h10022 a = some (.inr (0, [.ref q10001_, .int 0, .ref q10003_, .int 0, .int 0, .int (nI 1), .int (nI 100), .int (nI 1), .int (nI 10), .int (nI 11), .int (nI 10), .ref q10011_, .ref q10013_, .ref q10015_, .ref q10017_, .ref q10019_, .ref q10021_, .int 0, .int 0, .int 0, .int 0, .int 0, .int 0, .null, .int 0, .null, .null, .null, .null, .null, .null, .null, .null, .null, .null, .null, .null, .null, .null, .null, .null]), a) := hu_s eh10022
  refine lv_aload_n hx hb dX1_init_105 rfl (lv_at hl 0 rfl) ?_
  refine lv_iconst (v := (-1)) hx hb dX1_init_106 rfl ?_
  rw [show (-1) = nI 0 - 1 from (by decide)]
  refine hr_put C T10022 hao_10022 rfl in_X1 tyX1 tyX1_ok nmX1 21 (by decide) q316 rfl rfl rfl rfl (Nat.le_of_ble_eq_true rfl) dX1_init_107 (fun h10023 H10023 locs10023 eh10023 T10023 => ?_)
  have hao_10023 : h10023 a = some (.inr (0, [.ref q10001_, .int 0, .ref q10003_, .int 0, .int 0, .int (nI 1), .int (nI 100), .int (nI 1), .int (nI 10), .int (nI 11), .int (nI 10), .ref q10011_, .ref q10013_, .ref q10015_, .ref q10017_, .ref q10019_, .ref q10021_, .int 0, .int 0, .int 0, .int 0, .int (nI 0 - 1), .int 0, .null, .int 0, .null, .null, .null, .null, .null, .null, .null, .null, .null, .null, .null, .null, .null, .null, .null, .null]), a) := hu_s eh10023
  refine lv_aload_n hx hb dX1_init_110 rfl (lv_at hl 0 rfl) ?_
  refine lv_bipush (v := nI 16) hx hb dX1_init_111 rfl ?_
  refine hr_newq C T10023 a 6 q84 (C.2.2.1.2.2.2.2.2.1) rfl (N := 16) (by decide) (by show 0 + 1 + 1 + 1 + 1 + 1 + 1 + 1 + 1 + 1 ≤ 4200; omega) (by show 0 + 8 + 64 + 20000 + 20000 + 20000 + 8 + 8 + 8 + 16 ≤ 100000; omega) dX1_init_113 (fun h10024 q10024_ H10024 hf10024 eh10024 T10024 => ?_)
  have hsc_10021 : h10021 sc = some (.inl xs, sc) := hu_w eh10021 hf10021 hsc_10020
  have hsc_10022 : h10022 sc = some (.inl xs, sc) := hu_n eh10022 hsa hsc_10021
  have hsc_10023 : h10023 sc = some (.inl xs, sc) := hu_n eh10023 hsa hsc_10022
  have hn7x_10021 : h10021 q10001_ = some (.inl (E.2.1 0, 8, .inl (fun _ => 0)), a) := hu_w eh10021 hf10021 hn7x_10020
  have hn7x_10022 : h10022 q10001_ = some (.inl (E.2.1 0, 8, .inl (fun _ => 0)), a) := hu_n eh10022 (Ne.symm (hne_new hao hf10001)) hn7x_10021
  have hn7x_10023 : h10023 q10001_ = some (.inl (E.2.1 0, 8, .inl (fun _ => 0)), a) := hu_n eh10023 (Ne.symm (hne_new hao hf10001)) hn7x_10022
  have hn15x_10021 : h10021 q10003_ = some (.inl (E.2.1 0, 64, .inl (fun _ => 0)), a) := hu_w eh10021 hf10021 hn15x_10020
  have hn15x_10022 : h10022 q10003_ = some (.inl (E.2.1 0, 64, .inl (fun _ => 0)), a) := hu_n eh10022 (Ne.symm (hne_new hao_10002 hf10003)) hn15x_10021
  have hn15x_10023 : h10023 q10003_ = some (.inl (E.2.1 0, 64, .inl (fun _ => 0)), a) := hu_n eh10023 (Ne.symm (hne_new hao_10002 hf10003)) hn15x_10022
  have hn58x_10021 : h10021 q10011_ = some (.inl (E.2.1 1, 20000, .inl (fun _ => 0)), a) := hu_w eh10021 hf10021 hn58x_10020
  have hn58x_10022 : h10022 q10011_ = some (.inl (E.2.1 1, 20000, .inl (fun _ => 0)), a) := hu_n eh10022 (Ne.symm (hne_new hao_10010 hf10011)) hn58x_10021
  have hn58x_10023 : h10023 q10011_ = some (.inl (E.2.1 1, 20000, .inl (fun _ => 0)), a) := hu_n eh10023 (Ne.symm (hne_new hao_10010 hf10011)) hn58x_10022
  have hn67x_10021 : h10021 q10013_ = some (.inl (E.2.1 1, 20000, .inl (fun _ => 0)), a) := hu_w eh10021 hf10021 hn67x_10020
  have hn67x_10022 : h10022 q10013_ = some (.inl (E.2.1 1, 20000, .inl (fun _ => 0)), a) := hu_n eh10022 (Ne.symm (hne_new hao_10012 hf10013)) hn67x_10021
  have hn67x_10023 : h10023 q10013_ = some (.inl (E.2.1 1, 20000, .inl (fun _ => 0)), a) := hu_n eh10023 (Ne.symm (hne_new hao_10012 hf10013)) hn67x_10022
  have hn76x_10021 : h10021 q10015_ = some (.inl (E.2.1 2, 20000, .inl (fun _ => 0)), a) := hu_w eh10021 hf10021 hn76x_10020
  have hn76x_10022 : h10022 q10015_ = some (.inl (E.2.1 2, 20000, .inl (fun _ => 0)), a) := hu_n eh10022 (Ne.symm (hne_new hao_10014 hf10015)) hn76x_10021
  have hn76x_10023 : h10023 q10015_ = some (.inl (E.2.1 2, 20000, .inl (fun _ => 0)), a) := hu_n eh10023 (Ne.symm (hne_new hao_10014 hf10015)) hn76x_10022
  have hn84x_10021 : h10021 q10017_ = some (.inl (E.2.1 3, 8, .inl (fun _ => 0)), a) := hu_w eh10021 hf10021 hn84x_10020
  have hn84x_10022 : h10022 q10017_ = some (.inl (E.2.1 3, 8, .inl (fun _ => 0)), a) := hu_n eh10022 (Ne.symm (hne_new hao_10016 hf10017)) hn84x_10021
  have hn84x_10023 : h10023 q10017_ = some (.inl (E.2.1 3, 8, .inl (fun _ => 0)), a) := hu_n eh10023 (Ne.symm (hne_new hao_10016 hf10017)) hn84x_10022
  have hn92x_10021 : h10021 q10019_ = some (.inl (E.2.1 0, 8, .inl (fun _ => 0)), a) := hu_w eh10021 hf10021 hn92x_10020
  have hn92x_10022 : h10022 q10019_ = some (.inl (E.2.1 0, 8, .inl (fun _ => 0)), a) := hu_n eh10022 (Ne.symm (hne_new hao_10018 hf10019)) hn92x_10021
  have hn92x_10023 : h10023 q10019_ = some (.inl (E.2.1 0, 8, .inl (fun _ => 0)), a) := hu_n eh10023 (Ne.symm (hne_new hao_10018 hf10019)) hn92x_10022
  have hn100x_10022 : h10022 q10021_ = some (.inl (E.2.1 0, 8, .inl (fun _ => 0)), a) := hu_n eh10022 (Ne.symm (hne_new hao_10020 hf10021)) hn100x_10021
  have hn100x_10023 : h10023 q10021_ = some (.inl (E.2.1 0, 8, .inl (fun _ => 0)), a) := hu_n eh10023 (Ne.symm (hne_new hao_10020 hf10021)) hn100x_10022
  have hn113x_10024 : h10024 q10024_ = some (.inl (E.2.1 6, 16, .inr (.inr (.inr (.inr (fun _ => none))))), a) := hu_s eh10024
  have hao_10024 : h10024 a = some (.inr (0, [.ref q10001_, .int 0, .ref q10003_, .int 0, .int 0, .int (nI 1), .int (nI 100), .int (nI 1), .int (nI 10), .int (nI 11), .int (nI 10), .ref q10011_, .ref q10013_, .ref q10015_, .ref q10017_, .ref q10019_, .ref q10021_, .int 0, .int 0, .int 0, .int 0, .int (nI 0 - 1), .int 0, .null, .int 0, .null, .null, .null, .null, .null, .null, .null, .null, .null, .null, .null, .null, .null, .null, .null, .null]), a) := hu_w eh10024 hf10024 hao_10023
  refine hr_putF C T10024 hin hao_10024 rfl in_X1 tyX1 tyX1_ok nmX1 23 (by decide) q320 rfl rfl rfl rfl rfl (Nat.le_of_ble_eq_true rfl) dX1_init_116 (fun h10025 H10025 locs10025 eh10025 T10025 => ?_)
  have hao_10025 : h10025 a = some (.inr (0, [.ref q10001_, .int 0, .ref q10003_, .int 0, .int 0, .int (nI 1), .int (nI 100), .int (nI 1), .int (nI 10), .int (nI 11), .int (nI 10), .ref q10011_, .ref q10013_, .ref q10015_, .ref q10017_, .ref q10019_, .ref q10021_, .int 0, .int 0, .int 0, .int 0, .int (nI 0 - 1), .int 0, .ref q10024_, .int 0, .null, .null, .null, .null, .null, .null, .null, .null, .null, .null, .null, .null, .null, .null, .null, .null]), a) := hu_s eh10025
  refine lv_aload_n hx hb dX1_init_119 rfl (lv_at hl 0 rfl) ?_
  have hN_10001 : FN a h h10001 := hN.new hf10001 eh10001
  have hN_10002 : FN a h h10002 := hN_10001.up hao_10001 eh10002
  have hN_10003 : FN a h h10003 := hN_10002.new hf10003 eh10003
  have hN_10004 : FN a h h10004 := hN_10003.up hao_10003 eh10004
  have hN_10005 : FN a h h10005 := hN_10004.up hao_10004 eh10005
  have hN_10006 : FN a h h10006 := hN_10005.up hao_10005 eh10006
  have hN_10007 : FN a h h10007 := hN_10006.up hao_10006 eh10007
  have hN_10008 : FN a h h10008 := hN_10007.up hao_10007 eh10008
  have hN_10009 : FN a h h10009 := hN_10008.up hao_10008 eh10009
  have hN_10010 : FN a h h10010 := hN_10009.up hao_10009 eh10010
  have hN_10011 : FN a h h10011 := hN_10010.new hf10011 eh10011
  have hN_10012 : FN a h h10012 := hN_10011.up hao_10011 eh10012
  have hN_10013 : FN a h h10013 := hN_10012.new hf10013 eh10013
  have hN_10014 : FN a h h10014 := hN_10013.up hao_10013 eh10014
  have hN_10015 : FN a h h10015 := hN_10014.new hf10015 eh10015
  have hN_10016 : FN a h h10016 := hN_10015.up hao_10015 eh10016
  have hN_10017 : FN a h h10017 := hN_10016.new hf10017 eh10017
  have hN_10018 : FN a h h10018 := hN_10017.up hao_10017 eh10018
  have hN_10019 : FN a h h10019 := hN_10018.new hf10019 eh10019
  have hN_10020 : FN a h h10020 := hN_10019.up hao_10019 eh10020
  have hN_10021 : FN a h h10021 := hN_10020.new hf10021 eh10021
  have hN_10022 : FN a h h10022 := hN_10021.up hao_10021 eh10022
  have hN_10023 : FN a h h10023 := hN_10022.up hao_10022 eh10023
  have hN_10024 : FN a h h10024 := hN_10023.new hf10024 eh10024
  have hN_10025 : FN a h h10025 := hN_10024.up hao_10024 eh10025
  have hQ0_10001 : PB E h10001 (fun _ => 0) (fun _ => 0) 0 := PB.kept (O := fun _ => False) (hu_fn eh10001 Fr.rf hf10001) (fun _ _ q => q) hQ0
  have hQ0_10002 : PB E h10002 (fun _ => 0) (fun _ => 0) 0 := PB.kept (O := (· = a)) (hu_f eh10002 Fr.rf hao_10001 rfl) (hQ0.neobj hao (by decide)) hQ0_10001
  have hQ0_10003 : PB E h10003 (fun _ => 0) (fun _ => 0) 0 := PB.kept (O := fun _ => False) (hu_fn eh10003 Fr.rf hf10003) (fun _ _ q => q) hQ0_10002
  have hQ0_10004 : PB E h10004 (fun _ => 0) (fun _ => 0) 0 := PB.kept (O := (· = a)) (hu_f eh10004 Fr.rf hao_10003 rfl) (hQ0.neobj hao (by decide)) hQ0_10003
  have hQ0_10005 : PB E h10005 (fun _ => 0) (fun _ => 0) 0 := PB.kept (O := (· = a)) (hu_f eh10005 Fr.rf hao_10004 rfl) (hQ0.neobj hao (by decide)) hQ0_10004
  have hQ0_10006 : PB E h10006 (fun _ => 0) (fun _ => 0) 0 := PB.kept (O := (· = a)) (hu_f eh10006 Fr.rf hao_10005 rfl) (hQ0.neobj hao (by decide)) hQ0_10005
  have hQ0_10007 : PB E h10007 (fun _ => 0) (fun _ => 0) 0 := PB.kept (O := (· = a)) (hu_f eh10007 Fr.rf hao_10006 rfl) (hQ0.neobj hao (by decide)) hQ0_10006
  have hQ0_10008 : PB E h10008 (fun _ => 0) (fun _ => 0) 0 := PB.kept (O := (· = a)) (hu_f eh10008 Fr.rf hao_10007 rfl) (hQ0.neobj hao (by decide)) hQ0_10007
  have hQ0_10009 : PB E h10009 (fun _ => 0) (fun _ => 0) 0 := PB.kept (O := (· = a)) (hu_f eh10009 Fr.rf hao_10008 rfl) (hQ0.neobj hao (by decide)) hQ0_10008
  have hQ0_10010 : PB E h10010 (fun _ => 0) (fun _ => 0) 0 := PB.kept (O := (· = a)) (hu_f eh10010 Fr.rf hao_10009 rfl) (hQ0.neobj hao (by decide)) hQ0_10009
  have hQ0_10011 : PB E h10011 (fun _ => 0) (fun _ => 0) 0 := PB.kept (O := fun _ => False) (hu_fn eh10011 Fr.rf hf10011) (fun _ _ q => q) hQ0_10010
  have hQ0_10012 : PB E h10012 (fun _ => 0) (fun _ => 0) 0 := PB.kept (O := (· = a)) (hu_f eh10012 Fr.rf hao_10011 rfl) (hQ0.neobj hao (by decide)) hQ0_10011
  have hQ0_10013 : PB E h10013 (fun _ => 0) (fun _ => 0) 0 := PB.kept (O := fun _ => False) (hu_fn eh10013 Fr.rf hf10013) (fun _ _ q => q) hQ0_10012
  have hQ0_10014 : PB E h10014 (fun _ => 0) (fun _ => 0) 0 := PB.kept (O := (· = a)) (hu_f eh10014 Fr.rf hao_10013 rfl) (hQ0.neobj hao (by decide)) hQ0_10013
  have hQ0_10015 : PB E h10015 (fun _ => 0) (fun _ => 0) 0 := PB.kept (O := fun _ => False) (hu_fn eh10015 Fr.rf hf10015) (fun _ _ q => q) hQ0_10014
  have hQ0_10016 : PB E h10016 (fun _ => 0) (fun _ => 0) 0 := PB.kept (O := (· = a)) (hu_f eh10016 Fr.rf hao_10015 rfl) (hQ0.neobj hao (by decide)) hQ0_10015
  have hQ0_10017 : PB E h10017 (fun _ => 0) (fun _ => 0) 0 := PB.kept (O := fun _ => False) (hu_fn eh10017 Fr.rf hf10017) (fun _ _ q => q) hQ0_10016
  have hQ0_10018 : PB E h10018 (fun _ => 0) (fun _ => 0) 0 := PB.kept (O := (· = a)) (hu_f eh10018 Fr.rf hao_10017 rfl) (hQ0.neobj hao (by decide)) hQ0_10017
  have hQ0_10019 : PB E h10019 (fun _ => 0) (fun _ => 0) 0 := PB.kept (O := fun _ => False) (hu_fn eh10019 Fr.rf hf10019) (fun _ _ q => q) hQ0_10018
  have hQ0_10020 : PB E h10020 (fun _ => 0) (fun _ => 0) 0 := PB.kept (O := (· = a)) (hu_f eh10020 Fr.rf hao_10019 rfl) (hQ0.neobj hao (by decide)) hQ0_10019
  have hQ0_10021 : PB E h10021 (fun _ => 0) (fun _ => 0) 0 := PB.kept (O := fun _ => False) (hu_fn eh10021 Fr.rf hf10021) (fun _ _ q => q) hQ0_10020
  have hQ0_10022 : PB E h10022 (fun _ => 0) (fun _ => 0) 0 := PB.kept (O := (· = a)) (hu_f eh10022 Fr.rf hao_10021 rfl) (hQ0.neobj hao (by decide)) hQ0_10021
  have hQ0_10023 : PB E h10023 (fun _ => 0) (fun _ => 0) 0 := PB.kept (O := (· = a)) (hu_f eh10023 Fr.rf hao_10022 rfl) (hQ0.neobj hao (by decide)) hQ0_10022
  have hQ0_10024 : PB E h10024 (fun _ => 0) (fun _ => 0) 0 := PB.kept (O := fun _ => False) (hu_fn eh10024 Fr.rf hf10024) (fun _ _ q => q) hQ0_10023
  have hQ0_10025 : PB E h10025 (fun _ => 0) (fun _ => 0) 0 := PB.kept (O := (· = a)) (hu_f eh10025 Fr.rf hao_10024 rfl) (hQ0.neobj hao (by decide)) hQ0_10024
  refine hr_new C T10025 (fun q => q) (ci := 2) rfl in_X2 tyX2 tyX2_ok q86 q87 q54 (fs := [.null, .int 0, .int 0]) dfX2 (by show 0 + 1 + 1 + 1 + 1 + 1 + 1 + 1 + 1 + 1 + 1 ≤ 4200; omega) (by show 0 + 8 + 64 + 20000 + 20000 + 20000 + 8 + 8 + 8 + 16 + 3 ≤ 100000; omega) dX1_init_120 (fun h10026 q10026_ H10026 hf10026 eh10026 T10026 => ?_)
  have hsc_10024 : h10024 sc = some (.inl xs, sc) := hu_w eh10024 hf10024 hsc_10023
  have hsc_10025 : h10025 sc = some (.inl xs, sc) := hu_n eh10025 hsa hsc_10024
  have hn7x_10024 : h10024 q10001_ = some (.inl (E.2.1 0, 8, .inl (fun _ => 0)), a) := hu_w eh10024 hf10024 hn7x_10023
  have hn7x_10025 : h10025 q10001_ = some (.inl (E.2.1 0, 8, .inl (fun _ => 0)), a) := hu_n eh10025 (Ne.symm (hne_new hao hf10001)) hn7x_10024
  have hn15x_10024 : h10024 q10003_ = some (.inl (E.2.1 0, 64, .inl (fun _ => 0)), a) := hu_w eh10024 hf10024 hn15x_10023
  have hn15x_10025 : h10025 q10003_ = some (.inl (E.2.1 0, 64, .inl (fun _ => 0)), a) := hu_n eh10025 (Ne.symm (hne_new hao_10002 hf10003)) hn15x_10024
  have hn58x_10024 : h10024 q10011_ = some (.inl (E.2.1 1, 20000, .inl (fun _ => 0)), a) := hu_w eh10024 hf10024 hn58x_10023
  have hn58x_10025 : h10025 q10011_ = some (.inl (E.2.1 1, 20000, .inl (fun _ => 0)), a) := hu_n eh10025 (Ne.symm (hne_new hao_10010 hf10011)) hn58x_10024
  have hn67x_10024 : h10024 q10013_ = some (.inl (E.2.1 1, 20000, .inl (fun _ => 0)), a) := hu_w eh10024 hf10024 hn67x_10023
  have hn67x_10025 : h10025 q10013_ = some (.inl (E.2.1 1, 20000, .inl (fun _ => 0)), a) := hu_n eh10025 (Ne.symm (hne_new hao_10012 hf10013)) hn67x_10024
  have hn76x_10024 : h10024 q10015_ = some (.inl (E.2.1 2, 20000, .inl (fun _ => 0)), a) := hu_w eh10024 hf10024 hn76x_10023
  have hn76x_10025 : h10025 q10015_ = some (.inl (E.2.1 2, 20000, .inl (fun _ => 0)), a) := hu_n eh10025 (Ne.symm (hne_new hao_10014 hf10015)) hn76x_10024
  have hn84x_10024 : h10024 q10017_ = some (.inl (E.2.1 3, 8, .inl (fun _ => 0)), a) := hu_w eh10024 hf10024 hn84x_10023
  have hn84x_10025 : h10025 q10017_ = some (.inl (E.2.1 3, 8, .inl (fun _ => 0)), a) := hu_n eh10025 (Ne.symm (hne_new hao_10016 hf10017)) hn84x_10024
  have hn92x_10024 : h10024 q10019_ = some (.inl (E.2.1 0, 8, .inl (fun _ => 0)), a) := hu_w eh10024 hf10024 hn92x_10023
  have hn92x_10025 : h10025 q10019_ = some (.inl (E.2.1 0, 8, .inl (fun _ => 0)), a) := hu_n eh10025 (Ne.symm (hne_new hao_10018 hf10019)) hn92x_10024
  have hn100x_10024 : h10024 q10021_ = some (.inl (E.2.1 0, 8, .inl (fun _ => 0)), a) := hu_w eh10024 hf10024 hn100x_10023
  have hn100x_10025 : h10025 q10021_ = some (.inl (E.2.1 0, 8, .inl (fun _ => 0)), a) := hu_n eh10025 (Ne.symm (hne_new hao_10020 hf10021)) hn100x_10024
  have hn113x_10025 : h10025 q10024_ = some (.inl (E.2.1 6, 16, .inr (.inr (.inr (.inr (fun _ => none))))), a) := hu_n eh10025 (Ne.symm (hne_new hao_10023 hf10024)) hn113x_10024
  have hcn_10026 : h10026 q10026_ = some (.inr (2, [.null, .int 0, .int 0]), q10026_) := hu_s eh10026
  refine lv_dup hx hb dX1_init_123 rfl ?_
  have hao_10026 : h10026 a = some (.inr (0, [.ref q10001_, .int 0, .ref q10003_, .int 0, .int 0, .int (nI 1), .int (nI 100), .int (nI 1), .int (nI 10), .int (nI 11), .int (nI 10), .ref q10011_, .ref q10013_, .ref q10015_, .ref q10017_, .ref q10019_, .ref q10021_, .int 0, .int 0, .int 0, .int 0, .int (nI 0 - 1), .int 0, .ref q10024_, .int 0, .null, .null, .null, .null, .null, .null, .null, .null, .null, .null, .null, .null, .null, .null, .null, .null]), a) := hu_w eh10026 hf10026 hao_10025
  have hsc_10026 : h10026 sc = some (.inl xs, sc) := hu_w eh10026 hf10026 hsc_10025
  have hQ0_10026 : PB E h10026 (fun _ => 0) (fun _ => 0) 0 := PB.kept (O := fun _ => False) (hu_fn eh10026 Fr.rf hf10026) (fun _ _ q => q) hQ0_10025
  have hn7x_10026 : h10026 q10001_ = some (.inl (E.2.1 0, 8, .inl (fun _ => 0)), a) := hu_w eh10026 hf10026 hn7x_10025
  have hn15x_10026 : h10026 q10003_ = some (.inl (E.2.1 0, 64, .inl (fun _ => 0)), a) := hu_w eh10026 hf10026 hn15x_10025
  have hn58x_10026 : h10026 q10011_ = some (.inl (E.2.1 1, 20000, .inl (fun _ => 0)), a) := hu_w eh10026 hf10026 hn58x_10025
  have hn67x_10026 : h10026 q10013_ = some (.inl (E.2.1 1, 20000, .inl (fun _ => 0)), a) := hu_w eh10026 hf10026 hn67x_10025
  have hn76x_10026 : h10026 q10015_ = some (.inl (E.2.1 2, 20000, .inl (fun _ => 0)), a) := hu_w eh10026 hf10026 hn76x_10025
  have hn84x_10026 : h10026 q10017_ = some (.inl (E.2.1 3, 8, .inl (fun _ => 0)), a) := hu_w eh10026 hf10026 hn84x_10025
  have hn92x_10026 : h10026 q10019_ = some (.inl (E.2.1 0, 8, .inl (fun _ => 0)), a) := hu_w eh10026 hf10026 hn92x_10025
  have hn100x_10026 : h10026 q10021_ = some (.inl (E.2.1 0, 8, .inl (fun _ => 0)), a) := hu_w eh10026 hf10026 hn100x_10025
  have hn113x_10026 : h10026 q10024_ = some (.inl (E.2.1 6, 16, .inr (.inr (.inr (.inr (fun _ => none))))), a) := hu_w eh10026 hf10026 hn113x_10025
  refine hg_IN C T10026 hl.1 (m_X2_init hcn_10026) 0 rfl q89 q54 q90 rfl kd_X2_init rfl rfl ⟨Nat.le_of_ble_eq_true rfl, Nat.le_of_ble_eq_true rfl⟩ (Nat.le_of_ble_eq_true rfl) dX1_init_124 ⟨by show 0 + 1 + 1 + 1 + 1 + 1 + 1 + 1 + 1 + 1 + 1 + 1 ≤ 4200; omega, by show 0 + 8 + 64 + 20000 + 20000 + 20000 + 8 + 8 + 8 + 16 + 3 + 4000 ≤ 100000; omega⟩ (fun rv h10027 dc10027 ds10027 H10027 locs10027 hp10027 T10027 => ?_)
  obtain ⟨rfl, qrow, hcw10027, hcr10027, hM10027, rfl, rfl⟩ := hp10027
  have hN_10027 : FN a h h10027 := hN_10025.nest hf10026 eh10026 hM10027
  have hQ10027 : PB E h10027 (fun _ => 0) (fun _ => 0) 0 := hM10027.pb hQ0_10026 (hQ0_10025.nenew hf10026)
  refine W.eq (g2 := F0 m 127 ls [.ref q10026_, .ref a]) rfl ?_
  have hao_10027 : h10027 a = some (.inr (0, [.ref q10001_, .int 0, .ref q10003_, .int 0, .int 0, .int (nI 1), .int (nI 100), .int (nI 1), .int (nI 10), .int (nI 11), .int (nI 10), .ref q10011_, .ref q10013_, .ref q10015_, .ref q10017_, .ref q10019_, .ref q10021_, .int 0, .int 0, .int 0, .int 0, .int (nI 0 - 1), .int 0, .ref q10024_, .int 0, .null, .null, .null, .null, .null, .null, .null, .null, .null, .null, .null, .null, .null, .null, .null, .null]), a) := hM10027.at hao_10026 hao_10026 (hne_new hao_10025 hf10026)
  refine hr_putF C T10027 hin hao_10027 rfl in_X1 tyX1 tyX1_ok nmX1 25 (by decide) q324 rfl rfl rfl rfl rfl (Nat.le_of_ble_eq_true rfl) dX1_init_127 (fun h10028 H10028 locs10028 eh10028 T10028 => ?_)
  have hao_10028 : h10028 a = some (.inr (0, [.ref q10001_, .int 0, .ref q10003_, .int 0, .int 0, .int (nI 1), .int (nI 100), .int (nI 1), .int (nI 10), .int (nI 11), .int (nI 10), .ref q10011_, .ref q10013_, .ref q10015_, .ref q10017_, .ref q10019_, .ref q10021_, .int 0, .int 0, .int 0, .int 0, .int (nI 0 - 1), .int 0, .ref q10024_, .int 0, .ref q10026_, .null, .null, .null, .null, .null, .null, .null, .null, .null, .null, .null, .null, .null, .null, .null]), a) := hu_s eh10028
  refine lv_aload_n hx hb dX1_init_130 rfl (lv_at hl 0 rfl) ?_
  have hN_10028 : FN a h h10028 := hN_10027.up hao_10027 eh10028
  have hQ10027_10028 : PB E h10028 (fun _ => 0) (fun _ => 0) 0 := PB.kept (O := (· = a)) (hu_f eh10028 Fr.rf hao_10027 rfl) (hQ0.neobj hao (by decide)) hQ10027
  refine hr_new C T10028 (fun q => q) (ci := 3) rfl in_X3 tyX3 tyX3_ok q107 q108 q55 (fs := [.null, .int 0, .null]) dfX3 (by show 0 + 1 + 1 + 1 + 1 + 1 + 1 + 1 + 1 + 1 + 1 + 1 + 1 ≤ 4200; omega) (by show 0 + 8 + 64 + 20000 + 20000 + 20000 + 8 + 8 + 8 + 16 + 3 + 4000 + 3 ≤ 100000; omega) dX1_init_131 (fun h10029 q10029_ H10029 hf10029 eh10029 T10029 => ?_)
  have hsc_10027 : h10027 sc = some (.inl xs, sc) := hM10027.at hsc_10026 hsc_10026 (hne_new hsc_10025 hf10026)
  have hsc_10028 : h10028 sc = some (.inl xs, sc) := hu_n eh10028 hsa hsc_10027
  have hn7x_10027 : h10027 q10001_ = some (.inl (E.2.1 0, 8, .inl (fun _ => 0)), a) := hM10027.at hn7x_10026 hao_10026 (hne_new hao_10025 hf10026)
  have hn7x_10028 : h10028 q10001_ = some (.inl (E.2.1 0, 8, .inl (fun _ => 0)), a) := hu_n eh10028 (Ne.symm (hne_new hao hf10001)) hn7x_10027
  have hn15x_10027 : h10027 q10003_ = some (.inl (E.2.1 0, 64, .inl (fun _ => 0)), a) := hM10027.at hn15x_10026 hao_10026 (hne_new hao_10025 hf10026)
  have hn15x_10028 : h10028 q10003_ = some (.inl (E.2.1 0, 64, .inl (fun _ => 0)), a) := hu_n eh10028 (Ne.symm (hne_new hao_10002 hf10003)) hn15x_10027
  have hn58x_10027 : h10027 q10011_ = some (.inl (E.2.1 1, 20000, .inl (fun _ => 0)), a) := hM10027.at hn58x_10026 hao_10026 (hne_new hao_10025 hf10026)
  have hn58x_10028 : h10028 q10011_ = some (.inl (E.2.1 1, 20000, .inl (fun _ => 0)), a) := hu_n eh10028 (Ne.symm (hne_new hao_10010 hf10011)) hn58x_10027
  have hn67x_10027 : h10027 q10013_ = some (.inl (E.2.1 1, 20000, .inl (fun _ => 0)), a) := hM10027.at hn67x_10026 hao_10026 (hne_new hao_10025 hf10026)
  have hn67x_10028 : h10028 q10013_ = some (.inl (E.2.1 1, 20000, .inl (fun _ => 0)), a) := hu_n eh10028 (Ne.symm (hne_new hao_10012 hf10013)) hn67x_10027
  have hn76x_10027 : h10027 q10015_ = some (.inl (E.2.1 2, 20000, .inl (fun _ => 0)), a) := hM10027.at hn76x_10026 hao_10026 (hne_new hao_10025 hf10026)
  have hn76x_10028 : h10028 q10015_ = some (.inl (E.2.1 2, 20000, .inl (fun _ => 0)), a) := hu_n eh10028 (Ne.symm (hne_new hao_10014 hf10015)) hn76x_10027
  have hn84x_10027 : h10027 q10017_ = some (.inl (E.2.1 3, 8, .inl (fun _ => 0)), a) := hM10027.at hn84x_10026 hao_10026 (hne_new hao_10025 hf10026)
  have hn84x_10028 : h10028 q10017_ = some (.inl (E.2.1 3, 8, .inl (fun _ => 0)), a) := hu_n eh10028 (Ne.symm (hne_new hao_10016 hf10017)) hn84x_10027
  have hn92x_10027 : h10027 q10019_ = some (.inl (E.2.1 0, 8, .inl (fun _ => 0)), a) := hM10027.at hn92x_10026 hao_10026 (hne_new hao_10025 hf10026)
  have hn92x_10028 : h10028 q10019_ = some (.inl (E.2.1 0, 8, .inl (fun _ => 0)), a) := hu_n eh10028 (Ne.symm (hne_new hao_10018 hf10019)) hn92x_10027
  have hn100x_10027 : h10027 q10021_ = some (.inl (E.2.1 0, 8, .inl (fun _ => 0)), a) := hM10027.at hn100x_10026 hao_10026 (hne_new hao_10025 hf10026)
  have hn100x_10028 : h10028 q10021_ = some (.inl (E.2.1 0, 8, .inl (fun _ => 0)), a) := hu_n eh10028 (Ne.symm (hne_new hao_10020 hf10021)) hn100x_10027
  have hn113x_10027 : h10027 q10024_ = some (.inl (E.2.1 6, 16, .inr (.inr (.inr (.inr (fun _ => none))))), a) := hM10027.at hn113x_10026 hao_10026 (hne_new hao_10025 hf10026)
  have hn113x_10028 : h10028 q10024_ = some (.inl (E.2.1 6, 16, .inr (.inr (.inr (.inr (fun _ => none))))), a) := hu_n eh10028 (Ne.symm (hne_new hao_10023 hf10024)) hn113x_10027
  have hcw10027_10028 : h10028 q10026_ = some (.inr (2, [.ref qrow, .int 0, .int 0]), q10026_) := hu_n eh10028 (Ne.symm (hne_new hao_10025 hf10026)) hcw10027
  have hcr10027_10028 : h10028 qrow = some (.inl (E.2.1 3, 4000, .inl (fun _ => 0)), q10026_) := hu_n eh10028 (Ne.symm (hne_of hao_10027 hcr10027 (fun z => by cases z))) hcr10027
  have hsn_10029 : h10029 q10029_ = some (.inr (3, [.null, .int 0, .null]), q10029_) := hu_s eh10029
  refine lv_dup hx hb dX1_init_134 rfl ?_
  have hao_10029 : h10029 a = some (.inr (0, [.ref q10001_, .int 0, .ref q10003_, .int 0, .int 0, .int (nI 1), .int (nI 100), .int (nI 1), .int (nI 10), .int (nI 11), .int (nI 10), .ref q10011_, .ref q10013_, .ref q10015_, .ref q10017_, .ref q10019_, .ref q10021_, .int 0, .int 0, .int 0, .int 0, .int (nI 0 - 1), .int 0, .ref q10024_, .int 0, .ref q10026_, .null, .null, .null, .null, .null, .null, .null, .null, .null, .null, .null, .null, .null, .null, .null]), a) := hu_w eh10029 hf10029 hao_10028
  have hsc_10029 : h10029 sc = some (.inl xs, sc) := hu_w eh10029 hf10029 hsc_10028
  have hn7x_10029 : h10029 q10001_ = some (.inl (E.2.1 0, 8, .inl (fun _ => 0)), a) := hu_w eh10029 hf10029 hn7x_10028
  have hn15x_10029 : h10029 q10003_ = some (.inl (E.2.1 0, 64, .inl (fun _ => 0)), a) := hu_w eh10029 hf10029 hn15x_10028
  have hn58x_10029 : h10029 q10011_ = some (.inl (E.2.1 1, 20000, .inl (fun _ => 0)), a) := hu_w eh10029 hf10029 hn58x_10028
  have hn67x_10029 : h10029 q10013_ = some (.inl (E.2.1 1, 20000, .inl (fun _ => 0)), a) := hu_w eh10029 hf10029 hn67x_10028
  have hn76x_10029 : h10029 q10015_ = some (.inl (E.2.1 2, 20000, .inl (fun _ => 0)), a) := hu_w eh10029 hf10029 hn76x_10028
  have hn84x_10029 : h10029 q10017_ = some (.inl (E.2.1 3, 8, .inl (fun _ => 0)), a) := hu_w eh10029 hf10029 hn84x_10028
  have hn92x_10029 : h10029 q10019_ = some (.inl (E.2.1 0, 8, .inl (fun _ => 0)), a) := hu_w eh10029 hf10029 hn92x_10028
  have hn100x_10029 : h10029 q10021_ = some (.inl (E.2.1 0, 8, .inl (fun _ => 0)), a) := hu_w eh10029 hf10029 hn100x_10028
  have hn113x_10029 : h10029 q10024_ = some (.inl (E.2.1 6, 16, .inr (.inr (.inr (.inr (fun _ => none))))), a) := hu_w eh10029 hf10029 hn113x_10028
  have hcw10027_10029 : h10029 q10026_ = some (.inr (2, [.ref qrow, .int 0, .int 0]), q10026_) := hu_w eh10029 hf10029 hcw10027_10028
  have hcr10027_10029 : h10029 qrow = some (.inl (E.2.1 3, 4000, .inl (fun _ => 0)), q10026_) := hu_w eh10029 hf10029 hcr10027_10028
  have hQ10027_10029 : PB E h10029 (fun _ => 0) (fun _ => 0) 0 := PB.kept (O := fun _ => False) (hu_fn eh10029 Fr.rf hf10029) (fun _ _ q => q) hQ10027_10028
  refine hg_IN C T10029 hl.1 (m_X3_init hsn_10029) 1 rfl q110 q55 q111 rfl kd_X3_init rfl rfl ⟨Nat.le_of_ble_eq_true rfl, Nat.le_of_ble_eq_true rfl⟩ (Nat.le_of_ble_eq_true rfl) dX1_init_135 ⟨by show 0 + 1 + 1 + 1 + 1 + 1 + 1 + 1 + 1 + 1 + 1 + 1 + 1 + 6 ≤ 4200; omega, by show 0 + 8 + 64 + 20000 + 20000 + 20000 + 8 + 8 + 8 + 16 + 3 + 4000 + 3 + 169 ≤ 100000; omega⟩ (fun rv h10030 dc10030 ds10030 H10030 locs10030 hp10030 T10030 => ?_)
  obtain ⟨rfl, qdig, qdg, d1, d2, d3, d4, hse10030, hsg10030, hdo10030, hd110030, hd210030, hd310030, hd410030, hnd, hsq, hM10030, rfl, rfl⟩ := hp10030
  have hN_10030 : FN a h h10030 := hN_10028.nest hf10029 eh10029 hM10030
  have hQ10030 : PB E h10030 (fun _ => 0) (fun _ => 0) 0 := hM10030.pb hQ10027_10029 (hQ10027_10028.nenew hf10029)
  refine W.eq (g2 := F0 m 138 ls [.ref q10029_, .ref a]) rfl ?_
  have hao_10030 : h10030 a = some (.inr (0, [.ref q10001_, .int 0, .ref q10003_, .int 0, .int 0, .int (nI 1), .int (nI 100), .int (nI 1), .int (nI 10), .int (nI 11), .int (nI 10), .ref q10011_, .ref q10013_, .ref q10015_, .ref q10017_, .ref q10019_, .ref q10021_, .int 0, .int 0, .int 0, .int 0, .int (nI 0 - 1), .int 0, .ref q10024_, .int 0, .ref q10026_, .null, .null, .null, .null, .null, .null, .null, .null, .null, .null, .null, .null, .null, .null, .null]), a) := hM10030.at hao_10029 hao_10029 (hne_new hao_10028 hf10029)
  have hag : a ≠ qdg := hne_of hao_10030 hdo10030 (fun z => by cases z)
  have haqdig : a ≠ qdig := hne_of hao_10030 hsg10030 (fun z => by cases z)
  have had1 : a ≠ d1 := hne_of hao_10030 hd110030 (fun z => by cases z)
  have had2 : a ≠ d2 := hne_of hao_10030 hd210030 (fun z => by cases z)
  have had3 : a ≠ d3 := hne_of hao_10030 hd310030 (fun z => by cases z)
  have had4 : a ≠ d4 := hne_of hao_10030 hd410030 (fun z => by cases z)
  refine hr_putF C T10030 hin hao_10030 rfl in_X1 tyX1 tyX1_ok nmX1 26 (by decide) q325 rfl rfl rfl rfl rfl (Nat.le_of_ble_eq_true rfl) dX1_init_138 (fun h10031 H10031 locs10031 eh10031 T10031 => ?_)
  have hao_10031 : h10031 a = some (.inr (0, [.ref q10001_, .int 0, .ref q10003_, .int 0, .int 0, .int (nI 1), .int (nI 100), .int (nI 1), .int (nI 10), .int (nI 11), .int (nI 10), .ref q10011_, .ref q10013_, .ref q10015_, .ref q10017_, .ref q10019_, .ref q10021_, .int 0, .int 0, .int 0, .int 0, .int (nI 0 - 1), .int 0, .ref q10024_, .int 0, .ref q10026_, .ref q10029_, .null, .null, .null, .null, .null, .null, .null, .null, .null, .null, .null, .null, .null, .null]), a) := hu_s eh10031
  refine lv_aload_n hx hb dX1_init_141 rfl (lv_at hl 0 rfl) ?_
  refine lv_aload_n hx hb dX1_init_142 rfl (lv_at hl 0 rfl) ?_
  refine hr_get C T10031 hao_10031 rfl in_X1 25 (by decide) q324 rfl rfl dX1_init_143 ?_
  refine hr_put C T10031 hao_10031 rfl in_X1 tyX1 tyX1_ok nmX1 27 (by decide) q326 rfl rfl rfl rfl (Nat.le_of_ble_eq_true rfl) dX1_init_146 (fun h10032 H10032 locs10032 eh10032 T10032 => ?_)
  have hao_10032 : h10032 a = some (.inr (0, [.ref q10001_, .int 0, .ref q10003_, .int 0, .int 0, .int (nI 1), .int (nI 100), .int (nI 1), .int (nI 10), .int (nI 11), .int (nI 10), .ref q10011_, .ref q10013_, .ref q10015_, .ref q10017_, .ref q10019_, .ref q10021_, .int 0, .int 0, .int 0, .int 0, .int (nI 0 - 1), .int 0, .ref q10024_, .int 0, .ref q10026_, .ref q10029_, .ref q10026_, .null, .null, .null, .null, .null, .null, .null, .null, .null, .null, .null, .null, .null]), a) := hu_s eh10032
  refine lv_aload_n hx hb dX1_init_149 rfl (lv_at hl 0 rfl) ?_
  have hN_10031 : FN a h h10031 := hN_10030.up hao_10030 eh10031
  have hN_10032 : FN a h h10032 := hN_10031.up hao_10031 eh10032
  have hQ10030_10031 : PB E h10031 (fun _ => 0) (fun _ => 0) 0 := PB.kept (O := (· = a)) (hu_f eh10031 Fr.rf hao_10030 rfl) (hQ0.neobj hao (by decide)) hQ10030
  have hQ10030_10032 : PB E h10032 (fun _ => 0) (fun _ => 0) 0 := PB.kept (O := (· = a)) (hu_f eh10032 Fr.rf hao_10031 rfl) (hQ0.neobj hao (by decide)) hQ10030_10031
  refine hr_new C T10032 (fun q => q) (ci := 5) rfl in_X5 tyX5 tyX5_ok q148 q149 q57 (fs := [.null]) dfX5 (by show 0 + 1 + 1 + 1 + 1 + 1 + 1 + 1 + 1 + 1 + 1 + 1 + 1 + 6 + 1 ≤ 4200; omega) (by show 0 + 8 + 64 + 20000 + 20000 + 20000 + 8 + 8 + 8 + 16 + 3 + 4000 + 3 + 169 + 1 ≤ 100000; omega) dX1_init_150 (fun h10033 q10033_ H10033 hf10033 eh10033 T10033 => ?_)
  have hsc_10030 : h10030 sc = some (.inl xs, sc) := hM10030.at hsc_10029 hsc_10029 (hne_new hsc_10028 hf10029)
  have hsc_10031 : h10031 sc = some (.inl xs, sc) := hu_n eh10031 hsa hsc_10030
  have hsc_10032 : h10032 sc = some (.inl xs, sc) := hu_n eh10032 hsa hsc_10031
  have hn7x_10030 : h10030 q10001_ = some (.inl (E.2.1 0, 8, .inl (fun _ => 0)), a) := hM10030.at hn7x_10029 hao_10029 (hne_new hao_10028 hf10029)
  have hn7x_10031 : h10031 q10001_ = some (.inl (E.2.1 0, 8, .inl (fun _ => 0)), a) := hu_n eh10031 (Ne.symm (hne_new hao hf10001)) hn7x_10030
  have hn7x_10032 : h10032 q10001_ = some (.inl (E.2.1 0, 8, .inl (fun _ => 0)), a) := hu_n eh10032 (Ne.symm (hne_new hao hf10001)) hn7x_10031
  have hn15x_10030 : h10030 q10003_ = some (.inl (E.2.1 0, 64, .inl (fun _ => 0)), a) := hM10030.at hn15x_10029 hao_10029 (hne_new hao_10028 hf10029)
  have hn15x_10031 : h10031 q10003_ = some (.inl (E.2.1 0, 64, .inl (fun _ => 0)), a) := hu_n eh10031 (Ne.symm (hne_new hao_10002 hf10003)) hn15x_10030
  have hn15x_10032 : h10032 q10003_ = some (.inl (E.2.1 0, 64, .inl (fun _ => 0)), a) := hu_n eh10032 (Ne.symm (hne_new hao_10002 hf10003)) hn15x_10031
  have hn58x_10030 : h10030 q10011_ = some (.inl (E.2.1 1, 20000, .inl (fun _ => 0)), a) := hM10030.at hn58x_10029 hao_10029 (hne_new hao_10028 hf10029)
  have hn58x_10031 : h10031 q10011_ = some (.inl (E.2.1 1, 20000, .inl (fun _ => 0)), a) := hu_n eh10031 (Ne.symm (hne_new hao_10010 hf10011)) hn58x_10030
  have hn58x_10032 : h10032 q10011_ = some (.inl (E.2.1 1, 20000, .inl (fun _ => 0)), a) := hu_n eh10032 (Ne.symm (hne_new hao_10010 hf10011)) hn58x_10031
  have hn67x_10030 : h10030 q10013_ = some (.inl (E.2.1 1, 20000, .inl (fun _ => 0)), a) := hM10030.at hn67x_10029 hao_10029 (hne_new hao_10028 hf10029)
  have hn67x_10031 : h10031 q10013_ = some (.inl (E.2.1 1, 20000, .inl (fun _ => 0)), a) := hu_n eh10031 (Ne.symm (hne_new hao_10012 hf10013)) hn67x_10030
  have hn67x_10032 : h10032 q10013_ = some (.inl (E.2.1 1, 20000, .inl (fun _ => 0)), a) := hu_n eh10032 (Ne.symm (hne_new hao_10012 hf10013)) hn67x_10031
  have hn76x_10030 : h10030 q10015_ = some (.inl (E.2.1 2, 20000, .inl (fun _ => 0)), a) := hM10030.at hn76x_10029 hao_10029 (hne_new hao_10028 hf10029)
  have hn76x_10031 : h10031 q10015_ = some (.inl (E.2.1 2, 20000, .inl (fun _ => 0)), a) := hu_n eh10031 (Ne.symm (hne_new hao_10014 hf10015)) hn76x_10030
  have hn76x_10032 : h10032 q10015_ = some (.inl (E.2.1 2, 20000, .inl (fun _ => 0)), a) := hu_n eh10032 (Ne.symm (hne_new hao_10014 hf10015)) hn76x_10031
  have hn84x_10030 : h10030 q10017_ = some (.inl (E.2.1 3, 8, .inl (fun _ => 0)), a) := hM10030.at hn84x_10029 hao_10029 (hne_new hao_10028 hf10029)
  have hn84x_10031 : h10031 q10017_ = some (.inl (E.2.1 3, 8, .inl (fun _ => 0)), a) := hu_n eh10031 (Ne.symm (hne_new hao_10016 hf10017)) hn84x_10030
  have hn84x_10032 : h10032 q10017_ = some (.inl (E.2.1 3, 8, .inl (fun _ => 0)), a) := hu_n eh10032 (Ne.symm (hne_new hao_10016 hf10017)) hn84x_10031
  have hn92x_10030 : h10030 q10019_ = some (.inl (E.2.1 0, 8, .inl (fun _ => 0)), a) := hM10030.at hn92x_10029 hao_10029 (hne_new hao_10028 hf10029)
  have hn92x_10031 : h10031 q10019_ = some (.inl (E.2.1 0, 8, .inl (fun _ => 0)), a) := hu_n eh10031 (Ne.symm (hne_new hao_10018 hf10019)) hn92x_10030
  have hn92x_10032 : h10032 q10019_ = some (.inl (E.2.1 0, 8, .inl (fun _ => 0)), a) := hu_n eh10032 (Ne.symm (hne_new hao_10018 hf10019)) hn92x_10031
  have hn100x_10030 : h10030 q10021_ = some (.inl (E.2.1 0, 8, .inl (fun _ => 0)), a) := hM10030.at hn100x_10029 hao_10029 (hne_new hao_10028 hf10029)
  have hn100x_10031 : h10031 q10021_ = some (.inl (E.2.1 0, 8, .inl (fun _ => 0)), a) := hu_n eh10031 (Ne.symm (hne_new hao_10020 hf10021)) hn100x_10030
  have hn100x_10032 : h10032 q10021_ = some (.inl (E.2.1 0, 8, .inl (fun _ => 0)), a) := hu_n eh10032 (Ne.symm (hne_new hao_10020 hf10021)) hn100x_10031
  have hn113x_10030 : h10030 q10024_ = some (.inl (E.2.1 6, 16, .inr (.inr (.inr (.inr (fun _ => none))))), a) := hM10030.at hn113x_10029 hao_10029 (hne_new hao_10028 hf10029)
  have hn113x_10031 : h10031 q10024_ = some (.inl (E.2.1 6, 16, .inr (.inr (.inr (.inr (fun _ => none))))), a) := hu_n eh10031 (Ne.symm (hne_new hao_10023 hf10024)) hn113x_10030
  have hn113x_10032 : h10032 q10024_ = some (.inl (E.2.1 6, 16, .inr (.inr (.inr (.inr (fun _ => none))))), a) := hu_n eh10032 (Ne.symm (hne_new hao_10023 hf10024)) hn113x_10031
  have hcw10027_10030 : h10030 q10026_ = some (.inr (2, [.ref qrow, .int 0, .int 0]), q10026_) := hM10030.at hcw10027_10029 hcw10027_10029 (hne_new hcw10027_10028 hf10029)
  have hcw10027_10031 : h10031 q10026_ = some (.inr (2, [.ref qrow, .int 0, .int 0]), q10026_) := hu_n eh10031 (Ne.symm (hne_new hao_10025 hf10026)) hcw10027_10030
  have hcw10027_10032 : h10032 q10026_ = some (.inr (2, [.ref qrow, .int 0, .int 0]), q10026_) := hu_n eh10032 (Ne.symm (hne_new hao_10025 hf10026)) hcw10027_10031
  have hcr10027_10030 : h10030 qrow = some (.inl (E.2.1 3, 4000, .inl (fun _ => 0)), q10026_) := hM10030.at hcr10027_10029 hcw10027_10029 (hne_new hcw10027_10028 hf10029)
  have hcr10027_10031 : h10031 qrow = some (.inl (E.2.1 3, 4000, .inl (fun _ => 0)), q10026_) := hu_n eh10031 (Ne.symm (hne_of hao_10027 hcr10027 (fun z => by cases z))) hcr10027_10030
  have hcr10027_10032 : h10032 qrow = some (.inl (E.2.1 3, 4000, .inl (fun _ => 0)), q10026_) := hu_n eh10032 (Ne.symm (hne_of hao_10027 hcr10027 (fun z => by cases z))) hcr10027_10031
  have hse10030_10031 : h10031 q10029_ = some (.inr (3, [.ref qdig, .int 0, .ref qdg]), q10029_) := hu_n eh10031 (Ne.symm (hne_new hao_10028 hf10029)) hse10030
  have hse10030_10032 : h10032 q10029_ = some (.inr (3, [.ref qdig, .int 0, .ref qdg]), q10029_) := hu_n eh10032 (Ne.symm (hne_new hao_10028 hf10029)) hse10030_10031
  have hsg10030_10031 : h10031 qdig = some (.inl (E.2.1 0, 20, .inl (fun _ => 0)), q10029_) := hu_n eh10031 (Ne.symm haqdig) hsg10030
  have hsg10030_10032 : h10032 qdig = some (.inl (E.2.1 0, 20, .inl (fun _ => 0)), q10029_) := hu_n eh10032 (Ne.symm haqdig) hsg10030_10031
  have hdo10030_10031 : h10031 qdg = some (.inr (4, [.ref d1, .ref d2, .ref d3, .ref d4, .int 0]), qdg) := hu_n eh10031 (Ne.symm hag) hdo10030
  have hdo10030_10032 : h10032 qdg = some (.inr (4, [.ref d1, .ref d2, .ref d3, .ref d4, .int 0]), qdg) := hu_n eh10032 (Ne.symm hag) hdo10030_10031
  have hd110030_10031 : h10031 d1 = some (.inl (E.2.1 0, 8, .inl (fun _ => 0)), qdg) := hu_n eh10031 (Ne.symm had1) hd110030
  have hd110030_10032 : h10032 d1 = some (.inl (E.2.1 0, 8, .inl (fun _ => 0)), qdg) := hu_n eh10032 (Ne.symm had1) hd110030_10031
  have hd210030_10031 : h10031 d2 = some (.inl (E.2.1 0, 8, .inl (fun _ => 0)), qdg) := hu_n eh10031 (Ne.symm had2) hd210030
  have hd210030_10032 : h10032 d2 = some (.inl (E.2.1 0, 8, .inl (fun _ => 0)), qdg) := hu_n eh10032 (Ne.symm had2) hd210030_10031
  have hd310030_10031 : h10031 d3 = some (.inl (E.2.1 0, 64, .inl (fun _ => 0)), qdg) := hu_n eh10031 (Ne.symm had3) hd310030
  have hd310030_10032 : h10032 d3 = some (.inl (E.2.1 0, 64, .inl (fun _ => 0)), qdg) := hu_n eh10032 (Ne.symm had3) hd310030_10031
  have hd410030_10031 : h10031 d4 = some (.inl (E.2.1 1, 64, .inl (fun _ => 0)), qdg) := hu_n eh10031 (Ne.symm had4) hd410030
  have hd410030_10032 : h10032 d4 = some (.inl (E.2.1 1, 64, .inl (fun _ => 0)), qdg) := hu_n eh10032 (Ne.symm had4) hd410030_10031
  have hpn_10033 : h10033 q10033_ = some (.inr (5, [.null]), q10033_) := hu_s eh10033
  refine lv_dup hx hb dX1_init_153 rfl ?_
  refine lv_aload_n hx hb dX1_init_154 rfl (lv_at hl 0 rfl) ?_
  have hao_10033 : h10033 a = some (.inr (0, [.ref q10001_, .int 0, .ref q10003_, .int 0, .int 0, .int (nI 1), .int (nI 100), .int (nI 1), .int (nI 10), .int (nI 11), .int (nI 10), .ref q10011_, .ref q10013_, .ref q10015_, .ref q10017_, .ref q10019_, .ref q10021_, .int 0, .int 0, .int 0, .int 0, .int (nI 0 - 1), .int 0, .ref q10024_, .int 0, .ref q10026_, .ref q10029_, .ref q10026_, .null, .null, .null, .null, .null, .null, .null, .null, .null, .null, .null, .null, .null]), a) := hu_w eh10033 hf10033 hao_10032
  have hsc_10033 : h10033 sc = some (.inl xs, sc) := hu_w eh10033 hf10033 hsc_10032
  have hn7x_10033 : h10033 q10001_ = some (.inl (E.2.1 0, 8, .inl (fun _ => 0)), a) := hu_w eh10033 hf10033 hn7x_10032
  have hn15x_10033 : h10033 q10003_ = some (.inl (E.2.1 0, 64, .inl (fun _ => 0)), a) := hu_w eh10033 hf10033 hn15x_10032
  have hn58x_10033 : h10033 q10011_ = some (.inl (E.2.1 1, 20000, .inl (fun _ => 0)), a) := hu_w eh10033 hf10033 hn58x_10032
  have hn67x_10033 : h10033 q10013_ = some (.inl (E.2.1 1, 20000, .inl (fun _ => 0)), a) := hu_w eh10033 hf10033 hn67x_10032
  have hn76x_10033 : h10033 q10015_ = some (.inl (E.2.1 2, 20000, .inl (fun _ => 0)), a) := hu_w eh10033 hf10033 hn76x_10032
  have hn84x_10033 : h10033 q10017_ = some (.inl (E.2.1 3, 8, .inl (fun _ => 0)), a) := hu_w eh10033 hf10033 hn84x_10032
  have hn92x_10033 : h10033 q10019_ = some (.inl (E.2.1 0, 8, .inl (fun _ => 0)), a) := hu_w eh10033 hf10033 hn92x_10032
  have hn100x_10033 : h10033 q10021_ = some (.inl (E.2.1 0, 8, .inl (fun _ => 0)), a) := hu_w eh10033 hf10033 hn100x_10032
  have hn113x_10033 : h10033 q10024_ = some (.inl (E.2.1 6, 16, .inr (.inr (.inr (.inr (fun _ => none))))), a) := hu_w eh10033 hf10033 hn113x_10032
  have hcw10027_10033 : h10033 q10026_ = some (.inr (2, [.ref qrow, .int 0, .int 0]), q10026_) := hu_w eh10033 hf10033 hcw10027_10032
  have hcr10027_10033 : h10033 qrow = some (.inl (E.2.1 3, 4000, .inl (fun _ => 0)), q10026_) := hu_w eh10033 hf10033 hcr10027_10032
  have hse10030_10033 : h10033 q10029_ = some (.inr (3, [.ref qdig, .int 0, .ref qdg]), q10029_) := hu_w eh10033 hf10033 hse10030_10032
  have hsg10030_10033 : h10033 qdig = some (.inl (E.2.1 0, 20, .inl (fun _ => 0)), q10029_) := hu_w eh10033 hf10033 hsg10030_10032
  have hdo10030_10033 : h10033 qdg = some (.inr (4, [.ref d1, .ref d2, .ref d3, .ref d4, .int 0]), qdg) := hu_w eh10033 hf10033 hdo10030_10032
  have hd110030_10033 : h10033 d1 = some (.inl (E.2.1 0, 8, .inl (fun _ => 0)), qdg) := hu_w eh10033 hf10033 hd110030_10032
  have hd210030_10033 : h10033 d2 = some (.inl (E.2.1 0, 8, .inl (fun _ => 0)), qdg) := hu_w eh10033 hf10033 hd210030_10032
  have hd310030_10033 : h10033 d3 = some (.inl (E.2.1 0, 64, .inl (fun _ => 0)), qdg) := hu_w eh10033 hf10033 hd310030_10032
  have hd410030_10033 : h10033 d4 = some (.inl (E.2.1 1, 64, .inl (fun _ => 0)), qdg) := hu_w eh10033 hf10033 hd410030_10032
  have hQ10030_10033 : PB E h10033 (fun _ => 0) (fun _ => 0) 0 := PB.kept (O := fun _ => False) (hu_fn eh10033 Fr.rf hf10033) (fun _ _ q => q) hQ10030_10032
  refine hc_I C T10033 hl.1 (m_X5_init hpn_10033) q150 q151 q57 q152 rfl kd_X5_init rfl rfl ⟨Nat.le_of_ble_eq_true rfl, Nat.le_of_ble_eq_true rfl⟩ (Nat.le_of_ble_eq_true rfl) dX1_init_155 ⟨by show 0 + 1 + 1 + 1 + 1 + 1 + 1 + 1 + 1 + 1 + 1 + 1 + 1 + 6 + 1 + 0 ≤ 4200; omega, by show 0 + 8 + 64 + 20000 + 20000 + 20000 + 8 + 8 + 8 + 16 + 3 + 4000 + 3 + 169 + 1 + 0 ≤ 100000; omega⟩ (fun rv h10034 H10034 locs10034 hp10034 T10034 => ?_)
  obtain ⟨rfl, hpo10034, hM10034⟩ := hp10034
  have hN_10034 : FN a h h10034 := hN_10032.nest hf10033 eh10033 hM10034
  have hQ10034 : PB E h10034 (fun _ => 0) (fun _ => 0) 0 := hM10034.pb hQ10030_10033 (hQ10030_10032.nenew hf10033)
  refine W.eq (g2 := F0 m 158 ls [.ref q10033_, .ref a]) rfl ?_
  have hao_10034 : h10034 a = some (.inr (0, [.ref q10001_, .int 0, .ref q10003_, .int 0, .int 0, .int (nI 1), .int (nI 100), .int (nI 1), .int (nI 10), .int (nI 11), .int (nI 10), .ref q10011_, .ref q10013_, .ref q10015_, .ref q10017_, .ref q10019_, .ref q10021_, .int 0, .int 0, .int 0, .int 0, .int (nI 0 - 1), .int 0, .ref q10024_, .int 0, .ref q10026_, .ref q10029_, .ref q10026_, .null, .null, .null, .null, .null, .null, .null, .null, .null, .null, .null, .null, .null]), a) := hM10034.at hao_10033 hao_10033 (hne_new hao_10032 hf10033)
  refine hr_putF C T10034 hin hao_10034 rfl in_X1 tyX1 tyX1_ok nmX1 28 (by decide) q327 rfl rfl rfl rfl rfl (Nat.le_of_ble_eq_true rfl) dX1_init_158 (fun h10035 H10035 locs10035 eh10035 T10035 => ?_)
  have hao_10035 : h10035 a = some (.inr (0, [.ref q10001_, .int 0, .ref q10003_, .int 0, .int 0, .int (nI 1), .int (nI 100), .int (nI 1), .int (nI 10), .int (nI 11), .int (nI 10), .ref q10011_, .ref q10013_, .ref q10015_, .ref q10017_, .ref q10019_, .ref q10021_, .int 0, .int 0, .int 0, .int 0, .int (nI 0 - 1), .int 0, .ref q10024_, .int 0, .ref q10026_, .ref q10029_, .ref q10026_, .ref q10033_, .null, .null, .null, .null, .null, .null, .null, .null, .null, .null, .null, .null]), a) := hu_s eh10035
  refine lv_aload_n hx hb dX1_init_161 rfl (lv_at hl 0 rfl) ?_
  have hN_10035 : FN a h h10035 := hN_10034.up hao_10034 eh10035
  have hQ10034_10035 : PB E h10035 (fun _ => 0) (fun _ => 0) 0 := PB.kept (O := (· = a)) (hu_f eh10035 Fr.rf hao_10034 rfl) (hQ0.neobj hao (by decide)) hQ10034
  refine hr_new C T10035 (fun q => q) (ci := 6) rfl in_X6 tyX6 tyX6_ok q158 q159 q58 (fs := [.null, .null, .null]) dfX6 (by show 0 + 1 + 1 + 1 + 1 + 1 + 1 + 1 + 1 + 1 + 1 + 1 + 1 + 6 + 1 + 1 ≤ 4200; omega) (by show 0 + 8 + 64 + 20000 + 20000 + 20000 + 8 + 8 + 8 + 16 + 3 + 4000 + 3 + 169 + 1 + 3 ≤ 100000; omega) dX1_init_162 (fun h10036 q10036_ H10036 hf10036 eh10036 T10036 => ?_)
  have hsc_10034 : h10034 sc = some (.inl xs, sc) := hM10034.at hsc_10033 hsc_10033 (hne_new hsc_10032 hf10033)
  have hsc_10035 : h10035 sc = some (.inl xs, sc) := hu_n eh10035 hsa hsc_10034
  have hn7x_10034 : h10034 q10001_ = some (.inl (E.2.1 0, 8, .inl (fun _ => 0)), a) := hM10034.at hn7x_10033 hao_10033 (hne_new hao_10032 hf10033)
  have hn7x_10035 : h10035 q10001_ = some (.inl (E.2.1 0, 8, .inl (fun _ => 0)), a) := hu_n eh10035 (Ne.symm (hne_new hao hf10001)) hn7x_10034
  have hn15x_10034 : h10034 q10003_ = some (.inl (E.2.1 0, 64, .inl (fun _ => 0)), a) := hM10034.at hn15x_10033 hao_10033 (hne_new hao_10032 hf10033)
  have hn15x_10035 : h10035 q10003_ = some (.inl (E.2.1 0, 64, .inl (fun _ => 0)), a) := hu_n eh10035 (Ne.symm (hne_new hao_10002 hf10003)) hn15x_10034
  have hn58x_10034 : h10034 q10011_ = some (.inl (E.2.1 1, 20000, .inl (fun _ => 0)), a) := hM10034.at hn58x_10033 hao_10033 (hne_new hao_10032 hf10033)
  have hn58x_10035 : h10035 q10011_ = some (.inl (E.2.1 1, 20000, .inl (fun _ => 0)), a) := hu_n eh10035 (Ne.symm (hne_new hao_10010 hf10011)) hn58x_10034
  have hn67x_10034 : h10034 q10013_ = some (.inl (E.2.1 1, 20000, .inl (fun _ => 0)), a) := hM10034.at hn67x_10033 hao_10033 (hne_new hao_10032 hf10033)
  have hn67x_10035 : h10035 q10013_ = some (.inl (E.2.1 1, 20000, .inl (fun _ => 0)), a) := hu_n eh10035 (Ne.symm (hne_new hao_10012 hf10013)) hn67x_10034
  have hn76x_10034 : h10034 q10015_ = some (.inl (E.2.1 2, 20000, .inl (fun _ => 0)), a) := hM10034.at hn76x_10033 hao_10033 (hne_new hao_10032 hf10033)
  have hn76x_10035 : h10035 q10015_ = some (.inl (E.2.1 2, 20000, .inl (fun _ => 0)), a) := hu_n eh10035 (Ne.symm (hne_new hao_10014 hf10015)) hn76x_10034
  have hn84x_10034 : h10034 q10017_ = some (.inl (E.2.1 3, 8, .inl (fun _ => 0)), a) := hM10034.at hn84x_10033 hao_10033 (hne_new hao_10032 hf10033)
  have hn84x_10035 : h10035 q10017_ = some (.inl (E.2.1 3, 8, .inl (fun _ => 0)), a) := hu_n eh10035 (Ne.symm (hne_new hao_10016 hf10017)) hn84x_10034
  have hn92x_10034 : h10034 q10019_ = some (.inl (E.2.1 0, 8, .inl (fun _ => 0)), a) := hM10034.at hn92x_10033 hao_10033 (hne_new hao_10032 hf10033)
  have hn92x_10035 : h10035 q10019_ = some (.inl (E.2.1 0, 8, .inl (fun _ => 0)), a) := hu_n eh10035 (Ne.symm (hne_new hao_10018 hf10019)) hn92x_10034
  have hn100x_10034 : h10034 q10021_ = some (.inl (E.2.1 0, 8, .inl (fun _ => 0)), a) := hM10034.at hn100x_10033 hao_10033 (hne_new hao_10032 hf10033)
  have hn100x_10035 : h10035 q10021_ = some (.inl (E.2.1 0, 8, .inl (fun _ => 0)), a) := hu_n eh10035 (Ne.symm (hne_new hao_10020 hf10021)) hn100x_10034
  have hn113x_10034 : h10034 q10024_ = some (.inl (E.2.1 6, 16, .inr (.inr (.inr (.inr (fun _ => none))))), a) := hM10034.at hn113x_10033 hao_10033 (hne_new hao_10032 hf10033)
  have hn113x_10035 : h10035 q10024_ = some (.inl (E.2.1 6, 16, .inr (.inr (.inr (.inr (fun _ => none))))), a) := hu_n eh10035 (Ne.symm (hne_new hao_10023 hf10024)) hn113x_10034
  have hcw10027_10034 : h10034 q10026_ = some (.inr (2, [.ref qrow, .int 0, .int 0]), q10026_) := hM10034.at hcw10027_10033 hcw10027_10033 (hne_new hcw10027_10032 hf10033)
  have hcw10027_10035 : h10035 q10026_ = some (.inr (2, [.ref qrow, .int 0, .int 0]), q10026_) := hu_n eh10035 (Ne.symm (hne_new hao_10025 hf10026)) hcw10027_10034
  have hcr10027_10034 : h10034 qrow = some (.inl (E.2.1 3, 4000, .inl (fun _ => 0)), q10026_) := hM10034.at hcr10027_10033 hcw10027_10033 (hne_new hcw10027_10032 hf10033)
  have hcr10027_10035 : h10035 qrow = some (.inl (E.2.1 3, 4000, .inl (fun _ => 0)), q10026_) := hu_n eh10035 (Ne.symm (hne_of hao_10027 hcr10027 (fun z => by cases z))) hcr10027_10034
  have hse10030_10034 : h10034 q10029_ = some (.inr (3, [.ref qdig, .int 0, .ref qdg]), q10029_) := hM10034.at hse10030_10033 hse10030_10033 (hne_new hse10030_10032 hf10033)
  have hse10030_10035 : h10035 q10029_ = some (.inr (3, [.ref qdig, .int 0, .ref qdg]), q10029_) := hu_n eh10035 (Ne.symm (hne_new hao_10028 hf10029)) hse10030_10034
  have hsg10030_10034 : h10034 qdig = some (.inl (E.2.1 0, 20, .inl (fun _ => 0)), q10029_) := hM10034.at hsg10030_10033 hse10030_10033 (hne_new hse10030_10032 hf10033)
  have hsg10030_10035 : h10035 qdig = some (.inl (E.2.1 0, 20, .inl (fun _ => 0)), q10029_) := hu_n eh10035 (Ne.symm haqdig) hsg10030_10034
  have hdo10030_10034 : h10034 qdg = some (.inr (4, [.ref d1, .ref d2, .ref d3, .ref d4, .int 0]), qdg) := hM10034.at hdo10030_10033 hdo10030_10033 (hne_new hdo10030_10032 hf10033)
  have hdo10030_10035 : h10035 qdg = some (.inr (4, [.ref d1, .ref d2, .ref d3, .ref d4, .int 0]), qdg) := hu_n eh10035 (Ne.symm hag) hdo10030_10034
  have hd110030_10034 : h10034 d1 = some (.inl (E.2.1 0, 8, .inl (fun _ => 0)), qdg) := hM10034.at hd110030_10033 hdo10030_10033 (hne_new hdo10030_10032 hf10033)
  have hd110030_10035 : h10035 d1 = some (.inl (E.2.1 0, 8, .inl (fun _ => 0)), qdg) := hu_n eh10035 (Ne.symm had1) hd110030_10034
  have hd210030_10034 : h10034 d2 = some (.inl (E.2.1 0, 8, .inl (fun _ => 0)), qdg) := hM10034.at hd210030_10033 hdo10030_10033 (hne_new hdo10030_10032 hf10033)
  have hd210030_10035 : h10035 d2 = some (.inl (E.2.1 0, 8, .inl (fun _ => 0)), qdg) := hu_n eh10035 (Ne.symm had2) hd210030_10034
  have hd310030_10034 : h10034 d3 = some (.inl (E.2.1 0, 64, .inl (fun _ => 0)), qdg) := hM10034.at hd310030_10033 hdo10030_10033 (hne_new hdo10030_10032 hf10033)
  have hd310030_10035 : h10035 d3 = some (.inl (E.2.1 0, 64, .inl (fun _ => 0)), qdg) := hu_n eh10035 (Ne.symm had3) hd310030_10034
  have hd410030_10034 : h10034 d4 = some (.inl (E.2.1 1, 64, .inl (fun _ => 0)), qdg) := hM10034.at hd410030_10033 hdo10030_10033 (hne_new hdo10030_10032 hf10033)
  have hd410030_10035 : h10035 d4 = some (.inl (E.2.1 1, 64, .inl (fun _ => 0)), qdg) := hu_n eh10035 (Ne.symm had4) hd410030_10034
  have hpo10034_10035 : h10035 q10033_ = some (.inr (5, [.ref a]), q10033_) := hu_n eh10035 (Ne.symm (hne_new hao_10032 hf10033)) hpo10034
  have hcm_10036 : h10036 q10036_ = some (.inr (6, [.null, .null, .null]), q10036_) := hu_s eh10036
  refine lv_dup hx hb dX1_init_165 rfl ?_
  refine lv_aload_n hx hb dX1_init_166 rfl (lv_at hl 0 rfl) ?_
  have hao_10036 : h10036 a = some (.inr (0, [.ref q10001_, .int 0, .ref q10003_, .int 0, .int 0, .int (nI 1), .int (nI 100), .int (nI 1), .int (nI 10), .int (nI 11), .int (nI 10), .ref q10011_, .ref q10013_, .ref q10015_, .ref q10017_, .ref q10019_, .ref q10021_, .int 0, .int 0, .int 0, .int 0, .int (nI 0 - 1), .int 0, .ref q10024_, .int 0, .ref q10026_, .ref q10029_, .ref q10026_, .ref q10033_, .null, .null, .null, .null, .null, .null, .null, .null, .null, .null, .null, .null]), a) := hu_w eh10036 hf10036 hao_10035
  have hsc_10036 : h10036 sc = some (.inl xs, sc) := hu_w eh10036 hf10036 hsc_10035
  have hn7x_10036 : h10036 q10001_ = some (.inl (E.2.1 0, 8, .inl (fun _ => 0)), a) := hu_w eh10036 hf10036 hn7x_10035
  have hn15x_10036 : h10036 q10003_ = some (.inl (E.2.1 0, 64, .inl (fun _ => 0)), a) := hu_w eh10036 hf10036 hn15x_10035
  have hn58x_10036 : h10036 q10011_ = some (.inl (E.2.1 1, 20000, .inl (fun _ => 0)), a) := hu_w eh10036 hf10036 hn58x_10035
  have hn67x_10036 : h10036 q10013_ = some (.inl (E.2.1 1, 20000, .inl (fun _ => 0)), a) := hu_w eh10036 hf10036 hn67x_10035
  have hn76x_10036 : h10036 q10015_ = some (.inl (E.2.1 2, 20000, .inl (fun _ => 0)), a) := hu_w eh10036 hf10036 hn76x_10035
  have hn84x_10036 : h10036 q10017_ = some (.inl (E.2.1 3, 8, .inl (fun _ => 0)), a) := hu_w eh10036 hf10036 hn84x_10035
  have hn92x_10036 : h10036 q10019_ = some (.inl (E.2.1 0, 8, .inl (fun _ => 0)), a) := hu_w eh10036 hf10036 hn92x_10035
  have hn100x_10036 : h10036 q10021_ = some (.inl (E.2.1 0, 8, .inl (fun _ => 0)), a) := hu_w eh10036 hf10036 hn100x_10035
  have hn113x_10036 : h10036 q10024_ = some (.inl (E.2.1 6, 16, .inr (.inr (.inr (.inr (fun _ => none))))), a) := hu_w eh10036 hf10036 hn113x_10035
  have hcw10027_10036 : h10036 q10026_ = some (.inr (2, [.ref qrow, .int 0, .int 0]), q10026_) := hu_w eh10036 hf10036 hcw10027_10035
  have hcr10027_10036 : h10036 qrow = some (.inl (E.2.1 3, 4000, .inl (fun _ => 0)), q10026_) := hu_w eh10036 hf10036 hcr10027_10035
  have hse10030_10036 : h10036 q10029_ = some (.inr (3, [.ref qdig, .int 0, .ref qdg]), q10029_) := hu_w eh10036 hf10036 hse10030_10035
  have hsg10030_10036 : h10036 qdig = some (.inl (E.2.1 0, 20, .inl (fun _ => 0)), q10029_) := hu_w eh10036 hf10036 hsg10030_10035
  have hdo10030_10036 : h10036 qdg = some (.inr (4, [.ref d1, .ref d2, .ref d3, .ref d4, .int 0]), qdg) := hu_w eh10036 hf10036 hdo10030_10035
  have hd110030_10036 : h10036 d1 = some (.inl (E.2.1 0, 8, .inl (fun _ => 0)), qdg) := hu_w eh10036 hf10036 hd110030_10035
  have hd210030_10036 : h10036 d2 = some (.inl (E.2.1 0, 8, .inl (fun _ => 0)), qdg) := hu_w eh10036 hf10036 hd210030_10035
  have hd310030_10036 : h10036 d3 = some (.inl (E.2.1 0, 64, .inl (fun _ => 0)), qdg) := hu_w eh10036 hf10036 hd310030_10035
  have hd410030_10036 : h10036 d4 = some (.inl (E.2.1 1, 64, .inl (fun _ => 0)), qdg) := hu_w eh10036 hf10036 hd410030_10035
  have hpo10034_10036 : h10036 q10033_ = some (.inr (5, [.ref a]), q10033_) := hu_w eh10036 hf10036 hpo10034_10035
  have hQ10034_10036 : PB E h10036 (fun _ => 0) (fun _ => 0) 0 := PB.kept (O := fun _ => False) (hu_fn eh10036 Fr.rf hf10036) (fun _ _ q => q) hQ10034_10035
  refine hg_I C T10036 hl.1 (m_X6_init hQ10034_10036 hcm_10036) q160 q161 q58 q162 rfl kd_X6_init rfl rfl ⟨Nat.le_of_ble_eq_true rfl, Nat.le_of_ble_eq_true rfl⟩ (Nat.le_of_ble_eq_true rfl) dX1_init_167 ⟨by show 0 + 1 + 1 + 1 + 1 + 1 + 1 + 1 + 1 + 1 + 1 + 1 + 1 + 6 + 1 + 1 + 4 ≤ 4200; omega, by show 0 + 8 + 64 + 20000 + 20000 + 20000 + 8 + 8 + 8 + 16 + 3 + 4000 + 3 + 169 + 1 + 3 + 132 ≤ 100000; omega⟩ (fun rv h10037 dc10037 ds10037 H10037 locs10037 hp10037 T10037 => ?_)
  obtain ⟨rfl, Bq10037, cq10037, hQ10037, hk10037, hac10037, hco10037, hM10037, rfl, rfl⟩ := hp10037
  have hN_10037 : FN a h h10037 := hN_10035.nest hf10036 eh10036 hM10037
  refine W.eq (g2 := F0 m 170 ls [.ref q10036_, .ref a]) rfl ?_
  have hao_10037 : h10037 a = some (.inr (0, [.ref q10001_, .int 0, .ref q10003_, .int 0, .int 0, .int (nI 1), .int (nI 100), .int (nI 1), .int (nI 10), .int (nI 11), .int (nI 10), .ref q10011_, .ref q10013_, .ref q10015_, .ref q10017_, .ref q10019_, .ref q10021_, .int 0, .int 0, .int 0, .int 0, .int (nI 0 - 1), .int 0, .ref q10024_, .int 0, .ref q10026_, .ref q10029_, .ref q10026_, .ref q10033_, .null, .null, .null, .null, .null, .null, .null, .null, .null, .null, .null, .null]), a) := hM10037.at hao_10036 hao_10036 (hne_new hao_10035 hf10036)
  refine hr_putF C T10037 hin hao_10037 rfl in_X1 tyX1 tyX1_ok nmX1 29 (by decide) q328 rfl rfl rfl rfl rfl (Nat.le_of_ble_eq_true rfl) dX1_init_170 (fun h10038 H10038 locs10038 eh10038 T10038 => ?_)
  have hao_10038 : h10038 a = some (.inr (0, [.ref q10001_, .int 0, .ref q10003_, .int 0, .int 0, .int (nI 1), .int (nI 100), .int (nI 1), .int (nI 10), .int (nI 11), .int (nI 10), .ref q10011_, .ref q10013_, .ref q10015_, .ref q10017_, .ref q10019_, .ref q10021_, .int 0, .int 0, .int 0, .int 0, .int (nI 0 - 1), .int 0, .ref q10024_, .int 0, .ref q10026_, .ref q10029_, .ref q10026_, .ref q10033_, .ref q10036_, .null, .null, .null, .null, .null, .null, .null, .null, .null, .null, .null]), a) := hu_s eh10038
  refine lv_aload_n hx hb dX1_init_173 rfl (lv_at hl 0 rfl) ?_
  refine lv_aload_n hx hb dX1_init_174 rfl (lv_at hl 0 rfl) ?_
  refine hr_get C T10038 hao_10038 rfl in_X1 28 (by decide) q327 rfl rfl dX1_init_175 ?_
  refine hr_put C T10038 hao_10038 rfl in_X1 tyX1 tyX1_ok nmX1 30 (by decide) q329 rfl rfl rfl rfl (Nat.le_of_ble_eq_true rfl) dX1_init_178 (fun h10039 H10039 locs10039 eh10039 T10039 => ?_)
  have hao_10039 : h10039 a = some (.inr (0, [.ref q10001_, .int 0, .ref q10003_, .int 0, .int 0, .int (nI 1), .int (nI 100), .int (nI 1), .int (nI 10), .int (nI 11), .int (nI 10), .ref q10011_, .ref q10013_, .ref q10015_, .ref q10017_, .ref q10019_, .ref q10021_, .int 0, .int 0, .int 0, .int 0, .int (nI 0 - 1), .int 0, .ref q10024_, .int 0, .ref q10026_, .ref q10029_, .ref q10026_, .ref q10033_, .ref q10036_, .ref q10033_, .null, .null, .null, .null, .null, .null, .null, .null, .null, .null]), a) := hu_s eh10039
  refine lv_aload_n hx hb dX1_init_181 rfl (lv_at hl 0 rfl) ?_
  have hN_10038 : FN a h h10038 := hN_10037.up hao_10037 eh10038
  have hN_10039 : FN a h h10039 := hN_10038.up hao_10038 eh10039
  have hQ10037_10038 : PB E h10038 Bq10037 cq10037 2 := PB.kept (O := (· = a)) (hu_f eh10038 Fr.rf hao_10037 rfl) (hQ10037.neobj hao_10037 (by decide)) hQ10037
  have hQ10037_10039 : PB E h10039 Bq10037 cq10037 2 := PB.kept (O := (· = a)) (hu_f eh10039 Fr.rf hao_10038 rfl) (hQ10037.neobj hao_10037 (by decide)) hQ10037_10038
  refine hr_new C T10039 (fun q => q) (ci := 7) rfl in_X8 tyX8 tyX8_ok q191 q192 q60 (fs := [.null, .null, .null, .null, .null, .null, .null, .null, .null, .null, .null]) dfX8 (by show 0 + 1 + 1 + 1 + 1 + 1 + 1 + 1 + 1 + 1 + 1 + 1 + 1 + 6 + 1 + 1 + 4 + 1 ≤ 4200; omega) (by show 0 + 8 + 64 + 20000 + 20000 + 20000 + 8 + 8 + 8 + 16 + 3 + 4000 + 3 + 169 + 1 + 3 + 132 + 11 ≤ 100000; omega) dX1_init_182 (fun h10040 q10040_ H10040 hf10040 eh10040 T10040 => ?_)
  have hsc_10037 : h10037 sc = some (.inl xs, sc) := hM10037.at hsc_10036 hsc_10036 (hne_new hsc_10035 hf10036)
  have hsc_10038 : h10038 sc = some (.inl xs, sc) := hu_n eh10038 hsa hsc_10037
  have hsc_10039 : h10039 sc = some (.inl xs, sc) := hu_n eh10039 hsa hsc_10038
  have hn7x_10037 : h10037 q10001_ = some (.inl (E.2.1 0, 8, .inl (fun _ => 0)), a) := hM10037.at hn7x_10036 hao_10036 (hne_new hao_10035 hf10036)
  have hn7x_10038 : h10038 q10001_ = some (.inl (E.2.1 0, 8, .inl (fun _ => 0)), a) := hu_n eh10038 (Ne.symm (hne_new hao hf10001)) hn7x_10037
  have hn7x_10039 : h10039 q10001_ = some (.inl (E.2.1 0, 8, .inl (fun _ => 0)), a) := hu_n eh10039 (Ne.symm (hne_new hao hf10001)) hn7x_10038
  have hn15x_10037 : h10037 q10003_ = some (.inl (E.2.1 0, 64, .inl (fun _ => 0)), a) := hM10037.at hn15x_10036 hao_10036 (hne_new hao_10035 hf10036)
  have hn15x_10038 : h10038 q10003_ = some (.inl (E.2.1 0, 64, .inl (fun _ => 0)), a) := hu_n eh10038 (Ne.symm (hne_new hao_10002 hf10003)) hn15x_10037
  have hn15x_10039 : h10039 q10003_ = some (.inl (E.2.1 0, 64, .inl (fun _ => 0)), a) := hu_n eh10039 (Ne.symm (hne_new hao_10002 hf10003)) hn15x_10038
  have hn58x_10037 : h10037 q10011_ = some (.inl (E.2.1 1, 20000, .inl (fun _ => 0)), a) := hM10037.at hn58x_10036 hao_10036 (hne_new hao_10035 hf10036)
  have hn58x_10038 : h10038 q10011_ = some (.inl (E.2.1 1, 20000, .inl (fun _ => 0)), a) := hu_n eh10038 (Ne.symm (hne_new hao_10010 hf10011)) hn58x_10037
  have hn58x_10039 : h10039 q10011_ = some (.inl (E.2.1 1, 20000, .inl (fun _ => 0)), a) := hu_n eh10039 (Ne.symm (hne_new hao_10010 hf10011)) hn58x_10038
  have hn67x_10037 : h10037 q10013_ = some (.inl (E.2.1 1, 20000, .inl (fun _ => 0)), a) := hM10037.at hn67x_10036 hao_10036 (hne_new hao_10035 hf10036)
  have hn67x_10038 : h10038 q10013_ = some (.inl (E.2.1 1, 20000, .inl (fun _ => 0)), a) := hu_n eh10038 (Ne.symm (hne_new hao_10012 hf10013)) hn67x_10037
  have hn67x_10039 : h10039 q10013_ = some (.inl (E.2.1 1, 20000, .inl (fun _ => 0)), a) := hu_n eh10039 (Ne.symm (hne_new hao_10012 hf10013)) hn67x_10038
  have hn76x_10037 : h10037 q10015_ = some (.inl (E.2.1 2, 20000, .inl (fun _ => 0)), a) := hM10037.at hn76x_10036 hao_10036 (hne_new hao_10035 hf10036)
  have hn76x_10038 : h10038 q10015_ = some (.inl (E.2.1 2, 20000, .inl (fun _ => 0)), a) := hu_n eh10038 (Ne.symm (hne_new hao_10014 hf10015)) hn76x_10037
  have hn76x_10039 : h10039 q10015_ = some (.inl (E.2.1 2, 20000, .inl (fun _ => 0)), a) := hu_n eh10039 (Ne.symm (hne_new hao_10014 hf10015)) hn76x_10038
  have hn84x_10037 : h10037 q10017_ = some (.inl (E.2.1 3, 8, .inl (fun _ => 0)), a) := hM10037.at hn84x_10036 hao_10036 (hne_new hao_10035 hf10036)
  have hn84x_10038 : h10038 q10017_ = some (.inl (E.2.1 3, 8, .inl (fun _ => 0)), a) := hu_n eh10038 (Ne.symm (hne_new hao_10016 hf10017)) hn84x_10037
  have hn84x_10039 : h10039 q10017_ = some (.inl (E.2.1 3, 8, .inl (fun _ => 0)), a) := hu_n eh10039 (Ne.symm (hne_new hao_10016 hf10017)) hn84x_10038
  have hn92x_10037 : h10037 q10019_ = some (.inl (E.2.1 0, 8, .inl (fun _ => 0)), a) := hM10037.at hn92x_10036 hao_10036 (hne_new hao_10035 hf10036)
  have hn92x_10038 : h10038 q10019_ = some (.inl (E.2.1 0, 8, .inl (fun _ => 0)), a) := hu_n eh10038 (Ne.symm (hne_new hao_10018 hf10019)) hn92x_10037
  have hn92x_10039 : h10039 q10019_ = some (.inl (E.2.1 0, 8, .inl (fun _ => 0)), a) := hu_n eh10039 (Ne.symm (hne_new hao_10018 hf10019)) hn92x_10038
  have hn100x_10037 : h10037 q10021_ = some (.inl (E.2.1 0, 8, .inl (fun _ => 0)), a) := hM10037.at hn100x_10036 hao_10036 (hne_new hao_10035 hf10036)
  have hn100x_10038 : h10038 q10021_ = some (.inl (E.2.1 0, 8, .inl (fun _ => 0)), a) := hu_n eh10038 (Ne.symm (hne_new hao_10020 hf10021)) hn100x_10037
  have hn100x_10039 : h10039 q10021_ = some (.inl (E.2.1 0, 8, .inl (fun _ => 0)), a) := hu_n eh10039 (Ne.symm (hne_new hao_10020 hf10021)) hn100x_10038
  have hn113x_10037 : h10037 q10024_ = some (.inl (E.2.1 6, 16, .inr (.inr (.inr (.inr (fun _ => none))))), a) := hM10037.at hn113x_10036 hao_10036 (hne_new hao_10035 hf10036)
  have hn113x_10038 : h10038 q10024_ = some (.inl (E.2.1 6, 16, .inr (.inr (.inr (.inr (fun _ => none))))), a) := hu_n eh10038 (Ne.symm (hne_new hao_10023 hf10024)) hn113x_10037
  have hn113x_10039 : h10039 q10024_ = some (.inl (E.2.1 6, 16, .inr (.inr (.inr (.inr (fun _ => none))))), a) := hu_n eh10039 (Ne.symm (hne_new hao_10023 hf10024)) hn113x_10038
  have hcw10027_10037 : h10037 q10026_ = some (.inr (2, [.ref qrow, .int 0, .int 0]), q10026_) := hM10037.at hcw10027_10036 hcw10027_10036 (hne_new hcw10027_10035 hf10036)
  have hcw10027_10038 : h10038 q10026_ = some (.inr (2, [.ref qrow, .int 0, .int 0]), q10026_) := hu_n eh10038 (Ne.symm (hne_new hao_10025 hf10026)) hcw10027_10037
  have hcw10027_10039 : h10039 q10026_ = some (.inr (2, [.ref qrow, .int 0, .int 0]), q10026_) := hu_n eh10039 (Ne.symm (hne_new hao_10025 hf10026)) hcw10027_10038
  have hcr10027_10037 : h10037 qrow = some (.inl (E.2.1 3, 4000, .inl (fun _ => 0)), q10026_) := hM10037.at hcr10027_10036 hcw10027_10036 (hne_new hcw10027_10035 hf10036)
  have hcr10027_10038 : h10038 qrow = some (.inl (E.2.1 3, 4000, .inl (fun _ => 0)), q10026_) := hu_n eh10038 (Ne.symm (hne_of hao_10027 hcr10027 (fun z => by cases z))) hcr10027_10037
  have hcr10027_10039 : h10039 qrow = some (.inl (E.2.1 3, 4000, .inl (fun _ => 0)), q10026_) := hu_n eh10039 (Ne.symm (hne_of hao_10027 hcr10027 (fun z => by cases z))) hcr10027_10038
  have hse10030_10037 : h10037 q10029_ = some (.inr (3, [.ref qdig, .int 0, .ref qdg]), q10029_) := hM10037.at hse10030_10036 hse10030_10036 (hne_new hse10030_10035 hf10036)
  have hse10030_10038 : h10038 q10029_ = some (.inr (3, [.ref qdig, .int 0, .ref qdg]), q10029_) := hu_n eh10038 (Ne.symm (hne_new hao_10028 hf10029)) hse10030_10037
  have hse10030_10039 : h10039 q10029_ = some (.inr (3, [.ref qdig, .int 0, .ref qdg]), q10029_) := hu_n eh10039 (Ne.symm (hne_new hao_10028 hf10029)) hse10030_10038
  have hsg10030_10037 : h10037 qdig = some (.inl (E.2.1 0, 20, .inl (fun _ => 0)), q10029_) := hM10037.at hsg10030_10036 hse10030_10036 (hne_new hse10030_10035 hf10036)
  have hsg10030_10038 : h10038 qdig = some (.inl (E.2.1 0, 20, .inl (fun _ => 0)), q10029_) := hu_n eh10038 (Ne.symm haqdig) hsg10030_10037
  have hsg10030_10039 : h10039 qdig = some (.inl (E.2.1 0, 20, .inl (fun _ => 0)), q10029_) := hu_n eh10039 (Ne.symm haqdig) hsg10030_10038
  have hdo10030_10037 : h10037 qdg = some (.inr (4, [.ref d1, .ref d2, .ref d3, .ref d4, .int 0]), qdg) := hM10037.at hdo10030_10036 hdo10030_10036 (hne_new hdo10030_10035 hf10036)
  have hdo10030_10038 : h10038 qdg = some (.inr (4, [.ref d1, .ref d2, .ref d3, .ref d4, .int 0]), qdg) := hu_n eh10038 (Ne.symm hag) hdo10030_10037
  have hdo10030_10039 : h10039 qdg = some (.inr (4, [.ref d1, .ref d2, .ref d3, .ref d4, .int 0]), qdg) := hu_n eh10039 (Ne.symm hag) hdo10030_10038
  have hd110030_10037 : h10037 d1 = some (.inl (E.2.1 0, 8, .inl (fun _ => 0)), qdg) := hM10037.at hd110030_10036 hdo10030_10036 (hne_new hdo10030_10035 hf10036)
  have hd110030_10038 : h10038 d1 = some (.inl (E.2.1 0, 8, .inl (fun _ => 0)), qdg) := hu_n eh10038 (Ne.symm had1) hd110030_10037
  have hd110030_10039 : h10039 d1 = some (.inl (E.2.1 0, 8, .inl (fun _ => 0)), qdg) := hu_n eh10039 (Ne.symm had1) hd110030_10038
  have hd210030_10037 : h10037 d2 = some (.inl (E.2.1 0, 8, .inl (fun _ => 0)), qdg) := hM10037.at hd210030_10036 hdo10030_10036 (hne_new hdo10030_10035 hf10036)
  have hd210030_10038 : h10038 d2 = some (.inl (E.2.1 0, 8, .inl (fun _ => 0)), qdg) := hu_n eh10038 (Ne.symm had2) hd210030_10037
  have hd210030_10039 : h10039 d2 = some (.inl (E.2.1 0, 8, .inl (fun _ => 0)), qdg) := hu_n eh10039 (Ne.symm had2) hd210030_10038
  have hd310030_10037 : h10037 d3 = some (.inl (E.2.1 0, 64, .inl (fun _ => 0)), qdg) := hM10037.at hd310030_10036 hdo10030_10036 (hne_new hdo10030_10035 hf10036)
  have hd310030_10038 : h10038 d3 = some (.inl (E.2.1 0, 64, .inl (fun _ => 0)), qdg) := hu_n eh10038 (Ne.symm had3) hd310030_10037
  have hd310030_10039 : h10039 d3 = some (.inl (E.2.1 0, 64, .inl (fun _ => 0)), qdg) := hu_n eh10039 (Ne.symm had3) hd310030_10038
  have hd410030_10037 : h10037 d4 = some (.inl (E.2.1 1, 64, .inl (fun _ => 0)), qdg) := hM10037.at hd410030_10036 hdo10030_10036 (hne_new hdo10030_10035 hf10036)
  have hd410030_10038 : h10038 d4 = some (.inl (E.2.1 1, 64, .inl (fun _ => 0)), qdg) := hu_n eh10038 (Ne.symm had4) hd410030_10037
  have hd410030_10039 : h10039 d4 = some (.inl (E.2.1 1, 64, .inl (fun _ => 0)), qdg) := hu_n eh10039 (Ne.symm had4) hd410030_10038
  have hpo10034_10037 : h10037 q10033_ = some (.inr (5, [.ref a]), q10033_) := hM10037.at hpo10034_10036 hpo10034_10036 (hne_new hpo10034_10035 hf10036)
  have hpo10034_10038 : h10038 q10033_ = some (.inr (5, [.ref a]), q10033_) := hu_n eh10038 (Ne.symm (hne_new hao_10032 hf10033)) hpo10034_10037
  have hpo10034_10039 : h10039 q10033_ = some (.inr (5, [.ref a]), q10033_) := hu_n eh10039 (Ne.symm (hne_new hao_10032 hf10033)) hpo10034_10038
  have hco10037_10038 : h10038 q10036_ = some (.inr (6, [.ref a, .ref (Bq10037 0), .ref (Bq10037 (0 + 1))]), q10036_) := hu_n eh10038 (Ne.symm (hne_new hao_10035 hf10036)) hco10037
  have hco10037_10039 : h10039 q10036_ = some (.inr (6, [.ref a, .ref (Bq10037 0), .ref (Bq10037 (0 + 1))]), q10036_) := hu_n eh10039 (Ne.symm (hne_new hao_10035 hf10036)) hco10037_10038
  have hrn_10040 : h10040 q10040_ = some (.inr (7, [.null, .null, .null, .null, .null, .null, .null, .null, .null, .null, .null]), q10040_) := hu_s eh10040
  refine lv_dup hx hb dX1_init_185 rfl ?_
  have hao_10040 : h10040 a = some (.inr (0, [.ref q10001_, .int 0, .ref q10003_, .int 0, .int 0, .int (nI 1), .int (nI 100), .int (nI 1), .int (nI 10), .int (nI 11), .int (nI 10), .ref q10011_, .ref q10013_, .ref q10015_, .ref q10017_, .ref q10019_, .ref q10021_, .int 0, .int 0, .int 0, .int 0, .int (nI 0 - 1), .int 0, .ref q10024_, .int 0, .ref q10026_, .ref q10029_, .ref q10026_, .ref q10033_, .ref q10036_, .ref q10033_, .null, .null, .null, .null, .null, .null, .null, .null, .null, .null]), a) := hu_w eh10040 hf10040 hao_10039
  have hsc_10040 : h10040 sc = some (.inl xs, sc) := hu_w eh10040 hf10040 hsc_10039
  have hn7x_10040 : h10040 q10001_ = some (.inl (E.2.1 0, 8, .inl (fun _ => 0)), a) := hu_w eh10040 hf10040 hn7x_10039
  have hn15x_10040 : h10040 q10003_ = some (.inl (E.2.1 0, 64, .inl (fun _ => 0)), a) := hu_w eh10040 hf10040 hn15x_10039
  have hn58x_10040 : h10040 q10011_ = some (.inl (E.2.1 1, 20000, .inl (fun _ => 0)), a) := hu_w eh10040 hf10040 hn58x_10039
  have hn67x_10040 : h10040 q10013_ = some (.inl (E.2.1 1, 20000, .inl (fun _ => 0)), a) := hu_w eh10040 hf10040 hn67x_10039
  have hn76x_10040 : h10040 q10015_ = some (.inl (E.2.1 2, 20000, .inl (fun _ => 0)), a) := hu_w eh10040 hf10040 hn76x_10039
  have hn84x_10040 : h10040 q10017_ = some (.inl (E.2.1 3, 8, .inl (fun _ => 0)), a) := hu_w eh10040 hf10040 hn84x_10039
  have hn92x_10040 : h10040 q10019_ = some (.inl (E.2.1 0, 8, .inl (fun _ => 0)), a) := hu_w eh10040 hf10040 hn92x_10039
  have hn100x_10040 : h10040 q10021_ = some (.inl (E.2.1 0, 8, .inl (fun _ => 0)), a) := hu_w eh10040 hf10040 hn100x_10039
  have hn113x_10040 : h10040 q10024_ = some (.inl (E.2.1 6, 16, .inr (.inr (.inr (.inr (fun _ => none))))), a) := hu_w eh10040 hf10040 hn113x_10039
  have hcw10027_10040 : h10040 q10026_ = some (.inr (2, [.ref qrow, .int 0, .int 0]), q10026_) := hu_w eh10040 hf10040 hcw10027_10039
  have hcr10027_10040 : h10040 qrow = some (.inl (E.2.1 3, 4000, .inl (fun _ => 0)), q10026_) := hu_w eh10040 hf10040 hcr10027_10039
  have hse10030_10040 : h10040 q10029_ = some (.inr (3, [.ref qdig, .int 0, .ref qdg]), q10029_) := hu_w eh10040 hf10040 hse10030_10039
  have hsg10030_10040 : h10040 qdig = some (.inl (E.2.1 0, 20, .inl (fun _ => 0)), q10029_) := hu_w eh10040 hf10040 hsg10030_10039
  have hdo10030_10040 : h10040 qdg = some (.inr (4, [.ref d1, .ref d2, .ref d3, .ref d4, .int 0]), qdg) := hu_w eh10040 hf10040 hdo10030_10039
  have hd110030_10040 : h10040 d1 = some (.inl (E.2.1 0, 8, .inl (fun _ => 0)), qdg) := hu_w eh10040 hf10040 hd110030_10039
  have hd210030_10040 : h10040 d2 = some (.inl (E.2.1 0, 8, .inl (fun _ => 0)), qdg) := hu_w eh10040 hf10040 hd210030_10039
  have hd310030_10040 : h10040 d3 = some (.inl (E.2.1 0, 64, .inl (fun _ => 0)), qdg) := hu_w eh10040 hf10040 hd310030_10039
  have hd410030_10040 : h10040 d4 = some (.inl (E.2.1 1, 64, .inl (fun _ => 0)), qdg) := hu_w eh10040 hf10040 hd410030_10039
  have hpo10034_10040 : h10040 q10033_ = some (.inr (5, [.ref a]), q10033_) := hu_w eh10040 hf10040 hpo10034_10039
  have hco10037_10040 : h10040 q10036_ = some (.inr (6, [.ref a, .ref (Bq10037 0), .ref (Bq10037 (0 + 1))]), q10036_) := hu_w eh10040 hf10040 hco10037_10039
  have hQ10037_10040 : PB E h10040 Bq10037 cq10037 2 := PB.kept (O := fun _ => False) (hu_fn eh10040 Fr.rf hf10040) (fun _ _ q => q) hQ10037_10039
  refine hg_IN C T10040 hl.1 (m_X8_init hQ10037_10040 hrn_10040) 2 rfl q194 q60 q195 rfl kd_X8_init rfl rfl ⟨Nat.le_of_ble_eq_true rfl, Nat.le_of_ble_eq_true rfl⟩ (Nat.le_of_ble_eq_true rfl) dX1_init_186 ⟨by show 0 + 1 + 1 + 1 + 1 + 1 + 1 + 1 + 1 + 1 + 1 + 1 + 1 + 6 + 1 + 1 + 4 + 1 + 22 ≤ 4200; omega, by show 0 + 8 + 64 + 20000 + 20000 + 20000 + 8 + 8 + 8 + 16 + 3 + 4000 + 3 + 169 + 1 + 3 + 132 + 11 + 726 ≤ 100000; omega⟩ (fun rv h10041 dc10041 ds10041 H10041 locs10041 hp10041 T10041 => ?_)
  obtain ⟨rfl, Bq10041, cq10041, hQ10041, hk10041, hac10041, hre10041, hM10041, rfl, rfl⟩ := hp10041
  have hN_10041 : FN a h h10041 := hN_10039.nest hf10040 eh10040 hM10041
  refine W.eq (g2 := F0 m 189 ls [.ref q10040_, .ref a]) rfl ?_
  have hao_10041 : h10041 a = some (.inr (0, [.ref q10001_, .int 0, .ref q10003_, .int 0, .int 0, .int (nI 1), .int (nI 100), .int (nI 1), .int (nI 10), .int (nI 11), .int (nI 10), .ref q10011_, .ref q10013_, .ref q10015_, .ref q10017_, .ref q10019_, .ref q10021_, .int 0, .int 0, .int 0, .int 0, .int (nI 0 - 1), .int 0, .ref q10024_, .int 0, .ref q10026_, .ref q10029_, .ref q10026_, .ref q10033_, .ref q10036_, .ref q10033_, .null, .null, .null, .null, .null, .null, .null, .null, .null, .null]), a) := hM10041.at hao_10040 hao_10040 (hne_new hao_10039 hf10040)
  refine hr_putF C T10041 hin hao_10041 rfl in_X1 tyX1 tyX1_ok nmX1 31 (by decide) q331 rfl rfl rfl rfl rfl (Nat.le_of_ble_eq_true rfl) dX1_init_189 (fun h10042 H10042 locs10042 eh10042 T10042 => ?_)
  have hao_10042 : h10042 a = some (.inr (0, [.ref q10001_, .int 0, .ref q10003_, .int 0, .int 0, .int (nI 1), .int (nI 100), .int (nI 1), .int (nI 10), .int (nI 11), .int (nI 10), .ref q10011_, .ref q10013_, .ref q10015_, .ref q10017_, .ref q10019_, .ref q10021_, .int 0, .int 0, .int 0, .int 0, .int (nI 0 - 1), .int 0, .ref q10024_, .int 0, .ref q10026_, .ref q10029_, .ref q10026_, .ref q10033_, .ref q10036_, .ref q10033_, .ref q10040_, .null, .null, .null, .null, .null, .null, .null, .null, .null]), a) := hu_s eh10042
  refine lv_aload_n hx hb dX1_init_192 rfl (lv_at hl 0 rfl) ?_
  have hN_10042 : FN a h h10042 := hN_10041.up hao_10041 eh10042
  have hQ10041_10042 : PB E h10042 Bq10041 cq10041 13 := PB.kept (O := (· = a)) (hu_f eh10042 Fr.rf hao_10041 rfl) (hQ10041.neobj hao_10041 (by decide)) hQ10041
  refine hr_new C T10042 (fun q => q) (ci := 1) rfl in_X7 tyX7 tyX7_ok q233 q165 q59 (fs := [.null, .int 0]) dfX7 (by show 0 + 1 + 1 + 1 + 1 + 1 + 1 + 1 + 1 + 1 + 1 + 1 + 1 + 6 + 1 + 1 + 4 + 1 + 22 + 1 ≤ 4200; omega) (by show 0 + 8 + 64 + 20000 + 20000 + 20000 + 8 + 8 + 8 + 16 + 3 + 4000 + 3 + 169 + 1 + 3 + 132 + 11 + 726 + 2 ≤ 100000; omega) dX1_init_193 (fun h10043 q10043_ H10043 hf10043 eh10043 T10043 => ?_)
  have hsc_10041 : h10041 sc = some (.inl xs, sc) := hM10041.at hsc_10040 hsc_10040 (hne_new hsc_10039 hf10040)
  have hsc_10042 : h10042 sc = some (.inl xs, sc) := hu_n eh10042 hsa hsc_10041
  have hn7x_10041 : h10041 q10001_ = some (.inl (E.2.1 0, 8, .inl (fun _ => 0)), a) := hM10041.at hn7x_10040 hao_10040 (hne_new hao_10039 hf10040)
  have hn7x_10042 : h10042 q10001_ = some (.inl (E.2.1 0, 8, .inl (fun _ => 0)), a) := hu_n eh10042 (Ne.symm (hne_new hao hf10001)) hn7x_10041
  have hn15x_10041 : h10041 q10003_ = some (.inl (E.2.1 0, 64, .inl (fun _ => 0)), a) := hM10041.at hn15x_10040 hao_10040 (hne_new hao_10039 hf10040)
  have hn15x_10042 : h10042 q10003_ = some (.inl (E.2.1 0, 64, .inl (fun _ => 0)), a) := hu_n eh10042 (Ne.symm (hne_new hao_10002 hf10003)) hn15x_10041
  have hn58x_10041 : h10041 q10011_ = some (.inl (E.2.1 1, 20000, .inl (fun _ => 0)), a) := hM10041.at hn58x_10040 hao_10040 (hne_new hao_10039 hf10040)
  have hn58x_10042 : h10042 q10011_ = some (.inl (E.2.1 1, 20000, .inl (fun _ => 0)), a) := hu_n eh10042 (Ne.symm (hne_new hao_10010 hf10011)) hn58x_10041
  have hn67x_10041 : h10041 q10013_ = some (.inl (E.2.1 1, 20000, .inl (fun _ => 0)), a) := hM10041.at hn67x_10040 hao_10040 (hne_new hao_10039 hf10040)
  have hn67x_10042 : h10042 q10013_ = some (.inl (E.2.1 1, 20000, .inl (fun _ => 0)), a) := hu_n eh10042 (Ne.symm (hne_new hao_10012 hf10013)) hn67x_10041
  have hn76x_10041 : h10041 q10015_ = some (.inl (E.2.1 2, 20000, .inl (fun _ => 0)), a) := hM10041.at hn76x_10040 hao_10040 (hne_new hao_10039 hf10040)
  have hn76x_10042 : h10042 q10015_ = some (.inl (E.2.1 2, 20000, .inl (fun _ => 0)), a) := hu_n eh10042 (Ne.symm (hne_new hao_10014 hf10015)) hn76x_10041
  have hn84x_10041 : h10041 q10017_ = some (.inl (E.2.1 3, 8, .inl (fun _ => 0)), a) := hM10041.at hn84x_10040 hao_10040 (hne_new hao_10039 hf10040)
  have hn84x_10042 : h10042 q10017_ = some (.inl (E.2.1 3, 8, .inl (fun _ => 0)), a) := hu_n eh10042 (Ne.symm (hne_new hao_10016 hf10017)) hn84x_10041
  have hn92x_10041 : h10041 q10019_ = some (.inl (E.2.1 0, 8, .inl (fun _ => 0)), a) := hM10041.at hn92x_10040 hao_10040 (hne_new hao_10039 hf10040)
  have hn92x_10042 : h10042 q10019_ = some (.inl (E.2.1 0, 8, .inl (fun _ => 0)), a) := hu_n eh10042 (Ne.symm (hne_new hao_10018 hf10019)) hn92x_10041
  have hn100x_10041 : h10041 q10021_ = some (.inl (E.2.1 0, 8, .inl (fun _ => 0)), a) := hM10041.at hn100x_10040 hao_10040 (hne_new hao_10039 hf10040)
  have hn100x_10042 : h10042 q10021_ = some (.inl (E.2.1 0, 8, .inl (fun _ => 0)), a) := hu_n eh10042 (Ne.symm (hne_new hao_10020 hf10021)) hn100x_10041
  have hn113x_10041 : h10041 q10024_ = some (.inl (E.2.1 6, 16, .inr (.inr (.inr (.inr (fun _ => none))))), a) := hM10041.at hn113x_10040 hao_10040 (hne_new hao_10039 hf10040)
  have hn113x_10042 : h10042 q10024_ = some (.inl (E.2.1 6, 16, .inr (.inr (.inr (.inr (fun _ => none))))), a) := hu_n eh10042 (Ne.symm (hne_new hao_10023 hf10024)) hn113x_10041
  have hcw10027_10041 : h10041 q10026_ = some (.inr (2, [.ref qrow, .int 0, .int 0]), q10026_) := hM10041.at hcw10027_10040 hcw10027_10040 (hne_new hcw10027_10039 hf10040)
  have hcw10027_10042 : h10042 q10026_ = some (.inr (2, [.ref qrow, .int 0, .int 0]), q10026_) := hu_n eh10042 (Ne.symm (hne_new hao_10025 hf10026)) hcw10027_10041
  have hcr10027_10041 : h10041 qrow = some (.inl (E.2.1 3, 4000, .inl (fun _ => 0)), q10026_) := hM10041.at hcr10027_10040 hcw10027_10040 (hne_new hcw10027_10039 hf10040)
  have hcr10027_10042 : h10042 qrow = some (.inl (E.2.1 3, 4000, .inl (fun _ => 0)), q10026_) := hu_n eh10042 (Ne.symm (hne_of hao_10027 hcr10027 (fun z => by cases z))) hcr10027_10041
  have hse10030_10041 : h10041 q10029_ = some (.inr (3, [.ref qdig, .int 0, .ref qdg]), q10029_) := hM10041.at hse10030_10040 hse10030_10040 (hne_new hse10030_10039 hf10040)
  have hse10030_10042 : h10042 q10029_ = some (.inr (3, [.ref qdig, .int 0, .ref qdg]), q10029_) := hu_n eh10042 (Ne.symm (hne_new hao_10028 hf10029)) hse10030_10041
  have hsg10030_10041 : h10041 qdig = some (.inl (E.2.1 0, 20, .inl (fun _ => 0)), q10029_) := hM10041.at hsg10030_10040 hse10030_10040 (hne_new hse10030_10039 hf10040)
  have hsg10030_10042 : h10042 qdig = some (.inl (E.2.1 0, 20, .inl (fun _ => 0)), q10029_) := hu_n eh10042 (Ne.symm haqdig) hsg10030_10041
  have hdo10030_10041 : h10041 qdg = some (.inr (4, [.ref d1, .ref d2, .ref d3, .ref d4, .int 0]), qdg) := hM10041.at hdo10030_10040 hdo10030_10040 (hne_new hdo10030_10039 hf10040)
  have hdo10030_10042 : h10042 qdg = some (.inr (4, [.ref d1, .ref d2, .ref d3, .ref d4, .int 0]), qdg) := hu_n eh10042 (Ne.symm hag) hdo10030_10041
  have hd110030_10041 : h10041 d1 = some (.inl (E.2.1 0, 8, .inl (fun _ => 0)), qdg) := hM10041.at hd110030_10040 hdo10030_10040 (hne_new hdo10030_10039 hf10040)
  have hd110030_10042 : h10042 d1 = some (.inl (E.2.1 0, 8, .inl (fun _ => 0)), qdg) := hu_n eh10042 (Ne.symm had1) hd110030_10041
  have hd210030_10041 : h10041 d2 = some (.inl (E.2.1 0, 8, .inl (fun _ => 0)), qdg) := hM10041.at hd210030_10040 hdo10030_10040 (hne_new hdo10030_10039 hf10040)
  have hd210030_10042 : h10042 d2 = some (.inl (E.2.1 0, 8, .inl (fun _ => 0)), qdg) := hu_n eh10042 (Ne.symm had2) hd210030_10041
  have hd310030_10041 : h10041 d3 = some (.inl (E.2.1 0, 64, .inl (fun _ => 0)), qdg) := hM10041.at hd310030_10040 hdo10030_10040 (hne_new hdo10030_10039 hf10040)
  have hd310030_10042 : h10042 d3 = some (.inl (E.2.1 0, 64, .inl (fun _ => 0)), qdg) := hu_n eh10042 (Ne.symm had3) hd310030_10041
  have hd410030_10041 : h10041 d4 = some (.inl (E.2.1 1, 64, .inl (fun _ => 0)), qdg) := hM10041.at hd410030_10040 hdo10030_10040 (hne_new hdo10030_10039 hf10040)
  have hd410030_10042 : h10042 d4 = some (.inl (E.2.1 1, 64, .inl (fun _ => 0)), qdg) := hu_n eh10042 (Ne.symm had4) hd410030_10041
  have hpo10034_10041 : h10041 q10033_ = some (.inr (5, [.ref a]), q10033_) := hM10041.at hpo10034_10040 hpo10034_10040 (hne_new hpo10034_10039 hf10040)
  have hpo10034_10042 : h10042 q10033_ = some (.inr (5, [.ref a]), q10033_) := hu_n eh10042 (Ne.symm (hne_new hao_10032 hf10033)) hpo10034_10041
  have hco10037_10041 : h10041 q10036_ = some (.inr (6, [.ref a, .ref (Bq10037 0), .ref (Bq10037 (0 + 1))]), q10036_) := hM10041.at hco10037_10040 hco10037_10040 (hne_new hco10037_10039 hf10040)
  have hco10037_10042 : h10042 q10036_ = some (.inr (6, [.ref a, .ref (Bq10037 0), .ref (Bq10037 (0 + 1))]), q10036_) := hu_n eh10042 (Ne.symm (hne_new hao_10035 hf10036)) hco10037_10041
  have hre10041_10042 : h10042 q10040_ = some (.inr (7, [.ref (Bq10041 2), .ref (Bq10041 (2 + 1)), .ref (Bq10041 (2 + 2)), .ref (Bq10041 (2 + 3)), .ref (Bq10041 (2 + 4)), .ref (Bq10041 (2 + 5)), .ref (Bq10041 (2 + 6)), .ref (Bq10041 (2 + 7)), .ref (Bq10041 (2 + 8)), .ref (Bq10041 (2 + 9)), .ref (Bq10041 (2 + 10))]), q10040_) := hu_n eh10042 (Ne.symm (hne_new hao_10039 hf10040)) hre10041
  have hnb_10043 : h10043 q10043_ = some (.inr (1, [.null, .int 0]), q10043_) := hu_s eh10043
  refine lv_dup hx hb dX1_init_196 rfl ?_
  refine lv_bipush (v := nI 64) hx hb dX1_init_197 rfl ?_
  have hao_10043 : h10043 a = some (.inr (0, [.ref q10001_, .int 0, .ref q10003_, .int 0, .int 0, .int (nI 1), .int (nI 100), .int (nI 1), .int (nI 10), .int (nI 11), .int (nI 10), .ref q10011_, .ref q10013_, .ref q10015_, .ref q10017_, .ref q10019_, .ref q10021_, .int 0, .int 0, .int 0, .int 0, .int (nI 0 - 1), .int 0, .ref q10024_, .int 0, .ref q10026_, .ref q10029_, .ref q10026_, .ref q10033_, .ref q10036_, .ref q10033_, .ref q10040_, .null, .null, .null, .null, .null, .null, .null, .null, .null]), a) := hu_w eh10043 hf10043 hao_10042
  have hsc_10043 : h10043 sc = some (.inl xs, sc) := hu_w eh10043 hf10043 hsc_10042
  have hn7x_10043 : h10043 q10001_ = some (.inl (E.2.1 0, 8, .inl (fun _ => 0)), a) := hu_w eh10043 hf10043 hn7x_10042
  have hn15x_10043 : h10043 q10003_ = some (.inl (E.2.1 0, 64, .inl (fun _ => 0)), a) := hu_w eh10043 hf10043 hn15x_10042
  have hn58x_10043 : h10043 q10011_ = some (.inl (E.2.1 1, 20000, .inl (fun _ => 0)), a) := hu_w eh10043 hf10043 hn58x_10042
  have hn67x_10043 : h10043 q10013_ = some (.inl (E.2.1 1, 20000, .inl (fun _ => 0)), a) := hu_w eh10043 hf10043 hn67x_10042
  have hn76x_10043 : h10043 q10015_ = some (.inl (E.2.1 2, 20000, .inl (fun _ => 0)), a) := hu_w eh10043 hf10043 hn76x_10042
  have hn84x_10043 : h10043 q10017_ = some (.inl (E.2.1 3, 8, .inl (fun _ => 0)), a) := hu_w eh10043 hf10043 hn84x_10042
  have hn92x_10043 : h10043 q10019_ = some (.inl (E.2.1 0, 8, .inl (fun _ => 0)), a) := hu_w eh10043 hf10043 hn92x_10042
  have hn100x_10043 : h10043 q10021_ = some (.inl (E.2.1 0, 8, .inl (fun _ => 0)), a) := hu_w eh10043 hf10043 hn100x_10042
  have hn113x_10043 : h10043 q10024_ = some (.inl (E.2.1 6, 16, .inr (.inr (.inr (.inr (fun _ => none))))), a) := hu_w eh10043 hf10043 hn113x_10042
  have hcw10027_10043 : h10043 q10026_ = some (.inr (2, [.ref qrow, .int 0, .int 0]), q10026_) := hu_w eh10043 hf10043 hcw10027_10042
  have hcr10027_10043 : h10043 qrow = some (.inl (E.2.1 3, 4000, .inl (fun _ => 0)), q10026_) := hu_w eh10043 hf10043 hcr10027_10042
  have hse10030_10043 : h10043 q10029_ = some (.inr (3, [.ref qdig, .int 0, .ref qdg]), q10029_) := hu_w eh10043 hf10043 hse10030_10042
  have hsg10030_10043 : h10043 qdig = some (.inl (E.2.1 0, 20, .inl (fun _ => 0)), q10029_) := hu_w eh10043 hf10043 hsg10030_10042
  have hdo10030_10043 : h10043 qdg = some (.inr (4, [.ref d1, .ref d2, .ref d3, .ref d4, .int 0]), qdg) := hu_w eh10043 hf10043 hdo10030_10042
  have hd110030_10043 : h10043 d1 = some (.inl (E.2.1 0, 8, .inl (fun _ => 0)), qdg) := hu_w eh10043 hf10043 hd110030_10042
  have hd210030_10043 : h10043 d2 = some (.inl (E.2.1 0, 8, .inl (fun _ => 0)), qdg) := hu_w eh10043 hf10043 hd210030_10042
  have hd310030_10043 : h10043 d3 = some (.inl (E.2.1 0, 64, .inl (fun _ => 0)), qdg) := hu_w eh10043 hf10043 hd310030_10042
  have hd410030_10043 : h10043 d4 = some (.inl (E.2.1 1, 64, .inl (fun _ => 0)), qdg) := hu_w eh10043 hf10043 hd410030_10042
  have hpo10034_10043 : h10043 q10033_ = some (.inr (5, [.ref a]), q10033_) := hu_w eh10043 hf10043 hpo10034_10042
  have hco10037_10043 : h10043 q10036_ = some (.inr (6, [.ref a, .ref (Bq10037 0), .ref (Bq10037 (0 + 1))]), q10036_) := hu_w eh10043 hf10043 hco10037_10042
  have hre10041_10043 : h10043 q10040_ = some (.inr (7, [.ref (Bq10041 2), .ref (Bq10041 (2 + 1)), .ref (Bq10041 (2 + 2)), .ref (Bq10041 (2 + 3)), .ref (Bq10041 (2 + 4)), .ref (Bq10041 (2 + 5)), .ref (Bq10041 (2 + 6)), .ref (Bq10041 (2 + 7)), .ref (Bq10041 (2 + 8)), .ref (Bq10041 (2 + 9)), .ref (Bq10041 (2 + 10))]), q10040_) := hu_w eh10043 hf10043 hre10041_10042
  have hQ10041_10043 : PB E h10043 Bq10041 cq10041 13 := PB.kept (O := fun _ => False) (hu_fn eh10043 Fr.rf hf10043) (fun _ _ q => q) hQ10041_10042
  refine hg_I C T10043 hl.1 (m_X7_init hnb_10043 (by decide) (by decide)) q234 q167 q59 q168 rfl kd_X7_init rfl rfl ⟨Nat.le_of_ble_eq_true rfl, Nat.le_of_ble_eq_true rfl⟩ (Nat.le_of_ble_eq_true rfl) dX1_init_199 ⟨by show 0 + 1 + 1 + 1 + 1 + 1 + 1 + 1 + 1 + 1 + 1 + 1 + 1 + 6 + 1 + 1 + 4 + 1 + 22 + 1 + 1 ≤ 4200; omega, by show 0 + 8 + 64 + 20000 + 20000 + 20000 + 8 + 8 + 8 + 16 + 3 + 4000 + 3 + 169 + 1 + 3 + 132 + 11 + 726 + 2 + 64 ≤ 100000; omega⟩ (fun rv h10044 dc10044 ds10044 H10044 locs10044 hp10044 T10044 => ?_)
  obtain ⟨rfl, hbg10044, hF10044, rfl, rfl⟩ := hp10044
  obtain ⟨Bq10044, cq10044, hQ10044, hk10044, hat10044, hac10044⟩ := hQ10041_10042.add2 hf10043 eh10043 hF10044 hbg10044
  have hN_10044 : FN a h h10044 := hN_10042.nest hf10043 eh10043 hF10044.fn
  refine W.eq (g2 := F0 m 202 ls [.ref q10043_, .ref a]) rfl ?_
  have hao_10044 : h10044 a = some (.inr (0, [.ref q10001_, .int 0, .ref q10003_, .int 0, .int 0, .int (nI 1), .int (nI 100), .int (nI 1), .int (nI 10), .int (nI 11), .int (nI 10), .ref q10011_, .ref q10013_, .ref q10015_, .ref q10017_, .ref q10019_, .ref q10021_, .int 0, .int 0, .int 0, .int 0, .int (nI 0 - 1), .int 0, .ref q10024_, .int 0, .ref q10026_, .ref q10029_, .ref q10026_, .ref q10033_, .ref q10036_, .ref q10033_, .ref q10040_, .null, .null, .null, .null, .null, .null, .null, .null, .null]), a) := hF10044 _ _ hao_10043 (hne_new hao_10042 hf10043)
  refine hr_putF C T10044 hin hao_10044 rfl in_X1 tyX1 tyX1_ok nmX1 32 (by decide) q333 rfl rfl rfl rfl rfl (Nat.le_of_ble_eq_true rfl) dX1_init_202 (fun h10045 H10045 locs10045 eh10045 T10045 => ?_)
  have hao_10045 : h10045 a = some (.inr (0, [.ref q10001_, .int 0, .ref q10003_, .int 0, .int 0, .int (nI 1), .int (nI 100), .int (nI 1), .int (nI 10), .int (nI 11), .int (nI 10), .ref q10011_, .ref q10013_, .ref q10015_, .ref q10017_, .ref q10019_, .ref q10021_, .int 0, .int 0, .int 0, .int 0, .int (nI 0 - 1), .int 0, .ref q10024_, .int 0, .ref q10026_, .ref q10029_, .ref q10026_, .ref q10033_, .ref q10036_, .ref q10033_, .ref q10040_, .ref q10043_, .null, .null, .null, .null, .null, .null, .null, .null]), a) := hu_s eh10045
  refine lv_aload_n hx hb dX1_init_205 rfl (lv_at hl 0 rfl) ?_
  have hN_10045 : FN a h h10045 := hN_10044.up hao_10044 eh10045
  have hQ10044_10045 : PB E h10045 Bq10044 cq10044 14 := PB.kept (O := (· = a)) (hu_f eh10045 Fr.rf hao_10044 rfl) (hQ10044.neobj hao_10044 (by decide)) hQ10044
  refine hr_new C T10045 (fun q => q) (ci := 1) rfl in_X7 tyX7 tyX7_ok q233 q165 q59 (fs := [.null, .int 0]) dfX7 (by show 0 + 1 + 1 + 1 + 1 + 1 + 1 + 1 + 1 + 1 + 1 + 1 + 1 + 6 + 1 + 1 + 4 + 1 + 22 + 1 + 1 + 1 ≤ 4200; omega) (by show 0 + 8 + 64 + 20000 + 20000 + 20000 + 8 + 8 + 8 + 16 + 3 + 4000 + 3 + 169 + 1 + 3 + 132 + 11 + 726 + 2 + 64 + 2 ≤ 100000; omega) dX1_init_206 (fun h10046 q10046_ H10046 hf10046 eh10046 T10046 => ?_)
  have hsc_10044 : h10044 sc = some (.inl xs, sc) := hF10044 _ _ hsc_10043 (hne_new hsc_10042 hf10043)
  have hsc_10045 : h10045 sc = some (.inl xs, sc) := hu_n eh10045 hsa hsc_10044
  have hn7x_10044 : h10044 q10001_ = some (.inl (E.2.1 0, 8, .inl (fun _ => 0)), a) := hF10044 _ _ hn7x_10043 (hne_new hao_10042 hf10043)
  have hn7x_10045 : h10045 q10001_ = some (.inl (E.2.1 0, 8, .inl (fun _ => 0)), a) := hu_n eh10045 (Ne.symm (hne_new hao hf10001)) hn7x_10044
  have hn15x_10044 : h10044 q10003_ = some (.inl (E.2.1 0, 64, .inl (fun _ => 0)), a) := hF10044 _ _ hn15x_10043 (hne_new hao_10042 hf10043)
  have hn15x_10045 : h10045 q10003_ = some (.inl (E.2.1 0, 64, .inl (fun _ => 0)), a) := hu_n eh10045 (Ne.symm (hne_new hao_10002 hf10003)) hn15x_10044
  have hn58x_10044 : h10044 q10011_ = some (.inl (E.2.1 1, 20000, .inl (fun _ => 0)), a) := hF10044 _ _ hn58x_10043 (hne_new hao_10042 hf10043)
  have hn58x_10045 : h10045 q10011_ = some (.inl (E.2.1 1, 20000, .inl (fun _ => 0)), a) := hu_n eh10045 (Ne.symm (hne_new hao_10010 hf10011)) hn58x_10044
  have hn67x_10044 : h10044 q10013_ = some (.inl (E.2.1 1, 20000, .inl (fun _ => 0)), a) := hF10044 _ _ hn67x_10043 (hne_new hao_10042 hf10043)
  have hn67x_10045 : h10045 q10013_ = some (.inl (E.2.1 1, 20000, .inl (fun _ => 0)), a) := hu_n eh10045 (Ne.symm (hne_new hao_10012 hf10013)) hn67x_10044
  have hn76x_10044 : h10044 q10015_ = some (.inl (E.2.1 2, 20000, .inl (fun _ => 0)), a) := hF10044 _ _ hn76x_10043 (hne_new hao_10042 hf10043)
  have hn76x_10045 : h10045 q10015_ = some (.inl (E.2.1 2, 20000, .inl (fun _ => 0)), a) := hu_n eh10045 (Ne.symm (hne_new hao_10014 hf10015)) hn76x_10044
  have hn84x_10044 : h10044 q10017_ = some (.inl (E.2.1 3, 8, .inl (fun _ => 0)), a) := hF10044 _ _ hn84x_10043 (hne_new hao_10042 hf10043)
  have hn84x_10045 : h10045 q10017_ = some (.inl (E.2.1 3, 8, .inl (fun _ => 0)), a) := hu_n eh10045 (Ne.symm (hne_new hao_10016 hf10017)) hn84x_10044
  have hn92x_10044 : h10044 q10019_ = some (.inl (E.2.1 0, 8, .inl (fun _ => 0)), a) := hF10044 _ _ hn92x_10043 (hne_new hao_10042 hf10043)
  have hn92x_10045 : h10045 q10019_ = some (.inl (E.2.1 0, 8, .inl (fun _ => 0)), a) := hu_n eh10045 (Ne.symm (hne_new hao_10018 hf10019)) hn92x_10044
  have hn100x_10044 : h10044 q10021_ = some (.inl (E.2.1 0, 8, .inl (fun _ => 0)), a) := hF10044 _ _ hn100x_10043 (hne_new hao_10042 hf10043)
  have hn100x_10045 : h10045 q10021_ = some (.inl (E.2.1 0, 8, .inl (fun _ => 0)), a) := hu_n eh10045 (Ne.symm (hne_new hao_10020 hf10021)) hn100x_10044
  have hn113x_10044 : h10044 q10024_ = some (.inl (E.2.1 6, 16, .inr (.inr (.inr (.inr (fun _ => none))))), a) := hF10044 _ _ hn113x_10043 (hne_new hao_10042 hf10043)
  have hn113x_10045 : h10045 q10024_ = some (.inl (E.2.1 6, 16, .inr (.inr (.inr (.inr (fun _ => none))))), a) := hu_n eh10045 (Ne.symm (hne_new hao_10023 hf10024)) hn113x_10044
  have hcw10027_10044 : h10044 q10026_ = some (.inr (2, [.ref qrow, .int 0, .int 0]), q10026_) := hF10044 _ _ hcw10027_10043 (hne_new hcw10027_10042 hf10043)
  have hcw10027_10045 : h10045 q10026_ = some (.inr (2, [.ref qrow, .int 0, .int 0]), q10026_) := hu_n eh10045 (Ne.symm (hne_new hao_10025 hf10026)) hcw10027_10044
  have hcr10027_10044 : h10044 qrow = some (.inl (E.2.1 3, 4000, .inl (fun _ => 0)), q10026_) := hF10044 _ _ hcr10027_10043 (hne_new hcw10027_10042 hf10043)
  have hcr10027_10045 : h10045 qrow = some (.inl (E.2.1 3, 4000, .inl (fun _ => 0)), q10026_) := hu_n eh10045 (Ne.symm (hne_of hao_10027 hcr10027 (fun z => by cases z))) hcr10027_10044
  have hse10030_10044 : h10044 q10029_ = some (.inr (3, [.ref qdig, .int 0, .ref qdg]), q10029_) := hF10044 _ _ hse10030_10043 (hne_new hse10030_10042 hf10043)
  have hse10030_10045 : h10045 q10029_ = some (.inr (3, [.ref qdig, .int 0, .ref qdg]), q10029_) := hu_n eh10045 (Ne.symm (hne_new hao_10028 hf10029)) hse10030_10044
  have hsg10030_10044 : h10044 qdig = some (.inl (E.2.1 0, 20, .inl (fun _ => 0)), q10029_) := hF10044 _ _ hsg10030_10043 (hne_new hse10030_10042 hf10043)
  have hsg10030_10045 : h10045 qdig = some (.inl (E.2.1 0, 20, .inl (fun _ => 0)), q10029_) := hu_n eh10045 (Ne.symm haqdig) hsg10030_10044
  have hdo10030_10044 : h10044 qdg = some (.inr (4, [.ref d1, .ref d2, .ref d3, .ref d4, .int 0]), qdg) := hF10044 _ _ hdo10030_10043 (hne_new hdo10030_10042 hf10043)
  have hdo10030_10045 : h10045 qdg = some (.inr (4, [.ref d1, .ref d2, .ref d3, .ref d4, .int 0]), qdg) := hu_n eh10045 (Ne.symm hag) hdo10030_10044
  have hd110030_10044 : h10044 d1 = some (.inl (E.2.1 0, 8, .inl (fun _ => 0)), qdg) := hF10044 _ _ hd110030_10043 (hne_new hdo10030_10042 hf10043)
  have hd110030_10045 : h10045 d1 = some (.inl (E.2.1 0, 8, .inl (fun _ => 0)), qdg) := hu_n eh10045 (Ne.symm had1) hd110030_10044
  have hd210030_10044 : h10044 d2 = some (.inl (E.2.1 0, 8, .inl (fun _ => 0)), qdg) := hF10044 _ _ hd210030_10043 (hne_new hdo10030_10042 hf10043)
  have hd210030_10045 : h10045 d2 = some (.inl (E.2.1 0, 8, .inl (fun _ => 0)), qdg) := hu_n eh10045 (Ne.symm had2) hd210030_10044
  have hd310030_10044 : h10044 d3 = some (.inl (E.2.1 0, 64, .inl (fun _ => 0)), qdg) := hF10044 _ _ hd310030_10043 (hne_new hdo10030_10042 hf10043)
  have hd310030_10045 : h10045 d3 = some (.inl (E.2.1 0, 64, .inl (fun _ => 0)), qdg) := hu_n eh10045 (Ne.symm had3) hd310030_10044
  have hd410030_10044 : h10044 d4 = some (.inl (E.2.1 1, 64, .inl (fun _ => 0)), qdg) := hF10044 _ _ hd410030_10043 (hne_new hdo10030_10042 hf10043)
  have hd410030_10045 : h10045 d4 = some (.inl (E.2.1 1, 64, .inl (fun _ => 0)), qdg) := hu_n eh10045 (Ne.symm had4) hd410030_10044
  have hpo10034_10044 : h10044 q10033_ = some (.inr (5, [.ref a]), q10033_) := hF10044 _ _ hpo10034_10043 (hne_new hpo10034_10042 hf10043)
  have hpo10034_10045 : h10045 q10033_ = some (.inr (5, [.ref a]), q10033_) := hu_n eh10045 (Ne.symm (hne_new hao_10032 hf10033)) hpo10034_10044
  have hco10037_10044 : h10044 q10036_ = some (.inr (6, [.ref a, .ref (Bq10037 0), .ref (Bq10037 (0 + 1))]), q10036_) := hF10044 _ _ hco10037_10043 (hne_new hco10037_10042 hf10043)
  have hco10037_10045 : h10045 q10036_ = some (.inr (6, [.ref a, .ref (Bq10037 0), .ref (Bq10037 (0 + 1))]), q10036_) := hu_n eh10045 (Ne.symm (hne_new hao_10035 hf10036)) hco10037_10044
  have hre10041_10044 : h10044 q10040_ = some (.inr (7, [.ref (Bq10041 2), .ref (Bq10041 (2 + 1)), .ref (Bq10041 (2 + 2)), .ref (Bq10041 (2 + 3)), .ref (Bq10041 (2 + 4)), .ref (Bq10041 (2 + 5)), .ref (Bq10041 (2 + 6)), .ref (Bq10041 (2 + 7)), .ref (Bq10041 (2 + 8)), .ref (Bq10041 (2 + 9)), .ref (Bq10041 (2 + 10))]), q10040_) := hF10044 _ _ hre10041_10043 (hne_new hre10041_10042 hf10043)
  have hre10041_10045 : h10045 q10040_ = some (.inr (7, [.ref (Bq10041 2), .ref (Bq10041 (2 + 1)), .ref (Bq10041 (2 + 2)), .ref (Bq10041 (2 + 3)), .ref (Bq10041 (2 + 4)), .ref (Bq10041 (2 + 5)), .ref (Bq10041 (2 + 6)), .ref (Bq10041 (2 + 7)), .ref (Bq10041 (2 + 8)), .ref (Bq10041 (2 + 9)), .ref (Bq10041 (2 + 10))]), q10040_) := hu_n eh10045 (Ne.symm (hne_new hao_10039 hf10040)) hre10041_10044
  have hnb_10046 : h10046 q10046_ = some (.inr (1, [.null, .int 0]), q10046_) := hu_s eh10046
  refine lv_dup hx hb dX1_init_209 rfl ?_
  refine lv_bipush (v := nI 64) hx hb dX1_init_210 rfl ?_
  have hao_10046 : h10046 a = some (.inr (0, [.ref q10001_, .int 0, .ref q10003_, .int 0, .int 0, .int (nI 1), .int (nI 100), .int (nI 1), .int (nI 10), .int (nI 11), .int (nI 10), .ref q10011_, .ref q10013_, .ref q10015_, .ref q10017_, .ref q10019_, .ref q10021_, .int 0, .int 0, .int 0, .int 0, .int (nI 0 - 1), .int 0, .ref q10024_, .int 0, .ref q10026_, .ref q10029_, .ref q10026_, .ref q10033_, .ref q10036_, .ref q10033_, .ref q10040_, .ref q10043_, .null, .null, .null, .null, .null, .null, .null, .null]), a) := hu_w eh10046 hf10046 hao_10045
  have hsc_10046 : h10046 sc = some (.inl xs, sc) := hu_w eh10046 hf10046 hsc_10045
  have hn7x_10046 : h10046 q10001_ = some (.inl (E.2.1 0, 8, .inl (fun _ => 0)), a) := hu_w eh10046 hf10046 hn7x_10045
  have hn15x_10046 : h10046 q10003_ = some (.inl (E.2.1 0, 64, .inl (fun _ => 0)), a) := hu_w eh10046 hf10046 hn15x_10045
  have hn58x_10046 : h10046 q10011_ = some (.inl (E.2.1 1, 20000, .inl (fun _ => 0)), a) := hu_w eh10046 hf10046 hn58x_10045
  have hn67x_10046 : h10046 q10013_ = some (.inl (E.2.1 1, 20000, .inl (fun _ => 0)), a) := hu_w eh10046 hf10046 hn67x_10045
  have hn76x_10046 : h10046 q10015_ = some (.inl (E.2.1 2, 20000, .inl (fun _ => 0)), a) := hu_w eh10046 hf10046 hn76x_10045
  have hn84x_10046 : h10046 q10017_ = some (.inl (E.2.1 3, 8, .inl (fun _ => 0)), a) := hu_w eh10046 hf10046 hn84x_10045
  have hn92x_10046 : h10046 q10019_ = some (.inl (E.2.1 0, 8, .inl (fun _ => 0)), a) := hu_w eh10046 hf10046 hn92x_10045
  have hn100x_10046 : h10046 q10021_ = some (.inl (E.2.1 0, 8, .inl (fun _ => 0)), a) := hu_w eh10046 hf10046 hn100x_10045
  have hn113x_10046 : h10046 q10024_ = some (.inl (E.2.1 6, 16, .inr (.inr (.inr (.inr (fun _ => none))))), a) := hu_w eh10046 hf10046 hn113x_10045
  have hcw10027_10046 : h10046 q10026_ = some (.inr (2, [.ref qrow, .int 0, .int 0]), q10026_) := hu_w eh10046 hf10046 hcw10027_10045
  have hcr10027_10046 : h10046 qrow = some (.inl (E.2.1 3, 4000, .inl (fun _ => 0)), q10026_) := hu_w eh10046 hf10046 hcr10027_10045
  have hse10030_10046 : h10046 q10029_ = some (.inr (3, [.ref qdig, .int 0, .ref qdg]), q10029_) := hu_w eh10046 hf10046 hse10030_10045
  have hsg10030_10046 : h10046 qdig = some (.inl (E.2.1 0, 20, .inl (fun _ => 0)), q10029_) := hu_w eh10046 hf10046 hsg10030_10045
  have hdo10030_10046 : h10046 qdg = some (.inr (4, [.ref d1, .ref d2, .ref d3, .ref d4, .int 0]), qdg) := hu_w eh10046 hf10046 hdo10030_10045
  have hd110030_10046 : h10046 d1 = some (.inl (E.2.1 0, 8, .inl (fun _ => 0)), qdg) := hu_w eh10046 hf10046 hd110030_10045
  have hd210030_10046 : h10046 d2 = some (.inl (E.2.1 0, 8, .inl (fun _ => 0)), qdg) := hu_w eh10046 hf10046 hd210030_10045
  have hd310030_10046 : h10046 d3 = some (.inl (E.2.1 0, 64, .inl (fun _ => 0)), qdg) := hu_w eh10046 hf10046 hd310030_10045
  have hd410030_10046 : h10046 d4 = some (.inl (E.2.1 1, 64, .inl (fun _ => 0)), qdg) := hu_w eh10046 hf10046 hd410030_10045
  have hpo10034_10046 : h10046 q10033_ = some (.inr (5, [.ref a]), q10033_) := hu_w eh10046 hf10046 hpo10034_10045
  have hco10037_10046 : h10046 q10036_ = some (.inr (6, [.ref a, .ref (Bq10037 0), .ref (Bq10037 (0 + 1))]), q10036_) := hu_w eh10046 hf10046 hco10037_10045
  have hre10041_10046 : h10046 q10040_ = some (.inr (7, [.ref (Bq10041 2), .ref (Bq10041 (2 + 1)), .ref (Bq10041 (2 + 2)), .ref (Bq10041 (2 + 3)), .ref (Bq10041 (2 + 4)), .ref (Bq10041 (2 + 5)), .ref (Bq10041 (2 + 6)), .ref (Bq10041 (2 + 7)), .ref (Bq10041 (2 + 8)), .ref (Bq10041 (2 + 9)), .ref (Bq10041 (2 + 10))]), q10040_) := hu_w eh10046 hf10046 hre10041_10045
  have hQ10044_10046 : PB E h10046 Bq10044 cq10044 14 := PB.kept (O := fun _ => False) (hu_fn eh10046 Fr.rf hf10046) (fun _ _ q => q) hQ10044_10045
  refine hg_I C T10046 hl.1 (m_X7_init hnb_10046 (by decide) (by decide)) q234 q167 q59 q168 rfl kd_X7_init rfl rfl ⟨Nat.le_of_ble_eq_true rfl, Nat.le_of_ble_eq_true rfl⟩ (Nat.le_of_ble_eq_true rfl) dX1_init_212 ⟨by show 0 + 1 + 1 + 1 + 1 + 1 + 1 + 1 + 1 + 1 + 1 + 1 + 1 + 6 + 1 + 1 + 4 + 1 + 22 + 1 + 1 + 1 + 1 ≤ 4200; omega, by show 0 + 8 + 64 + 20000 + 20000 + 20000 + 8 + 8 + 8 + 16 + 3 + 4000 + 3 + 169 + 1 + 3 + 132 + 11 + 726 + 2 + 64 + 2 + 64 ≤ 100000; omega⟩ (fun rv h10047 dc10047 ds10047 H10047 locs10047 hp10047 T10047 => ?_)
  obtain ⟨rfl, hbg10047, hF10047, rfl, rfl⟩ := hp10047
  obtain ⟨Bq10047, cq10047, hQ10047, hk10047, hat10047, hac10047⟩ := hQ10044_10045.add2 hf10046 eh10046 hF10047 hbg10047
  have hN_10047 : FN a h h10047 := hN_10045.nest hf10046 eh10046 hF10047.fn
  refine W.eq (g2 := F0 m 215 ls [.ref q10046_, .ref a]) rfl ?_
  have hao_10047 : h10047 a = some (.inr (0, [.ref q10001_, .int 0, .ref q10003_, .int 0, .int 0, .int (nI 1), .int (nI 100), .int (nI 1), .int (nI 10), .int (nI 11), .int (nI 10), .ref q10011_, .ref q10013_, .ref q10015_, .ref q10017_, .ref q10019_, .ref q10021_, .int 0, .int 0, .int 0, .int 0, .int (nI 0 - 1), .int 0, .ref q10024_, .int 0, .ref q10026_, .ref q10029_, .ref q10026_, .ref q10033_, .ref q10036_, .ref q10033_, .ref q10040_, .ref q10043_, .null, .null, .null, .null, .null, .null, .null, .null]), a) := hF10047 _ _ hao_10046 (hne_new hao_10045 hf10046)
  refine hr_putF C T10047 hin hao_10047 rfl in_X1 tyX1 tyX1_ok nmX1 33 (by decide) q335 rfl rfl rfl rfl rfl (Nat.le_of_ble_eq_true rfl) dX1_init_215 (fun h10048 H10048 locs10048 eh10048 T10048 => ?_)
  have hao_10048 : h10048 a = some (.inr (0, [.ref q10001_, .int 0, .ref q10003_, .int 0, .int 0, .int (nI 1), .int (nI 100), .int (nI 1), .int (nI 10), .int (nI 11), .int (nI 10), .ref q10011_, .ref q10013_, .ref q10015_, .ref q10017_, .ref q10019_, .ref q10021_, .int 0, .int 0, .int 0, .int 0, .int (nI 0 - 1), .int 0, .ref q10024_, .int 0, .ref q10026_, .ref q10029_, .ref q10026_, .ref q10033_, .ref q10036_, .ref q10033_, .ref q10040_, .ref q10043_, .ref q10046_, .null, .null, .null, .null, .null, .null, .null]), a) := hu_s eh10048
  refine lv_aload_n hx hb dX1_init_218 rfl (lv_at hl 0 rfl) ?_
  have hN_10048 : FN a h h10048 := hN_10047.up hao_10047 eh10048
  have hQ10047_10048 : PB E h10048 Bq10047 cq10047 15 := PB.kept (O := (· = a)) (hu_f eh10048 Fr.rf hao_10047 rfl) (hQ10047.neobj hao_10047 (by decide)) hQ10047
  refine hr_new C T10048 (fun q => q) (ci := 1) rfl in_X7 tyX7 tyX7_ok q233 q165 q59 (fs := [.null, .int 0]) dfX7 (by show 0 + 1 + 1 + 1 + 1 + 1 + 1 + 1 + 1 + 1 + 1 + 1 + 1 + 6 + 1 + 1 + 4 + 1 + 22 + 1 + 1 + 1 + 1 + 1 ≤ 4200; omega) (by show 0 + 8 + 64 + 20000 + 20000 + 20000 + 8 + 8 + 8 + 16 + 3 + 4000 + 3 + 169 + 1 + 3 + 132 + 11 + 726 + 2 + 64 + 2 + 64 + 2 ≤ 100000; omega) dX1_init_219 (fun h10049 q10049_ H10049 hf10049 eh10049 T10049 => ?_)
  have hsc_10047 : h10047 sc = some (.inl xs, sc) := hF10047 _ _ hsc_10046 (hne_new hsc_10045 hf10046)
  have hsc_10048 : h10048 sc = some (.inl xs, sc) := hu_n eh10048 hsa hsc_10047
  have hn7x_10047 : h10047 q10001_ = some (.inl (E.2.1 0, 8, .inl (fun _ => 0)), a) := hF10047 _ _ hn7x_10046 (hne_new hao_10045 hf10046)
  have hn7x_10048 : h10048 q10001_ = some (.inl (E.2.1 0, 8, .inl (fun _ => 0)), a) := hu_n eh10048 (Ne.symm (hne_new hao hf10001)) hn7x_10047
  have hn15x_10047 : h10047 q10003_ = some (.inl (E.2.1 0, 64, .inl (fun _ => 0)), a) := hF10047 _ _ hn15x_10046 (hne_new hao_10045 hf10046)
  have hn15x_10048 : h10048 q10003_ = some (.inl (E.2.1 0, 64, .inl (fun _ => 0)), a) := hu_n eh10048 (Ne.symm (hne_new hao_10002 hf10003)) hn15x_10047
  have hn58x_10047 : h10047 q10011_ = some (.inl (E.2.1 1, 20000, .inl (fun _ => 0)), a) := hF10047 _ _ hn58x_10046 (hne_new hao_10045 hf10046)
  have hn58x_10048 : h10048 q10011_ = some (.inl (E.2.1 1, 20000, .inl (fun _ => 0)), a) := hu_n eh10048 (Ne.symm (hne_new hao_10010 hf10011)) hn58x_10047
  have hn67x_10047 : h10047 q10013_ = some (.inl (E.2.1 1, 20000, .inl (fun _ => 0)), a) := hF10047 _ _ hn67x_10046 (hne_new hao_10045 hf10046)
  have hn67x_10048 : h10048 q10013_ = some (.inl (E.2.1 1, 20000, .inl (fun _ => 0)), a) := hu_n eh10048 (Ne.symm (hne_new hao_10012 hf10013)) hn67x_10047
  have hn76x_10047 : h10047 q10015_ = some (.inl (E.2.1 2, 20000, .inl (fun _ => 0)), a) := hF10047 _ _ hn76x_10046 (hne_new hao_10045 hf10046)
  have hn76x_10048 : h10048 q10015_ = some (.inl (E.2.1 2, 20000, .inl (fun _ => 0)), a) := hu_n eh10048 (Ne.symm (hne_new hao_10014 hf10015)) hn76x_10047
  have hn84x_10047 : h10047 q10017_ = some (.inl (E.2.1 3, 8, .inl (fun _ => 0)), a) := hF10047 _ _ hn84x_10046 (hne_new hao_10045 hf10046)
  have hn84x_10048 : h10048 q10017_ = some (.inl (E.2.1 3, 8, .inl (fun _ => 0)), a) := hu_n eh10048 (Ne.symm (hne_new hao_10016 hf10017)) hn84x_10047
  have hn92x_10047 : h10047 q10019_ = some (.inl (E.2.1 0, 8, .inl (fun _ => 0)), a) := hF10047 _ _ hn92x_10046 (hne_new hao_10045 hf10046)
  have hn92x_10048 : h10048 q10019_ = some (.inl (E.2.1 0, 8, .inl (fun _ => 0)), a) := hu_n eh10048 (Ne.symm (hne_new hao_10018 hf10019)) hn92x_10047
  have hn100x_10047 : h10047 q10021_ = some (.inl (E.2.1 0, 8, .inl (fun _ => 0)), a) := hF10047 _ _ hn100x_10046 (hne_new hao_10045 hf10046)
  have hn100x_10048 : h10048 q10021_ = some (.inl (E.2.1 0, 8, .inl (fun _ => 0)), a) := hu_n eh10048 (Ne.symm (hne_new hao_10020 hf10021)) hn100x_10047
  have hn113x_10047 : h10047 q10024_ = some (.inl (E.2.1 6, 16, .inr (.inr (.inr (.inr (fun _ => none))))), a) := hF10047 _ _ hn113x_10046 (hne_new hao_10045 hf10046)
  have hn113x_10048 : h10048 q10024_ = some (.inl (E.2.1 6, 16, .inr (.inr (.inr (.inr (fun _ => none))))), a) := hu_n eh10048 (Ne.symm (hne_new hao_10023 hf10024)) hn113x_10047
  have hcw10027_10047 : h10047 q10026_ = some (.inr (2, [.ref qrow, .int 0, .int 0]), q10026_) := hF10047 _ _ hcw10027_10046 (hne_new hcw10027_10045 hf10046)
  have hcw10027_10048 : h10048 q10026_ = some (.inr (2, [.ref qrow, .int 0, .int 0]), q10026_) := hu_n eh10048 (Ne.symm (hne_new hao_10025 hf10026)) hcw10027_10047
  have hcr10027_10047 : h10047 qrow = some (.inl (E.2.1 3, 4000, .inl (fun _ => 0)), q10026_) := hF10047 _ _ hcr10027_10046 (hne_new hcw10027_10045 hf10046)
  have hcr10027_10048 : h10048 qrow = some (.inl (E.2.1 3, 4000, .inl (fun _ => 0)), q10026_) := hu_n eh10048 (Ne.symm (hne_of hao_10027 hcr10027 (fun z => by cases z))) hcr10027_10047
  have hse10030_10047 : h10047 q10029_ = some (.inr (3, [.ref qdig, .int 0, .ref qdg]), q10029_) := hF10047 _ _ hse10030_10046 (hne_new hse10030_10045 hf10046)
  have hse10030_10048 : h10048 q10029_ = some (.inr (3, [.ref qdig, .int 0, .ref qdg]), q10029_) := hu_n eh10048 (Ne.symm (hne_new hao_10028 hf10029)) hse10030_10047
  have hsg10030_10047 : h10047 qdig = some (.inl (E.2.1 0, 20, .inl (fun _ => 0)), q10029_) := hF10047 _ _ hsg10030_10046 (hne_new hse10030_10045 hf10046)
  have hsg10030_10048 : h10048 qdig = some (.inl (E.2.1 0, 20, .inl (fun _ => 0)), q10029_) := hu_n eh10048 (Ne.symm haqdig) hsg10030_10047
  have hdo10030_10047 : h10047 qdg = some (.inr (4, [.ref d1, .ref d2, .ref d3, .ref d4, .int 0]), qdg) := hF10047 _ _ hdo10030_10046 (hne_new hdo10030_10045 hf10046)
  have hdo10030_10048 : h10048 qdg = some (.inr (4, [.ref d1, .ref d2, .ref d3, .ref d4, .int 0]), qdg) := hu_n eh10048 (Ne.symm hag) hdo10030_10047
  have hd110030_10047 : h10047 d1 = some (.inl (E.2.1 0, 8, .inl (fun _ => 0)), qdg) := hF10047 _ _ hd110030_10046 (hne_new hdo10030_10045 hf10046)
  have hd110030_10048 : h10048 d1 = some (.inl (E.2.1 0, 8, .inl (fun _ => 0)), qdg) := hu_n eh10048 (Ne.symm had1) hd110030_10047
  have hd210030_10047 : h10047 d2 = some (.inl (E.2.1 0, 8, .inl (fun _ => 0)), qdg) := hF10047 _ _ hd210030_10046 (hne_new hdo10030_10045 hf10046)
  have hd210030_10048 : h10048 d2 = some (.inl (E.2.1 0, 8, .inl (fun _ => 0)), qdg) := hu_n eh10048 (Ne.symm had2) hd210030_10047
  have hd310030_10047 : h10047 d3 = some (.inl (E.2.1 0, 64, .inl (fun _ => 0)), qdg) := hF10047 _ _ hd310030_10046 (hne_new hdo10030_10045 hf10046)
  have hd310030_10048 : h10048 d3 = some (.inl (E.2.1 0, 64, .inl (fun _ => 0)), qdg) := hu_n eh10048 (Ne.symm had3) hd310030_10047
  have hd410030_10047 : h10047 d4 = some (.inl (E.2.1 1, 64, .inl (fun _ => 0)), qdg) := hF10047 _ _ hd410030_10046 (hne_new hdo10030_10045 hf10046)
  have hd410030_10048 : h10048 d4 = some (.inl (E.2.1 1, 64, .inl (fun _ => 0)), qdg) := hu_n eh10048 (Ne.symm had4) hd410030_10047
  have hpo10034_10047 : h10047 q10033_ = some (.inr (5, [.ref a]), q10033_) := hF10047 _ _ hpo10034_10046 (hne_new hpo10034_10045 hf10046)
  have hpo10034_10048 : h10048 q10033_ = some (.inr (5, [.ref a]), q10033_) := hu_n eh10048 (Ne.symm (hne_new hao_10032 hf10033)) hpo10034_10047
  have hco10037_10047 : h10047 q10036_ = some (.inr (6, [.ref a, .ref (Bq10037 0), .ref (Bq10037 (0 + 1))]), q10036_) := hF10047 _ _ hco10037_10046 (hne_new hco10037_10045 hf10046)
  have hco10037_10048 : h10048 q10036_ = some (.inr (6, [.ref a, .ref (Bq10037 0), .ref (Bq10037 (0 + 1))]), q10036_) := hu_n eh10048 (Ne.symm (hne_new hao_10035 hf10036)) hco10037_10047
  have hre10041_10047 : h10047 q10040_ = some (.inr (7, [.ref (Bq10041 2), .ref (Bq10041 (2 + 1)), .ref (Bq10041 (2 + 2)), .ref (Bq10041 (2 + 3)), .ref (Bq10041 (2 + 4)), .ref (Bq10041 (2 + 5)), .ref (Bq10041 (2 + 6)), .ref (Bq10041 (2 + 7)), .ref (Bq10041 (2 + 8)), .ref (Bq10041 (2 + 9)), .ref (Bq10041 (2 + 10))]), q10040_) := hF10047 _ _ hre10041_10046 (hne_new hre10041_10045 hf10046)
  have hre10041_10048 : h10048 q10040_ = some (.inr (7, [.ref (Bq10041 2), .ref (Bq10041 (2 + 1)), .ref (Bq10041 (2 + 2)), .ref (Bq10041 (2 + 3)), .ref (Bq10041 (2 + 4)), .ref (Bq10041 (2 + 5)), .ref (Bq10041 (2 + 6)), .ref (Bq10041 (2 + 7)), .ref (Bq10041 (2 + 8)), .ref (Bq10041 (2 + 9)), .ref (Bq10041 (2 + 10))]), q10040_) := hu_n eh10048 (Ne.symm (hne_new hao_10039 hf10040)) hre10041_10047
  have hnb_10049 : h10049 q10049_ = some (.inr (1, [.null, .int 0]), q10049_) := hu_s eh10049
  refine lv_dup hx hb dX1_init_222 rfl ?_
  refine lv_bipush (v := nI 64) hx hb dX1_init_223 rfl ?_
  have hao_10049 : h10049 a = some (.inr (0, [.ref q10001_, .int 0, .ref q10003_, .int 0, .int 0, .int (nI 1), .int (nI 100), .int (nI 1), .int (nI 10), .int (nI 11), .int (nI 10), .ref q10011_, .ref q10013_, .ref q10015_, .ref q10017_, .ref q10019_, .ref q10021_, .int 0, .int 0, .int 0, .int 0, .int (nI 0 - 1), .int 0, .ref q10024_, .int 0, .ref q10026_, .ref q10029_, .ref q10026_, .ref q10033_, .ref q10036_, .ref q10033_, .ref q10040_, .ref q10043_, .ref q10046_, .null, .null, .null, .null, .null, .null, .null]), a) := hu_w eh10049 hf10049 hao_10048
  have hsc_10049 : h10049 sc = some (.inl xs, sc) := hu_w eh10049 hf10049 hsc_10048
  have hn7x_10049 : h10049 q10001_ = some (.inl (E.2.1 0, 8, .inl (fun _ => 0)), a) := hu_w eh10049 hf10049 hn7x_10048
  have hn15x_10049 : h10049 q10003_ = some (.inl (E.2.1 0, 64, .inl (fun _ => 0)), a) := hu_w eh10049 hf10049 hn15x_10048
  have hn58x_10049 : h10049 q10011_ = some (.inl (E.2.1 1, 20000, .inl (fun _ => 0)), a) := hu_w eh10049 hf10049 hn58x_10048
  have hn67x_10049 : h10049 q10013_ = some (.inl (E.2.1 1, 20000, .inl (fun _ => 0)), a) := hu_w eh10049 hf10049 hn67x_10048
  have hn76x_10049 : h10049 q10015_ = some (.inl (E.2.1 2, 20000, .inl (fun _ => 0)), a) := hu_w eh10049 hf10049 hn76x_10048
  have hn84x_10049 : h10049 q10017_ = some (.inl (E.2.1 3, 8, .inl (fun _ => 0)), a) := hu_w eh10049 hf10049 hn84x_10048
  have hn92x_10049 : h10049 q10019_ = some (.inl (E.2.1 0, 8, .inl (fun _ => 0)), a) := hu_w eh10049 hf10049 hn92x_10048
  have hn100x_10049 : h10049 q10021_ = some (.inl (E.2.1 0, 8, .inl (fun _ => 0)), a) := hu_w eh10049 hf10049 hn100x_10048
  have hn113x_10049 : h10049 q10024_ = some (.inl (E.2.1 6, 16, .inr (.inr (.inr (.inr (fun _ => none))))), a) := hu_w eh10049 hf10049 hn113x_10048
  have hcw10027_10049 : h10049 q10026_ = some (.inr (2, [.ref qrow, .int 0, .int 0]), q10026_) := hu_w eh10049 hf10049 hcw10027_10048
  have hcr10027_10049 : h10049 qrow = some (.inl (E.2.1 3, 4000, .inl (fun _ => 0)), q10026_) := hu_w eh10049 hf10049 hcr10027_10048
  have hse10030_10049 : h10049 q10029_ = some (.inr (3, [.ref qdig, .int 0, .ref qdg]), q10029_) := hu_w eh10049 hf10049 hse10030_10048
  have hsg10030_10049 : h10049 qdig = some (.inl (E.2.1 0, 20, .inl (fun _ => 0)), q10029_) := hu_w eh10049 hf10049 hsg10030_10048
  have hdo10030_10049 : h10049 qdg = some (.inr (4, [.ref d1, .ref d2, .ref d3, .ref d4, .int 0]), qdg) := hu_w eh10049 hf10049 hdo10030_10048
  have hd110030_10049 : h10049 d1 = some (.inl (E.2.1 0, 8, .inl (fun _ => 0)), qdg) := hu_w eh10049 hf10049 hd110030_10048
  have hd210030_10049 : h10049 d2 = some (.inl (E.2.1 0, 8, .inl (fun _ => 0)), qdg) := hu_w eh10049 hf10049 hd210030_10048
  have hd310030_10049 : h10049 d3 = some (.inl (E.2.1 0, 64, .inl (fun _ => 0)), qdg) := hu_w eh10049 hf10049 hd310030_10048
  have hd410030_10049 : h10049 d4 = some (.inl (E.2.1 1, 64, .inl (fun _ => 0)), qdg) := hu_w eh10049 hf10049 hd410030_10048
  have hpo10034_10049 : h10049 q10033_ = some (.inr (5, [.ref a]), q10033_) := hu_w eh10049 hf10049 hpo10034_10048
  have hco10037_10049 : h10049 q10036_ = some (.inr (6, [.ref a, .ref (Bq10037 0), .ref (Bq10037 (0 + 1))]), q10036_) := hu_w eh10049 hf10049 hco10037_10048
  have hre10041_10049 : h10049 q10040_ = some (.inr (7, [.ref (Bq10041 2), .ref (Bq10041 (2 + 1)), .ref (Bq10041 (2 + 2)), .ref (Bq10041 (2 + 3)), .ref (Bq10041 (2 + 4)), .ref (Bq10041 (2 + 5)), .ref (Bq10041 (2 + 6)), .ref (Bq10041 (2 + 7)), .ref (Bq10041 (2 + 8)), .ref (Bq10041 (2 + 9)), .ref (Bq10041 (2 + 10))]), q10040_) := hu_w eh10049 hf10049 hre10041_10048
  have hQ10047_10049 : PB E h10049 Bq10047 cq10047 15 := PB.kept (O := fun _ => False) (hu_fn eh10049 Fr.rf hf10049) (fun _ _ q => q) hQ10047_10048
  refine hg_I C T10049 hl.1 (m_X7_init hnb_10049 (by decide) (by decide)) q234 q167 q59 q168 rfl kd_X7_init rfl rfl ⟨Nat.le_of_ble_eq_true rfl, Nat.le_of_ble_eq_true rfl⟩ (Nat.le_of_ble_eq_true rfl) dX1_init_225 ⟨by show 0 + 1 + 1 + 1 + 1 + 1 + 1 + 1 + 1 + 1 + 1 + 1 + 1 + 6 + 1 + 1 + 4 + 1 + 22 + 1 + 1 + 1 + 1 + 1 + 1 ≤ 4200; omega, by show 0 + 8 + 64 + 20000 + 20000 + 20000 + 8 + 8 + 8 + 16 + 3 + 4000 + 3 + 169 + 1 + 3 + 132 + 11 + 726 + 2 + 64 + 2 + 64 + 2 + 64 ≤ 100000; omega⟩ (fun rv h10050 dc10050 ds10050 H10050 locs10050 hp10050 T10050 => ?_)
  obtain ⟨rfl, hbg10050, hF10050, rfl, rfl⟩ := hp10050
  obtain ⟨Bq10050, cq10050, hQ10050, hk10050, hat10050, hac10050⟩ := hQ10047_10048.add2 hf10049 eh10049 hF10050 hbg10050
  have hN_10050 : FN a h h10050 := hN_10048.nest hf10049 eh10049 hF10050.fn
  refine W.eq (g2 := F0 m 228 ls [.ref q10049_, .ref a]) rfl ?_
  have hao_10050 : h10050 a = some (.inr (0, [.ref q10001_, .int 0, .ref q10003_, .int 0, .int 0, .int (nI 1), .int (nI 100), .int (nI 1), .int (nI 10), .int (nI 11), .int (nI 10), .ref q10011_, .ref q10013_, .ref q10015_, .ref q10017_, .ref q10019_, .ref q10021_, .int 0, .int 0, .int 0, .int 0, .int (nI 0 - 1), .int 0, .ref q10024_, .int 0, .ref q10026_, .ref q10029_, .ref q10026_, .ref q10033_, .ref q10036_, .ref q10033_, .ref q10040_, .ref q10043_, .ref q10046_, .null, .null, .null, .null, .null, .null, .null]), a) := hF10050 _ _ hao_10049 (hne_new hao_10048 hf10049)
  refine hr_putF C T10050 hin hao_10050 rfl in_X1 tyX1 tyX1_ok nmX1 34 (by decide) q336 rfl rfl rfl rfl rfl (Nat.le_of_ble_eq_true rfl) dX1_init_228 (fun h10051 H10051 locs10051 eh10051 T10051 => ?_)
  have hao_10051 : h10051 a = some (.inr (0, [.ref q10001_, .int 0, .ref q10003_, .int 0, .int 0, .int (nI 1), .int (nI 100), .int (nI 1), .int (nI 10), .int (nI 11), .int (nI 10), .ref q10011_, .ref q10013_, .ref q10015_, .ref q10017_, .ref q10019_, .ref q10021_, .int 0, .int 0, .int 0, .int 0, .int (nI 0 - 1), .int 0, .ref q10024_, .int 0, .ref q10026_, .ref q10029_, .ref q10026_, .ref q10033_, .ref q10036_, .ref q10033_, .ref q10040_, .ref q10043_, .ref q10046_, .ref q10049_, .null, .null, .null, .null, .null, .null]), a) := hu_s eh10051
  refine lv_aload_n hx hb dX1_init_231 rfl (lv_at hl 0 rfl) ?_
  have hN_10051 : FN a h h10051 := hN_10050.up hao_10050 eh10051
  have hQ10050_10051 : PB E h10051 Bq10050 cq10050 16 := PB.kept (O := (· = a)) (hu_f eh10051 Fr.rf hao_10050 rfl) (hQ10050.neobj hao_10050 (by decide)) hQ10050
  refine hr_new C T10051 (fun q => q) (ci := 1) rfl in_X7 tyX7 tyX7_ok q233 q165 q59 (fs := [.null, .int 0]) dfX7 (by show 0 + 1 + 1 + 1 + 1 + 1 + 1 + 1 + 1 + 1 + 1 + 1 + 1 + 6 + 1 + 1 + 4 + 1 + 22 + 1 + 1 + 1 + 1 + 1 + 1 + 1 ≤ 4200; omega) (by show 0 + 8 + 64 + 20000 + 20000 + 20000 + 8 + 8 + 8 + 16 + 3 + 4000 + 3 + 169 + 1 + 3 + 132 + 11 + 726 + 2 + 64 + 2 + 64 + 2 + 64 + 2 ≤ 100000; omega) dX1_init_232 (fun h10052 q10052_ H10052 hf10052 eh10052 T10052 => ?_)
  have hsc_10050 : h10050 sc = some (.inl xs, sc) := hF10050 _ _ hsc_10049 (hne_new hsc_10048 hf10049)
  have hsc_10051 : h10051 sc = some (.inl xs, sc) := hu_n eh10051 hsa hsc_10050
  have hn7x_10050 : h10050 q10001_ = some (.inl (E.2.1 0, 8, .inl (fun _ => 0)), a) := hF10050 _ _ hn7x_10049 (hne_new hao_10048 hf10049)
  have hn7x_10051 : h10051 q10001_ = some (.inl (E.2.1 0, 8, .inl (fun _ => 0)), a) := hu_n eh10051 (Ne.symm (hne_new hao hf10001)) hn7x_10050
  have hn15x_10050 : h10050 q10003_ = some (.inl (E.2.1 0, 64, .inl (fun _ => 0)), a) := hF10050 _ _ hn15x_10049 (hne_new hao_10048 hf10049)
  have hn15x_10051 : h10051 q10003_ = some (.inl (E.2.1 0, 64, .inl (fun _ => 0)), a) := hu_n eh10051 (Ne.symm (hne_new hao_10002 hf10003)) hn15x_10050
  have hn58x_10050 : h10050 q10011_ = some (.inl (E.2.1 1, 20000, .inl (fun _ => 0)), a) := hF10050 _ _ hn58x_10049 (hne_new hao_10048 hf10049)
  have hn58x_10051 : h10051 q10011_ = some (.inl (E.2.1 1, 20000, .inl (fun _ => 0)), a) := hu_n eh10051 (Ne.symm (hne_new hao_10010 hf10011)) hn58x_10050
  have hn67x_10050 : h10050 q10013_ = some (.inl (E.2.1 1, 20000, .inl (fun _ => 0)), a) := hF10050 _ _ hn67x_10049 (hne_new hao_10048 hf10049)
  have hn67x_10051 : h10051 q10013_ = some (.inl (E.2.1 1, 20000, .inl (fun _ => 0)), a) := hu_n eh10051 (Ne.symm (hne_new hao_10012 hf10013)) hn67x_10050
  have hn76x_10050 : h10050 q10015_ = some (.inl (E.2.1 2, 20000, .inl (fun _ => 0)), a) := hF10050 _ _ hn76x_10049 (hne_new hao_10048 hf10049)
  have hn76x_10051 : h10051 q10015_ = some (.inl (E.2.1 2, 20000, .inl (fun _ => 0)), a) := hu_n eh10051 (Ne.symm (hne_new hao_10014 hf10015)) hn76x_10050
  have hn84x_10050 : h10050 q10017_ = some (.inl (E.2.1 3, 8, .inl (fun _ => 0)), a) := hF10050 _ _ hn84x_10049 (hne_new hao_10048 hf10049)
  have hn84x_10051 : h10051 q10017_ = some (.inl (E.2.1 3, 8, .inl (fun _ => 0)), a) := hu_n eh10051 (Ne.symm (hne_new hao_10016 hf10017)) hn84x_10050
  have hn92x_10050 : h10050 q10019_ = some (.inl (E.2.1 0, 8, .inl (fun _ => 0)), a) := hF10050 _ _ hn92x_10049 (hne_new hao_10048 hf10049)
  have hn92x_10051 : h10051 q10019_ = some (.inl (E.2.1 0, 8, .inl (fun _ => 0)), a) := hu_n eh10051 (Ne.symm (hne_new hao_10018 hf10019)) hn92x_10050
  have hn100x_10050 : h10050 q10021_ = some (.inl (E.2.1 0, 8, .inl (fun _ => 0)), a) := hF10050 _ _ hn100x_10049 (hne_new hao_10048 hf10049)
  have hn100x_10051 : h10051 q10021_ = some (.inl (E.2.1 0, 8, .inl (fun _ => 0)), a) := hu_n eh10051 (Ne.symm (hne_new hao_10020 hf10021)) hn100x_10050
  have hn113x_10050 : h10050 q10024_ = some (.inl (E.2.1 6, 16, .inr (.inr (.inr (.inr (fun _ => none))))), a) := hF10050 _ _ hn113x_10049 (hne_new hao_10048 hf10049)
  have hn113x_10051 : h10051 q10024_ = some (.inl (E.2.1 6, 16, .inr (.inr (.inr (.inr (fun _ => none))))), a) := hu_n eh10051 (Ne.symm (hne_new hao_10023 hf10024)) hn113x_10050
  have hcw10027_10050 : h10050 q10026_ = some (.inr (2, [.ref qrow, .int 0, .int 0]), q10026_) := hF10050 _ _ hcw10027_10049 (hne_new hcw10027_10048 hf10049)
  have hcw10027_10051 : h10051 q10026_ = some (.inr (2, [.ref qrow, .int 0, .int 0]), q10026_) := hu_n eh10051 (Ne.symm (hne_new hao_10025 hf10026)) hcw10027_10050
  have hcr10027_10050 : h10050 qrow = some (.inl (E.2.1 3, 4000, .inl (fun _ => 0)), q10026_) := hF10050 _ _ hcr10027_10049 (hne_new hcw10027_10048 hf10049)
  have hcr10027_10051 : h10051 qrow = some (.inl (E.2.1 3, 4000, .inl (fun _ => 0)), q10026_) := hu_n eh10051 (Ne.symm (hne_of hao_10027 hcr10027 (fun z => by cases z))) hcr10027_10050
  have hse10030_10050 : h10050 q10029_ = some (.inr (3, [.ref qdig, .int 0, .ref qdg]), q10029_) := hF10050 _ _ hse10030_10049 (hne_new hse10030_10048 hf10049)
  have hse10030_10051 : h10051 q10029_ = some (.inr (3, [.ref qdig, .int 0, .ref qdg]), q10029_) := hu_n eh10051 (Ne.symm (hne_new hao_10028 hf10029)) hse10030_10050
  have hsg10030_10050 : h10050 qdig = some (.inl (E.2.1 0, 20, .inl (fun _ => 0)), q10029_) := hF10050 _ _ hsg10030_10049 (hne_new hse10030_10048 hf10049)
  have hsg10030_10051 : h10051 qdig = some (.inl (E.2.1 0, 20, .inl (fun _ => 0)), q10029_) := hu_n eh10051 (Ne.symm haqdig) hsg10030_10050
  have hdo10030_10050 : h10050 qdg = some (.inr (4, [.ref d1, .ref d2, .ref d3, .ref d4, .int 0]), qdg) := hF10050 _ _ hdo10030_10049 (hne_new hdo10030_10048 hf10049)
  have hdo10030_10051 : h10051 qdg = some (.inr (4, [.ref d1, .ref d2, .ref d3, .ref d4, .int 0]), qdg) := hu_n eh10051 (Ne.symm hag) hdo10030_10050
  have hd110030_10050 : h10050 d1 = some (.inl (E.2.1 0, 8, .inl (fun _ => 0)), qdg) := hF10050 _ _ hd110030_10049 (hne_new hdo10030_10048 hf10049)
  have hd110030_10051 : h10051 d1 = some (.inl (E.2.1 0, 8, .inl (fun _ => 0)), qdg) := hu_n eh10051 (Ne.symm had1) hd110030_10050
  have hd210030_10050 : h10050 d2 = some (.inl (E.2.1 0, 8, .inl (fun _ => 0)), qdg) := hF10050 _ _ hd210030_10049 (hne_new hdo10030_10048 hf10049)
  have hd210030_10051 : h10051 d2 = some (.inl (E.2.1 0, 8, .inl (fun _ => 0)), qdg) := hu_n eh10051 (Ne.symm had2) hd210030_10050
  have hd310030_10050 : h10050 d3 = some (.inl (E.2.1 0, 64, .inl (fun _ => 0)), qdg) := hF10050 _ _ hd310030_10049 (hne_new hdo10030_10048 hf10049)
  have hd310030_10051 : h10051 d3 = some (.inl (E.2.1 0, 64, .inl (fun _ => 0)), qdg) := hu_n eh10051 (Ne.symm had3) hd310030_10050
  have hd410030_10050 : h10050 d4 = some (.inl (E.2.1 1, 64, .inl (fun _ => 0)), qdg) := hF10050 _ _ hd410030_10049 (hne_new hdo10030_10048 hf10049)
  have hd410030_10051 : h10051 d4 = some (.inl (E.2.1 1, 64, .inl (fun _ => 0)), qdg) := hu_n eh10051 (Ne.symm had4) hd410030_10050
  have hpo10034_10050 : h10050 q10033_ = some (.inr (5, [.ref a]), q10033_) := hF10050 _ _ hpo10034_10049 (hne_new hpo10034_10048 hf10049)
  have hpo10034_10051 : h10051 q10033_ = some (.inr (5, [.ref a]), q10033_) := hu_n eh10051 (Ne.symm (hne_new hao_10032 hf10033)) hpo10034_10050
  have hco10037_10050 : h10050 q10036_ = some (.inr (6, [.ref a, .ref (Bq10037 0), .ref (Bq10037 (0 + 1))]), q10036_) := hF10050 _ _ hco10037_10049 (hne_new hco10037_10048 hf10049)
  have hco10037_10051 : h10051 q10036_ = some (.inr (6, [.ref a, .ref (Bq10037 0), .ref (Bq10037 (0 + 1))]), q10036_) := hu_n eh10051 (Ne.symm (hne_new hao_10035 hf10036)) hco10037_10050
  have hre10041_10050 : h10050 q10040_ = some (.inr (7, [.ref (Bq10041 2), .ref (Bq10041 (2 + 1)), .ref (Bq10041 (2 + 2)), .ref (Bq10041 (2 + 3)), .ref (Bq10041 (2 + 4)), .ref (Bq10041 (2 + 5)), .ref (Bq10041 (2 + 6)), .ref (Bq10041 (2 + 7)), .ref (Bq10041 (2 + 8)), .ref (Bq10041 (2 + 9)), .ref (Bq10041 (2 + 10))]), q10040_) := hF10050 _ _ hre10041_10049 (hne_new hre10041_10048 hf10049)
  have hre10041_10051 : h10051 q10040_ = some (.inr (7, [.ref (Bq10041 2), .ref (Bq10041 (2 + 1)), .ref (Bq10041 (2 + 2)), .ref (Bq10041 (2 + 3)), .ref (Bq10041 (2 + 4)), .ref (Bq10041 (2 + 5)), .ref (Bq10041 (2 + 6)), .ref (Bq10041 (2 + 7)), .ref (Bq10041 (2 + 8)), .ref (Bq10041 (2 + 9)), .ref (Bq10041 (2 + 10))]), q10040_) := hu_n eh10051 (Ne.symm (hne_new hao_10039 hf10040)) hre10041_10050
  have hnb_10052 : h10052 q10052_ = some (.inr (1, [.null, .int 0]), q10052_) := hu_s eh10052
  refine lv_dup hx hb dX1_init_235 rfl ?_
  refine lv_bipush (v := nI 64) hx hb dX1_init_236 rfl ?_
  have hao_10052 : h10052 a = some (.inr (0, [.ref q10001_, .int 0, .ref q10003_, .int 0, .int 0, .int (nI 1), .int (nI 100), .int (nI 1), .int (nI 10), .int (nI 11), .int (nI 10), .ref q10011_, .ref q10013_, .ref q10015_, .ref q10017_, .ref q10019_, .ref q10021_, .int 0, .int 0, .int 0, .int 0, .int (nI 0 - 1), .int 0, .ref q10024_, .int 0, .ref q10026_, .ref q10029_, .ref q10026_, .ref q10033_, .ref q10036_, .ref q10033_, .ref q10040_, .ref q10043_, .ref q10046_, .ref q10049_, .null, .null, .null, .null, .null, .null]), a) := hu_w eh10052 hf10052 hao_10051
  have hsc_10052 : h10052 sc = some (.inl xs, sc) := hu_w eh10052 hf10052 hsc_10051
  have hn7x_10052 : h10052 q10001_ = some (.inl (E.2.1 0, 8, .inl (fun _ => 0)), a) := hu_w eh10052 hf10052 hn7x_10051
  have hn15x_10052 : h10052 q10003_ = some (.inl (E.2.1 0, 64, .inl (fun _ => 0)), a) := hu_w eh10052 hf10052 hn15x_10051
  have hn58x_10052 : h10052 q10011_ = some (.inl (E.2.1 1, 20000, .inl (fun _ => 0)), a) := hu_w eh10052 hf10052 hn58x_10051
  have hn67x_10052 : h10052 q10013_ = some (.inl (E.2.1 1, 20000, .inl (fun _ => 0)), a) := hu_w eh10052 hf10052 hn67x_10051
  have hn76x_10052 : h10052 q10015_ = some (.inl (E.2.1 2, 20000, .inl (fun _ => 0)), a) := hu_w eh10052 hf10052 hn76x_10051
  have hn84x_10052 : h10052 q10017_ = some (.inl (E.2.1 3, 8, .inl (fun _ => 0)), a) := hu_w eh10052 hf10052 hn84x_10051
  have hn92x_10052 : h10052 q10019_ = some (.inl (E.2.1 0, 8, .inl (fun _ => 0)), a) := hu_w eh10052 hf10052 hn92x_10051
  have hn100x_10052 : h10052 q10021_ = some (.inl (E.2.1 0, 8, .inl (fun _ => 0)), a) := hu_w eh10052 hf10052 hn100x_10051
  have hn113x_10052 : h10052 q10024_ = some (.inl (E.2.1 6, 16, .inr (.inr (.inr (.inr (fun _ => none))))), a) := hu_w eh10052 hf10052 hn113x_10051
  have hcw10027_10052 : h10052 q10026_ = some (.inr (2, [.ref qrow, .int 0, .int 0]), q10026_) := hu_w eh10052 hf10052 hcw10027_10051
  have hcr10027_10052 : h10052 qrow = some (.inl (E.2.1 3, 4000, .inl (fun _ => 0)), q10026_) := hu_w eh10052 hf10052 hcr10027_10051
  have hse10030_10052 : h10052 q10029_ = some (.inr (3, [.ref qdig, .int 0, .ref qdg]), q10029_) := hu_w eh10052 hf10052 hse10030_10051
  have hsg10030_10052 : h10052 qdig = some (.inl (E.2.1 0, 20, .inl (fun _ => 0)), q10029_) := hu_w eh10052 hf10052 hsg10030_10051
  have hdo10030_10052 : h10052 qdg = some (.inr (4, [.ref d1, .ref d2, .ref d3, .ref d4, .int 0]), qdg) := hu_w eh10052 hf10052 hdo10030_10051
  have hd110030_10052 : h10052 d1 = some (.inl (E.2.1 0, 8, .inl (fun _ => 0)), qdg) := hu_w eh10052 hf10052 hd110030_10051
  have hd210030_10052 : h10052 d2 = some (.inl (E.2.1 0, 8, .inl (fun _ => 0)), qdg) := hu_w eh10052 hf10052 hd210030_10051
  have hd310030_10052 : h10052 d3 = some (.inl (E.2.1 0, 64, .inl (fun _ => 0)), qdg) := hu_w eh10052 hf10052 hd310030_10051
  have hd410030_10052 : h10052 d4 = some (.inl (E.2.1 1, 64, .inl (fun _ => 0)), qdg) := hu_w eh10052 hf10052 hd410030_10051
  have hpo10034_10052 : h10052 q10033_ = some (.inr (5, [.ref a]), q10033_) := hu_w eh10052 hf10052 hpo10034_10051
  have hco10037_10052 : h10052 q10036_ = some (.inr (6, [.ref a, .ref (Bq10037 0), .ref (Bq10037 (0 + 1))]), q10036_) := hu_w eh10052 hf10052 hco10037_10051
  have hre10041_10052 : h10052 q10040_ = some (.inr (7, [.ref (Bq10041 2), .ref (Bq10041 (2 + 1)), .ref (Bq10041 (2 + 2)), .ref (Bq10041 (2 + 3)), .ref (Bq10041 (2 + 4)), .ref (Bq10041 (2 + 5)), .ref (Bq10041 (2 + 6)), .ref (Bq10041 (2 + 7)), .ref (Bq10041 (2 + 8)), .ref (Bq10041 (2 + 9)), .ref (Bq10041 (2 + 10))]), q10040_) := hu_w eh10052 hf10052 hre10041_10051
  have hQ10050_10052 : PB E h10052 Bq10050 cq10050 16 := PB.kept (O := fun _ => False) (hu_fn eh10052 Fr.rf hf10052) (fun _ _ q => q) hQ10050_10051
  refine hg_I C T10052 hl.1 (m_X7_init hnb_10052 (by decide) (by decide)) q234 q167 q59 q168 rfl kd_X7_init rfl rfl ⟨Nat.le_of_ble_eq_true rfl, Nat.le_of_ble_eq_true rfl⟩ (Nat.le_of_ble_eq_true rfl) dX1_init_238 ⟨by show 0 + 1 + 1 + 1 + 1 + 1 + 1 + 1 + 1 + 1 + 1 + 1 + 1 + 6 + 1 + 1 + 4 + 1 + 22 + 1 + 1 + 1 + 1 + 1 + 1 + 1 + 1 ≤ 4200; omega, by show 0 + 8 + 64 + 20000 + 20000 + 20000 + 8 + 8 + 8 + 16 + 3 + 4000 + 3 + 169 + 1 + 3 + 132 + 11 + 726 + 2 + 64 + 2 + 64 + 2 + 64 + 2 + 64 ≤ 100000; omega⟩ (fun rv h10053 dc10053 ds10053 H10053 locs10053 hp10053 T10053 => ?_)
  obtain ⟨rfl, hbg10053, hF10053, rfl, rfl⟩ := hp10053
  obtain ⟨Bq10053, cq10053, hQ10053, hk10053, hat10053, hac10053⟩ := hQ10050_10051.add2 hf10052 eh10052 hF10053 hbg10053
  have hN_10053 : FN a h h10053 := hN_10051.nest hf10052 eh10052 hF10053.fn
  refine W.eq (g2 := F0 m 241 ls [.ref q10052_, .ref a]) rfl ?_
  have hao_10053 : h10053 a = some (.inr (0, [.ref q10001_, .int 0, .ref q10003_, .int 0, .int 0, .int (nI 1), .int (nI 100), .int (nI 1), .int (nI 10), .int (nI 11), .int (nI 10), .ref q10011_, .ref q10013_, .ref q10015_, .ref q10017_, .ref q10019_, .ref q10021_, .int 0, .int 0, .int 0, .int 0, .int (nI 0 - 1), .int 0, .ref q10024_, .int 0, .ref q10026_, .ref q10029_, .ref q10026_, .ref q10033_, .ref q10036_, .ref q10033_, .ref q10040_, .ref q10043_, .ref q10046_, .ref q10049_, .null, .null, .null, .null, .null, .null]), a) := hF10053 _ _ hao_10052 (hne_new hao_10051 hf10052)
  refine hr_putF C T10053 hin hao_10053 rfl in_X1 tyX1 tyX1_ok nmX1 35 (by decide) q337 rfl rfl rfl rfl rfl (Nat.le_of_ble_eq_true rfl) dX1_init_241 (fun h10054 H10054 locs10054 eh10054 T10054 => ?_)
  have hao_10054 : h10054 a = some (.inr (0, [.ref q10001_, .int 0, .ref q10003_, .int 0, .int 0, .int (nI 1), .int (nI 100), .int (nI 1), .int (nI 10), .int (nI 11), .int (nI 10), .ref q10011_, .ref q10013_, .ref q10015_, .ref q10017_, .ref q10019_, .ref q10021_, .int 0, .int 0, .int 0, .int 0, .int (nI 0 - 1), .int 0, .ref q10024_, .int 0, .ref q10026_, .ref q10029_, .ref q10026_, .ref q10033_, .ref q10036_, .ref q10033_, .ref q10040_, .ref q10043_, .ref q10046_, .ref q10049_, .ref q10052_, .null, .null, .null, .null, .null]), a) := hu_s eh10054
  refine lv_aload_n hx hb dX1_init_244 rfl (lv_at hl 0 rfl) ?_
  refine lv_sipush (v := nI 961) hx hb dX1_init_245 rfl ?_
  refine hr_newq C T10054 a 5 q233 (C.2.2.1.2.2.2.2.1) rfl (N := 961) (by decide) (by show 0 + 1 + 1 + 1 + 1 + 1 + 1 + 1 + 1 + 1 + 1 + 1 + 1 + 6 + 1 + 1 + 4 + 1 + 22 + 1 + 1 + 1 + 1 + 1 + 1 + 1 + 1 + 1 ≤ 4200; omega) (by show 0 + 8 + 64 + 20000 + 20000 + 20000 + 8 + 8 + 8 + 16 + 3 + 4000 + 3 + 169 + 1 + 3 + 132 + 11 + 726 + 2 + 64 + 2 + 64 + 2 + 64 + 2 + 64 + 961 ≤ 100000; omega) dX1_init_248 (fun h10055 q10055_ H10055 hf10055 eh10055 T10055 => ?_)
  have hsc_10053 : h10053 sc = some (.inl xs, sc) := hF10053 _ _ hsc_10052 (hne_new hsc_10051 hf10052)
  have hsc_10054 : h10054 sc = some (.inl xs, sc) := hu_n eh10054 hsa hsc_10053
  have hn7x_10053 : h10053 q10001_ = some (.inl (E.2.1 0, 8, .inl (fun _ => 0)), a) := hF10053 _ _ hn7x_10052 (hne_new hao_10051 hf10052)
  have hn7x_10054 : h10054 q10001_ = some (.inl (E.2.1 0, 8, .inl (fun _ => 0)), a) := hu_n eh10054 (Ne.symm (hne_new hao hf10001)) hn7x_10053
  have hn15x_10053 : h10053 q10003_ = some (.inl (E.2.1 0, 64, .inl (fun _ => 0)), a) := hF10053 _ _ hn15x_10052 (hne_new hao_10051 hf10052)
  have hn15x_10054 : h10054 q10003_ = some (.inl (E.2.1 0, 64, .inl (fun _ => 0)), a) := hu_n eh10054 (Ne.symm (hne_new hao_10002 hf10003)) hn15x_10053
  have hn58x_10053 : h10053 q10011_ = some (.inl (E.2.1 1, 20000, .inl (fun _ => 0)), a) := hF10053 _ _ hn58x_10052 (hne_new hao_10051 hf10052)
  have hn58x_10054 : h10054 q10011_ = some (.inl (E.2.1 1, 20000, .inl (fun _ => 0)), a) := hu_n eh10054 (Ne.symm (hne_new hao_10010 hf10011)) hn58x_10053
  have hn67x_10053 : h10053 q10013_ = some (.inl (E.2.1 1, 20000, .inl (fun _ => 0)), a) := hF10053 _ _ hn67x_10052 (hne_new hao_10051 hf10052)
  have hn67x_10054 : h10054 q10013_ = some (.inl (E.2.1 1, 20000, .inl (fun _ => 0)), a) := hu_n eh10054 (Ne.symm (hne_new hao_10012 hf10013)) hn67x_10053
  have hn76x_10053 : h10053 q10015_ = some (.inl (E.2.1 2, 20000, .inl (fun _ => 0)), a) := hF10053 _ _ hn76x_10052 (hne_new hao_10051 hf10052)
  have hn76x_10054 : h10054 q10015_ = some (.inl (E.2.1 2, 20000, .inl (fun _ => 0)), a) := hu_n eh10054 (Ne.symm (hne_new hao_10014 hf10015)) hn76x_10053
  have hn84x_10053 : h10053 q10017_ = some (.inl (E.2.1 3, 8, .inl (fun _ => 0)), a) := hF10053 _ _ hn84x_10052 (hne_new hao_10051 hf10052)
  have hn84x_10054 : h10054 q10017_ = some (.inl (E.2.1 3, 8, .inl (fun _ => 0)), a) := hu_n eh10054 (Ne.symm (hne_new hao_10016 hf10017)) hn84x_10053
  have hn92x_10053 : h10053 q10019_ = some (.inl (E.2.1 0, 8, .inl (fun _ => 0)), a) := hF10053 _ _ hn92x_10052 (hne_new hao_10051 hf10052)
  have hn92x_10054 : h10054 q10019_ = some (.inl (E.2.1 0, 8, .inl (fun _ => 0)), a) := hu_n eh10054 (Ne.symm (hne_new hao_10018 hf10019)) hn92x_10053
  have hn100x_10053 : h10053 q10021_ = some (.inl (E.2.1 0, 8, .inl (fun _ => 0)), a) := hF10053 _ _ hn100x_10052 (hne_new hao_10051 hf10052)
  have hn100x_10054 : h10054 q10021_ = some (.inl (E.2.1 0, 8, .inl (fun _ => 0)), a) := hu_n eh10054 (Ne.symm (hne_new hao_10020 hf10021)) hn100x_10053
  have hn113x_10053 : h10053 q10024_ = some (.inl (E.2.1 6, 16, .inr (.inr (.inr (.inr (fun _ => none))))), a) := hF10053 _ _ hn113x_10052 (hne_new hao_10051 hf10052)
  have hn113x_10054 : h10054 q10024_ = some (.inl (E.2.1 6, 16, .inr (.inr (.inr (.inr (fun _ => none))))), a) := hu_n eh10054 (Ne.symm (hne_new hao_10023 hf10024)) hn113x_10053
  have hcw10027_10053 : h10053 q10026_ = some (.inr (2, [.ref qrow, .int 0, .int 0]), q10026_) := hF10053 _ _ hcw10027_10052 (hne_new hcw10027_10051 hf10052)
  have hcw10027_10054 : h10054 q10026_ = some (.inr (2, [.ref qrow, .int 0, .int 0]), q10026_) := hu_n eh10054 (Ne.symm (hne_new hao_10025 hf10026)) hcw10027_10053
  have hcr10027_10053 : h10053 qrow = some (.inl (E.2.1 3, 4000, .inl (fun _ => 0)), q10026_) := hF10053 _ _ hcr10027_10052 (hne_new hcw10027_10051 hf10052)
  have hcr10027_10054 : h10054 qrow = some (.inl (E.2.1 3, 4000, .inl (fun _ => 0)), q10026_) := hu_n eh10054 (Ne.symm (hne_of hao_10027 hcr10027 (fun z => by cases z))) hcr10027_10053
  have hse10030_10053 : h10053 q10029_ = some (.inr (3, [.ref qdig, .int 0, .ref qdg]), q10029_) := hF10053 _ _ hse10030_10052 (hne_new hse10030_10051 hf10052)
  have hse10030_10054 : h10054 q10029_ = some (.inr (3, [.ref qdig, .int 0, .ref qdg]), q10029_) := hu_n eh10054 (Ne.symm (hne_new hao_10028 hf10029)) hse10030_10053
  have hsg10030_10053 : h10053 qdig = some (.inl (E.2.1 0, 20, .inl (fun _ => 0)), q10029_) := hF10053 _ _ hsg10030_10052 (hne_new hse10030_10051 hf10052)
  have hsg10030_10054 : h10054 qdig = some (.inl (E.2.1 0, 20, .inl (fun _ => 0)), q10029_) := hu_n eh10054 (Ne.symm haqdig) hsg10030_10053
  have hdo10030_10053 : h10053 qdg = some (.inr (4, [.ref d1, .ref d2, .ref d3, .ref d4, .int 0]), qdg) := hF10053 _ _ hdo10030_10052 (hne_new hdo10030_10051 hf10052)
  have hdo10030_10054 : h10054 qdg = some (.inr (4, [.ref d1, .ref d2, .ref d3, .ref d4, .int 0]), qdg) := hu_n eh10054 (Ne.symm hag) hdo10030_10053
  have hd110030_10053 : h10053 d1 = some (.inl (E.2.1 0, 8, .inl (fun _ => 0)), qdg) := hF10053 _ _ hd110030_10052 (hne_new hdo10030_10051 hf10052)
  have hd110030_10054 : h10054 d1 = some (.inl (E.2.1 0, 8, .inl (fun _ => 0)), qdg) := hu_n eh10054 (Ne.symm had1) hd110030_10053
  have hd210030_10053 : h10053 d2 = some (.inl (E.2.1 0, 8, .inl (fun _ => 0)), qdg) := hF10053 _ _ hd210030_10052 (hne_new hdo10030_10051 hf10052)
  have hd210030_10054 : h10054 d2 = some (.inl (E.2.1 0, 8, .inl (fun _ => 0)), qdg) := hu_n eh10054 (Ne.symm had2) hd210030_10053
  have hd310030_10053 : h10053 d3 = some (.inl (E.2.1 0, 64, .inl (fun _ => 0)), qdg) := hF10053 _ _ hd310030_10052 (hne_new hdo10030_10051 hf10052)
  have hd310030_10054 : h10054 d3 = some (.inl (E.2.1 0, 64, .inl (fun _ => 0)), qdg) := hu_n eh10054 (Ne.symm had3) hd310030_10053
  have hd410030_10053 : h10053 d4 = some (.inl (E.2.1 1, 64, .inl (fun _ => 0)), qdg) := hF10053 _ _ hd410030_10052 (hne_new hdo10030_10051 hf10052)
  have hd410030_10054 : h10054 d4 = some (.inl (E.2.1 1, 64, .inl (fun _ => 0)), qdg) := hu_n eh10054 (Ne.symm had4) hd410030_10053
  have hpo10034_10053 : h10053 q10033_ = some (.inr (5, [.ref a]), q10033_) := hF10053 _ _ hpo10034_10052 (hne_new hpo10034_10051 hf10052)
  have hpo10034_10054 : h10054 q10033_ = some (.inr (5, [.ref a]), q10033_) := hu_n eh10054 (Ne.symm (hne_new hao_10032 hf10033)) hpo10034_10053
  have hco10037_10053 : h10053 q10036_ = some (.inr (6, [.ref a, .ref (Bq10037 0), .ref (Bq10037 (0 + 1))]), q10036_) := hF10053 _ _ hco10037_10052 (hne_new hco10037_10051 hf10052)
  have hco10037_10054 : h10054 q10036_ = some (.inr (6, [.ref a, .ref (Bq10037 0), .ref (Bq10037 (0 + 1))]), q10036_) := hu_n eh10054 (Ne.symm (hne_new hao_10035 hf10036)) hco10037_10053
  have hre10041_10053 : h10053 q10040_ = some (.inr (7, [.ref (Bq10041 2), .ref (Bq10041 (2 + 1)), .ref (Bq10041 (2 + 2)), .ref (Bq10041 (2 + 3)), .ref (Bq10041 (2 + 4)), .ref (Bq10041 (2 + 5)), .ref (Bq10041 (2 + 6)), .ref (Bq10041 (2 + 7)), .ref (Bq10041 (2 + 8)), .ref (Bq10041 (2 + 9)), .ref (Bq10041 (2 + 10))]), q10040_) := hF10053 _ _ hre10041_10052 (hne_new hre10041_10051 hf10052)
  have hre10041_10054 : h10054 q10040_ = some (.inr (7, [.ref (Bq10041 2), .ref (Bq10041 (2 + 1)), .ref (Bq10041 (2 + 2)), .ref (Bq10041 (2 + 3)), .ref (Bq10041 (2 + 4)), .ref (Bq10041 (2 + 5)), .ref (Bq10041 (2 + 6)), .ref (Bq10041 (2 + 7)), .ref (Bq10041 (2 + 8)), .ref (Bq10041 (2 + 9)), .ref (Bq10041 (2 + 10))]), q10040_) := hu_n eh10054 (Ne.symm (hne_new hao_10039 hf10040)) hre10041_10053
  have hn248x_10055 : h10055 q10055_ = some (.inl (E.2.1 5, 961, .inr (.inr (.inr (.inr (fun _ => none))))), a) := hu_s eh10055
  have hao_10055 : h10055 a = some (.inr (0, [.ref q10001_, .int 0, .ref q10003_, .int 0, .int 0, .int (nI 1), .int (nI 100), .int (nI 1), .int (nI 10), .int (nI 11), .int (nI 10), .ref q10011_, .ref q10013_, .ref q10015_, .ref q10017_, .ref q10019_, .ref q10021_, .int 0, .int 0, .int 0, .int 0, .int (nI 0 - 1), .int 0, .ref q10024_, .int 0, .ref q10026_, .ref q10029_, .ref q10026_, .ref q10033_, .ref q10036_, .ref q10033_, .ref q10040_, .ref q10043_, .ref q10046_, .ref q10049_, .ref q10052_, .null, .null, .null, .null, .null]), a) := hu_w eh10055 hf10055 hao_10054
  refine hr_putF C T10055 hin hao_10055 rfl in_X1 tyX1 tyX1_ok nmX1 36 (by decide) q338 rfl rfl rfl rfl rfl (Nat.le_of_ble_eq_true rfl) dX1_init_251 (fun h10056 H10056 locs10056 eh10056 T10056 => ?_)
  have hao_10056 : h10056 a = some (.inr (0, [.ref q10001_, .int 0, .ref q10003_, .int 0, .int 0, .int (nI 1), .int (nI 100), .int (nI 1), .int (nI 10), .int (nI 11), .int (nI 10), .ref q10011_, .ref q10013_, .ref q10015_, .ref q10017_, .ref q10019_, .ref q10021_, .int 0, .int 0, .int 0, .int 0, .int (nI 0 - 1), .int 0, .ref q10024_, .int 0, .ref q10026_, .ref q10029_, .ref q10026_, .ref q10033_, .ref q10036_, .ref q10033_, .ref q10040_, .ref q10043_, .ref q10046_, .ref q10049_, .ref q10052_, .ref q10055_, .null, .null, .null, .null]), a) := hu_s eh10056
  refine lv_aload_n hx hb dX1_init_254 rfl (lv_at hl 0 rfl) ?_
  refine lv_sipush (v := nI 961) hx hb dX1_init_255 rfl ?_
  refine hr_newq C T10056 a 5 q233 (C.2.2.1.2.2.2.2.1) rfl (N := 961) (by decide) (by show 0 + 1 + 1 + 1 + 1 + 1 + 1 + 1 + 1 + 1 + 1 + 1 + 1 + 6 + 1 + 1 + 4 + 1 + 22 + 1 + 1 + 1 + 1 + 1 + 1 + 1 + 1 + 1 + 1 ≤ 4200; omega) (by show 0 + 8 + 64 + 20000 + 20000 + 20000 + 8 + 8 + 8 + 16 + 3 + 4000 + 3 + 169 + 1 + 3 + 132 + 11 + 726 + 2 + 64 + 2 + 64 + 2 + 64 + 2 + 64 + 961 + 961 ≤ 100000; omega) dX1_init_258 (fun h10057 q10057_ H10057 hf10057 eh10057 T10057 => ?_)
  have hsc_10055 : h10055 sc = some (.inl xs, sc) := hu_w eh10055 hf10055 hsc_10054
  have hsc_10056 : h10056 sc = some (.inl xs, sc) := hu_n eh10056 hsa hsc_10055
  have hn7x_10055 : h10055 q10001_ = some (.inl (E.2.1 0, 8, .inl (fun _ => 0)), a) := hu_w eh10055 hf10055 hn7x_10054
  have hn7x_10056 : h10056 q10001_ = some (.inl (E.2.1 0, 8, .inl (fun _ => 0)), a) := hu_n eh10056 (Ne.symm (hne_new hao hf10001)) hn7x_10055
  have hn15x_10055 : h10055 q10003_ = some (.inl (E.2.1 0, 64, .inl (fun _ => 0)), a) := hu_w eh10055 hf10055 hn15x_10054
  have hn15x_10056 : h10056 q10003_ = some (.inl (E.2.1 0, 64, .inl (fun _ => 0)), a) := hu_n eh10056 (Ne.symm (hne_new hao_10002 hf10003)) hn15x_10055
  have hn58x_10055 : h10055 q10011_ = some (.inl (E.2.1 1, 20000, .inl (fun _ => 0)), a) := hu_w eh10055 hf10055 hn58x_10054
  have hn58x_10056 : h10056 q10011_ = some (.inl (E.2.1 1, 20000, .inl (fun _ => 0)), a) := hu_n eh10056 (Ne.symm (hne_new hao_10010 hf10011)) hn58x_10055
  have hn67x_10055 : h10055 q10013_ = some (.inl (E.2.1 1, 20000, .inl (fun _ => 0)), a) := hu_w eh10055 hf10055 hn67x_10054
  have hn67x_10056 : h10056 q10013_ = some (.inl (E.2.1 1, 20000, .inl (fun _ => 0)), a) := hu_n eh10056 (Ne.symm (hne_new hao_10012 hf10013)) hn67x_10055
  have hn76x_10055 : h10055 q10015_ = some (.inl (E.2.1 2, 20000, .inl (fun _ => 0)), a) := hu_w eh10055 hf10055 hn76x_10054
  have hn76x_10056 : h10056 q10015_ = some (.inl (E.2.1 2, 20000, .inl (fun _ => 0)), a) := hu_n eh10056 (Ne.symm (hne_new hao_10014 hf10015)) hn76x_10055
  have hn84x_10055 : h10055 q10017_ = some (.inl (E.2.1 3, 8, .inl (fun _ => 0)), a) := hu_w eh10055 hf10055 hn84x_10054
  have hn84x_10056 : h10056 q10017_ = some (.inl (E.2.1 3, 8, .inl (fun _ => 0)), a) := hu_n eh10056 (Ne.symm (hne_new hao_10016 hf10017)) hn84x_10055
  have hn92x_10055 : h10055 q10019_ = some (.inl (E.2.1 0, 8, .inl (fun _ => 0)), a) := hu_w eh10055 hf10055 hn92x_10054
  have hn92x_10056 : h10056 q10019_ = some (.inl (E.2.1 0, 8, .inl (fun _ => 0)), a) := hu_n eh10056 (Ne.symm (hne_new hao_10018 hf10019)) hn92x_10055
  have hn100x_10055 : h10055 q10021_ = some (.inl (E.2.1 0, 8, .inl (fun _ => 0)), a) := hu_w eh10055 hf10055 hn100x_10054
  have hn100x_10056 : h10056 q10021_ = some (.inl (E.2.1 0, 8, .inl (fun _ => 0)), a) := hu_n eh10056 (Ne.symm (hne_new hao_10020 hf10021)) hn100x_10055
  have hn113x_10055 : h10055 q10024_ = some (.inl (E.2.1 6, 16, .inr (.inr (.inr (.inr (fun _ => none))))), a) := hu_w eh10055 hf10055 hn113x_10054
  have hn113x_10056 : h10056 q10024_ = some (.inl (E.2.1 6, 16, .inr (.inr (.inr (.inr (fun _ => none))))), a) := hu_n eh10056 (Ne.symm (hne_new hao_10023 hf10024)) hn113x_10055
  have hcw10027_10055 : h10055 q10026_ = some (.inr (2, [.ref qrow, .int 0, .int 0]), q10026_) := hu_w eh10055 hf10055 hcw10027_10054
  have hcw10027_10056 : h10056 q10026_ = some (.inr (2, [.ref qrow, .int 0, .int 0]), q10026_) := hu_n eh10056 (Ne.symm (hne_new hao_10025 hf10026)) hcw10027_10055
  have hcr10027_10055 : h10055 qrow = some (.inl (E.2.1 3, 4000, .inl (fun _ => 0)), q10026_) := hu_w eh10055 hf10055 hcr10027_10054
  have hcr10027_10056 : h10056 qrow = some (.inl (E.2.1 3, 4000, .inl (fun _ => 0)), q10026_) := hu_n eh10056 (Ne.symm (hne_of hao_10027 hcr10027 (fun z => by cases z))) hcr10027_10055
  have hse10030_10055 : h10055 q10029_ = some (.inr (3, [.ref qdig, .int 0, .ref qdg]), q10029_) := hu_w eh10055 hf10055 hse10030_10054
  have hse10030_10056 : h10056 q10029_ = some (.inr (3, [.ref qdig, .int 0, .ref qdg]), q10029_) := hu_n eh10056 (Ne.symm (hne_new hao_10028 hf10029)) hse10030_10055
  have hsg10030_10055 : h10055 qdig = some (.inl (E.2.1 0, 20, .inl (fun _ => 0)), q10029_) := hu_w eh10055 hf10055 hsg10030_10054
  have hsg10030_10056 : h10056 qdig = some (.inl (E.2.1 0, 20, .inl (fun _ => 0)), q10029_) := hu_n eh10056 (Ne.symm haqdig) hsg10030_10055
  have hdo10030_10055 : h10055 qdg = some (.inr (4, [.ref d1, .ref d2, .ref d3, .ref d4, .int 0]), qdg) := hu_w eh10055 hf10055 hdo10030_10054
  have hdo10030_10056 : h10056 qdg = some (.inr (4, [.ref d1, .ref d2, .ref d3, .ref d4, .int 0]), qdg) := hu_n eh10056 (Ne.symm hag) hdo10030_10055
  have hd110030_10055 : h10055 d1 = some (.inl (E.2.1 0, 8, .inl (fun _ => 0)), qdg) := hu_w eh10055 hf10055 hd110030_10054
  have hd110030_10056 : h10056 d1 = some (.inl (E.2.1 0, 8, .inl (fun _ => 0)), qdg) := hu_n eh10056 (Ne.symm had1) hd110030_10055
  have hd210030_10055 : h10055 d2 = some (.inl (E.2.1 0, 8, .inl (fun _ => 0)), qdg) := hu_w eh10055 hf10055 hd210030_10054
  have hd210030_10056 : h10056 d2 = some (.inl (E.2.1 0, 8, .inl (fun _ => 0)), qdg) := hu_n eh10056 (Ne.symm had2) hd210030_10055
  have hd310030_10055 : h10055 d3 = some (.inl (E.2.1 0, 64, .inl (fun _ => 0)), qdg) := hu_w eh10055 hf10055 hd310030_10054
  have hd310030_10056 : h10056 d3 = some (.inl (E.2.1 0, 64, .inl (fun _ => 0)), qdg) := hu_n eh10056 (Ne.symm had3) hd310030_10055
  have hd410030_10055 : h10055 d4 = some (.inl (E.2.1 1, 64, .inl (fun _ => 0)), qdg) := hu_w eh10055 hf10055 hd410030_10054
  have hd410030_10056 : h10056 d4 = some (.inl (E.2.1 1, 64, .inl (fun _ => 0)), qdg) := hu_n eh10056 (Ne.symm had4) hd410030_10055
  have hpo10034_10055 : h10055 q10033_ = some (.inr (5, [.ref a]), q10033_) := hu_w eh10055 hf10055 hpo10034_10054
  have hpo10034_10056 : h10056 q10033_ = some (.inr (5, [.ref a]), q10033_) := hu_n eh10056 (Ne.symm (hne_new hao_10032 hf10033)) hpo10034_10055
  have hco10037_10055 : h10055 q10036_ = some (.inr (6, [.ref a, .ref (Bq10037 0), .ref (Bq10037 (0 + 1))]), q10036_) := hu_w eh10055 hf10055 hco10037_10054
  have hco10037_10056 : h10056 q10036_ = some (.inr (6, [.ref a, .ref (Bq10037 0), .ref (Bq10037 (0 + 1))]), q10036_) := hu_n eh10056 (Ne.symm (hne_new hao_10035 hf10036)) hco10037_10055
  have hre10041_10055 : h10055 q10040_ = some (.inr (7, [.ref (Bq10041 2), .ref (Bq10041 (2 + 1)), .ref (Bq10041 (2 + 2)), .ref (Bq10041 (2 + 3)), .ref (Bq10041 (2 + 4)), .ref (Bq10041 (2 + 5)), .ref (Bq10041 (2 + 6)), .ref (Bq10041 (2 + 7)), .ref (Bq10041 (2 + 8)), .ref (Bq10041 (2 + 9)), .ref (Bq10041 (2 + 10))]), q10040_) := hu_w eh10055 hf10055 hre10041_10054
  have hre10041_10056 : h10056 q10040_ = some (.inr (7, [.ref (Bq10041 2), .ref (Bq10041 (2 + 1)), .ref (Bq10041 (2 + 2)), .ref (Bq10041 (2 + 3)), .ref (Bq10041 (2 + 4)), .ref (Bq10041 (2 + 5)), .ref (Bq10041 (2 + 6)), .ref (Bq10041 (2 + 7)), .ref (Bq10041 (2 + 8)), .ref (Bq10041 (2 + 9)), .ref (Bq10041 (2 + 10))]), q10040_) := hu_n eh10056 (Ne.symm (hne_new hao_10039 hf10040)) hre10041_10055
  have hn248x_10056 : h10056 q10055_ = some (.inl (E.2.1 5, 961, .inr (.inr (.inr (.inr (fun _ => none))))), a) := hu_n eh10056 (Ne.symm (hne_new hao_10054 hf10055)) hn248x_10055
  have hn258x_10057 : h10057 q10057_ = some (.inl (E.2.1 5, 961, .inr (.inr (.inr (.inr (fun _ => none))))), a) := hu_s eh10057
  have hao_10057 : h10057 a = some (.inr (0, [.ref q10001_, .int 0, .ref q10003_, .int 0, .int 0, .int (nI 1), .int (nI 100), .int (nI 1), .int (nI 10), .int (nI 11), .int (nI 10), .ref q10011_, .ref q10013_, .ref q10015_, .ref q10017_, .ref q10019_, .ref q10021_, .int 0, .int 0, .int 0, .int 0, .int (nI 0 - 1), .int 0, .ref q10024_, .int 0, .ref q10026_, .ref q10029_, .ref q10026_, .ref q10033_, .ref q10036_, .ref q10033_, .ref q10040_, .ref q10043_, .ref q10046_, .ref q10049_, .ref q10052_, .ref q10055_, .null, .null, .null, .null]), a) := hu_w eh10057 hf10057 hao_10056
  refine hr_putF C T10057 hin hao_10057 rfl in_X1 tyX1 tyX1_ok nmX1 37 (by decide) q339 rfl rfl rfl rfl rfl (Nat.le_of_ble_eq_true rfl) dX1_init_261 (fun h10058 H10058 locs10058 eh10058 T10058 => ?_)
  have hao_10058 : h10058 a = some (.inr (0, [.ref q10001_, .int 0, .ref q10003_, .int 0, .int 0, .int (nI 1), .int (nI 100), .int (nI 1), .int (nI 10), .int (nI 11), .int (nI 10), .ref q10011_, .ref q10013_, .ref q10015_, .ref q10017_, .ref q10019_, .ref q10021_, .int 0, .int 0, .int 0, .int 0, .int (nI 0 - 1), .int 0, .ref q10024_, .int 0, .ref q10026_, .ref q10029_, .ref q10026_, .ref q10033_, .ref q10036_, .ref q10033_, .ref q10040_, .ref q10043_, .ref q10046_, .ref q10049_, .ref q10052_, .ref q10055_, .ref q10057_, .null, .null, .null]), a) := hu_s eh10058
  refine lv_aload_n hx hb dX1_init_264 rfl (lv_at hl 0 rfl) ?_
  refine lv_sipush (v := nI 961) hx hb dX1_init_265 rfl ?_
  refine hr_newa C T10058 a 3 (atype := .boolean) q106 (ty := .boolean) rfl rfl (N := 961) (a0 := (961, (.inl (fun _ => 0)))) (fun cA => rfl) (by omega) (by show 0 + 1 + 1 + 1 + 1 + 1 + 1 + 1 + 1 + 1 + 1 + 1 + 1 + 6 + 1 + 1 + 4 + 1 + 22 + 1 + 1 + 1 + 1 + 1 + 1 + 1 + 1 + 1 + 1 + 1 ≤ 4200; omega) (by show 0 + 8 + 64 + 20000 + 20000 + 20000 + 8 + 8 + 8 + 16 + 3 + 4000 + 3 + 169 + 1 + 3 + 132 + 11 + 726 + 2 + 64 + 2 + 64 + 2 + 64 + 2 + 64 + 961 + 961 + 961 ≤ 100000; omega) dX1_init_268 (fun h10059 q10059_ H10059 hf10059 eh10059 T10059 => ?_)
  have hsc_10057 : h10057 sc = some (.inl xs, sc) := hu_w eh10057 hf10057 hsc_10056
  have hsc_10058 : h10058 sc = some (.inl xs, sc) := hu_n eh10058 hsa hsc_10057
  have hn7x_10057 : h10057 q10001_ = some (.inl (E.2.1 0, 8, .inl (fun _ => 0)), a) := hu_w eh10057 hf10057 hn7x_10056
  have hn7x_10058 : h10058 q10001_ = some (.inl (E.2.1 0, 8, .inl (fun _ => 0)), a) := hu_n eh10058 (Ne.symm (hne_new hao hf10001)) hn7x_10057
  have hn15x_10057 : h10057 q10003_ = some (.inl (E.2.1 0, 64, .inl (fun _ => 0)), a) := hu_w eh10057 hf10057 hn15x_10056
  have hn15x_10058 : h10058 q10003_ = some (.inl (E.2.1 0, 64, .inl (fun _ => 0)), a) := hu_n eh10058 (Ne.symm (hne_new hao_10002 hf10003)) hn15x_10057
  have hn58x_10057 : h10057 q10011_ = some (.inl (E.2.1 1, 20000, .inl (fun _ => 0)), a) := hu_w eh10057 hf10057 hn58x_10056
  have hn58x_10058 : h10058 q10011_ = some (.inl (E.2.1 1, 20000, .inl (fun _ => 0)), a) := hu_n eh10058 (Ne.symm (hne_new hao_10010 hf10011)) hn58x_10057
  have hn67x_10057 : h10057 q10013_ = some (.inl (E.2.1 1, 20000, .inl (fun _ => 0)), a) := hu_w eh10057 hf10057 hn67x_10056
  have hn67x_10058 : h10058 q10013_ = some (.inl (E.2.1 1, 20000, .inl (fun _ => 0)), a) := hu_n eh10058 (Ne.symm (hne_new hao_10012 hf10013)) hn67x_10057
  have hn76x_10057 : h10057 q10015_ = some (.inl (E.2.1 2, 20000, .inl (fun _ => 0)), a) := hu_w eh10057 hf10057 hn76x_10056
  have hn76x_10058 : h10058 q10015_ = some (.inl (E.2.1 2, 20000, .inl (fun _ => 0)), a) := hu_n eh10058 (Ne.symm (hne_new hao_10014 hf10015)) hn76x_10057
  have hn84x_10057 : h10057 q10017_ = some (.inl (E.2.1 3, 8, .inl (fun _ => 0)), a) := hu_w eh10057 hf10057 hn84x_10056
  have hn84x_10058 : h10058 q10017_ = some (.inl (E.2.1 3, 8, .inl (fun _ => 0)), a) := hu_n eh10058 (Ne.symm (hne_new hao_10016 hf10017)) hn84x_10057
  have hn92x_10057 : h10057 q10019_ = some (.inl (E.2.1 0, 8, .inl (fun _ => 0)), a) := hu_w eh10057 hf10057 hn92x_10056
  have hn92x_10058 : h10058 q10019_ = some (.inl (E.2.1 0, 8, .inl (fun _ => 0)), a) := hu_n eh10058 (Ne.symm (hne_new hao_10018 hf10019)) hn92x_10057
  have hn100x_10057 : h10057 q10021_ = some (.inl (E.2.1 0, 8, .inl (fun _ => 0)), a) := hu_w eh10057 hf10057 hn100x_10056
  have hn100x_10058 : h10058 q10021_ = some (.inl (E.2.1 0, 8, .inl (fun _ => 0)), a) := hu_n eh10058 (Ne.symm (hne_new hao_10020 hf10021)) hn100x_10057
  have hn113x_10057 : h10057 q10024_ = some (.inl (E.2.1 6, 16, .inr (.inr (.inr (.inr (fun _ => none))))), a) := hu_w eh10057 hf10057 hn113x_10056
  have hn113x_10058 : h10058 q10024_ = some (.inl (E.2.1 6, 16, .inr (.inr (.inr (.inr (fun _ => none))))), a) := hu_n eh10058 (Ne.symm (hne_new hao_10023 hf10024)) hn113x_10057
  have hcw10027_10057 : h10057 q10026_ = some (.inr (2, [.ref qrow, .int 0, .int 0]), q10026_) := hu_w eh10057 hf10057 hcw10027_10056
  have hcw10027_10058 : h10058 q10026_ = some (.inr (2, [.ref qrow, .int 0, .int 0]), q10026_) := hu_n eh10058 (Ne.symm (hne_new hao_10025 hf10026)) hcw10027_10057
  have hcr10027_10057 : h10057 qrow = some (.inl (E.2.1 3, 4000, .inl (fun _ => 0)), q10026_) := hu_w eh10057 hf10057 hcr10027_10056
  have hcr10027_10058 : h10058 qrow = some (.inl (E.2.1 3, 4000, .inl (fun _ => 0)), q10026_) := hu_n eh10058 (Ne.symm (hne_of hao_10027 hcr10027 (fun z => by cases z))) hcr10027_10057
  have hse10030_10057 : h10057 q10029_ = some (.inr (3, [.ref qdig, .int 0, .ref qdg]), q10029_) := hu_w eh10057 hf10057 hse10030_10056
  have hse10030_10058 : h10058 q10029_ = some (.inr (3, [.ref qdig, .int 0, .ref qdg]), q10029_) := hu_n eh10058 (Ne.symm (hne_new hao_10028 hf10029)) hse10030_10057
  have hsg10030_10057 : h10057 qdig = some (.inl (E.2.1 0, 20, .inl (fun _ => 0)), q10029_) := hu_w eh10057 hf10057 hsg10030_10056
  have hsg10030_10058 : h10058 qdig = some (.inl (E.2.1 0, 20, .inl (fun _ => 0)), q10029_) := hu_n eh10058 (Ne.symm haqdig) hsg10030_10057
  have hdo10030_10057 : h10057 qdg = some (.inr (4, [.ref d1, .ref d2, .ref d3, .ref d4, .int 0]), qdg) := hu_w eh10057 hf10057 hdo10030_10056
  have hdo10030_10058 : h10058 qdg = some (.inr (4, [.ref d1, .ref d2, .ref d3, .ref d4, .int 0]), qdg) := hu_n eh10058 (Ne.symm hag) hdo10030_10057
  have hd110030_10057 : h10057 d1 = some (.inl (E.2.1 0, 8, .inl (fun _ => 0)), qdg) := hu_w eh10057 hf10057 hd110030_10056
  have hd110030_10058 : h10058 d1 = some (.inl (E.2.1 0, 8, .inl (fun _ => 0)), qdg) := hu_n eh10058 (Ne.symm had1) hd110030_10057
  have hd210030_10057 : h10057 d2 = some (.inl (E.2.1 0, 8, .inl (fun _ => 0)), qdg) := hu_w eh10057 hf10057 hd210030_10056
  have hd210030_10058 : h10058 d2 = some (.inl (E.2.1 0, 8, .inl (fun _ => 0)), qdg) := hu_n eh10058 (Ne.symm had2) hd210030_10057
  have hd310030_10057 : h10057 d3 = some (.inl (E.2.1 0, 64, .inl (fun _ => 0)), qdg) := hu_w eh10057 hf10057 hd310030_10056
  have hd310030_10058 : h10058 d3 = some (.inl (E.2.1 0, 64, .inl (fun _ => 0)), qdg) := hu_n eh10058 (Ne.symm had3) hd310030_10057
  have hd410030_10057 : h10057 d4 = some (.inl (E.2.1 1, 64, .inl (fun _ => 0)), qdg) := hu_w eh10057 hf10057 hd410030_10056
  have hd410030_10058 : h10058 d4 = some (.inl (E.2.1 1, 64, .inl (fun _ => 0)), qdg) := hu_n eh10058 (Ne.symm had4) hd410030_10057
  have hpo10034_10057 : h10057 q10033_ = some (.inr (5, [.ref a]), q10033_) := hu_w eh10057 hf10057 hpo10034_10056
  have hpo10034_10058 : h10058 q10033_ = some (.inr (5, [.ref a]), q10033_) := hu_n eh10058 (Ne.symm (hne_new hao_10032 hf10033)) hpo10034_10057
  have hco10037_10057 : h10057 q10036_ = some (.inr (6, [.ref a, .ref (Bq10037 0), .ref (Bq10037 (0 + 1))]), q10036_) := hu_w eh10057 hf10057 hco10037_10056
  have hco10037_10058 : h10058 q10036_ = some (.inr (6, [.ref a, .ref (Bq10037 0), .ref (Bq10037 (0 + 1))]), q10036_) := hu_n eh10058 (Ne.symm (hne_new hao_10035 hf10036)) hco10037_10057
  have hre10041_10057 : h10057 q10040_ = some (.inr (7, [.ref (Bq10041 2), .ref (Bq10041 (2 + 1)), .ref (Bq10041 (2 + 2)), .ref (Bq10041 (2 + 3)), .ref (Bq10041 (2 + 4)), .ref (Bq10041 (2 + 5)), .ref (Bq10041 (2 + 6)), .ref (Bq10041 (2 + 7)), .ref (Bq10041 (2 + 8)), .ref (Bq10041 (2 + 9)), .ref (Bq10041 (2 + 10))]), q10040_) := hu_w eh10057 hf10057 hre10041_10056
  have hre10041_10058 : h10058 q10040_ = some (.inr (7, [.ref (Bq10041 2), .ref (Bq10041 (2 + 1)), .ref (Bq10041 (2 + 2)), .ref (Bq10041 (2 + 3)), .ref (Bq10041 (2 + 4)), .ref (Bq10041 (2 + 5)), .ref (Bq10041 (2 + 6)), .ref (Bq10041 (2 + 7)), .ref (Bq10041 (2 + 8)), .ref (Bq10041 (2 + 9)), .ref (Bq10041 (2 + 10))]), q10040_) := hu_n eh10058 (Ne.symm (hne_new hao_10039 hf10040)) hre10041_10057
  have hn248x_10057 : h10057 q10055_ = some (.inl (E.2.1 5, 961, .inr (.inr (.inr (.inr (fun _ => none))))), a) := hu_w eh10057 hf10057 hn248x_10056
  have hn248x_10058 : h10058 q10055_ = some (.inl (E.2.1 5, 961, .inr (.inr (.inr (.inr (fun _ => none))))), a) := hu_n eh10058 (Ne.symm (hne_new hao_10054 hf10055)) hn248x_10057
  have hn258x_10058 : h10058 q10057_ = some (.inl (E.2.1 5, 961, .inr (.inr (.inr (.inr (fun _ => none))))), a) := hu_n eh10058 (Ne.symm (hne_new hao_10056 hf10057)) hn258x_10057
  have hn268x_10059 : h10059 q10059_ = some (.inl (E.2.1 3, 961, .inl (fun _ => 0)), a) := hu_s eh10059
  have hao_10059 : h10059 a = some (.inr (0, [.ref q10001_, .int 0, .ref q10003_, .int 0, .int 0, .int (nI 1), .int (nI 100), .int (nI 1), .int (nI 10), .int (nI 11), .int (nI 10), .ref q10011_, .ref q10013_, .ref q10015_, .ref q10017_, .ref q10019_, .ref q10021_, .int 0, .int 0, .int 0, .int 0, .int (nI 0 - 1), .int 0, .ref q10024_, .int 0, .ref q10026_, .ref q10029_, .ref q10026_, .ref q10033_, .ref q10036_, .ref q10033_, .ref q10040_, .ref q10043_, .ref q10046_, .ref q10049_, .ref q10052_, .ref q10055_, .ref q10057_, .null, .null, .null]), a) := hu_w eh10059 hf10059 hao_10058
  refine hr_putF C T10059 hin hao_10059 rfl in_X1 tyX1 tyX1_ok nmX1 38 (by decide) q340 rfl rfl rfl rfl rfl (Nat.le_of_ble_eq_true rfl) dX1_init_270 (fun h10060 H10060 locs10060 eh10060 T10060 => ?_)
  have hao_10060 : h10060 a = some (.inr (0, [.ref q10001_, .int 0, .ref q10003_, .int 0, .int 0, .int (nI 1), .int (nI 100), .int (nI 1), .int (nI 10), .int (nI 11), .int (nI 10), .ref q10011_, .ref q10013_, .ref q10015_, .ref q10017_, .ref q10019_, .ref q10021_, .int 0, .int 0, .int 0, .int 0, .int (nI 0 - 1), .int 0, .ref q10024_, .int 0, .ref q10026_, .ref q10029_, .ref q10026_, .ref q10033_, .ref q10036_, .ref q10033_, .ref q10040_, .ref q10043_, .ref q10046_, .ref q10049_, .ref q10052_, .ref q10055_, .ref q10057_, .ref q10059_, .null, .null]), a) := hu_s eh10060
  refine lv_aload_n hx hb dX1_init_273 rfl (lv_at hl 0 rfl) ?_
  have hN_10054 : FN a h h10054 := hN_10053.up hao_10053 eh10054
  have hN_10055 : FN a h h10055 := hN_10054.new hf10055 eh10055
  have hN_10056 : FN a h h10056 := hN_10055.up hao_10055 eh10056
  have hN_10057 : FN a h h10057 := hN_10056.new hf10057 eh10057
  have hN_10058 : FN a h h10058 := hN_10057.up hao_10057 eh10058
  have hN_10059 : FN a h h10059 := hN_10058.new hf10059 eh10059
  have hN_10060 : FN a h h10060 := hN_10059.up hao_10059 eh10060
  have hQ10053_10054 : PB E h10054 Bq10053 cq10053 17 := PB.kept (O := (· = a)) (hu_f eh10054 Fr.rf hao_10053 rfl) (hQ10053.neobj hao_10053 (by decide)) hQ10053
  have hQ10053_10055 : PB E h10055 Bq10053 cq10053 17 := PB.kept (O := fun _ => False) (hu_fn eh10055 Fr.rf hf10055) (fun _ _ q => q) hQ10053_10054
  have hQ10053_10056 : PB E h10056 Bq10053 cq10053 17 := PB.kept (O := (· = a)) (hu_f eh10056 Fr.rf hao_10055 rfl) (hQ10053.neobj hao_10053 (by decide)) hQ10053_10055
  have hQ10053_10057 : PB E h10057 Bq10053 cq10053 17 := PB.kept (O := fun _ => False) (hu_fn eh10057 Fr.rf hf10057) (fun _ _ q => q) hQ10053_10056
  have hQ10053_10058 : PB E h10058 Bq10053 cq10053 17 := PB.kept (O := (· = a)) (hu_f eh10058 Fr.rf hao_10057 rfl) (hQ10053.neobj hao_10053 (by decide)) hQ10053_10057
  have hQ10053_10059 : PB E h10059 Bq10053 cq10053 17 := PB.kept (O := fun _ => False) (hu_fn eh10059 Fr.rf hf10059) (fun _ _ q => q) hQ10053_10058
  have hQ10053_10060 : PB E h10060 Bq10053 cq10053 17 := PB.kept (O := (· = a)) (hu_f eh10060 Fr.rf hao_10059 rfl) (hQ10053.neobj hao_10053 (by decide)) hQ10053_10059
  refine hr_new C T10060 (fun q => q) (ci := 1) rfl in_X7 tyX7 tyX7_ok q233 q165 q59 (fs := [.null, .int 0]) dfX7 (by show 0 + 1 + 1 + 1 + 1 + 1 + 1 + 1 + 1 + 1 + 1 + 1 + 1 + 6 + 1 + 1 + 4 + 1 + 22 + 1 + 1 + 1 + 1 + 1 + 1 + 1 + 1 + 1 + 1 + 1 + 1 ≤ 4200; omega) (by show 0 + 8 + 64 + 20000 + 20000 + 20000 + 8 + 8 + 8 + 16 + 3 + 4000 + 3 + 169 + 1 + 3 + 132 + 11 + 726 + 2 + 64 + 2 + 64 + 2 + 64 + 2 + 64 + 961 + 961 + 961 + 2 ≤ 100000; omega) dX1_init_274 (fun h10061 q10061_ H10061 hf10061 eh10061 T10061 => ?_)
  have hsc_10059 : h10059 sc = some (.inl xs, sc) := hu_w eh10059 hf10059 hsc_10058
  have hsc_10060 : h10060 sc = some (.inl xs, sc) := hu_n eh10060 hsa hsc_10059
  have hn7x_10059 : h10059 q10001_ = some (.inl (E.2.1 0, 8, .inl (fun _ => 0)), a) := hu_w eh10059 hf10059 hn7x_10058
  have hn7x_10060 : h10060 q10001_ = some (.inl (E.2.1 0, 8, .inl (fun _ => 0)), a) := hu_n eh10060 (Ne.symm (hne_new hao hf10001)) hn7x_10059
  have hn15x_10059 : h10059 q10003_ = some (.inl (E.2.1 0, 64, .inl (fun _ => 0)), a) := hu_w eh10059 hf10059 hn15x_10058
  have hn15x_10060 : h10060 q10003_ = some (.inl (E.2.1 0, 64, .inl (fun _ => 0)), a) := hu_n eh10060 (Ne.symm (hne_new hao_10002 hf10003)) hn15x_10059
  have hn58x_10059 : h10059 q10011_ = some (.inl (E.2.1 1, 20000, .inl (fun _ => 0)), a) := hu_w eh10059 hf10059 hn58x_10058
  have hn58x_10060 : h10060 q10011_ = some (.inl (E.2.1 1, 20000, .inl (fun _ => 0)), a) := hu_n eh10060 (Ne.symm (hne_new hao_10010 hf10011)) hn58x_10059
  have hn67x_10059 : h10059 q10013_ = some (.inl (E.2.1 1, 20000, .inl (fun _ => 0)), a) := hu_w eh10059 hf10059 hn67x_10058
  have hn67x_10060 : h10060 q10013_ = some (.inl (E.2.1 1, 20000, .inl (fun _ => 0)), a) := hu_n eh10060 (Ne.symm (hne_new hao_10012 hf10013)) hn67x_10059
  have hn76x_10059 : h10059 q10015_ = some (.inl (E.2.1 2, 20000, .inl (fun _ => 0)), a) := hu_w eh10059 hf10059 hn76x_10058
  have hn76x_10060 : h10060 q10015_ = some (.inl (E.2.1 2, 20000, .inl (fun _ => 0)), a) := hu_n eh10060 (Ne.symm (hne_new hao_10014 hf10015)) hn76x_10059
  have hn84x_10059 : h10059 q10017_ = some (.inl (E.2.1 3, 8, .inl (fun _ => 0)), a) := hu_w eh10059 hf10059 hn84x_10058
  have hn84x_10060 : h10060 q10017_ = some (.inl (E.2.1 3, 8, .inl (fun _ => 0)), a) := hu_n eh10060 (Ne.symm (hne_new hao_10016 hf10017)) hn84x_10059
  have hn92x_10059 : h10059 q10019_ = some (.inl (E.2.1 0, 8, .inl (fun _ => 0)), a) := hu_w eh10059 hf10059 hn92x_10058
  have hn92x_10060 : h10060 q10019_ = some (.inl (E.2.1 0, 8, .inl (fun _ => 0)), a) := hu_n eh10060 (Ne.symm (hne_new hao_10018 hf10019)) hn92x_10059
  have hn100x_10059 : h10059 q10021_ = some (.inl (E.2.1 0, 8, .inl (fun _ => 0)), a) := hu_w eh10059 hf10059 hn100x_10058
  have hn100x_10060 : h10060 q10021_ = some (.inl (E.2.1 0, 8, .inl (fun _ => 0)), a) := hu_n eh10060 (Ne.symm (hne_new hao_10020 hf10021)) hn100x_10059
  have hn113x_10059 : h10059 q10024_ = some (.inl (E.2.1 6, 16, .inr (.inr (.inr (.inr (fun _ => none))))), a) := hu_w eh10059 hf10059 hn113x_10058
  have hn113x_10060 : h10060 q10024_ = some (.inl (E.2.1 6, 16, .inr (.inr (.inr (.inr (fun _ => none))))), a) := hu_n eh10060 (Ne.symm (hne_new hao_10023 hf10024)) hn113x_10059
  have hcw10027_10059 : h10059 q10026_ = some (.inr (2, [.ref qrow, .int 0, .int 0]), q10026_) := hu_w eh10059 hf10059 hcw10027_10058
  have hcw10027_10060 : h10060 q10026_ = some (.inr (2, [.ref qrow, .int 0, .int 0]), q10026_) := hu_n eh10060 (Ne.symm (hne_new hao_10025 hf10026)) hcw10027_10059
  have hcr10027_10059 : h10059 qrow = some (.inl (E.2.1 3, 4000, .inl (fun _ => 0)), q10026_) := hu_w eh10059 hf10059 hcr10027_10058
  have hcr10027_10060 : h10060 qrow = some (.inl (E.2.1 3, 4000, .inl (fun _ => 0)), q10026_) := hu_n eh10060 (Ne.symm (hne_of hao_10027 hcr10027 (fun z => by cases z))) hcr10027_10059
  have hse10030_10059 : h10059 q10029_ = some (.inr (3, [.ref qdig, .int 0, .ref qdg]), q10029_) := hu_w eh10059 hf10059 hse10030_10058
  have hse10030_10060 : h10060 q10029_ = some (.inr (3, [.ref qdig, .int 0, .ref qdg]), q10029_) := hu_n eh10060 (Ne.symm (hne_new hao_10028 hf10029)) hse10030_10059
  have hsg10030_10059 : h10059 qdig = some (.inl (E.2.1 0, 20, .inl (fun _ => 0)), q10029_) := hu_w eh10059 hf10059 hsg10030_10058
  have hsg10030_10060 : h10060 qdig = some (.inl (E.2.1 0, 20, .inl (fun _ => 0)), q10029_) := hu_n eh10060 (Ne.symm haqdig) hsg10030_10059
  have hdo10030_10059 : h10059 qdg = some (.inr (4, [.ref d1, .ref d2, .ref d3, .ref d4, .int 0]), qdg) := hu_w eh10059 hf10059 hdo10030_10058
  have hdo10030_10060 : h10060 qdg = some (.inr (4, [.ref d1, .ref d2, .ref d3, .ref d4, .int 0]), qdg) := hu_n eh10060 (Ne.symm hag) hdo10030_10059
  have hd110030_10059 : h10059 d1 = some (.inl (E.2.1 0, 8, .inl (fun _ => 0)), qdg) := hu_w eh10059 hf10059 hd110030_10058
  have hd110030_10060 : h10060 d1 = some (.inl (E.2.1 0, 8, .inl (fun _ => 0)), qdg) := hu_n eh10060 (Ne.symm had1) hd110030_10059
  have hd210030_10059 : h10059 d2 = some (.inl (E.2.1 0, 8, .inl (fun _ => 0)), qdg) := hu_w eh10059 hf10059 hd210030_10058
  have hd210030_10060 : h10060 d2 = some (.inl (E.2.1 0, 8, .inl (fun _ => 0)), qdg) := hu_n eh10060 (Ne.symm had2) hd210030_10059
  have hd310030_10059 : h10059 d3 = some (.inl (E.2.1 0, 64, .inl (fun _ => 0)), qdg) := hu_w eh10059 hf10059 hd310030_10058
  have hd310030_10060 : h10060 d3 = some (.inl (E.2.1 0, 64, .inl (fun _ => 0)), qdg) := hu_n eh10060 (Ne.symm had3) hd310030_10059
  have hd410030_10059 : h10059 d4 = some (.inl (E.2.1 1, 64, .inl (fun _ => 0)), qdg) := hu_w eh10059 hf10059 hd410030_10058
  have hd410030_10060 : h10060 d4 = some (.inl (E.2.1 1, 64, .inl (fun _ => 0)), qdg) := hu_n eh10060 (Ne.symm had4) hd410030_10059
  have hpo10034_10059 : h10059 q10033_ = some (.inr (5, [.ref a]), q10033_) := hu_w eh10059 hf10059 hpo10034_10058
  have hpo10034_10060 : h10060 q10033_ = some (.inr (5, [.ref a]), q10033_) := hu_n eh10060 (Ne.symm (hne_new hao_10032 hf10033)) hpo10034_10059
  have hco10037_10059 : h10059 q10036_ = some (.inr (6, [.ref a, .ref (Bq10037 0), .ref (Bq10037 (0 + 1))]), q10036_) := hu_w eh10059 hf10059 hco10037_10058
  have hco10037_10060 : h10060 q10036_ = some (.inr (6, [.ref a, .ref (Bq10037 0), .ref (Bq10037 (0 + 1))]), q10036_) := hu_n eh10060 (Ne.symm (hne_new hao_10035 hf10036)) hco10037_10059
  have hre10041_10059 : h10059 q10040_ = some (.inr (7, [.ref (Bq10041 2), .ref (Bq10041 (2 + 1)), .ref (Bq10041 (2 + 2)), .ref (Bq10041 (2 + 3)), .ref (Bq10041 (2 + 4)), .ref (Bq10041 (2 + 5)), .ref (Bq10041 (2 + 6)), .ref (Bq10041 (2 + 7)), .ref (Bq10041 (2 + 8)), .ref (Bq10041 (2 + 9)), .ref (Bq10041 (2 + 10))]), q10040_) := hu_w eh10059 hf10059 hre10041_10058
  have hre10041_10060 : h10060 q10040_ = some (.inr (7, [.ref (Bq10041 2), .ref (Bq10041 (2 + 1)), .ref (Bq10041 (2 + 2)), .ref (Bq10041 (2 + 3)), .ref (Bq10041 (2 + 4)), .ref (Bq10041 (2 + 5)), .ref (Bq10041 (2 + 6)), .ref (Bq10041 (2 + 7)), .ref (Bq10041 (2 + 8)), .ref (Bq10041 (2 + 9)), .ref (Bq10041 (2 + 10))]), q10040_) := hu_n eh10060 (Ne.symm (hne_new hao_10039 hf10040)) hre10041_10059
  have hn248x_10059 : h10059 q10055_ = some (.inl (E.2.1 5, 961, .inr (.inr (.inr (.inr (fun _ => none))))), a) := hu_w eh10059 hf10059 hn248x_10058
  have hn248x_10060 : h10060 q10055_ = some (.inl (E.2.1 5, 961, .inr (.inr (.inr (.inr (fun _ => none))))), a) := hu_n eh10060 (Ne.symm (hne_new hao_10054 hf10055)) hn248x_10059
  have hn258x_10059 : h10059 q10057_ = some (.inl (E.2.1 5, 961, .inr (.inr (.inr (.inr (fun _ => none))))), a) := hu_w eh10059 hf10059 hn258x_10058
  have hn258x_10060 : h10060 q10057_ = some (.inl (E.2.1 5, 961, .inr (.inr (.inr (.inr (fun _ => none))))), a) := hu_n eh10060 (Ne.symm (hne_new hao_10056 hf10057)) hn258x_10059
  have hn268x_10060 : h10060 q10059_ = some (.inl (E.2.1 3, 961, .inl (fun _ => 0)), a) := hu_n eh10060 (Ne.symm (hne_new hao_10058 hf10059)) hn268x_10059
  have hnb_10061 : h10061 q10061_ = some (.inr (1, [.null, .int 0]), q10061_) := hu_s eh10061
  refine lv_dup hx hb dX1_init_277 rfl ?_
  refine lv_bipush (v := nI 64) hx hb dX1_init_278 rfl ?_
  have hao_10061 : h10061 a = some (.inr (0, [.ref q10001_, .int 0, .ref q10003_, .int 0, .int 0, .int (nI 1), .int (nI 100), .int (nI 1), .int (nI 10), .int (nI 11), .int (nI 10), .ref q10011_, .ref q10013_, .ref q10015_, .ref q10017_, .ref q10019_, .ref q10021_, .int 0, .int 0, .int 0, .int 0, .int (nI 0 - 1), .int 0, .ref q10024_, .int 0, .ref q10026_, .ref q10029_, .ref q10026_, .ref q10033_, .ref q10036_, .ref q10033_, .ref q10040_, .ref q10043_, .ref q10046_, .ref q10049_, .ref q10052_, .ref q10055_, .ref q10057_, .ref q10059_, .null, .null]), a) := hu_w eh10061 hf10061 hao_10060
  have hsc_10061 : h10061 sc = some (.inl xs, sc) := hu_w eh10061 hf10061 hsc_10060
  have hn7x_10061 : h10061 q10001_ = some (.inl (E.2.1 0, 8, .inl (fun _ => 0)), a) := hu_w eh10061 hf10061 hn7x_10060
  have hn15x_10061 : h10061 q10003_ = some (.inl (E.2.1 0, 64, .inl (fun _ => 0)), a) := hu_w eh10061 hf10061 hn15x_10060
  have hn58x_10061 : h10061 q10011_ = some (.inl (E.2.1 1, 20000, .inl (fun _ => 0)), a) := hu_w eh10061 hf10061 hn58x_10060
  have hn67x_10061 : h10061 q10013_ = some (.inl (E.2.1 1, 20000, .inl (fun _ => 0)), a) := hu_w eh10061 hf10061 hn67x_10060
  have hn76x_10061 : h10061 q10015_ = some (.inl (E.2.1 2, 20000, .inl (fun _ => 0)), a) := hu_w eh10061 hf10061 hn76x_10060
  have hn84x_10061 : h10061 q10017_ = some (.inl (E.2.1 3, 8, .inl (fun _ => 0)), a) := hu_w eh10061 hf10061 hn84x_10060
  have hn92x_10061 : h10061 q10019_ = some (.inl (E.2.1 0, 8, .inl (fun _ => 0)), a) := hu_w eh10061 hf10061 hn92x_10060
  have hn100x_10061 : h10061 q10021_ = some (.inl (E.2.1 0, 8, .inl (fun _ => 0)), a) := hu_w eh10061 hf10061 hn100x_10060
  have hn113x_10061 : h10061 q10024_ = some (.inl (E.2.1 6, 16, .inr (.inr (.inr (.inr (fun _ => none))))), a) := hu_w eh10061 hf10061 hn113x_10060
  have hcw10027_10061 : h10061 q10026_ = some (.inr (2, [.ref qrow, .int 0, .int 0]), q10026_) := hu_w eh10061 hf10061 hcw10027_10060
  have hcr10027_10061 : h10061 qrow = some (.inl (E.2.1 3, 4000, .inl (fun _ => 0)), q10026_) := hu_w eh10061 hf10061 hcr10027_10060
  have hse10030_10061 : h10061 q10029_ = some (.inr (3, [.ref qdig, .int 0, .ref qdg]), q10029_) := hu_w eh10061 hf10061 hse10030_10060
  have hsg10030_10061 : h10061 qdig = some (.inl (E.2.1 0, 20, .inl (fun _ => 0)), q10029_) := hu_w eh10061 hf10061 hsg10030_10060
  have hdo10030_10061 : h10061 qdg = some (.inr (4, [.ref d1, .ref d2, .ref d3, .ref d4, .int 0]), qdg) := hu_w eh10061 hf10061 hdo10030_10060
  have hd110030_10061 : h10061 d1 = some (.inl (E.2.1 0, 8, .inl (fun _ => 0)), qdg) := hu_w eh10061 hf10061 hd110030_10060
  have hd210030_10061 : h10061 d2 = some (.inl (E.2.1 0, 8, .inl (fun _ => 0)), qdg) := hu_w eh10061 hf10061 hd210030_10060
  have hd310030_10061 : h10061 d3 = some (.inl (E.2.1 0, 64, .inl (fun _ => 0)), qdg) := hu_w eh10061 hf10061 hd310030_10060
  have hd410030_10061 : h10061 d4 = some (.inl (E.2.1 1, 64, .inl (fun _ => 0)), qdg) := hu_w eh10061 hf10061 hd410030_10060
  have hpo10034_10061 : h10061 q10033_ = some (.inr (5, [.ref a]), q10033_) := hu_w eh10061 hf10061 hpo10034_10060
  have hco10037_10061 : h10061 q10036_ = some (.inr (6, [.ref a, .ref (Bq10037 0), .ref (Bq10037 (0 + 1))]), q10036_) := hu_w eh10061 hf10061 hco10037_10060
  have hre10041_10061 : h10061 q10040_ = some (.inr (7, [.ref (Bq10041 2), .ref (Bq10041 (2 + 1)), .ref (Bq10041 (2 + 2)), .ref (Bq10041 (2 + 3)), .ref (Bq10041 (2 + 4)), .ref (Bq10041 (2 + 5)), .ref (Bq10041 (2 + 6)), .ref (Bq10041 (2 + 7)), .ref (Bq10041 (2 + 8)), .ref (Bq10041 (2 + 9)), .ref (Bq10041 (2 + 10))]), q10040_) := hu_w eh10061 hf10061 hre10041_10060
  have hQ10053_10061 : PB E h10061 Bq10053 cq10053 17 := PB.kept (O := fun _ => False) (hu_fn eh10061 Fr.rf hf10061) (fun _ _ q => q) hQ10053_10060
  have hn248x_10061 : h10061 q10055_ = some (.inl (E.2.1 5, 961, .inr (.inr (.inr (.inr (fun _ => none))))), a) := hu_w eh10061 hf10061 hn248x_10060
  have hn258x_10061 : h10061 q10057_ = some (.inl (E.2.1 5, 961, .inr (.inr (.inr (.inr (fun _ => none))))), a) := hu_w eh10061 hf10061 hn258x_10060
  have hn268x_10061 : h10061 q10059_ = some (.inl (E.2.1 3, 961, .inl (fun _ => 0)), a) := hu_w eh10061 hf10061 hn268x_10060
  refine hg_I C T10061 hl.1 (m_X7_init hnb_10061 (by decide) (by decide)) q234 q167 q59 q168 rfl kd_X7_init rfl rfl ⟨Nat.le_of_ble_eq_true rfl, Nat.le_of_ble_eq_true rfl⟩ (Nat.le_of_ble_eq_true rfl) dX1_init_280 ⟨by show 0 + 1 + 1 + 1 + 1 + 1 + 1 + 1 + 1 + 1 + 1 + 1 + 1 + 6 + 1 + 1 + 4 + 1 + 22 + 1 + 1 + 1 + 1 + 1 + 1 + 1 + 1 + 1 + 1 + 1 + 1 + 1 ≤ 4200; omega, by show 0 + 8 + 64 + 20000 + 20000 + 20000 + 8 + 8 + 8 + 16 + 3 + 4000 + 3 + 169 + 1 + 3 + 132 + 11 + 726 + 2 + 64 + 2 + 64 + 2 + 64 + 2 + 64 + 961 + 961 + 961 + 2 + 64 ≤ 100000; omega⟩ (fun rv h10062 dc10062 ds10062 H10062 locs10062 hp10062 T10062 => ?_)
  obtain ⟨rfl, hbg10062, hF10062, rfl, rfl⟩ := hp10062
  obtain ⟨Bq10062, cq10062, hQ10062, hk10062, hat10062, hac10062⟩ := hQ10053_10060.add2 hf10061 eh10061 hF10062 hbg10062
  have hN_10062 : FN a h h10062 := hN_10060.nest hf10061 eh10061 hF10062.fn
  refine W.eq (g2 := F0 m 283 ls [.ref q10061_, .ref a]) rfl ?_
  have hao_10062 : h10062 a = some (.inr (0, [.ref q10001_, .int 0, .ref q10003_, .int 0, .int 0, .int (nI 1), .int (nI 100), .int (nI 1), .int (nI 10), .int (nI 11), .int (nI 10), .ref q10011_, .ref q10013_, .ref q10015_, .ref q10017_, .ref q10019_, .ref q10021_, .int 0, .int 0, .int 0, .int 0, .int (nI 0 - 1), .int 0, .ref q10024_, .int 0, .ref q10026_, .ref q10029_, .ref q10026_, .ref q10033_, .ref q10036_, .ref q10033_, .ref q10040_, .ref q10043_, .ref q10046_, .ref q10049_, .ref q10052_, .ref q10055_, .ref q10057_, .ref q10059_, .null, .null]), a) := hF10062 _ _ hao_10061 (hne_new hao_10060 hf10061)
  refine hr_putF C T10062 hin hao_10062 rfl in_X1 tyX1 tyX1_ok nmX1 39 (by decide) q341 rfl rfl rfl rfl rfl (Nat.le_of_ble_eq_true rfl) dX1_init_283 (fun h10063 H10063 locs10063 eh10063 T10063 => ?_)
  have hao_10063 : h10063 a = some (.inr (0, [.ref q10001_, .int 0, .ref q10003_, .int 0, .int 0, .int (nI 1), .int (nI 100), .int (nI 1), .int (nI 10), .int (nI 11), .int (nI 10), .ref q10011_, .ref q10013_, .ref q10015_, .ref q10017_, .ref q10019_, .ref q10021_, .int 0, .int 0, .int 0, .int 0, .int (nI 0 - 1), .int 0, .ref q10024_, .int 0, .ref q10026_, .ref q10029_, .ref q10026_, .ref q10033_, .ref q10036_, .ref q10033_, .ref q10040_, .ref q10043_, .ref q10046_, .ref q10049_, .ref q10052_, .ref q10055_, .ref q10057_, .ref q10059_, .ref q10061_, .null]), a) := hu_s eh10063
  refine lv_aload_n hx hb dX1_init_286 rfl (lv_at hl 0 rfl) ?_
  have hN_10063 : FN a h h10063 := hN_10062.up hao_10062 eh10063
  have hQ10062_10063 : PB E h10063 Bq10062 cq10062 18 := PB.kept (O := (· = a)) (hu_f eh10063 Fr.rf hao_10062 rfl) (hQ10062.neobj hao_10062 (by decide)) hQ10062
  refine hr_new C T10063 (fun q => q) (ci := 1) rfl in_X7 tyX7 tyX7_ok q233 q165 q59 (fs := [.null, .int 0]) dfX7 (by show 0 + 1 + 1 + 1 + 1 + 1 + 1 + 1 + 1 + 1 + 1 + 1 + 1 + 6 + 1 + 1 + 4 + 1 + 22 + 1 + 1 + 1 + 1 + 1 + 1 + 1 + 1 + 1 + 1 + 1 + 1 + 1 + 1 ≤ 4200; omega) (by show 0 + 8 + 64 + 20000 + 20000 + 20000 + 8 + 8 + 8 + 16 + 3 + 4000 + 3 + 169 + 1 + 3 + 132 + 11 + 726 + 2 + 64 + 2 + 64 + 2 + 64 + 2 + 64 + 961 + 961 + 961 + 2 + 64 + 2 ≤ 100000; omega) dX1_init_287 (fun h10064 q10064_ H10064 hf10064 eh10064 T10064 => ?_)
  have hsc_10062 : h10062 sc = some (.inl xs, sc) := hF10062 _ _ hsc_10061 (hne_new hsc_10060 hf10061)
  have hsc_10063 : h10063 sc = some (.inl xs, sc) := hu_n eh10063 hsa hsc_10062
  have hn7x_10062 : h10062 q10001_ = some (.inl (E.2.1 0, 8, .inl (fun _ => 0)), a) := hF10062 _ _ hn7x_10061 (hne_new hao_10060 hf10061)
  have hn7x_10063 : h10063 q10001_ = some (.inl (E.2.1 0, 8, .inl (fun _ => 0)), a) := hu_n eh10063 (Ne.symm (hne_new hao hf10001)) hn7x_10062
  have hn15x_10062 : h10062 q10003_ = some (.inl (E.2.1 0, 64, .inl (fun _ => 0)), a) := hF10062 _ _ hn15x_10061 (hne_new hao_10060 hf10061)
  have hn15x_10063 : h10063 q10003_ = some (.inl (E.2.1 0, 64, .inl (fun _ => 0)), a) := hu_n eh10063 (Ne.symm (hne_new hao_10002 hf10003)) hn15x_10062
  have hn58x_10062 : h10062 q10011_ = some (.inl (E.2.1 1, 20000, .inl (fun _ => 0)), a) := hF10062 _ _ hn58x_10061 (hne_new hao_10060 hf10061)
  have hn58x_10063 : h10063 q10011_ = some (.inl (E.2.1 1, 20000, .inl (fun _ => 0)), a) := hu_n eh10063 (Ne.symm (hne_new hao_10010 hf10011)) hn58x_10062
  have hn67x_10062 : h10062 q10013_ = some (.inl (E.2.1 1, 20000, .inl (fun _ => 0)), a) := hF10062 _ _ hn67x_10061 (hne_new hao_10060 hf10061)
  have hn67x_10063 : h10063 q10013_ = some (.inl (E.2.1 1, 20000, .inl (fun _ => 0)), a) := hu_n eh10063 (Ne.symm (hne_new hao_10012 hf10013)) hn67x_10062
  have hn76x_10062 : h10062 q10015_ = some (.inl (E.2.1 2, 20000, .inl (fun _ => 0)), a) := hF10062 _ _ hn76x_10061 (hne_new hao_10060 hf10061)
  have hn76x_10063 : h10063 q10015_ = some (.inl (E.2.1 2, 20000, .inl (fun _ => 0)), a) := hu_n eh10063 (Ne.symm (hne_new hao_10014 hf10015)) hn76x_10062
  have hn84x_10062 : h10062 q10017_ = some (.inl (E.2.1 3, 8, .inl (fun _ => 0)), a) := hF10062 _ _ hn84x_10061 (hne_new hao_10060 hf10061)
  have hn84x_10063 : h10063 q10017_ = some (.inl (E.2.1 3, 8, .inl (fun _ => 0)), a) := hu_n eh10063 (Ne.symm (hne_new hao_10016 hf10017)) hn84x_10062
  have hn92x_10062 : h10062 q10019_ = some (.inl (E.2.1 0, 8, .inl (fun _ => 0)), a) := hF10062 _ _ hn92x_10061 (hne_new hao_10060 hf10061)
  have hn92x_10063 : h10063 q10019_ = some (.inl (E.2.1 0, 8, .inl (fun _ => 0)), a) := hu_n eh10063 (Ne.symm (hne_new hao_10018 hf10019)) hn92x_10062
  have hn100x_10062 : h10062 q10021_ = some (.inl (E.2.1 0, 8, .inl (fun _ => 0)), a) := hF10062 _ _ hn100x_10061 (hne_new hao_10060 hf10061)
  have hn100x_10063 : h10063 q10021_ = some (.inl (E.2.1 0, 8, .inl (fun _ => 0)), a) := hu_n eh10063 (Ne.symm (hne_new hao_10020 hf10021)) hn100x_10062
  have hn113x_10062 : h10062 q10024_ = some (.inl (E.2.1 6, 16, .inr (.inr (.inr (.inr (fun _ => none))))), a) := hF10062 _ _ hn113x_10061 (hne_new hao_10060 hf10061)
  have hn113x_10063 : h10063 q10024_ = some (.inl (E.2.1 6, 16, .inr (.inr (.inr (.inr (fun _ => none))))), a) := hu_n eh10063 (Ne.symm (hne_new hao_10023 hf10024)) hn113x_10062
  have hcw10027_10062 : h10062 q10026_ = some (.inr (2, [.ref qrow, .int 0, .int 0]), q10026_) := hF10062 _ _ hcw10027_10061 (hne_new hcw10027_10060 hf10061)
  have hcw10027_10063 : h10063 q10026_ = some (.inr (2, [.ref qrow, .int 0, .int 0]), q10026_) := hu_n eh10063 (Ne.symm (hne_new hao_10025 hf10026)) hcw10027_10062
  have hcr10027_10062 : h10062 qrow = some (.inl (E.2.1 3, 4000, .inl (fun _ => 0)), q10026_) := hF10062 _ _ hcr10027_10061 (hne_new hcw10027_10060 hf10061)
  have hcr10027_10063 : h10063 qrow = some (.inl (E.2.1 3, 4000, .inl (fun _ => 0)), q10026_) := hu_n eh10063 (Ne.symm (hne_of hao_10027 hcr10027 (fun z => by cases z))) hcr10027_10062
  have hse10030_10062 : h10062 q10029_ = some (.inr (3, [.ref qdig, .int 0, .ref qdg]), q10029_) := hF10062 _ _ hse10030_10061 (hne_new hse10030_10060 hf10061)
  have hse10030_10063 : h10063 q10029_ = some (.inr (3, [.ref qdig, .int 0, .ref qdg]), q10029_) := hu_n eh10063 (Ne.symm (hne_new hao_10028 hf10029)) hse10030_10062
  have hsg10030_10062 : h10062 qdig = some (.inl (E.2.1 0, 20, .inl (fun _ => 0)), q10029_) := hF10062 _ _ hsg10030_10061 (hne_new hse10030_10060 hf10061)
  have hsg10030_10063 : h10063 qdig = some (.inl (E.2.1 0, 20, .inl (fun _ => 0)), q10029_) := hu_n eh10063 (Ne.symm haqdig) hsg10030_10062
  have hdo10030_10062 : h10062 qdg = some (.inr (4, [.ref d1, .ref d2, .ref d3, .ref d4, .int 0]), qdg) := hF10062 _ _ hdo10030_10061 (hne_new hdo10030_10060 hf10061)
  have hdo10030_10063 : h10063 qdg = some (.inr (4, [.ref d1, .ref d2, .ref d3, .ref d4, .int 0]), qdg) := hu_n eh10063 (Ne.symm hag) hdo10030_10062
  have hd110030_10062 : h10062 d1 = some (.inl (E.2.1 0, 8, .inl (fun _ => 0)), qdg) := hF10062 _ _ hd110030_10061 (hne_new hdo10030_10060 hf10061)
  have hd110030_10063 : h10063 d1 = some (.inl (E.2.1 0, 8, .inl (fun _ => 0)), qdg) := hu_n eh10063 (Ne.symm had1) hd110030_10062
  have hd210030_10062 : h10062 d2 = some (.inl (E.2.1 0, 8, .inl (fun _ => 0)), qdg) := hF10062 _ _ hd210030_10061 (hne_new hdo10030_10060 hf10061)
  have hd210030_10063 : h10063 d2 = some (.inl (E.2.1 0, 8, .inl (fun _ => 0)), qdg) := hu_n eh10063 (Ne.symm had2) hd210030_10062
  have hd310030_10062 : h10062 d3 = some (.inl (E.2.1 0, 64, .inl (fun _ => 0)), qdg) := hF10062 _ _ hd310030_10061 (hne_new hdo10030_10060 hf10061)
  have hd310030_10063 : h10063 d3 = some (.inl (E.2.1 0, 64, .inl (fun _ => 0)), qdg) := hu_n eh10063 (Ne.symm had3) hd310030_10062
  have hd410030_10062 : h10062 d4 = some (.inl (E.2.1 1, 64, .inl (fun _ => 0)), qdg) := hF10062 _ _ hd410030_10061 (hne_new hdo10030_10060 hf10061)
  have hd410030_10063 : h10063 d4 = some (.inl (E.2.1 1, 64, .inl (fun _ => 0)), qdg) := hu_n eh10063 (Ne.symm had4) hd410030_10062
  have hpo10034_10062 : h10062 q10033_ = some (.inr (5, [.ref a]), q10033_) := hF10062 _ _ hpo10034_10061 (hne_new hpo10034_10060 hf10061)
  have hpo10034_10063 : h10063 q10033_ = some (.inr (5, [.ref a]), q10033_) := hu_n eh10063 (Ne.symm (hne_new hao_10032 hf10033)) hpo10034_10062
  have hco10037_10062 : h10062 q10036_ = some (.inr (6, [.ref a, .ref (Bq10037 0), .ref (Bq10037 (0 + 1))]), q10036_) := hF10062 _ _ hco10037_10061 (hne_new hco10037_10060 hf10061)
  have hco10037_10063 : h10063 q10036_ = some (.inr (6, [.ref a, .ref (Bq10037 0), .ref (Bq10037 (0 + 1))]), q10036_) := hu_n eh10063 (Ne.symm (hne_new hao_10035 hf10036)) hco10037_10062
  have hre10041_10062 : h10062 q10040_ = some (.inr (7, [.ref (Bq10041 2), .ref (Bq10041 (2 + 1)), .ref (Bq10041 (2 + 2)), .ref (Bq10041 (2 + 3)), .ref (Bq10041 (2 + 4)), .ref (Bq10041 (2 + 5)), .ref (Bq10041 (2 + 6)), .ref (Bq10041 (2 + 7)), .ref (Bq10041 (2 + 8)), .ref (Bq10041 (2 + 9)), .ref (Bq10041 (2 + 10))]), q10040_) := hF10062 _ _ hre10041_10061 (hne_new hre10041_10060 hf10061)
  have hre10041_10063 : h10063 q10040_ = some (.inr (7, [.ref (Bq10041 2), .ref (Bq10041 (2 + 1)), .ref (Bq10041 (2 + 2)), .ref (Bq10041 (2 + 3)), .ref (Bq10041 (2 + 4)), .ref (Bq10041 (2 + 5)), .ref (Bq10041 (2 + 6)), .ref (Bq10041 (2 + 7)), .ref (Bq10041 (2 + 8)), .ref (Bq10041 (2 + 9)), .ref (Bq10041 (2 + 10))]), q10040_) := hu_n eh10063 (Ne.symm (hne_new hao_10039 hf10040)) hre10041_10062
  have hn248x_10062 : h10062 q10055_ = some (.inl (E.2.1 5, 961, .inr (.inr (.inr (.inr (fun _ => none))))), a) := hF10062 _ _ hn248x_10061 (hne_new hao_10060 hf10061)
  have hn248x_10063 : h10063 q10055_ = some (.inl (E.2.1 5, 961, .inr (.inr (.inr (.inr (fun _ => none))))), a) := hu_n eh10063 (Ne.symm (hne_new hao_10054 hf10055)) hn248x_10062
  have hn258x_10062 : h10062 q10057_ = some (.inl (E.2.1 5, 961, .inr (.inr (.inr (.inr (fun _ => none))))), a) := hF10062 _ _ hn258x_10061 (hne_new hao_10060 hf10061)
  have hn258x_10063 : h10063 q10057_ = some (.inl (E.2.1 5, 961, .inr (.inr (.inr (.inr (fun _ => none))))), a) := hu_n eh10063 (Ne.symm (hne_new hao_10056 hf10057)) hn258x_10062
  have hn268x_10062 : h10062 q10059_ = some (.inl (E.2.1 3, 961, .inl (fun _ => 0)), a) := hF10062 _ _ hn268x_10061 (hne_new hao_10060 hf10061)
  have hn268x_10063 : h10063 q10059_ = some (.inl (E.2.1 3, 961, .inl (fun _ => 0)), a) := hu_n eh10063 (Ne.symm (hne_new hao_10058 hf10059)) hn268x_10062
  have hnb_10064 : h10064 q10064_ = some (.inr (1, [.null, .int 0]), q10064_) := hu_s eh10064
  refine lv_dup hx hb dX1_init_290 rfl ?_
  refine lv_bipush (v := nI 64) hx hb dX1_init_291 rfl ?_
  have hao_10064 : h10064 a = some (.inr (0, [.ref q10001_, .int 0, .ref q10003_, .int 0, .int 0, .int (nI 1), .int (nI 100), .int (nI 1), .int (nI 10), .int (nI 11), .int (nI 10), .ref q10011_, .ref q10013_, .ref q10015_, .ref q10017_, .ref q10019_, .ref q10021_, .int 0, .int 0, .int 0, .int 0, .int (nI 0 - 1), .int 0, .ref q10024_, .int 0, .ref q10026_, .ref q10029_, .ref q10026_, .ref q10033_, .ref q10036_, .ref q10033_, .ref q10040_, .ref q10043_, .ref q10046_, .ref q10049_, .ref q10052_, .ref q10055_, .ref q10057_, .ref q10059_, .ref q10061_, .null]), a) := hu_w eh10064 hf10064 hao_10063
  have hsc_10064 : h10064 sc = some (.inl xs, sc) := hu_w eh10064 hf10064 hsc_10063
  have hn7x_10064 : h10064 q10001_ = some (.inl (E.2.1 0, 8, .inl (fun _ => 0)), a) := hu_w eh10064 hf10064 hn7x_10063
  have hn15x_10064 : h10064 q10003_ = some (.inl (E.2.1 0, 64, .inl (fun _ => 0)), a) := hu_w eh10064 hf10064 hn15x_10063
  have hn58x_10064 : h10064 q10011_ = some (.inl (E.2.1 1, 20000, .inl (fun _ => 0)), a) := hu_w eh10064 hf10064 hn58x_10063
  have hn67x_10064 : h10064 q10013_ = some (.inl (E.2.1 1, 20000, .inl (fun _ => 0)), a) := hu_w eh10064 hf10064 hn67x_10063
  have hn76x_10064 : h10064 q10015_ = some (.inl (E.2.1 2, 20000, .inl (fun _ => 0)), a) := hu_w eh10064 hf10064 hn76x_10063
  have hn84x_10064 : h10064 q10017_ = some (.inl (E.2.1 3, 8, .inl (fun _ => 0)), a) := hu_w eh10064 hf10064 hn84x_10063
  have hn92x_10064 : h10064 q10019_ = some (.inl (E.2.1 0, 8, .inl (fun _ => 0)), a) := hu_w eh10064 hf10064 hn92x_10063
  have hn100x_10064 : h10064 q10021_ = some (.inl (E.2.1 0, 8, .inl (fun _ => 0)), a) := hu_w eh10064 hf10064 hn100x_10063
  have hn113x_10064 : h10064 q10024_ = some (.inl (E.2.1 6, 16, .inr (.inr (.inr (.inr (fun _ => none))))), a) := hu_w eh10064 hf10064 hn113x_10063
  have hcw10027_10064 : h10064 q10026_ = some (.inr (2, [.ref qrow, .int 0, .int 0]), q10026_) := hu_w eh10064 hf10064 hcw10027_10063
  have hcr10027_10064 : h10064 qrow = some (.inl (E.2.1 3, 4000, .inl (fun _ => 0)), q10026_) := hu_w eh10064 hf10064 hcr10027_10063
  have hse10030_10064 : h10064 q10029_ = some (.inr (3, [.ref qdig, .int 0, .ref qdg]), q10029_) := hu_w eh10064 hf10064 hse10030_10063
  have hsg10030_10064 : h10064 qdig = some (.inl (E.2.1 0, 20, .inl (fun _ => 0)), q10029_) := hu_w eh10064 hf10064 hsg10030_10063
  have hdo10030_10064 : h10064 qdg = some (.inr (4, [.ref d1, .ref d2, .ref d3, .ref d4, .int 0]), qdg) := hu_w eh10064 hf10064 hdo10030_10063
  have hd110030_10064 : h10064 d1 = some (.inl (E.2.1 0, 8, .inl (fun _ => 0)), qdg) := hu_w eh10064 hf10064 hd110030_10063
  have hd210030_10064 : h10064 d2 = some (.inl (E.2.1 0, 8, .inl (fun _ => 0)), qdg) := hu_w eh10064 hf10064 hd210030_10063
  have hd310030_10064 : h10064 d3 = some (.inl (E.2.1 0, 64, .inl (fun _ => 0)), qdg) := hu_w eh10064 hf10064 hd310030_10063
  have hd410030_10064 : h10064 d4 = some (.inl (E.2.1 1, 64, .inl (fun _ => 0)), qdg) := hu_w eh10064 hf10064 hd410030_10063
  have hpo10034_10064 : h10064 q10033_ = some (.inr (5, [.ref a]), q10033_) := hu_w eh10064 hf10064 hpo10034_10063
  have hco10037_10064 : h10064 q10036_ = some (.inr (6, [.ref a, .ref (Bq10037 0), .ref (Bq10037 (0 + 1))]), q10036_) := hu_w eh10064 hf10064 hco10037_10063
  have hre10041_10064 : h10064 q10040_ = some (.inr (7, [.ref (Bq10041 2), .ref (Bq10041 (2 + 1)), .ref (Bq10041 (2 + 2)), .ref (Bq10041 (2 + 3)), .ref (Bq10041 (2 + 4)), .ref (Bq10041 (2 + 5)), .ref (Bq10041 (2 + 6)), .ref (Bq10041 (2 + 7)), .ref (Bq10041 (2 + 8)), .ref (Bq10041 (2 + 9)), .ref (Bq10041 (2 + 10))]), q10040_) := hu_w eh10064 hf10064 hre10041_10063
  have hn248x_10064 : h10064 q10055_ = some (.inl (E.2.1 5, 961, .inr (.inr (.inr (.inr (fun _ => none))))), a) := hu_w eh10064 hf10064 hn248x_10063
  have hn258x_10064 : h10064 q10057_ = some (.inl (E.2.1 5, 961, .inr (.inr (.inr (.inr (fun _ => none))))), a) := hu_w eh10064 hf10064 hn258x_10063
  have hn268x_10064 : h10064 q10059_ = some (.inl (E.2.1 3, 961, .inl (fun _ => 0)), a) := hu_w eh10064 hf10064 hn268x_10063
  have hQ10062_10064 : PB E h10064 Bq10062 cq10062 18 := PB.kept (O := fun _ => False) (hu_fn eh10064 Fr.rf hf10064) (fun _ _ q => q) hQ10062_10063
  refine hg_I C T10064 hl.1 (m_X7_init hnb_10064 (by decide) (by decide)) q234 q167 q59 q168 rfl kd_X7_init rfl rfl ⟨Nat.le_of_ble_eq_true rfl, Nat.le_of_ble_eq_true rfl⟩ (Nat.le_of_ble_eq_true rfl) dX1_init_293 ⟨by show 0 + 1 + 1 + 1 + 1 + 1 + 1 + 1 + 1 + 1 + 1 + 1 + 1 + 6 + 1 + 1 + 4 + 1 + 22 + 1 + 1 + 1 + 1 + 1 + 1 + 1 + 1 + 1 + 1 + 1 + 1 + 1 + 1 + 1 ≤ 4200; omega, by show 0 + 8 + 64 + 20000 + 20000 + 20000 + 8 + 8 + 8 + 16 + 3 + 4000 + 3 + 169 + 1 + 3 + 132 + 11 + 726 + 2 + 64 + 2 + 64 + 2 + 64 + 2 + 64 + 961 + 961 + 961 + 2 + 64 + 2 + 64 ≤ 100000; omega⟩ (fun rv h10065 dc10065 ds10065 H10065 locs10065 hp10065 T10065 => ?_)
  obtain ⟨rfl, hbg10065, hF10065, rfl, rfl⟩ := hp10065
  obtain ⟨Bq10065, cq10065, hQ10065, hk10065, hat10065, hac10065⟩ := hQ10062_10063.add2 hf10064 eh10064 hF10065 hbg10065
  have hN_10065 : FN a h h10065 := hN_10063.nest hf10064 eh10064 hF10065.fn
  refine W.eq (g2 := F0 m 296 ls [.ref q10064_, .ref a]) rfl ?_
  have hao_10065 : h10065 a = some (.inr (0, [.ref q10001_, .int 0, .ref q10003_, .int 0, .int 0, .int (nI 1), .int (nI 100), .int (nI 1), .int (nI 10), .int (nI 11), .int (nI 10), .ref q10011_, .ref q10013_, .ref q10015_, .ref q10017_, .ref q10019_, .ref q10021_, .int 0, .int 0, .int 0, .int 0, .int (nI 0 - 1), .int 0, .ref q10024_, .int 0, .ref q10026_, .ref q10029_, .ref q10026_, .ref q10033_, .ref q10036_, .ref q10033_, .ref q10040_, .ref q10043_, .ref q10046_, .ref q10049_, .ref q10052_, .ref q10055_, .ref q10057_, .ref q10059_, .ref q10061_, .null]), a) := hF10065 _ _ hao_10064 (hne_new hao_10063 hf10064)
  refine hr_putF C T10065 hin hao_10065 rfl in_X1 tyX1 tyX1_ok nmX1 40 (by decide) q342 rfl rfl rfl rfl rfl (Nat.le_of_ble_eq_true rfl) dX1_init_296 (fun h10066 H10066 locs10066 eh10066 T10066 => ?_)
  have hao_10066 : h10066 a = some (.inr (0, [.ref q10001_, .int 0, .ref q10003_, .int 0, .int 0, .int (nI 1), .int (nI 100), .int (nI 1), .int (nI 10), .int (nI 11), .int (nI 10), .ref q10011_, .ref q10013_, .ref q10015_, .ref q10017_, .ref q10019_, .ref q10021_, .int 0, .int 0, .int 0, .int 0, .int (nI 0 - 1), .int 0, .ref q10024_, .int 0, .ref q10026_, .ref q10029_, .ref q10026_, .ref q10033_, .ref q10036_, .ref q10033_, .ref q10040_, .ref q10043_, .ref q10046_, .ref q10049_, .ref q10052_, .ref q10055_, .ref q10057_, .ref q10059_, .ref q10061_, .ref q10064_]), a) := hu_s eh10066
  refine lv_iconst (v := nI 0) hx hb dX1_init_299 rfl ?_
  refine lv_istore_n (lv' := [(1, .int (nI 0)), (0, .ref a)]) hx hb dX1_init_300 rfl hl (by decide) rfl (fun ls10067 hl10067 => ?_)
  have hN_10066 : FN a h h10066 := hN_10065.up hao_10065 eh10066
  have hsc_10065 : h10065 sc = some (.inl xs, sc) := hF10065 _ _ hsc_10064 (hne_new hsc_10063 hf10064)
  have hsc_10066 : h10066 sc = some (.inl xs, sc) := hu_n eh10066 hsa hsc_10065
  have hn7x_10065 : h10065 q10001_ = some (.inl (E.2.1 0, 8, .inl (fun _ => 0)), a) := hF10065 _ _ hn7x_10064 (hne_new hao_10063 hf10064)
  have hn7x_10066 : h10066 q10001_ = some (.inl (E.2.1 0, 8, .inl (fun _ => 0)), a) := hu_n eh10066 (Ne.symm (hne_new hao hf10001)) hn7x_10065
  have hn15x_10065 : h10065 q10003_ = some (.inl (E.2.1 0, 64, .inl (fun _ => 0)), a) := hF10065 _ _ hn15x_10064 (hne_new hao_10063 hf10064)
  have hn15x_10066 : h10066 q10003_ = some (.inl (E.2.1 0, 64, .inl (fun _ => 0)), a) := hu_n eh10066 (Ne.symm (hne_new hao_10002 hf10003)) hn15x_10065
  have hn58x_10065 : h10065 q10011_ = some (.inl (E.2.1 1, 20000, .inl (fun _ => 0)), a) := hF10065 _ _ hn58x_10064 (hne_new hao_10063 hf10064)
  have hn58x_10066 : h10066 q10011_ = some (.inl (E.2.1 1, 20000, .inl (fun _ => 0)), a) := hu_n eh10066 (Ne.symm (hne_new hao_10010 hf10011)) hn58x_10065
  have hn67x_10065 : h10065 q10013_ = some (.inl (E.2.1 1, 20000, .inl (fun _ => 0)), a) := hF10065 _ _ hn67x_10064 (hne_new hao_10063 hf10064)
  have hn67x_10066 : h10066 q10013_ = some (.inl (E.2.1 1, 20000, .inl (fun _ => 0)), a) := hu_n eh10066 (Ne.symm (hne_new hao_10012 hf10013)) hn67x_10065
  have hn76x_10065 : h10065 q10015_ = some (.inl (E.2.1 2, 20000, .inl (fun _ => 0)), a) := hF10065 _ _ hn76x_10064 (hne_new hao_10063 hf10064)
  have hn76x_10066 : h10066 q10015_ = some (.inl (E.2.1 2, 20000, .inl (fun _ => 0)), a) := hu_n eh10066 (Ne.symm (hne_new hao_10014 hf10015)) hn76x_10065
  have hn84x_10065 : h10065 q10017_ = some (.inl (E.2.1 3, 8, .inl (fun _ => 0)), a) := hF10065 _ _ hn84x_10064 (hne_new hao_10063 hf10064)
  have hn84x_10066 : h10066 q10017_ = some (.inl (E.2.1 3, 8, .inl (fun _ => 0)), a) := hu_n eh10066 (Ne.symm (hne_new hao_10016 hf10017)) hn84x_10065
  have hn92x_10065 : h10065 q10019_ = some (.inl (E.2.1 0, 8, .inl (fun _ => 0)), a) := hF10065 _ _ hn92x_10064 (hne_new hao_10063 hf10064)
  have hn92x_10066 : h10066 q10019_ = some (.inl (E.2.1 0, 8, .inl (fun _ => 0)), a) := hu_n eh10066 (Ne.symm (hne_new hao_10018 hf10019)) hn92x_10065
  have hn100x_10065 : h10065 q10021_ = some (.inl (E.2.1 0, 8, .inl (fun _ => 0)), a) := hF10065 _ _ hn100x_10064 (hne_new hao_10063 hf10064)
  have hn100x_10066 : h10066 q10021_ = some (.inl (E.2.1 0, 8, .inl (fun _ => 0)), a) := hu_n eh10066 (Ne.symm (hne_new hao_10020 hf10021)) hn100x_10065
  have hn113x_10065 : h10065 q10024_ = some (.inl (E.2.1 6, 16, .inr (.inr (.inr (.inr (fun _ => none))))), a) := hF10065 _ _ hn113x_10064 (hne_new hao_10063 hf10064)
  have hn113x_10066 : h10066 q10024_ = some (.inl (E.2.1 6, 16, .inr (.inr (.inr (.inr (fun _ => none))))), a) := hu_n eh10066 (Ne.symm (hne_new hao_10023 hf10024)) hn113x_10065
  have hcw10027_10065 : h10065 q10026_ = some (.inr (2, [.ref qrow, .int 0, .int 0]), q10026_) := hF10065 _ _ hcw10027_10064 (hne_new hcw10027_10063 hf10064)
  have hcw10027_10066 : h10066 q10026_ = some (.inr (2, [.ref qrow, .int 0, .int 0]), q10026_) := hu_n eh10066 (Ne.symm (hne_new hao_10025 hf10026)) hcw10027_10065
  have hcr10027_10065 : h10065 qrow = some (.inl (E.2.1 3, 4000, .inl (fun _ => 0)), q10026_) := hF10065 _ _ hcr10027_10064 (hne_new hcw10027_10063 hf10064)
  have hcr10027_10066 : h10066 qrow = some (.inl (E.2.1 3, 4000, .inl (fun _ => 0)), q10026_) := hu_n eh10066 (Ne.symm (hne_of hao_10027 hcr10027 (fun z => by cases z))) hcr10027_10065
  have hse10030_10065 : h10065 q10029_ = some (.inr (3, [.ref qdig, .int 0, .ref qdg]), q10029_) := hF10065 _ _ hse10030_10064 (hne_new hse10030_10063 hf10064)
  have hse10030_10066 : h10066 q10029_ = some (.inr (3, [.ref qdig, .int 0, .ref qdg]), q10029_) := hu_n eh10066 (Ne.symm (hne_new hao_10028 hf10029)) hse10030_10065
  have hsg10030_10065 : h10065 qdig = some (.inl (E.2.1 0, 20, .inl (fun _ => 0)), q10029_) := hF10065 _ _ hsg10030_10064 (hne_new hse10030_10063 hf10064)
  have hsg10030_10066 : h10066 qdig = some (.inl (E.2.1 0, 20, .inl (fun _ => 0)), q10029_) := hu_n eh10066 (Ne.symm haqdig) hsg10030_10065
  have hdo10030_10065 : h10065 qdg = some (.inr (4, [.ref d1, .ref d2, .ref d3, .ref d4, .int 0]), qdg) := hF10065 _ _ hdo10030_10064 (hne_new hdo10030_10063 hf10064)
  have hdo10030_10066 : h10066 qdg = some (.inr (4, [.ref d1, .ref d2, .ref d3, .ref d4, .int 0]), qdg) := hu_n eh10066 (Ne.symm hag) hdo10030_10065
  have hd110030_10065 : h10065 d1 = some (.inl (E.2.1 0, 8, .inl (fun _ => 0)), qdg) := hF10065 _ _ hd110030_10064 (hne_new hdo10030_10063 hf10064)
  have hd110030_10066 : h10066 d1 = some (.inl (E.2.1 0, 8, .inl (fun _ => 0)), qdg) := hu_n eh10066 (Ne.symm had1) hd110030_10065
  have hd210030_10065 : h10065 d2 = some (.inl (E.2.1 0, 8, .inl (fun _ => 0)), qdg) := hF10065 _ _ hd210030_10064 (hne_new hdo10030_10063 hf10064)
  have hd210030_10066 : h10066 d2 = some (.inl (E.2.1 0, 8, .inl (fun _ => 0)), qdg) := hu_n eh10066 (Ne.symm had2) hd210030_10065
  have hd310030_10065 : h10065 d3 = some (.inl (E.2.1 0, 64, .inl (fun _ => 0)), qdg) := hF10065 _ _ hd310030_10064 (hne_new hdo10030_10063 hf10064)
  have hd310030_10066 : h10066 d3 = some (.inl (E.2.1 0, 64, .inl (fun _ => 0)), qdg) := hu_n eh10066 (Ne.symm had3) hd310030_10065
  have hd410030_10065 : h10065 d4 = some (.inl (E.2.1 1, 64, .inl (fun _ => 0)), qdg) := hF10065 _ _ hd410030_10064 (hne_new hdo10030_10063 hf10064)
  have hd410030_10066 : h10066 d4 = some (.inl (E.2.1 1, 64, .inl (fun _ => 0)), qdg) := hu_n eh10066 (Ne.symm had4) hd410030_10065
  have hpo10034_10065 : h10065 q10033_ = some (.inr (5, [.ref a]), q10033_) := hF10065 _ _ hpo10034_10064 (hne_new hpo10034_10063 hf10064)
  have hpo10034_10066 : h10066 q10033_ = some (.inr (5, [.ref a]), q10033_) := hu_n eh10066 (Ne.symm (hne_new hao_10032 hf10033)) hpo10034_10065
  have hco10037_10065 : h10065 q10036_ = some (.inr (6, [.ref a, .ref (Bq10037 0), .ref (Bq10037 (0 + 1))]), q10036_) := hF10065 _ _ hco10037_10064 (hne_new hco10037_10063 hf10064)
  have hco10037_10066 : h10066 q10036_ = some (.inr (6, [.ref a, .ref (Bq10037 0), .ref (Bq10037 (0 + 1))]), q10036_) := hu_n eh10066 (Ne.symm (hne_new hao_10035 hf10036)) hco10037_10065
  have hre10041_10065 : h10065 q10040_ = some (.inr (7, [.ref (Bq10041 2), .ref (Bq10041 (2 + 1)), .ref (Bq10041 (2 + 2)), .ref (Bq10041 (2 + 3)), .ref (Bq10041 (2 + 4)), .ref (Bq10041 (2 + 5)), .ref (Bq10041 (2 + 6)), .ref (Bq10041 (2 + 7)), .ref (Bq10041 (2 + 8)), .ref (Bq10041 (2 + 9)), .ref (Bq10041 (2 + 10))]), q10040_) := hF10065 _ _ hre10041_10064 (hne_new hre10041_10063 hf10064)
  have hre10041_10066 : h10066 q10040_ = some (.inr (7, [.ref (Bq10041 2), .ref (Bq10041 (2 + 1)), .ref (Bq10041 (2 + 2)), .ref (Bq10041 (2 + 3)), .ref (Bq10041 (2 + 4)), .ref (Bq10041 (2 + 5)), .ref (Bq10041 (2 + 6)), .ref (Bq10041 (2 + 7)), .ref (Bq10041 (2 + 8)), .ref (Bq10041 (2 + 9)), .ref (Bq10041 (2 + 10))]), q10040_) := hu_n eh10066 (Ne.symm (hne_new hao_10039 hf10040)) hre10041_10065
  have hn248x_10065 : h10065 q10055_ = some (.inl (E.2.1 5, 961, .inr (.inr (.inr (.inr (fun _ => none))))), a) := hF10065 _ _ hn248x_10064 (hne_new hao_10063 hf10064)
  have hn248x_10066 : h10066 q10055_ = some (.inl (E.2.1 5, 961, .inr (.inr (.inr (.inr (fun _ => none))))), a) := hu_n eh10066 (Ne.symm (hne_new hao_10054 hf10055)) hn248x_10065
  have hn258x_10065 : h10065 q10057_ = some (.inl (E.2.1 5, 961, .inr (.inr (.inr (.inr (fun _ => none))))), a) := hF10065 _ _ hn258x_10064 (hne_new hao_10063 hf10064)
  have hn258x_10066 : h10066 q10057_ = some (.inl (E.2.1 5, 961, .inr (.inr (.inr (.inr (fun _ => none))))), a) := hu_n eh10066 (Ne.symm (hne_new hao_10056 hf10057)) hn258x_10065
  have hn268x_10065 : h10065 q10059_ = some (.inl (E.2.1 3, 961, .inl (fun _ => 0)), a) := hF10065 _ _ hn268x_10064 (hne_new hao_10063 hf10064)
  have hn268x_10066 : h10066 q10059_ = some (.inl (E.2.1 3, 961, .inl (fun _ => 0)), a) := hu_n eh10066 (Ne.symm (hne_new hao_10058 hf10059)) hn268x_10065
  have hQ10065_10066 : PB E h10066 Bq10065 cq10065 19 := PB.kept (O := (· = a)) (hu_f eh10066 Fr.rf hao_10065 rfl) (hQ10065.neobj hao_10065 (by decide)) hQ10065
  have hnxq10024_qrow : qrow ≠ q10024_ := hne_of hcr10027_10066 hn113x_10066 (fun z => (Ne.symm (hne_new hao_10025 hf10026)) (congrArg Prod.snd z))
  have hnxq10024_qdig : qdig ≠ q10024_ := hne_of hsg10030_10066 hn113x_10066 (fun z => (Ne.symm (hne_new hao_10028 hf10029)) (congrArg Prod.snd z))
  have hnxq10024_qdg : qdg ≠ q10024_ := hne_of hdo10030_10066 hn113x_10066 (fun z => by cases z)
  have hnxq10024_d1 : d1 ≠ q10024_ := hne_of hd110030_10066 hn113x_10066 (fun z => (Ne.symm hag) (congrArg Prod.snd z))
  have hnxq10024_d2 : d2 ≠ q10024_ := hne_of hd210030_10066 hn113x_10066 (fun z => (Ne.symm hag) (congrArg Prod.snd z))
  have hnxq10024_d3 : d3 ≠ q10024_ := hne_of hd310030_10066 hn113x_10066 (fun z => (Ne.symm hag) (congrArg Prod.snd z))
  have hnxq10024_d4 : d4 ≠ q10024_ := hne_of hd410030_10066 hn113x_10066 (fun z => (Ne.symm hag) (congrArg Prod.snd z))
  obtain ⟨Bq0, hBq0⟩ : ∃ z, z = Bq10065 := ⟨_, rfl⟩
  obtain ⟨cq0, hcq0⟩ : ∃ z, z = cq10065 := ⟨_, rfl⟩
  have L1 : ∀ (j : Nat) (k : Nat) (B2 c2 : Nat → Nat) (g : Nat → Option Nat) (pa : Nat → Nat) (cc_ ss_ : Nat) (h10068 : HH) (H10068 : Heap) (locs10068 : List Loc) (ls10068 : Array Slot), (17 ≤ k + j) → (h10068 a = some (.inr (0, [.ref q10001_, .int 0, .ref q10003_, .int 0, .int 0, .int (nI 1), .int (nI 100), .int (nI 1), .int (nI 10), .int (nI 11), .int (nI 10), .ref q10011_, .ref q10013_, .ref q10015_, .ref q10017_, .ref q10019_, .ref q10021_, .int 0, .int 0, .int 0, .int 0, .int (nI 0 - 1), .int 0, .ref q10024_, .int 0, .ref q10026_, .ref q10029_, .ref q10026_, .ref q10033_, .ref q10036_, .ref q10033_, .ref q10040_, .ref q10043_, .ref q10046_, .ref q10049_, .ref q10052_, .ref q10055_, .ref q10057_, .ref q10059_, .ref q10061_, .ref q10064_]), a)) → (h10068 q10024_ = some (.inl (E.2.1 6, 16, .inr (.inr (.inr (.inr g)))), a)) → (k ≤ 16) → (PB E h10068 B2 c2 (19 + 2 * k)) → (∀ i, i < 19 → B2 i = Bq10065 i ∧ c2 i = cq10065 i) → (∀ i, 19 ≤ i → i < 19 + 2 * k → c2 i = 64) → (∀ i, i < k → g i = some (pa i)) → (∀ i, i < k → h10068 (pa i) = some (.inr (8, [.int 0, .int 0, .int 0, .ref (B2 (19 + 2 * i)), .ref (B2 (19 + 2 * i + 1))]), pa i)) → (FA (· = q10024_) h10066 h10068) → (FN a h h10068) → (cc_ ≤ 100 + 5 * k ∧ ss_ ≤ 70000 + 137 * k) → (St E s h10068 H10068 locs10068) → (lv_has ls10068 2 [(0, .ref a), (1, .int (nI k))]) → W p l e ({ frames := 4, cells := 4200, slots := 100000, locals := 600 } : Room) s m ([.ref a] : List Value).toArray below meth c H10068 locs10068 cc_ ss_ Q (F0 m 301 ls10068 []) := by
    intro j
    induction j with
    | zero => intro k B2 c2 g pa cc_ ss_ h10068 H10068 locs10068 ls10068 hm10068 hao_10068 hal_10068 hk hQ hB hc64 hg hp hFA hN hcs T10068 hl10068; exact absurd hm10068 (by omega)
    | succ j ih10068 =>
      intro k B2 c2 g pa cc_ ss_ h10068 H10068 locs10068 ls10068 hm10068 hao_10068 hal_10068 hk hQ hB hc64 hg hp hFA hN hcs T10068 hl10068
      refine lv_iload_n hx hb dX1_init_301 rfl (lv_at hl10068 1 rfl) ?_
      refine lv_bipush (v := nI 16) hx hb dX1_init_302 rfl ?_
      refine hn_icmp_ge (tgt := 326) hx hb dX1_init_304 (by decide) (by omega) (by omega) (fun e1 => ?_) (fun e1 => ?_)
      · have e9 : k = 16 := by omega
        rw [e9] at hQ hc64 hg hp
        refine lv_iconst (v := nI 0) hx hb dX1_init_326 rfl ?_
        refine lv_istore_n (lv' := [(1, .int (nI 0)), (0, .ref a)]) hx hb dX1_init_327 rfl hl10068 (by decide) rfl (fun ls10074 hl10074 => ?_)
        have hsc_10073 : h10068 sc = some (.inl xs, sc) := hFA _ _ hsc_10066 (fun u => (hne_new hsc_10023 hf10024) u) ⟨_, hsc_10066, (fun u => (hne_new hsc_10023 hf10024) u)⟩
        have hn7x_10073 : h10068 q10001_ = some (.inl (E.2.1 0, 8, .inl (fun _ => 0)), a) := hFA _ _ hn7x_10066 (fun u => (hne_new hn7x_10023 hf10024) u) ⟨_, hao_10066, (fun u => (hne_new hao_10023 hf10024) u)⟩
        have hn15x_10073 : h10068 q10003_ = some (.inl (E.2.1 0, 64, .inl (fun _ => 0)), a) := hFA _ _ hn15x_10066 (fun u => (hne_new hn15x_10023 hf10024) u) ⟨_, hao_10066, (fun u => (hne_new hao_10023 hf10024) u)⟩
        have hn58x_10073 : h10068 q10011_ = some (.inl (E.2.1 1, 20000, .inl (fun _ => 0)), a) := hFA _ _ hn58x_10066 (fun u => (hne_new hn58x_10023 hf10024) u) ⟨_, hao_10066, (fun u => (hne_new hao_10023 hf10024) u)⟩
        have hn67x_10073 : h10068 q10013_ = some (.inl (E.2.1 1, 20000, .inl (fun _ => 0)), a) := hFA _ _ hn67x_10066 (fun u => (hne_new hn67x_10023 hf10024) u) ⟨_, hao_10066, (fun u => (hne_new hao_10023 hf10024) u)⟩
        have hn76x_10073 : h10068 q10015_ = some (.inl (E.2.1 2, 20000, .inl (fun _ => 0)), a) := hFA _ _ hn76x_10066 (fun u => (hne_new hn76x_10023 hf10024) u) ⟨_, hao_10066, (fun u => (hne_new hao_10023 hf10024) u)⟩
        have hn84x_10073 : h10068 q10017_ = some (.inl (E.2.1 3, 8, .inl (fun _ => 0)), a) := hFA _ _ hn84x_10066 (fun u => (hne_new hn84x_10023 hf10024) u) ⟨_, hao_10066, (fun u => (hne_new hao_10023 hf10024) u)⟩
        have hn92x_10073 : h10068 q10019_ = some (.inl (E.2.1 0, 8, .inl (fun _ => 0)), a) := hFA _ _ hn92x_10066 (fun u => (hne_new hn92x_10023 hf10024) u) ⟨_, hao_10066, (fun u => (hne_new hao_10023 hf10024) u)⟩
        have hn100x_10073 : h10068 q10021_ = some (.inl (E.2.1 0, 8, .inl (fun _ => 0)), a) := hFA _ _ hn100x_10066 (fun u => (hne_new hn100x_10023 hf10024) u) ⟨_, hao_10066, (fun u => (hne_new hao_10023 hf10024) u)⟩
        have hcw10027_10073 : h10068 q10026_ = some (.inr (2, [.ref qrow, .int 0, .int 0]), q10026_) := hFA _ _ hcw10027_10066 (fun u => (Ne.symm (hne_new hn113x_10025 hf10026)) u) ⟨_, hcw10027_10066, (fun u => (Ne.symm (hne_new hn113x_10025 hf10026)) u)⟩
        have hcr10027_10073 : h10068 qrow = some (.inl (E.2.1 3, 4000, .inl (fun _ => 0)), q10026_) := hFA _ _ hcr10027_10066 (fun u => hnxq10024_qrow u) ⟨_, hcw10027_10066, (fun u => (Ne.symm (hne_new hn113x_10025 hf10026)) u)⟩
        have hse10030_10073 : h10068 q10029_ = some (.inr (3, [.ref qdig, .int 0, .ref qdg]), q10029_) := hFA _ _ hse10030_10066 (fun u => (Ne.symm (hne_new hn113x_10028 hf10029)) u) ⟨_, hse10030_10066, (fun u => (Ne.symm (hne_new hn113x_10028 hf10029)) u)⟩
        have hsg10030_10073 : h10068 qdig = some (.inl (E.2.1 0, 20, .inl (fun _ => 0)), q10029_) := hFA _ _ hsg10030_10066 (fun u => hnxq10024_qdig u) ⟨_, hse10030_10066, (fun u => (Ne.symm (hne_new hn113x_10028 hf10029)) u)⟩
        have hdo10030_10073 : h10068 qdg = some (.inr (4, [.ref d1, .ref d2, .ref d3, .ref d4, .int 0]), qdg) := hFA _ _ hdo10030_10066 (fun u => hnxq10024_qdg u) ⟨_, hdo10030_10066, (fun u => hnxq10024_qdg u)⟩
        have hd110030_10073 : h10068 d1 = some (.inl (E.2.1 0, 8, .inl (fun _ => 0)), qdg) := hFA _ _ hd110030_10066 (fun u => hnxq10024_d1 u) ⟨_, hdo10030_10066, (fun u => hnxq10024_qdg u)⟩
        have hd210030_10073 : h10068 d2 = some (.inl (E.2.1 0, 8, .inl (fun _ => 0)), qdg) := hFA _ _ hd210030_10066 (fun u => hnxq10024_d2 u) ⟨_, hdo10030_10066, (fun u => hnxq10024_qdg u)⟩
        have hd310030_10073 : h10068 d3 = some (.inl (E.2.1 0, 64, .inl (fun _ => 0)), qdg) := hFA _ _ hd310030_10066 (fun u => hnxq10024_d3 u) ⟨_, hdo10030_10066, (fun u => hnxq10024_qdg u)⟩
        have hd410030_10073 : h10068 d4 = some (.inl (E.2.1 1, 64, .inl (fun _ => 0)), qdg) := hFA _ _ hd410030_10066 (fun u => hnxq10024_d4 u) ⟨_, hdo10030_10066, (fun u => hnxq10024_qdg u)⟩
        have hpo10034_10073 : h10068 q10033_ = some (.inr (5, [.ref a]), q10033_) := hFA _ _ hpo10034_10066 (fun u => (Ne.symm (hne_new hn113x_10032 hf10033)) u) ⟨_, hpo10034_10066, (fun u => (Ne.symm (hne_new hn113x_10032 hf10033)) u)⟩
        have hco10037_10073 : h10068 q10036_ = some (.inr (6, [.ref a, .ref (Bq10037 0), .ref (Bq10037 (0 + 1))]), q10036_) := hFA _ _ hco10037_10066 (fun u => (Ne.symm (hne_new hn113x_10035 hf10036)) u) ⟨_, hco10037_10066, (fun u => (Ne.symm (hne_new hn113x_10035 hf10036)) u)⟩
        have hre10041_10073 : h10068 q10040_ = some (.inr (7, [.ref (Bq10041 2), .ref (Bq10041 (2 + 1)), .ref (Bq10041 (2 + 2)), .ref (Bq10041 (2 + 3)), .ref (Bq10041 (2 + 4)), .ref (Bq10041 (2 + 5)), .ref (Bq10041 (2 + 6)), .ref (Bq10041 (2 + 7)), .ref (Bq10041 (2 + 8)), .ref (Bq10041 (2 + 9)), .ref (Bq10041 (2 + 10))]), q10040_) := hFA _ _ hre10041_10066 (fun u => (Ne.symm (hne_new hn113x_10039 hf10040)) u) ⟨_, hre10041_10066, (fun u => (Ne.symm (hne_new hn113x_10039 hf10040)) u)⟩
        have hn248x_10073 : h10068 q10055_ = some (.inl (E.2.1 5, 961, .inr (.inr (.inr (.inr (fun _ => none))))), a) := hFA _ _ hn248x_10066 (fun u => (Ne.symm (hne_new hn113x_10054 hf10055)) u) ⟨_, hao_10066, (fun u => (hne_new hao_10023 hf10024) u)⟩
        have hn258x_10073 : h10068 q10057_ = some (.inl (E.2.1 5, 961, .inr (.inr (.inr (.inr (fun _ => none))))), a) := hFA _ _ hn258x_10066 (fun u => (Ne.symm (hne_new hn113x_10056 hf10057)) u) ⟨_, hao_10066, (fun u => (hne_new hao_10023 hf10024) u)⟩
        have hn268x_10073 : h10068 q10059_ = some (.inl (E.2.1 3, 961, .inl (fun _ => 0)), a) := hFA _ _ hn268x_10066 (fun u => (Ne.symm (hne_new hn113x_10058 hf10059)) u) ⟨_, hao_10066, (fun u => (hne_new hao_10023 hf10024) u)⟩
        have L2 : ∀ (j2 : Nat) (k2 : Nat) (B3 c3 : Nat → Nat) (gw gn : Nat → Option Nat) (cc2 ss2 : Nat) (h10075 : HH) (H10075 : Heap) (locs10075 : List Loc) (ls10075 : Array Slot), (962 ≤ k2 + j2) → (h10075 a = some (.inr (0, [.ref q10001_, .int 0, .ref q10003_, .int 0, .int 0, .int (nI 1), .int (nI 100), .int (nI 1), .int (nI 10), .int (nI 11), .int (nI 10), .ref q10011_, .ref q10013_, .ref q10015_, .ref q10017_, .ref q10019_, .ref q10021_, .int 0, .int 0, .int 0, .int 0, .int (nI 0 - 1), .int 0, .ref q10024_, .int 0, .ref q10026_, .ref q10029_, .ref q10026_, .ref q10033_, .ref q10036_, .ref q10033_, .ref q10040_, .ref q10043_, .ref q10046_, .ref q10049_, .ref q10052_, .ref q10055_, .ref q10057_, .ref q10059_, .ref q10061_, .ref q10064_]), a)) → (h10075 q10055_ = some (.inl (E.2.1 5, 961, .inr (.inr (.inr (.inr gw)))), a)) → (h10075 q10057_ = some (.inl (E.2.1 5, 961, .inr (.inr (.inr (.inr gn)))), a)) → (k2 ≤ 961) → (PB E h10075 B3 c3 (51 + 2 * k2)) → (∀ i, i < 51 → B3 i = B2 i ∧ c3 i = c2 i) → (∀ i, 51 ≤ i → i < 51 + 2 * k2 → c3 i = 8) → (∀ i, i < k2 → gw i = some (B3 (51 + 2 * i))) → (∀ i, i < k2 → gn i = some (B3 (51 + 2 * i + 1))) → (FA (fun q => q = q10055_ ∨ q = q10057_) h10068 h10075) → (FN a h h10075) → (cc2 ≤ 180 + 4 * k2 ∧ ss2 ≤ 72192 + 20 * k2) → (St E s h10075 H10075 locs10075) → (lv_has ls10075 2 [(0, .ref a), (1, .int (nI k2))]) → W p l e ({ frames := 4, cells := 4200, slots := 100000, locals := 600 } : Room) s m ([.ref a] : List Value).toArray below meth c H10075 locs10075 cc2 ss2 Q (F0 m 328 ls10075 []) := by
          intro j2
          induction j2 with
          | zero => intro k2 B3 c3 gw gn cc2 ss2 h10075 H10075 locs10075 ls10075 hm10075 hao_10075 hww_10075 hwn_10075 hk2 hQ3 hB3 hc8 hgw hgn hFA2 hN2 hcs2 T10075 hl10075; exact absurd hm10075 (by omega)
          | succ j2 ih10075 =>
            intro k2 B3 c3 gw gn cc2 ss2 h10075 H10075 locs10075 ls10075 hm10075 hao_10075 hww_10075 hwn_10075 hk2 hQ3 hB3 hc8 hgw hgn hFA2 hN2 hcs2 T10075 hl10075
            refine lv_iload_n hx hb dX1_init_328 rfl (lv_at hl10075 1 rfl) ?_
            refine lv_aload_n hx hb dX1_init_329 rfl (lv_at hl10075 0 rfl) ?_
            refine hr_get C T10075 hao_10075 rfl in_X1 36 (by decide) q338 rfl rfl dX1_init_330 ?_
            refine hr_alenN C T10075 5 hww_10075 rfl dX1_init_333 ?_
            refine hn_icmp_ge (tgt := 373) hx hb dX1_init_334 (by decide) (by omega) (by omega) (fun e2 => ?_) (fun e2 => ?_)
            · have e8 : k2 = 961 := by omega
              rw [e8] at hQ3 hc8 hgw hgn
              have hpF : ∀ i, i < 16 → h10075 (pa i) = some (.inr (8, [.int 0, .int 0, .int 0, .ref (B2 (19 + 2 * i)), .ref (B2 (19 + 2 * i + 1))]), pa i) := fun i hi => hFA2 _ _ (hp i hi) (fun u => u.elim (hne_of (hp i hi) hn248x_10073 (fun z => by cases z)) (hne_of (hp i hi) hn258x_10073 (fun z => by cases z))) ⟨_, hp i hi, (fun u => u.elim (hne_of (hp i hi) hn248x_10073 (fun z => by cases z)) (hne_of (hp i hi) hn258x_10073 (fun z => by cases z)))⟩
              obtain ⟨B, hBd⟩ : ∃ B : Nat → Nat, B = fun i => B3 (tq i) := ⟨_, rfl⟩
              obtain ⟨cp, hcd⟩ : ∃ cp : Nat → Nat, cp = fun i => c3 (tq i) := ⟨_, rfl⟩
              have hBg : Bgs E h10075 B (fun _ => 0) cp := by rw [hBd, hcd]; exact PB.bgs hQ3
              have hz0 : B3 0 = Bq10037 0 := ((hB3 0 (by decide)).1).trans (((hB 0 (by decide)).1).trans (((hk10065 0 (by decide)).1).trans (((hk10062 0 (by decide)).1).trans (((hk10053 0 (by decide)).1).trans (((hk10050 0 (by decide)).1).trans (((hk10047 0 (by decide)).1).trans (((hk10044 0 (by decide)).1).trans (((hk10041 0 (by decide)).1)))))))))
              have hz1 : B3 1 = Bq10037 (0 + 1) := ((hB3 1 (by decide)).1).trans (((hB 1 (by decide)).1).trans (((hk10065 1 (by decide)).1).trans (((hk10062 1 (by decide)).1).trans (((hk10053 1 (by decide)).1).trans (((hk10050 1 (by decide)).1).trans (((hk10047 1 (by decide)).1).trans (((hk10044 1 (by decide)).1).trans (((hk10041 1 (by decide)).1)))))))))
              have hz2 : B3 2 = Bq10041 2 := ((hB3 2 (by decide)).1).trans (((hB 2 (by decide)).1).trans (((hk10065 2 (by decide)).1).trans (((hk10062 2 (by decide)).1).trans (((hk10053 2 (by decide)).1).trans (((hk10050 2 (by decide)).1).trans (((hk10047 2 (by decide)).1).trans (((hk10044 2 (by decide)).1))))))))
              have hz3 : B3 3 = Bq10041 (2 + 1) := ((hB3 3 (by decide)).1).trans (((hB 3 (by decide)).1).trans (((hk10065 3 (by decide)).1).trans (((hk10062 3 (by decide)).1).trans (((hk10053 3 (by decide)).1).trans (((hk10050 3 (by decide)).1).trans (((hk10047 3 (by decide)).1).trans (((hk10044 3 (by decide)).1))))))))
              have hz4 : B3 4 = Bq10041 (2 + 2) := ((hB3 4 (by decide)).1).trans (((hB 4 (by decide)).1).trans (((hk10065 4 (by decide)).1).trans (((hk10062 4 (by decide)).1).trans (((hk10053 4 (by decide)).1).trans (((hk10050 4 (by decide)).1).trans (((hk10047 4 (by decide)).1).trans (((hk10044 4 (by decide)).1))))))))
              have hz5 : B3 5 = Bq10041 (2 + 3) := ((hB3 5 (by decide)).1).trans (((hB 5 (by decide)).1).trans (((hk10065 5 (by decide)).1).trans (((hk10062 5 (by decide)).1).trans (((hk10053 5 (by decide)).1).trans (((hk10050 5 (by decide)).1).trans (((hk10047 5 (by decide)).1).trans (((hk10044 5 (by decide)).1))))))))
              have hz6 : B3 6 = Bq10041 (2 + 4) := ((hB3 6 (by decide)).1).trans (((hB 6 (by decide)).1).trans (((hk10065 6 (by decide)).1).trans (((hk10062 6 (by decide)).1).trans (((hk10053 6 (by decide)).1).trans (((hk10050 6 (by decide)).1).trans (((hk10047 6 (by decide)).1).trans (((hk10044 6 (by decide)).1))))))))
              have hz7 : B3 7 = Bq10041 (2 + 5) := ((hB3 7 (by decide)).1).trans (((hB 7 (by decide)).1).trans (((hk10065 7 (by decide)).1).trans (((hk10062 7 (by decide)).1).trans (((hk10053 7 (by decide)).1).trans (((hk10050 7 (by decide)).1).trans (((hk10047 7 (by decide)).1).trans (((hk10044 7 (by decide)).1))))))))
              have hz8 : B3 8 = Bq10041 (2 + 6) := ((hB3 8 (by decide)).1).trans (((hB 8 (by decide)).1).trans (((hk10065 8 (by decide)).1).trans (((hk10062 8 (by decide)).1).trans (((hk10053 8 (by decide)).1).trans (((hk10050 8 (by decide)).1).trans (((hk10047 8 (by decide)).1).trans (((hk10044 8 (by decide)).1))))))))
              have hz9 : B3 9 = Bq10041 (2 + 7) := ((hB3 9 (by decide)).1).trans (((hB 9 (by decide)).1).trans (((hk10065 9 (by decide)).1).trans (((hk10062 9 (by decide)).1).trans (((hk10053 9 (by decide)).1).trans (((hk10050 9 (by decide)).1).trans (((hk10047 9 (by decide)).1).trans (((hk10044 9 (by decide)).1))))))))
              have hz10 : B3 10 = Bq10041 (2 + 8) := ((hB3 10 (by decide)).1).trans (((hB 10 (by decide)).1).trans (((hk10065 10 (by decide)).1).trans (((hk10062 10 (by decide)).1).trans (((hk10053 10 (by decide)).1).trans (((hk10050 10 (by decide)).1).trans (((hk10047 10 (by decide)).1).trans (((hk10044 10 (by decide)).1))))))))
              have hz11 : B3 11 = Bq10041 (2 + 9) := ((hB3 11 (by decide)).1).trans (((hB 11 (by decide)).1).trans (((hk10065 11 (by decide)).1).trans (((hk10062 11 (by decide)).1).trans (((hk10053 11 (by decide)).1).trans (((hk10050 11 (by decide)).1).trans (((hk10047 11 (by decide)).1).trans (((hk10044 11 (by decide)).1))))))))
              have hz12 : B3 12 = Bq10041 (2 + 10) := ((hB3 12 (by decide)).1).trans (((hB 12 (by decide)).1).trans (((hk10065 12 (by decide)).1).trans (((hk10062 12 (by decide)).1).trans (((hk10053 12 (by decide)).1).trans (((hk10050 12 (by decide)).1).trans (((hk10047 12 (by decide)).1).trans (((hk10044 12 (by decide)).1))))))))
              have hz13 : B3 13 = q10043_ := ((hB3 13 (by decide)).1).trans (((hB 13 (by decide)).1).trans (((hk10065 13 (by decide)).1).trans (((hk10062 13 (by decide)).1).trans (((hk10053 13 (by decide)).1).trans (((hk10050 13 (by decide)).1).trans (((hk10047 13 (by decide)).1).trans hat10044))))))
              have hz14 : B3 14 = q10046_ := ((hB3 14 (by decide)).1).trans (((hB 14 (by decide)).1).trans (((hk10065 14 (by decide)).1).trans (((hk10062 14 (by decide)).1).trans (((hk10053 14 (by decide)).1).trans (((hk10050 14 (by decide)).1).trans hat10047)))))
              have hz15 : B3 15 = q10049_ := ((hB3 15 (by decide)).1).trans (((hB 15 (by decide)).1).trans (((hk10065 15 (by decide)).1).trans (((hk10062 15 (by decide)).1).trans (((hk10053 15 (by decide)).1).trans hat10050))))
              have hz16 : B3 16 = q10052_ := ((hB3 16 (by decide)).1).trans (((hB 16 (by decide)).1).trans (((hk10065 16 (by decide)).1).trans (((hk10062 16 (by decide)).1).trans hat10053)))
              have hz17 : B3 17 = q10061_ := ((hB3 17 (by decide)).1).trans (((hB 17 (by decide)).1).trans (((hk10065 17 (by decide)).1).trans hat10062))
              have hz18 : B3 18 = q10064_ := ((hB3 18 (by decide)).1).trans (((hB 18 (by decide)).1).trans hat10065)
              have hsc_10083 : h10075 sc = some (.inl xs, sc) := hFA2 _ _ hsc_10073 (fun u => u.elim (hne_new hsc_10054 hf10055) (hne_new hsc_10056 hf10057)) ⟨_, hsc_10073, (fun u => u.elim (hne_new hsc_10054 hf10055) (hne_new hsc_10056 hf10057))⟩
              have hn7x_10083 : h10075 q10001_ = some (.inl (E.2.1 0, 8, .inl (fun _ => 0)), a) := hFA2 _ _ hn7x_10073 (fun u => u.elim (hne_new hn7x_10054 hf10055) (hne_new hn7x_10056 hf10057)) ⟨_, hao_10068, (fun u => u.elim (hne_new hao_10054 hf10055) (hne_new hao_10056 hf10057))⟩
              have hn15x_10083 : h10075 q10003_ = some (.inl (E.2.1 0, 64, .inl (fun _ => 0)), a) := hFA2 _ _ hn15x_10073 (fun u => u.elim (hne_new hn15x_10054 hf10055) (hne_new hn15x_10056 hf10057)) ⟨_, hao_10068, (fun u => u.elim (hne_new hao_10054 hf10055) (hne_new hao_10056 hf10057))⟩
              have hn58x_10083 : h10075 q10011_ = some (.inl (E.2.1 1, 20000, .inl (fun _ => 0)), a) := hFA2 _ _ hn58x_10073 (fun u => u.elim (hne_new hn58x_10054 hf10055) (hne_new hn58x_10056 hf10057)) ⟨_, hao_10068, (fun u => u.elim (hne_new hao_10054 hf10055) (hne_new hao_10056 hf10057))⟩
              have hn67x_10083 : h10075 q10013_ = some (.inl (E.2.1 1, 20000, .inl (fun _ => 0)), a) := hFA2 _ _ hn67x_10073 (fun u => u.elim (hne_new hn67x_10054 hf10055) (hne_new hn67x_10056 hf10057)) ⟨_, hao_10068, (fun u => u.elim (hne_new hao_10054 hf10055) (hne_new hao_10056 hf10057))⟩
              have hn76x_10083 : h10075 q10015_ = some (.inl (E.2.1 2, 20000, .inl (fun _ => 0)), a) := hFA2 _ _ hn76x_10073 (fun u => u.elim (hne_new hn76x_10054 hf10055) (hne_new hn76x_10056 hf10057)) ⟨_, hao_10068, (fun u => u.elim (hne_new hao_10054 hf10055) (hne_new hao_10056 hf10057))⟩
              have hn84x_10083 : h10075 q10017_ = some (.inl (E.2.1 3, 8, .inl (fun _ => 0)), a) := hFA2 _ _ hn84x_10073 (fun u => u.elim (hne_new hn84x_10054 hf10055) (hne_new hn84x_10056 hf10057)) ⟨_, hao_10068, (fun u => u.elim (hne_new hao_10054 hf10055) (hne_new hao_10056 hf10057))⟩
              have hn92x_10083 : h10075 q10019_ = some (.inl (E.2.1 0, 8, .inl (fun _ => 0)), a) := hFA2 _ _ hn92x_10073 (fun u => u.elim (hne_new hn92x_10054 hf10055) (hne_new hn92x_10056 hf10057)) ⟨_, hao_10068, (fun u => u.elim (hne_new hao_10054 hf10055) (hne_new hao_10056 hf10057))⟩
              have hn100x_10083 : h10075 q10021_ = some (.inl (E.2.1 0, 8, .inl (fun _ => 0)), a) := hFA2 _ _ hn100x_10073 (fun u => u.elim (hne_new hn100x_10054 hf10055) (hne_new hn100x_10056 hf10057)) ⟨_, hao_10068, (fun u => u.elim (hne_new hao_10054 hf10055) (hne_new hao_10056 hf10057))⟩
              have hcw10027_10083 : h10075 q10026_ = some (.inr (2, [.ref qrow, .int 0, .int 0]), q10026_) := hFA2 _ _ hcw10027_10073 (fun u => u.elim (hne_new hcw10027_10054 hf10055) (hne_new hcw10027_10056 hf10057)) ⟨_, hcw10027_10073, (fun u => u.elim (hne_new hcw10027_10054 hf10055) (hne_new hcw10027_10056 hf10057))⟩
              have hcr10027_10083 : h10075 qrow = some (.inl (E.2.1 3, 4000, .inl (fun _ => 0)), q10026_) := hFA2 _ _ hcr10027_10073 (fun u => u.elim (hne_new hcr10027_10054 hf10055) (hne_new hcr10027_10056 hf10057)) ⟨_, hcw10027_10073, (fun u => u.elim (hne_new hcw10027_10054 hf10055) (hne_new hcw10027_10056 hf10057))⟩
              have hse10030_10083 : h10075 q10029_ = some (.inr (3, [.ref qdig, .int 0, .ref qdg]), q10029_) := hFA2 _ _ hse10030_10073 (fun u => u.elim (hne_new hse10030_10054 hf10055) (hne_new hse10030_10056 hf10057)) ⟨_, hse10030_10073, (fun u => u.elim (hne_new hse10030_10054 hf10055) (hne_new hse10030_10056 hf10057))⟩
              have hsg10030_10083 : h10075 qdig = some (.inl (E.2.1 0, 20, .inl (fun _ => 0)), q10029_) := hFA2 _ _ hsg10030_10073 (fun u => u.elim (hne_new hsg10030_10054 hf10055) (hne_new hsg10030_10056 hf10057)) ⟨_, hse10030_10073, (fun u => u.elim (hne_new hse10030_10054 hf10055) (hne_new hse10030_10056 hf10057))⟩
              have hdo10030_10083 : h10075 qdg = some (.inr (4, [.ref d1, .ref d2, .ref d3, .ref d4, .int 0]), qdg) := hFA2 _ _ hdo10030_10073 (fun u => u.elim (hne_new hdo10030_10054 hf10055) (hne_new hdo10030_10056 hf10057)) ⟨_, hdo10030_10073, (fun u => u.elim (hne_new hdo10030_10054 hf10055) (hne_new hdo10030_10056 hf10057))⟩
              have hd110030_10083 : h10075 d1 = some (.inl (E.2.1 0, 8, .inl (fun _ => 0)), qdg) := hFA2 _ _ hd110030_10073 (fun u => u.elim (hne_new hd110030_10054 hf10055) (hne_new hd110030_10056 hf10057)) ⟨_, hdo10030_10073, (fun u => u.elim (hne_new hdo10030_10054 hf10055) (hne_new hdo10030_10056 hf10057))⟩
              have hd210030_10083 : h10075 d2 = some (.inl (E.2.1 0, 8, .inl (fun _ => 0)), qdg) := hFA2 _ _ hd210030_10073 (fun u => u.elim (hne_new hd210030_10054 hf10055) (hne_new hd210030_10056 hf10057)) ⟨_, hdo10030_10073, (fun u => u.elim (hne_new hdo10030_10054 hf10055) (hne_new hdo10030_10056 hf10057))⟩
              have hd310030_10083 : h10075 d3 = some (.inl (E.2.1 0, 64, .inl (fun _ => 0)), qdg) := hFA2 _ _ hd310030_10073 (fun u => u.elim (hne_new hd310030_10054 hf10055) (hne_new hd310030_10056 hf10057)) ⟨_, hdo10030_10073, (fun u => u.elim (hne_new hdo10030_10054 hf10055) (hne_new hdo10030_10056 hf10057))⟩
              have hd410030_10083 : h10075 d4 = some (.inl (E.2.1 1, 64, .inl (fun _ => 0)), qdg) := hFA2 _ _ hd410030_10073 (fun u => u.elim (hne_new hd410030_10054 hf10055) (hne_new hd410030_10056 hf10057)) ⟨_, hdo10030_10073, (fun u => u.elim (hne_new hdo10030_10054 hf10055) (hne_new hdo10030_10056 hf10057))⟩
              have hpo10034_10083 : h10075 q10033_ = some (.inr (5, [.ref a]), q10033_) := hFA2 _ _ hpo10034_10073 (fun u => u.elim (hne_new hpo10034_10054 hf10055) (hne_new hpo10034_10056 hf10057)) ⟨_, hpo10034_10073, (fun u => u.elim (hne_new hpo10034_10054 hf10055) (hne_new hpo10034_10056 hf10057))⟩
              have hco10037_10083 : h10075 q10036_ = some (.inr (6, [.ref a, .ref (Bq10037 0), .ref (Bq10037 (0 + 1))]), q10036_) := hFA2 _ _ hco10037_10073 (fun u => u.elim (hne_new hco10037_10054 hf10055) (hne_new hco10037_10056 hf10057)) ⟨_, hco10037_10073, (fun u => u.elim (hne_new hco10037_10054 hf10055) (hne_new hco10037_10056 hf10057))⟩
              have hre10041_10083 : h10075 q10040_ = some (.inr (7, [.ref (Bq10041 2), .ref (Bq10041 (2 + 1)), .ref (Bq10041 (2 + 2)), .ref (Bq10041 (2 + 3)), .ref (Bq10041 (2 + 4)), .ref (Bq10041 (2 + 5)), .ref (Bq10041 (2 + 6)), .ref (Bq10041 (2 + 7)), .ref (Bq10041 (2 + 8)), .ref (Bq10041 (2 + 9)), .ref (Bq10041 (2 + 10))]), q10040_) := hFA2 _ _ hre10041_10073 (fun u => u.elim (hne_new hre10041_10054 hf10055) (hne_new hre10041_10056 hf10057)) ⟨_, hre10041_10073, (fun u => u.elim (hne_new hre10041_10054 hf10055) (hne_new hre10041_10056 hf10057))⟩
              have hn268x_10083 : h10075 q10059_ = some (.inl (E.2.1 3, 961, .inl (fun _ => 0)), a) := hFA2 _ _ hn268x_10073 (fun u => u.elim (Ne.symm (hne_new hn248x_10058 hf10059)) (Ne.symm (hne_new hn258x_10058 hf10059))) ⟨_, hao_10068, (fun u => u.elim (hne_new hao_10054 hf10055) (hne_new hao_10056 hf10057))⟩
              have hal_10083 : h10075 q10024_ = some (.inl (E.2.1 6, 16, .inr (.inr (.inr (.inr g)))), a) := hFA2 _ _ hal_10068 (fun u => u.elim (hne_new hn113x_10054 hf10055) (hne_new hn113x_10056 hf10057)) ⟨_, hao_10068, (fun u => u.elim (hne_new hao_10054 hf10055) (hne_new hao_10056 hf10057))⟩
              refine lv_aload_n hx hb dX1_init_373 rfl (lv_at hl10075 0 rfl) ?_
              refine hr_get C T10075 hao_10075 rfl in_X1 35 (by decide) q337 rfl rfl dX1_init_374 ?_
              rw [show q10052_ = B 3 by rw [hBd]; exact hz16.symm]
              refine lv_lconst (v := lN 1) hx hb dX1_init_377 rfl ?_
              obtain ⟨ca10084, hbo10084⟩ := hBg.o (i := 3) (by decide)
              refine hc_V C T10075 hl10075.1 hbo10084 rfl (g_set (i := 3) hBg (by decide) (by decide)) q271 q272 q273 q59 q274 kd_X7_set rfl rfl ⟨Nat.le_of_ble_eq_true rfl, Nat.le_of_ble_eq_true rfl⟩ (Nat.le_of_ble_eq_true rfl) dX1_init_378 ⟨by have hgw := (Gw.rf (cp := cp)); have hg1 := hgw.1; have hg2 := hgw.2; have hkm := hBg.kmax; show cc2 + 0 ≤ 4200; omega, by have hgw := (Gw.rf (cp := cp)); have hg1 := hgw.1; have hg2 := hgw.2; have hkm := hBg.kmax; show ss2 + 0 ≤ 100000; omega⟩ (fun rv h10085 H10085 locs10085 hp10085 T10085 => ?_)
              obtain ⟨rfl, hB10085, hF10085⟩ := hp10085
              refine W.eq (g2 := F0 m 381 ls10075 []) rfl ?_
              have hpG : ∀ i, i < 16 → h10085 (pa i) = some (.inr (8, [.int 0, .int 0, .int 0, .ref (B2 (19 + 2 * i)), .ref (B2 (19 + 2 * i + 1))]), pa i) := fun i hi => hF10085 _ _ (hpF i hi) (fun ⟨j, hj, e⟩ => hBg.neobj (hpF i hi) (by decide) j hj e.symm)
              have hNs : ∀ q x, h q = some x → x.2 ≠ a → (∃ z, h x.2 = some (z, x.2)) → True := fun _ _ _ _ _ => trivial
              have hao_10085 : h10085 a = some (.inr (0, [.ref q10001_, .int 0, .ref q10003_, .int 0, .int 0, .int (nI 1), .int (nI 100), .int (nI 1), .int (nI 10), .int (nI 11), .int (nI 10), .ref q10011_, .ref q10013_, .ref q10015_, .ref q10017_, .ref q10019_, .ref q10021_, .int 0, .int 0, .int 0, .int 0, .int (nI 0 - 1), .int 0, .ref q10024_, .int 0, .ref q10026_, .ref q10029_, .ref q10026_, .ref q10033_, .ref q10036_, .ref q10033_, .ref q10040_, .ref q10043_, .ref q10046_, .ref q10049_, .ref q10052_, .ref q10055_, .ref q10057_, .ref q10059_, .ref q10061_, .ref q10064_]), a) := hF10085 _ _ hao_10075 (fun ⟨i, hi, e⟩ => (hBg.neobj hao_10075 (by decide)) i hi e.symm)
              have haG := hao_10085
              have hBa : ∀ i, i < NB → B i ≠ a := hB10085.neobj hao_10085 (by decide)
              refine lv_iconst (v := nI 0) hx hb dX1_init_381 rfl ?_
              refine lv_istore_n (lv' := [(1, .int (nI 0)), (0, .ref a)]) hx hb dX1_init_382 rfl hl10075 (by decide) rfl (fun ls10086 hl10086 => ?_)
              have hcr10027_10085 : h10085 qrow = some (.inl (E.2.1 3, 4000, .inl (fun _ => 0)), q10026_) := hF10085 _ _ hcr10027_10083 (fun ⟨i, hi, e⟩ => (hBg.neobj hcw10027_10083 (by decide)) i hi e.symm)
              have hn58x_10085 : h10085 q10011_ = some (.inl (E.2.1 1, 20000, .inl (fun _ => 0)), a) := hF10085 _ _ hn58x_10083 (fun ⟨i, hi, e⟩ => (hBg.neobj hao_10075 (by decide)) i hi e.symm)
              have hnyq10011_qrow : qrow ≠ q10011_ := hne_of hcr10027_10085 hn58x_10085 (fun z => (Ne.symm (hne_new hao_10025 hf10026)) (congrArg Prod.snd z))
              have hsg10030_10085 : h10085 qdig = some (.inl (E.2.1 0, 20, .inl (fun _ => 0)), q10029_) := hF10085 _ _ hsg10030_10083 (fun ⟨i, hi, e⟩ => (hBg.neobj hse10030_10083 (by decide)) i hi e.symm)
              have hnyq10011_qdig : qdig ≠ q10011_ := hne_of hsg10030_10085 hn58x_10085 (fun z => (Ne.symm (hne_new hao_10028 hf10029)) (congrArg Prod.snd z))
              have hdo10030_10085 : h10085 qdg = some (.inr (4, [.ref d1, .ref d2, .ref d3, .ref d4, .int 0]), qdg) := hF10085 _ _ hdo10030_10083 (fun ⟨i, hi, e⟩ => (hBg.neobj hdo10030_10083 (by decide)) i hi e.symm)
              have hnyq10011_qdg : qdg ≠ q10011_ := hne_of hdo10030_10085 hn58x_10085 (fun z => by cases z)
              have hd110030_10085 : h10085 d1 = some (.inl (E.2.1 0, 8, .inl (fun _ => 0)), qdg) := hF10085 _ _ hd110030_10083 (fun ⟨i, hi, e⟩ => (hBg.neobj hdo10030_10083 (by decide)) i hi e.symm)
              have hnyq10011_d1 : d1 ≠ q10011_ := hne_of hd110030_10085 hn58x_10085 (fun z => (Ne.symm hag) (congrArg Prod.snd z))
              have hd210030_10085 : h10085 d2 = some (.inl (E.2.1 0, 8, .inl (fun _ => 0)), qdg) := hF10085 _ _ hd210030_10083 (fun ⟨i, hi, e⟩ => (hBg.neobj hdo10030_10083 (by decide)) i hi e.symm)
              have hnyq10011_d2 : d2 ≠ q10011_ := hne_of hd210030_10085 hn58x_10085 (fun z => (Ne.symm hag) (congrArg Prod.snd z))
              have hd310030_10085 : h10085 d3 = some (.inl (E.2.1 0, 64, .inl (fun _ => 0)), qdg) := hF10085 _ _ hd310030_10083 (fun ⟨i, hi, e⟩ => (hBg.neobj hdo10030_10083 (by decide)) i hi e.symm)
              have hnyq10011_d3 : d3 ≠ q10011_ := hne_of hd310030_10085 hn58x_10085 (fun z => (Ne.symm hag) (congrArg Prod.snd z))
              have hd410030_10085 : h10085 d4 = some (.inl (E.2.1 1, 64, .inl (fun _ => 0)), qdg) := hF10085 _ _ hd410030_10083 (fun ⟨i, hi, e⟩ => (hBg.neobj hdo10030_10083 (by decide)) i hi e.symm)
              have hnyq10011_d4 : d4 ≠ q10011_ := hne_of hd410030_10085 hn58x_10085 (fun z => (Ne.symm hag) (congrArg Prod.snd z))
              have hn67x_10085 : h10085 q10013_ = some (.inl (E.2.1 1, 20000, .inl (fun _ => 0)), a) := hF10085 _ _ hn67x_10083 (fun ⟨i, hi, e⟩ => (hBg.neobj hao_10075 (by decide)) i hi e.symm)
              have hnyq10013_qrow : qrow ≠ q10013_ := hne_of hcr10027_10085 hn67x_10085 (fun z => (Ne.symm (hne_new hao_10025 hf10026)) (congrArg Prod.snd z))
              have hnyq10013_qdig : qdig ≠ q10013_ := hne_of hsg10030_10085 hn67x_10085 (fun z => (Ne.symm (hne_new hao_10028 hf10029)) (congrArg Prod.snd z))
              have hnyq10013_qdg : qdg ≠ q10013_ := hne_of hdo10030_10085 hn67x_10085 (fun z => by cases z)
              have hnyq10013_d1 : d1 ≠ q10013_ := hne_of hd110030_10085 hn67x_10085 (fun z => (Ne.symm hag) (congrArg Prod.snd z))
              have hnyq10013_d2 : d2 ≠ q10013_ := hne_of hd210030_10085 hn67x_10085 (fun z => (Ne.symm hag) (congrArg Prod.snd z))
              have hnyq10013_d3 : d3 ≠ q10013_ := hne_of hd310030_10085 hn67x_10085 (fun z => (Ne.symm hag) (congrArg Prod.snd z))
              have hnyq10013_d4 : d4 ≠ q10013_ := hne_of hd410030_10085 hn67x_10085 (fun z => (Ne.symm hag) (congrArg Prod.snd z))
              have hn100x_10085 : h10085 q10021_ = some (.inl (E.2.1 0, 8, .inl (fun _ => 0)), a) := hF10085 _ _ hn100x_10083 (fun ⟨i, hi, e⟩ => (hBg.neobj hao_10075 (by decide)) i hi e.symm)
              have hnyq10021_qrow : qrow ≠ q10021_ := hne_of hcr10027_10085 hn100x_10085 (fun z => (Ne.symm (hne_new hao_10025 hf10026)) (congrArg Prod.snd z))
              have hnyq10021_qdig : qdig ≠ q10021_ := hne_of hsg10030_10085 hn100x_10085 (fun z => (Ne.symm (hne_new hao_10028 hf10029)) (congrArg Prod.snd z))
              have hnyq10021_qdg : qdg ≠ q10021_ := hne_of hdo10030_10085 hn100x_10085 (fun z => by cases z)
              have hnyq10021_d1 : d1 ≠ q10021_ := hne_of hd110030_10085 hn100x_10085 (fun z => (Ne.symm hag) (congrArg Prod.snd z))
              have hnyq10021_d2 : d2 ≠ q10021_ := hne_of hd210030_10085 hn100x_10085 (fun z => (Ne.symm hag) (congrArg Prod.snd z))
              have hnyq10021_d3 : d3 ≠ q10021_ := hne_of hd310030_10085 hn100x_10085 (fun z => (Ne.symm hag) (congrArg Prod.snd z))
              have hnyq10021_d4 : d4 ≠ q10021_ := hne_of hd410030_10085 hn100x_10085 (fun z => (Ne.symm hag) (congrArg Prod.snd z))
              have La : ∀ (jLa : Nat) (k : Nat) (raLa rbLa : Nat → Int32) (h10087 : HH) (H10087 : Heap) (locs10087 : List Loc) (ls10087 : Array Slot), (20000 + 1 ≤ k + jLa) → (h10087 a = some (.inr (0, [.ref q10001_, .int 0, .ref q10003_, .int 0, .int 0, .int (nI 1), .int (nI 100), .int (nI 1), .int (nI 10), .int (nI 11), .int (nI 10), .ref q10011_, .ref q10013_, .ref q10015_, .ref q10017_, .ref q10019_, .ref q10021_, .int 0, .int 0, .int 0, .int 0, .int (nI 0 - 1), .int 0, .ref q10024_, .int 0, .ref q10026_, .ref q10029_, .ref q10026_, .ref q10033_, .ref q10036_, .ref q10033_, .ref q10040_, .ref q10043_, .ref q10046_, .ref q10049_, .ref q10052_, .ref q10055_, .ref q10057_, .ref q10059_, .ref q10061_, .ref q10064_]), a)) → (h10087 q10011_ = some (.inl (E.2.1 1, 20000, .inl raLa), a)) → (h10087 q10013_ = some (.inl (E.2.1 1, 20000, .inl rbLa), a)) → (k ≤ 20000) → (∀ i, i < k → raLa i = (-1)) → (∀ i, i < k → rbLa i = (-2)) → (∀ q, q ≠ q10011_ → q ≠ q10013_ → h10087 q = h10085 q) → (Fr (· = a) h10085 h10087) → (St E s h10087 H10087 locs10087) → (lv_has ls10087 2 [(0, .ref a), (1, .int (nI k))]) → W p l e ({ frames := 4, cells := 4200, slots := 100000, locals := 600 } : Room) s m ([.ref a] : List Value).toArray below meth c H10087 locs10087 cc2 ss2 Q (F0 m 383 ls10087 []) := by
                intro jLa
                induction jLa with
                | zero => intro k raLa rbLa h10087 H10087 locs10087 ls10087 hm10087 hao_10087 hra_10087 hrb_10087 hk hraLa hrbLa hothLa hFoLa T10087 hl10087; exact absurd hm10087 (by omega)
                | succ jLa ih10087 =>
                  intro k raLa rbLa h10087 H10087 locs10087 ls10087 hm10087 hao_10087 hra_10087 hrb_10087 hk hraLa hrbLa hothLa hFoLa T10087 hl10087
                  refine lv_iload_n hx hb dX1_init_383 rfl (lv_at hl10087 1 rfl) ?_
                  refine lv_sipush (v := nI 20000) hx hb dX1_init_384 rfl ?_
                  refine hn_icmp_ge (tgt := 411) hx hb dX1_init_387 (by decide) (by omega) (by omega) (fun c9 => ?_) (fun c9 => ?_)
                  · have e1 : k = 20000 := by omega
                    subst e1
                    refine lv_iconst (v := nI 0) hx hb dX1_init_411 rfl ?_
                    refine lv_istore_n (lv' := [(1, .int (nI 0)), (0, .ref a)]) hx hb dX1_init_412 rfl hl10087 (by decide) rfl (fun ls10092 hl10092 => ?_)
                    have Lb : ∀ (jLb : Nat) (k : Nat) (raLb : Nat → Int32) (h10093 : HH) (H10093 : Heap) (locs10093 : List Loc) (ls10093 : Array Slot), (8 + 1 ≤ k + jLb) → (h10093 a = some (.inr (0, [.ref q10001_, .int 0, .ref q10003_, .int 0, .int 0, .int (nI 1), .int (nI 100), .int (nI 1), .int (nI 10), .int (nI 11), .int (nI 10), .ref q10011_, .ref q10013_, .ref q10015_, .ref q10017_, .ref q10019_, .ref q10021_, .int 0, .int 0, .int 0, .int 0, .int (nI 0 - 1), .int 0, .ref q10024_, .int 0, .ref q10026_, .ref q10029_, .ref q10026_, .ref q10033_, .ref q10036_, .ref q10033_, .ref q10040_, .ref q10043_, .ref q10046_, .ref q10049_, .ref q10052_, .ref q10055_, .ref q10057_, .ref q10059_, .ref q10061_, .ref q10064_]), a)) → (h10093 q10021_ = some (.inl (E.2.1 0, 8, .inl raLb), a)) → (k ≤ 8) → (∀ i, i < k → raLb i = (-1)) → (∀ q, q ≠ q10021_ → h10093 q = h10087 q) → (Fr (· = a) h10087 h10093) → (St E s h10093 H10093 locs10093) → (lv_has ls10093 2 [(0, .ref a), (1, .int (nI k))]) → W p l e ({ frames := 4, cells := 4200, slots := 100000, locals := 600 } : Room) s m ([.ref a] : List Value).toArray below meth c H10093 locs10093 cc2 ss2 Q (F0 m 413 ls10093 []) := by
                      intro jLb
                      induction jLb with
                      | zero => intro k raLb h10093 H10093 locs10093 ls10093 hm10093 hao_10093 hra_10093 hk hraLb hothLb hFoLb T10093 hl10093; exact absurd hm10093 (by omega)
                      | succ jLb ih10093 =>
                        intro k raLb h10093 H10093 locs10093 ls10093 hm10093 hao_10093 hra_10093 hk hraLb hothLb hFoLb T10093 hl10093
                        refine lv_iload_n hx hb dX1_init_413 rfl (lv_at hl10093 1 rfl) ?_
                        refine lv_bipush (v := nI 8) hx hb dX1_init_414 rfl ?_
                        refine hn_icmp_ge (tgt := 432) hx hb dX1_init_416 (by decide) (by omega) (by omega) (fun c9 => ?_) (fun c9 => ?_)
                        · have e1 : k = 8 := by omega
                          subst e1
                          obtain ⟨t, ht⟩ : ∃ t : Nat → Nat, t = fun i => if i = 0 then a else if i = 1 then q10001_ else if i = 3 then q10003_ else if i = 12 then q10011_ else if i = 13 then q10013_ else if i = 14 then q10015_ else if i = 15 then q10017_ else if i = 16 then q10019_ else if i = 17 then q10021_ else if i = 24 then q10024_ else if i = 26 then q10026_ else if i = 27 then q10029_ else if i = 29 then q10033_ else if i = 30 then q10036_ else if i = 32 then q10040_ else if i = 37 then q10055_ else if i = 38 then q10057_ else if i = 39 then q10059_ else if i = 60 then qrow else if i = 61 then qdig else if i = 62 then qdg else if i = 63 then d1 else if i = 64 then d2 else if i = 65 then d3 else if i = 66 then d4 else 0 := ⟨_, rfl⟩
                          have t0_ : t 0 = a := by rw [ht]; rfl
                          have t1_ : t 1 = q10001_ := by rw [ht]; rfl
                          have t3_ : t 3 = q10003_ := by rw [ht]; rfl
                          have t12_ : t 12 = q10011_ := by rw [ht]; rfl
                          have t13_ : t 13 = q10013_ := by rw [ht]; rfl
                          have t14_ : t 14 = q10015_ := by rw [ht]; rfl
                          have t15_ : t 15 = q10017_ := by rw [ht]; rfl
                          have t16_ : t 16 = q10019_ := by rw [ht]; rfl
                          have t17_ : t 17 = q10021_ := by rw [ht]; rfl
                          have t24_ : t 24 = q10024_ := by rw [ht]; rfl
                          have t26_ : t 26 = q10026_ := by rw [ht]; rfl
                          have t27_ : t 27 = q10029_ := by rw [ht]; rfl
                          have t29_ : t 29 = q10033_ := by rw [ht]; rfl
                          have t30_ : t 30 = q10036_ := by rw [ht]; rfl
                          have t32_ : t 32 = q10040_ := by rw [ht]; rfl
                          have t37_ : t 37 = q10055_ := by rw [ht]; rfl
                          have t38_ : t 38 = q10057_ := by rw [ht]; rfl
                          have t39_ : t 39 = q10059_ := by rw [ht]; rfl
                          have t60_ : t 60 = qrow := by rw [ht]; rfl
                          have t61_ : t 61 = qdig := by rw [ht]; rfl
                          have t62_ : t 62 = qdg := by rw [ht]; rfl
                          have t63_ : t 63 = d1 := by rw [ht]; rfl
                          have t64_ : t 64 = d2 := by rw [ht]; rfl
                          have t65_ : t 65 = d3 := by rw [ht]; rfl
                          have t66_ : t 66 = d4 := by rw [ht]; rfl
                          have hBi6 : B 6 = Bq10037 0 := by rw [hBd]; exact hz0
                          have hBi7 : B 7 = Bq10037 (0 + 1) := by rw [hBd]; exact hz1
                          have hBi8 : B 8 = Bq10041 2 := by rw [hBd]; exact hz2
                          have hBi9 : B 9 = Bq10041 (2 + 1) := by rw [hBd]; exact hz3
                          have hBi10 : B 10 = Bq10041 (2 + 2) := by rw [hBd]; exact hz4
                          have hBi11 : B 11 = Bq10041 (2 + 3) := by rw [hBd]; exact hz5
                          have hBi12 : B 12 = Bq10041 (2 + 4) := by rw [hBd]; exact hz6
                          have hBi13 : B 13 = Bq10041 (2 + 5) := by rw [hBd]; exact hz7
                          have hBi14 : B 14 = Bq10041 (2 + 6) := by rw [hBd]; exact hz8
                          have hBi15 : B 15 = Bq10041 (2 + 7) := by rw [hBd]; exact hz9
                          have hBi16 : B 16 = Bq10041 (2 + 8) := by rw [hBd]; exact hz10
                          have hBi17 : B 17 = Bq10041 (2 + 9) := by rw [hBd]; exact hz11
                          have hBi18 : B 18 = Bq10041 (2 + 10) := by rw [hBd]; exact hz12
                          have hBi0 : B 0 = q10043_ := by rw [hBd]; exact hz13
                          have hBi1 : B 1 = q10046_ := by rw [hBd]; exact hz14
                          have hBi2 : B 2 = q10049_ := by rw [hBd]; exact hz15
                          have hBi3 : B 3 = q10052_ := by rw [hBd]; exact hz16
                          have hBi4 : B 4 = q10061_ := by rw [hBd]; exact hz17
                          have hBi5 : B 5 = q10064_ := by rw [hBd]; exact hz18
                          have htq : ∀ i, 19 ≤ i → i < 51 → B i = B2 i := fun i h1 h2 => by rw [hBd]; show B3 (tq i) = _; rw [show tq i = i by unfold tq; (repeat' split) <;> omega]; exact (hB3 i h2).1
                          have htw : ∀ i, i < 961 → B (51 + i) = B3 (51 + 2 * i) := fun i h1 => by rw [hBd]; show B3 (tq (51 + i)) = _; rw [show tq (51 + i) = 51 + 2 * i by unfold tq; (repeat' split) <;> omega]
                          have htn : ∀ i, i < 961 → B (1012 + i) = B3 (51 + 2 * i + 1) := fun i h1 => by rw [hBd]; show B3 (tq (1012 + i)) = _; rw [show tq (1012 + i) = 51 + 2 * i + 1 by unfold tq; (repeat' split) <;> omega]
                          obtain ⟨f, hf⟩ : ∃ f : Nat → Nat → Int32, f = fun k => if k = 1 then (fun _ => 0) else if k = 3 then (fun _ => 0) else if k = 12 then raLa else if k = 13 then rbLa else if k = 14 then (fun _ => 0) else if k = 15 then (fun _ => 0) else if k = 16 then (fun _ => 0) else if k = 17 then raLb else if k = 39 then (fun _ => 0) else fun _ => 0 := ⟨_, rfl⟩
                          obtain ⟨g9, hg9⟩ : ∃ gg : Nat → Nat → Option Nat, gg = fun k => if k = 24 then g else if k = 37 then gw else if k = 38 then gn else fun _ => none := ⟨_, rfl⟩
                          have f1_ : f 1 = (fun _ => 0) := by rw [hf]; rfl
                          have f3_ : f 3 = (fun _ => 0) := by rw [hf]; rfl
                          have f12_ : f 12 = raLa := by rw [hf]; rfl
                          have f13_ : f 13 = rbLa := by rw [hf]; rfl
                          have f14_ : f 14 = (fun _ => 0) := by rw [hf]; rfl
                          have f15_ : f 15 = (fun _ => 0) := by rw [hf]; rfl
                          have f16_ : f 16 = (fun _ => 0) := by rw [hf]; rfl
                          have f17_ : f 17 = raLb := by rw [hf]; rfl
                          have f39_ : f 39 = (fun _ => 0) := by rw [hf]; rfl
                          have g24_ : g9 24 = g := by rw [hg9]; rfl
                          have g37_ : g9 37 = gw := by rw [hg9]; rfl
                          have g38_ : g9 38 = gn := by rw [hg9]; rfl
                          have w0 : h10093 (t 0) = some (.inr (0, [.ref (t 1), .int (nI (inN 0)), .ref (t 3), .int (nI (inN 1)), .int (nI (inN 2)), .int (nI (inN 3)), .int (nI (inN 4)), .int (nI (inN 5)), .int (nI (inN 6)), .int (nI (inN 7)), .int (nI (inN 8)), .ref (t 12), .ref (t 13), .ref (t 14), .ref (t 15), .ref (t 16), .ref (t 17), .int (nI (inN 11)), .int (nI (inN 15)), .int (nI (inN 16)), .int (nI (inN 17)), .int (nI (inN 18) - 1), .int (nI (inN 19)), .ref (t 24), .int (nI 0), .ref (t 26), .ref (t 27), .ref (if inN 13 = 1 then t 27 else t 26), .ref (t 29), .ref (t 30), .ref (if inN 12 = 1 then t 30 else t 29), .ref (t 32), .ref (B 0), .ref (B 1), .ref (B 2), .ref (B 3), .ref (t 37), .ref (t 38), .ref (t 39), .ref (B 4), .ref (B 5)]), t 0) := by rw [show (if inN 13 = 1 then t 27 else t 26) = t 26 from rfl, show (if inN 12 = 1 then t 30 else t 29) = t 29 from rfl, t0_, t1_, t3_, t12_, t13_, t14_, t15_, t16_, t17_, t24_, t26_, t27_, t29_, t30_, t32_, t37_, t38_, t39_, hBi0, hBi1, hBi2, hBi3, hBi4, hBi5]; exact hao_10093
                          have hn7x_10085 : h10085 q10001_ = some (.inl (E.2.1 0, 8, .inl (fun _ => 0)), a) := hF10085 _ _ hn7x_10083 (fun ⟨i, hi, e⟩ => (hBg.neobj hao_10075 (by decide)) i hi e.symm)
                          have hn7x_10091 : h10087 q10001_ = some (.inl (E.2.1 0, 8, .inl (fun _ => 0)), a) := (hothLa _ (hne_new hn7x_10010 hf10011) (hne_new hn7x_10012 hf10013)).trans hn7x_10085
                          have hn7x_10096 : h10093 q10001_ = some (.inl (E.2.1 0, 8, .inl (fun _ => 0)), a) := (hothLb _ (hne_new hn7x_10020 hf10021)).trans hn7x_10091
                          have w1 : h10093 (t 1) = some (.inl (E.2.1 0, 8, .inl (f 1)), t 0) := by rw [t1_, t0_, f1_]; exact hn7x_10096
                          have hn15x_10085 : h10085 q10003_ = some (.inl (E.2.1 0, 64, .inl (fun _ => 0)), a) := hF10085 _ _ hn15x_10083 (fun ⟨i, hi, e⟩ => (hBg.neobj hao_10075 (by decide)) i hi e.symm)
                          have hn15x_10091 : h10087 q10003_ = some (.inl (E.2.1 0, 64, .inl (fun _ => 0)), a) := (hothLa _ (hne_new hn15x_10010 hf10011) (hne_new hn15x_10012 hf10013)).trans hn15x_10085
                          have hn15x_10096 : h10093 q10003_ = some (.inl (E.2.1 0, 64, .inl (fun _ => 0)), a) := (hothLb _ (hne_new hn15x_10020 hf10021)).trans hn15x_10091
                          have w3 : h10093 (t 3) = some (.inl (E.2.1 0, 64, .inl (f 3)), t 0) := by rw [t3_, t0_, f3_]; exact hn15x_10096
                          have hra_10096 : h10093 q10011_ = some (.inl (E.2.1 1, 20000, .inl raLa), a) := (hothLb _ (hne_new hn58x_10020 hf10021)).trans hra_10087
                          have w12 : h10093 (t 12) = some (.inl (E.2.1 1, 20000, .inl (f 12)), t 0) := by rw [t12_, t0_, f12_]; exact hra_10096
                          have hrb_10096 : h10093 q10013_ = some (.inl (E.2.1 1, 20000, .inl rbLa), a) := (hothLb _ (hne_new hn67x_10020 hf10021)).trans hrb_10087
                          have w13 : h10093 (t 13) = some (.inl (E.2.1 1, 20000, .inl (f 13)), t 0) := by rw [t13_, t0_, f13_]; exact hrb_10096
                          have hn76x_10085 : h10085 q10015_ = some (.inl (E.2.1 2, 20000, .inl (fun _ => 0)), a) := hF10085 _ _ hn76x_10083 (fun ⟨i, hi, e⟩ => (hBg.neobj hao_10075 (by decide)) i hi e.symm)
                          have hn76x_10091 : h10087 q10015_ = some (.inl (E.2.1 2, 20000, .inl (fun _ => 0)), a) := (hothLa _ (Ne.symm (hne_new hn58x_10014 hf10015)) (Ne.symm (hne_new hn67x_10014 hf10015))).trans hn76x_10085
                          have hn76x_10096 : h10093 q10015_ = some (.inl (E.2.1 2, 20000, .inl (fun _ => 0)), a) := (hothLb _ (hne_new hn76x_10020 hf10021)).trans hn76x_10091
                          have w14 : h10093 (t 14) = some (.inl (E.2.1 2, 20000, .inl (f 14)), t 0) := by rw [t14_, t0_, f14_]; exact hn76x_10096
                          have hn84x_10085 : h10085 q10017_ = some (.inl (E.2.1 3, 8, .inl (fun _ => 0)), a) := hF10085 _ _ hn84x_10083 (fun ⟨i, hi, e⟩ => (hBg.neobj hao_10075 (by decide)) i hi e.symm)
                          have hn84x_10091 : h10087 q10017_ = some (.inl (E.2.1 3, 8, .inl (fun _ => 0)), a) := (hothLa _ (Ne.symm (hne_new hn58x_10016 hf10017)) (Ne.symm (hne_new hn67x_10016 hf10017))).trans hn84x_10085
                          have hn84x_10096 : h10093 q10017_ = some (.inl (E.2.1 3, 8, .inl (fun _ => 0)), a) := (hothLb _ (hne_new hn84x_10020 hf10021)).trans hn84x_10091
                          have w15 : h10093 (t 15) = some (.inl (E.2.1 3, 8, .inl (f 15)), t 0) := by rw [t15_, t0_, f15_]; exact hn84x_10096
                          have hn92x_10085 : h10085 q10019_ = some (.inl (E.2.1 0, 8, .inl (fun _ => 0)), a) := hF10085 _ _ hn92x_10083 (fun ⟨i, hi, e⟩ => (hBg.neobj hao_10075 (by decide)) i hi e.symm)
                          have hn92x_10091 : h10087 q10019_ = some (.inl (E.2.1 0, 8, .inl (fun _ => 0)), a) := (hothLa _ (Ne.symm (hne_new hn58x_10018 hf10019)) (Ne.symm (hne_new hn67x_10018 hf10019))).trans hn92x_10085
                          have hn92x_10096 : h10093 q10019_ = some (.inl (E.2.1 0, 8, .inl (fun _ => 0)), a) := (hothLb _ (hne_new hn92x_10020 hf10021)).trans hn92x_10091
                          have w16 : h10093 (t 16) = some (.inl (E.2.1 0, 8, .inl (f 16)), t 0) := by rw [t16_, t0_, f16_]; exact hn92x_10096
                          have w17 : h10093 (t 17) = some (.inl (E.2.1 0, 8, .inl (f 17)), t 0) := by rw [t17_, t0_, f17_]; exact hra_10093
                          have hn268x_10085 : h10085 q10059_ = some (.inl (E.2.1 3, 961, .inl (fun _ => 0)), a) := hF10085 _ _ hn268x_10083 (fun ⟨i, hi, e⟩ => (hBg.neobj hao_10075 (by decide)) i hi e.symm)
                          have hn268x_10091 : h10087 q10059_ = some (.inl (E.2.1 3, 961, .inl (fun _ => 0)), a) := (hothLa _ (Ne.symm (hne_new hn58x_10058 hf10059)) (Ne.symm (hne_new hn67x_10058 hf10059))).trans hn268x_10085
                          have hn268x_10096 : h10093 q10059_ = some (.inl (E.2.1 3, 961, .inl (fun _ => 0)), a) := (hothLb _ (Ne.symm (hne_new hn100x_10058 hf10059))).trans hn268x_10091
                          have w39 : h10093 (t 39) = some (.inl (E.2.1 3, 961, .inl (f 39)), t 0) := by rw [t39_, t0_, f39_]; exact hn268x_10096
                          have hal_10085 : h10085 q10024_ = some (.inl (E.2.1 6, 16, .inr (.inr (.inr (.inr g)))), a) := hF10085 _ _ hal_10083 (fun ⟨i, hi, e⟩ => (hBg.neobj hao_10075 (by decide)) i hi e.symm)
                          have hal_10091 : h10087 q10024_ = some (.inl (E.2.1 6, 16, .inr (.inr (.inr (.inr g)))), a) := (hothLa _ (Ne.symm (hne_new hn58x_10023 hf10024)) (Ne.symm (hne_new hn67x_10023 hf10024))).trans hal_10085
                          have hal_10096 : h10093 q10024_ = some (.inl (E.2.1 6, 16, .inr (.inr (.inr (.inr g)))), a) := (hothLb _ (Ne.symm (hne_new hn100x_10023 hf10024))).trans hal_10091
                          have w24 : h10093 (t 24) = some (.inl (E.2.1 6, 16, .inr (.inr (.inr (.inr (g9 24))))), t 0) := by rw [t24_, t0_, g24_]; exact hal_10096
                          have hww_10085 : h10085 q10055_ = some (.inl (E.2.1 5, 961, .inr (.inr (.inr (.inr gw)))), a) := hF10085 _ _ hww_10075 (fun ⟨i, hi, e⟩ => (hBg.neobj hao_10075 (by decide)) i hi e.symm)
                          have hww_10091 : h10087 q10055_ = some (.inl (E.2.1 5, 961, .inr (.inr (.inr (.inr gw)))), a) := (hothLa _ (Ne.symm (hne_new hn58x_10054 hf10055)) (Ne.symm (hne_new hn67x_10054 hf10055))).trans hww_10085
                          have hww_10096 : h10093 q10055_ = some (.inl (E.2.1 5, 961, .inr (.inr (.inr (.inr gw)))), a) := (hothLb _ (Ne.symm (hne_new hn100x_10054 hf10055))).trans hww_10091
                          have w37 : h10093 (t 37) = some (.inl (E.2.1 5, 961, .inr (.inr (.inr (.inr (g9 37))))), t 0) := by rw [t37_, t0_, g37_]; exact hww_10096
                          have hwn_10085 : h10085 q10057_ = some (.inl (E.2.1 5, 961, .inr (.inr (.inr (.inr gn)))), a) := hF10085 _ _ hwn_10075 (fun ⟨i, hi, e⟩ => (hBg.neobj hao_10075 (by decide)) i hi e.symm)
                          have hwn_10091 : h10087 q10057_ = some (.inl (E.2.1 5, 961, .inr (.inr (.inr (.inr gn)))), a) := (hothLa _ (Ne.symm (hne_new hn58x_10056 hf10057)) (Ne.symm (hne_new hn67x_10056 hf10057))).trans hwn_10085
                          have hwn_10096 : h10093 q10057_ = some (.inl (E.2.1 5, 961, .inr (.inr (.inr (.inr gn)))), a) := (hothLb _ (Ne.symm (hne_new hn100x_10056 hf10057))).trans hwn_10091
                          have w38 : h10093 (t 38) = some (.inl (E.2.1 5, 961, .inr (.inr (.inr (.inr (g9 38))))), t 0) := by rw [t38_, t0_, g38_]; exact hwn_10096
                          have hpo10034_10085 : h10085 q10033_ = some (.inr (5, [.ref a]), q10033_) := hF10085 _ _ hpo10034_10083 (fun ⟨i, hi, e⟩ => (hBg.neobj hpo10034_10083 (by decide)) i hi e.symm)
                          have hpo10034_10091 : h10087 q10033_ = some (.inr (5, [.ref a]), q10033_) := (hothLa _ (Ne.symm (hne_new hn58x_10032 hf10033)) (Ne.symm (hne_new hn67x_10032 hf10033))).trans hpo10034_10085
                          have hpo10034_10096 : h10093 q10033_ = some (.inr (5, [.ref a]), q10033_) := (hothLb _ (Ne.symm (hne_new hn100x_10032 hf10033))).trans hpo10034_10091
                          have w29 : h10093 (t 29) = some (.inr (5, [.ref (t 0)]), t 29) := by rw [t29_, t0_]; exact hpo10034_10096
                          have hco10037_10085 : h10085 q10036_ = some (.inr (6, [.ref a, .ref (Bq10037 0), .ref (Bq10037 (0 + 1))]), q10036_) := hF10085 _ _ hco10037_10083 (fun ⟨i, hi, e⟩ => (hBg.neobj hco10037_10083 (by decide)) i hi e.symm)
                          have hco10037_10091 : h10087 q10036_ = some (.inr (6, [.ref a, .ref (Bq10037 0), .ref (Bq10037 (0 + 1))]), q10036_) := (hothLa _ (Ne.symm (hne_new hn58x_10035 hf10036)) (Ne.symm (hne_new hn67x_10035 hf10036))).trans hco10037_10085
                          have hco10037_10096 : h10093 q10036_ = some (.inr (6, [.ref a, .ref (Bq10037 0), .ref (Bq10037 (0 + 1))]), q10036_) := (hothLb _ (Ne.symm (hne_new hn100x_10035 hf10036))).trans hco10037_10091
                          have w30 : h10093 (t 30) = some (.inr (6, [.ref (t 0), .ref (B 6), .ref (B 7)]), t 30) := by rw [t30_, t0_, hBi6, hBi7]; exact hco10037_10096
                          have hre10041_10085 : h10085 q10040_ = some (.inr (7, [.ref (Bq10041 2), .ref (Bq10041 (2 + 1)), .ref (Bq10041 (2 + 2)), .ref (Bq10041 (2 + 3)), .ref (Bq10041 (2 + 4)), .ref (Bq10041 (2 + 5)), .ref (Bq10041 (2 + 6)), .ref (Bq10041 (2 + 7)), .ref (Bq10041 (2 + 8)), .ref (Bq10041 (2 + 9)), .ref (Bq10041 (2 + 10))]), q10040_) := hF10085 _ _ hre10041_10083 (fun ⟨i, hi, e⟩ => (hBg.neobj hre10041_10083 (by decide)) i hi e.symm)
                          have hre10041_10091 : h10087 q10040_ = some (.inr (7, [.ref (Bq10041 2), .ref (Bq10041 (2 + 1)), .ref (Bq10041 (2 + 2)), .ref (Bq10041 (2 + 3)), .ref (Bq10041 (2 + 4)), .ref (Bq10041 (2 + 5)), .ref (Bq10041 (2 + 6)), .ref (Bq10041 (2 + 7)), .ref (Bq10041 (2 + 8)), .ref (Bq10041 (2 + 9)), .ref (Bq10041 (2 + 10))]), q10040_) := (hothLa _ (Ne.symm (hne_new hn58x_10039 hf10040)) (Ne.symm (hne_new hn67x_10039 hf10040))).trans hre10041_10085
                          have hre10041_10096 : h10093 q10040_ = some (.inr (7, [.ref (Bq10041 2), .ref (Bq10041 (2 + 1)), .ref (Bq10041 (2 + 2)), .ref (Bq10041 (2 + 3)), .ref (Bq10041 (2 + 4)), .ref (Bq10041 (2 + 5)), .ref (Bq10041 (2 + 6)), .ref (Bq10041 (2 + 7)), .ref (Bq10041 (2 + 8)), .ref (Bq10041 (2 + 9)), .ref (Bq10041 (2 + 10))]), q10040_) := (hothLb _ (Ne.symm (hne_new hn100x_10039 hf10040))).trans hre10041_10091
                          have w32 : h10093 (t 32) = some (.inr (7, [.ref (B 8), .ref (B 9), .ref (B 10), .ref (B 11), .ref (B 12), .ref (B 13), .ref (B 14), .ref (B 15), .ref (B 16), .ref (B 17), .ref (B 18)]), t 32) := by rw [t32_, hBi8, hBi9, hBi10, hBi11, hBi12, hBi13, hBi14, hBi15, hBi16, hBi17, hBi18]; exact hre10041_10096
                          have hcw10027_10085 : h10085 q10026_ = some (.inr (2, [.ref qrow, .int 0, .int 0]), q10026_) := hF10085 _ _ hcw10027_10083 (fun ⟨i, hi, e⟩ => (hBg.neobj hcw10027_10083 (by decide)) i hi e.symm)
                          have hcw10027_10091 : h10087 q10026_ = some (.inr (2, [.ref qrow, .int 0, .int 0]), q10026_) := (hothLa _ (Ne.symm (hne_new hn58x_10025 hf10026)) (Ne.symm (hne_new hn67x_10025 hf10026))).trans hcw10027_10085
                          have hcw10027_10096 : h10093 q10026_ = some (.inr (2, [.ref qrow, .int 0, .int 0]), q10026_) := (hothLb _ (Ne.symm (hne_new hn100x_10025 hf10026))).trans hcw10027_10091
                          have w26 : h10093 (t 26) = some (.inr (2, [.ref (t 60), .int 0, .int 0]), t 26) := by rw [t26_, t60_]; exact hcw10027_10096
                          have hcr10027_10091 : h10087 qrow = some (.inl (E.2.1 3, 4000, .inl (fun _ => 0)), q10026_) := (hothLa _ hnyq10011_qrow hnyq10013_qrow).trans hcr10027_10085
                          have hcr10027_10096 : h10093 qrow = some (.inl (E.2.1 3, 4000, .inl (fun _ => 0)), q10026_) := (hothLb _ hnyq10021_qrow).trans hcr10027_10091
                          have w60 : h10093 (t 60) = some (.inl (E.2.1 3, 4000, .inl (fun _ => 0)), t 26) := by rw [t26_, t60_]; exact hcr10027_10096
                          have hse10030_10085 : h10085 q10029_ = some (.inr (3, [.ref qdig, .int 0, .ref qdg]), q10029_) := hF10085 _ _ hse10030_10083 (fun ⟨i, hi, e⟩ => (hBg.neobj hse10030_10083 (by decide)) i hi e.symm)
                          have hse10030_10091 : h10087 q10029_ = some (.inr (3, [.ref qdig, .int 0, .ref qdg]), q10029_) := (hothLa _ (Ne.symm (hne_new hn58x_10028 hf10029)) (Ne.symm (hne_new hn67x_10028 hf10029))).trans hse10030_10085
                          have hse10030_10096 : h10093 q10029_ = some (.inr (3, [.ref qdig, .int 0, .ref qdg]), q10029_) := (hothLb _ (Ne.symm (hne_new hn100x_10028 hf10029))).trans hse10030_10091
                          have w27 : h10093 (t 27) = some (.inr (3, [.ref (t 61), .int 0, .ref (t 62)]), t 27) := by rw [t27_, t61_, t62_]; exact hse10030_10096
                          have hsg10030_10091 : h10087 qdig = some (.inl (E.2.1 0, 20, .inl (fun _ => 0)), q10029_) := (hothLa _ hnyq10011_qdig hnyq10013_qdig).trans hsg10030_10085
                          have hsg10030_10096 : h10093 qdig = some (.inl (E.2.1 0, 20, .inl (fun _ => 0)), q10029_) := (hothLb _ hnyq10021_qdig).trans hsg10030_10091
                          have w61 : h10093 (t 61) = some (.inl (E.2.1 0, 20, .inl (fun _ => 0)), t 27) := by rw [t27_, t61_]; exact hsg10030_10096
                          have hdo10030_10091 : h10087 qdg = some (.inr (4, [.ref d1, .ref d2, .ref d3, .ref d4, .int 0]), qdg) := (hothLa _ hnyq10011_qdg hnyq10013_qdg).trans hdo10030_10085
                          have hdo10030_10096 : h10093 qdg = some (.inr (4, [.ref d1, .ref d2, .ref d3, .ref d4, .int 0]), qdg) := (hothLb _ hnyq10021_qdg).trans hdo10030_10091
                          have w62 : h10093 (t 62) = some (.inr (4, [.ref (t 63), .ref (t 64), .ref (t 65), .ref (t 66), .int 0]), t 62) := by rw [t62_, t63_, t64_, t65_, t66_]; exact hdo10030_10096
                          have hd110030_10091 : h10087 d1 = some (.inl (E.2.1 0, 8, .inl (fun _ => 0)), qdg) := (hothLa _ hnyq10011_d1 hnyq10013_d1).trans hd110030_10085
                          have hd110030_10096 : h10093 d1 = some (.inl (E.2.1 0, 8, .inl (fun _ => 0)), qdg) := (hothLb _ hnyq10021_d1).trans hd110030_10091
                          have w63 : h10093 (t 63) = some (.inl (E.2.1 0, 8, .inl (fun _ => 0)), t 62) := by rw [t62_, t63_]; exact hd110030_10096
                          have hd210030_10091 : h10087 d2 = some (.inl (E.2.1 0, 8, .inl (fun _ => 0)), qdg) := (hothLa _ hnyq10011_d2 hnyq10013_d2).trans hd210030_10085
                          have hd210030_10096 : h10093 d2 = some (.inl (E.2.1 0, 8, .inl (fun _ => 0)), qdg) := (hothLb _ hnyq10021_d2).trans hd210030_10091
                          have w64 : h10093 (t 64) = some (.inl (E.2.1 0, 8, .inl (fun _ => 0)), t 62) := by rw [t62_, t64_]; exact hd210030_10096
                          have hd310030_10091 : h10087 d3 = some (.inl (E.2.1 0, 64, .inl (fun _ => 0)), qdg) := (hothLa _ hnyq10011_d3 hnyq10013_d3).trans hd310030_10085
                          have hd310030_10096 : h10093 d3 = some (.inl (E.2.1 0, 64, .inl (fun _ => 0)), qdg) := (hothLb _ hnyq10021_d3).trans hd310030_10091
                          have w65 : h10093 (t 65) = some (.inl (E.2.1 0, 64, .inl (fun _ => 0)), t 62) := by rw [t62_, t65_]; exact hd310030_10096
                          have hd410030_10091 : h10087 d4 = some (.inl (E.2.1 1, 64, .inl (fun _ => 0)), qdg) := (hothLa _ hnyq10011_d4 hnyq10013_d4).trans hd410030_10085
                          have hd410030_10096 : h10093 d4 = some (.inl (E.2.1 1, 64, .inl (fun _ => 0)), qdg) := (hothLb _ hnyq10021_d4).trans hd410030_10091
                          have w66 : h10093 (t 66) = some (.inl (E.2.1 1, 64, .inl (fun _ => 0)), t 62) := by rw [t62_, t66_]; exact hd410030_10096
                          have wP : ∀ i, i < 16 → h10093 (pa i) = some (.inr (8, [.int 0, .int 0, .int 0, .ref (B (19 + 2 * i)), .ref (B (20 + 2 * i))]), pa i) := fun i hi => by rw [htq (19 + 2 * i) (by omega) (by omega), htq (20 + 2 * i) (by omega) (by omega), show 20 + 2 * i = 19 + 2 * i + 1 by omega]; exact hFoLb _ _ (hFoLa _ _ (hpG i hi) (fun z => hne_of (hpG i hi) haG (fun z => by cases z) z)) (fun z => hne_of (hpG i hi) haG (fun z => by cases z) z)
                          have wA : DA t := by unfold DA; rw [t1_, t3_, t12_, t13_, t14_, t15_, t16_, t17_, t24_, t37_, t38_, t39_]; exact ⟨(hne_new hn7x_10002 hf10003), (hne_new hn7x_10010 hf10011), (hne_new hn7x_10012 hf10013), (hne_new hn7x_10014 hf10015), (hne_new hn7x_10016 hf10017), (hne_new hn7x_10018 hf10019), (hne_new hn7x_10020 hf10021), (hne_new hn7x_10023 hf10024), (hne_new hn7x_10054 hf10055), (hne_new hn7x_10056 hf10057), (hne_new hn7x_10058 hf10059), (hne_new hn15x_10010 hf10011), (hne_new hn15x_10012 hf10013), (hne_new hn15x_10014 hf10015), (hne_new hn15x_10016 hf10017), (hne_new hn15x_10018 hf10019), (hne_new hn15x_10020 hf10021), (hne_new hn15x_10023 hf10024), (hne_new hn15x_10054 hf10055), (hne_new hn15x_10056 hf10057), (hne_new hn15x_10058 hf10059), (hne_new hn58x_10012 hf10013), (hne_new hn58x_10014 hf10015), (hne_new hn58x_10016 hf10017), (hne_new hn58x_10018 hf10019), (hne_new hn58x_10020 hf10021), (hne_new hn58x_10023 hf10024), (hne_new hn58x_10054 hf10055), (hne_new hn58x_10056 hf10057), (hne_new hn58x_10058 hf10059), (hne_new hn67x_10014 hf10015), (hne_new hn67x_10016 hf10017), (hne_new hn67x_10018 hf10019), (hne_new hn67x_10020 hf10021), (hne_new hn67x_10023 hf10024), (hne_new hn67x_10054 hf10055), (hne_new hn67x_10056 hf10057), (hne_new hn67x_10058 hf10059), (hne_new hn76x_10016 hf10017), (hne_new hn76x_10018 hf10019), (hne_new hn76x_10020 hf10021), (hne_new hn76x_10023 hf10024), (hne_new hn76x_10054 hf10055), (hne_new hn76x_10056 hf10057), (hne_new hn76x_10058 hf10059), (hne_new hn84x_10018 hf10019), (hne_new hn84x_10020 hf10021), (hne_new hn84x_10023 hf10024), (hne_new hn84x_10054 hf10055), (hne_new hn84x_10056 hf10057), (hne_new hn84x_10058 hf10059), (hne_new hn92x_10020 hf10021), (hne_new hn92x_10023 hf10024), (hne_new hn92x_10054 hf10055), (hne_new hn92x_10056 hf10057), (hne_new hn92x_10058 hf10059), (hne_new hn100x_10023 hf10024), (hne_new hn100x_10054 hf10055), (hne_new hn100x_10056 hf10057), (hne_new hn100x_10058 hf10059), (hne_new hn113x_10054 hf10055), (hne_new hn113x_10056 hf10057), (hne_new hn113x_10058 hf10059), (hne_new hn248x_10056 hf10057), (hne_new hn248x_10058 hf10059), (hne_new hn258x_10058 hf10059)⟩
                          have wD : DD t := by unfold DD; rw [t63_, t64_, t65_, t66_]; exact hnd
                          have hB10085_10091 : Bgs E h10087 B (nu (fun _ => 0) 3 1) cp := Bgs.kept (O := (· = a)) hFoLa hBa hB10085
                          have hB10085_10096 : Bgs E h10093 B (nu (fun _ => 0) 3 1) cp := Bgs.kept (O := (· = a)) hFoLb hBa hB10085_10091
                          have hsc_10085 : h10085 sc = some (.inl xs, sc) := hF10085 _ _ hsc_10083 (fun ⟨i, hi, e⟩ => (hBg.nearr hsc_10083) i hi e.symm)
                          have hsc_10091 : h10087 sc = some (.inl xs, sc) := (hothLa _ (hne_new hsc_10010 hf10011) (hne_new hsc_10012 hf10013)).trans hsc_10085
                          have hsc_10096 : h10093 sc = some (.inl xs, sc) := (hothLb _ (hne_new hsc_10020 hf10021)).trans hsc_10091
                          exact Z _ _ _ _ _ _ _ dX1_init_432 (by show cc2 ≤ 4200; omega) (by show ss2 ≤ 100000; omega) ⟨rfl, t, pa, B, cp, f, g9, ⟨w0, ⟨w1, w3, w12, w13, w14, w15, w16, w17, w39⟩, ⟨w24, w37, w38⟩, ⟨w29, w30, w32⟩, ⟨w26, w60⟩, ⟨w27, w61⟩, ⟨w62, w63, w64, w65, w66⟩, wP, ⟨fun i hi => by rw [g24_]; exact hg i hi, fun i hi => by rw [g37_, htw i hi]; exact hgw i hi, fun i hi => by rw [g38_, htn i hi]; exact hgn i hi⟩, hB10085_10096, ⟨fun i => by rw [f1_], fun i => by rw [f14_], fun i => by rw [f16_], fun i hi => by rw [f12_]; exact hraLa i hi, fun i hi => by rw [f13_]; exact hrbLa i hi, fun i hi => by rw [f17_]; exact hraLb i hi⟩, wA, wD⟩, t0_, hsc_10096⟩ T10093
                        · refine lv_aload_n hx hb dX1_init_419 rfl (lv_at hl10093 0 rfl) ?_
                          refine hr_get C T10093 hao_10093 rfl in_X1 16 (by decide) q311 rfl rfl dX1_init_420 ?_
                          refine lv_iload_n hx hb dX1_init_423 rfl (lv_at hl10093 1 rfl) ?_
                          refine lv_iconst (v := (-1)) hx hb dX1_init_424 rfl ?_
                          refine hr_iast C T10093 hra_10093 (by omega) (by omega) dX1_init_425 (fun h10094 H10094 locs10094 eh10094 T10094 => ?_)
                          have hra_10094 : h10094 q10021_ = some (.inl (E.2.1 0, 8, .inl (upd raLb k (-1))), a) := hu_s eh10094
                          refine lv_iinc (v := nI (k + 1)) (lv' := [(1, .int (nI (k + 1))), (0, .ref a)]) hx hb dX1_init_426 hl10093 (k := 1) rfl (nI_add k 1) (by decide) rfl (fun ls10095 hl10095 => ?_)
                          refine lv_goto (tgt := 413) hx hb dX1_init_429 (by decide) ?_
                          have hao_10094 : h10094 a = some (.inr (0, [.ref q10001_, .int 0, .ref q10003_, .int 0, .int 0, .int (nI 1), .int (nI 100), .int (nI 1), .int (nI 10), .int (nI 11), .int (nI 10), .ref q10011_, .ref q10013_, .ref q10015_, .ref q10017_, .ref q10019_, .ref q10021_, .int 0, .int 0, .int 0, .int 0, .int (nI 0 - 1), .int 0, .ref q10024_, .int 0, .ref q10026_, .ref q10029_, .ref q10026_, .ref q10033_, .ref q10036_, .ref q10033_, .ref q10040_, .ref q10043_, .ref q10046_, .ref q10049_, .ref q10052_, .ref q10055_, .ref q10057_, .ref q10059_, .ref q10061_, .ref q10064_]), a) := hu_n eh10094 (hne_new hao_10020 hf10021) hao_10093
                          exact ih10093 (k + 1) _ _ _ _ _ (by omega) hao_10094 hra_10094 (by omega) (fun i hi => by rcases Nat.lt_or_ge i k with z | z; (rw [pk_un (by omega)]; exact hraLb i z); (rw [show i = k by omega, pk_us])) (fun q z0 => by rw [eh10094, hup_n z0]; exact hothLb q z0) (hu_f eh10094 hFoLb hra_10093 rfl) T10094 (lv_sub hl10095 [1, 0] rfl)
                    have hn100x_10091 : h10087 q10021_ = some (.inl (E.2.1 0, 8, .inl (fun _ => 0)), a) := (hothLa _ (Ne.symm (hne_new hn58x_10020 hf10021)) (Ne.symm (hne_new hn67x_10020 hf10021))).trans hn100x_10085
                    exact Lb (8 + 1) 0 _ _ _ _ _ (by omega) hao_10087 hn100x_10091 (Nat.zero_le _) (fun i hi => absurd hi (by omega)) (fun _ _ => rfl) Fr.rf T10087 (lv_sub hl10092 [1, 0] rfl)
                  · refine lv_aload_n hx hb dX1_init_390 rfl (lv_at hl10087 0 rfl) ?_
                    refine hr_get C T10087 hao_10087 rfl in_X1 11 (by decide) q306 rfl rfl dX1_init_391 ?_
                    refine lv_iload_n hx hb dX1_init_394 rfl (lv_at hl10087 1 rfl) ?_
                    refine lv_iconst (v := (-1)) hx hb dX1_init_395 rfl ?_
                    refine hr_bast C T10087 hra_10087 (by omega) (by omega) (show vp_nar .byte (-1) = -1 by decide) dX1_init_396 (fun h10088 H10088 locs10088 eh10088 T10088 => ?_)
                    have hra_10088 : h10088 q10011_ = some (.inl (E.2.1 1, 20000, .inl (upd raLa k (-1))), a) := hu_s eh10088
                    refine lv_aload_n hx hb dX1_init_397 rfl (lv_at hl10087 0 rfl) ?_
                    have hao_10088 : h10088 a = some (.inr (0, [.ref q10001_, .int 0, .ref q10003_, .int 0, .int 0, .int (nI 1), .int (nI 100), .int (nI 1), .int (nI 10), .int (nI 11), .int (nI 10), .ref q10011_, .ref q10013_, .ref q10015_, .ref q10017_, .ref q10019_, .ref q10021_, .int 0, .int 0, .int 0, .int 0, .int (nI 0 - 1), .int 0, .ref q10024_, .int 0, .ref q10026_, .ref q10029_, .ref q10026_, .ref q10033_, .ref q10036_, .ref q10033_, .ref q10040_, .ref q10043_, .ref q10046_, .ref q10049_, .ref q10052_, .ref q10055_, .ref q10057_, .ref q10059_, .ref q10061_, .ref q10064_]), a) := hu_n eh10088 (hne_new hao_10010 hf10011) hao_10087
                    refine hr_get C T10088 hao_10088 rfl in_X1 12 (by decide) q307 rfl rfl dX1_init_398 ?_
                    refine lv_iload_n hx hb dX1_init_401 rfl (lv_at hl10087 1 rfl) ?_
                    refine lv_bipush (v := (-2)) hx hb dX1_init_402 rfl ?_
                    have hrb_10088 : h10088 q10013_ = some (.inl (E.2.1 1, 20000, .inl rbLa), a) := hu_n eh10088 (Ne.symm (hne_new hn58x_10012 hf10013)) hrb_10087
                    refine hr_bast C T10088 hrb_10088 (by omega) (by omega) (show vp_nar .byte (-2) = -2 by decide) dX1_init_404 (fun h10089 H10089 locs10089 eh10089 T10089 => ?_)
                    have hrb_10089 : h10089 q10013_ = some (.inl (E.2.1 1, 20000, .inl (upd rbLa k (-2))), a) := hu_s eh10089
                    refine lv_iinc (v := nI (k + 1)) (lv' := [(1, .int (nI (k + 1))), (0, .ref a)]) hx hb dX1_init_405 hl10087 (k := 1) rfl (nI_add k 1) (by decide) rfl (fun ls10090 hl10090 => ?_)
                    refine lv_goto (tgt := 383) hx hb dX1_init_408 (by decide) ?_
                    have hra_10089 : h10089 q10011_ = some (.inl (E.2.1 1, 20000, .inl (upd raLa k (-1))), a) := hu_n eh10089 (hne_new hn58x_10012 hf10013) hra_10088
                    have hao_10089 : h10089 a = some (.inr (0, [.ref q10001_, .int 0, .ref q10003_, .int 0, .int 0, .int (nI 1), .int (nI 100), .int (nI 1), .int (nI 10), .int (nI 11), .int (nI 10), .ref q10011_, .ref q10013_, .ref q10015_, .ref q10017_, .ref q10019_, .ref q10021_, .int 0, .int 0, .int 0, .int 0, .int (nI 0 - 1), .int 0, .ref q10024_, .int 0, .ref q10026_, .ref q10029_, .ref q10026_, .ref q10033_, .ref q10036_, .ref q10033_, .ref q10040_, .ref q10043_, .ref q10046_, .ref q10049_, .ref q10052_, .ref q10055_, .ref q10057_, .ref q10059_, .ref q10061_, .ref q10064_]), a) := hu_n eh10089 (hne_new hao_10012 hf10013) hao_10088
                    exact ih10087 (k + 1) _ _ _ _ _ _ (by omega) hao_10089 hra_10089 hrb_10089 (by omega) (fun i hi => by rcases Nat.lt_or_ge i k with z | z; (rw [pk_un (by omega)]; exact hraLa i z); (rw [show i = k by omega, pk_us])) (fun i hi => by rcases Nat.lt_or_ge i k with z | z; (rw [pk_un (by omega)]; exact hrbLa i z); (rw [show i = k by omega, pk_us])) (fun q z0 z1 => by rw [eh10089, hup_n z1, eh10088, hup_n z0]; exact hothLa q z0 z1) (hu_f eh10089 (hu_f eh10088 hFoLa hra_10087 rfl) hrb_10088 rfl) T10089 (lv_sub hl10090 [1, 0] rfl)
              exact La (20000 + 1) 0 _ _ _ _ _ _ (by omega) hao_10085 hn58x_10085 hn67x_10085 (Nat.zero_le _) (fun i hi => absurd hi (by omega)) (fun i hi => absurd hi (by omega)) (fun _ _ _ => rfl) Fr.rf T10085 (lv_sub hl10086 [1, 0] rfl)
            · refine lv_aload_n hx hb dX1_init_337 rfl (lv_at hl10075 0 rfl) ?_
              refine hr_get C T10075 hao_10075 rfl in_X1 36 (by decide) q338 rfl rfl dX1_init_338 ?_
              refine lv_iload_n hx hb dX1_init_341 rfl (lv_at hl10075 1 rfl) ?_
              refine hr_new C T10075 (fun q => q) (ci := 1) rfl in_X7 tyX7 tyX7_ok q233 q165 q59 (fs := [.null, .int 0]) dfX7 (by show cc2 + 1 ≤ 4200; omega) (by show ss2 + 2 ≤ 100000; omega) dX1_init_342 (fun h10076 q10076_ H10076 hf10076 eh10076 T10076 => ?_)
              have hnb_10076 : h10076 q10076_ = some (.inr (1, [.null, .int 0]), q10076_) := hu_s eh10076
              refine lv_dup hx hb dX1_init_345 rfl ?_
              refine lv_bipush (v := nI 8) hx hb dX1_init_346 rfl ?_
              have hao_10076 : h10076 a = some (.inr (0, [.ref q10001_, .int 0, .ref q10003_, .int 0, .int 0, .int (nI 1), .int (nI 100), .int (nI 1), .int (nI 10), .int (nI 11), .int (nI 10), .ref q10011_, .ref q10013_, .ref q10015_, .ref q10017_, .ref q10019_, .ref q10021_, .int 0, .int 0, .int 0, .int 0, .int (nI 0 - 1), .int 0, .ref q10024_, .int 0, .ref q10026_, .ref q10029_, .ref q10026_, .ref q10033_, .ref q10036_, .ref q10033_, .ref q10040_, .ref q10043_, .ref q10046_, .ref q10049_, .ref q10052_, .ref q10055_, .ref q10057_, .ref q10059_, .ref q10061_, .ref q10064_]), a) := hu_w eh10076 hf10076 hao_10075
              have hww_10076 : h10076 q10055_ = some (.inl (E.2.1 5, 961, .inr (.inr (.inr (.inr gw)))), a) := hu_w eh10076 hf10076 hww_10075
              have hwn_10076 : h10076 q10057_ = some (.inl (E.2.1 5, 961, .inr (.inr (.inr (.inr gn)))), a) := hu_w eh10076 hf10076 hwn_10075
              have hQ3_10076 : PB E h10076 B3 c3 (51 + 2 * k2) := PB.kept (O := fun _ => False) (hu_fn eh10076 Fr.rf hf10076) (fun _ _ q => q) hQ3
              refine hg_I C T10076 hl10075.1 (m_X7_init hnb_10076 (by decide) (by decide)) q234 q167 q59 q168 rfl kd_X7_init rfl rfl ⟨Nat.le_of_ble_eq_true rfl, Nat.le_of_ble_eq_true rfl⟩ (Nat.le_of_ble_eq_true rfl) dX1_init_348 ⟨by show cc2 + 1 + 1 ≤ 4200; omega, by show ss2 + 2 + 8 ≤ 100000; omega⟩ (fun rv h10077 dc10077 ds10077 H10077 locs10077 hp10077 T10077 => ?_)
              obtain ⟨rfl, hbg10077, hF10077, rfl, rfl⟩ := hp10077
              obtain ⟨Bq10077, cq10077, hQ10077, hk10077, hat10077, hac10077⟩ := hQ3.add2 hf10076 eh10076 hF10077 hbg10077
              have hN_10077 : FN a h h10077 := hN2.nest hf10076 eh10076 hF10077.fn
              refine W.eq (g2 := F0 m 351 ls10075 [.ref q10076_, .int (nI k2), .ref q10055_]) rfl ?_
              have hao_10077 : h10077 a = some (.inr (0, [.ref q10001_, .int 0, .ref q10003_, .int 0, .int 0, .int (nI 1), .int (nI 100), .int (nI 1), .int (nI 10), .int (nI 11), .int (nI 10), .ref q10011_, .ref q10013_, .ref q10015_, .ref q10017_, .ref q10019_, .ref q10021_, .int 0, .int 0, .int 0, .int 0, .int (nI 0 - 1), .int 0, .ref q10024_, .int 0, .ref q10026_, .ref q10029_, .ref q10026_, .ref q10033_, .ref q10036_, .ref q10033_, .ref q10040_, .ref q10043_, .ref q10046_, .ref q10049_, .ref q10052_, .ref q10055_, .ref q10057_, .ref q10059_, .ref q10061_, .ref q10064_]), a) := hF10077 _ _ hao_10076 (hne_new hao_10075 hf10076)
              have hFb1 := hFA2.nest hf10076 eh10076 hF10077.fn
              obtain ⟨ca1, hbo1⟩ := (hQ10077.1 (51 + 2 * k2) (by omega)).obj
              rw [hat10077] at hbo1
              have hww_10077 : h10077 q10055_ = some (.inl (E.2.1 5, 961, .inr (.inr (.inr (.inr gw)))), a) := hF10077 _ _ hww_10076 (hne_new hao_10075 hf10076)
              refine hr_aast C T10077 5 (ci := 1) rfl rfl hww_10077 hbo1 (by omega) (by omega) dX1_init_351 (fun h10078 H10078 locs10078 eh10078 T10078 => ?_)
              have hww_10078 : h10078 q10055_ = some (.inl (E.2.1 5, 961, .inr (.inr (.inr (.inr (va_up gw k2 (some q10076_)))))), a) := hu_s eh10078
              have hN_10078 : FN a h h10078 := hN_10077.up hww_10077 eh10078
              refine lv_aload_n hx hb dX1_init_352 rfl (lv_at hl10075 0 rfl) ?_
              have hao_10078 : h10078 a = some (.inr (0, [.ref q10001_, .int 0, .ref q10003_, .int 0, .int 0, .int (nI 1), .int (nI 100), .int (nI 1), .int (nI 10), .int (nI 11), .int (nI 10), .ref q10011_, .ref q10013_, .ref q10015_, .ref q10017_, .ref q10019_, .ref q10021_, .int 0, .int 0, .int 0, .int 0, .int (nI 0 - 1), .int 0, .ref q10024_, .int 0, .ref q10026_, .ref q10029_, .ref q10026_, .ref q10033_, .ref q10036_, .ref q10033_, .ref q10040_, .ref q10043_, .ref q10046_, .ref q10049_, .ref q10052_, .ref q10055_, .ref q10057_, .ref q10059_, .ref q10061_, .ref q10064_]), a) := hu_n eh10078 (hne_new hao_10054 hf10055) hao_10077
              refine hr_get C T10078 hao_10078 rfl in_X1 37 (by decide) q339 rfl rfl dX1_init_353 ?_
              refine lv_iload_n hx hb dX1_init_356 rfl (lv_at hl10075 1 rfl) ?_
              have hQ10077_10078 : PB E h10078 Bq10077 cq10077 (51 + 2 * k2 + 1) := PB.kept (O := (· = a)) (hu_f eh10078 Fr.rf hww_10077 rfl) (hQ10077.neobj hao_10077 (by decide)) hQ10077
              refine hr_new C T10078 (fun q => q) (ci := 1) rfl in_X7 tyX7 tyX7_ok q233 q165 q59 (fs := [.null, .int 0]) dfX7 (by show cc2 + 1 + 1 + 1 ≤ 4200; omega) (by show ss2 + 2 + 8 + 2 ≤ 100000; omega) dX1_init_357 (fun h10079 q10079_ H10079 hf10079 eh10079 T10079 => ?_)
              have hwn_10077 : h10077 q10057_ = some (.inl (E.2.1 5, 961, .inr (.inr (.inr (.inr gn)))), a) := hF10077 _ _ hwn_10076 (hne_new hao_10075 hf10076)
              have hwn_10078 : h10078 q10057_ = some (.inl (E.2.1 5, 961, .inr (.inr (.inr (.inr gn)))), a) := hu_n eh10078 (Ne.symm (hne_new hn248x_10056 hf10057)) hwn_10077
              have hnb_10079 : h10079 q10079_ = some (.inr (1, [.null, .int 0]), q10079_) := hu_s eh10079
              refine lv_dup hx hb dX1_init_360 rfl ?_
              refine lv_bipush (v := nI 8) hx hb dX1_init_361 rfl ?_
              have hao_10079 : h10079 a = some (.inr (0, [.ref q10001_, .int 0, .ref q10003_, .int 0, .int 0, .int (nI 1), .int (nI 100), .int (nI 1), .int (nI 10), .int (nI 11), .int (nI 10), .ref q10011_, .ref q10013_, .ref q10015_, .ref q10017_, .ref q10019_, .ref q10021_, .int 0, .int 0, .int 0, .int 0, .int (nI 0 - 1), .int 0, .ref q10024_, .int 0, .ref q10026_, .ref q10029_, .ref q10026_, .ref q10033_, .ref q10036_, .ref q10033_, .ref q10040_, .ref q10043_, .ref q10046_, .ref q10049_, .ref q10052_, .ref q10055_, .ref q10057_, .ref q10059_, .ref q10061_, .ref q10064_]), a) := hu_w eh10079 hf10079 hao_10078
              have hww_10079 : h10079 q10055_ = some (.inl (E.2.1 5, 961, .inr (.inr (.inr (.inr (va_up gw k2 (some q10076_)))))), a) := hu_w eh10079 hf10079 hww_10078
              have hwn_10079 : h10079 q10057_ = some (.inl (E.2.1 5, 961, .inr (.inr (.inr (.inr gn)))), a) := hu_w eh10079 hf10079 hwn_10078
              have hQ10077_10079 : PB E h10079 Bq10077 cq10077 (51 + 2 * k2 + 1) := PB.kept (O := fun _ => False) (hu_fn eh10079 Fr.rf hf10079) (fun _ _ q => q) hQ10077_10078
              refine hg_I C T10079 hl10075.1 (m_X7_init hnb_10079 (by decide) (by decide)) q234 q167 q59 q168 rfl kd_X7_init rfl rfl ⟨Nat.le_of_ble_eq_true rfl, Nat.le_of_ble_eq_true rfl⟩ (Nat.le_of_ble_eq_true rfl) dX1_init_363 ⟨by show cc2 + 1 + 1 + 1 + 1 ≤ 4200; omega, by show ss2 + 2 + 8 + 2 + 8 ≤ 100000; omega⟩ (fun rv h10080 dc10080 ds10080 H10080 locs10080 hp10080 T10080 => ?_)
              obtain ⟨rfl, hbg10080, hF10080, rfl, rfl⟩ := hp10080
              obtain ⟨Bq10080, cq10080, hQ10080, hk10080, hat10080, hac10080⟩ := hQ10077_10078.add2 hf10079 eh10079 hF10080 hbg10080
              have hN_10080 : FN a h h10080 := hN_10078.nest hf10079 eh10079 hF10080.fn
              refine W.eq (g2 := F0 m 366 ls10075 [.ref q10079_, .int (nI k2), .ref q10057_]) rfl ?_
              have hao_10080 : h10080 a = some (.inr (0, [.ref q10001_, .int 0, .ref q10003_, .int 0, .int 0, .int (nI 1), .int (nI 100), .int (nI 1), .int (nI 10), .int (nI 11), .int (nI 10), .ref q10011_, .ref q10013_, .ref q10015_, .ref q10017_, .ref q10019_, .ref q10021_, .int 0, .int 0, .int 0, .int 0, .int (nI 0 - 1), .int 0, .ref q10024_, .int 0, .ref q10026_, .ref q10029_, .ref q10026_, .ref q10033_, .ref q10036_, .ref q10033_, .ref q10040_, .ref q10043_, .ref q10046_, .ref q10049_, .ref q10052_, .ref q10055_, .ref q10057_, .ref q10059_, .ref q10061_, .ref q10064_]), a) := hF10080 _ _ hao_10079 (hne_new hao_10078 hf10079)
              have hFb2 := (hFb1.up (Or.inl rfl) eh10078).nest hf10079 eh10079 hF10080.fn
              obtain ⟨ca2, hbo2⟩ := (hQ10080.1 (51 + 2 * k2 + 1) (by omega)).obj
              rw [hat10080] at hbo2
              have hwn_10080 : h10080 q10057_ = some (.inl (E.2.1 5, 961, .inr (.inr (.inr (.inr gn)))), a) := hF10080 _ _ hwn_10079 (hne_new hao_10078 hf10079)
              refine hr_aast C T10080 5 (ci := 1) rfl rfl hwn_10080 hbo2 (by omega) (by omega) dX1_init_366 (fun h10081 H10081 locs10081 eh10081 T10081 => ?_)
              have hwn_10081 : h10081 q10057_ = some (.inl (E.2.1 5, 961, .inr (.inr (.inr (.inr (va_up gn k2 (some q10079_)))))), a) := hu_s eh10081
              have hN_10081 : FN a h h10081 := hN_10080.up hwn_10080 eh10081
              refine lv_iinc (v := nI (k2 + 1)) (lv' := [(1, .int (nI (k2 + 1))), (0, .ref a)]) hx hb dX1_init_367 hl10075 (k := 1) rfl (nI_add k2 1) (by decide) rfl (fun ls10082 hl10082 => ?_)
              refine lv_goto (tgt := 328) hx hb dX1_init_370 (by decide) ?_
              have hBF : ∀ i, i < 51 + 2 * k2 → Bq10080 i = B3 i ∧ cq10080 i = c3 i := fun i hi => ⟨((hk10080 i (by omega)).1).trans (hk10077 i hi).1, ((hk10080 i (by omega)).2).trans (hk10077 i hi).2⟩
              have hBx : Bq10080 (51 + 2 * k2) = q10076_ := ((hk10080 (51 + 2 * k2) (by omega)).1).trans hat10077
              have hCx : cq10080 (51 + 2 * k2) = 8 := ((hk10080 (51 + 2 * k2) (by omega)).2).trans hac10077
              have hQ10080_10081 : PB E h10081 Bq10080 cq10080 ((51 + 2 * k2 + 1) + 1) := PB.kept (O := (· = a)) (hu_f eh10081 Fr.rf hwn_10080 rfl) (hQ10080.neobj hao_10080 (by decide)) hQ10080
              have hao_10081 : h10081 a = some (.inr (0, [.ref q10001_, .int 0, .ref q10003_, .int 0, .int 0, .int (nI 1), .int (nI 100), .int (nI 1), .int (nI 10), .int (nI 11), .int (nI 10), .ref q10011_, .ref q10013_, .ref q10015_, .ref q10017_, .ref q10019_, .ref q10021_, .int 0, .int 0, .int 0, .int 0, .int (nI 0 - 1), .int 0, .ref q10024_, .int 0, .ref q10026_, .ref q10029_, .ref q10026_, .ref q10033_, .ref q10036_, .ref q10033_, .ref q10040_, .ref q10043_, .ref q10046_, .ref q10049_, .ref q10052_, .ref q10055_, .ref q10057_, .ref q10059_, .ref q10061_, .ref q10064_]), a) := hu_n eh10081 (hne_new hao_10056 hf10057) hao_10080
              have hww_10080 : h10080 q10055_ = some (.inl (E.2.1 5, 961, .inr (.inr (.inr (.inr (va_up gw k2 (some q10076_)))))), a) := hF10080 _ _ hww_10079 (hne_new hao_10078 hf10079)
              have hww_10081 : h10081 q10055_ = some (.inl (E.2.1 5, 961, .inr (.inr (.inr (.inr (va_up gw k2 (some q10076_)))))), a) := hu_n eh10081 (hne_new hn248x_10056 hf10057) hww_10080
              exact ih10075 (k2 + 1) Bq10080 cq10080 _ _ _ _ _ _ _ _ (by omega) hao_10081 hww_10081 hwn_10081 (by omega) hQ10080_10081 (fun i hi => by rw [(hBF i (by omega)).1, (hBF i (by omega)).2]; exact hB3 i hi) (fun i h1 h2 => by by_cases z : i < 51 + 2 * k2; (rw [(hBF i z).2]; exact hc8 i h1 z); (by_cases z2 : i = 51 + 2 * k2; (rw [z2]; exact hCx); (rw [show i = 51 + 2 * k2 + 1 by omega]; exact hac10080))) (fun i hi => by by_cases z : i = k2; (rw [z, va_up_self, hBx]); (rw [va_up_ne _ _ z, (hBF _ (by omega)).1]; exact hgw i (by omega))) (fun i hi => by by_cases z : i = k2; (rw [z, va_up_self, hat10080]); (rw [va_up_ne _ _ z, (hBF _ (by omega)).1]; exact hgn i (by omega))) (hFb2.up (Or.inr rfl) eh10081) hN_10081 (by have h1 := hcs2.1; have h2 := hcs2.2; omega) T10081 (lv_sub hl10082 [1, 0] rfl)
        exact L2 962 0 B2 c2 _ _ _ _ _ _ _ _ (by omega) hao_10068 hn248x_10073 hn258x_10073 (Nat.zero_le _) hQ (fun _ _ => ⟨rfl, rfl⟩) (fun i h1 h2 => absurd h2 (by omega)) (fun i hi => absurd hi (by omega)) (fun i hi => absurd hi (by omega)) FA.rf hN (by have h1 := hcs.1; have h2 := hcs.2; omega) T10068 (lv_sub hl10074 [1, 0] rfl)
      · refine lv_aload_n hx hb dX1_init_307 rfl (lv_at hl10068 0 rfl) ?_
        refine hr_get C T10068 hao_10068 rfl in_X1 23 (by decide) q320 rfl rfl dX1_init_308 ?_
        refine lv_iload_n hx hb dX1_init_311 rfl (lv_at hl10068 1 rfl) ?_
        refine hr_new C T10068 (fun q => q) (ci := 8) rfl in_X9 tyX9 tyX9_ok q84 q236 q61 (fs := [.int 0, .int 0, .int 0, .null, .null]) dfX9 (by show cc_ + 1 ≤ 4200; omega) (by show ss_ + 5 ≤ 100000; omega) dX1_init_312 (fun h10069 q10069_ H10069 hf10069 eh10069 T10069 => ?_)
        have hpn_10069 : h10069 q10069_ = some (.inr (8, [.int 0, .int 0, .int 0, .null, .null]), q10069_) := hu_s eh10069
        refine lv_dup hx hb dX1_init_315 rfl ?_
        have hao_10069 : h10069 a = some (.inr (0, [.ref q10001_, .int 0, .ref q10003_, .int 0, .int 0, .int (nI 1), .int (nI 100), .int (nI 1), .int (nI 10), .int (nI 11), .int (nI 10), .ref q10011_, .ref q10013_, .ref q10015_, .ref q10017_, .ref q10019_, .ref q10021_, .int 0, .int 0, .int 0, .int 0, .int (nI 0 - 1), .int 0, .ref q10024_, .int 0, .ref q10026_, .ref q10029_, .ref q10026_, .ref q10033_, .ref q10036_, .ref q10033_, .ref q10040_, .ref q10043_, .ref q10046_, .ref q10049_, .ref q10052_, .ref q10055_, .ref q10057_, .ref q10059_, .ref q10061_, .ref q10064_]), a) := hu_w eh10069 hf10069 hao_10068
        have hal_10069 : h10069 q10024_ = some (.inl (E.2.1 6, 16, .inr (.inr (.inr (.inr g)))), a) := hu_w eh10069 hf10069 hal_10068
        have hQ_10069 : PB E h10069 B2 c2 (19 + 2 * k) := PB.kept (O := fun _ => False) (hu_fn eh10069 Fr.rf hf10069) (fun _ _ q => q) hQ
        refine hg_IN C T10069 hl10068.1 (m_X9_init hQ_10069 hpn_10069) 3 rfl q238 q61 q239 rfl kd_X9_init rfl rfl ⟨Nat.le_of_ble_eq_true rfl, Nat.le_of_ble_eq_true rfl⟩ (Nat.le_of_ble_eq_true rfl) dX1_init_316 ⟨by show cc_ + 1 + 4 ≤ 4200; omega, by show ss_ + 5 + 132 ≤ 100000; omega⟩ (fun rv h10070 dc10070 ds10070 H10070 locs10070 hp10070 T10070 => ?_)
        obtain ⟨rfl, B3, c3, hQ10070, hk10070, hac10070, hpo10070, hM10070, rfl, rfl⟩ := hp10070
        have hN_10070 : FN a h h10070 := hN.nest hf10069 eh10069 hM10070
        refine W.eq (g2 := F0 m 319 ls10068 [.ref q10069_, .int (nI k), .ref q10024_]) rfl ?_
        have hao_10070 : h10070 a = some (.inr (0, [.ref q10001_, .int 0, .ref q10003_, .int 0, .int 0, .int (nI 1), .int (nI 100), .int (nI 1), .int (nI 10), .int (nI 11), .int (nI 10), .ref q10011_, .ref q10013_, .ref q10015_, .ref q10017_, .ref q10019_, .ref q10021_, .int 0, .int 0, .int 0, .int 0, .int (nI 0 - 1), .int 0, .ref q10024_, .int 0, .ref q10026_, .ref q10029_, .ref q10026_, .ref q10033_, .ref q10036_, .ref q10033_, .ref q10040_, .ref q10043_, .ref q10046_, .ref q10049_, .ref q10052_, .ref q10055_, .ref q10057_, .ref q10059_, .ref q10061_, .ref q10064_]), a) := hM10070.at hao_10069 hao_10069 (hne_new hao_10068 hf10069)
        have hpq : ∀ i, i < k → h10070 (pa i) = some (.inr (8, [.int 0, .int 0, .int 0, .ref (B2 (19 + 2 * i)), .ref (B2 (19 + 2 * i + 1))]), pa i) := fun i hi => hM10070.at (hu_w eh10069 hf10069 (hp i hi)) (hu_w eh10069 hf10069 (hp i hi)) (hne_new (hp i hi) hf10069)
        have hFA1 := hFA.nest hf10069 eh10069 hM10070
        have hal_10070 : h10070 q10024_ = some (.inl (E.2.1 6, 16, .inr (.inr (.inr (.inr g)))), a) := hM10070.at hal_10069 hao_10069 (hne_new hao_10068 hf10069)
        refine hr_aast C T10070 6 (ci := 8) rfl rfl hal_10070 hpo10070 (by omega) (by omega) dX1_init_319 (fun h10071 H10071 locs10071 eh10071 T10071 => ?_)
        have hal_10071 : h10071 q10024_ = some (.inl (E.2.1 6, 16, .inr (.inr (.inr (.inr (va_up g k (some q10069_)))))), a) := hu_s eh10071
        have hN_10071 : FN a h h10071 := hN_10070.up hal_10070 eh10071
        refine lv_iinc (v := nI (k + 1)) (lv' := [(1, .int (nI (k + 1))), (0, .ref a)]) hx hb dX1_init_320 hl10068 (k := 1) rfl (nI_add k 1) (by decide) rfl (fun ls10072 hl10072 => ?_)
        refine lv_goto (tgt := 301) hx hb dX1_init_323 (by decide) ?_
        have hQ10070_10071 : PB E h10071 B3 c3 (19 + 2 * k + 2) := PB.kept (O := (· = a)) (hu_f eh10071 Fr.rf hal_10070 rfl) (hQ10070.neobj hao_10070 (by decide)) hQ10070
        have hpo10070_10071 : h10071 q10069_ = some (.inr (8, [.int 0, .int 0, .int 0, .ref (B3 (19 + 2 * k)), .ref (B3 (19 + 2 * k + 1))]), q10069_) := hu_n eh10071 (Ne.symm (hne_new hal_10068 hf10069)) hpo10070
        have hao_10071 : h10071 a = some (.inr (0, [.ref q10001_, .int 0, .ref q10003_, .int 0, .int 0, .int (nI 1), .int (nI 100), .int (nI 1), .int (nI 10), .int (nI 11), .int (nI 10), .ref q10011_, .ref q10013_, .ref q10015_, .ref q10017_, .ref q10019_, .ref q10021_, .int 0, .int 0, .int 0, .int 0, .int (nI 0 - 1), .int 0, .ref q10024_, .int 0, .ref q10026_, .ref q10029_, .ref q10026_, .ref q10033_, .ref q10036_, .ref q10033_, .ref q10040_, .ref q10043_, .ref q10046_, .ref q10049_, .ref q10052_, .ref q10055_, .ref q10057_, .ref q10059_, .ref q10061_, .ref q10064_]), a) := hu_n eh10071 (hne_new hao_10023 hf10024) hao_10070
        exact ih10068 (k + 1) B3 c3 _ (nu pa k q10069_) _ _ _ _ _ _ (by omega) hao_10071 hal_10071 (by omega) hQ10070_10071 (fun i hi => by rw [(hk10070 i (by omega)).1, (hk10070 i (by omega)).2]; exact hB i hi) (fun i h1 h2 => by by_cases z : i < 19 + 2 * k; (rw [(hk10070 i z).2]; exact hc64 i h1 z); (exact hac10070 i (by omega) (by omega))) (fun i hi => by by_cases z : i = k; (rw [z, va_up_self, nu_s]); (rw [va_up_ne _ _ z, nu_n z]; exact hg i (by omega))) (fun i hi => by by_cases z : i = k; (rw [z, nu_s]; exact hpo10070_10071); (rw [nu_n z, (hk10070 (19 + 2 * i) (by omega)).1, (hk10070 (19 + 2 * i + 1) (by omega)).1]; exact hu_n eh10071 (hne_of (hpq i (by omega)) hal_10070 (fun z => by cases z)) (hpq i (by omega)))) (hFA1.up rfl eh10071) hN_10071 (by have h1 := hcs.1; have h2 := hcs.2; omega) T10071 (lv_sub hl10072 [1, 0] rfl)
  exact L1 17 0 Bq10065 cq10065 _ (fun _ => 0) _ _ _ _ _ _ (by omega) hao_10066 hn113x_10066 (Nat.zero_le _) hQ10065_10066 (fun _ _ => ⟨rfl, rfl⟩) (fun i h1 h2 => absurd h2 (by omega)) (fun i hi => absurd hi (by omega)) (fun i hi => absurd hi (by omega)) FA.rf hN_10066 (by omega) T10066 (lv_sub hl10067 [1, 0] rfl)
