set_option maxRecDepth 100000
theorem par_le (su : Nat → Nat → Nat) (x y o n t a b : Nat) (hn : n ≤ 30) (ht : t < 30) (hz : o + x + y ≤ 20000) (ha : a ≤ n + 1) (hb : b ≤ n + 1) : smw su x y o n t * (o + x + y) + ksum (rsw su x y o (wy su x y o t) n) a + ksum (tmw su x y o (wy su x y o t) a) b ≤ 65536 * 20000 ^ 30 := by
  have h1 := Nat.mul_le_mul_right (o + x + y) (smw_le su x y o n hn t)
  have h2 : ksum (rsw su x y o (wy su x y o t) n) a ≤ a * ((n + 1) * (o + x + y) ^ (t + 1)) := ksum_le fun i _ => rsw_le su x y o t n i
  have h3 : ksum (tmw su x y o (wy su x y o t) a) b ≤ b * (o + x + y) ^ (t + 1) := ksum_le fun i _ => tmw_le su x y o t a i
  have e1 : 1024 * t * (o + x + y) ^ t * (o + x + y) = 1024 * t * (o + x + y) ^ (t + 1) := by rw [Nat.mul_assoc, ← Nat.pow_succ]
  rw [← Nat.mul_assoc] at h2
  have h4 : a * (n + 1) ≤ 961 := Nat.le_trans (Nat.mul_le_mul (show a ≤ 31 by omega) (show n + 1 ≤ 31 by omega)) (by decide)
  have hp := pz_le hz (show t + 1 ≤ 30 by omega)
  have h5 := Nat.mul_le_mul_right ((o + x + y) ^ (t + 1)) h4
  have h6 := Nat.mul_le_mul_right ((o + x + y) ^ (t + 1)) (show b ≤ 31 by omega)
  have h7 := Nat.mul_le_mul_right ((o + x + y) ^ (t + 1)) (show 1024 * t ≤ 30720 by omega)
  omega
theorem nx16 (su : Nat → Nat → Nat) (x y o t a b : Nat) (ht : t < 30) (hz : o + x + y ≤ 20000) : nxw x y o (wy su x y o t) a b ≤ 20000 ^ 30 := by
  have h1 := nxw_le x y o (wy_le su x y o t) a b
  rw [← Nat.pow_succ] at h1
  exact Nat.le_trans h1 (pz_le hz (by omega))
theorem wy16 (su : Nat → Nat → Nat) (x y o t a b : Nat) (ht : t ≤ 30) (hz : o + x + y ≤ 20000) : wy su x y o t a b ≤ 20000 ^ 30 := Nat.le_trans (wy_le su x y o t a b) (pz_le hz ht)
theorem b16 {v : Nat} (h : v ≤ 20000 ^ 30) : lm v ≤ 16 := lm16 (Nat.le_trans h (Nat.le_mul_of_pos_left _ (by decide)))

set_option maxHeartbeats 4000000 in
theorem m_X1_drawMore {E : GE} {l : Launch} {h : HH} {L B N V cp : Nat → Nat} {pp n px py pz t : Nat} {r : Nat → Int32} {su : Nat → Nat → Nat} (hLay : Lay L B) (hB : Bgs E h B V cp) (ho0 : h (L 0) = some (.inr (0, [.ref (L 1), .int (nI (N 0)), .ref (L 3), .int (nI (N 1)), .int (nI (N 2)), .int (nI (N 3)), .int (nI (N 4)), .int (nI (N 5)), .int (nI (N 6)), .int (nI (N 7)), .int (nI (N 8)), .ref (L 12), .ref (L 13), .ref (L 14), .ref (L 15), .ref (L 16), .ref (L 17), .int (nI (N 11)), .int (nI (N 15)), .int (nI (N 16)), .int (nI (N 17)), .int (nI (N 18) - 1), .int (nI (N 19)), .ref (L 24), .int (nI pp), .ref (L 26), .ref (L 27), .ref (if N 13 = 1 then L 27 else L 26), .ref (L 29), .ref (L 30), .ref (if N 12 = 1 then L 30 else L 29), .ref (L 32), .ref (B 0), .ref (B 1), .ref (B 2), .ref (B 3), .ref (L 37), .ref (L 38), .ref (L 39), .ref (B 4), .ref (B 5)]), L 0)) (hSt : Stt E L B h) (ha39 : h (L 39) = some (.inl (E.2.1 3, 961, .inl r), L 0)) (hn : n ≤ 30) (ht : t < 30) (hpz : pz ≤ 20000) (hpx : px ≤ pz) (hpy : py ≤ pz - px) (hsu : ∀ i j, i + j ≤ n → r (i * 31 + j) = nI (su i j)) (hsul : ∀ i j, su i j ≤ 1) (hway : ∀ i j, i + j ≤ n → V (51 + (i * 31 + j)) = wy su px py (pz - px - py) t i j) (hsum : V 4 = smw su px py (pz - px - py) n t) : MG E l yX1_drawMore cX1_drawMore 8 none ({ frames := 4, cells := (KX - ksum cp NB) / 8 + 8, slots := 2 * (KX - ksum cp NB) + 2048, locals := 600 } : Room) [.ref (L 0), .int (nI n), .int (nI px), .int (nI py), .int (nI pz)] h (fun rv h2 dc ds => rv = none ∧ ∃ V2 c2, Bgs E h2 B V2 c2 ∧ (∀ i j, i + j ≤ n → V2 (51 + (i * 31 + j)) = wy su px py (pz - px - py) (t + 1) i j) ∧ V2 4 = smw su px py (pz - px - py) n (t + 1) ∧ (∀ i, i ≠ 0 → i ≠ 4 → i < 51 → V2 i = V i) ∧ Fr (BO B) h h2 ∧ Gw cp c2 dc ds) := by
  refine hn_v (by decide) (Nat.le_of_ble_eq_true rfl) ?_
  intro p e s m below meth c C hnm Q Z ls T hl
  have hx := C.x
  have hb := C.b
  have hl : lv_has ls 8 [(0, .ref (L 0)), (1, .int (nI n)), (2, .int (nI px)), (3, .int (nI py)), (4, .int (nI pz))] := hl
  have hF : Fr (BO B) h h := Fr.rf
  have hzz : (pz - px - py) + px + py ≤ 20000 := by omega
  have hzq : (pz - px - py) + px + py = pz := by omega
  refine lv_iconst (v := nI 0) hx hb dX1_drawMore_0 rfl ?_
  refine lv_istore (lv' := [(5, .int (nI 0)), (0, .ref (L 0)), (1, .int (nI n)), (2, .int (nI px)), (3, .int (nI py)), (4, .int (nI pz))]) hx hb dX1_drawMore_1 hl (by decide) rfl (fun ls7601 hl7601 => ?_)
  have L1 : ∀ (j : Nat) (a : Nat) (V2 c2 : Nat → Nat) (cc_ ss_ : Nat) (h7602 : HH) (H7602 : Heap) (locs7602 : List Loc) (ls7602 : Array Slot), (n + 2 ≤ a + j) → (h7602 (L 0) = some (.inr (0, [.ref (L 1), .int (nI (N 0)), .ref (L 3), .int (nI (N 1)), .int (nI (N 2)), .int (nI (N 3)), .int (nI (N 4)), .int (nI (N 5)), .int (nI (N 6)), .int (nI (N 7)), .int (nI (N 8)), .ref (L 12), .ref (L 13), .ref (L 14), .ref (L 15), .ref (L 16), .ref (L 17), .int (nI (N 11)), .int (nI (N 15)), .int (nI (N 16)), .int (nI (N 17)), .int (nI (N 18) - 1), .int (nI (N 19)), .ref (L 24), .int (nI pp), .ref (L 26), .ref (L 27), .ref (if N 13 = 1 then L 27 else L 26), .ref (L 29), .ref (L 30), .ref (if N 12 = 1 then L 30 else L 29), .ref (L 32), .ref (B 0), .ref (B 1), .ref (B 2), .ref (B 3), .ref (L 37), .ref (L 38), .ref (L 39), .ref (B 4), .ref (B 5)]), L 0)) → (h7602 (L 39) = some (.inl (E.2.1 3, 961, .inl r), L 0)) → (a ≤ n + 1) → (Bgs E h7602 B V2 c2) → (Gw cp c2 cc_ ss_) → (Stt E L B h7602) → (∀ i j, i + j ≤ n → (i < a ∨ (i = a ∧ j < 0)) → V2 (1012 + (i * 31 + j)) = nxw px py (pz - px - py) (wy su px py (pz - px - py) t) i j) → (∀ i, 0 < i → i < 1012 → V2 i = V i) → (Fr (BO B) h h7602) → (St E s h7602 H7602 locs7602) → (lv_has ls7602 8 [(0, .ref (L 0)), (1, .int (nI n)), (2, .int (nI px)), (3, .int (nI py)), (4, .int (nI pz)), (5, .int (nI a))]) → W p l e ({ frames := 4, cells := (KX - ksum cp NB) / 8 + 8, slots := 2 * (KX - ksum cp NB) + 2048, locals := 600 } : Room) s m ([.ref (L 0), .int (nI n), .int (nI px), .int (nI py), .int (nI pz)] : List Value).toArray below meth c H7602 locs7602 cc_ ss_ Q (F0 m 3 ls7602 []) := by
    intro j
    induction j with
    | zero => intro a V2 c2 cc_ ss_ h7602 H7602 locs7602 ls7602 hm7602 ho0_7602 ha39_7602 ha hB hW hSt hnx hkp hF_7602 T7602 hl7602; exact absurd hm7602 (by omega)
    | succ j ih7602 =>
      intro a V2 c2 cc_ ss_ h7602 H7602 locs7602 ls7602 hm7602 ho0_7602 ha39_7602 ha hB hW hSt hnx hkp hF_7602 T7602 hl7602
      refine lv_iload hx hb dX1_drawMore_3 (lv_at hl7602 5 rfl) ?_
      refine lv_iload_n hx hb dX1_drawMore_5 rfl (lv_at hl7602 1 rfl) ?_
      refine hn_icmp_gt (tgt := 129) hx hb dX1_drawMore_6 (by decide) (by omega) (by omega) (fun g1 => ?_) (fun g1 => ?_)
      · have hnxA : ∀ i j, i + j ≤ n → V2 (1012 + (i * 31 + j)) = nxw px py (pz - px - py) (wy su px py (pz - px - py) t) i j := fun i j h1 => hnx i j h1 (Or.inl (by omega))
        have hlm4 : lm (V2 4) ≤ 16 := by rw [hkp 4 (by decide) (by decide), hsum]; refine lm16 (Nat.le_trans (smw_le su px py (pz - px - py) n hn t) ?_); have h1 := Nat.mul_le_mul (show 1024 * t ≤ 65536 by omega) (pz_le hzz (show t ≤ 30 by omega)); exact h1
        refine lv_aload_n hx hb dX1_drawMore_129 rfl (lv_at hl7602 0 rfl) ?_
        refine hr_get C T7602 ho0_7602 rfl in_X1 39 (by decide) q341 rfl rfl dX1_drawMore_130 ?_
        refine lv_iload hx hb dX1_drawMore_133 (lv_at hl7602 4 rfl) ?_
        obtain ⟨ca7624, hbo7624⟩ := hB.o (i := 4) (by decide)
        refine hg_V C T7602 hl7602.1 hbo7624 rfl (g_times (i := 4) hB (by decide) (by omega) (by omega)) q801 q787 q788 q59 q789 kd_X7_times rfl rfl ⟨Nat.le_of_ble_eq_true rfl, Nat.le_of_ble_eq_true rfl⟩ (Nat.le_of_ble_eq_true rfl) dX1_drawMore_135 ⟨by have hgw := (hW); have hg1 := hgw.1; have hg2 := hgw.2; have hkm := hB.kmax; have := gc_le (c2 4) (lm (V2 4) + 1); have := gs_le ((hB.1 4 (by decide)).cap.2.2) (show lm (V2 4) + 1 ≤ 128 from (by omega)); show cc_ + (gc (c2 4) (lm (V2 4) + 1)) ≤ (KX - ksum cp NB) / 8 + 8; omega, by have hgw := (hW); have hg1 := hgw.1; have hg2 := hgw.2; have hkm := hB.kmax; have := gc_le (c2 4) (lm (V2 4) + 1); have := gs_le ((hB.1 4 (by decide)).cap.2.2) (show lm (V2 4) + 1 ≤ 128 from (by omega)); show ss_ + (gs (c2 4) (lm (V2 4) + 1)) ≤ 2 * (KX - ksum cp NB) + 2048; omega⟩ (fun rv h7625 dc7625 ds7625 H7625 locs7625 hp7625 T7625 => ?_)
        obtain ⟨rfl, c7625, hB7625, hF7625, hw7625⟩ := hp7625
        have hW7625 := (hW).tr hw7625
        have hF_7625 : Fr (BO B) h h7625 := hF_7602.tr (hF7625.mono (fun _ z => z))
        refine W.eq (g2 := F0 m 138 ls7602 []) rfl ?_
        have hnxB := hnxA
        refine lv_iconst (v := nI 0) hx hb dX1_drawMore_138 rfl ?_
        refine lv_istore (lv' := [(5, .int (nI 0)), (0, .ref (L 0)), (1, .int (nI n)), (2, .int (nI px)), (3, .int (nI py)), (4, .int (nI pz))]) hx hb dX1_drawMore_139 hl7602 (by decide) rfl (fun ls7626 hl7626 => ?_)
        have L3 : ∀ (j3 : Nat) (a : Nat) (V2 c2 : Nat → Nat) (cc_ ss_ : Nat) (h7627 : HH) (H7627 : Heap) (locs7627 : List Loc) (ls7627 : Array Slot), (n + 2 ≤ a + j3) → (h7627 (L 0) = some (.inr (0, [.ref (L 1), .int (nI (N 0)), .ref (L 3), .int (nI (N 1)), .int (nI (N 2)), .int (nI (N 3)), .int (nI (N 4)), .int (nI (N 5)), .int (nI (N 6)), .int (nI (N 7)), .int (nI (N 8)), .ref (L 12), .ref (L 13), .ref (L 14), .ref (L 15), .ref (L 16), .ref (L 17), .int (nI (N 11)), .int (nI (N 15)), .int (nI (N 16)), .int (nI (N 17)), .int (nI (N 18) - 1), .int (nI (N 19)), .ref (L 24), .int (nI pp), .ref (L 26), .ref (L 27), .ref (if N 13 = 1 then L 27 else L 26), .ref (L 29), .ref (L 30), .ref (if N 12 = 1 then L 30 else L 29), .ref (L 32), .ref (B 0), .ref (B 1), .ref (B 2), .ref (B 3), .ref (L 37), .ref (L 38), .ref (L 39), .ref (B 4), .ref (B 5)]), L 0)) → (h7627 (L 39) = some (.inl (E.2.1 3, 961, .inl r), L 0)) → (a ≤ n + 1) → (Bgs E h7627 B V2 c2) → (Gw cp c2 cc_ ss_) → (Stt E L B h7627) → (∀ i j, i + j ≤ n → (i < a ∨ (i = a ∧ j < 0)) → V2 (51 + (i * 31 + j)) = wy su px py (pz - px - py) (t + 1) i j) → (∀ i j, i + j ≤ n → ¬ (i < a ∨ (i = a ∧ j < 0)) → V2 (1012 + (i * 31 + j)) = nxw px py (pz - px - py) (wy su px py (pz - px - py) t) i j) → (V2 4 = smw su px py (pz - px - py) n t * ((pz - px - py) + px + py) + ksum (rsw su px py (pz - px - py) (wy su px py (pz - px - py) t) n) a + ksum (tmw su px py (pz - px - py) (wy su px py (pz - px - py) t) a) 0) → (∀ i, i ≠ 0 → i ≠ 4 → i < 51 → V2 i = V i) → (Fr (BO B) h h7627) → (St E s h7627 H7627 locs7627) → (lv_has ls7627 8 [(0, .ref (L 0)), (1, .int (nI n)), (2, .int (nI px)), (3, .int (nI py)), (4, .int (nI pz)), (5, .int (nI a))]) → W p l e ({ frames := 4, cells := (KX - ksum cp NB) / 8 + 8, slots := 2 * (KX - ksum cp NB) + 2048, locals := 600 } : Room) s m ([.ref (L 0), .int (nI n), .int (nI px), .int (nI py), .int (nI pz)] : List Value).toArray below meth c H7627 locs7627 cc_ ss_ Q (F0 m 141 ls7627 []) := by
          intro j3
          induction j3 with
          | zero => intro a V2 c2 cc_ ss_ h7627 H7627 locs7627 ls7627 hm7627 ho0_7627 ha39_7627 ha hB hW hSt hdn hn2 hs2 hk2 hF_7627 T7627 hl7627; exact absurd hm7627 (by omega)
          | succ j3 ih7627 =>
            intro a V2 c2 cc_ ss_ h7627 H7627 locs7627 ls7627 hm7627 ho0_7627 ha39_7627 ha hB hW hSt hdn hn2 hs2 hk2 hF_7627 T7627 hl7627
            refine lv_iload hx hb dX1_drawMore_141 (lv_at hl7627 5 rfl) ?_
            refine lv_iload_n hx hb dX1_drawMore_143 rfl (lv_at hl7627 1 rfl) ?_
            refine hn_icmp_gt (tgt := 242) hx hb dX1_drawMore_144 (by decide) (by omega) (by omega) (fun g1 => ?_) (fun g1 => ?_)
            · have e1 : a = n + 1 := by omega
              exact Z _ _ _ _ _ _ _ dX1_drawMore_242 (by have hgw := (hW); have hg1 := hgw.1; have hg2 := hgw.2; have hkm := hB.kmax; show cc_ ≤ (KX - ksum cp NB) / 8 + 8; omega) (by have hgw := (hW); have hg1 := hgw.1; have hg2 := hgw.2; have hkm := hB.kmax; show ss_ ≤ 2 * (KX - ksum cp NB) + 2048; omega) ⟨rfl, V2, c2, hB, fun i j h1 => hdn i j h1 (Or.inl (by omega)), by rw [hs2, e1, ksum_0, Nat.add_zero]; rfl, hk2, hF_7627, hW⟩ T7627
            · refine lv_iconst (v := nI 0) hx hb dX1_drawMore_147 rfl ?_
              refine lv_istore (lv' := [(6, .int (nI 0)), (0, .ref (L 0)), (1, .int (nI n)), (2, .int (nI px)), (3, .int (nI py)), (4, .int (nI pz)), (5, .int (nI a))]) hx hb dX1_drawMore_148 hl7627 (by decide) rfl (fun ls7628 hl7628 => ?_)
              have L4 : ∀ (j4 : Nat) (b : Nat) (V2 c2 : Nat → Nat) (cc_ ss_ : Nat) (h7629 : HH) (H7629 : Heap) (locs7629 : List Loc) (ls7629 : Array Slot), (n + 2 ≤ b + j4) → (h7629 (L 0) = some (.inr (0, [.ref (L 1), .int (nI (N 0)), .ref (L 3), .int (nI (N 1)), .int (nI (N 2)), .int (nI (N 3)), .int (nI (N 4)), .int (nI (N 5)), .int (nI (N 6)), .int (nI (N 7)), .int (nI (N 8)), .ref (L 12), .ref (L 13), .ref (L 14), .ref (L 15), .ref (L 16), .ref (L 17), .int (nI (N 11)), .int (nI (N 15)), .int (nI (N 16)), .int (nI (N 17)), .int (nI (N 18) - 1), .int (nI (N 19)), .ref (L 24), .int (nI pp), .ref (L 26), .ref (L 27), .ref (if N 13 = 1 then L 27 else L 26), .ref (L 29), .ref (L 30), .ref (if N 12 = 1 then L 30 else L 29), .ref (L 32), .ref (B 0), .ref (B 1), .ref (B 2), .ref (B 3), .ref (L 37), .ref (L 38), .ref (L 39), .ref (B 4), .ref (B 5)]), L 0)) → (h7629 (L 39) = some (.inl (E.2.1 3, 961, .inl r), L 0)) → (a + b ≤ n + 1) → (Bgs E h7629 B V2 c2) → (Gw cp c2 cc_ ss_) → (Stt E L B h7629) → (∀ i j, i + j ≤ n → (i < a ∨ (i = a ∧ j < b)) → V2 (51 + (i * 31 + j)) = wy su px py (pz - px - py) (t + 1) i j) → (∀ i j, i + j ≤ n → ¬ (i < a ∨ (i = a ∧ j < b)) → V2 (1012 + (i * 31 + j)) = nxw px py (pz - px - py) (wy su px py (pz - px - py) t) i j) → (V2 4 = smw su px py (pz - px - py) n t * ((pz - px - py) + px + py) + ksum (rsw su px py (pz - px - py) (wy su px py (pz - px - py) t) n) a + ksum (tmw su px py (pz - px - py) (wy su px py (pz - px - py) t) a) b) → (∀ i, i ≠ 0 → i ≠ 4 → i < 51 → V2 i = V i) → (Fr (BO B) h h7629) → (St E s h7629 H7629 locs7629) → (lv_has ls7629 8 [(0, .ref (L 0)), (1, .int (nI n)), (2, .int (nI px)), (3, .int (nI py)), (4, .int (nI pz)), (5, .int (nI a)), (6, .int (nI b))]) → W p l e ({ frames := 4, cells := (KX - ksum cp NB) / 8 + 8, slots := 2 * (KX - ksum cp NB) + 2048, locals := 600 } : Room) s m ([.ref (L 0), .int (nI n), .int (nI px), .int (nI py), .int (nI pz)] : List Value).toArray below meth c H7629 locs7629 cc_ ss_ Q (F0 m 150 ls7629 []) := by
                intro j4
                induction j4 with
                | zero => intro b V2 c2 cc_ ss_ h7629 H7629 locs7629 ls7629 hm7629 ho0_7629 ha39_7629 hb0 hB hW hSt hdn hn2 hs2 hk2 hF_7629 T7629 hl7629; exact absurd hm7629 (by omega)
                | succ j4 ih7629 =>
                  intro b V2 c2 cc_ ss_ h7629 H7629 locs7629 ls7629 hm7629 ho0_7629 ha39_7629 hb0 hB hW hSt hdn hn2 hs2 hk2 hF_7629 T7629 hl7629
                  refine lv_iload hx hb dX1_drawMore_150 (lv_at hl7629 5 rfl) ?_
                  refine lv_iload hx hb dX1_drawMore_152 (lv_at hl7629 6 rfl) ?_
                  refine hn_iadd hx hb dX1_drawMore_154 ?_
                  refine lv_iload_n hx hb dX1_drawMore_155 rfl (lv_at hl7629 1 rfl) ?_
                  refine hn_icmp_gt (tgt := 236) hx hb dX1_drawMore_156 (by decide) (by omega) (by omega) (fun g2 => ?_) (fun g2 => ?_)
                  · refine lv_iinc (v := nI (a + 1)) (lv' := [(5, .int (nI (a + 1))), (0, .ref (L 0)), (1, .int (nI n)), (2, .int (nI px)), (3, .int (nI py)), (4, .int (nI pz)), (6, .int (nI b))]) hx hb dX1_drawMore_236 hl7629 (k := 5) rfl (nI_add a 1) (by decide) rfl (fun ls7630 hl7630 => ?_)
                    refine lv_goto (tgt := 141) hx hb dX1_drawMore_239 (by decide) ?_
                    have e2 : b = n + 1 - a := by omega
                    exact ih7627 (a + 1) _ _ _ _ _ _ _ _ (by omega) ho0_7629 ha39_7629 (by omega) hB hW hSt (fun i j h1 h2 => hdn i j h1 (by omega)) (fun i j h1 h2 => hn2 i j h1 (by omega)) (by rw [hs2, e2, ksum_0, Nat.add_zero, ksum_s, Nat.add_assoc]; rfl) hk2 hF_7629 T7629 (lv_sub hl7630 [1, 2, 3, 4, 5, 0] rfl)
                  · have hnab : V2 (1012 + (a * 31 + b)) = nxw px py (pz - px - py) (wy su px py (pz - px - py) t) a b := hn2 a b (by omega) (by omega)
                    have hln := b16 (nx16 su px py (pz - px - py) t a b ht hzz)
                    have hl4 : lm (V2 4) ≤ 16 := by rw [hs2]; exact lm16 (par_le su px py (pz - px - py) n t a b hn ht hzz (by omega) (by omega))
                    have hrab := hsu a b (by omega)
                    have hs01 := hsul a b
                    refine lv_iload hx hb dX1_drawMore_159 (lv_at hl7629 5 rfl) ?_
                    refine lv_iload hx hb dX1_drawMore_161 (lv_at hl7629 6 rfl) ?_
                    refine hp_S C T7629 hl7629.1 (p_X1_at) q907 q908 q53 q909 kd_X1_at rfl rfl ⟨Nat.le_of_ble_eq_true rfl, Nat.le_of_ble_eq_true rfl⟩ (Nat.le_of_ble_eq_true rfl) dX1_drawMore_163 ⟨by have hgw := (hW); have hg1 := hgw.1; have hg2 := hgw.2; have hkm := hB.kmax; show cc_ + 0 ≤ (KX - ksum cp NB) / 8 + 8; omega, by have hgw := (hW); have hg1 := hgw.1; have hg2 := hgw.2; have hkm := hB.kmax; show ss_ + 0 ≤ 2 * (KX - ksum cp NB) + 2048; omega⟩ (fun rv H7631 hp7631 T7631 => ?_)
                    obtain rfl := hp7631
                    refine W.eq (g2 := F0 m 166 ls7629 [.int (nI (a * 31 + b))]) rfl ?_
                    refine lv_istore (lv' := [(7, .int (nI (a * 31 + b))), (0, .ref (L 0)), (1, .int (nI n)), (2, .int (nI px)), (3, .int (nI py)), (4, .int (nI pz)), (5, .int (nI a)), (6, .int (nI b))]) hx hb dX1_drawMore_166 hl7629 (by decide) rfl (fun ls7632 hl7632 => ?_)
                    refine lv_aload_n hx hb dX1_drawMore_168 rfl (lv_at hl7632 1 rfl) ?_
                    refine hr_get C T7631 ho0_7629 rfl in_X1 38 (by decide) q340 rfl rfl dX1_drawMore_169 ?_
                    refine lv_iload hx hb dX1_drawMore_172 (lv_at hl7632 0 rfl) ?_
                    refine hr_zald C T7631 ha39_7629 (by omega) (by omega) dX1_drawMore_174 ?_
                    rw [show r (a * 31 + b) = nI (su a b) from hrab]
                    refine hn_if_eq (tgt := 192) hx hb dX1_drawMore_175 (by decide) (by omega) (fun c3 => ?_) (fun c3 => ?_)
                    · refine lv_aload_n hx hb dX1_drawMore_192 rfl (lv_at hl7632 1 rfl) ?_
                      refine hr_get C T7631 ho0_7629 rfl in_X1 38 (by decide) q340 rfl rfl dX1_drawMore_193 ?_
                      refine lv_iload hx hb dX1_drawMore_196 (lv_at hl7632 0 rfl) ?_
                      refine hr_zald C T7631 ha39_7629 (by omega) (by omega) dX1_drawMore_198 ?_
                      rw [show r (a * 31 + b) = nI (su a b) from hrab]
                      refine hn_if_eq (tgt := 213) hx hb dX1_drawMore_199 (by decide) (by omega) (fun c4 => ?_) (fun c4 => absurd c3 c4)
                      have hst37x7633 := (hSt).2.1
                      have hst38x7634 := (hSt).2.2.1
                      refine lv_aload_n hx hb dX1_drawMore_213 rfl (lv_at hl7632 1 rfl) ?_
                      refine hr_get C T7631 ho0_7629 rfl in_X1 36 (by decide) q338 rfl rfl dX1_drawMore_214 ?_
                      refine lv_iload hx hb dX1_drawMore_217 (lv_at hl7632 0 rfl) ?_
                      refine hr_aald C T7631 5 rfl hst37x7633 (by omega) (by omega) rfl dX1_drawMore_219 ?_
                      refine lv_aload_n hx hb dX1_drawMore_220 rfl (lv_at hl7632 1 rfl) ?_
                      refine hr_get C T7631 ho0_7629 rfl in_X1 37 (by decide) q339 rfl rfl dX1_drawMore_221 ?_
                      refine lv_iload hx hb dX1_drawMore_224 (lv_at hl7632 0 rfl) ?_
                      refine hr_aald C T7631 5 rfl hst38x7634 (by omega) (by omega) rfl dX1_drawMore_226 ?_
                      have hcv : (V2) (1012 + (a * 31 + b)) = nxw px py (pz - px - py) (wy su px py (pz - px - py) t) a b := by exact hnab
                      obtain ⟨ca7635, hbo7635⟩ := hB.o (i := 51 + (a * 31 + b)) (show 51 + (a * 31 + b) < 1973 by omega)
                      refine hg_V C T7631 hl7632.1 hbo7635 rfl (g_copy (i := 51 + (a * 31 + b)) (j := 1012 + (a * 31 + b)) hB (show 51 + (a * 31 + b) < 1973 by omega) (show 1012 + (a * 31 + b) < 1973 by omega) (by omega) (by rw [hcv]; omega)) q800 q783 q784 q59 q785 kd_X7_copy rfl rfl ⟨Nat.le_of_ble_eq_true rfl, Nat.le_of_ble_eq_true rfl⟩ (Nat.le_of_ble_eq_true rfl) dX1_drawMore_227 ⟨by have hgw := (hW); have hg1 := hgw.1; have hg2 := hgw.2; have hkm := hB.kmax; have := gc_le (c2 (51 + (a * 31 + b))) (lm (V2 (1012 + (a * 31 + b)))); have := gs_le ((hB.1 (51 + (a * 31 + b)) (show 51 + (a * 31 + b) < 1973 by omega)).cap.2.2) (show lm (V2 (1012 + (a * 31 + b))) ≤ 128 from (by rw [hcv]; omega)); show cc_ + (gc (c2 (51 + (a * 31 + b))) (lm (V2 (1012 + (a * 31 + b))))) ≤ (KX - ksum cp NB) / 8 + 8; omega, by have hgw := (hW); have hg1 := hgw.1; have hg2 := hgw.2; have hkm := hB.kmax; have := gc_le (c2 (51 + (a * 31 + b))) (lm (V2 (1012 + (a * 31 + b)))); have := gs_le ((hB.1 (51 + (a * 31 + b)) (show 51 + (a * 31 + b) < 1973 by omega)).cap.2.2) (show lm (V2 (1012 + (a * 31 + b))) ≤ 128 from (by rw [hcv]; omega)); show ss_ + (gs (c2 (51 + (a * 31 + b))) (lm (V2 (1012 + (a * 31 + b))))) ≤ 2 * (KX - ksum cp NB) + 2048; omega⟩ (fun rv h7636 dc7636 ds7636 H7636 locs7636 hp7636 T7636 => ?_)
                      obtain ⟨rfl, c7636, hB7636, hF7636, hw7636⟩ := hp7636
                      have hW7636 := (hW).tr hw7636
                      have hF_7636 : Fr (BO B) h h7636 := hF_7629.tr (hF7636.mono (fun _ z => z))
                      refine W.eq (g2 := F0 m 230 ls7632 []) rfl ?_
                      have hW9 : wy su px py (pz - px - py) (t + 1) a b = nxw px py (pz - px - py) (wy su px py (pz - px - py) t) a b := if_pos c3
                      have hT9 : tmw su px py (pz - px - py) (wy su px py (pz - px - py) t) a b = 0 := if_pos c3
                      refine lv_iinc (v := nI (b + 1)) (lv' := [(6, .int (nI (b + 1))), (7, .int (nI (a * 31 + b))), (0, .ref (L 0)), (1, .int (nI n)), (2, .int (nI px)), (3, .int (nI py)), (4, .int (nI pz)), (5, .int (nI a))]) hx hb dX1_drawMore_230 hl7632 (k := 7) rfl (nI_add b 1) (by decide) rfl (fun ls7637 hl7637 => ?_)
                      refine lv_goto (tgt := 150) hx hb dX1_drawMore_233 (by decide) ?_
                      have hSt_7636 : Stt E L B h7636 := Stt.kept hF7636 (fun ⟨i, hi, e⟩ => hLay.2 i 30 hi (by decide) e.symm) hSt
                      have ho0_7636 : h7636 (L 0) = some (.inr (0, [.ref (L 1), .int (nI (N 0)), .ref (L 3), .int (nI (N 1)), .int (nI (N 2)), .int (nI (N 3)), .int (nI (N 4)), .int (nI (N 5)), .int (nI (N 6)), .int (nI (N 7)), .int (nI (N 8)), .ref (L 12), .ref (L 13), .ref (L 14), .ref (L 15), .ref (L 16), .ref (L 17), .int (nI (N 11)), .int (nI (N 15)), .int (nI (N 16)), .int (nI (N 17)), .int (nI (N 18) - 1), .int (nI (N 19)), .ref (L 24), .int (nI pp), .ref (L 26), .ref (L 27), .ref (if N 13 = 1 then L 27 else L 26), .ref (L 29), .ref (L 30), .ref (if N 12 = 1 then L 30 else L 29), .ref (L 32), .ref (B 0), .ref (B 1), .ref (B 2), .ref (B 3), .ref (L 37), .ref (L 38), .ref (L 39), .ref (B 4), .ref (B 5)]), L 0) := hF7636 _ _ ho0_7629 (fun ⟨i, hi, e⟩ => hLay.2 i 0 hi (by decide) e.symm)
                      have ha39_7636 : h7636 (L 39) = some (.inl (E.2.1 3, 961, .inl r), L 0) := hF7636 _ _ ha39_7629 (fun ⟨i, hi, e⟩ => hLay.2 i 0 hi (by decide) e.symm)
                      exact ih7629 (b + 1) _ _ _ _ _ _ _ _ (by omega) ho0_7636 ha39_7636 (by omega) hB7636 hW7636 hSt_7636 (fun i j h1 h2 => by by_cases q : i = a ∧ j = b; (rw [q.1, q.2, nu_s, hcv, hW9]); ((repeat rw [nu_n (by omega)]); exact hdn i j h1 (by omega))) (fun i j h1 h2 => by (repeat rw [nu_n (by omega)]); exact hn2 i j h1 (by omega)) (by rw [ksum_s, hT9, nu_n (by omega), Nat.add_zero]; exact hs2) (fun i h0 h4 h5 => by (repeat rw [nu_n (by omega)]); exact hk2 i h0 h4 h5) hF_7636 T7636 (lv_sub hl7637 [2, 3, 4, 5, 6, 7, 0] rfl)
                    · have hst38x7638 := (hSt).2.2.1
                      refine lv_aload_n hx hb dX1_drawMore_178 rfl (lv_at hl7632 1 rfl) ?_
                      refine hr_get C T7631 ho0_7629 rfl in_X1 39 (by decide) q341 rfl rfl dX1_drawMore_179 ?_
                      refine lv_aload_n hx hb dX1_drawMore_182 rfl (lv_at hl7632 1 rfl) ?_
                      refine hr_get C T7631 ho0_7629 rfl in_X1 37 (by decide) q339 rfl rfl dX1_drawMore_183 ?_
                      refine lv_iload hx hb dX1_drawMore_186 (lv_at hl7632 0 rfl) ?_
                      refine hr_aald C T7631 5 rfl hst38x7638 (by omega) (by omega) rfl dX1_drawMore_188 ?_
                      obtain ⟨ca7639, hbo7639⟩ := hB.o (i := 4) (by decide)
                      refine hg_V C T7631 hl7632.1 hbo7639 rfl (g_add (i := 4) (j := 1012 + (a * 31 + b)) hB (by decide) (show 1012 + (a * 31 + b) < 1973 by omega) (by omega) (by rw [hnab]; omega)) q919 q920 q921 q59 q922 kd_X7_add rfl rfl ⟨Nat.le_of_ble_eq_true rfl, Nat.le_of_ble_eq_true rfl⟩ (Nat.le_of_ble_eq_true rfl) dX1_drawMore_189 ⟨by have hgw := (hW); have hg1 := hgw.1; have hg2 := hgw.2; have hkm := hB.kmax; have := gc_le (c2 4) (max (lm (V2 4)) (lm (V2 (1012 + (a * 31 + b)))) + 1); have := gs_le ((hB.1 4 (by decide)).cap.2.2) (show max (lm (V2 4)) (lm (V2 (1012 + (a * 31 + b)))) + 1 ≤ 128 from (by rw [hnab]; omega)); show cc_ + (gc (c2 4) (max (lm (V2 4)) (lm (V2 (1012 + (a * 31 + b)))) + 1)) ≤ (KX - ksum cp NB) / 8 + 8; omega, by have hgw := (hW); have hg1 := hgw.1; have hg2 := hgw.2; have hkm := hB.kmax; have := gc_le (c2 4) (max (lm (V2 4)) (lm (V2 (1012 + (a * 31 + b)))) + 1); have := gs_le ((hB.1 4 (by decide)).cap.2.2) (show max (lm (V2 4)) (lm (V2 (1012 + (a * 31 + b)))) + 1 ≤ 128 from (by rw [hnab]; omega)); show ss_ + (gs (c2 4) (max (lm (V2 4)) (lm (V2 (1012 + (a * 31 + b)))) + 1)) ≤ 2 * (KX - ksum cp NB) + 2048; omega⟩ (fun rv h7640 dc7640 ds7640 H7640 locs7640 hp7640 T7640 => ?_)
                      obtain ⟨rfl, c7640, hB7640, hF7640, hw7640⟩ := hp7640
                      have hW7640 := (hW).tr hw7640
                      have hF_7640 : Fr (BO B) h h7640 := hF_7629.tr (hF7640.mono (fun _ z => z))
                      refine W.eq (g2 := F0 m 192 ls7632 []) rfl ?_
                      refine lv_aload_n hx hb dX1_drawMore_192 rfl (lv_at hl7632 1 rfl) ?_
                      have ho0_7640 : h7640 (L 0) = some (.inr (0, [.ref (L 1), .int (nI (N 0)), .ref (L 3), .int (nI (N 1)), .int (nI (N 2)), .int (nI (N 3)), .int (nI (N 4)), .int (nI (N 5)), .int (nI (N 6)), .int (nI (N 7)), .int (nI (N 8)), .ref (L 12), .ref (L 13), .ref (L 14), .ref (L 15), .ref (L 16), .ref (L 17), .int (nI (N 11)), .int (nI (N 15)), .int (nI (N 16)), .int (nI (N 17)), .int (nI (N 18) - 1), .int (nI (N 19)), .ref (L 24), .int (nI pp), .ref (L 26), .ref (L 27), .ref (if N 13 = 1 then L 27 else L 26), .ref (L 29), .ref (L 30), .ref (if N 12 = 1 then L 30 else L 29), .ref (L 32), .ref (B 0), .ref (B 1), .ref (B 2), .ref (B 3), .ref (L 37), .ref (L 38), .ref (L 39), .ref (B 4), .ref (B 5)]), L 0) := hF7640 _ _ ho0_7629 (fun ⟨i, hi, e⟩ => hLay.2 i 0 hi (by decide) e.symm)
                      refine hr_get C T7640 ho0_7640 rfl in_X1 38 (by decide) q340 rfl rfl dX1_drawMore_193 ?_
                      refine lv_iload hx hb dX1_drawMore_196 (lv_at hl7632 0 rfl) ?_
                      have ha39_7640 : h7640 (L 39) = some (.inl (E.2.1 3, 961, .inl r), L 0) := hF7640 _ _ ha39_7629 (fun ⟨i, hi, e⟩ => hLay.2 i 0 hi (by decide) e.symm)
                      refine hr_zald C T7640 ha39_7640 (by omega) (by omega) dX1_drawMore_198 ?_
                      rw [show r (a * 31 + b) = nI (su a b) from hrab]
                      refine hn_if_eq (tgt := 213) hx hb dX1_drawMore_199 (by decide) (by omega) (fun c4 => absurd c4 c3) (fun c4 => ?_)
                      refine lv_aload_n hx hb dX1_drawMore_202 rfl (lv_at hl7632 1 rfl) ?_
                      refine hr_get C T7640 ho0_7640 rfl in_X1 37 (by decide) q339 rfl rfl dX1_drawMore_203 ?_
                      refine lv_iload hx hb dX1_drawMore_206 (lv_at hl7632 0 rfl) ?_
                      have hst38x7638_7640 : h7640 (L 38) = some (.inl (E.2.1 5, 961, .inr (.inr (.inr (.inr (fun k => some (B (1012 + k))))))), L 30) := hF7640 _ _ hst38x7638 (fun ⟨i, hi, e⟩ => hLay.2 i 30 hi (by decide) e.symm)
                      refine hr_aald C T7640 5 rfl hst38x7638_7640 (by omega) (by omega) rfl dX1_drawMore_208 ?_
                      refine lv_lconst (v := lN 0) hx hb dX1_drawMore_209 rfl ?_
                      obtain ⟨ca7641, hbo7641⟩ := hB7640.o (i := 1012 + (a * 31 + b)) (show 1012 + (a * 31 + b) < 1973 by omega)
                      refine hc_V C T7640 hl7632.1 hbo7641 rfl (g_set (i := 1012 + (a * 31 + b)) hB7640 (show 1012 + (a * 31 + b) < 1973 by omega) (by decide)) q271 q272 q273 q59 q274 kd_X7_set rfl rfl ⟨Nat.le_of_ble_eq_true rfl, Nat.le_of_ble_eq_true rfl⟩ (Nat.le_of_ble_eq_true rfl) dX1_drawMore_210 ⟨by have hgw := (hW7640); have hg1 := hgw.1; have hg2 := hgw.2; have hkm := hB7640.kmax; show cc_ + dc7640 + 0 ≤ (KX - ksum cp NB) / 8 + 8; omega, by have hgw := (hW7640); have hg1 := hgw.1; have hg2 := hgw.2; have hkm := hB7640.kmax; show ss_ + ds7640 + 0 ≤ 2 * (KX - ksum cp NB) + 2048; omega⟩ (fun rv h7642 H7642 locs7642 hp7642 T7642 => ?_)
                      obtain ⟨rfl, hB7642, hF7642⟩ := hp7642
                      have hF_7642 : Fr (BO B) h h7642 := hF_7640.tr (hF7642.mono (fun _ z => z))
                      refine W.eq (g2 := F0 m 213 ls7632 []) rfl ?_
                      have hSt_7640 : Stt E L B h7640 := Stt.kept hF7640 (fun ⟨i, hi, e⟩ => hLay.2 i 30 hi (by decide) e.symm) hSt
                      have hSt_7642 : Stt E L B h7642 := Stt.kept hF7642 (fun ⟨i, hi, e⟩ => hLay.2 i 30 hi (by decide) e.symm) hSt_7640
                      have hst37x7643 := (hSt_7642).2.1
                      have hst38x7638_7642 : h7642 (L 38) = some (.inl (E.2.1 5, 961, .inr (.inr (.inr (.inr (fun k => some (B (1012 + k))))))), L 30) := hF7642 _ _ hst38x7638_7640 (fun ⟨i, hi, e⟩ => hLay.2 i 30 hi (by decide) e.symm)
                      refine lv_aload_n hx hb dX1_drawMore_213 rfl (lv_at hl7632 1 rfl) ?_
                      have ho0_7642 : h7642 (L 0) = some (.inr (0, [.ref (L 1), .int (nI (N 0)), .ref (L 3), .int (nI (N 1)), .int (nI (N 2)), .int (nI (N 3)), .int (nI (N 4)), .int (nI (N 5)), .int (nI (N 6)), .int (nI (N 7)), .int (nI (N 8)), .ref (L 12), .ref (L 13), .ref (L 14), .ref (L 15), .ref (L 16), .ref (L 17), .int (nI (N 11)), .int (nI (N 15)), .int (nI (N 16)), .int (nI (N 17)), .int (nI (N 18) - 1), .int (nI (N 19)), .ref (L 24), .int (nI pp), .ref (L 26), .ref (L 27), .ref (if N 13 = 1 then L 27 else L 26), .ref (L 29), .ref (L 30), .ref (if N 12 = 1 then L 30 else L 29), .ref (L 32), .ref (B 0), .ref (B 1), .ref (B 2), .ref (B 3), .ref (L 37), .ref (L 38), .ref (L 39), .ref (B 4), .ref (B 5)]), L 0) := hF7642 _ _ ho0_7640 (fun ⟨i, hi, e⟩ => hLay.2 i 0 hi (by decide) e.symm)
                      refine hr_get C T7642 ho0_7642 rfl in_X1 36 (by decide) q338 rfl rfl dX1_drawMore_214 ?_
                      refine lv_iload hx hb dX1_drawMore_217 (lv_at hl7632 0 rfl) ?_
                      refine hr_aald C T7642 5 rfl hst37x7643 (by omega) (by omega) rfl dX1_drawMore_219 ?_
                      refine lv_aload_n hx hb dX1_drawMore_220 rfl (lv_at hl7632 1 rfl) ?_
                      refine hr_get C T7642 ho0_7642 rfl in_X1 37 (by decide) q339 rfl rfl dX1_drawMore_221 ?_
                      refine lv_iload hx hb dX1_drawMore_224 (lv_at hl7632 0 rfl) ?_
                      refine hr_aald C T7642 5 rfl hst38x7638_7642 (by omega) (by omega) rfl dX1_drawMore_226 ?_
                      have hcv : (nu (nu V2 4 (V2 4 + V2 (1012 + (a * 31 + b)))) (1012 + (a * 31 + b)) 0) (1012 + (a * 31 + b)) = 0 := by rw [nu_s]
                      obtain ⟨ca7644, hbo7644⟩ := hB7642.o (i := 51 + (a * 31 + b)) (show 51 + (a * 31 + b) < 1973 by omega)
                      refine hg_V C T7642 hl7632.1 hbo7644 rfl (g_copy (i := 51 + (a * 31 + b)) (j := 1012 + (a * 31 + b)) hB7642 (show 51 + (a * 31 + b) < 1973 by omega) (show 1012 + (a * 31 + b) < 1973 by omega) (by omega) (by rw [hcv]; rw [lm_0]; omega)) q800 q783 q784 q59 q785 kd_X7_copy rfl rfl ⟨Nat.le_of_ble_eq_true rfl, Nat.le_of_ble_eq_true rfl⟩ (Nat.le_of_ble_eq_true rfl) dX1_drawMore_227 ⟨by have hgw := (hW7640); have hg1 := hgw.1; have hg2 := hgw.2; have hkm := hB7642.kmax; have := gc_le ((nu c2 4 c7640) (51 + (a * 31 + b))) (lm ((nu (nu V2 4 (V2 4 + V2 (1012 + (a * 31 + b)))) (1012 + (a * 31 + b)) 0) (1012 + (a * 31 + b)))); have := gs_le ((hB7642.1 (51 + (a * 31 + b)) (show 51 + (a * 31 + b) < 1973 by omega)).cap.2.2) (show lm ((nu (nu V2 4 (V2 4 + V2 (1012 + (a * 31 + b)))) (1012 + (a * 31 + b)) 0) (1012 + (a * 31 + b))) ≤ 128 from (by rw [hcv]; rw [lm_0]; omega)); show cc_ + dc7640 + (gc ((nu c2 4 c7640) (51 + (a * 31 + b))) (lm ((nu (nu V2 4 (V2 4 + V2 (1012 + (a * 31 + b)))) (1012 + (a * 31 + b)) 0) (1012 + (a * 31 + b))))) ≤ (KX - ksum cp NB) / 8 + 8; omega, by have hgw := (hW7640); have hg1 := hgw.1; have hg2 := hgw.2; have hkm := hB7642.kmax; have := gc_le ((nu c2 4 c7640) (51 + (a * 31 + b))) (lm ((nu (nu V2 4 (V2 4 + V2 (1012 + (a * 31 + b)))) (1012 + (a * 31 + b)) 0) (1012 + (a * 31 + b)))); have := gs_le ((hB7642.1 (51 + (a * 31 + b)) (show 51 + (a * 31 + b) < 1973 by omega)).cap.2.2) (show lm ((nu (nu V2 4 (V2 4 + V2 (1012 + (a * 31 + b)))) (1012 + (a * 31 + b)) 0) (1012 + (a * 31 + b))) ≤ 128 from (by rw [hcv]; rw [lm_0]; omega)); show ss_ + ds7640 + (gs ((nu c2 4 c7640) (51 + (a * 31 + b))) (lm ((nu (nu V2 4 (V2 4 + V2 (1012 + (a * 31 + b)))) (1012 + (a * 31 + b)) 0) (1012 + (a * 31 + b))))) ≤ 2 * (KX - ksum cp NB) + 2048; omega⟩ (fun rv h7645 dc7645 ds7645 H7645 locs7645 hp7645 T7645 => ?_)
                      obtain ⟨rfl, c7645, hB7645, hF7645, hw7645⟩ := hp7645
                      have hW7645 := (hW7640).tr hw7645
                      have hF_7645 : Fr (BO B) h h7645 := hF_7642.tr (hF7645.mono (fun _ z => z))
                      refine W.eq (g2 := F0 m 230 ls7632 []) rfl ?_
                      have hW9 : wy su px py (pz - px - py) (t + 1) a b = 0 := if_neg c3
                      have hT9 : tmw su px py (pz - px - py) (wy su px py (pz - px - py) t) a b = nxw px py (pz - px - py) (wy su px py (pz - px - py) t) a b := if_neg c3
                      refine lv_iinc (v := nI (b + 1)) (lv' := [(6, .int (nI (b + 1))), (7, .int (nI (a * 31 + b))), (0, .ref (L 0)), (1, .int (nI n)), (2, .int (nI px)), (3, .int (nI py)), (4, .int (nI pz)), (5, .int (nI a))]) hx hb dX1_drawMore_230 hl7632 (k := 7) rfl (nI_add b 1) (by decide) rfl (fun ls7646 hl7646 => ?_)
                      refine lv_goto (tgt := 150) hx hb dX1_drawMore_233 (by decide) ?_
                      have hSt_7645 : Stt E L B h7645 := Stt.kept hF7645 (fun ⟨i, hi, e⟩ => hLay.2 i 30 hi (by decide) e.symm) hSt_7642
                      have ho0_7645 : h7645 (L 0) = some (.inr (0, [.ref (L 1), .int (nI (N 0)), .ref (L 3), .int (nI (N 1)), .int (nI (N 2)), .int (nI (N 3)), .int (nI (N 4)), .int (nI (N 5)), .int (nI (N 6)), .int (nI (N 7)), .int (nI (N 8)), .ref (L 12), .ref (L 13), .ref (L 14), .ref (L 15), .ref (L 16), .ref (L 17), .int (nI (N 11)), .int (nI (N 15)), .int (nI (N 16)), .int (nI (N 17)), .int (nI (N 18) - 1), .int (nI (N 19)), .ref (L 24), .int (nI pp), .ref (L 26), .ref (L 27), .ref (if N 13 = 1 then L 27 else L 26), .ref (L 29), .ref (L 30), .ref (if N 12 = 1 then L 30 else L 29), .ref (L 32), .ref (B 0), .ref (B 1), .ref (B 2), .ref (B 3), .ref (L 37), .ref (L 38), .ref (L 39), .ref (B 4), .ref (B 5)]), L 0) := hF7645 _ _ ho0_7642 (fun ⟨i, hi, e⟩ => hLay.2 i 0 hi (by decide) e.symm)
                      have ha39_7642 : h7642 (L 39) = some (.inl (E.2.1 3, 961, .inl r), L 0) := hF7642 _ _ ha39_7640 (fun ⟨i, hi, e⟩ => hLay.2 i 0 hi (by decide) e.symm)
                      have ha39_7645 : h7645 (L 39) = some (.inl (E.2.1 3, 961, .inl r), L 0) := hF7645 _ _ ha39_7642 (fun ⟨i, hi, e⟩ => hLay.2 i 0 hi (by decide) e.symm)
                      exact ih7629 (b + 1) _ _ _ _ _ _ _ _ (by omega) ho0_7645 ha39_7645 (by omega) hB7645 hW7645 hSt_7645 (fun i j h1 h2 => by by_cases q : i = a ∧ j = b; (rw [q.1, q.2, nu_s, hcv, hW9]); ((repeat rw [nu_n (by omega)]); exact hdn i j h1 (by omega))) (fun i j h1 h2 => by (repeat rw [nu_n (by omega)]); exact hn2 i j h1 (by omega)) (by rw [ksum_s, hT9, nu_n (by omega), nu_n (by omega), nu_s, hs2, hnab, Nat.add_assoc]) (fun i h0 h4 h5 => by (repeat rw [nu_n (by omega)]); exact hk2 i h0 h4 h5) hF_7645 T7645 (lv_sub hl7646 [2, 3, 4, 5, 6, 7, 0] rfl)
              exact L4 (n + 2) 0 _ _ _ _ _ _ _ _ (by omega) ho0_7627 ha39_7627 (by omega) hB hW hSt hdn hn2 hs2 hk2 hF_7627 T7627 (lv_sub hl7628 [1, 2, 3, 4, 5, 6, 0] rfl)
        have hSt_7625 : Stt E L B h7625 := Stt.kept hF7625 (fun ⟨i, hi, e⟩ => hLay.2 i 30 hi (by decide) e.symm) hSt
        have ho0_7625 : h7625 (L 0) = some (.inr (0, [.ref (L 1), .int (nI (N 0)), .ref (L 3), .int (nI (N 1)), .int (nI (N 2)), .int (nI (N 3)), .int (nI (N 4)), .int (nI (N 5)), .int (nI (N 6)), .int (nI (N 7)), .int (nI (N 8)), .ref (L 12), .ref (L 13), .ref (L 14), .ref (L 15), .ref (L 16), .ref (L 17), .int (nI (N 11)), .int (nI (N 15)), .int (nI (N 16)), .int (nI (N 17)), .int (nI (N 18) - 1), .int (nI (N 19)), .ref (L 24), .int (nI pp), .ref (L 26), .ref (L 27), .ref (if N 13 = 1 then L 27 else L 26), .ref (L 29), .ref (L 30), .ref (if N 12 = 1 then L 30 else L 29), .ref (L 32), .ref (B 0), .ref (B 1), .ref (B 2), .ref (B 3), .ref (L 37), .ref (L 38), .ref (L 39), .ref (B 4), .ref (B 5)]), L 0) := hF7625 _ _ ho0_7602 (fun ⟨i, hi, e⟩ => hLay.2 i 0 hi (by decide) e.symm)
        have ha39_7625 : h7625 (L 39) = some (.inl (E.2.1 3, 961, .inl r), L 0) := hF7625 _ _ ha39_7602 (fun ⟨i, hi, e⟩ => hLay.2 i 0 hi (by decide) e.symm)
        exact L3 (n + 2) 0 _ _ _ _ _ _ _ _ (by omega) ho0_7625 ha39_7625 (Nat.zero_le _) hB7625 hW7625 hSt_7625 (fun i j h1 h2 => absurd h2 (by omega)) (fun i j h1 h2 => by rw [nu_n (by omega)]; exact hnxB i j h1) (by rw [nu_s, hkp 4 (by decide) (by decide), hsum, ksum_0, ksum_0, hzq]; rfl) (fun i h0 h4 h5 => by rw [nu_n h4]; exact hkp i (by omega) (by omega)) hF_7625 T7625 (lv_sub hl7626 [1, 2, 3, 4, 5, 0] rfl)
      · refine lv_iconst (v := nI 0) hx hb dX1_drawMore_9 rfl ?_
        refine lv_istore (lv' := [(6, .int (nI 0)), (0, .ref (L 0)), (1, .int (nI n)), (2, .int (nI px)), (3, .int (nI py)), (4, .int (nI pz)), (5, .int (nI a))]) hx hb dX1_drawMore_10 hl7602 (by decide) rfl (fun ls7603 hl7603 => ?_)
        have L2 : ∀ (j2 : Nat) (b : Nat) (V2 c2 : Nat → Nat) (cc_ ss_ : Nat) (h7604 : HH) (H7604 : Heap) (locs7604 : List Loc) (ls7604 : Array Slot), (n + 2 ≤ b + j2) → (h7604 (L 0) = some (.inr (0, [.ref (L 1), .int (nI (N 0)), .ref (L 3), .int (nI (N 1)), .int (nI (N 2)), .int (nI (N 3)), .int (nI (N 4)), .int (nI (N 5)), .int (nI (N 6)), .int (nI (N 7)), .int (nI (N 8)), .ref (L 12), .ref (L 13), .ref (L 14), .ref (L 15), .ref (L 16), .ref (L 17), .int (nI (N 11)), .int (nI (N 15)), .int (nI (N 16)), .int (nI (N 17)), .int (nI (N 18) - 1), .int (nI (N 19)), .ref (L 24), .int (nI pp), .ref (L 26), .ref (L 27), .ref (if N 13 = 1 then L 27 else L 26), .ref (L 29), .ref (L 30), .ref (if N 12 = 1 then L 30 else L 29), .ref (L 32), .ref (B 0), .ref (B 1), .ref (B 2), .ref (B 3), .ref (L 37), .ref (L 38), .ref (L 39), .ref (B 4), .ref (B 5)]), L 0)) → (h7604 (L 39) = some (.inl (E.2.1 3, 961, .inl r), L 0)) → (a + b ≤ n + 1) → (Bgs E h7604 B V2 c2) → (Gw cp c2 cc_ ss_) → (Stt E L B h7604) → (∀ i j, i + j ≤ n → (i < a ∨ (i = a ∧ j < b)) → V2 (1012 + (i * 31 + j)) = nxw px py (pz - px - py) (wy su px py (pz - px - py) t) i j) → (∀ i, 0 < i → i < 1012 → V2 i = V i) → (Fr (BO B) h h7604) → (St E s h7604 H7604 locs7604) → (lv_has ls7604 8 [(0, .ref (L 0)), (1, .int (nI n)), (2, .int (nI px)), (3, .int (nI py)), (4, .int (nI pz)), (5, .int (nI a)), (6, .int (nI b))]) → W p l e ({ frames := 4, cells := (KX - ksum cp NB) / 8 + 8, slots := 2 * (KX - ksum cp NB) + 2048, locals := 600 } : Room) s m ([.ref (L 0), .int (nI n), .int (nI px), .int (nI py), .int (nI pz)] : List Value).toArray below meth c H7604 locs7604 cc_ ss_ Q (F0 m 12 ls7604 []) := by
          intro j2
          induction j2 with
          | zero => intro b V2 c2 cc_ ss_ h7604 H7604 locs7604 ls7604 hm7604 ho0_7604 ha39_7604 hb0 hB hW hSt hnx hkp hF_7604 T7604 hl7604; exact absurd hm7604 (by omega)
          | succ j2 ih7604 =>
            intro b V2 c2 cc_ ss_ h7604 H7604 locs7604 ls7604 hm7604 ho0_7604 ha39_7604 hb0 hB hW hSt hnx hkp hF_7604 T7604 hl7604
            refine lv_iload hx hb dX1_drawMore_12 (lv_at hl7604 5 rfl) ?_
            refine lv_iload hx hb dX1_drawMore_14 (lv_at hl7604 6 rfl) ?_
            refine hn_iadd hx hb dX1_drawMore_16 ?_
            refine lv_iload_n hx hb dX1_drawMore_17 rfl (lv_at hl7604 1 rfl) ?_
            refine hn_icmp_gt (tgt := 123) hx hb dX1_drawMore_18 (by decide) (by omega) (by omega) (fun g2 => ?_) (fun g2 => ?_)
            · refine lv_iinc (v := nI (a + 1)) (lv' := [(5, .int (nI (a + 1))), (0, .ref (L 0)), (1, .int (nI n)), (2, .int (nI px)), (3, .int (nI py)), (4, .int (nI pz)), (6, .int (nI b))]) hx hb dX1_drawMore_123 hl7604 (k := 5) rfl (nI_add a 1) (by decide) rfl (fun ls7605 hl7605 => ?_)
              refine lv_goto (tgt := 3) hx hb dX1_drawMore_126 (by decide) ?_
              exact ih7602 (a + 1) _ _ _ _ _ _ _ _ (by omega) ho0_7604 ha39_7604 (by omega) hB hW hSt (fun i j h1 h2 => hnx i j h1 (by omega)) hkp hF_7604 T7604 (lv_sub hl7605 [1, 2, 3, 4, 5, 0] rfl)
            · have hW1 : V (51 + (a * 31 + b)) = (wy su px py (pz - px - py) t) a b := hway a b (by omega)
              have hst38x7606 := (hSt).2.2.1
              have hst37x7607 := (hSt).2.1
              refine lv_aload_n hx hb dX1_drawMore_21 rfl (lv_at hl7604 0 rfl) ?_
              refine hr_get C T7604 ho0_7604 rfl in_X1 37 (by decide) q339 rfl rfl dX1_drawMore_22 ?_
              refine lv_iload hx hb dX1_drawMore_25 (lv_at hl7604 5 rfl) ?_
              refine lv_iload hx hb dX1_drawMore_27 (lv_at hl7604 6 rfl) ?_
              refine hp_S C T7604 hl7604.1 (p_X1_at) q907 q908 q53 q909 kd_X1_at rfl rfl ⟨Nat.le_of_ble_eq_true rfl, Nat.le_of_ble_eq_true rfl⟩ (Nat.le_of_ble_eq_true rfl) dX1_drawMore_29 ⟨by have hgw := (hW); have hg1 := hgw.1; have hg2 := hgw.2; have hkm := hB.kmax; show cc_ + 0 ≤ (KX - ksum cp NB) / 8 + 8; omega, by have hgw := (hW); have hg1 := hgw.1; have hg2 := hgw.2; have hkm := hB.kmax; show ss_ + 0 ≤ 2 * (KX - ksum cp NB) + 2048; omega⟩ (fun rv H7608 hp7608 T7608 => ?_)
              obtain rfl := hp7608
              refine W.eq (g2 := F0 m 32 ls7604 [.int (nI (a * 31 + b)), .ref (L 38)]) rfl ?_
              refine hr_aald C T7608 5 rfl hst38x7606 (by omega) (by omega) rfl dX1_drawMore_32 ?_
              refine lv_astore (lv' := [(7, .ref (B (1012 + (a * 31 + b)))), (0, .ref (L 0)), (1, .int (nI n)), (2, .int (nI px)), (3, .int (nI py)), (4, .int (nI pz)), (5, .int (nI a)), (6, .int (nI b))]) hx hb dX1_drawMore_33 hl7604 (by decide) rfl (fun ls7609 hl7609 => ?_)
              refine lv_aload hx hb dX1_drawMore_35 (lv_at hl7609 0 rfl) ?_
              refine lv_lconst (v := lN 0) hx hb dX1_drawMore_37 rfl ?_
              obtain ⟨ca7610, hbo7610⟩ := hB.o (i := 1012 + (a * 31 + b)) (show 1012 + (a * 31 + b) < 1973 by omega)
              refine hc_V C T7608 hl7609.1 hbo7610 rfl (g_set (i := 1012 + (a * 31 + b)) hB (show 1012 + (a * 31 + b) < 1973 by omega) (by decide)) q271 q272 q273 q59 q274 kd_X7_set rfl rfl ⟨Nat.le_of_ble_eq_true rfl, Nat.le_of_ble_eq_true rfl⟩ (Nat.le_of_ble_eq_true rfl) dX1_drawMore_38 ⟨by have hgw := (hW); have hg1 := hgw.1; have hg2 := hgw.2; have hkm := hB.kmax; show cc_ + 0 ≤ (KX - ksum cp NB) / 8 + 8; omega, by have hgw := (hW); have hg1 := hgw.1; have hg2 := hgw.2; have hkm := hB.kmax; show ss_ + 0 ≤ 2 * (KX - ksum cp NB) + 2048; omega⟩ (fun rv h7611 H7611 locs7611 hp7611 T7611 => ?_)
              obtain ⟨rfl, hB7611, hF7611⟩ := hp7611
              have hF_7611 : Fr (BO B) h h7611 := hF_7604.tr (hF7611.mono (fun _ z => z))
              refine W.eq (g2 := F0 m 41 ls7609 []) rfl ?_
              refine lv_aload_n hx hb dX1_drawMore_41 rfl (lv_at hl7609 1 rfl) ?_
              refine lv_aload hx hb dX1_drawMore_42 (lv_at hl7609 0 rfl) ?_
              refine lv_aload_n hx hb dX1_drawMore_44 rfl (lv_at hl7609 1 rfl) ?_
              have ho0_7611 : h7611 (L 0) = some (.inr (0, [.ref (L 1), .int (nI (N 0)), .ref (L 3), .int (nI (N 1)), .int (nI (N 2)), .int (nI (N 3)), .int (nI (N 4)), .int (nI (N 5)), .int (nI (N 6)), .int (nI (N 7)), .int (nI (N 8)), .ref (L 12), .ref (L 13), .ref (L 14), .ref (L 15), .ref (L 16), .ref (L 17), .int (nI (N 11)), .int (nI (N 15)), .int (nI (N 16)), .int (nI (N 17)), .int (nI (N 18) - 1), .int (nI (N 19)), .ref (L 24), .int (nI pp), .ref (L 26), .ref (L 27), .ref (if N 13 = 1 then L 27 else L 26), .ref (L 29), .ref (L 30), .ref (if N 12 = 1 then L 30 else L 29), .ref (L 32), .ref (B 0), .ref (B 1), .ref (B 2), .ref (B 3), .ref (L 37), .ref (L 38), .ref (L 39), .ref (B 4), .ref (B 5)]), L 0) := hF7611 _ _ ho0_7604 (fun ⟨i, hi, e⟩ => hLay.2 i 0 hi (by decide) e.symm)
              refine hr_get C T7611 ho0_7611 rfl in_X1 36 (by decide) q338 rfl rfl dX1_drawMore_45 ?_
              refine lv_iload hx hb dX1_drawMore_48 (lv_at hl7609 6 rfl) ?_
              refine lv_iload hx hb dX1_drawMore_50 (lv_at hl7609 7 rfl) ?_
              refine hp_S C T7611 hl7609.1 (p_X1_at) q907 q908 q53 q909 kd_X1_at rfl rfl ⟨Nat.le_of_ble_eq_true rfl, Nat.le_of_ble_eq_true rfl⟩ (Nat.le_of_ble_eq_true rfl) dX1_drawMore_52 ⟨by have hgw := (hW); have hg1 := hgw.1; have hg2 := hgw.2; have hkm := hB7611.kmax; show cc_ + 0 ≤ (KX - ksum cp NB) / 8 + 8; omega, by have hgw := (hW); have hg1 := hgw.1; have hg2 := hgw.2; have hkm := hB7611.kmax; show ss_ + 0 ≤ 2 * (KX - ksum cp NB) + 2048; omega⟩ (fun rv H7612 hp7612 T7612 => ?_)
              obtain rfl := hp7612
              refine W.eq (g2 := F0 m 55 ls7609 [.int (nI (a * 31 + b)), .ref (L 37), .ref (B (1012 + (a * 31 + b))), .ref (L 0)]) rfl ?_
              have hst37x7607_7611 : h7611 (L 37) = some (.inl (E.2.1 5, 961, .inr (.inr (.inr (.inr (fun k => some (B (51 + k))))))), L 30) := hF7611 _ _ hst37x7607 (fun ⟨i, hi, e⟩ => hLay.2 i 30 hi (by decide) e.symm)
              refine hr_aald C T7612 5 rfl hst37x7607_7611 (by omega) (by omega) rfl dX1_drawMore_55 ?_
              refine lv_iload hx hb dX1_drawMore_56 (lv_at hl7609 5 rfl) ?_
              refine lv_iload_n hx hb dX1_drawMore_58 rfl (lv_at hl7609 3 rfl) ?_
              refine hn_isub hx hb dX1_drawMore_59 (by omega) ?_
              refine lv_iload_n hx hb dX1_drawMore_60 rfl (lv_at hl7609 4 rfl) ?_
              refine hn_isub hx hb dX1_drawMore_61 (by omega) ?_
              have hs0 : (nu V2 (1012 + (a * 31 + b)) 0) (1012 + (a * 31 + b)) = 0 := by rw [nu_s]
              have hs1 : (nu V2 (1012 + (a * 31 + b)) 0) (51 + (a * 31 + b)) = (wy su px py (pz - px - py) t) a b := by rw [nu_n (by omega), hkp _ (by omega) (by omega), hW1]
              have hsk : ∀ i, i ≠ 0 → i ≠ 1012 + (a * 31 + b) → (nu V2 (1012 + (a * 31 + b)) 0) i = V2 i := fun i _ h1 => by rw [nu_n h1]
              refine hg_V C T7612 hl7609.1 ho0_7611 rfl (m_X1_more hLay hB7611 ho0_7611 (i := 1012 + (a * 31 + b)) (k := 51 + (a * 31 + b)) (v := (pz - px - py)) (show 1012 + (a * 31 + b) < 1973 by omega) (show 51 + (a * 31 + b) < 1973 by omega) (by omega) (by omega) (by omega) (by rw [hs1]; have := b16 (wy16 su px py (pz - px - py) t a b (by omega) hzz); omega) (by rw [hs1, hs0]; have h1 := b16 (wy16 su px py (pz - px - py) t a b (by omega) hzz); have h2 := lm_mul1 (a := (wy su px py (pz - px - py) t) a b) (v := (pz - px - py)) (by omega); have h3 : lm (0) ≤ 16 := b16 (Nat.le_trans (by unfold nxw; (repeat' split) <;> omega) (nx16 su px py (pz - px - py) t a b ht hzz)); omega)) q915 q917 qs17 q53 q918 kd_X1_more rfl rfl ⟨Nat.le_of_ble_eq_true rfl, Nat.le_of_ble_eq_true rfl⟩ (Nat.le_of_ble_eq_true rfl) dX1_drawMore_62 ⟨by have hgw := (hW); have hg1 := hgw.1; have hg2 := hgw.2; have hkm := hB7611.kmax; show cc_ + ((KX - ksum c2 NB) / 8 + 8) ≤ (KX - ksum cp NB) / 8 + 8; omega, by have hgw := (hW); have hg1 := hgw.1; have hg2 := hgw.2; have hkm := hB7611.kmax; show ss_ + (2 * (KX - ksum c2 NB) + 2048) ≤ 2 * (KX - ksum cp NB) + 2048; omega⟩ (fun rv h7613 dc7613 ds7613 H7613 locs7613 hp7613 T7613 => ?_)
              obtain ⟨rfl, V7613, c7613, hB7613, hk7613, ho7613, hF7613, hw7613⟩ := hp7613
              have hW7613 := (hW).tr hw7613
              have hF_7613 : Fr (BO B) h h7613 := hF_7611.tr (hF7613.mono (fun _ z => z))
              refine W.eq (g2 := F0 m 65 ls7609 []) rfl ?_
              rw [hs1, hs0] at hk7613
              rw [Nat.zero_add] at hk7613
              have hk1_ : ∀ i, i ≠ 0 → i ≠ 1012 + (a * 31 + b) → V7613 i = V2 i := fun i h0 h1 => (ho7613 i h0 h1).trans (hsk i h0 h1)
              refine lv_iload hx hb dX1_drawMore_65 (lv_at hl7609 6 rfl) ?_
              refine hn_if_le (tgt := 91) hx hb dX1_drawMore_67 (by decide) (by omega) (fun c3 => ?_) (fun c3 => ?_)
              · refine lv_iload hx hb dX1_drawMore_91 (lv_at hl7609 7 rfl) ?_
                refine hn_if_le (tgt := 117) hx hb dX1_drawMore_93 (by decide) (by omega) (fun c4 => ?_) (fun c4 => ?_)
                · refine lv_iinc (v := nI (b + 1)) (lv' := [(6, .int (nI (b + 1))), (7, .ref (B (1012 + (a * 31 + b)))), (0, .ref (L 0)), (1, .int (nI n)), (2, .int (nI px)), (3, .int (nI py)), (4, .int (nI pz)), (5, .int (nI a))]) hx hb dX1_drawMore_117 hl7609 (k := 7) rfl (nI_add b 1) (by decide) rfl (fun ls7614 hl7614 => ?_)
                  refine lv_goto (tgt := 12) hx hb dX1_drawMore_120 (by decide) ?_
                  have hfin : V7613 (1012 + (a * 31 + b)) = nxw px py (pz - px - py) (wy su px py (pz - px - py) t) a b := by rw [hk7613]; unfold nxw; rw [if_neg (show ¬ 0 < a by omega), Nat.add_zero, if_neg (show ¬ 0 < b by omega), Nat.add_zero]
                  have hSt_7611 : Stt E L B h7611 := Stt.kept hF7611 (fun ⟨i, hi, e⟩ => hLay.2 i 30 hi (by decide) e.symm) hSt
                  have hSt_7613 : Stt E L B h7613 := Stt.kept hF7613 (fun ⟨i, hi, e⟩ => hLay.2 i 30 hi (by decide) e.symm) hSt_7611
                  have ho0_7613 : h7613 (L 0) = some (.inr (0, [.ref (L 1), .int (nI (N 0)), .ref (L 3), .int (nI (N 1)), .int (nI (N 2)), .int (nI (N 3)), .int (nI (N 4)), .int (nI (N 5)), .int (nI (N 6)), .int (nI (N 7)), .int (nI (N 8)), .ref (L 12), .ref (L 13), .ref (L 14), .ref (L 15), .ref (L 16), .ref (L 17), .int (nI (N 11)), .int (nI (N 15)), .int (nI (N 16)), .int (nI (N 17)), .int (nI (N 18) - 1), .int (nI (N 19)), .ref (L 24), .int (nI pp), .ref (L 26), .ref (L 27), .ref (if N 13 = 1 then L 27 else L 26), .ref (L 29), .ref (L 30), .ref (if N 12 = 1 then L 30 else L 29), .ref (L 32), .ref (B 0), .ref (B 1), .ref (B 2), .ref (B 3), .ref (L 37), .ref (L 38), .ref (L 39), .ref (B 4), .ref (B 5)]), L 0) := hF7613 _ _ ho0_7611 (fun ⟨i, hi, e⟩ => hLay.2 i 0 hi (by decide) e.symm)
                  have ha39_7611 : h7611 (L 39) = some (.inl (E.2.1 3, 961, .inl r), L 0) := hF7611 _ _ ha39_7604 (fun ⟨i, hi, e⟩ => hLay.2 i 0 hi (by decide) e.symm)
                  have ha39_7613 : h7613 (L 39) = some (.inl (E.2.1 3, 961, .inl r), L 0) := hF7613 _ _ ha39_7611 (fun ⟨i, hi, e⟩ => hLay.2 i 0 hi (by decide) e.symm)
                  exact ih7604 (b + 1) _ _ _ _ _ _ _ _ (by omega) ho0_7613 ha39_7613 (by omega) hB7613 hW7613 hSt_7613 (fun i j h1 h2 => by by_cases q : i = a ∧ j = b; (rw [q.1, q.2]; exact hfin); (rw [hk1_ _ (by omega) (by omega)]; exact hnx i j h1 (by omega))) (fun i h1 h2 => by rw [hk1_ _ (by omega) (by omega)]; exact hkp i h1 h2) hF_7613 T7613 (lv_sub hl7614 [2, 3, 4, 5, 6, 7, 0] rfl)
                · have hW3 : V7613 (51 + (a * 31 + (b - 1))) = (wy su px py (pz - px - py) t) a (b - 1) := by rw [hk1_ _ (by omega) (by omega), hkp _ (by omega) (by omega)]; exact hway a (b - 1) (by omega)
                  refine lv_aload_n hx hb dX1_drawMore_96 rfl (lv_at hl7609 1 rfl) ?_
                  refine lv_aload hx hb dX1_drawMore_97 (lv_at hl7609 0 rfl) ?_
                  refine lv_aload_n hx hb dX1_drawMore_99 rfl (lv_at hl7609 1 rfl) ?_
                  have ho0_7613 : h7613 (L 0) = some (.inr (0, [.ref (L 1), .int (nI (N 0)), .ref (L 3), .int (nI (N 1)), .int (nI (N 2)), .int (nI (N 3)), .int (nI (N 4)), .int (nI (N 5)), .int (nI (N 6)), .int (nI (N 7)), .int (nI (N 8)), .ref (L 12), .ref (L 13), .ref (L 14), .ref (L 15), .ref (L 16), .ref (L 17), .int (nI (N 11)), .int (nI (N 15)), .int (nI (N 16)), .int (nI (N 17)), .int (nI (N 18) - 1), .int (nI (N 19)), .ref (L 24), .int (nI pp), .ref (L 26), .ref (L 27), .ref (if N 13 = 1 then L 27 else L 26), .ref (L 29), .ref (L 30), .ref (if N 12 = 1 then L 30 else L 29), .ref (L 32), .ref (B 0), .ref (B 1), .ref (B 2), .ref (B 3), .ref (L 37), .ref (L 38), .ref (L 39), .ref (B 4), .ref (B 5)]), L 0) := hF7613 _ _ ho0_7611 (fun ⟨i, hi, e⟩ => hLay.2 i 0 hi (by decide) e.symm)
                  refine hr_get C T7613 ho0_7613 rfl in_X1 36 (by decide) q338 rfl rfl dX1_drawMore_100 ?_
                  refine lv_iload hx hb dX1_drawMore_103 (lv_at hl7609 6 rfl) ?_
                  refine lv_iload hx hb dX1_drawMore_105 (lv_at hl7609 7 rfl) ?_
                  refine lv_iconst (v := nI 1) hx hb dX1_drawMore_107 rfl ?_
                  refine hn_isub hx hb dX1_drawMore_108 (by omega) ?_
                  refine hp_S C T7613 hl7609.1 (p_X1_at) q907 q908 q53 q909 kd_X1_at rfl rfl ⟨Nat.le_of_ble_eq_true rfl, Nat.le_of_ble_eq_true rfl⟩ (Nat.le_of_ble_eq_true rfl) dX1_drawMore_109 ⟨by have hgw := (hW7613); have hg1 := hgw.1; have hg2 := hgw.2; have hkm := hB7613.kmax; show cc_ + dc7613 + 0 ≤ (KX - ksum cp NB) / 8 + 8; omega, by have hgw := (hW7613); have hg1 := hgw.1; have hg2 := hgw.2; have hkm := hB7613.kmax; show ss_ + ds7613 + 0 ≤ 2 * (KX - ksum cp NB) + 2048; omega⟩ (fun rv H7615 hp7615 T7615 => ?_)
                  obtain rfl := hp7615
                  refine W.eq (g2 := F0 m 112 ls7609 [.int (nI (a * 31 + (b - 1))), .ref (L 37), .ref (B (1012 + (a * 31 + b))), .ref (L 0)]) rfl ?_
                  have hst37x7607_7613 : h7613 (L 37) = some (.inl (E.2.1 5, 961, .inr (.inr (.inr (.inr (fun k => some (B (51 + k))))))), L 30) := hF7613 _ _ hst37x7607_7611 (fun ⟨i, hi, e⟩ => hLay.2 i 30 hi (by decide) e.symm)
                  refine hr_aald C T7615 5 rfl hst37x7607_7613 (by omega) (by omega) rfl dX1_drawMore_112 ?_
                  refine lv_iload_n hx hb dX1_drawMore_113 rfl (lv_at hl7609 4 rfl) ?_
                  refine hg_V C T7615 hl7609.1 ho0_7613 rfl (m_X1_more hLay hB7613 ho0_7613 (i := 1012 + (a * 31 + b)) (k := 51 + (a * 31 + (b - 1))) (v := py) (show 1012 + (a * 31 + b) < 1973 by omega) (show 51 + (a * 31 + (b - 1)) < 1973 by omega) (by omega) (by omega) (by omega) (by rw [hW3]; have := b16 (wy16 su px py (pz - px - py) t a (b - 1) (by omega) hzz); omega) (by rw [hW3, hk7613]; have h1 := b16 (wy16 su px py (pz - px - py) t a (b - 1) (by omega) hzz); have h2 := lm_mul1 (a := (wy su px py (pz - px - py) t) a (b - 1)) (v := py) (by omega); have h3 : lm ((wy su px py (pz - px - py) t) a b * (pz - px - py)) ≤ 16 := b16 (Nat.le_trans (by unfold nxw; (repeat' split) <;> omega) (nx16 su px py (pz - px - py) t a b ht hzz)); omega)) q915 q917 qs17 q53 q918 kd_X1_more rfl rfl ⟨Nat.le_of_ble_eq_true rfl, Nat.le_of_ble_eq_true rfl⟩ (Nat.le_of_ble_eq_true rfl) dX1_drawMore_114 ⟨by have hgw := (hW7613); have hg1 := hgw.1; have hg2 := hgw.2; have hkm := hB7613.kmax; show cc_ + dc7613 + ((KX - ksum c7613 NB) / 8 + 8) ≤ (KX - ksum cp NB) / 8 + 8; omega, by have hgw := (hW7613); have hg1 := hgw.1; have hg2 := hgw.2; have hkm := hB7613.kmax; show ss_ + ds7613 + (2 * (KX - ksum c7613 NB) + 2048) ≤ 2 * (KX - ksum cp NB) + 2048; omega⟩ (fun rv h7616 dc7616 ds7616 H7616 locs7616 hp7616 T7616 => ?_)
                  obtain ⟨rfl, V7616, c7616, hB7616, hk7616, ho7616, hF7616, hw7616⟩ := hp7616
                  have hW7616 := (hW7613).tr hw7616
                  have hF_7616 : Fr (BO B) h h7616 := hF_7613.tr (hF7616.mono (fun _ z => z))
                  refine W.eq (g2 := F0 m 117 ls7609 []) rfl ?_
                  rw [hW3, hk7613] at hk7616
                  have hk3_ : ∀ i, i ≠ 0 → i ≠ 1012 + (a * 31 + b) → V7616 i = V2 i := fun i h0 h1 => (ho7616 i h0 h1).trans (hk1_ i h0 h1)
                  refine lv_iinc (v := nI (b + 1)) (lv' := [(6, .int (nI (b + 1))), (7, .ref (B (1012 + (a * 31 + b)))), (0, .ref (L 0)), (1, .int (nI n)), (2, .int (nI px)), (3, .int (nI py)), (4, .int (nI pz)), (5, .int (nI a))]) hx hb dX1_drawMore_117 hl7609 (k := 7) rfl (nI_add b 1) (by decide) rfl (fun ls7617 hl7617 => ?_)
                  refine lv_goto (tgt := 12) hx hb dX1_drawMore_120 (by decide) ?_
                  have hfin : V7616 (1012 + (a * 31 + b)) = nxw px py (pz - px - py) (wy su px py (pz - px - py) t) a b := by rw [hk7616]; unfold nxw; rw [if_neg (show ¬ 0 < a by omega), Nat.add_zero, if_pos (show 0 < b by omega)]
                  have hSt_7611 : Stt E L B h7611 := Stt.kept hF7611 (fun ⟨i, hi, e⟩ => hLay.2 i 30 hi (by decide) e.symm) hSt
                  have hSt_7613 : Stt E L B h7613 := Stt.kept hF7613 (fun ⟨i, hi, e⟩ => hLay.2 i 30 hi (by decide) e.symm) hSt_7611
                  have hSt_7616 : Stt E L B h7616 := Stt.kept hF7616 (fun ⟨i, hi, e⟩ => hLay.2 i 30 hi (by decide) e.symm) hSt_7613
                  have ho0_7616 : h7616 (L 0) = some (.inr (0, [.ref (L 1), .int (nI (N 0)), .ref (L 3), .int (nI (N 1)), .int (nI (N 2)), .int (nI (N 3)), .int (nI (N 4)), .int (nI (N 5)), .int (nI (N 6)), .int (nI (N 7)), .int (nI (N 8)), .ref (L 12), .ref (L 13), .ref (L 14), .ref (L 15), .ref (L 16), .ref (L 17), .int (nI (N 11)), .int (nI (N 15)), .int (nI (N 16)), .int (nI (N 17)), .int (nI (N 18) - 1), .int (nI (N 19)), .ref (L 24), .int (nI pp), .ref (L 26), .ref (L 27), .ref (if N 13 = 1 then L 27 else L 26), .ref (L 29), .ref (L 30), .ref (if N 12 = 1 then L 30 else L 29), .ref (L 32), .ref (B 0), .ref (B 1), .ref (B 2), .ref (B 3), .ref (L 37), .ref (L 38), .ref (L 39), .ref (B 4), .ref (B 5)]), L 0) := hF7616 _ _ ho0_7613 (fun ⟨i, hi, e⟩ => hLay.2 i 0 hi (by decide) e.symm)
                  have ha39_7611 : h7611 (L 39) = some (.inl (E.2.1 3, 961, .inl r), L 0) := hF7611 _ _ ha39_7604 (fun ⟨i, hi, e⟩ => hLay.2 i 0 hi (by decide) e.symm)
                  have ha39_7613 : h7613 (L 39) = some (.inl (E.2.1 3, 961, .inl r), L 0) := hF7613 _ _ ha39_7611 (fun ⟨i, hi, e⟩ => hLay.2 i 0 hi (by decide) e.symm)
                  have ha39_7616 : h7616 (L 39) = some (.inl (E.2.1 3, 961, .inl r), L 0) := hF7616 _ _ ha39_7613 (fun ⟨i, hi, e⟩ => hLay.2 i 0 hi (by decide) e.symm)
                  exact ih7604 (b + 1) _ _ _ _ _ _ _ _ (by omega) ho0_7616 ha39_7616 (by omega) hB7616 hW7616 hSt_7616 (fun i j h1 h2 => by by_cases q : i = a ∧ j = b; (rw [q.1, q.2]; exact hfin); (rw [hk3_ _ (by omega) (by omega)]; exact hnx i j h1 (by omega))) (fun i h1 h2 => by rw [hk3_ _ (by omega) (by omega)]; exact hkp i h1 h2) hF_7616 T7616 (lv_sub hl7617 [2, 3, 4, 5, 6, 7, 0] rfl)
              · have hW2 : V7613 (51 + ((a - 1) * 31 + b)) = (wy su px py (pz - px - py) t) (a - 1) b := by rw [hk1_ _ (by omega) (by omega), hkp _ (by omega) (by omega)]; exact hway (a - 1) b (by omega)
                refine lv_aload_n hx hb dX1_drawMore_70 rfl (lv_at hl7609 1 rfl) ?_
                refine lv_aload hx hb dX1_drawMore_71 (lv_at hl7609 0 rfl) ?_
                refine lv_aload_n hx hb dX1_drawMore_73 rfl (lv_at hl7609 1 rfl) ?_
                have ho0_7613 : h7613 (L 0) = some (.inr (0, [.ref (L 1), .int (nI (N 0)), .ref (L 3), .int (nI (N 1)), .int (nI (N 2)), .int (nI (N 3)), .int (nI (N 4)), .int (nI (N 5)), .int (nI (N 6)), .int (nI (N 7)), .int (nI (N 8)), .ref (L 12), .ref (L 13), .ref (L 14), .ref (L 15), .ref (L 16), .ref (L 17), .int (nI (N 11)), .int (nI (N 15)), .int (nI (N 16)), .int (nI (N 17)), .int (nI (N 18) - 1), .int (nI (N 19)), .ref (L 24), .int (nI pp), .ref (L 26), .ref (L 27), .ref (if N 13 = 1 then L 27 else L 26), .ref (L 29), .ref (L 30), .ref (if N 12 = 1 then L 30 else L 29), .ref (L 32), .ref (B 0), .ref (B 1), .ref (B 2), .ref (B 3), .ref (L 37), .ref (L 38), .ref (L 39), .ref (B 4), .ref (B 5)]), L 0) := hF7613 _ _ ho0_7611 (fun ⟨i, hi, e⟩ => hLay.2 i 0 hi (by decide) e.symm)
                refine hr_get C T7613 ho0_7613 rfl in_X1 36 (by decide) q338 rfl rfl dX1_drawMore_74 ?_
                refine lv_iload hx hb dX1_drawMore_77 (lv_at hl7609 6 rfl) ?_
                refine lv_iconst (v := nI 1) hx hb dX1_drawMore_79 rfl ?_
                refine hn_isub hx hb dX1_drawMore_80 (by omega) ?_
                refine lv_iload hx hb dX1_drawMore_81 (lv_at hl7609 7 rfl) ?_
                refine hp_S C T7613 hl7609.1 (p_X1_at) q907 q908 q53 q909 kd_X1_at rfl rfl ⟨Nat.le_of_ble_eq_true rfl, Nat.le_of_ble_eq_true rfl⟩ (Nat.le_of_ble_eq_true rfl) dX1_drawMore_83 ⟨by have hgw := (hW7613); have hg1 := hgw.1; have hg2 := hgw.2; have hkm := hB7613.kmax; show cc_ + dc7613 + 0 ≤ (KX - ksum cp NB) / 8 + 8; omega, by have hgw := (hW7613); have hg1 := hgw.1; have hg2 := hgw.2; have hkm := hB7613.kmax; show ss_ + ds7613 + 0 ≤ 2 * (KX - ksum cp NB) + 2048; omega⟩ (fun rv H7618 hp7618 T7618 => ?_)
                obtain rfl := hp7618
                refine W.eq (g2 := F0 m 86 ls7609 [.int (nI ((a - 1) * 31 + b)), .ref (L 37), .ref (B (1012 + (a * 31 + b))), .ref (L 0)]) rfl ?_
                have hst37x7607_7613 : h7613 (L 37) = some (.inl (E.2.1 5, 961, .inr (.inr (.inr (.inr (fun k => some (B (51 + k))))))), L 30) := hF7613 _ _ hst37x7607_7611 (fun ⟨i, hi, e⟩ => hLay.2 i 30 hi (by decide) e.symm)
                refine hr_aald C T7618 5 rfl hst37x7607_7613 (by omega) (by omega) rfl dX1_drawMore_86 ?_
                refine lv_iload_n hx hb dX1_drawMore_87 rfl (lv_at hl7609 3 rfl) ?_
                refine hg_V C T7618 hl7609.1 ho0_7613 rfl (m_X1_more hLay hB7613 ho0_7613 (i := 1012 + (a * 31 + b)) (k := 51 + ((a - 1) * 31 + b)) (v := px) (show 1012 + (a * 31 + b) < 1973 by omega) (show 51 + ((a - 1) * 31 + b) < 1973 by omega) (by omega) (by omega) (by omega) (by rw [hW2]; have := b16 (wy16 su px py (pz - px - py) t (a - 1) b (by omega) hzz); omega) (by rw [hW2, hk7613]; have h1 := b16 (wy16 su px py (pz - px - py) t (a - 1) b (by omega) hzz); have h2 := lm_mul1 (a := (wy su px py (pz - px - py) t) (a - 1) b) (v := px) (by omega); have h3 : lm ((wy su px py (pz - px - py) t) a b * (pz - px - py)) ≤ 16 := b16 (Nat.le_trans (by unfold nxw; (repeat' split) <;> omega) (nx16 su px py (pz - px - py) t a b ht hzz)); omega)) q915 q917 qs17 q53 q918 kd_X1_more rfl rfl ⟨Nat.le_of_ble_eq_true rfl, Nat.le_of_ble_eq_true rfl⟩ (Nat.le_of_ble_eq_true rfl) dX1_drawMore_88 ⟨by have hgw := (hW7613); have hg1 := hgw.1; have hg2 := hgw.2; have hkm := hB7613.kmax; show cc_ + dc7613 + ((KX - ksum c7613 NB) / 8 + 8) ≤ (KX - ksum cp NB) / 8 + 8; omega, by have hgw := (hW7613); have hg1 := hgw.1; have hg2 := hgw.2; have hkm := hB7613.kmax; show ss_ + ds7613 + (2 * (KX - ksum c7613 NB) + 2048) ≤ 2 * (KX - ksum cp NB) + 2048; omega⟩ (fun rv h7619 dc7619 ds7619 H7619 locs7619 hp7619 T7619 => ?_)
                obtain ⟨rfl, V7619, c7619, hB7619, hk7619, ho7619, hF7619, hw7619⟩ := hp7619
                have hW7619 := (hW7613).tr hw7619
                have hF_7619 : Fr (BO B) h h7619 := hF_7613.tr (hF7619.mono (fun _ z => z))
                refine W.eq (g2 := F0 m 91 ls7609 []) rfl ?_
                rw [hW2, hk7613] at hk7619
                have hk2_ : ∀ i, i ≠ 0 → i ≠ 1012 + (a * 31 + b) → V7619 i = V2 i := fun i h0 h1 => (ho7619 i h0 h1).trans (hk1_ i h0 h1)
                refine lv_iload hx hb dX1_drawMore_91 (lv_at hl7609 7 rfl) ?_
                refine hn_if_le (tgt := 117) hx hb dX1_drawMore_93 (by decide) (by omega) (fun c4 => ?_) (fun c4 => ?_)
                · refine lv_iinc (v := nI (b + 1)) (lv' := [(6, .int (nI (b + 1))), (7, .ref (B (1012 + (a * 31 + b)))), (0, .ref (L 0)), (1, .int (nI n)), (2, .int (nI px)), (3, .int (nI py)), (4, .int (nI pz)), (5, .int (nI a))]) hx hb dX1_drawMore_117 hl7609 (k := 7) rfl (nI_add b 1) (by decide) rfl (fun ls7620 hl7620 => ?_)
                  refine lv_goto (tgt := 12) hx hb dX1_drawMore_120 (by decide) ?_
                  have hfin : V7619 (1012 + (a * 31 + b)) = nxw px py (pz - px - py) (wy su px py (pz - px - py) t) a b := by rw [hk7619]; unfold nxw; rw [if_pos (show 0 < a by omega), if_neg (show ¬ 0 < b by omega), Nat.add_zero]
                  have hSt_7611 : Stt E L B h7611 := Stt.kept hF7611 (fun ⟨i, hi, e⟩ => hLay.2 i 30 hi (by decide) e.symm) hSt
                  have hSt_7613 : Stt E L B h7613 := Stt.kept hF7613 (fun ⟨i, hi, e⟩ => hLay.2 i 30 hi (by decide) e.symm) hSt_7611
                  have hSt_7619 : Stt E L B h7619 := Stt.kept hF7619 (fun ⟨i, hi, e⟩ => hLay.2 i 30 hi (by decide) e.symm) hSt_7613
                  have ho0_7619 : h7619 (L 0) = some (.inr (0, [.ref (L 1), .int (nI (N 0)), .ref (L 3), .int (nI (N 1)), .int (nI (N 2)), .int (nI (N 3)), .int (nI (N 4)), .int (nI (N 5)), .int (nI (N 6)), .int (nI (N 7)), .int (nI (N 8)), .ref (L 12), .ref (L 13), .ref (L 14), .ref (L 15), .ref (L 16), .ref (L 17), .int (nI (N 11)), .int (nI (N 15)), .int (nI (N 16)), .int (nI (N 17)), .int (nI (N 18) - 1), .int (nI (N 19)), .ref (L 24), .int (nI pp), .ref (L 26), .ref (L 27), .ref (if N 13 = 1 then L 27 else L 26), .ref (L 29), .ref (L 30), .ref (if N 12 = 1 then L 30 else L 29), .ref (L 32), .ref (B 0), .ref (B 1), .ref (B 2), .ref (B 3), .ref (L 37), .ref (L 38), .ref (L 39), .ref (B 4), .ref (B 5)]), L 0) := hF7619 _ _ ho0_7613 (fun ⟨i, hi, e⟩ => hLay.2 i 0 hi (by decide) e.symm)
                  have ha39_7611 : h7611 (L 39) = some (.inl (E.2.1 3, 961, .inl r), L 0) := hF7611 _ _ ha39_7604 (fun ⟨i, hi, e⟩ => hLay.2 i 0 hi (by decide) e.symm)
                  have ha39_7613 : h7613 (L 39) = some (.inl (E.2.1 3, 961, .inl r), L 0) := hF7613 _ _ ha39_7611 (fun ⟨i, hi, e⟩ => hLay.2 i 0 hi (by decide) e.symm)
                  have ha39_7619 : h7619 (L 39) = some (.inl (E.2.1 3, 961, .inl r), L 0) := hF7619 _ _ ha39_7613 (fun ⟨i, hi, e⟩ => hLay.2 i 0 hi (by decide) e.symm)
                  exact ih7604 (b + 1) _ _ _ _ _ _ _ _ (by omega) ho0_7619 ha39_7619 (by omega) hB7619 hW7619 hSt_7619 (fun i j h1 h2 => by by_cases q : i = a ∧ j = b; (rw [q.1, q.2]; exact hfin); (rw [hk2_ _ (by omega) (by omega)]; exact hnx i j h1 (by omega))) (fun i h1 h2 => by rw [hk2_ _ (by omega) (by omega)]; exact hkp i h1 h2) hF_7619 T7619 (lv_sub hl7620 [2, 3, 4, 5, 6, 7, 0] rfl)
                · have hW3 : V7619 (51 + (a * 31 + (b - 1))) = (wy su px py (pz - px - py) t) a (b - 1) := by rw [hk2_ _ (by omega) (by omega), hkp _ (by omega) (by omega)]; exact hway a (b - 1) (by omega)
                  refine lv_aload_n hx hb dX1_drawMore_96 rfl (lv_at hl7609 1 rfl) ?_
                  refine lv_aload hx hb dX1_drawMore_97 (lv_at hl7609 0 rfl) ?_
                  refine lv_aload_n hx hb dX1_drawMore_99 rfl (lv_at hl7609 1 rfl) ?_
                  have ho0_7619 : h7619 (L 0) = some (.inr (0, [.ref (L 1), .int (nI (N 0)), .ref (L 3), .int (nI (N 1)), .int (nI (N 2)), .int (nI (N 3)), .int (nI (N 4)), .int (nI (N 5)), .int (nI (N 6)), .int (nI (N 7)), .int (nI (N 8)), .ref (L 12), .ref (L 13), .ref (L 14), .ref (L 15), .ref (L 16), .ref (L 17), .int (nI (N 11)), .int (nI (N 15)), .int (nI (N 16)), .int (nI (N 17)), .int (nI (N 18) - 1), .int (nI (N 19)), .ref (L 24), .int (nI pp), .ref (L 26), .ref (L 27), .ref (if N 13 = 1 then L 27 else L 26), .ref (L 29), .ref (L 30), .ref (if N 12 = 1 then L 30 else L 29), .ref (L 32), .ref (B 0), .ref (B 1), .ref (B 2), .ref (B 3), .ref (L 37), .ref (L 38), .ref (L 39), .ref (B 4), .ref (B 5)]), L 0) := hF7619 _ _ ho0_7613 (fun ⟨i, hi, e⟩ => hLay.2 i 0 hi (by decide) e.symm)
                  refine hr_get C T7619 ho0_7619 rfl in_X1 36 (by decide) q338 rfl rfl dX1_drawMore_100 ?_
                  refine lv_iload hx hb dX1_drawMore_103 (lv_at hl7609 6 rfl) ?_
                  refine lv_iload hx hb dX1_drawMore_105 (lv_at hl7609 7 rfl) ?_
                  refine lv_iconst (v := nI 1) hx hb dX1_drawMore_107 rfl ?_
                  refine hn_isub hx hb dX1_drawMore_108 (by omega) ?_
                  refine hp_S C T7619 hl7609.1 (p_X1_at) q907 q908 q53 q909 kd_X1_at rfl rfl ⟨Nat.le_of_ble_eq_true rfl, Nat.le_of_ble_eq_true rfl⟩ (Nat.le_of_ble_eq_true rfl) dX1_drawMore_109 ⟨by have hgw := (hW7619); have hg1 := hgw.1; have hg2 := hgw.2; have hkm := hB7619.kmax; show cc_ + dc7613 + dc7619 + 0 ≤ (KX - ksum cp NB) / 8 + 8; omega, by have hgw := (hW7619); have hg1 := hgw.1; have hg2 := hgw.2; have hkm := hB7619.kmax; show ss_ + ds7613 + ds7619 + 0 ≤ 2 * (KX - ksum cp NB) + 2048; omega⟩ (fun rv H7621 hp7621 T7621 => ?_)
                  obtain rfl := hp7621
                  refine W.eq (g2 := F0 m 112 ls7609 [.int (nI (a * 31 + (b - 1))), .ref (L 37), .ref (B (1012 + (a * 31 + b))), .ref (L 0)]) rfl ?_
                  have hst37x7607_7619 : h7619 (L 37) = some (.inl (E.2.1 5, 961, .inr (.inr (.inr (.inr (fun k => some (B (51 + k))))))), L 30) := hF7619 _ _ hst37x7607_7613 (fun ⟨i, hi, e⟩ => hLay.2 i 30 hi (by decide) e.symm)
                  refine hr_aald C T7621 5 rfl hst37x7607_7619 (by omega) (by omega) rfl dX1_drawMore_112 ?_
                  refine lv_iload_n hx hb dX1_drawMore_113 rfl (lv_at hl7609 4 rfl) ?_
                  refine hg_V C T7621 hl7609.1 ho0_7619 rfl (m_X1_more hLay hB7619 ho0_7619 (i := 1012 + (a * 31 + b)) (k := 51 + (a * 31 + (b - 1))) (v := py) (show 1012 + (a * 31 + b) < 1973 by omega) (show 51 + (a * 31 + (b - 1)) < 1973 by omega) (by omega) (by omega) (by omega) (by rw [hW3]; have := b16 (wy16 su px py (pz - px - py) t a (b - 1) (by omega) hzz); omega) (by rw [hW3, hk7619]; have h1 := b16 (wy16 su px py (pz - px - py) t a (b - 1) (by omega) hzz); have h2 := lm_mul1 (a := (wy su px py (pz - px - py) t) a (b - 1)) (v := py) (by omega); have h3 : lm ((wy su px py (pz - px - py) t) a b * (pz - px - py) + (wy su px py (pz - px - py) t) (a - 1) b * px) ≤ 16 := b16 (Nat.le_trans (by unfold nxw; (repeat' split) <;> omega) (nx16 su px py (pz - px - py) t a b ht hzz)); omega)) q915 q917 qs17 q53 q918 kd_X1_more rfl rfl ⟨Nat.le_of_ble_eq_true rfl, Nat.le_of_ble_eq_true rfl⟩ (Nat.le_of_ble_eq_true rfl) dX1_drawMore_114 ⟨by have hgw := (hW7619); have hg1 := hgw.1; have hg2 := hgw.2; have hkm := hB7619.kmax; show cc_ + dc7613 + dc7619 + ((KX - ksum c7619 NB) / 8 + 8) ≤ (KX - ksum cp NB) / 8 + 8; omega, by have hgw := (hW7619); have hg1 := hgw.1; have hg2 := hgw.2; have hkm := hB7619.kmax; show ss_ + ds7613 + ds7619 + (2 * (KX - ksum c7619 NB) + 2048) ≤ 2 * (KX - ksum cp NB) + 2048; omega⟩ (fun rv h7622 dc7622 ds7622 H7622 locs7622 hp7622 T7622 => ?_)
                  obtain ⟨rfl, V7622, c7622, hB7622, hk7622, ho7622, hF7622, hw7622⟩ := hp7622
                  have hW7622 := (hW7619).tr hw7622
                  have hF_7622 : Fr (BO B) h h7622 := hF_7619.tr (hF7622.mono (fun _ z => z))
                  refine W.eq (g2 := F0 m 117 ls7609 []) rfl ?_
                  rw [hW3, hk7619] at hk7622
                  have hk3_ : ∀ i, i ≠ 0 → i ≠ 1012 + (a * 31 + b) → V7622 i = V2 i := fun i h0 h1 => (ho7622 i h0 h1).trans (hk2_ i h0 h1)
                  refine lv_iinc (v := nI (b + 1)) (lv' := [(6, .int (nI (b + 1))), (7, .ref (B (1012 + (a * 31 + b)))), (0, .ref (L 0)), (1, .int (nI n)), (2, .int (nI px)), (3, .int (nI py)), (4, .int (nI pz)), (5, .int (nI a))]) hx hb dX1_drawMore_117 hl7609 (k := 7) rfl (nI_add b 1) (by decide) rfl (fun ls7623 hl7623 => ?_)
                  refine lv_goto (tgt := 12) hx hb dX1_drawMore_120 (by decide) ?_
                  have hfin : V7622 (1012 + (a * 31 + b)) = nxw px py (pz - px - py) (wy su px py (pz - px - py) t) a b := by rw [hk7622]; unfold nxw; rw [if_pos (show 0 < a by omega), if_pos (show 0 < b by omega)]
                  have hSt_7611 : Stt E L B h7611 := Stt.kept hF7611 (fun ⟨i, hi, e⟩ => hLay.2 i 30 hi (by decide) e.symm) hSt
                  have hSt_7613 : Stt E L B h7613 := Stt.kept hF7613 (fun ⟨i, hi, e⟩ => hLay.2 i 30 hi (by decide) e.symm) hSt_7611
                  have hSt_7619 : Stt E L B h7619 := Stt.kept hF7619 (fun ⟨i, hi, e⟩ => hLay.2 i 30 hi (by decide) e.symm) hSt_7613
                  have hSt_7622 : Stt E L B h7622 := Stt.kept hF7622 (fun ⟨i, hi, e⟩ => hLay.2 i 30 hi (by decide) e.symm) hSt_7619
                  have ho0_7622 : h7622 (L 0) = some (.inr (0, [.ref (L 1), .int (nI (N 0)), .ref (L 3), .int (nI (N 1)), .int (nI (N 2)), .int (nI (N 3)), .int (nI (N 4)), .int (nI (N 5)), .int (nI (N 6)), .int (nI (N 7)), .int (nI (N 8)), .ref (L 12), .ref (L 13), .ref (L 14), .ref (L 15), .ref (L 16), .ref (L 17), .int (nI (N 11)), .int (nI (N 15)), .int (nI (N 16)), .int (nI (N 17)), .int (nI (N 18) - 1), .int (nI (N 19)), .ref (L 24), .int (nI pp), .ref (L 26), .ref (L 27), .ref (if N 13 = 1 then L 27 else L 26), .ref (L 29), .ref (L 30), .ref (if N 12 = 1 then L 30 else L 29), .ref (L 32), .ref (B 0), .ref (B 1), .ref (B 2), .ref (B 3), .ref (L 37), .ref (L 38), .ref (L 39), .ref (B 4), .ref (B 5)]), L 0) := hF7622 _ _ ho0_7619 (fun ⟨i, hi, e⟩ => hLay.2 i 0 hi (by decide) e.symm)
                  have ha39_7611 : h7611 (L 39) = some (.inl (E.2.1 3, 961, .inl r), L 0) := hF7611 _ _ ha39_7604 (fun ⟨i, hi, e⟩ => hLay.2 i 0 hi (by decide) e.symm)
                  have ha39_7613 : h7613 (L 39) = some (.inl (E.2.1 3, 961, .inl r), L 0) := hF7613 _ _ ha39_7611 (fun ⟨i, hi, e⟩ => hLay.2 i 0 hi (by decide) e.symm)
                  have ha39_7619 : h7619 (L 39) = some (.inl (E.2.1 3, 961, .inl r), L 0) := hF7619 _ _ ha39_7613 (fun ⟨i, hi, e⟩ => hLay.2 i 0 hi (by decide) e.symm)
                  have ha39_7622 : h7622 (L 39) = some (.inl (E.2.1 3, 961, .inl r), L 0) := hF7622 _ _ ha39_7619 (fun ⟨i, hi, e⟩ => hLay.2 i 0 hi (by decide) e.symm)
                  exact ih7604 (b + 1) _ _ _ _ _ _ _ _ (by omega) ho0_7622 ha39_7622 (by omega) hB7622 hW7622 hSt_7622 (fun i j h1 h2 => by by_cases q : i = a ∧ j = b; (rw [q.1, q.2]; exact hfin); (rw [hk3_ _ (by omega) (by omega)]; exact hnx i j h1 (by omega))) (fun i h1 h2 => by rw [hk3_ _ (by omega) (by omega)]; exact hkp i h1 h2) hF_7622 T7622 (lv_sub hl7623 [2, 3, 4, 5, 6, 7, 0] rfl)
        exact L2 (n + 2) 0 _ _ _ _ _ _ _ _ (by omega) ho0_7602 ha39_7602 (by omega) hB hW hSt hnx hkp hF_7602 T7602 (lv_sub hl7603 [1, 2, 3, 4, 5, 6, 0] rfl)
  exact L1 (n + 2) 0 _ _ _ _ _ _ _ _ (by omega) ho0 ha39 (Nat.zero_le _) hB (Gw.rf (cp := cp)) hSt (fun i j h1 h2 => absurd h2 (by omega)) (fun _ _ _ => rfl) hF T (lv_sub hl7601 [1, 2, 3, 4, 5, 0] rfl)
