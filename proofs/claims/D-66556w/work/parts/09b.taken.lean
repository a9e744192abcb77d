set_option maxRecDepth 100000
/-- the end of taken: q was right -/
theorem tk_ok {r f g : Nat → Int32} {j n q cy : Nat} {bo : Int} (hi : (bw r j n : Int) + bo * 4294967296 ^ n = bw f j n - q * bv g n + cy * 4294967296 ^ n) (hu : r (j + n) = f (j + n)) (hD : 0 < bv g n) (h1 : bw f j (n + 1) / bv g n ≤ q) (hz : 0 ≤ bo + ((un (r (j + n)) : Int) - cy)) :
    q = bw f j (n + 1) / bv g n ∧ bw (upd r (j + n) (iZ (bo + ((un (r (j + n)) : Int) - cy)))) j (n + 1) = bw f j (n + 1) % bv g n := by
  rw [bw_put]
  have hP := powI n
  have key : (bw r j n : Int) + (bo + ((un (r (j + n)) : Int) - cy)) * 4294967296 ^ n = bw f j (n + 1) - q * bv g n := by
    rw [bw_s, hu]
    simp only [Int.natCast_add, Int.natCast_mul, powI]
    grind
  generalize hzz : bo + ((un (r (j + n)) : Int) - cy) = z at *
  generalize hU : bw f j (n + 1) = U at *
  have hDlt := bv_lt g n
  generalize bv g n = D at *
  generalize bw r j n = R at *
  rw [← hP] at key
  have hPp : 0 < 4294967296 ^ n := Nat.pow_pos (by decide)
  generalize 4294967296 ^ n = P at *
  have hm : (0 : Int) ≤ z * P := Int.mul_nonneg hz (by omega)
  have hle : q * D ≤ U := by
    have : ((q * D : Nat) : Int) ≤ U := by push_cast; omega
    exact_mod_cast this
  have hq : q = U / D := Nat.le_antisymm ((Nat.le_div_iff_mul_le hD).mpr hle) h1
  have hmod : U % D = U - q * D := by
    have := Nat.div_add_mod U D
    rw [← hq, Nat.mul_comm] at this
    omega
  have hlt := Nat.mod_lt U hD
  have hz0 : z = 0 := by
    rcases Int.lt_or_le 0 z with h | h
    · have : (1 : Int) * P ≤ z * P := Int.mul_le_mul_of_nonneg_right h (by omega)
      have h5 : ((U - q * D : Nat) : Int) = U - q * D := by push_cast [hle]; rfl
      omega
    · omega
  subst hz0
  refine ⟨hq, ?_⟩
  have h0 : un (iZ 0) = 0 := rfl
  rw [h0, Nat.zero_mul, Nat.add_zero, hmod]
  have h5 : ((U - q * D : Nat) : Int) = U - q * D := by push_cast [hle]; rfl
  omega
/-- .. q was one too many: what is added back -/
theorem tk_back {r r2 f g : Nat → Int32} {j n q cy bk : Nat} {bo : Int} (hi : (bw r j n : Int) + bo * 4294967296 ^ n = bw f j n - q * bv g n + cy * 4294967296 ^ n) (hu : r (j + n) = f (j + n)) (hD : 0 < bv g n) (h2 : q ≤ bw f j (n + 1) / bv g n + 1) (hz : bo + ((un (r (j + n)) : Int) - cy) < 0)
    (hb : bw r2 j n + bk * 4294967296 ^ n = bw r j n + bv g n) : 0 < q ∧ q - 1 = bw f j (n + 1) / bv g n ∧ bw (upd r2 (j + n) (iZ (bo + ((un (r (j + n)) : Int) - cy)) + nI bk)) j (n + 1) = bw f j (n + 1) % bv g n := by
  rw [bw_put]
  have hP := powI n
  have key : (bw r2 j n : Int) + (bo + ((un (r (j + n)) : Int) - cy) + bk) * 4294967296 ^ n = bw f j (n + 1) - q * bv g n + bv g n := by
    have hb' : (bw r2 j n : Int) + bk * 4294967296 ^ n = bw r j n + bv g n := by
      have := congrArg (fun x : Nat => (x : Int)) hb
      simp only [Int.natCast_add, Int.natCast_mul, powI] at this
      exact this
    rw [bw_s, hu]
    simp only [Int.natCast_add, Int.natCast_mul, powI]
    grind
  have key0 : (bw r j n : Int) + (bo + ((un (r (j + n)) : Int) - cy)) * 4294967296 ^ n = bw f j (n + 1) - q * bv g n := by
    rw [bw_s, hu]
    simp only [Int.natCast_add, Int.natCast_mul, powI]
    grind
  have hRl := bw_lt r j n
  have hR2 := bw_lt r2 j n
  rw [nI_Z, iZ_add]
  generalize hzz : bo + ((un (r (j + n)) : Int) - cy) = z at *
  generalize hU : bw f j (n + 1) = U at *
  have hDlt := bv_lt g n
  generalize bv g n = D at *
  generalize bw r j n = R at *
  generalize bw r2 j n = R2 at *
  rw [← hP] at key key0
  generalize 4294967296 ^ n = P at *
  have hzp : z * P ≤ (-1) * P := Int.mul_le_mul_of_nonneg_right (by omega) (by omega)
  have hlt0 : U < q * D := by
    have : (U : Int) < ((q * D : Nat) : Int) := by push_cast; omega
    exact_mod_cast this
  have hq0 : 0 < q := Nat.pos_of_ne_zero fun z => by subst z; omega
  obtain ⟨q', rfl⟩ : ∃ q', q = q' + 1 := ⟨q - 1, by omega⟩
  have hq : q' = U / D := by
    have h4 : U / D < q' + 1 := (Nat.div_lt_iff_lt_mul hD).mpr hlt0
    omega
  have hmod : U % D + q' * D = U := by
    have := Nat.div_add_mod U D
    rw [← hq, Nat.mul_comm] at this
    omega
  have hlt := Nat.mod_lt U hD
  have e1 : (R2 : Int) + (z + bk) * P = (U % D : Nat) := by
    have : ((U % D + q' * D : Nat) : Int) = U := by rw [hmod]
    simp only [Int.natCast_add, Int.natCast_mul] at this key ⊢
    grind
  have hzb : z + bk = 0 := by
    rcases Int.lt_trichotomy (z + bk) 0 with h | h | h
    · have : (z + bk) * P ≤ (-1) * P := Int.mul_le_mul_of_nonneg_right (by omega) (by omega)
      omega
    · exact h
    · have : 1 * (P : Int) ≤ (z + bk) * P := Int.mul_le_mul_of_nonneg_right (by omega) (by omega)
      omega
  rw [hzb] at e1 ⊢
  refine ⟨hq0, by omega, ?_⟩
  have h0 : un (iZ 0) = 0 := rfl
  rw [h0, Nat.zero_mul, Nat.add_zero]
  omega
theorem bk_step {r r0 g : Nat → Int32} {j k bk : Nat} (hr : r (j + k) = r0 (j + k)) (hi : bw r j k + bk * 4294967296 ^ k = bw r0 j k + bv g k) :
    bw (upd r (j + k) (nI (bk + (un (r (j + k)) + un (g k))))) j (k + 1) + (bk + (un (r (j + k)) + un (g k))) / 4294967296 * 4294967296 ^ (k + 1) = bw r0 j (k + 1) + bv g (k + 1) := by
  rw [bw_put, bw_s, bv_s, un_nI, hr, Nat.pow_succ]
  generalize ht : bk + (un (r0 (j + k)) + un (g k)) = t
  have h2 : (t % 4294967296 + 4294967296 * (t / 4294967296)) * 4294967296 ^ k = t * 4294967296 ^ k := by rw [Nat.mod_add_div]
  rw [Nat.add_mul] at h2
  have h3 : t / 4294967296 * (4294967296 ^ k * 4294967296) = 4294967296 * (t / 4294967296) * 4294967296 ^ k := by
    rw [Nat.mul_comm (4294967296 ^ k), ← Nat.mul_assoc, Nat.mul_comm (t / 4294967296)]
  have h4 : t * 4294967296 ^ k = bk * 4294967296 ^ k + (un (r0 (j + k)) * 4294967296 ^ k + un (g k) * 4294967296 ^ k) := by rw [← ht, Nat.add_mul, Nat.add_mul]
  omega
theorem land_low {a : Nat} (h : a < 2 ^ 64) : lN a &&& lN 4294967295 = lN (a % 4294967296) := by
  apply lN_ext
  rw [Int64.toBitVec_and, BitVec.toNat_and, wb_tn h, wb_tn (by decide), show (4294967295 : Nat) = 2 ^ 32 - 1 from rfl, Nat.and_two_pow_sub_one_eq_mod]

set_option maxHeartbeats 4000000 in
theorem m_X7_taken {E : GE} {l : Launch} {h : HH} {b x ca cx nb nx cap capx j n q : Nat} {f g : Nat → Int32} (hB : BigC E h b ca nb cap f) (hX : BigC E h x cx nx capx g) (hbx : b ≠ x) (hj : j + n < cap) (hn : n ≤ capx) (hD : 0 < bv g n) (hq : q < 4294967296) (h1 : bw f j (n + 1) / bv g n ≤ q) (h2 : q ≤ bw f j (n + 1) / bv g n + 1) : MM E l yX7_taken cX7_taken 13 (some .long) ({ frames := 1, cells := 0, slots := 0, locals := 150 } : Room) [.ref b, .ref x, .int (nI j), .int (nI n), .long (lN q)] h (fun rv h2 => rv = some (.long (lN (bw f j (n + 1) / bv g n))) ∧ ∃ f', BigC E h2 b ca nb cap f' ∧ Fr (· = b) h h2 ∧ (∀ i, (i < j ∨ j + n < i) → f' i = f i) ∧ bw f' j (n + 1) = bw f j (n + 1) % bv g n) := by
  refine hm_l (by decide) (Nat.le_of_ble_eq_true rfl) ?_
  intro p e s m below meth c C hnm Q Z ls T hl
  have hx := C.x
  have hb := C.b
  have hl : lv_has ls 13 [(0, .ref b), (1, .ref x), (2, .int (nI j)), (3, .int (nI n)), (4, .long (lN q))] := hl
  obtain ⟨hbo, hba, hbn, hb8, hbc⟩ := hB
  obtain ⟨gxo, gxa, hxn, hx8, hxc⟩ := hX
  refine lv_lconst (v := lN 0) hx hb dX7_taken_0 rfl ?_
  rw [show lN 0 = lZ 0 from lN_Z 0]
  refine lv_lstore (lv' := [(6, .long (lZ 0)), (0, .ref b), (1, .ref x), (2, .int (nI j)), (3, .int (nI n)), (4, .long (lN q))]) hx hb dX7_taken_1 hl (by decide) rfl (fun ls601 hl601 => ?_)
  refine lv_lconst (v := lN 0) hx hb dX7_taken_3 rfl ?_
  refine lv_lstore (lv' := [(8, .long (lN 0)), (6, .long (lZ 0)), (0, .ref b), (1, .ref x), (2, .int (nI j)), (3, .int (nI n)), (4, .long (lN q))]) hx hb dX7_taken_4 hl601 (by decide) rfl (fun ls602 hl602 => ?_)
  refine lv_iconst (v := nI 0) hx hb dX7_taken_6 rfl ?_
  refine lv_istore (lv' := [(10, .int (nI 0)), (8, .long (lN 0)), (6, .long (lZ 0)), (0, .ref b), (1, .ref x), (2, .int (nI j)), (3, .int (nI n)), (4, .long (lN q))]) hx hb dX7_taken_7 hl602 (by decide) rfl (fun ls603 hl603 => ?_)
  have L1 : ∀ (j_ : Nat) (k cy : Nat) (bo : Int) (r : Nat → Int32) (h604 : HH) (H604 : Heap) (locs604 : List Loc) (ls604 : Array Slot), (n + 1 ≤ k + j_) → (h604 b = some (.inr (1, [.ref ca, .int (nI nb)]), b)) → (h604 ca = some (.inl (E.2.1 0, cap, .inl r), b)) → (h604 x = some (.inr (1, [.ref cx, .int (nI nx)]), x)) → (h604 cx = some (.inl (E.2.1 0, capx, .inl g), x)) → (k ≤ n) → (cy < 4294967296) → (-1 ≤ bo) → (bo ≤ 0) → (∀ i, (i < j ∨ j + k ≤ i) → r i = f i) → ((bw r j k : Int) + bo * 4294967296 ^ k = bw f j k - q * bv g k + cy * 4294967296 ^ k) → (Fr (· = b) h h604) → (St E s h604 H604 locs604) → (lv_has ls604 13 [(0, .ref b), (1, .ref x), (2, .int (nI j)), (3, .int (nI n)), (4, .long (lN q)), (6, .long (lZ bo)), (8, .long (lN cy)), (10, .int (nI k))]) → W p l e ({ frames := 1, cells := 0, slots := 0, locals := 150 } : Room) s m ([.ref b, .ref x, .int (nI j), .int (nI n), .long (lN q)] : List Value).toArray below meth c H604 locs604 0 0 Q (F0 m 9 ls604 []) := by
    intro j_
    induction j_ with
    | zero => intro k cy bo r h604 H604 locs604 ls604 hm604 hbo_604 hba_604 gxo_604 gxa_604 hk hcy hbo1 hbo2 hout hi hF_604 T604 hl604; exact absurd hm604 (by omega)
    | succ j_ ih604 =>
      intro k cy bo r h604 H604 locs604 ls604 hm604 hbo_604 hba_604 gxo_604 gxa_604 hk hcy hbo1 hbo2 hout hi hF_604 T604 hl604
      refine lv_iload hx hb dX7_taken_9 (lv_at hl604 7 rfl) ?_
      refine lv_iload_n hx hb dX7_taken_11 rfl (lv_at hl604 3 rfl) ?_
      refine hn_icmp_ge (tgt := 89) hx hb dX7_taken_12 (by decide) (by omega) (by omega) (fun c1 => ?_) (fun c1 => ?_)
      · have e1 : n = k := by omega
        subst e1
        have hu := hout (j + n) (Or.inr (Nat.le_refl _))
        have hul := un_lt (r (j + n))
        refine lv_lload hx hb dX7_taken_89 (lv_at hl604 5 rfl) ?_
        refine lv_aload_n hx hb dX7_taken_91 rfl (lv_at hl604 0 rfl) ?_
        refine hr_get C T604 hbo_604 rfl in_X7 0 (by decide) q170 rfl rfl dX7_taken_92 ?_
        refine lv_iload_n hx hb dX7_taken_95 rfl (lv_at hl604 2 rfl) ?_
        refine lv_iload_n hx hb dX7_taken_96 rfl (lv_at hl604 3 rfl) ?_
        refine hn_iadd hx hb dX7_taken_97 ?_
        refine hr_iald C T604 hba_604 (by omega) (by omega) dX7_taken_98 ?_
        refine hc_S C T604 hl604.1 (m_X7_cell) q778 q779 q59 q780 kd_X7_cell rfl rfl ⟨Nat.le_of_ble_eq_true rfl, Nat.le_of_ble_eq_true rfl⟩ (Nat.le_of_ble_eq_true rfl) dX7_taken_99 ⟨Nat.le_of_ble_eq_true rfl, Nat.le_of_ble_eq_true rfl⟩ (fun rv h605 H605 locs605 hp605 T605 => ?_)
        obtain ⟨rfl, hq605⟩ := hp605
        rw [hq605] at T605
        refine lv_lload hx hb dX7_taken_102 (lv_at hl604 6 rfl) ?_
        refine lv_lsub hx hb dX7_taken_104 ?_
        rw [nn_sub]
        refine lv_ladd hx hb dX7_taken_105 ?_
        rw [zz_add]
        refine lv_lstore (lv' := [(6, .long (lZ ((bo) + (((un (r (j + n)) : Nat) : Int) - ((cy : Nat) : Int))))), (0, .ref b), (1, .ref x), (2, .int (nI j)), (3, .int (nI n)), (4, .long (lN q)), (8, .long (lN cy)), (10, .int (nI n))]) hx hb dX7_taken_106 hl604 (by decide) rfl (fun ls606 hl606 => ?_)
        refine lv_aload_n hx hb dX7_taken_108 rfl (lv_at hl606 1 rfl) ?_
        refine hr_get C T605 hbo_604 rfl in_X7 0 (by decide) q170 rfl rfl dX7_taken_109 ?_
        refine lv_iload_n hx hb dX7_taken_112 rfl (lv_at hl606 3 rfl) ?_
        refine lv_iload_n hx hb dX7_taken_113 rfl (lv_at hl606 4 rfl) ?_
        refine hn_iadd hx hb dX7_taken_114 ?_
        refine lv_lload hx hb dX7_taken_115 (lv_at hl606 0 rfl) ?_
        refine lv_l2i (v := iZ ((bo) + (((un (r (j + n)) : Nat) : Int) - ((cy : Nat) : Int)))) hx hb dX7_taken_117 (lZ_i _) ?_
        refine hr_iast C T605 hba_604 (by omega) (by omega) dX7_taken_118 (fun h607 H607 locs607 eh607 T607 => ?_)
        have hba_607 : h607 ca = some (.inl (E.2.1 0, cap, .inl (upd r (j + n) (iZ ((bo) + (((un (r (j + n)) : Nat) : Int) - ((cy : Nat) : Int)))))), b) := hu_s eh607
        have hF_607 : Fr (· = b) h h607 := hu_f eh607 hF_604 hba_604 rfl
        refine lv_lload hx hb dX7_taken_119 (lv_at hl606 0 rfl) ?_
        refine lv_lconst (v := lN 0) hx hb dX7_taken_121 rfl ?_
        refine W.lcmp hx hb dX7_taken_122 ?_
        refine rl_if_lt (tgt := 129) hx hb dX7_taken_123 (by decide) (fun c2 => ?_) (fun c2 => ?_)
        · have hz : bo + ((un (r (j + n)) : Int) - cy) < 0 := by have := (lZ_ltN (by omega) (by omega) (by omega)).mp c2; omega
          obtain ⟨r1, hr1⟩ : ∃ r1, r1 = upd r (j + n) (iZ (bo + ((un (r (j + n)) : Int) - cy))) := ⟨_, rfl⟩
          refine lv_lconst (v := lN 0) hx hb dX7_taken_129 rfl ?_
          refine lv_lstore (lv' := [(10, .long (lN 0)), (6, .long (lZ ((bo) + (((un (r (j + n)) : Nat) : Int) - ((cy : Nat) : Int))))), (0, .ref b), (1, .ref x), (2, .int (nI j)), (3, .int (nI n)), (4, .long (lN q)), (8, .long (lN cy))]) hx hb dX7_taken_130 hl606 (by decide) rfl (fun ls608 hl608 => ?_)
          refine lv_iconst (v := nI 0) hx hb dX7_taken_132 rfl ?_
          refine lv_istore (lv' := [(12, .int (nI 0)), (10, .long (lN 0)), (6, .long (lZ ((bo) + (((un (r (j + n)) : Nat) : Int) - ((cy : Nat) : Int))))), (0, .ref b), (1, .ref x), (2, .int (nI j)), (3, .int (nI n)), (4, .long (lN q)), (8, .long (lN cy))]) hx hb dX7_taken_133 hl608 (by decide) rfl (fun ls609 hl609 => ?_)
          have L2 : ∀ (j_ : Nat) (i bk : Nat) (r2 : Nat → Int32) (h610 : HH) (H610 : Heap) (locs610 : List Loc) (ls610 : Array Slot), (n + 1 ≤ i + j_) → (h610 b = some (.inr (1, [.ref ca, .int (nI nb)]), b)) → (h610 ca = some (.inl (E.2.1 0, cap, .inl r2), b)) → (h610 x = some (.inr (1, [.ref cx, .int (nI nx)]), x)) → (h610 cx = some (.inl (E.2.1 0, capx, .inl g), x)) → (i ≤ n) → (bk ≤ 1) → (∀ a, (a < j ∨ j + i ≤ a) → r2 a = r1 a) → (bw r2 j i + bk * 4294967296 ^ i = bw r1 j i + bv g i) → (Fr (· = b) h h610) → (St E s h610 H610 locs610) → (lv_has ls610 13 [(0, .ref b), (1, .ref x), (2, .int (nI j)), (3, .int (nI n)), (4, .long (lN q)), (10, .long (lN bk)), (12, .int (nI i))]) → W p l e ({ frames := 1, cells := 0, slots := 0, locals := 150 } : Room) s m ([.ref b, .ref x, .int (nI j), .int (nI n), .long (lN q)] : List Value).toArray below meth c H610 locs610 0 0 Q (F0 m 135 ls610 []) := by
            intro j_
            induction j_ with
            | zero => intro i bk r2 h610 H610 locs610 ls610 hm610 hbo_610 hba_610 gxo_610 gxa_610 hik hbk hout2 hi2 hF_610 T610 hl610; exact absurd hm610 (by omega)
            | succ j_ ih610 =>
              intro i bk r2 h610 H610 locs610 ls610 hm610 hbo_610 hba_610 gxo_610 gxa_610 hik hbk hout2 hi2 hF_610 T610 hl610
              refine lv_iload hx hb dX7_taken_135 (lv_at hl610 6 rfl) ?_
              refine lv_iload_n hx hb dX7_taken_137 rfl (lv_at hl610 3 rfl) ?_
              refine hn_icmp_ge (tgt := 194) hx hb dX7_taken_138 (by decide) (by omega) (by omega) (fun c3 => ?_) (fun c3 => ?_)
              · have e2 : n = i := by omega
                subst e2
                have hw1 : bw r1 j n = bw r j n := by rw [hr1]; exact bw_cong fun a h1 h2 => pk_un (by omega)
                rw [hw1] at hi2
                have hend := tk_back hi hu hD h2 hz hi2
                have htop : r2 (j + n) = iZ (bo + ((un (r (j + n)) : Int) - cy)) := by rw [hout2 _ (Or.inr (Nat.le_refl _)), hr1, pk_us]
                refine lv_aload_n hx hb dX7_taken_194 rfl (lv_at hl610 0 rfl) ?_
                refine hr_get C T610 hbo_610 rfl in_X7 0 (by decide) q170 rfl rfl dX7_taken_195 ?_
                refine lv_iload_n hx hb dX7_taken_198 rfl (lv_at hl610 2 rfl) ?_
                refine lv_iload_n hx hb dX7_taken_199 rfl (lv_at hl610 3 rfl) ?_
                refine hn_iadd hx hb dX7_taken_200 ?_
                refine lv_dup2_11 hx hb dX7_taken_201 rfl rfl ?_
                refine hr_iald C T610 hba_610 (by omega) (by omega) dX7_taken_202 ?_
                rw [htop]
                refine lv_lload hx hb dX7_taken_203 (lv_at hl610 5 rfl) ?_
                refine hn_l2i hx hb dX7_taken_205 ?_
                refine lv_iadd hx hb dX7_taken_206 ?_
                refine hr_iast C T610 hba_610 (by omega) (by omega) dX7_taken_207 (fun h611 H611 locs611 eh611 T611 => ?_)
                have hba_611 : h611 ca = some (.inl (E.2.1 0, cap, .inl (upd r2 (j + n) ((iZ (bo + ((un (r (j + n)) : Int) - cy))) + (nI bk)))), b) := hu_s eh611
                have hF_611 : Fr (· = b) h h611 := hu_f eh611 hF_610 hba_610 rfl
                refine lv_lload hx hb dX7_taken_208 (lv_at hl610 4 rfl) ?_
                refine lv_lconst (v := lN 1) hx hb dX7_taken_210 rfl ?_
                refine hn_lsub hx hb dX7_taken_211 (by omega) ?_
                have hbo_611 : h611 b = some (.inr (1, [.ref ca, .int (nI nb)]), b) := hu_n eh611 (hne_of hbo_610 hba_610 (fun z => by cases z)) hbo_610
                exact Z _ _ _ _ _ _ dX7_taken_212 ⟨by rw [hend.2.1], _, ⟨hbo_611, hba_611, hbn, hb8, hbc⟩, hF_611, fun a ha => (pk_un (by omega)).trans ((hout2 a (by omega)).trans (by rw [hr1]; exact (pk_un (by omega)).trans (hout a (by omega)))), hend.2.2⟩ T611
              · have hv1 := un_lt (r2 (j + i))
                have hv2 := un_lt (g i)
                refine lv_lload hx hb dX7_taken_141 (lv_at hl610 5 rfl) ?_
                refine lv_aload_n hx hb dX7_taken_143 rfl (lv_at hl610 0 rfl) ?_
                refine hr_get C T610 hbo_610 rfl in_X7 0 (by decide) q170 rfl rfl dX7_taken_144 ?_
                refine lv_iload_n hx hb dX7_taken_147 rfl (lv_at hl610 2 rfl) ?_
                refine lv_iload hx hb dX7_taken_148 (lv_at hl610 6 rfl) ?_
                refine hn_iadd hx hb dX7_taken_150 ?_
                refine hr_iald C T610 hba_610 (by omega) (by omega) dX7_taken_151 ?_
                refine hc_S C T610 hl610.1 (m_X7_cell) q778 q779 q59 q780 kd_X7_cell rfl rfl ⟨Nat.le_of_ble_eq_true rfl, Nat.le_of_ble_eq_true rfl⟩ (Nat.le_of_ble_eq_true rfl) dX7_taken_152 ⟨Nat.le_of_ble_eq_true rfl, Nat.le_of_ble_eq_true rfl⟩ (fun rv h612 H612 locs612 hp612 T612 => ?_)
                obtain ⟨rfl, hq612⟩ := hp612
                rw [hq612] at T612
                refine lv_aload_n hx hb dX7_taken_155 rfl (lv_at hl610 1 rfl) ?_
                refine hr_get C T612 gxo_610 rfl in_X7 0 (by decide) q170 rfl rfl dX7_taken_156 ?_
                refine lv_iload hx hb dX7_taken_159 (lv_at hl610 6 rfl) ?_
                refine hr_iald C T612 gxa_610 (by omega) (by omega) dX7_taken_161 ?_
                refine hc_S C T612 hl610.1 (m_X7_cell) q778 q779 q59 q780 kd_X7_cell rfl rfl ⟨Nat.le_of_ble_eq_true rfl, Nat.le_of_ble_eq_true rfl⟩ (Nat.le_of_ble_eq_true rfl) dX7_taken_162 ⟨Nat.le_of_ble_eq_true rfl, Nat.le_of_ble_eq_true rfl⟩ (fun rv h613 H613 locs613 hp613 T613 => ?_)
                obtain ⟨rfl, hq613⟩ := hp613
                rw [hq613] at T613
                refine hn_ladd hx hb dX7_taken_165 ?_
                refine hn_ladd hx hb dX7_taken_166 ?_
                refine lv_lstore (lv' := [(10, .long (lN (bk + ((un (r2 (j + i))) + (un (g i)))))), (0, .ref b), (1, .ref x), (2, .int (nI j)), (3, .int (nI n)), (4, .long (lN q)), (12, .int (nI i))]) hx hb dX7_taken_167 hl610 (by decide) rfl (fun ls614 hl614 => ?_)
                refine lv_aload_n hx hb dX7_taken_169 rfl (lv_at hl614 1 rfl) ?_
                refine hr_get C T613 hbo_610 rfl in_X7 0 (by decide) q170 rfl rfl dX7_taken_170 ?_
                refine lv_iload_n hx hb dX7_taken_173 rfl (lv_at hl614 3 rfl) ?_
                refine lv_iload hx hb dX7_taken_174 (lv_at hl614 6 rfl) ?_
                refine hn_iadd hx hb dX7_taken_176 ?_
                refine lv_lload hx hb dX7_taken_177 (lv_at hl614 0 rfl) ?_
                refine hn_l2i hx hb dX7_taken_179 ?_
                refine hr_iast C T613 hba_610 (by omega) (by omega) dX7_taken_180 (fun h615 H615 locs615 eh615 T615 => ?_)
                have hba_615 : h615 ca = some (.inl (E.2.1 0, cap, .inl (upd r2 (j + i) (nI (bk + ((un (r2 (j + i))) + (un (g i))))))), b) := hu_s eh615
                have hF_615 : Fr (· = b) h h615 := hu_f eh615 hF_610 hba_610 rfl
                refine lv_lload hx hb dX7_taken_181 (lv_at hl614 0 rfl) ?_
                refine lv_bipush (v := nI 32) hx hb dX7_taken_183 rfl ?_
                refine hn_lushr hx hb dX7_taken_185 (by omega) (by omega) ?_
                refine lv_lstore (lv' := [(10, .long (lN ((bk + ((un (r2 (j + i))) + (un (g i)))) / 2 ^ 32))), (0, .ref b), (1, .ref x), (2, .int (nI j)), (3, .int (nI n)), (4, .long (lN q)), (12, .int (nI i))]) hx hb dX7_taken_186 hl614 (by decide) rfl (fun ls616 hl616 => ?_)
                refine lv_iinc (v := nI (i + 1)) (lv' := [(12, .int (nI (i + 1))), (10, .long (lN ((bk + ((un (r2 (j + i))) + (un (g i)))) / 2 ^ 32))), (0, .ref b), (1, .ref x), (2, .int (nI j)), (3, .int (nI n)), (4, .long (lN q))]) hx hb dX7_taken_188 hl616 (k := 6) rfl (nI_add i 1) (by decide) rfl (fun ls617 hl617 => ?_)
                refine lv_goto (tgt := 135) hx hb dX7_taken_191 (by decide) ?_
                have hbo_615 : h615 b = some (.inr (1, [.ref ca, .int (nI nb)]), b) := hu_n eh615 (hne_of hbo_610 hba_610 (fun z => by cases z)) hbo_610
                have gxo_615 : h615 x = some (.inr (1, [.ref cx, .int (nI nx)]), x) := hu_n eh615 (hne_of gxo_610 hba_610 (fun z => (Ne.symm hbx) (congrArg Prod.snd z))) gxo_610
                have gxa_615 : h615 cx = some (.inl (E.2.1 0, capx, .inl g), x) := hu_n eh615 (hne_of gxa_610 hba_610 (fun z => (Ne.symm hbx) (congrArg Prod.snd z))) gxa_610
                exact ih610 (i + 1) _ _ _ _ _ _ (by omega) hbo_615 hba_615 gxo_615 gxa_615 (by omega) (by omega) (fun a ha => (pk_un (by omega)).trans (hout2 a (by omega))) (bk_step (hout2 _ (Or.inr (Nat.le_refl _))) hi2) hF_615 T615 (lv_sub hl617 [2, 3, 4, 5, 6, 1, 0] rfl)
          subst hr1
          have hbo_607 : h607 b = some (.inr (1, [.ref ca, .int (nI nb)]), b) := hu_n eh607 (hne_of hbo_604 hba_604 (fun z => by cases z)) hbo_604
          have gxo_607 : h607 x = some (.inr (1, [.ref cx, .int (nI nx)]), x) := hu_n eh607 (hne_of gxo_604 hba_604 (fun z => (Ne.symm hbx) (congrArg Prod.snd z))) gxo_604
          have gxa_607 : h607 cx = some (.inl (E.2.1 0, capx, .inl g), x) := hu_n eh607 (hne_of gxa_604 hba_604 (fun z => (Ne.symm hbx) (congrArg Prod.snd z))) gxa_604
          exact L2 (n + 1) 0 0 _ _ _ _ _ (by omega) hbo_607 hba_607 gxo_607 gxa_607 (Nat.zero_le _) (Nat.zero_le _) (fun _ _ => rfl) (by simp [bw, bv]) hF_607 T607 (lv_sub hl609 [3, 4, 5, 6, 7, 1, 0] rfl)
        · have hz : 0 ≤ bo + ((un (r (j + n)) : Int) - cy) := Int.not_lt.mp fun z => c2 ((lZ_ltN (by omega) (by omega) (by omega)).mpr (by omega))
          have hend := tk_ok hi hu hD h1 hz
          refine lv_lload hx hb dX7_taken_126 (lv_at hl606 5 rfl) ?_
          have hbo_607 : h607 b = some (.inr (1, [.ref ca, .int (nI nb)]), b) := hu_n eh607 (hne_of hbo_604 hba_604 (fun z => by cases z)) hbo_604
          exact Z _ _ _ _ _ _ dX7_taken_128 ⟨by rw [hend.1], _, ⟨hbo_607, hba_607, hbn, hb8, hbc⟩, hF_607, fun i hi2 => (pk_un (by omega)).trans (hout i (by omega)), hend.2⟩ T607
      · have hu1 := un_lt (r (j + k))
        have hg1 := un_lt (g k)
        have hm : q * un (g k) ≤ 4294967295 * 4294967295 := Nat.mul_le_mul (by omega) (by omega)
        refine lv_lload hx hb dX7_taken_15 (lv_at hl604 6 rfl) ?_
        refine lv_lload hx hb dX7_taken_17 (lv_at hl604 4 rfl) ?_
        refine lv_aload_n hx hb dX7_taken_19 rfl (lv_at hl604 1 rfl) ?_
        refine hr_get C T604 gxo_604 rfl in_X7 0 (by decide) q170 rfl rfl dX7_taken_20 ?_
        refine lv_iload hx hb dX7_taken_23 (lv_at hl604 7 rfl) ?_
        refine hr_iald C T604 gxa_604 (by omega) (by omega) dX7_taken_25 ?_
        refine hc_S C T604 hl604.1 (m_X7_cell) q778 q779 q59 q780 kd_X7_cell rfl rfl ⟨Nat.le_of_ble_eq_true rfl, Nat.le_of_ble_eq_true rfl⟩ (Nat.le_of_ble_eq_true rfl) dX7_taken_26 ⟨Nat.le_of_ble_eq_true rfl, Nat.le_of_ble_eq_true rfl⟩ (fun rv h618 H618 locs618 hp618 T618 => ?_)
        obtain ⟨rfl, hq618⟩ := hp618
        rw [hq618] at T618
        refine hn_lmul hx hb dX7_taken_29 ?_
        refine hn_ladd hx hb dX7_taken_30 ?_
        refine lv_lstore (lv' := [(8, .long (lN (cy + (q * (un (g k)))))), (0, .ref b), (1, .ref x), (2, .int (nI j)), (3, .int (nI n)), (4, .long (lN q)), (6, .long (lZ bo)), (10, .int (nI k))]) hx hb dX7_taken_31 hl604 (by decide) rfl (fun ls619 hl619 => ?_)
        refine lv_lload hx hb dX7_taken_33 (lv_at hl619 6 rfl) ?_
        refine lv_aload_n hx hb dX7_taken_35 rfl (lv_at hl619 1 rfl) ?_
        refine hr_get C T618 hbo_604 rfl in_X7 0 (by decide) q170 rfl rfl dX7_taken_36 ?_
        refine lv_iload_n hx hb dX7_taken_39 rfl (lv_at hl619 3 rfl) ?_
        refine lv_iload hx hb dX7_taken_40 (lv_at hl619 7 rfl) ?_
        refine hn_iadd hx hb dX7_taken_42 ?_
        refine hr_iald C T618 hba_604 (by omega) (by omega) dX7_taken_43 ?_
        refine hc_S C T618 hl619.1 (m_X7_cell) q778 q779 q59 q780 kd_X7_cell rfl rfl ⟨Nat.le_of_ble_eq_true rfl, Nat.le_of_ble_eq_true rfl⟩ (Nat.le_of_ble_eq_true rfl) dX7_taken_44 ⟨Nat.le_of_ble_eq_true rfl, Nat.le_of_ble_eq_true rfl⟩ (fun rv h620 H620 locs620 hp620 T620 => ?_)
        obtain ⟨rfl, hq620⟩ := hp620
        rw [hq620] at T620
        refine lv_lload hx hb dX7_taken_47 (lv_at hl619 0 rfl) ?_
        refine lv_ldc2 (v := lN 4294967295) hx hb C.ow (C.ts _ q781) dX7_taken_49 ?_
        refine lv_land hx hb dX7_taken_52 ?_
        rw [show (lN (cy + (q * (un (g k))))) &&& (lN 4294967295) = lN ((cy + q * un (g k)) % 4294967296) from land_low (by omega)]
        refine lv_lsub hx hb dX7_taken_53 ?_
        rw [nn_sub]
        have hcm := Nat.mod_lt (cy + q * un (g k)) (show 0 < 4294967296 by decide)
        refine lv_ladd hx hb dX7_taken_54 ?_
        rw [zz_add]
        refine lv_lstore (lv' := [(6, .long (lZ ((bo) + (((un (r (j + k)) : Nat) : Int) - (((cy + q * un (g k)) % 4294967296 : Nat) : Int))))), (8, .long (lN (cy + (q * (un (g k)))))), (0, .ref b), (1, .ref x), (2, .int (nI j)), (3, .int (nI n)), (4, .long (lN q)), (10, .int (nI k))]) hx hb dX7_taken_55 hl619 (by decide) rfl (fun ls621 hl621 => ?_)
        refine lv_aload_n hx hb dX7_taken_57 rfl (lv_at hl621 2 rfl) ?_
        refine hr_get C T620 hbo_604 rfl in_X7 0 (by decide) q170 rfl rfl dX7_taken_58 ?_
        refine lv_iload_n hx hb dX7_taken_61 rfl (lv_at hl621 4 rfl) ?_
        refine lv_iload hx hb dX7_taken_62 (lv_at hl621 7 rfl) ?_
        refine hn_iadd hx hb dX7_taken_64 ?_
        refine lv_lload hx hb dX7_taken_65 (lv_at hl621 0 rfl) ?_
        refine lv_l2i (v := iZ ((bo) + (((un (r (j + k)) : Nat) : Int) - (((cy + q * un (g k)) % 4294967296 : Nat) : Int)))) hx hb dX7_taken_67 (lZ_i _) ?_
        refine hr_iast C T620 hba_604 (by omega) (by omega) dX7_taken_68 (fun h622 H622 locs622 eh622 T622 => ?_)
        have hba_622 : h622 ca = some (.inl (E.2.1 0, cap, .inl (upd r (j + k) (iZ ((bo) + (((un (r (j + k)) : Nat) : Int) - (((cy + q * un (g k)) % 4294967296 : Nat) : Int)))))), b) := hu_s eh622
        have hF_622 : Fr (· = b) h h622 := hu_f eh622 hF_604 hba_604 rfl
        refine lv_lload hx hb dX7_taken_69 (lv_at hl621 0 rfl) ?_
        refine lv_bipush (v := nI 32) hx hb dX7_taken_71 rfl ?_
        refine lv_lshr (v := lZ (((bo) + (((un (r (j + k)) : Nat) : Int) - (((cy + q * un (g k)) % 4294967296 : Nat) : Int))) / 2 ^ 32)) hx hb dX7_taken_73 (lZ_shr (by omega) (by omega) (by decide)) ?_
        refine lv_lstore (lv' := [(6, .long (lZ (((bo) + (((un (r (j + k)) : Nat) : Int) - (((cy + q * un (g k)) % 4294967296 : Nat) : Int))) / 2 ^ 32))), (8, .long (lN (cy + (q * (un (g k)))))), (0, .ref b), (1, .ref x), (2, .int (nI j)), (3, .int (nI n)), (4, .long (lN q)), (10, .int (nI k))]) hx hb dX7_taken_74 hl621 (by decide) rfl (fun ls623 hl623 => ?_)
        refine lv_lload hx hb dX7_taken_76 (lv_at hl623 1 rfl) ?_
        refine lv_bipush (v := nI 32) hx hb dX7_taken_78 rfl ?_
        refine hn_lushr hx hb dX7_taken_80 (by omega) (by omega) ?_
        refine lv_lstore (lv' := [(8, .long (lN ((cy + (q * (un (g k)))) / 2 ^ 32))), (6, .long (lZ (((bo) + (((un (r (j + k)) : Nat) : Int) - (((cy + q * un (g k)) % 4294967296 : Nat) : Int))) / 2 ^ 32))), (0, .ref b), (1, .ref x), (2, .int (nI j)), (3, .int (nI n)), (4, .long (lN q)), (10, .int (nI k))]) hx hb dX7_taken_81 hl623 (by decide) rfl (fun ls624 hl624 => ?_)
        refine lv_iinc (v := nI (k + 1)) (lv' := [(10, .int (nI (k + 1))), (8, .long (lN ((cy + (q * (un (g k)))) / 2 ^ 32))), (6, .long (lZ (((bo) + (((un (r (j + k)) : Nat) : Int) - (((cy + q * un (g k)) % 4294967296 : Nat) : Int))) / 2 ^ 32))), (0, .ref b), (1, .ref x), (2, .int (nI j)), (3, .int (nI n)), (4, .long (lN q))]) hx hb dX7_taken_83 hl624 (k := 7) rfl (nI_add k 1) (by decide) rfl (fun ls625 hl625 => ?_)
        refine lv_goto (tgt := 9) hx hb dX7_taken_86 (by decide) ?_
        have hbo_622 : h622 b = some (.inr (1, [.ref ca, .int (nI nb)]), b) := hu_n eh622 (hne_of hbo_604 hba_604 (fun z => by cases z)) hbo_604
        have gxo_622 : h622 x = some (.inr (1, [.ref cx, .int (nI nx)]), x) := hu_n eh622 (hne_of gxo_604 hba_604 (fun z => (Ne.symm hbx) (congrArg Prod.snd z))) gxo_604
        have gxa_622 : h622 cx = some (.inl (E.2.1 0, capx, .inl g), x) := hu_n eh622 (hne_of gxa_604 hba_604 (fun z => (Ne.symm hbx) (congrArg Prod.snd z))) gxa_604
        exact ih604 (k + 1) _ _ _ _ _ _ _ (by omega) hbo_622 hba_622 gxo_622 gxa_622 (by omega) (by omega) (by omega) (by omega) (fun i hi2 => (pk_un (by omega)).trans (hout i (by omega))) (by have := tk_step (q := q) (g := g) (hout (j + k) (Or.inr (Nat.le_refl _))) hi; exact this) hF_622 T622 (lv_sub hl625 [3, 4, 5, 6, 7, 2, 1, 0] rfl)
  exact L1 (n + 1) 0 0 0 f _ _ _ _ (by omega) hbo hba gxo gxa (Nat.zero_le _) (by decide) (by decide) (by decide) (fun _ _ => rfl) (by simp [bw, bv]) Fr.rf T (lv_sub hl603 [3, 4, 5, 6, 7, 2, 1, 0] rfl)
