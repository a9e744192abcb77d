set_option maxRecDepth 100000
/-- a Big, whatever it holds -/
def BigX (E : GE) (h : HH) (b cap : Nat) : Prop := ∃ (ca n : Nat) (f : Nat → Int32), BigC E h b ca n cap f
theorem Big.x {E : GE} {h : HH} {b N cap : Nat} (B : Big E h b N cap) : BigX E h b cap := by
  obtain ⟨ca, f, B1, -⟩ := B
  exact ⟨ca, _, f, B1⟩
theorem Fr1.x {E : GE} {h h' : HH} {O : Nat → Prop} (F : Fr O h h') {b cap : Nat} (hb : ¬ O b) (B : BigX E h b cap) : BigX E h' b cap := by
  obtain ⟨ca, n, f, B1⟩ := B
  exact ⟨ca, n, f, Fr1.c F hb B1⟩
theorem BigX.cap {E : GE} {h : HH} {b cap : Nat} (B : BigX E h b cap) : 8 ≤ cap ∧ cap ≤ 256 := by
  obtain ⟨ca, n, f, B1⟩ := B
  exact B1.2.2.2
theorem gpot {cap m : Nat} (h8 : 8 ≤ cap) (hc : cap ≤ 256) (hm : m ≤ 128) : 8 * gc cap m + cap ≤ capr cap m ∧ gs cap m + 2 * cap ≤ 2 * capr cap m ∧ gc cap m ≤ 1 ∧ gs cap m ≤ 256 ∧ capr cap m ≤ 256 ∧ cap ≤ capr cap m ∧ m ≤ capr cap m := by
  unfold gc gs capr
  split <;> omega
theorem norm_top {M sh : Nat} {g : Nat → Int32} (hs : sh < 32) (hM : M ≠ 0) (hg : bv g (lm M) = M) (h1 : 2147483648 ≤ un (g (lm M - 1)) * 2 ^ sh) (h2 : un (g (lm M - 1)) * 2 ^ sh < 4294967296) : lm (M * 2 ^ sh) = lm M ∧ 2147483648 * 4294967296 ^ (lm M - 1) ≤ M * 2 ^ sh := by
  have hp := lm_pos hM
  obtain ⟨m, hm⟩ : ∃ m, lm M = m + 1 := ⟨lm M - 1, by omega⟩
  rw [hm] at hg h1 h2 ⊢
  rw [Nat.add_sub_cancel] at h1 h2 ⊢
  rw [bv_s] at hg
  have hlt := bv_lt g m
  generalize un (g m) = top at *
  generalize bv g m = low at *
  have hP : 0 < 4294967296 ^ m := Nat.pow_pos (by decide)
  have hsp := pow_split hs
  have h3 : top + 1 ≤ 2 ^ (32 - sh) := by
    have : top * 2 ^ sh < 2 ^ (32 - sh) * 2 ^ sh := by rw [Nat.mul_comm (2 ^ (32 - sh)), hsp]; exact h2
    exact Nat.lt_of_mul_lt_mul_right this
  have lo : 2147483648 * 4294967296 ^ m ≤ M * 2 ^ sh := by
    calc 2147483648 * 4294967296 ^ m ≤ top * 2 ^ sh * 4294967296 ^ m := Nat.mul_le_mul_right _ h1
      _ = top * 4294967296 ^ m * 2 ^ sh := by rw [Nat.mul_assoc, Nat.mul_comm (2 ^ sh), ← Nat.mul_assoc]
      _ ≤ M * 2 ^ sh := Nat.mul_le_mul_right _ (by omega)
  refine ⟨?_, lo⟩
  symm
  apply lm_of
  · have h4 : M < (top + 1) * 4294967296 ^ m := by rw [Nat.add_mul]; omega
    calc M * 2 ^ sh < (top + 1) * 4294967296 ^ m * 2 ^ sh := Nat.mul_lt_mul_of_pos_right h4 (Nat.two_pow_pos sh)
      _ ≤ 2 ^ (32 - sh) * 4294967296 ^ m * 2 ^ sh := Nat.mul_le_mul_right _ (Nat.mul_le_mul_right _ h3)
      _ = 4294967296 ^ (m + 1) := by rw [Nat.mul_assoc, Nat.mul_comm (4294967296 ^ m), ← Nat.mul_assoc, Nat.mul_comm (2 ^ (32 - sh)), hsp, Nat.pow_succ, Nat.mul_comm]
  · refine Or.inr ?_
    rw [Nat.add_sub_cancel]
    omega
theorem top_ge {V n : Nat} {g : Nat → Int32} (hn : 0 < n) (hg : bv g n = V) (h : 2147483648 * 4294967296 ^ (n - 1) ≤ V) : 2147483648 ≤ un (g (n - 1)) := by
  obtain ⟨m, rfl⟩ : ∃ m, n = m + 1 := ⟨n - 1, by omega⟩
  rw [Nat.add_sub_cancel] at *
  rw [bv_s] at hg
  have hlt := bv_lt g m
  rcases Nat.lt_or_ge (un (g m)) 2147483648 with z | z
  · exfalso
    have : (un (g m) + 1) * 4294967296 ^ m ≤ 2147483648 * 4294967296 ^ m := Nat.mul_le_mul_right _ z
    rw [Nat.add_mul] at this
    omega
  · exact z
theorem dq_dec {r g : Nat → Int32} {j n q rr : Nat} (hn : 1 < n) (ht : un (r (j + n)) * 4294967296 + un (r (j + n - 1)) = q * un (g (n - 1)) + rr) (hc : rr * 4294967296 + un (r (j + n - 2)) < q * un (g (n - 2))) : bw r j (n + 1) / bv g n < q := by
  obtain ⟨m, rfl⟩ : ∃ m, n = m + 2 := ⟨n - 2, by omega⟩
  rw [show j + (m + 2) - 1 = j + (m + 1) by omega, show m + 2 - 1 = m + 1 by omega] at ht
  rw [show j + (m + 2) - 2 = j + m by omega, show m + 2 - 2 = m by omega] at hc
  refine est_dec (high := un (g (m + 1))) (next := un (g m)) (two := un (r (j + (m + 2))) * 4294967296 + un (r (j + (m + 1)))) (w2 := un (r (j + m))) (r := rr) (P := 4294967296 ^ m) (V' := bv g m) (U' := bw r j m) ?_ ?_ (bw_lt r j m) ht hc
  · rw [bv_s, bv_s, Nat.pow_succ, Nat.add_mul, Nat.mul_assoc, Nat.mul_comm 4294967296]; omega
  · rw [bw_s, bw_s, bw_s, show (4294967296 : Nat) ^ (m + 2) = 4294967296 ^ m * 4294967296 * 4294967296 by rw [Nat.pow_succ, Nat.pow_succ], show (4294967296 : Nat) ^ (m + 1) = 4294967296 ^ m * 4294967296 by rw [Nat.pow_succ]]
    have e1 : ((un (r (j + (m + 2))) * 4294967296 + un (r (j + (m + 1)))) * 4294967296 + un (r (j + m))) * 4294967296 ^ m = un (r (j + (m + 2))) * (4294967296 ^ m * 4294967296 * 4294967296) + un (r (j + (m + 1))) * (4294967296 ^ m * 4294967296) + un (r (j + m)) * 4294967296 ^ m := by grind
    rw [e1]
    omega
theorem dq_hi {r g : Nat → Int32} {j n q rr : Nat} (hn : 1 < n) (ht : un (r (j + n)) * 4294967296 + un (r (j + n - 1)) = q * un (g (n - 1)) + rr) (hh : 2147483648 ≤ un (g (n - 1))) (hq : q < 4294967296) (hc : q * un (g (n - 2)) ≤ rr * 4294967296 + un (r (j + n - 2))) : q ≤ bw r j (n + 1) / bv g n + 1 := by
  obtain ⟨m, rfl⟩ : ∃ m, n = m + 2 := ⟨n - 2, by omega⟩
  rw [show j + (m + 2) - 1 = j + (m + 1) by omega, show m + 2 - 1 = m + 1 by omega] at ht
  rw [show m + 2 - 1 = m + 1 by omega] at hh
  rw [show j + (m + 2) - 2 = j + m by omega, show m + 2 - 2 = m by omega] at hc
  refine est_hi (high := un (g (m + 1))) (next := un (g m)) (two := un (r (j + (m + 2))) * 4294967296 + un (r (j + (m + 1)))) (w2 := un (r (j + m))) (r := rr) (P := 4294967296 ^ m) (V' := bv g m) (U' := bw r j m) ?_ (bv_lt g m) ?_ ht hh hq hc
  · rw [bv_s, bv_s, Nat.pow_succ, Nat.add_mul, Nat.mul_assoc, Nat.mul_comm 4294967296]; omega
  · rw [bw_s, bw_s, bw_s, show (4294967296 : Nat) ^ (m + 2) = 4294967296 ^ m * 4294967296 * 4294967296 by rw [Nat.pow_succ, Nat.pow_succ], show (4294967296 : Nat) ^ (m + 1) = 4294967296 ^ m * 4294967296 by rw [Nat.pow_succ]]
    have e1 : ((un (r (j + (m + 2))) * 4294967296 + un (r (j + (m + 1)))) * 4294967296 + un (r (j + m))) * 4294967296 ^ m = un (r (j + (m + 2))) * (4294967296 ^ m * 4294967296 * 4294967296) + un (r (j + (m + 1))) * (4294967296 ^ m * 4294967296) + un (r (j + m)) * 4294967296 ^ m := by grind
    rw [e1]
    omega
theorem dq_two {r g : Nat → Int32} {j n : Nat} (hn : 0 < n) : bw r j (n + 1) = (un (r (j + n)) * 4294967296 + un (r (j + n - 1))) * 4294967296 ^ (n - 1) + bw r j (n - 1) ∧ bv g n = un (g (n - 1)) * 4294967296 ^ (n - 1) + bv g (n - 1) := by
  obtain ⟨m, rfl⟩ : ∃ m, n = m + 1 := ⟨n - 1, by omega⟩
  rw [Nat.add_sub_cancel, show j + (m + 1) - 1 = j + m by omega, bw_s, bw_s, bv_s, Nat.pow_succ]
  refine ⟨?_, by omega⟩
  have e1 : (un (r (j + (m + 1))) * 4294967296 + un (r (j + m))) * 4294967296 ^ m = un (r (j + (m + 1))) * (4294967296 ^ m * 4294967296) + un (r (j + m)) * 4294967296 ^ m := by grind
  rw [e1]
  omega
theorem dq_lo {r g : Nat → Int32} {j n q rr : Nat} (hn : 0 < n) (ht : un (r (j + n)) * 4294967296 + un (r (j + n - 1)) = q * un (g (n - 1)) + rr) (hr : rr < un (g (n - 1))) : bw r j (n + 1) / bv g n ≤ q :=
  est_lo (dq_two (r := r) (j := j) hn).2 (dq_two (g := g) hn).1 (bw_lt r j (n - 1)) ht hr
theorem dq_one {r g : Nat → Int32} {j n : Nat} (hn : n = 1) : bw r j (n + 1) / bv g n = (un (r (j + n)) * 4294967296 + un (r (j + n - 1))) / un (g (n - 1)) := by
  have h := dq_two (r := r) (g := g) (j := j) (n := n) (by omega)
  rw [h.1, h.2]
  subst hn
  simp [bw, bv]
theorem dq_big {r g : Nat → Int32} {j n q rr : Nat} (hn : 0 < n) (hU : bw r j (n + 1) < bv g n * 4294967296) (ht : un (r (j + n)) * 4294967296 + un (r (j + n - 1)) = q * un (g (n - 1)) + rr) (hr : 4294967296 ≤ rr) : q < 4294967296 := by
  have h := dq_two (r := r) (g := g) (j := j) hn
  rw [h.1, h.2, ht] at hU
  have hlt := bv_lt g (n - 1)
  have hP : 0 < 4294967296 ^ (n - 1) := Nat.pow_pos (by decide)
  generalize un (g (n - 1)) = high at *
  generalize bv g (n - 1) = V' at *
  generalize 4294967296 ^ (n - 1) = P at *
  have h1 : (q * high + rr) * P < (high + 1) * 4294967296 * P := by
    have h2 : (high * P + V') * 4294967296 ≤ (high + 1) * 4294967296 * P := by
      have h3 : high * P + V' ≤ (high + 1) * P := by rw [Nat.add_mul]; omega
      calc (high * P + V') * 4294967296 ≤ (high + 1) * P * 4294967296 := Nat.mul_le_mul_right _ h3
        _ = (high + 1) * 4294967296 * P := by rw [Nat.mul_assoc, Nat.mul_comm P, ← Nat.mul_assoc]
    omega
  have h4 : q * high + rr < (high + 1) * 4294967296 := Nat.lt_of_mul_lt_mul_right h1
  rw [Nat.add_mul] at h4
  have h5 : q * high < 4294967296 * high := by rw [Nat.mul_comm 4294967296]; omega
  exact Nat.lt_of_mul_lt_mul_right h5
theorem dv_win {r : Nat → Int32} {k n V : Nat} (hk : 0 < k) (hR : bv r (k + n) < V * 4294967296 ^ k) : bw r (k - 1) (n + 1) < V * 4294967296 := by
  obtain ⟨j, rfl⟩ : ∃ j, k = j + 1 := ⟨k - 1, by omega⟩
  rw [Nat.add_sub_cancel]
  rw [show j + 1 + n = j + (n + 1) by omega, bv_split, Nat.pow_succ, Nat.mul_comm (4294967296 ^ j), ← Nat.mul_assoc] at hR
  exact Nat.lt_of_mul_lt_mul_right (Nat.lt_of_le_of_lt (Nat.le_add_left _ _) hR)
theorem dv_step {r r' qf : Nat → Int32} {k n mm V U0 : Nat} (hk : 0 < k) (hkm : k ≤ mm + 1) (hVn : V < 4294967296 ^ n) (hV0 : 0 < V) (hR : bv r (k + n) < V * 4294967296 ^ k) (hQ : U0 = V * (bw qf k (mm + 1 - k) * 4294967296 ^ k) + bv r (k + n)) (hout : ∀ i, i < k - 1 → r' i = r i) (hw : bw r' (k - 1) (n + 1) = bw r (k - 1) (n + 1) % V) :
    bv r' (k - 1 + n) < V * 4294967296 ^ (k - 1) ∧ U0 = V * (bw (upd qf (k - 1) (nI (bw r (k - 1) (n + 1) / V))) (k - 1) (mm + 1 - (k - 1)) * 4294967296 ^ (k - 1)) + bv r' (k - 1 + n) := by
  have hwin := dv_win hk hR
  obtain ⟨j, rfl⟩ : ∃ j, k = j + 1 := ⟨k - 1, by omega⟩
  rw [Nat.add_sub_cancel] at *
  obtain ⟨d, hd⟩ : ∃ d, mm + 1 - (j + 1) = d := ⟨_, rfl⟩
  rw [hd] at hQ
  rw [show mm + 1 - j = d + 1 by omega, bw_c, pk_us]
  have hqlt : bw r j (n + 1) / V < 4294967296 := Nat.div_lt_of_lt_mul hwin
  rw [un_nI' hqlt, bw_cong (f := upd qf j _) (g := qf) (fun i h1 h2 => pk_un (by omega))]
  have hmod := Nat.mod_lt (bw r j (n + 1)) hV0
  have hdm := Nat.div_add_mod (bw r j (n + 1)) V
  have h0 : un (r' (j + n)) = 0 := by
    rw [bw_s] at hw
    rcases Nat.eq_zero_or_pos (un (r' (j + n))) with z | z
    · exact z
    · have : 1 * 4294967296 ^ n ≤ un (r' (j + n)) * 4294967296 ^ n := Nat.mul_le_mul_right _ z
      omega
  have e1 : bv r' (j + n) = bv r j + bw r j (n + 1) % V * 4294967296 ^ j := by
    have a1 := bv_split r' j (n + 1)
    rw [hw, bv_cong (n := j) hout] at a1
    rw [← a1, show j + (n + 1) = j + n + 1 from rfl, bv_s, h0]
    omega
  have e2 : bv r (j + 1 + n) = bv r j + bw r j (n + 1) * 4294967296 ^ j := by rw [show j + 1 + n = j + (n + 1) by omega, bv_split]
  rw [e2] at hQ
  rw [e1]
  have hjl := bv_lt r j
  generalize bw r j (n + 1) = U at *
  generalize bv r j = low at *
  generalize bw qf (j + 1) d = Qh at *
  rw [Nat.pow_succ] at hQ
  generalize 4294967296 ^ j = P at *
  constructor
  · calc low + U % V * P < (U % V + 1) * P := by rw [Nat.add_mul]; omega
      _ ≤ V * P := Nat.mul_le_mul_right _ hmod
  · rw [hQ]
    have e3 : U * P = V * (U / V) * P + U % V * P := by rw [← Nat.add_mul, hdm]
    rw [e3]
    have e4 : V * ((U / V + 4294967296 * Qh) * P) = V * (U / V) * P + V * (Qh * (P * 4294967296)) := by grind
    rw [e4]
    omega
theorem cmpN_ge {a b : Nat} : 0 ≤ cmpN a b ↔ b ≤ a := by
  unfold cmpN
  split
  · exact ⟨fun h => absurd h (by decide), fun h => by omega⟩
  · split
    · exact ⟨fun _ => by omega, fun _ => by decide⟩
    · exact ⟨fun _ => by omega, fun _ => by decide⟩
theorem cmpN_le {a b : Nat} : cmpN a b ≤ 0 ↔ a ≤ b := by
  unfold cmpN
  split
  · exact ⟨fun _ => by omega, fun _ => by decide⟩
  · split
    · exact ⟨fun _ => by omega, fun _ => by decide⟩
    · exact ⟨fun h => absurd h (by decide), fun h => by omega⟩
theorem dv_end {N M V U0 Q R sh : Nat} (hV : M * 2 ^ sh = V) (hU : N * 2 ^ sh = U0) (hM : 0 < M) (hR : R < V) (hQ : U0 = V * Q + R) : Q = N / M ∧ R / 2 ^ sh = N % M := by
  have hp := Nat.two_pow_pos sh
  have hV0 : 0 < V := by rw [← hV]; exact Nat.mul_pos hM hp
  have h1 : U0 / V = Q := by rw [hQ, Nat.mul_add_div hV0, Nat.div_eq_of_lt hR]; rfl
  have h2 : U0 % V = R := by rw [hQ, Nat.mul_add_mod, Nat.mod_eq_of_lt hR]
  rw [← hV, ← hU] at h1 h2
  rw [Nat.mul_div_mul_right _ _ hp] at h1
  rw [Nat.mul_mod_mul_right] at h2
  refine ⟨h1.symm, ?_⟩
  rw [← h2, Nat.mul_div_cancel _ hp]

theorem dv_ini {U0 V n m : Nat} (hn : 0 < n) (hnm : n ≤ m) (hU : U0 < 4294967296 ^ m) (hV : 2147483648 * 4294967296 ^ (n - 1) ≤ V) : U0 < V * 4294967296 ^ (m - (n - 1)) := by
  have h1 : 2147483648 * 4294967296 ^ (n - 1) * 4294967296 ^ (m - (n - 1)) ≤ V * 4294967296 ^ (m - (n - 1)) := Nat.mul_le_mul_right _ hV
  rw [Nat.mul_assoc, ← Nat.pow_add, show n - 1 + (m - (n - 1)) = m by omega] at h1
  have h2 : 1 * 4294967296 ^ m ≤ 2147483648 * 4294967296 ^ m := Nat.mul_le_mul_right _ (by decide)
  omega

set_option maxHeartbeats 4000000 in
theorem m_X7_divide {E : GE} {l : Launch} {h : HH} {b x y z N M D cap capx capy capz : Nat} (hB : Big E h b N cap) (hX : Big E h x M capx) (hY : BigX E h y capy) (hZ : Big E h z D capz) (hM0 : M ≠ 0) (hbx : b ≠ x) (hby : b ≠ y) (hbz : b ≠ z) (hxy : x ≠ y) (hxz : x ≠ z) (hyz : y ≠ z) (hm : lm N + 2 ≤ 128) : MG E l yX7_divide cX7_divide 18 none ({ frames := 3, cells := 5, slots := 1280, locals := 450 } : Room) [.ref b, .ref x, .ref y, .ref z] h (fun rv h2 dc ds => rv = none ∧ ∃ cb cy cz, Big E h2 b (N % M) cb ∧ Big E h2 y (N / M) cy ∧ (∃ D2, Big E h2 z D2 cz) ∧ Fr (fun o => o = b ∨ o = y ∨ o = z) h h2 ∧ 8 * dc + (cap + capy + capz) ≤ cb + cy + cz ∧ ds + 2 * (cap + capy + capz) ≤ 2 * (cb + cy + cz) ∧ cap ≤ cb ∧ capy ≤ cy ∧ capz ≤ cz) := by
  refine hn_v (by decide) (Nat.le_of_ble_eq_true rfl) ?_
  intro p e s m below meth c C hnm Q Z ls T hl
  have hx := C.x
  have hb := C.b
  have hl : lv_has ls 18 [(0, .ref b), (1, .ref x), (2, .ref y), (3, .ref z)] := hl
  obtain ⟨ca, f, ⟨hbo, hba, hbn, hb8, hbc⟩, hv⟩ := hB
  obtain ⟨cx, g, ⟨gxo, gxa, hxn, hx8, hxc⟩, hw⟩ := hX
  obtain ⟨cy, ny, fy, ⟨gyo, gya, hyn, hy8, hyc⟩⟩ := hY
  obtain ⟨cz, fz, ⟨gzo, gza, hzn, hz8, hzc⟩, hzv⟩ := hZ
  have hF : Fr (fun o => o = b ∨ o = y ∨ o = z) h h := Fr.rf
  refine lv_aload_n hx hb dX7_divide_0 rfl (lv_at hl 2 rfl) ?_
  refine lv_iconst (v := nI 0) hx hb dX7_divide_1 rfl ?_
  refine hr_put C T gyo rfl in_X7 tyX7 tyX7_ok nmX7 1 (by decide) q172 rfl rfl rfl rfl (Nat.le_of_ble_eq_true rfl) dX7_divide_2 (fun h701 H701 locs701 eh701 T701 => ?_)
  have gyo_701 : h701 y = some (.inr (1, [.ref cy, .int (nI 0)]), y) := hu_s eh701
  have hF_701 : Fr (fun o => o = b ∨ o = y ∨ o = z) h h701 := hu_f eh701 hF gyo (Or.inr (Or.inl rfl))
  refine lv_aload_n hx hb dX7_divide_5 rfl (lv_at hl 0 rfl) ?_
  refine lv_aload_n hx hb dX7_divide_6 rfl (lv_at hl 1 rfl) ?_
  have hbo_701 : h701 b = some (.inr (1, [.ref ca, .int (nI (lm N))]), b) := hu_n eh701 hby hbo
  have hba_701 : h701 ca = some (.inl (E.2.1 0, cap, .inl f), b) := hu_n eh701 (hne_of hba gyo (fun z => hby (congrArg Prod.snd z))) hba
  have gxo_701 : h701 x = some (.inr (1, [.ref cx, .int (nI (lm M))]), x) := hu_n eh701 hxy gxo
  have gxa_701 : h701 cx = some (.inl (E.2.1 0, capx, .inl g), x) := hu_n eh701 (hne_of gxa gyo (fun z => hxy (congrArg Prod.snd z))) gxa
  refine hc_V C T701 hl.1 hbo_701 rfl (m_X7_compare ⟨ca, f, ⟨hbo_701, hba_701, hbn, hb8, hbc⟩, hv⟩ ⟨cx, g, ⟨gxo_701, gxa_701, hxn, hx8, hxc⟩, hw⟩) q939 q803 q804 q59 q805 kd_X7_compare rfl rfl ⟨Nat.le_of_ble_eq_true rfl, Nat.le_of_ble_eq_true rfl⟩ (Nat.le_of_ble_eq_true rfl) dX7_divide_7 ⟨by show 0 + 0 ≤ 5; omega, by show 0 + 0 ≤ 1280; omega⟩ (fun rv h702 H702 locs702 hp702 T702 => ?_)
  obtain ⟨rfl, hq702⟩ := hp702
  rw [hq702] at T702
  refine lv_if_ge (tgt := 14) hx hb dX7_divide_10 (by decide) (fun c1 => ?_) (fun c1 => ?_)
  · have hle : M ≤ N := cmpN_ge.mp c1
    have hlmp := lm_pos hM0
    have hlmm := lm_mono hle
    refine lv_aload_n hx hb dX7_divide_14 rfl (lv_at hl 1 rfl) ?_
    refine hr_get C T702 gxo_701 rfl in_X7 0 (by decide) q170 rfl rfl dX7_divide_15 ?_
    refine lv_aload_n hx hb dX7_divide_18 rfl (lv_at hl 1 rfl) ?_
    refine hr_get C T702 gxo_701 rfl in_X7 1 (by decide) q172 rfl rfl dX7_divide_19 ?_
    refine lv_iconst (v := nI 1) hx hb dX7_divide_22 rfl ?_
    refine hn_isub hx hb dX7_divide_23 (by omega) ?_
    refine hr_iald C T702 gxa_701 (by omega) (by omega) dX7_divide_24 ?_
    refine hc_S C T702 hl.1 (m_J10_numberOfLeadingZeros (bv_top hw hM0)) q940 q941 q74 q942 kd_J10_numberOfLeadingZeros rfl rfl ⟨Nat.le_of_ble_eq_true rfl, Nat.le_of_ble_eq_true rfl⟩ (Nat.le_of_ble_eq_true rfl) dX7_divide_25 ⟨by show 0 + 0 ≤ 5; omega, by show 0 + 0 ≤ 1280; omega⟩ (fun rv h703 H703 locs703 hp703 T703 => ?_)
    obtain ⟨sh, rfl, hq703, hs, hn1, hn2⟩ := hp703
    rw [hq703] at T703
    refine lv_istore (lv' := [(4, .int (nI sh)), (0, .ref b), (1, .ref x), (2, .ref y), (3, .ref z)]) hx hb dX7_divide_28 hl (by decide) rfl (fun ls704 hl704 => ?_)
    refine lv_aload_n hx hb dX7_divide_30 rfl (lv_at hl704 4 rfl) ?_
    refine lv_aload_n hx hb dX7_divide_31 rfl (lv_at hl704 2 rfl) ?_
    have gzo_701 : h701 z = some (.inr (1, [.ref cz, .int (nI (lm D))]), z) := hu_n eh701 (Ne.symm hyz) gzo
    have gza_701 : h701 cz = some (.inl (E.2.1 0, capz, .inl fz), z) := hu_n eh701 (hne_of gza gyo (fun z => (Ne.symm hyz) (congrArg Prod.snd z))) gza
    refine hg_V C T703 hl704.1 gzo_701 rfl (m_X7_copy ⟨gzo_701, gza_701, hzn, hz8, hzc⟩ ⟨cx, g, ⟨gxo_701, gxa_701, hxn, hx8, hxc⟩, hw⟩ (Ne.symm hxz) (by omega)) q944 q783 q784 q59 q785 kd_X7_copy rfl rfl ⟨Nat.le_of_ble_eq_true rfl, Nat.le_of_ble_eq_true rfl⟩ (Nat.le_of_ble_eq_true rfl) dX7_divide_32 ⟨by have := gc_le capz (lm M); have := gs_le hzc (show lm M ≤ 128 by omega); show 0 + (gc capz (lm M)) ≤ 5; omega, by have := gc_le capz (lm M); have := gs_le hzc (show lm M ≤ 128 by omega); show 0 + (gs capz (lm M)) ≤ 1280; omega⟩ (fun rv h705 dc705 ds705 H705 locs705 hp705 T705 => ?_)
    obtain ⟨rfl, hB705, hF705, hdc705, hds705⟩ := hp705
    have hg705 := gpot hz8 hzc (show lm M ≤ 128 by omega)
    rw [← hdc705, ← hds705] at hg705
    generalize capr capz (lm M) = capz1 at hB705 hg705
    clear hdc705 hds705
    have hF_705 : Fr (fun o => o = b ∨ o = y ∨ o = z) h h705 := hF_701.tr (hF705.mono (fun _ q => Or.inr (Or.inr q)))
    refine W.eq (g2 := F0 m 35 ls704 []) rfl ?_
    have hB1 := hB705
    obtain ⟨cz1, fz1, ⟨zo1, za1, zn1, z81, zc1⟩, zv1⟩ := hB705
    refine lv_aload_n hx hb dX7_divide_35 rfl (lv_at hl704 4 rfl) ?_
    refine lv_iload hx hb dX7_divide_36 (lv_at hl704 0 rfl) ?_
    refine hg_V C T705 hl704.1 zo1 rfl (m_X7_shiftLeft hB1 hs (by omega)) q945 q947 qs18 q59 q948 kd_X7_shiftLeft rfl rfl ⟨Nat.le_of_ble_eq_true rfl, Nat.le_of_ble_eq_true rfl⟩ (Nat.le_of_ble_eq_true rfl) dX7_divide_38 ⟨by have := gc_le capz1 (lm M + 1); have := gs_le zc1 (show lm M + 1 ≤ 128 by omega); show 0 + dc705 + (gc capz1 (lm M + 1)) ≤ 5; omega, by have := gc_le capz1 (lm M + 1); have := gs_le zc1 (show lm M + 1 ≤ 128 by omega); show 0 + ds705 + (gs capz1 (lm M + 1)) ≤ 1280; omega⟩ (fun rv h706 dc706 ds706 H706 locs706 hp706 T706 => ?_)
    obtain ⟨rfl, hB706, hF706, hdc706, hds706⟩ := hp706
    have hg706 := gpot z81 zc1 (show lm M + 1 ≤ 128 by omega)
    rw [← hdc706, ← hds706] at hg706
    generalize capr capz1 (lm M + 1) = capz2 at hB706 hg706
    clear hdc706 hds706
    have hF_706 : Fr (fun o => o = b ∨ o = y ∨ o = z) h h706 := hF_705.tr (hF706.mono (fun _ q => Or.inr (Or.inr q)))
    refine W.eq (g2 := F0 m 41 ls704 []) rfl ?_
    obtain ⟨cz2, fz2, ⟨zo2, za2, zn2, z82, zc2⟩, zv2⟩ := hB706
    refine lv_aload_n hx hb dX7_divide_41 rfl (lv_at hl704 1 rfl) ?_
    refine lv_iload hx hb dX7_divide_42 (lv_at hl704 0 rfl) ?_
    have hbo_705 : h705 b = some (.inr (1, [.ref ca, .int (nI (lm N))]), b) := hF705 _ _ hbo_701 hbz
    have hbo_706 : h706 b = some (.inr (1, [.ref ca, .int (nI (lm N))]), b) := hF706 _ _ hbo_705 hbz
    have hba_705 : h705 ca = some (.inl (E.2.1 0, cap, .inl f), b) := hF705 _ _ hba_701 hbz
    have hba_706 : h706 ca = some (.inl (E.2.1 0, cap, .inl f), b) := hF706 _ _ hba_705 hbz
    refine hg_V C T706 hl704.1 hbo_706 rfl (m_X7_shiftLeft ⟨ca, f, ⟨hbo_706, hba_706, hbn, hb8, hbc⟩, hv⟩ hs (by omega)) q945 q947 qs18 q59 q948 kd_X7_shiftLeft rfl rfl ⟨Nat.le_of_ble_eq_true rfl, Nat.le_of_ble_eq_true rfl⟩ (Nat.le_of_ble_eq_true rfl) dX7_divide_44 ⟨by have := gc_le cap (lm N + 1); have := gs_le hbc (show lm N + 1 ≤ 128 by omega); show 0 + dc705 + dc706 + (gc cap (lm N + 1)) ≤ 5; omega, by have := gc_le cap (lm N + 1); have := gs_le hbc (show lm N + 1 ≤ 128 by omega); show 0 + ds705 + ds706 + (gs cap (lm N + 1)) ≤ 1280; omega⟩ (fun rv h707 dc707 ds707 H707 locs707 hp707 T707 => ?_)
    obtain ⟨rfl, hB707, hF707, hdc707, hds707⟩ := hp707
    have hg707 := gpot hb8 hbc (show lm N + 1 ≤ 128 by omega)
    rw [← hdc707, ← hds707] at hg707
    generalize capr cap (lm N + 1) = cap1 at hB707 hg707
    clear hdc707 hds707
    have hF_707 : Fr (fun o => o = b ∨ o = y ∨ o = z) h h707 := hF_706.tr (hF707.mono (fun _ q => Or.inl q))
    refine W.eq (g2 := F0 m 47 ls704 []) rfl ?_
    obtain ⟨ca1, f1, ⟨bo1, ba1, bn1, b81, bc1⟩, bv1⟩ := hB707
    have hnt := norm_top hs hM0 hw hn1 hn2
    have hUV : M * 2 ^ sh ≤ N * 2 ^ sh := Nat.mul_le_mul_right _ hle
    have hlUV := lm_mono hUV
    have hUl := lm_hi (N * 2 ^ sh)
    have hVl := lm_hi (M * 2 ^ sh)
    have hlN : lm (N * 2 ^ sh) ≤ lm N + 1 := lm_le (by have h1 := lm_hi N; have h2 : 2 ^ sh ≤ 4294967296 := (by have := pow_le32 hs; omega); rw [Nat.pow_succ]; exact Nat.lt_of_lt_of_le (Nat.mul_lt_mul_of_pos_right h1 (Nat.two_pow_pos sh)) (Nat.mul_le_mul_left _ h2))
    rw [hnt.1] at zn2 zv2 hlUV hVl
    have zo2_707 : h707 z = some (.inr (1, [.ref cz2, .int (nI (lm (M * 2 ^ sh)))]), z) := hF707 _ _ zo2 (Ne.symm hbz)
    rw [hnt.1] at zo2_707
    refine lv_aload_n hx hb dX7_divide_47 rfl (lv_at hl704 4 rfl) ?_
    refine hr_get C T707 zo2_707 rfl in_X7 1 (by decide) q172 rfl rfl dX7_divide_48 ?_
    refine lv_istore (lv' := [(5, .int (nI (lm M))), (4, .int (nI sh)), (0, .ref b), (1, .ref x), (2, .ref y), (3, .ref z)]) hx hb dX7_divide_51 hl704 (by decide) rfl (fun ls708 hl708 => ?_)
    refine lv_aload_n hx hb dX7_divide_53 rfl (lv_at hl708 2 rfl) ?_
    refine lv_aload_n hx hb dX7_divide_54 rfl (lv_at hl708 2 rfl) ?_
    refine hr_get C T707 bo1 rfl in_X7 1 (by decide) q172 rfl rfl dX7_divide_55 ?_
    refine lv_iconst (v := nI 1) hx hb dX7_divide_58 rfl ?_
    refine hn_iadd hx hb dX7_divide_59 ?_
    refine hg_V C T707 hl708.1 bo1 rfl (m_X7_reserve ⟨bo1, ba1, bn1, b81, bc1⟩ (show lm (N * 2 ^ sh) + 1 ≤ 128 by omega)) q275 q277 qs0 q59 q278 kd_X7_reserve rfl rfl ⟨Nat.le_of_ble_eq_true rfl, Nat.le_of_ble_eq_true rfl⟩ (Nat.le_of_ble_eq_true rfl) dX7_divide_60 ⟨by have := gc_le cap1 (lm (N * 2 ^ sh) + 1); have := gs_le bc1 (show lm (N * 2 ^ sh) + 1 ≤ 128 by omega); show 0 + dc705 + dc706 + dc707 + (gc cap1 (lm (N * 2 ^ sh) + 1)) ≤ 5; omega, by have := gc_le cap1 (lm (N * 2 ^ sh) + 1); have := gs_le bc1 (show lm (N * 2 ^ sh) + 1 ≤ 128 by omega); show 0 + ds705 + ds706 + ds707 + (gs cap1 (lm (N * 2 ^ sh) + 1)) ≤ 1280; omega⟩ (fun rv h709 dc709 ds709 H709 locs709 hp709 T709 => ?_)
    obtain ⟨rfl, ca2, f2, ⟨b2o, b2a, b2n, b28, b2c⟩, b2f, hF709, hdc709, hds709⟩ := hp709
    have hg709 := gpot b81 bc1 (show lm (N * 2 ^ sh) + 1 ≤ 128 by omega)
    rw [← hdc709, ← hds709] at hg709
    generalize capr cap1 (lm (N * 2 ^ sh) + 1) = cap2 at b2a b2n b28 b2c hg709
    clear hdc709 hds709
    have hF_709 : Fr (fun o => o = b ∨ o = y ∨ o = z) h h709 := hF_707.tr (hF709.mono (fun _ q => Or.inl q))
    refine W.eq (g2 := F0 m 63 ls708 []) rfl ?_
    refine lv_aload_n hx hb dX7_divide_63 rfl (lv_at hl708 2 rfl) ?_
    refine hr_get C T709 b2o rfl in_X7 0 (by decide) q170 rfl rfl dX7_divide_64 ?_
    refine lv_aload_n hx hb dX7_divide_67 rfl (lv_at hl708 2 rfl) ?_
    refine hr_get C T709 b2o rfl in_X7 1 (by decide) q172 rfl rfl dX7_divide_68 ?_
    refine lv_iconst (v := nI 0) hx hb dX7_divide_71 rfl ?_
    refine hr_iast C T709 b2a (by omega) (by omega) dX7_divide_72 (fun h710 H710 locs710 eh710 T710 => ?_)
    have b2a_710 : h710 ca2 = some (.inl (E.2.1 0, cap2, .inl (upd f2 (lm (N * 2 ^ sh)) (nI 0))), b) := hu_s eh710
    have hF_710 : Fr (fun o => o = b ∨ o = y ∨ o = z) h h710 := hu_f eh710 hF_709 b2a (Or.inl rfl)
    refine lv_aload_n hx hb dX7_divide_73 rfl (lv_at hl708 2 rfl) ?_
    have b2o_710 : h710 b = some (.inr (1, [.ref ca2, .int (nI (lm (N * 2 ^ sh)))]), b) := hu_n eh710 (hne_of b2o b2a (fun z => by cases z)) b2o
    refine hr_get C T710 b2o_710 rfl in_X7 1 (by decide) q172 rfl rfl dX7_divide_74 ?_
    refine lv_iload hx hb dX7_divide_77 (lv_at hl708 0 rfl) ?_
    refine hn_isub hx hb dX7_divide_79 (by omega) ?_
    refine lv_istore (lv' := [(6, .int (nI ((lm (N * 2 ^ sh)) - (lm M)))), (5, .int (nI (lm M))), (4, .int (nI sh)), (0, .ref b), (1, .ref x), (2, .ref y), (3, .ref z)]) hx hb dX7_divide_80 hl708 (by decide) rfl (fun ls711 hl711 => ?_)
    refine lv_aload_n hx hb dX7_divide_82 rfl (lv_at hl711 5 rfl) ?_
    refine lv_iload hx hb dX7_divide_83 (lv_at hl711 0 rfl) ?_
    refine lv_iconst (v := nI 1) hx hb dX7_divide_85 rfl ?_
    refine hn_iadd hx hb dX7_divide_86 ?_
    have gyo_705 : h705 y = some (.inr (1, [.ref cy, .int (nI 0)]), y) := hF705 _ _ gyo_701 hyz
    have gyo_706 : h706 y = some (.inr (1, [.ref cy, .int (nI 0)]), y) := hF706 _ _ gyo_705 hyz
    have gyo_707 : h707 y = some (.inr (1, [.ref cy, .int (nI 0)]), y) := hF707 _ _ gyo_706 (Ne.symm hby)
    have gyo_709 : h709 y = some (.inr (1, [.ref cy, .int (nI 0)]), y) := hF709 _ _ gyo_707 (Ne.symm hby)
    have gyo_710 : h710 y = some (.inr (1, [.ref cy, .int (nI 0)]), y) := hu_n eh710 (hne_of gyo_709 b2a (fun z => (Ne.symm hby) (congrArg Prod.snd z))) gyo_709
    have gya_701 : h701 cy = some (.inl (E.2.1 0, capy, .inl fy), y) := hu_n eh701 (hne_of gya gyo (fun z => by cases z)) gya
    have gya_705 : h705 cy = some (.inl (E.2.1 0, capy, .inl fy), y) := hF705 _ _ gya_701 hyz
    have gya_706 : h706 cy = some (.inl (E.2.1 0, capy, .inl fy), y) := hF706 _ _ gya_705 hyz
    have gya_707 : h707 cy = some (.inl (E.2.1 0, capy, .inl fy), y) := hF707 _ _ gya_706 (Ne.symm hby)
    have gya_709 : h709 cy = some (.inl (E.2.1 0, capy, .inl fy), y) := hF709 _ _ gya_707 (Ne.symm hby)
    have gya_710 : h710 cy = some (.inl (E.2.1 0, capy, .inl fy), y) := hu_n eh710 (hne_of gya_709 b2a (fun z => (Ne.symm hby) (congrArg Prod.snd z))) gya_709
    refine hg_V C T710 hl711.1 gyo_710 rfl (m_X7_reserve ⟨gyo_710, gya_710, (Nat.zero_le _), hy8, hyc⟩ (show lm (N * 2 ^ sh) - lm M + 1 ≤ 128 by omega)) q275 q277 qs0 q59 q278 kd_X7_reserve rfl rfl ⟨Nat.le_of_ble_eq_true rfl, Nat.le_of_ble_eq_true rfl⟩ (Nat.le_of_ble_eq_true rfl) dX7_divide_87 ⟨by have := gc_le capy (lm (N * 2 ^ sh) - lm M + 1); have := gs_le hyc (show lm (N * 2 ^ sh) - lm M + 1 ≤ 128 by omega); show 0 + dc705 + dc706 + dc707 + dc709 + (gc capy (lm (N * 2 ^ sh) - lm M + 1)) ≤ 5; omega, by have := gc_le capy (lm (N * 2 ^ sh) - lm M + 1); have := gs_le hyc (show lm (N * 2 ^ sh) - lm M + 1 ≤ 128 by omega); show 0 + ds705 + ds706 + ds707 + ds709 + (gs capy (lm (N * 2 ^ sh) - lm M + 1)) ≤ 1280; omega⟩ (fun rv h712 dc712 ds712 H712 locs712 hp712 T712 => ?_)
    obtain ⟨rfl, cy1, fy1, ⟨y1o, y1a, y1n, y18, y1c⟩, y1f, hF712, hdc712, hds712⟩ := hp712
    have hg712 := gpot hy8 hyc (show lm (N * 2 ^ sh) - lm M + 1 ≤ 128 by omega)
    rw [← hdc712, ← hds712] at hg712
    generalize capr capy (lm (N * 2 ^ sh) - lm M + 1) = capy1 at y1a y1n y18 y1c hg712
    clear hdc712 hds712
    have hF_712 : Fr (fun o => o = b ∨ o = y ∨ o = z) h h712 := hF_710.tr (hF712.mono (fun _ q => Or.inr (Or.inl q)))
    refine W.eq (g2 := F0 m 90 ls711 []) rfl ?_
    refine lv_aload_n hx hb dX7_divide_90 rfl (lv_at hl711 6 rfl) ?_
    have zo2_709 : h709 z = some (.inr (1, [.ref cz2, .int (nI (lm M))]), z) := hF709 _ _ zo2_707 (Ne.symm hbz)
    have zo2_710 : h710 z = some (.inr (1, [.ref cz2, .int (nI (lm M))]), z) := hu_n eh710 (hne_of zo2_709 b2a (fun z => (Ne.symm hbz) (congrArg Prod.snd z))) zo2_709
    have zo2_712 : h712 z = some (.inr (1, [.ref cz2, .int (nI (lm M))]), z) := hF712 _ _ zo2_710 (Ne.symm hyz)
    refine hr_get C T712 zo2_712 rfl in_X7 0 (by decide) q170 rfl rfl dX7_divide_91 ?_
    refine lv_iload hx hb dX7_divide_94 (lv_at hl711 1 rfl) ?_
    refine lv_iconst (v := nI 1) hx hb dX7_divide_96 rfl ?_
    refine hn_isub hx hb dX7_divide_97 (by omega) ?_
    have za2_707 : h707 cz2 = some (.inl (E.2.1 0, capz2, .inl fz2), z) := hF707 _ _ za2 (Ne.symm hbz)
    have za2_709 : h709 cz2 = some (.inl (E.2.1 0, capz2, .inl fz2), z) := hF709 _ _ za2_707 (Ne.symm hbz)
    have za2_710 : h710 cz2 = some (.inl (E.2.1 0, capz2, .inl fz2), z) := hu_n eh710 (hne_of za2_709 b2a (fun z => (Ne.symm hbz) (congrArg Prod.snd z))) za2_709
    have za2_712 : h712 cz2 = some (.inl (E.2.1 0, capz2, .inl fz2), z) := hF712 _ _ za2_710 (Ne.symm hyz)
    refine hr_iald C T712 za2_712 (by omega) (by omega) dX7_divide_98 ?_
    refine hc_S C T712 hl711.1 (m_X7_cell) q778 q779 q59 q780 kd_X7_cell rfl rfl ⟨Nat.le_of_ble_eq_true rfl, Nat.le_of_ble_eq_true rfl⟩ (Nat.le_of_ble_eq_true rfl) dX7_divide_99 ⟨by show 0 + dc705 + dc706 + dc707 + dc709 + dc712 + 0 ≤ 5; omega, by show 0 + ds705 + ds706 + ds707 + ds709 + ds712 + 0 ≤ 1280; omega⟩ (fun rv h713 H713 locs713 hp713 T713 => ?_)
    obtain ⟨rfl, hq713⟩ := hp713
    rw [hq713] at T713
    refine lv_lstore (lv' := [(7, .long (lN (un (fz2 (lm M - 1))))), (6, .int (nI ((lm (N * 2 ^ sh)) - (lm M)))), (5, .int (nI (lm M))), (4, .int (nI sh)), (0, .ref b), (1, .ref x), (2, .ref y), (3, .ref z)]) hx hb dX7_divide_102 hl711 (by decide) rfl (fun ls714 hl714 => ?_)
    refine lv_iload hx hb dX7_divide_104 (lv_at hl714 2 rfl) ?_
    refine lv_iconst (v := nI 1) hx hb dX7_divide_106 rfl ?_
    have htop : 2147483648 ≤ un (fz2 (lm M - 1)) := top_ge hlmp zv2 hnt.2
    have hV0 : 0 < M * 2 ^ sh := Nat.mul_pos (Nat.pos_of_ne_zero hM0) (Nat.two_pow_pos sh)
    have hfz := un_lt (fz2 (lm M - 1))
    have J126 : ∀ (nx : Nat) (H715 : Heap) (locs715 : List Loc) (ls715 : Array Slot), (nx < 4294967296) → (1 < lm M → nx = un (fz2 (lm M - 2))) → (St E s h712 H715 locs715) → (lv_has ls715 18 [(7, .long (lN (un (fz2 (lm M - 1))))), (6, .int (nI ((lm (N * 2 ^ sh)) - (lm M)))), (5, .int (nI (lm M))), (4, .int (nI sh)), (0, .ref b), (1, .ref x), (2, .ref y), (3, .ref z)]) → W p l e ({ frames := 3, cells := 5, slots := 1280, locals := 450 } : Room) s m ([.ref b, .ref x, .ref y, .ref z] : List Value).toArray below meth c H715 locs715 (0 + dc705 + dc706 + dc707 + dc709 + dc712) (0 + ds705 + ds706 + ds707 + ds709 + ds712) Q (F0 m 126 ls715 [.long (lN nx)]) := by
      intro nx H715 locs715 ls715 hnx hnx2 T715 hl715
      refine lv_lstore (lv' := [(9, .long (lN nx)), (7, .long (lN (un (fz2 (lm M - 1))))), (6, .int (nI ((lm (N * 2 ^ sh)) - (lm M)))), (5, .int (nI (lm M))), (4, .int (nI sh)), (0, .ref b), (1, .ref x), (2, .ref y), (3, .ref z)]) hx hb dX7_divide_126 hl715 (by decide) rfl (fun ls716 hl716 => ?_)
      refine lv_iload hx hb dX7_divide_128 (lv_at hl716 2 rfl) ?_
      refine lv_istore (lv' := [(11, .int (nI ((lm (N * 2 ^ sh)) - (lm M)))), (9, .long (lN nx)), (7, .long (lN (un (fz2 (lm M - 1))))), (6, .int (nI ((lm (N * 2 ^ sh)) - (lm M)))), (5, .int (nI (lm M))), (4, .int (nI sh)), (0, .ref b), (1, .ref x), (2, .ref y), (3, .ref z)]) hx hb dX7_divide_130 hl716 (by decide) rfl (fun ls717 hl717 => ?_)
      rw [show nI (lm (N * 2 ^ sh) - lm M) = nI (lm (N * 2 ^ sh) - lm M + 1) - 1 from (nIm1 (t := lm (N * 2 ^ sh) - lm M + 1) (by omega)).symm] at hl717
      have L1 : ∀ (jm : Nat) (k : Nat) (r qf : Nat → Int32) (h718 : HH) (H718 : Heap) (locs718 : List Loc) (ls718 : Array Slot), (k < jm) → (h718 b = some (.inr (1, [.ref ca2, .int (nI (lm (N * 2 ^ sh)))]), b)) → (h718 ca2 = some (.inl (E.2.1 0, cap2, .inl r), b)) → (h718 y = some (.inr (1, [.ref cy1, .int (nI 0)]), y)) → (h718 cy1 = some (.inl (E.2.1 0, capy1, .inl qf), y)) → (h718 z = some (.inr (1, [.ref cz2, .int (nI (lm M))]), z)) → (h718 cz2 = some (.inl (E.2.1 0, capz2, .inl fz2), z)) → (k ≤ lm (N * 2 ^ sh) - lm M + 1) → (bv r (k + lm M) < M * 2 ^ sh * 4294967296 ^ k) → (N * 2 ^ sh = M * 2 ^ sh * (bw qf k (lm (N * 2 ^ sh) - lm M + 1 - k) * 4294967296 ^ k) + bv r (k + lm M)) → (Fr (fun o => o = b ∨ o = y ∨ o = z) h h718) → (St E s h718 H718 locs718) → (lv_has ls718 18 [(0, .ref b), (1, .ref x), (2, .ref y), (3, .ref z), (4, .int (nI sh)), (5, .int (nI (lm M))), (6, .int (nI (lm (N * 2 ^ sh) - lm M + 1) - 1)), (7, .long (lN (un (fz2 (lm M - 1))))), (9, .long (lN nx)), (11, .int (nI k - 1))]) → W p l e ({ frames := 3, cells := 5, slots := 1280, locals := 450 } : Room) s m ([.ref b, .ref x, .ref y, .ref z] : List Value).toArray below meth c H718 locs718 (0 + dc705 + dc706 + dc707 + dc709 + dc712) (0 + ds705 + ds706 + ds707 + ds709 + ds712) Q (F0 m 132 ls718 []) := by
        intro jm
        induction jm with
        | zero => intro k r qf h718 H718 locs718 ls718 hm718 lb_718 lba_718 ly_718 lya_718 lz_718 lza_718 hk hR hQ hF_718 T718 hl718; exact absurd hm718 (by omega)
        | succ jm ih718 =>
          intro k r qf h718 H718 locs718 ls718 hm718 lb_718 lba_718 ly_718 lya_718 lz_718 lza_718 hk hR hQ hF_718 T718 hl718
          refine lv_iload hx hb dX7_divide_132 (lv_at hl718 9 rfl) ?_
          refine lv_if_lt (tgt := 289) hx hb dX7_divide_134 (by decide) (fun c2 => ?_) (fun c2 => ?_)
          · have k0 : k = 0 := (nIm1_neg (by omega)).mp c2
            subst k0
            rw [Nat.zero_add, Nat.pow_zero, Nat.mul_one] at hR
            rw [Nat.sub_zero, Nat.zero_add, Nat.pow_zero, Nat.mul_one, bw_bv] at hQ
            have hend := dv_end rfl rfl (Nat.pos_of_ne_zero hM0) hR hQ
            refine lv_aload_n hx hb dX7_divide_289 rfl (lv_at hl718 2 rfl) ?_
            refine lv_iload hx hb dX7_divide_290 (lv_at hl718 6 rfl) ?_
            rw [nIm1 (t := lm (N * 2 ^ sh) - lm M + 1) (by omega), Nat.add_sub_cancel]
            refine lv_iconst (v := nI 1) hx hb dX7_divide_292 rfl ?_
            refine hn_iadd hx hb dX7_divide_293 ?_
            refine hr_put C T718 ly_718 rfl in_X7 tyX7 tyX7_ok nmX7 1 (by decide) q172 rfl rfl rfl rfl (Nat.le_of_ble_eq_true rfl) dX7_divide_294 (fun h719 H719 locs719 eh719 T719 => ?_)
            have ly_719 : h719 y = some (.inr (1, [.ref cy1, .int (nI ((lm (N * 2 ^ sh) - lm M) + 1))]), y) := hu_s eh719
            have hF_719 : Fr (fun o => o = b ∨ o = y ∨ o = z) h h719 := hu_f eh719 hF_718 ly_718 (Or.inr (Or.inl rfl))
            refine lv_aload_n hx hb dX7_divide_297 rfl (lv_at hl718 2 rfl) ?_
            have lya_719 : h719 cy1 = some (.inl (E.2.1 0, capy1, .inl qf), y) := hu_n eh719 (hne_of lya_718 ly_718 (fun z => by cases z)) lya_718
            refine hc_V C T719 hl718.1 ly_719 rfl (m_X7_trim ⟨ly_719, lya_719, by omega, y18, y1c⟩) q285 q287 qs1 q59 q288 kd_X7_trim rfl rfl ⟨Nat.le_of_ble_eq_true rfl, Nat.le_of_ble_eq_true rfl⟩ (Nat.le_of_ble_eq_true rfl) dX7_divide_298 ⟨by show 0 + dc705 + dc706 + dc707 + dc709 + dc712 + 0 ≤ 5; omega, by show 0 + ds705 + ds706 + ds707 + ds709 + ds712 + 0 ≤ 1280; omega⟩ (fun rv h720 H720 locs720 hp720 T720 => ?_)
            obtain ⟨rfl, k2, hk2, hB720, hF720, hz3, hn3⟩ := hp720
            have hF_720 : Fr (fun o => o = b ∨ o = y ∨ o = z) h h720 := hF_719.tr (hF720.mono (fun _ q => Or.inr (Or.inl q)))
            refine W.eq (g2 := F0 m 301 ls718 []) rfl ?_
            have hBy := Big.of (N := N / M) hB720 (by rw [← bv_tail hk2 hz3, hend.1]) hn3
            refine lv_aload_n hx hb dX7_divide_301 rfl (lv_at hl718 0 rfl) ?_
            refine lv_iload hx hb dX7_divide_302 (lv_at hl718 5 rfl) ?_
            have lb_719 : h719 b = some (.inr (1, [.ref ca2, .int (nI (lm (N * 2 ^ sh)))]), b) := hu_n eh719 hby lb_718
            have lb_720 : h720 b = some (.inr (1, [.ref ca2, .int (nI (lm (N * 2 ^ sh)))]), b) := hF720 _ _ lb_719 hby
            refine hr_put C T720 lb_720 rfl in_X7 tyX7 tyX7_ok nmX7 1 (by decide) q172 rfl rfl rfl rfl (Nat.le_of_ble_eq_true rfl) dX7_divide_304 (fun h721 H721 locs721 eh721 T721 => ?_)
            have lb_721 : h721 b = some (.inr (1, [.ref ca2, .int (nI (lm M))]), b) := hu_s eh721
            have hF_721 : Fr (fun o => o = b ∨ o = y ∨ o = z) h h721 := hu_f eh721 hF_720 lb_720 (Or.inl rfl)
            refine lv_aload_n hx hb dX7_divide_307 rfl (lv_at hl718 0 rfl) ?_
            have lba_719 : h719 ca2 = some (.inl (E.2.1 0, cap2, .inl r), b) := hu_n eh719 (hne_of lba_718 ly_718 (fun z => hby (congrArg Prod.snd z))) lba_718
            have lba_720 : h720 ca2 = some (.inl (E.2.1 0, cap2, .inl r), b) := hF720 _ _ lba_719 hby
            have lba_721 : h721 ca2 = some (.inl (E.2.1 0, cap2, .inl r), b) := hu_n eh721 (hne_of lba_720 lb_720 (fun z => by cases z)) lba_720
            refine hc_V C T721 hl718.1 lb_721 rfl (m_X7_trim ⟨lb_721, lba_721, by omega, b28, b2c⟩) q285 q287 qs1 q59 q288 kd_X7_trim rfl rfl ⟨Nat.le_of_ble_eq_true rfl, Nat.le_of_ble_eq_true rfl⟩ (Nat.le_of_ble_eq_true rfl) dX7_divide_308 ⟨by show 0 + dc705 + dc706 + dc707 + dc709 + dc712 + 0 ≤ 5; omega, by show 0 + ds705 + ds706 + ds707 + ds709 + ds712 + 0 ≤ 1280; omega⟩ (fun rv h722 H722 locs722 hp722 T722 => ?_)
            obtain ⟨rfl, k4, hk4, hB722, hF722, hz4, hn4⟩ := hp722
            have hF_722 : Fr (fun o => o = b ∨ o = y ∨ o = z) h h722 := hF_721.tr (hF722.mono (fun _ q => Or.inl q))
            refine W.eq (g2 := F0 m 311 ls718 []) rfl ?_
            have hBb := Big.of (N := bv r (lm M)) hB722 (bv_tail hk4 hz4).symm hn4
            have hbb := hB722.1
            refine lv_aload_n hx hb dX7_divide_311 rfl (lv_at hl718 0 rfl) ?_
            refine lv_iload hx hb dX7_divide_312 (lv_at hl718 4 rfl) ?_
            refine hc_V C T722 hl718.1 hbb rfl (m_X7_shiftRight hBb hs) q964 q966 qs20 q59 q967 kd_X7_shiftRight rfl rfl ⟨Nat.le_of_ble_eq_true rfl, Nat.le_of_ble_eq_true rfl⟩ (Nat.le_of_ble_eq_true rfl) dX7_divide_314 ⟨by show 0 + dc705 + dc706 + dc707 + dc709 + dc712 + 0 ≤ 5; omega, by show 0 + ds705 + ds706 + ds707 + ds709 + ds712 + 0 ≤ 1280; omega⟩ (fun rv h723 H723 locs723 hp723 T723 => ?_)
            obtain ⟨rfl, hB723, hF723⟩ := hp723
            have hF_723 : Fr (fun o => o = b ∨ o = y ∨ o = z) h h723 := hF_722.tr (hF723.mono (fun _ q => Or.inl q))
            refine W.eq (g2 := F0 m 317 ls718 []) rfl ?_
            rw [hend.2] at hB723
            have hBy_721 : Big E h721 y (N / M) capy1 := Fr1.b (O := (· = b)) (hu_f eh721 Fr.rf lb_720 rfl) (Ne.symm hby) hBy
            have hBy_722 : Big E h722 y (N / M) capy1 := Fr1.b hF722 (Ne.symm hby) hBy_721
            have hBy_723 : Big E h723 y (N / M) capy1 := Fr1.b hF723 (Ne.symm hby) hBy_722
            have lz_719 : h719 z = some (.inr (1, [.ref cz2, .int (nI (lm M))]), z) := hu_n eh719 (Ne.symm hyz) lz_718
            have lz_720 : h720 z = some (.inr (1, [.ref cz2, .int (nI (lm M))]), z) := hF720 _ _ lz_719 (Ne.symm hyz)
            have lz_721 : h721 z = some (.inr (1, [.ref cz2, .int (nI (lm M))]), z) := hu_n eh721 (Ne.symm hbz) lz_720
            have lz_722 : h722 z = some (.inr (1, [.ref cz2, .int (nI (lm M))]), z) := hF722 _ _ lz_721 (Ne.symm hbz)
            have lz_723 : h723 z = some (.inr (1, [.ref cz2, .int (nI (lm M))]), z) := hF723 _ _ lz_722 (Ne.symm hbz)
            have lza_719 : h719 cz2 = some (.inl (E.2.1 0, capz2, .inl fz2), z) := hu_n eh719 (hne_of lza_718 ly_718 (fun z => (Ne.symm hyz) (congrArg Prod.snd z))) lza_718
            have lza_720 : h720 cz2 = some (.inl (E.2.1 0, capz2, .inl fz2), z) := hF720 _ _ lza_719 (Ne.symm hyz)
            have lza_721 : h721 cz2 = some (.inl (E.2.1 0, capz2, .inl fz2), z) := hu_n eh721 (hne_of lza_720 lb_720 (fun z => (Ne.symm hbz) (congrArg Prod.snd z))) lza_720
            have lza_722 : h722 cz2 = some (.inl (E.2.1 0, capz2, .inl fz2), z) := hF722 _ _ lza_721 (Ne.symm hbz)
            have lza_723 : h723 cz2 = some (.inl (E.2.1 0, capz2, .inl fz2), z) := hF723 _ _ lza_722 (Ne.symm hbz)
            exact Z _ _ _ _ _ _ _ dX7_divide_317 (by show 0 + dc705 + dc706 + dc707 + dc709 + dc712 ≤ 5; omega) (by show 0 + ds705 + ds706 + ds707 + ds709 + ds712 ≤ 1280; omega) ⟨rfl, cap2, capy1, capz2, hB723, hBy_723, ⟨M * 2 ^ sh, cz2, fz2, by rw [hnt.1]; exact ⟨lz_723, lza_723, zn2, z82, zc2⟩, by rw [hnt.1]; exact zv2⟩, hF_723, by omega, by omega, by omega, by omega, by omega⟩ T723
          · have k0 : 0 < k := Nat.pos_of_ne_zero fun q => c2 ((nIm1_neg (by omega)).mpr q)
            rw [nIm1 k0] at hl718
            have hwin := dv_win k0 hR
            have hqlt : bw r (k - 1) (lm M + 1) / (M * 2 ^ sh) < 4294967296 := Nat.div_lt_of_lt_mul hwin
            have hhi := un_lt (r (k - 1 + lm M))
            have hlo := un_lt (r (k - 1 + lm M - 1))
            refine lv_aload_n hx hb dX7_divide_137 rfl (lv_at hl718 0 rfl) ?_
            refine hr_get C T718 lb_718 rfl in_X7 0 (by decide) q170 rfl rfl dX7_divide_138 ?_
            refine lv_iload hx hb dX7_divide_141 (lv_at hl718 9 rfl) ?_
            refine lv_iload hx hb dX7_divide_143 (lv_at hl718 5 rfl) ?_
            refine hn_iadd hx hb dX7_divide_145 ?_
            refine hr_iald C T718 lba_718 (by omega) (by omega) dX7_divide_146 ?_
            refine hc_S C T718 hl718.1 (m_X7_cell) q778 q779 q59 q780 kd_X7_cell rfl rfl ⟨Nat.le_of_ble_eq_true rfl, Nat.le_of_ble_eq_true rfl⟩ (Nat.le_of_ble_eq_true rfl) dX7_divide_147 ⟨by show 0 + dc705 + dc706 + dc707 + dc709 + dc712 + 0 ≤ 5; omega, by show 0 + ds705 + ds706 + ds707 + ds709 + ds712 + 0 ≤ 1280; omega⟩ (fun rv h724 H724 locs724 hp724 T724 => ?_)
            obtain ⟨rfl, hq724⟩ := hp724
            rw [hq724] at T724
            refine lv_bipush (v := nI 32) hx hb dX7_divide_150 rfl ?_
            refine hn_lshl hx hb dX7_divide_152 (by omega) ?_
            refine lv_aload_n hx hb dX7_divide_153 rfl (lv_at hl718 0 rfl) ?_
            refine hr_get C T724 lb_718 rfl in_X7 0 (by decide) q170 rfl rfl dX7_divide_154 ?_
            refine lv_iload hx hb dX7_divide_157 (lv_at hl718 9 rfl) ?_
            refine lv_iload hx hb dX7_divide_159 (lv_at hl718 5 rfl) ?_
            refine hn_iadd hx hb dX7_divide_161 ?_
            refine lv_iconst (v := nI 1) hx hb dX7_divide_162 rfl ?_
            refine hn_isub hx hb dX7_divide_163 (by omega) ?_
            refine hr_iald C T724 lba_718 (by omega) (by omega) dX7_divide_164 ?_
            refine hc_S C T724 hl718.1 (m_X7_cell) q778 q779 q59 q780 kd_X7_cell rfl rfl ⟨Nat.le_of_ble_eq_true rfl, Nat.le_of_ble_eq_true rfl⟩ (Nat.le_of_ble_eq_true rfl) dX7_divide_165 ⟨by show 0 + dc705 + dc706 + dc707 + dc709 + dc712 + 0 ≤ 5; omega, by show 0 + ds705 + ds706 + ds707 + ds709 + ds712 + 0 ≤ 1280; omega⟩ (fun rv h725 H725 locs725 hp725 T725 => ?_)
            obtain ⟨rfl, hq725⟩ := hp725
            rw [hq725] at T725
            refine lv_lor hx hb dX7_divide_168 ?_
            rw [show (lN ((un (r (k - 1 + lm M))) * 2 ^ 32)) ||| (lN (un (r (k - 1 + lm M - 1)))) = lN (un (r (k - 1 + lm M)) * 4294967296 + un (r (k - 1 + lm M - 1))) from lor_sum (s := 32) (by omega) (by omega)]
            refine lv_lstore (lv' := [(12, .long (lN (un (r (k - 1 + lm M)) * 4294967296 + un (r (k - 1 + lm M - 1))))), (0, .ref b), (1, .ref x), (2, .ref y), (3, .ref z), (4, .int (nI sh)), (5, .int (nI (lm M))), (6, .int (nI (lm (N * 2 ^ sh) - lm M + 1) - 1)), (7, .long (lN (un (fz2 (lm M - 1))))), (9, .long (lN nx)), (11, .int (nI (k - 1)))]) hx hb dX7_divide_169 hl718 (by decide) rfl (fun ls726 hl726 => ?_)
            refine lv_lload hx hb dX7_divide_171 (lv_at hl726 0 rfl) ?_
            refine lv_lload hx hb dX7_divide_173 (lv_at hl726 8 rfl) ?_
            refine hc_S C T725 hl726.1 (m_J11_divideUnsigned (by omega) (by omega) (by omega)) q949 q950 q75 q951 kd_J11_divideUnsigned rfl rfl ⟨Nat.le_of_ble_eq_true rfl, Nat.le_of_ble_eq_true rfl⟩ (Nat.le_of_ble_eq_true rfl) dX7_divide_175 ⟨by show 0 + dc705 + dc706 + dc707 + dc709 + dc712 + 0 ≤ 5; omega, by show 0 + ds705 + ds706 + ds707 + ds709 + ds712 + 0 ≤ 1280; omega⟩ (fun rv h727 H727 locs727 hp727 T727 => ?_)
            obtain ⟨rfl, hq727⟩ := hp727
            rw [hq727] at T727
            have hdl := Nat.div_mul_le_self (un (r (k - 1 + lm M)) * 4294967296 + un (r (k - 1 + lm M - 1))) (un (fz2 (lm M - 1)))
            have hdm := Nat.div_add_mod (un (r (k - 1 + lm M)) * 4294967296 + un (r (k - 1 + lm M - 1))) (un (fz2 (lm M - 1)))
            have hml := Nat.mod_lt (un (r (k - 1 + lm M)) * 4294967296 + un (r (k - 1 + lm M - 1))) (show 0 < un (fz2 (lm M - 1)) by omega)
            refine lv_lstore (lv' := [(14, .long (lN ((un (r (k - 1 + lm M)) * 4294967296 + un (r (k - 1 + lm M - 1))) / un (fz2 (lm M - 1))))), (12, .long (lN (un (r (k - 1 + lm M)) * 4294967296 + un (r (k - 1 + lm M - 1))))), (0, .ref b), (1, .ref x), (2, .ref y), (3, .ref z), (4, .int (nI sh)), (5, .int (nI (lm M))), (6, .int (nI (lm (N * 2 ^ sh) - lm M + 1) - 1)), (7, .long (lN (un (fz2 (lm M - 1))))), (9, .long (lN nx)), (11, .int (nI (k - 1)))]) hx hb dX7_divide_178 hl726 (by decide) rfl (fun ls728 hl728 => ?_)
            refine lv_lload hx hb dX7_divide_180 (lv_at hl728 1 rfl) ?_
            refine lv_lload hx hb dX7_divide_182 (lv_at hl728 0 rfl) ?_
            refine lv_lload hx hb dX7_divide_184 (lv_at hl728 9 rfl) ?_
            refine hn_lmul hx hb dX7_divide_186 ?_
            refine hn_lsub hx hb dX7_divide_187 hdl ?_
            refine lv_lstore (lv' := [(16, .long (lN ((un (r (k - 1 + lm M)) * 4294967296 + un (r (k - 1 + lm M - 1))) - (((un (r (k - 1 + lm M)) * 4294967296 + un (r (k - 1 + lm M - 1))) / un (fz2 (lm M - 1))) * (un (fz2 (lm M - 1))))))), (14, .long (lN ((un (r (k - 1 + lm M)) * 4294967296 + un (r (k - 1 + lm M - 1))) / un (fz2 (lm M - 1))))), (12, .long (lN (un (r (k - 1 + lm M)) * 4294967296 + un (r (k - 1 + lm M - 1))))), (0, .ref b), (1, .ref x), (2, .ref y), (3, .ref z), (4, .int (nI sh)), (5, .int (nI (lm M))), (6, .int (nI (lm (N * 2 ^ sh) - lm M + 1) - 1)), (7, .long (lN (un (fz2 (lm M - 1))))), (9, .long (lN nx)), (11, .int (nI (k - 1)))]) hx hb dX7_divide_188 hl728 (by decide) rfl (fun ls729 hl729 => ?_)
            have J264 : ∀ (q : Nat) (H730 : Heap) (locs730 : List Loc) (ls730 : Array Slot), (q < 4294967296) → (bw r (k - 1) (lm M + 1) / bv fz2 (lm M) ≤ q) → (q ≤ bw r (k - 1) (lm M + 1) / bv fz2 (lm M) + 1) → (St E s h718 H730 locs730) → (lv_has ls730 18 [(0, .ref b), (1, .ref x), (2, .ref y), (3, .ref z), (4, .int (nI sh)), (5, .int (nI (lm M))), (6, .int (nI (lm (N * 2 ^ sh) - lm M + 1) - 1)), (7, .long (lN (un (fz2 (lm M - 1))))), (9, .long (lN nx)), (11, .int (nI (k - 1))), (14, .long (lN q))]) → W p l e ({ frames := 3, cells := 5, slots := 1280, locals := 450 } : Room) s m ([.ref b, .ref x, .ref y, .ref z] : List Value).toArray below meth c H730 locs730 (0 + dc705 + dc706 + dc707 + dc709 + dc712) (0 + ds705 + ds706 + ds707 + ds709 + ds712) Q (F0 m 264 ls730 []) := by
              intro q H730 locs730 ls730 hq1 hq2 hq3 T730 hl730
              refine lv_aload_n hx hb dX7_divide_264 rfl (lv_at hl730 2 rfl) ?_
              refine hr_get C T730 ly_718 rfl in_X7 0 (by decide) q170 rfl rfl dX7_divide_265 ?_
              refine lv_iload hx hb dX7_divide_268 (lv_at hl730 9 rfl) ?_
              refine lv_aload_n hx hb dX7_divide_270 rfl (lv_at hl730 0 rfl) ?_
              refine lv_aload_n hx hb dX7_divide_271 rfl (lv_at hl730 3 rfl) ?_
              refine lv_iload hx hb dX7_divide_272 (lv_at hl730 9 rfl) ?_
              refine lv_iload hx hb dX7_divide_274 (lv_at hl730 5 rfl) ?_
              refine lv_lload hx hb dX7_divide_276 (lv_at hl730 10 rfl) ?_
              refine hc_V C T730 hl730.1 lb_718 rfl (m_X7_taken ⟨lb_718, lba_718, by omega, b28, b2c⟩ ⟨lz_718, lza_718, zn2, z82, zc2⟩ hbz (show k - 1 + lm M < cap2 by omega) (show lm M ≤ capz2 by omega) (by rw [zv2]; exact hV0) hq1 hq2 hq3) q960 q962 qs19 q59 q963 kd_X7_taken rfl rfl ⟨Nat.le_of_ble_eq_true rfl, Nat.le_of_ble_eq_true rfl⟩ (Nat.le_of_ble_eq_true rfl) dX7_divide_278 ⟨by show 0 + dc705 + dc706 + dc707 + dc709 + dc712 + 0 ≤ 5; omega, by show 0 + ds705 + ds706 + ds707 + ds709 + ds712 + 0 ≤ 1280; omega⟩ (fun rv h731 H731 locs731 hp731 T731 => ?_)
              obtain ⟨rfl, r', ⟨tbo, tba, tbn, tb8, tbc⟩, hF731, hout, hwn⟩ := hp731
              rw [zv2] at hwn
              rw [zv2]
              have hF_731 : Fr (fun o => o = b ∨ o = y ∨ o = z) h h731 := hF_718.tr (hF731.mono (fun _ q => Or.inl q))
              refine W.eq (g2 := F0 m 281 ls730 [.long (lN (bw r (k - 1) (lm M + 1) / (M * 2 ^ sh))), .int (nI (k - 1)), .ref cy1]) rfl ?_
              refine hn_l2i hx hb dX7_divide_281 ?_
              have lya_731 : h731 cy1 = some (.inl (E.2.1 0, capy1, .inl qf), y) := hF731 _ _ lya_718 (Ne.symm hby)
              refine hr_iast C T731 lya_731 (by omega) (by omega) dX7_divide_282 (fun h732 H732 locs732 eh732 T732 => ?_)
              have lya_732 : h732 cy1 = some (.inl (E.2.1 0, capy1, .inl (upd qf (k - 1) (nI (bw r (k - 1) (lm M + 1) / (M * 2 ^ sh))))), y) := hu_s eh732
              have hF_732 : Fr (fun o => o = b ∨ o = y ∨ o = z) h h732 := hu_f eh732 hF_731 lya_731 (Or.inr (Or.inl rfl))
              refine lv_iinc (v := nI (k - 1) - 1) (lv' := [(11, .int (nI (k - 1) - 1)), (0, .ref b), (1, .ref x), (2, .ref y), (3, .ref z), (4, .int (nI sh)), (5, .int (nI (lm M))), (6, .int (nI (lm (N * 2 ^ sh) - lm M + 1) - 1)), (7, .long (lN (un (fz2 (lm M - 1))))), (9, .long (lN nx)), (14, .long (lN q))]) hx hb dX7_divide_283 hl730 (k := 9) rfl (by rw [Int32.sub_eq_add_neg]; rfl) (by decide) rfl (fun ls733 hl733 => ?_)
              refine lv_goto (tgt := 132) hx hb dX7_divide_286 (by decide) ?_
              have hst := dv_step (mm := lm (N * 2 ^ sh) - lm M) k0 hk hVl hV0 hR hQ (fun i hi => hout i (Or.inl hi)) hwn
              have tbo_732 : h732 b = some (.inr (1, [.ref ca2, .int (nI (lm (N * 2 ^ sh)))]), b) := hu_n eh732 (hne_of tbo lya_731 (fun z => hby (congrArg Prod.snd z))) tbo
              have tba_732 : h732 ca2 = some (.inl (E.2.1 0, cap2, .inl r'), b) := hu_n eh732 (hne_of tba lya_731 (fun z => hby (congrArg Prod.snd z))) tba
              have ly_731 : h731 y = some (.inr (1, [.ref cy1, .int (nI 0)]), y) := hF731 _ _ ly_718 (Ne.symm hby)
              have ly_732 : h732 y = some (.inr (1, [.ref cy1, .int (nI 0)]), y) := hu_n eh732 (hne_of ly_731 lya_731 (fun z => by cases z)) ly_731
              have lz_731 : h731 z = some (.inr (1, [.ref cz2, .int (nI (lm M))]), z) := hF731 _ _ lz_718 (Ne.symm hbz)
              have lz_732 : h732 z = some (.inr (1, [.ref cz2, .int (nI (lm M))]), z) := hu_n eh732 (hne_of lz_731 lya_731 (fun z => (Ne.symm hyz) (congrArg Prod.snd z))) lz_731
              have lza_731 : h731 cz2 = some (.inl (E.2.1 0, capz2, .inl fz2), z) := hF731 _ _ lza_718 (Ne.symm hbz)
              have lza_732 : h732 cz2 = some (.inl (E.2.1 0, capz2, .inl fz2), z) := hu_n eh732 (hne_of lza_731 lya_731 (fun z => (Ne.symm hyz) (congrArg Prod.snd z))) lza_731
              exact ih718 (k - 1) r' _ _ _ _ _ (by omega) tbo_732 tba_732 ly_732 lya_732 lz_732 lza_732 (by omega) hst.1 hst.2 hF_732 T732 (lv_sub hl733 [1, 2, 3, 4, 5, 6, 7, 8, 9, 0] rfl)
            have L2 : ∀ (jm : Nat) (q rr : Nat) (H734 : Heap) (locs734 : List Loc) (ls734 : Array Slot), (q < jm) → ((un (r (k - 1 + lm M)) * 4294967296 + un (r (k - 1 + lm M - 1))) = q * un (fz2 (lm M - 1)) + rr) → (bw r (k - 1) (lm M + 1) / bv fz2 (lm M) ≤ q) → (lm M = 1 → q = bw r (k - 1) (lm M + 1) / bv fz2 (lm M)) → (rr < 8589934592) → (St E s h718 H734 locs734) → (lv_has ls734 18 [(0, .ref b), (1, .ref x), (2, .ref y), (3, .ref z), (4, .int (nI sh)), (5, .int (nI (lm M))), (6, .int (nI (lm (N * 2 ^ sh) - lm M + 1) - 1)), (7, .long (lN (un (fz2 (lm M - 1))))), (9, .long (lN nx)), (11, .int (nI (k - 1))), (14, .long (lN q)), (16, .long (lN rr))]) → W p l e ({ frames := 3, cells := 5, slots := 1280, locals := 450 } : Room) s m ([.ref b, .ref x, .ref y, .ref z] : List Value).toArray below meth c H734 locs734 (0 + dc705 + dc706 + dc707 + dc709 + dc712) (0 + ds705 + ds706 + ds707 + ds709 + ds712) Q (F0 m 190 ls734 []) := by
              intro jm
              induction jm with
              | zero => intro q rr H734 locs734 ls734 hm734 ht hq2 hone hrr T734 hl734; exact absurd hm734 (by omega)
              | succ jm ih734 =>
                intro q rr H734 locs734 ls734 hm734 ht hq2 hone hrr T734 hl734
                have hqle : q * un (fz2 (lm M - 1)) ≤ (un (r (k - 1 + lm M)) * 4294967296 + un (r (k - 1 + lm M - 1))) := by omega
                have hq33 : q < 17179869184 := Nat.lt_of_not_le fun z => by have h1 : 17179869184 * un (fz2 (lm M - 1)) ≤ q * un (fz2 (lm M - 1)) := Nat.mul_le_mul_right _ z; omega
                refine lv_lload hx hb dX7_divide_190 (lv_at hl734 11 rfl) ?_
                refine lv_bipush (v := nI 32) hx hb dX7_divide_192 rfl ?_
                refine hn_lushr hx hb dX7_divide_194 (by omega) (by omega) ?_
                refine lv_lconst (v := lN 0) hx hb dX7_divide_195 rfl ?_
                refine W.lcmp hx hb dX7_divide_196 ?_
                refine hl_if_ne (tgt := 264) hx hb dX7_divide_197 (by decide) (by omega) (by omega) (fun d1 => ?_) (fun d1 => ?_)
                · have hrb : 4294967296 ≤ rr := Nat.le_of_not_lt fun z => d1 (Nat.div_eq_of_lt z)
                  have hqb := dq_big hlmp (by rw [zv2]; exact hwin) ht hrb
                  exact J264 q _ _ _ hqb hq2 (by by_cases z : lm M = 1; (rw [← hone z]; omega); exact dq_hi (by omega) ht htop hqb (Nat.le_trans (Nat.mul_le_mul (show q ≤ 4294967295 by omega) (show un (fz2 (lm M - 2)) ≤ 4294967295 by have := un_lt (fz2 (lm M - 2)); omega)) (by omega))) T734 (lv_sub hl734 [0, 1, 2, 3, 4, 5, 6, 7, 8, 9, 10] rfl)
                · have hrb : rr < 4294967296 := Nat.lt_of_not_le fun z => by have := Nat.div_pos z (show 0 < 4294967296 by decide); omega
                  refine lv_lload hx hb dX7_divide_200 (lv_at hl734 10 rfl) ?_
                  refine lv_bipush (v := nI 32) hx hb dX7_divide_202 rfl ?_
                  refine hn_lushr hx hb dX7_divide_204 (by omega) (by omega) ?_
                  refine lv_lconst (v := lN 0) hx hb dX7_divide_205 rfl ?_
                  refine W.lcmp hx hb dX7_divide_206 ?_
                  refine hl_if_ne (tgt := 248) hx hb dX7_divide_207 (by decide) (by omega) (by omega) (fun d2 => ?_) (fun d2 => ?_)
                  · have hqb : 4294967296 ≤ q := Nat.le_of_not_lt fun z => d2 (Nat.div_eq_of_lt z)
                    have hqU : bw r (k - 1) (lm M + 1) / bv fz2 (lm M) < q := by rw [zv2]; omega
                    refine lv_lload hx hb dX7_divide_248 (lv_at hl734 10 rfl) ?_
                    refine lv_lconst (v := lN 1) hx hb dX7_divide_250 rfl ?_
                    refine hn_lsub hx hb dX7_divide_251 (by omega) ?_
                    refine lv_lstore (lv' := [(14, .long (lN (q - 1))), (0, .ref b), (1, .ref x), (2, .ref y), (3, .ref z), (4, .int (nI sh)), (5, .int (nI (lm M))), (6, .int (nI (lm (N * 2 ^ sh) - lm M + 1) - 1)), (7, .long (lN (un (fz2 (lm M - 1))))), (9, .long (lN nx)), (11, .int (nI (k - 1))), (16, .long (lN rr))]) hx hb dX7_divide_252 hl734 (by decide) rfl (fun ls735 hl735 => ?_)
                    refine lv_lload hx hb dX7_divide_254 (lv_at hl735 11 rfl) ?_
                    refine lv_lload hx hb dX7_divide_256 (lv_at hl735 8 rfl) ?_
                    refine hn_ladd hx hb dX7_divide_258 ?_
                    refine lv_lstore (lv' := [(16, .long (lN (rr + (un (fz2 (lm M - 1)))))), (14, .long (lN (q - 1))), (0, .ref b), (1, .ref x), (2, .ref y), (3, .ref z), (4, .int (nI sh)), (5, .int (nI (lm M))), (6, .int (nI (lm (N * 2 ^ sh) - lm M + 1) - 1)), (7, .long (lN (un (fz2 (lm M - 1))))), (9, .long (lN nx)), (11, .int (nI (k - 1)))]) hx hb dX7_divide_259 hl735 (by decide) rfl (fun ls736 hl736 => ?_)
                    refine lv_goto (tgt := 190) hx hb dX7_divide_261 (by decide) ?_
                    exact ih734 (q - 1) _ _ _ _ (by omega) (by obtain ⟨q0, rfl⟩ : ∃ q0, q = q0 + 1 := ⟨q - 1, by omega⟩; rw [Nat.add_mul] at ht; rw [Nat.add_sub_cancel]; omega) (by omega) (fun z => by have := hone z; omega) (by omega) T734 (lv_sub hl736 [2, 3, 4, 5, 6, 7, 8, 9, 10, 11, 1, 0] rfl)
                  · have hqb : q < 4294967296 := Nat.lt_of_not_le fun z => by have := Nat.div_pos z (show 0 < 4294967296 by decide); omega
                    refine lv_iload hx hb dX7_divide_210 (lv_at hl734 5 rfl) ?_
                    refine lv_iconst (v := nI 1) hx hb dX7_divide_212 rfl ?_
                    refine hn_icmp_le (tgt := 264) hx hb dX7_divide_213 (by decide) (by omega) (by omega) (fun d3 => ?_) (fun d3 => ?_)
                    · exact J264 q _ _ _ hqb hq2 (by rw [← hone (by omega)]; omega) T734 (lv_sub hl734 [0, 1, 2, 3, 4, 5, 6, 7, 8, 9, 10] rfl)
                    · have hnx3 := hnx2 (by omega)
                      have hw2 := un_lt (r (k - 1 + lm M - 2))
                      have hqn : q * nx ≤ 4294967295 * 4294967295 := Nat.mul_le_mul (by omega) (by omega)
                      refine lv_lload hx hb dX7_divide_216 (lv_at hl734 10 rfl) ?_
                      refine lv_lload hx hb dX7_divide_218 (lv_at hl734 8 rfl) ?_
                      refine hn_lmul hx hb dX7_divide_220 ?_
                      refine lv_lload hx hb dX7_divide_221 (lv_at hl734 11 rfl) ?_
                      refine lv_bipush (v := nI 32) hx hb dX7_divide_223 rfl ?_
                      refine hn_lshl hx hb dX7_divide_225 (by omega) ?_
                      refine lv_aload_n hx hb dX7_divide_226 rfl (lv_at hl734 0 rfl) ?_
                      refine hr_get C T734 lb_718 rfl in_X7 0 (by decide) q170 rfl rfl dX7_divide_227 ?_
                      refine lv_iload hx hb dX7_divide_230 (lv_at hl734 9 rfl) ?_
                      refine lv_iload hx hb dX7_divide_232 (lv_at hl734 5 rfl) ?_
                      refine hn_iadd hx hb dX7_divide_234 ?_
                      refine lv_iconst (v := nI 2) hx hb dX7_divide_235 rfl ?_
                      refine hn_isub hx hb dX7_divide_236 (by omega) ?_
                      refine hr_iald C T734 lba_718 (by omega) (by omega) dX7_divide_237 ?_
                      refine hc_S C T734 hl734.1 (m_X7_cell) q778 q779 q59 q780 kd_X7_cell rfl rfl ⟨Nat.le_of_ble_eq_true rfl, Nat.le_of_ble_eq_true rfl⟩ (Nat.le_of_ble_eq_true rfl) dX7_divide_238 ⟨by show 0 + dc705 + dc706 + dc707 + dc709 + dc712 + 0 ≤ 5; omega, by show 0 + ds705 + ds706 + ds707 + ds709 + ds712 + 0 ≤ 1280; omega⟩ (fun rv h737 H737 locs737 hp737 T737 => ?_)
                      obtain ⟨rfl, hq737⟩ := hp737
                      rw [hq737] at T737
                      refine lv_lor hx hb dX7_divide_241 ?_
                      rw [show (lN (rr * 2 ^ 32)) ||| (lN (un (r (k - 1 + lm M - 2)))) = lN (rr * 4294967296 + un (r (k - 1 + lm M - 2))) from lor_sum (s := 32) (by omega) (by omega)]
                      refine hc_S C T737 hl734.1 (m_J11_compareUnsigned (by omega) (by omega)) q953 q954 q75 q955 kd_J11_compareUnsigned rfl rfl ⟨Nat.le_of_ble_eq_true rfl, Nat.le_of_ble_eq_true rfl⟩ (Nat.le_of_ble_eq_true rfl) dX7_divide_242 ⟨by show 0 + dc705 + dc706 + dc707 + dc709 + dc712 + 0 ≤ 5; omega, by show 0 + ds705 + ds706 + ds707 + ds709 + ds712 + 0 ≤ 1280; omega⟩ (fun rv h738 H738 locs738 hp738 T738 => ?_)
                      obtain ⟨rfl, hq738⟩ := hp738
                      rw [hq738] at T738
                      refine lv_if_le (tgt := 264) hx hb dX7_divide_245 (by decide) (fun d4 => ?_) (fun d4 => ?_)
                      · exact J264 q _ _ _ hqb hq2 (dq_hi (by omega) ht htop hqb (by rw [← hnx3]; exact cmpN_le.mp d4)) T738 (lv_sub hl734 [0, 1, 2, 3, 4, 5, 6, 7, 8, 9, 10] rfl)
                      · have hdec : bw r (k - 1) (lm M + 1) / bv fz2 (lm M) < q := dq_dec (by omega) ht (by rw [← hnx3]; exact Nat.lt_of_not_le fun z => d4 (cmpN_le.mpr z))
                        have hq0 : 0 < q := Nat.lt_of_le_of_lt (Nat.zero_le _) hdec
                        refine lv_lload hx hb dX7_divide_248 (lv_at hl734 10 rfl) ?_
                        refine lv_lconst (v := lN 1) hx hb dX7_divide_250 rfl ?_
                        refine hn_lsub hx hb dX7_divide_251 (by omega) ?_
                        refine lv_lstore (lv' := [(14, .long (lN (q - 1))), (0, .ref b), (1, .ref x), (2, .ref y), (3, .ref z), (4, .int (nI sh)), (5, .int (nI (lm M))), (6, .int (nI (lm (N * 2 ^ sh) - lm M + 1) - 1)), (7, .long (lN (un (fz2 (lm M - 1))))), (9, .long (lN nx)), (11, .int (nI (k - 1))), (16, .long (lN rr))]) hx hb dX7_divide_252 hl734 (by decide) rfl (fun ls739 hl739 => ?_)
                        refine lv_lload hx hb dX7_divide_254 (lv_at hl739 11 rfl) ?_
                        refine lv_lload hx hb dX7_divide_256 (lv_at hl739 8 rfl) ?_
                        refine hn_ladd hx hb dX7_divide_258 ?_
                        refine lv_lstore (lv' := [(16, .long (lN (rr + (un (fz2 (lm M - 1)))))), (14, .long (lN (q - 1))), (0, .ref b), (1, .ref x), (2, .ref y), (3, .ref z), (4, .int (nI sh)), (5, .int (nI (lm M))), (6, .int (nI (lm (N * 2 ^ sh) - lm M + 1) - 1)), (7, .long (lN (un (fz2 (lm M - 1))))), (9, .long (lN nx)), (11, .int (nI (k - 1)))]) hx hb dX7_divide_259 hl739 (by decide) rfl (fun ls740 hl740 => ?_)
                        refine lv_goto (tgt := 190) hx hb dX7_divide_261 (by decide) ?_
                        exact ih734 (q - 1) _ _ _ _ (by omega) (by obtain ⟨q0, rfl⟩ : ∃ q0, q = q0 + 1 := ⟨q - 1, by omega⟩; rw [Nat.add_mul] at ht; rw [Nat.add_sub_cancel]; omega) (by omega) (fun z => by omega) (by omega) T738 (lv_sub hl740 [2, 3, 4, 5, 6, 7, 8, 9, 10, 11, 1, 0] rfl)
            have hrem : (un (r (k - 1 + lm M)) * 4294967296 + un (r (k - 1 + lm M - 1))) - (un (r (k - 1 + lm M)) * 4294967296 + un (r (k - 1 + lm M - 1))) / un (fz2 (lm M - 1)) * un (fz2 (lm M - 1)) = (un (r (k - 1 + lm M)) * 4294967296 + un (r (k - 1 + lm M - 1))) % un (fz2 (lm M - 1)) := by rw [Nat.mul_comm ((un (r (k - 1 + lm M)) * 4294967296 + un (r (k - 1 + lm M - 1))) / un (fz2 (lm M - 1)))]; omega
            exact L2 ((un (r (k - 1 + lm M)) * 4294967296 + un (r (k - 1 + lm M - 1))) / un (fz2 (lm M - 1)) + 1) ((un (r (k - 1 + lm M)) * 4294967296 + un (r (k - 1 + lm M - 1))) / un (fz2 (lm M - 1))) _ _ _ _ (Nat.lt_succ_self _) (Nat.add_sub_cancel' hdl).symm (dq_lo hlmp (Nat.add_sub_cancel' hdl).symm (by rw [hrem]; exact hml)) (fun z => (dq_one z).symm) (by rw [hrem]; omega) T727 (lv_sub hl729 [3, 4, 5, 6, 7, 8, 9, 10, 11, 12, 1, 0] rfl)
      have hst0 : bv (upd f2 (lm (N * 2 ^ sh)) (nI 0)) (lm (N * 2 ^ sh) - lm M + 1 + lm M) = N * 2 ^ sh := by rw [show lm (N * 2 ^ sh) - lm M + 1 + lm M = lm (N * 2 ^ sh) + 1 by omega, bv_put, show un (nI 0) = 0 from rfl, Nat.zero_mul, Nat.add_zero, bv_cong b2f, bv1]
      have b2o_712 : h712 b = some (.inr (1, [.ref ca2, .int (nI (lm (N * 2 ^ sh)))]), b) := hF712 _ _ b2o_710 hby
      have b2a_712 : h712 ca2 = some (.inl (E.2.1 0, cap2, .inl (upd f2 (lm (N * 2 ^ sh)) (nI 0))), b) := hF712 _ _ b2a_710 hby
      exact L1 (lm (N * 2 ^ sh) - lm M + 2) (lm (N * 2 ^ sh) - lm M + 1) _ fy1 _ _ _ _ (by omega) b2o_712 b2a_712 y1o y1a zo2_712 za2_712 (Nat.le_refl _) (by rw [hst0, show lm (N * 2 ^ sh) - lm M + 1 = (lm (N * 2 ^ sh) - (lm M - 1)) by omega]; exact dv_ini hlmp hlUV hUl hnt.2) (by rw [hst0, Nat.sub_self, bw_0, Nat.zero_mul, Nat.mul_zero, Nat.zero_add]) hF_712 T715 (lv_sub hl717 [6, 7, 8, 9, 5, 4, 3, 2, 1, 0] rfl)
    refine hn_icmp_le (tgt := 125) hx hb dX7_divide_107 (by decide) (by omega) (by omega) (fun c3 => ?_) (fun c3 => ?_)
    · refine lv_lconst (v := lN 0) hx hb dX7_divide_125 rfl ?_
      exact J126 0 _ _ _ (by decide) (fun q => absurd q (by omega)) T713 (lv_sub hl714 [0, 1, 2, 3, 4, 5, 6, 7] rfl)
    · refine lv_aload_n hx hb dX7_divide_110 rfl (lv_at hl714 7 rfl) ?_
      refine hr_get C T713 zo2_712 rfl in_X7 0 (by decide) q170 rfl rfl dX7_divide_111 ?_
      refine lv_iload hx hb dX7_divide_114 (lv_at hl714 2 rfl) ?_
      refine lv_iconst (v := nI 2) hx hb dX7_divide_116 rfl ?_
      refine hn_isub hx hb dX7_divide_117 (by omega) ?_
      refine hr_iald C T713 za2_712 (by omega) (by omega) dX7_divide_118 ?_
      refine hc_S C T713 hl714.1 (m_X7_cell) q778 q779 q59 q780 kd_X7_cell rfl rfl ⟨Nat.le_of_ble_eq_true rfl, Nat.le_of_ble_eq_true rfl⟩ (Nat.le_of_ble_eq_true rfl) dX7_divide_119 ⟨by show 0 + dc705 + dc706 + dc707 + dc709 + dc712 + 0 ≤ 5; omega, by show 0 + ds705 + ds706 + ds707 + ds709 + ds712 + 0 ≤ 1280; omega⟩ (fun rv h741 H741 locs741 hp741 T741 => ?_)
      obtain ⟨rfl, hq741⟩ := hp741
      rw [hq741] at T741
      refine lv_goto (tgt := 126) hx hb dX7_divide_122 (by decide) ?_
      exact J126 _ _ _ _ (un_lt _) (fun _ => rfl) T741 (lv_sub hl714 [0, 1, 2, 3, 4, 5, 6, 7] rfl)
  · have hlt : N < M := Nat.lt_of_not_le fun q => c1 (cmpN_ge.mpr q)
    have gya_701 : h701 cy = some (.inl (E.2.1 0, capy, .inl fy), y) := hu_n eh701 (hne_of gya gyo (fun z => by cases z)) gya
    have gzo_701 : h701 z = some (.inr (1, [.ref cz, .int (nI (lm D))]), z) := hu_n eh701 (Ne.symm hyz) gzo
    have gza_701 : h701 cz = some (.inl (E.2.1 0, capz, .inl fz), z) := hu_n eh701 (hne_of gza gyo (fun z => (Ne.symm hyz) (congrArg Prod.snd z))) gza
    exact Z _ _ _ _ _ _ _ dX7_divide_13 (by show 0 ≤ 5; omega) (by show 0 ≤ 1280; omega) ⟨rfl, cap, capy, capz, by rw [Nat.mod_eq_of_lt hlt]; exact ⟨ca, f, ⟨hbo_701, hba_701, hbn, hb8, hbc⟩, hv⟩, by rw [Nat.div_eq_of_lt hlt]; exact ⟨cy, fy, ⟨gyo_701, gya_701, Nat.zero_le _, hy8, hyc⟩, rfl⟩, ⟨D, cz, fz, ⟨gzo_701, gza_701, hzn, hz8, hzc⟩, hzv⟩, hF_701, by omega, by omega, Nat.le_refl _, Nat.le_refl _, Nat.le_refl _⟩ T702
