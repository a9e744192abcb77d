set_option maxRecDepth 100000
theorem kdF_0 : (⟨"PollAudit$Source", "draw", "(II)I"⟩ : MethodName).cls ≠ "java/lang/invoke/MethodHandle" ∧ (⟨"PollAudit$Source", "draw", "(II)I"⟩ : MethodName).cls ≠ "java/lang/invoke/VarHandle" ∧ (parseMethodDescriptor (⟨"PollAudit$Source", "draw", "(II)I"⟩ : MethodName).desc).map (fun d => d.parameters.length) = some 2 := by decide +kernel
theorem kdF_1 : (⟨"PollAudit$Source", "draw", "(II)I"⟩ : MethodName).cls ≠ "java/lang/invoke/MethodHandle" ∧ (⟨"PollAudit$Source", "draw", "(II)I"⟩ : MethodName).cls ≠ "java/lang/invoke/VarHandle" ∧ (parseMethodDescriptor (⟨"PollAudit$Source", "draw", "(II)I"⟩ : MethodName).desc).map (fun d => d.parameters.length) = some 2 := by decide +kernel
theorem kdF_2 : (⟨"PollAudit$Test", "begin", "()V"⟩ : MethodName).cls ≠ "java/lang/invoke/MethodHandle" ∧ (⟨"PollAudit$Test", "begin", "()V"⟩ : MethodName).cls ≠ "java/lang/invoke/VarHandle" ∧ (parseMethodDescriptor (⟨"PollAudit$Test", "begin", "()V"⟩ : MethodName).desc).map (fun d => d.parameters.length) = some 0 := by decide +kernel
theorem kdF_3 : (⟨"PollAudit$Test", "look", "(III)V"⟩ : MethodName).cls ≠ "java/lang/invoke/MethodHandle" ∧ (⟨"PollAudit$Test", "look", "(III)V"⟩ : MethodName).cls ≠ "java/lang/invoke/VarHandle" ∧ (parseMethodDescriptor (⟨"PollAudit$Test", "look", "(III)V"⟩ : MethodName).desc).map (fun d => d.parameters.length) = some 3 := by decide +kernel
theorem kdF_4 : (⟨"PollAudit$Test", "isSure", "()Z"⟩ : MethodName).cls ≠ "java/lang/invoke/MethodHandle" ∧ (⟨"PollAudit$Test", "isSure", "()Z"⟩ : MethodName).cls ≠ "java/lang/invoke/VarHandle" ∧ (parseMethodDescriptor (⟨"PollAudit$Test", "isSure", "()Z"⟩ : MethodName).desc).map (fun d => d.parameters.length) = some 0 := by decide +kernel
theorem kdF_5 : (⟨"PollAudit$Test", "begin", "()V"⟩ : MethodName).cls ≠ "java/lang/invoke/MethodHandle" ∧ (⟨"PollAudit$Test", "begin", "()V"⟩ : MethodName).cls ≠ "java/lang/invoke/VarHandle" ∧ (parseMethodDescriptor (⟨"PollAudit$Test", "begin", "()V"⟩ : MethodName).desc).map (fun d => d.parameters.length) = some 0 := by decide +kernel
theorem kdF_6 : (⟨"PollAudit$Test", "look", "(III)V"⟩ : MethodName).cls ≠ "java/lang/invoke/MethodHandle" ∧ (⟨"PollAudit$Test", "look", "(III)V"⟩ : MethodName).cls ≠ "java/lang/invoke/VarHandle" ∧ (parseMethodDescriptor (⟨"PollAudit$Test", "look", "(III)V"⟩ : MethodName).desc).map (fun d => d.parameters.length) = some 3 := by decide +kernel
theorem kdF_7 : (⟨"PollAudit$Test", "isSure", "()Z"⟩ : MethodName).cls ≠ "java/lang/invoke/MethodHandle" ∧ (⟨"PollAudit$Test", "isSure", "()Z"⟩ : MethodName).cls ≠ "java/lang/invoke/VarHandle" ∧ (parseMethodDescriptor (⟨"PollAudit$Test", "isSure", "()Z"⟩ : MethodName).desc).map (fun d => d.parameters.length) = some 0 := by decide +kernel

theorem kd_X1_findWinners : yX1_findWinners.cls = RX1 ∧ yX1_findWinners.cls ≠ "java/lang/invoke/MethodHandle" ∧ yX1_findWinners.cls ≠ "java/lang/invoke/VarHandle" ∧ (parseMethodDescriptor yX1_findWinners.desc).map (fun d => d.parameters.length) = some 0 := by decide +kernel

set_option maxHeartbeats 4000000 in
theorem m_X1_findWinners {E : GE} {l : Launch} {h : HH} {L B N : Nat → Nat} {M : Nat → Nat → Nat} {pp : Nat} {g w0 : Nat → Int32} (hLay : Lay L B) (i0 : N 0 ≤ 8) (i2 : N 2 ≤ 20000) (i3 : 1 ≤ N 3 ∧ N 3 ≤ 7) (iv : ∀ i, i < 8 → M 0 i ≤ 1000000) (ho0 : h (L 0) = some (.inr (0, [.ref (L 1), .int (nI (N 0)), .ref (L 3), .int (nI (N 1)), .int (nI (N 2)), .int (nI (N 3)), .int (nI (N 4)), .int (nI (N 5)), .int (nI (N 6)), .int (nI (N 7)), .int (nI (N 8)), .ref (L 12), .ref (L 13), .ref (L 14), .ref (L 15), .ref (L 16), .ref (L 17), .int (nI (N 11)), .int (nI (N 15)), .int (nI (N 16)), .int (nI (N 17)), .int (nI (N 18) - 1), .int (nI (N 19)), .ref (L 24), .int (nI pp), .ref (L 26), .ref (L 27), .ref (if N 13 = 1 then L 27 else L 26), .ref (L 29), .ref (L 30), .ref (if N 12 = 1 then L 30 else L 29), .ref (L 32), .ref (B 0), .ref (B 1), .ref (B 2), .ref (B 3), .ref (L 37), .ref (L 38), .ref (L 39), .ref (B 4), .ref (B 5)]), L 0)) (ha1 : h (L 1) = some (.inl (E.2.1 0, 8, .inl g), L 0)) (ha15 : h (L 15) = some (.inl (E.2.1 3, 8, .inl w0), L 0)) (r1 : ∀ i, i < 8 → g i = nI (M 0 i)) : MM E l yX1_findWinners cX1_findWinners 7 (some .boolean) ({ frames := 0, cells := 0, slots := 0, locals := 0 } : Room) [.ref (L 0)] h (fun rv h2 => ∃ r, rv = some (.int (nI (fw N M))) ∧ h2 = hup h (L 15) (.inl (E.2.1 3, 8, .inl r), L 0) ∧ (fw N M = 1 → ∀ i, i < N 0 → r i = nI (wn N M i))) := by
  refine hm_z (by decide) (Nat.le_of_ble_eq_true rfl) ?_
  intro p e s m below meth c C hnm Q Z ls T hl
  have hx := C.x
  have hb := C.b
  have hl : lv_has ls 7 [(0, .ref (L 0))] := hl
  refine lv_aload_n hx hb dX1_findWinners_0 rfl (lv_at hl 0 rfl) ?_
  refine hr_get C T ho0 rfl in_X1 1 (by decide) q291 rfl rfl dX1_findWinners_1 ?_
  refine lv_iconst (v := nI 2) hx hb dX1_findWinners_4 rfl ?_
  refine hn_icmp_lt (tgt := 19) hx hb dX1_findWinners_5 (by decide) (by omega) (by omega) (fun c1 => ?_) (fun c1 => ?_)
  · refine lv_iconst (v := nI 0) hx hb dX1_findWinners_19 rfl ?_
    exact Z _ _ _ _ _ _ dX1_findWinners_20 (Or.inl rfl) ⟨w0, by unfold fw; rw [if_neg (by omega)], hup_0 ha15, fun z => absurd z (by unfold fw; rw [if_neg (by omega)]; decide)⟩ T
  · refine lv_aload_n hx hb dX1_findWinners_8 rfl (lv_at hl 0 rfl) ?_
    refine hr_get C T ho0 rfl in_X1 5 (by decide) q296 rfl rfl dX1_findWinners_9 ?_
    refine lv_aload_n hx hb dX1_findWinners_12 rfl (lv_at hl 0 rfl) ?_
    refine hr_get C T ho0 rfl in_X1 1 (by decide) q291 rfl rfl dX1_findWinners_13 ?_
    refine hn_icmp_lt (tgt := 21) hx hb dX1_findWinners_16 (by decide) (by omega) (by omega) (fun c2 => ?_) (fun c2 => ?_)
    · refine lv_iconst (v := nI 1) hx hb dX1_findWinners_21 rfl ?_
      refine lv_istore_n (lv' := [(1, .int (nI 1)), (0, .ref (L 0))]) hx hb dX1_findWinners_22 rfl hl (by decide) rfl (fun ls4201 hl4201 => ?_)
      refine lv_iconst (v := nI 0) hx hb dX1_findWinners_23 rfl ?_
      refine lv_istore_n (lv' := [(2, .int (nI 0)), (1, .int (nI 1)), (0, .ref (L 0))]) hx hb dX1_findWinners_24 rfl hl4201 (by decide) rfl (fun ls4202 hl4202 => ?_)
      refine lv_iconst (v := nI 0) hx hb dX1_findWinners_25 rfl ?_
      refine lv_istore_n (lv' := [(3, .int (nI 0)), (2, .int (nI 0)), (1, .int (nI 1)), (0, .ref (L 0))]) hx hb dX1_findWinners_26 rfl hl4202 (by decide) rfl (fun ls4203 hl4203 => ?_)
      have L1 : ∀ (j : Nat) (k : Nat) (r : Nat → Int32) (h4204 : HH) (H4204 : Heap) (locs4204 : List Loc) (ls4204 : Array Slot), (N 0 + 1 ≤ k + j) → (h4204 (L 0) = some (.inr (0, [.ref (L 1), .int (nI (N 0)), .ref (L 3), .int (nI (N 1)), .int (nI (N 2)), .int (nI (N 3)), .int (nI (N 4)), .int (nI (N 5)), .int (nI (N 6)), .int (nI (N 7)), .int (nI (N 8)), .ref (L 12), .ref (L 13), .ref (L 14), .ref (L 15), .ref (L 16), .ref (L 17), .int (nI (N 11)), .int (nI (N 15)), .int (nI (N 16)), .int (nI (N 17)), .int (nI (N 18) - 1), .int (nI (N 19)), .ref (L 24), .int (nI pp), .ref (L 26), .ref (L 27), .ref (if N 13 = 1 then L 27 else L 26), .ref (L 29), .ref (L 30), .ref (if N 12 = 1 then L 30 else L 29), .ref (L 32), .ref (B 0), .ref (B 1), .ref (B 2), .ref (B 3), .ref (L 37), .ref (L 38), .ref (L 39), .ref (B 4), .ref (B 5)]), L 0)) → (h4204 (L 1) = some (.inl (E.2.1 0, 8, .inl g), L 0)) → (h4204 (L 15) = some (.inl (E.2.1 3, 8, .inl r), L 0)) → (k ≤ N 0) → (∀ i, i < k → r i = nI (wn N M i)) → (h4204 = hup h (L 15) (.inl (E.2.1 3, 8, .inl r), L 0)) → (St E s h4204 H4204 locs4204) → (lv_has ls4204 7 [(0, .ref (L 0)), (1, .int (nI (gdn N M k))), (2, .int (nI (ksum (wn N M) k))), (3, .int (nI k))]) → W p l e ({ frames := 0, cells := 0, slots := 0, locals := 0 } : Room) s m ([.ref (L 0)] : List Value).toArray below meth c H4204 locs4204 0 0 Q (F0 m 27 ls4204 []) := by
        intro j
        induction j with
        | zero => intro k r h4204 H4204 locs4204 ls4204 hm4204 ho0_4204 ha1_4204 ha15_4204 hk hr hh T4204 hl4204; exact absurd hm4204 (by omega)
        | succ j ih4204 =>
          intro k r h4204 H4204 locs4204 ls4204 hm4204 ho0_4204 ha1_4204 ha15_4204 hk hr hh T4204 hl4204
          have hks : ksum (wn N M) k ≤ k * 1 := ksum_le fun i _ => wn_le N M i
          have hgl := gdn_le N M k
          refine lv_iload_n hx hb dX1_findWinners_27 rfl (lv_at hl4204 3 rfl) ?_
          refine lv_aload_n hx hb dX1_findWinners_28 rfl (lv_at hl4204 0 rfl) ?_
          refine hr_get C T4204 ho0_4204 rfl in_X1 1 (by decide) q291 rfl rfl dX1_findWinners_29 ?_
          refine hn_icmp_ge (tgt := 178) hx hb dX1_findWinners_32 (by decide) (by omega) (by omega) (fun c3 => ?_) (fun c3 => ?_)
          · have e1 : k = N 0 := by omega
            rw [e1] at hks hgl hr hl4204
            refine lv_iload_n hx hb dX1_findWinners_178 rfl (lv_at hl4204 1 rfl) ?_
            refine hn_if_eq (tgt := 194) hx hb dX1_findWinners_179 (by decide) (by omega) (fun c4 => ?_) (fun c4 => ?_)
            · refine lv_iconst (v := nI 0) hx hb dX1_findWinners_194 rfl ?_
              exact Z _ _ _ _ _ _ dX1_findWinners_195 (Or.inl rfl) ⟨r, by unfold fw; rw [if_neg (fun z => by have := z.2.2.1; omega)], hh, fun z => absurd z (by unfold fw; rw [if_neg (fun z => by have := z.2.2.1; omega)]; decide)⟩ T4204
            · refine lv_iload_n hx hb dX1_findWinners_182 rfl (lv_at hl4204 2 rfl) ?_
              refine lv_aload_n hx hb dX1_findWinners_183 rfl (lv_at hl4204 0 rfl) ?_
              refine hr_get C T4204 ho0_4204 rfl in_X1 5 (by decide) q296 rfl rfl dX1_findWinners_184 ?_
              refine hn_icmp_ne (tgt := 194) hx hb dX1_findWinners_187 (by decide) (by omega) (by omega) (fun c5 => ?_) (fun c5 => ?_)
              · refine lv_iconst (v := nI 0) hx hb dX1_findWinners_194 rfl ?_
                exact Z _ _ _ _ _ _ dX1_findWinners_195 (Or.inl rfl) ⟨r, by unfold fw; rw [if_neg (fun z => c5 z.2.2.2)], hh, fun z => absurd z (by unfold fw; rw [if_neg (fun z => c5 z.2.2.2)]; decide)⟩ T4204
              · refine lv_iconst (v := nI 1) hx hb dX1_findWinners_190 rfl ?_
                refine lv_goto (tgt := 195) hx hb dX1_findWinners_191 (by decide) ?_
                exact Z _ _ _ _ _ _ dX1_findWinners_195 (Or.inr rfl) ⟨r, by unfold fw; rw [if_pos ⟨by omega, c2, by omega, by omega⟩], hh, fun _ => hr⟩ T4204
          · have hvk := iv k (by omega)
            refine lv_iconst (v := nI 0) hx hb dX1_findWinners_35 rfl ?_
            refine lv_istore (lv' := [(4, .int (nI 0)), (0, .ref (L 0)), (1, .int (nI (gdn N M k))), (2, .int (nI (ksum (wn N M) k))), (3, .int (nI k))]) hx hb dX1_findWinners_36 hl4204 (by decide) rfl (fun ls4205 hl4205 => ?_)
            refine lv_iconst (v := nI 0) hx hb dX1_findWinners_38 rfl ?_
            refine lv_istore (lv' := [(5, .int (nI 0)), (4, .int (nI 0)), (0, .ref (L 0)), (1, .int (nI (gdn N M k))), (2, .int (nI (ksum (wn N M) k))), (3, .int (nI k))]) hx hb dX1_findWinners_39 hl4205 (by decide) rfl (fun ls4206 hl4206 => ?_)
            refine lv_iconst (v := nI 0) hx hb dX1_findWinners_41 rfl ?_
            refine lv_istore (lv' := [(6, .int (nI 0)), (5, .int (nI 0)), (4, .int (nI 0)), (0, .ref (L 0)), (1, .int (nI (gdn N M k))), (2, .int (nI (ksum (wn N M) k))), (3, .int (nI k))]) hx hb dX1_findWinners_42 hl4206 (by decide) rfl (fun ls4207 hl4207 => ?_)
            have L2 : ∀ (j2 : Nat) (d : Nat) (H4208 : Heap) (locs4208 : List Loc) (ls4208 : Array Slot), (N 0 + 1 ≤ d + j2) → (d ≤ N 0) → (St E s h4204 H4208 locs4208) → (lv_has ls4208 7 [(0, .ref (L 0)), (1, .int (nI (gdn N M k))), (2, .int (nI (ksum (wn N M) k))), (3, .int (nI k)), (4, .int (nI (mr M d k))), (5, .int (nI (al M d k))), (6, .int (nI d))]) → W p l e ({ frames := 0, cells := 0, slots := 0, locals := 0 } : Room) s m ([.ref (L 0)] : List Value).toArray below meth c H4208 locs4208 0 0 Q (F0 m 44 ls4208 []) := by
              intro j2
              induction j2 with
              | zero => intro d H4208 locs4208 ls4208 hm4208 hd T4208 hl4208; exact absurd hm4208 (by omega)
              | succ j2 ih4208 =>
                intro d H4208 locs4208 ls4208 hm4208 hd T4208 hl4208
                have hm1 : mr M d k ≤ d * 1 := ksum_le fun i _ => by show (if _ then 1 else 0) ≤ 1; split <;> omega
                have hm2 : al M d k ≤ d * 1 := ksum_le fun i _ => by show (if _ then 1 else 0) ≤ 1; split <;> omega
                refine lv_iload hx hb dX1_findWinners_44 (lv_at hl4208 6 rfl) ?_
                refine lv_aload_n hx hb dX1_findWinners_46 rfl (lv_at hl4208 0 rfl) ?_
                refine hr_get C T4208 ho0_4204 rfl in_X1 1 (by decide) q291 rfl rfl dX1_findWinners_47 ?_
                refine hn_icmp_ge (tgt := 111) hx hb dX1_findWinners_50 (by decide) (by omega) (by omega) (fun c6 => ?_) (fun c6 => ?_)
                · have e2 : d = N 0 := by omega
                  rw [e2] at hm1 hm2 hl4208
                  refine lv_aload_n hx hb dX1_findWinners_111 rfl (lv_at hl4208 0 rfl) ?_
                  refine hr_get C T4208 ho0_4204 rfl in_X1 14 (by decide) q309 rfl rfl dX1_findWinners_112 ?_
                  refine lv_iload_n hx hb dX1_findWinners_115 rfl (lv_at hl4208 3 rfl) ?_
                  refine lv_iload hx hb dX1_findWinners_116 (lv_at hl4208 4 rfl) ?_
                  refine lv_iload hx hb dX1_findWinners_118 (lv_at hl4208 5 rfl) ?_
                  refine hn_iadd hx hb dX1_findWinners_120 ?_
                  refine lv_aload_n hx hb dX1_findWinners_121 rfl (lv_at hl4208 0 rfl) ?_
                  refine hr_get C T4208 ho0_4204 rfl in_X1 5 (by decide) q296 rfl rfl dX1_findWinners_122 ?_
                  have J133 : ∀ (u : Nat) (H4214 : Heap) (locs4214 : List Loc) (ls4214 : Array Slot), (u = wn N M k) → (St E s h4204 H4214 locs4214) → (lv_has ls4214 7 [(0, .ref (L 0)), (1, .int (nI (gdn N M k))), (2, .int (nI (ksum (wn N M) k))), (3, .int (nI k))]) → W p l e ({ frames := 0, cells := 0, slots := 0, locals := 0 } : Room) s m ([.ref (L 0)] : List Value).toArray below meth c H4214 locs4214 0 0 Q (F0 m 133 ls4214 [.int (nI u), .int (nI k), .ref (L 15)]) := by
                    intro u H4214 locs4214 ls4214 hu T4214 hl4214
                    have hu1 := wn_le N M k
                    rw [hu]
                    refine hr_zast C T4214 ha15_4204 (by omega) (by omega) (nar_z (nz01 hu1)) dX1_findWinners_133 (fun h4215 H4215 locs4215 eh4215 T4215 => ?_)
                    have ha15_4215 : h4215 (L 15) = some (.inl (E.2.1 3, 8, .inl (upd r k (nI (wn N M k)))), L 0) := hu_s eh4215
                    refine lv_iload_n hx hb dX1_findWinners_134 rfl (lv_at hl4214 2 rfl) ?_
                    refine lv_aload_n hx hb dX1_findWinners_135 rfl (lv_at hl4214 0 rfl) ?_
                    have ho0_4215 : h4215 (L 0) = some (.inr (0, [.ref (L 1), .int (nI (N 0)), .ref (L 3), .int (nI (N 1)), .int (nI (N 2)), .int (nI (N 3)), .int (nI (N 4)), .int (nI (N 5)), .int (nI (N 6)), .int (nI (N 7)), .int (nI (N 8)), .ref (L 12), .ref (L 13), .ref (L 14), .ref (L 15), .ref (L 16), .ref (L 17), .int (nI (N 11)), .int (nI (N 15)), .int (nI (N 16)), .int (nI (N 17)), .int (nI (N 18) - 1), .int (nI (N 19)), .ref (L 24), .int (nI pp), .ref (L 26), .ref (L 27), .ref (if N 13 = 1 then L 27 else L 26), .ref (L 29), .ref (L 30), .ref (if N 12 = 1 then L 30 else L 29), .ref (L 32), .ref (B 0), .ref (B 1), .ref (B 2), .ref (B 3), .ref (L 37), .ref (L 38), .ref (L 39), .ref (B 4), .ref (B 5)]), L 0) := hu_n eh4215 (hLay.1 0 15 (by decide) (by decide) (by decide)) ho0_4204
                    refine hr_get C T4215 ho0_4215 rfl in_X1 14 (by decide) q309 rfl rfl dX1_findWinners_136 ?_
                    refine lv_iload_n hx hb dX1_findWinners_139 rfl (lv_at hl4214 3 rfl) ?_
                    refine hr_zald C T4215 ha15_4215 (by omega) (by omega) dX1_findWinners_140 ?_
                    rw [pk_us]
                    have J149 : ∀ (v : Nat) (H4216 : Heap) (locs4216 : List Loc) (ls4216 : Array Slot), (v = wn N M k) → (St E s h4215 H4216 locs4216) → (lv_has ls4216 7 [(0, .ref (L 0)), (1, .int (nI (gdn N M k))), (2, .int (nI (ksum (wn N M) k))), (3, .int (nI k))]) → W p l e ({ frames := 0, cells := 0, slots := 0, locals := 0 } : Room) s m ([.ref (L 0)] : List Value).toArray below meth c H4216 locs4216 0 0 Q (F0 m 149 ls4216 [.int (nI v), .int (nI (ksum (wn N M) k))]) := by
                      intro v H4216 locs4216 ls4216 hv T4216 hl4216
                      rw [hv]
                      refine hn_iadd hx hb dX1_findWinners_149 ?_
                      refine lv_istore_n (lv' := [(2, .int (nI (ksum (wn N M) (k + 1)))), (0, .ref (L 0)), (1, .int (nI (gdn N M k))), (3, .int (nI k))]) hx hb dX1_findWinners_150 rfl hl4216 (by decide) rfl (fun ls4217 hl4217 => ?_)
                      refine lv_iload_n hx hb dX1_findWinners_151 rfl (lv_at hl4217 2 rfl) ?_
                      refine lv_aload_n hx hb dX1_findWinners_152 rfl (lv_at hl4217 1 rfl) ?_
                      refine hr_get C T4216 ho0_4215 rfl in_X1 0 (by decide) q290 rfl rfl dX1_findWinners_153 ?_
                      refine lv_iload_n hx hb dX1_findWinners_156 rfl (lv_at hl4217 3 rfl) ?_
                      have ha1_4215 : h4215 (L 1) = some (.inl (E.2.1 0, 8, .inl g), L 0) := hu_n eh4215 (hLay.1 1 15 (by decide) (by decide) (by decide)) ha1_4204
                      refine hr_iald C T4216 ha1_4215 (by omega) (by omega) dX1_findWinners_157 ?_
                      rw [show g k = nI (M 0 k) from r1 k (by omega)]
                      refine lv_aload_n hx hb dX1_findWinners_158 rfl (lv_at hl4217 1 rfl) ?_
                      refine hr_get C T4216 ho0_4215 rfl in_X1 4 (by decide) q295 rfl rfl dX1_findWinners_159 ?_
                      have J170 : ∀ (q : Nat) (H4218 : Heap) (locs4218 : List Loc) (ls4218 : Array Slot), (q ≤ 1) → (q = 1 ↔ M 0 k ≤ N 2) → (St E s h4215 H4218 locs4218) → (lv_has ls4218 7 [(2, .int (nI (ksum (wn N M) (k + 1)))), (0, .ref (L 0)), (1, .int (nI (gdn N M k))), (3, .int (nI k))]) → W p l e ({ frames := 0, cells := 0, slots := 0, locals := 0 } : Room) s m ([.ref (L 0)] : List Value).toArray below meth c H4218 locs4218 0 0 Q (F0 m 170 ls4218 [.int (nI q), .int (nI (gdn N M k))]) := by
                        intro q H4218 locs4218 ls4218 hq hq2 T4218 hl4218
                        refine lv_iand hx hb dX1_findWinners_170 ?_
                        rw [show (nI (gdn N M k)) &&& (nI q) = nI (gdn N M (k + 1)) from (gdn_and hq hq2)]
                        refine lv_istore_n (lv' := [(1, .int (nI (gdn N M (k + 1)))), (2, .int (nI (ksum (wn N M) (k + 1)))), (0, .ref (L 0)), (3, .int (nI k))]) hx hb dX1_findWinners_171 rfl hl4218 (by decide) rfl (fun ls4219 hl4219 => ?_)
                        refine lv_iinc (v := nI (k + 1)) (lv' := [(3, .int (nI (k + 1))), (1, .int (nI (gdn N M (k + 1)))), (2, .int (nI (ksum (wn N M) (k + 1)))), (0, .ref (L 0))]) hx hb dX1_findWinners_172 hl4219 (k := 3) rfl (nI_add k 1) (by decide) rfl (fun ls4220 hl4220 => ?_)
                        refine lv_goto (tgt := 27) hx hb dX1_findWinners_175 (by decide) ?_
                        exact ih4204 (k + 1) _ _ _ _ _ (by omega) ho0_4215 ha1_4215 ha15_4215 (by omega) (fun i hi => by by_cases z : i = k; (rw [z, pk_us]); (rw [pk_un z]; exact hr i (by omega))) (hup_ih hh eh4215) T4218 (lv_sub hl4220 [3, 1, 2, 0] rfl)
                      refine hn_icmp_gt (tgt := 169) hx hb dX1_findWinners_162 (by decide) (by omega) (by omega) (fun c10 => ?_) (fun c10 => ?_)
                      · refine lv_iconst (v := nI 0) hx hb dX1_findWinners_169 rfl ?_
                        exact J170 0 _ _ _ (by decide) ⟨fun z => absurd z (by decide), fun z => by omega⟩ T4216 (lv_sub hl4217 [0, 1, 2, 3] rfl)
                      · refine lv_iconst (v := nI 1) hx hb dX1_findWinners_165 rfl ?_
                        refine lv_goto (tgt := 170) hx hb dX1_findWinners_166 (by decide) ?_
                        exact J170 1 _ _ _ (by decide) ⟨fun _ => by omega, fun _ => rfl⟩ T4216 (lv_sub hl4217 [0, 1, 2, 3] rfl)
                    refine hn_if_eq (tgt := 148) hx hb dX1_findWinners_141 (by decide) (by omega) (fun c9 => ?_) (fun c9 => ?_)
                    · refine lv_iconst (v := nI 0) hx hb dX1_findWinners_148 rfl ?_
                      exact J149 0 _ _ _ (by omega) T4215 (lv_sub hl4214 [0, 1, 2, 3] rfl)
                    · refine lv_iconst (v := nI 1) hx hb dX1_findWinners_144 rfl ?_
                      refine lv_goto (tgt := 149) hx hb dX1_findWinners_145 (by decide) ?_
                      exact J149 1 _ _ _ (by omega) T4215 (lv_sub hl4214 [0, 1, 2, 3] rfl)
                  refine hn_icmp_gt (tgt := 132) hx hb dX1_findWinners_125 (by decide) (by omega) (by omega) (fun c11 => ?_) (fun c11 => ?_)
                  · refine lv_iconst (v := nI 0) hx hb dX1_findWinners_132 rfl ?_
                    exact J133 0 _ _ _ (by unfold wn; rw [if_neg (by omega)]) T4208 (lv_sub hl4208 [0, 1, 2, 3] rfl)
                  · refine lv_iconst (v := nI 1) hx hb dX1_findWinners_128 rfl ?_
                    refine lv_goto (tgt := 133) hx hb dX1_findWinners_129 (by decide) ?_
                    exact J133 1 _ _ _ (by unfold wn; rw [if_pos (by omega)]) T4208 (lv_sub hl4208 [0, 1, 2, 3] rfl)
                · have hvd := iv d (by omega)
                  refine lv_iload hx hb dX1_findWinners_53 (lv_at hl4208 4 rfl) ?_
                  refine lv_aload_n hx hb dX1_findWinners_55 rfl (lv_at hl4208 0 rfl) ?_
                  refine hr_get C T4208 ho0_4204 rfl in_X1 0 (by decide) q290 rfl rfl dX1_findWinners_56 ?_
                  refine lv_iload hx hb dX1_findWinners_59 (lv_at hl4208 6 rfl) ?_
                  refine hr_iald C T4208 ha1_4204 (by omega) (by omega) dX1_findWinners_61 ?_
                  rw [show g d = nI (M 0 d) from r1 d (by omega)]
                  refine lv_aload_n hx hb dX1_findWinners_62 rfl (lv_at hl4208 0 rfl) ?_
                  refine hr_get C T4208 ho0_4204 rfl in_X1 0 (by decide) q290 rfl rfl dX1_findWinners_63 ?_
                  refine lv_iload_n hx hb dX1_findWinners_66 rfl (lv_at hl4208 3 rfl) ?_
                  refine hr_iald C T4208 ha1_4204 (by omega) (by omega) dX1_findWinners_67 ?_
                  rw [show g k = nI (M 0 k) from r1 k (by omega)]
                  have J76 : ∀ (u : Nat) (H4209 : Heap) (locs4209 : List Loc) (ls4209 : Array Slot), (mr M (d + 1) k = mr M d k + u) → (St E s h4204 H4209 locs4209) → (lv_has ls4209 7 [(0, .ref (L 0)), (1, .int (nI (gdn N M k))), (2, .int (nI (ksum (wn N M) k))), (3, .int (nI k)), (4, .int (nI (mr M d k))), (5, .int (nI (al M d k))), (6, .int (nI d))]) → W p l e ({ frames := 0, cells := 0, slots := 0, locals := 0 } : Room) s m ([.ref (L 0)] : List Value).toArray below meth c H4209 locs4209 0 0 Q (F0 m 76 ls4209 [.int (nI u), .int (nI (mr M d k))]) := by
                    intro u H4209 locs4209 ls4209 hu T4209 hl4209
                    refine hn_iadd hx hb dX1_findWinners_76 ?_
                    rw [← hu]
                    refine lv_istore (lv' := [(4, .int (nI (mr M (d + 1) k))), (0, .ref (L 0)), (1, .int (nI (gdn N M k))), (2, .int (nI (ksum (wn N M) k))), (3, .int (nI k)), (5, .int (nI (al M d k))), (6, .int (nI d))]) hx hb dX1_findWinners_77 hl4209 (by decide) rfl (fun ls4210 hl4210 => ?_)
                    refine lv_iload hx hb dX1_findWinners_79 (lv_at hl4210 5 rfl) ?_
                    refine lv_aload_n hx hb dX1_findWinners_81 rfl (lv_at hl4210 1 rfl) ?_
                    refine hr_get C T4209 ho0_4204 rfl in_X1 0 (by decide) q290 rfl rfl dX1_findWinners_82 ?_
                    refine lv_iload hx hb dX1_findWinners_85 (lv_at hl4210 6 rfl) ?_
                    refine hr_iald C T4209 ha1_4204 (by omega) (by omega) dX1_findWinners_87 ?_
                    rw [show g d = nI (M 0 d) from r1 d (by omega)]
                    refine lv_aload_n hx hb dX1_findWinners_88 rfl (lv_at hl4210 1 rfl) ?_
                    refine hr_get C T4209 ho0_4204 rfl in_X1 0 (by decide) q290 rfl rfl dX1_findWinners_89 ?_
                    refine lv_iload_n hx hb dX1_findWinners_92 rfl (lv_at hl4210 4 rfl) ?_
                    refine hr_iald C T4209 ha1_4204 (by omega) (by omega) dX1_findWinners_93 ?_
                    rw [show g k = nI (M 0 k) from r1 k (by omega)]
                    have J102 : ∀ (v : Nat) (H4211 : Heap) (locs4211 : List Loc) (ls4211 : Array Slot), (al M (d + 1) k = al M d k + v) → (St E s h4204 H4211 locs4211) → (lv_has ls4211 7 [(4, .int (nI (mr M (d + 1) k))), (0, .ref (L 0)), (1, .int (nI (gdn N M k))), (2, .int (nI (ksum (wn N M) k))), (3, .int (nI k)), (5, .int (nI (al M d k))), (6, .int (nI d))]) → W p l e ({ frames := 0, cells := 0, slots := 0, locals := 0 } : Room) s m ([.ref (L 0)] : List Value).toArray below meth c H4211 locs4211 0 0 Q (F0 m 102 ls4211 [.int (nI v), .int (nI (al M d k))]) := by
                      intro v H4211 locs4211 ls4211 hv T4211 hl4211
                      refine hn_iadd hx hb dX1_findWinners_102 ?_
                      rw [← hv]
                      refine lv_istore (lv' := [(5, .int (nI (al M (d + 1) k))), (4, .int (nI (mr M (d + 1) k))), (0, .ref (L 0)), (1, .int (nI (gdn N M k))), (2, .int (nI (ksum (wn N M) k))), (3, .int (nI k)), (6, .int (nI d))]) hx hb dX1_findWinners_103 hl4211 (by decide) rfl (fun ls4212 hl4212 => ?_)
                      refine lv_iinc (v := nI (d + 1)) (lv' := [(6, .int (nI (d + 1))), (5, .int (nI (al M (d + 1) k))), (4, .int (nI (mr M (d + 1) k))), (0, .ref (L 0)), (1, .int (nI (gdn N M k))), (2, .int (nI (ksum (wn N M) k))), (3, .int (nI k))]) hx hb dX1_findWinners_105 hl4212 (k := 6) rfl (nI_add d 1) (by decide) rfl (fun ls4213 hl4213 => ?_)
                      refine lv_goto (tgt := 44) hx hb dX1_findWinners_108 (by decide) ?_
                      exact ih4208 (d + 1) _ _ _ (by omega) (by omega) T4211 (lv_sub hl4213 [3, 4, 5, 6, 2, 1, 0] rfl)
                    refine hn_icmp_ne (tgt := 101) hx hb dX1_findWinners_94 (by decide) (by omega) (by omega) (fun c8 => ?_) (fun c8 => ?_)
                    · refine lv_iconst (v := nI 0) hx hb dX1_findWinners_101 rfl ?_
                      exact J102 0 _ _ _ (by unfold al; rw [ksum_s, if_neg c8]) T4209 (lv_sub hl4210 [0, 1, 2, 3, 4, 5, 6] rfl)
                    · refine lv_iconst (v := nI 1) hx hb dX1_findWinners_97 rfl ?_
                      refine lv_goto (tgt := 102) hx hb dX1_findWinners_98 (by decide) ?_
                      exact J102 1 _ _ _ (by unfold al; rw [ksum_s, if_pos c8]) T4209 (lv_sub hl4210 [0, 1, 2, 3, 4, 5, 6] rfl)
                  refine hn_icmp_le (tgt := 75) hx hb dX1_findWinners_68 (by decide) (by omega) (by omega) (fun c7 => ?_) (fun c7 => ?_)
                  · refine lv_iconst (v := nI 0) hx hb dX1_findWinners_75 rfl ?_
                    exact J76 0 _ _ _ (by unfold mr; rw [ksum_s, if_neg (by omega)]) T4208 (lv_sub hl4208 [0, 1, 2, 3, 4, 5, 6] rfl)
                  · refine lv_iconst (v := nI 1) hx hb dX1_findWinners_71 rfl ?_
                    refine lv_goto (tgt := 76) hx hb dX1_findWinners_72 (by decide) ?_
                    exact J76 1 _ _ _ (by unfold mr; rw [ksum_s, if_pos (by omega)]) T4208 (lv_sub hl4208 [0, 1, 2, 3, 4, 5, 6] rfl)
            exact L2 (N 0 + 1) 0 _ _ _ (by omega) (Nat.zero_le _) T4204 (lv_sub hl4207 [3, 4, 5, 6, 2, 1, 0] rfl)
      exact L1 (N 0 + 1) 0 _ _ _ _ _ (by omega) ho0 ha1 ha15 (Nat.zero_le _) (fun i hi => absurd hi (by omega)) (hup_0 ha15) T (lv_sub hl4203 [3, 2, 1, 0] rfl)
    · refine lv_iconst (v := nI 0) hx hb dX1_findWinners_19 rfl ?_
      exact Z _ _ _ _ _ _ dX1_findWinners_20 (Or.inl rfl) ⟨w0, by unfold fw; rw [if_neg (by omega)], hup_0 ha15, fun z => absurd z (by unfold fw; rw [if_neg (by omega)]; decide)⟩ T
