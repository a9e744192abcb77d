set_option maxRecDepth 100000
/-! rows of the model: rows of naturals, places of 16 bits -/
theorem sm32 : ∀ b, b < 32 → ((nI b &&& 31).toBitVec.smod 32).toNat = b := by decide +kernel
theorem um32 : ∀ b, b < 32 → (((nI b).toUInt32 &&& Int32.toUInt32 31).toBitVec % 32).toNat = b := by decide +kernel
theorem lZ_and16 (z : Int) : lZ z &&& lN 65535 = lN (z % 65536).toNat := by
  have h : lZ z = lN (z % 18446744073709551616).toNat := by
    rw [lN_Z, Int.toNat_of_nonneg (by omega)]
    apply Int64.toBitVec_inj.mp
    show BitVec.ofInt 64 z = BitVec.ofInt 64 (z % 18446744073709551616)
    apply BitVec.eq_of_toInt_eq
    rw [BitVec.toInt_ofInt, BitVec.toInt_ofInt]
    exact (Int.emod_bmod (n := 18446744073709551616)).symm
  rw [h, show lN (z % 18446744073709551616).toNat &&& lN 65535 = _ from l16_and _]
  congr 1
  omega
section H16
variable {p : Program} {l : Launch} {e : Env} {R : Room} {s : State} {m : MethodId} {args : Array Value} {below : List Frame} {meth : Method} {c : Code} {H : Heap} {locs : List Loc} {cells slots : Nat} {Q : State → Prop}
variable {cc : ByteArray} {nL : Nat} {own : String} {pc : Nat} {ls : Array Slot} {rest : List Value} {E : GE} {h : HH} {a b o : Nat}
theorem hl_and16 (hx : p.tables.exec = Jvm.exec) (hb : c.code = cc) (d : decode cc pc = .ok (.land, 1)) (kk : W p l e R s m args below meth c H locs cells slots Q (F0 m (pc + 1) ls (.long (lN (a % 65536)) :: rest))) : W p l e R s m args below meth c H locs cells slots Q (F0 m pc ls (.long (lN 65535) :: .long (lN a) :: rest)) := lv_land hx hb d (by rw [show lN a &&& lN 65535 = lN (a % 65536) from l16_and a]; exact kk)
theorem hz_and16 {z : Int} (hx : p.tables.exec = Jvm.exec) (hb : c.code = cc) (d : decode cc pc = .ok (.land, 1)) (kk : W p l e R s m args below meth c H locs cells slots Q (F0 m (pc + 1) ls (.long (lN (z % 65536).toNat) :: rest))) : W p l e R s m args below meth c H locs cells slots Q (F0 m pc ls (.long (lN 65535) :: .long (lZ z) :: rest)) := lv_land hx hb d (by rw [lZ_and16]; exact kk)
theorem hi_and {k r mk : Nat} (hx : p.tables.exec = Jvm.exec) (hb : c.code = cc) (d : decode cc pc = .ok (.iand, 1)) (ha : a < 2 ^ 32) (hm : (nI mk).toBitVec.toNat = 2 ^ k - 1) (hr : r = 2 ^ k) (kk : W p l e R s m args below meth c H locs cells slots Q (F0 m (pc + 1) ls (.int (nI (a % r)) :: rest))) : W p l e R s m args below meth c H locs cells slots Q (F0 m pc ls (.int (nI mk) :: .int (nI a) :: rest)) := lv_iand hx hb d (by rw [pk_andN ha k hm, ← hr]; exact kk)
theorem hi_shr (hx : p.tables.exec = Jvm.exec) (hb : c.code = cc) (d : decode cc pc = .ok (.ishr, 1)) (ha : a < 2 ^ 31) (hk : b < 32) (kk : W p l e R s m args below meth c H locs cells slots Q (F0 m (pc + 1) ls (.int (nI (a / 2 ^ b)) :: rest))) : W p l e R s m args below meth c H locs cells slots Q (F0 m pc ls (.int (nI b) :: .int (nI a) :: rest)) := lv_ishr hx hb d (by rw [pk_shrN ha _ b (sm32 b hk)]; exact kk)
theorem hi_shl (hx : p.tables.exec = Jvm.exec) (hb : c.code = cc) (d : decode cc pc = .ok (.ishl, 1)) (ha : a * 2 ^ b < 2 ^ 32) (hk : b < 32) (kk : W p l e R s m args below meth c H locs cells slots Q (F0 m (pc + 1) ls (.int (nI (a * 2 ^ b)) :: rest))) : W p l e R s m args below meth c H locs cells slots Q (F0 m pc ls (.int (nI b) :: .int (nI a) :: rest)) := lv_ishl hx hb d (by rw [pk_shlN _ b (sm32 b hk) ha]; exact kk)
theorem hi_ushr (hx : p.tables.exec = Jvm.exec) (hb : c.code = cc) (d : decode cc pc = .ok (.iushr, 1)) (ha : a < 2 ^ 32) (hk : b < 32) (kk : W p l e R s m args below meth c H locs cells slots Q (F0 m (pc + 1) ls (.int (nI (a / 2 ^ b)) :: rest))) : W p l e R s m args below meth c H locs cells slots Q (F0 m pc ls (.int (nI b) :: .int (nI a) :: rest)) := lv_iushr hx hb d (pk_ushrN ha _ b (um32 b hk)) kk
theorem hr_iald1 (C : Cx E p s m args meth c cc nL own) (T : St E s h H locs) {n j : Nat} {f : Nat → Nat} (ha : h a = some (.inl (E.2.1 0, n, .inl (nI1 f)), o)) (hj : j < n) (hn : n < 2 ^ 31) (hdg : decode cc pc = .ok (.iaload, 1))
    (kk : W p l e R s m args below meth c H locs cells slots Q (F0 m (pc + 1) ls (.int (nI (f j)) :: rest))) : W p l e R s m args below meth c H locs cells slots Q (F0 m pc ls (.int (nI j) :: .ref a :: rest)) := hr_iald C T ha hj hn hdg kk
theorem hr_iast1 (C : Cx E p s m args meth c cc nL own) (T : St E s h H locs) {n j : Nat} {f : Nat → Nat} (ha : h a = some (.inl (E.2.1 0, n, .inl (nI1 f)), o)) {v : Nat} (hj : j < n) (hn : n < 2 ^ 31) (hdg : decode cc pc = .ok (.iastore, 1))
    (kk : ∀ (h2 : HH) (H1 : Heap) (locs1 : List Loc), h2 = hup h a (.inl (E.2.1 0, n, .inl (nI1 (nu f j v))), o) → St E s h2 H1 locs1 → W p l e R s m args below meth c H1 locs1 cells slots Q (F0 m (pc + 1) ls rest)) : W p l e R s m args below meth c H locs cells slots Q (F0 m pc ls (.int (nI v) :: .int (nI j) :: .ref a :: rest)) := hr_iast C T ha hj hn hdg (fun h2 H1 locs1 e T2 => kk h2 H1 locs1 (by rw [nI1_up]; exact e) T2)
end H16
theorem Gv.of {E : GE} {A W : Nat → Nat} {h h2 : HH} (e1 : h2 (A 34) = h (A 34)) (e2 : h2 (A 35) = h (A 35)) (H : Gv E A W h) : Gv E A W h2 := by
  obtain ⟨gb, sz, ⟨h1, h2, h3⟩, h4⟩ := H
  exact ⟨gb, sz, ⟨e1.trans h1, e2.trans h2, h3⟩, h4⟩
/-- trim over the family -/
theorem m_X10_trimG {E : GE} {l : Launch} {h : HH} {A N : Nat → Nat} {mc : Nat} (hA : ∀ i j, i < 64 → j < 64 → i ≠ j → A i ≠ A j) (hmo : h (A 0) = some (.inr (9, [.int (nI mc), .ref (A 1), .int (nI (N 0)), .int (nI (N 3)), .int (nI (N 4)), .ref (A 5), .int (nI (N 1)), .int (nI (N 2)), .ref (A 8), .int (nI (N 5)), .int (nI (N 6)), .int (nI (N 7)), .int (nI (N 8)), .ref (A 13), .int (nI (N 9)), .ref (A 15), .int (nI (N 10)), .int (nI (N 11)), .int (nI (N 12)), .int (nI (N 13)), .ref (A 20), .ref (A 21), .ref (A 22), .ref (A 23), .int (nI (N 14)), .ref (A 25), .ref (A 26), .ref (A 27), .int (nI (N 15)), .int (nI (N 16)), .int (nI (N 17)), .int (nI (N 18) - 1), .ref (A 32), .int (nI (N 19)), .ref (A 34), .ref (A 35), .ref (A 36), .ref (A 37), .ref (A 38), .ref (A 39), .ref (A 40), .ref (A 41), .ref (A 42), .ref (A 43), .ref (A 44)]), A 0)) {W gb sz gb2 : Nat → Nat} {sl n v : Nat} (hz : ∀ s, s < 9 → sz s ≤ 1200) (hS : ∀ s, s < 9 → Sl gb sz s (W s)) (hs : sl < 9) (h34 : h (A 34) = some (.inl (E.2.1 0, 10800, .inl (nI1 gb2)), A 0)) (h35 : h (A 35) = some (.inl (E.2.1 0, 9, .inl (nI1 (nu sz sl n))), A 0)) (hg2 : ∀ i, gb2 i < 65536) (hn : n ≤ 1200) (ho : ∀ i, ¬ (1200 * sl ≤ i ∧ i < 1200 * sl + 1200) → gb2 i = gb i) (hv : vp16 gb2 (1200 * sl) n = v) : MM E l yX10_trim cX10_trim 2 none ({ frames := 0, cells := 0, slots := 0, locals := 0 } : Room) [.ref (A 0), .int (nI sl)] h (fun rv h2 => rv = none ∧ Gv E A (nu W sl v) h2 ∧ (∀ q, q ≠ A 34 → q ≠ A 35 → h2 q = h q) ∧ Fr (· = A 0) h h2) := by
  refine MM.imp (m_X10_trim hA hmo h34 h35 hg2 hs (by rw [nu_s]; exact hn)) ?_
  rintro rv h2 ⟨e, n2, a1, a2, a3, a4, a5, a6⟩
  rw [nu_2] at a2
  rw [nu_s] at a1 a3
  exact ⟨e, Gv.put hz hS ((a5 _ (hA 34 35 (by decide) (by decide) (by decide))).trans h34) a2 hg2 (by omega) ho (a3.trans hv) a4, fun q _ z => a5 q z, a6⟩
