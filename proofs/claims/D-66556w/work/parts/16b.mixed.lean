set_option maxRecDepth 100000
/-! a method that may return or throw -/
def XQ (E : GE) (post : Option Value → HH → Nat → Nat → Prop) (tp : String → HH → Nat → Nat → Prop) (below : List Frame) (args : Array Value) (s : State) (mc ms : Nat) : State → Prop := fun t => MQ below (Qo E post) args s mc ms (AE E) t ∨ ∃ C, TQ E C (tp C) below s mc ms t
def MX (E : GE) (l : Launch) (y : MethodName) (cc : ByteArray) (maxL : Nat) (ret : Option FieldType) (rm : Room) (av : List Value) (h : HH) (post : Option Value → HH → Nat → Nat → Prop) (tp : String → HH → Nat → Nat → Prop) : Prop :=
  MetFree l y (headSpec (ws_ y cc maxL ret) rm) (va_Pc av (PreE E h)) (fun _ _ _ _ _ => True) (fun a st o t => (Qo E post a st o t ∧ ∃ L : List Loc, FrameEnd st o t L rm.cells rm.slots ∧ ∀ q ∈ L, AE E q.base) ∨ ∃ (x : Addr) (C : String), o = .threw x ∧ TE E C (tp C) rm.cells rm.slots st t x)
theorem W.imp {p : Program} {l : Launch} {e : Env} {R : Room} {s : State} {m : MethodId} {args : Array Value} {below : List Frame} {meth : Method} {c : Code} {H : Heap} {locs : List Loc} {cells slots : Nat} {Q Q' : State → Prop} {g : JFrame} (h : ∀ t, Q t → Q' t) (k : W p l e R s m args below meth c H locs cells slots Q g) : W p l e R s m args below meth c H locs cells slots Q' g := fun T hT X => by
  obtain ⟨t, a, b⟩ := k T hT X
  exact ⟨t, a, h t b⟩
section MXH
variable {l : Launch} {E : GE} {y : MethodName} {cc : ByteArray} {maxL : Nat} {rm : Room} {av : List Value} {h : HH} {post : Option Value → HH → Nat → Nat → Prop} {tp : String → HH → Nat → Nat → Prop} {ret : Option FieldType}
abbrev XThr (E : GE) (l : Launch) (rm : Room) (av : List Value) (tp : String → HH → Nat → Nat → Prop) (p : Program) (e : Env) (s : State) (m : MethodId) (below : List Frame) (meth : Method) (c : Code) (Q : State → Prop) : Prop :=
  ∀ (C : String) (H : Heap) (locs : List Loc) (cells slots : Nat) (g : JFrame), W p l e rm s m av.toArray below meth c H locs cells slots (TQ E C (tp C) below s rm.cells rm.slots) g → W p l e rm s m av.toArray below meth c H locs cells slots Q g
theorem hx_of (hy : plainName y.cls = true) (hsz : (lg_sl av).length ≤ maxL)
    (body : ∀ (p : Program) (e : Env) (s : State) (m : MethodId) (below : List Frame) (meth : Method) (c : Code), Cx E p s m av.toArray meth c cc maxL y.cls → c.exceptionTable.isEmpty = true → meth.sig.returnType = ret → ∀ (ls : Array Slot), St E s h s.heap [] → lv_has ls maxL (lv_args 0 av) → W p l e rm s m av.toArray below meth c s.heap [] 0 0 (XQ E post tp below av.toArray s rm.cells rm.slots) (F0 m 0 ls [])) : MX E l y cc maxL ret rm av h post tp := by
  refine MetFree.of_bodyS (code := cc) (maxLocals := maxL) (ret := ret) hy ?_ ?_
  · intro args s m h hn
    obtain ⟨meth, c, h1, h2, h3, h4, h5, h6, -, -⟩ := Cond.code_spec hn (atoms_spec (ws := ws_ y cc maxL ret) h _ List.mem_cons_self)
    exact ⟨meth, c, h1, h2, h3, h4, h5, h6⟩
  · intro p e s m args below meth c s₁ B hml hP _
    obtain ⟨rfl, hG, hPP⟩ := hP
    have hts := atoms_spec (ws := ws_ y cc maxL ret) B.pre
    have hts2 : ∀ w ∈ lw_all, w.before _ s = true := fun w h => hts w (List.mem_cons_of_mem _ h)
    have hno := B.noHandlers (hts _ List.mem_cons_self)
    have hh0 : s₁.heap = s.heap := by rw [B.state]; rfl
    have hl := lv_entry av (n := maxL) hsz
    have K : W p l e rm s m av.toArray below meth c s.heap [] 0 0 (XQ E post tp below av.toArray s rm.cells rm.slots) (entryFrame m av.toArray maxL) := by
      rw [lg_entry_eq]
      generalize (lg_sl av ++ List.replicate (maxL - (lg_sl av).length) Slot.unset).toArray = ls at hl ⊢
      exact body p e s m below meth c ⟨⟨B.exec, B.bytes, hml, findClass_of_methodNamed B.named, hts2⟩, B.notSynchronized, hG⟩ hno B.returns ls ⟨hPP, va_S.rf⟩ hl
    obtain ⟨t, a1, hq⟩ := K s₁ hh0 (Stand.of_body B)
    rcases hq with ⟨o, b1, b2, b3⟩ | ⟨C, a, b1, b2, b3⟩
    · exact ⟨t, o, a1, b1, b2, Or.inl b3⟩
    · exact ⟨t, .threw a, a1, b1, b2, Or.inr ⟨a, C, rfl, b3⟩⟩
abbrev XBody (E : GE) (l : Launch) (y : MethodName) (cc : ByteArray) (maxL : Nat) (rm : Room) (av : List Value) (h : HH) (tp : String → HH → Nat → Nat → Prop) (End : Program → Env → State → MethodId → List Frame → Method → Code → (State → Prop) → Prop) : Prop :=
  ∀ (p : Program) (e : Env) (s : State) (m : MethodId) (below : List Frame) (meth : Method) (c : Code), Cx E p s m av.toArray meth c cc maxL y.cls → c.exceptionTable.isEmpty = true → ∀ (Q : State → Prop), End p e s m below meth c Q → XThr E l rm av tp p e s m below meth c Q → ∀ (ls : Array Slot), St E s h s.heap [] → lv_has ls maxL (lv_args 0 av) → W p l e rm s m av.toArray below meth c s.heap [] 0 0 Q (F0 m 0 ls [])
theorem hx_v (hy : plainName y.cls = true) (hsz : (lg_sl av).length ≤ maxL)
    (body : XBody E l y cc maxL rm av h tp (fun p e s m below meth c Q => ∀ (pc : Nat) (ls : Array Slot) (H : Heap) (locs : List Loc) (h' : HH) (dc ds : Nat), decode cc pc = .ok (.return_, 1) → dc ≤ rm.cells → ds ≤ rm.slots → post none h' dc ds → St E s h' H locs → W p l e rm s m av.toArray below meth c H locs dc ds Q (F0 m pc ls []))) : MX E l y cc maxL none rm av h post tp :=
  hx_of hy hsz fun p e s m below meth c C hno hr ls T hl => body p e s m below meth c C hno _ (fun _ _ H _ h' dc ds hdg hdc hds hp T => W.imp (fun _ z => Or.inl z) (fun U hU X => by
    have hg := stand_gr X
    rw [hU] at hg
    exact W.widen hdc hds (W.vret C.x C.b hr (fun t ht _ => ⟨⟨none, h', dc, ds, rfl, hp, by rw [ht]; exact T.1, by rw [ht]; exact hg⟩, T.2.F ht⟩) T.2.2.2 hdg C.2.1) U hU X)) (fun Cn _ _ _ _ _ k => W.imp (fun _ z => Or.inr ⟨Cn, z⟩) k) ls T hl
theorem hx_i (hy : plainName y.cls = true) (hsz : (lg_sl av).length ≤ maxL)
    (body : XBody E l y cc maxL rm av h tp (fun p e s m below meth c Q => ∀ (pc : Nat) (ls : Array Slot) (H : Heap) (locs : List Loc) (h' : HH) (dc ds : Nat) (r : Int32), decode cc pc = .ok (.ireturn, 1) → dc ≤ rm.cells → ds ≤ rm.slots → post (some (.int r)) h' dc ds → St E s h' H locs → W p l e rm s m av.toArray below meth c H locs dc ds Q (F0 m pc ls [.int r]))) : MX E l y cc maxL (some .int) rm av h post tp :=
  hx_of hy hsz fun p e s m below meth c C hno hr ls T hl => body p e s m below meth c C hno _ (fun _ _ H _ h' dc ds r hdg hdc hds hp T => W.imp (fun _ z => Or.inl z) (fun U hU X => by
    have hg := stand_gr X
    rw [hU] at hg
    exact W.widen hdc hds (W.iret C.x C.b hr (fun t ht _ => ⟨⟨some (.int r), h', dc, ds, rfl, hp, by rw [ht]; exact T.1, by rw [ht]; exact hg⟩, T.2.F ht⟩) T.2.2.2 hdg C.2.1) U hU X)) (fun Cn _ _ _ _ _ k => W.imp (fun _ z => Or.inr ⟨Cn, z⟩) k) ls T hl
theorem hx_z (hy : plainName y.cls = true) (hsz : (lg_sl av).length ≤ maxL)
    (body : XBody E l y cc maxL rm av h tp (fun p e s m below meth c Q => ∀ (pc : Nat) (ls : Array Slot) (H : Heap) (locs : List Loc) (h' : HH) (dc ds : Nat) (r : Int32), decode cc pc = .ok (.ireturn, 1) → dc ≤ rm.cells → ds ≤ rm.slots → (r = 0 ∨ r = 1) → post (some (.int r)) h' dc ds → St E s h' H locs → W p l e rm s m av.toArray below meth c H locs dc ds Q (F0 m pc ls [.int r]))) : MX E l y cc maxL (some .boolean) rm av h post tp :=
  hx_of hy hsz fun p e s m below meth c C hno hr ls T hl => body p e s m below meth c C hno _ (fun _ _ H _ h' dc ds r hdg hdc hds h01 hp T => W.imp (fun _ z => Or.inl z) (fun U hU X => by
    have hg := stand_gr X
    rw [hU] at hg
    exact W.widen hdc hds (W.zret C.x C.b hr (by rcases h01 with rfl | rfl <;> rfl) (fun t ht _ => ⟨⟨some (.int r), h', dc, ds, rfl, hp, by rw [ht]; exact T.1, by rw [ht]; exact hg⟩, T.2.F ht⟩) T.2.2.2 hdg C.2.1) U hU X)) (fun Cn _ _ _ _ _ k => W.imp (fun _ z => Or.inr ⟨Cn, z⟩) k) ls T hl
theorem hx_r {rc : String} (hy : plainName y.cls = true) (hsz : (lg_sl av).length ≤ maxL)
    (body : XBody E l y cc maxL rm av h tp (fun p e s m below meth c Q => ∀ (pc : Nat) (ls : Array Slot) (H : Heap) (locs : List Loc) (h' : HH) (dc ds : Nat) (r : Nat), decode cc pc = .ok (.areturn, 1) → dc ≤ rm.cells → ds ≤ rm.slots → post (some (.ref r)) h' dc ds → St E s h' H locs → W p l e rm s m av.toArray below meth c H locs dc ds Q (F0 m pc ls [.ref r]))) : MX E l y cc maxL (some (.object rc)) rm av h post tp :=
  hx_of hy hsz fun p e s m below meth c C hno hr ls T hl => body p e s m below meth c C hno _ (fun _ _ H _ h' dc ds r hdg hdc hds hp T => W.imp (fun _ z => Or.inl z) (fun U hU X => by
    have hg := stand_gr X
    rw [hU] at hg
    exact W.widen hdc hds (W.aret C.x C.b hr (Or.inl ⟨rc, rfl⟩) (Or.inr ⟨r, rfl⟩) (fun t ht _ => ⟨⟨some (.ref r), h', dc, ds, rfl, hp, by rw [ht]; exact T.1, by rw [ht]; exact hg⟩, T.2.F ht⟩) T.2.2.2 hdg C.2.1) U hU X)) (fun Cn _ _ _ _ _ k => W.imp (fun _ z => Or.inr ⟨Cn, z⟩) k) ls T hl
end MXH
/-! ints compared, their worth as integers -/
section ZI
variable {p : Program} {l : Launch} {e : Env} {R : Room} {s : State} {m : MethodId} {args : Array Value} {below : List Frame} {meth : Method} {c : Code} {H : Heap} {locs : List Loc} {cells slots : Nat} {Q : State → Prop}
variable {cc : ByteArray} {pc : Nat} {ls : Array Slot} {rest : List Value} {x y : Int32} {X Y : Int}
theorem zi_icmp_lt (hx : p.tables.exec = Jvm.exec) (hb : c.code = cc) {off : Int} {tgt : Nat} (d : decode cc pc = .ok (.if_icmp .lt off, 3)) (ht : (pc : Int) + off = (tgt : Int)) (h1 : x.toInt = X) (h2 : y.toInt = Y) (k1 : X < Y → W p l e R s m args below meth c H locs cells slots Q (F0 m tgt ls rest)) (k2 : Y ≤ X → W p l e R s m args below meth c H locs cells slots Q (F0 m (pc + 3) ls rest)) : W p l e R s m args below meth c H locs cells slots Q (F0 m pc ls (.int y :: .int x :: rest)) := lv_icmp_lt hx hb d ht (fun z => k1 (by rw [Int32.lt_iff_toInt_lt] at z; omega)) (fun z => k2 (by rw [Int32.lt_iff_toInt_lt] at z; omega))
theorem zi_icmp_ge (hx : p.tables.exec = Jvm.exec) (hb : c.code = cc) {off : Int} {tgt : Nat} (d : decode cc pc = .ok (.if_icmp .ge off, 3)) (ht : (pc : Int) + off = (tgt : Int)) (h1 : x.toInt = X) (h2 : y.toInt = Y) (k1 : Y ≤ X → W p l e R s m args below meth c H locs cells slots Q (F0 m tgt ls rest)) (k2 : X < Y → W p l e R s m args below meth c H locs cells slots Q (F0 m (pc + 3) ls rest)) : W p l e R s m args below meth c H locs cells slots Q (F0 m pc ls (.int y :: .int x :: rest)) := lv_icmp_ge hx hb d ht (fun z => k1 (by rw [Int32.le_iff_toInt_le] at z; omega)) (fun z => k2 (by rw [Int32.le_iff_toInt_le] at z; omega))
theorem zi_icmp_gt (hx : p.tables.exec = Jvm.exec) (hb : c.code = cc) {off : Int} {tgt : Nat} (d : decode cc pc = .ok (.if_icmp .gt off, 3)) (ht : (pc : Int) + off = (tgt : Int)) (h1 : x.toInt = X) (h2 : y.toInt = Y) (k1 : Y < X → W p l e R s m args below meth c H locs cells slots Q (F0 m tgt ls rest)) (k2 : X ≤ Y → W p l e R s m args below meth c H locs cells slots Q (F0 m (pc + 3) ls rest)) : W p l e R s m args below meth c H locs cells slots Q (F0 m pc ls (.int y :: .int x :: rest)) := lv_icmp_gt hx hb d ht (fun z => k1 (by rw [Int32.lt_iff_toInt_lt] at z; omega)) (fun z => k2 (by rw [Int32.lt_iff_toInt_lt] at z; omega))
theorem zi_icmp_le (hx : p.tables.exec = Jvm.exec) (hb : c.code = cc) {off : Int} {tgt : Nat} (d : decode cc pc = .ok (.if_icmp .le off, 3)) (ht : (pc : Int) + off = (tgt : Int)) (h1 : x.toInt = X) (h2 : y.toInt = Y) (k1 : X ≤ Y → W p l e R s m args below meth c H locs cells slots Q (F0 m tgt ls rest)) (k2 : Y < X → W p l e R s m args below meth c H locs cells slots Q (F0 m (pc + 3) ls rest)) : W p l e R s m args below meth c H locs cells slots Q (F0 m pc ls (.int y :: .int x :: rest)) := lv_icmp_le hx hb d ht (fun z => k1 (by rw [Int32.le_iff_toInt_le] at z; omega)) (fun z => k2 (by rw [Int32.le_iff_toInt_le] at z; omega))
theorem zi_icmp_eq (hx : p.tables.exec = Jvm.exec) (hb : c.code = cc) {off : Int} {tgt : Nat} (d : decode cc pc = .ok (.if_icmp .eq off, 3)) (ht : (pc : Int) + off = (tgt : Int)) (h1 : x.toInt = X) (h2 : y.toInt = Y) (k1 : X = Y → W p l e R s m args below meth c H locs cells slots Q (F0 m tgt ls rest)) (k2 : X ≠ Y → W p l e R s m args below meth c H locs cells slots Q (F0 m (pc + 3) ls rest)) : W p l e R s m args below meth c H locs cells slots Q (F0 m pc ls (.int y :: .int x :: rest)) := lv_icmp_eq hx hb d ht (fun z => k1 (by rw [← h1, ← h2, z])) (fun z => k2 (fun w => z (Int32.toInt_inj.mp (by omega))))
theorem zi_icmp_ne (hx : p.tables.exec = Jvm.exec) (hb : c.code = cc) {off : Int} {tgt : Nat} (d : decode cc pc = .ok (.if_icmp .ne off, 3)) (ht : (pc : Int) + off = (tgt : Int)) (h1 : x.toInt = X) (h2 : y.toInt = Y) (k1 : X ≠ Y → W p l e R s m args below meth c H locs cells slots Q (F0 m tgt ls rest)) (k2 : X = Y → W p l e R s m args below meth c H locs cells slots Q (F0 m (pc + 3) ls rest)) : W p l e R s m args below meth c H locs cells slots Q (F0 m pc ls (.int y :: .int x :: rest)) := lv_icmp_ne hx hb d ht (fun z => k1 (fun w => z (Int32.toInt_inj.mp (by omega)))) (fun z => k2 (by rw [← h1, ← h2, z]))
theorem zi_if_lt (hx : p.tables.exec = Jvm.exec) (hb : c.code = cc) {off : Int} {tgt : Nat} (d : decode cc pc = .ok (.ifCond .lt off, 3)) (ht : (pc : Int) + off = (tgt : Int)) (h1 : x.toInt = X) (k1 : X < 0 → W p l e R s m args below meth c H locs cells slots Q (F0 m tgt ls rest)) (k2 : 0 ≤ X → W p l e R s m args below meth c H locs cells slots Q (F0 m (pc + 3) ls rest)) : W p l e R s m args below meth c H locs cells slots Q (F0 m pc ls (.int x :: rest)) := lv_if_lt hx hb d ht (fun z => k1 (by rw [Int32.lt_iff_toInt_lt] at z; have : (0 : Int32).toInt = 0 := rfl; omega)) (fun z => k2 (by rw [Int32.lt_iff_toInt_lt] at z; have : (0 : Int32).toInt = 0 := rfl; omega))
theorem zi_if_ge (hx : p.tables.exec = Jvm.exec) (hb : c.code = cc) {off : Int} {tgt : Nat} (d : decode cc pc = .ok (.ifCond .ge off, 3)) (ht : (pc : Int) + off = (tgt : Int)) (h1 : x.toInt = X) (k1 : 0 ≤ X → W p l e R s m args below meth c H locs cells slots Q (F0 m tgt ls rest)) (k2 : X < 0 → W p l e R s m args below meth c H locs cells slots Q (F0 m (pc + 3) ls rest)) : W p l e R s m args below meth c H locs cells slots Q (F0 m pc ls (.int x :: rest)) := lv_if_ge hx hb d ht (fun z => k1 (by rw [Int32.le_iff_toInt_le] at z; have : (0 : Int32).toInt = 0 := rfl; omega)) (fun z => k2 (by rw [Int32.le_iff_toInt_le] at z; have : (0 : Int32).toInt = 0 := rfl; omega))
theorem zi_if_gt (hx : p.tables.exec = Jvm.exec) (hb : c.code = cc) {off : Int} {tgt : Nat} (d : decode cc pc = .ok (.ifCond .gt off, 3)) (ht : (pc : Int) + off = (tgt : Int)) (h1 : x.toInt = X) (k1 : 0 < X → W p l e R s m args below meth c H locs cells slots Q (F0 m tgt ls rest)) (k2 : X ≤ 0 → W p l e R s m args below meth c H locs cells slots Q (F0 m (pc + 3) ls rest)) : W p l e R s m args below meth c H locs cells slots Q (F0 m pc ls (.int x :: rest)) := lv_if_gt hx hb d ht (fun z => k1 (by rw [Int32.lt_iff_toInt_lt] at z; have : (0 : Int32).toInt = 0 := rfl; omega)) (fun z => k2 (by rw [Int32.lt_iff_toInt_lt] at z; have : (0 : Int32).toInt = 0 := rfl; omega))
theorem zi_if_le (hx : p.tables.exec = Jvm.exec) (hb : c.code = cc) {off : Int} {tgt : Nat} (d : decode cc pc = .ok (.ifCond .le off, 3)) (ht : (pc : Int) + off = (tgt : Int)) (h1 : x.toInt = X) (k1 : X ≤ 0 → W p l e R s m args below meth c H locs cells slots Q (F0 m tgt ls rest)) (k2 : 0 < X → W p l e R s m args below meth c H locs cells slots Q (F0 m (pc + 3) ls rest)) : W p l e R s m args below meth c H locs cells slots Q (F0 m pc ls (.int x :: rest)) := lv_if_le hx hb d ht (fun z => k1 (by rw [Int32.le_iff_toInt_le] at z; have : (0 : Int32).toInt = 0 := rfl; omega)) (fun z => k2 (by rw [Int32.le_iff_toInt_le] at z; have : (0 : Int32).toInt = 0 := rfl; omega))
theorem zi_if_eq (hx : p.tables.exec = Jvm.exec) (hb : c.code = cc) {off : Int} {tgt : Nat} (d : decode cc pc = .ok (.ifCond .eq off, 3)) (ht : (pc : Int) + off = (tgt : Int)) (h1 : x.toInt = X) (k1 : X = 0 → W p l e R s m args below meth c H locs cells slots Q (F0 m tgt ls rest)) (k2 : X ≠ 0 → W p l e R s m args below meth c H locs cells slots Q (F0 m (pc + 3) ls rest)) : W p l e R s m args below meth c H locs cells slots Q (F0 m pc ls (.int x :: rest)) := lv_if_eq hx hb d ht (fun z => k1 (by rw [← h1, z]; rfl)) (fun z => k2 (fun w => z (Int32.toInt_inj.mp (by have : (0 : Int32).toInt = 0 := rfl; omega))))
theorem zi_if_ne (hx : p.tables.exec = Jvm.exec) (hb : c.code = cc) {off : Int} {tgt : Nat} (d : decode cc pc = .ok (.ifCond .ne off, 3)) (ht : (pc : Int) + off = (tgt : Int)) (h1 : x.toInt = X) (k1 : X ≠ 0 → W p l e R s m args below meth c H locs cells slots Q (F0 m tgt ls rest)) (k2 : X = 0 → W p l e R s m args below meth c H locs cells slots Q (F0 m (pc + 3) ls rest)) : W p l e R s m args below meth c H locs cells slots Q (F0 m pc ls (.int x :: rest)) := lv_if_ne hx hb d ht (fun z => k1 (fun w => z (Int32.toInt_inj.mp (by have : (0 : Int32).toInt = 0 := rfl; omega)))) (fun z => k2 (by rw [← h1, z]; rfl))
end ZI
theorem nat_of {x : Int32} (h : 0 ≤ x.toInt) : ∃ v : Nat, v < 2147483648 ∧ x = nI v := by
  have h2 := x.toInt_lt
  refine ⟨x.toInt.toNat, by omega, ?_⟩
  apply Int32.toInt_inj.mp
  rw [nI_toInt (by omega)]
  omega
theorem w1_toInt {n : Nat} (h : n < 2147483648) : (nI n - 1).toInt = (n : Int) - 1 := by
  rcases Nat.eq_zero_or_pos n with z | z
  · subst z; decide
  · rw [nIm1 z, nI_toInt (by omega)]; omega
