set_option maxRecDepth 100000
/-! exceptions: a method that throws -/
/-- what is known where a method has thrown the object a, of the class C -/
def TE (E : GE) (C : String) (post : HH → Nat → Nat → Prop) (mc ms : Nat) (st t : State) (a : Addr) : Prop :=
  ∃ (h' : HH) (dc ds : Nat), post h' dc ds ∧ Hp E.1 (AE E) h' t.heap ∧ hgr st.heap t.heap dc ds ∧ va_F (AE E) st t ∧ st.WarmedH t.vm ∧
    (∃ L : List Loc, st.sameButNew ({ t with vm := st.vm } : State) L mc ms ∧ ∀ q ∈ L, AE E q.base) ∧ (∃ ce : Cell, t.heap[a]? = some ce ∧ ce.vm = .none ∧ t.vm.findClass C = some ce.cls)
def TQ (E : GE) (C : String) (post : HH → Nat → Nat → Prop) (below : List Frame) (s : State) (mc ms : Nat) : State → Prop := fun t =>
  ∃ a : Addr, t.status = .running ∧ Ended t below (.threw a) ∧ TE E C post mc ms s t a
/-- the contract of a method that throws -/
def MT (E : GE) (l : Launch) (y : MethodName) (cc : ByteArray) (maxL : Nat) (ret : Option FieldType) (rm : Room) (av : List Value) (h : HH) (C : String) (post : HH → Nat → Nat → Prop) : Prop :=
  MetFree l y (headSpec (ws_ y cc maxL ret) rm) (va_Pc av (PreE E h)) (fun _ _ _ _ _ => True) (fun _ st o t => ∃ a : Addr, o = .threw a ∧ TE E C post rm.cells rm.slots st t a)
section XH
variable {l : Launch} {E : GE} {y : MethodName} {cc : ByteArray} {maxL : Nat} {rm : Room} {av : List Value} {h : HH} {C : String} {post : HH → Nat → Nat → Prop} {ret : Option FieldType}
theorem ht_of (hy : plainName y.cls = true) (hsz : (lg_sl av).length ≤ maxL)
    (body : ∀ (p : Program) (e : Env) (s : State) (m : MethodId) (below : List Frame) (meth : Method) (c : Code), Cx E p s m av.toArray meth c cc maxL y.cls → c.exceptionTable.isEmpty = true → ∀ (ls : Array Slot), St E s h s.heap [] → lv_has ls maxL (lv_args 0 av) → W p l e rm s m av.toArray below meth c s.heap [] 0 0 (TQ E C post below s rm.cells rm.slots) (F0 m 0 ls [])) : MT E l y cc maxL ret rm av h C post := by
  refine MetFree.of_bodyS (code := cc) (maxLocals := maxL) (ret := ret) hy ?_ ?_
  · intro args s m h hn
    obtain ⟨meth, c, h1, h2, h3, h4, h5, h6, -, -⟩ := Cond.code_spec hn (atoms_spec (ws := ws_ y cc maxL ret) h _ List.mem_cons_self)
    exact ⟨meth, c, h1, h2, h3, h4, h5, h6⟩
  · intro p e s m args below meth c s₁ B hml hP _
    obtain ⟨rfl, hG, hPP⟩ := hP
    have hts := atoms_spec (ws := ws_ y cc maxL ret) B.pre
    have hts2 : ∀ w ∈ lw_all, w.before _ s = true := fun w h => hts w (List.mem_cons_of_mem _ h)
    have hno := B.noHandlers (hts _ List.mem_cons_self)
    have hh0 : s₁.heap = s.heap := by rw [B.state]; rfl
    have hl := lv_entry av (n := maxL) hsz
    have K : W p l e rm s m av.toArray below meth c s.heap [] 0 0 (TQ E C post below s rm.cells rm.slots) (entryFrame m av.toArray maxL) := by
      rw [lg_entry_eq]
      generalize (lg_sl av ++ List.replicate (maxL - (lg_sl av).length) Slot.unset).toArray = ls at hl ⊢
      exact body p e s m below meth c ⟨⟨B.exec, B.bytes, hml, findClass_of_methodNamed B.named, hts2⟩, B.notSynchronized, hG⟩ hno ls ⟨hPP, va_S.rf⟩ hl
    obtain ⟨t, a1, a, b1, b2, b3⟩ := K s₁ hh0 (Stand.of_body B)
    exact ⟨t, .threw a, a1, b1, b2, a, rfl, b3⟩
end XH
section XC
variable {p : Program} {l : Launch} {e : Env} {R : Room} {s : State} {m : MethodId} {args : Array Value} {below : List Frame} {meth : Method} {c : Code} {T : State} {locs : List Loc} {cells slots : Nat}
/-- a call that ends by a throw: behind it the caller's frame, and the object over it -/
theorem thr_core {E : GE} {h : HH} {y : MethodName} {bytes : ByteArray} {maxL : Nat} {ret : Option FieldType} {rm : Room} {av : List Value} {Cn : String} {post : HH → Nat → Nat → Prop} (X : Stand p l e R s m args below meth c T locs cells slots)
    (hM : MT E l y bytes maxL ret rm av h Cn post) (hws : ∀ w ∈ ws_ y bytes maxL ret, ∀ (a' : Array Value) (U : State), s.WarmedH U.vm → w.before a' U = true) (hini : ∀ (a' : Array Value) (U : State), s.WarmedH U.vm → (Cond.initialized y.cls).before a' U = true)
    (hframes : rm.frames + 1 ≤ R.frames) (hlocals : 8 + (maxL + 11) + rm.locals ≤ R.locals) (hcells : cells + rm.cells ≤ R.cells) (hslots : slots + rm.slots ≤ R.slots)
    {g : JFrame} (hg : g.method = m) (hsize : g.locals.size = c.maxLocals) {ig : Instr} {len : Nat} (hdg : decode c.code g.pc = .ok (ig, len)) (hW : 2 * g.monitorRoom + (g.stack.map fun v => v.category).sum ≤ 8) {mk : MethodId} (hn : T.methodNamed? y = some mk) (hP : va_Pc av (PreE E h) av.toArray T) :
    ∃ (a : Addr) (T' : State) (L : List Loc), Stand p l e R s m args below meth c T' (locs ++ L) (cells + rm.cells) (slots + rm.slots) ∧ (∀ q ∈ L, AE E q.base) ∧
      (∃ (h' : HH) (dc ds : Nat), post h' dc ds ∧ Hp E.1 (AE E) h' T'.heap ∧ hgr T.heap T'.heap dc ds ∧ va_F (AE E) T T') ∧ (∃ ce : Cell, T'.heap[a]? = some ce ∧ ce.vm = .none ∧ T'.vm.findClass Cn = some ce.cls) ∧
      ∀ acts, Steps p.tables e below (doInvoke e (T.setTop g) acts mk av.toArray).1 ((T'.setTop g).pushFrame (.throwing a)) := by
  have h2 : (Cond.code y bytes maxL ret).before av.toArray T = true := hws _ List.mem_cons_self _ _ X.warmed
  have h3 := hini av.toArray T X.warmed
  obtain ⟨methY, cY, hmY, hcY, -, hlY, -, -, -, -⟩ := Cond.code_spec hn h2
  obtain ⟨kY, hkY, -⟩ := className_of_methodNamed hn
  have hinitY : kY.init = .initialized := Cond.initialized_spec (findClass_of_methodNamed hn) hkY h3
  have hAt : At T g.method c below := by rw [hg]; exact X.here
  have happ : (headSpec (ws_ y bytes maxL ret) rm).appliesLoose y e.platform (T.calling g mk av.toArray) = true :=
    Spec.appliesLoose_calling (g := g) hAt hdg hn hkY hinitY
      (X.room_calling (g := g) (R' := rm) hsize hmY hcY hframes (by rw [hlY]; omega) hcells hslots) (atoms_intro fun w hw => hws w hw _ _ X.warmed)
  obtain ⟨mid, hmid⟩ := hAt.above
  have hfr : (T.setTop g).frames = (.java g :: mid) ++ below := by rw [State.frames_setTop' g hAt.top, hmid]; rfl
  obtain ⟨o, s₂, hsteps, -, hend, a, rfl, hq⟩ := Steps.callFree hM p X.admits X.cas X.clock (acts := []) hfr happ (PreE.blind (h := h) av.toArray T g mk hP) trivial
  rw [State.frames_setTop' g hAt.top, X.tail] at hend
  obtain ⟨h', dc, ds, q1, q2, q3, q4, q5, ⟨L, q6, q7⟩, ce, q8, q9, q10⟩ := hq
  obtain ⟨T', X', hW', hB, ht⟩ := X.outOfThrown hg hend q5 q6
  have eh : s₂.heap = T'.heap := by rw [ht]; rfl
  have ev : s₂.vm = T'.vm := by rw [ht]; rfl
  refine ⟨a, T', L, X', q7, ⟨h', dc, ds, q1, by rw [← eh]; exact q2, by rw [← eh]; exact q3, ⟨by rw [← eh]; exact q4.1, fun q z1 z2 => by rw [← eh]; exact q4.2 q z1 z2⟩⟩, ⟨ce, by rw [← eh]; exact q8, q9, by rw [← ev]; exact q10⟩, fun acts => ?_⟩
  rw [doInvoke_state, ← ht]
  exact hsteps
/-- the caller has no handler: it throws on -/
theorem thr_leave {E : GE} {Cn : String} {post postc : HH → Nat → Nat → Prop} {H : Heap} {a : Addr} {T' : State} {L : List Loc} {k n : Nat} {g : JFrame} {mc ms : Nat} (hT : T.heap = H) (X0 : Stand p l e R s m args below meth c T locs cells slots) (X : Stand p l e R s m args below meth c T' (locs ++ L) (cells + k) (slots + n)) (hS : va_S (AE E) s.heap H locs) (hL : ∀ q ∈ L, AE E q.base)
    (hw : ∃ (h' : HH) (dc ds : Nat), postc h' dc ds ∧ Hp E.1 (AE E) h' T'.heap ∧ hgr T.heap T'.heap dc ds ∧ va_F (AE E) T T') (hc : ∃ ce : Cell, T'.heap[a]? = some ce ∧ ce.vm = .none ∧ T'.vm.findClass Cn = some ce.cls)
    (hg : g.method = m) (hlocked : g.locked = none) (hentered : g.entered = []) (hno : c.exceptionTable.isEmpty = true) (hlk : meth.locks = false) (hk : cells + k ≤ mc) (hn : slots + n ≤ ms) (hpost : ∀ h' dc ds, postc h' dc ds → post h' (cells + dc) (slots + ds)) :
    ∃ t, Steps p.tables e below ((T'.setTop g).pushFrame (.throwing a)) t ∧ TQ E Cn post below s mc ms t := by
  have hout : ∀ x ∈ c.exceptionTable.toList, covers x g.pc = false := fun x hx => by
    have : c.exceptionTable.toList = [] := by
      have := Array.isEmpty_iff.mp hno
      rw [this]
    rw [this] at hx
    cases hx
  obtain ⟨z1, z2, z3, z4, z5⟩ := X.leaveThrown a hg hlocked hentered hout hlk
  obtain ⟨h', dc, ds, q1, q2, q3, q4⟩ := hw
  obtain ⟨ce, q8, q9, q10⟩ := hc
  have hg0 := stand_gr X0
  refine ⟨_, z1, a, z2, z3, h', cells + dc, slots + ds, hpost _ _ _ q1, q2, hg0.tr q3, ⟨Nat.le_trans hS.1 (by rw [← hT]; exact q4.1), fun q w1 w2 => ?_⟩, z4, ⟨locs ++ L, z5.mono hk hn, fun q hq => ?_⟩, ce, q8, q9, q10⟩
  · have e1 := q4.2 q (by rw [hT]; exact Nat.lt_of_lt_of_le w1 hS.1) w2
    have e2 := hS.2.1 q w1 w2
    rw [← hT] at e2
    exact e1.trans e2
  · rcases List.mem_append.mp hq with w | w
    · exact hS.2.2 q w
    · exact hL q w
end XC
section XR
variable {p : Program} {l : Launch} {e : Env} {R : Room} {s : State} {m : MethodId} {args : Array Value} {below : List Frame} {meth : Method} {c : Code} {H : Heap} {locs : List Loc} {cells slots : Nat} {Q : State → Prop}
variable {cc : ByteArray} {nL : Nat} {own : String} {pc : Nat} {ls : Array Slot} {rest st0 : List Value} {E : GE} {h : HH}
/-- all of a call's thrown end, at the caller's frame -/
def Thr (p : Program) (l : Launch) (e : Env) (R : Room) (s : State) (m : MethodId) (args : Array Value) (below : List Frame) (meth : Method) (c : Code) (H : Heap) (locs : List Loc) (cells slots : Nat) (E : GE) (Cn : String) (postc : HH → Nat → Nat → Prop) (k n : Nat) (pc : Nat) (ls : Array Slot) (st0 rest : List Value) : Prop :=
  ∀ T : State, T.heap = H → Stand p l e R s m args below meth c T locs cells slots → ∃ (a : Addr) (T0 T' : State) (L : List Loc), T0.heap = H ∧ Stand p l e R s m args below meth c T0 locs cells slots ∧ Stand p l e R s m args below meth c T' (locs ++ L) (cells + k) (slots + n) ∧ (∀ q ∈ L, AE E q.base) ∧
    (∃ (h' : HH) (dc ds : Nat), postc h' dc ds ∧ Hp E.1 (AE E) h' T'.heap ∧ hgr T0.heap T'.heap dc ds ∧ va_F (AE E) T0 T') ∧ (∃ ce : Cell, T'.heap[a]? = some ce ∧ ce.vm = .none ∧ T'.vm.findClass Cn = some ce.cls) ∧
    ∀ t, Steps p.tables e below ((T'.setTop (F0 m pc ls rest)).pushFrame (.throwing a)) t → Steps p.tables e below (T.setTop (F0 m pc ls st0)) t
theorem thr_S (C : Cx E p s m args meth c cc nL own) (T : St E s h H locs) (hls : ls.size = nL) {n index maxL : Nat} {As : List Value} {y : MethodName} {bytes : ByteArray} {ret : Option FieldType} {rm : Room} {Cn : String} {postc : HH → Nat → Nat → Prop} (M : MT E l y bytes maxL ret rm As h Cn postc)
    (h1 : Cond.methodLink own index y ∈ lw_all) (h2 : Cond.static y ∈ lw_all) (h3 : Cond.initialized y.cls ∈ lw_all) (h4 : Cond.code y bytes maxL ret ∈ lw_all)
    (hd : y.cls ≠ "java/lang/invoke/MethodHandle" ∧ y.cls ≠ "java/lang/invoke/VarHandle" ∧ (parseMethodDescriptor y.desc).map (fun d => d.parameters.length) = some n) (hn : As.length = n) (hst : st0 = As.reverse ++ rest) (hR : rm.frames + 1 ≤ R.frames ∧ 8 + (maxL + 11) + rm.locals ≤ R.locals) (hW : (rest.map fun v => v.category).sum ≤ 8) (hdg : decode cc pc = .ok (.invokestatic index, 3)) (hf : cells + rm.cells ≤ R.cells ∧ slots + rm.slots ≤ R.slots) :
    Thr p l e R s m args below meth c H locs cells slots E Cn postc rm.cells rm.slots pc ls st0 rest := by
  intro U hU X
  have hcode := C.ts _ h4
  obtain ⟨mk, hnamed⟩ := Cond.code_named hcode
  obtain ⟨methM, cM, hmethM, -, -, -, -, -, -, hsigM⟩ := Cond.code_spec hnamed hcode
  have hstatic : methM.isStatic = true := Cond.static_spec hnamed hmethM (C.ts _ h2)
  obtain ⟨kP, hkP, -⟩ := className_of_methodNamed hnamed
  have hinitP : kP.init = .initialized := Cond.initialized_spec (findClass_of_methodNamed hnamed) hkP (C.ts _ h3)
  have hlen : As.length = methM.sig.parameters.length := by
    have := hd.2.2
    rw [hsigM] at this
    rw [hn]
    exact (Option.some.inj this).symm
  obtain ⟨vm₁, X₁, st⟩ := X.invokestatic C.x C.ow (C.ts _ h1) hnamed hmethM hstatic hkP hinitP ⟨hd.1, hd.2.1⟩ (g := F0 m pc ls st0) rfl (argsL := As) (rest := rest) hlen hst (by rw [C.b]; exact hdg)
  obtain ⟨a, T', L, X', hL, hw, hc, hs⟩ := thr_core X₁ M (fun w hw a' V hW2 => pay_in C.ts (lw_meth h4) w hw a' V hW2) (fun a' V hW2 => word_at hW2 (lw_self _ h3).2 (C.ts _ h3)) hR.1 hR.2 hf.1 hf.2 (g := F0 m pc ls rest) rfl (hls.trans C.ml.symm) (by rw [C.b]; exact hdg) (by show 2 * 0 + (rest.map fun v => v.category).sum ≤ 8; omega) (X₁.named hnamed) ⟨rfl, by rw [show (U.setVm vm₁).heap = H from hU]; exact C.2.2.step T.2 X₁.warmed, by rw [show (U.setVm vm₁).heap = H from hU]; exact T.1⟩
  exact ⟨a, U.setVm vm₁, T', L, hU, X₁, X', hL, hw, hc, fun t ht => st t fun acts => (hs acts).trans ht⟩
theorem thr_V (C : Cx E p s m args meth c cc nL own) (T : St E s h H locs) (hls : ls.size = nL) {b ci ob n index maxL : Nat} {fs As : List Value} {q : vw_C} {y : MethodName} {bytes : ByteArray} {ret : Option FieldType} {rm : Room} {Cn : String} {postc : HH → Nat → Nat → Prop} (hb : h b = some (.inr (ci, fs), ob)) (hci : vwCl[ci]? = some q) (M : MT E l y bytes maxL ret rm (.ref b :: As) h Cn postc)
    (h1 : Cond.methodLink own index y ∈ lw_all) (h2 : Cond.instanceMethod y ∈ lw_all) (h3 : Cond.selects q.1 y y ∈ lw_all) (h4 : Cond.initialized q.1 ∈ lw_all) (h5 : Cond.code y bytes maxL ret ∈ lw_all)
    (hd : y.cls = q.1 ∧ y.cls ≠ "java/lang/invoke/MethodHandle" ∧ y.cls ≠ "java/lang/invoke/VarHandle" ∧ (parseMethodDescriptor y.desc).map (fun d => d.parameters.length) = some n) (hn : As.length = n) (hst : st0 = As.reverse ++ .ref b :: rest) (hR : rm.frames + 1 ≤ R.frames ∧ 8 + (maxL + 11) + rm.locals ≤ R.locals) (hW : (rest.map fun v => v.category).sum ≤ 8) (hdg : decode cc pc = .ok (.invokevirtual index, 3)) (hf : cells + rm.cells ≤ R.cells ∧ slots + rm.slots ≤ R.slots) :
    Thr p l e R s m args below meth c H locs cells slots E Cn postc rm.cells rm.slots pc ls st0 rest := by
  intro U hU X
  obtain ⟨hyq, hy1, hy2, hy3⟩ := hd
  obtain ⟨ws, hw1, hw2, hw3⟩ := T.1
  obtain ⟨q0, hq⟩ := hw1 b _ hb
  obtain ⟨cellB, hcB, hoB, hclB⟩ := va_recv C.k hw2 hci hq
  have hcode := C.ts _ h5
  obtain ⟨mk, methM, hnamed, hmethM, hstM, habM⟩ := Cond.instanceMethod_spec (C.ts _ h2)
  obtain ⟨methM', cM, hmethM', -, -, -, -, -, -, hsigM⟩ := Cond.code_spec hnamed hcode
  cases hmethM.symm.trans hmethM'
  obtain ⟨c2, r2, m2, q1, q2, q3, q4, kP, hkP, hkPi⟩ := Cond.selects_spec (C.ts _ h3)
  cases hclB.symm.trans q1
  cases (State.methodFound?_of_named hnamed ⟨hy1, hy2⟩).symm.trans q2
  cases hnamed.symm.trans q3
  have hselP : selectMethod e.platform s.vm cellB.cls mk = .method mk := by rw [Launch.admits_selectMethod X.admits]; exact q4
  have hlen : As.length = methM.sig.parameters.length := by
    rw [hsigM] at hy3
    rw [hn]
    exact (Option.some.inj hy3).symm
  obtain ⟨vm₁, X₁, st⟩ := X.invokevirtual C.x C.ow (C.ts _ h1) hnamed hmethM hstM hkP hkPi ⟨hy1, hy2⟩ (a := b) (cell := cellB) (by rw [hU]; exact hcB)
    (fun z hz => by rw [hz] at hoB; cases hoB) hselP hmethM habM hkP hkPi (g := F0 m pc ls st0) rfl (argsL := As) (rest := rest) hlen hst (by rw [C.b]; exact hdg)
  obtain ⟨a, T', L, X', hL, hw, hc, hs⟩ := thr_core X₁ M (fun w hw a' V hW2 => pay_in C.ts (lw_meth h5) w hw a' V hW2) (fun a' V hW2 => word_at hW2 (lw_self (Cond.initialized y.cls) (by rw [hyq]; exact h4)).2 (C.ts (Cond.initialized y.cls) (by rw [hyq]; exact h4))) hR.1 hR.2 hf.1 hf.2 (g := F0 m pc ls rest) rfl (hls.trans C.ml.symm) (by rw [C.b]; exact hdg) (by show 2 * 0 + (rest.map fun v => v.category).sum ≤ 8; omega) (X₁.named hnamed) ⟨rfl, by rw [show (U.setVm vm₁).heap = H from hU]; exact C.2.2.step T.2 X₁.warmed, by rw [show (U.setVm vm₁).heap = H from hU]; exact T.1⟩
  exact ⟨a, U.setVm vm₁, T', L, hU, X₁, X', hL, hw, hc, fun t ht => st t fun acts => (hs acts).trans ht⟩
/-- .. and the caller throws on -/
theorem Thr.on {Cn : String} {post postc : HH → Nat → Nat → Prop} {k n mc ms : Nat} (Z : Thr p l e R s m args below meth c H locs cells slots E Cn postc k n pc ls st0 rest) (C : Cx E p s m args meth c cc nL own) (T : St E s h H locs) (hno : c.exceptionTable.isEmpty = true) (hk : cells + k ≤ mc ∧ slots + n ≤ ms) (hpost : ∀ h' dc ds, postc h' dc ds → post h' (cells + dc) (slots + ds)) :
    W p l e R s m args below meth c H locs cells slots (TQ E Cn post below s mc ms) (F0 m pc ls st0) := by
  intro U hU X
  obtain ⟨a, T0, T', L, hT0, X0, X', hL, hw, hc, st⟩ := Z U hU X
  obtain ⟨t, t1, t2⟩ := thr_leave hT0 X0 X' T.2 hL hw hc (g := F0 m pc ls rest) rfl rfl rfl hno C.2.1 hk.1 hk.2 hpost
  exact ⟨t, st t t1, t2⟩
end XR
