set_option maxRecDepth 100000
/-! methods that write nothing at all: the caller's list of writes stays -/
abbrev MP (E : GE) (l : Launch) (y : MethodName) (cc : ByteArray) (maxL : Nat) (ret : Option FieldType) (rm : Room) (av : List Value) (h : HH) (post : Option Value → Prop) : Prop :=
  Met l y (ws_ y cc maxL ret) rm (va_Pc av (PreE E h)) (Qo E (fun rv h' dc ds => post rv ∧ h' = h ∧ dc = 0 ∧ ds = 0)) rm.cells rm.slots (fun _ => False)
section PC
variable {p : Program} {l : Launch} {e : Env} {R : Room} {s : State} {m : MethodId} {args : Array Value} {below : List Frame} {meth : Method} {c : Code} {H : Heap} {locs : List Loc} {cells slots : Nat} {Q : State → Prop}
variable {cc : ByteArray} {nL : Nat} {own : String} {pc : Nat} {ls : Array Slot} {rest st0 : List Value} {E : GE} {h : HH}
theorem hk_runP {mc ms : Nat} {post : Option Value → Prop} {a : Array Value} (hr : va_Run p l e R s m args below meth c H locs cells slots mc ms (F0 m pc ls st0) rest (Qo E (fun rv h' dc ds => post rv ∧ h' = h ∧ dc = 0 ∧ ds = 0) a) (fun _ => False)) (T : St E s h H locs)
    (kk : ∀ (rv : Option Value) (H1 : Heap), post rv → St E s h H1 locs → W p l e R s m args below meth c H1 locs cells slots Q (F0 m (pc + 3) ls (rv.toList ++ rest))) : W p l e R s m args below meth c H locs cells slots Q (F0 m pc ls st0) := by
  intro X hX Y
  obtain ⟨v, st₀, t, T', L, h0, X', hL, e1, e2, ⟨⟨rv, h', dc, ds, hv, ⟨hp, rfl, rfl, rfl⟩, hb, hgz⟩, hz, hk⟩, st⟩ := hr X hX Y
  cases hv
  have hLn : L = [] := by
    cases L with
    | nil => rfl
    | cons q L => exact absurd (hL q List.mem_cons_self) (fun z => z)
  subst hLn
  rw [List.append_nil] at X'
  rw [h0] at hz hk hgz
  have hS1 : va_S (AE E) s.heap T'.heap locs := ⟨Nat.le_trans T.2.1 (by rw [e1]; exact hz), fun q h1 h2 => by rw [e1, hk q (Nat.lt_of_lt_of_le h1 T.2.1) h2]; exact T.2.2.1 q h1 h2, T.2.2.2⟩
  have hg0 := stand_gr Y
  rw [hX] at hg0
  have hg1 : hgr s.heap T'.heap cells slots := by rw [e1]; exact hg0.tr hgz
  obtain ⟨t2, a1, b1⟩ := kk v T'.heap hp ⟨by rw [e1]; exact hb, hS1⟩ T' rfl (stand_tight X' hg1)
  exact ⟨t2, st t2 a1, b1⟩
theorem hp_V (C : Cx E p s m args meth c cc nL own) (T : St E s h H locs) (hls : ls.size = nL) {b ci ob n index maxL : Nat} {fs As : List Value} {q : vw_C} {y : MethodName} {bytes : ByteArray} {ret : Option FieldType} {rm : Room} {post : Option Value → Prop} (hb : h b = some (.inr (ci, fs), ob)) (hci : vwCl[ci]? = some q) (M : MP E l y bytes maxL ret rm (.ref b :: As) h post)
    (h1 : Cond.methodLink own index y ∈ lw_all) (h2 : Cond.instanceMethod y ∈ lw_all) (h3 : Cond.selects q.1 y y ∈ lw_all) (h4 : Cond.initialized q.1 ∈ lw_all) (h5 : Cond.code y bytes maxL ret ∈ lw_all)
    (hd : y.cls = q.1 ∧ y.cls ≠ "java/lang/invoke/MethodHandle" ∧ y.cls ≠ "java/lang/invoke/VarHandle" ∧ (parseMethodDescriptor y.desc).map (fun d => d.parameters.length) = some n) (hn : As.length = n) (hst : st0 = As.reverse ++ .ref b :: rest) (hR : rm.frames + 1 ≤ R.frames ∧ 8 + (maxL + 11) + rm.locals ≤ R.locals) (hW : (rest.map fun v => v.category).sum ≤ 8) (hdg : decode cc pc = .ok (.invokevirtual index, 3)) (hf : cells + rm.cells ≤ R.cells ∧ slots + rm.slots ≤ R.slots)
    (kk : ∀ (rv : Option Value) (H1 : Heap), post rv → St E s h H1 locs → W p l e R s m args below meth c H1 locs cells slots Q (F0 m (pc + 3) ls (rv.toList ++ rest))) : W p l e R s m args below meth c H locs cells slots Q (F0 m pc ls st0) :=
  hk_runP (va_runV C.1 M (cwV n C.ts (lw_V h1 h2 h3 h4 h5) rfl rfl rfl hd hR) (pre_V C T hb hci As) rfl hn hls hst (lv_room hW) hdg hf) T kk
theorem hp_S (C : Cx E p s m args meth c cc nL own) (T : St E s h H locs) (hls : ls.size = nL) {n index maxL : Nat} {As : List Value} {y : MethodName} {bytes : ByteArray} {ret : Option FieldType} {rm : Room} {post : Option Value → Prop} (M : MP E l y bytes maxL ret rm As h post)
    (h1 : Cond.methodLink own index y ∈ lw_all) (h2 : Cond.static y ∈ lw_all) (h3 : Cond.initialized y.cls ∈ lw_all) (h4 : Cond.code y bytes maxL ret ∈ lw_all)
    (hd : y.cls ≠ "java/lang/invoke/MethodHandle" ∧ y.cls ≠ "java/lang/invoke/VarHandle" ∧ (parseMethodDescriptor y.desc).map (fun d => d.parameters.length) = some n) (hn : As.length = n) (hst : st0 = As.reverse ++ rest) (hR : rm.frames + 1 ≤ R.frames ∧ 8 + (maxL + 11) + rm.locals ≤ R.locals) (hW : (rest.map fun v => v.category).sum ≤ 8) (hdg : decode cc pc = .ok (.invokestatic index, 3)) (hf : cells + rm.cells ≤ R.cells ∧ slots + rm.slots ≤ R.slots)
    (kk : ∀ (rv : Option Value) (H1 : Heap), post rv → St E s h H1 locs → W p l e R s m args below meth c H1 locs cells slots Q (F0 m (pc + 3) ls (rv.toList ++ rest))) : W p l e R s m args below meth c H locs cells slots Q (F0 m pc ls st0) :=
  hk_runP (va_runS C.1 M (va_cwS n C.ts (lw_S h1 h2 h3 h4) rfl rfl rfl hd hR) (pre_S C T As) rfl hn hls hst (lv_room hW) hdg hf) T kk
end PC
section PM
variable {l : Launch} {E : GE} {y : MethodName} {cc : ByteArray} {maxL : Nat} {rm : Room} {av : List Value} {h : HH} {post : Option Value → Prop} {ret : Option FieldType}
theorem hp_of (hy : plainName y.cls = true) (hsz : (lg_sl av).length ≤ maxL)
    (body : ∀ (p : Program) (e : Env) (s : State) (m : MethodId) (below : List Frame) (meth : Method) (c : Code), Cx E p s m av.toArray meth c cc maxL y.cls → meth.sig.returnType = ret → ∀ (ls : Array Slot), St E s h s.heap [] → lv_has ls maxL (lv_args 0 av) → W p l e rm s m av.toArray below meth c s.heap [] 0 0 (MQ below (Qo E (fun rv h' dc ds => post rv ∧ h' = h ∧ dc = 0 ∧ ds = 0)) av.toArray s rm.cells rm.slots (fun _ => False)) (F0 m 0 ls [])) : MP E l y cc maxL ret rm av h post := by
  refine Met.ofW (cc := cc) (maxL := maxL) (ret := ret) hy rfl ?_
  intro p e s m args below meth c s₁ B hml hv
  obtain ⟨rfl, hG, hP⟩ := hv
  have hts := atoms_spec (ws := ws_ y cc maxL ret) B.pre
  have hts : ∀ w ∈ lw_all, w.before _ s = true := fun w h => hts w (List.mem_cons_of_mem _ h)
  have hl := lv_entry av (n := maxL) hsz
  rw [lg_entry_eq]
  generalize (lg_sl av ++ List.replicate (maxL - (lg_sl av).length) Slot.unset).toArray = ls at hl ⊢
  exact body p e s m below meth c ⟨⟨B.exec, B.bytes, hml, findClass_of_methodNamed B.named, hts⟩, B.notSynchronized, hG⟩ B.returns ls ⟨hP, va_S.rf⟩ hl
abbrev PBody (E : GE) (l : Launch) (y : MethodName) (cc : ByteArray) (maxL : Nat) (rm : Room) (av : List Value) (h : HH) (End : Program → Env → State → MethodId → List Frame → Method → Code → (State → Prop) → Prop) : Prop :=
  ∀ (p : Program) (e : Env) (s : State) (m : MethodId) (below : List Frame) (meth : Method) (c : Code), Cx E p s m av.toArray meth c cc maxL y.cls → ∀ (Q : State → Prop), End p e s m below meth c Q → ∀ (ls : Array Slot), St E s h s.heap [] → lv_has ls maxL (lv_args 0 av) → W p l e rm s m av.toArray below meth c s.heap [] 0 0 Q (F0 m 0 ls [])
theorem hp_v (hy : plainName y.cls = true) (hsz : (lg_sl av).length ≤ maxL)
    (body : PBody E l y cc maxL rm av h (fun p e s m below meth c Q => ∀ (pc : Nat) (ls : Array Slot) (H : Heap), decode cc pc = .ok (.return_, 1) → post none → St E s h H [] → W p l e rm s m av.toArray below meth c H [] 0 0 Q (F0 m pc ls []))) : MP E l y cc maxL none rm av h post :=
  hp_of hy hsz fun p e s m below meth c C hr ls T hl => body p e s m below meth c C _ (fun _ _ H hdg hp T => fun U hU X => by
    have hg := stand_gr X
    rw [hU] at hg
    exact W.widen (Nat.zero_le _) (Nat.zero_le _) (W.vret C.x C.b hr (fun t ht _ => ⟨⟨none, h, 0, 0, rfl, ⟨hp, rfl, rfl, rfl⟩, by rw [ht]; exact T.1, by rw [ht]; exact hg⟩, T.2.F ht⟩) (fun q hq => by cases hq) hdg C.2.1) U hU X) ls T hl
theorem hp_i (hy : plainName y.cls = true) (hsz : (lg_sl av).length ≤ maxL)
    (body : PBody E l y cc maxL rm av h (fun p e s m below meth c Q => ∀ (pc : Nat) (ls : Array Slot) (H : Heap) (r : Int32), decode cc pc = .ok (.ireturn, 1) → post (some (.int r)) → St E s h H [] → W p l e rm s m av.toArray below meth c H [] 0 0 Q (F0 m pc ls [.int r]))) : MP E l y cc maxL (some .int) rm av h post :=
  hp_of hy hsz fun p e s m below meth c C hr ls T hl => body p e s m below meth c C _ (fun _ _ H r hdg hp T => fun U hU X => by
    have hg := stand_gr X
    rw [hU] at hg
    exact W.widen (Nat.zero_le _) (Nat.zero_le _) (W.iret C.x C.b hr (fun t ht _ => ⟨⟨some (.int r), h, 0, 0, rfl, ⟨hp, rfl, rfl, rfl⟩, by rw [ht]; exact T.1, by rw [ht]; exact hg⟩, T.2.F ht⟩) (fun q hq => by cases hq) hdg C.2.1) U hU X) ls T hl
theorem hp_z (hy : plainName y.cls = true) (hsz : (lg_sl av).length ≤ maxL)
    (body : PBody E l y cc maxL rm av h (fun p e s m below meth c Q => ∀ (pc : Nat) (ls : Array Slot) (H : Heap) (r : Int32), decode cc pc = .ok (.ireturn, 1) → (r = 0 ∨ r = 1) → post (some (.int r)) → St E s h H [] → W p l e rm s m av.toArray below meth c H [] 0 0 Q (F0 m pc ls [.int r]))) : MP E l y cc maxL (some .boolean) rm av h post :=
  hp_of hy hsz fun p e s m below meth c C hr ls T hl => body p e s m below meth c C _ (fun _ _ H r hdg h01 hp T => fun U hU X => by
    have hg := stand_gr X
    rw [hU] at hg
    exact W.widen (Nat.zero_le _) (Nat.zero_le _) (W.zret C.x C.b hr (by rcases h01 with rfl | rfl <;> rfl) (fun t ht _ => ⟨⟨some (.int r), h, 0, 0, rfl, ⟨hp, rfl, rfl, rfl⟩, by rw [ht]; exact T.1, by rw [ht]; exact hg⟩, T.2.F ht⟩) (fun q hq => by cases hq) hdg C.2.1) U hU X) ls T hl
end PM
