set_option maxRecDepth 100000
/-- a contract: y with the arguments av at the heap h returns, and post says what; it makes at most rm.cells cells of rm.slots slots, and dc and ds of post truly -/
abbrev MG (E : GE) (l : Launch) (y : MethodName) (cc : ByteArray) (maxL : Nat) (ret : Option FieldType) (rm : Room) (av : List Value) (h : HH) (post : Option Value → HH → Nat → Nat → Prop) : Prop :=
  Met l y (ws_ y cc maxL ret) rm (va_Pc av (PreE E h)) (Qo E post) rm.cells rm.slots (AE E)
/-- .. of a method that makes nothing -/
abbrev MM (E : GE) (l : Launch) (y : MethodName) (cc : ByteArray) (maxL : Nat) (ret : Option FieldType) (rm : Room) (av : List Value) (h : HH) (post : Option Value → HH → Prop) : Prop :=
  MG E l y cc maxL ret rm av h (fun rv h' dc ds => post rv h' ∧ dc = 0 ∧ ds = 0)
abbrev NoMH (c : String) : Prop := c ≠ "java/lang/invoke/MethodHandle" ∧ c ≠ "java/lang/invoke/VarHandle"
section HC
variable {p : Program} {l : Launch} {e : Env} {R : Room} {s : State} {m : MethodId} {args : Array Value} {below : List Frame} {meth : Method} {c : Code} {H : Heap} {locs : List Loc} {cells slots : Nat} {Q : State → Prop}
variable {cc : ByteArray} {nL : Nat} {own : String} {pc : Nat} {ls : Array Slot} {rest st0 : List Value} {E : GE} {h : HH}
theorem pre_S (C : Cx E p s m args meth c cc nL own) (T : St E s h H locs) (As : List Value) : PreS s H (va_Pc As (PreE E h)) As :=
  ⟨PreE.blind, fun U hU hW => ⟨rfl, by rw [hU]; exact C.2.2.step T.2 hW, by rw [hU]; exact T.1⟩⟩
theorem pre_V (C : Cx E p s m args meth c cc nL own) (T : St E s h H locs) {b ci ob : Nat} {fs : List Value} {q : vw_C} (hb : h b = some (.inr (ci, fs), ob)) (hci : vwCl[ci]? = some q) (As : List Value) : PreV s H q.1 b (va_Pc (.ref b :: As) (PreE E h)) As := by
  obtain ⟨ws, h1, h2, h3⟩ := T.1
  obtain ⟨q0, hq⟩ := h1 b _ hb
  exact ⟨PreE.blind, va_recv C.k h2 hci hq, fun U hU hW => ⟨rfl, by rw [hU]; exact C.2.2.step T.2 hW, by rw [hU]; exact T.1⟩⟩
theorem hk_run {mc ms : Nat} {post : Option Value → HH → Nat → Nat → Prop} {a : Array Value} (hr : va_Run p l e R s m args below meth c H locs cells slots mc ms (F0 m pc ls st0) rest (Qo E post a) (AE E)) (T : St E s h H locs)
    (kk : ∀ (rv : Option Value) (h' : HH) (dc ds : Nat) (H1 : Heap) (locs1 : List Loc), post rv h' dc ds → St E s h' H1 locs1 → W p l e R s m args below meth c H1 locs1 (cells + dc) (slots + ds) Q (F0 m (pc + 3) ls (rv.toList ++ rest))) : W p l e R s m args below meth c H locs cells slots Q (F0 m pc ls st0) := by
  intro X hX Y
  obtain ⟨v, st₀, t, T', L, h0, X', hL, e1, e2, ⟨⟨rv, h', dc, ds, hv, hp, hb, hgz⟩, hz, hk⟩, st⟩ := hr X hX Y
  cases hv
  rw [h0] at hz hk hgz
  have hS1 : va_S (AE E) s.heap T'.heap (locs ++ L) := ⟨Nat.le_trans T.2.1 (by rw [e1]; exact hz), fun q h1 h2 => by rw [e1, hk q (Nat.lt_of_lt_of_le h1 T.2.1) h2]; exact T.2.2.1 q h1 h2, fun q hq => by
    rcases List.mem_append.mp hq with h | h
    · exact T.2.2.2 q h
    · exact hL q h⟩
  have hg0 := stand_gr Y
  rw [hX] at hg0
  have hg1 : hgr s.heap T'.heap (cells + dc) (slots + ds) := by rw [e1]; exact hg0.tr hgz
  obtain ⟨t2, a1, b1⟩ := kk v h' dc ds T'.heap (locs ++ L) hp ⟨by rw [e1]; exact hb, hS1⟩ T' rfl (stand_tight X' hg1)
  exact ⟨t2, st t2 a1, b1⟩
theorem hk_run5 {mc ms : Nat} {post : Option Value → HH → Nat → Nat → Prop} {a : Array Value} (hr : va_Run5 p l e R s m args below meth c H locs cells slots mc ms (F0 m pc ls st0) rest (Qo E post a) (AE E)) (T : St E s h H locs)
    (kk : ∀ (rv : Option Value) (h' : HH) (dc ds : Nat) (H1 : Heap) (locs1 : List Loc), post rv h' dc ds → St E s h' H1 locs1 → W p l e R s m args below meth c H1 locs1 (cells + dc) (slots + ds) Q (F0 m (pc + 5) ls (rv.toList ++ rest))) : W p l e R s m args below meth c H locs cells slots Q (F0 m pc ls st0) := by
  intro X hX Y
  obtain ⟨v, st₀, t, T', L, h0, X', hL, e1, e2, ⟨⟨rv, h', dc, ds, hv, hp, hb, hgz⟩, hz, hk⟩, st⟩ := hr X hX Y
  cases hv
  rw [h0] at hz hk hgz
  have hS1 : va_S (AE E) s.heap T'.heap (locs ++ L) := ⟨Nat.le_trans T.2.1 (by rw [e1]; exact hz), fun q h1 h2 => by rw [e1, hk q (Nat.lt_of_lt_of_le h1 T.2.1) h2]; exact T.2.2.1 q h1 h2, fun q hq => by
    rcases List.mem_append.mp hq with h | h
    · exact T.2.2.2 q h
    · exact hL q h⟩
  have hg0 := stand_gr Y
  rw [hX] at hg0
  have hg1 : hgr s.heap T'.heap (cells + dc) (slots + ds) := by rw [e1]; exact hg0.tr hgz
  obtain ⟨t2, a1, b1⟩ := kk v h' dc ds T'.heap (locs ++ L) hp ⟨by rw [e1]; exact hb, hS1⟩ T' rfl (stand_tight X' hg1)
  exact ⟨t2, st t2 a1, b1⟩
/-- invokevirtual -/
theorem hg_V (C : Cx E p s m args meth c cc nL own) (T : St E s h H locs) (hls : ls.size = nL) {b ci ob n index maxL : Nat} {fs As : List Value} {q : vw_C} {y : MethodName} {bytes : ByteArray} {ret : Option FieldType} {rm : Room} {post : Option Value → HH → Nat → Nat → Prop} (hb : h b = some (.inr (ci, fs), ob)) (hci : vwCl[ci]? = some q) (M : MG E l y bytes maxL ret rm (.ref b :: As) h post)
    (h1 : Cond.methodLink own index y ∈ lw_all) (h2 : Cond.instanceMethod y ∈ lw_all) (h3 : Cond.selects q.1 y y ∈ lw_all) (h4 : Cond.initialized q.1 ∈ lw_all) (h5 : Cond.code y bytes maxL ret ∈ lw_all)
    (hd : y.cls = q.1 ∧ y.cls ≠ "java/lang/invoke/MethodHandle" ∧ y.cls ≠ "java/lang/invoke/VarHandle" ∧ (parseMethodDescriptor y.desc).map (fun d => d.parameters.length) = some n) (hn : As.length = n) (hst : st0 = As.reverse ++ .ref b :: rest) (hR : rm.frames + 1 ≤ R.frames ∧ 8 + (maxL + 11) + rm.locals ≤ R.locals) (hW : (rest.map fun v => v.category).sum ≤ 8) (hdg : decode cc pc = .ok (.invokevirtual index, 3)) (hf : cells + rm.cells ≤ R.cells ∧ slots + rm.slots ≤ R.slots)
    (kk : ∀ (rv : Option Value) (h' : HH) (dc ds : Nat) (H1 : Heap) (locs1 : List Loc), post rv h' dc ds → St E s h' H1 locs1 → W p l e R s m args below meth c H1 locs1 (cells + dc) (slots + ds) Q (F0 m (pc + 3) ls (rv.toList ++ rest))) : W p l e R s m args below meth c H locs cells slots Q (F0 m pc ls st0) :=
  hk_run (va_runV C.1 M (cwV n C.ts (lw_V h1 h2 h3 h4 h5) rfl rfl rfl hd hR) (pre_V C T hb hci As) rfl hn hls hst (lv_room hW) hdg hf) T kk
/-- invokestatic -/
theorem hg_S (C : Cx E p s m args meth c cc nL own) (T : St E s h H locs) (hls : ls.size = nL) {n index maxL : Nat} {As : List Value} {y : MethodName} {bytes : ByteArray} {ret : Option FieldType} {rm : Room} {post : Option Value → HH → Nat → Nat → Prop} (M : MG E l y bytes maxL ret rm As h post)
    (h1 : Cond.methodLink own index y ∈ lw_all) (h2 : Cond.static y ∈ lw_all) (h3 : Cond.initialized y.cls ∈ lw_all) (h4 : Cond.code y bytes maxL ret ∈ lw_all)
    (hd : y.cls ≠ "java/lang/invoke/MethodHandle" ∧ y.cls ≠ "java/lang/invoke/VarHandle" ∧ (parseMethodDescriptor y.desc).map (fun d => d.parameters.length) = some n) (hn : As.length = n) (hst : st0 = As.reverse ++ rest) (hR : rm.frames + 1 ≤ R.frames ∧ 8 + (maxL + 11) + rm.locals ≤ R.locals) (hW : (rest.map fun v => v.category).sum ≤ 8) (hdg : decode cc pc = .ok (.invokestatic index, 3)) (hf : cells + rm.cells ≤ R.cells ∧ slots + rm.slots ≤ R.slots)
    (kk : ∀ (rv : Option Value) (h' : HH) (dc ds : Nat) (H1 : Heap) (locs1 : List Loc), post rv h' dc ds → St E s h' H1 locs1 → W p l e R s m args below meth c H1 locs1 (cells + dc) (slots + ds) Q (F0 m (pc + 3) ls (rv.toList ++ rest))) : W p l e R s m args below meth c H locs cells slots Q (F0 m pc ls st0) :=
  hk_run (va_runS C.1 M (va_cwS n C.ts (lw_S h1 h2 h3 h4) rfl rfl rfl hd hR) (pre_S C T As) rfl hn hls hst (lv_room hW) hdg hf) T kk
/-- invokespecial of a constructor -/
theorem hg_I (C : Cx E p s m args meth c cc nL own) (T : St E s h H locs) (hls : ls.size = nL) {b n index maxL : Nat} {As : List Value} {y : MethodName} {bytes : ByteArray} {rm : Room} {post : Option Value → HH → Nat → Nat → Prop} (M : MG E l y bytes maxL none rm (.ref b :: As) h post)
    (h1 : Cond.methodLink own index y ∈ lw_all) (h2 : Cond.instanceMethod y ∈ lw_all) (h4 : Cond.initialized y.cls ∈ lw_all) (h5 : Cond.code y bytes maxL none ∈ lw_all) (hi : y.name = "<init>")
    (hd : y.cls ≠ "java/lang/invoke/MethodHandle" ∧ y.cls ≠ "java/lang/invoke/VarHandle" ∧ (parseMethodDescriptor y.desc).map (fun d => d.parameters.length) = some n) (hn : As.length = n) (hst : st0 = As.reverse ++ .ref b :: rest) (hR : rm.frames + 1 ≤ R.frames ∧ 8 + (maxL + 11) + rm.locals ≤ R.locals) (hW : (rest.map fun v => v.category).sum ≤ 8) (hdg : decode cc pc = .ok (.invokespecial index, 3)) (hf : cells + rm.cells ≤ R.cells ∧ slots + rm.slots ≤ R.slots)
    (kk : ∀ (rv : Option Value) (h' : HH) (dc ds : Nat) (H1 : Heap) (locs1 : List Loc), post rv h' dc ds → St E s h' H1 locs1 → W p l e R s m args below meth c H1 locs1 (cells + dc) (slots + ds) Q (F0 m (pc + 3) ls (rv.toList ++ rest))) : W p l e R s m args below meth c H locs cells slots Q (F0 m pc ls st0) :=
  hk_run (va_runI C.1 M (cwI n C.ts (lw_meth h5) rfl rfl rfl (C.ts _ h4) (C.ts _ h1) (C.ts _ h2) hi hd hR) (pre_S C T (.ref b :: As)) rfl hn hls hst (lv_room hW) hdg hf) T kk
/-- a nest mate's private constructor -/
theorem hg_IN (C : Cx E p s m args meth c cc nL own) (T : St E s h H locs) (hls : ls.size = nL) {b n index maxL : Nat} {As : List Value} {y : MethodName} {bytes : ByteArray} {rm : Room} {post : Option Value → HH → Nat → Nat → Prop} {host : String} (M : MG E l y bytes maxL none rm (.ref b :: As) h post)
    (i : Nat) (h1 : nestM[i]? = some (own, index, y, host)) (h2 : Cond.instanceMethod y ∈ lw_all) (h4 : Cond.initialized y.cls ∈ lw_all) (h5 : Cond.code y bytes maxL none ∈ lw_all) (hi : y.name = "<init>")
    (hd : y.cls ≠ "java/lang/invoke/MethodHandle" ∧ y.cls ≠ "java/lang/invoke/VarHandle" ∧ (parseMethodDescriptor y.desc).map (fun d => d.parameters.length) = some n) (hn : As.length = n) (hst : st0 = As.reverse ++ .ref b :: rest) (hR : rm.frames + 1 ≤ R.frames ∧ 8 + (maxL + 11) + rm.locals ≤ R.locals) (hW : (rest.map fun v => v.category).sum ≤ 8) (hdg : decode cc pc = .ok (.invokespecial index, 3)) (hf : cells + rm.cells ≤ R.cells ∧ slots + rm.slots ≤ R.slots)
    (kk : ∀ (rv : Option Value) (h' : HH) (dc ds : Nat) (H1 : Heap) (locs1 : List Loc), post rv h' dc ds → St E s h' H1 locs1 → W p l e R s m args below meth c H1 locs1 (cells + dc) (slots + ds) Q (F0 m (pc + 3) ls (rv.toList ++ rest))) : W p l e R s m args below meth c H locs cells slots Q (F0 m pc ls st0) :=
  hk_run (va_runIN C.1 M ⟨va_cnB n C.ts (lw_meth h5) rfl rfl rfl (C.2.2.1.2.2.1 _ (List.mem_of_getElem? h1)) (C.ts _ h4) hd hR, hi, C.ts _ h2⟩ (pre_S C T (.ref b :: As)) rfl hn hls hst (lv_room hW) hdg hf) T kk
/-- a nest mate's private method -/
theorem hg_VN (C : Cx E p s m args meth c cc nL own) (T : St E s h H locs) (hls : ls.size = nL) {b ci ob n index maxL : Nat} {fs As : List Value} {q : vw_C} {y : MethodName} {bytes : ByteArray} {ret : Option FieldType} {rm : Room} {post : Option Value → HH → Nat → Nat → Prop} {host : String} (hb : h b = some (.inr (ci, fs), ob)) (hci : vwCl[ci]? = some q) (M : MG E l y bytes maxL ret rm (.ref b :: As) h post)
    (i : Nat) (h1 : nestM[i]? = some (own, index, y, host)) (h2 : Cond.instanceMethod y ∈ lw_all) (h3 : Cond.selects q.1 y y ∈ lw_all) (h4 : Cond.initialized y.cls ∈ lw_all) (h5 : Cond.code y bytes maxL ret ∈ lw_all)
    (hd : y.cls ≠ "java/lang/invoke/MethodHandle" ∧ y.cls ≠ "java/lang/invoke/VarHandle" ∧ (parseMethodDescriptor y.desc).map (fun d => d.parameters.length) = some n) (hn : As.length = n) (hst : st0 = As.reverse ++ .ref b :: rest) (hR : rm.frames + 1 ≤ R.frames ∧ 8 + (maxL + 11) + rm.locals ≤ R.locals) (hW : (rest.map fun v => v.category).sum ≤ 8) (hdg : decode cc pc = .ok (.invokevirtual index, 3)) (hf : cells + rm.cells ≤ R.cells ∧ slots + rm.slots ≤ R.slots)
    (kk : ∀ (rv : Option Value) (h' : HH) (dc ds : Nat) (H1 : Heap) (locs1 : List Loc), post rv h' dc ds → St E s h' H1 locs1 → W p l e R s m args below meth c H1 locs1 (cells + dc) (slots + ds) Q (F0 m (pc + 3) ls (rv.toList ++ rest))) : W p l e R s m args below meth c H locs cells slots Q (F0 m pc ls st0) :=
  hk_run (va_runVN C.1 M ⟨va_cnB n C.ts (lw_meth h5) rfl rfl rfl (C.2.2.1.2.2.1 _ (List.mem_of_getElem? h1)) (C.ts _ h4) hd hR, C.ts _ h2, C.ts _ h3⟩ (pre_V C T hb hci As) rfl hn hls hst (lv_room hW) hdg hf) T kk
/-- a call through an interface, the receiver's class known -/
theorem hg_F (C : Cx E p s m args meth c cc nL own) (T : St E s h H locs) (hls : ls.size = nL) {b ci ob n index count maxL : Nat} {fs As : List Value} {q : vw_C} {x y : MethodName} {bytes : ByteArray} {ret : Option FieldType} {rm : Room} {post : Option Value → HH → Nat → Nat → Prop} (hb : h b = some (.inr (ci, fs), ob)) (hci : vwCl[ci]? = some q) (M : MG E l y bytes maxL ret rm (.ref b :: As) h post)
    (i : Nat) (hF : faceL[i]? = some (q.1, x, y)) (h1 : Cond.methodLink own index x ∈ lw_all) (h2 : Cond.selects q.1 x y ∈ lw_all) (h3 : Cond.instanceMethod y ∈ lw_all) (h4 : Cond.initialized y.cls ∈ lw_all) (h5 : Cond.code y bytes maxL ret ∈ lw_all)
    (hd : x.cls ≠ "java/lang/invoke/MethodHandle" ∧ x.cls ≠ "java/lang/invoke/VarHandle" ∧ (parseMethodDescriptor x.desc).map (fun d => d.parameters.length) = some n) (hn : As.length = n) (hst : st0 = As.reverse ++ .ref b :: rest) (hR : rm.frames + 1 ≤ R.frames ∧ 8 + (maxL + 11) + rm.locals ≤ R.locals) (hW : (rest.map fun v => v.category).sum ≤ 8) (hdg : decode cc pc = .ok (.invokeinterface index count, 5)) (hf : cells + rm.cells ≤ R.cells ∧ slots + rm.slots ≤ R.slots)
    (kk : ∀ (rv : Option Value) (h' : HH) (dc ds : Nat) (H1 : Heap) (locs1 : List Loc), post rv h' dc ds → St E s h' H1 locs1 → W p l e R s m args below meth c H1 locs1 (cells + dc) (slots + ds) Q (F0 m (pc + 5) ls (rv.toList ++ rest))) : W p l e R s m args below meth c H locs cells slots Q (F0 m pc ls st0) := by
  have hG : GoodIn lw_all (va_wsF own index q.1 x y (ws_ y bytes maxL ret)) := lw_app (fun w hw => by
    simp only [List.mem_cons, List.not_mem_nil, or_false] at hw
    rcases hw with rfl | rfl | rfl | rfl
    · exact h1
    · exact h2
    · exact h3
    · exact h4) (lw_meth h5)
  exact hk_run5 (va_runF (C.k.1 ci q hci).2 C.1 M (va_cwF n C.ts hG rfl rfl rfl (C.2.2.1.2.2.2.2.2.2.1 _ (List.mem_of_getElem? hF)) hd hR) (pre_V C T hb hci As) rfl hn hls hst (lv_room hW) hdg hf) T kk
theorem hc_V (C : Cx E p s m args meth c cc nL own) (T : St E s h H locs) (hls : ls.size = nL) {b ci ob n index maxL : Nat} {fs As : List Value} {q : vw_C} {y : MethodName} {bytes : ByteArray} {ret : Option FieldType} {rm : Room} {post : Option Value → HH → Prop} (hb : h b = some (.inr (ci, fs), ob)) (hci : vwCl[ci]? = some q) (M : MM E l y bytes maxL ret rm (.ref b :: As) h post)
    (h1 : Cond.methodLink own index y ∈ lw_all) (h2 : Cond.instanceMethod y ∈ lw_all) (h3 : Cond.selects q.1 y y ∈ lw_all) (h4 : Cond.initialized q.1 ∈ lw_all) (h5 : Cond.code y bytes maxL ret ∈ lw_all)
    (hd : y.cls = q.1 ∧ y.cls ≠ "java/lang/invoke/MethodHandle" ∧ y.cls ≠ "java/lang/invoke/VarHandle" ∧ (parseMethodDescriptor y.desc).map (fun d => d.parameters.length) = some n) (hn : As.length = n) (hst : st0 = As.reverse ++ .ref b :: rest) (hR : rm.frames + 1 ≤ R.frames ∧ 8 + (maxL + 11) + rm.locals ≤ R.locals) (hW : (rest.map fun v => v.category).sum ≤ 8) (hdg : decode cc pc = .ok (.invokevirtual index, 3)) (hf : cells + rm.cells ≤ R.cells ∧ slots + rm.slots ≤ R.slots)
    (kk : ∀ (rv : Option Value) (h' : HH) (H1 : Heap) (locs1 : List Loc), post rv h' → St E s h' H1 locs1 → W p l e R s m args below meth c H1 locs1 cells slots Q (F0 m (pc + 3) ls (rv.toList ++ rest))) : W p l e R s m args below meth c H locs cells slots Q (F0 m pc ls st0) :=
  hg_V C T hls hb hci M h1 h2 h3 h4 h5 hd hn hst hR hW hdg hf (fun rv h' dc ds H1 locs1 hp T1 => by obtain ⟨hp, rfl, rfl⟩ := hp; exact kk rv h' H1 locs1 hp T1)
theorem hc_S (C : Cx E p s m args meth c cc nL own) (T : St E s h H locs) (hls : ls.size = nL) {n index maxL : Nat} {As : List Value} {y : MethodName} {bytes : ByteArray} {ret : Option FieldType} {rm : Room} {post : Option Value → HH → Prop} (M : MM E l y bytes maxL ret rm As h post)
    (h1 : Cond.methodLink own index y ∈ lw_all) (h2 : Cond.static y ∈ lw_all) (h3 : Cond.initialized y.cls ∈ lw_all) (h4 : Cond.code y bytes maxL ret ∈ lw_all)
    (hd : y.cls ≠ "java/lang/invoke/MethodHandle" ∧ y.cls ≠ "java/lang/invoke/VarHandle" ∧ (parseMethodDescriptor y.desc).map (fun d => d.parameters.length) = some n) (hn : As.length = n) (hst : st0 = As.reverse ++ rest) (hR : rm.frames + 1 ≤ R.frames ∧ 8 + (maxL + 11) + rm.locals ≤ R.locals) (hW : (rest.map fun v => v.category).sum ≤ 8) (hdg : decode cc pc = .ok (.invokestatic index, 3)) (hf : cells + rm.cells ≤ R.cells ∧ slots + rm.slots ≤ R.slots)
    (kk : ∀ (rv : Option Value) (h' : HH) (H1 : Heap) (locs1 : List Loc), post rv h' → St E s h' H1 locs1 → W p l e R s m args below meth c H1 locs1 cells slots Q (F0 m (pc + 3) ls (rv.toList ++ rest))) : W p l e R s m args below meth c H locs cells slots Q (F0 m pc ls st0) :=
  hg_S C T hls M h1 h2 h3 h4 hd hn hst hR hW hdg hf (fun rv h' dc ds H1 locs1 hp T1 => by obtain ⟨hp, rfl, rfl⟩ := hp; exact kk rv h' H1 locs1 hp T1)
theorem hc_I (C : Cx E p s m args meth c cc nL own) (T : St E s h H locs) (hls : ls.size = nL) {b n index maxL : Nat} {As : List Value} {y : MethodName} {bytes : ByteArray} {rm : Room} {post : Option Value → HH → Prop} (M : MM E l y bytes maxL none rm (.ref b :: As) h post)
    (h1 : Cond.methodLink own index y ∈ lw_all) (h2 : Cond.instanceMethod y ∈ lw_all) (h4 : Cond.initialized y.cls ∈ lw_all) (h5 : Cond.code y bytes maxL none ∈ lw_all) (hi : y.name = "<init>")
    (hd : y.cls ≠ "java/lang/invoke/MethodHandle" ∧ y.cls ≠ "java/lang/invoke/VarHandle" ∧ (parseMethodDescriptor y.desc).map (fun d => d.parameters.length) = some n) (hn : As.length = n) (hst : st0 = As.reverse ++ .ref b :: rest) (hR : rm.frames + 1 ≤ R.frames ∧ 8 + (maxL + 11) + rm.locals ≤ R.locals) (hW : (rest.map fun v => v.category).sum ≤ 8) (hdg : decode cc pc = .ok (.invokespecial index, 3)) (hf : cells + rm.cells ≤ R.cells ∧ slots + rm.slots ≤ R.slots)
    (kk : ∀ (rv : Option Value) (h' : HH) (H1 : Heap) (locs1 : List Loc), post rv h' → St E s h' H1 locs1 → W p l e R s m args below meth c H1 locs1 cells slots Q (F0 m (pc + 3) ls (rv.toList ++ rest))) : W p l e R s m args below meth c H locs cells slots Q (F0 m pc ls st0) :=
  hg_I C T hls M h1 h2 h4 h5 hi hd hn hst hR hW hdg hf (fun rv h' dc ds H1 locs1 hp T1 => by obtain ⟨hp, rfl, rfl⟩ := hp; exact kk rv h' H1 locs1 hp T1)
theorem hc_IN (C : Cx E p s m args meth c cc nL own) (T : St E s h H locs) (hls : ls.size = nL) {b n index maxL : Nat} {As : List Value} {y : MethodName} {bytes : ByteArray} {rm : Room} {post : Option Value → HH → Prop} {host : String} (M : MM E l y bytes maxL none rm (.ref b :: As) h post)
    (i : Nat) (h1 : nestM[i]? = some (own, index, y, host)) (h2 : Cond.instanceMethod y ∈ lw_all) (h4 : Cond.initialized y.cls ∈ lw_all) (h5 : Cond.code y bytes maxL none ∈ lw_all) (hi : y.name = "<init>")
    (hd : y.cls ≠ "java/lang/invoke/MethodHandle" ∧ y.cls ≠ "java/lang/invoke/VarHandle" ∧ (parseMethodDescriptor y.desc).map (fun d => d.parameters.length) = some n) (hn : As.length = n) (hst : st0 = As.reverse ++ .ref b :: rest) (hR : rm.frames + 1 ≤ R.frames ∧ 8 + (maxL + 11) + rm.locals ≤ R.locals) (hW : (rest.map fun v => v.category).sum ≤ 8) (hdg : decode cc pc = .ok (.invokespecial index, 3)) (hf : cells + rm.cells ≤ R.cells ∧ slots + rm.slots ≤ R.slots)
    (kk : ∀ (rv : Option Value) (h' : HH) (H1 : Heap) (locs1 : List Loc), post rv h' → St E s h' H1 locs1 → W p l e R s m args below meth c H1 locs1 cells slots Q (F0 m (pc + 3) ls (rv.toList ++ rest))) : W p l e R s m args below meth c H locs cells slots Q (F0 m pc ls st0) :=
  hg_IN C T hls M i h1 h2 h4 h5 hi hd hn hst hR hW hdg hf (fun rv h' dc ds H1 locs1 hp T1 => by obtain ⟨hp, rfl, rfl⟩ := hp; exact kk rv h' H1 locs1 hp T1)
theorem hc_VN (C : Cx E p s m args meth c cc nL own) (T : St E s h H locs) (hls : ls.size = nL) {b ci ob n index maxL : Nat} {fs As : List Value} {q : vw_C} {y : MethodName} {bytes : ByteArray} {ret : Option FieldType} {rm : Room} {post : Option Value → HH → Prop} {host : String} (hb : h b = some (.inr (ci, fs), ob)) (hci : vwCl[ci]? = some q) (M : MM E l y bytes maxL ret rm (.ref b :: As) h post)
    (i : Nat) (h1 : nestM[i]? = some (own, index, y, host)) (h2 : Cond.instanceMethod y ∈ lw_all) (h3 : Cond.selects q.1 y y ∈ lw_all) (h4 : Cond.initialized y.cls ∈ lw_all) (h5 : Cond.code y bytes maxL ret ∈ lw_all)
    (hd : y.cls ≠ "java/lang/invoke/MethodHandle" ∧ y.cls ≠ "java/lang/invoke/VarHandle" ∧ (parseMethodDescriptor y.desc).map (fun d => d.parameters.length) = some n) (hn : As.length = n) (hst : st0 = As.reverse ++ .ref b :: rest) (hR : rm.frames + 1 ≤ R.frames ∧ 8 + (maxL + 11) + rm.locals ≤ R.locals) (hW : (rest.map fun v => v.category).sum ≤ 8) (hdg : decode cc pc = .ok (.invokevirtual index, 3)) (hf : cells + rm.cells ≤ R.cells ∧ slots + rm.slots ≤ R.slots)
    (kk : ∀ (rv : Option Value) (h' : HH) (H1 : Heap) (locs1 : List Loc), post rv h' → St E s h' H1 locs1 → W p l e R s m args below meth c H1 locs1 cells slots Q (F0 m (pc + 3) ls (rv.toList ++ rest))) : W p l e R s m args below meth c H locs cells slots Q (F0 m pc ls st0) :=
  hg_VN C T hls hb hci M i h1 h2 h3 h4 h5 hd hn hst hR hW hdg hf (fun rv h' dc ds H1 locs1 hp T1 => by obtain ⟨hp, rfl, rfl⟩ := hp; exact kk rv h' H1 locs1 hp T1)
theorem hc_F (C : Cx E p s m args meth c cc nL own) (T : St E s h H locs) (hls : ls.size = nL) {b ci ob n index count maxL : Nat} {fs As : List Value} {q : vw_C} {x y : MethodName} {bytes : ByteArray} {ret : Option FieldType} {rm : Room} {post : Option Value → HH → Prop} (hb : h b = some (.inr (ci, fs), ob)) (hci : vwCl[ci]? = some q) (M : MM E l y bytes maxL ret rm (.ref b :: As) h post)
    (i : Nat) (hF : faceL[i]? = some (q.1, x, y)) (h1 : Cond.methodLink own index x ∈ lw_all) (h2 : Cond.selects q.1 x y ∈ lw_all) (h3 : Cond.instanceMethod y ∈ lw_all) (h4 : Cond.initialized y.cls ∈ lw_all) (h5 : Cond.code y bytes maxL ret ∈ lw_all)
    (hd : x.cls ≠ "java/lang/invoke/MethodHandle" ∧ x.cls ≠ "java/lang/invoke/VarHandle" ∧ (parseMethodDescriptor x.desc).map (fun d => d.parameters.length) = some n) (hn : As.length = n) (hst : st0 = As.reverse ++ .ref b :: rest) (hR : rm.frames + 1 ≤ R.frames ∧ 8 + (maxL + 11) + rm.locals ≤ R.locals) (hW : (rest.map fun v => v.category).sum ≤ 8) (hdg : decode cc pc = .ok (.invokeinterface index count, 5)) (hf : cells + rm.cells ≤ R.cells ∧ slots + rm.slots ≤ R.slots)
    (kk : ∀ (rv : Option Value) (h' : HH) (H1 : Heap) (locs1 : List Loc), post rv h' → St E s h' H1 locs1 → W p l e R s m args below meth c H1 locs1 cells slots Q (F0 m (pc + 5) ls (rv.toList ++ rest))) : W p l e R s m args below meth c H locs cells slots Q (F0 m pc ls st0) :=
  hg_F C T hls hb hci M i hF h1 h2 h3 h4 h5 hd hn hst hR hW hdg hf (fun rv h' dc ds H1 locs1 hp T1 => by obtain ⟨hp, rfl, rfl⟩ := hp; exact kk rv h' H1 locs1 hp T1)
end HC
section HM
variable {l : Launch} {E : GE} {y : MethodName} {cc : ByteArray} {maxL : Nat} {rm : Room} {av : List Value} {h : HH} {post : Option Value → HH → Prop}
abbrev Body (E : GE) (l : Launch) (y : MethodName) (cc : ByteArray) (maxL : Nat) (rm : Room) (av : List Value) (h : HH) (End : Program → Env → State → MethodId → List Frame → Method → Code → (State → Prop) → Prop) : Prop :=
  ∀ (p : Program) (e : Env) (s : State) (m : MethodId) (below : List Frame) (meth : Method) (c : Code), Cx E p s m av.toArray meth c cc maxL y.cls → meth.name = y.name → ∀ (Q : State → Prop), End p e s m below meth c Q → ∀ (ls : Array Slot), St E s h s.heap [] → lv_has ls maxL (lv_args 0 av) → W p l e rm s m av.toArray below meth c s.heap [] 0 0 Q (F0 m 0 ls [])
theorem hm_of {postg : Option Value → HH → Nat → Nat → Prop} {ret : Option FieldType} (hy : plainName y.cls = true) (hsz : (lg_sl av).length ≤ maxL)
    (body : ∀ (p : Program) (e : Env) (s : State) (m : MethodId) (below : List Frame) (meth : Method) (c : Code), Cx E p s m av.toArray meth c cc maxL y.cls → meth.name = y.name → meth.sig.returnType = ret → ∀ (ls : Array Slot), St E s h s.heap [] → lv_has ls maxL (lv_args 0 av) → W p l e rm s m av.toArray below meth c s.heap [] 0 0 (MQ below (Qo E postg) av.toArray s rm.cells rm.slots (AE E)) (F0 m 0 ls [])) : MG E l y cc maxL ret rm av h postg := by
  refine Met.ofW (cc := cc) (maxL := maxL) (ret := ret) hy rfl ?_
  intro p e s m args below meth c s₁ B hml hv
  obtain ⟨rfl, hG, hP⟩ := hv
  have hts := atoms_spec (ws := ws_ y cc maxL ret) B.pre
  have hts : ∀ w ∈ lw_all, w.before _ s = true := fun w h => hts w (List.mem_cons_of_mem _ h)
  have hl := lv_entry av (n := maxL) hsz
  rw [lg_entry_eq]
  generalize (lg_sl av ++ List.replicate (maxL - (lg_sl av).length) Slot.unset).toArray = ls at hl ⊢
  exact body p e s m below meth c ⟨⟨B.exec, B.bytes, hml, findClass_of_methodNamed B.named, hts⟩, B.notSynchronized, hG⟩ (name_of_methodNamed B.named B.method).1 B.returns ls ⟨hP, va_S.rf⟩ hl
theorem hn_v {postg : Option Value → HH → Nat → Nat → Prop} (hy : plainName y.cls = true) (hsz : (lg_sl av).length ≤ maxL)
    (body : Body E l y cc maxL rm av h (fun p e s m below meth c Q => ∀ (pc : Nat) (ls : Array Slot) (H : Heap) (locs : List Loc) (h' : HH) (dc ds : Nat), decode cc pc = .ok (.return_, 1) → dc ≤ rm.cells → ds ≤ rm.slots → postg none h' dc ds → St E s h' H locs → W p l e rm s m av.toArray below meth c H locs dc ds Q (F0 m pc ls []))) : MG E l y cc maxL none rm av h postg :=
  hm_of hy hsz fun p e s m below meth c C hnm hr ls T hl => body p e s m below meth c C hnm _ (fun _ _ H _ h' dc ds hdg hdc hds hp T => fun U hU X => by
    have hg := stand_gr X
    rw [hU] at hg
    exact W.widen hdc hds (W.vret C.x C.b hr (fun t ht _ => ⟨⟨none, h', dc, ds, rfl, hp, by rw [ht]; exact T.1, by rw [ht]; exact hg⟩, T.2.F ht⟩) T.2.2.2 hdg C.2.1) U hU X) ls T hl
theorem hm_v (hy : plainName y.cls = true) (hsz : (lg_sl av).length ≤ maxL)
    (body : Body E l y cc maxL rm av h (fun p e s m below meth c Q => ∀ (pc : Nat) (ls : Array Slot) (H : Heap) (locs : List Loc) (h' : HH), decode cc pc = .ok (.return_, 1) → post none h' → St E s h' H locs → W p l e rm s m av.toArray below meth c H locs 0 0 Q (F0 m pc ls []))) : MM E l y cc maxL none rm av h post :=
  hn_v hy hsz fun p e s m below meth c C hnm Q Z ls T hl => body p e s m below meth c C hnm Q (fun pc ls H locs h' hdg hp T => Z pc ls H locs h' 0 0 hdg (Nat.zero_le _) (Nat.zero_le _) ⟨hp, rfl, rfl⟩ T) ls T hl
theorem hn_i {postg : Option Value → HH → Nat → Nat → Prop} (hy : plainName y.cls = true) (hsz : (lg_sl av).length ≤ maxL)
    (body : Body E l y cc maxL rm av h (fun p e s m below meth c Q => ∀ (pc : Nat) (ls : Array Slot) (H : Heap) (locs : List Loc) (h' : HH) (dc ds : Nat) (r : Int32), decode cc pc = .ok (.ireturn, 1) → dc ≤ rm.cells → ds ≤ rm.slots → postg (some (.int r)) h' dc ds → St E s h' H locs → W p l e rm s m av.toArray below meth c H locs dc ds Q (F0 m pc ls [.int r]))) : MG E l y cc maxL (some .int) rm av h postg :=
  hm_of hy hsz fun p e s m below meth c C hnm hr ls T hl => body p e s m below meth c C hnm _ (fun _ _ H _ h' dc ds r hdg hdc hds hp T => fun U hU X => by
    have hg := stand_gr X
    rw [hU] at hg
    exact W.widen hdc hds (W.iret C.x C.b hr (fun t ht _ => ⟨⟨(some (.int r)), h', dc, ds, rfl, hp, by rw [ht]; exact T.1, by rw [ht]; exact hg⟩, T.2.F ht⟩) T.2.2.2 hdg C.2.1) U hU X) ls T hl
theorem hm_i (hy : plainName y.cls = true) (hsz : (lg_sl av).length ≤ maxL)
    (body : Body E l y cc maxL rm av h (fun p e s m below meth c Q => ∀ (pc : Nat) (ls : Array Slot) (H : Heap) (locs : List Loc) (h' : HH) (r : Int32), decode cc pc = .ok (.ireturn, 1) → post (some (.int r)) h' → St E s h' H locs → W p l e rm s m av.toArray below meth c H locs 0 0 Q (F0 m pc ls [.int r]))) : MM E l y cc maxL (some .int) rm av h post :=
  hn_i hy hsz fun p e s m below meth c C hnm Q Z ls T hl => body p e s m below meth c C hnm Q (fun pc ls H locs h' r hdg hp T => Z pc ls H locs h' 0 0 r hdg (Nat.zero_le _) (Nat.zero_le _) ⟨hp, rfl, rfl⟩ T) ls T hl
theorem hn_z {postg : Option Value → HH → Nat → Nat → Prop} (hy : plainName y.cls = true) (hsz : (lg_sl av).length ≤ maxL)
    (body : Body E l y cc maxL rm av h (fun p e s m below meth c Q => ∀ (pc : Nat) (ls : Array Slot) (H : Heap) (locs : List Loc) (h' : HH) (dc ds : Nat) (r : Int32), decode cc pc = .ok (.ireturn, 1) → dc ≤ rm.cells → ds ≤ rm.slots → (r = 0 ∨ r = 1) → postg (some (.int r)) h' dc ds → St E s h' H locs → W p l e rm s m av.toArray below meth c H locs dc ds Q (F0 m pc ls [.int r]))) : MG E l y cc maxL (some .boolean) rm av h postg :=
  hm_of hy hsz fun p e s m below meth c C hnm hr ls T hl => body p e s m below meth c C hnm _ (fun _ _ H _ h' dc ds r hdg hdc hds h01 hp T => fun U hU X => by
    have hg := stand_gr X
    rw [hU] at hg
    exact W.widen hdc hds (W.zret C.x C.b hr (by rcases h01 with rfl | rfl <;> rfl) (fun t ht _ => ⟨⟨(some (.int r)), h', dc, ds, rfl, hp, by rw [ht]; exact T.1, by rw [ht]; exact hg⟩, T.2.F ht⟩) T.2.2.2 hdg C.2.1) U hU X) ls T hl
theorem hm_z (hy : plainName y.cls = true) (hsz : (lg_sl av).length ≤ maxL)
    (body : Body E l y cc maxL rm av h (fun p e s m below meth c Q => ∀ (pc : Nat) (ls : Array Slot) (H : Heap) (locs : List Loc) (h' : HH) (r : Int32), decode cc pc = .ok (.ireturn, 1) → (r = 0 ∨ r = 1) → post (some (.int r)) h' → St E s h' H locs → W p l e rm s m av.toArray below meth c H locs 0 0 Q (F0 m pc ls [.int r]))) : MM E l y cc maxL (some .boolean) rm av h post :=
  hn_z hy hsz fun p e s m below meth c C hnm Q Z ls T hl => body p e s m below meth c C hnm Q (fun pc ls H locs h' r hdg h01 hp T => Z pc ls H locs h' 0 0 r hdg (Nat.zero_le _) (Nat.zero_le _) h01 ⟨hp, rfl, rfl⟩ T) ls T hl
theorem hn_l {postg : Option Value → HH → Nat → Nat → Prop} (hy : plainName y.cls = true) (hsz : (lg_sl av).length ≤ maxL)
    (body : Body E l y cc maxL rm av h (fun p e s m below meth c Q => ∀ (pc : Nat) (ls : Array Slot) (H : Heap) (locs : List Loc) (h' : HH) (dc ds : Nat) (r : Int64), decode cc pc = .ok (.lreturn, 1) → dc ≤ rm.cells → ds ≤ rm.slots → postg (some (.long r)) h' dc ds → St E s h' H locs → W p l e rm s m av.toArray below meth c H locs dc ds Q (F0 m pc ls [.long r]))) : MG E l y cc maxL (some .long) rm av h postg :=
  hm_of hy hsz fun p e s m below meth c C hnm hr ls T hl => body p e s m below meth c C hnm _ (fun _ _ H _ h' dc ds r hdg hdc hds hp T => fun U hU X => by
    have hg := stand_gr X
    rw [hU] at hg
    exact W.widen hdc hds (W.lret C.x C.b hr (fun t ht _ => ⟨⟨(some (.long r)), h', dc, ds, rfl, hp, by rw [ht]; exact T.1, by rw [ht]; exact hg⟩, T.2.F ht⟩) T.2.2.2 hdg C.2.1) U hU X) ls T hl
theorem hm_l (hy : plainName y.cls = true) (hsz : (lg_sl av).length ≤ maxL)
    (body : Body E l y cc maxL rm av h (fun p e s m below meth c Q => ∀ (pc : Nat) (ls : Array Slot) (H : Heap) (locs : List Loc) (h' : HH) (r : Int64), decode cc pc = .ok (.lreturn, 1) → post (some (.long r)) h' → St E s h' H locs → W p l e rm s m av.toArray below meth c H locs 0 0 Q (F0 m pc ls [.long r]))) : MM E l y cc maxL (some .long) rm av h post :=
  hn_l hy hsz fun p e s m below meth c C hnm Q Z ls T hl => body p e s m below meth c C hnm Q (fun pc ls H locs h' r hdg hp T => Z pc ls H locs h' 0 0 r hdg (Nat.zero_le _) (Nat.zero_le _) ⟨hp, rfl, rfl⟩ T) ls T hl
theorem hn_r {postg : Option Value → HH → Nat → Nat → Prop} {rc : String} (hy : plainName y.cls = true) (hsz : (lg_sl av).length ≤ maxL)
    (body : Body E l y cc maxL rm av h (fun p e s m below meth c Q => ∀ (pc : Nat) (ls : Array Slot) (H : Heap) (locs : List Loc) (h' : HH) (dc ds : Nat) (r : Nat), decode cc pc = .ok (.areturn, 1) → dc ≤ rm.cells → ds ≤ rm.slots → postg (some (.ref r)) h' dc ds → St E s h' H locs → W p l e rm s m av.toArray below meth c H locs dc ds Q (F0 m pc ls [.ref r]))) : MG E l y cc maxL (some (.object rc)) rm av h postg :=
  hm_of hy hsz fun p e s m below meth c C hnm hr ls T hl => body p e s m below meth c C hnm _ (fun _ _ H _ h' dc ds r hdg hdc hds hp T => fun U hU X => by
    have hg := stand_gr X
    rw [hU] at hg
    exact W.widen hdc hds (W.aret C.x C.b hr (Or.inl ⟨rc, rfl⟩) (Or.inr ⟨r, rfl⟩) (fun t ht _ => ⟨⟨(some (.ref r)), h', dc, ds, rfl, hp, by rw [ht]; exact T.1, by rw [ht]; exact hg⟩, T.2.F ht⟩) T.2.2.2 hdg C.2.1) U hU X) ls T hl
theorem hm_r {rc : String} (hy : plainName y.cls = true) (hsz : (lg_sl av).length ≤ maxL)
    (body : Body E l y cc maxL rm av h (fun p e s m below meth c Q => ∀ (pc : Nat) (ls : Array Slot) (H : Heap) (locs : List Loc) (h' : HH) (r : Nat), decode cc pc = .ok (.areturn, 1) → post (some (.ref r)) h' → St E s h' H locs → W p l e rm s m av.toArray below meth c H locs 0 0 Q (F0 m pc ls [.ref r]))) : MM E l y cc maxL (some (.object rc)) rm av h post :=
  hn_r hy hsz fun p e s m below meth c C hnm Q Z ls T hl => body p e s m below meth c C hnm Q (fun pc ls H locs h' r hdg hp T => Z pc ls H locs h' 0 0 r hdg (Nat.zero_le _) (Nat.zero_le _) ⟨hp, rfl, rfl⟩ T) ls T hl
end HM
