set_option maxRecDepth 100000
theorem same_gr {s s' : State} {locs : List Loc} {k n : Nat} (hs : s.sameButNew s' locs k n) : hgr s.heap s'.heap k n := by
  have h := hsum_same hs
  have h5 := hs.2.2.2.2.1
  exact ⟨hs.2.2.1, by rw [h]; omega⟩
theorem hp_keep {D : va_G} {A : Nat → Prop} {h : HH} {H H1 : Heap} (hp : Hp D A h H) (hk : ∀ (q : Nat), q < H.size → H1[q]? = H[q]?) : Hp D A h H1 := by
  obtain ⟨ws, h1, h2, h3⟩ := hp
  exact ⟨ws, h1, fun k q hq => (h2 k q hq).kept (hk q.1 (h2 k q hq).lt), h3⟩
theorem same_keep {s s' : State} {k n : Nat} (hs : s.sameButNew s' [] k n) : ∀ q : Nat, q < s.heap.size → s'.heap[q]? = s.heap[q]? := by
  intro q hq
  have hc : s.heap[q]? = some s.heap[q] := Array.getElem?_eq_getElem hq
  obtain ⟨c', hc', he', -, hsl⟩ := hs.2.2.2.2.2 q _ hc
  have hsl' : c'.slots = s.heap[q].slots := Array.ext_getElem? fun i => hsl i (by simp)
  rw [hc', hc, he', hsl']
section XN
variable {p : Program} {l : Launch} {e : Env} {R : Room} {s : State} {m : MethodId} {args : Array Value} {below : List Frame} {meth : Method} {c : Code} {H : Heap} {locs : List Loc} {cells slots : Nat} {Q : State → Prop}
variable {cc : ByteArray} {nL : Nat} {own : String} {pc : Nat} {ls : Array Slot} {rest : List Value} {E : GE} {h : HH}
theorem hx_new (C : Cx E p s m args meth c cc nL own) (T : St E s h H locs) {cls : String} {ik : Nat} (hk : Cond.classLink own ik cls ∈ lw_all) (hins : Cond.instantiable cls 6 ∈ lw_all) (hini : Cond.initialized cls ∈ lw_all) (hc : cells + 1 ≤ R.cells) (hs : slots + 6 ≤ R.slots) (hdg : decode cc pc = .ok (.new ik, 3))
    (kk : ∀ (a : Nat) (H1 : Heap) (cX : ClassId) (kX : Class), s.vm.findClass cls = some cX → s.vm.classes[cX]? = some kX → H1[a]? = some (freshCell cX kX) → s.heap.size ≤ a → St E s h H1 locs → W p l e R s m args below meth c H1 locs (cells + 1) (slots + 6) Q (F0 m (pc + 3) ls (.ref a :: rest))) : W p l e R s m args below meth c H locs cells slots Q (F0 m pc ls rest) := by
  intro U hU X
  obtain ⟨vm', cX, kX, hf, hkX, -, hsz, X1, st⟩ := X.newCold C.x C.ow (C.ts _ hk) (C.ts _ hins) (C.ts _ hini) (g := F0 m pc ls rest) rfl (by rw [C.b]; exact hdg) hc hs
  have hh : ((U.setVm vm').pushCell { cls := cX, slots := kX.instanceTypes.map defaultValue, vm := .none }).heap = H.push (freshCell cX kX) := by rw [← hU]; rfl
  have hkeep : ∀ q : Nat, q < H.size → (H.push (freshCell cX kX))[q]? = H[q]? := fun q hq => by
    rw [Array.getElem?_push]
    split
    · omega
    · rfl
  obtain ⟨t, t1, t2⟩ := kk H.size (H.push (freshCell cX kX)) cX kX hf hkX (by simp) T.2.1 ⟨hp_keep T.1 hkeep, ⟨by simp; exact Nat.le_trans T.2.1 (Nat.le_succ _), fun q w1 w2 => by rw [hkeep q (Nat.lt_of_lt_of_le w1 T.2.1)]; exact T.2.2.1 q w1 w2, T.2.2.2⟩⟩ _ hh X1
  exact ⟨t, st t (by rw [hU]; exact t1), t2⟩
theorem off_of {l : Launch} {e : Env} (hfl : l.flags = flags0) (ha : l.admits e) : e.platform.stackTraces = false := by
  have h1 : e.platform.stackTraces = l.stackTraces := by rw [ha.platform]
  rw [h1]
  unfold Launch.stackTraces
  rw [hfl]
  decide +kernel
theorem hx_end {U2 : State} {a : Addr} {ce : Cell} {cls : String} {post : HH → Nat → Nat → Prop} {mc ms : Nat} (T0 : St E s h s.heap []) (hrun : U2.status = .running) (hend : Ended U2 below (.threw a)) (hWm : s.WarmedH U2.vm) (hsame : s.sameButNew ({ U2 with vm := s.vm } : State) [] cells slots) (hce : U2.heap[a]? = some ce) (hvm : ce.vm = .none) (hcl : s.vm.findClass cls = some ce.cls) (hm : cells ≤ mc ∧ slots ≤ ms) (hpost : post h cells slots) : TQ E cls post below s mc ms U2 := by
  have hk : ∀ q : Nat, q < s.heap.size → U2.heap[q]? = s.heap[q]? := same_keep (s' := ({ U2 with vm := s.vm } : State)) hsame
  have hg : hgr s.heap U2.heap cells slots := same_gr (s' := ({ U2 with vm := s.vm } : State)) hsame
  refine ⟨a, hrun, hend, h, cells, slots, hpost, hp_keep T0.1 hk, hg, ⟨hsame.2.1, fun q w1 _ => hk q w1⟩, hWm, ⟨[], hsame.mono hm.1 hm.2, fun q hq => by cases hq⟩, ce, hce, hvm, by rw [hWm.alike.findClass]; exact hcl⟩
theorem hx_thr0 (hfl : l.flags = flags0) (C : Cx E p s m args meth c cc nL own) (T0 : St E s h s.heap []) (hls : ls.size = nL) {cls : String} {names : List String} {ic : Nat} (hcls : Bundle.fit cls = true) (hnames : ∀ n ∈ names, Bundle.fit n = true)
    (hat : ∀ w ∈ Bundle.ownAtoms0 own ic cls names, w.before args s = true) {a : Nat} {cX : ClassId} {kX : Class} (hfX : s.vm.findClass cls = some cX) (hkX : s.vm.classes[cX]? = some kX) (hcell : H[a]? = some (freshCell cX kX)) (hnew : s.heap.size ≤ a)
    (d4 : decode cc pc = .ok (.invokespecial ic, 3)) (d7 : decode cc (pc + 3) = .ok (.athrow, 1)) (hno : c.exceptionTable.isEmpty = true) (hRf : names.length + 3 < R.frames) (hRl : (rest.map fun v => v.category).sum + (13 * (names.length + 1) + 42) ≤ R.locals) {post : HH → Nat → Nat → Prop} {mc ms : Nat} (hm : cells ≤ mc ∧ slots ≤ ms) (hpost : post h cells slots) :
    W p l e R s m args below meth c H [] cells slots (TQ E cls post below s mc ms) (F0 m pc ls (.ref a :: .ref a :: rest)) := by
  intro U hU X
  have hlk := C.2.1
  obtain ⟨U2, hsteps, hrun, hend, hWm, hsame, ce, hce, ho⟩ := X.ctorThrow0 C.x (off_of hfl X.admits) C.ow hcls hnames hat (fun x hx => by cases hx) hfX hkX (by rw [hU]; exact hcell) hnew (g := F0 m pc ls (.ref a :: .ref a :: rest)) rfl (hls.trans C.ml.symm) rfl rfl (rest := rest) rfl
    (by rw [C.b]; exact d4) (by rw [C.b]; exact d7) (fun x hx => by rw [show c.exceptionTable.toList = [] by rw [Array.isEmpty_iff.mp hno]] at hx; cases hx) hRf (by
      show 2 * 0 + ((Value.ref a :: rest).map fun v => v.category).sum + (13 * (names.length + 1) + 41) ≤ R.locals
      simp only [List.map_cons, List.sum_cons]
      show 2 * 0 + (1 + _) + _ ≤ _
      omega)
  exact ⟨U2, hsteps, hx_end T0 hrun hend hWm hsame hce ho.vm ho.cls hm hpost⟩
theorem hx_thrS (hfl : l.flags = flags0) (C : Cx E p s m args meth c cc nL own) (T0 : St E s h s.heap []) (hls : ls.size = nL) {cls : String} {names : List String} {ic : Nat} (hcls : Bundle.fit cls = true) (hnames : ∀ n ∈ names, Bundle.fit n = true)
    (hat : ∀ w ∈ Bundle.ownAtoms own ic cls names, w.before args s = true) {a sa : Nat} {cX : ClassId} {kX : Class} (hfX : s.vm.findClass cls = some cX) (hkX : s.vm.classes[cX]? = some kX) (hcell : H[a]? = some (freshCell cX kX)) (hnew : s.heap.size ≤ a)
    (d4 : decode cc pc = .ok (.invokespecial ic, 3)) (d7 : decode cc (pc + 3) = .ok (.athrow, 1)) (hno : c.exceptionTable.isEmpty = true) (hRf : names.length + 3 < R.frames) (hRl : (rest.map fun v => v.category).sum + (13 * (names.length + 1) + 43) ≤ R.locals) {post : HH → Nat → Nat → Prop} {mc ms : Nat} (hm : cells ≤ mc ∧ slots ≤ ms) (hpost : post h cells slots) :
    W p l e R s m args below meth c H [] cells slots (TQ E cls post below s mc ms) (F0 m pc ls (.ref sa :: .ref a :: .ref a :: rest)) := by
  intro U hU X
  have hlk := C.2.1
  obtain ⟨U2, hsteps, hrun, hend, hWm, hsame, ce, hce, ho⟩ := X.ctorThrowS C.x (off_of hfl X.admits) C.ow hcls hnames hat (fun x hx => by cases hx) hfX hkX (by rw [hU]; exact hcell) hnew (msg := .ref sa) rfl (g := F0 m pc ls (.ref sa :: .ref a :: .ref a :: rest)) rfl (hls.trans C.ml.symm) rfl rfl (rest := rest) rfl
    (by rw [C.b]; exact d4) (by rw [C.b]; exact d7) (fun x hx => by rw [show c.exceptionTable.toList = [] by rw [Array.isEmpty_iff.mp hno]] at hx; cases hx) hRf (by
      show 2 * 0 + ((Value.ref a :: rest).map fun v => v.category).sum + (13 * (names.length + 1) + 42) ≤ R.locals
      simp only [List.map_cons, List.sum_cons]
      show 2 * 0 + (1 + _) + _ ≤ _
      omega)
  exact ⟨U2, hsteps, hx_end T0 hrun hend hWm hsame hce ho.vm ho.cls hm hpost⟩
end XN
/-! the words that a throw asks for -/
abbrev exNm : List String := ["java/lang/RuntimeException", "java/lang/Exception"]
def exSp (cls : String) : List Cond := [.castable cls cls, .isRef (.static "java/lang/Throwable" "UNASSIGNED_STACK" steDD), .isRef (.static "java/lang/Throwable" "SUPPRESSED_SENTINEL" listDD), .laysStatic "java/lang/Throwable" "UNASSIGNED_STACK" steDD, .laysStatic "java/lang/Throwable" "SUPPRESSED_SENTINEL" listDD] ++ declL.map (fun q => Cond.declares q)
theorem lst_lays {C n d : String} {A : Nat → Prop} {U : State} {args : Array Value} (h : Lst C n d A U U.heap) : (Cond.laysStatic C n d).before args U = true ∧ (Cond.isRef (.static C n d)).before args U = true := by
  obtain ⟨c, i, a, k, f, cell, v, h1, h2, h3, h4, h5, h6, h7, h8, h9, h10, h11, h12⟩ := h
  refine ⟨Cond.laysStatic_of h1 h2 h3 h4 h5 h6 h7 h8 h9, ?_⟩
  simp [Cond.before, Cond.holds, Cond.value, Term.eval, State.fieldNamed?, h2, h3, h4, h5, h6, h10]
  cases v <;> first | rfl | (exact absurd h11 (by simp [Value.isRef]))
section XA
variable {p : Program} {s : State} {m : MethodId} {args : Array Value} {meth : Method} {c : Code} {cc : ByteArray} {nL : Nat} {own : String} {E : GE}
theorem ex_sp (C : Cx E p s m args meth c cc nL own) {cls : String} (hc : (cls, cls) ∈ nestC) : ∀ w ∈ exSp cls, w.before args s = true := by
  have hG := C.2.2
  obtain ⟨u1, u2⟩ := lst_lays (args := args) hG.2.2.2.2.2.2.1
  obtain ⟨v1, v2⟩ := lst_lays (args := args) hG.2.2.2.2.2.2.2
  intro w hw
  rcases List.mem_append.mp hw with hw | hw
  · simp only [List.mem_cons, List.not_mem_nil, or_false] at hw
    rcases hw with rfl | rfl | rfl | rfl | rfl
    · exact va_Nw.use rfl (hG.1.2.2.2.1 _ hc)
    · exact u2
    · exact v2
    · exact u1
    · exact v1
  · obtain ⟨q, hq, rfl⟩ := List.mem_map.mp hw
    exact va_Nw.use rfl (hG.1.2.2.2.2.2.2.2.2.2.2.1 q hq)
theorem ex_at (C : Cx E p s m args meth c cc nL own) {cls : String} (hc : (cls, cls) ∈ nestC) {ws : List Cond} (hw : ws.all (fun w => decide (w ∈ lw_all) || decide (w ∈ exSp cls)) = true) : ∀ w ∈ ws, w.before args s = true := by
  intro w hm
  have h1 := List.all_eq_true.mp hw w hm
  simp only [Bool.or_eq_true, decide_eq_true_eq] at h1
  rcases h1 with h1 | h1
  · exact C.ts w h1
  · exact ex_sp C hc w h1
end XA
theorem ok_iob : (Bundle.ownAtoms0 "PollAudit" 3 "java/lang/IndexOutOfBoundsException" exNm).all (fun w => decide (w ∈ lw_all) || decide (w ∈ exSp "java/lang/IndexOutOfBoundsException")) = true := by decide +kernel
theorem ok_iae : (Bundle.ownAtoms "PollAudit" 11 "java/lang/IllegalArgumentException" exNm).all (fun w => decide (w ∈ lw_all) || decide (w ∈ exSp "java/lang/IllegalArgumentException")) = true := by decide +kernel
theorem ok_ise : (Bundle.ownAtoms "PollAudit" 18 "java/lang/IllegalStateException" exNm).all (fun w => decide (w ∈ lw_all) || decide (w ∈ exSp "java/lang/IllegalStateException")) = true := by decide +kernel
theorem ok_uoe : (Bundle.ownAtoms "PollAudit" 23 "java/lang/UnsupportedOperationException" exNm).all (fun w => decide (w ∈ lw_all) || decide (w ∈ exSp "java/lang/UnsupportedOperationException")) = true := by decide +kernel
