set_option maxRecDepth 100000
section HR
variable {p : Program} {l : Launch} {e : Env} {R : Room} {s : State} {m : MethodId} {args : Array Value} {below : List Frame} {meth : Method} {c : Code} {H : Heap} {locs : List Loc} {cells slots : Nat} {Q : State → Prop}
variable {cc : ByteArray} {nL : Nat} {own : String} {pc : Nat} {ls : Array Slot} {rest : List Value} {E : GE} {h : HH} {a o : Nat}
theorem Cx.x (C : Cx E p s m args meth c cc nL own) : p.tables.exec = Jvm.exec := C.1.1
theorem Cx.b (C : Cx E p s m args meth c cc nL own) : c.code = cc := C.1.2.1
theorem Cx.ml (C : Cx E p s m args meth c cc nL own) : c.maxLocals = nL := C.1.2.2.1
theorem Cx.ow (C : Cx E p s m args meth c cc nL own) : s.vm.findClass own = some m.cls := C.1.2.2.2.1
theorem Cx.ts (C : Cx E p s m args meth c cc nL own) : ∀ w ∈ lw_all, w.before args s = true := C.1.2.2.2.2
theorem Cx.k (C : Cx E p s m args meth c cc nL own) : va_K E.1 vwCl (tyL E.2.1) s := C.2.2.1.1
theorem Cx.hA (C : Cx E p s m args meth c cc nL own) : ∀ q, s.heap.size ≤ q → AE E q := fun _ hq => Nat.le_trans C.2.2.2.1 hq
theorem hr_get (C : Cx E p s m args meth c cc nL own) (T : St E s h H locs) {ci N index : Nat} {Cn ref : String} {TT : u_T} {fs : List Value} (ha : h a = some (.inr (ci, fs), o)) (hc : vwCl[ci]? = some (Cn, TT, N)) (hin : ∀ w ∈ u_ws Cn TT N, w ∈ lw_all) (k : Nat) (hk : k < N) (hl : Cond.fieldLink own index ref (TT k).2.1 (TT k).2.2.1 ∈ lw_all) (hs : ref = (TT k).1) {v : Value} (hv : fs[k]? = some v) (hdg : decode cc pc = .ok (.getfield index, 3))
    (kk : W p l e R s m args below meth c H locs cells slots Q (F0 m (pc + 3) ls (v :: rest))) : W p l e R s m args below meth c H locs cells slots Q (F0 m pc ls (.ref a :: rest)) := by
  obtain ⟨⟨ws, h1, h2, h3⟩, hS⟩ := T
  obtain ⟨q0, hq⟩ := h1 a _ ha
  exact va_get C.x C.b C.ts hin C.ow C.k h2 q0 hq hc k hk (C.ts _ hl) (fun _ z => by rw [hs]; exact z) hv hdg kk
theorem hr_getN (C : Cx E p s m args meth c cc nL own) (T : St E s h H locs) {ci N index : Nat} {Cn ref host : String} {TT : u_T} {fs : List Value} (ha : h a = some (.inr (ci, fs), o)) (hc : vwCl[ci]? = some (Cn, TT, N)) (hin : ∀ w ∈ u_ws Cn TT N, w ∈ lw_all) (k : Nat) (hk : k < N) (i : Nat) (hl : nestF[i]? = some (own, index, ref, (TT k).2.1, (TT k).2.2.1, host)) (hs : ref = (TT k).1) {v : Value} (hv : fs[k]? = some v) (hdg : decode cc pc = .ok (.getfield index, 3))
    (kk : W p l e R s m args below meth c H locs cells slots Q (F0 m (pc + 3) ls (v :: rest))) : W p l e R s m args below meth c H locs cells slots Q (F0 m pc ls (.ref a :: rest)) := by
  obtain ⟨⟨ws, h1, h2, h3⟩, hS⟩ := T
  obtain ⟨q0, hq⟩ := h1 a _ ha
  exact va_getN C.x C.b C.ts hin C.ow C.k h2 q0 hq hc k hk (va_Nw.use rfl (C.2.2.1.2.1 _ (List.mem_of_getElem? hl))) (fun _ z => by rw [hs]; exact z) hv hdg kk
theorem hr_put (C : Cx E p s m args meth c cc nL own) (T : St E s h H locs) {ci N index : Nat} {Cn ref : String} {TT : u_T} {fs : List Value} (ha : h a = some (.inr (ci, fs), o)) (hc : vwCl[ci]? = some (Cn, TT, N)) (hin : ∀ w ∈ u_ws Cn TT N, w ∈ lw_all) (ty0 : Nat → FieldType) (hty : ∀ k, k < N → parseFieldDescriptor (TT k).2.2.1 = some (ty0 k)) (hnm : ∀ a, a < N → ∀ b, b < N → a ≠ b → (TT a).2.1 ≠ (TT b).2.1) (k : Nat) (hk : k < N) (hl : Cond.fieldLink own index ref (TT k).2.1 (TT k).2.2.1 ∈ lw_all) (hs : ref = (TT k).1) (hfin : (TT k).2.2.2 = false) {v : Value} (hn : narrow (ty0 k) v = v) (hfit : fits (ty0 k) v = true) (hlen : k < fs.length) (hdg : decode cc pc = .ok (.putfield index, 3))
    (kk : ∀ (h2 : HH) (H1 : Heap) (locs1 : List Loc), h2 = hup h a (.inr (ci, fs.set k v), o) → St E s h2 H1 locs1 → W p l e R s m args below meth c H1 locs1 cells slots Q (F0 m (pc + 3) ls rest)) : W p l e R s m args below meth c H locs cells slots Q (F0 m pc ls (v :: .ref a :: rest)) := by
  obtain ⟨⟨ws, h1, h2, h3⟩, hS⟩ := T
  obtain ⟨q0, hq⟩ := h1 a _ ha
  exact va_put C.x C.b C.ts hin ty0 hty hnm C.ow C.k h2 h3 hS q0 hq hc k hk (C.ts _ hl) (fun _ z => by rw [hs]; exact z) hfin (hty k hk) hn hfit hlen hdg (fun H1 locs1 hP hD hS1 => kk _ H1 locs1 rfl ⟨⟨_, hw_set h1 hq, hP, hD⟩, hS1⟩)
theorem hr_putN (C : Cx E p s m args meth c cc nL own) (T : St E s h H locs) {ci N index : Nat} {Cn ref host : String} {TT : u_T} {fs : List Value} (ha : h a = some (.inr (ci, fs), o)) (hc : vwCl[ci]? = some (Cn, TT, N)) (hin : ∀ w ∈ u_ws Cn TT N, w ∈ lw_all) (ty0 : Nat → FieldType) (hty : ∀ k, k < N → parseFieldDescriptor (TT k).2.2.1 = some (ty0 k)) (hnm : ∀ a, a < N → ∀ b, b < N → a ≠ b → (TT a).2.1 ≠ (TT b).2.1) (k : Nat) (hk : k < N) (i : Nat) (hl : nestF[i]? = some (own, index, ref, (TT k).2.1, (TT k).2.2.1, host)) (hs : ref = (TT k).1) (hfin : (TT k).2.2.2 = false) {v : Value} (hn : narrow (ty0 k) v = v) (hfit : fits (ty0 k) v = true) (hlen : k < fs.length) (hdg : decode cc pc = .ok (.putfield index, 3))
    (kk : ∀ (h2 : HH) (H1 : Heap) (locs1 : List Loc), h2 = hup h a (.inr (ci, fs.set k v), o) → St E s h2 H1 locs1 → W p l e R s m args below meth c H1 locs1 cells slots Q (F0 m (pc + 3) ls rest)) : W p l e R s m args below meth c H locs cells slots Q (F0 m pc ls (v :: .ref a :: rest)) := by
  obtain ⟨⟨ws, h1, h2, h3⟩, hS⟩ := T
  obtain ⟨q0, hq⟩ := h1 a _ ha
  exact va_putN C.x C.b C.ts hin ty0 hty hnm C.ow C.k h2 h3 hS q0 hq hc k hk (va_Nw.use rfl (C.2.2.1.2.1 _ (List.mem_of_getElem? hl))) (fun _ z => by rw [hs]; exact z) hfin (hty k hk) hn hfit hlen hdg (fun H1 locs1 hP hD hS1 => kk _ H1 locs1 rfl ⟨⟨_, hw_set h1 hq, hP, hD⟩, hS1⟩)
theorem hr_putF (C : Cx E p s m args meth c cc nL own) (T : St E s h H locs) (hinit : meth.name = "<init>") {ci N index : Nat} {Cn ref : String} {TT : u_T} {fs : List Value} (ha : h a = some (.inr (ci, fs), o)) (hc : vwCl[ci]? = some (Cn, TT, N)) (hin : ∀ w ∈ u_ws Cn TT N, w ∈ lw_all) (ty0 : Nat → FieldType) (hty : ∀ k, k < N → parseFieldDescriptor (TT k).2.2.1 = some (ty0 k)) (hnm : ∀ a, a < N → ∀ b, b < N → a ≠ b → (TT a).2.1 ≠ (TT b).2.1) (k : Nat) (hk : k < N) (hl : Cond.fieldLink own index ref (TT k).2.1 (TT k).2.2.1 ∈ lw_all) (hs : ref = (TT k).1) (hfin : (TT k).2.2.2 = true) (hdecl : (TT k).1 = own) {v : Value} (hn : narrow (ty0 k) v = v) (hfit : fits (ty0 k) v = true) (hlen : k < fs.length) (hdg : decode cc pc = .ok (.putfield index, 3))
    (kk : ∀ (h2 : HH) (H1 : Heap) (locs1 : List Loc), h2 = hup h a (.inr (ci, fs.set k v), o) → St E s h2 H1 locs1 → W p l e R s m args below meth c H1 locs1 cells slots Q (F0 m (pc + 3) ls rest)) : W p l e R s m args below meth c H locs cells slots Q (F0 m pc ls (v :: .ref a :: rest)) := by
  obtain ⟨⟨ws, h1, h2, h3⟩, hS⟩ := T
  obtain ⟨q0, hq⟩ := h1 a _ ha
  exact va_putF C.x C.b C.ts hin ty0 hty hnm C.ow C.k h2 h3 hS q0 hq hc k hk (C.ts _ hl) (fun _ z => by rw [hs]; exact z) hfin hinit hdecl (hty k hk) hn hfit hlen hdg (fun H1 locs1 hP hD hS1 => kk _ H1 locs1 rfl ⟨⟨_, hw_set h1 hq, hP, hD⟩, hS1⟩)
theorem hr_iald (C : Cx E p s m args meth c cc nL own) (T : St E s h H locs) {n j : Nat} {f : Nat → Int32} (ha : h a = some (.inl (E.2.1 0, n, .inl f), o)) (hj : j < n) (hn : n < 2 ^ 31) (hdg : decode cc pc = .ok (.iaload, 1))
    (kk : W p l e R s m args below meth c H locs cells slots Q (F0 m (pc + 1) ls (.int (f j) :: rest))) : W p l e R s m args below meth c H locs cells slots Q (F0 m pc ls (.int (nI j) :: .ref a :: rest)) := by
  obtain ⟨⟨ws, h1, h2, h3⟩, hS⟩ := T
  obtain ⟨q0, hq⟩ := h1 a _ ha
  exact va_iald C.x C.b C.k h2 q0 0 hq rfl (vp_in_nI hj hn) hdg (by rw [nI_clamp (Nat.lt_trans hj hn)]; exact kk)
theorem hr_bald (C : Cx E p s m args meth c cc nL own) (T : St E s h H locs) {n j : Nat} {f : Nat → Int32} (ha : h a = some (.inl (E.2.1 1, n, .inl f), o)) (hj : j < n) (hn : n < 2 ^ 31) (hdg : decode cc pc = .ok (.baload, 1))
    (kk : W p l e R s m args below meth c H locs cells slots Q (F0 m (pc + 1) ls (.int (f j) :: rest))) : W p l e R s m args below meth c H locs cells slots Q (F0 m pc ls (.int (nI j) :: .ref a :: rest)) := by
  obtain ⟨⟨ws, h1, h2, h3⟩, hS⟩ := T
  obtain ⟨q0, hq⟩ := h1 a _ ha
  exact va_bald C.x C.b C.k h2 q0 1 hq rfl (vp_in_nI hj hn) hdg (by rw [nI_clamp (Nat.lt_trans hj hn)]; exact kk)
theorem hr_sald (C : Cx E p s m args meth c cc nL own) (T : St E s h H locs) {n j : Nat} {f : Nat → Int32} (ha : h a = some (.inl (E.2.1 2, n, .inl f), o)) (hj : j < n) (hn : n < 2 ^ 31) (hdg : decode cc pc = .ok (.saload, 1))
    (kk : W p l e R s m args below meth c H locs cells slots Q (F0 m (pc + 1) ls (.int (f j) :: rest))) : W p l e R s m args below meth c H locs cells slots Q (F0 m pc ls (.int (nI j) :: .ref a :: rest)) := by
  obtain ⟨⟨ws, h1, h2, h3⟩, hS⟩ := T
  obtain ⟨q0, hq⟩ := h1 a _ ha
  exact va_sald C.x C.b C.k h2 q0 2 hq rfl (vp_in_nI hj hn) hdg (by rw [nI_clamp (Nat.lt_trans hj hn)]; exact kk)
theorem hr_zald (C : Cx E p s m args meth c cc nL own) (T : St E s h H locs) {n j : Nat} {f : Nat → Int32} (ha : h a = some (.inl (E.2.1 3, n, .inl f), o)) (hj : j < n) (hn : n < 2 ^ 31) (hdg : decode cc pc = .ok (.baload, 1))
    (kk : W p l e R s m args below meth c H locs cells slots Q (F0 m (pc + 1) ls (.int (f j) :: rest))) : W p l e R s m args below meth c H locs cells slots Q (F0 m pc ls (.int (nI j) :: .ref a :: rest)) := by
  obtain ⟨⟨ws, h1, h2, h3⟩, hS⟩ := T
  obtain ⟨q0, hq⟩ := h1 a _ ha
  exact va_zald C.x C.b C.k h2 q0 3 hq rfl (vp_in_nI hj hn) hdg (by rw [nI_clamp (Nat.lt_trans hj hn)]; exact kk)
theorem hr_lald (C : Cx E p s m args meth c cc nL own) (T : St E s h H locs) {n j : Nat} {f : Nat → Int64} (ha : h a = some (.inl (E.2.1 4, n, .inr (.inl f)), o)) (hj : j < n) (hn : n < 2 ^ 31) (hdg : decode cc pc = .ok (.laload, 1))
    (kk : W p l e R s m args below meth c H locs cells slots Q (F0 m (pc + 1) ls (.long (f j) :: rest))) : W p l e R s m args below meth c H locs cells slots Q (F0 m pc ls (.int (nI j) :: .ref a :: rest)) := by
  obtain ⟨⟨ws, h1, h2, h3⟩, hS⟩ := T
  obtain ⟨q0, hq⟩ := h1 a _ ha
  exact va_lald C.x C.b C.k h2 q0 4 hq rfl (vp_in_nI hj hn) hdg (by rw [nI_clamp (Nat.lt_trans hj hn)]; exact kk)
theorem hr_aald (C : Cx E p s m args meth c cc nL own) (T : St E s h H locs) (t0 : Nat) {Cn : String} (ht : (tyL E.2.1)[t0]? = some (E.2.1 t0, .object Cn)) {n j : Nat} {f : Nat → Option Nat} (ha : h a = some (.inl (E.2.1 t0, n, .inr (.inr (.inr (.inr f)))), o)) (hj : j < n) (hn : n < 2 ^ 31) {y : Nat} (hy : f j = some y) (hdg : decode cc pc = .ok (.aaload, 1))
    (kk : W p l e R s m args below meth c H locs cells slots Q (F0 m (pc + 1) ls (.ref y :: rest))) : W p l e R s m args below meth c H locs cells slots Q (F0 m pc ls (.int (nI j) :: .ref a :: rest)) := by
  obtain ⟨⟨ws, h1, h2, h3⟩, hS⟩ := T
  obtain ⟨q0, hq⟩ := h1 a _ ha
  exact va_aldq C.x C.b C.k h2 q0 t0 hq ht (vp_in_nI hj hn) hdg (by rw [nI_clamp (Nat.lt_trans hj hn), hy]; exact kk)
theorem hr_iast (C : Cx E p s m args meth c cc nL own) (T : St E s h H locs) {n j : Nat} {f : Nat → Int32} (ha : h a = some (.inl (E.2.1 0, n, .inl f), o)) {x : Int32} (hj : j < n) (hn : n < 2 ^ 31) (hdg : decode cc pc = .ok (.iastore, 1))
    (kk : ∀ (h2 : HH) (H1 : Heap) (locs1 : List Loc), h2 = hup h a (.inl (E.2.1 0, n, .inl (upd f j x)), o) → St E s h2 H1 locs1 → W p l e R s m args below meth c H1 locs1 cells slots Q (F0 m (pc + 1) ls rest)) : W p l e R s m args below meth c H locs cells slots Q (F0 m pc ls (.int x :: .int (nI j) :: .ref a :: rest)) := by
  obtain ⟨⟨ws, h1, h2, h3⟩, hS⟩ := T
  obtain ⟨q0, hq⟩ := h1 a _ ha
  refine va_iast C.x C.b C.k h2 h3 hS q0 0 hq rfl (vp_in_nI hj hn) hdg (fun H1 locs1 hP hD hS1 => ?_)
  rw [nI_clamp (Nat.lt_trans hj hn)] at hP hD
  exact kk _ H1 locs1 rfl ⟨⟨_, hw_set h1 hq, hP, hD⟩, hS1⟩
theorem hr_bast (C : Cx E p s m args meth c cc nL own) (T : St E s h H locs) {n j : Nat} {f : Nat → Int32} (ha : h a = some (.inl (E.2.1 1, n, .inl f), o)) {x x' : Int32} (hj : j < n) (hn : n < 2 ^ 31) (hx : vp_nar .byte x = x') (hdg : decode cc pc = .ok (.bastore, 1))
    (kk : ∀ (h2 : HH) (H1 : Heap) (locs1 : List Loc), h2 = hup h a (.inl (E.2.1 1, n, .inl (upd f j x')), o) → St E s h2 H1 locs1 → W p l e R s m args below meth c H1 locs1 cells slots Q (F0 m (pc + 1) ls rest)) : W p l e R s m args below meth c H locs cells slots Q (F0 m pc ls (.int x :: .int (nI j) :: .ref a :: rest)) := by
  obtain ⟨⟨ws, h1, h2, h3⟩, hS⟩ := T
  obtain ⟨q0, hq⟩ := h1 a _ ha
  refine va_bast C.x C.b C.k h2 h3 hS q0 1 hq rfl (vp_in_nI hj hn) hdg (fun H1 locs1 hP hD hS1 => ?_)
  rw [nI_clamp (Nat.lt_trans hj hn), hx] at hP hD
  exact kk _ H1 locs1 rfl ⟨⟨_, hw_set h1 hq, hP, hD⟩, hS1⟩
theorem hr_sast (C : Cx E p s m args meth c cc nL own) (T : St E s h H locs) {n j : Nat} {f : Nat → Int32} (ha : h a = some (.inl (E.2.1 2, n, .inl f), o)) {x x' : Int32} (hj : j < n) (hn : n < 2 ^ 31) (hx : vp_nar .short x = x') (hdg : decode cc pc = .ok (.sastore, 1))
    (kk : ∀ (h2 : HH) (H1 : Heap) (locs1 : List Loc), h2 = hup h a (.inl (E.2.1 2, n, .inl (upd f j x')), o) → St E s h2 H1 locs1 → W p l e R s m args below meth c H1 locs1 cells slots Q (F0 m (pc + 1) ls rest)) : W p l e R s m args below meth c H locs cells slots Q (F0 m pc ls (.int x :: .int (nI j) :: .ref a :: rest)) := by
  obtain ⟨⟨ws, h1, h2, h3⟩, hS⟩ := T
  obtain ⟨q0, hq⟩ := h1 a _ ha
  refine va_sast C.x C.b C.k h2 h3 hS q0 2 hq rfl (vp_in_nI hj hn) hdg (fun H1 locs1 hP hD hS1 => ?_)
  rw [nI_clamp (Nat.lt_trans hj hn), hx] at hP hD
  exact kk _ H1 locs1 rfl ⟨⟨_, hw_set h1 hq, hP, hD⟩, hS1⟩
theorem hr_zast (C : Cx E p s m args meth c cc nL own) (T : St E s h H locs) {n j : Nat} {f : Nat → Int32} (ha : h a = some (.inl (E.2.1 3, n, .inl f), o)) {x x' : Int32} (hj : j < n) (hn : n < 2 ^ 31) (hx : vp_nar .boolean x = x') (hdg : decode cc pc = .ok (.bastore, 1))
    (kk : ∀ (h2 : HH) (H1 : Heap) (locs1 : List Loc), h2 = hup h a (.inl (E.2.1 3, n, .inl (upd f j x')), o) → St E s h2 H1 locs1 → W p l e R s m args below meth c H1 locs1 cells slots Q (F0 m (pc + 1) ls rest)) : W p l e R s m args below meth c H locs cells slots Q (F0 m pc ls (.int x :: .int (nI j) :: .ref a :: rest)) := by
  obtain ⟨⟨ws, h1, h2, h3⟩, hS⟩ := T
  obtain ⟨q0, hq⟩ := h1 a _ ha
  refine va_zast C.x C.b C.k h2 h3 hS q0 3 hq rfl (vp_in_nI hj hn) hdg (fun H1 locs1 hP hD hS1 => ?_)
  rw [nI_clamp (Nat.lt_trans hj hn), hx] at hP hD
  exact kk _ H1 locs1 rfl ⟨⟨_, hw_set h1 hq, hP, hD⟩, hS1⟩
theorem hr_last (C : Cx E p s m args meth c cc nL own) (T : St E s h H locs) {n j : Nat} {f : Nat → Int64} (ha : h a = some (.inl (E.2.1 4, n, .inr (.inl f)), o)) {x : Int64} (hj : j < n) (hn : n < 2 ^ 31) (hdg : decode cc pc = .ok (.lastore, 1))
    (kk : ∀ (h2 : HH) (H1 : Heap) (locs1 : List Loc), h2 = hup h a (.inl (E.2.1 4, n, .inr (.inl (vp_updL f j x))), o) → St E s h2 H1 locs1 → W p l e R s m args below meth c H1 locs1 cells slots Q (F0 m (pc + 1) ls rest)) : W p l e R s m args below meth c H locs cells slots Q (F0 m pc ls (.long x :: .int (nI j) :: .ref a :: rest)) := by
  obtain ⟨⟨ws, h1, h2, h3⟩, hS⟩ := T
  obtain ⟨q0, hq⟩ := h1 a _ ha
  refine va_last C.x C.b C.k h2 h3 hS q0 4 hq rfl (vp_in_nI hj hn) hdg (fun H1 locs1 hP hD hS1 => ?_)
  rw [nI_clamp (Nat.lt_trans hj hn)] at hP hD
  exact kk _ H1 locs1 rfl ⟨⟨_, hw_set h1 hq, hP, hD⟩, hS1⟩
theorem hr_aast (C : Cx E p s m args meth c cc nL own) (T : St E s h H locs) (t0 : Nat) {ci : Nat} {r : vw_C} (ht : (tyL E.2.1)[t0]? = some (E.2.1 t0, .object r.1)) (hc : vwCl[ci]? = some r) {n j v o' : Nat} {vs : List Value} {f : Nat → Option Nat} (ha : h a = some (.inl (E.2.1 t0, n, .inr (.inr (.inr (.inr f)))), o)) (hv : h v = some (.inr (ci, vs), o')) (hj : j < n) (hn : n < 2 ^ 31) (hdg : decode cc pc = .ok (.aastore, 1))
    (kk : ∀ (h2 : HH) (H1 : Heap) (locs1 : List Loc), h2 = hup h a (.inl (E.2.1 t0, n, .inr (.inr (.inr (.inr (va_up f j (some v)))))), o) → St E s h2 H1 locs1 → W p l e R s m args below meth c H1 locs1 cells slots Q (F0 m (pc + 1) ls rest)) : W p l e R s m args below meth c H locs cells slots Q (F0 m pc ls (.ref v :: .int (nI j) :: .ref a :: rest)) := by
  obtain ⟨⟨ws, h1, h2, h3⟩, hS⟩ := T
  obtain ⟨q0, hq⟩ := h1 a _ ha
  obtain ⟨q1, hq1⟩ := h1 v _ hv
  refine va_astq C.x C.b C.k h2 h3 hS q0 t0 q1 ci hq ht hq1 hc (vp_in_nI hj hn) hdg (fun H1 locs1 hP hD hS1 => ?_)
  rw [nI_clamp (Nat.lt_trans hj hn)] at hP hD
  exact kk _ H1 locs1 rfl ⟨⟨_, hw_set h1 hq, hP, hD⟩, hS1⟩
theorem hr_alen (C : Cx E p s m args meth c cc nL own) (T : St E s h H locs) (t0 : Nat) {ty : FieldType} {x : vp_A} (ha : h a = some (.inl (E.2.1 t0, x), o)) (ht : (tyL E.2.1)[t0]? = some (E.2.1 t0, ty)) (hdg : decode cc pc = .ok (.arraylength, 1))
    (kk : W p l e R s m args below meth c H locs cells slots Q (F0 m (pc + 1) ls (.int (nI x.1) :: rest))) : W p l e R s m args below meth c H locs cells slots Q (F0 m pc ls (.ref a :: rest)) := by
  obtain ⟨⟨ws, h1, h2, h3⟩, hS⟩ := T
  obtain ⟨q0, hq⟩ := h1 a _ ha
  exact va_alen (v := nI x.1) C.x C.b C.k h2 q0 t0 hq ht rfl hdg kk
theorem ra_inj {U : State} {cA cB : ClassId} {ty : FieldType} (h1 : va_RA U cA ty) (h2 : va_RA U cB ty) : cA = cB := by
  cases ty with
  | object C =>
    obtain ⟨_, _, _, _, _, e1⟩ := h1
    obtain ⟨_, _, _, _, _, e2⟩ := h2
    exact Option.some.inj (e1.symm.trans e2)
  | _ => exact Option.some.inj (Eq.symm (show U.vm.findClass _ = some cA from h1) |>.trans (show U.vm.findClass _ = some cB from h2))
theorem hr_newa (C : Cx E p s m args meth c cc nL own) (T : St E s h H locs) (ow : Nat) (t0 : Nat) {atype : ArrayType} (harr : Cond.arrayClass (newarray.typeOf atype) ∈ lw_all) {ty : FieldType} (hty : newarray.typeOf atype = ty) (ht : (tyL E.2.1)[t0]? = some (E.2.1 t0, ty)) {N : Nat} {a0 : vp_A} (ha : ∀ cA : ClassId, vp_cell cA a0 = arrV cA N (fun _ => defaultValue ty)) (hN : N < 2 ^ 26) (hcells : cells + 1 ≤ R.cells) (hslots : slots + N ≤ R.slots) (hdg : decode cc pc = .ok (.newarray atype, 2))
    (kk : ∀ (h2 : HH) (q : Nat) (H1 : Heap), h q = none → h2 = hup h q (.inl (E.2.1 t0, a0), ow) → St E s h2 H1 locs → W p l e R s m args below meth c H1 locs (cells + 1) (slots + N) Q (F0 m (pc + 2) ls (.ref q :: rest))) : W p l e R s m args below meth c H locs cells slots Q (F0 m pc ls (.int (nI N) :: rest)) := by
  obtain ⟨⟨ws, h1, h2, h3⟩, hS⟩ := T
  have hb : N * componentBytes ty ≤ 536870912 := by
    have : componentBytes ty ≤ 8 := by cases ty <;> simp [componentBytes]
    calc N * componentBytes ty ≤ N * 8 := Nat.mul_le_mul_left _ this
      _ ≤ 536870912 := by omega
  refine va_newa C.x C.b (C.ts _ harr) hty C.k h2 h3 hS C.hA ha (nI_pos (by omega)) (nI_clamp (by omega)) hb hcells hslots hdg (fun q cA H1 hK hP hD hS1 => ?_)
  have e1 : cA = E.2.1 t0 := ra_inj (hK.2 7 (cA, ty) rfl).2 (C.k.2 t0 _ ht).2
  subst e1
  have hfr : h q = none := by
    cases hc : h q with
    | none => rfl
    | some x =>
      obtain ⟨j, hj⟩ := h1 q x hc
      have hl := (List.getElem?_eq_some_iff.mp hj).1
      have := hD.1 j ws.length (q, x.1) (q, .inl (E.2.1 t0, a0)) (by rw [List.getElem?_append_left hl]; exact hj) (by simp) rfl
      omega
  exact kk _ q H1 hfr rfl ⟨⟨_, hw_push h1, hP, hD⟩, hS1⟩
theorem hr_newq (C : Cx E p s m args meth c cc nL own) (T : St E s h H locs) (ow : Nat) (t0 : Nat) {index : Nat} {Cn : String} (hl : Cond.classLink own index Cn ∈ lw_all) (hover : va_AO Cn s) (ht : (tyL E.2.1)[t0]? = some (E.2.1 t0, .object Cn)) {N : Nat} (hN : N < 2 ^ 26) (hcells : cells + 1 ≤ R.cells) (hslots : slots + N ≤ R.slots) (hdg : decode cc pc = .ok (.anewarray index, 3))
    (kk : ∀ (h2 : HH) (q : Nat) (H1 : Heap), h q = none → h2 = hup h q (.inl (E.2.1 t0, N, .inr (.inr (.inr (.inr (fun _ => none))))), ow) → St E s h2 H1 locs → W p l e R s m args below meth c H1 locs (cells + 1) (slots + N) Q (F0 m (pc + 3) ls (.ref q :: rest))) : W p l e R s m args below meth c H locs cells slots Q (F0 m pc ls (.int (nI N) :: rest)) := by
  obtain ⟨⟨ws, h1, h2, h3⟩, hS⟩ := T
  refine va_newq C.x C.b C.ow (C.ts _ hl) hover C.k h2 h3 hS C.hA (nI_pos (by omega)) (nI_clamp (by omega)) (by omega) hcells hslots hdg (fun q cA H1 hK hP hD hS1 => ?_)
  have e1 : cA = E.2.1 t0 := ra_inj (hK.2 7 (cA, .object Cn) rfl).2 (C.k.2 t0 _ ht).2
  subst e1
  have hfr : h q = none := by
    cases hc : h q with
    | none => rfl
    | some x =>
      obtain ⟨j, hj⟩ := h1 q x hc
      have hl := (List.getElem?_eq_some_iff.mp hj).1
      have := hD.1 j ws.length (q, x.1) (q, .inl (E.2.1 t0, N, .inr (.inr (.inr (.inr (fun _ => none)))))) (by rw [List.getElem?_append_left hl]; exact hj) (by simp) rfl
      omega
  exact kk _ q H1 hfr rfl ⟨⟨_, hw_push h1, hP, hD⟩, hS1⟩
theorem hr_new (C : Cx E p s m args meth c cc nL own) (T : St E s h H locs) (ow : Nat → Nat) {ci N index : Nat} {Cn : String} {TT : u_T} (hc : vwCl[ci]? = some (Cn, TT, N)) (hin : ∀ w ∈ u_ws Cn TT N, w ∈ lw_all) (ty : Nat → FieldType) (hty : ∀ k, k < N → parseFieldDescriptor (TT k).2.2.1 = some (ty k)) (hcl : Cond.classLink own index Cn ∈ lw_all) (hinst : Cond.instantiable Cn N ∈ lw_all) (hini : Cond.initialized Cn ∈ lw_all) {fs : List Value} (hfs : ∀ j, j < N → defaultValue (ty j) = vp_V fs j) (hcells : cells + 1 ≤ R.cells) (hslots : slots + N ≤ R.slots) (hdg : decode cc pc = .ok (.new index, 3))
    (kk : ∀ (h2 : HH) (q : Nat) (H1 : Heap), h q = none → h2 = hup h q (.inr (ci, fs), ow q) → St E s h2 H1 locs → W p l e R s m args below meth c H1 locs (cells + 1) (slots + N) Q (F0 m (pc + 3) ls (.ref q :: rest))) : W p l e R s m args below meth c H locs cells slots Q (F0 m pc ls rest) := by
  obtain ⟨⟨ws, h1, h2, h3⟩, hS⟩ := T
  refine va_new C.x C.b C.ts hin ty hty C.ow (C.ts _ hcl) (C.ts _ hinst) (C.ts _ hini) C.k h2 h3 hS C.hA hc hfs hcells hslots hdg (fun q H1 hP hD hS1 => ?_)
  have hfr : h q = none := by
    cases hcq : h q with
    | none => rfl
    | some x =>
      obtain ⟨j, hj⟩ := h1 q x hcq
      have hl := (List.getElem?_eq_some_iff.mp hj).1
      have := hD.1 j ws.length (q, x.1) (q, .inr (ci, fs)) (by rw [List.getElem?_append_left hl]; exact hj) (by simp) rfl
      omega
  exact kk _ q H1 hfr rfl ⟨⟨_, hw_push h1, hP, hD⟩, hS1⟩
theorem hr_copy (C : Cx E p s m args meth c cc nL own) (T : St E s h H locs) (hls : ls.size = nL) {index : Nat} (hlink : Cond.methodLink own index arraycopyName ∈ lw_all) (hnat : Cond.native arraycopyName ∈ lw_all) (hstat : Cond.static arraycopyName ∈ lw_all) (hini : Cond.initialized "java/lang/System" ∈ lw_all)
    {a0 o0 n0 n1 n : Nat} {f g : Nat → Int32} (ha0 : h a0 = some (.inl (E.2.1 0, n0, .inl f), o0)) (ha1 : h a = some (.inl (E.2.1 0, n1, .inl g), o)) (hn0 : n ≤ n0) (hn1 : n ≤ n1) (hz : n < 2 ^ 31)
    (hframes : 1 ≤ R.frames) (hlocals : (rest.map fun v => v.category).sum + (nativeFrameWords "java/lang/System" "arraycopy" 5 + 11) ≤ R.locals) (hdg : decode cc pc = .ok (.invokestatic index, 3))
    (kk : ∀ (h2 : HH) (H1 : Heap) (locs1 : List Loc), h2 = hup h a (.inl (E.2.1 0, n1, .inl (va_cpy f g 0 0 n)), o) → St E s h2 H1 locs1 → W p l e R s m args below meth c H1 locs1 cells slots Q (F0 m (pc + 3) ls rest)) : W p l e R s m args below meth c H locs cells slots Q (F0 m pc ls (.int (nI n) :: .int (nI 0) :: .ref a :: .int (nI 0) :: .ref a0 :: rest)) := by
  obtain ⟨⟨ws, h1, h2, h3⟩, hS⟩ := T
  obtain ⟨q0, hq0⟩ := h1 a0 _ ha0
  obtain ⟨q1, hq1⟩ := h1 a _ ha1
  have e0 : (nI 0).toNatClampNeg = 0 := nI_clamp (by decide)
  have en : (nI n).toNatClampNeg = n := nI_clamp hz
  refine va_copyi C.x C.b (by rw [C.ml, hls]) C.ow (C.ts _ hlink) (C.ts _ hnat) (C.ts _ hstat) (C.ts _ hini) C.k h2 h3 hS q0 q1 0 0 hq0 hq1 rfl rfl rfl (by decide) (by decide) (nI_pos hz) (by rw [e0, en]; omega) (by rw [e0, en]; omega) (fun i _ => rfl) hframes hlocals hdg (fun H1 locs1 hP hD hS1 => ?_)
  rw [e0, en] at hP hD
  exact kk _ H1 locs1 rfl ⟨⟨_, hw_set h1 hq1, hP, hD⟩, hS1⟩
end HR
theorem hu_s {h h2 : HH} {a : Nat} {x : HE} (e : h2 = hup h a x) : h2 a = some x := by rw [e]; exact hup_s
theorem hu_n {h h2 : HH} {a b : Nat} {x : HE} {y : Option HE} (e : h2 = hup h a x) (hn : b ≠ a) (hb : h b = y) : h2 b = y := by rw [e, hup_n hn]; exact hb
theorem hu_f {O : Nat → Prop} {h0 h h2 : HH} {a o : Nat} {x x' : va_E} (e : h2 = hup h a (x', o)) (f : Fr O h0 h) (ha : h a = some (x, o)) (ho : O o) : Fr O h0 h2 := by rw [e]; exact f.up ha ho
theorem hu_fn {O : Nat → Prop} {h0 h h2 : HH} {a : Nat} {x : HE} (e : h2 = hup h a x) (f : Fr O h0 h) (ha : h a = none) : Fr O h0 h2 := by rw [e]; exact f.new ha
theorem hu_w {h h2 : HH} {a b : Nat} {x y : HE} (e : h2 = hup h a x) (ha : h a = none) (hb : h b = some y) : h2 b = some y := by rw [e, hup_n (hne_new hb ha)]; exact hb
