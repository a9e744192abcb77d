set_option maxRecDepth 100000
/-! THE HEAP AS A FUNCTION: an address has a cell (as the kit's worlds have it) and an owner. -/
abbrev HE : Type := va_E × Nat
abbrev HH : Type := Nat → Option HE
def hup (h : HH) (a : Nat) (x : HE) : HH := fun q => if q = a then some x else h q
theorem hup_s {h : HH} {a : Nat} {x : HE} : hup h a x a = some x := if_pos rfl
theorem hup_n {h : HH} {a b : Nat} {x : HE} (hn : b ≠ a) : hup h a x b = h b := if_neg hn
def hw (h : HH) (ws : va_W) : Prop := ∀ (a : Nat) (x : HE), h a = some x → ∃ k : Nat, ws[k]? = some (a, x.1)
theorem hw_set {h : HH} {ws : va_W} {k a o : Nat} {e e' : va_E} (hh : hw h ws) (hk : ws[k]? = some (a, e)) : hw (hup h a (e', o)) (ws.set k (a, e')) := by
  have hl := (List.getElem?_eq_some_iff.mp hk).1
  intro q x hq
  by_cases hqa : q = a
  · subst hqa
    rw [hup_s] at hq
    cases hq
    exact ⟨k, List.getElem?_set_self hl⟩
  · rw [hup_n hqa] at hq
    obtain ⟨j, hj⟩ := hh q x hq
    have hjk : j ≠ k := fun z => by subst z; rw [hk] at hj; cases hj; exact hqa rfl
    exact ⟨j, by rw [List.getElem?_set_ne (Ne.symm hjk)]; exact hj⟩
theorem hw_push {h : HH} {ws : va_W} {q o : Nat} {e : va_E} (hh : hw h ws) : hw (hup h q (e, o)) (ws ++ [(q, e)]) := by
  intro a x ha
  by_cases haq : a = q
  · subst haq
    rw [hup_s] at ha
    cases ha
    exact ⟨ws.length, by simp⟩
  · rw [hup_n haq] at ha
    obtain ⟨j, hj⟩ := hh a x ha
    exact ⟨j, by rw [List.getElem?_append_left (List.getElem?_eq_some_iff.mp hj).1]; exact hj⟩
abbrev vwCl : List vw_C := [(RX1, TX1, 41), (RX7, TX7, 2), (RX2, TX2, 3), (RX3, TX3, 3), (RX4, TX4, 5), (RX5, TX5, 1), (RX6, TX6, 3), (RX8, TX8, 11), (RX9, TX9, 5), (RX10, TX10, 45)]
abbrev tyL (dA : Nat → ClassId) : List (ClassId × FieldType) := [(dA 0, .int), (dA 1, .byte), (dA 2, .short), (dA 3, .boolean), (dA 4, .long), (dA 5, .object "PollAudit$Big"), (dA 6, .object "PollAudit$Pair")]
def Hp (D : va_G) (A : Nat → Prop) (h : HH) (H : Heap) : Prop := ∃ ws : va_W, hw h ws ∧ va_P D vwCl ws H ∧ va_D A ws
theorem Hp.lt {D : va_G} {A : Nat → Prop} {h : HH} {H : Heap} (hp : Hp D A h H) {a : Nat} {x : HE} (ha : h a = some x) : a < H.size := by
  obtain ⟨ws, h1, h2, -⟩ := hp
  obtain ⟨k, hk⟩ := h1 a x ha
  exact (h2 k _ hk).lt
theorem Hp.fresh {D : va_G} {A : Nat → Prop} {h : HH} {H : Heap} (hp : Hp D A h H) {q : Nat} (hq : H.size ≤ q) : h q = none := by
  cases hc : h q with
  | none => rfl
  | some x => exact absurd (hp.lt hc) (by omega)
theorem Hp.A {D : va_G} {A : Nat → Prop} {h : HH} {H : Heap} (hp : Hp D A h H) {a : Nat} {x : HE} (ha : h a = some x) : A a := by
  obtain ⟨ws, h1, h2, h3⟩ := hp
  obtain ⟨k, hk⟩ := h1 a x ha
  exact h3.2 k _ hk
/-- D, the array classes, numbers: 0 the heap's size at the law's start, 1 and 2 the two static tables, 3 4 5 the texts -/
abbrev GE : Type := va_G × (Nat → ClassId) × (Nat → Nat)
def AE (E : GE) : Nat → Prop := fun q => E.2.2 0 ≤ q
/-- what is unchanged: all that no owner of O has -/
def Fr (O : Nat → Prop) (h h' : HH) : Prop := ∀ (a : Nat) (x : HE), h a = some x → ¬ O x.2 → h' a = some x
theorem Fr.rf {O : Nat → Prop} {h : HH} : Fr O h h := fun _ _ hx _ => hx
theorem Fr.tr {O : Nat → Prop} {h h1 h2 : HH} (a : Fr O h h1) (b : Fr O h1 h2) : Fr O h h2 := fun q x hx ho => b q x (a q x hx ho) ho
theorem Fr.mono {O O' : Nat → Prop} {h h' : HH} (a : Fr O h h') (hO : ∀ o, O o → O' o) : Fr O' h h' := fun q x hx ho => a q x hx (fun z => ho (hO _ z))
theorem Fr.up {O : Nat → Prop} {h0 h : HH} {a o : Nat} {e e' : va_E} (f : Fr O h0 h) (ha : h a = some (e, o)) (ho : O o) : Fr O h0 (hup h a (e', o)) := by
  intro q x hx hn
  have hq := f q x hx hn
  by_cases hqa : q = a
  · subst hqa
    rw [ha] at hq
    cases hq
    exact absurd ho hn
  · rw [hup_n hqa]; exact hq
theorem Fr.new {O : Nat → Prop} {h0 h : HH} {q : Nat} {x : HE} (f : Fr O h0 h) (hq : h q = none) : Fr O h0 (hup h q x) := by
  intro a y hx hn
  have ha := f a y hx hn
  have haq : a ≠ q := fun z => by subst z; rw [hq] at ha; cases ha
  rw [hup_n haq]; exact ha
theorem hne_of {h : HH} {a b : Nat} {x y : HE} (ha : h a = some x) (hb : h b = some y) (hxy : x ≠ y) : a ≠ b := fun z => by subst z; rw [ha] at hb; cases hb; exact hxy rfl
theorem hne_new {h : HH} {a q : Nat} {x : HE} (ha : h a = some x) (hq : h q = none) : a ≠ q := fun z => by subst z; rw [ha] at hq; cases hq
/-! the state's own facts: the classes, the words of nest mates, the tables -/
def nestF : List (String × Nat × String × String × String × String) := [("PollAudit", 238, "PollAudit$Coins", "size", "I", "PollAudit"), ("PollAudit", 235, "PollAudit$Seed", "digits", "[I", "PollAudit"), ("PollAudit", 232, "PollAudit$Seed", "size", "I", "PollAudit"), ("PollAudit", 298, "PollAudit$Seed", "digest", "LPollAudit$Digest;", "PollAudit"), ("PollAudit", 348, "PollAudit$Big", "cells", "[I", "PollAudit"), ("PollAudit", 347, "PollAudit$Big", "size", "I", "PollAudit"), ("PollAudit", 338, "PollAudit$Comparing", "above", "LPollAudit$Big;", "PollAudit"), ("PollAudit", 339, "PollAudit$Comparing", "below", "LPollAudit$Big;", "PollAudit"), ("PollAudit", 172, "PollAudit$Pair", "winner", "I", "PollAudit"), ("PollAudit", 175, "PollAudit$Pair", "loser", "I", "PollAudit"), ("PollAudit", 278, "PollAudit$Pair", "sure", "I", "PollAudit"), ("PollAudit", 332, "PollAudit$Pair", "above", "LPollAudit$Big;", "PollAudit"), ("PollAudit", 335, "PollAudit$Pair", "below", "LPollAudit$Big;", "PollAudit"), ("PollAudit$Polling", 41, "PollAudit$Pair", "winner", "I", "PollAudit"), ("PollAudit$Polling", 44, "PollAudit$Pair", "loser", "I", "PollAudit"), ("PollAudit$Polling", 38, "PollAudit$Pair", "sure", "I", "PollAudit"), ("PollAudit$Polling", 23, "PollAudit$Pair", "above", "LPollAudit$Big;", "PollAudit"), ("PollAudit$Polling", 35, "PollAudit$Pair", "below", "LPollAudit$Big;", "PollAudit"), ("PollAudit$Polling", 47, "PollAudit", "votes", "[I", "PollAudit"), ("PollAudit$Polling", 19, "PollAudit", "all", "[LPollAudit$Pair;", "PollAudit"), ("PollAudit$Polling", 15, "PollAudit", "pairs", "I", "PollAudit"), ("PollAudit$Comparing", 46, "PollAudit$Pair", "winner", "I", "PollAudit"), ("PollAudit$Comparing", 49, "PollAudit$Pair", "loser", "I", "PollAudit"), ("PollAudit$Comparing", 43, "PollAudit$Pair", "sure", "I", "PollAudit"), ("PollAudit$Comparing", 39, "PollAudit$Pair", "above", "LPollAudit$Big;", "PollAudit"), ("PollAudit$Comparing", 42, "PollAudit$Pair", "below", "LPollAudit$Big;", "PollAudit"), ("PollAudit$Comparing", 68, "PollAudit", "ballots", "I", "PollAudit"), ("PollAudit$Comparing", 101, "PollAudit", "limitUp", "I", "PollAudit"), ("PollAudit$Comparing", 95, "PollAudit", "limitLow", "I", "PollAudit"), ("PollAudit$Comparing", 65, "PollAudit", "gammaUp", "I", "PollAudit"), ("PollAudit$Comparing", 75, "PollAudit", "gammaLow", "I", "PollAudit"), ("PollAudit$Comparing", 35, "PollAudit", "all", "[LPollAudit$Pair;", "PollAudit"), ("PollAudit$Comparing", 31, "PollAudit", "pairs", "I", "PollAudit"), ("PollAudit$Comparing", 78, "PollAudit", "reckoner", "LPollAudit$Reckoner;", "PollAudit"), ("PollAudit$Comparing", 60, "PollAudit", "one", "LPollAudit$Big;", "PollAudit"), ("PollAudit$Comparing", 98, "PollAudit", "two", "LPollAudit$Big;", "PollAudit")]
def nestM : List (String × Nat × MethodName × String) := [("PollAudit", 87, ⟨"PollAudit$Coins", "<init>", "()V"⟩, "PollAudit"), ("PollAudit", 94, ⟨"PollAudit$Seed", "<init>", "()V"⟩, "PollAudit"), ("PollAudit", 125, ⟨"PollAudit$Reckoner", "<init>", "()V"⟩, "PollAudit"), ("PollAudit", 164, ⟨"PollAudit$Pair", "<init>", "()V"⟩, "PollAudit"), ("PollAudit$Seed", 17, ⟨"PollAudit$Digest", "<init>", "()V"⟩, "PollAudit"), ("PollAudit$Polling", 55, ⟨"PollAudit", "reaches", "(LPollAudit$Big;LPollAudit$Big;)Z"⟩, "PollAudit"), ("PollAudit$Comparing", 56, ⟨"PollAudit", "margin", "(LPollAudit$Pair;)I"⟩, "PollAudit"), ("PollAudit$Comparing", 71, ⟨"PollAudit", "least", "()I"⟩, "PollAudit")]
def nestC : List (String × String) := [("java/lang/IllegalArgumentException", "java/lang/IllegalArgumentException"), ("java/lang/IllegalStateException", "java/lang/IllegalStateException"), ("java/lang/UnsupportedOperationException", "java/lang/UnsupportedOperationException"), ("java/lang/IndexOutOfBoundsException", "java/lang/IndexOutOfBoundsException"), ("java/lang/ArrayIndexOutOfBoundsException", "java/lang/ArrayIndexOutOfBoundsException"), ("java/lang/ArrayIndexOutOfBoundsException", "java/lang/IndexOutOfBoundsException"), ("PollAudit$Coins", "PollAudit$Source"), ("PollAudit$Seed", "PollAudit$Source"), ("PollAudit$Polling", "PollAudit$Test"), ("PollAudit$Comparing", "PollAudit$Test")]
def faceL : List (String × MethodName × MethodName) := [("PollAudit$Coins", ⟨"PollAudit$Source", "draw", "(II)I"⟩, ⟨"PollAudit$Coins", "draw", "(II)I"⟩), ("PollAudit$Seed", ⟨"PollAudit$Source", "draw", "(II)I"⟩, ⟨"PollAudit$Seed", "draw", "(II)I"⟩), ("PollAudit$Polling", ⟨"PollAudit$Test", "begin", "()V"⟩, ⟨"PollAudit$Polling", "begin", "()V"⟩), ("PollAudit$Polling", ⟨"PollAudit$Test", "look", "(III)V"⟩, ⟨"PollAudit$Polling", "look", "(III)V"⟩), ("PollAudit$Polling", ⟨"PollAudit$Test", "isSure", "()Z"⟩, ⟨"PollAudit$Polling", "isSure", "()Z"⟩), ("PollAudit$Comparing", ⟨"PollAudit$Test", "begin", "()V"⟩, ⟨"PollAudit$Comparing", "begin", "()V"⟩), ("PollAudit$Comparing", ⟨"PollAudit$Test", "look", "(III)V"⟩, ⟨"PollAudit$Comparing", "look", "(III)V"⟩), ("PollAudit$Comparing", ⟨"PollAudit$Test", "isSure", "()Z"⟩, ⟨"PollAudit$Comparing", "isSure", "()Z"⟩)]
def rkL : List Int32 := [1116352408, 1899447441, -1245643825, -373957723, 961987163, 1508970993, -1841331548, -1424204075, -670586216, 310598401, 607225278, 1426881987, 1925078388, -2132889090, -1680079193, -1046744716, -459576895, -272742522, 264347078, 604807628, 770255983, 1249150122, 1555081692, 1996064986, -1740746414, -1473132947, -1341970488, -1084653625, -958395405, -710438585, 113926993, 338241895, 666307205, 773529912, 1294757372, 1396182291, 1695183700, 1986661051, -2117940946, -1838011259, -1564481375, -1474664885, -1035236496, -949202525, -778901479, -694614492, -200395387, 275423344, 430227734, 506948616, 659060556, 883997877, 958139571, 1322822218, 1537002063, 1747873779, 1955562222, 2024104815, -2067236844, -1933114872, -1866530822, -1538233109, -1090935817, -965641998]
def bgL : List Int32 := [1779033703, -1150833019, 1013904242, -1521486534, 1359893119, -1694144372, 528734635, 1541459225]
/-- a static field that holds a reference or null, laid, in a cell that isn't of A -/
def Lst (C n d : String) (A : Nat → Prop) (U : State) (H : Heap) : Prop := ∃ (c i a : Nat) (k : Class) (f : Field) (cell : Cell) (v : Value), U.vm.findClass C = some c ∧ U.fieldFound? C n d = some (c, k, i, f) ∧ f.isStatic = true ∧ k.statics = some a ∧ H[a]? = some cell ∧ cell.vm.isStatics = true ∧ cell.cls = c ∧ f.slot < cell.slots.size ∧ k.staticTypes[f.slot]? = some f.type ∧ cell.slots[f.slot]? = some v ∧ v.isRef = true ∧ ¬ A a
theorem Lst.moved {C n d : String} {A : Nat → Prop} {u U : State} {H : Heap} (hvm : u.vm.Alike U.vm) (h : Lst C n d A u H) : Lst C n d A U H := by
  obtain ⟨c, i, a, k, f, cell, v, h1, h2, h3, h4, h5, h6, h7, h8, h9, h10⟩ := h
  obtain ⟨k', hi', he⟩ := State.fieldFound?_setVm hvm h2
  exact ⟨c, i, a, k', f, cell, v, by rw [hvm.findClass]; exact h1, hi', h3, by rw [he]; exact h4, h5, h6, h7, h8, by rw [he]; exact h9, h10⟩
theorem Lst.kept {C n d : String} {A : Nat → Prop} {U : State} {H H1 : Heap} (h : Lst C n d A U H) (hq : ∀ a : Nat, a < H.size → ¬ A a → H1[a]? = H[a]?) : Lst C n d A U H1 := by
  obtain ⟨c, i, a, k, f, cell, v, h1, h2, h3, h4, h5, h6, h7, h8, h9, h10, h11, h12⟩ := h
  exact ⟨c, i, a, k, f, cell, v, h1, h2, h3, h4, by rw [hq a (Array.getElem?_eq_some_iff.mp h5).1 h12]; exact h5, h6, h7, h8, h9, h10, h11, h12⟩
abbrev steDD : String := "[Ljava/lang/StackTraceElement;"
abbrev listDD : String := "Ljava/util/List;"
def Gs (E : GE) (U : State) (H : Heap) : Prop :=
  va_Z "PollAudit$Digest" "ROUNDS" "[I" (.ref (E.2.2 1)) (AE E) U H ∧ va_T .int (E.2.2 1) 64 (fun j => .int (rkL.getD j 0)) (AE E) U H ∧
  va_Z "PollAudit$Digest" "BEGIN" "[I" (.ref (E.2.2 2)) (AE E) U H ∧ va_T .int (E.2.2 2) 8 (fun j => .int (bgL.getD j 0)) (AE E) U H ∧
  Lst "java/lang/Throwable" "UNASSIGNED_STACK" steDD (AE E) U H ∧ Lst "java/lang/Throwable" "SUPPRESSED_SENTINEL" listDD (AE E) U H
theorem Gs.moved {E : GE} {u U : State} {H : Heap} (hvm : u.vm.Alike U.vm) (h : Gs E u H) : Gs E U H := by
  obtain ⟨h1, h2, h3, h4, h5, h6⟩ := h
  exact ⟨va_Z.moved hvm h1, va_T.moved hvm h2, va_Z.moved hvm h3, va_T.moved hvm h4, h5.moved hvm, h6.moved hvm⟩
theorem Gs.kept {E : GE} {U : State} {H H1 : Heap} (h : Gs E U H) (hq : ∀ a : Nat, a < H.size → ¬ AE E a → H1[a]? = H[a]?) : Gs E U H1 := by
  obtain ⟨h1, h2, h3, h4, h5, h6⟩ := h
  exact ⟨h1.kept hq, h2.kept hq, h3.kept hq, h4.kept hq, h5.kept hq, h6.kept hq⟩
def declL : List MethodName := [⟨"java/lang/Throwable", "<init>", "()V"⟩, ⟨"java/lang/Throwable", "<init>", "(Ljava/lang/String;)V"⟩, ⟨"java/lang/Exception", "<init>", "()V"⟩, ⟨"java/lang/Exception", "<init>", "(Ljava/lang/String;)V"⟩, ⟨"java/lang/RuntimeException", "<init>", "()V"⟩, ⟨"java/lang/RuntimeException", "<init>", "(Ljava/lang/String;)V"⟩]
def noCL : List (String × String) := [("java/lang/IllegalArgumentException", "java/lang/IllegalStateException"), ("java/lang/IllegalArgumentException", "java/lang/IndexOutOfBoundsException"), ("java/lang/IllegalArgumentException", "java/lang/UnsupportedOperationException"), ("java/lang/IllegalStateException", "java/lang/IllegalArgumentException"), ("java/lang/IllegalStateException", "java/lang/IndexOutOfBoundsException"), ("java/lang/IllegalStateException", "java/lang/UnsupportedOperationException"), ("java/lang/IndexOutOfBoundsException", "java/lang/IllegalArgumentException"), ("java/lang/IndexOutOfBoundsException", "java/lang/IllegalStateException"), ("java/lang/IndexOutOfBoundsException", "java/lang/UnsupportedOperationException"), ("java/lang/UnsupportedOperationException", "java/lang/IllegalArgumentException"), ("java/lang/UnsupportedOperationException", "java/lang/IllegalStateException"), ("java/lang/UnsupportedOperationException", "java/lang/IndexOutOfBoundsException")]
/-- no object of the one class is one of the other -/
def NoC (a b : String) (U : State) : Prop := ∃ c1 c2 : ClassId, U.vm.findClass a = some c1 ∧ U.vm.findClass b = some c2 ∧ U.vm.assignable c1 c2 = false
theorem NoC.moved {a b : String} {u U : State} (hvm : u.vm.Alike U.vm) (h : NoC a b u) : NoC a b U := by
  obtain ⟨c1, c2, h1, h2, h3⟩ := h
  exact ⟨c1, c2, by rw [hvm.findClass]; exact h1, by rw [hvm.findClass]; exact h2, by rw [hvm.assignable]; exact h3⟩
/-- the words that no list carries, at a state -/
def Gn (E : GE) (U : State) : Prop := va_K E.1 vwCl (tyL E.2.1) U ∧ (∀ q ∈ nestF, va_Nw (.fieldLinkNest q.1 q.2.1 q.2.2.1 q.2.2.2.1 q.2.2.2.2.1 q.2.2.2.2.2) U) ∧ (∀ q ∈ nestM, va_Nw (.methodLinkNest q.1 q.2.1 q.2.2.1 q.2.2.2) U) ∧ (∀ q ∈ nestC, va_Nw (.castable q.1 q.2) U) ∧ va_AO "PollAudit$Big" U ∧ va_AO "PollAudit$Pair" U ∧ (∀ q ∈ faceL, va_Fw q.1 q.2.1 q.2.2 U) ∧
  vk_R "PollAudit" 9 "not as said" (E.2.2 3) U ∧ vk_R "PollAudit" 16 "not now" (E.2.2 4) U ∧ vk_R "PollAudit" 21 "no room" (E.2.2 5) U ∧ (∀ q ∈ declL, va_Nw (.declares q) U) ∧ (∀ q ∈ noCL, NoC q.1 q.2 U)
theorem faceL_ok : ∀ q ∈ faceL, q.2.1.cls ≠ "java/lang/invoke/MethodHandle" ∧ q.2.1.cls ≠ "java/lang/invoke/VarHandle" := by decide +kernel
theorem Gn.warm {E : GE} {s U : State} (hW : s.WarmedH U.vm) (h : Gn E s) : Gn E U := by
  obtain ⟨h1, h2, h3, h4, h5, h6, h7, h8, h9, h10, h11, h12⟩ := h
  exact ⟨va_K.moved hW.alike h1, fun q hq => va_Nw.warmF hW (h2 q hq), fun q hq => va_Nw.warmM hW (h3 q hq), fun q hq => va_Nw.warmC hW (h4 q hq), va_AO.moved hW.alike h5, va_AO.moved hW.alike h6, fun q hq => va_Fw.moved (faceL_ok q hq) hW.alike (h7 q hq), vk_R.warm hW h8, vk_R.warm hW h9, vk_R.warm hW h10, fun q hq => va_Nw.warmD hW (h11 q hq), fun q hq => (h12 q hq).moved hW.alike⟩
def Gd (E : GE) (U : State) (H : Heap) : Prop := Gn E U ∧ E.2.2 0 ≤ H.size ∧ Gs E U H
theorem Gd.step {E : GE} {s U : State} {H0 H : Heap} {locs : List Loc} (h : Gd E s H0) (hS : va_S (AE E) H0 H locs) (hW : s.WarmedH U.vm) : Gd E U H :=
  ⟨h.1.warm hW, Nat.le_trans h.2.1 hS.1, (h.2.2.moved hW.alike).kept (fun a ha hn => hS.2.1 a ha hn)⟩
def PreE (E : GE) (h : HH) (U : State) : Prop := Gd E U U.heap ∧ Hp E.1 (AE E) h U.heap
theorem PreE.blind {E : GE} {h : HH} {av : List Value} : FrameBlind (va_Pc av (PreE E h)) := by
  intro a U g mk q
  obtain ⟨q1, q2, q3⟩ := q
  exact ⟨q1, ⟨q2.1.warm (s := U) (U := U.calling g mk a) (State.WarmedH.refl U), q2.2.1, q2.2.2.moved (u := U) (U := U.calling g mk a) (Vm.Alike.refl U.vm)⟩, q3⟩
/-- how much a heap has grown: cells, and slots -/
def hsum (H : Heap) : Nat := (H.toList.map (fun x => x.slots.size)).sum
def hgr (H0 H1 : Heap) (k n : Nat) : Prop := H1.size ≤ H0.size + k ∧ hsum H1 ≤ hsum H0 + n
theorem hgr.tr {H0 H1 H2 : Heap} {k n k' n' : Nat} (a : hgr H0 H1 k n) (b : hgr H1 H2 k' n') : hgr H0 H2 (k + k') (n + n') := ⟨by have := a.1; have := b.1; omega, by have := a.2; have := b.2; omega⟩
theorem hsum_same {s s' : State} {locs : List Loc} {k n : Nat} (h : s.sameButNew s' locs k n) : hsum s'.heap = hsum s.heap + ((s'.heap.toList.drop s.heap.size).map (fun x => x.slots.size)).sum := by
  obtain ⟨-, h2, -, -, -, h6⟩ := h
  have e : (s'.heap.toList.take s.heap.size).map (fun x => x.slots.size) = s.heap.toList.map (fun x => x.slots.size) := by
    apply List.ext_getElem?
    intro i
    rw [List.getElem?_map, List.getElem?_map]
    by_cases hi : i < s.heap.size
    · rw [List.getElem?_take_of_lt hi, Array.getElem?_toList, Array.getElem?_toList]
      have hc : s.heap[i]? = some s.heap[i] := Array.getElem?_eq_getElem hi
      obtain ⟨c', q1, -, q3, -⟩ := h6 i _ hc
      rw [q1, hc]
      simp [q3]
    · rw [List.getElem?_eq_none (by simp; omega), List.getElem?_eq_none (by simp; omega)]
  unfold hsum
  conv => lhs; rw [← List.take_append_drop s.heap.size s'.heap.toList]
  rw [List.map_append, List.sum_append, e]
section HG
variable {p : Program} {l : Launch} {e : Env} {R : Room} {s : State} {m : MethodId} {args : Array Value} {below : List Frame} {meth : Method} {c : Code} {T : State} {locs : List Loc} {cells slots : Nat}
theorem stand_gr (X : Stand p l e R s m args below meth c T locs cells slots) : hgr s.heap T.heap cells slots := by
  have h := hsum_same X.same
  have h5 := X.same.2.2.2.2.1
  exact ⟨X.same.2.2.1, by rw [show hsum T.heap = _ from h]; omega⟩
theorem stand_tight {k n : Nat} (X : Stand p l e R s m args below meth c T locs cells slots) (hg : hgr s.heap T.heap k n) : Stand p l e R s m args below meth c T locs k n := by
  have h := hsum_same X.same
  have h2 := hg.2
  rw [show hsum T.heap = _ from h] at h2
  exact { X with same := ⟨X.same.1, X.same.2.1, hg.1, X.same.2.2.2.1, by omega, X.same.2.2.2.2.2⟩ }
end HG
/-- a method's end: an answer, a heap, how much it has grown -/
def Qo (E : GE) (post : Option Value → HH → Nat → Nat → Prop) : Array Value → State → Outcome → State → Prop := fun _ st oc t => (∃ (rv : Option Value) (h' : HH) (dc ds : Nat), oc = .returned rv ∧ post rv h' dc ds ∧ Hp E.1 (AE E) h' t.heap ∧ hgr st.heap t.heap dc ds) ∧ va_F (AE E) st t
/-- what holds all through a method's walk -/
def Cx (E : GE) (p : Program) (s : State) (m : MethodId) (args : Array Value) (meth : Method) (c : Code) (cc : ByteArray) (nL : Nat) (own : String) : Prop :=
  CallFix p m c cc nL s args lw_all own ∧ meth.locks = false ∧ Gd E s s.heap
def St (E : GE) (s : State) (h : HH) (H : Heap) (locs : List Loc) : Prop := Hp E.1 (AE E) h H ∧ va_S (AE E) s.heap H locs
