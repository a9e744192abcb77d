set_option maxRecDepth 100000
/-! what constructors keep: cells whose owner stands already, by itself -/
def FN (b : Nat) (h h2 : HH) : Prop := ∀ (q : Nat) (x : HE), h q = some x → x.2 ≠ b → (∃ z, h x.2 = some (z, x.2)) → h2 q = some x
theorem FN.rf {b : Nat} {h : HH} : FN b h h := fun _ _ z _ _ => z
theorem FN.tr {b : Nat} {h h1 h2 : HH} (F : FN b h h1) (G : FN b h1 h2) : FN b h h2 := fun q x z1 z2 ⟨z, z3⟩ => G q x (F q x z1 z2 ⟨z, z3⟩) z2 ⟨z, F _ _ z3 z2 ⟨z, z3⟩⟩
theorem FN.up {b c : Nat} {h h1 h2 : HH} {e e' : va_E} (F : FN b h h1) (hc : h1 c = some (e, b)) (e2 : h2 = hup h1 c (e', b)) : FN b h h2 := fun q x z1 z2 z3 => by
  have h3 := F q x z1 z2 z3
  have hne : q ≠ c := fun y => by rw [y, hc] at h3; exact z2 (by rw [← Option.some.inj h3])
  rw [e2, hup_n hne]
  exact h3
theorem FN.new {b c : Nat} {h h1 h2 : HH} {x0 : HE} (F : FN b h h1) (hc : h1 c = none) (e2 : h2 = hup h1 c x0) : FN b h h2 := fun q x z1 z2 z3 => by
  have h3 := F q x z1 z2 z3
  have hne : q ≠ c := fun y => by rw [y, hc] at h3; cases h3
  rw [e2, hup_n hne]
  exact h3
theorem Fr.fn {c : Nat} {h h2 : HH} (F : Fr (· = c) h h2) : FN c h h2 := fun q x z1 z2 _ => F q x z1 z2
theorem FN.nest {b c : Nat} {h h1 h2 h3 : HH} {e : va_E} (F : FN b h h1) (hc : h1 c = none) (e2 : h2 = hup h1 c (e, c)) (G : FN c h2 h3) : FN b h h3 := fun q x z1 z2 ⟨z, z3⟩ => by
  have a1 := F q x z1 z2 ⟨z, z3⟩
  have a2 := F _ _ z3 z2 ⟨z, z3⟩
  have n1 : q ≠ c := fun y => by rw [y, hc] at a1; cases a1
  have n2 : x.2 ≠ c := fun y => by rw [y, hc] at a2; cases a2
  exact G q x (by rw [e2, hup_n n1]; exact a1) n2 ⟨z, by rw [e2, hup_n n2]; exact a2⟩
/-- Bigs in the order in which they are made: n of them, all 0 -/
def PB (E : GE) (h : HH) (Bq cq : Nat → Nat) (n : Nat) : Prop := (∀ i, i < n → Big E h (Bq i) 0 (cq i)) ∧ (∀ i j, i < n → j < n → i ≠ j → Bq i ≠ Bq j)
theorem PB.zero {E : GE} {h : HH} {Bq cq : Nat → Nat} : PB E h Bq cq 0 := ⟨fun i hi => absurd hi (by omega), fun i j hi => absurd hi (by omega)⟩
theorem PB.kept {E : GE} {h h2 : HH} {Bq cq : Nat → Nat} {n : Nat} {O : Nat → Prop} (F : Fr O h h2) (hO : ∀ i, i < n → ¬ O (Bq i)) (H : PB E h Bq cq n) : PB E h2 Bq cq n := ⟨fun i hi => Fr1.b F (hO i hi) (H.1 i hi), H.2⟩
theorem Big.obj {E : GE} {h : HH} {b N cap : Nat} (B : Big E h b N cap) : ∃ ca : Nat, h b = some (.inr (1, [.ref ca, .int (nI (lm N))]), b) := by
  obtain ⟨ca, f, B1, -⟩ := B
  exact ⟨ca, B1.1⟩
theorem PB.neobj {E : GE} {h : HH} {Bq cq : Nat → Nat} {n b k o : Nat} {fs : List Value} (H : PB E h Bq cq n) (hb : h b = some (.inr (k, fs), o)) (hk : k ≠ 1) : ∀ i, i < n → Bq i ≠ b := fun i hi => by
  obtain ⟨ca, h1⟩ := (H.1 i hi).obj
  exact hne_of h1 hb (fun z => hk (by cases z; rfl))
theorem PB.nearr {E : GE} {h : HH} {Bq cq : Nat → Nat} {n b o : Nat} {x : ClassId × vp_A} (H : PB E h Bq cq n) (hb : h b = some (.inl x, o)) : ∀ i, i < n → Bq i ≠ b := fun i hi => by
  obtain ⟨ca, h1⟩ := (H.1 i hi).obj
  exact hne_of h1 hb (fun z => by cases z)
theorem PB.nenew {E : GE} {h : HH} {Bq cq : Nat → Nat} {n b : Nat} (H : PB E h Bq cq n) (hb : h b = none) : ∀ i, i < n → Bq i ≠ b := fun i hi => by
  obtain ⟨ca, h1⟩ := (H.1 i hi).obj
  exact hne_new h1 hb
/-- one more -/
theorem PB.add {E : GE} {h h1 h2 : HH} {Bq cq : Nat → Nat} {n q c : Nat} {x : HE} (H : PB E h Bq cq n) (hq : h q = none) (e : h1 = hup h q x) (F : Fr (· = q) h1 h2) (hB : Big E h2 q 0 c) : PB E h2 (nu Bq n q) (nu cq n c) (n + 1) := by
  have hne := H.nenew hq
  have h1' : PB E h1 Bq cq n := H.kept (O := fun _ => False) (hu_fn e Fr.rf hq) (fun _ _ z => z)
  have h2' : PB E h2 Bq cq n := h1'.kept F hne
  refine ⟨fun i hi => ?_, fun i j hi hj hij => ?_⟩
  · by_cases z : i = n
    · rw [z, nu_s, nu_s]; exact hB
    · rw [nu_n z, nu_n z]; exact h2'.1 i (by omega)
  · by_cases z : i = n
    · rw [z, nu_s, nu_n (by omega)]; exact (hne j (by omega)).symm
    · by_cases y : j = n
      · rw [y, nu_s, nu_n z]; exact hne i (by omega)
      · rw [nu_n z, nu_n y]; exact H.2 i j (by omega) (by omega) hij
/-- owners are but names: cells may get others -/
theorem St.retag {E : GE} {s : State} {h h2 : HH} {H : Heap} {locs : List Loc} (T : St E s h H locs) (hr : ∀ a x, h2 a = some x → ∃ o, h a = some (x.1, o)) : St E s h2 H locs := by
  obtain ⟨⟨ws, h1, h3, h4⟩, hS⟩ := T
  exact ⟨⟨ws, fun a x hx => by obtain ⟨o, ho⟩ := hr a x hx; exact h1 a (x.1, o) ho, h3, h4⟩, hS⟩
theorem FN.at {b q o : Nat} {h h2 : HH} {e z : va_E} (F : FN b h h2) (hq : h q = some (e, o)) (hz : h o = some (z, o)) (ho : o ≠ b) : h2 q = some (e, o) := F q _ hq ho ⟨z, hz⟩
theorem FN.pb {E : GE} {b : Nat} {h h2 : HH} {Bq cq : Nat → Nat} {n : Nat} (F : FN b h h2) (H : PB E h Bq cq n) (hb : ∀ i, i < n → Bq i ≠ b) : PB E h2 Bq cq n := by
  refine ⟨fun i hi => ?_, H.2⟩
  obtain ⟨ca, f, ⟨b1, b2, b3⟩, b4⟩ := H.1 i hi
  exact ⟨ca, f, ⟨F.at b1 b1 (hb i hi), F.at b2 b1 (hb i hi), b3⟩, b4⟩
