set_option maxRecDepth 100000
/-! a heap's cells told in other words: owners, and rows of references beyond their end -/
def Sm (y y' : va_E) : Prop := y = y' ∨ ∃ (c : ClassId) (n : Nat) (f f' : Nat → Option Nat), y = .inl (c, n, .inr (.inr (.inr (.inr f)))) ∧ y' = .inl (c, n, .inr (.inr (.inr (.inr f')))) ∧ ∀ i, i < n → f i = f' i
theorem arrV_cong {c : ClassId} {n : Nat} {f f' : Nat → Value} (h : ∀ i, i < n → f i = f' i) : arrV c n f = arrV c n f' := by
  unfold arrV
  have : (fun j : Fin n => f j.val) = (fun j : Fin n => f' j.val) := funext fun j => h j.val j.isLt
  rw [this]
theorem Sm.at {D : va_G} {cl : List vw_C} {a : Nat} {y y' : va_E} {H : Heap} (h : Sm y y') (hy : va_at D cl (a, y) H) : va_at D cl (a, y') H := by
  rcases h with h | ⟨c, n, f, f', h1, h2, h3⟩
  · rw [← h]; exact hy
  · subst h1 h2
    show H[a]? = some (vp_cell c (n, .inr (.inr (.inr (.inr f')))))
    have h4 : H[a]? = some (vp_cell c (n, .inr (.inr (.inr (.inr f))))) := hy
    rw [h4, vp_cell_q, vp_cell_q, arrV_cong fun i hi => by rw [h3 i hi]]
def rmp (h2 : HH) (q : Nat × va_E) : Nat × va_E := (q.1, match h2 q.1 with | some x => x.1 | none => q.2)
theorem rmp_s {h2 : HH} {q : Nat × va_E} {x : HE} (h : h2 q.1 = some x) : rmp h2 q = (q.1, x.1) := by unfold rmp; rw [h]
theorem rmp_n {h2 : HH} {q : Nat × va_E} (h : h2 q.1 = none) : rmp h2 q = q := by unfold rmp; rw [h]
theorem St.remap {E : GE} {s : State} {h h2 : HH} {H : Heap} {locs : List Loc} (T : St E s h H locs) (hr : ∀ a x, h2 a = some x → ∃ y o, h a = some (y, o) ∧ Sm y x.1) : St E s h2 H locs := by
  obtain ⟨⟨ws, h1, h3, h4⟩, hS⟩ := T
  refine ⟨⟨ws.map (rmp h2), fun a x hx => ?_, fun k q hq => ?_, ⟨fun i j p q hp hq hpq => ?_, fun k q hq => ?_⟩⟩, hS⟩
  · obtain ⟨y, o, ha, hs⟩ := hr a x hx
    obtain ⟨k, hk⟩ := h1 a _ ha
    exact ⟨k, by rw [List.getElem?_map, hk]; exact congrArg some (rmp_s hx)⟩
  · rw [List.getElem?_map] at hq
    cases hw : ws[k]? with
    | none => rw [hw] at hq; cases hq
    | some p =>
      rw [hw] at hq
      have e : rmp h2 p = q := Option.some.inj hq
      cases hc : h2 p.1 with
      | none => rw [rmp_n hc] at e; rw [← e]; exact h3 k p hw
      | some x =>
        rw [rmp_s hc] at e
        obtain ⟨y, o, ha, hs⟩ := hr _ x hc
        obtain ⟨k', hk'⟩ := h1 _ _ ha
        have ek := h4.1 k k' p (p.1, y) hw hk' rfl
        subst ek
        rw [hw] at hk'
        have ep : p = (p.1, y) := Option.some.inj hk'
        have h5 := h3 k p hw
        rw [ep] at h5
        rw [← e]
        exact hs.at h5
  · rw [List.getElem?_map] at hp hq
    cases hw : ws[i]? with
    | none => rw [hw] at hp; cases hp
    | some p0 =>
      cases hv : ws[j]? with
      | none => rw [hv] at hq; cases hq
      | some q0 =>
        rw [hw] at hp
        rw [hv] at hq
        have e1 : rmp h2 p0 = p := Option.some.inj hp
        have e2 : rmp h2 q0 = q := Option.some.inj hq
        exact h4.1 i j p0 q0 hw hv (by rw [← e1, ← e2] at hpq; exact hpq)
  · rw [List.getElem?_map] at hq
    cases hw : ws[k]? with
    | none => rw [hw] at hq; cases hq
    | some p =>
      rw [hw] at hq
      have e : rmp h2 p = q := Option.some.inj hq
      rw [← e]
      exact h4.2 k p hw
/-- all cells but those in C stay, if their owners stand -/
def FA (C : Nat → Prop) (h h2 : HH) : Prop := ∀ (q : Nat) (x : HE), h q = some x → ¬ C q → (∃ z, h x.2 = some (z, x.2) ∧ ¬ C x.2) → h2 q = some x
theorem FA.rf {C : Nat → Prop} {h : HH} : FA C h h := fun _ _ z _ _ => z
theorem FA.up {C : Nat → Prop} {h h1 h2 : HH} {c : Nat} {x : HE} (F : FA C h h1) (hc : C c) (e2 : h2 = hup h1 c x) : FA C h h2 := fun q x z1 z2 z3 => by
  rw [e2, hup_n (fun y => z2 (by rw [y]; exact hc))]
  exact F q x z1 z2 z3
theorem FA.nest {C : Nat → Prop} {c : Nat} {h h1 h2 h3 : HH} {e : va_E} (F : FA C h h1) (hc : h1 c = none) (e2 : h2 = hup h1 c (e, c)) (G : FN c h2 h3) : FA C h h3 := fun q x z1 z2 ⟨z, z3, z4⟩ => by
  have a1 := F q x z1 z2 ⟨z, z3, z4⟩
  have a2 := F _ _ z3 z4 ⟨z, z3, z4⟩
  have n1 : q ≠ c := fun y => by rw [y, hc] at a1; cases a1
  have n2 : x.2 ≠ c := fun y => by rw [y, hc] at a2; cases a2
  exact G q x (by rw [e2, hup_n n1]; exact a1) n2 ⟨z, by rw [e2, hup_n n2]; exact a2⟩
