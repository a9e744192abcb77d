set_option maxRecDepth 100000
/-- the great numbers: slot s holds W s -/
def Gr (E : GE) (A : Nat → Nat) (h : HH) (gb sz : Nat → Nat) : Prop := h (A 34) = some (.inl (E.2.1 0, 10800, .inl (nI1 gb)), A 0) ∧ h (A 35) = some (.inl (E.2.1 0, 9, .inl (nI1 sz)), A 0) ∧ (∀ i, gb i < 65536) ∧ (∀ s, s < 9 → sz s ≤ 1200)
def Gv (E : GE) (A : Nat → Nat) (W : Nat → Nat) (h : HH) : Prop := ∃ gb sz, Gr E A h gb sz ∧ ∀ s, s < 9 → Sl gb sz s (W s)
theorem Gv.kept {E : GE} {A W : Nat → Nat} {h h2 : HH} {O : Nat → Prop} (F : Fr O h h2) (hO : ¬ O (A 0)) (H : Gv E A W h) : Gv E A W h2 := by
  obtain ⟨gb, sz, ⟨h1, h2, h3⟩, h4⟩ := H
  exact ⟨gb, sz, ⟨F _ _ h1 hO, F _ _ h2 hO, h3⟩, h4⟩
theorem vp16_top {g : Nat → Nat} {o n : Nat} (h : 0 < n) (h2 : g (o + (n - 1)) ≠ 0) : 65536 ^ (n - 1) ≤ vp16 g o n := by
  obtain ⟨k, rfl⟩ : ∃ k, n = k + 1 := ⟨n - 1, by omega⟩
  rw [vp16_s]
  have h3 : 1 * 65536 ^ k ≤ g (o + k) * 65536 ^ k := Nat.mul_le_mul_right _ (by have : g (o + (k + 1 - 1)) ≠ 0 := h2; rw [show k + 1 - 1 = k from rfl] at this; omega)
  rw [show k + 1 - 1 = k from rfl]
  omega
/-- a number below 65536 ^ k has at most k places -/
theorem Sl.le {g sz : Nat → Nat} {s v k : Nat} (H : Sl g sz s v) (h : v < 65536 ^ k) : sz s ≤ k := by
  rcases H.2 with z | z
  · omega
  · by_cases y : sz s = 0
    · omega
    · have h1 := vp16_top (by omega) z
      rw [H.1] at h1
      have h2 := Nat.lt_of_le_of_lt h1 h
      have h3 := (Nat.pow_lt_pow_iff_right (show 1 < 65536 by decide)).mp h2
      omega
theorem Sl.other {g g' sz sz' : Nat → Nat} {s v : Nat} (H : Sl g sz s v) (hs : sz s ≤ 1200) (hz : sz' s = sz s) (hg : ∀ i, i < 1200 → g' (1200 * s + i) = g (1200 * s + i)) : Sl g' sz' s v := by
  refine ⟨?_, ?_⟩
  · rw [hz, vp16_cong fun i hi => hg i (by omega)]; exact H.1
  · rw [hz]
    rcases H.2 with z | z
    · exact Or.inl z
    · by_cases y : sz s = 0
      · exact Or.inl y
      · exact Or.inr (by rw [hg _ (by omega)]; exact z)
