set_option maxRecDepth 100000
/-! numbers in places of 16 bits, in slots of a row -/
/-- the value of n places from o on -/
def vp16 (g : Nat → Nat) (o : Nat) : Nat → Nat
  | 0 => 0
  | n + 1 => vp16 g o n + g (o + n) * 65536 ^ n
theorem vp16_s (g : Nat → Nat) (o n : Nat) : vp16 g o (n + 1) = vp16 g o n + g (o + n) * 65536 ^ n := rfl
theorem vp16_cong {g g' : Nat → Nat} {o : Nat} : ∀ {n : Nat}, (∀ i, i < n → g (o + i) = g' (o + i)) → vp16 g o n = vp16 g' o n := by
  intro n
  induction n with
  | zero => intro _; rfl
  | succ n ih => intro h; rw [vp16_s, vp16_s, ih fun i hi => h i (by omega), h n (by omega)]
theorem vp16_lt {g : Nat → Nat} (hg : ∀ i, g i < 65536) (o : Nat) : ∀ n, vp16 g o n < 65536 ^ n := by
  intro n
  induction n with
  | zero => exact Nat.zero_lt_one
  | succ n ih =>
    rw [vp16_s, Nat.pow_succ]
    have h1 := Nat.mul_le_mul_right (65536 ^ n) (show g (o + n) ≤ 65535 by have := hg (o + n); omega)
    omega
/-- slot s of the row g holds v in n places -/
def Sl (g sz : Nat → Nat) (s v : Nat) : Prop := vp16 g (1200 * s) (sz s) = v ∧ (sz s = 0 ∨ g (1200 * s + (sz s - 1)) ≠ 0)
