set_option maxRecDepth 100000
/-! risks: ways draw by draw -/
section RKD
variable (su : Nat → Nat → Nat) (x y o : Nat)
/-- whether a ballots for the one and b for the other are sure -/
def suN (N : Nat → Nat) (v u a b : Nat) : Nat := if (v + u) ^ (a + b) * N 6 ≤ (2 * v) ^ a * (2 * u) ^ b * N 5 then 1 else 0
/-- one draw more, out of the ways w -/
def nxw (w : Nat → Nat → Nat) (a b : Nat) : Nat := w a b * o + (if 0 < a then w (a - 1) b * x else 0) + (if 0 < b then w a (b - 1) * y else 0)
def wy : Nat → Nat → Nat → Nat
  | 0 => fun a b => if a = 0 ∧ b = 0 then 1 else 0
  | t + 1 => fun a b => if su a b = 0 then nxw x y o (wy t) a b else 0
/-- what becomes sure -/
def tmw (w : Nat → Nat → Nat) (a b : Nat) : Nat := if su a b = 0 then 0 else nxw x y o w a b
def rsw (w : Nat → Nat → Nat) (n a : Nat) : Nat := ksum (tmw su x y o w a) (n + 1 - a)
def smw (n : Nat) : Nat → Nat
  | 0 => 0
  | t + 1 => smw n t * (o + x + y) + ksum (rsw su x y o (wy su x y o t) n) (n + 1)
theorem nxw_le {w : Nat → Nat → Nat} {Z : Nat} (h : ∀ a b, w a b ≤ Z) (a b : Nat) : nxw x y o w a b ≤ Z * (o + x + y) := by
  unfold nxw
  rw [Nat.mul_add, Nat.mul_add]
  have h1 := Nat.mul_le_mul_right o (h a b)
  have h2 : (if 0 < a then w (a - 1) b * x else 0) ≤ Z * x := by
    split
    · exact Nat.mul_le_mul_right x (h _ _)
    · exact Nat.zero_le _
  have h3 : (if 0 < b then w a (b - 1) * y else 0) ≤ Z * y := by
    split
    · exact Nat.mul_le_mul_right y (h _ _)
    · exact Nat.zero_le _
  omega
theorem wy_le : ∀ t a b, wy su x y o t a b ≤ (o + x + y) ^ t := by
  intro t
  induction t with
  | zero =>
    intro a b
    show (if a = 0 ∧ b = 0 then 1 else 0) ≤ 1
    split <;> omega
  | succ t ih =>
    intro a b
    show (if su a b = 0 then nxw x y o (wy su x y o t) a b else 0) ≤ _
    split
    · rw [Nat.pow_succ]; exact nxw_le x y o ih a b
    · exact Nat.zero_le _
theorem tmw_le (t a b : Nat) : tmw su x y o (wy su x y o t) a b ≤ (o + x + y) ^ (t + 1) := by
  unfold tmw
  split
  · exact Nat.zero_le _
  · rw [Nat.pow_succ]; exact nxw_le x y o (wy_le su x y o t) a b
theorem rsw_le (t n a : Nat) : rsw su x y o (wy su x y o t) n a ≤ (n + 1) * (o + x + y) ^ (t + 1) :=
  Nat.le_trans (ksum_le fun b _ => tmw_le su x y o t a b) (Nat.mul_le_mul_right _ (by omega))
theorem smw_le (n : Nat) (hn : n ≤ 30) : ∀ t, smw su x y o n t ≤ 1024 * t * (o + x + y) ^ t := by
  intro t
  induction t with
  | zero => exact Nat.zero_le _
  | succ t ih =>
    show smw su x y o n t * (o + x + y) + ksum (rsw su x y o (wy su x y o t) n) (n + 1) ≤ _
    have h1 := Nat.mul_le_mul_right (o + x + y) ih
    have h2 : ksum (rsw su x y o (wy su x y o t) n) (n + 1) ≤ (n + 1) * ((n + 1) * (o + x + y) ^ (t + 1)) := ksum_le fun a _ => rsw_le su x y o t n a
    rw [← Nat.mul_assoc] at h2
    have h3 : (n + 1) * (n + 1) ≤ 1024 := Nat.le_trans (Nat.mul_le_mul (show n + 1 ≤ 31 by omega) (show n + 1 ≤ 31 by omega)) (by decide)
    have h4 := Nat.mul_le_mul_right ((o + x + y) ^ (t + 1)) h3
    have e1 : 1024 * t * (o + x + y) ^ t * (o + x + y) = 1024 * t * (o + x + y) ^ (t + 1) := by rw [Nat.mul_assoc, ← Nat.pow_succ]
    have e2 : 1024 * (t + 1) * (o + x + y) ^ (t + 1) = 1024 * t * (o + x + y) ^ (t + 1) + 1024 * (o + x + y) ^ (t + 1) := by rw [Nat.mul_add, Nat.mul_one, Nat.add_mul]
    omega
end RKD
theorem pz_le {z t : Nat} (hz : z ≤ 20000) (ht : t ≤ 30) : z ^ t ≤ 20000 ^ 30 := Nat.le_trans (Nat.pow_le_pow_left hz t) (Nat.pow_le_pow_right (by decide) ht)
theorem lm16 {v : Nat} (h : v ≤ 65536 * 20000 ^ 30) : lm v ≤ 16 := lm_le (Nat.lt_of_le_of_lt h (by decide +kernel))
theorem pv_le {v u a b : Nat} (hv : v ≤ 1000000) (hu : u ≤ 1000000) (hab : a + b ≤ 30) : (2 * v) ^ a * (2 * u) ^ b ≤ 2097152 ^ 30 := by
  refine Nat.le_trans (Nat.mul_le_mul (Nat.pow_le_pow_left (show 2 * v ≤ 2097152 by omega) a) (Nat.pow_le_pow_left (show 2 * u ≤ 2097152 by omega) b)) ?_
  rw [← Nat.pow_add]
  exact Nat.pow_le_pow_right (by decide) hab
theorem ps_le {v u a : Nat} (hv : v ≤ 1000000) (hu : u ≤ 1000000) (ha : a ≤ 30) : (v + u) ^ a ≤ 2097152 ^ 30 := Nat.le_trans (Nat.pow_le_pow_left (show v + u ≤ 2097152 by omega) a) (Nat.pow_le_pow_right (by decide) ha)
theorem lm20 {v : Nat} (h : v ≤ 2097152 ^ 30) : lm v ≤ 20 := lm_le (Nat.lt_of_le_of_lt h (by decide +kernel))
theorem suN_le (N : Nat → Nat) (v u a b : Nat) : suN N v u a b ≤ 1 := by unfold suN; split <;> omega
/-- cells that may change: the one at a, and those of owners in O -/
def FrX (a : Nat) (O : Nat → Prop) (h h2 : HH) : Prop := ∀ (q : Nat) (x : HE), h q = some x → q ≠ a → ¬ O x.2 → h2 q = some x
theorem FrX.rf {a : Nat} {O : Nat → Prop} {h : HH} : FrX a O h h := fun _ _ z _ _ => z
theorem FrX.fr {a : Nat} {O : Nat → Prop} {h h1 h2 : HH} (F : FrX a O h h1) (G : Fr O h1 h2) : FrX a O h h2 := fun q x z h3 h4 => G q x (F q x z h3 h4) h4
theorem FrX.up {a o : Nat} {O : Nat → Prop} {h h1 h2 : HH} {e : va_E} (F : FrX a O h h1) (e2 : h2 = hup h1 a (e, o)) : FrX a O h h2 := fun q x z h3 h4 => by rw [e2, hup_n h3]; exact F q x z h3 h4
theorem FrX.tr {a : Nat} {O : Nat → Prop} {h h1 h2 : HH} (F : FrX a O h h1) (G : FrX a O h1 h2) : FrX a O h h2 := fun q x z h3 h4 => G q x (F q x z h3 h4) h3 h4
