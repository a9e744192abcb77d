set_option maxRecDepth 100000
theorem bv_s (f : Nat → Int32) (n : Nat) : bv f (n + 1) = bv f n + un (f n) * 4294967296 ^ n := rfl
theorem bv_put (g : Nat → Int32) (k : Nat) (x : Int32) : bv (upd g k x) (k + 1) = bv g k + un x * 4294967296 ^ k := by
  rw [bv_s, bv_upd (Nat.le_refl k), pk_us]
theorem bv_pn (g : Nat → Int32) (k t : Nat) : bv (upd g k (nI t)) (k + 1) + t / 4294967296 * 4294967296 ^ (k + 1) = bv g k + t * 4294967296 ^ k := by
  rw [bv_put, un_nI, Nat.pow_succ]
  have h := Nat.mod_add_div t 4294967296
  have h2 : (t % 4294967296 + 4294967296 * (t / 4294967296)) * 4294967296 ^ k = t * 4294967296 ^ k := by rw [h]
  rw [Nat.add_mul] at h2
  have h3 : t / 4294967296 * (4294967296 ^ k * 4294967296) = 4294967296 * (t / 4294967296) * 4294967296 ^ k := by
    rw [Nat.mul_comm (4294967296 ^ k), ← Nat.mul_assoc, Nat.mul_comm (t / 4294967296)]
  omega
theorem times_step {f g : Nat → Int32} {k c v : Nat} (hk : g k = f k) (hi : bv g k + c * 4294967296 ^ k = bv f k * v) : bv (upd g k (nI (c + un (g k) * v))) (k + 1) + (c + un (g k) * v) / 4294967296 * 4294967296 ^ (k + 1) = bv f (k + 1) * v := by
  rw [bv_pn, bv_s, hk, Nat.add_mul, Nat.add_mul]
  have h1 : un (f k) * v * 4294967296 ^ k = un (f k) * 4294967296 ^ k * v := by
    rw [Nat.mul_assoc, Nat.mul_comm v, ← Nat.mul_assoc]
  omega
theorem times_car {c x v : Nat} (hc : c ≤ v) (hx : x < 4294967296) (hv : v < 2147483648) : (c + x * v) / 4294967296 ≤ v ∧ c + x * v < 2 ^ 64 := by
  have h1 : x * v ≤ 4294967295 * v := Nat.mul_le_mul_right _ (by omega)
  omega
/-- add: the carry is 0 or 1 -/
theorem add_step {f g r : Nat → Int32} {k c y : Nat} (hk : r k = f k) (hi : bv r k + c * 4294967296 ^ k = bv f k + bv g k) (hy : y = un (g k)) : bv (upd r k (nI (c + (un (r k) + y)))) (k + 1) + (c + (un (r k) + y)) / 4294967296 * 4294967296 ^ (k + 1) = bv f (k + 1) + bv g (k + 1) := by
  rw [bv_pn, bv_s, bv_s, hk, hy, Nat.add_mul, Nat.add_mul]
  omega
theorem add_car {c x y : Nat} (hc : c ≤ 1) (hx : x < 4294967296) (hy : y < 4294967296) : (c + (x + y)) / 4294967296 ≤ 1 ∧ c + (x + y) < 2 ^ 64 := by omega
/-- what a row holds from i on -/
def bw (f : Nat → Int32) (i : Nat) (n : Nat) : Nat := bv (fun k => f (i + k)) n
theorem bv_split (f : Nat → Int32) (i : Nat) : ∀ n, bv f (i + n) = bv f i + bw f i n * 4294967296 ^ i := by
  intro n
  induction n with
  | zero => simp [bw, bv]
  | succ n ih =>
    rw [show i + (n + 1) = (i + n) + 1 from rfl, bv_s, ih]
    unfold bw
    rw [bv_s, Nat.add_mul, Nat.pow_add, Nat.add_assoc]
    congr 2
    show un (f (i + n)) * (4294967296 ^ i * 4294967296 ^ n) = _
    rw [Nat.mul_comm (4294967296 ^ i), Nat.mul_assoc]
