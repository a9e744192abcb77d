set_option maxRecDepth 100000
/-! places of 16 bits: laws of the model's great numbers -/
theorem vp16_cong2 {g g' : Nat → Nat} {o o' : Nat} : ∀ {n : Nat}, (∀ i, i < n → g (o + i) = g' (o' + i)) → vp16 g o n = vp16 g' o' n := by
  intro n
  induction n with
  | zero => intro _; rfl
  | succ n ih => intro h; rw [vp16_s, vp16_s, ih fun i hi => h i (by omega), h n (by omega)]
theorem vp16_hi {g : Nat → Nat} {o n : Nat} : ∀ m : Nat, vp16 g o (n + m) = vp16 g o n + vp16 g (o + n) m * 65536 ^ n := by
  intro m
  induction m with
  | zero => show vp16 g o n = vp16 g o n + 0 * _; omega
  | succ m ih => rw [show n + (m + 1) = n + m + 1 from rfl, vp16_s, ih, vp16_s, Nat.add_mul, Nat.mul_assoc, ← Nat.pow_add, Nat.add_comm m n, Nat.add_assoc o n m]; omega
theorem vp16_up {g : Nat → Nat} {o i v n : Nat} (h : ¬ (o ≤ i ∧ i < o + n)) : vp16 (nu g i v) o n = vp16 g o n := vp16_cong fun k hk => nu_n (by omega)
theorem vp16_put {g : Nat → Nat} {o n v : Nat} : vp16 (nu g (o + n) v) o (n + 1) = vp16 g o n + v * 65536 ^ n := by
  rw [vp16_s, vp16_up (by omega), nu_s]
theorem vp16_lex {g g' : Nat → Nat} {o o' i : Nat} (hg : ∀ k, g k < 65536) (hd : g (o + i) < g' (o' + i)) : ∀ {n : Nat}, i < n → (∀ k, i < k → k < n → g (o + k) = g' (o' + k)) → vp16 g o n < vp16 g' o' n := by
  intro n
  induction n with
  | zero => intro h; omega
  | succ n ih =>
    intro h he
    rw [vp16_s, vp16_s]
    by_cases z : i = n
    · subst z
      have h1 := vp16_lt hg o i
      have h2 : (g (o + i) + 1) * 65536 ^ i ≤ g' (o' + i) * 65536 ^ i := Nat.mul_le_mul_right _ hd
      rw [Nat.add_mul] at h2
      omega
    · have h1 := ih (by omega) (fun k a b => he k a (by omega))
      rw [he n (by omega) (by omega)]
      omega
theorem Sl.lt {g sz : Nat → Nat} {s t v w : Nat} (hg : ∀ k, g k < 65536) (A : Sl g sz s v) (B : Sl g sz t w) (h : sz s < sz t) : v < w := by
  have h1 := vp16_lt hg (1200 * s) (sz s)
  rw [A.1] at h1
  rcases B.2 with z | z
  · omega
  · have h2 := vp16_top (by omega) z
    rw [B.1] at h2
    have h3 : 65536 ^ sz s ≤ 65536 ^ (sz t - 1) := Nat.pow_le_pow_right (by decide) (by omega)
    omega
/-- places that lie beyond are nothing -/
def pd (g : Nat → Nat) (o z i : Nat) : Nat := if i < z then g (o + i) else 0
theorem pd_v {g : Nat → Nat} {o z : Nat} : ∀ {n : Nat}, z ≤ n → vp16 (pd g o z) 0 n = vp16 g o z := by
  intro n h
  obtain ⟨m, rfl⟩ : ∃ m, n = z + m := ⟨n - z, by omega⟩
  rw [vp16_hi, vp16_cong2 (g := pd g o z) (g' := g) (o := 0) (o' := o) (n := z) (fun i hi => by unfold pd; rw [Nat.zero_add, if_pos hi])]
  have h0 : ∀ m, vp16 (pd g o z) (0 + z) m = 0 := by
    intro m
    induction m with
    | zero => rfl
    | succ m ih => rw [vp16_s, ih]; unfold pd; rw [if_neg (by omega)]; omega
  rw [h0]; omega
/-- one step of a product -/
theorem t16_step {V v d f cy P : Nat} (h : V + cy * P = f * v) : V + (cy + f * d) % 65536 * P + (cy + f * d) / 65536 * (P * 65536) = f * (v + d * P) := by
  have e := Nat.div_add_mod (cy + f * d) 65536
  have : (cy + f * d) % 65536 * P + (cy + f * d) / 65536 * (P * 65536) = (cy + f * d) * P := by
    rw [Nat.mul_comm P 65536, ← Nat.mul_assoc, ← Nat.add_mul]
    congr 1
    omega
  rw [Nat.mul_add, ← h, Nat.add_assoc V, this, Nat.add_mul, Nat.mul_assoc]; omega
theorem c16_step {V cy P : Nat} : V + cy % 65536 * P + cy / 65536 * (P * 65536) = V + cy * P := by
  have : cy % 65536 * P + cy / 65536 * (P * 65536) = cy * P := by
    rw [Nat.mul_comm P 65536, ← Nat.mul_assoc, ← Nat.add_mul]
    congr 1
    omega
  omega
theorem cy_le {cy f d : Nat} (h1 : cy ≤ f) (h2 : d < 65536) : (cy + f * d) / 65536 ≤ f := by
  have h3 : f * d ≤ f * 65535 := Nat.mul_le_mul_left _ (by omega)
  omega
/-- one step of a sum -/
theorem a16_step {V x y cy P a b : Nat} (h : V + cy * P = x + y) : V + (cy + a + b) % 65536 * P + (cy + a + b) / 65536 * (P * 65536) = (x + a * P) + (y + b * P) := by
  have := @c16_step V (cy + a + b) P
  rw [this, Nat.add_mul, Nat.add_mul]; omega
/-- one step of a difference, without and with a borrow -/
theorem s16_no {V x y cy P a b : Nat} (h2 : V + y = x + cy * P) (hab : b + cy ≤ a) : V + (a - b - cy) * P + (y + b * P) = x + a * P := by
  have e : a * P = (a - b - cy) * P + b * P + cy * P := by rw [← Nat.add_mul, ← Nat.add_mul]; congr 1; omega
  omega
theorem s16_yes {V x y cy P a b : Nat} (h2 : V + y = x + cy * P) (hab : a < b + cy) (hb : b + cy ≤ 65536 + a) : V + (a + 65536 - b - cy) * P + (y + b * P) = x + a * P + 1 * (P * 65536) := by
  have e : (a + 65536) * P = (a + 65536 - b - cy) * P + b * P + cy * P := by rw [← Nat.add_mul, ← Nat.add_mul]; congr 1; omega
  rw [Nat.add_mul] at e
  rw [Nat.mul_comm P 65536]
  omega
theorem ex16 {g : Nat → Nat} {o Y : Nat} : ∀ {n : Nat}, (∀ i, i < n → g (o + i) = Y / 65536 ^ i % 65536) → vp16 g o n = Y % 65536 ^ n := by
  intro n
  induction n with
  | zero => intro _; rw [Nat.pow_zero, Nat.mod_one]; rfl
  | succ n ih => intro h; rw [vp16_s, ih fun i hi => h i (by omega), h n (by omega), Nat.mod_pow_succ, Nat.mul_comm (65536 ^ n)]
theorem vp16_one {g : Nat → Nat} {o : Nat} : vp16 g o 1 = g o := by
  rw [vp16_s, Nat.pow_zero, Nat.mul_one]; show 0 + g o = _; omega
theorem vp16_dn {g : Nat → Nat} {o n : Nat} : vp16 g o (n + 1) = g o + vp16 g (o + 1) n * 65536 := by
  rw [Nat.add_comm n 1, vp16_hi (n := 1) n, vp16_one, Nat.pow_one]
theorem vp16_div {g : Nat → Nat} (hg : ∀ k, g k < 65536) {o n i : Nat} (h : i ≤ n) : vp16 g o n / 65536 ^ i = vp16 g (o + i) (n - i) := by
  obtain ⟨m, rfl⟩ : ∃ m, n = i + m := ⟨n - i, by omega⟩
  rw [vp16_hi, Nat.add_mul_div_right _ _ (Nat.pow_pos (by decide)), Nat.div_eq_of_lt (vp16_lt hg o i), Nat.zero_add, show i + m - i = m by omega]
theorem sh16 {A R b : Nat} (hb : b < 16) : (A + R * 4294967296) / 2 ^ b % 65536 = A / 2 ^ b % 65536 := by
  have e : R * 4294967296 = R * 2 ^ (16 - b) * 65536 * 2 ^ b := by
    have : (4294967296 : Nat) = 2 ^ (16 - b) * 65536 * 2 ^ b := by
      rw [Nat.mul_assoc, Nat.mul_comm 65536, ← Nat.mul_assoc, ← Nat.pow_add, show 16 - b + b = 16 by omega]
    rw [this]; simp only [Nat.mul_assoc]
  rw [e, Nat.add_mul_div_right _ _ (Nat.pow_pos (by decide)), Nat.add_mul_mod_self_right]
/-- the place i of a number that is halved b times -/
theorem hv16 {g : Nat → Nat} (hg : ∀ k, g k < 65536) {o n i b : Nat} (hb : b < 16) (hi : i < n) : vp16 g o n / 2 ^ b / 65536 ^ i % 65536 = (g (o + i) + (if i + 1 < n then g (o + (i + 1)) else 0) * 65536) / 2 ^ b % 65536 := by
  rw [Nat.div_div_eq_div_mul, Nat.mul_comm, ← Nat.div_div_eq_div_mul, vp16_div hg (Nat.le_of_lt hi)]
  obtain ⟨m, e⟩ : ∃ m, n - i = m + 1 := ⟨n - i - 1, by omega⟩
  rw [e, vp16_dn]
  by_cases z : i + 1 < n
  · rw [if_pos z]
    obtain ⟨k, rfl⟩ : ∃ k, m = k + 1 := ⟨m - 1, by omega⟩
    rw [vp16_dn, Nat.add_mul, ← Nat.add_assoc, Nat.mul_assoc, show 65536 * 65536 = 4294967296 from rfl, sh16 hb, show o + i + 1 = o + (i + 1) from rfl]
  · rw [if_neg z]
    have : m = 0 := by omega
    rw [this]; rfl
theorem hv16_v {g g' : Nat → Nat} (hg : ∀ k, g k < 65536) {o o' n b : Nat} (hb : b < 16) (h : ∀ i, i < n → g' (o' + i) = (g (o + i) + (if i + 1 < n then g (o + (i + 1)) else 0) * 65536) / 2 ^ b % 65536) : vp16 g' o' n = vp16 g o n / 2 ^ b := by
  rw [ex16 (Y := vp16 g o n / 2 ^ b) (fun i hi => by rw [hv16 hg hb hi]; exact h i hi)]
  exact Nat.mod_eq_of_lt (Nat.lt_of_le_of_lt (Nat.div_le_self _ _) (vp16_lt hg o n))
/-- what is left behind the twos is odd -/
theorem odd16 {d Y b : Nat} (hb : b < 16) (h0 : d % 2 ^ b = 0) (h1 : d / 2 ^ b % 2 = 1) : (d + Y * 65536) / 2 ^ b * 2 ^ b = d + Y * 65536 ∧ (d + Y * 65536) / 2 ^ b % 2 = 1 := by
  have e : Y * 65536 = Y * 2 ^ (15 - b) * 2 * 2 ^ b := by
    have : (65536 : Nat) = 2 ^ (15 - b) * 2 * 2 ^ b := by
      rw [← Nat.pow_succ, ← Nat.pow_add, show (15 - b).succ + b = 16 by omega]
    rw [this]; simp only [Nat.mul_assoc]
  have h2 := Nat.div_add_mod d (2 ^ b)
  rw [h0, Nat.add_zero, Nat.mul_comm] at h2
  rw [e, Nat.add_mul_div_right _ _ (Nat.pow_pos (by decide))]
  refine ⟨?_, by omega⟩
  rw [Nat.add_mul, h2]
theorem vp16_z {g : Nat → Nat} {o : Nat} : ∀ {n : Nat}, (∀ i, i < n → g (o + i) = 0) → vp16 g o n = 0 := by
  intro n
  induction n with
  | zero => intro _; rfl
  | succ n ih => intro h; rw [vp16_s, ih fun i hi => h i (by omega), h n (by omega), Nat.zero_mul]
theorem vp16_pos {g : Nat → Nat} {o i : Nat} (h : g (o + i) ≠ 0) : ∀ {n : Nat}, i < n → vp16 g o n ≠ 0 := by
  intro n
  induction n with
  | zero => intro h; omega
  | succ n ih =>
    intro hi
    rw [vp16_s]
    by_cases z : i = n
    · subst z
      have := Nat.mul_pos (Nat.pos_of_ne_zero h) (Nat.pow_pos (n := i) (show 0 < 65536 by decide))
      omega
    · have := ih (by omega); omega
theorem halve16 {g g' : Nat → Nat} (hg : ∀ k, g k < 65536) {o z px b : Nat} (hp : px < z) (hz : ∀ i, i < px → g (o + i) = 0) (hb : b < 16) (h0 : g (o + px) % 2 ^ b = 0) (h1 : g (o + px) / 2 ^ b % 2 = 1) (h : ∀ i, i < z - px → g' (o + i) = (g (o + px + i) + (if i + 1 < z - px then g (o + px + (i + 1)) else 0) * 65536) / 2 ^ b % 65536) :
    vp16 g o z = vp16 g' o (z - px) * 2 ^ (16 * px + b) ∧ vp16 g' o (z - px) % 2 = 1 := by
  have e1 := hv16_v hg hb h
  obtain ⟨m, rfl⟩ : ∃ m, z = px + m := ⟨z - px, by omega⟩
  rw [show px + m - px = m by omega] at e1 ⊢
  obtain ⟨k, rfl⟩ : ∃ k, m = k + 1 := ⟨m - 1, by omega⟩
  rw [e1, vp16_hi, vp16_z hz, Nat.zero_add, vp16_dn]
  have := odd16 (Y := vp16 g (o + px + 1) k) hb h0 h1
  refine ⟨?_, this.2⟩
  rw [Nat.pow_add, Nat.mul_comm (2 ^ (16 * px)), ← Nat.mul_assoc, this.1, Nat.pow_mul]
/-! the greatest common divisor by halving -/
theorem odd_cop {y k : Nat} (h : y % 2 = 1) : Nat.Coprime (2 ^ k) y := by
  apply Nat.Coprime.pow_left
  show Nat.gcd 2 y = 1
  rw [Nat.gcd_rec, h]; rfl
theorem gcd_2 {v y k : Nat} (h : y % 2 = 1) : Nat.gcd (v * 2 ^ k) y = Nat.gcd v y := Nat.Coprime.gcd_mul_right_cancel v (odd_cop h)
theorem gcd_2' {v y k : Nat} (h : y % 2 = 1) : Nat.gcd y (v * 2 ^ k) = Nat.gcd y v := by rw [Nat.gcd_comm, gcd_2 h, Nat.gcd_comm]
theorem gcd_l {x y v k : Nat} (hy : y % 2 = 1) (hxy : y ≤ x) (e : x - y = v * 2 ^ k) : Nat.gcd v y = Nat.gcd x y := by
  rw [← gcd_2 (k := k) hy, ← e, Nat.gcd_sub_self_left hxy]
theorem gcd_r {x y v k : Nat} (hx : x % 2 = 1) (hxy : x ≤ y) (e : y - x = v * 2 ^ k) : Nat.gcd x v = Nat.gcd x y := by
  rw [← gcd_2' (k := k) hx, ← e, Nat.gcd_sub_self_right hxy]
theorem gcd_tw {a b v w : Nat} (hv : v % 2 = 1) (hw : w % 2 = 1) : Nat.gcd (v * 2 ^ a) (w * 2 ^ b) = Nat.gcd v w * 2 ^ min a b := by
  rcases Nat.le_total a b with h | h
  · rw [Nat.min_eq_left h]
    obtain ⟨k, rfl⟩ : ∃ k, b = k + a := ⟨b - a, by omega⟩
    rw [Nat.pow_add, ← Nat.mul_assoc, Nat.gcd_mul_right, gcd_2' hv]
  · rw [Nat.min_eq_right h]
    obtain ⟨k, rfl⟩ : ∃ k, a = k + b := ⟨a - b, by omega⟩
    rw [Nat.pow_add, ← Nat.mul_assoc, Nat.gcd_mul_right, gcd_2 hw]
/-! division, place by place -/
theorem qe_ge {T D P hi t lo dl : Nat} (hT : T = lo + hi * P) (hlo : lo < P) (hD : D = dl + t * P) (ht : 0 < t) : T / D ≤ hi / t := by
  have hP : 0 < P := by omega
  have hDp : 0 < D := by rw [hD]; have := Nat.mul_pos ht hP; omega
  rw [Nat.le_div_iff_mul_le ht]
  have h1 : T / D * D ≤ T := Nat.div_mul_le_self _ _
  have h2 : T / D * (t * P) ≤ T / D * D := Nat.mul_le_mul_left _ (by omega)
  have h3 : (T / D * t) * P < (hi + 1) * P := by rw [Nat.mul_assoc, Nat.add_mul]; omega
  have := Nat.lt_of_mul_lt_mul_right h3
  omega
theorem q_top {T D q : Nat} (hD : 0 < D) (h1 : q * D ≤ T) (h2 : T < (q + 1) * D) : q = T / D := by
  have := Nat.div_eq_of_lt_le h1 h2
  exact this.symm
theorem dv_step {g g' : Nat → Nat} {os o2 n j k D X q : Nat} (hX : X = vp16 g o2 (j + 1 + n) + D * vp16 g (os + (j + 1)) k * 65536 ^ (j + 1)) (hlow : ∀ i, i < j → g' (o2 + i) = g (o2 + i)) (hT : vp16 g (o2 + j) (n + 1) = vp16 g' (o2 + j) n + q * D) (hq : g' (os + j) = q) (hup : ∀ i, i < k → g' (os + (j + 1) + i) = g (os + (j + 1) + i)) : X = vp16 g' o2 (j + n) + D * vp16 g' (os + j) (k + 1) * 65536 ^ j := by
  rw [hX, show j + 1 + n = j + (n + 1) by omega, vp16_hi, hT, vp16_hi (g := g'), vp16_dn, hq, vp16_cong hlow, show os + j + 1 = os + (j + 1) from rfl, vp16_cong hup, Nat.pow_succ]
  simp only [Nat.add_mul, Nat.mul_add]
  have e1 : D * vp16 g (os + (j + 1)) k * (65536 ^ j * 65536) = D * (vp16 g (os + (j + 1)) k * 65536) * 65536 ^ j := by simp only [Nat.mul_assoc]; rw [Nat.mul_comm 65536 (65536 ^ j)]
  have e2 : q * D * 65536 ^ j = D * q * 65536 ^ j := by rw [Nat.mul_comm q D]
  omega
theorem dv_end {X D R Q : Nat} (h : X = R + D * Q) (hR : R < D) : Q = X / D := by
  rw [h, Nat.add_mul_div_left _ _ (by omega), Nat.div_eq_of_lt hR, Nat.zero_add]
/-- a place of a difference with a product -/
theorem rs16 {a x bo : Nat} (ha : a < 65536) (hx : x + bo ≤ 65535 * 65536) {r : Int} (hr : r = (a : Int) - (x : Int) - (bo : Int)) : (r % 65536).toNat < 65536 ∧ (r % 65536).toNat + x + bo = a + 65536 * (-(r / 65536)).toNat ∧ (-(r / 65536)).toNat ≤ 65535 ∧ ((-(r / 65536)).toNat : Int) = -(r / 65536) := by omega
theorem ws_step {V v w d q bo bo2 P a pl : Nat} (h : V + q * v = w + bo * P) (e : pl + q * d + bo = a + 65536 * bo2) : V + pl * P + q * (v + d * P) = w + a * P + bo2 * (P * 65536) := by
  have e2 : pl * P + q * d * P + bo * P = a * P + bo2 * (P * 65536) := by rw [← Nat.add_mul, ← Nat.add_mul, e, Nat.add_mul, Nat.mul_comm 65536 bo2, Nat.mul_assoc, Nat.mul_comm 65536 P]
  rw [Nat.mul_add, ← Nat.mul_assoc]
  omega
/-- the estimate is never too low -/
theorem q0_ge {g d : Nat → Nat} (hg : ∀ k, g k < 65536) {o o1 n : Nat} (hn : 0 < n) (ht : 32768 ≤ d (o1 + (n - 1))) (hT : vp16 g (o + 1) n < vp16 d o1 n) : vp16 g o (n + 1) < (min ((g (o + n) * 65536 + g (o + n - 1)) / d (o1 + (n - 1))) 65535 + 1) * vp16 d o1 n := by
  obtain ⟨k, rfl⟩ : ∃ k, n = k + 1 := ⟨n - 1, by omega⟩
  have hD : 0 < vp16 d o1 (k + 1) := by omega
  have h1 : vp16 g o (k + 1 + 1) = vp16 g o k + (g (o + (k + 1)) * 65536 + g (o + (k + 1) - 1)) * 65536 ^ k := by
    rw [vp16_s, vp16_s, Nat.pow_succ, Nat.add_mul, show o + (k + 1) - 1 = o + k by omega]
    have : g (o + (k + 1)) * (65536 ^ k * 65536) = g (o + (k + 1)) * 65536 * 65536 ^ k := by rw [Nat.mul_assoc, Nat.mul_comm (65536 ^ k)]
    omega
  have h2 : vp16 g o (k + 1 + 1) / vp16 d o1 (k + 1) ≤ (g (o + (k + 1)) * 65536 + g (o + (k + 1) - 1)) / d (o1 + (k + 1 - 1)) := qe_ge h1 (vp16_lt hg o k) (vp16_s d o1 k) (by omega)
  have h3 : vp16 g o (k + 1 + 1) / vp16 d o1 (k + 1) ≤ 65535 := by
    have : vp16 g o (k + 1 + 1) < 65536 * vp16 d o1 (k + 1) := by
      rw [vp16_dn]
      have := hg o
      omega
    have := Nat.div_lt_of_lt_mul (Nat.mul_comm _ _ ▸ this)
    omega
  rw [← Nat.div_lt_iff_lt_mul hD]
  omega
