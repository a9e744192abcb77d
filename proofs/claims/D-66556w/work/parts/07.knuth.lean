set_option maxRecDepth 100000
/-! shifts by less than a cell -/
theorem shr5 : ∀ s, s < 32 → nI s >>> (nI 5 &&& 31) = nI 0 := by decide +kernel
theorem and31 : ∀ s, s < 32 → nI s &&& nI 31 = nI s := by decide +kernel
theorem lor_sum {u s a : Nat} (h : a < 2 ^ s) (h2 : u * 2 ^ s + a < 2 ^ 64) : lN (u * 2 ^ s) ||| lN a = lN (u * 2 ^ s + a) := by
  rw [wb_or (by omega) (by omega), Nat.mul_comm, ← Nat.two_pow_add_eq_or_of_lt h]
theorem pow_le32 {s : Nat} (h : s < 32) : 2 ^ s ≤ 2147483648 := Nat.pow_le_pow_right (by decide) (show s ≤ 31 by omega)
theorem pow_split {s : Nat} (h : s < 32) : 2 ^ s * 2 ^ (32 - s) = 4294967296 := by rw [← Nat.pow_add, show s + (32 - s) = 32 by omega]
theorem sh_car {c u s : Nat} (hs : s < 32) (hc : c < 2 ^ s) : (c + u * 2 ^ s) / 4294967296 = u * 2 ^ s / 4294967296 := by
  have h := pow_split hs
  rw [← h, ← Nat.div_div_eq_div_mul, ← Nat.div_div_eq_div_mul, Nat.add_mul_div_right _ _ (Nat.two_pow_pos s), Nat.div_eq_of_lt hc, Nat.zero_add, Nat.mul_div_cancel _ (Nat.two_pow_pos s)]
theorem sh_lt {u s : Nat} (hu : u < 4294967296) : u * 2 ^ s / 4294967296 < 2 ^ s := by
  have h1 : u * 2 ^ s < 4294967296 * 2 ^ s := Nat.mul_lt_mul_of_pos_right hu (Nat.two_pow_pos s)
  exact Nat.div_lt_of_lt_mul h1
/-- a row of n cells shifted left by s, cell by cell -/
def slw (f : Nat → Int32) (n s : Nat) : Nat → Int32 := fun k => nI (un (bz f n k) * 2 ^ s + (if k = 0 then 0 else un (bz f n (k - 1)) * 2 ^ s / 4294967296))
theorem slw_bv (f : Nat → Int32) (n : Nat) {s : Nat} (hs : s < 32) : ∀ m, bv (slw f n s) m + (if m = 0 then 0 else un (bz f n (m - 1)) * 2 ^ s / 4294967296) * 4294967296 ^ m = bv (bz f n) m * 2 ^ s := by
  intro m
  induction m with
  | zero => simp [bv]
  | succ m ih =>
    have hc : (if m = 0 then 0 else un (bz f n (m - 1)) * 2 ^ s / 4294967296) < 2 ^ s := by
      split
      · exact Nat.two_pow_pos s
      · exact sh_lt (un_lt _)
    rw [if_neg (by omega), Nat.add_sub_cancel]
    generalize hcd : (if m = 0 then 0 else un (bz f n (m - 1)) * 2 ^ s / 4294967296) = c at hc ih
    have e1 : un (slw f n s m) = (c + un (bz f n m) * 2 ^ s) % 4294967296 := by
      unfold slw
      rw [hcd, un_nI, Nat.add_comm]
    rw [bv_s, e1, bv_s (bz f n), Nat.add_mul, ← ih, ← sh_car hs hc, Nat.pow_succ]
    generalize ht : c + un (bz f n m) * 2 ^ s = t
    have h2 : (t % 4294967296 + 4294967296 * (t / 4294967296)) * 4294967296 ^ m = t * 4294967296 ^ m := by rw [Nat.mod_add_div]
    rw [Nat.add_mul] at h2
    have h3 : t / 4294967296 * (4294967296 ^ m * 4294967296) = 4294967296 * (t / 4294967296) * 4294967296 ^ m := by
      rw [Nat.mul_comm (4294967296 ^ m), ← Nat.mul_assoc, Nat.mul_comm (t / 4294967296)]
    have h4 : t * 4294967296 ^ m = c * 4294967296 ^ m + un (bz f n m) * 4294967296 ^ m * 2 ^ s := by
      rw [← ht, Nat.add_mul, Nat.mul_assoc (un _), Nat.mul_comm (2 ^ s), ← Nat.mul_assoc]
    omega
theorem slw_val (f : Nat → Int32) (n : Nat) {s : Nat} (hs : s < 32) : bv (slw f n s) (n + 1) = bv f n * 2 ^ s := by
  have h := slw_bv f n hs (n + 1)
  rw [if_neg (by omega), Nat.add_sub_cancel, bz_out (Nat.le_refl n), un_0, bz_bv (by omega)] at h
  simpa using h
/-- .. right -/
def srw (f : Nat → Int32) (n s : Nat) : Nat → Int32 := fun k => nI ((un (bz f n (k + 1)) * 4294967296 + un (f k)) / 2 ^ s)
theorem sr_dig {w v R s : Nat} (hs : s < 32) (hw : w < 4294967296) : (w + 4294967296 * (v + 4294967296 * R)) / 2 ^ s = 4294967296 * ((v + 4294967296 * R) / 2 ^ s) + (v * 4294967296 + w) / 2 ^ s % 4294967296 := by
  have h := pow_split hs
  have e1 : (w + 4294967296 * (v + 4294967296 * R)) / 2 ^ s / 4294967296 = (v + 4294967296 * R) / 2 ^ s := by
    rw [Nat.div_div_eq_div_mul, Nat.mul_comm (2 ^ s), ← Nat.div_div_eq_div_mul, Nat.add_mul_div_left _ _ (by decide), Nat.div_eq_of_lt hw, Nat.zero_add]
  have e2 : (w + 4294967296 * (v + 4294967296 * R)) / 2 ^ s % 4294967296 = (v * 4294967296 + w) / 2 ^ s % 4294967296 := by
    have e3 : w + 4294967296 * (v + 4294967296 * R) = (v * 4294967296 + w) + 2 ^ s * (2 ^ (32 - s) * R * 4294967296) := by
      rw [← Nat.mul_assoc, ← Nat.mul_assoc, h, Nat.mul_add, ← Nat.mul_assoc, Nat.mul_comm (4294967296 * R)]
      have : 4294967296 * 4294967296 * R = 4294967296 * (4294967296 * R) := Nat.mul_assoc _ _ _
      omega
    rw [e3, Nat.add_mul_div_left _ _ (Nat.two_pow_pos s), Nat.add_mul_mod_self_right]
  have := Nat.div_add_mod ((w + 4294967296 * (v + 4294967296 * R)) / 2 ^ s) 4294967296
  rw [e1, e2] at this
  exact this.symm
theorem bw_c (f : Nat → Int32) (k n : Nat) : bw f k (n + 1) = un (f k) + 4294967296 * bw f (k + 1) n := by
  have h1 := bv_split (fun i => f (k + i)) 1 n
  unfold bw at *
  rw [show n + 1 = 1 + n by omega, h1]
  have e : (fun i => f (k + (1 + i))) = fun i => f (k + 1 + i) := by funext i; rw [Nat.add_assoc]
  rw [e]
  show 0 + un (f (k + 0)) * 4294967296 ^ 0 + _ * 4294967296 ^ 1 = _
  rw [Nat.add_zero, Nat.mul_comm 4294967296]
  omega
theorem bw_0 (f : Nat → Int32) (k : Nat) : bw f k 0 = 0 := rfl
theorem srw_bw (f : Nat → Int32) (n : Nat) {s : Nat} (hs : s < 32) : ∀ d k, k + d = n → bw (srw f n s) k d = bw f k d / 2 ^ s := by
  intro d
  induction d with
  | zero => intro k _; rw [bw_0, bw_0, Nat.zero_div]
  | succ d ih =>
    intro k hk
    rw [bw_c, bw_c, ih (k + 1) (by omega)]
    have e1 : un (srw f n s k) = (un (bz f n (k + 1)) * 4294967296 + un (f k)) / 2 ^ s % 4294967296 := by unfold srw; rw [un_nI]
    rw [e1]
    cases d with
    | zero =>
      rw [bw_0, bz_out (by omega), un_0]
      have h := sr_dig (v := 0) (R := 0) hs (un_lt (f k))
      simp only [Nat.mul_zero, Nat.add_zero, Nat.zero_mul, Nat.zero_add] at h ⊢
      omega
    | succ d =>
      rw [bw_c f (k + 1), bz_in (by omega)]
      have h := sr_dig (v := un (f (k + 1))) (R := bw f (k + 1 + 1) d) hs (un_lt (f k))
      omega
theorem bw_bv (f : Nat → Int32) (n : Nat) : bw f 0 n = bv f n := by
  unfold bw
  exact bv_cong fun i _ => by rw [Nat.zero_add]
theorem srw_val (f : Nat → Int32) (n : Nat) {s : Nat} (hs : s < 32) : bv (srw f n s) n = bv f n / 2 ^ s := by
  rw [← bw_bv, srw_bw f n hs n 0 (by omega), bw_bv]
/-! Knuth's estimate -/
theorem est_dec {q high next two w2 r V U P V' U' : Nat} (hV : V = (high * 4294967296 + next) * P + V') (hU : U = (two * 4294967296 + w2) * P + U') (hU' : U' < P) (ht : two = q * high + r) (hc : r * 4294967296 + w2 < q * next) : U / V < q := by
  have hP : 0 < P := Nat.lt_of_le_of_lt (Nat.zero_le _) hU'
  rw [Nat.div_lt_iff_lt_mul (by
    rcases Nat.eq_zero_or_pos V with z | z
    · exfalso
      have : (high * 4294967296 + next) * P = 0 := by omega
      rcases Nat.mul_eq_zero.mp this with h | h
      · have hn : next = 0 := by omega
        rw [hn, Nat.mul_zero] at hc
        omega
      · omega
    · exact z)]
  have h1 : two * 4294967296 + w2 + 1 ≤ q * (high * 4294967296 + next) := by
    rw [ht, Nat.mul_add, ← Nat.mul_assoc, Nat.add_mul]
    omega
  have h2 : (two * 4294967296 + w2 + 1) * P ≤ q * (high * 4294967296 + next) * P := Nat.mul_le_mul_right _ h1
  have h3 : q * V = q * (high * 4294967296 + next) * P + q * V' := by rw [hV, Nat.mul_add, Nat.mul_assoc]
  rw [Nat.add_mul] at h2
  omega
theorem est_hi {q high next two w2 r V U P V' U' : Nat} (hV : V = (high * 4294967296 + next) * P + V') (hV' : V' < P) (hU : U = (two * 4294967296 + w2) * P + U') (ht : two = q * high + r) (hh : 2147483648 ≤ high) (hq : q < 4294967296) (hc : q * next ≤ r * 4294967296 + w2) : q ≤ U / V + 1 := by
  have hP : 0 < P := Nat.lt_of_le_of_lt (Nat.zero_le _) hV'
  have hVp : 0 < V := by
    have : 1 * P ≤ (high * 4294967296 + next) * P := Nat.mul_le_mul_right _ (by omega)
    omega
  rcases Nat.lt_or_ge (U / V + 1) q with h | h
  · exfalso
    have h1 : U < (q - 1) * V := (Nat.div_lt_iff_lt_mul hVp).mp (by omega)
    have h2 : (q - 1) * V ≤ (q - 1) * ((high * 4294967296 + next + 1) * P) := Nat.mul_le_mul_left _ (by rw [hV, Nat.add_mul (high * 4294967296 + next)]; omega)
    have h3 : (two * 4294967296 + w2) * P < (q - 1) * (high * 4294967296 + next + 1) * P := by rw [Nat.mul_assoc]; omega
    have h4 : two * 4294967296 + w2 < (q - 1) * (high * 4294967296 + next + 1) := Nat.lt_of_mul_lt_mul_right h3
    have h5 : q * (high * 4294967296 + next) ≤ two * 4294967296 + w2 := by
      rw [ht, Nat.mul_add, ← Nat.mul_assoc, Nat.add_mul]
      omega
    have hq1 : 0 < q := Nat.lt_of_le_of_lt (Nat.zero_le _) h
    obtain ⟨q', rfl⟩ : ∃ q', q = q' + 1 := ⟨q - 1, by omega⟩
    rw [Nat.add_sub_cancel, Nat.mul_add] at h4
    rw [Nat.add_mul] at h5
    omega
  · exact h
theorem est_lo {q high r two V U P V' U' : Nat} (hV : V = high * P + V') (hU : U = two * P + U') (hU' : U' < P) (ht : two = q * high + r) (hr : r < high) : U / V ≤ q := by
  have hP : 0 < P := Nat.lt_of_le_of_lt (Nat.zero_le _) hU'
  have hh : 0 < high := Nat.lt_of_le_of_lt (Nat.zero_le _) hr
  have hVp : 0 < V := by
    have : 1 * P ≤ high * P := Nat.mul_le_mul_right _ hh
    omega
  apply Nat.lt_succ_iff.mp
  rw [Nat.div_lt_iff_lt_mul hVp]
  have h1 : (two + 1) * P ≤ (q + 1) * high * P := Nat.mul_le_mul_right _ (by rw [ht, Nat.add_mul]; omega)
  have h2 : (q + 1) * V = (q + 1) * high * P + (q + 1) * V' := by rw [hV, Nat.mul_add, Nat.mul_assoc]
  rw [Nat.add_mul] at h1
  show U < (q + 1) * V
  omega
