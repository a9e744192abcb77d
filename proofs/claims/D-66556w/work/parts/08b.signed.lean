set_option maxRecDepth 100000
/-! signed longs and ints -/
def lZ (z : Int) : Int64 := Int64.ofInt z
def iZ (z : Int) : Int32 := Int32.ofInt z
theorem lN_Z (n : Nat) : lN n = lZ (n : Int) := Int64.ofInt_eq_ofNat.symm
theorem nI_Z (n : Nat) : nI n = iZ (n : Int) := Int32.ofInt_eq_ofNat.symm
theorem zz_add (a b : Int) : lZ a + lZ b = lZ (a + b) := (Int64.ofInt_add a b).symm
theorem zz_sub (a b : Int) : lZ a - lZ b = lZ (a - b) := (Int64.ofInt_sub a b).symm
theorem zz_mul (a b : Int) : lZ a * lZ b = lZ (a * b) := (Int64.ofInt_mul a b).symm
theorem zn_add (a : Int) (b : Nat) : lZ a + lN b = lZ (a + (b : Int)) := by rw [lN_Z, zz_add]
theorem zn_sub (a : Int) (b : Nat) : lZ a - lN b = lZ (a - (b : Int)) := by rw [lN_Z, zz_sub]
theorem zn_mul (a : Int) (b : Nat) : lZ a * lN b = lZ (a * (b : Int)) := by rw [lN_Z, zz_mul]
theorem nz_add (a : Nat) (b : Int) : lN a + lZ b = lZ ((a : Int) + b) := by rw [lN_Z, zz_add]
theorem nz_sub (a : Nat) (b : Int) : lN a - lZ b = lZ ((a : Int) - b) := by rw [lN_Z, zz_sub]
theorem nz_mul (a : Nat) (b : Int) : lN a * lZ b = lZ ((a : Int) * b) := by rw [lN_Z, zz_mul]
theorem nn_sub (a b : Nat) : lN a - lN b = lZ ((a : Int) - (b : Int)) := by rw [lN_Z, lN_Z, zz_sub]
theorem nn_mul (a b : Nat) : lN a * lN b = lZ ((a : Int) * (b : Int)) := by rw [lN_Z, lN_Z, zz_mul]
theorem nn_add (a b : Nat) : lN a + lN b = lZ ((a : Int) + (b : Int)) := by rw [lN_Z, lN_Z, zz_add]
theorem zz_neg (a : Int) : -lZ a = lZ (-a) := (Int64.ofInt_neg a).symm
theorem lZ_toInt {z : Int} (h1 : -9223372036854775808 ≤ z) (h2 : z < 9223372036854775808) : (lZ z).toInt = z := Int64.toInt_ofInt_of_le (by omega) (by omega)
theorem lZ_shr {z : Int} {k : Nat} (h1 : -9223372036854775808 ≤ z) (h2 : z < 9223372036854775808) (hk : (((nI k).toInt64 &&& 63).toBitVec.smod 64).toNat = k) : lZ z >>> ((nI k).toInt64 &&& 63) = lZ (z / 2 ^ k) := by
  apply Int64.toInt_inj.mp
  have e : (lZ z >>> ((nI k).toInt64 &&& 63)).toInt = (lZ z).toInt >>> k := by
    show ((lZ z).toBitVec.sshiftRight (((nI k).toInt64 &&& 63).toBitVec.smod 64).toNat).toInt = _
    rw [hk, BitVec.toInt_sshiftRight]
    rfl
  have hp : (0 : Int) < 2 ^ k := Int.pow_pos (by decide)
  rw [e, lZ_toInt h1 h2, Int.shiftRight_eq_div_pow]
  have h3 : ((2 ^ k : Nat) : Int) = (2 : Int) ^ k := by simp
  rw [h3]
  have h5 : (1 : Int) ≤ 2 ^ k := hp
  rw [lZ_toInt]
  · rcases Int.le_total 0 z with h | h
    · exact Int.le_trans (by decide) (Int.ediv_nonneg h (Int.le_of_lt hp))
    · have : z ≤ z / 2 ^ k := by
        rw [Int.le_ediv_iff_mul_le hp]
        have := Int.mul_le_mul_of_nonpos_left (a := z) h h5
        omega
      omega
  · rcases Int.le_total 0 z with h | h
    · have : z / 2 ^ k ≤ z := Int.ediv_le_self _ h
      omega
    · have : z / 2 ^ k < 1 := Int.ediv_lt_of_lt_mul hp (by omega)
      omega
theorem lZ_i (z : Int) : (lZ z).toInt32 = iZ z := Int64.toInt32_ofInt
theorem lZ_lt {a b : Int} (h1 : -9223372036854775808 ≤ a) (h2 : a < 9223372036854775808) (h3 : -9223372036854775808 ≤ b) (h4 : b < 9223372036854775808) : lZ a < lZ b ↔ a < b := by rw [Int64.lt_iff_toInt_lt, lZ_toInt h1 h2, lZ_toInt h3 h4]
theorem lZ_ltN {a : Int} {b : Nat} (h1 : -9223372036854775808 ≤ a) (h2 : a < 9223372036854775808) (h4 : b < 9223372036854775808) : lZ a < lN b ↔ a < b := by rw [lN_Z, lZ_lt h1 h2 (by omega) (by omega)]
theorem lZ_inj {a b : Int} (h1 : -9223372036854775808 ≤ a) (h2 : a < 9223372036854775808) (h3 : -9223372036854775808 ≤ b) (h4 : b < 9223372036854775808) : lZ a = lZ b ↔ a = b := by
  rw [← Int64.toInt_inj, lZ_toInt h1 h2, lZ_toInt h3 h4]
theorem un_iZ (z : Int) : (un (iZ z) : Int) = z % 4294967296 := by
  show (((BitVec.ofInt 32 z).toNat : Nat) : Int) = _
  rw [BitVec.toNat_ofInt]
  have : 0 ≤ z % ((2 ^ 32 : Nat) : Int) := Int.emod_nonneg _ (by decide)
  omega
theorem un_iZ0 {z : Int} (h1 : 0 ≤ z) (h2 : z < 4294967296) : (un (iZ z) : Int) = z := by rw [un_iZ]; omega
theorem iZ_add (a b : Int) : iZ a + iZ b = iZ (a + b) := (Int32.ofInt_add a b).symm
theorem iZ_sub (a b : Int) : iZ a - iZ b = iZ (a - b) := (Int32.ofInt_sub a b).symm
theorem iZ_N {z : Int} (h : 0 ≤ z) : iZ z = nI z.toNat := by rw [nI_Z, Int.toNat_of_nonneg h]
theorem lZ_N {z : Int} (h : 0 ≤ z) : lZ z = lN z.toNat := by rw [lN_Z, Int.toNat_of_nonneg h]
/-! what divide's taken does -/
theorem bw_s (f : Nat → Int32) (j n : Nat) : bw f j (n + 1) = bw f j n + un (f (j + n)) * 4294967296 ^ n := rfl
theorem bw_cong {f g : Nat → Int32} {j n : Nat} (h : ∀ i, j ≤ i → i < j + n → f i = g i) : bw f j n = bw g j n := bv_cong fun i hi => h (j + i) (by omega) (by omega)
theorem bw_put (g : Nat → Int32) (j k : Nat) (x : Int32) : bw (upd g (j + k) x) j (k + 1) = bw g j k + un x * 4294967296 ^ k := by
  rw [bw_s, pk_us, bw_cong (g := g) (fun i h1 h2 => pk_un (by omega))]
theorem bw_lt (f : Nat → Int32) (j n : Nat) : bw f j n < 4294967296 ^ n := bv_lt _ n
theorem powI (k : Nat) : (((4294967296 ^ k : Nat)) : Int) = (4294967296 : Int) ^ k := by simp
theorem tk_alg (R F D q cy u d z lo ca u1 b1 bo P B : Int) (hz : bo + (u - lo) = z) (h1 : u1 + B * b1 = z) (h2 : lo + B * ca = cy + q * d) (hi : R + bo * P = F - q * D + cy * P) : (R + u1 * P) + b1 * (P * B) = (F + u * P) - q * (D + d * P) + ca * (P * B) := by grind
theorem tk_step {r f g : Nat → Int32} {j k q cy : Nat} {bo : Int} (hr : r (j + k) = f (j + k)) (hi : (bw r j k : Int) + bo * 4294967296 ^ k = bw f j k - q * bv g k + cy * 4294967296 ^ k) :
    (bw (upd r (j + k) (iZ (bo + ((un (r (j + k)) : Int) - ((cy + q * un (g k)) % 4294967296 : Nat))))) j (k + 1) : Int) + (bo + ((un (r (j + k)) : Int) - ((cy + q * un (g k)) % 4294967296 : Nat))) / 4294967296 * 4294967296 ^ (k + 1) = bw f j (k + 1) - q * bv g (k + 1) + ((cy + q * un (g k)) / 4294967296 : Nat) * 4294967296 ^ (k + 1) := by
  rw [bw_put, bw_s, bv_s, hr]
  generalize hz : bo + ((un (f (j + k)) : Int) - ((cy + q * un (g k)) % 4294967296 : Nat)) = z
  have h1 : (un (iZ z) : Int) + 4294967296 * (z / 4294967296) = z := by rw [un_iZ]; exact Int.emod_add_mul_ediv z 4294967296
  have h2 : (((cy + q * un (g k)) % 4294967296 : Nat) : Int) + 4294967296 * (((cy + q * un (g k)) / 4294967296 : Nat) : Int) = (cy : Int) + q * un (g k) := by
    have := congrArg (fun x : Nat => (x : Int)) (Nat.mod_add_div (cy + q * un (g k)) 4294967296)
    simp only [Int.natCast_add, Int.natCast_mul] at this
    exact this
  simp only [Int.natCast_add, Int.natCast_mul, powI, Int.pow_succ] at hi ⊢
  exact tk_alg _ _ _ _ _ _ _ _ _ _ _ _ _ _ _ hz h1 h2 hi
