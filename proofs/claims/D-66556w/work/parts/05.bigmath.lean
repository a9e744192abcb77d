set_option maxRecDepth 100000
/-! numbers in cells of 32 bits -/
def bv (f : Nat → Int32) : Nat → Nat
  | 0 => 0
  | n + 1 => bv f n + un (f n) * 4294967296 ^ n
theorem bv_cong {f g : Nat → Int32} : ∀ {n : Nat}, (∀ i, i < n → f i = g i) → bv f n = bv g n := by
  intro n
  induction n with
  | zero => intro _; rfl
  | succ n ih => intro h; rw [bv, bv, ih (fun i hi => h i (by omega)), h n (by omega)]
theorem bv_upd {f : Nat → Int32} {k n : Nat} {x : Int32} (h : n ≤ k) : bv (upd f k x) n = bv f n := bv_cong fun i hi => pk_un (by omega)
theorem bv_lt (f : Nat → Int32) : ∀ n, bv f n < 4294967296 ^ n := by
  intro n
  induction n with
  | zero => simp [bv]
  | succ n ih =>
    rw [bv, Nat.pow_succ]
    have h1 := un_lt (f n)
    have h2 : un (f n) * 4294967296 ^ n ≤ 4294967295 * 4294967296 ^ n := Nat.mul_le_mul_right _ (by omega)
    have h3 : 4294967296 ^ n * 4294967296 = 4294967295 * 4294967296 ^ n + 4294967296 ^ n := by
      rw [Nat.mul_comm, ← Nat.succ_mul]
    omega
theorem bv_tail {f : Nat → Int32} {k : Nat} : ∀ {n : Nat}, k ≤ n → (∀ i, k ≤ i → i < n → f i = 0) → bv f n = bv f k := by
  intro n
  induction n with
  | zero => intro h _; rw [show k = 0 by omega]
  | succ n ih =>
    intro h hz
    by_cases hk : k = n + 1
    · rw [hk]
    · rw [bv, ih (by omega) (fun i h1 h2 => hz i h1 (by omega)), hz n (by omega) (by omega)]
      show bv f k + 0 * _ = _
      omega
theorem un_0 : un 0 = 0 := rfl
theorem un_ne0 {x : Int32} (h : x ≠ 0) : 0 < un x := Nat.pos_of_ne_zero fun z => h (un_inj (z.trans un_0.symm))
theorem bv_ge {f : Nat → Int32} {n : Nat} (h0 : 0 < n) (h : f (n - 1) ≠ 0) : 4294967296 ^ (n - 1) ≤ bv f n := by
  obtain ⟨m, rfl⟩ : ∃ m, n = m + 1 := ⟨n - 1, by omega⟩
  rw [Nat.add_sub_cancel] at h ⊢
  rw [bv]
  have h1 := un_ne0 h
  have h2 : 1 * 4294967296 ^ m ≤ un (f m) * 4294967296 ^ m := Nat.mul_le_mul_right _ h1
  omega
/-- how many cells a number takes -/
def lm (N : Nat) : Nat := if N = 0 then 0 else Nat.log2 N / 32 + 1
theorem BB_pow (n : Nat) : (4294967296 : Nat) ^ n = 2 ^ (32 * n) := by rw [Nat.pow_mul]
theorem lm_hi (N : Nat) : N < 4294967296 ^ lm N := by
  unfold lm
  by_cases h : N = 0
  · rw [if_pos h, h]; decide
  · rw [if_neg h, BB_pow]
    exact (Nat.log2_lt h).mp (by omega)
theorem lm_lo {N : Nat} (h : N ≠ 0) : 4294967296 ^ (lm N - 1) ≤ N := by
  unfold lm
  rw [if_neg h, Nat.add_sub_cancel, BB_pow]
  exact (Nat.le_log2 h).mp (by omega)
theorem lm_0 : lm 0 = 0 := rfl
theorem lm_pos {N : Nat} (h : N ≠ 0) : 0 < lm N := by unfold lm; rw [if_neg h]; omega
theorem pow_lt_of {a b : Nat} (h : (4294967296 : Nat) ^ a < 4294967296 ^ b) : a < b := (Nat.pow_lt_pow_iff_right (by decide)).mp h
theorem pow_le_of {a b : Nat} (h : a ≤ b) : (4294967296 : Nat) ^ a ≤ 4294967296 ^ b := Nat.pow_le_pow_right (by decide) h
theorem lm_le {N m : Nat} (h : N < 4294967296 ^ m) : lm N ≤ m := by
  by_cases h0 : N = 0
  · rw [h0]; exact Nat.zero_le _
  · have h1 := pow_lt_of (Nat.lt_of_le_of_lt (lm_lo h0) h)
    have := lm_pos h0
    omega
theorem lm_mono {a b : Nat} (h : a ≤ b) : lm a ≤ lm b := lm_le (Nat.lt_of_le_of_lt h (lm_hi b))
theorem lm_of {N n : Nat} (h1 : N < 4294967296 ^ n) (h2 : n = 0 ∨ 4294967296 ^ (n - 1) ≤ N) : n = lm N := by
  have h3 := lm_le h1
  rcases h2 with h2 | h2
  · omega
  · have h4 := pow_lt_of (Nat.lt_of_le_of_lt h2 (lm_hi N))
    omega
theorem lm_bv {f : Nat → Int32} {n : Nat} (h : n = 0 ∨ f (n - 1) ≠ 0) : n = lm (bv f n) := by
  apply lm_of (bv_lt f n)
  rcases h with h | h
  · exact Or.inl h
  · by_cases h0 : n = 0
    · exact Or.inl h0
    · exact Or.inr (bv_ge (by omega) h)
theorem bv_top {f : Nat → Int32} {N : Nat} (h : bv f (lm N) = N) (h0 : N ≠ 0) : f (lm N - 1) ≠ 0 := by
  intro z
  have hp := lm_pos h0
  have h1 : bv f (lm N) = bv f (lm N - 1) := bv_tail (by omega) (fun i h1 h2 => by rw [show i = lm N - 1 by omega]; exact z)
  have h2 := bv_lt f (lm N - 1)
  have h3 := lm_lo h0
  omega
/-- the rows' growth -/
def capr (cap m : Nat) : Nat := if m ≤ cap then cap else max m (2 * cap)
def gc (cap m : Nat) : Nat := if m ≤ cap then 0 else 1
def gs (cap m : Nat) : Nat := if m ≤ cap then 0 else max m (2 * cap)
theorem capr_y {cap m : Nat} (h : m ≤ cap) : capr cap m = cap := if_pos h
theorem capr_n {cap m : Nat} (h : ¬ m ≤ cap) : capr cap m = max m (2 * cap) := if_neg h
theorem gc_y {cap m : Nat} (h : m ≤ cap) : gc cap m = 0 := if_pos h
theorem gc_n {cap m : Nat} (h : ¬ m ≤ cap) : gc cap m = 1 := if_neg h
theorem gs_y {cap m : Nat} (h : m ≤ cap) : gs cap m = 0 := if_pos h
theorem gs_n {cap m : Nat} (h : ¬ m ≤ cap) : gs cap m = max m (2 * cap) := if_neg h
theorem capr_ge (cap m : Nat) : cap ≤ capr cap m ∧ m ≤ capr cap m := by unfold capr; split <;> omega
theorem capr_le {cap m : Nat} (h1 : cap ≤ 256) (h2 : m ≤ 128) : capr cap m ≤ 256 := by unfold capr; split <;> omega
theorem gc_le (cap m : Nat) : gc cap m ≤ 1 := by unfold gc; split <;> omega
theorem gs_le {cap m : Nat} (h1 : cap ≤ 256) (h2 : m ≤ 128) : gs cap m ≤ 256 := by unfold gs; split <;> omega
/-- a Big at b: its row at ca, of cap cells f, n of them in use -/
def BigC (E : GE) (h : HH) (b ca n cap : Nat) (f : Nat → Int32) : Prop := h b = some (.inr (1, [.ref ca, .int (nI n)]), b) ∧ h ca = some (.inl (E.2.1 0, cap, .inl f), b) ∧ n ≤ cap ∧ 8 ≤ cap ∧ cap ≤ 256
/-- a Big at b holds N -/
def Big (E : GE) (h : HH) (b N cap : Nat) : Prop := ∃ (ca : Nat) (f : Nat → Int32), BigC E h b ca (lm N) cap f ∧ bv f (lm N) = N
theorem Fr1.c {E : GE} {h h' : HH} {O : Nat → Prop} (F : Fr O h h') {b ca n cap : Nat} {f : Nat → Int32} (hb : ¬ O b) (B : BigC E h b ca n cap f) : BigC E h' b ca n cap f := ⟨F _ _ B.1 hb, F _ _ B.2.1 hb, B.2.2⟩
theorem Fr1.b {E : GE} {h h' : HH} {O : Nat → Prop} (F : Fr O h h') {b N cap : Nat} (hb : ¬ O b) (B : Big E h b N cap) : Big E h' b N cap := by
  obtain ⟨ca, f, B1, B2⟩ := B
  exact ⟨ca, f, Fr1.c F hb B1, B2⟩
theorem Big.of {E : GE} {h : HH} {b ca n cap N : Nat} {f : Nat → Int32} (B : BigC E h b ca n cap f) (hN : bv f n = N) (hz : n = 0 ∨ f (n - 1) ≠ 0) : Big E h b N cap := by
  have e : n = lm N := by rw [← hN]; exact lm_bv hz
  subst e
  exact ⟨ca, f, B, hN⟩
theorem Big.cap {E : GE} {h : HH} {b N cap : Nat} (B : Big E h b N cap) : lm N ≤ cap ∧ 8 ≤ cap ∧ cap ≤ 256 := by
  obtain ⟨ca, f, B1, -⟩ := B
  exact B1.2.2
