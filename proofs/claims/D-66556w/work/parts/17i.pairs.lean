set_option maxRecDepth 100000
/-! who wins, and the pairs -/
theorem ksum_s (f : Nat → Nat) (n : Nat) : ksum f (n + 1) = ksum f n + f n := rfl
theorem ksum_0 (f : Nat → Nat) : ksum f 0 = 0 := rfl
theorem ksum_cong {f g : Nat → Nat} : ∀ {n : Nat}, (∀ i, i < n → f i = g i) → ksum f n = ksum g n := by
  intro n
  induction n with
  | zero => intro _; rfl
  | succ n ih => intro h; rw [ksum_s, ksum_s, ih fun i hi => h i (by omega), h n (by omega)]
theorem ksum_mono {f g : Nat → Nat} : ∀ {n : Nat}, (∀ i, i < n → f i ≤ g i) → ksum f n ≤ ksum g n := by
  intro n
  induction n with
  | zero => intro _; exact Nat.le_refl _
  | succ n ih => intro h; rw [ksum_s, ksum_s]; have := ih fun i hi => h i (by omega); have := h n (by omega); omega
theorem ksum_add {f g : Nat → Nat} : ∀ n : Nat, ksum (fun i => f i + g i) n = ksum f n + ksum g n := by
  intro n
  induction n with
  | zero => rfl
  | succ n ih => rw [ksum_s, ksum_s, ksum_s, ih]; omega
theorem ksum_one : ∀ n : Nat, ksum (fun _ => 1) n = n := by
  intro n
  induction n with
  | zero => rfl
  | succ n ih => rw [ksum_s, ih]
theorem ksum_mem {f : Nat → Nat} {i : Nat} : ∀ {n : Nat}, i < n → f i ≤ ksum f n := by
  intro n
  induction n with
  | zero => intro h; exact absurd h (by omega)
  | succ n ih =>
    intro h
    rw [ksum_s]
    rcases Nat.lt_or_ge i n with z | z
    · have := ih z; omega
    · rw [show i = n by omega]; omega
theorem ksum_up (f : Nat → Nat) {a b : Nat} (h : a ≤ b) : ksum f a ≤ ksum f b := by
  induction b with
  | zero => rw [show a = 0 by omega]; exact Nat.le_refl _
  | succ b ih =>
    rcases Nat.lt_or_ge a (b + 1) with z | z
    · rw [ksum_s]; have := ih (by omega); omega
    · rw [show a = b + 1 by omega]; exact Nat.le_refl _
/-- how many have more, how many have as many -/
def mr (M : Nat → Nat → Nat) (n c : Nat) : Nat := ksum (fun d => if M 0 c < M 0 d then 1 else 0) n
def al (M : Nat → Nat → Nat) (n c : Nat) : Nat := ksum (fun d => if M 0 d = M 0 c then 1 else 0) n
def wn (N : Nat → Nat) (M : Nat → Nat → Nat) (c : Nat) : Nat := if mr M (N 0) c + al M (N 0) c ≤ N 3 then 1 else 0
theorem wn_le (N : Nat → Nat) (M : Nat → Nat → Nat) (c : Nat) : wn N M c ≤ 1 := by unfold wn; split <;> omega
def gdn (N : Nat → Nat) (M : Nat → Nat → Nat) : Nat → Nat
  | 0 => 1
  | c + 1 => if gdn N M c = 1 ∧ M 0 c ≤ N 2 then 1 else 0
theorem gdn_le (N : Nat → Nat) (M : Nat → Nat → Nat) : ∀ c, gdn N M c ≤ 1 := by
  intro c
  cases c with
  | zero => exact Nat.le_refl _
  | succ c => unfold gdn; split <;> omega
theorem gdn_iff (N : Nat → Nat) (M : Nat → Nat → Nat) : ∀ c, gdn N M c = 1 ↔ ∀ i, i < c → M 0 i ≤ N 2 := by
  intro c
  induction c with
  | zero => exact ⟨fun _ i hi => absurd hi (by omega), fun _ => rfl⟩
  | succ c ih =>
    have e : gdn N M (c + 1) = if gdn N M c = 1 ∧ M 0 c ≤ N 2 then 1 else 0 := rfl
    rw [e]
    constructor
    · intro z
      by_cases q : gdn N M c = 1 ∧ M 0 c ≤ N 2
      · intro i hi
        rcases Nat.lt_or_ge i c with y | y
        · exact ih.mp q.1 i y
        · rw [show i = c by omega]; exact q.2
      · rw [if_neg q] at z; exact absurd z (by decide)
    · intro z
      rw [if_pos ⟨ih.mpr fun i hi => z i (by omega), z c (by omega)⟩]
def fw (N : Nat → Nat) (M : Nat → Nat → Nat) : Nat := if 2 ≤ N 0 ∧ N 3 < N 0 ∧ gdn N M (N 0) = 1 ∧ ksum (wn N M) (N 0) = N 3 then 1 else 0
theorem nz01 {x : Nat} (h : x ≤ 1) : nI x = 0 ∨ nI x = 1 := by
  rcases (show x = 0 ∨ x = 1 by omega) with z | z <;> rw [z]
  · exact Or.inl rfl
  · exact Or.inr rfl
theorem gdn_and {N : Nat → Nat} {M : Nat → Nat → Nat} {c x : Nat} (h2 : x ≤ 1) (h3 : x = 1 ↔ M 0 c ≤ N 2) : nI (gdn N M c) &&& nI x = nI (gdn N M (c + 1)) := by
  have e : gdn N M (c + 1) = if gdn N M c = 1 ∧ M 0 c ≤ N 2 then 1 else 0 := rfl
  have h1 := gdn_le N M c
  rw [e]
  simp only [← h3]
  rcases (show gdn N M c = 0 ∨ gdn N M c = 1 by omega) with z | z <;> rcases (show x = 0 ∨ x = 1 by omega) with y | y <;> rw [z, y] <;> decide
/-- the pairs: their number, winners and losers, place by place -/
def pcn (w : Nat → Nat) (n : Nat) : Nat → Nat
  | 0 => 0
  | t + 1 => pcn w n t + if w (t / n) ≠ 0 ∧ w (t % n) = 0 then 1 else 0
def pwF (w : Nat → Nat) (n : Nat) : Nat → Nat → Nat
  | 0 => fun _ => 0
  | t + 1 => if w (t / n) ≠ 0 ∧ w (t % n) = 0 then nu (pwF w n t) (pcn w n t) (t / n) else pwF w n t
def plF (w : Nat → Nat) (n : Nat) : Nat → Nat → Nat
  | 0 => fun _ => 0
  | t + 1 => if w (t / n) ≠ 0 ∧ w (t % n) = 0 then nu (plF w n t) (pcn w n t) (t % n) else plF w n t
theorem dm_div {a b n : Nat} (h : b < n) : (a * n + b) / n = a := by
  rw [Nat.mul_comm, Nat.mul_add_div (by omega), Nat.div_eq_of_lt h, Nat.add_zero]
theorem dm_mod {a b n : Nat} (h : b < n) : (a * n + b) % n = b := by
  rw [Nat.mul_comm, Nat.mul_add_mod, Nat.mod_eq_of_lt h]
theorem pcn_y {w : Nat → Nat} {n a b : Nat} (h : b < n) (h1 : w a ≠ 0) (h2 : w b = 0) : pcn w n (a * n + b + 1) = pcn w n (a * n + b) + 1 ∧ pwF w n (a * n + b + 1) = nu (pwF w n (a * n + b)) (pcn w n (a * n + b)) a ∧ plF w n (a * n + b + 1) = nu (plF w n (a * n + b)) (pcn w n (a * n + b)) b := by
  refine ⟨?_, ?_, ?_⟩
  · rw [pcn, dm_div h, dm_mod h, if_pos ⟨h1, h2⟩]
  · rw [pwF, dm_div h, dm_mod h, if_pos ⟨h1, h2⟩]
  · rw [plF, dm_div h, dm_mod h, if_pos ⟨h1, h2⟩]
theorem pcn_n {w : Nat → Nat} {n a b : Nat} (h : b < n) (h1 : ¬ (w a ≠ 0 ∧ w b = 0)) : pcn w n (a * n + b + 1) = pcn w n (a * n + b) ∧ pwF w n (a * n + b + 1) = pwF w n (a * n + b) ∧ plF w n (a * n + b + 1) = plF w n (a * n + b) := by
  refine ⟨?_, ?_, ?_⟩
  · rw [pcn, dm_div h, dm_mod h, if_neg h1]; rfl
  · rw [pwF, dm_div h, dm_mod h, if_neg h1]
  · rw [plF, dm_div h, dm_mod h, if_neg h1]
theorem pcn_mono {w : Nat → Nat} {n s t : Nat} (h : s ≤ t) : pcn w n s ≤ pcn w n t := by
  induction t with
  | zero => rw [show s = 0 by omega]; exact Nat.le_refl _
  | succ t ih =>
    rcases Nat.lt_or_ge s (t + 1) with z | z
    · have := ih (by omega)
      rw [pcn]
      omega
    · rw [show s = t + 1 by omega]; exact Nat.le_refl _
theorem pcn_row {w : Nat → Nat} {n a : Nat} : ∀ {b : Nat}, b ≤ n → pcn w n (a * n + b) = pcn w n (a * n) + if w a ≠ 0 then ksum (fun i => if w i = 0 then 1 else 0) b else 0 := by
  intro b
  induction b with
  | zero => intro _; rw [ksum_0]; split <;> rfl
  | succ b ih =>
    intro hb
    have h1 := ih (by omega)
    by_cases z : w a ≠ 0 ∧ w b = 0
    · rw [show a * n + (b + 1) = a * n + b + 1 from rfl, (pcn_y (by omega) z.1 z.2).1, h1, if_pos z.1, if_pos z.1, ksum_s, if_pos z.2]; omega
    · rw [show a * n + (b + 1) = a * n + b + 1 from rfl, (pcn_n (by omega) z).1, h1]
      by_cases y : w a ≠ 0
      · rw [if_pos y, if_pos y, ksum_s, if_neg (fun q => z ⟨y, q⟩)]; rfl
      · rw [if_neg y, if_neg y]
theorem pcn_tot {w : Nat → Nat} {n : Nat} : ∀ a : Nat, pcn w n (a * n) = ksum (fun i => if w i ≠ 0 then 1 else 0) a * ksum (fun i => if w i = 0 then 1 else 0) n := by
  intro a
  induction a with
  | zero => rw [Nat.zero_mul, ksum_0, Nat.zero_mul]; rfl
  | succ a ih =>
    rw [Nat.succ_mul, pcn_row (Nat.le_refl n), ih, ksum_s, Nat.add_mul]
    split
    · rw [Nat.one_mul]
    · rw [Nat.zero_mul]
theorem pcn_oz (w : Nat → Nat) : ∀ n : Nat, ksum (fun i => if w i ≠ 0 then 1 else 0) n + ksum (fun i => if w i = 0 then 1 else 0) n = n := by
  intro n
  rw [← ksum_add]
  rw [show ksum (fun i => (if w i ≠ 0 then 1 else 0) + if w i = 0 then 1 else 0) n = ksum (fun _ => 1) n from ksum_cong fun i _ => by by_cases z : w i = 0 <;> simp [z]]
  exact ksum_one n
theorem pr16 : ∀ o, o ≤ 8 → ∀ z, z ≤ 8 → o + z ≤ 8 → o * z ≤ 16 := by decide
theorem pcn_16 {w : Nat → Nat} {n : Nat} (hn : n ≤ 8) : pcn w n (n * n) ≤ 16 := by
  rw [pcn_tot]
  have := pcn_oz w n
  exact pr16 _ (by omega) _ (by omega) (by omega)
theorem pcn_lt {w : Nat → Nat} {n a b : Nat} (hn : n ≤ 8) (ha : a < n) (hb : b < n) (h1 : w a ≠ 0) (h2 : w b = 0) : pcn w n (a * n + b) < 16 := by
  have h3 := (pcn_y (n := n) hb h1 h2).1
  have h4 : a * n + b + 1 ≤ n * n := by
    have h5 := Nat.mul_le_mul_right n (show a + 1 ≤ n by omega)
    rw [Nat.succ_mul] at h5
    omega
  have h5 := pcn_mono (w := w) (n := n) h4
  have := pcn_16 (w := w) hn
  omega
/-- what the pairs are -/
theorem pairs_ok {w : Nat → Nat} {n : Nat} : ∀ {t : Nat}, t ≤ n * n → ∀ k, k < pcn w n t → pwF w n t k < n ∧ plF w n t k < n ∧ w (pwF w n t k) ≠ 0 ∧ w (plF w n t k) = 0 := by
  intro t
  induction t with
  | zero => intro _ k hk; exact absurd hk (by unfold pcn; omega)
  | succ t ih =>
    intro ht k hk
    have hn : 0 < n := Nat.pos_of_ne_zero fun z => by rw [z] at ht; omega
    by_cases z : w (t / n) ≠ 0 ∧ w (t % n) = 0
    · rw [pwF, plF, if_pos z, if_pos z]
      rw [pcn, if_pos z] at hk
      by_cases y : k = pcn w n t
      · rw [y, nu_s, nu_s]
        exact ⟨Nat.div_lt_of_lt_mul (by omega), Nat.mod_lt _ hn, z.1, z.2⟩
      · rw [nu_n y, nu_n y]
        exact ih (by omega) k (by omega)
    · rw [pwF, plF, if_neg z, if_neg z]
      rw [pcn, if_neg z] at hk
      exact ih (by omega) k hk
