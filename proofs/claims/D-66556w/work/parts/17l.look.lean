set_option maxRecDepth 100000
/-! what a draw comes to -/
def LI (N : Nat → Nat) (M : Nat → Nat → Nat) (G : Nat → Nat → Int32) : Prop :=
  (N 11 ≠ 0 ∧ N 11 ≤ 5 ∧ N 12 ≤ 1) ∧ (N 0 ≤ 8 ∧ N 2 ≤ 20000 ∧ N 4 ≤ 200) ∧ (1 ≤ N 5 ∧ N 5 < N 6 ∧ N 6 ≤ 1000000) ∧ (1 ≤ N 8 ∧ N 8 < N 7 ∧ N 7 ≤ 1000000) ∧ (N 15 ≤ 64 ∧ 0 < N 14 ∧ N 14 ≤ 16) ∧ (∀ i, i < 8 → M 0 i ≤ 1000000) ∧ (∀ i, i < 8 → M 2 i ≤ 64) ∧ (∀ i, i < N 0 → M 0 i ≤ N 2) ∧ (∀ k, k < N 14 → M 4 k < N 0 ∧ M 5 k < N 0 ∧ M 0 (M 5 k) < M 0 (M 4 k)) ∧ (lm (N 20) ≤ 106 ∧ lm (N 21) ≤ 106) ∧ (N 12 ≠ 1 → ∀ k, k < N 14 → G 2 k = -1 → pA N M k * N 5 < pB N M k * N 6)
/-- the tallies behind a draw of a ballot seen as c -/
def lkM (M : Nat → Nat → Nat) (c : Int32) : Nat → Nat → Nat := if 0 ≤ c.toInt then mu M 2 (nu (M 2) (un c) (M 2 (un c) + 1)) else M
def lk20 (N : Nat → Nat) (M : Nat → Nat → Nat) (r c : Int32) : Nat := if N 12 = 1 then N 20 * cxA N M (N 14) * (bsz M r c (N 14)).2 else N 20
def lk21 (N : Nat → Nat) (M : Nat → Nat → Nat) (r c : Int32) : Nat := if N 12 = 1 then N 21 * cxB N M (N 14) (bsz M r c (N 14)) * N 2 else N 21
def lkg (N : Nat → Nat) (M : Nat → Nat → Nat) (g : Nat → Int32) (c : Int32) (k : Nat) : Int32 := if N 12 = 1 then g k else if g k = -1 ∧ pB N (lkM M c) k * N 6 ≤ pA N (lkM M c) k * N 5 then nI (N 15) else g k
def lkG (N : Nat → Nat) (M : Nat → Nat → Nat) (G : Nat → Nat → Int32) (c : Int32) : Nat → Nat → Int32 := gu G 2 (lkg N M (G 2) c)
/-- 3 sure, 4 full, 1 on -/
def lkst (N : Nat → Nat) (M : Nat → Nat → Nat) (g : Nat → Int32) (r c : Int32) : Nat := if (if N 12 = 1 then lk20 N M r c * N 6 ≤ lk21 N M r c * N 5 else asr (lkg N M g c) (N 14) = 1) then 3 else if N 15 = N 4 then 4 else 1
def lkN (N : Nat → Nat) (M : Nat → Nat → Nat) (g : Nat → Int32) (r c : Int32) : Nat → Nat := nu (nu (nu N 20 (lk20 N M r c)) 21 (lk21 N M r c)) 11 (lkst N M g r c)
theorem lkM_ne {M : Nat → Nat → Nat} {c : Int32} {i : Nat} (h : i ≠ 2) : lkM M c i = M i := by
  unfold lkM
  split
  · rw [mu_n h]
  · rfl
theorem lkM_2 {M : Nat → Nat → Nat} {c : Int32} (h : 0 ≤ c.toInt) : lkM M c 2 = nu (M 2) (un c) (M 2 (un c) + 1) := by
  unfold lkM
  rw [if_pos h, mu_s]
theorem lkM_2n {M : Nat → Nat → Nat} {c : Int32} (h : ¬ 0 ≤ c.toInt) : lkM M c 2 = M 2 := by
  unfold lkM
  rw [if_neg h]
theorem pA_one {N : Nat → Nat} {M : Nat → Nat → Nat} {k : Nat} (h : N 12 = 1) : pA N M k = 1 ∧ pB N M k = 1 := by
  unfold pA pB
  rw [if_pos h, if_pos h]
  exact ⟨rfl, rfl⟩
/-- the numbers of a pair behind a draw -/
theorem pA_hit {N : Nat → Nat} {M : Nat → Nat → Nat} {V : Nat → Nat} {c : Int32} {k : Nat} (h12 : N 12 ≠ 1) (h4 : M 4 k < 8) (h5 : M 5 k < 8) (hne : M 4 k ≠ M 5 k) (hc : c = -2 ∨ c = -1 ∨ ∃ a, a < 8 ∧ c = nI a) (hv : V (19 + 2 * k) = pA N M k ∧ V (20 + 2 * k) = pB N M k) : fA M V c k = pA N (lkM M c) k ∧ fB M V c k = pB N (lkM M c) k := by
  obtain ⟨hv1, hv2⟩ := hv
  have hl0 : lkM M c 0 = M 0 := lkM_ne (by decide)
  have hl4 : lkM M c 4 = M 4 := lkM_ne (by decide)
  have hl5 : lkM M c 5 = M 5 := lkM_ne (by decide)
  unfold fA fB
  rw [hv1, hv2]
  unfold pA pB
  rw [if_neg h12, if_neg h12, if_neg h12, if_neg h12, hl0, hl4, hl5]
  by_cases z : ∃ a, a < 8 ∧ c = nI a
  · obtain ⟨a, ha, rfl⟩ := z
    have hun : un (nI a) = a := un_nI' (by omega)
    have e1 := nI_toInt (n := a) (by omega)
    have hin : ∀ b, b < 8 → (nI a = nI b ↔ a = b) := fun b hb => ⟨fun q => by rw [← un_nI' (n := a) (by omega), q, un_nI' (by omega)], fun q => by rw [q]⟩
    rw [lkM_2 (by omega), hun]
    unfold hit
    simp only [hin _ h4, hin _ h5]
    by_cases y : a = M 4 k
    · rw [if_pos (Or.inl y), if_pos (Or.inl y), y, nu_s, nu_n (Ne.symm hne), Nat.pow_succ]
      refine ⟨?_, ?_⟩
      · rw [Nat.mul_right_comm]
      · rw [show M 2 (M 4 k) + 1 + M 2 (M 5 k) = M 2 (M 4 k) + M 2 (M 5 k) + 1 by omega, Nat.pow_succ]
    · by_cases y2 : a = M 5 k
      · rw [if_pos (Or.inr y2), if_pos (Or.inr y2), y2, nu_s, nu_n hne, Nat.pow_succ]
        refine ⟨?_, ?_⟩
        · rw [Nat.mul_assoc]
        · rw [← Nat.add_assoc, Nat.pow_succ]
      · rw [if_neg (fun q => q.elim y y2), if_neg (fun q => q.elim y y2), nu_n (Ne.symm y), nu_n (Ne.symm y2)]
        exact ⟨rfl, rfl⟩
  · have hc2 : c = -2 ∨ c = -1 := by
      rcases hc with q | q | q
      · exact Or.inl q
      · exact Or.inr q
      · exact absurd q z
    have hcn : ¬ 0 ≤ c.toInt := by rcases hc2 with q | q <;> rw [q] <;> decide
    have hnh : ¬ hit M c k := fun q => by
      rcases q with q | q
      · exact z ⟨_, h4, q⟩
      · exact z ⟨_, h5, q⟩
    rw [if_neg hnh, if_neg hnh, lkM_2n hcn]
    exact ⟨rfl, rfl⟩
theorem hit_dec {N : Nat → Nat} {M : Nat → Nat → Nat} {c : Int32} {k : Nat} (hc : c = -2 ∨ c = -1 ∨ ∃ a, a < 8 ∧ c = nI a) (h4 : M 4 k < 8) (h5 : M 5 k < 8) (hn : ¬ hit M c k) : pA N (lkM M c) k = pA N M k ∧ pB N (lkM M c) k = pB N M k := by
  unfold pA pB
  rw [show lkM M c 0 = M 0 from lkM_ne (by decide), show lkM M c 4 = M 4 from lkM_ne (by decide), show lkM M c 5 = M 5 from lkM_ne (by decide)]
  by_cases z : 0 ≤ c.toInt
  · obtain ⟨a, ha, rfl⟩ : ∃ a, a < 8 ∧ c = nI a := by
      rcases hc with q | q | q
      · rw [q] at z; exact absurd z (by decide)
      · rw [q] at z; exact absurd z (by decide)
      · exact q
    have hun : un (nI a) = a := un_nI' (by omega)
    rw [lkM_2 z, hun, nu_n (fun q => hn (Or.inl (by rw [q]))), nu_n (fun q => hn (Or.inr (by rw [q])))]
    exact ⟨rfl, rfl⟩
  · rw [lkM_2n z]
    exact ⟨rfl, rfl⟩
theorem asr_cong {g g' : Nat → Int32} : ∀ {n : Nat}, (∀ i, i < n → g i = g' i) → asr g n = asr g' n := by
  intro n
  induction n with
  | zero => intro _; rfl
  | succ n ih => intro h; unfold asr; rw [ih fun i hi => h i (by omega), h n (by omega)]
theorem pw_lm {v t : Nat} (h : v < 2097152) : v ^ t < 2097152 ^ t ∨ t = 0 ∨ v = 0 := by
  rcases Nat.eq_zero_or_pos t with z | z
  · exact Or.inr (Or.inl z)
  · exact Or.inl (Nat.pow_lt_pow_left h (by omega))
theorem pw_le {v t : Nat} (h : v ≤ 2097152) (ht : t ≤ 64) : v ^ t ≤ 2097152 ^ 64 := Nat.le_trans (Nat.pow_le_pow_left h t) (Nat.pow_le_pow_right (by decide) ht)
theorem pAB_lm {N : Nat → Nat} {M : Nat → Nat → Nat} {k : Nat} (h0 : ∀ i, i < 8 → M 0 i ≤ 1000000) (h2 : ∀ i, i < 8 → M 2 i ≤ 64) (h4 : M 4 k < 8) (h5 : M 5 k < 8) : lm (pA N M k) ≤ 86 ∧ lm (pB N M k) ≤ 86 := by
  have e : (2097152 : Nat) ^ 64 * 2097152 ^ 64 < 4294967296 ^ 86 := by decide +kernel
  have e2 : (1 : Nat) < 4294967296 ^ 86 := by decide +kernel
  have a1 := h0 _ h4
  have a2 := h0 _ h5
  unfold pA pB
  split
  · exact ⟨lm_le e2, lm_le e2⟩
  · refine ⟨lm_le (Nat.lt_of_le_of_lt (Nat.mul_le_mul (pw_le (by omega) (h2 _ h4)) (pw_le (by omega) (h2 _ h5))) e), lm_le (Nat.lt_of_le_of_lt ?_ e)⟩
    rw [Nat.pow_add]
    exact Nat.mul_le_mul (pw_le (by omega) (h2 _ h4)) (pw_le (by omega) (h2 _ h5))
