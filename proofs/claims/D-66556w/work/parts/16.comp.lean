set_option maxRecDepth 100000
/-! the class's state: N numbers, M rows of naturals, G rows of ints (see NOTES) -/
def mu (M : Nat → Nat → Nat) (i : Nat) (g : Nat → Nat) : Nat → Nat → Nat := fun j => if j = i then g else M j
def gu (G : Nat → Nat → Int32) (i : Nat) (g : Nat → Int32) : Nat → Nat → Int32 := fun j => if j = i then g else G j
def nI1 (f : Nat → Nat) : Nat → Int32 := fun i => nI (f i)
/-- where things lie -/
def Lay (L B : Nat → Nat) : Prop := (∀ i j, i < 128 → j < 128 → i ≠ j → L i ≠ L j) ∧ (∀ i j, i < NB → j < 128 → B i ≠ L j)
def CO (L B : Nat → Nat) : Nat → Prop := fun o => o = L 0 ∨ o = L 24 ∨ o = L 26 ∨ o = L 27 ∨ o = L 62 ∨ BO B o
def Ma (E : GE) (h : HH) (L B N : Nat → Nat) (p : Nat) (f : Nat → Nat → Int32) : Prop := h (L 0) = some (.inr (0, [.ref (L 1), .int (nI (N 0)), .ref (L 3), .int (nI (N 1)), .int (nI (N 2)), .int (nI (N 3)), .int (nI (N 4)), .int (nI (N 5)), .int (nI (N 6)), .int (nI (N 7)), .int (nI (N 8)), .ref (L 12), .ref (L 13), .ref (L 14), .ref (L 15), .ref (L 16), .ref (L 17), .int (nI (N 11)), .int (nI (N 15)), .int (nI (N 16)), .int (nI (N 17)), .int (nI (N 18) - 1), .int (nI (N 19)), .ref (L 24), .int (nI p), .ref (L 26), .ref (L 27), .ref (if N 13 = 1 then L 27 else L 26), .ref (L 29), .ref (L 30), .ref (if N 12 = 1 then L 30 else L 29), .ref (L 32), .ref (B 0), .ref (B 1), .ref (B 2), .ref (B 3), .ref (L 37), .ref (L 38), .ref (L 39), .ref (B 4), .ref (B 5)]), L 0) ∧ h (L 1) = some (.inl (E.2.1 0, 8, .inl (f 1)), L 0) ∧ h (L 3) = some (.inl (E.2.1 0, 64, .inl (f 3)), L 0) ∧ h (L 12) = some (.inl (E.2.1 1, 20000, .inl (f 12)), L 0) ∧ h (L 13) = some (.inl (E.2.1 1, 20000, .inl (f 13)), L 0) ∧ h (L 14) = some (.inl (E.2.1 2, 20000, .inl (f 14)), L 0) ∧ h (L 15) = some (.inl (E.2.1 3, 8, .inl (f 15)), L 0) ∧ h (L 16) = some (.inl (E.2.1 0, 8, .inl (f 16)), L 0) ∧ h (L 17) = some (.inl (E.2.1 0, 8, .inl (f 17)), L 0) ∧ h (L 39) = some (.inl (E.2.1 3, 961, .inl (f 39)), L 0)
/-- what never changes -/
def Stt (E : GE) (L B : Nat → Nat) (h : HH) : Prop := h (L 24) = some (.inl (E.2.1 6, 16, .inr (.inr (.inr (.inr (fun k => some (L (70 + k))))))), L 30) ∧ h (L 37) = some (.inl (E.2.1 5, 961, .inr (.inr (.inr (.inr (fun k => some (B (51 + k))))))), L 30) ∧ h (L 38) = some (.inl (E.2.1 5, 961, .inr (.inr (.inr (.inr (fun k => some (B (1012 + k))))))), L 30) ∧
  h (L 29) = some (.inr (5, [.ref (L 0)]), L 30) ∧ h (L 30) = some (.inr (6, [.ref (L 0), .ref (B 6), .ref (B 7)]), L 30) ∧ h (L 32) = some (.inr (7, [.ref (B 8), .ref (B 9), .ref (B 10), .ref (B 11), .ref (B 12), .ref (B 13), .ref (B 14), .ref (B 15), .ref (B 16), .ref (B 17), .ref (B 18)]), L 30)
theorem Stt.kept {E : GE} {L B : Nat → Nat} {h h2 : HH} {O : Nat → Prop} (F : Fr O h h2) (hO : ¬ O (L 30)) (H : Stt E L B h) : Stt E L B h2 := ⟨F _ _ H.1 hO, F _ _ H.2.1 hO, F _ _ H.2.2.1 hO, F _ _ H.2.2.2.1 hO, F _ _ H.2.2.2.2.1 hO, F _ _ H.2.2.2.2.2 hO⟩
def Prs (L B : Nat → Nat) (pw pl ps : Nat → Int32) (h : HH) : Prop := ∀ k, k < 16 → h (L (70 + k)) = some (.inr (8, [.int (pw k), .int (pl k), .int (ps k), .ref (B (19 + 2 * k)), .ref (B (20 + 2 * k))]), L 24)
theorem Prs.kept {L B : Nat → Nat} {pw pl ps : Nat → Int32} {h h2 : HH} {O : Nat → Prop} (F : Fr O h h2) (hO : ¬ O (L 24)) (H : Prs L B pw pl ps h) : Prs L B pw pl ps h2 := fun k hk => F _ _ (H k hk) hO
theorem Cns.kept {E : GE} {L : Nat → Nat} {q : Nat → Int32} {n : Nat} {h h2 : HH} {O : Nat → Prop} (F : Fr O h h2) (hO : ¬ O (L 26)) (H : Cns h E L q n) : Cns h2 E L q n := by
  obtain ⟨fi, row, h1, h2, h3⟩ := H
  exact ⟨fi, row, F _ _ h1 hO, F _ _ h2 hO, h3⟩
theorem Sds.kept {E : GE} {L : Nat → Nat} {q : Nat → Int32} {n : Nat} {h h2 : HH} {O : Nat → Prop} (F : Fr O h h2) (hO : ¬ O (L 27)) (H : Sds h E L q n) : Sds h2 E L q n := by
  obtain ⟨fg, h1, h2, h3⟩ := H
  exact ⟨fg, F _ _ h1 hO, F _ _ h2 hO, h3⟩
theorem Dgo.kept {E : GE} {L : Nat → Nat} {rs : Nat → Int32} {h h2 : HH} {O : Nat → Prop} (F : Fr O h h2) (hO : ¬ O (L 62)) (H : Dgo h E L rs) : Dgo h2 E L rs := by
  obtain ⟨n, a, b, c, h1, h2, h3, h4, h5⟩ := H
  exact ⟨n, a, b, c, F _ _ h1 hO, F _ _ h2 hO, F _ _ h3 hO, F _ _ h4 hO, F _ _ h5 hO⟩
/-- the rows of the class's own object -/
def Rl (f : Nat → Nat → Int32) (p : Nat) (N : Nat → Nat) (M : Nat → Nat → Nat) (G : Nat → Nat → Int32) : Prop :=
  (∀ i, i < 8 → f 1 i = nI (M 0 i)) ∧ (∀ i, i < N 1 → f 3 i = nI (M 1 i)) ∧ (∀ i, i < 20000 → f 12 i = G 0 i) ∧ (∀ i, i < 20000 → f 13 i = G 1 i) ∧ (∀ i, i < 20000 → f 14 i = nI (M 3 i)) ∧ (N 11 ≠ 0 → ∀ i, i < N 0 → f 15 i = nI (M 7 i)) ∧ (∀ i, i < 8 → f 16 i = nI (M 2 i)) ∧ (∀ i, i < 8 → f 17 i = G 3 i) ∧ (N 11 ≠ 0 → p = N 14) ∧ p ≤ 16
/-- a pair's numbers above and below the line -/
def pA (N : Nat → Nat) (M : Nat → Nat → Nat) (k : Nat) : Nat := if N 12 = 1 then 1 else (2 * M 0 (M 4 k)) ^ M 2 (M 4 k) * (2 * M 0 (M 5 k)) ^ M 2 (M 5 k)
def pB (N : Nat → Nat) (M : Nat → Nat → Nat) (k : Nat) : Nat := if N 12 = 1 then 1 else (M 0 (M 4 k) + M 0 (M 5 k)) ^ (M 2 (M 4 k) + M 2 (M 5 k))
/-- the great numbers, and the pairs -/
def Vr (V : Nat → Nat) (pw pl ps : Nat → Int32) (N : Nat → Nat) (M : Nat → Nat → Nat) (G : Nat → Nat → Int32) : Prop :=
  V 2 = N 22 ∧ V 3 = N 23 ∧ (N 11 ≠ 0 → N 12 = 1 → V 6 = N 20 ∧ V 7 = N 21) ∧ (N 11 ≠ 0 → ∀ k, k < N 14 → V (19 + 2 * k) = pA N M k ∧ V (20 + 2 * k) = pB N M k ∧ pw k = nI (M 4 k) ∧ pl k = nI (M 5 k) ∧ ps k = G 2 k)
def Cp (E : GE) (h : HH) (L B cp N : Nat → Nat) (M : Nat → Nat → Nat) (G : Nat → Nat → Int32) : Prop :=
  ∃ (p : Nat) (f : Nat → Nat → Int32) (rs pw pl ps : Nat → Int32) (V : Nat → Nat), Ma E h L B N p f ∧ Rl f p N M G ∧ Vr V pw pl ps N M G ∧ Stt E L B h ∧ Prs L B pw pl ps h ∧ Cns h E L (nI1 (M 8)) (N 10) ∧ Sds h E L (nI1 (M 6)) (N 9) ∧ Dgo h E L rs ∧ Bgs E h B V cp
/-- the bounds -/
def Inv (N : Nat → Nat) (M : Nat → Nat → Nat) (G : Nat → Nat → Int32) : Prop :=
  N 0 ≤ 8 ∧ N 1 ≤ 64 ∧ N 2 ≤ 20000 ∧ (1 ≤ N 3 ∧ N 3 ≤ 7) ∧ (1 ≤ N 4 ∧ N 4 ≤ 200) ∧ (1 ≤ N 5 ∧ N 5 < N 6 ∧ N 6 ≤ 1000000) ∧ (1 ≤ N 8 ∧ N 8 < N 7 ∧ N 7 ≤ 1000000) ∧ N 9 ≤ 20 ∧ N 10 ≤ 4000 ∧ (N 11 ≤ 5 ∧ N 12 ≤ 1 ∧ N 13 ≤ 1 ∧ N 14 ≤ 16) ∧ (N 15 ≤ 64 ∧ N 16 ≤ N 15 ∧ N 17 ≤ N 15 ∧ N 19 ≤ 1) ∧
  (∀ i, i < 8 → M 0 i ≤ 1000000) ∧ (∀ i, i < N 1 → 1 ≤ M 1 i ∧ M 1 i ≤ 4000) ∧ ksum (M 1) (N 1) = N 2 ∧ (∀ i, i < 8 → M 2 i ≤ N 15) ∧ (∀ i, M 3 i ≤ N 15) ∧ (∀ i, i < N 9 → M 6 i ≤ 9) ∧ (∀ i, i < N 10 → M 8 i ≤ 1) ∧
  (∀ i, G 0 i = -1 ∨ ∃ c, c < N 0 ∧ G 0 i = nI c) ∧ (∀ i, G 1 i = -2 ∨ G 1 i = -1 ∨ ∃ c, c < N 0 ∧ G 1 i = nI c) ∧ (∀ i, N 2 ≤ i → G 0 i = -1 ∧ G 1 i = -2 ∧ M 3 i = 0) ∧ (∀ i, i < 8 → G 3 i = -1 ∨ ∃ v, v ≤ 20000 ∧ G 3 i = nI v) ∧
  (N 18 ≤ N 2) ∧ (N 11 = 2 → 1 ≤ N 18 ∧ G 1 (N 18 - 1) = -2) ∧
  (N 11 = 0 → (∀ i, i < 8 → M 2 i = 0) ∧ (∀ i, G 1 i = -2) ∧ (∀ i, M 3 i = 0) ∧ N 15 = 0 ∧ N 14 = 0 ∧ N 18 = 0) ∧
  (N 11 ≠ 0 → (2 ≤ N 0 ∧ N 3 < N 0 ∧ 0 < N 2 ∧ 0 < N 14 ∧ (N 13 = 1 → 0 < N 9)) ∧ (∀ i, i < N 0 → M 0 i ≤ N 2) ∧ (∀ i, i < N 0 → M 7 i ≤ 1) ∧ (∀ k, k < N 14 → M 4 k < N 0 ∧ M 5 k < N 0 ∧ M 0 (M 5 k) < M 0 (M 4 k)) ∧ (N 12 = 0 → N 20 = 1 ∧ N 21 = 1) ∧ (∀ k, k < N 14 → G 2 k = -1 ∨ ∃ d, d ≤ N 15 ∧ G 2 k = nI d) ∧
    (N 12 = 0 → ∀ k, k < N 14 → G 2 k = -1 → pA N M k * N 5 < pB N M k * N 6)) ∧
  (0 < N 20 ∧ 0 < N 21 ∧ N 20 < 2 ^ (52 * N 15 + 1) ∧ N 21 < 2 ^ (52 * N 15 + 1)) ∧ (N 23 ≠ 0 ∧ lm (N 22) ≤ 112 ∧ lm (N 23) ≤ 112)
