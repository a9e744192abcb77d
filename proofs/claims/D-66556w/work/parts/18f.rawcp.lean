set_option maxRecDepth 100000
def inM : Nat → Nat → Nat := fun _ _ => 0
def inG : Nat → Nat → Int32 := fun i => if i = 1 then fun _ => -2 else fun _ => -1
/-- owners anew, by the object's class -/
def rtg (t : Nat → Nat) (x : HE) : HE := (x.1, match x.1 with | .inr (k, _) => (if k = 8 then t 24 else if k = 5 ∨ k = 6 ∨ k = 7 then t 30 else x.2) | .inl _ => x.2)
def rth (E : GE) (h : HH) (t L B : Nat → Nat) : HH := fun q => if q = t 24 then some (.inl (E.2.1 6, 16, .inr (.inr (.inr (.inr (fun k => some (L (70 + k))))))), t 30) else if q = t 37 then some (.inl (E.2.1 5, 961, .inr (.inr (.inr (.inr (fun k => some (B (51 + k))))))), t 30) else if q = t 38 then some (.inl (E.2.1 5, 961, .inr (.inr (.inr (.inr (fun k => some (B (1012 + k))))))), t 30) else (h q).map (rtg t)
section RT
variable {E : GE} {h : HH} {t L B : Nat → Nat}
theorem rth_24 : rth E h t L B (t 24) = some (.inl (E.2.1 6, 16, .inr (.inr (.inr (.inr (fun k => some (L (70 + k))))))), t 30) := if_pos rfl
theorem rth_37 (n : t 37 ≠ t 24) : rth E h t L B (t 37) = some (.inl (E.2.1 5, 961, .inr (.inr (.inr (.inr (fun k => some (B (51 + k))))))), t 30) := by unfold rth; rw [if_neg n, if_pos rfl]
theorem rth_38 (n : t 38 ≠ t 24) (n2 : t 38 ≠ t 37) : rth E h t L B (t 38) = some (.inl (E.2.1 5, 961, .inr (.inr (.inr (.inr (fun k => some (B (1012 + k))))))), t 30) := by unfold rth; rw [if_neg n, if_neg n2, if_pos rfl]
theorem rth_a {q o : Nat} {x : ClassId × vp_A} (n1 : q ≠ t 24) (n2 : q ≠ t 37) (n3 : q ≠ t 38) (hq : h q = some (.inl x, o)) : rth E h t L B q = some (.inl x, o) := by
  unfold rth
  rw [if_neg n1, if_neg n2, if_neg n3, hq]
  rfl
theorem rth_o {q o k : Nat} {fs : List Value} (n1 : q ≠ t 24) (n2 : q ≠ t 37) (n3 : q ≠ t 38) (hq : h q = some (.inr (k, fs), o)) : rth E h t L B q = some (.inr (k, fs), if k = 8 then t 24 else if k = 5 ∨ k = 6 ∨ k = 7 then t 30 else o) := by
  unfold rth
  rw [if_neg n1, if_neg n2, if_neg n3, hq]
  rfl
end RT
def usd (i : Nat) : Bool := [0, 1, 3, 12, 13, 14, 15, 16, 17, 24, 26, 27, 29, 30, 32, 37, 38, 39, 60, 61, 62, 63, 64, 65, 66].contains i
def mkL (t pa : Nat → Nat) (X : Nat) : Nat → Nat := fun i => if usd i then t i else if 70 ≤ i ∧ i < 86 then pa (i - 70) else X + i
theorem mkL_u {t pa : Nat → Nat} {X i : Nat} (h : usd i = true) : mkL t pa X i = t i := if_pos h
theorem mkL_p {t pa : Nat → Nat} {X i : Nat} (h : i < 16) : mkL t pa X (70 + i) = pa i := by
  have hu : ¬ usd (70 + i) = true := by
    have : ∀ i, i < 16 → ¬ usd (70 + i) = true := by decide
    exact this i h
  unfold mkL
  rw [if_neg hu, if_pos (by omega), show 70 + i - 70 = i by omega]

theorem Raw.ne {E : GE} {h : HH} {t pa B cp : Nat → Nat} {f : Nat → Nat → Int32} {g : Nat → Nat → Option Nat} (H : Raw E h t pa B cp f g) : ∀ i j, usd i = true → usd j = true → i ≠ j → t i ≠ t j := by
  obtain ⟨w0, ⟨w1, w3, w12, w13, w14, w15, w16, w17, w39⟩, ⟨w24, w37, w38⟩, ⟨w29, w30, w32⟩, ⟨w26, w60⟩, ⟨w27, w61⟩, ⟨w62, w63, w64, w65, w66⟩, wP, ⟨wg24, wg37, wg38⟩, wB, ⟨wf1, wf14, wf16, wf12, wf13, wf17⟩, wA, wD⟩ := H
  obtain ⟨a1_3, a1_12, a1_13, a1_14, a1_15, a1_16, a1_17, a1_24, a1_37, a1_38, a1_39, a3_12, a3_13, a3_14, a3_15, a3_16, a3_17, a3_24, a3_37, a3_38, a3_39, a12_13, a12_14, a12_15, a12_16, a12_17, a12_24, a12_37, a12_38, a12_39, a13_14, a13_15, a13_16, a13_17, a13_24, a13_37, a13_38, a13_39, a14_15, a14_16, a14_17, a14_24, a14_37, a14_38, a14_39, a15_16, a15_17, a15_24, a15_37, a15_38, a15_39, a16_17, a16_24, a16_37, a16_38, a16_39, a17_24, a17_37, a17_38, a17_39, a24_37, a24_38, a24_39, a37_38, a37_39, a38_39⟩ := wA
  obtain ⟨a63_64, a63_65, a63_66, a64_65, a64_66, a65_66⟩ := wD
  have e0_26 : t 0 ≠ t 26 := hne_of w0 w26 (fun z => by cases z)
  have e0_27 : t 0 ≠ t 27 := hne_of w0 w27 (fun z => by cases z)
  have e0_29 : t 0 ≠ t 29 := hne_of w0 w29 (fun z => by cases z)
  have e0_30 : t 0 ≠ t 30 := hne_of w0 w30 (fun z => by cases z)
  have e0_32 : t 0 ≠ t 32 := hne_of w0 w32 (fun z => by cases z)
  have e0_62 : t 0 ≠ t 62 := hne_of w0 w62 (fun z => by cases z)
  have e26_27 : t 26 ≠ t 27 := hne_of w26 w27 (fun z => by cases z)
  have e26_29 : t 26 ≠ t 29 := hne_of w26 w29 (fun z => by cases z)
  have e26_30 : t 26 ≠ t 30 := hne_of w26 w30 (fun z => by cases z)
  have e26_32 : t 26 ≠ t 32 := hne_of w26 w32 (fun z => by cases z)
  have e26_62 : t 26 ≠ t 62 := hne_of w26 w62 (fun z => by cases z)
  have e27_29 : t 27 ≠ t 29 := hne_of w27 w29 (fun z => by cases z)
  have e27_30 : t 27 ≠ t 30 := hne_of w27 w30 (fun z => by cases z)
  have e27_32 : t 27 ≠ t 32 := hne_of w27 w32 (fun z => by cases z)
  have e27_62 : t 27 ≠ t 62 := hne_of w27 w62 (fun z => by cases z)
  have e29_30 : t 29 ≠ t 30 := hne_of w29 w30 (fun z => by cases z)
  have e29_32 : t 29 ≠ t 32 := hne_of w29 w32 (fun z => by cases z)
  have e29_62 : t 29 ≠ t 62 := hne_of w29 w62 (fun z => by cases z)
  have e30_32 : t 30 ≠ t 32 := hne_of w30 w32 (fun z => by cases z)
  have e30_62 : t 30 ≠ t 62 := hne_of w30 w62 (fun z => by cases z)
  have e32_62 : t 32 ≠ t 62 := hne_of w32 w62 (fun z => by cases z)
  have e0_1 : t 0 ≠ t 1 := hne_of w0 w1 (fun z => by cases z)
  have e0_3 : t 0 ≠ t 3 := hne_of w0 w3 (fun z => by cases z)
  have e0_12 : t 0 ≠ t 12 := hne_of w0 w12 (fun z => by cases z)
  have e0_13 : t 0 ≠ t 13 := hne_of w0 w13 (fun z => by cases z)
  have e0_14 : t 0 ≠ t 14 := hne_of w0 w14 (fun z => by cases z)
  have e0_15 : t 0 ≠ t 15 := hne_of w0 w15 (fun z => by cases z)
  have e0_16 : t 0 ≠ t 16 := hne_of w0 w16 (fun z => by cases z)
  have e0_17 : t 0 ≠ t 17 := hne_of w0 w17 (fun z => by cases z)
  have e0_24 : t 0 ≠ t 24 := hne_of w0 w24 (fun z => by cases z)
  have e0_37 : t 0 ≠ t 37 := hne_of w0 w37 (fun z => by cases z)
  have e0_38 : t 0 ≠ t 38 := hne_of w0 w38 (fun z => by cases z)
  have e0_39 : t 0 ≠ t 39 := hne_of w0 w39 (fun z => by cases z)
  have e0_60 : t 0 ≠ t 60 := hne_of w0 w60 (fun z => by cases z)
  have e0_61 : t 0 ≠ t 61 := hne_of w0 w61 (fun z => by cases z)
  have e0_63 : t 0 ≠ t 63 := hne_of w0 w63 (fun z => by cases z)
  have e0_64 : t 0 ≠ t 64 := hne_of w0 w64 (fun z => by cases z)
  have e0_65 : t 0 ≠ t 65 := hne_of w0 w65 (fun z => by cases z)
  have e0_66 : t 0 ≠ t 66 := hne_of w0 w66 (fun z => by cases z)
  have e1_3 : t 1 ≠ t 3 := a1_3
  have e1_12 : t 1 ≠ t 12 := a1_12
  have e1_13 : t 1 ≠ t 13 := a1_13
  have e1_14 : t 1 ≠ t 14 := a1_14
  have e1_15 : t 1 ≠ t 15 := a1_15
  have e1_16 : t 1 ≠ t 16 := a1_16
  have e1_17 : t 1 ≠ t 17 := a1_17
  have e1_24 : t 1 ≠ t 24 := a1_24
  have e1_26 : t 1 ≠ t 26 := hne_of w1 w26 (fun z => by cases z)
  have e1_27 : t 1 ≠ t 27 := hne_of w1 w27 (fun z => by cases z)
  have e1_29 : t 1 ≠ t 29 := hne_of w1 w29 (fun z => by cases z)
  have e1_30 : t 1 ≠ t 30 := hne_of w1 w30 (fun z => by cases z)
  have e1_32 : t 1 ≠ t 32 := hne_of w1 w32 (fun z => by cases z)
  have e1_37 : t 1 ≠ t 37 := a1_37
  have e1_38 : t 1 ≠ t 38 := a1_38
  have e1_39 : t 1 ≠ t 39 := a1_39
  have e1_60 : t 1 ≠ t 60 := hne_of w1 w60 (fun z => e0_26 (congrArg Prod.snd z))
  have e1_61 : t 1 ≠ t 61 := hne_of w1 w61 (fun z => e0_27 (congrArg Prod.snd z))
  have e1_62 : t 1 ≠ t 62 := hne_of w1 w62 (fun z => by cases z)
  have e1_63 : t 1 ≠ t 63 := hne_of w1 w63 (fun z => e0_62 (congrArg Prod.snd z))
  have e1_64 : t 1 ≠ t 64 := hne_of w1 w64 (fun z => e0_62 (congrArg Prod.snd z))
  have e1_65 : t 1 ≠ t 65 := hne_of w1 w65 (fun z => e0_62 (congrArg Prod.snd z))
  have e1_66 : t 1 ≠ t 66 := hne_of w1 w66 (fun z => e0_62 (congrArg Prod.snd z))
  have e3_12 : t 3 ≠ t 12 := a3_12
  have e3_13 : t 3 ≠ t 13 := a3_13
  have e3_14 : t 3 ≠ t 14 := a3_14
  have e3_15 : t 3 ≠ t 15 := a3_15
  have e3_16 : t 3 ≠ t 16 := a3_16
  have e3_17 : t 3 ≠ t 17 := a3_17
  have e3_24 : t 3 ≠ t 24 := a3_24
  have e3_26 : t 3 ≠ t 26 := hne_of w3 w26 (fun z => by cases z)
  have e3_27 : t 3 ≠ t 27 := hne_of w3 w27 (fun z => by cases z)
  have e3_29 : t 3 ≠ t 29 := hne_of w3 w29 (fun z => by cases z)
  have e3_30 : t 3 ≠ t 30 := hne_of w3 w30 (fun z => by cases z)
  have e3_32 : t 3 ≠ t 32 := hne_of w3 w32 (fun z => by cases z)
  have e3_37 : t 3 ≠ t 37 := a3_37
  have e3_38 : t 3 ≠ t 38 := a3_38
  have e3_39 : t 3 ≠ t 39 := a3_39
  have e3_60 : t 3 ≠ t 60 := hne_of w3 w60 (fun z => e0_26 (congrArg Prod.snd z))
  have e3_61 : t 3 ≠ t 61 := hne_of w3 w61 (fun z => e0_27 (congrArg Prod.snd z))
  have e3_62 : t 3 ≠ t 62 := hne_of w3 w62 (fun z => by cases z)
  have e3_63 : t 3 ≠ t 63 := hne_of w3 w63 (fun z => e0_62 (congrArg Prod.snd z))
  have e3_64 : t 3 ≠ t 64 := hne_of w3 w64 (fun z => e0_62 (congrArg Prod.snd z))
  have e3_65 : t 3 ≠ t 65 := hne_of w3 w65 (fun z => e0_62 (congrArg Prod.snd z))
  have e3_66 : t 3 ≠ t 66 := hne_of w3 w66 (fun z => e0_62 (congrArg Prod.snd z))
  have e12_13 : t 12 ≠ t 13 := a12_13
  have e12_14 : t 12 ≠ t 14 := a12_14
  have e12_15 : t 12 ≠ t 15 := a12_15
  have e12_16 : t 12 ≠ t 16 := a12_16
  have e12_17 : t 12 ≠ t 17 := a12_17
  have e12_24 : t 12 ≠ t 24 := a12_24
  have e12_26 : t 12 ≠ t 26 := hne_of w12 w26 (fun z => by cases z)
  have e12_27 : t 12 ≠ t 27 := hne_of w12 w27 (fun z => by cases z)
  have e12_29 : t 12 ≠ t 29 := hne_of w12 w29 (fun z => by cases z)
  have e12_30 : t 12 ≠ t 30 := hne_of w12 w30 (fun z => by cases z)
  have e12_32 : t 12 ≠ t 32 := hne_of w12 w32 (fun z => by cases z)
  have e12_37 : t 12 ≠ t 37 := a12_37
  have e12_38 : t 12 ≠ t 38 := a12_38
  have e12_39 : t 12 ≠ t 39 := a12_39
  have e12_60 : t 12 ≠ t 60 := hne_of w12 w60 (fun z => e0_26 (congrArg Prod.snd z))
  have e12_61 : t 12 ≠ t 61 := hne_of w12 w61 (fun z => e0_27 (congrArg Prod.snd z))
  have e12_62 : t 12 ≠ t 62 := hne_of w12 w62 (fun z => by cases z)
  have e12_63 : t 12 ≠ t 63 := hne_of w12 w63 (fun z => e0_62 (congrArg Prod.snd z))
  have e12_64 : t 12 ≠ t 64 := hne_of w12 w64 (fun z => e0_62 (congrArg Prod.snd z))
  have e12_65 : t 12 ≠ t 65 := hne_of w12 w65 (fun z => e0_62 (congrArg Prod.snd z))
  have e12_66 : t 12 ≠ t 66 := hne_of w12 w66 (fun z => e0_62 (congrArg Prod.snd z))
  have e13_14 : t 13 ≠ t 14 := a13_14
  have e13_15 : t 13 ≠ t 15 := a13_15
  have e13_16 : t 13 ≠ t 16 := a13_16
  have e13_17 : t 13 ≠ t 17 := a13_17
  have e13_24 : t 13 ≠ t 24 := a13_24
  have e13_26 : t 13 ≠ t 26 := hne_of w13 w26 (fun z => by cases z)
  have e13_27 : t 13 ≠ t 27 := hne_of w13 w27 (fun z => by cases z)
  have e13_29 : t 13 ≠ t 29 := hne_of w13 w29 (fun z => by cases z)
  have e13_30 : t 13 ≠ t 30 := hne_of w13 w30 (fun z => by cases z)
  have e13_32 : t 13 ≠ t 32 := hne_of w13 w32 (fun z => by cases z)
  have e13_37 : t 13 ≠ t 37 := a13_37
  have e13_38 : t 13 ≠ t 38 := a13_38
  have e13_39 : t 13 ≠ t 39 := a13_39
  have e13_60 : t 13 ≠ t 60 := hne_of w13 w60 (fun z => e0_26 (congrArg Prod.snd z))
  have e13_61 : t 13 ≠ t 61 := hne_of w13 w61 (fun z => e0_27 (congrArg Prod.snd z))
  have e13_62 : t 13 ≠ t 62 := hne_of w13 w62 (fun z => by cases z)
  have e13_63 : t 13 ≠ t 63 := hne_of w13 w63 (fun z => e0_62 (congrArg Prod.snd z))
  have e13_64 : t 13 ≠ t 64 := hne_of w13 w64 (fun z => e0_62 (congrArg Prod.snd z))
  have e13_65 : t 13 ≠ t 65 := hne_of w13 w65 (fun z => e0_62 (congrArg Prod.snd z))
  have e13_66 : t 13 ≠ t 66 := hne_of w13 w66 (fun z => e0_62 (congrArg Prod.snd z))
  have e14_15 : t 14 ≠ t 15 := a14_15
  have e14_16 : t 14 ≠ t 16 := a14_16
  have e14_17 : t 14 ≠ t 17 := a14_17
  have e14_24 : t 14 ≠ t 24 := a14_24
  have e14_26 : t 14 ≠ t 26 := hne_of w14 w26 (fun z => by cases z)
  have e14_27 : t 14 ≠ t 27 := hne_of w14 w27 (fun z => by cases z)
  have e14_29 : t 14 ≠ t 29 := hne_of w14 w29 (fun z => by cases z)
  have e14_30 : t 14 ≠ t 30 := hne_of w14 w30 (fun z => by cases z)
  have e14_32 : t 14 ≠ t 32 := hne_of w14 w32 (fun z => by cases z)
  have e14_37 : t 14 ≠ t 37 := a14_37
  have e14_38 : t 14 ≠ t 38 := a14_38
  have e14_39 : t 14 ≠ t 39 := a14_39
  have e14_60 : t 14 ≠ t 60 := hne_of w14 w60 (fun z => e0_26 (congrArg Prod.snd z))
  have e14_61 : t 14 ≠ t 61 := hne_of w14 w61 (fun z => e0_27 (congrArg Prod.snd z))
  have e14_62 : t 14 ≠ t 62 := hne_of w14 w62 (fun z => by cases z)
  have e14_63 : t 14 ≠ t 63 := hne_of w14 w63 (fun z => e0_62 (congrArg Prod.snd z))
  have e14_64 : t 14 ≠ t 64 := hne_of w14 w64 (fun z => e0_62 (congrArg Prod.snd z))
  have e14_65 : t 14 ≠ t 65 := hne_of w14 w65 (fun z => e0_62 (congrArg Prod.snd z))
  have e14_66 : t 14 ≠ t 66 := hne_of w14 w66 (fun z => e0_62 (congrArg Prod.snd z))
  have e15_16 : t 15 ≠ t 16 := a15_16
  have e15_17 : t 15 ≠ t 17 := a15_17
  have e15_24 : t 15 ≠ t 24 := a15_24
  have e15_26 : t 15 ≠ t 26 := hne_of w15 w26 (fun z => by cases z)
  have e15_27 : t 15 ≠ t 27 := hne_of w15 w27 (fun z => by cases z)
  have e15_29 : t 15 ≠ t 29 := hne_of w15 w29 (fun z => by cases z)
  have e15_30 : t 15 ≠ t 30 := hne_of w15 w30 (fun z => by cases z)
  have e15_32 : t 15 ≠ t 32 := hne_of w15 w32 (fun z => by cases z)
  have e15_37 : t 15 ≠ t 37 := a15_37
  have e15_38 : t 15 ≠ t 38 := a15_38
  have e15_39 : t 15 ≠ t 39 := a15_39
  have e15_60 : t 15 ≠ t 60 := hne_of w15 w60 (fun z => e0_26 (congrArg Prod.snd z))
  have e15_61 : t 15 ≠ t 61 := hne_of w15 w61 (fun z => e0_27 (congrArg Prod.snd z))
  have e15_62 : t 15 ≠ t 62 := hne_of w15 w62 (fun z => by cases z)
  have e15_63 : t 15 ≠ t 63 := hne_of w15 w63 (fun z => e0_62 (congrArg Prod.snd z))
  have e15_64 : t 15 ≠ t 64 := hne_of w15 w64 (fun z => e0_62 (congrArg Prod.snd z))
  have e15_65 : t 15 ≠ t 65 := hne_of w15 w65 (fun z => e0_62 (congrArg Prod.snd z))
  have e15_66 : t 15 ≠ t 66 := hne_of w15 w66 (fun z => e0_62 (congrArg Prod.snd z))
  have e16_17 : t 16 ≠ t 17 := a16_17
  have e16_24 : t 16 ≠ t 24 := a16_24
  have e16_26 : t 16 ≠ t 26 := hne_of w16 w26 (fun z => by cases z)
  have e16_27 : t 16 ≠ t 27 := hne_of w16 w27 (fun z => by cases z)
  have e16_29 : t 16 ≠ t 29 := hne_of w16 w29 (fun z => by cases z)
  have e16_30 : t 16 ≠ t 30 := hne_of w16 w30 (fun z => by cases z)
  have e16_32 : t 16 ≠ t 32 := hne_of w16 w32 (fun z => by cases z)
  have e16_37 : t 16 ≠ t 37 := a16_37
  have e16_38 : t 16 ≠ t 38 := a16_38
  have e16_39 : t 16 ≠ t 39 := a16_39
  have e16_60 : t 16 ≠ t 60 := hne_of w16 w60 (fun z => e0_26 (congrArg Prod.snd z))
  have e16_61 : t 16 ≠ t 61 := hne_of w16 w61 (fun z => e0_27 (congrArg Prod.snd z))
  have e16_62 : t 16 ≠ t 62 := hne_of w16 w62 (fun z => by cases z)
  have e16_63 : t 16 ≠ t 63 := hne_of w16 w63 (fun z => e0_62 (congrArg Prod.snd z))
  have e16_64 : t 16 ≠ t 64 := hne_of w16 w64 (fun z => e0_62 (congrArg Prod.snd z))
  have e16_65 : t 16 ≠ t 65 := hne_of w16 w65 (fun z => e0_62 (congrArg Prod.snd z))
  have e16_66 : t 16 ≠ t 66 := hne_of w16 w66 (fun z => e0_62 (congrArg Prod.snd z))
  have e17_24 : t 17 ≠ t 24 := a17_24
  have e17_26 : t 17 ≠ t 26 := hne_of w17 w26 (fun z => by cases z)
  have e17_27 : t 17 ≠ t 27 := hne_of w17 w27 (fun z => by cases z)
  have e17_29 : t 17 ≠ t 29 := hne_of w17 w29 (fun z => by cases z)
  have e17_30 : t 17 ≠ t 30 := hne_of w17 w30 (fun z => by cases z)
  have e17_32 : t 17 ≠ t 32 := hne_of w17 w32 (fun z => by cases z)
  have e17_37 : t 17 ≠ t 37 := a17_37
  have e17_38 : t 17 ≠ t 38 := a17_38
  have e17_39 : t 17 ≠ t 39 := a17_39
  have e17_60 : t 17 ≠ t 60 := hne_of w17 w60 (fun z => e0_26 (congrArg Prod.snd z))
  have e17_61 : t 17 ≠ t 61 := hne_of w17 w61 (fun z => e0_27 (congrArg Prod.snd z))
  have e17_62 : t 17 ≠ t 62 := hne_of w17 w62 (fun z => by cases z)
  have e17_63 : t 17 ≠ t 63 := hne_of w17 w63 (fun z => e0_62 (congrArg Prod.snd z))
  have e17_64 : t 17 ≠ t 64 := hne_of w17 w64 (fun z => e0_62 (congrArg Prod.snd z))
  have e17_65 : t 17 ≠ t 65 := hne_of w17 w65 (fun z => e0_62 (congrArg Prod.snd z))
  have e17_66 : t 17 ≠ t 66 := hne_of w17 w66 (fun z => e0_62 (congrArg Prod.snd z))
  have e24_26 : t 24 ≠ t 26 := hne_of w24 w26 (fun z => by cases z)
  have e24_27 : t 24 ≠ t 27 := hne_of w24 w27 (fun z => by cases z)
  have e24_29 : t 24 ≠ t 29 := hne_of w24 w29 (fun z => by cases z)
  have e24_30 : t 24 ≠ t 30 := hne_of w24 w30 (fun z => by cases z)
  have e24_32 : t 24 ≠ t 32 := hne_of w24 w32 (fun z => by cases z)
  have e24_37 : t 24 ≠ t 37 := a24_37
  have e24_38 : t 24 ≠ t 38 := a24_38
  have e24_39 : t 24 ≠ t 39 := a24_39
  have e24_60 : t 24 ≠ t 60 := hne_of w24 w60 (fun z => e0_26 (congrArg Prod.snd z))
  have e24_61 : t 24 ≠ t 61 := hne_of w24 w61 (fun z => e0_27 (congrArg Prod.snd z))
  have e24_62 : t 24 ≠ t 62 := hne_of w24 w62 (fun z => by cases z)
  have e24_63 : t 24 ≠ t 63 := hne_of w24 w63 (fun z => e0_62 (congrArg Prod.snd z))
  have e24_64 : t 24 ≠ t 64 := hne_of w24 w64 (fun z => e0_62 (congrArg Prod.snd z))
  have e24_65 : t 24 ≠ t 65 := hne_of w24 w65 (fun z => e0_62 (congrArg Prod.snd z))
  have e24_66 : t 24 ≠ t 66 := hne_of w24 w66 (fun z => e0_62 (congrArg Prod.snd z))
  have e26_37 : t 26 ≠ t 37 := hne_of w26 w37 (fun z => by cases z)
  have e26_38 : t 26 ≠ t 38 := hne_of w26 w38 (fun z => by cases z)
  have e26_39 : t 26 ≠ t 39 := hne_of w26 w39 (fun z => by cases z)
  have e26_60 : t 26 ≠ t 60 := hne_of w26 w60 (fun z => by cases z)
  have e26_61 : t 26 ≠ t 61 := hne_of w26 w61 (fun z => by cases z)
  have e26_63 : t 26 ≠ t 63 := hne_of w26 w63 (fun z => by cases z)
  have e26_64 : t 26 ≠ t 64 := hne_of w26 w64 (fun z => by cases z)
  have e26_65 : t 26 ≠ t 65 := hne_of w26 w65 (fun z => by cases z)
  have e26_66 : t 26 ≠ t 66 := hne_of w26 w66 (fun z => by cases z)
  have e27_37 : t 27 ≠ t 37 := hne_of w27 w37 (fun z => by cases z)
  have e27_38 : t 27 ≠ t 38 := hne_of w27 w38 (fun z => by cases z)
  have e27_39 : t 27 ≠ t 39 := hne_of w27 w39 (fun z => by cases z)
  have e27_60 : t 27 ≠ t 60 := hne_of w27 w60 (fun z => by cases z)
  have e27_61 : t 27 ≠ t 61 := hne_of w27 w61 (fun z => by cases z)
  have e27_63 : t 27 ≠ t 63 := hne_of w27 w63 (fun z => by cases z)
  have e27_64 : t 27 ≠ t 64 := hne_of w27 w64 (fun z => by cases z)
  have e27_65 : t 27 ≠ t 65 := hne_of w27 w65 (fun z => by cases z)
  have e27_66 : t 27 ≠ t 66 := hne_of w27 w66 (fun z => by cases z)
  have e29_37 : t 29 ≠ t 37 := hne_of w29 w37 (fun z => by cases z)
  have e29_38 : t 29 ≠ t 38 := hne_of w29 w38 (fun z => by cases z)
  have e29_39 : t 29 ≠ t 39 := hne_of w29 w39 (fun z => by cases z)
  have e29_60 : t 29 ≠ t 60 := hne_of w29 w60 (fun z => by cases z)
  have e29_61 : t 29 ≠ t 61 := hne_of w29 w61 (fun z => by cases z)
  have e29_63 : t 29 ≠ t 63 := hne_of w29 w63 (fun z => by cases z)
  have e29_64 : t 29 ≠ t 64 := hne_of w29 w64 (fun z => by cases z)
  have e29_65 : t 29 ≠ t 65 := hne_of w29 w65 (fun z => by cases z)
  have e29_66 : t 29 ≠ t 66 := hne_of w29 w66 (fun z => by cases z)
  have e30_37 : t 30 ≠ t 37 := hne_of w30 w37 (fun z => by cases z)
  have e30_38 : t 30 ≠ t 38 := hne_of w30 w38 (fun z => by cases z)
  have e30_39 : t 30 ≠ t 39 := hne_of w30 w39 (fun z => by cases z)
  have e30_60 : t 30 ≠ t 60 := hne_of w30 w60 (fun z => by cases z)
  have e30_61 : t 30 ≠ t 61 := hne_of w30 w61 (fun z => by cases z)
  have e30_63 : t 30 ≠ t 63 := hne_of w30 w63 (fun z => by cases z)
  have e30_64 : t 30 ≠ t 64 := hne_of w30 w64 (fun z => by cases z)
  have e30_65 : t 30 ≠ t 65 := hne_of w30 w65 (fun z => by cases z)
  have e30_66 : t 30 ≠ t 66 := hne_of w30 w66 (fun z => by cases z)
  have e32_37 : t 32 ≠ t 37 := hne_of w32 w37 (fun z => by cases z)
  have e32_38 : t 32 ≠ t 38 := hne_of w32 w38 (fun z => by cases z)
  have e32_39 : t 32 ≠ t 39 := hne_of w32 w39 (fun z => by cases z)
  have e32_60 : t 32 ≠ t 60 := hne_of w32 w60 (fun z => by cases z)
  have e32_61 : t 32 ≠ t 61 := hne_of w32 w61 (fun z => by cases z)
  have e32_63 : t 32 ≠ t 63 := hne_of w32 w63 (fun z => by cases z)
  have e32_64 : t 32 ≠ t 64 := hne_of w32 w64 (fun z => by cases z)
  have e32_65 : t 32 ≠ t 65 := hne_of w32 w65 (fun z => by cases z)
  have e32_66 : t 32 ≠ t 66 := hne_of w32 w66 (fun z => by cases z)
  have e37_38 : t 37 ≠ t 38 := a37_38
  have e37_39 : t 37 ≠ t 39 := a37_39
  have e37_60 : t 37 ≠ t 60 := hne_of w37 w60 (fun z => e0_26 (congrArg Prod.snd z))
  have e37_61 : t 37 ≠ t 61 := hne_of w37 w61 (fun z => e0_27 (congrArg Prod.snd z))
  have e37_62 : t 37 ≠ t 62 := hne_of w37 w62 (fun z => by cases z)
  have e37_63 : t 37 ≠ t 63 := hne_of w37 w63 (fun z => e0_62 (congrArg Prod.snd z))
  have e37_64 : t 37 ≠ t 64 := hne_of w37 w64 (fun z => e0_62 (congrArg Prod.snd z))
  have e37_65 : t 37 ≠ t 65 := hne_of w37 w65 (fun z => e0_62 (congrArg Prod.snd z))
  have e37_66 : t 37 ≠ t 66 := hne_of w37 w66 (fun z => e0_62 (congrArg Prod.snd z))
  have e38_39 : t 38 ≠ t 39 := a38_39
  have e38_60 : t 38 ≠ t 60 := hne_of w38 w60 (fun z => e0_26 (congrArg Prod.snd z))
  have e38_61 : t 38 ≠ t 61 := hne_of w38 w61 (fun z => e0_27 (congrArg Prod.snd z))
  have e38_62 : t 38 ≠ t 62 := hne_of w38 w62 (fun z => by cases z)
  have e38_63 : t 38 ≠ t 63 := hne_of w38 w63 (fun z => e0_62 (congrArg Prod.snd z))
  have e38_64 : t 38 ≠ t 64 := hne_of w38 w64 (fun z => e0_62 (congrArg Prod.snd z))
  have e38_65 : t 38 ≠ t 65 := hne_of w38 w65 (fun z => e0_62 (congrArg Prod.snd z))
  have e38_66 : t 38 ≠ t 66 := hne_of w38 w66 (fun z => e0_62 (congrArg Prod.snd z))
  have e39_60 : t 39 ≠ t 60 := hne_of w39 w60 (fun z => e0_26 (congrArg Prod.snd z))
  have e39_61 : t 39 ≠ t 61 := hne_of w39 w61 (fun z => e0_27 (congrArg Prod.snd z))
  have e39_62 : t 39 ≠ t 62 := hne_of w39 w62 (fun z => by cases z)
  have e39_63 : t 39 ≠ t 63 := hne_of w39 w63 (fun z => e0_62 (congrArg Prod.snd z))
  have e39_64 : t 39 ≠ t 64 := hne_of w39 w64 (fun z => e0_62 (congrArg Prod.snd z))
  have e39_65 : t 39 ≠ t 65 := hne_of w39 w65 (fun z => e0_62 (congrArg Prod.snd z))
  have e39_66 : t 39 ≠ t 66 := hne_of w39 w66 (fun z => e0_62 (congrArg Prod.snd z))
  have e60_61 : t 60 ≠ t 61 := hne_of w60 w61 (fun z => e26_27 (congrArg Prod.snd z))
  have e60_62 : t 60 ≠ t 62 := hne_of w60 w62 (fun z => by cases z)
  have e60_63 : t 60 ≠ t 63 := hne_of w60 w63 (fun z => e26_62 (congrArg Prod.snd z))
  have e60_64 : t 60 ≠ t 64 := hne_of w60 w64 (fun z => e26_62 (congrArg Prod.snd z))
  have e60_65 : t 60 ≠ t 65 := hne_of w60 w65 (fun z => e26_62 (congrArg Prod.snd z))
  have e60_66 : t 60 ≠ t 66 := hne_of w60 w66 (fun z => e26_62 (congrArg Prod.snd z))
  have e61_62 : t 61 ≠ t 62 := hne_of w61 w62 (fun z => by cases z)
  have e61_63 : t 61 ≠ t 63 := hne_of w61 w63 (fun z => e27_62 (congrArg Prod.snd z))
  have e61_64 : t 61 ≠ t 64 := hne_of w61 w64 (fun z => e27_62 (congrArg Prod.snd z))
  have e61_65 : t 61 ≠ t 65 := hne_of w61 w65 (fun z => e27_62 (congrArg Prod.snd z))
  have e61_66 : t 61 ≠ t 66 := hne_of w61 w66 (fun z => e27_62 (congrArg Prod.snd z))
  have e62_63 : t 62 ≠ t 63 := hne_of w62 w63 (fun z => by cases z)
  have e62_64 : t 62 ≠ t 64 := hne_of w62 w64 (fun z => by cases z)
  have e62_65 : t 62 ≠ t 65 := hne_of w62 w65 (fun z => by cases z)
  have e62_66 : t 62 ≠ t 66 := hne_of w62 w66 (fun z => by cases z)
  have e63_64 : t 63 ≠ t 64 := a63_64
  have e63_65 : t 63 ≠ t 65 := a63_65
  have e63_66 : t 63 ≠ t 66 := a63_66
  have e64_65 : t 64 ≠ t 65 := a64_65
  have e64_66 : t 64 ≠ t 66 := a64_66
  have e65_66 : t 65 ≠ t 66 := a65_66
  intro i j hi hj hij
  have hU : ∀ i, usd i = true → i = 0 ∨ i = 1 ∨ i = 3 ∨ i = 12 ∨ i = 13 ∨ i = 14 ∨ i = 15 ∨ i = 16 ∨ i = 17 ∨ i = 24 ∨ i = 26 ∨ i = 27 ∨ i = 29 ∨ i = 30 ∨ i = 32 ∨ i = 37 ∨ i = 38 ∨ i = 39 ∨ i = 60 ∨ i = 61 ∨ i = 62 ∨ i = 63 ∨ i = 64 ∨ i = 65 ∨ i = 66 := by intro i hi; unfold usd at hi; simpa using hi
  rcases hU i hi with rfl | rfl | rfl | rfl | rfl | rfl | rfl | rfl | rfl | rfl | rfl | rfl | rfl | rfl | rfl | rfl | rfl | rfl | rfl | rfl | rfl | rfl | rfl | rfl | rfl
  · rcases hU j hj with rfl | rfl | rfl | rfl | rfl | rfl | rfl | rfl | rfl | rfl | rfl | rfl | rfl | rfl | rfl | rfl | rfl | rfl | rfl | rfl | rfl | rfl | rfl | rfl | rfl
    · exact absurd rfl hij
    · exact e0_1
    · exact e0_3
    · exact e0_12
    · exact e0_13
    · exact e0_14
    · exact e0_15
    · exact e0_16
    · exact e0_17
    · exact e0_24
    · exact e0_26
    · exact e0_27
    · exact e0_29
    · exact e0_30
    · exact e0_32
    · exact e0_37
    · exact e0_38
    · exact e0_39
    · exact e0_60
    · exact e0_61
    · exact e0_62
    · exact e0_63
    · exact e0_64
    · exact e0_65
    · exact e0_66
  · rcases hU j hj with rfl | rfl | rfl | rfl | rfl | rfl | rfl | rfl | rfl | rfl | rfl | rfl | rfl | rfl | rfl | rfl | rfl | rfl | rfl | rfl | rfl | rfl | rfl | rfl | rfl
    · exact e0_1.symm
    · exact absurd rfl hij
    · exact e1_3
    · exact e1_12
    · exact e1_13
    · exact e1_14
    · exact e1_15
    · exact e1_16
    · exact e1_17
    · exact e1_24
    · exact e1_26
    · exact e1_27
    · exact e1_29
    · exact e1_30
    · exact e1_32
    · exact e1_37
    · exact e1_38
    · exact e1_39
    · exact e1_60
    · exact e1_61
    · exact e1_62
    · exact e1_63
    · exact e1_64
    · exact e1_65
    · exact e1_66
  · rcases hU j hj with rfl | rfl | rfl | rfl | rfl | rfl | rfl | rfl | rfl | rfl | rfl | rfl | rfl | rfl | rfl | rfl | rfl | rfl | rfl | rfl | rfl | rfl | rfl | rfl | rfl
    · exact e0_3.symm
    · exact e1_3.symm
    · exact absurd rfl hij
    · exact e3_12
    · exact e3_13
    · exact e3_14
    · exact e3_15
    · exact e3_16
    · exact e3_17
    · exact e3_24
    · exact e3_26
    · exact e3_27
    · exact e3_29
    · exact e3_30
    · exact e3_32
    · exact e3_37
    · exact e3_38
    · exact e3_39
    · exact e3_60
    · exact e3_61
    · exact e3_62
    · exact e3_63
    · exact e3_64
    · exact e3_65
    · exact e3_66
  · rcases hU j hj with rfl | rfl | rfl | rfl | rfl | rfl | rfl | rfl | rfl | rfl | rfl | rfl | rfl | rfl | rfl | rfl | rfl | rfl | rfl | rfl | rfl | rfl | rfl | rfl | rfl
    · exact e0_12.symm
    · exact e1_12.symm
    · exact e3_12.symm
    · exact absurd rfl hij
    · exact e12_13
    · exact e12_14
    · exact e12_15
    · exact e12_16
    · exact e12_17
    · exact e12_24
    · exact e12_26
    · exact e12_27
    · exact e12_29
    · exact e12_30
    · exact e12_32
    · exact e12_37
    · exact e12_38
    · exact e12_39
    · exact e12_60
    · exact e12_61
    · exact e12_62
    · exact e12_63
    · exact e12_64
    · exact e12_65
    · exact e12_66
  · rcases hU j hj with rfl | rfl | rfl | rfl | rfl | rfl | rfl | rfl | rfl | rfl | rfl | rfl | rfl | rfl | rfl | rfl | rfl | rfl | rfl | rfl | rfl | rfl | rfl | rfl | rfl
    · exact e0_13.symm
    · exact e1_13.symm
    · exact e3_13.symm
    · exact e12_13.symm
    · exact absurd rfl hij
    · exact e13_14
    · exact e13_15
    · exact e13_16
    · exact e13_17
    · exact e13_24
    · exact e13_26
    · exact e13_27
    · exact e13_29
    · exact e13_30
    · exact e13_32
    · exact e13_37
    · exact e13_38
    · exact e13_39
    · exact e13_60
    · exact e13_61
    · exact e13_62
    · exact e13_63
    · exact e13_64
    · exact e13_65
    · exact e13_66
  · rcases hU j hj with rfl | rfl | rfl | rfl | rfl | rfl | rfl | rfl | rfl | rfl | rfl | rfl | rfl | rfl | rfl | rfl | rfl | rfl | rfl | rfl | rfl | rfl | rfl | rfl | rfl
    · exact e0_14.symm
    · exact e1_14.symm
    · exact e3_14.symm
    · exact e12_14.symm
    · exact e13_14.symm
    · exact absurd rfl hij
    · exact e14_15
    · exact e14_16
    · exact e14_17
    · exact e14_24
    · exact e14_26
    · exact e14_27
    · exact e14_29
    · exact e14_30
    · exact e14_32
    · exact e14_37
    · exact e14_38
    · exact e14_39
    · exact e14_60
    · exact e14_61
    · exact e14_62
    · exact e14_63
    · exact e14_64
    · exact e14_65
    · exact e14_66
  · rcases hU j hj with rfl | rfl | rfl | rfl | rfl | rfl | rfl | rfl | rfl | rfl | rfl | rfl | rfl | rfl | rfl | rfl | rfl | rfl | rfl | rfl | rfl | rfl | rfl | rfl | rfl
    · exact e0_15.symm
    · exact e1_15.symm
    · exact e3_15.symm
    · exact e12_15.symm
    · exact e13_15.symm
    · exact e14_15.symm
    · exact absurd rfl hij
    · exact e15_16
    · exact e15_17
    · exact e15_24
    · exact e15_26
    · exact e15_27
    · exact e15_29
    · exact e15_30
    · exact e15_32
    · exact e15_37
    · exact e15_38
    · exact e15_39
    · exact e15_60
    · exact e15_61
    · exact e15_62
    · exact e15_63
    · exact e15_64
    · exact e15_65
    · exact e15_66
  · rcases hU j hj with rfl | rfl | rfl | rfl | rfl | rfl | rfl | rfl | rfl | rfl | rfl | rfl | rfl | rfl | rfl | rfl | rfl | rfl | rfl | rfl | rfl | rfl | rfl | rfl | rfl
    · exact e0_16.symm
    · exact e1_16.symm
    · exact e3_16.symm
    · exact e12_16.symm
    · exact e13_16.symm
    · exact e14_16.symm
    · exact e15_16.symm
    · exact absurd rfl hij
    · exact e16_17
    · exact e16_24
    · exact e16_26
    · exact e16_27
    · exact e16_29
    · exact e16_30
    · exact e16_32
    · exact e16_37
    · exact e16_38
    · exact e16_39
    · exact e16_60
    · exact e16_61
    · exact e16_62
    · exact e16_63
    · exact e16_64
    · exact e16_65
    · exact e16_66
  · rcases hU j hj with rfl | rfl | rfl | rfl | rfl | rfl | rfl | rfl | rfl | rfl | rfl | rfl | rfl | rfl | rfl | rfl | rfl | rfl | rfl | rfl | rfl | rfl | rfl | rfl | rfl
    · exact e0_17.symm
    · exact e1_17.symm
    · exact e3_17.symm
    · exact e12_17.symm
    · exact e13_17.symm
    · exact e14_17.symm
    · exact e15_17.symm
    · exact e16_17.symm
    · exact absurd rfl hij
    · exact e17_24
    · exact e17_26
    · exact e17_27
    · exact e17_29
    · exact e17_30
    · exact e17_32
    · exact e17_37
    · exact e17_38
    · exact e17_39
    · exact e17_60
    · exact e17_61
    · exact e17_62
    · exact e17_63
    · exact e17_64
    · exact e17_65
    · exact e17_66
  · rcases hU j hj with rfl | rfl | rfl | rfl | rfl | rfl | rfl | rfl | rfl | rfl | rfl | rfl | rfl | rfl | rfl | rfl | rfl | rfl | rfl | rfl | rfl | rfl | rfl | rfl | rfl
    · exact e0_24.symm
    · exact e1_24.symm
    · exact e3_24.symm
    · exact e12_24.symm
    · exact e13_24.symm
    · exact e14_24.symm
    · exact e15_24.symm
    · exact e16_24.symm
    · exact e17_24.symm
    · exact absurd rfl hij
    · exact e24_26
    · exact e24_27
    · exact e24_29
    · exact e24_30
    · exact e24_32
    · exact e24_37
    · exact e24_38
    · exact e24_39
    · exact e24_60
    · exact e24_61
    · exact e24_62
    · exact e24_63
    · exact e24_64
    · exact e24_65
    · exact e24_66
  · rcases hU j hj with rfl | rfl | rfl | rfl | rfl | rfl | rfl | rfl | rfl | rfl | rfl | rfl | rfl | rfl | rfl | rfl | rfl | rfl | rfl | rfl | rfl | rfl | rfl | rfl | rfl
    · exact e0_26.symm
    · exact e1_26.symm
    · exact e3_26.symm
    · exact e12_26.symm
    · exact e13_26.symm
    · exact e14_26.symm
    · exact e15_26.symm
    · exact e16_26.symm
    · exact e17_26.symm
    · exact e24_26.symm
    · exact absurd rfl hij
    · exact e26_27
    · exact e26_29
    · exact e26_30
    · exact e26_32
    · exact e26_37
    · exact e26_38
    · exact e26_39
    · exact e26_60
    · exact e26_61
    · exact e26_62
    · exact e26_63
    · exact e26_64
    · exact e26_65
    · exact e26_66
  · rcases hU j hj with rfl | rfl | rfl | rfl | rfl | rfl | rfl | rfl | rfl | rfl | rfl | rfl | rfl | rfl | rfl | rfl | rfl | rfl | rfl | rfl | rfl | rfl | rfl | rfl | rfl
    · exact e0_27.symm
    · exact e1_27.symm
    · exact e3_27.symm
    · exact e12_27.symm
    · exact e13_27.symm
    · exact e14_27.symm
    · exact e15_27.symm
    · exact e16_27.symm
    · exact e17_27.symm
    · exact e24_27.symm
    · exact e26_27.symm
    · exact absurd rfl hij
    · exact e27_29
    · exact e27_30
    · exact e27_32
    · exact e27_37
    · exact e27_38
    · exact e27_39
    · exact e27_60
    · exact e27_61
    · exact e27_62
    · exact e27_63
    · exact e27_64
    · exact e27_65
    · exact e27_66
  · rcases hU j hj with rfl | rfl | rfl | rfl | rfl | rfl | rfl | rfl | rfl | rfl | rfl | rfl | rfl | rfl | rfl | rfl | rfl | rfl | rfl | rfl | rfl | rfl | rfl | rfl | rfl
    · exact e0_29.symm
    · exact e1_29.symm
    · exact e3_29.symm
    · exact e12_29.symm
    · exact e13_29.symm
    · exact e14_29.symm
    · exact e15_29.symm
    · exact e16_29.symm
    · exact e17_29.symm
    · exact e24_29.symm
    · exact e26_29.symm
    · exact e27_29.symm
    · exact absurd rfl hij
    · exact e29_30
    · exact e29_32
    · exact e29_37
    · exact e29_38
    · exact e29_39
    · exact e29_60
    · exact e29_61
    · exact e29_62
    · exact e29_63
    · exact e29_64
    · exact e29_65
    · exact e29_66
  · rcases hU j hj with rfl | rfl | rfl | rfl | rfl | rfl | rfl | rfl | rfl | rfl | rfl | rfl | rfl | rfl | rfl | rfl | rfl | rfl | rfl | rfl | rfl | rfl | rfl | rfl | rfl
    · exact e0_30.symm
    · exact e1_30.symm
    · exact e3_30.symm
    · exact e12_30.symm
    · exact e13_30.symm
    · exact e14_30.symm
    · exact e15_30.symm
    · exact e16_30.symm
    · exact e17_30.symm
    · exact e24_30.symm
    · exact e26_30.symm
    · exact e27_30.symm
    · exact e29_30.symm
    · exact absurd rfl hij
    · exact e30_32
    · exact e30_37
    · exact e30_38
    · exact e30_39
    · exact e30_60
    · exact e30_61
    · exact e30_62
    · exact e30_63
    · exact e30_64
    · exact e30_65
    · exact e30_66
  · rcases hU j hj with rfl | rfl | rfl | rfl | rfl | rfl | rfl | rfl | rfl | rfl | rfl | rfl | rfl | rfl | rfl | rfl | rfl | rfl | rfl | rfl | rfl | rfl | rfl | rfl | rfl
    · exact e0_32.symm
    · exact e1_32.symm
    · exact e3_32.symm
    · exact e12_32.symm
    · exact e13_32.symm
    · exact e14_32.symm
    · exact e15_32.symm
    · exact e16_32.symm
    · exact e17_32.symm
    · exact e24_32.symm
    · exact e26_32.symm
    · exact e27_32.symm
    · exact e29_32.symm
    · exact e30_32.symm
    · exact absurd rfl hij
    · exact e32_37
    · exact e32_38
    · exact e32_39
    · exact e32_60
    · exact e32_61
    · exact e32_62
    · exact e32_63
    · exact e32_64
    · exact e32_65
    · exact e32_66
  · rcases hU j hj with rfl | rfl | rfl | rfl | rfl | rfl | rfl | rfl | rfl | rfl | rfl | rfl | rfl | rfl | rfl | rfl | rfl | rfl | rfl | rfl | rfl | rfl | rfl | rfl | rfl
    · exact e0_37.symm
    · exact e1_37.symm
    · exact e3_37.symm
    · exact e12_37.symm
    · exact e13_37.symm
    · exact e14_37.symm
    · exact e15_37.symm
    · exact e16_37.symm
    · exact e17_37.symm
    · exact e24_37.symm
    · exact e26_37.symm
    · exact e27_37.symm
    · exact e29_37.symm
    · exact e30_37.symm
    · exact e32_37.symm
    · exact absurd rfl hij
    · exact e37_38
    · exact e37_39
    · exact e37_60
    · exact e37_61
    · exact e37_62
    · exact e37_63
    · exact e37_64
    · exact e37_65
    · exact e37_66
  · rcases hU j hj with rfl | rfl | rfl | rfl | rfl | rfl | rfl | rfl | rfl | rfl | rfl | rfl | rfl | rfl | rfl | rfl | rfl | rfl | rfl | rfl | rfl | rfl | rfl | rfl | rfl
    · exact e0_38.symm
    · exact e1_38.symm
    · exact e3_38.symm
    · exact e12_38.symm
    · exact e13_38.symm
    · exact e14_38.symm
    · exact e15_38.symm
    · exact e16_38.symm
    · exact e17_38.symm
    · exact e24_38.symm
    · exact e26_38.symm
    · exact e27_38.symm
    · exact e29_38.symm
    · exact e30_38.symm
    · exact e32_38.symm
    · exact e37_38.symm
    · exact absurd rfl hij
    · exact e38_39
    · exact e38_60
    · exact e38_61
    · exact e38_62
    · exact e38_63
    · exact e38_64
    · exact e38_65
    · exact e38_66
  · rcases hU j hj with rfl | rfl | rfl | rfl | rfl | rfl | rfl | rfl | rfl | rfl | rfl | rfl | rfl | rfl | rfl | rfl | rfl | rfl | rfl | rfl | rfl | rfl | rfl | rfl | rfl
    · exact e0_39.symm
    · exact e1_39.symm
    · exact e3_39.symm
    · exact e12_39.symm
    · exact e13_39.symm
    · exact e14_39.symm
    · exact e15_39.symm
    · exact e16_39.symm
    · exact e17_39.symm
    · exact e24_39.symm
    · exact e26_39.symm
    · exact e27_39.symm
    · exact e29_39.symm
    · exact e30_39.symm
    · exact e32_39.symm
    · exact e37_39.symm
    · exact e38_39.symm
    · exact absurd rfl hij
    · exact e39_60
    · exact e39_61
    · exact e39_62
    · exact e39_63
    · exact e39_64
    · exact e39_65
    · exact e39_66
  · rcases hU j hj with rfl | rfl | rfl | rfl | rfl | rfl | rfl | rfl | rfl | rfl | rfl | rfl | rfl | rfl | rfl | rfl | rfl | rfl | rfl | rfl | rfl | rfl | rfl | rfl | rfl
    · exact e0_60.symm
    · exact e1_60.symm
    · exact e3_60.symm
    · exact e12_60.symm
    · exact e13_60.symm
    · exact e14_60.symm
    · exact e15_60.symm
    · exact e16_60.symm
    · exact e17_60.symm
    · exact e24_60.symm
    · exact e26_60.symm
    · exact e27_60.symm
    · exact e29_60.symm
    · exact e30_60.symm
    · exact e32_60.symm
    · exact e37_60.symm
    · exact e38_60.symm
    · exact e39_60.symm
    · exact absurd rfl hij
    · exact e60_61
    · exact e60_62
    · exact e60_63
    · exact e60_64
    · exact e60_65
    · exact e60_66
  · rcases hU j hj with rfl | rfl | rfl | rfl | rfl | rfl | rfl | rfl | rfl | rfl | rfl | rfl | rfl | rfl | rfl | rfl | rfl | rfl | rfl | rfl | rfl | rfl | rfl | rfl | rfl
    · exact e0_61.symm
    · exact e1_61.symm
    · exact e3_61.symm
    · exact e12_61.symm
    · exact e13_61.symm
    · exact e14_61.symm
    · exact e15_61.symm
    · exact e16_61.symm
    · exact e17_61.symm
    · exact e24_61.symm
    · exact e26_61.symm
    · exact e27_61.symm
    · exact e29_61.symm
    · exact e30_61.symm
    · exact e32_61.symm
    · exact e37_61.symm
    · exact e38_61.symm
    · exact e39_61.symm
    · exact e60_61.symm
    · exact absurd rfl hij
    · exact e61_62
    · exact e61_63
    · exact e61_64
    · exact e61_65
    · exact e61_66
  · rcases hU j hj with rfl | rfl | rfl | rfl | rfl | rfl | rfl | rfl | rfl | rfl | rfl | rfl | rfl | rfl | rfl | rfl | rfl | rfl | rfl | rfl | rfl | rfl | rfl | rfl | rfl
    · exact e0_62.symm
    · exact e1_62.symm
    · exact e3_62.symm
    · exact e12_62.symm
    · exact e13_62.symm
    · exact e14_62.symm
    · exact e15_62.symm
    · exact e16_62.symm
    · exact e17_62.symm
    · exact e24_62.symm
    · exact e26_62.symm
    · exact e27_62.symm
    · exact e29_62.symm
    · exact e30_62.symm
    · exact e32_62.symm
    · exact e37_62.symm
    · exact e38_62.symm
    · exact e39_62.symm
    · exact e60_62.symm
    · exact e61_62.symm
    · exact absurd rfl hij
    · exact e62_63
    · exact e62_64
    · exact e62_65
    · exact e62_66
  · rcases hU j hj with rfl | rfl | rfl | rfl | rfl | rfl | rfl | rfl | rfl | rfl | rfl | rfl | rfl | rfl | rfl | rfl | rfl | rfl | rfl | rfl | rfl | rfl | rfl | rfl | rfl
    · exact e0_63.symm
    · exact e1_63.symm
    · exact e3_63.symm
    · exact e12_63.symm
    · exact e13_63.symm
    · exact e14_63.symm
    · exact e15_63.symm
    · exact e16_63.symm
    · exact e17_63.symm
    · exact e24_63.symm
    · exact e26_63.symm
    · exact e27_63.symm
    · exact e29_63.symm
    · exact e30_63.symm
    · exact e32_63.symm
    · exact e37_63.symm
    · exact e38_63.symm
    · exact e39_63.symm
    · exact e60_63.symm
    · exact e61_63.symm
    · exact e62_63.symm
    · exact absurd rfl hij
    · exact e63_64
    · exact e63_65
    · exact e63_66
  · rcases hU j hj with rfl | rfl | rfl | rfl | rfl | rfl | rfl | rfl | rfl | rfl | rfl | rfl | rfl | rfl | rfl | rfl | rfl | rfl | rfl | rfl | rfl | rfl | rfl | rfl | rfl
    · exact e0_64.symm
    · exact e1_64.symm
    · exact e3_64.symm
    · exact e12_64.symm
    · exact e13_64.symm
    · exact e14_64.symm
    · exact e15_64.symm
    · exact e16_64.symm
    · exact e17_64.symm
    · exact e24_64.symm
    · exact e26_64.symm
    · exact e27_64.symm
    · exact e29_64.symm
    · exact e30_64.symm
    · exact e32_64.symm
    · exact e37_64.symm
    · exact e38_64.symm
    · exact e39_64.symm
    · exact e60_64.symm
    · exact e61_64.symm
    · exact e62_64.symm
    · exact e63_64.symm
    · exact absurd rfl hij
    · exact e64_65
    · exact e64_66
  · rcases hU j hj with rfl | rfl | rfl | rfl | rfl | rfl | rfl | rfl | rfl | rfl | rfl | rfl | rfl | rfl | rfl | rfl | rfl | rfl | rfl | rfl | rfl | rfl | rfl | rfl | rfl
    · exact e0_65.symm
    · exact e1_65.symm
    · exact e3_65.symm
    · exact e12_65.symm
    · exact e13_65.symm
    · exact e14_65.symm
    · exact e15_65.symm
    · exact e16_65.symm
    · exact e17_65.symm
    · exact e24_65.symm
    · exact e26_65.symm
    · exact e27_65.symm
    · exact e29_65.symm
    · exact e30_65.symm
    · exact e32_65.symm
    · exact e37_65.symm
    · exact e38_65.symm
    · exact e39_65.symm
    · exact e60_65.symm
    · exact e61_65.symm
    · exact e62_65.symm
    · exact e63_65.symm
    · exact e64_65.symm
    · exact absurd rfl hij
    · exact e65_66
  · rcases hU j hj with rfl | rfl | rfl | rfl | rfl | rfl | rfl | rfl | rfl | rfl | rfl | rfl | rfl | rfl | rfl | rfl | rfl | rfl | rfl | rfl | rfl | rfl | rfl | rfl | rfl
    · exact e0_66.symm
    · exact e1_66.symm
    · exact e3_66.symm
    · exact e12_66.symm
    · exact e13_66.symm
    · exact e14_66.symm
    · exact e15_66.symm
    · exact e16_66.symm
    · exact e17_66.symm
    · exact e24_66.symm
    · exact e26_66.symm
    · exact e27_66.symm
    · exact e29_66.symm
    · exact e30_66.symm
    · exact e32_66.symm
    · exact e37_66.symm
    · exact e38_66.symm
    · exact e39_66.symm
    · exact e60_66.symm
    · exact e61_66.symm
    · exact e62_66.symm
    · exact e63_66.symm
    · exact e64_66.symm
    · exact e65_66.symm
    · exact absurd rfl hij

theorem Raw.bne {E : GE} {h : HH} {t pa B cp : Nat → Nat} {f : Nat → Nat → Int32} {g : Nat → Nat → Option Nat} (H : Raw E h t pa B cp f g) : ∀ j, usd j = true → (∀ i, i < NB → B i ≠ t j) ∧ (∀ i, i < 16 → pa i ≠ t j) := by
  obtain ⟨w0, ⟨w1, w3, w12, w13, w14, w15, w16, w17, w39⟩, ⟨w24, w37, w38⟩, ⟨w29, w30, w32⟩, ⟨w26, w60⟩, ⟨w27, w61⟩, ⟨w62, w63, w64, w65, w66⟩, wP, ⟨wg24, wg37, wg38⟩, wB, ⟨wf1, wf14, wf16, wf12, wf13, wf17⟩, wA, wD⟩ := H
  intro j hj
  have hU : ∀ i, usd i = true → i = 0 ∨ i = 1 ∨ i = 3 ∨ i = 12 ∨ i = 13 ∨ i = 14 ∨ i = 15 ∨ i = 16 ∨ i = 17 ∨ i = 24 ∨ i = 26 ∨ i = 27 ∨ i = 29 ∨ i = 30 ∨ i = 32 ∨ i = 37 ∨ i = 38 ∨ i = 39 ∨ i = 60 ∨ i = 61 ∨ i = 62 ∨ i = 63 ∨ i = 64 ∨ i = 65 ∨ i = 66 := by intro i hi; unfold usd at hi; simpa using hi
  rcases hU j hj with rfl | rfl | rfl | rfl | rfl | rfl | rfl | rfl | rfl | rfl | rfl | rfl | rfl | rfl | rfl | rfl | rfl | rfl | rfl | rfl | rfl | rfl | rfl | rfl | rfl
  · exact ⟨wB.neobj w0 (by decide), fun i hi => hne_of (wP i hi) w0 (fun z => by cases z)⟩
  · exact ⟨wB.nearr w1, fun i hi => hne_of (wP i hi) w1 (fun z => by cases z)⟩
  · exact ⟨wB.nearr w3, fun i hi => hne_of (wP i hi) w3 (fun z => by cases z)⟩
  · exact ⟨wB.nearr w12, fun i hi => hne_of (wP i hi) w12 (fun z => by cases z)⟩
  · exact ⟨wB.nearr w13, fun i hi => hne_of (wP i hi) w13 (fun z => by cases z)⟩
  · exact ⟨wB.nearr w14, fun i hi => hne_of (wP i hi) w14 (fun z => by cases z)⟩
  · exact ⟨wB.nearr w15, fun i hi => hne_of (wP i hi) w15 (fun z => by cases z)⟩
  · exact ⟨wB.nearr w16, fun i hi => hne_of (wP i hi) w16 (fun z => by cases z)⟩
  · exact ⟨wB.nearr w17, fun i hi => hne_of (wP i hi) w17 (fun z => by cases z)⟩
  · exact ⟨wB.nearr w24, fun i hi => hne_of (wP i hi) w24 (fun z => by cases z)⟩
  · exact ⟨wB.neobj w26 (by decide), fun i hi => hne_of (wP i hi) w26 (fun z => by cases z)⟩
  · exact ⟨wB.neobj w27 (by decide), fun i hi => hne_of (wP i hi) w27 (fun z => by cases z)⟩
  · exact ⟨wB.neobj w29 (by decide), fun i hi => hne_of (wP i hi) w29 (fun z => by cases z)⟩
  · exact ⟨wB.neobj w30 (by decide), fun i hi => hne_of (wP i hi) w30 (fun z => by cases z)⟩
  · exact ⟨wB.neobj w32 (by decide), fun i hi => hne_of (wP i hi) w32 (fun z => by cases z)⟩
  · exact ⟨wB.nearr w37, fun i hi => hne_of (wP i hi) w37 (fun z => by cases z)⟩
  · exact ⟨wB.nearr w38, fun i hi => hne_of (wP i hi) w38 (fun z => by cases z)⟩
  · exact ⟨wB.nearr w39, fun i hi => hne_of (wP i hi) w39 (fun z => by cases z)⟩
  · exact ⟨wB.nearr w60, fun i hi => hne_of (wP i hi) w60 (fun z => by cases z)⟩
  · exact ⟨wB.nearr w61, fun i hi => hne_of (wP i hi) w61 (fun z => by cases z)⟩
  · exact ⟨wB.neobj w62 (by decide), fun i hi => hne_of (wP i hi) w62 (fun z => by cases z)⟩
  · exact ⟨wB.nearr w63, fun i hi => hne_of (wP i hi) w63 (fun z => by cases z)⟩
  · exact ⟨wB.nearr w64, fun i hi => hne_of (wP i hi) w64 (fun z => by cases z)⟩
  · exact ⟨wB.nearr w65, fun i hi => hne_of (wP i hi) w65 (fun z => by cases z)⟩
  · exact ⟨wB.nearr w66, fun i hi => hne_of (wP i hi) w66 (fun z => by cases z)⟩

theorem Raw.lay {E : GE} {h : HH} {t pa B cp : Nat → Nat} {f : Nat → Nat → Int32} {g : Nat → Nat → Option Nat} (H : Raw E h t pa B cp f g) : Lay (mkL t pa (ksum t 128 + ksum pa 16 + ksum B NB + 1)) B := by
  have tn := H.ne
  have bn := H.bne
  obtain ⟨w0, ⟨w1, w3, w12, w13, w14, w15, w16, w17, w39⟩, ⟨w24, w37, w38⟩, ⟨w29, w30, w32⟩, ⟨w26, w60⟩, ⟨w27, w61⟩, ⟨w62, w63, w64, w65, w66⟩, wP, ⟨wg24, wg37, wg38⟩, wB, ⟨wf1, wf14, wf16, wf12, wf13, wf17⟩, wA, wD⟩ := H
  have pn : ∀ i j, i < 16 → j < 16 → i ≠ j → pa i ≠ pa j := fun i j hi hj hij e => by
    have h1 := wP i hi
    rw [e, wP j hj] at h1
    injection h1 with h1
    injection h1 with h1 h2
    injection h1 with h1
    injection h1 with h1 h3
    injection h3 with h3 h4
    injection h4 with h4 h5
    injection h5 with h5 h6
    injection h6 with h6 h7
    injection h6 with h6
    exact absurd h6 (wB.2 (19 + 2 * j) (19 + 2 * i) (show 19 + 2 * j < 1973 by omega) (show 19 + 2 * i < 1973 by omega) (by omega))
  obtain ⟨X, hX⟩ : ∃ X, X = ksum t 128 + ksum pa 16 + ksum B NB + 1 := ⟨_, rfl⟩
  rw [← hX]
  have ht : ∀ i, i < 128 → t i < X := fun i hi => by have := ksum_mem (f := t) hi; omega
  have hp : ∀ i, i < 16 → pa i < X := fun i hi => by have := ksum_mem (f := pa) hi; omega
  have hb : ∀ i, i < NB → B i < X := fun i hi => by have := ksum_mem (f := B) hi; omega
  have hlp : ∀ i, 70 ≤ i ∧ i < 86 → ¬ usd i = true := by
    have : ∀ i, i < 128 → 70 ≤ i ∧ i < 86 → ¬ usd i = true := by decide
    intro i hi
    exact this i (by omega) hi
  refine ⟨fun i j hi hj hij => ?_, fun i j hi hj => ?_⟩
  · unfold mkL
    by_cases ui : usd i = true
    · rw [if_pos ui]
      by_cases uj : usd j = true
      · rw [if_pos uj]; exact tn i j ui uj hij
      · rw [if_neg uj]
        by_cases pj : 70 ≤ j ∧ j < 86
        · rw [if_pos pj]; exact ((bn i ui).2 _ (by omega)).symm
        · rw [if_neg pj]; have := ht i hi; omega
    · rw [if_neg ui]
      by_cases pi : 70 ≤ i ∧ i < 86
      · rw [if_pos pi]
        by_cases uj : usd j = true
        · rw [if_pos uj]; exact (bn j uj).2 _ (by omega)
        · rw [if_neg uj]
          by_cases pj : 70 ≤ j ∧ j < 86
          · rw [if_pos pj]; exact pn _ _ (by omega) (by omega) (by omega)
          · rw [if_neg pj]; have := hp (i - 70) (by omega); omega
      · rw [if_neg pi]
        by_cases uj : usd j = true
        · rw [if_pos uj]; have := ht j hj; omega
        · rw [if_neg uj]
          by_cases pj : 70 ≤ j ∧ j < 86
          · rw [if_pos pj]; have := hp (j - 70) (by omega); omega
          · rw [if_neg pj]; omega
  · unfold mkL
    by_cases uj : usd j = true
    · rw [if_pos uj]; exact (bn j uj).1 i hi
    · rw [if_neg uj]
      by_cases pj : 70 ≤ j ∧ j < 86
      · rw [if_pos pj]; exact wB.neobj (wP _ (by omega)) (by decide) i hi
      · rw [if_neg pj]; have := hb i hi; omega

theorem Raw.cp {E : GE} {h : HH} {t pa B cp : Nat → Nat} {f : Nat → Nat → Int32} {g : Nat → Nat → Option Nat} (H : Raw E h t pa B cp f g) : ∃ (h' : HH) (L : Nat → Nat), Cp E h' L B cp inN inM inG ∧ Lay L B ∧ L 0 = t 0 ∧ (∀ a x, h' a = some x → ∃ y o, h a = some (y, o) ∧ Sm y x.1) ∧ (∀ q x, h q = some (.inl x, q) → h' q = some (.inl x, q)) := by
  have hLay := H.lay
  have tn := H.ne
  have bn := H.bne
  obtain ⟨w0, ⟨w1, w3, w12, w13, w14, w15, w16, w17, w39⟩, ⟨w24, w37, w38⟩, ⟨w29, w30, w32⟩, ⟨w26, w60⟩, ⟨w27, w61⟩, ⟨w62, w63, w64, w65, w66⟩, wP, ⟨wg24, wg37, wg38⟩, wB, ⟨wf1, wf14, wf16, wf12, wf13, wf17⟩, wA, wD⟩ := H
  obtain ⟨X, hX⟩ : ∃ X, X = ksum t 128 + ksum pa 16 + ksum B NB + 1 := ⟨_, rfl⟩
  rw [← hX] at hLay
  obtain ⟨L, hL⟩ : ∃ L, L = mkL t pa X := ⟨_, rfl⟩
  rw [← hL] at hLay
  have l0 : L 0 = t 0 := by rw [hL]; exact mkL_u rfl
  have l1 : L 1 = t 1 := by rw [hL]; exact mkL_u rfl
  have l3 : L 3 = t 3 := by rw [hL]; exact mkL_u rfl
  have l12 : L 12 = t 12 := by rw [hL]; exact mkL_u rfl
  have l13 : L 13 = t 13 := by rw [hL]; exact mkL_u rfl
  have l14 : L 14 = t 14 := by rw [hL]; exact mkL_u rfl
  have l15 : L 15 = t 15 := by rw [hL]; exact mkL_u rfl
  have l16 : L 16 = t 16 := by rw [hL]; exact mkL_u rfl
  have l17 : L 17 = t 17 := by rw [hL]; exact mkL_u rfl
  have l24 : L 24 = t 24 := by rw [hL]; exact mkL_u rfl
  have l26 : L 26 = t 26 := by rw [hL]; exact mkL_u rfl
  have l27 : L 27 = t 27 := by rw [hL]; exact mkL_u rfl
  have l29 : L 29 = t 29 := by rw [hL]; exact mkL_u rfl
  have l30 : L 30 = t 30 := by rw [hL]; exact mkL_u rfl
  have l32 : L 32 = t 32 := by rw [hL]; exact mkL_u rfl
  have l37 : L 37 = t 37 := by rw [hL]; exact mkL_u rfl
  have l38 : L 38 = t 38 := by rw [hL]; exact mkL_u rfl
  have l39 : L 39 = t 39 := by rw [hL]; exact mkL_u rfl
  have l60 : L 60 = t 60 := by rw [hL]; exact mkL_u rfl
  have l61 : L 61 = t 61 := by rw [hL]; exact mkL_u rfl
  have l62 : L 62 = t 62 := by rw [hL]; exact mkL_u rfl
  have l63 : L 63 = t 63 := by rw [hL]; exact mkL_u rfl
  have l64 : L 64 = t 64 := by rw [hL]; exact mkL_u rfl
  have l65 : L 65 = t 65 := by rw [hL]; exact mkL_u rfl
  have l66 : L 66 = t 66 := by rw [hL]; exact mkL_u rfl
  have lp : ∀ i, i < 16 → L (70 + i) = pa i := fun i hi => by rw [hL]; exact mkL_p hi
  obtain ⟨h2, hh2⟩ : ∃ h2, h2 = rth E h t L B := ⟨_, rfl⟩
  have v24 := rth_24 (E := E) (h := h) (t := t) (L := L) (B := B)
  have v37 := rth_37 (E := E) (h := h) (t := t) (L := L) (B := B) (tn 37 24 rfl rfl (by decide))
  have v38 := rth_38 (E := E) (h := h) (t := t) (L := L) (B := B) (tn 38 24 rfl rfl (by decide)) (tn 38 37 rfl rfl (by decide))
  rw [← hh2] at v24 v37 v38
  have v0 := rth_o (E := E) (L := L) (B := B) (tn 0 24 rfl rfl (by decide)) (tn 0 37 rfl rfl (by decide)) (tn 0 38 rfl rfl (by decide)) w0
  rw [← hh2] at v0
  have v1 := rth_a (E := E) (L := L) (B := B) (tn 1 24 rfl rfl (by decide)) (tn 1 37 rfl rfl (by decide)) (tn 1 38 rfl rfl (by decide)) w1
  rw [← hh2] at v1
  have v3 := rth_a (E := E) (L := L) (B := B) (tn 3 24 rfl rfl (by decide)) (tn 3 37 rfl rfl (by decide)) (tn 3 38 rfl rfl (by decide)) w3
  rw [← hh2] at v3
  have v12 := rth_a (E := E) (L := L) (B := B) (tn 12 24 rfl rfl (by decide)) (tn 12 37 rfl rfl (by decide)) (tn 12 38 rfl rfl (by decide)) w12
  rw [← hh2] at v12
  have v13 := rth_a (E := E) (L := L) (B := B) (tn 13 24 rfl rfl (by decide)) (tn 13 37 rfl rfl (by decide)) (tn 13 38 rfl rfl (by decide)) w13
  rw [← hh2] at v13
  have v14 := rth_a (E := E) (L := L) (B := B) (tn 14 24 rfl rfl (by decide)) (tn 14 37 rfl rfl (by decide)) (tn 14 38 rfl rfl (by decide)) w14
  rw [← hh2] at v14
  have v15 := rth_a (E := E) (L := L) (B := B) (tn 15 24 rfl rfl (by decide)) (tn 15 37 rfl rfl (by decide)) (tn 15 38 rfl rfl (by decide)) w15
  rw [← hh2] at v15
  have v16 := rth_a (E := E) (L := L) (B := B) (tn 16 24 rfl rfl (by decide)) (tn 16 37 rfl rfl (by decide)) (tn 16 38 rfl rfl (by decide)) w16
  rw [← hh2] at v16
  have v17 := rth_a (E := E) (L := L) (B := B) (tn 17 24 rfl rfl (by decide)) (tn 17 37 rfl rfl (by decide)) (tn 17 38 rfl rfl (by decide)) w17
  rw [← hh2] at v17
  have v26 := rth_o (E := E) (L := L) (B := B) (tn 26 24 rfl rfl (by decide)) (tn 26 37 rfl rfl (by decide)) (tn 26 38 rfl rfl (by decide)) w26
  rw [← hh2] at v26
  have v27 := rth_o (E := E) (L := L) (B := B) (tn 27 24 rfl rfl (by decide)) (tn 27 37 rfl rfl (by decide)) (tn 27 38 rfl rfl (by decide)) w27
  rw [← hh2] at v27
  have v29 := rth_o (E := E) (L := L) (B := B) (tn 29 24 rfl rfl (by decide)) (tn 29 37 rfl rfl (by decide)) (tn 29 38 rfl rfl (by decide)) w29
  rw [← hh2] at v29
  have v30 := rth_o (E := E) (L := L) (B := B) (tn 30 24 rfl rfl (by decide)) (tn 30 37 rfl rfl (by decide)) (tn 30 38 rfl rfl (by decide)) w30
  rw [← hh2] at v30
  have v32 := rth_o (E := E) (L := L) (B := B) (tn 32 24 rfl rfl (by decide)) (tn 32 37 rfl rfl (by decide)) (tn 32 38 rfl rfl (by decide)) w32
  rw [← hh2] at v32
  have v39 := rth_a (E := E) (L := L) (B := B) (tn 39 24 rfl rfl (by decide)) (tn 39 37 rfl rfl (by decide)) (tn 39 38 rfl rfl (by decide)) w39
  rw [← hh2] at v39
  have v60 := rth_a (E := E) (L := L) (B := B) (tn 60 24 rfl rfl (by decide)) (tn 60 37 rfl rfl (by decide)) (tn 60 38 rfl rfl (by decide)) w60
  rw [← hh2] at v60
  have v61 := rth_a (E := E) (L := L) (B := B) (tn 61 24 rfl rfl (by decide)) (tn 61 37 rfl rfl (by decide)) (tn 61 38 rfl rfl (by decide)) w61
  rw [← hh2] at v61
  have v62 := rth_o (E := E) (L := L) (B := B) (tn 62 24 rfl rfl (by decide)) (tn 62 37 rfl rfl (by decide)) (tn 62 38 rfl rfl (by decide)) w62
  rw [← hh2] at v62
  have v63 := rth_a (E := E) (L := L) (B := B) (tn 63 24 rfl rfl (by decide)) (tn 63 37 rfl rfl (by decide)) (tn 63 38 rfl rfl (by decide)) w63
  rw [← hh2] at v63
  have v64 := rth_a (E := E) (L := L) (B := B) (tn 64 24 rfl rfl (by decide)) (tn 64 37 rfl rfl (by decide)) (tn 64 38 rfl rfl (by decide)) w64
  rw [← hh2] at v64
  have v65 := rth_a (E := E) (L := L) (B := B) (tn 65 24 rfl rfl (by decide)) (tn 65 37 rfl rfl (by decide)) (tn 65 38 rfl rfl (by decide)) w65
  rw [← hh2] at v65
  have v66 := rth_a (E := E) (L := L) (B := B) (tn 66 24 rfl rfl (by decide)) (tn 66 37 rfl rfl (by decide)) (tn 66 38 rfl rfl (by decide)) w66
  rw [← hh2] at v66
  have vP : ∀ i, i < 16 → h2 (pa i) = some (.inr (8, [.int 0, .int 0, .int 0, .ref (B (19 + 2 * i)), .ref (B (20 + 2 * i))]), t 24) := fun i hi => by
    have := rth_o (E := E) (L := L) (B := B) ((bn 24 rfl).2 i hi) ((bn 37 rfl).2 i hi) ((bn 38 rfl).2 i hi) (wP i hi)
    rw [← hh2] at this
    exact this
  have vB : Bgs E h2 B (nu (fun _ => 0) 3 1) cp := by
    refine ⟨fun i hi => ?_, wB.2⟩
    obtain ⟨ca, bf, ⟨b1, b2, b3⟩, b4⟩ := wB.1 i hi
    have hn : ∀ k x, h (t k) = some (x, t 0) → ca ≠ t k := fun k x hx e => by
      rw [e, hx] at b2
      injection b2 with b2
      injection b2 with b2 b5
      exact (bn 0 rfl).1 i hi b5.symm
    have c1 := rth_o (E := E) (L := L) (B := B) ((bn 24 rfl).1 i hi) ((bn 37 rfl).1 i hi) ((bn 38 rfl).1 i hi) b1
    have c2 := rth_a (E := E) (L := L) (B := B) (hn 24 _ w24) (hn 37 _ w37) (hn 38 _ w38) b2
    rw [← hh2] at c1 c2
    exact ⟨ca, bf, ⟨c1, c2, b3⟩, b4⟩
  refine ⟨h2, L, ⟨0, f, fun _ => 0, fun _ => 0, fun _ => 0, fun _ => 0, _, ?_, ?_, ?_, ?_, ?_, ?_, ?_, ?_, vB⟩, hLay, l0, ?_, ?_⟩
  · unfold Ma
    rw [show (if inN 13 = 1 then L 27 else L 26) = L 26 from rfl, show (if inN 12 = 1 then L 30 else L 29) = L 29 from rfl, l0, l1, l3, l12, l13, l14, l15, l16, l17, l24, l26, l27, l29, l30, l32, l37, l38, l39]
    exact ⟨v0, v1, v3, v12, v13, v14, v15, v16, v17, v39⟩
  · exact ⟨fun i _ => wf1 i, fun i hi => absurd hi (show ¬ i < 0 by omega), fun i hi => wf12 i hi, fun i hi => wf13 i hi, fun i _ => wf14 i, fun z => absurd rfl z, fun i _ => wf16 i, fun i hi => wf17 i hi, fun z => absurd rfl z, by decide⟩
  · exact ⟨rfl, rfl, fun z => absurd rfl z, fun z => absurd rfl z⟩
  · unfold Stt
    rw [l24, l37, l38, l29, l30, l32, l0]
    exact ⟨v24, v37, v38, v29, v30, v32⟩
  · intro k hk
    rw [lp k hk, l24]
    exact vP k hk
  · exact ⟨0, fun _ => 0, by rw [l26, l60]; exact v26, by rw [l26, l60]; exact v60, by decide, by decide, fun i hi => absurd hi (show ¬ i < 0 by omega), fun i hi => absurd hi (show ¬ i < 0 by omega)⟩
  · exact ⟨fun _ => 0, by rw [l27, l61, l62]; exact v27, by rw [l27, l61]; exact v61, fun i hi => absurd hi (show ¬ i < 0 by omega), by decide, fun i hi => absurd hi (show ¬ i < 0 by omega)⟩
  · exact ⟨0, fun _ => 0, fun _ => 0, fun _ => 0, by rw [l62, l63, l64, l65, l66]; exact v62, by rw [l62, l63]; exact v63, by rw [l62, l64]; exact v64, by rw [l62, l65]; exact v65, by rw [l62, l66]; exact v66⟩
  · intro a x hx
    rw [hh2] at hx
    unfold rth at hx
    by_cases z1 : a = t 24
    · rw [if_pos z1] at hx
      exact ⟨_, _, by rw [z1]; exact w24, Or.inr ⟨_, _, _, _, rfl, by rw [← Option.some.inj hx], fun i hi => by rw [wg24 i hi, lp i hi]⟩⟩
    · rw [if_neg z1] at hx
      by_cases z2 : a = t 37
      · rw [if_pos z2] at hx
        exact ⟨_, _, by rw [z2]; exact w37, Or.inr ⟨_, _, _, _, rfl, by rw [← Option.some.inj hx], fun i hi => wg37 i hi⟩⟩
      · rw [if_neg z2] at hx
        by_cases z3 : a = t 38
        · rw [if_pos z3] at hx
          exact ⟨_, _, by rw [z3]; exact w38, Or.inr ⟨_, _, _, _, rfl, by rw [← Option.some.inj hx], fun i hi => wg38 i hi⟩⟩
        · rw [if_neg z3] at hx
          cases hc : h a with
          | none => rw [hc] at hx; cases hx
          | some y =>
            rw [hc] at hx
            exact ⟨y.1, y.2, rfl, Or.inl (by rw [← Option.some.inj hx]; rfl)⟩
  · intro q x hq
    have hn : ∀ k, usd k = true → k ≠ 0 → ∀ y, h (t k) = some (y, t 0) → q ≠ t k := fun k hk k0 y hy e => by
      rw [e, hy] at hq
      injection hq with hq
      injection hq with _ hq
      exact tn 0 k rfl hk (Ne.symm k0) hq
    rw [hh2]
    exact rth_a (hn 24 rfl (by decide) _ w24) (hn 37 rfl (by decide) _ w37) (hn 38 rfl (by decide) _ w38) hq

