set_option maxRecDepth 100000
/-! the family of all the class's Bigs, by numbers: 0 one, 1 two, 2 shownAbove, 3 shownBelow, 4 sum, 5 power, 6 7 the comparing test's above and below, 8 .. 18 the reckoner's x y q d t g e f m c r, 19 + 2 k and 20 + 2 k a pair's above and below, 51 + j ways, 1012 + j next -/
def nu (f : Nat → Nat) (i v : Nat) : Nat → Nat := fun j => if j = i then v else f j
theorem nu_s {f : Nat → Nat} {i v : Nat} : nu f i v i = v := if_pos rfl
theorem nu_n {f : Nat → Nat} {i v j : Nat} (h : j ≠ i) : nu f i v j = f j := if_neg h
theorem nu_same {f : Nat → Nat} {i : Nat} : nu f i (f i) = f := by
  funext j
  unfold nu
  split
  · rename_i h; rw [h]
  · rfl
def ksum (f : Nat → Nat) : Nat → Nat
  | 0 => 0
  | n + 1 => ksum f n + f n
theorem ksum_le {f : Nat → Nat} {c : Nat} : ∀ {n : Nat}, (∀ i, i < n → f i ≤ c) → ksum f n ≤ n * c := by
  intro n
  induction n with
  | zero => intro _; simp [ksum]
  | succ n ih =>
    intro h
    have h1 := ih fun i hi => h i (by omega)
    have h2 := h n (by omega)
    rw [ksum, Nat.add_mul]
    omega
theorem ksum_nu {f : Nat → Nat} {i v : Nat} : ∀ {n : Nat}, ksum (nu f i v) n + (if i < n then f i else 0) = ksum f n + (if i < n then v else 0) := by
  intro n
  induction n with
  | zero => simp [ksum]
  | succ n ih =>
    rw [ksum, ksum]
    by_cases h : n = i
    · subst h
      rw [nu_s]
      rw [if_neg (by omega), if_neg (by omega)] at ih
      rw [if_pos (by omega), if_pos (by omega)]
      omega
    · rw [nu_n h]
      by_cases h2 : i < n
      · rw [if_pos h2, if_pos h2] at ih
        rw [if_pos (by omega), if_pos (by omega)]
        omega
      · rw [if_neg h2, if_neg h2] at ih
        rw [if_neg (by omega), if_neg (by omega)]
        omega
theorem ksum_put {f : Nat → Nat} {i v n : Nat} (h : i < n) : ksum (nu f i v) n + f i = ksum f n + v := by
  have := ksum_nu (f := f) (i := i) (v := v) (n := n)
  rw [if_pos h, if_pos h] at this
  exact this
abbrev NB : Nat := 1973
abbrev KX : Nat := 505088
def Bgs (E : GE) (h : HH) (B V cp : Nat → Nat) : Prop := (∀ i, i < NB → Big E h (B i) (V i) (cp i)) ∧ (∀ i j, i < NB → j < NB → i ≠ j → B i ≠ B j)
/-- the owners: the family's objects -/
def BO (B : Nat → Nat) : Nat → Prop := fun o => ∃ i, i < NB ∧ o = B i
theorem BO.of {B : Nat → Nat} {i : Nat} (h : i < NB) : BO B (B i) := ⟨i, h, rfl⟩
theorem Bgs.kmax {E : GE} {h : HH} {B V cp : Nat → Nat} (H : Bgs E h B V cp) : ksum cp NB ≤ KX := by
  have := ksum_le (f := cp) (c := 256) (n := NB) fun i hi => (H.1 i hi).cap.2.2
  exact this
theorem Bgs.put {E : GE} {h h2 : HH} {B V cp : Nat → Nat} {i v c : Nat} (H : Bgs E h B V cp) (hi : i < NB) (F : Fr (· = B i) h h2) (hb : Big E h2 (B i) v c) : Bgs E h2 B (nu V i v) (nu cp i c) := by
  refine ⟨fun j hj => ?_, H.2⟩
  by_cases e : j = i
  · subst e
    rw [nu_s, nu_s]
    exact hb
  · rw [nu_n e, nu_n e]
    exact Fr1.b F (H.2 j i hj hi e) (H.1 j hj)
theorem Bgs.kept {E : GE} {h h2 : HH} {B V cp : Nat → Nat} {O : Nat → Prop} (F : Fr O h h2) (hO : ∀ i, i < NB → ¬ O (B i)) (H : Bgs E h B V cp) : Bgs E h2 B V cp := ⟨fun i hi => Fr1.b F (hO i hi) (H.1 i hi), H.2⟩
theorem Fr.bo {h h2 : HH} {B : Nat → Nat} {i : Nat} (hi : i < NB) (F : Fr (· = B i) h h2) : Fr (BO B) h h2 := F.mono fun _ e => ⟨i, hi, e⟩
/-- how the rows have grown -/
def Gw (cp cp' : Nat → Nat) (dc ds : Nat) : Prop := 8 * dc + ksum cp NB ≤ ksum cp' NB ∧ ds + 2 * ksum cp NB ≤ 2 * ksum cp' NB
theorem Gw.rf {cp : Nat → Nat} : Gw cp cp 0 0 := ⟨by omega, by omega⟩
theorem Gw.tr {a b c : Nat → Nat} {dc ds dc' ds' : Nat} (h : Gw a b dc ds) (h2 : Gw b c dc' ds') : Gw a c (dc + dc') (ds + ds') := ⟨by have := h.1; have := h2.1; omega, by have := h.2; have := h2.2; omega⟩
theorem Bgs.g1 {E : GE} {h : HH} {B V cp : Nat → Nat} {i m : Nat} (H : Bgs E h B V cp) (hi : i < NB) (hm : m ≤ 128) : Gw cp (nu cp i (capr (cp i) m)) (gc (cp i) m) (gs (cp i) m) ∧ 8 * gc (cp i) m + ksum cp NB ≤ KX ∧ gs (cp i) m + 2 * ksum cp NB ≤ 2 * KX := by
  have hc := (H.1 i hi).cap
  have hp := gpot hc.2.1 hc.2.2 hm
  have hk := ksum_put (f := cp) (v := capr (cp i) m) hi
  have hx : ksum (nu cp i (capr (cp i) m)) NB ≤ KX := ksum_le (f := nu cp i (capr (cp i) m)) (c := 256) (n := NB) fun j hj => by
    by_cases e : j = i
    · subst e; rw [nu_s]; exact hp.2.2.2.2.1
    · rw [nu_n e]; exact (H.1 j hj).cap.2.2
  refine ⟨⟨by omega, by omega⟩, by omega, by omega⟩
theorem MG.imp {E : GE} {l : Launch} {y : MethodName} {cc : ByteArray} {maxL : Nat} {ret : Option FieldType} {rm : Room} {av : List Value} {h : HH} {post post' : Option Value → HH → Nat → Nat → Prop} (M : MG E l y cc maxL ret rm av h post) (hi : ∀ rv h2 dc ds, post rv h2 dc ds → post' rv h2 dc ds) : MG E l y cc maxL ret rm av h post' := by
  refine MetFree.mono M (fun _ _ z => z) (fun _ _ _ _ _ z => z) (fun a s o s' _ q => ?_)
  obtain ⟨⟨⟨rv, h', dc, ds, e, hp, hb, hg⟩, hF⟩, hL⟩ := q
  exact ⟨⟨⟨rv, h', dc, ds, e, hi _ _ _ _ hp, hb, hg⟩, hF⟩, hL⟩
theorem MM.imp {E : GE} {l : Launch} {y : MethodName} {cc : ByteArray} {maxL : Nat} {ret : Option FieldType} {rm : Room} {av : List Value} {h : HH} {post post' : Option Value → HH → Prop} (M : MM E l y cc maxL ret rm av h post) (hi : ∀ rv h2, post rv h2 → post' rv h2) : MM E l y cc maxL ret rm av h post' := MG.imp M fun rv h2 _ _ q => ⟨hi rv h2 q.1, q.2⟩
section BG
variable {E : GE} {l : Launch} {h : HH} {B V cp : Nat → Nat} {i j k v : Nat}
theorem g_set (H : Bgs E h B V cp) (hi : i < NB) (hv : v < 2 ^ 64) : MM E l yX7_set cX7_set 3 none ({ frames := 2, cells := 0, slots := 0, locals := 300 } : Room) [.ref (B i), .long (lN v)] h (fun rv h2 => rv = none ∧ Bgs E h2 B (nu V i v) cp ∧ Fr (BO B) h h2) := by
  obtain ⟨ca, f, B1, -⟩ := H.1 i hi
  refine (m_X7_set B1 hv).imp fun rv h2 q => ⟨q.1, ?_, q.2.2.bo hi⟩
  have := H.put hi q.2.2 q.2.1
  rw [nu_same] at this
  exact this
theorem g_copy (H : Bgs E h B V cp) (hi : i < NB) (hj : j < NB) (hij : i ≠ j) (hm : lm (V j) ≤ 128) : MG E l yX7_copy cX7_copy 2 none ({ frames := 2, cells := gc (cp i) (lm (V j)), slots := gs (cp i) (lm (V j)), locals := 300 } : Room) [.ref (B i), .ref (B j)] h (fun rv h2 dc ds => rv = none ∧ ∃ c, Bgs E h2 B (nu V i (V j)) (nu cp i c) ∧ Fr (BO B) h h2 ∧ Gw cp (nu cp i c) dc ds) := by
  obtain ⟨ca, f, B1, -⟩ := H.1 i hi
  refine (m_X7_copy B1 (H.1 j hj) (H.2 i j hi hj hij) hm).imp fun rv h2 dc ds q => ⟨q.1, _, H.put hi q.2.2.1 q.2.1, q.2.2.1.bo hi, ?_⟩
  rw [q.2.2.2.1, q.2.2.2.2]
  exact (H.g1 hi hm).1
theorem g_times (H : Bgs E h B V cp) (hi : i < NB) (hv : v < 2147483648) (hm : lm (V i) + 1 ≤ 128) : MG E l yX7_times cX7_times 5 none ({ frames := 2, cells := gc (cp i) (lm (V i) + 1), slots := gs (cp i) (lm (V i) + 1), locals := 300 } : Room) [.ref (B i), .int (nI v)] h (fun rv h2 dc ds => rv = none ∧ ∃ c, Bgs E h2 B (nu V i (V i * v)) (nu cp i c) ∧ Fr (BO B) h h2 ∧ Gw cp (nu cp i c) dc ds) := by
  refine (m_X7_times (H.1 i hi) hv hm).imp fun rv h2 dc ds q => ⟨q.1, _, H.put hi q.2.2.1 q.2.1, q.2.2.1.bo hi, ?_⟩
  rw [q.2.2.2.1, q.2.2.2.2]
  exact (H.g1 hi hm).1
theorem g_add (H : Bgs E h B V cp) (hi : i < NB) (hj : j < NB) (hij : i ≠ j) (hm : max (lm (V i)) (lm (V j)) + 1 ≤ 128) : MG E l yX7_add cX7_add 6 none ({ frames := 2, cells := gc (cp i) (max (lm (V i)) (lm (V j)) + 1), slots := gs (cp i) (max (lm (V i)) (lm (V j)) + 1), locals := 300 } : Room) [.ref (B i), .ref (B j)] h (fun rv h2 dc ds => rv = none ∧ ∃ c, Bgs E h2 B (nu V i (V i + V j)) (nu cp i c) ∧ Fr (BO B) h h2 ∧ Gw cp (nu cp i c) dc ds) := by
  refine (m_X7_add (H.1 i hi) (H.1 j hj) (H.2 i j hi hj hij) hm).imp fun rv h2 dc ds q => ⟨q.1, _, H.put hi q.2.2.1 q.2.1, q.2.2.1.bo hi, ?_⟩
  rw [q.2.2.2.1, q.2.2.2.2]
  exact (H.g1 hi hm).1
theorem g_product (H : Bgs E h B V cp) (hi : i < NB) (hj : j < NB) (hk : k < NB) (hij : i ≠ j) (hik : i ≠ k) (hm : lm (V j) + lm (V k) ≤ 128) : MG E l yX7_product cX7_product 10 none ({ frames := 2, cells := gc (cp i) (lm (V j) + lm (V k)), slots := gs (cp i) (lm (V j) + lm (V k)), locals := 300 } : Room) [.ref (B i), .ref (B j), .ref (B k)] h (fun rv h2 dc ds => rv = none ∧ ∃ c, Bgs E h2 B (nu V i (V j * V k)) (nu cp i c) ∧ Fr (BO B) h h2 ∧ Gw cp (nu cp i c) dc ds) := by
  obtain ⟨ca, f, B1, -⟩ := H.1 i hi
  refine (m_X7_product B1 (H.1 j hj) (H.1 k hk) (H.2 i j hi hj hij) (H.2 i k hi hk hik) hm).imp fun rv h2 dc ds q => ⟨q.1, _, H.put hi q.2.2.1 q.2.1, q.2.2.1.bo hi, ?_⟩
  rw [q.2.2.2.1, q.2.2.2.2]
  exact (H.g1 hi hm).1
theorem g_compare (H : Bgs E h B V cp) (hi : i < NB) (hj : j < NB) : MM E l yX7_compare cX7_compare 3 (some .int) ({ frames := 2, cells := 0, slots := 0, locals := 300 } : Room) [.ref (B i), .ref (B j)] h (fun rv h2 => rv = some (.int (cmpN (V i) (V j))) ∧ h2 = h) := m_X7_compare (H.1 i hi) (H.1 j hj)
theorem g_isZero (H : Bgs E h B V cp) (hi : i < NB) : MM E l yX7_isZero cX7_isZero 1 (some .boolean) ({ frames := 0, cells := 0, slots := 0, locals := 0 } : Room) [.ref (B i)] h (fun rv h2 => rv = some (.int (if V i = 0 then 1 else 0)) ∧ h2 = h) := m_X7_isZero (H.1 i hi)
theorem g_isOne (H : Bgs E h B V cp) (hi : i < NB) : MM E l yX7_isOne cX7_isOne 1 (some .boolean) ({ frames := 0, cells := 0, slots := 0, locals := 0 } : Room) [.ref (B i)] h (fun rv h2 => rv = some (.int (if V i = 1 then 1 else 0)) ∧ h2 = h) := m_X7_isOne (H.1 i hi)
/-- b % by stays in i, the quotient comes to k, the divisor's row is z -/
theorem g_divide {z : Nat} (H : Bgs E h B V cp) (hi : i < NB) (hj : j < NB) (hk : k < NB) (hz : z < NB) (hij : i ≠ j) (hik : i ≠ k) (hiz : i ≠ z) (hjk : j ≠ k) (hjz : j ≠ z) (hkz : k ≠ z) (hM : V j ≠ 0) (hm : lm (V i) + 2 ≤ 128) : MG E l yX7_divide cX7_divide 18 none ({ frames := 3, cells := 5, slots := 1280, locals := 450 } : Room) [.ref (B i), .ref (B j), .ref (B k), .ref (B z)] h
    (fun rv h2 dc ds => rv = none ∧ ∃ ci ck cz vz, Bgs E h2 B (nu (nu (nu V i (V i % V j)) k (V i / V j)) z vz) (nu (nu (nu cp i ci) k ck) z cz) ∧ Fr (BO B) h h2 ∧ Gw cp (nu (nu (nu cp i ci) k ck) z cz) dc ds) := by
  refine (m_X7_divide (H.1 i hi) (H.1 j hj) (H.1 k hk).x (H.1 z hz) hM (H.2 i j hi hj hij) (H.2 i k hi hk hik) (H.2 i z hi hz hiz) (H.2 j k hj hk hjk) (H.2 j z hj hz hjz) (H.2 k z hk hz hkz) hm).imp fun rv h2 dc ds q => ?_
  obtain ⟨q1, ci, ck, cz, b1, b2, ⟨vz, b3⟩, F, g1, g2, g3, g4, g5⟩ := q
  refine ⟨q1, ci, ck, cz, vz, ⟨fun a ha => ?_, H.2⟩, F.mono (fun o e => ?_), ?_, ?_⟩
  · by_cases ez : a = z
    · subst ez; rw [nu_s, nu_s]; exact b3
    · rw [nu_n ez, nu_n ez]
      by_cases ek : a = k
      · subst ek; rw [nu_s, nu_s]; exact b2
      · rw [nu_n ek, nu_n ek]
        by_cases ei : a = i
        · subst ei; rw [nu_s, nu_s]; exact b1
        · rw [nu_n ei, nu_n ei]
          refine Fr1.b F (fun e => ?_) (H.1 a ha)
          rcases e with e | e | e
          · exact H.2 a i ha hi ei e
          · exact H.2 a k ha hk ek e
          · exact H.2 a z ha hz ez e
  · rcases e with e | e | e
    · exact ⟨i, hi, e⟩
    · exact ⟨k, hk, e⟩
    · exact ⟨z, hz, e⟩
  · have k1 := ksum_put (f := cp) (v := ci) hi
    have k2 := ksum_put (f := nu cp i ci) (v := ck) hk
    have k3 := ksum_put (f := nu (nu cp i ci) k ck) (v := cz) hz
    rw [nu_n (Ne.symm hik)] at k2
    rw [nu_n (Ne.symm hkz), nu_n (Ne.symm hiz)] at k3
    omega
  · have k1 := ksum_put (f := cp) (v := ci) hi
    have k2 := ksum_put (f := nu cp i ci) (v := ck) hk
    have k3 := ksum_put (f := nu (nu cp i ci) k ck) (v := cz) hz
    rw [nu_n (Ne.symm hik)] at k2
    rw [nu_n (Ne.symm hkz), nu_n (Ne.symm hiz)] at k3
    omega
/-- the object, to be called -/
theorem Bgs.o (H : Bgs E h B V cp) (hi : i < NB) : ∃ ca : Nat, h (B i) = some (.inr (1, [.ref ca, .int (nI (lm (V i)))]), B i) := by
  obtain ⟨ca, f, B1, -⟩ := H.1 i hi
  exact ⟨ca, B1.1⟩
end BG
