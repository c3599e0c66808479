section
/-! ===== words as sets of bits ===== -/
/-- the bit i of a word -/
def pg_b (w : Int64) (i : Nat) : Bool := w.toBitVec.getLsbD i
theorem pg_ext {x y : Int64} (h : ∀ i, i < 64 → pg_b x i = pg_b y i) : x = y := Int64.toBitVec_inj.mp (BitVec.eq_of_getLsbD_eq (fun i hi => h i hi))
theorem pg_or (x y : Int64) (i : Nat) : pg_b (x ||| y) i = (pg_b x i || pg_b y i) := by unfold pg_b; rw [Int64.toBitVec_or, BitVec.getLsbD_or]
theorem pg_and (x y : Int64) (i : Nat) : pg_b (x &&& y) i = (pg_b x i && pg_b y i) := by unfold pg_b; rw [Int64.toBitVec_and, BitVec.getLsbD_and]
theorem pg_big {x : Int64} {i : Nat} (h : 64 ≤ i) : pg_b x i = false := BitVec.getLsbD_of_ge _ _ h
theorem pg_lt {x : Int64} {i : Nat} (h : pg_b x i = true) : i < 64 := by
  rcases Nat.lt_or_ge i 64 with z | z
  · exact z
  · rw [pg_big z] at h; exact absurd h (by decide)
theorem pg_z (i : Nat) : pg_b 0 i = false := BitVec.getLsbD_zero
theorem pg_not (x : Int64) {i : Nat} (hi : i < 64) : pg_b (x ^^^ (-1)) i = !pg_b x i := by
  have ha : (-1 : Int64).toBitVec = BitVec.allOnes 64 := by decide
  unfold pg_b
  rw [Int64.toBitVec_xor, ha, BitVec.getLsbD_xor, BitVec.getLsbD_allOnes]
  simp [hi]
/-- the word with the one bit k -/
def pg_one (k : Nat) : Int64 := (1 : Int64) <<< ((nI k).toInt64 &&& 63)
theorem pg_oneB : ∀ k, k < 64 → (pg_one k).toBitVec = BitVec.twoPow 64 k := by decide +kernel
theorem pg_bit {k : Nat} (hk : k < 64) (i : Nat) : pg_b (pg_one k) i = decide (i = k) := by
  unfold pg_b
  rw [pg_oneB k hk, BitVec.getLsbD_twoPow]
  by_cases e : i = k
  · subst e; simp [hk]
  · have e' : ¬ k = i := fun z => e z.symm
    simp [e, e']
theorem pg_bitT {k : Nat} (hk : k < 64) : pg_b (pg_one k) k = true := by rw [pg_bit hk]; simp
theorem pg_cu : ∀ k, k < 64 → ((nI k).toInt64.toUInt64 &&& Int64.toUInt64 63).toNat = k := by decide +kernel
theorem pg_has {w : Int64} {k : Nat} (hk : k < 64) : (((w.toUInt64 >>> ((nI k).toInt64.toUInt64 &&& Int64.toUInt64 63)).toInt64) &&& 1) = 1 ↔ pg_b w k = true := by
  have e : (w.toUInt64 >>> ((nI k).toInt64.toUInt64 &&& Int64.toUInt64 63)).toInt64.toBitVec = w.toBitVec >>> k := by
    apply BitVec.eq_of_toNat_eq
    show (w.toUInt64 >>> ((nI k).toInt64.toUInt64 &&& Int64.toUInt64 63)).toNat = _
    rw [UInt64.toNat_shiftRight, pg_cu k hk, Nat.mod_eq_of_lt hk, BitVec.toNat_ushiftRight]
    rfl
  rw [← Int64.toBitVec_inj, Int64.toBitVec_and, e]
  show w.toBitVec >>> k &&& 1#64 = 1#64 ↔ w.toBitVec.getLsbD k = true
  rw [BitVec.and_one_eq_setWidth_ofBool_getLsbD, BitVec.getLsbD_ushiftRight, Nat.add_zero]
  cases w.toBitVec.getLsbD k <;> decide
theorem pg_zero {x : Int64} (h : ∀ i, i < 64 → pg_b x i = false) : x = 0 := pg_ext (fun i hi => by rw [h i hi, pg_z])
theorem pg_nz {x : Int64} (h : ¬ x = 0) : ∃ i, i < 64 ∧ pg_b x i = true := by
  by_cases c : ∃ i, i < 64 ∧ pg_b x i = true
  · exact c
  · exact absurd (pg_zero (fun i hi => by
      cases e : pg_b x i
      · rfl
      · exact absurd ⟨i, hi, e⟩ c)) h
theorem pg_nt {x : Bool} (h : ¬ x = true) : x = false := by cases x <;> first | rfl | exact absurd rfl h
theorem pg_nf {x : Bool} (h : x = false) : ¬ x = true := by rw [h]; decide
/-! ===== a proposition as a Bool ===== -/
noncomputable def pg_d (p : Prop) : Bool := @decide p (Classical.propDecidable p)
theorem pg_dI {p : Prop} : pg_d p = true ↔ p := by
  unfold pg_d
  exact @decide_eq_true_iff p (Classical.propDecidable p)
theorem pg_dE {p : Prop} {x : Bool} (h : x = true ↔ p) : x = pg_d p := by
  cases e : x
  · refine (pg_nt (fun z => ?_)).symm
    rw [e] at h
    exact absurd (h.mpr (pg_dI.mp z)) (by decide)
  · rw [e] at h
    exact (pg_dI.mpr (h.mp rfl)).symm
/-! ===== counting ===== -/
def pg_cn (f : Nat → Bool) : Nat → Nat
  | 0 => 0
  | n + 1 => pg_cn f n + (if f n = true then 1 else 0)
theorem pg_cn_le (f : Nat → Bool) (n : Nat) : pg_cn f n ≤ n := by
  induction n with
  | zero => exact Nat.le_refl 0
  | succ n ih => unfold pg_cn; split <;> omega
theorem pg_cn_ext {f g : Nat → Bool} {n : Nat} (h : ∀ i, i < n → f i = g i) : pg_cn f n = pg_cn g n := by
  induction n with
  | zero => rfl
  | succ n ih => unfold pg_cn; rw [ih (fun i hi => h i (by omega)), h n (by omega)]
theorem pg_cn_mono {f g : Nat → Bool} {n : Nat} (h : ∀ i, i < n → f i = true → g i = true) : pg_cn f n ≤ pg_cn g n := by
  induction n with
  | zero => exact Nat.le_refl 0
  | succ n ih =>
    unfold pg_cn
    have a := ih (fun i hi => h i (by omega))
    have b := h n (by omega)
    by_cases c : f n = true
    · rw [if_pos c, if_pos (b c)]; omega
    · rw [if_neg c]; omega
theorem pg_cn_0 {f : Nat → Bool} {n : Nat} (h : ∀ i, i < n → f i = false) : pg_cn f n = 0 := by
  induction n with
  | zero => rfl
  | succ n ih => unfold pg_cn; rw [ih (fun i hi => h i (by omega)), h n (by omega)]; rfl
theorem pg_cn_pos {f : Nat → Bool} {n i : Nat} (hi : i < n) (h : f i = true) : 0 < pg_cn f n := by
  induction n with
  | zero => omega
  | succ n ih =>
    unfold pg_cn
    by_cases e : i = n
    · subst e; rw [if_pos h]; omega
    · have := ih (by omega); omega
theorem pg_cn_er {f g : Nat → Bool} {n k : Nat} (hk : k < n) (hf : f k = true) (hg : g k = false) (h : ∀ i, i < n → i ≠ k → g i = f i) : pg_cn f n = pg_cn g n + 1 := by
  induction n with
  | zero => omega
  | succ n ih =>
    unfold pg_cn
    by_cases e : k = n
    · subst e
      rw [if_pos hf, hg, pg_cn_ext (f := f) (g := g) (fun i hi => (h i (by omega) (by omega)).symm)]
      simp
    · rw [ih (by omega) (fun i hi hn => h i (by omega) hn), h n (by omega) (fun z => e z.symm)]
      omega
theorem pg_cn_tl {f : Nat → Bool} {n m : Nat} (hm : m ≤ n) (h : ∀ i, i < n → f i = true → i < m) : pg_cn f n ≤ m := by
  induction n with
  | zero => unfold pg_cn; omega
  | succ n ih =>
    by_cases e : m = n + 1
    · rw [e]; exact pg_cn_le f (n + 1)
    · unfold pg_cn
      have a := ih (by omega) (fun i hi => h i (by omega))
      have b : ¬ f n = true := fun z => by have := h n (by omega) z; omega
      rw [if_neg b]; omega
/-- how many bits a word has -/
def pg_pc (w : Int64) : Nat := pg_cn (pg_b w) 64
theorem pg_pc_le (w : Int64) : pg_pc w ≤ 64 := pg_cn_le _ _
theorem pg_pc_0 {w : Int64} (h : pg_pc w = 0) : w = 0 := by
  apply pg_zero
  intro i hi
  cases e : pg_b w i
  · rfl
  · have := pg_cn_pos hi e
    unfold pg_pc at h
    omega
theorem pg_pc_z : pg_pc 0 = 0 := pg_cn_0 (fun i _ => pg_z i)
/-- the lowest bit goes -/
theorem pg_low {n k : Nat} (hk : n.testBit k = true) (hl : ∀ j, j < k → n.testBit j = false) : (n - 1).testBit k = false ∧ ∀ i, k < i → (n - 1).testBit i = n.testBit i := by
  have hm : n % 2 ^ (k + 1) = 2 ^ k := by
    apply Nat.eq_of_testBit_eq
    intro i
    rw [Nat.testBit_mod_two_pow, Nat.testBit_two_pow]
    rcases Nat.lt_trichotomy i k with z | z | z
    · rw [hl i z]; simp [show ¬ k = i by omega]
    · subst z; rw [hk]; simp
    · simp [show ¬ i < k + 1 by omega, show ¬ k = i by omega]
  have hp : 0 < 2 ^ k := Nat.two_pow_pos k
  have hd := Nat.div_add_mod n (2 ^ (k + 1))
  have e1 : n = 2 ^ (k + 1) * (n / 2 ^ (k + 1)) + 2 ^ k := by rw [hm] at hd; exact hd.symm
  generalize n / 2 ^ (k + 1) = q at e1
  have e2 : n - 1 = 2 ^ (k + 1) * q + (2 ^ k - 1) := by omega
  have hlt : 2 ^ k < 2 ^ (k + 1) := Nat.pow_lt_pow_right (by decide) (by omega)
  have hlt2 : 2 ^ k - 1 < 2 ^ (k + 1) := by omega
  refine ⟨?_, fun i hi => ?_⟩
  · rw [e2, Nat.testBit_two_pow_mul_add q hlt2, if_pos (by omega)]
    exact Nat.testBit_lt_two_pow (by omega)
  · rw [e2, e1, Nat.testBit_two_pow_mul_add q hlt2, Nat.testBit_two_pow_mul_add q hlt, if_neg (by omega), if_neg (by omega)]
theorem pg_kern {w : Int64} (h : ¬ w = 0) : pg_pc w = pg_pc (w &&& (w - 1)) + 1 := by
  obtain ⟨i0, hi0, hb0⟩ := pg_nz h
  obtain ⟨k, hk, hl⟩ := pk_least (fun i => pg_b w i = true) ⟨i0, hb0⟩
  have hk64 : k < 64 := pg_lt hk
  have hn : 1 ≤ w.toBitVec.toNat := by
    rcases Nat.eq_zero_or_pos w.toBitVec.toNat with z | z
    · exfalso
      apply h
      apply Int64.toBitVec_inj.mp
      apply BitVec.eq_of_toNat_eq
      rw [z]; rfl
    · exact z
  have hlt := w.toBitVec.isLt
  have e1 : (w - 1).toBitVec.toNat = w.toBitVec.toNat - 1 := by
    rw [Int64.toBitVec_sub, BitVec.toNat_sub]
    have : (1 : Int64).toBitVec.toNat = 1 := by decide
    rw [this]
    omega
  have eb : ∀ (x : Int64) (i : Nat), pg_b x i = x.toBitVec.toNat.testBit i := fun x i => (BitVec.testBit_toNat x.toBitVec).symm
  have lo := pg_low (n := w.toBitVec.toNat) (k := k) (by rw [← eb]; exact hk) (fun j hj => by rw [← eb]; exact pg_nt (hl j hj))
  unfold pg_pc
  refine pg_cn_er hk64 hk ?_ (fun i hi hne => ?_)
  · rw [pg_and, eb (w - 1), e1, lo.1]; simp
  · rw [pg_and, eb (w - 1), e1]
    rcases Nat.lt_or_ge i k with z | z
    · rw [pg_nt (hl i z)]; simp
    · rw [lo.2 i (by omega), ← eb]; simp
end
section
/-! ===== reach, and one step more ===== -/
def pg_step (R : Nat → Nat → Prop) (f t a c : Nat) : Prop := R a c ∨ ((a = f ∨ R a f) ∧ (c = t ∨ R t c))
theorem pg_mono {E E' : Nat → Nat → Prop} (h : ∀ a c, E a c → E' a c) {a c : Nat} (r : Relation.TransGen E a c) : Relation.TransGen E' a c := by
  induction r with
  | single e => exact .single (h _ _ e)
  | tail _ e ih => exact .tail ih (h _ _ e)
theorem pg_tg {E : Nat → Nat → Prop} {f t a c : Nat} : Relation.TransGen (fun a c => E a c ∨ (a = f ∧ c = t)) a c ↔ pg_step (Relation.TransGen E) f t a c := by
  constructor
  · intro h
    induction h with
    | single e =>
      rcases e with e | ⟨e1, e2⟩
      · exact Or.inl (.single e)
      · exact Or.inr ⟨Or.inl e1, Or.inl e2⟩
    | tail _ e ih =>
      rcases ih with ih | ⟨i1, i2⟩
      · rcases e with e | ⟨e1, e2⟩
        · exact Or.inl (.tail ih e)
        · subst e1
          exact Or.inr ⟨Or.inr ih, Or.inl e2⟩
      · rcases e with e | ⟨e1, e2⟩
        · refine Or.inr ⟨i1, Or.inr ?_⟩
          rcases i2 with z | z
          · subst z
            exact .single e
          · exact .tail z e
        · exact Or.inr ⟨i1, Or.inl e2⟩
  · intro h
    have m : ∀ {x y : Nat}, Relation.TransGen E x y → Relation.TransGen (fun a c => E a c ∨ (a = f ∧ c = t)) x y := fun r => pg_mono (fun _ _ e => Or.inl e) r
    have s : Relation.TransGen (fun a c => E a c ∨ (a = f ∧ c = t)) f t := .single (Or.inr ⟨rfl, rfl⟩)
    rcases h with h | ⟨h1, h2⟩
    · exact m h
    · have l : Relation.TransGen (fun a c => E a c ∨ (a = f ∧ c = t)) a t := by
        rcases h1 with z | z
        · subst z
          exact s
        · exact (m z).trans s
      rcases h2 with z | z
      · subst z
        exact l
      · exact l.trans (m z)
theorem pg_step_tr {R : Nat → Nat → Prop} (tr : ∀ a c d, R a c → R c d → R a d) {f t : Nat} : ∀ a c d, pg_step R f t a c → pg_step R f t c d → pg_step R f t a d := by
  intro a c d h1 h2
  rcases h1 with h1 | ⟨h1, h1'⟩
  · rcases h2 with h2 | ⟨h2, h2'⟩
    · exact Or.inl (tr _ _ _ h1 h2)
    · refine Or.inr ⟨Or.inr ?_, h2'⟩
      rcases h2 with z | z
      · subst z
        exact h1
      · exact tr _ _ _ h1 z
  · rcases h2 with h2 | ⟨h2, h2'⟩
    · refine Or.inr ⟨h1, Or.inr ?_⟩
      rcases h1' with z | z
      · subst z
        exact h2
      · exact tr _ _ _ z h2
    · exact Or.inr ⟨h1, h2'⟩
theorem pg_step_old {R : Nat → Nat → Prop} (tr : ∀ a c d, R a c → R c d → R a d) {f t : Nat} (h : R f t) {a c : Nat} : pg_step R f t a c ↔ R a c := by
  constructor
  · intro g
    rcases g with g | ⟨g1, g2⟩
    · exact g
    · have l : R a t := by
        rcases g1 with z | z
        · subst z
          exact h
        · exact tr _ _ _ z h
      rcases g2 with z | z
      · subst z
        exact l
      · exact tr _ _ _ l z
  · exact Or.inl
/-- a least element of a strict order -/
theorem pg_min {bf : Nat → Nat → Prop} (ir : ∀ a, ¬ bf a a) (tr : ∀ a c d, bf a c → bf c d → bf a d) : ∀ (n : Nat) (S : Nat → Prop), (∃ a, a < n ∧ S a) → ∃ a, a < n ∧ S a ∧ ∀ c, c < n → S c → ¬ bf c a := by
  intro n
  induction n with
  | zero =>
    intro S h
    obtain ⟨a, h, _⟩ := h
    omega
  | succ n ih =>
    intro S h
    by_cases hn : ∃ c, c < n ∧ S c ∧ bf c n ∧ S n
    · obtain ⟨c, c1, c2, c3, c4⟩ := hn
      obtain ⟨a, b1, b2, b3⟩ := ih (fun x => S x ∧ bf x n) ⟨c, c1, c2, c3⟩
      refine ⟨a, by omega, b2.1, fun d hd sd hb => ?_⟩
      by_cases e : d = n
      · subst e
        exact ir _ (tr _ _ _ hb b2.2)
      · exact b3 d (by omega) ⟨sd, tr _ _ _ hb b2.2⟩ hb
    · by_cases sn : S n
      · refine ⟨n, by omega, sn, fun d hd sd hb => ?_⟩
        by_cases e : d = n
        · subst e
          exact ir _ hb
        · exact hn ⟨d, by omega, sd, hb, sn⟩
      · obtain ⟨a, h1, h2⟩ := h
        have an : a ≠ n := fun z => by subst z; exact sn h2
        obtain ⟨a, b1, b2, b3⟩ := ih S ⟨a, by omega, h2⟩
        refine ⟨a, by omega, b2, fun d hd sd hb => ?_⟩
        by_cases e : d = n
        · subst e
          exact sn sd
        · exact b3 d (by omega) sd hb
/-! ===== texts ===== -/
/-- a is what stands at k behind T 0 .. T (k - 1) -/
def pg_nx (L : Nat → Prop) (bf : Nat → Nat → Prop) (T : Nat → Nat) (k a : Nat) : Prop :=
  (L a ∧ (∀ j, j < k → T j ≠ a)) ∧ (∀ c, L c → (∀ j, j < k → T j ≠ c) → c ≠ a → ¬ bf c a) ∧ (∀ d, d < a → L d → (∀ j, j < k → T j ≠ d) → ∃ c, L c ∧ (∀ j, j < k → T j ≠ c) ∧ c ≠ d ∧ bf c d)
def pg_TX (L : Nat → Prop) (bf : Nat → Nat → Prop) (t : Nat × (Nat → Nat)) : Prop :=
  (∀ k, k < t.1 → pg_nx L bf t.2 k (t.2 k)) ∧ (∀ a, L a → ∃ k, k < t.1 ∧ t.2 k = a)
theorem pg_nx_c {L : Nat → Prop} {bf : Nat → Nat → Prop} {T T' : Nat → Nat} {k a : Nat} (e : ∀ j, j < k → T' j = T j) (h : pg_nx L bf T k a) : pg_nx L bf T' k a := by
  have q : ∀ c, (∀ j, j < k → T j ≠ c) → (∀ j, j < k → T' j ≠ c) := fun c z j hj => by rw [e j hj]; exact z j hj
  have q' : ∀ c, (∀ j, j < k → T' j ≠ c) → (∀ j, j < k → T j ≠ c) := fun c z j hj => by rw [← e j hj]; exact z j hj
  obtain ⟨⟨h1, h2⟩, h3, h4⟩ := h
  refine ⟨⟨h1, q _ h2⟩, fun c lc z => h3 c lc (q' c z), fun d hd ld z => ?_⟩
  obtain ⟨c, c1, c2, c3, c4⟩ := h4 d hd ld (q' d z)
  exact ⟨c, c1, q c c2, c3, c4⟩
theorem pg_nx_u {L : Nat → Prop} {bf : Nat → Nat → Prop} {T : Nat → Nat} {k a a' : Nat} (h : pg_nx L bf T k a) (h' : pg_nx L bf T k a') : ¬ a < a' := by
  intro z
  obtain ⟨c, c1, c2, c3, c4⟩ := h'.2.2 a z h.1.1 h.1.2
  exact h.2.1 c c1 c2 c3 c4
theorem pg_un {L : Nat → Prop} {bf : Nat → Nat → Prop} {t t' : Nat × (Nat → Nat)} (h : pg_TX L bf t) (h' : pg_TX L bf t') : t.1 = t'.1 ∧ ∀ k, k < t.1 → t.2 k = t'.2 k := by
  have e : ∀ n k, k < n → k < t.1 → k < t'.1 → t.2 k = t'.2 k := by
    intro n
    induction n with
    | zero => intro k z; omega
    | succ n ih =>
      intro k kn k1 k2
      have x := h.1 k k1
      have y := pg_nx_c (T' := t.2) (fun j hj => ih j (by omega) (by omega) (by omega)) (h'.1 k k2)
      have u := pg_nx_u x y
      have v := pg_nx_u y x
      omega
  have l : t.1 = t'.1 := by
    rcases Nat.lt_trichotomy t.1 t'.1 with z | z | z
    · have x := h'.1 t.1 z
      obtain ⟨k, k1, k2⟩ := h.2 _ x.1.1
      exact absurd ((e (k + 1) k (by omega) k1 (by omega)).symm.trans k2) (x.1.2 k k1)
    · exact z
    · have x := h.1 t'.1 z
      obtain ⟨k, k1, k2⟩ := h'.2 _ x.1.1
      exact absurd ((e (k + 1) k (by omega) (by omega) k1).trans k2) (x.1.2 k k1)
  exact ⟨l, fun k hk => e (k + 1) k (by omega) hk (by omega)⟩
/-! ===== the picture of a store: edges, reach, struck lines, lines, strictly before ===== -/
def pg_E (a1 a2 a3 : Nat → Int32) (P : Int64) (a c : Nat) : Prop :=
  ∃ p, pg_b P p = true ∧ ¬ a1 p = 0 ∧ ((¬ a2 p = -1 ∧ a = (a2 p).toNatClampNeg ∧ c = p) ∨ (¬ a3 p = -1 ∧ a = p ∧ c = (a3 p).toNatClampNeg))
def pg_R (a1 a2 a3 : Nat → Int32) (P : Int64) : Nat → Nat → Prop := Relation.TransGen (pg_E a1 a2 a3 P)
def pg_K (a1 a2 : Nat → Int32) (P : Int64) (j : Nat) : Prop := ∃ p, pg_b P p = true ∧ a1 p = 0 ∧ j = (a2 p).toNatClampNeg
def pg_L (a1 a2 : Nat → Int32) (P : Int64) (a : Nat) : Prop := pg_b P a = true ∧ ¬ a1 a = 0 ∧ ¬ pg_K a1 a2 P a
def pg_bf (a1 a2 a3 : Nat → Int32) (P : Int64) (a c : Nat) : Prop := pg_R a1 a2 a3 P a c ∧ ¬ pg_R a1 a2 a3 P c a
noncomputable def pg_txt (a1 a2 a3 : Nat → Int32) (P : Int64) : Nat × (Nat → Nat) := Classical.epsilon (pg_TX (pg_L a1 a2 P) (pg_bf a1 a2 a3 P))
theorem pg_R_tr {a1 a2 a3 : Nat → Int32} {P : Int64} : ∀ a c d, pg_R a1 a2 a3 P a c → pg_R a1 a2 a3 P c d → pg_R a1 a2 a3 P a d := fun _ _ _ h g => Relation.TransGen.trans h g
theorem pg_bf_ir {a1 a2 a3 : Nat → Int32} {P : Int64} : ∀ a, ¬ pg_bf a1 a2 a3 P a a := fun _ h => h.2 h.1
theorem pg_bf_tr {a1 a2 a3 : Nat → Int32} {P : Int64} : ∀ a c d, pg_bf a1 a2 a3 P a c → pg_bf a1 a2 a3 P c d → pg_bf a1 a2 a3 P a d :=
  fun a c d h g => ⟨pg_R_tr a c d h.1 g.1, fun z => g.2 (pg_R_tr d a c z h.1)⟩
theorem pg_bf_as {a1 a2 a3 : Nat → Int32} {P : Int64} {a c : Nat} (h : pg_bf a1 a2 a3 P a c) : ¬ pg_bf a1 a2 a3 P c a := fun g => g.2 h.1
/-- the text stands in the arrays -/
def pg_W (a1 a2 a3 : Nat → Int32) (P : Int64) (l : Int32) (X : Nat → Int32) : Prop :=
  pg_TX (pg_L a1 a2 P) (pg_bf a1 a2 a3 P) (pg_txt a1 a2 a3 P) ∧ (pg_txt a1 a2 a3 P).1 ≤ 60 ∧ l = nI (pg_txt a1 a2 a3 P).1 ∧ ∀ k, k < (pg_txt a1 a2 a3 P).1 → X k = nI ((pg_txt a1 a2 a3 P).2 k)
theorem pg_W_mk {a1 a2 a3 : Nat → Int32} {P : Int64} {l : Int32} {X : Nat → Int32} (t : Nat × (Nat → Nat)) (h : pg_TX (pg_L a1 a2 P) (pg_bf a1 a2 a3 P) t) (h60 : t.1 ≤ 60) (hl : l = nI t.1) (hX : ∀ k, k < t.1 → X k = nI (t.2 k)) : pg_W a1 a2 a3 P l X := by
  have s : pg_TX (pg_L a1 a2 P) (pg_bf a1 a2 a3 P) (pg_txt a1 a2 a3 P) := Classical.epsilon_spec ⟨t, h⟩
  obtain ⟨e1, e2⟩ := pg_un h s
  refine ⟨s, by rw [← e1]; exact h60, by rw [← e1]; exact hl, fun k hk => ?_⟩
  rw [← e1] at hk
  rw [hX k hk, e2 k hk]
/-! ===== the same rows give the same picture ===== -/
theorem pg_E_c {a1 a2 a3 b1 b2 b3 : Nat → Int32} {P : Int64} (h : ∀ p, pg_b P p = true → b1 p = a1 p ∧ b2 p = a2 p ∧ b3 p = a3 p) : pg_E b1 b2 b3 P = pg_E a1 a2 a3 P := by
  funext a c
  apply propext
  constructor
  · intro z
    obtain ⟨p, z1, z2⟩ := z
    obtain ⟨e1, e2, e3⟩ := h p z1
    rw [e1, e2, e3] at z2
    exact ⟨p, z1, z2⟩
  · intro z
    obtain ⟨p, z1, z2⟩ := z
    obtain ⟨e1, e2, e3⟩ := h p z1
    rw [← e1, ← e2, ← e3] at z2
    exact ⟨p, z1, z2⟩
theorem pg_R_c {a1 a2 a3 b1 b2 b3 : Nat → Int32} {P : Int64} (h : ∀ p, pg_b P p = true → b1 p = a1 p ∧ b2 p = a2 p ∧ b3 p = a3 p) : pg_R b1 b2 b3 P = pg_R a1 a2 a3 P := by
  unfold pg_R
  rw [pg_E_c h]
theorem pg_K_c {a1 a2 a3 b1 b2 b3 : Nat → Int32} {P : Int64} (h : ∀ p, pg_b P p = true → b1 p = a1 p ∧ b2 p = a2 p ∧ b3 p = a3 p) : pg_K b1 b2 P = pg_K a1 a2 P := by
  funext a
  apply propext
  constructor
  · intro z
    obtain ⟨p, z1, z2⟩ := z
    obtain ⟨e1, e2, _⟩ := h p z1
    rw [e1, e2] at z2
    exact ⟨p, z1, z2⟩
  · intro z
    obtain ⟨p, z1, z2⟩ := z
    obtain ⟨e1, e2, _⟩ := h p z1
    rw [← e1, ← e2] at z2
    exact ⟨p, z1, z2⟩
theorem pg_L_c {a1 a2 a3 b1 b2 b3 : Nat → Int32} {P : Int64} (h : ∀ p, pg_b P p = true → b1 p = a1 p ∧ b2 p = a2 p ∧ b3 p = a3 p) : pg_L b1 b2 P = pg_L a1 a2 P := by
  funext a
  unfold pg_L
  rw [pg_K_c h]
  apply propext
  constructor
  · intro z
    exact ⟨z.1, by rw [← (h a z.1).1]; exact z.2.1, z.2.2⟩
  · intro z
    exact ⟨z.1, by rw [(h a z.1).1]; exact z.2.1, z.2.2⟩
theorem pg_bf_c {a1 a2 a3 b1 b2 b3 : Nat → Int32} {P : Int64} (h : ∀ p, pg_b P p = true → b1 p = a1 p ∧ b2 p = a2 p ∧ b3 p = a3 p) : pg_bf b1 b2 b3 P = pg_bf a1 a2 a3 P := by
  funext a c
  unfold pg_bf
  rw [pg_R_c h]
theorem pg_txt_c {a1 a2 a3 b1 b2 b3 : Nat → Int32} {P : Int64} (h : ∀ p, pg_b P p = true → b1 p = a1 p ∧ b2 p = a2 p ∧ b3 p = a3 p) : pg_txt b1 b2 b3 P = pg_txt a1 a2 a3 P := by
  unfold pg_txt
  rw [pg_L_c h, pg_bf_c h]
/-! ===== the invariant of one object ===== -/
/-- the table of patches -/
def pg_T (N : Nat) (a1 a2 a3 : Nat → Int32) (a5 : Nat → Int64) : Prop :=
  ∀ p, p < N → (a2 p = -1 ∨ ∃ j, j < p ∧ a2 p = nI j ∧ ¬ a1 j = 0 ∧ pg_b (a5 p) j = true) ∧ (a3 p = -1 ∨ ∃ j, j < p ∧ a3 p = nI j ∧ ¬ a1 j = 0 ∧ pg_b (a5 p) j = true)
    ∧ (a1 p = 0 → ¬ a2 p = -1) ∧ (∀ j, pg_b (a5 p) j = true → j < p) ∧ (∀ j k, pg_b (a5 p) j = true → pg_b (a5 j) k = true → pg_b (a5 p) k = true)
/-- a set of patches of a store -/
def pg_P (N : Nat) (a5 : Nat → Int64) (P : Int64) : Prop := (∀ i, pg_b P i = true → i < N) ∧ (∀ i j, pg_b P i = true → pg_b (a5 i) j = true → pg_b P j = true)
/-- a store -/
def pg_S (a1 a2 a3 : Nat → Int32) (P K : Int64) (A B : Nat → Int64) (w l : Int32) (X : Nat → Int32) : Prop :=
  (∀ j, pg_b K j = true ↔ pg_K a1 a2 P j) ∧ (∀ a, pg_b P a = true → ¬ a1 a = 0 → ∀ c, (pg_b (A a) c = true ↔ pg_R a1 a2 a3 P a c) ∧ (pg_b (B a) c = true ↔ pg_R a1 a2 a3 P c a)) ∧ (¬ w = 0 → pg_W a1 a2 a3 P l X)
def pg_I (N : Nat) (a1 a2 a3 : Nat → Int32) (a5 a6 a7 a8 a9 : Nat → Int64) (a10 a11 a12 : Nat → Int32) : Prop :=
  N ≤ 60 ∧ pg_T N a1 a2 a3 a5 ∧ ∀ s, s < 3 → pg_P N a5 (a6 s) ∧ pg_S a1 a2 a3 (a6 s) (a7 s) (fun a => a8 (60 * s + a)) (fun a => a9 (60 * s + a)) (a10 s) (a11 s) (fun k => a12 (60 * s + k))
theorem pg_S_c {a1 a2 a3 b1 b2 b3 : Nat → Int32} {P K : Int64} {A B A' B' : Nat → Int64} {w l : Int32} {X X' : Nat → Int32} (hP : ∀ i, pg_b P i = true → i < 60) (h : pg_S a1 a2 a3 P K A B w l X)
    (hr : ∀ p, pg_b P p = true → b1 p = a1 p ∧ b2 p = a2 p ∧ b3 p = a3 p) (hA : ∀ a, a < 60 → A' a = A a ∧ B' a = B a) (hX : ∀ k, k < 60 → X' k = X k) : pg_S b1 b2 b3 P K A' B' w l X' := by
  obtain ⟨h1, h2, h3⟩ := h
  refine ⟨?_, ?_, ?_⟩
  · rw [pg_K_c hr]
    exact h1
  · intro a pa na c
    rw [pg_R_c hr, (hA a (hP a pa)).1, (hA a (hP a pa)).2]
    rw [(hr a pa).1] at na
    exact h2 a pa na c
  · intro z
    obtain ⟨g1, g2, g3, g4⟩ := h3 z
    unfold pg_W
    rw [pg_txt_c hr, pg_L_c hr, pg_bf_c hr]
    exact ⟨g1, g2, g3, fun k hk => by rw [hX k (by omega)]; exact g4 k hk⟩
/-- lines that reach are lines of the store -/
theorem pg_E_in {N : Nat} {a1 a2 a3 : Nat → Int32} {a5 : Nat → Int64} {P : Int64} (hN : N ≤ 60) (hT : pg_T N a1 a2 a3 a5) (hP : pg_P N a5 P) {a c : Nat} (h : pg_E a1 a2 a3 P a c) : (pg_b P a = true ∧ ¬ a1 a = 0) ∧ (pg_b P c = true ∧ ¬ a1 c = 0) := by
  obtain ⟨p, p1, p2, p3⟩ := h
  have pn := hP.1 p p1
  obtain ⟨t1, t2, _⟩ := hT p pn
  rcases p3 with ⟨q1, q2, q3⟩ | ⟨q1, q2, q3⟩
  · subst q3
    rcases t1 with z | ⟨j, j1, j2, j3, j4⟩
    · exact absurd z q1
    · rw [j2, nI_clamp (by omega)] at q2
      subst q2
      exact ⟨⟨hP.2 _ _ p1 j4, j3⟩, p1, p2⟩
  · subst q2
    rcases t2 with z | ⟨j, j1, j2, j3, j4⟩
    · exact absurd z q1
    · rw [j2, nI_clamp (by omega)] at q3
      subst q3
      exact ⟨⟨p1, p2⟩, hP.2 _ _ p1 j4, j3⟩
theorem pg_R_in {N : Nat} {a1 a2 a3 : Nat → Int32} {a5 : Nat → Int64} {P : Int64} (hN : N ≤ 60) (hT : pg_T N a1 a2 a3 a5) (hP : pg_P N a5 P) {a c : Nat} (h : pg_R a1 a2 a3 P a c) : (pg_b P a = true ∧ ¬ a1 a = 0) ∧ (pg_b P c = true ∧ ¬ a1 c = 0) := by
  unfold pg_R at h
  induction h with
  | single e => exact pg_E_in hN hT hP e
  | tail _ e ih => exact ⟨ih.1, (pg_E_in hN hT hP e).2⟩
theorem pg_I0 : pg_I 0 (fun _ => 0) (fun _ => 0) (fun _ => 0) (fun _ => 0) (fun _ => 0) (fun _ => 0) (fun _ => 0) (fun _ => 0) (fun _ => 0) (fun _ => 0) (fun _ => 0) := by
  refine ⟨by omega, fun p hp => absurd hp (by omega), fun s _ => ⟨⟨fun i h => ?_, fun i j h _ => ?_⟩, fun j => ⟨fun h => ?_, fun h => ?_⟩, fun a h => ?_, fun z => absurd rfl z⟩⟩
  · rw [pg_z] at h; exact absurd h (by decide)
  · rw [pg_z] at h; exact absurd h (by decide)
  · rw [pg_z] at h; exact absurd h (by decide)
  · obtain ⟨p, p1, _⟩ := h
    rw [pg_z] at p1; exact absurd p1 (by decide)
  · rw [pg_z] at h; exact absurd h (by decide)
end
section
/-! ===== the small methods ===== -/
theorem pg_nm {k : Nat} (h : k < 2 ^ 31) : ¬ nI k = -1 := fun z => nI_pos h (by rw [z]; decide)
theorem pg_ix (s a : Nat) : (60 : Int32) * nI s + nI a = nI (60 * s + a) := by
  show nI 60 * nI s + nI a = _
  rw [pk_mul, nI_add]
theorem pg_ixc {s a : Nat} (hs : s < 3) (ha : a < 60) : ((60 : Int32) * nI s + nI a).toNatClampNeg = 60 * s + a := by
  rw [pg_ix, nI_clamp (by omega)]
theorem pg_ixi {s a : Nat} (hs : s < 3) (ha : a < 60) : vp_in ((60 : Int32) * nI s + nI a) 180 := by
  rw [pg_ix]
  exact vp_in_nI (by omega) (by omega)
theorem pg_bad {post : Int32 → Prop} {u : St1} {s : Nat} (hs : s < 3) (hp : post 0) : wpX_badStore post u (nI s) := by
  obtain ⟨f0, a1, a2, a3, a4, a5, a6, a7, a8, a9, a10, a11, a12⟩ := u
  exact br_f (nI_pos (by omega)) (br_t (nI_lt (b := 3) hs (by decide)) hp)
theorem pg_hb {post : Int32 → Prop} {u : St1} {w : Int64} {k : Nat} (hk : k < 64) (ht : pg_b w k = true → post 1) (hf : pg_b w k = false → post 0) : wpX_hasBit post u w (nI k) := by
  obtain ⟨f0, a1, a2, a3, a4, a5, a6, a7, a8, a9, a10, a11, a12⟩ := u
  exact br_c (fun z => ht ((pg_has hk).mp z)) (fun z => hf (pg_nt (fun b => z ((pg_has hk).mpr b))))
theorem pg_wb {post : Int64 → Prop} {u : St1} {k : Nat} (hp : post (pg_one k)) : wpX_bit post u (nI k) := by
  obtain ⟨f0, a1, a2, a3, a4, a5, a6, a7, a8, a9, a10, a11, a12⟩ := u
  exact hp
theorem pg_bo8 {post : Int32 → Prop} {f0 : Int32} {a1 a2 a3 a4 : Nat → Int32} {a5 a6 a7 a8 a9 : Nat → Int64} {a10 a11 a12 : Nat → Int32} {m : Nat} (hm : m ≤ 64) (hp : post (nI m)) :
    ∀ (n c : Nat) (w : Int64), c + pg_pc w = m → 64 - c < n → wX_bitsOf_8 post f0 a1 a2 a3 a4 a5 a6 a7 a8 a9 a10 a11 a12 n (nI c) w (nI c) := by
  intro n
  induction n with
  | zero => intro c w _ z; omega
  | succ n ih =>
    intro c w h1 h2
    refine pk_le 64 c (fun z => ?_) (fun z => br_c (fun e => ?_) (fun e => ?_))
    · have e : c = m := by omega
      rw [e]; exact hp
    · rw [e, pg_pc_z] at h1
      have e : c = m := by omega
      rw [e]; exact hp
    · have k := pg_kern e
      exact nm_e (nm_r (nI_1 c) (nm_r (nI_1 c) (ih (c + 1) _ (by omega) (by omega))))
theorem pg_bo {post : Int32 → Prop} {u : St1} {w : Int64} (hp : post (nI (pg_pc w))) : wpX_bitsOf post u w := by
  obtain ⟨f0, a1, a2, a3, a4, a5, a6, a7, a8, a9, a10, a11, a12⟩ := u
  exact ⟨65, pg_bo8 (pg_pc_le w) hp 65 0 w (by omega) (by omega)⟩
section
variable {N : Nat} {a1 a2 a3 a4 : Nat → Int32} {a5 a6 a7 a8 a9 : Nat → Int64} {a10 a11 a12 : Nat → Int32}
theorem pg_np {post : Int32 → Prop} {k : Nat} (hk : k < 2 ^ 31) (hN : N ≤ 60) (h0 : k < N → post 0) (h1 : N ≤ k → post 1) : wpX_noPatch post (nI N, a1, a2, a3, a4, a5, a6, a7, a8, a9, a10, a11, a12) (nI k) :=
  br_f (nI_pos hk) (pk_lt k N h0 h1)
theorem pg_isl {post : Int32 → Prop} {f0 : Int32} {s k : Nat} (hs : s < 3) (hk : k < 60) (ht : pg_b (a6 s) k = true → ¬ a1 k = 0 → post 1) (hf : ¬ (pg_b (a6 s) k = true ∧ ¬ a1 k = 0) → post 0) : wpX_isLine post (f0, a1, a2, a3, a4, a5, a6, a7, a8, a9, a10, a11, a12) (nI s) (nI k) := by
  unfold wpX_isLine
  dsimp only
  rw [nI_clamp (show s < 2 ^ 31 by omega), nI_clamp (show k < 2 ^ 31 by omega)]
  exact br_f (pg_nm (by omega)) ⟨pk_in s 3 hs, pg_hb (by omega) (fun z => br_f (by decide) ⟨pk_in k 60 hk, br_c (fun e => hf (fun c => c.2 e)) (fun e => ht z e)⟩) (fun z => br_t rfl (hf (fun c => pg_nf z c.1)))⟩
theorem pg_lin {post : Int64 → Prop} {s : Nat} (hs : s < 3) (hI : pg_I N a1 a2 a3 a5 a6 a7 a8 a9 a10 a11 a12) (hp : ∀ w, (∀ c, pg_b w c = true ↔ pg_L a1 a2 (a6 s) c) → post w) : wpX_linesOf post (nI N, a1, a2, a3, a4, a5, a6, a7, a8, a9, a10, a11, a12) (nI s) := by
  have hN := hI.1
  have hP := (hI.2.2 s hs).1
  have hK := (hI.2.2 s hs).2.1
  refine pk_loop (fun n i w => wX_linesOf_5 post (nI s) (nI N) a1 a2 a3 a4 a5 a6 a7 a8 a9 a10 a11 a12 n w (nI i)) (fun i w => ∀ c, pg_b w c = true ↔ c < i ∧ pg_L a1 a2 (a6 s) c) N 0 0 (by omega) (fun c => ?_) (fun n w h => ?_) (fun n i w hi h hw => ?_)
  · rw [pg_z]
    exact ⟨fun z => absurd z (by decide), fun z => absurd z.1 (by omega)⟩
  · refine pk_le N N (fun _ => hp w (fun c => ?_)) (fun z => absurd z (by omega))
    rw [h c]
    exact ⟨fun z => z.2, fun z => ⟨hP.1 c z.1, z⟩⟩
  · have skip : ¬ pg_L a1 a2 (a6 s) i → wX_linesOf_5 post (nI s) (nI N) a1 a2 a3 a4 a5 a6 a7 a8 a9 a10 a11 a12 n w (nI (i + 1)) := by
      intro ni
      refine hw w (fun c => ?_)
      rw [h c]
      refine ⟨fun z => ⟨by omega, z.2⟩, fun z => ⟨?_, z.2⟩⟩
      have : c ≠ i := fun e => by subst e; exact ni z.2
      have := z.1
      omega
    refine pk_le N i (fun z => absurd z (by omega)) (fun _ => ?_)
    refine pg_isl hs (by omega) (fun b1 b2 => br_f (by decide) ⟨pk_in s 3 hs, ?_⟩) (fun b => br_t rfl (nm_r (nI_1 i) (skip (fun z => b ⟨z.1, z.2.1⟩))))
    rw [nI_clamp (show s < 2 ^ 31 by omega)]
    refine pg_hb (by omega) (fun z => br_f (by decide) (nm_r (nI_1 i) (skip (fun y => y.2.2 ((hK i).mp z))))) (fun z => br_t rfl (pg_wb (nm_e (nm_r (nI_1 i) (hw _ (fun c => ?_))))))
    rw [pg_or, pg_bit (by omega), Bool.or_eq_true, h c, decide_eq_true_eq]
    constructor
    · intro y
      rcases y with y | y
      · exact ⟨by omega, y.2⟩
      · subst y
        exact ⟨by omega, b1, b2, fun k => pg_nf z ((hK c).mpr k)⟩
    · intro y
      by_cases e : c = i
      · exact Or.inr e
      · exact Or.inl ⟨by omega, y.2⟩
theorem pg_ned {post : Int64 → Prop} {s : Nat} (hs : s < 3) (hI : pg_I N a1 a2 a3 a5 a6 a7 a8 a9 a10 a11 a12) (hp : ∀ w, (∀ c, pg_b w c = true ↔ ∃ p, pg_b (a6 s) p = true ∧ pg_b (a5 p) c = true) → post w) : wpX_neededIn post (nI N, a1, a2, a3, a4, a5, a6, a7, a8, a9, a10, a11, a12) (nI s) := by
  have hN := hI.1
  have hP := (hI.2.2 s hs).1
  refine pk_loop (fun n i w => wX_neededIn_5 post (nI s) (nI N) a1 a2 a3 a4 a5 a6 a7 a8 a9 a10 a11 a12 n w (nI i)) (fun i w => ∀ c, pg_b w c = true ↔ ∃ p, p < i ∧ pg_b (a6 s) p = true ∧ pg_b (a5 p) c = true) N 0 0 (by omega) (fun c => ?_) (fun n w h => ?_) (fun n i w hi h hw => ?_)
  · rw [pg_z]
    exact ⟨fun z => absurd z (by decide), fun ⟨p, z, _⟩ => absurd z (by omega)⟩
  · refine pk_le N N (fun _ => hp w (fun c => ?_)) (fun z => absurd z (by omega))
    rw [h c]
    exact ⟨fun ⟨p, z⟩ => ⟨p, z.2⟩, fun ⟨p, z⟩ => ⟨p, hP.1 p z.1, z⟩⟩
  · refine pk_le N i (fun z => absurd z (by omega)) (fun _ => ⟨pk_in s 3 hs, ?_⟩)
    rw [nI_clamp (show s < 2 ^ 31 by omega), nI_clamp (show i < 2 ^ 31 by omega)]
    refine pg_hb (by omega) (fun z => br_f (by decide) ⟨pk_in i 60 (by omega), nm_e (nm_r (nI_1 i) (hw _ (fun c => ?_)))⟩) (fun z => br_t rfl (nm_r (nI_1 i) (hw _ (fun c => ?_))))
    · rw [pg_or, Bool.or_eq_true, h c]
      constructor
      · intro y
        rcases y with ⟨p, y1, y2⟩ | y
        · exact ⟨p, by omega, y2⟩
        · exact ⟨i, by omega, z, y⟩
      · intro y
        obtain ⟨p, y1, y2, y3⟩ := y
        by_cases e : p = i
        · subst e
          exact Or.inr y3
        · exact Or.inl ⟨p, by omega, y2, y3⟩
    · rw [h c]
      constructor
      · intro y
        obtain ⟨p, y1, y2⟩ := y
        exact ⟨p, by omega, y2⟩
      · intro y
        obtain ⟨p, y1, y2, y3⟩ := y
        have : p ≠ i := fun e => by subst e; exact pg_nf z y2
        exact ⟨p, by omega, y2, y3⟩
theorem pg_hasp {post : Int32 → Prop} {s k : Nat} (hs : s < 3) (hk : k < 2 ^ 31) (hI : pg_I N a1 a2 a3 a5 a6 a7 a8 a9 a10 a11 a12) (h1 : pg_b (a6 s) k = true → post 1) (h0 : pg_b (a6 s) k = false → post 0) : wpX_has post (nI N, a1, a2, a3, a4, a5, a6, a7, a8, a9, a10, a11, a12) (nI s) (nI k) := by
  have hN := hI.1
  have hP := (hI.2.2 s hs).1
  unfold wpX_has
  dsimp only
  rw [nI_clamp (show s < 2 ^ 31 by omega)]
  refine pg_bad hs (br_t rfl (pg_np hk hN (fun z => br_t rfl ⟨pk_in s 3 hs, pg_hb (by omega) (fun b => br_f (by decide) (h1 b)) (fun b => br_t rfl (h0 b))⟩) (fun z => br_f (by decide) (h0 (pg_nt (fun b => ?_))))))
  have := hP.1 k b
  omega
theorem pg_nds {post : Int32 → Prop} {p q : Nat} (hp : p < N) (hq : q < N) (hN : N ≤ 60) (h1 : pg_b (a5 p) q = true → post 1) (h0 : pg_b (a5 p) q = false → post 0) : wpX_needs post (nI N, a1, a2, a3, a4, a5, a6, a7, a8, a9, a10, a11, a12) (nI p) (nI q) := by
  unfold wpX_needs
  dsimp only
  rw [nI_clamp (show p < 2 ^ 31 by omega)]
  exact pg_np (by omega) hN (fun _ => br_t rfl (pg_np (by omega) hN (fun _ => br_t rfl ⟨pk_in p 60 (by omega), pg_hb (by omega) (fun b => br_f (by decide) (h1 b)) (fun b => br_t rfl (h0 b))⟩) (fun z => absurd z (by omega)))) (fun z => absurd z (by omega))
theorem pg_ndd {post : Int32 → Prop} {p : Nat} (hp : p < N) (hN : N ≤ 60) (h : post (nI (pg_pc (a5 p)))) : wpX_needed post (nI N, a1, a2, a3, a4, a5, a6, a7, a8, a9, a10, a11, a12) (nI p) := by
  unfold wpX_needed
  dsimp only
  rw [nI_clamp (show p < 2 ^ 31 by omega)]
  exact pg_np (by omega) hN (fun _ => br_t rfl ⟨pk_in p 60 (by omega), pg_bo h⟩) (fun z => absurd z (by omega))
theorem pg_agr {post : Int32 → Prop} {f0 : Int32} {s t : Nat} (hs : s < 3) (ht : t < 3) (h1 : a6 s = a6 t → post 1) (h0 : ¬ a6 s = a6 t → post 0) : wpX_agree post (f0, a1, a2, a3, a4, a5, a6, a7, a8, a9, a10, a11, a12) (nI s) (nI t) := by
  unfold wpX_agree
  dsimp only
  rw [nI_clamp (show s < 2 ^ 31 by omega), nI_clamp (show t < 2 ^ 31 by omega)]
  exact pg_bad hs (br_t rfl (pg_bad ht (br_t rfl ⟨pk_in s 3 hs, pk_in t 3 ht, br_c h1 h0⟩)))
theorem pg_pat {post : Int32 → Prop} {f0 : Int32} {s : Nat} (hs : s < 3) (h : post (nI (pg_pc (a6 s)))) : wpX_patches post (f0, a1, a2, a3, a4, a5, a6, a7, a8, a9, a10, a11, a12) (nI s) := by
  unfold wpX_patches
  dsimp only
  rw [nI_clamp (show s < 2 ^ 31 by omega)]
  exact pg_bad hs (br_t rfl ⟨pk_in s 3 hs, pg_bo h⟩)
/-- the patches of a set that none of it needs -/
noncomputable def pg_lo (a5 : Nat → Int64) (P : Int64) : Nat := pg_cn (fun c => pg_d (pg_b P c = true ∧ ¬ ∃ p, pg_b P p = true ∧ pg_b (a5 p) c = true)) 64
theorem pg_loo {post : Int32 → Prop} {s : Nat} (hs : s < 3) (hI : pg_I N a1 a2 a3 a5 a6 a7 a8 a9 a10 a11 a12) (h : post (nI (pg_lo a5 (a6 s)))) : wpX_loose post (nI N, a1, a2, a3, a4, a5, a6, a7, a8, a9, a10, a11, a12) (nI s) := by
  unfold wpX_loose
  dsimp only
  rw [nI_clamp (show s < 2 ^ 31 by omega)]
  refine pg_bad hs (br_t rfl ⟨pk_in s 3 hs, pg_ned hs hI (fun w hw => pg_bo ?_)⟩)
  have e : pg_pc (a6 s &&& (w ^^^ (-1))) = pg_lo a5 (a6 s) := by
    refine pg_cn_ext (fun c hc => pg_dE ?_)
    rw [pg_and, pg_not w hc, Bool.and_eq_true, Bool.not_eq_true', ← hw c, Bool.not_eq_true]
  rw [e]
  exact h
theorem pg_wn {post : Int64 → Prop} {f0 : Int32} {p : Nat} (hp : p < 60) (h : post (a5 p ||| pg_one p)) : wpX_withNeeds post (f0, a1, a2, a3, a4, a5, a6, a7, a8, a9, a10, a11, a12) (nI p) := by
  unfold wpX_withNeeds
  dsimp only
  rw [nI_clamp (show p < 2 ^ 31 by omega)]
  exact br_f (pg_nm (by omega)) ⟨pk_in p 60 hp, pg_wb h⟩
theorem pg_wnN {post : Int64 → Prop} {f0 : Int32} (h : post 0) : wpX_withNeeds post (f0, a1, a2, a3, a4, a5, a6, a7, a8, a9, a10, a11, a12) (-1) := br_t rfl h
theorem pg_isb {post : Int32 → Prop} {s a c : Nat} (hs : s < 3) (hI : pg_I N a1 a2 a3 a5 a6 a7 a8 a9 a10 a11 a12) (pa : pg_b (a6 s) a = true) (na : ¬ a1 a = 0) (pc : pg_b (a6 s) c = true) (nc : ¬ a1 c = 0)
    (h1 : pg_bf a1 a2 a3 (a6 s) a c → post 1) (h0 : ¬ pg_bf a1 a2 a3 (a6 s) a c → post 0) : wpX_isBefore post (nI N, a1, a2, a3, a4, a5, a6, a7, a8, a9, a10, a11, a12) (nI s) (nI a) (nI c) := by
  have hN := hI.1
  obtain ⟨hP, hS⟩ := hI.2.2 s hs
  have an := hP.1 a pa
  have cn := hP.1 c pc
  have ra := (hS.2.1 a pa na c).1
  have rc := (hS.2.1 c pc nc a).1
  unfold wpX_isBefore
  dsimp only
  rw [pg_ixc hs (show a < 60 by omega), pg_ixc hs (show c < 60 by omega)]
  refine ⟨pg_ixi hs (by omega), pg_hb (by omega) (fun z => br_f (by decide) ⟨pg_ixi hs (by omega), pg_hb (by omega) (fun y => br_f (by decide) (h0 (fun g => g.2 (rc.mp y)))) (fun y => br_t rfl (h1 ⟨ra.mp z, fun g => pg_nf y (rc.mpr g)⟩))⟩) (fun z => br_t rfl (h0 (fun g => pg_nf z (ra.mpr g.1))))⟩
theorem pg_bef {post : Int32 → Prop} {s a c : Nat} (hs : s < 3) (hI : pg_I N a1 a2 a3 a5 a6 a7 a8 a9 a10 a11 a12) (pa : pg_b (a6 s) a = true) (na : ¬ a1 a = 0) (pc : pg_b (a6 s) c = true) (nc : ¬ a1 c = 0)
    (h1 : pg_bf a1 a2 a3 (a6 s) a c → post 1) (h0 : ¬ pg_bf a1 a2 a3 (a6 s) a c → post 0) : wpX_before post (nI N, a1, a2, a3, a4, a5, a6, a7, a8, a9, a10, a11, a12) (nI s) (nI a) (nI c) := by
  have hN := hI.1
  have hP := (hI.2.2 s hs).1
  have an := hP.1 a pa
  have cn := hP.1 c pc
  unfold wpX_before
  dsimp only
  refine pg_bad hs (br_t rfl (pg_np (by omega) hN (fun _ => br_t rfl (pg_np (by omega) hN (fun _ => br_t rfl ?_) (fun z => absurd z (by omega)))) (fun z => absurd z (by omega))))
  refine pg_isl hs (by omega) (fun _ _ => br_f (by decide) (pg_isl hs (by omega) (fun _ _ => br_f (by decide) ?_) (fun z => absurd ⟨pc, nc⟩ z))) (fun z => absurd ⟨pa, na⟩ z)
  exact br_f (by decide) (pg_isb hs hI pa na pc nc (fun z => br_f (by decide) (h1 z)) (fun z => br_t rfl (h0 z)))
end
end
section
/-! ===== texts are written ===== -/
/-- a is free in a set of lines -/
def pg_fr (bf : Nat → Nat → Prop) (r : Int64) (a : Nat) : Prop := pg_b r a = true ∧ ∀ c, pg_b r c = true → c ≠ a → ¬ bf c a
theorem pg_frW {R : Nat → Nat → Prop} {A B r : Int64} {a : Nat} (ha : a < 64) (hA : ∀ c, (pg_b A c = true ↔ R a c) ∧ (pg_b B c = true ↔ R c a)) :
    (((B &&& (A ^^^ (-1))) &&& r) &&& (pg_one a ^^^ (-1))) = 0 ↔ ∀ c, pg_b r c = true → c ≠ a → ¬ (R c a ∧ ¬ R a c) := by
  have e : ∀ c, c < 64 → (pg_b (((B &&& (A ^^^ (-1))) &&& r) &&& (pg_one a ^^^ (-1))) c = true ↔ (((R c a ∧ ¬ R a c) ∧ pg_b r c = true) ∧ ¬ c = a)) := by
    intro c hc
    rw [pg_and, pg_and, pg_and, pg_not _ hc, pg_not _ hc, pg_bit ha, Bool.and_eq_true, Bool.and_eq_true, Bool.and_eq_true, (hA c).2, Bool.not_eq_true', Bool.not_eq_true', decide_eq_false_iff_not, ← (hA c).1, Bool.not_eq_true]
  constructor
  · intro z c h1 h2 h3
    have hc := pg_lt h1
    have t := (e c hc).mpr ⟨⟨h3, h1⟩, h2⟩
    rw [z, pg_z] at t
    exact absurd t (by decide)
  · intro h
    refine pg_zero (fun c hc => pg_nt (fun z => ?_))
    obtain ⟨⟨z1, z2⟩, z3⟩ := (e c hc).mp z
    exact h c z2 z3 z1
section
variable {N : Nat} {a1 a2 a3 a4 : Nat → Int32} {a5 a6 a7 a8 a9 : Nat → Int64} {a10 a11 a12 : Nat → Int32}
theorem pg_aho {post : Int64 → Prop} {f0 : Int32} {s a : Nat} (hs : s < 3) (ha : a < 60) (hp : post (a9 (60 * s + a) &&& (a8 (60 * s + a) ^^^ (-1)))) : wpX_aheadOf post (f0, a1, a2, a3, a4, a5, a6, a7, a8, a9, a10, a11, a12) (nI s) (nI a) := by
  unfold wpX_aheadOf
  dsimp only
  rw [pg_ixc hs ha]
  exact ⟨pg_ixi hs ha, pg_ixi hs ha, hp⟩
theorem pg_m1 (i : Nat) : nI i + (-1) = nI i - 1 := by rw [Int32.sub_eq_add_neg]
theorem pg_wr46 {post : St1 → Prop} {J22 : Int64 → Int32 → Int32 → (Nat → Int32) → (Nat → Int32) → (Nat → Int32) → (Nat → Int32) → (Nat → Int64) → (Nat → Int64) → (Nat → Int64) → (Nat → Int64) → (Nat → Int64) → (Nat → Int32) → (Nat → Int32) → (Nat → Int32) → Prop}
    {s k : Nat} {r : Int64} (hs : s < 3) (hN : N ≤ 60) (hP : pg_P N a5 (a6 s)) (hR : ∀ a, pg_b (a6 s) a = true → ¬ a1 a = 0 → ∀ c, (pg_b (a8 (60 * s + a)) c = true ↔ pg_R a1 a2 a3 (a6 s) a c) ∧ (pg_b (a9 (60 * s + a)) c = true ↔ pg_R a1 a2 a3 (a6 s) c a))
    (hk : k < 60) (hr : ∀ c, pg_b r c = true → pg_L a1 a2 (a6 s) c) (h0 : ¬ r = 0)
    (H : ∀ m, pg_fr (pg_bf a1 a2 a3 (a6 s)) r m → (∀ d, d < m → ¬ pg_fr (pg_bf a1 a2 a3 (a6 s)) r d) → J22 (r &&& (pg_one m ^^^ (-1))) (nI (k + 1)) (nI (k + 1)) a1 a2 a3 a4 a5 a6 a7 a8 a9 a10 a11 (upd a12 (60 * s + k) (nI m))) :
    ∃ fu, wX_write_46 post J22 (nI s) r (nI k) (nI k) (nI N) a1 a2 a3 a4 a5 a6 a7 a8 a9 a10 a11 a12 fu (-1) (nI N - 1) := by
  have rN : ∀ c, pg_b r c = true → c < N := fun c h => hP.1 c (hr c h).1
  refine ⟨N + 1, pk_loopD (fun n i x => wX_write_46 post J22 (nI s) r (nI k) (nI k) (nI N) a1 a2 a3 a4 a5 a6 a7 a8 a9 a10 a11 a12 n x (nI i - 1)) (fun i x => i ≤ N ∧ ((x = -1 ∧ ∀ d, i ≤ d → ¬ pg_fr (pg_bf a1 a2 a3 (a6 s)) r d) ∨ (∃ m, x = nI m ∧ i ≤ m ∧ pg_fr (pg_bf a1 a2 a3 (a6 s)) r m ∧ ∀ d, i ≤ d → d < m → ¬ pg_fr (pg_bf a1 a2 a3 (a6 s)) r d))) ?_ ?_ N (-1) ⟨Nat.le_refl N, Or.inl ⟨rfl, fun d hd z => ?_⟩⟩⟩
  · intro n x hx
    obtain ⟨_, hx⟩ := hx
    rcases hx with ⟨_, hx⟩ | ⟨m, rfl, _, m2, m3⟩
    · exfalso
      obtain ⟨i, hi, hb⟩ := pg_nz h0
      obtain ⟨a, b1, b2, b3⟩ := pg_min (bf := pg_bf a1 a2 a3 (a6 s)) pg_bf_ir pg_bf_tr 64 (fun i => pg_b r i = true) ⟨i, hi, hb⟩
      exact hx a (by omega) ⟨b2, fun c hc _ => b3 c (pg_lt hc) hc⟩
    · have hm := rN m m2.1
      exact br_t (by decide) ⟨pg_ixi hs hk, nm_r (by rw [pg_ixc hs hk]) (nm_r (nI_1 k) (pg_wb (nm_e (nm_r (nI_1 k) (H m m2 (fun d hd => m3 d (by omega) hd))))))⟩
  · intro n i x hx hw
    obtain ⟨hi, hx⟩ := hx
    rw [nI_pred]
    have no : ¬ pg_fr (pg_bf a1 a2 a3 (a6 s)) r i → wX_write_90 post J22 (wX_write_46 post J22 (nI s) r (nI k) (nI k) (nI N) a1 a2 a3 a4 a5 a6 a7 a8 a9 a10 a11 a12 n) (nI s) r (nI k) (nI k) x (nI i) (nI N) a1 a2 a3 a4 a5 a6 a7 a8 a9 a10 a11 a12 := by
      intro nf
      refine br_t rfl (nm_r (pg_m1 i) (hw x ⟨by omega, ?_⟩))
      rcases hx with ⟨x1, x2⟩ | ⟨m, x1, x2, x3, x4⟩
      · refine Or.inl ⟨x1, fun d hd => ?_⟩
        by_cases e : d = i
        · subst e
          exact nf
        · exact x2 d (by omega)
      · refine Or.inr ⟨m, x1, by omega, x3, fun d hd hm => ?_⟩
        by_cases e : d = i
        · subst e
          exact nf
        · exact x4 d (by omega) hm
    refine br_f (nI_pos (by omega)) (pg_hb (by omega) (fun z => br_f (by decide) ?_) (fun z => br_t rfl (no (fun f => pg_nf z f.1))))
    have li := hr i z
    have fw := pg_frW (r := r) (show i < 64 by omega) (hR i li.1 li.2.1)
    refine pg_aho hs (by omega) (pg_wb (br_c (fun e => ?_) (fun e => no (fun f => e (fw.mpr f.2)))))
    exact br_f (by decide) (nm_r (pg_m1 i) (hw (nI i) ⟨by omega, Or.inr ⟨i, rfl, Nat.le_refl i, ⟨z, fw.mp e⟩, fun d h1 h2 => absurd h2 (by omega)⟩⟩))
  · have := rN d z.1
    omega
theorem pg_wr22 {post : St1 → Prop} {s : Nat} (hs : s < 3) (hN : N ≤ 60) (hP : pg_P N a5 (a6 s)) (hR : ∀ a, pg_b (a6 s) a = true → ¬ a1 a = 0 → ∀ c, (pg_b (a8 (60 * s + a)) c = true ↔ pg_R a1 a2 a3 (a6 s) a c) ∧ (pg_b (a9 (60 * s + a)) c = true ↔ pg_R a1 a2 a3 (a6 s) c a))
    (H : ∀ (t : Nat × (Nat → Nat)) (b12 : Nat → Int32), t.1 ≤ 60 → pg_TX (pg_L a1 a2 (a6 s)) (pg_bf a1 a2 a3 (a6 s)) t → (∀ k, k < t.1 → b12 (60 * s + k) = nI (t.2 k)) → (∀ i, (i < 60 * s ∨ 60 * s + 60 ≤ i) → b12 i = a12 i) → post (nI N, a1, a2, a3, a4, a5, a6, a7, a8, a9, upd a10 s 1, upd a11 s (nI t.1), b12)) :
    ∀ (n k : Nat) (r : Int64) (b12 : Nat → Int32) (T : Nat → Nat), (∀ j, j < k → b12 (60 * s + j) = nI (T j) ∧ pg_nx (pg_L a1 a2 (a6 s)) (pg_bf a1 a2 a3 (a6 s)) T j (T j)) → (∀ c, pg_b r c = true ↔ pg_L a1 a2 (a6 s) c ∧ ∀ j, j < k → T j ≠ c) → k + pg_pc r ≤ 60 → (∀ i, (i < 60 * s ∨ 60 * s + 60 ≤ i) → b12 i = a12 i) → 60 - k < n →
      wX_write_22 post (nI s) (nI N) n r (nI k) (nI k) a1 a2 a3 a4 a5 a6 a7 a8 a9 a10 a11 b12 := by
  intro n
  induction n with
  | zero => intro k r b12 T _ _ _ _ z; omega
  | succ n ih =>
    intro k r b12 T h1 h2 h3 h4 h5
    have done : r = 0 → wX_write_149 post (nI s) (nI k) (nI N) a1 a2 a3 a4 a5 a6 a7 a8 a9 a10 a11 b12 := by
      intro e
      refine ⟨pk_in s 3 hs, nm_r (by rw [nI_clamp (by omega)]) ⟨pk_in s 3 hs, nm_r (by rw [nI_clamp (by omega)]) (H (k, T) b12 (by show k ≤ 60; omega) ⟨fun j hj => (h1 j hj).2, fun a la => ?_⟩ (fun j hj => (h1 j hj).1) h4)⟩⟩
      by_cases c : ∃ j, j < k ∧ T j = a
      · exact c
      · have t := (h2 a).mpr ⟨la, fun j hj ej => c ⟨j, hj, ej⟩⟩
        rw [e, pg_z] at t
        exact absurd t (by decide)
    refine pk_le 60 k (fun z => done (pg_pc_0 (by omega))) (fun z => br_c done (fun r0 => nm_e ?_))
    refine pg_wr46 hs hN hP hR z (fun c hc => ((h2 c).mp hc).1) r0 (fun m m1 m2 => ?_)
    have mL := (h2 m).mp m1.1
    have m60 : m < 60 := by have := hP.1 m mL.1.1; omega
    have ek : ∀ j, j < k → (fun j => if j = k then m else T j) j = T j := fun j hj => if_neg (by omega)
    have er : pg_pc r = pg_pc (r &&& (pg_one m ^^^ (-1))) + 1 := by
      refine pg_cn_er (k := m) (by omega) m1.1 ?_ (fun i hi ne => ?_)
      · rw [pg_and, pg_not _ (by omega), pg_bitT (by omega)]; simp
      · rw [pg_and, pg_not _ hi, pg_bit (by omega)]; simp [ne]
    refine ih (k + 1) _ _ (fun j => if j = k then m else T j) (fun j hj => ?_) (fun c => ?_) (by omega) (fun i hi => ?_) (by omega)
    · by_cases e : j = k
      · subst e
        rw [pk_us, if_pos rfl]
        refine ⟨rfl, pg_nx_c ek ⟨mL, fun c lc uc ne => m1.2 c ((h2 c).mpr ⟨lc, uc⟩) ne, fun d hd ld ud => ?_⟩⟩
        have nf := m2 d hd
        have rd := (h2 d).mpr ⟨ld, ud⟩
        by_cases g : ∃ c, pg_L a1 a2 (a6 s) c ∧ (∀ i, i < j → T i ≠ c) ∧ c ≠ d ∧ pg_bf a1 a2 a3 (a6 s) c d
        · exact g
        · exact absurd ⟨rd, fun c hc ne hb => g ⟨c, ((h2 c).mp hc).1, ((h2 c).mp hc).2, ne, hb⟩⟩ nf
      · rw [pk_un (by omega), if_neg e]
        have hj' : j < k := by omega
        exact ⟨(h1 j hj').1, pg_nx_c (fun i hi => ek i (by omega)) (h1 j hj').2⟩
    · have hc64 : pg_b r c = true → c < 64 := pg_lt
      constructor
      · intro y
        have c64 := pg_lt y
        rw [pg_and, pg_not _ c64, pg_bit (by omega), Bool.and_eq_true, Bool.not_eq_true', decide_eq_false_iff_not] at y
        obtain ⟨y1, y2⟩ := y
        obtain ⟨l1, l2⟩ := (h2 c).mp y1
        refine ⟨l1, fun j hj => ?_⟩
        by_cases e : j = k
        · rw [if_pos e]
          exact fun z => y2 z.symm
        · rw [if_neg e]
          exact l2 j (by omega)
      · intro y
        obtain ⟨y1, y2⟩ := y
        have rc : pg_b r c = true := (h2 c).mpr ⟨y1, fun j hj => by
          have t := y2 j (by omega)
          rw [if_neg (by omega)] at t
          exact t⟩
        have nm : ¬ c = m := by
          have t := y2 k (by omega)
          rw [if_pos rfl] at t
          exact fun z => t z.symm
        rw [pg_and, pg_not _ (pg_lt rc), pg_bit (by omega), rc]
        simp [nm]
    · rw [pk_un (by omega)]
      exact h4 i hi
theorem pg_wri {post : St1 → Prop} {s : Nat} (hs : s < 3) (hI : pg_I N a1 a2 a3 a5 a6 a7 a8 a9 a10 a11 a12)
    (hp : ∀ b10 b11 b12, pg_I N a1 a2 a3 a5 a6 a7 a8 a9 b10 b11 b12 → ¬ b10 s = 0 → (∀ x, ¬ a10 x = 0 → ¬ b10 x = 0) → post (nI N, a1, a2, a3, a4, a5, a6, a7, a8, a9, b10, b11, b12)) :
    wpX_write post (nI N, a1, a2, a3, a4, a5, a6, a7, a8, a9, a10, a11, a12) (nI s) := by
  have hN := hI.1
  obtain ⟨hP, hS⟩ := hI.2.2 s hs
  unfold wpX_write
  dsimp only
  rw [nI_clamp (show s < 2 ^ 31 by omega)]
  refine ⟨pk_in s 3 hs, br_c (fun e => pg_lin hs hI (fun w hw => ⟨61, ?_⟩)) (fun e => hp a10 a11 a12 hI e (fun _ z => z))⟩
  refine pg_wr22 (a12 := a12) hs hN hP hS.2.1 (fun t b12 t60 tx tb fr => hp _ _ _ ⟨hN, hI.2.1, fun x hx => ⟨(hI.2.2 x hx).1, ?_⟩⟩ ?_ (fun x hx => ?_)) 61 0 w a12 (fun _ => 0) (fun j hj => absurd hj (by omega)) (fun c => ?_) ?_ (fun _ _ => rfl) (by omega)
  · by_cases ex : x = s
    · subst ex
      refine ⟨hS.1, hS.2.1, fun _ => ?_⟩
      rw [pk_us]
      exact pg_W_mk t tx t60 rfl tb
    · rw [pk_un ex, pk_un ex]
      refine pg_S_c (fun i hi => by have := (hI.2.2 x hx).1.1 i hi; omega) (hI.2.2 x hx).2 (fun _ _ => ⟨rfl, rfl, rfl⟩) (fun _ _ => ⟨rfl, rfl⟩) (fun k hk => fr _ ?_)
      rcases Nat.lt_or_gt_of_ne ex with z | z
      · exact Or.inl (by omega)
      · exact Or.inr (by omega)
  · rw [pk_us]
    decide
  · by_cases ex : x = s
    · subst ex
      rw [pk_us]
      decide
    · rw [pk_un ex]
      exact hx
  · rw [hw c]
    exact ⟨fun z => ⟨z, fun j hj => absurd hj (by omega)⟩, fun z => z.1⟩
  · have : pg_pc w ≤ N := pg_cn_tl (by omega) (fun i _ h => hP.1 i ((hw i).mp h).1)
    omega
theorem pg_len {post : Int32 → St1 → Prop} {s : Nat} (hs : s < 3) (hI : pg_I N a1 a2 a3 a5 a6 a7 a8 a9 a10 a11 a12)
    (hp : ∀ b10 b11 b12, pg_I N a1 a2 a3 a5 a6 a7 a8 a9 b10 b11 b12 → ¬ b10 s = 0 → post (nI (pg_txt a1 a2 a3 (a6 s)).1) (nI N, a1, a2, a3, a4, a5, a6, a7, a8, a9, b10, b11, b12)) :
    wpX_length post (nI N, a1, a2, a3, a4, a5, a6, a7, a8, a9, a10, a11, a12) (nI s) := by
  unfold wpX_length
  dsimp only
  rw [nI_clamp (show s < 2 ^ 31 by omega)]
  refine pg_bad hs (br_t rfl (pg_wri hs hI (fun b10 b11 b12 h1 h2 _ => ⟨pk_in s 3 hs, ?_⟩)))
  have e := ((h1.2.2 s hs).2.2.2 h2).2.2.1
  dsimp only
  rw [e]
  exact hp b10 b11 b12 h1 h2
/-- what lineAt answers -/
noncomputable def pg_lv (t : Nat × (Nat → Nat)) (k : Nat) : Int32 := if k < t.1 then nI (t.2 k) else -1
theorem pg_lat {post : Int32 → Prop} {f0 : Int32} {s k : Nat} (hs : s < 3) (hk : k < 2 ^ 31) (hW : pg_W a1 a2 a3 (a6 s) (a11 s) (fun k => a12 (60 * s + k))) (hp : post (pg_lv (pg_txt a1 a2 a3 (a6 s)) k)) :
    wpX_lineAt post (f0, a1, a2, a3, a4, a5, a6, a7, a8, a9, a10, a11, a12) (nI s) (nI k) := by
  obtain ⟨_, w2, w3, w4⟩ := hW
  unfold wpX_lineAt
  dsimp only
  rw [nI_clamp (show s < 2 ^ 31 by omega), w3]
  refine br_f (nI_pos hk) ⟨pk_in s 3 hs, pk_lt k _ (fun z => ⟨pg_ixi hs (by omega), ?_⟩) (fun z => ?_) rfl rfl hk (by omega)⟩
  · rw [pg_ixc hs (by omega)]
    have e : a12 (60 * s + k) = nI ((pg_txt a1 a2 a3 (a6 s)).2 k) := w4 k z
    unfold pg_lv at hp
    rw [if_pos z] at hp
    rw [e]
    exact hp
  · unfold pg_lv at hp
    rw [if_neg (by omega)] at hp
    exact hp
/-- the lines of a text are lines of the store -/
theorem pg_txL {P : Int64} {l : Int32} {X : Nat → Int32} (hW : pg_W a1 a2 a3 P l X) {k : Nat} (hk : k < (pg_txt a1 a2 a3 P).1) : pg_L a1 a2 P ((pg_txt a1 a2 a3 P).2 k) := (hW.1.1 k hk).1.1
theorem pg_lvN {P : Int64} {l : Int32} {X : Nat → Int32} (hN : N ≤ 60) (hP : pg_P N a5 P) (hW : pg_W a1 a2 a3 P l X) (k : Nat) : pg_lv (pg_txt a1 a2 a3 P) k = -1 ∨ ∃ a, k < (pg_txt a1 a2 a3 P).1 ∧ a = (pg_txt a1 a2 a3 P).2 k ∧ pg_lv (pg_txt a1 a2 a3 P) k = nI a ∧ pg_b P a = true ∧ ¬ a1 a = 0 ∧ a < N := by
  by_cases z : k < (pg_txt a1 a2 a3 P).1
  · have l := pg_txL hW z
    exact Or.inr ⟨_, z, rfl, if_pos z, l.1, l.2.1, hP.1 _ l.1⟩
  · exact Or.inl (if_neg z)
/-- what line answers -/
noncomputable def pg_la (t : Nat × (Nat → Nat)) (k : Nat) : Int32 := if k < t.1 then nI (t.2 k) else -1000000003
/-- what content answers -/
noncomputable def pg_ca (a4 : Nat → Int32) (t : Nat × (Nat → Nat)) (k : Nat) : Int32 := if k < t.1 then a4 (t.2 k) else -1000000003
theorem pg_lne {post : Int32 → St1 → Prop} {s k : Nat} (hs : s < 3) (hk : k < 2 ^ 31) (hI : pg_I N a1 a2 a3 a5 a6 a7 a8 a9 a10 a11 a12)
    (hp : ∀ b10 b11 b12, pg_I N a1 a2 a3 a5 a6 a7 a8 a9 b10 b11 b12 → ¬ b10 s = 0 → post (pg_la (pg_txt a1 a2 a3 (a6 s)) k) (nI N, a1, a2, a3, a4, a5, a6, a7, a8, a9, b10, b11, b12)) :
    wpX_line post (nI N, a1, a2, a3, a4, a5, a6, a7, a8, a9, a10, a11, a12) (nI s) (nI k) := by
  unfold wpX_line
  dsimp only
  refine pg_bad hs (br_t rfl (pg_wri hs hI (fun b10 b11 b12 h1 h2 _ => ?_)))
  have hW := (h1.2.2 s hs).2.2.2 h2
  refine pg_lat hs hk hW ?_
  have t := hp b10 b11 b12 h1 h2
  unfold pg_la at t
  rcases pg_lvN h1.1 (h1.2.2 s hs).1 hW k with z | ⟨a, z1, z2, z3, z4, z5, z6⟩
  · have nk : ¬ k < (pg_txt a1 a2 a3 (a6 s)).1 := fun y => by
      unfold pg_lv at z
      rw [if_pos y] at z
      have := (h1.2.2 s hs).1.1 _ (pg_txL hW y).1
      have := h1.1
      exact pg_nm (by omega) z
    rw [if_neg nk] at t
    exact br_t z t
  · rw [if_pos z1, ← z2] at t
    rw [z3]
    have := h1.1
    exact br_f (pg_nm (by omega)) t
theorem pg_con {post : Int32 → St1 → Prop} {s k : Nat} (hs : s < 3) (hk : k < 2 ^ 31) (hI : pg_I N a1 a2 a3 a5 a6 a7 a8 a9 a10 a11 a12)
    (hp : ∀ b10 b11 b12, pg_I N a1 a2 a3 a5 a6 a7 a8 a9 b10 b11 b12 → ¬ b10 s = 0 → post (pg_ca a4 (pg_txt a1 a2 a3 (a6 s)) k) (nI N, a1, a2, a3, a4, a5, a6, a7, a8, a9, b10, b11, b12)) :
    wpX_content post (nI N, a1, a2, a3, a4, a5, a6, a7, a8, a9, a10, a11, a12) (nI s) (nI k) := by
  unfold wpX_content
  dsimp only
  refine pg_bad hs (br_t rfl (pg_wri hs hI (fun b10 b11 b12 h1 h2 _ => ?_)))
  have hW := (h1.2.2 s hs).2.2.2 h2
  refine pg_lat hs hk hW ?_
  have t := hp b10 b11 b12 h1 h2
  unfold pg_ca at t
  rcases pg_lvN h1.1 (h1.2.2 s hs).1 hW k with z | ⟨a, z1, z2, z3, z4, z5, z6⟩
  · have nk : ¬ k < (pg_txt a1 a2 a3 (a6 s)).1 := fun y => by
      unfold pg_lv at z
      rw [if_pos y] at z
      have := (h1.2.2 s hs).1.1 _ (pg_txL hW y).1
      have := h1.1
      exact pg_nm (by omega) z
    rw [if_neg nk] at t
    exact br_t z t
  · rw [if_pos z1, ← z2] at t
    rw [z3]
    have := h1.1
    refine br_f (pg_nm (by omega)) ⟨pk_in a 60 (by omega), ?_⟩
    rw [nI_clamp (by omega)]
    exact t
theorem pg_alk52 {post : Int32 → St1 → Prop} {f0 : Int32} {s t m : Nat} {T : Nat → Nat} (hs : s < 3) (ht : t < 3) (hm : m ≤ 60) (e1 : a11 s = nI m) (e2 : ∀ k, k < m → T k < 60 ∧ a12 (60 * s + k) = nI (T k)) (e3 : ∀ k, k < m → a12 (60 * t + k) = nI (T k))
    (hp : post 1 (f0, a1, a2, a3, a4, a5, a6, a7, a8, a9, a10, a11, a12)) : ∃ n, wX_alike_52 post (nI s) (nI t) f0 a1 a2 a3 a4 a5 a6 a7 a8 a9 a10 a11 a12 n 1 0 := by
  refine pk_loop (σ := Unit) (fun n i _ => wX_alike_52 post (nI s) (nI t) f0 a1 a2 a3 a4 a5 a6 a7 a8 a9 a10 a11 a12 n 1 (nI i)) (fun _ _ => True) m 0 () (by omega) trivial (fun n _ _ => ?_) (fun n i _ hi _ hw => ?_)
  · exact ⟨pk_in s 3 hs, pk_le m m (fun _ => ⟨rfl, hp⟩) (fun z => absurd z (by omega)) (by rw [nI_clamp (by omega)]; exact e1)⟩
  · have c1 : a12 ((60 : Int32) * nI s + nI i).toNatClampNeg = nI (T i) := by rw [pg_ixc hs (by omega)]; exact (e2 i hi).2
    have c2 : a12 ((60 : Int32) * nI t + nI i).toNatClampNeg = nI (T i) := by rw [pg_ixc ht (by omega)]; exact e3 i hi
    have c3 := (e2 i hi).1
    exact ⟨pk_in s 3 hs, pk_le m i (fun z => absurd z (by omega)) (fun _ => br_f (by decide) ⟨pg_ixi hs (by omega), pk_in (T i) 60 c3 c1, pg_ixi ht (by omega), pk_in (T i) 60 c3 c2, br_t (by rw [c1, c2]) (nm_r (nI_1 i) (hw () trivial))⟩) (by rw [nI_clamp (by omega)]; exact e1)⟩
theorem pg_alk {post : Int32 → St1 → Prop} {s t : Nat} (hs : s < 3) (ht : t < 3) (hI : pg_I N a1 a2 a3 a5 a6 a7 a8 a9 a10 a11 a12) (he : a6 s = a6 t)
    (hp : ∀ b10 b11 b12, pg_I N a1 a2 a3 a5 a6 a7 a8 a9 b10 b11 b12 → post 1 (nI N, a1, a2, a3, a4, a5, a6, a7, a8, a9, b10, b11, b12)) :
    wpX_alike post (nI N, a1, a2, a3, a4, a5, a6, a7, a8, a9, a10, a11, a12) (nI s) (nI t) := by
  unfold wpX_alike
  dsimp only
  rw [nI_clamp (show s < 2 ^ 31 by omega), nI_clamp (show t < 2 ^ 31 by omega)]
  refine pg_bad hs (br_t rfl (pg_bad ht (br_t rfl (pg_wri hs hI (fun b10 b11 b12 h1 h2 _ => ?_)))))
  dsimp only
  refine pg_wri ht h1 (fun c10 c11 c12 g1 g2 g3 => ⟨pk_in s 3 hs, pk_in t 3 ht, ?_⟩)
  dsimp only
  have w1 := (g1.2.2 s hs).2.2.2 (g3 s h2)
  have w2 := (g1.2.2 t ht).2.2.2 g2
  have hP := (g1.2.2 s hs).1
  have hN := g1.1
  rw [← he] at w2
  have l60 := w1.2.1
  refine br_t (by rw [w1.2.2.1, w2.2.2.1]) (pg_alk52 hs ht l60 w1.2.2.1 (fun k hk => ⟨?_, w1.2.2.2 k hk⟩) (fun k hk => w2.2.2.2 k hk) (hp c10 c11 c12 g1))
  have := hP.1 _ (pg_txL w1 hk).1
  omega
end
end
section
/-! ===== steps: which line leads to which ===== -/
/-- rows of a set get a word, up to i -/
def pg_u (h v : Int64) (f : Nat → Int64) (i a : Nat) : Int64 := if a < i ∧ pg_b h a = true then f a ||| v else f a
theorem pg_u0 (h v : Int64) (f : Nat → Int64) (a : Nat) : pg_u h v f 0 a = f a := if_neg (fun z => absurd z.1 (by omega))
theorem pg_uS {h v : Int64} {f p : Nat → Int64} {s i : Nat} (e : ∀ a, a < 60 → p (60 * s + a) = pg_u h v f i a) (hi : i < 60) (hb : pg_b h i = true) : ∀ a, a < 60 → vp_updL p (60 * s + i) (p (60 * s + i) ||| v) (60 * s + a) = pg_u h v f (i + 1) a := by
  intro a ha
  by_cases c : a = i
  · subst c
    rw [pk_uLs, e a ha]
    unfold pg_u
    rw [if_neg (fun z => absurd z.1 (by omega)), if_pos ⟨by omega, hb⟩]
  · rw [pk_uLn (by omega), e a ha]
    unfold pg_u
    by_cases d : a < i ∧ pg_b h a = true
    · rw [if_pos d, if_pos ⟨by omega, d.2⟩]
    · rw [if_neg d, if_neg (fun z => d ⟨by omega, z.2⟩)]
theorem pg_uN {h v : Int64} {f p : Nat → Int64} {s i : Nat} (e : ∀ a, a < 60 → p (60 * s + a) = pg_u h v f i a) (hb : pg_b h i = false) : ∀ a, a < 60 → p (60 * s + a) = pg_u h v f (i + 1) a := by
  intro a ha
  rw [e a ha]
  unfold pg_u
  by_cases d : a < i ∧ pg_b h a = true
  · rw [if_pos d, if_pos ⟨by omega, d.2⟩]
  · refine (if_neg d).trans (if_neg (fun z => d ⟨?_, z.2⟩)).symm
    have : a ≠ i := fun c => by subst c; exact pg_nf hb z.2
    have := z.1
    omega
section
variable {N : Nat} {a1 a2 a3 a4 : Nat → Int32} {a5 a6 a7 a8 a9 : Nat → Int64} {a10 a11 a12 : Nat → Int32}
theorem pg_as61 {post : St1 → Prop} {s : Nat} {bh ah : Int64} (hs : s < 3) (hN : N ≤ 60)
    (hp : ∀ b8 b9, (∀ a, a < 60 → b8 (60 * s + a) = pg_u ah bh (fun a => a8 (60 * s + a)) N a) → (∀ a, a < 60 → b9 (60 * s + a) = pg_u bh ah (fun a => a9 (60 * s + a)) N a) → (∀ j, (j < 60 * s ∨ 60 * s + 60 ≤ j) → b8 j = a8 j ∧ b9 j = a9 j) → post (nI N, a1, a2, a3, a4, a5, a6, a7, b8, b9, a10, a11, a12)) :
    ∃ fu, wX_addStep_61 post (nI s) bh ah (nI N) fu 0 a1 a2 a3 a4 a5 a6 a7 a8 a9 a10 a11 a12 := by
  refine pk_loop (σ := (Nat → Int64) × (Nat → Int64)) (fun n i p => wX_addStep_61 post (nI s) bh ah (nI N) n (nI i) a1 a2 a3 a4 a5 a6 a7 p.1 p.2 a10 a11 a12)
    (fun i p => (∀ a, a < 60 → p.1 (60 * s + a) = pg_u ah bh (fun a => a8 (60 * s + a)) i a) ∧ (∀ a, a < 60 → p.2 (60 * s + a) = pg_u bh ah (fun a => a9 (60 * s + a)) i a) ∧ (∀ j, (j < 60 * s ∨ 60 * s + 60 ≤ j) → p.1 j = a8 j ∧ p.2 j = a9 j)) N 0 (a8, a9) (by omega)
    ⟨fun a _ => (pg_u0 ah bh (fun a => a8 (60 * s + a)) a).symm, fun a _ => (pg_u0 bh ah (fun a => a9 (60 * s + a)) a).symm, fun _ _ => ⟨rfl, rfl⟩⟩ (fun n p h => ?_) (fun n i p hi h hw => ?_)
  · exact pk_le N N (fun _ => hp p.1 p.2 h.1 h.2.1 h.2.2) (fun z => absurd z (by omega))
  · obtain ⟨h1, h2, h3⟩ := h
    have snd : ∀ q : Nat → Int64, (∀ a, a < 60 → q (60 * s + a) = pg_u ah bh (fun a => a8 (60 * s + a)) (i + 1) a) → (∀ j, (j < 60 * s ∨ 60 * s + 60 ≤ j) → q j = a8 j) → wX_addStep_108 post (wX_addStep_61 post (nI s) bh ah (nI N) n) (nI s) bh ah (nI i) (nI N) a1 a2 a3 a4 a5 a6 a7 q p.2 a10 a11 a12 := by
      intro q q1 q2
      unfold wX_addStep_108
      rw [pg_ixc hs (show i < 60 by omega)]
      refine pg_hb (by omega) (fun z => br_f (by decide) ⟨pg_ixi hs (by omega), pg_ixi hs (by omega), nm_e (nm_r (nI_1 i) ?_)⟩) (fun z => br_t rfl (nm_r (nI_1 i) (hw (q, p.2) ⟨q1, pg_uN h2 z, fun j hj => ⟨q2 j hj, (h3 j hj).2⟩⟩)))
      refine hw (q, vp_updL p.2 (60 * s + i) (p.2 (60 * s + i) ||| ah)) ⟨q1, pg_uS h2 (by omega) z, fun j hj => ⟨q2 j hj, ?_⟩⟩
      show vp_updL p.2 (60 * s + i) (p.2 (60 * s + i) ||| ah) j = a9 j
      rw [pk_uLn (by omega)]
      exact (h3 j hj).2
    refine pk_le N i (fun z => absurd z (by omega)) (fun _ => ?_)
    refine pg_hb (by omega) (fun z => br_f (by decide) ⟨pg_ixi hs (by omega), pg_ixi hs (by omega), nm_r (by rw [pg_ixc hs (show i < 60 by omega)]) (snd _ (pg_uS h1 (by omega) z) (fun j hj => ?_))⟩) (fun z => br_t rfl (snd p.1 (pg_uN h1 z) (fun j hj => (h3 j hj).1)))
    rw [pk_uLn (by omega)]
    exact (h3 j hj).1
theorem pg_ast {post : St1 → Prop} {s f t : Nat} {D : Nat → Prop} {R : Nat → Nat → Prop} (hs : s < 3) (hN : N ≤ 60) (hD : ∀ a, D a → a < N) (df : D f) (dt : D t) (tr : ∀ a c d, R a c → R c d → R a d)
    (hR : ∀ a, D a → ∀ c, (pg_b (a8 (60 * s + a)) c = true ↔ R a c) ∧ (pg_b (a9 (60 * s + a)) c = true ↔ R c a))
    (hp : ∀ b8 b9, (∀ a, D a → ∀ c, (pg_b (b8 (60 * s + a)) c = true ↔ pg_step R f t a c) ∧ (pg_b (b9 (60 * s + a)) c = true ↔ pg_step R f t c a)) → (∀ j, (j < 60 * s ∨ 60 * s + 60 ≤ j) → b8 j = a8 j ∧ b9 j = a9 j) → post (nI N, a1, a2, a3, a4, a5, a6, a7, b8, b9, a10, a11, a12)) :
    wpX_addStep post (nI N, a1, a2, a3, a4, a5, a6, a7, a8, a9, a10, a11, a12) (nI s) (nI f) (nI t) := by
  have fN := hD f df
  have tN := hD t dt
  unfold wpX_addStep
  dsimp only
  rw [pg_ixc hs (show f < 60 by omega), pg_ixc hs (show t < 60 by omega)]
  refine ⟨pg_ixi hs (by omega), pg_wb (nm_e ⟨pg_ixi hs (by omega), pg_wb (nm_e ⟨pg_ixi hs (by omega), pg_hb (by omega) (fun z => br_f (by decide) (hp a8 a9 (fun a da c => ?_) (fun _ _ => ⟨rfl, rfl⟩))) (fun z => br_t rfl (pg_as61 hs hN (fun b8 b9 h1 h2 h3 => hp b8 b9 (fun a da c => ?_) h3)))⟩)⟩)⟩
  · have o := (hR f df t).1.mp z
    rw [pg_step_old tr o, pg_step_old tr o]
    exact hR a da c
  · have aN := hD a da
    have eA : pg_b (a9 (60 * s + f) ||| pg_one f) a = true ↔ (a = f ∨ R a f) := by
      rw [pg_or, pg_bit (by omega), Bool.or_eq_true, decide_eq_true_eq, (hR f df a).2]
      exact Or.comm
    have eB : ∀ c, pg_b (a8 (60 * s + t) ||| pg_one t) c = true ↔ (c = t ∨ R t c) := by
      intro c
      rw [pg_or, pg_bit (by omega), Bool.or_eq_true, decide_eq_true_eq, (hR t dt c).1]
      exact Or.comm
    have eA' : ∀ c, pg_b (a9 (60 * s + f) ||| pg_one f) c = true ↔ (c = f ∨ R c f) := by
      intro c
      rw [pg_or, pg_bit (by omega), Bool.or_eq_true, decide_eq_true_eq, (hR f df c).2]
      exact Or.comm
    rw [h1 a (by omega), h2 a (by omega)]
    unfold pg_u
    constructor
    · by_cases g : pg_b (a9 (60 * s + f) ||| pg_one f) a = true
      · rw [if_pos ⟨aN, g⟩, pg_or, Bool.or_eq_true, (hR a da c).1, eB c]
        unfold pg_step
        exact ⟨fun y => y.elim Or.inl (fun y => Or.inr ⟨eA.mp g, y⟩), fun y => y.elim Or.inl (fun y => Or.inr y.2)⟩
      · rw [if_neg (fun y => g y.2), (hR a da c).1]
        unfold pg_step
        exact ⟨Or.inl, fun y => y.elim id (fun y => absurd (eA.mpr y.1) g)⟩
    · by_cases g : pg_b (a8 (60 * s + t) ||| pg_one t) a = true
      · rw [if_pos ⟨aN, g⟩, pg_or, Bool.or_eq_true, (hR a da c).2, eA' c]
        unfold pg_step
        exact ⟨fun y => y.elim Or.inl (fun y => Or.inr ⟨y, (eB a).mp g⟩), fun y => y.elim Or.inl (fun y => Or.inr y.1)⟩
      · rw [if_neg (fun y => g y.2), (hR a da c).2]
        unfold pg_step
        exact ⟨Or.inl, fun y => y.elim id (fun y => absurd ((eB a).mpr y.2) g)⟩
theorem pg_a104 {post : St1 → Prop} {s p : Nat} {D : Nat → Prop} {R R' : Nat → Nat → Prop} (hs : s < 3) (hN : N ≤ 60) (hD : ∀ a, D a → a < N) (dp : D p) (tr : ∀ a c d, R a c → R c d → R a d)
    (hR : ∀ a, D a → ∀ c, (pg_b (a8 (60 * s + a)) c = true ↔ R a c) ∧ (pg_b (a9 (60 * s + a)) c = true ↔ R c a))
    (hl : a3 p = -1 ∨ ∃ l, a3 p = nI l ∧ D l) (h0 : a3 p = -1 → ∀ a c, R' a c ↔ R a c) (h1 : ¬ a3 p = -1 → ∀ a c, R' a c ↔ pg_step R p (a3 p).toNatClampNeg a c)
    (hp : ∀ b8 b9, (∀ a, D a → ∀ c, (pg_b (b8 (60 * s + a)) c = true ↔ R' a c) ∧ (pg_b (b9 (60 * s + a)) c = true ↔ R' c a)) → (∀ j, (j < 60 * s ∨ 60 * s + 60 ≤ j) → b8 j = a8 j ∧ b9 j = a9 j) → post (nI N, a1, a2, a3, a4, a5, a6, a7, b8, b9, a10, a11, a12)) :
    wX_add_104 post (nI s) (nI p) (nI N) a1 a2 a3 a4 a5 a6 a7 a8 a9 a10 a11 a12 := by
  have pN := hD p dp
  unfold wX_add_104
  rw [nI_clamp (show p < 2 ^ 31 by omega)]
  refine ⟨pk_in p 60 (by omega), br_c (fun e => hp a8 a9 (fun a da c => ?_) (fun _ _ => ⟨rfl, rfl⟩)) (fun e => ⟨pk_in p 60 (by omega), ?_⟩)⟩
  · rw [h0 e, h0 e]
    exact hR a da c
  · rcases hl with z | ⟨l, l1, l2⟩
    · exact absurd z e
    · have lN := hD l l2
      have h1' := h1 e
      rw [l1, nI_clamp (show l < 2 ^ 31 by omega)] at h1'
      rw [l1]
      refine pg_ast hs hN hD dp l2 tr hR (fun b8 b9 g1 g2 => hp b8 b9 (fun a da c => ?_) g2)
      rw [h1', h1']
      exact g1 a da c
/-! ===== a set gets one more patch ===== -/
theorem pg_P1 {P : Int64} {p : Nat} (hp : p < 64) (i : Nat) : pg_b (P ||| pg_one p) i = true ↔ (pg_b P i = true ∨ i = p) := by
  rw [pg_or, pg_bit hp, Bool.or_eq_true, decide_eq_true_eq]
theorem pg_E_str {P : Int64} {p : Nat} (hp : p < 64) (h : a1 p = 0) : pg_E a1 a2 a3 (P ||| pg_one p) = pg_E a1 a2 a3 P := by
  funext a c
  apply propext
  constructor
  · intro z
    obtain ⟨q, z1, z2, z3⟩ := z
    rcases (pg_P1 hp q).mp z1 with y | y
    · exact ⟨q, y, z2, z3⟩
    · subst y
      exact absurd h z2
  · intro z
    obtain ⟨q, z1, z2⟩ := z
    exact ⟨q, (pg_P1 hp q).mpr (Or.inl z1), z2⟩
theorem pg_K_str {P : Int64} {p : Nat} (hp : p < 64) (h : a1 p = 0) (j : Nat) : pg_K a1 a2 (P ||| pg_one p) j ↔ (pg_K a1 a2 P j ∨ j = (a2 p).toNatClampNeg) := by
  constructor
  · intro z
    obtain ⟨q, z1, z2, z3⟩ := z
    rcases (pg_P1 hp q).mp z1 with y | y
    · exact Or.inl ⟨q, y, z2, z3⟩
    · subst y
      exact Or.inr z3
  · intro z
    rcases z with ⟨q, z1, z2⟩ | z
    · exact ⟨q, (pg_P1 hp q).mpr (Or.inl z1), z2⟩
    · exact ⟨p, (pg_P1 hp p).mpr (Or.inr rfl), h, z⟩
theorem pg_K_put {P : Int64} {p : Nat} (hp : p < 64) (h : ¬ a1 p = 0) (j : Nat) : pg_K a1 a2 (P ||| pg_one p) j ↔ pg_K a1 a2 P j := by
  constructor
  · intro z
    obtain ⟨q, z1, z2, z3⟩ := z
    rcases (pg_P1 hp q).mp z1 with y | y
    · exact ⟨q, y, z2, z3⟩
    · subst y
      exact absurd z2 h
  · intro z
    obtain ⟨q, z1, z2⟩ := z
    exact ⟨q, (pg_P1 hp q).mpr (Or.inl z1), z2⟩
theorem pg_E_put {P : Int64} {p : Nat} (hp : p < 64) (h : ¬ a1 p = 0) : pg_E a1 a2 a3 (P ||| pg_one p) = fun a c => (pg_E a1 a2 a3 P a c ∨ (¬ a2 p = -1 ∧ a = (a2 p).toNatClampNeg ∧ c = p)) ∨ (¬ a3 p = -1 ∧ a = p ∧ c = (a3 p).toNatClampNeg) := by
  funext a c
  apply propext
  constructor
  · intro z
    obtain ⟨q, z1, z2, z3⟩ := z
    rcases (pg_P1 hp q).mp z1 with y | y
    · exact Or.inl (Or.inl ⟨q, y, z2, z3⟩)
    · subst y
      exact z3.elim (fun w => Or.inl (Or.inr w)) Or.inr
  · intro z
    have pp := (pg_P1 (P := P) hp p).mpr (Or.inr rfl)
    rcases z with (⟨q, z1, z2⟩ | z) | z
    · exact ⟨q, (pg_P1 hp q).mpr (Or.inl z1), z2⟩
    · exact ⟨p, pp, h, Or.inl z⟩
    · exact ⟨p, pp, h, Or.inr z⟩
theorem pg_tgT {E : Nat → Nat → Prop} {q : Prop} {f t : Nat} (h : q) (a c : Nat) : Relation.TransGen (fun a c => E a c ∨ (q ∧ a = f ∧ c = t)) a c ↔ pg_step (Relation.TransGen E) f t a c := by
  have e : (fun a c => E a c ∨ (q ∧ a = f ∧ c = t)) = (fun a c => E a c ∨ (a = f ∧ c = t)) := by
    funext a c
    exact propext ⟨fun z => z.elim Or.inl (fun y => Or.inr y.2), fun z => z.elim Or.inl (fun y => Or.inr ⟨h, y⟩)⟩
  rw [e]
  exact pg_tg
theorem pg_tgF {E : Nat → Nat → Prop} {q : Prop} {f t : Nat} (h : ¬ q) (a c : Nat) : Relation.TransGen (fun a c => E a c ∨ (q ∧ a = f ∧ c = t)) a c ↔ Relation.TransGen E a c := by
  have e : (fun a c => E a c ∨ (q ∧ a = f ∧ c = t)) = E := by
    funext a c
    exact propext ⟨fun z => z.elim id (fun y => absurd y.1 h), Or.inl⟩
  rw [e]
theorem pg_PP {P : Int64} {p : Nat} (hN : N ≤ 60) (hP : pg_P N a5 P) (pN : p < N) (hn : ∀ j, pg_b (a5 p) j = true → pg_b P j = true) : pg_P N a5 (P ||| pg_one p) := by
  constructor
  · intro i hi
    rcases (pg_P1 (by omega) i).mp hi with y | y
    · exact hP.1 i y
    · subst y
      exact pN
  · intro i j hi hj
    refine (pg_P1 (by omega) j).mpr (Or.inl ?_)
    rcases (pg_P1 (by omega) i).mp hi with y | y
    · exact hP.2 i j y hj
    · subst y
      exact hn j hj
/-- the other stores stay as they are -/
theorem pg_oth {b6 b7 b8 b9 : Nat → Int64} {b10 b11 b12 : Nat → Int32} {s x : Nat} (hI : pg_I N a1 a2 a3 a5 a6 a7 a8 a9 a10 a11 a12) (hx : x < 3) (ne : x ≠ s) (e6 : b6 x = a6 x) (e7 : b7 x = a7 x) (e10 : b10 x = a10 x) (e11 : b11 x = a11 x)
    (fr : ∀ j, (j < 60 * s ∨ 60 * s + 60 ≤ j) → b8 j = a8 j ∧ b9 j = a9 j) (fr12 : ∀ j, (j < 60 * s ∨ 60 * s + 60 ≤ j) → b12 j = a12 j) :
    pg_P N a5 (b6 x) ∧ pg_S a1 a2 a3 (b6 x) (b7 x) (fun a => b8 (60 * x + a)) (fun a => b9 (60 * x + a)) (b10 x) (b11 x) (fun k => b12 (60 * x + k)) := by
  have hN := hI.1
  obtain ⟨hP, hS⟩ := hI.2.2 x hx
  have out : ∀ k, k < 60 → (60 * x + k < 60 * s ∨ 60 * s + 60 ≤ 60 * x + k) := by
    intro k hk
    rcases Nat.lt_or_gt_of_ne ne with z | z
    · exact Or.inl (by omega)
    · exact Or.inr (by omega)
  rw [e6, e7, e10, e11]
  exact ⟨hP, pg_S_c (fun i hi => by have := hP.1 i hi; omega) hS (fun _ _ => ⟨rfl, rfl, rfl⟩) (fun a ha => fr _ (out a ha)) (fun k hk => fr12 _ (out k hk))⟩
theorem pg_add {post : St1 → Prop} {s p : Nat} (hs : s < 3) (pN : p < N) (hI : pg_I N a1 a2 a3 a5 a6 a7 a8 a9 a10 a11 a12) (np : ¬ pg_b (a6 s) p = true) (hn : ∀ j, pg_b (a5 p) j = true → pg_b (a6 s) j = true)
    (hp : ∀ b7 b8 b9 b10, pg_I N a1 a2 a3 a5 (vp_updL a6 s (a6 s ||| pg_one p)) b7 b8 b9 b10 a11 a12 → post (nI N, a1, a2, a3, a4, a5, vp_updL a6 s (a6 s ||| pg_one p), b7, b8, b9, b10, a11, a12)) :
    wpX_add post (nI N, a1, a2, a3, a4, a5, a6, a7, a8, a9, a10, a11, a12) (nI s) (nI p) := by
  have hN := hI.1
  have hT := hI.2.1
  obtain ⟨hP, hS⟩ := hI.2.2 s hs
  have hP' := pg_PP hN hP pN hn
  unfold wpX_add
  dsimp only
  rw [nI_clamp (show s < 2 ^ 31 by omega), nI_clamp (show p < 2 ^ 31 by omega)]
  refine ⟨pk_in s 3 hs, pg_wb ⟨pk_in s 3 hs, nm_e ⟨pk_in s 3 hs, nm_e ⟨pk_in p 60 (by omega), br_c (fun e => ?_) (fun e => ?_)⟩⟩⟩⟩
  · obtain ⟨t1, _, t3, _⟩ := hT p pN
    rcases t1 with z | ⟨u, u1, u2, u3, u4⟩
    · exact absurd z (t3 e)
    · rw [u2]
      refine ⟨pk_in s 3 hs, pk_in p 60 (by omega), pg_wb ⟨pk_in s 3 hs, nm_e (hp _ _ _ _ ⟨hN, hT, fun x hx => ?_⟩)⟩⟩
      by_cases ex : x = s
      · subst ex
        rw [pk_uLs, pk_uLs, pk_us]
        refine ⟨hP', fun j => ?_, fun a pa na c => ?_, fun z => absurd rfl z⟩
        · rw [pg_K_str (by omega) e, u2, nI_clamp (show u < 2 ^ 31 by omega), pg_or, pg_bit (by omega), Bool.or_eq_true, decide_eq_true_eq, hS.1 j]
        · unfold pg_R
          rw [pg_E_str (by omega) e]
          rcases (pg_P1 (by omega) a).mp pa with y | y
          · exact hS.2.1 a y na c
          · subst y
            exact absurd e na
      · exact pg_oth hI hx ex (pk_uLn ex) (pk_uLn ex) (pk_un ex) rfl (fun _ _ => ⟨rfl, rfl⟩) (fun _ _ => rfl)
  · rw [pg_ixc hs (show p < 60 by omega)]
    have hD : ∀ a, (pg_b (a6 s ||| pg_one p) a = true ∧ ¬ a1 a = 0) → a < N := fun a da => hP'.1 a da.1
    have dp : pg_b (a6 s ||| pg_one p) p = true ∧ ¬ a1 p = 0 := ⟨(pg_P1 (by omega) p).mpr (Or.inr rfl), e⟩
    have inD : ∀ j, pg_b (a5 p) j = true → ¬ a1 j = 0 → (pg_b (a6 s ||| pg_one p) j = true ∧ ¬ a1 j = 0) := fun j h1 h2 => ⟨(pg_P1 (by omega) j).mpr (Or.inl (hn j h1)), h2⟩
    obtain ⟨t1, t2, _⟩ := hT p pN
    have R0 : ∀ a, (pg_b (a6 s ||| pg_one p) a = true ∧ ¬ a1 a = 0) → ∀ c, (pg_b (vp_updL a8 (60 * s + p) 0 (60 * s + a)) c = true ↔ pg_R a1 a2 a3 (a6 s) a c) ∧ (pg_b (vp_updL a9 (60 * s + p) 0 (60 * s + a)) c = true ↔ pg_R a1 a2 a3 (a6 s) c a) := by
      intro a da c
      by_cases ea : a = p
      · subst ea
        rw [pk_uLs, pk_uLs, pg_z]
        exact ⟨⟨fun z => absurd z (by decide), fun z => absurd (pg_R_in hN hT hP z).1.1 np⟩, ⟨fun z => absurd z (by decide), fun z => absurd (pg_R_in hN hT hP z).2.1 np⟩⟩
      · rw [pk_uLn (by omega), pk_uLn (by omega)]
        rcases (pg_P1 (by omega) a).mp da.1 with y | y
        · exact hS.2.1 a y da.2 c
        · exact absurd y ea
    have fr0 : ∀ j, (j < 60 * s ∨ 60 * s + 60 ≤ j) → vp_updL a8 (60 * s + p) 0 j = a8 j ∧ vp_updL a9 (60 * s + p) 0 j = a9 j := fun j hj => ⟨pk_uLn (by omega), pk_uLn (by omega)⟩
    have eE := pg_E_put (a1 := a1) (a2 := a2) (a3 := a3) (P := a6 s) (show p < 64 by omega) e
    have fin : ∀ (b8 b9 : Nat → Int64), (∀ a, (pg_b (a6 s ||| pg_one p) a = true ∧ ¬ a1 a = 0) → ∀ c, (pg_b (b8 (60 * s + a)) c = true ↔ pg_R a1 a2 a3 (a6 s ||| pg_one p) a c) ∧ (pg_b (b9 (60 * s + a)) c = true ↔ pg_R a1 a2 a3 (a6 s ||| pg_one p) c a)) → (∀ j, (j < 60 * s ∨ 60 * s + 60 ≤ j) → b8 j = a8 j ∧ b9 j = a9 j) →
        pg_I N a1 a2 a3 a5 (vp_updL a6 s (a6 s ||| pg_one p)) a7 b8 b9 (upd a10 s 0) a11 a12 := by
      intro b8 b9 g1 g2
      refine ⟨hN, hT, fun x hx => ?_⟩
      by_cases ex : x = s
      · subst ex
        rw [pk_uLs, pk_us]
        exact ⟨hP', fun j => by rw [pg_K_put (by omega) e]; exact hS.1 j, fun a pa na => g1 a ⟨pa, na⟩, fun z => absurd rfl z⟩
      · exact pg_oth hI hx ex (pk_uLn ex) rfl (pk_un ex) rfl g2 (fun _ _ => rfl)
    have l104 : ∀ (b8 b9 : Nat → Int64) (R1 : Nat → Nat → Prop), R1 = Relation.TransGen (fun a c => pg_E a1 a2 a3 (a6 s) a c ∨ (¬ a2 p = -1 ∧ a = (a2 p).toNatClampNeg ∧ c = p)) →
        (∀ a, (pg_b (a6 s ||| pg_one p) a = true ∧ ¬ a1 a = 0) → ∀ c, (pg_b (b8 (60 * s + a)) c = true ↔ R1 a c) ∧ (pg_b (b9 (60 * s + a)) c = true ↔ R1 c a)) → (∀ j, (j < 60 * s ∨ 60 * s + 60 ≤ j) → b8 j = a8 j ∧ b9 j = a9 j) →
        wX_add_104 post (nI s) (nI p) (nI N) a1 a2 a3 a4 a5 (vp_updL a6 s (a6 s ||| pg_one p)) a7 b8 b9 (upd a10 s 0) a11 a12 := by
      intro b8 b9 R1 e1 g1 g2
      subst e1
      refine pg_a104 (D := fun a => pg_b (a6 s ||| pg_one p) a = true ∧ ¬ a1 a = 0) (R := Relation.TransGen (fun a c => pg_E a1 a2 a3 (a6 s) a c ∨ (¬ a2 p = -1 ∧ a = (a2 p).toNatClampNeg ∧ c = p))) (R' := pg_R a1 a2 a3 (a6 s ||| pg_one p)) hs hN hD dp (fun _ _ _ h g => Relation.TransGen.trans h g) g1 ?_ (fun z a c => ?_) (fun z a c => ?_) (fun c8 c9 k1 k2 => hp _ _ _ _ (fin c8 c9 k1 (fun j hj => ⟨(k2 j hj).1.trans (g2 j hj).1, (k2 j hj).2.trans (g2 j hj).2⟩)))
      · rcases t2 with z | ⟨l, l1, l2, l3, l4⟩
        · exact Or.inl z
        · exact Or.inr ⟨l, l2, inD l l4 l3⟩
      · unfold pg_R
        rw [eE]
        exact pg_tgF (fun y => y z) a c
      · unfold pg_R
        rw [eE]
        exact pg_tgT z a c
    refine ⟨pg_ixi hs (by omega), nm_e ⟨pg_ixi hs (by omega), nm_e ⟨pk_in p 60 (by omega), br_c (fun eu => ?_) (fun eu => ⟨pk_in p 60 (by omega), ?_⟩)⟩⟩⟩
    · refine l104 _ _ _ rfl (fun a da c => ?_) fr0
      rw [pg_tgF (fun y => y eu) a c, pg_tgF (fun y => y eu) c a]
      exact R0 a da c
    · rcases t1 with z | ⟨u, u1, u2, u3, u4⟩
      · exact absurd z eu
      · have q : ∀ a c, Relation.TransGen (fun a c => pg_E a1 a2 a3 (a6 s) a c ∨ (¬ a2 p = -1 ∧ a = (a2 p).toNatClampNeg ∧ c = p)) a c ↔ pg_step (pg_R a1 a2 a3 (a6 s)) u p a c := by
          intro a c
          rw [pg_tgT eu a c, u2, nI_clamp (show u < 2 ^ 31 by omega)]
          exact Iff.rfl
        rw [u2]
        refine pg_ast (D := fun a => pg_b (a6 s ||| pg_one p) a = true ∧ ¬ a1 a = 0) hs hN hD (inD u u4 u3) dp pg_R_tr R0 (fun b8 b9 g1 g2 => ?_)
        refine l104 b8 b9 _ rfl (fun a da c => ?_) (fun j hj => ⟨(g2 j hj).1.trans (fr0 j hj).1, (g2 j hj).2.trans (fr0 j hj).2⟩)
        rw [q a c, q c a]
        exact g1 a da c
end
end
section
/-! ===== stores get and lose patches ===== -/
def pg_new (w P : Int64) (i : Nat) : Bool := pg_b w i && !pg_b P i
theorem pg_cn_s (f : Nat → Bool) (n : Nat) : pg_cn f (n + 1) = pg_cn f n + (if f n = true then 1 else 0) := rfl
theorem pg_uu (f : Nat → Int64) (k : Nat) (x y : Int64) : vp_updL (vp_updL f k x) k y = vp_updL f k y := by
  funext j
  by_cases e : j = k
  · subst e
    rw [pk_uLs, pk_uLs]
  · rw [pk_uLn e, pk_uLn e, pk_uLn e]
theorem pg_same (f : Nat → Int64) (k : Nat) : vp_updL f k (f k) = f := by
  funext j
  by_cases e : j = k
  · subst e
    rw [pk_uLs]
  · rw [pk_uLn e]
section
variable {N : Nat} {a1 a2 a3 a4 : Nat → Int32} {a5 a6 a7 a8 a9 : Nat → Int64} {a10 a11 a12 : Nat → Int32}
theorem pg_aa6 {post : Int32 → St1 → Prop} {s : Nat} {w : Int64} (hs : s < 3) (hw : pg_P N a5 w)
    (H : ∀ b7 b8 b9 b10, pg_I N a1 a2 a3 a5 (vp_updL a6 s (a6 s ||| w)) b7 b8 b9 b10 a11 a12 → post (nI (pg_cn (pg_new w (a6 s)) N)) (nI N, a1, a2, a3, a4, a5, vp_updL a6 s (a6 s ||| w), b7, b8, b9, b10, a11, a12)) :
    ∀ (n i : Nat) (b6 b7 b8 b9 : Nat → Int64) (b10 : Nat → Int32), pg_I N a1 a2 a3 a5 b6 b7 b8 b9 b10 a11 a12 → (∀ c, pg_b (b6 s) c = true ↔ (pg_b (a6 s) c = true ∨ (c < i ∧ pg_b w c = true))) → (∀ x, x ≠ s → b6 x = a6 x) → i ≤ N → N - i < n →
      wX_addAll_6 post (nI s) w n (nI (pg_cn (pg_new w (a6 s)) i)) (nI i) (nI N) a1 a2 a3 a4 a5 b6 b7 b8 b9 b10 a11 a12 := by
  intro n
  induction n with
  | zero => intro i b6 b7 b8 b9 b10 _ _ _ _ z; omega
  | succ n ih =>
    intro i b6 b7 b8 b9 b10 hI h1 h2 h3 h4
    have hN := hI.1
    have hT := hI.2.1
    refine pk_le N i (fun z => ?_) (fun z => ?_)
    · have ei : i = N := by omega
      subst ei
      have e6 : b6 = vp_updL a6 s (a6 s ||| w) := by
        funext x
        by_cases e : x = s
        · subst e
          rw [pk_uLs]
          refine pg_ext (fun c _ => ?_)
          rw [Bool.eq_iff_iff, h1 c, pg_or, Bool.or_eq_true]
          exact ⟨fun y => y.elim Or.inl (fun y => Or.inr y.2), fun y => y.elim Or.inl (fun y => Or.inr ⟨hw.1 c y, y⟩)⟩
        · rw [pk_uLn e]
          exact h2 x e
      rw [e6] at hI ⊢
      exact H b7 b8 b9 b10 hI
    · have skip : pg_new w (a6 s) i = false → (∀ c, pg_b (b6 s) c = true ↔ (pg_b (a6 s) c = true ∨ (c < i + 1 ∧ pg_b w c = true))) → wX_addAll_6 post (nI s) w n (nI (pg_cn (pg_new w (a6 s)) i)) (nI (i + 1)) (nI N) a1 a2 a3 a4 a5 b6 b7 b8 b9 b10 a11 a12 := by
        intro e h
        have t := ih (i + 1) b6 b7 b8 b9 b10 hI h h2 (by omega) (by omega)
        rw [pg_cn_s, if_neg (pg_nf e), Nat.add_zero] at t
        exact t
      refine pg_hb (by omega) (fun z1 => br_f (by decide) ⟨pk_in s 3 hs, ?_⟩) (fun z1 => br_t rfl (nm_r (nI_1 i) (skip ?_ (fun c => ?_))))
      · rw [nI_clamp (show s < 2 ^ 31 by omega)]
        refine pg_hb (by omega) (fun z2 => br_f (by decide) (nm_r (nI_1 i) (skip ?_ (fun c => ?_)))) (fun z2 => br_t rfl (pg_add hs z hI (pg_nf z2) (fun j hj => ?_) (fun c7 c8 c9 c10 g => nm_r (nI_1 _) (nm_r (nI_1 i) ?_))))
        · rcases (h1 i).mp z2 with y | y
          · unfold pg_new
            rw [y]; simp
          · exact absurd y.1 (by omega)
        · rw [h1 c]
          constructor
          · intro y
            exact y.elim Or.inl (fun y => Or.inr ⟨by omega, y.2⟩)
          · intro y
            rcases y with y | y
            · exact Or.inl y
            · by_cases e : c = i
              · subst e
                exact (h1 c).mp z2
              · exact Or.inr ⟨by omega, y.2⟩
        · have ji := (hT i z).2.2.2.1 j hj
          exact (h1 j).mpr (Or.inr ⟨ji, hw.2 i j z1 hj⟩)
        · have nf : pg_new w (a6 s) i = true := by
            unfold pg_new
            rw [z1, pg_nt (fun y => pg_nf z2 ((h1 i).mpr (Or.inl y)))]
            rfl
          have t := ih (i + 1) _ c7 c8 c9 c10 g (fun c => ?_) (fun x hx => ?_) (by omega) (by omega)
          · rw [pg_cn_s, if_pos nf] at t
            exact t
          · rw [pk_uLs, pg_P1 (by omega), h1 c]
            constructor
            · intro y
              rcases y with (y | y) | y
              · exact Or.inl y
              · exact Or.inr ⟨by omega, y.2⟩
              · subst y
                exact Or.inr ⟨by omega, z1⟩
            · intro y
              rcases y with y | y
              · exact Or.inl (Or.inl y)
              · by_cases e : c = i
                · exact Or.inr e
                · exact Or.inl (Or.inr ⟨by omega, y.2⟩)
          · rw [pk_uLn hx]
            exact h2 x hx
      · unfold pg_new
        rw [z1]; rfl
      · rw [h1 c]
        constructor
        · intro y
          exact y.elim Or.inl (fun y => Or.inr ⟨by omega, y.2⟩)
        · intro y
          rcases y with y | y
          · exact Or.inl y
          · have : c ≠ i := fun e => by subst e; exact pg_nf z1 y.2
            exact Or.inr ⟨by omega, y.2⟩
theorem pg_aal {post : Int32 → St1 → Prop} {s : Nat} {w : Int64} (hs : s < 3) (hw : pg_P N a5 w) (hI : pg_I N a1 a2 a3 a5 a6 a7 a8 a9 a10 a11 a12)
    (H : ∀ b7 b8 b9 b10, pg_I N a1 a2 a3 a5 (vp_updL a6 s (a6 s ||| w)) b7 b8 b9 b10 a11 a12 → post (nI (pg_cn (pg_new w (a6 s)) N)) (nI N, a1, a2, a3, a4, a5, vp_updL a6 s (a6 s ||| w), b7, b8, b9, b10, a11, a12)) :
    wpX_addAll post (nI N, a1, a2, a3, a4, a5, a6, a7, a8, a9, a10, a11, a12) (nI s) w :=
  ⟨N + 1, pg_aa6 hs hw H (N + 1) 0 a6 a7 a8 a9 a10 hI (fun c => ⟨Or.inl, fun y => y.elim id (fun y => absurd y.1 (by omega))⟩) (fun _ _ => rfl) (by omega) (by omega)⟩
theorem pg_P0 : pg_P N a5 0 := ⟨fun i h => absurd h (pg_nf (pg_z i)), fun i j h _ => absurd h (pg_nf (pg_z i))⟩
theorem pg_clr {s : Nat} (hI : pg_I N a1 a2 a3 a5 a6 a7 a8 a9 a10 a11 a12) : pg_I N a1 a2 a3 a5 (vp_updL a6 s 0) (vp_updL a7 s 0) a8 a9 (upd a10 s 0) a11 a12 := by
  refine ⟨hI.1, hI.2.1, fun x hx => ?_⟩
  by_cases ex : x = s
  · subst ex
    rw [pk_uLs, pk_uLs, pk_us]
    refine ⟨pg_P0, fun j => ⟨fun h => absurd h (pg_nf (pg_z j)), fun h => ?_⟩, fun a h => absurd h (pg_nf (pg_z a)), fun z => absurd rfl z⟩
    obtain ⟨p, p1, _⟩ := h
    exact absurd p1 (pg_nf (pg_z p))
  · exact pg_oth hI hx ex (pk_uLn ex) (pk_uLn ex) (pk_un ex) rfl (fun _ _ => ⟨rfl, rfl⟩) (fun _ _ => rfl)
theorem pg_reb {post : St1 → Prop} {s : Nat} {w : Int64} (hs : s < 3) (hw : pg_P N a5 w) (hI : pg_I N a1 a2 a3 a5 a6 a7 a8 a9 a10 a11 a12)
    (hp : ∀ b7 b8 b9 b10, pg_I N a1 a2 a3 a5 (vp_updL a6 s w) b7 b8 b9 b10 a11 a12 → post (nI N, a1, a2, a3, a4, a5, vp_updL a6 s w, b7, b8, b9, b10, a11, a12)) :
    wpX_rebuild post (nI N, a1, a2, a3, a4, a5, a6, a7, a8, a9, a10, a11, a12) (nI s) w := by
  have e : vp_updL (vp_updL a6 s 0) s ((vp_updL a6 s 0) s ||| w) = vp_updL a6 s w := by
    rw [pg_uu, pk_uLs]
    have e0 : (0 : Int64) ||| w = w := pg_ext (fun i _ => by rw [pg_or, pg_z]; rfl)
    rw [e0]
  unfold wpX_rebuild
  dsimp only
  rw [nI_clamp (show s < 2 ^ 31 by omega)]
  refine ⟨pk_in s 3 hs, nm_e ⟨pk_in s 3 hs, nm_e ⟨pk_in s 3 hs, nm_e (pg_aal hs hw (pg_clr hI) (fun b7 b8 b9 b10 g => ?_))⟩⟩⟩
  rw [e] at g ⊢
  exact hp b7 b8 b9 b10 g
theorem pg_drp {post : Int32 → St1 → Prop} {s p : Nat} (hs : s < 3) (hp : p < 2 ^ 31) (hI : pg_I N a1 a2 a3 a5 a6 a7 a8 a9 a10 a11 a12)
    (h0 : pg_b (a6 s) p = false → post (-1000000003) (nI N, a1, a2, a3, a4, a5, a6, a7, a8, a9, a10, a11, a12))
    (h1 : pg_b (a6 s) p = true → (∃ q, pg_b (a6 s) q = true ∧ pg_b (a5 q) p = true) → post (-1000000004) (nI N, a1, a2, a3, a4, a5, a6, a7, a8, a9, a10, a11, a12))
    (h2 : pg_b (a6 s) p = true → (¬ ∃ q, pg_b (a6 s) q = true ∧ pg_b (a5 q) p = true) → ∀ b7 b8 b9 b10, pg_I N a1 a2 a3 a5 (vp_updL a6 s (a6 s &&& (pg_one p ^^^ (-1)))) b7 b8 b9 b10 a11 a12 → post (nI (pg_pc (a6 s &&& (pg_one p ^^^ (-1))))) (nI N, a1, a2, a3, a4, a5, vp_updL a6 s (a6 s &&& (pg_one p ^^^ (-1))), b7, b8, b9, b10, a11, a12)) :
    wpX_drop post (nI N, a1, a2, a3, a4, a5, a6, a7, a8, a9, a10, a11, a12) (nI s) (nI p) := by
  have hN := hI.1
  have hP := (hI.2.2 s hs).1
  unfold wpX_drop
  dsimp only
  rw [nI_clamp (show s < 2 ^ 31 by omega)]
  refine pg_bad hs (br_t rfl (pg_np hp hN (fun z => br_t rfl ⟨pk_in s 3 hs, pg_hb (by omega) (fun b => br_f (by decide) (pg_ned hs hI (fun w hw => pg_hb (by omega) (fun y => br_f (by decide) (h1 b ((hw p).mp y))) (fun y => br_t rfl ⟨pk_in s 3 hs, pg_wb (pg_reb hs ?_ hI (fun b7 b8 b9 b10 g => ⟨pk_in s 3 hs, pg_bo ?_⟩))⟩)))) (fun b => br_t rfl (h0 b))⟩) (fun z => br_f (by decide) (h0 (pg_nt (fun b => ?_))))))
  · constructor
    · intro i hi
      rw [pg_and, Bool.and_eq_true] at hi
      exact hP.1 i hi.1
    · intro i j hi hj
      rw [pg_and, Bool.and_eq_true] at hi
      have pj := hP.2 i j hi.1 hj
      rw [pg_and, pg_not _ (pg_lt pj), pg_bit (by omega), pj]
      have ne : ¬ j = p := fun e => by
        subst e
        exact pg_nf y ((hw j).mpr ⟨i, hi.1, hj⟩)
      simp [ne]
  · dsimp only
    rw [pk_uLs]
    exact h2 b (fun c => pg_nf y ((hw p).mpr c)) b7 b8 b9 b10 g
  · have := hP.1 p b
    omega
theorem pg_pul {post : Int32 → St1 → Prop} {s t : Nat} (hs : s < 3) (ht : t < 3) (ne : s ≠ t) (hI : pg_I N a1 a2 a3 a5 a6 a7 a8 a9 a10 a11 a12)
    (hp : ∀ b7 b8 b9 b10, pg_I N a1 a2 a3 a5 (vp_updL a6 t (a6 t ||| a6 s)) b7 b8 b9 b10 a11 a12 → post (nI (pg_cn (pg_new (a6 s) (a6 t)) N)) (nI N, a1, a2, a3, a4, a5, vp_updL a6 t (a6 t ||| a6 s), b7, b8, b9, b10, a11, a12)) :
    wpX_pull post (nI N, a1, a2, a3, a4, a5, a6, a7, a8, a9, a10, a11, a12) (nI s) (nI t) := by
  have hP := (hI.2.2 s hs).1
  unfold wpX_pull
  dsimp only
  rw [nI_clamp (show s < 2 ^ 31 by omega)]
  exact pg_bad hs (br_t rfl (pg_bad ht (br_t rfl (pk_eq s t (fun z => absurd z ne) (fun _ => ⟨pk_in s 3 hs, pg_aal ht hP hI (fun b7 b8 b9 b10 g => hp b7 b8 b9 b10 g)⟩)))))
theorem pg_Pn {p : Nat} (hN : N ≤ 60) (hT : pg_T N a1 a2 a3 a5) (hp : p < N) : pg_P N a5 (a5 p ||| pg_one p) := by
  obtain ⟨_, _, _, t4, t5⟩ := hT p hp
  constructor
  · intro i hi
    rcases (pg_P1 (by omega) i).mp hi with y | y
    · have := t4 i y
      omega
    · omega
  · intro i j hi hj
    refine (pg_P1 (by omega) j).mpr (Or.inl ?_)
    rcases (pg_P1 (by omega) i).mp hi with y | y
    · exact t5 i j y hj
    · subst y
      exact hj
theorem pg_pic {post : Int32 → St1 → Prop} {p t : Nat} (hp : p < N) (ht : t < 3) (hI : pg_I N a1 a2 a3 a5 a6 a7 a8 a9 a10 a11 a12)
    (H : ∀ b7 b8 b9 b10, pg_I N a1 a2 a3 a5 (vp_updL a6 t (a6 t ||| (a5 p ||| pg_one p))) b7 b8 b9 b10 a11 a12 → post (nI (pg_cn (pg_new (a5 p ||| pg_one p) (a6 t)) N)) (nI N, a1, a2, a3, a4, a5, vp_updL a6 t (a6 t ||| (a5 p ||| pg_one p)), b7, b8, b9, b10, a11, a12)) :
    wpX_pick post (nI N, a1, a2, a3, a4, a5, a6, a7, a8, a9, a10, a11, a12) (nI p) (nI t) := by
  have hN := hI.1
  unfold wpX_pick
  dsimp only
  exact pg_bad ht (br_t rfl (pg_np (by omega) hN (fun _ => br_t rfl (pg_wn (by omega) (pg_aal ht (pg_Pn hN hI.2.1 hp) hI (fun b7 b8 b9 b10 g => H b7 b8 b9 b10 g)))) (fun z => absurd z (by omega))))
theorem pg_picN {post : Int32 → St1 → Prop} {p t : Nat} (hp : N ≤ p) (h31 : p < 2 ^ 31) (ht : t < 3) (hN : N ≤ 60)
    (H : post (-1000000003) (nI N, a1, a2, a3, a4, a5, a6, a7, a8, a9, a10, a11, a12)) :
    wpX_pick post (nI N, a1, a2, a3, a4, a5, a6, a7, a8, a9, a10, a11, a12) (nI p) (nI t) := by
  unfold wpX_pick
  dsimp only
  exact pg_bad ht (br_t rfl (pg_np h31 hN (fun z => absurd z (by omega)) (fun _ => br_f (by decide) H)))
end
end
section
/-! ===== patches are made ===== -/
/-- what withNeeds answers -/
def pg_wv (a5 : Nat → Int64) (a : Int32) : Int64 := if a = -1 then 0 else a5 a.toNatClampNeg ||| pg_one a.toNatClampNeg
/-- a line of the store, or none -/
def pg_ln (a1 : Nat → Int32) (P : Int64) (a : Int32) : Prop := a = -1 ∨ ∃ j, a = nI j ∧ pg_b P j = true ∧ ¬ a1 j = 0
/-- a set of needs inside a store -/
def pg_Q (a5 : Nat → Int64) (P V : Int64) : Prop := (∀ j, pg_b V j = true → pg_b P j = true) ∧ (∀ j k, pg_b V j = true → pg_b (a5 j) k = true → pg_b V k = true)
section
variable {N : Nat} {a1 a2 a3 a4 : Nat → Int32} {a5 a6 a7 a8 a9 : Nat → Int64} {a10 a11 a12 : Nat → Int32}
theorem pg_wvN : pg_wv a5 (-1) = 0 := if_pos rfl
theorem pg_wvS {j : Nat} (h : j < 2 ^ 31) : pg_wv a5 (nI j) = a5 j ||| pg_one j := by
  unfold pg_wv
  rw [if_neg (pg_nm h), nI_clamp h]
theorem pg_wvQ {P : Int64} {a : Int32} (hN : N ≤ 60) (hT : pg_T N a1 a2 a3 a5) (hP : pg_P N a5 P) (ha : pg_ln a1 P a) : pg_Q a5 P (pg_wv a5 a) := by
  rcases ha with e | ⟨j, e, h1, _⟩
  · subst e
    rw [pg_wvN]
    exact ⟨fun j h => absurd h (pg_nf (pg_z j)), fun j k h _ => absurd h (pg_nf (pg_z j))⟩
  · have jN := hP.1 j h1
    subst e
    rw [pg_wvS (by omega)]
    refine ⟨fun i hi => ?_, (pg_Pn hN hT jN).2⟩
    rcases (pg_P1 (by omega) i).mp hi with y | y
    · exact hP.2 j i h1 y
    · subst y
      exact h1
theorem pg_Qor {P V W : Int64} (h : pg_Q a5 P V) (g : pg_Q a5 P W) : pg_Q a5 P (V ||| W) := by
  constructor
  · intro j hj
    rw [pg_or, Bool.or_eq_true] at hj
    exact hj.elim (h.1 j) (g.1 j)
  · intro j k hj hk
    rw [pg_or, Bool.or_eq_true] at hj ⊢
    exact hj.elim (fun y => Or.inl (h.2 j k y hk)) (fun y => Or.inr (g.2 j k y hk))
theorem pg_wnv {post : Int64 → Prop} {f0 a : Int32} {P : Int64} (hN : N ≤ 60) (hP : pg_P N a5 P) (ha : pg_ln a1 P a) {b1 : Nat → Int32} (h : post (pg_wv a5 a)) : wpX_withNeeds post (f0, b1, a2, a3, a4, a5, a6, a7, a8, a9, a10, a11, a12) a := by
  rcases ha with e | ⟨j, e, h1, _⟩
  · subst e
    rw [pg_wvN] at h
    exact pg_wnN h
  · have jN := hP.1 j h1
    subst e
    rw [pg_wvS (by omega)] at h
    exact pg_wn (by omega) h
/-- the table gets one more row -/
theorem pg_row {s : Nat} {b up dn : Int32} {V : Int64} (hs : s < 3) (hN : N < 60) (hI : pg_I N a1 a2 a3 a5 a6 a7 a8 a9 a10 a11 a12) (hu : pg_ln a1 (a6 s) up) (hd : pg_ln a1 (a6 s) dn) (hb : b = 0 → ¬ up = -1) (hV : V = pg_wv a5 up ||| pg_wv a5 dn) :
    pg_I (N + 1) (upd a1 N b) (upd a2 N up) (upd a3 N dn) (vp_updL a5 N V) a6 a7 a8 a9 a10 a11 a12 ∧ ∀ j, pg_b V j = true → pg_b (a6 s) j = true := by
  have hT := hI.2.1
  have hP := (hI.2.2 s hs).1
  have hQ : pg_Q a5 (a6 s) V := by
    rw [hV]
    exact pg_Qor (pg_wvQ (by omega) hT hP hu) (pg_wvQ (by omega) hT hP hd)
  have VN : ∀ j, pg_b V j = true → j < N := fun j hj => hP.1 j (hQ.1 j hj)
  refine ⟨⟨by omega, fun p hp => ?_, fun x hx => ?_⟩, hQ.1⟩
  · by_cases e : p = N
    · subst e
      rw [pk_us, pk_us, pk_us, pk_uLs]
      refine ⟨?_, ?_, hb, VN, fun j k hj hk => ?_⟩
      · rcases hu with z | ⟨j, z, z1, z2⟩
        · exact Or.inl z
        · have jN := hP.1 j z1
          refine Or.inr ⟨j, jN, z, by rw [pk_un (by omega)]; exact z2, ?_⟩
          rw [hV, z, pg_wvS (by omega), pg_or, pg_or, pg_bitT (by omega)]
          simp
      · rcases hd with z | ⟨j, z, z1, z2⟩
        · exact Or.inl z
        · have jN := hP.1 j z1
          refine Or.inr ⟨j, jN, z, by rw [pk_un (by omega)]; exact z2, ?_⟩
          rw [hV, z, pg_wvS (by omega), pg_or, pg_or, pg_bitT (by omega)]
          simp
      · have jN := VN j hj
        rw [pk_uLn (by omega)] at hk
        exact hQ.2 j k hj hk
    · obtain ⟨t1, t2, t3, t4, t5⟩ := hT p (by omega)
      rw [pk_un e, pk_un e, pk_un e, pk_uLn e]
      refine ⟨?_, ?_, t3, t4, fun j k hj hk => ?_⟩
      · rcases t1 with z | ⟨j, j1, j2, j3, j4⟩
        · exact Or.inl z
        · exact Or.inr ⟨j, j1, j2, by rw [pk_un (by omega)]; exact j3, j4⟩
      · rcases t2 with z | ⟨j, j1, j2, j3, j4⟩
        · exact Or.inl z
        · exact Or.inr ⟨j, j1, j2, by rw [pk_un (by omega)]; exact j3, j4⟩
      · have jp := t4 j hj
        rw [pk_uLn (by omega)] at hk
        exact t5 j k hj hk
  · obtain ⟨hPx, hSx⟩ := hI.2.2 x hx
    refine ⟨⟨fun i hi => by have := hPx.1 i hi; omega, fun i j hi hj => ?_⟩, pg_S_c (fun i hi => by have := hPx.1 i hi; omega) hSx (fun p hp => ?_) (fun _ _ => ⟨rfl, rfl⟩) (fun _ _ => rfl)⟩
    · have iN := hPx.1 i hi
      rw [pk_uLn (by omega)] at hj
      exact hPx.2 i j hi hj
    · have pN := hPx.1 p hp
      exact ⟨pk_un (by omega), pk_un (by omega), pk_un (by omega)⟩
theorem pg_nar {b : Int32} (hb : b = 0 ∨ b = 1) : vp_nar .boolean b = b := by
  rcases hb with e | e
  · subst e
    rfl
  · subst e
    rfl
theorem pg_mak {post : Int32 → St1 → Prop} {s : Nat} {b up dn x : Int32} (hs : s < 3) (hN : N < 60) (hI : pg_I N a1 a2 a3 a5 a6 a7 a8 a9 a10 a11 a12) (hb : b = 0 ∨ b = 1) (hu : pg_ln a1 (a6 s) up) (hd : pg_ln a1 (a6 s) dn) (hbu : b = 0 → ¬ up = -1)
    (hp : ∀ b7 b8 b9 b10, pg_I (N + 1) (upd a1 N b) (upd a2 N up) (upd a3 N dn) (vp_updL a5 N (pg_wv a5 up ||| pg_wv a5 dn)) (vp_updL a6 s (a6 s ||| pg_one N)) b7 b8 b9 b10 a11 a12 →
      post (nI N) (nI (N + 1), upd a1 N b, upd a2 N up, upd a3 N dn, upd a4 N x, vp_updL a5 N (pg_wv a5 up ||| pg_wv a5 dn), vp_updL a6 s (a6 s ||| pg_one N), b7, b8, b9, b10, a11, a12)) :
    wpX_make post (nI N, a1, a2, a3, a4, a5, a6, a7, a8, a9, a10, a11, a12) (nI s) b up dn x := by
  have hP := (hI.2.2 s hs).1
  obtain ⟨hI', hn⟩ := pg_row hs hN hI hu hd hbu rfl
  unfold wpX_make
  dsimp only
  rw [nI_clamp (show N < 2 ^ 31 by omega), pg_nar hb]
  refine ⟨pk_in N 60 hN, nm_e ⟨pk_in N 60 hN, nm_e ⟨pk_in N 60 hN, nm_e ⟨pk_in N 60 hN, nm_e (pg_wnv (N := N) (by omega) hP hu (pg_wnv (N := N) (by omega) hP hd ⟨pk_in N 60 hN, nm_e (nm_r (nI_1 N) ?_)⟩))⟩⟩⟩⟩
  refine pg_add hs (by omega) hI' (fun z => ?_) (fun j hj => hn j ?_) (fun b7 b8 b9 b10 g => hp b7 b8 b9 b10 g)
  · have := hP.1 N z
    omega
  · rw [pk_uLs] at hj
    exact hj
/-- the line above place k -/
noncomputable def pg_lu (t : Nat × (Nat → Nat)) (k : Nat) : Int32 := if k = 0 then -1 else pg_lv t (k - 1)
theorem pg_lnv {P : Int64} {l : Int32} {X : Nat → Int32} (hN : N ≤ 60) (hP : pg_P N a5 P) (hW : pg_W a1 a2 a3 P l X) (k : Nat) : pg_ln a1 P (pg_lv (pg_txt a1 a2 a3 P) k) := by
  rcases pg_lvN hN hP hW k with z | ⟨a, z1, z2, z3, z4, z5, z6⟩
  · exact Or.inl z
  · exact Or.inr ⟨a, z3, z4, z5⟩
theorem pg_lnu {P : Int64} {l : Int32} {X : Nat → Int32} (hN : N ≤ 60) (hP : pg_P N a5 P) (hW : pg_W a1 a2 a3 P l X) (k : Nat) : pg_ln a1 P (pg_lu (pg_txt a1 a2 a3 P) k) := by
  unfold pg_lu
  by_cases e : k = 0
  · rw [if_pos e]
    exact Or.inl rfl
  · rw [if_neg e]
    exact pg_lnv hN hP hW (k - 1)
theorem pg_latu {post : Int32 → Prop} {f0 : Int32} {s k : Nat} (hs : s < 3) (hk : k < 2 ^ 31) (hW : pg_W a1 a2 a3 (a6 s) (a11 s) (fun k => a12 (60 * s + k))) (hp : post (pg_lu (pg_txt a1 a2 a3 (a6 s)) k)) :
    wpX_lineAt post (f0, a1, a2, a3, a4, a5, a6, a7, a8, a9, a10, a11, a12) (nI s) (nI k - 1) := by
  unfold pg_lu at hp
  cases k with
  | zero =>
    rw [if_pos rfl] at hp
    exact br_t (by decide) hp
  | succ k =>
    rw [if_neg (by omega), Nat.add_sub_cancel] at hp
    rw [nI_pred]
    exact pg_lat hs (by omega) hW hp
theorem pg_put {post : Int32 → St1 → Prop} {s k : Nat} {x : Int32} (hs : s < 3) (hk : k ≤ (pg_txt a1 a2 a3 (a6 s)).1) (hI : pg_I N a1 a2 a3 a5 a6 a7 a8 a9 a10 a11 a12)
    (hF : N = 60 → ∀ b10 b11 b12, pg_I N a1 a2 a3 a5 a6 a7 a8 a9 b10 b11 b12 → post (-1000000002) (nI N, a1, a2, a3, a4, a5, a6, a7, a8, a9, b10, b11, b12))
    (hp : N ≠ 60 → ∀ b7 b8 b9 b10 b11 b12, pg_I (N + 1) (upd a1 N 1) (upd a2 N (pg_lu (pg_txt a1 a2 a3 (a6 s)) k)) (upd a3 N (pg_lv (pg_txt a1 a2 a3 (a6 s)) k)) (vp_updL a5 N (pg_wv a5 (pg_lu (pg_txt a1 a2 a3 (a6 s)) k) ||| pg_wv a5 (pg_lv (pg_txt a1 a2 a3 (a6 s)) k))) (vp_updL a6 s (a6 s ||| pg_one N)) b7 b8 b9 b10 b11 b12 →
      post (nI N) (nI (N + 1), upd a1 N 1, upd a2 N (pg_lu (pg_txt a1 a2 a3 (a6 s)) k), upd a3 N (pg_lv (pg_txt a1 a2 a3 (a6 s)) k), upd a4 N x, vp_updL a5 N (pg_wv a5 (pg_lu (pg_txt a1 a2 a3 (a6 s)) k) ||| pg_wv a5 (pg_lv (pg_txt a1 a2 a3 (a6 s)) k)), vp_updL a6 s (a6 s ||| pg_one N), b7, b8, b9, b10, b11, b12)) :
    wpX_put post (nI N, a1, a2, a3, a4, a5, a6, a7, a8, a9, a10, a11, a12) (nI s) (nI k) x := by
  unfold wpX_put
  dsimp only
  rw [nI_clamp (show s < 2 ^ 31 by omega)]
  refine pg_bad hs (br_t rfl (pg_wri hs hI (fun b10 b11 b12 h1 h2 _ => ?_)))
  have hN := h1.1
  have hP := (h1.2.2 s hs).1
  have hW := (h1.2.2 s hs).2.2.2 h2
  have l60 := hW.2.1
  have hl := hW.2.2.1
  dsimp only
  refine br_f (nI_pos (by omega)) ⟨pk_in s 3 hs, br_t ?_ (pk_eq N 60 (fun z => hF z b10 b11 b12 h1) (fun z => pg_latu hs (by omega) hW (pg_lat hs (by omega) hW ?_)))⟩
  · rw [hl]
    exact nI_le hk (by omega)
  · exact pg_mak hs (by omega) h1 (Or.inr rfl) (pg_lnu hN hP hW k) (pg_lnv hN hP hW k) (fun z => absurd z (by decide)) (fun c7 c8 c9 c10 g => hp z c7 c8 c9 c10 b11 b12 g)
theorem pg_stk {post : Int32 → St1 → Prop} {s k : Nat} (hs : s < 3) (hk : k < 2 ^ 31) (hI : pg_I N a1 a2 a3 a5 a6 a7 a8 a9 a10 a11 a12)
    (h0 : pg_lv (pg_txt a1 a2 a3 (a6 s)) k = -1 → ∀ b10 b11 b12, pg_I N a1 a2 a3 a5 a6 a7 a8 a9 b10 b11 b12 → post (-1000000003) (nI N, a1, a2, a3, a4, a5, a6, a7, a8, a9, b10, b11, b12))
    (hF : ¬ pg_lv (pg_txt a1 a2 a3 (a6 s)) k = -1 → N = 60 → ∀ b10 b11 b12, pg_I N a1 a2 a3 a5 a6 a7 a8 a9 b10 b11 b12 → post (-1000000002) (nI N, a1, a2, a3, a4, a5, a6, a7, a8, a9, b10, b11, b12))
    (hp : ¬ pg_lv (pg_txt a1 a2 a3 (a6 s)) k = -1 → N ≠ 60 → ∀ b7 b8 b9 b10 b11 b12, pg_I (N + 1) (upd a1 N 0) (upd a2 N (pg_lv (pg_txt a1 a2 a3 (a6 s)) k)) (upd a3 N (-1)) (vp_updL a5 N (pg_wv a5 (pg_lv (pg_txt a1 a2 a3 (a6 s)) k) ||| pg_wv a5 (-1))) (vp_updL a6 s (a6 s ||| pg_one N)) b7 b8 b9 b10 b11 b12 →
      post (nI N) (nI (N + 1), upd a1 N 0, upd a2 N (pg_lv (pg_txt a1 a2 a3 (a6 s)) k), upd a3 N (-1), upd a4 N 0, vp_updL a5 N (pg_wv a5 (pg_lv (pg_txt a1 a2 a3 (a6 s)) k) ||| pg_wv a5 (-1)), vp_updL a6 s (a6 s ||| pg_one N), b7, b8, b9, b10, b11, b12)) :
    wpX_strike post (nI N, a1, a2, a3, a4, a5, a6, a7, a8, a9, a10, a11, a12) (nI s) (nI k) := by
  unfold wpX_strike
  dsimp only
  refine pg_bad hs (br_t rfl (pg_wri hs hI (fun b10 b11 b12 h1 h2 _ => ?_)))
  have hN := h1.1
  have hP := (h1.2.2 s hs).1
  have hW := (h1.2.2 s hs).2.2.2 h2
  dsimp only
  refine pg_lat hs hk hW (br_c (fun e => h0 e b10 b11 b12 h1) (fun e => pk_eq N 60 (fun z => hF e z b10 b11 b12 h1) (fun z => ?_)))
  exact pg_mak hs (by omega) h1 (Or.inl rfl) (pg_lnv hN hP hW k) (Or.inl rfl) (fun _ => e) (fun c7 c8 c9 c10 g => hp e z c7 c8 c9 c10 b11 b12 g)
/-! ===== one turn ===== -/
theorem pg_tr0 {post : Int32 → St1 → Prop} {op x : Int32} {o s y : Nat} (hs : s < 3) (ho : op &&& 15 = nI o) (hx : (x &&& 3) - (x &&& 3) / 3 * 3 = nI s) (hy : (x >>> ((2 : Int32) &&& 31)) &&& 63 = nI y) (y64 : y < 64) (hI : pg_I N a1 a2 a3 a5 a6 a7 a8 a9 a10 a11 a12)
    (hp : ∀ b10 b11 b12, pg_I N a1 a2 a3 a5 a6 a7 a8 a9 b10 b11 b12 → (pg_txt a1 a2 a3 (a6 s)).1 ≤ 60 → wL_turn_57 post x (nI o) (nI s) (nI (y % ((pg_txt a1 a2 a3 (a6 s)).1 + 1))) (nI (if N = 0 then 0 else y % N)) (nI N) a1 a2 a3 a4 a5 a6 a7 a8 a9 b10 b11 b12) :
    wpL_turn post (nI N, a1, a2, a3, a4, a5, a6, a7, a8, a9, a10, a11, a12) op x := by
  have hN := hI.1
  unfold wpL_turn
  dsimp only
  refine nm_r ho ⟨by decide, nm_r hx (pg_len hs hI (fun b10 b11 b12 h1 h2 => ?_))⟩
  have l60 := ((h1.2.2 s hs).2.2.2 h2).2.1
  have t := hp b10 b11 b12 h1 l60
  generalize (pg_txt a1 a2 a3 (a6 s)).1 = l at l60 t
  refine ⟨?_, nm_r (e' := nI (y % (l + 1))) ?_ (pk_eq N 0 (fun z => ?_) (fun z => ⟨?_, ?_⟩))⟩
  · rw [nI_1]
    exact nI_ne0 (by omega) (by omega)
  · rw [nI_1, hy]
    exact pk_rem (by omega) (by omega) (by omega)
  · rw [if_pos z] at t
    exact t
  · exact nI_ne0 (by omega) (by omega)
  · rw [if_neg z] at t
    rw [hy, pk_rem (by omega) (by omega) (by omega)]
    exact t
end
theorem pg_trn (N : Nat) (a1 a2 a3 a4 : Nat → Int32) (a5 a6 : Nat → Int64) (op x : Int32) : ∃ (r : Int32) (M : Nat) (b1 b2 b3 b4 : Nat → Int32) (b5 b6 : Nat → Int64),
    ∀ (a7 a8 a9 : Nat → Int64) (a10 a11 a12 : Nat → Int32), pg_I N a1 a2 a3 a5 a6 a7 a8 a9 a10 a11 a12 → ∀ post : Int32 → St1 → Prop, (∀ b7 b8 b9 b10 b11 b12, pg_I M b1 b2 b3 b5 b6 b7 b8 b9 b10 b11 b12 → post r (nI M, b1, b2, b3, b4, b5, b6, b7, b8, b9, b10, b11, b12)) →
      wpL_turn post (nI N, a1, a2, a3, a4, a5, a6, a7, a8, a9, a10, a11, a12) op x := by
  obtain ⟨o, o16, ho⟩ := pk_andE op (m := 15) 4 (by decide)
  obtain ⟨j, j4, hj⟩ := pk_andE x (m := 3) 2 (by decide)
  obtain ⟨y, y64, hy⟩ := pk_andE (x >>> ((2 : Int32) &&& 31)) (m := 63) 6 (by decide)
  obtain ⟨v, v2, hv⟩ := pk_andE (x >>> ((8 : Int32) &&& 31)) (m := 1) 1 (by decide)
  have hx : (x &&& 3) - (x &&& 3) / 3 * 3 = nI (j % 3) := by
    rw [hj]
    exact pk_rem (a := j) (d := 3) (by omega) (by omega) (by omega)
  have hs : j % 3 < 3 := Nat.mod_lt _ (by omega)
  generalize j % 3 = s at hx hs
  have ht : ((nI s + 1) + ((x >>> ((8 : Int32) &&& 31)) &&& 1)) - ((nI s + 1) + ((x >>> ((8 : Int32) &&& 31)) &&& 1)) / 3 * 3 = nI ((s + 1 + v) % 3) := by
    rw [hv, nI_1, nI_add]
    exact pk_rem (a := s + 1 + v) (d := 3) (by omega) (by omega) (by omega)
  have t3 : (s + 1 + v) % 3 < 3 := Nat.mod_lt _ (by omega)
  have ts : s ≠ (s + 1 + v) % 3 := by omega
  have km : y % ((pg_txt a1 a2 a3 (a6 s)).1 + 1) ≤ (pg_txt a1 a2 a3 (a6 s)).1 := by
    have := Nat.mod_lt y (show 0 < (pg_txt a1 a2 a3 (a6 s)).1 + 1 by omega)
    omega
  have ky : y % ((pg_txt a1 a2 a3 (a6 s)).1 + 1) ≤ y := Nat.mod_le _ _
  generalize ek : y % ((pg_txt a1 a2 a3 (a6 s)).1 + 1) = k at km ky
  generalize et : (s + 1 + v) % 3 = t at ht t3 ts
  generalize ep : (if N = 0 then 0 else y % N) = p
  have pN : N = 0 ∧ p = 0 ∨ p < N := by
    rw [← ep]
    by_cases z : N = 0
    · exact Or.inl ⟨z, if_pos z⟩
    · rw [if_neg z]
      exact Or.inr (Nat.mod_lt _ (by omega))
  by_cases c8 : 8 ≤ o
  · by_cases c10 : 10 ≤ o
    · by_cases c12 : 12 ≤ o
      · by_cases c14 : 14 ≤ o
        · by_cases d1 : pg_b (a6 s) p = true
          · by_cases d2 : ∃ q, pg_b (a6 s) q = true ∧ pg_b (a5 q) p = true
            · refine ⟨-1000000004, N, a1, a2, a3, a4, a5, a6, fun a7 a8 a9 a10 a11 a12 hI post hp => pg_tr0 hs ho hx hy y64 hI (fun b10 b11 b12 h1 l60 => ?_)⟩
              have hN := hI.1
              rw [ek, ep]
              exact pk_le 8 o (fun _ => pk_le 10 o (fun _ => pk_le 12 o (fun _ => pk_le 14 o (fun _ => pg_drp hs (by omega) h1 (fun z => absurd d1 (pg_nf z)) (fun _ _ => hp _ _ _ _ _ _ h1) (fun _ z => absurd d2 z)) (fun z => absurd z (by omega))) (fun z => absurd z (by omega))) (fun z => absurd z (by omega))) (fun z => absurd z (by omega))
            · refine ⟨nI (pg_pc (a6 s &&& (pg_one p ^^^ (-1)))), N, a1, a2, a3, a4, a5, vp_updL a6 s (a6 s &&& (pg_one p ^^^ (-1))), fun a7 a8 a9 a10 a11 a12 hI post hp => pg_tr0 hs ho hx hy y64 hI (fun b10 b11 b12 h1 l60 => ?_)⟩
              have hN := hI.1
              rw [ek, ep]
              exact pk_le 8 o (fun _ => pk_le 10 o (fun _ => pk_le 12 o (fun _ => pk_le 14 o (fun _ => pg_drp hs (by omega) h1 (fun z => absurd d1 (pg_nf z)) (fun _ z => absurd z d2) (fun _ _ c7 c8 c9 c10 g => hp c7 c8 c9 c10 b11 b12 g)) (fun z => absurd z (by omega))) (fun z => absurd z (by omega))) (fun z => absurd z (by omega))) (fun z => absurd z (by omega))
          · refine ⟨-1000000003, N, a1, a2, a3, a4, a5, a6, fun a7 a8 a9 a10 a11 a12 hI post hp => pg_tr0 hs ho hx hy y64 hI (fun b10 b11 b12 h1 l60 => ?_)⟩
            have hN := hI.1
            rw [ek, ep]
            exact pk_le 8 o (fun _ => pk_le 10 o (fun _ => pk_le 12 o (fun _ => pk_le 14 o (fun _ => pg_drp hs (by omega) h1 (fun _ => hp _ _ _ _ _ _ h1) (fun z _ => absurd z d1) (fun z _ => absurd z d1)) (fun z => absurd z (by omega))) (fun z => absurd z (by omega))) (fun z => absurd z (by omega))) (fun z => absurd z (by omega))
        · rcases pN with ⟨n0, p0⟩ | pN
          · refine ⟨-1000000003, N, a1, a2, a3, a4, a5, a6, fun a7 a8 a9 a10 a11 a12 hI post hp => pg_tr0 hs ho hx hy y64 hI (fun b10 b11 b12 h1 l60 => ?_)⟩
            have hN := hI.1
            rw [ek, ep]
            exact pk_le 8 o (fun _ => pk_le 10 o (fun _ => pk_le 12 o (fun _ => pk_le 14 o (fun z => absurd z c14) (fun _ => pg_picN (by omega) (by omega) hs hN (hp _ _ _ _ _ _ h1))) (fun z => absurd z (by omega))) (fun z => absurd z (by omega))) (fun z => absurd z (by omega))
          · refine ⟨nI (pg_cn (pg_new (a5 p ||| pg_one p) (a6 s)) N), N, a1, a2, a3, a4, a5, vp_updL a6 s (a6 s ||| (a5 p ||| pg_one p)), fun a7 a8 a9 a10 a11 a12 hI post hp => pg_tr0 hs ho hx hy y64 hI (fun b10 b11 b12 h1 l60 => ?_)⟩
            have hN := hI.1
            rw [ek, ep]
            exact pk_le 8 o (fun _ => pk_le 10 o (fun _ => pk_le 12 o (fun _ => pk_le 14 o (fun z => absurd z c14) (fun _ => pg_pic pN hs h1 (fun c7 c8 c9 c10 g => hp c7 c8 c9 c10 b11 b12 g))) (fun z => absurd z (by omega))) (fun z => absurd z (by omega))) (fun z => absurd z (by omega))
      · refine ⟨nI (pg_cn (pg_new (a6 s) (a6 t)) N), N, a1, a2, a3, a4, a5, vp_updL a6 t (a6 t ||| a6 s), fun a7 a8 a9 a10 a11 a12 hI post hp => pg_tr0 hs ho hx hy y64 hI (fun b10 b11 b12 h1 l60 => ?_)⟩
        have hN := hI.1
        rw [ek, ep]
        refine pk_le 8 o (fun _ => pk_le 10 o (fun _ => pk_le 12 o (fun z => absurd z c12) (fun _ => ⟨by decide, ?_⟩)) (fun z => absurd z (by omega))) (fun z => absurd z (by omega))
        rw [ht]
        exact pg_pul hs t3 ts h1 (fun c7 c8 c9 c10 g => hp c7 c8 c9 c10 b11 b12 g)
    · by_cases d0 : pg_lv (pg_txt a1 a2 a3 (a6 s)) k = -1
      · refine ⟨-1000000003, N, a1, a2, a3, a4, a5, a6, fun a7 a8 a9 a10 a11 a12 hI post hp => pg_tr0 hs ho hx hy y64 hI (fun b10 b11 b12 h1 l60 => ?_)⟩
        have hN := hI.1
        rw [ek, ep]
        exact pk_le 8 o (fun _ => pk_le 10 o (fun z => absurd z c10) (fun _ => pg_stk hs (by omega) h1 (fun _ e10 e11 e12 g => hp _ _ _ _ _ _ g) (fun z => absurd d0 z) (fun z => absurd d0 z))) (fun z => absurd z (by omega))
      · by_cases dN : N = 60
        · refine ⟨-1000000002, N, a1, a2, a3, a4, a5, a6, fun a7 a8 a9 a10 a11 a12 hI post hp => pg_tr0 hs ho hx hy y64 hI (fun b10 b11 b12 h1 l60 => ?_)⟩
          have hN := hI.1
          rw [ek, ep]
          exact pk_le 8 o (fun _ => pk_le 10 o (fun z => absurd z c10) (fun _ => pg_stk hs (by omega) h1 (fun z => absurd z d0) (fun _ _ e10 e11 e12 g => hp _ _ _ _ _ _ g) (fun _ z => absurd dN z))) (fun z => absurd z (by omega))
        · refine ⟨nI N, N + 1, upd a1 N 0, upd a2 N (pg_lv (pg_txt a1 a2 a3 (a6 s)) k), upd a3 N (-1), upd a4 N 0, vp_updL a5 N (pg_wv a5 (pg_lv (pg_txt a1 a2 a3 (a6 s)) k) ||| pg_wv a5 (-1)), vp_updL a6 s (a6 s ||| pg_one N), fun a7 a8 a9 a10 a11 a12 hI post hp => pg_tr0 hs ho hx hy y64 hI (fun b10 b11 b12 h1 l60 => ?_)⟩
          have hN := hI.1
          rw [ek, ep]
          exact pk_le 8 o (fun _ => pk_le 10 o (fun z => absurd z c10) (fun _ => pg_stk hs (by omega) h1 (fun z => absurd z d0) (fun _ z => absurd z dN) (fun _ _ e7 e8 e9 e10 e11 e12 g => hp _ _ _ _ _ _ g))) (fun z => absurd z (by omega))
  · by_cases dN : N = 60
    · refine ⟨-1000000002, N, a1, a2, a3, a4, a5, a6, fun a7 a8 a9 a10 a11 a12 hI post hp => pg_tr0 hs ho hx hy y64 hI (fun b10 b11 b12 h1 l60 => ?_)⟩
      have hN := hI.1
      rw [ek, ep]
      exact pk_le 8 o (fun z => absurd z c8) (fun _ => pg_put hs km h1 (fun _ e10 e11 e12 g => hp _ _ _ _ _ _ g) (fun z => absurd dN z))
    · refine ⟨nI N, N + 1, upd a1 N 1, upd a2 N (pg_lu (pg_txt a1 a2 a3 (a6 s)) k), upd a3 N (pg_lv (pg_txt a1 a2 a3 (a6 s)) k), upd a4 N ((x >>> ((8 : Int32) &&& 31)) &&& 3), vp_updL a5 N (pg_wv a5 (pg_lu (pg_txt a1 a2 a3 (a6 s)) k) ||| pg_wv a5 (pg_lv (pg_txt a1 a2 a3 (a6 s)) k)), vp_updL a6 s (a6 s ||| pg_one N), fun a7 a8 a9 a10 a11 a12 hI post hp => pg_tr0 hs ho hx hy y64 hI (fun b10 b11 b12 h1 l60 => ?_)⟩
      have hN := hI.1
      rw [ek, ep]
      exact pk_le 8 o (fun z => absurd z c8) (fun _ => pg_put hs km h1 (fun z => absurd z dN) (fun _ e7 e8 e9 e10 e11 e12 g => hp _ _ _ _ _ _ g))
end
section
/-! ===== conflicts and rings ===== -/
noncomputable def pg_sm (L : Nat → Prop) (X : Nat → Nat → Prop) : Nat → Nat
  | 0 => 0
  | n + 1 => pg_sm L X n + pg_cn (fun c => pg_d (L n ∧ L c ∧ X n c)) 64
theorem pg_sm_s (L : Nat → Prop) (X : Nat → Nat → Prop) (n : Nat) : pg_sm L X (n + 1) = pg_sm L X n + pg_cn (fun c => pg_d (L n ∧ L c ∧ X n c)) 64 := rfl
theorem pg_sm_b (L : Nat → Prop) (X : Nat → Nat → Prop) (n : Nat) : pg_sm L X n ≤ 64 * n := by
  induction n with
  | zero => exact Nat.le_refl 0
  | succ n ih =>
    rw [pg_sm_s]
    have := pg_cn_le (fun c => pg_d (L n ∧ L c ∧ X n c)) 64
    omega
theorem pg_sm_m {L : Nat → Prop} {X Y : Nat → Nat → Prop} (h : ∀ a c, X a c → Y a c) (n : Nat) : pg_sm L X n ≤ pg_sm L Y n := by
  induction n with
  | zero => exact Nat.le_refl 0
  | succ n ih =>
    rw [pg_sm_s, pg_sm_s]
    have : pg_cn (fun c => pg_d (L n ∧ L c ∧ X n c)) 64 ≤ pg_cn (fun c => pg_d (L n ∧ L c ∧ Y n c)) 64 := pg_cn_mono (fun i _ z => by
      have t := pg_dI.mp z
      exact pg_dI.mpr ⟨t.1, t.2.1, h _ _ t.2.2⟩)
    omega
theorem pg_sm_0 {L : Nat → Prop} {X : Nat → Nat → Prop} (h : ∀ a c, L a → L c → ¬ X a c) (n : Nat) : pg_sm L X n = 0 := by
  induction n with
  | zero => rfl
  | succ n ih =>
    rw [pg_sm_s, ih, pg_cn_0 (fun i _ => pg_nt (fun z => ?_))]
    have t := pg_dI.mp z
    exact h _ _ t.1 t.2.1 t.2.2
theorem pg_sm_1 {L : Nat → Prop} {X : Nat → Nat → Prop} {n a c : Nat} (ha : a < n) (hc : c < 64) (la : L a) (lc : L c) (x : X a c) : 1 ≤ pg_sm L X n := by
  induction n with
  | zero => omega
  | succ n ih =>
    rw [pg_sm_s]
    by_cases e : a = n
    · subst e
      have := pg_cn_pos (f := fun c => pg_d (L a ∧ L c ∧ X a c)) hc (pg_dI.mpr ⟨la, lc, x⟩)
      omega
    · have := ih (by omega)
      omega
theorem pg_sm_2 {L : Nat → Prop} {X : Nat → Nat → Prop} {n a c : Nat} (ha : a < n) (hc : c < n) (hn : n ≤ 64) (ne : a ≠ c) (la : L a) (lc : L c) (x : X a c) (y : X c a) : 2 ≤ pg_sm L X n := by
  induction n with
  | zero => omega
  | succ n ih =>
    rw [pg_sm_s]
    by_cases e : a = n
    · subst e
      have h1 := pg_cn_pos (f := fun c => pg_d (L a ∧ L c ∧ X a c)) (show c < 64 by omega) (pg_dI.mpr ⟨la, lc, x⟩)
      have h2 := pg_sm_1 (n := a) (show c < a by omega) (show a < 64 by omega) lc la y
      omega
    · by_cases e' : c = n
      · subst e'
        have h1 := pg_cn_pos (f := fun a => pg_d (L c ∧ L a ∧ X c a)) (show a < 64 by omega) (pg_dI.mpr ⟨lc, la, y⟩)
        have h2 := pg_sm_1 (n := c) (show a < c by omega) (show c < 64 by omega) la lc x
        omega
      · have := ih (by omega) (by omega) (by omega)
        omega
/-- a and c are in conflict; in a ring -/
def pg_cX (a1 a2 a3 : Nat → Int32) (P : Int64) (a c : Nat) : Prop := c ≠ a ∧ ¬ pg_bf a1 a2 a3 P a c ∧ ¬ pg_bf a1 a2 a3 P c a
def pg_rX (a1 a2 a3 : Nat → Int32) (P : Int64) (a c : Nat) : Prop := c ≠ a ∧ pg_R a1 a2 a3 P a c ∧ pg_R a1 a2 a3 P c a
noncomputable def pg_cf (N : Nat) (a1 a2 a3 : Nat → Int32) (P : Int64) : Nat := pg_sm (pg_L a1 a2 P) (pg_cX a1 a2 a3 P) N / 2
noncomputable def pg_rf (N : Nat) (a1 a2 a3 : Nat → Int32) (P : Int64) : Nat := pg_sm (pg_L a1 a2 P) (pg_rX a1 a2 a3 P) N / 2
theorem pg_rc (N : Nat) (a1 a2 a3 : Nat → Int32) (P : Int64) : pg_rf N a1 a2 a3 P ≤ pg_cf N a1 a2 a3 P := by
  have h := pg_sm_m (L := pg_L a1 a2 P) (X := pg_rX a1 a2 a3 P) (Y := pg_cX a1 a2 a3 P) (fun a c z => ⟨z.1, fun b => b.2 z.2.2, fun b => b.2 z.2.1⟩) N
  unfold pg_rf pg_cf
  omega
theorem pg_cfb (N : Nat) (a1 a2 a3 : Nat → Int32) (P : Int64) : pg_cf N a1 a2 a3 P ≤ 32 * N := by
  have h := pg_sm_b (pg_L a1 a2 P) (pg_cX a1 a2 a3 P) N
  unfold pg_cf
  omega
theorem pg_cf0 {N : Nat} {a1 a2 a3 : Nat → Int32} {P : Int64} (hN : N ≤ 60) (hP : ∀ i, pg_b P i = true → i < N) : pg_cf N a1 a2 a3 P = 0 ↔ ∀ a c, pg_L a1 a2 P a → pg_L a1 a2 P c → a ≠ c → pg_bf a1 a2 a3 P a c ∨ pg_bf a1 a2 a3 P c a := by
  constructor
  · intro h a c la lc ne
    by_cases x : pg_bf a1 a2 a3 P a c
    · exact Or.inl x
    · by_cases y : pg_bf a1 a2 a3 P c a
      · exact Or.inr y
      · have t := pg_sm_2 (X := pg_cX a1 a2 a3 P) (hP a la.1) (hP c lc.1) (by omega) ne la lc ⟨fun z => ne z.symm, x, y⟩ ⟨ne, y, x⟩
        unfold pg_cf at h
        omega
  · intro h
    have t := pg_sm_0 (L := pg_L a1 a2 P) (X := pg_cX a1 a2 a3 P) (fun a c la lc x => (h a c la lc (fun z => x.1 z.symm)).elim x.2.1 x.2.2) N
    unfold pg_cf
    omega
theorem pg_cbit {w A B : Int64} {i c : Nat} (hi : i < 64) (hc : c < 64) : pg_b (w &&& ((((A &&& (B ^^^ (-1))) ||| (B &&& (A ^^^ (-1)))) ||| pg_one i) ^^^ (-1))) c = true ↔ (pg_b w c = true ∧ ¬ (((pg_b A c = true ∧ ¬ pg_b B c = true) ∨ (pg_b B c = true ∧ ¬ pg_b A c = true)) ∨ c = i)) := by
  rw [pg_and, pg_not _ hc, pg_or, pg_or, pg_and, pg_and, pg_not _ hc, pg_not _ hc, pg_bit hi]
  cases pg_b w c <;> cases pg_b A c <;> cases pg_b B c <;> simp
theorem pg_rbit {w A B : Int64} {i c : Nat} (hi : i < 64) (hc : c < 64) : pg_b (w &&& ((A &&& B) &&& (pg_one i ^^^ (-1)))) c = true ↔ (pg_b w c = true ∧ (pg_b A c = true ∧ pg_b B c = true) ∧ ¬ c = i) := by
  rw [pg_and, pg_and, pg_and, pg_not _ hc, pg_bit hi]
  cases pg_b w c <;> cases pg_b A c <;> cases pg_b B c <;> simp
section
variable {N : Nat} {a1 a2 a3 a4 : Nat → Int32} {a5 a6 a7 a8 a9 : Nat → Int64} {a10 a11 a12 : Nat → Int32}
theorem pg_cfl {post : Int32 → Prop} {s : Nat} (hs : s < 3) (hI : pg_I N a1 a2 a3 a5 a6 a7 a8 a9 a10 a11 a12) (hp : post (nI (pg_cf N a1 a2 a3 (a6 s)))) : wpX_conflicts post (nI N, a1, a2, a3, a4, a5, a6, a7, a8, a9, a10, a11, a12) (nI s) := by
  have hN := hI.1
  obtain ⟨hP, hS⟩ := hI.2.2 s hs
  unfold wpX_conflicts
  dsimp only
  refine pg_bad hs (br_t rfl (pg_lin hs hI (fun w hw => ?_)))
  refine pk_loop (σ := Unit) (fun n i _ => wX_conflicts_23 post (nI s) w (nI N) a1 a2 a3 a4 a5 a6 a7 a8 a9 a10 a11 a12 n (nI (pg_sm (pg_L a1 a2 (a6 s)) (pg_cX a1 a2 a3 (a6 s)) i)) (nI i)) (fun _ _ => True) N 0 () (by omega) trivial (fun n _ _ => ?_) (fun n i _ hi _ hw' => ?_)
  · refine pk_le N N (fun _ => ⟨by decide, ?_⟩) (fun z => absurd z (by omega))
    have hb := pg_sm_b (pg_L a1 a2 (a6 s)) (pg_cX a1 a2 a3 (a6 s)) N
    have e := pk_div (a := pg_sm (pg_L a1 a2 (a6 s)) (pg_cX a1 a2 a3 (a6 s)) N) (d := 2) (by omega) (by omega) (by omega)
    show post (nI (pg_sm (pg_L a1 a2 (a6 s)) (pg_cX a1 a2 a3 (a6 s)) N) / nI 2)
    rw [e]
    exact hp
  · have nx := hw' () trivial
    rw [pg_sm_s] at nx
    refine pk_le N i (fun z => absurd z (by omega)) (fun _ => pg_hb (by omega) (fun z => br_f (by decide) ⟨pg_ixi hs (by omega), nm_r (by rw [pg_ixc hs (by omega)]) ⟨pg_ixi hs (by omega), nm_r (by rw [pg_ixc hs (by omega)]) (pg_wb (nm_e (pg_bo (nm_r (nI_add _ _) (nm_r (nI_1 i) ?_)))))⟩⟩) (fun z => br_t rfl (nm_r (nI_1 i) ?_)))
    · have li := (hw i).mp z
      have e : pg_pc (w &&& ((((a8 (60 * s + i) &&& (a9 (60 * s + i) ^^^ (-1))) ||| (a9 (60 * s + i) &&& (a8 (60 * s + i) ^^^ (-1)))) ||| pg_one i) ^^^ (-1))) = pg_cn (fun c => pg_d (pg_L a1 a2 (a6 s) i ∧ pg_L a1 a2 (a6 s) c ∧ pg_cX a1 a2 a3 (a6 s) i c)) 64 := by
        refine pg_cn_ext (fun c hc => pg_dE ?_)
        have r := hS.2.1 i li.1 li.2.1 c
        rw [pg_cbit (by omega) hc, hw c, r.1, r.2]
        exact ⟨fun y => ⟨li, y.1, fun e => y.2 (Or.inr e), fun e => y.2 (Or.inl (Or.inl e)), fun e => y.2 (Or.inl (Or.inr e))⟩, fun y => ⟨y.2.1, fun e => e.elim (fun e => e.elim y.2.2.2.1 y.2.2.2.2) y.2.2.1⟩⟩
      rw [e]
      exact nx
    · rw [pg_cn_0 (fun c _ => pg_nt (fun y => pg_nf z ((hw i).mpr (pg_dI.mp y).1))), Nat.add_zero] at nx
      exact nx
theorem pg_rin {post : Int32 → Prop} {s : Nat} (hs : s < 3) (hI : pg_I N a1 a2 a3 a5 a6 a7 a8 a9 a10 a11 a12) (hp : post (nI (pg_rf N a1 a2 a3 (a6 s)))) : wpX_rings post (nI N, a1, a2, a3, a4, a5, a6, a7, a8, a9, a10, a11, a12) (nI s) := by
  have hN := hI.1
  obtain ⟨hP, hS⟩ := hI.2.2 s hs
  unfold wpX_rings
  dsimp only
  refine pg_bad hs (br_t rfl (pg_lin hs hI (fun w hw => ?_)))
  refine pk_loop (σ := Unit) (fun n i _ => wX_rings_23 post (nI s) w (nI N) a1 a2 a3 a4 a5 a6 a7 a8 a9 a10 a11 a12 n (nI (pg_sm (pg_L a1 a2 (a6 s)) (pg_rX a1 a2 a3 (a6 s)) i)) (nI i)) (fun _ _ => True) N 0 () (by omega) trivial (fun n _ _ => ?_) (fun n i _ hi _ hw' => ?_)
  · refine pk_le N N (fun _ => ⟨by decide, ?_⟩) (fun z => absurd z (by omega))
    have hb := pg_sm_b (pg_L a1 a2 (a6 s)) (pg_rX a1 a2 a3 (a6 s)) N
    have e := pk_div (a := pg_sm (pg_L a1 a2 (a6 s)) (pg_rX a1 a2 a3 (a6 s)) N) (d := 2) (by omega) (by omega) (by omega)
    show post (nI (pg_sm (pg_L a1 a2 (a6 s)) (pg_rX a1 a2 a3 (a6 s)) N) / nI 2)
    rw [e]
    exact hp
  · have nx := hw' () trivial
    rw [pg_sm_s] at nx
    refine pk_le N i (fun z => absurd z (by omega)) (fun _ => pg_hb (by omega) (fun z => br_f (by decide) ⟨pg_ixi hs (by omega), pg_ixi hs (by omega), pg_wb (nm_r (by rw [pg_ixc hs (by omega)]) (pg_bo (nm_r (nI_add _ _) (nm_r (nI_1 i) ?_))))⟩) (fun z => br_t rfl (nm_r (nI_1 i) ?_)))
    · have li := (hw i).mp z
      have e : pg_pc (w &&& ((a8 (60 * s + i) &&& a9 (60 * s + i)) &&& (pg_one i ^^^ (-1)))) = pg_cn (fun c => pg_d (pg_L a1 a2 (a6 s) i ∧ pg_L a1 a2 (a6 s) c ∧ pg_rX a1 a2 a3 (a6 s) i c)) 64 := by
        refine pg_cn_ext (fun c hc => pg_dE ?_)
        have r := hS.2.1 i li.1 li.2.1 c
        rw [pg_rbit (by omega) hc, hw c, r.1, r.2]
        exact ⟨fun y => ⟨li, y.1, y.2.2, y.2.1.1, y.2.1.2⟩, fun y => ⟨y.2.1, ⟨y.2.2.2.1, y.2.2.2.2⟩, y.2.2.1⟩⟩
      rw [e]
      exact nx
    · rw [pg_cn_0 (fun c _ => pg_nt (fun y => pg_nf z ((hw i).mpr (pg_dI.mp y).1))), Nat.add_zero] at nx
      exact nx
/-! ===== equal ===== -/
theorem pg_eq3 {post : Int32 → St2 → Prop} {h6 h7 h8 h9 : Nat → Int64} {s t : Nat} (hs : s < 3) (ht : t < 3) (he : a6 s = h6 t)
    (H : ∀ b10 b11 b12 c10 c11 c12, pg_I N a1 a2 a3 a5 a6 a7 a8 a9 b10 b11 b12 → pg_I N a1 a2 a3 a5 h6 h7 h8 h9 c10 c11 c12 →
      post 1 (nI N, a1, a2, a3, a4, a5, a6, a7, a8, a9, b10, b11, b12, nI N, a1, a2, a3, a4, a5, h6, h7, h8, h9, c10, c11, c12)) :
    ∀ (n k : Nat) (b10 b11 b12 c10 c11 c12 : Nat → Int32), pg_I N a1 a2 a3 a5 a6 a7 a8 a9 b10 b11 b12 → pg_I N a1 a2 a3 a5 h6 h7 h8 h9 c10 c11 c12 → k ≤ 60 → 60 - k < n →
      wL_equal_3 post (nI s) (nI t) n (nI k) (nI N) a1 a2 a3 a4 a5 a6 a7 a8 a9 b10 b11 b12 (nI N) a1 a2 a3 a4 a5 h6 h7 h8 h9 c10 c11 c12 := by
  intro n
  induction n with
  | zero => intro k b10 b11 b12 c10 c11 c12 _ _ _ z; omega
  | succ n ih =>
    intro k b10 b11 b12 c10 c11 c12 g1 g2 hk hn
    refine pk_le 60 k (fun z => ?_) (fun z => ?_)
    · refine pg_len hs g1 (fun d10 d11 d12 k1 _ => pg_len ht g2 (fun e10 e11 e12 k2 _ => br_t (by rw [he]) ?_))
      refine pg_cfl hs k1 (pg_cfl ht k2 (br_t (by rw [he]) ?_))
      refine pg_rin hs k1 (pg_rin ht k2 (br_t (by rw [he]) ?_))
      refine pg_loo hs k1 (pg_loo ht k2 (br_t (by rw [he]) ?_))
      exact pg_pat hs (pg_pat ht (br_t (by rw [he]) (H d10 d11 d12 e10 e11 e12 k1 k2)))
    · refine pg_lne hs (by omega) g1 (fun d10 d11 d12 k1 _ => pg_lne ht (by omega) g2 (fun e10 e11 e12 k2 _ => br_t (by rw [he]) ?_))
      refine pg_con hs (by omega) k1 (fun d10 d11 d12 k1 _ => pg_con ht (by omega) k2 (fun e10 e11 e12 k2 _ => br_t (by rw [he]) ?_))
      have nx : ∀ x, x = nI k + 1 → wL_equal_3 post (nI s) (nI t) n x (nI N) a1 a2 a3 a4 a5 a6 a7 a8 a9 d10 d11 d12 (nI N) a1 a2 a3 a4 a5 h6 h7 h8 h9 e10 e11 e12 := nm_r (nI_1 k) (ih (k + 1) d10 d11 d12 e10 e11 e12 k1 k2 (by omega) (by omega))
      refine pg_hasp hs (by omega) k1 (fun y => pg_hasp ht (by omega) k2 (fun y' => br_t rfl nx) (fun y' => ?_)) (fun y => pg_hasp ht (by omega) k2 (fun y' => ?_) (fun y' => br_t rfl nx))
      · rw [← he] at y'
        exact absurd y (pg_nf y')
      · rw [← he] at y'
        exact absurd y' (pg_nf y)
theorem pg_equ {post : Int32 → St2 → Prop} {h6 h7 h8 h9 : Nat → Int64} {c10 c11 c12 : Nat → Int32} {s t : Nat} (hs : s < 3) (ht : t < 3) (he : a6 s = h6 t) (g1 : pg_I N a1 a2 a3 a5 a6 a7 a8 a9 a10 a11 a12) (g2 : pg_I N a1 a2 a3 a5 h6 h7 h8 h9 c10 c11 c12)
    (H : ∀ b10 b11 b12 c10 c11 c12, pg_I N a1 a2 a3 a5 a6 a7 a8 a9 b10 b11 b12 → pg_I N a1 a2 a3 a5 h6 h7 h8 h9 c10 c11 c12 →
      post 1 (nI N, a1, a2, a3, a4, a5, a6, a7, a8, a9, b10, b11, b12, nI N, a1, a2, a3, a4, a5, h6, h7, h8, h9, c10, c11, c12)) :
    wpL_equal post (nI N, a1, a2, a3, a4, a5, a6, a7, a8, a9, a10, a11, a12, nI N, a1, a2, a3, a4, a5, h6, h7, h8, h9, c10, c11, c12) (nI s) (nI t) :=
  ⟨61, pg_eq3 hs ht he H 61 0 a10 a11 a12 c10 c11 c12 g1 g2 (by omega) (by omega)⟩
theorem pg_eq23 {post : Int32 → St1 → Prop} {s t : Nat} (hs : s < 3) (ht : t < 3) (he : a6 s = a6 t)
    (H : ∀ b10 b11 b12, pg_I N a1 a2 a3 a5 a6 a7 a8 a9 b10 b11 b12 → post 1 (nI N, a1, a2, a3, a4, a5, a6, a7, a8, a9, b10, b11, b12)) :
    ∀ (n k : Nat) (b10 b11 b12 : Nat → Int32), pg_I N a1 a2 a3 a5 a6 a7 a8 a9 b10 b11 b12 → k ≤ 60 → 60 - k < n →
      wL_equal_2_3 post (nI s) (nI t) n (nI k) (nI N) a1 a2 a3 a4 a5 a6 a7 a8 a9 b10 b11 b12 := by
  intro n
  induction n with
  | zero => intro k b10 b11 b12 _ _ z; omega
  | succ n ih =>
    intro k b10 b11 b12 g1 hk hn
    refine pk_le 60 k (fun z => ?_) (fun z => ?_)
    · refine pg_len hs g1 (fun d10 d11 d12 k1 _ => pg_len ht k1 (fun e10 e11 e12 k2 _ => br_t (by rw [he]) ?_))
      refine pg_cfl hs k2 (pg_cfl ht k2 (br_t (by rw [he]) ?_))
      refine pg_rin hs k2 (pg_rin ht k2 (br_t (by rw [he]) ?_))
      refine pg_loo hs k2 (pg_loo ht k2 (br_t (by rw [he]) ?_))
      exact pg_pat hs (pg_pat ht (br_t (by rw [he]) (H e10 e11 e12 k2)))
    · refine pg_lne hs (by omega) g1 (fun d10 d11 d12 k1 _ => pg_lne ht (by omega) k1 (fun e10 e11 e12 k2 _ => br_t (by rw [he]) ?_))
      refine pg_con hs (by omega) k2 (fun d10 d11 d12 k1 _ => pg_con ht (by omega) k1 (fun e10 e11 e12 k2 _ => br_t (by rw [he]) ?_))
      have nx : ∀ x, x = nI k + 1 → wL_equal_2_3 post (nI s) (nI t) n x (nI N) a1 a2 a3 a4 a5 a6 a7 a8 a9 e10 e11 e12 := nm_r (nI_1 k) (ih (k + 1) e10 e11 e12 k2 (by omega) (by omega))
      refine pg_hasp hs (by omega) k2 (fun y => pg_hasp ht (by omega) k2 (fun y' => br_t rfl nx) (fun y' => ?_)) (fun y => pg_hasp ht (by omega) k2 (fun y' => ?_) (fun y' => br_t rfl nx))
      · rw [← he] at y'
        exact absurd y (pg_nf y')
      · rw [← he] at y'
        exact absurd y' (pg_nf y)
theorem pg_equ2 {post : Int32 → St1 → Prop} {s t : Nat} (hs : s < 3) (ht : t < 3) (he : a6 s = a6 t) (g1 : pg_I N a1 a2 a3 a5 a6 a7 a8 a9 a10 a11 a12)
    (H : ∀ b10 b11 b12, pg_I N a1 a2 a3 a5 a6 a7 a8 a9 b10 b11 b12 → post 1 (nI N, a1, a2, a3, a4, a5, a6, a7, a8, a9, b10, b11, b12)) :
    wpL_equal_2 post (nI N, a1, a2, a3, a4, a5, a6, a7, a8, a9, a10, a11, a12) (nI s) (nI t) :=
  ⟨61, pg_eq23 hs ht he H 61 0 a10 a11 a12 g1 (by omega) (by omega)⟩
end
end
section
/-! ===== the law, from its end to its head ===== -/
section
variable {N : Nat} {a1 a2 a3 a4 : Nat → Int32} {a5 a6 a7 a8 a9 : Nat → Int64} {a10 a11 a12 : Nat → Int32} {L kc ks : Nat} {xs : Nat → Int32}
/-- the pulls at the end, by their words -/
theorem pg_wd {h6 : Nat → Int64} {s t : Nat} (ne : s ≠ t) (e1 : h6 s = a6 s) (e2 : h6 t = a6 t ||| a6 s) :
    (∀ i, pg_new (vp_updL a6 t (a6 t ||| a6 s) s) (vp_updL a6 t (a6 t ||| a6 s) t) i = false) ∧
    ∀ A1 A2 A3 H1 : Nat → Int64, A1 = vp_updL a6 t (a6 t ||| a6 s) → A2 = vp_updL A1 t (A1 t ||| A1 s) → A3 = vp_updL A2 s (A2 s ||| A2 t) → H1 = vp_updL h6 s (h6 s ||| h6 t) → A3 s = A3 t ∧ A3 t = H1 s ∧ H1 s = H1 t := by
  constructor
  · intro i
    unfold pg_new
    rw [pk_uLs, pk_uLn ne, pg_or]
    cases pg_b (a6 t) i <;> cases pg_b (a6 s) i <;> rfl
  · intro A1 A2 A3 H1 i1 i2 i3 i4
    have c1 : A1 s = a6 s := by rw [i1, pk_uLn ne]
    have c2 : A1 t = a6 t ||| a6 s := by rw [i1, pk_uLs]
    have c3 : A2 s = a6 s := by rw [i2, pk_uLn ne, c1]
    have c4 : A2 t = (a6 t ||| a6 s) ||| a6 s := by rw [i2, pk_uLs, c1, c2]
    have c5 : A3 s = a6 s ||| ((a6 t ||| a6 s) ||| a6 s) := by rw [i3, pk_uLs, c3, c4]
    have c6 : A3 t = (a6 t ||| a6 s) ||| a6 s := by rw [i3, pk_uLn ne.symm, c4]
    have c7 : H1 s = a6 s ||| (a6 t ||| a6 s) := by rw [i4, pk_uLs, e1, e2]
    have c8 : H1 t = a6 t ||| a6 s := by rw [i4, pk_uLn ne.symm, e2]
    rw [c5, c6, c7, c8]
    refine ⟨pg_ext (fun i _ => ?_), pg_ext (fun i _ => ?_), pg_ext (fun i _ => ?_)⟩
    · simp only [pg_or]
      cases pg_b (a6 t) i <;> cases pg_b (a6 s) i <;> rfl
    · simp only [pg_or]
      cases pg_b (a6 t) i <;> cases pg_b (a6 s) i <;> rfl
    · simp only [pg_or]
      cases pg_b (a6 t) i <;> cases pg_b (a6 s) i <;> rfl
theorem pg_l531 {post : Int32 → Prop} {h6 h7 h8 h9 : Nat → Int64} {c10 c11 c12 : Nat → Int32} {s t : Nat} (hs : s < 3) (ht : t < 3) (ne : s ≠ t) (g1 : pg_I N a1 a2 a3 a5 a6 a7 a8 a9 a10 a11 a12) (g2 : pg_I N a1 a2 a3 a5 h6 h7 h8 h9 c10 c11 c12) (e1 : h6 s = a6 s) (e2 : h6 t = a6 t ||| a6 s) (h1 : post 1) :
    wL_law_531 post L xs (nI s) (nI t) kc ks (nI N) a1 a2 a3 a4 a5 a6 a7 a8 a9 a10 a11 a12 (nI N) a1 a2 a3 a4 a5 h6 h7 h8 h9 c10 c11 c12 := by
  have hN := g1.1
  obtain ⟨w1, w2⟩ := pg_wd (a6 := a6) (h6 := h6) ne e1 e2
  obtain ⟨q1, q2, q3⟩ := w2 _ _ _ _ rfl rfl rfl rfl
  unfold wL_law_531
  refine pg_pul hs ht ne g1 (fun d7 d8 d9 d10 k1 => pg_pul hs ht ne k1 (fun d7 d8 d9 d10 k2 => pg_pul ht hs ne.symm k2 (fun d7 d8 d9 d10 k3 => pg_pul ht hs ne.symm g2 (fun f7 f8 f9 f10 k4 => br_t ?_ ?_))))
  · rw [pg_cn_0 (fun i _ => w1 i)]
    rfl
  · refine pg_agr hs ht (fun _ => br_f (by decide) ?_) (fun z => absurd q1 z)
    refine pg_alk hs ht k3 q1 (fun e10 e11 e12 k5 => br_f (by decide) ?_)
    refine pg_equ2 hs ht q1 k5 (fun e10 e11 e12 k6 => br_f (by decide) (br_f (nI_pos ?_) ?_))
    · have := pg_cn_le (pg_new (h6 t) (h6 s)) N
      omega
    · refine pg_equ ht hs q2 k6 k4 (fun d10 d11 d12 f10 f11 f12 k7 k8 => br_f (by decide) ?_)
      exact pg_agr hs ht (fun _ => br_f (by decide) h1) (fun z => absurd q3 z)
theorem pg_l482 {post : Int32 → Prop} {s t : Nat} (hs : s < 3) (ht : t < 3) (ne : s ≠ t) (g1 : pg_I N a1 a2 a3 a5 a6 a7 a8 a9 a10 a11 a12) (h1 : post 1) :
    ∀ (n q : Nat) (h6 h7 h8 h9 : Nat → Int64) (c10 c11 c12 : Nat → Int32), pg_I N a1 a2 a3 a5 h6 h7 h8 h9 c10 c11 c12 → h6 s = a6 s → (∀ c, pg_b (h6 t) c = true → pg_b (a6 t) c = true ∨ pg_b (a6 s) c = true) → (∀ c, pg_b (a6 t) c = true → pg_b (h6 t) c = true) → (∀ r, N ≤ r + q → pg_b (a6 s) r = true → pg_b (h6 t) r = true) → q ≤ N → N - q < n →
      wL_law_482 post L xs (nI s) (nI t) (nI N) kc ks n (nI q) (nI N) a1 a2 a3 a4 a5 a6 a7 a8 a9 a10 a11 a12 (nI N) a1 a2 a3 a4 a5 h6 h7 h8 h9 c10 c11 c12 := by
  have hN := g1.1
  have hT := g1.2.1
  have hP := (g1.2.2 s hs).1
  intro n
  induction n with
  | zero => intro q h6 h7 h8 h9 c10 c11 c12 _ _ _ _ _ _ z; omega
  | succ n ih =>
    intro q h6 h7 h8 h9 c10 c11 c12 g2 e1 u1 u2 u3 hq hn
    have done : N ≤ q → wL_law_531 post L xs (nI s) (nI t) kc ks (nI N) a1 a2 a3 a4 a5 a6 a7 a8 a9 a10 a11 a12 (nI N) a1 a2 a3 a4 a5 h6 h7 h8 h9 c10 c11 c12 := by
      intro z
      refine pg_l531 hs ht ne g1 g2 e1 (pg_ext (fun c _ => ?_)) h1
      rw [Bool.eq_iff_iff, pg_or, Bool.or_eq_true]
      exact ⟨u1 c, fun y => y.elim (u2 c) (fun y => u3 c (by omega) y)⟩
    refine pk_le 60 q (fun z => done (by omega)) (fun _ => pk_le N q done (fun z => nm_r (e' := nI (N - 1 - q)) ?_ ?_))
    · have x1 : nI N - 1 = nI (N - 1) := pk_sub (a := N) (b := 1) (by omega)
      rw [x1, pk_sub (by omega)]
    · have rN : N - 1 - q < N := by omega
      have rq : N ≤ (N - 1 - q) + (q + 1) := by omega
      have rlt : ∀ c, N ≤ c + (q + 1) → c ≠ N - 1 - q → N ≤ c + q := fun c _ _ => by omega
      generalize N - 1 - q = r at rN rq rlt
      refine pg_hasp hs (by omega) g1 (fun y => br_f (by decide) (pg_pic rN ht g2 (fun f7 f8 f9 f10 k => nm_r (nI_1 q) ?_))) (fun y => br_t rfl (nm_r (nI_1 q) (ih (q + 1) h6 h7 h8 h9 c10 c11 c12 g2 e1 u1 u2 (fun c hc yc => ?_) (by omega) (by omega))))
      · refine ih (q + 1) _ f7 f8 f9 f10 c11 c12 k ?_ (fun c hc => ?_) (fun c hc => ?_) (fun c hc yc => ?_) (by omega) (by omega)
        · rw [pk_uLn ne]
          exact e1
        · rw [pk_uLs, pg_or, Bool.or_eq_true, pg_P1 (by omega)] at hc
          rcases hc with z1 | z1 | z1
          · exact u1 c z1
          · exact Or.inr (hP.2 r c y z1)
          · subst z1
            exact Or.inr y
        · rw [pk_uLs, pg_or, Bool.or_eq_true]
          exact Or.inl (u2 c hc)
        · rw [pk_uLs, pg_or, Bool.or_eq_true, pg_P1 (by omega)]
          by_cases e : c = r
          · exact Or.inr (Or.inr e)
          · exact Or.inl (u3 c (rlt c hc e) yc)
      · have e : c ≠ r := fun e => by
          subst e
          exact pg_nf y yc
        exact u3 c (rlt c hc e) yc
theorem pg_l457 {post : Int32 → Prop} {h7 h8 h9 : Nat → Int64} {c10 c11 c12 : Nat → Int32} {s t : Nat} (hs : s < 3) (ht : t < 3) (ne : s ≠ t) (g1 : pg_I N a1 a2 a3 a5 a6 a7 a8 a9 a10 a11 a12) (g2 : pg_I N a1 a2 a3 a5 a6 h7 h8 h9 c10 c11 c12) (h1 : post 1) :
    wL_law_457 post L xs (nI s) (nI t) (nI N) 1 kc ks (nI N) a1 a2 a3 a4 a5 a6 a7 a8 a9 a10 a11 a12 (nI N) a1 a2 a3 a4 a5 a6 h7 h8 h9 c10 c11 c12 := by
  unfold wL_law_457
  refine br_t rfl (pg_equ hs hs rfl g1 g2 (fun b10 b11 b12 d10 d11 d12 k1 k2 => br_f (by decide) ⟨N + 1, ?_⟩))
  refine pg_l482 hs ht ne k1 h1 (N + 1) 0 a6 h7 h8 h9 d10 d11 d12 k2 rfl (fun c z => Or.inl z) (fun c z => z) (fun r hr y => ?_) (by omega) (by omega)
  have := (g1.2.2 s hs).1.1 r y
  omega
/-- a patch goes and comes back -/
theorem pg_back {s p : Nat} (hs : s < 3) (hI : pg_I N a1 a2 a3 a5 a6 a7 a8 a9 a10 a11 a12) (hb : pg_b (a6 s) p = true) :
    pg_cn (pg_new (a5 p ||| pg_one p) (a6 s &&& (pg_one p ^^^ (-1)))) N = 1 ∧ (a6 s &&& (pg_one p ^^^ (-1))) ||| (a5 p ||| pg_one p) = a6 s := by
  have hN := hI.1
  have hP := (hI.2.2 s hs).1
  have pN := hP.1 p hb
  have hd : ∀ i, i < 64 → (pg_b (a6 s &&& (pg_one p ^^^ (-1))) i = true ↔ (pg_b (a6 s) i = true ∧ ¬ i = p)) := by
    intro i hi
    rw [pg_and, pg_not _ hi, pg_bit (by omega), Bool.and_eq_true, Bool.not_eq_true', decide_eq_false_iff_not]
  constructor
  · have e := pg_cn_er (f := pg_new (a5 p ||| pg_one p) (a6 s &&& (pg_one p ^^^ (-1)))) (g := fun _ => false) pN ?_ rfl (fun i hi ne => ?_)
    · rw [e, pg_cn_0 (fun _ _ => rfl)]
    · unfold pg_new
      rw [(pg_P1 (by omega) p).mpr (Or.inr rfl), pg_nt (fun z => ((hd p (by omega)).mp z).2 rfl)]
      rfl
    · refine (pg_nt (fun z => ?_)).symm
      unfold pg_new at z
      rw [Bool.and_eq_true, Bool.not_eq_true', pg_P1 (by omega)] at z
      obtain ⟨z1, z2⟩ := z
      rcases z1 with y | y
      · exact pg_nf z2 ((hd i (by omega)).mpr ⟨hP.2 p i hb y, ne⟩)
      · exact ne y
  · refine pg_ext (fun i hi => ?_)
    rw [Bool.eq_iff_iff, pg_or, Bool.or_eq_true, hd i hi, pg_P1 (by omega)]
    constructor
    · intro z
      rcases z with z | z | z
      · exact z.1
      · exact hP.2 p i hb z
      · subst z
        exact hb
    · intro z
      by_cases e : i = p
      · exact Or.inr (Or.inr e)
      · exact Or.inl ⟨z, e⟩
theorem pg_l309 {post : Int32 → Prop} {h7 h8 h9 : Nat → Int64} {c10 c11 c12 : Nat → Int32} {s t p : Nat} (hs : s < 3) (ht : t < 3) (ne : s ≠ t) (pN : N = 0 ∧ p = 0 ∨ p < N) (g1 : pg_I N a1 a2 a3 a5 a6 a7 a8 a9 a10 a11 a12) (g2 : pg_I N a1 a2 a3 a5 a6 h7 h8 h9 c10 c11 c12) (h1 : post 1) :
    ∃ n, wL_law_309 post L xs (nI s) (nI t) (nI N) (nI p) kc ks (nI N) a1 a2 a3 a4 a5 a6 a7 a8 a9 a10 a11 a12 (nI N) a1 a2 a3 a4 a5 a6 h7 h8 h9 c10 c11 c12 n 0 := by
  have hN := g1.1
  have hT := g1.2.1
  have hP := (g1.2.2 s hs).1
  refine pk_loop (σ := Unit) (fun n i _ => wL_law_309 post L xs (nI s) (nI t) (nI N) (nI p) kc ks (nI N) a1 a2 a3 a4 a5 a6 a7 a8 a9 a10 a11 a12 (nI N) a1 a2 a3 a4 a5 a6 h7 h8 h9 c10 c11 c12 n (nI i)) (fun _ _ => True) N 0 () (by omega) trivial (fun n _ _ => ?_) (fun n i _ hi _ hw => ?_)
  · refine pk_le N N (fun _ => ?_) (fun z => absurd z (by omega))
    refine pg_drp hs (by omega) g1 (fun _ => br_t (by decide) (pg_l457 hs ht ne g1 g2 h1)) (fun _ _ => br_t (by decide) (pg_l457 hs ht ne g1 g2 h1)) (fun d1 d2 b7 b8 b9 b10 k1 => br_f (nI_pos ?_) (pg_pic (hP.1 p d1) hs k1 (fun f7 f8 f9 f10 k2 => ?_)))
    · have := pg_pc_le (a6 s &&& (pg_one p ^^^ (-1)))
      omega
    · obtain ⟨y1, y2⟩ := pg_back hs g1 d1
      dsimp only
      rw [pg_uu, pk_uLs, y2, pg_same] at k2 ⊢
      rw [y1]
      exact pg_l457 hs ht ne k2 g2 h1
  · have pN' : p < N := by omega
    have nx : ∀ x, x = nI i + 1 → wL_law_309 post L xs (nI s) (nI t) (nI N) (nI p) kc ks (nI N) a1 a2 a3 a4 a5 a6 a7 a8 a9 a10 a11 a12 (nI N) a1 a2 a3 a4 a5 a6 h7 h8 h9 c10 c11 c12 n x := nm_r (nI_1 i) (hw () trivial)
    refine pk_le N i (fun z => absurd z (by omega)) (fun _ => ?_)
    refine pk_loop (σ := Unit) (fun m j _ => wL_law_319 post L xs (wL_law_309 post L xs (nI s) (nI t) (nI N) (nI p) kc ks (nI N) a1 a2 a3 a4 a5 a6 a7 a8 a9 a10 a11 a12 (nI N) a1 a2 a3 a4 a5 a6 h7 h8 h9 c10 c11 c12 n) (nI s) (nI t) (nI N) (nI p) (nI i) kc ks (nI N) a1 a2 a3 a4 a5 a6 a7 a8 a9 a10 a11 a12 (nI N) a1 a2 a3 a4 a5 a6 h7 h8 h9 c10 c11 c12 m (nI j)) (fun _ _ => True) N 0 () (by omega) trivial (fun m _ _ => ?_) (fun m j _ hj _ hv => ?_)
    · refine pk_le N N (fun _ => pg_ndd hi hN ?_) (fun z => absurd z (by omega))
      have pc : pg_pc (a5 i) ≤ i := pg_cn_tl (by omega) (fun j _ z => (hT i hi).2.2.2.1 j z)
      refine pk_le N (pg_pc (a5 i)) (fun z => absurd z (by omega)) (fun _ => pg_nds hi hi hN (fun z => ?_) (fun _ => br_t rfl ?_))
      · have := (hT i hi).2.2.2.1 i z
        omega
      · refine pg_hasp hs (by omega) g1 (fun y => br_f (by decide) (pg_nds pN' hi hN (fun y2 => br_f (by decide) (pg_hasp hs (by omega) g1 (fun _ => br_f (by decide) nx) (fun y3 => ?_))) (fun _ => br_t rfl nx))) (fun _ => br_t rfl nx)
        exact absurd (hP.2 p i y y2) (pg_nf y3)
    · have nv : ∀ x, x = nI j + 1 → wL_law_319 post L xs (wL_law_309 post L xs (nI s) (nI t) (nI N) (nI p) kc ks (nI N) a1 a2 a3 a4 a5 a6 a7 a8 a9 a10 a11 a12 (nI N) a1 a2 a3 a4 a5 a6 h7 h8 h9 c10 c11 c12 n) (nI s) (nI t) (nI N) (nI p) (nI i) kc ks (nI N) a1 a2 a3 a4 a5 a6 a7 a8 a9 a10 a11 a12 (nI N) a1 a2 a3 a4 a5 a6 h7 h8 h9 c10 c11 c12 m x := nm_r (nI_1 j) (hv () trivial)
      refine pk_le N j (fun z => absurd z (by omega)) (fun _ => pg_nds pN' hi hN (fun y1 => br_f (by decide) (pg_nds hi hj hN (fun y2 => br_f (by decide) (pg_nds pN' hj hN (fun _ => br_f (by decide) nv) (fun y3 => ?_))) (fun _ => br_t rfl nv))) (fun _ => br_t rfl nv))
      exact absurd ((hT p pN').2.2.2.2 i j y1 y2) (pg_nf y3)
theorem pg_l286 {post : Int32 → Prop} {h7 h8 h9 : Nat → Int64} {c10 c11 c12 : Nat → Int32} {s t : Nat} {x3 : Int32} (hs : s < 3) (ht : t < 3) (ne : s ≠ t) (g1 : pg_I N a1 a2 a3 a5 a6 a7 a8 a9 a10 a11 a12) (g2 : pg_I N a1 a2 a3 a5 a6 h7 h8 h9 c10 c11 c12) (h1 : post 1) :
    wL_law_286 post L xs x3 (nI s) (nI t) (nI N) kc ks (nI N) a1 a2 a3 a4 a5 a6 a7 a8 a9 a10 a11 a12 (nI N) a1 a2 a3 a4 a5 a6 h7 h8 h9 c10 c11 c12 := by
  have hN := g1.1
  obtain ⟨y, y64, hy⟩ := pk_andE (x3 >>> ((2 : Int32) &&& 31)) (m := 63) 6 (by decide)
  unfold wL_law_286
  refine pk_eq N 0 (fun z => pg_l309 (p := 0) hs ht ne (Or.inl ⟨z, rfl⟩) g1 g2 h1) (fun z => ⟨nI_ne0 (by omega) (by omega), nm_r (e' := nI (y % N)) ?_ (pg_l309 hs ht ne (Or.inr (Nat.mod_lt _ (by omega))) g1 g2 h1)⟩)
  rw [hy, pk_rem (by omega) (by omega) (by omega)]
theorem pg_l242 {post : Int32 → Prop} {h7 h8 h9 : Nat → Int64} {c10 c11 c12 : Nat → Int32} {s t : Nat} {x3 x8 z0 : Int32} (hs : s < 3) (ht : t < 3) (ne : s ≠ t) (g1 : pg_I N a1 a2 a3 a5 a6 a7 a8 a9 a10 a11 a12) (g2 : pg_I N a1 a2 a3 a5 a6 h7 h8 h9 c10 c11 c12) (h1 : post 1) (e : z0 = x8) :
    wL_law_242 post L xs x3 (nI s) (nI t) (nI N) x8 z0 kc ks (nI N) a1 a2 a3 a4 a5 a6 a7 a8 a9 a10 a11 a12 (nI N) a1 a2 a3 a4 a5 a6 h7 h8 h9 c10 c11 c12 := by
  have hN := g1.1
  have k1 := pg_rc N a1 a2 a3 (a6 s)
  have k2 := pg_cfb N a1 a2 a3 (a6 s)
  unfold wL_law_242
  refine br_t e (pg_rin hs g1 (pg_cfl hs g1 (pk_lt (pg_cf N a1 a2 a3 (a6 s)) (pg_rf N a1 a2 a3 (a6 s)) (fun z => absurd z (by omega)) (fun _ => ?_))))
  refine pg_agr hs ht (fun q => br_f (by decide) (pg_alk hs ht g1 q (fun b10 b11 b12 k => br_f (by decide) ?_))) (fun _ => br_t rfl (pg_l286 hs ht ne g1 g2 h1))
  exact pg_l286 hs ht ne k g2 h1
/-! ===== the order of the text ===== -/
def pg_ord (bf : Nat → Nat → Prop) (T : Nat → Nat) (l k i : Nat) : Prop := ∀ u v, u < v → v < l → (u < k ∨ (u = k ∧ v < i)) → bf (T u) (T v)
def pg_o8 (p : Prop) (x : Int32) : Prop := (x = 1 ∧ p) ∨ (x = 0 ∧ ¬ p)
theorem pg_o8c {p q : Prop} {x : Int32} (e : p ↔ q) (h : pg_o8 p x) : pg_o8 q x := h.elim (fun y => Or.inl ⟨y.1, e.mp y.2⟩) (fun y => Or.inr ⟨y.1, fun z => y.2 (e.mpr z)⟩)
theorem pg_nb {LL : Nat → Prop} {bf : Nat → Nat → Prop} {t : Nat × (Nat → Nat)} (h : pg_TX LL bf t) {k i : Nat} (ki : k < i) (hi : i < t.1) : ¬ bf (t.2 i) (t.2 k) ∧ t.2 i ≠ t.2 k := by
  have x := h.1 k (by omega)
  have y := h.1 i hi
  have ne : t.2 i ≠ t.2 k := fun e => y.1.2 k ki e.symm
  exact ⟨x.2.1 (t.2 i) y.1.1 (fun j hj => y.1.2 j (by omega)) ne, ne⟩
theorem pg_l145 {post : Int32 → Prop} {J : Int32 → Int32 → Int32 → (Nat → Int32) → (Nat → Int32) → (Nat → Int32) → (Nat → Int32) → (Nat → Int64) → (Nat → Int64) → (Nat → Int64) → (Nat → Int64) → (Nat → Int64) → (Nat → Int32) → (Nat → Int32) → (Nat → Int32) → Int32 → (Nat → Int32) → (Nat → Int32) → (Nat → Int32) → (Nat → Int32) → (Nat → Int64) → (Nat → Int64) → (Nat → Int64) → (Nat → Int64) → (Nat → Int64) → (Nat → Int32) → (Nat → Int32) → (Nat → Int32) → Prop}
    {c0 : Int32} {c1 c2 c3 c4 : Nat → Int32} {c5 c6 c7 c8 c9 : Nat → Int64} {c10 c11 c12 : Nat → Int32} {s k : Nat} {x3 x5 x6 : Int32} (hs : s < 3) (l60 : (pg_txt a1 a2 a3 (a6 s)).1 ≤ 60) (hX : pg_TX (pg_L a1 a2 (a6 s)) (pg_bf a1 a2 a3 (a6 s)) (pg_txt a1 a2 a3 (a6 s)))
    (hJ : ∀ x8 b10 b11 b12, pg_I N a1 a2 a3 a5 a6 a7 a8 a9 b10 b11 b12 → pg_o8 (pg_ord (pg_bf a1 a2 a3 (a6 s)) (pg_txt a1 a2 a3 (a6 s)).2 (pg_txt a1 a2 a3 (a6 s)).1 (k + 1) 0) x8 → J x8 (nI (k + 1)) (nI N) a1 a2 a3 a4 a5 a6 a7 a8 a9 b10 b11 b12 c0 c1 c2 c3 c4 c5 c6 c7 c8 c9 c10 c11 c12) :
    ∀ (n i : Nat) (x8 : Int32) (b10 b11 b12 : Nat → Int32), pg_I N a1 a2 a3 a5 a6 a7 a8 a9 b10 b11 b12 → pg_o8 (pg_ord (pg_bf a1 a2 a3 (a6 s)) (pg_txt a1 a2 a3 (a6 s)).2 (pg_txt a1 a2 a3 (a6 s)).1 k i) x8 → k < i → i ≤ (pg_txt a1 a2 a3 (a6 s)).1 → (pg_txt a1 a2 a3 (a6 s)).1 - i < n →
      wL_law_145 post L xs J x3 (nI s) x5 x6 (nI (pg_txt a1 a2 a3 (a6 s)).1) (nI k) kc ks n x8 (nI i) (nI N) a1 a2 a3 a4 a5 a6 a7 a8 a9 b10 b11 b12 c0 c1 c2 c3 c4 c5 c6 c7 c8 c9 c10 c11 c12 := by
  intro n
  induction n with
  | zero => intro i x8 b10 b11 b12 _ _ _ _ z; omega
  | succ n ih =>
    intro i x8 b10 b11 b12 g1 o8 ki il hn
    refine pk_le (pg_txt a1 a2 a3 (a6 s)).1 i (fun z => nm_r (nI_1 k) (hJ x8 b10 b11 b12 g1 (pg_o8c ?_ o8))) (fun z => ?_)
    · constructor
      · intro h u v uv vl c
        refine h u v uv vl ?_
        rcases c with c | c
        · by_cases e : u = k
          · exact Or.inr ⟨e, by omega⟩
          · exact Or.inl (by omega)
        · exact absurd c.2 (by omega)
      · intro h u v uv vl c
        exact h u v uv vl (Or.inl (by omega))
    · have kl : k < (pg_txt a1 a2 a3 (a6 s)).1 := by omega
      have Lk := (hX.1 k kl).1.1
      have Li := (hX.1 i z).1.1
      have nb := pg_nb hX ki z
      refine pg_lne hs (by omega) g1 (fun d10 d11 d12 k1 _ => pg_lne hs (by omega) k1 (fun e10 e11 e12 k2 _ => ?_))
      have r1 : pg_la (pg_txt a1 a2 a3 (a6 s)) k = nI ((pg_txt a1 a2 a3 (a6 s)).2 k) := if_pos kl
      have r2 : pg_la (pg_txt a1 a2 a3 (a6 s)) i = nI ((pg_txt a1 a2 a3 (a6 s)).2 i) := if_pos z
      dsimp only
      rw [r1, r2]
      have fin : ∀ z0, pg_o8 (pg_ord (pg_bf a1 a2 a3 (a6 s)) (pg_txt a1 a2 a3 (a6 s)).2 (pg_txt a1 a2 a3 (a6 s)).1 k (i + 1)) z0 → wL_law_199 post L xs J (wL_law_145 post L xs J x3 (nI s) x5 x6 (nI (pg_txt a1 a2 a3 (a6 s)).1) (nI k) kc ks n) x3 (nI s) x5 x6 (nI (pg_txt a1 a2 a3 (a6 s)).1) (nI k) (nI i) (nI ((pg_txt a1 a2 a3 (a6 s)).2 k)) (nI ((pg_txt a1 a2 a3 (a6 s)).2 i)) z0 kc ks (nI N) a1 a2 a3 a4 a5 a6 a7 a8 a9 e10 e11 e12 c0 c1 c2 c3 c4 c5 c6 c7 c8 c9 c10 c11 c12 := by
        intro z0 oz
        exact pg_bef hs k2 Li.1 Li.2.1 Lk.1 Lk.2.1 (fun y => absurd y nb.1) (fun _ => br_t rfl (nm_r (nI_1 i) (ih (i + 1) z0 e10 e11 e12 k2 oz (by omega) (by omega) (by omega))))
      have weak : pg_ord (pg_bf a1 a2 a3 (a6 s)) (pg_txt a1 a2 a3 (a6 s)).2 (pg_txt a1 a2 a3 (a6 s)).1 k (i + 1) → pg_ord (pg_bf a1 a2 a3 (a6 s)) (pg_txt a1 a2 a3 (a6 s)).2 (pg_txt a1 a2 a3 (a6 s)).1 k i := fun h u v uv vl c => h u v uv vl (c.elim Or.inl (fun c => Or.inr ⟨c.1, by omega⟩))
      refine pg_bef hs k2 Lk.1 Lk.2.1 Li.1 Li.2.1 (fun y => ?_) (fun y => ?_)
      · rcases o8 with ⟨o1, o2⟩ | ⟨o1, o2⟩
        · subst o1
          refine br_f (by decide) (br_f (by decide) (fin 1 (Or.inl ⟨rfl, fun u v uv vl c => ?_⟩)))
          by_cases e : u = k ∧ v = i
          · rw [e.1, e.2]
            exact y
          · refine o2 u v uv vl (c.elim Or.inl (fun c => Or.inr ⟨c.1, ?_⟩))
            have : v ≠ i := fun w => e ⟨c.1, w⟩
            omega
        · subst o1
          exact br_t rfl (fin 0 (Or.inr ⟨rfl, fun h => o2 (weak h)⟩))
      · have no : ¬ pg_ord (pg_bf a1 a2 a3 (a6 s)) (pg_txt a1 a2 a3 (a6 s)).2 (pg_txt a1 a2 a3 (a6 s)).1 k (i + 1) := fun h => y (h k i ki z (Or.inr ⟨rfl, by omega⟩))
        exact br_c (fun _ => fin 0 (Or.inr ⟨rfl, no⟩)) (fun _ => br_t rfl (fin 0 (Or.inr ⟨rfl, no⟩)))
theorem pg_all {s : Nat} (hs : s < 3) (g1 : pg_I N a1 a2 a3 a5 a6 a7 a8 a9 a10 a11 a12) (hX : pg_TX (pg_L a1 a2 (a6 s)) (pg_bf a1 a2 a3 (a6 s)) (pg_txt a1 a2 a3 (a6 s))) {k : Nat} (hk : (pg_txt a1 a2 a3 (a6 s)).1 ≤ k + 1) :
    pg_cf N a1 a2 a3 (a6 s) = 0 ↔ pg_ord (pg_bf a1 a2 a3 (a6 s)) (pg_txt a1 a2 a3 (a6 s)).2 (pg_txt a1 a2 a3 (a6 s)).1 k 0 := by
  rw [pg_cf0 g1.1 (g1.2.2 s hs).1.1]
  constructor
  · intro h u v uv vl _
    have nb := pg_nb hX uv vl
    rcases h _ _ (hX.1 u (by omega)).1.1 (hX.1 v vl).1.1 (fun e => nb.2 e.symm) with y | y
    · exact y
    · exact absurd y nb.1
  · intro h a c la lc ne
    obtain ⟨u, u1, u2⟩ := hX.2 a la
    obtain ⟨v, v1, v2⟩ := hX.2 c lc
    have uv : u ≠ v := fun e => by
      subst e
      exact ne (u2.symm.trans v2)
    rcases Nat.lt_or_gt_of_ne uv with z | z
    · have t := h u v z v1 (Or.inl (by omega))
      rw [u2, v2] at t
      exact Or.inl t
    · have t := h v u z u1 (Or.inl (by omega))
      rw [u2, v2] at t
      exact Or.inr t
theorem pg_l130 {post : Int32 → Prop} {h7 h8 h9 : Nat → Int64} {c10 c11 c12 : Nat → Int32} {s t : Nat} {x3 : Int32} (hs : s < 3) (ht : t < 3) (ne : s ≠ t) (g2 : pg_I N a1 a2 a3 a5 a6 h7 h8 h9 c10 c11 c12) (h1 : post 1) (l60 : (pg_txt a1 a2 a3 (a6 s)).1 ≤ 60) (hX : pg_TX (pg_L a1 a2 (a6 s)) (pg_bf a1 a2 a3 (a6 s)) (pg_txt a1 a2 a3 (a6 s))) :
    ∀ (n k : Nat) (x8 : Int32) (b10 b11 b12 : Nat → Int32), pg_I N a1 a2 a3 a5 a6 a7 a8 a9 b10 b11 b12 → pg_o8 (pg_ord (pg_bf a1 a2 a3 (a6 s)) (pg_txt a1 a2 a3 (a6 s)).2 (pg_txt a1 a2 a3 (a6 s)).1 k 0) x8 → k ≤ (pg_txt a1 a2 a3 (a6 s)).1 → (pg_txt a1 a2 a3 (a6 s)).1 - k < n →
      wL_law_130 post L xs x3 (nI s) (nI t) (nI N) (nI (pg_txt a1 a2 a3 (a6 s)).1) kc ks n x8 (nI k) (nI N) a1 a2 a3 a4 a5 a6 a7 a8 a9 b10 b11 b12 (nI N) a1 a2 a3 a4 a5 a6 h7 h8 h9 c10 c11 c12 := by
  intro n
  induction n with
  | zero => intro k x8 b10 b11 b12 _ _ _ z; omega
  | succ n ih =>
    intro k x8 b10 b11 b12 g1 o8 kl hn
    have hN := g1.1
    refine pk_le (pg_txt a1 a2 a3 (a6 s)).1 (k + 1) (fun z => pg_cfl hs g1 ?_) (fun z => nm_r (nI_1 k) ⟨(pg_txt a1 a2 a3 (a6 s)).1 + 1, ?_⟩) rfl (nI_1 k)
    · have al := pg_all hs g1 hX z
      have cb := pg_cfb N a1 a2 a3 (a6 s)
      refine pk_eq (pg_cf N a1 a2 a3 (a6 s)) 0 (fun e => pg_l242 hs ht ne g1 g2 h1 ?_) (fun e => pg_l242 hs ht ne g1 g2 h1 ?_)
      · rcases o8 with ⟨o1, o2⟩ | ⟨o1, o2⟩
        · exact o1.symm
        · exact absurd (al.mp e) o2
      · rcases o8 with ⟨o1, o2⟩ | ⟨o1, o2⟩
        · exact absurd (al.mpr o2) e
        · exact o1.symm
    · refine pg_l145 hs l60 hX (fun y8 d10 d11 d12 k1 o8' => ih (k + 1) y8 d10 d11 d12 k1 o8' (by omega) (by omega)) _ (k + 1) x8 b10 b11 b12 g1 (pg_o8c ?_ o8) (by omega) (by omega) (by omega)
      constructor
      · intro h u v uv vl c
        refine h u v uv vl (c.elim Or.inl (fun c => absurd c.2 (by omega)))
      · intro h u v uv vl c
        refine h u v uv vl (c.elim Or.inl (fun c => absurd c.2 (by omega)))
theorem pg_l95 {post : Int32 → Prop} {h7 h8 h9 : Nat → Int64} {c10 c11 c12 : Nat → Int32} {x3 : Int32} (g1 : pg_I N a1 a2 a3 a5 a6 a7 a8 a9 a10 a11 a12) (g2 : pg_I N a1 a2 a3 a5 a6 h7 h8 h9 c10 c11 c12) (h1 : post 1) :
    wL_law_95 post L xs x3 kc ks (nI N) a1 a2 a3 a4 a5 a6 a7 a8 a9 a10 a11 a12 (nI N) a1 a2 a3 a4 a5 a6 h7 h8 h9 c10 c11 c12 := by
  obtain ⟨j, j4, hj⟩ := pk_andE x3 (m := 3) 2 (by decide)
  have hx : (x3 &&& 3) - (x3 &&& 3) / 3 * 3 = nI (j % 3) := by
    rw [hj]
    exact pk_rem (a := j) (d := 3) (by omega) (by omega) (by omega)
  have hs : j % 3 < 3 := Nat.mod_lt _ (by omega)
  generalize j % 3 = s at hx hs
  have hy : (nI s + 1) - (nI s + 1) / 3 * 3 = nI ((s + 1) % 3) := by
    rw [nI_1]
    exact pk_rem (a := s + 1) (d := 3) (by omega) (by omega) (by omega)
  have ht : (s + 1) % 3 < 3 := Nat.mod_lt _ (by omega)
  have ne : s ≠ (s + 1) % 3 := by omega
  generalize (s + 1) % 3 = t at hy ht ne
  unfold wL_law_95
  refine ⟨by decide, nm_r hx ⟨by decide, nm_r hy ?_⟩⟩
  unfold wpX_made
  dsimp only
  refine pg_len hs g1 (fun b10 b11 b12 k1 k2 => ?_)
  have hW := (k1.2.2 s hs).2.2.2 k2
  exact ⟨_, pg_l130 hs ht ne g2 h1 hW.2.1 hW.1 ((pg_txt a1 a2 a3 (a6 s)).1 + 1) 0 1 b10 b11 b12 k1 (Or.inl ⟨rfl, fun u v uv vl c => absurd c (by omega)⟩) (by omega) (by omega)⟩
end
theorem pg_l32 {post : Int32 → Prop} {L kc ks : Nat} {xs : Nat → Int32} {x3 : Int32} (hL : L ≤ 260) (h1 : post 1) :
    ∀ (n k N : Nat) (a1 a2 a3 a4 : Nat → Int32) (a5 a6 a7 a8 a9 : Nat → Int64) (a10 a11 a12 : Nat → Int32) (h7 h8 h9 : Nat → Int64) (c10 c11 c12 : Nat → Int32), pg_I N a1 a2 a3 a5 a6 a7 a8 a9 a10 a11 a12 → pg_I N a1 a2 a3 a5 a6 h7 h8 h9 c10 c11 c12 → k ≤ 92 → 92 - k < n →
      wL_law_32 post L xs x3 kc ks n (nI k) (nI N) a1 a2 a3 a4 a5 a6 a7 a8 a9 a10 a11 a12 (nI N) a1 a2 a3 a4 a5 a6 h7 h8 h9 c10 c11 c12 := by
  intro n
  induction n with
  | zero => intro k N a1 a2 a3 a4 a5 a6 a7 a8 a9 a10 a11 a12 h7 h8 h9 c10 c11 c12 _ _ _ z; omega
  | succ n ih =>
    intro k N a1 a2 a3 a4 a5 a6 a7 a8 a9 a10 a11 a12 h7 h8 h9 c10 c11 c12 g1 g2 hk hn
    obtain ⟨r, M, b1, b2, b3, b4, b5, b6, hT⟩ := pg_trn N a1 a2 a3 a4 a5 a6 (xs (nI k).toNatClampNeg) (xs (nI k + 1).toNatClampNeg)
    refine pk_le L (k + 1) (fun _ => pg_l95 g1 g2 h1) (fun z => pk_le 90 k (fun _ => pg_l95 g1 g2 h1) (fun z2 => ⟨pk_in k L (by omega), pk_in (k + 1) L z (nI_1 k), ?_⟩)) rfl (nI_1 k)
    refine hT _ _ _ _ _ _ g1 _ (fun b7 b8 b9 b10 b11 b12 k1 => ⟨pk_in k L (by omega), pk_in (k + 1) L z (nI_1 k), ?_⟩)
    refine hT _ _ _ _ _ _ g2 _ (fun d7 d8 d9 d10 d11 d12 k2 => br_t rfl (nm_r (e' := nI (k + 2)) (nI_add k 2) ?_))
    exact ih (k + 2) M b1 b2 b3 b4 b5 b6 b7 b8 b9 b10 b11 b12 d7 d8 d9 d10 d11 d12 k1 k2 (by omega) (by omega)
theorem pg_ini {post : St1 → Prop} (hp : post (0, (fun _ => 0), (fun _ => 0), (fun _ => 0), (fun _ => 0), (fun _ => 0), (fun _ => 0), (fun _ => 0), (fun _ => 0), (fun _ => 0), (fun _ => 0), (fun _ => 0), (fun _ => 0))) : wpX_init post 12 852 0 := by
  unfold wpX_init
  exact ⟨by omega, by omega, by omega, by omega, by omega, by omega, by omega, by omega, by omega, by omega, by omega, by omega, by omega, by omega, by omega, by omega, by omega, by omega, by omega, by omega, by omega, by omega, by omega, by omega, hp⟩
end
section
theorem i_vc (xs : Nat → Int32) (L : Nat) (hL : L ≤ 260) : wpL_law (fun r => r = 1) L xs := by
  unfold wpL_law
  refine ⟨12, 852, by omega, by omega, pg_ini ⟨by omega, by omega, 12, 852, by omega, by omega, pg_ini ?_⟩⟩
  refine pk_le L 0 (fun _ => ⟨93, ?_⟩) (fun z => ⟨pk_in 0 L z, nm_e ⟨93, ?_⟩⟩)
  · exact pg_l32 (post := fun r => r = 1) hL rfl 93 1 0 _ _ _ _ _ _ _ _ _ _ _ _ _ _ _ _ _ _ pg_I0 pg_I0 (by omega) (by omega)
  · exact pg_l32 (post := fun r => r = 1) hL rfl 93 1 0 _ _ _ _ _ _ _ _ _ _ _ _ _ _ _ _ _ _ pg_I0 pg_I0 (by omega) (by omega)
end
