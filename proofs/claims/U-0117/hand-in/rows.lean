section
/-! rows of the kit's PURE-ROWS and BITS, pasted -/
theorem pk_us {f : Nat → Int32} {k : Nat} {x : Int32} : upd f k x k = x := if_pos rfl
theorem pk_un {f : Nat → Int32} {k j : Nat} {x : Int32} (h : j ≠ k) : upd f k x j = f j := if_neg h
theorem pk_sub {a b : Nat} (h : b ≤ a) : nI a - nI b = nI (a - b) := by
  obtain ⟨c, rfl⟩ : ∃ c, a = c + b := ⟨a - b, by omega⟩
  rw [← nI_add, Int32.add_sub_cancel, Nat.add_sub_cancel]
theorem pk_m1 (n : Nat) : nI (n + 1) + (-1) = nI n := by
  rw [← nI_1, Int32.add_assoc, show (1 : Int32) + (-1) = 0 from rfl, Int32.add_zero]
theorem pk_mul (a b : Nat) : nI a * nI b = nI (a * b) := (Int32.ofNat_mul a b).symm
theorem pk_ix (x : Int32) {n : Nat} (hn : n < 2 ^ 31) : x < 0 ∨ nI n ≤ x ∨ ∃ j : Nat, j < n ∧ x = nI j := by
  by_cases h : x < 0
  · exact Or.inl h
  · obtain ⟨j, hj, rfl⟩ := nI_of h
    by_cases h2 : j < n
    · exact Or.inr (Or.inr ⟨j, h2, rfl⟩)
    · exact Or.inr (Or.inl (nI_le (by omega) hj))
theorem pk_le {x y : Int32} {A B : Prop} (a b : Nat) (f : a ≤ b → A) (g : b < a → B) (hx : x = nI a := by rfl) (hy : y = nI b := by rfl) (ha : a < 2 ^ 31 := by omega) (hb : b < 2 ^ 31 := by omega) : (x ≤ y → A) ∧ (¬ x ≤ y → B) := by
  subst hx hy
  rw [nI_leI ha hb]
  exact ⟨f, fun z => g (by omega)⟩
theorem pk_lt {x y : Int32} {A B : Prop} (a b : Nat) (f : a < b → A) (g : b ≤ a → B) (hx : x = nI a := by rfl) (hy : y = nI b := by rfl) (ha : a < 2 ^ 31 := by omega) (hb : b < 2 ^ 31 := by omega) : (x < y → A) ∧ (¬ x < y → B) := by
  subst hx hy
  rw [nI_ltI ha hb]
  exact ⟨f, fun z => g (by omega)⟩
theorem pk_eq {x y : Int32} {A B : Prop} (a b : Nat) (f : a = b → A) (g : a ≠ b → B) (hx : x = nI a := by rfl) (hy : y = nI b := by rfl) (ha : a < 2 ^ 31 := by omega) (hb : b < 2 ^ 31 := by omega) : (x = y → A) ∧ (¬ x = y → B) := by
  subst hx hy
  rw [nI_eq ha hb]
  exact ⟨f, g⟩
theorem pk_in {x : Int32} (n N : Nat) (h : n < N) (hx : x = nI n := by rfl) (hN : N < 2 ^ 31 := by omega) : vp_in x N := by
  subst hx
  exact vp_in_nI h hN
theorem pk_cl {x : Int32} (n : Nat) (hx : x = nI n := by rfl) (h : n < 2 ^ 31 := by omega) : x.toNatClampNeg = n := by
  subst hx
  exact nI_clamp h
def bt (x : Int32) (i : Nat) : Bool := x.toBitVec.getLsbD i
theorem b_ext {x y : Int32} (h : ∀ i, i < 32 → bt x i = bt y i) : x = y := Int32.toBitVec_inj.mp (BitVec.eq_of_getLsbD_eq (fun i hi => h i hi))
theorem b_or (x y : Int32) (i : Nat) : bt (x ||| y) i = (bt x i || bt y i) := by unfold bt; rw [Int32.toBitVec_or, BitVec.getLsbD_or]
theorem b_and (x y : Int32) (i : Nat) : bt (x &&& y) i = (bt x i && bt y i) := by unfold bt; rw [Int32.toBitVec_and, BitVec.getLsbD_and]
theorem b_big {x : Int32} {i : Nat} (h : 32 ≤ i) : bt x i = false := BitVec.getLsbD_of_ge _ _ h
theorem b_0 (i : Nat) : bt 0 i = false := BitVec.getLsbD_zero
theorem s_l : ∀ n, n < 32 → ((nI n &&& 31).toBitVec.smod 32).toNat = n := by decide +kernel
theorem b_shl (n : Nat) (hn : n < 32) (x : Int32) {i : Nat} (hi : i < 32) : bt (x <<< (nI n &&& 31)) i = (decide (n ≤ i) && bt x (i - n)) := by
  unfold bt
  rw [Int32.toBitVec_shiftLeft]
  show (x.toBitVec <<< ((nI n &&& 31).toBitVec.smod 32).toNat).getLsbD i = _
  rw [s_l n hn, BitVec.getLsbD_shiftLeft]
  rcases Nat.lt_or_ge i n with h | h
  · simp [h, Nat.not_le.mpr h]
  · simp [hi, h, Nat.not_lt.mpr h]
theorem b_sshr (n : Nat) (hn : n < 32) (x : Int32) {i : Nat} (hi : i < 32) : bt (x >>> (nI n &&& 31)) i = if n + i < 32 then bt x (n + i) else bt x 31 := by
  unfold bt
  rw [Int32.toBitVec_shiftRight]
  show (x.toBitVec.sshiftRight ((nI n &&& 31).toBitVec.smod 32).toNat).getLsbD i = _
  rw [s_l n hn, BitVec.getLsbD_sshiftRight, BitVec.msb_eq_getLsbD_last]
  simp [hi]
end
section
/-! masks: what one value's mask is, by its number and its parts' masks; its bits; how many masks a pair can have -/
def mz_i (b : Bool) : Int32 := if b = true then 1 else 0
theorem mz_it : mz_i true = 1 := rfl
theorem mz_if : mz_i false = 0 := rfl
theorem mz_i0 (b : Bool) : mz_i b = 0 ↔ b = false := by cases b <;> decide
theorem mz_ij (a b : Bool) : mz_i a = mz_i b ↔ a = b := by cases a <;> cases b <;> decide
theorem mz_iN (b : Bool) : vp_nar .boolean (mz_i b) = mz_i b := by cases b <;> rfl
theorem mz_1 : ∀ i, i < 32 → bt 1 i = decide (i = 0) := by decide +kernel
theorem mz_and1 (x : Int32) : (x &&& 1) = 0 ↔ bt x 0 = false := by
  constructor
  · intro h
    have e : bt (x &&& 1) 0 = bt 0 0 := by rw [h]
    rw [b_and, b_0, mz_1 0 (by omega)] at e
    simpa using e
  · intro h
    apply b_ext
    intro i hi
    rw [b_and, b_0, mz_1 i hi]
    by_cases e : i = 0
    · subst e; rw [h]; rfl
    · simp [e]
theorem mz_sh (m : Int32) {a : Nat} (ha : a < 32) : ((m >>> (nI a &&& 31)) &&& 1) = 0 ↔ bt m a = false := by
  rw [mz_and1, b_sshr a ha m (by omega), if_pos (by omega), Nat.add_zero]
theorem mz_sl {s j : Nat} (hs : s < 32) (hj : j < 32) : bt ((1 : Int32) <<< (nI s &&& 31)) j = decide (j = s) := by
  rw [b_shl s hs 1 hj, mz_1 (j - s) (by omega)]
  by_cases e : j = s
  · subst e; simp
  · by_cases h : s ≤ j
    · have : ¬ j - s = 0 := by omega
      simp [e, this]
    · simp [e, h]
/-- is the bit at place x set -/
def mz_b (m x : Int32) : Bool := bt m x.toNatClampNeg
/-- does slot s hold the value, m telling about the lower slots -/
def mz_st (K F G : Nat → Int32) (n l r m : Int32) (s : Nat) : Bool :=
  if K s = 1 then (decide (F s ≤ n) && decide (n ≤ G s))
  else if K s = 2 then (decide (n < 0) && (mz_b l (F s) && mz_b r (G s)))
  else if K s = 3 then (mz_b m (F s) || mz_b m (G s))
  else if K s = 4 then (mz_b m (F s) && mz_b m (G s))
  else if K s = 5 then (!mz_b m (F s))
  else if K s = 6 then (mz_b m (F s) && !mz_b m (G s))
  else false
def mz_m (K F G : Nat → Int32) (n l r : Int32) : Nat → Int32
  | 0 => 0
  | s + 1 => if mz_st K F G n l r (mz_m K F G n l r s) s = true then mz_m K F G n l r s ||| ((1 : Int32) <<< (nI s &&& 31)) else mz_m K F G n l r s
section
variable {K F G : Nat → Int32} {n l r l' r' : Int32}
theorem mz_mS (s : Nat) : mz_m K F G n l r (s + 1) = if mz_st K F G n l r (mz_m K F G n l r s) s = true then mz_m K F G n l r s ||| ((1 : Int32) <<< (nI s &&& 31)) else mz_m K F G n l r s := rfl
theorem mz_bs {s j : Nat} (hs : s < 32) (hj : j ≠ s) : bt (mz_m K F G n l r (s + 1)) j = bt (mz_m K F G n l r s) j := by
  rw [mz_mS]
  split
  · rcases Nat.lt_or_ge j 32 with h | h
    · rw [b_or, mz_sl hs h]; simp [hj]
    · rw [b_big h, b_big h]
  · rfl
theorem mz_hi : ∀ s j : Nat, s ≤ 32 → s ≤ j → bt (mz_m K F G n l r s) j = false
  | 0, j, _, _ => b_0 j
  | s + 1, j, h1, h2 => by
    rw [mz_bs (by omega) (by omega)]
    exact mz_hi s j (by omega) (by omega)
theorem mz_lo : ∀ s j : Nat, s ≤ 32 → j < s → bt (mz_m K F G n l r s) j = mz_st K F G n l r (mz_m K F G n l r j) j
  | 0, j, _, h => by omega
  | s + 1, j, h1, h2 => by
    by_cases e : j = s
    · subst e
      have h0 := mz_hi (K := K) (F := F) (G := G) (n := n) (l := l) (r := r) j j (by omega) (Nat.le_refl _)
      rw [mz_mS]
      cases q : mz_st K F G n l r (mz_m K F G n l r j) j
      · simp [h0]
      · rw [if_pos rfl, b_or, h0, mz_sl (by omega) (by omega)]; simp
    · rw [mz_bs (by omega) e]
      exact mz_lo s j (by omega) (by omega)
theorem mz_lt {s t j : Nat} (hs : s ≤ 32) (ht : t ≤ 32) (h1 : j < s) (h2 : j < t) : bt (mz_m K F G n l r s) j = bt (mz_m K F G n l r t) j := by
  rw [mz_lo s j hs h1, mz_lo t j ht h2]
theorem mz_lf (h : ¬ n < 0) : ∀ s : Nat, mz_m K F G n l r s = mz_m K F G n l' r' s
  | 0 => rfl
  | s + 1 => by
    have e : ∀ m, mz_st K F G n l r m s = mz_st K F G n l' r' m s := by
      intro m
      unfold mz_st
      rw [decide_eq_false h]
      simp only [Bool.false_and]
    rw [mz_mS, mz_mS, mz_lf h s, e]
/-- masks of one number whose bits at the pair slots agree are the same -/
theorem mz_pr {S : Nat} (hS : S ≤ 32) (h : ∀ p, p < S → K p = 2 → bt (mz_m K F G n l r S) p = bt (mz_m K F G n l' r' S) p) : ∀ s : Nat, s ≤ S → mz_m K F G n l r s = mz_m K F G n l' r' s
  | 0, _ => rfl
  | s + 1, hs => by
    have i := mz_pr hS h s (by omega)
    have e : mz_st K F G n l r (mz_m K F G n l r s) s = mz_st K F G n l' r' (mz_m K F G n l' r' s) s := by
      by_cases q : K s = 2
      · have a := h s (by omega) q
        rw [mz_lo S s hS (by omega), mz_lo S s hS (by omega)] at a
        exact a
      · rw [i]
        unfold mz_st
        simp only [q, if_false]
    rw [mz_mS, mz_mS, e, i]
theorem mz_eqb {S : Nat} (hS : S ≤ 32) {n' : Int32} (h : ∀ p, p < S → bt (mz_m K F G n l r S) p = bt (mz_m K F G n' l' r' S) p) : mz_m K F G n l r S = mz_m K F G n' l' r' S := by
  apply b_ext
  intro i hi
  rcases Nat.lt_or_ge i S with q | q
  · exact h i q
  · rw [mz_hi S i hS q, mz_hi S i hS q]
end
/-- the bits of m at the pair slots, as a number -/
def mz_cd (K : Nat → Int32) (m : Int32) : Nat → Nat
  | 0 => 0
  | s + 1 => if K s = 2 then 2 * mz_cd K m s + (bt m s).toNat else mz_cd K m s
def mz_np (K : Nat → Int32) : Nat → Nat
  | 0 => 0
  | s + 1 => if K s = 2 then mz_np K s + 1 else mz_np K s
theorem mz_cdl (K : Nat → Int32) (m : Int32) : ∀ s, mz_cd K m s < 2 ^ mz_np K s
  | 0 => Nat.one_pos
  | s + 1 => by
    have a := mz_cdl K m s
    unfold mz_cd mz_np
    split
    · have b : (bt m s).toNat < 2 := Bool.toNat_lt _
      rw [Nat.pow_succ]
      omega
    · exact a
theorem mz_tn {a b : Bool} (h : a.toNat = b.toNat) : a = b := by cases a <;> cases b <;> simp_all
theorem mz_cdi (K : Nat → Int32) (m m' : Int32) : ∀ s, mz_cd K m s = mz_cd K m' s → ∀ p, p < s → K p = 2 → bt m p = bt m' p
  | 0, _, p, h, _ => by omega
  | s + 1, e, p, h, hp => by
    unfold mz_cd at e
    by_cases q : K s = 2
    · rw [if_pos q, if_pos q] at e
      have b : (bt m s).toNat < 2 := Bool.toNat_lt _
      have b' : (bt m' s).toNat < 2 := Bool.toNat_lt _
      by_cases z : p = s
      · subst z
        exact mz_tn (by omega)
      · exact mz_cdi K m m' s (by omega) p (by omega) hp
    · rw [if_neg q, if_neg q] at e
      by_cases z : p = s
      · subst z; exact absurd hp q
      · exact mz_cdi K m m' s e p (by omega) hp
/-- the pair slots other than s -/
def mz_ot (K : Nat → Int32) (s : Nat) : Nat → Nat
  | 0 => 0
  | i + 1 => if i = s then mz_ot K s i else if K i = 2 then mz_ot K s i + 1 else mz_ot K s i
theorem mz_otl (K : Nat → Int32) (s : Nat) : ∀ i, mz_ot K s i ≤ mz_np K i
  | 0 => Nat.le_refl _
  | i + 1 => by
    have a := mz_otl K s i
    unfold mz_ot mz_np
    split <;> split <;> omega
theorem mz_otb (K : Nat → Int32) (s : Nat) : ∀ i, mz_ot K s i ≤ i
  | 0 => Nat.le_refl _
  | i + 1 => by
    have a := mz_otb K s i
    unfold mz_ot
    split
    · omega
    · split <;> omega
theorem mz_npo (K : Nat → Int32) (s : Nat) (k : Int32) : ∀ i, (i ≤ s → mz_np (upd K s k) i ≤ mz_ot K s i) ∧ (k ≠ 2 → mz_np (upd K s k) i ≤ mz_ot K s i) ∧ mz_np (upd K s k) i ≤ mz_ot K s i + 1
  | 0 => ⟨fun _ => Nat.le_refl _, fun _ => Nat.le_refl _, Nat.zero_le _⟩
  | i + 1 => by
    obtain ⟨a1, a2, a3⟩ := mz_npo K s k i
    unfold mz_ot mz_np
    by_cases q : i = s
    · subst q
      have a1 := a1 (Nat.le_refl _)
      rw [pk_us, if_pos rfl]
      by_cases z : k = 2
      · rw [if_pos z]
        exact ⟨fun h => absurd h (by omega), fun h => absurd z h, by omega⟩
      · rw [if_neg z]
        exact ⟨fun h => absurd h (by omega), fun h => a1, by omega⟩
    · rw [pk_un q, if_neg q]
      by_cases z : K i = 2
      · rw [if_pos z, if_pos z]
        exact ⟨fun h => Nat.succ_le_succ (a1 (by omega)), fun h => Nat.succ_le_succ (a2 h), by omega⟩
      · rw [if_neg z, if_neg z]
        exact ⟨fun h => a1 (by omega), a2, a3⟩
/-- n + 1 numbers below n: two are the same -/
theorem mz_pg : ∀ (n : Nat) (f : Nat → Nat), (∀ i, i < n + 1 → f i < n) → ∃ i j, i < j ∧ j < n + 1 ∧ f i = f j
  | 0, f, h => absurd (h 0 (by omega)) (by omega)
  | n + 1, f, h => by
    by_cases q : ∃ i, i < n + 1 ∧ f i = f (n + 1)
    · obtain ⟨i, hi, e⟩ := q
      exact ⟨i, n + 1, hi, by omega, e⟩
    · have ne : ∀ i, i < n + 1 → f i ≠ f (n + 1) := fun i hi e => q ⟨i, hi, e⟩
      have hv := h (n + 1) (by omega)
      obtain ⟨i, j, h1, h2, h3⟩ := mz_pg n (fun i => if f (n + 1) < f i then f i - 1 else f i) (by
        intro i hi
        have a := h i (by omega)
        have b := ne i hi
        show (if f (n + 1) < f i then f i - 1 else f i) < n
        split <;> omega)
      have a := ne i (by omega)
      have b := ne j (by omega)
      refine ⟨i, j, h1, by omega, ?_⟩
      split at h3 <;> split at h3 <;> omega
end
section
/-! the search, pure: nodes (number, left, right, height), masks; one add, the leaves, one pass, the rounds -/
abbrev bd_N : Type := Int32 × Nat × Nat × Nat
abbrev bd_B : Type := Nat × (Nat → bd_N) × (Nat → Int32)
def bd_nu (f : Nat → bd_N) (k : Nat) (x : bd_N) : Nat → bd_N := fun j => if j = k then x else f j
theorem bd_nus {f : Nat → bd_N} {k : Nat} {x : bd_N} : bd_nu f k x k = x := if_pos rfl
theorem bd_nun {f : Nat → bd_N} {k j : Nat} {x : bd_N} (h : j ≠ k) : bd_nu f k x j = f j := if_neg h
def bd_kn (M : Nat → Int32) (m : Int32) : Nat → Bool
  | 0 => false
  | i + 1 => bd_kn M m i || decide (M i = m)
theorem bd_knf {M : Nat → Int32} {m : Int32} : ∀ c, bd_kn M m c = false ↔ ∀ i, i < c → M i ≠ m
  | 0 => ⟨fun _ i h => absurd h (by omega), fun _ => rfl⟩
  | c + 1 => by
    unfold bd_kn
    rw [Bool.or_eq_false_iff, bd_knf c, decide_eq_false_iff_not]
    constructor
    · intro h i hi
      by_cases e : i = c
      · subst e; exact h.2
      · exact h.1 i (by omega)
    · intro h
      exact ⟨fun i hi => h i (by omega), h c (by omega)⟩
theorem bd_knt {M : Nat → Int32} {m : Int32} {c i : Nat} (hi : i < c) (h : M i = m) : bd_kn M m c = true := by
  cases e : bd_kn M m c
  · exact absurd h ((bd_knf c).mp e i hi)
  · rfl
/-- the height of a node with number n over parts of heights p, q -/
def bd_h (n : Int32) (p q : Nat) : Nat := if n < 0 then 1 + max p q else 0
def bd_mk (K F G : Nat → Int32) (S : Nat) (n : Int32) (x y : Nat) (b : bd_B) : Int32 := mz_m K F G n (b.2.2 x) (b.2.2 y) S
def bd_pu (n : Int32) (x y : Nat) (m : Int32) (b : bd_B) : bd_B := (b.1 + 1, bd_nu b.2.1 b.1 (n, x, y, bd_h n (b.2.1 x).2.2.2 (b.2.1 y).2.2.2), upd b.2.2 b.1 m)
def bd_ad (K F G : Nat → Int32) (S : Nat) (n : Int32) (x y : Nat) (b : bd_B) : bd_B :=
  if bd_kn b.2.2 (bd_mk K F G S n x y b) b.1 = true then b else bd_pu n x y (bd_mk K F G S n x y b) b
def bd_in (K F G : Nat → Int32) (S x : Nat) : Nat → Nat → bd_B → bd_B
  | 0, _, b => b
  | d + 1, y, b => bd_in K F G S x d (y + 1) (bd_ad K F G S (-1) x y b)
def bd_ps (K F G : Nat → Int32) (S dn kn : Nat) : Nat → Nat → bd_B → bd_B
  | 0, _, b => b
  | d + 1, x, b => bd_ps K F G S dn kn d (x + 1) (if dn ≤ x then bd_in K F G S x kn 0 b else bd_in K F G S x (kn - dn) dn b)
def bd_rd (K F G : Nat → Int32) (S : Nat) : Nat → Nat → bd_B → bd_B
  | 0, _, b => b
  | r + 1, dn, b => bd_rd K F G S r b.1 (bd_ps K F G S dn b.1 b.1 0 b)
def bd_lf (K F G : Nat → Int32) (S : Nat) : Nat → Nat → bd_B → bd_B
  | 0, _, b => b
  | d + 1, k, b => bd_lf K F G S d (k + 1) (bd_ad K F G S (nI k) 0 0 b)
def bd_0 : bd_B := (0, fun _ => (0, 0, 0, 0), fun _ => 0)
def bd_all (K F G : Nat → Int32) (S T : Nat) : bd_B := bd_rd K F G S 32 0 (bd_lf K F G S (T + 1) 0 bd_0)
/-- a node: an integer, or a pair of two lower ones -/
def bd_nd (T : Nat) (f : Nat → bd_N) (i : Nat) : Prop :=
  ((∃ k, k ≤ T ∧ f i = (nI k, 0, 0, 0)) ∨ (∃ x y, x < i ∧ y < i ∧ f i = (-1, x, y, 1 + max (f x).2.2.2 (f y).2.2.2))) ∧ (f i).2.2.2 ≤ i
def bd_G (K F G : Nat → Int32) (S T : Nat) (b : bd_B) : Prop :=
  (∀ i, i < b.1 → bd_nd T b.2.1 i ∧ b.2.2 i = mz_m K F G (b.2.1 i).1 (b.2.2 (b.2.1 i).2.1) (b.2.2 (b.2.1 i).2.2.1) S)
  ∧ (∀ i j, i < j → j < b.1 → b.2.2 i ≠ b.2.2 j)
/-- what may be added -/
def bd_v (T : Nat) (n : Int32) (x y : Nat) (b : bd_B) : Prop :=
  (∃ k, k ≤ T ∧ n = nI k ∧ x = 0 ∧ y = 0) ∨ (n = -1 ∧ x < b.1 ∧ y < b.1)
theorem bd_neg : (-1 : Int32) < 0 := by decide
theorem bd_ndx {T : Nat} {f g : Nat → bd_N} {i : Nat} (h : ∀ j, j ≤ i → g j = f j) (a : bd_nd T f i) : bd_nd T g i := by
  obtain ⟨a, b⟩ := a
  refine ⟨?_, by rw [h i (Nat.le_refl _)]; exact b⟩
  rcases a with ⟨k, h1, h2⟩ | ⟨x, y, h1, h2, h3⟩
  · exact Or.inl ⟨k, h1, by rw [h i (Nat.le_refl _)]; exact h2⟩
  · exact Or.inr ⟨x, y, h1, h2, by rw [h i (Nat.le_refl _), h x (by omega), h y (by omega)]; exact h3⟩
section
variable {K F G : Nat → Int32} {S T : Nat} {b : bd_B} {n : Int32} {x y : Nat}
theorem bd_adt (h : bd_kn b.2.2 (bd_mk K F G S n x y b) b.1 = true) : bd_ad K F G S n x y b = b := if_pos h
theorem bd_adf (h : bd_kn b.2.2 (bd_mk K F G S n x y b) b.1 = false) : bd_ad K F G S n x y b = bd_pu n x y (bd_mk K F G S n x y b) b := if_neg (by rw [h]; decide)
theorem bd_ndn (hT : T < 2 ^ 31) {f : Nat → bd_N} {i : Nat} (a : bd_nd T f i) : (∃ k, k ≤ T ∧ f i = (nI k, 0, 0, 0) ∧ ¬ (f i).1 < 0) ∨ ((f i).1 = -1 ∧ (f i).2.1 < i ∧ (f i).2.2.1 < i ∧ (f i).2.2.2 = 1 + max (f (f i).2.1).2.2.2 (f (f i).2.2.1).2.2.2) := by
  rcases a.1 with ⟨k, h1, h2⟩ | ⟨x, y, h1, h2, h3⟩
  · refine Or.inl ⟨k, h1, h2, ?_⟩
    rw [h2]
    exact nI_pos (by omega)
  · refine Or.inr ?_
    rw [h3]
    exact ⟨rfl, h1, h2, rfl⟩
theorem bd_Gpu (hT : T < 2 ^ 31) (g : bd_G K F G S T b) (v : bd_v T n x y b) (hk : bd_kn b.2.2 (bd_mk K F G S n x y b) b.1 = false) : bd_G K F G S T (bd_pu n x y (bd_mk K F G S n x y b) b) := by
  obtain ⟨g1, g2⟩ := g
  have hk := (bd_knf _).mp hk
  constructor
  · intro i hi
    have hi : i < b.1 + 1 := hi
    show bd_nd T (bd_nu b.2.1 b.1 _) i ∧ upd b.2.2 b.1 _ i = mz_m K F G (bd_nu b.2.1 b.1 _ i).1 (upd b.2.2 b.1 _ (bd_nu b.2.1 b.1 _ i).2.1) (upd b.2.2 b.1 _ (bd_nu b.2.1 b.1 _ i).2.2.1) S
    by_cases e : i = b.1
    · subst e
      rw [pk_us]
      rcases v with ⟨k, hkT, rfl, rfl, rfl⟩ | ⟨rfl, hx, hy⟩
      · have hp : ¬ nI k < 0 := nI_pos (by omega)
        refine ⟨⟨Or.inl ⟨k, hkT, ?_⟩, ?_⟩, ?_⟩
        · rw [bd_nus]; unfold bd_h; rw [if_neg hp]
        · rw [bd_nus]; unfold bd_h; rw [if_neg hp]; exact Nat.zero_le _
        · rw [bd_nus]; exact mz_lf hp S
      · have ax := (g1 x hx).1.2
        have ay := (g1 y hy).1.2
        refine ⟨⟨Or.inr ⟨x, y, hx, hy, ?_⟩, ?_⟩, ?_⟩
        · rw [bd_nus, bd_nun (by omega), bd_nun (by omega)]; unfold bd_h; rw [if_pos bd_neg]
        · rw [bd_nus]; unfold bd_h; rw [if_pos bd_neg]; show 1 + max _ _ ≤ _; omega
        · rw [bd_nus]; show bd_mk K F G S (-1) x y b = mz_m K F G (-1) (upd b.2.2 b.1 _ x) (upd b.2.2 b.1 _ y) S
          rw [pk_un (by omega), pk_un (by omega)]; rfl
    · have hi : i < b.1 := by omega
      obtain ⟨a1, a2⟩ := g1 i hi
      have e2 : bd_nu b.2.1 b.1 (n, x, y, bd_h n (b.2.1 x).2.2.2 (b.2.1 y).2.2.2) i = b.2.1 i := bd_nun e
      refine ⟨bd_ndx (fun j hj => bd_nun (by omega)) a1, ?_⟩
      rw [e2, pk_un e]
      rcases bd_ndn hT a1 with ⟨k, h1, h2, h3⟩ | ⟨h1, h2, h3, h4⟩
      · rw [a2]; exact mz_lf h3 S
      · rw [pk_un (by omega), pk_un (by omega)]; exact a2
  · intro i j h1 h2
    have h2 : j < b.1 + 1 := h2
    show upd b.2.2 b.1 _ i ≠ upd b.2.2 b.1 _ j
    rw [pk_un (show i ≠ b.1 by omega)]
    by_cases e : j = b.1
    · subst e
      rw [pk_us]
      exact hk i h1
    · rw [pk_un e]
      exact g2 i j h1 (by omega)
theorem bd_Gad (hT : T < 2 ^ 31) (g : bd_G K F G S T b) (v : bd_v T n x y b) : bd_G K F G S T (bd_ad K F G S n x y b) := by
  cases e : bd_kn b.2.2 (bd_mk K F G S n x y b) b.1
  · rw [bd_adf e]; exact bd_Gpu hT g v e
  · rw [bd_adt e]; exact g
/-- never more than 48 -/
theorem bd_cap (hT : T ≤ 15) (hS : S ≤ 32) (hn : mz_np K S ≤ 5) (g : bd_G K F G S T b) : b.1 ≤ 48 := by
  apply Nat.le_of_not_lt
  intro hc
  have hT' : T < 2 ^ 31 := by omega
  obtain ⟨i, j, h1, h2, h3⟩ := mz_pg 48 (fun i => if (b.2.1 i).1 < 0 then 16 + mz_cd K (b.2.2 i) S else (b.2.1 i).1.toNatClampNeg) (by
    intro i hi
    show (if (b.2.1 i).1 < 0 then 16 + mz_cd K (b.2.2 i) S else (b.2.1 i).1.toNatClampNeg) < 48
    rcases bd_ndn hT' (g.1 i (by omega)).1 with ⟨k, h1, h2, h3⟩ | ⟨h1, h2, h3, h4⟩
    · rw [if_neg h3, h2]
      show (nI k).toNatClampNeg < 48
      rw [nI_clamp (by omega)]
      omega
    · rw [if_pos (by rw [h1]; exact bd_neg)]
      have a := mz_cdl K (b.2.2 i) S
      have c : 2 ^ mz_np K S ≤ 2 ^ 5 := Nat.pow_le_pow_right (by decide) hn
      omega)
  have hne := g.2 i j h1 (by omega)
  apply hne
  obtain ⟨ai, mi⟩ := g.1 i (by omega)
  obtain ⟨aj, mj⟩ := g.1 j (by omega)
  rcases bd_ndn hT' ai with ⟨k, p1, p2, p3⟩ | ⟨p1, p2, p3, p4⟩
  · rcases bd_ndn hT' aj with ⟨k', q1, q2, q3⟩ | ⟨q1, q2, q3, q4⟩
    · rw [if_neg p3, if_neg q3, p2, q2] at h3
      have h3 : (nI k).toNatClampNeg = (nI k').toNatClampNeg := h3
      rw [nI_clamp (by omega), nI_clamp (by omega)] at h3
      subst h3
      rw [mi, mj, p2, q2]
    · rw [if_neg p3, if_pos (by rw [q1]; exact bd_neg), p2] at h3
      have h3 : (nI k).toNatClampNeg = _ := h3
      rw [nI_clamp (by omega)] at h3
      omega
  · rcases bd_ndn hT' aj with ⟨k', q1, q2, q3⟩ | ⟨q1, q2, q3, q4⟩
    · rw [if_neg q3, if_pos (by rw [p1]; exact bd_neg), q2] at h3
      have h3 : _ = (nI k').toNatClampNeg := h3
      rw [nI_clamp (by omega)] at h3
      omega
    · rw [if_pos (by rw [p1]; exact bd_neg), if_pos (by rw [q1]; exact bd_neg)] at h3
      have h4 := mz_cdi K (b.2.2 i) (b.2.2 j) S (by omega)
      rw [mi, mj, p1, q1] at h4
      rw [mi, mj, p1, q1]
      exact mz_pr hS h4 S (Nat.le_refl _)
theorem bd_full (hT : T ≤ 15) (hS : S ≤ 32) (hn : mz_np K S ≤ 5) (g : bd_G K F G S T b) (v : bd_v T n x y b) (hc : 48 ≤ b.1) : bd_kn b.2.2 (bd_mk K F G S n x y b) b.1 = true := by
  cases e : bd_kn b.2.2 (bd_mk K F G S n x y b) b.1
  · have a := bd_cap hT hS hn (bd_Gpu (by omega) g v e)
    have a : b.1 + 1 ≤ 48 := a
    omega
  · rfl
theorem bd_le : b.1 ≤ (bd_ad K F G S n x y b).1 := by
  unfold bd_ad
  split
  · exact Nat.le_refl _
  · exact Nat.le_succ _
theorem bd_inle : ∀ d y (b : bd_B), b.1 ≤ (bd_in K F G S x d y b).1
  | 0, _, _ => Nat.le_refl _
  | d + 1, y, b => Nat.le_trans bd_le (bd_inle d (y + 1) _)
theorem bd_psle {dn kn : Nat} : ∀ d x (b : bd_B), b.1 ≤ (bd_ps K F G S dn kn d x b).1
  | 0, _, _ => Nat.le_refl _
  | d + 1, x, b => by
    refine Nat.le_trans ?_ (bd_psle d (x + 1) _)
    split
    · exact bd_inle _ _ _
    · exact bd_inle _ _ _
theorem bd_psn {c : Nat} : ∀ d x (b : bd_B), x + d ≤ c → bd_ps K F G S c c d x b = b
  | 0, _, _, _ => rfl
  | d + 1, x, b, h => by
    unfold bd_ps
    rw [if_neg (by omega), Nat.sub_self]
    exact bd_psn d (x + 1) b (by omega)
theorem bd_rdn : ∀ r (b : bd_B), bd_rd K F G S r b.1 b = b
  | 0, _ => rfl
  | r + 1, b => by
    unfold bd_rd
    rw [bd_psn b.1 0 b (by omega)]
    exact bd_rdn r b
end
/-- heights in a round: below kn all at most hh - 1, just those from dn on are hh - 1; from kn on hh -/
def bd_H (hh dn kn : Nat) (b : bd_B) : Prop :=
  kn ≤ b.1 ∧ (∀ i, i < kn → (b.2.1 i).2.2.2 + 1 ≤ hh ∧ ((b.2.1 i).2.2.2 + 1 = hh ↔ dn ≤ i)) ∧ (∀ i, kn ≤ i → i < b.1 → (b.2.1 i).2.2.2 = hh)
theorem bd_Had {K F G : Nat → Int32} {S hh dn kn x y : Nat} {b : bd_B} (h : bd_H hh dn kn b) (hx : x < kn) (hy : y < kn) (hd : dn ≤ x ∨ dn ≤ y) : bd_H hh dn kn (bd_ad K F G S (-1) x y b) := by
  obtain ⟨h1, h2, h3⟩ := h
  cases e : bd_kn b.2.2 (bd_mk K F G S (-1) x y b) b.1
  · rw [bd_adf e]
    refine ⟨Nat.le_succ_of_le h1, ?_, ?_⟩
    · intro i hi
      show (bd_nu b.2.1 b.1 _ i).2.2.2 + 1 ≤ hh ∧ ((bd_nu b.2.1 b.1 _ i).2.2.2 + 1 = hh ↔ dn ≤ i)
      rw [bd_nun (by omega)]
      exact h2 i hi
    · intro i h4 h5
      have h5 : i < b.1 + 1 := h5
      show (bd_nu b.2.1 b.1 _ i).2.2.2 = hh
      by_cases z : i = b.1
      · subst z
        rw [bd_nus]
        show bd_h (-1) _ _ = hh
        unfold bd_h
        rw [if_pos bd_neg]
        have ax := h2 x hx
        have ay := h2 y hy
        omega
      · rw [bd_nun z]
        exact h3 i h4 (by omega)
  · rw [bd_adt e]; exact ⟨h1, h2, h3⟩
theorem bd_Hn {hh dn kn : Nat} {b : bd_B} (h : bd_H hh dn kn b) : bd_H (hh + 1) kn b.1 b := by
  obtain ⟨h1, h2, h3⟩ := h
  refine ⟨Nat.le_refl _, fun i hi => ?_, fun i h4 h5 => absurd h5 (by omega)⟩
  rcases Nat.lt_or_ge i kn with q | q
  · have a := h2 i q
    omega
  · have a := h3 i q hi
    omega
end
section
/-! the component's small methods: bit, holds, maskOf, isKnown, putNode -/
/-- what slot s asks of its parts -/
def mz_ok (S : Nat) (K F G : Nat → Int32) (s : Nat) : Prop :=
  (K s = 1 → ¬ F s < 0) ∧ (K s = 2 → ∃ a b, a < S ∧ b < S ∧ F s = nI a ∧ G s = nI b)
  ∧ (K s = 3 ∨ K s = 4 ∨ K s = 6 → ∃ a b, a < s ∧ b < s ∧ F s = nI a ∧ G s = nI b) ∧ (K s = 5 → ∃ a, a < s ∧ F s = nI a)
/-- the slots are well formed -/
def qx_C (S T : Nat) (K F G : Nat → Int32) : Prop := S ≤ 12 ∧ T ≤ 15 ∧ mz_np K S ≤ 5 ∧ ∀ s, s < S → mz_ok S K F G s
theorem mz_c {A B : Prop} (b : Bool) (f : b = false → A) (g : b = true → B) : (mz_i b = 0 → A) ∧ (¬ mz_i b = 0 → B) := by
  cases b
  · exact ⟨fun _ => f rfl, fun h => absurd rfl h⟩
  · exact ⟨fun h => absurd h (by decide), fun _ => g rfl⟩
theorem mz_bn (m : Int32) {a : Nat} (h : a < 2 ^ 31) : mz_b m (nI a) = bt m a := by unfold mz_b; rw [nI_clamp h]
section
variable {fs fp ft fc lb sb vb ls sc fr vr pl : Int32} {K F G num lef rig hei msk : Nat → Int32}
theorem xw_bit {post : Int32 → Prop} {m : Int32} {a : Nat} (ha : a < 32) (h : post (mz_i (bt m a))) : wpX_bit post (fs, fp, ft, fc, lb, sb, vb, ls, sc, fr, vr, pl, K, F, G, num, lef, rig, hei, msk) m (nI a) := by
  unfold wpX_bit
  cases e : bt m a
  · rw [e] at h
    exact br_t ((mz_sh m ha).mpr e) h
  · rw [e] at h
    exact br_f (fun z => by rw [(mz_sh m ha).mp z] at e; cases e) h
theorem xw_holds {post : Int32 → Prop} {S s : Nat} {n l r m : Int32} (hs : s < S) (hS : S ≤ 12) (hk : mz_ok S K F G s) (h : post (mz_i (mz_st K F G n l r m s))) : wpX_holds post (fs, fp, ft, fc, lb, sb, vb, ls, sc, fr, vr, pl, K, F, G, num, lef, rig, hei, msk) (nI s) n l r m := by
  have hi : vp_in (nI s) 12 := vp_in_nI (by omega) (by omega)
  have ec : (nI s).toNatClampNeg = s := nI_clamp (by omega)
  unfold wpX_holds
  refine ⟨hi, nm_r (e' := F s) (by rw [ec]) ⟨hi, nm_r (e' := G s) (by rw [ec]) ⟨hi, nm_r (e' := K s) (by rw [ec]) ?_⟩⟩⟩
  unfold mz_st at h
  obtain ⟨k1, k2, k3, k5⟩ := hk
  by_cases c1 : K s = 1
  · rw [if_pos c1] at h
    rw [c1]
    refine br_f (by decide) (br_f (by decide) (br_t rfl ?_))
    by_cases a : F s ≤ n
    · refine br_f (Int32.not_lt.mpr a) ?_
      by_cases b : n ≤ G s
      · rw [decide_eq_true a, decide_eq_true b] at h
        exact br_f (Int32.not_lt.mpr b) h
      · rw [decide_eq_true a, decide_eq_false b] at h
        exact br_t (Int32.not_le.mp b) h
    · rw [decide_eq_false a] at h
      exact br_t (Int32.not_le.mp a) h
  rw [if_neg c1] at h
  by_cases c2 : K s = 2
  · rw [if_pos c2] at h
    obtain ⟨a, b, ha, hb, ea, eb⟩ := k2 c2
    rw [ea, eb, mz_bn l (by omega), mz_bn r (by omega)] at h
    rw [c2, ea, eb]
    refine br_f (by decide) (br_f (by decide) (br_f (by decide) (br_t rfl ?_)))
    by_cases q : n < 0
    · rw [decide_eq_true q] at h
      refine br_f (Int32.not_le.mpr q) (xw_bit (by omega) (mz_c _ (fun e1 => ?_) (fun e1 => xw_bit (by omega) (mz_c _ (fun e2 => ?_) (fun e2 => ?_)))))
      · rw [e1] at h; exact h
      · rw [e1, e2] at h; exact h
      · rw [e1, e2] at h; exact h
    · rw [decide_eq_false q] at h
      exact br_t (Int32.not_lt.mp q) h
  rw [if_neg c2] at h
  by_cases c3 : K s = 3
  · rw [if_pos c3] at h
    obtain ⟨a, b, ha, hb, ea, eb⟩ := k3 (Or.inl c3)
    rw [ea, eb, mz_bn m (by omega), mz_bn m (by omega)] at h
    rw [c3, ea, eb]
    refine br_f (by decide) (br_f (by decide) (br_f (by decide) (br_f (by decide) (br_t rfl ?_))))
    refine xw_bit (by omega) (mz_c _ (fun e1 => xw_bit (by omega) (mz_c _ (fun e2 => ?_) (fun e2 => ?_))) (fun e1 => ?_))
    · rw [e1, e2] at h; exact h
    · rw [e1, e2] at h; exact h
    · rw [e1] at h; exact h
  rw [if_neg c3] at h
  by_cases c4 : K s = 4
  · rw [if_pos c4] at h
    obtain ⟨a, b, ha, hb, ea, eb⟩ := k3 (Or.inr (Or.inl c4))
    rw [ea, eb, mz_bn m (by omega), mz_bn m (by omega)] at h
    rw [c4, ea, eb]
    refine br_f (by decide) (br_f (by decide) (br_f (by decide) (br_f (by decide) (br_f (by decide) (br_t rfl ?_)))))
    refine xw_bit (by omega) (mz_c _ (fun e1 => ?_) (fun e1 => xw_bit (by omega) (mz_c _ (fun e2 => ?_) (fun e2 => ?_))))
    · rw [e1] at h; exact h
    · rw [e1, e2] at h; exact h
    · rw [e1, e2] at h; exact h
  rw [if_neg c4] at h
  by_cases c5 : K s = 5
  · rw [if_pos c5] at h
    obtain ⟨a, ha, ea⟩ := k5 c5
    rw [ea, mz_bn m (by omega)] at h
    rw [c5, ea]
    refine br_f (by decide) (br_f (by decide) (br_f (by decide) (br_f (by decide) (br_f (by decide) (br_f (by decide) (br_t rfl ?_))))))
    refine xw_bit (by omega) (mz_c _ (fun e1 => ?_) (fun e1 => ?_))
    · rw [e1] at h; exact h
    · rw [e1] at h; exact h
  rw [if_neg c5] at h
  by_cases c6 : K s = 6
  · rw [if_pos c6] at h
    obtain ⟨a, b, ha, hb, ea, eb⟩ := k3 (Or.inr (Or.inr c6))
    rw [ea, eb, mz_bn m (by omega), mz_bn m (by omega)] at h
    rw [c6, ea, eb]
    refine br_f (by decide) (br_f (by decide) (br_f (by decide) (br_f (by decide) (br_f (by decide) (br_f (by decide) (br_f (by decide) (br_t rfl ?_)))))))
    refine xw_bit (by omega) (mz_c _ (fun e1 => ?_) (fun e1 => xw_bit (by omega) (mz_c _ (fun e2 => ?_) (fun e2 => ?_))))
    · rw [e1] at h; exact h
    · rw [e1, e2] at h; exact h
    · rw [e1, e2] at h; exact h
  rw [if_neg c6] at h
  exact br_c (fun _ => h) (fun _ => br_c (fun _ => h) (fun _ => br_f c1 (br_f c2 (br_f c3 (br_f c4 (br_f c5 (br_f c6 trivial)))))))
theorem xw_mask {post : Int32 → Prop} {S : Nat} {n l r : Int32} (hS : S ≤ 12) (hk : ∀ s, s < S → mz_ok S K F G s) (h : post (mz_m K F G n l r S)) : ∀ d s q : Nat, s + d = S → d < q → wX_maskOf_6 post n l r (nI S) fp ft fc lb sb vb ls sc fr vr pl K F G num lef rig hei msk q (mz_m K F G n l r s) (nI s)
  | d, s, 0, e, hq => by omega
  | 0, s, q + 1, e, hq => by
    have e : s = S := by omega
    subst e
    exact br_t (nI_le (Nat.le_refl _) (by omega)) h
  | d + 1, s, q + 1, e, hq => by
    have i := xw_mask hS hk h d (s + 1) q (by omega) (by omega)
    refine br_f (nI_ge (by omega) (by omega)) (xw_holds (S := S) (by omega) hS (hk s (by omega)) (mz_c _ (fun c => ?_) (fun c => ?_)))
    · rw [mz_mS, if_neg (by rw [c]; decide)] at i
      exact nm_r (nI_1 s) i
    · rw [mz_mS, if_pos c] at i
      exact nm_e (nm_r (nI_1 s) i)
theorem xw_maskOf {post : Int32 → Prop} {S : Nat} {n l r : Int32} (hS : S ≤ 12) (hk : ∀ s, s < S → mz_ok S K F G s) (h : post (mz_m K F G n l r S)) : wpX_maskOf post (nI S, fp, ft, fc, lb, sb, vb, ls, sc, fr, vr, pl, K, F, G, num, lef, rig, hei, msk) n l r :=
  ⟨S + 1, xw_mask hS hk h S 0 (S + 1) (by omega) (by omega)⟩
theorem xw_kn {post : Int32 → Prop} {c : Nat} {M : Nat → Int32} {m : Int32} (hc : c ≤ 48) (hM : ∀ i, i < c → msk (16 + i) = M i) (h : post (mz_i (bd_kn M m c))) : ∀ d i q : Nat, i + d = c → d < q → (∀ j, j < i → M j ≠ m) → wX_isKnown_2 post m fs fp ft fc lb sb vb ls (nI c) fr vr pl K F G num lef rig hei msk q (nI i)
  | d, i, 0, e, hq, hj => by omega
  | 0, i, q + 1, e, hq, hj => by
    have e : i = c := by omega
    subst e
    rw [(bd_knf i).mpr hj] at h
    exact br_t (nI_le (Nat.le_refl _) (by omega)) h
  | d + 1, i, q + 1, e, hq, hj => by
    have e16 : (16 : Int32) + nI i = nI (16 + i) := nI_add 16 i
    refine br_f (nI_ge (by omega) (by omega)) ?_
    rw [e16, nI_clamp (by omega), hM i (by omega)]
    refine ⟨vp_in_nI (by omega) (by omega), ?_⟩
    by_cases z : M i = m
    · rw [bd_knt (by omega) z] at h
      exact br_t z h
    · exact br_f z (nm_r (nI_1 i) (xw_kn hc hM h d (i + 1) q (by omega) (by omega) (lt_s hj z)))
theorem xw_isKnown {post : Int32 → Prop} {c : Nat} {M : Nat → Int32} {m : Int32} (hc : c ≤ 48) (hM : ∀ i, i < c → msk (16 + i) = M i) (h : post (mz_i (bd_kn M m c))) : wpX_isKnown post (fs, fp, ft, fc, lb, sb, vb, ls, nI c, fr, vr, pl, K, F, G, num, lef, rig, hei, msk) m :=
  ⟨c + 1, xw_kn hc hM h c 0 (c + 1) (by omega) (by omega) (fun j hj => absurd hj (by omega))⟩
theorem xw_put {post : SX → Prop} {o i x y hx hy : Nat} {n : Int32} (ho : o + i < 112) (hn : n < 0 → o + x < 112 ∧ o + y < 112 ∧ hei (o + x) = nI hx ∧ hei (o + y) = nI hy ∧ hx < 1000 ∧ hy < 1000) (hp : post (fs, fp, ft, fc, lb, sb, vb, ls, sc, fr, vr, pl, K, F, G, upd num (o + i) n, upd lef (o + i) (nI x), upd rig (o + i) (nI y), upd hei (o + i) (nI (bd_h n hx hy)), msk)) : wpX_putNode post (fs, fp, ft, fc, lb, sb, vb, ls, sc, fr, vr, pl, K, F, G, num, lef, rig, hei, msk) (nI o) (nI i) n (nI x) (nI y) := by
  have ec : (nI (o + i)).toNatClampNeg = o + i := nI_clamp (by omega)
  have hi : vp_in (nI (o + i)) 112 := vp_in_nI ho (by omega)
  unfold wpX_putNode
  refine nm_r (nI_add o i) ⟨hi, nm_r (e' := upd num (o + i) n) (by rw [ec]) ⟨hi, nm_r (e' := upd lef (o + i) (nI x)) (by rw [ec]) ⟨hi, nm_r (e' := upd rig (o + i) (nI y)) (by rw [ec]) ?_⟩⟩⟩
  unfold bd_h at hp
  refine br_c (fun h => ?_) (fun h => ?_)
  · obtain ⟨a1, a2, a3, a4, a5, a6⟩ := hn h
    rw [if_pos h] at hp
    refine ⟨by rw [nI_add]; exact vp_in_nI a1 (by omega), nm_r (e' := nI hx) (by rw [nI_add, nI_clamp (by omega), a3]) ⟨by rw [nI_add]; exact vp_in_nI a2 (by omega), nm_r (e' := nI hy) (by rw [nI_add, nI_clamp (by omega), a4]) ?_⟩⟩
    refine pk_le hx hy (fun h1 => ⟨hi, ?_⟩) (fun h1 => ⟨hi, ?_⟩)
    · rw [Nat.max_eq_right h1] at hp
      exact nm_r (e' := upd hei (o + i) (nI (1 + hy))) (by rw [ec, show (1 : Int32) + nI hy = nI (1 + hy) from nI_add 1 hy]) hp
    · rw [Nat.max_eq_left (Nat.le_of_lt h1)] at hp
      exact nm_r (e' := upd hei (o + i) (nI (1 + hx))) (by rw [ec, show (1 : Int32) + nI hx = nI (1 + hx) from nI_add 1 hx]) hp
  · rw [if_neg h] at hp
    exact ⟨hi, nm_r (e' := upd hei (o + i) (nI 0)) (by rw [ec]; rfl) hp⟩
theorem xw_isSlot {post : Int32 → Prop} {S : Nat} (hS : S ≤ 12) {p : Int32} (h0 : ¬ (∃ s, s < S ∧ p = nI s) → post 0) (h1 : ∀ s, s < S → p = nI s → post 1) : wpX_isSlot post (nI S, fp, ft, fc, lb, sb, vb, ls, sc, fr, vr, pl, K, F, G, num, lef, rig, hei, msk) p := by
  unfold wpX_isSlot
  rcases pk_ix p (n := S) (by omega) with h | h | ⟨s, hs, rfl⟩
  · exact br_t h (h0 (fun ⟨s, hs, e⟩ => nI_pos (n := s) (by omega) (e ▸ h)))
  · refine br_c (fun q => h0 (fun ⟨s, hs, e⟩ => nI_pos (n := s) (by omega) (e ▸ q))) (fun q => br_t h (h0 (fun ⟨s, hs, e⟩ => nI_ge hs (by omega) (e ▸ h))))
  · exact br_f (nI_pos (by omega)) (br_f (nI_ge hs (by omega)) (h1 s hs rfl))
theorem xw_isListed {post : Int32 → Prop} {L : Nat} (hL : L ≤ 16) {p : Int32} (h0 : ¬ (∃ s, s < L ∧ p = nI s) → post 0) (h1 : ∀ s, s < L → p = nI s → post 1) : wpX_isListed post (fs, fp, ft, fc, lb, sb, vb, nI L, sc, fr, vr, pl, K, F, G, num, lef, rig, hei, msk) p := by
  unfold wpX_isListed
  rcases pk_ix p (n := L) (by omega) with h | h | ⟨s, hs, rfl⟩
  · exact br_t h (h0 (fun ⟨s, hs, e⟩ => nI_pos (n := s) (by omega) (e ▸ h)))
  · refine br_c (fun q => h0 (fun ⟨s, hs, e⟩ => nI_pos (n := s) (by omega) (e ▸ q))) (fun q => br_t h (h0 (fun ⟨s, hs, e⟩ => nI_ge hs (by omega) (e ▸ h))))
  · exact br_f (nI_pos (by omega)) (br_f (nI_ge hs (by omega)) (h1 s hs rfl))
end
end
section
/-! the component's search: addState, tryPairs, buildStates -/
/-- c nodes of f lie in the component's arrays from o on -/
def xr_ (o c : Nat) (f : Nat → bd_N) (num lef rig hei : Nat → Int32) : Prop :=
  ∀ i, i < c → num (o + i) = (f i).1 ∧ lef (o + i) = nI (f i).2.1 ∧ rig (o + i) = nI (f i).2.2.1 ∧ hei (o + i) = nI (f i).2.2.2
/-- outside a to b the arrays are those of the start -/
def xr_fr (a b : Nat) (num lef rig hei nu0 le0 ri0 he0 : Nat → Int32) : Prop :=
  ∀ j, j < a ∨ b ≤ j → num j = nu0 j ∧ lef j = le0 j ∧ rig j = ri0 j ∧ hei j = he0 j
theorem xr_put {o c : Nat} {f : Nat → bd_N} {num lef rig hei : Nat → Int32} (h : xr_ o c f num lef rig hei) (nd : bd_N) : xr_ o (c + 1) (bd_nu f c nd) (upd num (o + c) nd.1) (upd lef (o + c) (nI nd.2.1)) (upd rig (o + c) (nI nd.2.2.1)) (upd hei (o + c) (nI nd.2.2.2)) := by
  intro i hi
  by_cases e : i = c
  · subst e
    rw [bd_nus, pk_us, pk_us, pk_us, pk_us]
    exact ⟨rfl, rfl, rfl, rfl⟩
  · rw [bd_nun e, pk_un (by omega), pk_un (by omega), pk_un (by omega), pk_un (by omega)]
    exact h i (by omega)
theorem xr_frp {a b p : Nat} {num lef rig hei nu0 le0 ri0 he0 : Nat → Int32} {v1 v2 v3 v4 : Int32} (h : xr_fr a b num lef rig hei nu0 le0 ri0 he0) (h1 : a ≤ p) (h2 : p < b) : xr_fr a b (upd num p v1) (upd lef p v2) (upd rig p v3) (upd hei p v4) nu0 le0 ri0 he0 := by
  intro j hj
  rw [pk_un (by omega), pk_un (by omega), pk_un (by omega), pk_un (by omega)]
  exact h j hj
theorem xr_keep {o c a b : Nat} {f : Nat → bd_N} {num lef rig hei nu0 le0 ri0 he0 : Nat → Int32} (h : xr_ o c f nu0 le0 ri0 he0) (w : xr_fr a b num lef rig hei nu0 le0 ri0 he0) (hd : o + c ≤ a ∨ b ≤ o) : xr_ o c f num lef rig hei := by
  intro i hi
  obtain ⟨a1, a2, a3, a4⟩ := w (o + i) (by omega)
  rw [a1, a2, a3, a4]
  exact h i hi
theorem xr_le {o c d : Nat} {f : Nat → bd_N} {num lef rig hei : Nat → Int32} (h : xr_ o c f num lef rig hei) (hd : d ≤ c) : xr_ o d f num lef rig hei := fun i hi => h i (by omega)
def xs_P (K F G : Nat → Int32) (S T : Nat) (b : bd_B) (num lef rig hei msk nu0 le0 ri0 he0 : Nat → Int32) : Prop :=
  bd_G K F G S T b ∧ xr_ 16 b.1 b.2.1 num lef rig hei ∧ (∀ i, i < b.1 → msk (16 + i) = b.2.2 i) ∧ xr_fr 16 64 num lef rig hei nu0 le0 ri0 he0
section
variable {S P T C : Nat} {ls sc fr vr pl : Int32} {K F G num lef rig hei msk nu0 le0 ri0 he0 : Nat → Int32}
theorem xw_ad {post : SX → Prop} {b : bd_B} {n : Int32} {x y : Nat} (cx : qx_C S T K F G) (h : xs_P K F G S T b num lef rig hei msk nu0 le0 ri0 he0) (v : bd_v T n x y b)
    (hp : ∀ num' lef' rig' hei' msk', xs_P K F G S T (bd_ad K F G S n x y b) num' lef' rig' hei' msk' nu0 le0 ri0 he0 → post (nI S, nI P, nI T, nI C, 0, 16, 64, ls, nI (bd_ad K F G S n x y b).1, fr, vr, pl, K, F, G, num', lef', rig', hei', msk')) :
    wpX_addState post (nI S, nI P, nI T, nI C, 0, 16, 64, ls, nI b.1, fr, vr, pl, K, F, G, num, lef, rig, hei, msk) n (nI x) (nI y) := by
  obtain ⟨hS, hT, hN, hk⟩ := cx
  have h0 := h
  obtain ⟨g, r1, r2, r3⟩ := h
  have hc := bd_cap hT (by omega) hN g
  have hxy : x < 49 ∧ y < 49 := by
    rcases v with ⟨k, _, _, e1, e2⟩ | ⟨_, e1, e2⟩ <;> omega
  have ex : ((16 : Int32) + nI x) = nI (16 + x) := nI_add 16 x
  have ey : ((16 : Int32) + nI y) = nI (16 + y) := nI_add 16 y
  have cx : (nI (16 + x)).toNatClampNeg = 16 + x := nI_clamp (by omega)
  have cy : (nI (16 + y)).toNatClampNeg = 16 + y := nI_clamp (by omega)
  have em : mz_m K F G n (msk (16 + x)) (msk (16 + y)) S = bd_mk K F G S n x y b := by
    rcases v with ⟨k, hk, rfl, rfl, rfl⟩ | ⟨rfl, e1, e2⟩
    · exact mz_lf (nI_pos (by omega)) S
    · rw [r2 x e1, r2 y e2]; rfl
  unfold wpX_addState
  rw [ex, ey, cx, cy]
  refine ⟨vp_in_nI (by omega) (by omega), vp_in_nI (by omega) (by omega), xw_maskOf hS hk ?_⟩
  rw [em]
  refine pk_le 48 b.1 (fun h48 => ?_) (fun h48 => ?_)
  · have e := bd_full hT (by omega) hN g v h48
    rw [bd_adt e] at hp
    exact hp _ _ _ _ _ h0
  · refine xw_isKnown hc r2 (mz_c _ (fun e => ?_) (fun e => ?_))
    · rw [bd_adf e] at hp
      refine xw_put (o := 16) (i := b.1) (hx := (b.2.1 x).2.2.2) (hy := (b.2.1 y).2.2.2) (by omega) (fun hn => ?_) ?_
      · rcases v with ⟨k, hk, rfl, rfl, rfl⟩ | ⟨rfl, e1, e2⟩
        · exact absurd hn (nI_pos (by omega))
        · have ax := (g.1 x e1).1.2
          have ay := (g.1 y e2).1.2
          exact ⟨by omega, by omega, (r1 x e1).2.2.2, (r1 y e2).2.2.2, by omega, by omega⟩
      · have e16 : ((16 : Int32) + nI b.1) = nI (16 + b.1) := nI_add 16 b.1
        have c16 : (nI (16 + b.1)).toNatClampNeg = 16 + b.1 := nI_clamp (by omega)
        refine ⟨by rw [e16]; exact vp_in_nI (by omega) (by omega), nm_r (e' := upd msk (16 + b.1) (bd_mk K F G S n x y b)) (by rw [e16, c16]) (nm_r (nI_1 b.1) (hp _ _ _ _ _ ?_))⟩
        refine ⟨bd_Gpu (by omega) g v e, xr_put r1 (n, x, y, bd_h n (b.2.1 x).2.2.2 (b.2.1 y).2.2.2), ?_, xr_frp r3 (by omega) (by omega)⟩
        intro i hi
        have hi : i < b.1 + 1 := hi
        show upd msk (16 + b.1) _ (16 + i) = upd b.2.2 b.1 _ i
        by_cases z : i = b.1
        · subst z
          rw [pk_us, pk_us]
        · rw [pk_un (by omega), pk_un z]
          exact r2 i (by omega)
    · rw [bd_adt e] at hp
      exact hp _ _ _ _ _ h0
theorem xw_in {post : SX → Prop} {J2 : Int32 → Int32 → Int32 → Int32 → Int32 → Int32 → Int32 → Int32 → Int32 → Int32 → Int32 → Int32 → Int32 → (Nat → Int32) → (Nat → Int32) → (Nat → Int32) → (Nat → Int32) → (Nat → Int32) → (Nat → Int32) → (Nat → Int32) → (Nat → Int32) → Prop} {x1 : Int32} {kn x : Nat} (cx : qx_C S T K F G) (hx : x < kn) : ∀ (d y q : Nat) (b : bd_B) (num lef rig hei msk : Nat → Int32), y + d = kn → d < q → kn ≤ b.1 → xs_P K F G S T b num lef rig hei msk nu0 le0 ri0 he0 →
    (∀ num' lef' rig' hei' msk', xs_P K F G S T (bd_in K F G S x d y b) num' lef' rig' hei' msk' nu0 le0 ri0 he0 → J2 (nI (x + 1)) (nI S) (nI P) (nI T) (nI C) 0 16 64 ls (nI (bd_in K F G S x d y b).1) fr vr pl K F G num' lef' rig' hei' msk') →
    wX_tryPairs_23 post J2 x1 (nI kn) (nI x) q (nI y) (nI S) (nI P) (nI T) (nI C) 0 16 64 ls (nI b.1) fr vr pl K F G num lef rig hei msk
  | d, y, 0, b, num, lef, rig, hei, msk, e, hq, hb, h, hp => by omega
  | 0, y, q + 1, b, num, lef, rig, hei, msk, e, hq, hb, h, hp => by
    have hc := bd_cap cx.2.1 (by have := cx.1; omega) cx.2.2.1 h.1
    exact br_t (nI_le (by omega) (by omega)) (nm_r (nI_1 x) (hp _ _ _ _ _ h))
  | d + 1, y, q + 1, b, num, lef, rig, hei, msk, e, hq, hb, h, hp => by
    have hc := bd_cap cx.2.1 (by have := cx.1; omega) cx.2.2.1 h.1
    refine br_f (nI_ge (by omega) (by omega)) (xw_ad cx h (Or.inr ⟨rfl, by omega, by omega⟩) (fun num' lef' rig' hei' msk' h' => nm_r (nI_1 y) ?_))
    exact xw_in cx hx d (y + 1) q _ num' lef' rig' hei' msk' (by omega) (by omega) (Nat.le_trans hb bd_le) h' hp
theorem xw_ps {post : SX → Prop} {dn kn : Nat} (cx : qx_C S T K F G) (hd : dn ≤ kn) : ∀ (d x q : Nat) (b : bd_B) (num lef rig hei msk : Nat → Int32), x + d = kn → d < q → kn ≤ b.1 → xs_P K F G S T b num lef rig hei msk nu0 le0 ri0 he0 →
    (∀ num' lef' rig' hei' msk', xs_P K F G S T (bd_ps K F G S dn kn d x b) num' lef' rig' hei' msk' nu0 le0 ri0 he0 → post (nI S, nI P, nI T, nI C, 0, 16, 64, ls, nI (bd_ps K F G S dn kn d x b).1, fr, vr, pl, K, F, G, num', lef', rig', hei', msk')) →
    wX_tryPairs_2 post (nI dn) (nI kn) q (nI x) (nI S) (nI P) (nI T) (nI C) 0 16 64 ls (nI b.1) fr vr pl K F G num lef rig hei msk
  | d, y, 0, b, num, lef, rig, hei, msk, e, hq, hb, h, hp => by omega
  | 0, x, q + 1, b, num, lef, rig, hei, msk, e, hq, hb, h, hp => by
    have hc := bd_cap cx.2.1 (by have := cx.1; omega) cx.2.2.1 h.1
    exact br_t (nI_le (by omega) (by omega)) (hp _ _ _ _ _ h)
  | d + 1, x, q + 1, b, num, lef, rig, hei, msk, e, hq, hb, h, hp => by
    have hc := bd_cap cx.2.1 (by have := cx.1; omega) cx.2.2.1 h.1
    unfold bd_ps at hp
    refine br_f (nI_ge (by omega) (by omega)) (pk_le dn x (fun hx => ⟨kn + 1, ?_⟩) (fun hx => ⟨kn + 1, ?_⟩))
    · rw [if_pos hx] at hp
      refine xw_in cx (by omega) kn 0 (kn + 1) b num lef rig hei msk (by omega) (by omega) hb h (fun num' lef' rig' hei' msk' h' => ?_)
      exact xw_ps cx hd d (x + 1) q _ num' lef' rig' hei' msk' (by omega) (by omega) (Nat.le_trans hb (bd_inle _ _ _)) h' hp
    · rw [if_neg (by omega)] at hp
      refine xw_in cx (by omega) (kn - dn) dn (kn + 1) b num lef rig hei msk (by omega) (by omega) hb h (fun num' lef' rig' hei' msk' h' => ?_)
      exact xw_ps cx hd d (x + 1) q _ num' lef' rig' hei' msk' (by omega) (by omega) (Nat.le_trans hb (bd_inle _ _ _)) h' hp
theorem xw_rd {post : SX → Prop} (cx : qx_C S T K F G) : ∀ (r q dn : Nat) (b : bd_B) (num lef rig hei msk : Nat → Int32), r ≤ 32 → r < q → dn ≤ b.1 → xs_P K F G S T b num lef rig hei msk nu0 le0 ri0 he0 →
    (∀ num' lef' rig' hei' msk', xs_P K F G S T (bd_rd K F G S r dn b) num' lef' rig' hei' msk' nu0 le0 ri0 he0 → post (nI S, nI P, nI T, nI C, 0, 16, 64, ls, nI (bd_rd K F G S r dn b).1, 1, vr, pl, K, F, G, num', lef', rig', hei', msk')) →
    wX_buildStates_32 post q (nI dn) (nI (32 - r)) (nI S) (nI P) (nI T) (nI C) 0 16 64 ls (nI b.1) fr vr pl K F G num lef rig hei msk
  | r, 0, dn, b, num, lef, rig, hei, msk, hr, hq, hb, h, hp => by omega
  | 0, q + 1, dn, b, num, lef, rig, hei, msk, hr, hq, hb, h, hp => by
    exact br_t (nI_le (a := 32) (b := 32 - 0) (by omega) (by omega)) (hp _ _ _ _ _ h)
  | r + 1, q + 1, dn, b, num, lef, rig, hei, msk, hr, hq, hb, h, hp => by
    have hc := bd_cap cx.2.1 (by have := cx.1; omega) cx.2.2.1 h.1
    refine br_f (nI_ge (a := 32 - (r + 1)) (b := 32) (by omega) (by omega)) (pk_le b.1 dn (fun hx => ?_) (fun hx => ?_))
    · have e : dn = b.1 := by omega
      subst e
      rw [bd_rdn] at hp
      exact hp _ _ _ _ _ h
    · refine ⟨b.1 + 1, xw_ps (dn := dn) (kn := b.1) cx hb b.1 0 (b.1 + 1) b num lef rig hei msk (by omega) (by omega) (Nat.le_refl _) h (fun num' lef' rig' hei' msk' h' => nm_r (e' := nI (32 - r)) (by rw [nI_1]; exact congrArg nI (by omega)) ?_)⟩
      exact xw_rd cx r q b.1 _ num' lef' rig' hei' msk' (by omega) (by omega) (bd_psle _ _ _) h' hp
theorem xw_lf {post : SX → Prop} (cx : qx_C S T K F G) : ∀ (d k q : Nat) (b : bd_B) (num lef rig hei msk : Nat → Int32), k + d = T + 1 → d < q → xs_P K F G S T b num lef rig hei msk nu0 le0 ri0 he0 →
    (∀ num' lef' rig' hei' msk', xs_P K F G S T (bd_lf K F G S d k b) num' lef' rig' hei' msk' nu0 le0 ri0 he0 → ∃ n32 : Nat, wX_buildStates_32 post n32 0 0 (nI S) (nI P) (nI T) (nI C) 0 16 64 ls (nI (bd_lf K F G S d k b).1) fr vr pl K F G num' lef' rig' hei' msk') →
    wX_buildStates_7 post q (nI k) (nI S) (nI P) (nI T) (nI C) 0 16 64 ls (nI b.1) fr vr pl K F G num lef rig hei msk
  | d, y, 0, b, num, lef, rig, hei, msk, e, hq, h, hp => by omega
  | 0, k, q + 1, b, num, lef, rig, hei, msk, e, hq, h, hp => by
    have hT := cx.2.1
    exact br_t (nI_lt (by omega) (by omega)) (hp _ _ _ _ _ h)
  | d + 1, k, q + 1, b, num, lef, rig, hei, msk, e, hq, h, hp => by
    have hT := cx.2.1
    refine br_f (nI_nlt (by omega) (by omega)) (xw_ad (x := 0) (y := 0) cx h (Or.inl ⟨k, by omega, rfl, rfl, rfl⟩) (fun num' lef' rig' hei' msk' h' => nm_r (nI_1 k) ?_))
    exact xw_lf cx d (k + 1) q _ num' lef' rig' hei' msk' (by omega) (by omega) h' hp
theorem xs_P0 : xs_P K F G S T bd_0 num lef rig hei msk num lef rig hei :=
  ⟨⟨fun i hi => absurd hi (Nat.not_lt_zero _), fun i j _ hj => absurd hj (Nat.not_lt_zero _)⟩, fun i hi => absurd hi (Nat.not_lt_zero _), fun i hi => absurd hi (Nat.not_lt_zero _), fun j _ => ⟨rfl, rfl, rfl, rfl⟩⟩
theorem xw_build {post : SX → Prop} (cx : qx_C S T K F G)
    (hp : ∀ num' lef' rig' hei' msk', xs_P K F G S T (bd_all K F G S T) num' lef' rig' hei' msk' num lef rig hei → post (nI S, nI P, nI T, nI C, 0, 16, 64, ls, nI (bd_all K F G S T).1, 1, vr, pl, K, F, G, num', lef', rig', hei', msk')) :
    wpX_buildStates post (nI S, nI P, nI T, nI C, 0, 16, 64, ls, sc, fr, vr, pl, K, F, G, num, lef, rig, hei, msk) := by
  unfold wpX_buildStates
  refine ⟨T + 2, xw_lf cx (T + 1) 0 (T + 2) bd_0 num lef rig hei msk (by omega) (by omega) xs_P0 (fun num' lef' rig' hei' msk' h' => ⟨33, ?_⟩)⟩
  exact xw_rd cx 32 33 0 _ num' lef' rig' hei' msk' (by omega) (by omega) (Nat.zero_le _) h' hp
end
end
section
/-! the component: the scan of the states, the copy to the view, membership from below -/
/-- the first from i on, d of them to see, that is in a, and in b or not as w says -/
def bd_fi (M : Nat → Int32) (a c : Nat) (w : Bool) : Nat → Nat → Option Nat
  | 0, _ => none
  | d + 1, i => if bt (M i) a = true ∧ bt (M i) c = w then some i else bd_fi M a c w d (i + 1)
theorem bd_fil {M : Nat → Int32} {a c : Nat} {w : Bool} : ∀ {d i j : Nat}, bd_fi M a c w d i = some j → i ≤ j ∧ j < i + d
  | 0, i, j, h => by cases h
  | d + 1, i, j, h => by
    unfold bd_fi at h
    split at h
    · cases h; omega
    · have := bd_fil h
      omega
/-- the masks of the first j nodes -/
def fm_ (K F G : Nat → Int32) (S : Nat) (f : Nat → bd_N) : Nat → Nat → Int32
  | 0 => fun _ => 0
  | j + 1 => upd (fm_ K F G S f j) j (mz_m K F G (f j).1 (fm_ K F G S f j (f j).2.1) (fm_ K F G S f j (f j).2.2.1) S)
theorem fm_s (K F G : Nat → Int32) (S : Nat) (f : Nat → bd_N) (j : Nat) : fm_ K F G S f (j + 1) = upd (fm_ K F G S f j) j (mz_m K F G (f j).1 (fm_ K F G S f j (f j).2.1) (fm_ K F G S f j (f j).2.2.1) S) := rfl
section
variable {S P T C : Nat} {ls sc fr vr pl : Int32} {K F G num lef rig hei msk nu0 le0 ri0 he0 ms0 : Nat → Int32}
theorem xw_fi {post : Int32 → SX → Prop} {M : Nat → Int32} {a c k : Nat} {w : Bool} (ha : a < 32) (hc : c < 32) (hk : k ≤ 48) (hM : ∀ i, i < k → msk (16 + i) = M i) : ∀ d i q : Nat, i + d = k → d < q →
    (bd_fi M a c w d i = none → post (-1) (nI S, nI P, nI T, nI C, 0, 16, 64, ls, nI k, fr, vr, pl, K, F, G, num, lef, rig, hei, msk)) → (∀ j, bd_fi M a c w d i = some j → post (nI j) (nI S, nI P, nI T, nI C, 0, 16, 64, ls, nI k, fr, vr, pl, K, F, G, num, lef, rig, hei, msk)) →
    wX_leastState_14 post (nI a) (nI c) (mz_i w) (nI S) (nI P) (nI T) (nI C) 0 16 64 ls (nI k) fr vr pl K F G num lef rig hei msk q (nI i)
  | d, i, 0, e, hq, hn, hs => by omega
  | 0, i, q + 1, e, hq, hn, hs => br_t (nI_le (by omega) (by omega)) (hn rfl)
  | d + 1, i, q + 1, e, hq, hn, hs => by
    have e16 : ((16 : Int32) + nI i) = nI (16 + i) := nI_add 16 i
    have c16 : (nI (16 + i)).toNatClampNeg = 16 + i := nI_clamp (by omega)
    unfold bd_fi at hn hs
    refine br_f (nI_ge (by omega) (by omega)) ⟨by rw [e16]; exact vp_in_nI (by omega) (by omega), nm_r (e' := M i) (by rw [e16, c16, hM i (by omega)]) (xw_bit ha (mz_c _ (fun e1 => ?_) (fun e1 => xw_bit hc ?_)))⟩
    · rw [if_neg (fun z => by rw [e1] at z; cases z.1)] at hn hs
      exact nm_r (nI_1 i) (xw_fi ha hc hk hM d (i + 1) q (by omega) (by omega) hn hs)
    · by_cases e2 : bt (M i) c = w
      · rw [if_pos ⟨e1, e2⟩] at hs
        exact br_t ((mz_ij _ _).mpr e2) (hs i rfl)
      · rw [if_neg (fun z => e2 z.2)] at hn hs
        exact br_f (fun z => e2 ((mz_ij _ _).mp z)) (nm_r (nI_1 i) (xw_fi ha hc hk hM d (i + 1) q (by omega) (by omega) hn hs))
theorem xw_sh {post : SX → Prop} {o i : Nat} {f : Nat → bd_N} (hT : T ≤ 15) (ho : o + i < 64) (hi : i < 48) (hf : ∀ j, j ≤ i → bd_nd T f j) (hx : xr_ o (i + 1) f nu0 le0 ri0 he0) : ∀ (d j q : Nat) (num lef rig hei : Nat → Int32), j + d = i + 1 → d < q → xr_ 64 j f num lef rig hei → xr_fr 64 112 num lef rig hei nu0 le0 ri0 he0 →
    (∀ num' lef' rig' hei', xr_ 64 (i + 1) f num' lef' rig' hei' → xr_fr 64 112 num' lef' rig' hei' nu0 le0 ri0 he0 → post (nI S, nI P, nI T, nI C, 0, 16, 64, ls, sc, fr, nI i, nI i, K, F, G, num', lef', rig', hei', msk)) →
    wX_show_2 post (nI o) (nI i) q (nI j) (nI S) (nI P) (nI T) (nI C) 0 16 64 ls sc fr vr pl K F G num lef rig hei msk
  | d, j, 0, num, lef, rig, hei, e, hq, h1, h2, hp => by omega
  | 0, j, q + 1, num, lef, rig, hei, e, hq, h1, h2, hp => by
    have e : j = i + 1 := by omega
    subst e
    exact br_t (nI_lt (by omega) (by omega)) (hp _ _ _ _ h1 h2)
  | d + 1, j, q + 1, num, lef, rig, hei, e, hq, h1, h2, hp => by
    have hv : vp_in (nI (o + j)) 112 := vp_in_nI (by omega) (by omega)
    have cj : (nI (o + j)).toNatClampNeg = o + j := nI_clamp (by omega)
    obtain ⟨a1, a2, a3, a4⟩ := h2 (o + j) (by omega)
    obtain ⟨b1, b2, b3, b4⟩ := hx j (by omega)
    have hj := hf j (by omega)
    refine br_f (nI_nlt (by omega) (by omega)) (nm_r (nI_add o j) ⟨hv, hv, hv, ?_⟩)
    rw [cj, a1, a2, a3, b1, b2, b3]
    refine xw_put (o := 64) (i := j) (hx := (f (f j).2.1).2.2.2) (hy := (f (f j).2.2.1).2.2.2) (by omega) (fun hn => ?_) (nm_r (nI_1 j) ?_)
    · rcases bd_ndn (by omega) hj with ⟨k, _, _, z⟩ | ⟨z1, z2, z3, z4⟩
      · exact absurd hn z
      · have l1 := (hf (f j).2.1 (by omega)).2
        have l2 := (hf (f j).2.2.1 (by omega)).2
        exact ⟨by omega, by omega, (h1 _ z2).2.2.2, (h1 _ z3).2.2.2, by omega, by omega⟩
    · refine xw_sh hT ho hi hf hx d (j + 1) q _ _ _ _ (by omega) (by omega) ?_ (xr_frp h2 (by omega) (by omega)) hp
      have eh : bd_h (f j).1 (f (f j).2.1).2.2.2 (f (f j).2.2.1).2.2.2 = (f j).2.2.2 := by
        unfold bd_h
        rcases bd_ndn (by omega) hj with ⟨k, z0, z1, z⟩ | ⟨z1, z2, z3, z4⟩
        · rw [if_neg z, z1]
        · rw [if_pos (by rw [z1]; exact bd_neg), z4]
      rw [eh]
      intro i' hi'
      have w := xr_put h1 (f j) i' hi'
      by_cases z : i' = j
      · subst z
        rw [bd_nus] at w
        exact w
      · rw [bd_nun z] at w
        exact w
theorem xw_show {post : SX → Prop} {o i : Nat} {f : Nat → bd_N} (hT : T ≤ 15) (ho : o + i < 64) (hi : i < 48) (hf : ∀ j, j ≤ i → bd_nd T f j) (hx : xr_ o (i + 1) f num lef rig hei)
    (hp : ∀ num' lef' rig' hei', xr_ 64 (i + 1) f num' lef' rig' hei' → xr_fr 64 112 num' lef' rig' hei' num lef rig hei → post (nI S, nI P, nI T, nI C, 0, 16, 64, ls, sc, fr, nI i, nI i, K, F, G, num', lef', rig', hei', msk)) :
    wpX_show post (nI S, nI P, nI T, nI C, 0, 16, 64, ls, sc, fr, vr, pl, K, F, G, num, lef, rig, hei, msk) (nI o) (nI i) :=
  ⟨i + 2, xw_sh hT ho hi hf hx (i + 1) 0 (i + 2) num lef rig hei (by omega) (by omega) (fun j hj => absurd hj (Nat.not_lt_zero _)) (fun j _ => ⟨rfl, rfl, rfl, rfl⟩) hp⟩
theorem xw_show0 {post : SX → Prop} {o : Int32} (hp : post (nI S, nI P, nI T, nI C, 0, 16, 64, ls, sc, fr, -1, -1, K, F, G, num, lef, rig, hei, msk)) : wpX_show post (nI S, nI P, nI T, nI C, 0, 16, 64, ls, sc, fr, vr, pl, K, F, G, num, lef, rig, hei, msk) o (-1) :=
  ⟨1, br_t (by decide) hp⟩
theorem xw_mb {post : Int32 → SX → Prop} {o i t : Nat} {f : Nat → bd_N} (hS : S ≤ 12) (hT : T ≤ 15) (hk : ∀ s, s < S → mz_ok S K F G s) (ht : t < 32) (ho : o + i < 112) (hi : i < 48) (hf : ∀ j, j ≤ i → bd_nd T f j) (hx : xr_ o (i + 1) f num lef rig hei) : ∀ (d j q : Nat) (msk : Nat → Int32), j + d = i + 1 → d < q → (∀ i', i' < j → msk (o + i') = fm_ K F G S f j i') → (∀ p, p < o ∨ o + i < p → msk p = ms0 p) →
    (∀ msk', (∀ p, p < o ∨ o + i < p → msk' p = ms0 p) → post (mz_i (bt (fm_ K F G S f (i + 1) i) t)) (nI S, nI P, nI T, nI C, 0, 16, 64, ls, sc, fr, vr, pl, K, F, G, num, lef, rig, hei, msk')) →
    wX_member_3 post (nI o) (nI i) (nI t) (nI S) (nI P) (nI T) (nI C) 0 16 64 ls sc fr vr pl q (nI j) K F G num lef rig hei msk
  | d, j, 0, msk, e, hq, h1, h2, hp => by omega
  | 0, j, q + 1, msk, e, hq, h1, h2, hp => by
    have e : j = i + 1 := by omega
    subst e
    have hp := hp msk h2
    rw [← h1 i (by omega)] at hp
    refine br_t (nI_lt (by omega) (by omega)) ?_
    rw [nI_add, nI_clamp (by omega)]
    refine ⟨vp_in_nI (by omega) (by omega), xw_bit ht (mz_c _ (fun e1 => ?_) (fun e1 => ?_))⟩
    · rw [e1] at hp; exact hp
    · rw [e1] at hp; exact hp
  | d + 1, j, q + 1, msk, e, hq, h1, h2, hp => by
    have hv : vp_in (nI (o + j)) 112 := vp_in_nI (by omega) (by omega)
    have cj : (nI (o + j)).toNatClampNeg = o + j := nI_clamp (by omega)
    obtain ⟨b1, b2, b3, b4⟩ := hx j (by omega)
    have hj := hf j (by omega)
    have hlt : (f j).2.1 < 49 ∧ (f j).2.2.1 < 49 ∧ (f j).2.1 ≤ j ∧ (f j).2.2.1 ≤ j := by
      rcases bd_ndn (by omega) hj with ⟨k, z0, z1, z⟩ | ⟨z1, z2, z3, z4⟩
      · rw [z1]; exact ⟨by show 0 < 49; omega, by show 0 < 49; omega, Nat.zero_le _, Nat.zero_le _⟩
      · omega
    have em : mz_m K F G (f j).1 (msk (o + (f j).2.1)) (msk (o + (f j).2.2.1)) S = mz_m K F G (f j).1 (fm_ K F G S f j (f j).2.1) (fm_ K F G S f j (f j).2.2.1) S := by
      rcases bd_ndn (by omega) hj with ⟨k, z0, z1, z⟩ | ⟨z1, z2, z3, z4⟩
      · exact mz_lf z S
      · rw [h1 _ z2, h1 _ z3]
    refine br_f (nI_nlt (by omega) (by omega)) (nm_r (nI_add o j) ?_)
    rw [cj, b1, b2, b3, nI_add, nI_add, nI_clamp (by omega), nI_clamp (by omega)]
    refine ⟨hv, vp_in_nI (by omega) (by omega), nm_e ⟨hv, vp_in_nI (by omega) (by omega), nm_e ⟨hv, xw_maskOf hS hk ?_⟩⟩⟩
    rw [em]
    refine ⟨hv, nm_e (nm_r (nI_1 j) ?_)⟩
    refine xw_mb hS hT hk ht ho hi hf hx d (j + 1) q _ (by omega) (by omega) (fun i' hi' => ?_) (fun p hq' => ?_) hp
    · rw [fm_s]
      by_cases z : i' = j
      · subst z
        rw [pk_us, pk_us]
      · rw [pk_un (by omega), pk_un z]
        exact h1 i' (by omega)
    · rw [pk_un (by omega)]
      exact h2 p hq'
theorem xw_member {post : Int32 → SX → Prop} {o i t : Nat} {f : Nat → bd_N} (hS : S ≤ 12) (hT : T ≤ 15) (hk : ∀ s, s < S → mz_ok S K F G s) (ht : t < 32) (ho : o + i < 112) (hi : i < 48) (hf : ∀ j, j ≤ i → bd_nd T f j) (hx : xr_ o (i + 1) f num lef rig hei)
    (hp : ∀ msk', (∀ p, p < o ∨ o + i < p → msk' p = msk p) → post (mz_i (bt (fm_ K F G S f (i + 1) i) t)) (nI S, nI P, nI T, nI C, 0, 16, 64, ls, sc, fr, vr, pl, K, F, G, num, lef, rig, hei, msk')) :
    wpX_member post (nI S, nI P, nI T, nI C, 0, 16, 64, ls, sc, fr, vr, pl, K, F, G, num, lef, rig, hei, msk) (nI o) (nI i) (nI t) :=
  ⟨i + 2, xw_mb hS hT hk ht ho hi hf hx (i + 1) 0 (i + 2) msk (by omega) (by omega) (fun j hj => absurd hj (Nat.not_lt_zero _)) (fun p _ => rfl) hp⟩
end
end
section
/-! the reference's small methods: noSlot, noValue, put, fillRow -/
theorem yu_12 (a b : Nat) : nI a * 12 + nI b = nI (a * 12 + b) := by rw [show nI a * 12 = nI (a * 12) from pk_mul a 12, nI_add]
theorem yu_uu (f : Nat → Int32) (k : Nat) (x y : Int32) : upd (upd f k x) k y = upd f k y := by
  funext j
  unfold upd
  by_cases h : j = k
  · rw [if_pos h, if_pos h]
  · rw [if_neg h, if_neg h, if_neg h]
section
variable {gs gp gt gc cn ed rt pq : Int32} {K F G yl yr yh yb : Nat → Int32}
theorem yw_noSlot {post : Int32 → Prop} {S : Nat} (hS : S ≤ 12) {p : Int32} (h1 : ¬ (∃ s, s < S ∧ p = nI s) → post 1) (h0 : ∀ s, s < S → p = nI s → post 0) : wpY_noSlot post (nI S, gp, gt, gc, cn, ed, rt, pq, K, F, G, yl, yr, yh, yb) p := by
  unfold wpY_noSlot
  rcases pk_ix p (n := S) (by omega) with h | h | ⟨s, hs, rfl⟩
  · exact br_t h (h1 (fun ⟨s, hs, e⟩ => nI_pos (n := s) (by omega) (e ▸ h)))
  · have q : ¬ p < nI S := Int32.not_lt.mpr h
    exact br_c (fun z => h1 (fun ⟨s, hs, e⟩ => nI_pos (n := s) (by omega) (e ▸ z))) (fun _ => br_f q (h1 (fun ⟨s, hs, e⟩ => nI_ge hs (by omega) (e ▸ h))))
  · exact br_f (nI_pos (by omega)) (br_t (nI_lt hs (by omega)) (h0 s hs rfl))
theorem yw_noValue {post : Int32 → Prop} {L : Nat} (hL : L ≤ 16) {p : Int32} (h1 : ¬ (∃ s, s < L ∧ p = nI s) → post 1) (h0 : ∀ s, s < L → p = nI s → post 0) : wpY_noValue post (gs, gp, gt, gc, nI L, ed, rt, pq, K, F, G, yl, yr, yh, yb) p := by
  unfold wpY_noValue
  rcases pk_ix p (n := L) (by omega) with h | h | ⟨s, hs, rfl⟩
  · exact br_t h (h1 (fun ⟨s, hs, e⟩ => nI_pos (n := s) (by omega) (e ▸ h)))
  · have q : ¬ p < nI L := Int32.not_lt.mpr h
    exact br_c (fun z => h1 (fun ⟨s, hs, e⟩ => nI_pos (n := s) (by omega) (e ▸ z))) (fun _ => br_f q (h1 (fun ⟨s, hs, e⟩ => nI_ge hs (by omega) (e ▸ h))))
  · exact br_f (nI_pos (by omega)) (br_t (nI_lt hs (by omega)) (h0 s hs rfl))
theorem yw_put0 {post : SY → Prop} {q : Nat} {n : Int32} (hq : q < 65) (hp : post (gs, gp, gt, gc, cn, ed, rt, pq, K, F, G, upd yl q (-1), upd yr q n, upd yh q (nI 0), yb)) : wpY_put post (gs, gp, gt, gc, cn, ed, rt, pq, K, F, G, yl, yr, yh, yb) (nI q) (-1) n := by
  have ec : (nI q).toNatClampNeg = q := nI_clamp (by omega)
  have hi : vp_in (nI q) 65 := vp_in_nI hq (by omega)
  unfold wpY_put
  exact ⟨hi, nm_r (e' := upd yl q (-1)) (by rw [ec]) ⟨hi, nm_r (e' := upd yr q n) (by rw [ec]) ⟨hi, nm_r (e' := upd yh q (nI 0)) (by rw [ec]; rfl) (br_t (by decide) hp)⟩⟩⟩
theorem yw_put2 {post : SY → Prop} {q a c hx hy : Nat} (hq : q < 65) (ha : a < 65) (hc : c < 65) (na : a ≠ q) (nc : c ≠ q) (ea : yh a = nI hx) (ec : yh c = nI hy) (lx : hx < 1000) (ly : hy < 1000) (hp : post (gs, gp, gt, gc, cn, ed, rt, pq, K, F, G, upd yl q (nI a), upd yr q (nI c), upd yh q (nI (1 + max hx hy)), yb)) : wpY_put post (gs, gp, gt, gc, cn, ed, rt, pq, K, F, G, yl, yr, yh, yb) (nI q) (nI a) (nI c) := by
  have eq : (nI q).toNatClampNeg = q := nI_clamp (by omega)
  have hi : vp_in (nI q) 65 := vp_in_nI hq (by omega)
  have hia : vp_in (nI a) 65 := vp_in_nI ha (by omega)
  have hic : vp_in (nI c) 65 := vp_in_nI hc (by omega)
  have ka : (nI a).toNatClampNeg = a := nI_clamp (by omega)
  have kc : (nI c).toNatClampNeg = c := nI_clamp (by omega)
  unfold wpY_put
  refine ⟨hi, nm_r (e' := upd yl q (nI a)) (by rw [eq]) ⟨hi, nm_r (e' := upd yr q (nI c)) (by rw [eq]) ⟨hi, nm_r (e' := upd yh q 0) (by rw [eq]) (br_f (nI_pos (by omega)) ⟨hia, hic, ?_⟩)⟩⟩⟩
  rw [ka, kc, pk_un na, pk_un nc, ea, ec]
  refine pk_le hx hy (fun h1 => ⟨hic, hi, ?_⟩) (fun h1 => ⟨hia, hi, ?_⟩)
  · rw [Nat.max_eq_right h1] at hp
    exact nm_r (e' := upd yh q (nI (1 + hy))) (by rw [eq, yu_uu, show (1 : Int32) + nI hy = nI (1 + hy) from nI_add 1 hy]) hp
  · rw [Nat.max_eq_left (Nat.le_of_lt h1)] at hp
    exact nm_r (e' := upd yh q (nI (1 + hx))) (by rw [eq, yu_uu, show (1 : Int32) + nI hx = nI (1 + hx) from nI_add 1 hx]) hp
end
/-! fillRow, stage by stage from its end -/
section
variable {gs gp gt gc cn ed rt pq : Int32} {K F G yl yr yh yb : Nat → Int32} {post : SY → Prop} {J : Int32 → (Nat → Int32) → (Nat → Int32) → (Nat → Int32) → (Nat → Int32) → (Nat → Int32) → (Nat → Int32) → (Nat → Int32) → Prop} {x1 x2 x5 x6 : Int32} {q s : Nat} {z : Bool}
theorem yf_316 (hs : s < 12) (hq : q < 65) (h : J (nI (s + 1)) K F G yl yr yh (upd yb (q * 12 + s) (mz_i z))) : wY_fillRow_316 post J x1 x2 (nI (q * 12)) (nI s) (mz_i z) gs gp gt gc cn ed rt pq K F G yl yr yh yb := by
  unfold wY_fillRow_316
  exact ⟨by rw [nI_add]; exact vp_in_nI (by omega) (by omega), nm_r (e' := upd yb (q * 12 + s) (mz_i z)) (by rw [nI_add, nI_clamp (by omega), mz_iN]) (nm_r (nI_1 s) h)⟩
/-- the two parts, lower slots of the row q, and their bits -/
def yf_2 (x5 x6 : Int32) (yb : Nat → Int32) (q : Nat) (P : Bool → Bool → Prop) : Prop := ∃ (a b : Nat) (α β : Bool), a < 12 ∧ b < 12 ∧ x5 = nI a ∧ x6 = nI b ∧ yb (q * 12 + a) = mz_i α ∧ yb (q * 12 + b) = mz_i β ∧ P α β
def yf_1 (x5 : Int32) (yb : Nat → Int32) (q : Nat) (P : Bool → Prop) : Prop := ∃ (a : Nat) (α : Bool), a < 12 ∧ x5 = nI a ∧ yb (q * 12 + a) = mz_i α ∧ P α
theorem yf_273 (hs : s < 12) (hq : q < 65) (h0 : K s ≠ 6 → wY_fillRow_316 post J x1 x2 (nI (q * 12)) (nI s) (mz_i z) gs gp gt gc cn ed rt pq K F G yl yr yh yb)
    (h6 : K s = 6 → yf_2 x5 x6 yb q (fun α β => wY_fillRow_316 post J x1 x2 (nI (q * 12)) (nI s) (mz_i (α && !β)) gs gp gt gc cn ed rt pq K F G yl yr yh yb)) : wY_fillRow_273 post J x1 x2 (nI (q * 12)) (nI s) x5 x6 (mz_i z) gs gp gt gc cn ed rt pq K F G yl yr yh yb := by
  unfold wY_fillRow_273
  rw [nI_clamp (n := s) (by omega)]
  refine ⟨vp_in_nI hs (by omega), br_c (fun e => ?_) h0⟩
  obtain ⟨a, b, α, β, ha, hb, rfl, rfl, ea, eb, w⟩ := h6 e
  rw [nI_add, nI_add, nI_clamp (by omega), nI_clamp (by omega), ea, eb]
  refine ⟨vp_in_nI (by omega) (by omega), mz_c _ (fun e1 => ?_) (fun e1 => ⟨vp_in_nI (by omega) (by omega), mz_c _ (fun e2 => ?_) (fun e2 => ?_)⟩)⟩
  · rw [e1] at w; exact w
  · rw [e1, e2] at w; exact w
  · rw [e1, e2] at w; exact w
theorem yf_243 (hs : s < 12) (hq : q < 65) (h0 : K s ≠ 5 → wY_fillRow_273 post J x1 x2 (nI (q * 12)) (nI s) x5 x6 (mz_i z) gs gp gt gc cn ed rt pq K F G yl yr yh yb)
    (h6 : K s = 5 → yf_1 x5 yb q (fun α => wY_fillRow_273 post J x1 x2 (nI (q * 12)) (nI s) x5 x6 (mz_i (!α)) gs gp gt gc cn ed rt pq K F G yl yr yh yb)) : wY_fillRow_243 post J x1 x2 (nI (q * 12)) (nI s) x5 x6 (mz_i z) gs gp gt gc cn ed rt pq K F G yl yr yh yb := by
  unfold wY_fillRow_243
  rw [nI_clamp (n := s) (by omega)]
  refine ⟨vp_in_nI hs (by omega), br_c (fun e => ?_) h0⟩
  obtain ⟨a, α, ha, rfl, ea, w⟩ := h6 e
  rw [nI_add, nI_clamp (by omega), ea]
  refine ⟨vp_in_nI (by omega) (by omega), mz_c _ (fun e1 => ?_) (fun e1 => ?_)⟩
  · rw [e1] at w; exact w
  · rw [e1] at w; exact w
theorem yf_201 (hs : s < 12) (hq : q < 65) (h0 : K s ≠ 4 → wY_fillRow_243 post J x1 x2 (nI (q * 12)) (nI s) x5 x6 (mz_i z) gs gp gt gc cn ed rt pq K F G yl yr yh yb)
    (h6 : K s = 4 → yf_2 x5 x6 yb q (fun α β => wY_fillRow_243 post J x1 x2 (nI (q * 12)) (nI s) x5 x6 (mz_i (α && β)) gs gp gt gc cn ed rt pq K F G yl yr yh yb)) : wY_fillRow_201 post J x1 x2 (nI (q * 12)) (nI s) x5 x6 (mz_i z) gs gp gt gc cn ed rt pq K F G yl yr yh yb := by
  unfold wY_fillRow_201
  rw [nI_clamp (n := s) (by omega)]
  refine ⟨vp_in_nI hs (by omega), br_c (fun e => ?_) h0⟩
  obtain ⟨a, b, α, β, ha, hb, rfl, rfl, ea, eb, w⟩ := h6 e
  rw [nI_add, nI_add, nI_clamp (by omega), nI_clamp (by omega), ea, eb]
  refine ⟨vp_in_nI (by omega) (by omega), mz_c _ (fun e1 => ?_) (fun e1 => ⟨vp_in_nI (by omega) (by omega), mz_c _ (fun e2 => ?_) (fun e2 => ?_)⟩)⟩
  · rw [e1] at w; exact w
  · rw [e1, e2] at w; exact w
  · rw [e1, e2] at w; exact w
theorem yf_159 (hs : s < 12) (hq : q < 65) (h0 : K s ≠ 3 → wY_fillRow_201 post J x1 x2 (nI (q * 12)) (nI s) x5 x6 (mz_i z) gs gp gt gc cn ed rt pq K F G yl yr yh yb)
    (h6 : K s = 3 → yf_2 x5 x6 yb q (fun α β => wY_fillRow_201 post J x1 x2 (nI (q * 12)) (nI s) x5 x6 (mz_i (α || β)) gs gp gt gc cn ed rt pq K F G yl yr yh yb)) : wY_fillRow_159 post J x1 x2 (nI (q * 12)) (nI s) x5 x6 (mz_i z) gs gp gt gc cn ed rt pq K F G yl yr yh yb := by
  unfold wY_fillRow_159
  rw [nI_clamp (n := s) (by omega)]
  refine ⟨vp_in_nI hs (by omega), br_c (fun e => ?_) h0⟩
  obtain ⟨a, b, α, β, ha, hb, rfl, rfl, ea, eb, w⟩ := h6 e
  rw [nI_add, nI_add, nI_clamp (by omega), nI_clamp (by omega), ea, eb]
  refine ⟨vp_in_nI (by omega) (by omega), mz_c _ (fun e1 => ⟨vp_in_nI (by omega) (by omega), mz_c _ (fun e2 => ?_) (fun e2 => ?_)⟩) (fun e1 => ?_)⟩
  · rw [e1, e2] at w; exact w
  · rw [e1, e2] at w; exact w
  · rw [e1] at w; exact w
/-- a pair slot: rows a' and c' of the parts -/
def yf_p (x5 x6 : Int32) (yl yr yb : Nat → Int32) (q : Nat) (P : Bool → Bool → Prop) : Prop := ∃ (a b a' c' : Nat) (α β : Bool), a < 12 ∧ b < 12 ∧ a' < 65 ∧ c' < 65 ∧ x5 = nI a ∧ x6 = nI b ∧ yl q = nI a' ∧ yr q = nI c' ∧ yb (a' * 12 + a) = mz_i α ∧ yb (c' * 12 + b) = mz_i β ∧ P α β
theorem yf_97 {p : Bool} (hs : s < 12) (hq : q < 65) (h0 : K s ≠ 2 → wY_fillRow_159 post J (nI q) (mz_i p) (nI (q * 12)) (nI s) x5 x6 (mz_i z) gs gp gt gc cn ed rt pq K F G yl yr yh yb)
    (h6 : K s = 2 → p = true → yf_p x5 x6 yl yr yb q (fun α β => wY_fillRow_159 post J (nI q) (mz_i p) (nI (q * 12)) (nI s) x5 x6 (mz_i (α && β)) gs gp gt gc cn ed rt pq K F G yl yr yh yb))
    (h7 : K s = 2 → p = false → wY_fillRow_159 post J (nI q) (mz_i p) (nI (q * 12)) (nI s) x5 x6 (mz_i false) gs gp gt gc cn ed rt pq K F G yl yr yh yb) : wY_fillRow_97 post J (nI q) (mz_i p) (nI (q * 12)) (nI s) x5 x6 (mz_i z) gs gp gt gc cn ed rt pq K F G yl yr yh yb := by
  have hv : vp_in (nI q) 65 := vp_in_nI hq (by omega)
  unfold wY_fillRow_97
  rw [nI_clamp (n := s) (by omega)]
  refine ⟨vp_in_nI hs (by omega), br_c (fun e => mz_c _ (fun ep => h7 e ep) (fun ep => ?_)) h0⟩
  obtain ⟨a, b, a', c', α, β, ha, hb, ha', hc', rfl, rfl, el, er, ea, eb, w⟩ := h6 e ep
  have m1 : nI a' * 12 + nI a = nI (a' * 12 + a) := yu_12 _ _
  have m2 : nI c' * 12 + nI b = nI (c' * 12 + b) := yu_12 _ _
  rw [nI_clamp (n := q) (by omega), el, er, m1, m2, nI_clamp (by omega), nI_clamp (by omega), ea, eb]
  refine ⟨hv, vp_in_nI (by omega) (by omega), mz_c _ (fun e1 => ?_) (fun e1 => ⟨hv, vp_in_nI (by omega) (by omega), mz_c _ (fun e2 => ?_) (fun e2 => ?_)⟩)⟩
  · rw [e1] at w; exact w
  · rw [e1, e2] at w; exact w
  · rw [e1, e2] at w; exact w
end
end
section
/-! the reference's row of a node, whole -/
section
variable {K F G : Nat → Int32} {n l r m : Int32} {s : Nat}
theorem mz_s1 (h : K s = 1) : mz_st K F G n l r m s = (decide (F s ≤ n) && decide (n ≤ G s)) := by
  unfold mz_st; rw [if_pos h]
theorem mz_s2 (h : K s = 2) : mz_st K F G n l r m s = (decide (n < 0) && (mz_b l (F s) && mz_b r (G s))) := by
  unfold mz_st; rw [if_neg (by rw [h]; decide), if_pos h]
theorem mz_s3 (h : K s = 3) : mz_st K F G n l r m s = (mz_b m (F s) || mz_b m (G s)) := by
  unfold mz_st; rw [if_neg (by rw [h]; decide), if_neg (by rw [h]; decide), if_pos h]
theorem mz_s4 (h : K s = 4) : mz_st K F G n l r m s = (mz_b m (F s) && mz_b m (G s)) := by
  unfold mz_st; rw [if_neg (by rw [h]; decide), if_neg (by rw [h]; decide), if_neg (by rw [h]; decide), if_pos h]
theorem mz_s5 (h : K s = 5) : mz_st K F G n l r m s = (!mz_b m (F s)) := by
  unfold mz_st; rw [if_neg (by rw [h]; decide), if_neg (by rw [h]; decide), if_neg (by rw [h]; decide), if_neg (by rw [h]; decide), if_pos h]
theorem mz_s6 (h : K s = 6) : mz_st K F G n l r m s = (mz_b m (F s) && !mz_b m (G s)) := by
  unfold mz_st; rw [if_neg (by rw [h]; decide), if_neg (by rw [h]; decide), if_neg (by rw [h]; decide), if_neg (by rw [h]; decide), if_neg (by rw [h]; decide), if_pos h]
theorem mz_s0 (h1 : K s ≠ 1) (h2 : K s ≠ 2) (h3 : K s ≠ 3) (h4 : K s ≠ 4) (h5 : K s ≠ 5) (h6 : K s ≠ 6) : mz_st K F G n l r m s = false := by
  unfold mz_st; rw [if_neg h1, if_neg h2, if_neg h3, if_neg h4, if_neg h5, if_neg h6]
end
/-- row q of the reference's table is the mask m -/
def yr_row (S : Nat) (yb : Nat → Int32) (q : Nat) (m : Int32) : Prop := ∀ j, j < S → yb (q * 12 + j) = mz_i (bt m j)
def yr_out (q : Nat) (yb yb0 : Nat → Int32) : Prop := ∀ t, t < q * 12 ∨ q * 12 + 12 ≤ t → yb t = yb0 t
/-- what node q is, and that the rows of its parts stand -/
def yr_nd (S : Nat) (yl yr yb : Nat → Int32) (q : Nat) (n l r : Int32) : Prop :=
  (¬ n < 0 ∧ yl q = -1 ∧ yr q = n) ∨ (n = -1 ∧ ∃ a c, a < 65 ∧ c < 65 ∧ a ≠ q ∧ c ≠ q ∧ yl q = nI a ∧ yr q = nI c ∧ yr_row S yb a l ∧ yr_row S yb c r)
section
variable {S P T C : Nat} {cn ed rt pq : Int32} {K F G yl yr yh yb yb0 : Nat → Int32}
theorem yf_23 {post : SY → Prop} {n l r : Int32} {q : Nat} {p : Bool} (hS : S ≤ 12) (hq : q < 65) (hk : ∀ s, s < S → mz_ok S K F G s) (hn : yr_nd S yl yr yb0 q n l r) (hpn : p = decide (n < 0)) : ∀ (d s f : Nat) (yb : Nat → Int32), s + d = S → d < f → (∀ j, j < s → yb (q * 12 + j) = mz_i (bt (mz_m K F G n l r s) j)) → yr_out q yb yb0 →
    (∀ yb', yr_row S yb' q (mz_m K F G n l r S) → yr_out q yb' yb0 → post (nI S, nI P, nI T, nI C, cn, ed, rt, pq, K, F, G, yl, yr, yh, yb')) →
    wY_fillRow_23 post (nI q) (mz_i p) (nI (q * 12)) (nI S) (nI P) (nI T) (nI C) cn ed rt pq f (nI s) K F G yl yr yh yb
  | d, s, 0, yb, e, hf, h1, h2, hp => by omega
  | 0, s, f + 1, yb, e, hf, h1, h2, hp => by
    have e : s = S := by omega
    subst e
    exact br_t (nI_le (Nat.le_refl _) (by omega)) (hp yb h1 h2)
  | d + 1, s, f + 1, yb, e, hf, h1, h2, hp => by
    have hs : s < 12 := by omega
    have hv : vp_in (nI s) 12 := vp_in_nI hs (by omega)
    have cs : (nI s).toNatClampNeg = s := nI_clamp (by omega)
    have cq : (nI q).toNatClampNeg = q := nI_clamp (by omega)
    have hvq : vp_in (nI q) 65 := vp_in_nI hq (by omega)
    have i := yf_23 hS hq hk hn hpn d (s + 1) f (upd yb (q * 12 + s) (mz_i (mz_st K F G n l r (mz_m K F G n l r s) s))) (by omega) (by omega) (by
      intro j hj
      by_cases z : j = s
      · subst z
        rw [pk_us, mz_lo (j + 1) j (by omega) (by omega)]
      · rw [pk_un (by omega), mz_bs (by omega) z]
        exact h1 j (by omega)) (by
      intro t ht
      rw [pk_un (by omega)]
      exact h2 t ht) hp
    obtain ⟨k1, k2, k3, k5⟩ := hk s (by omega)
    have low : ∀ a, a < s → yb (q * 12 + a) = mz_i (mz_b (mz_m K F G n l r s) (nI a)) := by
      intro a ha
      rw [mz_bn _ (by omega)]
      exact h1 a ha
    refine br_f (nI_ge (by omega) (by omega)) ⟨hv, nm_r (e' := F s) (by rw [cs]) ⟨hv, nm_r (e' := G s) (by rw [cs]) ⟨hv, ?_⟩⟩⟩
    rw [cs, cq]
    generalize hE : mz_st K F G n l r (mz_m K F G n l r s) s = E at i
    generalize hJ : wY_fillRow_23 post (nI q) (mz_i p) (nI (q * 12)) (nI S) (nI P) (nI T) (nI C) cn ed rt pq f = J at i
    have g316 : ∀ v : Bool, v = E → wY_fillRow_316 post J (nI q) (mz_i p) (nI (q * 12)) (nI s) (mz_i v) (nI S) (nI P) (nI T) (nI C) cn ed rt pq K F G yl yr yh yb := by
      intro v hv'
      subst hv'
      exact yf_316 hs hq i
    have g273 : ∀ v : Bool, (K s ≠ 6 → v = E) → wY_fillRow_273 post J (nI q) (mz_i p) (nI (q * 12)) (nI s) (F s) (G s) (mz_i v) (nI S) (nI P) (nI T) (nI C) cn ed rt pq K F G yl yr yh yb := by
      intro v hv'
      refine yf_273 hs hq (fun c => g316 v (hv' c)) (fun c => ?_)
      obtain ⟨a, b, ha, hb, ea, eb⟩ := k3 (Or.inr (Or.inr c))
      rw [mz_s6 c] at hE
      exact ⟨a, b, _, _, by omega, by omega, ea, eb, low a ha, low b hb, g316 _ (by rw [← hE, ea, eb])⟩
    have g243 : ∀ v : Bool, (K s ≠ 5 → K s ≠ 6 → v = E) → wY_fillRow_243 post J (nI q) (mz_i p) (nI (q * 12)) (nI s) (F s) (G s) (mz_i v) (nI S) (nI P) (nI T) (nI C) cn ed rt pq K F G yl yr yh yb := by
      intro v hv'
      refine yf_243 hs hq (fun c => g273 v (hv' c)) (fun c => ?_)
      obtain ⟨a, ha, ea⟩ := k5 c
      rw [mz_s5 c] at hE
      exact ⟨a, _, by omega, ea, low a ha, g273 _ (fun _ => by rw [← hE, ea])⟩
    have g201 : ∀ v : Bool, (K s ≠ 4 → K s ≠ 5 → K s ≠ 6 → v = E) → wY_fillRow_201 post J (nI q) (mz_i p) (nI (q * 12)) (nI s) (F s) (G s) (mz_i v) (nI S) (nI P) (nI T) (nI C) cn ed rt pq K F G yl yr yh yb := by
      intro v hv'
      refine yf_201 hs hq (fun c => g243 v (hv' c)) (fun c => ?_)
      obtain ⟨a, b, ha, hb, ea, eb⟩ := k3 (Or.inr (Or.inl c))
      rw [mz_s4 c] at hE
      exact ⟨a, b, _, _, by omega, by omega, ea, eb, low a ha, low b hb, g243 _ (fun _ _ => by rw [← hE, ea, eb])⟩
    have g159 : ∀ v : Bool, (K s ≠ 3 → K s ≠ 4 → K s ≠ 5 → K s ≠ 6 → v = E) → wY_fillRow_159 post J (nI q) (mz_i p) (nI (q * 12)) (nI s) (F s) (G s) (mz_i v) (nI S) (nI P) (nI T) (nI C) cn ed rt pq K F G yl yr yh yb := by
      intro v hv'
      refine yf_159 hs hq (fun c => g201 v (hv' c)) (fun c => ?_)
      obtain ⟨a, b, ha, hb, ea, eb⟩ := k3 (Or.inl c)
      rw [mz_s3 c] at hE
      exact ⟨a, b, _, _, by omega, by omega, ea, eb, low a ha, low b hb, g201 _ (fun _ _ _ => by rw [← hE, ea, eb])⟩
    have g97 : ∀ v : Bool, (K s ≠ 2 → K s ≠ 3 → K s ≠ 4 → K s ≠ 5 → K s ≠ 6 → v = E) → wY_fillRow_97 post J (nI q) (mz_i p) (nI (q * 12)) (nI s) (F s) (G s) (mz_i v) (nI S) (nI P) (nI T) (nI C) cn ed rt pq K F G yl yr yh yb := by
      intro v hv'
      refine yf_97 hs hq (fun c => g159 v (hv' c)) (fun c hp1 => ?_) (fun c hp0 => ?_)
      · obtain ⟨a, b, ha, hb, ea, eb⟩ := k2 c
        rw [mz_s2 c] at hE
        rcases hn with ⟨z, _, _⟩ | ⟨z, a', c', ha', hc', na, nc, el, er, ra, rc⟩
        · rw [hp1] at hpn
          exact absurd (of_decide_eq_true hpn.symm) z
        · refine ⟨a, b, a', c', bt l a, bt r b, by omega, by omega, ha', hc', ea, eb, el, er, ?_, ?_, g159 _ (fun _ _ _ _ => ?_)⟩
          · rw [h2 _ (by omega)]; exact ra a ha
          · rw [h2 _ (by omega)]; exact rc b hb
          · rw [← hE, ← hpn, hp1, ea, eb, mz_bn _ (by omega), mz_bn _ (by omega)]; rfl
      · rw [mz_s2 c, ← hpn, hp0] at hE
        exact g159 _ (fun _ _ _ _ => hE)
    refine br_c (fun c => ?_) (fun c => g97 false (fun c2 c3 c4 c5 c6 => by rw [← hE, mz_s0 c c2 c3 c4 c5 c6]))
    rw [mz_s1 c] at hE
    refine mz_c p (fun p0 => ⟨hvq, ?_⟩) (fun p1 => ?_)
    · rcases hn with ⟨z, el, er⟩ | ⟨z, _⟩
      · rw [er]
        by_cases a : F s ≤ n
        · refine br_f (Int32.not_lt.mpr a) ⟨hvq, ?_⟩
          by_cases b : n ≤ G s
          · rw [decide_eq_true a, decide_eq_true b] at hE
            exact br_f (Int32.not_lt.mpr b) (g97 true (fun _ _ _ _ _ => hE))
          · rw [decide_eq_true a, decide_eq_false b] at hE
            exact br_t (Int32.not_le.mp b) (g97 false (fun _ _ _ _ _ => hE))
        · rw [decide_eq_false a] at hE
          exact br_t (Int32.not_le.mp a) (g97 false (fun _ _ _ _ _ => hE))
      · rw [z, p0] at hpn
        exact absurd hpn (by decide)
    · rw [p1] at hpn
      have hneg : n < 0 := of_decide_eq_true hpn.symm
      have hx : ¬ F s ≤ n := by
        intro z
        have k := k1 c
        rw [Int32.lt_iff_toInt_lt, Int32.toInt_zero] at k hneg
        rw [Int32.le_iff_toInt_le] at z
        omega
      rw [decide_eq_false hx] at hE
      exact g97 false (fun _ _ _ _ _ => hE)
theorem yw_fill {post : SY → Prop} {n l r : Int32} {q : Nat} (hS : S ≤ 12) (hq : q < 65) (hk : ∀ s, s < S → mz_ok S K F G s) (hn : yr_nd S yl yr yb q n l r)
    (hp : ∀ yb', yr_row S yb' q (mz_m K F G n l r S) → yr_out q yb' yb → post (nI S, nI P, nI T, nI C, cn, ed, rt, pq, K, F, G, yl, yr, yh, yb')) :
    wpY_fillRow post (nI S, nI P, nI T, nI C, cn, ed, rt, pq, K, F, G, yl, yr, yh, yb) (nI q) := by
  have cq : (nI q).toNatClampNeg = q := nI_clamp (by omega)
  have m12 : nI q * 12 = nI (q * 12) := pk_mul q 12
  unfold wpY_fillRow
  rw [cq, m12]
  refine ⟨vp_in_nI hq (by omega), ?_⟩
  have go : ∀ p : Bool, p = decide (n < 0) → wY_fillRow_23 post (nI q) (mz_i p) (nI (q * 12)) (nI S) (nI P) (nI T) (nI C) cn ed rt pq (S + 1) (nI 0) K F G yl yr yh yb := fun p e =>
    yf_23 hS hq hk hn e S 0 (S + 1) yb (by omega) (by omega) (fun j hj => absurd hj (Nat.not_lt_zero _)) (fun t _ => rfl) hp
  rcases hn with ⟨z, el, er⟩ | ⟨z, a', c', ha', hc', na, nc, el, er, ra, rc⟩
  · rw [el]
    exact br_t (by decide) (nm_e ⟨S + 1, go false (decide_eq_false z).symm⟩)
  · rw [el]
    exact br_f (nI_pos (by omega)) (nm_e ⟨S + 1, go true (by rw [z]; rfl)⟩)
end
end
section
/-! the reference's search: consider -/
def yg_l (o : Nat) (n : Int32) (x : Nat) : Int32 := if n < 0 then nI (o + x) else -1
def yg_r (o : Nat) (n : Int32) (y : Nat) : Int32 := if n < 0 then nI (o + y) else n
/-- c nodes of f lie in the reference's arrays from o on -/
def yg_ (o c : Nat) (f : Nat → bd_N) (yl yr yh : Nat → Int32) : Prop :=
  ∀ i, i < c → yl (o + i) = yg_l o (f i).1 (f i).2.1 ∧ yr (o + i) = yg_r o (f i).1 (f i).2.2.1 ∧ yh (o + i) = nI (f i).2.2.2
theorem yg_put {o c : Nat} {f : Nat → bd_N} {yl yr yh : Nat → Int32} (h : yg_ o c f yl yr yh) (nd : bd_N) : yg_ o (c + 1) (bd_nu f c nd) (upd yl (o + c) (yg_l o nd.1 nd.2.1)) (upd yr (o + c) (yg_r o nd.1 nd.2.2.1)) (upd yh (o + c) (nI nd.2.2.2)) := by
  intro i hi
  by_cases e : i = c
  · subst e
    rw [bd_nus, pk_us, pk_us, pk_us]
    exact ⟨rfl, rfl, rfl⟩
  · rw [bd_nun e, pk_un (by omega), pk_un (by omega), pk_un (by omega)]
    exact h i (by omega)
theorem yg_off {o c p : Nat} {f : Nat → bd_N} {yl yr yh : Nat → Int32} {v1 v2 v3 : Int32} (h : yg_ o c f yl yr yh) (hp : p < o ∨ o + c ≤ p) : yg_ o c f (upd yl p v1) (upd yr p v2) (upd yh p v3) := by
  intro i hi
  rw [pk_un (by omega), pk_un (by omega), pk_un (by omega)]
  exact h i hi
theorem yg_le {o c d : Nat} {f : Nat → bd_N} {yl yr yh : Nat → Int32} (h : yg_ o c f yl yr yh) (hd : d ≤ c) : yg_ o d f yl yr yh := fun i hi => h i (by omega)
def yg_fr (a : Nat) (yl yr yh yl0 yr0 yh0 : Nat → Int32) : Prop := ∀ j, j < a → yl j = yl0 j ∧ yr j = yr0 j ∧ yh j = yh0 j
theorem yg_frp {a p : Nat} {yl yr yh yl0 yr0 yh0 : Nat → Int32} {v1 v2 v3 : Int32} (h : yg_fr a yl yr yh yl0 yr0 yh0) (h1 : a ≤ p) : yg_fr a (upd yl p v1) (upd yr p v2) (upd yh p v3) yl0 yr0 yh0 := by
  intro j hj
  rw [pk_un (by omega), pk_un (by omega), pk_un (by omega)]
  exact h j hj
theorem yg_keep {c a : Nat} {f : Nat → bd_N} {yl yr yh yl0 yr0 yh0 : Nat → Int32} (h : yg_ 0 c f yl0 yr0 yh0) (w : yg_fr a yl yr yh yl0 yr0 yh0) (hd : c ≤ a) : yg_ 0 c f yl yr yh := by
  intro i hi
  obtain ⟨a1, a2, a3⟩ := w (0 + i) (by omega)
  rw [a1, a2, a3]
  exact h i hi
def ys_P (K F G : Nat → Int32) (S T : Nat) (b : bd_B) (yl yr yh yb yl0 yr0 yh0 : Nat → Int32) : Prop :=
  bd_G K F G S T b ∧ yg_ 16 b.1 b.2.1 yl yr yh ∧ (∀ i, i < b.1 → yr_row S yb (16 + i) (b.2.2 i)) ∧ yg_fr 16 yl yr yh yl0 yr0 yh0
section
variable {gs gp gt gc cn ed rt pq : Int32} {K F G yl yr yh yb : Nat → Int32}
theorem yw_putG {post : SY → Prop} {o q x y hx hy : Nat} {n : Int32} (hq : q < 65) (hn : n < 0 → o + x < 65 ∧ o + y < 65 ∧ o + x ≠ q ∧ o + y ≠ q ∧ yh (o + x) = nI hx ∧ yh (o + y) = nI hy ∧ hx < 1000 ∧ hy < 1000)
    (hp : post (gs, gp, gt, gc, cn, ed, rt, pq, K, F, G, upd yl q (yg_l o n x), upd yr q (yg_r o n y), upd yh q (nI (bd_h n hx hy)), yb)) : wpY_put post (gs, gp, gt, gc, cn, ed, rt, pq, K, F, G, yl, yr, yh, yb) (nI q) (yg_l o n x) (yg_r o n y) := by
  unfold yg_l yg_r bd_h at hp
  unfold yg_l yg_r
  by_cases h : n < 0
  · obtain ⟨a1, a2, a3, a4, a5, a6, a7, a8⟩ := hn h
    rw [if_pos h, if_pos h]
    rw [if_pos h, if_pos h, if_pos h] at hp
    exact yw_put2 hq a1 a2 a3 a4 a5 a6 a7 a8 hp
  · rw [if_neg h, if_neg h]
    rw [if_neg h, if_neg h, if_neg h] at hp
    exact yw_put0 hq hp
end
section
variable {S P T C : Nat} {cn ed rt pq : Int32} {K F G yl yr yh yb yl0 yr0 yh0 : Nat → Int32}
theorem yc_53 {post : SY → Prop} {J : Int32 → Int32 → Prop} {x3 m m' : Int32} {i c : Nat} (hS : S ≤ 12) (hc : c ≤ 48) (hi : i < c) (r1 : yr_row S yb (16 + i) m') (r2 : yr_row S yb (16 + c) m) (hf : (∀ j, j < S → bt m' j = bt m j) → m' = m) (h0 : m' = m → J 0 (nI (16 + (i + 1)))) (h1 : m' ≠ m → J x3 (nI (16 + (i + 1)))) : ∀ (d s q : Nat) (z : Bool), s + d = S → d < q → (z = true ↔ ∀ j, j < s → bt m' j = bt m j) → wY_consider_53 post J x3 (nI (16 + i)) (nI S) (nI P) (nI T) (nI C) cn (nI (16 + c)) rt pq K F G yl yr yh yb q (mz_i z) (nI s)
  | d, s, 0, z, e, hq, hz => by omega
  | 0, s, q + 1, z, e, hq, hz => by
    have e : s = S := by omega
    subst e
    refine br_t (nI_le (Nat.le_refl _) (by omega)) (mz_c z (fun e1 => nm_r (nI_1 (16 + i)) (h1 (fun w => ?_))) (fun e1 => nm_r (nI_1 (16 + i)) (h0 (hf (hz.mp e1)))))
    rw [hz.mpr (fun j _ => by rw [w])] at e1
    cases e1
  | d + 1, s, q + 1, z, e, hq, hz => by
    have m1 : nI (16 + i) * 12 + nI s = nI ((16 + i) * 12 + s) := yu_12 _ _
    have m2 : nI (16 + c) * 12 + nI s = nI ((16 + c) * 12 + s) := yu_12 _ _
    refine br_f (nI_ge (by omega) (by omega)) ?_
    rw [m1, m2, nI_clamp (by omega), nI_clamp (by omega), r1 s (by omega), r2 s (by omega)]
    refine ⟨vp_in_nI (by omega) (by omega), vp_in_nI (by omega) (by omega), ?_⟩
    by_cases w : bt m' s = bt m s
    · refine br_t (by rw [w]) (nm_r (nI_1 s) (yc_53 hS hc hi r1 r2 hf h0 h1 d (s + 1) q z (by omega) (by omega) ?_))
      exact ⟨fun z1 => lt_s (hz.mp z1) w, fun h => hz.mpr (fun j hj => h j (by omega))⟩
    · refine br_f (fun z1 => w ((mz_ij _ _).mp z1)) (nm_r (nI_1 s) (yc_53 hS hc hi r1 r2 hf h0 h1 d (s + 1) q false (by omega) (by omega) ?_))
      exact ⟨fun z1 => (nomatch z1), fun h => absurd (h s (by omega)) w⟩
theorem yc_34 {post : SY → Prop} {m : Int32} {c : Nat} {M : Nat → Int32} (hS : S ≤ 12) (hc : c ≤ 48) (r1 : ∀ i, i < c → yr_row S yb (16 + i) (M i)) (r2 : yr_row S yb (16 + c) m) (hf : ∀ i, i < c → (∀ j, j < S → bt (M i) j = bt m j) → M i = m) (h : wY_consider_115 post (mz_i (!bd_kn M m c)) (nI S) (nI P) (nI T) (nI C) cn (nI (16 + c)) rt pq K F G yl yr yh yb) : ∀ d i q : Nat, i + d = c → d < q → (∀ j, j < i → M j ≠ m) → wY_consider_34 post (nI S) (nI P) (nI T) (nI C) cn (nI (16 + c)) rt pq K F G yl yr yh yb q 1 (nI (16 + i))
  | d, i, 0, e, hq, hj => by omega
  | 0, i, q + 1, e, hq, hj => by
    have e : i = c := by omega
    subst e
    rw [(bd_knf i).mpr hj] at h
    exact br_t (nI_le (Nat.le_refl _) (by omega)) h
  | d + 1, i, 0 + 1, e, hq, hj => by omega
  | d + 1, i, q + 1 + 1, e, hq, hj => by
    refine br_f (nI_ge (by omega) (by omega)) (br_f (by decide) ⟨S + 1, yc_53 hS hc (by omega) (r1 i (by omega)) r2 (hf i (by omega)) (fun w => ?_) (fun w => ?_) S 0 (S + 1) true (by omega) (by omega) ⟨fun _ j hj => absurd hj (Nat.not_lt_zero _), fun _ => rfl⟩⟩)
    · rw [bd_knt (by omega) w] at h
      exact br_c (fun _ => h) (fun _ => br_t rfl h)
    · exact yc_34 hS hc r1 r2 hf h d (i + 1) (q + 1) (by omega) (by omega) (lt_s hj w)
theorem yw_co {post : SY → Prop} {b : bd_B} {n p0 p1 : Int32} {x y : Nat} (cx : qx_C S T K F G) (h : ys_P K F G S T b yl yr yh yb yl0 yr0 yh0) (v : bd_v T n x y b) (e0 : p0 = yg_l 16 n x) (e1 : p1 = yg_r 16 n y)
    (hp : ∀ yl' yr' yh' yb', ys_P K F G S T (bd_ad K F G S n x y b) yl' yr' yh' yb' yl0 yr0 yh0 → post (nI S, nI P, nI T, nI C, cn, nI (16 + (bd_ad K F G S n x y b).1), rt, pq, K, F, G, yl', yr', yh', yb')) :
    wpY_consider post (nI S, nI P, nI T, nI C, cn, nI (16 + b.1), rt, pq, K, F, G, yl, yr, yh, yb) p0 p1 := by
  obtain ⟨hS, hT, hN, hk⟩ := cx
  obtain ⟨g, r1, r2, r3⟩ := h
  have hc := bd_cap hT (by omega) hN g
  subst e0 e1
  unfold wpY_consider
  refine br_t (nI_lt (a := 16 + b.1) (b := 65) (by omega) (by omega)) ?_
  refine yw_putG (o := 16) (q := 16 + b.1) (hx := (b.2.1 x).2.2.2) (hy := (b.2.1 y).2.2.2) (by omega) (fun hn => ?_) ?_
  · rcases v with ⟨k, hk, rfl, rfl, rfl⟩ | ⟨rfl, e1, e2⟩
    · exact absurd hn (nI_pos (by omega))
    · have ax := (g.1 x e1).1.2
      have ay := (g.1 y e2).1.2
      exact ⟨by omega, by omega, by omega, by omega, (r1 x e1).2.2, (r1 y e2).2.2, by omega, by omega⟩
  refine yw_fill (n := n) (l := b.2.2 x) (r := b.2.2 y) hS (by omega) hk ?_ (fun yb' w1 w2 => ?_)
  · unfold yr_nd
    rw [pk_us, pk_us]
    unfold yg_l yg_r
    rcases v with ⟨k, hk, rfl, rfl, rfl⟩ | ⟨rfl, e1, e2⟩
    · have hp : ¬ nI k < 0 := nI_pos (by omega)
      rw [if_neg hp, if_neg hp]
      exact Or.inl ⟨hp, rfl, rfl⟩
    · rw [if_pos bd_neg, if_pos bd_neg]
      exact Or.inr ⟨rfl, 16 + x, 16 + y, by omega, by omega, by omega, by omega, rfl, rfl, r2 x e1, r2 y e2⟩
  have rows : ∀ i, i < b.1 → yr_row S yb' (16 + i) (b.2.2 i) := by
    intro i hi j hj
    rw [w2 _ (by omega)]
    exact r2 i hi j hj
  refine ⟨b.1 + 1, yc_34 (M := b.2.2) (m := bd_mk K F G S n x y b) hS hc rows w1 (fun i hi hb => ?_) ?_ b.1 0 (b.1 + 1) (by omega) (by omega) (fun j hj => absurd hj (Nat.not_lt_zero _))⟩
  · have e := (g.1 i hi).2
    rw [e] at hb ⊢
    exact mz_eqb (by omega) hb
  · unfold wY_consider_115
    cases e : bd_kn b.2.2 (bd_mk K F G S n x y b) b.1
    · rw [bd_adf e] at hp
      refine br_f (by decide) (nm_r (nI_1 (16 + b.1)) (hp _ _ _ _ ?_))
      refine ⟨bd_Gpu (by omega) g v e, yg_put r1 (n, x, y, bd_h n (b.2.1 x).2.2.2 (b.2.1 y).2.2.2), ?_, yg_frp r3 (by omega)⟩
      intro i hi
      have hi : i < b.1 + 1 := hi
      show yr_row S yb' (16 + i) (upd b.2.2 b.1 _ i)
      by_cases z : i = b.1
      · subst z
        rw [pk_us]
        exact w1
      · rw [pk_un z]
        exact rows i (by omega)
    · rw [bd_adt e] at hp
      exact br_t rfl (hp _ _ _ _ ⟨g, yg_off r1 (by omega), rows, yg_frp r3 (by omega)⟩)
end
end
section
/-! the reference's search: its five loops -/
theorem bd_Hlf {K F G : Nat → Int32} {S k : Nat} {b : bd_B} (hk : k < 2 ^ 31) (h : bd_H 1 0 b.1 b) : bd_H 1 0 (bd_ad K F G S (nI k) 0 0 b).1 (bd_ad K F G S (nI k) 0 0 b) := by
  obtain ⟨h1, h2, h3⟩ := h
  cases e : bd_kn b.2.2 (bd_mk K F G S (nI k) 0 0 b) b.1
  · rw [bd_adf e]
    refine ⟨Nat.le_refl _, fun i hi => ?_, fun i h4 h5 => absurd h5 (Nat.not_lt.mpr h4)⟩
    have hi : i < b.1 + 1 := hi
    show (bd_nu b.2.1 b.1 _ i).2.2.2 + 1 ≤ 1 ∧ ((bd_nu b.2.1 b.1 _ i).2.2.2 + 1 = 1 ↔ 0 ≤ i)
    by_cases z : i = b.1
    · subst z
      rw [bd_nus]
      show bd_h (nI k) _ _ + 1 ≤ 1 ∧ (bd_h (nI k) _ _ + 1 = 1 ↔ 0 ≤ b.1)
      unfold bd_h
      rw [if_neg (nI_pos hk)]
      omega
    · rw [bd_nun z]
      exact h2 i (by omega)
  · rw [bd_adt e]; exact ⟨h1, h2, h3⟩
section
variable {S P T C : Nat} {cn rt pq : Int32} {K F G yl yr yh yb yl0 yr0 yh0 : Nat → Int32} {post : Int32 → SY → Prop} {J44 J61 : Int32 → Int32 → Int32 → Int32 → Int32 → Int32 → Int32 → Int32 → Int32 → (Nat → Int32) → (Nat → Int32) → (Nat → Int32) → (Nat → Int32) → (Nat → Int32) → (Nat → Int32) → (Nat → Int32) → Prop} {x1 x2 x3 : Int32}
theorem yw_72 {hh dn kn x : Nat} (cx : qx_C S T K F G) (hx : x < kn) (hH : hh < 1000) : ∀ (d y q : Nat) (b : bd_B) (yl yr yh yb : Nat → Int32), y + d = kn → d < q → dn ≤ x ∨ dn ≤ y → bd_H hh dn kn b → ys_P K F G S T b yl yr yh yb yl0 yr0 yh0 →
    (∀ yl' yr' yh' yb', bd_H hh dn kn (bd_in K F G S x d y b) → ys_P K F G S T (bd_in K F G S x d y b) yl' yr' yh' yb' yl0 yr0 yh0 → J61 (nI (16 + (x + 1))) (nI S) (nI P) (nI T) (nI C) cn (nI (16 + (bd_in K F G S x d y b).1)) rt pq K F G yl' yr' yh' yb') →
    wY_find_72 post J44 J61 x1 x2 x3 (nI hh) (nI (16 + kn)) (nI (16 + x)) q (nI (16 + y)) (nI S) (nI P) (nI T) (nI C) cn (nI (16 + b.1)) rt pq K F G yl yr yh yb
  | d, y, 0, b, yl, yr, yh, yb, e, hq, hd, hb, h, hp => by omega
  | 0, y, q + 1, b, yl, yr, yh, yb, e, hq, hd, hb, h, hp => by
    have hc := bd_cap cx.2.1 (by have := cx.1; omega) cx.2.2.1 h.1
    have := hb.1
    exact br_t (nI_le (by omega) (by omega)) (nm_r (nI_1 (16 + x)) (hp _ _ _ _ hb h))
  | d + 1, y, q + 1, b, yl, yr, yh, yb, e, hq, hd, hb, h, hp => by
    have hc := bd_cap cx.2.1 (by have := cx.1; omega) cx.2.2.1 h.1
    have hkn := hb.1
    have hvx : vp_in (nI (16 + x)) 65 := vp_in_nI (by omega) (by omega)
    have hvy : vp_in (nI (16 + y)) 65 := vp_in_nI (by omega) (by omega)
    have ax := hb.2.1 x hx
    have ay := hb.2.1 y (by omega)
    have g : ∀ w, w + 1 = hh → wY_find_113 post J44 J61 (wY_find_72 post J44 J61 x1 x2 x3 (nI hh) (nI (16 + kn)) (nI (16 + x)) q) x1 x2 x3 (nI hh) (nI (16 + kn)) (nI (16 + x)) (nI (16 + y)) (nI w) (nI S) (nI P) (nI T) (nI C) cn (nI (16 + b.1)) rt pq K F G yl yr yh yb := by
      intro w hw
      unfold wY_find_113
      refine br_t (by rw [nI_1, hw]) (yw_co (n := -1) (x := x) (y := y) cx h (Or.inr ⟨rfl, by omega, by omega⟩) (if_pos bd_neg).symm (if_pos bd_neg).symm (fun yl' yr' yh' yb' h' => nm_r (nI_1 (16 + y)) ?_))
      exact yw_72 cx hx hH d (y + 1) q _ yl' yr' yh' yb' (by omega) (by omega) (by omega) (bd_Had hb hx (by omega) hd) h' hp
    refine br_f (nI_ge (by omega) (by omega)) ?_
    rw [nI_clamp (by omega), nI_clamp (by omega), (h.2.1 x (by omega)).2.2, (h.2.1 y (by omega)).2.2]
    exact ⟨hvx, hvy, pk_le (b.2.1 x).2.2.2 (b.2.1 y).2.2.2 (fun h1 => ⟨hvy, g _ (by omega)⟩) (fun h1 => ⟨hvx, g _ (by omega)⟩)⟩
theorem yw_72b {hh dn kn x : Nat} (cx : qx_C S T K F G) (hx : x < dn) (hdk : dn ≤ kn) (hH : hh < 1000) {b : bd_B} (hb : bd_H hh dn kn b) (h : ys_P K F G S T b yl yr yh yb yl0 yr0 yh0) 
    (hp : ∀ yl' yr' yh' yb', bd_H hh dn kn (bd_in K F G S x (kn - dn) dn b) → ys_P K F G S T (bd_in K F G S x (kn - dn) dn b) yl' yr' yh' yb' yl0 yr0 yh0 → J61 (nI (16 + (x + 1))) (nI S) (nI P) (nI T) (nI C) cn (nI (16 + (bd_in K F G S x (kn - dn) dn b).1)) rt pq K F G yl' yr' yh' yb') : ∀ (d y q : Nat), y + d = dn → kn - y < q →
    wY_find_72 post J44 J61 x1 x2 x3 (nI hh) (nI (16 + kn)) (nI (16 + x)) q (nI (16 + y)) (nI S) (nI P) (nI T) (nI C) cn (nI (16 + b.1)) rt pq K F G yl yr yh yb
  | d, y, 0, e, hq => by omega
  | 0, y, q + 1, e, hq => by
    have e : y = dn := by omega
    subst e
    exact yw_72 cx (by omega) hH (kn - y) y (q + 1) b yl yr yh yb (by omega) (by omega) (Or.inr (Nat.le_refl _)) hb h hp
  | d + 1, y, q + 1, e, hq => by
    have hc := bd_cap cx.2.1 (by have := cx.1; omega) cx.2.2.1 h.1
    have hkn := hb.1
    have hvx : vp_in (nI (16 + x)) 65 := vp_in_nI (by omega) (by omega)
    have hvy : vp_in (nI (16 + y)) 65 := vp_in_nI (by omega) (by omega)
    have ax := hb.2.1 x (by omega)
    have ay := hb.2.1 y (by omega)
    have g : ∀ w, w + 1 < hh → wY_find_113 post J44 J61 (wY_find_72 post J44 J61 x1 x2 x3 (nI hh) (nI (16 + kn)) (nI (16 + x)) q) x1 x2 x3 (nI hh) (nI (16 + kn)) (nI (16 + x)) (nI (16 + y)) (nI w) (nI S) (nI P) (nI T) (nI C) cn (nI (16 + b.1)) rt pq K F G yl yr yh yb := by
      intro w hw
      unfold wY_find_113
      refine br_f (by rw [nI_1, nI_eq (by omega) (by omega)]; omega) (nm_r (nI_1 (16 + y)) ?_)
      exact yw_72b cx hx hdk hH hb h hp d (y + 1) q (by omega) (by omega)
    refine br_f (nI_ge (by omega) (by omega)) ?_
    rw [nI_clamp (by omega), nI_clamp (by omega), (h.2.1 x (by omega)).2.2, (h.2.1 y (by omega)).2.2]
    exact ⟨hvx, hvy, pk_le (b.2.1 x).2.2.2 (b.2.1 y).2.2.2 (fun h1 => ⟨hvy, g _ (by omega)⟩) (fun h1 => ⟨hvx, g _ (by omega)⟩)⟩
theorem yw_61 {hh dn kn : Nat} (cx : qx_C S T K F G) (hdk : dn ≤ kn) (hH : hh < 1000) : ∀ (d x q : Nat) (b : bd_B) (yl yr yh yb : Nat → Int32), x + d = kn → d < q → bd_H hh dn kn b → ys_P K F G S T b yl yr yh yb yl0 yr0 yh0 →
    (∀ yl' yr' yh' yb', bd_H hh dn kn (bd_ps K F G S dn kn d x b) → ys_P K F G S T (bd_ps K F G S dn kn d x b) yl' yr' yh' yb' yl0 yr0 yh0 → J44 (nI (hh + 1)) (nI S) (nI P) (nI T) (nI C) cn (nI (16 + (bd_ps K F G S dn kn d x b).1)) rt pq K F G yl' yr' yh' yb') →
    wY_find_61 post J44 x1 x2 x3 (nI hh) (nI (16 + kn)) q (nI (16 + x)) (nI S) (nI P) (nI T) (nI C) cn (nI (16 + b.1)) rt pq K F G yl yr yh yb
  | d, x, 0, b, yl, yr, yh, yb, e, hq, hb, h, hp => by omega
  | 0, x, q + 1, b, yl, yr, yh, yb, e, hq, hb, h, hp => by
    have hc := bd_cap cx.2.1 (by have := cx.1; omega) cx.2.2.1 h.1
    have := hb.1
    exact br_t (nI_le (by omega) (by omega)) (nm_r (nI_1 hh) (hp _ _ _ _ hb h))
  | d + 1, x, q + 1, b, yl, yr, yh, yb, e, hq, hb, h, hp => by
    have hc := bd_cap cx.2.1 (by have := cx.1; omega) cx.2.2.1 h.1
    have := hb.1
    unfold bd_ps at hp
    refine br_f (nI_ge (by omega) (by omega)) ⟨kn + 1, ?_⟩
    by_cases z : dn ≤ x
    · rw [if_pos z] at hp
      refine yw_72 cx (by omega) hH kn 0 (kn + 1) b yl yr yh yb (by omega) (by omega) (Or.inl z) hb h (fun yl' yr' yh' yb' hb' h' => ?_)
      exact yw_61 cx hdk hH d (x + 1) q _ yl' yr' yh' yb' (by omega) (by omega) hb' h' hp
    · rw [if_neg z] at hp
      refine yw_72b cx (by omega) hdk hH hb h (fun yl' yr' yh' yb' hb' h' => ?_) dn 0 (kn + 1) (by omega) (by omega)
      exact yw_61 cx hdk hH d (x + 1) q _ yl' yr' yh' yb' (by omega) (by omega) hb' h' hp
theorem yw_44 (cx : qx_C S T K F G) : ∀ (r q dn : Nat) (b : bd_B) (yl yr yh yb : Nat → Int32), r ≤ 32 → r < q → dn ≤ b.1 → bd_H (33 - r) dn b.1 b → ys_P K F G S T b yl yr yh yb yl0 yr0 yh0 →
    (∀ yl' yr' yh' yb', ys_P K F G S T (bd_rd K F G S r dn b) yl' yr' yh' yb' yl0 yr0 yh0 → ∃ n154 : Nat, wY_find_154 post x1 x2 x3 (nI S) (nI P) (nI T) (nI C) cn (nI (16 + (bd_rd K F G S r dn b).1)) rt pq K F G yl' yr' yh' yb' n154 16) →
    wY_find_44 post x1 x2 x3 q (nI (33 - r)) (nI S) (nI P) (nI T) (nI C) cn (nI (16 + b.1)) rt pq K F G yl yr yh yb
  | r, 0, dn, b, yl, yr, yh, yb, hr, hq, hd, hb, h, hp => by omega
  | 0, q + 1, dn, b, yl, yr, yh, yb, hr, hq, hd, hb, h, hp => br_t (nI_lt (a := 32) (b := 33 - 0) (by omega) (by omega)) (hp _ _ _ _ h)
  | r + 1, q + 1, dn, b, yl, yr, yh, yb, hr, hq, hd, hb, h, hp => by
    refine br_f (nI_nlt (a := 32) (b := 33 - (r + 1)) (by omega) (by omega)) ⟨b.1 + 1, yw_61 (dn := dn) (kn := b.1) cx hd (by omega) b.1 0 (b.1 + 1) b yl yr yh yb (by omega) (by omega) hb h (fun yl' yr' yh' yb' hb' h' => ?_)⟩
    have hb2 := bd_Hn hb'
    have e : 33 - (r + 1) + 1 = 33 - r := by omega
    rw [e] at hb2 ⊢
    exact yw_44 cx r q b.1 _ yl' yr' yh' yb' (by omega) (by omega) (bd_psle _ _ _) hb2 h' hp
theorem yw_19 (cx : qx_C S T K F G) : ∀ (d k q : Nat) (b : bd_B) (yl yr yh yb : Nat → Int32), k + d = T + 1 → d < q → bd_H 1 0 b.1 b → ys_P K F G S T b yl yr yh yb yl0 yr0 yh0 →
    (∀ yl' yr' yh' yb', bd_H 1 0 (bd_lf K F G S d k b).1 (bd_lf K F G S d k b) → ys_P K F G S T (bd_lf K F G S d k b) yl' yr' yh' yb' yl0 yr0 yh0 → ∃ n44 : Nat, wY_find_44 post x1 x2 x3 n44 1 (nI S) (nI P) (nI T) (nI C) cn (nI (16 + (bd_lf K F G S d k b).1)) rt pq K F G yl' yr' yh' yb') →
    wY_find_19 post x1 x2 x3 q (nI k) (nI S) (nI P) (nI T) (nI C) cn (nI (16 + b.1)) rt pq K F G yl yr yh yb
  | d, y, 0, b, yl, yr, yh, yb, e, hq, hb, h, hp => by omega
  | 0, k, q + 1, b, yl, yr, yh, yb, e, hq, hb, h, hp => by
    have hT := cx.2.1
    exact br_t (nI_lt (by omega) (by omega)) (hp _ _ _ _ hb h)
  | d + 1, k, q + 1, b, yl, yr, yh, yb, e, hq, hb, h, hp => by
    have hT := cx.2.1
    have hn : ¬ nI k < 0 := nI_pos (by omega)
    refine br_f (nI_nlt (by omega) (by omega)) (yw_co (n := nI k) (x := 0) (y := 0) cx h (Or.inl ⟨k, by omega, rfl, rfl, rfl⟩) (if_neg hn).symm (if_neg hn).symm (fun yl' yr' yh' yb' h' => nm_r (nI_1 k) ?_))
    exact yw_19 cx d (k + 1) q _ yl' yr' yh' yb' (by omega) (by omega) (bd_Hlf (by omega) hb) h' hp
theorem yw_154 {M : Nat → Int32} {a c k : Nat} {w : Bool} (hS : S ≤ 12) (ha : a < S) (hc : c < S) (hk : k ≤ 48) (hM : ∀ i, i < k → yr_row S yb (16 + i) (M i)) : ∀ d i q : Nat, i + d = k → d < q →
    (bd_fi M a c w d i = none → post 0 (nI S, nI P, nI T, nI C, cn, nI (16 + k), rt, pq, K, F, G, yl, yr, yh, yb)) → (∀ j, bd_fi M a c w d i = some j → post 1 (nI S, nI P, nI T, nI C, cn, nI (16 + k), nI (16 + j), nI (16 + j), K, F, G, yl, yr, yh, yb)) →
    wY_find_154 post (nI a) (nI c) (mz_i w) (nI S) (nI P) (nI T) (nI C) cn (nI (16 + k)) rt pq K F G yl yr yh yb q (nI (16 + i))
  | d, i, 0, e, hq, hn, hs => by omega
  | 0, i, q + 1, e, hq, hn, hs => br_t (nI_le (by omega) (by omega)) (hn rfl)
  | d + 1, i, q + 1, e, hq, hn, hs => by
    have m1 : nI (16 + i) * 12 + nI a = nI ((16 + i) * 12 + a) := yu_12 _ _
    have m2 : nI (16 + i) * 12 + nI c = nI ((16 + i) * 12 + c) := yu_12 _ _
    unfold bd_fi at hn hs
    refine br_f (nI_ge (by omega) (by omega)) ?_
    rw [m1, m2, nI_clamp (by omega), nI_clamp (by omega), hM i (by omega) a ha, hM i (by omega) c hc]
    refine ⟨vp_in_nI (by omega) (by omega), mz_c _ (fun e1 => ?_) (fun e1 => ⟨vp_in_nI (by omega) (by omega), ?_⟩)⟩
    · rw [if_neg (fun z => by rw [e1] at z; cases z.1)] at hn hs
      exact nm_r (nI_1 (16 + i)) (yw_154 hS ha hc hk hM d (i + 1) q (by omega) (by omega) hn hs)
    · by_cases e2 : bt (M i) c = w
      · rw [if_pos ⟨e1, e2⟩] at hs
        exact br_t ((mz_ij _ _).mpr e2) (hs i rfl)
      · rw [if_neg (fun z => e2 z.2)] at hn hs
        exact br_f (fun z => e2 ((mz_ij _ _).mp z)) (nm_r (nI_1 (16 + i)) (yw_154 hS ha hc hk hM d (i + 1) q (by omega) (by omega) hn hs))
theorem ys_P0 : ys_P K F G S T bd_0 yl yr yh yb yl yr yh :=
  ⟨⟨fun i hi => absurd hi (Nat.not_lt_zero _), fun i j _ hj => absurd hj (Nat.not_lt_zero _)⟩, fun i hi => absurd hi (Nat.not_lt_zero _), fun i hi => absurd hi (Nat.not_lt_zero _), fun j _ => ⟨rfl, rfl, rfl⟩⟩
theorem yw_find {ed : Int32} {a c : Nat} {w : Bool} (cx : qx_C S T K F G) (ha : a < S) (hc : c < S)
    (hn : ∀ yl' yr' yh' yb', ys_P K F G S T (bd_all K F G S T) yl' yr' yh' yb' yl yr yh → bd_fi (bd_all K F G S T).2.2 a c w (bd_all K F G S T).1 0 = none → post 0 (nI S, nI P, nI T, nI C, cn, nI (16 + (bd_all K F G S T).1), -1, -1, K, F, G, yl', yr', yh', yb'))
    (hs : ∀ yl' yr' yh' yb' j, ys_P K F G S T (bd_all K F G S T) yl' yr' yh' yb' yl yr yh → bd_fi (bd_all K F G S T).2.2 a c w (bd_all K F G S T).1 0 = some j → post 1 (nI S, nI P, nI T, nI C, cn, nI (16 + (bd_all K F G S T).1), nI (16 + j), nI (16 + j), K, F, G, yl', yr', yh', yb')) :
    wpY_find post (nI S, nI P, nI T, nI C, cn, ed, rt, pq, K, F, G, yl, yr, yh, yb) (nI a) (nI c) (mz_i w) := by
  unfold wpY_find
  refine ⟨T + 2, yw_19 cx (T + 1) 0 (T + 2) bd_0 yl yr yh yb (by omega) (by omega) ⟨Nat.le_refl _, fun i hi => absurd hi (Nat.not_lt_zero _), fun i _ hi => absurd hi (Nat.not_lt_zero _)⟩ ys_P0 (fun yl' yr' yh' yb' hb' h' => ⟨33, ?_⟩)⟩
  have hall : bd_rd K F G S 32 0 (bd_lf K F G S (T + 1) 0 bd_0) = bd_all K F G S T := rfl
  have q44 := yw_44 (post := post) (x1 := nI a) (x2 := nI c) (x3 := mz_i w) (P := P) (C := C) (cn := cn) (rt := -1) (pq := -1) cx 32 33 0 (bd_lf K F G S (T + 1) 0 bd_0) yl' yr' yh' yb' (by omega) (by omega) (Nat.zero_le _) hb' h'
  rw [hall] at q44
  refine q44 (fun yl' yr' yh' yb' h' => ?_)
  have hk := bd_cap cx.2.1 (by have := cx.1; omega) cx.2.2.1 h'.1
  exact ⟨(bd_all K F G S T).1 + 1, yw_154 (M := (bd_all K F G S T).2.2) cx.1 ha hc hk h'.2.2.1 (bd_all K F G S T).1 0 ((bd_all K F G S T).1 + 1) (Nat.zero_add _) (Nat.lt_succ_self _) (hn yl' yr' yh' yb' h') (fun j => hs yl' yr' yh' yb' j h')⟩
end
end
section
/-! the reference: membership row by row, the copy of the list to the view -/
theorem yg_ext {o c : Nat} {f : Nat → bd_N} {yl yr yh : Nat → Int32} (h : yg_ o c f yl yr yh) : yg_ o (c + 1) f (upd yl (o + c) (yg_l o (f c).1 (f c).2.1)) (upd yr (o + c) (yg_r o (f c).1 (f c).2.2.1)) (upd yh (o + c) (nI (f c).2.2.2)) := by
  intro i hi
  have w := yg_put h (f c) i hi
  by_cases z : i = c
  · subst z
    rw [bd_nus] at w
    exact w
  · rw [bd_nun z] at w
    exact w
section
variable {S P T C : Nat} {cn ed rt pq : Int32} {K F G yl yr yh yb yl0 yr0 yh0 : Nat → Int32}
theorem yv_nd {o i j : Nat} {f : Nat → bd_N} (hT : T ≤ 15) (ho : o + i < 65) (hj : j ≤ i) (hf : bd_nd T f j) (hy : yg_ o (i + 1) f yl yr yh) (hr : ∀ i', i' < j → yr_row S yb (o + i') (fm_ K F G S f j i')) : yr_nd S yl yr yb (o + j) (f j).1 (fm_ K F G S f j (f j).2.1) (fm_ K F G S f j (f j).2.2.1) := by
  obtain ⟨a1, a2, a3⟩ := hy j (by omega)
  unfold yr_nd
  rw [a1, a2]
  unfold yg_l yg_r
  rcases bd_ndn (by omega) hf with ⟨k, z0, z1, z⟩ | ⟨z1, z2, z3, z4⟩
  · rw [if_neg z, if_neg z]
    exact Or.inl ⟨z, rfl, rfl⟩
  · have hn : (f j).1 < 0 := by rw [z1]; exact bd_neg
    rw [if_pos hn, if_pos hn]
    exact Or.inr ⟨z1, _, _, by omega, by omega, by omega, by omega, rfl, rfl, hr _ z2, hr _ z3⟩
theorem yv_rows {o j : Nat} {f : Nat → bd_N} {yb' : Nat → Int32} (hS : S ≤ 12) (hr : ∀ i', i' < j → yr_row S yb (o + i') (fm_ K F G S f j i')) (w1 : yr_row S yb' (o + j) (mz_m K F G (f j).1 (fm_ K F G S f j (f j).2.1) (fm_ K F G S f j (f j).2.2.1) S)) (w2 : yr_out (o + j) yb' yb) : ∀ i', i' < j + 1 → yr_row S yb' (o + i') (fm_ K F G S f (j + 1) i') := by
  intro i' hi'
  rw [fm_s]
  by_cases z : i' = j
  · subst z
    rw [pk_us]
    exact w1
  · rw [pk_un z]
    intro t ht
    rw [w2 _ (by omega)]
    exact hr i' (by omega) t ht
theorem yw_vi {post : Int32 → SY → Prop} {i t : Nat} {f : Nat → bd_N} (cx : qx_C S T K F G) (ht : t < S) (hi : i < 16) (hf : ∀ j, j ≤ i → bd_nd T f j) (hy : yg_ 0 (i + 1) f yl yr yh)
    (hp : ∀ yb', post (mz_i (bt (fm_ K F G S f (i + 1) i) t)) (nI S, nI P, nI T, nI C, cn, ed, rt, pq, K, F, G, yl, yr, yh, yb')) : ∀ (d j q : Nat) (yb : Nat → Int32), j + d = i + 1 → d < q → (∀ i', i' < j → yr_row S yb (0 + i') (fm_ K F G S f j i')) →
    wY_valueIn_22 post (nI i) (nI t) q (nI j) (nI S) (nI P) (nI T) (nI C) cn ed rt pq K F G yl yr yh yb
  | d, j, 0, yb, e, hq, hr => by omega
  | 0, j, q + 1, yb, e, hq, hr => by
    have e : j = i + 1 := by omega
    subst e
    have hS := cx.1
    have m1 : nI i * 12 + nI t = nI (i * 12 + t) := yu_12 _ _
    have w := hr i (by omega) t ht
    rw [Nat.zero_add] at w
    refine br_t (nI_lt (by omega) (by omega)) ?_
    rw [m1, nI_clamp (by omega), w]
    refine ⟨vp_in_nI (by omega) (by omega), mz_c _ (fun e1 => ?_) (fun e1 => ?_)⟩
    · rw [e1] at hp; exact hp yb
    · rw [e1] at hp; exact hp yb
  | d + 1, j, q + 1, yb, e, hq, hr => by
    have n := yv_nd (o := 0) (S := S) (K := K) (F := F) (G := G) (yb := yb) cx.2.1 (by omega) (by omega) (hf j (by omega)) hy hr
    rw [Nat.zero_add] at n
    refine br_f (nI_nlt (by omega) (by omega)) (yw_fill cx.1 (by omega) cx.2.2.2 n (fun yb' w1 w2 => nm_r (nI_1 j) ?_))
    exact yw_vi cx ht hi hf hy hp d (j + 1) q yb' (by omega) (by omega) (yv_rows cx.1 hr (by rw [Nat.zero_add]; exact w1) (by rw [Nat.zero_add]; exact w2))
theorem yw_hi {post : Int32 → SY → Prop} {i t : Nat} {f : Nat → bd_N} (cx : qx_C S T K F G) (ht : t < S) (hi : i < 48) (hf : ∀ j, j ≤ i → bd_nd T f j) (hy : yg_ 16 (i + 1) f yl yr yh)
    (hp : ∀ yb', post (mz_i (bt (fm_ K F G S f (i + 1) i) t)) (nI S, nI P, nI T, nI C, cn, ed, rt, nI (16 + i), K, F, G, yl, yr, yh, yb')) : ∀ (d j q : Nat) (yb : Nat → Int32), j + d = i + 1 → d < q → (∀ i', i' < j → yr_row S yb (16 + i') (fm_ K F G S f j i')) →
    wY_hereIn_23 post (nI t) q (nI (16 + j)) (nI S) (nI P) (nI T) (nI C) cn ed rt (nI (16 + i)) K F G yl yr yh yb
  | d, j, 0, yb, e, hq, hr => by omega
  | 0, j, q + 1, yb, e, hq, hr => by
    have e : j = i + 1 := by omega
    subst e
    have hS := cx.1
    have m1 : nI (16 + i) * 12 + nI t = nI ((16 + i) * 12 + t) := yu_12 _ _
    have w := hr i (by omega) t ht
    refine br_t (nI_lt (by omega) (by omega)) ?_
    rw [m1, nI_clamp (by omega), w]
    refine ⟨vp_in_nI (by omega) (by omega), mz_c _ (fun e1 => ?_) (fun e1 => ?_)⟩
    · rw [e1] at hp; exact hp yb
    · rw [e1] at hp; exact hp yb
  | d + 1, j, q + 1, yb, e, hq, hr => by
    have n := yv_nd (o := 16) (S := S) (K := K) (F := F) (G := G) (yb := yb) cx.2.1 (by omega) (by omega) (hf j (by omega)) hy hr
    refine br_f (nI_nlt (by omega) (by omega)) (yw_fill cx.1 (by omega) cx.2.2.2 n (fun yb' w1 w2 => nm_r (nI_1 (16 + j)) ?_))
    exact yw_hi cx ht hi hf hy hp d (j + 1) q yb' (by omega) (by omega) (yv_rows cx.1 hr w1 w2)
theorem yw_lk {post : Int32 → SY → Prop} {i : Nat} {f : Nat → bd_N} (hT : T ≤ 15) (hi : i < 16) (hf : ∀ j, j ≤ i → bd_nd T f j) (hy : yg_ 0 (i + 1) f yl0 yr0 yh0) : ∀ (d j q : Nat) (yl yr yh : Nat → Int32), j + d = i + 1 → d < q → yg_ 16 j f yl yr yh → yg_fr 16 yl yr yh yl0 yr0 yh0 →
    (∀ yl' yr' yh', yg_ 16 (i + 1) f yl' yr' yh' → yg_fr 16 yl' yr' yh' yl0 yr0 yh0 → post 1 (nI S, nI P, nI T, nI C, cn, ed, nI (16 + i), nI (16 + i), K, F, G, yl', yr', yh', yb)) →
    wY_look_12 post (nI i) q (nI j) (nI S) (nI P) (nI T) (nI C) cn ed rt pq K F G yl yr yh yb
  | d, j, 0, yl, yr, yh, e, hq, h1, h2, hp => by omega
  | 0, j, q + 1, yl, yr, yh, e, hq, h1, h2, hp => by
    have e : j = i + 1 := by omega
    subst e
    exact br_t (nI_lt (by omega) (by omega)) (nm_r (nI_add 16 i) (hp _ _ _ h1 h2))
  | d + 1, j, q + 1, yl, yr, yh, e, hq, h1, h2, hp => by
    have hv : vp_in (nI j) 65 := vp_in_nI (by omega) (by omega)
    obtain ⟨a1, a2, a3⟩ := h2 j (by omega)
    obtain ⟨b1, b2, b3⟩ := hy j (by omega)
    rw [Nat.zero_add] at b1 b2 b3
    have hj := hf j (by omega)
    have w := yg_ext h1
    refine br_f (nI_nlt (by omega) (by omega)) ?_
    rw [nI_clamp (by omega), a1, a2, b1, b2, show (16 : Int32) + nI j = nI (16 + j) from nI_add 16 j]
    refine ⟨hv, ?_⟩
    unfold yg_l yg_r at w ⊢
    rcases bd_ndn (by omega) hj with ⟨k, z0, z1, z⟩ | ⟨z1, z2, z3, z4⟩
    · rw [if_neg z, if_neg z]
      rw [if_neg z, if_neg z, show (f j).2.2.2 = 0 by rw [z1]] at w
      refine br_f (by decide) ⟨hv, yw_put0 (by omega) (nm_r (nI_1 j) ?_)⟩
      exact yw_lk hT hi hf hy d (j + 1) q _ _ _ (by omega) (by omega) w (yg_frp h2 (by omega)) hp
    · have hn : (f j).1 < 0 := by rw [z1]; exact bd_neg
      rw [if_pos hn, if_pos hn, Nat.zero_add, Nat.zero_add]
      rw [if_pos hn, if_pos hn, z4] at w
      have l1 := (hf (f j).2.1 (by omega)).2
      have l2 := (hf (f j).2.2.1 (by omega)).2
      refine br_t (nI_pos' (by omega)) ⟨hv, hv, ?_⟩
      rw [show (16 : Int32) + nI (f j).2.1 = nI (16 + (f j).2.1) from nI_add 16 _, show (16 : Int32) + nI (f j).2.2.1 = nI (16 + (f j).2.2.1) from nI_add 16 _]
      refine yw_put2 (by omega) (by omega) (by omega) (by omega) (by omega) (h1 _ z2).2.2 (h1 _ z3).2.2 (by omega) (by omega) (nm_r (nI_1 j) ?_)
      exact yw_lk hT hi hf hy d (j + 1) q _ _ _ (by omega) (by omega) w (yg_frp h2 (by omega)) hp
end
end
section
/-! the relation -/
def rl_C (S P T C lc : Nat) (K F G : Nat → Int32) : Prop := S ≤ 12 ∧ P ≤ 5 ∧ T ≤ 15 ∧ C ≤ 16 ∧ lc ≤ C ∧ mz_np K S ≤ P ∧ ∀ s, s < S → mz_ok S K F G s
def rl_L (T lc : Nat) (num lef rig hei yl yr yh : Nat → Int32) : Prop := ∃ f : Nat → bd_N, (∀ i, i < lc → bd_nd T f i) ∧ xr_ 0 lc f num lef rig hei ∧ yg_ 0 lc f yl yr yh
def rl_B (K F G : Nat → Int32) (S T : Nat) (num lef rig hei msk : Nat → Int32) : Prop :=
  bd_G K F G S T (bd_all K F G S T) ∧ xr_ 16 (bd_all K F G S T).1 (bd_all K F G S T).2.1 num lef rig hei ∧ ∀ i, i < (bd_all K F G S T).1 → msk (16 + i) = (bd_all K F G S T).2.2 i
def rl_X (K F G : Nat → Int32) (S T : Nat) (sc fr : Int32) (num lef rig hei msk : Nat → Int32) : Prop :=
  fr = 0 ∨ (fr = 1 ∧ sc = nI (bd_all K F G S T).1 ∧ rl_B K F G S T num lef rig hei msk)
def rl_V (T : Nat) (vr pl rt pq : Int32) (num lef rig hei yl yr yh : Nat → Int32) : Prop :=
  (vr = -1 ∧ pl = -1 ∧ rt = -1 ∧ pq = -1) ∨ ∃ (r p : Nat) (f : Nat → bd_N), p ≤ r ∧ r < 48 ∧ vr = nI r ∧ pl = nI p ∧ rt = nI (16 + r) ∧ pq = nI (16 + p) ∧ (∀ i, i ≤ r → bd_nd T f i) ∧ xr_ 64 (r + 1) f num lef rig hei ∧ yg_ 16 (r + 1) f yl yr yh
/-- the same slots and limits; the same list and view of values, the reference's nodes numbered from 16 on in its view; the component's states, if fresh, are the search's -/
def i_Rel (k : Nat) (u : SX) (v : SY) : Prop :=
  ∃ (S P T C lc : Nat) (sc fr vr pl : Int32) (K F G num lef rig hei msk : Nat → Int32) (ed rt pq : Int32) (yl yr yh yb : Nat → Int32),
    u = (nI S, nI P, nI T, nI C, 0, 16, 64, nI lc, sc, fr, vr, pl, K, F, G, num, lef, rig, hei, msk) ∧ v = (nI S, nI P, nI T, nI C, nI lc, ed, rt, pq, K, F, G, yl, yr, yh, yb) ∧ rl_C S P T C lc K F G ∧ rl_L T lc num lef rig hei yl yr yh ∧ rl_X K F G S T sc fr num lef rig hei msk ∧ rl_V T vr pl rt pq num lef rig hei yl yr yh
theorem i_up {k : Nat} {u : SX} {v : SY} (h : i_Rel k u v) : i_Rel (k + 5) u v := h
theorem rl_el {k : Nat} {u : SX} {v : SY} {Q : SX → SY → Prop} (h : ∀ (S P T C lc : Nat) (sc fr vr pl : Int32) (K F G num lef rig hei msk : Nat → Int32) (ed rt pq : Int32) (yl yr yh yb : Nat → Int32), rl_C S P T C lc K F G → rl_L T lc num lef rig hei yl yr yh → rl_X K F G S T sc fr num lef rig hei msk → rl_V T vr pl rt pq num lef rig hei yl yr yh → Q (nI S, nI P, nI T, nI C, 0, 16, 64, nI lc, sc, fr, vr, pl, K, F, G, num, lef, rig, hei, msk) (nI S, nI P, nI T, nI C, nI lc, ed, rt, pq, K, F, G, yl, yr, yh, yb)) (I : i_Rel k u v) : Q u v :=
  Exists.elim I fun S I => Exists.elim I fun P I => Exists.elim I fun T I => Exists.elim I fun C I => Exists.elim I fun lc I => Exists.elim I fun sc I => Exists.elim I fun fr I => Exists.elim I fun vr I => Exists.elim I fun pl I => Exists.elim I fun K I => Exists.elim I fun F I => Exists.elim I fun G I => Exists.elim I fun num I => Exists.elim I fun lef I => Exists.elim I fun rig I => Exists.elim I fun hei I => Exists.elim I fun msk I => Exists.elim I fun ed I => Exists.elim I fun rt I => Exists.elim I fun pq I => Exists.elim I fun yl I => Exists.elim I fun yr I => Exists.elim I fun yh I => Exists.elim I fun yb I =>
    Eq.mpr (congrArg (fun z => Q z v) I.1) (Eq.mpr (congrArg (fun z => Q _ z) I.2.1) (h S P T C lc sc fr vr pl K F G num lef rig hei msk ed rt pq yl yr yh yb I.2.2.1 I.2.2.2.1 I.2.2.2.2.1 I.2.2.2.2.2))
section
variable {k S P T C lc : Nat} {sc fr vr pl : Int32} {K F G num lef rig hei msk : Nat → Int32} {ed rt pq : Int32} {yl yr yh yb : Nat → Int32}
theorem rl_mk (hC : rl_C S P T C lc K F G) (hL : rl_L T lc num lef rig hei yl yr yh) (hX : rl_X K F G S T sc fr num lef rig hei msk) (hV : rl_V T vr pl rt pq num lef rig hei yl yr yh) : i_Rel k (nI S, nI P, nI T, nI C, 0, 16, 64, nI lc, sc, fr, vr, pl, K, F, G, num, lef, rig, hei, msk) (nI S, nI P, nI T, nI C, nI lc, ed, rt, pq, K, F, G, yl, yr, yh, yb) :=
  ⟨S, P, T, C, lc, sc, fr, vr, pl, K, F, G, num, lef, rig, hei, msk, ed, rt, pq, yl, yr, yh, yb, rfl, rfl, hC, hL, hX, hV⟩
theorem rl_cx (hC : rl_C S P T C lc K F G) : qx_C S T K F G := by
  obtain ⟨a, b, c, d, e, f, g⟩ := hC
  exact ⟨a, c, by omega, g⟩
end
/-! the constructors -/
theorem rl_kl (p : Int32) {lo hi : Nat} (h : lo ≤ hi) (hh : hi < 2 ^ 31) : ∃ n, lo ≤ n ∧ n ≤ hi ∧ (∀ (post : Int32 → Prop) (u : SX), post (nI n) → wpX_clamp post u p (nI lo) (nI hi)) ∧ (∀ (post : Int32 → Prop) (u : SY), post (nI n) → wpY_clamp post u p (nI lo) (nI hi)) := by
  by_cases a : nI lo ≤ p
  · by_cases b : p ≤ nI hi
    · have hp : ¬ p < 0 := by
        rw [Int32.le_iff_toInt_le, nI_toInt (by omega)] at a
        rw [Int32.lt_iff_toInt_lt, Int32.toInt_zero]
        omega
      obtain ⟨j, hj, rfl⟩ := nI_of hp
      refine ⟨j, (nI_leI (by omega) hj).mp a, (nI_leI hj hh).mp b, fun post u hp => ?_, fun post u hp => ?_⟩
      · obtain ⟨fs, fp, ft, fc, lb, sb, vb, ls, sc, fr, vr, pl, K, F, G, num, lef, rig, hei, msk⟩ := u
        unfold wpX_clamp
        exact br_t a (br_t b hp)
      · obtain ⟨gs, gp, gt, gc, cn, ed, rt, pq, K, F, G, yl, yr, yh, yb⟩ := u
        unfold wpY_clamp
        exact br_t a (br_t b hp)
    · refine ⟨hi, h, Nat.le_refl _, fun post u hp => ?_, fun post u hp => ?_⟩
      · obtain ⟨fs, fp, ft, fc, lb, sb, vb, ls, sc, fr, vr, pl, K, F, G, num, lef, rig, hei, msk⟩ := u
        unfold wpX_clamp
        exact br_t a (br_f b hp)
      · obtain ⟨gs, gp, gt, gc, cn, ed, rt, pq, K, F, G, yl, yr, yh, yb⟩ := u
        unfold wpY_clamp
        exact br_t a (br_f b hp)
  · refine ⟨lo, Nat.le_refl _, h, fun post u hp => ?_, fun post u hp => ?_⟩
    · obtain ⟨fs, fp, ft, fc, lb, sb, vb, ls, sc, fr, vr, pl, K, F, G, num, lef, rig, hei, msk⟩ := u
      unfold wpX_clamp
      exact br_f a hp
    · obtain ⟨gs, gp, gt, gc, cn, ed, rt, pq, K, F, G, yl, yr, yh, yb⟩ := u
      unfold wpY_clamp
      exact br_f a hp
theorem mz_np0 : ∀ s, mz_np (fun _ => 0) s = 0
  | 0 => rfl
  | s + 1 => by
    unfold mz_np
    rw [if_neg (by decide)]
    exact mz_np0 s
theorem i_vc0 (k0 : Int32) (k1 : Int32) (k2 : Int32) (k3 : Int32) : wpX_init (fun u => wpY_init (fun v => i_Rel 4 u v) k0 k1 k2 k3) k0 k1 k2 k3 := by
  obtain ⟨S, s1, s2, sX, sY⟩ := rl_kl k0 (lo := 4) (hi := 12) (by omega) (by omega)
  obtain ⟨P, p1, p2, pX, pY⟩ := rl_kl k1 (lo := 1) (hi := 5) (by omega) (by omega)
  obtain ⟨T, t1, t2, tX, tY⟩ := rl_kl k2 (lo := 1) (hi := 15) (by omega) (by omega)
  obtain ⟨C, c1, c2, cX, cY⟩ := rl_kl k3 (lo := 4) (hi := 16) (by omega) (by omega)
  unfold wpX_init
  refine sX _ _ (pX _ _ (tX _ _ (cX _ _ ?_)))
  unfold wpY_init
  refine sY _ _ (pY _ _ (tY _ _ (cY _ _ ?_)))
  refine rl_mk (lc := 0) ⟨s2, p2, t2, c2, Nat.zero_le _, by rw [mz_np0]; omega, fun s _ => ⟨fun h => absurd h (show ¬ (0 : Int32) = 1 by decide), fun h => absurd h (show ¬ (0 : Int32) = 2 by decide), fun h => ?_, fun h => absurd h (show ¬ (0 : Int32) = 5 by decide)⟩⟩ ⟨fun _ => (0, 0, 0, 0), fun i hi => absurd hi (Nat.not_lt_zero _), fun i hi => absurd hi (Nat.not_lt_zero _), fun i hi => absurd hi (Nat.not_lt_zero _)⟩ (Or.inl rfl) (Or.inl ⟨rfl, rfl, rfl, rfl⟩)
  rcases h with h | h | h
  · exact absurd h (show ¬ (0 : Int32) = 3 by decide)
  · exact absurd h (show ¬ (0 : Int32) = 4 by decide)
  · exact absurd h (show ¬ (0 : Int32) = 6 by decide)
end
section
/-! the small methods of both sides -/
theorem xr_off {o c p : Nat} {f : Nat → bd_N} {num lef rig hei : Nat → Int32} {v1 v2 v3 v4 : Int32} (h : xr_ o c f num lef rig hei) (hp : p < o ∨ o + c ≤ p) : xr_ o c f (upd num p v1) (upd lef p v2) (upd rig p v3) (upd hei p v4) := by
  intro i hi
  rw [pk_un (by omega), pk_un (by omega), pk_un (by omega), pk_un (by omega)]
  exact h i hi
section
variable {k S P T C lc : Nat} {sc fr vr pl : Int32} {K F G num lef rig hei msk : Nat → Int32} {ed rt pq : Int32} {yl yr yh yb : Nat → Int32}
theorem vc_kindOf (hC : rl_C S P T C lc K F G) (hL : rl_L T lc num lef rig hei yl yr yh) (hX : rl_X K F G S T sc fr num lef rig hei msk) (hV : rl_V T vr pl rt pq num lef rig hei yl yr yh) (v1 : Int32) : wpX_kindOf (fun r => wpY_kindOf (fun r' => r' = r ∧ i_Rel (k + 5) (nI S, nI P, nI T, nI C, 0, 16, 64, nI lc, sc, fr, vr, pl, K, F, G, num, lef, rig, hei, msk) (nI S, nI P, nI T, nI C, nI lc, ed, rt, pq, K, F, G, yl, yr, yh, yb)) (nI S, nI P, nI T, nI C, nI lc, ed, rt, pq, K, F, G, yl, yr, yh, yb) v1) (nI S, nI P, nI T, nI C, 0, 16, 64, nI lc, sc, fr, vr, pl, K, F, G, num, lef, rig, hei, msk) v1 := by
  have hS := hC.1
  have I := rl_mk (k := k + 5) (ed := ed) (yb := yb) hC hL hX hV
  unfold wpX_kindOf
  refine xw_isSlot hS (fun hn => br_t rfl ?_) (fun s hs e => br_f (by decide) ?_)
  · unfold wpY_kindOf
    exact yw_noSlot hS (fun _ => br_f (by decide) ⟨rfl, I⟩) (fun s hs e => absurd ⟨s, hs, e⟩ hn)
  · subst e
    refine ⟨vp_in_nI (by omega) (by omega), ?_⟩
    unfold wpY_kindOf
    exact yw_noSlot hS (fun hn => absurd ⟨s, hs, rfl⟩ hn) (fun _ _ _ => br_t rfl ⟨vp_in_nI (by omega) (by omega), rfl, I⟩)
theorem vc_partOf (hC : rl_C S P T C lc K F G) (hL : rl_L T lc num lef rig hei yl yr yh) (hX : rl_X K F G S T sc fr num lef rig hei msk) (hV : rl_V T vr pl rt pq num lef rig hei yl yr yh) (v1 v2 : Int32) : wpX_partOf (fun r => wpY_partOf (fun r' => r' = r ∧ i_Rel (k + 5) (nI S, nI P, nI T, nI C, 0, 16, 64, nI lc, sc, fr, vr, pl, K, F, G, num, lef, rig, hei, msk) (nI S, nI P, nI T, nI C, nI lc, ed, rt, pq, K, F, G, yl, yr, yh, yb)) (nI S, nI P, nI T, nI C, nI lc, ed, rt, pq, K, F, G, yl, yr, yh, yb) v1 v2) (nI S, nI P, nI T, nI C, 0, 16, 64, nI lc, sc, fr, vr, pl, K, F, G, num, lef, rig, hei, msk) v1 v2 := by
  have hS := hC.1
  have I := rl_mk (k := k + 5) (ed := ed) (yb := yb) hC hL hX hV
  unfold wpX_partOf
  refine xw_isSlot hS (fun hn => br_t rfl ?_) (fun s hs e => br_f (by decide) ?_)
  · unfold wpY_partOf
    exact yw_noSlot hS (fun _ => br_f (by decide) ⟨rfl, I⟩) (fun s hs e => absurd ⟨s, hs, e⟩ hn)
  · subst e
    have hv : vp_in (nI s) 12 := vp_in_nI (by omega) (by omega)
    have bad : ¬ v2 = 0 → ¬ v2 = 1 → wpY_partOf (fun r' => r' = -1 ∧ i_Rel (k + 5) (nI S, nI P, nI T, nI C, 0, 16, 64, nI lc, sc, fr, vr, pl, K, F, G, num, lef, rig, hei, msk) (nI S, nI P, nI T, nI C, nI lc, ed, rt, pq, K, F, G, yl, yr, yh, yb)) (nI S, nI P, nI T, nI C, nI lc, ed, rt, pq, K, F, G, yl, yr, yh, yb) (nI s) v2 := by
      intro h0 h1
      unfold wpY_partOf
      exact yw_noSlot hS (fun hn => absurd ⟨s, hs, rfl⟩ hn) (fun _ _ _ => br_t rfl (br_f h0 (br_f h1 ⟨rfl, I⟩)))
    by_cases h0 : v2 = 0
    · subst h0
      refine br_f (by decide) (br_t (by decide) (br_t rfl ⟨hv, ?_⟩))
      unfold wpY_partOf
      refine yw_noSlot hS (fun hn => absurd ⟨s, hs, rfl⟩ hn) (fun _ _ _ => br_t rfl (br_t rfl ?_))
      unfold wY_partOf_21
      exact br_t rfl ⟨hv, rfl, I⟩
    by_cases h1 : v2 = 1
    · subst h1
      refine br_f (by decide) (br_t (by decide) (br_f (by decide) ⟨hv, ?_⟩))
      unfold wpY_partOf
      refine yw_noSlot hS (fun hn => absurd ⟨s, hs, rfl⟩ hn) (fun _ _ _ => br_t rfl (br_f (by decide) (br_t rfl ?_)))
      unfold wY_partOf_21
      exact br_f (by decide) ⟨hv, rfl, I⟩
    · refine br_c (fun _ => bad h0 h1) (fun hp => br_c (fun h2 => ?_) (fun _ => bad h0 h1))
      rw [Int32.lt_iff_toInt_lt, Int32.toInt_zero] at hp
      rw [Int32.le_iff_toInt_le, show (1 : Int32).toInt = 1 by decide] at h2
      rw [← Int32.toInt_inj, Int32.toInt_zero] at h0
      rw [← Int32.toInt_inj, show (1 : Int32).toInt = 1 by decide] at h1
      omega
theorem vc_leaf (hC : rl_C S P T C lc K F G) (hL : rl_L T lc num lef rig hei yl yr yh) (hX : rl_X K F G S T sc fr num lef rig hei msk) (hV : rl_V T vr pl rt pq num lef rig hei yl yr yh) (v1 : Int32) : wpX_leaf (fun r u' => wpY_leaf (fun r' v' => r' = r ∧ i_Rel (k + 5) u' v') (nI S, nI P, nI T, nI C, nI lc, ed, rt, pq, K, F, G, yl, yr, yh, yb) v1) (nI S, nI P, nI T, nI C, 0, 16, 64, nI lc, sc, fr, vr, pl, K, F, G, num, lef, rig, hei, msk) v1 := by
  have I := rl_mk (k := k + 5) (ed := ed) (yb := yb) hC hL hX hV
  obtain ⟨hS, hP, hT, hCC, hlc, hnp, hok⟩ := hC
  unfold wpX_leaf
  refine br_c (fun h1 => ?_) (fun h1 => br_c (fun h2 => ?_) (fun h2 => ?_))
  · unfold wpY_leaf
    exact br_t h1 ⟨rfl, I⟩
  · unfold wpX_append
    obtain ⟨j, hj, rfl⟩ := nI_of h1
    have hjT : j ≤ T := (nI_leI hj (by omega)).mp h2
    refine pk_lt lc C (fun h3 => ?_) (fun h3 => ?_)
    · refine xw_put (o := 0) (i := lc) (x := 0) (y := 0) (hx := 0) (hy := 0) (by omega) (fun hn => absurd hn h1) (nm_r (nI_1 lc) ?_)
      unfold wpY_leaf
      refine br_f h1 (br_t h2 (br_t (nI_lt h3 (by omega)) (yw_put0 (by omega) (nm_r (nI_1 lc) ⟨rfl, ?_⟩))))
      have eh : bd_h (nI j) 0 0 = 0 := if_neg h1
      rw [eh, Nat.zero_add]
      obtain ⟨f, g1, g2, g3⟩ := hL
      have w1 := xr_put g2 (nI j, 0, 0, 0)
      have w2 := yg_put g3 (nI j, 0, 0, 0)
      rw [Nat.zero_add] at w1 w2
      have e1 : yg_l 0 (nI j) 0 = -1 := if_neg h1
      have e2 : yg_r 0 (nI j) 0 = nI j := if_neg h1
      dsimp only at w1 w2
      rw [e1, e2] at w2
      refine rl_mk (lc := lc + 1) ⟨hS, hP, hT, hCC, by omega, hnp, hok⟩ ⟨_, fun i hi => ?_, w1, w2⟩ ?_ ?_
      · by_cases z : i = lc
        · subst z
          exact ⟨Or.inl ⟨j, hjT, bd_nus⟩, by rw [bd_nus]; exact Nat.zero_le _⟩
        · exact bd_ndx (fun q hq => bd_nun (by omega)) (g1 i (by omega))
      · rcases hX with h | ⟨h, h', b1, b2, b3⟩
        · exact Or.inl h
        · exact Or.inr ⟨h, h', b1, xr_off b2 (by omega), b3⟩
      · rcases hV with h | ⟨r, p, f', a1, a2, a3, a4, a5, a6, a7, a8, a9⟩
        · exact Or.inl h
        · exact Or.inr ⟨r, p, f', a1, a2, a3, a4, a5, a6, a7, xr_off a8 (by omega), yg_off a9 (by omega)⟩
    · unfold wpY_leaf
      exact br_f h1 (br_t h2 (br_f (nI_nlt h3 (by omega)) ⟨rfl, I⟩))
  · unfold wpY_leaf
    exact br_f h1 (br_f h2 ⟨rfl, I⟩)
theorem vc_join (hC : rl_C S P T C lc K F G) (hL : rl_L T lc num lef rig hei yl yr yh) (hX : rl_X K F G S T sc fr num lef rig hei msk) (hV : rl_V T vr pl rt pq num lef rig hei yl yr yh) (v1 v2 : Int32) : wpX_join (fun r u' => wpY_join (fun r' v' => r' = r ∧ i_Rel (k + 5) u' v') (nI S, nI P, nI T, nI C, nI lc, ed, rt, pq, K, F, G, yl, yr, yh, yb) v1 v2) (nI S, nI P, nI T, nI C, 0, 16, 64, nI lc, sc, fr, vr, pl, K, F, G, num, lef, rig, hei, msk) v1 v2 := by
  have I := rl_mk (k := k + 5) (ed := ed) (yb := yb) hC hL hX hV
  obtain ⟨hS, hP, hT, hCC, hlc, hnp, hok⟩ := hC
  have hL16 : lc ≤ 16 := by omega
  unfold wpX_join
  refine xw_isListed hL16 (fun hn => br_t rfl ?_) (fun s hs e => br_f (by decide) (xw_isListed hL16 (fun hn => br_t rfl ?_) (fun t ht e' => br_f (by decide) ?_)))
  · unfold wpY_join
    exact yw_noValue hL16 (fun _ => br_f (by decide) ⟨rfl, I⟩) (fun s hs e => absurd ⟨s, hs, e⟩ hn)
  · unfold wpY_join
    exact yw_noValue hL16 (fun hn' => absurd ⟨s, hs, e⟩ hn') (fun _ _ _ => br_t rfl (yw_noValue hL16 (fun _ => br_f (by decide) ⟨rfl, I⟩) (fun s hs e => absurd ⟨s, hs, e⟩ hn)))
  · subst e e'
    unfold wpX_append
    refine pk_lt lc C (fun h3 => ?_) (fun h3 => ?_)
    · obtain ⟨f, g1, g2, g3⟩ := hL
      have lx := (g1 s hs).2
      have ly := (g1 t ht).2
      refine xw_put (o := 0) (i := lc) (x := s) (y := t) (hx := (f s).2.2.2) (hy := (f t).2.2.2) (by omega) (fun hn => ⟨by omega, by omega, (g2 s hs).2.2.2, (g2 t ht).2.2.2, by omega, by omega⟩) (nm_r (nI_1 lc) ?_)
      have e5 := (g3 s hs).2.2
      have e6 := (g3 t ht).2.2
      rw [Nat.zero_add] at e5 e6
      unfold wpY_join
      refine yw_noValue hL16 (fun hn' => absurd ⟨s, hs, rfl⟩ hn') (fun _ _ _ => br_t rfl (yw_noValue hL16 (fun hn' => absurd ⟨t, ht, rfl⟩ hn') (fun _ _ _ => br_t rfl (br_t (nI_lt h3 (by omega)) (yw_put2 (by omega) (by omega) (by omega) (by omega) (by omega) e5 e6 (by omega) (by omega) (nm_r (nI_1 lc) ⟨rfl, ?_⟩))))))
      have eh : bd_h (-1) (f s).2.2.2 (f t).2.2.2 = 1 + max (f s).2.2.2 (f t).2.2.2 := if_pos bd_neg
      rw [eh, Nat.zero_add]
      have w1 := xr_put g2 (-1, s, t, 1 + max (f s).2.2.2 (f t).2.2.2)
      have w2 := yg_put g3 (-1, s, t, 1 + max (f s).2.2.2 (f t).2.2.2)
      rw [Nat.zero_add] at w1 w2
      have e1 : yg_l 0 (-1) s = nI (0 + s) := if_pos bd_neg
      have e2 : yg_r 0 (-1) t = nI (0 + t) := if_pos bd_neg
      dsimp only at w1 w2
      rw [e1, e2, Nat.zero_add, Nat.zero_add] at w2
      refine rl_mk (lc := lc + 1) ⟨hS, hP, hT, hCC, by omega, hnp, hok⟩ ⟨_, fun i hi => ?_, w1, w2⟩ ?_ ?_
      · by_cases z : i = lc
        · subst z
          refine ⟨Or.inr ⟨s, t, hs, ht, ?_⟩, by rw [bd_nus]; show 1 + max _ _ ≤ _; omega⟩
          rw [bd_nus, bd_nun (by omega), bd_nun (by omega)]
        · exact bd_ndx (fun q hq => bd_nun (by omega)) (g1 i (by omega))
      · rcases hX with h | ⟨h, h', b1, b2, b3⟩
        · exact Or.inl h
        · exact Or.inr ⟨h, h', b1, xr_off b2 (by omega), b3⟩
      · rcases hV with h | ⟨r, p, f', a1, a2, a3, a4, a5, a6, a7, a8, a9⟩
        · exact Or.inl h
        · exact Or.inr ⟨r, p, f', a1, a2, a3, a4, a5, a6, a7, xr_off a8 (by omega), yg_off a9 (by omega)⟩
    · unfold wpY_join
      exact yw_noValue hL16 (fun hn' => absurd ⟨s, hs, rfl⟩ hn') (fun _ _ _ => br_t rfl (yw_noValue hL16 (fun hn' => absurd ⟨t, ht, rfl⟩ hn') (fun _ _ _ => br_t rfl (br_f (nI_nlt h3 (by omega)) ⟨rfl, I⟩))))
theorem vc_forget (hC : rl_C S P T C lc K F G) (hX : rl_X K F G S T sc fr num lef rig hei msk) (hV : rl_V T vr pl rt pq num lef rig hei yl yr yh) : wpX_forget (fun u' => wpY_forget (fun v' => i_Rel (k + 5) u' v') (nI S, nI P, nI T, nI C, nI lc, ed, rt, pq, K, F, G, yl, yr, yh, yb)) (nI S, nI P, nI T, nI C, 0, 16, 64, nI lc, sc, fr, vr, pl, K, F, G, num, lef, rig, hei, msk) := by
  obtain ⟨hS, hP, hT, hCC, hlc, hnp, hok⟩ := hC
  show i_Rel (k + 5) (nI S, nI P, nI T, nI C, 0, 16, 64, nI 0, sc, fr, vr, pl, K, F, G, num, lef, rig, hei, msk) (nI S, nI P, nI T, nI C, nI 0, ed, rt, pq, K, F, G, yl, yr, yh, yb)
  exact rl_mk (k := k + 5) (lc := 0) ⟨hS, hP, hT, hCC, Nat.zero_le _, hnp, hok⟩ ⟨fun _ => (0, 0, 0, 0), fun i hi => absurd hi (Nat.not_lt_zero _), fun i hi => absurd hi (Nat.not_lt_zero _), fun i hi => absurd hi (Nat.not_lt_zero _)⟩ hX hV
theorem vc_here (hC : rl_C S P T C lc K F G) (hL : rl_L T lc num lef rig hei yl yr yh) (hX : rl_X K F G S T sc fr num lef rig hei msk) (hV : rl_V T vr pl rt pq num lef rig hei yl yr yh) : wpX_here (fun r => wpY_here (fun r' => r' = r ∧ i_Rel (k + 5) (nI S, nI P, nI T, nI C, 0, 16, 64, nI lc, sc, fr, vr, pl, K, F, G, num, lef, rig, hei, msk) (nI S, nI P, nI T, nI C, nI lc, ed, rt, pq, K, F, G, yl, yr, yh, yb)) (nI S, nI P, nI T, nI C, nI lc, ed, rt, pq, K, F, G, yl, yr, yh, yb)) (nI S, nI P, nI T, nI C, 0, 16, 64, nI lc, sc, fr, vr, pl, K, F, G, num, lef, rig, hei, msk) := by
  have I := rl_mk (k := k + 5) (ed := ed) (yb := yb) hC hL hX hV
  have hT := hC.2.2.1
  unfold wpX_here
  rcases hV with ⟨rfl, rfl, rfl, rfl⟩ | ⟨r, p, f, a1, a2, rfl, rfl, rfl, rfl, a7, a8, a9⟩
  · refine br_f (by decide) ?_
    unfold wpY_here
    exact br_f (by decide) ⟨rfl, I⟩
  · obtain ⟨b1, b2, b3, b4⟩ := a8 p (by omega)
    obtain ⟨c1, c2, c3⟩ := a9 p (by omega)
    have hv : vp_in (nI (16 + p)) 65 := vp_in_nI (by omega) (by omega)
    refine br_t (nI_pos' (by omega)) ?_
    rw [show (64 : Int32) + nI p = nI (64 + p) from nI_add 64 p]
    refine ⟨vp_in_nI (by omega) (by omega), nm_r (e' := (f p).1) (by rw [nI_clamp (by omega), b1]) ?_⟩
    have y : ∀ post : Int32 → Prop, (((f p).1 < 0 → post (-5)) ∧ (¬ (f p).1 < 0 → post (f p).1)) → wpY_here post (nI S, nI P, nI T, nI C, nI lc, ed, nI (16 + r), nI (16 + p), K, F, G, yl, yr, yh, yb) := by
      intro post hp
      unfold wpY_here
      refine br_t (nI_pos' (by omega)) ⟨hv, ?_⟩
      rw [nI_clamp (by omega), c1, c2]
      unfold yg_l yg_r
      by_cases z : (f p).1 < 0
      · rw [if_pos z, if_pos z]
        rcases bd_ndn (by omega) (a7 p a1) with ⟨q, _, _, w⟩ | ⟨w1, w2, w3, w4⟩
        · exact absurd z w
        · exact br_f (nI_pos (by omega)) (hp.1 z)
      · rw [if_neg z, if_neg z]
        exact br_t (by decide) ⟨hv, hp.2 z⟩
    refine br_c (fun z => y _ ⟨fun z' => absurd z (Int32.not_le.mpr z'), fun _ => ⟨rfl, I⟩⟩) (fun z => y _ ⟨fun _ => ⟨rfl, I⟩, fun z' => absurd (Int32.not_lt.mp z') z⟩)
theorem vc_rise (hC : rl_C S P T C lc K F G) (hL : rl_L T lc num lef rig hei yl yr yh) (hX : rl_X K F G S T sc fr num lef rig hei msk) (hV : rl_V T vr pl rt pq num lef rig hei yl yr yh) : wpX_rise (fun r u' => wpY_rise (fun r' v' => r' = r ∧ i_Rel (k + 5) u' v') (nI S, nI P, nI T, nI C, nI lc, ed, rt, pq, K, F, G, yl, yr, yh, yb)) (nI S, nI P, nI T, nI C, 0, 16, 64, nI lc, sc, fr, vr, pl, K, F, G, num, lef, rig, hei, msk) := by
  have I := rl_mk (k := k + 5) (ed := ed) (yb := yb) hC hL hX hV
  unfold wpX_rise
  rcases hV with ⟨rfl, rfl, rfl, rfl⟩ | ⟨r, p, f, a1, a2, rfl, rfl, rfl, rfl, a7, a8, a9⟩
  · refine br_f (by decide) ?_
    unfold wpY_rise
    exact br_f (by decide) ⟨rfl, I⟩
  · refine br_t (nI_pos' (by omega)) ?_
    unfold wpY_rise
    exact br_t (nI_pos' (by omega)) ⟨rfl, rl_mk hC hL hX (Or.inr ⟨r, r, f, Nat.le_refl _, a2, rfl, rfl, rfl, rfl, a7, a8, a9⟩)⟩
theorem vc_hereHeight (hC : rl_C S P T C lc K F G) (hL : rl_L T lc num lef rig hei yl yr yh) (hX : rl_X K F G S T sc fr num lef rig hei msk) (hV : rl_V T vr pl rt pq num lef rig hei yl yr yh) : wpX_hereHeight (fun r => wpY_hereHeight (fun r' => r' = r ∧ i_Rel (k + 5) (nI S, nI P, nI T, nI C, 0, 16, 64, nI lc, sc, fr, vr, pl, K, F, G, num, lef, rig, hei, msk) (nI S, nI P, nI T, nI C, nI lc, ed, rt, pq, K, F, G, yl, yr, yh, yb)) (nI S, nI P, nI T, nI C, nI lc, ed, rt, pq, K, F, G, yl, yr, yh, yb)) (nI S, nI P, nI T, nI C, 0, 16, 64, nI lc, sc, fr, vr, pl, K, F, G, num, lef, rig, hei, msk) := by
  have I := rl_mk (k := k + 5) (ed := ed) (yb := yb) hC hL hX hV
  unfold wpX_hereHeight
  rcases hV with ⟨rfl, rfl, rfl, rfl⟩ | ⟨r, p, f, a1, a2, rfl, rfl, rfl, rfl, a7, a8, a9⟩
  · refine br_f (by decide) ?_
    unfold wpY_hereHeight
    exact br_f (by decide) ⟨rfl, I⟩
  · refine br_t (nI_pos' (by omega)) ?_
    rw [show (64 : Int32) + nI p = nI (64 + p) from nI_add 64 p]
    refine ⟨vp_in_nI (by omega) (by omega), ?_⟩
    unfold wpY_hereHeight
    refine br_t (nI_pos' (by omega)) ⟨vp_in_nI (by omega) (by omega), ?_, I⟩
    rw [nI_clamp (by omega), nI_clamp (by omega), (a8 p (by omega)).2.2.2, (a9 p (by omega)).2.2]
theorem vc_down (hC : rl_C S P T C lc K F G) (hL : rl_L T lc num lef rig hei yl yr yh) (hX : rl_X K F G S T sc fr num lef rig hei msk) (hV : rl_V T vr pl rt pq num lef rig hei yl yr yh) (v1 : Int32) : wpX_down (fun r u' => wpY_down (fun r' v' => r' = r ∧ i_Rel (k + 5) u' v') (nI S, nI P, nI T, nI C, nI lc, ed, rt, pq, K, F, G, yl, yr, yh, yb) v1) (nI S, nI P, nI T, nI C, 0, 16, 64, nI lc, sc, fr, vr, pl, K, F, G, num, lef, rig, hei, msk) v1 := by
  have I := rl_mk (k := k + 5) (ed := ed) (yb := yb) hC hL hX hV
  have hT := hC.2.2.1
  unfold wpX_down
  rcases hV with ⟨rfl, rfl, rfl, rfl⟩ | ⟨r, p, f, a1, a2, rfl, rfl, rfl, rfl, a7, a8, a9⟩
  · refine br_f (by decide) ?_
    unfold wpY_down
    exact br_f (by decide) ⟨rfl, I⟩
  · obtain ⟨b1, b2, b3, b4⟩ := a8 p (by omega)
    obtain ⟨c1, c2, c3⟩ := a9 p (by omega)
    have hv : vp_in (nI (16 + p)) 65 := vp_in_nI (by omega) (by omega)
    have hv2 : vp_in (nI (64 + p)) 112 := vp_in_nI (by omega) (by omega)
    have e64 : (64 : Int32) + nI p = nI (64 + p) := nI_add 64 p
    have k64 : (nI (64 + p)).toNatClampNeg = 64 + p := nI_clamp (by omega)
    have k16 : (nI (16 + p)).toNatClampNeg = 16 + p := nI_clamp (by omega)
    have v0 : (0 : Int32) ≤ nI r := nI_pos' (by omega)
    have v0' : (0 : Int32) ≤ nI (16 + p) := nI_pos' (by omega)
    refine br_t v0 ?_
    have bad : ¬ v1 = 0 → ¬ v1 = 1 → wpY_down (fun r' v' => r' = -1 ∧ i_Rel (k + 5) (nI S, nI P, nI T, nI C, 0, 16, 64, nI lc, sc, fr, nI r, nI p, K, F, G, num, lef, rig, hei, msk) v') (nI S, nI P, nI T, nI C, nI lc, ed, nI (16 + r), nI (16 + p), K, F, G, yl, yr, yh, yb) v1 := by
      intro h0 h1
      unfold wpY_down
      exact br_t v0' (br_f h0 (br_f h1 ⟨rfl, I⟩))
    unfold yg_l at c1
    unfold yg_r at c2
    by_cases h0 : v1 = 0
    · subst h0
      refine br_f (by decide) (br_t (by decide) (nm_r e64 ⟨hv2, ?_⟩))
      rw [k64, b1, b2]
      by_cases z : (f p).1 < 0
      · rw [if_pos z] at c1 c2
        rcases bd_ndn (by omega) (a7 p a1) with ⟨q, _, _, w⟩ | ⟨w1, w2, w3, w4⟩
        · exact absurd z w
        refine br_t z (br_t rfl ⟨hv2, nm_e ?_⟩)
        unfold wpY_down
        refine br_t v0' (br_t rfl ?_)
        unfold wY_down_21
        rw [k16, c1]
        exact ⟨hv, br_t (nI_pos' (by omega)) (br_t rfl ⟨hv, nm_e ⟨rfl, rl_mk hC hL hX (Or.inr ⟨r, _, f, by omega, a2, rfl, rfl, rfl, rfl, a7, a8, a9⟩)⟩⟩)⟩
      · rw [if_neg z] at c1 c2
        refine br_f z ?_
        unfold wpY_down
        refine br_t v0' (br_t rfl ?_)
        unfold wY_down_21
        rw [k16, c1]
        exact ⟨hv, br_f (by decide) ⟨rfl, I⟩⟩
    by_cases h1 : v1 = 1
    · subst h1
      refine br_f (by decide) (br_t (by decide) (nm_r e64 ⟨hv2, ?_⟩))
      rw [k64, b1, b3]
      by_cases z : (f p).1 < 0
      · rw [if_pos z] at c1 c2
        rcases bd_ndn (by omega) (a7 p a1) with ⟨q, _, _, w⟩ | ⟨w1, w2, w3, w4⟩
        · exact absurd z w
        refine br_t z (br_f (by decide) ⟨hv2, nm_e ?_⟩)
        unfold wpY_down
        refine br_t v0' (br_f (by decide) (br_t rfl ?_))
        unfold wY_down_21
        rw [k16, c1, c2]
        exact ⟨hv, br_t (nI_pos' (by omega)) (br_f (by decide) ⟨hv, nm_e ⟨rfl, rl_mk hC hL hX (Or.inr ⟨r, _, f, by omega, a2, rfl, rfl, rfl, rfl, a7, a8, a9⟩)⟩⟩)⟩
      · rw [if_neg z] at c1 c2
        refine br_f z ?_
        unfold wpY_down
        refine br_t v0' (br_f (by decide) (br_t rfl ?_))
        unfold wY_down_21
        rw [k16, c1]
        exact ⟨hv, br_f (by decide) ⟨rfl, I⟩⟩
    · refine br_c (fun _ => bad h0 h1) (fun hp => br_c (fun h2 => ?_) (fun _ => bad h0 h1))
      exfalso
      rw [Int32.lt_iff_toInt_lt, Int32.toInt_zero] at hp
      rw [Int32.le_iff_toInt_le, show (1 : Int32).toInt = 1 by decide] at h2
      rw [← Int32.toInt_inj, Int32.toInt_zero] at h0
      rw [← Int32.toInt_inj, show (1 : Int32).toInt = 1 by decide] at h1
      omega
end
end
section
/-! define -/
theorem rl_k6 {x : Int32} (h0 : ¬ x < 0) (h6 : x ≤ 6) : x = 0 ∨ x = 1 ∨ x = 2 ∨ x = 3 ∨ x = 4 ∨ x = 5 ∨ x = 6 := by
  obtain ⟨j, hj, rfl⟩ := nI_of2 (x := x) (M := 6) (n := 6) (by decide) h0 h6
  have : j = 0 ∨ j = 1 ∨ j = 2 ∨ j = 3 ∨ j = 4 ∨ j = 5 ∨ j = 6 := by omega
  rcases this with rfl | rfl | rfl | rfl | rfl | rfl | rfl
  · exact Or.inl rfl
  · exact Or.inr (Or.inl rfl)
  · exact Or.inr (Or.inr (Or.inl rfl))
  · exact Or.inr (Or.inr (Or.inr (Or.inl rfl)))
  · exact Or.inr (Or.inr (Or.inr (Or.inr (Or.inl rfl))))
  · exact Or.inr (Or.inr (Or.inr (Or.inr (Or.inr (Or.inl rfl)))))
  · exact Or.inr (Or.inr (Or.inr (Or.inr (Or.inr (Or.inr rfl)))))
section
variable {S P T C lc : Nat} {K F G : Nat → Int32}
theorem rl_set {s : Nat} {x a b : Int32} (hs : s < S) (hC : rl_C S P T C lc K F G)
    (h1 : x = 1 → ¬ a < 0) (h2 : x = 2 → (∃ i j, i < S ∧ j < S ∧ a = nI i ∧ b = nI j) ∧ mz_ot K s S < P)
    (h3 : x = 3 ∨ x = 4 ∨ x = 6 → ∃ i j, i < s ∧ j < s ∧ a = nI i ∧ b = nI j) (h5 : x = 5 → ∃ i, i < s ∧ a = nI i) :
    rl_C S P T C lc (upd K s x) (upd F s a) (upd G s b) := by
  obtain ⟨hS, hP, hT, hCC, hlc, hnp, hok⟩ := hC
  refine ⟨hS, hP, hT, hCC, hlc, ?_, fun t ht => ?_⟩
  · obtain ⟨q1, q2, q3⟩ := mz_npo K s x S
    by_cases z : x = 2
    · have := (h2 z).2
      omega
    · have := mz_otl K s S
      have := q2 z
      omega
  · by_cases z : t = s
    · subst z
      unfold mz_ok
      rw [pk_us, pk_us, pk_us]
      exact ⟨h1, fun e => (h2 e).1, h3, h5⟩
    · unfold mz_ok
      rw [pk_un z, pk_un z, pk_un z]
      exact hok t ht
end
section
variable {S P T C lc : Nat} {ls sc fr vr pl : Int32} {K F G num lef rig hei msk : Nat → Int32} {cn ed rt pq : Int32} {yl yr yh yb : Nat → Int32}
theorem xw_jp {post : Int32 → Prop} {s : Nat} (hS : S ≤ 12) (hP : P ≤ 5) (hs : s < S) (h1 : mz_ot K s S < P → post 1) (h2 : P ≤ mz_ot K s S → post (-2)) : ∀ d i q : Nat, i + d = S → d < q → wX_judgePair_24 post (nI s) (nI S) (nI P) (nI T) (nI C) 0 16 64 ls sc fr vr pl K F G num lef rig hei msk q (nI (mz_ot K s i)) (nI i)
  | d, i, 0, e, hq => by omega
  | 0, i, q + 1, e, hq => by
    have e : i = S := by omega
    subst e
    have hb := mz_otb K s i
    exact br_t (nI_le (Nat.le_refl _) (by omega)) (pk_lt _ _ h1 h2)
  | d + 1, i, q + 1, e, hq => by
    have ih := xw_jp hS hP hs h1 h2 d (i + 1) q (by omega) (by omega)
    unfold mz_ot at ih
    refine br_f (nI_ge (by omega) (by omega)) (pk_eq i s (fun z => ?_) (fun z => ⟨vp_in_nI (by omega) (by omega), ?_⟩))
    · rw [if_pos z] at ih
      exact nm_r (nI_1 i) ih
    · rw [nI_clamp (by omega)]
      rw [if_neg z] at ih
      by_cases w : K i = 2
      · rw [if_pos w] at ih
        exact br_t w (nm_r (nI_1 _) (nm_r (nI_1 i) ih))
      · rw [if_neg w] at ih
        exact br_f w (nm_r (nI_1 i) ih)
theorem yw_jp {post : Int32 → SY → Prop} {s : Nat} {x2 x5 x6 : Int32} (hS : S ≤ 12) (hP : P ≤ 5) (hs : s < S) (h1 : mz_ot K s S < P → wY_define_210 post (nI s) x2 x5 x6 (nI S) (nI P) (nI T) (nI C) cn ed rt pq K F G yl yr yh yb) (h2 : P ≤ mz_ot K s S → post (-2) (nI S, nI P, nI T, nI C, cn, ed, rt, pq, K, F, G, yl, yr, yh, yb)) : ∀ d i q : Nat, i + d = S → d < q → wY_define_98 post (nI s) x2 x5 x6 (nI S) (nI P) (nI T) (nI C) cn ed rt pq K F G yl yr yh yb q (nI (mz_ot K s i)) (nI i)
  | d, i, 0, e, hq => by omega
  | 0, i, q + 1, e, hq => by
    have e : i = S := by omega
    subst e
    have hb := mz_otb K s i
    exact br_t (nI_le (Nat.le_refl _) (by omega)) (pk_lt _ _ h1 h2)
  | d + 1, i, q + 1, e, hq => by
    have ih := yw_jp hS hP hs h1 h2 d (i + 1) q (by omega) (by omega)
    unfold mz_ot at ih
    refine br_f (nI_ge (by omega) (by omega)) (pk_eq i s (fun z => ?_) (fun z => ⟨vp_in_nI (by omega) (by omega), ?_⟩))
    · rw [if_pos z] at ih
      exact nm_r (nI_1 i) ih
    · rw [nI_clamp (by omega)]
      rw [if_neg z] at ih
      by_cases w : K i = 2
      · rw [if_pos w] at ih
        exact br_t w (nm_r (nI_1 _) (nm_r (nI_1 i) ih))
      · rw [if_neg w] at ih
        exact br_f w (nm_r (nI_1 i) ih)
theorem yw_210 {post : Int32 → SY → Prop} {s : Nat} {x a b : Int32} (hs : s < 12) (h : post 1 (nI S, nI P, nI T, nI C, cn, ed, rt, pq, upd K s x, upd F s a, upd G s b, yl, yr, yh, yb)) : wY_define_210 post (nI s) x a b (nI S) (nI P) (nI T) (nI C) cn ed rt pq K F G yl yr yh yb := by
  have hv : vp_in (nI s) 12 := vp_in_nI hs (by omega)
  have ec : (nI s).toNatClampNeg = s := nI_clamp (by omega)
  unfold wY_define_210
  exact ⟨hv, nm_r (e' := upd K s x) (by rw [ec]) ⟨hv, nm_r (e' := upd F s a) (by rw [ec]) ⟨hv, nm_r (e' := upd G s b) (by rw [ec]) h⟩⟩⟩
/-- what define stores -/
def df_a (x a : Int32) : Int32 := if x = 0 then 0 else a
def df_b (x b : Int32) : Int32 := if x = 0 then 0 else if x = 5 then 0 else b
theorem xw_define {post : Int32 → SX → Prop} {s : Nat} {x a b r : Int32} (hS : S ≤ 12) (hs : s < S) (h0 : ¬ x < 0) (h6 : x ≤ 6) (hj : ∀ post' : Int32 → Prop, post' r → wpX_judge post' (nI S, nI P, nI T, nI C, 0, 16, 64, ls, sc, fr, vr, pl, K, F, G, num, lef, rig, hei, msk) (nI s) x a b)
    (h1 : r = 1 → post 1 (nI S, nI P, nI T, nI C, 0, 16, 64, ls, sc, 0, vr, pl, upd K s x, upd F s (df_a x a), upd G s (df_b x b), num, lef, rig, hei, msk)) (h2 : ¬ r = 1 → post r (nI S, nI P, nI T, nI C, 0, 16, 64, ls, sc, fr, vr, pl, K, F, G, num, lef, rig, hei, msk)) : wpX_define post (nI S, nI P, nI T, nI C, 0, 16, 64, ls, sc, fr, vr, pl, K, F, G, num, lef, rig, hei, msk) (nI s) x a b := by
  have hv : vp_in (nI s) 12 := vp_in_nI (by omega) (by omega)
  have ec : (nI s).toNatClampNeg = s := nI_clamp (by omega)
  unfold wpX_define
  refine xw_isSlot hS (fun hn => absurd ⟨s, hs, rfl⟩ hn) (fun _ _ _ => br_f (by decide) (br_f h0 (br_t h6 (hj _ (br_c (fun e => ⟨hv, nm_r (e' := upd K s x) (by rw [ec]) ?_⟩) (fun e => h2 e))))))
  have h1 := h1 e
  unfold df_a df_b at h1
  by_cases z : x = 0
  · rw [if_pos z, if_pos z] at h1
    refine br_t z ?_
    unfold wX_define_61
    refine ⟨hv, nm_r (e' := upd F s 0) (by rw [ec]) (br_t z ?_)⟩
    unfold wX_define_76
    exact ⟨hv, nm_r (e' := upd G s 0) (by rw [ec]) h1⟩
  · rw [if_neg z, if_neg z] at h1
    refine br_f z ?_
    unfold wX_define_61
    refine ⟨hv, nm_r (e' := upd F s a) (by rw [ec]) (br_f z (br_c (fun w => ?_) (fun w => ?_)))⟩
    · rw [if_pos w] at h1
      unfold wX_define_76
      exact ⟨hv, nm_r (e' := upd G s 0) (by rw [ec]) h1⟩
    · rw [if_neg w] at h1
      exact ⟨hv, nm_r (e' := upd G s b) (by rw [ec]) h1⟩
theorem xw_lower {post : Int32 → Prop} {a b p : Int32} (hS : S ≤ 12) (hn : ¬ (∃ i, i < S ∧ a = nI i) ∨ ¬ (∃ i, i < S ∧ b = nI i) → post (-1)) (h : ∀ i j, i < S → j < S → a = nI i → b = nI j → (p ≤ a ∨ p ≤ b → post (-3)) ∧ (¬ p ≤ a → ¬ p ≤ b → post 1)) : wpX_judgeLower post (nI S, nI P, nI T, nI C, 0, 16, 64, ls, sc, fr, vr, pl, K, F, G, num, lef, rig, hei, msk) p a b := by
  unfold wpX_judgeLower
  refine xw_isSlot hS (fun z => br_t rfl (hn (Or.inl z))) (fun i hi ei => br_f (by decide) (xw_isSlot hS (fun z => br_t rfl (hn (Or.inr z))) (fun j hj ej => br_f (by decide) ?_)))
  obtain ⟨q1, q2⟩ := h i j hi hj ei ej
  refine br_c (fun z => q1 (Or.inl z)) (fun z => br_c (fun w => q2 z (Int32.not_le.mpr w)) (fun w => q1 (Or.inr (Int32.not_lt.mp w))))
end
end
section
/-! define: one answer on both sides -/
section
variable {k S P T C lc : Nat} {sc fr vr pl : Int32} {K F G num lef rig hei msk : Nat → Int32} {ed rt pq : Int32} {yl yr yh yb : Nat → Int32}
/-- both sides, slot s and kind x within their ranges -/
def df_O (k S P T C lc : Nat) (sc fr vr pl : Int32) (K F G num lef rig hei msk : Nat → Int32) (ed rt pq : Int32) (yl yr yh yb : Nat → Int32) (s : Nat) (x a b : Int32) : Prop :=
  ∃ r : Int32, (∀ post' : Int32 → Prop, post' r → wpX_judge post' (nI S, nI P, nI T, nI C, 0, 16, 64, nI lc, sc, fr, vr, pl, K, F, G, num, lef, rig, hei, msk) (nI s) x a b)
    ∧ (r = 1 → rl_C S P T C lc (upd K s x) (upd F s (df_a x a)) (upd G s (df_b x b)))
    ∧ (∀ post : Int32 → SY → Prop, (r = 1 → post 1 (nI S, nI P, nI T, nI C, nI lc, ed, rt, pq, upd K s x, upd F s (df_a x a), upd G s (df_b x b), yl, yr, yh, yb)) → (¬ r = 1 → post r (nI S, nI P, nI T, nI C, nI lc, ed, rt, pq, K, F, G, yl, yr, yh, yb)) → wpY_define post (nI S, nI P, nI T, nI C, nI lc, ed, rt, pq, K, F, G, yl, yr, yh, yb) (nI s) x a b)
theorem df_0 (hC : rl_C S P T C lc K F G) {s : Nat} (hs : s < S) (a b : Int32) : df_O k S P T C lc sc fr vr pl K F G num lef rig hei msk ed rt pq yl yr yh yb s 0 a b := by
  have hS := hC.1
  refine ⟨1, fun post' h => ?_, fun _ => ?_, fun post h1 h2 => ?_⟩
  · unfold wpX_judge
    exact br_f (by decide) (br_f (by decide) (br_t rfl h))
  · exact rl_set hs hC (fun e => absurd e (by decide)) (fun e => absurd e (by decide)) (fun e => by rcases e with e | e | e <;> exact absurd e (by decide)) (fun e => absurd e (by decide))
  · unfold wpY_define
    exact yw_noSlot hS (fun hn => absurd ⟨s, hs, rfl⟩ hn) (fun _ _ _ => br_t rfl (br_f (by decide) (br_t (by decide) (br_t rfl (yw_210 (by omega) (h1 rfl))))))
theorem df_1 (hC : rl_C S P T C lc K F G) {s : Nat} (hs : s < S) (a b : Int32) : df_O k S P T C lc sc fr vr pl K F G num lef rig hei msk ed rt pq yl yr yh yb s 1 a b := by
  have hS := hC.1
  by_cases c1 : a < 0
  · refine ⟨-1, fun post' h => ?_, fun e => absurd e (by decide), fun post h1 h2 => ?_⟩
    · unfold wpX_judge
      exact br_f (by decide) (br_f (by decide) (br_f (by decide) (br_t rfl (br_t c1 h))))
    · unfold wpY_define
      exact yw_noSlot hS (fun hn => absurd ⟨s, hs, rfl⟩ hn) (fun _ _ _ => br_t rfl (br_f (by decide) (br_t (by decide) (br_f (by decide) (br_t rfl (br_t c1 (h2 (by decide))))))))
  by_cases c2 : nI T < b
  · refine ⟨-1, fun post' h => ?_, fun e => absurd e (by decide), fun post h1 h2 => ?_⟩
    · unfold wpX_judge
      exact br_f (by decide) (br_f (by decide) (br_f (by decide) (br_t rfl (br_f c1 (br_t c2 h)))))
    · unfold wpY_define
      exact yw_noSlot hS (fun hn => absurd ⟨s, hs, rfl⟩ hn) (fun _ _ _ => br_t rfl (br_f (by decide) (br_t (by decide) (br_f (by decide) (br_t rfl (br_f c1 (br_t c2 (h2 (by decide)))))))))
  by_cases c3 : a ≤ b
  · refine ⟨1, fun post' h => ?_, fun _ => ?_, fun post h1 h2 => ?_⟩
    · unfold wpX_judge
      exact br_f (by decide) (br_f (by decide) (br_f (by decide) (br_t rfl (br_f c1 (br_f c2 (br_t c3 h))))))
    · exact rl_set hs hC (fun e => c1) (fun e => absurd e (by decide)) (fun e => by rcases e with e | e | e <;> exact absurd e (by decide)) (fun e => absurd e (by decide))
    · unfold wpY_define
      exact yw_noSlot hS (fun hn => absurd ⟨s, hs, rfl⟩ hn) (fun _ _ _ => br_t rfl (br_f (by decide) (br_t (by decide) (br_f (by decide) (br_t rfl (br_f c1 (br_f c2 (br_t c3 (yw_210 (by omega) (h1 rfl))))))))))
  · refine ⟨-1, fun post' h => ?_, fun e => absurd e (by decide), fun post h1 h2 => ?_⟩
    · unfold wpX_judge
      exact br_f (by decide) (br_f (by decide) (br_f (by decide) (br_t rfl (br_f c1 (br_f c2 (br_f c3 h))))))
    · unfold wpY_define
      exact yw_noSlot hS (fun hn => absurd ⟨s, hs, rfl⟩ hn) (fun _ _ _ => br_t rfl (br_f (by decide) (br_t (by decide) (br_f (by decide) (br_t rfl (br_f c1 (br_f c2 (br_f c3 (h2 (by decide))))))))))
theorem df_2 (hC : rl_C S P T C lc K F G) {s : Nat} (hs : s < S) (a b : Int32) : df_O k S P T C lc sc fr vr pl K F G num lef rig hei msk ed rt pq yl yr yh yb s 2 a b := by
  have hS := hC.1
  have hP := hC.2.1
  by_cases ca : ∃ i, i < S ∧ a = nI i
  · obtain ⟨i, hi, rfl⟩ := ca
    by_cases cb : ∃ j, j < S ∧ b = nI j
    · obtain ⟨j, hj, rfl⟩ := cb
      refine ⟨if mz_ot K s S < P then 1 else -2, fun post' h => ?_, fun e => ?_, fun post h1 h2 => ?_⟩
      · unfold wpX_judge
        refine br_f (by decide) (br_f (by decide) (br_f (by decide) (br_f (by decide) (br_t rfl ?_))))
        unfold wpX_judgePair
        refine xw_isSlot hS (fun hn => absurd ⟨i, hi, rfl⟩ hn) (fun _ _ _ => br_f (by decide) (xw_isSlot hS (fun hn => absurd ⟨j, hj, rfl⟩ hn) (fun _ _ _ => br_f (by decide) ⟨S + 1, xw_jp hS hP hs (fun z => ?_) (fun z => ?_) S 0 (S + 1) (by omega) (by omega)⟩)))
        · rw [if_pos z] at h; exact h
        · rw [if_neg (by omega)] at h; exact h
      · have hw : mz_ot K s S < P := by
          by_cases w : mz_ot K s S < P
          · exact w
          · rw [if_neg w] at e
            exact absurd e (by decide)
        exact rl_set hs hC (fun e => absurd e (by decide)) (fun e => ⟨⟨i, j, hi, hj, rfl, rfl⟩, hw⟩) (fun e => by rcases e with e | e | e <;> exact absurd e (by decide)) (fun e => absurd e (by decide))
      · unfold wpY_define
        refine yw_noSlot hS (fun hn => absurd ⟨s, hs, rfl⟩ hn) (fun _ _ _ => br_t rfl (br_f (by decide) (br_t (by decide) (br_f (by decide) (br_f (by decide) (br_t rfl (yw_noSlot hS (fun hn => absurd ⟨i, hi, rfl⟩ hn) (fun _ _ _ => br_t rfl (yw_noSlot hS (fun hn => absurd ⟨j, hj, rfl⟩ hn) (fun _ _ _ => br_t rfl ⟨S + 1, yw_jp hS hP hs (fun z => yw_210 (by omega) ?_) (fun z => ?_) S 0 (S + 1) (by omega) (by omega)⟩))))))))))
        · rw [if_pos z] at h1; exact h1 rfl
        · rw [if_neg (by omega)] at h2; exact h2 (by decide)
    · refine ⟨-1, fun post' h => ?_, fun e => absurd e (by decide), fun post h1 h2 => ?_⟩
      · unfold wpX_judge
        refine br_f (by decide) (br_f (by decide) (br_f (by decide) (br_f (by decide) (br_t rfl ?_))))
        unfold wpX_judgePair
        exact xw_isSlot hS (fun hn => absurd ⟨i, hi, rfl⟩ hn) (fun _ _ _ => br_f (by decide) (xw_isSlot hS (fun hn => br_t rfl h) (fun j hj e => absurd ⟨j, hj, e⟩ cb)))
      · unfold wpY_define
        exact yw_noSlot hS (fun hn => absurd ⟨s, hs, rfl⟩ hn) (fun _ _ _ => br_t rfl (br_f (by decide) (br_t (by decide) (br_f (by decide) (br_f (by decide) (br_t rfl (yw_noSlot hS (fun hn => absurd ⟨i, hi, rfl⟩ hn) (fun _ _ _ => br_t rfl (yw_noSlot hS (fun hn => br_f (by decide) (h2 (by decide))) (fun j hj e => absurd ⟨j, hj, e⟩ cb))))))))))
  · refine ⟨-1, fun post' h => ?_, fun e => absurd e (by decide), fun post h1 h2 => ?_⟩
    · unfold wpX_judge
      refine br_f (by decide) (br_f (by decide) (br_f (by decide) (br_f (by decide) (br_t rfl ?_))))
      unfold wpX_judgePair
      exact xw_isSlot hS (fun hn => br_t rfl h) (fun j hj e => absurd ⟨j, hj, e⟩ ca)
    · unfold wpY_define
      exact yw_noSlot hS (fun hn => absurd ⟨s, hs, rfl⟩ hn) (fun _ _ _ => br_t rfl (br_f (by decide) (br_t (by decide) (br_f (by decide) (br_f (by decide) (br_t rfl (yw_noSlot hS (fun hn => br_f (by decide) (h2 (by decide))) (fun j hj e => absurd ⟨j, hj, e⟩ ca))))))))
theorem df_5 (hC : rl_C S P T C lc K F G) {s : Nat} (hs : s < S) (a b : Int32) : df_O k S P T C lc sc fr vr pl K F G num lef rig hei msk ed rt pq yl yr yh yb s 5 a b := by
  have hS := hC.1
  by_cases ca : ∃ i, i < S ∧ a = nI i
  · obtain ⟨i, hi, rfl⟩ := ca
    by_cases c : i < s
    · have cl : nI i < nI s := nI_lt c (by omega)
      have cn' : ¬ nI s ≤ nI i := Int32.not_le.mpr cl
      refine ⟨1, fun post' h => ?_, fun _ => ?_, fun post h1 h2 => ?_⟩
      · unfold wpX_judge
        exact br_f (by decide) (br_f (by decide) (br_f (by decide) (br_f (by decide) (br_f (by decide) (br_f (by decide) (br_f (by decide) (br_t rfl (xw_lower hS (fun z => by rcases z with z | z <;> exact absurd ⟨i, hi, rfl⟩ z) (fun _ _ _ _ _ _ => ⟨fun z => by rcases z with z | z <;> exact absurd z cn', fun _ _ => h⟩)))))))))
      · exact rl_set hs hC (fun e => absurd e (by decide)) (fun e => absurd e (by decide)) (fun e => by rcases e with e | e | e <;> exact absurd e (by decide)) (fun _ => ⟨i, c, rfl⟩)
      · unfold wpY_define
        exact yw_noSlot hS (fun hn => absurd ⟨s, hs, rfl⟩ hn) (fun _ _ _ => br_t rfl (br_f (by decide) (br_t (by decide) (br_f (by decide) (br_f (by decide) (br_f (by decide) (br_t rfl (yw_noSlot hS (fun hn => absurd ⟨i, hi, rfl⟩ hn) (fun _ _ _ => br_t rfl (br_t cl (yw_210 (by omega) (h1 rfl))))))))))))
    · have cl : ¬ nI i < nI s := nI_nlt (by omega) (by omega)
      have cn' : nI s ≤ nI i := Int32.not_lt.mp cl
      refine ⟨-3, fun post' h => ?_, fun e => absurd e (by decide), fun post h1 h2 => ?_⟩
      · unfold wpX_judge
        exact br_f (by decide) (br_f (by decide) (br_f (by decide) (br_f (by decide) (br_f (by decide) (br_f (by decide) (br_f (by decide) (br_t rfl (xw_lower hS (fun z => by rcases z with z | z <;> exact absurd ⟨i, hi, rfl⟩ z) (fun _ _ _ _ _ _ => ⟨fun _ => h, fun z _ => absurd cn' z⟩)))))))))
      · unfold wpY_define
        exact yw_noSlot hS (fun hn => absurd ⟨s, hs, rfl⟩ hn) (fun _ _ _ => br_t rfl (br_f (by decide) (br_t (by decide) (br_f (by decide) (br_f (by decide) (br_f (by decide) (br_t rfl (yw_noSlot hS (fun hn => absurd ⟨i, hi, rfl⟩ hn) (fun _ _ _ => br_t rfl (br_f cl (h2 (by decide))))))))))))
  · refine ⟨-1, fun post' h => ?_, fun e => absurd e (by decide), fun post h1 h2 => ?_⟩
    · unfold wpX_judge
      exact br_f (by decide) (br_f (by decide) (br_f (by decide) (br_f (by decide) (br_f (by decide) (br_f (by decide) (br_f (by decide) (br_t rfl (xw_lower hS (fun _ => h) (fun i _ hi _ e _ => absurd ⟨i, hi, e⟩ ca)))))))))
    · unfold wpY_define
      exact yw_noSlot hS (fun hn => absurd ⟨s, hs, rfl⟩ hn) (fun _ _ _ => br_t rfl (br_f (by decide) (br_t (by decide) (br_f (by decide) (br_f (by decide) (br_f (by decide) (br_t rfl (yw_noSlot hS (fun hn => br_f (by decide) (h2 (by decide))) (fun j hj e => absurd ⟨j, hj, e⟩ ca)))))))))
theorem df_l (hC : rl_C S P T C lc K F G) {s : Nat} (hs : s < S) (x a b : Int32) (hx : x = 3 ∨ x = 4 ∨ x = 6) : df_O k S P T C lc sc fr vr pl K F G num lef rig hei msk ed rt pq yl yr yh yb s x a b := by
  have hS := hC.1
  have x0 : ¬ x < 0 := by rcases hx with rfl | rfl | rfl <;> decide
  have x6 : x ≤ 6 := by rcases hx with rfl | rfl | rfl <;> decide
  have n0 : ¬ x = 0 := by rcases hx with rfl | rfl | rfl <;> decide
  have n1 : ¬ x = 1 := by rcases hx with rfl | rfl | rfl <;> decide
  have n2 : ¬ x = 2 := by rcases hx with rfl | rfl | rfl <;> decide
  have n5 : ¬ x = 5 := by rcases hx with rfl | rfl | rfl <;> decide
  have J : ∀ post' : Int32 → Prop, wpX_judgeLower post' (nI S, nI P, nI T, nI C, 0, 16, 64, nI lc, sc, fr, vr, pl, K, F, G, num, lef, rig, hei, msk) (nI s) a b → wpX_judge post' (nI S, nI P, nI T, nI C, 0, 16, 64, nI lc, sc, fr, vr, pl, K, F, G, num, lef, rig, hei, msk) (nI s) x a b := by
    intro post' h
    unfold wpX_judge
    rcases hx with rfl | rfl | rfl
    · exact br_f (by decide) (br_f (by decide) (br_f (by decide) (br_f (by decide) (br_f (by decide) (br_t rfl h)))))
    · exact br_f (by decide) (br_f (by decide) (br_f (by decide) (br_f (by decide) (br_f (by decide) (br_f (by decide) (br_t rfl h))))))
    · exact br_f (by decide) (br_t (by decide) h)
  have ea : df_a x a = a := if_neg n0
  have eb : df_b x b = b := by unfold df_b; rw [if_neg n0, if_neg n5]
  unfold df_O
  rw [ea, eb]
  by_cases ca : ∃ i, i < S ∧ a = nI i
  · obtain ⟨i, hi, rfl⟩ := ca
    by_cases cb : ∃ j, j < S ∧ b = nI j
    · obtain ⟨j, hj, rfl⟩ := cb
      by_cases c1 : nI s ≤ nI i
      · refine ⟨-3, fun post' h => J post' (xw_lower hS (fun z => by rcases z with z | z; exact absurd ⟨i, hi, rfl⟩ z; exact absurd ⟨j, hj, rfl⟩ z) (fun _ _ _ _ _ _ => ⟨fun _ => h, fun z _ => absurd c1 z⟩)), fun e => absurd e (by decide), fun post h1 h2 => ?_⟩
        unfold wpY_define
        exact yw_noSlot hS (fun hn => absurd ⟨s, hs, rfl⟩ hn) (fun _ _ _ => br_t rfl (br_f x0 (br_t x6 (br_f n0 (br_f n1 (br_f n2 (br_f n5 (yw_noSlot hS (fun hn => absurd ⟨i, hi, rfl⟩ hn) (fun _ _ _ => br_t rfl (yw_noSlot hS (fun hn => absurd ⟨j, hj, rfl⟩ hn) (fun _ _ _ => br_t rfl (br_t c1 (h2 (by decide))))))))))))))
      by_cases c2 : nI s ≤ nI j
      · refine ⟨-3, fun post' h => J post' (xw_lower hS (fun z => by rcases z with z | z; exact absurd ⟨i, hi, rfl⟩ z; exact absurd ⟨j, hj, rfl⟩ z) (fun _ _ _ _ _ _ => ⟨fun _ => h, fun _ z => absurd c2 z⟩)), fun e => absurd e (by decide), fun post h1 h2 => ?_⟩
        unfold wpY_define
        exact yw_noSlot hS (fun hn => absurd ⟨s, hs, rfl⟩ hn) (fun _ _ _ => br_t rfl (br_f x0 (br_t x6 (br_f n0 (br_f n1 (br_f n2 (br_f n5 (yw_noSlot hS (fun hn => absurd ⟨i, hi, rfl⟩ hn) (fun _ _ _ => br_t rfl (yw_noSlot hS (fun hn => absurd ⟨j, hj, rfl⟩ hn) (fun _ _ _ => br_t rfl (br_f c1 (br_f (Int32.not_lt.mpr c2) (h2 (by decide)))))))))))))))
      · have l1 : i < s := (nI_ltI (by omega) (by omega)).mp (Int32.not_le.mp c1)
        have l2 : j < s := (nI_ltI (by omega) (by omega)).mp (Int32.not_le.mp c2)
        refine ⟨1, fun post' h => J post' (xw_lower hS (fun z => by rcases z with z | z; exact absurd ⟨i, hi, rfl⟩ z; exact absurd ⟨j, hj, rfl⟩ z) (fun _ _ _ _ _ _ => ⟨fun z => by rcases z with z | z; exact absurd z c1; exact absurd z c2, fun _ _ => h⟩)), fun _ => ?_, fun post h1 h2 => ?_⟩
        · exact rl_set hs hC (fun e => absurd e n1) (fun e => absurd e n2) (fun _ => ⟨i, j, l1, l2, rfl, rfl⟩) (fun e => absurd e n5)
        · unfold wpY_define
          exact yw_noSlot hS (fun hn => absurd ⟨s, hs, rfl⟩ hn) (fun _ _ _ => br_t rfl (br_f x0 (br_t x6 (br_f n0 (br_f n1 (br_f n2 (br_f n5 (yw_noSlot hS (fun hn => absurd ⟨i, hi, rfl⟩ hn) (fun _ _ _ => br_t rfl (yw_noSlot hS (fun hn => absurd ⟨j, hj, rfl⟩ hn) (fun _ _ _ => br_t rfl (br_f c1 (br_t (Int32.not_le.mp c2) (yw_210 (by omega) (h1 rfl)))))))))))))))
    · refine ⟨-1, fun post' h => J post' (xw_lower hS (fun _ => h) (fun _ j _ hj _ e => absurd ⟨j, hj, e⟩ cb)), fun e => absurd e (by decide), fun post h1 h2 => ?_⟩
      unfold wpY_define
      exact yw_noSlot hS (fun hn => absurd ⟨s, hs, rfl⟩ hn) (fun _ _ _ => br_t rfl (br_f x0 (br_t x6 (br_f n0 (br_f n1 (br_f n2 (br_f n5 (yw_noSlot hS (fun hn => absurd ⟨i, hi, rfl⟩ hn) (fun _ _ _ => br_t rfl (yw_noSlot hS (fun hn => br_f (by decide) (h2 (by decide))) (fun j hj e => absurd ⟨j, hj, e⟩ cb)))))))))))
  · refine ⟨-1, fun post' h => J post' (xw_lower hS (fun _ => h) (fun i _ hi _ e _ => absurd ⟨i, hi, e⟩ ca)), fun e => absurd e (by decide), fun post h1 h2 => ?_⟩
    unfold wpY_define
    exact yw_noSlot hS (fun hn => absurd ⟨s, hs, rfl⟩ hn) (fun _ _ _ => br_t rfl (br_f x0 (br_t x6 (br_f n0 (br_f n1 (br_f n2 (br_f n5 (yw_noSlot hS (fun hn => br_f (by decide) (h2 (by decide))) (fun j hj e => absurd ⟨j, hj, e⟩ ca)))))))))
theorem vc_define (hC : rl_C S P T C lc K F G) (hL : rl_L T lc num lef rig hei yl yr yh) (hX : rl_X K F G S T sc fr num lef rig hei msk) (hV : rl_V T vr pl rt pq num lef rig hei yl yr yh) (v1 v2 v3 v4 : Int32) : wpX_define (fun r u' => wpY_define (fun r' v' => r' = r ∧ i_Rel (k + 5) u' v') (nI S, nI P, nI T, nI C, nI lc, ed, rt, pq, K, F, G, yl, yr, yh, yb) v1 v2 v3 v4) (nI S, nI P, nI T, nI C, 0, 16, 64, nI lc, sc, fr, vr, pl, K, F, G, num, lef, rig, hei, msk) v1 v2 v3 v4 := by
  have hS := hC.1
  have I := rl_mk (k := k + 5) (ed := ed) (yb := yb) hC hL hX hV
  by_cases hsl : ∃ s, s < S ∧ v1 = nI s
  · obtain ⟨s, hs, rfl⟩ := hsl
    by_cases c0 : v2 < 0
    · unfold wpX_define
      refine xw_isSlot hS (fun hn => absurd ⟨s, hs, rfl⟩ hn) (fun _ _ _ => br_f (by decide) (br_t c0 ?_))
      unfold wpY_define
      exact yw_noSlot hS (fun hn => absurd ⟨s, hs, rfl⟩ hn) (fun _ _ _ => br_t rfl (br_t c0 ⟨rfl, I⟩))
    by_cases c6 : v2 ≤ 6
    · have O : df_O k S P T C lc sc fr vr pl K F G num lef rig hei msk ed rt pq yl yr yh yb s v2 v3 v4 := by
        rcases rl_k6 c0 c6 with rfl | rfl | rfl | rfl | rfl | rfl | rfl
        · exact df_0 hC hs v3 v4
        · exact df_1 hC hs v3 v4
        · exact df_2 hC hs v3 v4
        · exact df_l hC hs 3 v3 v4 (Or.inl rfl)
        · exact df_l hC hs 4 v3 v4 (Or.inr (Or.inl rfl))
        · exact df_5 hC hs v3 v4
        · exact df_l hC hs 6 v3 v4 (Or.inr (Or.inr rfl))
      obtain ⟨r, oX, oC, oY⟩ := O
      refine xw_define hS hs c0 c6 oX (fun e => oY _ (fun _ => ⟨rfl, ?_⟩) (fun z => absurd e z)) (fun e => oY _ (fun z => absurd z e) (fun _ => ⟨rfl, I⟩))
      exact rl_mk (oC e) hL (Or.inl rfl) hV
    · unfold wpX_define
      refine xw_isSlot hS (fun hn => absurd ⟨s, hs, rfl⟩ hn) (fun _ _ _ => br_f (by decide) (br_f c0 (br_f c6 ?_)))
      unfold wpY_define
      exact yw_noSlot hS (fun hn => absurd ⟨s, hs, rfl⟩ hn) (fun _ _ _ => br_t rfl (br_f c0 (br_f c6 ⟨rfl, I⟩)))
  · unfold wpX_define
    refine xw_isSlot hS (fun hn => br_t rfl ?_) (fun s hs e => absurd ⟨s, hs, e⟩ hsl)
    unfold wpY_define
    exact yw_noSlot hS (fun _ => br_f (by decide) ⟨rfl, I⟩) (fun s hs e => absurd ⟨s, hs, e⟩ hsl)
end
end
section
/-! valueIn, hereIn, look, subtype, overlap -/
section
variable {k S P T C lc : Nat} {sc fr vr pl : Int32} {K F G num lef rig hei msk : Nat → Int32} {ed rt pq : Int32} {yl yr yh yb : Nat → Int32}
theorem rl_Xm {msk' : Nat → Int32} (hX : rl_X K F G S T sc fr num lef rig hei msk) (hc : (bd_all K F G S T).1 ≤ 48) (h : ∀ p, 16 ≤ p → p < 64 → msk' p = msk p) : rl_X K F G S T sc fr num lef rig hei msk' := by
  rcases hX with e | ⟨e, e', b1, b2, b3⟩
  · exact Or.inl e
  · exact Or.inr ⟨e, e', b1, b2, fun i hi => by rw [h _ (by omega) (by omega)]; exact b3 i hi⟩
theorem rl_Xc (cx : qx_C S T K F G) (hX : rl_X K F G S T sc fr num lef rig hei msk) {msk' : Nat → Int32} (h : ∀ p, 16 ≤ p → p < 64 → msk' p = msk p) : rl_X K F G S T sc fr num lef rig hei msk' := by
  rcases hX with e | ⟨e, e', b⟩
  · exact Or.inl e
  · exact rl_Xm (Or.inr ⟨e, e', b⟩) (bd_cap cx.2.1 (by have := cx.1; omega) cx.2.2.1 b.1) h
theorem vc_valueIn (hC : rl_C S P T C lc K F G) (hL : rl_L T lc num lef rig hei yl yr yh) (hX : rl_X K F G S T sc fr num lef rig hei msk) (hV : rl_V T vr pl rt pq num lef rig hei yl yr yh) (v1 v2 : Int32) : wpX_valueIn (fun r u' => wpY_valueIn (fun r' v' => r' = r ∧ i_Rel (k + 5) u' v') (nI S, nI P, nI T, nI C, nI lc, ed, rt, pq, K, F, G, yl, yr, yh, yb) v1 v2) (nI S, nI P, nI T, nI C, 0, 16, 64, nI lc, sc, fr, vr, pl, K, F, G, num, lef, rig, hei, msk) v1 v2 := by
  have I := rl_mk (k := k + 5) (ed := ed) (yb := yb) hC hL hX hV
  have cx := rl_cx hC
  have hC' := hC
  obtain ⟨hS, hP, hT, hCC, hlc, hnp, hok⟩ := hC'
  have hL16 : lc ≤ 16 := by omega
  unfold wpX_valueIn
  refine xw_isListed hL16 (fun hn => br_t rfl ?_) (fun s hs e => br_f (by decide) (xw_isSlot hS (fun hn => br_t rfl ?_) (fun t ht e' => br_f (by decide) ?_)))
  · unfold wpY_valueIn
    exact yw_noValue hL16 (fun _ => br_f (by decide) ⟨rfl, I⟩) (fun s hs e => absurd ⟨s, hs, e⟩ hn)
  · unfold wpY_valueIn
    exact yw_noValue hL16 (fun hn' => absurd ⟨s, hs, e⟩ hn') (fun _ _ _ => br_t rfl (yw_noSlot hS (fun _ => br_f (by decide) ⟨rfl, I⟩) (fun s hs e => absurd ⟨s, hs, e⟩ hn)))
  · subst e e'
    have hL' := hL
    obtain ⟨f, g1, g2, g3⟩ := hL
    refine xw_member (o := 0) (i := s) (t := t) (f := f) hS hT hok (by omega) (by omega) (by omega) (fun j hj => g1 j (by omega)) (xr_le g2 (by omega)) (fun msk' hm => ?_)
    unfold wpY_valueIn
    refine yw_noValue hL16 (fun hn' => absurd ⟨s, hs, rfl⟩ hn') (fun _ _ _ => br_t rfl (yw_noSlot hS (fun hn' => absurd ⟨t, ht, rfl⟩ hn') (fun _ _ _ => br_t rfl ⟨s + 2, ?_⟩)))
    refine yw_vi (f := f) cx ht (by omega) (fun j hj => g1 j (by omega)) (yg_le g3 (by omega)) (fun yb' => ⟨rfl, ?_⟩) (s + 1) 0 (s + 2) yb (by omega) (by omega) (fun j hj => absurd hj (Nat.not_lt_zero _))
    exact rl_mk hC hL' (rl_Xc cx hX (fun p h1 h2 => hm p (by omega))) hV
theorem vc_hereIn (hC : rl_C S P T C lc K F G) (hL : rl_L T lc num lef rig hei yl yr yh) (hX : rl_X K F G S T sc fr num lef rig hei msk) (hV : rl_V T vr pl rt pq num lef rig hei yl yr yh) (v1 : Int32) : wpX_hereIn (fun r u' => wpY_hereIn (fun r' v' => r' = r ∧ i_Rel (k + 5) u' v') (nI S, nI P, nI T, nI C, nI lc, ed, rt, pq, K, F, G, yl, yr, yh, yb) v1) (nI S, nI P, nI T, nI C, 0, 16, 64, nI lc, sc, fr, vr, pl, K, F, G, num, lef, rig, hei, msk) v1 := by
  have I := rl_mk (k := k + 5) (ed := ed) (yb := yb) hC hL hX hV
  have cx := rl_cx hC
  have hC' := hC
  obtain ⟨hS, hP, hT, hCC, hlc, hnp, hok⟩ := hC'
  unfold wpX_hereIn
  refine xw_isSlot hS (fun hn => br_t rfl ?_) (fun t ht e' => br_f (by decide) ?_)
  · unfold wpY_hereIn
    exact yw_noSlot hS (fun _ => br_f (by decide) ⟨rfl, I⟩) (fun s hs e => absurd ⟨s, hs, e⟩ hn)
  · subst e'
    have hV' := hV
    rcases hV with ⟨rfl, rfl, rfl, rfl⟩ | ⟨r, p, f, a1, a2, rfl, rfl, rfl, rfl, a7, a8, a9⟩
    · refine br_f (by decide) ?_
      unfold wpY_hereIn
      exact yw_noSlot hS (fun hn' => absurd ⟨t, ht, rfl⟩ hn') (fun _ _ _ => br_t rfl (br_f (by decide) ⟨rfl, I⟩))
    · refine br_t (nI_pos' (by omega)) (xw_member (o := 64) (i := p) (t := t) (f := f) hS hT hok (by omega) (by omega) (by omega) (fun j hj => a7 j (by omega)) (xr_le a8 (by omega)) (fun msk' hm => ?_))
      unfold wpY_hereIn
      refine yw_noSlot hS (fun hn' => absurd ⟨t, ht, rfl⟩ hn') (fun _ _ _ => br_t rfl (br_t (nI_pos' (by omega)) ⟨p + 2, ?_⟩))
      refine yw_hi (f := f) cx ht (by omega) (fun j hj => a7 j (by omega)) (yg_le a9 (by omega)) (fun yb' => ⟨rfl, ?_⟩) (p + 1) 0 (p + 2) yb (by omega) (by omega) (fun j hj => absurd hj (Nat.not_lt_zero _))
      exact rl_mk hC hL (rl_Xc cx hX (fun p h1 h2 => hm p (by omega))) hV'
theorem rl_Xk {num' lef' rig' hei' : Nat → Int32} (cx : qx_C S T K F G) (hX : rl_X K F G S T sc fr num lef rig hei msk) (w : xr_fr 64 112 num' lef' rig' hei' num lef rig hei) : rl_X K F G S T sc fr num' lef' rig' hei' msk := by
  rcases hX with e | ⟨e, e', b1, b2, b3⟩
  · exact Or.inl e
  · have hc := bd_cap cx.2.1 (by have := cx.1; omega) cx.2.2.1 b1
    exact Or.inr ⟨e, e', b1, xr_keep b2 w (by omega), b3⟩
theorem vc_look (hC : rl_C S P T C lc K F G) (hL : rl_L T lc num lef rig hei yl yr yh) (hX : rl_X K F G S T sc fr num lef rig hei msk) (hV : rl_V T vr pl rt pq num lef rig hei yl yr yh) (v1 : Int32) : wpX_look (fun r u' => wpY_look (fun r' v' => r' = r ∧ i_Rel (k + 5) u' v') (nI S, nI P, nI T, nI C, nI lc, ed, rt, pq, K, F, G, yl, yr, yh, yb) v1) (nI S, nI P, nI T, nI C, 0, 16, 64, nI lc, sc, fr, vr, pl, K, F, G, num, lef, rig, hei, msk) v1 := by
  have I := rl_mk (k := k + 5) (ed := ed) (yb := yb) hC hL hX hV
  have cx := rl_cx hC
  have hC' := hC
  obtain ⟨hS, hP, hT, hCC, hlc, hnp, hok⟩ := hC'
  have hL16 : lc ≤ 16 := by omega
  unfold wpX_look
  refine xw_isListed hL16 (fun hn => br_t rfl ?_) (fun s hs e => br_f (by decide) ?_)
  · unfold wpY_look
    exact yw_noValue hL16 (fun _ => br_f (by decide) ⟨rfl, I⟩) (fun s hs e => absurd ⟨s, hs, e⟩ hn)
  · subst e
    obtain ⟨f, g1, g2, g3⟩ := hL
    refine xw_show (o := 0) (i := s) (f := f) hT (by omega) (by omega) (fun j hj => g1 j (by omega)) (xr_le g2 (by omega)) (fun num' lef' rig' hei' w1 w2 => ?_)
    unfold wpY_look
    refine yw_noValue hL16 (fun hn' => absurd ⟨s, hs, rfl⟩ hn') (fun _ _ _ => br_t rfl ⟨s + 2, ?_⟩)
    refine yw_lk (f := f) hT (by omega) (fun j hj => g1 j (by omega)) (yg_le g3 (by omega)) (s + 1) 0 (s + 2) yl yr yh (by omega) (by omega) (fun j hj => absurd hj (Nat.not_lt_zero _)) (fun j _ => ⟨rfl, rfl, rfl⟩) (fun yl' yr' yh' w3 w4 => ⟨rfl, ?_⟩)
    exact rl_mk hC ⟨f, g1, xr_keep g2 w2 (by omega), yg_keep g3 w4 (by omega)⟩ (rl_Xk cx hX w2) (Or.inr ⟨s, s, f, Nat.le_refl _, by omega, rfl, rfl, rfl, rfl, fun i hi => g1 i (by omega), w1, w3⟩)
/-- the component's leastState: fresh or not, it answers by the search's states -/
theorem xw_least {post : Int32 → SX → Prop} {a c : Nat} {w : Bool} {ls : Int32} (cx : qx_C S T K F G) (ha : a < S) (hc : c < S) (hX : rl_X K F G S T sc fr num lef rig hei msk)
    (hn : ∀ num' lef' rig' hei' msk', rl_B K F G S T num' lef' rig' hei' msk' → xr_fr 16 64 num' lef' rig' hei' num lef rig hei → bd_fi (bd_all K F G S T).2.2 a c w (bd_all K F G S T).1 0 = none → post (-1) (nI S, nI P, nI T, nI C, 0, 16, 64, ls, nI (bd_all K F G S T).1, 1, vr, pl, K, F, G, num', lef', rig', hei', msk'))
    (hs : ∀ num' lef' rig' hei' msk' j, rl_B K F G S T num' lef' rig' hei' msk' → xr_fr 16 64 num' lef' rig' hei' num lef rig hei → bd_fi (bd_all K F G S T).2.2 a c w (bd_all K F G S T).1 0 = some j → post (nI j) (nI S, nI P, nI T, nI C, 0, 16, 64, ls, nI (bd_all K F G S T).1, 1, vr, pl, K, F, G, num', lef', rig', hei', msk')) :
    wpX_leastState post (nI S, nI P, nI T, nI C, 0, 16, 64, ls, sc, fr, vr, pl, K, F, G, num, lef, rig, hei, msk) (nI a) (nI c) (mz_i w) := by
  have hS := cx.1
  unfold wpX_leastState
  rcases hX with rfl | ⟨rfl, rfl, b⟩
  · refine br_t rfl (xw_build cx (fun num' lef' rig' hei' msk' h => ?_))
    have hk := bd_cap cx.2.1 (by omega) cx.2.2.1 h.1
    exact ⟨_, xw_fi (by omega) (by omega) hk h.2.2.1 _ 0 _ (Nat.zero_add _) (Nat.lt_succ_self _) (hn _ _ _ _ _ ⟨h.1, h.2.1, h.2.2.1⟩ h.2.2.2) (fun j => hs _ _ _ _ _ j ⟨h.1, h.2.1, h.2.2.1⟩ h.2.2.2)⟩
  · have hk := bd_cap cx.2.1 (by omega) cx.2.2.1 b.1
    exact br_f (by decide) ⟨_, xw_fi (by omega) (by omega) hk b.2.2 _ 0 _ (Nat.zero_add _) (Nat.lt_succ_self _) (hn _ _ _ _ _ b (fun j _ => ⟨rfl, rfl, rfl, rfl⟩)) (fun j => hs _ _ _ _ _ j b (fun j _ => ⟨rfl, rfl, rfl, rfl⟩))⟩
/-- the state after a search that found nothing -/
theorem rl_none {num' lef' rig' hei' msk' yl' yr' yh' yb' : Nat → Int32} {e : Int32} (hC : rl_C S P T C lc K F G) (hL : rl_L T lc num lef rig hei yl yr yh) (b : rl_B K F G S T num' lef' rig' hei' msk') (w : xr_fr 16 64 num' lef' rig' hei' num lef rig hei) (h : ys_P K F G S T (bd_all K F G S T) yl' yr' yh' yb' yl yr yh) :
    i_Rel k (nI S, nI P, nI T, nI C, 0, 16, 64, nI lc, nI (bd_all K F G S T).1, 1, -1, -1, K, F, G, num', lef', rig', hei', msk') (nI S, nI P, nI T, nI C, nI lc, e, -1, -1, K, F, G, yl', yr', yh', yb') := by
  obtain ⟨hS, hP, hT, hCC, hlc, hnp, hok⟩ := id hC
  obtain ⟨f, g1, g2, g3⟩ := hL
  exact rl_mk hC ⟨f, g1, xr_keep g2 w (by omega), yg_keep g3 h.2.2.2 (by omega)⟩ (Or.inr ⟨rfl, rfl, b⟩) (Or.inl ⟨rfl, rfl, rfl, rfl⟩)
theorem rl_some {num' lef' rig' hei' msk' num2 lef2 rig2 hei2 yl' yr' yh' yb' : Nat → Int32} {e : Int32} {j : Nat} (hC : rl_C S P T C lc K F G) (hL : rl_L T lc num lef rig hei yl yr yh) (b : rl_B K F G S T num' lef' rig' hei' msk') (w : xr_fr 16 64 num' lef' rig' hei' num lef rig hei) (h : ys_P K F G S T (bd_all K F G S T) yl' yr' yh' yb' yl yr yh) (hj : j < (bd_all K F G S T).1) (w1 : xr_ 64 (j + 1) (bd_all K F G S T).2.1 num2 lef2 rig2 hei2) (w2 : xr_fr 64 112 num2 lef2 rig2 hei2 num' lef' rig' hei') :
    i_Rel k (nI S, nI P, nI T, nI C, 0, 16, 64, nI lc, nI (bd_all K F G S T).1, 1, nI j, nI j, K, F, G, num2, lef2, rig2, hei2, msk') (nI S, nI P, nI T, nI C, nI lc, e, nI (16 + j), nI (16 + j), K, F, G, yl', yr', yh', yb') := by
  have cx := rl_cx hC
  obtain ⟨hS, hP, hT, hCC, hlc, hnp, hok⟩ := id hC
  obtain ⟨f, g1, g2, g3⟩ := hL
  have hk := bd_cap cx.2.1 (by omega) cx.2.2.1 b.1
  exact rl_mk hC ⟨f, g1, xr_keep (xr_keep g2 w (by omega)) w2 (by omega), yg_keep g3 h.2.2.2 (by omega)⟩ (rl_Xk cx (Or.inr ⟨rfl, rfl, b⟩) w2) (Or.inr ⟨j, j, (bd_all K F G S T).2.1, Nat.le_refl _, by omega, rfl, rfl, rfl, rfl, fun i hi => (b.1.1 i (by omega)).1, w1, yg_le h.2.1 (by omega)⟩)
theorem vc_subtype (hC : rl_C S P T C lc K F G) (hL : rl_L T lc num lef rig hei yl yr yh) (hX : rl_X K F G S T sc fr num lef rig hei msk) (hV : rl_V T vr pl rt pq num lef rig hei yl yr yh) (v1 v2 : Int32) : wpX_subtype (fun r u' => wpY_subtype (fun r' v' => r' = r ∧ i_Rel (k + 5) u' v') (nI S, nI P, nI T, nI C, nI lc, ed, rt, pq, K, F, G, yl, yr, yh, yb) v1 v2) (nI S, nI P, nI T, nI C, 0, 16, 64, nI lc, sc, fr, vr, pl, K, F, G, num, lef, rig, hei, msk) v1 v2 := by
  have I := rl_mk (k := k + 5) (ed := ed) (yb := yb) hC hL hX hV
  have cx := rl_cx hC
  have hS := hC.1
  unfold wpX_subtype
  refine xw_isSlot hS (fun hn => br_t rfl ?_) (fun a ha e => br_f (by decide) (xw_isSlot hS (fun hn => br_t rfl ?_) (fun c hc e' => br_f (by decide) ?_)))
  · unfold wpY_subtype
    exact yw_noSlot hS (fun _ => br_f (by decide) ⟨rfl, I⟩) (fun s hs e => absurd ⟨s, hs, e⟩ hn)
  · unfold wpY_subtype
    exact yw_noSlot hS (fun hn' => absurd ⟨a, ha, e⟩ hn') (fun _ _ _ => br_t rfl (yw_noSlot hS (fun _ => br_f (by decide) ⟨rfl, I⟩) (fun s hs e => absurd ⟨s, hs, e⟩ hn)))
  · subst e e'
    refine xw_least (w := false) cx ha hc hX (fun num' lef' rig' hei' msk' b w hf => ?_) (fun num' lef' rig' hei' msk' j b w hf => ?_)
    · refine xw_show0 (br_f (by decide) ?_)
      unfold wpY_subtype
      refine yw_noSlot hS (fun hn' => absurd ⟨a, ha, rfl⟩ hn') (fun _ _ _ => br_t rfl (yw_noSlot hS (fun hn' => absurd ⟨c, hc, rfl⟩ hn') (fun _ _ _ => br_t rfl (yw_find (w := false) cx ha hc (fun yl' yr' yh' yb' h _ => br_t rfl ⟨rfl, rl_none hC hL b w h⟩) (fun yl' yr' yh' yb' j h hf' => ?_)))))
      rw [hf] at hf'
      cases hf'
    · have hj := bd_fil hf
      have hk := bd_cap cx.2.1 (by omega) cx.2.2.1 b.1
      refine xw_show (o := 16) (i := j) (f := (bd_all K F G S T).2.1) cx.2.1 (by omega) (by omega) (fun i hi => (b.1.1 i (by omega)).1) (xr_le b.2.1 (by omega)) (fun num2 lef2 rig2 hei2 w1 w2 => br_t (nI_pos' (by omega)) ?_)
      unfold wpY_subtype
      refine yw_noSlot hS (fun hn' => absurd ⟨a, ha, rfl⟩ hn') (fun _ _ _ => br_t rfl (yw_noSlot hS (fun hn' => absurd ⟨c, hc, rfl⟩ hn') (fun _ _ _ => br_t rfl (yw_find (w := false) cx ha hc (fun yl' yr' yh' yb' h hf' => ?_) (fun yl' yr' yh' yb' j' h hf' => br_f (by decide) ⟨rfl, ?_⟩)))))
      · rw [hf] at hf'
        cases hf'
      · have e : j = j' := by rw [hf] at hf'; exact Option.some.inj hf'
        subst e
        exact rl_some hC hL b w h (by omega) w1 w2
theorem vc_overlap (hC : rl_C S P T C lc K F G) (hL : rl_L T lc num lef rig hei yl yr yh) (hX : rl_X K F G S T sc fr num lef rig hei msk) (hV : rl_V T vr pl rt pq num lef rig hei yl yr yh) (v1 v2 : Int32) : wpX_overlap (fun r u' => wpY_overlap (fun r' v' => r' = r ∧ i_Rel (k + 5) u' v') (nI S, nI P, nI T, nI C, nI lc, ed, rt, pq, K, F, G, yl, yr, yh, yb) v1 v2) (nI S, nI P, nI T, nI C, 0, 16, 64, nI lc, sc, fr, vr, pl, K, F, G, num, lef, rig, hei, msk) v1 v2 := by
  have I := rl_mk (k := k + 5) (ed := ed) (yb := yb) hC hL hX hV
  have cx := rl_cx hC
  have hS := hC.1
  unfold wpX_overlap
  refine xw_isSlot hS (fun hn => br_t rfl ?_) (fun a ha e => br_f (by decide) (xw_isSlot hS (fun hn => br_t rfl ?_) (fun c hc e' => br_f (by decide) ?_)))
  · unfold wpY_overlap
    exact yw_noSlot hS (fun _ => br_f (by decide) ⟨rfl, I⟩) (fun s hs e => absurd ⟨s, hs, e⟩ hn)
  · unfold wpY_overlap
    exact yw_noSlot hS (fun hn' => absurd ⟨a, ha, e⟩ hn') (fun _ _ _ => br_t rfl (yw_noSlot hS (fun _ => br_f (by decide) ⟨rfl, I⟩) (fun s hs e => absurd ⟨s, hs, e⟩ hn)))
  · subst e e'
    refine xw_least (w := true) cx ha hc hX (fun num' lef' rig' hei' msk' b w hf => ?_) (fun num' lef' rig' hei' msk' j b w hf => ?_)
    · refine xw_show0 (br_f (by decide) ?_)
      unfold wpY_overlap
      refine yw_noSlot hS (fun hn' => absurd ⟨a, ha, rfl⟩ hn') (fun _ _ _ => br_t rfl (yw_noSlot hS (fun hn' => absurd ⟨c, hc, rfl⟩ hn') (fun _ _ _ => br_t rfl (yw_find (w := true) cx ha hc (fun yl' yr' yh' yb' h _ => br_t rfl ⟨rfl, rl_none hC hL b w h⟩) (fun yl' yr' yh' yb' j h hf' => ?_)))))
      rw [hf] at hf'
      cases hf'
    · have hj := bd_fil hf
      have hk := bd_cap cx.2.1 (by omega) cx.2.2.1 b.1
      refine xw_show (o := 16) (i := j) (f := (bd_all K F G S T).2.1) cx.2.1 (by omega) (by omega) (fun i hi => (b.1.1 i (by omega)).1) (xr_le b.2.1 (by omega)) (fun num2 lef2 rig2 hei2 w1 w2 => br_t (nI_pos' (by omega)) ?_)
      unfold wpY_overlap
      refine yw_noSlot hS (fun hn' => absurd ⟨a, ha, rfl⟩ hn') (fun _ _ _ => br_t rfl (yw_noSlot hS (fun hn' => absurd ⟨c, hc, rfl⟩ hn') (fun _ _ _ => br_t rfl (yw_find (w := true) cx ha hc (fun yl' yr' yh' yb' h hf' => ?_) (fun yl' yr' yh' yb' j' h hf' => br_f (by decide) ⟨rfl, ?_⟩)))))
      · rw [hf] at hf'
        cases hf'
      · have e : j = j' := by rw [hf] at hf'; exact Option.some.inj hf'
        subst e
        exact rl_some hC hL b w h (by omega) w1 w2
end
end
section
/-! what is owed, by the elimination of the relation -/
theorem i_vc_define {k : Nat} {u : SX} {v : SY} (I : i_Rel k u v) (hk : k + 5 ≤ 2564) (v1 : Int32) (v2 : Int32) (v3 : Int32) (v4 : Int32) : wpX_define (fun r u' => wpY_define (fun r' v' => r' = r ∧ i_Rel (k + 5) u' v') v v1 v2 v3 v4) u v1 v2 v3 v4 := by
  refine rl_el (Q := fun u v => wpX_define (fun r u' => wpY_define (fun r' v' => r' = r ∧ i_Rel (k + 5) u' v') v v1 v2 v3 v4) u v1 v2 v3 v4) ?_ I
  intro S P T C lc sc fr vr pl K F G num lef rig hei msk ed rt pq yl yr yh yb hC hL hX hV
  exact vc_define hC hL hX hV v1 v2 v3 v4
theorem i_vc_kindOf {k : Nat} {u : SX} {v : SY} (I : i_Rel k u v) (hk : k + 5 ≤ 2564) (v1 : Int32) : wpX_kindOf (fun r => wpY_kindOf (fun r' => r' = r ∧ i_Rel (k + 5) u v) v v1) u v1 := by
  refine rl_el (Q := fun u v => wpX_kindOf (fun r => wpY_kindOf (fun r' => r' = r ∧ i_Rel (k + 5) u v) v v1) u v1) ?_ I
  intro S P T C lc sc fr vr pl K F G num lef rig hei msk ed rt pq yl yr yh yb hC hL hX hV
  exact vc_kindOf hC hL hX hV v1
theorem i_vc_partOf {k : Nat} {u : SX} {v : SY} (I : i_Rel k u v) (hk : k + 5 ≤ 2564) (v1 : Int32) (v2 : Int32) : wpX_partOf (fun r => wpY_partOf (fun r' => r' = r ∧ i_Rel (k + 5) u v) v v1 v2) u v1 v2 := by
  refine rl_el (Q := fun u v => wpX_partOf (fun r => wpY_partOf (fun r' => r' = r ∧ i_Rel (k + 5) u v) v v1 v2) u v1 v2) ?_ I
  intro S P T C lc sc fr vr pl K F G num lef rig hei msk ed rt pq yl yr yh yb hC hL hX hV
  exact vc_partOf hC hL hX hV v1 v2
theorem i_vc_leaf {k : Nat} {u : SX} {v : SY} (I : i_Rel k u v) (hk : k + 5 ≤ 2564) (v1 : Int32) : wpX_leaf (fun r u' => wpY_leaf (fun r' v' => r' = r ∧ i_Rel (k + 5) u' v') v v1) u v1 := by
  refine rl_el (Q := fun u v => wpX_leaf (fun r u' => wpY_leaf (fun r' v' => r' = r ∧ i_Rel (k + 5) u' v') v v1) u v1) ?_ I
  intro S P T C lc sc fr vr pl K F G num lef rig hei msk ed rt pq yl yr yh yb hC hL hX hV
  exact vc_leaf hC hL hX hV v1
theorem i_vc_join {k : Nat} {u : SX} {v : SY} (I : i_Rel k u v) (hk : k + 5 ≤ 2564) (v1 : Int32) (v2 : Int32) : wpX_join (fun r u' => wpY_join (fun r' v' => r' = r ∧ i_Rel (k + 5) u' v') v v1 v2) u v1 v2 := by
  refine rl_el (Q := fun u v => wpX_join (fun r u' => wpY_join (fun r' v' => r' = r ∧ i_Rel (k + 5) u' v') v v1 v2) u v1 v2) ?_ I
  intro S P T C lc sc fr vr pl K F G num lef rig hei msk ed rt pq yl yr yh yb hC hL hX hV
  exact vc_join hC hL hX hV v1 v2
theorem i_vc_valueCount {k : Nat} {u : SX} {v : SY} (I : i_Rel k u v) (hk : k + 5 ≤ 2564) : wpX_valueCount (fun r => wpY_valueCount (fun r' => r' = r ∧ i_Rel (k + 5) u v) v) u := by
  refine rl_el (Q := fun u v => wpX_valueCount (fun r => wpY_valueCount (fun r' => r' = r ∧ i_Rel (k + 5) u v) v) u) ?_ I
  intro S P T C lc sc fr vr pl K F G num lef rig hei msk ed rt pq yl yr yh yb hC hL hX hV
  exact ⟨rfl, rl_mk hC hL hX hV⟩
theorem i_vc_valueIn {k : Nat} {u : SX} {v : SY} (I : i_Rel k u v) (hk : k + 5 ≤ 2564) (v1 : Int32) (v2 : Int32) : wpX_valueIn (fun r u' => wpY_valueIn (fun r' v' => r' = r ∧ i_Rel (k + 5) u' v') v v1 v2) u v1 v2 := by
  refine rl_el (Q := fun u v => wpX_valueIn (fun r u' => wpY_valueIn (fun r' v' => r' = r ∧ i_Rel (k + 5) u' v') v v1 v2) u v1 v2) ?_ I
  intro S P T C lc sc fr vr pl K F G num lef rig hei msk ed rt pq yl yr yh yb hC hL hX hV
  exact vc_valueIn hC hL hX hV v1 v2
theorem i_vc_forget {k : Nat} {u : SX} {v : SY} (I : i_Rel k u v) (hk : k + 5 ≤ 2564) : wpX_forget (fun u' => wpY_forget (fun v' => i_Rel (k + 5) u' v') v) u := by
  refine rl_el (Q := fun u v => wpX_forget (fun u' => wpY_forget (fun v' => i_Rel (k + 5) u' v') v) u) ?_ I
  intro S P T C lc sc fr vr pl K F G num lef rig hei msk ed rt pq yl yr yh yb hC hL hX hV
  exact vc_forget hC hX hV
theorem i_vc_subtype {k : Nat} {u : SX} {v : SY} (I : i_Rel k u v) (hk : k + 5 ≤ 2564) (v1 : Int32) (v2 : Int32) : wpX_subtype (fun r u' => wpY_subtype (fun r' v' => r' = r ∧ i_Rel (k + 5) u' v') v v1 v2) u v1 v2 := by
  refine rl_el (Q := fun u v => wpX_subtype (fun r u' => wpY_subtype (fun r' v' => r' = r ∧ i_Rel (k + 5) u' v') v v1 v2) u v1 v2) ?_ I
  intro S P T C lc sc fr vr pl K F G num lef rig hei msk ed rt pq yl yr yh yb hC hL hX hV
  exact vc_subtype hC hL hX hV v1 v2
theorem i_vc_overlap {k : Nat} {u : SX} {v : SY} (I : i_Rel k u v) (hk : k + 5 ≤ 2564) (v1 : Int32) (v2 : Int32) : wpX_overlap (fun r u' => wpY_overlap (fun r' v' => r' = r ∧ i_Rel (k + 5) u' v') v v1 v2) u v1 v2 := by
  refine rl_el (Q := fun u v => wpX_overlap (fun r u' => wpY_overlap (fun r' v' => r' = r ∧ i_Rel (k + 5) u' v') v v1 v2) u v1 v2) ?_ I
  intro S P T C lc sc fr vr pl K F G num lef rig hei msk ed rt pq yl yr yh yb hC hL hX hV
  exact vc_overlap hC hL hX hV v1 v2
theorem i_vc_look {k : Nat} {u : SX} {v : SY} (I : i_Rel k u v) (hk : k + 5 ≤ 2564) (v1 : Int32) : wpX_look (fun r u' => wpY_look (fun r' v' => r' = r ∧ i_Rel (k + 5) u' v') v v1) u v1 := by
  refine rl_el (Q := fun u v => wpX_look (fun r u' => wpY_look (fun r' v' => r' = r ∧ i_Rel (k + 5) u' v') v v1) u v1) ?_ I
  intro S P T C lc sc fr vr pl K F G num lef rig hei msk ed rt pq yl yr yh yb hC hL hX hV
  exact vc_look hC hL hX hV v1
theorem i_vc_here {k : Nat} {u : SX} {v : SY} (I : i_Rel k u v) (hk : k + 5 ≤ 2564) : wpX_here (fun r => wpY_here (fun r' => r' = r ∧ i_Rel (k + 5) u v) v) u := by
  refine rl_el (Q := fun u v => wpX_here (fun r => wpY_here (fun r' => r' = r ∧ i_Rel (k + 5) u v) v) u) ?_ I
  intro S P T C lc sc fr vr pl K F G num lef rig hei msk ed rt pq yl yr yh yb hC hL hX hV
  exact vc_here hC hL hX hV
theorem i_vc_down {k : Nat} {u : SX} {v : SY} (I : i_Rel k u v) (hk : k + 5 ≤ 2564) (v1 : Int32) : wpX_down (fun r u' => wpY_down (fun r' v' => r' = r ∧ i_Rel (k + 5) u' v') v v1) u v1 := by
  refine rl_el (Q := fun u v => wpX_down (fun r u' => wpY_down (fun r' v' => r' = r ∧ i_Rel (k + 5) u' v') v v1) u v1) ?_ I
  intro S P T C lc sc fr vr pl K F G num lef rig hei msk ed rt pq yl yr yh yb hC hL hX hV
  exact vc_down hC hL hX hV v1
theorem i_vc_rise {k : Nat} {u : SX} {v : SY} (I : i_Rel k u v) (hk : k + 5 ≤ 2564) : wpX_rise (fun r u' => wpY_rise (fun r' v' => r' = r ∧ i_Rel (k + 5) u' v') v) u := by
  refine rl_el (Q := fun u v => wpX_rise (fun r u' => wpY_rise (fun r' v' => r' = r ∧ i_Rel (k + 5) u' v') v) u) ?_ I
  intro S P T C lc sc fr vr pl K F G num lef rig hei msk ed rt pq yl yr yh yb hC hL hX hV
  exact vc_rise hC hL hX hV
theorem i_vc_hereIn {k : Nat} {u : SX} {v : SY} (I : i_Rel k u v) (hk : k + 5 ≤ 2564) (v1 : Int32) : wpX_hereIn (fun r u' => wpY_hereIn (fun r' v' => r' = r ∧ i_Rel (k + 5) u' v') v v1) u v1 := by
  refine rl_el (Q := fun u v => wpX_hereIn (fun r u' => wpY_hereIn (fun r' v' => r' = r ∧ i_Rel (k + 5) u' v') v v1) u v1) ?_ I
  intro S P T C lc sc fr vr pl K F G num lef rig hei msk ed rt pq yl yr yh yb hC hL hX hV
  exact vc_hereIn hC hL hX hV v1
theorem i_vc_hereHeight {k : Nat} {u : SX} {v : SY} (I : i_Rel k u v) (hk : k + 5 ≤ 2564) : wpX_hereHeight (fun r => wpY_hereHeight (fun r' => r' = r ∧ i_Rel (k + 5) u v) v) u := by
  refine rl_el (Q := fun u v => wpX_hereHeight (fun r => wpY_hereHeight (fun r' => r' = r ∧ i_Rel (k + 5) u v) v) u) ?_ I
  intro S P T C lc sc fr vr pl K F G num lef rig hei msk ed rt pq yl yr yh yb hC hL hX hV
  exact vc_hereHeight hC hL hX hV
end
