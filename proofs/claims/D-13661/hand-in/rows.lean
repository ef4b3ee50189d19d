section
/-! ===== a long as a set of 64 states: its bits ===== -/
def gc_b (x : Int64) (i : Nat) : Bool := x.toBitVec.getLsbD i
/-- the word of one state -/
def gc_s (k : Nat) : Int64 := (1 : Int64) <<< ((nI k).toInt64 &&& 63)
theorem gc_ext {x y : Int64} (h : ∀ i, i < 64 → gc_b x i = gc_b y i) : x = y :=
  Int64.toBitVec_inj.mp (BitVec.eq_of_getLsbD_eq (fun i hi => h i hi))
theorem gc_or (x y : Int64) (i : Nat) : gc_b (x ||| y) i = (gc_b x i || gc_b y i) := by
  unfold gc_b
  rw [Int64.toBitVec_or, BitVec.getLsbD_or]
theorem gc_and (x y : Int64) (i : Nat) : gc_b (x &&& y) i = (gc_b x i && gc_b y i) := by
  unfold gc_b
  rw [Int64.toBitVec_and, BitVec.getLsbD_and]
theorem gc_not (x : Int64) {i : Nat} (hi : i < 64) : gc_b (x ^^^ (-1)) i = !gc_b x i := by
  have ha : (-1 : Int64).toBitVec = BitVec.allOnes 64 := by decide
  unfold gc_b
  rw [Int64.toBitVec_xor, ha, BitVec.getLsbD_xor, BitVec.getLsbD_allOnes]
  simp [hi]
theorem gc_0 (i : Nat) : gc_b 0 i = false := by
  show (0#64).getLsbD i = false
  simp
theorem gc_1 (i : Nat) : gc_b 1 i = decide (i = 0) := by
  show (1#64).getLsbD i = _
  rw [BitVec.getLsbD_one]
  simp
theorem gc_m1 {i : Nat} (hi : i < 64) : gc_b (-1) i = true := by
  have ha : (-1 : Int64).toBitVec = BitVec.allOnes 64 := by decide
  unfold gc_b
  rw [ha, BitVec.getLsbD_allOnes]
  simp [hi]
theorem gc_sh : ∀ k, k < 64 → ((1 : Int64) <<< ((nI k).toInt64 &&& 63)).toBitVec = BitVec.twoPow 64 k := by decide +kernel
theorem gc_sh0 : ∀ k, k < 64 → (0 : Int64) <<< ((nI k).toInt64 &&& 63) = 0 := by decide +kernel
theorem gc_one {k : Nat} (hk : k < 64) (i : Nat) : gc_b (gc_s k) i = decide (k = i) := by
  unfold gc_b gc_s
  rw [gc_sh k hk, BitVec.getLsbD_twoPow]
  simp [hk]
theorem gc_cu : ∀ k, k < 64 → ((nI k).toInt64.toUInt64 &&& Int64.toUInt64 63).toNat = k := by decide +kernel
theorem gc_sm : ∀ k, k < 64 → (((nI k).toInt64 &&& 63).toBitVec.smod 64).toNat = k := by decide +kernel
/-- the two shifts, one bit kept -/
theorem gc_shr (x : Int64) {k : Nat} (hk : k < 64) : (x.toUInt64 >>> ((nI k).toInt64.toUInt64 &&& Int64.toUInt64 63)).toInt64 &&& 1 = if gc_b x k = true then 1 else 0 := by
  have hs := gc_cu k hk
  have e : (x.toUInt64 >>> ((nI k).toInt64.toUInt64 &&& Int64.toUInt64 63)).toInt64.toBitVec = x.toBitVec >>> k := by
    apply BitVec.eq_of_toNat_eq
    show (x.toUInt64 >>> ((nI k).toInt64.toUInt64 &&& Int64.toUInt64 63)).toNat = _
    rw [UInt64.toNat_shiftRight, hs, Nat.mod_eq_of_lt hk, BitVec.toNat_ushiftRight]
    rfl
  apply gc_ext
  intro i hi
  rw [gc_and, gc_1]
  by_cases h0 : i = 0
  · subst h0
    have h2 : gc_b (x.toUInt64 >>> ((nI k).toInt64.toUInt64 &&& Int64.toUInt64 63)).toInt64 0 = gc_b x k := by
      unfold gc_b
      rw [e, BitVec.getLsbD_ushiftRight]
      rfl
    rw [h2]
    cases gc_b x k
    · simp [gc_0]
    · simp [gc_1]
  · cases gc_b x k
    · simp [gc_0, h0]
    · simp [gc_1, h0]
theorem gc_sshr (x : Int64) {k : Nat} (hk : k < 64) : (x >>> ((nI k).toInt64 &&& 63)) &&& 1 = if gc_b x k = true then 1 else 0 := by
  have hs := gc_sm k hk
  apply gc_ext
  intro i hi
  rw [gc_and, gc_1]
  by_cases h0 : i = 0
  · subst h0
    have h2 : gc_b (x >>> ((nI k).toInt64 &&& 63)) 0 = gc_b x k := by
      unfold gc_b
      rw [Int64.toBitVec_shiftRight]
      show (x.toBitVec.sshiftRight (((nI k).toInt64 &&& 63).toBitVec.smod 64).toNat).getLsbD 0 = _
      rw [hs, BitVec.getLsbD_sshiftRight]
      simp [hk]
    rw [h2]
    cases gc_b x k
    · simp [gc_0]
    · simp [gc_1]
  · cases gc_b x k
    · simp [gc_0, h0]
    · simp [gc_1, h0]
theorem gc_bi (x : Int64) {k : Nat} (hk : k < 64) : ((x.toUInt64 >>> ((nI k).toInt64.toUInt64 &&& Int64.toUInt64 63)).toInt64 &&& 1).toInt32 = nI (gc_b x k).toNat := by
  rw [gc_shr x hk]
  cases gc_b x k
  · rfl
  · rfl
theorem gc_sub (x y : Int64) : (x &&& (y ^^^ (-1))) = 0 ↔ ∀ i, i < 64 → gc_b x i = true → gc_b y i = true := by
  constructor
  · intro h i hi hx
    have t := congrArg (fun z => gc_b z i) h
    simp only [gc_and, gc_not y hi, gc_0, hx] at t
    simpa using t
  · intro h
    apply gc_ext
    intro i hi
    rw [gc_and, gc_not y hi, gc_0]
    cases hx : gc_b x i
    · rfl
    · rw [h i hi hx]
      rfl
/-- at most one state -/
theorem gc_le1 (x : Int64) : (x &&& (x - 1)) = 0 ↔ ∀ i j, i < 64 → j < 64 → gc_b x i = true → gc_b x j = true → i = j := by
  by_cases h0 : x = 0
  · subst h0
    constructor
    · intro _ i j _ _ hx
      rw [gc_0] at hx
      exact absurd hx (by decide)
    · intro _
      rfl
  · have hn : x.toBitVec.toNat ≠ 0 := by
      intro e
      apply h0
      apply Int64.toBitVec_inj.mp
      apply BitVec.eq_of_toNat_eq
      rw [e]
      rfl
    have hlt := x.toBitVec.isLt
    have h1 : (x - 1).toBitVec.toNat = x.toBitVec.toNat - 1 := by
      rw [Int64.toBitVec_sub, BitVec.toNat_sub]
      have e1 : (1 : Int64).toBitVec.toNat = 1 := by decide
      rw [e1]
      omega
    have hk : (x &&& (x - 1)) = 0 ↔ (x.toBitVec.toNat &&& (x.toBitVec.toNat - 1)) = 0 := by
      rw [← h1, ← BitVec.toNat_and, ← Int64.toBitVec_and]
      constructor
      · intro e
        rw [e]
        rfl
      · intro e
        apply Int64.toBitVec_inj.mp
        apply BitVec.eq_of_toNat_eq
        rw [e]
        rfl
    rw [hk, Nat.and_sub_one_eq_zero_iff_isPowerOfTwo hn]
    constructor
    · intro hp i j hi hj hx hy
      obtain ⟨k, hk⟩ := hp
      have bi : gc_b x i = decide (k = i) := by
        unfold gc_b BitVec.getLsbD
        rw [hk, Nat.testBit_two_pow]
      have bj : gc_b x j = decide (k = j) := by
        unfold gc_b BitVec.getLsbD
        rw [hk, Nat.testBit_two_pow]
      rw [bi] at hx
      rw [bj] at hy
      have e1 := of_decide_eq_true hx
      have e2 := of_decide_eq_true hy
      omega
    · intro h
      have hex : ∃ k, k < 64 ∧ gc_b x k = true := by
        apply Classical.byContradiction
        intro hno
        apply h0
        apply gc_ext
        intro i hi
        rw [gc_0]
        cases hx : gc_b x i
        · rfl
        · exact absurd ⟨i, hi, hx⟩ hno
      obtain ⟨k, hk, hb⟩ := hex
      refine ⟨k, ?_⟩
      have e : x = gc_s k := by
        apply gc_ext
        intro i hi
        rw [gc_one hk]
        cases hx : gc_b x i
        · symm
          apply decide_eq_false
          intro e
          rw [e, hx] at hb
          exact absurd hb (by decide)
        · symm
          exact decide_eq_true (h k i hk hi hb hx)
      rw [e]
      show ((1 : Int64) <<< ((nI k).toInt64 &&& 63)).toBitVec.toNat = _
      rw [gc_sh k hk, BitVec.toNat_twoPow]
      exact Nat.mod_eq_of_lt (Nat.pow_lt_pow_right (by decide) hk)
end
section
/-! ===== the swap of the two coordinates of a state ===== -/
def gc_g (s : Nat) : Nat := 8 * (s % 8) + s / 8
theorem gc_g_lt {s : Nat} (h : s < 64) : gc_g s < 64 := by
  unfold gc_g
  omega
theorem gc_g_g {s : Nat} (h : s < 64) : gc_g (gc_g s) = s := by
  unfold gc_g
  omega
/-- y is x with every state swapped -/
def gc_T (x y : Int64) : Prop := ∀ i, i < 64 → gc_b y (gc_g i) = gc_b x i
theorem gc_T_symm {x y : Int64} (h : gc_T x y) : gc_T y x := by
  intro i hi
  have t := h (gc_g i) (gc_g_lt hi)
  rw [gc_g_g hi] at t
  exact t.symm
theorem gc_T_u {x y z : Int64} (h : gc_T x y) (h' : gc_T x z) : y = z := by
  apply gc_ext
  intro i hi
  rw [← gc_T_symm h i hi, ← gc_T_symm h' i hi]
theorem gc_T_eq {x y x' y' : Int64} (h : gc_T x y) (h' : gc_T x' y') : x = x' ↔ y = y' := by
  constructor
  · intro e
    rw [← e] at h'
    exact gc_T_u h h'
  · intro e
    rw [← e] at h'
    exact gc_T_u (gc_T_symm h) (gc_T_symm h')
theorem gc_T_or {x y x' y' : Int64} (h : gc_T x y) (h' : gc_T x' y') : gc_T (x ||| x') (y ||| y') := by
  intro i hi
  rw [gc_or, gc_or, h i hi, h' i hi]
theorem gc_T_and {x y x' y' : Int64} (h : gc_T x y) (h' : gc_T x' y') : gc_T (x &&& x') (y &&& y') := by
  intro i hi
  rw [gc_and, gc_and, h i hi, h' i hi]
theorem gc_T_not {x y : Int64} (h : gc_T x y) : gc_T (x ^^^ (-1)) (y ^^^ (-1)) := by
  intro i hi
  rw [gc_not _ hi, gc_not _ (gc_g_lt hi), h i hi]
theorem gc_T_0 : gc_T 0 0 := by
  intro i hi
  rw [gc_0, gc_0]
theorem gc_T_m1 : gc_T (-1) (-1) := by
  intro i hi
  rw [gc_m1 hi, gc_m1 (gc_g_lt hi)]
theorem gc_g_inj {i j : Nat} (hi : i < 64) (hj : j < 64) : gc_g i = gc_g j ↔ i = j := by
  constructor
  · intro e
    rw [← gc_g_g hi, ← gc_g_g hj, e]
  · intro e
    rw [e]
theorem gc_T_s {k : Nat} (hk : k < 64) : gc_T (gc_s k) (gc_s (gc_g k)) := by
  intro i hi
  rw [gc_one hk, gc_one (gc_g_lt hk)]
  exact decide_eq_decide.mpr (gc_g_inj hk hi)
theorem gc_T_sub {x y x' y' : Int64} (h : gc_T x y) (h' : gc_T x' y') : (x &&& (x' ^^^ (-1))) = 0 ↔ (y &&& (y' ^^^ (-1))) = 0 :=
  gc_T_eq (gc_T_and h (gc_T_not h')) gc_T_0
theorem gc_T_le1h {x y : Int64} (h : gc_T x y) (h1 : (y &&& (y - 1)) = 0) : (x &&& (x - 1)) = 0 := by
  rw [gc_le1] at h1 ⊢
  intro i j hi hj bi bj
  rw [← h i hi] at bi
  rw [← h j hj] at bj
  exact (gc_g_inj hi hj).mp (h1 _ _ (gc_g_lt hi) (gc_g_lt hj) bi bj)
theorem gc_T_le1 {x y : Int64} (h : gc_T x y) : (x &&& (x - 1)) = 0 ↔ (y &&& (y - 1)) = 0 :=
  ⟨gc_T_le1h (gc_T_symm h), gc_T_le1h h⟩
/-! ===== the union of f k over the states k of a set ===== -/
def gc_U (f : Nat → Int64) (o : Int64) : Nat → Int64 → Int64
  | 0, acc => acc
  | n + 1, acc => if gc_b o n = true then gc_U f o n acc ||| f n else gc_U f o n acc
theorem gc_U_t {f : Nat → Int64} {o : Int64} {n : Nat} {acc : Int64} (h : gc_b o n = true) : gc_U f o (n + 1) acc = gc_U f o n acc ||| f n := if_pos h
theorem gc_U_f {f : Nat → Int64} {o : Int64} {n : Nat} {acc : Int64} (h : gc_b o n = false) : gc_U f o (n + 1) acc = gc_U f o n acc := if_neg (by rw [h]; decide)
theorem gc_U_b (f : Nat → Int64) (o acc : Int64) (j : Nat) : ∀ n, gc_b (gc_U f o n acc) j = true ↔ gc_b acc j = true ∨ ∃ k, k < n ∧ gc_b o k = true ∧ gc_b (f k) j = true := by
  intro n
  induction n with
  | zero =>
    constructor
    · intro h
      exact Or.inl h
    · intro h
      rcases h with h | ⟨k, hk, _⟩
      · exact h
      · exact absurd hk (by omega)
  | succ n ih =>
    cases ho : gc_b o n
    · rw [gc_U_f ho, ih]
      constructor
      · intro h
        rcases h with h | ⟨k, hk, h1, h2⟩
        · exact Or.inl h
        · exact Or.inr ⟨k, by omega, h1, h2⟩
      · intro h
        rcases h with h | ⟨k, hk, h1, h2⟩
        · exact Or.inl h
        · by_cases e : k = n
          · rw [e, ho] at h1
            exact absurd h1 (by decide)
          · exact Or.inr ⟨k, by omega, h1, h2⟩
    · rw [gc_U_t ho, gc_or, Bool.or_eq_true, ih]
      constructor
      · intro h
        rcases h with (h | ⟨k, hk, h1, h2⟩) | h
        · exact Or.inl h
        · exact Or.inr ⟨k, by omega, h1, h2⟩
        · exact Or.inr ⟨n, by omega, ho, h⟩
      · intro h
        rcases h with h | ⟨k, hk, h1, h2⟩
        · exact Or.inl (Or.inl h)
        · by_cases e : k = n
          · rw [e] at h2
            exact Or.inr h2
          · exact Or.inl (Or.inr ⟨k, by omega, h1, h2⟩)
/-- rows of the one machine against rows of the other -/
def gc_TF (f f' : Nat → Int64) : Prop := ∀ k, k < 64 → gc_T (f k) (f' (gc_g k))
theorem gc_TF_symm {f f' : Nat → Int64} (h : gc_TF f f') : gc_TF f' f := by
  intro k hk
  have t := h (gc_g k) (gc_g_lt hk)
  rw [gc_g_g hk] at t
  exact gc_T_symm t
theorem gc_T_Uh {f f' : Nat → Int64} {o o' acc acc' : Int64} (hf : gc_TF f f') (ho : gc_T o o') (ha : gc_T acc acc') {i : Nat} (hi : i < 64) (h : gc_b (gc_U f o 64 acc) i = true) : gc_b (gc_U f' o' 64 acc') (gc_g i) = true := by
  rw [gc_U_b] at h ⊢
  rcases h with h | ⟨k, hk, h1, h2⟩
  · rw [ha i hi]
    exact Or.inl h
  · exact Or.inr ⟨gc_g k, gc_g_lt hk, by rw [ho k hk]; exact h1, by rw [hf k hk i hi]; exact h2⟩
theorem gc_T_of {x y : Int64} (h : ∀ i, i < 64 → gc_b x i = true → gc_b y (gc_g i) = true) (h' : ∀ i, i < 64 → gc_b y i = true → gc_b x (gc_g i) = true) : gc_T x y := by
  intro i hi
  apply Bool.eq_iff_iff.mpr
  constructor
  · intro t
    have t' := h' (gc_g i) (gc_g_lt hi) t
    rw [gc_g_g hi] at t'
    exact t'
  · exact h i hi
theorem gc_T_U {f f' : Nat → Int64} {o o' acc acc' : Int64} (hf : gc_TF f f') (ho : gc_T o o') (ha : gc_T acc acc') : gc_T (gc_U f o 64 acc) (gc_U f' o' 64 acc') :=
  gc_T_of (fun _ hi h => gc_T_Uh hf ho ha hi h) (fun _ hi h => gc_T_Uh (gc_TF_symm hf) (gc_T_symm ho) (gc_T_symm ha) hi h)
/-! ===== the set of the states that pass a test ===== -/
def gc_M (P : Nat → Bool) : Nat → Int64
  | 0 => 0
  | n + 1 => if P n = true then gc_M P n ||| gc_s n else gc_M P n
theorem gc_M_t {P : Nat → Bool} {n : Nat} (h : P n = true) : gc_M P (n + 1) = gc_M P n ||| gc_s n := if_pos h
theorem gc_M_f {P : Nat → Bool} {n : Nat} (h : P n = false) : gc_M P (n + 1) = gc_M P n := if_neg (by rw [h]; decide)
theorem gc_M_b (P : Nat → Bool) (j : Nat) : ∀ n, n ≤ 64 → gc_b (gc_M P n) j = (decide (j < n) && P j) := by
  intro n
  induction n with
  | zero =>
    intro _
    show gc_b 0 j = _
    rw [gc_0]
    simp
  | succ n ih =>
    intro hn
    have t := ih (by omega)
    by_cases e : n = j
    · subst e
      cases hp : P n
      · rw [gc_M_f hp, t]
        simp
      · rw [gc_M_t hp, gc_or, t, gc_one (by omega)]
        simp
    · have h1 : decide (j < n + 1) = decide (j < n) := decide_eq_decide.mpr (by omega)
      cases hp : P n
      · rw [gc_M_f hp, t, h1]
      · rw [gc_M_t hp, gc_or, t, gc_one (by omega), h1]
        simp [e]
theorem gc_T_M {P P' : Nat → Bool} (h : ∀ s, s < 64 → P' (gc_g s) = P s) : gc_T (gc_M P 64) (gc_M P' 64) := by
  intro i hi
  rw [gc_M_b _ _ 64 (by omega), gc_M_b _ _ 64 (by omega), h i hi, decide_eq_true hi, decide_eq_true (gc_g_lt hi)]
/-! ===== sums, the number of states of a set ===== -/
def gc_sum (f : Nat → Nat) : Nat → Nat
  | 0 => 0
  | n + 1 => gc_sum f n + f n
theorem gc_sum_c {f f' : Nat → Nat} : ∀ n, (∀ i, i < n → f i = f' i) → gc_sum f n = gc_sum f' n := by
  intro n
  induction n with
  | zero =>
    intro _
    rfl
  | succ n ih =>
    intro h
    show gc_sum f n + f n = gc_sum f' n + f' n
    rw [ih (fun i hi => h i (by omega)), h n (by omega)]
theorem gc_sum_le {f f' : Nat → Nat} : ∀ n, (∀ i, i < n → f i ≤ f' i) → gc_sum f n ≤ gc_sum f' n := by
  intro n
  induction n with
  | zero =>
    intro _
    exact Nat.le_refl 0
  | succ n ih =>
    intro h
    show gc_sum f n + f n ≤ gc_sum f' n + f' n
    exact Nat.add_le_add (ih (fun i hi => h i (by omega))) (h n (by omega))
theorem gc_sum_lt {f f' : Nat → Nat} (k : Nat) : ∀ n, (∀ i, i < n → f i ≤ f' i) → k < n → f k < f' k → gc_sum f n < gc_sum f' n := by
  intro n
  induction n with
  | zero =>
    intro _ hk
    exact absurd hk (by omega)
  | succ n ih =>
    intro h hk hl
    show gc_sum f n + f n < gc_sum f' n + f' n
    by_cases e : k = n
    · subst e
      exact Nat.add_lt_add_of_le_of_lt (gc_sum_le k (fun i hi => h i (by omega))) hl
    · exact Nat.add_lt_add_of_lt_of_le (ih (fun i hi => h i (by omega)) (by omega) hl) (h n (by omega))
theorem gc_sum_1 {f : Nat → Nat} : ∀ n, (∀ i, i < n → f i ≤ 1) → gc_sum f n ≤ n := by
  intro n
  induction n with
  | zero =>
    intro _
    exact Nat.le_refl 0
  | succ n ih =>
    intro h
    show gc_sum f n + f n ≤ n + 1
    exact Nat.add_le_add (ih (fun i hi => h i (by omega))) (h n (by omega))
theorem gc_sum_g (f : Nat → Nat) : gc_sum (fun i => f (gc_g i)) 64 = gc_sum f 64 := by
  simp only [gc_sum, gc_g, Nat.reduceMod, Nat.reduceDiv, Nat.reduceMul, Nat.reduceAdd]
  omega
def gc_cnt (x : Int64) : Nat := gc_sum (fun i => (gc_b x i).toNat) 64
theorem gc_cnt_T {x y : Int64} (h : gc_T x y) : gc_cnt x = gc_cnt y := by
  unfold gc_cnt
  rw [← gc_sum_g (fun i => (gc_b y i).toNat)]
  exact gc_sum_c 64 (fun i hi => by rw [h i hi])
theorem gc_cnt_64 (x : Int64) : gc_cnt x ≤ 64 := gc_sum_1 64 (fun i _ => by cases gc_b x i <;> decide)
theorem gc_cnt_s {x : Int64} {k : Nat} (hk : k < 64) (h : gc_b x k = false) : gc_cnt x < gc_cnt (x ||| gc_s k) := by
  refine gc_sum_lt k 64 (fun i hi => ?_) hk ?_
  · rw [gc_or]
    cases gc_b x i
    · exact Nat.zero_le _
    · exact Nat.le_refl _
  · rw [gc_or, h, gc_one hk, decide_eq_true rfl]
    decide
/-! ===== the greatest of 64 numbers ===== -/
def gc_mx (f : Nat → Nat) : Nat → Nat
  | 0 => 0
  | n + 1 => if f n ≤ gc_mx f n then gc_mx f n else f n
theorem gc_mx_le (f : Nat → Nat) (b : Nat) : ∀ n, gc_mx f n ≤ b ↔ ∀ k, k < n → f k ≤ b := by
  intro n
  induction n with
  | zero =>
    constructor
    · intro _ k hk
      exact absurd hk (by omega)
    · intro _
      exact Nat.zero_le b
  | succ n ih =>
    have e : gc_mx f (n + 1) = if f n ≤ gc_mx f n then gc_mx f n else f n := rfl
    constructor
    · intro h k hk
      by_cases c : f n ≤ gc_mx f n
      · rw [e, if_pos c] at h
        by_cases ek : k = n
        · rw [ek]
          omega
        · exact ih.mp h k (by omega)
      · rw [e, if_neg c] at h
        by_cases ek : k = n
        · rw [ek]
          exact h
        · exact ih.mp (by omega) k (by omega)
    · intro h
      rw [e]
      by_cases c : f n ≤ gc_mx f n
      · rw [if_pos c]
        exact ih.mpr (fun k hk => h k (by omega))
      · rw [if_neg c]
        exact h n (by omega)
theorem gc_mx_g {f f' : Nat → Nat} (h : ∀ k, k < 64 → f k = f' (gc_g k)) : gc_mx f 64 = gc_mx f' 64 := by
  apply Nat.le_antisymm
  · rw [gc_mx_le]
    intro k hk
    rw [h k hk]
    exact (gc_mx_le f' _ 64).mp (Nat.le_refl _) _ (gc_g_lt hk)
  · rw [gc_mx_le]
    intro k hk
    have t := h (gc_g k) (gc_g_lt hk)
    rw [gc_g_g hk] at t
    rw [← t]
    exact (gc_mx_le f _ 64).mp (Nat.le_refl _) _ (gc_g_lt hk)
theorem gc_mx_64 {f : Nat → Nat} (h : ∀ k, k < 64 → f k ≤ 64) : ∀ n, n ≤ 64 → gc_mx f n ≤ 64 :=
  fun n hn => (gc_mx_le f 64 n).mpr (fun k hk => h k (by omega))
/-! ===== what a loop can come to: the rounds ===== -/
def gc_Rch (f : Nat → Int64) : Nat → Int64 → Int64 → Int64
  | 0, x, _ => x
  | n + 1, x, d => if x = d then x else gc_Rch f n (gc_U f (x &&& (d ^^^ (-1))) 64 x) x
theorem gc_Rch_t {f : Nat → Int64} {n : Nat} {x d : Int64} (h : x = d) : gc_Rch f (n + 1) x d = x := if_pos h
theorem gc_Rch_f {f : Nat → Int64} {n : Nat} {x d : Int64} (h : ¬ x = d) : gc_Rch f (n + 1) x d = gc_Rch f n (gc_U f (x &&& (d ^^^ (-1))) 64 x) x := if_neg h
theorem gc_T_Rch {f f' : Nat → Int64} (hf : gc_TF f f') : ∀ n x d x' d', gc_T x x' → gc_T d d' → gc_T (gc_Rch f n x d) (gc_Rch f' n x' d') := by
  intro n
  induction n with
  | zero =>
    intro x d x' d' hx _
    exact hx
  | succ n ih =>
    intro x d x' d' hx hd
    by_cases e : x = d
    · rw [gc_Rch_t e, gc_Rch_t ((gc_T_eq hx hd).mp e)]
      exact hx
    · rw [gc_Rch_f e, gc_Rch_f (fun z => e ((gc_T_eq hx hd).mpr z))]
      exact ih _ _ _ _ (gc_T_U hf (gc_T_and hx (gc_T_not hd)) hx) hx
/-! ===== the least set that holds 'out' and every ok state all of whose steps lead into it ===== -/
def gc_Low (out : Int64) (ok : Nat → Bool) (f : Nat → Int64) (x : Int64) : Prop :=
  ∀ C : Nat → Prop, (∀ j, j < 64 → gc_b out j = true → C j) → (∀ s, s < 64 → ok s = true → (∀ j, j < 64 → gc_b (f s) j = true → C j) → C s) → ∀ j, j < 64 → gc_b x j = true → C j
def gc_L (out : Int64) (ok : Nat → Bool) (f : Nat → Int64) (x : Int64) : Prop :=
  (∀ j, j < 64 → gc_b out j = true → gc_b x j = true) ∧ gc_Low out ok f x ∧ (∀ s, s < 64 → ok s = true → (∀ j, j < 64 → gc_b (f s) j = true → gc_b x j = true) → gc_b x s = true)
theorem gc_L_h {out out' : Int64} {ok ok' : Nat → Bool} {f f' : Nat → Int64} {x x' : Int64} (h : gc_L out ok f x) (h' : gc_L out' ok' f' x') (ho : gc_T out out') (hf : gc_TF f f') (hk : ∀ s, s < 64 → ok' (gc_g s) = ok s) :
    ∀ j, j < 64 → gc_b x j = true → gc_b x' (gc_g j) = true := by
  refine h.2.1 (fun j => gc_b x' (gc_g j) = true) (fun j hj hb => ?_) (fun s hs hok hall => ?_)
  · exact h'.1 _ (gc_g_lt hj) (by rw [ho j hj]; exact hb)
  · refine h'.2.2 (gc_g s) (gc_g_lt hs) (by rw [hk s hs]; exact hok) (fun j hj hb => ?_)
    have t := hall (gc_g j) (gc_g_lt hj)
    rw [gc_g_g hj, ← hf s hs (gc_g j) (gc_g_lt hj), gc_g_g hj] at t
    exact t hb
theorem gc_T_L {out out' : Int64} {ok ok' : Nat → Bool} {f f' : Nat → Int64} {x x' : Int64} (h : gc_L out ok f x) (h' : gc_L out' ok' f' x') (ho : gc_T out out') (hf : gc_TF f f') (hk : ∀ s, s < 64 → ok' (gc_g s) = ok s) : gc_T x x' :=
  gc_T_of (gc_L_h h h' ho hf hk) (gc_L_h h' h (gc_T_symm ho) (gc_TF_symm hf) (fun s hs => by rw [← hk _ (gc_g_lt hs), gc_g_g hs]))
/-! ===== one guarded step, the linear forms ===== -/
def gc_st (g0 g1 x y : Int64) (s : Nat) : Int64 :=
  if gc_b g1 s = true then (if gc_b g0 s = true then x else 0) ||| y else (if gc_b g0 s = true then x else 0)
theorem gc_T_st {g0 g1 x y g0' g1' x' y' : Int64} (h0 : gc_T g0 g0') (h1 : gc_T g1 g1') (hx : gc_T x x') (hy : gc_T y y') {s : Nat} (hs : s < 64) : gc_T (gc_st g0 g1 x y s) (gc_st g0' g1' x' y' (gc_g s)) := by
  unfold gc_st
  rw [h0 s hs, h1 s hs]
  cases gc_b g0 s
  · cases gc_b g1 s
    · exact gc_T_0
    · exact gc_T_or gc_T_0 hy
  · cases gc_b g1 s
    · exact hx
    · exact gc_T_or hx hy
def gc_fv (f s : Nat) : Nat := (f / 64 * (s / 8) + f / 8 % 8 * (s % 8) + f % 8) % 8
def gc_tu (f : Nat) : Nat := 64 * (f / 8 % 8) + 8 * (f / 64) + f % 8
theorem gc_tu_lt {f : Nat} (h : f < 512) : gc_tu f < 512 := by
  unfold gc_tu
  omega
theorem gc_fv_lt (f s : Nat) : gc_fv f s < 8 := Nat.mod_lt _ (by decide)
theorem gc_fv_g {f s : Nat} (hf : f < 512) (hs : s < 64) : gc_fv (gc_tu f) (gc_g s) = gc_fv f s := by
  unfold gc_fv
  have e1 : gc_tu f / 64 = f / 8 % 8 := by unfold gc_tu; omega
  have e2 : gc_tu f / 8 % 8 = f / 64 := by unfold gc_tu; omega
  have e3 : gc_tu f % 8 = f % 8 := by unfold gc_tu; omega
  have e4 : gc_g s / 8 = s % 8 := by unfold gc_g; omega
  have e5 : gc_g s % 8 = s / 8 := by unfold gc_g; omega
  rw [e1, e2, e3, e4, e5, Nat.add_comm (f / 8 % 8 * (s % 8))]
/-- where an assignment leads -/
def gc_nx (w f s : Nat) : Nat := if w = 0 then 8 * gc_fv f s + s % 8 else s / 8 * 8 + gc_fv f s
theorem gc_nx_lt {w f s : Nat} (hs : s < 64) : gc_nx w f s < 64 := by
  have h := gc_fv_lt f s
  unfold gc_nx
  by_cases e : w = 0
  · rw [if_pos e]
    omega
  · rw [if_neg e]
    omega
theorem gc_nx_g {w f s : Nat} (hw : w < 2) (hf : f < 512) (hs : s < 64) : gc_nx (1 - w) (gc_tu f) (gc_g s) = gc_g (gc_nx w f s) := by
  have h := gc_fv_lt f s
  have e4 : gc_g s / 8 = s % 8 := by unfold gc_g; omega
  have e5 : gc_g s % 8 = s / 8 := by unfold gc_g; omega
  unfold gc_nx
  rw [gc_fv_g hf hs, e4, e5]
  by_cases e : w = 0
  · rw [if_pos e, if_neg (by omega)]
    unfold gc_g
    omega
  · rw [if_neg e, if_pos (by omega)]
    unfold gc_g
    omega
end
section
/-! ===== the small methods ===== -/
theorem gc_ix (a s : Nat) : (64 : Int32) * nI a + nI s = nI (64 * a + s) := by
  rw [show (64 : Int32) = nI 64 from rfl, pk_mul, nI_add]
theorem gc_in {a s : Nat} (ha : a < 30) (hs : s < 64) : vp_in ((64 : Int32) * nI a + nI s) 1920 := by
  rw [gc_ix]
  exact vp_in_nI (by omega) (by decide)
theorem gc_cl {a s : Nat} (ha : a < 30) (hs : s < 64) : ((64 : Int32) * nI a + nI s).toNatClampNeg = 64 * a + s := by
  rw [gc_ix]
  exact nI_clamp (by omega)
theorem gc_c30 {a : Nat} (ha : a < 30) : (nI a).toNatClampNeg = a := nI_clamp (by omega)
theorem gc_i30 {a : Nat} (ha : a < 30) : vp_in (nI a) 30 := vp_in_nI ha (by decide)
theorem gc_w_has {post : Int32 → Prop} {x : Int64} {k : Nat} (hk : k < 64) (h0 : gc_b x k = false → post 0) (h1 : gc_b x k = true → post 1) : wpX_has post () x (nI k) := by
  unfold wpX_has
  rw [gc_shr x hk]
  cases hb : gc_b x k
  · exact br_f (by decide) (h0 hb)
  · exact br_t rfl (h1 hb)
/-- has, then a branch on its answer -/
theorem gc_hb {A B : Prop} {x : Int64} {k : Nat} (hk : k < 64) (h0 : gc_b x k = false → A) (h1 : gc_b x k = true → B) : wpX_has (fun r => (r = 0 → A) ∧ (¬ r = 0 → B)) () x (nI k) :=
  gc_w_has hk (fun h => br_t rfl (h0 h)) (fun h => br_f (by decide) (h1 h))
/-- isGood, then a branch on its answer -/
theorem gc_gb {A B : Prop} {c p : Nat} {a1 a2 a3 : Nat → Int64} (hc : c ≤ 30) (hp : p < 8) (h0 : c ≤ p → A) (h1 : p < c → B) : wpX_isGood (fun r => (r = 0 → A) ∧ (¬ r = 0 → B)) (nI c, a1, a2, a3) (nI p) :=
  pk_lt p 0 (fun z => absurd z (by omega)) (fun _ => pk_le c p (fun z => br_t rfl (h0 z)) (fun z => br_f (by decide) (h1 z)))
theorem gc_w_ones {post : Int32 → Prop} {x : Int64} (H : post (nI (gc_cnt x))) : wpX_ones post () x :=
  pk_loop (fun n i s => wX_ones_4 post x n s (nI i)) (fun i s => s = nI (gc_sum (fun i => (gc_b x i).toNat) i)) 64 0 0 (by omega) rfl
    (fun n s h => pk_le 64 64 (fun _ => by rw [h]; exact H) (fun z => absurd z (by omega)))
    (fun n i s hi h hw => pk_le 64 i (fun z => absurd z (by omega)) (fun _ => nm_e (nm_r (nI_1 i) (hw _ (by rw [gc_bi x hi, h, nI_add]; rfl)))))
theorem gc_gx : ∀ k, k < 64 → (8 : Int32) * (nI k &&& 7) + (nI k >>> ((3 : Int32) &&& 31)) = nI (gc_g k) := by decide +kernel
theorem gc_at (x : Int64) {k : Nat} (hk : k < 64) : (((x >>> ((nI k).toInt64 &&& 63)) &&& 1) <<< (((8 : Int32) * (nI k &&& 7) + (nI k >>> ((3 : Int32) &&& 31))).toInt64 &&& 63)) = if gc_b x k = true then gc_s (gc_g k) else 0 := by
  rw [gc_sshr x hk, gc_gx k hk]
  cases gc_b x k
  · exact gc_sh0 _ (gc_g_lt hk)
  · rfl
theorem gc_w_across {post : Int64 → Prop} {x : Int64} (H : ∀ y, gc_T x y → post y) : wpL_across post () x :=
  pk_loop (fun n i s => wL_across_5 post x n s (nI i)) (fun i s => ∀ j, j < 64 → gc_b s (gc_g j) = (decide (j < i) && gc_b x j)) 64 0 0 (by omega)
    (fun j _ => by rw [gc_0]; simp)
    (fun n s h => pk_le 64 64 (fun _ => H s (fun j hj => by rw [h j hj, decide_eq_true hj]; rfl)) (fun z => absurd z (by omega)))
    (fun n i s hi h hw => pk_le 64 i (fun z => absurd z (by omega)) (fun _ => nm_r (by rw [gc_at x hi]) (nm_r (nI_1 i) (hw _ (fun j hj => by
      rw [gc_or, h j hj]
      by_cases e : j = i
      · subst e
        cases hb : gc_b x j
        · simp [gc_0]
        · simp [gc_one (gc_g_lt hj)]
      · have e1 : decide (j < i + 1) = decide (j < i) := decide_eq_decide.mpr (by omega)
        have e2 : ¬ gc_g i = gc_g j := fun t => e ((gc_g_inj hi hj).mp t).symm
        rw [e1]
        cases hb : gc_b x i
        · simp [gc_0]
        · simp [gc_one (gc_g_lt hi), e2])))))
theorem gc_tx : ∀ f, f < 512 → ((((nI f >>> ((3 : Int32) &&& 31)) &&& 7) <<< ((6 : Int32) &&& 31)) ||| (((nI f >>> ((6 : Int32) &&& 31)) &&& 7) <<< ((3 : Int32) &&& 31))) ||| (nI f &&& 7) = nI (gc_tu f) := by decide +kernel
theorem gc_w_turned {post : Int32 → Prop} {f : Nat} (hf : f < 512) (H : post (nI (gc_tu f))) : wpL_turned post () (nI f) := by
  unfold wpL_turned
  rw [gc_tx f hf]
  exact H
theorem gc_7 {n : Nat} (h : n < 2 ^ 32) : nI n &&& 7 = nI (n % 8) := pk_andN h 3 (by decide)
theorem gc_r3 {n : Nat} (h : n < 2 ^ 31) : nI n >>> ((3 : Int32) &&& 31) = nI (n / 8) := pk_shrN h _ 3 (by decide)
theorem gc_r6 {n : Nat} (h : n < 2 ^ 31) : nI n >>> ((6 : Int32) &&& 31) = nI (n / 64) := pk_shrN h _ 6 (by decide)
theorem gc_fb {f s : Nat} (hf : f < 512) (hs : s < 64) : f / 64 * (s / 8) + f / 8 % 8 * (s % 8) + f % 8 < 2 ^ 32 := by
  have h1 : f / 64 * (s / 8) ≤ 7 * 7 := Nat.mul_le_mul (by omega) (by omega)
  have h2 : f / 8 % 8 * (s % 8) ≤ 7 * 7 := Nat.mul_le_mul (by omega) (by omega)
  omega
theorem gc_w_form {post : Int32 → Prop} {f s : Nat} (hf : f < 512) (hs : s < 64) (H : post (nI (gc_fv f s))) : wpX_formValue post () (nI f) (nI s) := by
  unfold wpX_formValue
  intro x2 e2 x3 e3 x4 e4
  rw [e2, e3, e4, gc_r6 (by omega), gc_r3 (by omega), gc_r3 (by omega), gc_7 (by omega), gc_7 (by omega), gc_7 (by omega), pk_mul, pk_mul, nI_add, nI_add, gc_7 (gc_fb hf hs)]
  exact H
theorem gc_w_step {post : Int64 → Prop} {f0 : Int32} {a b s : Nat} {a1 a2 a3 : Nat → Int64} (ha : a < 30) (hb : b < 30) (hs : s < 64) (H : post (gc_st (a3 0) (a3 1) (a1 (64 * a + s)) (a1 (64 * b + s)) s)) : wpX_step post (f0, a1, a2, a3) (nI a) (nI b) (nI s) := by
  unfold wpX_step
  dsimp only
  unfold wX_step_28
  rw [gc_cl ha hs, gc_cl hb hs]
  unfold gc_st at H
  refine gc_hb hs (fun h0 => ?_) (fun h0 => ⟨gc_in ha hs, ?_⟩)
  · rw [h0] at H
    refine gc_hb hs (fun h1 => ?_) (fun h1 => ⟨gc_in hb hs, ?_⟩)
    · rw [h1] at H
      exact H
    · rw [h1] at H
      exact H
  · rw [h0] at H
    refine gc_hb hs (fun h1 => ?_) (fun h1 => ⟨gc_in hb hs, ?_⟩)
    · rw [h1] at H
      exact H
    · rw [h1] at H
      exact H
theorem gc_w_image {post : Int64 → Prop} {f0 : Int32} {p : Nat} {a1 a2 a3 A : Nat → Int64} {x : Int64} (hp : p < 30) (hA : ∀ k, k < 64 → a1 (64 * p + k) = A k) (H : post (gc_U A x 64 0)) : wpX_imageOf post (f0, a1, a2, a3) (nI p) x :=
  pk_loop (fun n i s => wX_imageOf_6 post (nI p) x f0 a1 a2 a3 n s (nI i)) (fun i s => s = gc_U A x i 0) 64 0 0 (by omega) rfl
    (fun n s h => pk_le 64 64 (fun _ => by rw [h]; exact H) (fun z => absurd z (by omega)))
    (fun n i s hi h hw => pk_le 64 i (fun z => absurd z (by omega)) (fun _ => gc_hb hi
      (fun hb => nm_r (nI_1 i) (hw _ (by rw [gc_U_f hb]; exact h)))
      (fun hb => ⟨gc_in hp hi, nm_e (nm_r (nI_1 i) (hw _ (by rw [gc_U_t hb, gc_cl hp hi, hA i hi, h])))⟩)))
/-- the states all of whose ends satisfy q -/
def gc_wk (A : Nat → Int64) (q : Int64) : Nat → Bool := fun s => decide ((A s &&& (q ^^^ (-1))) = 0)
theorem gc_w_weak {post : Int64 → Prop} {f0 : Int32} {p : Nat} {a1 a2 a3 A : Nat → Int64} {q : Int64} (hp : p < 30) (hA : ∀ k, k < 64 → a1 (64 * p + k) = A k) (H : post (gc_M (gc_wk A q) 64)) : wpX_weakOf post (f0, a1, a2, a3) (nI p) q :=
  pk_loop (fun n i s => wX_weakOf_6 post (nI p) q f0 a1 a2 a3 n s (nI i)) (fun i s => s = gc_M (gc_wk A q) i) 64 0 0 (by omega) rfl
    (fun n s h => pk_le 64 64 (fun _ => by rw [h]; exact H) (fun z => absurd z (by omega)))
    (fun n i s hi h hw => pk_le 64 i (fun z => absurd z (by omega)) (fun _ => ⟨gc_in hp hi, br_c
      (fun hb => br_f (by decide) (nm_e (nm_r (nI_1 i) (hw _ (by rw [gc_M_t (decide_eq_true (by rw [gc_cl hp hi, hA i hi] at hb; exact hb)), h]; rfl)))))
      (fun hb => br_t rfl (nm_r (nI_1 i) (hw _ (by rw [gc_M_f (decide_eq_false (by rw [gc_cl hp hi, hA i hi] at hb; exact hb))]; exact h))))⟩))
end
section
/-! ===== reached ===== -/
theorem gc_w_r44 {post : Int64 → Prop} {J : Int64 → Int64 → Int32 → Prop} {f0 : Int32} {a b r : Nat} {a1 a2 a3 f : Nat → Int64} {d o x : Int64} (ha : a < 30) (hb : b < 30)
    (hf : ∀ k, k < 64 → gc_st (a3 0) (a3 1) (a1 (64 * a + k)) (a1 (64 * b + k)) k = f k) (H : J (gc_U f o 64 x) d (nI (r + 1))) :
    ∃ n, wX_reached_44 post J (nI a) (nI b) d (nI r) o f0 a1 a2 a3 n x 0 :=
  pk_loop (fun n i s => wX_reached_44 post J (nI a) (nI b) d (nI r) o f0 a1 a2 a3 n s (nI i)) (fun i s => s = gc_U f o i x) 64 0 x (by omega) rfl
    (fun n s h => pk_le 64 64 (fun _ => nm_r (nI_1 r) (by rw [h]; exact H)) (fun z => absurd z (by omega)))
    (fun n i s hi h hw => pk_le 64 i (fun z => absurd z (by omega)) (fun _ => gc_hb hi
      (fun ho => nm_r (nI_1 i) (hw _ (by rw [gc_U_f ho]; exact h)))
      (fun ho => gc_w_step ha hb hi (nm_e (nm_r (nI_1 i) (hw _ (by rw [gc_U_t ho, hf i hi, h])))))))
theorem gc_w_r11 {post : Int64 → Prop} {f0 : Int32} {a b : Nat} {a1 a2 a3 f : Nat → Int64} (ha : a < 30) (hb : b < 30)
    (hf : ∀ k, k < 64 → gc_st (a3 0) (a3 1) (a1 (64 * a + k)) (a1 (64 * b + k)) k = f k) :
    ∀ m r x d, r + m = 65 → post (gc_Rch f m x d) → wX_reached_11 post (nI a) (nI b) f0 a1 a2 a3 (m + 1) x d (nI r) := by
  intro m
  induction m with
  | zero =>
    intro r x d hr H
    exact pk_lt 64 r (fun _ => H) (fun z => absurd z (by omega))
  | succ m ih =>
    intro r x d hr H
    refine pk_lt 64 r (fun z => absurd z (by omega)) (fun _ => br_c (fun e => ?_) (fun e => nm_e ?_))
    · rw [gc_Rch_t e] at H
      exact H
    · rw [gc_Rch_f e] at H
      exact gc_w_r44 ha hb hf (ih (r + 1) _ _ (by omega) H)
theorem gc_w_reached {post : Int64 → Prop} {f0 : Int32} {a b s : Nat} {a1 a2 a3 f : Nat → Int64} (ha : a < 30) (hb : b < 30)
    (hf : ∀ k, k < 64 → gc_st (a3 0) (a3 1) (a1 (64 * a + k)) (a1 (64 * b + k)) k = f k) (H : post (gc_Rch f 65 (gc_s s) 0)) :
    wpX_reached post (f0, a1, a2, a3) (nI a) (nI b) (nI s) :=
  nm_e ⟨66, gc_w_r11 ha hb hf 65 0 _ _ (by omega) H⟩
/-! ===== loopSure ===== -/
def gc_z (p : Bool) : Int32 := if p = true then 1 else 0
theorem gc_w_129 {post : Int64 → Prop} {J9 J27 : Int64 → Int32 → Int32 → Prop} {x1 x2 x7 x8 f0 : Int32} {x : Int64} {k : Nat} {p1 p2 p3 : Bool} {a1 a2 a3 : Nat → Int64} (hk : k < 64)
    (H0 : ¬ (gc_b x k = false ∧ p1 = true ∧ p2 = true ∧ p3 = true) → J27 x x7 (nI (k + 1))) (H1 : gc_b x k = false → p1 = true → p2 = true → p3 = true → J27 (x ||| gc_s k) 1 (nI (k + 1))) :
    wX_loopSure_129 post J9 J27 x1 x2 x x7 x8 (nI k) (gc_z p1) (gc_z p2) (gc_z p3) f0 a1 a2 a3 := by
  unfold wX_loopSure_129
  refine gc_hb hk (fun hb => ?_) (fun hb => nm_r (nI_1 k) (H0 (fun t => absurd (hb.symm.trans t.1) (by decide))))
  cases p1
  · exact br_t rfl (nm_r (nI_1 k) (H0 (fun t => absurd t.2.1 (by decide))))
  · refine br_f (by decide) ?_
    cases p2
    · exact br_t rfl (nm_r (nI_1 k) (H0 (fun t => absurd t.2.2.1 (by decide))))
    · refine br_f (by decide) ?_
      cases p3
      · exact br_t rfl (nm_r (nI_1 k) (H0 (fun t => absurd t.2.2.2 (by decide))))
      · exact br_f (by decide) (nm_e (nm_r (nI_1 k) (H1 hb rfl rfl rfl)))
theorem gc_w_102 {post : Int64 → Prop} {J9 J27 : Int64 → Int32 → Int32 → Prop} {x7 x8 f0 : Int32} {x : Int64} {a b k : Nat} {p1 p2 : Bool} {a1 a2 a3 f : Nat → Int64} (ha : a < 30) (hb : b < 30) (hk : k < 64)
    (hf : ∀ k, k < 64 → gc_st (a3 0) (a3 1) (a1 (64 * a + k)) (a1 (64 * b + k)) k = f k)
    (H0 : ¬ (gc_b x k = false ∧ p1 = true ∧ p2 = true ∧ (f k &&& (x ^^^ (-1))) = 0) → J27 x x7 (nI (k + 1))) (H1 : gc_b x k = false → p1 = true → p2 = true → (f k &&& (x ^^^ (-1))) = 0 → J27 (x ||| gc_s k) 1 (nI (k + 1))) :
    wX_loopSure_102 post J9 J27 (nI a) (nI b) x x7 x8 (nI k) (gc_z p1) (gc_z p2) f0 a1 a2 a3 := by
  unfold wX_loopSure_102
  refine gc_w_step ha hb hk ?_
  rw [hf k hk]
  refine br_c (fun e => ?_) (fun e => ?_)
  · exact gc_w_129 (p3 := true) hk (fun t => H0 (fun t' => t ⟨t'.1, t'.2.1, t'.2.2.1, rfl⟩)) (fun h h1 h2 _ => H1 h h1 h2 e)
  · exact gc_w_129 (p3 := false) hk (fun _ => H0 (fun t' => e t'.2.2.2)) (fun _ _ _ h3 => absurd h3 (by decide))
theorem gc_w_67 {post : Int64 → Prop} {J9 J27 : Int64 → Int32 → Int32 → Prop} {x7 x8 f0 : Int32} {x : Int64} {a b k : Nat} {p1 : Bool} {a1 a2 a3 f : Nat → Int64} (ha : a < 30) (hb : b < 30) (hk : k < 64)
    (hf : ∀ k, k < 64 → gc_st (a3 0) (a3 1) (a1 (64 * a + k)) (a1 (64 * b + k)) k = f k)
    (H0 : ¬ (gc_b x k = false ∧ p1 = true ∧ (!gc_b (a3 1) k || gc_b (a2 b) k) = true ∧ (f k &&& (x ^^^ (-1))) = 0) → J27 x x7 (nI (k + 1))) (H1 : gc_b x k = false → p1 = true → (!gc_b (a3 1) k || gc_b (a2 b) k) = true → (f k &&& (x ^^^ (-1))) = 0 → J27 (x ||| gc_s k) 1 (nI (k + 1))) :
    wX_loopSure_67 post J9 J27 (nI a) (nI b) x x7 x8 (nI k) (gc_z p1) f0 a1 a2 a3 := by
  unfold wX_loopSure_67
  rw [gc_c30 hb]
  refine gc_hb hk (fun h0 => ?_) (fun h0 => ⟨gc_i30 hb, gc_hb hk (fun h1 => ?_) (fun h1 => ?_)⟩)
  · rw [h0] at H0 H1
    exact gc_w_102 (p2 := true) ha hb hk hf H0 H1
  · rw [h0, h1] at H0 H1
    exact gc_w_102 (p2 := false) ha hb hk hf H0 H1
  · rw [h0, h1] at H0 H1
    exact gc_w_102 (p2 := true) ha hb hk hf H0 H1
/-- both parts are sure where their guards hold -/
def gc_ok (g0 g1 sa sb : Int64) (s : Nat) : Bool := (!gc_b g0 s || gc_b sa s) && (!gc_b g1 s || gc_b sb s)
theorem gc_w_27s {post : Int64 → Prop} {J9 : Int64 → Int32 → Int32 → Prop} {x7 x8 f0 : Int32} {x : Int64} {n a b k : Nat} {a1 a2 a3 f : Nat → Int64} (ha : a < 30) (hb : b < 30) (hk : k < 64)
    (hf : ∀ k, k < 64 → gc_st (a3 0) (a3 1) (a1 (64 * a + k)) (a1 (64 * b + k)) k = f k)
    (H0 : ¬ (gc_b x k = false ∧ gc_ok (a3 0) (a3 1) (a2 a) (a2 b) k = true ∧ (f k &&& (x ^^^ (-1))) = 0) → wX_loopSure_27 post J9 (nI a) (nI b) x8 f0 a1 a2 a3 n x x7 (nI (k + 1)))
    (H1 : gc_b x k = false → gc_ok (a3 0) (a3 1) (a2 a) (a2 b) k = true → (f k &&& (x ^^^ (-1))) = 0 → wX_loopSure_27 post J9 (nI a) (nI b) x8 f0 a1 a2 a3 n (x ||| gc_s k) 1 (nI (k + 1))) :
    wX_loopSure_27 post J9 (nI a) (nI b) x8 f0 a1 a2 a3 (n + 1) x x7 (nI k) := by
  have main : ∀ p1 : Bool, (!gc_b (a3 0) k || gc_b (a2 a) k) = p1 → wX_loopSure_67 post J9 (wX_loopSure_27 post J9 (nI a) (nI b) x8 f0 a1 a2 a3 n) (nI a) (nI b) x x7 x8 (nI k) (gc_z p1) f0 a1 a2 a3 := by
    intro p1 e
    unfold gc_ok at H0 H1
    rw [e] at H0 H1
    exact gc_w_67 ha hb hk hf (fun t => H0 (fun t' => t ⟨t'.1, (Bool.and_eq_true _ _ ▸ t'.2.1).1, (Bool.and_eq_true _ _ ▸ t'.2.1).2, t'.2.2⟩)) (fun h h1 h2 h3 => H1 h (by rw [h1, h2]; rfl) h3)
  refine pk_le 64 k (fun z => absurd z (by omega)) (fun _ => gc_hb hk (fun h0 => ?_) (fun h0 => ⟨gc_i30 ha, gc_hb hk (fun h1 => ?_) (fun h1 => ?_)⟩))
  · exact main true (by rw [h0]; rfl)
  · rw [gc_c30 ha] at h1
    exact main false (by rw [h0, h1]; rfl)
  · rw [gc_c30 ha] at h1
    exact main true (by rw [h0, h1]; rfl)
/-- inside a round: x holds out, holds no more than it must, and either nothing has changed (and the states below i are closed) or it has grown -/
def gc_LI (out : Int64) (ok : Nat → Bool) (f : Nat → Int64) (r i : Nat) (s : Int64 × Int32) : Prop :=
  (∀ j, j < 64 → gc_b out j = true → gc_b s.1 j = true) ∧ gc_Low out ok f s.1 ∧
  ((s.2 = 0 ∧ r ≤ gc_cnt s.1 ∧ ∀ k, k < i → ok k = true → (f k &&& (s.1 ^^^ (-1))) = 0 → gc_b s.1 k = true) ∨ (s.2 = 1 ∧ r + 1 ≤ gc_cnt s.1))
theorem gc_LI_0 {out : Int64} {ok : Nat → Bool} {f : Nat → Int64} {r i : Nat} {x : Int64} {c : Int32} (hi : i < 64) (h : gc_LI out ok f r i (x, c)) (hn : ¬ (gc_b x i = false ∧ ok i = true ∧ (f i &&& (x ^^^ (-1))) = 0)) : gc_LI out ok f r (i + 1) (x, c) := by
  refine ⟨h.1, h.2.1, ?_⟩
  rcases h.2.2 with ⟨e, hr, hc⟩ | t
  · refine Or.inl ⟨e, hr, fun k hk hok hs => ?_⟩
    by_cases ek : k = i
    · subst ek
      cases hb : gc_b x k
      · exact absurd ⟨hb, hok, hs⟩ hn
      · rfl
    · exact hc k (by omega) hok hs
  · exact Or.inr t
theorem gc_LI_1 {out : Int64} {ok : Nat → Bool} {f : Nat → Int64} {r i : Nat} {x : Int64} {c : Int32} (hi : i < 64) (h : gc_LI out ok f r i (x, c)) (hb : gc_b x i = false) (hok : ok i = true) (hs : (f i &&& (x ^^^ (-1))) = 0) : gc_LI out ok f r (i + 1) (x ||| gc_s i, 1) := by
  refine ⟨fun j hj ho => ?_, fun C h1 h2 j hj hx => ?_, Or.inr ⟨rfl, ?_⟩⟩
  · show gc_b (x ||| gc_s i) j = true
    rw [gc_or, h.1 j hj ho]
    rfl
  · have hx' : gc_b (x ||| gc_s i) j = true := hx
    have low := h.2.1 C h1 h2
    rw [gc_or, gc_one hi, Bool.or_eq_true] at hx'
    rcases hx' with t | t
    · exact low j hj t
    · have e : i = j := of_decide_eq_true t
      rw [← e]
      exact h2 i hi hok (fun j hj ht => low j hj ((gc_sub _ _).mp hs j hj ht))
  · have g := gc_cnt_s hi hb
    show r + 1 ≤ gc_cnt (x ||| gc_s i)
    rcases h.2.2 with ⟨_, hr, _⟩ | ⟨_, hr⟩
    · have hr' : r ≤ gc_cnt x := hr
      omega
    · have hr' : r + 1 ≤ gc_cnt x := hr
      omega
/-- one round -/
theorem gc_w_27 {post : Int64 → Prop} {J9 : Int64 → Int32 → Int32 → Prop} {f0 : Int32} {x out : Int64} {a b r : Nat} {a1 a2 a3 f : Nat → Int64} (ha : a < 30) (hb : b < 30)
    (hf : ∀ k, k < 64 → gc_st (a3 0) (a3 1) (a1 (64 * a + k)) (a1 (64 * b + k)) k = f k)
    (h0 : gc_LI out (gc_ok (a3 0) (a3 1) (a2 a) (a2 b)) f r 0 (x, 0))
    (H : ∀ s, gc_LI out (gc_ok (a3 0) (a3 1) (a2 a) (a2 b)) f r 64 s → J9 s.1 s.2 (nI (r + 1))) :
    ∃ n, wX_loopSure_27 post J9 (nI a) (nI b) (nI r) f0 a1 a2 a3 n x 0 0 :=
  pk_loop (σ := Int64 × Int32) (fun n i s => wX_loopSure_27 post J9 (nI a) (nI b) (nI r) f0 a1 a2 a3 n s.1 s.2 (nI i)) (gc_LI out (gc_ok (a3 0) (a3 1) (a2 a) (a2 b)) f r) 64 0 (x, 0) (by omega) h0
    (fun n s h => pk_le 64 64 (fun _ => nm_r (nI_1 r) (H s h)) (fun z => absurd z (by omega)))
    (fun n i s hi h hw => gc_w_27s ha hb hi hf (fun t => hw (s.1, s.2) (gc_LI_0 hi h t)) (fun h1 h2 h3 => hw (s.1 ||| gc_s i, 1) (gc_LI_1 hi h h1 h2 h3)))
/-- between two rounds -/
def gc_LO (out : Int64) (ok : Nat → Bool) (f : Nat → Int64) (r : Nat) (x : Int64) (c : Int32) : Prop :=
  (∀ j, j < 64 → gc_b out j = true → gc_b x j = true) ∧ gc_Low out ok f x ∧
  ((c = 0 ∧ ∀ k, k < 64 → ok k = true → (f k &&& (x ^^^ (-1))) = 0 → gc_b x k = true) ∨ (c = 1 ∧ r ≤ gc_cnt x))
theorem gc_LO_L {out : Int64} {ok : Nat → Bool} {f : Nat → Int64} {r : Nat} {x : Int64} {c : Int32} (h : gc_LO out ok f r x c) (hc : c = 0 ∨ 64 < r) : gc_L out ok f x := by
  refine ⟨h.1, h.2.1, ?_⟩
  rcases h.2.2 with ⟨_, t⟩ | ⟨e, t⟩
  · exact fun s hs hok hall => t s hs hok ((gc_sub _ _).mpr hall)
  · have g := gc_cnt_64 x
    rcases hc with z | z
    · rw [e] at z
      exact absurd z (by decide)
    · exact absurd t (by omega)
theorem gc_w_9 {post : Int64 → Prop} {f0 : Int32} {out : Int64} {a b : Nat} {a1 a2 a3 f : Nat → Int64} (ha : a < 30) (hb : b < 30)
    (hf : ∀ k, k < 64 → gc_st (a3 0) (a3 1) (a1 (64 * a + k)) (a1 (64 * b + k)) k = f k)
    (H : ∀ x, gc_L out (gc_ok (a3 0) (a3 1) (a2 a) (a2 b)) f x → post x) :
    ∀ m r x c, r + m = 65 → gc_LO out (gc_ok (a3 0) (a3 1) (a2 a) (a2 b)) f r x c → wX_loopSure_9 post (nI a) (nI b) f0 a1 a2 a3 (m + 1) x c (nI r) := by
  intro m
  induction m with
  | zero =>
    intro r x c hr h
    exact pk_lt 64 r (fun z => H x (gc_LO_L h (Or.inr z))) (fun z => absurd z (by omega))
  | succ m ih =>
    intro r x c hr h
    refine pk_lt 64 r (fun z => absurd z (by omega)) (fun _ => br_c (fun e => H x (gc_LO_L h (Or.inl e))) (fun e => ?_))
    have hr1 : r ≤ gc_cnt x := by
      rcases h.2.2 with ⟨z, _⟩ | ⟨_, t⟩
      · exact absurd z e
      · exact t
    refine gc_w_27 (out := out) ha hb hf ⟨h.1, h.2.1, Or.inl ⟨rfl, hr1, fun k hk => absurd hk (by omega)⟩⟩ (fun s hs => ih (r + 1) s.1 s.2 (by omega) ⟨hs.1, hs.2.1, ?_⟩)
    rcases hs.2.2 with ⟨z, _, t⟩ | t
    · exact Or.inl ⟨z, t⟩
    · exact Or.inr t
theorem gc_w_sure {post : Int64 → Prop} {f0 : Int32} {out : Int64} {a b : Nat} {a1 a2 a3 f : Nat → Int64} (ha : a < 30) (hb : b < 30)
    (hf : ∀ k, k < 64 → gc_st (a3 0) (a3 1) (a1 (64 * a + k)) (a1 (64 * b + k)) k = f k)
    (H : ∀ x, gc_L out (gc_ok (a3 0) (a3 1) (a2 a) (a2 b)) f x → post x) : wpX_loopSure post (f0, a1, a2, a3) (nI a) (nI b) out :=
  ⟨66, gc_w_9 ha hb hf H 65 0 out 1 (by omega) ⟨fun _ _ h => h, fun C h1 _ j hj hx => h1 j hj hx, Or.inr ⟨rfl, Nat.zero_le _⟩⟩⟩
end
section
/-! ===== the methods that make a program: 64 rows and a word of sure states are written behind the others ===== -/
def gc_P (c : Nat) (a1 a2 row : Nat → Int64) (S : Int64 → Prop) (a1' a2' : Nat → Int64) : Prop :=
  (∀ j, j < 64 * c → a1' j = a1 j) ∧ (∀ s, s < 64 → a1' (64 * c + s) = row s) ∧ (∀ p, p < c → a2' p = a2 p) ∧ S (a2' c)
/-- the first i rows are written -/
def gc_I (c : Nat) (a1 row : Nat → Int64) (i : Nat) (x : Nat → Int64) : Prop :=
  (∀ j, j < 64 * c → x j = a1 j) ∧ (∀ s, s < i → x (64 * c + s) = row s)
theorem gc_I_0 {c : Nat} {a1 row : Nat → Int64} : gc_I c a1 row 0 a1 := ⟨fun _ _ => rfl, fun _ hs => absurd hs (by omega)⟩
theorem gc_I_s {c : Nat} {a1 row x : Nat → Int64} {i k : Nat} {v : Int64} (hk : k = 64 * c + i) (h : gc_I c a1 row i x) (hv : v = row i) : gc_I c a1 row (i + 1) (vp_updL x k v) := by
  subst hk
  refine ⟨fun j hj => ?_, fun s hs => ?_⟩
  · rw [pk_uLn (by omega)]
    exact h.1 j hj
  · by_cases e : s = i
    · rw [e, pk_uLs, hv]
    · rw [pk_uLn (by omega)]
      exact h.2 s (by omega)
theorem gc_fin {post : Int32 → St1 → Prop} {c : Nat} {a1 a2 a3 : Nat → Int64} {v : Int64} (hc : c < 30) (H : ∀ a2' : Nat → Int64, (∀ p, p < c → a2' p = a2 p) → a2' c = v → post (nI c) (nI (c + 1), a1, a2', a3)) :
    vp_in (nI c) 30 ∧ ∀ z : Nat → Int64, z = vp_updL a2 (nI c).toNatClampNeg v → wpX_close post (nI c, a1, z, a3) := by
  refine ⟨gc_i30 hc, fun z ez => ?_⟩
  rw [gc_c30 hc] at ez
  have t := H z (fun p hp => by rw [ez, pk_uLn (by omega)]) (by rw [ez, pk_uLs])
  show ∀ f : Int32, f = nI c + 1 → post (f - 1) (f, a1, z, a3)
  intro f ef
  rw [ef, nI_1, nI_pred]
  exact t
theorem gc_w_skip {post : Int32 → St1 → Prop} {c : Nat} {a1 a2 a3 : Nat → Int64} (hc : c ≤ 30) (H0 : c = 30 → post (-1) (nI c, a1, a2, a3))
    (H : c < 30 → ∀ a1' a2', gc_P c a1 a2 gc_s (fun z => z = -1) a1' a2' → post (nI c) (nI (c + 1), a1', a2', a3)) : wpX_skip post (nI c, a1, a2, a3) :=
  pk_eq c 30 (fun z => H0 z) (fun z => pk_loop (fun n i s => wX_skip_13 post (nI c) n (nI i) s a2 a3) (gc_I c a1 gc_s) 64 0 a1 (by omega) gc_I_0
    (fun n s h => pk_le 64 64 (fun _ => gc_fin (by omega) (fun a2' h1 h2 => H (by omega) _ _ ⟨h.1, h.2, h1, h2⟩)) (fun z => absurd z (by omega)))
    (fun n i s hi h hw => pk_le 64 i (fun z => absurd z (by omega)) (fun _ => ⟨gc_in (by omega) hi, nm_e (nm_r (nI_1 i) (hw _ (gc_I_s (gc_cl (by omega) hi) h rfl)))⟩)))
theorem gc_w_fail {post : Int32 → St1 → Prop} {c : Nat} {a1 a2 a3 : Nat → Int64} (hc : c ≤ 30) (H0 : c = 30 → post (-1) (nI c, a1, a2, a3))
    (H : c < 30 → ∀ a1' a2', gc_P c a1 a2 (fun _ => 0) (fun z => z = 0) a1' a2' → post (nI c) (nI (c + 1), a1', a2', a3)) : wpX_fail post (nI c, a1, a2, a3) :=
  pk_eq c 30 (fun z => H0 z) (fun z => pk_loop (fun n i s => wX_fail_13 post (nI c) n (nI i) s a2 a3) (gc_I c a1 (fun _ => 0)) 64 0 a1 (by omega) gc_I_0
    (fun n s h => pk_le 64 64 (fun _ => gc_fin (by omega) (fun a2' h1 h2 => H (by omega) _ _ ⟨h.1, h.2, h1, h2⟩)) (fun z => absurd z (by omega)))
    (fun n i s hi h hw => pk_le 64 i (fun z => absurd z (by omega)) (fun _ => ⟨gc_in (by omega) hi, nm_e (nm_r (nI_1 i) (hw _ (gc_I_s (gc_cl (by omega) hi) h rfl)))⟩)))
theorem gc_56 : ∀ s, s < 64 → nI s &&& 56 = nI (s / 8 * 8) := by decide +kernel
theorem gc_w_assign {post : Int32 → St1 → Prop} {c w f : Nat} {a1 a2 a3 : Nat → Int64} (hc : c ≤ 30) (hw : w < 2) (hf : f < 512) (H0 : c = 30 → post (-2) (nI c, a1, a2, a3))
    (H : c < 30 → ∀ a1' a2', gc_P c a1 a2 (fun s => gc_s (gc_nx w f s)) (fun z => z = -1) a1' a2' → post (nI c) (nI (c + 1), a1', a2', a3)) : wpX_assign post (nI c, a1, a2, a3) (nI w) (nI f) :=
  pk_lt f 0 (fun z => absurd z (by omega)) (fun _ => pk_le f 511 (fun _ => pk_eq c 30 (fun z => H0 z) (fun z => pk_loop (fun n i s => wX_assign_27 post (nI w) (nI f) (nI c) n (nI i) s a2 a3) (gc_I c a1 (fun s => gc_s (gc_nx w f s))) 64 0 a1 (by omega) gc_I_0
    (fun n s h => pk_le 64 64 (fun _ => gc_fin (by omega) (fun a2' h1 h2 => H (by omega) _ _ ⟨h.1, h.2, h1, h2⟩)) (fun z => absurd z (by omega)))
    (fun n i s hi h hw' => pk_le 64 i (fun z => absurd z (by omega)) (fun _ => gc_w_form hf hi (pk_eq w 0
      (fun e => ⟨gc_in (by omega) hi, nm_e (nm_r (nI_1 i) (hw' _ (gc_I_s (gc_cl (by omega) hi) h (by
        rw [gc_7 (by omega), show (8 : Int32) = nI 8 from rfl, pk_mul, nI_add]
        unfold gc_nx
        rw [if_pos e]
        rfl))))⟩)
      (fun e => ⟨gc_in (by omega) hi, nm_e (nm_r (nI_1 i) (hw' _ (gc_I_s (gc_cl (by omega) hi) h (by
        rw [gc_56 i hi, nI_add]
        unfold gc_nx
        rw [if_neg e]
        rfl))))⟩)))))) (fun z => absurd z (by omega)))
theorem gc_lo {c p k : Nat} (hp : p < c) (hk : k < 64) : 64 * p + k < 64 * c := by omega
/-- the test of sequence -/
def gc_sq (A : Nat → Int64) (sa sb : Int64) : Nat → Bool := fun s => gc_b sa s && decide ((A s &&& (sb ^^^ (-1))) = 0)
theorem gc_or0 (x : Int64) : x ||| 0 = x := by
  apply gc_ext
  intro i _
  rw [gc_or, gc_0, Bool.or_false]
theorem gc_w_seq {post : Int32 → St1 → Prop} {c a b : Nat} {a1 a2 a3 : Nat → Int64} (hc : c ≤ 30) (ha : a < 8) (hb : b < 8)
    (H1 : ¬ (a < c ∧ b < c) → post (-1) (nI c, a1, a2, a3)) (H0 : a < c → b < c → c = 30 → post (-2) (nI c, a1, a2, a3))
    (H : a < c → b < c → c < 30 → ∀ a1' a2', gc_P c a1 a2 (fun s => gc_U (fun k => a1 (64 * b + k)) (a1 (64 * a + s)) 64 0) (fun z => z = gc_M (gc_sq (fun k => a1 (64 * a + k)) (a2 a) (a2 b)) 64) a1' a2' → post (nI c) (nI (c + 1), a1', a2', a3)) :
    wpX_sequence post (nI c, a1, a2, a3) (nI a) (nI b) := by
  unfold wpX_sequence
  refine gc_gb hc ha (fun z => H1 (by omega)) (fun la => gc_gb hc hb (fun z => H1 (by omega)) (fun lb => pk_eq c 30 (fun z => H0 la lb z) (fun z => ?_)))
  have a30 : a < 30 := by omega
  have b30 : b < 30 := by omega
  refine pk_loop (σ := Int64 × (Nat → Int64)) (fun n i s => wX_sequence_35 post (nI a) (nI b) (nI c) n s.1 (nI i) s.2 a2 a3) (fun i s => s.1 = gc_M (gc_sq (fun k => a1 (64 * a + k)) (a2 a) (a2 b)) i ∧ gc_I c a1 (fun s => gc_U (fun k => a1 (64 * b + k)) (a1 (64 * a + s)) 64 0) i s.2) 64 0 (0, a1) (by omega) ⟨rfl, gc_I_0⟩ ?_ ?_
  · intro n s h
    exact pk_le 64 64 (fun _ => gc_fin (by omega) (fun a2' h1 h2 => H la lb (by omega) _ _ ⟨h.2.1, h.2.2, h1, h2.trans h.1⟩)) (fun z => absurd z (by omega))
  · intro n i s hi h hw
    have eA : s.2 ((64 : Int32) * nI a + nI i).toNatClampNeg = a1 (64 * a + i) := by
      rw [gc_cl a30 hi]
      exact h.2.1 _ (gc_lo la hi)
    have fill : gc_I c a1 (fun s => gc_U (fun k => a1 (64 * b + k)) (a1 (64 * a + s)) 64 0) (i + 1) (vp_updL s.2 ((64 : Int32) * nI c + nI i).toNatClampNeg (gc_U (fun k => a1 (64 * b + k)) (a1 (64 * a + i)) 64 0)) :=
      gc_I_s (gc_cl (by omega) hi) h.2 rfl
    refine pk_le 64 i (fun z => absurd z (by omega)) (fun _ => ⟨gc_in a30 hi, nm_r eA (gc_w_image b30 (fun k hk => h.2.1 _ (gc_lo lb hk)) ⟨gc_in (by omega) hi, nm_e ⟨gc_i30 a30, gc_hb hi (fun hb0 => ?_) (fun hb1 => ⟨gc_i30 b30, br_c (fun e => ?_) (fun e => ?_)⟩)⟩⟩)⟩)
    · rw [gc_c30 a30] at hb0
      exact br_t rfl (nm_r (gc_or0 _) (nm_r (nI_1 i) (hw (_, _) ⟨by rw [gc_M_f (by unfold gc_sq; rw [hb0]; rfl)]; exact h.1, fill⟩)))
    · rw [gc_c30 a30] at hb1
      rw [gc_c30 b30] at e
      exact br_f (by decide) (nm_e (nm_r (nI_1 i) (hw (_, _) ⟨by rw [gc_M_t (by unfold gc_sq; rw [hb1, decide_eq_true e]; rfl)]; show s.1 ||| _ = _; rw [h.1]; rfl, fill⟩)))
    · rw [gc_c30 a30] at hb1
      rw [gc_c30 b30] at e
      exact br_t rfl (nm_r (gc_or0 _) (nm_r (nI_1 i) (hw (_, _) ⟨by rw [gc_M_f (by unfold gc_sq; rw [hb1, decide_eq_false e]; rfl)]; exact h.1, fill⟩)))
/-- the steps of a choice or a loop -/
def gc_ff (a1 a3 : Nat → Int64) (a b : Nat) : Nat → Int64 := fun s => gc_st (a3 0) (a3 1) (a1 (64 * a + s)) (a1 (64 * b + s)) s
theorem gc_w_choice {post : Int32 → St1 → Prop} {c a b : Nat} {a1 a2 a3 : Nat → Int64} (hc : c ≤ 30) (ha : a < 8) (hb : b < 8)
    (H1 : ¬ (a < c ∧ b < c) → post (-1) (nI c, a1, a2, a3)) (H0 : a < c → b < c → c = 30 → post (-2) (nI c, a1, a2, a3))
    (H : a < c → b < c → c < 30 → ∀ a1' a2', gc_P c a1 a2 (gc_ff a1 a3 a b) (fun z => z = (((a3 0 ||| a3 1) &&& (a2 a ||| (a3 0 ^^^ (-1)))) &&& (a2 b ||| (a3 1 ^^^ (-1))))) a1' a2' → post (nI c) (nI (c + 1), a1', a2', a3)) :
    wpX_choice post (nI c, a1, a2, a3) (nI a) (nI b) := by
  unfold wpX_choice
  refine gc_gb hc ha (fun z => H1 (by omega)) (fun la => gc_gb hc hb (fun z => H1 (by omega)) (fun lb => pk_eq c 30 (fun z => H0 la lb z) (fun z => nm_e ⟨gc_i30 (by omega), gc_i30 (by omega), ?_⟩)))
  have a30 : a < 30 := by omega
  have b30 : b < 30 := by omega
  rw [gc_c30 a30, gc_c30 b30]
  refine nm_e (pk_loop (fun n i s => wX_choice_85 post (nI a) (nI b) (((a3 0 ||| a3 1) &&& (a2 a ||| (a3 0 ^^^ (-1)))) &&& (a2 b ||| (a3 1 ^^^ (-1)))) (nI c) n (nI i) s a2 a3) (gc_I c a1 (gc_ff a1 a3 a b)) 64 0 a1 (by omega) gc_I_0 ?_ ?_)
  · intro n s h
    exact pk_le 64 64 (fun _ => gc_fin (by omega) (fun a2' h1 h2 => H la lb (by omega) _ _ ⟨h.1, h.2, h1, h2⟩)) (fun z => absurd z (by omega))
  · intro n i s hi h hw
    refine pk_le 64 i (fun z => absurd z (by omega)) (fun _ => gc_w_step a30 b30 hi ⟨gc_in (by omega) hi, nm_e (nm_r (nI_1 i) (hw _ (gc_I_s (gc_cl (by omega) hi) h ?_)))⟩)
    rw [h.1 _ (gc_lo la hi), h.1 _ (gc_lo lb hi)]
    rfl
theorem gc_w_loop {post : Int32 → St1 → Prop} {c a b : Nat} {a1 a2 a3 : Nat → Int64} (hc : c ≤ 30) (ha : a < 8) (hb : b < 8)
    (H1 : ¬ (a < c ∧ b < c) → post (-1) (nI c, a1, a2, a3)) (H0 : a < c → b < c → c = 30 → post (-2) (nI c, a1, a2, a3))
    (H : a < c → b < c → c < 30 → ∀ a1' a2', gc_P c a1 a2 (fun s => gc_Rch (gc_ff a1 a3 a b) 65 (gc_s s) 0 &&& ((a3 0 ||| a3 1) ^^^ (-1))) (gc_L ((a3 0 ||| a3 1) ^^^ (-1)) (gc_ok (a3 0) (a3 1) (a2 a) (a2 b)) (gc_ff a1 a3 a b)) a1' a2' → post (nI c) (nI (c + 1), a1', a2', a3)) :
    wpX_loop post (nI c, a1, a2, a3) (nI a) (nI b) := by
  unfold wpX_loop
  refine gc_gb hc ha (fun z => H1 (by omega)) (fun la => gc_gb hc hb (fun z => H1 (by omega)) (fun lb => pk_eq c 30 (fun z => H0 la lb z) (fun z => nm_e ?_)))
  have a30 : a < 30 := by omega
  have b30 : b < 30 := by omega
  refine pk_loop (fun n i s => wX_loop_51 post (nI a) (nI b) ((a3 0 ||| a3 1) ^^^ (-1)) (nI c) n (nI i) s a2 a3) (gc_I c a1 (fun s => gc_Rch (gc_ff a1 a3 a b) 65 (gc_s s) 0 &&& ((a3 0 ||| a3 1) ^^^ (-1)))) 64 0 a1 (by omega) gc_I_0 ?_ ?_
  · intro n s h
    refine pk_le 64 64 (fun _ => gc_w_sure (f := gc_ff a1 a3 a b) a30 b30 (fun k hk => ?_) (fun x hx => gc_fin (by omega) (fun a2' h1 h2 => H la lb (by omega) _ _ ⟨h.1, h.2, h1, by rw [h2]; exact hx⟩))) (fun z => absurd z (by omega))
    rw [h.1 _ (gc_lo la hk), h.1 _ (gc_lo lb hk)]
    rfl
  · intro n i s hi h hw
    refine pk_le 64 i (fun z => absurd z (by omega)) (fun _ => gc_w_reached (f := gc_ff a1 a3 a b) a30 b30 (fun k hk => ?_) ⟨gc_in (by omega) hi, nm_e (nm_r (nI_1 i) (hw _ (gc_I_s (gc_cl (by omega) hi) h rfl)))⟩)
    rw [h.1 _ (gc_lo la hk), h.1 _ (gc_lo lb hk)]
    rfl
/-! ===== the methods that set a guard ===== -/
theorem gc_w_guard {post : Int32 → St1 → Prop} {f0 : Int32} {w : Nat} {a1 a2 a3 : Nat → Int64} {x : Int64} (hw : w < 2) (H : post (nI (gc_cnt x)) (f0, a1, a2, vp_updL a3 w x)) : wpX_guard post (f0, a1, a2, a3) (nI w) x :=
  pk_eq w 0
    (fun e => ⟨pk_in 0 2 (by omega), nm_r (e' := vp_updL a3 0 x) rfl (gc_w_ones (by rw [e] at H; exact H))⟩)
    (fun e => ⟨pk_in 1 2 (by omega), nm_r (e' := vp_updL a3 1 x) rfl (gc_w_ones (by rw [show w = 1 by omega] at H; exact H))⟩)
theorem gc_w_oppose {post : Int32 → St1 → Prop} {f0 : Int32} {w : Nat} {a1 a2 a3 : Nat → Int64} (hw : w < 2) (H : post (nI (gc_cnt (a3 w ^^^ (-1)))) (f0, a1, a2, vp_updL a3 w (a3 w ^^^ (-1)))) : wpX_oppose post (f0, a1, a2, a3) (nI w) :=
  pk_eq w 0
    (fun e => ⟨pk_in 0 2 (by omega), pk_in 0 2 (by omega), nm_r (e' := vp_updL a3 0 (a3 0 ^^^ (-1))) rfl ⟨pk_in 0 2 (by omega), gc_w_ones (by rw [e] at H; exact H)⟩⟩)
    (fun e => ⟨pk_in 1 2 (by omega), pk_in 1 2 (by omega), nm_r (e' := vp_updL a3 1 (a3 1 ^^^ (-1))) rfl ⟨pk_in 1 2 (by omega), gc_w_ones (by rw [show w = 1 by omega] at H; exact H)⟩⟩)
/-- the test of compare -/
def gc_cp (f m : Nat) : Nat → Bool := fun s => decide (gc_fv f s < m)
theorem gc_w_compare {post : Int32 → St1 → Prop} {f0 : Int32} {w f m : Nat} {a1 a2 a3 : Nat → Int64} (hw : w < 2) (hf : f < 512) (hm : m < 8) (H : post (nI (gc_cnt (gc_M (gc_cp f m) 64))) (f0, a1, a2, vp_updL a3 w (gc_M (gc_cp f m) 64))) : wpX_compare post (f0, a1, a2, a3) (nI w) (nI f) (nI m) :=
  pk_lt f 0 (fun z => absurd z (by omega)) (fun _ => pk_le f 511 (fun _ => pk_lt m 0 (fun z => absurd z (by omega)) (fun _ => pk_le m 8 (fun _ => pk_loop (fun n i s => wX_compare_32 post (nI w) (nI f) (nI m) f0 a1 a2 a3 n s (nI i)) (fun i s => s = gc_M (gc_cp f m) i) 64 0 0 (by omega) rfl
    (fun n s h => pk_le 64 64 (fun _ => by
      rw [h]
      exact pk_eq w 0
        (fun e => ⟨pk_in 0 2 (by omega), nm_r (e' := vp_updL a3 0 _) rfl (gc_w_ones (by rw [e] at H; exact H))⟩)
        (fun e => ⟨pk_in 1 2 (by omega), nm_r (e' := vp_updL a3 1 _) rfl (gc_w_ones (by rw [show w = 1 by omega] at H; exact H))⟩)) (fun z => absurd z (by omega)))
    (fun n i s hi h hw' => pk_le 64 i (fun z => absurd z (by omega)) (fun _ => gc_w_form hf hi (pk_le m (gc_fv f i)
      (fun z => nm_r (nI_1 i) (hw' _ (by rw [gc_M_f (decide_eq_false (by omega))]; exact h)))
      (fun z => nm_e (nm_r (nI_1 i) (hw' _ (by rw [gc_M_t (decide_eq_true z), h]; rfl)))) (hb := by have := gc_fv_lt f i; omega))))) (fun z => absurd z (by omega)))) (fun z => absurd z (by omega)))
end
section
/-! ===== the two machines side by side ===== -/
def gc_R (c : Nat) (a1 a2 a3 b1 b2 b3 : Nat → Int64) : Prop :=
  c ≤ 30 ∧ (∀ p, p < c → gc_TF (fun k => a1 (64 * p + k)) (fun k => b1 (64 * p + k))) ∧ (∀ p, p < c → gc_T (a2 p) (b2 p)) ∧ gc_T (a3 0) (b3 0) ∧ gc_T (a3 1) (b3 1)
/-! ===== the methods that ask ===== -/
/-- an answer 1 or 0: all of the 64 states pass, or one does not -/
def gc_A (P : Nat → Prop) (r : Int32) : Prop := (r = 1 ∧ ∀ s, s < 64 → P s) ∨ (r = 0 ∧ ∃ s, s < 64 ∧ ¬ P s)
theorem gc_A_eq {P P' : Nat → Prop} {r r' : Int32} (h : gc_A P r) (h' : gc_A P' r') (e : ∀ s, s < 64 → (P s ↔ P' (gc_g s))) : r = r' := by
  rcases h with ⟨h1, h2⟩ | ⟨h1, s, hs, h2⟩
  · rcases h' with ⟨k1, k2⟩ | ⟨k1, s, hs, k2⟩
    · rw [h1, k1]
    · have t := (e _ (gc_g_lt hs)).mp (h2 _ (gc_g_lt hs))
      rw [gc_g_g hs] at t
      exact absurd t k2
  · rcases h' with ⟨k1, k2⟩ | ⟨k1, _⟩
    · exact absurd ((e s hs).mpr (k2 _ (gc_g_lt hs))) h2
    · rw [h1, k1]
/-- the same behind a question whether the numbers are good -/
def gc_Q (g : Prop) (P : Nat → Prop) (r : Int32) : Prop := (¬ g ∧ r = -1) ∨ (g ∧ gc_A P r)
theorem gc_Q_eq {g : Prop} {P P' : Nat → Prop} {r r' : Int32} (h : gc_Q g P r) (h' : gc_Q g P' r') (e : g → ∀ s, s < 64 → (P s ↔ P' (gc_g s))) : r = r' := by
  rcases h with ⟨h1, h2⟩ | ⟨h1, h2⟩
  · rcases h' with ⟨_, k2⟩ | ⟨k1, _⟩
    · rw [h2, k2]
    · exact absurd k1 h1
  · rcases h' with ⟨k1, _⟩ | ⟨_, k2⟩
    · exact absurd h1 k1
    · exact gc_A_eq h2 k2 (e h1)
def gc_se (a1 a2 : Nat → Int64) (p s : Nat) : Prop := gc_b (a2 p) s = true → (a1 (64 * p + s) &&& (a1 (64 * p + s) - 1)) = 0
theorem gc_w_settled {post : Int32 → Prop} {c p : Nat} {a1 a2 a3 : Nat → Int64} (hc : c ≤ 30) (hp : p < 8) (H : ∀ r, gc_Q (p < c) (gc_se a1 a2 p) r → post r) : wpX_settled post (nI c, a1, a2, a3) (nI p) := by
  unfold wpX_settled
  refine gc_gb hc hp (fun z => H _ (Or.inl ⟨by omega, rfl⟩)) (fun lp => ?_)
  have p30 : p < 30 := by omega
  refine pk_loop (σ := Unit) (fun n i _ => wX_settled_12 post (nI p) (nI c) a1 a2 a3 n (nI i)) (fun i _ => ∀ s, s < i → gc_se a1 a2 p s) 64 0 () (by omega) (fun s hs => absurd hs (by omega)) ?_ ?_
  · intro n _ h
    exact pk_le 64 64 (fun _ => H 1 (Or.inr ⟨lp, Or.inl ⟨rfl, h⟩⟩)) (fun z => absurd z (by omega))
  · intro n i _ hi h hw
    refine pk_le 64 i (fun z => absurd z (by omega)) (fun _ => ⟨gc_in p30 hi, nm_r (congrArg a1 (gc_cl p30 hi)) ⟨gc_i30 p30, ?_⟩⟩)
    rw [gc_c30 p30]
    refine gc_hb hi (fun h0 => nm_r (nI_1 i) (hw () (lt_s h (fun t => absurd (h0.symm.trans t) (by decide))))) (fun h0 => br_c (fun e => nm_r (nI_1 i) (hw () (lt_s h (fun _ => e)))) (fun e => H 0 (Or.inr ⟨lp, Or.inr ⟨rfl, i, hi, fun t => e (t h0)⟩⟩)))
theorem gc_w_widest {post : Int32 → Prop} {c p : Nat} {a1 a2 a3 : Nat → Int64} (hc : c ≤ 30) (hp : p < 8) (H0 : ¬ p < c → post (-1)) (H : p < c → post (nI (gc_mx (fun s => gc_cnt (a1 (64 * p + s))) 64))) : wpX_widest post (nI c, a1, a2, a3) (nI p) := by
  unfold wpX_widest
  refine gc_gb hc hp (fun z => H0 (by omega)) (fun lp => ?_)
  have p30 : p < 30 := by omega
  refine pk_loop (fun n i s => wX_widest_14 post (nI p) (nI c) a1 a2 a3 n s (nI i)) (fun i s => s = nI (gc_mx (fun s => gc_cnt (a1 (64 * p + s))) i)) 64 0 0 (by omega) rfl ?_ ?_
  · intro n s h
    exact pk_le 64 64 (fun _ => by rw [h]; exact H lp) (fun z => absurd z (by omega))
  · intro n i s hi h hw
    refine pk_le 64 i (fun z => absurd z (by omega)) (fun _ => ⟨gc_in p30 hi, ?_⟩)
    rw [gc_cl p30 hi]
    have m64 := gc_mx_64 (f := fun s => gc_cnt (a1 (64 * p + s))) (fun k _ => gc_cnt_64 _) i (by omega)
    have n64 := gc_cnt_64 (a1 (64 * p + i))
    have e : gc_mx (fun s => gc_cnt (a1 (64 * p + s))) (i + 1) = if gc_cnt (a1 (64 * p + i)) ≤ gc_mx (fun s => gc_cnt (a1 (64 * p + s))) i then gc_mx (fun s => gc_cnt (a1 (64 * p + s))) i else gc_cnt (a1 (64 * p + i)) := rfl
    exact gc_w_ones (pk_le (gc_cnt (a1 (64 * p + i))) (gc_mx (fun s => gc_cnt (a1 (64 * p + s))) i)
      (fun z => nm_r (nI_1 i) (hw _ (by rw [e, if_pos z]; exact h)))
      (fun z => nm_r (nI_1 i) (hw _ (by rw [e, if_neg (by omega)]))) rfl h)
def gc_rf (a1 a2 : Nat → Int64) (p q s : Nat) : Prop := gc_b (a2 p) s = true → gc_b (a2 q) s = true ∧ (a1 (64 * q + s) &&& (a1 (64 * p + s) ^^^ (-1))) = 0
theorem gc_w_refines {post : Int32 → Prop} {c p q : Nat} {a1 a2 a3 : Nat → Int64} (hc : c ≤ 30) (hp : p < 8) (hq : q < 8) (H : ∀ r, gc_Q (p < c ∧ q < c) (gc_rf a1 a2 p q) r → post r) : wpX_refines post (nI c, a1, a2, a3) (nI p) (nI q) := by
  unfold wpX_refines
  refine gc_gb hc hp (fun z => H _ (Or.inl ⟨by omega, rfl⟩)) (fun lp => gc_gb hc hq (fun z => H _ (Or.inl ⟨by omega, rfl⟩)) (fun lq => ?_))
  have p30 : p < 30 := by omega
  have q30 : q < 30 := by omega
  refine pk_loop (σ := Unit) (fun n i _ => wX_refines_20 post (nI p) (nI q) (nI c) a1 a2 a3 n (nI i)) (fun i _ => ∀ s, s < i → gc_rf a1 a2 p q s) 64 0 () (by omega) (fun s hs => absurd hs (by omega)) ?_ ?_
  · intro n _ h
    exact pk_le 64 64 (fun _ => H 1 (Or.inr ⟨⟨lp, lq⟩, Or.inl ⟨rfl, h⟩⟩)) (fun z => absurd z (by omega))
  · intro n i _ hi h hw
    refine pk_le 64 i (fun z => absurd z (by omega)) (fun _ => ⟨gc_i30 p30, ?_⟩)
    rw [gc_c30 p30, gc_c30 q30, gc_cl p30 hi, gc_cl q30 hi]
    refine gc_hb hi (fun h0 => nm_r (nI_1 i) (hw () (lt_s h (fun t => absurd (h0.symm.trans t) (by decide))))) (fun h0 => ⟨gc_in q30 hi, gc_in p30 hi, nm_e ⟨gc_i30 q30, gc_hb hi (fun h1 => ?_) (fun h1 => br_c (fun e => ?_) (fun e => ?_))⟩⟩)
    · exact H 0 (Or.inr ⟨⟨lp, lq⟩, Or.inr ⟨rfl, i, hi, fun t => absurd (h1.symm.trans (t h0).1) (by decide)⟩⟩)
    · exact nm_r (nI_1 i) (hw () (lt_s h (fun _ => ⟨h1, e⟩)))
    · exact H 0 (Or.inr ⟨⟨lp, lq⟩, Or.inr ⟨rfl, i, hi, fun t => e (t h0).2⟩⟩)
theorem gc_w_ends {post : Int64 → Prop} {c p s : Nat} {a1 a2 a3 : Nat → Int64} (hc : c ≤ 30) (hp : p < 8) (hs : s < 64) (H0 : ¬ p < c → post 0) (H : p < c → post (a1 (64 * p + s))) : wpX_ends post (nI c, a1, a2, a3) (nI p) (nI s) := by
  unfold wpX_ends
  exact gc_gb hc hp (fun z => br_t rfl (H0 (by omega))) (fun lp => pk_lt s 0 (fun z => absurd z (by omega)) (fun _ => pk_le 64 s (fun z => absurd z (by omega)) (fun _ => br_f (by decide) ⟨gc_in (by omega) hs, by rw [gc_cl (by omega) hs]; exact H lp⟩)))
theorem gc_w_sureOf {post : Int64 → Prop} {c p : Nat} {a1 a2 a3 : Nat → Int64} (hc : c ≤ 30) (hp : p < 8) (H0 : ¬ p < c → post 0) (H : p < c → post (a2 p)) : wpX_sure post (nI c, a1, a2, a3) (nI p) := by
  unfold wpX_sure
  exact gc_gb hc hp (fun z => H0 (by omega)) (fun lp => ⟨gc_i30 (by omega), by rw [gc_c30 (by omega)]; exact H lp⟩)
theorem gc_w_demand {post : Int64 → Prop} {c p : Nat} {a1 a2 a3 : Nat → Int64} {q : Int64} (hc : c ≤ 30) (hp : p < 8) (H0 : ¬ p < c → post 0) (H : p < c → post (a2 p &&& gc_M (gc_wk (fun k => a1 (64 * p + k)) q) 64)) : wpX_demand post (nI c, a1, a2, a3) (nI p) q := by
  unfold wpX_demand
  exact gc_gb hc hp (fun z => H0 (by omega)) (fun lp => ⟨gc_i30 (by omega), gc_w_weak (A := fun k => a1 (64 * p + k)) (by omega) (fun _ _ => rfl) (by rw [gc_c30 (by omega)]; exact H lp)⟩)
theorem gc_w_weakD {post : Int64 → Prop} {c p : Nat} {a1 a2 a3 : Nat → Int64} {q : Int64} (hc : c ≤ 30) (hp : p < 8) (H0 : ¬ p < c → post 0) (H : p < c → post (gc_M (gc_wk (fun k => a1 (64 * p + k)) q) 64)) : wpX_weakDemand post (nI c, a1, a2, a3) (nI p) q := by
  unfold wpX_weakDemand
  exact gc_gb hc hp (fun z => H0 (by omega)) (fun lp => gc_w_weak (A := fun k => a1 (64 * p + k)) (by omega) (fun _ _ => rfl) (H lp))
theorem gc_w_imageD {post : Int64 → Prop} {c p : Nat} {a1 a2 a3 : Nat → Int64} {q : Int64} (hc : c ≤ 30) (hp : p < 8) (H0 : ¬ p < c → post 0) (H : p < c → post (gc_U (fun k => a1 (64 * p + k)) q 64 0)) : wpX_image post (nI c, a1, a2, a3) (nI p) q := by
  unfold wpX_image
  exact gc_gb hc hp (fun z => H0 (by omega)) (fun lp => gc_w_image (A := fun k => a1 (64 * p + k)) (by omega) (fun _ _ => rfl) (H lp))
/-! ===== alike ===== -/
theorem gc_T_wk {A B : Nat → Int64} {q r : Int64} (hA : gc_TF A B) (hq : gc_T q r) : gc_T (gc_M (gc_wk A q) 64) (gc_M (gc_wk B r) 64) :=
  gc_T_M (fun s hs => decide_eq_decide.mpr (gc_T_sub (hA s hs) hq).symm)
theorem gc_w_alike {post : Int32 → Prop} {c p o st : Nat} {a1 a2 a3 b1 b2 b3 : Nat → Int64} {q : Int64} (hR : gc_R c a1 a2 a3 b1 b2 b3) (hp : p < 8) (ho : o < 8) (hs : st < 64) (H : post 1) :
    wpL_alike post (nI c, a1, a2, a3, nI c, b1, b2, b3) (nI p) (nI o) (nI st) q := by
  obtain ⟨hc, h1, h2, _, _⟩ := hR
  unfold wpL_alike
  dsimp only
  refine br_t rfl ?_
  refine gc_w_settled hc hp (fun r4 e4 => gc_w_settled hc hp (fun r5 e5 => br_t (gc_Q_eq e4 e5 (fun lp s hs => ?_)) ?_))
  · unfold gc_se
    rw [h2 p lp s hs]
    have t := gc_T_le1 (h1 p lp s hs)
    exact ⟨fun f hb => t.mp (f hb), fun f hb => t.mpr (f hb)⟩
  have wide : ∀ A : Prop, ∀ B : Prop, A → wpX_widest (fun r_7 => wpX_widest (fun r_8 => (r_7 = r_8 → A) ∧ (¬ r_7 = r_8 → B)) (nI c, b1, b2, b3) (nI p)) (nI c, a1, a2, a3) (nI p) := by
    intro A B hA
    refine gc_w_widest hc hp (fun n => gc_w_widest hc hp (fun _ => br_t rfl hA) (fun l => absurd l n)) (fun l => gc_w_widest hc hp (fun n => absurd l n) (fun _ => br_t ?_ hA))
    exact congrArg nI (gc_mx_g (f := fun s => gc_cnt (a1 (64 * p + s))) (f' := fun s => gc_cnt (b1 (64 * p + s))) (fun k hk => gc_cnt_T (h1 p l k hk)))
  refine wide _ _ ?_
  refine gc_w_refines hc hp ho (fun r10 e10 => gc_w_refines hc hp ho (fun r11 e11 => br_t (gc_Q_eq e10 e11 (fun l s hs => ?_)) ?_))
  · unfold gc_rf
    rw [h2 p l.1 s hs, h2 o l.2 s hs]
    have t := gc_T_sub (h1 o l.2 s hs) (h1 p l.1 s hs)
    exact ⟨fun f hb => ⟨(f hb).1, t.mp (f hb).2⟩, fun f hb => ⟨(f hb).1, t.mpr (f hb).2⟩⟩
  refine gc_w_across (fun r13 t13 => ?_)
  rw [gc_gx st hs]
  by_cases l : p < c
  · refine gc_w_ends hc hp hs (fun n => absurd l n) (fun _ => gc_w_sureOf hc hp (fun n => absurd l n) (fun _ => gc_w_across (fun r16 t16 => gc_w_across (fun r17 t17 => gc_w_ends hc hp (gc_g_lt hs) (fun n => absurd l n) (fun _ => br_t (gc_T_u (h1 p l st hs) t16) (gc_w_sureOf hc hp (fun n => absurd l n) (fun _ => br_t (gc_T_u (h2 p l) t17) ?_)))))))
    refine gc_w_demand hc hp (fun n => absurd l n) (fun _ => gc_w_weakD hc hp (fun n => absurd l n) (fun _ => gc_w_imageD hc hp (fun n => absurd l n) (fun _ => gc_w_across (fun r25 t25 => gc_w_across (fun r26 t26 => gc_w_across (fun r27 t27 => ?_))))))
    refine gc_w_demand hc hp (fun n => absurd l n) (fun _ => br_t (gc_T_u (gc_T_and (h2 p l) (gc_T_wk (h1 p l) t13)) t25) ?_)
    refine gc_w_weakD hc hp (fun n => absurd l n) (fun _ => br_t (gc_T_u (gc_T_wk (h1 p l) t13) t26) ?_)
    exact gc_w_imageD hc hp (fun n => absurd l n) (fun _ => br_t (gc_T_u (gc_T_U (h1 p l) t13 gc_T_0) t27) H)
  · refine gc_w_ends hc hp hs (fun _ => gc_w_sureOf hc hp (fun _ => gc_w_across (fun r16 t16 => gc_w_across (fun r17 t17 => gc_w_ends hc hp (gc_g_lt hs) (fun _ => br_t (gc_T_u gc_T_0 t16) (gc_w_sureOf hc hp (fun _ => br_t (gc_T_u gc_T_0 t17) ?_) (fun z => absurd z l))) (fun z => absurd z l)))) (fun z => absurd z l)) (fun z => absurd z l)
    refine gc_w_demand hc hp (fun _ => gc_w_weakD hc hp (fun _ => gc_w_imageD hc hp (fun _ => gc_w_across (fun r25 t25 => gc_w_across (fun r26 t26 => gc_w_across (fun r27 t27 => ?_)))) (fun z => absurd z l)) (fun z => absurd z l)) (fun z => absurd z l)
    refine gc_w_demand hc hp (fun _ => br_t (gc_T_u gc_T_0 t25) ?_) (fun z => absurd z l)
    refine gc_w_weakD hc hp (fun _ => br_t (gc_T_u gc_T_0 t26) ?_) (fun z => absurd z l)
    exact gc_w_imageD hc hp (fun _ => br_t (gc_T_u gc_T_0 t27) H) (fun z => absurd z l)
end
section
/-! ===== the two machines after a call ===== -/
theorem gc_R_push {c : Nat} {a1 a2 a3 b1 b2 b3 row row' a1' a2' b1' b2' : Nat → Int64} {S S' : Int64 → Prop} (hR : gc_R c a1 a2 a3 b1 b2 b3) (hc : c < 30) (hP : gc_P c a1 a2 row S a1' a2') (hP' : gc_P c b1 b2 row' S' b1' b2') (hr : gc_TF row row') (hS : ∀ x y, S x → S' y → gc_T x y) :
    gc_R (c + 1) a1' a2' a3 b1' b2' b3 := by
  refine ⟨by omega, fun p hp k hk => ?_, fun p hp => ?_, hR.2.2.2⟩
  · show gc_T (a1' (64 * p + k)) (b1' (64 * p + gc_g k))
    have gk := gc_g_lt hk
    by_cases e : p = c
    · subst e
      rw [hP.2.1 k hk, hP'.2.1 _ gk]
      exact hr k hk
    · rw [hP.1 _ (by omega), hP'.1 _ (by omega)]
      exact hR.2.1 p (by omega) k hk
  · by_cases e : p = c
    · subst e
      exact hS _ _ hP.2.2.2 hP'.2.2.2
    · rw [hP.2.2.1 p (by omega), hP'.2.2.1 p (by omega)]
      exact hR.2.2.1 p (by omega)
theorem gc_R_w {c w : Nat} {a1 a2 a3 b1 b2 b3 : Nat → Int64} (hR : gc_R c a1 a2 a3 b1 b2 b3) (hw : w < 2) : gc_T (a3 w) (b3 w) := by
  by_cases e : w = 0
  · subst e
    exact hR.2.2.2.1
  · have e' : w = 1 := by omega
    subst e'
    exact hR.2.2.2.2
theorem gc_R_g {c w : Nat} {a1 a2 a3 b1 b2 b3 : Nat → Int64} {x y : Int64} (hR : gc_R c a1 a2 a3 b1 b2 b3) (hw : w < 2) (h : gc_T x y) : gc_R c a1 a2 (vp_updL a3 w x) b1 b2 (vp_updL b3 w y) := by
  have one : ∀ j, j < 2 → gc_T (vp_updL a3 w x j) (vp_updL b3 w y j) := by
    intro j hj
    by_cases e : j = w
    · rw [e, pk_uLs, pk_uLs]
      exact h
    · rw [pk_uLn e, pk_uLn e]
      exact gc_R_w hR hj
  exact ⟨hR.1, hR.2.1, hR.2.2.1, one 0 (by omega), one 1 (by omega)⟩
theorem gc_TF_ff {c a b : Nat} {a1 a2 a3 b1 b2 b3 : Nat → Int64} (hR : gc_R c a1 a2 a3 b1 b2 b3) (la : a < c) (lb : b < c) : gc_TF (gc_ff a1 a3 a b) (gc_ff b1 b3 a b) :=
  fun s hs => gc_T_st hR.2.2.2.1 hR.2.2.2.2 (hR.2.1 a la s hs) (hR.2.1 b lb s hs) hs
theorem gc_ok_g {c a b s : Nat} {a1 a2 a3 b1 b2 b3 : Nat → Int64} (hR : gc_R c a1 a2 a3 b1 b2 b3) (la : a < c) (lb : b < c) (hs : s < 64) : gc_ok (b3 0) (b3 1) (b2 a) (b2 b) (gc_g s) = gc_ok (a3 0) (a3 1) (a2 a) (a2 b) s := by
  unfold gc_ok
  rw [hR.2.2.2.1 s hs, hR.2.2.2.2 s hs, hR.2.2.1 a la s hs, hR.2.2.1 b lb s hs]
theorem gc_sq_g {c a b s : Nat} {a1 a2 a3 b1 b2 b3 : Nat → Int64} (hR : gc_R c a1 a2 a3 b1 b2 b3) (la : a < c) (lb : b < c) (hs : s < 64) : gc_sq (fun k => b1 (64 * a + k)) (b2 a) (b2 b) (gc_g s) = gc_sq (fun k => a1 (64 * a + k)) (a2 a) (a2 b) s := by
  unfold gc_sq
  have t := gc_T_sub (hR.2.1 a la s hs) (hR.2.2.1 b lb)
  rw [hR.2.2.1 a la s hs]
  exact congrArg (fun z => gc_b (a2 a) s && z) (decide_eq_decide.mpr t.symm)
end
section
/-! ===== the law ===== -/
theorem gc_w_354 {L k y c kc ks : Nat} {xs : Nat → Int32} {J : Int32 → Int32 → (Nat → Int64) → (Nat → Int64) → (Nat → Int64) → Int32 → (Nat → Int64) → (Nat → Int64) → (Nat → Int64) → Prop} {d : Int32} {q : Int64} {a1 a2 a3 b1 b2 b3 : Nat → Int64} (hL : L ≤ 260) (hk : k < L) (hy : y < 8) (hR : gc_R c a1 a2 a3 b1 b2 b3)
    (H : J (nI (k + 2)) (nI c) a1 a2 a3 (nI c) b1 b2 b3) : wL_law_354 (fun r => r = 1) L xs J (nI k) (nI y) d q kc ks (nI c) a1 a2 a3 (nI c) b1 b2 b3 := by
  have hin : vp_in (nI k) L := vp_in_nI hk (by omega)
  have e2 : nI k + 2 = nI (k + 2) := nI_add k 2
  unfold wL_law_354
  refine ⟨hin, br_c (fun _ => ⟨hin, ?_⟩) (fun _ => nm_r e2 H)⟩
  obtain ⟨p, hp, ep⟩ := pk_andE (xs (nI k).toNatClampNeg >>> ((12 : Int32) &&& 31)) (m := 7) 3 (by decide)
  obtain ⟨st, hs, es⟩ := pk_andE (d >>> ((12 : Int32) &&& 31)) (m := 63) 6 (by decide)
  rw [ep, es]
  exact gc_w_alike hR hp hy hs (br_f (by decide) (nm_r e2 H))
theorem gc_w_18 {L kc ks : Nat} {xs : Nat → Int32} (hL : L ≤ 260) : ∀ (n k c : Nat) (a1 a2 a3 b1 b2 b3 : Nat → Int64), k ≤ L → L - k < n → gc_R c a1 a2 a3 b1 b2 b3 → wL_law_18 (fun r => r = 1) L xs kc ks n (nI k) (nI c) a1 a2 a3 (nI c) b1 b2 b3 := by
  intro n
  induction n with
  | zero =>
    intro k c a1 a2 a3 b1 b2 b3 _ h
    exact absurd h (by omega)
  | succ n ih =>
    intro k c a1 a2 a3 b1 b2 b3 hk hn hR
    refine pk_le L (k + 1) (fun _ => rfl) (fun lt => ?_) rfl (nI_1 k)
    have hin : vp_in (nI k) L := vp_in_nI (by omega) (by omega)
    have hin1 : vp_in (nI k + 1) L := by
      rw [nI_1]
      exact vp_in_nI lt (by omega)
    obtain ⟨m, hm, em⟩ := pk_andE (xs (nI k).toNatClampNeg) (m := 15) 4 (by decide)
    obtain ⟨x, hx, ex⟩ := pk_andE (xs (nI k).toNatClampNeg >>> ((4 : Int32) &&& 31)) (m := 7) 3 (by decide)
    obtain ⟨y, hy, ey⟩ := pk_andE (xs (nI k).toNatClampNeg >>> ((7 : Int32) &&& 31)) (m := 7) 3 (by decide)
    obtain ⟨w, hw, ew⟩ := pk_andE (xs (nI k).toNatClampNeg >>> ((10 : Int32) &&& 31)) (m := 1) 1 (by decide)
    obtain ⟨f, hf, ef⟩ := pk_andE (xs (nI k + 1).toNatClampNeg) (m := 511) 9 (by decide)
    obtain ⟨g, hg, eg⟩ := pk_andE (xs (nI k + 1).toNatClampNeg >>> ((9 : Int32) &&& 31)) (m := 7) 3 (by decide)
    have hc := hR.1
    refine ⟨hin, nm_r em ⟨hin, nm_r ex ⟨hin, nm_r ey ⟨hin, nm_r ew ⟨hin1, nm_e (nm_r ef (gc_w_turned hf ⟨hin, fun q _ => ?_⟩))⟩⟩⟩⟩⟩
    rw [eg, show (1 : Int32) - nI w = nI (1 - w) from pk_sub (a := 1) (b := w) (by omega)]
    have fin : ∀ (c' : Nat) (a1' a2' a3' b1' b2' b3' : Nat → Int64), gc_R c' a1' a2' a3' b1' b2' b3' → wL_law_354 (fun r => r = 1) L xs (wL_law_18 (fun r => r = 1) L xs kc ks n) (nI k) (nI y) (xs (nI k + 1).toNatClampNeg) q kc ks (nI c') a1' a2' a3' (nI c') b1' b2' b3' :=
      fun c' a1' a2' a3' b1' b2' b3' h => gc_w_354 hL (by omega) hy h (ih (k + 2) c' a1' a2' a3' b1' b2' b3' (by omega) (by omega) h)
    refine pk_le 2 m (fun _ => pk_eq m 2 (fun _ => ?_) (fun _ => pk_eq m 3 (fun _ => ?_) (fun _ => pk_eq m 4 (fun _ => br_c (fun _ => ?_) (fun _ => ?_)) (fun _ => pk_le 8 m (fun _ => pk_le 10 m (fun _ => pk_le 13 m (fun _ => ?_) (fun _ => ?_)) (fun _ => ?_)) (fun _ => ?_))))) (fun _ => ?_)
    · exact gc_w_across (fun r t => gc_w_guard hw (gc_w_guard hw (br_t (by rw [gc_cnt_T t]) (fin _ _ _ _ _ _ _ (gc_R_g hR hw t)))))
    · exact gc_w_oppose hw (gc_w_oppose hw (br_t (by rw [gc_cnt_T (gc_T_not (gc_R_w hR hw))]) (fin _ _ _ _ _ _ _ (gc_R_g hR hw (gc_T_not (gc_R_w hR hw))))))
    · exact gc_w_fail hc (fun e => gc_w_fail hc (fun _ => br_t rfl (fin _ _ _ _ _ _ _ hR)) (fun z => absurd z (by omega)))
        (fun l a1' a2' hP => gc_w_fail hc (fun z => absurd z (by omega)) (fun _ b1' b2' hP' => br_t rfl (fin _ _ _ _ _ _ _ (gc_R_push hR l hP hP' (fun _ _ => gc_T_0) (fun u v hu hv => by rw [hu, hv]; exact gc_T_0)))))
    · exact gc_w_skip hc (fun e => gc_w_skip hc (fun _ => br_t rfl (fin _ _ _ _ _ _ _ hR)) (fun z => absurd z (by omega)))
        (fun l a1' a2' hP => gc_w_skip hc (fun z => absurd z (by omega)) (fun _ b1' b2' hP' => br_t rfl (fin _ _ _ _ _ _ _ (gc_R_push hR l hP hP' (fun _ hs => gc_T_s hs) (fun u v hu hv => by rw [hu, hv]; exact gc_T_m1)))))
    · exact gc_w_loop hc hx hy (fun h1 => gc_w_loop hc hx hy (fun _ => br_t rfl (fin _ _ _ _ _ _ _ hR)) (fun la lb _ => absurd ⟨la, lb⟩ h1) (fun la lb _ => absurd ⟨la, lb⟩ h1))
        (fun la lb h0 => gc_w_loop hc hx hy (fun h1 => absurd ⟨la, lb⟩ h1) (fun _ _ _ => br_t rfl (fin _ _ _ _ _ _ _ hR)) (fun _ _ z => absurd z (by omega)))
        (fun la lb l a1' a2' hP => gc_w_loop hc hx hy (fun h1 => absurd ⟨la, lb⟩ h1) (fun _ _ z => absurd z (by omega)) (fun _ _ _ b1' b2' hP' => br_t rfl (fin _ _ _ _ _ _ _ (gc_R_push hR l hP hP'
          (fun s hs => gc_T_and (gc_T_Rch (gc_TF_ff hR la lb) 65 _ _ _ _ (gc_T_s hs) gc_T_0) (gc_T_not (gc_T_or hR.2.2.2.1 hR.2.2.2.2)))
          (fun u v hu hv => gc_T_L hu hv (gc_T_not (gc_T_or hR.2.2.2.1 hR.2.2.2.2)) (gc_TF_ff hR la lb) (fun s hs => gc_ok_g hR la lb hs))))))
    · exact gc_w_choice hc hx hy (fun h1 => gc_w_choice hc hx hy (fun _ => br_t rfl (fin _ _ _ _ _ _ _ hR)) (fun la lb _ => absurd ⟨la, lb⟩ h1) (fun la lb _ => absurd ⟨la, lb⟩ h1))
        (fun la lb h0 => gc_w_choice hc hx hy (fun h1 => absurd ⟨la, lb⟩ h1) (fun _ _ _ => br_t rfl (fin _ _ _ _ _ _ _ hR)) (fun _ _ z => absurd z (by omega)))
        (fun la lb l a1' a2' hP => gc_w_choice hc hx hy (fun h1 => absurd ⟨la, lb⟩ h1) (fun _ _ z => absurd z (by omega)) (fun _ _ _ b1' b2' hP' => br_t rfl (fin _ _ _ _ _ _ _ (gc_R_push hR l hP hP'
          (gc_TF_ff hR la lb)
          (fun u v hu hv => by
            rw [hu, hv]
            exact gc_T_and (gc_T_and (gc_T_or hR.2.2.2.1 hR.2.2.2.2) (gc_T_or (hR.2.2.1 x la) (gc_T_not hR.2.2.2.1))) (gc_T_or (hR.2.2.1 y lb) (gc_T_not hR.2.2.2.2)))))))
    · exact gc_w_seq hc hx hy (fun h1 => gc_w_seq hc hx hy (fun _ => br_t rfl (fin _ _ _ _ _ _ _ hR)) (fun la lb _ => absurd ⟨la, lb⟩ h1) (fun la lb _ => absurd ⟨la, lb⟩ h1))
        (fun la lb h0 => gc_w_seq hc hx hy (fun h1 => absurd ⟨la, lb⟩ h1) (fun _ _ _ => br_t rfl (fin _ _ _ _ _ _ _ hR)) (fun _ _ z => absurd z (by omega)))
        (fun la lb l a1' a2' hP => gc_w_seq hc hx hy (fun h1 => absurd ⟨la, lb⟩ h1) (fun _ _ z => absurd z (by omega)) (fun _ _ _ b1' b2' hP' => br_t rfl (fin _ _ _ _ _ _ _ (gc_R_push hR l hP hP'
          (fun s hs => gc_T_U (hR.2.1 y lb) (hR.2.1 x la s hs) gc_T_0)
          (fun u v hu hv => by
            rw [hu, hv]
            exact gc_T_M (fun s hs => gc_sq_g hR la lb hs))))))
    · exact gc_w_assign hc hw hf (fun e => gc_w_assign hc (by omega) (gc_tu_lt hf) (fun _ => br_t rfl (fin _ _ _ _ _ _ _ hR)) (fun z => absurd z (by omega)))
        (fun l a1' a2' hP => gc_w_assign hc (by omega) (gc_tu_lt hf) (fun z => absurd z (by omega)) (fun _ b1' b2' hP' => br_t rfl (fin _ _ _ _ _ _ _ (gc_R_push hR l hP hP'
          (fun s hs => by
            rw [gc_nx_g hw hf hs]
            exact gc_T_s (gc_nx_lt hs))
          (fun u v hu hv => by rw [hu, hv]; exact gc_T_m1)))))
    · have t : gc_T (gc_M (gc_cp f g) 64) (gc_M (gc_cp (gc_tu f) g) 64) := gc_T_M (fun s hs => by unfold gc_cp; rw [gc_fv_g hf hs])
      exact gc_w_compare hw hf hg (gc_w_compare hw (gc_tu_lt hf) hg (br_t (by rw [gc_cnt_T t]) (fin _ _ _ _ _ _ _ (gc_R_g hR hw t))))
theorem i_vc (xs : Nat → Int32) (L : Nat) (hL : L ≤ 260) : wpL_law (fun r => r = 1) L xs :=
  ⟨3, 1952, by omega, by omega, by omega, by omega, by omega, by omega, by omega, by omega, by omega, by omega, 3, 1952, by omega, by omega, by omega, by omega, by omega, by omega, by omega, by omega, L + 1,
    gc_w_18 hL (L + 1) 0 0 _ _ _ _ _ _ (by omega) (by omega) ⟨by omega, fun p hp => absurd hp (by omega), fun p hp => absurd hp (by omega), gc_T_0, gc_T_0⟩⟩
end
