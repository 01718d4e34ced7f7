section
/-! pasted out of the starting texts COUNTS, NUMBERS, BITS (kit/laws) -/
/-! ===== drawers: more things than places ===== -/
theorem fb_holes : ∀ (m n : Nat) (f : Nat → Nat), (∀ i, i < n → f i < m) → (∀ i j, i < j → j < n → f i ≠ f j) → n ≤ m := by
  intro m
  induction m with
  | zero =>
    intro n f h1 _
    rcases Nat.eq_zero_or_pos n with h | h
    · omega
    · exact absurd (h1 0 h) (Nat.not_lt_zero _)
  | succ m ih =>
    intro n f h1 h2
    by_cases hx : ∃ i, i < n ∧ f i = m
    · obtain ⟨a, ha, hfa⟩ := hx
      have hg := ih (n - 1) (fun i => if i < a then f i else f (i + 1)) (by
        intro i hi
        by_cases q : i < a
        · simp only [if_pos q]
          have b1 := h1 i (by omega)
          have b2 := h2 i a q ha
          omega
        · simp only [if_neg q]
          have b1 := h1 (i + 1) (by omega)
          have b2 := h2 a (i + 1) (by omega) (by omega)
          omega) (by
        intro i j hij hj
        by_cases q : i < a
        · by_cases r : j < a
          · simp only [if_pos q, if_pos r]
            exact h2 i j hij (by omega)
          · simp only [if_pos q, if_neg r]
            exact h2 i (j + 1) (by omega) (by omega)
        · have r : ¬ j < a := by omega
          simp only [if_neg q, if_neg r]
          exact h2 (i + 1) (j + 1) (by omega) (by omega))
      omega
    · have hg := ih n f (fun i hi => by
        have b1 := h1 i hi
        have b2 : f i ≠ m := fun e => hx ⟨i, hi, e⟩
        omega) h2
      omega
/-- two of them in one place -/
theorem fb_twice {m n : Nat} {f : Nat → Nat} (h : ∀ i, i < n → f i < m) (hm : m < n) : ∃ i j, i < j ∧ j < n ∧ f i = f j := by
  refine Classical.byContradiction fun hx => ?_
  have := fb_holes m n f h (fun i j hij hj e => hx ⟨i, j, hij, hj, e⟩)
  omega
/-- as many as places, none twice: each place is taken -/
theorem fb_onto {n : Nat} {f : Nat → Nat} (h : ∀ i, i < n → f i < n) (h2 : ∀ i j, i < j → j < n → f i ≠ f j) {y : Nat} (hy : y < n) : ∃ i, i < n ∧ f i = y := by
  refine Classical.byContradiction fun hx => ?_
  have hne : ∀ i, i < n → f i ≠ y := fun i hi e => hx ⟨i, hi, e⟩
  have := fb_holes (n - 1) n (fun i => if f i < y then f i else f i - 1) (by
    intro i hi
    have b1 := h i hi
    have b2 := hne i hi
    by_cases q : f i < y
    · simp only [if_pos q]; omega
    · simp only [if_neg q]; omega) (by
    intro i j hij hj
    have b1 := hne i (by omega)
    have b2 := hne j hj
    have b3 := h2 i j hij hj
    by_cases q : f i < y
    · by_cases r : f j < y
      · simp only [if_pos q, if_pos r]; exact b3
      · simp only [if_pos q, if_neg r]; omega
    · by_cases r : f j < y
      · simp only [if_neg q, if_pos r]; omega
      · simp only [if_neg q, if_neg r]; omega)
  omega
/-! ===== how many places have a property ===== -/
def fb_ct (p : Nat → Bool) : Nat → Nat
  | 0 => 0
  | n + 1 => fb_ct p n + (if p n then 1 else 0)
theorem fb_ct_succ (p : Nat → Bool) (n : Nat) : fb_ct p (n + 1) = fb_ct p n + (if p n then 1 else 0) := rfl
theorem fb_ct_le (p : Nat → Bool) : ∀ n, fb_ct p n ≤ n
  | 0 => Nat.le_refl _
  | n + 1 => by
    have h := fb_ct_le p n
    rw [fb_ct_succ]
    split <;> omega
theorem fb_ct_step (p : Nat → Bool) (m : Nat) : ∀ n, fb_ct p m ≤ fb_ct p (m + n)
  | 0 => Nat.le_refl _
  | n + 1 => by
    have h := fb_ct_step p m n
    show fb_ct p m ≤ fb_ct p (m + n + 1)
    rw [fb_ct_succ]
    omega
theorem fb_ct_mono (p : Nat → Bool) {m n : Nat} (h : m ≤ n) : fb_ct p m ≤ fb_ct p n := by
  have := fb_ct_step p m (n - m)
  rwa [Nat.add_sub_cancel' h] at this
theorem fb_ct_cong {p q : Nat → Bool} : ∀ {n : Nat}, (∀ k, k < n → p k = q k) → fb_ct p n = fb_ct q n
  | 0, _ => rfl
  | n + 1, h => by
    rw [fb_ct_succ, fb_ct_succ, fb_ct_cong (fun k hk => h k (by omega)), h n (by omega)]
/-- one place changed -/
theorem fb_ct_out (p : Nat → Bool) (b : Bool) {i n : Nat} (h : n ≤ i) : fb_ct (fun k => if k = i then b else p k) n = fb_ct p n :=
  fb_ct_cong fun k hk => if_neg (by omega)
theorem fb_ct_upd (p : Nat → Bool) (b : Bool) {i : Nat} : ∀ {n : Nat}, i < n → fb_ct (fun k => if k = i then b else p k) n + (if p i then 1 else 0) = fb_ct p n + (if b then 1 else 0)
  | 0, h => absurd h (Nat.not_lt_zero i)
  | n + 1, h => by
    rw [fb_ct_succ, fb_ct_succ]
    rcases Nat.lt_or_ge i n with q | q
    · have := fb_ct_upd p b q
      have e : (if n = i then b else p n) = p n := if_neg (by omega)
      rw [e]
      omega
    · have e : i = n := by omega
      subst e
      rw [fb_ct_out p b (Nat.le_refl _)]
      simp only [if_true]
      omega
theorem fb_ct_sub {p q : Nat → Bool} : ∀ {n : Nat}, (∀ k, k < n → p k = true → q k = true) → fb_ct p n ≤ fb_ct q n
  | 0, _ => Nat.le_refl _
  | n + 1, h => by
    have h1 := fb_ct_sub (n := n) (p := p) (q := q) (fun k hk => h k (by omega))
    have h2 := h n (by omega)
    rw [fb_ct_succ, fb_ct_succ]
    cases hp : p n <;> cases hq : q n <;> simp_all <;> omega
theorem fb_ct_or {p q : Nat → Bool} : ∀ {n : Nat}, (∀ k, k < n → ¬ (p k = true ∧ q k = true)) → fb_ct (fun k => p k || q k) n = fb_ct p n + fb_ct q n
  | 0, _ => rfl
  | n + 1, h => by
    have h1 := fb_ct_or (n := n) (p := p) (q := q) (fun k hk => h k (by omega))
    have h2 := h n (by omega)
    rw [fb_ct_succ, fb_ct_succ, fb_ct_succ, h1]
    cases hp : p n <;> cases hq : q n <;> simp_all <;> omega
theorem fb_ct_not (p : Nat → Bool) : ∀ n, fb_ct p n + fb_ct (fun k => !p k) n = n
  | 0 => rfl
  | n + 1 => by
    have h := fb_ct_not p n
    rw [fb_ct_succ, fb_ct_succ]
    cases p n <;> simp <;> omega
theorem fb_ct_split (p : Nat → Bool) (m : Nat) : ∀ n, fb_ct p (m + n) = fb_ct p m + fb_ct (fun k => p (m + k)) n
  | 0 => rfl
  | n + 1 => by
    have h := fb_ct_split p m n
    show fb_ct p (m + n + 1) = _
    rw [fb_ct_succ, fb_ct_succ, h, Nat.add_assoc]
theorem fb_ct_zero {p : Nat → Bool} : ∀ {n : Nat}, fb_ct p n = 0 ↔ ∀ k, k < n → p k = false
  | 0 => ⟨fun _ k hk => absurd hk (Nat.not_lt_zero k), fun _ => rfl⟩
  | n + 1 => by
    have h := fb_ct_zero (p := p) (n := n)
    rw [fb_ct_succ]
    constructor
    · intro e k hk
      have e1 : fb_ct p n = 0 := by omega
      rcases Nat.lt_or_ge k n with q | q
      · exact h.mp e1 k q
      · have ek : k = n := by omega
        subst ek
        cases hp : p k
        · rfl
        · simp [hp] at e
    · intro a
      rw [h.mpr (fun k hk => a k (by omega)), a n (by omega)]
      rfl
theorem fb_ct_pos {p : Nat → Bool} {n : Nat} : 0 < fb_ct p n ↔ ∃ k, k < n ∧ p k = true := by
  constructor
  · intro h
    refine Classical.byContradiction fun hx => ?_
    have := fb_ct_zero.mpr (fun k hk => by
      cases hp : p k
      · rfl
      · exact absurd ⟨k, hk, hp⟩ hx : ∀ k, k < n → p k = false)
    omega
  · rintro ⟨k, hk, hp⟩
    rcases Nat.eq_zero_or_pos (fb_ct p n) with e | e
    · have := fb_ct_zero.mp e k hk
      rw [this] at hp
      cases hp
    · exact e
theorem fb_ct_all {p : Nat → Bool} {n : Nat} : fb_ct p n = n ↔ ∀ k, k < n → p k = true := by
  have h := fb_ct_not p n
  constructor
  · intro e k hk
    have z : fb_ct (fun k => !p k) n = 0 := by omega
    have := fb_ct_zero.mp z k hk
    cases hp : p k
    · simp [hp] at this
    · rfl
  · intro a
    have z : fb_ct (fun k => !p k) n = 0 := fb_ct_zero.mpr (fun k hk => by simp [a k hk])
    omega
/-- the k-th place with the property -/
theorem fb_ct_kth {p : Nat → Bool} {k : Nat} : ∀ {n : Nat}, k < fb_ct p n → ∃ i, i < n ∧ p i = true ∧ fb_ct p i = k
  | 0, h => absurd h (Nat.not_lt_zero k)
  | n + 1, h => by
    rcases Nat.lt_or_ge k (fb_ct p n) with q | q
    · obtain ⟨i, h1, h2⟩ := fb_ct_kth q
      exact ⟨i, by omega, h2⟩
    · rw [fb_ct_succ] at h
      cases hp : p n
      · simp [hp] at h; omega
      · simp [hp] at h
        exact ⟨n, by omega, hp, by omega⟩
theorem fb_ct_kth_one {p : Nat → Bool} {i j : Nat} (hi : p i = true) (hj : p j = true) (e : fb_ct p i = fb_ct p j) : i = j := by
  have key : ∀ a b : Nat, a < b → p a = true → fb_ct p a < fb_ct p b := by
    intro a b hab ha
    have h := fb_ct_mono p (show a + 1 ≤ b from hab)
    rw [fb_ct_succ, ha] at h
    simp at h
    omega
  rcases Nat.lt_trichotomy i j with q | q | q
  · have := key i j q hi; omega
  · exact q
  · have := key j i q hj; omega
/-! ===== the least, the first, the best so far; that there is one alone ===== -/
theorem fb_first {p : Nat → Prop} [DecidablePred p] : ∀ {n : Nat}, (∃ i, i < n ∧ p i) → ∃ i, i < n ∧ p i ∧ ∀ j, j < i → ¬ p j
  | 0, h => by obtain ⟨i, hi, -⟩ := h; exact absurd hi (Nat.not_lt_zero i)
  | n + 1, h => by
    by_cases q : ∃ i, i < n ∧ p i
    · obtain ⟨i, h1, h2⟩ := fb_first q
      exact ⟨i, by omega, h2⟩
    · obtain ⟨i, h1, h2⟩ := h
      have e : i = n := by
        rcases Nat.lt_or_ge i n with r | r
        · exact absurd ⟨i, r, h2⟩ q
        · omega
      subst e
      exact ⟨i, by omega, h2, fun j hj hp => q ⟨j, hj, hp⟩⟩
theorem fb_first_one {p : Nat → Prop} {i j : Nat} (hi : p i) (hi2 : ∀ k, k < i → ¬ p k) (hj : p j) (hj2 : ∀ k, k < j → ¬ p k) : i = j := by
  rcases Nat.lt_trichotomy i j with q | q | q
  · exact absurd hi (hj2 i q)
  · exact q
  · exact absurd hj (hi2 j q)
theorem fb_last {p : Nat → Prop} [DecidablePred p] : ∀ {n : Nat}, (∃ i, i < n ∧ p i) → ∃ i, i < n ∧ p i ∧ ∀ j, i < j → j < n → ¬ p j
  | 0, h => by obtain ⟨i, hi, -⟩ := h; exact absurd hi (Nat.not_lt_zero i)
  | n + 1, h => by
    by_cases q : p n
    · exact ⟨n, by omega, q, fun j h1 h2 => by omega⟩
    · obtain ⟨i, h1, h2⟩ := h
      have hi : i < n := by
        rcases Nat.lt_or_ge i n with r | r
        · exact r
        · have e : i = n := by omega
          subst e
          exact absurd h2 q
      obtain ⟨i2, a1, a2, a3⟩ := fb_last (n := n) ⟨i, hi, h2⟩
      refine ⟨i2, by omega, a2, fun j b1 b2 => ?_⟩
      rcases Nat.lt_or_ge j n with r | r
      · exact a3 j b1 r
      · have e : j = n := by omega
        subst e
        exact q
/-! ===== signed ints as whole numbers, within bounds ===== -/
theorem fb_rng (x : Int32) : -2147483648 ≤ x.toInt ∧ x.toInt < 2147483648 := by
  have h1 := Int32.le_toInt x
  have h2 := Int32.toInt_lt x
  omega
theorem fb_bmod {z : Int} (h1 : -2147483648 ≤ z) (h2 : z < 2147483648) : z.bmod (2 ^ 32) = z := by
  rw [Int.bmod_eq_of_le (by omega) (by omega)]
theorem fb_addI {x y : Int32} (h1 : -2147483648 ≤ x.toInt + y.toInt) (h2 : x.toInt + y.toInt < 2147483648) : (x + y).toInt = x.toInt + y.toInt := by
  rw [Int32.toInt_add, fb_bmod h1 h2]
theorem fb_subI {x y : Int32} (h1 : -2147483648 ≤ x.toInt - y.toInt) (h2 : x.toInt - y.toInt < 2147483648) : (x - y).toInt = x.toInt - y.toInt := by
  rw [Int32.toInt_sub, fb_bmod h1 h2]
theorem fb_mulI {x y : Int32} (h1 : -2147483648 ≤ x.toInt * y.toInt) (h2 : x.toInt * y.toInt < 2147483648) : (x * y).toInt = x.toInt * y.toInt := by
  rw [Int32.toInt_mul, fb_bmod h1 h2]
theorem fb_negI {x : Int32} (h : x.toInt ≠ -2147483648) : (-x).toInt = -x.toInt := by
  have := fb_rng x
  rw [Int32.toInt_neg, fb_bmod (by omega) (by omega)]
theorem fb_ofI {z : Int} (h1 : -2147483648 ≤ z) (h2 : z < 2147483648) : (Int32.ofInt z).toInt = z := by
  rw [Int32.toInt_ofInt, fb_bmod h1 h2]
theorem fb_asI (x : Int32) : Int32.ofInt x.toInt = x := Int32.ofInt_toInt x
theorem fb_rngL (x : Int64) : -9223372036854775808 ≤ x.toInt ∧ x.toInt < 9223372036854775808 := by
  have h1 := Int64.le_toInt x
  have h2 := Int64.toInt_lt x
  omega
theorem fb_bmodL {z : Int} (h1 : -9223372036854775808 ≤ z) (h2 : z < 9223372036854775808) : z.bmod (2 ^ 64) = z := by
  rw [Int.bmod_eq_of_le (by omega) (by omega)]
theorem fb_addL {x y : Int64} (h1 : -9223372036854775808 ≤ x.toInt + y.toInt) (h2 : x.toInt + y.toInt < 9223372036854775808) : (x + y).toInt = x.toInt + y.toInt := by
  rw [Int64.toInt_add, fb_bmodL h1 h2]
theorem fb_subL {x y : Int64} (h1 : -9223372036854775808 ≤ x.toInt - y.toInt) (h2 : x.toInt - y.toInt < 9223372036854775808) : (x - y).toInt = x.toInt - y.toInt := by
  rw [Int64.toInt_sub, fb_bmodL h1 h2]
theorem fb_mulL {x y : Int64} (h1 : -9223372036854775808 ≤ x.toInt * y.toInt) (h2 : x.toInt * y.toInt < 9223372036854775808) : (x * y).toInt = x.toInt * y.toInt := by
  rw [Int64.toInt_mul, fb_bmodL h1 h2]
theorem s_l : ∀ n, n < 32 → ((nI n &&& 31).toBitVec.smod 32).toNat = n := by decide +kernel
/-! ===== order of ints, in all its forms, and through longs ===== -/
theorem fa_lt (a b : Int32) : a < b ↔ a.toInt < b.toInt := Int32.lt_iff_toInt_lt
theorem fa_le (a b : Int32) : a ≤ b ↔ a.toInt ≤ b.toInt := Int32.le_iff_toInt_le
theorem fa_eq (a b : Int32) : a = b ↔ a.toInt = b.toInt := Int32.toInt_inj.symm
theorem fa_lt64 (a b : Int64) : a < b ↔ a.toInt < b.toInt := Int64.lt_iff_toInt_lt
theorem fa_le64 (a b : Int64) : a ≤ b ↔ a.toInt ≤ b.toInt := Int64.le_iff_toInt_le
theorem fa_eq64 (a b : Int64) : a = b ↔ a.toInt = b.toInt := Int64.toInt_inj.symm
/-- a comparison of two ints taken as longs -/
theorem fa_wide_lt (a b : Int32) : a.toInt64 < b.toInt64 ↔ a < b := by rw [fa_lt64, fa_lt, Int32.toInt_toInt64, Int32.toInt_toInt64]
theorem fa_wide_le (a b : Int32) : a.toInt64 ≤ b.toInt64 ↔ a ≤ b := by rw [fa_le64, fa_le, Int32.toInt_toInt64, Int32.toInt_toInt64]
theorem fa_wide_eq (a b : Int32) : a.toInt64 = b.toInt64 ↔ a = b := by rw [fa_eq64, fa_eq, Int32.toInt_toInt64, Int32.toInt_toInt64]
/-- one strict comparison gives all the others -/
theorem fa_of_lt {a b : Int32} (h : a < b) : a ≤ b ∧ ¬ b ≤ a ∧ ¬ b < a ∧ a ≠ b ∧ b ≠ a := by
  rw [fa_lt] at h
  refine ⟨?_, ?_, ?_, ?_, ?_⟩
  · rw [fa_le]; omega
  · rw [fa_le]; omega
  · rw [fa_lt]; omega
  · intro e; rw [fa_eq] at e; omega
  · intro e; rw [fa_eq] at e; omega
theorem fa_of_nlt {a b : Int32} (h : ¬ a < b) : b ≤ a := by
  rw [fa_lt] at h
  rw [fa_le]
  omega
theorem fa_of_nle {a b : Int32} (h : ¬ a ≤ b) : b < a := by
  rw [fa_le] at h
  rw [fa_lt]
  omega
theorem fa_le_ne {a b : Int32} (h : a ≤ b) (h2 : a ≠ b) : a < b := by
  rw [fa_le] at h
  rw [fa_lt]
  have h3 : a.toInt ≠ b.toInt := fun e => h2 ((fa_eq a b).mpr e)
  omega
theorem fa_three (a b : Int32) : a < b ∨ a = b ∨ b < a := by
  rw [fa_lt, fa_lt, fa_eq]
  omega
theorem fa_trans {a b c : Int32} (h : a < b) (h2 : b ≤ c) : a < c := by
  rw [fa_lt] at *
  rw [fa_le] at h2
  omega
/-! ===== small literals as numbers ===== -/
theorem fa_lit (n : Nat) : (OfNat.ofNat n : Int32) = nI n := rfl
theorem fa_litL (n : Nat) : (OfNat.ofNat n : Int64) = lN n := rfl
/-! ===== an answer carried into a post; a branch on a boolean answer ===== -/
theorem fa_post {α : Type} {P : α → Prop} {x y : α} (h : x = y) (hp : P y) : P x := h ▸ hp
theorem fa_post2 {α β : Type} {P : α → β → Prop} {x y : α} {u v : β} (h : x = y) (h2 : u = v) (hp : P y v) : P x u := h ▸ h2 ▸ hp
theorem fa_bool {r : Int32} {b : Bool} (h : r = if b then 1 else 0) : (r = 0 ↔ b = false) ∧ (¬ r = 0 ↔ b = true) := by
  subst h
  cases b
  · exact ⟨⟨fun _ => rfl, fun _ => rfl⟩, ⟨fun h => absurd rfl h, fun h => absurd h (by decide)⟩⟩
  · exact ⟨⟨fun h => absurd h (by decide), fun h => absurd h (by decide)⟩, ⟨fun _ => rfl, fun _ => by decide⟩⟩
/-- a boolean's narrowing changes nothing -/
theorem fa_bool_and {r : Int32} (h : r = 0 ∨ r = 1) : r &&& 1 = r := by
  rcases h with rfl | rfl
  · decide
  · decide
theorem fa_bool_prop {c : Prop} [Decidable c] {r : Int32} (h : r = if c then 1 else 0) : (r = 0 ↔ ¬ c) ∧ (¬ r = 0 ↔ c) := by
  subst h
  by_cases hc : c
  · rw [if_pos hc]
    exact ⟨⟨fun h => absurd h (by decide), fun h => absurd hc h⟩, ⟨fun _ => hc, fun _ => by decide⟩⟩
  · rw [if_neg hc]
    exact ⟨⟨fun _ => hc, fun _ => rfl⟩, ⟨fun h => absurd rfl h, fun h => absurd h hc⟩⟩
end
section
/-! powers by a modulus, orders of units, primes, a primitive root of every prime up to 2039 -/
def dl_ord (p g n : Nat) : Prop := 0 < n ∧ g ^ n % p = 1 ∧ ∀ k, 0 < k → k < n → ¬ g ^ k % p = 1
def dl_prime (p : Nat) : Prop := 2 ≤ p ∧ ∀ d, 2 ≤ d → d < p → ¬ p % d = 0
/-- the moduli -/
def dl_P (p : Nat) : Prop := 3 ≤ p ∧ p ≤ 2039 ∧ dl_prime p
/-- the units -/
def dl_U (p u : Nat) : Prop := 1 ≤ u ∧ u < p
theorem dl_pmul {p a b c d : Nat} (h1 : a % p = c % p) (h2 : b % p = d % p) : a * b % p = c * d % p := by
  rw [Nat.mul_mod, h1, h2, ← Nat.mul_mod]
theorem dl_one {p : Nat} (hp : 1 < p) : 1 % p = 1 := Nat.mod_eq_of_lt hp
theorem dl_pow1 {p a : Nat} (hp : 1 < p) (h : a % p = 1) (k : Nat) : a ^ k % p = 1 := by
  rw [Nat.pow_mod, h, Nat.one_pow, dl_one hp]
theorem dl_powmul {p g n : Nat} (hp : 1 < p) (h : g ^ n % p = 1) (k : Nat) : g ^ (n * k) % p = 1 := by
  rw [Nat.pow_mul]
  exact dl_pow1 hp h k
theorem dl_powmod {p g n : Nat} (hp : 1 < p) (h : g ^ n % p = 1) (k : Nat) : g ^ k % p = g ^ (k % n) % p := by
  have e : g ^ k = g ^ (n * (k / n)) * g ^ (k % n) := by rw [← Nat.pow_add, Nat.div_add_mod]
  rw [e, Nat.mul_mod, dl_powmul hp h, Nat.one_mul, Nat.mod_mod]
theorem dl_ord_dvd {p g n k : Nat} (hp : 1 < p) (h : dl_ord p g n) : g ^ k % p = 1 ↔ n ∣ k := by
  constructor
  · intro hk
    rw [dl_powmod hp h.2.1 k] at hk
    rcases Nat.eq_zero_or_pos (k % n) with z | z
    · exact Nat.dvd_of_mod_eq_zero z
    · exact absurd hk (h.2.2 _ z (Nat.mod_lt _ h.1))
  · rintro ⟨c, rfl⟩
    exact dl_powmul hp h.2.1 c
theorem dl_cancel {p g n i a b : Nat} (hp : 1 < p) (hn : 0 < n) (h : g ^ n % p = 1) (e : g ^ i * a % p = g ^ i * b % p) : a % p = b % p := by
  have k1 : ∀ x, g ^ (n * i - i) * (g ^ i * x) % p = x % p := by
    intro x
    have hle : i ≤ n * i := Nat.le_mul_of_pos_left i hn
    rw [← Nat.mul_assoc, ← Nat.pow_add, Nat.sub_add_cancel hle, Nat.mul_mod, dl_powmul hp h, Nat.one_mul, Nat.mod_mod]
  calc a % p = g ^ (n * i - i) * (g ^ i * a) % p := (k1 a).symm
    _ = g ^ (n * i - i) * (g ^ i * b) % p := dl_pmul rfl e
    _ = b % p := k1 b
theorem dl_inj1 {p g n i j : Nat} (hp : 1 < p) (h : dl_ord p g n) (hij : i ≤ j) (e : g ^ i % p = g ^ j % p) : i % n = j % n := by
  have e2 : g ^ i * 1 % p = g ^ i * g ^ (j - i) % p := by
    rw [← Nat.pow_add, Nat.add_sub_cancel' hij, Nat.mul_one, e]
  have e3 := dl_cancel hp h.1 h.2.1 e2
  rw [dl_one hp] at e3
  obtain ⟨c, hc⟩ := (dl_ord_dvd hp h).mp e3.symm
  have e4 : j = i + n * c := by omega
  rw [e4, Nat.add_mul_mod_self_left]
theorem dl_inj {p g n i j : Nat} (hp : 1 < p) (h : dl_ord p g n) : g ^ i % p = g ^ j % p ↔ i % n = j % n := by
  constructor
  · intro e
    rcases Nat.le_total i j with q | q
    · exact dl_inj1 hp h q e
    · exact (dl_inj1 hp h q e.symm).symm
  · intro e
    rw [dl_powmod hp h.2.1 i, dl_powmod hp h.2.1 j, e]
theorem dl_inj_lt {p g n i j : Nat} (hp : 1 < p) (h : dl_ord p g n) (hi : i < n) (hj : j < n) (e : g ^ i % p = g ^ j % p) : i = j := by
  have e2 := (dl_inj hp h).mp e
  rw [Nat.mod_eq_of_lt hi, Nat.mod_eq_of_lt hj] at e2
  exact e2
theorem dl_ord_uniq {p g n m : Nat} (h : dl_ord p g n) (h2 : dl_ord p g m) : n = m := by
  rcases Nat.lt_trichotomy n m with q | q | q
  · exact absurd h.2.1 (h2.2.2 n h.1 q)
  · exact q
  · exact absurd h2.2.1 (h.2.2 m h2.1 q)
theorem dl_powpos {p g n : Nat} (hp : 1 < p) (h0 : 0 < n) (h : g ^ n % p = 1) (i : Nat) : 0 < g ^ i % p := by
  rcases Nat.eq_zero_or_pos (g ^ i % p) with z | z
  · have e : g ^ i * 1 % p = g ^ i * 0 % p := by rw [Nat.mul_one, Nat.mul_zero, z, Nat.zero_mod]
    have e2 := dl_cancel hp h0 h e
    rw [dl_one hp, Nat.zero_mod] at e2
    omega
  · exact z
theorem dl_pow_mod (p a k : Nat) : (a % p) ^ k % p = a ^ k % p := (Nat.pow_mod a k p).symm
theorem dl_pow_pow (p g i k : Nat) : (g ^ i % p) ^ k % p = g ^ (i * k) % p := by rw [dl_pow_mod, ← Nat.pow_mul]
theorem dl_ord_mod {p g n : Nat} : dl_ord p (g % p) n ↔ dl_ord p g n := by
  unfold dl_ord
  simp only [dl_pow_mod]
/-! ===== primes ===== -/
theorem dl_pf {n : Nat} (h : 2 ≤ n) : ∃ q, dl_prime q ∧ q ∣ n := by
  obtain ⟨q, ⟨h1, h2⟩, h3⟩ := pk_least (fun q => 2 ≤ q ∧ n % q = 0) ⟨n, h, Nat.mod_self n⟩
  refine ⟨q, ⟨h1, fun d hd hq e => ?_⟩, Nat.dvd_of_mod_eq_zero h2⟩
  have d1 : d ∣ n := Nat.dvd_trans (Nat.dvd_of_mod_eq_zero e) (Nat.dvd_of_mod_eq_zero h2)
  exact h3 d hq ⟨hd, Nat.mod_eq_zero_of_dvd d1⟩
theorem dl_cop {q a : Nat} (h : dl_prime q) (hn : ¬ q ∣ a) : Nat.Coprime q a := by
  have h1 := Nat.gcd_dvd_left q a
  have h2 := Nat.gcd_dvd_right q a
  have hq := h.1
  have hle : Nat.gcd q a ≤ q := Nat.le_of_dvd (by omega) h1
  have h0 : 0 < Nat.gcd q a := Nat.gcd_pos_of_pos_left a (by omega)
  rcases Nat.lt_or_ge (Nat.gcd q a) 2 with z | z
  · show Nat.gcd q a = 1
    omega
  · rcases Nat.lt_or_ge (Nat.gcd q a) q with y | y
    · exact absurd (Nat.mod_eq_zero_of_dvd h1) (h.2 _ z y)
    · have e : Nat.gcd q a = q := by omega
      rw [e] at h2
      exact absurd h2 hn
theorem dl_pmul_dvd {q a b : Nat} (h : dl_prime q) (hd : q ∣ a * b) : q ∣ a ∨ q ∣ b := by
  by_cases hn : q ∣ a
  · exact Or.inl hn
  · exact Or.inr ((dl_cop h hn).dvd_of_dvd_mul_left hd)
theorem dl_ppow_dvd {q a : Nat} (h : dl_prime q) : ∀ {k : Nat}, q ∣ a ^ k → q ∣ a
  | 0, hd => by
    have := h.1
    rw [Nat.pow_zero] at hd
    have := Nat.le_of_dvd (by omega) hd
    omega
  | k + 1, hd => by
    rw [Nat.pow_succ] at hd
    rcases dl_pmul_dvd h hd with z | z
    · exact dl_ppow_dvd h z
    · exact z
theorem dl_pp {q r : Nat} (h : dl_prime q) (hr : dl_prime r) (hd : q ∣ r) : q = r := by
  have h1 := h.1
  have h2 := hr.1
  have hle := Nat.le_of_dvd (by omega) hd
  rcases Nat.lt_or_ge q r with z | z
  · exact absurd (Nat.mod_eq_zero_of_dvd hd) (hr.2 q h1 z)
  · omega
theorem dl_cop2 {q r : Nat} (h : dl_prime q) (hr : dl_prime r) (hne : q ≠ r) : Nat.Coprime q r :=
  dl_cop h (fun hd => hne (dl_pp h hr hd))
/-! ===== the table of primitive roots, looked at by the kernel ===== -/
noncomputable def dl_chk (p r n : Nat) : Nat → Bool :=
  Nat.rec (motive := fun _ => Nat → Bool) (fun x => Nat.beq x 1)
    (fun _ ih x => Nat.rec (motive := fun _ => Bool) false (fun y _ => Bool.rec (motive := fun _ => Bool) (ih ((y + 1) * r % p)) false (Nat.beq y 0)) x) n
theorem dl_chk_0 (p r x : Nat) : dl_chk p r 0 x = Nat.beq x 1 := rfl
theorem dl_chk_s0 (p r n : Nat) : dl_chk p r (n + 1) 0 = false := rfl
theorem dl_chk_s (p r n y : Nat) : dl_chk p r (n + 1) (y + 1) = Bool.rec (motive := fun _ => Bool) (dl_chk p r n ((y + 1) * r % p)) false (Nat.beq y 0) := rfl
theorem dl_chk_spec {p r : Nat} : ∀ (n i : Nat), dl_chk p r n (r ^ i % p) = true → r ^ (i + n) % p = 1 ∧ ∀ k, i ≤ k → k < i + n → ¬ r ^ k % p = 1
  | 0, i, h => by
    rw [dl_chk_0] at h
    exact ⟨Nat.eq_of_beq_eq_true h, fun k h1 h2 => by omega⟩
  | n + 1, i, h => by
    cases hx : r ^ i % p with
    | zero => rw [hx, dl_chk_s0] at h; cases h
    | succ y =>
      rw [hx, dl_chk_s] at h
      cases hy : Nat.beq y 0 with
      | true => rw [hy] at h; cases h
      | false =>
        rw [hy] at h
        have h : dl_chk p r n ((y + 1) * r % p) = true := h
        have e : (y + 1) * r % p = r ^ (i + 1) % p := by
          rw [← hx, Nat.pow_succ]
          exact dl_pmul (Nat.mod_mod _ _) rfl
        rw [e] at h
        obtain ⟨h1, h2⟩ := dl_chk_spec n (i + 1) h
        refine ⟨by rw [← h1]; congr 2; omega, fun k h3 h4 => ?_⟩
        rcases Nat.eq_or_lt_of_le h3 with z | z
        · subst z
          rw [hx]
          intro z2
          have : y = 0 := by omega
          subst this
          cases hy
        · exact h2 k z (by omega)
noncomputable def dl_sm (p n : Nat) : Nat → Bool :=
  Nat.rec (motive := fun _ => Nat → Bool) (fun _ => false)
    (fun _ ih d => Bool.rec (motive := fun _ => Bool) (ih (d + 1)) (Nat.ble 2 d && Nat.blt d p) (Nat.beq (p % d) 0)) n
theorem dl_sm_s (p n d : Nat) : dl_sm p (n + 1) d = Bool.rec (motive := fun _ => Bool) (dl_sm p n (d + 1)) (Nat.ble 2 d && Nat.blt d p) (Nat.beq (p % d) 0) := rfl
theorem dl_sm_spec {p : Nat} : ∀ (n d : Nat), dl_sm p n d = true → ∃ k, 2 ≤ k ∧ k < p ∧ p % k = 0
  | 0, d, h => by cases h
  | n + 1, d, h => by
    rw [dl_sm_s] at h
    cases hy : Nat.beq (p % d) 0 with
    | true =>
      rw [hy] at h
      have h : (Nat.ble 2 d && Nat.blt d p) = true := h
      rw [Bool.and_eq_true] at h
      exact ⟨d, Nat.le_of_ble_eq_true h.1, Nat.le_of_ble_eq_true h.2, Nat.eq_of_beq_eq_true hy⟩
    | false =>
      rw [hy] at h
      exact dl_sm_spec n (d + 1) h
/-- one place of the table: a root, or no prime -/
noncomputable def dl_row (p r : Nat) : Bool := Nat.rec (motive := fun _ => Bool) (Nat.blt p 3 || dl_sm p 50 2) (fun _ _ => dl_chk p r (p - 2) (r % p)) r
noncomputable def dl_rows (l : List Nat) : Nat → Bool :=
  List.rec (motive := fun _ => Nat → Bool) (fun _ => true) (fun r _ ih p => Bool.rec (motive := fun _ => Bool) false (ih (p + 1)) (dl_row p r)) l
theorem dl_rows_s (r : Nat) (l : List Nat) (p : Nat) : dl_rows (r :: l) p = Bool.rec (motive := fun _ => Bool) false (dl_rows l (p + 1)) (dl_row p r) := rfl
theorem dl_rows_spec : ∀ (l : List Nat) (p : Nat), dl_rows l p = true → ∀ k, k < l.length → ∃ r, dl_row (p + k) r = true
  | [], _, _, k, hk => absurd hk (Nat.not_lt_zero k)
  | r :: l, p, h, k, hk => by
    rw [dl_rows_s] at h
    cases hy : dl_row p r with
    | false => rw [hy] at h; cases h
    | true =>
      rw [hy] at h
      have h : dl_rows l (p + 1) = true := h
      cases k with
      | zero => exact ⟨r, hy⟩
      | succ k =>
        have hk2 : k < l.length := by
          have : (r :: l).length = l.length + 1 := rfl
          omega
        obtain ⟨r2, h2⟩ := dl_rows_spec l (p + 1) h k hk2
        exact ⟨r2, by rw [← h2]; congr 1; omega⟩
end
section
set_option maxRecDepth 100000 in
def dl_tab : List Nat := [
  0, 0, 0, 2, 0, 2, 0, 3, 0, 0, 0, 2, 0, 2, 0, 0, 0, 3, 0, 2, 0, 0, 0, 5, 0, 0, 0, 0, 0, 2, 0, 3, 0, 0, 0, 0, 0, 2, 0, 0, 0, 6, 0, 3, 0, 0, 0, 5, 0, 0, 0, 0, 0, 2, 0, 0, 0, 0, 0, 2,
  0, 2, 0, 0, 0, 0, 0, 2, 0, 0, 0, 7, 0, 5, 0, 0, 0, 0, 0, 3, 0, 0, 0, 2, 0, 0, 0, 0, 0, 3, 0, 0, 0, 0, 0, 0, 0, 5, 0, 0, 0, 2, 0, 5, 0, 0, 0, 2, 0, 6, 0, 0, 0, 3, 0, 0, 0, 0, 0, 0,
  0, 0, 0, 0, 0, 0, 0, 3, 0, 0, 0, 2, 0, 0, 0, 0, 0, 3, 0, 2, 0, 0, 0, 0, 0, 0, 0, 0, 0, 2, 0, 6, 0, 0, 0, 0, 0, 5, 0, 0, 0, 0, 0, 2, 0, 0, 0, 5, 0, 0, 0, 0, 0, 2, 0, 0, 0, 0, 0, 2,
  0, 2, 0, 0, 0, 0, 0, 0, 0, 0, 0, 19, 0, 5, 0, 0, 0, 2, 0, 3, 0, 0, 0, 0, 0, 0, 0, 0, 0, 0, 0, 2, 0, 0, 0, 0, 0, 0, 0, 0, 0, 0, 0, 3, 0, 0, 0, 2, 0, 6, 0, 0, 0, 3, 0, 0, 0, 0, 0, 7,
  0, 7, 0, 0, 0, 0, 0, 0, 0, 0, 0, 6, 0, 0, 0, 0, 0, 3, 0, 0, 0, 0, 0, 5, 0, 0, 0, 0, 0, 2, 0, 6, 0, 0, 0, 0, 0, 5, 0, 0, 0, 3, 0, 3, 0, 0, 0, 0, 0, 0, 0, 0, 0, 2, 0, 0, 0, 0, 0, 0,
  0, 0, 0, 0, 0, 0, 0, 5, 0, 0, 0, 17, 0, 10, 0, 0, 0, 2, 0, 0, 0, 0, 0, 0, 0, 0, 0, 0, 0, 0, 0, 3, 0, 0, 0, 0, 0, 10, 0, 0, 0, 0, 0, 0, 0, 0, 0, 2, 0, 2, 0, 0, 0, 3, 0, 0, 0, 0, 0, 7,
  0, 0, 0, 0, 0, 0, 0, 6, 0, 0, 0, 0, 0, 2, 0, 0, 0, 0, 0, 2, 0, 0, 0, 5, 0, 0, 0, 0, 0, 2, 0, 0, 0, 0, 0, 0, 0, 5, 0, 0, 0, 3, 0, 0, 0, 0, 0, 0, 0, 21, 0, 0, 0, 0, 0, 0, 0, 0, 0, 2,
  0, 2, 0, 0, 0, 0, 0, 0, 0, 0, 0, 7, 0, 5, 0, 0, 0, 0, 0, 15, 0, 0, 0, 2, 0, 0, 0, 0, 0, 3, 0, 0, 0, 0, 0, 0, 0, 13, 0, 0, 0, 2, 0, 3, 0, 0, 0, 2, 0, 0, 0, 0, 0, 0, 0, 0, 0, 0, 0, 13,
  0, 0, 0, 0, 0, 0, 0, 3, 0, 0, 0, 2, 0, 0, 0, 0, 0, 0, 0, 7, 0, 0, 0, 5, 0, 0, 0, 0, 0, 2, 0, 0, 0, 0, 0, 0, 0, 0, 0, 0, 0, 3, 0, 2, 0, 0, 0, 0, 0, 0, 0, 0, 0, 0, 0, 0, 0, 0, 0, 0,
  0, 2, 0, 0, 0, 0, 0, 2, 0, 0, 0, 0, 0, 0, 0, 0, 0, 2, 0, 0, 0, 0, 0, 2, 0, 0, 0, 0, 0, 3, 0, 3, 0, 0, 0, 0, 0, 5, 0, 0, 0, 0, 0, 0, 0, 0, 0, 2, 0, 0, 0, 0, 0, 3, 0, 0, 0, 0, 0, 7,
  0, 7, 0, 0, 0, 0, 0, 3, 0, 0, 0, 0, 0, 2, 0, 0, 0, 3, 0, 2, 0, 0, 0, 0, 0, 0, 0, 0, 0, 0, 0, 3, 0, 0, 0, 0, 0, 0, 0, 0, 0, 3, 0, 11, 0, 0, 0, 5, 0, 0, 0, 0, 0, 2, 0, 0, 0, 0, 0, 2,
  0, 2, 0, 0, 0, 0, 0, 0, 0, 0, 0, 0, 0, 5, 0, 0, 0, 2, 0, 0, 0, 0, 0, 5, 0, 0, 0, 0, 0, 0, 0, 3, 0, 0, 0, 0, 0, 0, 0, 0, 0, 2, 0, 0, 0, 0, 0, 0, 0, 2, 0, 0, 0, 0, 0, 0, 0, 0, 0, 11,
  0, 0, 0, 0, 0, 0, 0, 5, 0, 0, 0, 0, 0, 6, 0, 0, 0, 0, 0, 3, 0, 0, 0, 5, 0, 0, 0, 0, 0, 0, 0, 3, 0, 0, 0, 0, 0, 2, 0, 0, 0, 6, 0, 0, 0, 0, 0, 0, 0, 11, 0, 0, 0, 2, 0, 0, 0, 0, 0, 0,
  0, 0, 0, 0, 0, 0, 0, 2, 0, 0, 0, 0, 0, 0, 0, 0, 0, 2, 0, 0, 0, 0, 0, 0, 0, 0, 0, 0, 0, 3, 0, 3, 0, 0, 0, 0, 0, 0, 0, 0, 0, 2, 0, 3, 0, 0, 0, 2, 0, 2, 0, 0, 0, 0, 0, 0, 0, 0, 0, 11,
  0, 0, 0, 0, 0, 0, 0, 0, 0, 0, 0, 0, 0, 2, 0, 0, 0, 3, 0, 2, 0, 0, 0, 5, 0, 0, 0, 0, 0, 0, 0, 0, 0, 0, 0, 0, 0, 2, 0, 0, 0, 3, 0, 2, 0, 0, 0, 5, 0, 0, 0, 0, 0, 0, 0, 0, 0, 0, 0, 0,
  0, 0, 0, 0, 0, 0, 0, 2, 0, 0, 0, 17, 0, 0, 0, 0, 0, 0, 0, 7, 0, 0, 0, 0, 0, 0, 0, 0, 0, 3, 0, 0, 0, 0, 0, 0, 0, 5, 0, 0, 0, 2, 0, 0, 0, 0, 0, 2, 0, 0, 0, 0, 0, 3, 0, 0, 0, 0, 0, 0,
  0, 0, 0, 0, 0, 0, 0, 5, 0, 0, 0, 6, 0, 0, 0, 0, 0, 3, 0, 0, 0, 0, 0, 5, 0, 0, 0, 0, 0, 0, 0, 6, 0, 0, 0, 0, 0, 7, 0, 0, 0, 0, 0, 0, 0, 0, 0, 0, 0, 11, 0, 0, 0, 3, 0, 0, 0, 0, 0, 2,
  0, 10, 0, 0, 0, 0, 0, 0, 0, 0, 0, 14, 0, 5, 0, 0, 0, 0, 0, 3, 0, 0, 0, 0, 0, 0, 0, 0, 0, 3, 0, 7, 0, 0, 0, 0, 0, 0, 0, 0, 0, 2, 0, 3, 0, 0, 0, 0, 0, 6, 0, 0, 0, 0, 0, 0, 0, 0, 0, 0,
  0, 0, 0, 0, 0, 0, 0, 3, 0, 0, 0, 2, 0, 5, 0, 0, 0, 3, 0, 0, 0, 0, 0, 5, 0, 0, 0, 0, 0, 2, 0, 0, 0, 0, 0, 0, 0, 2, 0, 0, 0, 0, 0, 2, 0, 0, 0, 0, 0, 11, 0, 0, 0, 0, 0, 0, 0, 0, 0, 0,
  0, 0, 0, 0, 0, 0, 0, 0, 0, 0, 0, 17, 0, 5, 0, 0, 0, 0, 0, 0, 0, 0, 0, 5, 0, 0, 0, 0, 0, 0, 0, 2, 0, 0, 0, 0, 0, 0, 0, 0, 0, 7, 0, 0, 0, 0, 0, 2, 0, 0, 0, 0, 0, 3, 0, 0, 0, 0, 0, 0,
  0, 11, 0, 0, 0, 0, 0, 0, 0, 0, 0, 0, 0, 2, 0, 0, 0, 3, 0, 0, 0, 0, 0, 5, 0, 0, 0, 0, 0, 2, 0, 3, 0, 0, 0, 0, 0, 2, 0, 0, 0, 0, 0, 0, 0, 0, 0, 0, 0, 7, 0, 0, 0, 0, 0, 0, 0, 0, 0, 2,
  0, 0, 0, 0, 0, 0, 0, 0, 0, 0, 0, 0, 0, 0, 0, 0, 0, 2, 0, 3, 0, 0, 0, 2, 0, 0, 0, 0, 0, 6, 0, 2, 0, 0, 0, 0, 0, 10, 0, 0, 0, 2, 0, 6, 0, 0, 0, 2, 0, 0, 0, 0, 0, 0, 0, 0, 0, 0, 0, 13,
  0, 13, 0, 0, 0, 0, 0, 3, 0, 0, 0, 0, 0, 0, 0, 0, 0, 0, 0, 0, 0, 0, 0, 0, 0, 0, 0, 0, 0, 0, 0, 0, 0, 0, 0, 0, 0, 0, 0, 0, 0, 3, 0, 0, 0, 0, 0, 5, 0, 0, 0, 0, 0, 2, 0, 0, 0, 0, 0, 0,
  0, 2, 0, 0, 0, 0, 0, 0, 0, 0, 0, 0, 0, 0, 0, 0, 0, 0, 0, 13, 0, 0, 0, 0, 0, 0, 0, 0, 0, 3, 0, 0, 0, 0, 0, 0, 0, 0, 0, 0, 0, 0, 0, 3, 0, 0, 0, 2, 0, 6, 0, 0, 0, 3, 0, 0, 0, 0, 0, 7,
  0, 0, 0, 0, 0, 0, 0, 3, 0, 0, 0, 2, 0, 2, 0, 0, 0, 0, 0, 3, 0, 0, 0, 0, 0, 0, 0, 0, 0, 0, 0, 6, 0, 0, 0, 0, 0, 0, 0, 0, 0, 3, 0, 2, 0, 0, 0, 5, 0, 14, 0, 0, 0, 2, 0, 0, 0, 0, 0, 2,
  0, 0, 0, 0, 0, 0, 0, 0, 0, 0, 0, 11, 0, 0, 0, 0, 0, 0, 0, 0, 0, 0, 0, 2, 0, 0, 0, 0, 0, 0, 0, 2, 0, 0, 0, 0, 0, 0, 0, 0, 0, 0, 0, 5, 0, 0, 0, 0, 0, 2, 0, 0, 0, 3, 0, 0, 0, 0, 0, 19,
  0, 0, 0, 0, 0, 0, 0, 3, 0, 0, 0, 2, 0, 0, 0, 0, 0, 0, 0, 3, 0, 0, 0, 5, 0, 0, 0, 0, 0, 0, 0, 0, 0, 0, 0, 0, 0, 11, 0, 0, 0, 3, 0, 0, 0, 0, 0, 5, 0, 7, 0, 0, 0, 3, 0, 0, 0, 0, 0, 2,
  0, 2, 0, 0, 0, 0, 0, 3, 0, 0, 0, 0, 0, 0, 0, 0, 0, 2, 0, 0, 0, 0, 0, 0, 0, 0, 0, 0, 0, 0, 0, 0, 0, 0, 0, 0, 0, 11, 0, 0, 0, 0, 0, 3, 0, 0, 0, 2, 0, 2, 0, 0, 0, 0, 0, 0, 0, 0, 0, 0,
  0, 0, 0, 0, 0, 0, 0, 0, 0, 0, 0, 0, 0, 2, 0, 0, 0, 3, 0, 3, 0, 0, 0, 0, 0, 0, 0, 0, 0, 3, 0, 0, 0, 0, 0, 0, 0, 0, 0, 0, 0, 3, 0, 3, 0, 0, 0, 0, 0, 0, 0, 0, 0, 2, 0, 0, 0, 0, 0, 0,
  0, 2, 0, 0, 0, 0, 0, 2, 0, 0, 0, 0, 0, 7, 0, 0, 0, 0, 0, 6, 0, 0, 0, 0, 0, 0, 0, 0, 0, 0, 0, 0, 0, 0, 0, 0, 0, 5, 0, 0, 0, 0, 0, 10, 0, 0, 0, 2, 0, 6, 0, 0, 0, 0, 0, 0, 0, 0, 0, 0,
  0, 11, 0, 0, 0, 0, 0, 0, 0, 0, 0, 6, 0, 0, 0, 0, 0, 0, 0, 0, 0, 0, 0, 5, 0, 0, 0, 0, 0, 0, 0, 3, 0, 0, 0, 0, 0, 0, 0, 0, 0, 0, 0, 0, 0, 0, 0, 5, 0, 0, 0, 0, 0, 0, 0, 0, 0, 0, 0, 0,
  0, 2, 0, 0, 0, 0, 0, 2, 0, 0, 0, 14, 0, 10, 0, 0, 0, 2, 0, 6, 0, 0, 0, 0, 0, 0, 0, 0, 0, 3, 0, 0, 0, 0, 0, 0, 0, 0, 0, 0, 0, 2, 0, 0, 0, 0, 0, 2, 0, 0, 0, 0, 0, 3, 0, 0, 0, 0, 0, 0,
  0, 0, 0, 0, 0, 0, 0, 0, 0, 0, 0, 2, 0, 5, 0, 0, 0, 0, 0, 0, 0, 0, 0, 0, 0, 0, 0, 0, 0, 2, 0, 3, 0, 0, 0, 0, 0, 0, 0, 0, 0, 0, 0, 0, 0, 0, 0, 0, 0, 0, 0, 0, 0, 2, 0, 0, 0, 0, 0, 2,
  0, 0, 0, 0, 0, 0, 0, 2, 0, 0, 0, 0, 0, 5, 0, 0, 0, 2, 0, 3, 0, 0, 0, 5, 0, 0, 0, 0, 0, 0, 0, 3, 0, 0, 0, 0, 0, 5, 0, 0, 0, 0, 0, 0, 0, 0, 0, 2, 0, 2, 0, 0, 0, 0, 0, 0, 0, 0, 0, 7]
set_option maxRecDepth 100000 in
theorem dl_tab_len : dl_tab.length = 2040 := by decide +kernel
set_option maxRecDepth 100000 in
theorem dl_tab_ok : dl_rows dl_tab 0 = true := by decide +kernel
theorem dl_root {p : Nat} (hP : dl_P p) : ∃ r, dl_ord p r (p - 1) := by
  obtain ⟨h3, h9, hp⟩ := hP
  obtain ⟨r, hr⟩ := dl_rows_spec dl_tab 0 dl_tab_ok p (by rw [dl_tab_len]; omega)
  rw [Nat.zero_add] at hr
  cases r with
  | zero =>
    have hr : (Nat.blt p 3 || dl_sm p 50 2) = true := hr
    rw [Bool.or_eq_true] at hr
    rcases hr with z | z
    · have : p + 1 ≤ 3 := Nat.le_of_ble_eq_true z
      omega
    · obtain ⟨k, h1, h2, h4⟩ := dl_sm_spec _ _ z
      exact absurd h4 (hp.2 k h1 h2)
  | succ r =>
    have hr : dl_chk p (r + 1) (p - 2) ((r + 1) % p) = true := hr
    have e : (r + 1) % p = (r + 1) ^ 1 % p := by rw [Nat.pow_one]
    rw [e] at hr
    obtain ⟨h1, h2⟩ := dl_chk_spec _ _ hr
    refine ⟨r + 1, by omega, by rw [show p - 1 = 1 + (p - 2) by omega]; exact h1, fun k h4 h5 => h2 k (by omega) (by omega)⟩
end
section
/-! units of a prime modulus: all are powers of one; orders, logarithms, counts -/
theorem dl_P1 {p : Nat} (h : dl_P p) : 1 < p := by have := h.1; omega
theorem dl_units {p r u : Nat} (hp : 1 < p) (hr : dl_ord p r (p - 1)) (hu : dl_U p u) : ∃ i, i < p - 1 ∧ r ^ i % p = u := by
  have hpos := fun i => dl_powpos hp hr.1 hr.2.1 i
  have hlt : ∀ i, r ^ i % p < p := fun i => Nat.mod_lt _ (by omega)
  obtain ⟨h1, h2⟩ := hu
  obtain ⟨i, hi, e⟩ := fb_onto (n := p - 1) (f := fun i => r ^ i % p - 1) (fun i _ => by
      have a1 := hpos i
      have a2 := hlt i
      show r ^ i % p - 1 < p - 1
      omega) (fun i j hij hj e => by
      have e : r ^ i % p - 1 = r ^ j % p - 1 := e
      have a1 := hpos i
      have a2 := hpos j
      have := dl_inj_lt hp hr (by omega) hj (show r ^ i % p = r ^ j % p by omega)
      omega) (y := u - 1) (by omega)
  have e : r ^ i % p - 1 = u - 1 := e
  have a1 := hpos i
  exact ⟨i, hi, by omega⟩
theorem dl_fermat {p u : Nat} (hP : dl_P p) (hu : dl_U p u) : u ^ (p - 1) % p = 1 := by
  obtain ⟨r, hr⟩ := dl_root hP
  obtain ⟨i, -, rfl⟩ := dl_units (dl_P1 hP) hr hu
  rw [dl_pow_pow, Nat.mul_comm]
  exact dl_powmul (dl_P1 hP) hr.2.1 i
theorem dl_ord_of {p u n : Nat} (hp : 1 < p) (h0 : 0 < n) (h : u ^ n % p = 1) : ∃ k, dl_ord p u k ∧ k ∣ n := by
  obtain ⟨k, ⟨h1, h2⟩, h3⟩ := pk_least (fun k => 0 < k ∧ u ^ k % p = 1) ⟨n, h0, h⟩
  have ho : dl_ord p u k := ⟨h1, h2, fun j hj hjk e => h3 j hjk ⟨hj, e⟩⟩
  exact ⟨k, ho, (dl_ord_dvd hp ho).mp h⟩
theorem dl_ord_ex {p u : Nat} (hP : dl_P p) (hu : dl_U p u) : ∃ n, dl_ord p u n ∧ n ∣ p - 1 :=
  dl_ord_of (dl_P1 hP) (by have := hP.1; omega) (dl_fermat hP hu)
theorem dl_ord_dvdN {p u n : Nat} (hP : dl_P p) (hu : dl_U p u) (h : dl_ord p u n) : n ∣ p - 1 :=
  (dl_ord_dvd (dl_P1 hP) h).mp (dl_fermat hP hu)
theorem dl_ord_le {p u n : Nat} (hP : dl_P p) (hu : dl_U p u) (h : dl_ord p u n) : n ≤ p - 1 :=
  Nat.le_of_dvd (by have := hP.1; omega) (dl_ord_dvdN hP hu h)
/-- a power of a unit is a unit -/
theorem dl_U_pow {p u : Nat} (hP : dl_P p) (hu : dl_U p u) (k : Nat) : dl_U p (u ^ k % p) :=
  ⟨dl_powpos (dl_P1 hP) (by have := hP.1; omega) (dl_fermat hP hu) k, Nat.mod_lt _ (by have := hP.1; omega)⟩
theorem dl_U_self {p u : Nat} (hu : dl_U p u) : u % p = u := Nat.mod_eq_of_lt hu.2
theorem dl_U_mul {p u v : Nat} (hP : dl_P p) (hu : dl_U p u) (hv : dl_U p v) : dl_U p (u * v % p) := by
  obtain ⟨r, hr⟩ := dl_root hP
  obtain ⟨i, -, rfl⟩ := dl_units (dl_P1 hP) hr hu
  obtain ⟨j, -, rfl⟩ := dl_units (dl_P1 hP) hr hv
  have e : r ^ i % p * (r ^ j % p) % p = r ^ (i + j) % p := by rw [← Nat.mul_mod, Nat.pow_add]
  rw [e]
  exact ⟨dl_powpos (dl_P1 hP) hr.1 hr.2.1 _, Nat.mod_lt _ (by have := hP.1; omega)⟩
theorem dl_U_ord {p u n : Nat} (hp : 1 < p) (h : dl_ord p u n) (hlt : u < p) : dl_U p u := by
  refine ⟨?_, hlt⟩
  have := dl_powpos hp h.1 h.2.1 1
  rw [Nat.pow_one, Nat.mod_eq_of_lt hlt] at this
  exact this
theorem dl_ucancel {p u a b : Nat} (hP : dl_P p) (hu : dl_U p u) (e : u * a % p = u * b % p) : a % p = b % p := by
  refine dl_cancel (g := u) (n := p - 1) (i := 1) (dl_P1 hP) (by have := hP.1; omega) (dl_fermat hP hu) ?_
  rw [Nat.pow_one]
  exact e
/-- the order is n if n is a period and no n / q is, q a prime -/
theorem dl_ord_pr {p g n : Nat} (hp : 1 < p) (h0 : 0 < n) (h : g ^ n % p = 1) (hq : ∀ q, dl_prime q → q ∣ n → ¬ g ^ (n / q) % p = 1) : dl_ord p g n := by
  obtain ⟨k, hk, c, hc⟩ := dl_ord_of hp h0 h
  have hk0 := hk.1
  rcases Nat.lt_or_ge c 2 with z | z
  · have : c = 1 := by
      rcases Nat.eq_zero_or_pos c with y | y
      · rw [y, Nat.mul_zero] at hc
        omega
      · omega
    rw [this, Nat.mul_one] at hc
    rw [hc]
    exact hk
  · obtain ⟨q, h1, d, hd⟩ := dl_pf z
    have e : n = q * (k * d) := by rw [hc, hd, Nat.mul_left_comm]
    have hq0 : 0 < q := by have := h1.1; omega
    refine absurd ?_ (hq q h1 ⟨k * d, e⟩)
    rw [e, Nat.mul_div_cancel_left _ hq0]
    exact dl_powmul hp hk.2.1 d
/-- the powers of g are the h that have h ^ n = 1, n the order of g -/
theorem dl_log_ex {p g h n : Nat} (hP : dl_P p) (hg : dl_U p g) (hh : dl_U p h) (ho : dl_ord p g n) (e : h ^ n % p = 1) : ∃ x, x < n ∧ g ^ x % p = h := by
  have hp := dl_P1 hP
  obtain ⟨r, hr⟩ := dl_root hP
  obtain ⟨w, hw⟩ := dl_ord_dvdN hP hg ho
  have hn0 := ho.1
  have hN0 := hr.1
  have hw0 : 0 < w := by
    rcases Nat.eq_zero_or_pos w with z | z
    · rw [z, Nat.mul_zero] at hw
      omega
    · exact z
  have key : ∀ y, dl_U p y → y ^ n % p = 1 → ∃ j, j < n ∧ r ^ (w * j) % p = y := by
    intro y hy ey
    obtain ⟨b, hb, rfl⟩ := dl_units hp hr hy
    rw [dl_pow_pow, dl_ord_dvd hp hr, hw, Nat.mul_comm b n] at ey
    obtain ⟨j, rfl⟩ := Nat.dvd_of_mul_dvd_mul_left hn0 ey
    refine ⟨j, ?_, rfl⟩
    rw [hw, Nat.mul_comm n w] at hb
    exact Nat.lt_of_mul_lt_mul_left hb
  have hx : ∀ x, ∃ j, j < n ∧ r ^ (w * j) % p = g ^ x % p := fun x =>
    key _ (dl_U_pow hP hg x) (by rw [dl_pow_pow, Nat.mul_comm]; exact dl_powmul hp ho.2.1 x)
  obtain ⟨f, hf⟩ := Classical.skolem.mp hx
  obtain ⟨j, hj, ej⟩ := key h hh e
  obtain ⟨x, hx1, hx2⟩ := fb_onto (f := f) (fun i _ => (hf i).1) (fun a b hab hb e2 => by
    have e3 : g ^ a % p = g ^ b % p := by rw [← (hf a).2, ← (hf b).2, e2]
    have := dl_inj_lt hp ho (by omega) hb e3
    omega) hj
  exact ⟨x, hx1, by rw [← (hf x).2, hx2, ej]⟩
/-! ===== inverses ===== -/
theorem dl_inv_pow {p u : Nat} (hP : dl_P p) (hu : dl_U p u) : u * (u ^ (p - 2) % p) % p = 1 := by
  have e : u * (u ^ (p - 2) % p) % p = u ^ (p - 1) % p := by
    have e2 : p - 1 = p - 2 + 1 := by have := hP.1; omega
    rw [e2, Nat.pow_succ, Nat.mul_comm]
    exact dl_pmul (Nat.mod_mod _ _) rfl
  rw [e]
  exact dl_fermat hP hu
theorem dl_inv_ex {k m : Nat} (hm : 0 < m) (h : Nat.gcd k m = 1) : ∃ s, s < m ∧ k * s % m = 1 % m := by
  have hy : 1 % m < m := Nat.mod_lt _ hm
  obtain ⟨i, h1, h2⟩ := fb_onto (n := m) (f := fun i => k * i % m) (fun i _ => Nat.mod_lt _ hm) (fun i j hij hj e => by
    have e : k * i % m = k * j % m := e
    have e2 : k * j = k * i + k * (j - i) := by rw [← Nat.mul_add]; congr 1; omega
    have d : m ∣ k * (j - i) := by
      have e3 : (k * i + k * (j - i)) % m = (k * i + 0) % m := by rw [← e2, Nat.add_zero, e]
      have e4 := Nat.sub_mod_eq_zero_of_mod_eq e3
      rw [Nat.add_zero, Nat.add_sub_cancel_left] at e4
      exact Nat.dvd_of_mod_eq_zero e4
    have d2 : m ∣ j - i := (Nat.Coprime.symm h).dvd_of_dvd_mul_left d
    have := Nat.le_of_dvd (by omega) d2
    omega) hy
  exact ⟨i, h1, h2⟩
/-! ===== counting ===== -/
theorem dl_ct_bij {P : Nat → Bool} {m : Nat} {f : Nat → Nat} : ∀ {n : Nat} (P : Nat → Bool), (∀ i, i < n → f i < m) → (∀ i j, i < j → j < n → f i ≠ f j) → (∀ y, y < m → P y = true → ∃ i, i < n ∧ f i = y) → fb_ct P m = fb_ct (fun i => P (f i)) n
  | 0, P, _, _, h3 => by
    have e : fb_ct P m = 0 := fb_ct_zero.mpr (fun k hk => by
      cases hx : P k with
      | false => rfl
      | true =>
        obtain ⟨i, hi, -⟩ := h3 k hk hx
        exact absurd hi (Nat.not_lt_zero i))
    rw [e]
    rfl
  | n + 1, P, h1, h2, h3 => by
    have hu := fb_ct_upd P false (h1 n (by omega))
    have ih := dl_ct_bij (P := P) (n := n) (fun k => if k = f n then false else P k) (fun i hi => h1 i (by omega)) (fun i j hij hj => h2 i j hij (by omega)) (fun y hy hx => by
      have hx : (if y = f n then false else P y) = true := hx
      by_cases q : y = f n
      · rw [if_pos q] at hx
        cases hx
      · rw [if_neg q] at hx
        obtain ⟨i, hi, e⟩ := h3 y hy hx
        refine ⟨i, ?_, e⟩
        rcases Nat.lt_or_ge i n with z | z
        · exact z
        · have : i = n := by omega
          subst this
          exact absurd e.symm q)
    have hc : fb_ct (fun i => (fun k => if k = f n then false else P k) (f i)) n = fb_ct (fun i => P (f i)) n := fb_ct_cong (fun k hk => by
      have hne : f k ≠ f n := h2 k n hk (by omega)
      show (if f k = f n then false else P (f k)) = P (f k)
      rw [if_neg hne])
    rw [hc] at ih
    rw [fb_ct_succ]
    have hu : fb_ct (fun k => if k = f n then false else P k) m + (if P (f n) = true then 1 else 0) = fb_ct P m + 0 := hu
    rw [ih] at hu
    omega
/-- a count of units is a count of exponents -/
theorem dl_ct_units {p r : Nat} (hp : 1 < p) (hr : dl_ord p r (p - 1)) (P : Nat → Bool) (h0 : P 0 = false) : fb_ct P p = fb_ct (fun i => P (r ^ i % p)) (p - 1) := by
  refine dl_ct_bij (P := P) P (fun i _ => Nat.mod_lt _ (by omega)) (fun i j hij hj e => ?_) (fun y hy hx => ?_)
  · have := dl_inj_lt hp hr (by omega) hj e
    omega
  · have : 1 ≤ y := by
      rcases Nat.eq_zero_or_pos y with z | z
      · rw [z, h0] at hx
        cases hx
      · exact z
    exact dl_units hp hr ⟨this, hy⟩
/-- i below d * m with i % m = c: d of them -/
theorem dl_ct_res {m c : Nat} (hc : c < m) : ∀ d : Nat, fb_ct (fun i => decide (i % m = c)) (m * d) = d
  | 0 => rfl
  | d + 1 => by
    have h1 : fb_ct (fun i => decide (i % m = c)) m = 1 := by
      have hu := fb_ct_upd (fun _ => false) true hc
      have hz : fb_ct (fun _ => false) m = 0 := fb_ct_zero.mpr (fun _ _ => rfl)
      have e : fb_ct (fun i => decide (i % m = c)) m = fb_ct (fun k => if k = c then true else false) m := fb_ct_cong (fun k hk => by
        show decide (k % m = c) = if k = c then true else false
        rw [Nat.mod_eq_of_lt hk]
        by_cases q : k = c
        · rw [if_pos q]
          exact decide_eq_true q
        · rw [if_neg q]
          exact decide_eq_false q)
      rw [hz] at hu
      rw [e]
      have hu : fb_ct (fun k => if k = c then true else false) m + 0 = 0 + 1 := hu
      omega
    have e2 : m * (d + 1) = m + m * d := by rw [Nat.mul_add, Nat.mul_one, Nat.add_comm]
    rw [e2, fb_ct_split, h1]
    have e3 : fb_ct (fun k => decide ((m + k) % m = c)) (m * d) = fb_ct (fun i => decide (i % m = c)) (m * d) := fb_ct_cong (fun k _ => by
      show decide ((m + k) % m = c) = decide (k % m = c)
      rw [Nat.add_mod_left])
    rw [e3, dl_ct_res hc d]
    omega
end
section
-- ===== PART A: goes FIRST, ahead of the names: the tables' words, and 'selects' of the private methods out of them =====
/-- a private method of a class that the tables say can be made, by its rows of tables_1 -/
def lw_okq (q : MethodName × Nat) : Prop := (q.1.cls ≠ "java/lang/invoke/MethodHandle" ∧ q.1.cls ≠ "java/lang/invoke/VarHandle") ∧ Cond.instantiable q.1.cls q.2 ∈ tables_1 ∧ Cond.privateMethod q.1 ∈ tables_1 ∧ Cond.instanceMethod q.1 ∈ tables_1
set_option maxRecDepth 100000
theorem lw_t1 {w : Cond} (h : w ∈ tables_1_1) : w ∈ tables_1 := List.mem_append_left _ h
theorem lw_t2 {w : Cond} (h : w ∈ tables_1_2) : w ∈ tables_1 := List.mem_append_right _ h
theorem lw_p0 : lw_okq (⟨"DlogSolver", "factor", "()V"⟩, 7) := ⟨⟨by decide +kernel, by decide +kernel⟩, lw_t1 (List.mem_of_getElem? (i := 4) rfl), lw_t1 (List.mem_of_getElem? (i := 12) rfl), lw_t1 (List.mem_of_getElem? (i := 13) rfl)⟩
theorem lw_p1 : lw_okq (⟨"DlogSolver", "isPrime", "(I)Z"⟩, 7) := ⟨⟨by decide +kernel, by decide +kernel⟩, lw_t1 (List.mem_of_getElem? (i := 4) rfl), lw_t1 (List.mem_of_getElem? (i := 43) rfl), lw_t1 (List.mem_of_getElem? (i := 44) rfl)⟩
theorem lw_p2 : lw_okq (⟨"DlogSolver", "notUnit", "(I)Z"⟩, 7) := ⟨⟨by decide +kernel, by decide +kernel⟩, lw_t1 (List.mem_of_getElem? (i := 4) rfl), lw_t1 (List.mem_of_getElem? (i := 59) rfl), lw_t1 (List.mem_of_getElem? (i := 60) rfl)⟩
theorem lw_p3 : lw_okq (⟨"DlogSolver", "pow", "(II)I"⟩, 7) := ⟨⟨by decide +kernel, by decide +kernel⟩, lw_t1 (List.mem_of_getElem? (i := 4) rfl), lw_t1 (List.mem_of_getElem? (i := 64) rfl), lw_t1 (List.mem_of_getElem? (i := 65) rfl)⟩
theorem lw_p4 : lw_okq (⟨"DlogSolver", "mul", "(II)I"⟩, 7) := ⟨⟨by decide +kernel, by decide +kernel⟩, lw_t1 (List.mem_of_getElem? (i := 4) rfl), lw_t1 (List.mem_of_getElem? (i := 68) rfl), lw_t1 (List.mem_of_getElem? (i := 69) rfl)⟩
theorem lw_p5 : lw_okq (⟨"DlogSolver", "invert", "(I)I"⟩, 7) := ⟨⟨by decide +kernel, by decide +kernel⟩, lw_t1 (List.mem_of_getElem? (i := 4) rfl), lw_t1 (List.mem_of_getElem? (i := 76) rfl), lw_t1 (List.mem_of_getElem? (i := 77) rfl)⟩
theorem lw_p6 : lw_okq (⟨"DlogSolver", "orderOf", "(I)I"⟩, 7) := ⟨⟨by decide +kernel, by decide +kernel⟩, lw_t1 (List.mem_of_getElem? (i := 4) rfl), lw_t1 (List.mem_of_getElem? (i := 84) rfl), lw_t1 (List.mem_of_getElem? (i := 85) rfl)⟩
theorem lw_p7 : lw_okq (⟨"DlogSolver", "generates", "(I)Z"⟩, 7) := ⟨⟨by decide +kernel, by decide +kernel⟩, lw_t1 (List.mem_of_getElem? (i := 4) rfl), lw_t1 (List.mem_of_getElem? (i := 92) rfl), lw_t1 (List.mem_of_getElem? (i := 93) rfl)⟩
theorem lw_p8 : lw_okq (⟨"DlogSolver", "totient", "(I)I"⟩, 7) := ⟨⟨by decide +kernel, by decide +kernel⟩, lw_t1 (List.mem_of_getElem? (i := 4) rfl), lw_t1 (List.mem_of_getElem? (i := 100) rfl), lw_t1 (List.mem_of_getElem? (i := 101) rfl)⟩
theorem lw_p9 : lw_okq (⟨"DlogSolver", "leastLog", "(II)I"⟩, 7) := ⟨⟨by decide +kernel, by decide +kernel⟩, lw_t1 (List.mem_of_getElem? (i := 4) rfl), lw_t1 (List.mem_of_getElem? (i := 108) rfl), lw_t1 (List.mem_of_getElem? (i := 109) rfl)⟩
theorem lw_p10 : lw_okq (⟨"DlogSolver", "powerLog", "(IIII)I"⟩, 7) := ⟨⟨by decide +kernel, by decide +kernel⟩, lw_t1 (List.mem_of_getElem? (i := 4) rfl), lw_t1 (List.mem_of_getElem? (i := 112) rfl), lw_t1 (List.mem_of_getElem? (i := 113) rfl)⟩
theorem lw_p11 : lw_okq (⟨"DlogSolver", "smallLog", "(III)I"⟩, 7) := ⟨⟨by decide +kernel, by decide +kernel⟩, lw_t1 (List.mem_of_getElem? (i := 4) rfl), lw_t1 (List.mem_of_getElem? (i := 116) rfl), lw_t1 (List.mem_of_getElem? (i := 117) rfl)⟩
theorem lw_p12 : lw_okq (⟨"DlogSolver", "clearTable", "()V"⟩, 7) := ⟨⟨by decide +kernel, by decide +kernel⟩, lw_t1 (List.mem_of_getElem? (i := 4) rfl), lw_t1 (List.mem_of_getElem? (i := 120) rfl), lw_t1 (List.mem_of_getElem? (i := 121) rfl)⟩
theorem lw_p13 : lw_okq (⟨"DlogSolver", "rootUp", "(I)I"⟩, 7) := ⟨⟨by decide +kernel, by decide +kernel⟩, lw_t1 (List.mem_of_getElem? (i := 4) rfl), lw_t1 (List.mem_of_getElem? (i := 124) rfl), lw_t1 (List.mem_of_getElem? (i := 125) rfl)⟩
theorem lw_p14 : lw_okq (⟨"DlogSolver", "cellOf", "(I)I"⟩, 7) := ⟨⟨by decide +kernel, by decide +kernel⟩, lw_t1 (List.mem_of_getElem? (i := 4) rfl), lw_t1 (List.mem_of_getElem? (i := 128) rfl), lw_t1 (List.mem_of_getElem? (i := 129) rfl)⟩
theorem lw_p15 : lw_okq (⟨"DlogSolver", "join", "(IIII)I"⟩, 7) := ⟨⟨by decide +kernel, by decide +kernel⟩, lw_t1 (List.mem_of_getElem? (i := 4) rfl), lw_t1 (List.mem_of_getElem? (i := 132) rfl), lw_t1 (List.mem_of_getElem? (i := 133) rfl)⟩
def lw_privs_1 : List (MethodName × Nat) := [(⟨"DlogSolver", "factor", "()V"⟩, 7), (⟨"DlogSolver", "isPrime", "(I)Z"⟩, 7), (⟨"DlogSolver", "notUnit", "(I)Z"⟩, 7), (⟨"DlogSolver", "pow", "(II)I"⟩, 7), (⟨"DlogSolver", "mul", "(II)I"⟩, 7), (⟨"DlogSolver", "invert", "(I)I"⟩, 7), (⟨"DlogSolver", "orderOf", "(I)I"⟩, 7), (⟨"DlogSolver", "generates", "(I)Z"⟩, 7), (⟨"DlogSolver", "totient", "(I)I"⟩, 7), (⟨"DlogSolver", "leastLog", "(II)I"⟩, 7), (⟨"DlogSolver", "powerLog", "(IIII)I"⟩, 7), (⟨"DlogSolver", "smallLog", "(III)I"⟩, 7), (⟨"DlogSolver", "clearTable", "()V"⟩, 7), (⟨"DlogSolver", "rootUp", "(I)I"⟩, 7), (⟨"DlogSolver", "cellOf", "(I)I"⟩, 7), (⟨"DlogSolver", "join", "(IIII)I"⟩, 7)]
theorem lw_r1 : ∀ q ∈ lw_privs_1, lw_okq q := List.forall_mem_cons.mpr ⟨lw_p0, List.forall_mem_cons.mpr ⟨lw_p1, List.forall_mem_cons.mpr ⟨lw_p2, List.forall_mem_cons.mpr ⟨lw_p3, List.forall_mem_cons.mpr ⟨lw_p4, List.forall_mem_cons.mpr ⟨lw_p5, List.forall_mem_cons.mpr ⟨lw_p6, List.forall_mem_cons.mpr ⟨lw_p7, List.forall_mem_cons.mpr ⟨lw_p8, List.forall_mem_cons.mpr ⟨lw_p9, List.forall_mem_cons.mpr ⟨lw_p10, List.forall_mem_cons.mpr ⟨lw_p11, List.forall_mem_cons.mpr ⟨lw_p12, List.forall_mem_cons.mpr ⟨lw_p13, List.forall_mem_cons.mpr ⟨lw_p14, List.forall_mem_cons.mpr ⟨lw_p15, fun _ h => absurd h List.not_mem_nil⟩⟩⟩⟩⟩⟩⟩⟩⟩⟩⟩⟩⟩⟩⟩⟩
theorem lw_p16 : lw_okq (⟨"DlogSolver", "invertBy", "(II)I"⟩, 7) := ⟨⟨by decide +kernel, by decide +kernel⟩, lw_t1 (List.mem_of_getElem? (i := 4) rfl), lw_t1 (List.mem_of_getElem? (i := 136) rfl), lw_t1 (List.mem_of_getElem? (i := 137) rfl)⟩
theorem lw_p17 : lw_okq (⟨"DlogSolver", "timesBy", "(III)I"⟩, 7) := ⟨⟨by decide +kernel, by decide +kernel⟩, lw_t1 (List.mem_of_getElem? (i := 4) rfl), lw_t1 (List.mem_of_getElem? (i := 140) rfl), lw_t1 (List.mem_of_getElem? (i := 141) rfl)⟩
theorem lw_p18 : lw_okq (⟨"DlogSolver", "badRoot", "(II)Z"⟩, 7) := ⟨⟨by decide +kernel, by decide +kernel⟩, lw_t1 (List.mem_of_getElem? (i := 4) rfl), lw_t1 (List.mem_of_getElem? (i := 148) rfl), lw_t1 (List.mem_of_getElem? (i := 149) rfl)⟩
theorem lw_p19 : lw_okq (⟨"DlogSolver", "gcd", "(II)I"⟩, 7) := ⟨⟨by decide +kernel, by decide +kernel⟩, lw_t1 (List.mem_of_getElem? (i := 4) rfl), lw_t1 (List.mem_of_getElem? (i := 153) rfl), lw_t1 (List.mem_of_getElem? (i := 154) rfl)⟩
theorem lw_p20 : lw_okq (⟨"DlogSolverModel", "isPrime", "(I)Z"⟩, 2) := ⟨⟨by decide +kernel, by decide +kernel⟩, lw_t1 (List.mem_of_getElem? (i := 177) rfl), lw_t1 (List.mem_of_getElem? (i := 195) rfl), lw_t1 (List.mem_of_getElem? (i := 196) rfl)⟩
theorem lw_p21 : lw_okq (⟨"DlogSolverModel", "isUnit", "(I)Z"⟩, 2) := ⟨⟨by decide +kernel, by decide +kernel⟩, lw_t1 (List.mem_of_getElem? (i := 177) rfl), lw_t1 (List.mem_of_getElem? (i := 211) rfl), lw_t1 (List.mem_of_getElem? (i := 212) rfl)⟩
theorem lw_p22 : lw_okq (⟨"DlogSolverModel", "raised", "(II)I"⟩, 2) := ⟨⟨by decide +kernel, by decide +kernel⟩, lw_t1 (List.mem_of_getElem? (i := 177) rfl), lw_t1 (List.mem_of_getElem? (i := 216) rfl), lw_t1 (List.mem_of_getElem? (i := 217) rfl)⟩
theorem lw_p23 : lw_okq (⟨"DlogSolverModel", "orderOf", "(I)I"⟩, 2) := ⟨⟨by decide +kernel, by decide +kernel⟩, lw_t1 (List.mem_of_getElem? (i := 177) rfl), lw_t1 (List.mem_of_getElem? (i := 228) rfl), lw_t1 (List.mem_of_getElem? (i := 229) rfl)⟩
theorem lw_p24 : lw_okq (⟨"DlogSolverModel", "isExponent", "(I)Z"⟩, 2) := ⟨⟨by decide +kernel, by decide +kernel⟩, lw_t1 (List.mem_of_getElem? (i := 177) rfl), lw_t2 (List.mem_of_getElem? (i := 16) rfl), lw_t2 (List.mem_of_getElem? (i := 17) rfl)⟩
def lw_privs_2 : List (MethodName × Nat) := [(⟨"DlogSolver", "invertBy", "(II)I"⟩, 7), (⟨"DlogSolver", "timesBy", "(III)I"⟩, 7), (⟨"DlogSolver", "badRoot", "(II)Z"⟩, 7), (⟨"DlogSolver", "gcd", "(II)I"⟩, 7), (⟨"DlogSolverModel", "isPrime", "(I)Z"⟩, 2), (⟨"DlogSolverModel", "isUnit", "(I)Z"⟩, 2), (⟨"DlogSolverModel", "raised", "(II)I"⟩, 2), (⟨"DlogSolverModel", "orderOf", "(I)I"⟩, 2), (⟨"DlogSolverModel", "isExponent", "(I)Z"⟩, 2)]
theorem lw_r2 : ∀ q ∈ lw_privs_2, lw_okq q := List.forall_mem_cons.mpr ⟨lw_p16, List.forall_mem_cons.mpr ⟨lw_p17, List.forall_mem_cons.mpr ⟨lw_p18, List.forall_mem_cons.mpr ⟨lw_p19, List.forall_mem_cons.mpr ⟨lw_p20, List.forall_mem_cons.mpr ⟨lw_p21, List.forall_mem_cons.mpr ⟨lw_p22, List.forall_mem_cons.mpr ⟨lw_p23, List.forall_mem_cons.mpr ⟨lw_p24, fun _ h => absurd h List.not_mem_nil⟩⟩⟩⟩⟩⟩⟩⟩⟩
def lw_privs : List (MethodName × Nat) := lw_privs_1 ++ (lw_privs_2)
def lw_tbl : List Cond := k2_sels lw_privs ++ tables_1
theorem lw_privs_ok : ∀ q ∈ lw_privs, lw_okq q := by
  show ∀ q ∈ lw_privs_1 ++ (lw_privs_2), lw_okq q
  exact List.forall_mem_append.mpr ⟨lw_r1, lw_r2⟩
-- ===== ONE list of words for every method: the tables' words that hold all through a run =====
def lw_all : List Cond := lw_tbl.filter goodWord
/-- a word of the tables by its place: claim/WORDS.tsv -/
theorem lw_w {w : Cond} (i : Nat) (h : lw_tbl[i]? = some w) (g : goodWord w = true) : w ∈ lw_all := List.mem_filter.mpr ⟨List.mem_of_getElem? h, g⟩
theorem lw_all_tbl {w : Cond} (h : w ∈ lw_all) : w ∈ lw_tbl := (List.mem_filter.mp h).1
theorem lw_self : GoodIn lw_all lw_all := fun w h => ⟨h, good_of_word (List.mem_filter.mp h).2⟩
/-- a class's field words, by their places -/
theorem lw_in (ws : List Cond) (ps : List Nat) (hp : ws = ps.filterMap (fun i => lw_tbl[i]?)) (hg : ws.all goodWord = true) : ∀ w ∈ ws, w ∈ lw_all := by
  intro w h
  have h1 := List.all_eq_true.mp hg w h
  rw [hp] at h
  obtain ⟨i, -, hi⟩ := List.mem_filterMap.mp h
  exact lw_w i hi h1
/-- the words of a contract for the method y with code b, L locals, answer r -/
abbrev ws_ (y : MethodName) (b : ByteArray) (L : Nat) (r : Option FieldType) : List Cond := Cond.code y b L r :: lw_all
theorem lw_meth {y : MethodName} {b : ByteArray} {L : Nat} {r : Option FieldType} (h : Cond.code y b L r ∈ lw_all) : GoodIn lw_all (ws_ y b L r) := by
  intro w hw
  rcases List.mem_cons.mp hw with e | e
  · rw [e]
    exact lw_self _ h
  · exact lw_self _ e
theorem lw_app {a c : List Cond} (ha : ∀ w ∈ a, w ∈ lw_all) (hc : GoodIn lw_all c) : GoodIn lw_all (a ++ c) := by
  intro w hw
  rcases List.mem_append.mp hw with e | e
  · exact lw_self w (ha w e)
  · exact hc w e
/-- what a call through an object asks: cwV n hts (lw_V ..) -/
theorem lw_V {own : String} {idx : Nat} {C : String} {y : MethodName} {b : ByteArray} {L : Nat} {r : Option FieldType} (h1 : Cond.methodLink own idx y ∈ lw_all) (h2 : Cond.instanceMethod y ∈ lw_all) (h3 : Cond.selects C y y ∈ lw_all) (h4 : Cond.initialized C ∈ lw_all) (h5 : Cond.code y b L r ∈ lw_all) : GoodIn lw_all (wsV own idx C y (ws_ y b L r)) := by
  refine lw_app ?_ (lw_meth h5)
  intro w hw
  simp only [List.mem_cons, List.not_mem_nil, or_false] at hw
  rcases hw with e | e | e | e
  · rw [e]; exact h1
  · rw [e]; exact h2
  · rw [e]; exact h3
  · rw [e]; exact h4
/-- what a static call asks: va_cwS n hts (lw_S ..) -/
theorem lw_S {own : String} {idx : Nat} {y : MethodName} {b : ByteArray} {L : Nat} {r : Option FieldType} (h1 : Cond.methodLink own idx y ∈ lw_all) (h2 : Cond.static y ∈ lw_all) (h3 : Cond.initialized y.cls ∈ lw_all) (h4 : Cond.code y b L r ∈ lw_all) : GoodIn lw_all (va_wsS own idx y (ws_ y b L r)) := by
  refine lw_app ?_ (lw_meth h4)
  intro w hw
  simp only [List.mem_cons, List.not_mem_nil, or_false] at hw
  rcases hw with e | e | e
  · rw [e]; exact h1
  · rw [e]; exact h2
  · rw [e]; exact h3
/-- the words of a contract for a method WITH HANDLERS (hh: its table) -/
abbrev wsW_ (y : MethodName) (b : ByteArray) (L : Nat) (r : Option FieldType) (hh : List (Nat × Nat × Nat × Nat)) : List Cond := Cond.codeWith y b L r hh :: lw_all
theorem lw_methW {y : MethodName} {b : ByteArray} {L : Nat} {r : Option FieldType} {hh : List (Nat × Nat × Nat × Nat)} (h : Cond.codeWith y b L r hh ∈ lw_all) : GoodIn lw_all (wsW_ y b L r hh) := by
  intro w hw
  rcases List.mem_cons.mp hw with e | e
  · rw [e]
    exact lw_self _ h
  · exact lw_self _ e
/-- any list of words by their places (lw_in), good -/
theorem lw_good {ws : List Cond} (h : ∀ w ∈ ws, w ∈ lw_all) : GoodIn lw_all ws := fun w hw => lw_self w (h w hw)
/-- what a call of a method with handlers asks: vx_cwVW n hts (lw_VW ..), vx_cwSW n hts (lw_SW ..) -/
theorem lw_VW {own : String} {idx : Nat} {C : String} {y : MethodName} {b : ByteArray} {L : Nat} {r : Option FieldType} {hh : List (Nat × Nat × Nat × Nat)} (h1 : Cond.methodLink own idx y ∈ lw_all) (h2 : Cond.instanceMethod y ∈ lw_all) (h3 : Cond.selects C y y ∈ lw_all) (h4 : Cond.initialized C ∈ lw_all) (h5 : Cond.codeWith y b L r hh ∈ lw_all) : GoodIn lw_all (wsV own idx C y (wsW_ y b L r hh)) := by
  refine lw_app ?_ (lw_methW h5)
  intro w hw
  simp only [List.mem_cons, List.not_mem_nil, or_false] at hw
  rcases hw with e | e | e | e
  · rw [e]; exact h1
  · rw [e]; exact h2
  · rw [e]; exact h3
  · rw [e]; exact h4
theorem lw_SW {own : String} {idx : Nat} {y : MethodName} {b : ByteArray} {L : Nat} {r : Option FieldType} {hh : List (Nat × Nat × Nat × Nat)} (h1 : Cond.methodLink own idx y ∈ lw_all) (h2 : Cond.static y ∈ lw_all) (h3 : Cond.initialized y.cls ∈ lw_all) (h4 : Cond.codeWith y b L r hh ∈ lw_all) : GoodIn lw_all (va_wsS own idx y (wsW_ y b L r hh)) := by
  refine lw_app ?_ (lw_methW h4)
  intro w hw
  simp only [List.mem_cons, List.not_mem_nil, or_false] at hw
  rcases hw with e | e | e
  · rw [e]; exact h1
  · rw [e]; exact h2
  · rw [e]; exact h3
/-- a word by its place in its run of the tables -/
theorem lw_at {r : List Cond} (hr : ∀ w ∈ r, w ∈ lw_tbl) {w : Cond} (i : Nat) (h : r[i]? = some w) : w ∈ lw_tbl := hr w (List.mem_of_getElem? h)
theorem lw_g {w : Cond} (h : w ∈ lw_tbl) (g : goodWord w = true) : w ∈ lw_all := List.mem_filter.mpr ⟨h, g⟩
theorem lw_ms : ∀ w ∈ k2_sels lw_privs, w ∈ lw_tbl := fun w h => show w ∈ k2_sels lw_privs ++ tables_1 from List.mem_append_left _ h
theorem lw_m1 : ∀ w ∈ tables_1_1, w ∈ lw_tbl := fun w h => show w ∈ k2_sels lw_privs ++ tables_1 from List.mem_append_right (k2_sels lw_privs) (show w ∈ tables_1 from List.mem_append_left _ h)
theorem lw_m2 : ∀ w ∈ tables_1_2, w ∈ lw_tbl := fun w h => show w ∈ k2_sels lw_privs ++ tables_1 from List.mem_append_right (k2_sels lw_privs) (show w ∈ tables_1 from List.mem_append_right _ h)
theorem qs0 : (Cond.selects "DlogSolver" ⟨"DlogSolver", "factor", "()V"⟩ ⟨"DlogSolver", "factor", "()V"⟩) ∈ lw_all := lw_g (lw_at lw_ms 0 rfl) rfl
theorem qs1 : (Cond.selects "DlogSolver" ⟨"DlogSolver", "isPrime", "(I)Z"⟩ ⟨"DlogSolver", "isPrime", "(I)Z"⟩) ∈ lw_all := lw_g (lw_at lw_ms 1 rfl) rfl
theorem qs2 : (Cond.selects "DlogSolver" ⟨"DlogSolver", "notUnit", "(I)Z"⟩ ⟨"DlogSolver", "notUnit", "(I)Z"⟩) ∈ lw_all := lw_g (lw_at lw_ms 2 rfl) rfl
theorem qs3 : (Cond.selects "DlogSolver" ⟨"DlogSolver", "pow", "(II)I"⟩ ⟨"DlogSolver", "pow", "(II)I"⟩) ∈ lw_all := lw_g (lw_at lw_ms 3 rfl) rfl
theorem qs4 : (Cond.selects "DlogSolver" ⟨"DlogSolver", "mul", "(II)I"⟩ ⟨"DlogSolver", "mul", "(II)I"⟩) ∈ lw_all := lw_g (lw_at lw_ms 4 rfl) rfl
theorem qs5 : (Cond.selects "DlogSolver" ⟨"DlogSolver", "invert", "(I)I"⟩ ⟨"DlogSolver", "invert", "(I)I"⟩) ∈ lw_all := lw_g (lw_at lw_ms 5 rfl) rfl
theorem qs6 : (Cond.selects "DlogSolver" ⟨"DlogSolver", "orderOf", "(I)I"⟩ ⟨"DlogSolver", "orderOf", "(I)I"⟩) ∈ lw_all := lw_g (lw_at lw_ms 6 rfl) rfl
theorem qs7 : (Cond.selects "DlogSolver" ⟨"DlogSolver", "generates", "(I)Z"⟩ ⟨"DlogSolver", "generates", "(I)Z"⟩) ∈ lw_all := lw_g (lw_at lw_ms 7 rfl) rfl
theorem qs8 : (Cond.selects "DlogSolver" ⟨"DlogSolver", "totient", "(I)I"⟩ ⟨"DlogSolver", "totient", "(I)I"⟩) ∈ lw_all := lw_g (lw_at lw_ms 8 rfl) rfl
theorem qs9 : (Cond.selects "DlogSolver" ⟨"DlogSolver", "leastLog", "(II)I"⟩ ⟨"DlogSolver", "leastLog", "(II)I"⟩) ∈ lw_all := lw_g (lw_at lw_ms 9 rfl) rfl
theorem qs10 : (Cond.selects "DlogSolver" ⟨"DlogSolver", "powerLog", "(IIII)I"⟩ ⟨"DlogSolver", "powerLog", "(IIII)I"⟩) ∈ lw_all := lw_g (lw_at lw_ms 10 rfl) rfl
theorem qs11 : (Cond.selects "DlogSolver" ⟨"DlogSolver", "smallLog", "(III)I"⟩ ⟨"DlogSolver", "smallLog", "(III)I"⟩) ∈ lw_all := lw_g (lw_at lw_ms 11 rfl) rfl
theorem qs12 : (Cond.selects "DlogSolver" ⟨"DlogSolver", "clearTable", "()V"⟩ ⟨"DlogSolver", "clearTable", "()V"⟩) ∈ lw_all := lw_g (lw_at lw_ms 12 rfl) rfl
theorem qs13 : (Cond.selects "DlogSolver" ⟨"DlogSolver", "rootUp", "(I)I"⟩ ⟨"DlogSolver", "rootUp", "(I)I"⟩) ∈ lw_all := lw_g (lw_at lw_ms 13 rfl) rfl
theorem qs14 : (Cond.selects "DlogSolver" ⟨"DlogSolver", "cellOf", "(I)I"⟩ ⟨"DlogSolver", "cellOf", "(I)I"⟩) ∈ lw_all := lw_g (lw_at lw_ms 14 rfl) rfl
theorem qs15 : (Cond.selects "DlogSolver" ⟨"DlogSolver", "join", "(IIII)I"⟩ ⟨"DlogSolver", "join", "(IIII)I"⟩) ∈ lw_all := lw_g (lw_at lw_ms 15 rfl) rfl
theorem qs16 : (Cond.selects "DlogSolver" ⟨"DlogSolver", "invertBy", "(II)I"⟩ ⟨"DlogSolver", "invertBy", "(II)I"⟩) ∈ lw_all := lw_g (lw_at lw_ms 16 rfl) rfl
theorem qs17 : (Cond.selects "DlogSolver" ⟨"DlogSolver", "timesBy", "(III)I"⟩ ⟨"DlogSolver", "timesBy", "(III)I"⟩) ∈ lw_all := lw_g (lw_at lw_ms 17 rfl) rfl
theorem qs18 : (Cond.selects "DlogSolver" ⟨"DlogSolver", "badRoot", "(II)Z"⟩ ⟨"DlogSolver", "badRoot", "(II)Z"⟩) ∈ lw_all := lw_g (lw_at lw_ms 18 rfl) rfl
theorem qs19 : (Cond.selects "DlogSolver" ⟨"DlogSolver", "gcd", "(II)I"⟩ ⟨"DlogSolver", "gcd", "(II)I"⟩) ∈ lw_all := lw_g (lw_at lw_ms 19 rfl) rfl
theorem qs20 : (Cond.selects "DlogSolverModel" ⟨"DlogSolverModel", "isPrime", "(I)Z"⟩ ⟨"DlogSolverModel", "isPrime", "(I)Z"⟩) ∈ lw_all := lw_g (lw_at lw_ms 20 rfl) rfl
theorem qs21 : (Cond.selects "DlogSolverModel" ⟨"DlogSolverModel", "isUnit", "(I)Z"⟩ ⟨"DlogSolverModel", "isUnit", "(I)Z"⟩) ∈ lw_all := lw_g (lw_at lw_ms 21 rfl) rfl
theorem qs22 : (Cond.selects "DlogSolverModel" ⟨"DlogSolverModel", "raised", "(II)I"⟩ ⟨"DlogSolverModel", "raised", "(II)I"⟩) ∈ lw_all := lw_g (lw_at lw_ms 22 rfl) rfl
theorem qs23 : (Cond.selects "DlogSolverModel" ⟨"DlogSolverModel", "orderOf", "(I)I"⟩ ⟨"DlogSolverModel", "orderOf", "(I)I"⟩) ∈ lw_all := lw_g (lw_at lw_ms 23 rfl) rfl
theorem qs24 : (Cond.selects "DlogSolverModel" ⟨"DlogSolverModel", "isExponent", "(I)Z"⟩ ⟨"DlogSolverModel", "isExponent", "(I)Z"⟩) ∈ lw_all := lw_g (lw_at lw_ms 24 rfl) rfl
end
section
set_option maxRecDepth 100000
/-! DlogSolver -/
def RX0 : String := "DlogSolver"
def TX0 : u_T := fun k => match k with
  | 0 => ("DlogSolver", "p", "I", false)
  | 1 => ("DlogSolver", "order", "I", false)
  | 2 => ("DlogSolver", "factors", "I", false)
  | 3 => ("DlogSolver", "base", "[I", true)
  | 4 => ("DlogSolver", "times", "[I", true)
  | 5 => ("DlogSolver", "key", "[I", true)
  | _ => ("DlogSolver", "step", "[I", true)
def tyX0 : Nat → FieldType := fun k => match k with
  | 0 => .int
  | 1 => .int
  | 2 => .int
  | 3 => .array .int
  | 4 => .array .int
  | 5 => .array .int
  | _ => .array .int
abbrev wsX00 : List Cond := u_ws RX0 TX0 7
theorem nmX0 : ∀ a, a < 7 → ∀ b, b < 7 → a ≠ b → (TX0 a).2.1 ≠ (TX0 b).2.1 := by decide +kernel
theorem tyX0_ok : ∀ k, k < 7 → parseFieldDescriptor (TX0 k).2.2.1 = some (tyX0 k) := by decide +kernel
abbrev cX0_init : ByteArray := prog_1_method_1_code
def yX0_init : MethodName := ⟨RX0, "<init>", "()V"⟩
abbrev cX0_factor : ByteArray := prog_1_method_6_code
def yX0_factor : MethodName := ⟨RX0, "factor", "()V"⟩
abbrev cX0_prime : ByteArray := prog_1_method_3_code
def yX0_prime : MethodName := ⟨RX0, "prime", "(I)I"⟩
abbrev cX0_isPrime : ByteArray := prog_1_method_2_code
def yX0_isPrime : MethodName := ⟨RX0, "isPrime", "(I)Z"⟩
abbrev cX0_modulus : ByteArray := prog_1_method_4_code
def yX0_modulus : MethodName := ⟨RX0, "modulus", "()I"⟩
abbrev cX0_nextPrime : ByteArray := prog_1_method_5_code
def yX0_nextPrime : MethodName := ⟨RX0, "nextPrime", "()I"⟩
abbrev cX0_power : ByteArray := prog_1_method_10_code
def yX0_power : MethodName := ⟨RX0, "power", "(II)I"⟩
abbrev cX0_notUnit : ByteArray := prog_1_method_7_code
def yX0_notUnit : MethodName := ⟨RX0, "notUnit", "(I)Z"⟩
abbrev cX0_pow : ByteArray := prog_1_method_9_code
def yX0_pow : MethodName := ⟨RX0, "pow", "(II)I"⟩
abbrev cX0_mul : ByteArray := prog_1_method_8_code
def yX0_mul : MethodName := ⟨RX0, "mul", "(II)I"⟩
abbrev cX0_inverse : ByteArray := prog_1_method_12_code
def yX0_inverse : MethodName := ⟨RX0, "inverse", "(I)I"⟩
abbrev cX0_invert : ByteArray := prog_1_method_11_code
def yX0_invert : MethodName := ⟨RX0, "invert", "(I)I"⟩
abbrev cX0_order : ByteArray := prog_1_method_14_code
def yX0_order : MethodName := ⟨RX0, "order", "(I)I"⟩
abbrev cX0_orderOf : ByteArray := prog_1_method_13_code
def yX0_orderOf : MethodName := ⟨RX0, "orderOf", "(I)I"⟩
abbrev cX0_generator : ByteArray := prog_1_method_16_code
def yX0_generator : MethodName := ⟨RX0, "generator", "()I"⟩
abbrev cX0_generates : ByteArray := prog_1_method_15_code
def yX0_generates : MethodName := ⟨RX0, "generates", "(I)Z"⟩
abbrev cX0_generators : ByteArray := prog_1_method_18_code
def yX0_generators : MethodName := ⟨RX0, "generators", "()I"⟩
abbrev cX0_totient : ByteArray := prog_1_method_17_code
def yX0_totient : MethodName := ⟨RX0, "totient", "(I)I"⟩
abbrev cX0_log : ByteArray := prog_1_method_29_code
def yX0_log : MethodName := ⟨RX0, "log", "(II)I"⟩
abbrev cX0_leastLog : ByteArray := prog_1_method_27_code
def yX0_leastLog : MethodName := ⟨RX0, "leastLog", "(II)I"⟩
abbrev cX0_powerLog : ByteArray := prog_1_method_26_code
def yX0_powerLog : MethodName := ⟨RX0, "powerLog", "(IIII)I"⟩
abbrev cX0_smallLog : ByteArray := prog_1_method_25_code
def yX0_smallLog : MethodName := ⟨RX0, "smallLog", "(III)I"⟩
abbrev cX0_clearTable : ByteArray := prog_1_method_22_code
def yX0_clearTable : MethodName := ⟨RX0, "clearTable", "()V"⟩
abbrev cX0_rootUp : ByteArray := prog_1_method_24_code
def yX0_rootUp : MethodName := ⟨RX0, "rootUp", "(I)I"⟩
abbrev cX0_cellOf : ByteArray := prog_1_method_23_code
def yX0_cellOf : MethodName := ⟨RX0, "cellOf", "(I)I"⟩
abbrev cX0_join : ByteArray := prog_1_method_28_code
def yX0_join : MethodName := ⟨RX0, "join", "(IIII)I"⟩
abbrev cX0_invertBy : ByteArray := prog_1_method_20_code
def yX0_invertBy : MethodName := ⟨RX0, "invertBy", "(II)I"⟩
abbrev cX0_timesBy : ByteArray := prog_1_method_21_code
def yX0_timesBy : MethodName := ⟨RX0, "timesBy", "(III)I"⟩
abbrev cX0_root : ByteArray := prog_1_method_31_code
def yX0_root : MethodName := ⟨RX0, "root", "(II)I"⟩
abbrev cX0_badRoot : ByteArray := prog_1_method_30_code
def yX0_badRoot : MethodName := ⟨RX0, "badRoot", "(II)Z"⟩
abbrev cX0_gcd : ByteArray := prog_1_method_19_code
def yX0_gcd : MethodName := ⟨RX0, "gcd", "(II)I"⟩
abbrev cX0_roots : ByteArray := prog_1_method_32_code
def yX0_roots : MethodName := ⟨RX0, "roots", "(II)I"⟩
abbrev cX0_logWith : ByteArray := prog_1_method_33_code
def yX0_logWith : MethodName := ⟨RX0, "logWith", "(IIII)I"⟩
abbrev cX0_common : ByteArray := prog_1_method_34_code
def yX0_common : MethodName := ⟨RX0, "common", "(II)I"⟩
abbrev cX0_unitOfOrder : ByteArray := prog_1_method_35_code
def yX0_unitOfOrder : MethodName := ⟨RX0, "unitOfOrder", "(I)I"⟩
abbrev cX0_unitsOfOrder : ByteArray := prog_1_method_36_code
def yX0_unitsOfOrder : MethodName := ⟨RX0, "unitsOfOrder", "(I)I"⟩
theorem q26 : (Jvm.Cond.initialized "DlogSolver") ∈ lw_all := lw_g (lw_at lw_m1 1 rfl) rfl
theorem q29 : (Jvm.Cond.instantiable "DlogSolver" (7 : Nat)) ∈ lw_all := lw_g (lw_at lw_m1 4 rfl) rfl
theorem q31 : (Jvm.Cond.instanceMethod ({ cls := "DlogSolver", name := "<init>", desc := "()V" } : Jvm.MethodName)) ∈ lw_all := lw_g (lw_at lw_m1 6 rfl) rfl
theorem q32 : (Jvm.Cond.code ({ cls := "DlogSolver", name := "<init>", desc := "()V" } : Jvm.MethodName) prog_1_method_1_code (1 : Nat) (Option.none : Option Jvm.ClassFile.FieldType)) ∈ lw_all := lw_g (lw_at lw_m1 7 rfl) rfl
theorem q33 : (Jvm.Cond.methodLink "DlogSolver" (1 : Nat) ({ cls := "java/lang/Object", name := "<init>", desc := "()V" } : Jvm.MethodName)) ∈ lw_all := lw_g (lw_at lw_m1 8 rfl) rfl
theorem q36 : (Jvm.Cond.methodLink "DlogSolver" (26 : Nat) ({ cls := "DlogSolver", name := "factor", desc := "()V" } : Jvm.MethodName)) ∈ lw_all := lw_g (lw_at lw_m1 11 rfl) rfl
theorem q37 : (Jvm.Cond.privateMethod ({ cls := "DlogSolver", name := "factor", desc := "()V" } : Jvm.MethodName)) ∈ lw_tbl := lw_at lw_m1 12 rfl
theorem q38 : (Jvm.Cond.instanceMethod ({ cls := "DlogSolver", name := "factor", desc := "()V" } : Jvm.MethodName)) ∈ lw_all := lw_g (lw_at lw_m1 13 rfl) rfl
theorem q39 : (Jvm.Cond.code ({ cls := "DlogSolver", name := "factor", desc := "()V" } : Jvm.MethodName) prog_1_method_6_code (4 : Nat) (Option.none : Option Jvm.ClassFile.FieldType)) ∈ lw_all := lw_g (lw_at lw_m1 14 rfl) rfl
theorem q40 : (Jvm.Cond.fieldLink "DlogSolver" (22 : Nat) "DlogSolver" "p" "I") ∈ lw_all := lw_g (lw_at lw_m1 15 rfl) rfl
theorem q41 : (Jvm.Cond.fieldLink "DlogSolver" (33 : Nat) "DlogSolver" "order" "I") ∈ lw_all := lw_g (lw_at lw_m1 16 rfl) rfl
theorem q42 : (Jvm.Cond.fieldLink "DlogSolver" (36 : Nat) "DlogSolver" "factors" "I") ∈ lw_all := lw_g (lw_at lw_m1 17 rfl) rfl
theorem q43 : (Jvm.Cond.fieldLink "DlogSolver" (7 : Nat) "DlogSolver" "base" "[I") ∈ lw_all := lw_g (lw_at lw_m1 18 rfl) rfl
theorem q44 : (Jvm.Cond.fieldLink "DlogSolver" (13 : Nat) "DlogSolver" "times" "[I") ∈ lw_all := lw_g (lw_at lw_m1 19 rfl) rfl
theorem q45 : (Jvm.Cond.fieldLink "DlogSolver" (16 : Nat) "DlogSolver" "key" "[I") ∈ lw_all := lw_g (lw_at lw_m1 20 rfl) rfl
theorem q46 : (Jvm.Cond.fieldLink "DlogSolver" (19 : Nat) "DlogSolver" "step" "[I") ∈ lw_all := lw_g (lw_at lw_m1 21 rfl) rfl
theorem q47 : (Jvm.Cond.lays "DlogSolver" "DlogSolver" "p" "I") ∈ lw_all := lw_g (lw_at lw_m1 22 rfl) rfl
theorem q48 : (Jvm.Cond.soleField "DlogSolver" "p") ∈ lw_all := lw_g (lw_at lw_m1 23 rfl) rfl
theorem q49 : (Jvm.Cond.lays "DlogSolver" "DlogSolver" "order" "I") ∈ lw_all := lw_g (lw_at lw_m1 24 rfl) rfl
theorem q50 : (Jvm.Cond.soleField "DlogSolver" "order") ∈ lw_all := lw_g (lw_at lw_m1 25 rfl) rfl
theorem q51 : (Jvm.Cond.lays "DlogSolver" "DlogSolver" "factors" "I") ∈ lw_all := lw_g (lw_at lw_m1 26 rfl) rfl
theorem q52 : (Jvm.Cond.soleField "DlogSolver" "factors") ∈ lw_all := lw_g (lw_at lw_m1 27 rfl) rfl
theorem q53 : (Jvm.Cond.laysFinal "DlogSolver" "DlogSolver" "base" "[I") ∈ lw_all := lw_g (lw_at lw_m1 28 rfl) rfl
theorem q54 : (Jvm.Cond.soleField "DlogSolver" "base") ∈ lw_all := lw_g (lw_at lw_m1 29 rfl) rfl
theorem q55 : (Jvm.Cond.laysFinal "DlogSolver" "DlogSolver" "times" "[I") ∈ lw_all := lw_g (lw_at lw_m1 30 rfl) rfl
theorem q56 : (Jvm.Cond.soleField "DlogSolver" "times") ∈ lw_all := lw_g (lw_at lw_m1 31 rfl) rfl
theorem q57 : (Jvm.Cond.laysFinal "DlogSolver" "DlogSolver" "key" "[I") ∈ lw_all := lw_g (lw_at lw_m1 32 rfl) rfl
theorem q58 : (Jvm.Cond.soleField "DlogSolver" "key") ∈ lw_all := lw_g (lw_at lw_m1 33 rfl) rfl
theorem q59 : (Jvm.Cond.laysFinal "DlogSolver" "DlogSolver" "step" "[I") ∈ lw_all := lw_g (lw_at lw_m1 34 rfl) rfl
theorem q60 : (Jvm.Cond.soleField "DlogSolver" "step") ∈ lw_all := lw_g (lw_at lw_m1 35 rfl) rfl
theorem q61 : (Jvm.Cond.superclass "DlogSolver" "java/lang/Object") ∈ lw_all := lw_g (lw_at lw_m1 36 rfl) rfl
theorem q64 : (Jvm.Cond.instanceMethod ({ cls := "DlogSolver", name := "prime", desc := "(I)I" } : Jvm.MethodName)) ∈ lw_all := lw_g (lw_at lw_m1 39 rfl) rfl
theorem q65 : (Jvm.Cond.selects "DlogSolver" ({ cls := "DlogSolver", name := "prime", desc := "(I)I" } : Jvm.MethodName) ({ cls := "DlogSolver", name := "prime", desc := "(I)I" } : Jvm.MethodName)) ∈ lw_all := lw_g (lw_at lw_m1 40 rfl) rfl
theorem q66 : (Jvm.Cond.code ({ cls := "DlogSolver", name := "prime", desc := "(I)I" } : Jvm.MethodName) prog_1_method_3_code (4 : Nat) (Option.some Jvm.ClassFile.FieldType.int)) ∈ lw_all := lw_g (lw_at lw_m1 41 rfl) rfl
theorem q67 : (Jvm.Cond.methodLink "DlogSolver" (29 : Nat) ({ cls := "DlogSolver", name := "isPrime", desc := "(I)Z" } : Jvm.MethodName)) ∈ lw_all := lw_g (lw_at lw_m1 42 rfl) rfl
theorem q68 : (Jvm.Cond.privateMethod ({ cls := "DlogSolver", name := "isPrime", desc := "(I)Z" } : Jvm.MethodName)) ∈ lw_tbl := lw_at lw_m1 43 rfl
theorem q69 : (Jvm.Cond.instanceMethod ({ cls := "DlogSolver", name := "isPrime", desc := "(I)Z" } : Jvm.MethodName)) ∈ lw_all := lw_g (lw_at lw_m1 44 rfl) rfl
theorem q70 : (Jvm.Cond.code ({ cls := "DlogSolver", name := "isPrime", desc := "(I)Z" } : Jvm.MethodName) prog_1_method_2_code (3 : Nat) (Option.some Jvm.ClassFile.FieldType.boolean)) ∈ lw_all := lw_g (lw_at lw_m1 45 rfl) rfl
theorem q72 : (Jvm.Cond.instanceMethod ({ cls := "DlogSolver", name := "modulus", desc := "()I" } : Jvm.MethodName)) ∈ lw_all := lw_g (lw_at lw_m1 47 rfl) rfl
theorem q73 : (Jvm.Cond.selects "DlogSolver" ({ cls := "DlogSolver", name := "modulus", desc := "()I" } : Jvm.MethodName) ({ cls := "DlogSolver", name := "modulus", desc := "()I" } : Jvm.MethodName)) ∈ lw_all := lw_g (lw_at lw_m1 48 rfl) rfl
theorem q74 : (Jvm.Cond.code ({ cls := "DlogSolver", name := "modulus", desc := "()I" } : Jvm.MethodName) prog_1_method_4_code (1 : Nat) (Option.some Jvm.ClassFile.FieldType.int)) ∈ lw_all := lw_g (lw_at lw_m1 49 rfl) rfl
theorem q76 : (Jvm.Cond.instanceMethod ({ cls := "DlogSolver", name := "nextPrime", desc := "()I" } : Jvm.MethodName)) ∈ lw_all := lw_g (lw_at lw_m1 51 rfl) rfl
theorem q77 : (Jvm.Cond.selects "DlogSolver" ({ cls := "DlogSolver", name := "nextPrime", desc := "()I" } : Jvm.MethodName) ({ cls := "DlogSolver", name := "nextPrime", desc := "()I" } : Jvm.MethodName)) ∈ lw_all := lw_g (lw_at lw_m1 52 rfl) rfl
theorem q78 : (Jvm.Cond.code ({ cls := "DlogSolver", name := "nextPrime", desc := "()I" } : Jvm.MethodName) prog_1_method_5_code (3 : Nat) (Option.some Jvm.ClassFile.FieldType.int)) ∈ lw_all := lw_g (lw_at lw_m1 53 rfl) rfl
theorem q80 : (Jvm.Cond.instanceMethod ({ cls := "DlogSolver", name := "power", desc := "(II)I" } : Jvm.MethodName)) ∈ lw_all := lw_g (lw_at lw_m1 55 rfl) rfl
theorem q81 : (Jvm.Cond.selects "DlogSolver" ({ cls := "DlogSolver", name := "power", desc := "(II)I" } : Jvm.MethodName) ({ cls := "DlogSolver", name := "power", desc := "(II)I" } : Jvm.MethodName)) ∈ lw_all := lw_g (lw_at lw_m1 56 rfl) rfl
theorem q82 : (Jvm.Cond.code ({ cls := "DlogSolver", name := "power", desc := "(II)I" } : Jvm.MethodName) prog_1_method_10_code (3 : Nat) (Option.some Jvm.ClassFile.FieldType.int)) ∈ lw_all := lw_g (lw_at lw_m1 57 rfl) rfl
theorem q83 : (Jvm.Cond.methodLink "DlogSolver" (43 : Nat) ({ cls := "DlogSolver", name := "notUnit", desc := "(I)Z" } : Jvm.MethodName)) ∈ lw_all := lw_g (lw_at lw_m1 58 rfl) rfl
theorem q84 : (Jvm.Cond.privateMethod ({ cls := "DlogSolver", name := "notUnit", desc := "(I)Z" } : Jvm.MethodName)) ∈ lw_tbl := lw_at lw_m1 59 rfl
theorem q85 : (Jvm.Cond.instanceMethod ({ cls := "DlogSolver", name := "notUnit", desc := "(I)Z" } : Jvm.MethodName)) ∈ lw_all := lw_g (lw_at lw_m1 60 rfl) rfl
theorem q86 : (Jvm.Cond.code ({ cls := "DlogSolver", name := "notUnit", desc := "(I)Z" } : Jvm.MethodName) prog_1_method_7_code (2 : Nat) (Option.some Jvm.ClassFile.FieldType.boolean)) ∈ lw_all := lw_g (lw_at lw_m1 61 rfl) rfl
theorem q87 : (Jvm.Cond.constant "DlogSolver" (46 : Nat) (1000000 : Int32)) ∈ lw_all := lw_g (lw_at lw_m1 62 rfl) rfl
theorem q88 : (Jvm.Cond.methodLink "DlogSolver" (47 : Nat) ({ cls := "DlogSolver", name := "pow", desc := "(II)I" } : Jvm.MethodName)) ∈ lw_all := lw_g (lw_at lw_m1 63 rfl) rfl
theorem q89 : (Jvm.Cond.privateMethod ({ cls := "DlogSolver", name := "pow", desc := "(II)I" } : Jvm.MethodName)) ∈ lw_tbl := lw_at lw_m1 64 rfl
theorem q90 : (Jvm.Cond.instanceMethod ({ cls := "DlogSolver", name := "pow", desc := "(II)I" } : Jvm.MethodName)) ∈ lw_all := lw_g (lw_at lw_m1 65 rfl) rfl
theorem q91 : (Jvm.Cond.code ({ cls := "DlogSolver", name := "pow", desc := "(II)I" } : Jvm.MethodName) prog_1_method_9_code (6 : Nat) (Option.some Jvm.ClassFile.FieldType.int)) ∈ lw_all := lw_g (lw_at lw_m1 66 rfl) rfl
theorem q92 : (Jvm.Cond.methodLink "DlogSolver" (39 : Nat) ({ cls := "DlogSolver", name := "mul", desc := "(II)I" } : Jvm.MethodName)) ∈ lw_all := lw_g (lw_at lw_m1 67 rfl) rfl
theorem q93 : (Jvm.Cond.privateMethod ({ cls := "DlogSolver", name := "mul", desc := "(II)I" } : Jvm.MethodName)) ∈ lw_tbl := lw_at lw_m1 68 rfl
theorem q94 : (Jvm.Cond.instanceMethod ({ cls := "DlogSolver", name := "mul", desc := "(II)I" } : Jvm.MethodName)) ∈ lw_all := lw_g (lw_at lw_m1 69 rfl) rfl
theorem q95 : (Jvm.Cond.code ({ cls := "DlogSolver", name := "mul", desc := "(II)I" } : Jvm.MethodName) prog_1_method_8_code (3 : Nat) (Option.some Jvm.ClassFile.FieldType.int)) ∈ lw_all := lw_g (lw_at lw_m1 70 rfl) rfl
theorem q97 : (Jvm.Cond.instanceMethod ({ cls := "DlogSolver", name := "inverse", desc := "(I)I" } : Jvm.MethodName)) ∈ lw_all := lw_g (lw_at lw_m1 72 rfl) rfl
theorem q98 : (Jvm.Cond.selects "DlogSolver" ({ cls := "DlogSolver", name := "inverse", desc := "(I)I" } : Jvm.MethodName) ({ cls := "DlogSolver", name := "inverse", desc := "(I)I" } : Jvm.MethodName)) ∈ lw_all := lw_g (lw_at lw_m1 73 rfl) rfl
theorem q99 : (Jvm.Cond.code ({ cls := "DlogSolver", name := "inverse", desc := "(I)I" } : Jvm.MethodName) prog_1_method_12_code (2 : Nat) (Option.some Jvm.ClassFile.FieldType.int)) ∈ lw_all := lw_g (lw_at lw_m1 74 rfl) rfl
theorem q100 : (Jvm.Cond.methodLink "DlogSolver" (50 : Nat) ({ cls := "DlogSolver", name := "invert", desc := "(I)I" } : Jvm.MethodName)) ∈ lw_all := lw_g (lw_at lw_m1 75 rfl) rfl
theorem q101 : (Jvm.Cond.privateMethod ({ cls := "DlogSolver", name := "invert", desc := "(I)I" } : Jvm.MethodName)) ∈ lw_tbl := lw_at lw_m1 76 rfl
theorem q102 : (Jvm.Cond.instanceMethod ({ cls := "DlogSolver", name := "invert", desc := "(I)I" } : Jvm.MethodName)) ∈ lw_all := lw_g (lw_at lw_m1 77 rfl) rfl
theorem q103 : (Jvm.Cond.code ({ cls := "DlogSolver", name := "invert", desc := "(I)I" } : Jvm.MethodName) prog_1_method_11_code (2 : Nat) (Option.some Jvm.ClassFile.FieldType.int)) ∈ lw_all := lw_g (lw_at lw_m1 78 rfl) rfl
theorem q105 : (Jvm.Cond.instanceMethod ({ cls := "DlogSolver", name := "order", desc := "(I)I" } : Jvm.MethodName)) ∈ lw_all := lw_g (lw_at lw_m1 80 rfl) rfl
theorem q106 : (Jvm.Cond.selects "DlogSolver" ({ cls := "DlogSolver", name := "order", desc := "(I)I" } : Jvm.MethodName) ({ cls := "DlogSolver", name := "order", desc := "(I)I" } : Jvm.MethodName)) ∈ lw_all := lw_g (lw_at lw_m1 81 rfl) rfl
theorem q107 : (Jvm.Cond.code ({ cls := "DlogSolver", name := "order", desc := "(I)I" } : Jvm.MethodName) prog_1_method_14_code (2 : Nat) (Option.some Jvm.ClassFile.FieldType.int)) ∈ lw_all := lw_g (lw_at lw_m1 82 rfl) rfl
theorem q108 : (Jvm.Cond.methodLink "DlogSolver" (54 : Nat) ({ cls := "DlogSolver", name := "orderOf", desc := "(I)I" } : Jvm.MethodName)) ∈ lw_all := lw_g (lw_at lw_m1 83 rfl) rfl
theorem q109 : (Jvm.Cond.privateMethod ({ cls := "DlogSolver", name := "orderOf", desc := "(I)I" } : Jvm.MethodName)) ∈ lw_tbl := lw_at lw_m1 84 rfl
theorem q110 : (Jvm.Cond.instanceMethod ({ cls := "DlogSolver", name := "orderOf", desc := "(I)I" } : Jvm.MethodName)) ∈ lw_all := lw_g (lw_at lw_m1 85 rfl) rfl
theorem q111 : (Jvm.Cond.code ({ cls := "DlogSolver", name := "orderOf", desc := "(I)I" } : Jvm.MethodName) prog_1_method_13_code (9 : Nat) (Option.some Jvm.ClassFile.FieldType.int)) ∈ lw_all := lw_g (lw_at lw_m1 86 rfl) rfl
theorem q113 : (Jvm.Cond.instanceMethod ({ cls := "DlogSolver", name := "generator", desc := "()I" } : Jvm.MethodName)) ∈ lw_all := lw_g (lw_at lw_m1 88 rfl) rfl
theorem q114 : (Jvm.Cond.selects "DlogSolver" ({ cls := "DlogSolver", name := "generator", desc := "()I" } : Jvm.MethodName) ({ cls := "DlogSolver", name := "generator", desc := "()I" } : Jvm.MethodName)) ∈ lw_all := lw_g (lw_at lw_m1 89 rfl) rfl
theorem q115 : (Jvm.Cond.code ({ cls := "DlogSolver", name := "generator", desc := "()I" } : Jvm.MethodName) prog_1_method_16_code (3 : Nat) (Option.some Jvm.ClassFile.FieldType.int)) ∈ lw_all := lw_g (lw_at lw_m1 90 rfl) rfl
theorem q116 : (Jvm.Cond.methodLink "DlogSolver" (57 : Nat) ({ cls := "DlogSolver", name := "generates", desc := "(I)Z" } : Jvm.MethodName)) ∈ lw_all := lw_g (lw_at lw_m1 91 rfl) rfl
theorem q117 : (Jvm.Cond.privateMethod ({ cls := "DlogSolver", name := "generates", desc := "(I)Z" } : Jvm.MethodName)) ∈ lw_tbl := lw_at lw_m1 92 rfl
theorem q118 : (Jvm.Cond.instanceMethod ({ cls := "DlogSolver", name := "generates", desc := "(I)Z" } : Jvm.MethodName)) ∈ lw_all := lw_g (lw_at lw_m1 93 rfl) rfl
theorem q119 : (Jvm.Cond.code ({ cls := "DlogSolver", name := "generates", desc := "(I)Z" } : Jvm.MethodName) prog_1_method_15_code (4 : Nat) (Option.some Jvm.ClassFile.FieldType.boolean)) ∈ lw_all := lw_g (lw_at lw_m1 94 rfl) rfl
theorem q121 : (Jvm.Cond.instanceMethod ({ cls := "DlogSolver", name := "generators", desc := "()I" } : Jvm.MethodName)) ∈ lw_all := lw_g (lw_at lw_m1 96 rfl) rfl
theorem q122 : (Jvm.Cond.selects "DlogSolver" ({ cls := "DlogSolver", name := "generators", desc := "()I" } : Jvm.MethodName) ({ cls := "DlogSolver", name := "generators", desc := "()I" } : Jvm.MethodName)) ∈ lw_all := lw_g (lw_at lw_m1 97 rfl) rfl
theorem q123 : (Jvm.Cond.code ({ cls := "DlogSolver", name := "generators", desc := "()I" } : Jvm.MethodName) prog_1_method_18_code (1 : Nat) (Option.some Jvm.ClassFile.FieldType.int)) ∈ lw_all := lw_g (lw_at lw_m1 98 rfl) rfl
theorem q124 : (Jvm.Cond.methodLink "DlogSolver" (60 : Nat) ({ cls := "DlogSolver", name := "totient", desc := "(I)I" } : Jvm.MethodName)) ∈ lw_all := lw_g (lw_at lw_m1 99 rfl) rfl
theorem q125 : (Jvm.Cond.privateMethod ({ cls := "DlogSolver", name := "totient", desc := "(I)I" } : Jvm.MethodName)) ∈ lw_tbl := lw_at lw_m1 100 rfl
theorem q126 : (Jvm.Cond.instanceMethod ({ cls := "DlogSolver", name := "totient", desc := "(I)I" } : Jvm.MethodName)) ∈ lw_all := lw_g (lw_at lw_m1 101 rfl) rfl
theorem q127 : (Jvm.Cond.code ({ cls := "DlogSolver", name := "totient", desc := "(I)I" } : Jvm.MethodName) prog_1_method_17_code (4 : Nat) (Option.some Jvm.ClassFile.FieldType.int)) ∈ lw_all := lw_g (lw_at lw_m1 102 rfl) rfl
theorem q129 : (Jvm.Cond.instanceMethod ({ cls := "DlogSolver", name := "log", desc := "(II)I" } : Jvm.MethodName)) ∈ lw_all := lw_g (lw_at lw_m1 104 rfl) rfl
theorem q130 : (Jvm.Cond.selects "DlogSolver" ({ cls := "DlogSolver", name := "log", desc := "(II)I" } : Jvm.MethodName) ({ cls := "DlogSolver", name := "log", desc := "(II)I" } : Jvm.MethodName)) ∈ lw_all := lw_g (lw_at lw_m1 105 rfl) rfl
theorem q131 : (Jvm.Cond.code ({ cls := "DlogSolver", name := "log", desc := "(II)I" } : Jvm.MethodName) prog_1_method_29_code (3 : Nat) (Option.some Jvm.ClassFile.FieldType.int)) ∈ lw_all := lw_g (lw_at lw_m1 106 rfl) rfl
theorem q132 : (Jvm.Cond.methodLink "DlogSolver" (89 : Nat) ({ cls := "DlogSolver", name := "leastLog", desc := "(II)I" } : Jvm.MethodName)) ∈ lw_all := lw_g (lw_at lw_m1 107 rfl) rfl
theorem q133 : (Jvm.Cond.privateMethod ({ cls := "DlogSolver", name := "leastLog", desc := "(II)I" } : Jvm.MethodName)) ∈ lw_tbl := lw_at lw_m1 108 rfl
theorem q134 : (Jvm.Cond.instanceMethod ({ cls := "DlogSolver", name := "leastLog", desc := "(II)I" } : Jvm.MethodName)) ∈ lw_all := lw_g (lw_at lw_m1 109 rfl) rfl
theorem q135 : (Jvm.Cond.code ({ cls := "DlogSolver", name := "leastLog", desc := "(II)I" } : Jvm.MethodName) prog_1_method_27_code (14 : Nat) (Option.some Jvm.ClassFile.FieldType.int)) ∈ lw_all := lw_g (lw_at lw_m1 110 rfl) rfl
theorem q136 : (Jvm.Cond.methodLink "DlogSolver" (76 : Nat) ({ cls := "DlogSolver", name := "powerLog", desc := "(IIII)I" } : Jvm.MethodName)) ∈ lw_all := lw_g (lw_at lw_m1 111 rfl) rfl
theorem q137 : (Jvm.Cond.privateMethod ({ cls := "DlogSolver", name := "powerLog", desc := "(IIII)I" } : Jvm.MethodName)) ∈ lw_tbl := lw_at lw_m1 112 rfl
theorem q138 : (Jvm.Cond.instanceMethod ({ cls := "DlogSolver", name := "powerLog", desc := "(IIII)I" } : Jvm.MethodName)) ∈ lw_all := lw_g (lw_at lw_m1 113 rfl) rfl
theorem q139 : (Jvm.Cond.code ({ cls := "DlogSolver", name := "powerLog", desc := "(IIII)I" } : Jvm.MethodName) prog_1_method_26_code (16 : Nat) (Option.some Jvm.ClassFile.FieldType.int)) ∈ lw_all := lw_g (lw_at lw_m1 114 rfl) rfl
theorem q140 : (Jvm.Cond.methodLink "DlogSolver" (72 : Nat) ({ cls := "DlogSolver", name := "smallLog", desc := "(III)I" } : Jvm.MethodName)) ∈ lw_all := lw_g (lw_at lw_m1 115 rfl) rfl
theorem q141 : (Jvm.Cond.privateMethod ({ cls := "DlogSolver", name := "smallLog", desc := "(III)I" } : Jvm.MethodName)) ∈ lw_tbl := lw_at lw_m1 116 rfl
theorem q142 : (Jvm.Cond.instanceMethod ({ cls := "DlogSolver", name := "smallLog", desc := "(III)I" } : Jvm.MethodName)) ∈ lw_all := lw_g (lw_at lw_m1 117 rfl) rfl
theorem q143 : (Jvm.Cond.code ({ cls := "DlogSolver", name := "smallLog", desc := "(III)I" } : Jvm.MethodName) prog_1_method_25_code (10 : Nat) (Option.some Jvm.ClassFile.FieldType.int)) ∈ lw_all := lw_g (lw_at lw_m1 118 rfl) rfl
theorem q144 : (Jvm.Cond.methodLink "DlogSolver" (63 : Nat) ({ cls := "DlogSolver", name := "clearTable", desc := "()V" } : Jvm.MethodName)) ∈ lw_all := lw_g (lw_at lw_m1 119 rfl) rfl
theorem q145 : (Jvm.Cond.privateMethod ({ cls := "DlogSolver", name := "clearTable", desc := "()V" } : Jvm.MethodName)) ∈ lw_tbl := lw_at lw_m1 120 rfl
theorem q146 : (Jvm.Cond.instanceMethod ({ cls := "DlogSolver", name := "clearTable", desc := "()V" } : Jvm.MethodName)) ∈ lw_all := lw_g (lw_at lw_m1 121 rfl) rfl
theorem q147 : (Jvm.Cond.code ({ cls := "DlogSolver", name := "clearTable", desc := "()V" } : Jvm.MethodName) prog_1_method_22_code (2 : Nat) (Option.none : Option Jvm.ClassFile.FieldType)) ∈ lw_all := lw_g (lw_at lw_m1 122 rfl) rfl
theorem q148 : (Jvm.Cond.methodLink "DlogSolver" (66 : Nat) ({ cls := "DlogSolver", name := "rootUp", desc := "(I)I" } : Jvm.MethodName)) ∈ lw_all := lw_g (lw_at lw_m1 123 rfl) rfl
theorem q149 : (Jvm.Cond.privateMethod ({ cls := "DlogSolver", name := "rootUp", desc := "(I)I" } : Jvm.MethodName)) ∈ lw_tbl := lw_at lw_m1 124 rfl
theorem q150 : (Jvm.Cond.instanceMethod ({ cls := "DlogSolver", name := "rootUp", desc := "(I)I" } : Jvm.MethodName)) ∈ lw_all := lw_g (lw_at lw_m1 125 rfl) rfl
theorem q151 : (Jvm.Cond.code ({ cls := "DlogSolver", name := "rootUp", desc := "(I)I" } : Jvm.MethodName) prog_1_method_24_code (4 : Nat) (Option.some Jvm.ClassFile.FieldType.int)) ∈ lw_all := lw_g (lw_at lw_m1 126 rfl) rfl
theorem q152 : (Jvm.Cond.methodLink "DlogSolver" (69 : Nat) ({ cls := "DlogSolver", name := "cellOf", desc := "(I)I" } : Jvm.MethodName)) ∈ lw_all := lw_g (lw_at lw_m1 127 rfl) rfl
theorem q153 : (Jvm.Cond.privateMethod ({ cls := "DlogSolver", name := "cellOf", desc := "(I)I" } : Jvm.MethodName)) ∈ lw_tbl := lw_at lw_m1 128 rfl
theorem q154 : (Jvm.Cond.instanceMethod ({ cls := "DlogSolver", name := "cellOf", desc := "(I)I" } : Jvm.MethodName)) ∈ lw_all := lw_g (lw_at lw_m1 129 rfl) rfl
theorem q155 : (Jvm.Cond.code ({ cls := "DlogSolver", name := "cellOf", desc := "(I)I" } : Jvm.MethodName) prog_1_method_23_code (4 : Nat) (Option.some Jvm.ClassFile.FieldType.int)) ∈ lw_all := lw_g (lw_at lw_m1 130 rfl) rfl
theorem q156 : (Jvm.Cond.methodLink "DlogSolver" (80 : Nat) ({ cls := "DlogSolver", name := "join", desc := "(IIII)I" } : Jvm.MethodName)) ∈ lw_all := lw_g (lw_at lw_m1 131 rfl) rfl
theorem q157 : (Jvm.Cond.privateMethod ({ cls := "DlogSolver", name := "join", desc := "(IIII)I" } : Jvm.MethodName)) ∈ lw_tbl := lw_at lw_m1 132 rfl
theorem q158 : (Jvm.Cond.instanceMethod ({ cls := "DlogSolver", name := "join", desc := "(IIII)I" } : Jvm.MethodName)) ∈ lw_all := lw_g (lw_at lw_m1 133 rfl) rfl
theorem q159 : (Jvm.Cond.code ({ cls := "DlogSolver", name := "join", desc := "(IIII)I" } : Jvm.MethodName) prog_1_method_28_code (8 : Nat) (Option.some Jvm.ClassFile.FieldType.int)) ∈ lw_all := lw_g (lw_at lw_m1 134 rfl) rfl
theorem q160 : (Jvm.Cond.methodLink "DlogSolver" (83 : Nat) ({ cls := "DlogSolver", name := "invertBy", desc := "(II)I" } : Jvm.MethodName)) ∈ lw_all := lw_g (lw_at lw_m1 135 rfl) rfl
theorem q161 : (Jvm.Cond.privateMethod ({ cls := "DlogSolver", name := "invertBy", desc := "(II)I" } : Jvm.MethodName)) ∈ lw_tbl := lw_at lw_m1 136 rfl
theorem q162 : (Jvm.Cond.instanceMethod ({ cls := "DlogSolver", name := "invertBy", desc := "(II)I" } : Jvm.MethodName)) ∈ lw_all := lw_g (lw_at lw_m1 137 rfl) rfl
theorem q163 : (Jvm.Cond.code ({ cls := "DlogSolver", name := "invertBy", desc := "(II)I" } : Jvm.MethodName) prog_1_method_20_code (11 : Nat) (Option.some Jvm.ClassFile.FieldType.int)) ∈ lw_all := lw_g (lw_at lw_m1 138 rfl) rfl
theorem q164 : (Jvm.Cond.methodLink "DlogSolver" (86 : Nat) ({ cls := "DlogSolver", name := "timesBy", desc := "(III)I" } : Jvm.MethodName)) ∈ lw_all := lw_g (lw_at lw_m1 139 rfl) rfl
theorem q165 : (Jvm.Cond.privateMethod ({ cls := "DlogSolver", name := "timesBy", desc := "(III)I" } : Jvm.MethodName)) ∈ lw_tbl := lw_at lw_m1 140 rfl
theorem q166 : (Jvm.Cond.instanceMethod ({ cls := "DlogSolver", name := "timesBy", desc := "(III)I" } : Jvm.MethodName)) ∈ lw_all := lw_g (lw_at lw_m1 141 rfl) rfl
theorem q167 : (Jvm.Cond.code ({ cls := "DlogSolver", name := "timesBy", desc := "(III)I" } : Jvm.MethodName) prog_1_method_21_code (6 : Nat) (Option.some Jvm.ClassFile.FieldType.int)) ∈ lw_all := lw_g (lw_at lw_m1 142 rfl) rfl
theorem q169 : (Jvm.Cond.instanceMethod ({ cls := "DlogSolver", name := "root", desc := "(II)I" } : Jvm.MethodName)) ∈ lw_all := lw_g (lw_at lw_m1 144 rfl) rfl
theorem q170 : (Jvm.Cond.selects "DlogSolver" ({ cls := "DlogSolver", name := "root", desc := "(II)I" } : Jvm.MethodName) ({ cls := "DlogSolver", name := "root", desc := "(II)I" } : Jvm.MethodName)) ∈ lw_all := lw_g (lw_at lw_m1 145 rfl) rfl
theorem q171 : (Jvm.Cond.code ({ cls := "DlogSolver", name := "root", desc := "(II)I" } : Jvm.MethodName) prog_1_method_31_code (13 : Nat) (Option.some Jvm.ClassFile.FieldType.int)) ∈ lw_all := lw_g (lw_at lw_m1 146 rfl) rfl
theorem q172 : (Jvm.Cond.methodLink "DlogSolver" (92 : Nat) ({ cls := "DlogSolver", name := "badRoot", desc := "(II)Z" } : Jvm.MethodName)) ∈ lw_all := lw_g (lw_at lw_m1 147 rfl) rfl
theorem q173 : (Jvm.Cond.privateMethod ({ cls := "DlogSolver", name := "badRoot", desc := "(II)Z" } : Jvm.MethodName)) ∈ lw_tbl := lw_at lw_m1 148 rfl
theorem q174 : (Jvm.Cond.instanceMethod ({ cls := "DlogSolver", name := "badRoot", desc := "(II)Z" } : Jvm.MethodName)) ∈ lw_all := lw_g (lw_at lw_m1 149 rfl) rfl
theorem q175 : (Jvm.Cond.code ({ cls := "DlogSolver", name := "badRoot", desc := "(II)Z" } : Jvm.MethodName) prog_1_method_30_code (3 : Nat) (Option.some Jvm.ClassFile.FieldType.boolean)) ∈ lw_all := lw_g (lw_at lw_m1 150 rfl) rfl
theorem q176 : (Jvm.Cond.methodLink "DlogSolver" (96 : Nat) ({ cls := "DlogSolver", name := "generator", desc := "()I" } : Jvm.MethodName)) ∈ lw_all := lw_g (lw_at lw_m1 151 rfl) rfl
theorem q177 : (Jvm.Cond.methodLink "DlogSolver" (100 : Nat) ({ cls := "DlogSolver", name := "gcd", desc := "(II)I" } : Jvm.MethodName)) ∈ lw_all := lw_g (lw_at lw_m1 152 rfl) rfl
theorem q178 : (Jvm.Cond.privateMethod ({ cls := "DlogSolver", name := "gcd", desc := "(II)I" } : Jvm.MethodName)) ∈ lw_tbl := lw_at lw_m1 153 rfl
theorem q179 : (Jvm.Cond.instanceMethod ({ cls := "DlogSolver", name := "gcd", desc := "(II)I" } : Jvm.MethodName)) ∈ lw_all := lw_g (lw_at lw_m1 154 rfl) rfl
theorem q180 : (Jvm.Cond.code ({ cls := "DlogSolver", name := "gcd", desc := "(II)I" } : Jvm.MethodName) prog_1_method_19_code (7 : Nat) (Option.some Jvm.ClassFile.FieldType.int)) ∈ lw_all := lw_g (lw_at lw_m1 155 rfl) rfl
theorem q182 : (Jvm.Cond.instanceMethod ({ cls := "DlogSolver", name := "roots", desc := "(II)I" } : Jvm.MethodName)) ∈ lw_all := lw_g (lw_at lw_m1 157 rfl) rfl
theorem q183 : (Jvm.Cond.selects "DlogSolver" ({ cls := "DlogSolver", name := "roots", desc := "(II)I" } : Jvm.MethodName) ({ cls := "DlogSolver", name := "roots", desc := "(II)I" } : Jvm.MethodName)) ∈ lw_all := lw_g (lw_at lw_m1 158 rfl) rfl
theorem q184 : (Jvm.Cond.code ({ cls := "DlogSolver", name := "roots", desc := "(II)I" } : Jvm.MethodName) prog_1_method_32_code (5 : Nat) (Option.some Jvm.ClassFile.FieldType.int)) ∈ lw_all := lw_g (lw_at lw_m1 159 rfl) rfl
theorem q186 : (Jvm.Cond.instanceMethod ({ cls := "DlogSolver", name := "logWith", desc := "(IIII)I" } : Jvm.MethodName)) ∈ lw_all := lw_g (lw_at lw_m1 161 rfl) rfl
theorem q187 : (Jvm.Cond.selects "DlogSolver" ({ cls := "DlogSolver", name := "logWith", desc := "(IIII)I" } : Jvm.MethodName) ({ cls := "DlogSolver", name := "logWith", desc := "(IIII)I" } : Jvm.MethodName)) ∈ lw_all := lw_g (lw_at lw_m1 162 rfl) rfl
theorem q188 : (Jvm.Cond.code ({ cls := "DlogSolver", name := "logWith", desc := "(IIII)I" } : Jvm.MethodName) prog_1_method_33_code (12 : Nat) (Option.some Jvm.ClassFile.FieldType.int)) ∈ lw_all := lw_g (lw_at lw_m1 163 rfl) rfl
theorem q190 : (Jvm.Cond.instanceMethod ({ cls := "DlogSolver", name := "common", desc := "(II)I" } : Jvm.MethodName)) ∈ lw_all := lw_g (lw_at lw_m1 165 rfl) rfl
theorem q191 : (Jvm.Cond.selects "DlogSolver" ({ cls := "DlogSolver", name := "common", desc := "(II)I" } : Jvm.MethodName) ({ cls := "DlogSolver", name := "common", desc := "(II)I" } : Jvm.MethodName)) ∈ lw_all := lw_g (lw_at lw_m1 166 rfl) rfl
theorem q192 : (Jvm.Cond.code ({ cls := "DlogSolver", name := "common", desc := "(II)I" } : Jvm.MethodName) prog_1_method_34_code (5 : Nat) (Option.some Jvm.ClassFile.FieldType.int)) ∈ lw_all := lw_g (lw_at lw_m1 167 rfl) rfl
theorem q194 : (Jvm.Cond.instanceMethod ({ cls := "DlogSolver", name := "unitOfOrder", desc := "(I)I" } : Jvm.MethodName)) ∈ lw_all := lw_g (lw_at lw_m1 169 rfl) rfl
theorem q195 : (Jvm.Cond.selects "DlogSolver" ({ cls := "DlogSolver", name := "unitOfOrder", desc := "(I)I" } : Jvm.MethodName) ({ cls := "DlogSolver", name := "unitOfOrder", desc := "(I)I" } : Jvm.MethodName)) ∈ lw_all := lw_g (lw_at lw_m1 170 rfl) rfl
theorem q196 : (Jvm.Cond.code ({ cls := "DlogSolver", name := "unitOfOrder", desc := "(I)I" } : Jvm.MethodName) prog_1_method_35_code (8 : Nat) (Option.some Jvm.ClassFile.FieldType.int)) ∈ lw_all := lw_g (lw_at lw_m1 171 rfl) rfl
theorem q198 : (Jvm.Cond.instanceMethod ({ cls := "DlogSolver", name := "unitsOfOrder", desc := "(I)I" } : Jvm.MethodName)) ∈ lw_all := lw_g (lw_at lw_m1 173 rfl) rfl
theorem q199 : (Jvm.Cond.selects "DlogSolver" ({ cls := "DlogSolver", name := "unitsOfOrder", desc := "(I)I" } : Jvm.MethodName) ({ cls := "DlogSolver", name := "unitsOfOrder", desc := "(I)I" } : Jvm.MethodName)) ∈ lw_all := lw_g (lw_at lw_m1 174 rfl) rfl
theorem q200 : (Jvm.Cond.code ({ cls := "DlogSolver", name := "unitsOfOrder", desc := "(I)I" } : Jvm.MethodName) prog_1_method_36_code (2 : Nat) (Option.some Jvm.ClassFile.FieldType.int)) ∈ lw_all := lw_g (lw_at lw_m1 175 rfl) rfl
theorem in_X0 : ∀ w ∈ wsX00, w ∈ lw_all := lw_in wsX00 [47, 49, 51, 53, 55, 57, 59] (by decide +kernel) (by decide +kernel)
/-! java/lang/Object -/
def RJ0 : String := "java/lang/Object"
abbrev cJ0_init : ByteArray := object_method_1_code
def yJ0_init : MethodName := ⟨RJ0, "<init>", "()V"⟩
theorem dJ0_init_0 : decode cJ0_init 0 = .ok (.return_, 1) := by decide +kernel
theorem q34 : (Jvm.Cond.instanceMethod ({ cls := "java/lang/Object", name := "<init>", desc := "()V" } : Jvm.MethodName)) ∈ lw_all := lw_g (lw_at lw_m1 9 rfl) rfl
theorem q35 : (Jvm.Cond.code ({ cls := "java/lang/Object", name := "<init>", desc := "()V" } : Jvm.MethodName) object_method_1_code (1 : Nat) (Option.none : Option Jvm.ClassFile.FieldType)) ∈ lw_all := lw_g (lw_at lw_m1 10 rfl) rfl
theorem q62 : (Jvm.Cond.arrayClass Jvm.ClassFile.FieldType.int) ∈ lw_all := lw_g (lw_at lw_m1 37 rfl) rfl
theorem q214 : (Jvm.Cond.arrayClass Jvm.ClassFile.FieldType.boolean) ∈ lw_all := lw_g (lw_at lw_m1 189 rfl) rfl
theorem dX0_init_0 : decode cX0_init 0 = .ok (.aload_n 0, 1) := by decide +kernel
theorem dX0_init_1 : decode cX0_init 1 = .ok (.invokespecial 1, 3) := by decide +kernel
theorem dX0_init_4 : decode cX0_init 4 = .ok (.aload_n 0, 1) := by decide +kernel
theorem dX0_init_5 : decode cX0_init 5 = .ok (.iconst 5, 1) := by decide +kernel
theorem dX0_init_6 : decode cX0_init 6 = .ok (.newarray .int, 2) := by decide +kernel
theorem dX0_init_8 : decode cX0_init 8 = .ok (.putfield 7, 3) := by decide +kernel
theorem dX0_init_11 : decode cX0_init 11 = .ok (.aload_n 0, 1) := by decide +kernel
theorem dX0_init_12 : decode cX0_init 12 = .ok (.iconst 5, 1) := by decide +kernel
theorem dX0_init_13 : decode cX0_init 13 = .ok (.newarray .int, 2) := by decide +kernel
theorem dX0_init_15 : decode cX0_init 15 = .ok (.putfield 13, 3) := by decide +kernel
theorem dX0_init_18 : decode cX0_init 18 = .ok (.aload_n 0, 1) := by decide +kernel
theorem dX0_init_19 : decode cX0_init 19 = .ok (.sipush 128, 3) := by decide +kernel
theorem dX0_init_22 : decode cX0_init 22 = .ok (.newarray .int, 2) := by decide +kernel
theorem dX0_init_24 : decode cX0_init 24 = .ok (.putfield 16, 3) := by decide +kernel
theorem dX0_init_27 : decode cX0_init 27 = .ok (.aload_n 0, 1) := by decide +kernel
theorem dX0_init_28 : decode cX0_init 28 = .ok (.sipush 128, 3) := by decide +kernel
theorem dX0_init_31 : decode cX0_init 31 = .ok (.newarray .int, 2) := by decide +kernel
theorem dX0_init_33 : decode cX0_init 33 = .ok (.putfield 19, 3) := by decide +kernel
theorem dX0_init_36 : decode cX0_init 36 = .ok (.aload_n 0, 1) := by decide +kernel
theorem dX0_init_37 : decode cX0_init 37 = .ok (.iconst 3, 1) := by decide +kernel
theorem dX0_init_38 : decode cX0_init 38 = .ok (.putfield 22, 3) := by decide +kernel
theorem dX0_init_41 : decode cX0_init 41 = .ok (.aload_n 0, 1) := by decide +kernel
theorem dX0_init_42 : decode cX0_init 42 = .ok (.invokevirtual 26, 3) := by decide +kernel
theorem dX0_init_45 : decode cX0_init 45 = .ok (.return_, 1) := by decide +kernel
theorem dX0_factor_0 : decode cX0_factor 0 = .ok (.aload_n 0, 1) := by decide +kernel
theorem dX0_factor_1 : decode cX0_factor 1 = .ok (.aload_n 0, 1) := by decide +kernel
theorem dX0_factor_2 : decode cX0_factor 2 = .ok (.getfield 22, 3) := by decide +kernel
theorem dX0_factor_5 : decode cX0_factor 5 = .ok (.iconst 1, 1) := by decide +kernel
theorem dX0_factor_6 : decode cX0_factor 6 = .ok (.isub, 1) := by decide +kernel
theorem dX0_factor_7 : decode cX0_factor 7 = .ok (.putfield 33, 3) := by decide +kernel
theorem dX0_factor_10 : decode cX0_factor 10 = .ok (.aload_n 0, 1) := by decide +kernel
theorem dX0_factor_11 : decode cX0_factor 11 = .ok (.iconst 0, 1) := by decide +kernel
theorem dX0_factor_12 : decode cX0_factor 12 = .ok (.putfield 36, 3) := by decide +kernel
theorem dX0_factor_15 : decode cX0_factor 15 = .ok (.aload_n 0, 1) := by decide +kernel
theorem dX0_factor_16 : decode cX0_factor 16 = .ok (.getfield 33, 3) := by decide +kernel
theorem dX0_factor_19 : decode cX0_factor 19 = .ok (.istore_n 1, 1) := by decide +kernel
theorem dX0_factor_20 : decode cX0_factor 20 = .ok (.iconst 2, 1) := by decide +kernel
theorem dX0_factor_21 : decode cX0_factor 21 = .ok (.istore_n 2, 1) := by decide +kernel
theorem dX0_factor_22 : decode cX0_factor 22 = .ok (.iload_n 2, 1) := by decide +kernel
theorem dX0_factor_23 : decode cX0_factor 23 = .ok (.sipush 2039, 3) := by decide +kernel
theorem dX0_factor_26 : decode cX0_factor 26 = .ok (.if_icmp .gt 102, 3) := by decide +kernel
theorem dX0_factor_29 : decode cX0_factor 29 = .ok (.iload_n 1, 1) := by decide +kernel
theorem dX0_factor_30 : decode cX0_factor 30 = .ok (.iconst 1, 1) := by decide +kernel
theorem dX0_factor_31 : decode cX0_factor 31 = .ok (.if_icmp .le 97, 3) := by decide +kernel
theorem dX0_factor_34 : decode cX0_factor 34 = .ok (.iload_n 1, 1) := by decide +kernel
theorem dX0_factor_35 : decode cX0_factor 35 = .ok (.iload_n 2, 1) := by decide +kernel
theorem dX0_factor_36 : decode cX0_factor 36 = .ok (.irem, 1) := by decide +kernel
theorem dX0_factor_37 : decode cX0_factor 37 = .ok (.ifCond .ne 85, 3) := by decide +kernel
theorem dX0_factor_40 : decode cX0_factor 40 = .ok (.aload_n 0, 1) := by decide +kernel
theorem dX0_factor_41 : decode cX0_factor 41 = .ok (.getfield 36, 3) := by decide +kernel
theorem dX0_factor_44 : decode cX0_factor 44 = .ok (.iconst 5, 1) := by decide +kernel
theorem dX0_factor_45 : decode cX0_factor 45 = .ok (.if_icmp .ge 77, 3) := by decide +kernel
theorem dX0_factor_48 : decode cX0_factor 48 = .ok (.aload_n 0, 1) := by decide +kernel
theorem dX0_factor_49 : decode cX0_factor 49 = .ok (.getfield 7, 3) := by decide +kernel
theorem dX0_factor_52 : decode cX0_factor 52 = .ok (.aload_n 0, 1) := by decide +kernel
theorem dX0_factor_53 : decode cX0_factor 53 = .ok (.getfield 36, 3) := by decide +kernel
theorem dX0_factor_56 : decode cX0_factor 56 = .ok (.iload_n 2, 1) := by decide +kernel
theorem dX0_factor_57 : decode cX0_factor 57 = .ok (.iastore, 1) := by decide +kernel
theorem dX0_factor_58 : decode cX0_factor 58 = .ok (.aload_n 0, 1) := by decide +kernel
theorem dX0_factor_59 : decode cX0_factor 59 = .ok (.getfield 13, 3) := by decide +kernel
theorem dX0_factor_62 : decode cX0_factor 62 = .ok (.aload_n 0, 1) := by decide +kernel
theorem dX0_factor_63 : decode cX0_factor 63 = .ok (.getfield 36, 3) := by decide +kernel
theorem dX0_factor_66 : decode cX0_factor 66 = .ok (.iconst 0, 1) := by decide +kernel
theorem dX0_factor_67 : decode cX0_factor 67 = .ok (.iastore, 1) := by decide +kernel
theorem dX0_factor_68 : decode cX0_factor 68 = .ok (.iconst 0, 1) := by decide +kernel
theorem dX0_factor_69 : decode cX0_factor 69 = .ok (.istore_n 3, 1) := by decide +kernel
theorem dX0_factor_70 : decode cX0_factor 70 = .ok (.iload_n 3, 1) := by decide +kernel
theorem dX0_factor_71 : decode cX0_factor 71 = .ok (.bipush 12, 2) := by decide +kernel
theorem dX0_factor_73 : decode cX0_factor 73 = .ok (.if_icmp .ge 39, 3) := by decide +kernel
theorem dX0_factor_76 : decode cX0_factor 76 = .ok (.iload_n 1, 1) := by decide +kernel
theorem dX0_factor_77 : decode cX0_factor 77 = .ok (.iload_n 2, 1) := by decide +kernel
theorem dX0_factor_78 : decode cX0_factor 78 = .ok (.irem, 1) := by decide +kernel
theorem dX0_factor_79 : decode cX0_factor 79 = .ok (.ifCond .ne 33, 3) := by decide +kernel
theorem dX0_factor_82 : decode cX0_factor 82 = .ok (.iload_n 1, 1) := by decide +kernel
theorem dX0_factor_83 : decode cX0_factor 83 = .ok (.iload_n 2, 1) := by decide +kernel
theorem dX0_factor_84 : decode cX0_factor 84 = .ok (.idiv, 1) := by decide +kernel
theorem dX0_factor_85 : decode cX0_factor 85 = .ok (.istore_n 1, 1) := by decide +kernel
theorem dX0_factor_86 : decode cX0_factor 86 = .ok (.aload_n 0, 1) := by decide +kernel
theorem dX0_factor_87 : decode cX0_factor 87 = .ok (.getfield 13, 3) := by decide +kernel
theorem dX0_factor_90 : decode cX0_factor 90 = .ok (.aload_n 0, 1) := by decide +kernel
theorem dX0_factor_91 : decode cX0_factor 91 = .ok (.getfield 36, 3) := by decide +kernel
theorem dX0_factor_94 : decode cX0_factor 94 = .ok (.aload_n 0, 1) := by decide +kernel
theorem dX0_factor_95 : decode cX0_factor 95 = .ok (.getfield 13, 3) := by decide +kernel
theorem dX0_factor_98 : decode cX0_factor 98 = .ok (.aload_n 0, 1) := by decide +kernel
theorem dX0_factor_99 : decode cX0_factor 99 = .ok (.getfield 36, 3) := by decide +kernel
theorem dX0_factor_102 : decode cX0_factor 102 = .ok (.iaload, 1) := by decide +kernel
theorem dX0_factor_103 : decode cX0_factor 103 = .ok (.iconst 1, 1) := by decide +kernel
theorem dX0_factor_104 : decode cX0_factor 104 = .ok (.iadd, 1) := by decide +kernel
theorem dX0_factor_105 : decode cX0_factor 105 = .ok (.iastore, 1) := by decide +kernel
theorem dX0_factor_106 : decode cX0_factor 106 = .ok (.iinc 3 1, 3) := by decide +kernel
theorem dX0_factor_109 : decode cX0_factor 109 = .ok (.goto (-39), 3) := by decide +kernel
theorem dX0_factor_112 : decode cX0_factor 112 = .ok (.aload_n 0, 1) := by decide +kernel
theorem dX0_factor_113 : decode cX0_factor 113 = .ok (.dup, 1) := by decide +kernel
theorem dX0_factor_114 : decode cX0_factor 114 = .ok (.getfield 36, 3) := by decide +kernel
theorem dX0_factor_117 : decode cX0_factor 117 = .ok (.iconst 1, 1) := by decide +kernel
theorem dX0_factor_118 : decode cX0_factor 118 = .ok (.iadd, 1) := by decide +kernel
theorem dX0_factor_119 : decode cX0_factor 119 = .ok (.putfield 36, 3) := by decide +kernel
theorem dX0_factor_122 : decode cX0_factor 122 = .ok (.iinc 2 1, 3) := by decide +kernel
theorem dX0_factor_125 : decode cX0_factor 125 = .ok (.goto (-103), 3) := by decide +kernel
theorem dX0_factor_128 : decode cX0_factor 128 = .ok (.return_, 1) := by decide +kernel
theorem dX0_prime_0 : decode cX0_prime 0 = .ok (.iload_n 1, 1) := by decide +kernel
theorem dX0_prime_1 : decode cX0_prime 1 = .ok (.iconst 3, 1) := by decide +kernel
theorem dX0_prime_2 : decode cX0_prime 2 = .ok (.if_icmp .lt 22, 3) := by decide +kernel
theorem dX0_prime_5 : decode cX0_prime 5 = .ok (.iload_n 1, 1) := by decide +kernel
theorem dX0_prime_6 : decode cX0_prime 6 = .ok (.sipush 2039, 3) := by decide +kernel
theorem dX0_prime_9 : decode cX0_prime 9 = .ok (.if_icmp .gt 15, 3) := by decide +kernel
theorem dX0_prime_12 : decode cX0_prime 12 = .ok (.aload_n 0, 1) := by decide +kernel
theorem dX0_prime_13 : decode cX0_prime 13 = .ok (.iload_n 1, 1) := by decide +kernel
theorem dX0_prime_14 : decode cX0_prime 14 = .ok (.invokevirtual 29, 3) := by decide +kernel
theorem dX0_prime_17 : decode cX0_prime 17 = .ok (.ifCond .eq 7, 3) := by decide +kernel
theorem dX0_prime_20 : decode cX0_prime 20 = .ok (.iconst 1, 1) := by decide +kernel
theorem dX0_prime_21 : decode cX0_prime 21 = .ok (.goto 4, 3) := by decide +kernel
theorem dX0_prime_24 : decode cX0_prime 24 = .ok (.iconst 0, 1) := by decide +kernel
theorem dX0_prime_25 : decode cX0_prime 25 = .ok (.istore_n 2, 1) := by decide +kernel
theorem dX0_prime_26 : decode cX0_prime 26 = .ok (.iload_n 2, 1) := by decide +kernel
theorem dX0_prime_27 : decode cX0_prime 27 = .ok (.ifCond .ne 5, 3) := by decide +kernel
theorem dX0_prime_30 : decode cX0_prime 30 = .ok (.iconst (-1), 1) := by decide +kernel
theorem dX0_prime_31 : decode cX0_prime 31 = .ok (.ireturn, 1) := by decide +kernel
theorem dX0_prime_32 : decode cX0_prime 32 = .ok (.aload_n 0, 1) := by decide +kernel
theorem dX0_prime_33 : decode cX0_prime 33 = .ok (.getfield 22, 3) := by decide +kernel
theorem dX0_prime_36 : decode cX0_prime 36 = .ok (.istore_n 3, 1) := by decide +kernel
theorem dX0_prime_37 : decode cX0_prime 37 = .ok (.aload_n 0, 1) := by decide +kernel
theorem dX0_prime_38 : decode cX0_prime 38 = .ok (.iload_n 1, 1) := by decide +kernel
theorem dX0_prime_39 : decode cX0_prime 39 = .ok (.putfield 22, 3) := by decide +kernel
theorem dX0_prime_42 : decode cX0_prime 42 = .ok (.aload_n 0, 1) := by decide +kernel
theorem dX0_prime_43 : decode cX0_prime 43 = .ok (.invokevirtual 26, 3) := by decide +kernel
theorem dX0_prime_46 : decode cX0_prime 46 = .ok (.iload_n 3, 1) := by decide +kernel
theorem dX0_prime_47 : decode cX0_prime 47 = .ok (.ireturn, 1) := by decide +kernel
theorem dX0_isPrime_0 : decode cX0_isPrime 0 = .ok (.iload_n 1, 1) := by decide +kernel
theorem dX0_isPrime_1 : decode cX0_isPrime 1 = .ok (.iconst 2, 1) := by decide +kernel
theorem dX0_isPrime_2 : decode cX0_isPrime 2 = .ok (.if_icmp .ge 5, 3) := by decide +kernel
theorem dX0_isPrime_5 : decode cX0_isPrime 5 = .ok (.iconst 0, 1) := by decide +kernel
theorem dX0_isPrime_6 : decode cX0_isPrime 6 = .ok (.ireturn, 1) := by decide +kernel
theorem dX0_isPrime_7 : decode cX0_isPrime 7 = .ok (.iconst 2, 1) := by decide +kernel
theorem dX0_isPrime_8 : decode cX0_isPrime 8 = .ok (.istore_n 2, 1) := by decide +kernel
theorem dX0_isPrime_9 : decode cX0_isPrime 9 = .ok (.iload_n 2, 1) := by decide +kernel
theorem dX0_isPrime_10 : decode cX0_isPrime 10 = .ok (.iload_n 2, 1) := by decide +kernel
theorem dX0_isPrime_11 : decode cX0_isPrime 11 = .ok (.imul, 1) := by decide +kernel
theorem dX0_isPrime_12 : decode cX0_isPrime 12 = .ok (.iload_n 1, 1) := by decide +kernel
theorem dX0_isPrime_13 : decode cX0_isPrime 13 = .ok (.if_icmp .gt 23, 3) := by decide +kernel
theorem dX0_isPrime_16 : decode cX0_isPrime 16 = .ok (.iload_n 2, 1) := by decide +kernel
theorem dX0_isPrime_17 : decode cX0_isPrime 17 = .ok (.bipush 50, 2) := by decide +kernel
theorem dX0_isPrime_19 : decode cX0_isPrime 19 = .ok (.if_icmp .ge 17, 3) := by decide +kernel
theorem dX0_isPrime_22 : decode cX0_isPrime 22 = .ok (.iload_n 1, 1) := by decide +kernel
theorem dX0_isPrime_23 : decode cX0_isPrime 23 = .ok (.iload_n 2, 1) := by decide +kernel
theorem dX0_isPrime_24 : decode cX0_isPrime 24 = .ok (.irem, 1) := by decide +kernel
theorem dX0_isPrime_25 : decode cX0_isPrime 25 = .ok (.ifCond .ne 5, 3) := by decide +kernel
theorem dX0_isPrime_28 : decode cX0_isPrime 28 = .ok (.iconst 0, 1) := by decide +kernel
theorem dX0_isPrime_29 : decode cX0_isPrime 29 = .ok (.ireturn, 1) := by decide +kernel
theorem dX0_isPrime_30 : decode cX0_isPrime 30 = .ok (.iinc 2 1, 3) := by decide +kernel
theorem dX0_isPrime_33 : decode cX0_isPrime 33 = .ok (.goto (-24), 3) := by decide +kernel
theorem dX0_isPrime_36 : decode cX0_isPrime 36 = .ok (.iconst 1, 1) := by decide +kernel
theorem dX0_isPrime_37 : decode cX0_isPrime 37 = .ok (.ireturn, 1) := by decide +kernel
theorem dX0_modulus_0 : decode cX0_modulus 0 = .ok (.aload_n 0, 1) := by decide +kernel
theorem dX0_modulus_1 : decode cX0_modulus 1 = .ok (.getfield 22, 3) := by decide +kernel
theorem dX0_modulus_4 : decode cX0_modulus 4 = .ok (.ireturn, 1) := by decide +kernel
theorem dX0_nextPrime_0 : decode cX0_nextPrime 0 = .ok (.aload_n 0, 1) := by decide +kernel
theorem dX0_nextPrime_1 : decode cX0_nextPrime 1 = .ok (.getfield 22, 3) := by decide +kernel
theorem dX0_nextPrime_4 : decode cX0_nextPrime 4 = .ok (.iconst 1, 1) := by decide +kernel
theorem dX0_nextPrime_5 : decode cX0_nextPrime 5 = .ok (.iadd, 1) := by decide +kernel
theorem dX0_nextPrime_6 : decode cX0_nextPrime 6 = .ok (.istore_n 1, 1) := by decide +kernel
theorem dX0_nextPrime_7 : decode cX0_nextPrime 7 = .ok (.iload_n 1, 1) := by decide +kernel
theorem dX0_nextPrime_8 : decode cX0_nextPrime 8 = .ok (.sipush 2039, 3) := by decide +kernel
theorem dX0_nextPrime_11 : decode cX0_nextPrime 11 = .ok (.if_icmp .gt 30, 3) := by decide +kernel
theorem dX0_nextPrime_14 : decode cX0_nextPrime 14 = .ok (.aload_n 0, 1) := by decide +kernel
theorem dX0_nextPrime_15 : decode cX0_nextPrime 15 = .ok (.iload_n 1, 1) := by decide +kernel
theorem dX0_nextPrime_16 : decode cX0_nextPrime 16 = .ok (.invokevirtual 29, 3) := by decide +kernel
theorem dX0_nextPrime_19 : decode cX0_nextPrime 19 = .ok (.istore_n 2, 1) := by decide +kernel
theorem dX0_nextPrime_20 : decode cX0_nextPrime 20 = .ok (.iload_n 2, 1) := by decide +kernel
theorem dX0_nextPrime_21 : decode cX0_nextPrime 21 = .ok (.ifCond .eq 14, 3) := by decide +kernel
theorem dX0_nextPrime_24 : decode cX0_nextPrime 24 = .ok (.aload_n 0, 1) := by decide +kernel
theorem dX0_nextPrime_25 : decode cX0_nextPrime 25 = .ok (.iload_n 1, 1) := by decide +kernel
theorem dX0_nextPrime_26 : decode cX0_nextPrime 26 = .ok (.putfield 22, 3) := by decide +kernel
theorem dX0_nextPrime_29 : decode cX0_nextPrime 29 = .ok (.aload_n 0, 1) := by decide +kernel
theorem dX0_nextPrime_30 : decode cX0_nextPrime 30 = .ok (.invokevirtual 26, 3) := by decide +kernel
theorem dX0_nextPrime_33 : decode cX0_nextPrime 33 = .ok (.iload_n 1, 1) := by decide +kernel
theorem dX0_nextPrime_34 : decode cX0_nextPrime 34 = .ok (.ireturn, 1) := by decide +kernel
theorem dX0_nextPrime_35 : decode cX0_nextPrime 35 = .ok (.iinc 1 1, 3) := by decide +kernel
theorem dX0_nextPrime_38 : decode cX0_nextPrime 38 = .ok (.goto (-31), 3) := by decide +kernel
theorem dX0_nextPrime_41 : decode cX0_nextPrime 41 = .ok (.bipush (-4), 2) := by decide +kernel
theorem dX0_nextPrime_43 : decode cX0_nextPrime 43 = .ok (.ireturn, 1) := by decide +kernel
theorem dX0_power_0 : decode cX0_power 0 = .ok (.aload_n 0, 1) := by decide +kernel
theorem dX0_power_1 : decode cX0_power 1 = .ok (.iload_n 1, 1) := by decide +kernel
theorem dX0_power_2 : decode cX0_power 2 = .ok (.invokevirtual 43, 3) := by decide +kernel
theorem dX0_power_5 : decode cX0_power 5 = .ok (.ifCond .ne 13, 3) := by decide +kernel
theorem dX0_power_8 : decode cX0_power 8 = .ok (.iload_n 2, 1) := by decide +kernel
theorem dX0_power_9 : decode cX0_power 9 = .ok (.ifCond .lt 9, 3) := by decide +kernel
theorem dX0_power_12 : decode cX0_power 12 = .ok (.iload_n 2, 1) := by decide +kernel
theorem dX0_power_13 : decode cX0_power 13 = .ok (.ldc 46, 2) := by decide +kernel
theorem dX0_power_15 : decode cX0_power 15 = .ok (.if_icmp .le 5, 3) := by decide +kernel
theorem dX0_power_18 : decode cX0_power 18 = .ok (.iconst (-1), 1) := by decide +kernel
theorem dX0_power_19 : decode cX0_power 19 = .ok (.ireturn, 1) := by decide +kernel
theorem dX0_power_20 : decode cX0_power 20 = .ok (.aload_n 0, 1) := by decide +kernel
theorem dX0_power_21 : decode cX0_power 21 = .ok (.iload_n 1, 1) := by decide +kernel
theorem dX0_power_22 : decode cX0_power 22 = .ok (.iload_n 2, 1) := by decide +kernel
theorem dX0_power_23 : decode cX0_power 23 = .ok (.invokevirtual 47, 3) := by decide +kernel
theorem dX0_power_26 : decode cX0_power 26 = .ok (.ireturn, 1) := by decide +kernel
theorem dX0_notUnit_0 : decode cX0_notUnit 0 = .ok (.iload_n 1, 1) := by decide +kernel
theorem dX0_notUnit_1 : decode cX0_notUnit 1 = .ok (.iconst 1, 1) := by decide +kernel
theorem dX0_notUnit_2 : decode cX0_notUnit 2 = .ok (.if_icmp .lt 11, 3) := by decide +kernel
theorem dX0_notUnit_5 : decode cX0_notUnit 5 = .ok (.iload_n 1, 1) := by decide +kernel
theorem dX0_notUnit_6 : decode cX0_notUnit 6 = .ok (.aload_n 0, 1) := by decide +kernel
theorem dX0_notUnit_7 : decode cX0_notUnit 7 = .ok (.getfield 22, 3) := by decide +kernel
theorem dX0_notUnit_10 : decode cX0_notUnit 10 = .ok (.if_icmp .lt 7, 3) := by decide +kernel
theorem dX0_notUnit_13 : decode cX0_notUnit 13 = .ok (.iconst 1, 1) := by decide +kernel
theorem dX0_notUnit_14 : decode cX0_notUnit 14 = .ok (.goto 4, 3) := by decide +kernel
theorem dX0_notUnit_17 : decode cX0_notUnit 17 = .ok (.iconst 0, 1) := by decide +kernel
theorem dX0_notUnit_18 : decode cX0_notUnit 18 = .ok (.ireturn, 1) := by decide +kernel
theorem dX0_pow_0 : decode cX0_pow 0 = .ok (.iconst 1, 1) := by decide +kernel
theorem dX0_pow_1 : decode cX0_pow 1 = .ok (.istore_n 3, 1) := by decide +kernel
theorem dX0_pow_2 : decode cX0_pow 2 = .ok (.iload_n 1, 1) := by decide +kernel
theorem dX0_pow_3 : decode cX0_pow 3 = .ok (.istore 4, 2) := by decide +kernel
theorem dX0_pow_5 : decode cX0_pow 5 = .ok (.iconst 0, 1) := by decide +kernel
theorem dX0_pow_6 : decode cX0_pow 6 = .ok (.istore 5, 2) := by decide +kernel
theorem dX0_pow_8 : decode cX0_pow 8 = .ok (.iload 5, 2) := by decide +kernel
theorem dX0_pow_10 : decode cX0_pow 10 = .ok (.bipush 31, 2) := by decide +kernel
theorem dX0_pow_12 : decode cX0_pow 12 = .ok (.if_icmp .ge 37, 3) := by decide +kernel
theorem dX0_pow_15 : decode cX0_pow 15 = .ok (.iload_n 2, 1) := by decide +kernel
theorem dX0_pow_16 : decode cX0_pow 16 = .ok (.iload 5, 2) := by decide +kernel
theorem dX0_pow_18 : decode cX0_pow 18 = .ok (.ishr, 1) := by decide +kernel
theorem dX0_pow_19 : decode cX0_pow 19 = .ok (.iconst 1, 1) := by decide +kernel
theorem dX0_pow_20 : decode cX0_pow 20 = .ok (.iand, 1) := by decide +kernel
theorem dX0_pow_21 : decode cX0_pow 21 = .ok (.iconst 1, 1) := by decide +kernel
theorem dX0_pow_22 : decode cX0_pow 22 = .ok (.if_icmp .ne 11, 3) := by decide +kernel
theorem dX0_pow_25 : decode cX0_pow 25 = .ok (.aload_n 0, 1) := by decide +kernel
theorem dX0_pow_26 : decode cX0_pow 26 = .ok (.iload_n 3, 1) := by decide +kernel
theorem dX0_pow_27 : decode cX0_pow 27 = .ok (.iload 4, 2) := by decide +kernel
theorem dX0_pow_29 : decode cX0_pow 29 = .ok (.invokevirtual 39, 3) := by decide +kernel
theorem dX0_pow_32 : decode cX0_pow 32 = .ok (.istore_n 3, 1) := by decide +kernel
theorem dX0_pow_33 : decode cX0_pow 33 = .ok (.aload_n 0, 1) := by decide +kernel
theorem dX0_pow_34 : decode cX0_pow 34 = .ok (.iload 4, 2) := by decide +kernel
theorem dX0_pow_36 : decode cX0_pow 36 = .ok (.iload 4, 2) := by decide +kernel
theorem dX0_pow_38 : decode cX0_pow 38 = .ok (.invokevirtual 39, 3) := by decide +kernel
theorem dX0_pow_41 : decode cX0_pow 41 = .ok (.istore 4, 2) := by decide +kernel
theorem dX0_pow_43 : decode cX0_pow 43 = .ok (.iinc 5 1, 3) := by decide +kernel
theorem dX0_pow_46 : decode cX0_pow 46 = .ok (.goto (-38), 3) := by decide +kernel
theorem dX0_pow_49 : decode cX0_pow 49 = .ok (.iload_n 3, 1) := by decide +kernel
theorem dX0_pow_50 : decode cX0_pow 50 = .ok (.ireturn, 1) := by decide +kernel
theorem dX0_mul_0 : decode cX0_mul 0 = .ok (.aload_n 0, 1) := by decide +kernel
theorem dX0_mul_1 : decode cX0_mul 1 = .ok (.getfield 22, 3) := by decide +kernel
theorem dX0_mul_4 : decode cX0_mul 4 = .ok (.ifCond .le 14, 3) := by decide +kernel
theorem dX0_mul_7 : decode cX0_mul 7 = .ok (.iload_n 1, 1) := by decide +kernel
theorem dX0_mul_8 : decode cX0_mul 8 = .ok (.iload_n 2, 1) := by decide +kernel
theorem dX0_mul_9 : decode cX0_mul 9 = .ok (.imul, 1) := by decide +kernel
theorem dX0_mul_10 : decode cX0_mul 10 = .ok (.aload_n 0, 1) := by decide +kernel
theorem dX0_mul_11 : decode cX0_mul 11 = .ok (.getfield 22, 3) := by decide +kernel
theorem dX0_mul_14 : decode cX0_mul 14 = .ok (.irem, 1) := by decide +kernel
theorem dX0_mul_15 : decode cX0_mul 15 = .ok (.goto 4, 3) := by decide +kernel
theorem dX0_mul_18 : decode cX0_mul 18 = .ok (.iconst 0, 1) := by decide +kernel
theorem dX0_mul_19 : decode cX0_mul 19 = .ok (.ireturn, 1) := by decide +kernel
theorem dX0_inverse_0 : decode cX0_inverse 0 = .ok (.aload_n 0, 1) := by decide +kernel
theorem dX0_inverse_1 : decode cX0_inverse 1 = .ok (.iload_n 1, 1) := by decide +kernel
theorem dX0_inverse_2 : decode cX0_inverse 2 = .ok (.invokevirtual 43, 3) := by decide +kernel
theorem dX0_inverse_5 : decode cX0_inverse 5 = .ok (.ifCond .eq 7, 3) := by decide +kernel
theorem dX0_inverse_8 : decode cX0_inverse 8 = .ok (.iconst (-1), 1) := by decide +kernel
theorem dX0_inverse_9 : decode cX0_inverse 9 = .ok (.goto 8, 3) := by decide +kernel
theorem dX0_inverse_12 : decode cX0_inverse 12 = .ok (.aload_n 0, 1) := by decide +kernel
theorem dX0_inverse_13 : decode cX0_inverse 13 = .ok (.iload_n 1, 1) := by decide +kernel
theorem dX0_inverse_14 : decode cX0_inverse 14 = .ok (.invokevirtual 50, 3) := by decide +kernel
theorem dX0_inverse_17 : decode cX0_inverse 17 = .ok (.ireturn, 1) := by decide +kernel
theorem dX0_invert_0 : decode cX0_invert 0 = .ok (.aload_n 0, 1) := by decide +kernel
theorem dX0_invert_1 : decode cX0_invert 1 = .ok (.iload_n 1, 1) := by decide +kernel
theorem dX0_invert_2 : decode cX0_invert 2 = .ok (.aload_n 0, 1) := by decide +kernel
theorem dX0_invert_3 : decode cX0_invert 3 = .ok (.getfield 22, 3) := by decide +kernel
theorem dX0_invert_6 : decode cX0_invert 6 = .ok (.iconst 2, 1) := by decide +kernel
theorem dX0_invert_7 : decode cX0_invert 7 = .ok (.isub, 1) := by decide +kernel
theorem dX0_invert_8 : decode cX0_invert 8 = .ok (.invokevirtual 47, 3) := by decide +kernel
theorem dX0_invert_11 : decode cX0_invert 11 = .ok (.ireturn, 1) := by decide +kernel
theorem dX0_order_0 : decode cX0_order 0 = .ok (.aload_n 0, 1) := by decide +kernel
theorem dX0_order_1 : decode cX0_order 1 = .ok (.iload_n 1, 1) := by decide +kernel
theorem dX0_order_2 : decode cX0_order 2 = .ok (.invokevirtual 43, 3) := by decide +kernel
theorem dX0_order_5 : decode cX0_order 5 = .ok (.ifCond .eq 7, 3) := by decide +kernel
theorem dX0_order_8 : decode cX0_order 8 = .ok (.iconst (-1), 1) := by decide +kernel
theorem dX0_order_9 : decode cX0_order 9 = .ok (.goto 8, 3) := by decide +kernel
theorem dX0_order_12 : decode cX0_order 12 = .ok (.aload_n 0, 1) := by decide +kernel
theorem dX0_order_13 : decode cX0_order 13 = .ok (.iload_n 1, 1) := by decide +kernel
theorem dX0_order_14 : decode cX0_order 14 = .ok (.invokevirtual 54, 3) := by decide +kernel
theorem dX0_order_17 : decode cX0_order 17 = .ok (.ireturn, 1) := by decide +kernel
theorem dX0_orderOf_0 : decode cX0_orderOf 0 = .ok (.aload_n 0, 1) := by decide +kernel
theorem dX0_orderOf_1 : decode cX0_orderOf 1 = .ok (.getfield 33, 3) := by decide +kernel
theorem dX0_orderOf_4 : decode cX0_orderOf 4 = .ok (.istore_n 2, 1) := by decide +kernel
theorem dX0_orderOf_5 : decode cX0_orderOf 5 = .ok (.iconst 0, 1) := by decide +kernel
theorem dX0_orderOf_6 : decode cX0_orderOf 6 = .ok (.istore_n 3, 1) := by decide +kernel
theorem dX0_orderOf_7 : decode cX0_orderOf 7 = .ok (.iload_n 3, 1) := by decide +kernel
theorem dX0_orderOf_8 : decode cX0_orderOf 8 = .ok (.aload_n 0, 1) := by decide +kernel
theorem dX0_orderOf_9 : decode cX0_orderOf 9 = .ok (.getfield 36, 3) := by decide +kernel
theorem dX0_orderOf_12 : decode cX0_orderOf 12 = .ok (.if_icmp .ge 81, 3) := by decide +kernel
theorem dX0_orderOf_15 : decode cX0_orderOf 15 = .ok (.aload_n 0, 1) := by decide +kernel
theorem dX0_orderOf_16 : decode cX0_orderOf 16 = .ok (.getfield 7, 3) := by decide +kernel
theorem dX0_orderOf_19 : decode cX0_orderOf 19 = .ok (.iload_n 3, 1) := by decide +kernel
theorem dX0_orderOf_20 : decode cX0_orderOf 20 = .ok (.iaload, 1) := by decide +kernel
theorem dX0_orderOf_21 : decode cX0_orderOf 21 = .ok (.istore 4, 2) := by decide +kernel
theorem dX0_orderOf_23 : decode cX0_orderOf 23 = .ok (.iconst 1, 1) := by decide +kernel
theorem dX0_orderOf_24 : decode cX0_orderOf 24 = .ok (.istore 5, 2) := by decide +kernel
theorem dX0_orderOf_26 : decode cX0_orderOf 26 = .ok (.iconst 0, 1) := by decide +kernel
theorem dX0_orderOf_27 : decode cX0_orderOf 27 = .ok (.istore 6, 2) := by decide +kernel
theorem dX0_orderOf_29 : decode cX0_orderOf 29 = .ok (.iload 6, 2) := by decide +kernel
theorem dX0_orderOf_31 : decode cX0_orderOf 31 = .ok (.aload_n 0, 1) := by decide +kernel
theorem dX0_orderOf_32 : decode cX0_orderOf 32 = .ok (.getfield 13, 3) := by decide +kernel
theorem dX0_orderOf_35 : decode cX0_orderOf 35 = .ok (.iload_n 3, 1) := by decide +kernel
end
section
set_option maxRecDepth 100000
theorem dX0_orderOf_36 : decode cX0_orderOf 36 = .ok (.iaload, 1) := by decide +kernel
theorem dX0_orderOf_37 : decode cX0_orderOf 37 = .ok (.if_icmp .ge 50, 3) := by decide +kernel
theorem dX0_orderOf_40 : decode cX0_orderOf 40 = .ok (.iload 5, 2) := by decide +kernel
theorem dX0_orderOf_42 : decode cX0_orderOf 42 = .ok (.ifCond .eq 45, 3) := by decide +kernel
theorem dX0_orderOf_45 : decode cX0_orderOf 45 = .ok (.iload_n 2, 1) := by decide +kernel
theorem dX0_orderOf_46 : decode cX0_orderOf 46 = .ok (.iload 4, 2) := by decide +kernel
theorem dX0_orderOf_48 : decode cX0_orderOf 48 = .ok (.idiv, 1) := by decide +kernel
theorem dX0_orderOf_49 : decode cX0_orderOf 49 = .ok (.istore 7, 2) := by decide +kernel
theorem dX0_orderOf_51 : decode cX0_orderOf 51 = .ok (.aload_n 0, 1) := by decide +kernel
theorem dX0_orderOf_52 : decode cX0_orderOf 52 = .ok (.iload_n 1, 1) := by decide +kernel
theorem dX0_orderOf_53 : decode cX0_orderOf 53 = .ok (.iload 7, 2) := by decide +kernel
theorem dX0_orderOf_55 : decode cX0_orderOf 55 = .ok (.invokevirtual 47, 3) := by decide +kernel
theorem dX0_orderOf_58 : decode cX0_orderOf 58 = .ok (.istore 8, 2) := by decide +kernel
theorem dX0_orderOf_60 : decode cX0_orderOf 60 = .ok (.iload 8, 2) := by decide +kernel
theorem dX0_orderOf_62 : decode cX0_orderOf 62 = .ok (.iconst 1, 1) := by decide +kernel
theorem dX0_orderOf_63 : decode cX0_orderOf 63 = .ok (.if_icmp .ne 7, 3) := by decide +kernel
theorem dX0_orderOf_66 : decode cX0_orderOf 66 = .ok (.iconst 1, 1) := by decide +kernel
theorem dX0_orderOf_67 : decode cX0_orderOf 67 = .ok (.goto 4, 3) := by decide +kernel
theorem dX0_orderOf_70 : decode cX0_orderOf 70 = .ok (.iconst 0, 1) := by decide +kernel
theorem dX0_orderOf_71 : decode cX0_orderOf 71 = .ok (.istore 5, 2) := by decide +kernel
theorem dX0_orderOf_73 : decode cX0_orderOf 73 = .ok (.iload 5, 2) := by decide +kernel
theorem dX0_orderOf_75 : decode cX0_orderOf 75 = .ok (.ifCond .eq 6, 3) := by decide +kernel
theorem dX0_orderOf_78 : decode cX0_orderOf 78 = .ok (.iload 7, 2) := by decide +kernel
theorem dX0_orderOf_80 : decode cX0_orderOf 80 = .ok (.istore_n 2, 1) := by decide +kernel
theorem dX0_orderOf_81 : decode cX0_orderOf 81 = .ok (.iinc 6 1, 3) := by decide +kernel
theorem dX0_orderOf_84 : decode cX0_orderOf 84 = .ok (.goto (-55), 3) := by decide +kernel
theorem dX0_orderOf_87 : decode cX0_orderOf 87 = .ok (.iinc 3 1, 3) := by decide +kernel
theorem dX0_orderOf_90 : decode cX0_orderOf 90 = .ok (.goto (-83), 3) := by decide +kernel
theorem dX0_orderOf_93 : decode cX0_orderOf 93 = .ok (.iload_n 2, 1) := by decide +kernel
theorem dX0_orderOf_94 : decode cX0_orderOf 94 = .ok (.ireturn, 1) := by decide +kernel
theorem dX0_generator_0 : decode cX0_generator 0 = .ok (.iconst 1, 1) := by decide +kernel
theorem dX0_generator_1 : decode cX0_generator 1 = .ok (.istore_n 1, 1) := by decide +kernel
theorem dX0_generator_2 : decode cX0_generator 2 = .ok (.iload_n 1, 1) := by decide +kernel
theorem dX0_generator_3 : decode cX0_generator 3 = .ok (.aload_n 0, 1) := by decide +kernel
theorem dX0_generator_4 : decode cX0_generator 4 = .ok (.getfield 22, 3) := by decide +kernel
theorem dX0_generator_7 : decode cX0_generator 7 = .ok (.if_icmp .ge 28, 3) := by decide +kernel
theorem dX0_generator_10 : decode cX0_generator 10 = .ok (.iload_n 1, 1) := by decide +kernel
theorem dX0_generator_11 : decode cX0_generator 11 = .ok (.sipush 2039, 3) := by decide +kernel
theorem dX0_generator_14 : decode cX0_generator 14 = .ok (.if_icmp .ge 21, 3) := by decide +kernel
theorem dX0_generator_17 : decode cX0_generator 17 = .ok (.aload_n 0, 1) := by decide +kernel
theorem dX0_generator_18 : decode cX0_generator 18 = .ok (.iload_n 1, 1) := by decide +kernel
theorem dX0_generator_19 : decode cX0_generator 19 = .ok (.invokevirtual 57, 3) := by decide +kernel
theorem dX0_generator_22 : decode cX0_generator 22 = .ok (.istore_n 2, 1) := by decide +kernel
theorem dX0_generator_23 : decode cX0_generator 23 = .ok (.iload_n 2, 1) := by decide +kernel
theorem dX0_generator_24 : decode cX0_generator 24 = .ok (.ifCond .eq 5, 3) := by decide +kernel
theorem dX0_generator_27 : decode cX0_generator 27 = .ok (.iload_n 1, 1) := by decide +kernel
theorem dX0_generator_28 : decode cX0_generator 28 = .ok (.ireturn, 1) := by decide +kernel
theorem dX0_generator_29 : decode cX0_generator 29 = .ok (.iinc 1 1, 3) := by decide +kernel
theorem dX0_generator_32 : decode cX0_generator 32 = .ok (.goto (-30), 3) := by decide +kernel
theorem dX0_generator_35 : decode cX0_generator 35 = .ok (.bipush (-4), 2) := by decide +kernel
theorem dX0_generator_37 : decode cX0_generator 37 = .ok (.ireturn, 1) := by decide +kernel
theorem dX0_generates_0 : decode cX0_generates 0 = .ok (.iconst 0, 1) := by decide +kernel
theorem dX0_generates_1 : decode cX0_generates 1 = .ok (.istore_n 2, 1) := by decide +kernel
theorem dX0_generates_2 : decode cX0_generates 2 = .ok (.iload_n 2, 1) := by decide +kernel
theorem dX0_generates_3 : decode cX0_generates 3 = .ok (.aload_n 0, 1) := by decide +kernel
theorem dX0_generates_4 : decode cX0_generates 4 = .ok (.getfield 36, 3) := by decide +kernel
theorem dX0_generates_7 : decode cX0_generates 7 = .ok (.if_icmp .ge 33, 3) := by decide +kernel
theorem dX0_generates_10 : decode cX0_generates 10 = .ok (.aload_n 0, 1) := by decide +kernel
theorem dX0_generates_11 : decode cX0_generates 11 = .ok (.iload_n 1, 1) := by decide +kernel
theorem dX0_generates_12 : decode cX0_generates 12 = .ok (.aload_n 0, 1) := by decide +kernel
theorem dX0_generates_13 : decode cX0_generates 13 = .ok (.getfield 33, 3) := by decide +kernel
theorem dX0_generates_16 : decode cX0_generates 16 = .ok (.aload_n 0, 1) := by decide +kernel
theorem dX0_generates_17 : decode cX0_generates 17 = .ok (.getfield 7, 3) := by decide +kernel
theorem dX0_generates_20 : decode cX0_generates 20 = .ok (.iload_n 2, 1) := by decide +kernel
theorem dX0_generates_21 : decode cX0_generates 21 = .ok (.iaload, 1) := by decide +kernel
theorem dX0_generates_22 : decode cX0_generates 22 = .ok (.idiv, 1) := by decide +kernel
theorem dX0_generates_23 : decode cX0_generates 23 = .ok (.invokevirtual 47, 3) := by decide +kernel
theorem dX0_generates_26 : decode cX0_generates 26 = .ok (.istore_n 3, 1) := by decide +kernel
theorem dX0_generates_27 : decode cX0_generates 27 = .ok (.iload_n 3, 1) := by decide +kernel
theorem dX0_generates_28 : decode cX0_generates 28 = .ok (.iconst 1, 1) := by decide +kernel
theorem dX0_generates_29 : decode cX0_generates 29 = .ok (.if_icmp .ne 5, 3) := by decide +kernel
theorem dX0_generates_32 : decode cX0_generates 32 = .ok (.iconst 0, 1) := by decide +kernel
theorem dX0_generates_33 : decode cX0_generates 33 = .ok (.ireturn, 1) := by decide +kernel
theorem dX0_generates_34 : decode cX0_generates 34 = .ok (.iinc 2 1, 3) := by decide +kernel
theorem dX0_generates_37 : decode cX0_generates 37 = .ok (.goto (-35), 3) := by decide +kernel
theorem dX0_generates_40 : decode cX0_generates 40 = .ok (.iconst 1, 1) := by decide +kernel
theorem dX0_generates_41 : decode cX0_generates 41 = .ok (.ireturn, 1) := by decide +kernel
theorem dX0_generators_0 : decode cX0_generators 0 = .ok (.aload_n 0, 1) := by decide +kernel
theorem dX0_generators_1 : decode cX0_generators 1 = .ok (.aload_n 0, 1) := by decide +kernel
theorem dX0_generators_2 : decode cX0_generators 2 = .ok (.getfield 33, 3) := by decide +kernel
theorem dX0_generators_5 : decode cX0_generators 5 = .ok (.invokevirtual 60, 3) := by decide +kernel
theorem dX0_generators_8 : decode cX0_generators 8 = .ok (.ireturn, 1) := by decide +kernel
theorem dX0_totient_0 : decode cX0_totient 0 = .ok (.iload_n 1, 1) := by decide +kernel
theorem dX0_totient_1 : decode cX0_totient 1 = .ok (.istore_n 2, 1) := by decide +kernel
theorem dX0_totient_2 : decode cX0_totient 2 = .ok (.iconst 0, 1) := by decide +kernel
theorem dX0_totient_3 : decode cX0_totient 3 = .ok (.istore_n 3, 1) := by decide +kernel
theorem dX0_totient_4 : decode cX0_totient 4 = .ok (.iload_n 3, 1) := by decide +kernel
theorem dX0_totient_5 : decode cX0_totient 5 = .ok (.aload_n 0, 1) := by decide +kernel
theorem dX0_totient_6 : decode cX0_totient 6 = .ok (.getfield 36, 3) := by decide +kernel
theorem dX0_totient_9 : decode cX0_totient 9 = .ok (.if_icmp .ge 38, 3) := by decide +kernel
theorem dX0_totient_12 : decode cX0_totient 12 = .ok (.iload_n 1, 1) := by decide +kernel
theorem dX0_totient_13 : decode cX0_totient 13 = .ok (.aload_n 0, 1) := by decide +kernel
theorem dX0_totient_14 : decode cX0_totient 14 = .ok (.getfield 7, 3) := by decide +kernel
theorem dX0_totient_17 : decode cX0_totient 17 = .ok (.iload_n 3, 1) := by decide +kernel
theorem dX0_totient_18 : decode cX0_totient 18 = .ok (.iaload, 1) := by decide +kernel
theorem dX0_totient_19 : decode cX0_totient 19 = .ok (.irem, 1) := by decide +kernel
theorem dX0_totient_20 : decode cX0_totient 20 = .ok (.ifCond .ne 21, 3) := by decide +kernel
theorem dX0_totient_23 : decode cX0_totient 23 = .ok (.iload_n 2, 1) := by decide +kernel
theorem dX0_totient_24 : decode cX0_totient 24 = .ok (.aload_n 0, 1) := by decide +kernel
theorem dX0_totient_25 : decode cX0_totient 25 = .ok (.getfield 7, 3) := by decide +kernel
theorem dX0_totient_28 : decode cX0_totient 28 = .ok (.iload_n 3, 1) := by decide +kernel
theorem dX0_totient_29 : decode cX0_totient 29 = .ok (.iaload, 1) := by decide +kernel
theorem dX0_totient_30 : decode cX0_totient 30 = .ok (.idiv, 1) := by decide +kernel
theorem dX0_totient_31 : decode cX0_totient 31 = .ok (.aload_n 0, 1) := by decide +kernel
theorem dX0_totient_32 : decode cX0_totient 32 = .ok (.getfield 7, 3) := by decide +kernel
theorem dX0_totient_35 : decode cX0_totient 35 = .ok (.iload_n 3, 1) := by decide +kernel
theorem dX0_totient_36 : decode cX0_totient 36 = .ok (.iaload, 1) := by decide +kernel
theorem dX0_totient_37 : decode cX0_totient 37 = .ok (.iconst 1, 1) := by decide +kernel
theorem dX0_totient_38 : decode cX0_totient 38 = .ok (.isub, 1) := by decide +kernel
theorem dX0_totient_39 : decode cX0_totient 39 = .ok (.imul, 1) := by decide +kernel
theorem dX0_totient_40 : decode cX0_totient 40 = .ok (.istore_n 2, 1) := by decide +kernel
theorem dX0_totient_41 : decode cX0_totient 41 = .ok (.iinc 3 1, 3) := by decide +kernel
theorem dX0_totient_44 : decode cX0_totient 44 = .ok (.goto (-40), 3) := by decide +kernel
theorem dX0_totient_47 : decode cX0_totient 47 = .ok (.iload_n 2, 1) := by decide +kernel
theorem dX0_totient_48 : decode cX0_totient 48 = .ok (.ireturn, 1) := by decide +kernel
theorem dX0_log_0 : decode cX0_log 0 = .ok (.aload_n 0, 1) := by decide +kernel
theorem dX0_log_1 : decode cX0_log 1 = .ok (.iload_n 1, 1) := by decide +kernel
theorem dX0_log_2 : decode cX0_log 2 = .ok (.invokevirtual 43, 3) := by decide +kernel
theorem dX0_log_5 : decode cX0_log 5 = .ok (.ifCond .ne 11, 3) := by decide +kernel
theorem dX0_log_8 : decode cX0_log 8 = .ok (.aload_n 0, 1) := by decide +kernel
theorem dX0_log_9 : decode cX0_log 9 = .ok (.iload_n 2, 1) := by decide +kernel
theorem dX0_log_10 : decode cX0_log 10 = .ok (.invokevirtual 43, 3) := by decide +kernel
theorem dX0_log_13 : decode cX0_log 13 = .ok (.ifCond .eq 5, 3) := by decide +kernel
theorem dX0_log_16 : decode cX0_log 16 = .ok (.iconst (-1), 1) := by decide +kernel
theorem dX0_log_17 : decode cX0_log 17 = .ok (.ireturn, 1) := by decide +kernel
theorem dX0_log_18 : decode cX0_log 18 = .ok (.aload_n 0, 1) := by decide +kernel
theorem dX0_log_19 : decode cX0_log 19 = .ok (.iload_n 1, 1) := by decide +kernel
theorem dX0_log_20 : decode cX0_log 20 = .ok (.iload_n 2, 1) := by decide +kernel
theorem dX0_log_21 : decode cX0_log 21 = .ok (.invokevirtual 89, 3) := by decide +kernel
theorem dX0_log_24 : decode cX0_log 24 = .ok (.ireturn, 1) := by decide +kernel
theorem dX0_leastLog_0 : decode cX0_leastLog 0 = .ok (.aload_n 0, 1) := by decide +kernel
theorem dX0_leastLog_1 : decode cX0_leastLog 1 = .ok (.iload_n 1, 1) := by decide +kernel
theorem dX0_leastLog_2 : decode cX0_leastLog 2 = .ok (.invokevirtual 54, 3) := by decide +kernel
theorem dX0_leastLog_5 : decode cX0_leastLog 5 = .ok (.istore_n 3, 1) := by decide +kernel
theorem dX0_leastLog_6 : decode cX0_leastLog 6 = .ok (.aload_n 0, 1) := by decide +kernel
theorem dX0_leastLog_7 : decode cX0_leastLog 7 = .ok (.iload_n 2, 1) := by decide +kernel
theorem dX0_leastLog_8 : decode cX0_leastLog 8 = .ok (.iload_n 3, 1) := by decide +kernel
theorem dX0_leastLog_9 : decode cX0_leastLog 9 = .ok (.invokevirtual 47, 3) := by decide +kernel
theorem dX0_leastLog_12 : decode cX0_leastLog 12 = .ok (.istore 4, 2) := by decide +kernel
theorem dX0_leastLog_14 : decode cX0_leastLog 14 = .ok (.iload 4, 2) := by decide +kernel
theorem dX0_leastLog_16 : decode cX0_leastLog 16 = .ok (.iconst 1, 1) := by decide +kernel
theorem dX0_leastLog_17 : decode cX0_leastLog 17 = .ok (.if_icmp .eq 6, 3) := by decide +kernel
theorem dX0_leastLog_20 : decode cX0_leastLog 20 = .ok (.bipush (-4), 2) := by decide +kernel
theorem dX0_leastLog_22 : decode cX0_leastLog 22 = .ok (.ireturn, 1) := by decide +kernel
theorem dX0_leastLog_23 : decode cX0_leastLog 23 = .ok (.iconst 0, 1) := by decide +kernel
theorem dX0_leastLog_24 : decode cX0_leastLog 24 = .ok (.istore 5, 2) := by decide +kernel
theorem dX0_leastLog_26 : decode cX0_leastLog 26 = .ok (.iconst 1, 1) := by decide +kernel
theorem dX0_leastLog_27 : decode cX0_leastLog 27 = .ok (.istore 6, 2) := by decide +kernel
theorem dX0_leastLog_29 : decode cX0_leastLog 29 = .ok (.iconst 0, 1) := by decide +kernel
theorem dX0_leastLog_30 : decode cX0_leastLog 30 = .ok (.istore 7, 2) := by decide +kernel
theorem dX0_leastLog_32 : decode cX0_leastLog 32 = .ok (.iload 7, 2) := by decide +kernel
theorem dX0_leastLog_34 : decode cX0_leastLog 34 = .ok (.aload_n 0, 1) := by decide +kernel
theorem dX0_leastLog_35 : decode cX0_leastLog 35 = .ok (.getfield 36, 3) := by decide +kernel
theorem dX0_leastLog_38 : decode cX0_leastLog 38 = .ok (.if_icmp .ge 122, 3) := by decide +kernel
theorem dX0_leastLog_41 : decode cX0_leastLog 41 = .ok (.aload_n 0, 1) := by decide +kernel
theorem dX0_leastLog_42 : decode cX0_leastLog 42 = .ok (.getfield 7, 3) := by decide +kernel
theorem dX0_leastLog_45 : decode cX0_leastLog 45 = .ok (.iload 7, 2) := by decide +kernel
theorem dX0_leastLog_47 : decode cX0_leastLog 47 = .ok (.iaload, 1) := by decide +kernel
theorem dX0_leastLog_48 : decode cX0_leastLog 48 = .ok (.istore 8, 2) := by decide +kernel
theorem dX0_leastLog_50 : decode cX0_leastLog 50 = .ok (.iconst 0, 1) := by decide +kernel
theorem dX0_leastLog_51 : decode cX0_leastLog 51 = .ok (.istore 9, 2) := by decide +kernel
theorem dX0_leastLog_53 : decode cX0_leastLog 53 = .ok (.iconst 1, 1) := by decide +kernel
theorem dX0_leastLog_54 : decode cX0_leastLog 54 = .ok (.istore 10, 2) := by decide +kernel
theorem dX0_leastLog_56 : decode cX0_leastLog 56 = .ok (.iconst 0, 1) := by decide +kernel
theorem dX0_leastLog_57 : decode cX0_leastLog 57 = .ok (.istore 11, 2) := by decide +kernel
theorem dX0_leastLog_59 : decode cX0_leastLog 59 = .ok (.iload 11, 2) := by decide +kernel
theorem dX0_leastLog_61 : decode cX0_leastLog 61 = .ok (.bipush 12, 2) := by decide +kernel
theorem dX0_leastLog_63 : decode cX0_leastLog 63 = .ok (.if_icmp .ge 29, 3) := by decide +kernel
theorem dX0_leastLog_66 : decode cX0_leastLog 66 = .ok (.iload_n 3, 1) := by decide +kernel
theorem dX0_leastLog_67 : decode cX0_leastLog 67 = .ok (.iload 10, 2) := by decide +kernel
theorem dX0_leastLog_69 : decode cX0_leastLog 69 = .ok (.iload 8, 2) := by decide +kernel
theorem dX0_leastLog_71 : decode cX0_leastLog 71 = .ok (.imul, 1) := by decide +kernel
theorem dX0_leastLog_72 : decode cX0_leastLog 72 = .ok (.irem, 1) := by decide +kernel
theorem dX0_leastLog_73 : decode cX0_leastLog 73 = .ok (.ifCond .ne 19, 3) := by decide +kernel
theorem dX0_leastLog_76 : decode cX0_leastLog 76 = .ok (.iload 10, 2) := by decide +kernel
theorem dX0_leastLog_78 : decode cX0_leastLog 78 = .ok (.iload 8, 2) := by decide +kernel
theorem dX0_leastLog_80 : decode cX0_leastLog 80 = .ok (.imul, 1) := by decide +kernel
theorem dX0_leastLog_81 : decode cX0_leastLog 81 = .ok (.istore 10, 2) := by decide +kernel
theorem dX0_leastLog_83 : decode cX0_leastLog 83 = .ok (.iinc 9 1, 3) := by decide +kernel
theorem dX0_leastLog_86 : decode cX0_leastLog 86 = .ok (.iinc 11 1, 3) := by decide +kernel
theorem dX0_leastLog_89 : decode cX0_leastLog 89 = .ok (.goto (-30), 3) := by decide +kernel
theorem dX0_leastLog_92 : decode cX0_leastLog 92 = .ok (.iload 9, 2) := by decide +kernel
theorem dX0_leastLog_94 : decode cX0_leastLog 94 = .ok (.ifCond .le 60, 3) := by decide +kernel
theorem dX0_leastLog_97 : decode cX0_leastLog 97 = .ok (.aload_n 0, 1) := by decide +kernel
theorem dX0_leastLog_98 : decode cX0_leastLog 98 = .ok (.iload_n 1, 1) := by decide +kernel
theorem dX0_leastLog_99 : decode cX0_leastLog 99 = .ok (.iload_n 3, 1) := by decide +kernel
theorem dX0_leastLog_100 : decode cX0_leastLog 100 = .ok (.iload 10, 2) := by decide +kernel
theorem dX0_leastLog_102 : decode cX0_leastLog 102 = .ok (.idiv, 1) := by decide +kernel
theorem dX0_leastLog_103 : decode cX0_leastLog 103 = .ok (.invokevirtual 47, 3) := by decide +kernel
theorem dX0_leastLog_106 : decode cX0_leastLog 106 = .ok (.istore 11, 2) := by decide +kernel
theorem dX0_leastLog_108 : decode cX0_leastLog 108 = .ok (.aload_n 0, 1) := by decide +kernel
theorem dX0_leastLog_109 : decode cX0_leastLog 109 = .ok (.iload_n 2, 1) := by decide +kernel
theorem dX0_leastLog_110 : decode cX0_leastLog 110 = .ok (.iload_n 3, 1) := by decide +kernel
theorem dX0_leastLog_111 : decode cX0_leastLog 111 = .ok (.iload 10, 2) := by decide +kernel
theorem dX0_leastLog_113 : decode cX0_leastLog 113 = .ok (.idiv, 1) := by decide +kernel
theorem dX0_leastLog_114 : decode cX0_leastLog 114 = .ok (.invokevirtual 47, 3) := by decide +kernel
theorem dX0_leastLog_117 : decode cX0_leastLog 117 = .ok (.istore 12, 2) := by decide +kernel
theorem dX0_leastLog_119 : decode cX0_leastLog 119 = .ok (.aload_n 0, 1) := by decide +kernel
theorem dX0_leastLog_120 : decode cX0_leastLog 120 = .ok (.iload 11, 2) := by decide +kernel
theorem dX0_leastLog_122 : decode cX0_leastLog 122 = .ok (.iload 12, 2) := by decide +kernel
theorem dX0_leastLog_124 : decode cX0_leastLog 124 = .ok (.iload 8, 2) := by decide +kernel
theorem dX0_leastLog_126 : decode cX0_leastLog 126 = .ok (.iload 9, 2) := by decide +kernel
theorem dX0_leastLog_128 : decode cX0_leastLog 128 = .ok (.invokevirtual 76, 3) := by decide +kernel
theorem dX0_leastLog_131 : decode cX0_leastLog 131 = .ok (.istore 13, 2) := by decide +kernel
theorem dX0_leastLog_133 : decode cX0_leastLog 133 = .ok (.aload_n 0, 1) := by decide +kernel
theorem dX0_leastLog_134 : decode cX0_leastLog 134 = .ok (.iload 5, 2) := by decide +kernel
theorem dX0_leastLog_136 : decode cX0_leastLog 136 = .ok (.iload 6, 2) := by decide +kernel
theorem dX0_leastLog_138 : decode cX0_leastLog 138 = .ok (.iload 13, 2) := by decide +kernel
theorem dX0_leastLog_140 : decode cX0_leastLog 140 = .ok (.iload 10, 2) := by decide +kernel
theorem dX0_leastLog_142 : decode cX0_leastLog 142 = .ok (.invokevirtual 80, 3) := by decide +kernel
theorem dX0_leastLog_145 : decode cX0_leastLog 145 = .ok (.istore 5, 2) := by decide +kernel
theorem dX0_leastLog_147 : decode cX0_leastLog 147 = .ok (.iload 6, 2) := by decide +kernel
theorem dX0_leastLog_149 : decode cX0_leastLog 149 = .ok (.iload 10, 2) := by decide +kernel
theorem dX0_leastLog_151 : decode cX0_leastLog 151 = .ok (.imul, 1) := by decide +kernel
theorem dX0_leastLog_152 : decode cX0_leastLog 152 = .ok (.istore 6, 2) := by decide +kernel
theorem dX0_leastLog_154 : decode cX0_leastLog 154 = .ok (.iinc 7 1, 3) := by decide +kernel
theorem dX0_leastLog_157 : decode cX0_leastLog 157 = .ok (.goto (-125), 3) := by decide +kernel
theorem dX0_leastLog_160 : decode cX0_leastLog 160 = .ok (.iload 5, 2) := by decide +kernel
theorem dX0_leastLog_162 : decode cX0_leastLog 162 = .ok (.ireturn, 1) := by decide +kernel
theorem dX0_powerLog_0 : decode cX0_powerLog 0 = .ok (.iconst 1, 1) := by decide +kernel
theorem dX0_powerLog_1 : decode cX0_powerLog 1 = .ok (.istore 5, 2) := by decide +kernel
theorem dX0_powerLog_3 : decode cX0_powerLog 3 = .ok (.iconst 1, 1) := by decide +kernel
theorem dX0_powerLog_4 : decode cX0_powerLog 4 = .ok (.istore 6, 2) := by decide +kernel
theorem dX0_powerLog_6 : decode cX0_powerLog 6 = .ok (.iload 6, 2) := by decide +kernel
theorem dX0_powerLog_8 : decode cX0_powerLog 8 = .ok (.iload 4, 2) := by decide +kernel
theorem dX0_powerLog_10 : decode cX0_powerLog 10 = .ok (.if_icmp .ge 15, 3) := by decide +kernel
theorem dX0_powerLog_13 : decode cX0_powerLog 13 = .ok (.iload 5, 2) := by decide +kernel
theorem dX0_powerLog_15 : decode cX0_powerLog 15 = .ok (.iload_n 3, 1) := by decide +kernel
theorem dX0_powerLog_16 : decode cX0_powerLog 16 = .ok (.imul, 1) := by decide +kernel
theorem dX0_powerLog_17 : decode cX0_powerLog 17 = .ok (.istore 5, 2) := by decide +kernel
theorem dX0_powerLog_19 : decode cX0_powerLog 19 = .ok (.iinc 6 1, 3) := by decide +kernel
theorem dX0_powerLog_22 : decode cX0_powerLog 22 = .ok (.goto (-16), 3) := by decide +kernel
theorem dX0_powerLog_25 : decode cX0_powerLog 25 = .ok (.aload_n 0, 1) := by decide +kernel
theorem dX0_powerLog_26 : decode cX0_powerLog 26 = .ok (.iload_n 1, 1) := by decide +kernel
theorem dX0_powerLog_27 : decode cX0_powerLog 27 = .ok (.iload 5, 2) := by decide +kernel
theorem dX0_powerLog_29 : decode cX0_powerLog 29 = .ok (.invokevirtual 47, 3) := by decide +kernel
theorem dX0_powerLog_32 : decode cX0_powerLog 32 = .ok (.istore 6, 2) := by decide +kernel
theorem dX0_powerLog_34 : decode cX0_powerLog 34 = .ok (.aload_n 0, 1) := by decide +kernel
theorem dX0_powerLog_35 : decode cX0_powerLog 35 = .ok (.iload_n 1, 1) := by decide +kernel
theorem dX0_powerLog_36 : decode cX0_powerLog 36 = .ok (.invokevirtual 50, 3) := by decide +kernel
theorem dX0_powerLog_39 : decode cX0_powerLog 39 = .ok (.istore 7, 2) := by decide +kernel
theorem dX0_powerLog_41 : decode cX0_powerLog 41 = .ok (.iconst 0, 1) := by decide +kernel
theorem dX0_powerLog_42 : decode cX0_powerLog 42 = .ok (.istore 8, 2) := by decide +kernel
theorem dX0_powerLog_44 : decode cX0_powerLog 44 = .ok (.iconst 1, 1) := by decide +kernel
theorem dX0_powerLog_45 : decode cX0_powerLog 45 = .ok (.istore 9, 2) := by decide +kernel
theorem dX0_powerLog_47 : decode cX0_powerLog 47 = .ok (.iload 5, 2) := by decide +kernel
theorem dX0_powerLog_49 : decode cX0_powerLog 49 = .ok (.istore 10, 2) := by decide +kernel
theorem dX0_powerLog_51 : decode cX0_powerLog 51 = .ok (.iconst 0, 1) := by decide +kernel
theorem dX0_powerLog_52 : decode cX0_powerLog 52 = .ok (.istore 11, 2) := by decide +kernel
theorem dX0_powerLog_54 : decode cX0_powerLog 54 = .ok (.iload 11, 2) := by decide +kernel
theorem dX0_powerLog_56 : decode cX0_powerLog 56 = .ok (.iload 4, 2) := by decide +kernel
theorem dX0_powerLog_58 : decode cX0_powerLog 58 = .ok (.if_icmp .ge 79, 3) := by decide +kernel
theorem dX0_powerLog_61 : decode cX0_powerLog 61 = .ok (.aload_n 0, 1) := by decide +kernel
theorem dX0_powerLog_62 : decode cX0_powerLog 62 = .ok (.iload 7, 2) := by decide +kernel
theorem dX0_powerLog_64 : decode cX0_powerLog 64 = .ok (.iload 8, 2) := by decide +kernel
theorem dX0_powerLog_66 : decode cX0_powerLog 66 = .ok (.invokevirtual 47, 3) := by decide +kernel
theorem dX0_powerLog_69 : decode cX0_powerLog 69 = .ok (.istore 12, 2) := by decide +kernel
theorem dX0_powerLog_71 : decode cX0_powerLog 71 = .ok (.aload_n 0, 1) := by decide +kernel
theorem dX0_powerLog_72 : decode cX0_powerLog 72 = .ok (.iload_n 2, 1) := by decide +kernel
theorem dX0_powerLog_73 : decode cX0_powerLog 73 = .ok (.iload 12, 2) := by decide +kernel
theorem dX0_powerLog_75 : decode cX0_powerLog 75 = .ok (.invokevirtual 39, 3) := by decide +kernel
theorem dX0_powerLog_78 : decode cX0_powerLog 78 = .ok (.istore 13, 2) := by decide +kernel
theorem dX0_powerLog_80 : decode cX0_powerLog 80 = .ok (.aload_n 0, 1) := by decide +kernel
theorem dX0_powerLog_81 : decode cX0_powerLog 81 = .ok (.iload 13, 2) := by decide +kernel
theorem dX0_powerLog_83 : decode cX0_powerLog 83 = .ok (.iload 10, 2) := by decide +kernel
theorem dX0_powerLog_85 : decode cX0_powerLog 85 = .ok (.invokevirtual 47, 3) := by decide +kernel
theorem dX0_powerLog_88 : decode cX0_powerLog 88 = .ok (.istore 14, 2) := by decide +kernel
theorem dX0_powerLog_90 : decode cX0_powerLog 90 = .ok (.aload_n 0, 1) := by decide +kernel
theorem dX0_powerLog_91 : decode cX0_powerLog 91 = .ok (.iload 6, 2) := by decide +kernel
theorem dX0_powerLog_93 : decode cX0_powerLog 93 = .ok (.iload 14, 2) := by decide +kernel
theorem dX0_powerLog_95 : decode cX0_powerLog 95 = .ok (.iload_n 3, 1) := by decide +kernel
theorem dX0_powerLog_96 : decode cX0_powerLog 96 = .ok (.invokevirtual 72, 3) := by decide +kernel
theorem dX0_powerLog_99 : decode cX0_powerLog 99 = .ok (.istore 15, 2) := by decide +kernel
theorem dX0_powerLog_101 : decode cX0_powerLog 101 = .ok (.iload 8, 2) := by decide +kernel
theorem dX0_powerLog_103 : decode cX0_powerLog 103 = .ok (.iload 15, 2) := by decide +kernel
theorem dX0_powerLog_105 : decode cX0_powerLog 105 = .ok (.iload 9, 2) := by decide +kernel
theorem dX0_powerLog_107 : decode cX0_powerLog 107 = .ok (.imul, 1) := by decide +kernel
theorem dX0_powerLog_108 : decode cX0_powerLog 108 = .ok (.iadd, 1) := by decide +kernel
theorem dX0_powerLog_109 : decode cX0_powerLog 109 = .ok (.istore 8, 2) := by decide +kernel
theorem dX0_powerLog_111 : decode cX0_powerLog 111 = .ok (.iload 9, 2) := by decide +kernel
theorem dX0_powerLog_113 : decode cX0_powerLog 113 = .ok (.iload_n 3, 1) := by decide +kernel
theorem dX0_powerLog_114 : decode cX0_powerLog 114 = .ok (.imul, 1) := by decide +kernel
theorem dX0_powerLog_115 : decode cX0_powerLog 115 = .ok (.istore 9, 2) := by decide +kernel
theorem dX0_powerLog_117 : decode cX0_powerLog 117 = .ok (.iload_n 3, 1) := by decide +kernel
theorem dX0_powerLog_118 : decode cX0_powerLog 118 = .ok (.ifCond .le 10, 3) := by decide +kernel
theorem dX0_powerLog_121 : decode cX0_powerLog 121 = .ok (.iload 10, 2) := by decide +kernel
theorem dX0_powerLog_123 : decode cX0_powerLog 123 = .ok (.iload_n 3, 1) := by decide +kernel
theorem dX0_powerLog_124 : decode cX0_powerLog 124 = .ok (.idiv, 1) := by decide +kernel
theorem dX0_powerLog_125 : decode cX0_powerLog 125 = .ok (.goto 4, 3) := by decide +kernel
theorem dX0_powerLog_128 : decode cX0_powerLog 128 = .ok (.iconst 0, 1) := by decide +kernel
theorem dX0_powerLog_129 : decode cX0_powerLog 129 = .ok (.istore 10, 2) := by decide +kernel
theorem dX0_powerLog_131 : decode cX0_powerLog 131 = .ok (.iinc 11 1, 3) := by decide +kernel
theorem dX0_powerLog_134 : decode cX0_powerLog 134 = .ok (.goto (-80), 3) := by decide +kernel
theorem dX0_powerLog_137 : decode cX0_powerLog 137 = .ok (.iload 8, 2) := by decide +kernel
theorem dX0_powerLog_139 : decode cX0_powerLog 139 = .ok (.ireturn, 1) := by decide +kernel
theorem dX0_smallLog_0 : decode cX0_smallLog 0 = .ok (.aload_n 0, 1) := by decide +kernel
theorem dX0_smallLog_1 : decode cX0_smallLog 1 = .ok (.invokevirtual 63, 3) := by decide +kernel
theorem dX0_smallLog_4 : decode cX0_smallLog 4 = .ok (.aload_n 0, 1) := by decide +kernel
theorem dX0_smallLog_5 : decode cX0_smallLog 5 = .ok (.iload_n 3, 1) := by decide +kernel
theorem dX0_smallLog_6 : decode cX0_smallLog 6 = .ok (.invokevirtual 66, 3) := by decide +kernel
theorem dX0_smallLog_9 : decode cX0_smallLog 9 = .ok (.istore 4, 2) := by decide +kernel
theorem dX0_smallLog_11 : decode cX0_smallLog 11 = .ok (.iconst 1, 1) := by decide +kernel
theorem dX0_smallLog_12 : decode cX0_smallLog 12 = .ok (.istore 5, 2) := by decide +kernel
theorem dX0_smallLog_14 : decode cX0_smallLog 14 = .ok (.iconst 0, 1) := by decide +kernel
theorem dX0_smallLog_15 : decode cX0_smallLog 15 = .ok (.istore 6, 2) := by decide +kernel
theorem dX0_smallLog_17 : decode cX0_smallLog 17 = .ok (.iload 6, 2) := by decide +kernel
theorem dX0_smallLog_19 : decode cX0_smallLog 19 = .ok (.iload 4, 2) := by decide +kernel
theorem dX0_smallLog_21 : decode cX0_smallLog 21 = .ok (.if_icmp .ge 54, 3) := by decide +kernel
theorem dX0_smallLog_24 : decode cX0_smallLog 24 = .ok (.aload_n 0, 1) := by decide +kernel
theorem dX0_smallLog_25 : decode cX0_smallLog 25 = .ok (.iload 5, 2) := by decide +kernel
theorem dX0_smallLog_27 : decode cX0_smallLog 27 = .ok (.invokevirtual 69, 3) := by decide +kernel
theorem dX0_smallLog_30 : decode cX0_smallLog 30 = .ok (.istore 7, 2) := by decide +kernel
theorem dX0_smallLog_32 : decode cX0_smallLog 32 = .ok (.aload_n 0, 1) := by decide +kernel
theorem dX0_smallLog_33 : decode cX0_smallLog 33 = .ok (.getfield 16, 3) := by decide +kernel
theorem dX0_smallLog_36 : decode cX0_smallLog 36 = .ok (.iload 7, 2) := by decide +kernel
theorem dX0_smallLog_38 : decode cX0_smallLog 38 = .ok (.iaload, 1) := by decide +kernel
theorem dX0_smallLog_39 : decode cX0_smallLog 39 = .ok (.ifCond .ne 21, 3) := by decide +kernel
theorem dX0_smallLog_42 : decode cX0_smallLog 42 = .ok (.aload_n 0, 1) := by decide +kernel
theorem dX0_smallLog_43 : decode cX0_smallLog 43 = .ok (.getfield 16, 3) := by decide +kernel
theorem dX0_smallLog_46 : decode cX0_smallLog 46 = .ok (.iload 7, 2) := by decide +kernel
theorem dX0_smallLog_48 : decode cX0_smallLog 48 = .ok (.iload 5, 2) := by decide +kernel
theorem dX0_smallLog_50 : decode cX0_smallLog 50 = .ok (.iastore, 1) := by decide +kernel
theorem dX0_smallLog_51 : decode cX0_smallLog 51 = .ok (.aload_n 0, 1) := by decide +kernel
theorem dX0_smallLog_52 : decode cX0_smallLog 52 = .ok (.getfield 19, 3) := by decide +kernel
theorem dX0_smallLog_55 : decode cX0_smallLog 55 = .ok (.iload 7, 2) := by decide +kernel
theorem dX0_smallLog_57 : decode cX0_smallLog 57 = .ok (.iload 6, 2) := by decide +kernel
theorem dX0_smallLog_59 : decode cX0_smallLog 59 = .ok (.iastore, 1) := by decide +kernel
theorem dX0_smallLog_60 : decode cX0_smallLog 60 = .ok (.aload_n 0, 1) := by decide +kernel
theorem dX0_smallLog_61 : decode cX0_smallLog 61 = .ok (.iload 5, 2) := by decide +kernel
theorem dX0_smallLog_63 : decode cX0_smallLog 63 = .ok (.iload_n 1, 1) := by decide +kernel
theorem dX0_smallLog_64 : decode cX0_smallLog 64 = .ok (.invokevirtual 39, 3) := by decide +kernel
theorem dX0_smallLog_67 : decode cX0_smallLog 67 = .ok (.istore 5, 2) := by decide +kernel
theorem dX0_smallLog_69 : decode cX0_smallLog 69 = .ok (.iinc 6 1, 3) := by decide +kernel
theorem dX0_smallLog_72 : decode cX0_smallLog 72 = .ok (.goto (-55), 3) := by decide +kernel
theorem dX0_smallLog_75 : decode cX0_smallLog 75 = .ok (.aload_n 0, 1) := by decide +kernel
theorem dX0_smallLog_76 : decode cX0_smallLog 76 = .ok (.iload 5, 2) := by decide +kernel
theorem dX0_smallLog_78 : decode cX0_smallLog 78 = .ok (.invokevirtual 50, 3) := by decide +kernel
theorem dX0_smallLog_81 : decode cX0_smallLog 81 = .ok (.istore 6, 2) := by decide +kernel
theorem dX0_smallLog_83 : decode cX0_smallLog 83 = .ok (.iload_n 2, 1) := by decide +kernel
theorem dX0_smallLog_84 : decode cX0_smallLog 84 = .ok (.istore 7, 2) := by decide +kernel
theorem dX0_smallLog_86 : decode cX0_smallLog 86 = .ok (.iconst 0, 1) := by decide +kernel
theorem dX0_smallLog_87 : decode cX0_smallLog 87 = .ok (.istore 8, 2) := by decide +kernel
theorem dX0_smallLog_89 : decode cX0_smallLog 89 = .ok (.iload 8, 2) := by decide +kernel
theorem dX0_smallLog_91 : decode cX0_smallLog 91 = .ok (.iload 4, 2) := by decide +kernel
theorem dX0_smallLog_93 : decode cX0_smallLog 93 = .ok (.if_icmp .ge 53, 3) := by decide +kernel
theorem dX0_smallLog_96 : decode cX0_smallLog 96 = .ok (.aload_n 0, 1) := by decide +kernel
theorem dX0_smallLog_97 : decode cX0_smallLog 97 = .ok (.iload 7, 2) := by decide +kernel
theorem dX0_smallLog_99 : decode cX0_smallLog 99 = .ok (.invokevirtual 69, 3) := by decide +kernel
theorem dX0_smallLog_102 : decode cX0_smallLog 102 = .ok (.istore 9, 2) := by decide +kernel
theorem dX0_smallLog_104 : decode cX0_smallLog 104 = .ok (.aload_n 0, 1) := by decide +kernel
theorem dX0_smallLog_105 : decode cX0_smallLog 105 = .ok (.getfield 16, 3) := by decide +kernel
theorem dX0_smallLog_108 : decode cX0_smallLog 108 = .ok (.iload 9, 2) := by decide +kernel
theorem dX0_smallLog_110 : decode cX0_smallLog 110 = .ok (.iaload, 1) := by decide +kernel
theorem dX0_smallLog_111 : decode cX0_smallLog 111 = .ok (.iload 7, 2) := by decide +kernel
theorem dX0_smallLog_113 : decode cX0_smallLog 113 = .ok (.if_icmp .ne 17, 3) := by decide +kernel
theorem dX0_smallLog_116 : decode cX0_smallLog 116 = .ok (.iload 8, 2) := by decide +kernel
theorem dX0_smallLog_118 : decode cX0_smallLog 118 = .ok (.iload 4, 2) := by decide +kernel
theorem dX0_smallLog_120 : decode cX0_smallLog 120 = .ok (.imul, 1) := by decide +kernel
theorem dX0_smallLog_121 : decode cX0_smallLog 121 = .ok (.aload_n 0, 1) := by decide +kernel
theorem dX0_smallLog_122 : decode cX0_smallLog 122 = .ok (.getfield 19, 3) := by decide +kernel
theorem dX0_smallLog_125 : decode cX0_smallLog 125 = .ok (.iload 9, 2) := by decide +kernel
theorem dX0_smallLog_127 : decode cX0_smallLog 127 = .ok (.iaload, 1) := by decide +kernel
theorem dX0_smallLog_128 : decode cX0_smallLog 128 = .ok (.iadd, 1) := by decide +kernel
theorem dX0_smallLog_129 : decode cX0_smallLog 129 = .ok (.ireturn, 1) := by decide +kernel
theorem dX0_smallLog_130 : decode cX0_smallLog 130 = .ok (.aload_n 0, 1) := by decide +kernel
theorem dX0_smallLog_131 : decode cX0_smallLog 131 = .ok (.iload 7, 2) := by decide +kernel
theorem dX0_smallLog_133 : decode cX0_smallLog 133 = .ok (.iload 6, 2) := by decide +kernel
theorem dX0_smallLog_135 : decode cX0_smallLog 135 = .ok (.invokevirtual 39, 3) := by decide +kernel
theorem dX0_smallLog_138 : decode cX0_smallLog 138 = .ok (.istore 7, 2) := by decide +kernel
theorem dX0_smallLog_140 : decode cX0_smallLog 140 = .ok (.iinc 8 1, 3) := by decide +kernel
theorem dX0_smallLog_143 : decode cX0_smallLog 143 = .ok (.goto (-54), 3) := by decide +kernel
theorem dX0_smallLog_146 : decode cX0_smallLog 146 = .ok (.iconst 0, 1) := by decide +kernel
theorem dX0_smallLog_147 : decode cX0_smallLog 147 = .ok (.ireturn, 1) := by decide +kernel
theorem dX0_clearTable_0 : decode cX0_clearTable 0 = .ok (.iconst 0, 1) := by decide +kernel
theorem dX0_clearTable_1 : decode cX0_clearTable 1 = .ok (.istore_n 1, 1) := by decide +kernel
theorem dX0_clearTable_2 : decode cX0_clearTable 2 = .ok (.iload_n 1, 1) := by decide +kernel
theorem dX0_clearTable_3 : decode cX0_clearTable 3 = .ok (.sipush 128, 3) := by decide +kernel
theorem dX0_clearTable_6 : decode cX0_clearTable 6 = .ok (.if_icmp .ge 16, 3) := by decide +kernel
theorem dX0_clearTable_9 : decode cX0_clearTable 9 = .ok (.aload_n 0, 1) := by decide +kernel
theorem dX0_clearTable_10 : decode cX0_clearTable 10 = .ok (.getfield 16, 3) := by decide +kernel
theorem dX0_clearTable_13 : decode cX0_clearTable 13 = .ok (.iload_n 1, 1) := by decide +kernel
theorem dX0_clearTable_14 : decode cX0_clearTable 14 = .ok (.iconst 0, 1) := by decide +kernel
theorem dX0_clearTable_15 : decode cX0_clearTable 15 = .ok (.iastore, 1) := by decide +kernel
theorem dX0_clearTable_16 : decode cX0_clearTable 16 = .ok (.iinc 1 1, 3) := by decide +kernel
theorem dX0_clearTable_19 : decode cX0_clearTable 19 = .ok (.goto (-17), 3) := by decide +kernel
theorem dX0_clearTable_22 : decode cX0_clearTable 22 = .ok (.return_, 1) := by decide +kernel
theorem dX0_rootUp_0 : decode cX0_rootUp 0 = .ok (.iconst 1, 1) := by decide +kernel
theorem dX0_rootUp_1 : decode cX0_rootUp 1 = .ok (.istore_n 2, 1) := by decide +kernel
theorem dX0_rootUp_2 : decode cX0_rootUp 2 = .ok (.iconst 0, 1) := by decide +kernel
theorem dX0_rootUp_3 : decode cX0_rootUp 3 = .ok (.istore_n 3, 1) := by decide +kernel
theorem dX0_rootUp_4 : decode cX0_rootUp 4 = .ok (.iload_n 3, 1) := by decide +kernel
theorem dX0_rootUp_5 : decode cX0_rootUp 5 = .ok (.bipush 50, 2) := by decide +kernel
theorem dX0_rootUp_7 : decode cX0_rootUp 7 = .ok (.if_icmp .ge 19, 3) := by decide +kernel
theorem dX0_rootUp_10 : decode cX0_rootUp 10 = .ok (.iload_n 2, 1) := by decide +kernel
theorem dX0_rootUp_11 : decode cX0_rootUp 11 = .ok (.iload_n 2, 1) := by decide +kernel
theorem dX0_rootUp_12 : decode cX0_rootUp 12 = .ok (.imul, 1) := by decide +kernel
theorem dX0_rootUp_13 : decode cX0_rootUp 13 = .ok (.iload_n 1, 1) := by decide +kernel
theorem dX0_rootUp_14 : decode cX0_rootUp 14 = .ok (.if_icmp .ge 12, 3) := by decide +kernel
theorem dX0_rootUp_17 : decode cX0_rootUp 17 = .ok (.iinc 2 1, 3) := by decide +kernel
theorem dX0_rootUp_20 : decode cX0_rootUp 20 = .ok (.iinc 3 1, 3) := by decide +kernel
theorem dX0_rootUp_23 : decode cX0_rootUp 23 = .ok (.goto (-19), 3) := by decide +kernel
theorem dX0_rootUp_26 : decode cX0_rootUp 26 = .ok (.iload_n 2, 1) := by decide +kernel
theorem dX0_rootUp_27 : decode cX0_rootUp 27 = .ok (.ireturn, 1) := by decide +kernel
theorem dX0_cellOf_0 : decode cX0_cellOf 0 = .ok (.iload_n 1, 1) := by decide +kernel
theorem dX0_cellOf_1 : decode cX0_cellOf 1 = .ok (.bipush 37, 2) := by decide +kernel
theorem dX0_cellOf_3 : decode cX0_cellOf 3 = .ok (.imul, 1) := by decide +kernel
theorem dX0_cellOf_4 : decode cX0_cellOf 4 = .ok (.bipush 127, 2) := by decide +kernel
theorem dX0_cellOf_6 : decode cX0_cellOf 6 = .ok (.iand, 1) := by decide +kernel
theorem dX0_cellOf_7 : decode cX0_cellOf 7 = .ok (.istore_n 2, 1) := by decide +kernel
theorem dX0_cellOf_8 : decode cX0_cellOf 8 = .ok (.iconst 0, 1) := by decide +kernel
theorem dX0_cellOf_9 : decode cX0_cellOf 9 = .ok (.istore_n 3, 1) := by decide +kernel
theorem dX0_cellOf_10 : decode cX0_cellOf 10 = .ok (.iload_n 3, 1) := by decide +kernel
theorem dX0_cellOf_11 : decode cX0_cellOf 11 = .ok (.sipush 128, 3) := by decide +kernel
theorem dX0_cellOf_14 : decode cX0_cellOf 14 = .ok (.if_icmp .ge 35, 3) := by decide +kernel
theorem dX0_cellOf_17 : decode cX0_cellOf 17 = .ok (.aload_n 0, 1) := by decide +kernel
theorem dX0_cellOf_18 : decode cX0_cellOf 18 = .ok (.getfield 16, 3) := by decide +kernel
theorem dX0_cellOf_21 : decode cX0_cellOf 21 = .ok (.iload_n 2, 1) := by decide +kernel
theorem dX0_cellOf_22 : decode cX0_cellOf 22 = .ok (.iaload, 1) := by decide +kernel
theorem dX0_cellOf_23 : decode cX0_cellOf 23 = .ok (.ifCond .eq 26, 3) := by decide +kernel
theorem dX0_cellOf_26 : decode cX0_cellOf 26 = .ok (.aload_n 0, 1) := by decide +kernel
theorem dX0_cellOf_27 : decode cX0_cellOf 27 = .ok (.getfield 16, 3) := by decide +kernel
theorem dX0_cellOf_30 : decode cX0_cellOf 30 = .ok (.iload_n 2, 1) := by decide +kernel
theorem dX0_cellOf_31 : decode cX0_cellOf 31 = .ok (.iaload, 1) := by decide +kernel
theorem dX0_cellOf_32 : decode cX0_cellOf 32 = .ok (.iload_n 1, 1) := by decide +kernel
theorem dX0_cellOf_33 : decode cX0_cellOf 33 = .ok (.if_icmp .eq 16, 3) := by decide +kernel
theorem dX0_cellOf_36 : decode cX0_cellOf 36 = .ok (.iload_n 2, 1) := by decide +kernel
theorem dX0_cellOf_37 : decode cX0_cellOf 37 = .ok (.iconst 1, 1) := by decide +kernel
theorem dX0_cellOf_38 : decode cX0_cellOf 38 = .ok (.iadd, 1) := by decide +kernel
theorem dX0_cellOf_39 : decode cX0_cellOf 39 = .ok (.bipush 127, 2) := by decide +kernel
theorem dX0_cellOf_41 : decode cX0_cellOf 41 = .ok (.iand, 1) := by decide +kernel
theorem dX0_cellOf_42 : decode cX0_cellOf 42 = .ok (.istore_n 2, 1) := by decide +kernel
theorem dX0_cellOf_43 : decode cX0_cellOf 43 = .ok (.iinc 3 1, 3) := by decide +kernel
theorem dX0_cellOf_46 : decode cX0_cellOf 46 = .ok (.goto (-36), 3) := by decide +kernel
theorem dX0_cellOf_49 : decode cX0_cellOf 49 = .ok (.iload_n 2, 1) := by decide +kernel
theorem dX0_cellOf_50 : decode cX0_cellOf 50 = .ok (.ireturn, 1) := by decide +kernel
theorem dX0_join_0 : decode cX0_join 0 = .ok (.aload_n 0, 1) := by decide +kernel
theorem dX0_join_1 : decode cX0_join 1 = .ok (.iload_n 2, 1) := by decide +kernel
theorem dX0_join_2 : decode cX0_join 2 = .ok (.iload 4, 2) := by decide +kernel
theorem dX0_join_4 : decode cX0_join 4 = .ok (.invokevirtual 83, 3) := by decide +kernel
theorem dX0_join_7 : decode cX0_join 7 = .ok (.istore 5, 2) := by decide +kernel
theorem dX0_join_9 : decode cX0_join 9 = .ok (.iload_n 3, 1) := by decide +kernel
theorem dX0_join_10 : decode cX0_join 10 = .ok (.iload_n 1, 1) := by decide +kernel
theorem dX0_join_11 : decode cX0_join 11 = .ok (.isub, 1) := by decide +kernel
theorem dX0_join_12 : decode cX0_join 12 = .ok (.iload 4, 2) := by decide +kernel
theorem dX0_join_14 : decode cX0_join 14 = .ok (.irem, 1) := by decide +kernel
theorem dX0_join_15 : decode cX0_join 15 = .ok (.istore 6, 2) := by decide +kernel
theorem dX0_join_17 : decode cX0_join 17 = .ok (.iload 6, 2) := by decide +kernel
theorem dX0_join_19 : decode cX0_join 19 = .ok (.ifCond .ge 10, 3) := by decide +kernel
theorem dX0_join_22 : decode cX0_join 22 = .ok (.iload 6, 2) := by decide +kernel
theorem dX0_join_24 : decode cX0_join 24 = .ok (.iload 4, 2) := by decide +kernel
end
section
set_option maxRecDepth 100000
theorem dX0_join_26 : decode cX0_join 26 = .ok (.iadd, 1) := by decide +kernel
theorem dX0_join_27 : decode cX0_join 27 = .ok (.istore 6, 2) := by decide +kernel
theorem dX0_join_29 : decode cX0_join 29 = .ok (.aload_n 0, 1) := by decide +kernel
theorem dX0_join_30 : decode cX0_join 30 = .ok (.iload 6, 2) := by decide +kernel
theorem dX0_join_32 : decode cX0_join 32 = .ok (.iload 5, 2) := by decide +kernel
theorem dX0_join_34 : decode cX0_join 34 = .ok (.iload 4, 2) := by decide +kernel
theorem dX0_join_36 : decode cX0_join 36 = .ok (.invokevirtual 86, 3) := by decide +kernel
theorem dX0_join_39 : decode cX0_join 39 = .ok (.istore 7, 2) := by decide +kernel
theorem dX0_join_41 : decode cX0_join 41 = .ok (.iload_n 1, 1) := by decide +kernel
theorem dX0_join_42 : decode cX0_join 42 = .ok (.iload_n 2, 1) := by decide +kernel
theorem dX0_join_43 : decode cX0_join 43 = .ok (.iload 7, 2) := by decide +kernel
theorem dX0_join_45 : decode cX0_join 45 = .ok (.imul, 1) := by decide +kernel
theorem dX0_join_46 : decode cX0_join 46 = .ok (.iadd, 1) := by decide +kernel
theorem dX0_join_47 : decode cX0_join 47 = .ok (.ireturn, 1) := by decide +kernel
theorem dX0_invertBy_0 : decode cX0_invertBy 0 = .ok (.iload_n 2, 1) := by decide +kernel
theorem dX0_invertBy_1 : decode cX0_invertBy 1 = .ok (.istore_n 3, 1) := by decide +kernel
theorem dX0_invertBy_2 : decode cX0_invertBy 2 = .ok (.iload_n 2, 1) := by decide +kernel
theorem dX0_invertBy_3 : decode cX0_invertBy 3 = .ok (.ifCond .le 9, 3) := by decide +kernel
theorem dX0_invertBy_6 : decode cX0_invertBy 6 = .ok (.iload_n 1, 1) := by decide +kernel
theorem dX0_invertBy_7 : decode cX0_invertBy 7 = .ok (.iload_n 2, 1) := by decide +kernel
theorem dX0_invertBy_8 : decode cX0_invertBy 8 = .ok (.irem, 1) := by decide +kernel
theorem dX0_invertBy_9 : decode cX0_invertBy 9 = .ok (.goto 4, 3) := by decide +kernel
theorem dX0_invertBy_12 : decode cX0_invertBy 12 = .ok (.iconst 0, 1) := by decide +kernel
theorem dX0_invertBy_13 : decode cX0_invertBy 13 = .ok (.istore 4, 2) := by decide +kernel
theorem dX0_invertBy_15 : decode cX0_invertBy 15 = .ok (.iconst 0, 1) := by decide +kernel
theorem dX0_invertBy_16 : decode cX0_invertBy 16 = .ok (.istore 5, 2) := by decide +kernel
theorem dX0_invertBy_18 : decode cX0_invertBy 18 = .ok (.iconst 1, 1) := by decide +kernel
theorem dX0_invertBy_19 : decode cX0_invertBy 19 = .ok (.istore 6, 2) := by decide +kernel
theorem dX0_invertBy_21 : decode cX0_invertBy 21 = .ok (.iconst 0, 1) := by decide +kernel
theorem dX0_invertBy_22 : decode cX0_invertBy 22 = .ok (.istore 7, 2) := by decide +kernel
theorem dX0_invertBy_24 : decode cX0_invertBy 24 = .ok (.iload 7, 2) := by decide +kernel
theorem dX0_invertBy_26 : decode cX0_invertBy 26 = .ok (.bipush 64, 2) := by decide +kernel
theorem dX0_invertBy_28 : decode cX0_invertBy 28 = .ok (.if_icmp .ge 54, 3) := by decide +kernel
theorem dX0_invertBy_31 : decode cX0_invertBy 31 = .ok (.iload 4, 2) := by decide +kernel
theorem dX0_invertBy_33 : decode cX0_invertBy 33 = .ok (.ifCond .eq 49, 3) := by decide +kernel
theorem dX0_invertBy_36 : decode cX0_invertBy 36 = .ok (.iload_n 3, 1) := by decide +kernel
theorem dX0_invertBy_37 : decode cX0_invertBy 37 = .ok (.iload 4, 2) := by decide +kernel
theorem dX0_invertBy_39 : decode cX0_invertBy 39 = .ok (.idiv, 1) := by decide +kernel
theorem dX0_invertBy_40 : decode cX0_invertBy 40 = .ok (.istore 8, 2) := by decide +kernel
theorem dX0_invertBy_42 : decode cX0_invertBy 42 = .ok (.iload_n 3, 1) := by decide +kernel
theorem dX0_invertBy_43 : decode cX0_invertBy 43 = .ok (.iload 8, 2) := by decide +kernel
theorem dX0_invertBy_45 : decode cX0_invertBy 45 = .ok (.iload 4, 2) := by decide +kernel
theorem dX0_invertBy_47 : decode cX0_invertBy 47 = .ok (.imul, 1) := by decide +kernel
theorem dX0_invertBy_48 : decode cX0_invertBy 48 = .ok (.isub, 1) := by decide +kernel
theorem dX0_invertBy_49 : decode cX0_invertBy 49 = .ok (.istore 9, 2) := by decide +kernel
theorem dX0_invertBy_51 : decode cX0_invertBy 51 = .ok (.iload 5, 2) := by decide +kernel
theorem dX0_invertBy_53 : decode cX0_invertBy 53 = .ok (.iload 8, 2) := by decide +kernel
theorem dX0_invertBy_55 : decode cX0_invertBy 55 = .ok (.iload 6, 2) := by decide +kernel
theorem dX0_invertBy_57 : decode cX0_invertBy 57 = .ok (.imul, 1) := by decide +kernel
theorem dX0_invertBy_58 : decode cX0_invertBy 58 = .ok (.isub, 1) := by decide +kernel
theorem dX0_invertBy_59 : decode cX0_invertBy 59 = .ok (.istore 10, 2) := by decide +kernel
theorem dX0_invertBy_61 : decode cX0_invertBy 61 = .ok (.iload 4, 2) := by decide +kernel
theorem dX0_invertBy_63 : decode cX0_invertBy 63 = .ok (.istore_n 3, 1) := by decide +kernel
theorem dX0_invertBy_64 : decode cX0_invertBy 64 = .ok (.iload 9, 2) := by decide +kernel
theorem dX0_invertBy_66 : decode cX0_invertBy 66 = .ok (.istore 4, 2) := by decide +kernel
theorem dX0_invertBy_68 : decode cX0_invertBy 68 = .ok (.iload 6, 2) := by decide +kernel
theorem dX0_invertBy_70 : decode cX0_invertBy 70 = .ok (.istore 5, 2) := by decide +kernel
theorem dX0_invertBy_72 : decode cX0_invertBy 72 = .ok (.iload 10, 2) := by decide +kernel
theorem dX0_invertBy_74 : decode cX0_invertBy 74 = .ok (.istore 6, 2) := by decide +kernel
theorem dX0_invertBy_76 : decode cX0_invertBy 76 = .ok (.iinc 7 1, 3) := by decide +kernel
theorem dX0_invertBy_79 : decode cX0_invertBy 79 = .ok (.goto (-55), 3) := by decide +kernel
theorem dX0_invertBy_82 : decode cX0_invertBy 82 = .ok (.iload 5, 2) := by decide +kernel
theorem dX0_invertBy_84 : decode cX0_invertBy 84 = .ok (.ifCond .ge 10, 3) := by decide +kernel
theorem dX0_invertBy_87 : decode cX0_invertBy 87 = .ok (.iload 5, 2) := by decide +kernel
theorem dX0_invertBy_89 : decode cX0_invertBy 89 = .ok (.iload_n 2, 1) := by decide +kernel
theorem dX0_invertBy_90 : decode cX0_invertBy 90 = .ok (.iadd, 1) := by decide +kernel
theorem dX0_invertBy_91 : decode cX0_invertBy 91 = .ok (.goto 5, 3) := by decide +kernel
theorem dX0_invertBy_94 : decode cX0_invertBy 94 = .ok (.iload 5, 2) := by decide +kernel
theorem dX0_invertBy_96 : decode cX0_invertBy 96 = .ok (.ireturn, 1) := by decide +kernel
theorem dX0_timesBy_0 : decode cX0_timesBy 0 = .ok (.iload_n 3, 1) := by decide +kernel
theorem dX0_timesBy_1 : decode cX0_timesBy 1 = .ok (.iconst 1, 1) := by decide +kernel
theorem dX0_timesBy_2 : decode cX0_timesBy 2 = .ok (.if_icmp .ge 5, 3) := by decide +kernel
theorem dX0_timesBy_5 : decode cX0_timesBy 5 = .ok (.iconst 0, 1) := by decide +kernel
theorem dX0_timesBy_6 : decode cX0_timesBy 6 = .ok (.ireturn, 1) := by decide +kernel
theorem dX0_timesBy_7 : decode cX0_timesBy 7 = .ok (.iload_n 1, 1) := by decide +kernel
theorem dX0_timesBy_8 : decode cX0_timesBy 8 = .ok (.i2l, 1) := by decide +kernel
theorem dX0_timesBy_9 : decode cX0_timesBy 9 = .ok (.iload_n 2, 1) := by decide +kernel
theorem dX0_timesBy_10 : decode cX0_timesBy 10 = .ok (.i2l, 1) := by decide +kernel
theorem dX0_timesBy_11 : decode cX0_timesBy 11 = .ok (.lmul, 1) := by decide +kernel
theorem dX0_timesBy_12 : decode cX0_timesBy 12 = .ok (.lstore 4, 2) := by decide +kernel
theorem dX0_timesBy_14 : decode cX0_timesBy 14 = .ok (.lload 4, 2) := by decide +kernel
theorem dX0_timesBy_16 : decode cX0_timesBy 16 = .ok (.iload_n 3, 1) := by decide +kernel
theorem dX0_timesBy_17 : decode cX0_timesBy 17 = .ok (.i2l, 1) := by decide +kernel
theorem dX0_timesBy_18 : decode cX0_timesBy 18 = .ok (.lrem, 1) := by decide +kernel
theorem dX0_timesBy_19 : decode cX0_timesBy 19 = .ok (.l2i, 1) := by decide +kernel
theorem dX0_timesBy_20 : decode cX0_timesBy 20 = .ok (.ireturn, 1) := by decide +kernel
theorem dX0_root_0 : decode cX0_root 0 = .ok (.aload_n 0, 1) := by decide +kernel
theorem dX0_root_1 : decode cX0_root 1 = .ok (.iload_n 1, 1) := by decide +kernel
theorem dX0_root_2 : decode cX0_root 2 = .ok (.iload_n 2, 1) := by decide +kernel
theorem dX0_root_3 : decode cX0_root 3 = .ok (.invokevirtual 92, 3) := by decide +kernel
theorem dX0_root_6 : decode cX0_root 6 = .ok (.ifCond .eq 5, 3) := by decide +kernel
theorem dX0_root_9 : decode cX0_root 9 = .ok (.iconst (-1), 1) := by decide +kernel
theorem dX0_root_10 : decode cX0_root 10 = .ok (.ireturn, 1) := by decide +kernel
theorem dX0_root_11 : decode cX0_root 11 = .ok (.aload_n 0, 1) := by decide +kernel
theorem dX0_root_12 : decode cX0_root 12 = .ok (.invokevirtual 96, 3) := by decide +kernel
theorem dX0_root_15 : decode cX0_root 15 = .ok (.istore_n 3, 1) := by decide +kernel
theorem dX0_root_16 : decode cX0_root 16 = .ok (.aload_n 0, 1) := by decide +kernel
theorem dX0_root_17 : decode cX0_root 17 = .ok (.iload_n 3, 1) := by decide +kernel
theorem dX0_root_18 : decode cX0_root 18 = .ok (.iload_n 1, 1) := by decide +kernel
theorem dX0_root_19 : decode cX0_root 19 = .ok (.invokevirtual 89, 3) := by decide +kernel
theorem dX0_root_22 : decode cX0_root 22 = .ok (.istore 4, 2) := by decide +kernel
theorem dX0_root_24 : decode cX0_root 24 = .ok (.aload_n 0, 1) := by decide +kernel
theorem dX0_root_25 : decode cX0_root 25 = .ok (.iload_n 2, 1) := by decide +kernel
theorem dX0_root_26 : decode cX0_root 26 = .ok (.aload_n 0, 1) := by decide +kernel
theorem dX0_root_27 : decode cX0_root 27 = .ok (.getfield 33, 3) := by decide +kernel
theorem dX0_root_30 : decode cX0_root 30 = .ok (.invokevirtual 100, 3) := by decide +kernel
theorem dX0_root_33 : decode cX0_root 33 = .ok (.istore 5, 2) := by decide +kernel
theorem dX0_root_35 : decode cX0_root 35 = .ok (.iload 5, 2) := by decide +kernel
theorem dX0_root_37 : decode cX0_root 37 = .ok (.iconst 1, 1) := by decide +kernel
theorem dX0_root_38 : decode cX0_root 38 = .ok (.if_icmp .lt 11, 3) := by decide +kernel
theorem dX0_root_41 : decode cX0_root 41 = .ok (.iload 4, 2) := by decide +kernel
theorem dX0_root_43 : decode cX0_root 43 = .ok (.iload 5, 2) := by decide +kernel
theorem dX0_root_45 : decode cX0_root 45 = .ok (.irem, 1) := by decide +kernel
theorem dX0_root_46 : decode cX0_root 46 = .ok (.ifCond .eq 6, 3) := by decide +kernel
theorem dX0_root_49 : decode cX0_root 49 = .ok (.bipush (-4), 2) := by decide +kernel
theorem dX0_root_51 : decode cX0_root 51 = .ok (.ireturn, 1) := by decide +kernel
theorem dX0_root_52 : decode cX0_root 52 = .ok (.aload_n 0, 1) := by decide +kernel
theorem dX0_root_53 : decode cX0_root 53 = .ok (.getfield 33, 3) := by decide +kernel
theorem dX0_root_56 : decode cX0_root 56 = .ok (.iload 5, 2) := by decide +kernel
theorem dX0_root_58 : decode cX0_root 58 = .ok (.idiv, 1) := by decide +kernel
theorem dX0_root_59 : decode cX0_root 59 = .ok (.istore 6, 2) := by decide +kernel
theorem dX0_root_61 : decode cX0_root 61 = .ok (.aload_n 0, 1) := by decide +kernel
theorem dX0_root_62 : decode cX0_root 62 = .ok (.iload_n 2, 1) := by decide +kernel
theorem dX0_root_63 : decode cX0_root 63 = .ok (.iload 5, 2) := by decide +kernel
theorem dX0_root_65 : decode cX0_root 65 = .ok (.idiv, 1) := by decide +kernel
theorem dX0_root_66 : decode cX0_root 66 = .ok (.iload 6, 2) := by decide +kernel
theorem dX0_root_68 : decode cX0_root 68 = .ok (.invokevirtual 83, 3) := by decide +kernel
theorem dX0_root_71 : decode cX0_root 71 = .ok (.istore 7, 2) := by decide +kernel
theorem dX0_root_73 : decode cX0_root 73 = .ok (.aload_n 0, 1) := by decide +kernel
theorem dX0_root_74 : decode cX0_root 74 = .ok (.iload 4, 2) := by decide +kernel
theorem dX0_root_76 : decode cX0_root 76 = .ok (.iload 5, 2) := by decide +kernel
theorem dX0_root_78 : decode cX0_root 78 = .ok (.idiv, 1) := by decide +kernel
theorem dX0_root_79 : decode cX0_root 79 = .ok (.iload 7, 2) := by decide +kernel
theorem dX0_root_81 : decode cX0_root 81 = .ok (.iload 6, 2) := by decide +kernel
theorem dX0_root_83 : decode cX0_root 83 = .ok (.invokevirtual 86, 3) := by decide +kernel
theorem dX0_root_86 : decode cX0_root 86 = .ok (.istore 8, 2) := by decide +kernel
theorem dX0_root_88 : decode cX0_root 88 = .ok (.aload_n 0, 1) := by decide +kernel
theorem dX0_root_89 : decode cX0_root 89 = .ok (.iload_n 3, 1) := by decide +kernel
theorem dX0_root_90 : decode cX0_root 90 = .ok (.iload 8, 2) := by decide +kernel
theorem dX0_root_92 : decode cX0_root 92 = .ok (.invokevirtual 47, 3) := by decide +kernel
theorem dX0_root_95 : decode cX0_root 95 = .ok (.istore 9, 2) := by decide +kernel
theorem dX0_root_97 : decode cX0_root 97 = .ok (.aload_n 0, 1) := by decide +kernel
theorem dX0_root_98 : decode cX0_root 98 = .ok (.iload_n 3, 1) := by decide +kernel
theorem dX0_root_99 : decode cX0_root 99 = .ok (.iload 6, 2) := by decide +kernel
theorem dX0_root_101 : decode cX0_root 101 = .ok (.invokevirtual 47, 3) := by decide +kernel
theorem dX0_root_104 : decode cX0_root 104 = .ok (.istore 10, 2) := by decide +kernel
theorem dX0_root_106 : decode cX0_root 106 = .ok (.iload 9, 2) := by decide +kernel
theorem dX0_root_108 : decode cX0_root 108 = .ok (.istore 11, 2) := by decide +kernel
theorem dX0_root_110 : decode cX0_root 110 = .ok (.iconst 0, 1) := by decide +kernel
theorem dX0_root_111 : decode cX0_root 111 = .ok (.istore 12, 2) := by decide +kernel
theorem dX0_root_113 : decode cX0_root 113 = .ok (.iload 12, 2) := by decide +kernel
theorem dX0_root_115 : decode cX0_root 115 = .ok (.iload 5, 2) := by decide +kernel
theorem dX0_root_117 : decode cX0_root 117 = .ok (.if_icmp .ge 38, 3) := by decide +kernel
theorem dX0_root_120 : decode cX0_root 120 = .ok (.iload 12, 2) := by decide +kernel
theorem dX0_root_122 : decode cX0_root 122 = .ok (.sipush 2039, 3) := by decide +kernel
theorem dX0_root_125 : decode cX0_root 125 = .ok (.if_icmp .ge 30, 3) := by decide +kernel
theorem dX0_root_128 : decode cX0_root 128 = .ok (.iload 9, 2) := by decide +kernel
theorem dX0_root_130 : decode cX0_root 130 = .ok (.iload 11, 2) := by decide +kernel
theorem dX0_root_132 : decode cX0_root 132 = .ok (.if_icmp .ge 7, 3) := by decide +kernel
theorem dX0_root_135 : decode cX0_root 135 = .ok (.iload 9, 2) := by decide +kernel
theorem dX0_root_137 : decode cX0_root 137 = .ok (.istore 11, 2) := by decide +kernel
theorem dX0_root_139 : decode cX0_root 139 = .ok (.aload_n 0, 1) := by decide +kernel
theorem dX0_root_140 : decode cX0_root 140 = .ok (.iload 9, 2) := by decide +kernel
theorem dX0_root_142 : decode cX0_root 142 = .ok (.iload 10, 2) := by decide +kernel
theorem dX0_root_144 : decode cX0_root 144 = .ok (.invokevirtual 39, 3) := by decide +kernel
theorem dX0_root_147 : decode cX0_root 147 = .ok (.istore 9, 2) := by decide +kernel
theorem dX0_root_149 : decode cX0_root 149 = .ok (.iinc 12 1, 3) := by decide +kernel
theorem dX0_root_152 : decode cX0_root 152 = .ok (.goto (-39), 3) := by decide +kernel
theorem dX0_root_155 : decode cX0_root 155 = .ok (.iload 11, 2) := by decide +kernel
theorem dX0_root_157 : decode cX0_root 157 = .ok (.ireturn, 1) := by decide +kernel
theorem dX0_badRoot_0 : decode cX0_badRoot 0 = .ok (.aload_n 0, 1) := by decide +kernel
theorem dX0_badRoot_1 : decode cX0_badRoot 1 = .ok (.iload_n 1, 1) := by decide +kernel
theorem dX0_badRoot_2 : decode cX0_badRoot 2 = .ok (.invokevirtual 43, 3) := by decide +kernel
theorem dX0_badRoot_5 : decode cX0_badRoot 5 = .ok (.ifCond .ne 14, 3) := by decide +kernel
theorem dX0_badRoot_8 : decode cX0_badRoot 8 = .ok (.iload_n 2, 1) := by decide +kernel
theorem dX0_badRoot_9 : decode cX0_badRoot 9 = .ok (.iconst 1, 1) := by decide +kernel
theorem dX0_badRoot_10 : decode cX0_badRoot 10 = .ok (.if_icmp .lt 9, 3) := by decide +kernel
theorem dX0_badRoot_13 : decode cX0_badRoot 13 = .ok (.iload_n 2, 1) := by decide +kernel
theorem dX0_badRoot_14 : decode cX0_badRoot 14 = .ok (.ldc 46, 2) := by decide +kernel
theorem dX0_badRoot_16 : decode cX0_badRoot 16 = .ok (.if_icmp .le 7, 3) := by decide +kernel
theorem dX0_badRoot_19 : decode cX0_badRoot 19 = .ok (.iconst 1, 1) := by decide +kernel
theorem dX0_badRoot_20 : decode cX0_badRoot 20 = .ok (.goto 4, 3) := by decide +kernel
theorem dX0_badRoot_23 : decode cX0_badRoot 23 = .ok (.iconst 0, 1) := by decide +kernel
theorem dX0_badRoot_24 : decode cX0_badRoot 24 = .ok (.ireturn, 1) := by decide +kernel
theorem dX0_gcd_0 : decode cX0_gcd 0 = .ok (.iload_n 1, 1) := by decide +kernel
theorem dX0_gcd_1 : decode cX0_gcd 1 = .ok (.istore_n 3, 1) := by decide +kernel
theorem dX0_gcd_2 : decode cX0_gcd 2 = .ok (.iload_n 2, 1) := by decide +kernel
theorem dX0_gcd_3 : decode cX0_gcd 3 = .ok (.istore 4, 2) := by decide +kernel
theorem dX0_gcd_5 : decode cX0_gcd 5 = .ok (.iconst 0, 1) := by decide +kernel
theorem dX0_gcd_6 : decode cX0_gcd 6 = .ok (.istore 5, 2) := by decide +kernel
theorem dX0_gcd_8 : decode cX0_gcd 8 = .ok (.iload 5, 2) := by decide +kernel
theorem dX0_gcd_10 : decode cX0_gcd 10 = .ok (.bipush 64, 2) := by decide +kernel
theorem dX0_gcd_12 : decode cX0_gcd 12 = .ok (.if_icmp .ge 27, 3) := by decide +kernel
theorem dX0_gcd_15 : decode cX0_gcd 15 = .ok (.iload 4, 2) := by decide +kernel
theorem dX0_gcd_17 : decode cX0_gcd 17 = .ok (.ifCond .eq 22, 3) := by decide +kernel
theorem dX0_gcd_20 : decode cX0_gcd 20 = .ok (.iload_n 3, 1) := by decide +kernel
theorem dX0_gcd_21 : decode cX0_gcd 21 = .ok (.iload 4, 2) := by decide +kernel
theorem dX0_gcd_23 : decode cX0_gcd 23 = .ok (.irem, 1) := by decide +kernel
theorem dX0_gcd_24 : decode cX0_gcd 24 = .ok (.istore 6, 2) := by decide +kernel
theorem dX0_gcd_26 : decode cX0_gcd 26 = .ok (.iload 4, 2) := by decide +kernel
theorem dX0_gcd_28 : decode cX0_gcd 28 = .ok (.istore_n 3, 1) := by decide +kernel
theorem dX0_gcd_29 : decode cX0_gcd 29 = .ok (.iload 6, 2) := by decide +kernel
theorem dX0_gcd_31 : decode cX0_gcd 31 = .ok (.istore 4, 2) := by decide +kernel
theorem dX0_gcd_33 : decode cX0_gcd 33 = .ok (.iinc 5 1, 3) := by decide +kernel
theorem dX0_gcd_36 : decode cX0_gcd 36 = .ok (.goto (-28), 3) := by decide +kernel
theorem dX0_gcd_39 : decode cX0_gcd 39 = .ok (.iload_n 3, 1) := by decide +kernel
theorem dX0_gcd_40 : decode cX0_gcd 40 = .ok (.ireturn, 1) := by decide +kernel
theorem dX0_roots_0 : decode cX0_roots 0 = .ok (.aload_n 0, 1) := by decide +kernel
theorem dX0_roots_1 : decode cX0_roots 1 = .ok (.iload_n 1, 1) := by decide +kernel
theorem dX0_roots_2 : decode cX0_roots 2 = .ok (.iload_n 2, 1) := by decide +kernel
theorem dX0_roots_3 : decode cX0_roots 3 = .ok (.invokevirtual 92, 3) := by decide +kernel
theorem dX0_roots_6 : decode cX0_roots 6 = .ok (.ifCond .eq 5, 3) := by decide +kernel
theorem dX0_roots_9 : decode cX0_roots 9 = .ok (.iconst (-1), 1) := by decide +kernel
theorem dX0_roots_10 : decode cX0_roots 10 = .ok (.ireturn, 1) := by decide +kernel
theorem dX0_roots_11 : decode cX0_roots 11 = .ok (.aload_n 0, 1) := by decide +kernel
theorem dX0_roots_12 : decode cX0_roots 12 = .ok (.iload_n 2, 1) := by decide +kernel
theorem dX0_roots_13 : decode cX0_roots 13 = .ok (.aload_n 0, 1) := by decide +kernel
theorem dX0_roots_14 : decode cX0_roots 14 = .ok (.getfield 33, 3) := by decide +kernel
theorem dX0_roots_17 : decode cX0_roots 17 = .ok (.invokevirtual 100, 3) := by decide +kernel
theorem dX0_roots_20 : decode cX0_roots 20 = .ok (.istore_n 3, 1) := by decide +kernel
theorem dX0_roots_21 : decode cX0_roots 21 = .ok (.iload_n 3, 1) := by decide +kernel
theorem dX0_roots_22 : decode cX0_roots 22 = .ok (.iconst 1, 1) := by decide +kernel
theorem dX0_roots_23 : decode cX0_roots 23 = .ok (.if_icmp .ge 5, 3) := by decide +kernel
theorem dX0_roots_26 : decode cX0_roots 26 = .ok (.iconst 0, 1) := by decide +kernel
theorem dX0_roots_27 : decode cX0_roots 27 = .ok (.ireturn, 1) := by decide +kernel
theorem dX0_roots_28 : decode cX0_roots 28 = .ok (.aload_n 0, 1) := by decide +kernel
theorem dX0_roots_29 : decode cX0_roots 29 = .ok (.iload_n 1, 1) := by decide +kernel
theorem dX0_roots_30 : decode cX0_roots 30 = .ok (.aload_n 0, 1) := by decide +kernel
theorem dX0_roots_31 : decode cX0_roots 31 = .ok (.getfield 33, 3) := by decide +kernel
theorem dX0_roots_34 : decode cX0_roots 34 = .ok (.iload_n 3, 1) := by decide +kernel
theorem dX0_roots_35 : decode cX0_roots 35 = .ok (.idiv, 1) := by decide +kernel
theorem dX0_roots_36 : decode cX0_roots 36 = .ok (.invokevirtual 47, 3) := by decide +kernel
theorem dX0_roots_39 : decode cX0_roots 39 = .ok (.istore 4, 2) := by decide +kernel
theorem dX0_roots_41 : decode cX0_roots 41 = .ok (.iload 4, 2) := by decide +kernel
theorem dX0_roots_43 : decode cX0_roots 43 = .ok (.iconst 1, 1) := by decide +kernel
theorem dX0_roots_44 : decode cX0_roots 44 = .ok (.if_icmp .ne 7, 3) := by decide +kernel
theorem dX0_roots_47 : decode cX0_roots 47 = .ok (.iload_n 3, 1) := by decide +kernel
theorem dX0_roots_48 : decode cX0_roots 48 = .ok (.goto 4, 3) := by decide +kernel
theorem dX0_roots_51 : decode cX0_roots 51 = .ok (.iconst 0, 1) := by decide +kernel
theorem dX0_roots_52 : decode cX0_roots 52 = .ok (.ireturn, 1) := by decide +kernel
theorem dX0_logWith_0 : decode cX0_logWith 0 = .ok (.aload_n 0, 1) := by decide +kernel
theorem dX0_logWith_1 : decode cX0_logWith 1 = .ok (.iload_n 1, 1) := by decide +kernel
theorem dX0_logWith_2 : decode cX0_logWith 2 = .ok (.invokevirtual 43, 3) := by decide +kernel
theorem dX0_logWith_5 : decode cX0_logWith 5 = .ok (.ifCond .ne 34, 3) := by decide +kernel
theorem dX0_logWith_8 : decode cX0_logWith 8 = .ok (.aload_n 0, 1) := by decide +kernel
theorem dX0_logWith_9 : decode cX0_logWith 9 = .ok (.iload_n 2, 1) := by decide +kernel
theorem dX0_logWith_10 : decode cX0_logWith 10 = .ok (.invokevirtual 43, 3) := by decide +kernel
theorem dX0_logWith_13 : decode cX0_logWith 13 = .ok (.ifCond .ne 26, 3) := by decide +kernel
theorem dX0_logWith_16 : decode cX0_logWith 16 = .ok (.iload 4, 2) := by decide +kernel
theorem dX0_logWith_18 : decode cX0_logWith 18 = .ok (.iconst 1, 1) := by decide +kernel
theorem dX0_logWith_19 : decode cX0_logWith 19 = .ok (.if_icmp .lt 20, 3) := by decide +kernel
theorem dX0_logWith_22 : decode cX0_logWith 22 = .ok (.iload 4, 2) := by decide +kernel
theorem dX0_logWith_24 : decode cX0_logWith 24 = .ok (.bipush 60, 2) := by decide +kernel
theorem dX0_logWith_26 : decode cX0_logWith 26 = .ok (.if_icmp .gt 13, 3) := by decide +kernel
theorem dX0_logWith_29 : decode cX0_logWith 29 = .ok (.iload_n 3, 1) := by decide +kernel
theorem dX0_logWith_30 : decode cX0_logWith 30 = .ok (.ifCond .lt 9, 3) := by decide +kernel
theorem dX0_logWith_33 : decode cX0_logWith 33 = .ok (.iload_n 3, 1) := by decide +kernel
theorem dX0_logWith_34 : decode cX0_logWith 34 = .ok (.iload 4, 2) := by decide +kernel
theorem dX0_logWith_36 : decode cX0_logWith 36 = .ok (.if_icmp .lt 5, 3) := by decide +kernel
theorem dX0_logWith_39 : decode cX0_logWith 39 = .ok (.iconst (-1), 1) := by decide +kernel
theorem dX0_logWith_40 : decode cX0_logWith 40 = .ok (.ireturn, 1) := by decide +kernel
theorem dX0_logWith_41 : decode cX0_logWith 41 = .ok (.aload_n 0, 1) := by decide +kernel
theorem dX0_logWith_42 : decode cX0_logWith 42 = .ok (.iload_n 1, 1) := by decide +kernel
theorem dX0_logWith_43 : decode cX0_logWith 43 = .ok (.iload_n 2, 1) := by decide +kernel
theorem dX0_logWith_44 : decode cX0_logWith 44 = .ok (.invokevirtual 89, 3) := by decide +kernel
theorem dX0_logWith_47 : decode cX0_logWith 47 = .ok (.istore 5, 2) := by decide +kernel
theorem dX0_logWith_49 : decode cX0_logWith 49 = .ok (.iload 5, 2) := by decide +kernel
theorem dX0_logWith_51 : decode cX0_logWith 51 = .ok (.ifCond .ge 6, 3) := by decide +kernel
theorem dX0_logWith_54 : decode cX0_logWith 54 = .ok (.bipush (-4), 2) := by decide +kernel
theorem dX0_logWith_56 : decode cX0_logWith 56 = .ok (.ireturn, 1) := by decide +kernel
theorem dX0_logWith_57 : decode cX0_logWith 57 = .ok (.aload_n 0, 1) := by decide +kernel
theorem dX0_logWith_58 : decode cX0_logWith 58 = .ok (.iload_n 1, 1) := by decide +kernel
theorem dX0_logWith_59 : decode cX0_logWith 59 = .ok (.invokevirtual 54, 3) := by decide +kernel
theorem dX0_logWith_62 : decode cX0_logWith 62 = .ok (.istore 6, 2) := by decide +kernel
theorem dX0_logWith_64 : decode cX0_logWith 64 = .ok (.aload_n 0, 1) := by decide +kernel
theorem dX0_logWith_65 : decode cX0_logWith 65 = .ok (.iload 6, 2) := by decide +kernel
theorem dX0_logWith_67 : decode cX0_logWith 67 = .ok (.iload 4, 2) := by decide +kernel
theorem dX0_logWith_69 : decode cX0_logWith 69 = .ok (.invokevirtual 100, 3) := by decide +kernel
theorem dX0_logWith_72 : decode cX0_logWith 72 = .ok (.istore 7, 2) := by decide +kernel
theorem dX0_logWith_74 : decode cX0_logWith 74 = .ok (.iload_n 3, 1) := by decide +kernel
theorem dX0_logWith_75 : decode cX0_logWith 75 = .ok (.iload 5, 2) := by decide +kernel
theorem dX0_logWith_77 : decode cX0_logWith 77 = .ok (.isub, 1) := by decide +kernel
theorem dX0_logWith_78 : decode cX0_logWith 78 = .ok (.iload 4, 2) := by decide +kernel
theorem dX0_logWith_80 : decode cX0_logWith 80 = .ok (.irem, 1) := by decide +kernel
theorem dX0_logWith_81 : decode cX0_logWith 81 = .ok (.istore 8, 2) := by decide +kernel
theorem dX0_logWith_83 : decode cX0_logWith 83 = .ok (.iload 8, 2) := by decide +kernel
theorem dX0_logWith_85 : decode cX0_logWith 85 = .ok (.ifCond .ge 10, 3) := by decide +kernel
theorem dX0_logWith_88 : decode cX0_logWith 88 = .ok (.iload 8, 2) := by decide +kernel
theorem dX0_logWith_90 : decode cX0_logWith 90 = .ok (.iload 4, 2) := by decide +kernel
theorem dX0_logWith_92 : decode cX0_logWith 92 = .ok (.iadd, 1) := by decide +kernel
theorem dX0_logWith_93 : decode cX0_logWith 93 = .ok (.istore 8, 2) := by decide +kernel
theorem dX0_logWith_95 : decode cX0_logWith 95 = .ok (.iload 7, 2) := by decide +kernel
theorem dX0_logWith_97 : decode cX0_logWith 97 = .ok (.iconst 1, 1) := by decide +kernel
theorem dX0_logWith_98 : decode cX0_logWith 98 = .ok (.if_icmp .lt 11, 3) := by decide +kernel
theorem dX0_logWith_101 : decode cX0_logWith 101 = .ok (.iload 8, 2) := by decide +kernel
theorem dX0_logWith_103 : decode cX0_logWith 103 = .ok (.iload 7, 2) := by decide +kernel
theorem dX0_logWith_105 : decode cX0_logWith 105 = .ok (.irem, 1) := by decide +kernel
theorem dX0_logWith_106 : decode cX0_logWith 106 = .ok (.ifCond .eq 6, 3) := by decide +kernel
theorem dX0_logWith_109 : decode cX0_logWith 109 = .ok (.bipush (-4), 2) := by decide +kernel
theorem dX0_logWith_111 : decode cX0_logWith 111 = .ok (.ireturn, 1) := by decide +kernel
theorem dX0_logWith_112 : decode cX0_logWith 112 = .ok (.iload 4, 2) := by decide +kernel
theorem dX0_logWith_114 : decode cX0_logWith 114 = .ok (.iload 7, 2) := by decide +kernel
theorem dX0_logWith_116 : decode cX0_logWith 116 = .ok (.idiv, 1) := by decide +kernel
theorem dX0_logWith_117 : decode cX0_logWith 117 = .ok (.istore 9, 2) := by decide +kernel
theorem dX0_logWith_119 : decode cX0_logWith 119 = .ok (.aload_n 0, 1) := by decide +kernel
theorem dX0_logWith_120 : decode cX0_logWith 120 = .ok (.iload 6, 2) := by decide +kernel
theorem dX0_logWith_122 : decode cX0_logWith 122 = .ok (.iload 7, 2) := by decide +kernel
theorem dX0_logWith_124 : decode cX0_logWith 124 = .ok (.idiv, 1) := by decide +kernel
theorem dX0_logWith_125 : decode cX0_logWith 125 = .ok (.iload 9, 2) := by decide +kernel
theorem dX0_logWith_127 : decode cX0_logWith 127 = .ok (.invokevirtual 83, 3) := by decide +kernel
theorem dX0_logWith_130 : decode cX0_logWith 130 = .ok (.istore 10, 2) := by decide +kernel
theorem dX0_logWith_132 : decode cX0_logWith 132 = .ok (.aload_n 0, 1) := by decide +kernel
theorem dX0_logWith_133 : decode cX0_logWith 133 = .ok (.iload 8, 2) := by decide +kernel
theorem dX0_logWith_135 : decode cX0_logWith 135 = .ok (.iload 7, 2) := by decide +kernel
theorem dX0_logWith_137 : decode cX0_logWith 137 = .ok (.idiv, 1) := by decide +kernel
theorem dX0_logWith_138 : decode cX0_logWith 138 = .ok (.iload 10, 2) := by decide +kernel
theorem dX0_logWith_140 : decode cX0_logWith 140 = .ok (.iload 9, 2) := by decide +kernel
theorem dX0_logWith_142 : decode cX0_logWith 142 = .ok (.invokevirtual 86, 3) := by decide +kernel
theorem dX0_logWith_145 : decode cX0_logWith 145 = .ok (.istore 11, 2) := by decide +kernel
theorem dX0_logWith_147 : decode cX0_logWith 147 = .ok (.iload 5, 2) := by decide +kernel
theorem dX0_logWith_149 : decode cX0_logWith 149 = .ok (.iload 6, 2) := by decide +kernel
theorem dX0_logWith_151 : decode cX0_logWith 151 = .ok (.iload 11, 2) := by decide +kernel
theorem dX0_logWith_153 : decode cX0_logWith 153 = .ok (.imul, 1) := by decide +kernel
theorem dX0_logWith_154 : decode cX0_logWith 154 = .ok (.iadd, 1) := by decide +kernel
theorem dX0_logWith_155 : decode cX0_logWith 155 = .ok (.ireturn, 1) := by decide +kernel
theorem dX0_common_0 : decode cX0_common 0 = .ok (.aload_n 0, 1) := by decide +kernel
theorem dX0_common_1 : decode cX0_common 1 = .ok (.iload_n 1, 1) := by decide +kernel
theorem dX0_common_2 : decode cX0_common 2 = .ok (.invokevirtual 43, 3) := by decide +kernel
theorem dX0_common_5 : decode cX0_common 5 = .ok (.ifCond .ne 11, 3) := by decide +kernel
theorem dX0_common_8 : decode cX0_common 8 = .ok (.aload_n 0, 1) := by decide +kernel
theorem dX0_common_9 : decode cX0_common 9 = .ok (.iload_n 2, 1) := by decide +kernel
theorem dX0_common_10 : decode cX0_common 10 = .ok (.invokevirtual 43, 3) := by decide +kernel
theorem dX0_common_13 : decode cX0_common 13 = .ok (.ifCond .eq 5, 3) := by decide +kernel
theorem dX0_common_16 : decode cX0_common 16 = .ok (.iconst (-1), 1) := by decide +kernel
theorem dX0_common_17 : decode cX0_common 17 = .ok (.ireturn, 1) := by decide +kernel
theorem dX0_common_18 : decode cX0_common 18 = .ok (.aload_n 0, 1) := by decide +kernel
theorem dX0_common_19 : decode cX0_common 19 = .ok (.iload_n 1, 1) := by decide +kernel
theorem dX0_common_20 : decode cX0_common 20 = .ok (.invokevirtual 54, 3) := by decide +kernel
theorem dX0_common_23 : decode cX0_common 23 = .ok (.istore_n 3, 1) := by decide +kernel
theorem dX0_common_24 : decode cX0_common 24 = .ok (.aload_n 0, 1) := by decide +kernel
theorem dX0_common_25 : decode cX0_common 25 = .ok (.iload_n 2, 1) := by decide +kernel
theorem dX0_common_26 : decode cX0_common 26 = .ok (.invokevirtual 54, 3) := by decide +kernel
theorem dX0_common_29 : decode cX0_common 29 = .ok (.istore 4, 2) := by decide +kernel
theorem dX0_common_31 : decode cX0_common 31 = .ok (.aload_n 0, 1) := by decide +kernel
theorem dX0_common_32 : decode cX0_common 32 = .ok (.iload_n 3, 1) := by decide +kernel
theorem dX0_common_33 : decode cX0_common 33 = .ok (.iload 4, 2) := by decide +kernel
theorem dX0_common_35 : decode cX0_common 35 = .ok (.invokevirtual 100, 3) := by decide +kernel
theorem dX0_common_38 : decode cX0_common 38 = .ok (.ireturn, 1) := by decide +kernel
theorem dX0_unitOfOrder_0 : decode cX0_unitOfOrder 0 = .ok (.iload_n 1, 1) := by decide +kernel
theorem dX0_unitOfOrder_1 : decode cX0_unitOfOrder 1 = .ok (.iconst 1, 1) := by decide +kernel
theorem dX0_unitOfOrder_2 : decode cX0_unitOfOrder 2 = .ok (.if_icmp .ge 5, 3) := by decide +kernel
theorem dX0_unitOfOrder_5 : decode cX0_unitOfOrder 5 = .ok (.iconst (-1), 1) := by decide +kernel
theorem dX0_unitOfOrder_6 : decode cX0_unitOfOrder 6 = .ok (.ireturn, 1) := by decide +kernel
theorem dX0_unitOfOrder_7 : decode cX0_unitOfOrder 7 = .ok (.iload_n 1, 1) := by decide +kernel
theorem dX0_unitOfOrder_8 : decode cX0_unitOfOrder 8 = .ok (.aload_n 0, 1) := by decide +kernel
theorem dX0_unitOfOrder_9 : decode cX0_unitOfOrder 9 = .ok (.getfield 33, 3) := by decide +kernel
theorem dX0_unitOfOrder_12 : decode cX0_unitOfOrder 12 = .ok (.if_icmp .gt 12, 3) := by decide +kernel
theorem dX0_unitOfOrder_15 : decode cX0_unitOfOrder 15 = .ok (.aload_n 0, 1) := by decide +kernel
theorem dX0_unitOfOrder_16 : decode cX0_unitOfOrder 16 = .ok (.getfield 33, 3) := by decide +kernel
theorem dX0_unitOfOrder_19 : decode cX0_unitOfOrder 19 = .ok (.iload_n 1, 1) := by decide +kernel
theorem dX0_unitOfOrder_20 : decode cX0_unitOfOrder 20 = .ok (.irem, 1) := by decide +kernel
theorem dX0_unitOfOrder_21 : decode cX0_unitOfOrder 21 = .ok (.ifCond .eq 6, 3) := by decide +kernel
theorem dX0_unitOfOrder_24 : decode cX0_unitOfOrder 24 = .ok (.bipush (-4), 2) := by decide +kernel
theorem dX0_unitOfOrder_26 : decode cX0_unitOfOrder 26 = .ok (.ireturn, 1) := by decide +kernel
theorem dX0_unitOfOrder_27 : decode cX0_unitOfOrder 27 = .ok (.aload_n 0, 1) := by decide +kernel
theorem dX0_unitOfOrder_28 : decode cX0_unitOfOrder 28 = .ok (.invokevirtual 96, 3) := by decide +kernel
theorem dX0_unitOfOrder_31 : decode cX0_unitOfOrder 31 = .ok (.istore_n 2, 1) := by decide +kernel
theorem dX0_unitOfOrder_32 : decode cX0_unitOfOrder 32 = .ok (.aload_n 0, 1) := by decide +kernel
theorem dX0_unitOfOrder_33 : decode cX0_unitOfOrder 33 = .ok (.iload_n 2, 1) := by decide +kernel
theorem dX0_unitOfOrder_34 : decode cX0_unitOfOrder 34 = .ok (.aload_n 0, 1) := by decide +kernel
theorem dX0_unitOfOrder_35 : decode cX0_unitOfOrder 35 = .ok (.getfield 33, 3) := by decide +kernel
theorem dX0_unitOfOrder_38 : decode cX0_unitOfOrder 38 = .ok (.iload_n 1, 1) := by decide +kernel
theorem dX0_unitOfOrder_39 : decode cX0_unitOfOrder 39 = .ok (.idiv, 1) := by decide +kernel
theorem dX0_unitOfOrder_40 : decode cX0_unitOfOrder 40 = .ok (.invokevirtual 47, 3) := by decide +kernel
theorem dX0_unitOfOrder_43 : decode cX0_unitOfOrder 43 = .ok (.istore_n 3, 1) := by decide +kernel
theorem dX0_unitOfOrder_44 : decode cX0_unitOfOrder 44 = .ok (.iconst 1, 1) := by decide +kernel
theorem dX0_unitOfOrder_45 : decode cX0_unitOfOrder 45 = .ok (.istore 4, 2) := by decide +kernel
theorem dX0_unitOfOrder_47 : decode cX0_unitOfOrder 47 = .ok (.aload_n 0, 1) := by decide +kernel
theorem dX0_unitOfOrder_48 : decode cX0_unitOfOrder 48 = .ok (.getfield 22, 3) := by decide +kernel
theorem dX0_unitOfOrder_51 : decode cX0_unitOfOrder 51 = .ok (.istore 5, 2) := by decide +kernel
theorem dX0_unitOfOrder_53 : decode cX0_unitOfOrder 53 = .ok (.iconst 0, 1) := by decide +kernel
theorem dX0_unitOfOrder_54 : decode cX0_unitOfOrder 54 = .ok (.istore 6, 2) := by decide +kernel
theorem dX0_unitOfOrder_56 : decode cX0_unitOfOrder 56 = .ok (.iload 6, 2) := by decide +kernel
theorem dX0_unitOfOrder_58 : decode cX0_unitOfOrder 58 = .ok (.iload_n 1, 1) := by decide +kernel
theorem dX0_unitOfOrder_59 : decode cX0_unitOfOrder 59 = .ok (.if_icmp .ge 52, 3) := by decide +kernel
theorem dX0_unitOfOrder_62 : decode cX0_unitOfOrder 62 = .ok (.iload 6, 2) := by decide +kernel
theorem dX0_unitOfOrder_64 : decode cX0_unitOfOrder 64 = .ok (.sipush 2039, 3) := by decide +kernel
theorem dX0_unitOfOrder_67 : decode cX0_unitOfOrder 67 = .ok (.if_icmp .ge 44, 3) := by decide +kernel
theorem dX0_unitOfOrder_70 : decode cX0_unitOfOrder 70 = .ok (.aload_n 0, 1) := by decide +kernel
theorem dX0_unitOfOrder_71 : decode cX0_unitOfOrder 71 = .ok (.iload 6, 2) := by decide +kernel
theorem dX0_unitOfOrder_73 : decode cX0_unitOfOrder 73 = .ok (.iload_n 1, 1) := by decide +kernel
theorem dX0_unitOfOrder_74 : decode cX0_unitOfOrder 74 = .ok (.invokevirtual 100, 3) := by decide +kernel
theorem dX0_unitOfOrder_77 : decode cX0_unitOfOrder 77 = .ok (.istore 7, 2) := by decide +kernel
theorem dX0_unitOfOrder_79 : decode cX0_unitOfOrder 79 = .ok (.iload 7, 2) := by decide +kernel
theorem dX0_unitOfOrder_81 : decode cX0_unitOfOrder 81 = .ok (.iconst 1, 1) := by decide +kernel
theorem dX0_unitOfOrder_82 : decode cX0_unitOfOrder 82 = .ok (.if_icmp .ne 14, 3) := by decide +kernel
theorem dX0_unitOfOrder_85 : decode cX0_unitOfOrder 85 = .ok (.iload 4, 2) := by decide +kernel
theorem dX0_unitOfOrder_87 : decode cX0_unitOfOrder 87 = .ok (.iload 5, 2) := by decide +kernel
theorem dX0_unitOfOrder_89 : decode cX0_unitOfOrder 89 = .ok (.if_icmp .ge 7, 3) := by decide +kernel
theorem dX0_unitOfOrder_92 : decode cX0_unitOfOrder 92 = .ok (.iload 4, 2) := by decide +kernel
theorem dX0_unitOfOrder_94 : decode cX0_unitOfOrder 94 = .ok (.istore 5, 2) := by decide +kernel
theorem dX0_unitOfOrder_96 : decode cX0_unitOfOrder 96 = .ok (.aload_n 0, 1) := by decide +kernel
theorem dX0_unitOfOrder_97 : decode cX0_unitOfOrder 97 = .ok (.iload 4, 2) := by decide +kernel
theorem dX0_unitOfOrder_99 : decode cX0_unitOfOrder 99 = .ok (.iload_n 3, 1) := by decide +kernel
theorem dX0_unitOfOrder_100 : decode cX0_unitOfOrder 100 = .ok (.invokevirtual 39, 3) := by decide +kernel
theorem dX0_unitOfOrder_103 : decode cX0_unitOfOrder 103 = .ok (.istore 4, 2) := by decide +kernel
theorem dX0_unitOfOrder_105 : decode cX0_unitOfOrder 105 = .ok (.iinc 6 1, 3) := by decide +kernel
theorem dX0_unitOfOrder_108 : decode cX0_unitOfOrder 108 = .ok (.goto (-52), 3) := by decide +kernel
theorem dX0_unitOfOrder_111 : decode cX0_unitOfOrder 111 = .ok (.iload 5, 2) := by decide +kernel
theorem dX0_unitOfOrder_113 : decode cX0_unitOfOrder 113 = .ok (.ireturn, 1) := by decide +kernel
theorem dX0_unitsOfOrder_0 : decode cX0_unitsOfOrder 0 = .ok (.iload_n 1, 1) := by decide +kernel
theorem dX0_unitsOfOrder_1 : decode cX0_unitsOfOrder 1 = .ok (.iconst 1, 1) := by decide +kernel
theorem dX0_unitsOfOrder_2 : decode cX0_unitsOfOrder 2 = .ok (.if_icmp .lt 20, 3) := by decide +kernel
theorem dX0_unitsOfOrder_5 : decode cX0_unitsOfOrder 5 = .ok (.iload_n 1, 1) := by decide +kernel
theorem dX0_unitsOfOrder_6 : decode cX0_unitsOfOrder 6 = .ok (.aload_n 0, 1) := by decide +kernel
theorem dX0_unitsOfOrder_7 : decode cX0_unitsOfOrder 7 = .ok (.getfield 33, 3) := by decide +kernel
theorem dX0_unitsOfOrder_10 : decode cX0_unitsOfOrder 10 = .ok (.if_icmp .gt 12, 3) := by decide +kernel
theorem dX0_unitsOfOrder_13 : decode cX0_unitsOfOrder 13 = .ok (.aload_n 0, 1) := by decide +kernel
theorem dX0_unitsOfOrder_14 : decode cX0_unitsOfOrder 14 = .ok (.getfield 33, 3) := by decide +kernel
theorem dX0_unitsOfOrder_17 : decode cX0_unitsOfOrder 17 = .ok (.iload_n 1, 1) := by decide +kernel
theorem dX0_unitsOfOrder_18 : decode cX0_unitsOfOrder 18 = .ok (.irem, 1) := by decide +kernel
theorem dX0_unitsOfOrder_19 : decode cX0_unitsOfOrder 19 = .ok (.ifCond .eq 5, 3) := by decide +kernel
theorem dX0_unitsOfOrder_22 : decode cX0_unitsOfOrder 22 = .ok (.iconst 0, 1) := by decide +kernel
theorem dX0_unitsOfOrder_23 : decode cX0_unitsOfOrder 23 = .ok (.ireturn, 1) := by decide +kernel
theorem dX0_unitsOfOrder_24 : decode cX0_unitsOfOrder 24 = .ok (.aload_n 0, 1) := by decide +kernel
theorem dX0_unitsOfOrder_25 : decode cX0_unitsOfOrder 25 = .ok (.iload_n 1, 1) := by decide +kernel
theorem dX0_unitsOfOrder_26 : decode cX0_unitsOfOrder 26 = .ok (.invokevirtual 60, 3) := by decide +kernel
theorem dX0_unitsOfOrder_29 : decode cX0_unitsOfOrder 29 = .ok (.ireturn, 1) := by decide +kernel
end
section
set_option maxRecDepth 100000
/-! DlogSolverModel -/
def RX1 : String := "DlogSolverModel"
def TX1 : u_T := fun k => match k with
  | 0 => ("DlogSolverModel", "p", "I", false)
  | _ => ("DlogSolverModel", "marked", "[Z", true)
def tyX1 : Nat → FieldType := fun k => match k with
  | 0 => .int
  | _ => .array .boolean
abbrev wsX10 : List Cond := u_ws RX1 TX1 2
theorem nmX1 : ∀ a, a < 2 → ∀ b, b < 2 → a ≠ b → (TX1 a).2.1 ≠ (TX1 b).2.1 := by decide +kernel
theorem tyX1_ok : ∀ k, k < 2 → parseFieldDescriptor (TX1 k).2.2.1 = some (tyX1 k) := by decide +kernel
abbrev cX1_init : ByteArray := prog_3_method_1_code
def yX1_init : MethodName := ⟨RX1, "<init>", "()V"⟩
theorem dX1_init_0 : decode cX1_init 0 = .ok (.aload_n 0, 1) := by decide +kernel
theorem dX1_init_1 : decode cX1_init 1 = .ok (.invokespecial 1, 3) := by decide +kernel
theorem dX1_init_4 : decode cX1_init 4 = .ok (.aload_n 0, 1) := by decide +kernel
theorem dX1_init_5 : decode cX1_init 5 = .ok (.sipush 2040, 3) := by decide +kernel
theorem dX1_init_8 : decode cX1_init 8 = .ok (.newarray .boolean, 2) := by decide +kernel
theorem dX1_init_10 : decode cX1_init 10 = .ok (.putfield 7, 3) := by decide +kernel
theorem dX1_init_13 : decode cX1_init 13 = .ok (.aload_n 0, 1) := by decide +kernel
theorem dX1_init_14 : decode cX1_init 14 = .ok (.iconst 3, 1) := by decide +kernel
theorem dX1_init_15 : decode cX1_init 15 = .ok (.putfield 13, 3) := by decide +kernel
theorem dX1_init_18 : decode cX1_init 18 = .ok (.return_, 1) := by decide +kernel
abbrev cX1_prime : ByteArray := prog_3_method_4_code
def yX1_prime : MethodName := ⟨RX1, "prime", "(I)I"⟩
theorem dX1_prime_0 : decode cX1_prime 0 = .ok (.iload_n 1, 1) := by decide +kernel
theorem dX1_prime_1 : decode cX1_prime 1 = .ok (.iconst 3, 1) := by decide +kernel
theorem dX1_prime_2 : decode cX1_prime 2 = .ok (.if_icmp .lt 18, 3) := by decide +kernel
theorem dX1_prime_5 : decode cX1_prime 5 = .ok (.iload_n 1, 1) := by decide +kernel
theorem dX1_prime_6 : decode cX1_prime 6 = .ok (.sipush 2039, 3) := by decide +kernel
theorem dX1_prime_9 : decode cX1_prime 9 = .ok (.if_icmp .gt 11, 3) := by decide +kernel
theorem dX1_prime_12 : decode cX1_prime 12 = .ok (.aload_n 0, 1) := by decide +kernel
theorem dX1_prime_13 : decode cX1_prime 13 = .ok (.iload_n 1, 1) := by decide +kernel
theorem dX1_prime_14 : decode cX1_prime 14 = .ok (.invokevirtual 17, 3) := by decide +kernel
theorem dX1_prime_17 : decode cX1_prime 17 = .ok (.ifCond .ne 5, 3) := by decide +kernel
theorem dX1_prime_20 : decode cX1_prime 20 = .ok (.iconst (-1), 1) := by decide +kernel
theorem dX1_prime_21 : decode cX1_prime 21 = .ok (.ireturn, 1) := by decide +kernel
theorem dX1_prime_22 : decode cX1_prime 22 = .ok (.aload_n 0, 1) := by decide +kernel
theorem dX1_prime_23 : decode cX1_prime 23 = .ok (.getfield 13, 3) := by decide +kernel
theorem dX1_prime_26 : decode cX1_prime 26 = .ok (.istore_n 2, 1) := by decide +kernel
theorem dX1_prime_27 : decode cX1_prime 27 = .ok (.aload_n 0, 1) := by decide +kernel
theorem dX1_prime_28 : decode cX1_prime 28 = .ok (.iload_n 1, 1) := by decide +kernel
theorem dX1_prime_29 : decode cX1_prime 29 = .ok (.putfield 13, 3) := by decide +kernel
theorem dX1_prime_32 : decode cX1_prime 32 = .ok (.iload_n 2, 1) := by decide +kernel
theorem dX1_prime_33 : decode cX1_prime 33 = .ok (.ireturn, 1) := by decide +kernel
abbrev cX1_isPrime : ByteArray := prog_3_method_2_code
def yX1_isPrime : MethodName := ⟨RX1, "isPrime", "(I)Z"⟩
theorem dX1_isPrime_0 : decode cX1_isPrime 0 = .ok (.iconst 2, 1) := by decide +kernel
theorem dX1_isPrime_1 : decode cX1_isPrime 1 = .ok (.istore_n 2, 1) := by decide +kernel
theorem dX1_isPrime_2 : decode cX1_isPrime 2 = .ok (.iload_n 2, 1) := by decide +kernel
theorem dX1_isPrime_3 : decode cX1_isPrime 3 = .ok (.iload_n 1, 1) := by decide +kernel
theorem dX1_isPrime_4 : decode cX1_isPrime 4 = .ok (.if_icmp .ge 17, 3) := by decide +kernel
theorem dX1_isPrime_7 : decode cX1_isPrime 7 = .ok (.iload_n 1, 1) := by decide +kernel
theorem dX1_isPrime_8 : decode cX1_isPrime 8 = .ok (.iload_n 2, 1) := by decide +kernel
theorem dX1_isPrime_9 : decode cX1_isPrime 9 = .ok (.irem, 1) := by decide +kernel
theorem dX1_isPrime_10 : decode cX1_isPrime 10 = .ok (.ifCond .ne 5, 3) := by decide +kernel
theorem dX1_isPrime_13 : decode cX1_isPrime 13 = .ok (.iconst 0, 1) := by decide +kernel
theorem dX1_isPrime_14 : decode cX1_isPrime 14 = .ok (.ireturn, 1) := by decide +kernel
theorem dX1_isPrime_15 : decode cX1_isPrime 15 = .ok (.iinc 2 1, 3) := by decide +kernel
theorem dX1_isPrime_18 : decode cX1_isPrime 18 = .ok (.goto (-16), 3) := by decide +kernel
theorem dX1_isPrime_21 : decode cX1_isPrime 21 = .ok (.iload_n 1, 1) := by decide +kernel
theorem dX1_isPrime_22 : decode cX1_isPrime 22 = .ok (.iconst 3, 1) := by decide +kernel
theorem dX1_isPrime_23 : decode cX1_isPrime 23 = .ok (.if_icmp .lt 7, 3) := by decide +kernel
theorem dX1_isPrime_26 : decode cX1_isPrime 26 = .ok (.iconst 1, 1) := by decide +kernel
theorem dX1_isPrime_27 : decode cX1_isPrime 27 = .ok (.goto 4, 3) := by decide +kernel
theorem dX1_isPrime_30 : decode cX1_isPrime 30 = .ok (.iconst 0, 1) := by decide +kernel
theorem dX1_isPrime_31 : decode cX1_isPrime 31 = .ok (.ireturn, 1) := by decide +kernel
abbrev cX1_modulus : ByteArray := prog_3_method_5_code
def yX1_modulus : MethodName := ⟨RX1, "modulus", "()I"⟩
theorem dX1_modulus_0 : decode cX1_modulus 0 = .ok (.aload_n 0, 1) := by decide +kernel
theorem dX1_modulus_1 : decode cX1_modulus 1 = .ok (.getfield 13, 3) := by decide +kernel
theorem dX1_modulus_4 : decode cX1_modulus 4 = .ok (.ireturn, 1) := by decide +kernel
abbrev cX1_nextPrime : ByteArray := prog_3_method_6_code
def yX1_nextPrime : MethodName := ⟨RX1, "nextPrime", "()I"⟩
theorem dX1_nextPrime_0 : decode cX1_nextPrime 0 = .ok (.aload_n 0, 1) := by decide +kernel
theorem dX1_nextPrime_1 : decode cX1_nextPrime 1 = .ok (.getfield 13, 3) := by decide +kernel
theorem dX1_nextPrime_4 : decode cX1_nextPrime 4 = .ok (.iconst 1, 1) := by decide +kernel
theorem dX1_nextPrime_5 : decode cX1_nextPrime 5 = .ok (.iadd, 1) := by decide +kernel
theorem dX1_nextPrime_6 : decode cX1_nextPrime 6 = .ok (.istore_n 1, 1) := by decide +kernel
theorem dX1_nextPrime_7 : decode cX1_nextPrime 7 = .ok (.iload_n 1, 1) := by decide +kernel
theorem dX1_nextPrime_8 : decode cX1_nextPrime 8 = .ok (.sipush 2039, 3) := by decide +kernel
theorem dX1_nextPrime_11 : decode cX1_nextPrime 11 = .ok (.if_icmp .gt 24, 3) := by decide +kernel
theorem dX1_nextPrime_14 : decode cX1_nextPrime 14 = .ok (.aload_n 0, 1) := by decide +kernel
theorem dX1_nextPrime_15 : decode cX1_nextPrime 15 = .ok (.iload_n 1, 1) := by decide +kernel
theorem dX1_nextPrime_16 : decode cX1_nextPrime 16 = .ok (.invokevirtual 17, 3) := by decide +kernel
theorem dX1_nextPrime_19 : decode cX1_nextPrime 19 = .ok (.ifCond .eq 10, 3) := by decide +kernel
theorem dX1_nextPrime_22 : decode cX1_nextPrime 22 = .ok (.aload_n 0, 1) := by decide +kernel
theorem dX1_nextPrime_23 : decode cX1_nextPrime 23 = .ok (.iload_n 1, 1) := by decide +kernel
theorem dX1_nextPrime_24 : decode cX1_nextPrime 24 = .ok (.putfield 13, 3) := by decide +kernel
theorem dX1_nextPrime_27 : decode cX1_nextPrime 27 = .ok (.iload_n 1, 1) := by decide +kernel
theorem dX1_nextPrime_28 : decode cX1_nextPrime 28 = .ok (.ireturn, 1) := by decide +kernel
theorem dX1_nextPrime_29 : decode cX1_nextPrime 29 = .ok (.iinc 1 1, 3) := by decide +kernel
theorem dX1_nextPrime_32 : decode cX1_nextPrime 32 = .ok (.goto (-25), 3) := by decide +kernel
theorem dX1_nextPrime_35 : decode cX1_nextPrime 35 = .ok (.bipush (-4), 2) := by decide +kernel
theorem dX1_nextPrime_37 : decode cX1_nextPrime 37 = .ok (.ireturn, 1) := by decide +kernel
abbrev cX1_power : ByteArray := prog_3_method_8_code
def yX1_power : MethodName := ⟨RX1, "power", "(II)I"⟩
theorem dX1_power_0 : decode cX1_power 0 = .ok (.aload_n 0, 1) := by decide +kernel
theorem dX1_power_1 : decode cX1_power 1 = .ok (.iload_n 1, 1) := by decide +kernel
theorem dX1_power_2 : decode cX1_power 2 = .ok (.invokevirtual 21, 3) := by decide +kernel
theorem dX1_power_5 : decode cX1_power 5 = .ok (.ifCond .eq 13, 3) := by decide +kernel
theorem dX1_power_8 : decode cX1_power 8 = .ok (.iload_n 2, 1) := by decide +kernel
theorem dX1_power_9 : decode cX1_power 9 = .ok (.ifCond .lt 9, 3) := by decide +kernel
theorem dX1_power_12 : decode cX1_power 12 = .ok (.iload_n 2, 1) := by decide +kernel
theorem dX1_power_13 : decode cX1_power 13 = .ok (.ldc 24, 2) := by decide +kernel
theorem dX1_power_15 : decode cX1_power 15 = .ok (.if_icmp .le 5, 3) := by decide +kernel
theorem dX1_power_18 : decode cX1_power 18 = .ok (.iconst (-1), 1) := by decide +kernel
theorem dX1_power_19 : decode cX1_power 19 = .ok (.ireturn, 1) := by decide +kernel
theorem dX1_power_20 : decode cX1_power 20 = .ok (.aload_n 0, 1) := by decide +kernel
theorem dX1_power_21 : decode cX1_power 21 = .ok (.iload_n 1, 1) := by decide +kernel
theorem dX1_power_22 : decode cX1_power 22 = .ok (.iload_n 2, 1) := by decide +kernel
theorem dX1_power_23 : decode cX1_power 23 = .ok (.invokevirtual 25, 3) := by decide +kernel
theorem dX1_power_26 : decode cX1_power 26 = .ok (.ireturn, 1) := by decide +kernel
abbrev cX1_isUnit : ByteArray := prog_3_method_3_code
def yX1_isUnit : MethodName := ⟨RX1, "isUnit", "(I)Z"⟩
theorem dX1_isUnit_0 : decode cX1_isUnit 0 = .ok (.iload_n 1, 1) := by decide +kernel
theorem dX1_isUnit_1 : decode cX1_isUnit 1 = .ok (.iconst 1, 1) := by decide +kernel
theorem dX1_isUnit_2 : decode cX1_isUnit 2 = .ok (.if_icmp .lt 15, 3) := by decide +kernel
theorem dX1_isUnit_5 : decode cX1_isUnit 5 = .ok (.iload_n 1, 1) := by decide +kernel
theorem dX1_isUnit_6 : decode cX1_isUnit 6 = .ok (.aload_n 0, 1) := by decide +kernel
theorem dX1_isUnit_7 : decode cX1_isUnit 7 = .ok (.getfield 13, 3) := by decide +kernel
theorem dX1_isUnit_10 : decode cX1_isUnit 10 = .ok (.if_icmp .ge 7, 3) := by decide +kernel
theorem dX1_isUnit_13 : decode cX1_isUnit 13 = .ok (.iconst 1, 1) := by decide +kernel
theorem dX1_isUnit_14 : decode cX1_isUnit 14 = .ok (.goto 4, 3) := by decide +kernel
theorem dX1_isUnit_17 : decode cX1_isUnit 17 = .ok (.iconst 0, 1) := by decide +kernel
theorem dX1_isUnit_18 : decode cX1_isUnit 18 = .ok (.ireturn, 1) := by decide +kernel
abbrev cX1_raised : ByteArray := prog_3_method_7_code
def yX1_raised : MethodName := ⟨RX1, "raised", "(II)I"⟩
theorem dX1_raised_0 : decode cX1_raised 0 = .ok (.iconst 1, 1) := by decide +kernel
theorem dX1_raised_1 : decode cX1_raised 1 = .ok (.istore_n 3, 1) := by decide +kernel
theorem dX1_raised_2 : decode cX1_raised 2 = .ok (.bipush 19, 2) := by decide +kernel
theorem dX1_raised_4 : decode cX1_raised 4 = .ok (.istore 4, 2) := by decide +kernel
theorem dX1_raised_6 : decode cX1_raised 6 = .ok (.iload 4, 2) := by decide +kernel
theorem dX1_raised_8 : decode cX1_raised 8 = .ok (.ifCond .lt 37, 3) := by decide +kernel
theorem dX1_raised_11 : decode cX1_raised 11 = .ok (.iload_n 3, 1) := by decide +kernel
theorem dX1_raised_12 : decode cX1_raised 12 = .ok (.iload_n 3, 1) := by decide +kernel
theorem dX1_raised_13 : decode cX1_raised 13 = .ok (.imul, 1) := by decide +kernel
theorem dX1_raised_14 : decode cX1_raised 14 = .ok (.aload_n 0, 1) := by decide +kernel
theorem dX1_raised_15 : decode cX1_raised 15 = .ok (.getfield 13, 3) := by decide +kernel
theorem dX1_raised_18 : decode cX1_raised 18 = .ok (.irem, 1) := by decide +kernel
theorem dX1_raised_19 : decode cX1_raised 19 = .ok (.istore_n 3, 1) := by decide +kernel
theorem dX1_raised_20 : decode cX1_raised 20 = .ok (.iload_n 2, 1) := by decide +kernel
theorem dX1_raised_21 : decode cX1_raised 21 = .ok (.iload 4, 2) := by decide +kernel
theorem dX1_raised_23 : decode cX1_raised 23 = .ok (.ishr, 1) := by decide +kernel
theorem dX1_raised_24 : decode cX1_raised 24 = .ok (.iconst 1, 1) := by decide +kernel
theorem dX1_raised_25 : decode cX1_raised 25 = .ok (.iand, 1) := by decide +kernel
theorem dX1_raised_26 : decode cX1_raised 26 = .ok (.iconst 1, 1) := by decide +kernel
theorem dX1_raised_27 : decode cX1_raised 27 = .ok (.if_icmp .ne 12, 3) := by decide +kernel
theorem dX1_raised_30 : decode cX1_raised 30 = .ok (.iload_n 3, 1) := by decide +kernel
theorem dX1_raised_31 : decode cX1_raised 31 = .ok (.iload_n 1, 1) := by decide +kernel
theorem dX1_raised_32 : decode cX1_raised 32 = .ok (.imul, 1) := by decide +kernel
theorem dX1_raised_33 : decode cX1_raised 33 = .ok (.aload_n 0, 1) := by decide +kernel
theorem dX1_raised_34 : decode cX1_raised 34 = .ok (.getfield 13, 3) := by decide +kernel
theorem dX1_raised_37 : decode cX1_raised 37 = .ok (.irem, 1) := by decide +kernel
theorem dX1_raised_38 : decode cX1_raised 38 = .ok (.istore_n 3, 1) := by decide +kernel
theorem dX1_raised_39 : decode cX1_raised 39 = .ok (.iinc 4 (-1), 3) := by decide +kernel
theorem dX1_raised_42 : decode cX1_raised 42 = .ok (.goto (-36), 3) := by decide +kernel
theorem dX1_raised_45 : decode cX1_raised 45 = .ok (.iload_n 3, 1) := by decide +kernel
theorem dX1_raised_46 : decode cX1_raised 46 = .ok (.ireturn, 1) := by decide +kernel
abbrev cX1_inverse : ByteArray := prog_3_method_9_code
def yX1_inverse : MethodName := ⟨RX1, "inverse", "(I)I"⟩
theorem dX1_inverse_0 : decode cX1_inverse 0 = .ok (.aload_n 0, 1) := by decide +kernel
theorem dX1_inverse_1 : decode cX1_inverse 1 = .ok (.iload_n 1, 1) := by decide +kernel
theorem dX1_inverse_2 : decode cX1_inverse 2 = .ok (.invokevirtual 21, 3) := by decide +kernel
theorem dX1_inverse_5 : decode cX1_inverse 5 = .ok (.ifCond .ne 5, 3) := by decide +kernel
theorem dX1_inverse_8 : decode cX1_inverse 8 = .ok (.iconst (-1), 1) := by decide +kernel
theorem dX1_inverse_9 : decode cX1_inverse 9 = .ok (.ireturn, 1) := by decide +kernel
theorem dX1_inverse_10 : decode cX1_inverse 10 = .ok (.iconst 0, 1) := by decide +kernel
theorem dX1_inverse_11 : decode cX1_inverse 11 = .ok (.istore_n 2, 1) := by decide +kernel
theorem dX1_inverse_12 : decode cX1_inverse 12 = .ok (.iconst 1, 1) := by decide +kernel
theorem dX1_inverse_13 : decode cX1_inverse 13 = .ok (.istore_n 3, 1) := by decide +kernel
theorem dX1_inverse_14 : decode cX1_inverse 14 = .ok (.iload_n 3, 1) := by decide +kernel
theorem dX1_inverse_15 : decode cX1_inverse 15 = .ok (.aload_n 0, 1) := by decide +kernel
theorem dX1_inverse_16 : decode cX1_inverse 16 = .ok (.getfield 13, 3) := by decide +kernel
theorem dX1_inverse_19 : decode cX1_inverse 19 = .ok (.if_icmp .ge 23, 3) := by decide +kernel
theorem dX1_inverse_22 : decode cX1_inverse 22 = .ok (.iload_n 1, 1) := by decide +kernel
theorem dX1_inverse_23 : decode cX1_inverse 23 = .ok (.iload_n 3, 1) := by decide +kernel
theorem dX1_inverse_24 : decode cX1_inverse 24 = .ok (.imul, 1) := by decide +kernel
theorem dX1_inverse_25 : decode cX1_inverse 25 = .ok (.aload_n 0, 1) := by decide +kernel
theorem dX1_inverse_26 : decode cX1_inverse 26 = .ok (.getfield 13, 3) := by decide +kernel
theorem dX1_inverse_29 : decode cX1_inverse 29 = .ok (.irem, 1) := by decide +kernel
theorem dX1_inverse_30 : decode cX1_inverse 30 = .ok (.iconst 1, 1) := by decide +kernel
theorem dX1_inverse_31 : decode cX1_inverse 31 = .ok (.if_icmp .ne 5, 3) := by decide +kernel
theorem dX1_inverse_34 : decode cX1_inverse 34 = .ok (.iload_n 3, 1) := by decide +kernel
theorem dX1_inverse_35 : decode cX1_inverse 35 = .ok (.istore_n 2, 1) := by decide +kernel
theorem dX1_inverse_36 : decode cX1_inverse 36 = .ok (.iinc 3 1, 3) := by decide +kernel
theorem dX1_inverse_39 : decode cX1_inverse 39 = .ok (.goto (-25), 3) := by decide +kernel
theorem dX1_inverse_42 : decode cX1_inverse 42 = .ok (.iload_n 2, 1) := by decide +kernel
theorem dX1_inverse_43 : decode cX1_inverse 43 = .ok (.ireturn, 1) := by decide +kernel
abbrev cX1_order : ByteArray := prog_3_method_11_code
def yX1_order : MethodName := ⟨RX1, "order", "(I)I"⟩
theorem dX1_order_0 : decode cX1_order 0 = .ok (.aload_n 0, 1) := by decide +kernel
theorem dX1_order_1 : decode cX1_order 1 = .ok (.iload_n 1, 1) := by decide +kernel
theorem dX1_order_2 : decode cX1_order 2 = .ok (.invokevirtual 21, 3) := by decide +kernel
theorem dX1_order_5 : decode cX1_order 5 = .ok (.ifCond .eq 11, 3) := by decide +kernel
theorem dX1_order_8 : decode cX1_order 8 = .ok (.aload_n 0, 1) := by decide +kernel
theorem dX1_order_9 : decode cX1_order 9 = .ok (.iload_n 1, 1) := by decide +kernel
theorem dX1_order_10 : decode cX1_order 10 = .ok (.invokevirtual 29, 3) := by decide +kernel
theorem dX1_order_13 : decode cX1_order 13 = .ok (.goto 4, 3) := by decide +kernel
theorem dX1_order_16 : decode cX1_order 16 = .ok (.iconst (-1), 1) := by decide +kernel
theorem dX1_order_17 : decode cX1_order 17 = .ok (.ireturn, 1) := by decide +kernel
abbrev cX1_orderOf : ByteArray := prog_3_method_10_code
def yX1_orderOf : MethodName := ⟨RX1, "orderOf", "(I)I"⟩
theorem dX1_orderOf_0 : decode cX1_orderOf 0 = .ok (.iconst 1, 1) := by decide +kernel
theorem dX1_orderOf_1 : decode cX1_orderOf 1 = .ok (.istore_n 2, 1) := by decide +kernel
theorem dX1_orderOf_2 : decode cX1_orderOf 2 = .ok (.iload_n 1, 1) := by decide +kernel
theorem dX1_orderOf_3 : decode cX1_orderOf 3 = .ok (.istore_n 3, 1) := by decide +kernel
theorem dX1_orderOf_4 : decode cX1_orderOf 4 = .ok (.iload_n 2, 1) := by decide +kernel
theorem dX1_orderOf_5 : decode cX1_orderOf 5 = .ok (.aload_n 0, 1) := by decide +kernel
theorem dX1_orderOf_6 : decode cX1_orderOf 6 = .ok (.getfield 13, 3) := by decide +kernel
theorem dX1_orderOf_9 : decode cX1_orderOf 9 = .ok (.if_icmp .ge 23, 3) := by decide +kernel
theorem dX1_orderOf_12 : decode cX1_orderOf 12 = .ok (.iload_n 3, 1) := by decide +kernel
theorem dX1_orderOf_13 : decode cX1_orderOf 13 = .ok (.iconst 1, 1) := by decide +kernel
theorem dX1_orderOf_14 : decode cX1_orderOf 14 = .ok (.if_icmp .eq 18, 3) := by decide +kernel
theorem dX1_orderOf_17 : decode cX1_orderOf 17 = .ok (.iload_n 3, 1) := by decide +kernel
theorem dX1_orderOf_18 : decode cX1_orderOf 18 = .ok (.iload_n 1, 1) := by decide +kernel
theorem dX1_orderOf_19 : decode cX1_orderOf 19 = .ok (.imul, 1) := by decide +kernel
theorem dX1_orderOf_20 : decode cX1_orderOf 20 = .ok (.aload_n 0, 1) := by decide +kernel
theorem dX1_orderOf_21 : decode cX1_orderOf 21 = .ok (.getfield 13, 3) := by decide +kernel
theorem dX1_orderOf_24 : decode cX1_orderOf 24 = .ok (.irem, 1) := by decide +kernel
theorem dX1_orderOf_25 : decode cX1_orderOf 25 = .ok (.istore_n 3, 1) := by decide +kernel
theorem dX1_orderOf_26 : decode cX1_orderOf 26 = .ok (.iinc 2 1, 3) := by decide +kernel
theorem dX1_orderOf_29 : decode cX1_orderOf 29 = .ok (.goto (-25), 3) := by decide +kernel
theorem dX1_orderOf_32 : decode cX1_orderOf 32 = .ok (.iload_n 2, 1) := by decide +kernel
theorem dX1_orderOf_33 : decode cX1_orderOf 33 = .ok (.ireturn, 1) := by decide +kernel
abbrev cX1_generator : ByteArray := prog_3_method_12_code
def yX1_generator : MethodName := ⟨RX1, "generator", "()I"⟩
theorem dX1_generator_0 : decode cX1_generator 0 = .ok (.aload_n 0, 1) := by decide +kernel
theorem dX1_generator_1 : decode cX1_generator 1 = .ok (.aload_n 0, 1) := by decide +kernel
theorem dX1_generator_2 : decode cX1_generator 2 = .ok (.getfield 13, 3) := by decide +kernel
theorem dX1_generator_5 : decode cX1_generator 5 = .ok (.iconst 1, 1) := by decide +kernel
theorem dX1_generator_6 : decode cX1_generator 6 = .ok (.isub, 1) := by decide +kernel
theorem dX1_generator_7 : decode cX1_generator 7 = .ok (.invokevirtual 33, 3) := by decide +kernel
theorem dX1_generator_10 : decode cX1_generator 10 = .ok (.ireturn, 1) := by decide +kernel
abbrev cX1_unitOfOrder : ByteArray := prog_3_method_20_code
def yX1_unitOfOrder : MethodName := ⟨RX1, "unitOfOrder", "(I)I"⟩
theorem dX1_unitOfOrder_0 : decode cX1_unitOfOrder 0 = .ok (.iload_n 1, 1) := by decide +kernel
theorem dX1_unitOfOrder_1 : decode cX1_unitOfOrder 1 = .ok (.iconst 1, 1) := by decide +kernel
theorem dX1_unitOfOrder_2 : decode cX1_unitOfOrder 2 = .ok (.if_icmp .ge 5, 3) := by decide +kernel
theorem dX1_unitOfOrder_5 : decode cX1_unitOfOrder 5 = .ok (.iconst (-1), 1) := by decide +kernel
theorem dX1_unitOfOrder_6 : decode cX1_unitOfOrder 6 = .ok (.ireturn, 1) := by decide +kernel
theorem dX1_unitOfOrder_7 : decode cX1_unitOfOrder 7 = .ok (.iconst 1, 1) := by decide +kernel
theorem dX1_unitOfOrder_8 : decode cX1_unitOfOrder 8 = .ok (.istore_n 2, 1) := by decide +kernel
theorem dX1_unitOfOrder_9 : decode cX1_unitOfOrder 9 = .ok (.iload_n 2, 1) := by decide +kernel
theorem dX1_unitOfOrder_10 : decode cX1_unitOfOrder 10 = .ok (.aload_n 0, 1) := by decide +kernel
theorem dX1_unitOfOrder_11 : decode cX1_unitOfOrder 11 = .ok (.getfield 13, 3) := by decide +kernel
theorem dX1_unitOfOrder_14 : decode cX1_unitOfOrder 14 = .ok (.if_icmp .ge 20, 3) := by decide +kernel
theorem dX1_unitOfOrder_17 : decode cX1_unitOfOrder 17 = .ok (.aload_n 0, 1) := by decide +kernel
theorem dX1_unitOfOrder_18 : decode cX1_unitOfOrder 18 = .ok (.iload_n 2, 1) := by decide +kernel
theorem dX1_unitOfOrder_19 : decode cX1_unitOfOrder 19 = .ok (.invokevirtual 29, 3) := by decide +kernel
theorem dX1_unitOfOrder_22 : decode cX1_unitOfOrder 22 = .ok (.iload_n 1, 1) := by decide +kernel
theorem dX1_unitOfOrder_23 : decode cX1_unitOfOrder 23 = .ok (.if_icmp .ne 5, 3) := by decide +kernel
theorem dX1_unitOfOrder_26 : decode cX1_unitOfOrder 26 = .ok (.iload_n 2, 1) := by decide +kernel
theorem dX1_unitOfOrder_27 : decode cX1_unitOfOrder 27 = .ok (.ireturn, 1) := by decide +kernel
theorem dX1_unitOfOrder_28 : decode cX1_unitOfOrder 28 = .ok (.iinc 2 1, 3) := by decide +kernel
theorem dX1_unitOfOrder_31 : decode cX1_unitOfOrder 31 = .ok (.goto (-22), 3) := by decide +kernel
theorem dX1_unitOfOrder_34 : decode cX1_unitOfOrder 34 = .ok (.bipush (-4), 2) := by decide +kernel
theorem dX1_unitOfOrder_36 : decode cX1_unitOfOrder 36 = .ok (.ireturn, 1) := by decide +kernel
abbrev cX1_generators : ByteArray := prog_3_method_13_code
def yX1_generators : MethodName := ⟨RX1, "generators", "()I"⟩
theorem dX1_generators_0 : decode cX1_generators 0 = .ok (.aload_n 0, 1) := by decide +kernel
theorem dX1_generators_1 : decode cX1_generators 1 = .ok (.aload_n 0, 1) := by decide +kernel
theorem dX1_generators_2 : decode cX1_generators 2 = .ok (.getfield 13, 3) := by decide +kernel
theorem dX1_generators_5 : decode cX1_generators 5 = .ok (.iconst 1, 1) := by decide +kernel
theorem dX1_generators_6 : decode cX1_generators 6 = .ok (.isub, 1) := by decide +kernel
theorem dX1_generators_7 : decode cX1_generators 7 = .ok (.invokevirtual 36, 3) := by decide +kernel
theorem dX1_generators_10 : decode cX1_generators 10 = .ok (.ireturn, 1) := by decide +kernel
abbrev cX1_unitsOfOrder : ByteArray := prog_3_method_21_code
def yX1_unitsOfOrder : MethodName := ⟨RX1, "unitsOfOrder", "(I)I"⟩
theorem dX1_unitsOfOrder_0 : decode cX1_unitsOfOrder 0 = .ok (.iload_n 1, 1) := by decide +kernel
theorem dX1_unitsOfOrder_1 : decode cX1_unitsOfOrder 1 = .ok (.iconst 1, 1) := by decide +kernel
theorem dX1_unitsOfOrder_2 : decode cX1_unitsOfOrder 2 = .ok (.if_icmp .ge 5, 3) := by decide +kernel
theorem dX1_unitsOfOrder_5 : decode cX1_unitsOfOrder 5 = .ok (.iconst 0, 1) := by decide +kernel
theorem dX1_unitsOfOrder_6 : decode cX1_unitsOfOrder 6 = .ok (.ireturn, 1) := by decide +kernel
theorem dX1_unitsOfOrder_7 : decode cX1_unitsOfOrder 7 = .ok (.iconst 0, 1) := by decide +kernel
theorem dX1_unitsOfOrder_8 : decode cX1_unitsOfOrder 8 = .ok (.istore_n 2, 1) := by decide +kernel
theorem dX1_unitsOfOrder_9 : decode cX1_unitsOfOrder 9 = .ok (.iconst 1, 1) := by decide +kernel
theorem dX1_unitsOfOrder_10 : decode cX1_unitsOfOrder 10 = .ok (.istore_n 3, 1) := by decide +kernel
theorem dX1_unitsOfOrder_11 : decode cX1_unitsOfOrder 11 = .ok (.iload_n 3, 1) := by decide +kernel
theorem dX1_unitsOfOrder_12 : decode cX1_unitsOfOrder 12 = .ok (.aload_n 0, 1) := by decide +kernel
theorem dX1_unitsOfOrder_13 : decode cX1_unitsOfOrder 13 = .ok (.getfield 13, 3) := by decide +kernel
theorem dX1_unitsOfOrder_16 : decode cX1_unitsOfOrder 16 = .ok (.if_icmp .ge 21, 3) := by decide +kernel
theorem dX1_unitsOfOrder_19 : decode cX1_unitsOfOrder 19 = .ok (.aload_n 0, 1) := by decide +kernel
theorem dX1_unitsOfOrder_20 : decode cX1_unitsOfOrder 20 = .ok (.iload_n 3, 1) := by decide +kernel
theorem dX1_unitsOfOrder_21 : decode cX1_unitsOfOrder 21 = .ok (.invokevirtual 29, 3) := by decide +kernel
theorem dX1_unitsOfOrder_24 : decode cX1_unitsOfOrder 24 = .ok (.iload_n 1, 1) := by decide +kernel
theorem dX1_unitsOfOrder_25 : decode cX1_unitsOfOrder 25 = .ok (.if_icmp .ne 6, 3) := by decide +kernel
theorem dX1_unitsOfOrder_28 : decode cX1_unitsOfOrder 28 = .ok (.iinc 2 1, 3) := by decide +kernel
theorem dX1_unitsOfOrder_31 : decode cX1_unitsOfOrder 31 = .ok (.iinc 3 1, 3) := by decide +kernel
theorem dX1_unitsOfOrder_34 : decode cX1_unitsOfOrder 34 = .ok (.goto (-23), 3) := by decide +kernel
theorem dX1_unitsOfOrder_37 : decode cX1_unitsOfOrder 37 = .ok (.iload_n 2, 1) := by decide +kernel
theorem dX1_unitsOfOrder_38 : decode cX1_unitsOfOrder 38 = .ok (.ireturn, 1) := by decide +kernel
abbrev cX1_log : ByteArray := prog_3_method_14_code
def yX1_log : MethodName := ⟨RX1, "log", "(II)I"⟩
theorem dX1_log_0 : decode cX1_log 0 = .ok (.aload_n 0, 1) := by decide +kernel
theorem dX1_log_1 : decode cX1_log 1 = .ok (.iload_n 1, 1) := by decide +kernel
theorem dX1_log_2 : decode cX1_log 2 = .ok (.invokevirtual 21, 3) := by decide +kernel
theorem dX1_log_5 : decode cX1_log 5 = .ok (.ifCond .eq 11, 3) := by decide +kernel
theorem dX1_log_8 : decode cX1_log 8 = .ok (.aload_n 0, 1) := by decide +kernel
theorem dX1_log_9 : decode cX1_log 9 = .ok (.iload_n 2, 1) := by decide +kernel
theorem dX1_log_10 : decode cX1_log 10 = .ok (.invokevirtual 21, 3) := by decide +kernel
theorem dX1_log_13 : decode cX1_log 13 = .ok (.ifCond .ne 5, 3) := by decide +kernel
theorem dX1_log_16 : decode cX1_log 16 = .ok (.iconst (-1), 1) := by decide +kernel
theorem dX1_log_17 : decode cX1_log 17 = .ok (.ireturn, 1) := by decide +kernel
theorem dX1_log_18 : decode cX1_log 18 = .ok (.iconst 1, 1) := by decide +kernel
theorem dX1_log_19 : decode cX1_log 19 = .ok (.istore_n 3, 1) := by decide +kernel
theorem dX1_log_20 : decode cX1_log 20 = .ok (.iconst 0, 1) := by decide +kernel
theorem dX1_log_21 : decode cX1_log 21 = .ok (.istore 4, 2) := by decide +kernel
theorem dX1_log_23 : decode cX1_log 23 = .ok (.iload 4, 2) := by decide +kernel
theorem dX1_log_25 : decode cX1_log 25 = .ok (.aload_n 0, 1) := by decide +kernel
theorem dX1_log_26 : decode cX1_log 26 = .ok (.getfield 13, 3) := by decide +kernel
theorem dX1_log_29 : decode cX1_log 29 = .ok (.iconst 1, 1) := by decide +kernel
theorem dX1_log_30 : decode cX1_log 30 = .ok (.isub, 1) := by decide +kernel
theorem dX1_log_31 : decode cX1_log 31 = .ok (.if_icmp .ge 26, 3) := by decide +kernel
theorem dX1_log_34 : decode cX1_log 34 = .ok (.iload_n 3, 1) := by decide +kernel
theorem dX1_log_35 : decode cX1_log 35 = .ok (.iload_n 2, 1) := by decide +kernel
theorem dX1_log_36 : decode cX1_log 36 = .ok (.if_icmp .ne 6, 3) := by decide +kernel
theorem dX1_log_39 : decode cX1_log 39 = .ok (.iload 4, 2) := by decide +kernel
theorem dX1_log_41 : decode cX1_log 41 = .ok (.ireturn, 1) := by decide +kernel
theorem dX1_log_42 : decode cX1_log 42 = .ok (.iload_n 3, 1) := by decide +kernel
theorem dX1_log_43 : decode cX1_log 43 = .ok (.iload_n 1, 1) := by decide +kernel
theorem dX1_log_44 : decode cX1_log 44 = .ok (.imul, 1) := by decide +kernel
theorem dX1_log_45 : decode cX1_log 45 = .ok (.aload_n 0, 1) := by decide +kernel
theorem dX1_log_46 : decode cX1_log 46 = .ok (.getfield 13, 3) := by decide +kernel
theorem dX1_log_49 : decode cX1_log 49 = .ok (.irem, 1) := by decide +kernel
theorem dX1_log_50 : decode cX1_log 50 = .ok (.istore_n 3, 1) := by decide +kernel
theorem dX1_log_51 : decode cX1_log 51 = .ok (.iinc 4 1, 3) := by decide +kernel
theorem dX1_log_54 : decode cX1_log 54 = .ok (.goto (-31), 3) := by decide +kernel
theorem dX1_log_57 : decode cX1_log 57 = .ok (.bipush (-4), 2) := by decide +kernel
theorem dX1_log_59 : decode cX1_log 59 = .ok (.ireturn, 1) := by decide +kernel
abbrev cX1_root : ByteArray := prog_3_method_16_code
def yX1_root : MethodName := ⟨RX1, "root", "(II)I"⟩
theorem dX1_root_0 : decode cX1_root 0 = .ok (.aload_n 0, 1) := by decide +kernel
theorem dX1_root_1 : decode cX1_root 1 = .ok (.iload_n 1, 1) := by decide +kernel
theorem dX1_root_2 : decode cX1_root 2 = .ok (.invokevirtual 21, 3) := by decide +kernel
theorem dX1_root_5 : decode cX1_root 5 = .ok (.ifCond .eq 11, 3) := by decide +kernel
theorem dX1_root_8 : decode cX1_root 8 = .ok (.aload_n 0, 1) := by decide +kernel
theorem dX1_root_9 : decode cX1_root 9 = .ok (.iload_n 2, 1) := by decide +kernel
theorem dX1_root_10 : decode cX1_root 10 = .ok (.invokevirtual 39, 3) := by decide +kernel
theorem dX1_root_13 : decode cX1_root 13 = .ok (.ifCond .ne 5, 3) := by decide +kernel
theorem dX1_root_16 : decode cX1_root 16 = .ok (.iconst (-1), 1) := by decide +kernel
theorem dX1_root_17 : decode cX1_root 17 = .ok (.ireturn, 1) := by decide +kernel
theorem dX1_root_18 : decode cX1_root 18 = .ok (.iconst 1, 1) := by decide +kernel
theorem dX1_root_19 : decode cX1_root 19 = .ok (.istore_n 3, 1) := by decide +kernel
theorem dX1_root_20 : decode cX1_root 20 = .ok (.iload_n 3, 1) := by decide +kernel
theorem dX1_root_21 : decode cX1_root 21 = .ok (.aload_n 0, 1) := by decide +kernel
theorem dX1_root_22 : decode cX1_root 22 = .ok (.getfield 13, 3) := by decide +kernel
theorem dX1_root_25 : decode cX1_root 25 = .ok (.if_icmp .ge 21, 3) := by decide +kernel
theorem dX1_root_28 : decode cX1_root 28 = .ok (.aload_n 0, 1) := by decide +kernel
theorem dX1_root_29 : decode cX1_root 29 = .ok (.iload_n 3, 1) := by decide +kernel
theorem dX1_root_30 : decode cX1_root 30 = .ok (.iload_n 2, 1) := by decide +kernel
theorem dX1_root_31 : decode cX1_root 31 = .ok (.invokevirtual 25, 3) := by decide +kernel
theorem dX1_root_34 : decode cX1_root 34 = .ok (.iload_n 1, 1) := by decide +kernel
theorem dX1_root_35 : decode cX1_root 35 = .ok (.if_icmp .ne 5, 3) := by decide +kernel
theorem dX1_root_38 : decode cX1_root 38 = .ok (.iload_n 3, 1) := by decide +kernel
theorem dX1_root_39 : decode cX1_root 39 = .ok (.ireturn, 1) := by decide +kernel
theorem dX1_root_40 : decode cX1_root 40 = .ok (.iinc 3 1, 3) := by decide +kernel
theorem dX1_root_43 : decode cX1_root 43 = .ok (.goto (-23), 3) := by decide +kernel
theorem dX1_root_46 : decode cX1_root 46 = .ok (.bipush (-4), 2) := by decide +kernel
theorem dX1_root_48 : decode cX1_root 48 = .ok (.ireturn, 1) := by decide +kernel
abbrev cX1_isExponent : ByteArray := prog_3_method_15_code
def yX1_isExponent : MethodName := ⟨RX1, "isExponent", "(I)Z"⟩
theorem dX1_isExponent_0 : decode cX1_isExponent 0 = .ok (.iload_n 1, 1) := by decide +kernel
theorem dX1_isExponent_1 : decode cX1_isExponent 1 = .ok (.iconst 1, 1) := by decide +kernel
theorem dX1_isExponent_2 : decode cX1_isExponent 2 = .ok (.if_icmp .lt 13, 3) := by decide +kernel
theorem dX1_isExponent_5 : decode cX1_isExponent 5 = .ok (.iload_n 1, 1) := by decide +kernel
theorem dX1_isExponent_6 : decode cX1_isExponent 6 = .ok (.ldc 24, 2) := by decide +kernel
theorem dX1_isExponent_8 : decode cX1_isExponent 8 = .ok (.if_icmp .gt 7, 3) := by decide +kernel
theorem dX1_isExponent_11 : decode cX1_isExponent 11 = .ok (.iconst 1, 1) := by decide +kernel
theorem dX1_isExponent_12 : decode cX1_isExponent 12 = .ok (.goto 4, 3) := by decide +kernel
theorem dX1_isExponent_15 : decode cX1_isExponent 15 = .ok (.iconst 0, 1) := by decide +kernel
theorem dX1_isExponent_16 : decode cX1_isExponent 16 = .ok (.ireturn, 1) := by decide +kernel
abbrev cX1_roots : ByteArray := prog_3_method_17_code
def yX1_roots : MethodName := ⟨RX1, "roots", "(II)I"⟩
theorem dX1_roots_0 : decode cX1_roots 0 = .ok (.aload_n 0, 1) := by decide +kernel
theorem dX1_roots_1 : decode cX1_roots 1 = .ok (.iload_n 1, 1) := by decide +kernel
theorem dX1_roots_2 : decode cX1_roots 2 = .ok (.invokevirtual 21, 3) := by decide +kernel
theorem dX1_roots_5 : decode cX1_roots 5 = .ok (.ifCond .eq 11, 3) := by decide +kernel
theorem dX1_roots_8 : decode cX1_roots 8 = .ok (.aload_n 0, 1) := by decide +kernel
theorem dX1_roots_9 : decode cX1_roots 9 = .ok (.iload_n 2, 1) := by decide +kernel
theorem dX1_roots_10 : decode cX1_roots 10 = .ok (.invokevirtual 39, 3) := by decide +kernel
theorem dX1_roots_13 : decode cX1_roots 13 = .ok (.ifCond .ne 5, 3) := by decide +kernel
theorem dX1_roots_16 : decode cX1_roots 16 = .ok (.iconst (-1), 1) := by decide +kernel
theorem dX1_roots_17 : decode cX1_roots 17 = .ok (.ireturn, 1) := by decide +kernel
theorem dX1_roots_18 : decode cX1_roots 18 = .ok (.iconst 0, 1) := by decide +kernel
theorem dX1_roots_19 : decode cX1_roots 19 = .ok (.istore_n 3, 1) := by decide +kernel
theorem dX1_roots_20 : decode cX1_roots 20 = .ok (.iconst 1, 1) := by decide +kernel
theorem dX1_roots_21 : decode cX1_roots 21 = .ok (.istore 4, 2) := by decide +kernel
theorem dX1_roots_23 : decode cX1_roots 23 = .ok (.iload 4, 2) := by decide +kernel
theorem dX1_roots_25 : decode cX1_roots 25 = .ok (.aload_n 0, 1) := by decide +kernel
theorem dX1_roots_26 : decode cX1_roots 26 = .ok (.getfield 13, 3) := by decide +kernel
theorem dX1_roots_29 : decode cX1_roots 29 = .ok (.if_icmp .ge 23, 3) := by decide +kernel
theorem dX1_roots_32 : decode cX1_roots 32 = .ok (.aload_n 0, 1) := by decide +kernel
theorem dX1_roots_33 : decode cX1_roots 33 = .ok (.iload 4, 2) := by decide +kernel
theorem dX1_roots_35 : decode cX1_roots 35 = .ok (.iload_n 2, 1) := by decide +kernel
theorem dX1_roots_36 : decode cX1_roots 36 = .ok (.invokevirtual 25, 3) := by decide +kernel
theorem dX1_roots_39 : decode cX1_roots 39 = .ok (.iload_n 1, 1) := by decide +kernel
theorem dX1_roots_40 : decode cX1_roots 40 = .ok (.if_icmp .ne 6, 3) := by decide +kernel
theorem dX1_roots_43 : decode cX1_roots 43 = .ok (.iinc 3 1, 3) := by decide +kernel
theorem dX1_roots_46 : decode cX1_roots 46 = .ok (.iinc 4 1, 3) := by decide +kernel
theorem dX1_roots_49 : decode cX1_roots 49 = .ok (.goto (-26), 3) := by decide +kernel
theorem dX1_roots_52 : decode cX1_roots 52 = .ok (.iload_n 3, 1) := by decide +kernel
theorem dX1_roots_53 : decode cX1_roots 53 = .ok (.ireturn, 1) := by decide +kernel
abbrev cX1_logWith : ByteArray := prog_3_method_18_code
def yX1_logWith : MethodName := ⟨RX1, "logWith", "(IIII)I"⟩
theorem dX1_logWith_0 : decode cX1_logWith 0 = .ok (.aload_n 0, 1) := by decide +kernel
theorem dX1_logWith_1 : decode cX1_logWith 1 = .ok (.iload_n 1, 1) := by decide +kernel
theorem dX1_logWith_2 : decode cX1_logWith 2 = .ok (.invokevirtual 21, 3) := by decide +kernel
theorem dX1_logWith_5 : decode cX1_logWith 5 = .ok (.ifCond .eq 34, 3) := by decide +kernel
theorem dX1_logWith_8 : decode cX1_logWith 8 = .ok (.aload_n 0, 1) := by decide +kernel
theorem dX1_logWith_9 : decode cX1_logWith 9 = .ok (.iload_n 2, 1) := by decide +kernel
theorem dX1_logWith_10 : decode cX1_logWith 10 = .ok (.invokevirtual 21, 3) := by decide +kernel
theorem dX1_logWith_13 : decode cX1_logWith 13 = .ok (.ifCond .eq 26, 3) := by decide +kernel
theorem dX1_logWith_16 : decode cX1_logWith 16 = .ok (.iload 4, 2) := by decide +kernel
theorem dX1_logWith_18 : decode cX1_logWith 18 = .ok (.iconst 1, 1) := by decide +kernel
theorem dX1_logWith_19 : decode cX1_logWith 19 = .ok (.if_icmp .lt 20, 3) := by decide +kernel
theorem dX1_logWith_22 : decode cX1_logWith 22 = .ok (.iload 4, 2) := by decide +kernel
theorem dX1_logWith_24 : decode cX1_logWith 24 = .ok (.bipush 60, 2) := by decide +kernel
theorem dX1_logWith_26 : decode cX1_logWith 26 = .ok (.if_icmp .gt 13, 3) := by decide +kernel
theorem dX1_logWith_29 : decode cX1_logWith 29 = .ok (.iload_n 3, 1) := by decide +kernel
theorem dX1_logWith_30 : decode cX1_logWith 30 = .ok (.ifCond .lt 9, 3) := by decide +kernel
theorem dX1_logWith_33 : decode cX1_logWith 33 = .ok (.iload_n 3, 1) := by decide +kernel
theorem dX1_logWith_34 : decode cX1_logWith 34 = .ok (.iload 4, 2) := by decide +kernel
theorem dX1_logWith_36 : decode cX1_logWith 36 = .ok (.if_icmp .lt 5, 3) := by decide +kernel
theorem dX1_logWith_39 : decode cX1_logWith 39 = .ok (.iconst (-1), 1) := by decide +kernel
theorem dX1_logWith_40 : decode cX1_logWith 40 = .ok (.ireturn, 1) := by decide +kernel
theorem dX1_logWith_41 : decode cX1_logWith 41 = .ok (.iconst 1, 1) := by decide +kernel
theorem dX1_logWith_42 : decode cX1_logWith 42 = .ok (.istore 5, 2) := by decide +kernel
theorem dX1_logWith_44 : decode cX1_logWith 44 = .ok (.iconst 0, 1) := by decide +kernel
theorem dX1_logWith_45 : decode cX1_logWith 45 = .ok (.istore 6, 2) := by decide +kernel
theorem dX1_logWith_47 : decode cX1_logWith 47 = .ok (.iload 6, 2) := by decide +kernel
theorem dX1_logWith_49 : decode cX1_logWith 49 = .ok (.aload_n 0, 1) := by decide +kernel
theorem dX1_logWith_50 : decode cX1_logWith 50 = .ok (.getfield 13, 3) := by decide +kernel
theorem dX1_logWith_53 : decode cX1_logWith 53 = .ok (.iconst 1, 1) := by decide +kernel
theorem dX1_logWith_54 : decode cX1_logWith 54 = .ok (.isub, 1) := by decide +kernel
theorem dX1_logWith_55 : decode cX1_logWith 55 = .ok (.iload 4, 2) := by decide +kernel
theorem dX1_logWith_57 : decode cX1_logWith 57 = .ok (.imul, 1) := by decide +kernel
theorem dX1_logWith_58 : decode cX1_logWith 58 = .ok (.if_icmp .ge 38, 3) := by decide +kernel
theorem dX1_logWith_61 : decode cX1_logWith 61 = .ok (.iload 5, 2) := by decide +kernel
theorem dX1_logWith_63 : decode cX1_logWith 63 = .ok (.iload_n 2, 1) := by decide +kernel
theorem dX1_logWith_64 : decode cX1_logWith 64 = .ok (.if_icmp .ne 15, 3) := by decide +kernel
theorem dX1_logWith_67 : decode cX1_logWith 67 = .ok (.iload 6, 2) := by decide +kernel
theorem dX1_logWith_69 : decode cX1_logWith 69 = .ok (.iload 4, 2) := by decide +kernel
theorem dX1_logWith_71 : decode cX1_logWith 71 = .ok (.irem, 1) := by decide +kernel
theorem dX1_logWith_72 : decode cX1_logWith 72 = .ok (.iload_n 3, 1) := by decide +kernel
theorem dX1_logWith_73 : decode cX1_logWith 73 = .ok (.if_icmp .ne 6, 3) := by decide +kernel
theorem dX1_logWith_76 : decode cX1_logWith 76 = .ok (.iload 6, 2) := by decide +kernel
theorem dX1_logWith_78 : decode cX1_logWith 78 = .ok (.ireturn, 1) := by decide +kernel
theorem dX1_logWith_79 : decode cX1_logWith 79 = .ok (.iload 5, 2) := by decide +kernel
theorem dX1_logWith_81 : decode cX1_logWith 81 = .ok (.iload_n 1, 1) := by decide +kernel
theorem dX1_logWith_82 : decode cX1_logWith 82 = .ok (.imul, 1) := by decide +kernel
theorem dX1_logWith_83 : decode cX1_logWith 83 = .ok (.aload_n 0, 1) := by decide +kernel
theorem dX1_logWith_84 : decode cX1_logWith 84 = .ok (.getfield 13, 3) := by decide +kernel
theorem dX1_logWith_87 : decode cX1_logWith 87 = .ok (.irem, 1) := by decide +kernel
theorem dX1_logWith_88 : decode cX1_logWith 88 = .ok (.istore 5, 2) := by decide +kernel
theorem dX1_logWith_90 : decode cX1_logWith 90 = .ok (.iinc 6 1, 3) := by decide +kernel
theorem dX1_logWith_93 : decode cX1_logWith 93 = .ok (.goto (-46), 3) := by decide +kernel
theorem dX1_logWith_96 : decode cX1_logWith 96 = .ok (.bipush (-4), 2) := by decide +kernel
theorem dX1_logWith_98 : decode cX1_logWith 98 = .ok (.ireturn, 1) := by decide +kernel
abbrev cX1_common : ByteArray := prog_3_method_19_code
def yX1_common : MethodName := ⟨RX1, "common", "(II)I"⟩
theorem dX1_common_0 : decode cX1_common 0 = .ok (.aload_n 0, 1) := by decide +kernel
theorem dX1_common_1 : decode cX1_common 1 = .ok (.iload_n 1, 1) := by decide +kernel
theorem dX1_common_2 : decode cX1_common 2 = .ok (.invokevirtual 21, 3) := by decide +kernel
theorem dX1_common_5 : decode cX1_common 5 = .ok (.ifCond .eq 11, 3) := by decide +kernel
theorem dX1_common_8 : decode cX1_common 8 = .ok (.aload_n 0, 1) := by decide +kernel
theorem dX1_common_9 : decode cX1_common 9 = .ok (.iload_n 2, 1) := by decide +kernel
theorem dX1_common_10 : decode cX1_common 10 = .ok (.invokevirtual 21, 3) := by decide +kernel
theorem dX1_common_13 : decode cX1_common 13 = .ok (.ifCond .ne 5, 3) := by decide +kernel
theorem dX1_common_16 : decode cX1_common 16 = .ok (.iconst (-1), 1) := by decide +kernel
theorem dX1_common_17 : decode cX1_common 17 = .ok (.ireturn, 1) := by decide +kernel
theorem dX1_common_18 : decode cX1_common 18 = .ok (.iconst 0, 1) := by decide +kernel
theorem dX1_common_19 : decode cX1_common 19 = .ok (.istore_n 3, 1) := by decide +kernel
theorem dX1_common_20 : decode cX1_common 20 = .ok (.iload_n 3, 1) := by decide +kernel
theorem dX1_common_21 : decode cX1_common 21 = .ok (.aload_n 0, 1) := by decide +kernel
theorem dX1_common_22 : decode cX1_common 22 = .ok (.getfield 13, 3) := by decide +kernel
theorem dX1_common_25 : decode cX1_common 25 = .ok (.if_icmp .ge 16, 3) := by decide +kernel
theorem dX1_common_28 : decode cX1_common 28 = .ok (.aload_n 0, 1) := by decide +kernel
theorem dX1_common_29 : decode cX1_common 29 = .ok (.getfield 7, 3) := by decide +kernel
theorem dX1_common_32 : decode cX1_common 32 = .ok (.iload_n 3, 1) := by decide +kernel
theorem dX1_common_33 : decode cX1_common 33 = .ok (.iconst 0, 1) := by decide +kernel
theorem dX1_common_34 : decode cX1_common 34 = .ok (.bastore, 1) := by decide +kernel
theorem dX1_common_35 : decode cX1_common 35 = .ok (.iinc 3 1, 3) := by decide +kernel
theorem dX1_common_38 : decode cX1_common 38 = .ok (.goto (-18), 3) := by decide +kernel
theorem dX1_common_41 : decode cX1_common 41 = .ok (.iconst 1, 1) := by decide +kernel
theorem dX1_common_42 : decode cX1_common 42 = .ok (.istore_n 3, 1) := by decide +kernel
theorem dX1_common_43 : decode cX1_common 43 = .ok (.iconst 0, 1) := by decide +kernel
theorem dX1_common_44 : decode cX1_common 44 = .ok (.istore 4, 2) := by decide +kernel
theorem dX1_common_46 : decode cX1_common 46 = .ok (.iload 4, 2) := by decide +kernel
theorem dX1_common_48 : decode cX1_common 48 = .ok (.aload_n 0, 1) := by decide +kernel
theorem dX1_common_49 : decode cX1_common 49 = .ok (.getfield 13, 3) := by decide +kernel
theorem dX1_common_52 : decode cX1_common 52 = .ok (.iconst 1, 1) := by decide +kernel
theorem dX1_common_53 : decode cX1_common 53 = .ok (.isub, 1) := by decide +kernel
theorem dX1_common_54 : decode cX1_common 54 = .ok (.if_icmp .ge 25, 3) := by decide +kernel
theorem dX1_common_57 : decode cX1_common 57 = .ok (.aload_n 0, 1) := by decide +kernel
theorem dX1_common_58 : decode cX1_common 58 = .ok (.getfield 7, 3) := by decide +kernel
theorem dX1_common_61 : decode cX1_common 61 = .ok (.iload_n 3, 1) := by decide +kernel
theorem dX1_common_62 : decode cX1_common 62 = .ok (.iconst 1, 1) := by decide +kernel
theorem dX1_common_63 : decode cX1_common 63 = .ok (.bastore, 1) := by decide +kernel
theorem dX1_common_64 : decode cX1_common 64 = .ok (.iload_n 3, 1) := by decide +kernel
theorem dX1_common_65 : decode cX1_common 65 = .ok (.iload_n 1, 1) := by decide +kernel
theorem dX1_common_66 : decode cX1_common 66 = .ok (.imul, 1) := by decide +kernel
theorem dX1_common_67 : decode cX1_common 67 = .ok (.aload_n 0, 1) := by decide +kernel
theorem dX1_common_68 : decode cX1_common 68 = .ok (.getfield 13, 3) := by decide +kernel
theorem dX1_common_71 : decode cX1_common 71 = .ok (.irem, 1) := by decide +kernel
theorem dX1_common_72 : decode cX1_common 72 = .ok (.istore_n 3, 1) := by decide +kernel
theorem dX1_common_73 : decode cX1_common 73 = .ok (.iinc 4 1, 3) := by decide +kernel
theorem dX1_common_76 : decode cX1_common 76 = .ok (.goto (-30), 3) := by decide +kernel
theorem dX1_common_79 : decode cX1_common 79 = .ok (.iconst 0, 1) := by decide +kernel
theorem dX1_common_80 : decode cX1_common 80 = .ok (.istore 4, 2) := by decide +kernel
theorem dX1_common_82 : decode cX1_common 82 = .ok (.aload_n 0, 1) := by decide +kernel
theorem dX1_common_83 : decode cX1_common 83 = .ok (.iload_n 2, 1) := by decide +kernel
theorem dX1_common_84 : decode cX1_common 84 = .ok (.invokevirtual 29, 3) := by decide +kernel
theorem dX1_common_87 : decode cX1_common 87 = .ok (.istore 5, 2) := by decide +kernel
theorem dX1_common_89 : decode cX1_common 89 = .ok (.iload_n 2, 1) := by decide +kernel
theorem dX1_common_90 : decode cX1_common 90 = .ok (.istore_n 3, 1) := by decide +kernel
theorem dX1_common_91 : decode cX1_common 91 = .ok (.iconst 0, 1) := by decide +kernel
theorem dX1_common_92 : decode cX1_common 92 = .ok (.istore 6, 2) := by decide +kernel
theorem dX1_common_94 : decode cX1_common 94 = .ok (.iload 6, 2) := by decide +kernel
theorem dX1_common_96 : decode cX1_common 96 = .ok (.iload 5, 2) := by decide +kernel
theorem dX1_common_98 : decode cX1_common 98 = .ok (.if_icmp .ge 30, 3) := by decide +kernel
theorem dX1_common_101 : decode cX1_common 101 = .ok (.aload_n 0, 1) := by decide +kernel
theorem dX1_common_102 : decode cX1_common 102 = .ok (.getfield 7, 3) := by decide +kernel
theorem dX1_common_105 : decode cX1_common 105 = .ok (.iload_n 3, 1) := by decide +kernel
theorem dX1_common_106 : decode cX1_common 106 = .ok (.baload, 1) := by decide +kernel
theorem dX1_common_107 : decode cX1_common 107 = .ok (.ifCond .eq 6, 3) := by decide +kernel
theorem dX1_common_110 : decode cX1_common 110 = .ok (.iinc 4 1, 3) := by decide +kernel
theorem dX1_common_113 : decode cX1_common 113 = .ok (.iload_n 3, 1) := by decide +kernel
theorem dX1_common_114 : decode cX1_common 114 = .ok (.iload_n 2, 1) := by decide +kernel
theorem dX1_common_115 : decode cX1_common 115 = .ok (.imul, 1) := by decide +kernel
theorem dX1_common_116 : decode cX1_common 116 = .ok (.aload_n 0, 1) := by decide +kernel
theorem dX1_common_117 : decode cX1_common 117 = .ok (.getfield 13, 3) := by decide +kernel
theorem dX1_common_120 : decode cX1_common 120 = .ok (.irem, 1) := by decide +kernel
theorem dX1_common_121 : decode cX1_common 121 = .ok (.istore_n 3, 1) := by decide +kernel
theorem dX1_common_122 : decode cX1_common 122 = .ok (.iinc 6 1, 3) := by decide +kernel
theorem dX1_common_125 : decode cX1_common 125 = .ok (.goto (-31), 3) := by decide +kernel
theorem dX1_common_128 : decode cX1_common 128 = .ok (.iload 4, 2) := by decide +kernel
theorem dX1_common_130 : decode cX1_common 130 = .ok (.ireturn, 1) := by decide +kernel
theorem q27 : (Jvm.Cond.initialized "DlogSolverModel") ∈ lw_all := lw_g (lw_at lw_m1 2 rfl) rfl
theorem q202 : (Jvm.Cond.instantiable "DlogSolverModel" (2 : Nat)) ∈ lw_all := lw_g (lw_at lw_m1 177 rfl) rfl
theorem q204 : (Jvm.Cond.instanceMethod ({ cls := "DlogSolverModel", name := "<init>", desc := "()V" } : Jvm.MethodName)) ∈ lw_all := lw_g (lw_at lw_m1 179 rfl) rfl
theorem q205 : (Jvm.Cond.code ({ cls := "DlogSolverModel", name := "<init>", desc := "()V" } : Jvm.MethodName) prog_3_method_1_code (1 : Nat) (Option.none : Option Jvm.ClassFile.FieldType)) ∈ lw_all := lw_g (lw_at lw_m1 180 rfl) rfl
theorem q206 : (Jvm.Cond.methodLink "DlogSolverModel" (1 : Nat) ({ cls := "java/lang/Object", name := "<init>", desc := "()V" } : Jvm.MethodName)) ∈ lw_all := lw_g (lw_at lw_m1 181 rfl) rfl
theorem q207 : (Jvm.Cond.fieldLink "DlogSolverModel" (13 : Nat) "DlogSolverModel" "p" "I") ∈ lw_all := lw_g (lw_at lw_m1 182 rfl) rfl
theorem q208 : (Jvm.Cond.fieldLink "DlogSolverModel" (7 : Nat) "DlogSolverModel" "marked" "[Z") ∈ lw_all := lw_g (lw_at lw_m1 183 rfl) rfl
theorem q209 : (Jvm.Cond.lays "DlogSolverModel" "DlogSolverModel" "p" "I") ∈ lw_all := lw_g (lw_at lw_m1 184 rfl) rfl
theorem q210 : (Jvm.Cond.soleField "DlogSolverModel" "p") ∈ lw_all := lw_g (lw_at lw_m1 185 rfl) rfl
theorem q211 : (Jvm.Cond.laysFinal "DlogSolverModel" "DlogSolverModel" "marked" "[Z") ∈ lw_all := lw_g (lw_at lw_m1 186 rfl) rfl
theorem q212 : (Jvm.Cond.soleField "DlogSolverModel" "marked") ∈ lw_all := lw_g (lw_at lw_m1 187 rfl) rfl
theorem q213 : (Jvm.Cond.superclass "DlogSolverModel" "java/lang/Object") ∈ lw_all := lw_g (lw_at lw_m1 188 rfl) rfl
theorem q216 : (Jvm.Cond.instanceMethod ({ cls := "DlogSolverModel", name := "prime", desc := "(I)I" } : Jvm.MethodName)) ∈ lw_all := lw_g (lw_at lw_m1 191 rfl) rfl
theorem q217 : (Jvm.Cond.selects "DlogSolverModel" ({ cls := "DlogSolverModel", name := "prime", desc := "(I)I" } : Jvm.MethodName) ({ cls := "DlogSolverModel", name := "prime", desc := "(I)I" } : Jvm.MethodName)) ∈ lw_all := lw_g (lw_at lw_m1 192 rfl) rfl
theorem q218 : (Jvm.Cond.code ({ cls := "DlogSolverModel", name := "prime", desc := "(I)I" } : Jvm.MethodName) prog_3_method_4_code (3 : Nat) (Option.some Jvm.ClassFile.FieldType.int)) ∈ lw_all := lw_g (lw_at lw_m1 193 rfl) rfl
theorem q219 : (Jvm.Cond.methodLink "DlogSolverModel" (17 : Nat) ({ cls := "DlogSolverModel", name := "isPrime", desc := "(I)Z" } : Jvm.MethodName)) ∈ lw_all := lw_g (lw_at lw_m1 194 rfl) rfl
theorem q220 : (Jvm.Cond.privateMethod ({ cls := "DlogSolverModel", name := "isPrime", desc := "(I)Z" } : Jvm.MethodName)) ∈ lw_tbl := lw_at lw_m1 195 rfl
theorem q221 : (Jvm.Cond.instanceMethod ({ cls := "DlogSolverModel", name := "isPrime", desc := "(I)Z" } : Jvm.MethodName)) ∈ lw_all := lw_g (lw_at lw_m1 196 rfl) rfl
theorem q222 : (Jvm.Cond.code ({ cls := "DlogSolverModel", name := "isPrime", desc := "(I)Z" } : Jvm.MethodName) prog_3_method_2_code (3 : Nat) (Option.some Jvm.ClassFile.FieldType.boolean)) ∈ lw_all := lw_g (lw_at lw_m1 197 rfl) rfl
theorem q224 : (Jvm.Cond.instanceMethod ({ cls := "DlogSolverModel", name := "modulus", desc := "()I" } : Jvm.MethodName)) ∈ lw_all := lw_g (lw_at lw_m1 199 rfl) rfl
theorem q225 : (Jvm.Cond.selects "DlogSolverModel" ({ cls := "DlogSolverModel", name := "modulus", desc := "()I" } : Jvm.MethodName) ({ cls := "DlogSolverModel", name := "modulus", desc := "()I" } : Jvm.MethodName)) ∈ lw_all := lw_g (lw_at lw_m1 200 rfl) rfl
theorem q226 : (Jvm.Cond.code ({ cls := "DlogSolverModel", name := "modulus", desc := "()I" } : Jvm.MethodName) prog_3_method_5_code (1 : Nat) (Option.some Jvm.ClassFile.FieldType.int)) ∈ lw_all := lw_g (lw_at lw_m1 201 rfl) rfl
theorem q228 : (Jvm.Cond.instanceMethod ({ cls := "DlogSolverModel", name := "nextPrime", desc := "()I" } : Jvm.MethodName)) ∈ lw_all := lw_g (lw_at lw_m1 203 rfl) rfl
theorem q229 : (Jvm.Cond.selects "DlogSolverModel" ({ cls := "DlogSolverModel", name := "nextPrime", desc := "()I" } : Jvm.MethodName) ({ cls := "DlogSolverModel", name := "nextPrime", desc := "()I" } : Jvm.MethodName)) ∈ lw_all := lw_g (lw_at lw_m1 204 rfl) rfl
theorem q230 : (Jvm.Cond.code ({ cls := "DlogSolverModel", name := "nextPrime", desc := "()I" } : Jvm.MethodName) prog_3_method_6_code (2 : Nat) (Option.some Jvm.ClassFile.FieldType.int)) ∈ lw_all := lw_g (lw_at lw_m1 205 rfl) rfl
theorem q232 : (Jvm.Cond.instanceMethod ({ cls := "DlogSolverModel", name := "power", desc := "(II)I" } : Jvm.MethodName)) ∈ lw_all := lw_g (lw_at lw_m1 207 rfl) rfl
theorem q233 : (Jvm.Cond.selects "DlogSolverModel" ({ cls := "DlogSolverModel", name := "power", desc := "(II)I" } : Jvm.MethodName) ({ cls := "DlogSolverModel", name := "power", desc := "(II)I" } : Jvm.MethodName)) ∈ lw_all := lw_g (lw_at lw_m1 208 rfl) rfl
theorem q234 : (Jvm.Cond.code ({ cls := "DlogSolverModel", name := "power", desc := "(II)I" } : Jvm.MethodName) prog_3_method_8_code (3 : Nat) (Option.some Jvm.ClassFile.FieldType.int)) ∈ lw_all := lw_g (lw_at lw_m1 209 rfl) rfl
theorem q235 : (Jvm.Cond.methodLink "DlogSolverModel" (21 : Nat) ({ cls := "DlogSolverModel", name := "isUnit", desc := "(I)Z" } : Jvm.MethodName)) ∈ lw_all := lw_g (lw_at lw_m1 210 rfl) rfl
theorem q236 : (Jvm.Cond.privateMethod ({ cls := "DlogSolverModel", name := "isUnit", desc := "(I)Z" } : Jvm.MethodName)) ∈ lw_tbl := lw_at lw_m1 211 rfl
theorem q237 : (Jvm.Cond.instanceMethod ({ cls := "DlogSolverModel", name := "isUnit", desc := "(I)Z" } : Jvm.MethodName)) ∈ lw_all := lw_g (lw_at lw_m1 212 rfl) rfl
theorem q238 : (Jvm.Cond.code ({ cls := "DlogSolverModel", name := "isUnit", desc := "(I)Z" } : Jvm.MethodName) prog_3_method_3_code (2 : Nat) (Option.some Jvm.ClassFile.FieldType.boolean)) ∈ lw_all := lw_g (lw_at lw_m1 213 rfl) rfl
theorem q239 : (Jvm.Cond.constant "DlogSolverModel" (24 : Nat) (1000000 : Int32)) ∈ lw_all := lw_g (lw_at lw_m1 214 rfl) rfl
theorem q240 : (Jvm.Cond.methodLink "DlogSolverModel" (25 : Nat) ({ cls := "DlogSolverModel", name := "raised", desc := "(II)I" } : Jvm.MethodName)) ∈ lw_all := lw_g (lw_at lw_m1 215 rfl) rfl
theorem q241 : (Jvm.Cond.privateMethod ({ cls := "DlogSolverModel", name := "raised", desc := "(II)I" } : Jvm.MethodName)) ∈ lw_tbl := lw_at lw_m1 216 rfl
theorem q242 : (Jvm.Cond.instanceMethod ({ cls := "DlogSolverModel", name := "raised", desc := "(II)I" } : Jvm.MethodName)) ∈ lw_all := lw_g (lw_at lw_m1 217 rfl) rfl
theorem q243 : (Jvm.Cond.code ({ cls := "DlogSolverModel", name := "raised", desc := "(II)I" } : Jvm.MethodName) prog_3_method_7_code (5 : Nat) (Option.some Jvm.ClassFile.FieldType.int)) ∈ lw_all := lw_g (lw_at lw_m1 218 rfl) rfl
theorem q245 : (Jvm.Cond.instanceMethod ({ cls := "DlogSolverModel", name := "inverse", desc := "(I)I" } : Jvm.MethodName)) ∈ lw_all := lw_g (lw_at lw_m1 220 rfl) rfl
theorem q246 : (Jvm.Cond.selects "DlogSolverModel" ({ cls := "DlogSolverModel", name := "inverse", desc := "(I)I" } : Jvm.MethodName) ({ cls := "DlogSolverModel", name := "inverse", desc := "(I)I" } : Jvm.MethodName)) ∈ lw_all := lw_g (lw_at lw_m1 221 rfl) rfl
theorem q247 : (Jvm.Cond.code ({ cls := "DlogSolverModel", name := "inverse", desc := "(I)I" } : Jvm.MethodName) prog_3_method_9_code (4 : Nat) (Option.some Jvm.ClassFile.FieldType.int)) ∈ lw_all := lw_g (lw_at lw_m1 222 rfl) rfl
theorem q249 : (Jvm.Cond.instanceMethod ({ cls := "DlogSolverModel", name := "order", desc := "(I)I" } : Jvm.MethodName)) ∈ lw_all := lw_g (lw_at lw_m1 224 rfl) rfl
theorem q250 : (Jvm.Cond.selects "DlogSolverModel" ({ cls := "DlogSolverModel", name := "order", desc := "(I)I" } : Jvm.MethodName) ({ cls := "DlogSolverModel", name := "order", desc := "(I)I" } : Jvm.MethodName)) ∈ lw_all := lw_g (lw_at lw_m1 225 rfl) rfl
theorem q251 : (Jvm.Cond.code ({ cls := "DlogSolverModel", name := "order", desc := "(I)I" } : Jvm.MethodName) prog_3_method_11_code (2 : Nat) (Option.some Jvm.ClassFile.FieldType.int)) ∈ lw_all := lw_g (lw_at lw_m1 226 rfl) rfl
theorem q252 : (Jvm.Cond.methodLink "DlogSolverModel" (29 : Nat) ({ cls := "DlogSolverModel", name := "orderOf", desc := "(I)I" } : Jvm.MethodName)) ∈ lw_all := lw_g (lw_at lw_m1 227 rfl) rfl
theorem q253 : (Jvm.Cond.privateMethod ({ cls := "DlogSolverModel", name := "orderOf", desc := "(I)I" } : Jvm.MethodName)) ∈ lw_tbl := lw_at lw_m1 228 rfl
theorem q254 : (Jvm.Cond.instanceMethod ({ cls := "DlogSolverModel", name := "orderOf", desc := "(I)I" } : Jvm.MethodName)) ∈ lw_all := lw_g (lw_at lw_m1 229 rfl) rfl
theorem q255 : (Jvm.Cond.code ({ cls := "DlogSolverModel", name := "orderOf", desc := "(I)I" } : Jvm.MethodName) prog_3_method_10_code (4 : Nat) (Option.some Jvm.ClassFile.FieldType.int)) ∈ lw_all := lw_g (lw_at lw_m1 230 rfl) rfl
theorem q257 : (Jvm.Cond.instanceMethod ({ cls := "DlogSolverModel", name := "generator", desc := "()I" } : Jvm.MethodName)) ∈ lw_all := lw_g (lw_at lw_m1 232 rfl) rfl
theorem q258 : (Jvm.Cond.selects "DlogSolverModel" ({ cls := "DlogSolverModel", name := "generator", desc := "()I" } : Jvm.MethodName) ({ cls := "DlogSolverModel", name := "generator", desc := "()I" } : Jvm.MethodName)) ∈ lw_all := lw_g (lw_at lw_m1 233 rfl) rfl
theorem q259 : (Jvm.Cond.code ({ cls := "DlogSolverModel", name := "generator", desc := "()I" } : Jvm.MethodName) prog_3_method_12_code (1 : Nat) (Option.some Jvm.ClassFile.FieldType.int)) ∈ lw_all := lw_g (lw_at lw_m1 234 rfl) rfl
theorem q260 : (Jvm.Cond.methodLink "DlogSolverModel" (33 : Nat) ({ cls := "DlogSolverModel", name := "unitOfOrder", desc := "(I)I" } : Jvm.MethodName)) ∈ lw_all := lw_g (lw_at lw_m1 235 rfl) rfl
theorem q261 : (Jvm.Cond.instanceMethod ({ cls := "DlogSolverModel", name := "unitOfOrder", desc := "(I)I" } : Jvm.MethodName)) ∈ lw_all := lw_g (lw_at lw_m1 236 rfl) rfl
theorem q262 : (Jvm.Cond.selects "DlogSolverModel" ({ cls := "DlogSolverModel", name := "unitOfOrder", desc := "(I)I" } : Jvm.MethodName) ({ cls := "DlogSolverModel", name := "unitOfOrder", desc := "(I)I" } : Jvm.MethodName)) ∈ lw_all := lw_g (lw_at lw_m1 237 rfl) rfl
theorem q263 : (Jvm.Cond.code ({ cls := "DlogSolverModel", name := "unitOfOrder", desc := "(I)I" } : Jvm.MethodName) prog_3_method_20_code (3 : Nat) (Option.some Jvm.ClassFile.FieldType.int)) ∈ lw_all := lw_g (lw_at lw_m1 238 rfl) rfl
theorem q265 : (Jvm.Cond.instanceMethod ({ cls := "DlogSolverModel", name := "generators", desc := "()I" } : Jvm.MethodName)) ∈ lw_all := lw_g (lw_at lw_m2 0 rfl) rfl
theorem q266 : (Jvm.Cond.selects "DlogSolverModel" ({ cls := "DlogSolverModel", name := "generators", desc := "()I" } : Jvm.MethodName) ({ cls := "DlogSolverModel", name := "generators", desc := "()I" } : Jvm.MethodName)) ∈ lw_all := lw_g (lw_at lw_m2 1 rfl) rfl
theorem q267 : (Jvm.Cond.code ({ cls := "DlogSolverModel", name := "generators", desc := "()I" } : Jvm.MethodName) prog_3_method_13_code (1 : Nat) (Option.some Jvm.ClassFile.FieldType.int)) ∈ lw_all := lw_g (lw_at lw_m2 2 rfl) rfl
theorem q268 : (Jvm.Cond.methodLink "DlogSolverModel" (36 : Nat) ({ cls := "DlogSolverModel", name := "unitsOfOrder", desc := "(I)I" } : Jvm.MethodName)) ∈ lw_all := lw_g (lw_at lw_m2 3 rfl) rfl
theorem q269 : (Jvm.Cond.instanceMethod ({ cls := "DlogSolverModel", name := "unitsOfOrder", desc := "(I)I" } : Jvm.MethodName)) ∈ lw_all := lw_g (lw_at lw_m2 4 rfl) rfl
theorem q270 : (Jvm.Cond.selects "DlogSolverModel" ({ cls := "DlogSolverModel", name := "unitsOfOrder", desc := "(I)I" } : Jvm.MethodName) ({ cls := "DlogSolverModel", name := "unitsOfOrder", desc := "(I)I" } : Jvm.MethodName)) ∈ lw_all := lw_g (lw_at lw_m2 5 rfl) rfl
theorem q271 : (Jvm.Cond.code ({ cls := "DlogSolverModel", name := "unitsOfOrder", desc := "(I)I" } : Jvm.MethodName) prog_3_method_21_code (4 : Nat) (Option.some Jvm.ClassFile.FieldType.int)) ∈ lw_all := lw_g (lw_at lw_m2 6 rfl) rfl
theorem q273 : (Jvm.Cond.instanceMethod ({ cls := "DlogSolverModel", name := "log", desc := "(II)I" } : Jvm.MethodName)) ∈ lw_all := lw_g (lw_at lw_m2 8 rfl) rfl
theorem q274 : (Jvm.Cond.selects "DlogSolverModel" ({ cls := "DlogSolverModel", name := "log", desc := "(II)I" } : Jvm.MethodName) ({ cls := "DlogSolverModel", name := "log", desc := "(II)I" } : Jvm.MethodName)) ∈ lw_all := lw_g (lw_at lw_m2 9 rfl) rfl
theorem q275 : (Jvm.Cond.code ({ cls := "DlogSolverModel", name := "log", desc := "(II)I" } : Jvm.MethodName) prog_3_method_14_code (5 : Nat) (Option.some Jvm.ClassFile.FieldType.int)) ∈ lw_all := lw_g (lw_at lw_m2 10 rfl) rfl
theorem q277 : (Jvm.Cond.instanceMethod ({ cls := "DlogSolverModel", name := "root", desc := "(II)I" } : Jvm.MethodName)) ∈ lw_all := lw_g (lw_at lw_m2 12 rfl) rfl
theorem q278 : (Jvm.Cond.selects "DlogSolverModel" ({ cls := "DlogSolverModel", name := "root", desc := "(II)I" } : Jvm.MethodName) ({ cls := "DlogSolverModel", name := "root", desc := "(II)I" } : Jvm.MethodName)) ∈ lw_all := lw_g (lw_at lw_m2 13 rfl) rfl
theorem q279 : (Jvm.Cond.code ({ cls := "DlogSolverModel", name := "root", desc := "(II)I" } : Jvm.MethodName) prog_3_method_16_code (4 : Nat) (Option.some Jvm.ClassFile.FieldType.int)) ∈ lw_all := lw_g (lw_at lw_m2 14 rfl) rfl
theorem q280 : (Jvm.Cond.methodLink "DlogSolverModel" (39 : Nat) ({ cls := "DlogSolverModel", name := "isExponent", desc := "(I)Z" } : Jvm.MethodName)) ∈ lw_all := lw_g (lw_at lw_m2 15 rfl) rfl
theorem q281 : (Jvm.Cond.privateMethod ({ cls := "DlogSolverModel", name := "isExponent", desc := "(I)Z" } : Jvm.MethodName)) ∈ lw_tbl := lw_at lw_m2 16 rfl
theorem q282 : (Jvm.Cond.instanceMethod ({ cls := "DlogSolverModel", name := "isExponent", desc := "(I)Z" } : Jvm.MethodName)) ∈ lw_all := lw_g (lw_at lw_m2 17 rfl) rfl
theorem q283 : (Jvm.Cond.code ({ cls := "DlogSolverModel", name := "isExponent", desc := "(I)Z" } : Jvm.MethodName) prog_3_method_15_code (2 : Nat) (Option.some Jvm.ClassFile.FieldType.boolean)) ∈ lw_all := lw_g (lw_at lw_m2 18 rfl) rfl
theorem q285 : (Jvm.Cond.instanceMethod ({ cls := "DlogSolverModel", name := "roots", desc := "(II)I" } : Jvm.MethodName)) ∈ lw_all := lw_g (lw_at lw_m2 20 rfl) rfl
theorem q286 : (Jvm.Cond.selects "DlogSolverModel" ({ cls := "DlogSolverModel", name := "roots", desc := "(II)I" } : Jvm.MethodName) ({ cls := "DlogSolverModel", name := "roots", desc := "(II)I" } : Jvm.MethodName)) ∈ lw_all := lw_g (lw_at lw_m2 21 rfl) rfl
theorem q287 : (Jvm.Cond.code ({ cls := "DlogSolverModel", name := "roots", desc := "(II)I" } : Jvm.MethodName) prog_3_method_17_code (5 : Nat) (Option.some Jvm.ClassFile.FieldType.int)) ∈ lw_all := lw_g (lw_at lw_m2 22 rfl) rfl
theorem q289 : (Jvm.Cond.instanceMethod ({ cls := "DlogSolverModel", name := "logWith", desc := "(IIII)I" } : Jvm.MethodName)) ∈ lw_all := lw_g (lw_at lw_m2 24 rfl) rfl
theorem q290 : (Jvm.Cond.selects "DlogSolverModel" ({ cls := "DlogSolverModel", name := "logWith", desc := "(IIII)I" } : Jvm.MethodName) ({ cls := "DlogSolverModel", name := "logWith", desc := "(IIII)I" } : Jvm.MethodName)) ∈ lw_all := lw_g (lw_at lw_m2 25 rfl) rfl
theorem q291 : (Jvm.Cond.code ({ cls := "DlogSolverModel", name := "logWith", desc := "(IIII)I" } : Jvm.MethodName) prog_3_method_18_code (7 : Nat) (Option.some Jvm.ClassFile.FieldType.int)) ∈ lw_all := lw_g (lw_at lw_m2 26 rfl) rfl
theorem q293 : (Jvm.Cond.instanceMethod ({ cls := "DlogSolverModel", name := "common", desc := "(II)I" } : Jvm.MethodName)) ∈ lw_all := lw_g (lw_at lw_m2 28 rfl) rfl
theorem q294 : (Jvm.Cond.selects "DlogSolverModel" ({ cls := "DlogSolverModel", name := "common", desc := "(II)I" } : Jvm.MethodName) ({ cls := "DlogSolverModel", name := "common", desc := "(II)I" } : Jvm.MethodName)) ∈ lw_all := lw_g (lw_at lw_m2 29 rfl) rfl
theorem q295 : (Jvm.Cond.code ({ cls := "DlogSolverModel", name := "common", desc := "(II)I" } : Jvm.MethodName) prog_3_method_19_code (7 : Nat) (Option.some Jvm.ClassFile.FieldType.int)) ∈ lw_all := lw_g (lw_at lw_m2 30 rfl) rfl
theorem in_X1 : ∀ w ∈ wsX10, w ∈ lw_all := lw_in wsX10 [209, 211] (by decide +kernel) (by decide +kernel)
end
section
set_option maxRecDepth 100000
theorem q25 : (Jvm.Cond.initialized "DlogSolverLaw") ∈ lw_all := lw_g (lw_at lw_m1 0 rfl) rfl
theorem q28 : (Jvm.Cond.classLink "DlogSolverLaw" (7 : Nat) "DlogSolver") ∈ lw_all := lw_g (lw_at lw_m1 3 rfl) rfl
theorem q30 : (Jvm.Cond.methodLink "DlogSolverLaw" (9 : Nat) ({ cls := "DlogSolver", name := "<init>", desc := "()V" } : Jvm.MethodName)) ∈ lw_all := lw_g (lw_at lw_m1 5 rfl) rfl
theorem q63 : (Jvm.Cond.methodLink "DlogSolverLaw" (13 : Nat) ({ cls := "DlogSolver", name := "prime", desc := "(I)I" } : Jvm.MethodName)) ∈ lw_all := lw_g (lw_at lw_m1 38 rfl) rfl
theorem q71 : (Jvm.Cond.methodLink "DlogSolverLaw" (18 : Nat) ({ cls := "DlogSolver", name := "modulus", desc := "()I" } : Jvm.MethodName)) ∈ lw_all := lw_g (lw_at lw_m1 46 rfl) rfl
theorem q75 : (Jvm.Cond.methodLink "DlogSolverLaw" (23 : Nat) ({ cls := "DlogSolver", name := "nextPrime", desc := "()I" } : Jvm.MethodName)) ∈ lw_all := lw_g (lw_at lw_m1 50 rfl) rfl
theorem q79 : (Jvm.Cond.methodLink "DlogSolverLaw" (27 : Nat) ({ cls := "DlogSolver", name := "power", desc := "(II)I" } : Jvm.MethodName)) ∈ lw_all := lw_g (lw_at lw_m1 54 rfl) rfl
theorem q96 : (Jvm.Cond.methodLink "DlogSolverLaw" (32 : Nat) ({ cls := "DlogSolver", name := "inverse", desc := "(I)I" } : Jvm.MethodName)) ∈ lw_all := lw_g (lw_at lw_m1 71 rfl) rfl
theorem q104 : (Jvm.Cond.methodLink "DlogSolverLaw" (36 : Nat) ({ cls := "DlogSolver", name := "order", desc := "(I)I" } : Jvm.MethodName)) ∈ lw_all := lw_g (lw_at lw_m1 79 rfl) rfl
theorem q112 : (Jvm.Cond.methodLink "DlogSolverLaw" (40 : Nat) ({ cls := "DlogSolver", name := "generator", desc := "()I" } : Jvm.MethodName)) ∈ lw_all := lw_g (lw_at lw_m1 87 rfl) rfl
theorem q120 : (Jvm.Cond.methodLink "DlogSolverLaw" (44 : Nat) ({ cls := "DlogSolver", name := "generators", desc := "()I" } : Jvm.MethodName)) ∈ lw_all := lw_g (lw_at lw_m1 95 rfl) rfl
theorem q128 : (Jvm.Cond.methodLink "DlogSolverLaw" (48 : Nat) ({ cls := "DlogSolver", name := "log", desc := "(II)I" } : Jvm.MethodName)) ∈ lw_all := lw_g (lw_at lw_m1 103 rfl) rfl
theorem q168 : (Jvm.Cond.methodLink "DlogSolverLaw" (52 : Nat) ({ cls := "DlogSolver", name := "root", desc := "(II)I" } : Jvm.MethodName)) ∈ lw_all := lw_g (lw_at lw_m1 143 rfl) rfl
theorem q181 : (Jvm.Cond.methodLink "DlogSolverLaw" (56 : Nat) ({ cls := "DlogSolver", name := "roots", desc := "(II)I" } : Jvm.MethodName)) ∈ lw_all := lw_g (lw_at lw_m1 156 rfl) rfl
theorem q185 : (Jvm.Cond.methodLink "DlogSolverLaw" (60 : Nat) ({ cls := "DlogSolver", name := "logWith", desc := "(IIII)I" } : Jvm.MethodName)) ∈ lw_all := lw_g (lw_at lw_m1 160 rfl) rfl
theorem q189 : (Jvm.Cond.methodLink "DlogSolverLaw" (65 : Nat) ({ cls := "DlogSolver", name := "common", desc := "(II)I" } : Jvm.MethodName)) ∈ lw_all := lw_g (lw_at lw_m1 164 rfl) rfl
theorem q193 : (Jvm.Cond.methodLink "DlogSolverLaw" (69 : Nat) ({ cls := "DlogSolver", name := "unitOfOrder", desc := "(I)I" } : Jvm.MethodName)) ∈ lw_all := lw_g (lw_at lw_m1 168 rfl) rfl
theorem q197 : (Jvm.Cond.methodLink "DlogSolverLaw" (73 : Nat) ({ cls := "DlogSolver", name := "unitsOfOrder", desc := "(I)I" } : Jvm.MethodName)) ∈ lw_all := lw_g (lw_at lw_m1 172 rfl) rfl
theorem q201 : (Jvm.Cond.classLink "DlogSolverLaw" (10 : Nat) "DlogSolverModel") ∈ lw_all := lw_g (lw_at lw_m1 176 rfl) rfl
theorem q203 : (Jvm.Cond.methodLink "DlogSolverLaw" (12 : Nat) ({ cls := "DlogSolverModel", name := "<init>", desc := "()V" } : Jvm.MethodName)) ∈ lw_all := lw_g (lw_at lw_m1 178 rfl) rfl
theorem q215 : (Jvm.Cond.methodLink "DlogSolverLaw" (17 : Nat) ({ cls := "DlogSolverModel", name := "prime", desc := "(I)I" } : Jvm.MethodName)) ∈ lw_all := lw_g (lw_at lw_m1 190 rfl) rfl
theorem q223 : (Jvm.Cond.methodLink "DlogSolverLaw" (22 : Nat) ({ cls := "DlogSolverModel", name := "modulus", desc := "()I" } : Jvm.MethodName)) ∈ lw_all := lw_g (lw_at lw_m1 198 rfl) rfl
theorem q227 : (Jvm.Cond.methodLink "DlogSolverLaw" (26 : Nat) ({ cls := "DlogSolverModel", name := "nextPrime", desc := "()I" } : Jvm.MethodName)) ∈ lw_all := lw_g (lw_at lw_m1 202 rfl) rfl
theorem q231 : (Jvm.Cond.methodLink "DlogSolverLaw" (31 : Nat) ({ cls := "DlogSolverModel", name := "power", desc := "(II)I" } : Jvm.MethodName)) ∈ lw_all := lw_g (lw_at lw_m1 206 rfl) rfl
theorem q244 : (Jvm.Cond.methodLink "DlogSolverLaw" (35 : Nat) ({ cls := "DlogSolverModel", name := "inverse", desc := "(I)I" } : Jvm.MethodName)) ∈ lw_all := lw_g (lw_at lw_m1 219 rfl) rfl
theorem q248 : (Jvm.Cond.methodLink "DlogSolverLaw" (39 : Nat) ({ cls := "DlogSolverModel", name := "order", desc := "(I)I" } : Jvm.MethodName)) ∈ lw_all := lw_g (lw_at lw_m1 223 rfl) rfl
theorem q256 : (Jvm.Cond.methodLink "DlogSolverLaw" (43 : Nat) ({ cls := "DlogSolverModel", name := "generator", desc := "()I" } : Jvm.MethodName)) ∈ lw_all := lw_g (lw_at lw_m1 231 rfl) rfl
theorem q264 : (Jvm.Cond.methodLink "DlogSolverLaw" (47 : Nat) ({ cls := "DlogSolverModel", name := "generators", desc := "()I" } : Jvm.MethodName)) ∈ lw_all := lw_g (lw_at lw_m1 239 rfl) rfl
theorem q272 : (Jvm.Cond.methodLink "DlogSolverLaw" (51 : Nat) ({ cls := "DlogSolverModel", name := "log", desc := "(II)I" } : Jvm.MethodName)) ∈ lw_all := lw_g (lw_at lw_m2 7 rfl) rfl
theorem q276 : (Jvm.Cond.methodLink "DlogSolverLaw" (55 : Nat) ({ cls := "DlogSolverModel", name := "root", desc := "(II)I" } : Jvm.MethodName)) ∈ lw_all := lw_g (lw_at lw_m2 11 rfl) rfl
theorem q284 : (Jvm.Cond.methodLink "DlogSolverLaw" (59 : Nat) ({ cls := "DlogSolverModel", name := "roots", desc := "(II)I" } : Jvm.MethodName)) ∈ lw_all := lw_g (lw_at lw_m2 19 rfl) rfl
theorem q288 : (Jvm.Cond.methodLink "DlogSolverLaw" (64 : Nat) ({ cls := "DlogSolverModel", name := "logWith", desc := "(IIII)I" } : Jvm.MethodName)) ∈ lw_all := lw_g (lw_at lw_m2 23 rfl) rfl
theorem q292 : (Jvm.Cond.methodLink "DlogSolverLaw" (68 : Nat) ({ cls := "DlogSolverModel", name := "common", desc := "(II)I" } : Jvm.MethodName)) ∈ lw_all := lw_g (lw_at lw_m2 27 rfl) rfl
theorem q296 : (Jvm.Cond.methodLink "DlogSolverLaw" (72 : Nat) ({ cls := "DlogSolverModel", name := "unitOfOrder", desc := "(I)I" } : Jvm.MethodName)) ∈ lw_all := lw_g (lw_at lw_m2 31 rfl) rfl
theorem q297 : (Jvm.Cond.methodLink "DlogSolverLaw" (76 : Nat) ({ cls := "DlogSolverModel", name := "unitsOfOrder", desc := "(I)I" } : Jvm.MethodName)) ∈ lw_all := lw_g (lw_at lw_m2 32 rfl) rfl
/-! the law's own entry -/
abbrev cL_law : ByteArray := code
theorem dL_law_0 : decode cL_law 0 = .ok (.new 7, 3) := by decide +kernel
theorem dL_law_3 : decode cL_law 3 = .ok (.dup, 1) := by decide +kernel
theorem dL_law_4 : decode cL_law 4 = .ok (.invokespecial 9, 3) := by decide +kernel
theorem dL_law_7 : decode cL_law 7 = .ok (.astore_n 1, 1) := by decide +kernel
theorem dL_law_8 : decode cL_law 8 = .ok (.new 10, 3) := by decide +kernel
theorem dL_law_11 : decode cL_law 11 = .ok (.dup, 1) := by decide +kernel
theorem dL_law_12 : decode cL_law 12 = .ok (.invokespecial 12, 3) := by decide +kernel
theorem dL_law_15 : decode cL_law 15 = .ok (.astore_n 2, 1) := by decide +kernel
theorem dL_law_16 : decode cL_law 16 = .ok (.iconst 0, 1) := by decide +kernel
theorem dL_law_17 : decode cL_law 17 = .ok (.istore_n 3, 1) := by decide +kernel
theorem dL_law_18 : decode cL_law 18 = .ok (.iload_n 3, 1) := by decide +kernel
theorem dL_law_19 : decode cL_law 19 = .ok (.aload_n 0, 1) := by decide +kernel
theorem dL_law_20 : decode cL_law 20 = .ok (.arraylength, 1) := by decide +kernel
theorem dL_law_21 : decode cL_law 21 = .ok (.iconst 5, 1) := by decide +kernel
theorem dL_law_22 : decode cL_law 22 = .ok (.isub, 1) := by decide +kernel
theorem dL_law_23 : decode cL_law 23 = .ok (.if_icmp .gt 476, 3) := by decide +kernel
theorem dL_law_26 : decode cL_law 26 = .ok (.aload_n 0, 1) := by decide +kernel
theorem dL_law_27 : decode cL_law 27 = .ok (.iload_n 3, 1) := by decide +kernel
theorem dL_law_28 : decode cL_law 28 = .ok (.iaload, 1) := by decide +kernel
theorem dL_law_29 : decode cL_law 29 = .ok (.bipush 15, 2) := by decide +kernel
theorem dL_law_31 : decode cL_law 31 = .ok (.iand, 1) := by decide +kernel
theorem dL_law_32 : decode cL_law 32 = .ok (.tableswitch 461 0 14 #[76, 99, 112, 125, 158, 181, 204, 217, 230, 263, 296, 329, 382, 415, 438], 76) := by decide +kernel
theorem dL_law_108 : decode cL_law 108 = .ok (.aload_n 1, 1) := by decide +kernel
theorem dL_law_109 : decode cL_law 109 = .ok (.aload_n 0, 1) := by decide +kernel
theorem dL_law_110 : decode cL_law 110 = .ok (.iload_n 3, 1) := by decide +kernel
theorem dL_law_111 : decode cL_law 111 = .ok (.iconst 1, 1) := by decide +kernel
theorem dL_law_112 : decode cL_law 112 = .ok (.iadd, 1) := by decide +kernel
theorem dL_law_113 : decode cL_law 113 = .ok (.iaload, 1) := by decide +kernel
theorem dL_law_114 : decode cL_law 114 = .ok (.invokevirtual 13, 3) := by decide +kernel
theorem dL_law_117 : decode cL_law 117 = .ok (.aload_n 2, 1) := by decide +kernel
theorem dL_law_118 : decode cL_law 118 = .ok (.aload_n 0, 1) := by decide +kernel
theorem dL_law_119 : decode cL_law 119 = .ok (.iload_n 3, 1) := by decide +kernel
theorem dL_law_120 : decode cL_law 120 = .ok (.iconst 1, 1) := by decide +kernel
theorem dL_law_121 : decode cL_law 121 = .ok (.iadd, 1) := by decide +kernel
theorem dL_law_122 : decode cL_law 122 = .ok (.iaload, 1) := by decide +kernel
theorem dL_law_123 : decode cL_law 123 = .ok (.invokevirtual 17, 3) := by decide +kernel
theorem dL_law_126 : decode cL_law 126 = .ok (.if_icmp .eq 367, 3) := by decide +kernel
theorem dL_law_129 : decode cL_law 129 = .ok (.iconst 0, 1) := by decide +kernel
theorem dL_law_130 : decode cL_law 130 = .ok (.ireturn, 1) := by decide +kernel
theorem dL_law_131 : decode cL_law 131 = .ok (.aload_n 1, 1) := by decide +kernel
theorem dL_law_132 : decode cL_law 132 = .ok (.invokevirtual 18, 3) := by decide +kernel
theorem dL_law_135 : decode cL_law 135 = .ok (.aload_n 2, 1) := by decide +kernel
theorem dL_law_136 : decode cL_law 136 = .ok (.invokevirtual 22, 3) := by decide +kernel
theorem dL_law_139 : decode cL_law 139 = .ok (.if_icmp .eq 354, 3) := by decide +kernel
theorem dL_law_142 : decode cL_law 142 = .ok (.iconst 0, 1) := by decide +kernel
theorem dL_law_143 : decode cL_law 143 = .ok (.ireturn, 1) := by decide +kernel
theorem dL_law_144 : decode cL_law 144 = .ok (.aload_n 1, 1) := by decide +kernel
theorem dL_law_145 : decode cL_law 145 = .ok (.invokevirtual 23, 3) := by decide +kernel
theorem dL_law_148 : decode cL_law 148 = .ok (.aload_n 2, 1) := by decide +kernel
theorem dL_law_149 : decode cL_law 149 = .ok (.invokevirtual 26, 3) := by decide +kernel
theorem dL_law_152 : decode cL_law 152 = .ok (.if_icmp .eq 341, 3) := by decide +kernel
theorem dL_law_155 : decode cL_law 155 = .ok (.iconst 0, 1) := by decide +kernel
theorem dL_law_156 : decode cL_law 156 = .ok (.ireturn, 1) := by decide +kernel
theorem dL_law_157 : decode cL_law 157 = .ok (.aload_n 1, 1) := by decide +kernel
theorem dL_law_158 : decode cL_law 158 = .ok (.aload_n 0, 1) := by decide +kernel
theorem dL_law_159 : decode cL_law 159 = .ok (.iload_n 3, 1) := by decide +kernel
theorem dL_law_160 : decode cL_law 160 = .ok (.iconst 1, 1) := by decide +kernel
theorem dL_law_161 : decode cL_law 161 = .ok (.iadd, 1) := by decide +kernel
theorem dL_law_162 : decode cL_law 162 = .ok (.iaload, 1) := by decide +kernel
theorem dL_law_163 : decode cL_law 163 = .ok (.aload_n 0, 1) := by decide +kernel
theorem dL_law_164 : decode cL_law 164 = .ok (.iload_n 3, 1) := by decide +kernel
theorem dL_law_165 : decode cL_law 165 = .ok (.iconst 2, 1) := by decide +kernel
theorem dL_law_166 : decode cL_law 166 = .ok (.iadd, 1) := by decide +kernel
theorem dL_law_167 : decode cL_law 167 = .ok (.iaload, 1) := by decide +kernel
theorem dL_law_168 : decode cL_law 168 = .ok (.invokevirtual 27, 3) := by decide +kernel
theorem dL_law_171 : decode cL_law 171 = .ok (.aload_n 2, 1) := by decide +kernel
theorem dL_law_172 : decode cL_law 172 = .ok (.aload_n 0, 1) := by decide +kernel
theorem dL_law_173 : decode cL_law 173 = .ok (.iload_n 3, 1) := by decide +kernel
theorem dL_law_174 : decode cL_law 174 = .ok (.iconst 1, 1) := by decide +kernel
theorem dL_law_175 : decode cL_law 175 = .ok (.iadd, 1) := by decide +kernel
theorem dL_law_176 : decode cL_law 176 = .ok (.iaload, 1) := by decide +kernel
theorem dL_law_177 : decode cL_law 177 = .ok (.aload_n 0, 1) := by decide +kernel
theorem dL_law_178 : decode cL_law 178 = .ok (.iload_n 3, 1) := by decide +kernel
theorem dL_law_179 : decode cL_law 179 = .ok (.iconst 2, 1) := by decide +kernel
theorem dL_law_180 : decode cL_law 180 = .ok (.iadd, 1) := by decide +kernel
theorem dL_law_181 : decode cL_law 181 = .ok (.iaload, 1) := by decide +kernel
theorem dL_law_182 : decode cL_law 182 = .ok (.invokevirtual 31, 3) := by decide +kernel
theorem dL_law_185 : decode cL_law 185 = .ok (.if_icmp .eq 308, 3) := by decide +kernel
theorem dL_law_188 : decode cL_law 188 = .ok (.iconst 0, 1) := by decide +kernel
theorem dL_law_189 : decode cL_law 189 = .ok (.ireturn, 1) := by decide +kernel
theorem dL_law_190 : decode cL_law 190 = .ok (.aload_n 1, 1) := by decide +kernel
theorem dL_law_191 : decode cL_law 191 = .ok (.aload_n 0, 1) := by decide +kernel
theorem dL_law_192 : decode cL_law 192 = .ok (.iload_n 3, 1) := by decide +kernel
theorem dL_law_193 : decode cL_law 193 = .ok (.iconst 1, 1) := by decide +kernel
theorem dL_law_194 : decode cL_law 194 = .ok (.iadd, 1) := by decide +kernel
theorem dL_law_195 : decode cL_law 195 = .ok (.iaload, 1) := by decide +kernel
theorem dL_law_196 : decode cL_law 196 = .ok (.invokevirtual 32, 3) := by decide +kernel
theorem dL_law_199 : decode cL_law 199 = .ok (.aload_n 2, 1) := by decide +kernel
theorem dL_law_200 : decode cL_law 200 = .ok (.aload_n 0, 1) := by decide +kernel
theorem dL_law_201 : decode cL_law 201 = .ok (.iload_n 3, 1) := by decide +kernel
theorem dL_law_202 : decode cL_law 202 = .ok (.iconst 1, 1) := by decide +kernel
theorem dL_law_203 : decode cL_law 203 = .ok (.iadd, 1) := by decide +kernel
theorem dL_law_204 : decode cL_law 204 = .ok (.iaload, 1) := by decide +kernel
theorem dL_law_205 : decode cL_law 205 = .ok (.invokevirtual 35, 3) := by decide +kernel
theorem dL_law_208 : decode cL_law 208 = .ok (.if_icmp .eq 285, 3) := by decide +kernel
theorem dL_law_211 : decode cL_law 211 = .ok (.iconst 0, 1) := by decide +kernel
theorem dL_law_212 : decode cL_law 212 = .ok (.ireturn, 1) := by decide +kernel
theorem dL_law_213 : decode cL_law 213 = .ok (.aload_n 1, 1) := by decide +kernel
theorem dL_law_214 : decode cL_law 214 = .ok (.aload_n 0, 1) := by decide +kernel
theorem dL_law_215 : decode cL_law 215 = .ok (.iload_n 3, 1) := by decide +kernel
theorem dL_law_216 : decode cL_law 216 = .ok (.iconst 1, 1) := by decide +kernel
theorem dL_law_217 : decode cL_law 217 = .ok (.iadd, 1) := by decide +kernel
theorem dL_law_218 : decode cL_law 218 = .ok (.iaload, 1) := by decide +kernel
theorem dL_law_219 : decode cL_law 219 = .ok (.invokevirtual 36, 3) := by decide +kernel
theorem dL_law_222 : decode cL_law 222 = .ok (.aload_n 2, 1) := by decide +kernel
theorem dL_law_223 : decode cL_law 223 = .ok (.aload_n 0, 1) := by decide +kernel
theorem dL_law_224 : decode cL_law 224 = .ok (.iload_n 3, 1) := by decide +kernel
theorem dL_law_225 : decode cL_law 225 = .ok (.iconst 1, 1) := by decide +kernel
theorem dL_law_226 : decode cL_law 226 = .ok (.iadd, 1) := by decide +kernel
theorem dL_law_227 : decode cL_law 227 = .ok (.iaload, 1) := by decide +kernel
theorem dL_law_228 : decode cL_law 228 = .ok (.invokevirtual 39, 3) := by decide +kernel
theorem dL_law_231 : decode cL_law 231 = .ok (.if_icmp .eq 262, 3) := by decide +kernel
theorem dL_law_234 : decode cL_law 234 = .ok (.iconst 0, 1) := by decide +kernel
theorem dL_law_235 : decode cL_law 235 = .ok (.ireturn, 1) := by decide +kernel
theorem dL_law_236 : decode cL_law 236 = .ok (.aload_n 1, 1) := by decide +kernel
theorem dL_law_237 : decode cL_law 237 = .ok (.invokevirtual 40, 3) := by decide +kernel
theorem dL_law_240 : decode cL_law 240 = .ok (.aload_n 2, 1) := by decide +kernel
theorem dL_law_241 : decode cL_law 241 = .ok (.invokevirtual 43, 3) := by decide +kernel
theorem dL_law_244 : decode cL_law 244 = .ok (.if_icmp .eq 249, 3) := by decide +kernel
theorem dL_law_247 : decode cL_law 247 = .ok (.iconst 0, 1) := by decide +kernel
theorem dL_law_248 : decode cL_law 248 = .ok (.ireturn, 1) := by decide +kernel
theorem dL_law_249 : decode cL_law 249 = .ok (.aload_n 1, 1) := by decide +kernel
theorem dL_law_250 : decode cL_law 250 = .ok (.invokevirtual 44, 3) := by decide +kernel
theorem dL_law_253 : decode cL_law 253 = .ok (.aload_n 2, 1) := by decide +kernel
theorem dL_law_254 : decode cL_law 254 = .ok (.invokevirtual 47, 3) := by decide +kernel
theorem dL_law_257 : decode cL_law 257 = .ok (.if_icmp .eq 236, 3) := by decide +kernel
theorem dL_law_260 : decode cL_law 260 = .ok (.iconst 0, 1) := by decide +kernel
theorem dL_law_261 : decode cL_law 261 = .ok (.ireturn, 1) := by decide +kernel
theorem dL_law_262 : decode cL_law 262 = .ok (.aload_n 1, 1) := by decide +kernel
theorem dL_law_263 : decode cL_law 263 = .ok (.aload_n 0, 1) := by decide +kernel
theorem dL_law_264 : decode cL_law 264 = .ok (.iload_n 3, 1) := by decide +kernel
theorem dL_law_265 : decode cL_law 265 = .ok (.iconst 1, 1) := by decide +kernel
theorem dL_law_266 : decode cL_law 266 = .ok (.iadd, 1) := by decide +kernel
theorem dL_law_267 : decode cL_law 267 = .ok (.iaload, 1) := by decide +kernel
theorem dL_law_268 : decode cL_law 268 = .ok (.aload_n 0, 1) := by decide +kernel
theorem dL_law_269 : decode cL_law 269 = .ok (.iload_n 3, 1) := by decide +kernel
theorem dL_law_270 : decode cL_law 270 = .ok (.iconst 2, 1) := by decide +kernel
theorem dL_law_271 : decode cL_law 271 = .ok (.iadd, 1) := by decide +kernel
theorem dL_law_272 : decode cL_law 272 = .ok (.iaload, 1) := by decide +kernel
theorem dL_law_273 : decode cL_law 273 = .ok (.invokevirtual 48, 3) := by decide +kernel
theorem dL_law_276 : decode cL_law 276 = .ok (.aload_n 2, 1) := by decide +kernel
theorem dL_law_277 : decode cL_law 277 = .ok (.aload_n 0, 1) := by decide +kernel
theorem dL_law_278 : decode cL_law 278 = .ok (.iload_n 3, 1) := by decide +kernel
theorem dL_law_279 : decode cL_law 279 = .ok (.iconst 1, 1) := by decide +kernel
theorem dL_law_280 : decode cL_law 280 = .ok (.iadd, 1) := by decide +kernel
theorem dL_law_281 : decode cL_law 281 = .ok (.iaload, 1) := by decide +kernel
theorem dL_law_282 : decode cL_law 282 = .ok (.aload_n 0, 1) := by decide +kernel
theorem dL_law_283 : decode cL_law 283 = .ok (.iload_n 3, 1) := by decide +kernel
theorem dL_law_284 : decode cL_law 284 = .ok (.iconst 2, 1) := by decide +kernel
theorem dL_law_285 : decode cL_law 285 = .ok (.iadd, 1) := by decide +kernel
theorem dL_law_286 : decode cL_law 286 = .ok (.iaload, 1) := by decide +kernel
theorem dL_law_287 : decode cL_law 287 = .ok (.invokevirtual 51, 3) := by decide +kernel
theorem dL_law_290 : decode cL_law 290 = .ok (.if_icmp .eq 203, 3) := by decide +kernel
theorem dL_law_293 : decode cL_law 293 = .ok (.iconst 0, 1) := by decide +kernel
theorem dL_law_294 : decode cL_law 294 = .ok (.ireturn, 1) := by decide +kernel
theorem dL_law_295 : decode cL_law 295 = .ok (.aload_n 1, 1) := by decide +kernel
theorem dL_law_296 : decode cL_law 296 = .ok (.aload_n 0, 1) := by decide +kernel
theorem dL_law_297 : decode cL_law 297 = .ok (.iload_n 3, 1) := by decide +kernel
theorem dL_law_298 : decode cL_law 298 = .ok (.iconst 1, 1) := by decide +kernel
theorem dL_law_299 : decode cL_law 299 = .ok (.iadd, 1) := by decide +kernel
theorem dL_law_300 : decode cL_law 300 = .ok (.iaload, 1) := by decide +kernel
theorem dL_law_301 : decode cL_law 301 = .ok (.aload_n 0, 1) := by decide +kernel
theorem dL_law_302 : decode cL_law 302 = .ok (.iload_n 3, 1) := by decide +kernel
theorem dL_law_303 : decode cL_law 303 = .ok (.iconst 2, 1) := by decide +kernel
theorem dL_law_304 : decode cL_law 304 = .ok (.iadd, 1) := by decide +kernel
theorem dL_law_305 : decode cL_law 305 = .ok (.iaload, 1) := by decide +kernel
theorem dL_law_306 : decode cL_law 306 = .ok (.invokevirtual 52, 3) := by decide +kernel
theorem dL_law_309 : decode cL_law 309 = .ok (.aload_n 2, 1) := by decide +kernel
theorem dL_law_310 : decode cL_law 310 = .ok (.aload_n 0, 1) := by decide +kernel
theorem dL_law_311 : decode cL_law 311 = .ok (.iload_n 3, 1) := by decide +kernel
theorem dL_law_312 : decode cL_law 312 = .ok (.iconst 1, 1) := by decide +kernel
theorem dL_law_313 : decode cL_law 313 = .ok (.iadd, 1) := by decide +kernel
theorem dL_law_314 : decode cL_law 314 = .ok (.iaload, 1) := by decide +kernel
theorem dL_law_315 : decode cL_law 315 = .ok (.aload_n 0, 1) := by decide +kernel
theorem dL_law_316 : decode cL_law 316 = .ok (.iload_n 3, 1) := by decide +kernel
theorem dL_law_317 : decode cL_law 317 = .ok (.iconst 2, 1) := by decide +kernel
theorem dL_law_318 : decode cL_law 318 = .ok (.iadd, 1) := by decide +kernel
theorem dL_law_319 : decode cL_law 319 = .ok (.iaload, 1) := by decide +kernel
theorem dL_law_320 : decode cL_law 320 = .ok (.invokevirtual 55, 3) := by decide +kernel
theorem dL_law_323 : decode cL_law 323 = .ok (.if_icmp .eq 170, 3) := by decide +kernel
theorem dL_law_326 : decode cL_law 326 = .ok (.iconst 0, 1) := by decide +kernel
theorem dL_law_327 : decode cL_law 327 = .ok (.ireturn, 1) := by decide +kernel
theorem dL_law_328 : decode cL_law 328 = .ok (.aload_n 1, 1) := by decide +kernel
theorem dL_law_329 : decode cL_law 329 = .ok (.aload_n 0, 1) := by decide +kernel
theorem dL_law_330 : decode cL_law 330 = .ok (.iload_n 3, 1) := by decide +kernel
theorem dL_law_331 : decode cL_law 331 = .ok (.iconst 1, 1) := by decide +kernel
theorem dL_law_332 : decode cL_law 332 = .ok (.iadd, 1) := by decide +kernel
theorem dL_law_333 : decode cL_law 333 = .ok (.iaload, 1) := by decide +kernel
theorem dL_law_334 : decode cL_law 334 = .ok (.aload_n 0, 1) := by decide +kernel
theorem dL_law_335 : decode cL_law 335 = .ok (.iload_n 3, 1) := by decide +kernel
theorem dL_law_336 : decode cL_law 336 = .ok (.iconst 2, 1) := by decide +kernel
theorem dL_law_337 : decode cL_law 337 = .ok (.iadd, 1) := by decide +kernel
theorem dL_law_338 : decode cL_law 338 = .ok (.iaload, 1) := by decide +kernel
theorem dL_law_339 : decode cL_law 339 = .ok (.invokevirtual 56, 3) := by decide +kernel
theorem dL_law_342 : decode cL_law 342 = .ok (.aload_n 2, 1) := by decide +kernel
theorem dL_law_343 : decode cL_law 343 = .ok (.aload_n 0, 1) := by decide +kernel
theorem dL_law_344 : decode cL_law 344 = .ok (.iload_n 3, 1) := by decide +kernel
theorem dL_law_345 : decode cL_law 345 = .ok (.iconst 1, 1) := by decide +kernel
theorem dL_law_346 : decode cL_law 346 = .ok (.iadd, 1) := by decide +kernel
theorem dL_law_347 : decode cL_law 347 = .ok (.iaload, 1) := by decide +kernel
theorem dL_law_348 : decode cL_law 348 = .ok (.aload_n 0, 1) := by decide +kernel
theorem dL_law_349 : decode cL_law 349 = .ok (.iload_n 3, 1) := by decide +kernel
theorem dL_law_350 : decode cL_law 350 = .ok (.iconst 2, 1) := by decide +kernel
theorem dL_law_351 : decode cL_law 351 = .ok (.iadd, 1) := by decide +kernel
theorem dL_law_352 : decode cL_law 352 = .ok (.iaload, 1) := by decide +kernel
theorem dL_law_353 : decode cL_law 353 = .ok (.invokevirtual 59, 3) := by decide +kernel
theorem dL_law_356 : decode cL_law 356 = .ok (.if_icmp .eq 137, 3) := by decide +kernel
theorem dL_law_359 : decode cL_law 359 = .ok (.iconst 0, 1) := by decide +kernel
theorem dL_law_360 : decode cL_law 360 = .ok (.ireturn, 1) := by decide +kernel
theorem dL_law_361 : decode cL_law 361 = .ok (.aload_n 1, 1) := by decide +kernel
theorem dL_law_362 : decode cL_law 362 = .ok (.aload_n 0, 1) := by decide +kernel
theorem dL_law_363 : decode cL_law 363 = .ok (.iload_n 3, 1) := by decide +kernel
theorem dL_law_364 : decode cL_law 364 = .ok (.iconst 1, 1) := by decide +kernel
theorem dL_law_365 : decode cL_law 365 = .ok (.iadd, 1) := by decide +kernel
theorem dL_law_366 : decode cL_law 366 = .ok (.iaload, 1) := by decide +kernel
theorem dL_law_367 : decode cL_law 367 = .ok (.aload_n 0, 1) := by decide +kernel
theorem dL_law_368 : decode cL_law 368 = .ok (.iload_n 3, 1) := by decide +kernel
theorem dL_law_369 : decode cL_law 369 = .ok (.iconst 2, 1) := by decide +kernel
theorem dL_law_370 : decode cL_law 370 = .ok (.iadd, 1) := by decide +kernel
theorem dL_law_371 : decode cL_law 371 = .ok (.iaload, 1) := by decide +kernel
theorem dL_law_372 : decode cL_law 372 = .ok (.aload_n 0, 1) := by decide +kernel
theorem dL_law_373 : decode cL_law 373 = .ok (.iload_n 3, 1) := by decide +kernel
theorem dL_law_374 : decode cL_law 374 = .ok (.iconst 3, 1) := by decide +kernel
theorem dL_law_375 : decode cL_law 375 = .ok (.iadd, 1) := by decide +kernel
theorem dL_law_376 : decode cL_law 376 = .ok (.iaload, 1) := by decide +kernel
theorem dL_law_377 : decode cL_law 377 = .ok (.aload_n 0, 1) := by decide +kernel
theorem dL_law_378 : decode cL_law 378 = .ok (.iload_n 3, 1) := by decide +kernel
theorem dL_law_379 : decode cL_law 379 = .ok (.iconst 4, 1) := by decide +kernel
theorem dL_law_380 : decode cL_law 380 = .ok (.iadd, 1) := by decide +kernel
theorem dL_law_381 : decode cL_law 381 = .ok (.iaload, 1) := by decide +kernel
theorem dL_law_382 : decode cL_law 382 = .ok (.invokevirtual 60, 3) := by decide +kernel
theorem dL_law_385 : decode cL_law 385 = .ok (.aload_n 2, 1) := by decide +kernel
theorem dL_law_386 : decode cL_law 386 = .ok (.aload_n 0, 1) := by decide +kernel
theorem dL_law_387 : decode cL_law 387 = .ok (.iload_n 3, 1) := by decide +kernel
theorem dL_law_388 : decode cL_law 388 = .ok (.iconst 1, 1) := by decide +kernel
theorem dL_law_389 : decode cL_law 389 = .ok (.iadd, 1) := by decide +kernel
theorem dL_law_390 : decode cL_law 390 = .ok (.iaload, 1) := by decide +kernel
theorem dL_law_391 : decode cL_law 391 = .ok (.aload_n 0, 1) := by decide +kernel
theorem dL_law_392 : decode cL_law 392 = .ok (.iload_n 3, 1) := by decide +kernel
theorem dL_law_393 : decode cL_law 393 = .ok (.iconst 2, 1) := by decide +kernel
theorem dL_law_394 : decode cL_law 394 = .ok (.iadd, 1) := by decide +kernel
theorem dL_law_395 : decode cL_law 395 = .ok (.iaload, 1) := by decide +kernel
theorem dL_law_396 : decode cL_law 396 = .ok (.aload_n 0, 1) := by decide +kernel
theorem dL_law_397 : decode cL_law 397 = .ok (.iload_n 3, 1) := by decide +kernel
theorem dL_law_398 : decode cL_law 398 = .ok (.iconst 3, 1) := by decide +kernel
theorem dL_law_399 : decode cL_law 399 = .ok (.iadd, 1) := by decide +kernel
theorem dL_law_400 : decode cL_law 400 = .ok (.iaload, 1) := by decide +kernel
theorem dL_law_401 : decode cL_law 401 = .ok (.aload_n 0, 1) := by decide +kernel
theorem dL_law_402 : decode cL_law 402 = .ok (.iload_n 3, 1) := by decide +kernel
theorem dL_law_403 : decode cL_law 403 = .ok (.iconst 4, 1) := by decide +kernel
theorem dL_law_404 : decode cL_law 404 = .ok (.iadd, 1) := by decide +kernel
theorem dL_law_405 : decode cL_law 405 = .ok (.iaload, 1) := by decide +kernel
theorem dL_law_406 : decode cL_law 406 = .ok (.invokevirtual 64, 3) := by decide +kernel
theorem dL_law_409 : decode cL_law 409 = .ok (.if_icmp .eq 84, 3) := by decide +kernel
theorem dL_law_412 : decode cL_law 412 = .ok (.iconst 0, 1) := by decide +kernel
theorem dL_law_413 : decode cL_law 413 = .ok (.ireturn, 1) := by decide +kernel
theorem dL_law_414 : decode cL_law 414 = .ok (.aload_n 1, 1) := by decide +kernel
theorem dL_law_415 : decode cL_law 415 = .ok (.aload_n 0, 1) := by decide +kernel
theorem dL_law_416 : decode cL_law 416 = .ok (.iload_n 3, 1) := by decide +kernel
theorem dL_law_417 : decode cL_law 417 = .ok (.iconst 1, 1) := by decide +kernel
theorem dL_law_418 : decode cL_law 418 = .ok (.iadd, 1) := by decide +kernel
theorem dL_law_419 : decode cL_law 419 = .ok (.iaload, 1) := by decide +kernel
theorem dL_law_420 : decode cL_law 420 = .ok (.aload_n 0, 1) := by decide +kernel
theorem dL_law_421 : decode cL_law 421 = .ok (.iload_n 3, 1) := by decide +kernel
theorem dL_law_422 : decode cL_law 422 = .ok (.iconst 2, 1) := by decide +kernel
theorem dL_law_423 : decode cL_law 423 = .ok (.iadd, 1) := by decide +kernel
theorem dL_law_424 : decode cL_law 424 = .ok (.iaload, 1) := by decide +kernel
theorem dL_law_425 : decode cL_law 425 = .ok (.invokevirtual 65, 3) := by decide +kernel
theorem dL_law_428 : decode cL_law 428 = .ok (.aload_n 2, 1) := by decide +kernel
theorem dL_law_429 : decode cL_law 429 = .ok (.aload_n 0, 1) := by decide +kernel
theorem dL_law_430 : decode cL_law 430 = .ok (.iload_n 3, 1) := by decide +kernel
theorem dL_law_431 : decode cL_law 431 = .ok (.iconst 1, 1) := by decide +kernel
theorem dL_law_432 : decode cL_law 432 = .ok (.iadd, 1) := by decide +kernel
theorem dL_law_433 : decode cL_law 433 = .ok (.iaload, 1) := by decide +kernel
theorem dL_law_434 : decode cL_law 434 = .ok (.aload_n 0, 1) := by decide +kernel
theorem dL_law_435 : decode cL_law 435 = .ok (.iload_n 3, 1) := by decide +kernel
theorem dL_law_436 : decode cL_law 436 = .ok (.iconst 2, 1) := by decide +kernel
theorem dL_law_437 : decode cL_law 437 = .ok (.iadd, 1) := by decide +kernel
theorem dL_law_438 : decode cL_law 438 = .ok (.iaload, 1) := by decide +kernel
theorem dL_law_439 : decode cL_law 439 = .ok (.invokevirtual 68, 3) := by decide +kernel
theorem dL_law_442 : decode cL_law 442 = .ok (.if_icmp .eq 51, 3) := by decide +kernel
theorem dL_law_445 : decode cL_law 445 = .ok (.iconst 0, 1) := by decide +kernel
theorem dL_law_446 : decode cL_law 446 = .ok (.ireturn, 1) := by decide +kernel
theorem dL_law_447 : decode cL_law 447 = .ok (.aload_n 1, 1) := by decide +kernel
theorem dL_law_448 : decode cL_law 448 = .ok (.aload_n 0, 1) := by decide +kernel
theorem dL_law_449 : decode cL_law 449 = .ok (.iload_n 3, 1) := by decide +kernel
theorem dL_law_450 : decode cL_law 450 = .ok (.iconst 1, 1) := by decide +kernel
theorem dL_law_451 : decode cL_law 451 = .ok (.iadd, 1) := by decide +kernel
theorem dL_law_452 : decode cL_law 452 = .ok (.iaload, 1) := by decide +kernel
theorem dL_law_453 : decode cL_law 453 = .ok (.invokevirtual 69, 3) := by decide +kernel
theorem dL_law_456 : decode cL_law 456 = .ok (.aload_n 2, 1) := by decide +kernel
theorem dL_law_457 : decode cL_law 457 = .ok (.aload_n 0, 1) := by decide +kernel
theorem dL_law_458 : decode cL_law 458 = .ok (.iload_n 3, 1) := by decide +kernel
theorem dL_law_459 : decode cL_law 459 = .ok (.iconst 1, 1) := by decide +kernel
theorem dL_law_460 : decode cL_law 460 = .ok (.iadd, 1) := by decide +kernel
theorem dL_law_461 : decode cL_law 461 = .ok (.iaload, 1) := by decide +kernel
theorem dL_law_462 : decode cL_law 462 = .ok (.invokevirtual 72, 3) := by decide +kernel
theorem dL_law_465 : decode cL_law 465 = .ok (.if_icmp .eq 28, 3) := by decide +kernel
theorem dL_law_468 : decode cL_law 468 = .ok (.iconst 0, 1) := by decide +kernel
theorem dL_law_469 : decode cL_law 469 = .ok (.ireturn, 1) := by decide +kernel
theorem dL_law_470 : decode cL_law 470 = .ok (.aload_n 1, 1) := by decide +kernel
theorem dL_law_471 : decode cL_law 471 = .ok (.aload_n 0, 1) := by decide +kernel
theorem dL_law_472 : decode cL_law 472 = .ok (.iload_n 3, 1) := by decide +kernel
theorem dL_law_473 : decode cL_law 473 = .ok (.iconst 1, 1) := by decide +kernel
theorem dL_law_474 : decode cL_law 474 = .ok (.iadd, 1) := by decide +kernel
theorem dL_law_475 : decode cL_law 475 = .ok (.iaload, 1) := by decide +kernel
theorem dL_law_476 : decode cL_law 476 = .ok (.invokevirtual 73, 3) := by decide +kernel
theorem dL_law_479 : decode cL_law 479 = .ok (.aload_n 2, 1) := by decide +kernel
theorem dL_law_480 : decode cL_law 480 = .ok (.aload_n 0, 1) := by decide +kernel
theorem dL_law_481 : decode cL_law 481 = .ok (.iload_n 3, 1) := by decide +kernel
theorem dL_law_482 : decode cL_law 482 = .ok (.iconst 1, 1) := by decide +kernel
theorem dL_law_483 : decode cL_law 483 = .ok (.iadd, 1) := by decide +kernel
theorem dL_law_484 : decode cL_law 484 = .ok (.iaload, 1) := by decide +kernel
theorem dL_law_485 : decode cL_law 485 = .ok (.invokevirtual 76, 3) := by decide +kernel
theorem dL_law_488 : decode cL_law 488 = .ok (.if_icmp .eq 5, 3) := by decide +kernel
theorem dL_law_491 : decode cL_law 491 = .ok (.iconst 0, 1) := by decide +kernel
theorem dL_law_492 : decode cL_law 492 = .ok (.ireturn, 1) := by decide +kernel
theorem dL_law_493 : decode cL_law 493 = .ok (.iinc 3 5, 3) := by decide +kernel
theorem dL_law_496 : decode cL_law 496 = .ok (.goto (-478), 3) := by decide +kernel
theorem dL_law_499 : decode cL_law 499 = .ok (.iconst 1, 1) := by decide +kernel
theorem dL_law_500 : decode cL_law 500 = .ok (.ireturn, 1) := by decide +kernel
end
section
set_option maxRecDepth 100000
section DN
variable {pg : Program} {l : Launch} {e : Env} {R : Room} {s : State} {m : MethodId} {args : Array Value} {below : List Frame} {meth : Method} {c : Code} {H : Heap} {locs : List Loc} {cells slots : Nat} {Q : State → Prop}
variable {cc : ByteArray} {pc : Nat} {ls : Array Slot} {rest : List Value}
theorem dn_top {x y : Int32} (h : x = y) (k : W pg l e R s m args below meth c H locs cells slots Q (F0 m pc ls (.int y :: rest))) : W pg l e R s m args below meth c H locs cells slots Q (F0 m pc ls (.int x :: rest)) := h ▸ k
theorem dn_iadd (hexec : pg.tables.exec = Jvm.exec) (hb : c.code = cc) {x y : Nat} (hdg : decode cc pc = .ok (.iadd, 1)) (k : W pg l e R s m args below meth c H locs cells slots Q (F0 m (pc + 1) ls (.int (nI (x + y)) :: rest))) : W pg l e R s m args below meth c H locs cells slots Q (F0 m pc ls (.int (nI y) :: .int (nI x) :: rest)) := lv_iadd hexec hb hdg (dn_top (nI_add x y) k)
theorem dn_imul (hexec : pg.tables.exec = Jvm.exec) (hb : c.code = cc) {x y : Nat} (hdg : decode cc pc = .ok (.imul, 1)) (k : W pg l e R s m args below meth c H locs cells slots Q (F0 m (pc + 1) ls (.int (nI (x * y)) :: rest))) : W pg l e R s m args below meth c H locs cells slots Q (F0 m pc ls (.int (nI y) :: .int (nI x) :: rest)) := lv_imul hexec hb hdg (dn_top (pk_mul x y) k)
theorem dn_isub (hexec : pg.tables.exec = Jvm.exec) (hb : c.code = cc) {x y : Nat} (hdg : decode cc pc = .ok (.isub, 1)) (h : y ≤ x) (k : W pg l e R s m args below meth c H locs cells slots Q (F0 m (pc + 1) ls (.int (nI (x - y)) :: rest))) : W pg l e R s m args below meth c H locs cells slots Q (F0 m pc ls (.int (nI y) :: .int (nI x) :: rest)) := lv_isub hexec hb hdg (dn_top (pk_sub h) k)
theorem dn_idiv (hexec : pg.tables.exec = Jvm.exec) (hb : c.code = cc) {x y : Nat} (hdg : decode cc pc = .ok (.idiv, 1)) (hx : x < 2147483648) (h0 : 0 < y) (hy : y < 2147483648) (k : W pg l e R s m args below meth c H locs cells slots Q (F0 m (pc + 1) ls (.int (nI (x / y)) :: rest))) : W pg l e R s m args below meth c H locs cells slots Q (F0 m pc ls (.int (nI y) :: .int (nI x) :: rest)) := lv_idiv hexec hb hdg (nI_ne0 h0 hy) (dn_top (pk_div hx h0 hy) k)
theorem dn_irem (hexec : pg.tables.exec = Jvm.exec) (hb : c.code = cc) {x y : Nat} (hdg : decode cc pc = .ok (.irem, 1)) (hx : x < 2147483648) (h0 : 0 < y) (hy : y < 2147483648) (k : W pg l e R s m args below meth c H locs cells slots Q (F0 m (pc + 1) ls (.int (nI (x % y)) :: rest))) : W pg l e R s m args below meth c H locs cells slots Q (F0 m pc ls (.int (nI y) :: .int (nI x) :: rest)) := lv_irem hexec hb hdg (nI_ne0 h0 hy) (dn_top (pk_rem hx h0 hy) k)
theorem dn_ishr (hexec : pg.tables.exec = Jvm.exec) (hb : c.code = cc) {x y : Nat} (hdg : decode cc pc = .ok (.ishr, 1)) (hx : x < 2147483648) (hy : y < 32) (k : W pg l e R s m args below meth c H locs cells slots Q (F0 m (pc + 1) ls (.int (nI (x / 2 ^ y)) :: rest))) : W pg l e R s m args below meth c H locs cells slots Q (F0 m pc ls (.int (nI y) :: .int (nI x) :: rest)) := lv_ishr hexec hb hdg (dn_top (pk_shrN hx _ y (s_l y hy)) k)
theorem dn_iand (hexec : pg.tables.exec = Jvm.exec) (hb : c.code = cc) {x : Nat} {v : Int32} (j : Nat) (hdg : decode cc pc = .ok (.iand, 1)) (hx : x < 2147483648) (hv : v.toBitVec.toNat = 2 ^ j - 1) (k : W pg l e R s m args below meth c H locs cells slots Q (F0 m (pc + 1) ls (.int (nI (x % 2 ^ j)) :: rest))) : W pg l e R s m args below meth c H locs cells slots Q (F0 m pc ls (.int v :: .int (nI x) :: rest)) := lv_iand hexec hb hdg (dn_top (pk_andN (by omega) j hv) k)
theorem dn_icmp_eq (hexec : pg.tables.exec = Jvm.exec) (hb : c.code = cc) {x y : Nat} {off : Int} {tgt : Nat} (hdg : decode cc pc = .ok (.if_icmp .eq off, 3)) (ht : (pc : Int) + off = (tgt : Int)) (hx : x < 2147483648) (hy : y < 2147483648) (kt : x = y → W pg l e R s m args below meth c H locs cells slots Q (F0 m tgt ls rest)) (kf : x ≠ y → W pg l e R s m args below meth c H locs cells slots Q (F0 m (pc + 3) ls rest)) : W pg l e R s m args below meth c H locs cells slots Q (F0 m pc ls (.int (nI y) :: .int (nI x) :: rest)) := lv_icmp_eq hexec hb hdg ht (fun h => kt ((nI_eq hx hy).mp h)) (fun h => kf (fun z => h (by rw [z])))
theorem dn_icmp_ne (hexec : pg.tables.exec = Jvm.exec) (hb : c.code = cc) {x y : Nat} {off : Int} {tgt : Nat} (hdg : decode cc pc = .ok (.if_icmp .ne off, 3)) (ht : (pc : Int) + off = (tgt : Int)) (hx : x < 2147483648) (hy : y < 2147483648) (kt : x ≠ y → W pg l e R s m args below meth c H locs cells slots Q (F0 m tgt ls rest)) (kf : x = y → W pg l e R s m args below meth c H locs cells slots Q (F0 m (pc + 3) ls rest)) : W pg l e R s m args below meth c H locs cells slots Q (F0 m pc ls (.int (nI y) :: .int (nI x) :: rest)) := lv_icmp_ne hexec hb hdg ht (fun h => kt (fun z => h (by rw [z]))) (fun h => kf ((nI_eq hx hy).mp h))
theorem dn_icmp_lt (hexec : pg.tables.exec = Jvm.exec) (hb : c.code = cc) {x y : Nat} {off : Int} {tgt : Nat} (hdg : decode cc pc = .ok (.if_icmp .lt off, 3)) (ht : (pc : Int) + off = (tgt : Int)) (hx : x < 2147483648) (hy : y < 2147483648) (kt : x < y → W pg l e R s m args below meth c H locs cells slots Q (F0 m tgt ls rest)) (kf : y ≤ x → W pg l e R s m args below meth c H locs cells slots Q (F0 m (pc + 3) ls rest)) : W pg l e R s m args below meth c H locs cells slots Q (F0 m pc ls (.int (nI y) :: .int (nI x) :: rest)) := lv_icmp_lt hexec hb hdg ht (fun h => kt ((nI_ltI hx hy).mp h)) (fun h => kf (Nat.le_of_not_lt (fun z => h ((nI_ltI hx hy).mpr z))))
theorem dn_icmp_ge (hexec : pg.tables.exec = Jvm.exec) (hb : c.code = cc) {x y : Nat} {off : Int} {tgt : Nat} (hdg : decode cc pc = .ok (.if_icmp .ge off, 3)) (ht : (pc : Int) + off = (tgt : Int)) (hx : x < 2147483648) (hy : y < 2147483648) (kt : y ≤ x → W pg l e R s m args below meth c H locs cells slots Q (F0 m tgt ls rest)) (kf : x < y → W pg l e R s m args below meth c H locs cells slots Q (F0 m (pc + 3) ls rest)) : W pg l e R s m args below meth c H locs cells slots Q (F0 m pc ls (.int (nI y) :: .int (nI x) :: rest)) := lv_icmp_ge hexec hb hdg ht (fun h => kt ((nI_leI hy hx).mp h)) (fun h => kf (Nat.lt_of_not_le (fun z => h ((nI_leI hy hx).mpr z))))
theorem dn_icmp_gt (hexec : pg.tables.exec = Jvm.exec) (hb : c.code = cc) {x y : Nat} {off : Int} {tgt : Nat} (hdg : decode cc pc = .ok (.if_icmp .gt off, 3)) (ht : (pc : Int) + off = (tgt : Int)) (hx : x < 2147483648) (hy : y < 2147483648) (kt : y < x → W pg l e R s m args below meth c H locs cells slots Q (F0 m tgt ls rest)) (kf : x ≤ y → W pg l e R s m args below meth c H locs cells slots Q (F0 m (pc + 3) ls rest)) : W pg l e R s m args below meth c H locs cells slots Q (F0 m pc ls (.int (nI y) :: .int (nI x) :: rest)) := lv_icmp_gt hexec hb hdg ht (fun h => kt ((nI_ltI hy hx).mp h)) (fun h => kf (Nat.le_of_not_lt (fun z => h ((nI_ltI hy hx).mpr z))))
theorem dn_icmp_le (hexec : pg.tables.exec = Jvm.exec) (hb : c.code = cc) {x y : Nat} {off : Int} {tgt : Nat} (hdg : decode cc pc = .ok (.if_icmp .le off, 3)) (ht : (pc : Int) + off = (tgt : Int)) (hx : x < 2147483648) (hy : y < 2147483648) (kt : x ≤ y → W pg l e R s m args below meth c H locs cells slots Q (F0 m tgt ls rest)) (kf : y < x → W pg l e R s m args below meth c H locs cells slots Q (F0 m (pc + 3) ls rest)) : W pg l e R s m args below meth c H locs cells slots Q (F0 m pc ls (.int (nI y) :: .int (nI x) :: rest)) := lv_icmp_le hexec hb hdg ht (fun h => kt ((nI_leI hx hy).mp h)) (fun h => kf (Nat.lt_of_not_le (fun z => h ((nI_leI hx hy).mpr z))))
theorem dn_if_eq (hexec : pg.tables.exec = Jvm.exec) (hb : c.code = cc) {x : Nat} {off : Int} {tgt : Nat} (hdg : decode cc pc = .ok (.ifCond .eq off, 3)) (ht : (pc : Int) + off = (tgt : Int)) (hx : x < 2147483648) (kt : x = 0 → W pg l e R s m args below meth c H locs cells slots Q (F0 m tgt ls rest)) (kf : 0 < x → W pg l e R s m args below meth c H locs cells slots Q (F0 m (pc + 3) ls rest)) : W pg l e R s m args below meth c H locs cells slots Q (F0 m pc ls (.int (nI x) :: rest)) := lv_if_eq hexec hb hdg ht (fun h => kt ((nI_eq hx (by decide : 0 < 2147483648)).mp h)) (fun h => kf (Nat.pos_of_ne_zero (fun z => h (by rw [z]; exact nI_0))))
theorem dn_if_ne (hexec : pg.tables.exec = Jvm.exec) (hb : c.code = cc) {x : Nat} {off : Int} {tgt : Nat} (hdg : decode cc pc = .ok (.ifCond .ne off, 3)) (ht : (pc : Int) + off = (tgt : Int)) (hx : x < 2147483648) (kt : 0 < x → W pg l e R s m args below meth c H locs cells slots Q (F0 m tgt ls rest)) (kf : x = 0 → W pg l e R s m args below meth c H locs cells slots Q (F0 m (pc + 3) ls rest)) : W pg l e R s m args below meth c H locs cells slots Q (F0 m pc ls (.int (nI x) :: rest)) := lv_if_ne hexec hb hdg ht (fun h => kt (Nat.pos_of_ne_zero (fun z => h (by rw [z]; exact nI_0)))) (fun h => kf ((nI_eq hx (by decide : 0 < 2147483648)).mp h))
theorem dn_if_le (hexec : pg.tables.exec = Jvm.exec) (hb : c.code = cc) {x : Nat} {off : Int} {tgt : Nat} (hdg : decode cc pc = .ok (.ifCond .le off, 3)) (ht : (pc : Int) + off = (tgt : Int)) (hx : x < 2147483648) (kt : x = 0 → W pg l e R s m args below meth c H locs cells slots Q (F0 m tgt ls rest)) (kf : 0 < x → W pg l e R s m args below meth c H locs cells slots Q (F0 m (pc + 3) ls rest)) : W pg l e R s m args below meth c H locs cells slots Q (F0 m pc ls (.int (nI x) :: rest)) := lv_if_le hexec hb hdg ht (fun h => kt (Nat.le_zero.mp ((nI_leI hx (by decide : 0 < 2147483648)).mp h))) (fun h => kf (Nat.pos_of_ne_zero (fun z => h (by rw [z]; exact (nI_leI (by decide) (by decide)).mpr (Nat.le_refl 0)))))
end DN
theorem dn_fm {α β : Type} {f : α → Option β} : ∀ {xs : List α} {w : List β}, xs.map f = w.map some → xs.filterMap f = w
  | [], [], _ => rfl
  | [], _ :: _, h => by cases h
  | _ :: _, [], h => by cases h
  | x :: xs, y :: w, h => by
    have h1 : f x = some y := (List.cons.inj h).1
    have h2 := dn_fm (List.cons.inj h).2
    rw [List.filterMap_cons, h1, h2]
/-! contracts: no cell is made; the whole world w is handed over, w' u comes back -/
abbrev vwCl : List vw_C := [(RX0, TX0, 7), (RX1, TX1, 2)]
abbrev rm_ (f n : Nat) : Room := { frames := f, cells := 0, slots := 0, locals := n }
def dx_pre (D : va_G) (tys : List (ClassId × FieldType)) (w : va_W) (sz : Nat) (U : State) : Prop := U.heap.size = sz ∧ va_P D vwCl w U.heap ∧ va_K D vwCl tys U ∧ va_D (fun _ => True) w
def dx_MI (l : Launch) (y : MethodName) (ws : List Cond) (rm : Room) (D : va_G) (tys : List (ClassId × FieldType)) (w : va_W) (av : List Value) {S : Type} (post : Int32 → S → Prop) (w' : S → va_W) : Prop :=
  ∀ sz : Nat, Met l y ws rm (va_Pc av (dx_pre D tys w sz)) (va_Qi post (fun u t => va_P D vwCl (w' u) t.heap ∧ va_D (va_A w sz) (w' u)) (va_A w sz)) 0 0 (va_A w sz)
def dx_MV (l : Launch) (y : MethodName) (ws : List Cond) (rm : Room) (D : va_G) (tys : List (ClassId × FieldType)) (w : va_W) (av : List Value) {S : Type} (post : S → Prop) (w' : S → va_W) : Prop :=
  ∀ sz : Nat, Met l y ws rm (va_Pc av (dx_pre D tys w sz)) (va_Qv post (fun u t => va_P D vwCl (w' u) t.heap ∧ va_D (va_A w sz) (w' u)) (va_A w sz)) 0 0 (va_A w sz)
theorem dx_ofI {l : Launch} {y : MethodName} {cc : ByteArray} {maxL : Nat} {own : String} {rm : Room} {D : va_G} {tys : List (ClassId × FieldType)} {w : va_W} {av : List Value} {S : Type} {post : Int32 → S → Prop} {w' : S → va_W} (hy : plainName y.cls = true) (ho : y.cls = own) (hL : (lg_sl av).length ≤ maxL)
    (body : ∀ (pg : Program) (e : Env) (s : State) (m : MethodId) (args : Array Value) (below : List Frame) (meth : Method) (c : Code) (A : Nat → Prop) (Q : State → Prop) (ls : Array Slot), pg.tables.exec = Jvm.exec → c.code = cc → c.maxLocals = maxL → s.vm.findClass own = some m.cls → (∀ x ∈ lw_all, x.before args s = true) → (∀ q : Nat, s.heap.size ≤ q → A q) → va_K D vwCl tys s → va_P D vwCl w s.heap → va_D A w → va_S A s.heap s.heap [] → lv_has ls maxL (lv_args 0 av) →
      (∀ (pc : Nat) (ls : Array Slot) (r : Int32) (u : S) (H : Heap) (locs : List Loc), decode cc pc = .ok (.ireturn, 1) → post r u → va_P D vwCl (w' u) H → va_D A (w' u) → va_S A s.heap H locs → W pg l e rm s m args below meth c H locs 0 0 Q (F0 m pc ls [.int r])) →
      W pg l e rm s m args below meth c s.heap [] 0 0 Q (F0 m 0 ls [])) : dx_MI l y (ws_ y cc maxL (some .int)) rm D tys w av post w' := by
  intro sz
  refine Met.ofW (cc := cc) (maxL := maxL) (ret := (some .int)) hy rfl ?_
  intro pg e s m args below meth c s₁ Bd hml hv
  obtain ⟨rfl, hsz, hP, hK, hD0⟩ := hv
  have hts := atoms_spec (ws := ws_ y cc maxL (some .int)) Bd.pre
  have hts : ∀ x ∈ lw_all, x.before _ s = true := fun x h => hts x (List.mem_cons_of_mem _ h)
  have hown : s.vm.findClass own = some m.cls := by rw [← ho]; exact findClass_of_methodNamed Bd.named
  subst hsz
  have hD := hD0.self (sz := s.heap.size)
  have hl := lv_entry av (n := maxL) hL
  rw [lg_entry_eq]
  exact body pg e s m av.toArray below meth c (va_A w s.heap.size) _ _ Bd.exec Bd.bytes hml hown hts (fun q h => Or.inr h) hK hP hD va_S.rf hl (fun pc ls r u H locs hdg  hp hP hD hS => W.iret Bd.exec Bd.bytes Bd.returns (fun t ht hW => ⟨⟨r, u, rfl, hp, by rw [ht]; exact hP, hD⟩, hS.F ht⟩) hS.2.2 hdg Bd.notSynchronized)
theorem dx_ofZ {l : Launch} {y : MethodName} {cc : ByteArray} {maxL : Nat} {own : String} {rm : Room} {D : va_G} {tys : List (ClassId × FieldType)} {w : va_W} {av : List Value} {S : Type} {post : Int32 → S → Prop} {w' : S → va_W} (hy : plainName y.cls = true) (ho : y.cls = own) (hL : (lg_sl av).length ≤ maxL)
    (body : ∀ (pg : Program) (e : Env) (s : State) (m : MethodId) (args : Array Value) (below : List Frame) (meth : Method) (c : Code) (A : Nat → Prop) (Q : State → Prop) (ls : Array Slot), pg.tables.exec = Jvm.exec → c.code = cc → c.maxLocals = maxL → s.vm.findClass own = some m.cls → (∀ x ∈ lw_all, x.before args s = true) → (∀ q : Nat, s.heap.size ≤ q → A q) → va_K D vwCl tys s → va_P D vwCl w s.heap → va_D A w → va_S A s.heap s.heap [] → lv_has ls maxL (lv_args 0 av) →
      (∀ (pc : Nat) (ls : Array Slot) (r : Int32) (u : S) (H : Heap) (locs : List Loc), decode cc pc = .ok (.ireturn, 1) → (r = 0 ∨ r = 1) → post r u → va_P D vwCl (w' u) H → va_D A (w' u) → va_S A s.heap H locs → W pg l e rm s m args below meth c H locs 0 0 Q (F0 m pc ls [.int r])) →
      W pg l e rm s m args below meth c s.heap [] 0 0 Q (F0 m 0 ls [])) : dx_MI l y (ws_ y cc maxL (some .boolean)) rm D tys w av post w' := by
  intro sz
  refine Met.ofW (cc := cc) (maxL := maxL) (ret := (some .boolean)) hy rfl ?_
  intro pg e s m args below meth c s₁ Bd hml hv
  obtain ⟨rfl, hsz, hP, hK, hD0⟩ := hv
  have hts := atoms_spec (ws := ws_ y cc maxL (some .boolean)) Bd.pre
  have hts : ∀ x ∈ lw_all, x.before _ s = true := fun x h => hts x (List.mem_cons_of_mem _ h)
  have hown : s.vm.findClass own = some m.cls := by rw [← ho]; exact findClass_of_methodNamed Bd.named
  subst hsz
  have hD := hD0.self (sz := s.heap.size)
  have hl := lv_entry av (n := maxL) hL
  rw [lg_entry_eq]
  exact body pg e s m av.toArray below meth c (va_A w s.heap.size) _ _ Bd.exec Bd.bytes hml hown hts (fun q h => Or.inr h) hK hP hD va_S.rf hl (fun pc ls r u H locs hdg hn hp hP hD hS => W.zret Bd.exec Bd.bytes Bd.returns (by rcases hn with z | z <;> (rw [z]; rfl)) (fun t ht hW => ⟨⟨r, u, rfl, hp, by rw [ht]; exact hP, hD⟩, hS.F ht⟩) hS.2.2 hdg Bd.notSynchronized)
theorem dx_ofV {l : Launch} {y : MethodName} {cc : ByteArray} {maxL : Nat} {own : String} {rm : Room} {D : va_G} {tys : List (ClassId × FieldType)} {w : va_W} {av : List Value} {S : Type} {post : S → Prop} {w' : S → va_W} (hy : plainName y.cls = true) (ho : y.cls = own) (hL : (lg_sl av).length ≤ maxL)
    (body : ∀ (pg : Program) (e : Env) (s : State) (m : MethodId) (args : Array Value) (below : List Frame) (meth : Method) (c : Code) (A : Nat → Prop) (Q : State → Prop) (ls : Array Slot), pg.tables.exec = Jvm.exec → c.code = cc → c.maxLocals = maxL → s.vm.findClass own = some m.cls → (∀ x ∈ lw_all, x.before args s = true) → (∀ q : Nat, s.heap.size ≤ q → A q) → va_K D vwCl tys s → va_P D vwCl w s.heap → va_D A w → va_S A s.heap s.heap [] → lv_has ls maxL (lv_args 0 av) →
      (∀ (pc : Nat) (ls : Array Slot) (u : S) (H : Heap) (locs : List Loc), decode cc pc = .ok (.return_, 1) → post u → va_P D vwCl (w' u) H → va_D A (w' u) → va_S A s.heap H locs → W pg l e rm s m args below meth c H locs 0 0 Q (F0 m pc ls [])) →
      W pg l e rm s m args below meth c s.heap [] 0 0 Q (F0 m 0 ls [])) : dx_MV l y (ws_ y cc maxL none) rm D tys w av post w' := by
  intro sz
  refine Met.ofW (cc := cc) (maxL := maxL) (ret := none) hy rfl ?_
  intro pg e s m args below meth c s₁ Bd hml hv
  obtain ⟨rfl, hsz, hP, hK, hD0⟩ := hv
  have hts := atoms_spec (ws := ws_ y cc maxL none) Bd.pre
  have hts : ∀ x ∈ lw_all, x.before _ s = true := fun x h => hts x (List.mem_cons_of_mem _ h)
  have hown : s.vm.findClass own = some m.cls := by rw [← ho]; exact findClass_of_methodNamed Bd.named
  subst hsz
  have hD := hD0.self (sz := s.heap.size)
  have hl := lv_entry av (n := maxL) hL
  rw [lg_entry_eq]
  exact body pg e s m av.toArray below meth c (va_A w s.heap.size) _ _ Bd.exec Bd.bytes hml hown hts (fun q h => Or.inr h) hK hP hD va_S.rf hl (fun pc ls u H locs hdg  hp hP hD hS => W.vret Bd.exec Bd.bytes Bd.returns (fun t ht hW => ⟨⟨u, rfl, hp, by rw [ht]; exact hP, hD⟩, hS.F ht⟩) hS.2.2 hdg Bd.notSynchronized)
section DX
variable {pg : Program} {l : Launch} {e : Env} {R : Room} {s : State} {m : MethodId} {args : Array Value} {below : List Frame} {meth : Method} {c : Code} {H : Heap} {locs : List Loc} {cells slots : Nat} {Q : State → Prop}
variable {cc bytes : ByteArray} {pc nL maxL index n ci : Nat} {ls : Array Slot} {rest st As : List Value} {y : MethodName} {ret : Option FieldType} {wds Ts : List Cond} {rm : Room} {own C : String} {b : Nat} {D : va_G} {tys tysC : List (ClassId × FieldType)} {w wc wr : va_W} {A : Nat → Prop} {fs : List Value} {qc : vw_C}
theorem dx_blind {av : List Value} {D : va_G} {tys : List (ClassId × FieldType)} {w : va_W} {sz : Nat} : FrameBlind (va_Pc av (dx_pre D tys w sz)) := fun a U g mk q => by
  obtain ⟨q0, q1, qP, qK, qD⟩ := q
  exact ⟨q0, q1, qP, va_K.moved (u := U) (U := U.calling g mk a) (Vm.Alike.refl U.vm) qK, qD⟩
theorem dx_callI {S : Type} {post : Int32 → S → Prop} {w' : S → va_W} (S0 : CallFix pg m c cc nL s args Ts own) (hM : dx_MI l y wds rm D tysC wc (.ref b :: As) post w') (cw : CallW R s args own C index y bytes maxL ret wds rm 0 0 n) (hK : va_K D vwCl tys s) (hP : va_P D vwCl w H) (hD : va_D A w) (hS : va_S A s.heap H locs) (hA : ∀ q : Nat, s.heap.size ≤ q → A q)
    (isC isR isT : List Nat) (hC : isC.map (fun i => w[i]?) = wc.map some) (hR : isR.map (fun i => w[i]?) = wr.map some) (hn1 : va_nd isC = true) (hn2 : va_nd isR = true) (hdis : ∀ i ∈ isR, i ∉ isC) (hT : isT.filterMap (fun i => tys[i]?) = tysC) (hcl : vwCl[ci]? = some qc) (hqc : qc.1 = C) (he : wc[0]? = some (b, .inr (ci, fs)))
    (hn : As.length = n) (hsize : ls.size = nL) (hst : st = As.reverse ++ .ref b :: rest) (hroom : (rest.map fun v => v.category).sum ≤ 8) (hdg : decode cc pc = .ok (.invokevirtual index, 3)) (hcs : cells ≤ R.cells ∧ slots ≤ R.slots)
    (kk : ∀ (r : Int32) (u : S) (H1 : Heap) (locs1 : List Loc), post r u → va_P D vwCl (wr ++ w' u) H1 → va_D A (wr ++ w' u) → va_S A s.heap H1 locs1 → W pg l e R s m args below meth c H1 locs1 cells slots Q (F0 m (pc + 3) ls (.int r :: rest))) : W pg l e R s m args below meth c H locs cells slots Q (F0 m pc ls st) := by
  have hPc := hP.sub (ws' := wc) isC (dn_fm hC)
  have hDc := hD.sub (ws' := wc) isC hn1 hC
  have hKc := hK.sub (tys' := tysC) isT hT
  have hFc := va_free (wc := wc) hD hS hA isC hC
  have hrc := va_recv hKc hPc hcl he
  rw [hqc] at hrc
  refine va_calli (va_runV (As := As) (rest := rest) S0 (hM H.size) cw ⟨dx_blind, hrc, fun U hU hW => ⟨rfl, by rw [hU], by rw [hU]; exact hPc, va_K.moved hW.alike hKc, hDc.weaken (fun _ _ _ _ => trivial)⟩⟩ rfl hn hsize hst (lv_room hroom) hdg hcs) hS (fun q _ h => hFc q h) hFc (fun r u t H1 locs ht hvm hw hB hz1 hk1 hS => ?_)
  obtain ⟨hP1, hD1⟩ := hB
  rw [ht] at hP1
  obtain ⟨hP2, hD2⟩ := va_join (wr := wr) (w1 := w' u) hP hD isC isR hC hR hn2 hdis hk1 hFc hP1 hD1
  exact kk r u H1 locs hw hP2 hD2 hS
theorem dx_callV {S : Type} {post : S → Prop} {w' : S → va_W} (S0 : CallFix pg m c cc nL s args Ts own) (hM : dx_MV l y wds rm D tysC wc (.ref b :: As) post w') (cw : CallW R s args own C index y bytes maxL ret wds rm 0 0 n) (hK : va_K D vwCl tys s) (hP : va_P D vwCl w H) (hD : va_D A w) (hS : va_S A s.heap H locs) (hA : ∀ q : Nat, s.heap.size ≤ q → A q)
    (isC isR isT : List Nat) (hC : isC.map (fun i => w[i]?) = wc.map some) (hR : isR.map (fun i => w[i]?) = wr.map some) (hn1 : va_nd isC = true) (hn2 : va_nd isR = true) (hdis : ∀ i ∈ isR, i ∉ isC) (hT : isT.filterMap (fun i => tys[i]?) = tysC) (hcl : vwCl[ci]? = some qc) (hqc : qc.1 = C) (he : wc[0]? = some (b, .inr (ci, fs)))
    (hn : As.length = n) (hsize : ls.size = nL) (hst : st = As.reverse ++ .ref b :: rest) (hroom : (rest.map fun v => v.category).sum ≤ 8) (hdg : decode cc pc = .ok (.invokevirtual index, 3)) (hcs : cells ≤ R.cells ∧ slots ≤ R.slots)
    (kk : ∀ (u : S) (H1 : Heap) (locs1 : List Loc), post u → va_P D vwCl (wr ++ w' u) H1 → va_D A (wr ++ w' u) → va_S A s.heap H1 locs1 → W pg l e R s m args below meth c H1 locs1 cells slots Q (F0 m (pc + 3) ls (rest))) : W pg l e R s m args below meth c H locs cells slots Q (F0 m pc ls st) := by
  have hPc := hP.sub (ws' := wc) isC (dn_fm hC)
  have hDc := hD.sub (ws' := wc) isC hn1 hC
  have hKc := hK.sub (tys' := tysC) isT hT
  have hFc := va_free (wc := wc) hD hS hA isC hC
  have hrc := va_recv hKc hPc hcl he
  rw [hqc] at hrc
  refine va_callv (va_runV (As := As) (rest := rest) S0 (hM H.size) cw ⟨dx_blind, hrc, fun U hU hW => ⟨rfl, by rw [hU], by rw [hU]; exact hPc, va_K.moved hW.alike hKc, hDc.weaken (fun _ _ _ _ => trivial)⟩⟩ rfl hn hsize hst (lv_room hroom) hdg hcs) hS (fun q _ h => hFc q h) hFc (fun u t H1 locs ht hvm hw hB hz1 hk1 hS => ?_)
  obtain ⟨hP1, hD1⟩ := hB
  rw [ht] at hP1
  obtain ⟨hP2, hD2⟩ := va_join (wr := wr) (w1 := w' u) hP hD isC isR hC hR hn2 hdis hk1 hFc hP1 hD1
  exact kk u H1 locs hw hP2 hD2 hS
end DX
/-! the solver: its address, its arrays' addresses, their classes -/
abbrev xA : Type := Nat × (Nat → Nat) × (Nat → ClassId)
abbrev xW (a : xA) (P O F : Int32) (B T K S : Nat → Int32) : va_W := [(a.1, .inr (0, [.int P, .int O, .int F, .ref (a.2.1 0), .ref (a.2.1 1), .ref (a.2.1 2), .ref (a.2.1 3)])), (a.2.1 0, .inl (a.2.2 0, 5, .inl B)), (a.2.1 1, .inl (a.2.2 1, 5, .inl T)), (a.2.1 2, .inl (a.2.2 2, 128, .inl K)), (a.2.1 3, .inl (a.2.2 3, 128, .inl S))]
abbrev xT (a : xA) : List (ClassId × FieldType) := [(a.2.2 0, .int), (a.2.2 1, .int), (a.2.2 2, .int), (a.2.2 3, .int)]
abbrev yA : Type := Nat × Nat × ClassId
abbrev yW (a : yA) (P : Int32) (M : Nat → Int32) : va_W := [(a.1, .inr (1, [.int P, .ref a.2.1])), (a.2.1, .inl (a.2.2, 2040, .inl M))]
abbrev yT (a : yA) : List (ClassId × FieldType) := [(a.2.2, .boolean)]
section DO
variable {pg : Program} {l : Launch} {e : Env} {R : Room} {s : State} {m : MethodId} {args : Array Value} {below : List Frame} {meth : Method} {c : Code} {H : Heap} {locs : List Loc} {cells slots : Nat} {Q : State → Prop}
variable {cc : ByteArray} {pc : Nat} {ls : Array Slot} {rest : List Value} {D : va_G} {A : Nat → Prop}
variable {a : xA} {P O F : Int32} {B T K S : Nat → Int32} {b : yA} {M : Nat → Int32}
theorem xg_p (hexec : pg.tables.exec = Jvm.exec) (hb : c.code = cc) (hts : ∀ x ∈ lw_all, x.before args s = true) (hown : s.vm.findClass RX0 = some m.cls) (hK : va_K D vwCl (xT a) s) (hP : va_P D vwCl (xW a P O F B T K S) H) (hdg : decode cc pc = .ok (.getfield 22, 3)) (kk : W pg l e R s m args below meth c H locs cells slots Q (F0 m (pc + 3) ls (.int P :: rest))) : W pg l e R s m args below meth c H locs cells slots Q (F0 m pc ls (.ref a.1 :: rest)) := va_get (D := D) (ci := 0) (v := .int P) (C := RX0) (T := TX0) (N := 7) hexec hb hts in_X0 hown hK hP 0 rfl rfl 0 (by decide) (hts _ q40) (fun _ h9 => h9) rfl hdg kk
theorem xg_order (hexec : pg.tables.exec = Jvm.exec) (hb : c.code = cc) (hts : ∀ x ∈ lw_all, x.before args s = true) (hown : s.vm.findClass RX0 = some m.cls) (hK : va_K D vwCl (xT a) s) (hP : va_P D vwCl (xW a P O F B T K S) H) (hdg : decode cc pc = .ok (.getfield 33, 3)) (kk : W pg l e R s m args below meth c H locs cells slots Q (F0 m (pc + 3) ls (.int O :: rest))) : W pg l e R s m args below meth c H locs cells slots Q (F0 m pc ls (.ref a.1 :: rest)) := va_get (D := D) (ci := 0) (v := .int O) (C := RX0) (T := TX0) (N := 7) hexec hb hts in_X0 hown hK hP 0 rfl rfl 1 (by decide) (hts _ q41) (fun _ h9 => h9) rfl hdg kk
theorem xg_factors (hexec : pg.tables.exec = Jvm.exec) (hb : c.code = cc) (hts : ∀ x ∈ lw_all, x.before args s = true) (hown : s.vm.findClass RX0 = some m.cls) (hK : va_K D vwCl (xT a) s) (hP : va_P D vwCl (xW a P O F B T K S) H) (hdg : decode cc pc = .ok (.getfield 36, 3)) (kk : W pg l e R s m args below meth c H locs cells slots Q (F0 m (pc + 3) ls (.int F :: rest))) : W pg l e R s m args below meth c H locs cells slots Q (F0 m pc ls (.ref a.1 :: rest)) := va_get (D := D) (ci := 0) (v := .int F) (C := RX0) (T := TX0) (N := 7) hexec hb hts in_X0 hown hK hP 0 rfl rfl 2 (by decide) (hts _ q42) (fun _ h9 => h9) rfl hdg kk
theorem xg_base (hexec : pg.tables.exec = Jvm.exec) (hb : c.code = cc) (hts : ∀ x ∈ lw_all, x.before args s = true) (hown : s.vm.findClass RX0 = some m.cls) (hK : va_K D vwCl (xT a) s) (hP : va_P D vwCl (xW a P O F B T K S) H) (hdg : decode cc pc = .ok (.getfield 7, 3)) (kk : W pg l e R s m args below meth c H locs cells slots Q (F0 m (pc + 3) ls (.ref (a.2.1 0) :: rest))) : W pg l e R s m args below meth c H locs cells slots Q (F0 m pc ls (.ref a.1 :: rest)) := va_get (D := D) (ci := 0) (v := .ref (a.2.1 0)) (C := RX0) (T := TX0) (N := 7) hexec hb hts in_X0 hown hK hP 0 rfl rfl 3 (by decide) (hts _ q43) (fun _ h9 => h9) rfl hdg kk
theorem xg_times (hexec : pg.tables.exec = Jvm.exec) (hb : c.code = cc) (hts : ∀ x ∈ lw_all, x.before args s = true) (hown : s.vm.findClass RX0 = some m.cls) (hK : va_K D vwCl (xT a) s) (hP : va_P D vwCl (xW a P O F B T K S) H) (hdg : decode cc pc = .ok (.getfield 13, 3)) (kk : W pg l e R s m args below meth c H locs cells slots Q (F0 m (pc + 3) ls (.ref (a.2.1 1) :: rest))) : W pg l e R s m args below meth c H locs cells slots Q (F0 m pc ls (.ref a.1 :: rest)) := va_get (D := D) (ci := 0) (v := .ref (a.2.1 1)) (C := RX0) (T := TX0) (N := 7) hexec hb hts in_X0 hown hK hP 0 rfl rfl 4 (by decide) (hts _ q44) (fun _ h9 => h9) rfl hdg kk
theorem xg_key (hexec : pg.tables.exec = Jvm.exec) (hb : c.code = cc) (hts : ∀ x ∈ lw_all, x.before args s = true) (hown : s.vm.findClass RX0 = some m.cls) (hK : va_K D vwCl (xT a) s) (hP : va_P D vwCl (xW a P O F B T K S) H) (hdg : decode cc pc = .ok (.getfield 16, 3)) (kk : W pg l e R s m args below meth c H locs cells slots Q (F0 m (pc + 3) ls (.ref (a.2.1 2) :: rest))) : W pg l e R s m args below meth c H locs cells slots Q (F0 m pc ls (.ref a.1 :: rest)) := va_get (D := D) (ci := 0) (v := .ref (a.2.1 2)) (C := RX0) (T := TX0) (N := 7) hexec hb hts in_X0 hown hK hP 0 rfl rfl 5 (by decide) (hts _ q45) (fun _ h9 => h9) rfl hdg kk
theorem xg_step (hexec : pg.tables.exec = Jvm.exec) (hb : c.code = cc) (hts : ∀ x ∈ lw_all, x.before args s = true) (hown : s.vm.findClass RX0 = some m.cls) (hK : va_K D vwCl (xT a) s) (hP : va_P D vwCl (xW a P O F B T K S) H) (hdg : decode cc pc = .ok (.getfield 19, 3)) (kk : W pg l e R s m args below meth c H locs cells slots Q (F0 m (pc + 3) ls (.ref (a.2.1 3) :: rest))) : W pg l e R s m args below meth c H locs cells slots Q (F0 m pc ls (.ref a.1 :: rest)) := va_get (D := D) (ci := 0) (v := .ref (a.2.1 3)) (C := RX0) (T := TX0) (N := 7) hexec hb hts in_X0 hown hK hP 0 rfl rfl 6 (by decide) (hts _ q46) (fun _ h9 => h9) rfl hdg kk
theorem xp_p (hexec : pg.tables.exec = Jvm.exec) (hb : c.code = cc) (hts : ∀ x ∈ lw_all, x.before args s = true) (hown : s.vm.findClass RX0 = some m.cls) (hK : va_K D vwCl (xT a) s) (hP : va_P D vwCl (xW a P O F B T K S) H) (hD : va_D A (xW a P O F B T K S)) (hS : va_S A s.heap H locs) {x : Int32} (hdg : decode cc pc = .ok (.putfield 22, 3)) (kk : ∀ (H1 : Heap) (locs1 : List Loc), va_P D vwCl (xW a x O F B T K S) H1 → va_D A (xW a x O F B T K S) → va_S A s.heap H1 locs1 → W pg l e R s m args below meth c H1 locs1 cells slots Q (F0 m (pc + 3) ls rest)) : W pg l e R s m args below meth c H locs cells slots Q (F0 m pc ls (.int x :: .ref a.1 :: rest)) := va_put (D := D) (ci := 0) (v := .int x) (ty := .int) (C := RX0) (T := TX0) (N := 7) hexec hb hts in_X0 tyX0 tyX0_ok nmX0 hown hK hP hD hS 0 rfl rfl 0 (by decide) (hts _ q40) (fun _ h9 => h9) rfl (by decide +kernel) rfl rfl (Nat.le_of_ble_eq_true rfl) hdg (fun H1 locs1 h1 h2 h3 => kk H1 locs1 h1 h2 h3)
theorem xp_order (hexec : pg.tables.exec = Jvm.exec) (hb : c.code = cc) (hts : ∀ x ∈ lw_all, x.before args s = true) (hown : s.vm.findClass RX0 = some m.cls) (hK : va_K D vwCl (xT a) s) (hP : va_P D vwCl (xW a P O F B T K S) H) (hD : va_D A (xW a P O F B T K S)) (hS : va_S A s.heap H locs) {x : Int32} (hdg : decode cc pc = .ok (.putfield 33, 3)) (kk : ∀ (H1 : Heap) (locs1 : List Loc), va_P D vwCl (xW a P x F B T K S) H1 → va_D A (xW a P x F B T K S) → va_S A s.heap H1 locs1 → W pg l e R s m args below meth c H1 locs1 cells slots Q (F0 m (pc + 3) ls rest)) : W pg l e R s m args below meth c H locs cells slots Q (F0 m pc ls (.int x :: .ref a.1 :: rest)) := va_put (D := D) (ci := 0) (v := .int x) (ty := .int) (C := RX0) (T := TX0) (N := 7) hexec hb hts in_X0 tyX0 tyX0_ok nmX0 hown hK hP hD hS 0 rfl rfl 1 (by decide) (hts _ q41) (fun _ h9 => h9) rfl (by decide +kernel) rfl rfl (Nat.le_of_ble_eq_true rfl) hdg (fun H1 locs1 h1 h2 h3 => kk H1 locs1 h1 h2 h3)
theorem xp_factors (hexec : pg.tables.exec = Jvm.exec) (hb : c.code = cc) (hts : ∀ x ∈ lw_all, x.before args s = true) (hown : s.vm.findClass RX0 = some m.cls) (hK : va_K D vwCl (xT a) s) (hP : va_P D vwCl (xW a P O F B T K S) H) (hD : va_D A (xW a P O F B T K S)) (hS : va_S A s.heap H locs) {x : Int32} (hdg : decode cc pc = .ok (.putfield 36, 3)) (kk : ∀ (H1 : Heap) (locs1 : List Loc), va_P D vwCl (xW a P O x B T K S) H1 → va_D A (xW a P O x B T K S) → va_S A s.heap H1 locs1 → W pg l e R s m args below meth c H1 locs1 cells slots Q (F0 m (pc + 3) ls rest)) : W pg l e R s m args below meth c H locs cells slots Q (F0 m pc ls (.int x :: .ref a.1 :: rest)) := va_put (D := D) (ci := 0) (v := .int x) (ty := .int) (C := RX0) (T := TX0) (N := 7) hexec hb hts in_X0 tyX0 tyX0_ok nmX0 hown hK hP hD hS 0 rfl rfl 2 (by decide) (hts _ q42) (fun _ h9 => h9) rfl (by decide +kernel) rfl rfl (Nat.le_of_ble_eq_true rfl) hdg (fun H1 locs1 h1 h2 h3 => kk H1 locs1 h1 h2 h3)
theorem xl_base (hexec : pg.tables.exec = Jvm.exec) (hb : c.code = cc) (hK : va_K D vwCl (xT a) s) (hP : va_P D vwCl (xW a P O F B T K S) H) {j : Nat} (hj : j < 5) (hdg : decode cc pc = .ok (.iaload, 1)) (kk : W pg l e R s m args below meth c H locs cells slots Q (F0 m (pc + 1) ls (.int (B j) :: rest))) : W pg l e R s m args below meth c H locs cells slots Q (F0 m pc ls (.int (nI j) :: .ref (a.2.1 0) :: rest)) := va_iald hexec hb hK hP 1 0 rfl rfl (vp_in_nI hj (by decide)) hdg (by rw [nI_clamp (by omega)]; exact kk)
theorem xs_base (hexec : pg.tables.exec = Jvm.exec) (hb : c.code = cc) (hK : va_K D vwCl (xT a) s) (hP : va_P D vwCl (xW a P O F B T K S) H) (hD : va_D A (xW a P O F B T K S)) (hS : va_S A s.heap H locs) {j : Nat} {x : Int32} (hj : j < 5) (hdg : decode cc pc = .ok (.iastore, 1)) (kk : ∀ (H1 : Heap) (locs1 : List Loc), va_P D vwCl (xW a P O F (upd B j x) T K S) H1 → va_D A (xW a P O F (upd B j x) T K S) → va_S A s.heap H1 locs1 → W pg l e R s m args below meth c H1 locs1 cells slots Q (F0 m (pc + 1) ls rest)) : W pg l e R s m args below meth c H locs cells slots Q (F0 m pc ls (.int x :: .int (nI j) :: .ref (a.2.1 0) :: rest)) := va_iast hexec hb hK hP hD hS 1 0 rfl rfl (vp_in_nI hj (by decide)) hdg (fun H1 locs1 h1 h2 h3 => by rw [nI_clamp (by omega)] at h1 h2; exact kk H1 locs1 h1 h2 h3)
theorem xl_times (hexec : pg.tables.exec = Jvm.exec) (hb : c.code = cc) (hK : va_K D vwCl (xT a) s) (hP : va_P D vwCl (xW a P O F B T K S) H) {j : Nat} (hj : j < 5) (hdg : decode cc pc = .ok (.iaload, 1)) (kk : W pg l e R s m args below meth c H locs cells slots Q (F0 m (pc + 1) ls (.int (T j) :: rest))) : W pg l e R s m args below meth c H locs cells slots Q (F0 m pc ls (.int (nI j) :: .ref (a.2.1 1) :: rest)) := va_iald hexec hb hK hP 2 1 rfl rfl (vp_in_nI hj (by decide)) hdg (by rw [nI_clamp (by omega)]; exact kk)
theorem xs_times (hexec : pg.tables.exec = Jvm.exec) (hb : c.code = cc) (hK : va_K D vwCl (xT a) s) (hP : va_P D vwCl (xW a P O F B T K S) H) (hD : va_D A (xW a P O F B T K S)) (hS : va_S A s.heap H locs) {j : Nat} {x : Int32} (hj : j < 5) (hdg : decode cc pc = .ok (.iastore, 1)) (kk : ∀ (H1 : Heap) (locs1 : List Loc), va_P D vwCl (xW a P O F B (upd T j x) K S) H1 → va_D A (xW a P O F B (upd T j x) K S) → va_S A s.heap H1 locs1 → W pg l e R s m args below meth c H1 locs1 cells slots Q (F0 m (pc + 1) ls rest)) : W pg l e R s m args below meth c H locs cells slots Q (F0 m pc ls (.int x :: .int (nI j) :: .ref (a.2.1 1) :: rest)) := va_iast hexec hb hK hP hD hS 2 1 rfl rfl (vp_in_nI hj (by decide)) hdg (fun H1 locs1 h1 h2 h3 => by rw [nI_clamp (by omega)] at h1 h2; exact kk H1 locs1 h1 h2 h3)
theorem xl_key (hexec : pg.tables.exec = Jvm.exec) (hb : c.code = cc) (hK : va_K D vwCl (xT a) s) (hP : va_P D vwCl (xW a P O F B T K S) H) {j : Nat} (hj : j < 128) (hdg : decode cc pc = .ok (.iaload, 1)) (kk : W pg l e R s m args below meth c H locs cells slots Q (F0 m (pc + 1) ls (.int (K j) :: rest))) : W pg l e R s m args below meth c H locs cells slots Q (F0 m pc ls (.int (nI j) :: .ref (a.2.1 2) :: rest)) := va_iald hexec hb hK hP 3 2 rfl rfl (vp_in_nI hj (by decide)) hdg (by rw [nI_clamp (by omega)]; exact kk)
theorem xs_key (hexec : pg.tables.exec = Jvm.exec) (hb : c.code = cc) (hK : va_K D vwCl (xT a) s) (hP : va_P D vwCl (xW a P O F B T K S) H) (hD : va_D A (xW a P O F B T K S)) (hS : va_S A s.heap H locs) {j : Nat} {x : Int32} (hj : j < 128) (hdg : decode cc pc = .ok (.iastore, 1)) (kk : ∀ (H1 : Heap) (locs1 : List Loc), va_P D vwCl (xW a P O F B T (upd K j x) S) H1 → va_D A (xW a P O F B T (upd K j x) S) → va_S A s.heap H1 locs1 → W pg l e R s m args below meth c H1 locs1 cells slots Q (F0 m (pc + 1) ls rest)) : W pg l e R s m args below meth c H locs cells slots Q (F0 m pc ls (.int x :: .int (nI j) :: .ref (a.2.1 2) :: rest)) := va_iast hexec hb hK hP hD hS 3 2 rfl rfl (vp_in_nI hj (by decide)) hdg (fun H1 locs1 h1 h2 h3 => by rw [nI_clamp (by omega)] at h1 h2; exact kk H1 locs1 h1 h2 h3)
theorem xl_step (hexec : pg.tables.exec = Jvm.exec) (hb : c.code = cc) (hK : va_K D vwCl (xT a) s) (hP : va_P D vwCl (xW a P O F B T K S) H) {j : Nat} (hj : j < 128) (hdg : decode cc pc = .ok (.iaload, 1)) (kk : W pg l e R s m args below meth c H locs cells slots Q (F0 m (pc + 1) ls (.int (S j) :: rest))) : W pg l e R s m args below meth c H locs cells slots Q (F0 m pc ls (.int (nI j) :: .ref (a.2.1 3) :: rest)) := va_iald hexec hb hK hP 4 3 rfl rfl (vp_in_nI hj (by decide)) hdg (by rw [nI_clamp (by omega)]; exact kk)
theorem xs_step (hexec : pg.tables.exec = Jvm.exec) (hb : c.code = cc) (hK : va_K D vwCl (xT a) s) (hP : va_P D vwCl (xW a P O F B T K S) H) (hD : va_D A (xW a P O F B T K S)) (hS : va_S A s.heap H locs) {j : Nat} {x : Int32} (hj : j < 128) (hdg : decode cc pc = .ok (.iastore, 1)) (kk : ∀ (H1 : Heap) (locs1 : List Loc), va_P D vwCl (xW a P O F B T K (upd S j x)) H1 → va_D A (xW a P O F B T K (upd S j x)) → va_S A s.heap H1 locs1 → W pg l e R s m args below meth c H1 locs1 cells slots Q (F0 m (pc + 1) ls rest)) : W pg l e R s m args below meth c H locs cells slots Q (F0 m pc ls (.int x :: .int (nI j) :: .ref (a.2.1 3) :: rest)) := va_iast hexec hb hK hP hD hS 4 3 rfl rfl (vp_in_nI hj (by decide)) hdg (fun H1 locs1 h1 h2 h3 => by rw [nI_clamp (by omega)] at h1 h2; exact kk H1 locs1 h1 h2 h3)
theorem yg_p (hexec : pg.tables.exec = Jvm.exec) (hb : c.code = cc) (hts : ∀ x ∈ lw_all, x.before args s = true) (hown : s.vm.findClass RX1 = some m.cls) (hK : va_K D vwCl (yT b) s) (hP : va_P D vwCl (yW b P M) H) (hdg : decode cc pc = .ok (.getfield 13, 3)) (kk : W pg l e R s m args below meth c H locs cells slots Q (F0 m (pc + 3) ls (.int P :: rest))) : W pg l e R s m args below meth c H locs cells slots Q (F0 m pc ls (.ref b.1 :: rest)) := va_get (D := D) (ci := 1) (v := .int P) (C := RX1) (T := TX1) (N := 2) hexec hb hts in_X1 hown hK hP 0 rfl rfl 0 (by decide) (hts _ q207) (fun _ h9 => h9) rfl hdg kk
theorem yg_marked (hexec : pg.tables.exec = Jvm.exec) (hb : c.code = cc) (hts : ∀ x ∈ lw_all, x.before args s = true) (hown : s.vm.findClass RX1 = some m.cls) (hK : va_K D vwCl (yT b) s) (hP : va_P D vwCl (yW b P M) H) (hdg : decode cc pc = .ok (.getfield 7, 3)) (kk : W pg l e R s m args below meth c H locs cells slots Q (F0 m (pc + 3) ls (.ref b.2.1 :: rest))) : W pg l e R s m args below meth c H locs cells slots Q (F0 m pc ls (.ref b.1 :: rest)) := va_get (D := D) (ci := 1) (v := .ref b.2.1) (C := RX1) (T := TX1) (N := 2) hexec hb hts in_X1 hown hK hP 0 rfl rfl 1 (by decide) (hts _ q208) (fun _ h9 => h9) rfl hdg kk
theorem yp_p (hexec : pg.tables.exec = Jvm.exec) (hb : c.code = cc) (hts : ∀ x ∈ lw_all, x.before args s = true) (hown : s.vm.findClass RX1 = some m.cls) (hK : va_K D vwCl (yT b) s) (hP : va_P D vwCl (yW b P M) H) (hD : va_D A (yW b P M)) (hS : va_S A s.heap H locs) {x : Int32} (hdg : decode cc pc = .ok (.putfield 13, 3)) (kk : ∀ (H1 : Heap) (locs1 : List Loc), va_P D vwCl (yW b x M) H1 → va_D A (yW b x M) → va_S A s.heap H1 locs1 → W pg l e R s m args below meth c H1 locs1 cells slots Q (F0 m (pc + 3) ls rest)) : W pg l e R s m args below meth c H locs cells slots Q (F0 m pc ls (.int x :: .ref b.1 :: rest)) := va_put (D := D) (ci := 1) (v := .int x) (ty := .int) (C := RX1) (T := TX1) (N := 2) hexec hb hts in_X1 tyX1 tyX1_ok nmX1 hown hK hP hD hS 0 rfl rfl 0 (by decide) (hts _ q207) (fun _ h9 => h9) rfl (by decide +kernel) rfl rfl (Nat.le_of_ble_eq_true rfl) hdg (fun H1 locs1 h1 h2 h3 => kk H1 locs1 h1 h2 h3)
theorem yl_marked (hexec : pg.tables.exec = Jvm.exec) (hb : c.code = cc) (hK : va_K D vwCl (yT b) s) (hP : va_P D vwCl (yW b P M) H) {j : Nat} (hj : j < 2040) (hdg : decode cc pc = .ok (.baload, 1)) (kk : W pg l e R s m args below meth c H locs cells slots Q (F0 m (pc + 1) ls (.int (M j) :: rest))) : W pg l e R s m args below meth c H locs cells slots Q (F0 m pc ls (.int (nI j) :: .ref b.2.1 :: rest)) := va_zald hexec hb hK hP 1 0 rfl rfl (vp_in_nI hj (by decide)) hdg (by rw [nI_clamp (by omega)]; exact kk)
theorem ys_marked (hexec : pg.tables.exec = Jvm.exec) (hb : c.code = cc) (hK : va_K D vwCl (yT b) s) (hP : va_P D vwCl (yW b P M) H) (hD : va_D A (yW b P M)) (hS : va_S A s.heap H locs) {j : Nat} {x : Int32} (hj : j < 2040) (hx : vp_nar .boolean x = x) (hdg : decode cc pc = .ok (.bastore, 1)) (kk : ∀ (H1 : Heap) (locs1 : List Loc), va_P D vwCl (yW b P (upd M j x)) H1 → va_D A (yW b P (upd M j x)) → va_S A s.heap H1 locs1 → W pg l e R s m args below meth c H1 locs1 cells slots Q (F0 m (pc + 1) ls rest)) : W pg l e R s m args below meth c H locs cells slots Q (F0 m pc ls (.int x :: .int (nI j) :: .ref b.2.1 :: rest)) := va_zast hexec hb hK hP hD hS 1 0 rfl rfl (vp_in_nI hj (by decide)) hdg (fun H1 locs1 h1 h2 h3 => by rw [nI_clamp (by omega), hx] at h1 h2; exact kk H1 locs1 h1 h2 h3)
end DO
end
section
set_option maxRecDepth 100000
def R_law : String := "DlogSolverLaw"
theorem cw_L_X0_prime {R : Room} {s : State} {args : Array Value} {rm : Room} (hts : ∀ x ∈ lw_all, x.before args s = true) (hc : rm.cells = 0) (hs : rm.slots = 0) (hR : rm.frames + 1 ≤ R.frames ∧ 8 + (4 + 11) + rm.locals ≤ R.locals) : CallW R s args R_law RX0 13 yX0_prime cX0_prime 4 (some .int) (ws_ yX0_prime cX0_prime 4 (some .int)) rm 0 0 1 := cwV 1 hts (lw_V q63 q64 q65 q26 q66) rfl hc hs (by decide +kernel) hR
theorem cw_L_X1_prime {R : Room} {s : State} {args : Array Value} {rm : Room} (hts : ∀ x ∈ lw_all, x.before args s = true) (hc : rm.cells = 0) (hs : rm.slots = 0) (hR : rm.frames + 1 ≤ R.frames ∧ 8 + (3 + 11) + rm.locals ≤ R.locals) : CallW R s args R_law RX1 17 yX1_prime cX1_prime 3 (some .int) (ws_ yX1_prime cX1_prime 3 (some .int)) rm 0 0 1 := cwV 1 hts (lw_V q215 q216 q217 q27 q218) rfl hc hs (by decide +kernel) hR
theorem cw_L_X0_modulus {R : Room} {s : State} {args : Array Value} {rm : Room} (hts : ∀ x ∈ lw_all, x.before args s = true) (hc : rm.cells = 0) (hs : rm.slots = 0) (hR : rm.frames + 1 ≤ R.frames ∧ 8 + (1 + 11) + rm.locals ≤ R.locals) : CallW R s args R_law RX0 18 yX0_modulus cX0_modulus 1 (some .int) (ws_ yX0_modulus cX0_modulus 1 (some .int)) rm 0 0 0 := cwV 0 hts (lw_V q71 q72 q73 q26 q74) rfl hc hs (by decide +kernel) hR
theorem cw_L_X1_modulus {R : Room} {s : State} {args : Array Value} {rm : Room} (hts : ∀ x ∈ lw_all, x.before args s = true) (hc : rm.cells = 0) (hs : rm.slots = 0) (hR : rm.frames + 1 ≤ R.frames ∧ 8 + (1 + 11) + rm.locals ≤ R.locals) : CallW R s args R_law RX1 22 yX1_modulus cX1_modulus 1 (some .int) (ws_ yX1_modulus cX1_modulus 1 (some .int)) rm 0 0 0 := cwV 0 hts (lw_V q223 q224 q225 q27 q226) rfl hc hs (by decide +kernel) hR
theorem cw_L_X0_nextPrime {R : Room} {s : State} {args : Array Value} {rm : Room} (hts : ∀ x ∈ lw_all, x.before args s = true) (hc : rm.cells = 0) (hs : rm.slots = 0) (hR : rm.frames + 1 ≤ R.frames ∧ 8 + (3 + 11) + rm.locals ≤ R.locals) : CallW R s args R_law RX0 23 yX0_nextPrime cX0_nextPrime 3 (some .int) (ws_ yX0_nextPrime cX0_nextPrime 3 (some .int)) rm 0 0 0 := cwV 0 hts (lw_V q75 q76 q77 q26 q78) rfl hc hs (by decide +kernel) hR
theorem cw_L_X1_nextPrime {R : Room} {s : State} {args : Array Value} {rm : Room} (hts : ∀ x ∈ lw_all, x.before args s = true) (hc : rm.cells = 0) (hs : rm.slots = 0) (hR : rm.frames + 1 ≤ R.frames ∧ 8 + (2 + 11) + rm.locals ≤ R.locals) : CallW R s args R_law RX1 26 yX1_nextPrime cX1_nextPrime 2 (some .int) (ws_ yX1_nextPrime cX1_nextPrime 2 (some .int)) rm 0 0 0 := cwV 0 hts (lw_V q227 q228 q229 q27 q230) rfl hc hs (by decide +kernel) hR
theorem cw_L_X0_power {R : Room} {s : State} {args : Array Value} {rm : Room} (hts : ∀ x ∈ lw_all, x.before args s = true) (hc : rm.cells = 0) (hs : rm.slots = 0) (hR : rm.frames + 1 ≤ R.frames ∧ 8 + (3 + 11) + rm.locals ≤ R.locals) : CallW R s args R_law RX0 27 yX0_power cX0_power 3 (some .int) (ws_ yX0_power cX0_power 3 (some .int)) rm 0 0 2 := cwV 2 hts (lw_V q79 q80 q81 q26 q82) rfl hc hs (by decide +kernel) hR
theorem cw_L_X1_power {R : Room} {s : State} {args : Array Value} {rm : Room} (hts : ∀ x ∈ lw_all, x.before args s = true) (hc : rm.cells = 0) (hs : rm.slots = 0) (hR : rm.frames + 1 ≤ R.frames ∧ 8 + (3 + 11) + rm.locals ≤ R.locals) : CallW R s args R_law RX1 31 yX1_power cX1_power 3 (some .int) (ws_ yX1_power cX1_power 3 (some .int)) rm 0 0 2 := cwV 2 hts (lw_V q231 q232 q233 q27 q234) rfl hc hs (by decide +kernel) hR
theorem cw_L_X0_inverse {R : Room} {s : State} {args : Array Value} {rm : Room} (hts : ∀ x ∈ lw_all, x.before args s = true) (hc : rm.cells = 0) (hs : rm.slots = 0) (hR : rm.frames + 1 ≤ R.frames ∧ 8 + (2 + 11) + rm.locals ≤ R.locals) : CallW R s args R_law RX0 32 yX0_inverse cX0_inverse 2 (some .int) (ws_ yX0_inverse cX0_inverse 2 (some .int)) rm 0 0 1 := cwV 1 hts (lw_V q96 q97 q98 q26 q99) rfl hc hs (by decide +kernel) hR
theorem cw_L_X1_inverse {R : Room} {s : State} {args : Array Value} {rm : Room} (hts : ∀ x ∈ lw_all, x.before args s = true) (hc : rm.cells = 0) (hs : rm.slots = 0) (hR : rm.frames + 1 ≤ R.frames ∧ 8 + (4 + 11) + rm.locals ≤ R.locals) : CallW R s args R_law RX1 35 yX1_inverse cX1_inverse 4 (some .int) (ws_ yX1_inverse cX1_inverse 4 (some .int)) rm 0 0 1 := cwV 1 hts (lw_V q244 q245 q246 q27 q247) rfl hc hs (by decide +kernel) hR
theorem cw_L_X0_order {R : Room} {s : State} {args : Array Value} {rm : Room} (hts : ∀ x ∈ lw_all, x.before args s = true) (hc : rm.cells = 0) (hs : rm.slots = 0) (hR : rm.frames + 1 ≤ R.frames ∧ 8 + (2 + 11) + rm.locals ≤ R.locals) : CallW R s args R_law RX0 36 yX0_order cX0_order 2 (some .int) (ws_ yX0_order cX0_order 2 (some .int)) rm 0 0 1 := cwV 1 hts (lw_V q104 q105 q106 q26 q107) rfl hc hs (by decide +kernel) hR
theorem cw_L_X1_order {R : Room} {s : State} {args : Array Value} {rm : Room} (hts : ∀ x ∈ lw_all, x.before args s = true) (hc : rm.cells = 0) (hs : rm.slots = 0) (hR : rm.frames + 1 ≤ R.frames ∧ 8 + (2 + 11) + rm.locals ≤ R.locals) : CallW R s args R_law RX1 39 yX1_order cX1_order 2 (some .int) (ws_ yX1_order cX1_order 2 (some .int)) rm 0 0 1 := cwV 1 hts (lw_V q248 q249 q250 q27 q251) rfl hc hs (by decide +kernel) hR
theorem cw_L_X0_generator {R : Room} {s : State} {args : Array Value} {rm : Room} (hts : ∀ x ∈ lw_all, x.before args s = true) (hc : rm.cells = 0) (hs : rm.slots = 0) (hR : rm.frames + 1 ≤ R.frames ∧ 8 + (3 + 11) + rm.locals ≤ R.locals) : CallW R s args R_law RX0 40 yX0_generator cX0_generator 3 (some .int) (ws_ yX0_generator cX0_generator 3 (some .int)) rm 0 0 0 := cwV 0 hts (lw_V q112 q113 q114 q26 q115) rfl hc hs (by decide +kernel) hR
theorem cw_L_X1_generator {R : Room} {s : State} {args : Array Value} {rm : Room} (hts : ∀ x ∈ lw_all, x.before args s = true) (hc : rm.cells = 0) (hs : rm.slots = 0) (hR : rm.frames + 1 ≤ R.frames ∧ 8 + (1 + 11) + rm.locals ≤ R.locals) : CallW R s args R_law RX1 43 yX1_generator cX1_generator 1 (some .int) (ws_ yX1_generator cX1_generator 1 (some .int)) rm 0 0 0 := cwV 0 hts (lw_V q256 q257 q258 q27 q259) rfl hc hs (by decide +kernel) hR
theorem cw_L_X0_generators {R : Room} {s : State} {args : Array Value} {rm : Room} (hts : ∀ x ∈ lw_all, x.before args s = true) (hc : rm.cells = 0) (hs : rm.slots = 0) (hR : rm.frames + 1 ≤ R.frames ∧ 8 + (1 + 11) + rm.locals ≤ R.locals) : CallW R s args R_law RX0 44 yX0_generators cX0_generators 1 (some .int) (ws_ yX0_generators cX0_generators 1 (some .int)) rm 0 0 0 := cwV 0 hts (lw_V q120 q121 q122 q26 q123) rfl hc hs (by decide +kernel) hR
theorem cw_L_X1_generators {R : Room} {s : State} {args : Array Value} {rm : Room} (hts : ∀ x ∈ lw_all, x.before args s = true) (hc : rm.cells = 0) (hs : rm.slots = 0) (hR : rm.frames + 1 ≤ R.frames ∧ 8 + (1 + 11) + rm.locals ≤ R.locals) : CallW R s args R_law RX1 47 yX1_generators cX1_generators 1 (some .int) (ws_ yX1_generators cX1_generators 1 (some .int)) rm 0 0 0 := cwV 0 hts (lw_V q264 q265 q266 q27 q267) rfl hc hs (by decide +kernel) hR
theorem cw_L_X0_log {R : Room} {s : State} {args : Array Value} {rm : Room} (hts : ∀ x ∈ lw_all, x.before args s = true) (hc : rm.cells = 0) (hs : rm.slots = 0) (hR : rm.frames + 1 ≤ R.frames ∧ 8 + (3 + 11) + rm.locals ≤ R.locals) : CallW R s args R_law RX0 48 yX0_log cX0_log 3 (some .int) (ws_ yX0_log cX0_log 3 (some .int)) rm 0 0 2 := cwV 2 hts (lw_V q128 q129 q130 q26 q131) rfl hc hs (by decide +kernel) hR
theorem cw_L_X1_log {R : Room} {s : State} {args : Array Value} {rm : Room} (hts : ∀ x ∈ lw_all, x.before args s = true) (hc : rm.cells = 0) (hs : rm.slots = 0) (hR : rm.frames + 1 ≤ R.frames ∧ 8 + (5 + 11) + rm.locals ≤ R.locals) : CallW R s args R_law RX1 51 yX1_log cX1_log 5 (some .int) (ws_ yX1_log cX1_log 5 (some .int)) rm 0 0 2 := cwV 2 hts (lw_V q272 q273 q274 q27 q275) rfl hc hs (by decide +kernel) hR
theorem cw_L_X0_root {R : Room} {s : State} {args : Array Value} {rm : Room} (hts : ∀ x ∈ lw_all, x.before args s = true) (hc : rm.cells = 0) (hs : rm.slots = 0) (hR : rm.frames + 1 ≤ R.frames ∧ 8 + (13 + 11) + rm.locals ≤ R.locals) : CallW R s args R_law RX0 52 yX0_root cX0_root 13 (some .int) (ws_ yX0_root cX0_root 13 (some .int)) rm 0 0 2 := cwV 2 hts (lw_V q168 q169 q170 q26 q171) rfl hc hs (by decide +kernel) hR
theorem cw_L_X1_root {R : Room} {s : State} {args : Array Value} {rm : Room} (hts : ∀ x ∈ lw_all, x.before args s = true) (hc : rm.cells = 0) (hs : rm.slots = 0) (hR : rm.frames + 1 ≤ R.frames ∧ 8 + (4 + 11) + rm.locals ≤ R.locals) : CallW R s args R_law RX1 55 yX1_root cX1_root 4 (some .int) (ws_ yX1_root cX1_root 4 (some .int)) rm 0 0 2 := cwV 2 hts (lw_V q276 q277 q278 q27 q279) rfl hc hs (by decide +kernel) hR
theorem cw_L_X0_roots {R : Room} {s : State} {args : Array Value} {rm : Room} (hts : ∀ x ∈ lw_all, x.before args s = true) (hc : rm.cells = 0) (hs : rm.slots = 0) (hR : rm.frames + 1 ≤ R.frames ∧ 8 + (5 + 11) + rm.locals ≤ R.locals) : CallW R s args R_law RX0 56 yX0_roots cX0_roots 5 (some .int) (ws_ yX0_roots cX0_roots 5 (some .int)) rm 0 0 2 := cwV 2 hts (lw_V q181 q182 q183 q26 q184) rfl hc hs (by decide +kernel) hR
theorem cw_L_X1_roots {R : Room} {s : State} {args : Array Value} {rm : Room} (hts : ∀ x ∈ lw_all, x.before args s = true) (hc : rm.cells = 0) (hs : rm.slots = 0) (hR : rm.frames + 1 ≤ R.frames ∧ 8 + (5 + 11) + rm.locals ≤ R.locals) : CallW R s args R_law RX1 59 yX1_roots cX1_roots 5 (some .int) (ws_ yX1_roots cX1_roots 5 (some .int)) rm 0 0 2 := cwV 2 hts (lw_V q284 q285 q286 q27 q287) rfl hc hs (by decide +kernel) hR
theorem cw_L_X0_logWith {R : Room} {s : State} {args : Array Value} {rm : Room} (hts : ∀ x ∈ lw_all, x.before args s = true) (hc : rm.cells = 0) (hs : rm.slots = 0) (hR : rm.frames + 1 ≤ R.frames ∧ 8 + (12 + 11) + rm.locals ≤ R.locals) : CallW R s args R_law RX0 60 yX0_logWith cX0_logWith 12 (some .int) (ws_ yX0_logWith cX0_logWith 12 (some .int)) rm 0 0 4 := cwV 4 hts (lw_V q185 q186 q187 q26 q188) rfl hc hs (by decide +kernel) hR
theorem cw_L_X1_logWith {R : Room} {s : State} {args : Array Value} {rm : Room} (hts : ∀ x ∈ lw_all, x.before args s = true) (hc : rm.cells = 0) (hs : rm.slots = 0) (hR : rm.frames + 1 ≤ R.frames ∧ 8 + (7 + 11) + rm.locals ≤ R.locals) : CallW R s args R_law RX1 64 yX1_logWith cX1_logWith 7 (some .int) (ws_ yX1_logWith cX1_logWith 7 (some .int)) rm 0 0 4 := cwV 4 hts (lw_V q288 q289 q290 q27 q291) rfl hc hs (by decide +kernel) hR
theorem cw_L_X0_common {R : Room} {s : State} {args : Array Value} {rm : Room} (hts : ∀ x ∈ lw_all, x.before args s = true) (hc : rm.cells = 0) (hs : rm.slots = 0) (hR : rm.frames + 1 ≤ R.frames ∧ 8 + (5 + 11) + rm.locals ≤ R.locals) : CallW R s args R_law RX0 65 yX0_common cX0_common 5 (some .int) (ws_ yX0_common cX0_common 5 (some .int)) rm 0 0 2 := cwV 2 hts (lw_V q189 q190 q191 q26 q192) rfl hc hs (by decide +kernel) hR
theorem cw_L_X1_common {R : Room} {s : State} {args : Array Value} {rm : Room} (hts : ∀ x ∈ lw_all, x.before args s = true) (hc : rm.cells = 0) (hs : rm.slots = 0) (hR : rm.frames + 1 ≤ R.frames ∧ 8 + (7 + 11) + rm.locals ≤ R.locals) : CallW R s args R_law RX1 68 yX1_common cX1_common 7 (some .int) (ws_ yX1_common cX1_common 7 (some .int)) rm 0 0 2 := cwV 2 hts (lw_V q292 q293 q294 q27 q295) rfl hc hs (by decide +kernel) hR
theorem cw_L_X0_unitOfOrder {R : Room} {s : State} {args : Array Value} {rm : Room} (hts : ∀ x ∈ lw_all, x.before args s = true) (hc : rm.cells = 0) (hs : rm.slots = 0) (hR : rm.frames + 1 ≤ R.frames ∧ 8 + (8 + 11) + rm.locals ≤ R.locals) : CallW R s args R_law RX0 69 yX0_unitOfOrder cX0_unitOfOrder 8 (some .int) (ws_ yX0_unitOfOrder cX0_unitOfOrder 8 (some .int)) rm 0 0 1 := cwV 1 hts (lw_V q193 q194 q195 q26 q196) rfl hc hs (by decide +kernel) hR
theorem cw_L_X1_unitOfOrder {R : Room} {s : State} {args : Array Value} {rm : Room} (hts : ∀ x ∈ lw_all, x.before args s = true) (hc : rm.cells = 0) (hs : rm.slots = 0) (hR : rm.frames + 1 ≤ R.frames ∧ 8 + (3 + 11) + rm.locals ≤ R.locals) : CallW R s args R_law RX1 72 yX1_unitOfOrder cX1_unitOfOrder 3 (some .int) (ws_ yX1_unitOfOrder cX1_unitOfOrder 3 (some .int)) rm 0 0 1 := cwV 1 hts (lw_V q296 q261 q262 q27 q263) rfl hc hs (by decide +kernel) hR
theorem cw_L_X0_unitsOfOrder {R : Room} {s : State} {args : Array Value} {rm : Room} (hts : ∀ x ∈ lw_all, x.before args s = true) (hc : rm.cells = 0) (hs : rm.slots = 0) (hR : rm.frames + 1 ≤ R.frames ∧ 8 + (2 + 11) + rm.locals ≤ R.locals) : CallW R s args R_law RX0 73 yX0_unitsOfOrder cX0_unitsOfOrder 2 (some .int) (ws_ yX0_unitsOfOrder cX0_unitsOfOrder 2 (some .int)) rm 0 0 1 := cwV 1 hts (lw_V q197 q198 q199 q26 q200) rfl hc hs (by decide +kernel) hR
theorem cw_L_X1_unitsOfOrder {R : Room} {s : State} {args : Array Value} {rm : Room} (hts : ∀ x ∈ lw_all, x.before args s = true) (hc : rm.cells = 0) (hs : rm.slots = 0) (hR : rm.frames + 1 ≤ R.frames ∧ 8 + (4 + 11) + rm.locals ≤ R.locals) : CallW R s args R_law RX1 76 yX1_unitsOfOrder cX1_unitsOfOrder 4 (some .int) (ws_ yX1_unitsOfOrder cX1_unitsOfOrder 4 (some .int)) rm 0 0 1 := cwV 1 hts (lw_V q297 q269 q270 q27 q271) rfl hc hs (by decide +kernel) hR
theorem cw_X0_factor {R : Room} {s : State} {args : Array Value} {rm : Room} (hts : ∀ x ∈ lw_all, x.before args s = true) (hc : rm.cells = 0) (hs : rm.slots = 0) (hR : rm.frames + 1 ≤ R.frames ∧ 8 + (4 + 11) + rm.locals ≤ R.locals) : CallW R s args RX0 RX0 26 yX0_factor cX0_factor 4 none (ws_ yX0_factor cX0_factor 4 none) rm 0 0 0 := cwV 0 hts (lw_V q36 q38 qs0 q26 q39) rfl hc hs (by decide +kernel) hR
theorem cw_X0_isPrime {R : Room} {s : State} {args : Array Value} {rm : Room} (hts : ∀ x ∈ lw_all, x.before args s = true) (hc : rm.cells = 0) (hs : rm.slots = 0) (hR : rm.frames + 1 ≤ R.frames ∧ 8 + (3 + 11) + rm.locals ≤ R.locals) : CallW R s args RX0 RX0 29 yX0_isPrime cX0_isPrime 3 (some .boolean) (ws_ yX0_isPrime cX0_isPrime 3 (some .boolean)) rm 0 0 1 := cwV 1 hts (lw_V q67 q69 qs1 q26 q70) rfl hc hs (by decide +kernel) hR
theorem cw_X0_mul {R : Room} {s : State} {args : Array Value} {rm : Room} (hts : ∀ x ∈ lw_all, x.before args s = true) (hc : rm.cells = 0) (hs : rm.slots = 0) (hR : rm.frames + 1 ≤ R.frames ∧ 8 + (3 + 11) + rm.locals ≤ R.locals) : CallW R s args RX0 RX0 39 yX0_mul cX0_mul 3 (some .int) (ws_ yX0_mul cX0_mul 3 (some .int)) rm 0 0 2 := cwV 2 hts (lw_V q92 q94 qs4 q26 q95) rfl hc hs (by decide +kernel) hR
theorem cw_X0_notUnit {R : Room} {s : State} {args : Array Value} {rm : Room} (hts : ∀ x ∈ lw_all, x.before args s = true) (hc : rm.cells = 0) (hs : rm.slots = 0) (hR : rm.frames + 1 ≤ R.frames ∧ 8 + (2 + 11) + rm.locals ≤ R.locals) : CallW R s args RX0 RX0 43 yX0_notUnit cX0_notUnit 2 (some .boolean) (ws_ yX0_notUnit cX0_notUnit 2 (some .boolean)) rm 0 0 1 := cwV 1 hts (lw_V q83 q85 qs2 q26 q86) rfl hc hs (by decide +kernel) hR
theorem cw_X0_pow {R : Room} {s : State} {args : Array Value} {rm : Room} (hts : ∀ x ∈ lw_all, x.before args s = true) (hc : rm.cells = 0) (hs : rm.slots = 0) (hR : rm.frames + 1 ≤ R.frames ∧ 8 + (6 + 11) + rm.locals ≤ R.locals) : CallW R s args RX0 RX0 47 yX0_pow cX0_pow 6 (some .int) (ws_ yX0_pow cX0_pow 6 (some .int)) rm 0 0 2 := cwV 2 hts (lw_V q88 q90 qs3 q26 q91) rfl hc hs (by decide +kernel) hR
theorem cw_X0_invert {R : Room} {s : State} {args : Array Value} {rm : Room} (hts : ∀ x ∈ lw_all, x.before args s = true) (hc : rm.cells = 0) (hs : rm.slots = 0) (hR : rm.frames + 1 ≤ R.frames ∧ 8 + (2 + 11) + rm.locals ≤ R.locals) : CallW R s args RX0 RX0 50 yX0_invert cX0_invert 2 (some .int) (ws_ yX0_invert cX0_invert 2 (some .int)) rm 0 0 1 := cwV 1 hts (lw_V q100 q102 qs5 q26 q103) rfl hc hs (by decide +kernel) hR
theorem cw_X0_orderOf {R : Room} {s : State} {args : Array Value} {rm : Room} (hts : ∀ x ∈ lw_all, x.before args s = true) (hc : rm.cells = 0) (hs : rm.slots = 0) (hR : rm.frames + 1 ≤ R.frames ∧ 8 + (9 + 11) + rm.locals ≤ R.locals) : CallW R s args RX0 RX0 54 yX0_orderOf cX0_orderOf 9 (some .int) (ws_ yX0_orderOf cX0_orderOf 9 (some .int)) rm 0 0 1 := cwV 1 hts (lw_V q108 q110 qs6 q26 q111) rfl hc hs (by decide +kernel) hR
theorem cw_X0_generates {R : Room} {s : State} {args : Array Value} {rm : Room} (hts : ∀ x ∈ lw_all, x.before args s = true) (hc : rm.cells = 0) (hs : rm.slots = 0) (hR : rm.frames + 1 ≤ R.frames ∧ 8 + (4 + 11) + rm.locals ≤ R.locals) : CallW R s args RX0 RX0 57 yX0_generates cX0_generates 4 (some .boolean) (ws_ yX0_generates cX0_generates 4 (some .boolean)) rm 0 0 1 := cwV 1 hts (lw_V q116 q118 qs7 q26 q119) rfl hc hs (by decide +kernel) hR
theorem cw_X0_totient {R : Room} {s : State} {args : Array Value} {rm : Room} (hts : ∀ x ∈ lw_all, x.before args s = true) (hc : rm.cells = 0) (hs : rm.slots = 0) (hR : rm.frames + 1 ≤ R.frames ∧ 8 + (4 + 11) + rm.locals ≤ R.locals) : CallW R s args RX0 RX0 60 yX0_totient cX0_totient 4 (some .int) (ws_ yX0_totient cX0_totient 4 (some .int)) rm 0 0 1 := cwV 1 hts (lw_V q124 q126 qs8 q26 q127) rfl hc hs (by decide +kernel) hR
theorem cw_X0_clearTable {R : Room} {s : State} {args : Array Value} {rm : Room} (hts : ∀ x ∈ lw_all, x.before args s = true) (hc : rm.cells = 0) (hs : rm.slots = 0) (hR : rm.frames + 1 ≤ R.frames ∧ 8 + (2 + 11) + rm.locals ≤ R.locals) : CallW R s args RX0 RX0 63 yX0_clearTable cX0_clearTable 2 none (ws_ yX0_clearTable cX0_clearTable 2 none) rm 0 0 0 := cwV 0 hts (lw_V q144 q146 qs12 q26 q147) rfl hc hs (by decide +kernel) hR
theorem cw_X0_rootUp {R : Room} {s : State} {args : Array Value} {rm : Room} (hts : ∀ x ∈ lw_all, x.before args s = true) (hc : rm.cells = 0) (hs : rm.slots = 0) (hR : rm.frames + 1 ≤ R.frames ∧ 8 + (4 + 11) + rm.locals ≤ R.locals) : CallW R s args RX0 RX0 66 yX0_rootUp cX0_rootUp 4 (some .int) (ws_ yX0_rootUp cX0_rootUp 4 (some .int)) rm 0 0 1 := cwV 1 hts (lw_V q148 q150 qs13 q26 q151) rfl hc hs (by decide +kernel) hR
theorem cw_X0_cellOf {R : Room} {s : State} {args : Array Value} {rm : Room} (hts : ∀ x ∈ lw_all, x.before args s = true) (hc : rm.cells = 0) (hs : rm.slots = 0) (hR : rm.frames + 1 ≤ R.frames ∧ 8 + (4 + 11) + rm.locals ≤ R.locals) : CallW R s args RX0 RX0 69 yX0_cellOf cX0_cellOf 4 (some .int) (ws_ yX0_cellOf cX0_cellOf 4 (some .int)) rm 0 0 1 := cwV 1 hts (lw_V q152 q154 qs14 q26 q155) rfl hc hs (by decide +kernel) hR
theorem cw_X0_smallLog {R : Room} {s : State} {args : Array Value} {rm : Room} (hts : ∀ x ∈ lw_all, x.before args s = true) (hc : rm.cells = 0) (hs : rm.slots = 0) (hR : rm.frames + 1 ≤ R.frames ∧ 8 + (10 + 11) + rm.locals ≤ R.locals) : CallW R s args RX0 RX0 72 yX0_smallLog cX0_smallLog 10 (some .int) (ws_ yX0_smallLog cX0_smallLog 10 (some .int)) rm 0 0 3 := cwV 3 hts (lw_V q140 q142 qs11 q26 q143) rfl hc hs (by decide +kernel) hR
theorem cw_X0_powerLog {R : Room} {s : State} {args : Array Value} {rm : Room} (hts : ∀ x ∈ lw_all, x.before args s = true) (hc : rm.cells = 0) (hs : rm.slots = 0) (hR : rm.frames + 1 ≤ R.frames ∧ 8 + (16 + 11) + rm.locals ≤ R.locals) : CallW R s args RX0 RX0 76 yX0_powerLog cX0_powerLog 16 (some .int) (ws_ yX0_powerLog cX0_powerLog 16 (some .int)) rm 0 0 4 := cwV 4 hts (lw_V q136 q138 qs10 q26 q139) rfl hc hs (by decide +kernel) hR
theorem cw_X0_join {R : Room} {s : State} {args : Array Value} {rm : Room} (hts : ∀ x ∈ lw_all, x.before args s = true) (hc : rm.cells = 0) (hs : rm.slots = 0) (hR : rm.frames + 1 ≤ R.frames ∧ 8 + (8 + 11) + rm.locals ≤ R.locals) : CallW R s args RX0 RX0 80 yX0_join cX0_join 8 (some .int) (ws_ yX0_join cX0_join 8 (some .int)) rm 0 0 4 := cwV 4 hts (lw_V q156 q158 qs15 q26 q159) rfl hc hs (by decide +kernel) hR
theorem cw_X0_invertBy {R : Room} {s : State} {args : Array Value} {rm : Room} (hts : ∀ x ∈ lw_all, x.before args s = true) (hc : rm.cells = 0) (hs : rm.slots = 0) (hR : rm.frames + 1 ≤ R.frames ∧ 8 + (11 + 11) + rm.locals ≤ R.locals) : CallW R s args RX0 RX0 83 yX0_invertBy cX0_invertBy 11 (some .int) (ws_ yX0_invertBy cX0_invertBy 11 (some .int)) rm 0 0 2 := cwV 2 hts (lw_V q160 q162 qs16 q26 q163) rfl hc hs (by decide +kernel) hR
theorem cw_X0_timesBy {R : Room} {s : State} {args : Array Value} {rm : Room} (hts : ∀ x ∈ lw_all, x.before args s = true) (hc : rm.cells = 0) (hs : rm.slots = 0) (hR : rm.frames + 1 ≤ R.frames ∧ 8 + (6 + 11) + rm.locals ≤ R.locals) : CallW R s args RX0 RX0 86 yX0_timesBy cX0_timesBy 6 (some .int) (ws_ yX0_timesBy cX0_timesBy 6 (some .int)) rm 0 0 3 := cwV 3 hts (lw_V q164 q166 qs17 q26 q167) rfl hc hs (by decide +kernel) hR
theorem cw_X0_leastLog {R : Room} {s : State} {args : Array Value} {rm : Room} (hts : ∀ x ∈ lw_all, x.before args s = true) (hc : rm.cells = 0) (hs : rm.slots = 0) (hR : rm.frames + 1 ≤ R.frames ∧ 8 + (14 + 11) + rm.locals ≤ R.locals) : CallW R s args RX0 RX0 89 yX0_leastLog cX0_leastLog 14 (some .int) (ws_ yX0_leastLog cX0_leastLog 14 (some .int)) rm 0 0 2 := cwV 2 hts (lw_V q132 q134 qs9 q26 q135) rfl hc hs (by decide +kernel) hR
theorem cw_X0_badRoot {R : Room} {s : State} {args : Array Value} {rm : Room} (hts : ∀ x ∈ lw_all, x.before args s = true) (hc : rm.cells = 0) (hs : rm.slots = 0) (hR : rm.frames + 1 ≤ R.frames ∧ 8 + (3 + 11) + rm.locals ≤ R.locals) : CallW R s args RX0 RX0 92 yX0_badRoot cX0_badRoot 3 (some .boolean) (ws_ yX0_badRoot cX0_badRoot 3 (some .boolean)) rm 0 0 2 := cwV 2 hts (lw_V q172 q174 qs18 q26 q175) rfl hc hs (by decide +kernel) hR
theorem cw_X0_generator {R : Room} {s : State} {args : Array Value} {rm : Room} (hts : ∀ x ∈ lw_all, x.before args s = true) (hc : rm.cells = 0) (hs : rm.slots = 0) (hR : rm.frames + 1 ≤ R.frames ∧ 8 + (3 + 11) + rm.locals ≤ R.locals) : CallW R s args RX0 RX0 96 yX0_generator cX0_generator 3 (some .int) (ws_ yX0_generator cX0_generator 3 (some .int)) rm 0 0 0 := cwV 0 hts (lw_V q176 q113 q114 q26 q115) rfl hc hs (by decide +kernel) hR
theorem cw_X0_gcd {R : Room} {s : State} {args : Array Value} {rm : Room} (hts : ∀ x ∈ lw_all, x.before args s = true) (hc : rm.cells = 0) (hs : rm.slots = 0) (hR : rm.frames + 1 ≤ R.frames ∧ 8 + (7 + 11) + rm.locals ≤ R.locals) : CallW R s args RX0 RX0 100 yX0_gcd cX0_gcd 7 (some .int) (ws_ yX0_gcd cX0_gcd 7 (some .int)) rm 0 0 2 := cwV 2 hts (lw_V q177 q179 qs19 q26 q180) rfl hc hs (by decide +kernel) hR
theorem cw_X1_isPrime {R : Room} {s : State} {args : Array Value} {rm : Room} (hts : ∀ x ∈ lw_all, x.before args s = true) (hc : rm.cells = 0) (hs : rm.slots = 0) (hR : rm.frames + 1 ≤ R.frames ∧ 8 + (3 + 11) + rm.locals ≤ R.locals) : CallW R s args RX1 RX1 17 yX1_isPrime cX1_isPrime 3 (some .boolean) (ws_ yX1_isPrime cX1_isPrime 3 (some .boolean)) rm 0 0 1 := cwV 1 hts (lw_V q219 q221 qs20 q27 q222) rfl hc hs (by decide +kernel) hR
theorem cw_X1_isUnit {R : Room} {s : State} {args : Array Value} {rm : Room} (hts : ∀ x ∈ lw_all, x.before args s = true) (hc : rm.cells = 0) (hs : rm.slots = 0) (hR : rm.frames + 1 ≤ R.frames ∧ 8 + (2 + 11) + rm.locals ≤ R.locals) : CallW R s args RX1 RX1 21 yX1_isUnit cX1_isUnit 2 (some .boolean) (ws_ yX1_isUnit cX1_isUnit 2 (some .boolean)) rm 0 0 1 := cwV 1 hts (lw_V q235 q237 qs21 q27 q238) rfl hc hs (by decide +kernel) hR
theorem cw_X1_raised {R : Room} {s : State} {args : Array Value} {rm : Room} (hts : ∀ x ∈ lw_all, x.before args s = true) (hc : rm.cells = 0) (hs : rm.slots = 0) (hR : rm.frames + 1 ≤ R.frames ∧ 8 + (5 + 11) + rm.locals ≤ R.locals) : CallW R s args RX1 RX1 25 yX1_raised cX1_raised 5 (some .int) (ws_ yX1_raised cX1_raised 5 (some .int)) rm 0 0 2 := cwV 2 hts (lw_V q240 q242 qs22 q27 q243) rfl hc hs (by decide +kernel) hR
theorem cw_X1_orderOf {R : Room} {s : State} {args : Array Value} {rm : Room} (hts : ∀ x ∈ lw_all, x.before args s = true) (hc : rm.cells = 0) (hs : rm.slots = 0) (hR : rm.frames + 1 ≤ R.frames ∧ 8 + (4 + 11) + rm.locals ≤ R.locals) : CallW R s args RX1 RX1 29 yX1_orderOf cX1_orderOf 4 (some .int) (ws_ yX1_orderOf cX1_orderOf 4 (some .int)) rm 0 0 1 := cwV 1 hts (lw_V q252 q254 qs23 q27 q255) rfl hc hs (by decide +kernel) hR
theorem cw_X1_unitOfOrder {R : Room} {s : State} {args : Array Value} {rm : Room} (hts : ∀ x ∈ lw_all, x.before args s = true) (hc : rm.cells = 0) (hs : rm.slots = 0) (hR : rm.frames + 1 ≤ R.frames ∧ 8 + (3 + 11) + rm.locals ≤ R.locals) : CallW R s args RX1 RX1 33 yX1_unitOfOrder cX1_unitOfOrder 3 (some .int) (ws_ yX1_unitOfOrder cX1_unitOfOrder 3 (some .int)) rm 0 0 1 := cwV 1 hts (lw_V q260 q261 q262 q27 q263) rfl hc hs (by decide +kernel) hR
theorem cw_X1_unitsOfOrder {R : Room} {s : State} {args : Array Value} {rm : Room} (hts : ∀ x ∈ lw_all, x.before args s = true) (hc : rm.cells = 0) (hs : rm.slots = 0) (hR : rm.frames + 1 ≤ R.frames ∧ 8 + (4 + 11) + rm.locals ≤ R.locals) : CallW R s args RX1 RX1 36 yX1_unitsOfOrder cX1_unitsOfOrder 4 (some .int) (ws_ yX1_unitsOfOrder cX1_unitsOfOrder 4 (some .int)) rm 0 0 1 := cwV 1 hts (lw_V q268 q269 q270 q27 q271) rfl hc hs (by decide +kernel) hR
theorem cw_X1_isExponent {R : Room} {s : State} {args : Array Value} {rm : Room} (hts : ∀ x ∈ lw_all, x.before args s = true) (hc : rm.cells = 0) (hs : rm.slots = 0) (hR : rm.frames + 1 ≤ R.frames ∧ 8 + (2 + 11) + rm.locals ≤ R.locals) : CallW R s args RX1 RX1 39 yX1_isExponent cX1_isExponent 2 (some .boolean) (ws_ yX1_isExponent cX1_isExponent 2 (some .boolean)) rm 0 0 1 := cwV 1 hts (lw_V q280 q282 qs24 q27 q283) rfl hc hs (by decide +kernel) hR
section DC
variable {pg : Program} {l : Launch} {e : Env} {R : Room} {s : State} {m : MethodId} {args : Array Value} {below : List Frame} {meth : Method} {c : Code} {H : Heap} {locs : List Loc} {Q : State → Prop}
variable {cc bytes : ByteArray} {pc nL maxL index n : Nat} {ls : Array Slot} {rest st As : List Value} {y : MethodName} {ret : Option FieldType} {wds : List Cond} {rm : Room} {D : va_G} {A : Nat → Prop}
variable {a : xA} {P O F : Int32} {B T K S : Nat → Int32} {b : yA} {M : Nat → Int32}
theorem xc_I {Z : Type} {post : Int32 → Z → Prop} {w' : Z → va_W} (hx : pg.tables.exec = Jvm.exec) (hb : c.code = cc) (hml : c.maxLocals = nL) (hown : s.vm.findClass RX0 = some m.cls) (hts : ∀ x ∈ lw_all, x.before args s = true) (hM : dx_MI l y wds rm D (xT a) (xW a P O F B T K S) (.ref a.1 :: As) post w') (cw : CallW R s args RX0 RX0 index y bytes maxL ret wds rm 0 0 n) (hK : va_K D vwCl (xT a) s) (hP : va_P D vwCl (xW a P O F B T K S) H) (hD : va_D A (xW a P O F B T K S)) (hS : va_S A s.heap H locs) (hA : ∀ q : Nat, s.heap.size ≤ q → A q)
    (hn : As.length = n) (hsize : ls.size = nL) (hst : st = As.reverse ++ .ref a.1 :: rest) (hroom : (rest.map fun v => v.category).sum ≤ 8) (hdg : decode cc pc = .ok (.invokevirtual index, 3))
    (kk : ∀ (r : Int32) (u : Z) (H1 : Heap) (locs1 : List Loc), post r u → va_P D vwCl (w' u) H1 → va_D A (w' u) → va_S A s.heap H1 locs1 → W pg l e R s m args below meth c H1 locs1 0 0 Q (F0 m (pc + 3) ls (.int r :: rest))) : W pg l e R s m args below meth c H locs 0 0 Q (F0 m pc ls st) :=
  dx_callI (wr := []) (ci := 0) ⟨hx, hb, hml, hown, hts⟩ hM cw hK hP hD hS hA [0, 1, 2, 3, 4] [] [0, 1, 2, 3] rfl rfl (by decide) (by decide) (fun i h => absurd h List.not_mem_nil) rfl rfl rfl rfl hn hsize hst hroom hdg ⟨Nat.zero_le _, Nat.zero_le _⟩ kk
theorem xc_V {Z : Type} {post : Z → Prop} {w' : Z → va_W} (hx : pg.tables.exec = Jvm.exec) (hb : c.code = cc) (hml : c.maxLocals = nL) (hown : s.vm.findClass RX0 = some m.cls) (hts : ∀ x ∈ lw_all, x.before args s = true) (hM : dx_MV l y wds rm D (xT a) (xW a P O F B T K S) (.ref a.1 :: As) post w') (cw : CallW R s args RX0 RX0 index y bytes maxL ret wds rm 0 0 n) (hK : va_K D vwCl (xT a) s) (hP : va_P D vwCl (xW a P O F B T K S) H) (hD : va_D A (xW a P O F B T K S)) (hS : va_S A s.heap H locs) (hA : ∀ q : Nat, s.heap.size ≤ q → A q)
    (hn : As.length = n) (hsize : ls.size = nL) (hst : st = As.reverse ++ .ref a.1 :: rest) (hroom : (rest.map fun v => v.category).sum ≤ 8) (hdg : decode cc pc = .ok (.invokevirtual index, 3))
    (kk : ∀ (u : Z) (H1 : Heap) (locs1 : List Loc), post u → va_P D vwCl (w' u) H1 → va_D A (w' u) → va_S A s.heap H1 locs1 → W pg l e R s m args below meth c H1 locs1 0 0 Q (F0 m (pc + 3) ls (rest))) : W pg l e R s m args below meth c H locs 0 0 Q (F0 m pc ls st) :=
  dx_callV (wr := []) (ci := 0) ⟨hx, hb, hml, hown, hts⟩ hM cw hK hP hD hS hA [0, 1, 2, 3, 4] [] [0, 1, 2, 3] rfl rfl (by decide) (by decide) (fun i h => absurd h List.not_mem_nil) rfl rfl rfl rfl hn hsize hst hroom hdg ⟨Nat.zero_le _, Nat.zero_le _⟩ kk
theorem yc_I {Z : Type} {post : Int32 → Z → Prop} {w' : Z → va_W} (hx : pg.tables.exec = Jvm.exec) (hb : c.code = cc) (hml : c.maxLocals = nL) (hown : s.vm.findClass RX1 = some m.cls) (hts : ∀ x ∈ lw_all, x.before args s = true) (hM : dx_MI l y wds rm D (yT b) (yW b P M) (.ref b.1 :: As) post w') (cw : CallW R s args RX1 RX1 index y bytes maxL ret wds rm 0 0 n) (hK : va_K D vwCl (yT b) s) (hP : va_P D vwCl (yW b P M) H) (hD : va_D A (yW b P M)) (hS : va_S A s.heap H locs) (hA : ∀ q : Nat, s.heap.size ≤ q → A q)
    (hn : As.length = n) (hsize : ls.size = nL) (hst : st = As.reverse ++ .ref b.1 :: rest) (hroom : (rest.map fun v => v.category).sum ≤ 8) (hdg : decode cc pc = .ok (.invokevirtual index, 3))
    (kk : ∀ (r : Int32) (u : Z) (H1 : Heap) (locs1 : List Loc), post r u → va_P D vwCl (w' u) H1 → va_D A (w' u) → va_S A s.heap H1 locs1 → W pg l e R s m args below meth c H1 locs1 0 0 Q (F0 m (pc + 3) ls (.int r :: rest))) : W pg l e R s m args below meth c H locs 0 0 Q (F0 m pc ls st) :=
  dx_callI (wr := []) (ci := 1) ⟨hx, hb, hml, hown, hts⟩ hM cw hK hP hD hS hA [0, 1] [] [0] rfl rfl (by decide) (by decide) (fun i h => absurd h List.not_mem_nil) rfl rfl rfl rfl hn hsize hst hroom hdg ⟨Nat.zero_le _, Nat.zero_le _⟩ kk
theorem yc_V {Z : Type} {post : Z → Prop} {w' : Z → va_W} (hx : pg.tables.exec = Jvm.exec) (hb : c.code = cc) (hml : c.maxLocals = nL) (hown : s.vm.findClass RX1 = some m.cls) (hts : ∀ x ∈ lw_all, x.before args s = true) (hM : dx_MV l y wds rm D (yT b) (yW b P M) (.ref b.1 :: As) post w') (cw : CallW R s args RX1 RX1 index y bytes maxL ret wds rm 0 0 n) (hK : va_K D vwCl (yT b) s) (hP : va_P D vwCl (yW b P M) H) (hD : va_D A (yW b P M)) (hS : va_S A s.heap H locs) (hA : ∀ q : Nat, s.heap.size ≤ q → A q)
    (hn : As.length = n) (hsize : ls.size = nL) (hst : st = As.reverse ++ .ref b.1 :: rest) (hroom : (rest.map fun v => v.category).sum ≤ 8) (hdg : decode cc pc = .ok (.invokevirtual index, 3))
    (kk : ∀ (u : Z) (H1 : Heap) (locs1 : List Loc), post u → va_P D vwCl (w' u) H1 → va_D A (w' u) → va_S A s.heap H1 locs1 → W pg l e R s m args below meth c H1 locs1 0 0 Q (F0 m (pc + 3) ls (rest))) : W pg l e R s m args below meth c H locs 0 0 Q (F0 m pc ls st) :=
  dx_callV (wr := []) (ci := 1) ⟨hx, hb, hml, hown, hts⟩ hM cw hK hP hD hS hA [0, 1] [] [0] rfl rfl (by decide) (by decide) (fun i h => absurd h List.not_mem_nil) rfl rfl rfl rfl hn hsize hst hroom hdg ⟨Nat.zero_le _, Nat.zero_le _⟩ kk
end DC
end
section
/-! what the walks of the small methods rest on, without the machine -/
theorem dl_mlt {p x y : Nat} (hp : p ≤ 2039) (h1 : x < p) (h2 : y < p) : x * y < 2147483648 := by
  have := Nat.mul_le_mul (show x ≤ 2039 by omega) (show y ≤ 2039 by omega)
  omega
theorem dl_mlt2 {x y : Nat} (h1 : x < 32768) (h2 : y < 32768) : x * y < 2147483648 := by
  have := Nat.mul_le_mul (show x ≤ 32768 by omega) (show y ≤ 32768 by omega)
  omega
theorem dl_pw0 {p g x i rs : Nat} (e1 : rs = g ^ (x % 2 ^ i) % p) (hb : ¬ x / 2 ^ i % 2 ^ 1 = 1) : rs = g ^ (x % 2 ^ (i + 1)) % p := by
  have h0 : x / 2 ^ i % 2 = 0 := by
    have hb : ¬ x / 2 ^ i % 2 = 1 := hb
    generalize x / 2 ^ i = t at hb
    omega
  rw [Nat.mod_pow_succ, h0, Nat.mul_zero, Nat.add_zero]
  exact e1
theorem dl_pw1 {p g x i rs sq : Nat} (e1 : rs = g ^ (x % 2 ^ i) % p) (e2 : sq = g ^ (2 ^ i) % p) (hb : x / 2 ^ i % 2 ^ 1 = 1) : rs * sq % p = g ^ (x % 2 ^ (i + 1)) % p := by
  have hb : x / 2 ^ i % 2 = 1 := hb
  rw [Nat.mod_pow_succ, hb, Nat.mul_one, Nat.pow_add, e1, e2, ← Nat.mul_mod]
theorem dl_pws {p g i sq : Nat} (e2 : sq = g ^ (2 ^ i) % p) : sq * sq % p = g ^ (2 ^ (i + 1)) % p := by
  rw [e2, ← Nat.mul_mod, ← Nat.pow_add, Nat.pow_succ 2 i, Nat.mul_two]
theorem dl_isp1 {n d : Nat} (h2 : 2 ≤ n) (hd : ∀ k, 2 ≤ k → k < d → ¬ n % k = 0) (hlt : n < d * d) : dl_prime n := by
  refine ⟨h2, fun k hk hkn e => ?_⟩
  obtain ⟨j, hj⟩ := Nat.dvd_of_mod_eq_zero e
  rcases Nat.lt_or_ge k d with z | z
  · exact hd k hk z e
  · rcases Nat.lt_or_ge j d with y | y
    · have hj2 : 2 ≤ j := by
        rcases j with _ | _ | j
        · rw [Nat.mul_zero] at hj
          omega
        · rw [Nat.zero_add, Nat.mul_one] at hj
          omega
        · omega
      exact hd j hj2 y (by rw [hj]; exact Nat.mul_mod_left k j)
    · have := Nat.mul_le_mul z y
      omega
theorem dl_notp {n d : Nat} (hd2 : 2 ≤ d) (hdn : d * d ≤ n) (e : n % d = 0) : ¬ dl_prime n := fun h => by
  have h1 : d * 2 ≤ d * d := Nat.mul_le_mul_left d hd2
  exact h.2 d hd2 (by omega) e
def dl_isU (p : Nat) (x : Int32) : Prop := ∃ u, x = nI u ∧ dl_U p u
theorem dl_notU1 {p : Nat} {x : Int32} (hp : p ≤ 2039) (h : x < nI 1) : ¬ dl_isU p x := by
  rintro ⟨u, rfl, h1, h2⟩
  have := (nI_ltI (a := u) (b := 1) (by omega) (by omega)).mp h
  omega
theorem dl_notU2 {p : Nat} {x : Int32} (hp : p ≤ 2039) (h : ¬ x < nI p) : ¬ dl_isU p x := by
  rintro ⟨u, rfl, h1, h2⟩
  exact h ((nI_ltI (by omega) (by omega)).mpr h2)
/-- an int that isn't below 1 is a number -/
theorem dl_nat1 {x : Int32} (h : ¬ x < nI 1) : ∃ j, 1 ≤ j ∧ j < 2147483648 ∧ x = nI j := by
  have h0 : ¬ x < 0 := fun z => h (by
    rw [fa_lt] at z ⊢
    have e1 : (nI 1).toInt = 1 := nI_toInt (by decide)
    have e0 : (0 : Int32).toInt = 0 := by decide
    omega)
  obtain ⟨j, hj, rfl⟩ := nI_of h0
  refine ⟨j, ?_, hj, rfl⟩
  rcases Nat.eq_zero_or_pos j with z | z
  · subst z
    exact absurd (show nI 0 < nI 1 by decide) h
  · exact z
theorem dl_isU_of {p : Nat} {x : Int32} (hp : p ≤ 2039) (h1 : ¬ x < nI 1) (h2 : x < nI p) : dl_isU p x := by
  obtain ⟨j, hj1, hj, rfl⟩ := dl_nat1 h1
  exact ⟨j, rfl, hj1, (nI_ltI hj (by omega)).mp h2⟩
theorem dl_gstep {u v : Nat} : Nat.gcd v (u % v) = Nat.gcd u v := by
  rw [Nat.gcd_comm u v, Nat.gcd_rec v u, Nat.gcd_comm]
theorem dl_gq {u v i : Nat} (hu : u < 1048576) (hv : v < 1048576) (h0 : 0 < v) (hi : i ≤ 50) (hq : 0 < i → v ≤ u ∧ u * v < 2 ^ (50 - i)) : i + 1 ≤ 50 ∧ (u % v ≤ v ∧ v * (u % v) < 2 ^ (50 - (i + 1))) := by
  have hr : u % v < v := Nat.mod_lt _ h0
  rcases Nat.eq_zero_or_pos i with z | z
  · subst z
    refine ⟨by omega, by omega, ?_⟩
    have := Nat.mul_le_mul (show v ≤ 1048576 by omega) (show u % v ≤ 1048576 by omega)
    exact Nat.lt_of_le_of_lt this (by decide)
  · obtain ⟨h1, h2⟩ := hq z
    have h3 : 1 ≤ u * v := Nat.mul_pos (by omega) h0
    have h4 : i < 50 := by
      rcases Nat.lt_or_ge i 50 with y | y
      · exact y
      · have e : 50 - i = 0 := by omega
        rw [e, Nat.pow_zero] at h2
        omega
    refine ⟨by omega, by omega, ?_⟩
    have e : 50 - i = (50 - (i + 1)) + 1 := by omega
    rw [e, Nat.pow_succ] at h2
    have h5 : v + u % v ≤ u := by
      have a1 := Nat.div_add_mod u v
      have h6 : 1 ≤ u / v := Nat.div_pos h1 h0
      have h7 : v * 1 ≤ v * (u / v) := Nat.mul_le_mul_left v h6
      omega
    have h8 : (v + u % v) * v ≤ u * v := Nat.mul_le_mul_right v h5
    have h9 : 2 * (u % v) * v ≤ (v + u % v) * v := Nat.mul_le_mul_right v (by omega)
    have e2 : 2 * (u % v) * v = v * (u % v) * 2 := by
      rw [Nat.mul_comm 2, Nat.mul_right_comm, Nat.mul_comm (u % v) v]
    omega
def dl_probe (K : Nat → Int32) (x : Int32) : Nat → Nat → Nat
  | 0, t => t
  | n + 1, t => if K t = 0 ∨ K t = x then t else dl_probe K x n ((t + 1) % 128)
theorem dl_probe_hit {K : Nat → Int32} {x : Int32} {n t : Nat} (h : K t = 0 ∨ K t = x) : dl_probe K x (n + 1) t = t := by rw [dl_probe, if_pos h]
theorem dl_probe_miss {K : Nat → Int32} {x : Int32} {n t : Nat} (h1 : ¬ K t = 0) (h2 : ¬ K t = x) : dl_probe K x (n + 1) t = dl_probe K x n ((t + 1) % 128) := by
  rw [dl_probe, if_neg]
  rintro (z | z)
  · exact h1 z
  · exact h2 z
theorem dl_probe_lt {K : Nat → Int32} {x : Int32} : ∀ {n t : Nat}, t < 128 → dl_probe K x n t < 128
  | 0, t, h => h
  | n + 1, t, h => by
    rw [dl_probe]
    split
    · exact h
    · exact dl_probe_lt (Nat.mod_lt _ (by omega))
end
section
set_option maxRecDepth 100000
section XA
variable {l : Launch} {D : va_G} {a : xA} {P O F : Int32} {B T K S : Nat → Int32} {p nf : Nat}
theorem lt_s2 {n d : Nat} (hk : ∀ k, 2 ≤ k → k < d → ¬ n % k = 0) (h : 0 < n % d) : ∀ k, 2 ≤ k → k < d + 1 → ¬ n % k = 0 := fun k h1 h2 e => by
  rcases Nat.lt_or_ge k d with z | z
  · exact hk k h1 z e
  · have e2 : k = d := by omega
    subst e2
    omega
theorem dl_mul63 {x y : Nat} (h1 : x < 2147483648) (h2 : y < 2147483648) : x * y < 2 ^ 63 := by
  have := Nat.mul_le_mul (Nat.le_of_lt h1) (Nat.le_of_lt h2)
  exact Nat.lt_of_le_of_lt this (by decide)
theorem dl_upd0 {K : Nat → Int32} {i j : Nat} (hk : ∀ j, j < i → K j = 0) (hj : j < i + 1) : upd K i (nI 0) j = 0 := by
  by_cases q : j = i
  · subst q
    rw [pk_us]
    exact nI_0
  · rw [pk_un q]
    exact hk j (by omega)
set_option maxHeartbeats 4000000 in
theorem mX0_mul {x y : Nat} (hp : 0 < p) (hp2 : p ≤ 2039) (hxy : x * y < 2147483648) : dx_MI l yX0_mul (ws_ yX0_mul cX0_mul 3 (some .int)) (rm_ 0 0) D (xT a) (xW a (nI p) O F B T K S) [.ref a.1, .int (nI x), .int (nI y)] (fun (r : Int32) (u : Unit) => r = nI (x * y % p)) (fun _ => xW a (nI p) O F B T K S) := by
  refine dx_ofI (by decide) rfl (Nat.le_of_ble_eq_true rfl) ?_
  intro pg en sS mI aR bL mE cO A Q ls hx hb hml hown hts hA hK hP hD hS hl hret
  have hl : lv_has ls 3 [(0, .ref a.1), (1, .int (nI x)), (2, .int (nI y))] := hl
  refine lv_aload_n hx hb dX0_mul_0 rfl (lv_at hl 0 rfl) ?_
  refine xg_p hx hb hts hown hK hP dX0_mul_1 ?_
  refine dn_if_le (tgt := 18) hx hb dX0_mul_4 (by decide) (by omega) (fun z => absurd z (by omega)) (fun hc => ?_)
  refine lv_iload_n hx hb dX0_mul_7 rfl (lv_at hl 1 rfl) ?_
  refine lv_iload_n hx hb dX0_mul_8 rfl (lv_at hl 2 rfl) ?_
  refine dn_imul hx hb dX0_mul_9 ?_
  refine lv_aload_n hx hb dX0_mul_10 rfl (lv_at hl 0 rfl) ?_
  refine xg_p hx hb hts hown hK hP dX0_mul_11 ?_
  refine dn_irem hx hb dX0_mul_14 hxy hp (by omega) ?_
  refine lv_goto (tgt := 19) hx hb dX0_mul_15 (by decide) ?_
  exact hret _ _ _ () _ _ dX0_mul_19 rfl hP hD hS
set_option maxHeartbeats 4000000 in
theorem mX0_pow {g x : Nat} (hp : 1 < p) (hp2 : p ≤ 2039) (hg : g < p) (hx31 : x < 2147483648) : dx_MI l yX0_pow (ws_ yX0_pow cX0_pow 6 (some .int)) (rm_ 1 22) D (xT a) (xW a (nI p) O F B T K S) [.ref a.1, .int (nI g), .int (nI x)] (fun (r : Int32) (u : Unit) => r = nI (g ^ x % p)) (fun _ => xW a (nI p) O F B T K S) := by
  refine dx_ofI (by decide) rfl (Nat.le_of_ble_eq_true rfl) ?_
  intro pg en sS mI aR bL mE cO A Q ls hx hb hml hown hts hA hK hP hD hS hl hret
  have hl : lv_has ls 6 [(0, .ref a.1), (1, .int (nI g)), (2, .int (nI x))] := hl
  refine lv_iconst (v := (nI 1)) hx hb dX0_pow_0 (by decide) ?_
  refine lv_istore_n (lv' := [(3, .int (nI 1)), (0, .ref a.1), (1, .int (nI g)), (2, .int (nI x))]) hx hb dX0_pow_1 rfl hl (by decide) rfl (fun ls hl => ?_)
  refine lv_iload_n hx hb dX0_pow_2 rfl (lv_at hl 2 rfl) ?_
  refine lv_istore (lv' := [(4, .int (nI g)), (3, .int (nI 1)), (0, .ref a.1), (1, .int (nI g)), (2, .int (nI x))]) hx hb dX0_pow_3 hl (by decide) rfl (fun ls hl => ?_)
  refine lv_iconst (v := (nI 0)) hx hb dX0_pow_5 (by decide) ?_
  refine lv_istore (lv' := [(5, .int (nI 0)), (4, .int (nI g)), (3, .int (nI 1)), (0, .ref a.1), (1, .int (nI g)), (2, .int (nI x))]) hx hb dX0_pow_6 hl (by decide) rfl (fun ls hl => ?_)
  have loop : ∀ (n : Nat) (i rs sq : Nat), (i ≤ 31) → (rs = g ^ (x % 2 ^ i) % p) → (sq = g ^ (2 ^ i) % p) → (31 - i) < n → ∀ (H : Heap) (locs : List Loc), va_P D vwCl (xW a (nI p) O F B T K S) H → va_S A sS.heap H locs → ∀ ls : Array Slot, lv_has ls 6 [(0, .ref a.1), (1, .int (nI g)), (2, .int (nI x)), (3, .int (nI rs)), (4, .int (nI sq)), (5, .int (nI i))] → W pg l en (rm_ 1 22) sS mI aR bL mE cO H locs 0 0 Q (F0 mI 8 ls []) := by
    intro n
    induction n with
    | zero => intros; omega
    | succ n ih =>
      intro i rs sq hi e1 e2 hn H locs hP hS ls hl
      have hrs : rs < p := by rw [e1]; exact Nat.mod_lt _ (by omega)
      have hsq : sq < p := by rw [e2]; exact Nat.mod_lt _ (by omega)
      refine lv_iload hx hb dX0_pow_8 (lv_at hl 5 rfl) ?_
      refine lv_bipush (v := (nI 31)) hx hb dX0_pow_10 (by decide) ?_
      refine dn_icmp_ge (tgt := 49) hx hb dX0_pow_12 (by decide) (by omega) (by omega) (fun hc => ?_) (fun hc => ?_)
      · refine lv_iload_n hx hb dX0_pow_49 rfl (lv_at hl 3 rfl) ?_
        have hi31 : i = 31 := by omega
        subst hi31
        exact hret _ _ _ () _ _ dX0_pow_50 (by rw [e1, Nat.mod_eq_of_lt hx31]) hP hD hS
      · refine lv_iload_n hx hb dX0_pow_15 rfl (lv_at hl 2 rfl) ?_
        refine lv_iload hx hb dX0_pow_16 (lv_at hl 5 rfl) ?_
        refine dn_ishr hx hb dX0_pow_18 hx31 (by omega) ?_
        refine lv_iconst (v := (nI 1)) hx hb dX0_pow_19 (by decide) ?_
        refine dn_iand hx hb 1 dX0_pow_20 (Nat.lt_of_le_of_lt (Nat.div_le_self _ _) hx31) (by decide) ?_
        refine lv_iconst (v := (nI 1)) hx hb dX0_pow_21 (by decide) ?_
        refine dn_icmp_ne (tgt := 33) hx hb dX0_pow_22 (by decide) (Nat.lt_trans (Nat.mod_lt _ (by decide)) (by decide)) (by omega) (fun hbit => ?_) (fun hbit => ?_)
        · refine lv_aload_n hx hb dX0_pow_33 rfl (lv_at hl 0 rfl) ?_
          refine lv_iload hx hb dX0_pow_34 (lv_at hl 4 rfl) ?_
          refine lv_iload hx hb dX0_pow_36 (lv_at hl 4 rfl) ?_
          refine xc_I (As := [.int (nI sq), .int (nI sq)]) (rest := []) hx hb hml hown hts (mX0_mul (by omega) hp2 (dl_mlt hp2 hsq hsq)) (cw_X0_mul hts rfl rfl ⟨Nat.le_of_ble_eq_true rfl, Nat.le_of_ble_eq_true rfl⟩) hK hP hD hS hA rfl hl.1 rfl (Nat.le_of_ble_eq_true rfl) dX0_pow_38 (fun r _ H locs hw hP hD hS => ?_)
          obtain rfl : r = nI (sq * sq % p) := hw
          refine lv_istore (lv' := [(4, .int (nI (sq * sq % p))), (0, .ref a.1), (1, .int (nI g)), (2, .int (nI x)), (3, .int (nI rs)), (5, .int (nI i))]) hx hb dX0_pow_41 hl (by decide) rfl (fun ls hl => ?_)
          refine lv_iinc (v := (nI (i + 1))) (lv' := [(5, .int (nI (i + 1))), (4, .int (nI (sq * sq % p))), (0, .ref a.1), (1, .int (nI g)), (2, .int (nI x)), (3, .int (nI rs))]) hx hb dX0_pow_43 hl (k := 5) rfl (nI_1 _) (by decide) rfl (fun ls hl => ?_)
          refine lv_goto (tgt := 8) hx hb dX0_pow_46 (by decide) ?_
          exact ih (i + 1) _ _ (by omega) (dl_pw0 e1 hbit) (dl_pws e2) (by omega) _ _ hP hS ls (lv_sub hl [2, 3, 4, 5, 1, 0] rfl)
        · refine lv_aload_n hx hb dX0_pow_25 rfl (lv_at hl 0 rfl) ?_
          refine lv_iload_n hx hb dX0_pow_26 rfl (lv_at hl 3 rfl) ?_
          refine lv_iload hx hb dX0_pow_27 (lv_at hl 4 rfl) ?_
          refine xc_I (As := [.int (nI rs), .int (nI sq)]) (rest := []) hx hb hml hown hts (mX0_mul (by omega) hp2 (dl_mlt hp2 hrs hsq)) (cw_X0_mul hts rfl rfl ⟨Nat.le_of_ble_eq_true rfl, Nat.le_of_ble_eq_true rfl⟩) hK hP hD hS hA rfl hl.1 rfl (Nat.le_of_ble_eq_true rfl) dX0_pow_29 (fun r _ H locs hw hP hD hS => ?_)
          obtain rfl : r = nI (rs * sq % p) := hw
          refine lv_istore_n (lv' := [(3, .int (nI (rs * sq % p))), (0, .ref a.1), (1, .int (nI g)), (2, .int (nI x)), (4, .int (nI sq)), (5, .int (nI i))]) hx hb dX0_pow_32 rfl hl (by decide) rfl (fun ls hl => ?_)
          refine lv_aload_n hx hb dX0_pow_33 rfl (lv_at hl 1 rfl) ?_
          refine lv_iload hx hb dX0_pow_34 (lv_at hl 4 rfl) ?_
          refine lv_iload hx hb dX0_pow_36 (lv_at hl 4 rfl) ?_
          refine xc_I (As := [.int (nI sq), .int (nI sq)]) (rest := []) hx hb hml hown hts (mX0_mul (by omega) hp2 (dl_mlt hp2 hsq hsq)) (cw_X0_mul hts rfl rfl ⟨Nat.le_of_ble_eq_true rfl, Nat.le_of_ble_eq_true rfl⟩) hK hP hD hS hA rfl hl.1 rfl (Nat.le_of_ble_eq_true rfl) dX0_pow_38 (fun r _ H locs hw hP hD hS => ?_)
          obtain rfl : r = nI (sq * sq % p) := hw
          refine lv_istore (lv' := [(4, .int (nI (sq * sq % p))), (3, .int (nI (rs * sq % p))), (0, .ref a.1), (1, .int (nI g)), (2, .int (nI x)), (5, .int (nI i))]) hx hb dX0_pow_41 hl (by decide) rfl (fun ls hl => ?_)
          refine lv_iinc (v := (nI (i + 1))) (lv' := [(5, .int (nI (i + 1))), (4, .int (nI (sq * sq % p))), (3, .int (nI (rs * sq % p))), (0, .ref a.1), (1, .int (nI g)), (2, .int (nI x))]) hx hb dX0_pow_43 hl (k := 5) rfl (nI_1 _) (by decide) rfl (fun ls hl => ?_)
          refine lv_goto (tgt := 8) hx hb dX0_pow_46 (by decide) ?_
          exact ih (i + 1) _ _ (by omega) (dl_pw1 e1 e2 hbit) (dl_pws e2) (by omega) _ _ hP hS ls (lv_sub hl [3, 4, 5, 2, 1, 0] rfl)
  exact loop 32 0 1 g (by omega) (by rw [Nat.pow_zero, Nat.mod_one, Nat.pow_zero, Nat.mod_eq_of_lt hp]) (by rw [Nat.pow_zero, Nat.pow_one, Nat.mod_eq_of_lt hg]) (by omega) _ _ hP hS ls (lv_sub hl [3, 4, 5, 2, 1, 0] rfl)
set_option maxHeartbeats 4000000 in
theorem mX0_invert {g : Nat} (hp : 1 < p) (hp2 : p ≤ 2039) (hg : g < p) : dx_MI l yX0_invert (ws_ yX0_invert cX0_invert 2 (some .int)) (rm_ 2 47) D (xT a) (xW a (nI p) O F B T K S) [.ref a.1, .int (nI g)] (fun (r : Int32) (u : Unit) => r = nI (g ^ (p - 2) % p)) (fun _ => xW a (nI p) O F B T K S) := by
  refine dx_ofI (by decide) rfl (Nat.le_of_ble_eq_true rfl) ?_
  intro pg en sS mI aR bL mE cO A Q ls hx hb hml hown hts hA hK hP hD hS hl hret
  have hl : lv_has ls 2 [(0, .ref a.1), (1, .int (nI g))] := hl
  refine lv_aload_n hx hb dX0_invert_0 rfl (lv_at hl 0 rfl) ?_
  refine lv_iload_n hx hb dX0_invert_1 rfl (lv_at hl 1 rfl) ?_
  refine lv_aload_n hx hb dX0_invert_2 rfl (lv_at hl 0 rfl) ?_
  refine xg_p hx hb hts hown hK hP dX0_invert_3 ?_
  refine lv_iconst (v := (nI 2)) hx hb dX0_invert_6 (by decide) ?_
  refine dn_isub hx hb dX0_invert_7 (by omega) ?_
  refine xc_I (As := [.int (nI g), .int (nI (p - 2))]) (rest := []) hx hb hml hown hts (mX0_pow hp hp2 hg (by omega)) (cw_X0_pow hts rfl rfl ⟨Nat.le_of_ble_eq_true rfl, Nat.le_of_ble_eq_true rfl⟩) hK hP hD hS hA rfl hl.1 rfl (Nat.le_of_ble_eq_true rfl) dX0_invert_8 (fun r _ H locs hw hP hD hS => ?_)
  obtain rfl : r = nI (g ^ (p - 2) % p) := hw
  exact hret _ _ _ () _ _ dX0_invert_11 rfl hP hD hS
set_option maxHeartbeats 4000000 in
theorem mX0_notUnit {x : Int32} (hp2 : p ≤ 2039) : dx_MI l yX0_notUnit (ws_ yX0_notUnit cX0_notUnit 2 (some .boolean)) (rm_ 0 0) D (xT a) (xW a (nI p) O F B T K S) [.ref a.1, .int x] (fun (r : Int32) (u : Unit) => (r = 1 ∧ ¬ dl_isU p x) ∨ (r = 0 ∧ dl_isU p x)) (fun _ => xW a (nI p) O F B T K S) := by
  refine dx_ofZ (by decide) rfl (Nat.le_of_ble_eq_true rfl) ?_
  intro pg en sS mI aR bL mE cO A Q ls hx hb hml hown hts hA hK hP hD hS hl hret
  have hl : lv_has ls 2 [(0, .ref a.1), (1, .int x)] := hl
  refine lv_iload_n hx hb dX0_notUnit_0 rfl (lv_at hl 1 rfl) ?_
  refine lv_iconst (v := (nI 1)) hx hb dX0_notUnit_1 (by decide) ?_
  refine lv_icmp_lt (tgt := 13) hx hb dX0_notUnit_2 (by decide) (fun h1 => ?_) (fun h1 => ?_)
  · refine lv_iconst (v := (nI 1)) hx hb dX0_notUnit_13 (by decide) ?_
    refine lv_goto (tgt := 18) hx hb dX0_notUnit_14 (by decide) ?_
    exact hret _ _ _ () _ _ dX0_notUnit_18 (Or.inr rfl) (Or.inl ⟨rfl, dl_notU1 hp2 h1⟩) hP hD hS
  · refine lv_iload_n hx hb dX0_notUnit_5 rfl (lv_at hl 1 rfl) ?_
    refine lv_aload_n hx hb dX0_notUnit_6 rfl (lv_at hl 0 rfl) ?_
    refine xg_p hx hb hts hown hK hP dX0_notUnit_7 ?_
    refine lv_icmp_lt (tgt := 17) hx hb dX0_notUnit_10 (by decide) (fun h2 => ?_) (fun h2 => ?_)
    · refine lv_iconst (v := (nI 0)) hx hb dX0_notUnit_17 (by decide) ?_
      exact hret _ _ _ () _ _ dX0_notUnit_18 (Or.inl rfl) (Or.inr ⟨rfl, dl_isU_of hp2 h1 h2⟩) hP hD hS
    · refine lv_iconst (v := (nI 1)) hx hb dX0_notUnit_13 (by decide) ?_
      refine lv_goto (tgt := 18) hx hb dX0_notUnit_14 (by decide) ?_
      exact hret _ _ _ () _ _ dX0_notUnit_18 (Or.inr rfl) (Or.inl ⟨rfl, dl_notU2 hp2 h2⟩) hP hD hS
set_option maxHeartbeats 4000000 in
theorem mX0_isPrime {n : Nat} (hn9 : n ≤ 2039) : dx_MI l yX0_isPrime (ws_ yX0_isPrime cX0_isPrime 3 (some .boolean)) (rm_ 0 0) D (xT a) (xW a P O F B T K S) [.ref a.1, .int (nI n)] (fun (r : Int32) (u : Unit) => (r = 1 ∧ dl_prime n) ∨ (r = 0 ∧ ¬ dl_prime n)) (fun _ => xW a P O F B T K S) := by
  refine dx_ofZ (by decide) rfl (Nat.le_of_ble_eq_true rfl) ?_
  intro pg en sS mI aR bL mE cO A Q ls hx hb hml hown hts hA hK hP hD hS hl hret
  have hl : lv_has ls 3 [(0, .ref a.1), (1, .int (nI n))] := hl
  refine lv_iload_n hx hb dX0_isPrime_0 rfl (lv_at hl 1 rfl) ?_
  refine lv_iconst (v := (nI 2)) hx hb dX0_isPrime_1 (by decide) ?_
  refine dn_icmp_ge (tgt := 7) hx hb dX0_isPrime_2 (by decide) (by omega) (by omega) (fun h2 => ?_) (fun h2 => ?_)
  · refine lv_iconst (v := (nI 2)) hx hb dX0_isPrime_7 (by decide) ?_
    refine lv_istore_n (lv' := [(2, .int (nI 2)), (0, .ref a.1), (1, .int (nI n))]) hx hb dX0_isPrime_8 rfl hl (by decide) rfl (fun ls hl => ?_)
    have loop : ∀ (k9 : Nat) (d : Nat), (2 ≤ d) → (d ≤ 50) → (∀ k, 2 ≤ k → k < d → ¬ n % k = 0) → (50 - d) < k9 → ∀ (H : Heap) (locs : List Loc), va_P D vwCl (xW a P O F B T K S) H → va_S A sS.heap H locs → ∀ ls : Array Slot, lv_has ls 3 [(0, .ref a.1), (1, .int (nI n)), (2, .int (nI d))] → W pg l en (rm_ 0 0) sS mI aR bL mE cO H locs 0 0 Q (F0 mI 9 ls []) := by
      intro k9
      induction k9 with
      | zero => intros; omega
      | succ k9 ih =>
        intro d hd2 hd50 hk hn H locs hP hS ls hl
        have hdd : d * d < 2147483648 := dl_mlt2 (by omega) (by omega)
        refine lv_iload_n hx hb dX0_isPrime_9 rfl (lv_at hl 2 rfl) ?_
        refine lv_iload_n hx hb dX0_isPrime_10 rfl (lv_at hl 2 rfl) ?_
        refine dn_imul hx hb dX0_isPrime_11 ?_
        refine lv_iload_n hx hb dX0_isPrime_12 rfl (lv_at hl 1 rfl) ?_
        refine dn_icmp_gt (tgt := 36) hx hb dX0_isPrime_13 (by decide) hdd (by omega) (fun hc => ?_) (fun hc => ?_)
        · refine lv_iconst (v := (nI 1)) hx hb dX0_isPrime_36 (by decide) ?_
          exact hret _ _ _ () _ _ dX0_isPrime_37 (Or.inr rfl) (Or.inl ⟨rfl, dl_isp1 h2 hk hc⟩) hP hD hS
        · refine lv_iload_n hx hb dX0_isPrime_16 rfl (lv_at hl 2 rfl) ?_
          refine lv_bipush (v := (nI 50)) hx hb dX0_isPrime_17 (by decide) ?_
          refine dn_icmp_ge (tgt := 36) hx hb dX0_isPrime_19 (by decide) (by omega) (by omega) (fun z => absurd z (fun z2 => by have e9 : d = 50 := (by omega); subst e9; omega)) (fun hlt => ?_)
          refine lv_iload_n hx hb dX0_isPrime_22 rfl (lv_at hl 1 rfl) ?_
          refine lv_iload_n hx hb dX0_isPrime_23 rfl (lv_at hl 2 rfl) ?_
          refine dn_irem hx hb dX0_isPrime_24 (by omega) (by omega) (by omega) ?_
          refine dn_if_ne (tgt := 30) hx hb dX0_isPrime_25 (by decide) (Nat.lt_trans (Nat.mod_lt _ (by omega)) (by omega)) (fun hm => ?_) (fun hm => ?_)
          · refine lv_iinc (v := (nI (d + 1))) (lv' := [(2, .int (nI (d + 1))), (0, .ref a.1), (1, .int (nI n))]) hx hb dX0_isPrime_30 hl (k := 2) rfl (nI_1 _) (by decide) rfl (fun ls hl => ?_)
            refine lv_goto (tgt := 9) hx hb dX0_isPrime_33 (by decide) ?_
            exact ih (d + 1) (by omega) (by omega) (lt_s2 hk (by omega)) (by omega) _ _ hP hS ls (lv_sub hl [1, 2, 0] rfl)
          · refine lv_iconst (v := (nI 0)) hx hb dX0_isPrime_28 (by decide) ?_
            exact hret _ _ _ () _ _ dX0_isPrime_29 (Or.inl rfl) (Or.inr ⟨rfl, dl_notp hd2 hc hm⟩) hP hD hS
    exact loop 49 2 (by omega) (by omega) (fun k h1 h3 => by omega) (by omega) _ _ hP hS ls (lv_sub hl [1, 2, 0] rfl)
  · refine lv_iconst (v := (nI 0)) hx hb dX0_isPrime_28 (by decide) ?_
    exact hret _ _ _ () _ _ dX0_isPrime_29 (Or.inl rfl) (Or.inr ⟨rfl, fun z => by have := z.1; omega⟩) hP hD hS
set_option maxHeartbeats 4000000 in
theorem mX0_gcd {x y : Nat} (hx20 : x < 1048576) (hy20 : y < 1048576) : dx_MI l yX0_gcd (ws_ yX0_gcd cX0_gcd 7 (some .int)) (rm_ 0 0) D (xT a) (xW a P O F B T K S) [.ref a.1, .int (nI x), .int (nI y)] (fun (r : Int32) (u : Unit) => r = nI (Nat.gcd x y)) (fun _ => xW a P O F B T K S) := by
  refine dx_ofI (by decide) rfl (Nat.le_of_ble_eq_true rfl) ?_
  intro pg en sS mI aR bL mE cO A Q ls hx hb hml hown hts hA hK hP hD hS hl hret
  have hl : lv_has ls 7 [(0, .ref a.1), (1, .int (nI x)), (2, .int (nI y))] := hl
  refine lv_iload_n hx hb dX0_gcd_0 rfl (lv_at hl 1 rfl) ?_
  refine lv_istore_n (lv' := [(3, .int (nI x)), (0, .ref a.1), (1, .int (nI x)), (2, .int (nI y))]) hx hb dX0_gcd_1 rfl hl (by decide) rfl (fun ls hl => ?_)
  refine lv_iload_n hx hb dX0_gcd_2 rfl (lv_at hl 3 rfl) ?_
  refine lv_istore (lv' := [(4, .int (nI y)), (3, .int (nI x)), (0, .ref a.1), (1, .int (nI x)), (2, .int (nI y))]) hx hb dX0_gcd_3 hl (by decide) rfl (fun ls hl => ?_)
  refine lv_iconst (v := (nI 0)) hx hb dX0_gcd_5 (by decide) ?_
  refine lv_istore (lv' := [(5, .int (nI 0)), (4, .int (nI y)), (3, .int (nI x)), (0, .ref a.1), (1, .int (nI x)), (2, .int (nI y))]) hx hb dX0_gcd_6 hl (by decide) rfl (fun ls hl => ?_)
  have loop : ∀ (n : Nat) (i u v : Nat), (Nat.gcd u v = Nat.gcd x y) → (u < 1048576) → (v < 1048576) → (i ≤ 50) → (0 < i → v ≤ u ∧ u * v < 2 ^ (50 - i)) → (64 - i) < n → ∀ (H : Heap) (locs : List Loc), va_P D vwCl (xW a P O F B T K S) H → va_S A sS.heap H locs → ∀ ls : Array Slot, lv_has ls 7 [(0, .ref a.1), (1, .int (nI x)), (2, .int (nI y)), (3, .int (nI u)), (4, .int (nI v)), (5, .int (nI i))] → W pg l en (rm_ 0 0) sS mI aR bL mE cO H locs 0 0 Q (F0 mI 8 ls []) := by
    intro n
    induction n with
    | zero => intros; omega
    | succ n ih =>
      intro i u v hg hu hv hi hq hn H locs hP hS ls hl
      refine lv_iload hx hb dX0_gcd_8 (lv_at hl 5 rfl) ?_
      refine lv_bipush (v := (nI 64)) hx hb dX0_gcd_10 (by decide) ?_
      refine dn_icmp_ge (tgt := 39) hx hb dX0_gcd_12 (by decide) (by omega) (by omega) (fun z => absurd z (by omega)) (fun h1 => ?_)
      refine lv_iload hx hb dX0_gcd_15 (lv_at hl 4 rfl) ?_
      refine dn_if_eq (tgt := 39) hx hb dX0_gcd_17 (by decide) (by omega) (fun hv0 => ?_) (fun hv0 => ?_)
      · refine lv_iload_n hx hb dX0_gcd_39 rfl (lv_at hl 3 rfl) ?_
        exact hret _ _ _ () _ _ dX0_gcd_40 (by rw [← hg, hv0, Nat.gcd_zero_right]) hP hD hS
      · obtain ⟨g1, g2, g3⟩ := dl_gq hu hv hv0 hi hq
        refine lv_iload_n hx hb dX0_gcd_20 rfl (lv_at hl 3 rfl) ?_
        refine lv_iload hx hb dX0_gcd_21 (lv_at hl 4 rfl) ?_
        refine dn_irem hx hb dX0_gcd_23 (by omega) (by omega) (by omega) ?_
        refine lv_istore (lv' := [(6, .int (nI (u % v))), (0, .ref a.1), (1, .int (nI x)), (2, .int (nI y)), (3, .int (nI u)), (4, .int (nI v)), (5, .int (nI i))]) hx hb dX0_gcd_24 hl (by decide) rfl (fun ls hl => ?_)
        refine lv_iload hx hb dX0_gcd_26 (lv_at hl 5 rfl) ?_
        refine lv_istore_n (lv' := [(3, .int (nI v)), (6, .int (nI (u % v))), (0, .ref a.1), (1, .int (nI x)), (2, .int (nI y)), (4, .int (nI v)), (5, .int (nI i))]) hx hb dX0_gcd_28 rfl hl (by decide) rfl (fun ls hl => ?_)
        refine lv_iload hx hb dX0_gcd_29 (lv_at hl 1 rfl) ?_
        refine lv_istore (lv' := [(4, .int (nI (u % v))), (3, .int (nI v)), (6, .int (nI (u % v))), (0, .ref a.1), (1, .int (nI x)), (2, .int (nI y)), (5, .int (nI i))]) hx hb dX0_gcd_31 hl (by decide) rfl (fun ls hl => ?_)
        refine lv_iinc (v := (nI (i + 1))) (lv' := [(5, .int (nI (i + 1))), (4, .int (nI (u % v))), (3, .int (nI v)), (6, .int (nI (u % v))), (0, .ref a.1), (1, .int (nI x)), (2, .int (nI y))]) hx hb dX0_gcd_33 hl (k := 6) rfl (nI_1 _) (by decide) rfl (fun ls hl => ?_)
        refine lv_goto (tgt := 8) hx hb dX0_gcd_36 (by decide) ?_
        exact ih (i + 1) v (u % v) (by rw [dl_gstep, hg]) hv (by omega) g1 (fun _ => ⟨g2, g3⟩) (by omega) _ _ hP hS ls (lv_sub hl [4, 5, 6, 2, 1, 0] rfl)
  exact loop 65 0 x y rfl hx20 hy20 (by omega) (fun z => by omega) (by omega) _ _ hP hS ls (lv_sub hl [3, 4, 5, 2, 1, 0] rfl)
set_option maxHeartbeats 4000000 in
theorem mX0_timesBy {x y n : Nat} (hx31 : x < 2147483648) (hy31 : y < 2147483648) (hn0 : 0 < n) (hn31 : n < 2147483648) : dx_MI l yX0_timesBy (ws_ yX0_timesBy cX0_timesBy 6 (some .int)) (rm_ 0 0) D (xT a) (xW a P O F B T K S) [.ref a.1, .int (nI x), .int (nI y), .int (nI n)] (fun (r : Int32) (u : Unit) => r = nI (x * y % n)) (fun _ => xW a P O F B T K S) := by
  refine dx_ofI (by decide) rfl (Nat.le_of_ble_eq_true rfl) ?_
  intro pg en sS mI aR bL mE cO A Q ls hx hb hml hown hts hA hK hP hD hS hl hret
  have hl : lv_has ls 6 [(0, .ref a.1), (1, .int (nI x)), (2, .int (nI y)), (3, .int (nI n))] := hl
  refine lv_iload_n hx hb dX0_timesBy_0 rfl (lv_at hl 3 rfl) ?_
  refine lv_iconst (v := (nI 1)) hx hb dX0_timesBy_1 (by decide) ?_
  refine dn_icmp_ge (tgt := 7) hx hb dX0_timesBy_2 (by decide) (by omega) (by omega) (fun h1 => ?_) (fun z => absurd z (by omega))
  refine lv_iload_n hx hb dX0_timesBy_7 rfl (lv_at hl 1 rfl) ?_
  refine lv_i2l (v := lN x) hx hb dX0_timesBy_8 (nI_l hx31) ?_
  refine lv_iload_n hx hb dX0_timesBy_9 rfl (lv_at hl 2 rfl) ?_
  refine lv_i2l (v := lN y) hx hb dX0_timesBy_10 (nI_l hy31) ?_
  refine lv_lmul hx hb dX0_timesBy_11 ?_
  refine lv_lstore (lv' := [(4, .long (lN x * lN y)), (0, .ref a.1), (1, .int (nI x)), (2, .int (nI y)), (3, .int (nI n))]) hx hb dX0_timesBy_12 hl (by decide) rfl (fun ls hl => ?_)
  refine lv_lload hx hb dX0_timesBy_14 (lv_at hl 0 rfl) ?_
  refine lv_iload_n hx hb dX0_timesBy_16 rfl (lv_at hl 4 rfl) ?_
  refine lv_i2l (v := lN n) hx hb dX0_timesBy_17 (nI_l hn31) ?_
  refine lv_lrem hx hb dX0_timesBy_18 (fun z => by have z2 := (lN_eq (b := 0) hn31 (by decide)).mp z; omega) ?_
  refine lv_l2i (v := nI (x * y % n)) hx hb dX0_timesBy_19 (by rw [lN_mul, pk_lRem (dl_mul63 hx31 hy31) hn0 (by omega), lN_i]) ?_
  exact hret _ _ _ () _ _ dX0_timesBy_20 rfl hP hD hS
set_option maxHeartbeats 4000000 in
theorem mX0_clearTable  : dx_MV l yX0_clearTable (ws_ yX0_clearTable cX0_clearTable 2 none) (rm_ 0 0) D (xT a) (xW a P O F B T K S) [.ref a.1] (fun (u : Nat → Int32) => ∀ j, j < 128 → u j = 0) (fun u => xW a P O F B T u S) := by
  refine dx_ofV (by decide) rfl (Nat.le_of_ble_eq_true rfl) ?_
  intro pg en sS mI aR bL mE cO A Q ls hx hb hml hown hts hA hK hP hD hS hl hret
  have hl : lv_has ls 2 [(0, .ref a.1)] := hl
  refine lv_iconst (v := (nI 0)) hx hb dX0_clearTable_0 (by decide) ?_
  refine lv_istore_n (lv' := [(1, .int (nI 0)), (0, .ref a.1)]) hx hb dX0_clearTable_1 rfl hl (by decide) rfl (fun ls hl => ?_)
  have loop : ∀ (n : Nat) (i : Nat) (K2 : Nat → Int32), (i ≤ 128) → (∀ j, j < i → K2 j = 0) → (128 - i) < n → ∀ (H : Heap) (locs : List Loc), va_P D vwCl (xW a P O F B T K2 S) H → va_D A (xW a P O F B T K2 S) → va_S A sS.heap H locs → ∀ ls : Array Slot, lv_has ls 2 [(0, .ref a.1), (1, .int (nI i))] → W pg l en (rm_ 0 0) sS mI aR bL mE cO H locs 0 0 Q (F0 mI 2 ls []) := by
    intro n
    induction n with
    | zero => intros; omega
    | succ n ih =>
      intro i K2 hi hk hn H locs hP hD hS ls hl
      refine lv_iload_n hx hb dX0_clearTable_2 rfl (lv_at hl 1 rfl) ?_
      refine lv_sipush (v := (nI 128)) hx hb dX0_clearTable_3 (by decide) ?_
      refine dn_icmp_ge (tgt := 22) hx hb dX0_clearTable_6 (by decide) (by omega) (by omega) (fun hc => ?_) (fun hc => ?_)
      · exact hret _ _ K2 _ _ dX0_clearTable_22 (fun j hj => hk j (by omega)) hP hD hS
      · refine lv_aload_n hx hb dX0_clearTable_9 rfl (lv_at hl 0 rfl) ?_
        refine xg_key hx hb hts hown hK hP dX0_clearTable_10 ?_
        refine lv_iload_n hx hb dX0_clearTable_13 rfl (lv_at hl 1 rfl) ?_
        refine lv_iconst (v := (nI 0)) hx hb dX0_clearTable_14 (by decide) ?_
        refine xs_key hx hb hK hP hD hS (by omega) dX0_clearTable_15 (fun H locs hP hD hS => ?_)
        refine lv_iinc (v := (nI (i + 1))) (lv' := [(1, .int (nI (i + 1))), (0, .ref a.1)]) hx hb dX0_clearTable_16 hl (k := 1) rfl (nI_1 _) (by decide) rfl (fun ls hl => ?_)
        refine lv_goto (tgt := 2) hx hb dX0_clearTable_19 (by decide) ?_
        exact ih (i + 1) _ (by omega) (fun j hj => dl_upd0 hk hj) (by omega) _ _ hP hD hS ls (lv_sub hl [1, 0] rfl)
  exact loop 129 0 K (by omega) (fun j hj => by omega) (by omega) _ _ hP hD hS ls (lv_sub hl [1, 0] rfl)
set_option maxHeartbeats 4000000 in
theorem mX0_cellOf {x : Nat} (hx20 : x < 1048576) : dx_MI l yX0_cellOf (ws_ yX0_cellOf cX0_cellOf 4 (some .int)) (rm_ 0 0) D (xT a) (xW a P O F B T K S) [.ref a.1, .int (nI x)] (fun (r : Int32) (u : Unit) => r = nI (dl_probe K (nI x) 128 (x * 37 % 128))) (fun _ => xW a P O F B T K S) := by
  refine dx_ofI (by decide) rfl (Nat.le_of_ble_eq_true rfl) ?_
  intro pg en sS mI aR bL mE cO A Q ls hx hb hml hown hts hA hK hP hD hS hl hret
  have hl : lv_has ls 4 [(0, .ref a.1), (1, .int (nI x))] := hl
  refine lv_iload_n hx hb dX0_cellOf_0 rfl (lv_at hl 1 rfl) ?_
  refine lv_bipush (v := (nI 37)) hx hb dX0_cellOf_1 (by decide) ?_
  refine dn_imul hx hb dX0_cellOf_3 ?_
  refine lv_bipush (v := (nI 127)) hx hb dX0_cellOf_4 (by decide) ?_
  refine dn_iand hx hb 7 dX0_cellOf_6 (by omega) (by decide) ?_
  refine lv_istore_n (lv' := [(2, .int (nI ((x * 37) % 2 ^ 7))), (0, .ref a.1), (1, .int (nI x))]) hx hb dX0_cellOf_7 rfl hl (by decide) rfl (fun ls hl => ?_)
  refine lv_iconst (v := (nI 0)) hx hb dX0_cellOf_8 (by decide) ?_
  refine lv_istore_n (lv' := [(3, .int (nI 0)), (2, .int (nI ((x * 37) % 2 ^ 7))), (0, .ref a.1), (1, .int (nI x))]) hx hb dX0_cellOf_9 rfl hl (by decide) rfl (fun ls hl => ?_)
  have loop : ∀ (n : Nat) (i t k : Nat), (i + k = 128) → (t < 128) → (dl_probe K (nI x) k t = dl_probe K (nI x) 128 (x * 37 % 128)) → (128 - i) < n → ∀ (H : Heap) (locs : List Loc), va_P D vwCl (xW a P O F B T K S) H → va_S A sS.heap H locs → ∀ ls : Array Slot, lv_has ls 4 [(0, .ref a.1), (1, .int (nI x)), (2, .int (nI t)), (3, .int (nI i))] → W pg l en (rm_ 0 0) sS mI aR bL mE cO H locs 0 0 Q (F0 mI 10 ls []) := by
    intro n
    induction n with
    | zero => intros; omega
    | succ n ih =>
      intro i t k hik ht he hn H locs hP hS ls hl
      refine lv_iload_n hx hb dX0_cellOf_10 rfl (lv_at hl 3 rfl) ?_
      refine lv_sipush (v := (nI 128)) hx hb dX0_cellOf_11 (by decide) ?_
      refine dn_icmp_ge (tgt := 49) hx hb dX0_cellOf_14 (by decide) (by omega) (by omega) (fun hc => ?_) (fun hc => ?_)
      · refine lv_iload_n hx hb dX0_cellOf_49 rfl (lv_at hl 2 rfl) ?_
        have hk0 : k = 0 := by omega
        subst hk0
        exact hret _ _ _ () _ _ dX0_cellOf_50 (by rw [← he]; rfl) hP hD hS
      · obtain ⟨k, rfl⟩ : ∃ j, k = j + 1 := ⟨k - 1, by omega⟩
        refine lv_aload_n hx hb dX0_cellOf_17 rfl (lv_at hl 0 rfl) ?_
        refine xg_key hx hb hts hown hK hP dX0_cellOf_18 ?_
        refine lv_iload_n hx hb dX0_cellOf_21 rfl (lv_at hl 2 rfl) ?_
        refine xl_key hx hb hK hP (by omega) dX0_cellOf_22 ?_
        refine lv_if_eq (tgt := 49) hx hb dX0_cellOf_23 (by decide) (fun h0 => ?_) (fun h0 => ?_)
        · refine lv_iload_n hx hb dX0_cellOf_49 rfl (lv_at hl 2 rfl) ?_
          exact hret _ _ _ () _ _ dX0_cellOf_50 (by rw [← he, dl_probe_hit (Or.inl h0)]) hP hD hS
        · refine lv_aload_n hx hb dX0_cellOf_26 rfl (lv_at hl 0 rfl) ?_
          refine xg_key hx hb hts hown hK hP dX0_cellOf_27 ?_
          refine lv_iload_n hx hb dX0_cellOf_30 rfl (lv_at hl 2 rfl) ?_
          refine xl_key hx hb hK hP (by omega) dX0_cellOf_31 ?_
          refine lv_iload_n hx hb dX0_cellOf_32 rfl (lv_at hl 1 rfl) ?_
          refine lv_icmp_eq (tgt := 49) hx hb dX0_cellOf_33 (by decide) (fun h1 => ?_) (fun h1 => ?_)
          · refine lv_iload_n hx hb dX0_cellOf_49 rfl (lv_at hl 2 rfl) ?_
            exact hret _ _ _ () _ _ dX0_cellOf_50 (by rw [← he, dl_probe_hit (Or.inr h1)]) hP hD hS
          · refine lv_iload_n hx hb dX0_cellOf_36 rfl (lv_at hl 2 rfl) ?_
            refine lv_iconst (v := (nI 1)) hx hb dX0_cellOf_37 (by decide) ?_
            refine dn_iadd hx hb dX0_cellOf_38 ?_
            refine lv_bipush (v := (nI 127)) hx hb dX0_cellOf_39 (by decide) ?_
            refine dn_iand hx hb 7 dX0_cellOf_41 (by omega) (by decide) ?_
            refine lv_istore_n (lv' := [(2, .int (nI ((t + 1) % 2 ^ 7))), (0, .ref a.1), (1, .int (nI x)), (3, .int (nI i))]) hx hb dX0_cellOf_42 rfl hl (by decide) rfl (fun ls hl => ?_)
            refine lv_iinc (v := (nI (i + 1))) (lv' := [(3, .int (nI (i + 1))), (2, .int (nI ((t + 1) % 2 ^ 7))), (0, .ref a.1), (1, .int (nI x))]) hx hb dX0_cellOf_43 hl (k := 3) rfl (nI_1 _) (by decide) rfl (fun ls hl => ?_)
            refine lv_goto (tgt := 10) hx hb dX0_cellOf_46 (by decide) ?_
            exact ih (i + 1) _ k (by omega) (Nat.mod_lt _ (by decide)) (by rw [← he, dl_probe_miss h0 h1]) (by omega) _ _ hP hS ls (lv_sub hl [2, 3, 1, 0] rfl)
  exact loop 129 0 _ 128 rfl (Nat.mod_lt _ (by decide)) rfl (by omega) _ _ hP hS ls (lv_sub hl [2, 3, 1, 0] rfl)
set_option maxHeartbeats 4000000 in
theorem mX0_rootUp {n : Nat} (h1n : 1 ≤ n) (hn9 : n ≤ 2039) : dx_MI l yX0_rootUp (ws_ yX0_rootUp cX0_rootUp 4 (some .int)) (rm_ 0 0) D (xT a) (xW a P O F B T K S) [.ref a.1, .int (nI n)] (fun (r : Int32) (u : Unit) => ∃ m, r = nI m ∧ 1 ≤ m ∧ m ≤ 46 ∧ n ≤ m * m ∧ (m - 1) * (m - 1) < n) (fun _ => xW a P O F B T K S) := by
  refine dx_ofI (by decide) rfl (Nat.le_of_ble_eq_true rfl) ?_
  intro pg en sS mI aR bL mE cO A Q ls hx hb hml hown hts hA hK hP hD hS hl hret
  have hl : lv_has ls 4 [(0, .ref a.1), (1, .int (nI n))] := hl
  refine lv_iconst (v := (nI 1)) hx hb dX0_rootUp_0 (by decide) ?_
  refine lv_istore_n (lv' := [(2, .int (nI 1)), (0, .ref a.1), (1, .int (nI n))]) hx hb dX0_rootUp_1 rfl hl (by decide) rfl (fun ls hl => ?_)
  refine lv_iconst (v := (nI 0)) hx hb dX0_rootUp_2 (by decide) ?_
  refine lv_istore_n (lv' := [(3, .int (nI 0)), (2, .int (nI 1)), (0, .ref a.1), (1, .int (nI n))]) hx hb dX0_rootUp_3 rfl hl (by decide) rfl (fun ls hl => ?_)
  have loop : ∀ (k9 : Nat) (i : Nat), (i * i < n) → (60 - i) < k9 → ∀ (H : Heap) (locs : List Loc), va_P D vwCl (xW a P O F B T K S) H → va_S A sS.heap H locs → ∀ ls : Array Slot, lv_has ls 4 [(0, .ref a.1), (1, .int (nI n)), (2, .int (nI (i + 1))), (3, .int (nI i))] → W pg l en (rm_ 0 0) sS mI aR bL mE cO H locs 0 0 Q (F0 mI 4 ls []) := by
    intro k9
    induction k9 with
    | zero => intros; omega
    | succ k9 ih =>
      intro i hi hn H locs hP hS ls hl
      have hi46 : i < 46 := by
        rcases Nat.lt_or_ge i 46 with z | z
        · exact z
        · have := Nat.mul_le_mul z z
          omega
      refine lv_iload_n hx hb dX0_rootUp_4 rfl (lv_at hl 3 rfl) ?_
      refine lv_bipush (v := (nI 50)) hx hb dX0_rootUp_5 (by decide) ?_
      refine dn_icmp_ge (tgt := 26) hx hb dX0_rootUp_7 (by decide) (by omega) (by omega) (fun z => absurd z (by omega)) (fun h5 => ?_)
      refine lv_iload_n hx hb dX0_rootUp_10 rfl (lv_at hl 2 rfl) ?_
      refine lv_iload_n hx hb dX0_rootUp_11 rfl (lv_at hl 2 rfl) ?_
      refine dn_imul hx hb dX0_rootUp_12 ?_
      refine lv_iload_n hx hb dX0_rootUp_13 rfl (lv_at hl 1 rfl) ?_
      refine dn_icmp_ge (tgt := 26) hx hb dX0_rootUp_14 (by decide) (dl_mlt2 (by omega) (by omega)) (by omega) (fun hc => ?_) (fun hc => ?_)
      · refine lv_iload_n hx hb dX0_rootUp_26 rfl (lv_at hl 2 rfl) ?_
        exact hret _ _ _ () _ _ dX0_rootUp_27 ⟨i + 1, rfl, by omega, by omega, hc, hi⟩ hP hD hS
      · refine lv_iinc (v := (nI (i + 1 + 1))) (lv' := [(2, .int (nI (i + 1 + 1))), (0, .ref a.1), (1, .int (nI n)), (3, .int (nI i))]) hx hb dX0_rootUp_17 hl (k := 2) rfl (nI_1 _) (by decide) rfl (fun ls hl => ?_)
        refine lv_iinc (v := (nI (i + 1))) (lv' := [(3, .int (nI (i + 1))), (2, .int (nI (i + 1 + 1))), (0, .ref a.1), (1, .int (nI n))]) hx hb dX0_rootUp_20 hl (k := 3) rfl (nI_1 _) (by decide) rfl (fun ls hl => ?_)
        refine lv_goto (tgt := 4) hx hb dX0_rootUp_23 (by decide) ?_
        exact ih (i + 1) hc (by omega) _ _ hP hS ls (lv_sub hl [2, 3, 1, 0] rfl)
  exact loop 61 0 (by omega) (by omega) _ _ hP hS ls (lv_sub hl [2, 3, 1, 0] rfl)
end XA
end
section
/-! the prime powers of a number: what the factoring loop keeps -/
def dl_F (N nf : Nat) (q t : Nat → Nat) : Prop := (∀ i, i < nf → dl_prime (q i) ∧ 1 ≤ t i ∧ q i ^ t i ∣ N ∧ ¬ q i ^ (t i + 1) ∣ N) ∧ (∀ i j, i < j → j < nf → q i < q j) ∧ (∀ z, dl_prime z → z ∣ N → ∃ i, i < nf ∧ q i = z)
def dl_I (p nf : Nat) (B T : Nat → Int32) : Prop := dl_P p ∧ nf ≤ 5 ∧ ∃ q t : Nat → Nat, (∀ i, i < nf → B i = nI (q i) ∧ T i = nI (t i)) ∧ dl_F (p - 1) nf q t
def dl_fc : Nat → Nat
  | 0 => 1
  | n + 1 => (n + 2) * dl_fc n
def dl_G (N d rest nf : Nat) (q t : Nat → Nat) : Prop := ∃ M, N = rest * M ∧ dl_fc nf ≤ M ∧ (∀ z, dl_prime z → z ∣ M → ∃ i, i < nf ∧ q i = z) ∧ 0 < rest ∧ nf + 2 ≤ d ∧ nf ≤ 5 ∧ (∀ z, dl_prime z → z < d → ¬ z ∣ rest) ∧ (∀ i, i < nf → dl_prime (q i) ∧ q i < d ∧ 1 ≤ t i ∧ q i ^ t i ∣ N ∧ ¬ q i ^ (t i + 1) ∣ N) ∧ (∀ i j, i < j → j < nf → q i < q j)
def dl_up (f : Nat → Nat) (k x : Nat) : Nat → Nat := fun i => if i = k then x else f i
theorem dl_up_s {f : Nat → Nat} {k x : Nat} : dl_up f k x k = x := if_pos rfl
theorem dl_up_n {f : Nat → Nat} {k x i : Nat} (h : i ≠ k) : dl_up f k x i = f i := if_neg h
theorem dl_np1 {z : Nat} (h : dl_prime z) : ¬ z ∣ 1 := fun hd => by
  have := h.1
  have := Nat.le_of_dvd (by omega) hd
  omega
theorem dl_G0 {N : Nat} (h : 0 < N) (q t : Nat → Nat) : dl_G N 2 N 0 q t :=
  ⟨1, (Nat.mul_one N).symm, Nat.le_refl 1, fun z hz hd => absurd hd (dl_np1 hz), h, by omega, by omega, fun z hz hlt => by have := hz.1; omega, fun i hi => by omega, fun i j _ hj => by omega⟩
theorem dl_G1 {N d rest nf : Nat} {q t : Nat → Nat} (h : dl_G N d rest nf q t) (hm : 0 < rest % d) : dl_G N (d + 1) rest nf q t := by
  obtain ⟨M, h1, h2, h3, h4, h5, h5b, h6, h7, h8⟩ := h
  refine ⟨M, h1, h2, h3, h4, by omega, h5b, fun z hz hlt hd => ?_, fun i hi => ?_, h8⟩
  · rcases Nat.lt_or_ge z d with y | y
    · exact h6 z hz y hd
    · have e : z = d := by omega
      subst e
      have := Nat.mod_eq_zero_of_dvd hd
      omega
  · obtain ⟨a1, a2, a3, a4, a5⟩ := h7 i hi
    exact ⟨a1, by omega, a3, a4, a5⟩
theorem dl_G2 {N d rest nf : Nat} {q t : Nat → Nat} (h : dl_G N d rest nf q t) (hN : N ≤ 2038) (hm : rest % d = 0) : dl_prime d ∧ nf < 5 := by
  obtain ⟨M, h1, h2, h3, h4, h5, h5b, h6, h7, h8⟩ := h
  have hd : d ∣ rest := Nat.dvd_of_mod_eq_zero hm
  refine ⟨⟨by omega, fun e he hed e0 => ?_⟩, ?_⟩
  · obtain ⟨z, hz, hze⟩ := dl_pf he
    have hzl : z ≤ e := Nat.le_of_dvd (by omega) hze
    exact h6 z hz (by omega) (Nat.dvd_trans hze (Nat.dvd_trans (Nat.dvd_of_mod_eq_zero e0) hd))
  · rcases Nat.lt_or_ge nf 5 with y | y
    · exact y
    · have e : nf = 5 := by omega
      subst e
      have h2 : 720 ≤ M := h2
      have hr : d ≤ rest := Nat.le_of_dvd h4 hd
      have := Nat.mul_le_mul (show 7 ≤ rest by omega) h2
      omega
theorem dl_G3 {N d rest nf r k : Nat} {q t : Nat → Nat} (h : dl_G N d rest nf q t) (hdp : dl_prime d) (hn5 : nf < 5) (hr : rest = r * d ^ k) (hk : 1 ≤ k) (hm : 0 < r % d) : dl_G N (d + 1) r (nf + 1) (dl_up q nf d) (dl_up t nf k) := by
  obtain ⟨M, h1, h2, h3, h4, h5, h5b, h6, h7, h8⟩ := h
  have hd2 := hdp.1
  have hrd : ¬ d ∣ r := fun z => by
    have := Nat.mod_eq_zero_of_dvd z
    omega
  have hr0 : 0 < r := by
    rcases Nat.eq_zero_or_pos r with z | z
    · rw [z, Nat.zero_mul] at hr
      omega
    · exact z
  have eN : N = d ^ k * (r * M) := by rw [h1, hr, Nat.mul_comm r, Nat.mul_assoc]
  refine ⟨M * d ^ k, ?_, ?_, ?_, hr0, by omega, by omega, ?_, ?_, ?_⟩
  · rw [eN, Nat.mul_comm, Nat.mul_assoc]
  · show (nf + 2) * dl_fc nf ≤ M * d ^ k
    rw [Nat.mul_comm M]
    refine Nat.mul_le_mul (Nat.le_trans h5 ?_) h2
    have := Nat.pow_le_pow_right (show 0 < d by omega) hk
    rw [Nat.pow_one] at this
    exact this
  · intro z hz hzd
    rcases dl_pmul_dvd hz hzd with y | y
    · obtain ⟨i, hi, e⟩ := h3 z hz y
      exact ⟨i, by omega, by rw [dl_up_n (by omega), e]⟩
    · exact ⟨nf, by omega, by rw [dl_up_s]; exact (dl_pp hz hdp (dl_ppow_dvd hz y)).symm⟩
  · intro z hz hlt hzd
    rcases Nat.lt_or_ge z d with y | y
    · exact h6 z hz y (by rw [hr]; exact Nat.dvd_trans hzd (Nat.dvd_mul_right r _))
    · have e : z = d := by omega
      subst e
      exact hrd hzd
  · intro i hi
    rcases Nat.lt_or_ge i nf with y | y
    · rw [dl_up_n (by omega), dl_up_n (by omega)]
      obtain ⟨a1, a2, a3, a4, a5⟩ := h7 i y
      exact ⟨a1, by omega, a3, a4, a5⟩
    · have e : i = nf := by omega
      subst e
      rw [dl_up_s, dl_up_s]
      refine ⟨hdp, by omega, hk, ⟨r * M, eN⟩, fun z => ?_⟩
      rw [eN, Nat.pow_succ] at z
      have z2 := Nat.dvd_of_mul_dvd_mul_left (Nat.pow_pos (by omega)) z
      rcases dl_pmul_dvd hdp z2 with w | w
      · exact hrd w
      · obtain ⟨j, hj, ej⟩ := h3 d hdp w
        have := (h7 j hj).2.1
        omega
  · intro i j hij hj
    rcases Nat.lt_or_ge j nf with y | y
    · rw [dl_up_n (by omega), dl_up_n (by omega)]
      exact h8 i j hij y
    · have e : j = nf := by omega
      subst e
      rw [dl_up_n (by omega), dl_up_s]
      exact (h7 i hij).2.1
theorem dl_G4 {N d nf : Nat} {q t : Nat → Nat} (h : dl_G N d 1 nf q t) : dl_F N nf q t ∧ nf ≤ 5 := by
  obtain ⟨M, h1, h2, h3, h4, h5, h5b, h6, h7, h8⟩ := h
  rw [Nat.one_mul] at h1
  subst h1
  exact ⟨⟨fun i hi => ⟨(h7 i hi).1, (h7 i hi).2.2⟩, h8, h3⟩, h5b⟩
theorem dl_G5 {N rest nf d : Nat} {q t : Nat → Nat} (h : dl_G N d rest nf q t) (hN : N ≤ 2038) (hd : 2039 < d) : rest = 1 := by
  obtain ⟨M, h1, h2, h3, h4, h5, h5b, h6, h7, h8⟩ := h
  have hM : 0 < M := by
    rcases Nat.eq_zero_or_pos M with z | z
    · have : 0 < dl_fc nf := by
        clear h1 h3 h5 h5b h6 h7 h8 h2
        induction nf with
        | zero => decide
        | succ n ih => exact Nat.mul_pos (by omega) ih
      omega
    · exact z
  have hle : rest ≤ N := by
    rw [h1]
    exact Nat.le_mul_of_pos_right rest hM
  rcases Nat.lt_or_ge rest 2 with y | y
  · omega
  · obtain ⟨z, hz, hzr⟩ := dl_pf y
    have := Nat.le_of_dvd h4 hzr
    exact absurd hzr (h6 z hz (by omega))
theorem dl_Gle {N rest nf d : Nat} {q t : Nat → Nat} (h : dl_G N d rest nf q t) : 0 < rest ∧ (0 < N → rest ≤ N) ∧ 2 ≤ d ∧ nf ≤ 5 := by
  obtain ⟨M, h1, h2, h3, h4, h5, h5b, -⟩ := h
  refine ⟨h4, fun hN => ?_, by omega, h5b⟩
  have hM : 0 < M := by
    rcases Nat.eq_zero_or_pos M with z | z
    · rw [z, Nat.mul_zero] at h1
      omega
    · exact z
  rw [h1]
  exact Nat.le_mul_of_pos_right rest hM
theorem dl_p12 {rest r d i : Nat} (e : rest = r * d ^ i) (hr : 0 < r) (hd : 2 ≤ d) (hle : rest ≤ 2038) : i < 12 := by
  rcases Nat.lt_or_ge i 12 with z | z
  · exact z
  · have h1 : 2 ^ 12 ≤ 2 ^ i := Nat.pow_le_pow_right (by decide) z
    have h2 : 2 ^ i ≤ d ^ i := Nat.pow_le_pow_left hd i
    have h3 : d ^ i ≤ r * d ^ i := Nat.le_mul_of_pos_left _ hr
    have h4 : (2 : Nat) ^ 12 = 4096 := by decide
    omega
theorem dl_divstep {rest r d i : Nat} (e : rest = r * d ^ i) (hm : r % d = 0) : rest = r / d * d ^ (i + 1) := by
  rw [Nat.pow_succ, Nat.mul_comm (d ^ i) d, ← Nat.mul_assoc, Nat.div_mul_cancel (Nat.dvd_of_mod_eq_zero hm)]
  exact e
theorem dl_iext {nf i d k : Nat} {B T T3 : Nat → Int32} {q t : Nat → Nat} (h : ∀ i, i < nf → B i = nI (q i) ∧ T i = nI (t i)) (hT : ∀ j, j < nf → T3 j = T j) (hk : T3 nf = nI k) (hi : i < nf + 1) : upd B nf (nI d) i = nI (dl_up q nf d i) ∧ T3 i = nI (dl_up t nf k i) := by
  rcases Nat.lt_or_ge i nf with z | z
  · rw [pk_un (by omega), dl_up_n (by omega), dl_up_n (by omega), hT i z]
    exact h i z
  · have e : i = nf := by omega
    subst e
    rw [pk_us, dl_up_s, dl_up_s, hk]
    exact ⟨rfl, rfl⟩
end
section
/-! relations of the operations; the order by its prime powers -/
def dl_isP (x : Int32) : Prop := ∃ n, x = nI n ∧ dl_P n
def R_prime (p : Nat) (x r : Int32) (p2 : Nat) : Prop := (¬ dl_isP x ∧ r = -1 ∧ p2 = p) ∨ (∃ n, x = nI n ∧ dl_P n ∧ r = nI p ∧ p2 = n)
def R_next (p : Nat) (r : Int32) (p2 : Nat) : Prop := (∃ n, p < n ∧ dl_P n ∧ (∀ j, p < j → j < n → ¬ dl_prime j) ∧ r = nI n ∧ p2 = n) ∨ ((∀ j, p < j → j ≤ 2039 → ¬ dl_prime j) ∧ r = -4 ∧ p2 = p)
def dl_isK (lo : Nat) (x : Int32) : Prop := ∃ k, x = nI k ∧ lo ≤ k ∧ k ≤ 1000000
def R_power (p : Nat) (g x r : Int32) : Prop := (¬ (dl_isU p g ∧ dl_isK 0 x) ∧ r = -1) ∨ (∃ u k, g = nI u ∧ dl_U p u ∧ x = nI k ∧ k ≤ 1000000 ∧ r = nI (u ^ k % p))
def R_inverse (p : Nat) (g r : Int32) : Prop := (¬ dl_isU p g ∧ r = -1) ∨ (∃ u y, g = nI u ∧ dl_U p u ∧ dl_U p y ∧ u * y % p = 1 ∧ r = nI y)
def R_order (p : Nat) (g r : Int32) : Prop := (¬ dl_isU p g ∧ r = -1) ∨ (∃ u n, g = nI u ∧ dl_U p u ∧ dl_ord p u n ∧ r = nI n)
def R_uoo (p n : Nat) (r : Int32) : Prop := (∃ u, r = nI u ∧ dl_U p u ∧ dl_ord p u n ∧ ∀ v, dl_U p v → v < u → ¬ dl_ord p v n) ∨ (r = -4 ∧ ∀ v, dl_U p v → ¬ dl_ord p v n)
theorem dl_nat3 {x : Int32} (h1 : ¬ x < nI 3) (h2 : ¬ nI 2039 < x) : ∃ n, 3 ≤ n ∧ n ≤ 2039 ∧ x = nI n := by
  have h0 : ¬ x < nI 1 := fun z => h1 (by
    rw [fa_lt] at z ⊢
    have e1 : (nI 1).toInt = 1 := nI_toInt (by decide)
    have e0 : (nI 3).toInt = 3 := nI_toInt (by decide)
    omega)
  obtain ⟨j, -, hj, rfl⟩ := dl_nat1 h0
  refine ⟨j, ?_, ?_, rfl⟩
  · rcases Nat.lt_or_ge j 3 with z | z
    · exact absurd ((nI_ltI hj (by decide)).mpr z) h1
    · exact z
  · rcases Nat.lt_or_ge 2039 j with z | z
    · exact absurd ((nI_ltI (by decide) hj).mpr z) h2
    · exact z
theorem dl_notP1 {x : Int32} (h : x < nI 3) : ¬ dl_isP x := by
  rintro ⟨n, rfl, h3, h9, -⟩
  have := (nI_ltI (by omega) (by decide)).mp h
  omega
theorem dl_notP2 {x : Int32} (h : nI 2039 < x) : ¬ dl_isP x := by
  rintro ⟨n, rfl, h3, h9, -⟩
  have := (nI_ltI (by decide) (by omega)).mp h
  omega
theorem dl_notP3 {n : Nat} (h9 : n ≤ 2039) (h : ¬ dl_prime n) : ¬ dl_isP (nI n) := by
  rintro ⟨j, e, h3, h9', hp⟩
  have := (nI_eq (by omega) (by omega)).mp e
  subst this
  exact h hp
theorem dl_K_of {x : Int32} (h1 : ¬ x < 0) (h2 : x ≤ nI 1000000) : ∃ k, x = nI k ∧ k ≤ 1000000 := by
  obtain ⟨j, hj, rfl⟩ := nI_of h1
  exact ⟨j, rfl, (nI_leI hj (by decide)).mp h2⟩
theorem dl_notK1 {x : Int32} (h : x < 0) (lo : Nat) : ¬ dl_isK lo x := by
  rintro ⟨k, rfl, -, hk⟩
  exact nI_pos (by omega) h
theorem dl_notK2 {x : Int32} (h : ¬ x ≤ nI 1000000) (lo : Nat) : ¬ dl_isK lo x := by
  rintro ⟨k, rfl, -, hk⟩
  exact h ((nI_leI (by omega) (by decide)).mpr hk)
theorem dl_notK3 {x : Int32} (h : x < nI 1) : ¬ dl_isK 1 x := by
  rintro ⟨k, rfl, h1, hk⟩
  have := (nI_ltI (by omega) (by decide)).mp h
  omega
/-- bounds of the prime powers -/
theorem dl_Fb {p nf i : Nat} {q t : Nat → Nat} (hP : dl_P p) (hF : dl_F (p - 1) nf q t) (hi : i < nf) : 2 ≤ q i ∧ q i ≤ 2038 ∧ t i < 12 ∧ 1 ≤ t i ∧ q i ∣ p - 1 := by
  have h3 := hP.1
  have h9 := hP.2.1
  obtain ⟨a1, a2, a3, a4⟩ := hF.1 i hi
  have hq2 := a1.1
  have hd : q i ∣ p - 1 := by
    refine Nat.dvd_trans ?_ a3
    have := Nat.pow_dvd_pow (q i) a2
    rw [Nat.pow_one] at this
    exact this
  have hle := Nat.le_of_dvd (by omega) hd
  obtain ⟨c, hc⟩ := a3
  refine ⟨hq2, by omega, ?_, a2, hd⟩
  refine dl_p12 (rest := p - 1) (r := c) (d := q i) (by rw [Nat.mul_comm]; exact hc) ?_ hq2 (by omega)
  rcases Nat.eq_zero_or_pos c with z | z
  · rw [z, Nat.mul_zero] at hc
    omega
  · exact z
def dl_O (p g nf : Nat) (q t : Nat → Nat) (f n : Nat) : Prop := 0 < n ∧ n ∣ p - 1 ∧ g ^ n % p = 1 ∧ (∀ j, j < f → q j ∣ n → ¬ g ^ (n / q j) % p = 1) ∧ (∀ j, f ≤ j → j < nf → q j ^ t j ∣ n)
def dl_O1 (p g nf : Nat) (q t : Nat → Nat) (f i n : Nat) : Prop := 0 < n ∧ n ∣ p - 1 ∧ g ^ n % p = 1 ∧ (∀ j, j < f → q j ∣ n → ¬ g ^ (n / q j) % p = 1) ∧ (∀ j, f < j → j < nf → q j ^ t j ∣ n) ∧ n * q f ^ i ∣ p - 1 ∧ q f ^ (t f - i) ∣ n
theorem dl_O_0 {p g nf : Nat} {q t : Nat → Nat} (hP : dl_P p) (hg : dl_U p g) (hF : dl_F (p - 1) nf q t) : dl_O p g nf q t 0 (p - 1) :=
  ⟨by have := hP.1; omega, Nat.dvd_refl _, dl_fermat hP hg, fun j hj => by omega, fun j _ hj => (hF.1 j hj).2.2.1⟩
theorem dl_O_1 {p g nf f n : Nat} {q t : Nat → Nat} (hf : f < nf) (h : dl_O p g nf q t f n) : dl_O1 p g nf q t f 0 n := by
  obtain ⟨h1, h2, h3, h4, h5⟩ := h
  exact ⟨h1, h2, h3, h4, fun j h6 h7 => h5 j (by omega) h7, by rw [Nat.pow_zero, Nat.mul_one]; exact h2, h5 f (Nat.le_refl f) hf⟩
theorem dl_O1_q {p g nf f i n : Nat} {q t : Nat → Nat} (h : dl_O1 p g nf q t f i n) (hi : i < t f) : q f ∣ n := by
  obtain ⟨h1, h2, h3, h4, h5, h6, h7⟩ := h
  refine Nat.dvd_trans ?_ h7
  have := Nat.pow_dvd_pow (q f) (show 1 ≤ t f - i by omega)
  rw [Nat.pow_one] at this
  exact this
theorem dl_O1_end {p g nf f i n : Nat} {q t : Nat → Nat} (hP : dl_P p) (hF : dl_F (p - 1) nf q t) (hf : f < nf) (h : dl_O1 p g nf q t f i n) (hi : t f ≤ i) : dl_O p g nf q t (f + 1) n := by
  obtain ⟨h1, h2, h3, h4, h5, h6, h7⟩ := h
  refine ⟨h1, h2, h3, fun j hj hd => ?_, fun j hj hn => h5 j (by omega) hn⟩
  rcases Nat.lt_or_ge j f with z | z
  · exact h4 j z hd
  · have e : j = f := by omega
    subst e
    refine absurd ?_ (hF.1 j hf).2.2.2
    refine Nat.dvd_trans ?_ h6
    rw [Nat.pow_succ, Nat.mul_comm]
    exact Nat.mul_dvd_mul hd (Nat.pow_dvd_pow (q j) hi)
theorem dl_O1_no {p g nf f i n : Nat} {q t : Nat → Nat} (h : dl_O1 p g nf q t f i n) (hr : ¬ g ^ (n / q f) % p = 1) : dl_O p g nf q t (f + 1) n := by
  obtain ⟨h1, h2, h3, h4, h5, h6, h7⟩ := h
  refine ⟨h1, h2, h3, fun j hj hd => ?_, fun j hj hn => h5 j (by omega) hn⟩
  rcases Nat.lt_or_ge j f with z | z
  · exact h4 j z hd
  · have e : j = f := by omega
    subst e
    exact hr
theorem dl_O1_step {p g nf f i n : Nat} {q t : Nat → Nat} (hP : dl_P p) (hF : dl_F (p - 1) nf q t) (hf : f < nf) (h : dl_O1 p g nf q t f i n) (hi : i < t f) (hr : g ^ (n / q f) % p = 1) : dl_O1 p g nf q t f (i + 1) (n / q f) := by
  obtain ⟨n', hn⟩ := dl_O1_q h hi
  obtain ⟨h1, h2, h3, h4, h5, h6, h7⟩ := h
  have hqp := (hF.1 f hf).1
  have hq0 : 0 < q f := by have := hqp.1; omega
  have e : n / q f = n' := by rw [hn, Nat.mul_div_cancel_left _ hq0]
  rw [e] at hr ⊢
  have hn0 : 0 < n' := by
    rcases Nat.eq_zero_or_pos n' with z | z
    · rw [z, Nat.mul_zero] at hn
      omega
    · exact z
  have hdn : n' ∣ n := ⟨q f, by rw [hn, Nat.mul_comm]⟩
  refine ⟨hn0, Nat.dvd_trans hdn h2, hr, fun j hj hd hx => ?_, fun j hj hnf => ?_, ?_, ?_⟩
  · refine h4 j hj (Nat.dvd_trans hd hdn) ?_
    have e2 : n / q j = n' / q j * q f := by rw [hn, Nat.mul_div_assoc _ hd, Nat.mul_comm]
    rw [e2]
    exact dl_powmul (dl_P1 hP) hx (q f)
  · have hd := h5 j hj hnf
    rw [hn] at hd
    have hne : q j ≠ q f := by
      have := hF.2.1 f j hj hnf
      omega
    exact ((dl_cop2 (hF.1 j hnf).1 hqp hne).pow_left (t j)).dvd_of_dvd_mul_left hd
  · rw [hn] at h6
    rw [Nat.pow_succ, Nat.mul_comm (q f ^ i), ← Nat.mul_assoc, Nat.mul_comm n']
    exact h6
  · have e3 : t f - i = t f - (i + 1) + 1 := by omega
    rw [e3, Nat.pow_succ, Nat.mul_comm, hn] at h7
    exact Nat.dvd_of_mul_dvd_mul_left hq0 h7
theorem dl_O_end {p g nf f n : Nat} {q t : Nat → Nat} (hP : dl_P p) (hF : dl_F (p - 1) nf q t) (hf : nf ≤ f) (h : dl_O p g nf q t f n) : dl_ord p g n := by
  obtain ⟨h1, h2, h3, h4, h5⟩ := h
  refine dl_ord_pr (dl_P1 hP) h1 h3 (fun z hz hd => ?_)
  obtain ⟨i, hi, e⟩ := hF.2.2 z hz (Nat.dvd_trans hd h2)
  subst e
  exact h4 i (by omega) hd
theorem dl_gen_end {p g nf f : Nat} {q t : Nat → Nat} (hP : dl_P p) (hg : dl_U p g) (hF : dl_F (p - 1) nf q t) (hf : nf ≤ f) (h : ∀ j, j < f → ¬ g ^ ((p - 1) / q j) % p = 1) : dl_ord p g (p - 1) := by
  refine dl_ord_pr (dl_P1 hP) (by have := hP.1; omega) (dl_fermat hP hg) (fun z hz hd => ?_)
  obtain ⟨i, hi, e⟩ := hF.2.2 z hz hd
  subst e
  exact h i (by omega)
theorem dl_gen_no {p g nf f : Nat} {q t : Nat → Nat} (hP : dl_P p) (hF : dl_F (p - 1) nf q t) (hf : f < nf) (h : g ^ ((p - 1) / q f) % p = 1) : ¬ dl_ord p g (p - 1) := fun ho => by
  have h3 := hP.1
  obtain ⟨b1, b2, b3, b4, b5⟩ := dl_Fb hP hF hf
  refine ho.2.2 _ ?_ ?_ h
  · exact Nat.div_pos (Nat.le_of_dvd (by omega) b5) (by omega)
  · exact Nat.div_lt_self (by omega) (by omega)
theorem dl_gen_ex {p : Nat} (hP : dl_P p) : ∃ u, dl_U p u ∧ dl_ord p u (p - 1) := by
  obtain ⟨r, hr⟩ := dl_root hP
  have h2 := dl_ord_mod.mpr hr
  exact ⟨r % p, dl_U_ord (dl_P1 hP) h2 (Nat.mod_lt _ (by have := hP.1; omega)), h2⟩
theorem dl_lt_s {P : Nat → Prop} {p g : Nat} (h : ∀ v, dl_U p v → v < g → ¬ P v) (hg : ¬ P g) : ∀ v, dl_U p v → v < g + 1 → ¬ P v := fun v hv hlt => by
  rcases Nat.lt_or_ge v g with z | z
  · exact h v hv z
  · have e : v = g := by omega
    subst e
    exact hg
end
section
set_option maxRecDepth 100000
section XB
variable {l : Launch} {D : va_G} {a : xA} {P O F : Int32} {B T K S : Nat → Int32} {p nf : Nat}
set_option maxHeartbeats 4000000 in
theorem mX0_factor (hpp : dl_P p) : dx_MV l yX0_factor (ws_ yX0_factor cX0_factor 4 none) (rm_ 0 0) D (xT a) (xW a (nI p) O F B T K S) [.ref a.1] (fun (u : Nat × (Nat → Int32) × (Nat → Int32)) => dl_I p u.1 u.2.1 u.2.2) (fun u => xW a (nI p) (nI (p - 1)) (nI u.1) u.2.1 u.2.2 K S) := by
  refine dx_ofV (by decide) rfl (Nat.le_of_ble_eq_true rfl) ?_
  intro pg en sS mI aR bL mE cO A Q ls hx hb hml hown hts hA hK hP hD hS hl hret
  have hl : lv_has ls 4 [(0, .ref a.1)] := hl
  have hp3 := hpp.1
  have hp9 := hpp.2.1
  refine lv_aload_n hx hb dX0_factor_0 rfl (lv_at hl 0 rfl) ?_
  refine lv_aload_n hx hb dX0_factor_1 rfl (lv_at hl 0 rfl) ?_
  refine xg_p hx hb hts hown hK hP dX0_factor_2 ?_
  refine lv_iconst (v := (nI 1)) hx hb dX0_factor_5 (by decide) ?_
  refine dn_isub hx hb dX0_factor_6 (by omega) ?_
  refine xp_order hx hb hts hown hK hP hD hS dX0_factor_7 (fun H locs hP hD hS => ?_)
  refine lv_aload_n hx hb dX0_factor_10 rfl (lv_at hl 0 rfl) ?_
  refine lv_iconst (v := (nI 0)) hx hb dX0_factor_11 (by decide) ?_
  refine xp_factors hx hb hts hown hK hP hD hS dX0_factor_12 (fun H locs hP hD hS => ?_)
  refine lv_aload_n hx hb dX0_factor_15 rfl (lv_at hl 0 rfl) ?_
  refine xg_order hx hb hts hown hK hP dX0_factor_16 ?_
  refine lv_istore_n (lv' := [(1, .int (nI (p - 1))), (0, .ref a.1)]) hx hb dX0_factor_19 rfl hl (by decide) rfl (fun ls hl => ?_)
  refine lv_iconst (v := (nI 2)) hx hb dX0_factor_20 (by decide) ?_
  refine lv_istore_n (lv' := [(2, .int (nI 2)), (1, .int (nI (p - 1))), (0, .ref a.1)]) hx hb dX0_factor_21 rfl hl (by decide) rfl (fun ls hl => ?_)
  have loop : ∀ (n : Nat) (d rest nf : Nat) (q t : Nat → Nat) (B2 T2 : Nat → Int32), (d ≤ 2040) → (dl_G (p - 1) d rest nf q t) → (∀ i, i < nf → B2 i = nI (q i) ∧ T2 i = nI (t i)) → (2041 - d) < n → ∀ (H : Heap) (locs : List Loc), va_P D vwCl (xW a (nI p) (nI (p - 1)) (nI nf) B2 T2 K S) H → va_D A (xW a (nI p) (nI (p - 1)) (nI nf) B2 T2 K S) → va_S A sS.heap H locs → ∀ ls : Array Slot, lv_has ls 4 [(0, .ref a.1), (1, .int (nI rest)), (2, .int (nI d))] → W pg l en (rm_ 0 0) sS mI aR bL mE cO H locs 0 0 Q (F0 mI 22 ls []) := by
    intro n
    induction n with
    | zero => intros; omega
    | succ n ih =>
      intro d rest nf q t B2 T2 hd hG hBT hn H locs hP hD hS ls hl
      obtain ⟨hr0, hrN, hd2, hn5⟩ := dl_Gle hG
      have hrN := hrN (by omega)
      refine lv_iload_n hx hb dX0_factor_22 rfl (lv_at hl 2 rfl) ?_
      refine lv_sipush (v := (nI 2039)) hx hb dX0_factor_23 (by decide) ?_
      refine dn_icmp_gt (tgt := 128) hx hb dX0_factor_26 (by decide) (by omega) (by omega) (fun hc => ?_) (fun hc => ?_)
      · have e1 : rest = 1 := dl_G5 hG (by omega) hc
        subst e1
        obtain ⟨hF, hn5⟩ := dl_G4 hG
        exact hret _ _ (nf, B2, T2) _ _ dX0_factor_128 ⟨hpp, hn5, q, t, hBT, hF⟩ hP hD hS
      · refine lv_iload_n hx hb dX0_factor_29 rfl (lv_at hl 1 rfl) ?_
        refine lv_iconst (v := (nI 1)) hx hb dX0_factor_30 (by decide) ?_
        refine dn_icmp_le (tgt := 128) hx hb dX0_factor_31 (by decide) (by omega) (by omega) (fun hr1 => ?_) (fun hr1 => ?_)
        · have e1 : rest = 1 := by omega
          subst e1
          obtain ⟨hF, hn5⟩ := dl_G4 hG
          exact hret _ _ (nf, B2, T2) _ _ dX0_factor_128 ⟨hpp, hn5, q, t, hBT, hF⟩ hP hD hS
        · refine lv_iload_n hx hb dX0_factor_34 rfl (lv_at hl 1 rfl) ?_
          refine lv_iload_n hx hb dX0_factor_35 rfl (lv_at hl 2 rfl) ?_
          refine dn_irem hx hb dX0_factor_36 (by omega) (by omega) (by omega) ?_
          refine dn_if_ne (tgt := 122) hx hb dX0_factor_37 (by decide) (Nat.lt_trans (Nat.mod_lt _ (by omega)) (by omega)) (fun hm => ?_) (fun hm => ?_)
          · refine lv_iinc (v := (nI (d + 1))) (lv' := [(2, .int (nI (d + 1))), (0, .ref a.1), (1, .int (nI rest))]) hx hb dX0_factor_122 hl (k := 2) rfl (nI_1 _) (by decide) rfl (fun ls hl => ?_)
            refine lv_goto (tgt := 22) hx hb dX0_factor_125 (by decide) ?_
            exact ih (d + 1) rest nf q t B2 T2 (by omega) (dl_G1 hG hm) hBT (by omega) _ _ hP hD hS ls (lv_sub hl [1, 2, 0] rfl)
          · obtain ⟨hdp, hlt5⟩ := dl_G2 hG (by omega) hm
            refine lv_aload_n hx hb dX0_factor_40 rfl (lv_at hl 0 rfl) ?_
            refine xg_factors hx hb hts hown hK hP dX0_factor_41 ?_
            refine lv_iconst (v := (nI 5)) hx hb dX0_factor_44 (by decide) ?_
            refine dn_icmp_ge (tgt := 122) hx hb dX0_factor_45 (by decide) (by omega) (by omega) (fun z => absurd z (by omega)) (fun h5 => ?_)
            refine lv_aload_n hx hb dX0_factor_48 rfl (lv_at hl 0 rfl) ?_
            refine xg_base hx hb hts hown hK hP dX0_factor_49 ?_
            refine lv_aload_n hx hb dX0_factor_52 rfl (lv_at hl 0 rfl) ?_
            refine xg_factors hx hb hts hown hK hP dX0_factor_53 ?_
            refine lv_iload_n hx hb dX0_factor_56 rfl (lv_at hl 2 rfl) ?_
            refine xs_base hx hb hK hP hD hS (by omega) dX0_factor_57 (fun H locs hP hD hS => ?_)
            refine lv_aload_n hx hb dX0_factor_58 rfl (lv_at hl 0 rfl) ?_
            refine xg_times hx hb hts hown hK hP dX0_factor_59 ?_
            refine lv_aload_n hx hb dX0_factor_62 rfl (lv_at hl 0 rfl) ?_
            refine xg_factors hx hb hts hown hK hP dX0_factor_63 ?_
            refine lv_iconst (v := (nI 0)) hx hb dX0_factor_66 (by decide) ?_
            refine xs_times hx hb hK hP hD hS (by omega) dX0_factor_67 (fun H locs hP hD hS => ?_)
            refine lv_iconst (v := (nI 0)) hx hb dX0_factor_68 (by decide) ?_
            refine lv_istore_n (lv' := [(3, .int (nI 0)), (0, .ref a.1), (1, .int (nI rest)), (2, .int (nI d))]) hx hb dX0_factor_69 rfl hl (by decide) rfl (fun ls hl => ?_)
            have inner : ∀ (n2 : Nat) (i r : Nat) (T3 : Nat → Int32), (rest = r * d ^ i) → (0 < r) → (∀ j, j < nf → T3 j = T2 j) → (T3 nf = nI i) → (12 - i) < n2 → ∀ (H : Heap) (locs : List Loc), va_P D vwCl (xW a (nI p) (nI (p - 1)) (nI nf) (upd B2 nf (nI d)) T3 K S) H → va_D A (xW a (nI p) (nI (p - 1)) (nI nf) (upd B2 nf (nI d)) T3 K S) → va_S A sS.heap H locs → ∀ ls : Array Slot, lv_has ls 4 [(0, .ref a.1), (1, .int (nI r)), (2, .int (nI d)), (3, .int (nI i))] → W pg l en (rm_ 0 0) sS mI aR bL mE cO H locs 0 0 Q (F0 mI 70 ls []) := by
              intro n2
              induction n2 with
              | zero => intros; omega
              | succ n2 ih2 =>
                intro i r T3 er hr hT hTn hn2 H locs hP hD hS ls hl
                have hi12 : i < 12 := dl_p12 er hr hd2 (by omega)
                have hrr : r ≤ rest := by rw [er]; exact Nat.le_mul_of_pos_right r (Nat.pow_pos (by omega))
                refine lv_iload_n hx hb dX0_factor_70 rfl (lv_at hl 3 rfl) ?_
                refine lv_bipush (v := (nI 12)) hx hb dX0_factor_71 (by decide) ?_
                refine dn_icmp_ge (tgt := 112) hx hb dX0_factor_73 (by decide) (by omega) (by omega) (fun z => absurd z (by omega)) (fun h12 => ?_)
                refine lv_iload_n hx hb dX0_factor_76 rfl (lv_at hl 1 rfl) ?_
                refine lv_iload_n hx hb dX0_factor_77 rfl (lv_at hl 2 rfl) ?_
                refine dn_irem hx hb dX0_factor_78 (by omega) (by omega) (by omega) ?_
                refine dn_if_ne (tgt := 112) hx hb dX0_factor_79 (by decide) (Nat.lt_trans (Nat.mod_lt _ (by omega)) (by omega)) (fun hmd => ?_) (fun hmd => ?_)
                · have hi1 : 1 ≤ i := by
                    rcases Nat.eq_zero_or_pos i with z | z
                    · subst z
                      rw [Nat.pow_zero, Nat.mul_one] at er
                      subst er
                      omega
                    · exact z
                  refine lv_aload_n hx hb dX0_factor_112 rfl (lv_at hl 0 rfl) ?_
                  refine lv_dup hx hb dX0_factor_113 rfl ?_
                  refine xg_factors hx hb hts hown hK hP dX0_factor_114 ?_
                  refine lv_iconst (v := (nI 1)) hx hb dX0_factor_117 (by decide) ?_
                  refine dn_iadd hx hb dX0_factor_118 ?_
                  refine xp_factors hx hb hts hown hK hP hD hS dX0_factor_119 (fun H locs hP hD hS => ?_)
                  refine lv_iinc (v := (nI (d + 1))) (lv' := [(2, .int (nI (d + 1))), (0, .ref a.1), (1, .int (nI r)), (3, .int (nI i))]) hx hb dX0_factor_122 hl (k := 2) rfl (nI_1 _) (by decide) rfl (fun ls hl => ?_)
                  refine lv_goto (tgt := 22) hx hb dX0_factor_125 (by decide) ?_
                  exact ih (d + 1) r (nf + 1) (dl_up q nf d) (dl_up t nf i) _ _ (by omega) (dl_G3 hG hdp hlt5 er hi1 hmd) (fun j hj => dl_iext hBT hT hTn hj) (by omega) _ _ hP hD hS ls (lv_sub hl [1, 2, 0] rfl)
                · refine lv_iload_n hx hb dX0_factor_82 rfl (lv_at hl 1 rfl) ?_
                  refine lv_iload_n hx hb dX0_factor_83 rfl (lv_at hl 2 rfl) ?_
                  refine dn_idiv hx hb dX0_factor_84 (by omega) (by omega) (by omega) ?_
                  refine lv_istore_n (lv' := [(1, .int (nI (r / d))), (0, .ref a.1), (2, .int (nI d)), (3, .int (nI i))]) hx hb dX0_factor_85 rfl hl (by decide) rfl (fun ls hl => ?_)
                  refine lv_aload_n hx hb dX0_factor_86 rfl (lv_at hl 1 rfl) ?_
                  refine xg_times hx hb hts hown hK hP dX0_factor_87 ?_
                  refine lv_aload_n hx hb dX0_factor_90 rfl (lv_at hl 1 rfl) ?_
                  refine xg_factors hx hb hts hown hK hP dX0_factor_91 ?_
                  refine lv_aload_n hx hb dX0_factor_94 rfl (lv_at hl 1 rfl) ?_
                  refine xg_times hx hb hts hown hK hP dX0_factor_95 ?_
                  refine lv_aload_n hx hb dX0_factor_98 rfl (lv_at hl 1 rfl) ?_
                  refine xg_factors hx hb hts hown hK hP dX0_factor_99 ?_
                  refine xl_times hx hb hK hP (by omega) dX0_factor_102 ?_
                  refine dn_top (show ((T3 nf) : Int32) = (nI i) from hTn) ?_
                  refine lv_iconst (v := (nI 1)) hx hb dX0_factor_103 (by decide) ?_
                  refine dn_iadd hx hb dX0_factor_104 ?_
                  refine xs_times hx hb hK hP hD hS (by omega) dX0_factor_105 (fun H locs hP hD hS => ?_)
                  refine lv_iinc (v := (nI (i + 1))) (lv' := [(3, .int (nI (i + 1))), (1, .int (nI (r / d))), (0, .ref a.1), (2, .int (nI d))]) hx hb dX0_factor_106 hl (k := 3) rfl (nI_1 _) (by decide) rfl (fun ls hl => ?_)
                  refine lv_goto (tgt := 70) hx hb dX0_factor_109 (by decide) ?_
                  exact ih2 (i + 1) (r / d) _ (dl_divstep er hmd) (Nat.div_pos (Nat.le_of_dvd hr (Nat.dvd_of_mod_eq_zero hmd)) (by omega)) (fun j hj => by rw [pk_un (by omega)]; exact hT j hj) pk_us (by omega) _ _ hP hD hS ls (lv_sub hl [2, 1, 3, 0] rfl)
            exact inner 13 0 rest _ (by rw [Nat.pow_zero, Nat.mul_one]) hr0 (fun j hj => pk_un (by omega)) pk_us (by omega) _ _ hP hD hS ls (lv_sub hl [1, 2, 3, 0] rfl)
  exact loop 2042 2 (p - 1) 0 (fun _ => 0) (fun _ => 0) B T (by omega) (dl_G0 (by omega) _ _) (fun i hi => by omega) (by omega) _ _ hP hD hS ls (lv_sub hl [2, 1, 0] rfl)
set_option maxHeartbeats 4000000 in
theorem mX0_prime {x : Int32} (hI : dl_I p nf B T) : dx_MI l yX0_prime (ws_ yX0_prime cX0_prime 4 (some .int)) (rm_ 1 23) D (xT a) (xW a (nI p) (nI (p - 1)) (nI nf) B T K S) [.ref a.1, .int x] (fun (r : Int32) (u : Nat × Nat × (Nat → Int32) × (Nat → Int32)) => dl_I u.1 u.2.1 u.2.2.1 u.2.2.2 ∧ R_prime p x r u.1) (fun u => xW a (nI u.1) (nI (u.1 - 1)) (nI u.2.1) u.2.2.1 u.2.2.2 K S) := by
  refine dx_ofI (by decide) rfl (Nat.le_of_ble_eq_true rfl) ?_
  intro pg en sS mI aR bL mE cO A Q ls hx hb hml hown hts hA hK hP hD hS hl hret
  have hl : lv_has ls 4 [(0, .ref a.1), (1, .int x)] := hl
  obtain ⟨hpp, hn5, q, t, hBT, hF⟩ := id hI
  have hp3 := hpp.1
  have hp9 := hpp.2.1
  refine lv_iload_n hx hb dX0_prime_0 rfl (lv_at hl 1 rfl) ?_
  refine lv_iconst (v := (nI 3)) hx hb dX0_prime_1 (by decide) ?_
  refine lv_icmp_lt (tgt := 24) hx hb dX0_prime_2 (by decide) (fun h1 => ?_) (fun h1 => ?_)
  · refine lv_iconst (v := (nI 0)) hx hb dX0_prime_24 (by decide) ?_
    refine lv_istore_n (lv' := [(2, .int (nI 0)), (0, .ref a.1), (1, .int x)]) hx hb dX0_prime_25 rfl hl (by decide) rfl (fun ls hl => ?_)
    refine lv_iload_n hx hb dX0_prime_26 rfl (lv_at hl 0 rfl) ?_
    refine dn_if_ne (tgt := 32) hx hb dX0_prime_27 (by decide) (by omega) (fun z => absurd z (by omega)) (fun h9 => ?_)
    refine lv_iconst (v := (-1)) hx hb dX0_prime_30 (by decide) ?_
    exact hret _ _ _ (p, nf, B, T) _ _ dX0_prime_31 ⟨hI, Or.inl ⟨dl_notP1 h1, rfl, rfl⟩⟩ hP hD hS
  · refine lv_iload_n hx hb dX0_prime_5 rfl (lv_at hl 1 rfl) ?_
    refine lv_sipush (v := (nI 2039)) hx hb dX0_prime_6 (by decide) ?_
    refine lv_icmp_gt (tgt := 24) hx hb dX0_prime_9 (by decide) (fun h2 => ?_) (fun h2 => ?_)
    · refine lv_iconst (v := (nI 0)) hx hb dX0_prime_24 (by decide) ?_
      refine lv_istore_n (lv' := [(2, .int (nI 0)), (0, .ref a.1), (1, .int x)]) hx hb dX0_prime_25 rfl hl (by decide) rfl (fun ls hl => ?_)
      refine lv_iload_n hx hb dX0_prime_26 rfl (lv_at hl 0 rfl) ?_
      refine dn_if_ne (tgt := 32) hx hb dX0_prime_27 (by decide) (by omega) (fun z => absurd z (by omega)) (fun h9 => ?_)
      refine lv_iconst (v := (-1)) hx hb dX0_prime_30 (by decide) ?_
      exact hret _ _ _ (p, nf, B, T) _ _ dX0_prime_31 ⟨hI, Or.inl ⟨dl_notP2 h2, rfl, rfl⟩⟩ hP hD hS
    · obtain ⟨n, hn3, hn9, rfl⟩ := dl_nat3 h1 h2
      refine lv_aload_n hx hb dX0_prime_12 rfl (lv_at hl 0 rfl) ?_
      refine lv_iload_n hx hb dX0_prime_13 rfl (lv_at hl 1 rfl) ?_
      refine xc_I (As := [.int (nI n)]) (rest := []) hx hb hml hown hts (mX0_isPrime hn9) (cw_X0_isPrime hts rfl rfl ⟨Nat.le_of_ble_eq_true rfl, Nat.le_of_ble_eq_true rfl⟩) hK hP hD hS hA rfl hl.1 rfl (Nat.le_of_ble_eq_true rfl) dX0_prime_14 (fun r _ H locs hw hP hD hS => ?_)
      rcases hw with ⟨rfl, hpr⟩ | ⟨rfl, hpr⟩
      · refine lv_if_eq (tgt := 24) hx hb dX0_prime_17 (by decide) (fun z => absurd z (by decide)) (fun h3 => ?_)
        refine lv_iconst (v := (nI 1)) hx hb dX0_prime_20 (by decide) ?_
        refine lv_goto (tgt := 25) hx hb dX0_prime_21 (by decide) ?_
        refine lv_istore_n (lv' := [(2, .int (nI 1)), (0, .ref a.1), (1, .int (nI n))]) hx hb dX0_prime_25 rfl hl (by decide) rfl (fun ls hl => ?_)
        refine lv_iload_n hx hb dX0_prime_26 rfl (lv_at hl 0 rfl) ?_
        refine dn_if_ne (tgt := 32) hx hb dX0_prime_27 (by decide) (by omega) (fun h4 => ?_) (fun z => absurd z (by omega))
        refine lv_aload_n hx hb dX0_prime_32 rfl (lv_at hl 1 rfl) ?_
        refine xg_p hx hb hts hown hK hP dX0_prime_33 ?_
        refine lv_istore_n (lv' := [(3, .int (nI p)), (2, .int (nI 1)), (0, .ref a.1), (1, .int (nI n))]) hx hb dX0_prime_36 rfl hl (by decide) rfl (fun ls hl => ?_)
        refine lv_aload_n hx hb dX0_prime_37 rfl (lv_at hl 2 rfl) ?_
        refine lv_iload_n hx hb dX0_prime_38 rfl (lv_at hl 3 rfl) ?_
        refine xp_p hx hb hts hown hK hP hD hS dX0_prime_39 (fun H locs hP hD hS => ?_)
        refine lv_aload_n hx hb dX0_prime_42 rfl (lv_at hl 2 rfl) ?_
        refine xc_V (As := []) (rest := []) hx hb hml hown hts (mX0_factor ⟨hn3, hn9, hpr⟩) (cw_X0_factor hts rfl rfl ⟨Nat.le_of_ble_eq_true rfl, Nat.le_of_ble_eq_true rfl⟩) hK hP hD hS hA rfl hl.1 rfl (Nat.le_of_ble_eq_true rfl) dX0_prime_43 (fun u H locs hI2 hP hD hS => ?_)
        obtain ⟨nf2, B2, T2⟩ := u
        have hP : va_P D vwCl (xW a (nI n) (nI (n - 1)) (nI nf2) B2 T2 K S) H := hP
        have hD : va_D A (xW a (nI n) (nI (n - 1)) (nI nf2) B2 T2 K S) := hD
        refine lv_iload_n hx hb dX0_prime_46 rfl (lv_at hl 0 rfl) ?_
        exact hret _ _ _ (n, nf2, B2, T2) _ _ dX0_prime_47 ⟨hI2, Or.inr ⟨n, rfl, ⟨hn3, hn9, hpr⟩, rfl, rfl⟩⟩ hP hD hS
      · refine lv_if_eq (tgt := 24) hx hb dX0_prime_17 (by decide) (fun h3 => ?_) (fun z => absurd z (by decide))
        refine lv_iconst (v := (nI 0)) hx hb dX0_prime_24 (by decide) ?_
        refine lv_istore_n (lv' := [(2, .int (nI 0)), (0, .ref a.1), (1, .int (nI n))]) hx hb dX0_prime_25 rfl hl (by decide) rfl (fun ls hl => ?_)
        refine lv_iload_n hx hb dX0_prime_26 rfl (lv_at hl 0 rfl) ?_
        refine dn_if_ne (tgt := 32) hx hb dX0_prime_27 (by decide) (by omega) (fun z => absurd z (by omega)) (fun h9 => ?_)
        refine lv_iconst (v := (-1)) hx hb dX0_prime_30 (by decide) ?_
        exact hret _ _ _ (p, nf, B, T) _ _ dX0_prime_31 ⟨hI, Or.inl ⟨dl_notP3 hn9 hpr, rfl, rfl⟩⟩ hP hD hS
set_option maxHeartbeats 4000000 in
theorem mX0_modulus  : dx_MI l yX0_modulus (ws_ yX0_modulus cX0_modulus 1 (some .int)) (rm_ 0 0) D (xT a) (xW a (nI p) (nI (p - 1)) (nI nf) B T K S) [.ref a.1] (fun (r : Int32) (u : Unit) => r = nI p) (fun _ => xW a (nI p) (nI (p - 1)) (nI nf) B T K S) := by
  refine dx_ofI (by decide) rfl (Nat.le_of_ble_eq_true rfl) ?_
  intro pg en sS mI aR bL mE cO A Q ls hx hb hml hown hts hA hK hP hD hS hl hret
  have hl : lv_has ls 1 [(0, .ref a.1)] := hl
  refine lv_aload_n hx hb dX0_modulus_0 rfl (lv_at hl 0 rfl) ?_
  refine xg_p hx hb hts hown hK hP dX0_modulus_1 ?_
  exact hret _ _ _ () _ _ dX0_modulus_4 rfl hP hD hS
set_option maxHeartbeats 4000000 in
theorem mX0_nextPrime (hI : dl_I p nf B T) : dx_MI l yX0_nextPrime (ws_ yX0_nextPrime cX0_nextPrime 3 (some .int)) (rm_ 1 23) D (xT a) (xW a (nI p) (nI (p - 1)) (nI nf) B T K S) [.ref a.1] (fun (r : Int32) (u : Nat × Nat × (Nat → Int32) × (Nat → Int32)) => dl_I u.1 u.2.1 u.2.2.1 u.2.2.2 ∧ R_next p r u.1) (fun u => xW a (nI u.1) (nI (u.1 - 1)) (nI u.2.1) u.2.2.1 u.2.2.2 K S) := by
  refine dx_ofI (by decide) rfl (Nat.le_of_ble_eq_true rfl) ?_
  intro pg en sS mI aR bL mE cO A Q ls hx hb hml hown hts hA hK hP hD hS hl hret
  have hl : lv_has ls 3 [(0, .ref a.1)] := hl
  obtain ⟨hpp, hn5, q, t, hBT, hF⟩ := id hI
  have hp3 := hpp.1
  have hp9 := hpp.2.1
  refine lv_aload_n hx hb dX0_nextPrime_0 rfl (lv_at hl 0 rfl) ?_
  refine xg_p hx hb hts hown hK hP dX0_nextPrime_1 ?_
  refine lv_iconst (v := (nI 1)) hx hb dX0_nextPrime_4 (by decide) ?_
  refine dn_iadd hx hb dX0_nextPrime_5 ?_
  refine lv_istore_n (lv' := [(1, .int (nI (p + 1))), (0, .ref a.1)]) hx hb dX0_nextPrime_6 rfl hl (by decide) rfl (fun ls hl => ?_)
  have loop : ∀ (k9 : Nat) (n : Nat), (p < n) → (n ≤ 2040) → (∀ j, p < j → j < n → ¬ dl_prime j) → (2041 - n) < k9 → ∀ (H : Heap) (locs : List Loc), va_P D vwCl (xW a (nI p) (nI (p - 1)) (nI nf) B T K S) H → va_S A sS.heap H locs → ∀ ls : Array Slot, lv_has ls 3 [(0, .ref a.1), (1, .int (nI n))] → W pg l en (rm_ 1 23) sS mI aR bL mE cO H locs 0 0 Q (F0 mI 7 ls []) := by
    intro k9
    induction k9 with
    | zero => intros; omega
    | succ k9 ih =>
      intro n hpn hn9 hj hn H locs hP hS ls hl
      refine lv_iload_n hx hb dX0_nextPrime_7 rfl (lv_at hl 1 rfl) ?_
      refine lv_sipush (v := (nI 2039)) hx hb dX0_nextPrime_8 (by decide) ?_
      refine dn_icmp_gt (tgt := 41) hx hb dX0_nextPrime_11 (by decide) (by omega) (by omega) (fun hc => ?_) (fun hc => ?_)
      · refine lv_bipush (v := (-4)) hx hb dX0_nextPrime_41 (by decide) ?_
        exact hret _ _ _ (p, nf, B, T) _ _ dX0_nextPrime_43 ⟨hI, Or.inr ⟨fun j h1 h2 => hj j h1 (by omega), rfl, rfl⟩⟩ hP hD hS
      · refine lv_aload_n hx hb dX0_nextPrime_14 rfl (lv_at hl 0 rfl) ?_
        refine lv_iload_n hx hb dX0_nextPrime_15 rfl (lv_at hl 1 rfl) ?_
        refine xc_I (As := [.int (nI n)]) (rest := []) hx hb hml hown hts (mX0_isPrime hc) (cw_X0_isPrime hts rfl rfl ⟨Nat.le_of_ble_eq_true rfl, Nat.le_of_ble_eq_true rfl⟩) hK hP hD hS hA rfl hl.1 rfl (Nat.le_of_ble_eq_true rfl) dX0_nextPrime_16 (fun r _ H locs hw hP hD hS => ?_)
        rcases hw with ⟨rfl, hpr⟩ | ⟨rfl, hpr⟩
        · refine lv_istore_n (lv' := [(2, .int 1), (0, .ref a.1), (1, .int (nI n))]) hx hb dX0_nextPrime_19 rfl hl (by decide) rfl (fun ls hl => ?_)
          refine lv_iload_n hx hb dX0_nextPrime_20 rfl (lv_at hl 0 rfl) ?_
          refine lv_if_eq (tgt := 35) hx hb dX0_nextPrime_21 (by decide) (fun z => absurd z (by decide)) (fun h3 => ?_)
          refine lv_aload_n hx hb dX0_nextPrime_24 rfl (lv_at hl 1 rfl) ?_
          refine lv_iload_n hx hb dX0_nextPrime_25 rfl (lv_at hl 2 rfl) ?_
          refine xp_p hx hb hts hown hK hP hD hS dX0_nextPrime_26 (fun H locs hP hD hS => ?_)
          refine lv_aload_n hx hb dX0_nextPrime_29 rfl (lv_at hl 1 rfl) ?_
          refine xc_V (As := []) (rest := []) hx hb hml hown hts (mX0_factor ⟨by omega, hc, hpr⟩) (cw_X0_factor hts rfl rfl ⟨Nat.le_of_ble_eq_true rfl, Nat.le_of_ble_eq_true rfl⟩) hK hP hD hS hA rfl hl.1 rfl (Nat.le_of_ble_eq_true rfl) dX0_nextPrime_30 (fun u H locs hI2 hP hD hS => ?_)
          obtain ⟨nf2, B2, T2⟩ := u
          have hP : va_P D vwCl (xW a (nI n) (nI (n - 1)) (nI nf2) B2 T2 K S) H := hP
          have hD : va_D A (xW a (nI n) (nI (n - 1)) (nI nf2) B2 T2 K S) := hD
          refine lv_iload_n hx hb dX0_nextPrime_33 rfl (lv_at hl 2 rfl) ?_
          exact hret _ _ _ (n, nf2, B2, T2) _ _ dX0_nextPrime_34 ⟨hI2, Or.inl ⟨n, hpn, ⟨by omega, hc, hpr⟩, hj, rfl, rfl⟩⟩ hP hD hS
        · refine lv_istore_n (lv' := [(2, .int 0), (0, .ref a.1), (1, .int (nI n))]) hx hb dX0_nextPrime_19 rfl hl (by decide) rfl (fun ls hl => ?_)
          refine lv_iload_n hx hb dX0_nextPrime_20 rfl (lv_at hl 0 rfl) ?_
          refine lv_if_eq (tgt := 35) hx hb dX0_nextPrime_21 (by decide) (fun h3 => ?_) (fun z => absurd z (by decide))
          refine lv_iinc (v := (nI (n + 1))) (lv' := [(1, .int (nI (n + 1))), (2, .int 0), (0, .ref a.1)]) hx hb dX0_nextPrime_35 hl (k := 2) rfl (nI_1 _) (by decide) rfl (fun ls hl => ?_)
          refine lv_goto (tgt := 7) hx hb dX0_nextPrime_38 (by decide) ?_
          exact ih (n + 1) (by omega) (by omega) (fun j h1 h2 => by
            rcases Nat.lt_or_ge j n with z | z
            · exact hj j h1 z
            · have e9 : j = n := (by omega)
              subst e9
              exact hpr) (by omega) _ _ hP hS ls (lv_sub hl [2, 0] rfl)
  exact loop (2041 - (p + 1) + 1) (p + 1) (by omega) (by omega) (fun j h1 h2 => by omega) (by omega) _ _ hP hS ls (lv_sub hl [1, 0] rfl)
set_option maxHeartbeats 4000000 in
theorem mX0_power {x y : Int32} (hp : 1 < p) (hp2 : p ≤ 2039) : dx_MI l yX0_power (ws_ yX0_power cX0_power 3 (some .int)) (rm_ 2 47) D (xT a) (xW a (nI p) O F B T K S) [.ref a.1, .int x, .int y] (fun (r : Int32) (u : Unit) => R_power p x y r) (fun _ => xW a (nI p) O F B T K S) := by
  refine dx_ofI (by decide) rfl (Nat.le_of_ble_eq_true rfl) ?_
  intro pg en sS mI aR bL mE cO A Q ls hx hb hml hown hts hA hK hP hD hS hl hret
  have hl : lv_has ls 3 [(0, .ref a.1), (1, .int x), (2, .int y)] := hl
  refine lv_aload_n hx hb dX0_power_0 rfl (lv_at hl 0 rfl) ?_
  refine lv_iload_n hx hb dX0_power_1 rfl (lv_at hl 1 rfl) ?_
  refine xc_I (As := [.int x]) (rest := []) hx hb hml hown hts (mX0_notUnit hp2) (cw_X0_notUnit hts rfl rfl ⟨Nat.le_of_ble_eq_true rfl, Nat.le_of_ble_eq_true rfl⟩) hK hP hD hS hA rfl hl.1 rfl (Nat.le_of_ble_eq_true rfl) dX0_power_2 (fun r _ H locs hw hP hD hS => ?_)
  rcases hw with ⟨rfl, hU⟩ | ⟨rfl, g, rfl, hU⟩
  · refine lv_if_ne (tgt := 18) hx hb dX0_power_5 (by decide) (fun h1 => ?_) (fun z => absurd z (by decide))
    refine lv_iconst (v := (-1)) hx hb dX0_power_18 (by decide) ?_
    exact hret _ _ _ () _ _ dX0_power_19 (Or.inl ⟨fun z => hU z.1, rfl⟩) hP hD hS
  · refine lv_if_ne (tgt := 18) hx hb dX0_power_5 (by decide) (fun z => absurd z (by decide)) (fun h1 => ?_)
    refine lv_iload_n hx hb dX0_power_8 rfl (lv_at hl 2 rfl) ?_
    refine lv_if_lt (tgt := 18) hx hb dX0_power_9 (by decide) (fun h2 => ?_) (fun h2 => ?_)
    · refine lv_iconst (v := (-1)) hx hb dX0_power_18 (by decide) ?_
      exact hret _ _ _ () _ _ dX0_power_19 (Or.inl ⟨fun z => dl_notK1 h2 0 z.2, rfl⟩) hP hD hS
    · refine lv_iload_n hx hb dX0_power_12 rfl (lv_at hl 2 rfl) ?_
      refine lv_ldc (v := nI 1000000) hx hb hown (hts _ q87) dX0_power_13 ?_
      refine lv_icmp_le (tgt := 20) hx hb dX0_power_15 (by decide) (fun h3 => ?_) (fun h3 => ?_)
      · obtain ⟨k, rfl, hk⟩ := dl_K_of h2 h3
        refine lv_aload_n hx hb dX0_power_20 rfl (lv_at hl 0 rfl) ?_
        refine lv_iload_n hx hb dX0_power_21 rfl (lv_at hl 1 rfl) ?_
        refine lv_iload_n hx hb dX0_power_22 rfl (lv_at hl 2 rfl) ?_
        refine xc_I (As := [.int (nI g), .int (nI k)]) (rest := []) hx hb hml hown hts (mX0_pow hp hp2 hU.2 (by omega)) (cw_X0_pow hts rfl rfl ⟨Nat.le_of_ble_eq_true rfl, Nat.le_of_ble_eq_true rfl⟩) hK hP hD hS hA rfl hl.1 rfl (Nat.le_of_ble_eq_true rfl) dX0_power_23 (fun r _ H locs hw hP hD hS => ?_)
        obtain rfl : r = nI (g ^ k % p) := hw
        exact hret _ _ _ () _ _ dX0_power_26 (Or.inr ⟨g, k, rfl, hU, rfl, hk, rfl⟩) hP hD hS
      · refine lv_iconst (v := (-1)) hx hb dX0_power_18 (by decide) ?_
        exact hret _ _ _ () _ _ dX0_power_19 (Or.inl ⟨fun z => dl_notK2 h3 0 z.2, rfl⟩) hP hD hS
set_option maxHeartbeats 4000000 in
theorem mX0_inverse {x : Int32} (hpp : dl_P p) : dx_MI l yX0_inverse (ws_ yX0_inverse cX0_inverse 2 (some .int)) (rm_ 3 68) D (xT a) (xW a (nI p) O F B T K S) [.ref a.1, .int x] (fun (r : Int32) (u : Unit) => R_inverse p x r) (fun _ => xW a (nI p) O F B T K S) := by
  refine dx_ofI (by decide) rfl (Nat.le_of_ble_eq_true rfl) ?_
  intro pg en sS mI aR bL mE cO A Q ls hx hb hml hown hts hA hK hP hD hS hl hret
  have hl : lv_has ls 2 [(0, .ref a.1), (1, .int x)] := hl
  refine lv_aload_n hx hb dX0_inverse_0 rfl (lv_at hl 0 rfl) ?_
  refine lv_iload_n hx hb dX0_inverse_1 rfl (lv_at hl 1 rfl) ?_
  refine xc_I (As := [.int x]) (rest := []) hx hb hml hown hts (mX0_notUnit hpp.2.1) (cw_X0_notUnit hts rfl rfl ⟨Nat.le_of_ble_eq_true rfl, Nat.le_of_ble_eq_true rfl⟩) hK hP hD hS hA rfl hl.1 rfl (Nat.le_of_ble_eq_true rfl) dX0_inverse_2 (fun r _ H locs hw hP hD hS => ?_)
  rcases hw with ⟨rfl, hU⟩ | ⟨rfl, g, rfl, hU⟩
  · refine lv_if_eq (tgt := 12) hx hb dX0_inverse_5 (by decide) (fun z => absurd z (by decide)) (fun h1 => ?_)
    refine lv_iconst (v := (-1)) hx hb dX0_inverse_8 (by decide) ?_
    refine lv_goto (tgt := 17) hx hb dX0_inverse_9 (by decide) ?_
    exact hret _ _ _ () _ _ dX0_inverse_17 (Or.inl ⟨hU, rfl⟩) hP hD hS
  · refine lv_if_eq (tgt := 12) hx hb dX0_inverse_5 (by decide) (fun h1 => ?_) (fun z => absurd z (by decide))
    refine lv_aload_n hx hb dX0_inverse_12 rfl (lv_at hl 0 rfl) ?_
    refine lv_iload_n hx hb dX0_inverse_13 rfl (lv_at hl 1 rfl) ?_
    refine xc_I (As := [.int (nI g)]) (rest := []) hx hb hml hown hts (mX0_invert (dl_P1 hpp) hpp.2.1 hU.2) (cw_X0_invert hts rfl rfl ⟨Nat.le_of_ble_eq_true rfl, Nat.le_of_ble_eq_true rfl⟩) hK hP hD hS hA rfl hl.1 rfl (Nat.le_of_ble_eq_true rfl) dX0_inverse_14 (fun r _ H locs hw hP hD hS => ?_)
    obtain rfl : r = nI (g ^ (p - 2) % p) := hw
    exact hret _ _ _ () _ _ dX0_inverse_17 (Or.inr ⟨g, _, rfl, hU, dl_U_pow hpp hU _, dl_inv_pow hpp hU, rfl⟩) hP hD hS
set_option maxHeartbeats 4000000 in
theorem mX0_orderOf {g : Nat} (hI : dl_I p nf B T) (hg : dl_U p g) : dx_MI l yX0_orderOf (ws_ yX0_orderOf cX0_orderOf 9 (some .int)) (rm_ 2 47) D (xT a) (xW a (nI p) (nI (p - 1)) (nI nf) B T K S) [.ref a.1, .int (nI g)] (fun (r : Int32) (u : Unit) => ∃ n, r = nI n ∧ dl_ord p g n) (fun _ => xW a (nI p) (nI (p - 1)) (nI nf) B T K S) := by
  refine dx_ofI (by decide) rfl (Nat.le_of_ble_eq_true rfl) ?_
  intro pg en sS mI aR bL mE cO A Q ls hx hb hml hown hts hA hK hP hD hS hl hret
  have hl : lv_has ls 9 [(0, .ref a.1), (1, .int (nI g))] := hl
  obtain ⟨hpp, hn5, q, t, hBT, hF⟩ := id hI
  have hp3 := hpp.1
  have hp9 := hpp.2.1
  refine lv_aload_n hx hb dX0_orderOf_0 rfl (lv_at hl 0 rfl) ?_
  refine xg_order hx hb hts hown hK hP dX0_orderOf_1 ?_
  refine lv_istore_n (lv' := [(2, .int (nI (p - 1))), (0, .ref a.1), (1, .int (nI g))]) hx hb dX0_orderOf_4 rfl hl (by decide) rfl (fun ls hl => ?_)
  refine lv_iconst (v := (nI 0)) hx hb dX0_orderOf_5 (by decide) ?_
  refine lv_istore_n (lv' := [(3, .int (nI 0)), (2, .int (nI (p - 1))), (0, .ref a.1), (1, .int (nI g))]) hx hb dX0_orderOf_6 rfl hl (by decide) rfl (fun ls hl => ?_)
  have loop : ∀ (k9 : Nat) (f n : Nat), (f ≤ nf) → (dl_O p g nf q t f n) → (nf - f) < k9 → ∀ (H : Heap) (locs : List Loc), va_P D vwCl (xW a (nI p) (nI (p - 1)) (nI nf) B T K S) H → va_S A sS.heap H locs → ∀ ls : Array Slot, lv_has ls 9 [(0, .ref a.1), (1, .int (nI g)), (2, .int (nI n)), (3, .int (nI f))] → W pg l en (rm_ 2 47) sS mI aR bL mE cO H locs 0 0 Q (F0 mI 7 ls []) := by
    intro k9
    induction k9 with
    | zero => intros; omega
    | succ k9 ih =>
      intro f n hf hO hn H locs hP hS ls hl
      have hn9 : n ≤ p - 1 := Nat.le_of_dvd (by omega) hO.2.1
      refine lv_iload_n hx hb dX0_orderOf_7 rfl (lv_at hl 3 rfl) ?_
      refine lv_aload_n hx hb dX0_orderOf_8 rfl (lv_at hl 0 rfl) ?_
      refine xg_factors hx hb hts hown hK hP dX0_orderOf_9 ?_
      refine dn_icmp_ge (tgt := 93) hx hb dX0_orderOf_12 (by decide) (by omega) (by omega) (fun hc => ?_) (fun hc => ?_)
      · refine lv_iload_n hx hb dX0_orderOf_93 rfl (lv_at hl 2 rfl) ?_
        exact hret _ _ _ () _ _ dX0_orderOf_94 ⟨n, rfl, dl_O_end hpp hF hc hO⟩ hP hD hS
      · obtain ⟨hq2, hq9, ht12, ht1, hqd⟩ := dl_Fb hpp hF hc
        refine lv_aload_n hx hb dX0_orderOf_15 rfl (lv_at hl 0 rfl) ?_
        refine xg_base hx hb hts hown hK hP dX0_orderOf_16 ?_
        refine lv_iload_n hx hb dX0_orderOf_19 rfl (lv_at hl 3 rfl) ?_
        refine xl_base hx hb hK hP (by omega) dX0_orderOf_20 ?_
        refine dn_top (show ((B f) : Int32) = (nI (q f)) from (hBT f hc).1) ?_
        refine lv_istore (lv' := [(4, .int (nI (q f))), (0, .ref a.1), (1, .int (nI g)), (2, .int (nI n)), (3, .int (nI f))]) hx hb dX0_orderOf_21 hl (by decide) rfl (fun ls hl => ?_)
        refine lv_iconst (v := (nI 1)) hx hb dX0_orderOf_23 (by decide) ?_
        refine lv_istore (lv' := [(5, .int (nI 1)), (4, .int (nI (q f))), (0, .ref a.1), (1, .int (nI g)), (2, .int (nI n)), (3, .int (nI f))]) hx hb dX0_orderOf_24 hl (by decide) rfl (fun ls hl => ?_)
        refine lv_iconst (v := (nI 0)) hx hb dX0_orderOf_26 (by decide) ?_
        refine lv_istore (lv' := [(6, .int (nI 0)), (5, .int (nI 1)), (4, .int (nI (q f))), (0, .ref a.1), (1, .int (nI g)), (2, .int (nI n)), (3, .int (nI f))]) hx hb dX0_orderOf_27 hl (by decide) rfl (fun ls hl => ?_)
        have inner : ∀ (k8 : Nat) (i n mo : Nat), (i ≤ 12) → ((mo = 1 ∧ dl_O1 p g nf q t f i n) ∨ (mo = 0 ∧ dl_O p g nf q t (f + 1) n)) → (12 - i) < k8 → ∀ (H : Heap) (locs : List Loc), va_P D vwCl (xW a (nI p) (nI (p - 1)) (nI nf) B T K S) H → va_S A sS.heap H locs → ∀ ls : Array Slot, lv_has ls 9 [(0, .ref a.1), (1, .int (nI g)), (2, .int (nI n)), (3, .int (nI f)), (4, .int (nI (q f))), (5, .int (nI mo)), (6, .int (nI i))] → W pg l en (rm_ 2 47) sS mI aR bL mE cO H locs 0 0 Q (F0 mI 29 ls []) := by
          intro k8
          induction k8 with
          | zero => intros; omega
          | succ k8 ih2 =>
            intro i n mo hi12 hM hn2 H locs hP hS ls hl
            have hn9 : 0 < n ∧ n ≤ p - 1 := by
              rcases hM with z | z
              · exact ⟨z.2.1, Nat.le_of_dvd (by omega) z.2.2.1⟩
              · exact ⟨z.2.1, Nat.le_of_dvd (by omega) z.2.2.1⟩
            refine lv_iload hx hb dX0_orderOf_29 (lv_at hl 6 rfl) ?_
            refine lv_aload_n hx hb dX0_orderOf_31 rfl (lv_at hl 0 rfl) ?_
            refine xg_times hx hb hts hown hK hP dX0_orderOf_32 ?_
            refine lv_iload_n hx hb dX0_orderOf_35 rfl (lv_at hl 3 rfl) ?_
            refine xl_times hx hb hK hP (by omega) dX0_orderOf_36 ?_
            refine dn_top (show ((T f) : Int32) = (nI (t f)) from (hBT f hc).2) ?_
            refine dn_icmp_ge (tgt := 87) hx hb dX0_orderOf_37 (by decide) (by omega) (by omega) (fun hit => ?_) (fun hit => ?_)
            · refine lv_iinc (v := (nI (f + 1))) (lv' := [(3, .int (nI (f + 1))), (0, .ref a.1), (1, .int (nI g)), (2, .int (nI n)), (4, .int (nI (q f))), (5, .int (nI mo)), (6, .int (nI i))]) hx hb dX0_orderOf_87 hl (k := 3) rfl (nI_1 _) (by decide) rfl (fun ls hl => ?_)
              refine lv_goto (tgt := 7) hx hb dX0_orderOf_90 (by decide) ?_
              exact ih (f + 1) n hc (by
                rcases hM with z | z
                · exact dl_O1_end hpp hF hc z.2 hit
                · exact z.2) (by omega) _ _ hP hS ls (lv_sub hl [1, 2, 3, 0] rfl)
            · rcases hM with ⟨rfl, hM⟩ | ⟨rfl, hM⟩
              · refine lv_iload hx hb dX0_orderOf_40 (lv_at hl 5 rfl) ?_
                refine dn_if_eq (tgt := 87) hx hb dX0_orderOf_42 (by decide) (by omega) (fun z => absurd z (by omega)) (fun hmo => ?_)
                refine lv_iload_n hx hb dX0_orderOf_45 rfl (lv_at hl 2 rfl) ?_
                refine lv_iload hx hb dX0_orderOf_46 (lv_at hl 4 rfl) ?_
                refine dn_idiv hx hb dX0_orderOf_48 (by omega) (by omega) (by omega) ?_
                refine lv_istore (lv' := [(7, .int (nI (n / (q f)))), (0, .ref a.1), (1, .int (nI g)), (2, .int (nI n)), (3, .int (nI f)), (4, .int (nI (q f))), (5, .int (nI 1)), (6, .int (nI i))]) hx hb dX0_orderOf_49 hl (by decide) rfl (fun ls hl => ?_)
                refine lv_aload_n hx hb dX0_orderOf_51 rfl (lv_at hl 1 rfl) ?_
                refine lv_iload_n hx hb dX0_orderOf_52 rfl (lv_at hl 2 rfl) ?_
                refine lv_iload hx hb dX0_orderOf_53 (lv_at hl 0 rfl) ?_
                refine xc_I (As := [.int (nI g), .int (nI (n / (q f)))]) (rest := []) hx hb hml hown hts (mX0_pow (by omega) hp9 hg.2 (Nat.lt_of_le_of_lt (Nat.div_le_self _ _) (by omega))) (cw_X0_pow hts rfl rfl ⟨Nat.le_of_ble_eq_true rfl, Nat.le_of_ble_eq_true rfl⟩) hK hP hD hS hA rfl hl.1 rfl (Nat.le_of_ble_eq_true rfl) dX0_orderOf_55 (fun r _ H locs hw hP hD hS => ?_)
                obtain rfl : r = nI (g ^ (n / q f) % p) := hw
                refine lv_istore (lv' := [(8, .int (nI (g ^ (n / q f) % p))), (7, .int (nI (n / (q f)))), (0, .ref a.1), (1, .int (nI g)), (2, .int (nI n)), (3, .int (nI f)), (4, .int (nI (q f))), (5, .int (nI 1)), (6, .int (nI i))]) hx hb dX0_orderOf_58 hl (by decide) rfl (fun ls hl => ?_)
                refine lv_iload hx hb dX0_orderOf_60 (lv_at hl 0 rfl) ?_
                refine lv_iconst (v := (nI 1)) hx hb dX0_orderOf_62 (by decide) ?_
                refine dn_icmp_ne (tgt := 70) hx hb dX0_orderOf_63 (by decide) (Nat.lt_trans (Nat.mod_lt _ (by omega)) (by omega)) (by omega) (fun h1 => ?_) (fun h1 => ?_)
                · refine lv_iconst (v := (nI 0)) hx hb dX0_orderOf_70 (by decide) ?_
                  refine lv_istore (lv' := [(5, .int (nI 0)), (8, .int (nI (g ^ (n / q f) % p))), (7, .int (nI (n / (q f)))), (0, .ref a.1), (1, .int (nI g)), (2, .int (nI n)), (3, .int (nI f)), (4, .int (nI (q f))), (6, .int (nI i))]) hx hb dX0_orderOf_71 hl (by decide) rfl (fun ls hl => ?_)
                  refine lv_iload hx hb dX0_orderOf_73 (lv_at hl 0 rfl) ?_
                  refine dn_if_eq (tgt := 81) hx hb dX0_orderOf_75 (by decide) (by omega) (fun h2 => ?_) (fun z => absurd z (by omega))
                  refine lv_iinc (v := (nI (i + 1))) (lv' := [(6, .int (nI (i + 1))), (5, .int (nI 0)), (8, .int (nI (g ^ (n / q f) % p))), (7, .int (nI (n / (q f)))), (0, .ref a.1), (1, .int (nI g)), (2, .int (nI n)), (3, .int (nI f)), (4, .int (nI (q f)))]) hx hb dX0_orderOf_81 hl (k := 8) rfl (nI_1 _) (by decide) rfl (fun ls hl => ?_)
                  refine lv_goto (tgt := 29) hx hb dX0_orderOf_84 (by decide) ?_
                  exact ih2 (i + 1) n 0 (by omega) (Or.inr ⟨rfl, dl_O1_no hM h1⟩) (by omega) _ _ hP hS ls (lv_sub hl [4, 5, 6, 7, 8, 1, 0] rfl)
                · refine lv_iconst (v := (nI 1)) hx hb dX0_orderOf_66 (by decide) ?_
                  refine lv_goto (tgt := 71) hx hb dX0_orderOf_67 (by decide) ?_
                  refine lv_istore (lv' := [(5, .int (nI 1)), (8, .int (nI (g ^ (n / q f) % p))), (7, .int (nI (n / (q f)))), (0, .ref a.1), (1, .int (nI g)), (2, .int (nI n)), (3, .int (nI f)), (4, .int (nI (q f))), (6, .int (nI i))]) hx hb dX0_orderOf_71 hl (by decide) rfl (fun ls hl => ?_)
                  refine lv_iload hx hb dX0_orderOf_73 (lv_at hl 0 rfl) ?_
                  refine dn_if_eq (tgt := 81) hx hb dX0_orderOf_75 (by decide) (by omega) (fun z => absurd z (by omega)) (fun h2 => ?_)
                  refine lv_iload hx hb dX0_orderOf_78 (lv_at hl 2 rfl) ?_
                  refine lv_istore_n (lv' := [(2, .int (nI (n / (q f)))), (5, .int (nI 1)), (8, .int (nI (g ^ (n / q f) % p))), (7, .int (nI (n / (q f)))), (0, .ref a.1), (1, .int (nI g)), (3, .int (nI f)), (4, .int (nI (q f))), (6, .int (nI i))]) hx hb dX0_orderOf_80 rfl hl (by decide) rfl (fun ls hl => ?_)
                  refine lv_iinc (v := (nI (i + 1))) (lv' := [(6, .int (nI (i + 1))), (2, .int (nI (n / (q f)))), (5, .int (nI 1)), (8, .int (nI (g ^ (n / q f) % p))), (7, .int (nI (n / (q f)))), (0, .ref a.1), (1, .int (nI g)), (3, .int (nI f)), (4, .int (nI (q f)))]) hx hb dX0_orderOf_81 hl (k := 8) rfl (nI_1 _) (by decide) rfl (fun ls hl => ?_)
                  refine lv_goto (tgt := 29) hx hb dX0_orderOf_84 (by decide) ?_
                  exact ih2 (i + 1) (n / q f) 1 (by omega) (Or.inl ⟨rfl, dl_O1_step hpp hF hc hM hit h1⟩) (by omega) _ _ hP hS ls (lv_sub hl [5, 6, 1, 7, 8, 2, 0] rfl)
              · refine lv_iload hx hb dX0_orderOf_40 (lv_at hl 5 rfl) ?_
                refine dn_if_eq (tgt := 87) hx hb dX0_orderOf_42 (by decide) (by omega) (fun hmo => ?_) (fun z => absurd z (by omega))
                refine lv_iinc (v := (nI (f + 1))) (lv' := [(3, .int (nI (f + 1))), (0, .ref a.1), (1, .int (nI g)), (2, .int (nI n)), (4, .int (nI (q f))), (5, .int (nI 0)), (6, .int (nI i))]) hx hb dX0_orderOf_87 hl (k := 3) rfl (nI_1 _) (by decide) rfl (fun ls hl => ?_)
                refine lv_goto (tgt := 7) hx hb dX0_orderOf_90 (by decide) ?_
                exact ih (f + 1) n hc hM (by omega) _ _ hP hS ls (lv_sub hl [1, 2, 3, 0] rfl)
        exact inner 13 0 n 1 (by omega) (Or.inl ⟨rfl, dl_O_1 hc hO⟩) (by omega) _ _ hP hS ls (lv_sub hl [3, 4, 5, 6, 2, 1, 0] rfl)
  exact loop (nf + 1) 0 (p - 1) (by omega) (dl_O_0 hpp hg hF) (by omega) _ _ hP hS ls (lv_sub hl [2, 3, 1, 0] rfl)
set_option maxHeartbeats 4000000 in
theorem mX0_order {x : Int32} (hI : dl_I p nf B T) : dx_MI l yX0_order (ws_ yX0_order cX0_order 2 (some .int)) (rm_ 3 75) D (xT a) (xW a (nI p) (nI (p - 1)) (nI nf) B T K S) [.ref a.1, .int x] (fun (r : Int32) (u : Unit) => R_order p x r) (fun _ => xW a (nI p) (nI (p - 1)) (nI nf) B T K S) := by
  refine dx_ofI (by decide) rfl (Nat.le_of_ble_eq_true rfl) ?_
  intro pg en sS mI aR bL mE cO A Q ls hx hb hml hown hts hA hK hP hD hS hl hret
  have hl : lv_has ls 2 [(0, .ref a.1), (1, .int x)] := hl
  obtain ⟨hpp, hn5, q, t, hBT, hF⟩ := id hI
  have hp3 := hpp.1
  have hp9 := hpp.2.1
  refine lv_aload_n hx hb dX0_order_0 rfl (lv_at hl 0 rfl) ?_
  refine lv_iload_n hx hb dX0_order_1 rfl (lv_at hl 1 rfl) ?_
  refine xc_I (As := [.int x]) (rest := []) hx hb hml hown hts (mX0_notUnit hp9) (cw_X0_notUnit hts rfl rfl ⟨Nat.le_of_ble_eq_true rfl, Nat.le_of_ble_eq_true rfl⟩) hK hP hD hS hA rfl hl.1 rfl (Nat.le_of_ble_eq_true rfl) dX0_order_2 (fun r _ H locs hw hP hD hS => ?_)
  rcases hw with ⟨rfl, hU⟩ | ⟨rfl, g, rfl, hU⟩
  · refine lv_if_eq (tgt := 12) hx hb dX0_order_5 (by decide) (fun z => absurd z (by decide)) (fun h1 => ?_)
    refine lv_iconst (v := (-1)) hx hb dX0_order_8 (by decide) ?_
    refine lv_goto (tgt := 17) hx hb dX0_order_9 (by decide) ?_
    exact hret _ _ _ () _ _ dX0_order_17 (Or.inl ⟨hU, rfl⟩) hP hD hS
  · refine lv_if_eq (tgt := 12) hx hb dX0_order_5 (by decide) (fun h1 => ?_) (fun z => absurd z (by decide))
    refine lv_aload_n hx hb dX0_order_12 rfl (lv_at hl 0 rfl) ?_
    refine lv_iload_n hx hb dX0_order_13 rfl (lv_at hl 1 rfl) ?_
    refine xc_I (As := [.int (nI g)]) (rest := []) hx hb hml hown hts (mX0_orderOf hI hU) (cw_X0_orderOf hts rfl rfl ⟨Nat.le_of_ble_eq_true rfl, Nat.le_of_ble_eq_true rfl⟩) hK hP hD hS hA rfl hl.1 rfl (Nat.le_of_ble_eq_true rfl) dX0_order_14 (fun r2 _ H locs hw hP hD hS => ?_)
    obtain ⟨n, rfl, ho⟩ := hw
    exact hret _ _ _ () _ _ dX0_order_17 (Or.inr ⟨g, n, rfl, hU, ho, rfl⟩) hP hD hS
set_option maxHeartbeats 4000000 in
theorem mX0_generates {g : Nat} (hI : dl_I p nf B T) (hg : dl_U p g) : dx_MI l yX0_generates (ws_ yX0_generates cX0_generates 4 (some .boolean)) (rm_ 2 47) D (xT a) (xW a (nI p) (nI (p - 1)) (nI nf) B T K S) [.ref a.1, .int (nI g)] (fun (r : Int32) (u : Unit) => (r = 1 ∧ dl_ord p g (p - 1)) ∨ (r = 0 ∧ ¬ dl_ord p g (p - 1))) (fun _ => xW a (nI p) (nI (p - 1)) (nI nf) B T K S) := by
  refine dx_ofZ (by decide) rfl (Nat.le_of_ble_eq_true rfl) ?_
  intro pg en sS mI aR bL mE cO A Q ls hx hb hml hown hts hA hK hP hD hS hl hret
  have hl : lv_has ls 4 [(0, .ref a.1), (1, .int (nI g))] := hl
  obtain ⟨hpp, hn5, q, t, hBT, hF⟩ := id hI
  have hp3 := hpp.1
  have hp9 := hpp.2.1
  refine lv_iconst (v := (nI 0)) hx hb dX0_generates_0 (by decide) ?_
  refine lv_istore_n (lv' := [(2, .int (nI 0)), (0, .ref a.1), (1, .int (nI g))]) hx hb dX0_generates_1 rfl hl (by decide) rfl (fun ls hl => ?_)
  have loop : ∀ (k9 : Nat) (f : Nat), (f ≤ nf) → (∀ j, j < f → ¬ g ^ ((p - 1) / q j) % p = 1) → (nf - f) < k9 → ∀ (H : Heap) (locs : List Loc), va_P D vwCl (xW a (nI p) (nI (p - 1)) (nI nf) B T K S) H → va_S A sS.heap H locs → ∀ ls : Array Slot, lv_has ls 4 [(0, .ref a.1), (1, .int (nI g)), (2, .int (nI f))] → W pg l en (rm_ 2 47) sS mI aR bL mE cO H locs 0 0 Q (F0 mI 2 ls []) := by
    intro k9
    induction k9 with
    | zero => intros; omega
    | succ k9 ih =>
      intro f hf hj hn H locs hP hS ls hl
      refine lv_iload_n hx hb dX0_generates_2 rfl (lv_at hl 2 rfl) ?_
      refine lv_aload_n hx hb dX0_generates_3 rfl (lv_at hl 0 rfl) ?_
      refine xg_factors hx hb hts hown hK hP dX0_generates_4 ?_
      refine dn_icmp_ge (tgt := 40) hx hb dX0_generates_7 (by decide) (by omega) (by omega) (fun hc => ?_) (fun hc => ?_)
      · refine lv_iconst (v := (nI 1)) hx hb dX0_generates_40 (by decide) ?_
        exact hret _ _ _ () _ _ dX0_generates_41 (Or.inr rfl) (Or.inl ⟨rfl, dl_gen_end hpp hg hF hc hj⟩) hP hD hS
      · obtain ⟨hq2, hq9, ht12, ht1, hqd⟩ := dl_Fb hpp hF hc
        refine lv_aload_n hx hb dX0_generates_10 rfl (lv_at hl 0 rfl) ?_
        refine lv_iload_n hx hb dX0_generates_11 rfl (lv_at hl 1 rfl) ?_
        refine lv_aload_n hx hb dX0_generates_12 rfl (lv_at hl 0 rfl) ?_
        refine xg_order hx hb hts hown hK hP dX0_generates_13 ?_
        refine lv_aload_n hx hb dX0_generates_16 rfl (lv_at hl 0 rfl) ?_
        refine xg_base hx hb hts hown hK hP dX0_generates_17 ?_
        refine lv_iload_n hx hb dX0_generates_20 rfl (lv_at hl 2 rfl) ?_
        refine xl_base hx hb hK hP (by omega) dX0_generates_21 ?_
        refine dn_top (show ((B f) : Int32) = (nI (q f)) from (hBT f hc).1) ?_
        refine dn_idiv hx hb dX0_generates_22 (by omega) (by omega) (by omega) ?_
        refine xc_I (As := [.int (nI g), .int (nI ((p - 1) / (q f)))]) (rest := []) hx hb hml hown hts (mX0_pow (by omega) hp9 hg.2 (Nat.lt_of_le_of_lt (Nat.div_le_self _ _) (by omega))) (cw_X0_pow hts rfl rfl ⟨Nat.le_of_ble_eq_true rfl, Nat.le_of_ble_eq_true rfl⟩) hK hP hD hS hA rfl hl.1 rfl (Nat.le_of_ble_eq_true rfl) dX0_generates_23 (fun r _ H locs hw hP hD hS => ?_)
        obtain rfl : r = nI (g ^ ((p - 1) / q f) % p) := hw
        refine lv_istore_n (lv' := [(3, .int (nI (g ^ ((p - 1) / q f) % p))), (0, .ref a.1), (1, .int (nI g)), (2, .int (nI f))]) hx hb dX0_generates_26 rfl hl (by decide) rfl (fun ls hl => ?_)
        refine lv_iload_n hx hb dX0_generates_27 rfl (lv_at hl 0 rfl) ?_
        refine lv_iconst (v := (nI 1)) hx hb dX0_generates_28 (by decide) ?_
        refine dn_icmp_ne (tgt := 34) hx hb dX0_generates_29 (by decide) (Nat.lt_trans (Nat.mod_lt _ (by omega)) (by omega)) (by omega) (fun h1 => ?_) (fun h1 => ?_)
        · refine lv_iinc (v := (nI (f + 1))) (lv' := [(2, .int (nI (f + 1))), (3, .int (nI (g ^ ((p - 1) / q f) % p))), (0, .ref a.1), (1, .int (nI g))]) hx hb dX0_generates_34 hl (k := 3) rfl (nI_1 _) (by decide) rfl (fun ls hl => ?_)
          refine lv_goto (tgt := 2) hx hb dX0_generates_37 (by decide) ?_
          exact ih (f + 1) hc (lt_s hj h1) (by omega) _ _ hP hS ls (lv_sub hl [2, 3, 0] rfl)
        · refine lv_iconst (v := (nI 0)) hx hb dX0_generates_32 (by decide) ?_
          exact hret _ _ _ () _ _ dX0_generates_33 (Or.inl rfl) (Or.inr ⟨rfl, dl_gen_no hpp hF hc h1⟩) hP hD hS
  exact loop (nf + 1) 0 (by omega) (fun j h => by omega) (by omega) _ _ hP hS ls (lv_sub hl [1, 2, 0] rfl)
set_option maxHeartbeats 4000000 in
theorem mX0_generator (hI : dl_I p nf B T) : dx_MI l yX0_generator (ws_ yX0_generator cX0_generator 3 (some .int)) (rm_ 3 70) D (xT a) (xW a (nI p) (nI (p - 1)) (nI nf) B T K S) [.ref a.1] (fun (r : Int32) (u : Unit) => ∃ g, r = nI g ∧ dl_U p g ∧ dl_ord p g (p - 1) ∧ ∀ v, dl_U p v → v < g → ¬ dl_ord p v (p - 1)) (fun _ => xW a (nI p) (nI (p - 1)) (nI nf) B T K S) := by
  refine dx_ofI (by decide) rfl (Nat.le_of_ble_eq_true rfl) ?_
  intro pg en sS mI aR bL mE cO A Q ls hx hb hml hown hts hA hK hP hD hS hl hret
  have hl : lv_has ls 3 [(0, .ref a.1)] := hl
  obtain ⟨hpp, hn5, q, t, hBT, hF⟩ := id hI
  have hp3 := hpp.1
  have hp9 := hpp.2.1
  obtain ⟨g0, hg0, ho0⟩ := dl_gen_ex hpp
  refine lv_iconst (v := (nI 1)) hx hb dX0_generator_0 (by decide) ?_
  refine lv_istore_n (lv' := [(1, .int (nI 1)), (0, .ref a.1)]) hx hb dX0_generator_1 rfl hl (by decide) rfl (fun ls hl => ?_)
  have loop : ∀ (k9 : Nat) (g : Nat), (1 ≤ g) → (g ≤ p) → (∀ v, dl_U p v → v < g → ¬ dl_ord p v (p - 1)) → (p + 1 - g) < k9 → ∀ (H : Heap) (locs : List Loc), va_P D vwCl (xW a (nI p) (nI (p - 1)) (nI nf) B T K S) H → va_S A sS.heap H locs → ∀ ls : Array Slot, lv_has ls 3 [(0, .ref a.1), (1, .int (nI g))] → W pg l en (rm_ 3 70) sS mI aR bL mE cO H locs 0 0 Q (F0 mI 2 ls []) := by
    intro k9
    induction k9 with
    | zero => intros; omega
    | succ k9 ih =>
      intro g hg1 hg2 hv hn H locs hP hS ls hl
      refine lv_iload_n hx hb dX0_generator_2 rfl (lv_at hl 1 rfl) ?_
      refine lv_aload_n hx hb dX0_generator_3 rfl (lv_at hl 0 rfl) ?_
      refine xg_p hx hb hts hown hK hP dX0_generator_4 ?_
      refine dn_icmp_ge (tgt := 35) hx hb dX0_generator_7 (by decide) (by omega) (by omega) (fun z => absurd z (fun z2 => hv g0 hg0 (by have := hg0.2; omega) ho0)) (fun hc => ?_)
      refine lv_iload_n hx hb dX0_generator_10 rfl (lv_at hl 1 rfl) ?_
      refine lv_sipush (v := (nI 2039)) hx hb dX0_generator_11 (by decide) ?_
      refine dn_icmp_ge (tgt := 35) hx hb dX0_generator_14 (by decide) (by omega) (by omega) (fun z => absurd z (by omega)) (fun h9 => ?_)
      refine lv_aload_n hx hb dX0_generator_17 rfl (lv_at hl 0 rfl) ?_
      refine lv_iload_n hx hb dX0_generator_18 rfl (lv_at hl 1 rfl) ?_
      refine xc_I (As := [.int (nI g)]) (rest := []) hx hb hml hown hts (mX0_generates hI ⟨hg1, hc⟩) (cw_X0_generates hts rfl rfl ⟨Nat.le_of_ble_eq_true rfl, Nat.le_of_ble_eq_true rfl⟩) hK hP hD hS hA rfl hl.1 rfl (Nat.le_of_ble_eq_true rfl) dX0_generator_19 (fun r _ H locs hw hP hD hS => ?_)
      rcases hw with ⟨rfl, ho⟩ | ⟨rfl, ho⟩
      · refine lv_istore_n (lv' := [(2, .int 1), (0, .ref a.1), (1, .int (nI g))]) hx hb dX0_generator_22 rfl hl (by decide) rfl (fun ls hl => ?_)
        refine lv_iload_n hx hb dX0_generator_23 rfl (lv_at hl 0 rfl) ?_
        refine lv_if_eq (tgt := 29) hx hb dX0_generator_24 (by decide) (fun z => absurd z (by decide)) (fun h3 => ?_)
        refine lv_iload_n hx hb dX0_generator_27 rfl (lv_at hl 2 rfl) ?_
        exact hret _ _ _ () _ _ dX0_generator_28 ⟨g, rfl, ⟨hg1, hc⟩, ho, hv⟩ hP hD hS
      · refine lv_istore_n (lv' := [(2, .int 0), (0, .ref a.1), (1, .int (nI g))]) hx hb dX0_generator_22 rfl hl (by decide) rfl (fun ls hl => ?_)
        refine lv_iload_n hx hb dX0_generator_23 rfl (lv_at hl 0 rfl) ?_
        refine lv_if_eq (tgt := 29) hx hb dX0_generator_24 (by decide) (fun h3 => ?_) (fun z => absurd z (by decide))
        refine lv_iinc (v := (nI (g + 1))) (lv' := [(1, .int (nI (g + 1))), (2, .int 0), (0, .ref a.1)]) hx hb dX0_generator_29 hl (k := 2) rfl (nI_1 _) (by decide) rfl (fun ls hl => ?_)
        refine lv_goto (tgt := 2) hx hb dX0_generator_32 (by decide) ?_
        exact ih (g + 1) (by omega) (by omega) (dl_lt_s hv ho) (by omega) _ _ hP hS ls (lv_sub hl [2, 0] rfl)
  exact loop (p + 1) 1 (by omega) (by omega) (fun v h1 h2 => by have := h1.1; omega) (by omega) _ _ hP hS ls (lv_sub hl [1, 0] rfl)
end XB
end
section
/-! signed numbers; the inverse by a modulus (Euclid); joining two remainders -/
def zI (z : Int) : Int32 := Int32.ofInt z
theorem zI_n (n : Nat) : nI n = zI (n : Int) := Int32.ofInt_eq_ofNat.symm
theorem zI_sub (x y : Int) : zI x - zI y = zI (x - y) := (Int32.ofInt_sub x y).symm
theorem zI_add (x y : Int) : zI x + zI y = zI (x + y) := (Int32.ofInt_add x y).symm
theorem zI_mul (x y : Int) : zI x * zI y = zI (x * y) := (Int32.ofInt_mul x y).symm
theorem zI_toInt {z : Int} (h1 : -2147483648 ≤ z) (h2 : z < 2147483648) : (zI z).toInt = z := fb_ofI h1 h2
theorem zI_step (s0 s1 : Int) (q : Nat) : zI s0 - nI q * zI s1 = zI (s0 - q * s1) := by rw [zI_n, zI_mul, zI_sub]
theorem zI_ge {z : Int} (h1 : -2147483648 ≤ z) (h2 : z < 2147483648) : (0 : Int32) ≤ zI z ↔ 0 ≤ z := by
  rw [fa_le, zI_toInt h1 h2]
  have e0 : (0 : Int32).toInt = 0 := by decide
  omega
theorem zI_nat {z : Int} (h : 0 ≤ z) : ∃ k : Nat, zI z = nI k ∧ (k : Int) = z := ⟨z.toNat, by rw [zI_n, Int.toNat_of_nonneg h], Int.toNat_of_nonneg h⟩
theorem zI_rem {z : Int} {n : Nat} (h1 : -2147483647 ≤ z) (h2 : z < 2147483648) (h0 : 0 < n) (hn : n < 2147483648) : zI z - zI z / nI n * nI n = zI (z.tmod n) := by
  have hz := zI_toInt (z := z) (by omega) h2
  have hN : (nI n).toInt = n := nI_toInt hn
  have hd : (zI z / nI n).toInt = z.tdiv n := by
    rw [Int32.toInt_div_of_ne_left _ _ (fun e => by
      rw [e] at hz
      have e2 : Int32.minValue.toInt = -2147483648 := by decide
      omega), hz, hN]
  have e : zI z / nI n = zI (z.tdiv n) := by
    rw [← fb_asI (zI z / nI n), hd]
    rfl
  rw [e, zI_n, zI_mul, zI_sub]
  congr 1
  have := Int.mul_tdiv_add_tmod z n
  rw [Int.mul_comm] at this
  omega
theorem dl_nmod {n a b : Nat} (h : (n : Int) ∣ (a : Int) - b) : a % n = b % n := by
  have h2 : ((a : Int) % n) = (b : Int) % n := Int.emod_eq_emod_iff_emod_sub_eq_zero.mpr (Int.emod_eq_zero_of_dvd h)
  exact_mod_cast h2
theorem dl_nmod' {n a b : Nat} (h : a % n = b % n) : (n : Int) ∣ (a : Int) - b := by
  have h2 : ((a : Int) % n) = (b : Int) % n := by exact_mod_cast h
  exact Int.dvd_of_emod_eq_zero (Int.emod_eq_emod_iff_emod_sub_eq_zero.mp h2)
/-- the state of Euclid's loop -/
def dl_E (x n r0 r1 : Nat) (s0 s1 : Int) : Prop := (n : Int) ∣ x * s0 - r0 ∧ (n : Int) ∣ x * s1 - r1 ∧ (∃ u0 u1 : Nat, ((s0 = -(u0 : Int) ∧ s1 = u1) ∨ (s0 = u0 ∧ s1 = -(u1 : Int))) ∧ u0 * r1 + u1 * r0 = n ∧ u0 ≤ u1) ∧ Nat.gcd r0 r1 = 1 ∧ r1 < r0
theorem dl_E0 {x n : Nat} (hn : 0 < n) (hg : Nat.gcd x n = 1) : dl_E x n n (x % n) 0 1 := by
  refine ⟨⟨-1, by omega⟩, ⟨(x / n : Nat), ?_⟩, ⟨0, 1, Or.inl ⟨rfl, rfl⟩, by omega, by omega⟩, ?_, Nat.mod_lt _ hn⟩
  · have h1 := Nat.div_add_mod x n
    have h2 : (n : Int) * (x / n : Nat) + (x % n : Nat) = x := by exact_mod_cast h1
    omega
  · rw [dl_gstep]
    exact hg
theorem dl_E1 {x n r0 r1 : Nat} {s0 s1 : Int} (h : dl_E x n r0 r1 s0 s1) (h1 : 0 < r1) : dl_E x n r1 (r0 % r1) s1 (s0 - (r0 / r1 : Nat) * s1) := by
  obtain ⟨⟨c0, e0⟩, ⟨c1, e1⟩, ⟨u0, u1, hs, hn, hu⟩, hg, hlt⟩ := h
  have hdm := Nat.div_add_mod r0 r1
  have hq : 1 ≤ r0 / r1 := Nat.div_pos (Nat.le_of_lt hlt) h1
  generalize r0 / r1 = qq at hdm hq ⊢
  have hg2 : Nat.gcd r1 (r0 % r1) = 1 := by rw [dl_gstep]; exact hg
  have hr := Nat.mod_lt r0 h1
  generalize r0 % r1 = rr at hdm hg2 hr ⊢
  subst hdm
  refine ⟨⟨c1, e1⟩, ⟨c0 - qq * c1, ?_⟩, ⟨u1, u0 + qq * u1, ?_, ?_, ?_⟩, hg2, hr⟩
  · have e2 : (x : Int) * (s0 - qq * s1) - rr = (x * s0 - ((r1 * qq + rr : Nat) : Int)) - qq * (x * s1 - r1) := by
      have e3 : ((r1 * qq + rr : Nat) : Int) = r1 * qq + rr := by norm_cast
      rw [e3]
      grind
    rw [e2, e0, e1]
    grind
  · rcases hs with ⟨a1, a2⟩ | ⟨a1, a2⟩
    · refine Or.inr ⟨a2, ?_⟩
      rw [a1, a2]
      push_cast
      omega
    · refine Or.inl ⟨a2, ?_⟩
      rw [a1, a2]
      push_cast
      grind
  · rw [← hn]
    grind
  · have := Nat.mul_le_mul_right u1 hq
    omega
theorem dl_Eend {x n r0 : Nat} {s0 s1 : Int} (hn31 : n < 1048576) (h : dl_E x n r0 0 s0 s1) : -1048576 < s0 ∧ s0 < 1048576 ∧ (0 ≤ s0 → ∃ k, zI s0 = nI k ∧ k ≤ n ∧ x * k % n = 1 % n) ∧ (s0 < 0 → ∃ k, zI s0 + nI n = nI k ∧ k ≤ n ∧ x * k % n = 1 % n) := by
  obtain ⟨h0, h1, ⟨u0, u1, hs, hn, hu⟩, hg, hlt⟩ := h
  rw [Nat.gcd_zero_right] at hg
  subst hg
  rw [Nat.mul_zero, Nat.zero_add, Nat.mul_one] at hn
  subst hn
  have hb : -(u1 : Int) ≤ s0 ∧ s0 ≤ u1 := by
    rcases hs with ⟨a1, a2⟩ | ⟨a1, a2⟩ <;> omega
  refine ⟨by omega, by omega, fun hp => ?_, fun hm => ?_⟩
  · obtain ⟨k, e, ek⟩ := zI_nat hp
    refine ⟨k, e, by omega, dl_nmod ?_⟩
    rw [← ek] at h0
    exact_mod_cast h0
  · obtain ⟨k, e, ek⟩ := zI_nat (z := s0 + u1) (by omega)
    refine ⟨k, by rw [zI_n u1, zI_add, e], by omega, dl_nmod ?_⟩
    have e2 : s0 = k - u1 := by omega
    rw [e2] at h0
    obtain ⟨c, hc⟩ := h0
    refine ⟨c + x, ?_⟩
    have e3 : ((x * k : Nat) : Int) = x * k := by norm_cast
    rw [e3]
    grind
/-- the gap from x up to y, by n -/
theorem dl_gapeq {x y n : Nat} (hx : x < 1048576) (hy : y < 1048576) (h0 : 0 < n) (hn : n < 1048576) : (nI y - nI x) - (nI y - nI x) / nI n * nI n = zI (((y : Int) - x).tmod n) := by
  have e : nI y - nI x = zI ((y : Int) - x) := by rw [zI_n y, zI_n x, zI_sub]
  rw [e]
  exact zI_rem (by omega) (by omega) h0 (by omega)
theorem dl_gap {x y n : Nat} (hx : x < 1048576) (hy : y < 1048576) (h0 : 0 < n) (hn : n < 1048576) : (((0 : Int32) ≤ zI (((y : Int) - x).tmod n)) → ∃ k, zI (((y : Int) - x).tmod n) = nI k ∧ k < n ∧ (k + x) % n = y % n) ∧ ((¬ (0 : Int32) ≤ zI (((y : Int) - x).tmod n)) → ∃ k, zI (((y : Int) - x).tmod n) + nI n = nI k ∧ k < n ∧ (k + x) % n = y % n) := by
  have hd := Int.mul_tdiv_add_tmod ((y : Int) - x) n
  have b1 : ((y : Int) - x).tmod n < n := Int.tmod_lt_of_pos _ (by omega)
  have b2 : -(n : Int) < ((y : Int) - x).tmod n := by
    have := Int.lt_tmod_of_pos ((y : Int) - x) (show (0 : Int) < n by omega)
    exact this
  generalize ((y : Int) - x).tmod n = w at hd b1 b2 ⊢
  generalize ((y : Int) - x).tdiv n = c at hd
  rw [zI_ge (by omega) (by omega)]
  constructor
  · intro hp
    obtain ⟨k, e, ek⟩ := zI_nat hp
    refine ⟨k, e, by omega, dl_nmod ⟨-c, ?_⟩⟩
    rw [Int.mul_neg]
    omega
  · intro hm
    obtain ⟨k, e, ek⟩ := zI_nat (z := w + n) (by omega)
    refine ⟨k, by rw [zI_n n, zI_add, e], by omega, dl_nmod ⟨1 - c, ?_⟩⟩
    rw [Int.mul_sub, Int.mul_one]
    omega
theorem dl_joineq {x y m n k v : Nat} (hx : x < m) (hy : y < n) (hk : m * k % n = 1 % n) (hv : (v + x) % n = y % n) : x + m * (v * k % n) < m * n ∧ (x + m * (v * k % n)) % m = x ∧ (x + m * (v * k % n)) % n = y := by
  have hw : v * k % n < n := Nat.mod_lt _ (by omega)
  refine ⟨?_, ?_, ?_⟩
  · have h1 : m * (v * k % n + 1) ≤ m * n := Nat.mul_le_mul_left m hw
    rw [Nat.mul_add, Nat.mul_one] at h1
    omega
  · rw [Nat.add_mul_mod_self_left, Nat.mod_eq_of_lt hx]
  · have e1 : m * (v * k % n) % n = v % n := by
      calc m * (v * k % n) % n = m * (v * k) % n := dl_pmul rfl (Nat.mod_mod _ _)
        _ = v * (m * k) % n := by rw [Nat.mul_left_comm]
        _ = v * 1 % n := dl_pmul rfl hk
        _ = v % n := by rw [Nat.mul_one]
    rw [Nat.add_mod, e1, ← Nat.add_mod, Nat.add_comm, hv, Nat.mod_eq_of_lt hy]
theorem dl_crt {m n z w : Nat} (h : Nat.gcd m n = 1) (hz : z < m * n) (hw : w < m * n) (h1 : z % m = w % m) (h2 : z % n = w % n) : z = w := by
  have key : ∀ {z w : Nat}, w < m * n → z ≤ w → z % m = w % m → z % n = w % n → z = w := by
    intro z w hw hle h1 h2
    have d1 : m ∣ w - z := Nat.dvd_of_mod_eq_zero (Nat.sub_mod_eq_zero_of_mod_eq h1.symm)
    have d2 : n ∣ w - z := Nat.dvd_of_mod_eq_zero (Nat.sub_mod_eq_zero_of_mod_eq h2.symm)
    have d3 : m * n ∣ w - z := Nat.Coprime.mul_dvd_of_dvd_of_dvd h d1 d2
    rcases Nat.eq_zero_or_pos (w - z) with q | q
    · omega
    · have := Nat.le_of_dvd q d3
      omega
  rcases Nat.le_total z w with q | q
  · exact key hw q h1 h2
  · exact (key hz q h1.symm h2.symm).symm
end
section
/-! the table of small steps; logarithms by digits and by prime powers -/
abbrev dl_cell (K : Nat → Int32) (x : Nat) : Nat := dl_probe K (nI x) 128 (x * 37 % 128)
theorem dl_cell_lt (K : Nat → Int32) (x : Nat) : dl_cell K x < 128 := dl_probe_lt (Nat.mod_lt _ (by decide))
theorem dl_probe_stop {K : Nat → Int32} {x : Int32} : ∀ (n t : Nat), t < 128 → (K (dl_probe K x n t) = 0 ∨ K (dl_probe K x n t) = x) ∨ ∀ i, i < n → ¬ K ((t + i) % 128) = 0
  | 0, t, _ => Or.inr (fun i hi => by omega)
  | n + 1, t, ht => by
    by_cases h : K t = 0 ∨ K t = x
    · rw [dl_probe_hit h]
      exact Or.inl h
    · have h1 : ¬ K t = 0 := fun z => h (Or.inl z)
      have h2 : ¬ K t = x := fun z => h (Or.inr z)
      rw [dl_probe_miss h1 h2]
      rcases dl_probe_stop n ((t + 1) % 128) (Nat.mod_lt _ (by decide)) with z | z
      · exact Or.inl z
      · refine Or.inr (fun i hi => ?_)
        cases i with
        | zero =>
          rw [Nat.add_zero, Nat.mod_eq_of_lt ht]
          exact h1
        | succ i =>
          have := z i (by omega)
          rw [Nat.mod_add_mod] at this
          have e : t + 1 + i = t + (i + 1) := by omega
          rw [e] at this
          exact this
theorem dl_cell_stop {K : Nat → Int32} {x z : Nat} (hz : z < 128) (h0 : K z = 0) : K (dl_cell K x) = 0 ∨ K (dl_cell K x) = nI x := by
  have ht : x * 37 % 128 < 128 := Nat.mod_lt _ (by decide)
  rcases dl_probe_stop (K := K) (x := nI x) 128 _ ht with y | y
  · exact y
  · refine absurd h0 ?_
    have h1 := y ((z + 128 - x * 37 % 128) % 128) (Nat.mod_lt _ (by decide))
    have e : (x * 37 % 128 + (z + 128 - x * 37 % 128) % 128) % 128 = z := by omega
    rw [e] at h1
    exact h1
theorem dl_probe_upd {K : Nat → Int32} {y v : Int32} {c : Nat} (hc : K c = 0) (hy : ¬ y = 0) : ∀ (n t : Nat), K (dl_probe K y n t) = y → dl_probe (upd K c v) y n t = dl_probe K y n t
  | 0, t, _ => rfl
  | n + 1, t, h => by
    by_cases q : K t = 0 ∨ K t = y
    · rw [dl_probe_hit q] at h ⊢
      have hne : t ≠ c := fun e => hy (by rw [← h, e, hc])
      exact dl_probe_hit (Or.inr (by rw [pk_un hne]; exact h))
    · have h1 : ¬ K t = 0 := fun z => q (Or.inl z)
      have h2 : ¬ K t = y := fun z => q (Or.inr z)
      have hne : t ≠ c := fun e => h1 (by rw [e, hc])
      rw [dl_probe_miss h1 h2] at h ⊢
      rw [dl_probe_miss (by rw [pk_un hne]; exact h1) (by rw [pk_un hne]; exact h2)]
      exact dl_probe_upd hc hy n _ h
theorem dl_probe_ins {K : Nat → Int32} {x : Int32} : ∀ (n t : Nat), K (dl_probe K x n t) = 0 → dl_probe (upd K (dl_probe K x n t) x) x n t = dl_probe K x n t
  | 0, t, _ => rfl
  | n + 1, t, h => by
    by_cases q : K t = 0 ∨ K t = x
    · rw [dl_probe_hit q]
      exact dl_probe_hit (Or.inr pk_us)
    · have h1 : ¬ K t = 0 := fun z => q (Or.inl z)
      have h2 : ¬ K t = x := fun z => q (Or.inr z)
      rw [dl_probe_miss h1 h2] at h ⊢
      have hne : t ≠ dl_probe K x n ((t + 1) % 128) := fun e => h1 (by rw [e, h])
      rw [dl_probe_miss (by rw [pk_un hne]; exact h1) (by rw [pk_un hne]; exact h2)]
      exact dl_probe_ins n _ h
/-- the table holds the powers of g below J -/
def dl_T (p g J : Nat) (K S : Nat → Int32) : Prop := (∀ j, j < J → K (dl_cell K (g ^ j % p)) = nI (g ^ j % p) ∧ S (dl_cell K (g ^ j % p)) = nI j) ∧ (∀ t, t < 128 → ¬ K t = 0 → ∃ j, j < J ∧ K t = nI (g ^ j % p)) ∧ fb_ct (fun t => decide (¬ K t = 0)) 128 ≤ J
theorem dl_T0 {p g : Nat} {K S : Nat → Int32} (h : ∀ j, j < 128 → K j = 0) : dl_T p g 0 K S := by
  refine ⟨fun j hj => by omega, fun t ht h2 => absurd (h t ht) h2, ?_⟩
  rw [fb_ct_zero.mpr (fun k hk => decide_eq_false (fun z => z (h k hk)))]
  exact Nat.le_refl 0
theorem dl_T_stop {p g J x : Nat} {K S : Nat → Int32} (h : dl_T p g J K S) (hJ : J < 128) : K (dl_cell K x) = 0 ∨ K (dl_cell K x) = nI x := by
  refine Classical.byContradiction fun hx => ?_
  have hall : ∀ k, k < 128 → decide (¬ K k = 0) = true := fun k hk => decide_eq_true (fun z => hx (dl_cell_stop hk z))
  have := fb_ct_all.mpr hall
  have := h.2.2
  omega
theorem dl_nI_inj {x y : Nat} (hx : x < 2147483648) (hy : y < 2147483648) (h : nI x = nI y) : x = y := (nI_eq hx hy).mp h
theorem dl_T_new {p g J n : Nat} {K S : Nat → Int32} (hp : 1 < p) (hp2 : p ≤ 2039) (ho : dl_ord p g n) (h : dl_T p g J K S) (hJ : J < 128) (hn : J < n) : K (dl_cell K (g ^ J % p)) = 0 := by
  rcases dl_T_stop (x := g ^ J % p) h hJ with z | z
  · exact z
  · have hpos := dl_powpos hp ho.1 ho.2.1 J
    have hlt : ∀ i, g ^ i % p < p := fun i => Nat.mod_lt _ (by omega)
    have a1 := hlt J
    obtain ⟨j, hj, e⟩ := h.2.1 _ (dl_cell_lt K _) (by rw [z]; exact nI_ne0 hpos (by omega))
    rw [z] at e
    have a2 := hlt j
    have e2 := dl_nI_inj (by omega) (by omega) e
    have := dl_inj_lt hp ho hn (by omega) e2
    omega
theorem dl_T_ins {p g J n : Nat} {K S : Nat → Int32} (hp : 1 < p) (hp2 : p ≤ 2039) (ho : dl_ord p g n) (h : dl_T p g J K S) (hJ : J < 128) (hn : J < n) : dl_T p g (J + 1) (upd K (dl_cell K (g ^ J % p)) (nI (g ^ J % p))) (upd S (dl_cell K (g ^ J % p)) (nI J)) := by
  have h0 := dl_T_new hp hp2 ho h hJ hn
  have hpos := fun i => dl_powpos hp ho.1 ho.2.1 i
  have hlt : ∀ i, g ^ i % p < p := fun i => Nat.mod_lt _ (by omega)
  have hne0 : ∀ i, ¬ nI (g ^ i % p) = 0 := fun i => nI_ne0 (hpos i) (by have := hlt i; omega)
  obtain ⟨h1, h2, h3⟩ := h
  generalize hc : dl_cell K (g ^ J % p) = c at h0 ⊢
  refine ⟨fun j hj => ?_, fun t ht hk => ?_, ?_⟩
  · rcases Nat.lt_or_ge j J with z | z
    · obtain ⟨a1, a2⟩ := h1 j z
      have e : dl_cell (upd K c (nI (g ^ J % p))) (g ^ j % p) = dl_cell K (g ^ j % p) := dl_probe_upd h0 (hne0 j) 128 _ a1
      have hne : dl_cell K (g ^ j % p) ≠ c := fun e2 => by
        rw [e2, h0] at a1
        exact hne0 j a1.symm
      rw [e, pk_un hne, pk_un hne]
      exact ⟨a1, a2⟩
    · have e : j = J := by omega
      subst e
      have e : dl_cell (upd K c (nI (g ^ j % p))) (g ^ j % p) = c := by
        have e2 := dl_probe_ins (K := K) (x := nI (g ^ j % p)) 128 (g ^ j % p * 37 % 128) (by
          show K (dl_cell K (g ^ j % p)) = 0
          rw [hc]
          exact h0)
        have hc2 : dl_probe K (nI (g ^ j % p)) 128 (g ^ j % p * 37 % 128) = c := hc
        rw [hc2] at e2
        exact e2
      rw [e, pk_us, pk_us]
      exact ⟨rfl, rfl⟩
  · by_cases q : t = c
    · subst q
      exact ⟨J, by omega, pk_us⟩
    · rw [pk_un q] at hk ⊢
      obtain ⟨j, hj, e⟩ := h2 t ht hk
      exact ⟨j, by omega, e⟩
  · have hcl : c < 128 := by rw [← hc]; exact dl_cell_lt K _
    have hu := fb_ct_upd (fun t => decide (¬ K t = 0)) true hcl
    have hz : decide (¬ K c = 0) = false := decide_eq_false (fun z => z h0)
    have e : fb_ct (fun t => decide (¬ upd K c (nI (g ^ J % p)) t = 0)) 128 = fb_ct (fun k => if k = c then true else decide (¬ K k = 0)) 128 := fb_ct_cong (fun k _ => by
      show decide (¬ upd K c (nI (g ^ J % p)) k = 0) = if k = c then true else decide (¬ K k = 0)
      by_cases q : k = c
      · subst q
        rw [if_pos rfl, pk_us]
        exact decide_eq_true (hne0 J)
      · rw [if_neg q, pk_un q])
    rw [e]
    have hu : fb_ct (fun k => if k = c then true else decide (¬ K k = 0)) 128 + (if decide (¬ K c = 0) = true then 1 else 0) = fb_ct (fun t => decide (¬ K t = 0)) 128 + 1 := hu
    rw [hz] at hu
    have hu : fb_ct (fun k => if k = c then true else decide (¬ K k = 0)) 128 + 0 = fb_ct (fun t => decide (¬ K t = 0)) 128 + 1 := hu
    omega
/-- a number that the table hasn't -/
theorem dl_T_no {p g J n d : Nat} {K S : Nat → Int32} (hp : 1 < p) (hp2 : p ≤ 2039) (ho : dl_ord p g n) (h : dl_T p g J K S) (hJn : J ≤ n) (h1 : J ≤ d) (h2 : d < n) : ¬ K (dl_cell K (g ^ d % p)) = nI (g ^ d % p) := fun e => by
  have hpos := dl_powpos hp ho.1 ho.2.1 d
  have hlt : ∀ i, g ^ i % p < p := fun i => Nat.mod_lt _ (by omega)
  have a1 := hlt d
  obtain ⟨j, hj, e2⟩ := h.2.1 _ (dl_cell_lt K _) (by rw [e]; exact nI_ne0 hpos (by omega))
  rw [e] at e2
  have a2 := hlt j
  have e3 := dl_nI_inj (by omega) (by omega) e2
  have := dl_inj_lt hp ho h2 (by omega) e3
  omega
theorem dl_mq {m q : Nat} (h1 : 1 ≤ m) (h2 : 2 ≤ q) (h3 : (m - 1) * (m - 1) < q) : m ≤ q := by
  rcases Nat.lt_or_ge m 3 with z | z
  · omega
  · have := Nat.mul_le_mul_right (m - 1) (show 2 ≤ m - 1 by omega)
    omega
/-- one giant step back -/
theorem dl_giant {p g m d : Nat} (hP : dl_P p) (hg : dl_U p g) (hm : m ≤ d) : g ^ d % p * ((g ^ m % p) ^ (p - 2) % p) % p = g ^ (d - m) % p := by
  have hu := dl_inv_pow hP (dl_U_pow hP hg m)
  have e : g ^ d % p = g ^ (d - m) % p * (g ^ m % p) % p := by rw [← Nat.mul_mod, ← Nat.pow_add, Nat.sub_add_cancel hm]
  calc g ^ d % p * ((g ^ m % p) ^ (p - 2) % p) % p = (g ^ (d - m) % p * (g ^ m % p)) * ((g ^ m % p) ^ (p - 2) % p) % p := dl_pmul (by rw [Nat.mod_mod]; exact e) rfl
    _ = (g ^ (d - m) % p) * ((g ^ m % p) * ((g ^ m % p) ^ (p - 2) % p)) % p := by rw [Nat.mul_assoc]
    _ = (g ^ (d - m) % p) * 1 % p := dl_pmul rfl (by rw [hu, dl_one (dl_P1 hP)])
    _ = g ^ (d - m) % p := by rw [Nat.mul_one, Nat.mod_mod]
/-! ===== digits ===== -/
theorem dl_ord_pow {p g q k : Nat} (hp : 1 < p) (hk : 0 < k) (hq : 0 < q) (h : dl_ord p g (k * q)) : dl_ord p (g ^ k % p) q := by
  refine ⟨hq, ?_, fun j h1 h2 e => ?_⟩
  · rw [dl_pow_pow]
    exact h.2.1
  · rw [dl_pow_pow, dl_ord_dvd hp h] at e
    have := Nat.le_of_dvd h1 (Nat.dvd_of_mul_dvd_mul_left hk e)
    omega
theorem dl_lift {p g q e j X h : Nat} (hP : dl_P p) (hg : dl_U p g) (ho : dl_ord p g (q ^ e)) (hj : j < e) (hq : 0 < q) (hh : h = g ^ X % p) : (h * ((g ^ (p - 2) % p) ^ (X % q ^ j) % p) % p) ^ (q ^ (e - 1 - j)) % p = (g ^ (q ^ (e - 1)) % p) ^ (X / q ^ j % q) % p := by
  have hp := dl_P1 hP
  have hle : X % q ^ j ≤ X := Nat.mod_le _ _
  have e1 : h * ((g ^ (p - 2) % p) ^ (X % q ^ j) % p) % p = g ^ (X - X % q ^ j) % p := by
    have hi := dl_inv_pow hP hg
    have e2 : g ^ (X % q ^ j) * (g ^ (p - 2) % p) ^ (X % q ^ j) % p = 1 := by
      rw [← Nat.mul_pow]
      exact dl_pow1 hp hi _
    have e3 : g ^ X = g ^ (X - X % q ^ j) * g ^ (X % q ^ j) := by rw [← Nat.pow_add, Nat.sub_add_cancel hle]
    calc h * ((g ^ (p - 2) % p) ^ (X % q ^ j) % p) % p = g ^ X * (g ^ (p - 2) % p) ^ (X % q ^ j) % p := dl_pmul (by rw [hh, Nat.mod_mod]) (Nat.mod_mod _ _)
      _ = g ^ (X - X % q ^ j) * (g ^ (X % q ^ j) * (g ^ (p - 2) % p) ^ (X % q ^ j)) % p := by rw [e3, Nat.mul_assoc]
      _ = g ^ (X - X % q ^ j) * 1 % p := dl_pmul rfl (by rw [e2, dl_one hp])
      _ = g ^ (X - X % q ^ j) % p := by rw [Nat.mul_one]
  have e4 : X - X % q ^ j = q ^ j * (X / q ^ j) := by
    have := Nat.div_add_mod X (q ^ j)
    omega
  have e5 : q ^ j * (X / q ^ j) * q ^ (e - 1 - j) = q ^ (e - 1) * (X / q ^ j) := by
    rw [Nat.mul_right_comm, ← Nat.pow_add]
    congr 2
    omega
  rw [e1, e4, dl_pow_pow, e5, ← dl_pow_pow]
  have hr : dl_ord p (g ^ (q ^ (e - 1)) % p) q := by
    refine dl_ord_pow hp (Nat.pow_pos hq) hq ?_
    rw [← Nat.pow_succ]
    have : (e - 1).succ = e := by omega
    rw [this]
    exact ho
  exact dl_powmod hp hr.2.1 _
theorem dl_digit {X q j : Nat} : X % q ^ j + X / q ^ j % q * q ^ j = X % q ^ (j + 1) := by
  rw [Nat.mod_pow_succ, Nat.mul_comm]
theorem dl_height {q e j : Nat} (hq : 0 < q) (hj : j + 1 < e) : q ^ (e - 1 - j) / q = q ^ (e - 1 - (j + 1)) := by
  have e1 : e - 1 - j = (e - 1 - (j + 1)) + 1 := by omega
  rw [e1, Nat.pow_succ, Nat.mul_div_cancel _ hq]
/-! ===== prime powers together ===== -/
/-- what the least logarithm's loop keeps: m is the part of n by the primes seen -/
def dl_J (n nf : Nat) (q : Nat → Nat) (f m : Nat) : Prop := 0 < m ∧ m ∣ n ∧ (∀ j, j < f → ¬ q j ∣ n / m) ∧ (∀ j, f ≤ j → j < nf → Nat.Coprime m (q j))
theorem dl_J0 {n nf : Nat} {q : Nat → Nat} : dl_J n nf q 0 1 := ⟨by omega, ⟨n, by omega⟩, fun j hj => by omega, fun j _ _ => Nat.coprime_one_left _⟩
theorem dl_J1 {n nf f m e : Nat} {q : Nat → Nat} (hn : 0 < n) (h : dl_J n nf q f m) (hf : f < nf) (hq : ∀ i, i < nf → dl_prime (q i)) (hqi : ∀ i j, i < j → j < nf → q i < q j) (hd : q f ^ e ∣ n) (hno : ¬ n % (q f ^ e * q f) = 0) : dl_J n nf q (f + 1) (m * q f ^ e) ∧ Nat.gcd m (q f ^ e) = 1 := by
  obtain ⟨h1, h2, h3, h4⟩ := h
  have hc : Nat.Coprime m (q f ^ e) := (h4 f (Nat.le_refl f) hf).pow_right e
  have hqf := hq f hf
  have hq0 : 0 < q f := by have := hqf.1; omega
  have hdm : m * q f ^ e ∣ n := Nat.Coprime.mul_dvd_of_dvd_of_dvd hc h2 hd
  have hpos : 0 < m * q f ^ e := Nat.mul_pos h1 (Nat.pow_pos hq0)
  refine ⟨⟨hpos, hdm, fun j hj hx => ?_, fun j hj hjn => ?_⟩, hc⟩
  · obtain ⟨c, hc2⟩ := hdm
    have e2 : n / (m * q f ^ e) = c := by rw [hc2, Nat.mul_div_cancel_left _ hpos]
    rw [e2] at hx
    rcases Nat.lt_or_ge j f with z | z
    · refine h3 j z ?_
      have e3 : n / m = q f ^ e * c := by rw [hc2, Nat.mul_assoc, Nat.mul_div_cancel_left _ h1]
      rw [e3]
      exact Nat.dvd_trans hx (Nat.dvd_mul_left c _)
    · have e3 : j = f := by omega
      subst e3
      refine hno (Nat.mod_eq_zero_of_dvd ?_)
      obtain ⟨d, hd2⟩ := hx
      exact ⟨m * d, by rw [hc2, hd2]; simp only [Nat.mul_assoc, Nat.mul_left_comm, Nat.mul_comm]⟩
  · refine Nat.Coprime.mul_left (h4 j (by omega) hjn) ?_
    have hlt := hqi f j (by omega) hjn
    exact (dl_cop2 hqf (hq j hjn) (by omega)).pow_left e
theorem dl_J_end {N n nf f m : Nat} {q t : Nat → Nat} (hn : 0 < n) (hnN : n ∣ N) (hF : dl_F N nf q t) (hf : nf ≤ f) (h : dl_J n nf q f m) : m = n := by
  obtain ⟨h1, ⟨c, hc⟩, h3, h4⟩ := h
  have e2 : n / m = c := by rw [hc, Nat.mul_div_cancel_left _ h1]
  rcases Nat.lt_or_ge c 2 with z | z
  · have : c = 1 := by
      rcases Nat.eq_zero_or_pos c with y | y
      · rw [y, Nat.mul_zero] at hc
        omega
      · omega
    rw [this, Nat.mul_one] at hc
    exact hc.symm
  · obtain ⟨y, hy, hyc⟩ := dl_pf z
    have hyN : y ∣ N := Nat.dvd_trans (Nat.dvd_trans hyc ⟨m, by rw [hc, Nat.mul_comm]⟩) hnN
    obtain ⟨i, hi, e⟩ := hF.2.2 y hy hyN
    refine absurd ?_ (h3 i (by omega))
    rw [e2, e]
    exact hyc
/-- the part of g of order s, s a divisor of its order n -/
theorem dl_part {p g n s X h : Nat} (hp : 1 < p) (ho : dl_ord p g n) (hs0 : 0 < s) (hs : s ∣ n) (hh : h = g ^ X % p) : dl_ord p (g ^ (n / s) % p) s ∧ h ^ (n / s) % p = (g ^ (n / s) % p) ^ (X % s) % p := by
  obtain ⟨c, hc⟩ := hs
  have e : n / s = c := by rw [hc, Nat.mul_div_cancel_left _ hs0]
  have hc0 : 0 < c := by
    rcases Nat.eq_zero_or_pos c with y | y
    · have := ho.1
      rw [hc, y, Nat.mul_zero] at this
      omega
    · exact y
  have h1 : dl_ord p (g ^ (n / s) % p) s := by
    rw [e]
    refine dl_ord_pow hp hc0 hs0 ?_
    rw [Nat.mul_comm, ← hc]
    exact ho
  refine ⟨h1, ?_⟩
  rw [← dl_powmod hp h1.2.1 X, hh, dl_pow_pow, dl_pow_pow, Nat.mul_comm]
end
section
set_option maxRecDepth 100000
section XC
variable {l : Launch} {D : va_G} {a : xA} {P O F : Int32} {B T K S : Nat → Int32} {p nf : Nat}
set_option maxHeartbeats 4000000 in
theorem mX0_invertBy {x n : Nat} (hn0 : 0 < n) (hn20 : n < 1048576) (hx20 : x < 1048576) (hg : Nat.gcd x n = 1) : dx_MI l yX0_invertBy (ws_ yX0_invertBy cX0_invertBy 11 (some .int)) (rm_ 0 0) D (xT a) (xW a P O F B T K S) [.ref a.1, .int (nI x), .int (nI n)] (fun (r : Int32) (u : Unit) => ∃ k, r = nI k ∧ k ≤ n ∧ x * k % n = 1 % n) (fun _ => xW a P O F B T K S) := by
  refine dx_ofI (by decide) rfl (Nat.le_of_ble_eq_true rfl) ?_
  intro pg en sS mI aR bL mE cO A Q ls hx hb hml hown hts hA hK hP hD hS hl hret
  have hl : lv_has ls 11 [(0, .ref a.1), (1, .int (nI x)), (2, .int (nI n))] := hl
  refine lv_iload_n hx hb dX0_invertBy_0 rfl (lv_at hl 2 rfl) ?_
  refine lv_istore_n (lv' := [(3, .int (nI n)), (0, .ref a.1), (1, .int (nI x)), (2, .int (nI n))]) hx hb dX0_invertBy_1 rfl hl (by decide) rfl (fun ls hl => ?_)
  refine lv_iload_n hx hb dX0_invertBy_2 rfl (lv_at hl 3 rfl) ?_
  refine dn_if_le (tgt := 12) hx hb dX0_invertBy_3 (by decide) (by omega) (fun z => absurd z (by omega)) (fun h0 => ?_)
  refine lv_iload_n hx hb dX0_invertBy_6 rfl (lv_at hl 2 rfl) ?_
  refine lv_iload_n hx hb dX0_invertBy_7 rfl (lv_at hl 3 rfl) ?_
  refine dn_irem hx hb dX0_invertBy_8 (by omega) (by omega) (by omega) ?_
  refine lv_goto (tgt := 13) hx hb dX0_invertBy_9 (by decide) ?_
  refine lv_istore (lv' := [(4, .int (nI (x % n))), (3, .int (nI n)), (0, .ref a.1), (1, .int (nI x)), (2, .int (nI n))]) hx hb dX0_invertBy_13 hl (by decide) rfl (fun ls hl => ?_)
  refine lv_iconst (v := (nI 0)) hx hb dX0_invertBy_15 (by decide) ?_
  refine dn_top (show ((nI 0) : Int32) = (zI 0) from zI_n 0) ?_
  refine lv_istore (lv' := [(5, .int (zI 0)), (4, .int (nI (x % n))), (3, .int (nI n)), (0, .ref a.1), (1, .int (nI x)), (2, .int (nI n))]) hx hb dX0_invertBy_16 hl (by decide) rfl (fun ls hl => ?_)
  refine lv_iconst (v := (nI 1)) hx hb dX0_invertBy_18 (by decide) ?_
  refine dn_top (show ((nI 1) : Int32) = (zI 1) from zI_n 1) ?_
  refine lv_istore (lv' := [(6, .int (zI 1)), (5, .int (zI 0)), (4, .int (nI (x % n))), (3, .int (nI n)), (0, .ref a.1), (1, .int (nI x)), (2, .int (nI n))]) hx hb dX0_invertBy_19 hl (by decide) rfl (fun ls hl => ?_)
  refine lv_iconst (v := (nI 0)) hx hb dX0_invertBy_21 (by decide) ?_
  refine lv_istore (lv' := [(7, .int (nI 0)), (6, .int (zI 1)), (5, .int (zI 0)), (4, .int (nI (x % n))), (3, .int (nI n)), (0, .ref a.1), (1, .int (nI x)), (2, .int (nI n))]) hx hb dX0_invertBy_22 hl (by decide) rfl (fun ls hl => ?_)
  have loop : ∀ (k9 : Nat) (i r0 r1 : Nat) (s0 s1 : Int), (dl_E x n r0 r1 s0 s1) → (r0 < 1048576) → (i ≤ 50) → (0 < i → r1 ≤ r0 ∧ r0 * r1 < 2 ^ (50 - i)) → (64 - i) < k9 → ∀ (H : Heap) (locs : List Loc), va_P D vwCl (xW a P O F B T K S) H → va_S A sS.heap H locs → ∀ ls : Array Slot, lv_has ls 11 [(0, .ref a.1), (1, .int (nI x)), (2, .int (nI n)), (3, .int (nI r0)), (4, .int (nI r1)), (5, .int (zI s0)), (6, .int (zI s1)), (7, .int (nI i))] → W pg l en (rm_ 0 0) sS mI aR bL mE cO H locs 0 0 Q (F0 mI 24 ls []) := by
    intro k9
    induction k9 with
    | zero => intros; omega
    | succ k9 ih =>
      intro i r0 r1 s0 s1 hE hu hi hq hn H locs hP hS ls hl
      have hlt : r1 < r0 := hE.2.2.2.2
      refine lv_iload hx hb dX0_invertBy_24 (lv_at hl 7 rfl) ?_
      refine lv_bipush (v := (nI 64)) hx hb dX0_invertBy_26 (by decide) ?_
      refine dn_icmp_ge (tgt := 82) hx hb dX0_invertBy_28 (by decide) (by omega) (by omega) (fun z => absurd z (by omega)) (fun h6 => ?_)
      refine lv_iload hx hb dX0_invertBy_31 (lv_at hl 4 rfl) ?_
      refine dn_if_eq (tgt := 82) hx hb dX0_invertBy_33 (by decide) (by omega) (fun hr => ?_) (fun hr => ?_)
      · subst hr
        obtain ⟨b1, b2, b3, b4⟩ := dl_Eend hn20 hE
        refine lv_iload hx hb dX0_invertBy_82 (lv_at hl 5 rfl) ?_
        refine lv_if_ge (tgt := 94) hx hb dX0_invertBy_84 (by decide) (fun hs => ?_) (fun hs => ?_)
        · refine lv_iload hx hb dX0_invertBy_94 (lv_at hl 5 rfl) ?_
          exact hret _ _ _ () _ _ dX0_invertBy_96 (b3 ((zI_ge (by omega) (by omega)).mp hs)) hP hD hS
        · refine lv_iload hx hb dX0_invertBy_87 (lv_at hl 5 rfl) ?_
          refine lv_iload_n hx hb dX0_invertBy_89 rfl (lv_at hl 2 rfl) ?_
          refine lv_iadd hx hb dX0_invertBy_90 ?_
          refine lv_goto (tgt := 96) hx hb dX0_invertBy_91 (by decide) ?_
          exact hret _ _ _ () _ _ dX0_invertBy_96 (b4 (by have z := mt (zI_ge (z := s0) (by omega) (by omega)).mpr hs; omega)) hP hD hS
      · obtain ⟨g1, g2, g3⟩ := dl_gq hu (by omega) hr hi hq
        refine lv_iload_n hx hb dX0_invertBy_36 rfl (lv_at hl 3 rfl) ?_
        refine lv_iload hx hb dX0_invertBy_37 (lv_at hl 4 rfl) ?_
        refine dn_idiv hx hb dX0_invertBy_39 (by omega) (by omega) (by omega) ?_
        refine lv_istore (lv' := [(8, .int (nI (r0 / r1))), (0, .ref a.1), (1, .int (nI x)), (2, .int (nI n)), (3, .int (nI r0)), (4, .int (nI r1)), (5, .int (zI s0)), (6, .int (zI s1)), (7, .int (nI i))]) hx hb dX0_invertBy_40 hl (by decide) rfl (fun ls hl => ?_)
        refine lv_iload_n hx hb dX0_invertBy_42 rfl (lv_at hl 4 rfl) ?_
        refine lv_iload hx hb dX0_invertBy_43 (lv_at hl 0 rfl) ?_
        refine lv_iload hx hb dX0_invertBy_45 (lv_at hl 5 rfl) ?_
        refine dn_imul hx hb dX0_invertBy_47 ?_
        refine dn_isub hx hb dX0_invertBy_48 (Nat.div_mul_le_self _ _) ?_
        refine dn_top (show ((nI (r0 - ((r0 / r1) * r1))) : Int32) = (nI (r0 % r1)) from (by congr 1; have h9 := Nat.div_add_mod r0 r1; rw [Nat.mul_comm] at h9; omega)) ?_
        refine lv_istore (lv' := [(9, .int (nI (r0 % r1))), (8, .int (nI (r0 / r1))), (0, .ref a.1), (1, .int (nI x)), (2, .int (nI n)), (3, .int (nI r0)), (4, .int (nI r1)), (5, .int (zI s0)), (6, .int (zI s1)), (7, .int (nI i))]) hx hb dX0_invertBy_49 hl (by decide) rfl (fun ls hl => ?_)
        refine lv_iload hx hb dX0_invertBy_51 (lv_at hl 7 rfl) ?_
        refine lv_iload hx hb dX0_invertBy_53 (lv_at hl 1 rfl) ?_
        refine lv_iload hx hb dX0_invertBy_55 (lv_at hl 8 rfl) ?_
        refine lv_imul hx hb dX0_invertBy_57 ?_
        refine lv_isub hx hb dX0_invertBy_58 ?_
        refine dn_top (show (((zI s0) - ((nI (r0 / r1)) * (zI s1))) : Int32) = (zI (s0 - (r0 / r1 : Nat) * s1)) from zI_step _ _ _) ?_
        refine lv_istore (lv' := [(10, .int (zI (s0 - (r0 / r1 : Nat) * s1))), (9, .int (nI (r0 % r1))), (8, .int (nI (r0 / r1))), (0, .ref a.1), (1, .int (nI x)), (2, .int (nI n)), (3, .int (nI r0)), (4, .int (nI r1)), (5, .int (zI s0)), (6, .int (zI s1)), (7, .int (nI i))]) hx hb dX0_invertBy_59 hl (by decide) rfl (fun ls hl => ?_)
        refine lv_iload hx hb dX0_invertBy_61 (lv_at hl 7 rfl) ?_
        refine lv_istore_n (lv' := [(3, .int (nI r1)), (10, .int (zI (s0 - (r0 / r1 : Nat) * s1))), (9, .int (nI (r0 % r1))), (8, .int (nI (r0 / r1))), (0, .ref a.1), (1, .int (nI x)), (2, .int (nI n)), (4, .int (nI r1)), (5, .int (zI s0)), (6, .int (zI s1)), (7, .int (nI i))]) hx hb dX0_invertBy_63 rfl hl (by decide) rfl (fun ls hl => ?_)
        refine lv_iload hx hb dX0_invertBy_64 (lv_at hl 2 rfl) ?_
        refine lv_istore (lv' := [(4, .int (nI (r0 % r1))), (3, .int (nI r1)), (10, .int (zI (s0 - (r0 / r1 : Nat) * s1))), (9, .int (nI (r0 % r1))), (8, .int (nI (r0 / r1))), (0, .ref a.1), (1, .int (nI x)), (2, .int (nI n)), (5, .int (zI s0)), (6, .int (zI s1)), (7, .int (nI i))]) hx hb dX0_invertBy_66 hl (by decide) rfl (fun ls hl => ?_)
        refine lv_iload hx hb dX0_invertBy_68 (lv_at hl 9 rfl) ?_
        refine lv_istore (lv' := [(5, .int (zI s1)), (4, .int (nI (r0 % r1))), (3, .int (nI r1)), (10, .int (zI (s0 - (r0 / r1 : Nat) * s1))), (9, .int (nI (r0 % r1))), (8, .int (nI (r0 / r1))), (0, .ref a.1), (1, .int (nI x)), (2, .int (nI n)), (6, .int (zI s1)), (7, .int (nI i))]) hx hb dX0_invertBy_70 hl (by decide) rfl (fun ls hl => ?_)
        refine lv_iload hx hb dX0_invertBy_72 (lv_at hl 3 rfl) ?_
        refine lv_istore (lv' := [(6, .int (zI (s0 - (r0 / r1 : Nat) * s1))), (5, .int (zI s1)), (4, .int (nI (r0 % r1))), (3, .int (nI r1)), (10, .int (zI (s0 - (r0 / r1 : Nat) * s1))), (9, .int (nI (r0 % r1))), (8, .int (nI (r0 / r1))), (0, .ref a.1), (1, .int (nI x)), (2, .int (nI n)), (7, .int (nI i))]) hx hb dX0_invertBy_74 hl (by decide) rfl (fun ls hl => ?_)
        refine lv_iinc (v := (nI (i + 1))) (lv' := [(7, .int (nI (i + 1))), (6, .int (zI (s0 - (r0 / r1 : Nat) * s1))), (5, .int (zI s1)), (4, .int (nI (r0 % r1))), (3, .int (nI r1)), (10, .int (zI (s0 - (r0 / r1 : Nat) * s1))), (9, .int (nI (r0 % r1))), (8, .int (nI (r0 / r1))), (0, .ref a.1), (1, .int (nI x)), (2, .int (nI n))]) hx hb dX0_invertBy_76 hl (k := 10) rfl (nI_1 _) (by decide) rfl (fun ls hl => ?_)
        refine lv_goto (tgt := 24) hx hb dX0_invertBy_79 (by decide) ?_
        exact ih (i + 1) r1 (r0 % r1) s1 _ (dl_E1 hE hr) (by omega) g1 (fun _ => ⟨g2, g3⟩) (by omega) _ _ hP hS ls (lv_sub hl [8, 9, 10, 4, 3, 2, 1, 0] rfl)
  exact loop 65 0 n (x % n) 0 1 (dl_E0 hn0 hg) hn20 (by omega) (fun z => by omega) (by omega) _ _ hP hS ls (lv_sub hl [5, 6, 7, 4, 3, 2, 1, 0] rfl)
set_option maxHeartbeats 4000000 in
theorem mX0_join {x m y n : Nat} (hxm : x < m) (hyn : y < n) (hm20 : m < 32768) (hn20 : n < 32768) (hg : Nat.gcd m n = 1) : dx_MI l yX0_join (ws_ yX0_join cX0_join 8 (some .int)) (rm_ 1 30) D (xT a) (xW a P O F B T K S) [.ref a.1, .int (nI x), .int (nI m), .int (nI y), .int (nI n)] (fun (r : Int32) (u : Unit) => ∃ z, r = nI z ∧ z < m * n ∧ z % m = x ∧ z % n = y) (fun _ => xW a P O F B T K S) := by
  refine dx_ofI (by decide) rfl (Nat.le_of_ble_eq_true rfl) ?_
  intro pg en sS mI aR bL mE cO A Q ls hx hb hml hown hts hA hK hP hD hS hl hret
  have hl : lv_has ls 8 [(0, .ref a.1), (1, .int (nI x)), (2, .int (nI m)), (3, .int (nI y)), (4, .int (nI n))] := hl
  refine lv_aload_n hx hb dX0_join_0 rfl (lv_at hl 0 rfl) ?_
  refine lv_iload_n hx hb dX0_join_1 rfl (lv_at hl 2 rfl) ?_
  refine lv_iload hx hb dX0_join_2 (lv_at hl 4 rfl) ?_
  refine xc_I (As := [.int (nI m), .int (nI n)]) (rest := []) hx hb hml hown hts (mX0_invertBy (by omega) (by omega) (by omega) hg) (cw_X0_invertBy hts rfl rfl ⟨Nat.le_of_ble_eq_true rfl, Nat.le_of_ble_eq_true rfl⟩) hK hP hD hS hA rfl hl.1 rfl (Nat.le_of_ble_eq_true rfl) dX0_join_4 (fun r _ H locs hw hP hD hS => ?_)
  obtain ⟨k, rfl, hk1, hk2⟩ := hw
  refine lv_istore (lv' := [(5, .int (nI k)), (0, .ref a.1), (1, .int (nI x)), (2, .int (nI m)), (3, .int (nI y)), (4, .int (nI n))]) hx hb dX0_join_7 hl (by decide) rfl (fun ls hl => ?_)
  refine lv_iload_n hx hb dX0_join_9 rfl (lv_at hl 4 rfl) ?_
  refine lv_iload_n hx hb dX0_join_10 rfl (lv_at hl 2 rfl) ?_
  refine lv_isub hx hb dX0_join_11 ?_
  refine lv_iload hx hb dX0_join_12 (lv_at hl 5 rfl) ?_
  refine lv_irem hx hb dX0_join_14 (nI_ne0 (by omega) (by omega)) ?_
  refine dn_top (show ((((nI y) - (nI x)) - ((nI y) - (nI x)) / (nI n) * (nI n)) : Int32) = (zI (((y : Int) - x).tmod n)) from dl_gapeq (by omega) (by omega) (by omega) (by omega)) ?_
  obtain ⟨c1, c2⟩ := dl_gap (x := x) (y := y) (n := n) (by omega) (by omega) (by omega) (by omega)
  refine lv_istore (lv' := [(6, .int (zI (((y : Int) - x).tmod n))), (5, .int (nI k)), (0, .ref a.1), (1, .int (nI x)), (2, .int (nI m)), (3, .int (nI y)), (4, .int (nI n))]) hx hb dX0_join_15 hl (by decide) rfl (fun ls hl => ?_)
  refine lv_iload hx hb dX0_join_17 (lv_at hl 0 rfl) ?_
  refine lv_if_ge (tgt := 29) hx hb dX0_join_19 (by decide) (fun hs => ?_) (fun hs => ?_)
  · obtain ⟨v, ev, hv1, hv2⟩ := c1 hs
    rw [ev] at hl
    refine lv_aload_n hx hb dX0_join_29 rfl (lv_at hl 2 rfl) ?_
    refine lv_iload hx hb dX0_join_30 (lv_at hl 0 rfl) ?_
    refine lv_iload hx hb dX0_join_32 (lv_at hl 1 rfl) ?_
    refine lv_iload hx hb dX0_join_34 (lv_at hl 6 rfl) ?_
    refine xc_I (As := [.int (nI v), .int (nI k), .int (nI n)]) (rest := []) hx hb hml hown hts (mX0_timesBy (by omega) (by omega) (by omega) (by omega)) (cw_X0_timesBy hts rfl rfl ⟨Nat.le_of_ble_eq_true rfl, Nat.le_of_ble_eq_true rfl⟩) hK hP hD hS hA rfl hl.1 rfl (Nat.le_of_ble_eq_true rfl) dX0_join_36 (fun r _ H locs hw hP hD hS => ?_)
    obtain rfl : r = nI (v * k % n) := hw
    refine lv_istore (lv' := [(7, .int (nI (v * k % n))), (6, .int (nI v)), (5, .int (nI k)), (0, .ref a.1), (1, .int (nI x)), (2, .int (nI m)), (3, .int (nI y)), (4, .int (nI n))]) hx hb dX0_join_39 hl (by decide) rfl (fun ls hl => ?_)
    refine lv_iload_n hx hb dX0_join_41 rfl (lv_at hl 4 rfl) ?_
    refine lv_iload_n hx hb dX0_join_42 rfl (lv_at hl 5 rfl) ?_
    refine lv_iload hx hb dX0_join_43 (lv_at hl 0 rfl) ?_
    refine dn_imul hx hb dX0_join_45 ?_
    refine dn_iadd hx hb dX0_join_46 ?_
    exact hret _ _ _ () _ _ dX0_join_47 ⟨_, rfl, dl_joineq hxm hyn hk2 hv2⟩ hP hD hS
  · refine lv_iload hx hb dX0_join_22 (lv_at hl 0 rfl) ?_
    refine lv_iload hx hb dX0_join_24 (lv_at hl 6 rfl) ?_
    refine lv_iadd hx hb dX0_join_26 ?_
    obtain ⟨v, ev, hv1, hv2⟩ := c2 hs
    refine dn_top (show (((zI (((y : Int) - x).tmod n)) + (nI n)) : Int32) = (nI v) from ev) ?_
    refine lv_istore (lv' := [(6, .int (nI v)), (5, .int (nI k)), (0, .ref a.1), (1, .int (nI x)), (2, .int (nI m)), (3, .int (nI y)), (4, .int (nI n))]) hx hb dX0_join_27 hl (by decide) rfl (fun ls hl => ?_)
    refine lv_aload_n hx hb dX0_join_29 rfl (lv_at hl 2 rfl) ?_
    refine lv_iload hx hb dX0_join_30 (lv_at hl 0 rfl) ?_
    refine lv_iload hx hb dX0_join_32 (lv_at hl 1 rfl) ?_
    refine lv_iload hx hb dX0_join_34 (lv_at hl 6 rfl) ?_
    refine xc_I (As := [.int (nI v), .int (nI k), .int (nI n)]) (rest := []) hx hb hml hown hts (mX0_timesBy (by omega) (by omega) (by omega) (by omega)) (cw_X0_timesBy hts rfl rfl ⟨Nat.le_of_ble_eq_true rfl, Nat.le_of_ble_eq_true rfl⟩) hK hP hD hS hA rfl hl.1 rfl (Nat.le_of_ble_eq_true rfl) dX0_join_36 (fun r _ H locs hw hP hD hS => ?_)
    obtain rfl : r = nI (v * k % n) := hw
    refine lv_istore (lv' := [(7, .int (nI (v * k % n))), (6, .int (nI v)), (5, .int (nI k)), (0, .ref a.1), (1, .int (nI x)), (2, .int (nI m)), (3, .int (nI y)), (4, .int (nI n))]) hx hb dX0_join_39 hl (by decide) rfl (fun ls hl => ?_)
    refine lv_iload_n hx hb dX0_join_41 rfl (lv_at hl 4 rfl) ?_
    refine lv_iload_n hx hb dX0_join_42 rfl (lv_at hl 5 rfl) ?_
    refine lv_iload hx hb dX0_join_43 (lv_at hl 0 rfl) ?_
    refine dn_imul hx hb dX0_join_45 ?_
    refine dn_iadd hx hb dX0_join_46 ?_
    exact hret _ _ _ () _ _ dX0_join_47 ⟨_, rfl, dl_joineq hxm hyn hk2 hv2⟩ hP hD hS
set_option maxHeartbeats 4000000 in
theorem mX0_smallLog {g X q : Nat} (hpp : dl_P p) (hg : dl_U p g) (ho : dl_ord p g q) (hq2 : 2 ≤ q) (hX : X < q) : dx_MI l yX0_smallLog (ws_ yX0_smallLog cX0_smallLog 10 (some .int)) (rm_ 3 68) D (xT a) (xW a (nI p) O F B T K S) [.ref a.1, .int (nI g), .int (nI (g ^ X % p)), .int (nI q)] (fun (r : Int32) (u : (Nat → Int32) × (Nat → Int32)) => r = nI X) (fun u => xW a (nI p) O F B T u.1 u.2) := by
  refine dx_ofI (by decide) rfl (Nat.le_of_ble_eq_true rfl) ?_
  intro pg en sS mI aR bL mE cO A Q ls hx hb hml hown hts hA hK hP hD hS hl hret
  have hl : lv_has ls 10 [(0, .ref a.1), (1, .int (nI g)), (2, .int (nI (g ^ X % p))), (3, .int (nI q))] := hl
  have hp3 := hpp.1
  have hp9 := hpp.2.1
  have hp1 := dl_P1 hpp
  have hq9 := dl_ord_le hpp hg ho
  have hlt : ∀ i, g ^ i % p < p := fun i => Nat.mod_lt _ (by omega)
  refine lv_aload_n hx hb dX0_smallLog_0 rfl (lv_at hl 0 rfl) ?_
  refine xc_V (As := []) (rest := []) hx hb hml hown hts (mX0_clearTable) (cw_X0_clearTable hts rfl rfl ⟨Nat.le_of_ble_eq_true rfl, Nat.le_of_ble_eq_true rfl⟩) hK hP hD hS hA rfl hl.1 rfl (Nat.le_of_ble_eq_true rfl) dX0_smallLog_1 (fun K1 H locs hK0 hP hD hS => ?_)
  have hP : va_P D vwCl (xW a (nI p) O F B T K1 S) H := hP
  have hD : va_D A (xW a (nI p) O F B T K1 S) := hD
  refine lv_aload_n hx hb dX0_smallLog_4 rfl (lv_at hl 0 rfl) ?_
  refine lv_iload_n hx hb dX0_smallLog_5 rfl (lv_at hl 3 rfl) ?_
  refine xc_I (As := [.int (nI q)]) (rest := []) hx hb hml hown hts (mX0_rootUp (by omega) (by omega)) (cw_X0_rootUp hts rfl rfl ⟨Nat.le_of_ble_eq_true rfl, Nat.le_of_ble_eq_true rfl⟩) hK hP hD hS hA rfl hl.1 rfl (Nat.le_of_ble_eq_true rfl) dX0_smallLog_6 (fun r _ H locs hw hP hD hS => ?_)
  obtain ⟨mm, rfl, hm1, hm46, hmq, hmm⟩ := hw
  have hmle := dl_mq hm1 hq2 hmm
  refine lv_istore (lv' := [(4, .int (nI mm)), (0, .ref a.1), (1, .int (nI g)), (2, .int (nI (g ^ X % p))), (3, .int (nI q))]) hx hb dX0_smallLog_9 hl (by decide) rfl (fun ls hl => ?_)
  refine lv_iconst (v := (nI 1)) hx hb dX0_smallLog_11 (by decide) ?_
  refine dn_top (show ((nI 1) : Int32) = (nI (g ^ 0 % p)) from (by rw [Nat.pow_zero, dl_one hp1])) ?_
  refine lv_istore (lv' := [(5, .int (nI (g ^ 0 % p))), (4, .int (nI mm)), (0, .ref a.1), (1, .int (nI g)), (2, .int (nI (g ^ X % p))), (3, .int (nI q))]) hx hb dX0_smallLog_12 hl (by decide) rfl (fun ls hl => ?_)
  refine lv_iconst (v := (nI 0)) hx hb dX0_smallLog_14 (by decide) ?_
  refine lv_istore (lv' := [(6, .int (nI 0)), (5, .int (nI (g ^ 0 % p))), (4, .int (nI mm)), (0, .ref a.1), (1, .int (nI g)), (2, .int (nI (g ^ X % p))), (3, .int (nI q))]) hx hb dX0_smallLog_15 hl (by decide) rfl (fun ls hl => ?_)
  have loop : ∀ (k9 : Nat) (j : Nat) (K2 S2 : Nat → Int32), (j ≤ mm) → (dl_T p g j K2 S2) → (mm - j) < k9 → ∀ (H : Heap) (locs : List Loc), va_P D vwCl (xW a (nI p) O F B T K2 S2) H → va_D A (xW a (nI p) O F B T K2 S2) → va_S A sS.heap H locs → ∀ ls : Array Slot, lv_has ls 10 [(0, .ref a.1), (1, .int (nI g)), (2, .int (nI (g ^ X % p))), (3, .int (nI q)), (4, .int (nI mm)), (5, .int (nI (g ^ j % p))), (6, .int (nI j))] → W pg l en (rm_ 3 68) sS mI aR bL mE cO H locs 0 0 Q (F0 mI 17 ls []) := by
    intro k9
    induction k9 with
    | zero => intros; omega
    | succ k9 ih =>
      intro j K2 S2 hj hT hn H locs hP hD hS ls hl
      refine lv_iload hx hb dX0_smallLog_17 (lv_at hl 6 rfl) ?_
      refine lv_iload hx hb dX0_smallLog_19 (lv_at hl 4 rfl) ?_
      refine dn_icmp_ge (tgt := 75) hx hb dX0_smallLog_21 (by decide) (by omega) (by omega) (fun hc => ?_) (fun hc => ?_)
      · have hjm : j = mm := by omega
        subst hjm
        have h2 : True := trivial
        refine lv_aload_n hx hb dX0_smallLog_75 rfl (lv_at hl 0 rfl) ?_
        refine lv_iload hx hb dX0_smallLog_76 (lv_at hl 5 rfl) ?_
        refine xc_I (As := [.int (nI (g ^ j % p))]) (rest := []) hx hb hml hown hts (mX0_invert hp1 hp9 (hlt _)) (cw_X0_invert hts rfl rfl ⟨Nat.le_of_ble_eq_true rfl, Nat.le_of_ble_eq_true rfl⟩) hK hP hD hS hA rfl hl.1 rfl (Nat.le_of_ble_eq_true rfl) dX0_smallLog_78 (fun r _ H locs hw hP hD hS => ?_)
        obtain rfl : r = nI ((g ^ j % p) ^ (p - 2) % p) := hw
        refine lv_istore (lv' := [(6, .int (nI ((g ^ j % p) ^ (p - 2) % p))), (0, .ref a.1), (1, .int (nI g)), (2, .int (nI (g ^ X % p))), (3, .int (nI q)), (4, .int (nI j)), (5, .int (nI (g ^ j % p)))]) hx hb dX0_smallLog_81 hl (by decide) rfl (fun ls hl => ?_)
        refine lv_iload_n hx hb dX0_smallLog_83 rfl (lv_at hl 3 rfl) ?_
        refine dn_top (show ((nI (g ^ X % p)) : Int32) = (nI (g ^ (X - j * 0) % p)) from (by rw [Nat.mul_zero, Nat.sub_zero])) ?_
        refine lv_istore (lv' := [(7, .int (nI (g ^ (X - j * 0) % p))), (6, .int (nI ((g ^ j % p) ^ (p - 2) % p))), (0, .ref a.1), (1, .int (nI g)), (2, .int (nI (g ^ X % p))), (3, .int (nI q)), (4, .int (nI j)), (5, .int (nI (g ^ j % p)))]) hx hb dX0_smallLog_84 hl (by decide) rfl (fun ls hl => ?_)
        refine lv_iconst (v := (nI 0)) hx hb dX0_smallLog_86 (by decide) ?_
        refine lv_istore (lv' := [(8, .int (nI 0)), (7, .int (nI (g ^ (X - j * 0) % p))), (6, .int (nI ((g ^ j % p) ^ (p - 2) % p))), (0, .ref a.1), (1, .int (nI g)), (2, .int (nI (g ^ X % p))), (3, .int (nI q)), (4, .int (nI j)), (5, .int (nI (g ^ j % p)))]) hx hb dX0_smallLog_87 hl (by decide) rfl (fun ls hl => ?_)
        have giant : ∀ (k8 : Nat) (i : Nat), (j * i ≤ X) → (j - i) < k8 → ∀ (H : Heap) (locs : List Loc), va_P D vwCl (xW a (nI p) O F B T K2 S2) H → va_S A sS.heap H locs → ∀ ls : Array Slot, lv_has ls 10 [(0, .ref a.1), (1, .int (nI g)), (2, .int (nI (g ^ X % p))), (3, .int (nI q)), (4, .int (nI j)), (6, .int (nI ((g ^ j % p) ^ (p - 2) % p))), (7, .int (nI (g ^ (X - j * i) % p))), (8, .int (nI i))] → W pg l en (rm_ 3 68) sS mI aR bL mE cO H locs 0 0 Q (F0 mI 89 ls []) := by
          intro k8
          induction k8 with
          | zero => intros; omega
          | succ k8 ih2 =>
            intro i hi hn2 H locs hP hS ls hl
            have him : i < j := by
              rcases Nat.lt_or_ge i j with z | z
              · exact z
              · have := Nat.mul_le_mul_left j z
                omega
            refine lv_iload hx hb dX0_smallLog_89 (lv_at hl 7 rfl) ?_
            refine lv_iload hx hb dX0_smallLog_91 (lv_at hl 4 rfl) ?_
            refine dn_icmp_ge (tgt := 146) hx hb dX0_smallLog_93 (by decide) (by omega) (by omega) (fun z => absurd z (by omega)) (fun h1 => ?_)
            refine lv_aload_n hx hb dX0_smallLog_96 rfl (lv_at hl 0 rfl) ?_
            refine lv_iload hx hb dX0_smallLog_97 (lv_at hl 6 rfl) ?_
            refine xc_I (As := [.int (nI (g ^ (X - j * i) % p))]) (rest := []) hx hb hml hown hts (mX0_cellOf (Nat.lt_trans (hlt _) (by omega))) (cw_X0_cellOf hts rfl rfl ⟨Nat.le_of_ble_eq_true rfl, Nat.le_of_ble_eq_true rfl⟩) hK hP hD hS hA rfl hl.1 rfl (Nat.le_of_ble_eq_true rfl) dX0_smallLog_99 (fun r _ H locs hw hP hD hS => ?_)
            obtain rfl : r = nI (dl_cell K2 (g ^ (X - j * i) % p)) := hw
            refine lv_istore (lv' := [(9, .int (nI (dl_cell K2 (g ^ (X - j * i) % p)))), (0, .ref a.1), (1, .int (nI g)), (2, .int (nI (g ^ X % p))), (3, .int (nI q)), (4, .int (nI j)), (6, .int (nI ((g ^ j % p) ^ (p - 2) % p))), (7, .int (nI (g ^ (X - j * i) % p))), (8, .int (nI i))]) hx hb dX0_smallLog_102 hl (by decide) rfl (fun ls hl => ?_)
            refine lv_aload_n hx hb dX0_smallLog_104 rfl (lv_at hl 1 rfl) ?_
            refine xg_key hx hb hts hown hK hP dX0_smallLog_105 ?_
            refine lv_iload hx hb dX0_smallLog_108 (lv_at hl 0 rfl) ?_
            refine xl_key hx hb hK hP (dl_cell_lt _ _) dX0_smallLog_110 ?_
            refine lv_iload hx hb dX0_smallLog_111 (lv_at hl 7 rfl) ?_
            rcases Nat.lt_or_ge (X - j * i) j with hd | hd
            · refine lv_icmp_ne (tgt := 130) hx hb dX0_smallLog_113 (by decide) (fun z => absurd z (fun z2 => z2 (hT.1 _ hd).1)) (fun h3 => ?_)
              refine lv_iload hx hb dX0_smallLog_116 (lv_at hl 8 rfl) ?_
              refine lv_iload hx hb dX0_smallLog_118 (lv_at hl 5 rfl) ?_
              refine dn_imul hx hb dX0_smallLog_120 ?_
              refine lv_aload_n hx hb dX0_smallLog_121 rfl (lv_at hl 1 rfl) ?_
              refine xg_step hx hb hts hown hK hP dX0_smallLog_122 ?_
              refine lv_iload hx hb dX0_smallLog_125 (lv_at hl 0 rfl) ?_
              refine xl_step hx hb hK hP (dl_cell_lt _ _) dX0_smallLog_127 ?_
              refine dn_top (show ((S2 (dl_cell K2 (g ^ (X - j * i) % p))) : Int32) = (nI (X - j * i)) from (hT.1 _ hd).2) ?_
              refine dn_iadd hx hb dX0_smallLog_128 ?_
              exact hret _ _ _ (K2, S2) _ _ dX0_smallLog_129 (by congr 1; rw [Nat.mul_comm]; omega) hP hD hS
            · refine lv_icmp_ne (tgt := 130) hx hb dX0_smallLog_113 (by decide) (fun h3 => ?_) (fun z => absurd z (dl_T_no hp1 hp9 ho hT hmle hd (by omega)))
              refine lv_aload_n hx hb dX0_smallLog_130 rfl (lv_at hl 1 rfl) ?_
              refine lv_iload hx hb dX0_smallLog_131 (lv_at hl 7 rfl) ?_
              refine lv_iload hx hb dX0_smallLog_133 (lv_at hl 6 rfl) ?_
              refine xc_I (As := [.int (nI (g ^ (X - j * i) % p)), .int (nI ((g ^ j % p) ^ (p - 2) % p))]) (rest := []) hx hb hml hown hts (mX0_mul (by omega) hp9 (dl_mlt hp9 (hlt _) (Nat.mod_lt _ (by omega)))) (cw_X0_mul hts rfl rfl ⟨Nat.le_of_ble_eq_true rfl, Nat.le_of_ble_eq_true rfl⟩) hK hP hD hS hA rfl hl.1 rfl (Nat.le_of_ble_eq_true rfl) dX0_smallLog_135 (fun r _ H locs hw hP hD hS => ?_)
              obtain rfl : r = nI (g ^ (X - j * i) % p * ((g ^ j % p) ^ (p - 2) % p) % p) := hw
              refine dn_top (show ((nI (g ^ (X - j * i) % p * ((g ^ j % p) ^ (p - 2) % p) % p)) : Int32) = (nI (g ^ (X - j * (i + 1)) % p)) from (by rw [dl_giant hpp hg hd, Nat.sub_sub, Nat.mul_add, Nat.mul_one])) ?_
              refine lv_istore (lv' := [(7, .int (nI (g ^ (X - j * (i + 1)) % p))), (9, .int (nI (dl_cell K2 (g ^ (X - j * i) % p)))), (0, .ref a.1), (1, .int (nI g)), (2, .int (nI (g ^ X % p))), (3, .int (nI q)), (4, .int (nI j)), (6, .int (nI ((g ^ j % p) ^ (p - 2) % p))), (8, .int (nI i))]) hx hb dX0_smallLog_138 hl (by decide) rfl (fun ls hl => ?_)
              refine lv_iinc (v := (nI (i + 1))) (lv' := [(8, .int (nI (i + 1))), (7, .int (nI (g ^ (X - j * (i + 1)) % p))), (9, .int (nI (dl_cell K2 (g ^ (X - j * i) % p)))), (0, .ref a.1), (1, .int (nI g)), (2, .int (nI (g ^ X % p))), (3, .int (nI q)), (4, .int (nI j)), (6, .int (nI ((g ^ j % p) ^ (p - 2) % p)))]) hx hb dX0_smallLog_140 hl (k := 8) rfl (nI_1 _) (by decide) rfl (fun ls hl => ?_)
              refine lv_goto (tgt := 89) hx hb dX0_smallLog_143 (by decide) ?_
              exact ih2 (i + 1) (by rw [Nat.mul_add, Nat.mul_one]; omega) (by omega) _ _ hP hS ls (lv_sub hl [3, 4, 5, 6, 7, 8, 1, 0] rfl)
        exact giant (j + 1) 0 (by rw [Nat.mul_zero]; omega) (by omega) _ _ hP hS ls (lv_sub hl [3, 4, 5, 6, 7, 2, 1, 0] rfl)
      · refine lv_aload_n hx hb dX0_smallLog_24 rfl (lv_at hl 0 rfl) ?_
        refine lv_iload hx hb dX0_smallLog_25 (lv_at hl 5 rfl) ?_
        refine xc_I (As := [.int (nI (g ^ j % p))]) (rest := []) hx hb hml hown hts (mX0_cellOf (Nat.lt_trans (hlt _) (by omega))) (cw_X0_cellOf hts rfl rfl ⟨Nat.le_of_ble_eq_true rfl, Nat.le_of_ble_eq_true rfl⟩) hK hP hD hS hA rfl hl.1 rfl (Nat.le_of_ble_eq_true rfl) dX0_smallLog_27 (fun r _ H locs hw hP hD hS => ?_)
        obtain rfl : r = nI (dl_cell K2 (g ^ j % p)) := hw
        refine lv_istore (lv' := [(7, .int (nI (dl_cell K2 (g ^ j % p)))), (0, .ref a.1), (1, .int (nI g)), (2, .int (nI (g ^ X % p))), (3, .int (nI q)), (4, .int (nI mm)), (5, .int (nI (g ^ j % p))), (6, .int (nI j))]) hx hb dX0_smallLog_30 hl (by decide) rfl (fun ls hl => ?_)
        refine lv_aload_n hx hb dX0_smallLog_32 rfl (lv_at hl 1 rfl) ?_
        refine xg_key hx hb hts hown hK hP dX0_smallLog_33 ?_
        refine lv_iload hx hb dX0_smallLog_36 (lv_at hl 0 rfl) ?_
        refine xl_key hx hb hK hP (dl_cell_lt _ _) dX0_smallLog_38 ?_
        refine lv_if_ne (tgt := 60) hx hb dX0_smallLog_39 (by decide) (fun z => absurd z (fun z2 => z2 (dl_T_new hp1 hp9 ho hT (by omega) (by omega)))) (fun h1 => ?_)
        refine lv_aload_n hx hb dX0_smallLog_42 rfl (lv_at hl 1 rfl) ?_
        refine xg_key hx hb hts hown hK hP dX0_smallLog_43 ?_
        refine lv_iload hx hb dX0_smallLog_46 (lv_at hl 0 rfl) ?_
        refine lv_iload hx hb dX0_smallLog_48 (lv_at hl 6 rfl) ?_
        refine xs_key hx hb hK hP hD hS (dl_cell_lt _ _) dX0_smallLog_50 (fun H locs hP hD hS => ?_)
        refine lv_aload_n hx hb dX0_smallLog_51 rfl (lv_at hl 1 rfl) ?_
        refine xg_step hx hb hts hown hK hP dX0_smallLog_52 ?_
        refine lv_iload hx hb dX0_smallLog_55 (lv_at hl 0 rfl) ?_
        refine lv_iload hx hb dX0_smallLog_57 (lv_at hl 7 rfl) ?_
        refine xs_step hx hb hK hP hD hS (dl_cell_lt _ _) dX0_smallLog_59 (fun H locs hP hD hS => ?_)
        refine lv_aload_n hx hb dX0_smallLog_60 rfl (lv_at hl 1 rfl) ?_
        refine lv_iload hx hb dX0_smallLog_61 (lv_at hl 6 rfl) ?_
        refine lv_iload_n hx hb dX0_smallLog_63 rfl (lv_at hl 2 rfl) ?_
        refine xc_I (As := [.int (nI (g ^ j % p)), .int (nI g)]) (rest := []) hx hb hml hown hts (mX0_mul (by omega) hp9 (dl_mlt hp9 (hlt _) hg.2)) (cw_X0_mul hts rfl rfl ⟨Nat.le_of_ble_eq_true rfl, Nat.le_of_ble_eq_true rfl⟩) hK hP hD hS hA rfl hl.1 rfl (Nat.le_of_ble_eq_true rfl) dX0_smallLog_64 (fun r _ H locs hw hP hD hS => ?_)
        obtain rfl : r = nI (g ^ j % p * g % p) := hw
        refine dn_top (show ((nI (g ^ j % p * g % p)) : Int32) = (nI (g ^ (j + 1) % p)) from (by rw [Nat.pow_succ, Nat.mod_mul_mod])) ?_
        refine lv_istore (lv' := [(5, .int (nI (g ^ (j + 1) % p))), (7, .int (nI (dl_cell K2 (g ^ j % p)))), (0, .ref a.1), (1, .int (nI g)), (2, .int (nI (g ^ X % p))), (3, .int (nI q)), (4, .int (nI mm)), (6, .int (nI j))]) hx hb dX0_smallLog_67 hl (by decide) rfl (fun ls hl => ?_)
        refine lv_iinc (v := (nI (j + 1))) (lv' := [(6, .int (nI (j + 1))), (5, .int (nI (g ^ (j + 1) % p))), (7, .int (nI (dl_cell K2 (g ^ j % p)))), (0, .ref a.1), (1, .int (nI g)), (2, .int (nI (g ^ X % p))), (3, .int (nI q)), (4, .int (nI mm))]) hx hb dX0_smallLog_69 hl (k := 7) rfl (nI_1 _) (by decide) rfl (fun ls hl => ?_)
        refine lv_goto (tgt := 17) hx hb dX0_smallLog_72 (by decide) ?_
        exact ih (j + 1) _ _ hc (dl_T_ins hp1 hp9 ho hT (by omega) (by omega)) (by omega) _ _ hP hD hS ls (lv_sub hl [3, 4, 5, 6, 7, 1, 0] rfl)
  exact loop (mm + 1) 0 K1 S (by omega) (dl_T0 hK0) (by omega) _ _ hP hD hS ls (lv_sub hl [3, 4, 5, 6, 2, 1, 0] rfl)
set_option maxHeartbeats 4000000 in
theorem mX0_powerLog {g X q e : Nat} (hpp : dl_P p) (hg : dl_U p g) (ho : dl_ord p g (q ^ e)) (hq2 : 2 ≤ q) (he1 : 1 ≤ e) (hX : X < q ^ e) : dx_MI l yX0_powerLog (ws_ yX0_powerLog cX0_powerLog 16 (some .int)) (rm_ 4 97) D (xT a) (xW a (nI p) O F B T K S) [.ref a.1, .int (nI g), .int (nI (g ^ X % p)), .int (nI q), .int (nI e)] (fun (r : Int32) (u : (Nat → Int32) × (Nat → Int32)) => r = nI X) (fun u => xW a (nI p) O F B T u.1 u.2) := by
  refine dx_ofI (by decide) rfl (Nat.le_of_ble_eq_true rfl) ?_
  intro pg en sS mI aR bL mE cO A Q ls hx hb hml hown hts hA hK hP hD hS hl hret
  have hl : lv_has ls 16 [(0, .ref a.1), (1, .int (nI g)), (2, .int (nI (g ^ X % p))), (3, .int (nI q)), (4, .int (nI e))] := hl
  have hp3 := hpp.1
  have hp9 := hpp.2.1
  have hp1 := dl_P1 hpp
  have hqe := dl_ord_le hpp hg ho
  have hlt : ∀ i, g ^ i % p < p := fun i => Nat.mod_lt _ (by omega)
  have he12 : e < 12 := dl_p12 (rest := q ^ e) (r := 1) (by rw [Nat.one_mul]) (by omega) hq2 (by omega)
  have hpw : ∀ j, j ≤ e → q ^ j ≤ 2038 := fun j hj => Nat.le_trans (Nat.pow_le_pow_right (by omega) hj) (by omega)
  have hq9 : q ≤ 2038 := by have z := hpw 1 he1; rw [Nat.pow_one] at z; exact z
  refine lv_iconst (v := (nI 1)) hx hb dX0_powerLog_0 (by decide) ?_
  refine dn_top (show ((nI 1) : Int32) = (nI (q ^ 0)) from (by rw [Nat.pow_zero])) ?_
  refine lv_istore (lv' := [(5, .int (nI (q ^ 0))), (0, .ref a.1), (1, .int (nI g)), (2, .int (nI (g ^ X % p))), (3, .int (nI q)), (4, .int (nI e))]) hx hb dX0_powerLog_1 hl (by decide) rfl (fun ls hl => ?_)
  refine lv_iconst (v := (nI 1)) hx hb dX0_powerLog_3 (by decide) ?_
  refine lv_istore (lv' := [(6, .int (nI 1)), (5, .int (nI (q ^ 0))), (0, .ref a.1), (1, .int (nI g)), (2, .int (nI (g ^ X % p))), (3, .int (nI q)), (4, .int (nI e))]) hx hb dX0_powerLog_4 hl (by decide) rfl (fun ls hl => ?_)
  have loop : ∀ (k9 : Nat) (i : Nat), (i + 1 ≤ e) → (e - i) < k9 → ∀ (H : Heap) (locs : List Loc), va_P D vwCl (xW a (nI p) O F B T K S) H → va_S A sS.heap H locs → ∀ ls : Array Slot, lv_has ls 16 [(0, .ref a.1), (1, .int (nI g)), (2, .int (nI (g ^ X % p))), (3, .int (nI q)), (4, .int (nI e)), (5, .int (nI (q ^ i))), (6, .int (nI (i + 1)))] → W pg l en (rm_ 4 97) sS mI aR bL mE cO H locs 0 0 Q (F0 mI 6 ls []) := by
    intro k9
    induction k9 with
    | zero => intros; omega
    | succ k9 ih =>
      intro i hi hn H locs hP hS ls hl
      refine lv_iload hx hb dX0_powerLog_6 (lv_at hl 6 rfl) ?_
      refine lv_iload hx hb dX0_powerLog_8 (lv_at hl 4 rfl) ?_
      refine dn_icmp_ge (tgt := 25) hx hb dX0_powerLog_10 (by decide) (by omega) (by omega) (fun hc => ?_) (fun hc => ?_)
      · have hie : i = e - 1 := by omega
        rw [hie] at hl
        refine lv_aload_n hx hb dX0_powerLog_25 rfl (lv_at hl 0 rfl) ?_
        refine lv_iload_n hx hb dX0_powerLog_26 rfl (lv_at hl 1 rfl) ?_
        refine lv_iload hx hb dX0_powerLog_27 (lv_at hl 5 rfl) ?_
        refine xc_I (As := [.int (nI g), .int (nI (q ^ (e - 1)))]) (rest := []) hx hb hml hown hts (mX0_pow hp1 hp9 hg.2 (Nat.lt_of_le_of_lt (hpw _ (by omega)) (by omega))) (cw_X0_pow hts rfl rfl ⟨Nat.le_of_ble_eq_true rfl, Nat.le_of_ble_eq_true rfl⟩) hK hP hD hS hA rfl hl.1 rfl (Nat.le_of_ble_eq_true rfl) dX0_powerLog_29 (fun r _ H locs hw hP hD hS => ?_)
        obtain rfl : r = nI (g ^ (q ^ (e - 1)) % p) := hw
        refine lv_istore (lv' := [(6, .int (nI (g ^ (q ^ (e - 1)) % p))), (0, .ref a.1), (1, .int (nI g)), (2, .int (nI (g ^ X % p))), (3, .int (nI q)), (4, .int (nI e)), (5, .int (nI (q ^ (e - 1))))]) hx hb dX0_powerLog_32 hl (by decide) rfl (fun ls hl => ?_)
        refine lv_aload_n hx hb dX0_powerLog_34 rfl (lv_at hl 1 rfl) ?_
        refine lv_iload_n hx hb dX0_powerLog_35 rfl (lv_at hl 2 rfl) ?_
        refine xc_I (As := [.int (nI g)]) (rest := []) hx hb hml hown hts (mX0_invert hp1 hp9 hg.2) (cw_X0_invert hts rfl rfl ⟨Nat.le_of_ble_eq_true rfl, Nat.le_of_ble_eq_true rfl⟩) hK hP hD hS hA rfl hl.1 rfl (Nat.le_of_ble_eq_true rfl) dX0_powerLog_36 (fun r _ H locs hw hP hD hS => ?_)
        obtain rfl : r = nI (g ^ (p - 2) % p) := hw
        refine lv_istore (lv' := [(7, .int (nI (g ^ (p - 2) % p))), (6, .int (nI (g ^ (q ^ (e - 1)) % p))), (0, .ref a.1), (1, .int (nI g)), (2, .int (nI (g ^ X % p))), (3, .int (nI q)), (4, .int (nI e)), (5, .int (nI (q ^ (e - 1))))]) hx hb dX0_powerLog_39 hl (by decide) rfl (fun ls hl => ?_)
        refine lv_iconst (v := (nI 0)) hx hb dX0_powerLog_41 (by decide) ?_
        refine dn_top (show ((nI 0) : Int32) = (nI (X % q ^ 0)) from (by rw [Nat.pow_zero, Nat.mod_one])) ?_
        refine lv_istore (lv' := [(8, .int (nI (X % q ^ 0))), (7, .int (nI (g ^ (p - 2) % p))), (6, .int (nI (g ^ (q ^ (e - 1)) % p))), (0, .ref a.1), (1, .int (nI g)), (2, .int (nI (g ^ X % p))), (3, .int (nI q)), (4, .int (nI e)), (5, .int (nI (q ^ (e - 1))))]) hx hb dX0_powerLog_42 hl (by decide) rfl (fun ls hl => ?_)
        refine lv_iconst (v := (nI 1)) hx hb dX0_powerLog_44 (by decide) ?_
        refine dn_top (show ((nI 1) : Int32) = (nI (q ^ 0)) from (by rw [Nat.pow_zero])) ?_
        refine lv_istore (lv' := [(9, .int (nI (q ^ 0))), (8, .int (nI (X % q ^ 0))), (7, .int (nI (g ^ (p - 2) % p))), (6, .int (nI (g ^ (q ^ (e - 1)) % p))), (0, .ref a.1), (1, .int (nI g)), (2, .int (nI (g ^ X % p))), (3, .int (nI q)), (4, .int (nI e)), (5, .int (nI (q ^ (e - 1))))]) hx hb dX0_powerLog_45 hl (by decide) rfl (fun ls hl => ?_)
        refine lv_iload hx hb dX0_powerLog_47 (lv_at hl 9 rfl) ?_
        refine lv_istore (lv' := [(10, .int (nI (q ^ (e - 1)))), (9, .int (nI (q ^ 0))), (8, .int (nI (X % q ^ 0))), (7, .int (nI (g ^ (p - 2) % p))), (6, .int (nI (g ^ (q ^ (e - 1)) % p))), (0, .ref a.1), (1, .int (nI g)), (2, .int (nI (g ^ X % p))), (3, .int (nI q)), (4, .int (nI e)), (5, .int (nI (q ^ (e - 1))))]) hx hb dX0_powerLog_49 hl (by decide) rfl (fun ls hl => ?_)
        refine lv_iconst (v := (nI 0)) hx hb dX0_powerLog_51 (by decide) ?_
        refine lv_istore (lv' := [(11, .int (nI 0)), (10, .int (nI (q ^ (e - 1)))), (9, .int (nI (q ^ 0))), (8, .int (nI (X % q ^ 0))), (7, .int (nI (g ^ (p - 2) % p))), (6, .int (nI (g ^ (q ^ (e - 1)) % p))), (0, .ref a.1), (1, .int (nI g)), (2, .int (nI (g ^ X % p))), (3, .int (nI q)), (4, .int (nI e)), (5, .int (nI (q ^ (e - 1))))]) hx hb dX0_powerLog_52 hl (by decide) rfl (fun ls hl => ?_)
        have hroot : dl_ord p (g ^ (q ^ (e - 1)) % p) q := dl_ord_pow hp1 (Nat.pow_pos (by omega)) (by omega) (by rw [← Nat.pow_succ, show (e - 1).succ = e by omega]; exact ho)
        have digits : ∀ (k8 : Nat) (j ht : Nat) (K2 S2 : Nat → Int32), (j ≤ e) → (j < e → ht = q ^ (e - 1 - j)) → (e - j) < k8 → ∀ (H : Heap) (locs : List Loc), va_P D vwCl (xW a (nI p) O F B T K2 S2) H → va_D A (xW a (nI p) O F B T K2 S2) → va_S A sS.heap H locs → ∀ ls : Array Slot, lv_has ls 16 [(0, .ref a.1), (1, .int (nI g)), (2, .int (nI (g ^ X % p))), (3, .int (nI q)), (4, .int (nI e)), (6, .int (nI (g ^ (q ^ (e - 1)) % p))), (7, .int (nI (g ^ (p - 2) % p))), (8, .int (nI (X % q ^ j))), (9, .int (nI (q ^ j))), (10, .int (nI ht)), (11, .int (nI j))] → W pg l en (rm_ 4 97) sS mI aR bL mE cO H locs 0 0 Q (F0 mI 54 ls []) := by
          intro k8
          induction k8 with
          | zero => intros; omega
          | succ k8 ih2 =>
            intro j ht K2 S2 hj hh hn2 H locs hP hD hS ls hl
            refine lv_iload hx hb dX0_powerLog_54 (lv_at hl 10 rfl) ?_
            refine lv_iload hx hb dX0_powerLog_56 (lv_at hl 4 rfl) ?_
            refine dn_icmp_ge (tgt := 137) hx hb dX0_powerLog_58 (by decide) (by omega) (by omega) (fun hje => ?_) (fun hje => ?_)
            · refine lv_iload hx hb dX0_powerLog_137 (lv_at hl 7 rfl) ?_
              have hje2 : j = e := by omega
              exact hret _ _ _ (K2, S2) _ _ dX0_powerLog_139 (by rw [hje2, Nat.mod_eq_of_lt hX]) hP hD hS
            · have hht := hh hje
              have hht9 : ht ≤ 2038 := by rw [hht]; exact hpw _ (by omega)
              have hxm : X % q ^ j < 2147483648 := Nat.lt_of_lt_of_le (Nat.mod_lt _ (Nat.pow_pos (by omega))) (Nat.le_trans (hpw _ hj) (by omega))
              refine lv_aload_n hx hb dX0_powerLog_61 rfl (lv_at hl 0 rfl) ?_
              refine lv_iload hx hb dX0_powerLog_62 (lv_at hl 6 rfl) ?_
              refine lv_iload hx hb dX0_powerLog_64 (lv_at hl 7 rfl) ?_
              refine xc_I (As := [.int (nI (g ^ (p - 2) % p)), .int (nI (X % q ^ j))]) (rest := []) hx hb hml hown hts (mX0_pow hp1 hp9 (hlt _) hxm) (cw_X0_pow hts rfl rfl ⟨Nat.le_of_ble_eq_true rfl, Nat.le_of_ble_eq_true rfl⟩) hK hP hD hS hA rfl hl.1 rfl (Nat.le_of_ble_eq_true rfl) dX0_powerLog_66 (fun r _ H locs hw hP hD hS => ?_)
              obtain rfl : r = nI ((g ^ (p - 2) % p) ^ (X % q ^ j) % p) := hw
              refine lv_istore (lv' := [(12, .int (nI ((g ^ (p - 2) % p) ^ (X % q ^ j) % p))), (0, .ref a.1), (1, .int (nI g)), (2, .int (nI (g ^ X % p))), (3, .int (nI q)), (4, .int (nI e)), (6, .int (nI (g ^ (q ^ (e - 1)) % p))), (7, .int (nI (g ^ (p - 2) % p))), (8, .int (nI (X % q ^ j))), (9, .int (nI (q ^ j))), (10, .int (nI ht)), (11, .int (nI j))]) hx hb dX0_powerLog_69 hl (by decide) rfl (fun ls hl => ?_)
              refine lv_aload_n hx hb dX0_powerLog_71 rfl (lv_at hl 1 rfl) ?_
              refine lv_iload_n hx hb dX0_powerLog_72 rfl (lv_at hl 3 rfl) ?_
              refine lv_iload hx hb dX0_powerLog_73 (lv_at hl 0 rfl) ?_
              refine xc_I (As := [.int (nI (g ^ X % p)), .int (nI ((g ^ (p - 2) % p) ^ (X % q ^ j) % p))]) (rest := []) hx hb hml hown hts (mX0_mul (by omega) hp9 (dl_mlt hp9 (hlt _) (Nat.mod_lt _ (by omega)))) (cw_X0_mul hts rfl rfl ⟨Nat.le_of_ble_eq_true rfl, Nat.le_of_ble_eq_true rfl⟩) hK hP hD hS hA rfl hl.1 rfl (Nat.le_of_ble_eq_true rfl) dX0_powerLog_75 (fun r _ H locs hw hP hD hS => ?_)
              obtain rfl : r = nI (g ^ X % p * ((g ^ (p - 2) % p) ^ (X % q ^ j) % p) % p) := hw
              refine lv_istore (lv' := [(13, .int (nI (g ^ X % p * ((g ^ (p - 2) % p) ^ (X % q ^ j) % p) % p))), (12, .int (nI ((g ^ (p - 2) % p) ^ (X % q ^ j) % p))), (0, .ref a.1), (1, .int (nI g)), (2, .int (nI (g ^ X % p))), (3, .int (nI q)), (4, .int (nI e)), (6, .int (nI (g ^ (q ^ (e - 1)) % p))), (7, .int (nI (g ^ (p - 2) % p))), (8, .int (nI (X % q ^ j))), (9, .int (nI (q ^ j))), (10, .int (nI ht)), (11, .int (nI j))]) hx hb dX0_powerLog_78 hl (by decide) rfl (fun ls hl => ?_)
              refine lv_aload_n hx hb dX0_powerLog_80 rfl (lv_at hl 2 rfl) ?_
              refine lv_iload hx hb dX0_powerLog_81 (lv_at hl 0 rfl) ?_
              refine lv_iload hx hb dX0_powerLog_83 (lv_at hl 11 rfl) ?_
              refine xc_I (As := [.int (nI (g ^ X % p * ((g ^ (p - 2) % p) ^ (X % q ^ j) % p) % p)), .int (nI ht)]) (rest := []) hx hb hml hown hts (mX0_pow hp1 hp9 (Nat.mod_lt _ (by omega)) (by omega)) (cw_X0_pow hts rfl rfl ⟨Nat.le_of_ble_eq_true rfl, Nat.le_of_ble_eq_true rfl⟩) hK hP hD hS hA rfl hl.1 rfl (Nat.le_of_ble_eq_true rfl) dX0_powerLog_85 (fun r _ H locs hw hP hD hS => ?_)
              obtain rfl : r = nI ((g ^ X % p * ((g ^ (p - 2) % p) ^ (X % q ^ j) % p) % p) ^ ht % p) := hw
              refine dn_top (show ((nI ((g ^ X % p * ((g ^ (p - 2) % p) ^ (X % q ^ j) % p) % p) ^ ht % p)) : Int32) = (nI ((g ^ (q ^ (e - 1)) % p) ^ (X / q ^ j % q) % p)) from (by rw [hht]; exact congrArg nI (dl_lift hpp hg ho hje (by omega) rfl))) ?_
              refine lv_istore (lv' := [(14, .int (nI ((g ^ (q ^ (e - 1)) % p) ^ (X / q ^ j % q) % p))), (13, .int (nI (g ^ X % p * ((g ^ (p - 2) % p) ^ (X % q ^ j) % p) % p))), (12, .int (nI ((g ^ (p - 2) % p) ^ (X % q ^ j) % p))), (0, .ref a.1), (1, .int (nI g)), (2, .int (nI (g ^ X % p))), (3, .int (nI q)), (4, .int (nI e)), (6, .int (nI (g ^ (q ^ (e - 1)) % p))), (7, .int (nI (g ^ (p - 2) % p))), (8, .int (nI (X % q ^ j))), (9, .int (nI (q ^ j))), (10, .int (nI ht)), (11, .int (nI j))]) hx hb dX0_powerLog_88 hl (by decide) rfl (fun ls hl => ?_)
              refine lv_aload_n hx hb dX0_powerLog_90 rfl (lv_at hl 3 rfl) ?_
              refine lv_iload hx hb dX0_powerLog_91 (lv_at hl 8 rfl) ?_
              refine lv_iload hx hb dX0_powerLog_93 (lv_at hl 0 rfl) ?_
              refine lv_iload_n hx hb dX0_powerLog_95 rfl (lv_at hl 6 rfl) ?_
              refine xc_I (As := [.int (nI (g ^ (q ^ (e - 1)) % p)), .int (nI ((g ^ (q ^ (e - 1)) % p) ^ (X / q ^ j % q) % p)), .int (nI q)]) (rest := []) hx hb hml hown hts (mX0_smallLog (X := X / q ^ j % q) hpp (dl_U_pow hpp hg _) hroot hq2 (Nat.mod_lt _ (by omega))) (cw_X0_smallLog hts rfl rfl ⟨Nat.le_of_ble_eq_true rfl, Nat.le_of_ble_eq_true rfl⟩) hK hP hD hS hA rfl hl.1 rfl (Nat.le_of_ble_eq_true rfl) dX0_powerLog_96 (fun r u H locs hw hP hD hS => ?_)
              obtain ⟨K3, S3⟩ := u
              have hP : va_P D vwCl (xW a (nI p) O F B T K3 S3) H := hP
              have hD : va_D A (xW a (nI p) O F B T K3 S3) := hD
              obtain rfl : r = nI (X / q ^ j % q) := hw
              refine lv_istore (lv' := [(15, .int (nI (X / q ^ j % q))), (14, .int (nI ((g ^ (q ^ (e - 1)) % p) ^ (X / q ^ j % q) % p))), (13, .int (nI (g ^ X % p * ((g ^ (p - 2) % p) ^ (X % q ^ j) % p) % p))), (12, .int (nI ((g ^ (p - 2) % p) ^ (X % q ^ j) % p))), (0, .ref a.1), (1, .int (nI g)), (2, .int (nI (g ^ X % p))), (3, .int (nI q)), (4, .int (nI e)), (6, .int (nI (g ^ (q ^ (e - 1)) % p))), (7, .int (nI (g ^ (p - 2) % p))), (8, .int (nI (X % q ^ j))), (9, .int (nI (q ^ j))), (10, .int (nI ht)), (11, .int (nI j))]) hx hb dX0_powerLog_99 hl (by decide) rfl (fun ls hl => ?_)
              refine lv_iload hx hb dX0_powerLog_101 (lv_at hl 11 rfl) ?_
              refine lv_iload hx hb dX0_powerLog_103 (lv_at hl 0 rfl) ?_
              refine lv_iload hx hb dX0_powerLog_105 (lv_at hl 12 rfl) ?_
              refine dn_imul hx hb dX0_powerLog_107 ?_
              refine dn_iadd hx hb dX0_powerLog_108 ?_
              refine dn_top (show ((nI ((X % q ^ j) + ((X / q ^ j % q) * (q ^ j)))) : Int32) = (nI (X % q ^ (j + 1))) from (by rw [dl_digit])) ?_
              refine lv_istore (lv' := [(8, .int (nI (X % q ^ (j + 1)))), (15, .int (nI (X / q ^ j % q))), (14, .int (nI ((g ^ (q ^ (e - 1)) % p) ^ (X / q ^ j % q) % p))), (13, .int (nI (g ^ X % p * ((g ^ (p - 2) % p) ^ (X % q ^ j) % p) % p))), (12, .int (nI ((g ^ (p - 2) % p) ^ (X % q ^ j) % p))), (0, .ref a.1), (1, .int (nI g)), (2, .int (nI (g ^ X % p))), (3, .int (nI q)), (4, .int (nI e)), (6, .int (nI (g ^ (q ^ (e - 1)) % p))), (7, .int (nI (g ^ (p - 2) % p))), (9, .int (nI (q ^ j))), (10, .int (nI ht)), (11, .int (nI j))]) hx hb dX0_powerLog_109 hl (by decide) rfl (fun ls hl => ?_)
              refine lv_iload hx hb dX0_powerLog_111 (lv_at hl 12 rfl) ?_
              refine lv_iload_n hx hb dX0_powerLog_113 rfl (lv_at hl 8 rfl) ?_
              refine dn_imul hx hb dX0_powerLog_114 ?_
              refine dn_top (show ((nI ((q ^ j) * q)) : Int32) = (nI (q ^ (j + 1))) from (by rw [Nat.pow_succ])) ?_
              refine lv_istore (lv' := [(9, .int (nI (q ^ (j + 1)))), (8, .int (nI (X % q ^ (j + 1)))), (15, .int (nI (X / q ^ j % q))), (14, .int (nI ((g ^ (q ^ (e - 1)) % p) ^ (X / q ^ j % q) % p))), (13, .int (nI (g ^ X % p * ((g ^ (p - 2) % p) ^ (X % q ^ j) % p) % p))), (12, .int (nI ((g ^ (p - 2) % p) ^ (X % q ^ j) % p))), (0, .ref a.1), (1, .int (nI g)), (2, .int (nI (g ^ X % p))), (3, .int (nI q)), (4, .int (nI e)), (6, .int (nI (g ^ (q ^ (e - 1)) % p))), (7, .int (nI (g ^ (p - 2) % p))), (10, .int (nI ht)), (11, .int (nI j))]) hx hb dX0_powerLog_115 hl (by decide) rfl (fun ls hl => ?_)
              refine lv_iload_n hx hb dX0_powerLog_117 rfl (lv_at hl 9 rfl) ?_
              refine dn_if_le (tgt := 128) hx hb dX0_powerLog_118 (by decide) (by omega) (fun z => absurd z (by omega)) (fun h0 => ?_)
              refine lv_iload hx hb dX0_powerLog_121 (lv_at hl 13 rfl) ?_
              refine lv_iload_n hx hb dX0_powerLog_123 rfl (lv_at hl 9 rfl) ?_
              refine dn_idiv hx hb dX0_powerLog_124 (by omega) (by omega) (by omega) ?_
              refine lv_goto (tgt := 129) hx hb dX0_powerLog_125 (by decide) ?_
              refine lv_istore (lv' := [(10, .int (nI (ht / q))), (9, .int (nI (q ^ (j + 1)))), (8, .int (nI (X % q ^ (j + 1)))), (15, .int (nI (X / q ^ j % q))), (14, .int (nI ((g ^ (q ^ (e - 1)) % p) ^ (X / q ^ j % q) % p))), (13, .int (nI (g ^ X % p * ((g ^ (p - 2) % p) ^ (X % q ^ j) % p) % p))), (12, .int (nI ((g ^ (p - 2) % p) ^ (X % q ^ j) % p))), (0, .ref a.1), (1, .int (nI g)), (2, .int (nI (g ^ X % p))), (3, .int (nI q)), (4, .int (nI e)), (6, .int (nI (g ^ (q ^ (e - 1)) % p))), (7, .int (nI (g ^ (p - 2) % p))), (11, .int (nI j))]) hx hb dX0_powerLog_129 hl (by decide) rfl (fun ls hl => ?_)
              refine lv_iinc (v := (nI (j + 1))) (lv' := [(11, .int (nI (j + 1))), (10, .int (nI (ht / q))), (9, .int (nI (q ^ (j + 1)))), (8, .int (nI (X % q ^ (j + 1)))), (15, .int (nI (X / q ^ j % q))), (14, .int (nI ((g ^ (q ^ (e - 1)) % p) ^ (X / q ^ j % q) % p))), (13, .int (nI (g ^ X % p * ((g ^ (p - 2) % p) ^ (X % q ^ j) % p) % p))), (12, .int (nI ((g ^ (p - 2) % p) ^ (X % q ^ j) % p))), (0, .ref a.1), (1, .int (nI g)), (2, .int (nI (g ^ X % p))), (3, .int (nI q)), (4, .int (nI e)), (6, .int (nI (g ^ (q ^ (e - 1)) % p))), (7, .int (nI (g ^ (p - 2) % p)))]) hx hb dX0_powerLog_131 hl (k := 14) rfl (nI_1 _) (by decide) rfl (fun ls hl => ?_)
              refine lv_goto (tgt := 54) hx hb dX0_powerLog_134 (by decide) ?_
              exact ih2 (j + 1) _ _ _ hje (fun h2 => by rw [hht]; exact dl_height (by omega) h2) (by omega) _ _ hP hD hS ls (lv_sub hl [8, 9, 10, 11, 12, 13, 14, 3, 2, 1, 0] rfl)
        exact digits (e + 1) 0 _ K S (by omega) (fun _ => rfl) (by omega) _ _ hP hD hS ls (lv_sub hl [6, 7, 8, 9, 10, 5, 4, 3, 2, 1, 0] rfl)
      · refine lv_iload hx hb dX0_powerLog_13 (lv_at hl 5 rfl) ?_
        refine lv_iload_n hx hb dX0_powerLog_15 rfl (lv_at hl 3 rfl) ?_
        refine dn_imul hx hb dX0_powerLog_16 ?_
        refine dn_top (show ((nI ((q ^ i) * q)) : Int32) = (nI (q ^ (i + 1))) from (by rw [Nat.pow_succ])) ?_
        refine lv_istore (lv' := [(5, .int (nI (q ^ (i + 1)))), (0, .ref a.1), (1, .int (nI g)), (2, .int (nI (g ^ X % p))), (3, .int (nI q)), (4, .int (nI e)), (6, .int (nI (i + 1)))]) hx hb dX0_powerLog_17 hl (by decide) rfl (fun ls hl => ?_)
        refine lv_iinc (v := (nI (i + 1 + 1))) (lv' := [(6, .int (nI (i + 1 + 1))), (5, .int (nI (q ^ (i + 1)))), (0, .ref a.1), (1, .int (nI g)), (2, .int (nI (g ^ X % p))), (3, .int (nI q)), (4, .int (nI e))]) hx hb dX0_powerLog_19 hl (k := 6) rfl (nI_1 _) (by decide) rfl (fun ls hl => ?_)
        refine lv_goto (tgt := 6) hx hb dX0_powerLog_22 (by decide) ?_
        exact ih (i + 1) hc (by omega) _ _ hP hS ls (lv_sub hl [2, 3, 4, 5, 6, 1, 0] rfl)
  exact loop (e + 1) 0 he1 (by omega) _ _ hP hS ls (lv_sub hl [2, 3, 4, 5, 6, 1, 0] rfl)
set_option maxHeartbeats 4000000 in
theorem mX0_leastLog {g h : Nat} (hI : dl_I p nf B T) (hg : dl_U p g) (hh : dl_U p h) : dx_MI l yX0_leastLog (ws_ yX0_leastLog cX0_leastLog 14 (some .int)) (rm_ 5 132) D (xT a) (xW a (nI p) (nI (p - 1)) (nI nf) B T K S) [.ref a.1, .int (nI g), .int (nI h)] (fun (r : Int32) (u : (Nat → Int32) × (Nat → Int32)) => (r = -4 ∧ ∀ x, ¬ g ^ x % p = h) ∨ (∃ x n, r = nI x ∧ dl_ord p g n ∧ x < n ∧ g ^ x % p = h)) (fun u => xW a (nI p) (nI (p - 1)) (nI nf) B T u.1 u.2) := by
  refine dx_ofI (by decide) rfl (Nat.le_of_ble_eq_true rfl) ?_
  intro pg en sS mI aR bL mE cO A Q ls hx hb hml hown hts hA hK hP hD hS hl hret
  have hl : lv_has ls 14 [(0, .ref a.1), (1, .int (nI g)), (2, .int (nI h))] := hl
  obtain ⟨hpp, hn5, q, t, hBT, hF⟩ := id hI
  have hp3 := hpp.1
  have hp9 := hpp.2.1
  have hp1 := dl_P1 hpp
  refine lv_aload_n hx hb dX0_leastLog_0 rfl (lv_at hl 0 rfl) ?_
  refine lv_iload_n hx hb dX0_leastLog_1 rfl (lv_at hl 1 rfl) ?_
  refine xc_I (As := [.int (nI g)]) (rest := []) hx hb hml hown hts (mX0_orderOf hI hg) (cw_X0_orderOf hts rfl rfl ⟨Nat.le_of_ble_eq_true rfl, Nat.le_of_ble_eq_true rfl⟩) hK hP hD hS hA rfl hl.1 rfl (Nat.le_of_ble_eq_true rfl) dX0_leastLog_2 (fun r _ H locs hw hP hD hS => ?_)
  obtain ⟨n, rfl, ho⟩ := hw
  have hn9 := dl_ord_le hpp hg ho
  have hn0 := ho.1
  refine lv_istore_n (lv' := [(3, .int (nI n)), (0, .ref a.1), (1, .int (nI g)), (2, .int (nI h))]) hx hb dX0_leastLog_5 rfl hl (by decide) rfl (fun ls hl => ?_)
  refine lv_aload_n hx hb dX0_leastLog_6 rfl (lv_at hl 1 rfl) ?_
  refine lv_iload_n hx hb dX0_leastLog_7 rfl (lv_at hl 3 rfl) ?_
  refine lv_iload_n hx hb dX0_leastLog_8 rfl (lv_at hl 0 rfl) ?_
  refine xc_I (As := [.int (nI h), .int (nI n)]) (rest := []) hx hb hml hown hts (mX0_pow hp1 hp9 hh.2 (by omega)) (cw_X0_pow hts rfl rfl ⟨Nat.le_of_ble_eq_true rfl, Nat.le_of_ble_eq_true rfl⟩) hK hP hD hS hA rfl hl.1 rfl (Nat.le_of_ble_eq_true rfl) dX0_leastLog_9 (fun r _ H locs hw hP hD hS => ?_)
  obtain rfl : r = nI (h ^ n % p) := hw
  refine lv_istore (lv' := [(4, .int (nI (h ^ n % p))), (3, .int (nI n)), (0, .ref a.1), (1, .int (nI g)), (2, .int (nI h))]) hx hb dX0_leastLog_12 hl (by decide) rfl (fun ls hl => ?_)
  refine lv_iload hx hb dX0_leastLog_14 (lv_at hl 0 rfl) ?_
  refine lv_iconst (v := (nI 1)) hx hb dX0_leastLog_16 (by decide) ?_
  refine dn_icmp_eq (tgt := 23) hx hb dX0_leastLog_17 (by decide) (Nat.lt_trans (Nat.mod_lt _ (by omega)) (by omega)) (by omega) (fun hc => ?_) (fun hc => ?_)
  · obtain ⟨X, hX, eX⟩ := dl_log_ex hpp hg hh ho hc
    subst eX
    refine lv_iconst (v := (nI 0)) hx hb dX0_leastLog_23 (by decide) ?_
    refine dn_top (show ((nI 0) : Int32) = (nI (X % 1)) from (by rw [Nat.mod_one])) ?_
    refine lv_istore (lv' := [(5, .int (nI (X % 1))), (4, .int (nI ((g ^ X % p) ^ n % p))), (3, .int (nI n)), (0, .ref a.1), (1, .int (nI g)), (2, .int (nI (g ^ X % p)))]) hx hb dX0_leastLog_24 hl (by decide) rfl (fun ls hl => ?_)
    refine lv_iconst (v := (nI 1)) hx hb dX0_leastLog_26 (by decide) ?_
    refine lv_istore (lv' := [(6, .int (nI 1)), (5, .int (nI (X % 1))), (4, .int (nI ((g ^ X % p) ^ n % p))), (3, .int (nI n)), (0, .ref a.1), (1, .int (nI g)), (2, .int (nI (g ^ X % p)))]) hx hb dX0_leastLog_27 hl (by decide) rfl (fun ls hl => ?_)
    refine lv_iconst (v := (nI 0)) hx hb dX0_leastLog_29 (by decide) ?_
    refine lv_istore (lv' := [(7, .int (nI 0)), (6, .int (nI 1)), (5, .int (nI (X % 1))), (4, .int (nI ((g ^ X % p) ^ n % p))), (3, .int (nI n)), (0, .ref a.1), (1, .int (nI g)), (2, .int (nI (g ^ X % p)))]) hx hb dX0_leastLog_30 hl (by decide) rfl (fun ls hl => ?_)
    have loop : ∀ (k9 : Nat) (f m : Nat) (K2 S2 : Nat → Int32), (f ≤ nf) → (dl_J n nf q f m) → (nf - f) < k9 → ∀ (H : Heap) (locs : List Loc), va_P D vwCl (xW a (nI p) (nI (p - 1)) (nI nf) B T K2 S2) H → va_D A (xW a (nI p) (nI (p - 1)) (nI nf) B T K2 S2) → va_S A sS.heap H locs → ∀ ls : Array Slot, lv_has ls 14 [(0, .ref a.1), (1, .int (nI g)), (2, .int (nI (g ^ X % p))), (3, .int (nI n)), (5, .int (nI (X % m))), (6, .int (nI m)), (7, .int (nI f))] → W pg l en (rm_ 5 132) sS mI aR bL mE cO H locs 0 0 Q (F0 mI 32 ls []) := by
      intro k9
      induction k9 with
      | zero => intros; omega
      | succ k9 ih =>
        intro f m K2 S2 hf hJ hn H locs hP hD hS ls hl
        have hm9 : 0 < m ∧ m ≤ n := ⟨hJ.1, Nat.le_of_dvd hn0 hJ.2.1⟩
        refine lv_iload hx hb dX0_leastLog_32 (lv_at hl 6 rfl) ?_
        refine lv_aload_n hx hb dX0_leastLog_34 rfl (lv_at hl 0 rfl) ?_
        refine xg_factors hx hb hts hown hK hP dX0_leastLog_35 ?_
        refine dn_icmp_ge (tgt := 160) hx hb dX0_leastLog_38 (by decide) (by omega) (by omega) (fun hfn => ?_) (fun hfn => ?_)
        · refine lv_iload hx hb dX0_leastLog_160 (lv_at hl 4 rfl) ?_
          have hmn := dl_J_end hn0 (dl_ord_dvdN hpp hg ho) hF hfn hJ
          exact hret _ _ _ (K2, S2) _ _ dX0_leastLog_162 (Or.inr ⟨X, n, by rw [hmn, Nat.mod_eq_of_lt hX], ho, hX, rfl⟩) hP hD hS
        · obtain ⟨hq2, hq9, ht12, ht1, hqd⟩ := dl_Fb hpp hF hfn
          refine lv_aload_n hx hb dX0_leastLog_41 rfl (lv_at hl 0 rfl) ?_
          refine xg_base hx hb hts hown hK hP dX0_leastLog_42 ?_
          refine lv_iload hx hb dX0_leastLog_45 (lv_at hl 6 rfl) ?_
          refine xl_base hx hb hK hP (by omega) dX0_leastLog_47 ?_
          refine dn_top (show ((B f) : Int32) = (nI (q f)) from (hBT f hfn).1) ?_
          refine lv_istore (lv' := [(8, .int (nI (q f))), (0, .ref a.1), (1, .int (nI g)), (2, .int (nI (g ^ X % p))), (3, .int (nI n)), (5, .int (nI (X % m))), (6, .int (nI m)), (7, .int (nI f))]) hx hb dX0_leastLog_48 hl (by decide) rfl (fun ls hl => ?_)
          refine lv_iconst (v := (nI 0)) hx hb dX0_leastLog_50 (by decide) ?_
          refine lv_istore (lv' := [(9, .int (nI 0)), (8, .int (nI (q f))), (0, .ref a.1), (1, .int (nI g)), (2, .int (nI (g ^ X % p))), (3, .int (nI n)), (5, .int (nI (X % m))), (6, .int (nI m)), (7, .int (nI f))]) hx hb dX0_leastLog_51 hl (by decide) rfl (fun ls hl => ?_)
          refine lv_iconst (v := (nI 1)) hx hb dX0_leastLog_53 (by decide) ?_
          refine dn_top (show ((nI 1) : Int32) = (nI (q f ^ 0)) from (by rw [Nat.pow_zero])) ?_
          refine lv_istore (lv' := [(10, .int (nI (q f ^ 0))), (9, .int (nI 0)), (8, .int (nI (q f))), (0, .ref a.1), (1, .int (nI g)), (2, .int (nI (g ^ X % p))), (3, .int (nI n)), (5, .int (nI (X % m))), (6, .int (nI m)), (7, .int (nI f))]) hx hb dX0_leastLog_54 hl (by decide) rfl (fun ls hl => ?_)
          refine lv_iconst (v := (nI 0)) hx hb dX0_leastLog_56 (by decide) ?_
          refine lv_istore (lv' := [(11, .int (nI 0)), (10, .int (nI (q f ^ 0))), (9, .int (nI 0)), (8, .int (nI (q f))), (0, .ref a.1), (1, .int (nI g)), (2, .int (nI (g ^ X % p))), (3, .int (nI n)), (5, .int (nI (X % m))), (6, .int (nI m)), (7, .int (nI f))]) hx hb dX0_leastLog_57 hl (by decide) rfl (fun ls hl => ?_)
          have inner : ∀ (k8 : Nat) (i : Nat), (q f ^ i ∣ n) → (12 - i) < k8 → ∀ (H : Heap) (locs : List Loc), va_P D vwCl (xW a (nI p) (nI (p - 1)) (nI nf) B T K2 S2) H → va_S A sS.heap H locs → ∀ ls : Array Slot, lv_has ls 14 [(0, .ref a.1), (1, .int (nI g)), (2, .int (nI (g ^ X % p))), (3, .int (nI n)), (5, .int (nI (X % m))), (6, .int (nI m)), (7, .int (nI f)), (8, .int (nI (q f))), (9, .int (nI i)), (10, .int (nI (q f ^ i))), (11, .int (nI i))] → W pg l en (rm_ 5 132) sS mI aR bL mE cO H locs 0 0 Q (F0 mI 59 ls []) := by
            intro k8
            induction k8 with
            | zero => intros; omega
            | succ k8 ih2 =>
              intro i hdi hn2 H locs hP hS ls hl
              have hs9 : 0 < q f ^ i ∧ q f ^ i ≤ n := ⟨Nat.pow_pos (by omega), Nat.le_of_dvd hn0 hdi⟩
              have hi12 : i < 12 := by
                obtain ⟨c9, hc9⟩ := hdi
                refine dl_p12 (rest := n) (r := c9) (by rw [Nat.mul_comm]; exact hc9) ?_ hq2 (by omega)
                rcases Nat.eq_zero_or_pos c9 with z | z
                · rw [z, Nat.mul_zero] at hc9
                  omega
                · exact z
              have hsq : q f ^ i * q f < 2147483648 := dl_mlt2 (by omega) (by omega)
              have hsq0 : 0 < q f ^ i * q f := Nat.mul_pos hs9.1 (by omega)
              refine lv_iload hx hb dX0_leastLog_59 (lv_at hl 10 rfl) ?_
              refine lv_bipush (v := (nI 12)) hx hb dX0_leastLog_61 (by decide) ?_
              refine dn_icmp_ge (tgt := 92) hx hb dX0_leastLog_63 (by decide) (by omega) (by omega) (fun z => absurd z (by omega)) (fun h12 => ?_)
              refine lv_iload_n hx hb dX0_leastLog_66 rfl (lv_at hl 3 rfl) ?_
              refine lv_iload hx hb dX0_leastLog_67 (lv_at hl 9 rfl) ?_
              refine lv_iload hx hb dX0_leastLog_69 (lv_at hl 7 rfl) ?_
              refine dn_imul hx hb dX0_leastLog_71 ?_
              refine dn_irem hx hb dX0_leastLog_72 (by omega) hsq0 hsq ?_
              refine dn_if_ne (tgt := 92) hx hb dX0_leastLog_73 (by decide) (Nat.lt_of_le_of_lt (Nat.mod_le _ _) (by omega)) (fun hm => ?_) (fun hm => ?_)
              · obtain ⟨hJ2, hgc⟩ := dl_J1 hn0 hJ hfn (fun i hi => (hF.1 i hi).1) hF.2.1 hdi (by omega)
                refine lv_iload hx hb dX0_leastLog_92 (lv_at hl 8 rfl) ?_
                refine dn_if_le (tgt := 154) hx hb dX0_leastLog_94 (by decide) (by omega) (fun hi0 => ?_) (fun hi0 => ?_)
                · rw [hi0, Nat.pow_zero, Nat.mul_one] at hJ2
                  refine lv_iinc (v := (nI (f + 1))) (lv' := [(7, .int (nI (f + 1))), (0, .ref a.1), (1, .int (nI g)), (2, .int (nI (g ^ X % p))), (3, .int (nI n)), (5, .int (nI (X % m))), (6, .int (nI m)), (8, .int (nI (q f))), (9, .int (nI i)), (10, .int (nI (q f ^ i))), (11, .int (nI i))]) hx hb dX0_leastLog_154 hl (k := 6) rfl (nI_1 _) (by decide) rfl (fun ls hl => ?_)
                  refine lv_goto (tgt := 32) hx hb dX0_leastLog_157 (by decide) ?_
                  exact ih (f + 1) m K2 S2 hfn hJ2 (by omega) _ _ hP hD hS ls (lv_sub hl [1, 2, 3, 4, 5, 6, 0] rfl)
                · obtain ⟨hp2a, hp2b⟩ := dl_part (X := X) hp1 ho hs9.1 hdi rfl
                  refine lv_aload_n hx hb dX0_leastLog_97 rfl (lv_at hl 0 rfl) ?_
                  refine lv_iload_n hx hb dX0_leastLog_98 rfl (lv_at hl 1 rfl) ?_
                  refine lv_iload_n hx hb dX0_leastLog_99 rfl (lv_at hl 3 rfl) ?_
                  refine lv_iload hx hb dX0_leastLog_100 (lv_at hl 9 rfl) ?_
                  refine dn_idiv hx hb dX0_leastLog_102 (by omega) (by omega) (by omega) ?_
                  refine xc_I (As := [.int (nI g), .int (nI (n / (q f ^ i)))]) (rest := []) hx hb hml hown hts (mX0_pow hp1 hp9 hg.2 (Nat.lt_of_le_of_lt (Nat.div_le_self _ _) (by omega))) (cw_X0_pow hts rfl rfl ⟨Nat.le_of_ble_eq_true rfl, Nat.le_of_ble_eq_true rfl⟩) hK hP hD hS hA rfl hl.1 rfl (Nat.le_of_ble_eq_true rfl) dX0_leastLog_103 (fun r _ H locs hw hP hD hS => ?_)
                  obtain rfl : r = nI (g ^ (n / q f ^ i) % p) := hw
                  refine lv_istore (lv' := [(11, .int (nI (g ^ (n / q f ^ i) % p))), (0, .ref a.1), (1, .int (nI g)), (2, .int (nI (g ^ X % p))), (3, .int (nI n)), (5, .int (nI (X % m))), (6, .int (nI m)), (7, .int (nI f)), (8, .int (nI (q f))), (9, .int (nI i)), (10, .int (nI (q f ^ i)))]) hx hb dX0_leastLog_106 hl (by decide) rfl (fun ls hl => ?_)
                  refine lv_aload_n hx hb dX0_leastLog_108 rfl (lv_at hl 1 rfl) ?_
                  refine lv_iload_n hx hb dX0_leastLog_109 rfl (lv_at hl 3 rfl) ?_
                  refine lv_iload_n hx hb dX0_leastLog_110 rfl (lv_at hl 4 rfl) ?_
                  refine lv_iload hx hb dX0_leastLog_111 (lv_at hl 10 rfl) ?_
                  refine dn_idiv hx hb dX0_leastLog_113 (by omega) (by omega) (by omega) ?_
                  refine xc_I (As := [.int (nI (g ^ X % p)), .int (nI (n / (q f ^ i)))]) (rest := []) hx hb hml hown hts (mX0_pow hp1 hp9 hh.2 (Nat.lt_of_le_of_lt (Nat.div_le_self _ _) (by omega))) (cw_X0_pow hts rfl rfl ⟨Nat.le_of_ble_eq_true rfl, Nat.le_of_ble_eq_true rfl⟩) hK hP hD hS hA rfl hl.1 rfl (Nat.le_of_ble_eq_true rfl) dX0_leastLog_114 (fun r _ H locs hw hP hD hS => ?_)
                  obtain rfl : r = nI ((g ^ X % p) ^ (n / q f ^ i) % p) := hw
                  refine dn_top (show ((nI ((g ^ X % p) ^ (n / q f ^ i) % p)) : Int32) = (nI ((g ^ (n / q f ^ i) % p) ^ (X % q f ^ i) % p)) from (by rw [hp2b])) ?_
                  refine lv_istore (lv' := [(12, .int (nI ((g ^ (n / q f ^ i) % p) ^ (X % q f ^ i) % p))), (11, .int (nI (g ^ (n / q f ^ i) % p))), (0, .ref a.1), (1, .int (nI g)), (2, .int (nI (g ^ X % p))), (3, .int (nI n)), (5, .int (nI (X % m))), (6, .int (nI m)), (7, .int (nI f)), (8, .int (nI (q f))), (9, .int (nI i)), (10, .int (nI (q f ^ i)))]) hx hb dX0_leastLog_117 hl (by decide) rfl (fun ls hl => ?_)
                  refine lv_aload_n hx hb dX0_leastLog_119 rfl (lv_at hl 2 rfl) ?_
                  refine lv_iload hx hb dX0_leastLog_120 (lv_at hl 1 rfl) ?_
                  refine lv_iload hx hb dX0_leastLog_122 (lv_at hl 0 rfl) ?_
                  refine lv_iload hx hb dX0_leastLog_124 (lv_at hl 9 rfl) ?_
                  refine lv_iload hx hb dX0_leastLog_126 (lv_at hl 10 rfl) ?_
                  refine xc_I (As := [.int (nI (g ^ (n / q f ^ i) % p)), .int (nI ((g ^ (n / q f ^ i) % p) ^ (X % q f ^ i) % p)), .int (nI (q f)), .int (nI i)]) (rest := []) hx hb hml hown hts (mX0_powerLog (X := X % q f ^ i) hpp (dl_U_pow hpp hg _) hp2a hq2 hi0 (Nat.mod_lt _ hs9.1)) (cw_X0_powerLog hts rfl rfl ⟨Nat.le_of_ble_eq_true rfl, Nat.le_of_ble_eq_true rfl⟩) hK hP hD hS hA rfl hl.1 rfl (Nat.le_of_ble_eq_true rfl) dX0_leastLog_128 (fun r u H locs hw hP hD hS => ?_)
                  obtain ⟨K3, S3⟩ := u
                  have hP : va_P D vwCl (xW a (nI p) (nI (p - 1)) (nI nf) B T K3 S3) H := hP
                  have hD : va_D A (xW a (nI p) (nI (p - 1)) (nI nf) B T K3 S3) := hD
                  obtain rfl : r = nI (X % q f ^ i) := hw
                  refine lv_istore (lv' := [(13, .int (nI (X % q f ^ i))), (12, .int (nI ((g ^ (n / q f ^ i) % p) ^ (X % q f ^ i) % p))), (11, .int (nI (g ^ (n / q f ^ i) % p))), (0, .ref a.1), (1, .int (nI g)), (2, .int (nI (g ^ X % p))), (3, .int (nI n)), (5, .int (nI (X % m))), (6, .int (nI m)), (7, .int (nI f)), (8, .int (nI (q f))), (9, .int (nI i)), (10, .int (nI (q f ^ i)))]) hx hb dX0_leastLog_131 hl (by decide) rfl (fun ls hl => ?_)
                  refine lv_aload_n hx hb dX0_leastLog_133 rfl (lv_at hl 3 rfl) ?_
                  refine lv_iload hx hb dX0_leastLog_134 (lv_at hl 7 rfl) ?_
                  refine lv_iload hx hb dX0_leastLog_136 (lv_at hl 8 rfl) ?_
                  refine lv_iload hx hb dX0_leastLog_138 (lv_at hl 0 rfl) ?_
                  refine lv_iload hx hb dX0_leastLog_140 (lv_at hl 12 rfl) ?_
                  refine xc_I (As := [.int (nI (X % m)), .int (nI m), .int (nI (X % q f ^ i)), .int (nI (q f ^ i))]) (rest := []) hx hb hml hown hts (mX0_join (Nat.mod_lt _ hm9.1) (Nat.mod_lt _ hs9.1) (by omega) (by omega) hgc) (cw_X0_join hts rfl rfl ⟨Nat.le_of_ble_eq_true rfl, Nat.le_of_ble_eq_true rfl⟩) hK hP hD hS hA rfl hl.1 rfl (Nat.le_of_ble_eq_true rfl) dX0_leastLog_142 (fun r _ H locs hw hP hD hS => ?_)
                  obtain ⟨z, rfl, hz1, hz2, hz3⟩ := hw
                  obtain rfl : z = X % (m * q f ^ i) := dl_crt hgc hz1 (Nat.mod_lt _ hJ2.1) (by rw [hz2, Nat.mod_mul_right_mod]) (by rw [hz3, Nat.mod_mul_left_mod])
                  refine lv_istore (lv' := [(5, .int (nI (X % (m * q f ^ i)))), (13, .int (nI (X % q f ^ i))), (12, .int (nI ((g ^ (n / q f ^ i) % p) ^ (X % q f ^ i) % p))), (11, .int (nI (g ^ (n / q f ^ i) % p))), (0, .ref a.1), (1, .int (nI g)), (2, .int (nI (g ^ X % p))), (3, .int (nI n)), (6, .int (nI m)), (7, .int (nI f)), (8, .int (nI (q f))), (9, .int (nI i)), (10, .int (nI (q f ^ i)))]) hx hb dX0_leastLog_145 hl (by decide) rfl (fun ls hl => ?_)
                  refine lv_iload hx hb dX0_leastLog_147 (lv_at hl 8 rfl) ?_
                  refine lv_iload hx hb dX0_leastLog_149 (lv_at hl 12 rfl) ?_
                  refine dn_imul hx hb dX0_leastLog_151 ?_
                  refine lv_istore (lv' := [(6, .int (nI (m * (q f ^ i)))), (5, .int (nI (X % (m * q f ^ i)))), (13, .int (nI (X % q f ^ i))), (12, .int (nI ((g ^ (n / q f ^ i) % p) ^ (X % q f ^ i) % p))), (11, .int (nI (g ^ (n / q f ^ i) % p))), (0, .ref a.1), (1, .int (nI g)), (2, .int (nI (g ^ X % p))), (3, .int (nI n)), (7, .int (nI f)), (8, .int (nI (q f))), (9, .int (nI i)), (10, .int (nI (q f ^ i)))]) hx hb dX0_leastLog_152 hl (by decide) rfl (fun ls hl => ?_)
                  refine lv_iinc (v := (nI (f + 1))) (lv' := [(7, .int (nI (f + 1))), (6, .int (nI (m * (q f ^ i)))), (5, .int (nI (X % (m * q f ^ i)))), (13, .int (nI (X % q f ^ i))), (12, .int (nI ((g ^ (n / q f ^ i) % p) ^ (X % q f ^ i) % p))), (11, .int (nI (g ^ (n / q f ^ i) % p))), (0, .ref a.1), (1, .int (nI g)), (2, .int (nI (g ^ X % p))), (3, .int (nI n)), (8, .int (nI (q f))), (9, .int (nI i)), (10, .int (nI (q f ^ i)))]) hx hb dX0_leastLog_154 hl (k := 9) rfl (nI_1 _) (by decide) rfl (fun ls hl => ?_)
                  refine lv_goto (tgt := 32) hx hb dX0_leastLog_157 (by decide) ?_
                  exact ih (f + 1) _ _ _ hfn hJ2 (by omega) _ _ hP hD hS ls (lv_sub hl [6, 7, 8, 9, 2, 1, 0] rfl)
              · refine lv_iload hx hb dX0_leastLog_76 (lv_at hl 9 rfl) ?_
                refine lv_iload hx hb dX0_leastLog_78 (lv_at hl 7 rfl) ?_
                refine dn_imul hx hb dX0_leastLog_80 ?_
                refine dn_top (show ((nI ((q f ^ i) * (q f))) : Int32) = (nI (q f ^ (i + 1))) from (by rw [Nat.pow_succ])) ?_
                refine lv_istore (lv' := [(10, .int (nI (q f ^ (i + 1)))), (0, .ref a.1), (1, .int (nI g)), (2, .int (nI (g ^ X % p))), (3, .int (nI n)), (5, .int (nI (X % m))), (6, .int (nI m)), (7, .int (nI f)), (8, .int (nI (q f))), (9, .int (nI i)), (11, .int (nI i))]) hx hb dX0_leastLog_81 hl (by decide) rfl (fun ls hl => ?_)
                refine lv_iinc (v := (nI (i + 1))) (lv' := [(9, .int (nI (i + 1))), (10, .int (nI (q f ^ (i + 1)))), (0, .ref a.1), (1, .int (nI g)), (2, .int (nI (g ^ X % p))), (3, .int (nI n)), (5, .int (nI (X % m))), (6, .int (nI m)), (7, .int (nI f)), (8, .int (nI (q f))), (11, .int (nI i))]) hx hb dX0_leastLog_83 hl (k := 9) rfl (nI_1 _) (by decide) rfl (fun ls hl => ?_)
                refine lv_iinc (v := (nI (i + 1))) (lv' := [(11, .int (nI (i + 1))), (9, .int (nI (i + 1))), (10, .int (nI (q f ^ (i + 1)))), (0, .ref a.1), (1, .int (nI g)), (2, .int (nI (g ^ X % p))), (3, .int (nI n)), (5, .int (nI (X % m))), (6, .int (nI m)), (7, .int (nI f)), (8, .int (nI (q f)))]) hx hb dX0_leastLog_86 hl (k := 10) rfl (nI_1 _) (by decide) rfl (fun ls hl => ?_)
                refine lv_goto (tgt := 59) hx hb dX0_leastLog_89 (by decide) ?_
                exact ih2 (i + 1) (by rw [Nat.pow_succ]; exact Nat.dvd_of_mod_eq_zero hm) (by omega) _ _ hP hS ls (lv_sub hl [3, 4, 5, 6, 7, 8, 9, 10, 1, 2, 0] rfl)
          exact inner 13 0 (by rw [Nat.pow_zero]; exact Nat.one_dvd n) (by omega) _ _ hP hS ls (lv_sub hl [4, 5, 6, 7, 8, 9, 10, 3, 2, 1, 0] rfl)
    exact loop (nf + 1) 0 1 K S (by omega) dl_J0 (by omega) _ _ hP hD hS ls (lv_sub hl [5, 6, 7, 4, 2, 1, 0] rfl)
  · refine lv_bipush (v := (-4)) hx hb dX0_leastLog_20 (by decide) ?_
    exact hret _ _ _ (K, S) _ _ dX0_leastLog_22 (Or.inl ⟨rfl, fun x ex => hc (by rw [← ex, dl_pow_pow, Nat.mul_comm]; exact dl_powmul hp1 ho.2.1 x)⟩) hP hD hS
end XC
end
section
/-! relations of the later operations; counts, roots, subgroups -/
def dl_isLog (p u v : Nat) (r : Int32) : Prop := (r = -4 ∧ ∀ x, x < p - 1 → ¬ u ^ x % p = v) ∨ (∃ x, r = nI x ∧ x < p - 1 ∧ u ^ x % p = v ∧ ∀ y, y < x → ¬ u ^ y % p = v)
def R_log (p : Nat) (g h r : Int32) : Prop := (¬ (dl_isU p g ∧ dl_isU p h) ∧ r = -1) ∨ (∃ u v, g = nI u ∧ dl_U p u ∧ h = nI v ∧ dl_U p v ∧ dl_isLog p u v r)
def dl_isRoot (p v n : Nat) (r : Int32) : Prop := (r = -4 ∧ ∀ y, dl_U p y → ¬ y ^ n % p = v) ∨ (∃ y, r = nI y ∧ dl_U p y ∧ y ^ n % p = v ∧ ∀ z, dl_U p z → z < y → ¬ z ^ n % p = v)
def R_root (p : Nat) (h k r : Int32) : Prop := (¬ (dl_isU p h ∧ dl_isK 1 k) ∧ r = -1) ∨ (∃ v n, h = nI v ∧ dl_U p v ∧ k = nI n ∧ 1 ≤ n ∧ n ≤ 1000000 ∧ dl_isRoot p v n r)
def dl_rcnt (p v n : Nat) : Nat := fb_ct (fun y => decide (1 ≤ y ∧ y ^ n % p = v)) p
def R_roots (p : Nat) (h k r : Int32) : Prop := (¬ (dl_isU p h ∧ dl_isK 1 k) ∧ r = -1) ∨ (∃ v n, h = nI v ∧ dl_U p v ∧ k = nI n ∧ 1 ≤ n ∧ n ≤ 1000000 ∧ r = nI (dl_rcnt p v n))
def dl_isM (r m : Int32) : Prop := ∃ x n, r = nI x ∧ m = nI n ∧ 1 ≤ n ∧ n ≤ 60 ∧ x < n
def dl_isLW (p u v x n : Nat) (r : Int32) : Prop := (r = -4 ∧ ∀ z, z < (p - 1) * n → ¬ (u ^ z % p = v ∧ z % n = x)) ∨ (∃ z, r = nI z ∧ z < (p - 1) * n ∧ u ^ z % p = v ∧ z % n = x ∧ ∀ y, y < z → ¬ (u ^ y % p = v ∧ y % n = x))
def R_logWith (p : Nat) (g h x m r : Int32) : Prop := (¬ (dl_isU p g ∧ dl_isU p h ∧ dl_isM x m) ∧ r = -1) ∨ (∃ u v k n, g = nI u ∧ dl_U p u ∧ h = nI v ∧ dl_U p v ∧ x = nI k ∧ m = nI n ∧ 1 ≤ n ∧ n ≤ 60 ∧ k < n ∧ dl_isLW p u v k n r)
def R_common (p : Nat) (g h r : Int32) : Prop := (¬ (dl_isU p g ∧ dl_isU p h) ∧ r = -1) ∨ (∃ u v n m, g = nI u ∧ dl_U p u ∧ h = nI v ∧ dl_U p v ∧ dl_ord p u n ∧ dl_ord p v m ∧ r = nI (Nat.gcd n m))
def R_unitOfOrder (p : Nat) (x r : Int32) : Prop := (x < nI 1 ∧ r = -1) ∨ (∃ n, x = nI n ∧ 1 ≤ n ∧ n < 2147483648 ∧ R_uoo p n r)
noncomputable def dl_ocnt (p n : Nat) : Nat := fb_ct (fun u => @decide (dl_U p u ∧ dl_ord p u n) (Classical.propDecidable _)) p
def R_unitsOfOrder (p : Nat) (x r : Int32) : Prop := (x < nI 1 ∧ r = 0) ∨ (∃ n, x = nI n ∧ 1 ≤ n ∧ n < 2147483648 ∧ r = nI (dl_ocnt p n))
/-! ===== logarithms ===== -/
theorem dl_isLog_of {p u v : Nat} {r : Int32} (hP : dl_P p) (hu : dl_U p u) (h : (r = -4 ∧ ∀ x, ¬ u ^ x % p = v) ∨ (∃ x n, r = nI x ∧ dl_ord p u n ∧ x < n ∧ u ^ x % p = v)) : dl_isLog p u v r := by
  rcases h with ⟨e, h⟩ | ⟨x, n, e, ho, hx, ex⟩
  · exact Or.inl ⟨e, fun x _ => h x⟩
  · have hn := dl_ord_le hP hu ho
    refine Or.inr ⟨x, e, by omega, ex, fun y hy ey => ?_⟩
    have := dl_inj_lt (dl_P1 hP) ho (by omega) hx (ey.trans ex.symm)
    omega
/-! ===== linear congruences ===== -/
theorem dl_lin {k N a s i : Nat} (hN : 0 < N) (ha : Nat.gcd k N ∣ a) (hs : k / Nat.gcd k N * s % (N / Nat.gcd k N) = 1 % (N / Nat.gcd k N)) : i * k % N = a % N ↔ i % (N / Nat.gcd k N) = a / Nat.gcd k N * s % (N / Nat.gcd k N) := by
  have hd0 : 0 < Nat.gcd k N := Nat.gcd_pos_of_pos_right k hN
  obtain ⟨k', hk⟩ := Nat.gcd_dvd_left k N
  obtain ⟨m, hm⟩ := Nat.gcd_dvd_right k N
  obtain ⟨a', ha'⟩ := ha
  generalize Nat.gcd k N = d at *
  subst hk hm ha'
  rw [Nat.mul_div_cancel_left _ hd0, Nat.mul_div_cancel_left _ hd0] at hs
  rw [Nat.mul_div_cancel_left _ hd0, Nat.mul_div_cancel_left _ hd0, Nat.mul_left_comm, Nat.mul_mod_mul_left, Nat.mul_mod_mul_left]
  constructor
  · intro e
    have e1 : i * k' % m = a' % m := Nat.eq_of_mul_eq_mul_left hd0 e
    calc i % m = i * 1 % m := by rw [Nat.mul_one]
      _ = i * (k' * s) % m := dl_pmul rfl hs.symm
      _ = i * k' * s % m := by rw [Nat.mul_assoc]
      _ = a' * s % m := dl_pmul e1 rfl
  · intro e
    congr 1
    calc i * k' % m = a' * s * k' % m := dl_pmul (by rw [e]) rfl
      _ = a' * (k' * s) % m := by rw [Nat.mul_assoc, Nat.mul_comm s]
      _ = a' * 1 % m := dl_pmul rfl hs
      _ = a' % m := by rw [Nat.mul_one]
theorem dl_lin_no {k N a i : Nat} (e : i * k % N = a % N) : Nat.gcd k N ∣ a := by
  have h1 : Nat.gcd k N ∣ i * k % N := (Nat.dvd_mod_iff (Nat.gcd_dvd_right k N)).mpr (Nat.dvd_trans (Nat.gcd_dvd_left k N) (Nat.dvd_mul_left k i))
  rw [e] at h1
  exact (Nat.dvd_mod_iff (Nat.gcd_dvd_right k N)).mp h1
theorem dl_cop_div {k N : Nat} (hN : 0 < N) : Nat.gcd (k / Nat.gcd k N) (N / Nat.gcd k N) = 1 := Nat.gcd_div_gcd_div_gcd_of_pos_right hN
/-! ===== roots ===== -/
theorem dl_root_no {p g a k v : Nat} (hP : dl_P p) (ho : dl_ord p g (p - 1)) (hv : g ^ a % p = v) (h : ¬ a % Nat.gcd k (p - 1) = 0) : ∀ y, dl_U p y → ¬ y ^ k % p = v := fun y hy e => by
  obtain ⟨i, -, rfl⟩ := dl_units (dl_P1 hP) ho hy
  rw [dl_pow_pow, ← hv, dl_inj (dl_P1 hP) ho] at e
  exact h (Nat.mod_eq_zero_of_dvd (dl_lin_no e))
theorem dl_root_yes {p g a k v s : Nat} (hP : dl_P p) (ho : dl_ord p g (p - 1)) (hv : g ^ a % p = v) (h : a % Nat.gcd k (p - 1) = 0) (hs : k / Nat.gcd k (p - 1) * s % ((p - 1) / Nat.gcd k (p - 1)) = 1 % ((p - 1) / Nat.gcd k (p - 1))) (i : Nat) : (g ^ i % p) ^ k % p = v ↔ i % ((p - 1) / Nat.gcd k (p - 1)) = a / Nat.gcd k (p - 1) * s % ((p - 1) / Nat.gcd k (p - 1)) := by
  rw [dl_pow_pow, ← hv, dl_inj (dl_P1 hP) ho]
  exact dl_lin (by have := hP.1; omega) (Nat.dvd_of_mod_eq_zero h) hs
/-- the least of the roots g ^ (c + m * i), i < d -/
def dl_best (p g c m d j bs : Nat) : Prop := (∃ i, i < d ∧ bs = g ^ (c + m * i) % p) ∧ ∀ i, i < j → bs ≤ g ^ (c + m * i) % p
theorem dl_best_s {p g c m d j bs : Nat} (h : dl_best p g c m d j bs) (hj : j < d) : (g ^ (c + m * j) % p < bs → dl_best p g c m d (j + 1) (g ^ (c + m * j) % p)) ∧ (bs ≤ g ^ (c + m * j) % p → dl_best p g c m d (j + 1) bs) := by
  obtain ⟨h1, h2⟩ := h
  refine ⟨fun hlt => ⟨⟨j, hj, rfl⟩, fun i hi => ?_⟩, fun hle => ⟨h1, fun i hi => ?_⟩⟩
  · rcases Nat.lt_or_ge i j with z | z
    · have := h2 i z
      omega
    · have e : i = j := by omega
      subst e
      exact Nat.le_refl _
  · rcases Nat.lt_or_ge i j with z | z
    · exact h2 i z
    · have e : i = j := by omega
      subst e
      exact hle
theorem dl_turn {p g c m j : Nat} : g ^ (c + m * j) % p * (g ^ m % p) % p = g ^ (c + m * (j + 1)) % p := by
  rw [← Nat.mul_mod, ← Nat.pow_add]
  congr 2
  rw [Nat.mul_add, Nat.mul_one, Nat.add_assoc]
theorem dl_root_end {p g a k v s c bs : Nat} (hP : dl_P p) (hg : dl_U p g) (ho : dl_ord p g (p - 1)) (hv : g ^ a % p = v) (h : a % Nat.gcd k (p - 1) = 0) (hs : k / Nat.gcd k (p - 1) * s % ((p - 1) / Nat.gcd k (p - 1)) = 1 % ((p - 1) / Nat.gcd k (p - 1))) (hc : c = a / Nat.gcd k (p - 1) * s % ((p - 1) / Nat.gcd k (p - 1))) (hb : dl_best p g c ((p - 1) / Nat.gcd k (p - 1)) (Nat.gcd k (p - 1)) (Nat.gcd k (p - 1)) bs) : dl_isRoot p v k (nI bs) := by
  have hN : 0 < p - 1 := by have := hP.1; omega
  have hiff := dl_root_yes hP ho hv h hs
  obtain ⟨⟨i, hi, e⟩, h2⟩ := hb
  have hd0 : 0 < Nat.gcd k (p - 1) := Nat.gcd_pos_of_pos_right k hN
  have hdm : Nat.gcd k (p - 1) * ((p - 1) / Nat.gcd k (p - 1)) = p - 1 := Nat.mul_div_cancel' (Nat.gcd_dvd_right k (p - 1))
  have hm0 : 0 < (p - 1) / Nat.gcd k (p - 1) := Nat.div_pos (Nat.gcd_le_right k hN) hd0
  refine Or.inr ⟨bs, rfl, by rw [e]; exact dl_U_pow hP hg _, ?_, fun z hz hlt ez => ?_⟩
  · rw [e, hiff, Nat.add_mul_mod_self_left, hc, Nat.mod_mod]
  · obtain ⟨t, ht, rfl⟩ := dl_units (dl_P1 hP) ho hz
    rw [hiff, ← hc] at ez
    have hq := h2 (t / ((p - 1) / Nat.gcd k (p - 1))) (by
      rw [Nat.div_lt_iff_lt_mul hm0, hdm]
      exact ht)
    rw [← ez, Nat.mod_add_div] at hq
    omega
theorem dl_roots_eq {p v k : Nat} (hP : dl_P p) (hv : dl_U p v) : dl_rcnt p v k = if v ^ ((p - 1) / Nat.gcd k (p - 1)) % p = 1 then Nat.gcd k (p - 1) else 0 := by
  have hp := dl_P1 hP
  have hN : 0 < p - 1 := by have := hP.1; omega
  have hv1 := hv.1
  obtain ⟨r, hr⟩ := dl_root hP
  obtain ⟨a, ha, rfl⟩ := dl_units hp hr hv
  have hd0 : 0 < Nat.gcd k (p - 1) := Nat.gcd_pos_of_pos_right k hN
  have hdm : (p - 1) / Nat.gcd k (p - 1) * Nat.gcd k (p - 1) = p - 1 := Nat.div_mul_cancel (Nat.gcd_dvd_right k (p - 1))
  have hm0 : 0 < (p - 1) / Nat.gcd k (p - 1) := Nat.div_pos (Nat.gcd_le_right k hN) hd0
  have hpos : ∀ i, 1 ≤ r ^ i % p := fun i => dl_powpos hp hr.1 hr.2.1 i
  have e0 : dl_rcnt p (r ^ a % p) k = fb_ct (fun i => decide (1 ≤ r ^ i % p ∧ (r ^ i % p) ^ k % p = r ^ a % p)) (p - 1) :=
    dl_ct_units hp hr (fun y => decide (1 ≤ y ∧ y ^ k % p = r ^ a % p)) (decide_eq_false (fun z => by omega))
  have e1 : (r ^ a % p) ^ ((p - 1) / Nat.gcd k (p - 1)) % p = 1 ↔ Nat.gcd k (p - 1) ∣ a := by
    rw [dl_pow_pow, dl_ord_dvd hp hr]
    conv => lhs; lhs; rw [← hdm, Nat.mul_comm]
    exact Nat.mul_dvd_mul_iff_right hm0
  rw [e0]
  by_cases hd : Nat.gcd k (p - 1) ∣ a
  · rw [if_pos (e1.mpr hd)]
    obtain ⟨s, -, hs⟩ := dl_inv_ex hm0 (dl_cop_div (k := k) hN)
    have hiff := dl_root_yes hP hr rfl (Nat.mod_eq_zero_of_dvd hd) hs
    have e2 : fb_ct (fun i => decide (1 ≤ r ^ i % p ∧ (r ^ i % p) ^ k % p = r ^ a % p)) (p - 1) = fb_ct (fun i => decide (i % ((p - 1) / Nat.gcd k (p - 1)) = a / Nat.gcd k (p - 1) * s % ((p - 1) / Nat.gcd k (p - 1)))) (p - 1) := fb_ct_cong (fun i _ => by
      have h1 := hiff i
      have h2 := hpos i
      show decide _ = decide _
      exact decide_eq_decide.mpr ⟨fun z => h1.mp z.2, fun z => ⟨h2, h1.mpr z⟩⟩)
    rw [e2]
    have e3 := dl_ct_res (m := (p - 1) / Nat.gcd k (p - 1)) (c := a / Nat.gcd k (p - 1) * s % ((p - 1) / Nat.gcd k (p - 1))) (Nat.mod_lt _ hm0) (Nat.gcd k (p - 1))
    rw [hdm] at e3
    exact e3
  · rw [if_neg (fun z => hd (e1.mp z))]
    refine fb_ct_zero.mpr (fun i _ => decide_eq_false (fun z => hd ?_))
    have e4 := z.2
    rw [dl_pow_pow, dl_inj hp hr] at e4
    exact dl_lin_no e4
/-! ===== a logarithm with a remainder ===== -/
theorem dl_lw_iff {p u v n x z : Nat} (hp : 1 < p) (ho : dl_ord p u n) (hx : x < n) (ex : u ^ x % p = v) : u ^ z % p = v ↔ ∃ k, z = x + n * k := by
  rw [← ex, dl_inj hp ho, Nat.mod_eq_of_lt hx]
  constructor
  · intro e
    exact ⟨z / n, by rw [← e, Nat.mod_add_div]⟩
  · rintro ⟨k, rfl⟩
    rw [Nat.add_mul_mod_self_left, Nat.mod_eq_of_lt hx]
theorem dl_lw_res {n x y w k v : Nat} (hw : (v + x) % w = y % w) (hy : y < w) : (x + n * k) % w = y ↔ k * n % w = v % w := by
  have e0 : y % w = y := Nat.mod_eq_of_lt hy
  rw [← e0, ← hw]
  constructor
  · intro e
    have e2 : (x + n * k) % w = (x + v) % w := by rw [e, Nat.add_comm v x]
    have h3 := dl_nmod' e2
    rw [Nat.mul_comm k n]
    refine dl_nmod ?_
    have e4 : ((n * k : Nat) : Int) - v = ((x + n * k : Nat) : Int) - ((x + v : Nat) : Int) := by push_cast; omega
    rw [e4]
    exact h3
  · intro e
    rw [Nat.add_comm v x, Nat.add_mod x (n * k), Nat.mul_comm n k, e, ← Nat.add_mod]
theorem dl_lw_yes {p u v n x y w g s : Nat} (hP : dl_P p) (hu : dl_U p u) (ho : dl_ord p u n) (hx : x < n) (ex : u ^ x % p = v) (hy : y < w) (hg : g < w) (hgx : (g + x) % w = y % w) (hd : g % Nat.gcd n w = 0) (hs : n / Nat.gcd n w * s % (w / Nat.gcd n w) = 1 % (w / Nat.gcd n w)) : dl_isLW p u v y w (nI (x + n * (g / Nat.gcd n w * s % (w / Nat.gcd n w)))) := by
  have hp := dl_P1 hP
  have hw0 : 0 < w := by omega
  have hd0 : 0 < Nat.gcd n w := Nat.gcd_pos_of_pos_right n hw0
  have hm0 : 0 < w / Nat.gcd n w := Nat.div_pos (Nat.gcd_le_right n hw0) hd0
  have hlin : ∀ k, k * n % w = g % w ↔ k % (w / Nat.gcd n w) = g / Nat.gcd n w * s % (w / Nat.gcd n w) := fun k => dl_lin hw0 (Nat.dvd_of_mod_eq_zero hd) hs
  have hlt : g / Nat.gcd n w * s % (w / Nat.gcd n w) < w / Nat.gcd n w := Nat.mod_lt _ hm0
  have hle : w / Nat.gcd n w ≤ w := Nat.div_le_self _ _
  generalize hK : g / Nat.gcd n w * s % (w / Nat.gcd n w) = K at hlin hlt ⊢
  refine Or.inr ⟨_, rfl, ?_, (dl_lw_iff hp ho hx ex).mpr ⟨K, rfl⟩, (dl_lw_res hgx hy).mpr ((hlin K).mpr (Nat.mod_eq_of_lt hlt)), fun z hz hzz => ?_⟩
  · have hn := dl_ord_le hP hu ho
    have h1 : n * (K + 1) ≤ n * w := Nat.mul_le_mul_left n (by omega)
    have h2 : n * w ≤ (p - 1) * w := Nat.mul_le_mul_right w hn
    rw [Nat.mul_add, Nat.mul_one] at h1
    omega
  · obtain ⟨k, rfl⟩ := (dl_lw_iff hp ho hx ex).mp hzz.1
    have e1 := (hlin k).mp ((dl_lw_res hgx hy).mp hzz.2)
    have h3 : K ≤ k := by rw [← e1]; exact Nat.mod_le _ _
    have := Nat.mul_le_mul_left n h3
    omega
theorem dl_lw_no1 {p u v y w : Nat} (h : ∀ x, ¬ u ^ x % p = v) : dl_isLW p u v y w (-4) := Or.inl ⟨rfl, fun z _ hz => h z hz.1⟩
theorem dl_lw_no2 {p u v n x y w g : Nat} (hP : dl_P p) (ho : dl_ord p u n) (hx : x < n) (ex : u ^ x % p = v) (hy : y < w) (hgx : (g + x) % w = y % w) (hd : ¬ g % Nat.gcd n w = 0) : dl_isLW p u v y w (-4) := by
  refine Or.inl ⟨rfl, fun z _ hz => ?_⟩
  obtain ⟨k, rfl⟩ := (dl_lw_iff (dl_P1 hP) ho hx ex).mp hz.1
  exact hd (Nat.mod_eq_zero_of_dvd (dl_lin_no ((dl_lw_res hgx hy).mp hz.2)))
end
section
/-! how many units have a given order; the least of them; common powers -/
def dl_phi (d : Nat) : Nat := fb_ct (fun j => decide (Nat.gcd j d = 1)) d
/-- no prime of the first f that divides d divides j -/
def dl_pass (q : Nat → Nat) (d : Nat) : Nat → Nat → Bool
  | 0, _ => true
  | f + 1, j => dl_pass q d f j && !(decide (q f ∣ d) && decide (q f ∣ j))
theorem dl_ct_per {P : Nat → Bool} {L : Nat} (h : ∀ j, P (L + j) = P j) : ∀ k, fb_ct P (L * k) = k * fb_ct P L
  | 0 => by rw [Nat.mul_zero, Nat.zero_mul]; rfl
  | k + 1 => by
    have e : L * (k + 1) = L + L * k := by rw [Nat.mul_add, Nat.mul_one, Nat.add_comm]
    rw [e, fb_ct_split, fb_ct_cong (q := P) (fun j _ => h j), dl_ct_per h k, Nat.add_mul, Nat.one_mul, Nat.add_comm]
theorem dl_ct_two (P Q : Nat → Bool) : ∀ n, fb_ct P n = fb_ct (fun j => P j && !Q j) n + fb_ct (fun j => P j && Q j) n
  | 0 => rfl
  | n + 1 => by
    rw [fb_ct_succ, fb_ct_succ, fb_ct_succ, dl_ct_two P Q n]
    cases P n <;> cases Q n <;> simp <;> omega
theorem dl_ct_mul {P : Nat → Bool} {k L : Nat} (hk : 0 < k) : fb_ct (fun j => P j && decide (k ∣ j)) (k * L) = fb_ct (fun i => P (k * i)) L := by
  have e := dl_ct_bij (P := P) (f := fun i => k * i) (n := L) (m := k * L) (fun j => P j && decide (k ∣ j)) (fun i hi => Nat.mul_lt_mul_of_pos_left hi hk) (fun i j hij _ e => by
    have := Nat.eq_of_mul_eq_mul_left hk e
    omega) (fun y hy hx => by
    rw [Bool.and_eq_true] at hx
    obtain ⟨i, rfl⟩ := of_decide_eq_true hx.2
    exact ⟨i, Nat.lt_of_mul_lt_mul_left hy, rfl⟩)
  rw [e]
  refine fb_ct_cong (fun i _ => ?_)
  show (P (k * i) && decide (k ∣ k * i)) = P (k * i)
  rw [decide_eq_true (Nat.dvd_mul_right k i), Bool.and_true]
theorem dl_pass_eq {q : Nat → Nat} {d : Nat} {x y : Nat} : ∀ (f : Nat), (∀ i, i < f → q i ∣ d → (q i ∣ x ↔ q i ∣ y)) → dl_pass q d f x = dl_pass q d f y
  | 0, _ => rfl
  | f + 1, h => by
    rw [dl_pass, dl_pass, dl_pass_eq f (fun i hi => h i (by omega))]
    by_cases hd : q f ∣ d
    · rw [decide_eq_decide.mpr (h f (by omega) hd)]
    · rw [decide_eq_false hd, Bool.false_and, Bool.false_and]
theorem dl_tot_no {q : Nat → Nat} {d f : Nat} (h : ¬ q f ∣ d) : fb_ct (dl_pass q d (f + 1)) d = fb_ct (dl_pass q d f) d := fb_ct_cong (fun j _ => by
  rw [dl_pass, decide_eq_false h, Bool.false_and]
  simp)
theorem dl_tot_yes {q : Nat → Nat} {d f nf : Nat} (hq : ∀ i, i < nf → dl_prime (q i)) (hqi : ∀ i j, i < j → j < nf → q i < q j) (hf : f < nf) (h : q f ∣ d) : fb_ct (dl_pass q d f) d / q f * (q f - 1) = fb_ct (dl_pass q d (f + 1)) d := by
  obtain ⟨L, hL⟩ := id h
  have hqf := hq f hf
  have hq0 : 0 < q f := by have := hqf.1; omega
  have hcop : ∀ i, i < f → Nat.Coprime (q i) (q f) := fun i hi => dl_cop2 (hq i (by omega)) hqf (by have := hqi i f hi hf; omega)
  have hper : ∀ j, dl_pass q d f (L + j) = dl_pass q d f j := fun j => dl_pass_eq f (fun i hi hd => by
    have hdL : q i ∣ L := (hcop i hi).dvd_of_dvd_mul_left (by rw [← hL]; exact hd)
    exact (Nat.dvd_add_right hdL))
  have hmul : ∀ j, dl_pass q d f (q f * j) = dl_pass q d f j := fun j => dl_pass_eq f (fun i hi hd =>
    ⟨fun z => (hcop i hi).dvd_of_dvd_mul_left z, fun z => Nat.dvd_trans z (Nat.dvd_mul_left j _)⟩)
  have e1 : fb_ct (dl_pass q d f) d = q f * fb_ct (dl_pass q d f) L := by
    have e0 := dl_ct_per hper (q f)
    rw [Nat.mul_comm L (q f), ← hL] at e0
    exact e0
  have e2 : fb_ct (fun j => dl_pass q d f j && decide (q f ∣ j)) d = fb_ct (dl_pass q d f) L := by
    conv => lhs; rw [hL]
    rw [dl_ct_mul hq0]
    refine fb_ct_cong (fun i _ => ?_)
    rw [← hL]
    exact hmul i
  have e3 := dl_ct_two (dl_pass q d f) (fun j => decide (q f ∣ j)) d
  have e4 : fb_ct (fun j => dl_pass q d f j && !decide (q f ∣ j)) d = fb_ct (dl_pass q d (f + 1)) d := fb_ct_cong (fun j _ => by
    show (dl_pass q d f j && !decide (q f ∣ j)) = (dl_pass q d f j && !(decide (q f ∣ d) && decide (q f ∣ j)))
    rw [decide_eq_true h, Bool.true_and])
  have e2' : fb_ct (fun j => dl_pass q d f j && (fun j => decide (q f ∣ j)) j) d = fb_ct (dl_pass q d f) L := e2
  have e4' : fb_ct (fun j => dl_pass q d f j && !(fun j => decide (q f ∣ j)) j) d = fb_ct (dl_pass q d (f + 1)) d := e4
  rw [e2', e4'] at e3
  rw [e1, Nat.mul_div_cancel_left _ hq0]
  rw [e1] at e3
  have e5 : q f * fb_ct (dl_pass q d f) L = fb_ct (dl_pass q d f) L * (q f - 1) + fb_ct (dl_pass q d f) L := by
    rw [Nat.mul_comm]
    conv => lhs; rw [show q f = (q f - 1) + 1 by omega]
    rw [Nat.mul_add, Nat.mul_one]
  omega
theorem dl_pass_true {q : Nat → Nat} {d j : Nat} : ∀ (f : Nat), dl_pass q d f j = true ↔ ∀ i, i < f → q i ∣ d → ¬ q i ∣ j
  | 0 => ⟨fun _ i hi => by omega, fun _ => rfl⟩
  | f + 1 => by
    rw [dl_pass, Bool.and_eq_true, dl_pass_true f]
    constructor
    · rintro ⟨h1, h2⟩ i hi hd hj
      rcases Nat.lt_or_ge i f with z | z
      · exact h1 i z hd hj
      · have e : i = f := by omega
        subst e
        rw [decide_eq_true hd, decide_eq_true hj] at h2
        cases h2
    · intro h
      refine ⟨fun i hi => h i (by omega), ?_⟩
      by_cases hd : q f ∣ d
      · rw [decide_eq_false (h f (by omega) hd), Bool.and_false]
        rfl
      · rw [decide_eq_false hd, Bool.false_and]
        rfl
theorem dl_tot_end {N d f nf : Nat} {q t : Nat → Nat} (hF : dl_F N nf q t) (hd : d ∣ N) (hf : nf ≤ f) (hfn : f ≤ nf) : fb_ct (dl_pass q d f) d = dl_phi d := fb_ct_cong (fun j _ => by
  have hb : dl_pass q d f j = true ↔ Nat.gcd j d = 1 := by
    rw [dl_pass_true]
    constructor
    · intro h
      rw [Nat.gcd_eq_one_iff]
      intro c hc1 hc2
      rcases Nat.lt_or_ge c 2 with z | z
      · rcases Nat.eq_zero_or_pos c with y | y
        · subst y
          have hd0 : d = 0 := Nat.eq_zero_of_zero_dvd hc2
          have hj0 : j = 0 := Nat.eq_zero_of_zero_dvd hc1
          have hN0 : N = 0 := by rw [hd0] at hd; exact Nat.eq_zero_of_zero_dvd hd
          obtain ⟨i, hi, e⟩ := hF.2.2 2 ⟨by omega, fun d h1 h2 => by omega⟩ (by rw [hN0]; exact Nat.dvd_zero 2)
          exact absurd (by rw [hj0]; exact Nat.dvd_zero _) (h i (by omega) (by rw [hd0]; exact Nat.dvd_zero _))
        · omega
      · obtain ⟨y, hy, hyc⟩ := dl_pf z
        obtain ⟨i, hi, e⟩ := hF.2.2 y hy (Nat.dvd_trans (Nat.dvd_trans hyc hc2) hd)
        subst e
        exact absurd (Nat.dvd_trans hyc hc1) (h i (by omega) (Nat.dvd_trans hyc hc2))
    · intro h i hi h1 h2
      have hp := (hF.1 i (by omega)).1
      exact dl_np1 hp (by rw [← h]; exact Nat.dvd_gcd h2 h1)
  cases hx : dl_pass q d f j with
  | true => exact (decide_eq_true (hb.mp hx)).symm
  | false => exact (decide_eq_false (fun z => by rw [hb.mpr z] at hx; cases hx)).symm)
/-! ===== units of order n, n a divisor of p - 1 ===== -/
theorem dl_cyc {p s n j : Nat} (hp : 1 < p) (hs : dl_ord p s n) : dl_ord p (s ^ j % p) n ↔ Nat.gcd j n = 1 := by
  have hn := hs.1
  constructor
  · intro h
    have hg0 : 0 < Nat.gcd j n := Nat.gcd_pos_of_pos_right j hn
    obtain ⟨a, ha⟩ := Nat.gcd_dvd_left j n
    obtain ⟨b, hb⟩ := Nat.gcd_dvd_right j n
    have hb0 : 0 < b := by
      rcases Nat.eq_zero_or_pos b with z | z
      · rw [z, Nat.mul_zero] at hb
        omega
      · exact z
    have e : (s ^ j % p) ^ b % p = 1 := by
      rw [dl_pow_pow, dl_ord_dvd hp hs]
      refine ⟨a, ?_⟩
      conv => lhs; rw [ha]
      conv => rhs; rw [hb]
      rw [Nat.mul_right_comm]
    have hd := (dl_ord_dvd hp h).mp e
    have hle := Nat.le_of_dvd hb0 hd
    rcases Nat.lt_or_ge (Nat.gcd j n) 2 with z | z
    · omega
    · have := Nat.mul_le_mul_right b z
      omega
  · intro hg
    refine ⟨hn, ?_, fun k h1 h2 e => ?_⟩
    · rw [dl_pow_pow, Nat.mul_comm]
      exact dl_powmul hp hs.2.1 j
    · rw [dl_pow_pow, dl_ord_dvd hp hs] at e
      have hc : Nat.Coprime n j := by rw [Nat.coprime_comm]; exact hg
      have := Nat.le_of_dvd h1 (hc.dvd_of_dvd_mul_left e)
      omega
/-- the units of order n are the powers, coprime to n, of g ^ ((p-1)/n) -/
theorem dl_uo {p g n u : Nat} (hP : dl_P p) (hg : dl_ord p g (p - 1)) (hn : n ∣ p - 1) (hu : dl_U p u) (ho : dl_ord p u n) : ∃ j, j < n ∧ Nat.gcd j n = 1 ∧ u = (g ^ ((p - 1) / n) % p) ^ j % p := by
  have hp := dl_P1 hP
  have hn0 := ho.1
  obtain ⟨w, hw⟩ := hn
  have e : (p - 1) / n = w := by rw [hw, Nat.mul_div_cancel_left _ hn0]
  have hw0 : 0 < w := by
    rcases Nat.eq_zero_or_pos w with z | z
    · have := hg.1
      rw [hw, z, Nat.mul_zero] at this
      omega
    · exact z
  rw [e]
  obtain ⟨i, hi, rfl⟩ := dl_units hp hg hu
  have h1 := ho.2.1
  rw [dl_pow_pow, dl_ord_dvd hp hg, hw, Nat.mul_comm i n] at h1
  obtain ⟨j, rfl⟩ := Nat.dvd_of_mul_dvd_mul_left hn0 h1
  have hjn : j < n := by
    rw [hw, Nat.mul_comm n w] at hi
    exact Nat.lt_of_mul_lt_mul_left hi
  have hs : dl_ord p (g ^ w % p) n := dl_ord_pow hp hw0 hn0 (by rw [Nat.mul_comm, ← hw]; exact hg)
  have e2 : g ^ (w * j) % p = (g ^ w % p) ^ j % p := by rw [dl_pow_pow]
  refine ⟨j, hjn, ?_, e2⟩
  rw [e2] at ho
  exact (dl_cyc hp hs).mp ho
theorem dl_uo_ord {p g n : Nat} (hp : 1 < p) (hg : dl_ord p g (p - 1)) (hn0 : 0 < n) (hn : n ∣ p - 1) : dl_ord p (g ^ ((p - 1) / n) % p) n := by
  obtain ⟨w, hw⟩ := hn
  have e : (p - 1) / n = w := by rw [hw, Nat.mul_div_cancel_left _ hn0]
  have hw0 : 0 < w := by
    rcases Nat.eq_zero_or_pos w with z | z
    · have := hg.1
      rw [hw, z, Nat.mul_zero] at this
      omega
    · exact z
  rw [e]
  exact dl_ord_pow hp hw0 hn0 (by rw [Nat.mul_comm, ← hw]; exact hg)
theorem dl_ocnt_phi {p n : Nat} (hP : dl_P p) (hn0 : 0 < n) (hn : n ∣ p - 1) : dl_ocnt p n = dl_phi n := by
  have hp := dl_P1 hP
  obtain ⟨r, hg⟩ := dl_root hP
  have hs := dl_uo_ord hp hg hn0 hn
  refine dl_ct_bij (P := fun _ => true) (f := fun j => (r ^ ((p - 1) / n) % p) ^ j % p) (n := n) (m := p) (fun u => @decide (dl_U p u ∧ dl_ord p u n) (Classical.propDecidable _)) (fun i _ => Nat.mod_lt _ (by omega)) (fun i j hij hj e => ?_) (fun y hy hx => ?_) |>.trans ?_
  · have := dl_inj_lt hp hs (by omega) hj e
    omega
  · have h1 := @of_decide_eq_true _ (Classical.propDecidable _) hx
    obtain ⟨j, hj, -, e⟩ := dl_uo hP hg hn h1.1 h1.2
    exact ⟨j, hj, e.symm⟩
  · refine fb_ct_cong (fun j _ => ?_)
    show @decide (dl_U p ((r ^ ((p - 1) / n) % p) ^ j % p) ∧ dl_ord p ((r ^ ((p - 1) / n) % p) ^ j % p) n) (Classical.propDecidable _) = decide (Nat.gcd j n = 1)
    by_cases hc : Nat.gcd j n = 1
    · have h2 := (dl_cyc hp hs).mpr hc
      rw [decide_eq_true hc]
      exact @decide_eq_true _ (Classical.propDecidable _) ⟨dl_U_ord hp h2 (Nat.mod_lt _ (by omega)), h2⟩
    · rw [decide_eq_false hc]
      exact @decide_eq_false _ (Classical.propDecidable _) (fun z => hc ((dl_cyc hp hs).mp z.2))
theorem dl_ocnt_no {p n : Nat} (hP : dl_P p) (hn : ¬ n ∣ p - 1) : dl_ocnt p n = 0 :=
  fb_ct_zero.mpr (fun u _ => @decide_eq_false _ (Classical.propDecidable _) (fun z => hn (dl_ord_dvdN hP z.1 z.2)))
theorem dl_uoo_no {p n : Nat} (hP : dl_P p) (hn : ¬ n ∣ p - 1) : R_uoo p n (-4) := Or.inr ⟨rfl, fun _ hv ho => hn (dl_ord_dvdN hP hv ho)⟩
/-- the least so far -/
def dl_low (p s n j bs : Nat) : Prop := (bs = p ∨ ∃ i, i < n ∧ Nat.gcd i n = 1 ∧ bs = s ^ i % p) ∧ ∀ i, i < j → Nat.gcd i n = 1 → bs ≤ s ^ i % p
theorem dl_low_s {p s n j bs : Nat} (h : dl_low p s n j bs) (hj : j < n) : (Nat.gcd j n = 1 → s ^ j % p < bs → dl_low p s n (j + 1) (s ^ j % p)) ∧ ((Nat.gcd j n = 1 → bs ≤ s ^ j % p) → dl_low p s n (j + 1) bs) := by
  obtain ⟨h1, h2⟩ := h
  refine ⟨fun hg hlt => ⟨Or.inr ⟨j, hj, hg, rfl⟩, fun i hi hgi => ?_⟩, fun hle => ⟨h1, fun i hi hgi => ?_⟩⟩
  · rcases Nat.lt_or_ge i j with z | z
    · have := h2 i z hgi
      omega
    · have e : i = j := by omega
      subst e
      exact Nat.le_refl _
  · rcases Nat.lt_or_ge i j with z | z
    · exact h2 i z hgi
    · have e : i = j := by omega
      subst e
      exact hle hgi
theorem dl_low_end {p g n bs : Nat} (hP : dl_P p) (hg : dl_ord p g (p - 1)) (hn0 : 0 < n) (hn : n ∣ p - 1) (h : dl_low p (g ^ ((p - 1) / n) % p) n n bs) : R_uoo p n (nI bs) := by
  have hp := dl_P1 hP
  have hs := dl_uo_ord hp hg hn0 hn
  obtain ⟨h1, h2⟩ := h
  have h3 : bs ≤ (g ^ ((p - 1) / n) % p) ^ (1 % n) % p := h2 (1 % n) (Nat.mod_lt _ hn0) (by
    rcases Nat.lt_or_ge 1 n with z | z
    · rw [Nat.mod_eq_of_lt z]
      exact Nat.gcd_one_left n
    · have e : n = 1 := by omega
      subst e
      rfl)
  have h4 : (g ^ ((p - 1) / n) % p) ^ (1 % n) % p < p := Nat.mod_lt _ (by omega)
  rcases h1 with e | ⟨i, hi, hgi, e⟩
  · omega
  · have h5 : dl_ord p bs n := by rw [e]; exact (dl_cyc hp hs).mpr hgi
    refine Or.inl ⟨bs, rfl, dl_U_ord hp h5 (by omega), h5, fun v hv hlt hov => ?_⟩
    obtain ⟨j, hj, hgj, ev⟩ := dl_uo hP hg hn hv hov
    have := h2 j hj hgj
    omega
/-- h ^ (x + 1), x below the order m of h: gcd n m of them are powers of g, whose order is n -/
theorem dl_common {p g h n m : Nat} (hP : dl_P p) (hg : dl_U p g) (hh : dl_U p h) (ho : dl_ord p g n) (hm : dl_ord p h m) (P : Nat → Bool) (hPx : ∀ x, x < m → (P x = true ↔ ∃ y, y < p - 1 ∧ g ^ y % p = h ^ (x + 1) % p)) : fb_ct P m = Nat.gcd n m := by
  have hp := dl_P1 hP
  have hm0 := hm.1
  have hn0 := ho.1
  have hd0 : 0 < Nat.gcd n m := Nat.gcd_pos_of_pos_right n hm0
  obtain ⟨w, hw⟩ := Nat.gcd_dvd_right n m
  obtain ⟨n', hn'⟩ := Nat.gcd_dvd_left n m
  have hw0 : 0 < w := by
    rcases Nat.eq_zero_or_pos w with z | z
    · rw [z, Nat.mul_zero] at hw
      omega
    · exact z
  have hcop : Nat.Coprime w n' := by
    have h1 := dl_cop_div (k := n) hm0
    have e1 : n / Nat.gcd n m = n' := by
      conv => lhs; lhs; rw [hn']
      exact Nat.mul_div_cancel_left _ hd0
    have e2 : m / Nat.gcd n m = w := by
      conv => lhs; lhs; rw [hw]
      exact Nat.mul_div_cancel_left _ hd0
    rw [e1, e2] at h1
    rw [Nat.coprime_comm]
    exact h1
  have key : ∀ x, (∃ y, y < p - 1 ∧ g ^ y % p = h ^ (x + 1) % p) ↔ w ∣ x + 1 := by
    intro x
    constructor
    · rintro ⟨y, -, e⟩
      have e3 : (h ^ (x + 1) % p) ^ n % p = 1 := by
        rw [← e, dl_pow_pow, Nat.mul_comm]
        exact dl_powmul hp ho.2.1 y
      rw [dl_pow_pow, dl_ord_dvd hp hm] at e3
      rw [hn', Nat.mul_left_comm] at e3
      conv at e3 => lhs; rw [hw]
      have e4 := Nat.dvd_of_mul_dvd_mul_left hd0 e3
      exact hcop.dvd_of_dvd_mul_right e4
    · rintro ⟨c, hc⟩
      have e3 : (h ^ (x + 1) % p) ^ n % p = 1 := by
        rw [dl_pow_pow, dl_ord_dvd hp hm, hc]
        refine ⟨c * n', ?_⟩
        conv => lhs; rw [hn']
        conv => rhs; lhs; rw [hw]
        simp only [Nat.mul_assoc, Nat.mul_left_comm, Nat.mul_comm]
      obtain ⟨y, hy, e⟩ := dl_log_ex hP hg (dl_U_pow hP hh (x + 1)) ho e3
      have := dl_ord_le hP hg ho
      exact ⟨y, by omega, e⟩
  have e5 : fb_ct P m = fb_ct (fun x => decide (x % w = w - 1)) m := fb_ct_cong (fun x hx => by
    have h1 := (hPx x hx).trans (key x)
    have h2 : w ∣ x + 1 ↔ x % w = w - 1 := by
      constructor
      · rintro ⟨c, hc⟩
        have hc0 : 0 < c := by
          rcases Nat.eq_zero_or_pos c with z | z
          · rw [z, Nat.mul_zero] at hc
            omega
          · exact z
        obtain ⟨c, rfl⟩ : ∃ k, c = k + 1 := ⟨c - 1, by omega⟩
        have e6 : x = (w - 1) + w * c := by
          rw [Nat.mul_add, Nat.mul_one] at hc
          omega
        rw [e6, Nat.add_mul_mod_self_left, Nat.mod_eq_of_lt (by omega)]
      · intro e
        have h3 := Nat.div_add_mod x w
        exact ⟨x / w + 1, by rw [Nat.mul_add, Nat.mul_one]; omega⟩
    cases hb : P x with
    | true => exact (decide_eq_true (h2.mp (h1.mp hb))).symm
    | false => exact (decide_eq_false (fun z => by rw [h1.mpr (h2.mpr z)] at hb; cases hb)).symm)
  rw [e5]
  conv => lhs; rw [hw, Nat.mul_comm]
  exact dl_ct_res (by omega) _
/-! ===== the guards of logWith ===== -/
theorem dl_notM1 {r m : Int32} (h : m < nI 1) : ¬ dl_isM r m := by
  rintro ⟨x, n, -, rfl, h1, h2, -⟩
  have := (nI_ltI (by omega) (by decide)).mp h
  omega
theorem dl_notM2 {r m : Int32} (h : nI 60 < m) : ¬ dl_isM r m := by
  rintro ⟨x, n, -, rfl, h1, h2, -⟩
  have := (nI_ltI (by decide) (by omega)).mp h
  omega
theorem dl_notM3 {r m : Int32} (h : r < 0) : ¬ dl_isM r m := by
  rintro ⟨x, n, rfl, -, h1, h2, h3⟩
  exact nI_pos (by omega) h
theorem dl_notM4 {r m : Int32} (h : ¬ r < m) : ¬ dl_isM r m := by
  rintro ⟨x, n, rfl, rfl, h1, h2, h3⟩
  exact h ((nI_ltI (by omega) (by omega)).mpr h3)
theorem dl_isM_of {r m : Int32} (h1 : ¬ m < nI 1) (h2 : ¬ nI 60 < m) (h3 : ¬ r < 0) (h4 : r < m) : ∃ x n, r = nI x ∧ m = nI n ∧ 1 ≤ n ∧ n ≤ 60 ∧ x < n := by
  obtain ⟨n, hn1, hn, rfl⟩ := dl_nat1 h1
  obtain ⟨x, hx, rfl⟩ := nI_of h3
  refine ⟨x, n, rfl, rfl, hn1, ?_, (nI_ltI hx hn).mp h4⟩
  rcases Nat.lt_or_ge 60 n with z | z
  · exact absurd ((nI_ltI (by decide) hn).mpr z) h2
  · exact z
end
section
set_option maxRecDepth 100000
section XD
variable {l : Launch} {D : va_G} {a : xA} {P O F : Int32} {B T K S : Nat → Int32} {p nf : Nat}
set_option maxHeartbeats 4000000 in
theorem mX0_totient {d : Nat} (hI : dl_I p nf B T) (hd0 : 0 < d) (hd : d ∣ p - 1) : dx_MI l yX0_totient (ws_ yX0_totient cX0_totient 4 (some .int)) (rm_ 0 0) D (xT a) (xW a (nI p) (nI (p - 1)) (nI nf) B T K S) [.ref a.1, .int (nI d)] (fun (r : Int32) (u : Unit) => r = nI (dl_phi d)) (fun _ => xW a (nI p) (nI (p - 1)) (nI nf) B T K S) := by
  refine dx_ofI (by decide) rfl (Nat.le_of_ble_eq_true rfl) ?_
  intro pg en sS mI aR bL mE cO A Q ls hx hb hml hown hts hA hK hP hD hS hl hret
  have hl : lv_has ls 4 [(0, .ref a.1), (1, .int (nI d))] := hl
  obtain ⟨hpp, hn5, q, t, hBT, hF⟩ := id hI
  have hp3 := hpp.1
  have hp9 := hpp.2.1
  have hd9 : d ≤ p - 1 := Nat.le_of_dvd (by omega) hd
  refine lv_iload_n hx hb dX0_totient_0 rfl (lv_at hl 1 rfl) ?_
  refine dn_top (show ((nI d) : Int32) = (nI (fb_ct (dl_pass q d 0) d)) from (congrArg nI (fb_ct_all.mpr (fun k _ => rfl)).symm)) ?_
  refine lv_istore_n (lv' := [(2, .int (nI (fb_ct (dl_pass q d 0) d))), (0, .ref a.1), (1, .int (nI d))]) hx hb dX0_totient_1 rfl hl (by decide) rfl (fun ls hl => ?_)
  refine lv_iconst (v := (nI 0)) hx hb dX0_totient_2 (by decide) ?_
  refine lv_istore_n (lv' := [(3, .int (nI 0)), (2, .int (nI (fb_ct (dl_pass q d 0) d))), (0, .ref a.1), (1, .int (nI d))]) hx hb dX0_totient_3 rfl hl (by decide) rfl (fun ls hl => ?_)
  have loop : ∀ (k9 : Nat) (f : Nat), (f ≤ nf) → (nf - f) < k9 → ∀ (H : Heap) (locs : List Loc), va_P D vwCl (xW a (nI p) (nI (p - 1)) (nI nf) B T K S) H → va_S A sS.heap H locs → ∀ ls : Array Slot, lv_has ls 4 [(0, .ref a.1), (1, .int (nI d)), (2, .int (nI (fb_ct (dl_pass q d f) d))), (3, .int (nI f))] → W pg l en (rm_ 0 0) sS mI aR bL mE cO H locs 0 0 Q (F0 mI 4 ls []) := by
    intro k9
    induction k9 with
    | zero => intros; omega
    | succ k9 ih =>
      intro f hf hn H locs hP hS ls hl
      have hct : fb_ct (dl_pass q d f) d ≤ d := fb_ct_le _ _
      refine lv_iload_n hx hb dX0_totient_4 rfl (lv_at hl 3 rfl) ?_
      refine lv_aload_n hx hb dX0_totient_5 rfl (lv_at hl 0 rfl) ?_
      refine xg_factors hx hb hts hown hK hP dX0_totient_6 ?_
      refine dn_icmp_ge (tgt := 47) hx hb dX0_totient_9 (by decide) (by omega) (by omega) (fun hc => ?_) (fun hc => ?_)
      · refine lv_iload_n hx hb dX0_totient_47 rfl (lv_at hl 2 rfl) ?_
        exact hret _ _ _ () _ _ dX0_totient_48 (by rw [dl_tot_end hF hd hc hf]) hP hD hS
      · obtain ⟨hq2, hq9, ht12, ht1, hqd⟩ := dl_Fb hpp hF hc
        refine lv_iload_n hx hb dX0_totient_12 rfl (lv_at hl 1 rfl) ?_
        refine lv_aload_n hx hb dX0_totient_13 rfl (lv_at hl 0 rfl) ?_
        refine xg_base hx hb hts hown hK hP dX0_totient_14 ?_
        refine lv_iload_n hx hb dX0_totient_17 rfl (lv_at hl 3 rfl) ?_
        refine xl_base hx hb hK hP (by omega) dX0_totient_18 ?_
        refine dn_top (show ((B f) : Int32) = (nI (q f)) from (hBT f hc).1) ?_
        refine dn_irem hx hb dX0_totient_19 (by omega) (by omega) (by omega) ?_
        refine dn_if_ne (tgt := 41) hx hb dX0_totient_20 (by decide) (Nat.lt_of_le_of_lt (Nat.mod_le _ _) (by omega)) (fun hm => ?_) (fun hm => ?_)
        · rw [← dl_tot_no (q := q) (d := d) (f := f) (fun z => by have := Nat.mod_eq_zero_of_dvd z; omega)] at hl
          refine lv_iinc (v := (nI (f + 1))) (lv' := [(3, .int (nI (f + 1))), (0, .ref a.1), (1, .int (nI d)), (2, .int (nI (fb_ct (dl_pass q d (f + 1)) d)))]) hx hb dX0_totient_41 hl (k := 3) rfl (nI_1 _) (by decide) rfl (fun ls hl => ?_)
          refine lv_goto (tgt := 4) hx hb dX0_totient_44 (by decide) ?_
          exact ih (f + 1) hc (by omega) _ _ hP hS ls (lv_sub hl [1, 2, 3, 0] rfl)
        · refine lv_iload_n hx hb dX0_totient_23 rfl (lv_at hl 2 rfl) ?_
          refine lv_aload_n hx hb dX0_totient_24 rfl (lv_at hl 0 rfl) ?_
          refine xg_base hx hb hts hown hK hP dX0_totient_25 ?_
          refine lv_iload_n hx hb dX0_totient_28 rfl (lv_at hl 3 rfl) ?_
          refine xl_base hx hb hK hP (by omega) dX0_totient_29 ?_
          refine dn_top (show ((B f) : Int32) = (nI (q f)) from (hBT f hc).1) ?_
          refine dn_idiv hx hb dX0_totient_30 (by omega) (by omega) (by omega) ?_
          refine lv_aload_n hx hb dX0_totient_31 rfl (lv_at hl 0 rfl) ?_
          refine xg_base hx hb hts hown hK hP dX0_totient_32 ?_
          refine lv_iload_n hx hb dX0_totient_35 rfl (lv_at hl 3 rfl) ?_
          refine xl_base hx hb hK hP (by omega) dX0_totient_36 ?_
          refine dn_top (show ((B f) : Int32) = (nI (q f)) from (hBT f hc).1) ?_
          refine lv_iconst (v := (nI 1)) hx hb dX0_totient_37 (by decide) ?_
          refine dn_isub hx hb dX0_totient_38 (by omega) ?_
          refine dn_imul hx hb dX0_totient_39 ?_
          refine dn_top (show ((nI (((fb_ct (dl_pass q d f) d) / (q f)) * ((q f) - 1))) : Int32) = (nI (fb_ct (dl_pass q d (f + 1)) d)) from (by rw [dl_tot_yes (fun i hi => (hF.1 i hi).1) hF.2.1 hc (Nat.dvd_of_mod_eq_zero hm)])) ?_
          refine lv_istore_n (lv' := [(2, .int (nI (fb_ct (dl_pass q d (f + 1)) d))), (0, .ref a.1), (1, .int (nI d)), (3, .int (nI f))]) hx hb dX0_totient_40 rfl hl (by decide) rfl (fun ls hl => ?_)
          refine lv_iinc (v := (nI (f + 1))) (lv' := [(3, .int (nI (f + 1))), (2, .int (nI (fb_ct (dl_pass q d (f + 1)) d))), (0, .ref a.1), (1, .int (nI d))]) hx hb dX0_totient_41 hl (k := 3) rfl (nI_1 _) (by decide) rfl (fun ls hl => ?_)
          refine lv_goto (tgt := 4) hx hb dX0_totient_44 (by decide) ?_
          exact ih (f + 1) hc (by omega) _ _ hP hS ls (lv_sub hl [2, 3, 1, 0] rfl)
  exact loop (nf + 1) 0 (by omega) (by omega) _ _ hP hS ls (lv_sub hl [2, 3, 1, 0] rfl)
set_option maxHeartbeats 4000000 in
theorem mX0_generators (hI : dl_I p nf B T) : dx_MI l yX0_generators (ws_ yX0_generators cX0_generators 1 (some .int)) (rm_ 1 23) D (xT a) (xW a (nI p) (nI (p - 1)) (nI nf) B T K S) [.ref a.1] (fun (r : Int32) (u : Unit) => r = nI (dl_ocnt p (p - 1))) (fun _ => xW a (nI p) (nI (p - 1)) (nI nf) B T K S) := by
  refine dx_ofI (by decide) rfl (Nat.le_of_ble_eq_true rfl) ?_
  intro pg en sS mI aR bL mE cO A Q ls hx hb hml hown hts hA hK hP hD hS hl hret
  have hl : lv_has ls 1 [(0, .ref a.1)] := hl
  obtain ⟨hpp, hn5, q, t, hBT, hF⟩ := id hI
  have hp3 := hpp.1
  have hp9 := hpp.2.1
  refine lv_aload_n hx hb dX0_generators_0 rfl (lv_at hl 0 rfl) ?_
  refine lv_aload_n hx hb dX0_generators_1 rfl (lv_at hl 0 rfl) ?_
  refine xg_order hx hb hts hown hK hP dX0_generators_2 ?_
  refine xc_I (As := [.int (nI (p - 1))]) (rest := []) hx hb hml hown hts (mX0_totient hI (by omega) (Nat.dvd_refl _)) (cw_X0_totient hts rfl rfl ⟨Nat.le_of_ble_eq_true rfl, Nat.le_of_ble_eq_true rfl⟩) hK hP hD hS hA rfl hl.1 rfl (Nat.le_of_ble_eq_true rfl) dX0_generators_5 (fun r _ H locs hw hP hD hS => ?_)
  obtain rfl : r = nI (dl_phi (p - 1)) := hw
  exact hret _ _ _ () _ _ dX0_generators_8 (by rw [dl_ocnt_phi hpp (by omega) (Nat.dvd_refl _)]) hP hD hS
set_option maxHeartbeats 4000000 in
theorem mX0_log {x y : Int32} (hI : dl_I p nf B T) : dx_MI l yX0_log (ws_ yX0_log cX0_log 3 (some .int)) (rm_ 6 165) D (xT a) (xW a (nI p) (nI (p - 1)) (nI nf) B T K S) [.ref a.1, .int x, .int y] (fun (r : Int32) (u : (Nat → Int32) × (Nat → Int32)) => R_log p x y r) (fun u => xW a (nI p) (nI (p - 1)) (nI nf) B T u.1 u.2) := by
  refine dx_ofI (by decide) rfl (Nat.le_of_ble_eq_true rfl) ?_
  intro pg en sS mI aR bL mE cO A Q ls hx hb hml hown hts hA hK hP hD hS hl hret
  have hl : lv_has ls 3 [(0, .ref a.1), (1, .int x), (2, .int y)] := hl
  obtain ⟨hpp, hn5, q, t, hBT, hF⟩ := id hI
  have hp3 := hpp.1
  have hp9 := hpp.2.1
  refine lv_aload_n hx hb dX0_log_0 rfl (lv_at hl 0 rfl) ?_
  refine lv_iload_n hx hb dX0_log_1 rfl (lv_at hl 1 rfl) ?_
  refine xc_I (As := [.int x]) (rest := []) hx hb hml hown hts (mX0_notUnit hp9) (cw_X0_notUnit hts rfl rfl ⟨Nat.le_of_ble_eq_true rfl, Nat.le_of_ble_eq_true rfl⟩) hK hP hD hS hA rfl hl.1 rfl (Nat.le_of_ble_eq_true rfl) dX0_log_2 (fun r _ H locs hw hP hD hS => ?_)
  rcases hw with ⟨rfl, hu⟩ | ⟨rfl, u, rfl, hu⟩
  · refine lv_if_ne (tgt := 16) hx hb dX0_log_5 (by decide) (fun h1 => ?_) (fun z => absurd z (by decide))
    refine lv_iconst (v := (-1)) hx hb dX0_log_16 (by decide) ?_
    exact hret _ _ _ (K, S) _ _ dX0_log_17 (Or.inl ⟨fun z => hu z.1, rfl⟩) hP hD hS
  · refine lv_if_ne (tgt := 16) hx hb dX0_log_5 (by decide) (fun z => absurd z (by decide)) (fun h1 => ?_)
    refine lv_aload_n hx hb dX0_log_8 rfl (lv_at hl 0 rfl) ?_
    refine lv_iload_n hx hb dX0_log_9 rfl (lv_at hl 2 rfl) ?_
    refine xc_I (As := [.int y]) (rest := []) hx hb hml hown hts (mX0_notUnit hp9) (cw_X0_notUnit hts rfl rfl ⟨Nat.le_of_ble_eq_true rfl, Nat.le_of_ble_eq_true rfl⟩) hK hP hD hS hA rfl hl.1 rfl (Nat.le_of_ble_eq_true rfl) dX0_log_10 (fun r _ H locs hw hP hD hS => ?_)
    rcases hw with ⟨rfl, hv⟩ | ⟨rfl, v, rfl, hv⟩
    · refine lv_if_eq (tgt := 18) hx hb dX0_log_13 (by decide) (fun z => absurd z (by decide)) (fun h2 => ?_)
      refine lv_iconst (v := (-1)) hx hb dX0_log_16 (by decide) ?_
      exact hret _ _ _ (K, S) _ _ dX0_log_17 (Or.inl ⟨fun z => hv z.2, rfl⟩) hP hD hS
    · refine lv_if_eq (tgt := 18) hx hb dX0_log_13 (by decide) (fun h2 => ?_) (fun z => absurd z (by decide))
      refine lv_aload_n hx hb dX0_log_18 rfl (lv_at hl 0 rfl) ?_
      refine lv_iload_n hx hb dX0_log_19 rfl (lv_at hl 1 rfl) ?_
      refine lv_iload_n hx hb dX0_log_20 rfl (lv_at hl 2 rfl) ?_
      refine xc_I (As := [.int (nI u), .int (nI v)]) (rest := []) hx hb hml hown hts (mX0_leastLog hI hu hv) (cw_X0_leastLog hts rfl rfl ⟨Nat.le_of_ble_eq_true rfl, Nat.le_of_ble_eq_true rfl⟩) hK hP hD hS hA rfl hl.1 rfl (Nat.le_of_ble_eq_true rfl) dX0_log_21 (fun r u H locs hw hP hD hS => ?_)
      obtain ⟨K3, S3⟩ := u
      have hP : va_P D vwCl (xW a (nI p) (nI (p - 1)) (nI nf) B T K3 S3) H := hP
      have hD : va_D A (xW a (nI p) (nI (p - 1)) (nI nf) B T K3 S3) := hD
      exact hret _ _ _ (K3, S3) _ _ dX0_log_24 (Or.inr ⟨u, v, rfl, hu, rfl, hv, dl_isLog_of hpp hu hw⟩) hP hD hS
set_option maxHeartbeats 4000000 in
theorem mX0_badRoot {x y : Int32} (hp9 : p ≤ 2039) : dx_MI l yX0_badRoot (ws_ yX0_badRoot cX0_badRoot 3 (some .boolean)) (rm_ 1 21) D (xT a) (xW a (nI p) O F B T K S) [.ref a.1, .int x, .int y] (fun (r : Int32) (u : Unit) => (r = 1 ∧ ¬ (dl_isU p x ∧ dl_isK 1 y)) ∨ (r = 0 ∧ dl_isU p x ∧ dl_isK 1 y)) (fun _ => xW a (nI p) O F B T K S) := by
  refine dx_ofZ (by decide) rfl (Nat.le_of_ble_eq_true rfl) ?_
  intro pg en sS mI aR bL mE cO A Q ls hx hb hml hown hts hA hK hP hD hS hl hret
  have hl : lv_has ls 3 [(0, .ref a.1), (1, .int x), (2, .int y)] := hl
  refine lv_aload_n hx hb dX0_badRoot_0 rfl (lv_at hl 0 rfl) ?_
  refine lv_iload_n hx hb dX0_badRoot_1 rfl (lv_at hl 1 rfl) ?_
  refine xc_I (As := [.int x]) (rest := []) hx hb hml hown hts (mX0_notUnit hp9) (cw_X0_notUnit hts rfl rfl ⟨Nat.le_of_ble_eq_true rfl, Nat.le_of_ble_eq_true rfl⟩) hK hP hD hS hA rfl hl.1 rfl (Nat.le_of_ble_eq_true rfl) dX0_badRoot_2 (fun r _ H locs hw hP hD hS => ?_)
  rcases hw with ⟨rfl, hu⟩ | ⟨rfl, hu⟩
  · refine lv_if_ne (tgt := 19) hx hb dX0_badRoot_5 (by decide) (fun h1 => ?_) (fun z => absurd z (by decide))
    refine lv_iconst (v := (nI 1)) hx hb dX0_badRoot_19 (by decide) ?_
    refine lv_goto (tgt := 24) hx hb dX0_badRoot_20 (by decide) ?_
    exact hret _ _ _ () _ _ dX0_badRoot_24 (Or.inr rfl) (Or.inl ⟨rfl, fun z => hu z.1⟩) hP hD hS
  · refine lv_if_ne (tgt := 19) hx hb dX0_badRoot_5 (by decide) (fun z => absurd z (by decide)) (fun h1 => ?_)
    refine lv_iload_n hx hb dX0_badRoot_8 rfl (lv_at hl 2 rfl) ?_
    refine lv_iconst (v := (nI 1)) hx hb dX0_badRoot_9 (by decide) ?_
    refine lv_icmp_lt (tgt := 19) hx hb dX0_badRoot_10 (by decide) (fun h2 => ?_) (fun h2 => ?_)
    · refine lv_iconst (v := (nI 1)) hx hb dX0_badRoot_19 (by decide) ?_
      refine lv_goto (tgt := 24) hx hb dX0_badRoot_20 (by decide) ?_
      exact hret _ _ _ () _ _ dX0_badRoot_24 (Or.inr rfl) (Or.inl ⟨rfl, fun z => dl_notK3 h2 z.2⟩) hP hD hS
    · refine lv_iload_n hx hb dX0_badRoot_13 rfl (lv_at hl 2 rfl) ?_
      refine lv_ldc (v := nI 1000000) hx hb hown (hts _ q87) dX0_badRoot_14 ?_
      refine lv_icmp_le (tgt := 23) hx hb dX0_badRoot_16 (by decide) (fun h3 => ?_) (fun h3 => ?_)
      · refine lv_iconst (v := (nI 0)) hx hb dX0_badRoot_23 (by decide) ?_
        obtain ⟨k, hk1, hk2, ek⟩ := dl_nat1 h2
        have hk3 : k ≤ 1000000 := (nI_leI hk2 (by decide)).mp (by rw [← ek]; exact h3)
        exact hret _ _ _ () _ _ dX0_badRoot_24 (Or.inl rfl) (Or.inr ⟨rfl, hu, k, ek, hk1, hk3⟩) hP hD hS
      · refine lv_iconst (v := (nI 1)) hx hb dX0_badRoot_19 (by decide) ?_
        refine lv_goto (tgt := 24) hx hb dX0_badRoot_20 (by decide) ?_
        exact hret _ _ _ () _ _ dX0_badRoot_24 (Or.inr rfl) (Or.inl ⟨rfl, fun z => dl_notK2 h3 1 z.2⟩) hP hD hS
set_option maxHeartbeats 4000000 in
theorem mX0_root {x y : Int32} (hI : dl_I p nf B T) : dx_MI l yX0_root (ws_ yX0_root cX0_root 13 (some .int)) (rm_ 6 165) D (xT a) (xW a (nI p) (nI (p - 1)) (nI nf) B T K S) [.ref a.1, .int x, .int y] (fun (r : Int32) (u : (Nat → Int32) × (Nat → Int32)) => R_root p x y r) (fun u => xW a (nI p) (nI (p - 1)) (nI nf) B T u.1 u.2) := by
  refine dx_ofI (by decide) rfl (Nat.le_of_ble_eq_true rfl) ?_
  intro pg en sS mI aR bL mE cO A Q ls hx hb hml hown hts hA hK hP hD hS hl hret
  have hl : lv_has ls 13 [(0, .ref a.1), (1, .int x), (2, .int y)] := hl
  obtain ⟨hpp, hn5, q, t, hBT, hF⟩ := id hI
  have hp3 := hpp.1
  have hp9 := hpp.2.1
  have hp1 := dl_P1 hpp
  refine lv_aload_n hx hb dX0_root_0 rfl (lv_at hl 0 rfl) ?_
  refine lv_iload_n hx hb dX0_root_1 rfl (lv_at hl 1 rfl) ?_
  refine lv_iload_n hx hb dX0_root_2 rfl (lv_at hl 2 rfl) ?_
  refine xc_I (As := [.int x, .int y]) (rest := []) hx hb hml hown hts (mX0_badRoot hp9) (cw_X0_badRoot hts rfl rfl ⟨Nat.le_of_ble_eq_true rfl, Nat.le_of_ble_eq_true rfl⟩) hK hP hD hS hA rfl hl.1 rfl (Nat.le_of_ble_eq_true rfl) dX0_root_3 (fun r _ H locs hw hP hD hS => ?_)
  rcases hw with ⟨rfl, hu⟩ | ⟨rfl, ⟨v, rfl, hv⟩, k, rfl, hk1, hk2⟩
  · refine lv_if_eq (tgt := 11) hx hb dX0_root_6 (by decide) (fun z => absurd z (by decide)) (fun h1 => ?_)
    refine lv_iconst (v := (-1)) hx hb dX0_root_9 (by decide) ?_
    exact hret _ _ _ (K, S) _ _ dX0_root_10 (Or.inl ⟨hu, rfl⟩) hP hD hS
  · refine lv_if_eq (tgt := 11) hx hb dX0_root_6 (by decide) (fun h1 => ?_) (fun z => absurd z (by decide))
    refine lv_aload_n hx hb dX0_root_11 rfl (lv_at hl 0 rfl) ?_
    refine xc_I (As := []) (rest := []) hx hb hml hown hts (mX0_generator hI) (cw_X0_generator hts rfl rfl ⟨Nat.le_of_ble_eq_true rfl, Nat.le_of_ble_eq_true rfl⟩) hK hP hD hS hA rfl hl.1 rfl (Nat.le_of_ble_eq_true rfl) dX0_root_12 (fun r _ H locs hw hP hD hS => ?_)
    obtain ⟨g, rfl, hg, hog, -⟩ := hw
    refine lv_istore_n (lv' := [(3, .int (nI g)), (0, .ref a.1), (1, .int (nI v)), (2, .int (nI k))]) hx hb dX0_root_15 rfl hl (by decide) rfl (fun ls hl => ?_)
    refine lv_aload_n hx hb dX0_root_16 rfl (lv_at hl 1 rfl) ?_
    refine lv_iload_n hx hb dX0_root_17 rfl (lv_at hl 0 rfl) ?_
    refine lv_iload_n hx hb dX0_root_18 rfl (lv_at hl 2 rfl) ?_
    refine xc_I (As := [.int (nI g), .int (nI v)]) (rest := []) hx hb hml hown hts (mX0_leastLog hI hg hv) (cw_X0_leastLog hts rfl rfl ⟨Nat.le_of_ble_eq_true rfl, Nat.le_of_ble_eq_true rfl⟩) hK hP hD hS hA rfl hl.1 rfl (Nat.le_of_ble_eq_true rfl) dX0_root_19 (fun r u H locs hw hP hD hS => ?_)
    obtain ⟨K3, S3⟩ := u
    have hP : va_P D vwCl (xW a (nI p) (nI (p - 1)) (nI nf) B T K3 S3) H := hP
    have hD : va_D A (xW a (nI p) (nI (p - 1)) (nI nf) B T K3 S3) := hD
    obtain ⟨x, rfl, hx9, ex⟩ : ∃ x, r = nI x ∧ x < p - 1 ∧ g ^ x % p = v := by
      rcases hw with ⟨-, hno⟩ | ⟨x, n, e, ho, hx, ex⟩
      · obtain ⟨i, -, ei⟩ := dl_units hp1 hog hv
        exact absurd ei (hno i)
      · have hn := dl_ord_le hpp hg ho
        exact ⟨x, e, by omega, ex⟩
    refine lv_istore (lv' := [(4, .int (nI x)), (3, .int (nI g)), (0, .ref a.1), (1, .int (nI v)), (2, .int (nI k))]) hx hb dX0_root_22 hl (by decide) rfl (fun ls hl => ?_)
    refine lv_aload_n hx hb dX0_root_24 rfl (lv_at hl 2 rfl) ?_
    refine lv_iload_n hx hb dX0_root_25 rfl (lv_at hl 4 rfl) ?_
    refine lv_aload_n hx hb dX0_root_26 rfl (lv_at hl 2 rfl) ?_
    refine xg_order hx hb hts hown hK hP dX0_root_27 ?_
    refine xc_I (As := [.int (nI k), .int (nI (p - 1))]) (rest := []) hx hb hml hown hts (mX0_gcd (by omega) (by omega)) (cw_X0_gcd hts rfl rfl ⟨Nat.le_of_ble_eq_true rfl, Nat.le_of_ble_eq_true rfl⟩) hK hP hD hS hA rfl hl.1 rfl (Nat.le_of_ble_eq_true rfl) dX0_root_30 (fun r _ H locs hw hP hD hS => ?_)
    obtain rfl : r = nI (Nat.gcd k (p - 1)) := hw
    obtain ⟨dd, hdd⟩ : ∃ z, z = Nat.gcd k (p - 1) := ⟨_, rfl⟩
    have hd0 : 0 < dd := by rw [hdd]; exact Nat.gcd_pos_of_pos_right k (by omega)
    have hd9 : dd ≤ p - 1 := by rw [hdd]; exact Nat.gcd_le_right k (by omega)
    refine dn_top (show ((nI (Nat.gcd k (p - 1))) : Int32) = (nI dd) from (by rw [hdd])) ?_
    refine lv_istore (lv' := [(5, .int (nI dd)), (4, .int (nI x)), (3, .int (nI g)), (0, .ref a.1), (1, .int (nI v)), (2, .int (nI k))]) hx hb dX0_root_33 hl (by decide) rfl (fun ls hl => ?_)
    refine lv_iload hx hb dX0_root_35 (lv_at hl 0 rfl) ?_
    refine lv_iconst (v := (nI 1)) hx hb dX0_root_37 (by decide) ?_
    refine dn_icmp_lt (tgt := 49) hx hb dX0_root_38 (by decide) (by omega) (by omega) (fun z => absurd z (by omega)) (fun h2 => ?_)
    refine lv_iload hx hb dX0_root_41 (lv_at hl 1 rfl) ?_
    refine lv_iload hx hb dX0_root_43 (lv_at hl 0 rfl) ?_
    refine dn_irem hx hb dX0_root_45 (by omega) (by omega) (by omega) ?_
    refine dn_if_eq (tgt := 52) hx hb dX0_root_46 (by decide) (Nat.lt_of_le_of_lt (Nat.mod_le _ _) (by omega)) (fun hm => ?_) (fun hm => ?_)
    · refine lv_aload_n hx hb dX0_root_52 rfl (lv_at hl 3 rfl) ?_
      refine xg_order hx hb hts hown hK hP dX0_root_53 ?_
      refine lv_iload hx hb dX0_root_56 (lv_at hl 0 rfl) ?_
      refine dn_idiv hx hb dX0_root_58 (by omega) (by omega) (by omega) ?_
      obtain ⟨mm, hmm⟩ : ∃ z, z = (p - 1) / dd := ⟨_, rfl⟩
      have hm0 : 0 < mm := by rw [hmm]; exact Nat.div_pos hd9 hd0
      have hm9 : mm ≤ p - 1 := by rw [hmm]; exact Nat.div_le_self _ _
      refine dn_top (show ((nI ((p - 1) / dd)) : Int32) = (nI mm) from (by rw [hmm])) ?_
      refine lv_istore (lv' := [(6, .int (nI mm)), (5, .int (nI dd)), (4, .int (nI x)), (3, .int (nI g)), (0, .ref a.1), (1, .int (nI v)), (2, .int (nI k))]) hx hb dX0_root_59 hl (by decide) rfl (fun ls hl => ?_)
      refine lv_aload_n hx hb dX0_root_61 rfl (lv_at hl 4 rfl) ?_
      refine lv_iload_n hx hb dX0_root_62 rfl (lv_at hl 6 rfl) ?_
      refine lv_iload hx hb dX0_root_63 (lv_at hl 1 rfl) ?_
      refine dn_idiv hx hb dX0_root_65 (by omega) (by omega) (by omega) ?_
      refine lv_iload hx hb dX0_root_66 (lv_at hl 0 rfl) ?_
      refine xc_I (As := [.int (nI (k / dd)), .int (nI mm)]) (rest := []) hx hb hml hown hts (mX0_invertBy hm0 (by omega) (Nat.lt_of_le_of_lt (Nat.div_le_self _ _) (by omega)) (by rw [hmm, hdd]; exact dl_cop_div (by omega))) (cw_X0_invertBy hts rfl rfl ⟨Nat.le_of_ble_eq_true rfl, Nat.le_of_ble_eq_true rfl⟩) hK hP hD hS hA rfl hl.1 rfl (Nat.le_of_ble_eq_true rfl) dX0_root_68 (fun r _ H locs hw hP hD hS => ?_)
      obtain ⟨s, rfl, hs1, hs2⟩ := hw
      refine lv_istore (lv' := [(7, .int (nI s)), (6, .int (nI mm)), (5, .int (nI dd)), (4, .int (nI x)), (3, .int (nI g)), (0, .ref a.1), (1, .int (nI v)), (2, .int (nI k))]) hx hb dX0_root_71 hl (by decide) rfl (fun ls hl => ?_)
      refine lv_aload_n hx hb dX0_root_73 rfl (lv_at hl 5 rfl) ?_
      refine lv_iload hx hb dX0_root_74 (lv_at hl 3 rfl) ?_
      refine lv_iload hx hb dX0_root_76 (lv_at hl 2 rfl) ?_
      refine dn_idiv hx hb dX0_root_78 (by omega) (by omega) (by omega) ?_
      refine lv_iload hx hb dX0_root_79 (lv_at hl 0 rfl) ?_
      refine lv_iload hx hb dX0_root_81 (lv_at hl 1 rfl) ?_
      refine xc_I (As := [.int (nI (x / dd)), .int (nI s), .int (nI mm)]) (rest := []) hx hb hml hown hts (mX0_timesBy (Nat.lt_of_le_of_lt (Nat.div_le_self _ _) (by omega)) (by omega) hm0 (by omega)) (cw_X0_timesBy hts rfl rfl ⟨Nat.le_of_ble_eq_true rfl, Nat.le_of_ble_eq_true rfl⟩) hK hP hD hS hA rfl hl.1 rfl (Nat.le_of_ble_eq_true rfl) dX0_root_83 (fun r _ H locs hw hP hD hS => ?_)
      obtain rfl : r = nI (x / dd * s % mm) := hw
      obtain ⟨cc, hcc⟩ : ∃ z, z = x / dd * s % mm := ⟨_, rfl⟩
      have hc9 : cc < mm := by rw [hcc]; exact Nat.mod_lt _ hm0
      refine dn_top (show ((nI (x / dd * s % mm)) : Int32) = (nI cc) from (by rw [hcc])) ?_
      refine lv_istore (lv' := [(8, .int (nI cc)), (7, .int (nI s)), (6, .int (nI mm)), (5, .int (nI dd)), (4, .int (nI x)), (3, .int (nI g)), (0, .ref a.1), (1, .int (nI v)), (2, .int (nI k))]) hx hb dX0_root_86 hl (by decide) rfl (fun ls hl => ?_)
      refine lv_aload_n hx hb dX0_root_88 rfl (lv_at hl 6 rfl) ?_
      refine lv_iload_n hx hb dX0_root_89 rfl (lv_at hl 5 rfl) ?_
      refine lv_iload hx hb dX0_root_90 (lv_at hl 0 rfl) ?_
      refine xc_I (As := [.int (nI g), .int (nI cc)]) (rest := []) hx hb hml hown hts (mX0_pow hp1 hp9 hg.2 (by omega)) (cw_X0_pow hts rfl rfl ⟨Nat.le_of_ble_eq_true rfl, Nat.le_of_ble_eq_true rfl⟩) hK hP hD hS hA rfl hl.1 rfl (Nat.le_of_ble_eq_true rfl) dX0_root_92 (fun r _ H locs hw hP hD hS => ?_)
      obtain rfl : r = nI (g ^ cc % p) := hw
      refine dn_top (show ((nI (g ^ cc % p)) : Int32) = (nI (g ^ (cc + mm * 0) % p)) from (by rw [Nat.mul_zero, Nat.add_zero])) ?_
      refine lv_istore (lv' := [(9, .int (nI (g ^ (cc + mm * 0) % p))), (8, .int (nI cc)), (7, .int (nI s)), (6, .int (nI mm)), (5, .int (nI dd)), (4, .int (nI x)), (3, .int (nI g)), (0, .ref a.1), (1, .int (nI v)), (2, .int (nI k))]) hx hb dX0_root_95 hl (by decide) rfl (fun ls hl => ?_)
      refine lv_aload_n hx hb dX0_root_97 rfl (lv_at hl 7 rfl) ?_
      refine lv_iload_n hx hb dX0_root_98 rfl (lv_at hl 6 rfl) ?_
      refine lv_iload hx hb dX0_root_99 (lv_at hl 3 rfl) ?_
      refine xc_I (As := [.int (nI g), .int (nI mm)]) (rest := []) hx hb hml hown hts (mX0_pow hp1 hp9 hg.2 (by omega)) (cw_X0_pow hts rfl rfl ⟨Nat.le_of_ble_eq_true rfl, Nat.le_of_ble_eq_true rfl⟩) hK hP hD hS hA rfl hl.1 rfl (Nat.le_of_ble_eq_true rfl) dX0_root_101 (fun r _ H locs hw hP hD hS => ?_)
      obtain rfl : r = nI (g ^ mm % p) := hw
      refine lv_istore (lv' := [(10, .int (nI (g ^ mm % p))), (9, .int (nI (g ^ (cc + mm * 0) % p))), (8, .int (nI cc)), (7, .int (nI s)), (6, .int (nI mm)), (5, .int (nI dd)), (4, .int (nI x)), (3, .int (nI g)), (0, .ref a.1), (1, .int (nI v)), (2, .int (nI k))]) hx hb dX0_root_104 hl (by decide) rfl (fun ls hl => ?_)
      refine lv_iload hx hb dX0_root_106 (lv_at hl 1 rfl) ?_
      refine lv_istore (lv' := [(11, .int (nI (g ^ (cc + mm * 0) % p))), (10, .int (nI (g ^ mm % p))), (9, .int (nI (g ^ (cc + mm * 0) % p))), (8, .int (nI cc)), (7, .int (nI s)), (6, .int (nI mm)), (5, .int (nI dd)), (4, .int (nI x)), (3, .int (nI g)), (0, .ref a.1), (1, .int (nI v)), (2, .int (nI k))]) hx hb dX0_root_108 hl (by decide) rfl (fun ls hl => ?_)
      refine lv_iconst (v := (nI 0)) hx hb dX0_root_110 (by decide) ?_
      refine lv_istore (lv' := [(12, .int (nI 0)), (11, .int (nI (g ^ (cc + mm * 0) % p))), (10, .int (nI (g ^ mm % p))), (9, .int (nI (g ^ (cc + mm * 0) % p))), (8, .int (nI cc)), (7, .int (nI s)), (6, .int (nI mm)), (5, .int (nI dd)), (4, .int (nI x)), (3, .int (nI g)), (0, .ref a.1), (1, .int (nI v)), (2, .int (nI k))]) hx hb dX0_root_111 hl (by decide) rfl (fun ls hl => ?_)
      have hlt : ∀ i, g ^ i % p < p := fun i => Nat.mod_lt _ (by omega)
      have loop : ∀ (k9 : Nat) (j bs : Nat), (j ≤ dd) → (dl_best p g cc mm dd j bs) → (dd - j) < k9 → ∀ (H : Heap) (locs : List Loc), va_P D vwCl (xW a (nI p) (nI (p - 1)) (nI nf) B T K3 S3) H → va_S A sS.heap H locs → ∀ ls : Array Slot, lv_has ls 13 [(0, .ref a.1), (5, .int (nI dd)), (9, .int (nI (g ^ (cc + mm * j) % p))), (10, .int (nI (g ^ mm % p))), (11, .int (nI bs)), (12, .int (nI j))] → W pg l en (rm_ 6 165) sS mI aR bL mE cO H locs 0 0 Q (F0 mI 113 ls []) := by
        intro k9
        induction k9 with
        | zero => intros; omega
        | succ k9 ih =>
          intro j bs hj hb2 hn H locs hP hS ls hl
          have hbs : bs < p := by
            obtain ⟨⟨i, -, e⟩, -⟩ := hb2
            rw [e]
            exact hlt _
          refine lv_iload hx hb dX0_root_113 (lv_at hl 5 rfl) ?_
          refine lv_iload hx hb dX0_root_115 (lv_at hl 1 rfl) ?_
          refine dn_icmp_ge (tgt := 155) hx hb dX0_root_117 (by decide) (by omega) (by omega) (fun hc => ?_) (fun hc => ?_)
          · refine lv_iload hx hb dX0_root_155 (lv_at hl 4 rfl) ?_
            have hjd : j = dd := by omega
            subst hjd
            exact hret _ _ _ (K3, S3) _ _ dX0_root_157 (Or.inr ⟨v, k, rfl, hv, rfl, hk1, hk2, by subst hcc hmm hdd; exact dl_root_end hpp hg hog ex hm hs2 rfl hb2⟩) hP hD hS
          · refine lv_iload hx hb dX0_root_120 (lv_at hl 5 rfl) ?_
            refine lv_sipush (v := (nI 2039)) hx hb dX0_root_122 (by decide) ?_
            refine dn_icmp_ge (tgt := 155) hx hb dX0_root_125 (by decide) (by omega) (by omega) (fun z => absurd z (by omega)) (fun h9 => ?_)
            refine lv_iload hx hb dX0_root_128 (lv_at hl 2 rfl) ?_
            refine lv_iload hx hb dX0_root_130 (lv_at hl 4 rfl) ?_
            refine dn_icmp_ge (tgt := 139) hx hb dX0_root_132 (by decide) (Nat.lt_trans (hlt _) (by omega)) (by omega) (fun hb3 => ?_) (fun hb3 => ?_)
            · refine lv_aload_n hx hb dX0_root_139 rfl (lv_at hl 0 rfl) ?_
              refine lv_iload hx hb dX0_root_140 (lv_at hl 2 rfl) ?_
              refine lv_iload hx hb dX0_root_142 (lv_at hl 3 rfl) ?_
              refine xc_I (As := [.int (nI (g ^ (cc + mm * j) % p)), .int (nI (g ^ mm % p))]) (rest := []) hx hb hml hown hts (mX0_mul (by omega) hp9 (dl_mlt hp9 (hlt _) (hlt _))) (cw_X0_mul hts rfl rfl ⟨Nat.le_of_ble_eq_true rfl, Nat.le_of_ble_eq_true rfl⟩) hK hP hD hS hA rfl hl.1 rfl (Nat.le_of_ble_eq_true rfl) dX0_root_144 (fun r _ H locs hw hP hD hS => ?_)
              obtain rfl : r = nI (g ^ (cc + mm * j) % p * (g ^ mm % p) % p) := hw
              refine dn_top (show ((nI (g ^ (cc + mm * j) % p * (g ^ mm % p) % p)) : Int32) = (nI (g ^ (cc + mm * (j + 1)) % p)) from (by rw [dl_turn])) ?_
              refine lv_istore (lv' := [(9, .int (nI (g ^ (cc + mm * (j + 1)) % p))), (0, .ref a.1), (5, .int (nI dd)), (10, .int (nI (g ^ mm % p))), (11, .int (nI bs)), (12, .int (nI j))]) hx hb dX0_root_147 hl (by decide) rfl (fun ls hl => ?_)
              refine lv_iinc (v := (nI (j + 1))) (lv' := [(12, .int (nI (j + 1))), (9, .int (nI (g ^ (cc + mm * (j + 1)) % p))), (0, .ref a.1), (5, .int (nI dd)), (10, .int (nI (g ^ mm % p))), (11, .int (nI bs))]) hx hb dX0_root_149 hl (k := 5) rfl (nI_1 _) (by decide) rfl (fun ls hl => ?_)
              refine lv_goto (tgt := 113) hx hb dX0_root_152 (by decide) ?_
              exact ih (j + 1) bs hc ((dl_best_s hb2 hc).2 hb3) (by omega) _ _ hP hS ls (lv_sub hl [2, 3, 1, 4, 5, 0] rfl)
            · refine lv_iload hx hb dX0_root_135 (lv_at hl 2 rfl) ?_
              refine lv_istore (lv' := [(11, .int (nI (g ^ (cc + mm * j) % p))), (0, .ref a.1), (5, .int (nI dd)), (9, .int (nI (g ^ (cc + mm * j) % p))), (10, .int (nI (g ^ mm % p))), (12, .int (nI j))]) hx hb dX0_root_137 hl (by decide) rfl (fun ls hl => ?_)
              refine lv_aload_n hx hb dX0_root_139 rfl (lv_at hl 1 rfl) ?_
              refine lv_iload hx hb dX0_root_140 (lv_at hl 3 rfl) ?_
              refine lv_iload hx hb dX0_root_142 (lv_at hl 4 rfl) ?_
              refine xc_I (As := [.int (nI (g ^ (cc + mm * j) % p)), .int (nI (g ^ mm % p))]) (rest := []) hx hb hml hown hts (mX0_mul (by omega) hp9 (dl_mlt hp9 (hlt _) (hlt _))) (cw_X0_mul hts rfl rfl ⟨Nat.le_of_ble_eq_true rfl, Nat.le_of_ble_eq_true rfl⟩) hK hP hD hS hA rfl hl.1 rfl (Nat.le_of_ble_eq_true rfl) dX0_root_144 (fun r _ H locs hw hP hD hS => ?_)
              obtain rfl : r = nI (g ^ (cc + mm * j) % p * (g ^ mm % p) % p) := hw
              refine dn_top (show ((nI (g ^ (cc + mm * j) % p * (g ^ mm % p) % p)) : Int32) = (nI (g ^ (cc + mm * (j + 1)) % p)) from (by rw [dl_turn])) ?_
              refine lv_istore (lv' := [(9, .int (nI (g ^ (cc + mm * (j + 1)) % p))), (11, .int (nI (g ^ (cc + mm * j) % p))), (0, .ref a.1), (5, .int (nI dd)), (10, .int (nI (g ^ mm % p))), (12, .int (nI j))]) hx hb dX0_root_147 hl (by decide) rfl (fun ls hl => ?_)
              refine lv_iinc (v := (nI (j + 1))) (lv' := [(12, .int (nI (j + 1))), (9, .int (nI (g ^ (cc + mm * (j + 1)) % p))), (11, .int (nI (g ^ (cc + mm * j) % p))), (0, .ref a.1), (5, .int (nI dd)), (10, .int (nI (g ^ mm % p)))]) hx hb dX0_root_149 hl (k := 5) rfl (nI_1 _) (by decide) rfl (fun ls hl => ?_)
              refine lv_goto (tgt := 113) hx hb dX0_root_152 (by decide) ?_
              exact ih (j + 1) _ hc ((dl_best_s hb2 hc).1 hb3) (by omega) _ _ hP hS ls (lv_sub hl [3, 4, 1, 5, 2, 0] rfl)
      exact loop (dd + 1) 0 _ (by omega) ⟨⟨0, hd0, rfl⟩, fun i hi => by omega⟩ (by omega) _ _ hP hS ls (lv_sub hl [10, 7, 3, 2, 1, 0] rfl)
    · refine lv_bipush (v := (-4)) hx hb dX0_root_49 (by decide) ?_
      exact hret _ _ _ (K3, S3) _ _ dX0_root_51 (Or.inr ⟨v, k, rfl, hv, rfl, hk1, hk2, Or.inl ⟨rfl, dl_root_no hpp hog ex (by rw [← hdd]; omega)⟩⟩) hP hD hS
set_option maxHeartbeats 4000000 in
theorem mX0_roots {x y : Int32} (hI : dl_I p nf B T) : dx_MI l yX0_roots (ws_ yX0_roots cX0_roots 5 (some .int)) (rm_ 2 47) D (xT a) (xW a (nI p) (nI (p - 1)) (nI nf) B T K S) [.ref a.1, .int x, .int y] (fun (r : Int32) (u : Unit) => R_roots p x y r) (fun _ => xW a (nI p) (nI (p - 1)) (nI nf) B T K S) := by
  refine dx_ofI (by decide) rfl (Nat.le_of_ble_eq_true rfl) ?_
  intro pg en sS mI aR bL mE cO A Q ls hx hb hml hown hts hA hK hP hD hS hl hret
  have hl : lv_has ls 5 [(0, .ref a.1), (1, .int x), (2, .int y)] := hl
  obtain ⟨hpp, hn5, q, t, hBT, hF⟩ := id hI
  have hp3 := hpp.1
  have hp9 := hpp.2.1
  have hp1 := dl_P1 hpp
  refine lv_aload_n hx hb dX0_roots_0 rfl (lv_at hl 0 rfl) ?_
  refine lv_iload_n hx hb dX0_roots_1 rfl (lv_at hl 1 rfl) ?_
  refine lv_iload_n hx hb dX0_roots_2 rfl (lv_at hl 2 rfl) ?_
  refine xc_I (As := [.int x, .int y]) (rest := []) hx hb hml hown hts (mX0_badRoot hp9) (cw_X0_badRoot hts rfl rfl ⟨Nat.le_of_ble_eq_true rfl, Nat.le_of_ble_eq_true rfl⟩) hK hP hD hS hA rfl hl.1 rfl (Nat.le_of_ble_eq_true rfl) dX0_roots_3 (fun r _ H locs hw hP hD hS => ?_)
  rcases hw with ⟨rfl, hu⟩ | ⟨rfl, ⟨v, rfl, hv⟩, k, rfl, hk1, hk2⟩
  · refine lv_if_eq (tgt := 11) hx hb dX0_roots_6 (by decide) (fun z => absurd z (by decide)) (fun h1 => ?_)
    refine lv_iconst (v := (-1)) hx hb dX0_roots_9 (by decide) ?_
    exact hret _ _ _ () _ _ dX0_roots_10 (Or.inl ⟨hu, rfl⟩) hP hD hS
  · refine lv_if_eq (tgt := 11) hx hb dX0_roots_6 (by decide) (fun h1 => ?_) (fun z => absurd z (by decide))
    refine lv_aload_n hx hb dX0_roots_11 rfl (lv_at hl 0 rfl) ?_
    refine lv_iload_n hx hb dX0_roots_12 rfl (lv_at hl 2 rfl) ?_
    refine lv_aload_n hx hb dX0_roots_13 rfl (lv_at hl 0 rfl) ?_
    refine xg_order hx hb hts hown hK hP dX0_roots_14 ?_
    refine xc_I (As := [.int (nI k), .int (nI (p - 1))]) (rest := []) hx hb hml hown hts (mX0_gcd (by omega) (by omega)) (cw_X0_gcd hts rfl rfl ⟨Nat.le_of_ble_eq_true rfl, Nat.le_of_ble_eq_true rfl⟩) hK hP hD hS hA rfl hl.1 rfl (Nat.le_of_ble_eq_true rfl) dX0_roots_17 (fun r _ H locs hw hP hD hS => ?_)
    obtain rfl : r = nI (Nat.gcd k (p - 1)) := hw
    have hd0 : 0 < Nat.gcd k (p - 1) := Nat.gcd_pos_of_pos_right k (by omega)
    have hd9 : Nat.gcd k (p - 1) ≤ p - 1 := Nat.gcd_le_right k (by omega)
    refine lv_istore_n (lv' := [(3, .int (nI (Nat.gcd k (p - 1)))), (0, .ref a.1), (1, .int (nI v)), (2, .int (nI k))]) hx hb dX0_roots_20 rfl hl (by decide) rfl (fun ls hl => ?_)
    refine lv_iload_n hx hb dX0_roots_21 rfl (lv_at hl 0 rfl) ?_
    refine lv_iconst (v := (nI 1)) hx hb dX0_roots_22 (by decide) ?_
    refine dn_icmp_ge (tgt := 28) hx hb dX0_roots_23 (by decide) (by omega) (by omega) (fun h2 => ?_) (fun z => absurd z (by omega))
    refine lv_aload_n hx hb dX0_roots_28 rfl (lv_at hl 1 rfl) ?_
    refine lv_iload_n hx hb dX0_roots_29 rfl (lv_at hl 2 rfl) ?_
    refine lv_aload_n hx hb dX0_roots_30 rfl (lv_at hl 1 rfl) ?_
    refine xg_order hx hb hts hown hK hP dX0_roots_31 ?_
    refine lv_iload_n hx hb dX0_roots_34 rfl (lv_at hl 0 rfl) ?_
    refine dn_idiv hx hb dX0_roots_35 (by omega) (by omega) (by omega) ?_
    refine xc_I (As := [.int (nI v), .int (nI ((p - 1) / (Nat.gcd k (p - 1))))]) (rest := []) hx hb hml hown hts (mX0_pow hp1 hp9 hv.2 (Nat.lt_of_le_of_lt (Nat.div_le_self _ _) (by omega))) (cw_X0_pow hts rfl rfl ⟨Nat.le_of_ble_eq_true rfl, Nat.le_of_ble_eq_true rfl⟩) hK hP hD hS hA rfl hl.1 rfl (Nat.le_of_ble_eq_true rfl) dX0_roots_36 (fun r _ H locs hw hP hD hS => ?_)
    obtain rfl : r = nI (v ^ ((p - 1) / Nat.gcd k (p - 1)) % p) := hw
    refine lv_istore (lv' := [(4, .int (nI (v ^ ((p - 1) / Nat.gcd k (p - 1)) % p))), (3, .int (nI (Nat.gcd k (p - 1)))), (0, .ref a.1), (1, .int (nI v)), (2, .int (nI k))]) hx hb dX0_roots_39 hl (by decide) rfl (fun ls hl => ?_)
    refine lv_iload hx hb dX0_roots_41 (lv_at hl 0 rfl) ?_
    refine lv_iconst (v := (nI 1)) hx hb dX0_roots_43 (by decide) ?_
    refine dn_icmp_ne (tgt := 51) hx hb dX0_roots_44 (by decide) (Nat.lt_trans (Nat.mod_lt _ (by omega)) (by omega)) (by omega) (fun hc => ?_) (fun hc => ?_)
    · refine lv_iconst (v := (nI 0)) hx hb dX0_roots_51 (by decide) ?_
      exact hret _ _ _ () _ _ dX0_roots_52 (Or.inr ⟨v, k, rfl, hv, rfl, hk1, hk2, by rw [dl_roots_eq hpp hv, if_neg hc]⟩) hP hD hS
    · refine lv_iload_n hx hb dX0_roots_47 rfl (lv_at hl 1 rfl) ?_
      refine lv_goto (tgt := 52) hx hb dX0_roots_48 (by decide) ?_
      exact hret _ _ _ () _ _ dX0_roots_52 (Or.inr ⟨v, k, rfl, hv, rfl, hk1, hk2, by rw [dl_roots_eq hpp hv, if_pos hc]⟩) hP hD hS
set_option maxHeartbeats 4000000 in
theorem mX0_logWith {x y z m : Int32} (hI : dl_I p nf B T) : dx_MI l yX0_logWith (ws_ yX0_logWith cX0_logWith 12 (some .int)) (rm_ 6 165) D (xT a) (xW a (nI p) (nI (p - 1)) (nI nf) B T K S) [.ref a.1, .int x, .int y, .int z, .int m] (fun (r : Int32) (u : (Nat → Int32) × (Nat → Int32)) => R_logWith p x y z m r) (fun u => xW a (nI p) (nI (p - 1)) (nI nf) B T u.1 u.2) := by
  refine dx_ofI (by decide) rfl (Nat.le_of_ble_eq_true rfl) ?_
  intro pg en sS mI aR bL mE cO A Q ls hx hb hml hown hts hA hK hP hD hS hl hret
  have hl : lv_has ls 12 [(0, .ref a.1), (1, .int x), (2, .int y), (3, .int z), (4, .int m)] := hl
  obtain ⟨hpp, hn5, q, t, hBT, hF⟩ := id hI
  have hp3 := hpp.1
  have hp9 := hpp.2.1
  have hp1 := dl_P1 hpp
  refine lv_aload_n hx hb dX0_logWith_0 rfl (lv_at hl 0 rfl) ?_
  refine lv_iload_n hx hb dX0_logWith_1 rfl (lv_at hl 1 rfl) ?_
  refine xc_I (As := [.int x]) (rest := []) hx hb hml hown hts (mX0_notUnit hp9) (cw_X0_notUnit hts rfl rfl ⟨Nat.le_of_ble_eq_true rfl, Nat.le_of_ble_eq_true rfl⟩) hK hP hD hS hA rfl hl.1 rfl (Nat.le_of_ble_eq_true rfl) dX0_logWith_2 (fun r _ H locs hw hP hD hS => ?_)
  rcases hw with ⟨rfl, hu⟩ | ⟨rfl, u, rfl, hu⟩
  · refine lv_if_ne (tgt := 39) hx hb dX0_logWith_5 (by decide) (fun h1 => ?_) (fun z => absurd z (by decide))
    refine lv_iconst (v := (-1)) hx hb dX0_logWith_39 (by decide) ?_
    exact hret _ _ _ (K, S) _ _ dX0_logWith_40 (Or.inl ⟨fun z => hu z.1, rfl⟩) hP hD hS
  · refine lv_if_ne (tgt := 39) hx hb dX0_logWith_5 (by decide) (fun z => absurd z (by decide)) (fun h1 => ?_)
    refine lv_aload_n hx hb dX0_logWith_8 rfl (lv_at hl 0 rfl) ?_
    refine lv_iload_n hx hb dX0_logWith_9 rfl (lv_at hl 2 rfl) ?_
    refine xc_I (As := [.int y]) (rest := []) hx hb hml hown hts (mX0_notUnit hp9) (cw_X0_notUnit hts rfl rfl ⟨Nat.le_of_ble_eq_true rfl, Nat.le_of_ble_eq_true rfl⟩) hK hP hD hS hA rfl hl.1 rfl (Nat.le_of_ble_eq_true rfl) dX0_logWith_10 (fun r _ H locs hw hP hD hS => ?_)
    rcases hw with ⟨rfl, hv⟩ | ⟨rfl, v, rfl, hv⟩
    · refine lv_if_ne (tgt := 39) hx hb dX0_logWith_13 (by decide) (fun h2 => ?_) (fun z => absurd z (by decide))
      refine lv_iconst (v := (-1)) hx hb dX0_logWith_39 (by decide) ?_
      exact hret _ _ _ (K, S) _ _ dX0_logWith_40 (Or.inl ⟨fun z => hv z.2.1, rfl⟩) hP hD hS
    · refine lv_if_ne (tgt := 39) hx hb dX0_logWith_13 (by decide) (fun z => absurd z (by decide)) (fun h2 => ?_)
      refine lv_iload hx hb dX0_logWith_16 (lv_at hl 4 rfl) ?_
      refine lv_iconst (v := (nI 1)) hx hb dX0_logWith_18 (by decide) ?_
      refine lv_icmp_lt (tgt := 39) hx hb dX0_logWith_19 (by decide) (fun g1 => ?_) (fun g1 => ?_)
      · refine lv_iconst (v := (-1)) hx hb dX0_logWith_39 (by decide) ?_
        exact hret _ _ _ (K, S) _ _ dX0_logWith_40 (Or.inl ⟨fun z => dl_notM1 g1 z.2.2, rfl⟩) hP hD hS
      · refine lv_iload hx hb dX0_logWith_22 (lv_at hl 4 rfl) ?_
        refine lv_bipush (v := (nI 60)) hx hb dX0_logWith_24 (by decide) ?_
        refine lv_icmp_gt (tgt := 39) hx hb dX0_logWith_26 (by decide) (fun g2 => ?_) (fun g2 => ?_)
        · refine lv_iconst (v := (-1)) hx hb dX0_logWith_39 (by decide) ?_
          exact hret _ _ _ (K, S) _ _ dX0_logWith_40 (Or.inl ⟨fun z => dl_notM2 g2 z.2.2, rfl⟩) hP hD hS
        · refine lv_iload_n hx hb dX0_logWith_29 rfl (lv_at hl 3 rfl) ?_
          refine lv_if_lt (tgt := 39) hx hb dX0_logWith_30 (by decide) (fun g3 => ?_) (fun g3 => ?_)
          · refine lv_iconst (v := (-1)) hx hb dX0_logWith_39 (by decide) ?_
            exact hret _ _ _ (K, S) _ _ dX0_logWith_40 (Or.inl ⟨fun z => dl_notM3 g3 z.2.2, rfl⟩) hP hD hS
          · refine lv_iload_n hx hb dX0_logWith_33 rfl (lv_at hl 3 rfl) ?_
            refine lv_iload hx hb dX0_logWith_34 (lv_at hl 4 rfl) ?_
            refine lv_icmp_lt (tgt := 41) hx hb dX0_logWith_36 (by decide) (fun g4 => ?_) (fun g4 => ?_)
            · obtain ⟨k, m, rfl, rfl, hm1, hm60, hkm⟩ := dl_isM_of g1 g2 g3 g4
              refine lv_aload_n hx hb dX0_logWith_41 rfl (lv_at hl 0 rfl) ?_
              refine lv_iload_n hx hb dX0_logWith_42 rfl (lv_at hl 1 rfl) ?_
              refine lv_iload_n hx hb dX0_logWith_43 rfl (lv_at hl 2 rfl) ?_
              refine xc_I (As := [.int (nI u), .int (nI v)]) (rest := []) hx hb hml hown hts (mX0_leastLog hI hu hv) (cw_X0_leastLog hts rfl rfl ⟨Nat.le_of_ble_eq_true rfl, Nat.le_of_ble_eq_true rfl⟩) hK hP hD hS hA rfl hl.1 rfl (Nat.le_of_ble_eq_true rfl) dX0_logWith_44 (fun r u H locs hw hP hD hS => ?_)
              obtain ⟨K3, S3⟩ := u
              have hP : va_P D vwCl (xW a (nI p) (nI (p - 1)) (nI nf) B T K3 S3) H := hP
              have hD : va_D A (xW a (nI p) (nI (p - 1)) (nI nf) B T K3 S3) := hD
              rcases hw with ⟨rfl, hno⟩ | ⟨x, n, rfl, ho, hxn, ex⟩
              · refine lv_istore (lv' := [(5, .int (-4)), (0, .ref a.1), (1, .int (nI u)), (2, .int (nI v)), (3, .int (nI k)), (4, .int (nI m))]) hx hb dX0_logWith_47 hl (by decide) rfl (fun ls hl => ?_)
                refine lv_iload hx hb dX0_logWith_49 (lv_at hl 0 rfl) ?_
                refine lv_if_ge (tgt := 57) hx hb dX0_logWith_51 (by decide) (fun z => absurd z (by decide)) (fun h3 => ?_)
                refine lv_bipush (v := (-4)) hx hb dX0_logWith_54 (by decide) ?_
                exact hret _ _ _ (K3, S3) _ _ dX0_logWith_56 (Or.inr ⟨u, v, k, m, rfl, hu, rfl, hv, rfl, rfl, hm1, hm60, hkm, dl_lw_no1 hno⟩) hP hD hS
              · have hn9 := dl_ord_le hpp hu ho
                have hn0 := ho.1
                refine lv_istore (lv' := [(5, .int (nI x)), (0, .ref a.1), (1, .int (nI u)), (2, .int (nI v)), (3, .int (nI k)), (4, .int (nI m))]) hx hb dX0_logWith_47 hl (by decide) rfl (fun ls hl => ?_)
                refine lv_iload hx hb dX0_logWith_49 (lv_at hl 0 rfl) ?_
                refine lv_if_ge (tgt := 57) hx hb dX0_logWith_51 (by decide) (fun h3 => ?_) (fun z => absurd z (fun z2 => z2 (nI_pos' (by omega))))
                refine lv_aload_n hx hb dX0_logWith_57 rfl (lv_at hl 1 rfl) ?_
                refine lv_iload_n hx hb dX0_logWith_58 rfl (lv_at hl 2 rfl) ?_
                refine xc_I (As := [.int (nI u)]) (rest := []) hx hb hml hown hts (mX0_orderOf hI hu) (cw_X0_orderOf hts rfl rfl ⟨Nat.le_of_ble_eq_true rfl, Nat.le_of_ble_eq_true rfl⟩) hK hP hD hS hA rfl hl.1 rfl (Nat.le_of_ble_eq_true rfl) dX0_logWith_59 (fun r _ H locs hw hP hD hS => ?_)
                obtain ⟨n2, rfl, ho2⟩ := hw
                obtain rfl := dl_ord_uniq ho ho2
                refine lv_istore (lv' := [(6, .int (nI n)), (5, .int (nI x)), (0, .ref a.1), (1, .int (nI u)), (2, .int (nI v)), (3, .int (nI k)), (4, .int (nI m))]) hx hb dX0_logWith_62 hl (by decide) rfl (fun ls hl => ?_)
                refine lv_aload_n hx hb dX0_logWith_64 rfl (lv_at hl 2 rfl) ?_
                refine lv_iload hx hb dX0_logWith_65 (lv_at hl 0 rfl) ?_
                refine lv_iload hx hb dX0_logWith_67 (lv_at hl 6 rfl) ?_
                refine xc_I (As := [.int (nI n), .int (nI m)]) (rest := []) hx hb hml hown hts (mX0_gcd (by omega) (by omega)) (cw_X0_gcd hts rfl rfl ⟨Nat.le_of_ble_eq_true rfl, Nat.le_of_ble_eq_true rfl⟩) hK hP hD hS hA rfl hl.1 rfl (Nat.le_of_ble_eq_true rfl) dX0_logWith_69 (fun r _ H locs hw hP hD hS => ?_)
                obtain rfl : r = nI (Nat.gcd n m) := hw
                have hd0 : 0 < Nat.gcd n m := Nat.gcd_pos_of_pos_right n (by omega)
                have hd9 : Nat.gcd n m ≤ m := Nat.gcd_le_right n (by omega)
                refine lv_istore (lv' := [(7, .int (nI (Nat.gcd n m))), (6, .int (nI n)), (5, .int (nI x)), (0, .ref a.1), (1, .int (nI u)), (2, .int (nI v)), (3, .int (nI k)), (4, .int (nI m))]) hx hb dX0_logWith_72 hl (by decide) rfl (fun ls hl => ?_)
                refine lv_iload_n hx hb dX0_logWith_74 rfl (lv_at hl 6 rfl) ?_
                refine lv_iload hx hb dX0_logWith_75 (lv_at hl 2 rfl) ?_
                refine lv_isub hx hb dX0_logWith_77 ?_
                refine lv_iload hx hb dX0_logWith_78 (lv_at hl 7 rfl) ?_
                refine lv_irem hx hb dX0_logWith_80 (nI_ne0 (by omega) (by omega)) ?_
                refine dn_top (show ((((nI k) - (nI x)) - ((nI k) - (nI x)) / (nI m) * (nI m)) : Int32) = (zI (((k : Int) - x).tmod m)) from dl_gapeq (by omega) (by omega) (by omega) (by omega)) ?_
                obtain ⟨c1, c2⟩ := dl_gap (x := x) (y := k) (n := m) (by omega) (by omega) (by omega) (by omega)
                refine lv_istore (lv' := [(8, .int (zI (((k : Int) - x).tmod m))), (7, .int (nI (Nat.gcd n m))), (6, .int (nI n)), (5, .int (nI x)), (0, .ref a.1), (1, .int (nI u)), (2, .int (nI v)), (3, .int (nI k)), (4, .int (nI m))]) hx hb dX0_logWith_81 hl (by decide) rfl (fun ls hl => ?_)
                refine lv_iload hx hb dX0_logWith_83 (lv_at hl 0 rfl) ?_
                refine lv_if_ge (tgt := 95) hx hb dX0_logWith_85 (by decide) (fun hs => ?_) (fun hs => ?_)
                · obtain ⟨gp, ev, hv1, hv2⟩ := c1 hs
                  rw [ev] at hl
                  refine lv_iload hx hb dX0_logWith_95 (lv_at hl 1 rfl) ?_
                  refine lv_iconst (v := (nI 1)) hx hb dX0_logWith_97 (by decide) ?_
                  refine dn_icmp_lt (tgt := 109) hx hb dX0_logWith_98 (by decide) (by omega) (by omega) (fun z => absurd z (by omega)) (fun h5 => ?_)
                  refine lv_iload hx hb dX0_logWith_101 (lv_at hl 0 rfl) ?_
                  refine lv_iload hx hb dX0_logWith_103 (lv_at hl 1 rfl) ?_
                  refine dn_irem hx hb dX0_logWith_105 (by omega) (by omega) (by omega) ?_
                  refine dn_if_eq (tgt := 112) hx hb dX0_logWith_106 (by decide) (Nat.lt_of_le_of_lt (Nat.mod_le _ _) (by omega)) (fun hd => ?_) (fun hd => ?_)
                  · refine lv_iload hx hb dX0_logWith_112 (lv_at hl 8 rfl) ?_
                    refine lv_iload hx hb dX0_logWith_114 (lv_at hl 1 rfl) ?_
                    refine dn_idiv hx hb dX0_logWith_116 (by omega) (by omega) (by omega) ?_
                    refine lv_istore (lv' := [(9, .int (nI (m / (Nat.gcd n m)))), (8, .int (nI gp)), (7, .int (nI (Nat.gcd n m))), (6, .int (nI n)), (5, .int (nI x)), (0, .ref a.1), (1, .int (nI u)), (2, .int (nI v)), (3, .int (nI k)), (4, .int (nI m))]) hx hb dX0_logWith_117 hl (by decide) rfl (fun ls hl => ?_)
                    have hper0 : 0 < m / Nat.gcd n m := Nat.div_pos hd9 hd0
                    have hper9 : m / Nat.gcd n m ≤ m := Nat.div_le_self _ _
                    refine lv_aload_n hx hb dX0_logWith_119 rfl (lv_at hl 5 rfl) ?_
                    refine lv_iload hx hb dX0_logWith_120 (lv_at hl 3 rfl) ?_
                    refine lv_iload hx hb dX0_logWith_122 (lv_at hl 2 rfl) ?_
                    refine dn_idiv hx hb dX0_logWith_124 (by omega) (by omega) (by omega) ?_
                    refine lv_iload hx hb dX0_logWith_125 (lv_at hl 0 rfl) ?_
                    refine xc_I (As := [.int (nI (n / (Nat.gcd n m))), .int (nI (m / (Nat.gcd n m)))]) (rest := []) hx hb hml hown hts (mX0_invertBy hper0 (by omega) (Nat.lt_of_le_of_lt (Nat.div_le_self _ _) (by omega)) (dl_cop_div (by omega))) (cw_X0_invertBy hts rfl rfl ⟨Nat.le_of_ble_eq_true rfl, Nat.le_of_ble_eq_true rfl⟩) hK hP hD hS hA rfl hl.1 rfl (Nat.le_of_ble_eq_true rfl) dX0_logWith_127 (fun r _ H locs hw hP hD hS => ?_)
                    obtain ⟨s, rfl, hs1, hs2⟩ := hw
                    refine lv_istore (lv' := [(10, .int (nI s)), (9, .int (nI (m / (Nat.gcd n m)))), (8, .int (nI gp)), (7, .int (nI (Nat.gcd n m))), (6, .int (nI n)), (5, .int (nI x)), (0, .ref a.1), (1, .int (nI u)), (2, .int (nI v)), (3, .int (nI k)), (4, .int (nI m))]) hx hb dX0_logWith_130 hl (by decide) rfl (fun ls hl => ?_)
                    refine lv_aload_n hx hb dX0_logWith_132 rfl (lv_at hl 6 rfl) ?_
                    refine lv_iload hx hb dX0_logWith_133 (lv_at hl 2 rfl) ?_
                    refine lv_iload hx hb dX0_logWith_135 (lv_at hl 3 rfl) ?_
                    refine dn_idiv hx hb dX0_logWith_137 (by omega) (by omega) (by omega) ?_
                    refine lv_iload hx hb dX0_logWith_138 (lv_at hl 0 rfl) ?_
                    refine lv_iload hx hb dX0_logWith_140 (lv_at hl 1 rfl) ?_
                    refine xc_I (As := [.int (nI (gp / (Nat.gcd n m))), .int (nI s), .int (nI (m / (Nat.gcd n m)))]) (rest := []) hx hb hml hown hts (mX0_timesBy (Nat.lt_of_le_of_lt (Nat.div_le_self _ _) (by omega)) (by omega) hper0 (by omega)) (cw_X0_timesBy hts rfl rfl ⟨Nat.le_of_ble_eq_true rfl, Nat.le_of_ble_eq_true rfl⟩) hK hP hD hS hA rfl hl.1 rfl (Nat.le_of_ble_eq_true rfl) dX0_logWith_142 (fun r _ H locs hw hP hD hS => ?_)
                    obtain rfl : r = nI (gp / Nat.gcd n m * s % (m / Nat.gcd n m)) := hw
                    refine lv_istore (lv' := [(11, .int (nI (gp / Nat.gcd n m * s % (m / Nat.gcd n m)))), (10, .int (nI s)), (9, .int (nI (m / (Nat.gcd n m)))), (8, .int (nI gp)), (7, .int (nI (Nat.gcd n m))), (6, .int (nI n)), (5, .int (nI x)), (0, .ref a.1), (1, .int (nI u)), (2, .int (nI v)), (3, .int (nI k)), (4, .int (nI m))]) hx hb dX0_logWith_145 hl (by decide) rfl (fun ls hl => ?_)
                    refine lv_iload hx hb dX0_logWith_147 (lv_at hl 6 rfl) ?_
                    refine lv_iload hx hb dX0_logWith_149 (lv_at hl 5 rfl) ?_
                    refine lv_iload hx hb dX0_logWith_151 (lv_at hl 0 rfl) ?_
                    refine dn_imul hx hb dX0_logWith_153 ?_
                    refine dn_iadd hx hb dX0_logWith_154 ?_
                    exact hret _ _ _ (K3, S3) _ _ dX0_logWith_155 (Or.inr ⟨u, v, k, m, rfl, hu, rfl, hv, rfl, rfl, hm1, hm60, hkm, dl_lw_yes hpp hu ho hxn ex hkm hv1 hv2 hd hs2⟩) hP hD hS
                  · refine lv_bipush (v := (-4)) hx hb dX0_logWith_109 (by decide) ?_
                    exact hret _ _ _ (K3, S3) _ _ dX0_logWith_111 (Or.inr ⟨u, v, k, m, rfl, hu, rfl, hv, rfl, rfl, hm1, hm60, hkm, dl_lw_no2 hpp ho hxn ex hkm hv2 (by omega)⟩) hP hD hS
                · refine lv_iload hx hb dX0_logWith_88 (lv_at hl 0 rfl) ?_
                  refine lv_iload hx hb dX0_logWith_90 (lv_at hl 8 rfl) ?_
                  refine lv_iadd hx hb dX0_logWith_92 ?_
                  obtain ⟨gp, ev, hv1, hv2⟩ := c2 hs
                  refine dn_top (show (((zI (((k : Int) - x).tmod m)) + (nI m)) : Int32) = (nI gp) from ev) ?_
                  refine lv_istore (lv' := [(8, .int (nI gp)), (7, .int (nI (Nat.gcd n m))), (6, .int (nI n)), (5, .int (nI x)), (0, .ref a.1), (1, .int (nI u)), (2, .int (nI v)), (3, .int (nI k)), (4, .int (nI m))]) hx hb dX0_logWith_93 hl (by decide) rfl (fun ls hl => ?_)
                  refine lv_iload hx hb dX0_logWith_95 (lv_at hl 1 rfl) ?_
                  refine lv_iconst (v := (nI 1)) hx hb dX0_logWith_97 (by decide) ?_
                  refine dn_icmp_lt (tgt := 109) hx hb dX0_logWith_98 (by decide) (by omega) (by omega) (fun z => absurd z (by omega)) (fun h5 => ?_)
                  refine lv_iload hx hb dX0_logWith_101 (lv_at hl 0 rfl) ?_
                  refine lv_iload hx hb dX0_logWith_103 (lv_at hl 1 rfl) ?_
                  refine dn_irem hx hb dX0_logWith_105 (by omega) (by omega) (by omega) ?_
                  refine dn_if_eq (tgt := 112) hx hb dX0_logWith_106 (by decide) (Nat.lt_of_le_of_lt (Nat.mod_le _ _) (by omega)) (fun hd => ?_) (fun hd => ?_)
                  · refine lv_iload hx hb dX0_logWith_112 (lv_at hl 8 rfl) ?_
                    refine lv_iload hx hb dX0_logWith_114 (lv_at hl 1 rfl) ?_
                    refine dn_idiv hx hb dX0_logWith_116 (by omega) (by omega) (by omega) ?_
                    refine lv_istore (lv' := [(9, .int (nI (m / (Nat.gcd n m)))), (8, .int (nI gp)), (7, .int (nI (Nat.gcd n m))), (6, .int (nI n)), (5, .int (nI x)), (0, .ref a.1), (1, .int (nI u)), (2, .int (nI v)), (3, .int (nI k)), (4, .int (nI m))]) hx hb dX0_logWith_117 hl (by decide) rfl (fun ls hl => ?_)
                    have hper0 : 0 < m / Nat.gcd n m := Nat.div_pos hd9 hd0
                    have hper9 : m / Nat.gcd n m ≤ m := Nat.div_le_self _ _
                    refine lv_aload_n hx hb dX0_logWith_119 rfl (lv_at hl 5 rfl) ?_
                    refine lv_iload hx hb dX0_logWith_120 (lv_at hl 3 rfl) ?_
                    refine lv_iload hx hb dX0_logWith_122 (lv_at hl 2 rfl) ?_
                    refine dn_idiv hx hb dX0_logWith_124 (by omega) (by omega) (by omega) ?_
                    refine lv_iload hx hb dX0_logWith_125 (lv_at hl 0 rfl) ?_
                    refine xc_I (As := [.int (nI (n / (Nat.gcd n m))), .int (nI (m / (Nat.gcd n m)))]) (rest := []) hx hb hml hown hts (mX0_invertBy hper0 (by omega) (Nat.lt_of_le_of_lt (Nat.div_le_self _ _) (by omega)) (dl_cop_div (by omega))) (cw_X0_invertBy hts rfl rfl ⟨Nat.le_of_ble_eq_true rfl, Nat.le_of_ble_eq_true rfl⟩) hK hP hD hS hA rfl hl.1 rfl (Nat.le_of_ble_eq_true rfl) dX0_logWith_127 (fun r _ H locs hw hP hD hS => ?_)
                    obtain ⟨s, rfl, hs1, hs2⟩ := hw
                    refine lv_istore (lv' := [(10, .int (nI s)), (9, .int (nI (m / (Nat.gcd n m)))), (8, .int (nI gp)), (7, .int (nI (Nat.gcd n m))), (6, .int (nI n)), (5, .int (nI x)), (0, .ref a.1), (1, .int (nI u)), (2, .int (nI v)), (3, .int (nI k)), (4, .int (nI m))]) hx hb dX0_logWith_130 hl (by decide) rfl (fun ls hl => ?_)
                    refine lv_aload_n hx hb dX0_logWith_132 rfl (lv_at hl 6 rfl) ?_
                    refine lv_iload hx hb dX0_logWith_133 (lv_at hl 2 rfl) ?_
                    refine lv_iload hx hb dX0_logWith_135 (lv_at hl 3 rfl) ?_
                    refine dn_idiv hx hb dX0_logWith_137 (by omega) (by omega) (by omega) ?_
                    refine lv_iload hx hb dX0_logWith_138 (lv_at hl 0 rfl) ?_
                    refine lv_iload hx hb dX0_logWith_140 (lv_at hl 1 rfl) ?_
                    refine xc_I (As := [.int (nI (gp / (Nat.gcd n m))), .int (nI s), .int (nI (m / (Nat.gcd n m)))]) (rest := []) hx hb hml hown hts (mX0_timesBy (Nat.lt_of_le_of_lt (Nat.div_le_self _ _) (by omega)) (by omega) hper0 (by omega)) (cw_X0_timesBy hts rfl rfl ⟨Nat.le_of_ble_eq_true rfl, Nat.le_of_ble_eq_true rfl⟩) hK hP hD hS hA rfl hl.1 rfl (Nat.le_of_ble_eq_true rfl) dX0_logWith_142 (fun r _ H locs hw hP hD hS => ?_)
                    obtain rfl : r = nI (gp / Nat.gcd n m * s % (m / Nat.gcd n m)) := hw
                    refine lv_istore (lv' := [(11, .int (nI (gp / Nat.gcd n m * s % (m / Nat.gcd n m)))), (10, .int (nI s)), (9, .int (nI (m / (Nat.gcd n m)))), (8, .int (nI gp)), (7, .int (nI (Nat.gcd n m))), (6, .int (nI n)), (5, .int (nI x)), (0, .ref a.1), (1, .int (nI u)), (2, .int (nI v)), (3, .int (nI k)), (4, .int (nI m))]) hx hb dX0_logWith_145 hl (by decide) rfl (fun ls hl => ?_)
                    refine lv_iload hx hb dX0_logWith_147 (lv_at hl 6 rfl) ?_
                    refine lv_iload hx hb dX0_logWith_149 (lv_at hl 5 rfl) ?_
                    refine lv_iload hx hb dX0_logWith_151 (lv_at hl 0 rfl) ?_
                    refine dn_imul hx hb dX0_logWith_153 ?_
                    refine dn_iadd hx hb dX0_logWith_154 ?_
                    exact hret _ _ _ (K3, S3) _ _ dX0_logWith_155 (Or.inr ⟨u, v, k, m, rfl, hu, rfl, hv, rfl, rfl, hm1, hm60, hkm, dl_lw_yes hpp hu ho hxn ex hkm hv1 hv2 hd hs2⟩) hP hD hS
                  · refine lv_bipush (v := (-4)) hx hb dX0_logWith_109 (by decide) ?_
                    exact hret _ _ _ (K3, S3) _ _ dX0_logWith_111 (Or.inr ⟨u, v, k, m, rfl, hu, rfl, hv, rfl, rfl, hm1, hm60, hkm, dl_lw_no2 hpp ho hxn ex hkm hv2 (by omega)⟩) hP hD hS
            · refine lv_iconst (v := (-1)) hx hb dX0_logWith_39 (by decide) ?_
              exact hret _ _ _ (K, S) _ _ dX0_logWith_40 (Or.inl ⟨fun z => dl_notM4 g4 z.2.2, rfl⟩) hP hD hS
set_option maxHeartbeats 4000000 in
theorem mX0_common {x y : Int32} (hI : dl_I p nf B T) : dx_MI l yX0_common (ws_ yX0_common cX0_common 5 (some .int)) (rm_ 3 75) D (xT a) (xW a (nI p) (nI (p - 1)) (nI nf) B T K S) [.ref a.1, .int x, .int y] (fun (r : Int32) (u : Unit) => R_common p x y r) (fun _ => xW a (nI p) (nI (p - 1)) (nI nf) B T K S) := by
  refine dx_ofI (by decide) rfl (Nat.le_of_ble_eq_true rfl) ?_
  intro pg en sS mI aR bL mE cO A Q ls hx hb hml hown hts hA hK hP hD hS hl hret
  have hl : lv_has ls 5 [(0, .ref a.1), (1, .int x), (2, .int y)] := hl
  obtain ⟨hpp, hn5, q, t, hBT, hF⟩ := id hI
  have hp3 := hpp.1
  have hp9 := hpp.2.1
  refine lv_aload_n hx hb dX0_common_0 rfl (lv_at hl 0 rfl) ?_
  refine lv_iload_n hx hb dX0_common_1 rfl (lv_at hl 1 rfl) ?_
  refine xc_I (As := [.int x]) (rest := []) hx hb hml hown hts (mX0_notUnit hp9) (cw_X0_notUnit hts rfl rfl ⟨Nat.le_of_ble_eq_true rfl, Nat.le_of_ble_eq_true rfl⟩) hK hP hD hS hA rfl hl.1 rfl (Nat.le_of_ble_eq_true rfl) dX0_common_2 (fun r _ H locs hw hP hD hS => ?_)
  rcases hw with ⟨rfl, hu⟩ | ⟨rfl, u, rfl, hu⟩
  · refine lv_if_ne (tgt := 16) hx hb dX0_common_5 (by decide) (fun h1 => ?_) (fun z => absurd z (by decide))
    refine lv_iconst (v := (-1)) hx hb dX0_common_16 (by decide) ?_
    exact hret _ _ _ () _ _ dX0_common_17 (Or.inl ⟨fun z => hu z.1, rfl⟩) hP hD hS
  · refine lv_if_ne (tgt := 16) hx hb dX0_common_5 (by decide) (fun z => absurd z (by decide)) (fun h1 => ?_)
    refine lv_aload_n hx hb dX0_common_8 rfl (lv_at hl 0 rfl) ?_
    refine lv_iload_n hx hb dX0_common_9 rfl (lv_at hl 2 rfl) ?_
    refine xc_I (As := [.int y]) (rest := []) hx hb hml hown hts (mX0_notUnit hp9) (cw_X0_notUnit hts rfl rfl ⟨Nat.le_of_ble_eq_true rfl, Nat.le_of_ble_eq_true rfl⟩) hK hP hD hS hA rfl hl.1 rfl (Nat.le_of_ble_eq_true rfl) dX0_common_10 (fun r _ H locs hw hP hD hS => ?_)
    rcases hw with ⟨rfl, hv⟩ | ⟨rfl, v, rfl, hv⟩
    · refine lv_if_eq (tgt := 18) hx hb dX0_common_13 (by decide) (fun z => absurd z (by decide)) (fun h2 => ?_)
      refine lv_iconst (v := (-1)) hx hb dX0_common_16 (by decide) ?_
      exact hret _ _ _ () _ _ dX0_common_17 (Or.inl ⟨fun z => hv z.2, rfl⟩) hP hD hS
    · refine lv_if_eq (tgt := 18) hx hb dX0_common_13 (by decide) (fun h2 => ?_) (fun z => absurd z (by decide))
      refine lv_aload_n hx hb dX0_common_18 rfl (lv_at hl 0 rfl) ?_
      refine lv_iload_n hx hb dX0_common_19 rfl (lv_at hl 1 rfl) ?_
      refine xc_I (As := [.int (nI u)]) (rest := []) hx hb hml hown hts (mX0_orderOf hI hu) (cw_X0_orderOf hts rfl rfl ⟨Nat.le_of_ble_eq_true rfl, Nat.le_of_ble_eq_true rfl⟩) hK hP hD hS hA rfl hl.1 rfl (Nat.le_of_ble_eq_true rfl) dX0_common_20 (fun r _ H locs hw hP hD hS => ?_)
      obtain ⟨n, rfl, ho⟩ := hw
      have hn9 := dl_ord_le hpp hu ho
      refine lv_istore_n (lv' := [(3, .int (nI n)), (0, .ref a.1), (1, .int (nI u)), (2, .int (nI v))]) hx hb dX0_common_23 rfl hl (by decide) rfl (fun ls hl => ?_)
      refine lv_aload_n hx hb dX0_common_24 rfl (lv_at hl 1 rfl) ?_
      refine lv_iload_n hx hb dX0_common_25 rfl (lv_at hl 3 rfl) ?_
      refine xc_I (As := [.int (nI v)]) (rest := []) hx hb hml hown hts (mX0_orderOf hI hv) (cw_X0_orderOf hts rfl rfl ⟨Nat.le_of_ble_eq_true rfl, Nat.le_of_ble_eq_true rfl⟩) hK hP hD hS hA rfl hl.1 rfl (Nat.le_of_ble_eq_true rfl) dX0_common_26 (fun r _ H locs hw hP hD hS => ?_)
      obtain ⟨m, rfl, hom⟩ := hw
      have hm9 := dl_ord_le hpp hv hom
      refine lv_istore (lv' := [(4, .int (nI m)), (3, .int (nI n)), (0, .ref a.1), (1, .int (nI u)), (2, .int (nI v))]) hx hb dX0_common_29 hl (by decide) rfl (fun ls hl => ?_)
      refine lv_aload_n hx hb dX0_common_31 rfl (lv_at hl 2 rfl) ?_
      refine lv_iload_n hx hb dX0_common_32 rfl (lv_at hl 1 rfl) ?_
      refine lv_iload hx hb dX0_common_33 (lv_at hl 0 rfl) ?_
      refine xc_I (As := [.int (nI n), .int (nI m)]) (rest := []) hx hb hml hown hts (mX0_gcd (by omega) (by omega)) (cw_X0_gcd hts rfl rfl ⟨Nat.le_of_ble_eq_true rfl, Nat.le_of_ble_eq_true rfl⟩) hK hP hD hS hA rfl hl.1 rfl (Nat.le_of_ble_eq_true rfl) dX0_common_35 (fun r _ H locs hw hP hD hS => ?_)
      obtain rfl : r = nI (Nat.gcd n m) := hw
      exact hret _ _ _ () _ _ dX0_common_38 (Or.inr ⟨u, v, n, m, rfl, hu, rfl, hv, ho, hom, rfl⟩) hP hD hS
set_option maxHeartbeats 4000000 in
theorem mX0_unitOfOrder {x : Int32} (hI : dl_I p nf B T) : dx_MI l yX0_unitOfOrder (ws_ yX0_unitOfOrder cX0_unitOfOrder 8 (some .int)) (rm_ 4 92) D (xT a) (xW a (nI p) (nI (p - 1)) (nI nf) B T K S) [.ref a.1, .int x] (fun (r : Int32) (u : Unit) => R_unitOfOrder p x r) (fun _ => xW a (nI p) (nI (p - 1)) (nI nf) B T K S) := by
  refine dx_ofI (by decide) rfl (Nat.le_of_ble_eq_true rfl) ?_
  intro pg en sS mI aR bL mE cO A Q ls hx hb hml hown hts hA hK hP hD hS hl hret
  have hl : lv_has ls 8 [(0, .ref a.1), (1, .int x)] := hl
  obtain ⟨hpp, hn5, q, t, hBT, hF⟩ := id hI
  have hp3 := hpp.1
  have hp9 := hpp.2.1
  have hp1 := dl_P1 hpp
  have hlt : ∀ i, i % p < p := fun i => Nat.mod_lt _ (by omega)
  refine lv_iload_n hx hb dX0_unitOfOrder_0 rfl (lv_at hl 1 rfl) ?_
  refine lv_iconst (v := (nI 1)) hx hb dX0_unitOfOrder_1 (by decide) ?_
  refine lv_icmp_ge (tgt := 7) hx hb dX0_unitOfOrder_2 (by decide) (fun h1 => ?_) (fun h1 => ?_)
  · obtain ⟨n, hn1, hn31, rfl⟩ := dl_nat1 (x := x) (fun z => (fa_of_lt z).2.1 h1)
    refine lv_iload_n hx hb dX0_unitOfOrder_7 rfl (lv_at hl 1 rfl) ?_
    refine lv_aload_n hx hb dX0_unitOfOrder_8 rfl (lv_at hl 0 rfl) ?_
    refine xg_order hx hb hts hown hK hP dX0_unitOfOrder_9 ?_
    refine dn_icmp_gt (tgt := 24) hx hb dX0_unitOfOrder_12 (by decide) (by omega) (by omega) (fun h2 => ?_) (fun h2 => ?_)
    · refine lv_bipush (v := (-4)) hx hb dX0_unitOfOrder_24 (by decide) ?_
      exact hret _ _ _ () _ _ dX0_unitOfOrder_26 (Or.inr ⟨n, rfl, hn1, hn31, dl_uoo_no hpp (fun z => by have := Nat.le_of_dvd (by omega) z; omega)⟩) hP hD hS
    · refine lv_aload_n hx hb dX0_unitOfOrder_15 rfl (lv_at hl 0 rfl) ?_
      refine xg_order hx hb hts hown hK hP dX0_unitOfOrder_16 ?_
      refine lv_iload_n hx hb dX0_unitOfOrder_19 rfl (lv_at hl 1 rfl) ?_
      refine dn_irem hx hb dX0_unitOfOrder_20 (by omega) (by omega) (by omega) ?_
      refine dn_if_eq (tgt := 27) hx hb dX0_unitOfOrder_21 (by decide) (Nat.lt_of_le_of_lt (Nat.mod_le _ _) (by omega)) (fun hm => ?_) (fun hm => ?_)
      · have hnd : n ∣ p - 1 := Nat.dvd_of_mod_eq_zero hm
        refine lv_aload_n hx hb dX0_unitOfOrder_27 rfl (lv_at hl 0 rfl) ?_
        refine xc_I (As := []) (rest := []) hx hb hml hown hts (mX0_generator hI) (cw_X0_generator hts rfl rfl ⟨Nat.le_of_ble_eq_true rfl, Nat.le_of_ble_eq_true rfl⟩) hK hP hD hS hA rfl hl.1 rfl (Nat.le_of_ble_eq_true rfl) dX0_unitOfOrder_28 (fun r _ H locs hw hP hD hS => ?_)
        obtain ⟨g, rfl, hg, hog, -⟩ := hw
        refine lv_istore_n (lv' := [(2, .int (nI g)), (0, .ref a.1), (1, .int (nI n))]) hx hb dX0_unitOfOrder_31 rfl hl (by decide) rfl (fun ls hl => ?_)
        refine lv_aload_n hx hb dX0_unitOfOrder_32 rfl (lv_at hl 1 rfl) ?_
        refine lv_iload_n hx hb dX0_unitOfOrder_33 rfl (lv_at hl 0 rfl) ?_
        refine lv_aload_n hx hb dX0_unitOfOrder_34 rfl (lv_at hl 1 rfl) ?_
        refine xg_order hx hb hts hown hK hP dX0_unitOfOrder_35 ?_
        refine lv_iload_n hx hb dX0_unitOfOrder_38 rfl (lv_at hl 2 rfl) ?_
        refine dn_idiv hx hb dX0_unitOfOrder_39 (by omega) (by omega) (by omega) ?_
        refine xc_I (As := [.int (nI g), .int (nI ((p - 1) / n))]) (rest := []) hx hb hml hown hts (mX0_pow hp1 hp9 hg.2 (Nat.lt_of_le_of_lt (Nat.div_le_self _ _) (by omega))) (cw_X0_pow hts rfl rfl ⟨Nat.le_of_ble_eq_true rfl, Nat.le_of_ble_eq_true rfl⟩) hK hP hD hS hA rfl hl.1 rfl (Nat.le_of_ble_eq_true rfl) dX0_unitOfOrder_40 (fun r _ H locs hw hP hD hS => ?_)
        obtain rfl : r = nI (g ^ ((p - 1) / n) % p) := hw
        refine lv_istore_n (lv' := [(3, .int (nI (g ^ ((p - 1) / n) % p))), (2, .int (nI g)), (0, .ref a.1), (1, .int (nI n))]) hx hb dX0_unitOfOrder_43 rfl hl (by decide) rfl (fun ls hl => ?_)
        refine lv_iconst (v := (nI 1)) hx hb dX0_unitOfOrder_44 (by decide) ?_
        refine dn_top (show ((nI 1) : Int32) = (nI ((g ^ ((p - 1) / n) % p) ^ 0 % p)) from (by rw [Nat.pow_zero, dl_one hp1])) ?_
        refine lv_istore (lv' := [(4, .int (nI ((g ^ ((p - 1) / n) % p) ^ 0 % p))), (3, .int (nI (g ^ ((p - 1) / n) % p))), (2, .int (nI g)), (0, .ref a.1), (1, .int (nI n))]) hx hb dX0_unitOfOrder_45 hl (by decide) rfl (fun ls hl => ?_)
        refine lv_aload_n hx hb dX0_unitOfOrder_47 rfl (lv_at hl 3 rfl) ?_
        refine xg_p hx hb hts hown hK hP dX0_unitOfOrder_48 ?_
        refine lv_istore (lv' := [(5, .int (nI p)), (4, .int (nI ((g ^ ((p - 1) / n) % p) ^ 0 % p))), (3, .int (nI (g ^ ((p - 1) / n) % p))), (2, .int (nI g)), (0, .ref a.1), (1, .int (nI n))]) hx hb dX0_unitOfOrder_51 hl (by decide) rfl (fun ls hl => ?_)
        refine lv_iconst (v := (nI 0)) hx hb dX0_unitOfOrder_53 (by decide) ?_
        refine lv_istore (lv' := [(6, .int (nI 0)), (5, .int (nI p)), (4, .int (nI ((g ^ ((p - 1) / n) % p) ^ 0 % p))), (3, .int (nI (g ^ ((p - 1) / n) % p))), (2, .int (nI g)), (0, .ref a.1), (1, .int (nI n))]) hx hb dX0_unitOfOrder_54 hl (by decide) rfl (fun ls hl => ?_)
        have loop : ∀ (k9 : Nat) (j bs : Nat), (j ≤ n) → (bs ≤ p) → (dl_low p (g ^ ((p - 1) / n) % p) n j bs) → (n - j) < k9 → ∀ (H : Heap) (locs : List Loc), va_P D vwCl (xW a (nI p) (nI (p - 1)) (nI nf) B T K S) H → va_S A sS.heap H locs → ∀ ls : Array Slot, lv_has ls 8 [(0, .ref a.1), (1, .int (nI n)), (3, .int (nI (g ^ ((p - 1) / n) % p))), (4, .int (nI ((g ^ ((p - 1) / n) % p) ^ j % p))), (5, .int (nI bs)), (6, .int (nI j))] → W pg l en (rm_ 4 92) sS mI aR bL mE cO H locs 0 0 Q (F0 mI 56 ls []) := by
          intro k9
          induction k9 with
          | zero => intros; omega
          | succ k9 ih =>
            intro j bs hj hb9 hb2 hn H locs hP hS ls hl
            refine lv_iload hx hb dX0_unitOfOrder_56 (lv_at hl 5 rfl) ?_
            refine lv_iload_n hx hb dX0_unitOfOrder_58 rfl (lv_at hl 1 rfl) ?_
            refine dn_icmp_ge (tgt := 111) hx hb dX0_unitOfOrder_59 (by decide) (by omega) (by omega) (fun hc => ?_) (fun hc => ?_)
            · refine lv_iload hx hb dX0_unitOfOrder_111 (lv_at hl 4 rfl) ?_
              have hjn : j = n := by omega
              rw [hjn] at hb2
              exact hret _ _ _ () _ _ dX0_unitOfOrder_113 (Or.inr ⟨n, rfl, hn1, hn31, dl_low_end hpp hog hn1 hnd hb2⟩) hP hD hS
            · refine lv_iload hx hb dX0_unitOfOrder_62 (lv_at hl 5 rfl) ?_
              refine lv_sipush (v := (nI 2039)) hx hb dX0_unitOfOrder_64 (by decide) ?_
              refine dn_icmp_ge (tgt := 111) hx hb dX0_unitOfOrder_67 (by decide) (by omega) (by omega) (fun z => absurd z (by omega)) (fun h9 => ?_)
              refine lv_aload_n hx hb dX0_unitOfOrder_70 rfl (lv_at hl 0 rfl) ?_
              refine lv_iload hx hb dX0_unitOfOrder_71 (lv_at hl 5 rfl) ?_
              refine lv_iload_n hx hb dX0_unitOfOrder_73 rfl (lv_at hl 1 rfl) ?_
              refine xc_I (As := [.int (nI j), .int (nI n)]) (rest := []) hx hb hml hown hts (mX0_gcd (by omega) (by omega)) (cw_X0_gcd hts rfl rfl ⟨Nat.le_of_ble_eq_true rfl, Nat.le_of_ble_eq_true rfl⟩) hK hP hD hS hA rfl hl.1 rfl (Nat.le_of_ble_eq_true rfl) dX0_unitOfOrder_74 (fun r _ H locs hw hP hD hS => ?_)
              obtain rfl : r = nI (Nat.gcd j n) := hw
              have hgle : Nat.gcd j n ≤ n := Nat.gcd_le_right j (by omega)
              refine lv_istore (lv' := [(7, .int (nI (Nat.gcd j n))), (0, .ref a.1), (1, .int (nI n)), (3, .int (nI (g ^ ((p - 1) / n) % p))), (4, .int (nI ((g ^ ((p - 1) / n) % p) ^ j % p))), (5, .int (nI bs)), (6, .int (nI j))]) hx hb dX0_unitOfOrder_77 hl (by decide) rfl (fun ls hl => ?_)
              refine lv_iload hx hb dX0_unitOfOrder_79 (lv_at hl 0 rfl) ?_
              refine lv_iconst (v := (nI 1)) hx hb dX0_unitOfOrder_81 (by decide) ?_
              refine dn_icmp_ne (tgt := 96) hx hb dX0_unitOfOrder_82 (by decide) (by omega) (by omega) (fun hg1 => ?_) (fun hg1 => ?_)
              · refine lv_aload_n hx hb dX0_unitOfOrder_96 rfl (lv_at hl 1 rfl) ?_
                refine lv_iload hx hb dX0_unitOfOrder_97 (lv_at hl 4 rfl) ?_
                refine lv_iload_n hx hb dX0_unitOfOrder_99 rfl (lv_at hl 3 rfl) ?_
                refine xc_I (As := [.int (nI ((g ^ ((p - 1) / n) % p) ^ j % p)), .int (nI (g ^ ((p - 1) / n) % p))]) (rest := []) hx hb hml hown hts (mX0_mul (by omega) hp9 (dl_mlt hp9 (hlt _) (hlt _))) (cw_X0_mul hts rfl rfl ⟨Nat.le_of_ble_eq_true rfl, Nat.le_of_ble_eq_true rfl⟩) hK hP hD hS hA rfl hl.1 rfl (Nat.le_of_ble_eq_true rfl) dX0_unitOfOrder_100 (fun r _ H locs hw hP hD hS => ?_)
                obtain rfl : r = nI ((g ^ ((p - 1) / n) % p) ^ j % p * (g ^ ((p - 1) / n) % p) % p) := hw
                refine dn_top (show ((nI ((g ^ ((p - 1) / n) % p) ^ j % p * (g ^ ((p - 1) / n) % p) % p)) : Int32) = (nI ((g ^ ((p - 1) / n) % p) ^ (j + 1) % p)) from (by rw [Nat.pow_succ, Nat.mod_mul_mod])) ?_
                refine lv_istore (lv' := [(4, .int (nI ((g ^ ((p - 1) / n) % p) ^ (j + 1) % p))), (7, .int (nI (Nat.gcd j n))), (0, .ref a.1), (1, .int (nI n)), (3, .int (nI (g ^ ((p - 1) / n) % p))), (5, .int (nI bs)), (6, .int (nI j))]) hx hb dX0_unitOfOrder_103 hl (by decide) rfl (fun ls hl => ?_)
                refine lv_iinc (v := (nI (j + 1))) (lv' := [(6, .int (nI (j + 1))), (4, .int (nI ((g ^ ((p - 1) / n) % p) ^ (j + 1) % p))), (7, .int (nI (Nat.gcd j n))), (0, .ref a.1), (1, .int (nI n)), (3, .int (nI (g ^ ((p - 1) / n) % p))), (5, .int (nI bs))]) hx hb dX0_unitOfOrder_105 hl (k := 6) rfl (nI_1 _) (by decide) rfl (fun ls hl => ?_)
                refine lv_goto (tgt := 56) hx hb dX0_unitOfOrder_108 (by decide) ?_
                exact ih (j + 1) bs hc hb9 ((dl_low_s hb2 hc).2 (fun z => absurd z hg1)) (by omega) _ _ hP hS ls (lv_sub hl [3, 4, 5, 1, 6, 0] rfl)
              · refine lv_iload hx hb dX0_unitOfOrder_85 (lv_at hl 4 rfl) ?_
                refine lv_iload hx hb dX0_unitOfOrder_87 (lv_at hl 5 rfl) ?_
                refine dn_icmp_ge (tgt := 96) hx hb dX0_unitOfOrder_89 (by decide) (Nat.lt_trans (hlt _) (by omega)) (by omega) (fun hb3 => ?_) (fun hb3 => ?_)
                · refine lv_aload_n hx hb dX0_unitOfOrder_96 rfl (lv_at hl 1 rfl) ?_
                  refine lv_iload hx hb dX0_unitOfOrder_97 (lv_at hl 4 rfl) ?_
                  refine lv_iload_n hx hb dX0_unitOfOrder_99 rfl (lv_at hl 3 rfl) ?_
                  refine xc_I (As := [.int (nI ((g ^ ((p - 1) / n) % p) ^ j % p)), .int (nI (g ^ ((p - 1) / n) % p))]) (rest := []) hx hb hml hown hts (mX0_mul (by omega) hp9 (dl_mlt hp9 (hlt _) (hlt _))) (cw_X0_mul hts rfl rfl ⟨Nat.le_of_ble_eq_true rfl, Nat.le_of_ble_eq_true rfl⟩) hK hP hD hS hA rfl hl.1 rfl (Nat.le_of_ble_eq_true rfl) dX0_unitOfOrder_100 (fun r _ H locs hw hP hD hS => ?_)
                  obtain rfl : r = nI ((g ^ ((p - 1) / n) % p) ^ j % p * (g ^ ((p - 1) / n) % p) % p) := hw
                  refine dn_top (show ((nI ((g ^ ((p - 1) / n) % p) ^ j % p * (g ^ ((p - 1) / n) % p) % p)) : Int32) = (nI ((g ^ ((p - 1) / n) % p) ^ (j + 1) % p)) from (by rw [Nat.pow_succ, Nat.mod_mul_mod])) ?_
                  refine lv_istore (lv' := [(4, .int (nI ((g ^ ((p - 1) / n) % p) ^ (j + 1) % p))), (7, .int (nI (Nat.gcd j n))), (0, .ref a.1), (1, .int (nI n)), (3, .int (nI (g ^ ((p - 1) / n) % p))), (5, .int (nI bs)), (6, .int (nI j))]) hx hb dX0_unitOfOrder_103 hl (by decide) rfl (fun ls hl => ?_)
                  refine lv_iinc (v := (nI (j + 1))) (lv' := [(6, .int (nI (j + 1))), (4, .int (nI ((g ^ ((p - 1) / n) % p) ^ (j + 1) % p))), (7, .int (nI (Nat.gcd j n))), (0, .ref a.1), (1, .int (nI n)), (3, .int (nI (g ^ ((p - 1) / n) % p))), (5, .int (nI bs))]) hx hb dX0_unitOfOrder_105 hl (k := 6) rfl (nI_1 _) (by decide) rfl (fun ls hl => ?_)
                  refine lv_goto (tgt := 56) hx hb dX0_unitOfOrder_108 (by decide) ?_
                  exact ih (j + 1) bs hc hb9 ((dl_low_s hb2 hc).2 (fun _ => hb3)) (by omega) _ _ hP hS ls (lv_sub hl [3, 4, 5, 1, 6, 0] rfl)
                · refine lv_iload hx hb dX0_unitOfOrder_92 (lv_at hl 4 rfl) ?_
                  refine lv_istore (lv' := [(5, .int (nI ((g ^ ((p - 1) / n) % p) ^ j % p))), (7, .int (nI (Nat.gcd j n))), (0, .ref a.1), (1, .int (nI n)), (3, .int (nI (g ^ ((p - 1) / n) % p))), (4, .int (nI ((g ^ ((p - 1) / n) % p) ^ j % p))), (6, .int (nI j))]) hx hb dX0_unitOfOrder_94 hl (by decide) rfl (fun ls hl => ?_)
                  refine lv_aload_n hx hb dX0_unitOfOrder_96 rfl (lv_at hl 2 rfl) ?_
                  refine lv_iload hx hb dX0_unitOfOrder_97 (lv_at hl 5 rfl) ?_
                  refine lv_iload_n hx hb dX0_unitOfOrder_99 rfl (lv_at hl 4 rfl) ?_
                  refine xc_I (As := [.int (nI ((g ^ ((p - 1) / n) % p) ^ j % p)), .int (nI (g ^ ((p - 1) / n) % p))]) (rest := []) hx hb hml hown hts (mX0_mul (by omega) hp9 (dl_mlt hp9 (hlt _) (hlt _))) (cw_X0_mul hts rfl rfl ⟨Nat.le_of_ble_eq_true rfl, Nat.le_of_ble_eq_true rfl⟩) hK hP hD hS hA rfl hl.1 rfl (Nat.le_of_ble_eq_true rfl) dX0_unitOfOrder_100 (fun r _ H locs hw hP hD hS => ?_)
                  obtain rfl : r = nI ((g ^ ((p - 1) / n) % p) ^ j % p * (g ^ ((p - 1) / n) % p) % p) := hw
                  refine dn_top (show ((nI ((g ^ ((p - 1) / n) % p) ^ j % p * (g ^ ((p - 1) / n) % p) % p)) : Int32) = (nI ((g ^ ((p - 1) / n) % p) ^ (j + 1) % p)) from (by rw [Nat.pow_succ, Nat.mod_mul_mod])) ?_
                  refine lv_istore (lv' := [(4, .int (nI ((g ^ ((p - 1) / n) % p) ^ (j + 1) % p))), (5, .int (nI ((g ^ ((p - 1) / n) % p) ^ j % p))), (7, .int (nI (Nat.gcd j n))), (0, .ref a.1), (1, .int (nI n)), (3, .int (nI (g ^ ((p - 1) / n) % p))), (6, .int (nI j))]) hx hb dX0_unitOfOrder_103 hl (by decide) rfl (fun ls hl => ?_)
                  refine lv_iinc (v := (nI (j + 1))) (lv' := [(6, .int (nI (j + 1))), (4, .int (nI ((g ^ ((p - 1) / n) % p) ^ (j + 1) % p))), (5, .int (nI ((g ^ ((p - 1) / n) % p) ^ j % p))), (7, .int (nI (Nat.gcd j n))), (0, .ref a.1), (1, .int (nI n)), (3, .int (nI (g ^ ((p - 1) / n) % p)))]) hx hb dX0_unitOfOrder_105 hl (k := 6) rfl (nI_1 _) (by decide) rfl (fun ls hl => ?_)
                  refine lv_goto (tgt := 56) hx hb dX0_unitOfOrder_108 (by decide) ?_
                  exact ih (j + 1) _ hc (Nat.le_of_lt (hlt _)) ((dl_low_s hb2 hc).1 hg1 hb3) (by omega) _ _ hP hS ls (lv_sub hl [4, 5, 6, 1, 2, 0] rfl)
        exact loop (n + 1) 0 p (by omega) (Nat.le_refl p) ⟨Or.inl rfl, fun i hi => by omega⟩ (by omega) _ _ hP hS ls (lv_sub hl [5, 6, 3, 2, 1, 0] rfl)
      · refine lv_bipush (v := (-4)) hx hb dX0_unitOfOrder_24 (by decide) ?_
        exact hret _ _ _ () _ _ dX0_unitOfOrder_26 (Or.inr ⟨n, rfl, hn1, hn31, dl_uoo_no hpp (fun z => by have := Nat.mod_eq_zero_of_dvd z; omega)⟩) hP hD hS
  · refine lv_iconst (v := (-1)) hx hb dX0_unitOfOrder_5 (by decide) ?_
    exact hret _ _ _ () _ _ dX0_unitOfOrder_6 (Or.inl ⟨fa_of_nle h1, rfl⟩) hP hD hS
set_option maxHeartbeats 4000000 in
theorem mX0_unitsOfOrder {x : Int32} (hI : dl_I p nf B T) : dx_MI l yX0_unitsOfOrder (ws_ yX0_unitsOfOrder cX0_unitsOfOrder 2 (some .int)) (rm_ 1 23) D (xT a) (xW a (nI p) (nI (p - 1)) (nI nf) B T K S) [.ref a.1, .int x] (fun (r : Int32) (u : Unit) => R_unitsOfOrder p x r) (fun _ => xW a (nI p) (nI (p - 1)) (nI nf) B T K S) := by
  refine dx_ofI (by decide) rfl (Nat.le_of_ble_eq_true rfl) ?_
  intro pg en sS mI aR bL mE cO A Q ls hx hb hml hown hts hA hK hP hD hS hl hret
  have hl : lv_has ls 2 [(0, .ref a.1), (1, .int x)] := hl
  obtain ⟨hpp, hn5, q, t, hBT, hF⟩ := id hI
  have hp3 := hpp.1
  have hp9 := hpp.2.1
  refine lv_iload_n hx hb dX0_unitsOfOrder_0 rfl (lv_at hl 1 rfl) ?_
  refine lv_iconst (v := (nI 1)) hx hb dX0_unitsOfOrder_1 (by decide) ?_
  refine lv_icmp_lt (tgt := 22) hx hb dX0_unitsOfOrder_2 (by decide) (fun h1 => ?_) (fun h1 => ?_)
  · refine lv_iconst (v := (nI 0)) hx hb dX0_unitsOfOrder_22 (by decide) ?_
    exact hret _ _ _ () _ _ dX0_unitsOfOrder_23 (Or.inl ⟨h1, rfl⟩) hP hD hS
  · obtain ⟨n, hn1, hn31, rfl⟩ := dl_nat1 h1
    refine lv_iload_n hx hb dX0_unitsOfOrder_5 rfl (lv_at hl 1 rfl) ?_
    refine lv_aload_n hx hb dX0_unitsOfOrder_6 rfl (lv_at hl 0 rfl) ?_
    refine xg_order hx hb hts hown hK hP dX0_unitsOfOrder_7 ?_
    refine dn_icmp_gt (tgt := 22) hx hb dX0_unitsOfOrder_10 (by decide) (by omega) (by omega) (fun h2 => ?_) (fun h2 => ?_)
    · refine lv_iconst (v := (nI 0)) hx hb dX0_unitsOfOrder_22 (by decide) ?_
      exact hret _ _ _ () _ _ dX0_unitsOfOrder_23 (Or.inr ⟨n, rfl, hn1, hn31, by rw [dl_ocnt_no hpp (fun z => by have := Nat.le_of_dvd (by omega) z; omega)]⟩) hP hD hS
    · refine lv_aload_n hx hb dX0_unitsOfOrder_13 rfl (lv_at hl 0 rfl) ?_
      refine xg_order hx hb hts hown hK hP dX0_unitsOfOrder_14 ?_
      refine lv_iload_n hx hb dX0_unitsOfOrder_17 rfl (lv_at hl 1 rfl) ?_
      refine dn_irem hx hb dX0_unitsOfOrder_18 (by omega) (by omega) (by omega) ?_
      refine dn_if_eq (tgt := 24) hx hb dX0_unitsOfOrder_19 (by decide) (Nat.lt_of_le_of_lt (Nat.mod_le _ _) (by omega)) (fun hm => ?_) (fun hm => ?_)
      · have hnd : n ∣ p - 1 := Nat.dvd_of_mod_eq_zero hm
        refine lv_aload_n hx hb dX0_unitsOfOrder_24 rfl (lv_at hl 0 rfl) ?_
        refine lv_iload_n hx hb dX0_unitsOfOrder_25 rfl (lv_at hl 1 rfl) ?_
        refine xc_I (As := [.int (nI n)]) (rest := []) hx hb hml hown hts (mX0_totient hI hn1 hnd) (cw_X0_totient hts rfl rfl ⟨Nat.le_of_ble_eq_true rfl, Nat.le_of_ble_eq_true rfl⟩) hK hP hD hS hA rfl hl.1 rfl (Nat.le_of_ble_eq_true rfl) dX0_unitsOfOrder_26 (fun r _ H locs hw hP hD hS => ?_)
        obtain rfl : r = nI (dl_phi n) := hw
        exact hret _ _ _ () _ _ dX0_unitsOfOrder_29 (Or.inr ⟨n, rfl, hn1, hn31, by rw [dl_ocnt_phi hpp hn1 hnd]⟩) hP hD hS
      · refine lv_iconst (v := (nI 0)) hx hb dX0_unitsOfOrder_22 (by decide) ?_
        exact hret _ _ _ () _ _ dX0_unitsOfOrder_23 (Or.inr ⟨n, rfl, hn1, hn31, by rw [dl_ocnt_no hpp (fun z => by have := Nat.mod_eq_zero_of_dvd z; omega)]⟩) hP hD hS
end XD
end
section
/-! what the reference's loops rest on -/
theorem dl_ct_y {P : Nat → Bool} {n : Nat} (h : P n = true) : fb_ct P (n + 1) = fb_ct P n + 1 := by rw [fb_ct_succ, if_pos h]
theorem dl_ct_n {P : Nat → Bool} {n : Nat} (h : P n = false) : fb_ct P (n + 1) = fb_ct P n := by
  rw [fb_ct_succ, if_neg (by rw [h]; decide)]
  rfl
theorem dl_x2 (x k : Nat) : x / 2 ^ k = 2 * (x / 2 ^ (k + 1)) + x / 2 ^ k % 2 := by
  rw [Nat.pow_succ, ← Nat.div_div_eq_div_mul]
  omega
theorem dl_rs0 {p g x k rs : Nat} (e1 : rs = g ^ (x / 2 ^ (k + 1)) % p) (hb : ¬ x / 2 ^ k % 2 ^ 1 = 1) : rs * rs % p = g ^ (x / 2 ^ k) % p := by
  have hb : ¬ x / 2 ^ k % 2 = 1 := hb
  have h0 : x / 2 ^ k = x / 2 ^ (k + 1) + x / 2 ^ (k + 1) := by
    have := dl_x2 x k
    generalize x / 2 ^ k = t at hb this ⊢
    omega
  rw [h0, Nat.pow_add, e1, ← Nat.mul_mod]
theorem dl_rs1 {p g x k rs : Nat} (e1 : rs = g ^ (x / 2 ^ (k + 1)) % p) (hb : x / 2 ^ k % 2 ^ 1 = 1) : rs * rs % p * g % p = g ^ (x / 2 ^ k) % p := by
  have hb : x / 2 ^ k % 2 = 1 := hb
  have h0 : x / 2 ^ k = x / 2 ^ (k + 1) + x / 2 ^ (k + 1) + 1 := by
    have := dl_x2 x k
    generalize x / 2 ^ k = t at hb this ⊢
    omega
  rw [h0, Nat.pow_succ, Nat.pow_add, Nat.mod_mul_mod, e1]
  exact dl_pmul (by rw [← Nat.mul_mod]) rfl
theorem dl_inv_one {p g y z : Nat} (hP : dl_P p) (hg : dl_U p g) (hy : y < p) (hz : z < p) (e1 : g * y % p = 1) (e2 : g * z % p = 1) : y = z := by
  have e := dl_ucancel hP hg (e1.trans e2.symm)
  rw [Nat.mod_eq_of_lt hy, Nat.mod_eq_of_lt hz] at e
  exact e
def dl_rk (p v n y : Nat) : Bool := decide (1 ≤ y ∧ y ^ n % p = v)
theorem dl_rk_eq (p v n : Nat) : fb_ct (dl_rk p v n) p = dl_rcnt p v n := rfl
noncomputable def dl_uk (p n u : Nat) : Bool := @decide (dl_U p u ∧ dl_ord p u n) (Classical.propDecidable _)
theorem dl_uk_eq (p n : Nat) : fb_ct (dl_uk p n) p = dl_ocnt p n := rfl
theorem dl_uk_y {p n u : Nat} (hu : dl_U p u) (ho : dl_ord p u n) : dl_uk p n u = true := @decide_eq_true _ (Classical.propDecidable _) ⟨hu, ho⟩
theorem dl_uk_n {p n m u : Nat} (ho : dl_ord p u m) (hne : m ≠ n) : dl_uk p n u = false := @decide_eq_false _ (Classical.propDecidable _) (fun z => hne (dl_ord_uniq ho z.2))
theorem dl_uk_0 {p n : Nat} : dl_uk p n 0 = false := @decide_eq_false _ (Classical.propDecidable _) (fun z => by have := z.1.1; omega)
def dl_mk (M : Nat → Int32) (p v x : Nat) : Bool := decide (¬ M (v ^ (x + 1) % p) = 0)
def dl_mked (p u x : Nat) (M : Nat → Int32) : Prop := ∀ j, j < p → (M j = 1 ∧ ∃ y, y < x ∧ u ^ y % p = j) ∨ (M j = 0 ∧ ∀ y, y < x → ¬ u ^ y % p = j)
theorem dl_mked_s {p u x : Nat} {M : Nat → Int32} (h : dl_mked p u x M) : dl_mked p u (x + 1) (upd M (u ^ x % p) (nI 1)) := fun j hj => by
  by_cases q : j = u ^ x % p
  · subst q
    rw [pk_us]
    exact Or.inl ⟨rfl, x, by omega, rfl⟩
  · rw [pk_un q]
    rcases h j hj with ⟨h1, y, hy, e⟩ | ⟨h1, h2⟩
    · exact Or.inl ⟨h1, y, by omega, e⟩
    · refine Or.inr ⟨h1, fun y hy e => ?_⟩
      rcases Nat.lt_or_ge y x with z | z
      · exact h2 y z e
      · have e2 : y = x := by omega
        subst e2
        exact q e.symm
theorem dl_mked_iff {p u v x : Nat} {M : Nat → Int32} (hp : 0 < p) (h : dl_mked p u (p - 1) M) : dl_mk M p v x = true ↔ ∃ y, y < p - 1 ∧ u ^ y % p = v ^ (x + 1) % p := by
  have hx := h (v ^ (x + 1) % p) (Nat.mod_lt _ hp)
  unfold dl_mk
  rw [decide_eq_true_iff]
  constructor
  · intro hn
    rcases hx with ⟨-, h2⟩ | ⟨h1, -⟩
    · exact h2
    · exact absurd h1 hn
  · rintro ⟨y, hy, e⟩
    rcases hx with ⟨h1, -⟩ | ⟨-, h2⟩
    · rw [h1]
      decide
    · exact absurd e (h2 y hy)
end
section
set_option maxRecDepth 100000
section YA
variable {l : Launch} {D : va_G} {b : yA} {M : Nat → Int32} {p : Nat}
set_option maxHeartbeats 4000000 in
theorem mX1_isPrime {n : Nat} (hn3 : 3 ≤ n) (hn9 : n ≤ 2039) : dx_MI l yX1_isPrime (ws_ yX1_isPrime cX1_isPrime 3 (some .boolean)) (rm_ 0 0) D (yT b) (yW b (nI p) M) [.ref b.1, .int (nI n)] (fun (r : Int32) (u : Unit) => (r = 1 ∧ dl_prime n) ∨ (r = 0 ∧ ¬ dl_prime n)) (fun _ => yW b (nI p) M) := by
  refine dx_ofZ (by decide) rfl (Nat.le_of_ble_eq_true rfl) ?_
  intro pg en sS mI aR bL mE cO A Q ls hx hb hml hown hts hA hK hP hD hS hl hret
  have hl : lv_has ls 3 [(0, .ref b.1), (1, .int (nI n))] := hl
  refine lv_iconst (v := (nI 2)) hx hb dX1_isPrime_0 (by decide) ?_
  refine lv_istore_n (lv' := [(2, .int (nI 2)), (0, .ref b.1), (1, .int (nI n))]) hx hb dX1_isPrime_1 rfl hl (by decide) rfl (fun ls hl => ?_)
  have loop : ∀ (k9 : Nat) (d : Nat), (2 ≤ d) → (d ≤ n) → (∀ k, 2 ≤ k → k < d → ¬ n % k = 0) → (n - d) < k9 → ∀ (H : Heap) (locs : List Loc), va_P D vwCl (yW b (nI p) M) H → va_S A sS.heap H locs → ∀ ls : Array Slot, lv_has ls 3 [(0, .ref b.1), (1, .int (nI n)), (2, .int (nI d))] → W pg l en (rm_ 0 0) sS mI aR bL mE cO H locs 0 0 Q (F0 mI 2 ls []) := by
    intro k9
    induction k9 with
    | zero => intros; omega
    | succ k9 ih =>
      intro d hd2 hdn hk hn H locs hP hS ls hl
      refine lv_iload_n hx hb dX1_isPrime_2 rfl (lv_at hl 2 rfl) ?_
      refine lv_iload_n hx hb dX1_isPrime_3 rfl (lv_at hl 1 rfl) ?_
      refine dn_icmp_ge (tgt := 21) hx hb dX1_isPrime_4 (by decide) (by omega) (by omega) (fun hc => ?_) (fun hc => ?_)
      · refine lv_iload_n hx hb dX1_isPrime_21 rfl (lv_at hl 1 rfl) ?_
        refine lv_iconst (v := (nI 3)) hx hb dX1_isPrime_22 (by decide) ?_
        refine dn_icmp_lt (tgt := 30) hx hb dX1_isPrime_23 (by decide) (by omega) (by omega) (fun z => absurd z (by omega)) (fun h3 => ?_)
        refine lv_iconst (v := (nI 1)) hx hb dX1_isPrime_26 (by decide) ?_
        refine lv_goto (tgt := 31) hx hb dX1_isPrime_27 (by decide) ?_
        exact hret _ _ _ () _ _ dX1_isPrime_31 (Or.inr rfl) (Or.inl ⟨rfl, by omega, fun k h1 h2 => hk k h1 (by omega)⟩) hP hD hS
      · refine lv_iload_n hx hb dX1_isPrime_7 rfl (lv_at hl 1 rfl) ?_
        refine lv_iload_n hx hb dX1_isPrime_8 rfl (lv_at hl 2 rfl) ?_
        refine dn_irem hx hb dX1_isPrime_9 (by omega) (by omega) (by omega) ?_
        refine dn_if_ne (tgt := 15) hx hb dX1_isPrime_10 (by decide) (Nat.lt_of_le_of_lt (Nat.mod_le _ _) (by omega)) (fun hm => ?_) (fun hm => ?_)
        · refine lv_iinc (v := (nI (d + 1))) (lv' := [(2, .int (nI (d + 1))), (0, .ref b.1), (1, .int (nI n))]) hx hb dX1_isPrime_15 hl (k := 2) rfl (nI_1 _) (by decide) rfl (fun ls hl => ?_)
          refine lv_goto (tgt := 2) hx hb dX1_isPrime_18 (by decide) ?_
          exact ih (d + 1) (by omega) (by omega) (lt_s2 hk hm) (by omega) _ _ hP hS ls (lv_sub hl [1, 2, 0] rfl)
        · refine lv_iconst (v := (nI 0)) hx hb dX1_isPrime_13 (by decide) ?_
          exact hret _ _ _ () _ _ dX1_isPrime_14 (Or.inl rfl) (Or.inr ⟨rfl, fun z => z.2 d hd2 hc hm⟩) hP hD hS
  exact loop (n - 2 + 1) 2 (by omega) (by omega) (fun k h1 h2 => by omega) (by omega) _ _ hP hS ls (lv_sub hl [1, 2, 0] rfl)
set_option maxHeartbeats 4000000 in
theorem mX1_isUnit {x : Int32} (hp2 : p ≤ 2039) : dx_MI l yX1_isUnit (ws_ yX1_isUnit cX1_isUnit 2 (some .boolean)) (rm_ 0 0) D (yT b) (yW b (nI p) M) [.ref b.1, .int x] (fun (r : Int32) (u : Unit) => (r = 1 ∧ dl_isU p x) ∨ (r = 0 ∧ ¬ dl_isU p x)) (fun _ => yW b (nI p) M) := by
  refine dx_ofZ (by decide) rfl (Nat.le_of_ble_eq_true rfl) ?_
  intro pg en sS mI aR bL mE cO A Q ls hx hb hml hown hts hA hK hP hD hS hl hret
  have hl : lv_has ls 2 [(0, .ref b.1), (1, .int x)] := hl
  refine lv_iload_n hx hb dX1_isUnit_0 rfl (lv_at hl 1 rfl) ?_
  refine lv_iconst (v := (nI 1)) hx hb dX1_isUnit_1 (by decide) ?_
  refine lv_icmp_lt (tgt := 17) hx hb dX1_isUnit_2 (by decide) (fun h1 => ?_) (fun h1 => ?_)
  · refine lv_iconst (v := (nI 0)) hx hb dX1_isUnit_17 (by decide) ?_
    exact hret _ _ _ () _ _ dX1_isUnit_18 (Or.inl rfl) (Or.inr ⟨rfl, dl_notU1 hp2 h1⟩) hP hD hS
  · refine lv_iload_n hx hb dX1_isUnit_5 rfl (lv_at hl 1 rfl) ?_
    refine lv_aload_n hx hb dX1_isUnit_6 rfl (lv_at hl 0 rfl) ?_
    refine yg_p hx hb hts hown hK hP dX1_isUnit_7 ?_
    refine lv_icmp_ge (tgt := 17) hx hb dX1_isUnit_10 (by decide) (fun h2 => ?_) (fun h2 => ?_)
    · refine lv_iconst (v := (nI 0)) hx hb dX1_isUnit_17 (by decide) ?_
      exact hret _ _ _ () _ _ dX1_isUnit_18 (Or.inl rfl) (Or.inr ⟨rfl, dl_notU2 hp2 (fun z => (fa_of_lt z).2.1 h2)⟩) hP hD hS
    · refine lv_iconst (v := (nI 1)) hx hb dX1_isUnit_13 (by decide) ?_
      refine lv_goto (tgt := 18) hx hb dX1_isUnit_14 (by decide) ?_
      exact hret _ _ _ () _ _ dX1_isUnit_18 (Or.inr rfl) (Or.inl ⟨rfl, dl_isU_of hp2 h1 (fa_of_nle h2)⟩) hP hD hS
set_option maxHeartbeats 4000000 in
theorem mX1_prime {x : Int32} : dx_MI l yX1_prime (ws_ yX1_prime cX1_prime 3 (some .int)) (rm_ 1 22) D (yT b) (yW b (nI p) M) [.ref b.1, .int x] (fun (r : Int32) (u : Nat) => R_prime p x r u) (fun u => yW b (nI u) M) := by
  refine dx_ofI (by decide) rfl (Nat.le_of_ble_eq_true rfl) ?_
  intro pg en sS mI aR bL mE cO A Q ls hx hb hml hown hts hA hK hP hD hS hl hret
  have hl : lv_has ls 3 [(0, .ref b.1), (1, .int x)] := hl
  refine lv_iload_n hx hb dX1_prime_0 rfl (lv_at hl 1 rfl) ?_
  refine lv_iconst (v := (nI 3)) hx hb dX1_prime_1 (by decide) ?_
  refine lv_icmp_lt (tgt := 20) hx hb dX1_prime_2 (by decide) (fun h1 => ?_) (fun h1 => ?_)
  · refine lv_iconst (v := (-1)) hx hb dX1_prime_20 (by decide) ?_
    exact hret _ _ _ p _ _ dX1_prime_21 (Or.inl ⟨dl_notP1 h1, rfl, rfl⟩) hP hD hS
  · refine lv_iload_n hx hb dX1_prime_5 rfl (lv_at hl 1 rfl) ?_
    refine lv_sipush (v := (nI 2039)) hx hb dX1_prime_6 (by decide) ?_
    refine lv_icmp_gt (tgt := 20) hx hb dX1_prime_9 (by decide) (fun h2 => ?_) (fun h2 => ?_)
    · refine lv_iconst (v := (-1)) hx hb dX1_prime_20 (by decide) ?_
      exact hret _ _ _ p _ _ dX1_prime_21 (Or.inl ⟨dl_notP2 h2, rfl, rfl⟩) hP hD hS
    · obtain ⟨n, hn3, hn9, rfl⟩ := dl_nat3 h1 h2
      refine lv_aload_n hx hb dX1_prime_12 rfl (lv_at hl 0 rfl) ?_
      refine lv_iload_n hx hb dX1_prime_13 rfl (lv_at hl 1 rfl) ?_
      refine yc_I (As := [.int (nI n)]) (rest := []) hx hb hml hown hts (mX1_isPrime hn3 hn9) (cw_X1_isPrime hts rfl rfl ⟨Nat.le_of_ble_eq_true rfl, Nat.le_of_ble_eq_true rfl⟩) hK hP hD hS hA rfl hl.1 rfl (Nat.le_of_ble_eq_true rfl) dX1_prime_14 (fun r _ H locs hw hP hD hS => ?_)
      rcases hw with ⟨rfl, hpr⟩ | ⟨rfl, hpr⟩
      · refine lv_if_ne (tgt := 22) hx hb dX1_prime_17 (by decide) (fun h3 => ?_) (fun z => absurd z (by decide))
        refine lv_aload_n hx hb dX1_prime_22 rfl (lv_at hl 0 rfl) ?_
        refine yg_p hx hb hts hown hK hP dX1_prime_23 ?_
        refine lv_istore_n (lv' := [(2, .int (nI p)), (0, .ref b.1), (1, .int (nI n))]) hx hb dX1_prime_26 rfl hl (by decide) rfl (fun ls hl => ?_)
        refine lv_aload_n hx hb dX1_prime_27 rfl (lv_at hl 1 rfl) ?_
        refine lv_iload_n hx hb dX1_prime_28 rfl (lv_at hl 2 rfl) ?_
        refine yp_p hx hb hts hown hK hP hD hS dX1_prime_29 (fun H locs hP hD hS => ?_)
        refine lv_iload_n hx hb dX1_prime_32 rfl (lv_at hl 0 rfl) ?_
        exact hret _ _ _ n _ _ dX1_prime_33 (Or.inr ⟨n, rfl, ⟨hn3, hn9, hpr⟩, rfl, rfl⟩) hP hD hS
      · refine lv_if_ne (tgt := 22) hx hb dX1_prime_17 (by decide) (fun z => absurd z (by decide)) (fun h3 => ?_)
        refine lv_iconst (v := (-1)) hx hb dX1_prime_20 (by decide) ?_
        exact hret _ _ _ p _ _ dX1_prime_21 (Or.inl ⟨dl_notP3 hn9 hpr, rfl, rfl⟩) hP hD hS
set_option maxHeartbeats 4000000 in
theorem mX1_modulus  : dx_MI l yX1_modulus (ws_ yX1_modulus cX1_modulus 1 (some .int)) (rm_ 0 0) D (yT b) (yW b (nI p) M) [.ref b.1] (fun (r : Int32) (u : Unit) => r = nI p) (fun _ => yW b (nI p) M) := by
  refine dx_ofI (by decide) rfl (Nat.le_of_ble_eq_true rfl) ?_
  intro pg en sS mI aR bL mE cO A Q ls hx hb hml hown hts hA hK hP hD hS hl hret
  have hl : lv_has ls 1 [(0, .ref b.1)] := hl
  refine lv_aload_n hx hb dX1_modulus_0 rfl (lv_at hl 0 rfl) ?_
  refine yg_p hx hb hts hown hK hP dX1_modulus_1 ?_
  exact hret _ _ _ () _ _ dX1_modulus_4 rfl hP hD hS
set_option maxHeartbeats 4000000 in
theorem mX1_nextPrime (hpp : dl_P p) : dx_MI l yX1_nextPrime (ws_ yX1_nextPrime cX1_nextPrime 2 (some .int)) (rm_ 1 22) D (yT b) (yW b (nI p) M) [.ref b.1] (fun (r : Int32) (u : Nat) => R_next p r u) (fun u => yW b (nI u) M) := by
  refine dx_ofI (by decide) rfl (Nat.le_of_ble_eq_true rfl) ?_
  intro pg en sS mI aR bL mE cO A Q ls hx hb hml hown hts hA hK hP hD hS hl hret
  have hl : lv_has ls 2 [(0, .ref b.1)] := hl
  have hp3 := hpp.1
  have hp9 := hpp.2.1
  have hp1 := dl_P1 hpp
  refine lv_aload_n hx hb dX1_nextPrime_0 rfl (lv_at hl 0 rfl) ?_
  refine yg_p hx hb hts hown hK hP dX1_nextPrime_1 ?_
  refine lv_iconst (v := (nI 1)) hx hb dX1_nextPrime_4 (by decide) ?_
  refine dn_iadd hx hb dX1_nextPrime_5 ?_
  refine lv_istore_n (lv' := [(1, .int (nI (p + 1))), (0, .ref b.1)]) hx hb dX1_nextPrime_6 rfl hl (by decide) rfl (fun ls hl => ?_)
  have loop : ∀ (k9 : Nat) (n : Nat), (p < n) → (n ≤ 2040) → (∀ j, p < j → j < n → ¬ dl_prime j) → (2041 - n) < k9 → ∀ (H : Heap) (locs : List Loc), va_P D vwCl (yW b (nI p) M) H → va_S A sS.heap H locs → ∀ ls : Array Slot, lv_has ls 2 [(0, .ref b.1), (1, .int (nI n))] → W pg l en (rm_ 1 22) sS mI aR bL mE cO H locs 0 0 Q (F0 mI 7 ls []) := by
    intro k9
    induction k9 with
    | zero => intros; omega
    | succ k9 ih =>
      intro n hpn hn9 hj hn H locs hP hS ls hl
      refine lv_iload_n hx hb dX1_nextPrime_7 rfl (lv_at hl 1 rfl) ?_
      refine lv_sipush (v := (nI 2039)) hx hb dX1_nextPrime_8 (by decide) ?_
      refine dn_icmp_gt (tgt := 35) hx hb dX1_nextPrime_11 (by decide) (by omega) (by omega) (fun hc => ?_) (fun hc => ?_)
      · refine lv_bipush (v := (-4)) hx hb dX1_nextPrime_35 (by decide) ?_
        exact hret _ _ _ p _ _ dX1_nextPrime_37 (Or.inr ⟨fun j h1 h2 => hj j h1 (by omega), rfl, rfl⟩) hP hD hS
      · refine lv_aload_n hx hb dX1_nextPrime_14 rfl (lv_at hl 0 rfl) ?_
        refine lv_iload_n hx hb dX1_nextPrime_15 rfl (lv_at hl 1 rfl) ?_
        refine yc_I (As := [.int (nI n)]) (rest := []) hx hb hml hown hts (mX1_isPrime (by omega) hc) (cw_X1_isPrime hts rfl rfl ⟨Nat.le_of_ble_eq_true rfl, Nat.le_of_ble_eq_true rfl⟩) hK hP hD hS hA rfl hl.1 rfl (Nat.le_of_ble_eq_true rfl) dX1_nextPrime_16 (fun r _ H locs hw hP hD hS => ?_)
        rcases hw with ⟨rfl, hpr⟩ | ⟨rfl, hpr⟩
        · refine lv_if_eq (tgt := 29) hx hb dX1_nextPrime_19 (by decide) (fun z => absurd z (by decide)) (fun h3 => ?_)
          refine lv_aload_n hx hb dX1_nextPrime_22 rfl (lv_at hl 0 rfl) ?_
          refine lv_iload_n hx hb dX1_nextPrime_23 rfl (lv_at hl 1 rfl) ?_
          refine yp_p hx hb hts hown hK hP hD hS dX1_nextPrime_24 (fun H locs hP hD hS => ?_)
          refine lv_iload_n hx hb dX1_nextPrime_27 rfl (lv_at hl 1 rfl) ?_
          exact hret _ _ _ n _ _ dX1_nextPrime_28 (Or.inl ⟨n, hpn, ⟨by omega, hc, hpr⟩, hj, rfl, rfl⟩) hP hD hS
        · refine lv_if_eq (tgt := 29) hx hb dX1_nextPrime_19 (by decide) (fun h3 => ?_) (fun z => absurd z (by decide))
          refine lv_iinc (v := (nI (n + 1))) (lv' := [(1, .int (nI (n + 1))), (0, .ref b.1)]) hx hb dX1_nextPrime_29 hl (k := 1) rfl (nI_1 _) (by decide) rfl (fun ls hl => ?_)
          refine lv_goto (tgt := 7) hx hb dX1_nextPrime_32 (by decide) ?_
          exact ih (n + 1) (by omega) (by omega) (fun j h1 h2 => by
            rcases Nat.lt_or_ge j n with z | z
            · exact hj j h1 z
            · have e9 : j = n := (by omega)
              subst e9
              exact hpr) (by omega) _ _ hP hS ls (lv_sub hl [1, 0] rfl)
  exact loop (2041 - (p + 1) + 1) (p + 1) (by omega) (by omega) (fun j h1 h2 => by omega) (by omega) _ _ hP hS ls (lv_sub hl [1, 0] rfl)
set_option maxHeartbeats 4000000 in
theorem mX1_raised {g x : Nat} (hp1 : 1 < p) (hp9 : p ≤ 2039) (hg : g < p) (hx6 : x ≤ 1000000) : dx_MI l yX1_raised (ws_ yX1_raised cX1_raised 5 (some .int)) (rm_ 0 0) D (yT b) (yW b (nI p) M) [.ref b.1, .int (nI g), .int (nI x)] (fun (r : Int32) (u : Unit) => r = nI (g ^ x % p)) (fun _ => yW b (nI p) M) := by
  refine dx_ofI (by decide) rfl (Nat.le_of_ble_eq_true rfl) ?_
  intro pg en sS mI aR bL mE cO A Q ls hx hb hml hown hts hA hK hP hD hS hl hret
  have hl : lv_has ls 5 [(0, .ref b.1), (1, .int (nI g)), (2, .int (nI x))] := hl
  refine lv_iconst (v := (nI 1)) hx hb dX1_raised_0 (by decide) ?_
  refine lv_istore_n (lv' := [(3, .int (nI 1)), (0, .ref b.1), (1, .int (nI g)), (2, .int (nI x))]) hx hb dX1_raised_1 rfl hl (by decide) rfl (fun ls hl => ?_)
  refine lv_bipush (v := (nI 19)) hx hb dX1_raised_2 (by decide) ?_
  refine dn_top (show ((nI 19) : Int32) = (nI 20 + (-1)) from (by decide)) ?_
  refine lv_istore (lv' := [(4, .int (nI 20 + (-1))), (3, .int (nI 1)), (0, .ref b.1), (1, .int (nI g)), (2, .int (nI x))]) hx hb dX1_raised_4 hl (by decide) rfl (fun ls hl => ?_)
  have loop : ∀ (k9 : Nat) (k rs : Nat), (k ≤ 20) → (rs = g ^ (x / 2 ^ k) % p) → k < k9 → ∀ (H : Heap) (locs : List Loc), va_P D vwCl (yW b (nI p) M) H → va_S A sS.heap H locs → ∀ ls : Array Slot, lv_has ls 5 [(0, .ref b.1), (1, .int (nI g)), (2, .int (nI x)), (3, .int (nI rs)), (4, .int (nI k + (-1)))] → W pg l en (rm_ 0 0) sS mI aR bL mE cO H locs 0 0 Q (F0 mI 6 ls []) := by
    intro k9
    induction k9 with
    | zero => intros; omega
    | succ k9 ih =>
      intro k rs hk e1 hn H locs hP hS ls hl
      have hrs : rs < p := by rw [e1]; exact Nat.mod_lt _ (by omega)
      rcases k with _ | k
      · refine lv_iload hx hb dX1_raised_6 (lv_at hl 4 rfl) ?_
        refine lv_if_lt (tgt := 45) hx hb dX1_raised_8 (by decide) (fun h1 => ?_) (fun z => absurd z (fun z2 => z2 (by decide)))
        refine lv_iload_n hx hb dX1_raised_45 rfl (lv_at hl 3 rfl) ?_
        exact hret _ _ _ () _ _ dX1_raised_46 (by rw [e1, Nat.pow_zero, Nat.div_one]) hP hD hS
      · rw [pk_m1] at hl
        refine lv_iload hx hb dX1_raised_6 (lv_at hl 4 rfl) ?_
        refine lv_if_lt (tgt := 45) hx hb dX1_raised_8 (by decide) (fun z => absurd z (nI_pos (by omega))) (fun h1 => ?_)
        refine lv_iload_n hx hb dX1_raised_11 rfl (lv_at hl 3 rfl) ?_
        refine lv_iload_n hx hb dX1_raised_12 rfl (lv_at hl 3 rfl) ?_
        refine dn_imul hx hb dX1_raised_13 ?_
        refine lv_aload_n hx hb dX1_raised_14 rfl (lv_at hl 0 rfl) ?_
        refine yg_p hx hb hts hown hK hP dX1_raised_15 ?_
        refine dn_irem hx hb dX1_raised_18 (dl_mlt hp9 hrs hrs) (by omega) (by omega) ?_
        refine lv_istore_n (lv' := [(3, .int (nI ((rs * rs) % p))), (0, .ref b.1), (1, .int (nI g)), (2, .int (nI x)), (4, .int (nI k))]) hx hb dX1_raised_19 rfl hl (by decide) rfl (fun ls hl => ?_)
        refine lv_iload_n hx hb dX1_raised_20 rfl (lv_at hl 3 rfl) ?_
        refine lv_iload hx hb dX1_raised_21 (lv_at hl 4 rfl) ?_
        refine dn_ishr hx hb dX1_raised_23 (by omega) (by omega) ?_
        refine lv_iconst (v := (nI 1)) hx hb dX1_raised_24 (by decide) ?_
        refine dn_iand hx hb 1 dX1_raised_25 (Nat.lt_of_le_of_lt (Nat.div_le_self _ _) (by omega)) (by decide) ?_
        refine lv_iconst (v := (nI 1)) hx hb dX1_raised_26 (by decide) ?_
        have hrs2 : rs * rs % p < p := Nat.mod_lt _ (by omega)
        refine dn_icmp_ne (tgt := 39) hx hb dX1_raised_27 (by decide) (Nat.lt_trans (Nat.mod_lt _ (by decide)) (by decide)) (by omega) (fun hbit => ?_) (fun hbit => ?_)
        · refine lv_iinc (v := (nI k + (-1))) (lv' := [(4, .int (nI k + (-1))), (3, .int (nI ((rs * rs) % p))), (0, .ref b.1), (1, .int (nI g)), (2, .int (nI x))]) hx hb dX1_raised_39 hl (k := 4) rfl (by rw [show Int32.ofInt (-1) = (-1 : Int32) by decide]) (by decide) rfl (fun ls hl => ?_)
          refine lv_goto (tgt := 6) hx hb dX1_raised_42 (by decide) ?_
          exact ih k _ (by omega) (dl_rs0 e1 hbit) (by omega) _ _ hP hS ls (lv_sub hl [2, 3, 4, 1, 0] rfl)
        · refine lv_iload_n hx hb dX1_raised_30 rfl (lv_at hl 0 rfl) ?_
          refine lv_iload_n hx hb dX1_raised_31 rfl (lv_at hl 2 rfl) ?_
          refine dn_imul hx hb dX1_raised_32 ?_
          refine lv_aload_n hx hb dX1_raised_33 rfl (lv_at hl 1 rfl) ?_
          refine yg_p hx hb hts hown hK hP dX1_raised_34 ?_
          refine dn_irem hx hb dX1_raised_37 (dl_mlt hp9 hrs2 hg) (by omega) (by omega) ?_
          refine lv_istore_n (lv' := [(3, .int (nI ((((rs * rs) % p) * g) % p))), (0, .ref b.1), (1, .int (nI g)), (2, .int (nI x)), (4, .int (nI k))]) hx hb dX1_raised_38 rfl hl (by decide) rfl (fun ls hl => ?_)
          refine lv_iinc (v := (nI k + (-1))) (lv' := [(4, .int (nI k + (-1))), (3, .int (nI ((((rs * rs) % p) * g) % p))), (0, .ref b.1), (1, .int (nI g)), (2, .int (nI x))]) hx hb dX1_raised_39 hl (k := 4) rfl (by rw [show Int32.ofInt (-1) = (-1 : Int32) by decide]) (by decide) rfl (fun ls hl => ?_)
          refine lv_goto (tgt := 6) hx hb dX1_raised_42 (by decide) ?_
          exact ih k _ (by omega) (dl_rs1 e1 hbit) (by omega) _ _ hP hS ls (lv_sub hl [2, 3, 4, 1, 0] rfl)
  exact loop 21 20 1 (by omega) (by rw [Nat.div_eq_of_lt (Nat.lt_of_le_of_lt hx6 (by decide)), Nat.pow_zero, Nat.mod_eq_of_lt hp1]) (by omega) _ _ hP hS ls (lv_sub hl [2, 3, 4, 1, 0] rfl)
set_option maxHeartbeats 4000000 in
theorem mX1_power {x y : Int32} (hp1 : 1 < p) (hp9 : p ≤ 2039) : dx_MI l yX1_power (ws_ yX1_power cX1_power 3 (some .int)) (rm_ 1 24) D (yT b) (yW b (nI p) M) [.ref b.1, .int x, .int y] (fun (r : Int32) (u : Unit) => R_power p x y r) (fun _ => yW b (nI p) M) := by
  refine dx_ofI (by decide) rfl (Nat.le_of_ble_eq_true rfl) ?_
  intro pg en sS mI aR bL mE cO A Q ls hx hb hml hown hts hA hK hP hD hS hl hret
  have hl : lv_has ls 3 [(0, .ref b.1), (1, .int x), (2, .int y)] := hl
  refine lv_aload_n hx hb dX1_power_0 rfl (lv_at hl 0 rfl) ?_
  refine lv_iload_n hx hb dX1_power_1 rfl (lv_at hl 1 rfl) ?_
  refine yc_I (As := [.int x]) (rest := []) hx hb hml hown hts (mX1_isUnit hp9) (cw_X1_isUnit hts rfl rfl ⟨Nat.le_of_ble_eq_true rfl, Nat.le_of_ble_eq_true rfl⟩) hK hP hD hS hA rfl hl.1 rfl (Nat.le_of_ble_eq_true rfl) dX1_power_2 (fun r _ H locs hw hP hD hS => ?_)
  rcases hw with ⟨rfl, g, rfl, hU⟩ | ⟨rfl, hU⟩
  · refine lv_if_eq (tgt := 18) hx hb dX1_power_5 (by decide) (fun z => absurd z (by decide)) (fun h1 => ?_)
    refine lv_iload_n hx hb dX1_power_8 rfl (lv_at hl 2 rfl) ?_
    refine lv_if_lt (tgt := 18) hx hb dX1_power_9 (by decide) (fun h2 => ?_) (fun h2 => ?_)
    · refine lv_iconst (v := (-1)) hx hb dX1_power_18 (by decide) ?_
      exact hret _ _ _ () _ _ dX1_power_19 (Or.inl ⟨fun z => dl_notK1 h2 0 z.2, rfl⟩) hP hD hS
    · refine lv_iload_n hx hb dX1_power_12 rfl (lv_at hl 2 rfl) ?_
      refine lv_ldc (v := nI 1000000) hx hb hown (hts _ q239) dX1_power_13 ?_
      refine lv_icmp_le (tgt := 20) hx hb dX1_power_15 (by decide) (fun h3 => ?_) (fun h3 => ?_)
      · obtain ⟨k, rfl, hk⟩ := dl_K_of h2 h3
        refine lv_aload_n hx hb dX1_power_20 rfl (lv_at hl 0 rfl) ?_
        refine lv_iload_n hx hb dX1_power_21 rfl (lv_at hl 1 rfl) ?_
        refine lv_iload_n hx hb dX1_power_22 rfl (lv_at hl 2 rfl) ?_
        refine yc_I (As := [.int (nI g), .int (nI k)]) (rest := []) hx hb hml hown hts (mX1_raised hp1 hp9 hU.2 hk) (cw_X1_raised hts rfl rfl ⟨Nat.le_of_ble_eq_true rfl, Nat.le_of_ble_eq_true rfl⟩) hK hP hD hS hA rfl hl.1 rfl (Nat.le_of_ble_eq_true rfl) dX1_power_23 (fun r _ H locs hw hP hD hS => ?_)
        obtain rfl : r = nI (g ^ k % p) := hw
        exact hret _ _ _ () _ _ dX1_power_26 (Or.inr ⟨g, k, rfl, hU, rfl, hk, rfl⟩) hP hD hS
      · refine lv_iconst (v := (-1)) hx hb dX1_power_18 (by decide) ?_
        exact hret _ _ _ () _ _ dX1_power_19 (Or.inl ⟨fun z => dl_notK2 h3 0 z.2, rfl⟩) hP hD hS
  · refine lv_if_eq (tgt := 18) hx hb dX1_power_5 (by decide) (fun h1 => ?_) (fun z => absurd z (by decide))
    refine lv_iconst (v := (-1)) hx hb dX1_power_18 (by decide) ?_
    exact hret _ _ _ () _ _ dX1_power_19 (Or.inl ⟨fun z => hU z.1, rfl⟩) hP hD hS
set_option maxHeartbeats 4000000 in
theorem mX1_inverse {x : Int32} (hpp : dl_P p) : dx_MI l yX1_inverse (ws_ yX1_inverse cX1_inverse 4 (some .int)) (rm_ 1 21) D (yT b) (yW b (nI p) M) [.ref b.1, .int x] (fun (r : Int32) (u : Unit) => R_inverse p x r) (fun _ => yW b (nI p) M) := by
  refine dx_ofI (by decide) rfl (Nat.le_of_ble_eq_true rfl) ?_
  intro pg en sS mI aR bL mE cO A Q ls hx hb hml hown hts hA hK hP hD hS hl hret
  have hl : lv_has ls 4 [(0, .ref b.1), (1, .int x)] := hl
  have hp3 := hpp.1
  have hp9 := hpp.2.1
  have hp1 := dl_P1 hpp
  refine lv_aload_n hx hb dX1_inverse_0 rfl (lv_at hl 0 rfl) ?_
  refine lv_iload_n hx hb dX1_inverse_1 rfl (lv_at hl 1 rfl) ?_
  refine yc_I (As := [.int x]) (rest := []) hx hb hml hown hts (mX1_isUnit hp9) (cw_X1_isUnit hts rfl rfl ⟨Nat.le_of_ble_eq_true rfl, Nat.le_of_ble_eq_true rfl⟩) hK hP hD hS hA rfl hl.1 rfl (Nat.le_of_ble_eq_true rfl) dX1_inverse_2 (fun r _ H locs hw hP hD hS => ?_)
  rcases hw with ⟨rfl, g, rfl, hU⟩ | ⟨rfl, hU⟩
  · refine lv_if_ne (tgt := 10) hx hb dX1_inverse_5 (by decide) (fun h1 => ?_) (fun z => absurd z (by decide))
    refine lv_iconst (v := (nI 0)) hx hb dX1_inverse_10 (by decide) ?_
    refine lv_istore_n (lv' := [(2, .int (nI 0)), (0, .ref b.1), (1, .int (nI g))]) hx hb dX1_inverse_11 rfl hl (by decide) rfl (fun ls hl => ?_)
    refine lv_iconst (v := (nI 1)) hx hb dX1_inverse_12 (by decide) ?_
    refine lv_istore_n (lv' := [(3, .int (nI 1)), (2, .int (nI 0)), (0, .ref b.1), (1, .int (nI g))]) hx hb dX1_inverse_13 rfl hl (by decide) rfl (fun ls hl => ?_)
    have loop : ∀ (k9 : Nat) (y fd : Nat), (1 ≤ y) → (y ≤ p) → (∀ z, 1 ≤ z → z < y → g * z % p = 1 → fd = z) → (p - y) < k9 → ∀ (H : Heap) (locs : List Loc), va_P D vwCl (yW b (nI p) M) H → va_S A sS.heap H locs → ∀ ls : Array Slot, lv_has ls 4 [(0, .ref b.1), (1, .int (nI g)), (2, .int (nI fd)), (3, .int (nI y))] → W pg l en (rm_ 1 21) sS mI aR bL mE cO H locs 0 0 Q (F0 mI 14 ls []) := by
      intro k9
      induction k9 with
      | zero => intros; omega
      | succ k9 ih =>
        intro y fd hy1 hyp hf hn H locs hP hS ls hl
        refine lv_iload_n hx hb dX1_inverse_14 rfl (lv_at hl 3 rfl) ?_
        refine lv_aload_n hx hb dX1_inverse_15 rfl (lv_at hl 0 rfl) ?_
        refine yg_p hx hb hts hown hK hP dX1_inverse_16 ?_
        refine dn_icmp_ge (tgt := 42) hx hb dX1_inverse_19 (by decide) (by omega) (by omega) (fun hc => ?_) (fun hc => ?_)
        · refine lv_iload_n hx hb dX1_inverse_42 rfl (lv_at hl 2 rfl) ?_
          have hy0 := dl_U_pow hpp hU (p - 2)
          have e0 := hf _ hy0.1 (by have := hy0.2; omega) (dl_inv_pow hpp hU)
          exact hret _ _ _ () _ _ dX1_inverse_43 (Or.inr ⟨g, fd, rfl, hU, by rw [e0]; exact hy0, by rw [e0]; exact dl_inv_pow hpp hU, rfl⟩) hP hD hS
        · have hgy : g * y < 2147483648 := dl_mlt hp9 hU.2 hc
          refine lv_iload_n hx hb dX1_inverse_22 rfl (lv_at hl 1 rfl) ?_
          refine lv_iload_n hx hb dX1_inverse_23 rfl (lv_at hl 3 rfl) ?_
          refine dn_imul hx hb dX1_inverse_24 ?_
          refine lv_aload_n hx hb dX1_inverse_25 rfl (lv_at hl 0 rfl) ?_
          refine yg_p hx hb hts hown hK hP dX1_inverse_26 ?_
          refine dn_irem hx hb dX1_inverse_29 hgy (by omega) (by omega) ?_
          refine lv_iconst (v := (nI 1)) hx hb dX1_inverse_30 (by decide) ?_
          refine dn_icmp_ne (tgt := 36) hx hb dX1_inverse_31 (by decide) (Nat.lt_trans (Nat.mod_lt _ (by omega)) (by omega)) (by omega) (fun h2 => ?_) (fun h2 => ?_)
          · refine lv_iinc (v := (nI (y + 1))) (lv' := [(3, .int (nI (y + 1))), (0, .ref b.1), (1, .int (nI g)), (2, .int (nI fd))]) hx hb dX1_inverse_36 hl (k := 3) rfl (nI_1 _) (by decide) rfl (fun ls hl => ?_)
            refine lv_goto (tgt := 14) hx hb dX1_inverse_39 (by decide) ?_
            exact ih (y + 1) fd (by omega) (by omega) (fun z h3 h4 e => by
              rcases Nat.lt_or_ge z y with q | q
              · exact hf z h3 q e
              · have e9 : z = y := (by omega)
                subst e9
                exact absurd e h2) (by omega) _ _ hP hS ls (lv_sub hl [1, 2, 3, 0] rfl)
          · refine lv_iload_n hx hb dX1_inverse_34 rfl (lv_at hl 3 rfl) ?_
            refine lv_istore_n (lv' := [(2, .int (nI y)), (0, .ref b.1), (1, .int (nI g)), (3, .int (nI y))]) hx hb dX1_inverse_35 rfl hl (by decide) rfl (fun ls hl => ?_)
            refine lv_iinc (v := (nI (y + 1))) (lv' := [(3, .int (nI (y + 1))), (2, .int (nI y)), (0, .ref b.1), (1, .int (nI g))]) hx hb dX1_inverse_36 hl (k := 3) rfl (nI_1 _) (by decide) rfl (fun ls hl => ?_)
            refine lv_goto (tgt := 14) hx hb dX1_inverse_39 (by decide) ?_
            exact ih (y + 1) y (by omega) (by omega) (fun z h3 h4 e => dl_inv_one hpp hU hc (by omega) h2 e) (by omega) _ _ hP hS ls (lv_sub hl [2, 3, 1, 0] rfl)
    exact loop p 1 0 (by omega) (by omega) (fun z h3 h4 => by omega) (by omega) _ _ hP hS ls (lv_sub hl [2, 3, 1, 0] rfl)
  · refine lv_if_ne (tgt := 10) hx hb dX1_inverse_5 (by decide) (fun z => absurd z (by decide)) (fun h1 => ?_)
    refine lv_iconst (v := (-1)) hx hb dX1_inverse_8 (by decide) ?_
    exact hret _ _ _ () _ _ dX1_inverse_9 (Or.inl ⟨hU, rfl⟩) hP hD hS
set_option maxHeartbeats 4000000 in
theorem mX1_orderOf {g : Nat} (hpp : dl_P p) (hg : dl_U p g) : dx_MI l yX1_orderOf (ws_ yX1_orderOf cX1_orderOf 4 (some .int)) (rm_ 0 0) D (yT b) (yW b (nI p) M) [.ref b.1, .int (nI g)] (fun (r : Int32) (u : Unit) => ∃ n, r = nI n ∧ dl_ord p g n) (fun _ => yW b (nI p) M) := by
  refine dx_ofI (by decide) rfl (Nat.le_of_ble_eq_true rfl) ?_
  intro pg en sS mI aR bL mE cO A Q ls hx hb hml hown hts hA hK hP hD hS hl hret
  have hl : lv_has ls 4 [(0, .ref b.1), (1, .int (nI g))] := hl
  have hp3 := hpp.1
  have hp9 := hpp.2.1
  have hp1 := dl_P1 hpp
  obtain ⟨n0, ho0, -⟩ := dl_ord_ex hpp hg
  have hn9 := dl_ord_le hpp hg ho0
  have hlt : ∀ i, g ^ i % p < p := fun i => Nat.mod_lt _ (by omega)
  refine lv_iconst (v := (nI 1)) hx hb dX1_orderOf_0 (by decide) ?_
  refine lv_istore_n (lv' := [(2, .int (nI 1)), (0, .ref b.1), (1, .int (nI g))]) hx hb dX1_orderOf_1 rfl hl (by decide) rfl (fun ls hl => ?_)
  refine lv_iload_n hx hb dX1_orderOf_2 rfl (lv_at hl 2 rfl) ?_
  refine dn_top (show ((nI g) : Int32) = (nI (g ^ 1 % p)) from (by rw [Nat.pow_one, Nat.mod_eq_of_lt hg.2])) ?_
  refine lv_istore_n (lv' := [(3, .int (nI (g ^ 1 % p))), (2, .int (nI 1)), (0, .ref b.1), (1, .int (nI g))]) hx hb dX1_orderOf_3 rfl hl (by decide) rfl (fun ls hl => ?_)
  have loop : ∀ (k9 : Nat) (x : Nat), (1 ≤ x) → (∀ k, 0 < k → k < x → ¬ g ^ k % p = 1) → (p - x) < k9 → ∀ (H : Heap) (locs : List Loc), va_P D vwCl (yW b (nI p) M) H → va_S A sS.heap H locs → ∀ ls : Array Slot, lv_has ls 4 [(0, .ref b.1), (1, .int (nI g)), (2, .int (nI x)), (3, .int (nI (g ^ x % p)))] → W pg l en (rm_ 0 0) sS mI aR bL mE cO H locs 0 0 Q (F0 mI 4 ls []) := by
    intro k9
    induction k9 with
    | zero => intros; omega
    | succ k9 ih =>
      intro x hx1 hk hn H locs hP hS ls hl
      have hxn : x ≤ n0 := by
        rcases Nat.lt_or_ge n0 x with z | z
        · exact absurd ho0.2.1 (hk n0 ho0.1 z)
        · exact z
      refine lv_iload_n hx hb dX1_orderOf_4 rfl (lv_at hl 2 rfl) ?_
      refine lv_aload_n hx hb dX1_orderOf_5 rfl (lv_at hl 0 rfl) ?_
      refine yg_p hx hb hts hown hK hP dX1_orderOf_6 ?_
      refine dn_icmp_ge (tgt := 32) hx hb dX1_orderOf_9 (by decide) (by omega) (by omega) (fun z => absurd z (by omega)) (fun h1 => ?_)
      refine lv_iload_n hx hb dX1_orderOf_12 rfl (lv_at hl 3 rfl) ?_
      refine lv_iconst (v := (nI 1)) hx hb dX1_orderOf_13 (by decide) ?_
      refine dn_icmp_eq (tgt := 32) hx hb dX1_orderOf_14 (by decide) (Nat.lt_trans (hlt _) (by omega)) (by omega) (fun hc => ?_) (fun hc => ?_)
      · refine lv_iload_n hx hb dX1_orderOf_32 rfl (lv_at hl 2 rfl) ?_
        exact hret _ _ _ () _ _ dX1_orderOf_33 ⟨x, rfl, hx1, hc, hk⟩ hP hD hS
      · refine lv_iload_n hx hb dX1_orderOf_17 rfl (lv_at hl 3 rfl) ?_
        refine lv_iload_n hx hb dX1_orderOf_18 rfl (lv_at hl 1 rfl) ?_
        refine dn_imul hx hb dX1_orderOf_19 ?_
        refine lv_aload_n hx hb dX1_orderOf_20 rfl (lv_at hl 0 rfl) ?_
        refine yg_p hx hb hts hown hK hP dX1_orderOf_21 ?_
        refine dn_irem hx hb dX1_orderOf_24 (dl_mlt hp9 (hlt _) hg.2) (by omega) (by omega) ?_
        refine dn_top (show ((nI (((g ^ x % p) * g) % p)) : Int32) = (nI (g ^ (x + 1) % p)) from (by rw [Nat.pow_succ, Nat.mod_mul_mod])) ?_
        refine lv_istore_n (lv' := [(3, .int (nI (g ^ (x + 1) % p))), (0, .ref b.1), (1, .int (nI g)), (2, .int (nI x))]) hx hb dX1_orderOf_25 rfl hl (by decide) rfl (fun ls hl => ?_)
        refine lv_iinc (v := (nI (x + 1))) (lv' := [(2, .int (nI (x + 1))), (3, .int (nI (g ^ (x + 1) % p))), (0, .ref b.1), (1, .int (nI g))]) hx hb dX1_orderOf_26 hl (k := 3) rfl (nI_1 _) (by decide) rfl (fun ls hl => ?_)
        refine lv_goto (tgt := 4) hx hb dX1_orderOf_29 (by decide) ?_
        exact ih (x + 1) (by omega) (fun k h2 h3 => by
          rcases Nat.lt_or_ge k x with z | z
          · exact hk k h2 z
          · have e9 : k = x := (by omega)
            subst e9
            exact hc) (by omega) _ _ hP hS ls (lv_sub hl [2, 3, 0, 1] rfl)
  exact loop p 1 (by omega) (fun k h2 h3 => by omega) (by omega) _ _ hP hS ls (lv_sub hl [2, 3, 1, 0] rfl)
set_option maxHeartbeats 4000000 in
theorem mX1_order {x : Int32} (hpp : dl_P p) : dx_MI l yX1_order (ws_ yX1_order cX1_order 2 (some .int)) (rm_ 1 23) D (yT b) (yW b (nI p) M) [.ref b.1, .int x] (fun (r : Int32) (u : Unit) => R_order p x r) (fun _ => yW b (nI p) M) := by
  refine dx_ofI (by decide) rfl (Nat.le_of_ble_eq_true rfl) ?_
  intro pg en sS mI aR bL mE cO A Q ls hx hb hml hown hts hA hK hP hD hS hl hret
  have hl : lv_has ls 2 [(0, .ref b.1), (1, .int x)] := hl
  have hp3 := hpp.1
  have hp9 := hpp.2.1
  have hp1 := dl_P1 hpp
  refine lv_aload_n hx hb dX1_order_0 rfl (lv_at hl 0 rfl) ?_
  refine lv_iload_n hx hb dX1_order_1 rfl (lv_at hl 1 rfl) ?_
  refine yc_I (As := [.int x]) (rest := []) hx hb hml hown hts (mX1_isUnit hp9) (cw_X1_isUnit hts rfl rfl ⟨Nat.le_of_ble_eq_true rfl, Nat.le_of_ble_eq_true rfl⟩) hK hP hD hS hA rfl hl.1 rfl (Nat.le_of_ble_eq_true rfl) dX1_order_2 (fun r _ H locs hw hP hD hS => ?_)
  rcases hw with ⟨rfl, g, rfl, hU⟩ | ⟨rfl, hU⟩
  · refine lv_if_eq (tgt := 16) hx hb dX1_order_5 (by decide) (fun z => absurd z (by decide)) (fun h1 => ?_)
    refine lv_aload_n hx hb dX1_order_8 rfl (lv_at hl 0 rfl) ?_
    refine lv_iload_n hx hb dX1_order_9 rfl (lv_at hl 1 rfl) ?_
    refine yc_I (As := [.int (nI g)]) (rest := []) hx hb hml hown hts (mX1_orderOf hpp hU) (cw_X1_orderOf hts rfl rfl ⟨Nat.le_of_ble_eq_true rfl, Nat.le_of_ble_eq_true rfl⟩) hK hP hD hS hA rfl hl.1 rfl (Nat.le_of_ble_eq_true rfl) dX1_order_10 (fun r _ H locs hw hP hD hS => ?_)
    obtain ⟨n, rfl, ho⟩ := hw
    refine lv_goto (tgt := 17) hx hb dX1_order_13 (by decide) ?_
    exact hret _ _ _ () _ _ dX1_order_17 (Or.inr ⟨g, n, rfl, hU, ho, rfl⟩) hP hD hS
  · refine lv_if_eq (tgt := 16) hx hb dX1_order_5 (by decide) (fun h1 => ?_) (fun z => absurd z (by decide))
    refine lv_iconst (v := (-1)) hx hb dX1_order_16 (by decide) ?_
    exact hret _ _ _ () _ _ dX1_order_17 (Or.inl ⟨hU, rfl⟩) hP hD hS
set_option maxHeartbeats 4000000 in
theorem mX1_unitOfOrder {x : Int32} (hpp : dl_P p) : dx_MI l yX1_unitOfOrder (ws_ yX1_unitOfOrder cX1_unitOfOrder 3 (some .int)) (rm_ 1 23) D (yT b) (yW b (nI p) M) [.ref b.1, .int x] (fun (r : Int32) (u : Unit) => R_unitOfOrder p x r) (fun _ => yW b (nI p) M) := by
  refine dx_ofI (by decide) rfl (Nat.le_of_ble_eq_true rfl) ?_
  intro pg en sS mI aR bL mE cO A Q ls hx hb hml hown hts hA hK hP hD hS hl hret
  have hl : lv_has ls 3 [(0, .ref b.1), (1, .int x)] := hl
  have hp3 := hpp.1
  have hp9 := hpp.2.1
  have hp1 := dl_P1 hpp
  refine lv_iload_n hx hb dX1_unitOfOrder_0 rfl (lv_at hl 1 rfl) ?_
  refine lv_iconst (v := (nI 1)) hx hb dX1_unitOfOrder_1 (by decide) ?_
  refine lv_icmp_ge (tgt := 7) hx hb dX1_unitOfOrder_2 (by decide) (fun h1 => ?_) (fun h1 => ?_)
  · obtain ⟨n, hn1, hn31, rfl⟩ := dl_nat1 (x := x) (fun z => (fa_of_lt z).2.1 h1)
    refine lv_iconst (v := (nI 1)) hx hb dX1_unitOfOrder_7 (by decide) ?_
    refine lv_istore_n (lv' := [(2, .int (nI 1)), (0, .ref b.1), (1, .int (nI n))]) hx hb dX1_unitOfOrder_8 rfl hl (by decide) rfl (fun ls hl => ?_)
    have loop : ∀ (k9 : Nat) (u : Nat), (1 ≤ u) → (u ≤ p) → (∀ v, dl_U p v → v < u → ¬ dl_ord p v n) → (p - u) < k9 → ∀ (H : Heap) (locs : List Loc), va_P D vwCl (yW b (nI p) M) H → va_S A sS.heap H locs → ∀ ls : Array Slot, lv_has ls 3 [(0, .ref b.1), (1, .int (nI n)), (2, .int (nI u))] → W pg l en (rm_ 1 23) sS mI aR bL mE cO H locs 0 0 Q (F0 mI 9 ls []) := by
      intro k9
      induction k9 with
      | zero => intros; omega
      | succ k9 ih =>
        intro u hu1 hup hv hn H locs hP hS ls hl
        refine lv_iload_n hx hb dX1_unitOfOrder_9 rfl (lv_at hl 2 rfl) ?_
        refine lv_aload_n hx hb dX1_unitOfOrder_10 rfl (lv_at hl 0 rfl) ?_
        refine yg_p hx hb hts hown hK hP dX1_unitOfOrder_11 ?_
        refine dn_icmp_ge (tgt := 34) hx hb dX1_unitOfOrder_14 (by decide) (by omega) (by omega) (fun hc => ?_) (fun hc => ?_)
        · refine lv_bipush (v := (-4)) hx hb dX1_unitOfOrder_34 (by decide) ?_
          exact hret _ _ _ () _ _ dX1_unitOfOrder_36 (Or.inr ⟨n, rfl, hn1, hn31, Or.inr ⟨rfl, fun v h2 => hv v h2 (by have := h2.2; omega)⟩⟩) hP hD hS
        · refine lv_aload_n hx hb dX1_unitOfOrder_17 rfl (lv_at hl 0 rfl) ?_
          refine lv_iload_n hx hb dX1_unitOfOrder_18 rfl (lv_at hl 2 rfl) ?_
          refine yc_I (As := [.int (nI u)]) (rest := []) hx hb hml hown hts (mX1_orderOf hpp ⟨hu1, hc⟩) (cw_X1_orderOf hts rfl rfl ⟨Nat.le_of_ble_eq_true rfl, Nat.le_of_ble_eq_true rfl⟩) hK hP hD hS hA rfl hl.1 rfl (Nat.le_of_ble_eq_true rfl) dX1_unitOfOrder_19 (fun r u2 H locs hw hP hD hS => ?_)
          obtain ⟨m, rfl, ho⟩ := hw
          have hm9 := dl_ord_le hpp ⟨hu1, hc⟩ ho
          refine lv_iload_n hx hb dX1_unitOfOrder_22 rfl (lv_at hl 1 rfl) ?_
          refine dn_icmp_ne (tgt := 28) hx hb dX1_unitOfOrder_23 (by decide) (by omega) (by omega) (fun h2 => ?_) (fun h2 => ?_)
          · refine lv_iinc (v := (nI (u + 1))) (lv' := [(2, .int (nI (u + 1))), (0, .ref b.1), (1, .int (nI n))]) hx hb dX1_unitOfOrder_28 hl (k := 2) rfl (nI_1 _) (by decide) rfl (fun ls hl => ?_)
            refine lv_goto (tgt := 9) hx hb dX1_unitOfOrder_31 (by decide) ?_
            exact ih (u + 1) (by omega) (by omega) (dl_lt_s hv (fun z => h2 (dl_ord_uniq ho z))) (by omega) _ _ hP hS ls (lv_sub hl [1, 2, 0] rfl)
          · refine lv_iload_n hx hb dX1_unitOfOrder_26 rfl (lv_at hl 2 rfl) ?_
            subst h2
            exact hret _ _ _ () _ _ dX1_unitOfOrder_27 (Or.inr ⟨m, rfl, hn1, hn31, Or.inl ⟨u, rfl, ⟨hu1, hc⟩, ho, hv⟩⟩) hP hD hS
    exact loop p 1 (by omega) (by omega) (fun v h2 h3 => by have := h2.1; omega) (by omega) _ _ hP hS ls (lv_sub hl [1, 2, 0] rfl)
  · refine lv_iconst (v := (-1)) hx hb dX1_unitOfOrder_5 (by decide) ?_
    exact hret _ _ _ () _ _ dX1_unitOfOrder_6 (Or.inl ⟨fa_of_nle h1, rfl⟩) hP hD hS
set_option maxHeartbeats 4000000 in
theorem mX1_unitsOfOrder {x : Int32} (hpp : dl_P p) : dx_MI l yX1_unitsOfOrder (ws_ yX1_unitsOfOrder cX1_unitsOfOrder 4 (some .int)) (rm_ 1 23) D (yT b) (yW b (nI p) M) [.ref b.1, .int x] (fun (r : Int32) (u : Unit) => R_unitsOfOrder p x r) (fun _ => yW b (nI p) M) := by
  refine dx_ofI (by decide) rfl (Nat.le_of_ble_eq_true rfl) ?_
  intro pg en sS mI aR bL mE cO A Q ls hx hb hml hown hts hA hK hP hD hS hl hret
  have hl : lv_has ls 4 [(0, .ref b.1), (1, .int x)] := hl
  have hp3 := hpp.1
  have hp9 := hpp.2.1
  have hp1 := dl_P1 hpp
  refine lv_iload_n hx hb dX1_unitsOfOrder_0 rfl (lv_at hl 1 rfl) ?_
  refine lv_iconst (v := (nI 1)) hx hb dX1_unitsOfOrder_1 (by decide) ?_
  refine lv_icmp_ge (tgt := 7) hx hb dX1_unitsOfOrder_2 (by decide) (fun h1 => ?_) (fun h1 => ?_)
  · obtain ⟨n, hn1, hn31, rfl⟩ := dl_nat1 (x := x) (fun z => (fa_of_lt z).2.1 h1)
    refine lv_iconst (v := (nI 0)) hx hb dX1_unitsOfOrder_7 (by decide) ?_
    refine dn_top (show ((nI 0) : Int32) = (nI (fb_ct (dl_uk p n) 1)) from (by rw [dl_ct_n dl_uk_0]; rfl)) ?_
    refine lv_istore_n (lv' := [(2, .int (nI (fb_ct (dl_uk p n) 1))), (0, .ref b.1), (1, .int (nI n))]) hx hb dX1_unitsOfOrder_8 rfl hl (by decide) rfl (fun ls hl => ?_)
    refine lv_iconst (v := (nI 1)) hx hb dX1_unitsOfOrder_9 (by decide) ?_
    refine lv_istore_n (lv' := [(3, .int (nI 1)), (2, .int (nI (fb_ct (dl_uk p n) 1))), (0, .ref b.1), (1, .int (nI n))]) hx hb dX1_unitsOfOrder_10 rfl hl (by decide) rfl (fun ls hl => ?_)
    have loop : ∀ (k9 : Nat) (u : Nat), (1 ≤ u) → (u ≤ p) → (p - u) < k9 → ∀ (H : Heap) (locs : List Loc), va_P D vwCl (yW b (nI p) M) H → va_S A sS.heap H locs → ∀ ls : Array Slot, lv_has ls 4 [(0, .ref b.1), (1, .int (nI n)), (2, .int (nI (fb_ct (dl_uk p n) u))), (3, .int (nI u))] → W pg l en (rm_ 1 23) sS mI aR bL mE cO H locs 0 0 Q (F0 mI 11 ls []) := by
      intro k9
      induction k9 with
      | zero => intros; omega
      | succ k9 ih =>
        intro u hu1 hup hn H locs hP hS ls hl
        refine lv_iload_n hx hb dX1_unitsOfOrder_11 rfl (lv_at hl 3 rfl) ?_
        refine lv_aload_n hx hb dX1_unitsOfOrder_12 rfl (lv_at hl 0 rfl) ?_
        refine yg_p hx hb hts hown hK hP dX1_unitsOfOrder_13 ?_
        refine dn_icmp_ge (tgt := 37) hx hb dX1_unitsOfOrder_16 (by decide) (by omega) (by omega) (fun hc => ?_) (fun hc => ?_)
        · refine lv_iload_n hx hb dX1_unitsOfOrder_37 rfl (lv_at hl 2 rfl) ?_
          have hup2 : u = p := by omega
          exact hret _ _ _ () _ _ dX1_unitsOfOrder_38 (Or.inr ⟨n, rfl, hn1, hn31, by rw [hup2]; rfl⟩) hP hD hS
        · refine lv_aload_n hx hb dX1_unitsOfOrder_19 rfl (lv_at hl 0 rfl) ?_
          refine lv_iload_n hx hb dX1_unitsOfOrder_20 rfl (lv_at hl 3 rfl) ?_
          refine yc_I (As := [.int (nI u)]) (rest := []) hx hb hml hown hts (mX1_orderOf hpp ⟨hu1, hc⟩) (cw_X1_orderOf hts rfl rfl ⟨Nat.le_of_ble_eq_true rfl, Nat.le_of_ble_eq_true rfl⟩) hK hP hD hS hA rfl hl.1 rfl (Nat.le_of_ble_eq_true rfl) dX1_unitsOfOrder_21 (fun r u2 H locs hw hP hD hS => ?_)
          obtain ⟨m, rfl, ho⟩ := hw
          have hm9 := dl_ord_le hpp ⟨hu1, hc⟩ ho
          refine lv_iload_n hx hb dX1_unitsOfOrder_24 rfl (lv_at hl 1 rfl) ?_
          refine dn_icmp_ne (tgt := 31) hx hb dX1_unitsOfOrder_25 (by decide) (by omega) (by omega) (fun h2 => ?_) (fun h2 => ?_)
          · rw [← dl_ct_n (dl_uk_n ho h2)] at hl
            refine lv_iinc (v := (nI (u + 1))) (lv' := [(3, .int (nI (u + 1))), (0, .ref b.1), (1, .int (nI n)), (2, .int (nI (fb_ct (dl_uk p n) (u + 1))))]) hx hb dX1_unitsOfOrder_31 hl (k := 3) rfl (nI_1 _) (by decide) rfl (fun ls hl => ?_)
            refine lv_goto (tgt := 11) hx hb dX1_unitsOfOrder_34 (by decide) ?_
            exact ih (u + 1) (by omega) (by omega) (by omega) _ _ hP hS ls (lv_sub hl [1, 2, 3, 0] rfl)
          · subst h2
            refine lv_iinc (v := (nI (fb_ct (dl_uk p m) u + 1))) (lv' := [(2, .int (nI (fb_ct (dl_uk p m) u + 1))), (0, .ref b.1), (1, .int (nI m)), (3, .int (nI u))]) hx hb dX1_unitsOfOrder_28 hl (k := 2) rfl (nI_1 _) (by decide) rfl (fun ls hl => ?_)
            rw [← dl_ct_y (dl_uk_y ⟨hu1, hc⟩ ho)] at hl
            refine lv_iinc (v := (nI (u + 1))) (lv' := [(3, .int (nI (u + 1))), (2, .int (nI (fb_ct (dl_uk p m) (u + 1)))), (0, .ref b.1), (1, .int (nI m))]) hx hb dX1_unitsOfOrder_31 hl (k := 3) rfl (nI_1 _) (by decide) rfl (fun ls hl => ?_)
            refine lv_goto (tgt := 11) hx hb dX1_unitsOfOrder_34 (by decide) ?_
            exact ih (u + 1) (by omega) (by omega) (by omega) _ _ hP hS ls (lv_sub hl [2, 3, 1, 0] rfl)
    exact loop p 1 (by omega) (by omega) (by omega) _ _ hP hS ls (lv_sub hl [2, 3, 1, 0] rfl)
  · refine lv_iconst (v := (nI 0)) hx hb dX1_unitsOfOrder_5 (by decide) ?_
    exact hret _ _ _ () _ _ dX1_unitsOfOrder_6 (Or.inl ⟨fa_of_nle h1, rfl⟩) hP hD hS
set_option maxHeartbeats 4000000 in
theorem mX1_generator (hpp : dl_P p) : dx_MI l yX1_generator (ws_ yX1_generator cX1_generator 1 (some .int)) (rm_ 2 45) D (yT b) (yW b (nI p) M) [.ref b.1] (fun (r : Int32) (u : Unit) => R_uoo p (p - 1) r) (fun _ => yW b (nI p) M) := by
  refine dx_ofI (by decide) rfl (Nat.le_of_ble_eq_true rfl) ?_
  intro pg en sS mI aR bL mE cO A Q ls hx hb hml hown hts hA hK hP hD hS hl hret
  have hl : lv_has ls 1 [(0, .ref b.1)] := hl
  have hp3 := hpp.1
  have hp9 := hpp.2.1
  have hp1 := dl_P1 hpp
  refine lv_aload_n hx hb dX1_generator_0 rfl (lv_at hl 0 rfl) ?_
  refine lv_aload_n hx hb dX1_generator_1 rfl (lv_at hl 0 rfl) ?_
  refine yg_p hx hb hts hown hK hP dX1_generator_2 ?_
  refine lv_iconst (v := (nI 1)) hx hb dX1_generator_5 (by decide) ?_
  refine dn_isub hx hb dX1_generator_6 (by omega) ?_
  refine yc_I (As := [.int (nI (p - 1))]) (rest := []) hx hb hml hown hts (mX1_unitOfOrder hpp) (cw_X1_unitOfOrder hts rfl rfl ⟨Nat.le_of_ble_eq_true rfl, Nat.le_of_ble_eq_true rfl⟩) hK hP hD hS hA rfl hl.1 rfl (Nat.le_of_ble_eq_true rfl) dX1_generator_7 (fun r _ H locs hw hP hD hS => ?_)
  have hw : R_uoo p (p - 1) r := by
    rcases hw with ⟨z, -⟩ | ⟨n, e, -, hn31, h⟩
    · have := (nI_ltI (by omega) (by decide)).mp z
      omega
    · have := (nI_eq (by omega) hn31).mp e
      subst this
      exact h
  exact hret _ _ _ () _ _ dX1_generator_10 hw hP hD hS
set_option maxHeartbeats 4000000 in
theorem mX1_generators (hpp : dl_P p) : dx_MI l yX1_generators (ws_ yX1_generators cX1_generators 1 (some .int)) (rm_ 2 46) D (yT b) (yW b (nI p) M) [.ref b.1] (fun (r : Int32) (u : Unit) => r = nI (dl_ocnt p (p - 1))) (fun _ => yW b (nI p) M) := by
  refine dx_ofI (by decide) rfl (Nat.le_of_ble_eq_true rfl) ?_
  intro pg en sS mI aR bL mE cO A Q ls hx hb hml hown hts hA hK hP hD hS hl hret
  have hl : lv_has ls 1 [(0, .ref b.1)] := hl
  have hp3 := hpp.1
  have hp9 := hpp.2.1
  have hp1 := dl_P1 hpp
  refine lv_aload_n hx hb dX1_generators_0 rfl (lv_at hl 0 rfl) ?_
  refine lv_aload_n hx hb dX1_generators_1 rfl (lv_at hl 0 rfl) ?_
  refine yg_p hx hb hts hown hK hP dX1_generators_2 ?_
  refine lv_iconst (v := (nI 1)) hx hb dX1_generators_5 (by decide) ?_
  refine dn_isub hx hb dX1_generators_6 (by omega) ?_
  refine yc_I (As := [.int (nI (p - 1))]) (rest := []) hx hb hml hown hts (mX1_unitsOfOrder hpp) (cw_X1_unitsOfOrder hts rfl rfl ⟨Nat.le_of_ble_eq_true rfl, Nat.le_of_ble_eq_true rfl⟩) hK hP hD hS hA rfl hl.1 rfl (Nat.le_of_ble_eq_true rfl) dX1_generators_7 (fun r _ H locs hw hP hD hS => ?_)
  have hw : r = nI (dl_ocnt p (p - 1)) := by
    rcases hw with ⟨z, -⟩ | ⟨n, e, -, hn31, h⟩
    · have := (nI_ltI (by omega) (by decide)).mp z
      omega
    · have := (nI_eq (by omega) hn31).mp e
      subst this
      exact h
  exact hret _ _ _ () _ _ dX1_generators_10 hw hP hD hS
set_option maxHeartbeats 4000000 in
theorem mX1_log {x y : Int32} (hpp : dl_P p) : dx_MI l yX1_log (ws_ yX1_log cX1_log 5 (some .int)) (rm_ 1 21) D (yT b) (yW b (nI p) M) [.ref b.1, .int x, .int y] (fun (r : Int32) (u : Unit) => R_log p x y r) (fun _ => yW b (nI p) M) := by
  refine dx_ofI (by decide) rfl (Nat.le_of_ble_eq_true rfl) ?_
  intro pg en sS mI aR bL mE cO A Q ls hx hb hml hown hts hA hK hP hD hS hl hret
  have hl : lv_has ls 5 [(0, .ref b.1), (1, .int x), (2, .int y)] := hl
  have hp3 := hpp.1
  have hp9 := hpp.2.1
  have hp1 := dl_P1 hpp
  refine lv_aload_n hx hb dX1_log_0 rfl (lv_at hl 0 rfl) ?_
  refine lv_iload_n hx hb dX1_log_1 rfl (lv_at hl 1 rfl) ?_
  refine yc_I (As := [.int x]) (rest := []) hx hb hml hown hts (mX1_isUnit hp9) (cw_X1_isUnit hts rfl rfl ⟨Nat.le_of_ble_eq_true rfl, Nat.le_of_ble_eq_true rfl⟩) hK hP hD hS hA rfl hl.1 rfl (Nat.le_of_ble_eq_true rfl) dX1_log_2 (fun r _ H locs hw hP hD hS => ?_)
  rcases hw with ⟨rfl, u, rfl, hu⟩ | ⟨rfl, hu⟩
  · refine lv_if_eq (tgt := 16) hx hb dX1_log_5 (by decide) (fun z => absurd z (by decide)) (fun h1 => ?_)
    refine lv_aload_n hx hb dX1_log_8 rfl (lv_at hl 0 rfl) ?_
    refine lv_iload_n hx hb dX1_log_9 rfl (lv_at hl 2 rfl) ?_
    refine yc_I (As := [.int y]) (rest := []) hx hb hml hown hts (mX1_isUnit hp9) (cw_X1_isUnit hts rfl rfl ⟨Nat.le_of_ble_eq_true rfl, Nat.le_of_ble_eq_true rfl⟩) hK hP hD hS hA rfl hl.1 rfl (Nat.le_of_ble_eq_true rfl) dX1_log_10 (fun r u2 H locs hw hP hD hS => ?_)
    rcases hw with ⟨rfl, v, rfl, hv⟩ | ⟨rfl, hv⟩
    · refine lv_if_ne (tgt := 18) hx hb dX1_log_13 (by decide) (fun h2 => ?_) (fun z => absurd z (by decide))
      have hlt : ∀ i, u ^ i % p < p := fun i => Nat.mod_lt _ (by omega)
      have hvp := hv.2
      refine lv_iconst (v := (nI 1)) hx hb dX1_log_18 (by decide) ?_
      refine dn_top (show ((nI 1) : Int32) = (nI (u ^ 0 % p)) from (by rw [Nat.pow_zero, dl_one hp1])) ?_
      refine lv_istore_n (lv' := [(3, .int (nI (u ^ 0 % p))), (0, .ref b.1), (1, .int (nI u)), (2, .int (nI v))]) hx hb dX1_log_19 rfl hl (by decide) rfl (fun ls hl => ?_)
      refine lv_iconst (v := (nI 0)) hx hb dX1_log_20 (by decide) ?_
      refine lv_istore (lv' := [(4, .int (nI 0)), (3, .int (nI (u ^ 0 % p))), (0, .ref b.1), (1, .int (nI u)), (2, .int (nI v))]) hx hb dX1_log_21 hl (by decide) rfl (fun ls hl => ?_)
      have loop : ∀ (k9 : Nat) (x : Nat), (x ≤ p - 1) → (∀ k, k < x → ¬ u ^ k % p = v) → (p - x) < k9 → ∀ (H : Heap) (locs : List Loc), va_P D vwCl (yW b (nI p) M) H → va_S A sS.heap H locs → ∀ ls : Array Slot, lv_has ls 5 [(0, .ref b.1), (1, .int (nI u)), (2, .int (nI v)), (3, .int (nI (u ^ x % p))), (4, .int (nI x))] → W pg l en (rm_ 1 21) sS mI aR bL mE cO H locs 0 0 Q (F0 mI 23 ls []) := by
        intro k9
        induction k9 with
        | zero => intros; omega
        | succ k9 ih =>
          intro x hx9 hk hn H locs hP hS ls hl
          refine lv_iload hx hb dX1_log_23 (lv_at hl 4 rfl) ?_
          refine lv_aload_n hx hb dX1_log_25 rfl (lv_at hl 0 rfl) ?_
          refine yg_p hx hb hts hown hK hP dX1_log_26 ?_
          refine lv_iconst (v := (nI 1)) hx hb dX1_log_29 (by decide) ?_
          refine dn_isub hx hb dX1_log_30 (by omega) ?_
          refine dn_icmp_ge (tgt := 57) hx hb dX1_log_31 (by decide) (by omega) (by omega) (fun hc => ?_) (fun hc => ?_)
          · refine lv_bipush (v := (-4)) hx hb dX1_log_57 (by decide) ?_
            exact hret _ _ _ () _ _ dX1_log_59 (Or.inr ⟨u, v, rfl, hu, rfl, hv, Or.inl ⟨rfl, fun k h => hk k (by omega)⟩⟩) hP hD hS
          · refine lv_iload_n hx hb dX1_log_34 rfl (lv_at hl 3 rfl) ?_
            refine lv_iload_n hx hb dX1_log_35 rfl (lv_at hl 2 rfl) ?_
            refine dn_icmp_ne (tgt := 42) hx hb dX1_log_36 (by decide) (Nat.lt_trans (hlt _) (by omega)) (by omega) (fun h3 => ?_) (fun h3 => ?_)
            · refine lv_iload_n hx hb dX1_log_42 rfl (lv_at hl 3 rfl) ?_
              refine lv_iload_n hx hb dX1_log_43 rfl (lv_at hl 1 rfl) ?_
              refine dn_imul hx hb dX1_log_44 ?_
              refine lv_aload_n hx hb dX1_log_45 rfl (lv_at hl 0 rfl) ?_
              refine yg_p hx hb hts hown hK hP dX1_log_46 ?_
              refine dn_irem hx hb dX1_log_49 (dl_mlt hp9 (hlt _) hu.2) (by omega) (by omega) ?_
              refine dn_top (show ((nI (((u ^ x % p) * u) % p)) : Int32) = (nI (u ^ (x + 1) % p)) from (by rw [Nat.pow_succ, Nat.mod_mul_mod])) ?_
              refine lv_istore_n (lv' := [(3, .int (nI (u ^ (x + 1) % p))), (0, .ref b.1), (1, .int (nI u)), (2, .int (nI v)), (4, .int (nI x))]) hx hb dX1_log_50 rfl hl (by decide) rfl (fun ls hl => ?_)
              refine lv_iinc (v := (nI (x + 1))) (lv' := [(4, .int (nI (x + 1))), (3, .int (nI (u ^ (x + 1) % p))), (0, .ref b.1), (1, .int (nI u)), (2, .int (nI v))]) hx hb dX1_log_51 hl (k := 4) rfl (nI_1 _) (by decide) rfl (fun ls hl => ?_)
              refine lv_goto (tgt := 23) hx hb dX1_log_54 (by decide) ?_
              exact ih (x + 1) (by omega) (lt_s hk h3) (by omega) _ _ hP hS ls (lv_sub hl [2, 3, 4, 1, 0] rfl)
            · refine lv_iload hx hb dX1_log_39 (lv_at hl 4 rfl) ?_
              exact hret _ _ _ () _ _ dX1_log_41 (Or.inr ⟨u, v, rfl, hu, rfl, hv, Or.inr ⟨x, rfl, hc, h3, hk⟩⟩) hP hD hS
      exact loop (p + 1) 0 (by omega) (fun k h => by omega) (by omega) _ _ hP hS ls (lv_sub hl [2, 3, 4, 1, 0] rfl)
    · refine lv_if_ne (tgt := 18) hx hb dX1_log_13 (by decide) (fun z => absurd z (by decide)) (fun h2 => ?_)
      refine lv_iconst (v := (-1)) hx hb dX1_log_16 (by decide) ?_
      exact hret _ _ _ () _ _ dX1_log_17 (Or.inl ⟨fun z => hv z.2, rfl⟩) hP hD hS
  · refine lv_if_eq (tgt := 16) hx hb dX1_log_5 (by decide) (fun h1 => ?_) (fun z => absurd z (by decide))
    refine lv_iconst (v := (-1)) hx hb dX1_log_16 (by decide) ?_
    exact hret _ _ _ () _ _ dX1_log_17 (Or.inl ⟨fun z => hu z.1, rfl⟩) hP hD hS
set_option maxHeartbeats 4000000 in
theorem mX1_isExponent {x : Int32} : dx_MI l yX1_isExponent (ws_ yX1_isExponent cX1_isExponent 2 (some .boolean)) (rm_ 0 0) D (yT b) (yW b (nI p) M) [.ref b.1, .int x] (fun (r : Int32) (u : Unit) => (r = 1 ∧ dl_isK 1 x) ∨ (r = 0 ∧ ¬ dl_isK 1 x)) (fun _ => yW b (nI p) M) := by
  refine dx_ofZ (by decide) rfl (Nat.le_of_ble_eq_true rfl) ?_
  intro pg en sS mI aR bL mE cO A Q ls hx hb hml hown hts hA hK hP hD hS hl hret
  have hl : lv_has ls 2 [(0, .ref b.1), (1, .int x)] := hl
  refine lv_iload_n hx hb dX1_isExponent_0 rfl (lv_at hl 1 rfl) ?_
  refine lv_iconst (v := (nI 1)) hx hb dX1_isExponent_1 (by decide) ?_
  refine lv_icmp_lt (tgt := 15) hx hb dX1_isExponent_2 (by decide) (fun h2 => ?_) (fun h2 => ?_)
  · refine lv_iconst (v := (nI 0)) hx hb dX1_isExponent_15 (by decide) ?_
    exact hret _ _ _ () _ _ dX1_isExponent_16 (Or.inl rfl) (Or.inr ⟨rfl, dl_notK3 h2⟩) hP hD hS
  · refine lv_iload_n hx hb dX1_isExponent_5 rfl (lv_at hl 1 rfl) ?_
    refine lv_ldc (v := nI 1000000) hx hb hown (hts _ q239) dX1_isExponent_6 ?_
    refine lv_icmp_gt (tgt := 15) hx hb dX1_isExponent_8 (by decide) (fun h3 => ?_) (fun h3 => ?_)
    · refine lv_iconst (v := (nI 0)) hx hb dX1_isExponent_15 (by decide) ?_
      exact hret _ _ _ () _ _ dX1_isExponent_16 (Or.inl rfl) (Or.inr ⟨rfl, dl_notK2 (fa_of_lt h3).2.1 1⟩) hP hD hS
    · refine lv_iconst (v := (nI 1)) hx hb dX1_isExponent_11 (by decide) ?_
      refine lv_goto (tgt := 16) hx hb dX1_isExponent_12 (by decide) ?_
      obtain ⟨k, hk1, hk2, ek⟩ := dl_nat1 h2
      have hk3 : k ≤ 1000000 := (nI_leI hk2 (by decide)).mp (by rw [← ek]; exact fa_of_nlt h3)
      exact hret _ _ _ () _ _ dX1_isExponent_16 (Or.inr rfl) (Or.inl ⟨rfl, k, ek, hk1, hk3⟩) hP hD hS
set_option maxHeartbeats 4000000 in
theorem mX1_root {x y : Int32} (hpp : dl_P p) : dx_MI l yX1_root (ws_ yX1_root cX1_root 4 (some .int)) (rm_ 1 24) D (yT b) (yW b (nI p) M) [.ref b.1, .int x, .int y] (fun (r : Int32) (u : Unit) => R_root p x y r) (fun _ => yW b (nI p) M) := by
  refine dx_ofI (by decide) rfl (Nat.le_of_ble_eq_true rfl) ?_
  intro pg en sS mI aR bL mE cO A Q ls hx hb hml hown hts hA hK hP hD hS hl hret
  have hl : lv_has ls 4 [(0, .ref b.1), (1, .int x), (2, .int y)] := hl
  have hp3 := hpp.1
  have hp9 := hpp.2.1
  have hp1 := dl_P1 hpp
  refine lv_aload_n hx hb dX1_root_0 rfl (lv_at hl 0 rfl) ?_
  refine lv_iload_n hx hb dX1_root_1 rfl (lv_at hl 1 rfl) ?_
  refine yc_I (As := [.int x]) (rest := []) hx hb hml hown hts (mX1_isUnit hp9) (cw_X1_isUnit hts rfl rfl ⟨Nat.le_of_ble_eq_true rfl, Nat.le_of_ble_eq_true rfl⟩) hK hP hD hS hA rfl hl.1 rfl (Nat.le_of_ble_eq_true rfl) dX1_root_2 (fun r _ H locs hw hP hD hS => ?_)
  rcases hw with ⟨rfl, v, rfl, hv⟩ | ⟨rfl, hv⟩
  · refine lv_if_eq (tgt := 16) hx hb dX1_root_5 (by decide) (fun z => absurd z (by decide)) (fun h1 => ?_)
    refine lv_aload_n hx hb dX1_root_8 rfl (lv_at hl 0 rfl) ?_
    refine lv_iload_n hx hb dX1_root_9 rfl (lv_at hl 2 rfl) ?_
    refine yc_I (As := [.int y]) (rest := []) hx hb hml hown hts (mX1_isExponent) (cw_X1_isExponent hts rfl rfl ⟨Nat.le_of_ble_eq_true rfl, Nat.le_of_ble_eq_true rfl⟩) hK hP hD hS hA rfl hl.1 rfl (Nat.le_of_ble_eq_true rfl) dX1_root_10 (fun r _ H locs hw hP hD hS => ?_)
    rcases hw with ⟨rfl, k, rfl, hk1, hk2⟩ | ⟨rfl, hk⟩
    · refine lv_if_ne (tgt := 18) hx hb dX1_root_13 (by decide) (fun h2 => ?_) (fun z => absurd z (by decide))
      have hvp := hv.2
      refine lv_iconst (v := (nI 1)) hx hb dX1_root_18 (by decide) ?_
      refine lv_istore_n (lv' := [(3, .int (nI 1)), (0, .ref b.1), (1, .int (nI v)), (2, .int (nI k))]) hx hb dX1_root_19 rfl hl (by decide) rfl (fun ls hl => ?_)
      have loop : ∀ (k9 : Nat) (y : Nat), (1 ≤ y) → (y ≤ p) → (∀ z, dl_U p z → z < y → ¬ z ^ k % p = v) → (p - y) < k9 → ∀ (H : Heap) (locs : List Loc), va_P D vwCl (yW b (nI p) M) H → va_S A sS.heap H locs → ∀ ls : Array Slot, lv_has ls 4 [(0, .ref b.1), (1, .int (nI v)), (2, .int (nI k)), (3, .int (nI y))] → W pg l en (rm_ 1 24) sS mI aR bL mE cO H locs 0 0 Q (F0 mI 20 ls []) := by
        intro k9
        induction k9 with
        | zero => intros; omega
        | succ k9 ih =>
          intro y hy1 hyp hz hn H locs hP hS ls hl
          refine lv_iload_n hx hb dX1_root_20 rfl (lv_at hl 3 rfl) ?_
          refine lv_aload_n hx hb dX1_root_21 rfl (lv_at hl 0 rfl) ?_
          refine yg_p hx hb hts hown hK hP dX1_root_22 ?_
          refine dn_icmp_ge (tgt := 46) hx hb dX1_root_25 (by decide) (by omega) (by omega) (fun hc => ?_) (fun hc => ?_)
          · refine lv_bipush (v := (-4)) hx hb dX1_root_46 (by decide) ?_
            exact hret _ _ _ () _ _ dX1_root_48 (Or.inr ⟨v, k, rfl, hv, rfl, hk1, hk2, Or.inl ⟨rfl, fun z h3 => hz z h3 (by have := h3.2; omega)⟩⟩) hP hD hS
          · refine lv_aload_n hx hb dX1_root_28 rfl (lv_at hl 0 rfl) ?_
            refine lv_iload_n hx hb dX1_root_29 rfl (lv_at hl 3 rfl) ?_
            refine lv_iload_n hx hb dX1_root_30 rfl (lv_at hl 2 rfl) ?_
            refine yc_I (As := [.int (nI y), .int (nI k)]) (rest := []) hx hb hml hown hts (mX1_raised hp1 hp9 hc hk2) (cw_X1_raised hts rfl rfl ⟨Nat.le_of_ble_eq_true rfl, Nat.le_of_ble_eq_true rfl⟩) hK hP hD hS hA rfl hl.1 rfl (Nat.le_of_ble_eq_true rfl) dX1_root_31 (fun r _ H locs hw hP hD hS => ?_)
            obtain rfl : r = nI (y ^ k % p) := hw
            refine lv_iload_n hx hb dX1_root_34 rfl (lv_at hl 1 rfl) ?_
            refine dn_icmp_ne (tgt := 40) hx hb dX1_root_35 (by decide) (Nat.lt_trans (Nat.mod_lt _ (by omega)) (by omega)) (by omega) (fun h3 => ?_) (fun h3 => ?_)
            · refine lv_iinc (v := (nI (y + 1))) (lv' := [(3, .int (nI (y + 1))), (0, .ref b.1), (1, .int (nI v)), (2, .int (nI k))]) hx hb dX1_root_40 hl (k := 3) rfl (nI_1 _) (by decide) rfl (fun ls hl => ?_)
              refine lv_goto (tgt := 20) hx hb dX1_root_43 (by decide) ?_
              exact ih (y + 1) (by omega) (by omega) (dl_lt_s hz h3) (by omega) _ _ hP hS ls (lv_sub hl [1, 2, 3, 0] rfl)
            · refine lv_iload_n hx hb dX1_root_38 rfl (lv_at hl 3 rfl) ?_
              exact hret _ _ _ () _ _ dX1_root_39 (Or.inr ⟨v, k, rfl, hv, rfl, hk1, hk2, Or.inr ⟨y, rfl, ⟨hy1, hc⟩, h3, hz⟩⟩) hP hD hS
      exact loop p 1 (by omega) (by omega) (fun v h2 h3 => by have := h2.1; omega) (by omega) _ _ hP hS ls (lv_sub hl [1, 2, 3, 0] rfl)
    · refine lv_if_ne (tgt := 18) hx hb dX1_root_13 (by decide) (fun z => absurd z (by decide)) (fun h2 => ?_)
      refine lv_iconst (v := (-1)) hx hb dX1_root_16 (by decide) ?_
      exact hret _ _ _ () _ _ dX1_root_17 (Or.inl ⟨fun z => hk z.2, rfl⟩) hP hD hS
  · refine lv_if_eq (tgt := 16) hx hb dX1_root_5 (by decide) (fun h1 => ?_) (fun z => absurd z (by decide))
    refine lv_iconst (v := (-1)) hx hb dX1_root_16 (by decide) ?_
    exact hret _ _ _ () _ _ dX1_root_17 (Or.inl ⟨fun z => hv z.1, rfl⟩) hP hD hS
set_option maxHeartbeats 4000000 in
theorem mX1_roots {x y : Int32} (hpp : dl_P p) : dx_MI l yX1_roots (ws_ yX1_roots cX1_roots 5 (some .int)) (rm_ 1 24) D (yT b) (yW b (nI p) M) [.ref b.1, .int x, .int y] (fun (r : Int32) (u : Unit) => R_roots p x y r) (fun _ => yW b (nI p) M) := by
  refine dx_ofI (by decide) rfl (Nat.le_of_ble_eq_true rfl) ?_
  intro pg en sS mI aR bL mE cO A Q ls hx hb hml hown hts hA hK hP hD hS hl hret
  have hl : lv_has ls 5 [(0, .ref b.1), (1, .int x), (2, .int y)] := hl
  have hp3 := hpp.1
  have hp9 := hpp.2.1
  have hp1 := dl_P1 hpp
  refine lv_aload_n hx hb dX1_roots_0 rfl (lv_at hl 0 rfl) ?_
  refine lv_iload_n hx hb dX1_roots_1 rfl (lv_at hl 1 rfl) ?_
  refine yc_I (As := [.int x]) (rest := []) hx hb hml hown hts (mX1_isUnit hp9) (cw_X1_isUnit hts rfl rfl ⟨Nat.le_of_ble_eq_true rfl, Nat.le_of_ble_eq_true rfl⟩) hK hP hD hS hA rfl hl.1 rfl (Nat.le_of_ble_eq_true rfl) dX1_roots_2 (fun r _ H locs hw hP hD hS => ?_)
  rcases hw with ⟨rfl, v, rfl, hv⟩ | ⟨rfl, hv⟩
  · refine lv_if_eq (tgt := 16) hx hb dX1_roots_5 (by decide) (fun z => absurd z (by decide)) (fun h1 => ?_)
    refine lv_aload_n hx hb dX1_roots_8 rfl (lv_at hl 0 rfl) ?_
    refine lv_iload_n hx hb dX1_roots_9 rfl (lv_at hl 2 rfl) ?_
    refine yc_I (As := [.int y]) (rest := []) hx hb hml hown hts (mX1_isExponent) (cw_X1_isExponent hts rfl rfl ⟨Nat.le_of_ble_eq_true rfl, Nat.le_of_ble_eq_true rfl⟩) hK hP hD hS hA rfl hl.1 rfl (Nat.le_of_ble_eq_true rfl) dX1_roots_10 (fun r _ H locs hw hP hD hS => ?_)
    rcases hw with ⟨rfl, k, rfl, hk1, hk2⟩ | ⟨rfl, hk⟩
    · refine lv_if_ne (tgt := 18) hx hb dX1_roots_13 (by decide) (fun h2 => ?_) (fun z => absurd z (by decide))
      have hvp := hv.2
      refine lv_iconst (v := (nI 0)) hx hb dX1_roots_18 (by decide) ?_
      refine dn_top (show ((nI 0) : Int32) = (nI (fb_ct (dl_rk p v k) 1)) from (by rw [dl_ct_n (show dl_rk p v k 0 = false from decide_eq_false (fun z => by omega))]; rfl)) ?_
      refine lv_istore_n (lv' := [(3, .int (nI (fb_ct (dl_rk p v k) 1))), (0, .ref b.1), (1, .int (nI v)), (2, .int (nI k))]) hx hb dX1_roots_19 rfl hl (by decide) rfl (fun ls hl => ?_)
      refine lv_iconst (v := (nI 1)) hx hb dX1_roots_20 (by decide) ?_
      refine lv_istore (lv' := [(4, .int (nI 1)), (3, .int (nI (fb_ct (dl_rk p v k) 1))), (0, .ref b.1), (1, .int (nI v)), (2, .int (nI k))]) hx hb dX1_roots_21 hl (by decide) rfl (fun ls hl => ?_)
      have loop : ∀ (k9 : Nat) (y : Nat), (1 ≤ y) → (y ≤ p) → (p - y) < k9 → ∀ (H : Heap) (locs : List Loc), va_P D vwCl (yW b (nI p) M) H → va_S A sS.heap H locs → ∀ ls : Array Slot, lv_has ls 5 [(0, .ref b.1), (1, .int (nI v)), (2, .int (nI k)), (3, .int (nI (fb_ct (dl_rk p v k) y))), (4, .int (nI y))] → W pg l en (rm_ 1 24) sS mI aR bL mE cO H locs 0 0 Q (F0 mI 23 ls []) := by
        intro k9
        induction k9 with
        | zero => intros; omega
        | succ k9 ih =>
          intro y hy1 hyp hn H locs hP hS ls hl
          refine lv_iload hx hb dX1_roots_23 (lv_at hl 4 rfl) ?_
          refine lv_aload_n hx hb dX1_roots_25 rfl (lv_at hl 0 rfl) ?_
          refine yg_p hx hb hts hown hK hP dX1_roots_26 ?_
          refine dn_icmp_ge (tgt := 52) hx hb dX1_roots_29 (by decide) (by omega) (by omega) (fun hc => ?_) (fun hc => ?_)
          · refine lv_iload_n hx hb dX1_roots_52 rfl (lv_at hl 3 rfl) ?_
            have hyp2 : y = p := by omega
            exact hret _ _ _ () _ _ dX1_roots_53 (Or.inr ⟨v, k, rfl, hv, rfl, hk1, hk2, by rw [hyp2]; rfl⟩) hP hD hS
          · refine lv_aload_n hx hb dX1_roots_32 rfl (lv_at hl 0 rfl) ?_
            refine lv_iload hx hb dX1_roots_33 (lv_at hl 4 rfl) ?_
            refine lv_iload_n hx hb dX1_roots_35 rfl (lv_at hl 2 rfl) ?_
            refine yc_I (As := [.int (nI y), .int (nI k)]) (rest := []) hx hb hml hown hts (mX1_raised hp1 hp9 hc hk2) (cw_X1_raised hts rfl rfl ⟨Nat.le_of_ble_eq_true rfl, Nat.le_of_ble_eq_true rfl⟩) hK hP hD hS hA rfl hl.1 rfl (Nat.le_of_ble_eq_true rfl) dX1_roots_36 (fun r _ H locs hw hP hD hS => ?_)
            obtain rfl : r = nI (y ^ k % p) := hw
            refine lv_iload_n hx hb dX1_roots_39 rfl (lv_at hl 1 rfl) ?_
            refine dn_icmp_ne (tgt := 46) hx hb dX1_roots_40 (by decide) (Nat.lt_trans (Nat.mod_lt _ (by omega)) (by omega)) (by omega) (fun h3 => ?_) (fun h3 => ?_)
            · rw [← dl_ct_n (show dl_rk p v k y = false from decide_eq_false (fun z => h3 z.2))] at hl
              refine lv_iinc (v := (nI (y + 1))) (lv' := [(4, .int (nI (y + 1))), (0, .ref b.1), (1, .int (nI v)), (2, .int (nI k)), (3, .int (nI (fb_ct (dl_rk p v k) (y + 1))))]) hx hb dX1_roots_46 hl (k := 4) rfl (nI_1 _) (by decide) rfl (fun ls hl => ?_)
              refine lv_goto (tgt := 23) hx hb dX1_roots_49 (by decide) ?_
              exact ih (y + 1) (by omega) (by omega) (by omega) _ _ hP hS ls (lv_sub hl [1, 2, 3, 4, 0] rfl)
            · refine lv_iinc (v := (nI (fb_ct (dl_rk p v k) y + 1))) (lv' := [(3, .int (nI (fb_ct (dl_rk p v k) y + 1))), (0, .ref b.1), (1, .int (nI v)), (2, .int (nI k)), (4, .int (nI y))]) hx hb dX1_roots_43 hl (k := 3) rfl (nI_1 _) (by decide) rfl (fun ls hl => ?_)
              rw [← dl_ct_y (show dl_rk p v k y = true from decide_eq_true ⟨hy1, h3⟩)] at hl
              refine lv_iinc (v := (nI (y + 1))) (lv' := [(4, .int (nI (y + 1))), (3, .int (nI (fb_ct (dl_rk p v k) (y + 1)))), (0, .ref b.1), (1, .int (nI v)), (2, .int (nI k))]) hx hb dX1_roots_46 hl (k := 4) rfl (nI_1 _) (by decide) rfl (fun ls hl => ?_)
              refine lv_goto (tgt := 23) hx hb dX1_roots_49 (by decide) ?_
              exact ih (y + 1) (by omega) (by omega) (by omega) _ _ hP hS ls (lv_sub hl [2, 3, 4, 1, 0] rfl)
      exact loop p 1 (by omega) (by omega) (by omega) _ _ hP hS ls (lv_sub hl [2, 3, 4, 1, 0] rfl)
    · refine lv_if_ne (tgt := 18) hx hb dX1_roots_13 (by decide) (fun z => absurd z (by decide)) (fun h2 => ?_)
      refine lv_iconst (v := (-1)) hx hb dX1_roots_16 (by decide) ?_
      exact hret _ _ _ () _ _ dX1_roots_17 (Or.inl ⟨fun z => hk z.2, rfl⟩) hP hD hS
  · refine lv_if_eq (tgt := 16) hx hb dX1_roots_5 (by decide) (fun h1 => ?_) (fun z => absurd z (by decide))
    refine lv_iconst (v := (-1)) hx hb dX1_roots_16 (by decide) ?_
    exact hret _ _ _ () _ _ dX1_roots_17 (Or.inl ⟨fun z => hv z.1, rfl⟩) hP hD hS
set_option maxHeartbeats 4000000 in
theorem mX1_logWith {x y z m : Int32} (hpp : dl_P p) : dx_MI l yX1_logWith (ws_ yX1_logWith cX1_logWith 7 (some .int)) (rm_ 1 21) D (yT b) (yW b (nI p) M) [.ref b.1, .int x, .int y, .int z, .int m] (fun (r : Int32) (u : Unit) => R_logWith p x y z m r) (fun _ => yW b (nI p) M) := by
  refine dx_ofI (by decide) rfl (Nat.le_of_ble_eq_true rfl) ?_
  intro pg en sS mI aR bL mE cO A Q ls hx hb hml hown hts hA hK hP hD hS hl hret
  have hl : lv_has ls 7 [(0, .ref b.1), (1, .int x), (2, .int y), (3, .int z), (4, .int m)] := hl
  have hp3 := hpp.1
  have hp9 := hpp.2.1
  have hp1 := dl_P1 hpp
  refine lv_aload_n hx hb dX1_logWith_0 rfl (lv_at hl 0 rfl) ?_
  refine lv_iload_n hx hb dX1_logWith_1 rfl (lv_at hl 1 rfl) ?_
  refine yc_I (As := [.int x]) (rest := []) hx hb hml hown hts (mX1_isUnit hp9) (cw_X1_isUnit hts rfl rfl ⟨Nat.le_of_ble_eq_true rfl, Nat.le_of_ble_eq_true rfl⟩) hK hP hD hS hA rfl hl.1 rfl (Nat.le_of_ble_eq_true rfl) dX1_logWith_2 (fun r _ H locs hw hP hD hS => ?_)
  rcases hw with ⟨rfl, u, rfl, hu⟩ | ⟨rfl, hu⟩
  · refine lv_if_eq (tgt := 39) hx hb dX1_logWith_5 (by decide) (fun z => absurd z (by decide)) (fun h1 => ?_)
    refine lv_aload_n hx hb dX1_logWith_8 rfl (lv_at hl 0 rfl) ?_
    refine lv_iload_n hx hb dX1_logWith_9 rfl (lv_at hl 2 rfl) ?_
    refine yc_I (As := [.int y]) (rest := []) hx hb hml hown hts (mX1_isUnit hp9) (cw_X1_isUnit hts rfl rfl ⟨Nat.le_of_ble_eq_true rfl, Nat.le_of_ble_eq_true rfl⟩) hK hP hD hS hA rfl hl.1 rfl (Nat.le_of_ble_eq_true rfl) dX1_logWith_10 (fun r u2 H locs hw hP hD hS => ?_)
    rcases hw with ⟨rfl, v, rfl, hv⟩ | ⟨rfl, hv⟩
    · refine lv_if_eq (tgt := 39) hx hb dX1_logWith_13 (by decide) (fun z => absurd z (by decide)) (fun h2 => ?_)
      refine lv_iload hx hb dX1_logWith_16 (lv_at hl 4 rfl) ?_
      refine lv_iconst (v := (nI 1)) hx hb dX1_logWith_18 (by decide) ?_
      refine lv_icmp_lt (tgt := 39) hx hb dX1_logWith_19 (by decide) (fun g1 => ?_) (fun g1 => ?_)
      · refine lv_iconst (v := (-1)) hx hb dX1_logWith_39 (by decide) ?_
        exact hret _ _ _ () _ _ dX1_logWith_40 (Or.inl ⟨fun z => dl_notM1 g1 z.2.2, rfl⟩) hP hD hS
      · refine lv_iload hx hb dX1_logWith_22 (lv_at hl 4 rfl) ?_
        refine lv_bipush (v := (nI 60)) hx hb dX1_logWith_24 (by decide) ?_
        refine lv_icmp_gt (tgt := 39) hx hb dX1_logWith_26 (by decide) (fun g2 => ?_) (fun g2 => ?_)
        · refine lv_iconst (v := (-1)) hx hb dX1_logWith_39 (by decide) ?_
          exact hret _ _ _ () _ _ dX1_logWith_40 (Or.inl ⟨fun z => dl_notM2 g2 z.2.2, rfl⟩) hP hD hS
        · refine lv_iload_n hx hb dX1_logWith_29 rfl (lv_at hl 3 rfl) ?_
          refine lv_if_lt (tgt := 39) hx hb dX1_logWith_30 (by decide) (fun g3 => ?_) (fun g3 => ?_)
          · refine lv_iconst (v := (-1)) hx hb dX1_logWith_39 (by decide) ?_
            exact hret _ _ _ () _ _ dX1_logWith_40 (Or.inl ⟨fun z => dl_notM3 g3 z.2.2, rfl⟩) hP hD hS
          · refine lv_iload_n hx hb dX1_logWith_33 rfl (lv_at hl 3 rfl) ?_
            refine lv_iload hx hb dX1_logWith_34 (lv_at hl 4 rfl) ?_
            refine lv_icmp_lt (tgt := 41) hx hb dX1_logWith_36 (by decide) (fun g4 => ?_) (fun g4 => ?_)
            · obtain ⟨k, m, rfl, rfl, hm1, hm60, hkm⟩ := dl_isM_of g1 g2 g3 g4
              have hlt : ∀ i, u ^ i % p < p := fun i => Nat.mod_lt _ (by omega)
              have hvp := hv.2
              have hpm : (p - 1) * m < 2147483648 := dl_mlt2 (by omega) (by omega)
              refine lv_iconst (v := (nI 1)) hx hb dX1_logWith_41 (by decide) ?_
              refine dn_top (show ((nI 1) : Int32) = (nI (u ^ 0 % p)) from (by rw [Nat.pow_zero, dl_one hp1])) ?_
              refine lv_istore (lv' := [(5, .int (nI (u ^ 0 % p))), (0, .ref b.1), (1, .int (nI u)), (2, .int (nI v)), (3, .int (nI k)), (4, .int (nI m))]) hx hb dX1_logWith_42 hl (by decide) rfl (fun ls hl => ?_)
              refine lv_iconst (v := (nI 0)) hx hb dX1_logWith_44 (by decide) ?_
              refine lv_istore (lv' := [(6, .int (nI 0)), (5, .int (nI (u ^ 0 % p))), (0, .ref b.1), (1, .int (nI u)), (2, .int (nI v)), (3, .int (nI k)), (4, .int (nI m))]) hx hb dX1_logWith_45 hl (by decide) rfl (fun ls hl => ?_)
              have loop : ∀ (k9 : Nat) (x : Nat), (x ≤ (p - 1) * m) → (∀ i, i < x → ¬ (u ^ i % p = v ∧ i % m = k)) → ((p - 1) * m - x) < k9 → ∀ (H : Heap) (locs : List Loc), va_P D vwCl (yW b (nI p) M) H → va_S A sS.heap H locs → ∀ ls : Array Slot, lv_has ls 7 [(0, .ref b.1), (1, .int (nI u)), (2, .int (nI v)), (3, .int (nI k)), (4, .int (nI m)), (5, .int (nI (u ^ x % p))), (6, .int (nI x))] → W pg l en (rm_ 1 21) sS mI aR bL mE cO H locs 0 0 Q (F0 mI 47 ls []) := by
                intro k9
                induction k9 with
                | zero => intros; omega
                | succ k9 ih =>
                  intro x hx9 hk hn H locs hP hS ls hl
                  refine lv_iload hx hb dX1_logWith_47 (lv_at hl 6 rfl) ?_
                  refine lv_aload_n hx hb dX1_logWith_49 rfl (lv_at hl 0 rfl) ?_
                  refine yg_p hx hb hts hown hK hP dX1_logWith_50 ?_
                  refine lv_iconst (v := (nI 1)) hx hb dX1_logWith_53 (by decide) ?_
                  refine dn_isub hx hb dX1_logWith_54 (by omega) ?_
                  refine lv_iload hx hb dX1_logWith_55 (lv_at hl 4 rfl) ?_
                  refine dn_imul hx hb dX1_logWith_57 ?_
                  refine dn_icmp_ge (tgt := 96) hx hb dX1_logWith_58 (by decide) (by omega) hpm (fun hc => ?_) (fun hc => ?_)
                  · refine lv_bipush (v := (-4)) hx hb dX1_logWith_96 (by decide) ?_
                    exact hret _ _ _ () _ _ dX1_logWith_98 (Or.inr ⟨u, v, k, m, rfl, hu, rfl, hv, rfl, rfl, hm1, hm60, hkm, Or.inl ⟨rfl, fun i h => hk i (by omega)⟩⟩) hP hD hS
                  · refine lv_iload hx hb dX1_logWith_61 (lv_at hl 5 rfl) ?_
                    refine lv_iload_n hx hb dX1_logWith_63 rfl (lv_at hl 2 rfl) ?_
                    refine dn_icmp_ne (tgt := 79) hx hb dX1_logWith_64 (by decide) (Nat.lt_trans (hlt _) (by omega)) (by omega) (fun h3 => ?_) (fun h3 => ?_)
                    · refine lv_iload hx hb dX1_logWith_79 (lv_at hl 5 rfl) ?_
                      refine lv_iload_n hx hb dX1_logWith_81 rfl (lv_at hl 1 rfl) ?_
                      refine dn_imul hx hb dX1_logWith_82 ?_
                      refine lv_aload_n hx hb dX1_logWith_83 rfl (lv_at hl 0 rfl) ?_
                      refine yg_p hx hb hts hown hK hP dX1_logWith_84 ?_
                      refine dn_irem hx hb dX1_logWith_87 (dl_mlt hp9 (hlt _) hu.2) (by omega) (by omega) ?_
                      refine dn_top (show ((nI (((u ^ x % p) * u) % p)) : Int32) = (nI (u ^ (x + 1) % p)) from (by rw [Nat.pow_succ, Nat.mod_mul_mod])) ?_
                      refine lv_istore (lv' := [(5, .int (nI (u ^ (x + 1) % p))), (0, .ref b.1), (1, .int (nI u)), (2, .int (nI v)), (3, .int (nI k)), (4, .int (nI m)), (6, .int (nI x))]) hx hb dX1_logWith_88 hl (by decide) rfl (fun ls hl => ?_)
                      refine lv_iinc (v := (nI (x + 1))) (lv' := [(6, .int (nI (x + 1))), (5, .int (nI (u ^ (x + 1) % p))), (0, .ref b.1), (1, .int (nI u)), (2, .int (nI v)), (3, .int (nI k)), (4, .int (nI m))]) hx hb dX1_logWith_90 hl (k := 6) rfl (nI_1 _) (by decide) rfl (fun ls hl => ?_)
                      refine lv_goto (tgt := 47) hx hb dX1_logWith_93 (by decide) ?_
                      exact ih (x + 1) (by omega) (lt_s hk (fun z => h3 z.1)) (by omega) _ _ hP hS ls (lv_sub hl [2, 3, 4, 5, 6, 1, 0] rfl)
                    · refine lv_iload hx hb dX1_logWith_67 (lv_at hl 6 rfl) ?_
                      refine lv_iload hx hb dX1_logWith_69 (lv_at hl 4 rfl) ?_
                      refine dn_irem hx hb dX1_logWith_71 (by omega) (by omega) (by omega) ?_
                      refine lv_iload_n hx hb dX1_logWith_72 rfl (lv_at hl 3 rfl) ?_
                      refine dn_icmp_ne (tgt := 79) hx hb dX1_logWith_73 (by decide) (Nat.lt_of_le_of_lt (Nat.mod_le _ _) (by omega)) (by omega) (fun h4 => ?_) (fun h4 => ?_)
                      · refine lv_iload hx hb dX1_logWith_79 (lv_at hl 5 rfl) ?_
                        refine lv_iload_n hx hb dX1_logWith_81 rfl (lv_at hl 1 rfl) ?_
                        refine dn_imul hx hb dX1_logWith_82 ?_
                        refine lv_aload_n hx hb dX1_logWith_83 rfl (lv_at hl 0 rfl) ?_
                        refine yg_p hx hb hts hown hK hP dX1_logWith_84 ?_
                        refine dn_irem hx hb dX1_logWith_87 (dl_mlt hp9 (hlt _) hu.2) (by omega) (by omega) ?_
                        refine dn_top (show ((nI (((u ^ x % p) * u) % p)) : Int32) = (nI (u ^ (x + 1) % p)) from (by rw [Nat.pow_succ, Nat.mod_mul_mod])) ?_
                        refine lv_istore (lv' := [(5, .int (nI (u ^ (x + 1) % p))), (0, .ref b.1), (1, .int (nI u)), (2, .int (nI v)), (3, .int (nI k)), (4, .int (nI m)), (6, .int (nI x))]) hx hb dX1_logWith_88 hl (by decide) rfl (fun ls hl => ?_)
                        refine lv_iinc (v := (nI (x + 1))) (lv' := [(6, .int (nI (x + 1))), (5, .int (nI (u ^ (x + 1) % p))), (0, .ref b.1), (1, .int (nI u)), (2, .int (nI v)), (3, .int (nI k)), (4, .int (nI m))]) hx hb dX1_logWith_90 hl (k := 6) rfl (nI_1 _) (by decide) rfl (fun ls hl => ?_)
                        refine lv_goto (tgt := 47) hx hb dX1_logWith_93 (by decide) ?_
                        exact ih (x + 1) (by omega) (lt_s hk (fun z => h4 z.2)) (by omega) _ _ hP hS ls (lv_sub hl [2, 3, 4, 5, 6, 1, 0] rfl)
                      · refine lv_iload hx hb dX1_logWith_76 (lv_at hl 6 rfl) ?_
                        exact hret _ _ _ () _ _ dX1_logWith_78 (Or.inr ⟨u, v, k, m, rfl, hu, rfl, hv, rfl, rfl, hm1, hm60, hkm, Or.inr ⟨x, rfl, hc, h3, h4, hk⟩⟩) hP hD hS
              exact loop ((p - 1) * m + 1) 0 (by omega) (fun i h => by omega) (by omega) _ _ hP hS ls (lv_sub hl [2, 3, 4, 5, 6, 1, 0] rfl)
            · refine lv_iconst (v := (-1)) hx hb dX1_logWith_39 (by decide) ?_
              exact hret _ _ _ () _ _ dX1_logWith_40 (Or.inl ⟨fun z => dl_notM4 g4 z.2.2, rfl⟩) hP hD hS
    · refine lv_if_eq (tgt := 39) hx hb dX1_logWith_13 (by decide) (fun h2 => ?_) (fun z => absurd z (by decide))
      refine lv_iconst (v := (-1)) hx hb dX1_logWith_39 (by decide) ?_
      exact hret _ _ _ () _ _ dX1_logWith_40 (Or.inl ⟨fun z => hv z.2.1, rfl⟩) hP hD hS
  · refine lv_if_eq (tgt := 39) hx hb dX1_logWith_5 (by decide) (fun h1 => ?_) (fun z => absurd z (by decide))
    refine lv_iconst (v := (-1)) hx hb dX1_logWith_39 (by decide) ?_
    exact hret _ _ _ () _ _ dX1_logWith_40 (Or.inl ⟨fun z => hu z.1, rfl⟩) hP hD hS
set_option maxHeartbeats 4000000 in
theorem mX1_common {x y : Int32} (hpp : dl_P p) : dx_MI l yX1_common (ws_ yX1_common cX1_common 7 (some .int)) (rm_ 1 23) D (yT b) (yW b (nI p) M) [.ref b.1, .int x, .int y] (fun (r : Int32) (u : Nat → Int32) => R_common p x y r) (fun u => yW b (nI p) u) := by
  refine dx_ofI (by decide) rfl (Nat.le_of_ble_eq_true rfl) ?_
  intro pg en sS mI aR bL mE cO A Q ls hx hb hml hown hts hA hK hP hD hS hl hret
  have hl : lv_has ls 7 [(0, .ref b.1), (1, .int x), (2, .int y)] := hl
  have hp3 := hpp.1
  have hp9 := hpp.2.1
  have hp1 := dl_P1 hpp
  refine lv_aload_n hx hb dX1_common_0 rfl (lv_at hl 0 rfl) ?_
  refine lv_iload_n hx hb dX1_common_1 rfl (lv_at hl 1 rfl) ?_
  refine yc_I (As := [.int x]) (rest := []) hx hb hml hown hts (mX1_isUnit hp9) (cw_X1_isUnit hts rfl rfl ⟨Nat.le_of_ble_eq_true rfl, Nat.le_of_ble_eq_true rfl⟩) hK hP hD hS hA rfl hl.1 rfl (Nat.le_of_ble_eq_true rfl) dX1_common_2 (fun r _ H locs hw hP hD hS => ?_)
  rcases hw with ⟨rfl, u, rfl, hu⟩ | ⟨rfl, hu⟩
  · refine lv_if_eq (tgt := 16) hx hb dX1_common_5 (by decide) (fun z => absurd z (by decide)) (fun h1 => ?_)
    refine lv_aload_n hx hb dX1_common_8 rfl (lv_at hl 0 rfl) ?_
    refine lv_iload_n hx hb dX1_common_9 rfl (lv_at hl 2 rfl) ?_
    refine yc_I (As := [.int y]) (rest := []) hx hb hml hown hts (mX1_isUnit hp9) (cw_X1_isUnit hts rfl rfl ⟨Nat.le_of_ble_eq_true rfl, Nat.le_of_ble_eq_true rfl⟩) hK hP hD hS hA rfl hl.1 rfl (Nat.le_of_ble_eq_true rfl) dX1_common_10 (fun r u2 H locs hw hP hD hS => ?_)
    rcases hw with ⟨rfl, v, rfl, hv⟩ | ⟨rfl, hv⟩
    · refine lv_if_ne (tgt := 18) hx hb dX1_common_13 (by decide) (fun h2 => ?_) (fun z => absurd z (by decide))
      have hlt : ∀ i, u ^ i % p < p := fun i => Nat.mod_lt _ (by omega)
      have hltv : ∀ i, v ^ i % p < p := fun i => Nat.mod_lt _ (by omega)
      refine lv_iconst (v := (nI 0)) hx hb dX1_common_18 (by decide) ?_
      refine lv_istore_n (lv' := [(3, .int (nI 0)), (0, .ref b.1), (1, .int (nI u)), (2, .int (nI v))]) hx hb dX1_common_19 rfl hl (by decide) rfl (fun ls hl => ?_)
      have clear : ∀ (k9 : Nat) (i : Nat) (M2 : Nat → Int32), (i ≤ p) → (∀ j, j < i → M2 j = 0) → (p - i) < k9 → ∀ (H : Heap) (locs : List Loc), va_P D vwCl (yW b (nI p) M2) H → va_D A (yW b (nI p) M2) → va_S A sS.heap H locs → ∀ ls : Array Slot, lv_has ls 7 [(0, .ref b.1), (1, .int (nI u)), (2, .int (nI v)), (3, .int (nI i))] → W pg l en (rm_ 1 23) sS mI aR bL mE cO H locs 0 0 Q (F0 mI 20 ls []) := by
        intro k9
        induction k9 with
        | zero => intros; omega
        | succ k9 ih =>
          intro i M2 hi hk hn H locs hP hD hS ls hl
          refine lv_iload_n hx hb dX1_common_20 rfl (lv_at hl 3 rfl) ?_
          refine lv_aload_n hx hb dX1_common_21 rfl (lv_at hl 0 rfl) ?_
          refine yg_p hx hb hts hown hK hP dX1_common_22 ?_
          refine dn_icmp_ge (tgt := 41) hx hb dX1_common_25 (by decide) (by omega) (by omega) (fun hc => ?_) (fun hc => ?_)
          · refine lv_iconst (v := (nI 1)) hx hb dX1_common_41 (by decide) ?_
            refine dn_top (show ((nI 1) : Int32) = (nI (u ^ 0 % p)) from (by rw [Nat.pow_zero, dl_one hp1])) ?_
            refine lv_istore_n (lv' := [(3, .int (nI (u ^ 0 % p))), (0, .ref b.1), (1, .int (nI u)), (2, .int (nI v))]) hx hb dX1_common_42 rfl hl (by decide) rfl (fun ls hl => ?_)
            refine lv_iconst (v := (nI 0)) hx hb dX1_common_43 (by decide) ?_
            refine lv_istore (lv' := [(4, .int (nI 0)), (3, .int (nI (u ^ 0 % p))), (0, .ref b.1), (1, .int (nI u)), (2, .int (nI v))]) hx hb dX1_common_44 hl (by decide) rfl (fun ls hl => ?_)
            have mark : ∀ (k8 : Nat) (x : Nat) (M3 : Nat → Int32), (x ≤ p - 1) → (dl_mked p u x M3) → (p - x) < k8 → ∀ (H : Heap) (locs : List Loc), va_P D vwCl (yW b (nI p) M3) H → va_D A (yW b (nI p) M3) → va_S A sS.heap H locs → ∀ ls : Array Slot, lv_has ls 7 [(0, .ref b.1), (1, .int (nI u)), (2, .int (nI v)), (3, .int (nI (u ^ x % p))), (4, .int (nI x))] → W pg l en (rm_ 1 23) sS mI aR bL mE cO H locs 0 0 Q (F0 mI 46 ls []) := by
              intro k8
              induction k8 with
              | zero => intros; omega
              | succ k8 ih2 =>
                intro x M3 hx9 hM hn2 H locs hP hD hS ls hl
                refine lv_iload hx hb dX1_common_46 (lv_at hl 4 rfl) ?_
                refine lv_aload_n hx hb dX1_common_48 rfl (lv_at hl 0 rfl) ?_
                refine yg_p hx hb hts hown hK hP dX1_common_49 ?_
                refine lv_iconst (v := (nI 1)) hx hb dX1_common_52 (by decide) ?_
                refine dn_isub hx hb dX1_common_53 (by omega) ?_
                refine dn_icmp_ge (tgt := 79) hx hb dX1_common_54 (by decide) (by omega) (by omega) (fun hx1 => ?_) (fun hx1 => ?_)
                · have hxp : x = p - 1 := by omega
                  subst hxp
                  refine lv_iconst (v := (nI 0)) hx hb dX1_common_79 (by decide) ?_
                  refine dn_top (show ((nI 0) : Int32) = (nI (fb_ct (dl_mk M3 p v) 0)) from rfl) ?_
                  refine lv_istore (lv' := [(4, .int (nI (fb_ct (dl_mk M3 p v) 0))), (0, .ref b.1), (1, .int (nI u)), (2, .int (nI v)), (3, .int (nI (u ^ (p - 1) % p)))]) hx hb dX1_common_80 hl (by decide) rfl (fun ls hl => ?_)
                  refine lv_aload_n hx hb dX1_common_82 rfl (lv_at hl 1 rfl) ?_
                  refine lv_iload_n hx hb dX1_common_83 rfl (lv_at hl 3 rfl) ?_
                  refine yc_I (As := [.int (nI v)]) (rest := []) hx hb hml hown hts (mX1_orderOf hpp hv) (cw_X1_orderOf hts rfl rfl ⟨Nat.le_of_ble_eq_true rfl, Nat.le_of_ble_eq_true rfl⟩) hK hP hD hS hA rfl hl.1 rfl (Nat.le_of_ble_eq_true rfl) dX1_common_84 (fun r u2 H locs hw hP hD hS => ?_)
                  obtain ⟨m, rfl, hom⟩ := hw
                  obtain ⟨n, hon, -⟩ := dl_ord_ex hpp hu
                  have hm9 := dl_ord_le hpp hv hom
                  refine lv_istore (lv' := [(5, .int (nI m)), (4, .int (nI (fb_ct (dl_mk M3 p v) 0))), (0, .ref b.1), (1, .int (nI u)), (2, .int (nI v)), (3, .int (nI (u ^ (p - 1) % p)))]) hx hb dX1_common_87 hl (by decide) rfl (fun ls hl => ?_)
                  refine lv_iload_n hx hb dX1_common_89 rfl (lv_at hl 4 rfl) ?_
                  refine dn_top (show ((nI v) : Int32) = (nI (v ^ (0 + 1) % p)) from (by rw [Nat.zero_add, Nat.pow_one, Nat.mod_eq_of_lt hv.2])) ?_
                  refine lv_istore_n (lv' := [(3, .int (nI (v ^ (0 + 1) % p))), (5, .int (nI m)), (4, .int (nI (fb_ct (dl_mk M3 p v) 0))), (0, .ref b.1), (1, .int (nI u)), (2, .int (nI v))]) hx hb dX1_common_90 rfl hl (by decide) rfl (fun ls hl => ?_)
                  refine lv_iconst (v := (nI 0)) hx hb dX1_common_91 (by decide) ?_
                  refine lv_istore (lv' := [(6, .int (nI 0)), (3, .int (nI (v ^ (0 + 1) % p))), (5, .int (nI m)), (4, .int (nI (fb_ct (dl_mk M3 p v) 0))), (0, .ref b.1), (1, .int (nI u)), (2, .int (nI v))]) hx hb dX1_common_92 hl (by decide) rfl (fun ls hl => ?_)
                  have count : ∀ (k7 : Nat) (x : Nat), (x ≤ m) → (m - x) < k7 → ∀ (H : Heap) (locs : List Loc), va_P D vwCl (yW b (nI p) M3) H → va_S A sS.heap H locs → ∀ ls : Array Slot, lv_has ls 7 [(0, .ref b.1), (1, .int (nI u)), (2, .int (nI v)), (3, .int (nI (v ^ (x + 1) % p))), (4, .int (nI (fb_ct (dl_mk M3 p v) x))), (5, .int (nI m)), (6, .int (nI x))] → W pg l en (rm_ 1 23) sS mI aR bL mE cO H locs 0 0 Q (F0 mI 94 ls []) := by
                    intro k7
                    induction k7 with
                    | zero => intros; omega
                    | succ k7 ih3 =>
                      intro x hx9 hn3 H locs hP hS ls hl
                      refine lv_iload hx hb dX1_common_94 (lv_at hl 6 rfl) ?_
                      refine lv_iload hx hb dX1_common_96 (lv_at hl 5 rfl) ?_
                      refine dn_icmp_ge (tgt := 128) hx hb dX1_common_98 (by decide) (by omega) (by omega) (fun hc3 => ?_) (fun hc3 => ?_)
                      · refine lv_iload hx hb dX1_common_128 (lv_at hl 4 rfl) ?_
                        have hxm : x = m := by omega
                        exact hret _ _ _ M3 _ _ dX1_common_130 (Or.inr ⟨u, v, n, m, rfl, hu, rfl, hv, hon, hom, by rw [hxm, dl_common hpp hu hv hon hom _ (fun x _ => dl_mked_iff (by omega) hM)]⟩) hP hD hS
                      · refine lv_aload_n hx hb dX1_common_101 rfl (lv_at hl 0 rfl) ?_
                        refine yg_marked hx hb hts hown hK hP dX1_common_102 ?_
                        refine lv_iload_n hx hb dX1_common_105 rfl (lv_at hl 3 rfl) ?_
                        refine yl_marked hx hb hK hP (Nat.lt_trans (hltv _) (by omega)) dX1_common_106 ?_
                        refine lv_if_eq (tgt := 113) hx hb dX1_common_107 (by decide) (fun h0 => ?_) (fun h0 => ?_)
                        · rw [← dl_ct_n (show dl_mk M3 p v x = false from decide_eq_false (fun z => z h0))] at hl
                          refine lv_iload_n hx hb dX1_common_113 rfl (lv_at hl 3 rfl) ?_
                          refine lv_iload_n hx hb dX1_common_114 rfl (lv_at hl 2 rfl) ?_
                          refine dn_imul hx hb dX1_common_115 ?_
                          refine lv_aload_n hx hb dX1_common_116 rfl (lv_at hl 0 rfl) ?_
                          refine yg_p hx hb hts hown hK hP dX1_common_117 ?_
                          refine dn_irem hx hb dX1_common_120 (dl_mlt hp9 (hltv _) hv.2) (by omega) (by omega) ?_
                          refine dn_top (show ((nI (((v ^ (x + 1) % p) * v) % p)) : Int32) = (nI (v ^ (x + 1 + 1) % p)) from (by rw [Nat.pow_succ v (x + 1), Nat.mod_mul_mod])) ?_
                          refine lv_istore_n (lv' := [(3, .int (nI (v ^ (x + 1 + 1) % p))), (0, .ref b.1), (1, .int (nI u)), (2, .int (nI v)), (4, .int (nI (fb_ct (dl_mk M3 p v) (x + 1)))), (5, .int (nI m)), (6, .int (nI x))]) hx hb dX1_common_121 rfl hl (by decide) rfl (fun ls hl => ?_)
                          refine lv_iinc (v := (nI (x + 1))) (lv' := [(6, .int (nI (x + 1))), (3, .int (nI (v ^ (x + 1 + 1) % p))), (0, .ref b.1), (1, .int (nI u)), (2, .int (nI v)), (4, .int (nI (fb_ct (dl_mk M3 p v) (x + 1)))), (5, .int (nI m))]) hx hb dX1_common_122 hl (k := 6) rfl (nI_1 _) (by decide) rfl (fun ls hl => ?_)
                          refine lv_goto (tgt := 94) hx hb dX1_common_125 (by decide) ?_
                          exact ih3 (x + 1) (by omega) (by omega) _ _ hP hS ls (lv_sub hl [2, 3, 4, 1, 5, 6, 0] rfl)
                        · refine lv_iinc (v := (nI (fb_ct (dl_mk M3 p v) x + 1))) (lv' := [(4, .int (nI (fb_ct (dl_mk M3 p v) x + 1))), (0, .ref b.1), (1, .int (nI u)), (2, .int (nI v)), (3, .int (nI (v ^ (x + 1) % p))), (5, .int (nI m)), (6, .int (nI x))]) hx hb dX1_common_110 hl (k := 4) rfl (nI_1 _) (by decide) rfl (fun ls hl => ?_)
                          rw [← dl_ct_y (show dl_mk M3 p v x = true from decide_eq_true h0)] at hl
                          refine lv_iload_n hx hb dX1_common_113 rfl (lv_at hl 4 rfl) ?_
                          refine lv_iload_n hx hb dX1_common_114 rfl (lv_at hl 3 rfl) ?_
                          refine dn_imul hx hb dX1_common_115 ?_
                          refine lv_aload_n hx hb dX1_common_116 rfl (lv_at hl 1 rfl) ?_
                          refine yg_p hx hb hts hown hK hP dX1_common_117 ?_
                          refine dn_irem hx hb dX1_common_120 (dl_mlt hp9 (hltv _) hv.2) (by omega) (by omega) ?_
                          refine dn_top (show ((nI (((v ^ (x + 1) % p) * v) % p)) : Int32) = (nI (v ^ (x + 1 + 1) % p)) from (by rw [Nat.pow_succ v (x + 1), Nat.mod_mul_mod])) ?_
                          refine lv_istore_n (lv' := [(3, .int (nI (v ^ (x + 1 + 1) % p))), (4, .int (nI (fb_ct (dl_mk M3 p v) (x + 1)))), (0, .ref b.1), (1, .int (nI u)), (2, .int (nI v)), (5, .int (nI m)), (6, .int (nI x))]) hx hb dX1_common_121 rfl hl (by decide) rfl (fun ls hl => ?_)
                          refine lv_iinc (v := (nI (x + 1))) (lv' := [(6, .int (nI (x + 1))), (3, .int (nI (v ^ (x + 1 + 1) % p))), (4, .int (nI (fb_ct (dl_mk M3 p v) (x + 1)))), (0, .ref b.1), (1, .int (nI u)), (2, .int (nI v)), (5, .int (nI m))]) hx hb dX1_common_122 hl (k := 6) rfl (nI_1 _) (by decide) rfl (fun ls hl => ?_)
                          refine lv_goto (tgt := 94) hx hb dX1_common_125 (by decide) ?_
                          exact ih3 (x + 1) (by omega) (by omega) _ _ hP hS ls (lv_sub hl [3, 4, 5, 1, 2, 6, 0] rfl)
                  exact count (m + 1) 0 (by omega) (by omega) _ _ hP hS ls (lv_sub hl [4, 5, 6, 1, 3, 2, 0] rfl)
                · refine lv_aload_n hx hb dX1_common_57 rfl (lv_at hl 0 rfl) ?_
                  refine yg_marked hx hb hts hown hK hP dX1_common_58 ?_
                  refine lv_iload_n hx hb dX1_common_61 rfl (lv_at hl 3 rfl) ?_
                  refine lv_iconst (v := (nI 1)) hx hb dX1_common_62 (by decide) ?_
                  refine ys_marked hx hb hK hP hD hS (Nat.lt_trans (hlt _) (by omega)) rfl dX1_common_63 (fun H locs hP hD hS => ?_)
                  refine lv_iload_n hx hb dX1_common_64 rfl (lv_at hl 3 rfl) ?_
                  refine lv_iload_n hx hb dX1_common_65 rfl (lv_at hl 1 rfl) ?_
                  refine dn_imul hx hb dX1_common_66 ?_
                  refine lv_aload_n hx hb dX1_common_67 rfl (lv_at hl 0 rfl) ?_
                  refine yg_p hx hb hts hown hK hP dX1_common_68 ?_
                  refine dn_irem hx hb dX1_common_71 (dl_mlt hp9 (hlt _) hu.2) (by omega) (by omega) ?_
                  refine dn_top (show ((nI (((u ^ x % p) * u) % p)) : Int32) = (nI (u ^ (x + 1) % p)) from (by rw [Nat.pow_succ, Nat.mod_mul_mod])) ?_
                  refine lv_istore_n (lv' := [(3, .int (nI (u ^ (x + 1) % p))), (0, .ref b.1), (1, .int (nI u)), (2, .int (nI v)), (4, .int (nI x))]) hx hb dX1_common_72 rfl hl (by decide) rfl (fun ls hl => ?_)
                  refine lv_iinc (v := (nI (x + 1))) (lv' := [(4, .int (nI (x + 1))), (3, .int (nI (u ^ (x + 1) % p))), (0, .ref b.1), (1, .int (nI u)), (2, .int (nI v))]) hx hb dX1_common_73 hl (k := 4) rfl (nI_1 _) (by decide) rfl (fun ls hl => ?_)
                  refine lv_goto (tgt := 46) hx hb dX1_common_76 (by decide) ?_
                  exact ih2 (x + 1) _ (by omega) (dl_mked_s hM) (by omega) _ _ hP hD hS ls (lv_sub hl [2, 3, 4, 1, 0] rfl)
            exact mark (p + 1) 0 M2 (by omega) (fun j hj => Or.inr ⟨hk j (by omega), fun y hy => by omega⟩) (by omega) _ _ hP hD hS ls (lv_sub hl [2, 3, 4, 1, 0] rfl)
          · refine lv_aload_n hx hb dX1_common_28 rfl (lv_at hl 0 rfl) ?_
            refine yg_marked hx hb hts hown hK hP dX1_common_29 ?_
            refine lv_iload_n hx hb dX1_common_32 rfl (lv_at hl 3 rfl) ?_
            refine lv_iconst (v := (nI 0)) hx hb dX1_common_33 (by decide) ?_
            refine ys_marked hx hb hK hP hD hS (by omega) rfl dX1_common_34 (fun H locs hP hD hS => ?_)
            refine lv_iinc (v := (nI (i + 1))) (lv' := [(3, .int (nI (i + 1))), (0, .ref b.1), (1, .int (nI u)), (2, .int (nI v))]) hx hb dX1_common_35 hl (k := 3) rfl (nI_1 _) (by decide) rfl (fun ls hl => ?_)
            refine lv_goto (tgt := 20) hx hb dX1_common_38 (by decide) ?_
            exact ih (i + 1) _ (by omega) (fun j hj => dl_upd0 hk hj) (by omega) _ _ hP hD hS ls (lv_sub hl [1, 2, 3, 0] rfl)
      exact clear (p + 1) 0 M (by omega) (fun j hj => by omega) (by omega) _ _ hP hD hS ls (lv_sub hl [1, 2, 3, 0] rfl)
    · refine lv_if_ne (tgt := 18) hx hb dX1_common_13 (by decide) (fun z => absurd z (by decide)) (fun h2 => ?_)
      refine lv_iconst (v := (-1)) hx hb dX1_common_16 (by decide) ?_
      exact hret _ _ _ M _ _ dX1_common_17 (Or.inl ⟨fun z => hv z.2, rfl⟩) hP hD hS
  · refine lv_if_eq (tgt := 16) hx hb dX1_common_5 (by decide) (fun h1 => ?_) (fun z => absurd z (by decide))
    refine lv_iconst (v := (-1)) hx hb dX1_common_16 (by decide) ?_
    exact hret _ _ _ M _ _ dX1_common_17 (Or.inl ⟨fun z => hu z.1, rfl⟩) hP hD hS
end YA
end
section
/-! each relation has one answer -/
theorem dl_U_nI {p u v : Nat} (hp : p ≤ 2039) (hu : dl_U p u) (hv : dl_U p v) (e : nI u = nI v) : u = v := by
  have h1 := hu.2
  have h2 := hv.2
  exact dl_nI_inj (by omega) (by omega) e
theorem R_prime_uniq {p q1 q2 : Nat} {x r1 r2 : Int32} (h1 : R_prime p x r1 q1) (h2 : R_prime p x r2 q2) : r1 = r2 ∧ q1 = q2 := by
  rcases h1 with ⟨a1, a2, a3⟩ | ⟨n, a1, a2, a3, a4⟩ <;> rcases h2 with ⟨b1, b2, b3⟩ | ⟨m, b1, b2, b3, b4⟩
  · exact ⟨a2.trans b2.symm, a3.trans b3.symm⟩
  · exact absurd ⟨m, b1, b2⟩ a1
  · exact absurd ⟨n, a1, a2⟩ b1
  · have c1 := a2.2.1
    have c2 := b2.2.1
    have e : n = m := dl_nI_inj (by omega) (by omega) (a1.symm.trans b1)
    exact ⟨a3.trans b3.symm, by rw [a4, b4, e]⟩
theorem R_next_uniq {p q1 q2 : Nat} {r1 r2 : Int32} (h1 : R_next p r1 q1) (h2 : R_next p r2 q2) : r1 = r2 ∧ q1 = q2 := by
  rcases h1 with ⟨n, a1, a2, a3, a4, a5⟩ | ⟨a1, a2, a3⟩ <;> rcases h2 with ⟨m, b1, b2, b3, b4, b5⟩ | ⟨b1, b2, b3⟩
  · have e : n = m := by
      rcases Nat.lt_trichotomy n m with z | z | z
      · exact absurd a2.2.2 (b3 n a1 z)
      · exact z
      · exact absurd b2.2.2 (a3 m b1 z)
    subst e
    exact ⟨a4.trans b4.symm, a5.trans b5.symm⟩
  · exact absurd a2.2.2 (b1 n a1 a2.2.1)
  · exact absurd b2.2.2 (a1 m b1 b2.2.1)
  · exact ⟨a2.trans b2.symm, a3.trans b3.symm⟩
theorem R_power_uniq {p : Nat} {g x r1 r2 : Int32} (hp : p ≤ 2039) (h1 : R_power p g x r1) (h2 : R_power p g x r2) : r1 = r2 := by
  rcases h1 with ⟨a1, a2⟩ | ⟨u, k, a1, a2, a3, a4, a5⟩ <;> rcases h2 with ⟨b1, b2⟩ | ⟨v, m, b1, b2, b3, b4, b5⟩
  · exact a2.trans b2.symm
  · exact absurd ⟨⟨v, b1, b2⟩, m, b3, by omega, b4⟩ a1
  · exact absurd ⟨⟨u, a1, a2⟩, k, a3, by omega, a4⟩ b1
  · have e1 : u = v := dl_U_nI hp a2 b2 (a1.symm.trans b1)
    have e2 : k = m := dl_nI_inj (by omega) (by omega) (a3.symm.trans b3)
    rw [a5, b5, e1, e2]
theorem R_inverse_uniq {p : Nat} {g r1 r2 : Int32} (hP : dl_P p) (h1 : R_inverse p g r1) (h2 : R_inverse p g r2) : r1 = r2 := by
  rcases h1 with ⟨a1, a2⟩ | ⟨u, y, a1, a2, a3, a4, a5⟩ <;> rcases h2 with ⟨b1, b2⟩ | ⟨v, z, b1, b2, b3, b4, b5⟩
  · exact a2.trans b2.symm
  · exact absurd ⟨v, b1, b2⟩ a1
  · exact absurd ⟨u, a1, a2⟩ b1
  · have e1 : u = v := dl_U_nI hP.2.1 a2 b2 (a1.symm.trans b1)
    subst e1
    rw [a5, b5, dl_inv_one hP a2 a3.2 b3.2 a4 b4]
theorem R_order_uniq {p : Nat} {g r1 r2 : Int32} (hp : p ≤ 2039) (h1 : R_order p g r1) (h2 : R_order p g r2) : r1 = r2 := by
  rcases h1 with ⟨a1, a2⟩ | ⟨u, n, a1, a2, a3, a4⟩ <;> rcases h2 with ⟨b1, b2⟩ | ⟨v, m, b1, b2, b3, b4⟩
  · exact a2.trans b2.symm
  · exact absurd ⟨v, b1, b2⟩ a1
  · exact absurd ⟨u, a1, a2⟩ b1
  · have e1 : u = v := dl_U_nI hp a2 b2 (a1.symm.trans b1)
    subst e1
    rw [a4, b4, dl_ord_uniq a3 b3]
theorem R_uoo_uniq {p n : Nat} {r1 r2 : Int32} (h1 : R_uoo p n r1) (h2 : R_uoo p n r2) : r1 = r2 := by
  rcases h1 with ⟨u, a1, a2, a3, a4⟩ | ⟨a1, a2⟩ <;> rcases h2 with ⟨v, b1, b2, b3, b4⟩ | ⟨b1, b2⟩
  · have e : u = v := by
      rcases Nat.lt_trichotomy u v with z | z | z
      · exact absurd a3 (b4 u a2 z)
      · exact z
      · exact absurd b3 (a4 v b2 z)
    rw [a1, b1, e]
  · exact absurd a3 (b2 u a2)
  · exact absurd b3 (a2 v b2)
  · exact a1.trans b1.symm
theorem dl_isLog_uniq {p u v : Nat} {r1 r2 : Int32} (h1 : dl_isLog p u v r1) (h2 : dl_isLog p u v r2) : r1 = r2 := by
  rcases h1 with ⟨a1, a2⟩ | ⟨x, a1, a2, a3, a4⟩ <;> rcases h2 with ⟨b1, b2⟩ | ⟨y, b1, b2, b3, b4⟩
  · exact a1.trans b1.symm
  · exact absurd b3 (a2 y b2)
  · exact absurd a3 (b2 x a2)
  · rw [a1, b1, fb_first_one (p := fun x => u ^ x % p = v) a3 a4 b3 b4]
theorem R_log_uniq {p : Nat} {g h r1 r2 : Int32} (hp : p ≤ 2039) (h1 : R_log p g h r1) (h2 : R_log p g h r2) : r1 = r2 := by
  rcases h1 with ⟨a1, a2⟩ | ⟨u, v, a1, a2, a3, a4, a5⟩ <;> rcases h2 with ⟨b1, b2⟩ | ⟨w, z, b1, b2, b3, b4, b5⟩
  · exact a2.trans b2.symm
  · exact absurd ⟨⟨w, b1, b2⟩, z, b3, b4⟩ a1
  · exact absurd ⟨⟨u, a1, a2⟩, v, a3, a4⟩ b1
  · have e1 : u = w := dl_U_nI hp a2 b2 (a1.symm.trans b1)
    have e2 : v = z := dl_U_nI hp a4 b4 (a3.symm.trans b3)
    subst e1 e2
    exact dl_isLog_uniq a5 b5
theorem dl_isRoot_uniq {p v n : Nat} {r1 r2 : Int32} (h1 : dl_isRoot p v n r1) (h2 : dl_isRoot p v n r2) : r1 = r2 := by
  rcases h1 with ⟨a1, a2⟩ | ⟨x, a1, a2, a3, a4⟩ <;> rcases h2 with ⟨b1, b2⟩ | ⟨y, b1, b2, b3, b4⟩
  · exact a1.trans b1.symm
  · exact absurd b3 (a2 y b2)
  · exact absurd a3 (b2 x a2)
  · have e : x = y := by
      rcases Nat.lt_trichotomy x y with z | z | z
      · exact absurd a3 (b4 x a2 z)
      · exact z
      · exact absurd b3 (a4 y b2 z)
    rw [a1, b1, e]
theorem R_root_uniq {p : Nat} {h k r1 r2 : Int32} (hp : p ≤ 2039) (h1 : R_root p h k r1) (h2 : R_root p h k r2) : r1 = r2 := by
  rcases h1 with ⟨a1, a2⟩ | ⟨v, n, a1, a2, a3, a4, a5, a6⟩ <;> rcases h2 with ⟨b1, b2⟩ | ⟨w, m, b1, b2, b3, b4, b5, b6⟩
  · exact a2.trans b2.symm
  · exact absurd ⟨⟨w, b1, b2⟩, m, b3, b4, b5⟩ a1
  · exact absurd ⟨⟨v, a1, a2⟩, n, a3, a4, a5⟩ b1
  · have e1 : v = w := dl_U_nI hp a2 b2 (a1.symm.trans b1)
    have e2 : n = m := dl_nI_inj (by omega) (by omega) (a3.symm.trans b3)
    subst e1 e2
    exact dl_isRoot_uniq a6 b6
theorem R_roots_uniq {p : Nat} {h k r1 r2 : Int32} (hp : p ≤ 2039) (h1 : R_roots p h k r1) (h2 : R_roots p h k r2) : r1 = r2 := by
  rcases h1 with ⟨a1, a2⟩ | ⟨v, n, a1, a2, a3, a4, a5, a6⟩ <;> rcases h2 with ⟨b1, b2⟩ | ⟨w, m, b1, b2, b3, b4, b5, b6⟩
  · exact a2.trans b2.symm
  · exact absurd ⟨⟨w, b1, b2⟩, m, b3, b4, b5⟩ a1
  · exact absurd ⟨⟨v, a1, a2⟩, n, a3, a4, a5⟩ b1
  · have e1 : v = w := dl_U_nI hp a2 b2 (a1.symm.trans b1)
    have e2 : n = m := dl_nI_inj (by omega) (by omega) (a3.symm.trans b3)
    subst e1 e2
    exact a6.trans b6.symm
theorem dl_isLW_uniq {p u v x n : Nat} {r1 r2 : Int32} (h1 : dl_isLW p u v x n r1) (h2 : dl_isLW p u v x n r2) : r1 = r2 := by
  rcases h1 with ⟨a1, a2⟩ | ⟨y, a1, a2, a3, a4, a5⟩ <;> rcases h2 with ⟨b1, b2⟩ | ⟨z, b1, b2, b3, b4, b5⟩
  · exact a1.trans b1.symm
  · exact absurd ⟨b3, b4⟩ (a2 z b2)
  · exact absurd ⟨a3, a4⟩ (b2 y a2)
  · rw [a1, b1, fb_first_one (p := fun y => u ^ y % p = v ∧ y % n = x) ⟨a3, a4⟩ a5 ⟨b3, b4⟩ b5]
theorem R_logWith_uniq {p : Nat} {g h x m r1 r2 : Int32} (hp : p ≤ 2039) (h1 : R_logWith p g h x m r1) (h2 : R_logWith p g h x m r2) : r1 = r2 := by
  rcases h1 with ⟨a1, a2⟩ | ⟨u, v, k, n, a1, a2, a3, a4, a5, a6, a7, a8, a9, a10⟩ <;> rcases h2 with ⟨b1, b2⟩ | ⟨u', v', k', n', b1, b2, b3, b4, b5, b6, b7, b8, b9, b10⟩
  · exact a2.trans b2.symm
  · exact absurd ⟨⟨u', b1, b2⟩, ⟨v', b3, b4⟩, k', n', b5, b6, b7, b8, b9⟩ a1
  · exact absurd ⟨⟨u, a1, a2⟩, ⟨v, a3, a4⟩, k, n, a5, a6, a7, a8, a9⟩ b1
  · have e1 : u = u' := dl_U_nI hp a2 b2 (a1.symm.trans b1)
    have e2 : v = v' := dl_U_nI hp a4 b4 (a3.symm.trans b3)
    have e3 : k = k' := dl_nI_inj (by omega) (by omega) (a5.symm.trans b5)
    have e4 : n = n' := dl_nI_inj (by omega) (by omega) (a6.symm.trans b6)
    subst e1 e2 e3 e4
    exact dl_isLW_uniq a10 b10
theorem R_common_uniq {p : Nat} {g h r1 r2 : Int32} (hp : p ≤ 2039) (h1 : R_common p g h r1) (h2 : R_common p g h r2) : r1 = r2 := by
  rcases h1 with ⟨a1, a2⟩ | ⟨u, v, n, m, a1, a2, a3, a4, a5, a6, a7⟩ <;> rcases h2 with ⟨b1, b2⟩ | ⟨u', v', n', m', b1, b2, b3, b4, b5, b6, b7⟩
  · exact a2.trans b2.symm
  · exact absurd ⟨⟨u', b1, b2⟩, v', b3, b4⟩ a1
  · exact absurd ⟨⟨u, a1, a2⟩, v, a3, a4⟩ b1
  · have e1 : u = u' := dl_U_nI hp a2 b2 (a1.symm.trans b1)
    have e2 : v = v' := dl_U_nI hp a4 b4 (a3.symm.trans b3)
    subst e1 e2
    rw [a7, b7, dl_ord_uniq a5 b5, dl_ord_uniq a6 b6]
theorem dl_lt1 {n : Nat} (h1 : 1 ≤ n) (h2 : n < 2147483648) : ¬ nI n < nI 1 := fun z => by
  have := (nI_ltI h2 (by decide)).mp z
  omega
theorem R_unitOfOrder_uniq {p : Nat} {x r1 r2 : Int32} (h1 : R_unitOfOrder p x r1) (h2 : R_unitOfOrder p x r2) : r1 = r2 := by
  rcases h1 with ⟨a1, a2⟩ | ⟨n, a1, a2, a3, a4⟩ <;> rcases h2 with ⟨b1, b2⟩ | ⟨m, b1, b2, b3, b4⟩
  · exact a2.trans b2.symm
  · exact absurd (by rw [← b1]; exact a1) (dl_lt1 b2 b3)
  · exact absurd (by rw [← a1]; exact b1) (dl_lt1 a2 a3)
  · have e : n = m := dl_nI_inj a3 b3 (a1.symm.trans b1)
    subst e
    exact R_uoo_uniq a4 b4
theorem R_unitsOfOrder_uniq {p : Nat} {x r1 r2 : Int32} (h1 : R_unitsOfOrder p x r1) (h2 : R_unitsOfOrder p x r2) : r1 = r2 := by
  rcases h1 with ⟨a1, a2⟩ | ⟨n, a1, a2, a3, a4⟩ <;> rcases h2 with ⟨b1, b2⟩ | ⟨m, b1, b2, b3, b4⟩
  · exact a2.trans b2.symm
  · exact absurd (by rw [← b1]; exact a1) (dl_lt1 b2 b3)
  · exact absurd (by rw [← a1]; exact b1) (dl_lt1 a2 a3)
  · have e : n = m := dl_nI_inj a3 b3 (a1.symm.trans b1)
    subst e
    exact a4.trans b4.symm
end
section
set_option maxRecDepth 100000
def dl_k4 {α : Type} (q0 q1 q2 q3 : α) : Nat → α := fun i => match i with
  | 0 => q0
  | 1 => q1
  | 2 => q2
  | _ => q3
abbrev xZ (h : Nat) : va_W := [(h, .inr (0, [.int 0, .int 0, .int 0, .null, .null, .null, .null]))]
abbrev yZ (h : Nat) : va_W := [(h, .inr (1, [.int 0, .null]))]
abbrev xU : Type := (Nat → Nat) × (Nat → ClassId) × Nat × (Nat → Int32) × (Nat → Int32)
abbrev xUW (h : Nat) (u : xU) : va_W := xW (h, u.1, u.2.1) (nI 3) (nI (3 - 1)) (nI u.2.2.1) u.2.2.2.1 u.2.2.2.2 (fun _ => 0) (fun _ => 0)
theorem dl_P3 : dl_P 3 := ⟨by omega, by omega, by omega, fun d h1 h2 => by
  have e : d = 2 := by omega
  subst e
  decide⟩
set_option maxHeartbeats 4000000 in
theorem mX0_init (l : Launch) (D : va_G) (h0 sz : Nat) : Met l yX0_init (ws_ yX0_init cX0_init 1 none) ({ frames := 1, cells := 4, slots := 266, locals := 23 } : Room) (va_Pc [.ref h0] (dx_pre D [] (xZ h0) sz)) (va_Qv (fun u : xU => dl_I 3 u.2.2.1 u.2.2.2.1 u.2.2.2.2) (fun u t => va_P D vwCl (xUW h0 u) t.heap ∧ va_K D vwCl (xT (h0, u.1, u.2.1)) t ∧ va_D (va_A (xZ h0) sz) (xUW h0 u)) (va_A (xZ h0) sz)) 4 266 (va_A (xZ h0) sz) := by
  refine Met.ofW (cc := cX0_init) (maxL := 1) (ret := none) (by decide) rfl ?_
  intro pg en sS mI aR bL mE cO s1 Bd hml hv
  obtain ⟨rfl, hsz, hP, hK, hD0⟩ := hv
  have hx := Bd.exec
  have hb := Bd.bytes
  have hr := Bd.returns
  have hts := atoms_spec (ws := ws_ yX0_init cX0_init 1 none) Bd.pre
  have hts : ∀ x ∈ lw_all, x.before _ sS = true := fun x h => hts x (List.mem_cons_of_mem _ h)
  have hown : sS.vm.findClass RX0 = some mI.cls := findClass_of_methodNamed Bd.named
  have hlocks := Bd.notSynchronized
  have hin : mE.name = "<init>" := (name_of_methodNamed Bd.named Bd.method).1
  subst hsz
  have hD := hD0.self (sz := sS.heap.size)
  generalize hAe : va_A (xZ h0) sS.heap.size = A at hD ⊢
  have hA : ∀ q : Nat, sS.heap.size ≤ q → A q := fun q h => by rw [← hAe]; exact Or.inr h
  have hS : va_S A sS.heap sS.heap [] := va_S.rf
  have hl := lv_entry ([.ref h0]) (n := 1) (Nat.le_of_ble_eq_true rfl)
  rw [lg_entry_eq]
  generalize (lg_sl ([.ref h0]) ++ List.replicate (1 - (lg_sl ([.ref h0])).length) Slot.unset).toArray = ls at hl ⊢
  have hl : lv_has ls 1 [(0, .ref h0)] := hl
  refine lv_aload_n hx hb dX0_init_0 rfl (lv_at hl 0 rfl) ?_
  refine W.objInit hx hb hown (hts _ q33) (hts _ q34) (hts _ q35) rfl (by rw [hml]; exact hl.1) rfl dX0_init_1 (Nat.le_of_ble_eq_true rfl) (Nat.le_of_ble_eq_true rfl) ?_
  refine W.eq (g2 := F0 mI 4 ls []) rfl ?_
  refine lv_aload_n hx hb dX0_init_4 rfl (lv_at hl 0 rfl) ?_
  refine lv_iconst (v := nI 5) hx hb dX0_init_5 (by decide) ?_
  refine va_newa (atype := .int) (a0 := (5, .inl (fun _ => 0))) (N' := 5) (ty := .int) hx hb (hts _ q62) rfl hK hP hD hS hA (fun _ => rfl) (by decide) (by decide) (by decide) (by show 0 + 1 ≤ 4; omega) (by show 0 + 5 ≤ 266; omega) dX0_init_6 (fun q0 c0 H hK hP hD hS => ?_)
  refine W.widen (k := 1) (n := 5) (by omega) (by omega) ?_
  have hK : va_K D vwCl [(c0, .int)] sS := hK
  have hP : va_P D vwCl [(h0, .inr (0, [.int 0, .int 0, .int 0, .null, .null, .null, .null])), (q0, .inl (c0, 5, .inl (fun _ => 0)))] H := hP
  have hD : va_D A [(h0, .inr (0, [.int 0, .int 0, .int 0, .null, .null, .null, .null])), (q0, .inl (c0, 5, .inl (fun _ => 0)))] := hD
  refine va_putF (D := D) (ci := 0) (v := .ref q0) (ty := .array .int) (C := RX0) (T := TX0) (N := 7) hx hb hts in_X0 tyX0 tyX0_ok nmX0 hown hK hP hD hS 0 rfl rfl 3 (by decide) (hts _ q43) (fun _ h9 => h9) rfl hin rfl (by decide +kernel) rfl rfl (Nat.le_of_ble_eq_true rfl) dX0_init_8 (fun H locs hP hD hS => ?_)
  have hP : va_P D vwCl [(h0, .inr (0, [.int 0, .int 0, .int 0, .ref q0, .null, .null, .null])), (q0, .inl (c0, 5, .inl (fun _ => 0)))] H := hP
  have hD : va_D A [(h0, .inr (0, [.int 0, .int 0, .int 0, .ref q0, .null, .null, .null])), (q0, .inl (c0, 5, .inl (fun _ => 0)))] := hD
  refine lv_aload_n hx hb dX0_init_11 rfl (lv_at hl 0 rfl) ?_
  refine lv_iconst (v := nI 5) hx hb dX0_init_12 (by decide) ?_
  refine va_newa (atype := .int) (a0 := (5, .inl (fun _ => 0))) (N' := 5) (ty := .int) hx hb (hts _ q62) rfl hK hP hD hS hA (fun _ => rfl) (by decide) (by decide) (by decide) (by show 1 + 1 ≤ 4; omega) (by show 5 + 5 ≤ 266; omega) dX0_init_13 (fun q1 c1 H hK hP hD hS => ?_)
  refine W.widen (k := 2) (n := 10) (by omega) (by omega) ?_
  have hK : va_K D vwCl [(c0, .int), (c1, .int)] sS := hK
  have hP : va_P D vwCl [(h0, .inr (0, [.int 0, .int 0, .int 0, .ref q0, .null, .null, .null])), (q0, .inl (c0, 5, .inl (fun _ => 0))), (q1, .inl (c1, 5, .inl (fun _ => 0)))] H := hP
  have hD : va_D A [(h0, .inr (0, [.int 0, .int 0, .int 0, .ref q0, .null, .null, .null])), (q0, .inl (c0, 5, .inl (fun _ => 0))), (q1, .inl (c1, 5, .inl (fun _ => 0)))] := hD
  refine va_putF (D := D) (ci := 0) (v := .ref q1) (ty := .array .int) (C := RX0) (T := TX0) (N := 7) hx hb hts in_X0 tyX0 tyX0_ok nmX0 hown hK hP hD hS 0 rfl rfl 4 (by decide) (hts _ q44) (fun _ h9 => h9) rfl hin rfl (by decide +kernel) rfl rfl (Nat.le_of_ble_eq_true rfl) dX0_init_15 (fun H locs hP hD hS => ?_)
  have hP : va_P D vwCl [(h0, .inr (0, [.int 0, .int 0, .int 0, .ref q0, .ref q1, .null, .null])), (q0, .inl (c0, 5, .inl (fun _ => 0))), (q1, .inl (c1, 5, .inl (fun _ => 0)))] H := hP
  have hD : va_D A [(h0, .inr (0, [.int 0, .int 0, .int 0, .ref q0, .ref q1, .null, .null])), (q0, .inl (c0, 5, .inl (fun _ => 0))), (q1, .inl (c1, 5, .inl (fun _ => 0)))] := hD
  refine lv_aload_n hx hb dX0_init_18 rfl (lv_at hl 0 rfl) ?_
  refine lv_sipush (v := nI 128) hx hb dX0_init_19 (by decide) ?_
  refine va_newa (atype := .int) (a0 := (128, .inl (fun _ => 0))) (N' := 128) (ty := .int) hx hb (hts _ q62) rfl hK hP hD hS hA (fun _ => rfl) (by decide) (by decide) (by decide) (by show 2 + 1 ≤ 4; omega) (by show 10 + 128 ≤ 266; omega) dX0_init_22 (fun q2 c2 H hK hP hD hS => ?_)
  refine W.widen (k := 3) (n := 138) (by omega) (by omega) ?_
  have hK : va_K D vwCl [(c0, .int), (c1, .int), (c2, .int)] sS := hK
  have hP : va_P D vwCl [(h0, .inr (0, [.int 0, .int 0, .int 0, .ref q0, .ref q1, .null, .null])), (q0, .inl (c0, 5, .inl (fun _ => 0))), (q1, .inl (c1, 5, .inl (fun _ => 0))), (q2, .inl (c2, 128, .inl (fun _ => 0)))] H := hP
  have hD : va_D A [(h0, .inr (0, [.int 0, .int 0, .int 0, .ref q0, .ref q1, .null, .null])), (q0, .inl (c0, 5, .inl (fun _ => 0))), (q1, .inl (c1, 5, .inl (fun _ => 0))), (q2, .inl (c2, 128, .inl (fun _ => 0)))] := hD
  refine va_putF (D := D) (ci := 0) (v := .ref q2) (ty := .array .int) (C := RX0) (T := TX0) (N := 7) hx hb hts in_X0 tyX0 tyX0_ok nmX0 hown hK hP hD hS 0 rfl rfl 5 (by decide) (hts _ q45) (fun _ h9 => h9) rfl hin rfl (by decide +kernel) rfl rfl (Nat.le_of_ble_eq_true rfl) dX0_init_24 (fun H locs hP hD hS => ?_)
  have hP : va_P D vwCl [(h0, .inr (0, [.int 0, .int 0, .int 0, .ref q0, .ref q1, .ref q2, .null])), (q0, .inl (c0, 5, .inl (fun _ => 0))), (q1, .inl (c1, 5, .inl (fun _ => 0))), (q2, .inl (c2, 128, .inl (fun _ => 0)))] H := hP
  have hD : va_D A [(h0, .inr (0, [.int 0, .int 0, .int 0, .ref q0, .ref q1, .ref q2, .null])), (q0, .inl (c0, 5, .inl (fun _ => 0))), (q1, .inl (c1, 5, .inl (fun _ => 0))), (q2, .inl (c2, 128, .inl (fun _ => 0)))] := hD
  refine lv_aload_n hx hb dX0_init_27 rfl (lv_at hl 0 rfl) ?_
  refine lv_sipush (v := nI 128) hx hb dX0_init_28 (by decide) ?_
  refine va_newa (atype := .int) (a0 := (128, .inl (fun _ => 0))) (N' := 128) (ty := .int) hx hb (hts _ q62) rfl hK hP hD hS hA (fun _ => rfl) (by decide) (by decide) (by decide) (by show 3 + 1 ≤ 4; omega) (by show 138 + 128 ≤ 266; omega) dX0_init_31 (fun q3 c3 H hK hP hD hS => ?_)
  refine W.widen (k := 4) (n := 266) (by omega) (by omega) ?_
  have hK : va_K D vwCl [(c0, .int), (c1, .int), (c2, .int), (c3, .int)] sS := hK
  have hP : va_P D vwCl [(h0, .inr (0, [.int 0, .int 0, .int 0, .ref q0, .ref q1, .ref q2, .null])), (q0, .inl (c0, 5, .inl (fun _ => 0))), (q1, .inl (c1, 5, .inl (fun _ => 0))), (q2, .inl (c2, 128, .inl (fun _ => 0))), (q3, .inl (c3, 128, .inl (fun _ => 0)))] H := hP
  have hD : va_D A [(h0, .inr (0, [.int 0, .int 0, .int 0, .ref q0, .ref q1, .ref q2, .null])), (q0, .inl (c0, 5, .inl (fun _ => 0))), (q1, .inl (c1, 5, .inl (fun _ => 0))), (q2, .inl (c2, 128, .inl (fun _ => 0))), (q3, .inl (c3, 128, .inl (fun _ => 0)))] := hD
  refine va_putF (D := D) (ci := 0) (v := .ref q3) (ty := .array .int) (C := RX0) (T := TX0) (N := 7) hx hb hts in_X0 tyX0 tyX0_ok nmX0 hown hK hP hD hS 0 rfl rfl 6 (by decide) (hts _ q46) (fun _ h9 => h9) rfl hin rfl (by decide +kernel) rfl rfl (Nat.le_of_ble_eq_true rfl) dX0_init_33 (fun H locs hP hD hS => ?_)
  have hP : va_P D vwCl [(h0, .inr (0, [.int 0, .int 0, .int 0, .ref q0, .ref q1, .ref q2, .ref q3])), (q0, .inl (c0, 5, .inl (fun _ => 0))), (q1, .inl (c1, 5, .inl (fun _ => 0))), (q2, .inl (c2, 128, .inl (fun _ => 0))), (q3, .inl (c3, 128, .inl (fun _ => 0)))] H := hP
  have hD : va_D A [(h0, .inr (0, [.int 0, .int 0, .int 0, .ref q0, .ref q1, .ref q2, .ref q3])), (q0, .inl (c0, 5, .inl (fun _ => 0))), (q1, .inl (c1, 5, .inl (fun _ => 0))), (q2, .inl (c2, 128, .inl (fun _ => 0))), (q3, .inl (c3, 128, .inl (fun _ => 0)))] := hD
  have hK : va_K D vwCl (xT (h0, dl_k4 q0 q1 q2 q3, dl_k4 c0 c1 c2 c3)) sS := hK
  have hP : va_P D vwCl (xW (h0, dl_k4 q0 q1 q2 q3, dl_k4 c0 c1 c2 c3) 0 0 0 (fun _ => 0) (fun _ => 0) (fun _ => 0) (fun _ => 0)) H := hP
  have hD : va_D A (xW (h0, dl_k4 q0 q1 q2 q3, dl_k4 c0 c1 c2 c3) 0 0 0 (fun _ => 0) (fun _ => 0) (fun _ => 0) (fun _ => 0)) := hD
  refine lv_aload_n hx hb dX0_init_36 rfl (lv_at hl 0 rfl) ?_
  refine lv_iconst (v := nI 3) hx hb dX0_init_37 (by decide) ?_
  refine xp_p (a := (h0, dl_k4 q0 q1 q2 q3, dl_k4 c0 c1 c2 c3)) hx hb hts hown hK hP hD hS dX0_init_38 (fun H locs hP hD hS => ?_)
  refine lv_aload_n hx hb dX0_init_41 rfl (lv_at hl 0 rfl) ?_
  refine dx_callV (wr := []) (ci := 0) (As := []) (rest := []) ⟨hx, hb, hml, hown, hts⟩ (mX0_factor (a := (h0, dl_k4 q0 q1 q2 q3, dl_k4 c0 c1 c2 c3)) (p := 3) dl_P3) (cw_X0_factor hts rfl rfl ⟨Nat.le_of_ble_eq_true rfl, Nat.le_of_ble_eq_true rfl⟩) hK hP hD hS hA [0, 1, 2, 3, 4] [] [0, 1, 2, 3] rfl rfl (by decide) (by decide) (fun i h => absurd h List.not_mem_nil) rfl rfl rfl rfl rfl hl.1 rfl (Nat.le_of_ble_eq_true rfl) dX0_init_42 ⟨Nat.le_of_ble_eq_true rfl, Nat.le_of_ble_eq_true rfl⟩ (fun u H locs hw hP hD hS => ?_)
  exact W.vret hx hb hr (fun t ht hW => ⟨⟨(dl_k4 q0 q1 q2 q3, dl_k4 c0 c1 c2 c3, u.1, u.2.1, u.2.2), rfl, hw, by rw [ht]; exact hP, va_K.moved hW.alike hK, hD⟩, hS.F ht⟩) hS.2.2 dX0_init_45
set_option maxHeartbeats 4000000 in
theorem mX1_init (l : Launch) (D : va_G) (h0 sz : Nat) : Met l yX1_init (ws_ yX1_init cX1_init 1 none) ({ frames := 1, cells := 1, slots := 2040, locals := 12 } : Room) (va_Pc [.ref h0] (dx_pre D [] (yZ h0) sz)) (va_Qv (fun _ : Nat × ClassId => True) (fun u t => va_P D vwCl (yW (h0, u.1, u.2) (nI 3) (fun _ => 0)) t.heap ∧ va_K D vwCl (yT (h0, u.1, u.2)) t ∧ va_D (va_A (yZ h0) sz) (yW (h0, u.1, u.2) (nI 3) (fun _ => 0))) (va_A (yZ h0) sz)) 1 2040 (va_A (yZ h0) sz) := by
  refine Met.ofW (cc := cX1_init) (maxL := 1) (ret := none) (by decide) rfl ?_
  intro pg en sS mI aR bL mE cO s1 Bd hml hv
  obtain ⟨rfl, hsz, hP, hK, hD0⟩ := hv
  have hx := Bd.exec
  have hb := Bd.bytes
  have hr := Bd.returns
  have hts := atoms_spec (ws := ws_ yX1_init cX1_init 1 none) Bd.pre
  have hts : ∀ x ∈ lw_all, x.before _ sS = true := fun x h => hts x (List.mem_cons_of_mem _ h)
  have hown : sS.vm.findClass RX1 = some mI.cls := findClass_of_methodNamed Bd.named
  have hlocks := Bd.notSynchronized
  have hin : mE.name = "<init>" := (name_of_methodNamed Bd.named Bd.method).1
  subst hsz
  have hD := hD0.self (sz := sS.heap.size)
  generalize hAe : va_A (yZ h0) sS.heap.size = A at hD ⊢
  have hA : ∀ q : Nat, sS.heap.size ≤ q → A q := fun q h => by rw [← hAe]; exact Or.inr h
  have hS : va_S A sS.heap sS.heap [] := va_S.rf
  have hl := lv_entry ([.ref h0]) (n := 1) (Nat.le_of_ble_eq_true rfl)
  rw [lg_entry_eq]
  generalize (lg_sl ([.ref h0]) ++ List.replicate (1 - (lg_sl ([.ref h0])).length) Slot.unset).toArray = ls at hl ⊢
  have hl : lv_has ls 1 [(0, .ref h0)] := hl
  refine lv_aload_n hx hb dX1_init_0 rfl (lv_at hl 0 rfl) ?_
  refine W.objInit hx hb hown (hts _ q206) (hts _ q34) (hts _ q35) rfl (by rw [hml]; exact hl.1) rfl dX1_init_1 (Nat.le_of_ble_eq_true rfl) (Nat.le_of_ble_eq_true rfl) ?_
  refine W.eq (g2 := F0 mI 4 ls []) rfl ?_
  refine lv_aload_n hx hb dX1_init_4 rfl (lv_at hl 0 rfl) ?_
  refine lv_sipush (v := nI 2040) hx hb dX1_init_5 (by decide) ?_
  refine va_newa (atype := .boolean) (a0 := (2040, .inl (fun _ => 0))) (N' := 2040) (ty := .boolean) hx hb (hts _ q214) rfl hK hP hD hS hA (fun _ => rfl) (by decide) (by decide) (by decide) (by show 0 + 1 ≤ 1; omega) (by show 0 + 2040 ≤ 2040; omega) dX1_init_8 (fun q0 c0 H hK hP hD hS => ?_)
  refine W.widen (k := 1) (n := 2040) (by omega) (by omega) ?_
  have hK : va_K D vwCl [(c0, .boolean)] sS := hK
  have hP : va_P D vwCl [(h0, .inr (1, [.int 0, .null])), (q0, .inl (c0, 2040, .inl (fun _ => 0)))] H := hP
  have hD : va_D A [(h0, .inr (1, [.int 0, .null])), (q0, .inl (c0, 2040, .inl (fun _ => 0)))] := hD
  refine va_putF (D := D) (ci := 1) (v := .ref q0) (ty := .array .boolean) (C := RX1) (T := TX1) (N := 2) hx hb hts in_X1 tyX1 tyX1_ok nmX1 hown hK hP hD hS 0 rfl rfl 1 (by decide) (hts _ q208) (fun _ h9 => h9) rfl hin rfl (by decide +kernel) rfl rfl (Nat.le_of_ble_eq_true rfl) dX1_init_10 (fun H locs hP hD hS => ?_)
  have hP : va_P D vwCl (yW (h0, q0, c0) 0 (fun _ => 0)) H := hP
  have hD : va_D A (yW (h0, q0, c0) 0 (fun _ => 0)) := hD
  refine lv_aload_n hx hb dX1_init_13 rfl (lv_at hl 0 rfl) ?_
  refine lv_iconst (v := nI 3) hx hb dX1_init_14 (by decide) ?_
  refine yp_p (b := (h0, q0, c0)) hx hb hts hown hK hP hD hS dX1_init_15 (fun H locs hP hD hS => ?_)
  exact W.vret hx hb hr (fun t ht hW => ⟨⟨(q0, c0), rfl, trivial, by rw [ht]; exact hP, va_K.moved hW.alike hK, hD⟩, hS.F ht⟩) hS.2.2 dX1_init_18
end
section
set_option maxRecDepth 100000
/-! THE CLAIM OUT OF ONE WALK OF THE LAW'S BODY. Your part is whole_start (and what it stands on); all else here is the same for every law, but numbers. -/
def lw_P (b : Addr) (xs : List Int32) (args : Array Value) (s : State) : Prop := args = #[.ref b] ∧ s.IntsAt b xs ∧ xs.length ≤ 320 ∧ (Jvm.Cond.and given_1 narrow_1).before args s = true
def lw_Q (_ : Array Value) (s : State) (o : Outcome) (t : State) : Prop := o = .returned (some (.int 1)) ∧ Framed s o t [] 600000 7290000
def lw_Z (below : List Frame) (a : Array Value) (s : State) : State → Prop := fun t => ∃ o, t.status = .running ∧ Ended t below o ∧ lw_Q a s o t
/-- the law's own end, with 1 on the stack, nothing written that was there before, its room as the claim has it -/
theorem lw_ret {p : Program} {l : Launch} {e : Env} {s : State} {m : MethodId} {below : List Frame} {meth : Method} {c : Code} {b : Nat} (hx : p.tables.exec = Jvm.exec) (hb : c.code = code) (hr : meth.sig.returnType = ret) (hlocks : meth.locks = false) {pc : Nat} {H : Heap} {ls : Array Slot} (hdg : decode code pc = .ok (.ireturn, 1)) : W p l e room_1 s m #[Value.ref b] below meth c H [] 600000 7290000 (lw_Z below #[Value.ref b] s) (F0 m pc ls [.int 1]) := by
  intro T hT X
  obtain ⟨fs, hret, hrun, hended, hW, hframe⟩ := X.leave (v := some (.int 1)) (hlocks := hlocks) (fun h => by rw [hr] at h; cases h)
  have hmeth' : T.vm.method? m = some meth := X.method'
  refine ⟨T.setFrames fs, ?_, .returned (some (.int 1)), hrun, hended, rfl, ⟨_, rfl⟩, hW, hframe⟩
  jvm_step X.here [X.here.top, hx, hb, hdg, hmeth', hr, ret, narrow_b1]
  (try refine ⟨rfl, ?_⟩); (try refine ⟨rfl, ?_⟩)
  first | (intro acts; rw [hret _ acts rfl rfl rfl]) | rw [hret _ _ rfl rfl rfl]
  exact Steps.refl _
/-- what holds at the law's entry: the machine, the code, the tables' words (any of lw_tbl by 'hts w (by decide +kernel)'), the script of L ints xs at the cell b, what the Statement gives of the start (any of its parts by flat_of_before) -/
def lw_At (p : Program) (s : State) (m : MethodId) (meth : Method) (c : Code) (b L : Nat) (xs : Nat → Int32) : Prop :=
  p.tables.exec = Jvm.exec ∧ c.code = code ∧ meth.sig.returnType = ret ∧ c.maxLocals = 4 ∧ s.vm.findClass R_law = some m.cls ∧ (∀ w ∈ lw_tbl, w.before #[Value.ref b] s = true) ∧ va_X b L xs s s.heap ∧ b < s.heap.size ∧ meth.locks = false ∧ (Jvm.Cond.and given_1 narrow_1).before #[Value.ref b] s = true
end
section
set_option maxRecDepth 100000
abbrev lwW (a : xA) (b : yA) (p nf : Nat) (B T K S M : Nat → Int32) : va_W := xW a (nI p) (nI (p - 1)) (nI nf) B T K S ++ yW b (nI p) M
section LW
variable {pg : Program} {l : Launch} {e : Env} {s : State} {m : MethodId} {below : List Frame} {meth : Method} {c : Code} {b0 L : Nat} {xs : Nat → Int32} {D : va_G} {a : xA} {b : yA}
theorem dn_sld {R : Room} {args : Array Value} {H : Heap} {locs : List Loc} {cells slots : Nat} {Q : State → Prop} {cc : ByteArray} {pc : Nat} {ls : Array Slot} {rest : List Value} (hexec : pg.tables.exec = Jvm.exec) (hb : c.code = cc) (hX : va_X b0 L xs s s.heap) (hbl : b0 < s.heap.size) (hS : va_S (fun q : Nat => s.heap.size ≤ q) s.heap H locs) (hL : L ≤ 320) {i : Nat} (hi : i < L) (hdg : decode cc pc = .ok (.iaload, 1))
    (kk : W pg l e R s m args below meth c H locs cells slots Q (F0 m (pc + 1) ls (.int (xs i) :: rest))) : W pg l e R s m args below meth c H locs cells slots Q (F0 m pc ls (.int (nI i) :: .ref b0 :: rest)) :=
  va_sld hexec hb hX hbl (A := (fun q : Nat => s.heap.size ≤ q)) (Nat.not_le.mpr hbl) hS (vp_in_nI hi (by omega)) hdg (by rw [nI_clamp (by omega)]; exact kk)
theorem dl_lawc {L i : Nat} (hL : L ≤ 320) (hi : i ≤ L) : nI L - nI 5 < nI i ↔ L < i + 5 := by
  have e1 : (nI L - nI 5).toInt = (L : Int) - 5 := pk_sub_toInt (by omega) (by decide)
  rw [fa_lt, e1, nI_toInt (by omega)]
  omega
set_option maxHeartbeats 4000000 in
theorem law_prime (hx : pg.tables.exec = Jvm.exec) (hb : c.code = code) (hml : c.maxLocals = 4) (hown : s.vm.findClass R_law = some m.cls) (hts : ∀ x ∈ lw_all, x.before #[Value.ref b0] s = true) (hX : va_X b0 L xs s s.heap) (hbl : b0 < s.heap.size) (hK : va_K D vwCl (xT a ++ yT b) s) {p nf i : Nat} {B T K S M : Nat → Int32} {H : Heap} {locs : List Loc} {ls : Array Slot} (hI : dl_I p nf B T) (hP : va_P D vwCl (lwW a b p nf B T K S M) H) (hD : va_D (fun q : Nat => s.heap.size ≤ q) (lwW a b p nf B T K S M)) (hS : va_S (fun q : Nat => s.heap.size ≤ q) s.heap H locs) (hL : L ≤ 320) (hi : i + 5 ≤ L) (hl : lv_has ls 4 [(0, .ref b0), (1, .ref a.1), (2, .ref b.1), (3, .int (nI i))])
    (hk : ∀ (p nf : Nat) (B T K S M : Nat → Int32) (H : Heap) (locs : List Loc), dl_I p nf B T → va_P D vwCl (lwW a b p nf B T K S M) H → va_D (fun q : Nat => s.heap.size ≤ q) (lwW a b p nf B T K S M) → va_S (fun q : Nat => s.heap.size ≤ q) s.heap H locs → W pg l e room_1 s m #[Value.ref b0] below meth c H locs 600000 7290000 (lw_Z below #[Value.ref b0] s) (F0 m 493 ls [])) : W pg l e room_1 s m #[Value.ref b0] below meth c H locs 600000 7290000 (lw_Z below #[Value.ref b0] s) (F0 m 108 ls []) := by
  obtain ⟨hpp, -⟩ := id hI
  have hp3 := hpp.1
  have hp9 := hpp.2.1
  have hp1 := dl_P1 hpp
  refine lv_aload_n hx hb dL_law_108 rfl (lv_at hl 1 rfl) ?_
  refine lv_aload_n hx hb dL_law_109 rfl (lv_at hl 0 rfl) ?_
  refine lv_iload_n hx hb dL_law_110 rfl (lv_at hl 3 rfl) ?_
  refine lv_iconst (v := nI 1) hx hb dL_law_111 (by decide) ?_
  refine dn_iadd hx hb dL_law_112 ?_
  refine dn_sld hx hb hX hbl hS hL (by omega) dL_law_113 ?_
  refine dx_callI (wr := yW b (nI p) M) (ci := 0) (As := [.int (xs (i + 1))]) (rest := []) ⟨hx, hb, hml, hown, hts⟩ (mX0_prime (a := a) (x := xs (i + 1)) hI) (cw_L_X0_prime hts rfl rfl ⟨Nat.le_of_ble_eq_true rfl, Nat.le_of_ble_eq_true rfl⟩) hK hP hD hS (fun _ h => h) [0, 1, 2, 3, 4] [5, 6] [0, 1, 2, 3] rfl rfl (by decide) (by decide) (by decide) rfl rfl rfl rfl rfl hl.1 rfl (Nat.le_of_ble_eq_true rfl) dL_law_114 ⟨Nat.le_of_ble_eq_true rfl, Nat.le_of_ble_eq_true rfl⟩ (fun r1 u H locs hw1 hP hD hS => ?_)
  obtain ⟨p2, nf2, B2, T2⟩ := u
  obtain ⟨hI2, hw1⟩ := hw1
  have hP : va_P D vwCl (yW b (nI p) M ++ xW a (nI p2) (nI (p2 - 1)) (nI nf2) B2 T2 K S) H := hP
  have hD : va_D (fun q : Nat => s.heap.size ≤ q) (yW b (nI p) M ++ xW a (nI p2) (nI (p2 - 1)) (nI nf2) B2 T2 K S) := hD
  refine lv_aload_n hx hb dL_law_117 rfl (lv_at hl 2 rfl) ?_
  refine lv_aload_n hx hb dL_law_118 rfl (lv_at hl 0 rfl) ?_
  refine lv_iload_n hx hb dL_law_119 rfl (lv_at hl 3 rfl) ?_
  refine lv_iconst (v := nI 1) hx hb dL_law_120 (by decide) ?_
  refine dn_iadd hx hb dL_law_121 ?_
  refine dn_sld hx hb hX hbl hS hL (by omega) dL_law_122 ?_
  refine dx_callI (wr := xW a (nI p2) (nI (p2 - 1)) (nI nf2) B2 T2 K S) (ci := 1) (As := [.int (xs (i + 1))]) (rest := [.int r1]) ⟨hx, hb, hml, hown, hts⟩ (mX1_prime (b := b) (x := xs (i + 1)) ) (cw_L_X1_prime hts rfl rfl ⟨Nat.le_of_ble_eq_true rfl, Nat.le_of_ble_eq_true rfl⟩) hK hP hD hS (fun _ h => h) [0, 1] [2, 3, 4, 5, 6] [4] rfl rfl (by decide) (by decide) (by decide) rfl rfl rfl rfl rfl hl.1 rfl (Nat.le_of_ble_eq_true rfl) dL_law_123 ⟨Nat.le_of_ble_eq_true rfl, Nat.le_of_ble_eq_true rfl⟩ (fun r2 u H locs hw2 hP hD hS => ?_)
  obtain ⟨e1, e2⟩ := R_prime_uniq hw1 hw2
  subst e2
  refine lv_icmp_eq (tgt := 493) hx hb dL_law_126 (by decide) (fun hc => ?_) (fun hc => absurd e1 hc)
  exact hk p2 nf2 B2 T2 K S M H locs hI2 hP hD hS
set_option maxHeartbeats 4000000 in
theorem law_modulus (hx : pg.tables.exec = Jvm.exec) (hb : c.code = code) (hml : c.maxLocals = 4) (hown : s.vm.findClass R_law = some m.cls) (hts : ∀ x ∈ lw_all, x.before #[Value.ref b0] s = true) (hX : va_X b0 L xs s s.heap) (hbl : b0 < s.heap.size) (hK : va_K D vwCl (xT a ++ yT b) s) {p nf i : Nat} {B T K S M : Nat → Int32} {H : Heap} {locs : List Loc} {ls : Array Slot} (hI : dl_I p nf B T) (hP : va_P D vwCl (lwW a b p nf B T K S M) H) (hD : va_D (fun q : Nat => s.heap.size ≤ q) (lwW a b p nf B T K S M)) (hS : va_S (fun q : Nat => s.heap.size ≤ q) s.heap H locs) (hL : L ≤ 320) (hi : i + 5 ≤ L) (hl : lv_has ls 4 [(0, .ref b0), (1, .ref a.1), (2, .ref b.1), (3, .int (nI i))])
    (hk : ∀ (p nf : Nat) (B T K S M : Nat → Int32) (H : Heap) (locs : List Loc), dl_I p nf B T → va_P D vwCl (lwW a b p nf B T K S M) H → va_D (fun q : Nat => s.heap.size ≤ q) (lwW a b p nf B T K S M) → va_S (fun q : Nat => s.heap.size ≤ q) s.heap H locs → W pg l e room_1 s m #[Value.ref b0] below meth c H locs 600000 7290000 (lw_Z below #[Value.ref b0] s) (F0 m 493 ls [])) : W pg l e room_1 s m #[Value.ref b0] below meth c H locs 600000 7290000 (lw_Z below #[Value.ref b0] s) (F0 m 131 ls []) := by
  obtain ⟨hpp, -⟩ := id hI
  have hp3 := hpp.1
  have hp9 := hpp.2.1
  have hp1 := dl_P1 hpp
  refine lv_aload_n hx hb dL_law_131 rfl (lv_at hl 1 rfl) ?_
  refine dx_callI (wr := yW b (nI p) M) (ci := 0) (As := []) (rest := []) ⟨hx, hb, hml, hown, hts⟩ (mX0_modulus (a := a)  ) (cw_L_X0_modulus hts rfl rfl ⟨Nat.le_of_ble_eq_true rfl, Nat.le_of_ble_eq_true rfl⟩) hK hP hD hS (fun _ h => h) [0, 1, 2, 3, 4] [5, 6] [0, 1, 2, 3] rfl rfl (by decide) (by decide) (by decide) rfl rfl rfl rfl rfl hl.1 rfl (Nat.le_of_ble_eq_true rfl) dL_law_132 ⟨Nat.le_of_ble_eq_true rfl, Nat.le_of_ble_eq_true rfl⟩ (fun r1 u H locs hw1 hP hD hS => ?_)
  have hP : va_P D vwCl (yW b (nI p) M ++ xW a (nI p) (nI (p - 1)) (nI nf) B T K S) H := hP
  have hD : va_D (fun q : Nat => s.heap.size ≤ q) (yW b (nI p) M ++ xW a (nI p) (nI (p - 1)) (nI nf) B T K S) := hD
  refine lv_aload_n hx hb dL_law_135 rfl (lv_at hl 2 rfl) ?_
  refine dx_callI (wr := xW a (nI p) (nI (p - 1)) (nI nf) B T K S) (ci := 1) (As := []) (rest := [.int r1]) ⟨hx, hb, hml, hown, hts⟩ (mX1_modulus (b := b)  ) (cw_L_X1_modulus hts rfl rfl ⟨Nat.le_of_ble_eq_true rfl, Nat.le_of_ble_eq_true rfl⟩) hK hP hD hS (fun _ h => h) [0, 1] [2, 3, 4, 5, 6] [4] rfl rfl (by decide) (by decide) (by decide) rfl rfl rfl rfl rfl hl.1 rfl (Nat.le_of_ble_eq_true rfl) dL_law_136 ⟨Nat.le_of_ble_eq_true rfl, Nat.le_of_ble_eq_true rfl⟩ (fun r2 u H locs hw2 hP hD hS => ?_)
  refine lv_icmp_eq (tgt := 493) hx hb dL_law_139 (by decide) (fun hc => ?_) (fun hc => absurd (hw1.trans hw2.symm) hc)
  exact hk p nf B T K S M H locs hI hP hD hS
set_option maxHeartbeats 4000000 in
theorem law_nextPrime (hx : pg.tables.exec = Jvm.exec) (hb : c.code = code) (hml : c.maxLocals = 4) (hown : s.vm.findClass R_law = some m.cls) (hts : ∀ x ∈ lw_all, x.before #[Value.ref b0] s = true) (hX : va_X b0 L xs s s.heap) (hbl : b0 < s.heap.size) (hK : va_K D vwCl (xT a ++ yT b) s) {p nf i : Nat} {B T K S M : Nat → Int32} {H : Heap} {locs : List Loc} {ls : Array Slot} (hI : dl_I p nf B T) (hP : va_P D vwCl (lwW a b p nf B T K S M) H) (hD : va_D (fun q : Nat => s.heap.size ≤ q) (lwW a b p nf B T K S M)) (hS : va_S (fun q : Nat => s.heap.size ≤ q) s.heap H locs) (hL : L ≤ 320) (hi : i + 5 ≤ L) (hl : lv_has ls 4 [(0, .ref b0), (1, .ref a.1), (2, .ref b.1), (3, .int (nI i))])
    (hk : ∀ (p nf : Nat) (B T K S M : Nat → Int32) (H : Heap) (locs : List Loc), dl_I p nf B T → va_P D vwCl (lwW a b p nf B T K S M) H → va_D (fun q : Nat => s.heap.size ≤ q) (lwW a b p nf B T K S M) → va_S (fun q : Nat => s.heap.size ≤ q) s.heap H locs → W pg l e room_1 s m #[Value.ref b0] below meth c H locs 600000 7290000 (lw_Z below #[Value.ref b0] s) (F0 m 493 ls [])) : W pg l e room_1 s m #[Value.ref b0] below meth c H locs 600000 7290000 (lw_Z below #[Value.ref b0] s) (F0 m 144 ls []) := by
  obtain ⟨hpp, -⟩ := id hI
  have hp3 := hpp.1
  have hp9 := hpp.2.1
  have hp1 := dl_P1 hpp
  refine lv_aload_n hx hb dL_law_144 rfl (lv_at hl 1 rfl) ?_
  refine dx_callI (wr := yW b (nI p) M) (ci := 0) (As := []) (rest := []) ⟨hx, hb, hml, hown, hts⟩ (mX0_nextPrime (a := a)  hI) (cw_L_X0_nextPrime hts rfl rfl ⟨Nat.le_of_ble_eq_true rfl, Nat.le_of_ble_eq_true rfl⟩) hK hP hD hS (fun _ h => h) [0, 1, 2, 3, 4] [5, 6] [0, 1, 2, 3] rfl rfl (by decide) (by decide) (by decide) rfl rfl rfl rfl rfl hl.1 rfl (Nat.le_of_ble_eq_true rfl) dL_law_145 ⟨Nat.le_of_ble_eq_true rfl, Nat.le_of_ble_eq_true rfl⟩ (fun r1 u H locs hw1 hP hD hS => ?_)
  obtain ⟨p2, nf2, B2, T2⟩ := u
  obtain ⟨hI2, hw1⟩ := hw1
  have hP : va_P D vwCl (yW b (nI p) M ++ xW a (nI p2) (nI (p2 - 1)) (nI nf2) B2 T2 K S) H := hP
  have hD : va_D (fun q : Nat => s.heap.size ≤ q) (yW b (nI p) M ++ xW a (nI p2) (nI (p2 - 1)) (nI nf2) B2 T2 K S) := hD
  refine lv_aload_n hx hb dL_law_148 rfl (lv_at hl 2 rfl) ?_
  refine dx_callI (wr := xW a (nI p2) (nI (p2 - 1)) (nI nf2) B2 T2 K S) (ci := 1) (As := []) (rest := [.int r1]) ⟨hx, hb, hml, hown, hts⟩ (mX1_nextPrime (b := b)  hpp) (cw_L_X1_nextPrime hts rfl rfl ⟨Nat.le_of_ble_eq_true rfl, Nat.le_of_ble_eq_true rfl⟩) hK hP hD hS (fun _ h => h) [0, 1] [2, 3, 4, 5, 6] [4] rfl rfl (by decide) (by decide) (by decide) rfl rfl rfl rfl rfl hl.1 rfl (Nat.le_of_ble_eq_true rfl) dL_law_149 ⟨Nat.le_of_ble_eq_true rfl, Nat.le_of_ble_eq_true rfl⟩ (fun r2 u H locs hw2 hP hD hS => ?_)
  obtain ⟨e1, e2⟩ := R_next_uniq hw1 hw2
  subst e2
  refine lv_icmp_eq (tgt := 493) hx hb dL_law_152 (by decide) (fun hc => ?_) (fun hc => absurd e1 hc)
  exact hk p2 nf2 B2 T2 K S M H locs hI2 hP hD hS
set_option maxHeartbeats 4000000 in
theorem law_power (hx : pg.tables.exec = Jvm.exec) (hb : c.code = code) (hml : c.maxLocals = 4) (hown : s.vm.findClass R_law = some m.cls) (hts : ∀ x ∈ lw_all, x.before #[Value.ref b0] s = true) (hX : va_X b0 L xs s s.heap) (hbl : b0 < s.heap.size) (hK : va_K D vwCl (xT a ++ yT b) s) {p nf i : Nat} {B T K S M : Nat → Int32} {H : Heap} {locs : List Loc} {ls : Array Slot} (hI : dl_I p nf B T) (hP : va_P D vwCl (lwW a b p nf B T K S M) H) (hD : va_D (fun q : Nat => s.heap.size ≤ q) (lwW a b p nf B T K S M)) (hS : va_S (fun q : Nat => s.heap.size ≤ q) s.heap H locs) (hL : L ≤ 320) (hi : i + 5 ≤ L) (hl : lv_has ls 4 [(0, .ref b0), (1, .ref a.1), (2, .ref b.1), (3, .int (nI i))])
    (hk : ∀ (p nf : Nat) (B T K S M : Nat → Int32) (H : Heap) (locs : List Loc), dl_I p nf B T → va_P D vwCl (lwW a b p nf B T K S M) H → va_D (fun q : Nat => s.heap.size ≤ q) (lwW a b p nf B T K S M) → va_S (fun q : Nat => s.heap.size ≤ q) s.heap H locs → W pg l e room_1 s m #[Value.ref b0] below meth c H locs 600000 7290000 (lw_Z below #[Value.ref b0] s) (F0 m 493 ls [])) : W pg l e room_1 s m #[Value.ref b0] below meth c H locs 600000 7290000 (lw_Z below #[Value.ref b0] s) (F0 m 157 ls []) := by
  obtain ⟨hpp, -⟩ := id hI
  have hp3 := hpp.1
  have hp9 := hpp.2.1
  have hp1 := dl_P1 hpp
  refine lv_aload_n hx hb dL_law_157 rfl (lv_at hl 1 rfl) ?_
  refine lv_aload_n hx hb dL_law_158 rfl (lv_at hl 0 rfl) ?_
  refine lv_iload_n hx hb dL_law_159 rfl (lv_at hl 3 rfl) ?_
  refine lv_iconst (v := nI 1) hx hb dL_law_160 (by decide) ?_
  refine dn_iadd hx hb dL_law_161 ?_
  refine dn_sld hx hb hX hbl hS hL (by omega) dL_law_162 ?_
  refine lv_aload_n hx hb dL_law_163 rfl (lv_at hl 0 rfl) ?_
  refine lv_iload_n hx hb dL_law_164 rfl (lv_at hl 3 rfl) ?_
  refine lv_iconst (v := nI 2) hx hb dL_law_165 (by decide) ?_
  refine dn_iadd hx hb dL_law_166 ?_
  refine dn_sld hx hb hX hbl hS hL (by omega) dL_law_167 ?_
  refine dx_callI (wr := yW b (nI p) M) (ci := 0) (As := [.int (xs (i + 1)), .int (xs (i + 2))]) (rest := []) ⟨hx, hb, hml, hown, hts⟩ (mX0_power (a := a) (x := xs (i + 1)) (y := xs (i + 2)) hp1 hp9) (cw_L_X0_power hts rfl rfl ⟨Nat.le_of_ble_eq_true rfl, Nat.le_of_ble_eq_true rfl⟩) hK hP hD hS (fun _ h => h) [0, 1, 2, 3, 4] [5, 6] [0, 1, 2, 3] rfl rfl (by decide) (by decide) (by decide) rfl rfl rfl rfl rfl hl.1 rfl (Nat.le_of_ble_eq_true rfl) dL_law_168 ⟨Nat.le_of_ble_eq_true rfl, Nat.le_of_ble_eq_true rfl⟩ (fun r1 u H locs hw1 hP hD hS => ?_)
  have hP : va_P D vwCl (yW b (nI p) M ++ xW a (nI p) (nI (p - 1)) (nI nf) B T K S) H := hP
  have hD : va_D (fun q : Nat => s.heap.size ≤ q) (yW b (nI p) M ++ xW a (nI p) (nI (p - 1)) (nI nf) B T K S) := hD
  refine lv_aload_n hx hb dL_law_171 rfl (lv_at hl 2 rfl) ?_
  refine lv_aload_n hx hb dL_law_172 rfl (lv_at hl 0 rfl) ?_
  refine lv_iload_n hx hb dL_law_173 rfl (lv_at hl 3 rfl) ?_
  refine lv_iconst (v := nI 1) hx hb dL_law_174 (by decide) ?_
  refine dn_iadd hx hb dL_law_175 ?_
  refine dn_sld hx hb hX hbl hS hL (by omega) dL_law_176 ?_
  refine lv_aload_n hx hb dL_law_177 rfl (lv_at hl 0 rfl) ?_
  refine lv_iload_n hx hb dL_law_178 rfl (lv_at hl 3 rfl) ?_
  refine lv_iconst (v := nI 2) hx hb dL_law_179 (by decide) ?_
  refine dn_iadd hx hb dL_law_180 ?_
  refine dn_sld hx hb hX hbl hS hL (by omega) dL_law_181 ?_
  refine dx_callI (wr := xW a (nI p) (nI (p - 1)) (nI nf) B T K S) (ci := 1) (As := [.int (xs (i + 1)), .int (xs (i + 2))]) (rest := [.int r1]) ⟨hx, hb, hml, hown, hts⟩ (mX1_power (b := b) (x := xs (i + 1)) (y := xs (i + 2)) hp1 hp9) (cw_L_X1_power hts rfl rfl ⟨Nat.le_of_ble_eq_true rfl, Nat.le_of_ble_eq_true rfl⟩) hK hP hD hS (fun _ h => h) [0, 1] [2, 3, 4, 5, 6] [4] rfl rfl (by decide) (by decide) (by decide) rfl rfl rfl rfl rfl hl.1 rfl (Nat.le_of_ble_eq_true rfl) dL_law_182 ⟨Nat.le_of_ble_eq_true rfl, Nat.le_of_ble_eq_true rfl⟩ (fun r2 u H locs hw2 hP hD hS => ?_)
  refine lv_icmp_eq (tgt := 493) hx hb dL_law_185 (by decide) (fun hc => ?_) (fun hc => absurd (R_power_uniq hp9 hw1 hw2) hc)
  exact hk p nf B T K S M H locs hI hP hD hS
set_option maxHeartbeats 4000000 in
theorem law_inverse (hx : pg.tables.exec = Jvm.exec) (hb : c.code = code) (hml : c.maxLocals = 4) (hown : s.vm.findClass R_law = some m.cls) (hts : ∀ x ∈ lw_all, x.before #[Value.ref b0] s = true) (hX : va_X b0 L xs s s.heap) (hbl : b0 < s.heap.size) (hK : va_K D vwCl (xT a ++ yT b) s) {p nf i : Nat} {B T K S M : Nat → Int32} {H : Heap} {locs : List Loc} {ls : Array Slot} (hI : dl_I p nf B T) (hP : va_P D vwCl (lwW a b p nf B T K S M) H) (hD : va_D (fun q : Nat => s.heap.size ≤ q) (lwW a b p nf B T K S M)) (hS : va_S (fun q : Nat => s.heap.size ≤ q) s.heap H locs) (hL : L ≤ 320) (hi : i + 5 ≤ L) (hl : lv_has ls 4 [(0, .ref b0), (1, .ref a.1), (2, .ref b.1), (3, .int (nI i))])
    (hk : ∀ (p nf : Nat) (B T K S M : Nat → Int32) (H : Heap) (locs : List Loc), dl_I p nf B T → va_P D vwCl (lwW a b p nf B T K S M) H → va_D (fun q : Nat => s.heap.size ≤ q) (lwW a b p nf B T K S M) → va_S (fun q : Nat => s.heap.size ≤ q) s.heap H locs → W pg l e room_1 s m #[Value.ref b0] below meth c H locs 600000 7290000 (lw_Z below #[Value.ref b0] s) (F0 m 493 ls [])) : W pg l e room_1 s m #[Value.ref b0] below meth c H locs 600000 7290000 (lw_Z below #[Value.ref b0] s) (F0 m 190 ls []) := by
  obtain ⟨hpp, -⟩ := id hI
  have hp3 := hpp.1
  have hp9 := hpp.2.1
  have hp1 := dl_P1 hpp
  refine lv_aload_n hx hb dL_law_190 rfl (lv_at hl 1 rfl) ?_
  refine lv_aload_n hx hb dL_law_191 rfl (lv_at hl 0 rfl) ?_
  refine lv_iload_n hx hb dL_law_192 rfl (lv_at hl 3 rfl) ?_
  refine lv_iconst (v := nI 1) hx hb dL_law_193 (by decide) ?_
  refine dn_iadd hx hb dL_law_194 ?_
  refine dn_sld hx hb hX hbl hS hL (by omega) dL_law_195 ?_
  refine dx_callI (wr := yW b (nI p) M) (ci := 0) (As := [.int (xs (i + 1))]) (rest := []) ⟨hx, hb, hml, hown, hts⟩ (mX0_inverse (a := a) (x := xs (i + 1)) hpp) (cw_L_X0_inverse hts rfl rfl ⟨Nat.le_of_ble_eq_true rfl, Nat.le_of_ble_eq_true rfl⟩) hK hP hD hS (fun _ h => h) [0, 1, 2, 3, 4] [5, 6] [0, 1, 2, 3] rfl rfl (by decide) (by decide) (by decide) rfl rfl rfl rfl rfl hl.1 rfl (Nat.le_of_ble_eq_true rfl) dL_law_196 ⟨Nat.le_of_ble_eq_true rfl, Nat.le_of_ble_eq_true rfl⟩ (fun r1 u H locs hw1 hP hD hS => ?_)
  have hP : va_P D vwCl (yW b (nI p) M ++ xW a (nI p) (nI (p - 1)) (nI nf) B T K S) H := hP
  have hD : va_D (fun q : Nat => s.heap.size ≤ q) (yW b (nI p) M ++ xW a (nI p) (nI (p - 1)) (nI nf) B T K S) := hD
  refine lv_aload_n hx hb dL_law_199 rfl (lv_at hl 2 rfl) ?_
  refine lv_aload_n hx hb dL_law_200 rfl (lv_at hl 0 rfl) ?_
  refine lv_iload_n hx hb dL_law_201 rfl (lv_at hl 3 rfl) ?_
  refine lv_iconst (v := nI 1) hx hb dL_law_202 (by decide) ?_
  refine dn_iadd hx hb dL_law_203 ?_
  refine dn_sld hx hb hX hbl hS hL (by omega) dL_law_204 ?_
  refine dx_callI (wr := xW a (nI p) (nI (p - 1)) (nI nf) B T K S) (ci := 1) (As := [.int (xs (i + 1))]) (rest := [.int r1]) ⟨hx, hb, hml, hown, hts⟩ (mX1_inverse (b := b) (x := xs (i + 1)) hpp) (cw_L_X1_inverse hts rfl rfl ⟨Nat.le_of_ble_eq_true rfl, Nat.le_of_ble_eq_true rfl⟩) hK hP hD hS (fun _ h => h) [0, 1] [2, 3, 4, 5, 6] [4] rfl rfl (by decide) (by decide) (by decide) rfl rfl rfl rfl rfl hl.1 rfl (Nat.le_of_ble_eq_true rfl) dL_law_205 ⟨Nat.le_of_ble_eq_true rfl, Nat.le_of_ble_eq_true rfl⟩ (fun r2 u H locs hw2 hP hD hS => ?_)
  refine lv_icmp_eq (tgt := 493) hx hb dL_law_208 (by decide) (fun hc => ?_) (fun hc => absurd (R_inverse_uniq hpp hw1 hw2) hc)
  exact hk p nf B T K S M H locs hI hP hD hS
set_option maxHeartbeats 4000000 in
theorem law_order (hx : pg.tables.exec = Jvm.exec) (hb : c.code = code) (hml : c.maxLocals = 4) (hown : s.vm.findClass R_law = some m.cls) (hts : ∀ x ∈ lw_all, x.before #[Value.ref b0] s = true) (hX : va_X b0 L xs s s.heap) (hbl : b0 < s.heap.size) (hK : va_K D vwCl (xT a ++ yT b) s) {p nf i : Nat} {B T K S M : Nat → Int32} {H : Heap} {locs : List Loc} {ls : Array Slot} (hI : dl_I p nf B T) (hP : va_P D vwCl (lwW a b p nf B T K S M) H) (hD : va_D (fun q : Nat => s.heap.size ≤ q) (lwW a b p nf B T K S M)) (hS : va_S (fun q : Nat => s.heap.size ≤ q) s.heap H locs) (hL : L ≤ 320) (hi : i + 5 ≤ L) (hl : lv_has ls 4 [(0, .ref b0), (1, .ref a.1), (2, .ref b.1), (3, .int (nI i))])
    (hk : ∀ (p nf : Nat) (B T K S M : Nat → Int32) (H : Heap) (locs : List Loc), dl_I p nf B T → va_P D vwCl (lwW a b p nf B T K S M) H → va_D (fun q : Nat => s.heap.size ≤ q) (lwW a b p nf B T K S M) → va_S (fun q : Nat => s.heap.size ≤ q) s.heap H locs → W pg l e room_1 s m #[Value.ref b0] below meth c H locs 600000 7290000 (lw_Z below #[Value.ref b0] s) (F0 m 493 ls [])) : W pg l e room_1 s m #[Value.ref b0] below meth c H locs 600000 7290000 (lw_Z below #[Value.ref b0] s) (F0 m 213 ls []) := by
  obtain ⟨hpp, -⟩ := id hI
  have hp3 := hpp.1
  have hp9 := hpp.2.1
  have hp1 := dl_P1 hpp
  refine lv_aload_n hx hb dL_law_213 rfl (lv_at hl 1 rfl) ?_
  refine lv_aload_n hx hb dL_law_214 rfl (lv_at hl 0 rfl) ?_
  refine lv_iload_n hx hb dL_law_215 rfl (lv_at hl 3 rfl) ?_
  refine lv_iconst (v := nI 1) hx hb dL_law_216 (by decide) ?_
  refine dn_iadd hx hb dL_law_217 ?_
  refine dn_sld hx hb hX hbl hS hL (by omega) dL_law_218 ?_
  refine dx_callI (wr := yW b (nI p) M) (ci := 0) (As := [.int (xs (i + 1))]) (rest := []) ⟨hx, hb, hml, hown, hts⟩ (mX0_order (a := a) (x := xs (i + 1)) hI) (cw_L_X0_order hts rfl rfl ⟨Nat.le_of_ble_eq_true rfl, Nat.le_of_ble_eq_true rfl⟩) hK hP hD hS (fun _ h => h) [0, 1, 2, 3, 4] [5, 6] [0, 1, 2, 3] rfl rfl (by decide) (by decide) (by decide) rfl rfl rfl rfl rfl hl.1 rfl (Nat.le_of_ble_eq_true rfl) dL_law_219 ⟨Nat.le_of_ble_eq_true rfl, Nat.le_of_ble_eq_true rfl⟩ (fun r1 u H locs hw1 hP hD hS => ?_)
  have hP : va_P D vwCl (yW b (nI p) M ++ xW a (nI p) (nI (p - 1)) (nI nf) B T K S) H := hP
  have hD : va_D (fun q : Nat => s.heap.size ≤ q) (yW b (nI p) M ++ xW a (nI p) (nI (p - 1)) (nI nf) B T K S) := hD
  refine lv_aload_n hx hb dL_law_222 rfl (lv_at hl 2 rfl) ?_
  refine lv_aload_n hx hb dL_law_223 rfl (lv_at hl 0 rfl) ?_
  refine lv_iload_n hx hb dL_law_224 rfl (lv_at hl 3 rfl) ?_
  refine lv_iconst (v := nI 1) hx hb dL_law_225 (by decide) ?_
  refine dn_iadd hx hb dL_law_226 ?_
  refine dn_sld hx hb hX hbl hS hL (by omega) dL_law_227 ?_
  refine dx_callI (wr := xW a (nI p) (nI (p - 1)) (nI nf) B T K S) (ci := 1) (As := [.int (xs (i + 1))]) (rest := [.int r1]) ⟨hx, hb, hml, hown, hts⟩ (mX1_order (b := b) (x := xs (i + 1)) hpp) (cw_L_X1_order hts rfl rfl ⟨Nat.le_of_ble_eq_true rfl, Nat.le_of_ble_eq_true rfl⟩) hK hP hD hS (fun _ h => h) [0, 1] [2, 3, 4, 5, 6] [4] rfl rfl (by decide) (by decide) (by decide) rfl rfl rfl rfl rfl hl.1 rfl (Nat.le_of_ble_eq_true rfl) dL_law_228 ⟨Nat.le_of_ble_eq_true rfl, Nat.le_of_ble_eq_true rfl⟩ (fun r2 u H locs hw2 hP hD hS => ?_)
  refine lv_icmp_eq (tgt := 493) hx hb dL_law_231 (by decide) (fun hc => ?_) (fun hc => absurd (R_order_uniq hp9 hw1 hw2) hc)
  exact hk p nf B T K S M H locs hI hP hD hS
set_option maxHeartbeats 4000000 in
theorem law_generator (hx : pg.tables.exec = Jvm.exec) (hb : c.code = code) (hml : c.maxLocals = 4) (hown : s.vm.findClass R_law = some m.cls) (hts : ∀ x ∈ lw_all, x.before #[Value.ref b0] s = true) (hX : va_X b0 L xs s s.heap) (hbl : b0 < s.heap.size) (hK : va_K D vwCl (xT a ++ yT b) s) {p nf i : Nat} {B T K S M : Nat → Int32} {H : Heap} {locs : List Loc} {ls : Array Slot} (hI : dl_I p nf B T) (hP : va_P D vwCl (lwW a b p nf B T K S M) H) (hD : va_D (fun q : Nat => s.heap.size ≤ q) (lwW a b p nf B T K S M)) (hS : va_S (fun q : Nat => s.heap.size ≤ q) s.heap H locs) (hL : L ≤ 320) (hi : i + 5 ≤ L) (hl : lv_has ls 4 [(0, .ref b0), (1, .ref a.1), (2, .ref b.1), (3, .int (nI i))])
    (hk : ∀ (p nf : Nat) (B T K S M : Nat → Int32) (H : Heap) (locs : List Loc), dl_I p nf B T → va_P D vwCl (lwW a b p nf B T K S M) H → va_D (fun q : Nat => s.heap.size ≤ q) (lwW a b p nf B T K S M) → va_S (fun q : Nat => s.heap.size ≤ q) s.heap H locs → W pg l e room_1 s m #[Value.ref b0] below meth c H locs 600000 7290000 (lw_Z below #[Value.ref b0] s) (F0 m 493 ls [])) : W pg l e room_1 s m #[Value.ref b0] below meth c H locs 600000 7290000 (lw_Z below #[Value.ref b0] s) (F0 m 236 ls []) := by
  obtain ⟨hpp, -⟩ := id hI
  have hp3 := hpp.1
  have hp9 := hpp.2.1
  have hp1 := dl_P1 hpp
  refine lv_aload_n hx hb dL_law_236 rfl (lv_at hl 1 rfl) ?_
  refine dx_callI (wr := yW b (nI p) M) (ci := 0) (As := []) (rest := []) ⟨hx, hb, hml, hown, hts⟩ (mX0_generator (a := a)  hI) (cw_L_X0_generator hts rfl rfl ⟨Nat.le_of_ble_eq_true rfl, Nat.le_of_ble_eq_true rfl⟩) hK hP hD hS (fun _ h => h) [0, 1, 2, 3, 4] [5, 6] [0, 1, 2, 3] rfl rfl (by decide) (by decide) (by decide) rfl rfl rfl rfl rfl hl.1 rfl (Nat.le_of_ble_eq_true rfl) dL_law_237 ⟨Nat.le_of_ble_eq_true rfl, Nat.le_of_ble_eq_true rfl⟩ (fun r1 u H locs hw1 hP hD hS => ?_)
  have hP : va_P D vwCl (yW b (nI p) M ++ xW a (nI p) (nI (p - 1)) (nI nf) B T K S) H := hP
  have hD : va_D (fun q : Nat => s.heap.size ≤ q) (yW b (nI p) M ++ xW a (nI p) (nI (p - 1)) (nI nf) B T K S) := hD
  refine lv_aload_n hx hb dL_law_240 rfl (lv_at hl 2 rfl) ?_
  refine dx_callI (wr := xW a (nI p) (nI (p - 1)) (nI nf) B T K S) (ci := 1) (As := []) (rest := [.int r1]) ⟨hx, hb, hml, hown, hts⟩ (mX1_generator (b := b)  hpp) (cw_L_X1_generator hts rfl rfl ⟨Nat.le_of_ble_eq_true rfl, Nat.le_of_ble_eq_true rfl⟩) hK hP hD hS (fun _ h => h) [0, 1] [2, 3, 4, 5, 6] [4] rfl rfl (by decide) (by decide) (by decide) rfl rfl rfl rfl rfl hl.1 rfl (Nat.le_of_ble_eq_true rfl) dL_law_241 ⟨Nat.le_of_ble_eq_true rfl, Nat.le_of_ble_eq_true rfl⟩ (fun r2 u H locs hw2 hP hD hS => ?_)
  refine lv_icmp_eq (tgt := 493) hx hb dL_law_244 (by decide) (fun hc => ?_) (fun hc => absurd (R_uoo_uniq (Or.inl hw1) hw2) hc)
  exact hk p nf B T K S M H locs hI hP hD hS
set_option maxHeartbeats 4000000 in
theorem law_generators (hx : pg.tables.exec = Jvm.exec) (hb : c.code = code) (hml : c.maxLocals = 4) (hown : s.vm.findClass R_law = some m.cls) (hts : ∀ x ∈ lw_all, x.before #[Value.ref b0] s = true) (hX : va_X b0 L xs s s.heap) (hbl : b0 < s.heap.size) (hK : va_K D vwCl (xT a ++ yT b) s) {p nf i : Nat} {B T K S M : Nat → Int32} {H : Heap} {locs : List Loc} {ls : Array Slot} (hI : dl_I p nf B T) (hP : va_P D vwCl (lwW a b p nf B T K S M) H) (hD : va_D (fun q : Nat => s.heap.size ≤ q) (lwW a b p nf B T K S M)) (hS : va_S (fun q : Nat => s.heap.size ≤ q) s.heap H locs) (hL : L ≤ 320) (hi : i + 5 ≤ L) (hl : lv_has ls 4 [(0, .ref b0), (1, .ref a.1), (2, .ref b.1), (3, .int (nI i))])
    (hk : ∀ (p nf : Nat) (B T K S M : Nat → Int32) (H : Heap) (locs : List Loc), dl_I p nf B T → va_P D vwCl (lwW a b p nf B T K S M) H → va_D (fun q : Nat => s.heap.size ≤ q) (lwW a b p nf B T K S M) → va_S (fun q : Nat => s.heap.size ≤ q) s.heap H locs → W pg l e room_1 s m #[Value.ref b0] below meth c H locs 600000 7290000 (lw_Z below #[Value.ref b0] s) (F0 m 493 ls [])) : W pg l e room_1 s m #[Value.ref b0] below meth c H locs 600000 7290000 (lw_Z below #[Value.ref b0] s) (F0 m 249 ls []) := by
  obtain ⟨hpp, -⟩ := id hI
  have hp3 := hpp.1
  have hp9 := hpp.2.1
  have hp1 := dl_P1 hpp
  refine lv_aload_n hx hb dL_law_249 rfl (lv_at hl 1 rfl) ?_
  refine dx_callI (wr := yW b (nI p) M) (ci := 0) (As := []) (rest := []) ⟨hx, hb, hml, hown, hts⟩ (mX0_generators (a := a)  hI) (cw_L_X0_generators hts rfl rfl ⟨Nat.le_of_ble_eq_true rfl, Nat.le_of_ble_eq_true rfl⟩) hK hP hD hS (fun _ h => h) [0, 1, 2, 3, 4] [5, 6] [0, 1, 2, 3] rfl rfl (by decide) (by decide) (by decide) rfl rfl rfl rfl rfl hl.1 rfl (Nat.le_of_ble_eq_true rfl) dL_law_250 ⟨Nat.le_of_ble_eq_true rfl, Nat.le_of_ble_eq_true rfl⟩ (fun r1 u H locs hw1 hP hD hS => ?_)
  have hP : va_P D vwCl (yW b (nI p) M ++ xW a (nI p) (nI (p - 1)) (nI nf) B T K S) H := hP
  have hD : va_D (fun q : Nat => s.heap.size ≤ q) (yW b (nI p) M ++ xW a (nI p) (nI (p - 1)) (nI nf) B T K S) := hD
  refine lv_aload_n hx hb dL_law_253 rfl (lv_at hl 2 rfl) ?_
  refine dx_callI (wr := xW a (nI p) (nI (p - 1)) (nI nf) B T K S) (ci := 1) (As := []) (rest := [.int r1]) ⟨hx, hb, hml, hown, hts⟩ (mX1_generators (b := b)  hpp) (cw_L_X1_generators hts rfl rfl ⟨Nat.le_of_ble_eq_true rfl, Nat.le_of_ble_eq_true rfl⟩) hK hP hD hS (fun _ h => h) [0, 1] [2, 3, 4, 5, 6] [4] rfl rfl (by decide) (by decide) (by decide) rfl rfl rfl rfl rfl hl.1 rfl (Nat.le_of_ble_eq_true rfl) dL_law_254 ⟨Nat.le_of_ble_eq_true rfl, Nat.le_of_ble_eq_true rfl⟩ (fun r2 u H locs hw2 hP hD hS => ?_)
  refine lv_icmp_eq (tgt := 493) hx hb dL_law_257 (by decide) (fun hc => ?_) (fun hc => absurd (hw1.trans hw2.symm) hc)
  exact hk p nf B T K S M H locs hI hP hD hS
set_option maxHeartbeats 4000000 in
theorem law_log (hx : pg.tables.exec = Jvm.exec) (hb : c.code = code) (hml : c.maxLocals = 4) (hown : s.vm.findClass R_law = some m.cls) (hts : ∀ x ∈ lw_all, x.before #[Value.ref b0] s = true) (hX : va_X b0 L xs s s.heap) (hbl : b0 < s.heap.size) (hK : va_K D vwCl (xT a ++ yT b) s) {p nf i : Nat} {B T K S M : Nat → Int32} {H : Heap} {locs : List Loc} {ls : Array Slot} (hI : dl_I p nf B T) (hP : va_P D vwCl (lwW a b p nf B T K S M) H) (hD : va_D (fun q : Nat => s.heap.size ≤ q) (lwW a b p nf B T K S M)) (hS : va_S (fun q : Nat => s.heap.size ≤ q) s.heap H locs) (hL : L ≤ 320) (hi : i + 5 ≤ L) (hl : lv_has ls 4 [(0, .ref b0), (1, .ref a.1), (2, .ref b.1), (3, .int (nI i))])
    (hk : ∀ (p nf : Nat) (B T K S M : Nat → Int32) (H : Heap) (locs : List Loc), dl_I p nf B T → va_P D vwCl (lwW a b p nf B T K S M) H → va_D (fun q : Nat => s.heap.size ≤ q) (lwW a b p nf B T K S M) → va_S (fun q : Nat => s.heap.size ≤ q) s.heap H locs → W pg l e room_1 s m #[Value.ref b0] below meth c H locs 600000 7290000 (lw_Z below #[Value.ref b0] s) (F0 m 493 ls [])) : W pg l e room_1 s m #[Value.ref b0] below meth c H locs 600000 7290000 (lw_Z below #[Value.ref b0] s) (F0 m 262 ls []) := by
  obtain ⟨hpp, -⟩ := id hI
  have hp3 := hpp.1
  have hp9 := hpp.2.1
  have hp1 := dl_P1 hpp
  refine lv_aload_n hx hb dL_law_262 rfl (lv_at hl 1 rfl) ?_
  refine lv_aload_n hx hb dL_law_263 rfl (lv_at hl 0 rfl) ?_
  refine lv_iload_n hx hb dL_law_264 rfl (lv_at hl 3 rfl) ?_
  refine lv_iconst (v := nI 1) hx hb dL_law_265 (by decide) ?_
  refine dn_iadd hx hb dL_law_266 ?_
  refine dn_sld hx hb hX hbl hS hL (by omega) dL_law_267 ?_
  refine lv_aload_n hx hb dL_law_268 rfl (lv_at hl 0 rfl) ?_
  refine lv_iload_n hx hb dL_law_269 rfl (lv_at hl 3 rfl) ?_
  refine lv_iconst (v := nI 2) hx hb dL_law_270 (by decide) ?_
  refine dn_iadd hx hb dL_law_271 ?_
  refine dn_sld hx hb hX hbl hS hL (by omega) dL_law_272 ?_
  refine dx_callI (wr := yW b (nI p) M) (ci := 0) (As := [.int (xs (i + 1)), .int (xs (i + 2))]) (rest := []) ⟨hx, hb, hml, hown, hts⟩ (mX0_log (a := a) (x := xs (i + 1)) (y := xs (i + 2)) hI) (cw_L_X0_log hts rfl rfl ⟨Nat.le_of_ble_eq_true rfl, Nat.le_of_ble_eq_true rfl⟩) hK hP hD hS (fun _ h => h) [0, 1, 2, 3, 4] [5, 6] [0, 1, 2, 3] rfl rfl (by decide) (by decide) (by decide) rfl rfl rfl rfl rfl hl.1 rfl (Nat.le_of_ble_eq_true rfl) dL_law_273 ⟨Nat.le_of_ble_eq_true rfl, Nat.le_of_ble_eq_true rfl⟩ (fun r1 u H locs hw1 hP hD hS => ?_)
  obtain ⟨K3, S3⟩ := u
  have hP : va_P D vwCl (yW b (nI p) M ++ xW a (nI p) (nI (p - 1)) (nI nf) B T K3 S3) H := hP
  have hD : va_D (fun q : Nat => s.heap.size ≤ q) (yW b (nI p) M ++ xW a (nI p) (nI (p - 1)) (nI nf) B T K3 S3) := hD
  refine lv_aload_n hx hb dL_law_276 rfl (lv_at hl 2 rfl) ?_
  refine lv_aload_n hx hb dL_law_277 rfl (lv_at hl 0 rfl) ?_
  refine lv_iload_n hx hb dL_law_278 rfl (lv_at hl 3 rfl) ?_
  refine lv_iconst (v := nI 1) hx hb dL_law_279 (by decide) ?_
  refine dn_iadd hx hb dL_law_280 ?_
  refine dn_sld hx hb hX hbl hS hL (by omega) dL_law_281 ?_
  refine lv_aload_n hx hb dL_law_282 rfl (lv_at hl 0 rfl) ?_
  refine lv_iload_n hx hb dL_law_283 rfl (lv_at hl 3 rfl) ?_
  refine lv_iconst (v := nI 2) hx hb dL_law_284 (by decide) ?_
  refine dn_iadd hx hb dL_law_285 ?_
  refine dn_sld hx hb hX hbl hS hL (by omega) dL_law_286 ?_
  refine dx_callI (wr := xW a (nI p) (nI (p - 1)) (nI nf) B T K3 S3) (ci := 1) (As := [.int (xs (i + 1)), .int (xs (i + 2))]) (rest := [.int r1]) ⟨hx, hb, hml, hown, hts⟩ (mX1_log (b := b) (x := xs (i + 1)) (y := xs (i + 2)) hpp) (cw_L_X1_log hts rfl rfl ⟨Nat.le_of_ble_eq_true rfl, Nat.le_of_ble_eq_true rfl⟩) hK hP hD hS (fun _ h => h) [0, 1] [2, 3, 4, 5, 6] [4] rfl rfl (by decide) (by decide) (by decide) rfl rfl rfl rfl rfl hl.1 rfl (Nat.le_of_ble_eq_true rfl) dL_law_287 ⟨Nat.le_of_ble_eq_true rfl, Nat.le_of_ble_eq_true rfl⟩ (fun r2 u H locs hw2 hP hD hS => ?_)
  refine lv_icmp_eq (tgt := 493) hx hb dL_law_290 (by decide) (fun hc => ?_) (fun hc => absurd (R_log_uniq hp9 hw1 hw2) hc)
  exact hk p nf B T K3 S3 M H locs hI hP hD hS
set_option maxHeartbeats 4000000 in
theorem law_root (hx : pg.tables.exec = Jvm.exec) (hb : c.code = code) (hml : c.maxLocals = 4) (hown : s.vm.findClass R_law = some m.cls) (hts : ∀ x ∈ lw_all, x.before #[Value.ref b0] s = true) (hX : va_X b0 L xs s s.heap) (hbl : b0 < s.heap.size) (hK : va_K D vwCl (xT a ++ yT b) s) {p nf i : Nat} {B T K S M : Nat → Int32} {H : Heap} {locs : List Loc} {ls : Array Slot} (hI : dl_I p nf B T) (hP : va_P D vwCl (lwW a b p nf B T K S M) H) (hD : va_D (fun q : Nat => s.heap.size ≤ q) (lwW a b p nf B T K S M)) (hS : va_S (fun q : Nat => s.heap.size ≤ q) s.heap H locs) (hL : L ≤ 320) (hi : i + 5 ≤ L) (hl : lv_has ls 4 [(0, .ref b0), (1, .ref a.1), (2, .ref b.1), (3, .int (nI i))])
    (hk : ∀ (p nf : Nat) (B T K S M : Nat → Int32) (H : Heap) (locs : List Loc), dl_I p nf B T → va_P D vwCl (lwW a b p nf B T K S M) H → va_D (fun q : Nat => s.heap.size ≤ q) (lwW a b p nf B T K S M) → va_S (fun q : Nat => s.heap.size ≤ q) s.heap H locs → W pg l e room_1 s m #[Value.ref b0] below meth c H locs 600000 7290000 (lw_Z below #[Value.ref b0] s) (F0 m 493 ls [])) : W pg l e room_1 s m #[Value.ref b0] below meth c H locs 600000 7290000 (lw_Z below #[Value.ref b0] s) (F0 m 295 ls []) := by
  obtain ⟨hpp, -⟩ := id hI
  have hp3 := hpp.1
  have hp9 := hpp.2.1
  have hp1 := dl_P1 hpp
  refine lv_aload_n hx hb dL_law_295 rfl (lv_at hl 1 rfl) ?_
  refine lv_aload_n hx hb dL_law_296 rfl (lv_at hl 0 rfl) ?_
  refine lv_iload_n hx hb dL_law_297 rfl (lv_at hl 3 rfl) ?_
  refine lv_iconst (v := nI 1) hx hb dL_law_298 (by decide) ?_
  refine dn_iadd hx hb dL_law_299 ?_
  refine dn_sld hx hb hX hbl hS hL (by omega) dL_law_300 ?_
  refine lv_aload_n hx hb dL_law_301 rfl (lv_at hl 0 rfl) ?_
  refine lv_iload_n hx hb dL_law_302 rfl (lv_at hl 3 rfl) ?_
  refine lv_iconst (v := nI 2) hx hb dL_law_303 (by decide) ?_
  refine dn_iadd hx hb dL_law_304 ?_
  refine dn_sld hx hb hX hbl hS hL (by omega) dL_law_305 ?_
  refine dx_callI (wr := yW b (nI p) M) (ci := 0) (As := [.int (xs (i + 1)), .int (xs (i + 2))]) (rest := []) ⟨hx, hb, hml, hown, hts⟩ (mX0_root (a := a) (x := xs (i + 1)) (y := xs (i + 2)) hI) (cw_L_X0_root hts rfl rfl ⟨Nat.le_of_ble_eq_true rfl, Nat.le_of_ble_eq_true rfl⟩) hK hP hD hS (fun _ h => h) [0, 1, 2, 3, 4] [5, 6] [0, 1, 2, 3] rfl rfl (by decide) (by decide) (by decide) rfl rfl rfl rfl rfl hl.1 rfl (Nat.le_of_ble_eq_true rfl) dL_law_306 ⟨Nat.le_of_ble_eq_true rfl, Nat.le_of_ble_eq_true rfl⟩ (fun r1 u H locs hw1 hP hD hS => ?_)
  obtain ⟨K3, S3⟩ := u
  have hP : va_P D vwCl (yW b (nI p) M ++ xW a (nI p) (nI (p - 1)) (nI nf) B T K3 S3) H := hP
  have hD : va_D (fun q : Nat => s.heap.size ≤ q) (yW b (nI p) M ++ xW a (nI p) (nI (p - 1)) (nI nf) B T K3 S3) := hD
  refine lv_aload_n hx hb dL_law_309 rfl (lv_at hl 2 rfl) ?_
  refine lv_aload_n hx hb dL_law_310 rfl (lv_at hl 0 rfl) ?_
  refine lv_iload_n hx hb dL_law_311 rfl (lv_at hl 3 rfl) ?_
  refine lv_iconst (v := nI 1) hx hb dL_law_312 (by decide) ?_
  refine dn_iadd hx hb dL_law_313 ?_
  refine dn_sld hx hb hX hbl hS hL (by omega) dL_law_314 ?_
  refine lv_aload_n hx hb dL_law_315 rfl (lv_at hl 0 rfl) ?_
  refine lv_iload_n hx hb dL_law_316 rfl (lv_at hl 3 rfl) ?_
  refine lv_iconst (v := nI 2) hx hb dL_law_317 (by decide) ?_
  refine dn_iadd hx hb dL_law_318 ?_
  refine dn_sld hx hb hX hbl hS hL (by omega) dL_law_319 ?_
  refine dx_callI (wr := xW a (nI p) (nI (p - 1)) (nI nf) B T K3 S3) (ci := 1) (As := [.int (xs (i + 1)), .int (xs (i + 2))]) (rest := [.int r1]) ⟨hx, hb, hml, hown, hts⟩ (mX1_root (b := b) (x := xs (i + 1)) (y := xs (i + 2)) hpp) (cw_L_X1_root hts rfl rfl ⟨Nat.le_of_ble_eq_true rfl, Nat.le_of_ble_eq_true rfl⟩) hK hP hD hS (fun _ h => h) [0, 1] [2, 3, 4, 5, 6] [4] rfl rfl (by decide) (by decide) (by decide) rfl rfl rfl rfl rfl hl.1 rfl (Nat.le_of_ble_eq_true rfl) dL_law_320 ⟨Nat.le_of_ble_eq_true rfl, Nat.le_of_ble_eq_true rfl⟩ (fun r2 u H locs hw2 hP hD hS => ?_)
  refine lv_icmp_eq (tgt := 493) hx hb dL_law_323 (by decide) (fun hc => ?_) (fun hc => absurd (R_root_uniq hp9 hw1 hw2) hc)
  exact hk p nf B T K3 S3 M H locs hI hP hD hS
set_option maxHeartbeats 4000000 in
theorem law_roots (hx : pg.tables.exec = Jvm.exec) (hb : c.code = code) (hml : c.maxLocals = 4) (hown : s.vm.findClass R_law = some m.cls) (hts : ∀ x ∈ lw_all, x.before #[Value.ref b0] s = true) (hX : va_X b0 L xs s s.heap) (hbl : b0 < s.heap.size) (hK : va_K D vwCl (xT a ++ yT b) s) {p nf i : Nat} {B T K S M : Nat → Int32} {H : Heap} {locs : List Loc} {ls : Array Slot} (hI : dl_I p nf B T) (hP : va_P D vwCl (lwW a b p nf B T K S M) H) (hD : va_D (fun q : Nat => s.heap.size ≤ q) (lwW a b p nf B T K S M)) (hS : va_S (fun q : Nat => s.heap.size ≤ q) s.heap H locs) (hL : L ≤ 320) (hi : i + 5 ≤ L) (hl : lv_has ls 4 [(0, .ref b0), (1, .ref a.1), (2, .ref b.1), (3, .int (nI i))])
    (hk : ∀ (p nf : Nat) (B T K S M : Nat → Int32) (H : Heap) (locs : List Loc), dl_I p nf B T → va_P D vwCl (lwW a b p nf B T K S M) H → va_D (fun q : Nat => s.heap.size ≤ q) (lwW a b p nf B T K S M) → va_S (fun q : Nat => s.heap.size ≤ q) s.heap H locs → W pg l e room_1 s m #[Value.ref b0] below meth c H locs 600000 7290000 (lw_Z below #[Value.ref b0] s) (F0 m 493 ls [])) : W pg l e room_1 s m #[Value.ref b0] below meth c H locs 600000 7290000 (lw_Z below #[Value.ref b0] s) (F0 m 328 ls []) := by
  obtain ⟨hpp, -⟩ := id hI
  have hp3 := hpp.1
  have hp9 := hpp.2.1
  have hp1 := dl_P1 hpp
  refine lv_aload_n hx hb dL_law_328 rfl (lv_at hl 1 rfl) ?_
  refine lv_aload_n hx hb dL_law_329 rfl (lv_at hl 0 rfl) ?_
  refine lv_iload_n hx hb dL_law_330 rfl (lv_at hl 3 rfl) ?_
  refine lv_iconst (v := nI 1) hx hb dL_law_331 (by decide) ?_
  refine dn_iadd hx hb dL_law_332 ?_
  refine dn_sld hx hb hX hbl hS hL (by omega) dL_law_333 ?_
  refine lv_aload_n hx hb dL_law_334 rfl (lv_at hl 0 rfl) ?_
  refine lv_iload_n hx hb dL_law_335 rfl (lv_at hl 3 rfl) ?_
  refine lv_iconst (v := nI 2) hx hb dL_law_336 (by decide) ?_
  refine dn_iadd hx hb dL_law_337 ?_
  refine dn_sld hx hb hX hbl hS hL (by omega) dL_law_338 ?_
  refine dx_callI (wr := yW b (nI p) M) (ci := 0) (As := [.int (xs (i + 1)), .int (xs (i + 2))]) (rest := []) ⟨hx, hb, hml, hown, hts⟩ (mX0_roots (a := a) (x := xs (i + 1)) (y := xs (i + 2)) hI) (cw_L_X0_roots hts rfl rfl ⟨Nat.le_of_ble_eq_true rfl, Nat.le_of_ble_eq_true rfl⟩) hK hP hD hS (fun _ h => h) [0, 1, 2, 3, 4] [5, 6] [0, 1, 2, 3] rfl rfl (by decide) (by decide) (by decide) rfl rfl rfl rfl rfl hl.1 rfl (Nat.le_of_ble_eq_true rfl) dL_law_339 ⟨Nat.le_of_ble_eq_true rfl, Nat.le_of_ble_eq_true rfl⟩ (fun r1 u H locs hw1 hP hD hS => ?_)
  have hP : va_P D vwCl (yW b (nI p) M ++ xW a (nI p) (nI (p - 1)) (nI nf) B T K S) H := hP
  have hD : va_D (fun q : Nat => s.heap.size ≤ q) (yW b (nI p) M ++ xW a (nI p) (nI (p - 1)) (nI nf) B T K S) := hD
  refine lv_aload_n hx hb dL_law_342 rfl (lv_at hl 2 rfl) ?_
  refine lv_aload_n hx hb dL_law_343 rfl (lv_at hl 0 rfl) ?_
  refine lv_iload_n hx hb dL_law_344 rfl (lv_at hl 3 rfl) ?_
  refine lv_iconst (v := nI 1) hx hb dL_law_345 (by decide) ?_
  refine dn_iadd hx hb dL_law_346 ?_
  refine dn_sld hx hb hX hbl hS hL (by omega) dL_law_347 ?_
  refine lv_aload_n hx hb dL_law_348 rfl (lv_at hl 0 rfl) ?_
  refine lv_iload_n hx hb dL_law_349 rfl (lv_at hl 3 rfl) ?_
  refine lv_iconst (v := nI 2) hx hb dL_law_350 (by decide) ?_
  refine dn_iadd hx hb dL_law_351 ?_
  refine dn_sld hx hb hX hbl hS hL (by omega) dL_law_352 ?_
  refine dx_callI (wr := xW a (nI p) (nI (p - 1)) (nI nf) B T K S) (ci := 1) (As := [.int (xs (i + 1)), .int (xs (i + 2))]) (rest := [.int r1]) ⟨hx, hb, hml, hown, hts⟩ (mX1_roots (b := b) (x := xs (i + 1)) (y := xs (i + 2)) hpp) (cw_L_X1_roots hts rfl rfl ⟨Nat.le_of_ble_eq_true rfl, Nat.le_of_ble_eq_true rfl⟩) hK hP hD hS (fun _ h => h) [0, 1] [2, 3, 4, 5, 6] [4] rfl rfl (by decide) (by decide) (by decide) rfl rfl rfl rfl rfl hl.1 rfl (Nat.le_of_ble_eq_true rfl) dL_law_353 ⟨Nat.le_of_ble_eq_true rfl, Nat.le_of_ble_eq_true rfl⟩ (fun r2 u H locs hw2 hP hD hS => ?_)
  refine lv_icmp_eq (tgt := 493) hx hb dL_law_356 (by decide) (fun hc => ?_) (fun hc => absurd (R_roots_uniq hp9 hw1 hw2) hc)
  exact hk p nf B T K S M H locs hI hP hD hS
set_option maxHeartbeats 4000000 in
theorem law_logWith (hx : pg.tables.exec = Jvm.exec) (hb : c.code = code) (hml : c.maxLocals = 4) (hown : s.vm.findClass R_law = some m.cls) (hts : ∀ x ∈ lw_all, x.before #[Value.ref b0] s = true) (hX : va_X b0 L xs s s.heap) (hbl : b0 < s.heap.size) (hK : va_K D vwCl (xT a ++ yT b) s) {p nf i : Nat} {B T K S M : Nat → Int32} {H : Heap} {locs : List Loc} {ls : Array Slot} (hI : dl_I p nf B T) (hP : va_P D vwCl (lwW a b p nf B T K S M) H) (hD : va_D (fun q : Nat => s.heap.size ≤ q) (lwW a b p nf B T K S M)) (hS : va_S (fun q : Nat => s.heap.size ≤ q) s.heap H locs) (hL : L ≤ 320) (hi : i + 5 ≤ L) (hl : lv_has ls 4 [(0, .ref b0), (1, .ref a.1), (2, .ref b.1), (3, .int (nI i))])
    (hk : ∀ (p nf : Nat) (B T K S M : Nat → Int32) (H : Heap) (locs : List Loc), dl_I p nf B T → va_P D vwCl (lwW a b p nf B T K S M) H → va_D (fun q : Nat => s.heap.size ≤ q) (lwW a b p nf B T K S M) → va_S (fun q : Nat => s.heap.size ≤ q) s.heap H locs → W pg l e room_1 s m #[Value.ref b0] below meth c H locs 600000 7290000 (lw_Z below #[Value.ref b0] s) (F0 m 493 ls [])) : W pg l e room_1 s m #[Value.ref b0] below meth c H locs 600000 7290000 (lw_Z below #[Value.ref b0] s) (F0 m 361 ls []) := by
  obtain ⟨hpp, -⟩ := id hI
  have hp3 := hpp.1
  have hp9 := hpp.2.1
  have hp1 := dl_P1 hpp
  refine lv_aload_n hx hb dL_law_361 rfl (lv_at hl 1 rfl) ?_
  refine lv_aload_n hx hb dL_law_362 rfl (lv_at hl 0 rfl) ?_
  refine lv_iload_n hx hb dL_law_363 rfl (lv_at hl 3 rfl) ?_
  refine lv_iconst (v := nI 1) hx hb dL_law_364 (by decide) ?_
  refine dn_iadd hx hb dL_law_365 ?_
  refine dn_sld hx hb hX hbl hS hL (by omega) dL_law_366 ?_
  refine lv_aload_n hx hb dL_law_367 rfl (lv_at hl 0 rfl) ?_
  refine lv_iload_n hx hb dL_law_368 rfl (lv_at hl 3 rfl) ?_
  refine lv_iconst (v := nI 2) hx hb dL_law_369 (by decide) ?_
  refine dn_iadd hx hb dL_law_370 ?_
  refine dn_sld hx hb hX hbl hS hL (by omega) dL_law_371 ?_
  refine lv_aload_n hx hb dL_law_372 rfl (lv_at hl 0 rfl) ?_
  refine lv_iload_n hx hb dL_law_373 rfl (lv_at hl 3 rfl) ?_
  refine lv_iconst (v := nI 3) hx hb dL_law_374 (by decide) ?_
  refine dn_iadd hx hb dL_law_375 ?_
  refine dn_sld hx hb hX hbl hS hL (by omega) dL_law_376 ?_
  refine lv_aload_n hx hb dL_law_377 rfl (lv_at hl 0 rfl) ?_
  refine lv_iload_n hx hb dL_law_378 rfl (lv_at hl 3 rfl) ?_
  refine lv_iconst (v := nI 4) hx hb dL_law_379 (by decide) ?_
  refine dn_iadd hx hb dL_law_380 ?_
  refine dn_sld hx hb hX hbl hS hL (by omega) dL_law_381 ?_
  refine dx_callI (wr := yW b (nI p) M) (ci := 0) (As := [.int (xs (i + 1)), .int (xs (i + 2)), .int (xs (i + 3)), .int (xs (i + 4))]) (rest := []) ⟨hx, hb, hml, hown, hts⟩ (mX0_logWith (a := a) (x := xs (i + 1)) (y := xs (i + 2)) (z := xs (i + 3)) (m := xs (i + 4)) hI) (cw_L_X0_logWith hts rfl rfl ⟨Nat.le_of_ble_eq_true rfl, Nat.le_of_ble_eq_true rfl⟩) hK hP hD hS (fun _ h => h) [0, 1, 2, 3, 4] [5, 6] [0, 1, 2, 3] rfl rfl (by decide) (by decide) (by decide) rfl rfl rfl rfl rfl hl.1 rfl (Nat.le_of_ble_eq_true rfl) dL_law_382 ⟨Nat.le_of_ble_eq_true rfl, Nat.le_of_ble_eq_true rfl⟩ (fun r1 u H locs hw1 hP hD hS => ?_)
  obtain ⟨K3, S3⟩ := u
  have hP : va_P D vwCl (yW b (nI p) M ++ xW a (nI p) (nI (p - 1)) (nI nf) B T K3 S3) H := hP
  have hD : va_D (fun q : Nat => s.heap.size ≤ q) (yW b (nI p) M ++ xW a (nI p) (nI (p - 1)) (nI nf) B T K3 S3) := hD
  refine lv_aload_n hx hb dL_law_385 rfl (lv_at hl 2 rfl) ?_
  refine lv_aload_n hx hb dL_law_386 rfl (lv_at hl 0 rfl) ?_
  refine lv_iload_n hx hb dL_law_387 rfl (lv_at hl 3 rfl) ?_
  refine lv_iconst (v := nI 1) hx hb dL_law_388 (by decide) ?_
  refine dn_iadd hx hb dL_law_389 ?_
  refine dn_sld hx hb hX hbl hS hL (by omega) dL_law_390 ?_
  refine lv_aload_n hx hb dL_law_391 rfl (lv_at hl 0 rfl) ?_
  refine lv_iload_n hx hb dL_law_392 rfl (lv_at hl 3 rfl) ?_
  refine lv_iconst (v := nI 2) hx hb dL_law_393 (by decide) ?_
  refine dn_iadd hx hb dL_law_394 ?_
  refine dn_sld hx hb hX hbl hS hL (by omega) dL_law_395 ?_
  refine lv_aload_n hx hb dL_law_396 rfl (lv_at hl 0 rfl) ?_
  refine lv_iload_n hx hb dL_law_397 rfl (lv_at hl 3 rfl) ?_
  refine lv_iconst (v := nI 3) hx hb dL_law_398 (by decide) ?_
  refine dn_iadd hx hb dL_law_399 ?_
  refine dn_sld hx hb hX hbl hS hL (by omega) dL_law_400 ?_
  refine lv_aload_n hx hb dL_law_401 rfl (lv_at hl 0 rfl) ?_
  refine lv_iload_n hx hb dL_law_402 rfl (lv_at hl 3 rfl) ?_
  refine lv_iconst (v := nI 4) hx hb dL_law_403 (by decide) ?_
  refine dn_iadd hx hb dL_law_404 ?_
  refine dn_sld hx hb hX hbl hS hL (by omega) dL_law_405 ?_
  refine dx_callI (wr := xW a (nI p) (nI (p - 1)) (nI nf) B T K3 S3) (ci := 1) (As := [.int (xs (i + 1)), .int (xs (i + 2)), .int (xs (i + 3)), .int (xs (i + 4))]) (rest := [.int r1]) ⟨hx, hb, hml, hown, hts⟩ (mX1_logWith (b := b) (x := xs (i + 1)) (y := xs (i + 2)) (z := xs (i + 3)) (m := xs (i + 4)) hpp) (cw_L_X1_logWith hts rfl rfl ⟨Nat.le_of_ble_eq_true rfl, Nat.le_of_ble_eq_true rfl⟩) hK hP hD hS (fun _ h => h) [0, 1] [2, 3, 4, 5, 6] [4] rfl rfl (by decide) (by decide) (by decide) rfl rfl rfl rfl rfl hl.1 rfl (Nat.le_of_ble_eq_true rfl) dL_law_406 ⟨Nat.le_of_ble_eq_true rfl, Nat.le_of_ble_eq_true rfl⟩ (fun r2 u H locs hw2 hP hD hS => ?_)
  refine lv_icmp_eq (tgt := 493) hx hb dL_law_409 (by decide) (fun hc => ?_) (fun hc => absurd (R_logWith_uniq hp9 hw1 hw2) hc)
  exact hk p nf B T K3 S3 M H locs hI hP hD hS
set_option maxHeartbeats 4000000 in
theorem law_common (hx : pg.tables.exec = Jvm.exec) (hb : c.code = code) (hml : c.maxLocals = 4) (hown : s.vm.findClass R_law = some m.cls) (hts : ∀ x ∈ lw_all, x.before #[Value.ref b0] s = true) (hX : va_X b0 L xs s s.heap) (hbl : b0 < s.heap.size) (hK : va_K D vwCl (xT a ++ yT b) s) {p nf i : Nat} {B T K S M : Nat → Int32} {H : Heap} {locs : List Loc} {ls : Array Slot} (hI : dl_I p nf B T) (hP : va_P D vwCl (lwW a b p nf B T K S M) H) (hD : va_D (fun q : Nat => s.heap.size ≤ q) (lwW a b p nf B T K S M)) (hS : va_S (fun q : Nat => s.heap.size ≤ q) s.heap H locs) (hL : L ≤ 320) (hi : i + 5 ≤ L) (hl : lv_has ls 4 [(0, .ref b0), (1, .ref a.1), (2, .ref b.1), (3, .int (nI i))])
    (hk : ∀ (p nf : Nat) (B T K S M : Nat → Int32) (H : Heap) (locs : List Loc), dl_I p nf B T → va_P D vwCl (lwW a b p nf B T K S M) H → va_D (fun q : Nat => s.heap.size ≤ q) (lwW a b p nf B T K S M) → va_S (fun q : Nat => s.heap.size ≤ q) s.heap H locs → W pg l e room_1 s m #[Value.ref b0] below meth c H locs 600000 7290000 (lw_Z below #[Value.ref b0] s) (F0 m 493 ls [])) : W pg l e room_1 s m #[Value.ref b0] below meth c H locs 600000 7290000 (lw_Z below #[Value.ref b0] s) (F0 m 414 ls []) := by
  obtain ⟨hpp, -⟩ := id hI
  have hp3 := hpp.1
  have hp9 := hpp.2.1
  have hp1 := dl_P1 hpp
  refine lv_aload_n hx hb dL_law_414 rfl (lv_at hl 1 rfl) ?_
  refine lv_aload_n hx hb dL_law_415 rfl (lv_at hl 0 rfl) ?_
  refine lv_iload_n hx hb dL_law_416 rfl (lv_at hl 3 rfl) ?_
  refine lv_iconst (v := nI 1) hx hb dL_law_417 (by decide) ?_
  refine dn_iadd hx hb dL_law_418 ?_
  refine dn_sld hx hb hX hbl hS hL (by omega) dL_law_419 ?_
  refine lv_aload_n hx hb dL_law_420 rfl (lv_at hl 0 rfl) ?_
  refine lv_iload_n hx hb dL_law_421 rfl (lv_at hl 3 rfl) ?_
  refine lv_iconst (v := nI 2) hx hb dL_law_422 (by decide) ?_
  refine dn_iadd hx hb dL_law_423 ?_
  refine dn_sld hx hb hX hbl hS hL (by omega) dL_law_424 ?_
  refine dx_callI (wr := yW b (nI p) M) (ci := 0) (As := [.int (xs (i + 1)), .int (xs (i + 2))]) (rest := []) ⟨hx, hb, hml, hown, hts⟩ (mX0_common (a := a) (x := xs (i + 1)) (y := xs (i + 2)) hI) (cw_L_X0_common hts rfl rfl ⟨Nat.le_of_ble_eq_true rfl, Nat.le_of_ble_eq_true rfl⟩) hK hP hD hS (fun _ h => h) [0, 1, 2, 3, 4] [5, 6] [0, 1, 2, 3] rfl rfl (by decide) (by decide) (by decide) rfl rfl rfl rfl rfl hl.1 rfl (Nat.le_of_ble_eq_true rfl) dL_law_425 ⟨Nat.le_of_ble_eq_true rfl, Nat.le_of_ble_eq_true rfl⟩ (fun r1 u H locs hw1 hP hD hS => ?_)
  have hP : va_P D vwCl (yW b (nI p) M ++ xW a (nI p) (nI (p - 1)) (nI nf) B T K S) H := hP
  have hD : va_D (fun q : Nat => s.heap.size ≤ q) (yW b (nI p) M ++ xW a (nI p) (nI (p - 1)) (nI nf) B T K S) := hD
  refine lv_aload_n hx hb dL_law_428 rfl (lv_at hl 2 rfl) ?_
  refine lv_aload_n hx hb dL_law_429 rfl (lv_at hl 0 rfl) ?_
  refine lv_iload_n hx hb dL_law_430 rfl (lv_at hl 3 rfl) ?_
  refine lv_iconst (v := nI 1) hx hb dL_law_431 (by decide) ?_
  refine dn_iadd hx hb dL_law_432 ?_
  refine dn_sld hx hb hX hbl hS hL (by omega) dL_law_433 ?_
  refine lv_aload_n hx hb dL_law_434 rfl (lv_at hl 0 rfl) ?_
  refine lv_iload_n hx hb dL_law_435 rfl (lv_at hl 3 rfl) ?_
  refine lv_iconst (v := nI 2) hx hb dL_law_436 (by decide) ?_
  refine dn_iadd hx hb dL_law_437 ?_
  refine dn_sld hx hb hX hbl hS hL (by omega) dL_law_438 ?_
  refine dx_callI (wr := xW a (nI p) (nI (p - 1)) (nI nf) B T K S) (ci := 1) (As := [.int (xs (i + 1)), .int (xs (i + 2))]) (rest := [.int r1]) ⟨hx, hb, hml, hown, hts⟩ (mX1_common (b := b) (x := xs (i + 1)) (y := xs (i + 2)) hpp) (cw_L_X1_common hts rfl rfl ⟨Nat.le_of_ble_eq_true rfl, Nat.le_of_ble_eq_true rfl⟩) hK hP hD hS (fun _ h => h) [0, 1] [2, 3, 4, 5, 6] [4] rfl rfl (by decide) (by decide) (by decide) rfl rfl rfl rfl rfl hl.1 rfl (Nat.le_of_ble_eq_true rfl) dL_law_439 ⟨Nat.le_of_ble_eq_true rfl, Nat.le_of_ble_eq_true rfl⟩ (fun r2 u H locs hw2 hP hD hS => ?_)
  refine lv_icmp_eq (tgt := 493) hx hb dL_law_442 (by decide) (fun hc => ?_) (fun hc => absurd (R_common_uniq hp9 hw1 hw2) hc)
  exact hk p nf B T K S u H locs hI hP hD hS
set_option maxHeartbeats 4000000 in
theorem law_unitOfOrder (hx : pg.tables.exec = Jvm.exec) (hb : c.code = code) (hml : c.maxLocals = 4) (hown : s.vm.findClass R_law = some m.cls) (hts : ∀ x ∈ lw_all, x.before #[Value.ref b0] s = true) (hX : va_X b0 L xs s s.heap) (hbl : b0 < s.heap.size) (hK : va_K D vwCl (xT a ++ yT b) s) {p nf i : Nat} {B T K S M : Nat → Int32} {H : Heap} {locs : List Loc} {ls : Array Slot} (hI : dl_I p nf B T) (hP : va_P D vwCl (lwW a b p nf B T K S M) H) (hD : va_D (fun q : Nat => s.heap.size ≤ q) (lwW a b p nf B T K S M)) (hS : va_S (fun q : Nat => s.heap.size ≤ q) s.heap H locs) (hL : L ≤ 320) (hi : i + 5 ≤ L) (hl : lv_has ls 4 [(0, .ref b0), (1, .ref a.1), (2, .ref b.1), (3, .int (nI i))])
    (hk : ∀ (p nf : Nat) (B T K S M : Nat → Int32) (H : Heap) (locs : List Loc), dl_I p nf B T → va_P D vwCl (lwW a b p nf B T K S M) H → va_D (fun q : Nat => s.heap.size ≤ q) (lwW a b p nf B T K S M) → va_S (fun q : Nat => s.heap.size ≤ q) s.heap H locs → W pg l e room_1 s m #[Value.ref b0] below meth c H locs 600000 7290000 (lw_Z below #[Value.ref b0] s) (F0 m 493 ls [])) : W pg l e room_1 s m #[Value.ref b0] below meth c H locs 600000 7290000 (lw_Z below #[Value.ref b0] s) (F0 m 447 ls []) := by
  obtain ⟨hpp, -⟩ := id hI
  have hp3 := hpp.1
  have hp9 := hpp.2.1
  have hp1 := dl_P1 hpp
  refine lv_aload_n hx hb dL_law_447 rfl (lv_at hl 1 rfl) ?_
  refine lv_aload_n hx hb dL_law_448 rfl (lv_at hl 0 rfl) ?_
  refine lv_iload_n hx hb dL_law_449 rfl (lv_at hl 3 rfl) ?_
  refine lv_iconst (v := nI 1) hx hb dL_law_450 (by decide) ?_
  refine dn_iadd hx hb dL_law_451 ?_
  refine dn_sld hx hb hX hbl hS hL (by omega) dL_law_452 ?_
  refine dx_callI (wr := yW b (nI p) M) (ci := 0) (As := [.int (xs (i + 1))]) (rest := []) ⟨hx, hb, hml, hown, hts⟩ (mX0_unitOfOrder (a := a) (x := xs (i + 1)) hI) (cw_L_X0_unitOfOrder hts rfl rfl ⟨Nat.le_of_ble_eq_true rfl, Nat.le_of_ble_eq_true rfl⟩) hK hP hD hS (fun _ h => h) [0, 1, 2, 3, 4] [5, 6] [0, 1, 2, 3] rfl rfl (by decide) (by decide) (by decide) rfl rfl rfl rfl rfl hl.1 rfl (Nat.le_of_ble_eq_true rfl) dL_law_453 ⟨Nat.le_of_ble_eq_true rfl, Nat.le_of_ble_eq_true rfl⟩ (fun r1 u H locs hw1 hP hD hS => ?_)
  have hP : va_P D vwCl (yW b (nI p) M ++ xW a (nI p) (nI (p - 1)) (nI nf) B T K S) H := hP
  have hD : va_D (fun q : Nat => s.heap.size ≤ q) (yW b (nI p) M ++ xW a (nI p) (nI (p - 1)) (nI nf) B T K S) := hD
  refine lv_aload_n hx hb dL_law_456 rfl (lv_at hl 2 rfl) ?_
  refine lv_aload_n hx hb dL_law_457 rfl (lv_at hl 0 rfl) ?_
  refine lv_iload_n hx hb dL_law_458 rfl (lv_at hl 3 rfl) ?_
  refine lv_iconst (v := nI 1) hx hb dL_law_459 (by decide) ?_
  refine dn_iadd hx hb dL_law_460 ?_
  refine dn_sld hx hb hX hbl hS hL (by omega) dL_law_461 ?_
  refine dx_callI (wr := xW a (nI p) (nI (p - 1)) (nI nf) B T K S) (ci := 1) (As := [.int (xs (i + 1))]) (rest := [.int r1]) ⟨hx, hb, hml, hown, hts⟩ (mX1_unitOfOrder (b := b) (x := xs (i + 1)) hpp) (cw_L_X1_unitOfOrder hts rfl rfl ⟨Nat.le_of_ble_eq_true rfl, Nat.le_of_ble_eq_true rfl⟩) hK hP hD hS (fun _ h => h) [0, 1] [2, 3, 4, 5, 6] [4] rfl rfl (by decide) (by decide) (by decide) rfl rfl rfl rfl rfl hl.1 rfl (Nat.le_of_ble_eq_true rfl) dL_law_462 ⟨Nat.le_of_ble_eq_true rfl, Nat.le_of_ble_eq_true rfl⟩ (fun r2 u H locs hw2 hP hD hS => ?_)
  refine lv_icmp_eq (tgt := 493) hx hb dL_law_465 (by decide) (fun hc => ?_) (fun hc => absurd (R_unitOfOrder_uniq hw1 hw2) hc)
  exact hk p nf B T K S M H locs hI hP hD hS
set_option maxHeartbeats 4000000 in
theorem law_unitsOfOrder (hx : pg.tables.exec = Jvm.exec) (hb : c.code = code) (hml : c.maxLocals = 4) (hown : s.vm.findClass R_law = some m.cls) (hts : ∀ x ∈ lw_all, x.before #[Value.ref b0] s = true) (hX : va_X b0 L xs s s.heap) (hbl : b0 < s.heap.size) (hK : va_K D vwCl (xT a ++ yT b) s) {p nf i : Nat} {B T K S M : Nat → Int32} {H : Heap} {locs : List Loc} {ls : Array Slot} (hI : dl_I p nf B T) (hP : va_P D vwCl (lwW a b p nf B T K S M) H) (hD : va_D (fun q : Nat => s.heap.size ≤ q) (lwW a b p nf B T K S M)) (hS : va_S (fun q : Nat => s.heap.size ≤ q) s.heap H locs) (hL : L ≤ 320) (hi : i + 5 ≤ L) (hl : lv_has ls 4 [(0, .ref b0), (1, .ref a.1), (2, .ref b.1), (3, .int (nI i))])
    (hk : ∀ (p nf : Nat) (B T K S M : Nat → Int32) (H : Heap) (locs : List Loc), dl_I p nf B T → va_P D vwCl (lwW a b p nf B T K S M) H → va_D (fun q : Nat => s.heap.size ≤ q) (lwW a b p nf B T K S M) → va_S (fun q : Nat => s.heap.size ≤ q) s.heap H locs → W pg l e room_1 s m #[Value.ref b0] below meth c H locs 600000 7290000 (lw_Z below #[Value.ref b0] s) (F0 m 493 ls [])) : W pg l e room_1 s m #[Value.ref b0] below meth c H locs 600000 7290000 (lw_Z below #[Value.ref b0] s) (F0 m 470 ls []) := by
  obtain ⟨hpp, -⟩ := id hI
  have hp3 := hpp.1
  have hp9 := hpp.2.1
  have hp1 := dl_P1 hpp
  refine lv_aload_n hx hb dL_law_470 rfl (lv_at hl 1 rfl) ?_
  refine lv_aload_n hx hb dL_law_471 rfl (lv_at hl 0 rfl) ?_
  refine lv_iload_n hx hb dL_law_472 rfl (lv_at hl 3 rfl) ?_
  refine lv_iconst (v := nI 1) hx hb dL_law_473 (by decide) ?_
  refine dn_iadd hx hb dL_law_474 ?_
  refine dn_sld hx hb hX hbl hS hL (by omega) dL_law_475 ?_
  refine dx_callI (wr := yW b (nI p) M) (ci := 0) (As := [.int (xs (i + 1))]) (rest := []) ⟨hx, hb, hml, hown, hts⟩ (mX0_unitsOfOrder (a := a) (x := xs (i + 1)) hI) (cw_L_X0_unitsOfOrder hts rfl rfl ⟨Nat.le_of_ble_eq_true rfl, Nat.le_of_ble_eq_true rfl⟩) hK hP hD hS (fun _ h => h) [0, 1, 2, 3, 4] [5, 6] [0, 1, 2, 3] rfl rfl (by decide) (by decide) (by decide) rfl rfl rfl rfl rfl hl.1 rfl (Nat.le_of_ble_eq_true rfl) dL_law_476 ⟨Nat.le_of_ble_eq_true rfl, Nat.le_of_ble_eq_true rfl⟩ (fun r1 u H locs hw1 hP hD hS => ?_)
  have hP : va_P D vwCl (yW b (nI p) M ++ xW a (nI p) (nI (p - 1)) (nI nf) B T K S) H := hP
  have hD : va_D (fun q : Nat => s.heap.size ≤ q) (yW b (nI p) M ++ xW a (nI p) (nI (p - 1)) (nI nf) B T K S) := hD
  refine lv_aload_n hx hb dL_law_479 rfl (lv_at hl 2 rfl) ?_
  refine lv_aload_n hx hb dL_law_480 rfl (lv_at hl 0 rfl) ?_
  refine lv_iload_n hx hb dL_law_481 rfl (lv_at hl 3 rfl) ?_
  refine lv_iconst (v := nI 1) hx hb dL_law_482 (by decide) ?_
  refine dn_iadd hx hb dL_law_483 ?_
  refine dn_sld hx hb hX hbl hS hL (by omega) dL_law_484 ?_
  refine dx_callI (wr := xW a (nI p) (nI (p - 1)) (nI nf) B T K S) (ci := 1) (As := [.int (xs (i + 1))]) (rest := [.int r1]) ⟨hx, hb, hml, hown, hts⟩ (mX1_unitsOfOrder (b := b) (x := xs (i + 1)) hpp) (cw_L_X1_unitsOfOrder hts rfl rfl ⟨Nat.le_of_ble_eq_true rfl, Nat.le_of_ble_eq_true rfl⟩) hK hP hD hS (fun _ h => h) [0, 1] [2, 3, 4, 5, 6] [4] rfl rfl (by decide) (by decide) (by decide) rfl rfl rfl rfl rfl hl.1 rfl (Nat.le_of_ble_eq_true rfl) dL_law_485 ⟨Nat.le_of_ble_eq_true rfl, Nat.le_of_ble_eq_true rfl⟩ (fun r2 u H locs hw2 hP hD hS => ?_)
  refine lv_icmp_eq (tgt := 493) hx hb dL_law_488 (by decide) (fun hc => ?_) (fun hc => absurd (R_unitsOfOrder_uniq hw1 hw2) hc)
  exact hk p nf B T K S M H locs hI hP hD hS
set_option maxHeartbeats 4000000 in
theorem law_loop (hx : pg.tables.exec = Jvm.exec) (hb : c.code = code) (hr : meth.sig.returnType = ret) (hlocks : meth.locks = false) (hml : c.maxLocals = 4) (hown : s.vm.findClass R_law = some m.cls) (hts : ∀ x ∈ lw_all, x.before #[Value.ref b0] s = true) (hX : va_X b0 L xs s s.heap) (hbl : b0 < s.heap.size) (hK : va_K D vwCl (xT a ++ yT b) s) (hL : L ≤ 320) : ∀ (n i p nf : Nat) (B T K S M : Nat → Int32), i ≤ L → L - i < n → dl_I p nf B T → ∀ (H : Heap) (locs : List Loc), va_P D vwCl (lwW a b p nf B T K S M) H → va_D (fun q : Nat => s.heap.size ≤ q) (lwW a b p nf B T K S M) → va_S (fun q : Nat => s.heap.size ≤ q) s.heap H locs → ∀ ls : Array Slot, lv_has ls 4 [(0, .ref b0), (1, .ref a.1), (2, .ref b.1), (3, .int (nI i))] → W pg l e room_1 s m #[Value.ref b0] below meth c H locs 600000 7290000 (lw_Z below #[Value.ref b0] s) (F0 m 18 ls []) := by
  intro n
  induction n with
  | zero => intros; omega
  | succ n ih =>
    intro i p nf B T K S M hiL hn hI H locs hP hD hS ls hl
    refine lv_iload_n hx hb dL_law_18 rfl (lv_at hl 3 rfl) ?_
    refine lv_aload_n hx hb dL_law_19 rfl (lv_at hl 0 rfl) ?_
    refine va_slen hx hb hX hbl (A := (fun q : Nat => s.heap.size ≤ q)) (Nat.not_le.mpr hbl) hS dL_law_20 ?_
    refine dn_top (show Int32.ofNat L = nI L from rfl) ?_
    refine lv_iconst (v := nI 5) hx hb dL_law_21 (by decide) ?_
    refine lv_isub hx hb dL_law_22 ?_
    refine lv_icmp_gt (tgt := 499) hx hb dL_law_23 (by decide) (fun hc => ?_) (fun hc => ?_)
    · refine lv_iconst (v := 1) hx hb dL_law_499 (by decide) ?_
      refine va_forget (fun q hq => hS.2.2 q hq) ?_
      exact lw_ret hx hb hr hlocks dL_law_500
    · have hi5 : i + 5 ≤ L := Nat.le_of_not_lt (fun z => hc ((dl_lawc hL hiL).mpr z))
      have hk : ∀ (p nf : Nat) (B T K S M : Nat → Int32) (H : Heap) (locs : List Loc), dl_I p nf B T → va_P D vwCl (lwW a b p nf B T K S M) H → va_D (fun q : Nat => s.heap.size ≤ q) (lwW a b p nf B T K S M) → va_S (fun q : Nat => s.heap.size ≤ q) s.heap H locs → W pg l e room_1 s m #[Value.ref b0] below meth c H locs 600000 7290000 (lw_Z below #[Value.ref b0] s) (F0 m 493 ls []) := by
        intro p nf B T K S M H locs hI hP hD hS
        refine lv_iinc (v := nI (i + 5)) (lv' := [(3, .int (nI (i + 5))), (0, .ref b0), (1, .ref a.1), (2, .ref b.1)]) hx hb dL_law_493 hl (k := 3) rfl (nI_add i 5) (by decide) rfl (fun ls hl => ?_)
        refine lv_goto (tgt := 18) hx hb dL_law_496 (by decide) ?_
        exact ih (i + 5) p nf B T K S M hi5 (by omega) hI H locs hP hD hS ls (lv_sub hl [1, 2, 3, 0] rfl)
      refine lv_aload_n hx hb dL_law_26 rfl (lv_at hl 0 rfl) ?_
      refine lv_iload_n hx hb dL_law_27 rfl (lv_at hl 3 rfl) ?_
      refine dn_sld hx hb hX hbl hS hL (by omega) dL_law_28 ?_
      refine lv_bipush (v := nI 15) hx hb dL_law_29 (by decide) ?_
      refine lv_iand hx hb dL_law_31 ?_
      obtain ⟨j, hj, ej⟩ := pk_andE (xs i) (m := nI 15) 4 (by decide)
      refine dn_top ej ?_
      have hj : j < 16 := hj
      rcases (show j = 0 ∨ j = 1 ∨ j = 2 ∨ j = 3 ∨ j = 4 ∨ j = 5 ∨ j = 6 ∨ j = 7 ∨ j = 8 ∨ j = 9 ∨ j = 10 ∨ j = 11 ∨ j = 12 ∨ j = 13 ∨ j = 14 ∨ j = 15 by omega) with rfl | rfl | rfl | rfl | rfl | rfl | rfl | rfl | rfl | rfl | rfl | rfl | rfl | rfl | rfl | rfl
      · refine lv_tableIn (off := 76) (tgt := 108) hx hb dL_law_32 (by decide) (by decide) (by decide) (by decide) ?_
        exact law_prime hx hb hml hown hts hX hbl hK hI hP hD hS hL hi5 hl hk
      · refine lv_tableIn (off := 99) (tgt := 131) hx hb dL_law_32 (by decide) (by decide) (by decide) (by decide) ?_
        exact law_modulus hx hb hml hown hts hX hbl hK hI hP hD hS hL hi5 hl hk
      · refine lv_tableIn (off := 112) (tgt := 144) hx hb dL_law_32 (by decide) (by decide) (by decide) (by decide) ?_
        exact law_nextPrime hx hb hml hown hts hX hbl hK hI hP hD hS hL hi5 hl hk
      · refine lv_tableIn (off := 125) (tgt := 157) hx hb dL_law_32 (by decide) (by decide) (by decide) (by decide) ?_
        exact law_power hx hb hml hown hts hX hbl hK hI hP hD hS hL hi5 hl hk
      · refine lv_tableIn (off := 158) (tgt := 190) hx hb dL_law_32 (by decide) (by decide) (by decide) (by decide) ?_
        exact law_inverse hx hb hml hown hts hX hbl hK hI hP hD hS hL hi5 hl hk
      · refine lv_tableIn (off := 181) (tgt := 213) hx hb dL_law_32 (by decide) (by decide) (by decide) (by decide) ?_
        exact law_order hx hb hml hown hts hX hbl hK hI hP hD hS hL hi5 hl hk
      · refine lv_tableIn (off := 204) (tgt := 236) hx hb dL_law_32 (by decide) (by decide) (by decide) (by decide) ?_
        exact law_generator hx hb hml hown hts hX hbl hK hI hP hD hS hL hi5 hl hk
      · refine lv_tableIn (off := 217) (tgt := 249) hx hb dL_law_32 (by decide) (by decide) (by decide) (by decide) ?_
        exact law_generators hx hb hml hown hts hX hbl hK hI hP hD hS hL hi5 hl hk
      · refine lv_tableIn (off := 230) (tgt := 262) hx hb dL_law_32 (by decide) (by decide) (by decide) (by decide) ?_
        exact law_log hx hb hml hown hts hX hbl hK hI hP hD hS hL hi5 hl hk
      · refine lv_tableIn (off := 263) (tgt := 295) hx hb dL_law_32 (by decide) (by decide) (by decide) (by decide) ?_
        exact law_root hx hb hml hown hts hX hbl hK hI hP hD hS hL hi5 hl hk
      · refine lv_tableIn (off := 296) (tgt := 328) hx hb dL_law_32 (by decide) (by decide) (by decide) (by decide) ?_
        exact law_roots hx hb hml hown hts hX hbl hK hI hP hD hS hL hi5 hl hk
      · refine lv_tableIn (off := 329) (tgt := 361) hx hb dL_law_32 (by decide) (by decide) (by decide) (by decide) ?_
        exact law_logWith hx hb hml hown hts hX hbl hK hI hP hD hS hL hi5 hl hk
      · refine lv_tableIn (off := 382) (tgt := 414) hx hb dL_law_32 (by decide) (by decide) (by decide) (by decide) ?_
        exact law_common hx hb hml hown hts hX hbl hK hI hP hD hS hL hi5 hl hk
      · refine lv_tableIn (off := 415) (tgt := 447) hx hb dL_law_32 (by decide) (by decide) (by decide) (by decide) ?_
        exact law_unitOfOrder hx hb hml hown hts hX hbl hK hI hP hD hS hL hi5 hl hk
      · refine lv_tableIn (off := 438) (tgt := 470) hx hb dL_law_32 (by decide) (by decide) (by decide) (by decide) ?_
        exact law_unitsOfOrder hx hb hml hown hts hX hbl hK hI hP hD hS hL hi5 hl hk
      · refine lv_tableOut (tgt := 493) hx hb dL_law_32 (by decide) (by decide) ?_
        exact hk p nf B T K S M H locs hI hP hD hS
end LW
set_option maxHeartbeats 4000000 in
/-- from the entry, for every script of at most 320 ints, the law comes to its end with true -/
theorem whole_start {p : Program} {e : Env} {s : State} {m : MethodId} {below : List Frame} {meth : Method} {c : Code} (l : Launch) {b L : Nat} {xs : Nat → Int32} (hL : L ≤ 320) (C0 : lw_At p s m meth c b L xs) : W p l e room_1 s m #[Value.ref b] below meth c s.heap [] 0 0 (lw_Z below #[Value.ref b] s) (entryFrame m ([Value.ref b] : List Value).toArray 4) := by
  obtain ⟨hx, hb, hr, hml, hown, hts0, hX, hbl, hlocks, hgv⟩ := id C0
  have hts : ∀ w ∈ lw_all, w.before #[Value.ref b] s = true := fun w h => hts0 w (lw_all_tbl h)
  have hA : ∀ q : Nat, s.heap.size ≤ q → (fun q : Nat => s.heap.size ≤ q) q := fun _ h => h
  obtain ⟨c0, iS0, hKn0⟩ := u_known (C := RX0) (T := TX0) (N := 7) (n := 7) hts0 (fun w h => lw_all_tbl (in_X0 w h)) (hts _ q29)
  obtain ⟨c1, iS1, hKn1⟩ := u_known (C := RX1) (T := TX1) (N := 2) (n := 2) hts0 (fun w h => lw_all_tbl (in_X1 w h)) (hts _ q202)
  obtain ⟨D, hKc⟩ : ∃ D : va_G, ∀ (k : Nat) (q : vw_C), vwCl[k]? = some q → u_Kn s q.1 q.2.1 q.2.2 (D.1 k) (D.2 k) := by
    refine ⟨(fun k => if k = 0 then c0 else c1, fun k => if k = 0 then iS0 else iS1), ?_⟩
    intro k q hq
    match k, hq with
    | 0, hq => cases hq; exact hKn0
    | 1, hq => cases hq; exact hKn1
    | k + 2, hq => simp [vwCl] at hq
  have hS : va_S (fun q : Nat => s.heap.size ≤ q) s.heap s.heap [] := va_S.rf
  have hK : va_K D vwCl [] s := ⟨hKc, fun k q h => by simp at h⟩
  have hP : va_P D vwCl [] s.heap := fun k q h => by simp at h
  have hD : va_D (fun q : Nat => s.heap.size ≤ q) [] := ⟨fun i j p q h => by simp at h, fun k q h => by simp at h⟩
  have hl := lv_entry ([.ref b]) (n := 4) (Nat.le_of_ble_eq_true rfl)
  rw [lg_entry_eq]
  generalize (lg_sl ([.ref b]) ++ List.replicate (4 - (lg_sl ([.ref b])).length) Slot.unset).toArray = ls at hl ⊢
  have hl : lv_has ls 4 [(0, .ref b)] := hl
  refine va_new (ci := 0) (fs := [.int 0, .int 0, .int 0, .null, .null, .null, .null]) (C := RX0) (T := TX0) (N := 7) hx hb hts in_X0 tyX0 tyX0_ok hown (hts _ q28) (hts _ q29) (hts _ q26) hK hP hD hS hA rfl (fun j hj => by rcases (show j = 0 ∨ j = 1 ∨ j = 2 ∨ j = 3 ∨ j = 4 ∨ j = 5 ∨ j = 6 by omega) with rfl | rfl | rfl | rfl | rfl | rfl | rfl <;> rfl) (Nat.le_of_ble_eq_true rfl) (Nat.le_of_ble_eq_true rfl) dL_law_0 (fun h0 H hP hD hS => ?_)
  have hP : va_P D vwCl (xZ h0) H := hP
  have hD : va_D (fun q : Nat => s.heap.size ≤ q) (xZ h0) := hD
  refine W.widen (k := 1) (n := 7) (by omega) (by omega) ?_
  refine lv_dup hx hb dL_law_3 rfl ?_
  have hFc := va_free (wc := xZ h0) hD hS hA [0] rfl
  refine va_callv (va_runI (As := []) (rest := [.ref h0]) ⟨hx, hb, hml, hown, hts⟩ (mX0_init l D h0 H.size) (cwI 0 hts (lw_meth q32) rfl rfl rfl (hts _ q26) (hts _ q30) (hts _ q31) rfl (by decide +kernel) ⟨Nat.le_of_ble_eq_true rfl, Nat.le_of_ble_eq_true rfl⟩) ⟨dx_blind, fun U hU hW => ⟨rfl, by rw [hU], by rw [hU]; exact hP, va_K.moved hW.alike hK, hD.weaken (fun _ _ _ _ => trivial)⟩⟩ rfl rfl hl.1 rfl (lv_room (Nat.le_of_ble_eq_true rfl)) dL_law_4 ⟨Nat.le_of_ble_eq_true rfl, Nat.le_of_ble_eq_true rfl⟩) hS (fun q _ h => hFc q h) hFc (fun u t H1 locs ht hvm hw1 hB hz1 hk1 hS => ?_)
  obtain ⟨k4, d4, nf, B4, T4⟩ := u
  have hw1 : dl_I 3 nf B4 T4 := hw1
  obtain ⟨hP1, hK1, hD1⟩ := hB
  rw [ht] at hP1
  have hK1 := va_K.moved hvm.symm hK1
  obtain ⟨hP, hD⟩ := va_join (wr := []) (w1 := xUW h0 (k4, d4, nf, B4, T4)) hP hD [0] [] rfl rfl (by decide) (by decide) hk1 hFc hP1 hD1
  generalize H1 = H at hP hS ⊢
  have hK : va_K D vwCl (xT (h0, k4, d4)) s := hK1
  have hP : va_P D vwCl (xW (h0, k4, d4) (nI 3) (nI (3 - 1)) (nI nf) B4 T4 (fun _ => 0) (fun _ => 0)) H := hP
  have hD : va_D (fun q : Nat => s.heap.size ≤ q) (xW (h0, k4, d4) (nI 3) (nI (3 - 1)) (nI nf) B4 T4 (fun _ => 0) (fun _ => 0)) := hD
  refine W.widen (k := 5) (n := 273) (by omega) (by omega) ?_
  refine lv_astore_n (lv' := [(1, .ref h0), (0, .ref b)]) hx hb dL_law_7 rfl hl (by decide) rfl (fun ls hl => ?_)
  refine va_new (ci := 1) (fs := [.int 0, .null]) (C := RX1) (T := TX1) (N := 2) hx hb hts in_X1 tyX1 tyX1_ok hown (hts _ q201) (hts _ q202) (hts _ q27) hK hP hD hS hA rfl (fun j hj => by rcases (show j = 0 ∨ j = 1 by omega) with rfl | rfl <;> rfl) (Nat.le_of_ble_eq_true rfl) (Nat.le_of_ble_eq_true rfl) dL_law_8 (fun h1 H hP hD hS => ?_)
  have hP : va_P D vwCl (xW (h0, k4, d4) (nI 3) (nI (3 - 1)) (nI nf) B4 T4 (fun _ => 0) (fun _ => 0) ++ yZ h1) H := hP
  have hD : va_D (fun q : Nat => s.heap.size ≤ q) (xW (h0, k4, d4) (nI 3) (nI (3 - 1)) (nI nf) B4 T4 (fun _ => 0) (fun _ => 0) ++ yZ h1) := hD
  refine W.widen (k := 6) (n := 275) (by omega) (by omega) ?_
  refine lv_dup hx hb dL_law_11 rfl ?_
  have hPc := hP.sub (ws' := yZ h1) [5] rfl
  have hDc := hD.sub (ws' := yZ h1) [5] (by decide) rfl
  have hKc := hK.sub (tys' := []) [] rfl
  have hFc := va_free (wc := yZ h1) hD hS hA [5] rfl
  refine va_callv (va_runI (As := []) (rest := [.ref h1]) ⟨hx, hb, hml, hown, hts⟩ (mX1_init l D h1 H.size) (cwI 0 hts (lw_meth q205) rfl rfl rfl (hts _ q27) (hts _ q203) (hts _ q204) rfl (by decide +kernel) ⟨Nat.le_of_ble_eq_true rfl, Nat.le_of_ble_eq_true rfl⟩) ⟨dx_blind, fun U hU hW => ⟨rfl, by rw [hU], by rw [hU]; exact hPc, va_K.moved hW.alike hKc, hDc.weaken (fun _ _ _ _ => trivial)⟩⟩ rfl rfl hl.1 rfl (lv_room (Nat.le_of_ble_eq_true rfl)) dL_law_12 ⟨Nat.le_of_ble_eq_true rfl, Nat.le_of_ble_eq_true rfl⟩) hS (fun q _ h => hFc q h) hFc (fun u t H1 locs ht hvm _ hB hz1 hk1 hS => ?_)
  obtain ⟨q1, d1⟩ := u
  obtain ⟨hP1, hK1, hD1⟩ := hB
  rw [ht] at hP1
  have hK1 := va_K.moved hvm.symm hK1
  obtain ⟨hP, hD⟩ := va_join (wr := xW (h0, k4, d4) (nI 3) (nI (3 - 1)) (nI nf) B4 T4 (fun _ => 0) (fun _ => 0)) (w1 := yW (h1, q1, d1) (nI 3) (fun _ => 0)) hP hD [5] [0, 1, 2, 3, 4] rfl rfl (by decide) (by decide) hk1 hFc hP1 hD1
  generalize H1 = H at hP hS ⊢
  have hK : va_K D vwCl (xT (h0, k4, d4) ++ yT (h1, q1, d1)) s := hK.app hK1
  refine W.widen (k := 600000) (n := 7290000) (by omega) (by omega) ?_
  refine lv_astore_n (lv' := [(2, .ref h1), (1, .ref h0), (0, .ref b)]) hx hb dL_law_15 rfl hl (by decide) rfl (fun ls hl => ?_)
  refine lv_iconst (v := nI 0) hx hb dL_law_16 (by decide) ?_
  refine lv_istore_n (lv' := [(3, .int (nI 0)), (2, .ref h1), (1, .ref h0), (0, .ref b)]) hx hb dL_law_17 rfl hl (by decide) rfl (fun ls hl => ?_)
  exact law_loop (a := (h0, k4, d4)) (b := (h1, q1, d1)) hx hb hr hlocks hml hown hts hX hbl hK hL (L + 1) 0 3 nf B4 T4 (fun _ => 0) (fun _ => 0) (fun _ => 0) (Nat.zero_le L) (by omega) hw1 H _ hP hD hS ls (lv_sub hl [3, 2, 1, 0] rfl)
end
section
set_option maxRecDepth 100000
set_option maxHeartbeats 4000000 in
theorem lw_walk (l : Launch) (b : Addr) (xs : List Int32) : MetFree l x (headSpec (Jvm.Cond.code x code maxLocals ret :: tables_1) room_1) (lw_P b xs) (fun _ _ _ _ _ => True) lw_Q := by
  refine MetFree.of_bodyS (code := code) (maxLocals := maxLocals) (ret := ret) (by decide) ?_ ?_
  · intro args s m h hn
    obtain ⟨meth, c, h1, h2, h3, h4, h5, h6, -, -⟩ := Cond.code_spec hn (atoms_spec (ws := Jvm.Cond.code x code maxLocals ret :: tables_1) h _ List.mem_cons_self)
    exact ⟨meth, c, h1, h2, h3, h4, h5, h6⟩
  · intro p e s m args below meth c s₁ B hml0 hP _
    obtain ⟨rfl, hx, hbd, hgv⟩ := hP
    obtain ⟨scr, harrAt, hlist, hof, hsmall⟩ := hx
    obtain ⟨hcb, hkn, -, -⟩ := State.arrayAt?_spec harrAt
    have hown : s.vm.findClass R_law = some m.cls := findClass_of_methodNamed B.named
    have hts0 : ∀ c ∈ (Jvm.Cond.code x code maxLocals ret :: tables_1), c.before #[Value.ref b] s = true := atoms_spec (ws := Jvm.Cond.code x code maxLocals ret :: tables_1) B.pre
    have hts : ∀ w ∈ lw_tbl, w.before #[Value.ref b] s = true := k2_hts_sels lw_privs (fun w hw => hts0 w (List.mem_cons_of_mem _ hw)) lw_privs_ok
    have hml : c.maxLocals = 4 := B.maxLocals_eq (hts0 _ List.mem_cons_self)
    have X₀ : Stand p l e room_1 s m #[Value.ref b] below meth c s₁ [] 0 0 := Stand.of_body B
    have hh0 : s₁.heap = s.heap := by rw [B.state]; rfl
    have hsz : scr.slots.size = xs.length := by rw [← Array.length_toList, hlist, List.length_map]
    have hval : ∀ j : Nat, j < xs.length → scr.slots[j]? = some (.int (xs.getD j 0)) := fun j hj => by
      rw [← Array.getElem?_toList, hlist]
      simp [hj]
    have hbl : b < s.heap.size := (Array.getElem?_eq_some_iff.mp hcb).1
    have hX : va_X b xs.length (fun j => xs.getD j 0) s s.heap := ⟨scr, hcb, hof, hkn, hsz, hval⟩
    have K : W p l e room_1 s m #[Value.ref b] below meth c s₁.heap [] 0 0 (lw_Z below #[Value.ref b] s) (entryFrame m ([Value.ref b] : List Value).toArray 4) := by
      rw [hh0]
      exact whole_start l hbd ⟨B.exec, B.bytes, B.returns, hml, hown, hts, hX, hbl, B.notSynchronized, hgv⟩
    obtain ⟨t, a1, o, b1, b2, b3⟩ := K s₁ rfl X₀
    exact ⟨t, o, a1, b1, b2, b3⟩
theorem lw_pre_spec {args : Array Value} {s : State} (h : (Jvm.Cond.and given_1 narrow_1).before args s = true) (hr : rest_1_c.before args s = true) : ∃ (b : Addr) (xs : List Int32), lw_P b xs args s := by
  have hs := flat_of_before _ h
  have hq := flat_of_before _ hr
  have hc : (Cond.count 1).before args s = true := hs _ (by decide +kernel)
  have harr : (Cond.arrayOf (.arg 0) .int).before args s = true := hs _ (by decide +kernel)
  have hle : (Cond.le (.length (.arg 0)) (.int 320)).before args s = true := hs _ (by decide +kernel)
  have hlen : (Cond.isInt (.length (.arg 0))).before args s = true := hq _ (by decide +kernel)
  have hall : (Cond.all (.arg 0) (.isInt (.elem (.arg 0) (.index 0)))).before args s = true := hq _ (by decide +kernel)
  obtain ⟨b, xs, hb, hx⟩ := State.ints_of_pre rfl harr hlen hall
  have hsm : xs.length < 2 ^ 31 := hx.choose_spec.2.2.2
  have hev : (Term.length (.arg 0)).eval args s none [] s = some (.int xs.length.toInt32) := hx.length_eval hb
  have hv := Cond.le_ints hev (show (Term.int 320).eval args s none [] s = some (.int 320) from rfl)
  have hd : xs.length.toInt32 ≤ 320 := by
    simpa [Cond.before, Cond.holds, hv] using hle
  have hN : xs.length ≤ 320 := (Int32.ofNat_le_ofNat hsm (by decide)).mp (show Int32.ofNat xs.length ≤ Int32.ofNat 320 from hd)
  exact ⟨b, xs, Cond.one_arg hc (show args[0]? = some (.ref b) from hb), hx, hN, h⟩
theorem lw_comes (l : Launch) : Comes l x (Jvm.Cond.code x code maxLocals ret :: tables_1) room_1 (fun tb e args s => Calls_1 tb e args s ∧ rest_1 tb e args s ∧ Pre_1 tb e args s)
    (fun _ _ args s o t => lw_Q args s o t) := by
  intro p e ha hc hk s m args below hf hfit hheap happ hpre
  obtain ⟨b, xs, hP⟩ := lw_pre_spec hpre.2.2 hpre.2.1
  obtain ⟨k, o, h1, h2, h3, hQ⟩ := lw_walk l b xs p e ha hc hk s m args below hf ((Spec.applies_iff_loose hf).mp happ).1 hP trivial
  exact ⟨k, o, h1, h2, h3, hQ⟩
theorem lw_frame {s t : State} {o : Outcome} {args : Array Value} (h : Framed s o t [] 600000 7290000) :
    Framed s o t (fieldLocs frame_1_writes args s ++ arrayLocs frame_1_arrays args s ++ staticLocs frame_1_statics s) 600000 7290000 := h
theorem lw_limb (L : Cond) (hL : ∀ (args : Array Value) (s t : State), L.after args s (.returned (some (.int 1))) t = true) :
    ArmFor flags0 classFile x code maxLocals ret World_1 tables_1 room_1 Calls_1 rest_1 Pre_1
      (fun tb e a s o t => postC L tb e a s o t ∧ Framed s o t (fieldLocs frame_1_writes a s ++ arrayLocs frame_1_arrays a s ++ staticLocs frame_1_statics s) 600000 7290000) := by
  intro l _ _ _ p e ha hc hk s m args below hf hfit hheap happ hpre
  obtain ⟨k, o, h1, h2, h3, rfl, hF⟩ := lw_comes l p e ha hc hk s m args below hf hfit hheap happ hpre
  exact ⟨k, _, h1, h2, h3, hL args s _, lw_frame hF⟩
theorem i_vc : Claimed_1_1 ∧ Claimed_1_2 := ⟨lw_limb limb_1_1 (fun args s t => by simp [limb_1_1, Cond.after, Cond.holds, Cond.value]), lw_limb limb_1_2 (fun args s t => Cond.after_iff.mpr (by
  first | (rw [show limb_1_2 = Cond.eq .result (.int 1) from rfl, Cond.eq_ints (x := 1) (y := 1) rfl rfl]; simp; done) | (simp [limb_1_2, Cond.value, Term.eval]; done)))⟩
end
