section
/-! ===== pure: bits of naturals by quotients; M = 2^k, N = 2^(k+1), k < 7 ===== -/
def tr_MN (M N : Nat) : Prop := (M = 1 ∧ N = 2) ∨ (M = 2 ∧ N = 4) ∨ (M = 4 ∧ N = 8) ∨ (M = 8 ∧ N = 16) ∨ (M = 16 ∧ N = 32) ∨ (M = 32 ∧ N = 64) ∨ (M = 64 ∧ N = 128)
theorem tr_7 {k : Nat} (hk : k < 7) : k = 0 ∨ k = 1 ∨ k = 2 ∨ k = 3 ∨ k = 4 ∨ k = 5 ∨ k = 6 := by omega
theorem tr_mn {k : Nat} (hk : k < 7) : tr_MN (2 ^ k) (2 ^ (k + 1)) := by
  unfold tr_MN
  rcases tr_7 hk with rfl | rfl | rfl | rfl | rfl | rfl | rfl <;> decide
theorem tr_x2 (p q : Nat) : p ^^^ q = 2 * (p / 2 ^^^ q / 2) + (p + q) % 2 := by
  have h1 : (p ^^^ q) / 2 = p / 2 ^^^ q / 2 := Nat.xor_div_two
  have h2 : (p ^^^ q) % 2 = 1 ↔ ¬ (p % 2 = 1 ↔ q % 2 = 1) := Nat.xor_mod_two_eq_one
  rw [← h1]
  generalize p ^^^ q = z at h2 ⊢
  omega
theorem tr_o2 (p q : Nat) : p ||| q = 2 * (p / 2 ||| q / 2) + (p % 2 + q % 2 + 1) / 2 := by
  have h1 : (p ||| q) / 2 = p / 2 ||| q / 2 := Nat.or_div_two
  have h2 : (p ||| q) % 2 = 1 ↔ p % 2 = 1 ∨ q % 2 = 1 := Nat.or_mod_two_eq_one
  rw [← h1]
  generalize p ||| q = z at h2 ⊢
  omega
theorem tr_h (k z : Nat) : z / 2 ^ (k + 1) = z / 2 ^ k / 2 := by rw [Nat.div_div_eq_div_mul, Nat.pow_succ]
def tr_X (M N : Nat) : Prop := (∀ x y, (x ^^^ y) / M = 2 * (x / N ^^^ y / N) + (x / M + y / M) % 2) ∧ (∀ x y, (x ^^^ y) / N = x / N ^^^ y / N) ∧ (∀ x y, x % M = M - 1 → y % M = M - 1 → (x ^^^ y) % M = 0) ∧ (∀ x y, x % M = M - 1 → y % M = 0 → (x ^^^ y) % M = M - 1)
def tr_O (M N : Nat) : Prop := (∀ x y, (x ||| y) / M = 2 * (x / N ||| y / N) + (x / M % 2 + y / M % 2 + 1) / 2) ∧ (∀ x y, x % M ≤ (x ||| y) % M) ∧ (∀ x y, y % M ≤ (x ||| y) % M) ∧ (∀ x y, x % M = 0 → (x ||| y) % M = y % M)
theorem tr_hX (k : Nat) : tr_X (2 ^ k) (2 ^ (k + 1)) := by
  refine ⟨fun x y => ?_, fun x y => Nat.xor_div_two_pow, fun x y hx hy => ?_, fun x y hx hy => ?_⟩
  · have h1 : (x ^^^ y) / 2 ^ k = x / 2 ^ k ^^^ y / 2 ^ k := Nat.xor_div_two_pow
    rw [h1, tr_h k x, tr_h k y]
    exact tr_x2 _ _
  · rw [Nat.xor_mod_two_pow, hx, hy, Nat.xor_self]
  · rw [Nat.xor_mod_two_pow, hx, hy, Nat.xor_zero]
theorem tr_hO (k : Nat) : tr_O (2 ^ k) (2 ^ (k + 1)) := by
  refine ⟨fun x y => ?_, fun x y => ?_, fun x y => ?_, fun x y hx => ?_⟩
  · have h1 : (x ||| y) / 2 ^ k = x / 2 ^ k ||| y / 2 ^ k := Nat.or_div_two_pow
    rw [h1, tr_h k x, tr_h k y]
    exact tr_o2 _ _
  · rw [Nat.or_mod_two_pow]
    exact Nat.left_le_or
  · rw [Nat.or_mod_two_pow]
    exact Nat.right_le_or
  · rw [Nat.or_mod_two_pow, hx, Nat.zero_or]
/-- raised and lowered numbers by their quotients -/
def tr_Q (M N : Nat) : Prop := (∀ z, z / N = z / M / 2) ∧ (∀ w x, w / N * N + M ≤ x ↔ 2 * (w / N) + 1 ≤ x / M) ∧ (∀ w x, x ≤ w / N * N + (M - 1) ↔ x / M ≤ 2 * (w / N)) ∧ (∀ w, (w / N * N + M) / M = 2 * (w / N) + 1) ∧ (∀ w, (w / N * N + (M - 1)) / M = 2 * (w / N)) ∧ (∀ w, (w / N * N + M) % M = 0) ∧ (∀ w, (w / N * N + (M - 1)) % M = M - 1) ∧ 0 < M
theorem tr_q1 {M N : Nat} (hM : tr_MN M N) : tr_Q M N := by
  refine ⟨fun z => ?_, fun w x => ?_, fun w x => ?_, fun w => ?_, fun w => ?_, fun w => ?_, fun w => ?_, ?_⟩ <;> rcases hM with ⟨rfl, rfl⟩ | ⟨rfl, rfl⟩ | ⟨rfl, rfl⟩ | ⟨rfl, rfl⟩ | ⟨rfl, rfl⟩ | ⟨rfl, rfl⟩ | ⟨rfl, rfl⟩ <;> omega
/-- the least value of f over the box, and the greatest -/
def tr_Lo (f : Nat → Nat → Nat) (p q r s v : Nat) : Prop := (∀ x y, p ≤ x → x ≤ q → r ≤ y → y ≤ s → v ≤ f x y) ∧ ∃ x y, p ≤ x ∧ x ≤ q ∧ r ≤ y ∧ y ≤ s ∧ f x y = v
def tr_Hi (f : Nat → Nat → Nat) (p q r s v : Nat) : Prop := (∀ x y, p ≤ x → x ≤ q → r ≤ y → y ≤ s → f x y ≤ v) ∧ ∃ x y, p ≤ x ∧ x ≤ q ∧ r ≤ y ∧ y ≤ s ∧ f x y = v
/-! the least xor -/
def tr_mx (a b c d u v N : Nat) : Prop := a ≤ u ∧ u ≤ b ∧ c ≤ v ∧ v ≤ d ∧ ∀ x y, a ≤ x → x ≤ b → c ≤ y → y ≤ d → (u ^^^ v) / N < (x ^^^ y) / N ∨ ∃ x' y', u ≤ x' ∧ x' ≤ b ∧ v ≤ y' ∧ y' ≤ d ∧ x' / N = u / N ∧ y' / N = v / N ∧ x' ^^^ y' ≤ x ^^^ y
theorem tr_mx0 {a b c d : Nat} (h1 : a ≤ b) (hb : b < 128) (h2 : c ≤ d) (hd : d < 128) : tr_mx a b c d a c 128 := ⟨Nat.le_refl a, h1, Nat.le_refl c, h2, fun x y xa xb yc yd => Or.inr ⟨x, y, xa, xb, yc, yd, by omega, by omega, Nat.le_refl _⟩⟩
theorem tr_mx1 {a b c d u v : Nat} (h : tr_mx a b c d u v 1) : tr_Lo (fun x y => x ^^^ y) a b c d (u ^^^ v) := by
  obtain ⟨h1, h2, h3, h4, h5⟩ := h
  refine ⟨fun x y xa xb yc yd => ?_, u, v, h1, h2, h3, h4, rfl⟩
  show u ^^^ v ≤ x ^^^ y
  rcases h5 x y xa xb yc yd with g | ⟨x', y', _, _, _, _, g5, g6, g7⟩
  · rw [Nat.div_one, Nat.div_one] at g
    omega
  · rw [Nat.div_one, Nat.div_one] at g5 g6
    rw [← g5, ← g6]
    exact g7
theorem tr_mxs {a b c d u v u' v' M N : Nat} (hM : tr_MN M N) (hX : tr_X M N) (h : tr_mx a b c d u v N)
    (hs : (u / M % 2 = 0 ∧ v / M % 2 = 1 ∧ u / N * N + M ≤ b ∧ u' = u / N * N + M ∧ v' = v) ∨ (u / M % 2 = 0 ∧ v / M % 2 = 1 ∧ b < u / N * N + M ∧ u' = u ∧ v' = v) ∨ (u / M % 2 = 1 ∧ v / M % 2 = 0 ∧ v / N * N + M ≤ d ∧ u' = u ∧ v' = v / N * N + M) ∨ (u / M % 2 = 1 ∧ v / M % 2 = 0 ∧ d < v / N * N + M ∧ u' = u ∧ v' = v) ∨ (u / M % 2 = v / M % 2 ∧ u' = u ∧ v' = v)) : tr_mx a b c d u' v' M := by
  obtain ⟨h1, h2, h3, h4, h5⟩ := h
  obtain ⟨X1, X2, X3, X4⟩ := hX
  obtain ⟨Q1, Q2, Q3, Q4, Q5, Q6, Q7, Q8⟩ := tr_q1 hM
  have hb : a ≤ u' ∧ u' ≤ b ∧ c ≤ v' ∧ v' ≤ d ∧ u' / N = u / N ∧ v' / N = v / N := by
    clear X1 X2 X3 X4 h5
    have n1 := Q1 u
    have n2 := Q1 v
    have n3 := Q1 u'
    have n4 := Q1 v'
    have r1 := Q3 u u
    have r2 := Q3 v v
    have r3 := Q4 u
    have r4 := Q4 v
    rcases hs with ⟨s1, s2, s3, rfl, rfl⟩ | ⟨s1, s2, s3, rfl, rfl⟩ | ⟨s1, s2, s3, rfl, rfl⟩ | ⟨s1, s2, s3, rfl, rfl⟩ | ⟨s1, rfl, rfl⟩ <;> refine ⟨?_, ?_, ?_, ?_, ?_, ?_⟩ <;> omega
  obtain ⟨b1, b2, b3, b4, b5, b6⟩ := hb
  refine ⟨b1, b2, b3, b4, fun x y xa xb yc yd => ?_⟩
  have k1 := X1 u' v'
  rw [b5, b6] at k1
  rcases h5 x y xa xb yc yd with g | ⟨x', y', g1, g2, g3, g4, g5, g6, g7⟩
  · refine Or.inl ?_
    rw [X2 u v] at g
    clear X1 X2 X3 X4 h5 hs b1 b2 b3 b4 b5 b6 h1 h2 h3 h4 xa xb yc yd
    generalize u / N ^^^ v / N = Z at g k1
    generalize x ^^^ y = Y at g ⊢
    generalize u' ^^^ v' = U at k1 ⊢
    rcases hM with ⟨rfl, rfl⟩ | ⟨rfl, rfl⟩ | ⟨rfl, rfl⟩ | ⟨rfl, rfl⟩ | ⟨rfl, rfl⟩ | ⟨rfl, rfl⟩ | ⟨rfl, rfl⟩ <;> omega
  · have k2 := X1 x' y'
    rw [g5, g6] at k2
    have t : (x' / M = u' / M ∧ y' / M = v' / M ∧ u' ≤ x' ∧ v' ≤ y') ∨ ((x' / M + y' / M) % 2 = 1 ∧ (u' / M + v' / M) % 2 = 0) ∨ (u' = u ∧ v' = v ∧ u / M % 2 = 0 ∧ v / M % 2 = 0 ∧ x' / M % 2 = 1 ∧ y' / M % 2 = 1) := by
      clear X1 X2 X3 X4 h5 k1 k2 g7 xa xb yc yd
      have n1 := Q1 u
      have n2 := Q1 v
      have n3 := Q1 x'
      have n4 := Q1 y'
      have r1 := Q2 u x'
      have r2 := Q2 v y'
      have r3 := Q2 u b
      have r4 := Q2 v d
      have r5 := Q4 u
      have r6 := Q4 v
      have m1 : u / M ≤ x' / M := Nat.div_le_div_right g1
      have m2 : v / M ≤ y' / M := Nat.div_le_div_right g3
      have m3 : x' / M ≤ b / M := Nat.div_le_div_right g2
      have m4 : y' / M ≤ d / M := Nat.div_le_div_right g4
      rcases hs with ⟨s1, s2, s3, rfl, rfl⟩ | ⟨s1, s2, s3, rfl, rfl⟩ | ⟨s1, s2, s3, rfl, rfl⟩ | ⟨s1, s2, s3, rfl, rfl⟩ | ⟨s1, rfl, rfl⟩ <;> omega
    rcases t with ⟨t1, t2, t3, t4⟩ | ⟨t1, t2⟩ | ⟨t1, t2, t3, t4, t5, t6⟩
    · exact Or.inr ⟨x', y', t3, g2, t4, g4, t1, t2, g7⟩
    · refine Or.inl ?_
      have g8 : (x' ^^^ y') / M ≤ (x ^^^ y) / M := Nat.div_le_div_right g7
      rw [t1] at k2
      rw [t2] at k1
      omega
    · refine Or.inr ⟨u / N * N + (M - 1), v / N * N + (M - 1), ?_⟩
      have q : u' ≤ u / N * N + (M - 1) ∧ u / N * N + (M - 1) ≤ b ∧ v' ≤ v / N * N + (M - 1) ∧ v / N * N + (M - 1) ≤ d ∧ (u / N * N + (M - 1)) / M = u' / M ∧ (v / N * N + (M - 1)) / M = v' / M ∧ (u / N * N + (M - 1)) / N = u / N ∧ (v / N * N + (M - 1)) / N = v / N ∧ (u / N * N + (M - 1)) % M = M - 1 ∧ (v / N * N + (M - 1)) % M = M - 1 := by
        clear X1 X2 X3 X4 h5 k1 k2 g7 xa xb yc yd hs
        have n1 := Q1 u
        have n2 := Q1 v
        have n3 := Q1 (u / N * N + (M - 1))
        have n4 := Q1 (v / N * N + (M - 1))
        have r1 := Q3 u u
        have r2 := Q3 v v
        have r3 := Q2 u x'
        have r4 := Q2 v y'
        have r5 := Q5 u
        have r6 := Q5 v
        have n5 := Q1 x'
        have n6 := Q1 y'
        subst t1 t2
        refine ⟨?_, ?_, ?_, ?_, ?_, ?_, ?_, ?_, Q7 _, Q7 _⟩ <;> omega
      obtain ⟨q1, q2, q3, q4, q5, q6, q7, q8, q9, q10⟩ := q
      refine ⟨q1, q2, q3, q4, q5, q6, ?_⟩
      have k3 := X1 (u / N * N + (M - 1)) (v / N * N + (M - 1))
      have k4 := X3 _ _ q9 q10
      rw [q7, q8, q5, q6, t1, t2] at k3
      generalize (u / N * N + (M - 1)) ^^^ (v / N * N + (M - 1)) = V at k3 k4 ⊢
      generalize u / N ^^^ v / N = Z at k2 k3
      generalize x' ^^^ y' = Y at k2 g7
      generalize x ^^^ y = X at g7 ⊢
      clear X1 X2 X3 X4 h5 k1 xa xb yc yd hs b1 b2 b3 b4 b5 b6 h1 h2 h3 h4 g1 g2 g3 g4 g5 g6 q1 q2 q3 q4 q5 q6 q7 q8 q9 q10
      rcases hM with ⟨rfl, rfl⟩ | ⟨rfl, rfl⟩ | ⟨rfl, rfl⟩ | ⟨rfl, rfl⟩ | ⟨rfl, rfl⟩ | ⟨rfl, rfl⟩ | ⟨rfl, rfl⟩ <;> omega
/-! the greatest xor -/
def tr_Mx (a b c d u v N : Nat) : Prop := a ≤ u ∧ u ≤ b ∧ c ≤ v ∧ v ≤ d ∧ ∀ x y, a ≤ x → x ≤ b → c ≤ y → y ≤ d → (x ^^^ y) / N < (u ^^^ v) / N ∨ ∃ x' y', a ≤ x' ∧ x' ≤ u ∧ c ≤ y' ∧ y' ≤ v ∧ x' / N = u / N ∧ y' / N = v / N ∧ x ^^^ y ≤ x' ^^^ y'
theorem tr_Mx0 {a b c d : Nat} (h1 : a ≤ b) (hb : b < 128) (h2 : c ≤ d) (hd : d < 128) : tr_Mx a b c d b d 128 := ⟨h1, Nat.le_refl b, h2, Nat.le_refl d, fun x y xa xb yc yd => Or.inr ⟨x, y, xa, xb, yc, yd, by omega, by omega, Nat.le_refl _⟩⟩
theorem tr_Mx1 {a b c d u v : Nat} (h : tr_Mx a b c d u v 1) : tr_Hi (fun x y => x ^^^ y) a b c d (u ^^^ v) := by
  obtain ⟨h1, h2, h3, h4, h5⟩ := h
  refine ⟨fun x y xa xb yc yd => ?_, u, v, h1, h2, h3, h4, rfl⟩
  show x ^^^ y ≤ u ^^^ v
  rcases h5 x y xa xb yc yd with g | ⟨x', y', _, _, _, _, g5, g6, g7⟩
  · rw [Nat.div_one, Nat.div_one] at g
    omega
  · rw [Nat.div_one, Nat.div_one] at g5 g6
    rw [← g5, ← g6]
    exact g7
theorem tr_Mxs {a b c d u v u' v' M N : Nat} (hM : tr_MN M N) (hX : tr_X M N) (h : tr_Mx a b c d u v N)
    (hs : (u / M % 2 = 1 ∧ v / M % 2 = 1 ∧ a ≤ u / N * N + (M - 1) ∧ u' = u / N * N + (M - 1) ∧ v' = v) ∨ (u / M % 2 = 1 ∧ v / M % 2 = 1 ∧ u / N * N + (M - 1) < a ∧ c ≤ v / N * N + (M - 1) ∧ u' = u ∧ v' = v / N * N + (M - 1)) ∨ (u / M % 2 = 1 ∧ v / M % 2 = 1 ∧ u / N * N + (M - 1) < a ∧ v / N * N + (M - 1) < c ∧ u' = u ∧ v' = v) ∨ (¬ (u / M % 2 = 1 ∧ v / M % 2 = 1) ∧ u' = u ∧ v' = v)) : tr_Mx a b c d u' v' M := by
  obtain ⟨h1, h2, h3, h4, h5⟩ := h
  obtain ⟨X1, X2, X3, X4⟩ := hX
  obtain ⟨Q1, Q2, Q3, Q4, Q5, Q6, Q7, Q8⟩ := tr_q1 hM
  have hb : a ≤ u' ∧ u' ≤ b ∧ c ≤ v' ∧ v' ≤ d ∧ u' / N = u / N ∧ v' / N = v / N := by
    clear X1 X2 X3 X4 h5
    have n1 := Q1 u
    have n2 := Q1 v
    have n3 := Q1 u'
    have n4 := Q1 v'
    have r1 := Q2 u u
    have r2 := Q2 v v
    have r3 := Q5 u
    have r4 := Q5 v
    rcases hs with ⟨s1, s2, s3, rfl, rfl⟩ | ⟨s1, s2, s3, s4, rfl, rfl⟩ | ⟨s1, s2, s3, s4, rfl, rfl⟩ | ⟨s1, rfl, rfl⟩ <;> refine ⟨?_, ?_, ?_, ?_, ?_, ?_⟩ <;> omega
  obtain ⟨b1, b2, b3, b4, b5, b6⟩ := hb
  refine ⟨b1, b2, b3, b4, fun x y xa xb yc yd => ?_⟩
  have k1 := X1 u' v'
  rw [b5, b6] at k1
  rcases h5 x y xa xb yc yd with g | ⟨x', y', g1, g2, g3, g4, g5, g6, g7⟩
  · refine Or.inl ?_
    rw [X2 u v] at g
    clear X1 X2 X3 X4 h5 hs b1 b2 b3 b4 b5 b6 h1 h2 h3 h4 xa xb yc yd
    generalize u / N ^^^ v / N = Z at g k1
    generalize x ^^^ y = Y at g ⊢
    generalize u' ^^^ v' = U at k1 ⊢
    rcases hM with ⟨rfl, rfl⟩ | ⟨rfl, rfl⟩ | ⟨rfl, rfl⟩ | ⟨rfl, rfl⟩ | ⟨rfl, rfl⟩ | ⟨rfl, rfl⟩ | ⟨rfl, rfl⟩ <;> omega
  · have k2 := X1 x' y'
    rw [g5, g6] at k2
    have t : (x' / M = u' / M ∧ y' / M = v' / M ∧ x' ≤ u' ∧ y' ≤ v') ∨ ((x' / M + y' / M) % 2 = 0 ∧ (u' / M + v' / M) % 2 = 1) ∨ (u / M % 2 = 1 ∧ v / M % 2 = 1 ∧ a ≤ u / N * N + (M - 1) ∧ u' = u / N * N + (M - 1) ∧ v' = v ∧ x' / M % 2 = 1 ∧ y' / M % 2 = 0) := by
      clear X1 X2 X3 X4 h5 k1 k2 g7 xa xb yc yd
      have n1 := Q1 u
      have n2 := Q1 v
      have n3 := Q1 x'
      have n4 := Q1 y'
      have r1 := Q3 u x'
      have r2 := Q3 v y'
      have r5 := Q5 u
      have r6 := Q5 v
      have m1 : x' / M ≤ u / M := Nat.div_le_div_right g2
      have m2 : y' / M ≤ v / M := Nat.div_le_div_right g4
      rcases hs with ⟨s1, s2, s3, rfl, rfl⟩ | ⟨s1, s2, s3, s4, rfl, rfl⟩ | ⟨s1, s2, s3, s4, rfl, rfl⟩ | ⟨s1, rfl, rfl⟩ <;> omega
    rcases t with ⟨t1, t2, t3, t4⟩ | ⟨t1, t2⟩ | ⟨t1, t2, t3, t4, t5, t6, t7⟩
    · exact Or.inr ⟨x', y', g1, t3, g3, t4, t1, t2, g7⟩
    · refine Or.inl ?_
      have g8 : (x ^^^ y) / M ≤ (x' ^^^ y') / M := Nat.div_le_div_right g7
      rw [t1] at k2
      rw [t2] at k1
      omega
    · refine Or.inr ⟨u / N * N + (M - 1), v / N * N + M, ?_⟩
      have q : a ≤ u / N * N + (M - 1) ∧ u / N * N + (M - 1) ≤ u' ∧ c ≤ v / N * N + M ∧ v / N * N + M ≤ v' ∧ (u / N * N + (M - 1)) / M = u' / M ∧ (v / N * N + M) / M = v' / M ∧ (u / N * N + (M - 1)) / N = u / N ∧ (v / N * N + M) / N = v / N ∧ (u / N * N + (M - 1)) % M = M - 1 ∧ (v / N * N + M) % M = 0 ∧ ((u / N * N + (M - 1)) / M + (v / N * N + M) / M) % 2 = 1 ∧ (x' / M + y' / M) % 2 = 1 := by
        clear X1 X2 X3 X4 h5 k1 k2 g7 xa xb yc yd hs
        have n1 := Q1 u
        have n2 := Q1 v
        have n3 := Q1 (u / N * N + (M - 1))
        have n4 := Q1 (v / N * N + M)
        have r1 := Q2 v v
        have r2 := Q3 v y'
        have r5 := Q5 u
        have r6 := Q4 v
        have n5 := Q1 x'
        have n6 := Q1 y'
        subst t4 t5
        refine ⟨?_, ?_, ?_, ?_, ?_, ?_, ?_, ?_, Q7 _, Q6 _, ?_, ?_⟩ <;> omega
      obtain ⟨q1, q2, q3, q4, q5, q6, q7, q8, q9, q10, q11, q12⟩ := q
      refine ⟨q1, q2, q3, q4, q5, q6, ?_⟩
      have k3 := X1 (u / N * N + (M - 1)) (v / N * N + M)
      have k4 := X4 _ _ q9 q10
      rw [q11, q7, q8] at k3
      rw [q12] at k2
      generalize (u / N * N + (M - 1)) ^^^ (v / N * N + M) = V at k3 k4 ⊢
      generalize u / N ^^^ v / N = Z at k2 k3
      generalize x' ^^^ y' = Y at k2 g7
      generalize x ^^^ y = X at g7 ⊢
      clear X1 X2 X3 X4 h5 k1 xa xb yc yd hs b1 b2 b3 b4 b5 b6 h1 h2 h3 h4 g1 g2 g3 g4 g5 g6 q1 q2 q3 q4 q5 q6 q7 q8 q9 q10 q11 q12 t1 t2 t3 t4 t5 t6 t7
      rcases hM with ⟨rfl, rfl⟩ | ⟨rfl, rfl⟩ | ⟨rfl, rfl⟩ | ⟨rfl, rfl⟩ | ⟨rfl, rfl⟩ | ⟨rfl, rfl⟩ | ⟨rfl, rfl⟩ <;> omega
end
section
/-! the least or -/
def tr_mo (a b c d N : Nat) : Prop := ∀ x y, a ≤ x → x ≤ b → c ≤ y → y ≤ d → x ||| y ≤ a ||| c → x / N = a / N ∧ y / N = c / N
theorem tr_mo0 {a b c d : Nat} (h1 : a ≤ b) (hb : b < 128) (h2 : c ≤ d) (hd : d < 128) : tr_mo a b c d 128 := fun x y xa xb yc yd _ => ⟨by omega, by omega⟩
theorem tr_moC {a b c d N : Nat} (h : tr_mo a b c d N) : tr_mo c d a b N := by
  intro x y xa xb yc yd g
  rw [Nat.or_comm x y, Nat.or_comm c a] at g
  exact ⟨(h y x yc yd xa xb g).2, (h y x yc yd xa xb g).1⟩
theorem tr_mo1 {a b c d : Nat} (h1 : a ≤ b) (h2 : c ≤ d) (h : tr_mo a b c d 1) : tr_Lo (fun x y => x ||| y) a b c d (a ||| c) := by
  refine ⟨fun x y xa xb yc yd => ?_, a, c, Nat.le_refl a, h1, Nat.le_refl c, h2, rfl⟩
  show a ||| c ≤ x ||| y
  rcases Nat.lt_or_ge (a ||| c) (x ||| y) with g | g
  · omega
  · have t := h x y xa xb yc yd g
    rw [Nat.div_one, Nat.div_one, Nat.div_one, Nat.div_one] at t
    rw [t.1, t.2]
    exact Nat.le_refl _
theorem tr_mos {a b c d M N : Nat} (hM : tr_MN M N) (hO : tr_O M N) (h : tr_mo a b c d N)
    (hs : (a / M % 2 = 0 ∧ c / M % 2 = 1 ∧ b < a / N * N + M) ∨ (a / M % 2 = 1 ∧ c / M % 2 = 0 ∧ d < c / N * N + M) ∨ a / M % 2 = c / M % 2) : tr_mo a b c d M := by
  obtain ⟨O1, O2, O3, O4⟩ := hO
  intro x y xa xb yc yd g
  obtain ⟨e1, e2⟩ := h x y xa xb yc yd g
  have k1 := O1 x y
  have k2 := O1 a c
  rw [e1, e2] at k1
  have g2 : (x ||| y) / M ≤ (a ||| c) / M := Nat.div_le_div_right g
  rw [k1, k2] at g2
  clear k1 k2 O1 O2 O3 O4 h g
  generalize a / N ||| c / N = Z at g2
  rcases hs with hs | hs | hs <;> rcases hM with ⟨rfl, rfl⟩ | ⟨rfl, rfl⟩ | ⟨rfl, rfl⟩ | ⟨rfl, rfl⟩ | ⟨rfl, rfl⟩ | ⟨rfl, rfl⟩ | ⟨rfl, rfl⟩ <;> omega
theorem tr_moe {a b c d M N : Nat} (hM : tr_MN M N) (hO : tr_O M N) (h : tr_mo a b c d N) (hcd : c ≤ d) (s1 : a / M % 2 = 0) (s2 : c / M % 2 = 1) (s3 : a / N * N + M ≤ b) : tr_Lo (fun x y => x ||| y) a b c d ((a / N * N + M) ||| c) := by
  obtain ⟨O1, O2, O3, O4⟩ := hO
  have q : a ≤ a / N * N + M ∧ (a / N * N + M) / N = a / N ∧ (a / N * N + M) / M % 2 = 1 ∧ (a / N * N + M) % M = 0 := by
    clear O1 O2 O3 O4 h
    rcases hM with ⟨rfl, rfl⟩ | ⟨rfl, rfl⟩ | ⟨rfl, rfl⟩ | ⟨rfl, rfl⟩ | ⟨rfl, rfl⟩ | ⟨rfl, rfl⟩ | ⟨rfl, rfl⟩ <;> omega
  obtain ⟨q1, q2, q3, q4⟩ := q
  refine ⟨fun x y xa xb yc yd => ?_, a / N * N + M, c, q1, s3, Nat.le_refl c, hcd, rfl⟩
  show (a / N * N + M) ||| c ≤ x ||| y
  have k1 := O1 (a / N * N + M) c
  have k2 := O4 (a / N * N + M) c q4
  rw [q2, q3, s2] at k1
  have k3 := O1 a c
  rw [s1, s2] at k3
  have k4 := O3 a c
  rcases Nat.lt_or_ge (a ||| c) (x ||| y) with g | g
  · generalize (a / N * N + M) ||| c = V at k1 k2 ⊢
    generalize a / N ||| c / N = Z at k1 k3
    generalize a ||| c = U at k3 k4 g
    generalize x ||| y = Y at g ⊢
    clear O1 O2 O3 O4 h q1 q2 q3 q4 xa xb yc yd
    rcases hM with ⟨rfl, rfl⟩ | ⟨rfl, rfl⟩ | ⟨rfl, rfl⟩ | ⟨rfl, rfl⟩ | ⟨rfl, rfl⟩ | ⟨rfl, rfl⟩ | ⟨rfl, rfl⟩ <;> omega
  · obtain ⟨e1, e2⟩ := h x y xa xb yc yd g
    have k5 := O1 x y
    have k6 := O3 x y
    rw [e1, e2] at k5
    generalize (a / N * N + M) ||| c = V at k1 k2 ⊢
    generalize a / N ||| c / N = Z at k1 k3 k5
    generalize x ||| y = Y at k5 k6 ⊢
    clear O1 O2 O3 O4 h q1 q2 q3 q4 k3 k4 g
    rcases hM with ⟨rfl, rfl⟩ | ⟨rfl, rfl⟩ | ⟨rfl, rfl⟩ | ⟨rfl, rfl⟩ | ⟨rfl, rfl⟩ | ⟨rfl, rfl⟩ | ⟨rfl, rfl⟩ <;> omega
theorem tr_LoC {a b c d v : Nat} (h : tr_Lo (fun x y => x ||| y) c d a b v) : tr_Lo (fun x y => x ||| y) a b c d v := by
  obtain ⟨h1, x, y, g1, g2, g3, g4, g5⟩ := h
  refine ⟨fun x y xa xb yc yd => ?_, y, x, g3, g4, g1, g2, ?_⟩
  · show v ≤ x ||| y
    rw [Nat.or_comm]
    exact h1 y x yc yd xa xb
  · show y ||| x = v
    rw [Nat.or_comm]
    exact g5
/-! the greatest or -/
def tr_Mo (a b c d N : Nat) : Prop := ∀ x y, a ≤ x → x ≤ b → c ≤ y → y ≤ d → b ||| d ≤ x ||| y → x / N = b / N ∧ y / N = d / N
theorem tr_Mo0 {a b c d : Nat} (h1 : a ≤ b) (hb : b < 128) (h2 : c ≤ d) (hd : d < 128) : tr_Mo a b c d 128 := fun x y xa xb yc yd _ => ⟨by omega, by omega⟩
theorem tr_MoC {a b c d N : Nat} (h : tr_Mo a b c d N) : tr_Mo c d a b N := by
  intro x y xa xb yc yd g
  rw [Nat.or_comm x y, Nat.or_comm d b] at g
  exact ⟨(h y x yc yd xa xb g).2, (h y x yc yd xa xb g).1⟩
theorem tr_Mo1 {a b c d : Nat} (h1 : a ≤ b) (h2 : c ≤ d) (h : tr_Mo a b c d 1) : tr_Hi (fun x y => x ||| y) a b c d (b ||| d) := by
  refine ⟨fun x y xa xb yc yd => ?_, b, d, h1, Nat.le_refl b, h2, Nat.le_refl d, rfl⟩
  show x ||| y ≤ b ||| d
  rcases Nat.lt_or_ge (x ||| y) (b ||| d) with g | g
  · omega
  · have t := h x y xa xb yc yd g
    rw [Nat.div_one, Nat.div_one, Nat.div_one, Nat.div_one] at t
    rw [t.1, t.2]
    exact Nat.le_refl _
theorem tr_Mos {a b c d M N : Nat} (hM : tr_MN M N) (hO : tr_O M N) (h : tr_Mo a b c d N)
    (hs : (b / M % 2 = 1 ∧ d / M % 2 = 1 ∧ b / N * N + (M - 1) < a ∧ d / N * N + (M - 1) < c) ∨ ¬ (b / M % 2 = 1 ∧ d / M % 2 = 1)) : tr_Mo a b c d M := by
  obtain ⟨O1, O2, O3, O4⟩ := hO
  intro x y xa xb yc yd g
  obtain ⟨e1, e2⟩ := h x y xa xb yc yd g
  have k1 := O1 x y
  have k2 := O1 b d
  rw [e1, e2] at k1
  have g2 : (b ||| d) / M ≤ (x ||| y) / M := Nat.div_le_div_right g
  rw [k1, k2] at g2
  clear k1 k2 O1 O2 O3 O4 h g
  generalize b / N ||| d / N = Z at g2
  rcases hs with hs | hs <;> rcases hM with ⟨rfl, rfl⟩ | ⟨rfl, rfl⟩ | ⟨rfl, rfl⟩ | ⟨rfl, rfl⟩ | ⟨rfl, rfl⟩ | ⟨rfl, rfl⟩ | ⟨rfl, rfl⟩ <;> omega
theorem tr_Moe {a b c d M N : Nat} (hM : tr_MN M N) (hO : tr_O M N) (h : tr_Mo a b c d N) (hcd : c ≤ d) (s1 : b / M % 2 = 1) (s2 : d / M % 2 = 1) (s3 : a ≤ b / N * N + (M - 1)) : tr_Hi (fun x y => x ||| y) a b c d ((b / N * N + (M - 1)) ||| d) := by
  obtain ⟨O1, O2, O3, O4⟩ := hO
  have q : b / N * N + (M - 1) ≤ b ∧ (b / N * N + (M - 1)) / N = b / N ∧ (b / N * N + (M - 1)) / M % 2 = 0 ∧ (b / N * N + (M - 1)) % M = M - 1 := by
    clear O1 O2 O3 O4 h
    rcases hM with ⟨rfl, rfl⟩ | ⟨rfl, rfl⟩ | ⟨rfl, rfl⟩ | ⟨rfl, rfl⟩ | ⟨rfl, rfl⟩ | ⟨rfl, rfl⟩ | ⟨rfl, rfl⟩ <;> omega
  obtain ⟨q1, q2, q3, q4⟩ := q
  refine ⟨fun x y xa xb yc yd => ?_, b / N * N + (M - 1), d, s3, q1, hcd, Nat.le_refl d, rfl⟩
  show x ||| y ≤ (b / N * N + (M - 1)) ||| d
  have k1 := O1 (b / N * N + (M - 1)) d
  have k2 := O2 (b / N * N + (M - 1)) d
  rw [q2, q3, s2] at k1
  rw [q4] at k2
  have k3 := O1 b d
  rw [s1, s2] at k3
  rcases Nat.lt_or_ge (x ||| y) (b ||| d) with g | g
  · generalize (b / N * N + (M - 1)) ||| d = V at k1 k2 ⊢
    generalize b / N ||| d / N = Z at k1 k3
    generalize b ||| d = U at k3 g
    generalize x ||| y = Y at g ⊢
    clear O1 O2 O3 O4 h q1 q2 q3 q4 xa xb yc yd
    rcases hM with ⟨rfl, rfl⟩ | ⟨rfl, rfl⟩ | ⟨rfl, rfl⟩ | ⟨rfl, rfl⟩ | ⟨rfl, rfl⟩ | ⟨rfl, rfl⟩ | ⟨rfl, rfl⟩ <;> omega
  · obtain ⟨e1, e2⟩ := h x y xa xb yc yd g
    have k5 := O1 x y
    rw [e1, e2] at k5
    generalize (b / N * N + (M - 1)) ||| d = V at k1 k2 ⊢
    generalize b / N ||| d / N = Z at k1 k3 k5
    generalize x ||| y = Y at k5 ⊢
    clear O1 O2 O3 O4 h q1 q2 q3 q4 k3 g
    rcases hM with ⟨rfl, rfl⟩ | ⟨rfl, rfl⟩ | ⟨rfl, rfl⟩ | ⟨rfl, rfl⟩ | ⟨rfl, rfl⟩ | ⟨rfl, rfl⟩ | ⟨rfl, rfl⟩ <;> omega
theorem tr_HiC {a b c d v : Nat} (h : tr_Hi (fun x y => x ||| y) c d a b v) : tr_Hi (fun x y => x ||| y) a b c d v := by
  obtain ⟨h1, x, y, g1, g2, g3, g4, g5⟩ := h
  refine ⟨fun x y xa xb yc yd => ?_, y, x, g3, g4, g1, g2, ?_⟩
  · show x ||| y ≤ v
    rw [Nat.or_comm]
    exact h1 y x yc yd xa xb
  · show y ||| x = v
    rw [Nat.or_comm]
    exact g5
/-! and, by complement in seven bits -/
theorem tr_and : ∀ x, x < 128 → ∀ y, y < 128 → x &&& y = 127 - ((127 - x) ||| (127 - y)) := by decide +kernel
theorem tr_or7 {x y : Nat} (hx : x < 128) (hy : y < 128) : x ||| y < 128 := Nat.or_lt_two_pow (n := 7) hx hy
theorem tr_xor7 {x y : Nat} (hx : x < 128) (hy : y < 128) : x ^^^ y < 128 := Nat.xor_lt_two_pow (n := 7) hx hy
theorem tr_andLo {p q r s v : Nat} (pq : p ≤ q) (rs : r ≤ s) (hq : q < 128) (hs : s < 128) (h : tr_Hi (fun x y => x ||| y) (127 - q) (127 - p) (127 - s) (127 - r) v) : tr_Lo (fun x y => x &&& y) p q r s (127 - v) := by
  obtain ⟨h1, x, y, g1, g2, g3, g4, g5⟩ := h
  refine ⟨fun x y xa xb yc yd => ?_, 127 - x, 127 - y, by omega, by omega, by omega, by omega, ?_⟩
  · show 127 - v ≤ x &&& y
    have t : (127 - x) ||| (127 - y) ≤ v := h1 (127 - x) (127 - y) (by omega) (by omega) (by omega) (by omega)
    rw [tr_and x (by omega) y (by omega)]
    omega
  · show (127 - x) &&& (127 - y) = 127 - v
    rw [tr_and (127 - x) (by omega) (127 - y) (by omega), show 127 - (127 - x) = x by omega, show 127 - (127 - y) = y by omega, show x ||| y = v from g5]
theorem tr_andHi {p q r s v : Nat} (pq : p ≤ q) (rs : r ≤ s) (hq : q < 128) (hs : s < 128) (h : tr_Lo (fun x y => x ||| y) (127 - q) (127 - p) (127 - s) (127 - r) v) : tr_Hi (fun x y => x &&& y) p q r s (127 - v) := by
  obtain ⟨h1, x, y, g1, g2, g3, g4, g5⟩ := h
  refine ⟨fun x y xa xb yc yd => ?_, 127 - x, 127 - y, by omega, by omega, by omega, by omega, ?_⟩
  · show x &&& y ≤ 127 - v
    have t : v ≤ (127 - x) ||| (127 - y) := h1 (127 - x) (127 - y) (by omega) (by omega) (by omega) (by omega)
    rw [tr_and x (by omega) y (by omega)]
    omega
  · show (127 - x) &&& (127 - y) = 127 - v
    rw [tr_and (127 - x) (by omega) (127 - y) (by omega), show 127 - (127 - x) = x by omega, show 127 - (127 - y) = y by omega, show x ||| y = v from g5]
end
section
/-! ===== pure: pairs of numbers below two ends without a common bit ===== -/
theorem tr_a2 (p q : Nat) : p &&& q = 2 * (p / 2 &&& q / 2) + (p % 2 + q % 2) / 2 := by
  have h1 : (p &&& q) / 2 = p / 2 &&& q / 2 := Nat.and_div_two
  have h2 : (p &&& q) % 2 = 1 ↔ p % 2 = 1 ∧ q % 2 = 1 := Nat.and_mod_two_eq_one
  rw [← h1]
  generalize p &&& q = z at h2 ⊢
  omega
def tr_e (i j : Nat) : Nat := if i &&& j = 0 then 1 else 0
def tr_R (i : Nat) : Nat → Nat
  | 0 => 0
  | n + 1 => tr_R i n + tr_e i n
def tr_G : Nat → Nat → Nat
  | 0, _ => 0
  | m + 1, n => tr_G m n + tr_R m n
theorem tr_eC (i j : Nat) : tr_e i j = tr_e j i := by
  unfold tr_e
  rw [Nat.and_comm]
theorem tr_eS (i j a b : Nat) (ha : a < 2) (hb : b < 2) : tr_e (2 * i + a) (2 * j + b) = if a + b = 2 then 0 else tr_e i j := by
  have h := tr_a2 (2 * i + a) (2 * j + b)
  rw [show (2 * i + a) / 2 = i by omega, show (2 * j + b) / 2 = j by omega, show (2 * i + a) % 2 = a by omega, show (2 * j + b) % 2 = b by omega] at h
  unfold tr_e
  rw [h]
  generalize i &&& j = z
  by_cases g : a + b = 2
  · rw [if_pos g, if_neg (by omega)]
  · rw [if_neg g]
    by_cases z0 : z = 0
    · rw [if_pos z0, if_pos (by omega)]
    · rw [if_neg z0, if_neg (by omega)]
theorem tr_e00 (i j : Nat) : tr_e (2 * i) (2 * j) = tr_e i j := (tr_eS i j 0 0 (by omega) (by omega)).trans (if_neg (by decide))
theorem tr_e01 (i j : Nat) : tr_e (2 * i) (2 * j + 1) = tr_e i j := (tr_eS i j 0 1 (by omega) (by omega)).trans (if_neg (by decide))
theorem tr_e10 (i j : Nat) : tr_e (2 * i + 1) (2 * j) = tr_e i j := (tr_eS i j 1 0 (by omega) (by omega)).trans (if_neg (by decide))
theorem tr_e11 (i j : Nat) : tr_e (2 * i + 1) (2 * j + 1) = 0 := (tr_eS i j 1 1 (by omega) (by omega)).trans (if_pos (by decide))
theorem tr_Rs (i n : Nat) : tr_R i (n + 1) = tr_R i n + tr_e i n := rfl
theorem tr_Gs (m n : Nat) : tr_G (m + 1) n = tr_G m n + tr_R m n := rfl
theorem tr_R0 (i n : Nat) : tr_R (2 * i) (2 * n) = 2 * tr_R i n ∧ tr_R (2 * i + 1) (2 * n) = tr_R i n := by
  induction n with
  | zero => exact ⟨rfl, rfl⟩
  | succ n ih =>
    rw [show 2 * (n + 1) = 2 * n + 1 + 1 by omega, tr_Rs, tr_Rs, tr_Rs, tr_Rs, tr_Rs, ih.1, ih.2, tr_e00, tr_e01, tr_e10, tr_e11]
    omega
theorem tr_Gy (m n : Nat) : tr_G m (n + 1) = tr_G m n + tr_R n m := by
  induction m with
  | zero => rfl
  | succ m ih =>
    rw [tr_Gs, tr_Gs, tr_Rs, tr_Rs, ih, tr_eC n m]
    omega
theorem tr_G0 (m n : Nat) : tr_G (2 * m) (2 * n) = 3 * tr_G m n := by
  induction m with
  | zero => rfl
  | succ m ih =>
    rw [show 2 * (m + 1) = 2 * m + 1 + 1 by omega, tr_Gs, tr_Gs, tr_Gs, ih, (tr_R0 m n).1, (tr_R0 m n).2]
    omega
theorem tr_dpE (X Y p q : Nat) (hp : p = 0 ∨ p = 1) (hq : q = 0 ∨ q = 1) : tr_e (2 * X + p) (2 * Y + q) = if p * q = 1 then 0 else tr_e X Y := by
  rcases hp with rfl | rfl <;> rcases hq with rfl | rfl
  · rw [if_neg (by decide)]
    exact tr_e00 X Y
  · rw [if_neg (by decide)]
    exact tr_e01 X Y
  · rw [if_neg (by decide)]
    exact tr_e10 X Y
  · rw [if_pos (by decide)]
    exact tr_e11 X Y
theorem tr_dpR (X Y p q : Nat) (hp : p = 0 ∨ p = 1) (hq : q = 0 ∨ q = 1) : tr_R (2 * X + p) (2 * Y + q) = (if p = 1 then tr_R X Y else 2 * tr_R X Y) + q * tr_e X Y := by
  have h := tr_R0 X Y
  rcases hp with rfl | rfl <;> rcases hq with rfl | rfl
  · rw [if_neg (by decide)]
    show tr_R (2 * X) (2 * Y) = 2 * tr_R X Y + 0 * tr_e X Y
    omega
  · rw [if_neg (by decide)]
    show tr_R (2 * X) (2 * Y) + tr_e (2 * X) (2 * Y) = 2 * tr_R X Y + 1 * tr_e X Y
    rw [tr_e00]
    omega
  · rw [if_pos (by decide)]
    show tr_R (2 * X + 1) (2 * Y) = tr_R X Y + 0 * tr_e X Y
    omega
  · rw [if_pos (by decide)]
    show tr_R (2 * X + 1) (2 * Y) + tr_e (2 * X + 1) (2 * Y) = tr_R X Y + 1 * tr_e X Y
    rw [tr_e10]
    omega
theorem tr_dpG (X Y p q : Nat) (hp : p = 0 ∨ p = 1) (hq : q = 0 ∨ q = 1) : tr_G (2 * X + p) (2 * Y + q) = 3 * tr_G X Y + 2 * p * tr_R X Y + 2 * q * tr_R Y X + p * q * tr_e X Y := by
  have h := tr_G0 X Y
  have h1 := tr_R0 X Y
  have h2 := tr_R0 Y X
  rcases hp with rfl | rfl <;> rcases hq with rfl | rfl
  · show tr_G (2 * X) (2 * Y) = _
    omega
  · show tr_G (2 * X) (2 * Y + 1) = _
    rw [tr_Gy]
    omega
  · show tr_G (2 * X + 1) (2 * Y) = _
    rw [tr_Gs]
    omega
  · rw [tr_Gs, tr_Gy, tr_Rs, tr_e00]
    omega
theorem tr_Gend (x y : Nat) : tr_G (x + 1) (y + 1) = tr_e x y + tr_R x y + tr_R y x + tr_G x y := by
  rw [tr_Gs, tr_Gy, tr_Rs]
  omega
theorem tr_Rm (i n t : Nat) : tr_R i n ≤ tr_R i (n + t) := by
  induction t with
  | zero => exact Nat.le_refl _
  | succ t ih =>
    rw [← Nat.add_assoc, tr_Rs]
    omega
theorem tr_Gm' (m n t s : Nat) : tr_G m (n + s) + tr_G (m + t) n ≤ tr_G (m + t) (n + s) + tr_G m n := by
  induction t with
  | zero =>
    rw [Nat.add_zero]
    omega
  | succ t ih =>
    rw [← Nat.add_assoc, tr_Gs, tr_Gs]
    have := tr_Rm (m + t) n s
    omega
theorem tr_Gm {m n m' n' : Nat} (hm : m ≤ m') (hn : n ≤ n') : tr_G m n' + tr_G m' n ≤ tr_G m' n' + tr_G m n := by
  obtain ⟨t, rfl⟩ := Nat.exists_eq_add_of_le hm
  obtain ⟨s, rfl⟩ := Nat.exists_eq_add_of_le hn
  exact tr_Gm' m n t s
theorem tr_Gz (m : Nat) : tr_G m 0 = 0 := by
  induction m with
  | zero => rfl
  | succ m ih =>
    rw [tr_Gs, ih]
    rfl
theorem tr_e1 (i j : Nat) : tr_e i j ≤ 1 := by
  unfold tr_e
  split <;> omega
theorem tr_Rb (i n : Nat) : tr_R i n ≤ n := by
  induction n with
  | zero => exact Nat.le_refl _
  | succ n ih =>
    rw [tr_Rs]
    have := tr_e1 i n
    omega
theorem tr_Gb (m n : Nat) : tr_G m n ≤ m * n := by
  induction m with
  | zero => exact Nat.zero_le _
  | succ m ih =>
    rw [tr_Gs, Nat.succ_mul]
    have := tr_Rb m n
    omega
theorem tr_G1 (x y : Nat) : 1 ≤ tr_G (x + 1) (y + 1) := by
  induction x with
  | zero =>
    have h1 : tr_R 0 1 ≤ tr_R 0 (1 + y) := tr_Rm 0 1 y
    have h2 : tr_R 0 1 = 1 := by decide
    rw [tr_Gs, Nat.add_comm y 1]
    omega
  | succ x ih =>
    rw [tr_Gs]
    omega
theorem tr_Gb7 {m n : Nat} (hm : m ≤ 128) (hn : n ≤ 128) : tr_G m n ≤ 16384 := Nat.le_trans (tr_Gb m n) (Nat.mul_le_mul hm hn)
end
section
/-! ===== ints of seven bits ===== -/
theorem nx_and (a b : Nat) : nI a &&& nI b = nI (a &&& b) := by
  apply Int32.toBitVec_inj.1
  show BitVec.ofNat 32 a &&& BitVec.ofNat 32 b = BitVec.ofNat 32 (a &&& b)
  apply BitVec.eq_of_getLsbD_eq
  intro i hi
  simp [hi]
theorem nx_xor (a b : Nat) : nI a ^^^ nI b = nI (a ^^^ b) := by
  apply Int32.toBitVec_inj.1
  show BitVec.ofNat 32 a ^^^ BitVec.ofNat 32 b = BitVec.ofNat 32 (a ^^^ b)
  apply BitVec.eq_of_getLsbD_eq
  intro i hi
  simp [hi]
theorem nx_or (a b : Nat) : nI a ||| nI b = nI (a ||| b) := by
  apply Int32.toBitVec_inj.1
  show BitVec.ofNat 32 a ||| BitVec.ofNat 32 b = BitVec.ofNat 32 (a ||| b)
  apply BitVec.eq_of_getLsbD_eq
  intro i hi
  simp [hi]
theorem tr_p7 {k : Nat} (hk : k < 7) : 0 < 2 ^ k ∧ 2 ^ k < 128 := by
  rcases tr_7 hk with rfl | rfl | rfl | rfl | rfl | rfl | rfl <;> decide
theorem tr_rai : ∀ k, k < 7 → ∀ u, u < 128 → (nI u ||| nI (2 ^ k)) &&& (-nI (2 ^ k)) = nI (u / 2 ^ (k + 1) * 2 ^ (k + 1) + 2 ^ k) := by decide +kernel
theorem tr_low : ∀ k, k < 7 → ∀ u, u < 128 → u / 2 ^ k % 2 = 1 → (nI u - nI (2 ^ k)) ||| (nI (2 ^ k) - 1) = nI (u / 2 ^ (k + 1) * 2 ^ (k + 1) + (2 ^ k - 1)) := by decide +kernel
theorem tr_b1 : ∀ k, k < 7 → ∀ u, u < 128 → nI u &&& nI (2 ^ k) = nI (u / 2 ^ k % 2 * 2 ^ k) := by decide +kernel
theorem tr_b0 : ∀ k, k < 7 → ∀ u, u < 128 → (nI u ^^^ (-1)) &&& nI (2 ^ k) = nI ((1 - u / 2 ^ k % 2) * 2 ^ k) := by decide +kernel
theorem tr_sb : ∀ k, k < 7 → ∀ u, u < 128 → ((nI u).toUInt32 >>> ((nI k).toUInt32 &&& Int32.toUInt32 31)).toInt32 &&& 1 = nI (u / 2 ^ k % 2) := by decide +kernel
theorem tr_cc1 : ∀ k, k < 7 → ∀ p, p < 2 → ∀ q, q < 2 → (nI ((1 - p) * 2 ^ k) &&& nI (q * 2 ^ k) = 0 ↔ ¬ (p = 0 ∧ q = 1)) := by decide +kernel
theorem tr_cc2 : ∀ k, k < 7 → ∀ p, p < 2 → ∀ q, q < 2 → (nI (p * 2 ^ k) &&& nI ((1 - q) * 2 ^ k) = 0 ↔ ¬ (p = 1 ∧ q = 0)) := by decide +kernel
theorem tr_cc3 : ∀ k, k < 7 → ∀ p, p < 2 → ∀ q, q < 2 → (nI (p * 2 ^ k) &&& nI (q * 2 ^ k) = 0 ↔ ¬ (p = 1 ∧ q = 1)) := by decide +kernel
theorem tr_cc4 : ∀ k, k < 7 → ∀ p, p < 2 → (nI (p * 2 ^ k) = 0 ↔ p = 0) := by decide +kernel
theorem tr_a3 (A B C : Int32) : (A &&& B) &&& C = (A &&& C) &&& (B &&& C) := by
  rw [Int32.and_assoc A C, Int32.and_comm C (B &&& C), Int32.and_assoc B C C, Int32.and_self, Int32.and_assoc]
theorem tr_c01 {k u v : Nat} (hk : k < 7) (hu : u < 128) (hv : v < 128) : ((nI u ^^^ (-1)) &&& nI v) &&& nI (2 ^ k) = 0 ↔ ¬ (u / 2 ^ k % 2 = 0 ∧ v / 2 ^ k % 2 = 1) := by
  rw [tr_a3, tr_b0 k hk u hu, tr_b1 k hk v hv]
  exact tr_cc1 k hk _ (Nat.mod_lt _ (by omega)) _ (Nat.mod_lt _ (by omega))
theorem tr_c10 {k u v : Nat} (hk : k < 7) (hu : u < 128) (hv : v < 128) : (nI u &&& (nI v ^^^ (-1))) &&& nI (2 ^ k) = 0 ↔ ¬ (u / 2 ^ k % 2 = 1 ∧ v / 2 ^ k % 2 = 0) := by
  rw [tr_a3, tr_b1 k hk u hu, tr_b0 k hk v hv]
  exact tr_cc2 k hk _ (Nat.mod_lt _ (by omega)) _ (Nat.mod_lt _ (by omega))
theorem tr_c11 {k u v : Nat} (hk : k < 7) (hu : u < 128) (hv : v < 128) : (nI u &&& nI v) &&& nI (2 ^ k) = 0 ↔ ¬ (u / 2 ^ k % 2 = 1 ∧ v / 2 ^ k % 2 = 1) := by
  rw [tr_a3, tr_b1 k hk u hu, tr_b1 k hk v hv]
  exact tr_cc3 k hk _ (Nat.mod_lt _ (by omega)) _ (Nat.mod_lt _ (by omega))
theorem tr_c1 {k u : Nat} (hk : k < 7) (hu : u < 128) : nI u &&& nI (2 ^ k) = 0 ↔ u / 2 ^ k % 2 = 0 := by
  rw [tr_b1 k hk u hu]
  exact tr_cc4 k hk _ (Nat.mod_lt _ (by omega))
/-- the bit of a descending loop: 64, 32, .., 1, 0 -/
def tr_b : Nat → Int32
  | 0 => 0
  | k + 1 => nI (2 ^ k)
theorem tr_bd : ∀ k, k < 7 → nI (2 ^ k) / 2 = tr_b k := by decide +kernel
theorem tr_bp {k : Nat} (hk : k < 7) : ¬ nI (2 ^ k) ≤ 0 := nI_nle (tr_p7 hk).1 (Nat.lt_trans (tr_p7 hk).2 (by omega))
theorem tr_bz : tr_b 0 ≤ 0 := by decide
theorem tr_b64 : (64 : Int32) = tr_b 7 := by decide
theorem tr_127 {x : Nat} (h : x ≤ 127) : 127 - nI x = nI (127 - x) := pk_sub (a := 127) h
theorem tr_rB {k u : Nat} (hk : k < 7) (hu : u < 128) : u / 2 ^ (k + 1) * 2 ^ (k + 1) + 2 ^ k < 256 := by
  have h1 := Nat.div_mul_le_self u (2 ^ (k + 1))
  have h2 := (tr_p7 hk).2
  omega
theorem tr_lB {k u : Nat} (hk : k < 7) (hu : u < 128) : u / 2 ^ (k + 1) * 2 ^ (k + 1) + (2 ^ k - 1) < 256 := by
  have h1 := Nat.div_mul_le_self u (2 ^ (k + 1))
  have h2 := (tr_p7 hk).2
  omega
theorem tr_bit (z : Nat) : z % 2 = 0 ∨ z % 2 = 1 := by omega
end
section
/-! ===== the loops over bits ===== -/
theorem tr_raised {post : Int32 → Prop} {k u : Nat} (hk : k < 7) (hu : u < 128) (h : post (nI (u / 2 ^ (k + 1) * 2 ^ (k + 1) + 2 ^ k))) : wpX_raised post () (nI u) (nI (2 ^ k)) := by
  show post ((nI u ||| nI (2 ^ k)) &&& (-nI (2 ^ k)))
  rw [tr_rai k hk u hu]
  exact h
theorem tr_lowered {post : Int32 → Prop} {k u : Nat} (hk : k < 7) (hu : u < 128) (hb : u / 2 ^ k % 2 = 1) (h : post (nI (u / 2 ^ (k + 1) * 2 ^ (k + 1) + (2 ^ k - 1)))) : wpX_lowered post () (nI u) (nI (2 ^ k)) := by
  show post ((nI u - nI (2 ^ k)) ||| (nI (2 ^ k) - 1))
  rw [tr_low k hk u hu hb]
  exact h
theorem tr_leastXor {post : Int32 → Prop} {a b c d : Nat} (h1 : a ≤ b) (hb : b < 128) (h2 : c ≤ d) (hd : d < 128) (H : ∀ v, tr_Lo (fun x y => x ^^^ y) a b c d v → post (nI v)) : wpX_leastXor post () (nI a) (nI b) (nI c) (nI d) := by
  have L : ∀ (e : Nat) (s : Nat × Nat), (e ≤ 7 ∧ tr_mx a b c d s.1 s.2 (2 ^ e)) → wX_leastXor_10 post (nI b) (nI d) (e + 1) (nI s.1) (nI s.2) (tr_b e) := by
    refine pk_loopD (fun n i (s : Nat × Nat) => wX_leastXor_10 post (nI b) (nI d) n (nI s.1) (nI s.2) (tr_b i)) (fun e s => e ≤ 7 ∧ tr_mx a b c d s.1 s.2 (2 ^ e)) ?_ ?_
    · intro n s h
      refine br_t tr_bz ?_
      rw [nx_xor]
      exact H _ (tr_mx1 h.2)
    · intro n k s h hw
      obtain ⟨u, v⟩ := s
      obtain ⟨hk', h'⟩ := h
      have h : tr_mx a b c d u v (2 ^ (k + 1)) := h'
      have hk : k < 7 := by omega
      have hu : u < 128 := Nat.lt_of_le_of_lt h.2.1 hb
      have hv : v < 128 := Nat.lt_of_le_of_lt h.2.2.2.1 hd
      have hw' : ∀ u' v', tr_mx a b c d u' v' (2 ^ k) → wX_leastXor_10 post (nI b) (nI d) n (nI u') (nI v') (tr_b k) := fun u' v' g => hw (u', v') ⟨by omega, g⟩
      show wX_leastXor_10 post (nI b) (nI d) (n + 1) (nI u) (nI v) (nI (2 ^ k))
      refine br_f (tr_bp hk) (ek_if (tr_c01 hk hu hv) (fun g => ?_) (fun g => ?_))
      · refine ek_if (tr_c10 hk hu hv) (fun g2 => ?_) (fun g2 => ?_)
        · refine ⟨by decide, nm_r (tr_bd k hk) (hw' u v (tr_mxs (tr_mn hk) (tr_hX k) h (Or.inr (Or.inr (Or.inr (Or.inr ⟨?_, rfl, rfl⟩))))))⟩
          have t1 := tr_bit (u / 2 ^ k)
          have t2 := tr_bit (v / 2 ^ k)
          omega
        · have g3 : u / 2 ^ k % 2 = 1 ∧ v / 2 ^ k % 2 = 0 := Decidable.not_not.mp g2
          refine tr_raised hk hv ?_
          refine pk_lt d (v / 2 ^ (k + 1) * 2 ^ (k + 1) + 2 ^ k) (fun z => ?_) (fun z => ?_) rfl rfl (by omega) (Nat.lt_trans (tr_rB hk hv) (by omega))
          · exact ⟨by decide, nm_r (tr_bd k hk) (hw' u v (tr_mxs (tr_mn hk) (tr_hX k) h (Or.inr (Or.inr (Or.inr (Or.inl ⟨g3.1, g3.2, z, rfl, rfl⟩))))))⟩
          · exact ⟨by decide, nm_r (tr_bd k hk) (hw' u (v / 2 ^ (k + 1) * 2 ^ (k + 1) + 2 ^ k) (tr_mxs (tr_mn hk) (tr_hX k) h (Or.inr (Or.inr (Or.inl ⟨g3.1, g3.2, z, rfl, rfl⟩)))))⟩
      · have g3 : u / 2 ^ k % 2 = 0 ∧ v / 2 ^ k % 2 = 1 := Decidable.not_not.mp g
        refine tr_raised hk hu ?_
        refine pk_lt b (u / 2 ^ (k + 1) * 2 ^ (k + 1) + 2 ^ k) (fun z => ?_) (fun z => ?_) rfl rfl (by omega) (Nat.lt_trans (tr_rB hk hu) (by omega))
        · exact ⟨by decide, nm_r (tr_bd k hk) (hw' u v (tr_mxs (tr_mn hk) (tr_hX k) h (Or.inr (Or.inl ⟨g3.1, g3.2, z, rfl, rfl⟩))))⟩
        · exact ⟨by decide, nm_r (tr_bd k hk) (hw' (u / 2 ^ (k + 1) * 2 ^ (k + 1) + 2 ^ k) v (tr_mxs (tr_mn hk) (tr_hX k) h (Or.inl ⟨g3.1, g3.2, z, rfl, rfl⟩)))⟩
  exact ⟨8, L 7 (a, c) ⟨by omega, tr_mx0 h1 hb h2 hd⟩⟩
theorem tr_greatestXor {post : Int32 → Prop} {a b c d : Nat} (h1 : a ≤ b) (hb : b < 128) (h2 : c ≤ d) (hd : d < 128) (H : ∀ v, tr_Hi (fun x y => x ^^^ y) a b c d v → post (nI v)) : wpX_greatestXor post () (nI a) (nI b) (nI c) (nI d) := by
  have L : ∀ (e : Nat) (s : Nat × Nat), (e ≤ 7 ∧ tr_Mx a b c d s.1 s.2 (2 ^ e)) → wX_greatestXor_10 post (nI a) (nI c) (e + 1) (nI s.1) (nI s.2) (tr_b e) := by
    refine pk_loopD (fun n i (s : Nat × Nat) => wX_greatestXor_10 post (nI a) (nI c) n (nI s.1) (nI s.2) (tr_b i)) (fun e s => e ≤ 7 ∧ tr_Mx a b c d s.1 s.2 (2 ^ e)) ?_ ?_
    · intro n s h
      refine br_t tr_bz ?_
      rw [nx_xor]
      exact H _ (tr_Mx1 h.2)
    · intro n k s h hw
      obtain ⟨u, v⟩ := s
      obtain ⟨hk', h'⟩ := h
      have h : tr_Mx a b c d u v (2 ^ (k + 1)) := h'
      have hk : k < 7 := by omega
      have hu : u < 128 := Nat.lt_of_le_of_lt h.2.1 hb
      have hv : v < 128 := Nat.lt_of_le_of_lt h.2.2.2.1 hd
      have hw' : ∀ u' v', tr_Mx a b c d u' v' (2 ^ k) → wX_greatestXor_10 post (nI a) (nI c) n (nI u') (nI v') (tr_b k) := fun u' v' g => hw (u', v') ⟨by omega, g⟩
      show wX_greatestXor_10 post (nI a) (nI c) (n + 1) (nI u) (nI v) (nI (2 ^ k))
      refine br_f (tr_bp hk) (ek_if (tr_c11 hk hu hv) (fun g => ?_) (fun g => ?_))
      · exact ⟨by decide, nm_r (tr_bd k hk) (hw' u v (tr_Mxs (tr_mn hk) (tr_hX k) h (Or.inr (Or.inr (Or.inr ⟨g, rfl, rfl⟩)))))⟩
      · have g3 : u / 2 ^ k % 2 = 1 ∧ v / 2 ^ k % 2 = 1 := Decidable.not_not.mp g
        refine tr_lowered hk hu g3.1 (tr_lowered hk hv g3.2 ?_)
        refine pk_lt (u / 2 ^ (k + 1) * 2 ^ (k + 1) + (2 ^ k - 1)) a (fun z => ?_) (fun z => ?_) rfl rfl (Nat.lt_trans (tr_lB hk hu) (by omega)) (by omega)
        · refine pk_lt (v / 2 ^ (k + 1) * 2 ^ (k + 1) + (2 ^ k - 1)) c (fun z2 => ?_) (fun z2 => ?_) rfl rfl (Nat.lt_trans (tr_lB hk hv) (by omega)) (by omega)
          · exact ⟨by decide, nm_r (tr_bd k hk) (hw' u v (tr_Mxs (tr_mn hk) (tr_hX k) h (Or.inr (Or.inr (Or.inl ⟨g3.1, g3.2, z, z2, rfl, rfl⟩)))))⟩
          · exact ⟨by decide, nm_r (tr_bd k hk) (hw' u (v / 2 ^ (k + 1) * 2 ^ (k + 1) + (2 ^ k - 1)) (tr_Mxs (tr_mn hk) (tr_hX k) h (Or.inr (Or.inl ⟨g3.1, g3.2, z, z2, rfl, rfl⟩))))⟩
        · exact ⟨by decide, nm_r (tr_bd k hk) (hw' (u / 2 ^ (k + 1) * 2 ^ (k + 1) + (2 ^ k - 1)) v (tr_Mxs (tr_mn hk) (tr_hX k) h (Or.inl ⟨g3.1, g3.2, z, rfl, rfl⟩)))⟩
  exact ⟨8, L 7 (b, d) ⟨by omega, tr_Mx0 h1 hb h2 hd⟩⟩
theorem tr_leastOr {post : Int32 → Prop} {a b c d : Nat} (h1 : a ≤ b) (hb : b < 128) (h2 : c ≤ d) (hd : d < 128) (H : ∀ v, tr_Lo (fun x y => x ||| y) a b c d v → post (nI v)) : wpX_leastOr post () (nI a) (nI b) (nI c) (nI d) := by
  have ha : a < 128 := by omega
  have hc : c < 128 := by omega
  have L : ∀ (e : Nat) (s : Unit), (e ≤ 7 ∧ tr_mo a b c d (2 ^ e)) → wX_leastOr_4 post (nI a) (nI b) (nI c) (nI d) (e + 1) (tr_b e) := by
    refine pk_loopD (fun n i (s : Unit) => wX_leastOr_4 post (nI a) (nI b) (nI c) (nI d) n (tr_b i)) (fun e s => e ≤ 7 ∧ tr_mo a b c d (2 ^ e)) ?_ ?_
    · intro n s h
      refine br_t tr_bz ?_
      rw [nx_or]
      exact H _ (tr_mo1 h1 h2 h.2)
    · intro n k s h' hw
      obtain ⟨hk', h⟩ := h'
      have hk : k < 7 := by omega
      have hw' : tr_mo a b c d (2 ^ k) → wX_leastOr_4 post (nI a) (nI b) (nI c) (nI d) n (tr_b k) := fun g => hw () ⟨by omega, g⟩
      show wX_leastOr_4 post (nI a) (nI b) (nI c) (nI d) (n + 1) (nI (2 ^ k))
      refine br_f (tr_bp hk) (ek_if (tr_c01 hk ha hc) (fun g => ?_) (fun g => ?_))
      · refine ek_if (tr_c10 hk ha hc) (fun g2 => ?_) (fun g2 => ?_)
        · refine ⟨by decide, nm_r (tr_bd k hk) (hw' (tr_mos (tr_mn hk) (tr_hO k) h (Or.inr (Or.inr ?_))))⟩
          have t1 := tr_bit (a / 2 ^ k)
          have t2 := tr_bit (c / 2 ^ k)
          omega
        · have g3 : a / 2 ^ k % 2 = 1 ∧ c / 2 ^ k % 2 = 0 := Decidable.not_not.mp g2
          refine tr_raised hk hc ?_
          refine pk_lt d (c / 2 ^ (k + 1) * 2 ^ (k + 1) + 2 ^ k) (fun z => ?_) (fun z => ?_) rfl rfl (by omega) (Nat.lt_trans (tr_rB hk hc) (by omega))
          · exact ⟨by decide, nm_r (tr_bd k hk) (hw' (tr_mos (tr_mn hk) (tr_hO k) h (Or.inr (Or.inl ⟨g3.1, g3.2, z⟩))))⟩
          · rw [nx_or, Nat.or_comm]
            exact H _ (tr_LoC (tr_moe (tr_mn hk) (tr_hO k) (tr_moC h) h1 g3.2 g3.1 z))
      · have g3 : a / 2 ^ k % 2 = 0 ∧ c / 2 ^ k % 2 = 1 := Decidable.not_not.mp g
        refine tr_raised hk ha ?_
        refine pk_lt b (a / 2 ^ (k + 1) * 2 ^ (k + 1) + 2 ^ k) (fun z => ?_) (fun z => ?_) rfl rfl (by omega) (Nat.lt_trans (tr_rB hk ha) (by omega))
        · exact ⟨by decide, nm_r (tr_bd k hk) (hw' (tr_mos (tr_mn hk) (tr_hO k) h (Or.inl ⟨g3.1, g3.2, z⟩)))⟩
        · rw [nx_or]
          exact H _ (tr_moe (tr_mn hk) (tr_hO k) h h2 g3.1 g3.2 z)
  exact ⟨8, L 7 () ⟨by omega, tr_mo0 h1 hb h2 hd⟩⟩
theorem tr_greatestOr {post : Int32 → Prop} {a b c d : Nat} (h1 : a ≤ b) (hb : b < 128) (h2 : c ≤ d) (hd : d < 128) (H : ∀ v, tr_Hi (fun x y => x ||| y) a b c d v → post (nI v)) : wpX_greatestOr post () (nI a) (nI b) (nI c) (nI d) := by
  have L : ∀ (e : Nat) (s : Unit), (e ≤ 7 ∧ tr_Mo a b c d (2 ^ e)) → wX_greatestOr_4 post (nI a) (nI b) (nI c) (nI d) (e + 1) (tr_b e) := by
    refine pk_loopD (fun n i (s : Unit) => wX_greatestOr_4 post (nI a) (nI b) (nI c) (nI d) n (tr_b i)) (fun e s => e ≤ 7 ∧ tr_Mo a b c d (2 ^ e)) ?_ ?_
    · intro n s h
      refine br_t tr_bz ?_
      rw [nx_or]
      exact H _ (tr_Mo1 h1 h2 h.2)
    · intro n k s h' hw
      obtain ⟨hk', h⟩ := h'
      have hk : k < 7 := by omega
      have hw' : tr_Mo a b c d (2 ^ k) → wX_greatestOr_4 post (nI a) (nI b) (nI c) (nI d) n (tr_b k) := fun g => hw () ⟨by omega, g⟩
      show wX_greatestOr_4 post (nI a) (nI b) (nI c) (nI d) (n + 1) (nI (2 ^ k))
      refine br_f (tr_bp hk) (ek_if (tr_c11 hk hb hd) (fun g => ?_) (fun g => ?_))
      · exact ⟨by decide, nm_r (tr_bd k hk) (hw' (tr_Mos (tr_mn hk) (tr_hO k) h (Or.inr g)))⟩
      · have g3 : b / 2 ^ k % 2 = 1 ∧ d / 2 ^ k % 2 = 1 := Decidable.not_not.mp g
        refine tr_lowered hk hb g3.1 (tr_lowered hk hd g3.2 ?_)
        refine pk_lt (b / 2 ^ (k + 1) * 2 ^ (k + 1) + (2 ^ k - 1)) a (fun z => ?_) (fun z => ?_) rfl rfl (Nat.lt_trans (tr_lB hk hb) (by omega)) (by omega)
        · refine pk_lt (d / 2 ^ (k + 1) * 2 ^ (k + 1) + (2 ^ k - 1)) c (fun z2 => ?_) (fun z2 => ?_) rfl rfl (Nat.lt_trans (tr_lB hk hd) (by omega)) (by omega)
          · exact ⟨by decide, nm_r (tr_bd k hk) (hw' (tr_Mos (tr_mn hk) (tr_hO k) h (Or.inl ⟨g3.1, g3.2, z, z2⟩)))⟩
          · rw [nx_or, Nat.or_comm]
            exact H _ (tr_HiC (tr_Moe (tr_mn hk) (tr_hO k) (tr_MoC h) h1 g3.2 g3.1 z2))
        · rw [nx_or]
          exact H _ (tr_Moe (tr_mn hk) (tr_hO k) h h2 g3.1 g3.2 z)
  exact ⟨8, L 7 () ⟨by omega, tr_Mo0 h1 hb h2 hd⟩⟩
end
section
/-! ===== pure: tight ranges of the plain arithmetic ===== -/
def tr_T (f : Nat → Nat → Nat) (p q r s lo hi : Nat) : Prop := tr_Lo f p q r s lo ∧ tr_Hi f p q r s hi
theorem tr_Tle {f : Nat → Nat → Nat} {p q r s lo hi : Nat} (h : tr_T f p q r s lo hi) : lo ≤ hi := by
  obtain ⟨⟨_, x, y, g1, g2, g3, g4, g5⟩, h2, _⟩ := h
  rw [← g5]
  exact h2 x y g1 g2 g3 g4
theorem tr_sum {p q r s t : Nat} (pq : p ≤ q) (rs : r ≤ s) (h1 : p + r ≤ t) (h2 : t ≤ q + s) : ∃ x y, p ≤ x ∧ x ≤ q ∧ r ≤ y ∧ y ≤ s ∧ x + y = t := by
  rcases Nat.lt_or_ge (q + r) t with g | g
  · exact ⟨q, t - q, by omega, by omega, by omega, by omega, by omega⟩
  · exact ⟨t - r, r, by omega, by omega, by omega, by omega, by omega⟩
theorem tr_dif {p q r s t : Nat} (pq : p ≤ q) (rs : r ≤ s) (s7 : s ≤ 127) (h1 : p + 128 - s ≤ t) (h2 : t ≤ q + 128 - r) : ∃ x y, p ≤ x ∧ x ≤ q ∧ r ≤ y ∧ y ≤ s ∧ x + 128 - y = t := by
  rcases Nat.lt_or_ge (q + 128 - s) t with g | g
  · exact ⟨q, q + 128 - t, by omega, by omega, by omega, by omega, by omega⟩
  · exact ⟨t + s - 128, s, by omega, by omega, by omega, by omega, by omega⟩
theorem tr_Tmod {g : Nat → Nat → Nat} {p q r s F T : Nat} (hb : ∀ x y, p ≤ x → x ≤ q → r ≤ y → y ≤ s → F ≤ g x y ∧ g x y ≤ T) (he : ∀ t, F ≤ t → t ≤ T → ∃ x y, p ≤ x ∧ x ≤ q ∧ r ≤ y ∧ y ≤ s ∧ g x y = t) (hFT : F ≤ T) (hT : T < 256) :
    (T < 128 → tr_T (fun x y => g x y % 128) p q r s F T) ∧ (128 ≤ F → tr_T (fun x y => g x y % 128) p q r s (F - 128) (T - 128)) ∧ (F < 128 → 128 ≤ T → tr_T (fun x y => g x y % 128) p q r s 0 127) := by
  have E : ∀ t v, F ≤ t → t ≤ T → t % 128 = v → ∃ x y, p ≤ x ∧ x ≤ q ∧ r ≤ y ∧ y ≤ s ∧ g x y % 128 = v := by
    intro t v h1 h2 h3
    obtain ⟨x, y, a, b, c, d, e⟩ := he t h1 h2
    exact ⟨x, y, a, b, c, d, by rw [e]; exact h3⟩
  refine ⟨fun h => ⟨⟨fun x y a b c d => ?_, E F F (by omega) (by omega) (by omega)⟩, fun x y a b c d => ?_, E T T (by omega) (by omega) (by omega)⟩, fun h => ⟨⟨fun x y a b c d => ?_, E F (F - 128) (by omega) (by omega) (by omega)⟩, fun x y a b c d => ?_, E T (T - 128) (by omega) (by omega) (by omega)⟩, fun h h' => ⟨⟨fun x y a b c d => ?_, E 128 0 (by omega) (by omega) (by omega)⟩, fun x y a b c d => ?_, E 127 127 (by omega) (by omega) (by omega)⟩⟩
  · have t := hb x y a b c d
    show F ≤ g x y % 128
    omega
  · have t := hb x y a b c d
    show g x y % 128 ≤ T
    omega
  · have t := hb x y a b c d
    show F - 128 ≤ g x y % 128
    omega
  · have t := hb x y a b c d
    show g x y % 128 ≤ T - 128
    omega
  · exact Nat.zero_le _
  · show g x y % 128 ≤ 127
    omega
theorem tr_Tadd {p q r s : Nat} (pq : p ≤ q) (q7 : q ≤ 127) (rs : r ≤ s) (s7 : s ≤ 127) :
    (q + s < 128 → tr_T (fun x y => (x + y) % 128) p q r s (p + r) (q + s)) ∧ (128 ≤ p + r → tr_T (fun x y => (x + y) % 128) p q r s (p + r - 128) (q + s - 128)) ∧ (p + r < 128 → 128 ≤ q + s → tr_T (fun x y => (x + y) % 128) p q r s 0 127) :=
  tr_Tmod (g := fun x y => x + y) (fun x y a b c d => ⟨Nat.add_le_add a c, Nat.add_le_add b d⟩) (fun t h1 h2 => tr_sum pq rs h1 h2) (by omega) (by omega)
theorem tr_Tsub {p q r s : Nat} (pq : p ≤ q) (q7 : q ≤ 127) (rs : r ≤ s) (s7 : s ≤ 127) :
    (q + 128 - r < 128 → tr_T (fun x y => (x + 128 - y) % 128) p q r s (p + 128 - s) (q + 128 - r)) ∧ (128 ≤ p + 128 - s → tr_T (fun x y => (x + 128 - y) % 128) p q r s (p + 128 - s - 128) (q + 128 - r - 128)) ∧ (p + 128 - s < 128 → 128 ≤ q + 128 - r → tr_T (fun x y => (x + 128 - y) % 128) p q r s 0 127) :=
  tr_Tmod (g := fun x y => x + 128 - y) (fun x y a b c d => ⟨by show p + 128 - s ≤ x + 128 - y; omega, by show x + 128 - y ≤ q + 128 - r; omega⟩) (fun t h1 h2 => tr_dif pq rs s7 h1 h2) (by omega) (by omega)
theorem tr_Tmul {p q r s : Nat} (pq : p ≤ q) (rs : r ≤ s) : tr_T (fun x y => x * y / 128) p q r s (p * r / 128) (q * s / 128) :=
  ⟨⟨fun x y a b c d => Nat.div_le_div_right (Nat.mul_le_mul a c), p, r, Nat.le_refl p, pq, Nat.le_refl r, rs, rfl⟩, fun x y a b c d => Nat.div_le_div_right (Nat.mul_le_mul b d), q, s, pq, Nat.le_refl q, rs, Nat.le_refl s, rfl⟩
/-- the quotient, 127 by nothing -/
def tr_q (x y : Nat) : Nat := if y = 0 then 127 else x / y
theorem tr_Tdiv0 {p q r : Nat} (pq : p ≤ q) (hr : r ≤ 0) : tr_T tr_q p q r 0 127 127 := by
  have e : ∀ x y, y ≤ 0 → tr_q x y = 127 := fun x y h => if_pos (by omega)
  exact ⟨⟨fun x y a b c d => by rw [e x y d]; omega, p, 0, Nat.le_refl p, pq, hr, Nat.le_refl 0, e p 0 (Nat.le_refl 0)⟩, fun x y a b c d => by rw [e x y d]; omega, p, 0, Nat.le_refl p, pq, hr, Nat.le_refl 0, e p 0 (Nat.le_refl 0)⟩
theorem tr_Tdiv {p q r s : Nat} (pq : p ≤ q) (q7 : q ≤ 127) (rs : r ≤ s) (hs : 0 < s) : tr_T tr_q p q r s (p / s) (if 0 < r then q / r else 127) := by
  have e : ∀ x y, 0 < y → tr_q x y = x / y := fun x y h => if_neg (by omega)
  have e0 : ∀ x, tr_q x 0 = 127 := fun x => if_pos rfl
  have sf : ∀ x y : Nat, x / y ≤ x := Nat.div_le_self
  refine ⟨⟨fun x y a b c d => ?_, p, s, Nat.le_refl p, pq, rs, Nat.le_refl s, e p s hs⟩, fun x y a b c d => ?_, ?_⟩
  · rcases Nat.eq_zero_or_pos y with h | h
    · rw [h, e0]
      have := sf p s
      omega
    · rw [e x y h]
      exact Nat.div_le_div a d (by omega)
  · by_cases h : 0 < r
    · rw [if_pos h, e x y (by omega)]
      exact Nat.div_le_div b c (by omega)
    · rw [if_neg h]
      rcases Nat.eq_zero_or_pos y with h | h
      · rw [h, e0]
        omega
      · rw [e x y h]
        have := sf x y
        omega
  · by_cases h : 0 < r
    · rw [if_pos h]
      exact ⟨q, r, pq, Nat.le_refl q, Nat.le_refl r, rs, e q r h⟩
    · rw [if_neg h]
      exact ⟨q, 0, pq, Nat.le_refl q, by omega, by omega, e0 q⟩
/-- the greater one, the lesser one, the distance -/
def tr_g (x y : Nat) : Nat := if x ≤ y then y else x
def tr_l (x y : Nat) : Nat := if y ≤ x then y else x
def tr_d (x y : Nat) : Nat := if x ≤ y then y - x else x - y
theorem tr_gE (x y : Nat) : (x ≤ y ∧ tr_g x y = y) ∨ (y < x ∧ tr_g x y = x) := by
  unfold tr_g
  by_cases h : x ≤ y
  · exact Or.inl ⟨h, if_pos h⟩
  · exact Or.inr ⟨by omega, if_neg h⟩
theorem tr_lE (x y : Nat) : (y ≤ x ∧ tr_l x y = y) ∨ (x < y ∧ tr_l x y = x) := by
  unfold tr_l
  by_cases h : y ≤ x
  · exact Or.inl ⟨h, if_pos h⟩
  · exact Or.inr ⟨by omega, if_neg h⟩
theorem tr_dE (x y : Nat) : (x ≤ y ∧ tr_d x y = y - x) ∨ (y < x ∧ tr_d x y = x - y) := by
  unfold tr_d
  by_cases h : x ≤ y
  · exact Or.inl ⟨h, if_pos h⟩
  · exact Or.inr ⟨by omega, if_neg h⟩
theorem tr_Tmax {p q r s : Nat} (pq : p ≤ q) (rs : r ≤ s) : tr_T tr_g p q r s (tr_g p r) (tr_g q s) := by
  refine ⟨⟨fun x y a b c d => ?_, p, r, Nat.le_refl p, pq, Nat.le_refl r, rs, rfl⟩, fun x y a b c d => ?_, q, s, pq, Nat.le_refl q, rs, Nat.le_refl s, rfl⟩
  · have h1 := tr_gE p r
    have h2 := tr_gE x y
    omega
  · have h1 := tr_gE q s
    have h2 := tr_gE x y
    omega
theorem tr_Tdis {p q r s lo hi : Nat} (pq : p ≤ q) (rs : r ≤ s) (hl : (s < p ∧ lo = p - s) ∨ (q < r ∧ lo = r - q) ∨ (p ≤ s ∧ r ≤ q ∧ lo = 0)) (hh : (q + p ≤ s + r ∧ p ≤ s ∧ hi = s - p) ∨ (s + r < q + p ∧ r ≤ q ∧ hi = q - r)) : tr_T tr_d p q r s lo hi := by
  refine ⟨⟨fun x y a b c d => ?_, ?_⟩, fun x y a b c d => ?_, ?_⟩
  · have h2 := tr_dE x y
    omega
  · rcases hl with h | h | h
    · exact ⟨p, s, Nat.le_refl p, pq, rs, Nat.le_refl s, by have h2 := tr_dE p s; omega⟩
    · exact ⟨q, r, pq, Nat.le_refl q, Nat.le_refl r, rs, by have h2 := tr_dE q r; omega⟩
    · rcases Nat.lt_or_ge p r with g | g
      · exact ⟨r, r, by omega, by omega, by omega, by omega, by have h2 := tr_dE r r; omega⟩
      · exact ⟨p, p, by omega, by omega, by omega, by omega, by have h2 := tr_dE p p; omega⟩
  · have h2 := tr_dE x y
    omega
  · rcases hh with h | h
    · exact ⟨p, s, Nat.le_refl p, pq, rs, Nat.le_refl s, by have h2 := tr_dE p s; omega⟩
    · exact ⟨q, r, pq, Nat.le_refl q, Nat.le_refl r, rs, by have h2 := tr_dE q r; omega⟩
/-! ===== the law's own working ===== -/
def tr_wk (k : Nat) (f : Nat → Nat → Nat) : Prop := ∀ (post : Int32 → Prop) (x y : Nat), x ≤ 127 → y ≤ 127 → post (nI (f x y)) → wpL_worked post () (nI k) (nI x) (nI y)
theorem tr_addm (x y : Nat) (hx : x ≤ 127) (hy : y ≤ 127) : (nI x + nI y) &&& 127 = nI ((x + y) % 128) := by
  rw [nI_add, pk_andN (show x + y < 2 ^ 32 by omega) 7 (by decide)]
theorem tr_subm (x y : Nat) (hx : x ≤ 127) (hy : y ≤ 127) : (nI x - nI y) &&& 127 = nI ((x + 128 - y) % 128) := by
  have e : (nI x - nI y).toBitVec.toNat = (2 ^ 32 - y + x) % 2 ^ 32 := by
    rw [Int32.toBitVec_sub, BitVec.toNat_sub, pk_tn (show x < 2 ^ 32 by omega), pk_tn (show y < 2 ^ 32 by omega)]
  rw [pk_and (nI x - nI y) 7 (by decide), e]
  have e2 : (2 ^ 32 - y + x) % 2 ^ 32 % 2 ^ 7 = (x + 128 - y) % 128 := by omega
  rw [e2]
theorem tr_mulm (x y : Nat) (hx : x ≤ 127) (hy : y ≤ 127) : (nI x * nI y) >>> ((7 : Int32) &&& 31) = nI (x * y / 128) := by
  have := Nat.mul_le_mul hx hy
  rw [pk_mul, pk_shrN (show x * y < 2 ^ 31 by omega) _ 7 (by decide)]
theorem tr_w0 : tr_wk 0 (fun x y => (x + y) % 128) := fun post x y hx hy h => br_t rfl (by rw [tr_addm x y hx hy]; exact h)
theorem tr_w1 : tr_wk 1 (fun x y => (x + 128 - y) % 128) := fun post x y hx hy h => br_f (by decide) (br_t rfl (by rw [tr_subm x y hx hy]; exact h))
theorem tr_w2 : tr_wk 2 (fun x y => x &&& y) := fun post x y hx hy h => br_f (by decide) (br_f (by decide) (br_f (by decide) (br_t rfl (by rw [nx_and]; exact h))))
theorem tr_w3 : tr_wk 3 (fun x y => x ||| y) := fun post x y hx hy h => br_f (by decide) (br_f (by decide) (br_f (by decide) (br_f (by decide) (br_t rfl (by rw [nx_or]; exact h)))))
theorem tr_w4 : tr_wk 4 (fun x y => x ^^^ y) := fun post x y hx hy h => br_f (by decide) (br_f (by decide) (br_f (by decide) (br_f (by decide) (br_f (by decide) (by rw [nx_xor]; exact h)))))
theorem tr_w5 : tr_wk 5 (fun x y => x * y / 128) := fun post x y hx hy h => br_f (by decide) (br_f (by decide) (br_t (by decide) (br_t rfl (by rw [tr_mulm x y hx hy]; exact h))))
theorem tr_w6 : tr_wk 6 tr_q := fun post x y hx hy h => br_f (by decide) (br_f (by decide) (br_t (by decide) (br_f (by decide) (br_t rfl (pk_eq y 0 (fun z => by
  have e : tr_q x y = 127 := if_pos z
  rw [e] at h
  exact h) (fun z => ⟨nI_ne0 (by omega) (by omega), by
  have e : tr_q x y = x / y := if_neg z
  rw [e] at h
  rw [pk_div (by omega) (by omega) (by omega)]
  exact h⟩))))))
theorem tr_w7 : tr_wk 7 tr_g := fun post x y hx hy h => br_f (by decide) (br_f (by decide) (br_t (by decide) (br_f (by decide) (br_f (by decide) (br_t rfl (pk_le x y (fun z => by
  have e : tr_g x y = y := if_pos z
  rw [e] at h
  exact h) (fun z => by
  have e : tr_g x y = x := if_neg (by omega)
  rw [e] at h
  exact h)))))))
theorem tr_w8 : tr_wk 8 tr_d := fun post x y hx hy h => br_f (by decide) (br_f (by decide) (br_t (by decide) (br_f (by decide) (br_f (by decide) (br_f (by decide) (pk_le x y (fun z => by
  have e : tr_d x y = y - x := if_pos z
  rw [e] at h
  rw [pk_sub z]
  exact h) (fun z => by
  have e : tr_d x y = x - y := if_neg (by omega)
  rw [e] at h
  rw [pk_sub (by omega)]
  exact h)))))))
end
section
/-! ===== small methods ===== -/
theorem tr_reg {post : Int32 → Prop} {j : Nat} (hj : j < 6) (h : post 1) : wpX_isRegister post () (nI j) := pk_lt j 0 (fun z => absurd z (by omega)) (fun _ => pk_lt 5 j (fun z => absurd z (by omega)) (fun _ => h))
theorem tr_lowOf {post : Int32 → Prop} {nl nh : Int32} {a1 a2 : Nat → Int32} {j : Nat} (hj : j < 6) (h : post (a1 j)) : wpX_low post (nl, nh, a1, a2) (nI j) := by
  unfold wpX_low
  dsimp only
  refine tr_reg hj (br_f (by decide) ⟨pk_in j 6 hj, ?_⟩)
  rw [nI_clamp (show j < 2 ^ 31 by omega)]
  exact h
theorem tr_highOf {post : Int32 → Prop} {nl nh : Int32} {a1 a2 : Nat → Int32} {j : Nat} (hj : j < 6) (h : post (a2 j)) : wpX_high post (nl, nh, a1, a2) (nI j) := by
  unfold wpX_high
  dsimp only
  refine tr_reg hj (br_f (by decide) ⟨pk_in j 6 hj, ?_⟩)
  rw [nI_clamp (show j < 2 ^ 31 by omega)]
  exact h
theorem tr_greater {post : Int32 → Prop} {x y : Nat} (hx : x < 2 ^ 31) (hy : y < 2 ^ 31) (h : post (nI (tr_g x y))) : wpX_greater post () (nI x) (nI y) :=
  pk_le x y (fun z => by
    have e : tr_g x y = y := if_pos z
    rw [e] at h
    exact h) (fun z => by
    have e : tr_g x y = x := if_neg (by omega)
    rw [e] at h
    exact h) rfl rfl hx hy
theorem tr_lesser {post : Int32 → Prop} {x y : Nat} (hx : x < 2 ^ 31) (hy : y < 2 ^ 31) (h : post (nI (tr_l x y))) : wpX_lesser post () (nI x) (nI y) :=
  pk_le y x (fun z => by
    have e : tr_l x y = y := if_pos z
    rw [e] at h
    exact h) (fun z => by
    have e : tr_l x y = x := if_neg (by omega)
    rw [e] at h
    exact h) rfl rfl hy hx
/-! ===== the workings of combine ===== -/
section
variable {post : St1 → Prop} {nl nh : Int32} {a1 a2 : Nat → Int32} {a b p q r s : Nat}
theorem tr_76 {F T : Nat} (hT : T < 256) (hF : F ≤ T) (H0 : T < 128 → post (nI F, nI T, a1, a2)) (H1 : 128 ≤ F → post (nI (F - 128), nI (T - 128), a1, a2)) (H2 : F < 128 → 128 ≤ T → post (nI 0, nI 127, a1, a2)) : wX_addOrSubtract_76 post (nI F) (nI T) nl nh a1 a2 := by
  refine pk_le 128 T (fun z => pk_lt F 128 (fun z2 => H2 z2 z) (fun z2 => ?_)) (fun z => H0 z)
  show post (nI F - nI 128, nI T - nI 128, a1, a2)
  rw [pk_sub z2, pk_sub z]
  exact H1 z2
theorem tr_add (ha : a < 6) (hb : b < 6) (e1 : a1 a = nI p) (e2 : a2 a = nI q) (e3 : a1 b = nI r) (e4 : a2 b = nI s) (pq : p ≤ q) (q7 : q ≤ 127) (rs : r ≤ s) (s7 : s ≤ 127) (H : ∀ lo hi, tr_T (fun x y => (x + y) % 128) p q r s lo hi → post (nI lo, nI hi, a1, a2)) : wpX_addOrSubtract post (nl, nh, a1, a2) (nI 0) (nI a) (nI b) := by
  have t := tr_Tadd pq q7 rs s7
  unfold wpX_addOrSubtract
  dsimp only
  refine br_t rfl ⟨pk_in a 6 ha, pk_in b 6 hb, ?_⟩
  unfold wX_addOrSubtract_37
  refine br_t rfl ⟨pk_in a 6 ha, pk_in b 6 hb, ?_⟩
  rw [nI_clamp (show a < 2 ^ 31 by omega), nI_clamp (show b < 2 ^ 31 by omega), e1, e2, e3, e4, nI_add, nI_add]
  exact tr_76 (by omega) (by omega) (fun h => H _ _ (t.1 h)) (fun h => H _ _ (t.2.1 h)) (fun h h' => H _ _ (t.2.2 h h'))
theorem tr_sa (A B C : Int32) : A - B + C = A + C - B := by grind
theorem tr_sb128 {x y : Nat} (h : y ≤ 127) : nI x - nI y + 128 = nI (x + 128 - y) := by
  rw [tr_sa]
  show nI x + nI 128 - nI y = _
  rw [nI_add, pk_sub (by omega)]
theorem tr_subt (ha : a < 6) (hb : b < 6) (e1 : a1 a = nI p) (e2 : a2 a = nI q) (e3 : a1 b = nI r) (e4 : a2 b = nI s) (pq : p ≤ q) (q7 : q ≤ 127) (rs : r ≤ s) (s7 : s ≤ 127) (H : ∀ lo hi, tr_T (fun x y => (x + 128 - y) % 128) p q r s lo hi → post (nI lo, nI hi, a1, a2)) : wpX_addOrSubtract post (nl, nh, a1, a2) (nI 1) (nI a) (nI b) := by
  have t := tr_Tsub pq q7 rs s7
  unfold wpX_addOrSubtract
  dsimp only
  refine br_f (by decide) ⟨pk_in a 6 ha, pk_in b 6 hb, ?_⟩
  unfold wX_addOrSubtract_37
  refine br_f (by decide) ⟨pk_in a 6 ha, pk_in b 6 hb, ?_⟩
  rw [nI_clamp (show a < 2 ^ 31 by omega), nI_clamp (show b < 2 ^ 31 by omega), e1, e2, e3, e4, tr_sb128 s7, tr_sb128 (show r ≤ 127 by omega)]
  exact tr_76 (by omega) (by omega) (fun h => H _ _ (t.1 h)) (fun h => H _ _ (t.2.1 h)) (fun h h' => H _ _ (t.2.2 h h'))
theorem tr_bw2 (pq : p ≤ q) (q7 : q ≤ 127) (rs : r ≤ s) (s7 : s ≤ 127) (H : ∀ lo hi, tr_T (fun x y => x &&& y) p q r s lo hi → post (nI lo, nI hi, a1, a2)) : wpX_bitwise post (nl, nh, a1, a2) (nI 2) (nI p) (nI q) (nI r) (nI s) := by
  unfold wpX_bitwise
  dsimp only
  refine br_f (by decide) (br_t rfl ?_)
  rw [tr_127 q7, tr_127 (show p ≤ 127 by omega), tr_127 s7, tr_127 (show r ≤ 127 by omega)]
  refine tr_leastOr (by omega) (by omega) (by omega) (by omega) (fun v hv => tr_greatestOr (by omega) (by omega) (by omega) (by omega) (fun w hw => ?_))
  have v7 : v ≤ 127 := by
    obtain ⟨_, x, y, g1, g2, g3, g4, g5⟩ := hv
    have := tr_or7 (show x < 128 by omega) (show y < 128 by omega)
    dsimp only at g5
    omega
  have w7 : w ≤ 127 := by
    obtain ⟨_, x, y, g1, g2, g3, g4, g5⟩ := hw
    have := tr_or7 (show x < 128 by omega) (show y < 128 by omega)
    dsimp only at g5
    omega
  show post (127 - nI w, 127 - nI v, a1, a2)
  rw [tr_127 v7, tr_127 w7]
  exact H _ _ ⟨tr_andLo pq rs (by omega) (by omega) hw, tr_andHi pq rs (by omega) (by omega) hv⟩
theorem tr_bw3 (pq : p ≤ q) (q7 : q ≤ 127) (rs : r ≤ s) (s7 : s ≤ 127) (H : ∀ lo hi, tr_T (fun x y => x ||| y) p q r s lo hi → post (nI lo, nI hi, a1, a2)) : wpX_bitwise post (nl, nh, a1, a2) (nI 3) (nI p) (nI q) (nI r) (nI s) := by
  unfold wpX_bitwise
  dsimp only
  exact br_t rfl (tr_leastOr pq (by omega) rs (by omega) (fun v hv => tr_greatestOr pq (by omega) rs (by omega) (fun w hw => H v w ⟨hv, hw⟩)))
theorem tr_bw4 (pq : p ≤ q) (q7 : q ≤ 127) (rs : r ≤ s) (s7 : s ≤ 127) (H : ∀ lo hi, tr_T (fun x y => x ^^^ y) p q r s lo hi → post (nI lo, nI hi, a1, a2)) : wpX_bitwise post (nl, nh, a1, a2) (nI 4) (nI p) (nI q) (nI r) (nI s) := by
  unfold wpX_bitwise
  dsimp only
  exact br_f (by decide) (br_f (by decide) (tr_leastXor pq (by omega) rs (by omega) (fun v hv => tr_greatestXor pq (by omega) rs (by omega) (fun w hw => H v w ⟨hv, hw⟩))))
theorem tr_mul (ha : a < 6) (hb : b < 6) (e1 : a1 a = nI p) (e2 : a2 a = nI q) (e3 : a1 b = nI r) (e4 : a2 b = nI s) (pq : p ≤ q) (q7 : q ≤ 127) (rs : r ≤ s) (s7 : s ≤ 127) (H : ∀ lo hi, tr_T (fun x y => x * y / 128) p q r s lo hi → post (nI lo, nI hi, a1, a2)) : wpX_multiplyOrDivide post (nl, nh, a1, a2) (nI 5) (nI a) (nI b) := by
  unfold wpX_multiplyOrDivide
  dsimp only
  refine br_t rfl ⟨pk_in a 6 ha, pk_in b 6 hb, pk_in a 6 ha, pk_in b 6 hb, ?_⟩
  rw [nI_clamp (show a < 2 ^ 31 by omega), nI_clamp (show b < 2 ^ 31 by omega), e1, e2, e3, e4, tr_mulm p r (by omega) (by omega), tr_mulm q s q7 s7]
  exact H _ _ (tr_Tmul pq rs)
theorem tr_div (ha : a < 6) (hb : b < 6) (e1 : a1 a = nI p) (e2 : a2 a = nI q) (e3 : a1 b = nI r) (e4 : a2 b = nI s) (pq : p ≤ q) (q7 : q ≤ 127) (rs : r ≤ s) (s7 : s ≤ 127) (H : ∀ lo hi, tr_T tr_q p q r s lo hi → post (nI lo, nI hi, a1, a2)) : wpX_multiplyOrDivide post (nl, nh, a1, a2) (nI 6) (nI a) (nI b) := by
  unfold wpX_multiplyOrDivide
  dsimp only
  rw [nI_clamp (show a < 2 ^ 31 by omega), nI_clamp (show b < 2 ^ 31 by omega), e1, e2, e3, e4]
  refine br_f (by decide) ⟨pk_in b 6 hb, pk_eq s 0 (fun z => ?_) (fun z => ⟨pk_in b 6 hb, nm_e ⟨pk_in b 6 hb, nm_e ⟨pk_in a 6 ha, nI_ne0 (by omega) (by omega), pk_le r 0 (fun z2 => ?_) (fun z2 => ⟨pk_in a 6 ha, nI_ne0 (by omega) (by omega), ?_⟩)⟩⟩⟩)⟩
  · subst z
    exact H 127 127 (tr_Tdiv0 pq rs)
  · have t := tr_Tdiv (r := r) pq q7 rs (show 0 < s by omega)
    rw [if_neg (by omega)] at t
    show post (nI p / nI s, nI 127, a1, a2)
    rw [pk_div (by omega) (by omega) (by omega)]
    exact H _ _ t
  · have t := tr_Tdiv (r := r) pq q7 rs (show 0 < s by omega)
    rw [if_pos (by omega)] at t
    show post (nI p / nI s, nI q / nI r, a1, a2)
    rw [pk_div (by omega) (by omega) (by omega), pk_div (by omega) (by omega) (by omega)]
    exact H _ _ t
theorem tr_cmpG (ha : a < 6) (hb : b < 6) (e1 : a1 a = nI p) (e2 : a2 a = nI q) (e3 : a1 b = nI r) (e4 : a2 b = nI s) (pq : p ≤ q) (q7 : q ≤ 127) (rs : r ≤ s) (s7 : s ≤ 127) (H : post (nI (tr_g p r), nI (tr_g q s), a1, a2)) : wpX_compareEnds post (nl, nh, a1, a2) (nI 7) (nI a) (nI b) := by
  unfold wpX_compareEnds
  dsimp only
  rw [nI_clamp (show a < 2 ^ 31 by omega), nI_clamp (show b < 2 ^ 31 by omega), e1, e2, e3, e4]
  exact br_f (by decide) (br_f (by decide) ⟨pk_in a 6 ha, pk_in b 6 hb, tr_greater (by omega) (by omega) ⟨pk_in a 6 ha, pk_in b 6 hb, tr_greater (by omega) (by omega) H⟩⟩)
theorem tr_cmp9 (ha : a < 6) (hb : b < 6) (e1 : a1 a = nI p) (e2 : a2 a = nI q) (e3 : a1 b = nI r) (e4 : a2 b = nI s) (pq : p ≤ q) (q7 : q ≤ 127) (rs : r ≤ s) (s7 : s ≤ 127) (H : post (nI (tr_l p r), nI (tr_g q s), a1, a2)) : wpX_compareEnds post (nl, nh, a1, a2) (nI 9) (nI a) (nI b) := by
  unfold wpX_compareEnds
  dsimp only
  rw [nI_clamp (show a < 2 ^ 31 by omega), nI_clamp (show b < 2 ^ 31 by omega), e1, e2, e3, e4]
  exact br_t rfl ⟨pk_in a 6 ha, pk_in b 6 hb, tr_lesser (by omega) (by omega) ⟨pk_in a 6 ha, pk_in b 6 hb, tr_greater (by omega) (by omega) H⟩⟩
theorem tr_sle {x y u v : Nat} (hx : x ≤ 127) (hy : y ≤ 127) (hu : u ≤ 127) (hv : v ≤ 127) : nI x - nI y ≤ nI u - nI v ↔ x + v ≤ u + y := by
  rw [Int32.le_iff_toInt_le, pk_sub_toInt (by omega) (by omega), pk_sub_toInt (by omega) (by omega)]
  omega
theorem tr_sle0 {x y : Nat} (hx : x ≤ 127) (hy : y ≤ 127) : nI x - nI y ≤ 0 ↔ x ≤ y := by
  have h := tr_sle hx hy (show 0 ≤ 127 by omega) (show 0 ≤ 127 by omega)
  rw [pk_sub (Nat.le_refl 0), Nat.sub_self, nI_0] at h
  rw [h]
  omega
theorem tr_dist (ha : a < 6) (hb : b < 6) (e1 : a1 a = nI p) (e2 : a2 a = nI q) (e3 : a1 b = nI r) (e4 : a2 b = nI s) (pq : p ≤ q) (q7 : q ≤ 127) (rs : r ≤ s) (s7 : s ≤ 127) (H : ∀ lo hi, tr_T tr_d p q r s lo hi → post (nI lo, nI hi, a1, a2)) : wpX_distance post (nl, nh, a1, a2) (nI a) (nI b) := by
  have p7 : p ≤ 127 := by omega
  have r7 : r ≤ 127 := by omega
  unfold wpX_distance
  dsimp only
  rw [nI_clamp (show a < 2 ^ 31 by omega), nI_clamp (show b < 2 ^ 31 by omega), e1, e2, e3, e4]
  refine ⟨pk_in a 6 ha, pk_in b 6 hb, pk_in b 6 hb, pk_in a 6 ha, ?_⟩
  have last : ∀ lo, ((s < p ∧ lo = p - s) ∨ (q < r ∧ lo = r - q) ∨ (p ≤ s ∧ r ≤ q ∧ lo = 0)) → ∀ x : Int32, (∀ hi, ((q + p ≤ s + r ∧ p ≤ s ∧ hi = s - p) ∨ (s + r < q + p ∧ r ≤ q ∧ hi = q - r)) → x = nI hi → post (nI lo, x, a1, a2)) := by
    intro lo hl x hi hh e
    rw [e]
    exact H lo hi (tr_Tdis pq rs hl hh)
  have mid : ∀ x : Int32, (x ≤ 0 → p ≤ s ∧ r ≤ q) → (¬ x ≤ 0 → (s < p ∧ x = nI (p - s)) ∨ (q < r ∧ x = nI (r - q))) → vp_in (nI a) 6 ∧ vp_in (nI b) 6 ∧ vp_in (nI b) 6 ∧ vp_in (nI a) 6 ∧ wpX_greater (fun r_10 => wpX_greater (fun r_11 => post (r_11, r_10, a1, a2)) () x 0) () (nI q - nI r) (nI s - nI p) := by
    intro x h0 h1
    have fin : ∀ hi, ((q + p ≤ s + r ∧ p ≤ s ∧ hi = s - p) ∨ (s + r < q + p ∧ r ≤ q ∧ hi = q - r)) → wpX_greater (fun r_11 => post (r_11, nI hi, a1, a2)) () x 0 := by
      intro hi hh
      refine br_c (fun z => ?_) (fun z => ?_)
      · have := h0 z
        exact last 0 (Or.inr (Or.inr ⟨this.1, this.2, rfl⟩)) _ hi hh rfl
      · rcases h1 z with ⟨g1, g2⟩ | ⟨g1, g2⟩
        · rw [g2]
          exact last (p - s) (Or.inl ⟨g1, rfl⟩) _ hi hh rfl
        · rw [g2]
          exact last (r - q) (Or.inr (Or.inl ⟨g1, rfl⟩)) _ hi hh rfl
    refine ⟨pk_in a 6 ha, pk_in b 6 hb, pk_in b 6 hb, pk_in a 6 ha, ek_if (tr_sle q7 r7 s7 p7) (fun z => ?_) (fun z => ?_)⟩
    · rw [pk_sub (show p ≤ s by omega)]
      exact fin (s - p) (Or.inl ⟨z, by omega, rfl⟩)
    · rw [pk_sub (show r ≤ q by omega)]
      exact fin (q - r) (Or.inr ⟨by omega, by omega, rfl⟩)
  refine ek_if (tr_sle p7 s7 r7 q7) (fun z => ?_) (fun z => ?_)
  · refine mid (nI r - nI q) (fun h => ?_) (fun h => ?_)
    · rw [tr_sle0 r7 q7] at h
      omega
    · rw [tr_sle0 r7 q7] at h
      exact Or.inr ⟨by omega, pk_sub (by omega)⟩
  · refine mid (nI p - nI s) (fun h => ?_) (fun h => ?_)
    · rw [tr_sle0 p7 s7] at h
      omega
    · rw [tr_sle0 p7 s7] at h
      exact Or.inl ⟨by omega, pk_sub (by omega)⟩
end
/-! ===== combine ===== -/
section
variable {post : Int32 → St1 → Prop} {nl nh : Int32} {a1 a2 : Nat → Int32} {a b c p q r s : Nat}
theorem tr_130 {lo hi : Nat} (hc : c < 6) (h1 : lo ≤ hi) (h2 : hi < 2 ^ 31) (H : post 0 (nI lo, nI hi, upd a1 c (nI lo), upd a2 c (nI hi))) : wX_combine_130 post (nI c) (nI lo) (nI hi) a1 a2 := by
  unfold wX_combine_130
  rw [nI_clamp (show c < 2 ^ 31 by omega)]
  exact br_t (nI_le h1 h2) ⟨pk_in c 6 hc, nm_e ⟨pk_in c 6 hc, nm_e H⟩⟩
theorem tr_comb9 (ha : a < 6) (hb : b < 6) (hc : c < 6) (e1 : a1 a = nI p) (e2 : a2 a = nI q) (e3 : a1 b = nI r) (e4 : a2 b = nI s) (pq : p ≤ q) (q7 : q ≤ 127) (rs : r ≤ s) (s7 : s ≤ 127) (H : post 0 (nI (tr_l p r), nI (tr_g q s), upd a1 c (nI (tr_l p r)), upd a2 c (nI (tr_g q s)))) : wpX_combine post (nl, nh, a1, a2) (nI c) (nI 9) (nI a) (nI b) := by
  have h1 := tr_lE p r
  have h2 := tr_gE q s
  unfold wpX_combine
  dsimp only
  refine tr_reg hc (br_f (by decide) (tr_reg ha (br_f (by decide) (tr_reg hb (br_f (by decide) (br_f (by decide) (br_t (by decide) ?_)))))))
  refine br_t (by decide) (br_t (by decide) (br_t (by decide) (br_f (by decide) (tr_cmp9 ha hb e1 e2 e3 e4 pq q7 rs s7 ?_))))
  exact tr_130 hc (by omega) (by omega) H
theorem tr_comb {k : Nat} (hk : k ≤ 8) (ha : a < 6) (hb : b < 6) (hc : c < 6) (e1 : a1 a = nI p) (e2 : a2 a = nI q) (e3 : a1 b = nI r) (e4 : a2 b = nI s) (pq : p ≤ q) (q7 : q ≤ 127) (rs : r ≤ s) (s7 : s ≤ 127)
    (H : ∀ f lo hi, tr_wk k f → tr_T f p q r s lo hi → lo ≤ hi → hi ≤ 127 → post 0 (nI lo, nI hi, upd a1 c (nI lo), upd a2 c (nI hi))) : wpX_combine post (nl, nh, a1, a2) (nI c) (nI k) (nI a) (nI b) := by
  have p7 : p ≤ 127 := by omega
  have r7 : r ≤ 127 := by omega
  have F : ∀ f lo hi, tr_wk k f → (∀ x y, x ≤ 127 → y ≤ 127 → f x y ≤ 127) → tr_T f p q r s lo hi → wX_combine_130 post (nI c) (nI lo) (nI hi) a1 a2 := by
    intro f lo hi hw hf ht
    have h7 : hi ≤ 127 := by
      obtain ⟨_, _, x, y, g1, g2, g3, g4, g5⟩ := ht
      have := hf x y (by omega) (by omega)
      omega
    exact tr_130 hc (tr_Tle ht) (by omega) (H f lo hi hw ht (tr_Tle ht) h7)
  unfold wpX_combine
  dsimp only
  refine tr_reg hc (br_f (by decide) (tr_reg ha (br_f (by decide) (tr_reg hb (br_f (by decide) (br_f (nI_pos (by omega)) (br_t (nI_le (b := 10) (by omega) (by omega)) ?_)))))))
  have h9 : k = 0 ∨ k = 1 ∨ k = 2 ∨ k = 3 ∨ k = 4 ∨ k = 5 ∨ k = 6 ∨ k = 7 ∨ k = 8 := by omega
  rcases h9 with rfl | rfl | rfl | rfl | rfl | rfl | rfl | rfl | rfl
  · exact br_f (by decide) (tr_add ha hb e1 e2 e3 e4 pq q7 rs s7 (fun lo hi ht => F _ lo hi tr_w0 (fun x y hx hy => by show (x + y) % 128 ≤ 127; omega) ht))
  · exact br_f (by decide) (tr_subt ha hb e1 e2 e3 e4 pq q7 rs s7 (fun lo hi ht => F _ lo hi tr_w1 (fun x y hx hy => by show (x + 128 - y) % 128 ≤ 127; omega) ht))
  · refine br_t (by decide) (br_f (by decide) ⟨pk_in a 6 ha, pk_in a 6 ha, pk_in b 6 hb, pk_in b 6 hb, ?_⟩)
    rw [nI_clamp (show a < 2 ^ 31 by omega), nI_clamp (show b < 2 ^ 31 by omega), e1, e2, e3, e4]
    exact tr_bw2 pq q7 rs s7 (fun lo hi ht => F _ lo hi tr_w2 (fun x y hx hy => Nat.le_trans Nat.and_le_left hx) ht)
  · refine br_t (by decide) (br_f (by decide) ⟨pk_in a 6 ha, pk_in a 6 ha, pk_in b 6 hb, pk_in b 6 hb, ?_⟩)
    rw [nI_clamp (show a < 2 ^ 31 by omega), nI_clamp (show b < 2 ^ 31 by omega), e1, e2, e3, e4]
    exact tr_bw3 pq q7 rs s7 (fun lo hi ht => F _ lo hi tr_w3 (fun x y hx hy => Nat.le_of_lt_succ (tr_or7 (Nat.lt_succ_of_le hx) (Nat.lt_succ_of_le hy))) ht)
  · refine br_t (by decide) (br_f (by decide) ⟨pk_in a 6 ha, pk_in a 6 ha, pk_in b 6 hb, pk_in b 6 hb, ?_⟩)
    rw [nI_clamp (show a < 2 ^ 31 by omega), nI_clamp (show b < 2 ^ 31 by omega), e1, e2, e3, e4]
    exact tr_bw4 pq q7 rs s7 (fun lo hi ht => F _ lo hi tr_w4 (fun x y hx hy => Nat.le_of_lt_succ (tr_xor7 (Nat.lt_succ_of_le hx) (Nat.lt_succ_of_le hy))) ht)
  · exact br_t (by decide) (br_t (by decide) (br_f (by decide) (tr_mul ha hb e1 e2 e3 e4 pq q7 rs s7 (fun lo hi ht => F _ lo hi tr_w5 (fun x y hx hy => by
      show x * y / 128 ≤ 127
      have := Nat.mul_le_mul hx hy
      omega) ht))))
  · exact br_t (by decide) (br_t (by decide) (br_f (by decide) (tr_div ha hb e1 e2 e3 e4 pq q7 rs s7 (fun lo hi ht => F _ lo hi tr_w6 (fun x y hx hy => by
      unfold tr_q
      have := Nat.div_le_self x y
      split <;> omega) ht))))
  · exact br_t (by decide) (br_t (by decide) (br_t (by decide) (br_f (by decide) (tr_cmpG ha hb e1 e2 e3 e4 pq q7 rs s7 (F _ _ _ tr_w7 (fun x y hx hy => by
      have := tr_gE x y
      omega) (tr_Tmax pq rs))))))
  · exact br_t (by decide) (br_t (by decide) (br_t (by decide) (br_t (by decide) (tr_dist ha hb e1 e2 e3 e4 pq q7 rs s7 (fun lo hi ht => F _ lo hi tr_w8 (fun x y hx hy => by
      have := tr_dE x y
      omega) ht)))))
end
end
section
/-! ===== the law's tight: two loops, a flag is set or its hit lies ahead ===== -/
def tr_K (a1 a2 : Nat → Int32) : Prop := ∀ j, j < 6 → ∃ l h : Nat, l ≤ h ∧ h ≤ 127 ∧ a1 j = nI l ∧ a2 j = nI h
theorem tr_Kup {a1 a2 : Nat → Int32} {c l h : Nat} (K : tr_K a1 a2) (h1 : l ≤ h) (h2 : h ≤ 127) : tr_K (upd a1 c (nI l)) (upd a2 c (nI h)) := by
  intro j hj
  by_cases e : j = c
  · rw [e]
    exact ⟨l, h, h1, h2, pk_us, pk_us⟩
  · rw [pk_un e, pk_un e]
    exact K j hj
section
variable {post : Int32 → St1 → Prop} {nl nh : Int32} {a1 a2 : Nat → Int32} {f : Nat → Nat → Nat} {k p q r s lo hi : Nat}
theorem tr_179 {J118 J129 : Int32 → Int32 → Int32 → Prop} {x2 x6 x7 x8 x9 x12 x13 z0 : Int32} {j v : Nat} (hv : v < 2 ^ 31) (hh : hi < 2 ^ 31) (H1 : ¬ x12 = 0 ∨ v = hi → J129 z0 1 (nI (j + 1))) (H0 : x12 = 0 → v ≠ hi → J129 z0 0 (nI (j + 1))) :
    wL_tight_179 post J118 J129 x2 x6 x7 x8 x9 (nI hi) x12 x13 (nI j) (nI v) z0 nl nh a1 a2 := by
  refine br_c (fun z => pk_eq v hi (fun g => nm_r (nI_1 j) (H1 (Or.inr g))) (fun g => nm_r (nI_1 j) (H0 z g)) rfl rfl hv hh) (fun z => nm_r (nI_1 j) (H1 (Or.inl z)))
/-- the hit of v lies at or behind place (i, j) -/
def tr_ah (f : Nat → Nat → Nat) (q r s v i j : Nat) : Prop := (∃ y, j ≤ y ∧ y ≤ s ∧ f i y = v) ∨ ∃ x y, i + 1 ≤ x ∧ x ≤ q ∧ r ≤ y ∧ y ≤ s ∧ f x y = v
theorem tr_ahS {q r s v i j : Nat} (h : tr_ah f q r s v i j) (hn : f i j ≠ v) : tr_ah f q r s v i (j + 1) := by
  rcases h with ⟨y, g1, g2, g3⟩ | h
  · refine Or.inl ⟨y, ?_, g2, g3⟩
    rcases Nat.lt_or_ge j y with z | z
    · exact z
    · have e : y = j := by omega
      rw [e] at g3
      exact absurd g3 hn
  · exact Or.inr h
theorem tr_129 {J118 : Int32 → Int32 → Int32 → Prop} {i : Nat} {x7 : Int32} {t : Int32 × Int32} (hw : tr_wk k f) (hb : ∀ y, r ≤ y → y ≤ s → lo ≤ f i y ∧ f i y ≤ hi) (hi7 : hi ≤ 127) (rs : r ≤ s) (s7 : s ≤ 127) (i7 : i ≤ 127)
    (h1 : ¬ t.1 = 0 ∨ tr_ah f q r s lo i r) (h2 : ¬ t.2 = 0 ∨ tr_ah f q r s hi i r)
    (H : ∀ t' : Int32 × Int32, (¬ t'.1 = 0 ∨ ∃ x y, i + 1 ≤ x ∧ x ≤ q ∧ r ≤ y ∧ y ≤ s ∧ f x y = lo) → (¬ t'.2 = 0 ∨ ∃ x y, i + 1 ≤ x ∧ x ≤ q ∧ r ≤ y ∧ y ≤ s ∧ f x y = hi) → J118 t'.1 t'.2 (nI (i + 1))) :
    ∃ n, wL_tight_129 post J118 (nI k) (nI q) x7 (nI s) (nI lo) (nI hi) (nI i) nl nh a1 a2 n t.1 t.2 (nI r) := by
  refine pk_loop (fun n j (t : Int32 × Int32) => wL_tight_129 post J118 (nI k) (nI q) x7 (nI s) (nI lo) (nI hi) (nI i) nl nh a1 a2 n t.1 t.2 (nI j)) (fun j t => r ≤ j ∧ (¬ t.1 = 0 ∨ tr_ah f q r s lo i j) ∧ (¬ t.2 = 0 ∨ tr_ah f q r s hi i j)) (s + 1) r t (by omega) ⟨Nat.le_refl r, h1, h2⟩ ?_ ?_
  · intro n t g
    obtain ⟨_, g1, g2⟩ := g
    have o : ∀ v, tr_ah f q r s v i (s + 1) → ∃ x y, i + 1 ≤ x ∧ x ≤ q ∧ r ≤ y ∧ y ≤ s ∧ f x y = v := by
      intro v h
      rcases h with ⟨y, z1, z2, _⟩ | h
      · exact absurd z1 (by omega)
      · exact h
    exact pk_lt s (s + 1) (fun _ => nm_r (nI_1 i) (H t (g1.imp id (o lo)) (g2.imp id (o hi)))) (fun z => absurd z (by omega))
  · intro n j t hj g hn
    obtain ⟨g0, g1, g2⟩ := g
    have hb' := hb j g0 (by omega)
    have hn' : ∀ x y : Int32, (¬ x = 0 ∨ tr_ah f q r s lo i (j + 1)) → (¬ y = 0 ∨ tr_ah f q r s hi i (j + 1)) → wL_tight_129 post J118 (nI k) (nI q) x7 (nI s) (nI lo) (nI hi) (nI i) nl nh a1 a2 n x y (nI (j + 1)) := fun x y u v => hn (x, y) ⟨by omega, u, v⟩
    have one : ¬ (1 : Int32) = 0 := by decide
    have h179 : ∀ z0 : Int32, (¬ z0 = 0 ∨ tr_ah f q r s lo i (j + 1)) → wL_tight_179 post J118 (wL_tight_129 post J118 (nI k) (nI q) x7 (nI s) (nI lo) (nI hi) (nI i) nl nh a1 a2 n) (nI k) (nI q) x7 (nI s) (nI lo) (nI hi) t.2 (nI i) (nI j) (nI (f i j)) z0 nl nh a1 a2 := by
      intro z0 hz
      refine tr_179 (by omega) (by omega) (fun _ => hn' z0 1 hz (Or.inl one)) (fun e ne => hn' z0 0 hz (Or.inr ?_))
      exact tr_ahS (g2.resolve_left (fun z => z e)) ne
    refine pk_lt s j (fun z => absurd z (by omega)) (fun _ => hw _ i j i7 (by omega) ?_)
    refine pk_lt (f i j) lo (fun z => absurd z (by omega)) (fun _ => pk_le (f i j) hi (fun _ => ?_) (fun z => absurd z (by omega)))
    refine br_c (fun z => pk_eq (f i j) lo (fun e => h179 1 (Or.inl one)) (fun e => h179 0 (Or.inr ?_))) (fun z => h179 1 (Or.inl one))
    exact tr_ahS (g1.resolve_left (fun w => w z)) e
theorem tr_118 (hw : tr_wk k f) (ht : tr_T f p q r s lo hi) (hi7 : hi ≤ 127) (pq : p ≤ q) (q7 : q ≤ 127) (rs : r ≤ s) (s7 : s ≤ 127) (H : post 1 (nl, nh, a1, a2)) :
    ∃ n, wL_tight_118 post (nI k) (nI q) (nI r) (nI s) (nI lo) (nI hi) nl nh a1 a2 n 0 0 (nI p) := by
  obtain ⟨⟨l1, l2⟩, u1, u2⟩ := ht
  refine pk_loop (fun n i (t : Int32 × Int32) => wL_tight_118 post (nI k) (nI q) (nI r) (nI s) (nI lo) (nI hi) nl nh a1 a2 n t.1 t.2 (nI i)) (fun i t => p ≤ i ∧ (¬ t.1 = 0 ∨ ∃ x y, i ≤ x ∧ x ≤ q ∧ r ≤ y ∧ y ≤ s ∧ f x y = lo) ∧ (¬ t.2 = 0 ∨ ∃ x y, i ≤ x ∧ x ≤ q ∧ r ≤ y ∧ y ≤ s ∧ f x y = hi)) (q + 1) p (0, 0) (by omega) ⟨Nat.le_refl p, Or.inr l2, Or.inr u2⟩ ?_ ?_
  · intro n t g
    obtain ⟨_, g1, g2⟩ := g
    have o : ∀ v, ¬ ∃ x y, q + 1 ≤ x ∧ x ≤ q ∧ r ≤ y ∧ y ≤ s ∧ f x y = v := by
      intro v h
      obtain ⟨x, y, z1, z2, _⟩ := h
      omega
    exact pk_lt q (q + 1) (fun _ => br_f (g1.resolve_right (o lo)) (br_f (g2.resolve_right (o hi)) H)) (fun z => absurd z (by omega))
  · intro n i t hi' g hn
    obtain ⟨g0, g1, g2⟩ := g
    have o : ∀ v, (∃ x y, i ≤ x ∧ x ≤ q ∧ r ≤ y ∧ y ≤ s ∧ f x y = v) → tr_ah f q r s v i r := by
      intro v h
      obtain ⟨x, y, z1, z2, z3, z4, z5⟩ := h
      rcases Nat.lt_or_ge i x with w | w
      · exact Or.inr ⟨x, y, w, z2, z3, z4, z5⟩
      · have e : x = i := by omega
        rw [e] at z5
        exact Or.inl ⟨y, z3, z4, z5⟩
    refine pk_lt q i (fun z => absurd z (by omega)) (fun _ => ?_)
    exact tr_129 hw (fun y h1 h2 => ⟨l1 i y g0 (by omega) h1 h2, u1 i y g0 (by omega) h1 h2⟩) hi7 rs s7 (by omega) (g1.imp id (o lo)) (g2.imp id (o hi)) (fun t' a b => hn t' ⟨by omega, a, b⟩)
theorem tr_tight {a b c : Nat} (hk : k ≤ 9) (ha : a < 6) (hb : b < 6) (hc : c < 6) (K : tr_K a1 a2) (H : ∀ nl nh b1 b2, tr_K b1 b2 → post 1 (nl, nh, b1, b2)) : wpL_tight post (nl, nh, a1, a2) (nI c) (nI k) (nI a) (nI b) := by
  obtain ⟨p, q, pq, q7, e1, e2⟩ := K a ha
  obtain ⟨r, s, rs, s7, e3, e4⟩ := K b hb
  unfold wpL_tight
  dsimp only
  refine tr_lowOf ha (tr_highOf ha (tr_lowOf hb (tr_highOf hb ?_)))
  rw [e1, e2, e3, e4]
  rcases Nat.lt_or_ge k 9 with g | g
  · refine tr_comb (by omega) ha hb hc e1 e2 e3 e4 pq q7 rs s7 (fun f lo hi hw ht hlh h7 => ?_)
    refine br_t rfl (tr_lowOf hc (tr_highOf hc ?_))
    dsimp only
    rw [pk_us, pk_us]
    refine br_f ?_ (tr_118 hw ht h7 pq q7 rs s7 (H _ _ _ _ (tr_Kup K hlh h7)))
    show ¬ nI k = nI 9
    rw [nI_eq (by omega) (by omega)]
    omega
  · have e : k = 9 := by omega
    subst e
    have h1 := tr_lE p r
    have h2 := tr_gE q s
    refine tr_comb9 ha hb hc e1 e2 e3 e4 pq q7 rs s7 ?_
    refine br_t rfl (tr_lowOf hc (tr_highOf hc ?_))
    dsimp only
    rw [pk_us, pk_us]
    have F := H (nI (tr_l p r)) (nI (tr_g q s)) _ _ (tr_Kup (c := c) (l := tr_l p r) (h := tr_g q s) K (by omega) (by omega))
    have F99 : ∀ x, x = tr_g q s → wL_tight_99 post (nI x) (nI (tr_g q s)) (nI (tr_l p r)) (nI (tr_g q s)) (upd a1 c (nI (tr_l p r))) (upd a2 c (nI (tr_g q s))) := fun x e => br_t (by rw [e]) F
    have F80 : ∀ x, x = tr_l p r → wL_tight_80 post (nI q) (nI s) (nI (tr_g q s)) (nI x) (nI (tr_l p r)) (nI (tr_l p r)) (nI (tr_g q s)) (upd a1 c (nI (tr_l p r))) (upd a2 c (nI (tr_g q s))) := fun x e => br_t (by rw [e]) (pk_le q s (fun z => F99 s (by omega)) (fun z => F99 q (by omega)))
    exact br_t rfl (pk_le r p (fun z => F80 r (by omega)) (fun z => F80 p (by omega)))
end
end
section
/-! ===== apartUpTo counts ===== -/
theorem tr_ap5 (g r1 r2 e p q : Nat) : (((3 * nI g) + ((2 * nI p) * nI r1)) + ((2 * nI q) * nI r2)) + ((nI p * nI q) * nI e) = nI (3 * g + 2 * p * r1 + 2 * q * r2 + p * q * e) := by
  show nI 3 * nI g + nI 2 * nI p * nI r1 + nI 2 * nI q * nI r2 + nI p * nI q * nI e = _
  rw [pk_mul, pk_mul, pk_mul, pk_mul, pk_mul, pk_mul, pk_mul, nI_add, nI_add, nI_add]
theorem tr_m1 (r q e : Nat) : nI r + nI q * nI e = nI (r + q * e) := by rw [pk_mul, nI_add]
theorem tr_m2 (r q e : Nat) : 2 * nI r + nI q * nI e = nI (2 * r + q * e) := by
  show nI 2 * nI r + nI q * nI e = _
  rw [pk_mul, pk_mul, nI_add]
theorem tr_apS {post : Int32 → Prop} {J : Int32 → Int32 → Int32 → Int32 → Int32 → Prop} {x0 x1 x6 : Int32} {e r1 r2 g p q : Nat} (hp : p = 0 ∨ p = 1) (hq : q = 0 ∨ q = 1)
    (H : J (nI (if p * q = 1 then 0 else e)) (nI ((if p = 1 then r1 else 2 * r1) + q * e)) (nI ((if q = 1 then r2 else 2 * r2) + p * e)) (nI (3 * g + 2 * p * r1 + 2 * q * r2 + p * q * e)) (x6 + (-1))) :
    ∀ x5_6 : Int32, x5_6 = (((3 * nI g) + ((2 * nI p) * nI r1)) + ((2 * nI q) * nI r2)) + ((nI p * nI q) * nI e) → ((nI p = 1 → wX_apartUpTo_87 post J x0 x1 (nI e) (nI r2) x5_6 x6 (nI p) (nI q) (nI r1)) ∧ (¬ nI p = 1 → wX_apartUpTo_87 post J x0 x1 (nI e) (nI r2) x5_6 x6 (nI p) (nI q) (2 * nI r1))) := by
  refine nm_r (tr_ap5 g r1 r2 e p q) ?_
  rcases hp with rfl | rfl <;> rcases hq with rfl | rfl
  · rw [if_neg (by decide), if_neg (by decide), if_neg (by decide)] at H
    exact br_f (by decide) (nm_r (tr_m2 r1 0 e) (br_f (by decide) (nm_r (tr_m2 r2 0 e) (br_f (by decide) (nm_e H)))))
  · rw [if_neg (by decide), if_neg (by decide), if_pos (by decide)] at H
    exact br_f (by decide) (nm_r (tr_m2 r1 1 e) (br_t (by decide) (nm_r (tr_m1 r2 0 e) (br_f (by decide) (nm_e H)))))
  · rw [if_neg (by decide), if_pos (by decide), if_neg (by decide)] at H
    exact br_t (by decide) (nm_r (tr_m1 r1 0 e) (br_f (by decide) (nm_r (tr_m2 r2 1 e) (br_f (by decide) (nm_e H)))))
  · rw [if_pos (by decide), if_pos (by decide), if_pos (by decide)] at H
    exact br_t (by decide) (nm_r (tr_m1 r1 1 e) (br_t (by decide) (nm_r (tr_m1 r2 1 e) (br_t (by decide) (nm_e H)))))
theorem tr_upTo {post : Int32 → Prop} {x y : Nat} (hx : x < 128) (hy : y < 128) (H : post (nI (tr_G (x + 1) (y + 1)))) : wpX_apartUpTo post () (nI x) (nI y) := by
  have L : ∀ (e : Nat) (s : Unit), e ≤ 7 → wX_apartUpTo_24 post (nI x) (nI y) (e + 1) (nI (tr_e (x / 2 ^ e) (y / 2 ^ e))) (nI (tr_R (x / 2 ^ e) (y / 2 ^ e))) (nI (tr_R (y / 2 ^ e) (x / 2 ^ e))) (nI (tr_G (x / 2 ^ e) (y / 2 ^ e))) (nI e + (-1)) := by
    refine pk_loopD (fun n e (s : Unit) => wX_apartUpTo_24 post (nI x) (nI y) n (nI (tr_e (x / 2 ^ e) (y / 2 ^ e))) (nI (tr_R (x / 2 ^ e) (y / 2 ^ e))) (nI (tr_R (y / 2 ^ e) (x / 2 ^ e))) (nI (tr_G (x / 2 ^ e) (y / 2 ^ e))) (nI e + (-1))) (fun e s => e ≤ 7) ?_ ?_
    · intro n s h
      refine br_t (by decide) ?_
      rw [show x / 2 ^ 0 = x from Nat.div_one x, show y / 2 ^ 0 = y from Nat.div_one y, nI_add, nI_add, nI_add, ← tr_Gend]
      exact H
    · intro n k s h hw
      have hk' : k + 1 ≤ 7 := h
      have hk : k < 7 := by omega
      have hw' := hw () (show k ≤ 7 by omega)
      show wX_apartUpTo_24 post (nI x) (nI y) (n + 1) (nI (tr_e (x / 2 ^ (k + 1)) (y / 2 ^ (k + 1)))) (nI (tr_R (x / 2 ^ (k + 1)) (y / 2 ^ (k + 1)))) (nI (tr_R (y / 2 ^ (k + 1)) (x / 2 ^ (k + 1)))) (nI (tr_G (x / 2 ^ (k + 1)) (y / 2 ^ (k + 1)))) (nI (k + 1) + (-1))
      rw [pk_m1]
      have hp := tr_bit (x / 2 ^ k)
      have hq := tr_bit (y / 2 ^ k)
      have ex : x / 2 ^ k = 2 * (x / 2 ^ (k + 1)) + x / 2 ^ k % 2 := by
        rw [tr_h k x]
        omega
      have ey : y / 2 ^ k = 2 * (y / 2 ^ (k + 1)) + y / 2 ^ k % 2 := by
        rw [tr_h k y]
        omega
      refine br_f (nI_pos (by omega)) (nm_r (tr_sb k hk x hx) (nm_r (tr_sb k hk y hy) ?_))
      generalize x / 2 ^ k % 2 = p at hp ex ⊢
      generalize y / 2 ^ k % 2 = q at hq ey ⊢
      rw [ex, ey, tr_dpE _ _ p q hp hq, tr_dpR _ _ p q hp hq, tr_dpR _ _ q p hq hp, tr_dpG _ _ p q hp hq, tr_eC (y / 2 ^ (k + 1)) (x / 2 ^ (k + 1))] at hw'
      exact tr_apS hp hq hw'
  have h0 : x / 2 ^ 7 = 0 := by omega
  have h1 : y / 2 ^ 7 = 0 := by omega
  have t := L 7 () (Nat.le_refl 7)
  rw [h0, h1] at t
  exact br_f (nI_pos (by omega)) (br_t (nI_pos' (by omega)) ⟨8, t⟩)
/-- ends m - 1 and n - 1, either of them possibly -1 -/
theorem tr_upTo1 {post : Int32 → Prop} {m n : Nat} {x y : Int32} (hm : m ≤ 128) (hn : n ≤ 128) (ex : x = nI m - 1) (ey : y = nI n - 1) (H : post (nI (tr_G m n))) : wpX_apartUpTo post () x y := by
  subst ex ey
  cases m with
  | zero => exact br_t (by decide) H
  | succ m =>
    rw [nI_pred]
    cases n with
    | zero =>
      rw [tr_Gz] at H
      exact br_f (nI_pos (by omega)) (br_f (by decide) H)
    | succ n =>
      rw [nI_pred]
      exact tr_upTo (by omega) (by omega) H
theorem tr_apart {post : Int32 → Prop} {nl nh : Int32} {a1 a2 : Nat → Int32} {a b p q r s : Nat} (ha : a < 6) (hb : b < 6) (e1 : a1 a = nI p) (e2 : a2 a = nI q) (e3 : a1 b = nI r) (e4 : a2 b = nI s) (pq : p ≤ q) (q7 : q ≤ 127) (rs : r ≤ s) (s7 : s ≤ 127)
    (H : ∀ n, n < 2 ^ 31 → (p = 0 → r = 0 → 1 ≤ n) → post (nI n)) : wpX_apart post (nl, nh, a1, a2) (nI a) (nI b) := by
  unfold wpX_apart
  dsimp only
  refine tr_reg ha (br_f (by decide) (tr_reg hb (br_f (by decide) ?_)))
  rw [nI_clamp (show a < 2 ^ 31 by omega), nI_clamp (show b < 2 ^ 31 by omega), e1, e2, e3, e4]
  have eq : nI q = nI (q + 1) - 1 := (nI_pred q).symm
  have es : nI s = nI (s + 1) - 1 := (nI_pred s).symm
  refine ⟨pk_in a 6 ha, pk_in b 6 hb, tr_upTo1 (m := q + 1) (n := s + 1) (by omega) (by omega) eq es ⟨pk_in a 6 ha, pk_in b 6 hb, tr_upTo1 (m := p) (n := r) (by omega) (by omega) rfl rfl (nm_r (nI_add _ _) ⟨pk_in a 6 ha, pk_in b 6 hb, tr_upTo1 (m := p) (n := s + 1) (by omega) (by omega) rfl es ⟨pk_in a 6 ha, pk_in b 6 hb, tr_upTo1 (m := q + 1) (n := r) (by omega) (by omega) eq rfl ?_⟩⟩)⟩⟩
  have h1 := tr_Gm (m := p) (n := r) (m' := q + 1) (n' := s + 1) (by omega) (by omega)
  have h2 := tr_Gb7 (m := q + 1) (n := s + 1) (by omega) (by omega)
  have h3 := tr_Gb7 (m := p) (n := r) (by omega) (by omega)
  have h4 := tr_G1 q s
  rw [pk_sub (show tr_G p (s + 1) ≤ tr_G (q + 1) (s + 1) + tr_G p r by omega), pk_sub (show tr_G (q + 1) r ≤ tr_G (q + 1) (s + 1) + tr_G p r - tr_G p (s + 1) by omega)]
  refine H _ (by omega) (fun z1 z2 => ?_)
  subst z1 z2
  have h5 : tr_G 0 (s + 1) = 0 := rfl
  have h6 := tr_Gz (q + 1)
  omega
/-! ===== less ===== -/
theorem tr_less {post : Int32 → Prop} {nl nh : Int32} {a1 a2 : Nat → Int32} {a b p q r s : Nat} (ha : a < 6) (hb : b < 6) (e1 : a1 a = nI p) (e2 : a2 a = nI q) (e3 : a1 b = nI r) (e4 : a2 b = nI s) (pq : p ≤ q) (q7 : q ≤ 127) (rs : r ≤ s) (s7 : s ≤ 127)
    (H1 : q < r → post 1) (H0 : r ≤ q → s ≤ p → post 0) (H2 : r ≤ q → p < s → post 2) : wpX_less post (nl, nh, a1, a2) (nI a) (nI b) := by
  unfold wpX_less
  dsimp only
  refine tr_reg ha (br_f (by decide) (tr_reg hb (br_f (by decide) ?_)))
  rw [nI_clamp (show a < 2 ^ 31 by omega), nI_clamp (show b < 2 ^ 31 by omega), e1, e2, e3, e4]
  exact ⟨pk_in a 6 ha, pk_in b 6 hb, pk_le r q (fun z => ⟨pk_in a 6 ha, pk_in b 6 hb, pk_lt p s (fun z2 => H2 z z2) (fun z2 => H0 z z2)⟩) (fun z => H1 z)⟩
end
section
/-! ===== ones, countOnes ===== -/
def tr_po (x : Nat) : Nat → Nat
  | 0 => 0
  | k + 1 => tr_po x k + x / 2 ^ k % 2
theorem tr_po7 : ∀ x, x < 128 → tr_po x 7 ≤ 7 := by decide +kernel
theorem tr_poR : ∀ k, k < 7 → ∀ u, u < 128 → u / 2 ^ k % 2 = 1 → tr_po (u / 2 ^ (k + 1) * 2 ^ (k + 1) + 2 ^ k) 7 ≤ tr_po u 7 := by decide +kernel
theorem tr_lo7 : ∀ k, k < 7 → ∀ u, u < 128 → u / 2 ^ k % 2 = 1 → u / 2 ^ (k + 1) * 2 ^ (k + 1) + (2 ^ k - 1) < 128 := by decide +kernel
theorem tr_po1 {x i : Nat} (hi : i < 7) (hx : x < 128) : nI (tr_po x i) + (((nI x).toUInt32 >>> ((nI i).toUInt32 &&& Int32.toUInt32 31)).toInt32 &&& 1) = nI (tr_po x (i + 1)) := by
  rw [tr_sb i hi x hx, nI_add]
  rfl
theorem tr_ones {post : Int32 → Prop} {x : Nat} (hx : x < 128) (H : post (nI (tr_po x 7))) : wpX_ones post () (nI x) :=
  pk_loop (σ := Unit) (fun n i _ => wX_ones_4 post (nI x) n (nI (tr_po x i)) (nI i)) (fun _ _ => True) 7 0 () (by omega) trivial
    (fun n _ _ => pk_le 7 7 (fun _ => H) (fun z => absurd z (by omega)))
    (fun n i _ hi _ hw => pk_le 7 i (fun z => absurd z (by omega)) (fun _ => nm_r (tr_po1 hi hx) (nm_r (nI_1 i) (hw () trivial))))
theorem tr_co {p q M N : Nat} (hM : tr_MN M N) (pq : p ≤ q) (e : p / N = q / N) : p / M = q / M ∨ (p / M % 2 = 0 ∧ q / M % 2 = 1 ∧ p / N * N + M ≤ q) := by
  rcases hM with ⟨rfl, rfl⟩ | ⟨rfl, rfl⟩ | ⟨rfl, rfl⟩ | ⟨rfl, rfl⟩ | ⟨rfl, rfl⟩ | ⟨rfl, rfl⟩ | ⟨rfl, rfl⟩ <;> omega
section
variable {post : St1 → Prop} {nl nh : Int32} {a1 a2 : Nat → Int32} {p q : Nat}
theorem tr_63 {J15 : Int32 → Int32 → Int32 → Prop} {l h k : Nat} {w : Int32} (hk : k < 7) (p7 : p < 128) (q7 : q < 128) (h7 : h ≤ 7) (hw : q / 2 ^ k % 2 = 1 → w = nI (q / 2 ^ (k + 1) * 2 ^ (k + 1) + (2 ^ k - 1))) (H : ∀ h', h ≤ h' → h' ≤ 7 → J15 (nI l) (nI h') (tr_b k)) :
    wX_countOnes_63 post J15 (nI p) (nI q) (nI l) (nI h) (nI (2 ^ k)) w nl nh a1 a2 := by
  refine ek_if (tr_c1 hk q7) (fun g => ⟨by decide, nm_r (tr_bd k hk) (H h (Nat.le_refl h) h7)⟩) (fun g => ?_)
  have g1 : q / 2 ^ k % 2 = 1 := (tr_bit (q / 2 ^ k)).resolve_left g
  rw [hw g1]
  have b := tr_lo7 k hk q q7 g1
  refine pk_lt (q / 2 ^ (k + 1) * 2 ^ (k + 1) + (2 ^ k - 1)) p (fun z => ⟨by decide, nm_r (tr_bd k hk) (H h (Nat.le_refl h) h7)⟩) (fun z => ?_) rfl rfl (by omega) (by omega)
  have b2 := tr_po7 _ b
  have b3 := tr_gE h (tr_po (q / 2 ^ (k + 1) * 2 ^ (k + 1) + (2 ^ k - 1)) 7)
  exact tr_ones b (tr_greater (by omega) (by omega) ⟨by decide, nm_r (tr_bd k hk) (H _ (by omega) (by omega))⟩)
theorem tr_countOnes (pq : p ≤ q) (q7 : q ≤ 127) (H : ∀ l h, l ≤ h → h ≤ 127 → post (nI l, nI h, a1, a2)) : wpX_countOnes post (nl, nh, a1, a2) (nI p) (nI q) := by
  have p8 : p < 128 := by omega
  have q8 : q < 128 := by omega
  have pp := tr_po7 p p8
  have pq7 := tr_po7 q q8
  have L : ∀ (e : Nat) (s : Nat × Nat), (e ≤ 7 ∧ s.1 ≤ tr_po p 7 ∧ tr_po q 7 ≤ s.2 ∧ s.2 ≤ 7 ∧ (s.1 ≤ tr_po q 7 ∨ p / 2 ^ e = q / 2 ^ e)) → wX_countOnes_15 post (nI p) (nI q) nl nh a1 a2 (e + 1) (nI s.1) (nI s.2) (tr_b e) := by
    refine pk_loopD (fun n e (s : Nat × Nat) => wX_countOnes_15 post (nI p) (nI q) nl nh a1 a2 n (nI s.1) (nI s.2) (tr_b e)) (fun e s => e ≤ 7 ∧ s.1 ≤ tr_po p 7 ∧ tr_po q 7 ≤ s.2 ∧ s.2 ≤ 7 ∧ (s.1 ≤ tr_po q 7 ∨ p / 2 ^ e = q / 2 ^ e)) ?_ ?_
    · intro n s h
      obtain ⟨l, h'⟩ := s
      obtain ⟨_, g1, g2, g3, g4⟩ := h
      dsimp only at g1 g2 g3 g4
      have g5 : l ≤ h' := by
        rcases g4 with g4 | g4
        · omega
        · have e : p = q := by
            have t1 : p / 2 ^ 0 = p := Nat.div_one p
            have t2 : q / 2 ^ 0 = q := Nat.div_one q
            omega
          rw [e] at g1
          omega
      exact br_t tr_bz (H l h' g5 (by omega))
    · intro n k s h hw
      obtain ⟨l, h'⟩ := s
      obtain ⟨hk', g1, g2, g3, g4⟩ := h
      dsimp only at g1 g2 g3 g4
      have hk : k < 7 := by omega
      have hw' : ∀ l' h', l' ≤ tr_po p 7 → tr_po q 7 ≤ h' → h' ≤ 7 → (l' ≤ tr_po q 7 ∨ p / 2 ^ k = q / 2 ^ k) → wX_countOnes_15 post (nI p) (nI q) nl nh a1 a2 n (nI l') (nI h') (tr_b k) := fun l' h' i1 i2 i3 i4 => hw (l', h') ⟨by omega, i1, i2, i3, i4⟩
      have D : l ≤ tr_po q 7 ∨ p / 2 ^ k = q / 2 ^ k ∨ (p / 2 ^ k % 2 = 0 ∧ q / 2 ^ k % 2 = 1 ∧ p / 2 ^ (k + 1) * 2 ^ (k + 1) + 2 ^ k ≤ q ∧ p / 2 ^ (k + 1) = q / 2 ^ (k + 1)) := by
        rcases g4 with g4 | g4
        · exact Or.inl g4
        · rcases tr_co (tr_mn hk) pq g4 with g5 | ⟨g5, g6, g7⟩
          · exact Or.inr (Or.inl g5)
          · exact Or.inr (Or.inr ⟨g5, g6, g7, g4⟩)
      show wX_countOnes_15 post (nI p) (nI q) nl nh a1 a2 (n + 1) (nI l) (nI h') (nI (2 ^ k))
      have lw := tr_low k hk q q8
      refine br_f (tr_bp hk) (tr_raised hk p8 ?_)
      unfold wpX_lowered
      generalize (nI q - nI (2 ^ k)) ||| (nI (2 ^ k) - 1) = w at lw ⊢
      have C : ∀ l', l' ≤ tr_po p 7 → (l' ≤ tr_po q 7 ∨ p / 2 ^ k = q / 2 ^ k) → wX_countOnes_63 post (wX_countOnes_15 post (nI p) (nI q) nl nh a1 a2 n) (nI p) (nI q) (nI l') (nI h') (nI (2 ^ k)) w nl nh a1 a2 := fun l' i1 i2 => tr_63 hk p8 q8 g3 lw (fun h2 i3 i4 => hw' l' h2 i1 (by omega) i4 i2)
      refine ek_if (tr_c1 hk p8) (fun z => ?_) (fun z => C l g1 ?_)
      · refine pk_lt q (p / 2 ^ (k + 1) * 2 ^ (k + 1) + 2 ^ k) (fun z2 => C l g1 ?_) (fun z2 => ?_) rfl rfl (by omega) (Nat.lt_trans (tr_rB hk p8) (by omega))
        · rcases D with d | d | ⟨_, _, d, _⟩
          · exact Or.inl d
          · exact Or.inr d
          · omega
        · have b2 := tr_po7 (p / 2 ^ (k + 1) * 2 ^ (k + 1) + 2 ^ k) (by omega)
          have b3 := tr_lE l (tr_po (p / 2 ^ (k + 1) * 2 ^ (k + 1) + 2 ^ k) 7)
          refine tr_ones (by omega) (tr_lesser (by omega) (by omega) (C _ (by omega) ?_))
          rcases D with d | d | ⟨_, d1, _, d2⟩
          · exact Or.inl (by omega)
          · exact Or.inr d
          · have b4 := tr_poR k hk q q8 d1
            rw [← d2] at b4
            exact Or.inl (by omega)
      · rcases D with d | d | ⟨d, _⟩
        · exact Or.inl d
        · exact Or.inr d
        · exact absurd d z
  unfold wpX_countOnes
  dsimp only
  exact tr_ones p8 (tr_ones q8 ⟨8, L 7 (tr_po p 7, tr_po q 7) ⟨Nat.le_refl 7, Nat.le_refl _, Nat.le_refl _, pq7, Or.inr (by omega)⟩⟩)
theorem tr_doubled (pq : p ≤ q) (q7 : q ≤ 127) (H : ∀ l h, l ≤ h → h ≤ 127 → post (nI l, nI h, a1, a2)) : wpX_doubled post (nl, nh, a1, a2) (nI p) (nI q) := by
  unfold wpX_doubled
  dsimp only
  refine pk_le 64 q (fun z => pk_lt p 64 (fun z2 => H 0 126 (by omega) (by omega)) (fun z2 => ?_)) (fun z => ?_)
  · show post (nI 2 * nI p - nI 128, nI 2 * nI q - nI 128, a1, a2)
    rw [pk_mul, pk_mul, pk_sub (by omega), pk_sub (by omega)]
    exact H _ _ (by omega) (by omega)
  · show post (nI 2 * nI p, nI 2 * nI q, a1, a2)
    rw [pk_mul, pk_mul]
    exact H _ _ (by omega) (by omega)
end
/-! ===== rootOf ===== -/
theorem tr_root {post : Int32 → Prop} {x : Nat} (hx : x ≤ 127) (H : ∀ o, o < 12 → o * o ≤ x → (∀ j, j < 12 → j * j ≤ x → j ≤ o) → post (nI o)) : wpX_rootOf post () (nI x) := by
  refine pk_loop (fun n i (o : Nat) => wX_rootOf_4 post (nI x) n (nI o) (nI i)) (fun i o => o < i ∧ i ≤ 12 ∧ o * o ≤ x ∧ ∀ j, j < i → j * j ≤ x → j ≤ o) 12 1 0 (by omega) ⟨by omega, by omega, Nat.zero_le x, fun j hj _ => by omega⟩ ?_ ?_
  · intro n o h
    exact pk_le 12 12 (fun _ => H o h.1 h.2.2.1 h.2.2.2) (fun z => absurd z (by omega))
  · intro n i o hi h hw
    obtain ⟨h1, h2, h3, h4⟩ := h
    have hii := Nat.mul_le_mul (show i ≤ 12 by omega) (show i ≤ 12 by omega)
    refine pk_le 12 i (fun z => absurd z (by omega)) (fun _ => pk_lt x (i * i) (fun z => nm_r (nI_1 i) (hw o ⟨by omega, by omega, h3, ?_⟩)) (fun z => nm_r (nI_1 i) (hw i ⟨by omega, by omega, z, fun j hj _ => by omega⟩)) rfl (pk_mul i i) (by omega) (by omega))
    intro j hj hjj
    rcases Nat.lt_or_ge j i with w | w
    · exact h4 j w hjj
    · have e : j = i := by omega
      rw [e] at hjj
      omega
/-! ===== reversed ===== -/
def tr_rv (z : Nat) : Nat → Nat
  | 0 => 0
  | k + 1 => 2 * tr_rv z k + z / 2 ^ k % 2
theorem tr_v1 : ∀ k, k < 7 → (2 : Int32) <<< (nI k &&& 31) = nI (2 ^ (k + 1)) := by decide +kernel
theorem tr_v2 : ∀ k, k < 7 → ∀ w, w < 2 → ∀ b, b < 64 → b < 2 ^ k → nI b ||| (nI w <<< (nI k &&& 31)) = nI (b + w * 2 ^ k) := by decide +kernel
theorem tr_v3 : ∀ k, k < 7 → (nI (2 ^ (k + 1)) - 1).toBitVec.toNat = 2 ^ (k + 1) - 1 := by decide +kernel
theorem tr_v4 {k t x : Nat} (hk : k < 7) (ht : t < 128) (hx : x < 128) : nI x + ((nI t - nI x) &&& (nI (2 ^ (k + 1)) - 1)) = nI (x + (t + 128 - x) % 2 ^ (k + 1)) := by
  have e : (nI t - nI x).toBitVec.toNat = (2 ^ 32 - x + t) % 2 ^ 32 := by
    rw [Int32.toBitVec_sub, BitVec.toNat_sub, pk_tn (show x < 2 ^ 32 by omega), pk_tn (show t < 2 ^ 32 by omega)]
  rw [pk_and (nI t - nI x) (k + 1) (tr_v3 k hk), e, nI_add]
  have e2 : (2 ^ 32 - x + t) % 2 ^ 32 % 2 ^ (k + 1) = (t + 128 - x) % 2 ^ (k + 1) := by
    rcases tr_7 hk with rfl | rfl | rfl | rfl | rfl | rfl | rfl <;> omega
  rw [e2]
theorem tr_k64 : ∀ k, k < 7 → 2 ^ k ≤ 64 := by decide
def tr_ri (p w N b o R : Nat) : Prop := b < N ∧ o < N ∧ ((o = R ∧ p % N = b) ∨ (w = 0 ∧ o < R) ∨ (w = 1 ∧ R < o))
theorem tr_rs {p q w M N b o R : Nat} (hM : tr_MN M N) (pq : p ≤ q) (q7 : q ≤ 127) (hw : w = 0 ∨ w = 1) (h : tr_ri p w M b o R) :
    (p + (b + w * M + 128 - p) % N ≤ q → tr_ri p w N (b + w * M) (2 * o + w) (2 * R + p / M % 2)) ∧ (q < p + (b + w * M + 128 - p) % N → tr_ri p w N (b + (1 - w) * M) (2 * o + (1 - w)) (2 * R + p / M % 2)) := by
  unfold tr_ri at h ⊢
  rcases hw with rfl | rfl <;> rcases hM with ⟨rfl, rfl⟩ | ⟨rfl, rfl⟩ | ⟨rfl, rfl⟩ | ⟨rfl, rfl⟩ | ⟨rfl, rfl⟩ | ⟨rfl, rfl⟩ | ⟨rfl, rfl⟩ <;> refine ⟨fun g => ?_, fun g => ?_⟩ <;> omega
theorem tr_rev {post : Int32 → Prop} {p q w : Nat} (pq : p ≤ q) (q7 : q ≤ 127) (hw : w = 0 ∨ w = 1) (H : ∀ o, o < 128 → (w = 0 → o ≤ tr_rv p 7) → (w = 1 → tr_rv p 7 ≤ o) → post (nI o)) : wpX_reversed post () (nI p) (nI q) (nI w) := by
  refine pk_loop (fun n k (s : Nat × Nat) => wX_reversed_8 post (nI p) (nI q) (nI w) n (nI s.1) (nI s.2) (nI k)) (fun k s => tr_ri p w (2 ^ k) s.1 s.2 (tr_rv p k)) 7 0 (0, 0) (by omega) ⟨by decide, by decide, Or.inl ⟨rfl, Nat.mod_one p⟩⟩ ?_ ?_
  · intro n s h
    obtain ⟨b, o⟩ := s
    obtain ⟨_, h2, h3⟩ := h
    dsimp only at h2 h3
    exact pk_le 7 7 (fun _ => H o h2 (fun z => by omega) (fun z => by omega)) (fun z => absurd z (by omega))
  · intro n k s hk h hn
    obtain ⟨b, o⟩ := s
    have hr : tr_ri p w (2 ^ k) b o (tr_rv p k) := h
    have hn' : ∀ b' o', tr_ri p w (2 ^ (k + 1)) b' o' (2 * tr_rv p k + p / 2 ^ k % 2) → wX_reversed_8 post (nI p) (nI q) (nI w) n (nI b') (nI o') (nI (k + 1)) := fun b' o' g => hn (b', o') g
    have st := tr_rs (tr_mn hk) pq q7 hw hr
    have h55 : ∀ z, z = 0 ∨ z = 1 → tr_ri p w (2 ^ (k + 1)) (b + z * 2 ^ k) (2 * o + z) (2 * tr_rv p k + p / 2 ^ k % 2) → ∀ Z : Int32, Z = nI z → wX_reversed_55 post (wX_reversed_8 post (nI p) (nI q) (nI w) n) (nI p) (nI q) (nI w) (nI b) (nI o) (nI k) Z := by
      intro z hz g Z eZ
      rw [eZ]
      have eo : 2 * nI o + nI z = nI (2 * o + z) := by
        show nI 2 * nI o + nI z = _
        rw [pk_mul, nI_add]
      exact nm_r (tr_v2 k hk z (by omega) b (Nat.lt_of_lt_of_le hr.1 (tr_k64 k hk)) hr.1) (nm_r eo (nm_r (nI_1 k) (hn' _ _ g)))
    have b64 : b < 64 := Nat.lt_of_lt_of_le hr.1 (tr_k64 k hk)
    have wM : w * 2 ^ k ≤ 64 := by
      have := tr_k64 k hk
      rcases hw with rfl | rfl <;> omega
    show wX_reversed_8 post (nI p) (nI q) (nI w) (n + 1) (nI b) (nI o) (nI k)
    refine pk_le 7 k (fun z => absurd z (by omega)) (fun _ => nm_r (tr_v1 k hk) (nm_r (tr_v2 k hk w (by omega) b b64 hr.1) (nm_r (tr_v4 hk (by omega) (by omega)) ?_)))
    have hmod : (b + w * 2 ^ k + 128 - p) % 2 ^ (k + 1) < 128 + 1 := by
      have := Nat.mod_lt (b + w * 2 ^ k + 128 - p) (show 0 < 2 ^ (k + 1) from Nat.pow_pos (by omega))
      have : 2 ^ (k + 1) ≤ 128 := by
        have := tr_k64 k hk
        rw [Nat.pow_succ]
        omega
      omega
    refine pk_lt q (p + (b + w * 2 ^ k + 128 - p) % 2 ^ (k + 1)) (fun g => ?_) (fun g => ?_) rfl rfl (by omega) (by omega)
    · refine h55 (1 - w) (by omega) (st.2 g) _ ?_
      rcases hw with rfl | rfl <;> decide
    · exact h55 w hw (st.1 g) _ rfl
/-! ===== apply, set ===== -/
section
variable {post : Int32 → St1 → Prop} {nl nh : Int32} {a1 a2 : Nat → Int32} {a b : Nat}
theorem tr_152 {l h : Nat} (ha : a < 6) (K : tr_K a1 a2) (h1 : l ≤ h) (h2 : h ≤ 127) (H : ∀ nl nh b1 b2, tr_K b1 b2 → post 0 (nl, nh, b1, b2)) : wX_apply_152 post (nI a) (nI l) (nI h) a1 a2 := by
  unfold wX_apply_152
  rw [nI_clamp (show a < 2 ^ 31 by omega)]
  exact ⟨pk_in a 6 ha, nm_e ⟨pk_in a 6 ha, nm_e (H _ _ _ _ (tr_Kup K h1 h2))⟩⟩
theorem tr_apply {k : Nat} (hk : k ≤ 4) (ha : a < 6) (hb : b < 6) (K : tr_K a1 a2) (H : ∀ nl nh b1 b2, tr_K b1 b2 → post 0 (nl, nh, b1, b2)) : wpX_apply post (nl, nh, a1, a2) (nI a) (nI k) (nI b) := by
  obtain ⟨p, q, pq, q7, e1, e2⟩ := K b hb
  have F : ∀ l h, l ≤ h → h ≤ 127 → wX_apply_152 post (nI a) (nI l) (nI h) a1 a2 := fun l h i1 i2 => tr_152 ha K i1 i2 H
  unfold wpX_apply
  dsimp only
  refine tr_reg ha (br_f (by decide) (tr_reg hb (br_f (by decide) (br_f (nI_pos (by omega)) (br_t (nI_le (b := 4) hk (by omega)) ?_)))))
  rw [nI_clamp (show b < 2 ^ 31 by omega), e1, e2]
  refine ⟨pk_in b 6 hb, nm_e ⟨pk_in b 6 hb, nm_e ?_⟩⟩
  have h5 : k = 0 ∨ k = 1 ∨ k = 2 ∨ k = 3 ∨ k = 4 := by omega
  rcases h5 with rfl | rfl | rfl | rfl | rfl
  · refine br_t rfl ?_
    rw [tr_127 q7, tr_127 (show p ≤ 127 by omega)]
    exact F _ _ (by omega) (by omega)
  · exact br_f (by decide) (br_t rfl (tr_countOnes pq q7 F))
  · exact br_f (by decide) (br_f (by decide) (br_t rfl (tr_rev (w := 0) pq q7 (Or.inl rfl) (fun o ho h0 _ => tr_rev (w := 1) pq q7 (Or.inr rfl) (fun o' ho' _ h1 => F o o' (Nat.le_trans (h0 rfl) (h1 rfl)) (by omega))))))
  · exact br_f (by decide) (br_f (by decide) (br_f (by decide) (br_t rfl (tr_root (by omega) (fun o ho h1 _ => tr_root q7 (fun o' ho' _ h2 => F o o' (h2 o ho (Nat.le_trans h1 pq)) (by omega)))))))
  · exact br_f (by decide) (br_f (by decide) (br_f (by decide) (br_f (by decide) (tr_doubled pq q7 F))))
theorem tr_set {l h : Nat} (ha : a < 6) (h1 : l ≤ h) (h2 : h ≤ 127) (K : tr_K a1 a2) (H : ∀ nl nh b1 b2, tr_K b1 b2 → post 0 (nl, nh, b1, b2)) : wpX_set post (nl, nh, a1, a2) (nI a) (nI l) (nI h) := by
  unfold wpX_set
  dsimp only
  rw [nI_clamp (show a < 2 ^ 31 by omega)]
  exact tr_reg ha (br_f (by decide) (br_f (nI_pos (by omega)) (br_f (nI_nlt h1 (by omega)) (br_t (nI_le (b := 127) h2 (by omega)) ⟨pk_in a 6 ha, nm_e ⟨pk_in a 6 ha, nm_e (H _ _ _ _ (tr_Kup K h1 h2))⟩⟩))))
end
end
section
/-! ===== the law ===== -/
theorem tr_init {post : St1 → Prop} {mc ms kc ks : Nat} {nl nh : Int32} (H : ∀ a1 a2, tr_K a1 a2 → post (nl, nh, a1, a2)) : ∃ n, wX_init_22 post mc ms kc ks nl nh n 0 (fun _ => 0) (fun _ => 0) := by
  refine pk_loop (fun n i (s : Nat → Int32) => wX_init_22 post mc ms kc ks nl nh n (nI i) (fun _ => 0) s) (fun i s => ∀ j, j < i → s j = nI 127) 6 0 (fun _ => 0) (by omega) (fun j hj => absurd hj (by omega)) ?_ ?_
  · intro n s h
    exact pk_le 6 6 (fun _ => H _ s (fun j hj => ⟨0, 127, by omega, by omega, rfl, h j hj⟩)) (fun z => absurd z (by omega))
  · intro n i s hi h hw
    refine pk_le 6 i (fun z => absurd z (by omega)) (fun _ => ⟨pk_in i 6 hi, nm_e (nm_r (nI_1 i) (hw _ ?_))⟩)
    intro j hj
    rw [nI_clamp (show i < 2 ^ 31 by omega)]
    by_cases e : j = i
    · rw [e, pk_us]
      rfl
    · rw [pk_un e]
      exact h j (by omega)
theorem tr_rem (x : Int32) {d : Nat} (h0 : 0 < d) (hd : d < 256) : ∃ j, j < d ∧ (x &&& 255) - (x &&& 255) / nI d * nI d = nI j := by
  obtain ⟨v, hv, ev⟩ := pk_andE x (m := 255) 8 (by decide)
  rw [ev]
  exact ⟨v % d, Nat.mod_lt _ h0, pk_rem (by omega) h0 (by omega)⟩
section
variable {post : Int32 → Prop} {L kc ks : Nat} {xs : Nat → Int32} {J10 : Int32 → Int32 → Int32 → (Nat → Int32) → (Nat → Int32) → Prop} {nl nh : Int32} {a1 a2 : Nat → Int32} {i a b : Nat}
theorem tr_206 (ha : a < 6) (hb : b < 6) (K : tr_K a1 a2) (HJ : J10 (nI (i + 4)) nl nh a1 a2) : wL_law_206 post L xs J10 (nI i) (nI a) (nI b) kc ks nl nh a1 a2 := by
  obtain ⟨p, q, pq, q7, e1, e2⟩ := K a ha
  obtain ⟨r, s, rs, s7, e3, e4⟩ := K b hb
  have e : nI i + 4 = nI (i + 4) := nI_add i 4
  unfold wL_law_206
  refine tr_apart ha hb e1 e2 e3 e4 pq q7 rs s7 (fun n hn h1 => ?_)
  refine pk_lt n 0 (fun z => absurd z (by omega)) (fun _ => tr_lowOf ha ?_)
  rw [e1]
  refine pk_eq p 0 (fun z => tr_lowOf hb ?_) (fun z => nm_r e HJ)
  rw [e3]
  exact pk_eq r 0 (fun z2 => pk_le 1 n (fun _ => nm_r e HJ) (fun z3 => absurd (h1 z z2) (by omega))) (fun _ => nm_r e HJ)
theorem tr_172 (ha : a < 6) (hb : b < 6) (K : tr_K a1 a2) (HJ : J10 (nI (i + 4)) nl nh a1 a2) : wL_law_172 post L xs J10 (nI i) (nI a) (nI b) kc ks nl nh a1 a2 := by
  have F : wL_law_206 post L xs J10 (nI i) (nI a) (nI b) kc ks nl nh a1 a2 := tr_206 ha hb K HJ
  obtain ⟨p, q, pq, q7, e1, e2⟩ := K a ha
  obtain ⟨r, s, rs, s7, e3, e4⟩ := K b hb
  unfold wL_law_172
  refine tr_less ha hb e1 e2 e3 e4 pq q7 rs s7 (fun z => ?_) (fun z z' => ?_) (fun z z' => ?_)
  · exact br_f (by decide) (br_t rfl (tr_less hb ha e3 e4 e1 e2 rs s7 pq q7 (fun w => absurd w (by omega)) (fun w w' => br_t rfl F) (fun w w' => absurd w' (by omega))))
  · exact br_f (by decide) (br_f (by decide) F)
  · exact br_f (by decide) (br_f (by decide) F)
end
theorem tr_law {L : Nat} (hL : L ≤ 260) (xs : Nat → Int32) (kc ks : Nat) (nl nh : Int32) (a1 a2 : Nat → Int32) (K : tr_K a1 a2) : ∃ n, wL_law_10 (fun r => r = 1) L xs kc ks n 0 nl nh a1 a2 := by
  refine pk_loop (fun n t (s : St1) => wL_law_10 (fun r => r = 1) L xs kc ks n (nI (4 * t)) s.1 s.2.1 s.2.2.1 s.2.2.2) (fun _ s => tr_K s.2.2.1 s.2.2.2) (L / 4) 0 (nl, nh, a1, a2) (by omega) K ?_ ?_
  · intro n s _
    exact pk_lt L (4 * (L / 4) + 4) (fun _ => rfl) (fun z => absurd z (by omega)) rfl (nI_add _ 4)
  · intro n t s ht K hw
    obtain ⟨nl, nh, a1, a2⟩ := s
    have hw' : ∀ nl nh b1 b2, tr_K b1 b2 → wL_law_10 (fun r => r = 1) L xs kc ks n (nI (4 * t + 4)) nl nh b1 b2 := fun nl nh b1 b2 K' => hw (nl, nh, b1, b2) K'
    show wL_law_10 (fun r => r = 1) L xs kc ks (n + 1) (nI (4 * t)) nl nh a1 a2
    have hi : 4 * t + 4 ≤ L := by omega
    generalize 4 * t = i at hw' hi ⊢
    obtain ⟨k, hk, ek⟩ := pk_andE (xs (nI i).toNatClampNeg) (m := 15) 4 (by decide)
    obtain ⟨a, ha, ea⟩ := tr_rem (xs (nI i + 1).toNatClampNeg) (d := 6) (by omega) (by omega)
    obtain ⟨b, hb, eb⟩ := tr_rem (xs (nI i + 2).toNatClampNeg) (d := 6) (by omega) (by omega)
    have F : ∀ nl nh b1 b2, tr_K b1 b2 → wL_law_172 (fun r => r = 1) L xs (wL_law_10 (fun r => r = 1) L xs kc ks n) (nI i) (nI a) (nI b) kc ks nl nh b1 b2 := fun nl nh b1 b2 K' => tr_172 ha hb K' (hw' nl nh b1 b2 K')
    refine pk_lt L (i + 4) (fun z => absurd z (by omega)) (fun _ => ⟨pk_in i L (by omega), nm_r ek ⟨pk_in (i + 1) L (by omega) (nI_1 i), by decide, nm_r ea ⟨pk_in (i + 2) L (by omega) (nI_add i 2), by decide, nm_r eb ⟨pk_in (i + 3) L (by omega) (nI_add i 3), nm_e ?_⟩⟩⟩⟩) rfl (nI_add i 4)
    generalize xs (nI i + 3).toNatClampNeg = x
    refine pk_lt 6 k (fun z => pk_eq k 7 (fun z2 => ⟨by decide, ?_⟩) (fun z2 => ⟨by decide, by decide, ?_⟩)) (fun z => ?_)
    · obtain ⟨c, hc, ec⟩ := tr_rem x (d := 5) (by omega) (by omega)
      have ec' : (x &&& 255) - (x &&& 255) / 5 * 5 = nI c := ec
      rw [ec']
      exact tr_apply (by omega) ha hb K (fun nl nh b1 b2 K' => F nl nh b1 b2 K')
    · obtain ⟨c, hc, ec⟩ := tr_rem x (d := 6) (by omega) (by omega)
      obtain ⟨d, hd, ed⟩ := tr_rem (x >>> ((8 : Int32) &&& 31)) (d := 10) (by omega) (by omega)
      have ec' : (x &&& 255) - (x &&& 255) / 6 * 6 = nI c := ec
      have ed' : ((x >>> ((8 : Int32) &&& 31)) &&& 255) - ((x >>> ((8 : Int32) &&& 31)) &&& 255) / 10 * 10 = nI d := ed
      rw [ec', ed']
      exact tr_tight (by omega) ha hb hc K (fun nl nh b1 b2 K' => br_f (by decide) (F nl nh b1 b2 K'))
    · obtain ⟨l, hl, el⟩ := pk_andE x (m := 127) 7 (by decide)
      obtain ⟨w, hw2, ew⟩ := pk_andE (x >>> ((7 : Int32) &&& 31)) (m := 15) 4 (by decide)
      have e2 : nI l + ((x >>> ((7 : Int32) &&& 31)) &&& 15) = nI (l + w) := by rw [ew, nI_add]
      have S : ∀ h, l ≤ h → h ≤ 127 → wL_law_105 (fun r => r = 1) L xs (wL_law_10 (fun r => r = 1) L xs kc ks n) (nI i) (nI a) (nI b) (nI h) (nI l) (nI a) kc ks nl nh a1 a2 := by
        intro h h1 h2
        unfold wL_law_105
        exact tr_set ha h1 h2 K (fun nl nh b1 b2 K' => F nl nh b1 b2 K')
      exact nm_r el (nm_r e2 (pk_le (l + w) 127 (fun z => S (l + w) (by omega) z) (fun z => S 127 (by omega) (by omega))))
theorem i_vc (xs : Nat → Int32) (L : Nat) (hL : L ≤ 260) : wpL_law (fun r => r = 1) L xs := by
  refine ⟨2, 12, by omega, by omega, ?_⟩
  unfold wpX_init
  dsimp only
  exact ⟨by omega, by omega, by omega, by omega, tr_init (fun a1 a2 K => tr_law hL xs _ _ _ _ a1 a2 K)⟩
end
