section
/-! plain number theory: primes, Fermat, orders -/
def nt_P (n : Nat) : Prop := 2 ≤ n ∧ ∀ d, d ∣ n → d = 1 ∨ d = n
theorem nt_euclid {p a b : Nat} (hp : nt_P p) (h : p ∣ a * b) : p ∣ a ∨ p ∣ b := by
  rcases hp.2 (Nat.gcd p a) (Nat.gcd_dvd_left p a) with h1 | h1
  · exact Or.inr (Nat.Coprime.dvd_of_dvd_mul_left h1 h)
  · refine Or.inl ?_
    have h2 := Nat.gcd_dvd_right p a
    rw [h1] at h2
    exact h2
theorem nt_euclid_pow {p a : Nat} (hp : nt_P p) : ∀ k : Nat, p ∣ a ^ k → p ∣ a
  | 0, h => by
    have h1 : p ∣ 1 := by simpa using h
    have := Nat.le_of_dvd (by decide) h1
    have := hp.1
    omega
  | k + 1, h => by
    rw [Nat.pow_succ] at h
    rcases nt_euclid hp h with h1 | h1
    · exact nt_euclid_pow hp k h1
    · exact h1
theorem nt_div_pos {d n : Nat} (hn : 0 < n) (h : d ∣ n) : 0 < d := by
  rcases Nat.eq_zero_or_pos d with h0 | h0
  · subst h0
    have := Nat.eq_zero_of_zero_dvd h
    omega
  · exact h0
theorem nt_fac (n : Nat) : 2 ≤ n → ∃ p, nt_P p ∧ p ∣ n := by
  induction n using Nat.strongRecOn with
  | _ n ih =>
    intro h
    by_cases hp : nt_P n
    · exact ⟨n, hp, Nat.dvd_refl n⟩
    · have h1 : ∃ d, d ∣ n ∧ d ≠ 1 ∧ d ≠ n := by
        apply Classical.byContradiction
        intro hc
        apply hp
        refine ⟨h, fun d hd => ?_⟩
        by_cases h1 : d = 1
        · exact Or.inl h1
        · by_cases h2 : d = n
          · exact Or.inr h2
          · exact absurd ⟨d, hd, h1, h2⟩ hc
      obtain ⟨d, hd, h1, h2⟩ := h1
      have h3 : d ≤ n := Nat.le_of_dvd (by omega) hd
      have h4 : 0 < d := nt_div_pos (by omega) hd
      obtain ⟨p, hp1, hp2⟩ := ih d (by omega) (by omega)
      exact ⟨p, hp1, Nat.dvd_trans hp2 hd⟩
theorem nt_small {n : Nat} (h : 2 ≤ n) (hn : ¬ nt_P n) : ∃ p, nt_P p ∧ p ∣ n ∧ p * p ≤ n := by
  have h1 : ∃ d, d ∣ n ∧ d ≠ 1 ∧ d ≠ n := by
    apply Classical.byContradiction
    intro hc
    apply hn
    refine ⟨h, fun d hd => ?_⟩
    by_cases h1 : d = 1
    · exact Or.inl h1
    · by_cases h2 : d = n
      · exact Or.inr h2
      · exact absurd ⟨d, hd, h1, h2⟩ hc
  obtain ⟨d, ⟨k, hk⟩, h1, h2⟩ := h1
  have hd0 : 0 < d := nt_div_pos (n := n) (by omega) ⟨k, hk⟩
  have hk0 : 0 < k := nt_div_pos (n := n) (by omega) ⟨d, by rw [hk, Nat.mul_comm]⟩
  have hk1 : k ≠ 1 := by
    intro hq
    subst hq
    omega
  -- the smaller of d and k has a prime factor
  have key : ∀ a b : Nat, n = a * b → 2 ≤ a → a ≤ b → ∃ p, nt_P p ∧ p ∣ n ∧ p * p ≤ n := by
    intro a b hab ha hb
    obtain ⟨p, hp, hpa⟩ := nt_fac a ha
    have hle : p ≤ a := Nat.le_of_dvd (by omega) hpa
    refine ⟨p, hp, Nat.dvd_trans hpa ⟨b, hab⟩, ?_⟩
    rw [hab]
    exact Nat.mul_le_mul hle (Nat.le_trans hle hb)
  by_cases hdk : d ≤ k
  · exact key d k hk (by omega) hdk
  · exact key k d (by rw [hk, Nat.mul_comm]) (by omega) (by omega)
theorem nt_trial {n : Nat} (h : 2 ≤ n) (hd : ∀ d, 2 ≤ d → d * d ≤ n → ¬ d ∣ n) : nt_P n := by
  apply Classical.byContradiction
  intro hn
  obtain ⟨p, hp, hpn, hpp⟩ := nt_small h hn
  exact hd p hp.1 hpp hpn
/-! binomials, and Fermat -/
def nt_ch : Nat → Nat → Nat
  | _, 0 => 1
  | 0, _ + 1 => 0
  | n + 1, k + 1 => nt_ch n k + nt_ch n (k + 1)
def nt_bs (n a : Nat) : Nat → Nat
  | 0 => 0
  | m + 1 => nt_bs n a m + nt_ch n m * a ^ m
theorem nt_ch0 (n : Nat) : nt_ch n 0 = 1 := by cases n <;> rfl
theorem nt_ch_big : ∀ (n k : Nat), n < k → nt_ch n k = 0
  | 0, k + 1, _ => rfl
  | n + 1, k + 1, h => by
    show nt_ch n k + nt_ch n (k + 1) = 0
    rw [nt_ch_big n k (by omega), nt_ch_big n (k + 1) (by omega)]
theorem nt_ch_self : ∀ n : Nat, nt_ch n n = 1
  | 0 => rfl
  | n + 1 => by
    show nt_ch n n + nt_ch n (n + 1) = 1
    rw [nt_ch_self n, nt_ch_big n (n + 1) (by omega)]
theorem nt_bs_succ (n a : Nat) : ∀ m : Nat, nt_bs (n + 1) a (m + 1) = nt_bs n a (m + 1) + a * nt_bs n a m
  | 0 => by
    show 0 + nt_ch (n + 1) 0 * a ^ 0 = 0 + nt_ch n 0 * a ^ 0 + a * 0
    rw [nt_ch0, nt_ch0]
    simp
  | m + 1 => by
    have ih := nt_bs_succ n a m
    have e1 : nt_bs (n + 1) a (m + 1 + 1) = nt_bs (n + 1) a (m + 1) + (nt_ch n m + nt_ch n (m + 1)) * a ^ (m + 1) := rfl
    have e2 : nt_bs n a (m + 1 + 1) = nt_bs n a (m + 1) + nt_ch n (m + 1) * a ^ (m + 1) := rfl
    have e3 : nt_bs n a (m + 1) = nt_bs n a m + nt_ch n m * a ^ m := rfl
    rw [e1, ih, e2, Nat.add_mul, Nat.pow_succ]
    have e4 : a * nt_bs n a (m + 1) = a * nt_bs n a m + nt_ch n m * (a ^ m * a) := by
      rw [e3, Nat.mul_add]
      congr 1
      rw [Nat.mul_comm a, Nat.mul_assoc]
    rw [e4]
    omega
theorem nt_bs_all (a : Nat) : ∀ n : Nat, nt_bs n a (n + 1) = (a + 1) ^ n
  | 0 => by
    show 0 + nt_ch 0 0 * a ^ 0 = (a + 1) ^ 0
    rw [nt_ch0]
    simp
  | n + 1 => by
    rw [nt_bs_succ]
    have e1 : nt_bs n a (n + 1 + 1) = nt_bs n a (n + 1) + nt_ch n (n + 1) * a ^ (n + 1) := rfl
    rw [e1, nt_ch_big n (n + 1) (by omega), nt_bs_all a n, Nat.pow_succ (n := a + 1), Nat.mul_add, Nat.mul_comm a]
    omega
theorem nt_ch_mul : ∀ (n k : Nat), (k + 1) * nt_ch (n + 1) (k + 1) = (n + 1) * nt_ch n k
  | 0, 0 => rfl
  | 0, k + 1 => by
    have h1 : nt_ch 1 (k + 1 + 1) = 0 := nt_ch_big _ _ (by omega)
    have h2 : nt_ch 0 (k + 1) = 0 := rfl
    rw [h1, h2, Nat.mul_zero, Nat.mul_zero]
  | n + 1, 0 => by
    have ih := nt_ch_mul n 0
    have h1 : nt_ch (n + 1 + 1) (0 + 1) = nt_ch (n + 1) 0 + nt_ch (n + 1) (0 + 1) := rfl
    rw [h1, nt_ch0]
    rw [nt_ch0] at ih
    omega
  | n + 1, k + 1 => by
    have ih1 := nt_ch_mul n k
    have ih2 := nt_ch_mul n (k + 1)
    have h1 : nt_ch (n + 1 + 1) (k + 1 + 1) = nt_ch (n + 1) (k + 1) + nt_ch (n + 1) (k + 1 + 1) := rfl
    have h2 : nt_ch (n + 1) (k + 1) = nt_ch n k + nt_ch n (k + 1) := rfl
    have h3 : (n + 1) * nt_ch (n + 1) (k + 1) = (n + 1) * nt_ch n k + (n + 1) * nt_ch n (k + 1) := by rw [h2, Nat.mul_add]
    have h4 : (k + 1 + 1) * nt_ch (n + 1) (k + 1) = (k + 1) * nt_ch (n + 1) (k + 1) + nt_ch (n + 1) (k + 1) := by rw [Nat.add_mul (k + 1) 1, Nat.one_mul]
    have h5 : (n + 1 + 1) * nt_ch (n + 1) (k + 1) = (n + 1) * nt_ch (n + 1) (k + 1) + nt_ch (n + 1) (k + 1) := by rw [Nat.add_mul (n + 1) 1, Nat.one_mul]
    rw [h1, Nat.mul_add, h4, h5, h3]
    omega
theorem nt_ch_prime {p : Nat} (hp : nt_P p) {k : Nat} (h0 : 0 < k) (hk : k < p) : p ∣ nt_ch p k := by
  obtain ⟨k', rfl⟩ : ∃ k', k = k' + 1 := ⟨k - 1, by omega⟩
  obtain ⟨p', rfl⟩ : ∃ p', p = p' + 1 := ⟨p - 1, by omega⟩
  have h := nt_ch_mul p' k'
  have h1 : p' + 1 ∣ (k' + 1) * nt_ch (p' + 1) (k' + 1) := ⟨_, h⟩
  rcases nt_euclid hp h1 with h2 | h2
  · have := Nat.le_of_dvd (by omega) h2
    omega
  · exact h2
theorem nt_bs_prime {p : Nat} (hp : nt_P p) (a : Nat) : ∀ m : Nat, m < p → nt_bs p a (m + 1) % p = 1 % p
  | 0, _ => by
    show (0 + nt_ch p 0 * a ^ 0) % p = 1 % p
    rw [nt_ch0]
    simp
  | m + 1, h => by
    have e1 : nt_bs p a (m + 1 + 1) = nt_bs p a (m + 1) + nt_ch p (m + 1) * a ^ (m + 1) := rfl
    obtain ⟨c, hc⟩ := nt_ch_prime hp (k := m + 1) (by omega) h
    rw [e1, hc, Nat.mul_assoc, Nat.add_mul_mod_self_left]
    exact nt_bs_prime hp a m (by omega)
theorem nt_fermat0 {p : Nat} (hp : nt_P p) : ∀ a : Nat, a ^ p % p = a % p
  | 0 => by
    have := hp.1
    rw [Nat.zero_pow (by omega)]
  | a + 1 => by
    have h2 := hp.1
    obtain ⟨p', hp'⟩ : ∃ p', p = p' + 1 := ⟨p - 1, by omega⟩
    have e1 : nt_bs p a (p + 1) = nt_bs p a p + nt_ch p p * a ^ p := rfl
    have e2 : nt_bs p a p % p = 1 % p := by
      have := nt_bs_prime hp a p' (by omega)
      rw [← hp'] at this
      exact this
    rw [← nt_bs_all a p, e1, nt_ch_self, Nat.one_mul, Nat.add_mod, e2, nt_fermat0 hp a, ← Nat.add_mod, Nat.add_comm]
theorem nt_fermat {p a : Nat} (hp : nt_P p) (ha : ¬ p ∣ a) : a ^ (p - 1) % p = 1 := by
  have h2 := hp.1
  have h0 : 0 < a := by
    rcases Nat.eq_zero_or_pos a with h | h
    · subst h; exact absurd (Nat.dvd_zero p) ha
    · exact h
  have h1 := nt_fermat0 hp a
  have e1 : a ^ p = a * a ^ (p - 1) := by
    rw [Nat.mul_comm, ← Nat.pow_succ]
    congr 1
    omega
  have hpos : 0 < a ^ (p - 1) := Nat.pow_pos h0
  have h3 : p ∣ a * (a ^ (p - 1) - 1) := by
    rw [Nat.mul_sub, Nat.mul_one, ← e1]
    exact Nat.dvd_of_mod_eq_zero (Nat.sub_mod_eq_zero_of_mod_eq h1)
  rcases nt_euclid hp h3 with h4 | h4
  · exact absurd h4 ha
  · obtain ⟨c, hc⟩ := h4
    have : a ^ (p - 1) = 1 + p * c := by omega
    rw [this, Nat.add_mul_mod_self_left]
    exact Nat.mod_eq_of_lt (by omega)
/-! orders -/
theorem nt_pow_one {a m x : Nat} (h : a ^ x % m = 1) (k : Nat) : a ^ (x * k) % m = 1 % m := by
  rw [Nat.pow_mul, Nat.pow_mod, h, Nat.one_pow]
theorem nt_one_mod {a m x : Nat} (h : a ^ x % m = 1) : 1 % m = 1 := by
  have h2 := Nat.mod_mod (a ^ x) m
  rw [h] at h2
  exact h2
theorem nt_pow_red {a m x : Nat} (h : a ^ x % m = 1) (y : Nat) : a ^ y % m = a ^ (y % x) % m := by
  have e : a ^ y = a ^ (x * (y / x)) * a ^ (y % x) := by rw [← Nat.pow_add, Nat.div_add_mod]
  rw [e, Nat.mul_mod, nt_pow_one h, ← Nat.mul_mod, Nat.one_mul]
theorem nt_pow_gcd {a m : Nat} (x y : Nat) : a ^ x % m = 1 → a ^ y % m = 1 → a ^ (Nat.gcd x y) % m = 1 := by
  induction x, y using Nat.gcd.induction with
  | H0 n =>
    intro _ h
    rw [Nat.gcd_zero_left]
    exact h
  | H1 x y hx ih =>
    intro h1 h2
    rw [Nat.gcd_rec]
    refine ih ?_ h1
    rw [← nt_pow_red h1]
    exact h2
end
section
/-! strong pseudoprimes to 2, 3, 5, 7 below 2^30: the programs that Lean's kernel runs, and what their 'true' says -/
def mr_st (b n y w : Nat) : Nat := Nat.mod (Nat.mul (Nat.pow y (nat_lit 64)) (Nat.pow b w)) n
def mr_pm (b e n : Nat) : Nat :=
  mr_st b n (mr_st b n (mr_st b n (mr_st b n (Nat.mod (Nat.pow b (Nat.div e (nat_lit 16777216))) n) (Nat.mod (Nat.div e (nat_lit 262144)) (nat_lit 64))) (Nat.mod (Nat.div e (nat_lit 4096)) (nat_lit 64))) (Nat.mod (Nat.div e (nat_lit 64)) (nat_lit 64))) (Nat.mod e (nat_lit 64))
theorem mr_step (b A B n : Nat) : mr_st b n (b ^ A % n) B = b ^ (64 * A + B) % n := by
  show (b ^ A % n) ^ 64 * b ^ B % n = b ^ (64 * A + B) % n
  rw [Nat.mul_mod, ← Nat.pow_mod, ← Nat.mul_mod, ← Nat.pow_mul, ← Nat.pow_add, Nat.mul_comm A]
theorem mr_pm_eq (b e n : Nat) : mr_pm b e n = b ^ e % n := by
  show mr_st b n (mr_st b n (mr_st b n (mr_st b n (b ^ (e / 16777216) % n) (e / 262144 % 64)) (e / 4096 % 64)) (e / 64 % 64)) (e % 64) = b ^ e % n
  rw [mr_step, mr_step, mr_step, mr_step]
  congr 2
  omega
/-- the kernel is made to compute k first -/
noncomputable def mr_fc (k : Nat) (f : Nat → Bool) : Bool := Nat.rec (motive := fun _ => Bool) true (fun k' _ => f (Nat.succ k')) k
theorem mr_fc_pos {k : Nat} (h : 0 < k) (f : Nat → Bool) : mr_fc k f = f k := by
  cases k with
  | zero => omega
  | succ k => rfl
/-- n passes the strong test to the base b (n - 1 has at most 30 factors 2) -/
def mr_S (n b : Nat) : Prop := ∃ j, 1 ≤ j ∧ j ≤ 30 ∧ 2 ^ j ∣ n - 1 ∧ (b ^ ((n - 1) / 2 ^ j) % n = n - 1 ∨ ((n - 1) / 2 ^ j % 2 = 1 ∧ b ^ ((n - 1) / 2 ^ j) % n = 1))
def mr_sg (n b : Nat) : Nat → Bool
  | 0 => false
  | j + 1 => or (and (Nat.beq ((n - 1) % 2 ^ (j + 1)) 0) (or (Nat.beq (mr_pm b ((n - 1) / 2 ^ (j + 1)) n) (n - 1)) (and (Nat.beq ((n - 1) / 2 ^ (j + 1) % 2) 1) (Nat.beq (mr_pm b ((n - 1) / 2 ^ (j + 1)) n) 1)))) (mr_sg n b j)
theorem mr_sg_of (n b : Nat) : ∀ m : Nat, (∃ j, 1 ≤ j ∧ j ≤ m ∧ 2 ^ j ∣ n - 1 ∧ (b ^ ((n - 1) / 2 ^ j) % n = n - 1 ∨ ((n - 1) / 2 ^ j % 2 = 1 ∧ b ^ ((n - 1) / 2 ^ j) % n = 1))) → mr_sg n b m = true
  | 0, ⟨j, h1, h2, _⟩ => by omega
  | m + 1, ⟨j, h1, h2, h3, h4⟩ => by
    by_cases hj : j = m + 1
    · subst hj
      have e1 : Nat.beq ((n - 1) % 2 ^ (m + 1)) 0 = true := Nat.beq_eq.mpr (Nat.mod_eq_zero_of_dvd h3)
      unfold mr_sg
      rw [e1, mr_pm_eq]
      rcases h4 with h4 | ⟨h4, h5⟩
      · rw [h4, Nat.beq_refl]
        rfl
      · rw [h5, h4]
        cases Nat.beq 1 (n - 1) <;> rfl
    · have ih := mr_sg_of n b m ⟨j, h1, by omega, h3, h4⟩
      unfold mr_sg
      rw [ih]
      cases (and (Nat.beq ((n - 1) % 2 ^ (m + 1)) 0) (or (Nat.beq (mr_pm b ((n - 1) / 2 ^ (m + 1)) n) (n - 1)) (and (Nat.beq ((n - 1) / 2 ^ (m + 1) % 2) 1) (Nat.beq (mr_pm b ((n - 1) / 2 ^ (m + 1)) n) 1)))) <;> rfl
def mr_f (n : Nat) : Bool := and (mr_sg n 2 30) (and (mr_sg n 3 30) (and (mr_sg n 5 30) (mr_sg n 7 30)))
/-- n is refused -/
noncomputable def mr_t (n : Nat) : Bool := cond (Nat.beq (Nat.gcd (Nat.mul n (Nat.succ (Nat.mul (nat_lit 2) n))) (nat_lit 105)) (nat_lit 1)) (cond (Nat.beq (mr_pm (nat_lit 2) (Nat.pred n) n) (nat_lit 1)) (not (mr_f n)) true) true
theorem mr_t_eq (n : Nat) : mr_t n = cond (Nat.beq (Nat.gcd (n * (2 * n + 1)) 105) 1) (cond (Nat.beq (mr_pm 2 (n - 1) n) 1) (not (mr_f n)) true) true := rfl
def mr_all (n : Nat) : Prop := Nat.gcd (n * (2 * n + 1)) 105 = 1 ∧ (mr_S n 2 ∧ mr_S n 3 ∧ mr_S n 5 ∧ mr_S n 7) ∧ (2 ^ (n - 1) % n = 1 ∧ 3 ^ (n - 1) % n = 1 ∧ 5 ^ (n - 1) % n = 1 ∧ 7 ^ (n - 1) % n = 1)
theorem mr_t_no {n : Nat} (h : mr_t n = true) (ha : mr_all n) : False := by
  obtain ⟨h1, ⟨s2, s3, s5, s7⟩, h2, -⟩ := ha
  rw [mr_t_eq, h1, mr_pm_eq, h2] at h
  have e : mr_f n = true := by
    unfold mr_f
    rw [mr_sg_of n 2 30 s2, mr_sg_of n 3 30 s3, mr_sg_of n 5 30 s5, mr_sg_of n 7 30 s7]
    rfl
  rw [e] at h
  cases h
/-! B: a prime factor s of n, 101 ≤ s < 2^15: n = s (1 + L j) -/
noncomputable def mr_lb (s L d : Nat) : Nat → Bool := Nat.rec (motive := fun _ => Nat → Bool)
  (fun k => mr_fc (Nat.mul s k) (fun n => cond (Nat.ble (nat_lit 1073741824) n) true (mr_t n)))
  (fun d ih k => mr_fc k (fun k => cond (Nat.ble (nat_lit 1073741824) (Nat.mul s k)) true (and (ih k) (ih (Nat.add k (Nat.mul L (Nat.pow (nat_lit 2) d))))))) d
theorem mr_lb_0 (s L k : Nat) : mr_lb s L 0 k = mr_fc (s * k) (fun n => cond (Nat.ble 1073741824 n) true (mr_t n)) := rfl
theorem mr_lb_s (s L d k : Nat) : mr_lb s L (d + 1) k = mr_fc k (fun k => cond (Nat.ble 1073741824 (s * k)) true (and (mr_lb s L d k) (mr_lb s L d (k + L * 2 ^ d)))) := rfl
theorem mr_and {a b : Bool} (h : and a b = true) : a = true ∧ b = true := by cases a <;> cases b <;> first | exact ⟨rfl, rfl⟩ | cases h
theorem mr_or {a b : Bool} (h : or a b = true) : a = true ∨ b = true := by cases a <;> cases b <;> first | exact Or.inl rfl | exact Or.inr rfl | cases h
theorem mr_lb_ok (s L : Nat) (hs0 : 0 < s) : ∀ (d k : Nat), 0 < k → mr_lb s L d k = true → ∀ j, j < 2 ^ d → s * (k + L * j) < 1073741824 → mr_t (s * (k + L * j)) = true
  | 0, k, h0, h, j, hj, hs => by
    have hj0 : j = 0 := by simpa using hj
    subst hj0
    rw [Nat.mul_zero, Nat.add_zero] at hs ⊢
    rw [mr_lb_0, mr_fc_pos (Nat.mul_pos hs0 h0)] at h
    have e : Nat.ble 1073741824 (s * k) = false := by
      cases hb : Nat.ble 1073741824 (s * k) with
      | false => rfl
      | true => have := Nat.le_of_ble_eq_true hb; omega
    rw [e] at h
    exact h
  | d + 1, k, h0, h, j, hj, hs => by
    rw [mr_lb_s, mr_fc_pos h0] at h
    have hle : s * k ≤ s * (k + L * j) := Nat.mul_le_mul_left s (Nat.le_add_right _ _)
    have e : Nat.ble 1073741824 (s * k) = false := by
      cases hb : Nat.ble 1073741824 (s * k) with
      | false => rfl
      | true => have := Nat.le_of_ble_eq_true hb; omega
    rw [e] at h
    obtain ⟨h1, h2⟩ := mr_and h
    rw [Nat.pow_succ] at hj
    by_cases hd : j < 2 ^ d
    · exact mr_lb_ok s L hs0 d k h0 h1 j hd hs
    · have e2 : k + L * j = k + L * 2 ^ d + L * (j - 2 ^ d) := by
        rw [Nat.add_assoc, ← Nat.mul_add]
        congr 2
        omega
      rw [e2] at hs ⊢
      exact mr_lb_ok s L hs0 d _ (Nat.add_pos_left h0 _) h2 (j - 2 ^ d) (by omega) hs
/-- the e-th powers of 2, 3, 5, 7 aren't all 1 -/
def mr_bad (s e : Nat) : Bool := not (and (Nat.beq (Nat.mod (Nat.pow (nat_lit 2) e) s) (nat_lit 1)) (and (Nat.beq (Nat.mod (Nat.pow (nat_lit 3) e) s) (nat_lit 1)) (and (Nat.beq (Nat.mod (Nat.pow (nat_lit 5) e) s) (nat_lit 1)) (Nat.beq (Nat.mod (Nat.pow (nat_lit 7) e) s) (nat_lit 1)))))
theorem mr_bad_eq (s e : Nat) : mr_bad s e = not (and (Nat.beq (2 ^ e % s) 1) (and (Nat.beq (3 ^ e % s) 1) (and (Nat.beq (5 ^ e % s) 1) (Nat.beq (7 ^ e % s) 1)))) := rfl
def mr_one (s e : Nat) : Prop := 2 ^ e % s = 1 ∧ 3 ^ e % s = 1 ∧ 5 ^ e % s = 1 ∧ 7 ^ e % s = 1
theorem mr_bad_no {s e : Nat} (h : mr_bad s e = true) : ¬ mr_one s e := by
  rintro ⟨h1, h2, h3, h4⟩
  rw [mr_bad_eq, h1, h2, h3, h4] at h
  cases h
noncomputable def mr_od (s L m : Nat) : Bool := Nat.rec (motive := fun _ => Bool) true
  (fun d ih => and (cond (Nat.beq (Nat.mod L (Nat.succ d)) (nat_lit 0)) (and (or (Nat.beq (Nat.succ d) L) (mr_bad s (Nat.succ d))) (or (Nat.beq d (nat_lit 0)) (mr_bad s (Nat.div L (Nat.succ d))))) true) ih) m
theorem mr_od_s (s L d : Nat) : mr_od s L (d + 1) = and (cond (Nat.beq (L % (d + 1)) 0) (and (or (Nat.beq (d + 1) L) (mr_bad s (d + 1))) (or (Nat.beq d 0) (mr_bad s (L / (d + 1))))) true) (mr_od s L d) := rfl
theorem mr_od_ok (s L : Nat) : ∀ m : Nat, mr_od s L m = true → ∀ d, d < m → L % (d + 1) = 0 → (d + 1 = L ∨ mr_bad s (d + 1) = true) ∧ (d = 0 ∨ mr_bad s (L / (d + 1)) = true)
  | 0, _, d, hd, _ => by omega
  | m + 1, h, d, hd, hm => by
    rw [mr_od_s] at h
    obtain ⟨h1, h2⟩ := mr_and h
    by_cases hdm : d = m
    · subst hdm
      rw [hm] at h1
      have h1 : and (or (Nat.beq (d + 1) L) (mr_bad s (d + 1))) (or (Nat.beq d 0) (mr_bad s (L / (d + 1)))) = true := h1
      obtain ⟨h3, h4⟩ := mr_and h1
      refine ⟨?_, ?_⟩
      · rcases mr_or h3 with h | h
        · exact Or.inl (Nat.eq_of_beq_eq_true h)
        · exact Or.inr h
      · rcases mr_or h4 with h | h
        · exact Or.inl (Nat.eq_of_beq_eq_true h)
        · exact Or.inr h
    · exact mr_od_ok s L m h2 d (by omega) hm
theorem mr_one_gcd {s x y : Nat} (h1 : mr_one s x) (h2 : mr_one s y) : mr_one s (Nat.gcd x y) :=
  ⟨nt_pow_gcd _ _ h1.1 h2.1, nt_pow_gcd _ _ h1.2.1 h2.2.1, nt_pow_gcd _ _ h1.2.2.1 h2.2.2.1, nt_pow_gcd _ _ h1.2.2.2 h2.2.2.2⟩
/-- L divides every exponent to which 2, 3, 5, 7 give 1 -/
theorem mr_ord {s L g : Nat} (hL0 : 0 < L) (hL : L < 33124) (h : mr_od s L 181 = true) (hL1 : mr_one s L) (hg : mr_one s g) : L ∣ g := by
  have h1 := mr_one_gcd hL1 hg
  have hd : Nat.gcd L g ∣ L := Nat.gcd_dvd_left _ _
  by_cases he : Nat.gcd L g = L
  · rw [← he]
    exact Nat.gcd_dvd_right _ _
  · exfalso
    generalize Nat.gcd L g = e at h1 hd he
    obtain ⟨c, hc⟩ := hd
    have he0 : 0 < e := nt_div_pos hL0 ⟨c, hc⟩
    have hc0 : 0 < c := nt_div_pos hL0 ⟨e, by rw [hc, Nat.mul_comm]⟩
    have hc1 : c ≠ 1 := by
      intro q
      subst q
      omega
    by_cases hs : e ≤ 181
    · have hm : L % (e - 1 + 1) = 0 := by
        rw [show e - 1 + 1 = e by omega, hc, Nat.mul_mod_right]
      obtain ⟨h2, -⟩ := mr_od_ok s L 181 h (e - 1) (by omega) hm
      rw [show e - 1 + 1 = e by omega] at h2
      rcases h2 with h2 | h2
      · exact he h2
      · exact mr_bad_no h2 h1
    · have hc2 : c ≤ 181 := by
        apply Classical.byContradiction
        intro hq
        have : 182 * 182 ≤ e * c := Nat.mul_le_mul (by omega) (by omega)
        omega
      have hm : L % (c - 1 + 1) = 0 := by
        rw [show c - 1 + 1 = c by omega, hc, Nat.mul_mod_left]
      obtain ⟨-, h2⟩ := mr_od_ok s L 181 h (c - 1) (by omega) hm
      rw [show c - 1 + 1 = c by omega, hc, Nat.mul_div_cancel e hc0] at h2
      rcases h2 with h2 | h2
      · omega
      · exact mr_bad_no h2 h1
def mr_ix (s t : Nat) : Bool := and (Nat.beq ((s - 1) % t) 0) (not (mr_bad s ((s - 1) / t)))
def mr_L (s : Nat) : Nat := cond (mr_ix s 4) ((s - 1) / 4) (cond (mr_ix s 3) ((s - 1) / 3) (cond (mr_ix s 2) ((s - 1) / 2) (s - 1)))
def mr_ps : List Nat := [2, 3, 5, 7, 11, 13, 17, 19, 23, 29, 31, 37, 41, 43, 47, 53, 59, 61, 67, 71, 73, 79, 83, 89, 97, 101, 103, 107, 109, 113, 127, 131, 137, 139, 149, 151, 157, 163, 167, 173, 179, 181]
def mr_pr : List Nat → Nat
  | [] => 1
  | a :: l => a * mr_pr l
theorem mr_pr_dvd {p : Nat} (hp : nt_P p) : ∀ l : List Nat, p ∣ mr_pr l → ∃ a ∈ l, p ∣ a
  | [], h => by
    have h1 : p ∣ 1 := h
    have := Nat.le_of_dvd (by decide) h1
    have := hp.1
    omega
  | a :: l, h => by
    have h : p ∣ a * mr_pr l := h
    rcases nt_euclid hp h with h | h
    · exact ⟨a, List.mem_cons_self, h⟩
    · obtain ⟨b, h1, h2⟩ := mr_pr_dvd hp l h
      exact ⟨b, List.mem_cons_of_mem _ h1, h2⟩
/-- s shares a factor with the primes below 14 (s ≤ 181), below 182 (s > 181) -/
def mr_cmp (s : Nat) : Bool := cond (Nat.ble s 181) (not (Nat.beq (Nat.gcd s 30030) 1)) (not (Nat.beq (Nat.gcd s 5397346292805549782720214077673687806275517530364350655459511599582614290) 1))
/-- the classes j = c + 105 i, c from 1 to 105 -/
noncomputable def mr_lc (s L m : Nat) : Bool := Nat.rec (motive := fun _ => Bool) true
  (fun c ih => and (mr_fc (Nat.mul s (Nat.succ (Nat.mul L (Nat.succ c)))) (fun n => cond (Nat.beq (Nat.gcd (Nat.mul n (Nat.succ (Nat.mul (nat_lit 2) n))) (nat_lit 105)) (nat_lit 1)) (mr_lb s (Nat.mul (nat_lit 105) L) (nat_lit 30) (Nat.succ (Nat.mul L (Nat.succ c)))) true)) ih) m
theorem mr_lc_s (s L c : Nat) : mr_lc s L (c + 1) = and (mr_fc (s * (L * (c + 1) + 1)) (fun n => cond (Nat.beq (Nat.gcd (n * (2 * n + 1)) 105) 1) (mr_lb s (105 * L) 30 (L * (c + 1) + 1)) true)) (mr_lc s L c) := rfl
theorem mr_lc_ok (s L : Nat) (hs0 : 0 < s) : ∀ m : Nat, mr_lc s L m = true → ∀ c, 1 ≤ c → c ≤ m → Nat.gcd (s * (L * c + 1) * (2 * (s * (L * c + 1)) + 1)) 105 = 1 → mr_lb s (105 * L) 30 (L * c + 1) = true
  | 0, _, c, h1, h2, _ => by omega
  | m + 1, h, c, h1, h2, hg => by
    rw [mr_lc_s] at h
    obtain ⟨h3, h4⟩ := mr_and h
    by_cases hc : c = m + 1
    · subst hc
      rw [mr_fc_pos (Nat.mul_pos hs0 (Nat.succ_pos _)), hg] at h3
      exact h3
    · exact mr_lc_ok s L hs0 m h4 c h1 (by omega) hg
theorem mr_gmod {n t : Nat} (h : Nat.gcd ((n + 105 * t) * (2 * (n + 105 * t) + 1)) 105 = 1) : Nat.gcd (n * (2 * n + 1)) 105 = 1 := by
  have e : (n + 105 * t) * (2 * (n + 105 * t) + 1) = n * (2 * n + 1) + 105 * (t * (4 * n + 1) + 210 * t * t) := by grind
  rw [e, Nat.gcd_comm, Nat.gcd_rec, Nat.add_mul_mod_self_left, ← Nat.gcd_rec, Nat.gcd_comm] at h
  exact h
noncomputable def mr_goL (s L : Nat) : Bool := and (Nat.ble (nat_lit 1) L) (mr_fc L (fun L => and (and (not (mr_bad s L)) (mr_od s L (nat_lit 181))) (cond (Nat.ble s (nat_lit 1008)) (mr_lc s L (nat_lit 105)) (mr_lb s L (nat_lit 30) (Nat.succ L)))))
noncomputable def mr_os (s : Nat) : Bool := mr_fc s (fun s => cond (Nat.ble s 100) true (cond (mr_cmp s) true (mr_goL s (mr_L s))))
noncomputable def mr_ls (d : Nat) : Nat → Bool := Nat.rec (motive := fun _ => Nat → Bool) (fun i => mr_os (Nat.succ (Nat.mul (nat_lit 2) i))) (fun d ih i => and (ih i) (ih (Nat.add i (Nat.pow (nat_lit 2) d)))) d
theorem mr_ls_s (d i : Nat) : mr_ls (d + 1) i = and (mr_ls d i) (mr_ls d (i + 2 ^ d)) := rfl
theorem mr_ls_ok : ∀ (d i : Nat), mr_ls d i = true → ∀ j, j < 2 ^ d → mr_os (2 * (i + j) + 1) = true
  | 0, i, h, j, hj => by
    have hj0 : j = 0 := by simpa using hj
    subst hj0
    exact h
  | d + 1, i, h, j, hj => by
    rw [mr_ls_s] at h
    obtain ⟨h1, h2⟩ := mr_and h
    rw [Nat.pow_succ] at hj
    by_cases hd : j < 2 ^ d
    · exact mr_ls_ok d i h1 j hd
    · rw [show i + j = i + 2 ^ d + (j - 2 ^ d) by omega]
      exact mr_ls_ok d _ h2 (j - 2 ^ d) (by omega)
/-! A: a prime factor above 2^15, n = k s, k < 2^15 -/
def mr_pp : Nat → Nat → Nat
  | 0, lo => lo
  | d + 1, lo => mr_pp d lo * mr_pp d (lo + 2 ^ d)
theorem mr_pp_dvd {p : Nat} (hp : nt_P p) : ∀ (d lo : Nat), 0 < lo → p ∣ mr_pp d lo → p < lo + 2 ^ d
  | 0, lo, h0, h => by
    have := Nat.le_of_dvd h0 h
    simp
    omega
  | d + 1, lo, h0, h => by
    unfold mr_pp at h
    rw [Nat.pow_succ]
    rcases nt_euclid hp h with h | h
    · have := mr_pp_dvd hp d lo h0 h
      omega
    · have := mr_pp_dvd hp d _ (Nat.add_pos_left h0 _) h
      omega
def mr_g (k : Nat) : Nat := Nat.gcd (Nat.gcd (Nat.gcd (2 ^ (k - 1) - 1) (3 ^ (k - 1) - 1)) (5 ^ (k - 1) - 1)) (7 ^ (k - 1) - 1)
noncomputable def mr_c1 (k R c : Nat) : Bool := or (not (Nat.beq (R % c) 0)) (or (Nat.ble 1073741824 (k * (R / c))) (mr_t (k * (R / c))))
noncomputable def mr_c3 (k R : Nat) : Bool := and (Nat.ble 1 R) (and (Nat.ble R 131071) (and (mr_c1 k R 1) (and (mr_c1 k R 2) (mr_c1 k R 3))))
noncomputable def mr_aR (k R : Nat) : Bool := or (Nat.beq R 1) (or (mr_c3 k R) (and (Nat.beq (R % 54121) 0) (and (mr_c3 k 54121) (mr_c3 k (R / 54121)))))
noncomputable def mr_aG (k G : Nat) : Bool := and (Nat.ble (nat_lit 1) G) (mr_fc G (fun G => mr_aR k (Nat.div G (Nat.gcd G (Nat.mod (Nat.pow (Nat.mod (mr_pp 15 1) G) (nat_lit 10)) G)))))
theorem mr_aG_eq (k G : Nat) : mr_aG k G = and (Nat.ble 1 G) (mr_fc G (fun G => mr_aR k (G / Nat.gcd G ((mr_pp 15 1 % G) ^ 10 % G)))) := rfl
noncomputable def mr_ak (k : Nat) : Bool := cond (Nat.ble k 1) true (cond (Nat.beq (Nat.gcd k 210) 1) (mr_aG k (mr_g k)) true)
noncomputable def mr_la (d : Nat) : Nat → Bool := Nat.rec (motive := fun _ => Nat → Bool) (fun k => mr_ak k) (fun d ih k => and (ih k) (ih (Nat.add k (Nat.pow (nat_lit 2) d)))) d
theorem mr_la_s (d k : Nat) : mr_la (d + 1) k = and (mr_la d k) (mr_la d (k + 2 ^ d)) := rfl
theorem mr_la_ok : ∀ (d k : Nat), mr_la d k = true → ∀ j, j < 2 ^ d → mr_ak (k + j) = true
  | 0, k, h, j, hj => by
    have hj0 : j = 0 := by simpa using hj
    subst hj0
    exact h
  | d + 1, k, h, j, hj => by
    rw [mr_la_s] at h
    obtain ⟨h1, h2⟩ := mr_and h
    rw [Nat.pow_succ] at hj
    by_cases hd : j < 2 ^ d
    · exact mr_la_ok d k h1 j hd
    · rw [show k + j = k + 2 ^ d + (j - 2 ^ d) by omega]
      exact mr_la_ok d _ h2 (j - 2 ^ d) (by omega)
/-! C: all prime factors are below 101 -/
noncomputable def mr_ce (f : Nat → Bool) (p e : Nat) : Nat → Bool := Nat.rec (motive := fun _ => Nat → Bool) (fun _ => false) (fun _ ih acc => mr_fc acc (fun acc => cond (Nat.ble (nat_lit 1073741824) acc) true (and (f acc) (ih (Nat.mul acc p))))) e
theorem mr_ce_s (f : Nat → Bool) (p e acc : Nat) : mr_ce f p (e + 1) acc = mr_fc acc (fun acc => cond (Nat.ble 1073741824 acc) true (and (f acc) (mr_ce f p e (acc * p)))) := rfl
noncomputable def mr_c (l : List Nat) : Nat → Bool := List.rec (motive := fun _ => Nat → Bool) (fun acc => cond (Nat.ble acc (nat_lit 120)) true (mr_t acc)) (fun p _ ih acc => mr_ce ih p (nat_lit 12) acc) l
theorem mr_c_n (acc : Nat) : mr_c [] acc = cond (Nat.ble acc 120) true (mr_t acc) := rfl
theorem mr_c_c (p : Nat) (ps : List Nat) (acc : Nat) : mr_c (p :: ps) acc = mr_ce (mr_c ps) p 12 acc := rfl
theorem mr_c_ok : ∀ (l : List Nat) (acc : Nat), 0 < acc → (∀ q ∈ l, 0 < q) → mr_c l acc = true → ∀ m, 0 < m → (∀ r, nt_P r → r ∣ m → r ∈ l) → acc * m < 1073741824 → 120 < acc * m → mr_t (acc * m) = true
  | [], acc, hacc, hq0, h, m, h0, hr, h1, h2 => by
    have hm : m = 1 := by
      apply Classical.byContradiction
      intro hm
      obtain ⟨r, hp, hd⟩ := nt_fac m (by omega)
      have := hr r hp hd
      cases this
    subst hm
    rw [Nat.mul_one] at h1 h2 ⊢
    rw [mr_c_n] at h
    have e : Nat.ble acc 120 = false := by
      cases hb : Nat.ble acc 120 with
      | false => rfl
      | true => have := Nat.le_of_ble_eq_true hb; omega
    rw [e] at h
    exact h
  | p :: ps, acc, hacc, hq0, h, m, h0, hr, h1, h2 => by
    have key : ∀ (e acc m : Nat), 0 < acc → mr_ce (mr_c ps) p e acc = true → 0 < m → (∀ r, nt_P r → r ∣ m → r ∈ p :: ps) → acc * m < 1073741824 → 120 < acc * m → mr_t (acc * m) = true := by
      intro e
      induction e with
      | zero => intro acc m _ h; cases h
      | succ e ih =>
        intro acc m hacc h h0 hr h1 h2
        rw [mr_ce_s, mr_fc_pos hacc] at h
        have hle : acc ≤ acc * m := Nat.le_mul_of_pos_right acc h0
        have eb : Nat.ble 1073741824 acc = false := by
          cases hb : Nat.ble 1073741824 acc with
          | false => rfl
          | true => have := Nat.le_of_ble_eq_true hb; omega
        rw [eb] at h
        obtain ⟨h3, h4⟩ := mr_and h
        by_cases hpm : p ∣ m
        · obtain ⟨m', rfl⟩ := hpm
          have hm' : 0 < m' := nt_div_pos h0 ⟨p, by rw [Nat.mul_comm]⟩
          rw [← Nat.mul_assoc] at h1 h2 ⊢
          exact ih (acc * p) m' (Nat.mul_pos hacc (hq0 p List.mem_cons_self)) h4 hm' (fun r hp hd => hr r hp (Nat.dvd_trans hd ⟨p, by rw [Nat.mul_comm]⟩)) h1 h2
        · refine mr_c_ok ps acc hacc (fun q hq => hq0 q (List.mem_cons_of_mem _ hq)) h3 m h0 (fun r hp hd => ?_) h1 h2
          rcases List.mem_cons.mp (hr r hp hd) with hq | hq
          · subst hq
            exact absurd hd hpm
          · exact hq
    rw [mr_c_c] at h
    exact key 12 acc m hacc h h0 hr h1 h2
end
section
/-! the kernel's runs -/
set_option maxRecDepth 100000 in
theorem mr_a0 : mr_la 13 0 = true := by decide +kernel
set_option maxRecDepth 100000 in
theorem mr_a1 : mr_la 13 8192 = true := by decide +kernel
set_option maxRecDepth 100000 in
theorem mr_a2 : mr_la 13 16384 = true := by decide +kernel
set_option maxRecDepth 100000 in
theorem mr_a3 : mr_la 13 24576 = true := by decide +kernel
end
section
/-! the kernel's runs -/
set_option maxRecDepth 100000 in
theorem mr_b0 : mr_ls 6 0 = true := by decide +kernel
set_option maxRecDepth 100000 in
theorem mr_b1 : mr_ls 6 64 = true := by decide +kernel
set_option maxRecDepth 100000 in
theorem mr_b2 : mr_ls 7 128 = true := by decide +kernel
set_option maxRecDepth 100000 in
theorem mr_b3 : mr_ls 8 256 = true := by decide +kernel
set_option maxRecDepth 100000 in
theorem mr_b4 : mr_ls 9 512 = true := by decide +kernel
set_option maxRecDepth 100000 in
theorem mr_b5 : mr_ls 10 1024 = true := by decide +kernel
set_option maxRecDepth 100000 in
theorem mr_b6 : mr_ls 10 2048 = true := by decide +kernel
set_option maxRecDepth 100000 in
theorem mr_b7 : mr_ls 10 3072 = true := by decide +kernel
set_option maxRecDepth 100000 in
theorem mr_b8 : mr_ls 10 4096 = true := by decide +kernel
set_option maxRecDepth 100000 in
theorem mr_b9 : mr_ls 10 5120 = true := by decide +kernel
set_option maxRecDepth 100000 in
theorem mr_b10 : mr_ls 10 6144 = true := by decide +kernel
set_option maxRecDepth 100000 in
theorem mr_b11 : mr_ls 10 7168 = true := by decide +kernel
set_option maxRecDepth 100000 in
theorem mr_b12 : mr_ls 10 8192 = true := by decide +kernel
set_option maxRecDepth 100000 in
theorem mr_b13 : mr_ls 10 9216 = true := by decide +kernel
set_option maxRecDepth 100000 in
theorem mr_b14 : mr_ls 10 10240 = true := by decide +kernel
set_option maxRecDepth 100000 in
theorem mr_b15 : mr_ls 10 11264 = true := by decide +kernel
set_option maxRecDepth 100000 in
theorem mr_b16 : mr_ls 10 12288 = true := by decide +kernel
set_option maxRecDepth 100000 in
theorem mr_b17 : mr_ls 10 13312 = true := by decide +kernel
set_option maxRecDepth 100000 in
theorem mr_b18 : mr_ls 10 14336 = true := by decide +kernel
set_option maxRecDepth 100000 in
theorem mr_b19 : mr_ls 10 15360 = true := by decide +kernel
end
section
/-! the kernel's runs: C, one for each greatest prime factor -/
def mr_cl : List Nat := [97, 89, 83, 79, 73, 71, 67, 61, 59, 53, 47, 43, 41, 37, 31, 29, 23, 19, 17, 13, 11]
theorem mr_c_one {p : Nat} {ps : List Nat} (h1 : mr_c ps 1 = true) (h2 : mr_ce (mr_c ps) p 11 p = true) : mr_c (p :: ps) 1 = true := by
  rw [mr_c_c, mr_ce_s, mr_fc_pos (by decide)]
  show and (mr_c ps 1) (mr_ce (mr_c ps) p 11 (1 * p)) = true
  rw [h1, Nat.one_mul, h2]
  rfl
set_option maxRecDepth 100000 in
theorem mr_c1_97 : mr_ce (mr_c [89, 83, 79, 73, 71, 67, 61, 59, 53, 47, 43, 41, 37, 31, 29, 23, 19, 17, 13, 11]) 97 11 97 = true := by decide +kernel
set_option maxRecDepth 100000 in
theorem mr_c1_89 : mr_ce (mr_c [83, 79, 73, 71, 67, 61, 59, 53, 47, 43, 41, 37, 31, 29, 23, 19, 17, 13, 11]) 89 11 89 = true := by decide +kernel
set_option maxRecDepth 100000 in
theorem mr_c1_83 : mr_ce (mr_c [79, 73, 71, 67, 61, 59, 53, 47, 43, 41, 37, 31, 29, 23, 19, 17, 13, 11]) 83 11 83 = true := by decide +kernel
set_option maxRecDepth 100000 in
theorem mr_c1_79 : mr_ce (mr_c [73, 71, 67, 61, 59, 53, 47, 43, 41, 37, 31, 29, 23, 19, 17, 13, 11]) 79 11 79 = true := by decide +kernel
set_option maxRecDepth 100000 in
theorem mr_c1_73 : mr_ce (mr_c [71, 67, 61, 59, 53, 47, 43, 41, 37, 31, 29, 23, 19, 17, 13, 11]) 73 11 73 = true := by decide +kernel
set_option maxRecDepth 100000 in
theorem mr_c1_71 : mr_ce (mr_c [67, 61, 59, 53, 47, 43, 41, 37, 31, 29, 23, 19, 17, 13, 11]) 71 11 71 = true := by decide +kernel
set_option maxRecDepth 100000 in
theorem mr_c1_67 : mr_ce (mr_c [61, 59, 53, 47, 43, 41, 37, 31, 29, 23, 19, 17, 13, 11]) 67 11 67 = true := by decide +kernel
set_option maxRecDepth 100000 in
theorem mr_c1_61 : mr_ce (mr_c [59, 53, 47, 43, 41, 37, 31, 29, 23, 19, 17, 13, 11]) 61 11 61 = true := by decide +kernel
set_option maxRecDepth 100000 in
theorem mr_c1_59 : mr_ce (mr_c [53, 47, 43, 41, 37, 31, 29, 23, 19, 17, 13, 11]) 59 11 59 = true := by decide +kernel
set_option maxRecDepth 100000 in
theorem mr_c1_53 : mr_ce (mr_c [47, 43, 41, 37, 31, 29, 23, 19, 17, 13, 11]) 53 11 53 = true := by decide +kernel
set_option maxRecDepth 100000 in
theorem mr_c1_47 : mr_ce (mr_c [43, 41, 37, 31, 29, 23, 19, 17, 13, 11]) 47 11 47 = true := by decide +kernel
set_option maxRecDepth 100000 in
theorem mr_c1_43 : mr_ce (mr_c [41, 37, 31, 29, 23, 19, 17, 13, 11]) 43 11 43 = true := by decide +kernel
set_option maxRecDepth 100000 in
theorem mr_c1_41 : mr_ce (mr_c [37, 31, 29, 23, 19, 17, 13, 11]) 41 11 41 = true := by decide +kernel
set_option maxRecDepth 100000 in
theorem mr_c1_37 : mr_ce (mr_c [31, 29, 23, 19, 17, 13, 11]) 37 11 37 = true := by decide +kernel
set_option maxRecDepth 100000 in
theorem mr_c1_31 : mr_ce (mr_c [29, 23, 19, 17, 13, 11]) 31 11 31 = true := by decide +kernel
set_option maxRecDepth 100000 in
theorem mr_c1_29 : mr_ce (mr_c [23, 19, 17, 13, 11]) 29 11 29 = true := by decide +kernel
set_option maxRecDepth 100000 in
theorem mr_c1_23 : mr_ce (mr_c [19, 17, 13, 11]) 23 11 23 = true := by decide +kernel
set_option maxRecDepth 100000 in
theorem mr_c1_19 : mr_ce (mr_c [17, 13, 11]) 19 11 19 = true := by decide +kernel
set_option maxRecDepth 100000 in
theorem mr_c1_17 : mr_ce (mr_c [13, 11]) 17 11 17 = true := by decide +kernel
set_option maxRecDepth 100000 in
theorem mr_c1_13 : mr_ce (mr_c [11]) 13 11 13 = true := by decide +kernel
set_option maxRecDepth 100000 in
theorem mr_c1_11 : mr_ce (mr_c []) 11 11 11 = true := by decide +kernel
theorem mr_c0 : mr_c mr_cl 1 = true := mr_c_one (mr_c_one (mr_c_one (mr_c_one (mr_c_one (mr_c_one (mr_c_one (mr_c_one (mr_c_one (mr_c_one (mr_c_one (mr_c_one (mr_c_one (mr_c_one (mr_c_one (mr_c_one (mr_c_one (mr_c_one (mr_c_one (mr_c_one (mr_c_one (show mr_c [] 1 = true from rfl) mr_c1_11) mr_c1_13) mr_c1_17) mr_c1_19) mr_c1_23) mr_c1_29) mr_c1_31) mr_c1_37) mr_c1_41) mr_c1_43) mr_c1_47) mr_c1_53) mr_c1_59) mr_c1_61) mr_c1_67) mr_c1_71) mr_c1_73) mr_c1_79) mr_c1_83) mr_c1_89) mr_c1_97
end
section
/-! the strong test to 2, 3, 5, 7 tells the primes below 2^30; and p = 2 q + 1 for a prime q -/
theorem nt_P2 : nt_P 2 := nt_trial (by decide) (fun d h1 h2 => by
  have := Nat.mul_le_mul h1 h1
  omega)
theorem nt_P3 : nt_P 3 := nt_trial (by decide) (fun d h1 h2 => by
  have := Nat.mul_le_mul h1 h1
  omega)
theorem nt_lt3 {d n : Nat} (h1 : 2 ≤ d) (h2 : d * d ≤ n) (hn : n < 9) : d = 2 := by
  by_cases h : d = 2
  · exact h
  · have h3 : 3 ≤ d := by omega
    have := Nat.mul_le_mul h3 h3
    omega
theorem nt_P5 : nt_P 5 := nt_trial (by decide) (fun d h1 h2 => by
  have := nt_lt3 h1 h2 (by decide)
  subst this
  decide)
theorem nt_P7 : nt_P 7 := nt_trial (by decide) (fun d h1 h2 => by
  have := nt_lt3 h1 h2 (by decide)
  subst this
  decide)
theorem nt_sq1 {n : Nat} (hn : 2 ≤ n) : (n - 1) * (n - 1) % n = 1 := by
  obtain ⟨k, rfl⟩ : ∃ k, n = k + 2 := ⟨n - 2, by omega⟩
  have e : (k + 2 - 1) * (k + 2 - 1) = 1 + (k + 2) * k := by
    rw [show k + 2 - 1 = k + 1 by omega]
    grind
  rw [e, Nat.add_mul_mod_self_left]
  exact Nat.mod_eq_of_lt (by omega)
theorem mr_fermat_of {n b : Nat} (hn : 2 ≤ n) (h : mr_S n b) : b ^ (n - 1) % n = 1 := by
  obtain ⟨j, h1, h2, ⟨c, hc⟩, h4⟩ := h
  have h1m : 1 % n = 1 := Nat.mod_eq_of_lt (by omega)
  have hdiv : (n - 1) / 2 ^ j = c := by rw [hc, Nat.mul_div_cancel_left c (Nat.pow_pos (by decide))]
  rw [hdiv] at h4
  rcases h4 with h4 | ⟨-, h4⟩
  · obtain ⟨i, rfl⟩ : ∃ i, j = i + 1 := ⟨j - 1, by omega⟩
    have h5 : b ^ (c * 2) % n = 1 := by
      rw [Nat.pow_mul, Nat.pow_mod, h4, Nat.pow_two]
      exact nt_sq1 hn
    have h6 := nt_pow_one h5 (2 ^ i)
    rw [hc, Nat.pow_succ, show 2 ^ i * 2 * c = c * 2 * 2 ^ i by rw [Nat.mul_comm, Nat.mul_comm (2 ^ i), Nat.mul_assoc], h6, h1m]
  · have h6 := nt_pow_one h4 (2 ^ j)
    rw [hc, Nat.mul_comm, h6, h1m]
theorem mr_coprime {n b : Nat} (hb : nt_P b) (hn : 2 ≤ n) (h : mr_S n b) : ¬ b ∣ n := by
  intro hd
  have hf := mr_fermat_of hn h
  have h1 : b ∣ b ^ (n - 1) := by
    obtain ⟨k, hk⟩ : ∃ k, n - 1 = k + 1 := ⟨n - 2, by omega⟩
    rw [hk, Nat.pow_succ]
    exact Nat.dvd_mul_left b _
  have h2 : b ^ (n - 1) = n * (b ^ (n - 1) / n) + 1 := by
    have := Nat.div_add_mod (b ^ (n - 1)) n
    rw [hf] at this
    exact this.symm
  have h3 : b ∣ n * (b ^ (n - 1) / n) := Nat.dvd_trans hd (Nat.dvd_mul_right n _)
  have h4 : b ∣ 1 := by
    rw [h2] at h1
    exact (Nat.dvd_add_right h3).mp h1
  have := Nat.le_of_dvd (by decide) h4
  have := hb.1
  omega
theorem mr_g105 {n : Nat} (h3 : ¬ 3 ∣ n) (h5 : ¬ 5 ∣ n) (h7 : ¬ 7 ∣ n) : Nat.gcd n 105 = 1 := by
  apply Classical.byContradiction
  intro hc
  have h0 : 0 < Nat.gcd n 105 := Nat.gcd_pos_of_pos_right n (by decide)
  obtain ⟨r, hr, hd⟩ := nt_fac (Nat.gcd n 105) (by omega)
  have hn : r ∣ n := Nat.dvd_trans hd (Nat.gcd_dvd_left n 105)
  have h105 : r ∣ 3 * (5 * 7) := Nat.dvd_trans hd (Nat.gcd_dvd_right n 105)
  have h2 := hr.1
  rcases nt_euclid hr h105 with h | h
  · rcases nt_P3.2 r h with h | h
    · omega
    · exact h3 (h ▸ hn)
  · rcases nt_euclid hr h with h | h
    · rcases nt_P5.2 r h with h | h
      · omega
      · exact h5 (h ▸ hn)
    · rcases nt_P7.2 r h with h | h
      · omega
      · exact h7 (h ▸ hn)
theorem mr_red {n s k b : Nat} (hs : nt_P s) (hb : ¬ s ∣ b) (hn : n = s * k) (hk : 0 < k) (h : b ^ (n - 1) % n = 1) : b ^ (k - 1) % s = 1 := by
  have hs2 := hs.1
  have h1 : b ^ (n - 1) % s = 1 := by
    have h3 : b ^ (n - 1) % n % s = b ^ (n - 1) % s := Nat.mod_mod_of_dvd _ ⟨k, hn⟩
    rw [← h3, h]
    exact Nat.mod_eq_of_lt (by omega)
  have h2 := nt_fermat hs hb
  have e : n - 1 = (s - 1) * k + (k - 1) := by
    rw [hn, Nat.sub_mul, Nat.one_mul]
    have : k ≤ s * k := Nat.le_mul_of_pos_left k (by omega)
    omega
  rw [e, Nat.pow_add, Nat.mul_mod, nt_pow_one h2, ← Nat.mul_mod, Nat.one_mul] at h1
  exact h1
theorem mr_ndvd {s b : Nat} (h0 : 0 < b) (h : b < s) : ¬ s ∣ b := fun hd => by
  have := Nat.le_of_dvd h0 hd
  omega
theorem mr_red1 {n s k : Nat} (hs : nt_P s) (h7 : 7 < s) (hn : n = s * k) (hk : 0 < k) (ha : mr_all n) : mr_one s (k - 1) := by
  obtain ⟨-, -, f2, f3, f5, f7⟩ := ha
  exact ⟨mr_red hs (mr_ndvd (by decide) (by omega)) hn hk f2, mr_red hs (mr_ndvd (by decide) (by omega)) hn hk f3, mr_red hs (mr_ndvd (by decide) (by omega)) hn hk f5, mr_red hs (mr_ndvd (by decide) (by omega)) hn hk f7⟩
theorem mr_L_le (s : Nat) : mr_L s ≤ s - 1 := by
  unfold mr_L
  cases mr_ix s 4 with
  | true => exact Nat.div_le_self _ _
  | false =>
    cases mr_ix s 3 with
    | true => exact Nat.div_le_self _ _
    | false =>
      cases mr_ix s 2 with
      | true => exact Nat.div_le_self _ _
      | false => exact Nat.le_refl _
theorem mr_pr1 : mr_pr [2, 3, 5, 7, 11, 13] = 30030 := by decide +kernel
theorem mr_pr2 : mr_pr mr_ps = 5397346292805549782720214077673687806275517530364350655459511599582614290 := by decide +kernel
theorem mr_ps_le : ∀ a ∈ mr_ps, 0 < a ∧ a ≤ 181 := by decide +kernel
theorem mr_nbeq {a b : Nat} (h : a = b) : not (Nat.beq a b) = false := by
  rw [h, Nat.beq_refl]
  rfl
theorem mr_cmp_no {s : Nat} (hs : nt_P s) (h : 100 < s) : mr_cmp s = false := by
  unfold mr_cmp
  by_cases h1 : s ≤ 181
  · rw [show Nat.ble s 181 = true from Nat.ble_eq_true_of_le h1]
    refine mr_nbeq ?_
    rcases hs.2 _ (Nat.gcd_dvd_left s 30030) with h2 | h2
    · exact h2
    · exfalso
      have h3 : s ∣ mr_pr [2, 3, 5, 7, 11, 13] := by
        rw [mr_pr1]
        have := Nat.gcd_dvd_right s 30030
        rw [h2] at this
        exact this
      obtain ⟨a, ha, hd⟩ := mr_pr_dvd hs _ h3
      have h4 : ∀ a ∈ [2, 3, 5, 7, 11, 13], 0 < a ∧ a ≤ 13 := by decide
      have := h4 a ha
      have := Nat.le_of_dvd (by omega) hd
      omega
  · have hb : Nat.ble s 181 = false := by
      cases hb : Nat.ble s 181 with
      | false => rfl
      | true => exact absurd (Nat.le_of_ble_eq_true hb) h1
    rw [hb]
    refine mr_nbeq ?_
    rcases hs.2 _ (Nat.gcd_dvd_left s _) with h2 | h2
    · exact h2
    · exfalso
      have h3 : s ∣ mr_pr mr_ps := by
        rw [mr_pr2]
        have := Nat.gcd_dvd_right s 5397346292805549782720214077673687806275517530364350655459511599582614290
        rw [h2] at this
        exact this
      obtain ⟨a, ha, hd⟩ := mr_pr_dvd hs _ h3
      have := mr_ps_le a ha
      have := Nat.le_of_dvd (by omega) hd
      omega
theorem mr_nbl {a b : Nat} (h : b < a) : Nat.ble a b = false := by
  cases hb : Nat.ble a b with
  | false => rfl
  | true => have := Nat.le_of_ble_eq_true hb; omega
theorem mr_B {n s k : Nat} (hs : nt_P s) (h1 : 100 < s) (h2 : s < 32768) (hodd : s % 2 = 1) (hn : n = s * k) (hk : 1 < k) (hlt : n < 1073741824) (ha : mr_all n) : False := by
  have ho : mr_os s = true := by
    have e : s = 2 * ((s - 1) / 2) + 1 := by omega
    have hi : (s - 1) / 2 < 16384 := by omega
    rw [e]
    generalize (s - 1) / 2 = i at hi
    have key : ∀ d a, mr_ls d a = true → a ≤ i → i < a + 2 ^ d → mr_os (2 * i + 1) = true := by
      intro d a hc ha hb
      have h := mr_ls_ok d a hc (i - a) (by omega)
      rw [show a + (i - a) = i by omega] at h
      exact h
    rcases (by omega : (0 ≤ i ∧ i < 64) ∨ (64 ≤ i ∧ i < 128) ∨ (128 ≤ i ∧ i < 256) ∨ (256 ≤ i ∧ i < 512) ∨ (512 ≤ i ∧ i < 1024) ∨ (1024 ≤ i ∧ i < 2048) ∨ (2048 ≤ i ∧ i < 3072) ∨ (3072 ≤ i ∧ i < 4096) ∨ (4096 ≤ i ∧ i < 5120) ∨ (5120 ≤ i ∧ i < 6144) ∨ (6144 ≤ i ∧ i < 7168) ∨ (7168 ≤ i ∧ i < 8192) ∨ (8192 ≤ i ∧ i < 9216) ∨ (9216 ≤ i ∧ i < 10240) ∨ (10240 ≤ i ∧ i < 11264) ∨ (11264 ≤ i ∧ i < 12288) ∨ (12288 ≤ i ∧ i < 13312) ∨ (13312 ≤ i ∧ i < 14336) ∨ (14336 ≤ i ∧ i < 15360) ∨ (15360 ≤ i ∧ i < 16384)) with h | h | h | h | h | h | h | h | h | h | h | h | h | h | h | h | h | h | h | h
    · exact key 6 0 mr_b0 h.1 (by omega)
    · exact key 6 64 mr_b1 h.1 (by omega)
    · exact key 7 128 mr_b2 h.1 (by omega)
    · exact key 8 256 mr_b3 h.1 (by omega)
    · exact key 9 512 mr_b4 h.1 (by omega)
    · exact key 10 1024 mr_b5 h.1 (by omega)
    · exact key 10 2048 mr_b6 h.1 (by omega)
    · exact key 10 3072 mr_b7 h.1 (by omega)
    · exact key 10 4096 mr_b8 h.1 (by omega)
    · exact key 10 5120 mr_b9 h.1 (by omega)
    · exact key 10 6144 mr_b10 h.1 (by omega)
    · exact key 10 7168 mr_b11 h.1 (by omega)
    · exact key 10 8192 mr_b12 h.1 (by omega)
    · exact key 10 9216 mr_b13 h.1 (by omega)
    · exact key 10 10240 mr_b14 h.1 (by omega)
    · exact key 10 11264 mr_b15 h.1 (by omega)
    · exact key 10 12288 mr_b16 h.1 (by omega)
    · exact key 10 13312 mr_b17 h.1 (by omega)
    · exact key 10 14336 mr_b18 h.1 (by omega)
    · exact key 10 15360 mr_b19 h.1 (by omega)
  unfold mr_os at ho
  rw [mr_fc_pos (by omega), mr_nbl h1, mr_cmp_no hs h1] at ho
  have ho : mr_goL s (mr_L s) = true := ho
  have hle := mr_L_le s
  generalize mr_L s = L at ho hle
  cases L with
  | zero => cases ho
  | succ L =>
    have ho : and (Nat.ble 1 (L + 1)) (mr_fc (L + 1) (fun L => and (and (not (mr_bad s L)) (mr_od s L 181)) (cond (Nat.ble s 1008) (mr_lc s L 105) (mr_lb s L 30 (L + 1))))) = true := ho
    obtain ⟨-, ho⟩ := mr_and ho
    rw [mr_fc_pos (k := L + 1) (by omega)] at ho
    obtain ⟨h3, h4⟩ := mr_and ho
    obtain ⟨h5, h6⟩ := mr_and h3
    have hone : mr_one s (L + 1) := by
      rw [mr_bad_eq, Bool.not_not] at h5
      obtain ⟨a1, h5⟩ := mr_and h5
      obtain ⟨a2, h5⟩ := mr_and h5
      obtain ⟨a3, a4⟩ := mr_and h5
      exact ⟨Nat.eq_of_beq_eq_true a1, Nat.eq_of_beq_eq_true a2, Nat.eq_of_beq_eq_true a3, Nat.eq_of_beq_eq_true a4⟩
    obtain ⟨j, hj⟩ := mr_ord (by omega) (by omega) h6 hone (mr_red1 hs (by omega) hn (by omega) ha)
    have hj0 : 0 < j := by
      rcases Nat.eq_zero_or_pos j with h | h
      · subst h
        omega
      · exact h
    have hk2 : k = L + 1 + 1 + (L + 1) * (j - 1) := by
      rw [Nat.mul_sub, Nat.mul_one]
      have : L + 1 ≤ (L + 1) * j := Nat.le_mul_of_pos_right _ hj0
      omega
    have hkn : k ≤ s * k := Nat.le_mul_of_pos_left k (by omega)
    have hjk : j ≤ (L + 1) * j := Nat.le_mul_of_pos_left j (by omega)
    cases hb : Nat.ble s 1008 with
    | false =>
      rw [hb] at h4
      have h7 := mr_lb_ok s (L + 1) (by omega) 30 (L + 1 + 1) (by omega) h4 (j - 1) (by omega)
      rw [← hk2, ← hn] at h7
      exact mr_t_no (h7 hlt) ha
    | true =>
      rw [hb] at h4
      have h4 : mr_lc s (L + 1) 105 = true := h4
      have ek : k = (L + 1) * ((j - 1) % 105 + 1) + 1 + 105 * (L + 1) * ((j - 1) / 105) := by
        have e1 : j = (j - 1) % 105 + 1 + 105 * ((j - 1) / 105) := by omega
        have e2 : (L + 1) * j = (L + 1) * ((j - 1) % 105 + 1) + 105 * (L + 1) * ((j - 1) / 105) := by
          rw [Nat.mul_comm 105 (L + 1), Nat.mul_assoc, ← Nat.mul_add, ← e1]
        omega
      have hcc : (j - 1) % 105 + 1 ≤ 105 := by omega
      have hc1 : 1 ≤ (j - 1) % 105 + 1 := by omega
      have hii : (j - 1) / 105 < 2 ^ 30 := by omega
      generalize (j - 1) % 105 + 1 = cc at ek hcc hc1
      generalize (j - 1) / 105 = ii at ek hii
      have en : n = s * ((L + 1) * cc + 1) + 105 * (s * (L + 1) * ii) := by
        rw [hn, ek]
        grind
      have hg := ha.1
      rw [en] at hg
      have h8 := mr_lc_ok s (L + 1) (by omega) 105 h4 cc hc1 hcc (mr_gmod hg)
      have h7 := mr_lb_ok s (105 * (L + 1)) (by omega) 30 ((L + 1) * cc + 1) (by omega) h8 ii hii
      rw [← ek, ← hn] at h7
      exact mr_t_no (h7 hlt) ha
theorem mr_A {n s k : Nat} (hs : nt_P s) (h1 : 32768 < s) (hn : n = s * k) (hk : 1 < k) (hodd : n % 2 = 1) (hlt : n < 1073741824) (ha : mr_all n) : False := by
  have hk5 : k < 32768 := by
    apply Classical.byContradiction
    intro hc
    have : 32768 * 32768 ≤ s * k := Nat.mul_le_mul (by omega) (by omega)
    omega
  have ho : mr_ak k = true := by
    have key : ∀ c, mr_la 13 (c * 8192) = true → c * 8192 ≤ k → k < c * 8192 + 8192 → mr_ak k = true := by
      intro c hc ha hb
      have h := mr_la_ok 13 (c * 8192) hc (k - c * 8192) (by omega)
      rw [show c * 8192 + (k - c * 8192) = k by omega] at h
      exact h
    rcases (by omega : k < 8192 ∨ (8192 ≤ k ∧ k < 16384) ∨ (16384 ≤ k ∧ k < 24576) ∨ 24576 ≤ k) with h | h | h | h
    · exact key 0 mr_a0 (by omega) (by omega)
    · exact key 1 mr_a1 (by omega) (by omega)
    · exact key 2 mr_a2 (by omega) (by omega)
    · exact key 3 mr_a3 (by omega) (by omega)
  have hg210 : Nat.gcd k 210 = 1 := by
    apply Classical.byContradiction
    intro hc
    have h0 : 0 < Nat.gcd k 210 := Nat.gcd_pos_of_pos_right k (by decide)
    obtain ⟨r, hr, hd⟩ := nt_fac (Nat.gcd k 210) (by omega)
    have hrk : r ∣ k := Nat.dvd_trans hd (Nat.gcd_dvd_left k 210)
    have hrn : r ∣ n := by rw [hn]; exact Nat.dvd_trans hrk (Nat.dvd_mul_left k s)
    have h210 : r ∣ 2 * 105 := Nat.dvd_trans hd (Nat.gcd_dvd_right k 210)
    have h2 := hr.1
    rcases nt_euclid hr h210 with h | h
    · rcases nt_P2.2 r h with h | h
      · omega
      · subst h
        omega
    · have h3 : r ∣ Nat.gcd (n * (2 * n + 1)) 105 := Nat.dvd_gcd (Nat.dvd_trans hrn (Nat.dvd_mul_right n _)) h
      rw [ha.1] at h3
      have := Nat.le_of_dvd (by decide) h3
      omega
  unfold mr_ak at ho
  rw [mr_nbl hk, hg210] at ho
  have ho : mr_aG k (mr_g k) = true := ho
  have hone := mr_red1 hs (by omega) hn (by omega) ha
  have hsub : ∀ b : Nat, b ^ (k - 1) % s = 1 → s ∣ b ^ (k - 1) - 1 := by
    intro b hb
    have h1m : 1 % s = 1 := Nat.mod_eq_of_lt (by omega)
    exact Nat.dvd_of_mod_eq_zero (Nat.sub_mod_eq_zero_of_mod_eq (by rw [hb, h1m]))
  have hsg : s ∣ mr_g k := Nat.dvd_gcd (Nat.dvd_gcd (Nat.dvd_gcd (hsub 2 hone.1) (hsub 3 hone.2.1)) (hsub 5 hone.2.2.1)) (hsub 7 hone.2.2.2)
  generalize mr_g k = G at ho hsg
  cases G with
  | zero => cases ho
  | succ G =>
    rw [mr_aG_eq] at ho
    have hQd : ∀ r, nt_P r → r ∣ mr_pp 15 1 → r < 1 + 2 ^ 15 := fun r hr hd => mr_pp_dvd hr 15 1 Nat.one_pos hd
    generalize mr_pp 15 1 = QQ at ho hQd
    obtain ⟨-, ho⟩ := mr_and ho
    rw [mr_fc_pos (k := G + 1) (by omega)] at ho
    have hD : Nat.gcd (G + 1) ((QQ % (G + 1)) ^ 10 % (G + 1)) = Nat.gcd (G + 1) (QQ ^ 10) := by
      rw [← Nat.pow_mod, Nat.gcd_comm (G + 1), ← Nat.gcd_rec]
    rw [hD] at ho
    have hsD : ¬ s ∣ Nat.gcd (G + 1) (QQ ^ 10) := by
      intro hd
      have h2 := nt_euclid_pow hs 10 (Nat.dvd_trans hd (Nat.gcd_dvd_right _ _))
      have h3 := hQd s hs h2
      have h4 : (2 : Nat) ^ 15 = 32768 := by decide
      omega
    have hdv : Nat.gcd (G + 1) (QQ ^ 10) ∣ G + 1 := Nat.gcd_dvd_left _ _
    generalize Nat.gcd (G + 1) (QQ ^ 10) = D at ho hsD hdv
    obtain ⟨R, hR⟩ := hdv
    have hD0 : 0 < D := nt_div_pos (n := G + 1) (by omega) ⟨R, hR⟩
    rw [hR, Nat.mul_div_cancel_left R hD0] at ho
    have hsR : s ∣ R := by
      rw [hR] at hsg
      rcases nt_euclid hs hsg with h | h
      · exact absurd h hsD
      · exact h
    have c3 : ∀ R, s ∣ R → mr_c3 k R = true → False := by
      intro R hsR ho
      unfold mr_c3 at ho
      obtain ⟨h0, h3⟩ := mr_and ho
      obtain ⟨h2, h3⟩ := mr_and h3
      obtain ⟨c1, h3⟩ := mr_and h3
      obtain ⟨c2, c3⟩ := mr_and h3
      have h0 := Nat.le_of_ble_eq_true h0
      have h2 := Nat.le_of_ble_eq_true h2
      obtain ⟨c, hc⟩ := hsR
      have hc0 : 0 < c := nt_div_pos (n := R) (by omega) ⟨s, by rw [hc, Nat.mul_comm]⟩
      have hc4 : c < 4 := by
        apply Classical.byContradiction
        intro hq
        have : 32769 * 4 ≤ s * c := Nat.mul_le_mul (by omega) (by omega)
        omega
      have fin : ∀ c, 0 < c → R = s * c → mr_c1 k R c = true → False := by
        intro c h0 hc h
        unfold mr_c1 at h
        rw [hc, Nat.mul_mod_left, Nat.mul_div_cancel s h0] at h
        have hks : k * s = n := by rw [hn, Nat.mul_comm]
        rw [hks, mr_nbl hlt] at h
        exact mr_t_no h ha
      rcases (by omega : c = 1 ∨ c = 2 ∨ c = 3) with rfl | rfl | rfl
      · exact fin 1 (by decide) hc c1
      · exact fin 2 (by decide) hc c2
      · exact fin 3 (by decide) hc c3
    unfold mr_aR at ho
    rcases mr_or ho with h | h
    · have := Nat.eq_of_beq_eq_true h
      subst this
      have := Nat.le_of_dvd (by decide) hsR
      omega
    · rcases mr_or h with h | h
      · exact c3 R hsR h
      · obtain ⟨h2, h3⟩ := mr_and h
        obtain ⟨h3, h4⟩ := mr_and h3
        have h2 := Nat.eq_of_beq_eq_true h2
        have e : R = 54121 * (R / 54121) := by omega
        rw [e] at hsR
        rcases nt_euclid hs hsR with h | h
        · exact c3 _ h h3
        · exact c3 _ h h4
theorem mr_cl_all : ∀ r, r < 101 → 2 ≤ r → r ∈ mr_cl ∨ r % 2 = 0 ∨ r % 3 = 0 ∨ r % 5 = 0 ∨ r % 7 = 0 := by decide +kernel
theorem mr_main {n : Nat} (hlt : n < 1073741824) (h7 : 7 < n) (hodd : n % 2 = 1) (hM : Nat.gcd (n * (2 * n + 1)) 105 = 1) (s2 : mr_S n 2) (s3 : mr_S n 3) (s5 : mr_S n 5) (s7 : mr_S n 7) : nt_P n := by
  have n3 := mr_coprime nt_P3 (by omega) s3
  have n5 := mr_coprime nt_P5 (by omega) s5
  have n7 := mr_coprime nt_P7 (by omega) s7
  have ha : mr_all n := ⟨hM, ⟨s2, s3, s5, s7⟩, mr_fermat_of (by omega) s2, mr_fermat_of (by omega) s3, mr_fermat_of (by omega) s5, mr_fermat_of (by omega) s7⟩
  apply Classical.byContradiction
  intro hc
  have cof : ∀ s, nt_P s → s ∣ n → ∃ k, n = s * k ∧ 1 < k ∧ s % 2 = 1 := by
    intro s hs ⟨k, hk⟩
    refine ⟨k, hk, ?_, ?_⟩
    · apply Classical.byContradiction
      intro hq
      rcases (by omega : k = 0 ∨ k = 1) with h | h
      · subst h; omega
      · subst h
        rw [Nat.mul_one] at hk
        rw [hk] at hc
        exact hc hs
    · apply Classical.byContradiction
      intro hq
      have h2 : 2 ∣ s := by omega
      have h3 : 2 ∣ n := Nat.dvd_trans h2 ⟨k, hk⟩
      omega
  by_cases hA : ∃ s, nt_P s ∧ s ∣ n ∧ 32768 < s
  · obtain ⟨s, hs, hd, hb⟩ := hA
    obtain ⟨k, hk, hk1, -⟩ := cof s hs hd
    exact mr_A hs hb hk hk1 hodd hlt ha
  · by_cases hB : ∃ s, nt_P s ∧ s ∣ n ∧ 100 < s
    · obtain ⟨s, hs, hd, hb⟩ := hB
      obtain ⟨k, hk, hk1, ho⟩ := cof s hs hd
      have hs5 : ¬ 32768 < s := fun h => hA ⟨s, hs, hd, h⟩
      exact mr_B hs hb (by omega) ho hk hk1 hlt ha
    · have hr : ∀ r, nt_P r → r ∣ n → r ∈ mr_cl := by
        intro r hp hd
        have h100 : ¬ 100 < r := fun h => hB ⟨r, hp, hd, h⟩
        have sub : ∀ b, r % b = 0 → b ∣ n := fun b hb => Nat.dvd_trans (Nat.dvd_of_mod_eq_zero hb) hd
        rcases mr_cl_all r (by omega) hp.1 with h | h | h | h | h
        · exact h
        · have := sub 2 h
          omega
        · exact absurd (sub 3 h) n3
        · exact absurd (sub 5 h) n5
        · exact absurd (sub 7 h) n7
      obtain ⟨p, hp, hpn, hpp⟩ := nt_small (by omega) hc
      have h11 : ∀ a ∈ mr_cl, 11 ≤ a := by decide +kernel
      have hp11 := h11 p (hr p hp hpn)
      have h121 : 11 * 11 ≤ p * p := Nat.mul_le_mul hp11 hp11
      have h := mr_c_ok mr_cl 1 (by decide) (fun a ha => by have := h11 a ha; omega) mr_c0 n (by omega) hr (by omega) (by omega)
      rw [Nat.one_mul] at h
      exact mr_t_no h ha
theorem mr_pock {p q : Nat} (hq : nt_P q) (hp : p = 2 * q + 1) (hq3 : 3 ≤ q) (s2 : mr_S p 2) (s3 : mr_S p 3) : nt_P p := by
  apply Classical.byContradiction
  intro hc
  obtain ⟨r, hr, hrp, hrr⟩ := nt_small (by omega) hc
  have hr2 := hr.1
  have f2 := mr_fermat_of (by omega) s2
  have hne2 : r ≠ 2 := by
    intro h
    subst h
    omega
  have h1 : 2 ^ (p - 1) % r = 1 := by
    have h3 : 2 ^ (p - 1) % p % r = 2 ^ (p - 1) % r := Nat.mod_mod_of_dvd _ hrp
    rw [← h3, f2]
    exact Nat.mod_eq_of_lt (by omega)
  have h2 := nt_fermat hr (mr_ndvd (b := 2) (by decide) (by omega))
  have h3 := nt_pow_gcd _ _ h1 h2
  have hg1 : Nat.gcd (p - 1) (r - 1) ∣ r - 1 := Nat.gcd_dvd_right _ _
  have hg2 : Nat.gcd (p - 1) (r - 1) ∣ 2 * q := by
    have := Nat.gcd_dvd_left (p - 1) (r - 1)
    rw [show p - 1 = 2 * q by omega] at this ⊢
    exact this
  generalize Nat.gcd (p - 1) (r - 1) = g at h3 hg1 hg2
  have hgle := Nat.le_of_dvd (by omega) hg1
  rcases hq.2 (Nat.gcd q g) (Nat.gcd_dvd_left q g) with h | h
  · have hc2 : Nat.Coprime g q := by rw [Nat.Coprime, Nat.gcd_comm]; exact h
    obtain ⟨c, hc2⟩ := Nat.Coprime.dvd_of_dvd_mul_right hc2 hg2
    have h4 := nt_pow_one h3 c
    rw [← hc2, nt_one_mod h3] at h4
    have hr3 : r = 3 := by
      have h5 : (4 : Nat) % r = 1 := h4
      by_cases h6 : r ≤ 4
      · rcases (by omega : r = 3 ∨ r = 4) with h | h
        · exact h
        · subst h
          omega
      · rw [Nat.mod_eq_of_lt (by omega)] at h5
        omega
    subst hr3
    exact mr_coprime nt_P3 (by omega) s3 hrp
  · have hqg : q ∣ g := by
      have := Nat.gcd_dvd_right q g
      rw [h] at this
      exact this
    have hg0 : 0 < g := nt_div_pos (n := r - 1) (by omega) hg1
    have h4 := Nat.le_of_dvd hg0 hqg
    have h5 : (q + 1) * (q + 1) ≤ r * r := Nat.mul_le_mul (by omega) (by omega)
    have h6 : (q + 1) * (q + 1) = q * q + 2 * q + 1 := by grind
    have h7 : 3 * 3 ≤ q * q := Nat.mul_le_mul hq3 hq3
    omega
/-! primes pass -/
theorem nt_v2 (m : Nat) : 0 < m → ∃ s o, m = 2 ^ s * o ∧ o % 2 = 1 := by
  induction m using Nat.strongRecOn with
  | _ m ih =>
    intro h
    by_cases h2 : m % 2 = 1
    · exact ⟨0, m, by simp, h2⟩
    · obtain ⟨s, o, h3, h4⟩ := ih (m / 2) (by omega) (by omega)
      refine ⟨s + 1, o, ?_, h4⟩
      rw [Nat.pow_succ, Nat.mul_comm (2 ^ s), Nat.mul_assoc, ← h3]
      omega
theorem nt_sqrt {n y : Nat} (hn : nt_P n) (h : y * y % n = 1) : y % n = 1 ∨ y % n = n - 1 := by
  have h2 := hn.1
  have h1m : 1 % n = 1 := Nat.mod_eq_of_lt (by omega)
  have hy0 : 0 < y := by
    rcases Nat.eq_zero_or_pos y with h0 | h0
    · subst h0
      simp at h
    · exact h0
  have h3 : n ∣ (y - 1) * (y + 1) := by
    have e : (y - 1) * (y + 1) = y * y - 1 := by
      obtain ⟨z, rfl⟩ : ∃ z, y = z + 1 := ⟨y - 1, by omega⟩
      have e2 : (z + 1) * (z + 1) = z * (z + 1 + 1) + 1 := by grind
      rw [e2]
      rfl
    rw [e]
    exact Nat.dvd_of_mod_eq_zero (Nat.sub_mod_eq_zero_of_mod_eq (by rw [h, h1m]))
  rcases nt_euclid hn h3 with ⟨c, hc⟩ | ⟨c, hc⟩
  · left
    have : y = 1 + n * c := by omega
    rw [this, Nat.add_mul_mod_self_left, h1m]
  · right
    have hc0 : 0 < c := by
      rcases Nat.eq_zero_or_pos c with h0 | h0
      · subst h0
        omega
      · exact h0
    have e : y = (n - 1) + n * (c - 1) := by
      rw [Nat.mul_sub, Nat.mul_one]
      have : n ≤ n * c := Nat.le_mul_of_pos_right _ hc0
      omega
    rw [e, Nat.add_mul_mod_self_left]
    exact Nat.mod_eq_of_lt (by omega)
theorem mr_pass {n b : Nat} (hn : nt_P n) (hodd : n % 2 = 1) (hlt : n < 2 ^ 31) (hb : ¬ n ∣ b) : mr_S n b := by
  have h2 := hn.1
  have hf := nt_fermat hn hb
  obtain ⟨s, o, hso, ho⟩ := nt_v2 (n - 1) (by omega)
  have hs1 : 1 ≤ s := by
    rcases Nat.eq_zero_or_pos s with h | h
    · subst h
      rw [Nat.pow_zero, Nat.one_mul] at hso
      omega
    · exact h
  have hs30 : s ≤ 30 := by
    apply Classical.byContradiction
    intro hc
    have h1 : 2 ^ 31 ≤ 2 ^ s := Nat.pow_le_pow_right (by decide) (by omega)
    have h3 : 2 ^ s ≤ 2 ^ s * o := Nat.le_mul_of_pos_right _ (by omega)
    omega
  have key : ∀ j, j ≤ s → (∃ j, 1 ≤ j ∧ j ≤ s ∧ 2 ^ j ∣ n - 1 ∧ b ^ ((n - 1) / 2 ^ j) % n = n - 1) ∨ b ^ ((n - 1) / 2 ^ j) % n = 1 := by
    intro j
    induction j with
    | zero =>
      intro _
      right
      rw [Nat.pow_zero, Nat.div_one]
      exact hf
    | succ j ih =>
      intro hj
      rcases ih (by omega) with h | h
      · exact Or.inl h
      · have e1 : (n - 1) / 2 ^ j = 2 ^ (s - j) * o := by
          rw [hso, show 2 ^ s = 2 ^ j * 2 ^ (s - j) by rw [← Nat.pow_add]; congr 1; omega, Nat.mul_assoc, Nat.mul_div_cancel_left _ (Nat.pow_pos (by decide))]
        have e2 : (n - 1) / 2 ^ (j + 1) = 2 ^ (s - (j + 1)) * o := by
          rw [hso, show 2 ^ s = 2 ^ (j + 1) * 2 ^ (s - (j + 1)) by rw [← Nat.pow_add]; congr 1; omega, Nat.mul_assoc, Nat.mul_div_cancel_left _ (Nat.pow_pos (by decide))]
        have e3 : 2 ^ (s - j) * o = 2 ^ (s - (j + 1)) * o + 2 ^ (s - (j + 1)) * o := by
          rw [show s - j = s - (j + 1) + 1 by omega, Nat.pow_succ, Nat.mul_comm _ 2, Nat.mul_assoc]
          omega
        have h4 : b ^ ((n - 1) / 2 ^ (j + 1)) * b ^ ((n - 1) / 2 ^ (j + 1)) % n = 1 := by
          rw [← Nat.pow_add, e2, ← e3, ← e1]
          exact h
        rcases nt_sqrt hn h4 with h5 | h5
        · exact Or.inr h5
        · refine Or.inl ⟨j + 1, by omega, hj, ?_, h5⟩
          rw [hso, show 2 ^ s = 2 ^ (j + 1) * 2 ^ (s - (j + 1)) by rw [← Nat.pow_add]; congr 1; omega, Nat.mul_assoc]
          exact Nat.dvd_mul_right _ _
  rcases key s (Nat.le_refl s) with ⟨j, h3, h4, h5, h6⟩ | h3
  · exact ⟨j, h3, by omega, h5, Or.inl h6⟩
  · refine ⟨s, hs1, hs30, ⟨o, hso⟩, Or.inr ⟨?_, h3⟩⟩
    rw [hso, Nat.mul_div_cancel_left _ (Nat.pow_pos (by decide))]
    exact ho
end
section
-- ===== PART A: goes FIRST, ahead of the names: the tables' words, and 'selects' of the private methods out of them =====
/-- a private method of a class that the tables say can be made, by its rows of tables_1 -/
def lw_okq (q : MethodName × Nat) : Prop := (q.1.cls ≠ "java/lang/invoke/MethodHandle" ∧ q.1.cls ≠ "java/lang/invoke/VarHandle") ∧ Cond.instantiable q.1.cls q.2 ∈ tables_1 ∧ Cond.privateMethod q.1 ∈ tables_1 ∧ Cond.instanceMethod q.1 ∈ tables_1
theorem lw_p0 : lw_okq (⟨"ProofDesk", "exponent", "(I)Z"⟩, 5) := ⟨⟨by decide +kernel, by decide +kernel⟩, List.mem_of_getElem? (i := 11) (by decide +kernel), List.mem_of_getElem? (i := 68) (by decide +kernel), List.mem_of_getElem? (i := 69) (by decide +kernel)⟩
theorem lw_p1 : lw_okq (⟨"java/lang/Throwable", "fillInStackTrace", "(I)Ljava/lang/Throwable;"⟩, 6) := ⟨⟨by decide +kernel, by decide +kernel⟩, List.mem_of_getElem? (i := 120) (by decide +kernel), List.mem_of_getElem? (i := 118) (by decide +kernel), List.mem_of_getElem? (i := 119) (by decide +kernel)⟩
theorem lw_p2 : lw_okq (⟨"ProofDesk", "find", "(II)I"⟩, 5) := ⟨⟨by decide +kernel, by decide +kernel⟩, List.mem_of_getElem? (i := 11) (by decide +kernel), List.mem_of_getElem? (i := 188) (by decide +kernel), List.mem_of_getElem? (i := 189) (by decide +kernel)⟩
theorem lw_p3 : lw_okq (⟨"ProofDeskModel", "fails", "(ZI)Z"⟩, 4) := ⟨⟨by decide +kernel, by decide +kernel⟩, List.mem_of_getElem? (i := 223) (by decide +kernel), List.mem_of_getElem? (i := 273) (by decide +kernel), List.mem_of_getElem? (i := 274) (by decide +kernel)⟩
theorem lw_p4 : lw_okq (⟨"ProofDeskModel", "isExponent", "(J)Z"⟩, 4) := ⟨⟨by decide +kernel, by decide +kernel⟩, List.mem_of_getElem? (i := 223) (by decide +kernel), List.mem_of_getElem? (i := 297) (by decide +kernel), List.mem_of_getElem? (i := 298) (by decide +kernel)⟩
def lw_privs_1 : List (MethodName × Nat) := [(⟨"ProofDesk", "exponent", "(I)Z"⟩, 5), (⟨"java/lang/Throwable", "fillInStackTrace", "(I)Ljava/lang/Throwable;"⟩, 6), (⟨"ProofDesk", "find", "(II)I"⟩, 5), (⟨"ProofDeskModel", "fails", "(ZI)Z"⟩, 4), (⟨"ProofDeskModel", "isExponent", "(J)Z"⟩, 4)]
theorem lw_r1 : ∀ q ∈ lw_privs_1, lw_okq q := List.forall_mem_cons.mpr ⟨lw_p0, List.forall_mem_cons.mpr ⟨lw_p1, List.forall_mem_cons.mpr ⟨lw_p2, List.forall_mem_cons.mpr ⟨lw_p3, List.forall_mem_cons.mpr ⟨lw_p4, fun _ h => absurd h List.not_mem_nil⟩⟩⟩⟩⟩
def lw_privs : List (MethodName × Nat) := lw_privs_1
def lw_tbl : List Cond := k2_sels lw_privs ++ tables_1
theorem lw_privs_ok : ∀ q ∈ lw_privs, lw_okq q := lw_r1
end
section
/-! names of methods, their code, the tables' words -/
def y_D_init : MethodName := ⟨"ProofDesk", "<init>", "()V"⟩
abbrev b_D_init : ByteArray := prog_1_method_1_code
def y_D_begin : MethodName := ⟨"ProofDesk", "begin", "(II)Z"⟩
abbrev b_D_begin : ByteArray := prog_1_method_9_code
def y_D_in : MethodName := ⟨"ProofDesk", "in", "(III)Z"⟩
abbrev b_D_in : ByteArray := prog_1_method_3_code
def y_D_prime : MethodName := ⟨"ProofDesk", "prime", "(I)Z"⟩
abbrev b_D_prime : ByteArray := prog_1_method_6_code
def y_J_ntz : MethodName := ⟨"java/lang/Integer", "numberOfTrailingZeros", "(I)I"⟩
abbrev b_J_ntz : ByteArray := prog_7_method_48_code
def y_D_powS : MethodName := ⟨"ProofDesk", "power", "(IJI)I"⟩
abbrev b_D_powS : ByteArray := prog_1_method_5_code
def y_D_times : MethodName := ⟨"ProofDesk", "times", "(III)I"⟩
abbrev b_D_times : ByteArray := prog_1_method_4_code
def y_D_passes : MethodName := ⟨"ProofDesk", "passes", "(III)Z"⟩
abbrev b_D_passes : ByteArray := prog_1_method_7_code
def y_D_member : MethodName := ⟨"ProofDesk", "member", "(I)Z"⟩
abbrev b_D_member : ByteArray := prog_1_method_10_code
def y_D_accepts : MethodName := ⟨"ProofDesk", "accepts", "(IIII)Z"⟩
abbrev b_D_accepts : ByteArray := prog_1_method_17_code
def y_D_exponent : MethodName := ⟨"ProofDesk", "exponent", "(I)Z"⟩
abbrev b_D_exponent : ByteArray := prog_1_method_16_code
def y_L_product : MethodName := ⟨"ProofDeskLaw", "product", "(LProofDesk;II[J)I"⟩
abbrev b_L_product : ByteArray := method_3_code
def y_D_product : MethodName := ⟨"ProofDesk", "product", "(II)I"⟩
abbrev b_D_product : ByteArray := prog_1_method_11_code
def y_D_good : MethodName := ⟨"ProofDesk", "good", "(Z)V"⟩
abbrev b_D_good : ByteArray := prog_1_method_2_code
def y_L_power : MethodName := ⟨"ProofDeskLaw", "power", "(LProofDesk;IJ[J)I"⟩
abbrev b_L_power : ByteArray := method_4_code
def y_D_powV : MethodName := ⟨"ProofDesk", "power", "(IJ)I"⟩
abbrev b_D_powV : ByteArray := prog_1_method_12_code
def y_L_inverse : MethodName := ⟨"ProofDeskLaw", "inverse", "(LProofDesk;I[J)I"⟩
abbrev b_L_inverse : ByteArray := method_5_code
def y_D_invV : MethodName := ⟨"ProofDesk", "inverse", "(I)I"⟩
abbrev b_D_invV : ByteArray := prog_1_method_13_code
def y_D_invS : MethodName := ⟨"ProofDesk", "inverse", "(II)I"⟩
abbrev b_D_invS : ByteArray := prog_1_method_8_code
def y_J_fmL : MethodName := ⟨"java/lang/Math", "floorMod", "(JJ)J"⟩
abbrev b_J_fmL : ByteArray := prog_8_method_52_code
def y_L_log : MethodName := ⟨"ProofDeskLaw", "log", "(LProofDesk;I[J)I"⟩
abbrev b_L_log : ByteArray := method_6_code
def y_D_log : MethodName := ⟨"ProofDesk", "log", "(I)I"⟩
abbrev b_D_log : ByteArray := prog_1_method_14_code
def y_D_find : MethodName := ⟨"ProofDesk", "find", "(II)I"⟩
abbrev b_D_find : ByteArray := prog_1_method_15_code
def y_J_fmI : MethodName := ⟨"java/lang/Math", "floorMod", "(II)I"⟩
abbrev b_J_fmI : ByteArray := prog_8_method_50_code
def y_L_answer : MethodName := ⟨"ProofDeskLaw", "answer", "(LProofDesk;III[J)I"⟩
abbrev b_L_answer : ByteArray := method_7_code
def y_D_answer : MethodName := ⟨"ProofDesk", "answer", "(III)I"⟩
abbrev b_D_answer : ByteArray := prog_1_method_18_code
def y_L_feign : MethodName := ⟨"ProofDeskLaw", "feign", "(LProofDesk;III[J)I"⟩
abbrev b_L_feign : ByteArray := method_8_code
def y_D_feign : MethodName := ⟨"ProofDesk", "feign", "(III)I"⟩
abbrev b_D_feign : ByteArray := prog_1_method_19_code
def y_L_secret : MethodName := ⟨"ProofDeskLaw", "secret", "(LProofDesk;IIII[J)I"⟩
abbrev b_L_secret : ByteArray := method_9_code
def y_D_secret : MethodName := ⟨"ProofDesk", "secret", "(IIII)I"⟩
abbrev b_D_secret : ByteArray := prog_1_method_20_code
def y_L_count : MethodName := ⟨"ProofDeskLaw", "count", "(LProofDesk;I[J)I"⟩
abbrev b_L_count : ByteArray := method_10_code
def y_D_count : MethodName := ⟨"ProofDesk", "count", "(I)I"⟩
abbrev b_D_count : ByteArray := prog_1_method_21_code
def y_M_init : MethodName := ⟨"ProofDeskModel", "<init>", "()V"⟩
abbrev b_M_init : ByteArray := prog_3_method_1_code
def y_M_thrown : MethodName := ⟨"ProofDeskModel", "thrown", "()I"⟩
abbrev b_M_thrown : ByteArray := prog_3_method_2_code
def y_M_begin : MethodName := ⟨"ProofDeskModel", "begin", "(II)Z"⟩
abbrev b_M_begin : ByteArray := prog_3_method_10_code
def y_M_isPrime : MethodName := ⟨"ProofDeskModel", "isPrime", "(J)Z"⟩
abbrev b_M_isPrime : ByteArray := prog_3_method_5_code
def y_M_isMember : MethodName := ⟨"ProofDeskModel", "isMember", "(JJJ)Z"⟩
abbrev b_M_isMember : ByteArray := prog_3_method_7_code
def y_M_in : MethodName := ⟨"ProofDeskModel", "in", "(JJJ)Z"⟩
abbrev b_M_in : ByteArray := prog_3_method_3_code
def y_M_powS : MethodName := ⟨"ProofDeskModel", "power", "(JJJ)J"⟩
abbrev b_M_powS : ByteArray := prog_3_method_6_code
def y_M_member : MethodName := ⟨"ProofDeskModel", "member", "(I)Z"⟩
abbrev b_M_member : ByteArray := prog_3_method_11_code
def y_M_product : MethodName := ⟨"ProofDeskModel", "product", "(II)I"⟩
abbrev b_M_product : ByteArray := prog_3_method_12_code
def y_M_fails : MethodName := ⟨"ProofDeskModel", "fails", "(ZI)Z"⟩
abbrev b_M_fails : ByteArray := prog_3_method_4_code
def y_M_powV : MethodName := ⟨"ProofDeskModel", "power", "(IJ)I"⟩
abbrev b_M_powV : ByteArray := prog_3_method_13_code
def y_M_invV : MethodName := ⟨"ProofDeskModel", "inverse", "(I)I"⟩
abbrev b_M_invV : ByteArray := prog_3_method_14_code
def y_M_invS : MethodName := ⟨"ProofDeskModel", "inverse", "(JJ)J"⟩
abbrev b_M_invS : ByteArray := prog_3_method_9_code
def y_M_log : MethodName := ⟨"ProofDeskModel", "log", "(I)I"⟩
abbrev b_M_log : ByteArray := prog_3_method_15_code
def y_M_accepts : MethodName := ⟨"ProofDeskModel", "accepts", "(IIII)Z"⟩
abbrev b_M_accepts : ByteArray := prog_3_method_16_code
def y_M_isExponent : MethodName := ⟨"ProofDeskModel", "isExponent", "(J)Z"⟩
abbrev b_M_isExponent : ByteArray := prog_3_method_8_code
def y_M_answer : MethodName := ⟨"ProofDeskModel", "answer", "(III)I"⟩
abbrev b_M_answer : ByteArray := prog_3_method_17_code
def y_M_feign : MethodName := ⟨"ProofDeskModel", "feign", "(III)I"⟩
abbrev b_M_feign : ByteArray := prog_3_method_18_code
def y_M_secret : MethodName := ⟨"ProofDeskModel", "secret", "(IIII)I"⟩
abbrev b_M_secret : ByteArray := prog_3_method_19_code
def y_M_count : MethodName := ⟨"ProofDeskModel", "count", "(I)I"⟩
abbrev b_M_count : ByteArray := prog_3_method_20_code
def tb : List Cond := lw_tbl.filter goodWord
theorem tb_g {w : Cond} (h : w ∈ tb) : (w.onTables && w.keeps) = true ∨ ∃ ty, w = .arrayClass ty := good_of_word (List.mem_filter.mp h).2
theorem tb_mem {w : Cond} (i : Nat) (h : lw_tbl[i + 5]? = some w) (hg : goodWord w = true) : w ∈ tb := List.mem_filter.mpr ⟨List.mem_of_getElem? h, hg⟩
theorem tb_of {args : Array Value} {s : State} (h : ∀ w ∈ lw_tbl, w.before args s = true) : ∀ w ∈ tb, w.before args s = true := fun w hw => h w (List.mem_filter.mp hw).1
theorem tb_in {big L : List Cond} (hb : ∀ w ∈ tb, w ∈ big) (h : ∀ w ∈ L, w ∈ tb) : GoodIn big L := fun w hw => ⟨hb w (h w hw), tb_g (h w hw)⟩
theorem tk_0 : (.initialized "ProofDeskLaw" : Cond) ∈ tb := tb_mem 0 (by decide +kernel) (by decide +kernel)
theorem tk_1 : (.initialized "ProofDesk" : Cond) ∈ tb := tb_mem 1 (by decide +kernel) (by decide +kernel)
theorem tk_2 : (.initialized "ProofDeskModel" : Cond) ∈ tb := tb_mem 2 (by decide +kernel) (by decide +kernel)
theorem tk_3 : (.initialized "java/lang/Integer" : Cond) ∈ tb := tb_mem 3 (by decide +kernel) (by decide +kernel)
theorem tk_4 : (.initialized "java/lang/Throwable" : Cond) ∈ tb := tb_mem 4 (by decide +kernel) (by decide +kernel)
theorem tk_5 : (.initialized "java/lang/Exception" : Cond) ∈ tb := tb_mem 5 (by decide +kernel) (by decide +kernel)
theorem tk_6 : (.initialized "java/lang/RuntimeException" : Cond) ∈ tb := tb_mem 6 (by decide +kernel) (by decide +kernel)
theorem tk_7 : (.initialized "java/lang/IllegalArgumentException" : Cond) ∈ tb := tb_mem 7 (by decide +kernel) (by decide +kernel)
theorem tk_8 : (.initialized "java/lang/Math" : Cond) ∈ tb := tb_mem 8 (by decide +kernel) (by decide +kernel)
theorem tk_9 : (.initialized "java/lang/IllegalStateException" : Cond) ∈ tb := tb_mem 9 (by decide +kernel) (by decide +kernel)
theorem tk_10 : (.classLink "ProofDeskLaw" 8 "ProofDesk" : Cond) ∈ tb := tb_mem 10 (by decide +kernel) (by decide +kernel)
theorem tk_11 : (.instantiable "ProofDesk" 5 : Cond) ∈ tb := tb_mem 11 (by decide +kernel) (by decide +kernel)
theorem tk_12 : (.methodLink "ProofDeskLaw" 42 y_D_init : Cond) ∈ tb := tb_mem 12 (by decide +kernel) (by decide +kernel)
theorem tk_13 : (.instanceMethod y_D_init : Cond) ∈ tb := tb_mem 13 (by decide +kernel) (by decide +kernel)
theorem tk_14 : (.code y_D_init prog_1_method_1_code 1 none : Cond) ∈ tb := tb_mem 14 (by decide +kernel) (by decide +kernel)
theorem tk_15 : (.methodLink "ProofDesk" 1 (⟨"java/lang/Object", "<init>", "()V"⟩ : MethodName) : Cond) ∈ tb := tb_mem 15 (by decide +kernel) (by decide +kernel)
theorem tk_16 : (.instanceMethod (⟨"java/lang/Object", "<init>", "()V"⟩ : MethodName) : Cond) ∈ tb := tb_mem 16 (by decide +kernel) (by decide +kernel)
theorem tk_17 : (.code (⟨"java/lang/Object", "<init>", "()V"⟩ : MethodName) object_method_1_code 1 none : Cond) ∈ tb := tb_mem 17 (by decide +kernel) (by decide +kernel)
theorem tk_18 : (.fieldLink "ProofDesk" 9 "ProofDesk" "near" "[I" : Cond) ∈ tb := tb_mem 18 (by decide +kernel) (by decide +kernel)
theorem tk_19 : (.fieldLink "ProofDesk" 13 "ProofDesk" "places" "[I" : Cond) ∈ tb := tb_mem 19 (by decide +kernel) (by decide +kernel)
theorem tk_20 : (.fieldLink "ProofDesk" 16 "ProofDesk" "p" "I" : Cond) ∈ tb := tb_mem 20 (by decide +kernel) (by decide +kernel)
theorem tk_21 : (.fieldLink "ProofDesk" 20 "ProofDesk" "q" "I" : Cond) ∈ tb := tb_mem 21 (by decide +kernel) (by decide +kernel)
theorem tk_22 : (.fieldLink "ProofDesk" 23 "ProofDesk" "g" "I" : Cond) ∈ tb := tb_mem 22 (by decide +kernel) (by decide +kernel)
theorem tk_23 : (.laysFinal "ProofDesk" "ProofDesk" "near" "[I" : Cond) ∈ tb := tb_mem 23 (by decide +kernel) (by decide +kernel)
theorem tk_24 : (.soleField "ProofDesk" "near" : Cond) ∈ tb := tb_mem 24 (by decide +kernel) (by decide +kernel)
theorem tk_25 : (.laysFinal "ProofDesk" "ProofDesk" "places" "[I" : Cond) ∈ tb := tb_mem 25 (by decide +kernel) (by decide +kernel)
theorem tk_26 : (.soleField "ProofDesk" "places" : Cond) ∈ tb := tb_mem 26 (by decide +kernel) (by decide +kernel)
theorem tk_27 : (.lays "ProofDesk" "ProofDesk" "p" "I" : Cond) ∈ tb := tb_mem 27 (by decide +kernel) (by decide +kernel)
theorem tk_28 : (.soleField "ProofDesk" "p" : Cond) ∈ tb := tb_mem 28 (by decide +kernel) (by decide +kernel)
theorem tk_29 : (.lays "ProofDesk" "ProofDesk" "q" "I" : Cond) ∈ tb := tb_mem 29 (by decide +kernel) (by decide +kernel)
theorem tk_30 : (.soleField "ProofDesk" "q" : Cond) ∈ tb := tb_mem 30 (by decide +kernel) (by decide +kernel)
theorem tk_31 : (.lays "ProofDesk" "ProofDesk" "g" "I" : Cond) ∈ tb := tb_mem 31 (by decide +kernel) (by decide +kernel)
theorem tk_32 : (.soleField "ProofDesk" "g" : Cond) ∈ tb := tb_mem 32 (by decide +kernel) (by decide +kernel)
theorem tk_33 : (.superclass "ProofDesk" "java/lang/Object" : Cond) ∈ tb := tb_mem 33 (by decide +kernel) (by decide +kernel)
theorem tk_34 : (.arrayClass .int : Cond) ∈ tb := tb_mem 34 (by decide +kernel) (by decide +kernel)
theorem tk_35 : (.methodLink "ProofDeskLaw" 46 y_D_begin : Cond) ∈ tb := tb_mem 35 (by decide +kernel) (by decide +kernel)
theorem tk_36 : (.instanceMethod y_D_begin : Cond) ∈ tb := tb_mem 36 (by decide +kernel) (by decide +kernel)
theorem tk_37 : (.selects "ProofDesk" y_D_begin y_D_begin : Cond) ∈ tb := tb_mem 37 (by decide +kernel) (by decide +kernel)
theorem tk_38 : (.code y_D_begin prog_1_method_9_code 4 (some .boolean) : Cond) ∈ tb := tb_mem 38 (by decide +kernel) (by decide +kernel)
theorem tk_39 : (.methodLink "ProofDesk" 53 y_D_in : Cond) ∈ tb := tb_mem 39 (by decide +kernel) (by decide +kernel)
theorem tk_40 : (.static y_D_in : Cond) ∈ tb := tb_mem 40 (by decide +kernel) (by decide +kernel)
theorem tk_41 : (.code y_D_in prog_1_method_3_code 3 (some .boolean) : Cond) ∈ tb := tb_mem 41 (by decide +kernel) (by decide +kernel)
theorem tk_42 : (.methodLink "ProofDesk" 56 y_D_prime : Cond) ∈ tb := tb_mem 42 (by decide +kernel) (by decide +kernel)
theorem tk_43 : (.static y_D_prime : Cond) ∈ tb := tb_mem 43 (by decide +kernel) (by decide +kernel)
theorem tk_44 : (.code y_D_prime prog_1_method_6_code 3 (some .boolean) : Cond) ∈ tb := tb_mem 44 (by decide +kernel) (by decide +kernel)
theorem tk_45 : (.methodLink "ProofDesk" 33 y_J_ntz : Cond) ∈ tb := tb_mem 45 (by decide +kernel) (by decide +kernel)
theorem tk_46 : (.static y_J_ntz : Cond) ∈ tb := tb_mem 46 (by decide +kernel) (by decide +kernel)
theorem tk_47 : (.code y_J_ntz prog_7_method_48_code 2 (some .int) : Cond) ∈ tb := tb_mem 47 (by decide +kernel) (by decide +kernel)
theorem tk_48 : (.constant "java/lang/Integer" 264 65536 : Cond) ∈ tb := tb_mem 48 (by decide +kernel) (by decide +kernel)
theorem tk_49 : (.methodLink "ProofDesk" 39 y_D_powS : Cond) ∈ tb := tb_mem 49 (by decide +kernel) (by decide +kernel)
theorem tk_50 : (.static y_D_powS : Cond) ∈ tb := tb_mem 50 (by decide +kernel) (by decide +kernel)
theorem tk_51 : (.code y_D_powS prog_1_method_5_code 8 (some .int) : Cond) ∈ tb := tb_mem 51 (by decide +kernel) (by decide +kernel)
theorem tk_52 : (.methodLink "ProofDesk" 29 y_D_times : Cond) ∈ tb := tb_mem 52 (by decide +kernel) (by decide +kernel)
theorem tk_53 : (.static y_D_times : Cond) ∈ tb := tb_mem 53 (by decide +kernel) (by decide +kernel)
theorem tk_54 : (.code y_D_times prog_1_method_4_code 3 (some .int) : Cond) ∈ tb := tb_mem 54 (by decide +kernel) (by decide +kernel)
theorem tk_55 : (.methodLink "ProofDesk" 43 y_D_passes : Cond) ∈ tb := tb_mem 55 (by decide +kernel) (by decide +kernel)
theorem tk_56 : (.static y_D_passes : Cond) ∈ tb := tb_mem 56 (by decide +kernel) (by decide +kernel)
theorem tk_57 : (.code y_D_passes prog_1_method_7_code 5 (some .boolean) : Cond) ∈ tb := tb_mem 57 (by decide +kernel) (by decide +kernel)
theorem tk_58 : (.methodLink "ProofDeskLaw" 51 y_D_member : Cond) ∈ tb := tb_mem 58 (by decide +kernel) (by decide +kernel)
theorem tk_59 : (.instanceMethod y_D_member : Cond) ∈ tb := tb_mem 59 (by decide +kernel) (by decide +kernel)
theorem tk_60 : (.selects "ProofDesk" y_D_member y_D_member : Cond) ∈ tb := tb_mem 60 (by decide +kernel) (by decide +kernel)
theorem tk_61 : (.code y_D_member prog_1_method_10_code 2 (some .boolean) : Cond) ∈ tb := tb_mem 61 (by decide +kernel) (by decide +kernel)
theorem tk_62 : (.methodLink "ProofDeskLaw" 79 y_D_accepts : Cond) ∈ tb := tb_mem 62 (by decide +kernel) (by decide +kernel)
theorem tk_63 : (.instanceMethod y_D_accepts : Cond) ∈ tb := tb_mem 63 (by decide +kernel) (by decide +kernel)
theorem tk_64 : (.selects "ProofDesk" y_D_accepts y_D_accepts : Cond) ∈ tb := tb_mem 64 (by decide +kernel) (by decide +kernel)
theorem tk_65 : (.code y_D_accepts prog_1_method_17_code 5 (some .boolean) : Cond) ∈ tb := tb_mem 65 (by decide +kernel) (by decide +kernel)
theorem tk_66 : (.methodLink "ProofDesk" 68 y_D_member : Cond) ∈ tb := tb_mem 66 (by decide +kernel) (by decide +kernel)
theorem tk_67 : (.methodLink "ProofDesk" 79 y_D_exponent : Cond) ∈ tb := tb_mem 67 (by decide +kernel) (by decide +kernel)
theorem tk_69 : (.instanceMethod y_D_exponent : Cond) ∈ tb := tb_mem 69 (by decide +kernel) (by decide +kernel)
theorem tk_70 : (.code y_D_exponent prog_1_method_16_code 2 (some .boolean) : Cond) ∈ tb := tb_mem 70 (by decide +kernel) (by decide +kernel)
theorem tk_71 : (.methodLink "ProofDeskLaw" 56 y_L_product : Cond) ∈ tb := tb_mem 71 (by decide +kernel) (by decide +kernel)
theorem tk_72 : (.static y_L_product : Cond) ∈ tb := tb_mem 72 (by decide +kernel) (by decide +kernel)
theorem tk_73 : (.codeWith y_L_product method_3_code 5 (some .int) [(0, 10, 13, 13)] : Cond) ∈ tb := tb_mem 73 (by decide +kernel) (by decide +kernel)
theorem tk_74 : (.classLink "ProofDeskLaw" 13 "java/lang/IllegalArgumentException" : Cond) ∈ tb := tb_mem 74 (by decide +kernel) (by decide +kernel)
theorem tk_75 : (.methodLink "ProofDeskLaw" 7 y_D_product : Cond) ∈ tb := tb_mem 75 (by decide +kernel) (by decide +kernel)
theorem tk_76 : (.instanceMethod y_D_product : Cond) ∈ tb := tb_mem 76 (by decide +kernel) (by decide +kernel)
theorem tk_77 : (.selects "ProofDesk" y_D_product y_D_product : Cond) ∈ tb := tb_mem 77 (by decide +kernel) (by decide +kernel)
theorem tk_78 : (.code y_D_product prog_1_method_11_code 3 (some .int) : Cond) ∈ tb := tb_mem 78 (by decide +kernel) (by decide +kernel)
theorem tk_79 : (.methodLink "ProofDesk" 60 y_D_good : Cond) ∈ tb := tb_mem 79 (by decide +kernel) (by decide +kernel)
theorem tk_80 : (.static y_D_good : Cond) ∈ tb := tb_mem 80 (by decide +kernel) (by decide +kernel)
theorem tk_81 : (.code y_D_good prog_1_method_2_code 1 none : Cond) ∈ tb := tb_mem 81 (by decide +kernel) (by decide +kernel)
theorem tk_82 : (.classLink "ProofDesk" 26 "java/lang/IllegalArgumentException" : Cond) ∈ tb := tb_mem 82 (by decide +kernel) (by decide +kernel)
theorem tk_83 : (.instantiable "java/lang/IllegalArgumentException" 6 : Cond) ∈ tb := tb_mem 83 (by decide +kernel) (by decide +kernel)
theorem tk_91 : (.selects "java/lang/IllegalArgumentException" (⟨"java/lang/Throwable", "fillInStackTrace", "(I)Ljava/lang/Throwable;"⟩ : MethodName) (⟨"java/lang/Throwable", "fillInStackTrace", "(I)Ljava/lang/Throwable;"⟩ : MethodName) : Cond) ∈ tb := tb_mem 91 (by decide +kernel) (by decide +kernel)
theorem tk_92 : (.selects "java/lang/IllegalArgumentException" (⟨"java/lang/Throwable", "fillInStackTrace", "()Ljava/lang/Throwable;"⟩ : MethodName) (⟨"java/lang/Throwable", "fillInStackTrace", "()Ljava/lang/Throwable;"⟩ : MethodName) : Cond) ∈ tb := tb_mem 92 (by decide +kernel) (by decide +kernel)
theorem tk_93 : (.lays "java/lang/IllegalArgumentException" "java/lang/Throwable" "cause" "Ljava/lang/Throwable;" : Cond) ∈ tb := tb_mem 93 (by decide +kernel) (by decide +kernel)
theorem tk_94 : (.lays "java/lang/Throwable" "java/lang/Throwable" "cause" "Ljava/lang/Throwable;" : Cond) ∈ tb := tb_mem 94 (by decide +kernel) (by decide +kernel)
theorem tk_95 : (.lays "java/lang/IllegalArgumentException" "java/lang/Throwable" "stackTrace" "[Ljava/lang/StackTraceElement;" : Cond) ∈ tb := tb_mem 95 (by decide +kernel) (by decide +kernel)
theorem tk_96 : (.lays "java/lang/Throwable" "java/lang/Throwable" "stackTrace" "[Ljava/lang/StackTraceElement;" : Cond) ∈ tb := tb_mem 96 (by decide +kernel) (by decide +kernel)
theorem tk_97 : (.lays "java/lang/IllegalArgumentException" "java/lang/Throwable" "suppressedExceptions" "Ljava/util/List;" : Cond) ∈ tb := tb_mem 97 (by decide +kernel) (by decide +kernel)
theorem tk_98 : (.lays "java/lang/Throwable" "java/lang/Throwable" "suppressedExceptions" "Ljava/util/List;" : Cond) ∈ tb := tb_mem 98 (by decide +kernel) (by decide +kernel)
theorem tk_99 : (.lays "java/lang/IllegalArgumentException" "java/lang/Throwable" "detailMessage" "Ljava/lang/String;" : Cond) ∈ tb := tb_mem 99 (by decide +kernel) (by decide +kernel)
theorem tk_100 : (.lays "java/lang/Throwable" "java/lang/Throwable" "detailMessage" "Ljava/lang/String;" : Cond) ∈ tb := tb_mem 100 (by decide +kernel) (by decide +kernel)
theorem tk_101 : (.lays "java/lang/IllegalArgumentException" "java/lang/Throwable" "backtrace" "Ljava/lang/Object;" : Cond) ∈ tb := tb_mem 101 (by decide +kernel) (by decide +kernel)
theorem tk_102 : (.lays "java/lang/Throwable" "java/lang/Throwable" "backtrace" "Ljava/lang/Object;" : Cond) ∈ tb := tb_mem 102 (by decide +kernel) (by decide +kernel)
theorem tk_103 : (.fieldLink "java/lang/Throwable" 198 "java/lang/Throwable" "backtrace" "Ljava/lang/Object;" : Cond) ∈ tb := tb_mem 103 (by decide +kernel) (by decide +kernel)
theorem tk_104 : (.superclass "java/lang/Throwable" "java/lang/Object" : Cond) ∈ tb := tb_mem 104 (by decide +kernel) (by decide +kernel)
theorem tk_105 : (.instanceMethod (⟨"java/lang/Throwable", "<init>", "()V"⟩ : MethodName) : Cond) ∈ tb := tb_mem 105 (by decide +kernel) (by decide +kernel)
theorem tk_106 : (.code (⟨"java/lang/Throwable", "<init>", "()V"⟩ : MethodName) prog_10_method_1_code 1 none : Cond) ∈ tb := tb_mem 106 (by decide +kernel) (by decide +kernel)
theorem tk_107 : (.methodLink "java/lang/Throwable" 1 (⟨"java/lang/Object", "<init>", "()V"⟩ : MethodName) : Cond) ∈ tb := tb_mem 107 (by decide +kernel) (by decide +kernel)
theorem tk_108 : (.fieldLink "java/lang/Throwable" 13 "java/lang/Throwable" "UNASSIGNED_STACK" "[Ljava/lang/StackTraceElement;" : Cond) ∈ tb := tb_mem 108 (by decide +kernel) (by decide +kernel)
theorem tk_110 : (.fieldLink "java/lang/Throwable" 20 "java/lang/Throwable" "SUPPRESSED_SENTINEL" "Ljava/util/List;" : Cond) ∈ tb := tb_mem 110 (by decide +kernel) (by decide +kernel)
theorem tk_112 : (.methodLink "java/lang/Throwable" 27 (⟨"java/lang/Throwable", "fillInStackTrace", "()Ljava/lang/Throwable;"⟩ : MethodName) : Cond) ∈ tb := tb_mem 112 (by decide +kernel) (by decide +kernel)
theorem tk_113 : (.instanceMethod (⟨"java/lang/Throwable", "fillInStackTrace", "()Ljava/lang/Throwable;"⟩ : MethodName) : Cond) ∈ tb := tb_mem 113 (by decide +kernel) (by decide +kernel)
theorem tk_114 : (.sameMethod "java/lang/Throwable" "java/lang/Throwable" "fillInStackTrace" "()Ljava/lang/Throwable;" : Cond) ∈ tb := tb_mem 114 (by decide +kernel) (by decide +kernel)
theorem tk_115 : (.selects "java/lang/IllegalStateException" (⟨"java/lang/Throwable", "fillInStackTrace", "()Ljava/lang/Throwable;"⟩ : MethodName) (⟨"java/lang/Throwable", "fillInStackTrace", "()Ljava/lang/Throwable;"⟩ : MethodName) : Cond) ∈ tb := tb_mem 115 (by decide +kernel) (by decide +kernel)
theorem tk_116 : (.codeSync (⟨"java/lang/Throwable", "fillInStackTrace", "()Ljava/lang/Throwable;"⟩ : MethodName) prog_10_method_18_code 1 (some (.object "java/lang/Throwable")) : Cond) ∈ tb := tb_mem 116 (by decide +kernel) (by decide +kernel)
theorem tk_117 : (.methodLink "java/lang/Throwable" 202 (⟨"java/lang/Throwable", "fillInStackTrace", "(I)Ljava/lang/Throwable;"⟩ : MethodName) : Cond) ∈ tb := tb_mem 117 (by decide +kernel) (by decide +kernel)
theorem tk_119 : (.instanceMethod (⟨"java/lang/Throwable", "fillInStackTrace", "(I)Ljava/lang/Throwable;"⟩ : MethodName) : Cond) ∈ tb := tb_mem 119 (by decide +kernel) (by decide +kernel)
theorem tk_120 : (.instantiable "java/lang/Throwable" 6 : Cond) ∈ tb := tb_mem 120 (by decide +kernel) (by decide +kernel)
theorem tk_121 : (.native (⟨"java/lang/Throwable", "fillInStackTrace", "(I)Ljava/lang/Throwable;"⟩ : MethodName) : Cond) ∈ tb := tb_mem 121 (by decide +kernel) (by decide +kernel)
theorem tk_122 : (.methodLink "ProofDesk" 28 (⟨"java/lang/IllegalArgumentException", "<init>", "()V"⟩ : MethodName) : Cond) ∈ tb := tb_mem 122 (by decide +kernel) (by decide +kernel)
theorem tk_123 : (.instanceMethod (⟨"java/lang/IllegalArgumentException", "<init>", "()V"⟩ : MethodName) : Cond) ∈ tb := tb_mem 123 (by decide +kernel) (by decide +kernel)
theorem tk_124 : (.code (⟨"java/lang/IllegalArgumentException", "<init>", "()V"⟩ : MethodName) prog_5_method_1_code 1 none : Cond) ∈ tb := tb_mem 124 (by decide +kernel) (by decide +kernel)
theorem tk_125 : (.methodLink "java/lang/IllegalArgumentException" 1 (⟨"java/lang/RuntimeException", "<init>", "()V"⟩ : MethodName) : Cond) ∈ tb := tb_mem 125 (by decide +kernel) (by decide +kernel)
theorem tk_126 : (.instanceMethod (⟨"java/lang/RuntimeException", "<init>", "()V"⟩ : MethodName) : Cond) ∈ tb := tb_mem 126 (by decide +kernel) (by decide +kernel)
theorem tk_127 : (.code (⟨"java/lang/RuntimeException", "<init>", "()V"⟩ : MethodName) prog_9_method_1_code 1 none : Cond) ∈ tb := tb_mem 127 (by decide +kernel) (by decide +kernel)
theorem tk_128 : (.methodLink "java/lang/RuntimeException" 1 (⟨"java/lang/Exception", "<init>", "()V"⟩ : MethodName) : Cond) ∈ tb := tb_mem 128 (by decide +kernel) (by decide +kernel)
theorem tk_129 : (.instanceMethod (⟨"java/lang/Exception", "<init>", "()V"⟩ : MethodName) : Cond) ∈ tb := tb_mem 129 (by decide +kernel) (by decide +kernel)
theorem tk_130 : (.code (⟨"java/lang/Exception", "<init>", "()V"⟩ : MethodName) prog_4_method_1_code 1 none : Cond) ∈ tb := tb_mem 130 (by decide +kernel) (by decide +kernel)
theorem tk_131 : (.methodLink "java/lang/Exception" 1 (⟨"java/lang/Throwable", "<init>", "()V"⟩ : MethodName) : Cond) ∈ tb := tb_mem 131 (by decide +kernel) (by decide +kernel)
theorem tk_132 : (.fieldLink "java/lang/Throwable" 198 "java/lang/Throwable" "backtrace" "Ljava/lang/Object;" : Cond) ∈ tb := tb_mem 132 (by decide +kernel) (by decide +kernel)
theorem tk_133 : (.fieldLink "java/lang/Throwable" 7 "java/lang/Throwable" "cause" "Ljava/lang/Throwable;" : Cond) ∈ tb := tb_mem 133 (by decide +kernel) (by decide +kernel)
theorem tk_134 : (.fieldLink "java/lang/Throwable" 17 "java/lang/Throwable" "stackTrace" "[Ljava/lang/StackTraceElement;" : Cond) ∈ tb := tb_mem 134 (by decide +kernel) (by decide +kernel)
theorem tk_135 : (.fieldLink "java/lang/Throwable" 24 "java/lang/Throwable" "suppressedExceptions" "Ljava/util/List;" : Cond) ∈ tb := tb_mem 135 (by decide +kernel) (by decide +kernel)
theorem tk_136 : (.soleField "java/lang/Throwable" "backtrace" : Cond) ∈ tb := tb_mem 136 (by decide +kernel) (by decide +kernel)
theorem tk_137 : (.soleField "java/lang/Throwable" "detailMessage" : Cond) ∈ tb := tb_mem 137 (by decide +kernel) (by decide +kernel)
theorem tk_138 : (.soleField "java/lang/Throwable" "cause" : Cond) ∈ tb := tb_mem 138 (by decide +kernel) (by decide +kernel)
theorem tk_139 : (.soleField "java/lang/Throwable" "stackTrace" : Cond) ∈ tb := tb_mem 139 (by decide +kernel) (by decide +kernel)
theorem tk_140 : (.lays "java/lang/IllegalArgumentException" "java/lang/Throwable" "depth" "I" : Cond) ∈ tb := tb_mem 140 (by decide +kernel) (by decide +kernel)
theorem tk_141 : (.soleField "java/lang/Throwable" "depth" : Cond) ∈ tb := tb_mem 141 (by decide +kernel) (by decide +kernel)
theorem tk_142 : (.soleField "java/lang/Throwable" "suppressedExceptions" : Cond) ∈ tb := tb_mem 142 (by decide +kernel) (by decide +kernel)
theorem tk_143 : (.superclass "java/lang/IllegalArgumentException" "java/lang/RuntimeException" : Cond) ∈ tb := tb_mem 143 (by decide +kernel) (by decide +kernel)
theorem tk_144 : (.methodLink "ProofDeskLaw" 68 y_L_power : Cond) ∈ tb := tb_mem 144 (by decide +kernel) (by decide +kernel)
theorem tk_145 : (.static y_L_power : Cond) ∈ tb := tb_mem 145 (by decide +kernel) (by decide +kernel)
theorem tk_146 : (.codeWith y_L_power method_4_code 6 (some .int) [(0, 11, 14, 13)] : Cond) ∈ tb := tb_mem 146 (by decide +kernel) (by decide +kernel)
theorem tk_147 : (.methodLink "ProofDeskLaw" 15 y_D_powV : Cond) ∈ tb := tb_mem 147 (by decide +kernel) (by decide +kernel)
theorem tk_148 : (.instanceMethod y_D_powV : Cond) ∈ tb := tb_mem 148 (by decide +kernel) (by decide +kernel)
theorem tk_149 : (.selects "ProofDesk" y_D_powV y_D_powV : Cond) ∈ tb := tb_mem 149 (by decide +kernel) (by decide +kernel)
theorem tk_150 : (.code y_D_powV prog_1_method_12_code 4 (some .int) : Cond) ∈ tb := tb_mem 150 (by decide +kernel) (by decide +kernel)
theorem tk_151 : (.methodLink "ProofDeskLaw" 72 y_L_inverse : Cond) ∈ tb := tb_mem 151 (by decide +kernel) (by decide +kernel)
theorem tk_152 : (.static y_L_inverse : Cond) ∈ tb := tb_mem 152 (by decide +kernel) (by decide +kernel)
theorem tk_153 : (.codeWith y_L_inverse method_5_code 4 (some .int) [(0, 9, 12, 13)] : Cond) ∈ tb := tb_mem 153 (by decide +kernel) (by decide +kernel)
theorem tk_154 : (.methodLink "ProofDeskLaw" 19 y_D_invV : Cond) ∈ tb := tb_mem 154 (by decide +kernel) (by decide +kernel)
theorem tk_155 : (.instanceMethod y_D_invV : Cond) ∈ tb := tb_mem 155 (by decide +kernel) (by decide +kernel)
theorem tk_156 : (.selects "ProofDesk" y_D_invV y_D_invV : Cond) ∈ tb := tb_mem 156 (by decide +kernel) (by decide +kernel)
theorem tk_157 : (.code y_D_invV prog_1_method_13_code 2 (some .int) : Cond) ∈ tb := tb_mem 157 (by decide +kernel) (by decide +kernel)
theorem tk_158 : (.methodLink "ProofDesk" 64 y_D_invS : Cond) ∈ tb := tb_mem 158 (by decide +kernel) (by decide +kernel)
theorem tk_159 : (.static y_D_invS : Cond) ∈ tb := tb_mem 159 (by decide +kernel) (by decide +kernel)
theorem tk_160 : (.code y_D_invS prog_1_method_8_code 12 (some .int) : Cond) ∈ tb := tb_mem 160 (by decide +kernel) (by decide +kernel)
theorem tk_161 : (.methodLink "ProofDesk" 47 y_J_fmL : Cond) ∈ tb := tb_mem 161 (by decide +kernel) (by decide +kernel)
theorem tk_162 : (.static y_J_fmL : Cond) ∈ tb := tb_mem 162 (by decide +kernel) (by decide +kernel)
theorem tk_163 : (.code y_J_fmL prog_8_method_52_code 6 (some .long) : Cond) ∈ tb := tb_mem 163 (by decide +kernel) (by decide +kernel)
theorem tk_164 : (.methodLink "ProofDeskLaw" 76 y_L_log : Cond) ∈ tb := tb_mem 164 (by decide +kernel) (by decide +kernel)
theorem tk_165 : (.static y_L_log : Cond) ∈ tb := tb_mem 165 (by decide +kernel) (by decide +kernel)
theorem tk_166 : (.codeWith y_L_log method_6_code 4 (some .int) [(0, 9, 12, 13), (0, 9, 15, 26)] : Cond) ∈ tb := tb_mem 166 (by decide +kernel) (by decide +kernel)
theorem tk_167 : (.classLink "ProofDeskLaw" 26 "java/lang/IllegalStateException" : Cond) ∈ tb := tb_mem 167 (by decide +kernel) (by decide +kernel)
theorem tk_168 : (.methodLink "ProofDeskLaw" 23 y_D_log : Cond) ∈ tb := tb_mem 168 (by decide +kernel) (by decide +kernel)
theorem tk_169 : (.instanceMethod y_D_log : Cond) ∈ tb := tb_mem 169 (by decide +kernel) (by decide +kernel)
theorem tk_170 : (.selects "ProofDesk" y_D_log y_D_log : Cond) ∈ tb := tb_mem 170 (by decide +kernel) (by decide +kernel)
theorem tk_171 : (.code y_D_log prog_1_method_14_code 9 (some .int) : Cond) ∈ tb := tb_mem 171 (by decide +kernel) (by decide +kernel)
theorem tk_172 : (.classLink "ProofDesk" 71 "java/lang/IllegalStateException" : Cond) ∈ tb := tb_mem 172 (by decide +kernel) (by decide +kernel)
theorem tk_173 : (.instantiable "java/lang/IllegalStateException" 6 : Cond) ∈ tb := tb_mem 173 (by decide +kernel) (by decide +kernel)
theorem tk_175 : (.selects "java/lang/IllegalStateException" (⟨"java/lang/Throwable", "fillInStackTrace", "(I)Ljava/lang/Throwable;"⟩ : MethodName) (⟨"java/lang/Throwable", "fillInStackTrace", "(I)Ljava/lang/Throwable;"⟩ : MethodName) : Cond) ∈ tb := tb_mem 175 (by decide +kernel) (by decide +kernel)
theorem tk_176 : (.lays "java/lang/IllegalStateException" "java/lang/Throwable" "cause" "Ljava/lang/Throwable;" : Cond) ∈ tb := tb_mem 176 (by decide +kernel) (by decide +kernel)
theorem tk_177 : (.lays "java/lang/IllegalStateException" "java/lang/Throwable" "stackTrace" "[Ljava/lang/StackTraceElement;" : Cond) ∈ tb := tb_mem 177 (by decide +kernel) (by decide +kernel)
theorem tk_178 : (.lays "java/lang/IllegalStateException" "java/lang/Throwable" "suppressedExceptions" "Ljava/util/List;" : Cond) ∈ tb := tb_mem 178 (by decide +kernel) (by decide +kernel)
theorem tk_179 : (.lays "java/lang/IllegalStateException" "java/lang/Throwable" "detailMessage" "Ljava/lang/String;" : Cond) ∈ tb := tb_mem 179 (by decide +kernel) (by decide +kernel)
theorem tk_180 : (.lays "java/lang/IllegalStateException" "java/lang/Throwable" "backtrace" "Ljava/lang/Object;" : Cond) ∈ tb := tb_mem 180 (by decide +kernel) (by decide +kernel)
theorem tk_181 : (.methodLink "ProofDesk" 73 (⟨"java/lang/IllegalStateException", "<init>", "()V"⟩ : MethodName) : Cond) ∈ tb := tb_mem 181 (by decide +kernel) (by decide +kernel)
theorem tk_182 : (.instanceMethod (⟨"java/lang/IllegalStateException", "<init>", "()V"⟩ : MethodName) : Cond) ∈ tb := tb_mem 182 (by decide +kernel) (by decide +kernel)
theorem tk_183 : (.code (⟨"java/lang/IllegalStateException", "<init>", "()V"⟩ : MethodName) prog_6_method_1_code 1 none : Cond) ∈ tb := tb_mem 183 (by decide +kernel) (by decide +kernel)
theorem tk_184 : (.methodLink "java/lang/IllegalStateException" 1 (⟨"java/lang/RuntimeException", "<init>", "()V"⟩ : MethodName) : Cond) ∈ tb := tb_mem 184 (by decide +kernel) (by decide +kernel)
theorem tk_185 : (.lays "java/lang/IllegalStateException" "java/lang/Throwable" "depth" "I" : Cond) ∈ tb := tb_mem 185 (by decide +kernel) (by decide +kernel)
theorem tk_186 : (.superclass "java/lang/IllegalStateException" "java/lang/RuntimeException" : Cond) ∈ tb := tb_mem 186 (by decide +kernel) (by decide +kernel)
theorem tk_187 : (.methodLink "ProofDesk" 74 y_D_find : Cond) ∈ tb := tb_mem 187 (by decide +kernel) (by decide +kernel)
theorem tk_189 : (.instanceMethod y_D_find : Cond) ∈ tb := tb_mem 189 (by decide +kernel) (by decide +kernel)
theorem tk_190 : (.code y_D_find prog_1_method_15_code 6 (some .int) : Cond) ∈ tb := tb_mem 190 (by decide +kernel) (by decide +kernel)
theorem tk_191 : (.methodLink "ProofDesk" 77 y_J_fmI : Cond) ∈ tb := tb_mem 191 (by decide +kernel) (by decide +kernel)
theorem tk_192 : (.static y_J_fmI : Cond) ∈ tb := tb_mem 192 (by decide +kernel) (by decide +kernel)
theorem tk_193 : (.code y_J_fmI prog_8_method_50_code 3 (some .int) : Cond) ∈ tb := tb_mem 193 (by decide +kernel) (by decide +kernel)
theorem tk_194 : (.methodLink "ProofDeskLaw" 84 y_L_answer : Cond) ∈ tb := tb_mem 194 (by decide +kernel) (by decide +kernel)
theorem tk_195 : (.static y_L_answer : Cond) ∈ tb := tb_mem 195 (by decide +kernel) (by decide +kernel)
theorem tk_196 : (.codeWith y_L_answer method_7_code 6 (some .int) [(0, 12, 15, 13)] : Cond) ∈ tb := tb_mem 196 (by decide +kernel) (by decide +kernel)
theorem tk_197 : (.methodLink "ProofDeskLaw" 28 y_D_answer : Cond) ∈ tb := tb_mem 197 (by decide +kernel) (by decide +kernel)
theorem tk_198 : (.instanceMethod y_D_answer : Cond) ∈ tb := tb_mem 198 (by decide +kernel) (by decide +kernel)
theorem tk_199 : (.selects "ProofDesk" y_D_answer y_D_answer : Cond) ∈ tb := tb_mem 199 (by decide +kernel) (by decide +kernel)
theorem tk_200 : (.code y_D_answer prog_1_method_18_code 4 (some .int) : Cond) ∈ tb := tb_mem 200 (by decide +kernel) (by decide +kernel)
theorem tk_201 : (.methodLink "ProofDeskLaw" 88 y_L_feign : Cond) ∈ tb := tb_mem 201 (by decide +kernel) (by decide +kernel)
theorem tk_202 : (.static y_L_feign : Cond) ∈ tb := tb_mem 202 (by decide +kernel) (by decide +kernel)
theorem tk_203 : (.codeWith y_L_feign method_8_code 6 (some .int) [(0, 12, 15, 13)] : Cond) ∈ tb := tb_mem 203 (by decide +kernel) (by decide +kernel)
theorem tk_204 : (.methodLink "ProofDeskLaw" 32 y_D_feign : Cond) ∈ tb := tb_mem 204 (by decide +kernel) (by decide +kernel)
theorem tk_205 : (.instanceMethod y_D_feign : Cond) ∈ tb := tb_mem 205 (by decide +kernel) (by decide +kernel)
theorem tk_206 : (.selects "ProofDesk" y_D_feign y_D_feign : Cond) ∈ tb := tb_mem 206 (by decide +kernel) (by decide +kernel)
theorem tk_207 : (.code y_D_feign prog_1_method_19_code 4 (some .int) : Cond) ∈ tb := tb_mem 207 (by decide +kernel) (by decide +kernel)
theorem tk_208 : (.methodLink "ProofDeskLaw" 91 y_L_secret : Cond) ∈ tb := tb_mem 208 (by decide +kernel) (by decide +kernel)
theorem tk_209 : (.static y_L_secret : Cond) ∈ tb := tb_mem 209 (by decide +kernel) (by decide +kernel)
theorem tk_210 : (.codeWith y_L_secret method_9_code 7 (some .int) [(0, 14, 17, 13)] : Cond) ∈ tb := tb_mem 210 (by decide +kernel) (by decide +kernel)
theorem tk_211 : (.methodLink "ProofDeskLaw" 35 y_D_secret : Cond) ∈ tb := tb_mem 211 (by decide +kernel) (by decide +kernel)
theorem tk_212 : (.instanceMethod y_D_secret : Cond) ∈ tb := tb_mem 212 (by decide +kernel) (by decide +kernel)
theorem tk_213 : (.selects "ProofDesk" y_D_secret y_D_secret : Cond) ∈ tb := tb_mem 213 (by decide +kernel) (by decide +kernel)
theorem tk_214 : (.code y_D_secret prog_1_method_20_code 5 (some .int) : Cond) ∈ tb := tb_mem 214 (by decide +kernel) (by decide +kernel)
theorem tk_215 : (.methodLink "ProofDeskLaw" 95 y_L_count : Cond) ∈ tb := tb_mem 215 (by decide +kernel) (by decide +kernel)
theorem tk_216 : (.static y_L_count : Cond) ∈ tb := tb_mem 216 (by decide +kernel) (by decide +kernel)
theorem tk_217 : (.codeWith y_L_count method_10_code 4 (some .int) [(0, 9, 12, 13)] : Cond) ∈ tb := tb_mem 217 (by decide +kernel) (by decide +kernel)
theorem tk_218 : (.methodLink "ProofDeskLaw" 39 y_D_count : Cond) ∈ tb := tb_mem 218 (by decide +kernel) (by decide +kernel)
theorem tk_219 : (.instanceMethod y_D_count : Cond) ∈ tb := tb_mem 219 (by decide +kernel) (by decide +kernel)
theorem tk_220 : (.selects "ProofDesk" y_D_count y_D_count : Cond) ∈ tb := tb_mem 220 (by decide +kernel) (by decide +kernel)
theorem tk_221 : (.code y_D_count prog_1_method_21_code 2 (some .int) : Cond) ∈ tb := tb_mem 221 (by decide +kernel) (by decide +kernel)
theorem tk_222 : (.classLink "ProofDeskLaw" 43 "ProofDeskModel" : Cond) ∈ tb := tb_mem 222 (by decide +kernel) (by decide +kernel)
theorem tk_223 : (.instantiable "ProofDeskModel" 4 : Cond) ∈ tb := tb_mem 223 (by decide +kernel) (by decide +kernel)
theorem tk_224 : (.methodLink "ProofDeskLaw" 45 y_M_init : Cond) ∈ tb := tb_mem 224 (by decide +kernel) (by decide +kernel)
theorem tk_225 : (.instanceMethod y_M_init : Cond) ∈ tb := tb_mem 225 (by decide +kernel) (by decide +kernel)
theorem tk_226 : (.code y_M_init prog_3_method_1_code 1 none : Cond) ∈ tb := tb_mem 226 (by decide +kernel) (by decide +kernel)
theorem tk_227 : (.methodLink "ProofDeskModel" 1 (⟨"java/lang/Object", "<init>", "()V"⟩ : MethodName) : Cond) ∈ tb := tb_mem 227 (by decide +kernel) (by decide +kernel)
theorem tk_228 : (.constantLong "ProofDeskModel" 7 23 : Cond) ∈ tb := tb_mem 228 (by decide +kernel) (by decide +kernel)
theorem tk_229 : (.constantLong "ProofDeskModel" 15 11 : Cond) ∈ tb := tb_mem 229 (by decide +kernel) (by decide +kernel)
theorem tk_230 : (.constantLong "ProofDeskModel" 20 2 : Cond) ∈ tb := tb_mem 230 (by decide +kernel) (by decide +kernel)
theorem tk_231 : (.fieldLink "ProofDeskModel" 25 "ProofDeskModel" "err" "I" : Cond) ∈ tb := tb_mem 231 (by decide +kernel) (by decide +kernel)
theorem tk_232 : (.fieldLink "ProofDeskModel" 9 "ProofDeskModel" "p" "J" : Cond) ∈ tb := tb_mem 232 (by decide +kernel) (by decide +kernel)
theorem tk_233 : (.fieldLink "ProofDeskModel" 17 "ProofDeskModel" "q" "J" : Cond) ∈ tb := tb_mem 233 (by decide +kernel) (by decide +kernel)
theorem tk_234 : (.fieldLink "ProofDeskModel" 22 "ProofDeskModel" "g" "J" : Cond) ∈ tb := tb_mem 234 (by decide +kernel) (by decide +kernel)
theorem tk_235 : (.lays "ProofDeskModel" "ProofDeskModel" "err" "I" : Cond) ∈ tb := tb_mem 235 (by decide +kernel) (by decide +kernel)
theorem tk_236 : (.soleField "ProofDeskModel" "err" : Cond) ∈ tb := tb_mem 236 (by decide +kernel) (by decide +kernel)
theorem tk_237 : (.lays "ProofDeskModel" "ProofDeskModel" "p" "J" : Cond) ∈ tb := tb_mem 237 (by decide +kernel) (by decide +kernel)
theorem tk_238 : (.soleField "ProofDeskModel" "p" : Cond) ∈ tb := tb_mem 238 (by decide +kernel) (by decide +kernel)
theorem tk_239 : (.lays "ProofDeskModel" "ProofDeskModel" "q" "J" : Cond) ∈ tb := tb_mem 239 (by decide +kernel) (by decide +kernel)
theorem tk_240 : (.soleField "ProofDeskModel" "q" : Cond) ∈ tb := tb_mem 240 (by decide +kernel) (by decide +kernel)
theorem tk_241 : (.lays "ProofDeskModel" "ProofDeskModel" "g" "J" : Cond) ∈ tb := tb_mem 241 (by decide +kernel) (by decide +kernel)
theorem tk_242 : (.soleField "ProofDeskModel" "g" : Cond) ∈ tb := tb_mem 242 (by decide +kernel) (by decide +kernel)
theorem tk_243 : (.superclass "ProofDeskModel" "java/lang/Object" : Cond) ∈ tb := tb_mem 243 (by decide +kernel) (by decide +kernel)
theorem tk_244 : (.methodLink "ProofDeskLaw" 62 y_M_thrown : Cond) ∈ tb := tb_mem 244 (by decide +kernel) (by decide +kernel)
theorem tk_245 : (.instanceMethod y_M_thrown : Cond) ∈ tb := tb_mem 245 (by decide +kernel) (by decide +kernel)
theorem tk_246 : (.selects "ProofDeskModel" y_M_thrown y_M_thrown : Cond) ∈ tb := tb_mem 246 (by decide +kernel) (by decide +kernel)
theorem tk_247 : (.code y_M_thrown prog_3_method_2_code 1 (some .int) : Cond) ∈ tb := tb_mem 247 (by decide +kernel) (by decide +kernel)
theorem tk_248 : (.methodLink "ProofDeskLaw" 50 y_M_begin : Cond) ∈ tb := tb_mem 248 (by decide +kernel) (by decide +kernel)
theorem tk_249 : (.instanceMethod y_M_begin : Cond) ∈ tb := tb_mem 249 (by decide +kernel) (by decide +kernel)
theorem tk_250 : (.selects "ProofDeskModel" y_M_begin y_M_begin : Cond) ∈ tb := tb_mem 250 (by decide +kernel) (by decide +kernel)
theorem tk_251 : (.code y_M_begin prog_3_method_10_code 3 (some .boolean) : Cond) ∈ tb := tb_mem 251 (by decide +kernel) (by decide +kernel)
theorem tk_252 : (.methodLink "ProofDeskModel" 37 y_M_isPrime : Cond) ∈ tb := tb_mem 252 (by decide +kernel) (by decide +kernel)
theorem tk_253 : (.static y_M_isPrime : Cond) ∈ tb := tb_mem 253 (by decide +kernel) (by decide +kernel)
theorem tk_254 : (.code y_M_isPrime prog_3_method_5_code 4 (some .boolean) : Cond) ∈ tb := tb_mem 254 (by decide +kernel) (by decide +kernel)
theorem tk_255 : (.methodLink "ProofDeskModel" 41 y_M_isMember : Cond) ∈ tb := tb_mem 255 (by decide +kernel) (by decide +kernel)
theorem tk_256 : (.static y_M_isMember : Cond) ∈ tb := tb_mem 256 (by decide +kernel) (by decide +kernel)
theorem tk_257 : (.code y_M_isMember prog_3_method_7_code 6 (some .boolean) : Cond) ∈ tb := tb_mem 257 (by decide +kernel) (by decide +kernel)
theorem tk_258 : (.methodLink "ProofDeskModel" 29 y_M_in : Cond) ∈ tb := tb_mem 258 (by decide +kernel) (by decide +kernel)
theorem tk_259 : (.static y_M_in : Cond) ∈ tb := tb_mem 259 (by decide +kernel) (by decide +kernel)
theorem tk_260 : (.code y_M_in prog_3_method_3_code 6 (some .boolean) : Cond) ∈ tb := tb_mem 260 (by decide +kernel) (by decide +kernel)
theorem tk_261 : (.methodLink "ProofDeskModel" 33 y_M_powS : Cond) ∈ tb := tb_mem 261 (by decide +kernel) (by decide +kernel)
theorem tk_262 : (.static y_M_powS : Cond) ∈ tb := tb_mem 262 (by decide +kernel) (by decide +kernel)
theorem tk_263 : (.code y_M_powS prog_3_method_6_code 9 (some .long) : Cond) ∈ tb := tb_mem 263 (by decide +kernel) (by decide +kernel)
theorem tk_264 : (.methodLink "ProofDeskLaw" 55 y_M_member : Cond) ∈ tb := tb_mem 264 (by decide +kernel) (by decide +kernel)
theorem tk_265 : (.instanceMethod y_M_member : Cond) ∈ tb := tb_mem 265 (by decide +kernel) (by decide +kernel)
theorem tk_266 : (.selects "ProofDeskModel" y_M_member y_M_member : Cond) ∈ tb := tb_mem 266 (by decide +kernel) (by decide +kernel)
theorem tk_267 : (.code y_M_member prog_3_method_11_code 2 (some .boolean) : Cond) ∈ tb := tb_mem 267 (by decide +kernel) (by decide +kernel)
theorem tk_268 : (.methodLink "ProofDeskLaw" 61 y_M_product : Cond) ∈ tb := tb_mem 268 (by decide +kernel) (by decide +kernel)
theorem tk_269 : (.instanceMethod y_M_product : Cond) ∈ tb := tb_mem 269 (by decide +kernel) (by decide +kernel)
theorem tk_270 : (.selects "ProofDeskModel" y_M_product y_M_product : Cond) ∈ tb := tb_mem 270 (by decide +kernel) (by decide +kernel)
theorem tk_271 : (.code y_M_product prog_3_method_12_code 3 (some .int) : Cond) ∈ tb := tb_mem 271 (by decide +kernel) (by decide +kernel)
theorem tk_272 : (.methodLink "ProofDeskModel" 44 y_M_fails : Cond) ∈ tb := tb_mem 272 (by decide +kernel) (by decide +kernel)
theorem tk_274 : (.instanceMethod y_M_fails : Cond) ∈ tb := tb_mem 274 (by decide +kernel) (by decide +kernel)
theorem tk_275 : (.code y_M_fails prog_3_method_4_code 3 (some .boolean) : Cond) ∈ tb := tb_mem 275 (by decide +kernel) (by decide +kernel)
theorem tk_276 : (.methodLink "ProofDeskLaw" 71 y_M_powV : Cond) ∈ tb := tb_mem 276 (by decide +kernel) (by decide +kernel)
theorem tk_277 : (.instanceMethod y_M_powV : Cond) ∈ tb := tb_mem 277 (by decide +kernel) (by decide +kernel)
theorem tk_278 : (.selects "ProofDeskModel" y_M_powV y_M_powV : Cond) ∈ tb := tb_mem 278 (by decide +kernel) (by decide +kernel)
theorem tk_279 : (.code y_M_powV prog_3_method_13_code 4 (some .int) : Cond) ∈ tb := tb_mem 279 (by decide +kernel) (by decide +kernel)
theorem tk_280 : (.methodLink "ProofDeskLaw" 75 y_M_invV : Cond) ∈ tb := tb_mem 280 (by decide +kernel) (by decide +kernel)
theorem tk_281 : (.instanceMethod y_M_invV : Cond) ∈ tb := tb_mem 281 (by decide +kernel) (by decide +kernel)
theorem tk_282 : (.selects "ProofDeskModel" y_M_invV y_M_invV : Cond) ∈ tb := tb_mem 282 (by decide +kernel) (by decide +kernel)
theorem tk_283 : (.code y_M_invV prog_3_method_14_code 2 (some .int) : Cond) ∈ tb := tb_mem 283 (by decide +kernel) (by decide +kernel)
theorem tk_284 : (.methodLink "ProofDeskModel" 48 y_M_invS : Cond) ∈ tb := tb_mem 284 (by decide +kernel) (by decide +kernel)
theorem tk_285 : (.static y_M_invS : Cond) ∈ tb := tb_mem 285 (by decide +kernel) (by decide +kernel)
theorem tk_286 : (.code y_M_invS prog_3_method_9_code 16 (some .long) : Cond) ∈ tb := tb_mem 286 (by decide +kernel) (by decide +kernel)
theorem tk_287 : (.methodLink "ProofDeskLaw" 78 y_M_log : Cond) ∈ tb := tb_mem 287 (by decide +kernel) (by decide +kernel)
theorem tk_288 : (.instanceMethod y_M_log : Cond) ∈ tb := tb_mem 288 (by decide +kernel) (by decide +kernel)
theorem tk_289 : (.selects "ProofDeskModel" y_M_log y_M_log : Cond) ∈ tb := tb_mem 289 (by decide +kernel) (by decide +kernel)
theorem tk_290 : (.code y_M_log prog_3_method_15_code 5 (some .int) : Cond) ∈ tb := tb_mem 290 (by decide +kernel) (by decide +kernel)
theorem tk_291 : (.constantLong "ProofDeskModel" 52 20000 : Cond) ∈ tb := tb_mem 291 (by decide +kernel) (by decide +kernel)
theorem tk_292 : (.methodLink "ProofDeskLaw" 83 y_M_accepts : Cond) ∈ tb := tb_mem 292 (by decide +kernel) (by decide +kernel)
theorem tk_293 : (.instanceMethod y_M_accepts : Cond) ∈ tb := tb_mem 293 (by decide +kernel) (by decide +kernel)
theorem tk_294 : (.selects "ProofDeskModel" y_M_accepts y_M_accepts : Cond) ∈ tb := tb_mem 294 (by decide +kernel) (by decide +kernel)
theorem tk_295 : (.code y_M_accepts prog_3_method_16_code 5 (some .boolean) : Cond) ∈ tb := tb_mem 295 (by decide +kernel) (by decide +kernel)
theorem tk_296 : (.methodLink "ProofDeskModel" 54 y_M_isExponent : Cond) ∈ tb := tb_mem 296 (by decide +kernel) (by decide +kernel)
theorem tk_298 : (.instanceMethod y_M_isExponent : Cond) ∈ tb := tb_mem 298 (by decide +kernel) (by decide +kernel)
theorem tk_299 : (.code y_M_isExponent prog_3_method_8_code 3 (some .boolean) : Cond) ∈ tb := tb_mem 299 (by decide +kernel) (by decide +kernel)
theorem tk_300 : (.methodLink "ProofDeskLaw" 87 y_M_answer : Cond) ∈ tb := tb_mem 300 (by decide +kernel) (by decide +kernel)
theorem tk_301 : (.instanceMethod y_M_answer : Cond) ∈ tb := tb_mem 301 (by decide +kernel) (by decide +kernel)
theorem tk_302 : (.selects "ProofDeskModel" y_M_answer y_M_answer : Cond) ∈ tb := tb_mem 302 (by decide +kernel) (by decide +kernel)
theorem tk_303 : (.code y_M_answer prog_3_method_17_code 4 (some .int) : Cond) ∈ tb := tb_mem 303 (by decide +kernel) (by decide +kernel)
theorem tk_304 : (.methodLink "ProofDeskLaw" 90 y_M_feign : Cond) ∈ tb := tb_mem 304 (by decide +kernel) (by decide +kernel)
theorem tk_305 : (.instanceMethod y_M_feign : Cond) ∈ tb := tb_mem 305 (by decide +kernel) (by decide +kernel)
theorem tk_306 : (.selects "ProofDeskModel" y_M_feign y_M_feign : Cond) ∈ tb := tb_mem 306 (by decide +kernel) (by decide +kernel)
theorem tk_307 : (.code y_M_feign prog_3_method_18_code 4 (some .int) : Cond) ∈ tb := tb_mem 307 (by decide +kernel) (by decide +kernel)
theorem tk_308 : (.methodLink "ProofDeskLaw" 94 y_M_secret : Cond) ∈ tb := tb_mem 308 (by decide +kernel) (by decide +kernel)
theorem tk_309 : (.instanceMethod y_M_secret : Cond) ∈ tb := tb_mem 309 (by decide +kernel) (by decide +kernel)
theorem tk_310 : (.selects "ProofDeskModel" y_M_secret y_M_secret : Cond) ∈ tb := tb_mem 310 (by decide +kernel) (by decide +kernel)
theorem tk_311 : (.code y_M_secret prog_3_method_19_code 9 (some .int) : Cond) ∈ tb := tb_mem 311 (by decide +kernel) (by decide +kernel)
theorem tk_312 : (.methodLink "ProofDeskLaw" 97 y_M_count : Cond) ∈ tb := tb_mem 312 (by decide +kernel) (by decide +kernel)
theorem tk_313 : (.instanceMethod y_M_count : Cond) ∈ tb := tb_mem 313 (by decide +kernel) (by decide +kernel)
theorem tk_314 : (.selects "ProofDeskModel" y_M_count y_M_count : Cond) ∈ tb := tb_mem 314 (by decide +kernel) (by decide +kernel)
theorem tk_315 : (.code y_M_count prog_3_method_20_code 2 (some .int) : Cond) ∈ tb := tb_mem 315 (by decide +kernel) (by decide +kernel)
theorem tk_316 : (.constantLong "ProofDeskLaw" 66 4294967295 : Cond) ∈ tb := tb_mem 316 (by decide +kernel) (by decide +kernel)
theorem tk_317 : (.arrayClass .long : Cond) ∈ tb := tb_mem 317 (by decide +kernel) (by decide +kernel)
theorem tk_318 : (.sameMethod "java/lang/Throwable" "java/lang/Throwable" "fillInStackTrace" "(I)Ljava/lang/Throwable;" : Cond) ∈ tb := tb_mem 318 (by decide +kernel) (by decide +kernel)
theorem ts_D_exponent : (.selects "ProofDesk" y_D_exponent y_D_exponent : Cond) ∈ tb := List.mem_filter.mpr ⟨List.mem_of_getElem? (i := 0) (by decide +kernel), by decide +kernel⟩
theorem ts_D_find : (.selects "ProofDesk" y_D_find y_D_find : Cond) ∈ tb := List.mem_filter.mpr ⟨List.mem_of_getElem? (i := 2) (by decide +kernel), by decide +kernel⟩
theorem ts_M_fails : (.selects "ProofDeskModel" y_M_fails y_M_fails : Cond) ∈ tb := List.mem_filter.mpr ⟨List.mem_of_getElem? (i := 3) (by decide +kernel), by decide +kernel⟩
theorem ts_M_isExponent : (.selects "ProofDeskModel" y_M_isExponent y_M_isExponent : Cond) ∈ tb := List.mem_filter.mpr ⟨List.mem_of_getElem? (i := 4) (by decide +kernel), by decide +kernel⟩
/-- words that the tables say and that are no table words of the kit -/
def fx : List Cond := [.privateMethod y_D_exponent, .castable "java/lang/IllegalArgumentException" "java/lang/IllegalArgumentException", .declares (⟨"java/lang/RuntimeException", "<init>", "()V"⟩ : MethodName), .declares (⟨"java/lang/RuntimeException", "<init>", "(Ljava/lang/String;)V"⟩ : MethodName), .declares (⟨"java/lang/Exception", "<init>", "()V"⟩ : MethodName), .declares (⟨"java/lang/Exception", "<init>", "(Ljava/lang/String;)V"⟩ : MethodName), .declares (⟨"java/lang/Throwable", "<init>", "()V"⟩ : MethodName), .declares (⟨"java/lang/Throwable", "<init>", "(Ljava/lang/String;)V"⟩ : MethodName), .laysStatic "java/lang/Throwable" "UNASSIGNED_STACK" "[Ljava/lang/StackTraceElement;", .laysStatic "java/lang/Throwable" "SUPPRESSED_SENTINEL" "Ljava/util/List;", .privateMethod (⟨"java/lang/Throwable", "fillInStackTrace", "(I)Ljava/lang/Throwable;"⟩ : MethodName), .castable "java/lang/IllegalStateException" "java/lang/IllegalStateException", .privateMethod y_D_find, .privateMethod y_M_fails, .privateMethod y_M_isExponent]
theorem fx_in : ∀ w ∈ fx, w ∈ lw_tbl := by
  intro w hw
  simp only [fx, List.mem_cons, List.not_mem_nil, or_false] at hw
  rcases hw with rfl | rfl | rfl | rfl | rfl | rfl | rfl | rfl | rfl | rfl | rfl | rfl | rfl | rfl | rfl
  · exact List.mem_of_getElem? (i := 73) (by decide +kernel)
  · exact List.mem_of_getElem? (i := 89) (by decide +kernel)
  · exact List.mem_of_getElem? (i := 90) (by decide +kernel)
  · exact List.mem_of_getElem? (i := 91) (by decide +kernel)
  · exact List.mem_of_getElem? (i := 92) (by decide +kernel)
  · exact List.mem_of_getElem? (i := 93) (by decide +kernel)
  · exact List.mem_of_getElem? (i := 94) (by decide +kernel)
  · exact List.mem_of_getElem? (i := 95) (by decide +kernel)
  · exact List.mem_of_getElem? (i := 114) (by decide +kernel)
  · exact List.mem_of_getElem? (i := 116) (by decide +kernel)
  · exact List.mem_of_getElem? (i := 123) (by decide +kernel)
  · exact List.mem_of_getElem? (i := 179) (by decide +kernel)
  · exact List.mem_of_getElem? (i := 193) (by decide +kernel)
  · exact List.mem_of_getElem? (i := 278) (by decide +kernel)
  · exact List.mem_of_getElem? (i := 302) (by decide +kernel)
end
section
/-! decode rows -/
theorem d_D_init_0 : decode b_D_init 0 = .ok (.aload_n 0, 1) := by decide +kernel
theorem d_D_init_1 : decode b_D_init 1 = .ok (.invokespecial 1, 3) := by decide +kernel
theorem d_D_init_4 : decode b_D_init 4 = .ok (.aload_n 0, 1) := by decide +kernel
theorem d_D_init_5 : decode b_D_init 5 = .ok (.bipush 101, 2) := by decide +kernel
theorem d_D_init_7 : decode b_D_init 7 = .ok (.newarray .int, 2) := by decide +kernel
theorem d_D_init_9 : decode b_D_init 9 = .ok (.putfield 9, 3) := by decide +kernel
theorem d_D_init_12 : decode b_D_init 12 = .ok (.aload_n 0, 1) := by decide +kernel
theorem d_D_init_13 : decode b_D_init 13 = .ok (.bipush 101, 2) := by decide +kernel
theorem d_D_init_15 : decode b_D_init 15 = .ok (.newarray .int, 2) := by decide +kernel
theorem d_D_init_17 : decode b_D_init 17 = .ok (.putfield 13, 3) := by decide +kernel
theorem d_D_init_20 : decode b_D_init 20 = .ok (.aload_n 0, 1) := by decide +kernel
theorem d_D_init_21 : decode b_D_init 21 = .ok (.bipush 23, 2) := by decide +kernel
theorem d_D_init_23 : decode b_D_init 23 = .ok (.putfield 16, 3) := by decide +kernel
theorem d_D_init_26 : decode b_D_init 26 = .ok (.aload_n 0, 1) := by decide +kernel
theorem d_D_init_27 : decode b_D_init 27 = .ok (.bipush 11, 2) := by decide +kernel
theorem d_D_init_29 : decode b_D_init 29 = .ok (.putfield 20, 3) := by decide +kernel
theorem d_D_init_32 : decode b_D_init 32 = .ok (.aload_n 0, 1) := by decide +kernel
theorem d_D_init_33 : decode b_D_init 33 = .ok (.iconst 2, 1) := by decide +kernel
theorem d_D_init_34 : decode b_D_init 34 = .ok (.putfield 23, 3) := by decide +kernel
theorem d_D_init_37 : decode b_D_init 37 = .ok (.return_, 1) := by decide +kernel
theorem d_D_begin_0 : decode b_D_begin 0 = .ok (.iload_n 1, 1) := by decide +kernel
theorem d_D_begin_1 : decode b_D_begin 1 = .ok (.iconst 5, 1) := by decide +kernel
theorem d_D_begin_2 : decode b_D_begin 2 = .ok (.if_icmp .lt 20, 3) := by decide +kernel
theorem d_D_begin_5 : decode b_D_begin 5 = .ok (.iload_n 1, 1) := by decide +kernel
theorem d_D_begin_6 : decode b_D_begin 6 = .ok (.iconst 2, 1) := by decide +kernel
theorem d_D_begin_7 : decode b_D_begin 7 = .ok (.irem, 1) := by decide +kernel
theorem d_D_begin_8 : decode b_D_begin 8 = .ok (.ifCond .eq 14, 3) := by decide +kernel
theorem d_D_begin_11 : decode b_D_begin 11 = .ok (.iload_n 2, 1) := by decide +kernel
theorem d_D_begin_12 : decode b_D_begin 12 = .ok (.iconst 2, 1) := by decide +kernel
theorem d_D_begin_13 : decode b_D_begin 13 = .ok (.iload_n 1, 1) := by decide +kernel
theorem d_D_begin_14 : decode b_D_begin 14 = .ok (.iconst 1, 1) := by decide +kernel
theorem d_D_begin_15 : decode b_D_begin 15 = .ok (.isub, 1) := by decide +kernel
theorem d_D_begin_16 : decode b_D_begin 16 = .ok (.invokestatic 53, 3) := by decide +kernel
theorem d_D_begin_19 : decode b_D_begin 19 = .ok (.ifCond .ne 5, 3) := by decide +kernel
theorem d_D_begin_22 : decode b_D_begin 22 = .ok (.iconst 0, 1) := by decide +kernel
theorem d_D_begin_23 : decode b_D_begin 23 = .ok (.ireturn, 1) := by decide +kernel
theorem d_D_begin_24 : decode b_D_begin 24 = .ok (.iload_n 1, 1) := by decide +kernel
theorem d_D_begin_25 : decode b_D_begin 25 = .ok (.iconst 2, 1) := by decide +kernel
theorem d_D_begin_26 : decode b_D_begin 26 = .ok (.idiv, 1) := by decide +kernel
theorem d_D_begin_27 : decode b_D_begin 27 = .ok (.istore_n 3, 1) := by decide +kernel
theorem d_D_begin_28 : decode b_D_begin 28 = .ok (.iload_n 3, 1) := by decide +kernel
theorem d_D_begin_29 : decode b_D_begin 29 = .ok (.invokestatic 56, 3) := by decide +kernel
theorem d_D_begin_32 : decode b_D_begin 32 = .ok (.ifCond .eq 21, 3) := by decide +kernel
theorem d_D_begin_35 : decode b_D_begin 35 = .ok (.iload_n 1, 1) := by decide +kernel
theorem d_D_begin_36 : decode b_D_begin 36 = .ok (.invokestatic 56, 3) := by decide +kernel
theorem d_D_begin_39 : decode b_D_begin 39 = .ok (.ifCond .eq 14, 3) := by decide +kernel
theorem d_D_begin_42 : decode b_D_begin 42 = .ok (.iload_n 2, 1) := by decide +kernel
theorem d_D_begin_43 : decode b_D_begin 43 = .ok (.iload_n 3, 1) := by decide +kernel
theorem d_D_begin_44 : decode b_D_begin 44 = .ok (.i2l, 1) := by decide +kernel
theorem d_D_begin_45 : decode b_D_begin 45 = .ok (.iload_n 1, 1) := by decide +kernel
theorem d_D_begin_46 : decode b_D_begin 46 = .ok (.invokestatic 39, 3) := by decide +kernel
theorem d_D_begin_49 : decode b_D_begin 49 = .ok (.iconst 1, 1) := by decide +kernel
theorem d_D_begin_50 : decode b_D_begin 50 = .ok (.if_icmp .eq 5, 3) := by decide +kernel
theorem d_D_begin_53 : decode b_D_begin 53 = .ok (.iconst 0, 1) := by decide +kernel
theorem d_D_begin_54 : decode b_D_begin 54 = .ok (.ireturn, 1) := by decide +kernel
theorem d_D_begin_55 : decode b_D_begin 55 = .ok (.aload_n 0, 1) := by decide +kernel
theorem d_D_begin_56 : decode b_D_begin 56 = .ok (.iload_n 1, 1) := by decide +kernel
theorem d_D_begin_57 : decode b_D_begin 57 = .ok (.putfield 16, 3) := by decide +kernel
theorem d_D_begin_60 : decode b_D_begin 60 = .ok (.aload_n 0, 1) := by decide +kernel
theorem d_D_begin_61 : decode b_D_begin 61 = .ok (.iload_n 2, 1) := by decide +kernel
theorem d_D_begin_62 : decode b_D_begin 62 = .ok (.putfield 23, 3) := by decide +kernel
theorem d_D_begin_65 : decode b_D_begin 65 = .ok (.aload_n 0, 1) := by decide +kernel
theorem d_D_begin_66 : decode b_D_begin 66 = .ok (.iload_n 3, 1) := by decide +kernel
theorem d_D_begin_67 : decode b_D_begin 67 = .ok (.putfield 20, 3) := by decide +kernel
theorem d_D_begin_70 : decode b_D_begin 70 = .ok (.iconst 1, 1) := by decide +kernel
theorem d_D_begin_71 : decode b_D_begin 71 = .ok (.ireturn, 1) := by decide +kernel
theorem d_D_in_0 : decode b_D_in 0 = .ok (.iload_n 0, 1) := by decide +kernel
theorem d_D_in_1 : decode b_D_in 1 = .ok (.iload_n 1, 1) := by decide +kernel
theorem d_D_in_2 : decode b_D_in 2 = .ok (.if_icmp .lt 12, 3) := by decide +kernel
theorem d_D_in_5 : decode b_D_in 5 = .ok (.iload_n 0, 1) := by decide +kernel
theorem d_D_in_6 : decode b_D_in 6 = .ok (.iload_n 2, 1) := by decide +kernel
theorem d_D_in_7 : decode b_D_in 7 = .ok (.if_icmp .gt 7, 3) := by decide +kernel
theorem d_D_in_10 : decode b_D_in 10 = .ok (.iconst 1, 1) := by decide +kernel
theorem d_D_in_11 : decode b_D_in 11 = .ok (.goto 4, 3) := by decide +kernel
theorem d_D_in_14 : decode b_D_in 14 = .ok (.iconst 0, 1) := by decide +kernel
theorem d_D_in_15 : decode b_D_in 15 = .ok (.ireturn, 1) := by decide +kernel
theorem d_D_prime_0 : decode b_D_prime 0 = .ok (.iload_n 0, 1) := by decide +kernel
theorem d_D_prime_1 : decode b_D_prime 1 = .ok (.iconst 2, 1) := by decide +kernel
theorem d_D_prime_2 : decode b_D_prime 2 = .ok (.if_icmp .lt 9, 3) := by decide +kernel
theorem d_D_prime_5 : decode b_D_prime 5 = .ok (.iload_n 0, 1) := by decide +kernel
theorem d_D_prime_6 : decode b_D_prime 6 = .ok (.iconst 2, 1) := by decide +kernel
theorem d_D_prime_7 : decode b_D_prime 7 = .ok (.irem, 1) := by decide +kernel
theorem d_D_prime_8 : decode b_D_prime 8 = .ok (.ifCond .ne 14, 3) := by decide +kernel
theorem d_D_prime_11 : decode b_D_prime 11 = .ok (.iload_n 0, 1) := by decide +kernel
theorem d_D_prime_12 : decode b_D_prime 12 = .ok (.iconst 2, 1) := by decide +kernel
theorem d_D_prime_13 : decode b_D_prime 13 = .ok (.if_icmp .ne 7, 3) := by decide +kernel
theorem d_D_prime_16 : decode b_D_prime 16 = .ok (.iconst 1, 1) := by decide +kernel
theorem d_D_prime_17 : decode b_D_prime 17 = .ok (.goto 4, 3) := by decide +kernel
theorem d_D_prime_20 : decode b_D_prime 20 = .ok (.iconst 0, 1) := by decide +kernel
theorem d_D_prime_21 : decode b_D_prime 21 = .ok (.ireturn, 1) := by decide +kernel
theorem d_D_prime_22 : decode b_D_prime 22 = .ok (.iload_n 0, 1) := by decide +kernel
theorem d_D_prime_23 : decode b_D_prime 23 = .ok (.iconst 1, 1) := by decide +kernel
theorem d_D_prime_24 : decode b_D_prime 24 = .ok (.isub, 1) := by decide +kernel
theorem d_D_prime_25 : decode b_D_prime 25 = .ok (.iload_n 0, 1) := by decide +kernel
theorem d_D_prime_26 : decode b_D_prime 26 = .ok (.iconst 1, 1) := by decide +kernel
theorem d_D_prime_27 : decode b_D_prime 27 = .ok (.isub, 1) := by decide +kernel
theorem d_D_prime_28 : decode b_D_prime 28 = .ok (.invokestatic 33, 3) := by decide +kernel
theorem d_D_prime_31 : decode b_D_prime 31 = .ok (.ishr, 1) := by decide +kernel
theorem d_D_prime_32 : decode b_D_prime 32 = .ok (.istore_n 1, 1) := by decide +kernel
theorem d_D_prime_33 : decode b_D_prime 33 = .ok (.iconst 2, 1) := by decide +kernel
theorem d_D_prime_34 : decode b_D_prime 34 = .ok (.istore_n 2, 1) := by decide +kernel
theorem d_D_prime_35 : decode b_D_prime 35 = .ok (.iload_n 2, 1) := by decide +kernel
theorem d_D_prime_36 : decode b_D_prime 36 = .ok (.bipush 8, 2) := by decide +kernel
theorem d_D_prime_38 : decode b_D_prime 38 = .ok (.if_icmp .ge 41, 3) := by decide +kernel
theorem d_D_prime_41 : decode b_D_prime 41 = .ok (.iload_n 2, 1) := by decide +kernel
theorem d_D_prime_42 : decode b_D_prime 42 = .ok (.iload_n 0, 1) := by decide +kernel
theorem d_D_prime_43 : decode b_D_prime 43 = .ok (.if_icmp .ge 20, 3) := by decide +kernel
theorem d_D_prime_46 : decode b_D_prime 46 = .ok (.iload_n 0, 1) := by decide +kernel
theorem d_D_prime_47 : decode b_D_prime 47 = .ok (.iload_n 2, 1) := by decide +kernel
theorem d_D_prime_48 : decode b_D_prime 48 = .ok (.iload_n 1, 1) := by decide +kernel
theorem d_D_prime_49 : decode b_D_prime 49 = .ok (.i2l, 1) := by decide +kernel
theorem d_D_prime_50 : decode b_D_prime 50 = .ok (.iload_n 0, 1) := by decide +kernel
theorem d_D_prime_51 : decode b_D_prime 51 = .ok (.invokestatic 39, 3) := by decide +kernel
theorem d_D_prime_54 : decode b_D_prime 54 = .ok (.iload_n 1, 1) := by decide +kernel
theorem d_D_prime_55 : decode b_D_prime 55 = .ok (.invokestatic 43, 3) := by decide +kernel
theorem d_D_prime_58 : decode b_D_prime 58 = .ok (.ifCond .ne 5, 3) := by decide +kernel
theorem d_D_prime_61 : decode b_D_prime 61 = .ok (.iconst 0, 1) := by decide +kernel
theorem d_D_prime_62 : decode b_D_prime 62 = .ok (.ireturn, 1) := by decide +kernel
theorem d_D_prime_63 : decode b_D_prime 63 = .ok (.iload_n 2, 1) := by decide +kernel
theorem d_D_prime_64 : decode b_D_prime 64 = .ok (.iload_n 2, 1) := by decide +kernel
theorem d_D_prime_65 : decode b_D_prime 65 = .ok (.iconst 2, 1) := by decide +kernel
theorem d_D_prime_66 : decode b_D_prime 66 = .ok (.if_icmp .ne 7, 3) := by decide +kernel
theorem d_D_prime_69 : decode b_D_prime 69 = .ok (.iconst 1, 1) := by decide +kernel
theorem d_D_prime_70 : decode b_D_prime 70 = .ok (.goto 4, 3) := by decide +kernel
theorem d_D_prime_73 : decode b_D_prime 73 = .ok (.iconst 2, 1) := by decide +kernel
theorem d_D_prime_74 : decode b_D_prime 74 = .ok (.iadd, 1) := by decide +kernel
theorem d_D_prime_75 : decode b_D_prime 75 = .ok (.istore_n 2, 1) := by decide +kernel
theorem d_D_prime_76 : decode b_D_prime 76 = .ok (.goto (-41), 3) := by decide +kernel
theorem d_D_prime_79 : decode b_D_prime 79 = .ok (.iconst 1, 1) := by decide +kernel
theorem d_D_prime_80 : decode b_D_prime 80 = .ok (.ireturn, 1) := by decide +kernel
theorem d_J_ntz_0 : decode b_J_ntz 0 = .ok (.iload_n 0, 1) := by decide +kernel
theorem d_J_ntz_1 : decode b_J_ntz 1 = .ok (.iconst (-1), 1) := by decide +kernel
theorem d_J_ntz_2 : decode b_J_ntz 2 = .ok (.ixor, 1) := by decide +kernel
theorem d_J_ntz_3 : decode b_J_ntz 3 = .ok (.iload_n 0, 1) := by decide +kernel
theorem d_J_ntz_4 : decode b_J_ntz 4 = .ok (.iconst 1, 1) := by decide +kernel
theorem d_J_ntz_5 : decode b_J_ntz 5 = .ok (.isub, 1) := by decide +kernel
theorem d_J_ntz_6 : decode b_J_ntz 6 = .ok (.iand, 1) := by decide +kernel
theorem d_J_ntz_7 : decode b_J_ntz 7 = .ok (.istore_n 0, 1) := by decide +kernel
theorem d_J_ntz_8 : decode b_J_ntz 8 = .ok (.iload_n 0, 1) := by decide +kernel
theorem d_J_ntz_9 : decode b_J_ntz 9 = .ok (.ifCond .gt 8, 3) := by decide +kernel
theorem d_J_ntz_12 : decode b_J_ntz 12 = .ok (.iload_n 0, 1) := by decide +kernel
theorem d_J_ntz_13 : decode b_J_ntz 13 = .ok (.bipush 32, 2) := by decide +kernel
theorem d_J_ntz_15 : decode b_J_ntz 15 = .ok (.iand, 1) := by decide +kernel
theorem d_J_ntz_16 : decode b_J_ntz 16 = .ok (.ireturn, 1) := by decide +kernel
theorem d_J_ntz_17 : decode b_J_ntz 17 = .ok (.iconst 1, 1) := by decide +kernel
theorem d_J_ntz_18 : decode b_J_ntz 18 = .ok (.istore_n 1, 1) := by decide +kernel
theorem d_J_ntz_19 : decode b_J_ntz 19 = .ok (.iload_n 0, 1) := by decide +kernel
theorem d_J_ntz_20 : decode b_J_ntz 20 = .ok (.ldc_w 264, 3) := by decide +kernel
theorem d_J_ntz_23 : decode b_J_ntz 23 = .ok (.if_icmp .le 11, 3) := by decide +kernel
theorem d_J_ntz_26 : decode b_J_ntz 26 = .ok (.iinc 1 16, 3) := by decide +kernel
theorem d_J_ntz_29 : decode b_J_ntz 29 = .ok (.iload_n 0, 1) := by decide +kernel
theorem d_J_ntz_30 : decode b_J_ntz 30 = .ok (.bipush 16, 2) := by decide +kernel
theorem d_J_ntz_32 : decode b_J_ntz 32 = .ok (.iushr, 1) := by decide +kernel
theorem d_J_ntz_33 : decode b_J_ntz 33 = .ok (.istore_n 0, 1) := by decide +kernel
theorem d_J_ntz_34 : decode b_J_ntz 34 = .ok (.iload_n 0, 1) := by decide +kernel
theorem d_J_ntz_35 : decode b_J_ntz 35 = .ok (.sipush 256, 3) := by decide +kernel
theorem d_J_ntz_38 : decode b_J_ntz 38 = .ok (.if_icmp .le 11, 3) := by decide +kernel
theorem d_J_ntz_41 : decode b_J_ntz 41 = .ok (.iinc 1 8, 3) := by decide +kernel
theorem d_J_ntz_44 : decode b_J_ntz 44 = .ok (.iload_n 0, 1) := by decide +kernel
theorem d_J_ntz_45 : decode b_J_ntz 45 = .ok (.bipush 8, 2) := by decide +kernel
theorem d_J_ntz_47 : decode b_J_ntz 47 = .ok (.iushr, 1) := by decide +kernel
theorem d_J_ntz_48 : decode b_J_ntz 48 = .ok (.istore_n 0, 1) := by decide +kernel
theorem d_J_ntz_49 : decode b_J_ntz 49 = .ok (.iload_n 0, 1) := by decide +kernel
theorem d_J_ntz_50 : decode b_J_ntz 50 = .ok (.bipush 16, 2) := by decide +kernel
theorem d_J_ntz_52 : decode b_J_ntz 52 = .ok (.if_icmp .le 10, 3) := by decide +kernel
theorem d_J_ntz_55 : decode b_J_ntz 55 = .ok (.iinc 1 4, 3) := by decide +kernel
theorem d_J_ntz_58 : decode b_J_ntz 58 = .ok (.iload_n 0, 1) := by decide +kernel
theorem d_J_ntz_59 : decode b_J_ntz 59 = .ok (.iconst 4, 1) := by decide +kernel
theorem d_J_ntz_60 : decode b_J_ntz 60 = .ok (.iushr, 1) := by decide +kernel
theorem d_J_ntz_61 : decode b_J_ntz 61 = .ok (.istore_n 0, 1) := by decide +kernel
theorem d_J_ntz_62 : decode b_J_ntz 62 = .ok (.iload_n 0, 1) := by decide +kernel
theorem d_J_ntz_63 : decode b_J_ntz 63 = .ok (.iconst 4, 1) := by decide +kernel
theorem d_J_ntz_64 : decode b_J_ntz 64 = .ok (.if_icmp .le 10, 3) := by decide +kernel
theorem d_J_ntz_67 : decode b_J_ntz 67 = .ok (.iinc 1 2, 3) := by decide +kernel
theorem d_J_ntz_70 : decode b_J_ntz 70 = .ok (.iload_n 0, 1) := by decide +kernel
theorem d_J_ntz_71 : decode b_J_ntz 71 = .ok (.iconst 2, 1) := by decide +kernel
theorem d_J_ntz_72 : decode b_J_ntz 72 = .ok (.iushr, 1) := by decide +kernel
theorem d_J_ntz_73 : decode b_J_ntz 73 = .ok (.istore_n 0, 1) := by decide +kernel
theorem d_J_ntz_74 : decode b_J_ntz 74 = .ok (.iload_n 1, 1) := by decide +kernel
theorem d_J_ntz_75 : decode b_J_ntz 75 = .ok (.iload_n 0, 1) := by decide +kernel
theorem d_J_ntz_76 : decode b_J_ntz 76 = .ok (.iconst 1, 1) := by decide +kernel
theorem d_J_ntz_77 : decode b_J_ntz 77 = .ok (.iushr, 1) := by decide +kernel
theorem d_J_ntz_78 : decode b_J_ntz 78 = .ok (.iadd, 1) := by decide +kernel
theorem d_J_ntz_79 : decode b_J_ntz 79 = .ok (.ireturn, 1) := by decide +kernel
theorem d_D_powS_0 : decode b_D_powS 0 = .ok (.iconst 1, 1) := by decide +kernel
theorem d_D_powS_1 : decode b_D_powS 1 = .ok (.istore 4, 2) := by decide +kernel
theorem d_D_powS_3 : decode b_D_powS 3 = .ok (.iload_n 0, 1) := by decide +kernel
theorem d_D_powS_4 : decode b_D_powS 4 = .ok (.iload_n 3, 1) := by decide +kernel
theorem d_D_powS_5 : decode b_D_powS 5 = .ok (.irem, 1) := by decide +kernel
theorem d_D_powS_6 : decode b_D_powS 6 = .ok (.istore 5, 2) := by decide +kernel
theorem d_D_powS_8 : decode b_D_powS 8 = .ok (.lload_n 1, 1) := by decide +kernel
theorem d_D_powS_9 : decode b_D_powS 9 = .ok (.lstore 6, 2) := by decide +kernel
theorem d_D_powS_11 : decode b_D_powS 11 = .ok (.lload 6, 2) := by decide +kernel
theorem d_D_powS_13 : decode b_D_powS 13 = .ok (.lconst 0, 1) := by decide +kernel
theorem d_D_powS_14 : decode b_D_powS 14 = .ok (.lcmp, 1) := by decide +kernel
theorem d_D_powS_15 : decode b_D_powS 15 = .ok (.ifCond .le 41, 3) := by decide +kernel
theorem d_D_powS_18 : decode b_D_powS 18 = .ok (.lload 6, 2) := by decide +kernel
theorem d_D_powS_20 : decode b_D_powS 20 = .ok (.lconst 1, 1) := by decide +kernel
theorem d_D_powS_21 : decode b_D_powS 21 = .ok (.land, 1) := by decide +kernel
theorem d_D_powS_22 : decode b_D_powS 22 = .ok (.lconst 1, 1) := by decide +kernel
theorem d_D_powS_23 : decode b_D_powS 23 = .ok (.lcmp, 1) := by decide +kernel
theorem d_D_powS_24 : decode b_D_powS 24 = .ok (.ifCond .ne 13, 3) := by decide +kernel
theorem d_D_powS_27 : decode b_D_powS 27 = .ok (.iload 4, 2) := by decide +kernel
theorem d_D_powS_29 : decode b_D_powS 29 = .ok (.iload 5, 2) := by decide +kernel
theorem d_D_powS_31 : decode b_D_powS 31 = .ok (.iload_n 3, 1) := by decide +kernel
theorem d_D_powS_32 : decode b_D_powS 32 = .ok (.invokestatic 29, 3) := by decide +kernel
theorem d_D_powS_35 : decode b_D_powS 35 = .ok (.istore 4, 2) := by decide +kernel
theorem d_D_powS_37 : decode b_D_powS 37 = .ok (.iload 5, 2) := by decide +kernel
theorem d_D_powS_39 : decode b_D_powS 39 = .ok (.iload 5, 2) := by decide +kernel
theorem d_D_powS_41 : decode b_D_powS 41 = .ok (.iload_n 3, 1) := by decide +kernel
theorem d_D_powS_42 : decode b_D_powS 42 = .ok (.invokestatic 29, 3) := by decide +kernel
theorem d_D_powS_45 : decode b_D_powS 45 = .ok (.istore 5, 2) := by decide +kernel
theorem d_D_powS_47 : decode b_D_powS 47 = .ok (.lload 6, 2) := by decide +kernel
theorem d_D_powS_49 : decode b_D_powS 49 = .ok (.iconst 1, 1) := by decide +kernel
theorem d_D_powS_50 : decode b_D_powS 50 = .ok (.lshr, 1) := by decide +kernel
theorem d_D_powS_51 : decode b_D_powS 51 = .ok (.lstore 6, 2) := by decide +kernel
theorem d_D_powS_53 : decode b_D_powS 53 = .ok (.goto (-42), 3) := by decide +kernel
theorem d_D_powS_56 : decode b_D_powS 56 = .ok (.iload 4, 2) := by decide +kernel
theorem d_D_powS_58 : decode b_D_powS 58 = .ok (.ireturn, 1) := by decide +kernel
theorem d_D_times_0 : decode b_D_times 0 = .ok (.iload_n 0, 1) := by decide +kernel
theorem d_D_times_1 : decode b_D_times 1 = .ok (.i2l, 1) := by decide +kernel
theorem d_D_times_2 : decode b_D_times 2 = .ok (.iload_n 1, 1) := by decide +kernel
theorem d_D_times_3 : decode b_D_times 3 = .ok (.i2l, 1) := by decide +kernel
theorem d_D_times_4 : decode b_D_times 4 = .ok (.lmul, 1) := by decide +kernel
theorem d_D_times_5 : decode b_D_times 5 = .ok (.iload_n 2, 1) := by decide +kernel
theorem d_D_times_6 : decode b_D_times 6 = .ok (.i2l, 1) := by decide +kernel
theorem d_D_times_7 : decode b_D_times 7 = .ok (.lrem, 1) := by decide +kernel
theorem d_D_times_8 : decode b_D_times 8 = .ok (.l2i, 1) := by decide +kernel
theorem d_D_times_9 : decode b_D_times 9 = .ok (.ireturn, 1) := by decide +kernel
theorem d_D_passes_0 : decode b_D_passes 0 = .ok (.iload_n 1, 1) := by decide +kernel
theorem d_D_passes_1 : decode b_D_passes 1 = .ok (.istore_n 3, 1) := by decide +kernel
theorem d_D_passes_2 : decode b_D_passes 2 = .ok (.iload_n 2, 1) := by decide +kernel
theorem d_D_passes_3 : decode b_D_passes 3 = .ok (.istore 4, 2) := by decide +kernel
theorem d_D_passes_5 : decode b_D_passes 5 = .ok (.iload_n 3, 1) := by decide +kernel
theorem d_D_passes_6 : decode b_D_passes 6 = .ok (.iconst 1, 1) := by decide +kernel
theorem d_D_passes_7 : decode b_D_passes 7 = .ok (.if_icmp .ne 5, 3) := by decide +kernel
theorem d_D_passes_10 : decode b_D_passes 10 = .ok (.iconst 1, 1) := by decide +kernel
theorem d_D_passes_11 : decode b_D_passes 11 = .ok (.ireturn, 1) := by decide +kernel
theorem d_D_passes_12 : decode b_D_passes 12 = .ok (.iload 4, 2) := by decide +kernel
theorem d_D_passes_14 : decode b_D_passes 14 = .ok (.iload_n 0, 1) := by decide +kernel
theorem d_D_passes_15 : decode b_D_passes 15 = .ok (.iconst 1, 1) := by decide +kernel
theorem d_D_passes_16 : decode b_D_passes 16 = .ok (.isub, 1) := by decide +kernel
theorem d_D_passes_17 : decode b_D_passes 17 = .ok (.if_icmp .ge 26, 3) := by decide +kernel
theorem d_D_passes_20 : decode b_D_passes 20 = .ok (.iload_n 3, 1) := by decide +kernel
theorem d_D_passes_21 : decode b_D_passes 21 = .ok (.iload_n 0, 1) := by decide +kernel
theorem d_D_passes_22 : decode b_D_passes 22 = .ok (.iconst 1, 1) := by decide +kernel
theorem d_D_passes_23 : decode b_D_passes 23 = .ok (.isub, 1) := by decide +kernel
theorem d_D_passes_24 : decode b_D_passes 24 = .ok (.if_icmp .eq 19, 3) := by decide +kernel
theorem d_D_passes_27 : decode b_D_passes 27 = .ok (.iload_n 3, 1) := by decide +kernel
theorem d_D_passes_28 : decode b_D_passes 28 = .ok (.iload_n 3, 1) := by decide +kernel
theorem d_D_passes_29 : decode b_D_passes 29 = .ok (.iload_n 0, 1) := by decide +kernel
theorem d_D_passes_30 : decode b_D_passes 30 = .ok (.invokestatic 29, 3) := by decide +kernel
theorem d_D_passes_33 : decode b_D_passes 33 = .ok (.istore_n 3, 1) := by decide +kernel
theorem d_D_passes_34 : decode b_D_passes 34 = .ok (.iconst 2, 1) := by decide +kernel
theorem d_D_passes_35 : decode b_D_passes 35 = .ok (.iload 4, 2) := by decide +kernel
theorem d_D_passes_37 : decode b_D_passes 37 = .ok (.imul, 1) := by decide +kernel
theorem d_D_passes_38 : decode b_D_passes 38 = .ok (.istore 4, 2) := by decide +kernel
theorem d_D_passes_40 : decode b_D_passes 40 = .ok (.goto (-28), 3) := by decide +kernel
theorem d_D_passes_43 : decode b_D_passes 43 = .ok (.iload 4, 2) := by decide +kernel
theorem d_D_passes_45 : decode b_D_passes 45 = .ok (.iload_n 0, 1) := by decide +kernel
theorem d_D_passes_46 : decode b_D_passes 46 = .ok (.iconst 1, 1) := by decide +kernel
theorem d_D_passes_47 : decode b_D_passes 47 = .ok (.isub, 1) := by decide +kernel
theorem d_D_passes_48 : decode b_D_passes 48 = .ok (.if_icmp .ge 7, 3) := by decide +kernel
theorem d_D_passes_51 : decode b_D_passes 51 = .ok (.iconst 1, 1) := by decide +kernel
theorem d_D_passes_52 : decode b_D_passes 52 = .ok (.goto 4, 3) := by decide +kernel
theorem d_D_passes_55 : decode b_D_passes 55 = .ok (.iconst 0, 1) := by decide +kernel
theorem d_D_passes_56 : decode b_D_passes 56 = .ok (.ireturn, 1) := by decide +kernel
theorem d_D_member_0 : decode b_D_member 0 = .ok (.iload_n 1, 1) := by decide +kernel
theorem d_D_member_1 : decode b_D_member 1 = .ok (.iconst 1, 1) := by decide +kernel
theorem d_D_member_2 : decode b_D_member 2 = .ok (.aload_n 0, 1) := by decide +kernel
theorem d_D_member_3 : decode b_D_member 3 = .ok (.getfield 16, 3) := by decide +kernel
theorem d_D_member_6 : decode b_D_member 6 = .ok (.iconst 1, 1) := by decide +kernel
theorem d_D_member_7 : decode b_D_member 7 = .ok (.isub, 1) := by decide +kernel
theorem d_D_member_8 : decode b_D_member 8 = .ok (.invokestatic 53, 3) := by decide +kernel
theorem d_D_member_11 : decode b_D_member 11 = .ok (.ifCond .eq 24, 3) := by decide +kernel
theorem d_D_member_14 : decode b_D_member 14 = .ok (.iload_n 1, 1) := by decide +kernel
theorem d_D_member_15 : decode b_D_member 15 = .ok (.aload_n 0, 1) := by decide +kernel
theorem d_D_member_16 : decode b_D_member 16 = .ok (.getfield 20, 3) := by decide +kernel
theorem d_D_member_19 : decode b_D_member 19 = .ok (.i2l, 1) := by decide +kernel
theorem d_D_member_20 : decode b_D_member 20 = .ok (.aload_n 0, 1) := by decide +kernel
theorem d_D_member_21 : decode b_D_member 21 = .ok (.getfield 16, 3) := by decide +kernel
theorem d_D_member_24 : decode b_D_member 24 = .ok (.invokestatic 39, 3) := by decide +kernel
theorem d_D_member_27 : decode b_D_member 27 = .ok (.iconst 1, 1) := by decide +kernel
theorem d_D_member_28 : decode b_D_member 28 = .ok (.if_icmp .ne 7, 3) := by decide +kernel
theorem d_D_member_31 : decode b_D_member 31 = .ok (.iconst 1, 1) := by decide +kernel
theorem d_D_member_32 : decode b_D_member 32 = .ok (.goto 4, 3) := by decide +kernel
theorem d_D_member_35 : decode b_D_member 35 = .ok (.iconst 0, 1) := by decide +kernel
theorem d_D_member_36 : decode b_D_member 36 = .ok (.ireturn, 1) := by decide +kernel
theorem d_D_accepts_0 : decode b_D_accepts 0 = .ok (.aload_n 0, 1) := by decide +kernel
theorem d_D_accepts_1 : decode b_D_accepts 1 = .ok (.iload_n 1, 1) := by decide +kernel
theorem d_D_accepts_2 : decode b_D_accepts 2 = .ok (.invokevirtual 68, 3) := by decide +kernel
theorem d_D_accepts_5 : decode b_D_accepts 5 = .ok (.ifCond .eq 67, 3) := by decide +kernel
theorem d_D_accepts_8 : decode b_D_accepts 8 = .ok (.aload_n 0, 1) := by decide +kernel
theorem d_D_accepts_9 : decode b_D_accepts 9 = .ok (.iload_n 2, 1) := by decide +kernel
theorem d_D_accepts_10 : decode b_D_accepts 10 = .ok (.invokevirtual 68, 3) := by decide +kernel
theorem d_D_accepts_13 : decode b_D_accepts 13 = .ok (.ifCond .eq 59, 3) := by decide +kernel
theorem d_D_accepts_16 : decode b_D_accepts 16 = .ok (.aload_n 0, 1) := by decide +kernel
theorem d_D_accepts_17 : decode b_D_accepts 17 = .ok (.iload_n 3, 1) := by decide +kernel
theorem d_D_accepts_18 : decode b_D_accepts 18 = .ok (.invokevirtual 79, 3) := by decide +kernel
theorem d_D_accepts_21 : decode b_D_accepts 21 = .ok (.ifCond .eq 51, 3) := by decide +kernel
theorem d_D_accepts_24 : decode b_D_accepts 24 = .ok (.aload_n 0, 1) := by decide +kernel
theorem d_D_accepts_25 : decode b_D_accepts 25 = .ok (.iload 4, 2) := by decide +kernel
theorem d_D_accepts_27 : decode b_D_accepts 27 = .ok (.invokevirtual 79, 3) := by decide +kernel
theorem d_D_accepts_30 : decode b_D_accepts 30 = .ok (.ifCond .eq 42, 3) := by decide +kernel
theorem d_D_accepts_33 : decode b_D_accepts 33 = .ok (.aload_n 0, 1) := by decide +kernel
theorem d_D_accepts_34 : decode b_D_accepts 34 = .ok (.getfield 23, 3) := by decide +kernel
theorem d_D_accepts_37 : decode b_D_accepts 37 = .ok (.iload 4, 2) := by decide +kernel
theorem d_D_accepts_39 : decode b_D_accepts 39 = .ok (.i2l, 1) := by decide +kernel
theorem d_D_accepts_40 : decode b_D_accepts 40 = .ok (.aload_n 0, 1) := by decide +kernel
theorem d_D_accepts_41 : decode b_D_accepts 41 = .ok (.getfield 16, 3) := by decide +kernel
theorem d_D_accepts_44 : decode b_D_accepts 44 = .ok (.invokestatic 39, 3) := by decide +kernel
theorem d_D_accepts_47 : decode b_D_accepts 47 = .ok (.iload_n 2, 1) := by decide +kernel
theorem d_D_accepts_48 : decode b_D_accepts 48 = .ok (.iload_n 1, 1) := by decide +kernel
theorem d_D_accepts_49 : decode b_D_accepts 49 = .ok (.iload_n 3, 1) := by decide +kernel
theorem d_D_accepts_50 : decode b_D_accepts 50 = .ok (.i2l, 1) := by decide +kernel
theorem d_D_accepts_51 : decode b_D_accepts 51 = .ok (.aload_n 0, 1) := by decide +kernel
theorem d_D_accepts_52 : decode b_D_accepts 52 = .ok (.getfield 16, 3) := by decide +kernel
theorem d_D_accepts_55 : decode b_D_accepts 55 = .ok (.invokestatic 39, 3) := by decide +kernel
theorem d_D_accepts_58 : decode b_D_accepts 58 = .ok (.aload_n 0, 1) := by decide +kernel
theorem d_D_accepts_59 : decode b_D_accepts 59 = .ok (.getfield 16, 3) := by decide +kernel
theorem d_D_accepts_62 : decode b_D_accepts 62 = .ok (.invokestatic 29, 3) := by decide +kernel
theorem d_D_accepts_65 : decode b_D_accepts 65 = .ok (.if_icmp .ne 7, 3) := by decide +kernel
theorem d_D_accepts_68 : decode b_D_accepts 68 = .ok (.iconst 1, 1) := by decide +kernel
theorem d_D_accepts_69 : decode b_D_accepts 69 = .ok (.goto 4, 3) := by decide +kernel
theorem d_D_accepts_72 : decode b_D_accepts 72 = .ok (.iconst 0, 1) := by decide +kernel
theorem d_D_accepts_73 : decode b_D_accepts 73 = .ok (.ireturn, 1) := by decide +kernel
theorem d_D_exponent_0 : decode b_D_exponent 0 = .ok (.iload_n 1, 1) := by decide +kernel
theorem d_D_exponent_1 : decode b_D_exponent 1 = .ok (.iconst 0, 1) := by decide +kernel
theorem d_D_exponent_2 : decode b_D_exponent 2 = .ok (.aload_n 0, 1) := by decide +kernel
theorem d_D_exponent_3 : decode b_D_exponent 3 = .ok (.getfield 20, 3) := by decide +kernel
theorem d_D_exponent_6 : decode b_D_exponent 6 = .ok (.iconst 1, 1) := by decide +kernel
theorem d_D_exponent_7 : decode b_D_exponent 7 = .ok (.isub, 1) := by decide +kernel
theorem d_D_exponent_8 : decode b_D_exponent 8 = .ok (.invokestatic 53, 3) := by decide +kernel
theorem d_D_exponent_11 : decode b_D_exponent 11 = .ok (.ireturn, 1) := by decide +kernel
theorem d_D_product_0 : decode b_D_product 0 = .ok (.iload_n 1, 1) := by decide +kernel
theorem d_D_product_1 : decode b_D_product 1 = .ok (.iconst 0, 1) := by decide +kernel
theorem d_D_product_2 : decode b_D_product 2 = .ok (.aload_n 0, 1) := by decide +kernel
theorem d_D_product_3 : decode b_D_product 3 = .ok (.getfield 16, 3) := by decide +kernel
theorem d_D_product_6 : decode b_D_product 6 = .ok (.iconst 1, 1) := by decide +kernel
theorem d_D_product_7 : decode b_D_product 7 = .ok (.isub, 1) := by decide +kernel
theorem d_D_product_8 : decode b_D_product 8 = .ok (.invokestatic 53, 3) := by decide +kernel
theorem d_D_product_11 : decode b_D_product 11 = .ok (.ifCond .eq 21, 3) := by decide +kernel
theorem d_D_product_14 : decode b_D_product 14 = .ok (.iload_n 2, 1) := by decide +kernel
theorem d_D_product_15 : decode b_D_product 15 = .ok (.iconst 0, 1) := by decide +kernel
theorem d_D_product_16 : decode b_D_product 16 = .ok (.aload_n 0, 1) := by decide +kernel
theorem d_D_product_17 : decode b_D_product 17 = .ok (.getfield 16, 3) := by decide +kernel
theorem d_D_product_20 : decode b_D_product 20 = .ok (.iconst 1, 1) := by decide +kernel
theorem d_D_product_21 : decode b_D_product 21 = .ok (.isub, 1) := by decide +kernel
theorem d_D_product_22 : decode b_D_product 22 = .ok (.invokestatic 53, 3) := by decide +kernel
theorem d_D_product_25 : decode b_D_product 25 = .ok (.ifCond .eq 7, 3) := by decide +kernel
theorem d_D_product_28 : decode b_D_product 28 = .ok (.iconst 1, 1) := by decide +kernel
theorem d_D_product_29 : decode b_D_product 29 = .ok (.goto 4, 3) := by decide +kernel
theorem d_D_product_32 : decode b_D_product 32 = .ok (.iconst 0, 1) := by decide +kernel
theorem d_D_product_33 : decode b_D_product 33 = .ok (.invokestatic 60, 3) := by decide +kernel
theorem d_D_product_36 : decode b_D_product 36 = .ok (.iload_n 1, 1) := by decide +kernel
theorem d_D_product_37 : decode b_D_product 37 = .ok (.iload_n 2, 1) := by decide +kernel
theorem d_D_product_38 : decode b_D_product 38 = .ok (.aload_n 0, 1) := by decide +kernel
theorem d_D_product_39 : decode b_D_product 39 = .ok (.getfield 16, 3) := by decide +kernel
theorem d_D_product_42 : decode b_D_product 42 = .ok (.invokestatic 29, 3) := by decide +kernel
theorem d_D_product_45 : decode b_D_product 45 = .ok (.ireturn, 1) := by decide +kernel
theorem d_D_good_0 : decode b_D_good 0 = .ok (.iload_n 0, 1) := by decide +kernel
theorem d_D_good_1 : decode b_D_good 1 = .ok (.ifCond .ne 11, 3) := by decide +kernel
theorem d_D_good_4 : decode b_D_good 4 = .ok (.new 26, 3) := by decide +kernel
theorem d_D_good_7 : decode b_D_good 7 = .ok (.dup, 1) := by decide +kernel
theorem d_D_good_8 : decode b_D_good 8 = .ok (.invokespecial 28, 3) := by decide +kernel
theorem d_D_good_11 : decode b_D_good 11 = .ok (.athrow, 1) := by decide +kernel
theorem d_D_good_12 : decode b_D_good 12 = .ok (.return_, 1) := by decide +kernel
theorem d_D_powV_0 : decode b_D_powV 0 = .ok (.iload_n 1, 1) := by decide +kernel
theorem d_D_powV_1 : decode b_D_powV 1 = .ok (.iconst 0, 1) := by decide +kernel
theorem d_D_powV_2 : decode b_D_powV 2 = .ok (.aload_n 0, 1) := by decide +kernel
theorem d_D_powV_3 : decode b_D_powV 3 = .ok (.getfield 16, 3) := by decide +kernel
theorem d_D_powV_6 : decode b_D_powV 6 = .ok (.iconst 1, 1) := by decide +kernel
theorem d_D_powV_7 : decode b_D_powV 7 = .ok (.isub, 1) := by decide +kernel
theorem d_D_powV_8 : decode b_D_powV 8 = .ok (.invokestatic 53, 3) := by decide +kernel
theorem d_D_powV_11 : decode b_D_powV 11 = .ok (.ifCond .eq 13, 3) := by decide +kernel
theorem d_D_powV_14 : decode b_D_powV 14 = .ok (.lload_n 2, 1) := by decide +kernel
theorem d_D_powV_15 : decode b_D_powV 15 = .ok (.lconst 0, 1) := by decide +kernel
theorem d_D_powV_16 : decode b_D_powV 16 = .ok (.lcmp, 1) := by decide +kernel
theorem d_D_powV_17 : decode b_D_powV 17 = .ok (.ifCond .lt 7, 3) := by decide +kernel
theorem d_D_powV_20 : decode b_D_powV 20 = .ok (.iconst 1, 1) := by decide +kernel
theorem d_D_powV_21 : decode b_D_powV 21 = .ok (.goto 4, 3) := by decide +kernel
theorem d_D_powV_24 : decode b_D_powV 24 = .ok (.iconst 0, 1) := by decide +kernel
theorem d_D_powV_25 : decode b_D_powV 25 = .ok (.invokestatic 60, 3) := by decide +kernel
theorem d_D_powV_28 : decode b_D_powV 28 = .ok (.iload_n 1, 1) := by decide +kernel
theorem d_D_powV_29 : decode b_D_powV 29 = .ok (.lload_n 2, 1) := by decide +kernel
theorem d_D_powV_30 : decode b_D_powV 30 = .ok (.aload_n 0, 1) := by decide +kernel
theorem d_D_powV_31 : decode b_D_powV 31 = .ok (.getfield 16, 3) := by decide +kernel
theorem d_D_powV_34 : decode b_D_powV 34 = .ok (.invokestatic 39, 3) := by decide +kernel
theorem d_D_powV_37 : decode b_D_powV 37 = .ok (.ireturn, 1) := by decide +kernel
theorem d_D_invV_0 : decode b_D_invV 0 = .ok (.iload_n 1, 1) := by decide +kernel
theorem d_D_invV_1 : decode b_D_invV 1 = .ok (.iconst 1, 1) := by decide +kernel
theorem d_D_invV_2 : decode b_D_invV 2 = .ok (.aload_n 0, 1) := by decide +kernel
theorem d_D_invV_3 : decode b_D_invV 3 = .ok (.getfield 16, 3) := by decide +kernel
theorem d_D_invV_6 : decode b_D_invV 6 = .ok (.iconst 1, 1) := by decide +kernel
theorem d_D_invV_7 : decode b_D_invV 7 = .ok (.isub, 1) := by decide +kernel
theorem d_D_invV_8 : decode b_D_invV 8 = .ok (.invokestatic 53, 3) := by decide +kernel
theorem d_D_invV_11 : decode b_D_invV 11 = .ok (.invokestatic 60, 3) := by decide +kernel
theorem d_D_invV_14 : decode b_D_invV 14 = .ok (.iload_n 1, 1) := by decide +kernel
theorem d_D_invV_15 : decode b_D_invV 15 = .ok (.aload_n 0, 1) := by decide +kernel
theorem d_D_invV_16 : decode b_D_invV 16 = .ok (.getfield 16, 3) := by decide +kernel
theorem d_D_invV_19 : decode b_D_invV 19 = .ok (.invokestatic 64, 3) := by decide +kernel
theorem d_D_invV_22 : decode b_D_invV 22 = .ok (.ireturn, 1) := by decide +kernel
theorem d_D_invS_0 : decode b_D_invS 0 = .ok (.lconst 1, 1) := by decide +kernel
theorem d_D_invS_1 : decode b_D_invS 1 = .ok (.lstore_n 2, 1) := by decide +kernel
theorem d_D_invS_2 : decode b_D_invS 2 = .ok (.lconst 0, 1) := by decide +kernel
theorem d_D_invS_3 : decode b_D_invS 3 = .ok (.lstore 4, 2) := by decide +kernel
theorem d_D_invS_5 : decode b_D_invS 5 = .ok (.iload_n 0, 1) := by decide +kernel
theorem d_D_invS_6 : decode b_D_invS 6 = .ok (.istore 6, 2) := by decide +kernel
theorem d_D_invS_8 : decode b_D_invS 8 = .ok (.iload_n 1, 1) := by decide +kernel
theorem d_D_invS_9 : decode b_D_invS 9 = .ok (.istore 7, 2) := by decide +kernel
theorem d_D_invS_11 : decode b_D_invS 11 = .ok (.iload 7, 2) := by decide +kernel
theorem d_D_invS_13 : decode b_D_invS 13 = .ok (.ifCond .eq 45, 3) := by decide +kernel
theorem d_D_invS_16 : decode b_D_invS 16 = .ok (.iload 6, 2) := by decide +kernel
theorem d_D_invS_18 : decode b_D_invS 18 = .ok (.iload 7, 2) := by decide +kernel
theorem d_D_invS_20 : decode b_D_invS 20 = .ok (.idiv, 1) := by decide +kernel
theorem d_D_invS_21 : decode b_D_invS 21 = .ok (.istore 8, 2) := by decide +kernel
theorem d_D_invS_23 : decode b_D_invS 23 = .ok (.iload 6, 2) := by decide +kernel
theorem d_D_invS_25 : decode b_D_invS 25 = .ok (.iload 7, 2) := by decide +kernel
theorem d_D_invS_27 : decode b_D_invS 27 = .ok (.irem, 1) := by decide +kernel
theorem d_D_invS_28 : decode b_D_invS 28 = .ok (.istore 9, 2) := by decide +kernel
theorem d_D_invS_30 : decode b_D_invS 30 = .ok (.lload_n 2, 1) := by decide +kernel
theorem d_D_invS_31 : decode b_D_invS 31 = .ok (.iload 8, 2) := by decide +kernel
theorem d_D_invS_33 : decode b_D_invS 33 = .ok (.i2l, 1) := by decide +kernel
theorem d_D_invS_34 : decode b_D_invS 34 = .ok (.lload 4, 2) := by decide +kernel
theorem d_D_invS_36 : decode b_D_invS 36 = .ok (.lmul, 1) := by decide +kernel
theorem d_D_invS_37 : decode b_D_invS 37 = .ok (.lsub, 1) := by decide +kernel
theorem d_D_invS_38 : decode b_D_invS 38 = .ok (.lstore 10, 2) := by decide +kernel
theorem d_D_invS_40 : decode b_D_invS 40 = .ok (.lload 4, 2) := by decide +kernel
theorem d_D_invS_42 : decode b_D_invS 42 = .ok (.lstore_n 2, 1) := by decide +kernel
theorem d_D_invS_43 : decode b_D_invS 43 = .ok (.lload 10, 2) := by decide +kernel
theorem d_D_invS_45 : decode b_D_invS 45 = .ok (.lstore 4, 2) := by decide +kernel
theorem d_D_invS_47 : decode b_D_invS 47 = .ok (.iload 7, 2) := by decide +kernel
theorem d_D_invS_49 : decode b_D_invS 49 = .ok (.istore 6, 2) := by decide +kernel
theorem d_D_invS_51 : decode b_D_invS 51 = .ok (.iload 9, 2) := by decide +kernel
theorem d_D_invS_53 : decode b_D_invS 53 = .ok (.istore 7, 2) := by decide +kernel
theorem d_D_invS_55 : decode b_D_invS 55 = .ok (.goto (-44), 3) := by decide +kernel
theorem d_D_invS_58 : decode b_D_invS 58 = .ok (.lload_n 2, 1) := by decide +kernel
theorem d_D_invS_59 : decode b_D_invS 59 = .ok (.iload_n 1, 1) := by decide +kernel
theorem d_D_invS_60 : decode b_D_invS 60 = .ok (.i2l, 1) := by decide +kernel
theorem d_D_invS_61 : decode b_D_invS 61 = .ok (.invokestatic 47, 3) := by decide +kernel
theorem d_D_invS_64 : decode b_D_invS 64 = .ok (.l2i, 1) := by decide +kernel
theorem d_D_invS_65 : decode b_D_invS 65 = .ok (.ireturn, 1) := by decide +kernel
theorem d_J_fmL_0 : decode b_J_fmL 0 = .ok (.lload_n 0, 1) := by decide +kernel
theorem d_J_fmL_1 : decode b_J_fmL 1 = .ok (.lload_n 2, 1) := by decide +kernel
theorem d_J_fmL_2 : decode b_J_fmL 2 = .ok (.lrem, 1) := by decide +kernel
theorem d_J_fmL_3 : decode b_J_fmL 3 = .ok (.lstore 4, 2) := by decide +kernel
theorem d_J_fmL_5 : decode b_J_fmL 5 = .ok (.lload_n 0, 1) := by decide +kernel
theorem d_J_fmL_6 : decode b_J_fmL 6 = .ok (.lload_n 2, 1) := by decide +kernel
theorem d_J_fmL_7 : decode b_J_fmL 7 = .ok (.lxor, 1) := by decide +kernel
theorem d_J_fmL_8 : decode b_J_fmL 8 = .ok (.lconst 0, 1) := by decide +kernel
theorem d_J_fmL_9 : decode b_J_fmL 9 = .ok (.lcmp, 1) := by decide +kernel
theorem d_J_fmL_10 : decode b_J_fmL 10 = .ok (.ifCond .ge 15, 3) := by decide +kernel
theorem d_J_fmL_13 : decode b_J_fmL 13 = .ok (.lload 4, 2) := by decide +kernel
theorem d_J_fmL_15 : decode b_J_fmL 15 = .ok (.lconst 0, 1) := by decide +kernel
theorem d_J_fmL_16 : decode b_J_fmL 16 = .ok (.lcmp, 1) := by decide +kernel
theorem d_J_fmL_17 : decode b_J_fmL 17 = .ok (.ifCond .eq 8, 3) := by decide +kernel
theorem d_J_fmL_20 : decode b_J_fmL 20 = .ok (.lload 4, 2) := by decide +kernel
theorem d_J_fmL_22 : decode b_J_fmL 22 = .ok (.lload_n 2, 1) := by decide +kernel
theorem d_J_fmL_23 : decode b_J_fmL 23 = .ok (.ladd, 1) := by decide +kernel
theorem d_J_fmL_24 : decode b_J_fmL 24 = .ok (.lreturn, 1) := by decide +kernel
theorem d_J_fmL_25 : decode b_J_fmL 25 = .ok (.lload 4, 2) := by decide +kernel
theorem d_J_fmL_27 : decode b_J_fmL 27 = .ok (.lreturn, 1) := by decide +kernel
theorem d_D_log_0 : decode b_D_log 0 = .ok (.aload_n 0, 1) := by decide +kernel
theorem d_D_log_1 : decode b_D_log 1 = .ok (.iload_n 1, 1) := by decide +kernel
theorem d_D_log_2 : decode b_D_log 2 = .ok (.invokevirtual 68, 3) := by decide +kernel
theorem d_D_log_5 : decode b_D_log 5 = .ok (.invokestatic 60, 3) := by decide +kernel
theorem d_D_log_8 : decode b_D_log 8 = .ok (.aload_n 0, 1) := by decide +kernel
theorem d_D_log_9 : decode b_D_log 9 = .ok (.getfield 16, 3) := by decide +kernel
theorem d_D_log_12 : decode b_D_log 12 = .ok (.sipush 20000, 3) := by decide +kernel
theorem d_D_log_15 : decode b_D_log 15 = .ok (.if_icmp .le 11, 3) := by decide +kernel
theorem d_D_log_18 : decode b_D_log 18 = .ok (.new 71, 3) := by decide +kernel
theorem d_D_log_21 : decode b_D_log 21 = .ok (.dup, 1) := by decide +kernel
theorem d_D_log_22 : decode b_D_log 22 = .ok (.invokespecial 73, 3) := by decide +kernel
theorem d_D_log_25 : decode b_D_log 25 = .ok (.athrow, 1) := by decide +kernel
theorem d_D_log_26 : decode b_D_log 26 = .ok (.iconst 1, 1) := by decide +kernel
theorem d_D_log_27 : decode b_D_log 27 = .ok (.istore_n 2, 1) := by decide +kernel
theorem d_D_log_28 : decode b_D_log 28 = .ok (.iload_n 2, 1) := by decide +kernel
theorem d_D_log_29 : decode b_D_log 29 = .ok (.iload_n 2, 1) := by decide +kernel
theorem d_D_log_30 : decode b_D_log 30 = .ok (.imul, 1) := by decide +kernel
theorem d_D_log_31 : decode b_D_log 31 = .ok (.aload_n 0, 1) := by decide +kernel
theorem d_D_log_32 : decode b_D_log 32 = .ok (.getfield 20, 3) := by decide +kernel
theorem d_D_log_35 : decode b_D_log 35 = .ok (.if_icmp .ge 9, 3) := by decide +kernel
theorem d_D_log_38 : decode b_D_log 38 = .ok (.iinc 2 1, 3) := by decide +kernel
theorem d_D_log_41 : decode b_D_log 41 = .ok (.goto (-13), 3) := by decide +kernel
theorem d_D_log_44 : decode b_D_log 44 = .ok (.iconst 0, 1) := by decide +kernel
theorem d_D_log_45 : decode b_D_log 45 = .ok (.istore_n 3, 1) := by decide +kernel
theorem d_D_log_46 : decode b_D_log 46 = .ok (.iload_n 1, 1) := by decide +kernel
theorem d_D_log_47 : decode b_D_log 47 = .ok (.istore 4, 2) := by decide +kernel
theorem d_D_log_49 : decode b_D_log 49 = .ok (.iconst 0, 1) := by decide +kernel
theorem d_D_log_50 : decode b_D_log 50 = .ok (.istore 5, 2) := by decide +kernel
theorem d_D_log_52 : decode b_D_log 52 = .ok (.iload 5, 2) := by decide +kernel
theorem d_D_log_54 : decode b_D_log 54 = .ok (.iload_n 2, 1) := by decide +kernel
theorem d_D_log_55 : decode b_D_log 55 = .ok (.if_icmp .ge 105, 3) := by decide +kernel
theorem d_D_log_58 : decode b_D_log 58 = .ok (.iload_n 3, 1) := by decide +kernel
theorem d_D_log_59 : decode b_D_log 59 = .ok (.iinc 3 1, 3) := by decide +kernel
theorem d_D_log_62 : decode b_D_log 62 = .ok (.istore 6, 2) := by decide +kernel
theorem d_D_log_64 : decode b_D_log 64 = .ok (.iload 6, 2) := by decide +kernel
theorem d_D_log_66 : decode b_D_log 66 = .ok (.ifCond .le 55, 3) := by decide +kernel
theorem d_D_log_69 : decode b_D_log 69 = .ok (.aload_n 0, 1) := by decide +kernel
theorem d_D_log_70 : decode b_D_log 70 = .ok (.getfield 9, 3) := by decide +kernel
theorem d_D_log_73 : decode b_D_log 73 = .ok (.iload 6, 2) := by decide +kernel
theorem d_D_log_75 : decode b_D_log 75 = .ok (.iconst 1, 1) := by decide +kernel
theorem d_D_log_76 : decode b_D_log 76 = .ok (.isub, 1) := by decide +kernel
theorem d_D_log_77 : decode b_D_log 77 = .ok (.iaload, 1) := by decide +kernel
theorem d_D_log_78 : decode b_D_log 78 = .ok (.iload 4, 2) := by decide +kernel
theorem d_D_log_80 : decode b_D_log 80 = .ok (.if_icmp .le 41, 3) := by decide +kernel
theorem d_D_log_83 : decode b_D_log 83 = .ok (.aload_n 0, 1) := by decide +kernel
theorem d_D_log_84 : decode b_D_log 84 = .ok (.getfield 9, 3) := by decide +kernel
theorem d_D_log_87 : decode b_D_log 87 = .ok (.iload 6, 2) := by decide +kernel
theorem d_D_log_89 : decode b_D_log 89 = .ok (.aload_n 0, 1) := by decide +kernel
theorem d_D_log_90 : decode b_D_log 90 = .ok (.getfield 9, 3) := by decide +kernel
theorem d_D_log_93 : decode b_D_log 93 = .ok (.iload 6, 2) := by decide +kernel
theorem d_D_log_95 : decode b_D_log 95 = .ok (.iconst 1, 1) := by decide +kernel
theorem d_D_log_96 : decode b_D_log 96 = .ok (.isub, 1) := by decide +kernel
theorem d_D_log_97 : decode b_D_log 97 = .ok (.iaload, 1) := by decide +kernel
theorem d_D_log_98 : decode b_D_log 98 = .ok (.iastore, 1) := by decide +kernel
theorem d_D_log_99 : decode b_D_log 99 = .ok (.aload_n 0, 1) := by decide +kernel
theorem d_D_log_100 : decode b_D_log 100 = .ok (.getfield 13, 3) := by decide +kernel
theorem d_D_log_103 : decode b_D_log 103 = .ok (.iload 6, 2) := by decide +kernel
theorem d_D_log_105 : decode b_D_log 105 = .ok (.aload_n 0, 1) := by decide +kernel
theorem d_D_log_106 : decode b_D_log 106 = .ok (.getfield 13, 3) := by decide +kernel
theorem d_D_log_109 : decode b_D_log 109 = .ok (.iload 6, 2) := by decide +kernel
theorem d_D_log_111 : decode b_D_log 111 = .ok (.iconst 1, 1) := by decide +kernel
theorem d_D_log_112 : decode b_D_log 112 = .ok (.isub, 1) := by decide +kernel
theorem d_D_log_113 : decode b_D_log 113 = .ok (.iaload, 1) := by decide +kernel
theorem d_D_log_114 : decode b_D_log 114 = .ok (.iastore, 1) := by decide +kernel
theorem d_D_log_115 : decode b_D_log 115 = .ok (.iinc 6 (-1), 3) := by decide +kernel
theorem d_D_log_118 : decode b_D_log 118 = .ok (.goto (-54), 3) := by decide +kernel
theorem d_D_log_121 : decode b_D_log 121 = .ok (.aload_n 0, 1) := by decide +kernel
theorem d_D_log_122 : decode b_D_log 122 = .ok (.getfield 9, 3) := by decide +kernel
theorem d_D_log_125 : decode b_D_log 125 = .ok (.iload 6, 2) := by decide +kernel
theorem d_D_log_127 : decode b_D_log 127 = .ok (.iload 4, 2) := by decide +kernel
theorem d_D_log_129 : decode b_D_log 129 = .ok (.iastore, 1) := by decide +kernel
theorem d_D_log_130 : decode b_D_log 130 = .ok (.aload_n 0, 1) := by decide +kernel
theorem d_D_log_131 : decode b_D_log 131 = .ok (.getfield 13, 3) := by decide +kernel
theorem d_D_log_134 : decode b_D_log 134 = .ok (.iload 6, 2) := by decide +kernel
theorem d_D_log_136 : decode b_D_log 136 = .ok (.iload 5, 2) := by decide +kernel
theorem d_D_log_138 : decode b_D_log 138 = .ok (.iastore, 1) := by decide +kernel
theorem d_D_log_139 : decode b_D_log 139 = .ok (.iload 4, 2) := by decide +kernel
theorem d_D_log_141 : decode b_D_log 141 = .ok (.aload_n 0, 1) := by decide +kernel
theorem d_D_log_142 : decode b_D_log 142 = .ok (.getfield 23, 3) := by decide +kernel
theorem d_D_log_145 : decode b_D_log 145 = .ok (.aload_n 0, 1) := by decide +kernel
theorem d_D_log_146 : decode b_D_log 146 = .ok (.getfield 16, 3) := by decide +kernel
theorem d_D_log_149 : decode b_D_log 149 = .ok (.invokestatic 29, 3) := by decide +kernel
theorem d_D_log_152 : decode b_D_log 152 = .ok (.istore 4, 2) := by decide +kernel
theorem d_D_log_154 : decode b_D_log 154 = .ok (.iinc 5 1, 3) := by decide +kernel
theorem d_D_log_157 : decode b_D_log 157 = .ok (.goto (-105), 3) := by decide +kernel
theorem d_D_log_160 : decode b_D_log 160 = .ok (.aload_n 0, 1) := by decide +kernel
theorem d_D_log_161 : decode b_D_log 161 = .ok (.getfield 23, 3) := by decide +kernel
theorem d_D_log_164 : decode b_D_log 164 = .ok (.iload_n 2, 1) := by decide +kernel
theorem d_D_log_165 : decode b_D_log 165 = .ok (.i2l, 1) := by decide +kernel
theorem d_D_log_166 : decode b_D_log 166 = .ok (.aload_n 0, 1) := by decide +kernel
theorem d_D_log_167 : decode b_D_log 167 = .ok (.getfield 16, 3) := by decide +kernel
theorem d_D_log_170 : decode b_D_log 170 = .ok (.invokestatic 39, 3) := by decide +kernel
theorem d_D_log_173 : decode b_D_log 173 = .ok (.istore 5, 2) := by decide +kernel
theorem d_D_log_175 : decode b_D_log 175 = .ok (.iconst 1, 1) := by decide +kernel
theorem d_D_log_176 : decode b_D_log 176 = .ok (.istore 6, 2) := by decide +kernel
theorem d_D_log_178 : decode b_D_log 178 = .ok (.iconst 0, 1) := by decide +kernel
theorem d_D_log_179 : decode b_D_log 179 = .ok (.istore 7, 2) := by decide +kernel
theorem d_D_log_181 : decode b_D_log 181 = .ok (.iload 7, 2) := by decide +kernel
theorem d_D_log_183 : decode b_D_log 183 = .ok (.aload_n 0, 1) := by decide +kernel
theorem d_D_log_184 : decode b_D_log 184 = .ok (.getfield 20, 3) := by decide +kernel
theorem d_D_log_187 : decode b_D_log 187 = .ok (.iload_n 2, 1) := by decide +kernel
theorem d_D_log_188 : decode b_D_log 188 = .ok (.idiv, 1) := by decide +kernel
theorem d_D_log_189 : decode b_D_log 189 = .ok (.iconst 1, 1) := by decide +kernel
theorem d_D_log_190 : decode b_D_log 190 = .ok (.iadd, 1) := by decide +kernel
theorem d_D_log_191 : decode b_D_log 191 = .ok (.if_icmp .gt 57, 3) := by decide +kernel
theorem d_D_log_194 : decode b_D_log 194 = .ok (.aload_n 0, 1) := by decide +kernel
theorem d_D_log_195 : decode b_D_log 195 = .ok (.iload_n 3, 1) := by decide +kernel
theorem d_D_log_196 : decode b_D_log 196 = .ok (.iload 6, 2) := by decide +kernel
theorem d_D_log_198 : decode b_D_log 198 = .ok (.invokevirtual 74, 3) := by decide +kernel
theorem d_D_log_201 : decode b_D_log 201 = .ok (.istore 8, 2) := by decide +kernel
theorem d_D_log_203 : decode b_D_log 203 = .ok (.iload 8, 2) := by decide +kernel
theorem d_D_log_205 : decode b_D_log 205 = .ok (.iconst (-1), 1) := by decide +kernel
theorem d_D_log_206 : decode b_D_log 206 = .ok (.if_icmp .eq 23, 3) := by decide +kernel
theorem d_D_log_209 : decode b_D_log 209 = .ok (.iload 7, 2) := by decide +kernel
theorem d_D_log_211 : decode b_D_log 211 = .ok (.iload_n 2, 1) := by decide +kernel
theorem d_D_log_212 : decode b_D_log 212 = .ok (.imul, 1) := by decide +kernel
theorem d_D_log_213 : decode b_D_log 213 = .ok (.aload_n 0, 1) := by decide +kernel
theorem d_D_log_214 : decode b_D_log 214 = .ok (.getfield 13, 3) := by decide +kernel
theorem d_D_log_217 : decode b_D_log 217 = .ok (.iload 8, 2) := by decide +kernel
theorem d_D_log_219 : decode b_D_log 219 = .ok (.iaload, 1) := by decide +kernel
theorem d_D_log_220 : decode b_D_log 220 = .ok (.isub, 1) := by decide +kernel
theorem d_D_log_221 : decode b_D_log 221 = .ok (.aload_n 0, 1) := by decide +kernel
theorem d_D_log_222 : decode b_D_log 222 = .ok (.getfield 20, 3) := by decide +kernel
theorem d_D_log_225 : decode b_D_log 225 = .ok (.invokestatic 77, 3) := by decide +kernel
theorem d_D_log_228 : decode b_D_log 228 = .ok (.ireturn, 1) := by decide +kernel
theorem d_D_log_229 : decode b_D_log 229 = .ok (.iload 6, 2) := by decide +kernel
theorem d_D_log_231 : decode b_D_log 231 = .ok (.iload 5, 2) := by decide +kernel
theorem d_D_log_233 : decode b_D_log 233 = .ok (.aload_n 0, 1) := by decide +kernel
theorem d_D_log_234 : decode b_D_log 234 = .ok (.getfield 16, 3) := by decide +kernel
theorem d_D_log_237 : decode b_D_log 237 = .ok (.invokestatic 29, 3) := by decide +kernel
theorem d_D_log_240 : decode b_D_log 240 = .ok (.istore 6, 2) := by decide +kernel
theorem d_D_log_242 : decode b_D_log 242 = .ok (.iinc 7 1, 3) := by decide +kernel
theorem d_D_log_245 : decode b_D_log 245 = .ok (.goto (-64), 3) := by decide +kernel
theorem d_D_log_248 : decode b_D_log 248 = .ok (.iconst (-1), 1) := by decide +kernel
theorem d_D_log_249 : decode b_D_log 249 = .ok (.ireturn, 1) := by decide +kernel
theorem d_D_find_0 : decode b_D_find 0 = .ok (.iconst 0, 1) := by decide +kernel
theorem d_D_find_1 : decode b_D_find 1 = .ok (.istore_n 3, 1) := by decide +kernel
theorem d_D_find_2 : decode b_D_find 2 = .ok (.iload_n 1, 1) := by decide +kernel
theorem d_D_find_3 : decode b_D_find 3 = .ok (.istore 4, 2) := by decide +kernel
theorem d_D_find_5 : decode b_D_find 5 = .ok (.iload_n 3, 1) := by decide +kernel
theorem d_D_find_6 : decode b_D_find 6 = .ok (.iload 4, 2) := by decide +kernel
theorem d_D_find_8 : decode b_D_find 8 = .ok (.if_icmp .ge 37, 3) := by decide +kernel
theorem d_D_find_11 : decode b_D_find 11 = .ok (.iload_n 3, 1) := by decide +kernel
theorem d_D_find_12 : decode b_D_find 12 = .ok (.iload 4, 2) := by decide +kernel
theorem d_D_find_14 : decode b_D_find 14 = .ok (.iadd, 1) := by decide +kernel
theorem d_D_find_15 : decode b_D_find 15 = .ok (.iconst 1, 1) := by decide +kernel
theorem d_D_find_16 : decode b_D_find 16 = .ok (.ishr, 1) := by decide +kernel
theorem d_D_find_17 : decode b_D_find 17 = .ok (.istore 5, 2) := by decide +kernel
theorem d_D_find_19 : decode b_D_find 19 = .ok (.aload_n 0, 1) := by decide +kernel
theorem d_D_find_20 : decode b_D_find 20 = .ok (.getfield 9, 3) := by decide +kernel
theorem d_D_find_23 : decode b_D_find 23 = .ok (.iload 5, 2) := by decide +kernel
theorem d_D_find_25 : decode b_D_find 25 = .ok (.iaload, 1) := by decide +kernel
theorem d_D_find_26 : decode b_D_find 26 = .ok (.iload_n 2, 1) := by decide +kernel
theorem d_D_find_27 : decode b_D_find 27 = .ok (.if_icmp .ge 11, 3) := by decide +kernel
theorem d_D_find_30 : decode b_D_find 30 = .ok (.iload 5, 2) := by decide +kernel
theorem d_D_find_32 : decode b_D_find 32 = .ok (.iconst 1, 1) := by decide +kernel
theorem d_D_find_33 : decode b_D_find 33 = .ok (.iadd, 1) := by decide +kernel
theorem d_D_find_34 : decode b_D_find 34 = .ok (.istore_n 3, 1) := by decide +kernel
theorem d_D_find_35 : decode b_D_find 35 = .ok (.goto 7, 3) := by decide +kernel
theorem d_D_find_38 : decode b_D_find 38 = .ok (.iload 5, 2) := by decide +kernel
theorem d_D_find_40 : decode b_D_find 40 = .ok (.istore 4, 2) := by decide +kernel
theorem d_D_find_42 : decode b_D_find 42 = .ok (.goto (-37), 3) := by decide +kernel
theorem d_D_find_45 : decode b_D_find 45 = .ok (.iload_n 3, 1) := by decide +kernel
theorem d_D_find_46 : decode b_D_find 46 = .ok (.iload_n 1, 1) := by decide +kernel
theorem d_D_find_47 : decode b_D_find 47 = .ok (.if_icmp .ge 17, 3) := by decide +kernel
theorem d_D_find_50 : decode b_D_find 50 = .ok (.aload_n 0, 1) := by decide +kernel
theorem d_D_find_51 : decode b_D_find 51 = .ok (.getfield 9, 3) := by decide +kernel
theorem d_D_find_54 : decode b_D_find 54 = .ok (.iload_n 3, 1) := by decide +kernel
theorem d_D_find_55 : decode b_D_find 55 = .ok (.iaload, 1) := by decide +kernel
theorem d_D_find_56 : decode b_D_find 56 = .ok (.iload_n 2, 1) := by decide +kernel
theorem d_D_find_57 : decode b_D_find 57 = .ok (.if_icmp .ne 7, 3) := by decide +kernel
theorem d_D_find_60 : decode b_D_find 60 = .ok (.iload_n 3, 1) := by decide +kernel
theorem d_D_find_61 : decode b_D_find 61 = .ok (.goto 4, 3) := by decide +kernel
theorem d_D_find_64 : decode b_D_find 64 = .ok (.iconst (-1), 1) := by decide +kernel
theorem d_D_find_65 : decode b_D_find 65 = .ok (.ireturn, 1) := by decide +kernel
theorem d_J_fmI_0 : decode b_J_fmI 0 = .ok (.iload_n 0, 1) := by decide +kernel
theorem d_J_fmI_1 : decode b_J_fmI 1 = .ok (.iload_n 1, 1) := by decide +kernel
theorem d_J_fmI_2 : decode b_J_fmI 2 = .ok (.irem, 1) := by decide +kernel
theorem d_J_fmI_3 : decode b_J_fmI 3 = .ok (.istore_n 2, 1) := by decide +kernel
theorem d_J_fmI_4 : decode b_J_fmI 4 = .ok (.iload_n 0, 1) := by decide +kernel
theorem d_J_fmI_5 : decode b_J_fmI 5 = .ok (.iload_n 1, 1) := by decide +kernel
theorem d_J_fmI_6 : decode b_J_fmI 6 = .ok (.ixor, 1) := by decide +kernel
theorem d_J_fmI_7 : decode b_J_fmI 7 = .ok (.ifCond .ge 11, 3) := by decide +kernel
theorem d_J_fmI_10 : decode b_J_fmI 10 = .ok (.iload_n 2, 1) := by decide +kernel
theorem d_J_fmI_11 : decode b_J_fmI 11 = .ok (.ifCond .eq 7, 3) := by decide +kernel
theorem d_J_fmI_14 : decode b_J_fmI 14 = .ok (.iload_n 2, 1) := by decide +kernel
theorem d_J_fmI_15 : decode b_J_fmI 15 = .ok (.iload_n 1, 1) := by decide +kernel
theorem d_J_fmI_16 : decode b_J_fmI 16 = .ok (.iadd, 1) := by decide +kernel
theorem d_J_fmI_17 : decode b_J_fmI 17 = .ok (.ireturn, 1) := by decide +kernel
theorem d_J_fmI_18 : decode b_J_fmI 18 = .ok (.iload_n 2, 1) := by decide +kernel
theorem d_J_fmI_19 : decode b_J_fmI 19 = .ok (.ireturn, 1) := by decide +kernel
theorem d_D_answer_0 : decode b_D_answer 0 = .ok (.aload_n 0, 1) := by decide +kernel
theorem d_D_answer_1 : decode b_D_answer 1 = .ok (.iload_n 1, 1) := by decide +kernel
theorem d_D_answer_2 : decode b_D_answer 2 = .ok (.invokevirtual 79, 3) := by decide +kernel
theorem d_D_answer_5 : decode b_D_answer 5 = .ok (.ifCond .eq 23, 3) := by decide +kernel
theorem d_D_answer_8 : decode b_D_answer 8 = .ok (.aload_n 0, 1) := by decide +kernel
theorem d_D_answer_9 : decode b_D_answer 9 = .ok (.iload_n 2, 1) := by decide +kernel
theorem d_D_answer_10 : decode b_D_answer 10 = .ok (.invokevirtual 79, 3) := by decide +kernel
theorem d_D_answer_13 : decode b_D_answer 13 = .ok (.ifCond .eq 15, 3) := by decide +kernel
theorem d_D_answer_16 : decode b_D_answer 16 = .ok (.aload_n 0, 1) := by decide +kernel
theorem d_D_answer_17 : decode b_D_answer 17 = .ok (.iload_n 3, 1) := by decide +kernel
theorem d_D_answer_18 : decode b_D_answer 18 = .ok (.invokevirtual 79, 3) := by decide +kernel
theorem d_D_answer_21 : decode b_D_answer 21 = .ok (.ifCond .eq 7, 3) := by decide +kernel
theorem d_D_answer_24 : decode b_D_answer 24 = .ok (.iconst 1, 1) := by decide +kernel
theorem d_D_answer_25 : decode b_D_answer 25 = .ok (.goto 4, 3) := by decide +kernel
theorem d_D_answer_28 : decode b_D_answer 28 = .ok (.iconst 0, 1) := by decide +kernel
theorem d_D_answer_29 : decode b_D_answer 29 = .ok (.invokestatic 60, 3) := by decide +kernel
theorem d_D_answer_32 : decode b_D_answer 32 = .ok (.iload_n 2, 1) := by decide +kernel
theorem d_D_answer_33 : decode b_D_answer 33 = .ok (.i2l, 1) := by decide +kernel
theorem d_D_answer_34 : decode b_D_answer 34 = .ok (.iload_n 3, 1) := by decide +kernel
theorem d_D_answer_35 : decode b_D_answer 35 = .ok (.i2l, 1) := by decide +kernel
theorem d_D_answer_36 : decode b_D_answer 36 = .ok (.iload_n 1, 1) := by decide +kernel
theorem d_D_answer_37 : decode b_D_answer 37 = .ok (.i2l, 1) := by decide +kernel
theorem d_D_answer_38 : decode b_D_answer 38 = .ok (.lmul, 1) := by decide +kernel
theorem d_D_answer_39 : decode b_D_answer 39 = .ok (.ladd, 1) := by decide +kernel
theorem d_D_answer_40 : decode b_D_answer 40 = .ok (.aload_n 0, 1) := by decide +kernel
theorem d_D_answer_41 : decode b_D_answer 41 = .ok (.getfield 20, 3) := by decide +kernel
theorem d_D_answer_44 : decode b_D_answer 44 = .ok (.i2l, 1) := by decide +kernel
theorem d_D_answer_45 : decode b_D_answer 45 = .ok (.lrem, 1) := by decide +kernel
theorem d_D_answer_46 : decode b_D_answer 46 = .ok (.l2i, 1) := by decide +kernel
theorem d_D_answer_47 : decode b_D_answer 47 = .ok (.ireturn, 1) := by decide +kernel
theorem d_D_feign_0 : decode b_D_feign 0 = .ok (.aload_n 0, 1) := by decide +kernel
theorem d_D_feign_1 : decode b_D_feign 1 = .ok (.iload_n 1, 1) := by decide +kernel
theorem d_D_feign_2 : decode b_D_feign 2 = .ok (.invokevirtual 68, 3) := by decide +kernel
theorem d_D_feign_5 : decode b_D_feign 5 = .ok (.ifCond .eq 23, 3) := by decide +kernel
theorem d_D_feign_8 : decode b_D_feign 8 = .ok (.aload_n 0, 1) := by decide +kernel
theorem d_D_feign_9 : decode b_D_feign 9 = .ok (.iload_n 2, 1) := by decide +kernel
theorem d_D_feign_10 : decode b_D_feign 10 = .ok (.invokevirtual 79, 3) := by decide +kernel
theorem d_D_feign_13 : decode b_D_feign 13 = .ok (.ifCond .eq 15, 3) := by decide +kernel
theorem d_D_feign_16 : decode b_D_feign 16 = .ok (.aload_n 0, 1) := by decide +kernel
theorem d_D_feign_17 : decode b_D_feign 17 = .ok (.iload_n 3, 1) := by decide +kernel
theorem d_D_feign_18 : decode b_D_feign 18 = .ok (.invokevirtual 79, 3) := by decide +kernel
theorem d_D_feign_21 : decode b_D_feign 21 = .ok (.ifCond .eq 7, 3) := by decide +kernel
theorem d_D_feign_24 : decode b_D_feign 24 = .ok (.iconst 1, 1) := by decide +kernel
theorem d_D_feign_25 : decode b_D_feign 25 = .ok (.goto 4, 3) := by decide +kernel
theorem d_D_feign_28 : decode b_D_feign 28 = .ok (.iconst 0, 1) := by decide +kernel
theorem d_D_feign_29 : decode b_D_feign 29 = .ok (.invokestatic 60, 3) := by decide +kernel
theorem d_D_feign_32 : decode b_D_feign 32 = .ok (.aload_n 0, 1) := by decide +kernel
theorem d_D_feign_33 : decode b_D_feign 33 = .ok (.getfield 23, 3) := by decide +kernel
theorem d_D_feign_36 : decode b_D_feign 36 = .ok (.iload_n 3, 1) := by decide +kernel
theorem d_D_feign_37 : decode b_D_feign 37 = .ok (.i2l, 1) := by decide +kernel
theorem d_D_feign_38 : decode b_D_feign 38 = .ok (.aload_n 0, 1) := by decide +kernel
theorem d_D_feign_39 : decode b_D_feign 39 = .ok (.getfield 16, 3) := by decide +kernel
theorem d_D_feign_42 : decode b_D_feign 42 = .ok (.invokestatic 39, 3) := by decide +kernel
theorem d_D_feign_45 : decode b_D_feign 45 = .ok (.iload_n 1, 1) := by decide +kernel
theorem d_D_feign_46 : decode b_D_feign 46 = .ok (.aload_n 0, 1) := by decide +kernel
theorem d_D_feign_47 : decode b_D_feign 47 = .ok (.getfield 20, 3) := by decide +kernel
theorem d_D_feign_50 : decode b_D_feign 50 = .ok (.iload_n 2, 1) := by decide +kernel
theorem d_D_feign_51 : decode b_D_feign 51 = .ok (.isub, 1) := by decide +kernel
theorem d_D_feign_52 : decode b_D_feign 52 = .ok (.i2l, 1) := by decide +kernel
theorem d_D_feign_53 : decode b_D_feign 53 = .ok (.aload_n 0, 1) := by decide +kernel
theorem d_D_feign_54 : decode b_D_feign 54 = .ok (.getfield 16, 3) := by decide +kernel
theorem d_D_feign_57 : decode b_D_feign 57 = .ok (.invokestatic 39, 3) := by decide +kernel
theorem d_D_feign_60 : decode b_D_feign 60 = .ok (.aload_n 0, 1) := by decide +kernel
theorem d_D_feign_61 : decode b_D_feign 61 = .ok (.getfield 16, 3) := by decide +kernel
theorem d_D_feign_64 : decode b_D_feign 64 = .ok (.invokestatic 29, 3) := by decide +kernel
theorem d_D_feign_67 : decode b_D_feign 67 = .ok (.ireturn, 1) := by decide +kernel
theorem d_D_secret_0 : decode b_D_secret 0 = .ok (.aload_n 0, 1) := by decide +kernel
theorem d_D_secret_1 : decode b_D_secret 1 = .ok (.iload_n 1, 1) := by decide +kernel
theorem d_D_secret_2 : decode b_D_secret 2 = .ok (.invokevirtual 79, 3) := by decide +kernel
theorem d_D_secret_5 : decode b_D_secret 5 = .ok (.ifCond .eq 37, 3) := by decide +kernel
theorem d_D_secret_8 : decode b_D_secret 8 = .ok (.aload_n 0, 1) := by decide +kernel
theorem d_D_secret_9 : decode b_D_secret 9 = .ok (.iload_n 2, 1) := by decide +kernel
theorem d_D_secret_10 : decode b_D_secret 10 = .ok (.invokevirtual 79, 3) := by decide +kernel
theorem d_D_secret_13 : decode b_D_secret 13 = .ok (.ifCond .eq 29, 3) := by decide +kernel
theorem d_D_secret_16 : decode b_D_secret 16 = .ok (.aload_n 0, 1) := by decide +kernel
theorem d_D_secret_17 : decode b_D_secret 17 = .ok (.iload_n 3, 1) := by decide +kernel
theorem d_D_secret_18 : decode b_D_secret 18 = .ok (.invokevirtual 79, 3) := by decide +kernel
theorem d_D_secret_21 : decode b_D_secret 21 = .ok (.ifCond .eq 21, 3) := by decide +kernel
theorem d_D_secret_24 : decode b_D_secret 24 = .ok (.aload_n 0, 1) := by decide +kernel
theorem d_D_secret_25 : decode b_D_secret 25 = .ok (.iload 4, 2) := by decide +kernel
theorem d_D_secret_27 : decode b_D_secret 27 = .ok (.invokevirtual 79, 3) := by decide +kernel
theorem d_D_secret_30 : decode b_D_secret 30 = .ok (.ifCond .eq 12, 3) := by decide +kernel
theorem d_D_secret_33 : decode b_D_secret 33 = .ok (.iload_n 1, 1) := by decide +kernel
theorem d_D_secret_34 : decode b_D_secret 34 = .ok (.iload_n 3, 1) := by decide +kernel
theorem d_D_secret_35 : decode b_D_secret 35 = .ok (.if_icmp .eq 7, 3) := by decide +kernel
theorem d_D_secret_38 : decode b_D_secret 38 = .ok (.iconst 1, 1) := by decide +kernel
theorem d_D_secret_39 : decode b_D_secret 39 = .ok (.goto 4, 3) := by decide +kernel
theorem d_D_secret_42 : decode b_D_secret 42 = .ok (.iconst 0, 1) := by decide +kernel
theorem d_D_secret_43 : decode b_D_secret 43 = .ok (.invokestatic 60, 3) := by decide +kernel
theorem d_D_secret_46 : decode b_D_secret 46 = .ok (.iload_n 2, 1) := by decide +kernel
theorem d_D_secret_47 : decode b_D_secret 47 = .ok (.iload 4, 2) := by decide +kernel
theorem d_D_secret_49 : decode b_D_secret 49 = .ok (.isub, 1) := by decide +kernel
theorem d_D_secret_50 : decode b_D_secret 50 = .ok (.aload_n 0, 1) := by decide +kernel
theorem d_D_secret_51 : decode b_D_secret 51 = .ok (.getfield 20, 3) := by decide +kernel
theorem d_D_secret_54 : decode b_D_secret 54 = .ok (.invokestatic 77, 3) := by decide +kernel
theorem d_D_secret_57 : decode b_D_secret 57 = .ok (.iload_n 1, 1) := by decide +kernel
theorem d_D_secret_58 : decode b_D_secret 58 = .ok (.iload_n 3, 1) := by decide +kernel
theorem d_D_secret_59 : decode b_D_secret 59 = .ok (.isub, 1) := by decide +kernel
theorem d_D_secret_60 : decode b_D_secret 60 = .ok (.aload_n 0, 1) := by decide +kernel
theorem d_D_secret_61 : decode b_D_secret 61 = .ok (.getfield 20, 3) := by decide +kernel
theorem d_D_secret_64 : decode b_D_secret 64 = .ok (.invokestatic 77, 3) := by decide +kernel
theorem d_D_secret_67 : decode b_D_secret 67 = .ok (.aload_n 0, 1) := by decide +kernel
theorem d_D_secret_68 : decode b_D_secret 68 = .ok (.getfield 20, 3) := by decide +kernel
theorem d_D_secret_71 : decode b_D_secret 71 = .ok (.invokestatic 64, 3) := by decide +kernel
theorem d_D_secret_74 : decode b_D_secret 74 = .ok (.aload_n 0, 1) := by decide +kernel
theorem d_D_secret_75 : decode b_D_secret 75 = .ok (.getfield 20, 3) := by decide +kernel
theorem d_D_secret_78 : decode b_D_secret 78 = .ok (.invokestatic 29, 3) := by decide +kernel
theorem d_D_secret_81 : decode b_D_secret 81 = .ok (.ireturn, 1) := by decide +kernel
theorem d_D_count_0 : decode b_D_count 0 = .ok (.iload_n 1, 1) := by decide +kernel
theorem d_D_count_1 : decode b_D_count 1 = .ok (.iconst 0, 1) := by decide +kernel
theorem d_D_count_2 : decode b_D_count 2 = .ok (.iconst 2, 1) := by decide +kernel
theorem d_D_count_3 : decode b_D_count 3 = .ok (.invokestatic 53, 3) := by decide +kernel
theorem d_D_count_6 : decode b_D_count 6 = .ok (.invokestatic 60, 3) := by decide +kernel
theorem d_D_count_9 : decode b_D_count 9 = .ok (.iload_n 1, 1) := by decide +kernel
theorem d_D_count_10 : decode b_D_count 10 = .ok (.ifCond .ne 10, 3) := by decide +kernel
theorem d_D_count_13 : decode b_D_count 13 = .ok (.aload_n 0, 1) := by decide +kernel
theorem d_D_count_14 : decode b_D_count 14 = .ok (.getfield 16, 3) := by decide +kernel
theorem d_D_count_17 : decode b_D_count 17 = .ok (.goto 19, 3) := by decide +kernel
theorem d_D_count_20 : decode b_D_count 20 = .ok (.iload_n 1, 1) := by decide +kernel
theorem d_D_count_21 : decode b_D_count 21 = .ok (.iconst 1, 1) := by decide +kernel
theorem d_D_count_22 : decode b_D_count 22 = .ok (.if_icmp .ne 10, 3) := by decide +kernel
theorem d_D_count_25 : decode b_D_count 25 = .ok (.aload_n 0, 1) := by decide +kernel
theorem d_D_count_26 : decode b_D_count 26 = .ok (.getfield 20, 3) := by decide +kernel
theorem d_D_count_29 : decode b_D_count 29 = .ok (.goto 7, 3) := by decide +kernel
theorem d_D_count_32 : decode b_D_count 32 = .ok (.aload_n 0, 1) := by decide +kernel
theorem d_D_count_33 : decode b_D_count 33 = .ok (.getfield 23, 3) := by decide +kernel
theorem d_D_count_36 : decode b_D_count 36 = .ok (.ireturn, 1) := by decide +kernel
end
section
/-! decode rows -/
theorem d_M_init_0 : decode b_M_init 0 = .ok (.aload_n 0, 1) := by decide +kernel
theorem d_M_init_1 : decode b_M_init 1 = .ok (.invokespecial 1, 3) := by decide +kernel
theorem d_M_init_4 : decode b_M_init 4 = .ok (.aload_n 0, 1) := by decide +kernel
theorem d_M_init_5 : decode b_M_init 5 = .ok (.ldc2_w 7, 3) := by decide +kernel
theorem d_M_init_8 : decode b_M_init 8 = .ok (.putfield 9, 3) := by decide +kernel
theorem d_M_init_11 : decode b_M_init 11 = .ok (.aload_n 0, 1) := by decide +kernel
theorem d_M_init_12 : decode b_M_init 12 = .ok (.ldc2_w 15, 3) := by decide +kernel
theorem d_M_init_15 : decode b_M_init 15 = .ok (.putfield 17, 3) := by decide +kernel
theorem d_M_init_18 : decode b_M_init 18 = .ok (.aload_n 0, 1) := by decide +kernel
theorem d_M_init_19 : decode b_M_init 19 = .ok (.ldc2_w 20, 3) := by decide +kernel
theorem d_M_init_22 : decode b_M_init 22 = .ok (.putfield 22, 3) := by decide +kernel
theorem d_M_init_25 : decode b_M_init 25 = .ok (.return_, 1) := by decide +kernel
theorem d_M_thrown_0 : decode b_M_thrown 0 = .ok (.aload_n 0, 1) := by decide +kernel
theorem d_M_thrown_1 : decode b_M_thrown 1 = .ok (.getfield 25, 3) := by decide +kernel
theorem d_M_thrown_4 : decode b_M_thrown 4 = .ok (.ireturn, 1) := by decide +kernel
theorem d_M_begin_0 : decode b_M_begin 0 = .ok (.aload_n 0, 1) := by decide +kernel
theorem d_M_begin_1 : decode b_M_begin 1 = .ok (.iconst 0, 1) := by decide +kernel
theorem d_M_begin_2 : decode b_M_begin 2 = .ok (.putfield 25, 3) := by decide +kernel
theorem d_M_begin_5 : decode b_M_begin 5 = .ok (.iload_n 1, 1) := by decide +kernel
theorem d_M_begin_6 : decode b_M_begin 6 = .ok (.iconst 5, 1) := by decide +kernel
theorem d_M_begin_7 : decode b_M_begin 7 = .ok (.if_icmp .lt 44, 3) := by decide +kernel
theorem d_M_begin_10 : decode b_M_begin 10 = .ok (.iload_n 1, 1) := by decide +kernel
theorem d_M_begin_11 : decode b_M_begin 11 = .ok (.i2l, 1) := by decide +kernel
theorem d_M_begin_12 : decode b_M_begin 12 = .ok (.invokestatic 37, 3) := by decide +kernel
theorem d_M_begin_15 : decode b_M_begin 15 = .ok (.ifCond .eq 36, 3) := by decide +kernel
theorem d_M_begin_18 : decode b_M_begin 18 = .ok (.iload_n 1, 1) := by decide +kernel
theorem d_M_begin_19 : decode b_M_begin 19 = .ok (.iconst 1, 1) := by decide +kernel
theorem d_M_begin_20 : decode b_M_begin 20 = .ok (.isub, 1) := by decide +kernel
theorem d_M_begin_21 : decode b_M_begin 21 = .ok (.iconst 2, 1) := by decide +kernel
theorem d_M_begin_22 : decode b_M_begin 22 = .ok (.idiv, 1) := by decide +kernel
theorem d_M_begin_23 : decode b_M_begin 23 = .ok (.i2l, 1) := by decide +kernel
theorem d_M_begin_24 : decode b_M_begin 24 = .ok (.invokestatic 37, 3) := by decide +kernel
theorem d_M_begin_27 : decode b_M_begin 27 = .ok (.ifCond .eq 24, 3) := by decide +kernel
theorem d_M_begin_30 : decode b_M_begin 30 = .ok (.iload_n 2, 1) := by decide +kernel
theorem d_M_begin_31 : decode b_M_begin 31 = .ok (.iconst 1, 1) := by decide +kernel
theorem d_M_begin_32 : decode b_M_begin 32 = .ok (.if_icmp .eq 19, 3) := by decide +kernel
theorem d_M_begin_35 : decode b_M_begin 35 = .ok (.iload_n 2, 1) := by decide +kernel
theorem d_M_begin_36 : decode b_M_begin 36 = .ok (.i2l, 1) := by decide +kernel
theorem d_M_begin_37 : decode b_M_begin 37 = .ok (.iload_n 1, 1) := by decide +kernel
theorem d_M_begin_38 : decode b_M_begin 38 = .ok (.i2l, 1) := by decide +kernel
theorem d_M_begin_39 : decode b_M_begin 39 = .ok (.iload_n 1, 1) := by decide +kernel
theorem d_M_begin_40 : decode b_M_begin 40 = .ok (.iconst 1, 1) := by decide +kernel
theorem d_M_begin_41 : decode b_M_begin 41 = .ok (.isub, 1) := by decide +kernel
theorem d_M_begin_42 : decode b_M_begin 42 = .ok (.iconst 2, 1) := by decide +kernel
theorem d_M_begin_43 : decode b_M_begin 43 = .ok (.idiv, 1) := by decide +kernel
theorem d_M_begin_44 : decode b_M_begin 44 = .ok (.i2l, 1) := by decide +kernel
theorem d_M_begin_45 : decode b_M_begin 45 = .ok (.invokestatic 41, 3) := by decide +kernel
theorem d_M_begin_48 : decode b_M_begin 48 = .ok (.ifCond .ne 5, 3) := by decide +kernel
theorem d_M_begin_51 : decode b_M_begin 51 = .ok (.iconst 0, 1) := by decide +kernel
theorem d_M_begin_52 : decode b_M_begin 52 = .ok (.ireturn, 1) := by decide +kernel
theorem d_M_begin_53 : decode b_M_begin 53 = .ok (.aload_n 0, 1) := by decide +kernel
theorem d_M_begin_54 : decode b_M_begin 54 = .ok (.iload_n 1, 1) := by decide +kernel
theorem d_M_begin_55 : decode b_M_begin 55 = .ok (.i2l, 1) := by decide +kernel
theorem d_M_begin_56 : decode b_M_begin 56 = .ok (.putfield 9, 3) := by decide +kernel
theorem d_M_begin_59 : decode b_M_begin 59 = .ok (.aload_n 0, 1) := by decide +kernel
theorem d_M_begin_60 : decode b_M_begin 60 = .ok (.iload_n 1, 1) := by decide +kernel
theorem d_M_begin_61 : decode b_M_begin 61 = .ok (.iconst 1, 1) := by decide +kernel
theorem d_M_begin_62 : decode b_M_begin 62 = .ok (.isub, 1) := by decide +kernel
theorem d_M_begin_63 : decode b_M_begin 63 = .ok (.iconst 2, 1) := by decide +kernel
theorem d_M_begin_64 : decode b_M_begin 64 = .ok (.idiv, 1) := by decide +kernel
theorem d_M_begin_65 : decode b_M_begin 65 = .ok (.i2l, 1) := by decide +kernel
theorem d_M_begin_66 : decode b_M_begin 66 = .ok (.putfield 17, 3) := by decide +kernel
theorem d_M_begin_69 : decode b_M_begin 69 = .ok (.aload_n 0, 1) := by decide +kernel
theorem d_M_begin_70 : decode b_M_begin 70 = .ok (.iload_n 2, 1) := by decide +kernel
theorem d_M_begin_71 : decode b_M_begin 71 = .ok (.i2l, 1) := by decide +kernel
theorem d_M_begin_72 : decode b_M_begin 72 = .ok (.putfield 22, 3) := by decide +kernel
theorem d_M_begin_75 : decode b_M_begin 75 = .ok (.iconst 1, 1) := by decide +kernel
theorem d_M_begin_76 : decode b_M_begin 76 = .ok (.ireturn, 1) := by decide +kernel
theorem d_M_isPrime_0 : decode b_M_isPrime 0 = .ok (.lload_n 0, 1) := by decide +kernel
theorem d_M_isPrime_1 : decode b_M_isPrime 1 = .ok (.ldc2_w 20, 3) := by decide +kernel
theorem d_M_isPrime_4 : decode b_M_isPrime 4 = .ok (.lcmp, 1) := by decide +kernel
theorem d_M_isPrime_5 : decode b_M_isPrime 5 = .ok (.ifCond .ge 5, 3) := by decide +kernel
theorem d_M_isPrime_8 : decode b_M_isPrime 8 = .ok (.iconst 0, 1) := by decide +kernel
theorem d_M_isPrime_9 : decode b_M_isPrime 9 = .ok (.ireturn, 1) := by decide +kernel
theorem d_M_isPrime_10 : decode b_M_isPrime 10 = .ok (.ldc2_w 20, 3) := by decide +kernel
theorem d_M_isPrime_13 : decode b_M_isPrime 13 = .ok (.lstore_n 2, 1) := by decide +kernel
theorem d_M_isPrime_14 : decode b_M_isPrime 14 = .ok (.lload_n 2, 1) := by decide +kernel
theorem d_M_isPrime_15 : decode b_M_isPrime 15 = .ok (.lload_n 2, 1) := by decide +kernel
theorem d_M_isPrime_16 : decode b_M_isPrime 16 = .ok (.lmul, 1) := by decide +kernel
theorem d_M_isPrime_17 : decode b_M_isPrime 17 = .ok (.lload_n 0, 1) := by decide +kernel
theorem d_M_isPrime_18 : decode b_M_isPrime 18 = .ok (.lcmp, 1) := by decide +kernel
theorem d_M_isPrime_19 : decode b_M_isPrime 19 = .ok (.ifCond .gt 20, 3) := by decide +kernel
theorem d_M_isPrime_22 : decode b_M_isPrime 22 = .ok (.lload_n 0, 1) := by decide +kernel
theorem d_M_isPrime_23 : decode b_M_isPrime 23 = .ok (.lload_n 2, 1) := by decide +kernel
theorem d_M_isPrime_24 : decode b_M_isPrime 24 = .ok (.lrem, 1) := by decide +kernel
theorem d_M_isPrime_25 : decode b_M_isPrime 25 = .ok (.lconst 0, 1) := by decide +kernel
theorem d_M_isPrime_26 : decode b_M_isPrime 26 = .ok (.lcmp, 1) := by decide +kernel
theorem d_M_isPrime_27 : decode b_M_isPrime 27 = .ok (.ifCond .ne 5, 3) := by decide +kernel
theorem d_M_isPrime_30 : decode b_M_isPrime 30 = .ok (.iconst 0, 1) := by decide +kernel
theorem d_M_isPrime_31 : decode b_M_isPrime 31 = .ok (.ireturn, 1) := by decide +kernel
theorem d_M_isPrime_32 : decode b_M_isPrime 32 = .ok (.lload_n 2, 1) := by decide +kernel
theorem d_M_isPrime_33 : decode b_M_isPrime 33 = .ok (.lconst 1, 1) := by decide +kernel
theorem d_M_isPrime_34 : decode b_M_isPrime 34 = .ok (.ladd, 1) := by decide +kernel
theorem d_M_isPrime_35 : decode b_M_isPrime 35 = .ok (.lstore_n 2, 1) := by decide +kernel
theorem d_M_isPrime_36 : decode b_M_isPrime 36 = .ok (.goto (-22), 3) := by decide +kernel
theorem d_M_isPrime_39 : decode b_M_isPrime 39 = .ok (.iconst 1, 1) := by decide +kernel
theorem d_M_isPrime_40 : decode b_M_isPrime 40 = .ok (.ireturn, 1) := by decide +kernel
theorem d_M_isMember_0 : decode b_M_isMember 0 = .ok (.lload_n 0, 1) := by decide +kernel
theorem d_M_isMember_1 : decode b_M_isMember 1 = .ok (.lconst 1, 1) := by decide +kernel
theorem d_M_isMember_2 : decode b_M_isMember 2 = .ok (.lload_n 2, 1) := by decide +kernel
theorem d_M_isMember_3 : decode b_M_isMember 3 = .ok (.lconst 1, 1) := by decide +kernel
theorem d_M_isMember_4 : decode b_M_isMember 4 = .ok (.lsub, 1) := by decide +kernel
theorem d_M_isMember_5 : decode b_M_isMember 5 = .ok (.invokestatic 29, 3) := by decide +kernel
theorem d_M_isMember_8 : decode b_M_isMember 8 = .ok (.ifCond .eq 19, 3) := by decide +kernel
theorem d_M_isMember_11 : decode b_M_isMember 11 = .ok (.lload_n 0, 1) := by decide +kernel
theorem d_M_isMember_12 : decode b_M_isMember 12 = .ok (.lload 4, 2) := by decide +kernel
theorem d_M_isMember_14 : decode b_M_isMember 14 = .ok (.lload_n 2, 1) := by decide +kernel
theorem d_M_isMember_15 : decode b_M_isMember 15 = .ok (.invokestatic 33, 3) := by decide +kernel
theorem d_M_isMember_18 : decode b_M_isMember 18 = .ok (.lconst 1, 1) := by decide +kernel
theorem d_M_isMember_19 : decode b_M_isMember 19 = .ok (.lcmp, 1) := by decide +kernel
theorem d_M_isMember_20 : decode b_M_isMember 20 = .ok (.ifCond .ne 7, 3) := by decide +kernel
theorem d_M_isMember_23 : decode b_M_isMember 23 = .ok (.iconst 1, 1) := by decide +kernel
theorem d_M_isMember_24 : decode b_M_isMember 24 = .ok (.goto 4, 3) := by decide +kernel
theorem d_M_isMember_27 : decode b_M_isMember 27 = .ok (.iconst 0, 1) := by decide +kernel
theorem d_M_isMember_28 : decode b_M_isMember 28 = .ok (.ireturn, 1) := by decide +kernel
theorem d_M_in_0 : decode b_M_in 0 = .ok (.lload_n 0, 1) := by decide +kernel
theorem d_M_in_1 : decode b_M_in 1 = .ok (.lload_n 2, 1) := by decide +kernel
theorem d_M_in_2 : decode b_M_in 2 = .ok (.lcmp, 1) := by decide +kernel
theorem d_M_in_3 : decode b_M_in 3 = .ok (.ifCond .lt 14, 3) := by decide +kernel
theorem d_M_in_6 : decode b_M_in 6 = .ok (.lload_n 0, 1) := by decide +kernel
theorem d_M_in_7 : decode b_M_in 7 = .ok (.lload 4, 2) := by decide +kernel
theorem d_M_in_9 : decode b_M_in 9 = .ok (.lcmp, 1) := by decide +kernel
theorem d_M_in_10 : decode b_M_in 10 = .ok (.ifCond .gt 7, 3) := by decide +kernel
theorem d_M_in_13 : decode b_M_in 13 = .ok (.iconst 1, 1) := by decide +kernel
theorem d_M_in_14 : decode b_M_in 14 = .ok (.goto 4, 3) := by decide +kernel
theorem d_M_in_17 : decode b_M_in 17 = .ok (.iconst 0, 1) := by decide +kernel
theorem d_M_in_18 : decode b_M_in 18 = .ok (.ireturn, 1) := by decide +kernel
theorem d_M_powS_0 : decode b_M_powS 0 = .ok (.lconst 1, 1) := by decide +kernel
theorem d_M_powS_1 : decode b_M_powS 1 = .ok (.lstore 6, 2) := by decide +kernel
theorem d_M_powS_3 : decode b_M_powS 3 = .ok (.bipush 62, 2) := by decide +kernel
theorem d_M_powS_5 : decode b_M_powS 5 = .ok (.istore 8, 2) := by decide +kernel
theorem d_M_powS_7 : decode b_M_powS 7 = .ok (.iload 8, 2) := by decide +kernel
theorem d_M_powS_9 : decode b_M_powS 9 = .ok (.ifCond .lt 39, 3) := by decide +kernel
theorem d_M_powS_12 : decode b_M_powS 12 = .ok (.lload 6, 2) := by decide +kernel
theorem d_M_powS_14 : decode b_M_powS 14 = .ok (.lload 6, 2) := by decide +kernel
theorem d_M_powS_16 : decode b_M_powS 16 = .ok (.lmul, 1) := by decide +kernel
theorem d_M_powS_17 : decode b_M_powS 17 = .ok (.lload 4, 2) := by decide +kernel
theorem d_M_powS_19 : decode b_M_powS 19 = .ok (.lrem, 1) := by decide +kernel
theorem d_M_powS_20 : decode b_M_powS 20 = .ok (.lstore 6, 2) := by decide +kernel
theorem d_M_powS_22 : decode b_M_powS 22 = .ok (.lload_n 2, 1) := by decide +kernel
theorem d_M_powS_23 : decode b_M_powS 23 = .ok (.iload 8, 2) := by decide +kernel
theorem d_M_powS_25 : decode b_M_powS 25 = .ok (.lshr, 1) := by decide +kernel
theorem d_M_powS_26 : decode b_M_powS 26 = .ok (.lconst 1, 1) := by decide +kernel
theorem d_M_powS_27 : decode b_M_powS 27 = .ok (.land, 1) := by decide +kernel
theorem d_M_powS_28 : decode b_M_powS 28 = .ok (.lconst 1, 1) := by decide +kernel
theorem d_M_powS_29 : decode b_M_powS 29 = .ok (.lcmp, 1) := by decide +kernel
theorem d_M_powS_30 : decode b_M_powS 30 = .ok (.ifCond .ne 12, 3) := by decide +kernel
theorem d_M_powS_33 : decode b_M_powS 33 = .ok (.lload 6, 2) := by decide +kernel
theorem d_M_powS_35 : decode b_M_powS 35 = .ok (.lload_n 0, 1) := by decide +kernel
theorem d_M_powS_36 : decode b_M_powS 36 = .ok (.lmul, 1) := by decide +kernel
theorem d_M_powS_37 : decode b_M_powS 37 = .ok (.lload 4, 2) := by decide +kernel
theorem d_M_powS_39 : decode b_M_powS 39 = .ok (.lrem, 1) := by decide +kernel
theorem d_M_powS_40 : decode b_M_powS 40 = .ok (.lstore 6, 2) := by decide +kernel
theorem d_M_powS_42 : decode b_M_powS 42 = .ok (.iinc 8 (-1), 3) := by decide +kernel
theorem d_M_powS_45 : decode b_M_powS 45 = .ok (.goto (-38), 3) := by decide +kernel
theorem d_M_powS_48 : decode b_M_powS 48 = .ok (.lload 6, 2) := by decide +kernel
theorem d_M_powS_50 : decode b_M_powS 50 = .ok (.lreturn, 1) := by decide +kernel
theorem d_M_member_0 : decode b_M_member 0 = .ok (.aload_n 0, 1) := by decide +kernel
theorem d_M_member_1 : decode b_M_member 1 = .ok (.iconst 0, 1) := by decide +kernel
theorem d_M_member_2 : decode b_M_member 2 = .ok (.putfield 25, 3) := by decide +kernel
theorem d_M_member_5 : decode b_M_member 5 = .ok (.iload_n 1, 1) := by decide +kernel
theorem d_M_member_6 : decode b_M_member 6 = .ok (.i2l, 1) := by decide +kernel
theorem d_M_member_7 : decode b_M_member 7 = .ok (.aload_n 0, 1) := by decide +kernel
theorem d_M_member_8 : decode b_M_member 8 = .ok (.getfield 9, 3) := by decide +kernel
theorem d_M_member_11 : decode b_M_member 11 = .ok (.aload_n 0, 1) := by decide +kernel
theorem d_M_member_12 : decode b_M_member 12 = .ok (.getfield 17, 3) := by decide +kernel
theorem d_M_member_15 : decode b_M_member 15 = .ok (.invokestatic 41, 3) := by decide +kernel
theorem d_M_member_18 : decode b_M_member 18 = .ok (.ireturn, 1) := by decide +kernel
theorem d_M_product_0 : decode b_M_product 0 = .ok (.aload_n 0, 1) := by decide +kernel
theorem d_M_product_1 : decode b_M_product 1 = .ok (.iconst 0, 1) := by decide +kernel
theorem d_M_product_2 : decode b_M_product 2 = .ok (.putfield 25, 3) := by decide +kernel
theorem d_M_product_5 : decode b_M_product 5 = .ok (.aload_n 0, 1) := by decide +kernel
theorem d_M_product_6 : decode b_M_product 6 = .ok (.iload_n 1, 1) := by decide +kernel
theorem d_M_product_7 : decode b_M_product 7 = .ok (.i2l, 1) := by decide +kernel
theorem d_M_product_8 : decode b_M_product 8 = .ok (.lconst 0, 1) := by decide +kernel
theorem d_M_product_9 : decode b_M_product 9 = .ok (.aload_n 0, 1) := by decide +kernel
theorem d_M_product_10 : decode b_M_product 10 = .ok (.getfield 9, 3) := by decide +kernel
theorem d_M_product_13 : decode b_M_product 13 = .ok (.lconst 1, 1) := by decide +kernel
theorem d_M_product_14 : decode b_M_product 14 = .ok (.lsub, 1) := by decide +kernel
theorem d_M_product_15 : decode b_M_product 15 = .ok (.invokestatic 29, 3) := by decide +kernel
theorem d_M_product_18 : decode b_M_product 18 = .ok (.ifCond .eq 18, 3) := by decide +kernel
theorem d_M_product_21 : decode b_M_product 21 = .ok (.iload_n 2, 1) := by decide +kernel
theorem d_M_product_22 : decode b_M_product 22 = .ok (.i2l, 1) := by decide +kernel
theorem d_M_product_23 : decode b_M_product 23 = .ok (.lconst 0, 1) := by decide +kernel
theorem d_M_product_24 : decode b_M_product 24 = .ok (.aload_n 0, 1) := by decide +kernel
theorem d_M_product_25 : decode b_M_product 25 = .ok (.getfield 9, 3) := by decide +kernel
theorem d_M_product_28 : decode b_M_product 28 = .ok (.lconst 1, 1) := by decide +kernel
theorem d_M_product_29 : decode b_M_product 29 = .ok (.lsub, 1) := by decide +kernel
theorem d_M_product_30 : decode b_M_product 30 = .ok (.invokestatic 29, 3) := by decide +kernel
theorem d_M_product_33 : decode b_M_product 33 = .ok (.ifCond .ne 7, 3) := by decide +kernel
theorem d_M_product_36 : decode b_M_product 36 = .ok (.iconst 1, 1) := by decide +kernel
theorem d_M_product_37 : decode b_M_product 37 = .ok (.goto 4, 3) := by decide +kernel
theorem d_M_product_40 : decode b_M_product 40 = .ok (.iconst 0, 1) := by decide +kernel
theorem d_M_product_41 : decode b_M_product 41 = .ok (.iconst 1, 1) := by decide +kernel
theorem d_M_product_42 : decode b_M_product 42 = .ok (.invokevirtual 44, 3) := by decide +kernel
theorem d_M_product_45 : decode b_M_product 45 = .ok (.ifCond .eq 7, 3) := by decide +kernel
theorem d_M_product_48 : decode b_M_product 48 = .ok (.iconst 0, 1) := by decide +kernel
theorem d_M_product_49 : decode b_M_product 49 = .ok (.goto 14, 3) := by decide +kernel
theorem d_M_product_52 : decode b_M_product 52 = .ok (.iload_n 1, 1) := by decide +kernel
theorem d_M_product_53 : decode b_M_product 53 = .ok (.i2l, 1) := by decide +kernel
theorem d_M_product_54 : decode b_M_product 54 = .ok (.iload_n 2, 1) := by decide +kernel
theorem d_M_product_55 : decode b_M_product 55 = .ok (.i2l, 1) := by decide +kernel
theorem d_M_product_56 : decode b_M_product 56 = .ok (.lmul, 1) := by decide +kernel
theorem d_M_product_57 : decode b_M_product 57 = .ok (.aload_n 0, 1) := by decide +kernel
theorem d_M_product_58 : decode b_M_product 58 = .ok (.getfield 9, 3) := by decide +kernel
theorem d_M_product_61 : decode b_M_product 61 = .ok (.lrem, 1) := by decide +kernel
theorem d_M_product_62 : decode b_M_product 62 = .ok (.l2i, 1) := by decide +kernel
theorem d_M_product_63 : decode b_M_product 63 = .ok (.ireturn, 1) := by decide +kernel
theorem d_M_fails_0 : decode b_M_fails 0 = .ok (.iload_n 1, 1) := by decide +kernel
theorem d_M_fails_1 : decode b_M_fails 1 = .ok (.ifCond .eq 15, 3) := by decide +kernel
theorem d_M_fails_4 : decode b_M_fails 4 = .ok (.aload_n 0, 1) := by decide +kernel
theorem d_M_fails_5 : decode b_M_fails 5 = .ok (.getfield 25, 3) := by decide +kernel
theorem d_M_fails_8 : decode b_M_fails 8 = .ok (.ifCond .ne 8, 3) := by decide +kernel
theorem d_M_fails_11 : decode b_M_fails 11 = .ok (.aload_n 0, 1) := by decide +kernel
theorem d_M_fails_12 : decode b_M_fails 12 = .ok (.iload_n 2, 1) := by decide +kernel
theorem d_M_fails_13 : decode b_M_fails 13 = .ok (.putfield 25, 3) := by decide +kernel
theorem d_M_fails_16 : decode b_M_fails 16 = .ok (.aload_n 0, 1) := by decide +kernel
theorem d_M_fails_17 : decode b_M_fails 17 = .ok (.getfield 25, 3) := by decide +kernel
theorem d_M_fails_20 : decode b_M_fails 20 = .ok (.ifCond .eq 7, 3) := by decide +kernel
theorem d_M_fails_23 : decode b_M_fails 23 = .ok (.iconst 1, 1) := by decide +kernel
theorem d_M_fails_24 : decode b_M_fails 24 = .ok (.goto 4, 3) := by decide +kernel
theorem d_M_fails_27 : decode b_M_fails 27 = .ok (.iconst 0, 1) := by decide +kernel
theorem d_M_fails_28 : decode b_M_fails 28 = .ok (.ireturn, 1) := by decide +kernel
theorem d_M_powV_0 : decode b_M_powV 0 = .ok (.aload_n 0, 1) := by decide +kernel
theorem d_M_powV_1 : decode b_M_powV 1 = .ok (.iconst 0, 1) := by decide +kernel
theorem d_M_powV_2 : decode b_M_powV 2 = .ok (.putfield 25, 3) := by decide +kernel
theorem d_M_powV_5 : decode b_M_powV 5 = .ok (.aload_n 0, 1) := by decide +kernel
theorem d_M_powV_6 : decode b_M_powV 6 = .ok (.iload_n 1, 1) := by decide +kernel
theorem d_M_powV_7 : decode b_M_powV 7 = .ok (.i2l, 1) := by decide +kernel
theorem d_M_powV_8 : decode b_M_powV 8 = .ok (.lconst 0, 1) := by decide +kernel
theorem d_M_powV_9 : decode b_M_powV 9 = .ok (.aload_n 0, 1) := by decide +kernel
theorem d_M_powV_10 : decode b_M_powV 10 = .ok (.getfield 9, 3) := by decide +kernel
theorem d_M_powV_13 : decode b_M_powV 13 = .ok (.lconst 1, 1) := by decide +kernel
theorem d_M_powV_14 : decode b_M_powV 14 = .ok (.lsub, 1) := by decide +kernel
theorem d_M_powV_15 : decode b_M_powV 15 = .ok (.invokestatic 29, 3) := by decide +kernel
theorem d_M_powV_18 : decode b_M_powV 18 = .ok (.ifCond .eq 9, 3) := by decide +kernel
theorem d_M_powV_21 : decode b_M_powV 21 = .ok (.lload_n 2, 1) := by decide +kernel
theorem d_M_powV_22 : decode b_M_powV 22 = .ok (.lconst 0, 1) := by decide +kernel
theorem d_M_powV_23 : decode b_M_powV 23 = .ok (.lcmp, 1) := by decide +kernel
theorem d_M_powV_24 : decode b_M_powV 24 = .ok (.ifCond .ge 7, 3) := by decide +kernel
theorem d_M_powV_27 : decode b_M_powV 27 = .ok (.iconst 1, 1) := by decide +kernel
theorem d_M_powV_28 : decode b_M_powV 28 = .ok (.goto 4, 3) := by decide +kernel
theorem d_M_powV_31 : decode b_M_powV 31 = .ok (.iconst 0, 1) := by decide +kernel
theorem d_M_powV_32 : decode b_M_powV 32 = .ok (.iconst 1, 1) := by decide +kernel
theorem d_M_powV_33 : decode b_M_powV 33 = .ok (.invokevirtual 44, 3) := by decide +kernel
theorem d_M_powV_36 : decode b_M_powV 36 = .ok (.ifCond .eq 7, 3) := by decide +kernel
theorem d_M_powV_39 : decode b_M_powV 39 = .ok (.iconst 0, 1) := by decide +kernel
theorem d_M_powV_40 : decode b_M_powV 40 = .ok (.goto 14, 3) := by decide +kernel
theorem d_M_powV_43 : decode b_M_powV 43 = .ok (.iload_n 1, 1) := by decide +kernel
theorem d_M_powV_44 : decode b_M_powV 44 = .ok (.i2l, 1) := by decide +kernel
theorem d_M_powV_45 : decode b_M_powV 45 = .ok (.lload_n 2, 1) := by decide +kernel
theorem d_M_powV_46 : decode b_M_powV 46 = .ok (.aload_n 0, 1) := by decide +kernel
theorem d_M_powV_47 : decode b_M_powV 47 = .ok (.getfield 9, 3) := by decide +kernel
theorem d_M_powV_50 : decode b_M_powV 50 = .ok (.invokestatic 33, 3) := by decide +kernel
theorem d_M_powV_53 : decode b_M_powV 53 = .ok (.l2i, 1) := by decide +kernel
theorem d_M_powV_54 : decode b_M_powV 54 = .ok (.ireturn, 1) := by decide +kernel
theorem d_M_invV_0 : decode b_M_invV 0 = .ok (.aload_n 0, 1) := by decide +kernel
theorem d_M_invV_1 : decode b_M_invV 1 = .ok (.iconst 0, 1) := by decide +kernel
theorem d_M_invV_2 : decode b_M_invV 2 = .ok (.putfield 25, 3) := by decide +kernel
theorem d_M_invV_5 : decode b_M_invV 5 = .ok (.aload_n 0, 1) := by decide +kernel
theorem d_M_invV_6 : decode b_M_invV 6 = .ok (.iload_n 1, 1) := by decide +kernel
theorem d_M_invV_7 : decode b_M_invV 7 = .ok (.i2l, 1) := by decide +kernel
theorem d_M_invV_8 : decode b_M_invV 8 = .ok (.lconst 1, 1) := by decide +kernel
theorem d_M_invV_9 : decode b_M_invV 9 = .ok (.aload_n 0, 1) := by decide +kernel
theorem d_M_invV_10 : decode b_M_invV 10 = .ok (.getfield 9, 3) := by decide +kernel
theorem d_M_invV_13 : decode b_M_invV 13 = .ok (.lconst 1, 1) := by decide +kernel
theorem d_M_invV_14 : decode b_M_invV 14 = .ok (.lsub, 1) := by decide +kernel
theorem d_M_invV_15 : decode b_M_invV 15 = .ok (.invokestatic 29, 3) := by decide +kernel
theorem d_M_invV_18 : decode b_M_invV 18 = .ok (.ifCond .ne 7, 3) := by decide +kernel
theorem d_M_invV_21 : decode b_M_invV 21 = .ok (.iconst 1, 1) := by decide +kernel
theorem d_M_invV_22 : decode b_M_invV 22 = .ok (.goto 4, 3) := by decide +kernel
theorem d_M_invV_25 : decode b_M_invV 25 = .ok (.iconst 0, 1) := by decide +kernel
theorem d_M_invV_26 : decode b_M_invV 26 = .ok (.iconst 1, 1) := by decide +kernel
theorem d_M_invV_27 : decode b_M_invV 27 = .ok (.invokevirtual 44, 3) := by decide +kernel
theorem d_M_invV_30 : decode b_M_invV 30 = .ok (.ifCond .eq 7, 3) := by decide +kernel
theorem d_M_invV_33 : decode b_M_invV 33 = .ok (.iconst 0, 1) := by decide +kernel
theorem d_M_invV_34 : decode b_M_invV 34 = .ok (.goto 13, 3) := by decide +kernel
theorem d_M_invV_37 : decode b_M_invV 37 = .ok (.iload_n 1, 1) := by decide +kernel
theorem d_M_invV_38 : decode b_M_invV 38 = .ok (.i2l, 1) := by decide +kernel
theorem d_M_invV_39 : decode b_M_invV 39 = .ok (.aload_n 0, 1) := by decide +kernel
theorem d_M_invV_40 : decode b_M_invV 40 = .ok (.getfield 9, 3) := by decide +kernel
theorem d_M_invV_43 : decode b_M_invV 43 = .ok (.invokestatic 48, 3) := by decide +kernel
theorem d_M_invV_46 : decode b_M_invV 46 = .ok (.l2i, 1) := by decide +kernel
theorem d_M_invV_47 : decode b_M_invV 47 = .ok (.ireturn, 1) := by decide +kernel
theorem d_M_invS_0 : decode b_M_invS 0 = .ok (.lload_n 2, 1) := by decide +kernel
theorem d_M_invS_1 : decode b_M_invS 1 = .ok (.lstore 4, 2) := by decide +kernel
theorem d_M_invS_3 : decode b_M_invS 3 = .ok (.lload_n 0, 1) := by decide +kernel
theorem d_M_invS_4 : decode b_M_invS 4 = .ok (.lstore 6, 2) := by decide +kernel
theorem d_M_invS_6 : decode b_M_invS 6 = .ok (.lconst 0, 1) := by decide +kernel
theorem d_M_invS_7 : decode b_M_invS 7 = .ok (.lstore 8, 2) := by decide +kernel
theorem d_M_invS_9 : decode b_M_invS 9 = .ok (.lconst 1, 1) := by decide +kernel
theorem d_M_invS_10 : decode b_M_invS 10 = .ok (.lstore 10, 2) := by decide +kernel
theorem d_M_invS_12 : decode b_M_invS 12 = .ok (.lload 6, 2) := by decide +kernel
theorem d_M_invS_14 : decode b_M_invS 14 = .ok (.lconst 0, 1) := by decide +kernel
theorem d_M_invS_15 : decode b_M_invS 15 = .ok (.lcmp, 1) := by decide +kernel
theorem d_M_invS_16 : decode b_M_invS 16 = .ok (.ifCond .eq 49, 3) := by decide +kernel
theorem d_M_invS_19 : decode b_M_invS 19 = .ok (.lload 4, 2) := by decide +kernel
theorem d_M_invS_21 : decode b_M_invS 21 = .ok (.lload 6, 2) := by decide +kernel
theorem d_M_invS_23 : decode b_M_invS 23 = .ok (.ldiv, 1) := by decide +kernel
theorem d_M_invS_24 : decode b_M_invS 24 = .ok (.lstore 12, 2) := by decide +kernel
theorem d_M_invS_26 : decode b_M_invS 26 = .ok (.lload 4, 2) := by decide +kernel
theorem d_M_invS_28 : decode b_M_invS 28 = .ok (.lload 12, 2) := by decide +kernel
theorem d_M_invS_30 : decode b_M_invS 30 = .ok (.lload 6, 2) := by decide +kernel
theorem d_M_invS_32 : decode b_M_invS 32 = .ok (.lmul, 1) := by decide +kernel
theorem d_M_invS_33 : decode b_M_invS 33 = .ok (.lsub, 1) := by decide +kernel
theorem d_M_invS_34 : decode b_M_invS 34 = .ok (.lstore 14, 2) := by decide +kernel
theorem d_M_invS_36 : decode b_M_invS 36 = .ok (.lload 6, 2) := by decide +kernel
theorem d_M_invS_38 : decode b_M_invS 38 = .ok (.lstore 4, 2) := by decide +kernel
theorem d_M_invS_40 : decode b_M_invS 40 = .ok (.lload 14, 2) := by decide +kernel
theorem d_M_invS_42 : decode b_M_invS 42 = .ok (.lstore 6, 2) := by decide +kernel
theorem d_M_invS_44 : decode b_M_invS 44 = .ok (.lload 8, 2) := by decide +kernel
theorem d_M_invS_46 : decode b_M_invS 46 = .ok (.lload 12, 2) := by decide +kernel
theorem d_M_invS_48 : decode b_M_invS 48 = .ok (.lload 10, 2) := by decide +kernel
theorem d_M_invS_50 : decode b_M_invS 50 = .ok (.lmul, 1) := by decide +kernel
theorem d_M_invS_51 : decode b_M_invS 51 = .ok (.lsub, 1) := by decide +kernel
theorem d_M_invS_52 : decode b_M_invS 52 = .ok (.lstore 14, 2) := by decide +kernel
theorem d_M_invS_54 : decode b_M_invS 54 = .ok (.lload 10, 2) := by decide +kernel
theorem d_M_invS_56 : decode b_M_invS 56 = .ok (.lstore 8, 2) := by decide +kernel
theorem d_M_invS_58 : decode b_M_invS 58 = .ok (.lload 14, 2) := by decide +kernel
theorem d_M_invS_60 : decode b_M_invS 60 = .ok (.lstore 10, 2) := by decide +kernel
theorem d_M_invS_62 : decode b_M_invS 62 = .ok (.goto (-50), 3) := by decide +kernel
theorem d_M_invS_65 : decode b_M_invS 65 = .ok (.lload 8, 2) := by decide +kernel
theorem d_M_invS_67 : decode b_M_invS 67 = .ok (.lload_n 2, 1) := by decide +kernel
theorem d_M_invS_68 : decode b_M_invS 68 = .ok (.lrem, 1) := by decide +kernel
theorem d_M_invS_69 : decode b_M_invS 69 = .ok (.lload_n 2, 1) := by decide +kernel
theorem d_M_invS_70 : decode b_M_invS 70 = .ok (.ladd, 1) := by decide +kernel
theorem d_M_invS_71 : decode b_M_invS 71 = .ok (.lload_n 2, 1) := by decide +kernel
theorem d_M_invS_72 : decode b_M_invS 72 = .ok (.lrem, 1) := by decide +kernel
theorem d_M_invS_73 : decode b_M_invS 73 = .ok (.lreturn, 1) := by decide +kernel
theorem d_M_log_0 : decode b_M_log 0 = .ok (.aload_n 0, 1) := by decide +kernel
theorem d_M_log_1 : decode b_M_log 1 = .ok (.iconst 0, 1) := by decide +kernel
theorem d_M_log_2 : decode b_M_log 2 = .ok (.putfield 25, 3) := by decide +kernel
theorem d_M_log_5 : decode b_M_log 5 = .ok (.aload_n 0, 1) := by decide +kernel
theorem d_M_log_6 : decode b_M_log 6 = .ok (.iload_n 1, 1) := by decide +kernel
theorem d_M_log_7 : decode b_M_log 7 = .ok (.i2l, 1) := by decide +kernel
theorem d_M_log_8 : decode b_M_log 8 = .ok (.aload_n 0, 1) := by decide +kernel
theorem d_M_log_9 : decode b_M_log 9 = .ok (.getfield 9, 3) := by decide +kernel
theorem d_M_log_12 : decode b_M_log 12 = .ok (.aload_n 0, 1) := by decide +kernel
theorem d_M_log_13 : decode b_M_log 13 = .ok (.getfield 17, 3) := by decide +kernel
theorem d_M_log_16 : decode b_M_log 16 = .ok (.invokestatic 41, 3) := by decide +kernel
theorem d_M_log_19 : decode b_M_log 19 = .ok (.ifCond .ne 7, 3) := by decide +kernel
theorem d_M_log_22 : decode b_M_log 22 = .ok (.iconst 1, 1) := by decide +kernel
theorem d_M_log_23 : decode b_M_log 23 = .ok (.goto 4, 3) := by decide +kernel
theorem d_M_log_26 : decode b_M_log 26 = .ok (.iconst 0, 1) := by decide +kernel
theorem d_M_log_27 : decode b_M_log 27 = .ok (.iconst 1, 1) := by decide +kernel
theorem d_M_log_28 : decode b_M_log 28 = .ok (.invokevirtual 44, 3) := by decide +kernel
theorem d_M_log_31 : decode b_M_log 31 = .ok (.ifCond .ne 27, 3) := by decide +kernel
theorem d_M_log_34 : decode b_M_log 34 = .ok (.aload_n 0, 1) := by decide +kernel
theorem d_M_log_35 : decode b_M_log 35 = .ok (.aload_n 0, 1) := by decide +kernel
theorem d_M_log_36 : decode b_M_log 36 = .ok (.getfield 9, 3) := by decide +kernel
theorem d_M_log_39 : decode b_M_log 39 = .ok (.ldc2_w 52, 3) := by decide +kernel
theorem d_M_log_42 : decode b_M_log 42 = .ok (.lcmp, 1) := by decide +kernel
theorem d_M_log_43 : decode b_M_log 43 = .ok (.ifCond .le 7, 3) := by decide +kernel
theorem d_M_log_46 : decode b_M_log 46 = .ok (.iconst 1, 1) := by decide +kernel
theorem d_M_log_47 : decode b_M_log 47 = .ok (.goto 4, 3) := by decide +kernel
theorem d_M_log_50 : decode b_M_log 50 = .ok (.iconst 0, 1) := by decide +kernel
theorem d_M_log_51 : decode b_M_log 51 = .ok (.iconst 2, 1) := by decide +kernel
theorem d_M_log_52 : decode b_M_log 52 = .ok (.invokevirtual 44, 3) := by decide +kernel
theorem d_M_log_55 : decode b_M_log 55 = .ok (.ifCond .eq 5, 3) := by decide +kernel
theorem d_M_log_58 : decode b_M_log 58 = .ok (.iconst 0, 1) := by decide +kernel
theorem d_M_log_59 : decode b_M_log 59 = .ok (.ireturn, 1) := by decide +kernel
theorem d_M_log_60 : decode b_M_log 60 = .ok (.iconst 0, 1) := by decide +kernel
theorem d_M_log_61 : decode b_M_log 61 = .ok (.istore_n 2, 1) := by decide +kernel
theorem d_M_log_62 : decode b_M_log 62 = .ok (.lconst 1, 1) := by decide +kernel
theorem d_M_log_63 : decode b_M_log 63 = .ok (.lstore_n 3, 1) := by decide +kernel
theorem d_M_log_64 : decode b_M_log 64 = .ok (.lload_n 3, 1) := by decide +kernel
theorem d_M_log_65 : decode b_M_log 65 = .ok (.iload_n 1, 1) := by decide +kernel
theorem d_M_log_66 : decode b_M_log 66 = .ok (.i2l, 1) := by decide +kernel
theorem d_M_log_67 : decode b_M_log 67 = .ok (.lcmp, 1) := by decide +kernel
theorem d_M_log_68 : decode b_M_log 68 = .ok (.ifCond .eq 21, 3) := by decide +kernel
theorem d_M_log_71 : decode b_M_log 71 = .ok (.iinc 2 1, 3) := by decide +kernel
theorem d_M_log_74 : decode b_M_log 74 = .ok (.lload_n 3, 1) := by decide +kernel
theorem d_M_log_75 : decode b_M_log 75 = .ok (.aload_n 0, 1) := by decide +kernel
theorem d_M_log_76 : decode b_M_log 76 = .ok (.getfield 22, 3) := by decide +kernel
theorem d_M_log_79 : decode b_M_log 79 = .ok (.lmul, 1) := by decide +kernel
theorem d_M_log_80 : decode b_M_log 80 = .ok (.aload_n 0, 1) := by decide +kernel
theorem d_M_log_81 : decode b_M_log 81 = .ok (.getfield 9, 3) := by decide +kernel
theorem d_M_log_84 : decode b_M_log 84 = .ok (.lrem, 1) := by decide +kernel
theorem d_M_log_85 : decode b_M_log 85 = .ok (.lstore_n 3, 1) := by decide +kernel
theorem d_M_log_86 : decode b_M_log 86 = .ok (.goto (-22), 3) := by decide +kernel
theorem d_M_log_89 : decode b_M_log 89 = .ok (.iload_n 2, 1) := by decide +kernel
theorem d_M_log_90 : decode b_M_log 90 = .ok (.ireturn, 1) := by decide +kernel
theorem d_M_accepts_0 : decode b_M_accepts 0 = .ok (.aload_n 0, 1) := by decide +kernel
theorem d_M_accepts_1 : decode b_M_accepts 1 = .ok (.iconst 0, 1) := by decide +kernel
theorem d_M_accepts_2 : decode b_M_accepts 2 = .ok (.putfield 25, 3) := by decide +kernel
theorem d_M_accepts_5 : decode b_M_accepts 5 = .ok (.iload_n 1, 1) := by decide +kernel
theorem d_M_accepts_6 : decode b_M_accepts 6 = .ok (.i2l, 1) := by decide +kernel
theorem d_M_accepts_7 : decode b_M_accepts 7 = .ok (.aload_n 0, 1) := by decide +kernel
theorem d_M_accepts_8 : decode b_M_accepts 8 = .ok (.getfield 9, 3) := by decide +kernel
theorem d_M_accepts_11 : decode b_M_accepts 11 = .ok (.aload_n 0, 1) := by decide +kernel
theorem d_M_accepts_12 : decode b_M_accepts 12 = .ok (.getfield 17, 3) := by decide +kernel
theorem d_M_accepts_15 : decode b_M_accepts 15 = .ok (.invokestatic 41, 3) := by decide +kernel
theorem d_M_accepts_18 : decode b_M_accepts 18 = .ok (.ifCond .eq 79, 3) := by decide +kernel
theorem d_M_accepts_21 : decode b_M_accepts 21 = .ok (.iload_n 2, 1) := by decide +kernel
theorem d_M_accepts_22 : decode b_M_accepts 22 = .ok (.i2l, 1) := by decide +kernel
theorem d_M_accepts_23 : decode b_M_accepts 23 = .ok (.aload_n 0, 1) := by decide +kernel
theorem d_M_accepts_24 : decode b_M_accepts 24 = .ok (.getfield 9, 3) := by decide +kernel
theorem d_M_accepts_27 : decode b_M_accepts 27 = .ok (.aload_n 0, 1) := by decide +kernel
theorem d_M_accepts_28 : decode b_M_accepts 28 = .ok (.getfield 17, 3) := by decide +kernel
theorem d_M_accepts_31 : decode b_M_accepts 31 = .ok (.invokestatic 41, 3) := by decide +kernel
theorem d_M_accepts_34 : decode b_M_accepts 34 = .ok (.ifCond .eq 63, 3) := by decide +kernel
theorem d_M_accepts_37 : decode b_M_accepts 37 = .ok (.aload_n 0, 1) := by decide +kernel
theorem d_M_accepts_38 : decode b_M_accepts 38 = .ok (.iload_n 3, 1) := by decide +kernel
theorem d_M_accepts_39 : decode b_M_accepts 39 = .ok (.i2l, 1) := by decide +kernel
theorem d_M_accepts_40 : decode b_M_accepts 40 = .ok (.invokevirtual 54, 3) := by decide +kernel
theorem d_M_accepts_43 : decode b_M_accepts 43 = .ok (.ifCond .eq 54, 3) := by decide +kernel
theorem d_M_accepts_46 : decode b_M_accepts 46 = .ok (.aload_n 0, 1) := by decide +kernel
theorem d_M_accepts_47 : decode b_M_accepts 47 = .ok (.iload 4, 2) := by decide +kernel
theorem d_M_accepts_49 : decode b_M_accepts 49 = .ok (.i2l, 1) := by decide +kernel
theorem d_M_accepts_50 : decode b_M_accepts 50 = .ok (.invokevirtual 54, 3) := by decide +kernel
theorem d_M_accepts_53 : decode b_M_accepts 53 = .ok (.ifCond .eq 44, 3) := by decide +kernel
theorem d_M_accepts_56 : decode b_M_accepts 56 = .ok (.aload_n 0, 1) := by decide +kernel
theorem d_M_accepts_57 : decode b_M_accepts 57 = .ok (.getfield 22, 3) := by decide +kernel
theorem d_M_accepts_60 : decode b_M_accepts 60 = .ok (.iload 4, 2) := by decide +kernel
theorem d_M_accepts_62 : decode b_M_accepts 62 = .ok (.i2l, 1) := by decide +kernel
theorem d_M_accepts_63 : decode b_M_accepts 63 = .ok (.aload_n 0, 1) := by decide +kernel
theorem d_M_accepts_64 : decode b_M_accepts 64 = .ok (.getfield 9, 3) := by decide +kernel
theorem d_M_accepts_67 : decode b_M_accepts 67 = .ok (.invokestatic 33, 3) := by decide +kernel
theorem d_M_accepts_70 : decode b_M_accepts 70 = .ok (.iload_n 2, 1) := by decide +kernel
theorem d_M_accepts_71 : decode b_M_accepts 71 = .ok (.i2l, 1) := by decide +kernel
theorem d_M_accepts_72 : decode b_M_accepts 72 = .ok (.iload_n 1, 1) := by decide +kernel
theorem d_M_accepts_73 : decode b_M_accepts 73 = .ok (.i2l, 1) := by decide +kernel
theorem d_M_accepts_74 : decode b_M_accepts 74 = .ok (.iload_n 3, 1) := by decide +kernel
theorem d_M_accepts_75 : decode b_M_accepts 75 = .ok (.i2l, 1) := by decide +kernel
theorem d_M_accepts_76 : decode b_M_accepts 76 = .ok (.aload_n 0, 1) := by decide +kernel
theorem d_M_accepts_77 : decode b_M_accepts 77 = .ok (.getfield 9, 3) := by decide +kernel
theorem d_M_accepts_80 : decode b_M_accepts 80 = .ok (.invokestatic 33, 3) := by decide +kernel
theorem d_M_accepts_83 : decode b_M_accepts 83 = .ok (.lmul, 1) := by decide +kernel
theorem d_M_accepts_84 : decode b_M_accepts 84 = .ok (.aload_n 0, 1) := by decide +kernel
theorem d_M_accepts_85 : decode b_M_accepts 85 = .ok (.getfield 9, 3) := by decide +kernel
theorem d_M_accepts_88 : decode b_M_accepts 88 = .ok (.lrem, 1) := by decide +kernel
theorem d_M_accepts_89 : decode b_M_accepts 89 = .ok (.lcmp, 1) := by decide +kernel
theorem d_M_accepts_90 : decode b_M_accepts 90 = .ok (.ifCond .ne 7, 3) := by decide +kernel
theorem d_M_accepts_93 : decode b_M_accepts 93 = .ok (.iconst 1, 1) := by decide +kernel
theorem d_M_accepts_94 : decode b_M_accepts 94 = .ok (.goto 4, 3) := by decide +kernel
theorem d_M_accepts_97 : decode b_M_accepts 97 = .ok (.iconst 0, 1) := by decide +kernel
theorem d_M_accepts_98 : decode b_M_accepts 98 = .ok (.ireturn, 1) := by decide +kernel
theorem d_M_isExponent_0 : decode b_M_isExponent 0 = .ok (.lload_n 1, 1) := by decide +kernel
theorem d_M_isExponent_1 : decode b_M_isExponent 1 = .ok (.lconst 0, 1) := by decide +kernel
theorem d_M_isExponent_2 : decode b_M_isExponent 2 = .ok (.aload_n 0, 1) := by decide +kernel
theorem d_M_isExponent_3 : decode b_M_isExponent 3 = .ok (.getfield 17, 3) := by decide +kernel
theorem d_M_isExponent_6 : decode b_M_isExponent 6 = .ok (.lconst 1, 1) := by decide +kernel
theorem d_M_isExponent_7 : decode b_M_isExponent 7 = .ok (.lsub, 1) := by decide +kernel
theorem d_M_isExponent_8 : decode b_M_isExponent 8 = .ok (.invokestatic 29, 3) := by decide +kernel
theorem d_M_isExponent_11 : decode b_M_isExponent 11 = .ok (.ireturn, 1) := by decide +kernel
theorem d_M_answer_0 : decode b_M_answer 0 = .ok (.aload_n 0, 1) := by decide +kernel
theorem d_M_answer_1 : decode b_M_answer 1 = .ok (.iconst 0, 1) := by decide +kernel
theorem d_M_answer_2 : decode b_M_answer 2 = .ok (.putfield 25, 3) := by decide +kernel
theorem d_M_answer_5 : decode b_M_answer 5 = .ok (.aload_n 0, 1) := by decide +kernel
theorem d_M_answer_6 : decode b_M_answer 6 = .ok (.aload_n 0, 1) := by decide +kernel
theorem d_M_answer_7 : decode b_M_answer 7 = .ok (.iload_n 1, 1) := by decide +kernel
theorem d_M_answer_8 : decode b_M_answer 8 = .ok (.i2l, 1) := by decide +kernel
theorem d_M_answer_9 : decode b_M_answer 9 = .ok (.invokevirtual 54, 3) := by decide +kernel
theorem d_M_answer_12 : decode b_M_answer 12 = .ok (.ifCond .eq 21, 3) := by decide +kernel
theorem d_M_answer_15 : decode b_M_answer 15 = .ok (.aload_n 0, 1) := by decide +kernel
theorem d_M_answer_16 : decode b_M_answer 16 = .ok (.iload_n 2, 1) := by decide +kernel
theorem d_M_answer_17 : decode b_M_answer 17 = .ok (.i2l, 1) := by decide +kernel
theorem d_M_answer_18 : decode b_M_answer 18 = .ok (.invokevirtual 54, 3) := by decide +kernel
theorem d_M_answer_21 : decode b_M_answer 21 = .ok (.ifCond .eq 12, 3) := by decide +kernel
theorem d_M_answer_24 : decode b_M_answer 24 = .ok (.aload_n 0, 1) := by decide +kernel
theorem d_M_answer_25 : decode b_M_answer 25 = .ok (.iload_n 3, 1) := by decide +kernel
theorem d_M_answer_26 : decode b_M_answer 26 = .ok (.i2l, 1) := by decide +kernel
theorem d_M_answer_27 : decode b_M_answer 27 = .ok (.invokevirtual 54, 3) := by decide +kernel
theorem d_M_answer_30 : decode b_M_answer 30 = .ok (.ifCond .ne 7, 3) := by decide +kernel
theorem d_M_answer_33 : decode b_M_answer 33 = .ok (.iconst 1, 1) := by decide +kernel
theorem d_M_answer_34 : decode b_M_answer 34 = .ok (.goto 4, 3) := by decide +kernel
theorem d_M_answer_37 : decode b_M_answer 37 = .ok (.iconst 0, 1) := by decide +kernel
theorem d_M_answer_38 : decode b_M_answer 38 = .ok (.iconst 1, 1) := by decide +kernel
theorem d_M_answer_39 : decode b_M_answer 39 = .ok (.invokevirtual 44, 3) := by decide +kernel
theorem d_M_answer_42 : decode b_M_answer 42 = .ok (.ifCond .eq 7, 3) := by decide +kernel
theorem d_M_answer_45 : decode b_M_answer 45 = .ok (.iconst 0, 1) := by decide +kernel
theorem d_M_answer_46 : decode b_M_answer 46 = .ok (.goto 17, 3) := by decide +kernel
theorem d_M_answer_49 : decode b_M_answer 49 = .ok (.iload_n 2, 1) := by decide +kernel
theorem d_M_answer_50 : decode b_M_answer 50 = .ok (.i2l, 1) := by decide +kernel
theorem d_M_answer_51 : decode b_M_answer 51 = .ok (.iload_n 3, 1) := by decide +kernel
theorem d_M_answer_52 : decode b_M_answer 52 = .ok (.i2l, 1) := by decide +kernel
theorem d_M_answer_53 : decode b_M_answer 53 = .ok (.iload_n 1, 1) := by decide +kernel
theorem d_M_answer_54 : decode b_M_answer 54 = .ok (.i2l, 1) := by decide +kernel
theorem d_M_answer_55 : decode b_M_answer 55 = .ok (.lmul, 1) := by decide +kernel
theorem d_M_answer_56 : decode b_M_answer 56 = .ok (.ladd, 1) := by decide +kernel
theorem d_M_answer_57 : decode b_M_answer 57 = .ok (.aload_n 0, 1) := by decide +kernel
theorem d_M_answer_58 : decode b_M_answer 58 = .ok (.getfield 17, 3) := by decide +kernel
theorem d_M_answer_61 : decode b_M_answer 61 = .ok (.lrem, 1) := by decide +kernel
theorem d_M_answer_62 : decode b_M_answer 62 = .ok (.l2i, 1) := by decide +kernel
theorem d_M_answer_63 : decode b_M_answer 63 = .ok (.ireturn, 1) := by decide +kernel
theorem d_M_feign_0 : decode b_M_feign 0 = .ok (.aload_n 0, 1) := by decide +kernel
theorem d_M_feign_1 : decode b_M_feign 1 = .ok (.iconst 0, 1) := by decide +kernel
theorem d_M_feign_2 : decode b_M_feign 2 = .ok (.putfield 25, 3) := by decide +kernel
theorem d_M_feign_5 : decode b_M_feign 5 = .ok (.aload_n 0, 1) := by decide +kernel
theorem d_M_feign_6 : decode b_M_feign 6 = .ok (.iload_n 1, 1) := by decide +kernel
theorem d_M_feign_7 : decode b_M_feign 7 = .ok (.i2l, 1) := by decide +kernel
theorem d_M_feign_8 : decode b_M_feign 8 = .ok (.aload_n 0, 1) := by decide +kernel
theorem d_M_feign_9 : decode b_M_feign 9 = .ok (.getfield 9, 3) := by decide +kernel
theorem d_M_feign_12 : decode b_M_feign 12 = .ok (.aload_n 0, 1) := by decide +kernel
theorem d_M_feign_13 : decode b_M_feign 13 = .ok (.getfield 17, 3) := by decide +kernel
theorem d_M_feign_16 : decode b_M_feign 16 = .ok (.invokestatic 41, 3) := by decide +kernel
theorem d_M_feign_19 : decode b_M_feign 19 = .ok (.ifCond .eq 21, 3) := by decide +kernel
theorem d_M_feign_22 : decode b_M_feign 22 = .ok (.aload_n 0, 1) := by decide +kernel
theorem d_M_feign_23 : decode b_M_feign 23 = .ok (.iload_n 2, 1) := by decide +kernel
theorem d_M_feign_24 : decode b_M_feign 24 = .ok (.i2l, 1) := by decide +kernel
theorem d_M_feign_25 : decode b_M_feign 25 = .ok (.invokevirtual 54, 3) := by decide +kernel
theorem d_M_feign_28 : decode b_M_feign 28 = .ok (.ifCond .eq 12, 3) := by decide +kernel
theorem d_M_feign_31 : decode b_M_feign 31 = .ok (.aload_n 0, 1) := by decide +kernel
theorem d_M_feign_32 : decode b_M_feign 32 = .ok (.iload_n 3, 1) := by decide +kernel
theorem d_M_feign_33 : decode b_M_feign 33 = .ok (.i2l, 1) := by decide +kernel
theorem d_M_feign_34 : decode b_M_feign 34 = .ok (.invokevirtual 54, 3) := by decide +kernel
theorem d_M_feign_37 : decode b_M_feign 37 = .ok (.ifCond .ne 7, 3) := by decide +kernel
theorem d_M_feign_40 : decode b_M_feign 40 = .ok (.iconst 1, 1) := by decide +kernel
theorem d_M_feign_41 : decode b_M_feign 41 = .ok (.goto 4, 3) := by decide +kernel
theorem d_M_feign_44 : decode b_M_feign 44 = .ok (.iconst 0, 1) := by decide +kernel
theorem d_M_feign_45 : decode b_M_feign 45 = .ok (.iconst 1, 1) := by decide +kernel
theorem d_M_feign_46 : decode b_M_feign 46 = .ok (.invokevirtual 44, 3) := by decide +kernel
theorem d_M_feign_49 : decode b_M_feign 49 = .ok (.ifCond .eq 7, 3) := by decide +kernel
theorem d_M_feign_52 : decode b_M_feign 52 = .ok (.iconst 0, 1) := by decide +kernel
theorem d_M_feign_53 : decode b_M_feign 53 = .ok (.goto 41, 3) := by decide +kernel
theorem d_M_feign_56 : decode b_M_feign 56 = .ok (.aload_n 0, 1) := by decide +kernel
theorem d_M_feign_57 : decode b_M_feign 57 = .ok (.getfield 22, 3) := by decide +kernel
theorem d_M_feign_60 : decode b_M_feign 60 = .ok (.iload_n 3, 1) := by decide +kernel
theorem d_M_feign_61 : decode b_M_feign 61 = .ok (.i2l, 1) := by decide +kernel
theorem d_M_feign_62 : decode b_M_feign 62 = .ok (.aload_n 0, 1) := by decide +kernel
theorem d_M_feign_63 : decode b_M_feign 63 = .ok (.getfield 9, 3) := by decide +kernel
theorem d_M_feign_66 : decode b_M_feign 66 = .ok (.invokestatic 33, 3) := by decide +kernel
theorem d_M_feign_69 : decode b_M_feign 69 = .ok (.iload_n 1, 1) := by decide +kernel
theorem d_M_feign_70 : decode b_M_feign 70 = .ok (.i2l, 1) := by decide +kernel
theorem d_M_feign_71 : decode b_M_feign 71 = .ok (.iload_n 2, 1) := by decide +kernel
theorem d_M_feign_72 : decode b_M_feign 72 = .ok (.i2l, 1) := by decide +kernel
theorem d_M_feign_73 : decode b_M_feign 73 = .ok (.aload_n 0, 1) := by decide +kernel
theorem d_M_feign_74 : decode b_M_feign 74 = .ok (.getfield 9, 3) := by decide +kernel
theorem d_M_feign_77 : decode b_M_feign 77 = .ok (.invokestatic 33, 3) := by decide +kernel
theorem d_M_feign_80 : decode b_M_feign 80 = .ok (.aload_n 0, 1) := by decide +kernel
theorem d_M_feign_81 : decode b_M_feign 81 = .ok (.getfield 9, 3) := by decide +kernel
theorem d_M_feign_84 : decode b_M_feign 84 = .ok (.invokestatic 48, 3) := by decide +kernel
theorem d_M_feign_87 : decode b_M_feign 87 = .ok (.lmul, 1) := by decide +kernel
theorem d_M_feign_88 : decode b_M_feign 88 = .ok (.aload_n 0, 1) := by decide +kernel
theorem d_M_feign_89 : decode b_M_feign 89 = .ok (.getfield 9, 3) := by decide +kernel
theorem d_M_feign_92 : decode b_M_feign 92 = .ok (.lrem, 1) := by decide +kernel
theorem d_M_feign_93 : decode b_M_feign 93 = .ok (.l2i, 1) := by decide +kernel
theorem d_M_feign_94 : decode b_M_feign 94 = .ok (.ireturn, 1) := by decide +kernel
theorem d_M_secret_0 : decode b_M_secret 0 = .ok (.aload_n 0, 1) := by decide +kernel
theorem d_M_secret_1 : decode b_M_secret 1 = .ok (.iconst 0, 1) := by decide +kernel
theorem d_M_secret_2 : decode b_M_secret 2 = .ok (.putfield 25, 3) := by decide +kernel
theorem d_M_secret_5 : decode b_M_secret 5 = .ok (.aload_n 0, 1) := by decide +kernel
theorem d_M_secret_6 : decode b_M_secret 6 = .ok (.aload_n 0, 1) := by decide +kernel
theorem d_M_secret_7 : decode b_M_secret 7 = .ok (.iload_n 1, 1) := by decide +kernel
theorem d_M_secret_8 : decode b_M_secret 8 = .ok (.i2l, 1) := by decide +kernel
theorem d_M_secret_9 : decode b_M_secret 9 = .ok (.invokevirtual 54, 3) := by decide +kernel
theorem d_M_secret_12 : decode b_M_secret 12 = .ok (.ifCond .eq 36, 3) := by decide +kernel
theorem d_M_secret_15 : decode b_M_secret 15 = .ok (.aload_n 0, 1) := by decide +kernel
theorem d_M_secret_16 : decode b_M_secret 16 = .ok (.iload_n 2, 1) := by decide +kernel
theorem d_M_secret_17 : decode b_M_secret 17 = .ok (.i2l, 1) := by decide +kernel
theorem d_M_secret_18 : decode b_M_secret 18 = .ok (.invokevirtual 54, 3) := by decide +kernel
theorem d_M_secret_21 : decode b_M_secret 21 = .ok (.ifCond .eq 27, 3) := by decide +kernel
theorem d_M_secret_24 : decode b_M_secret 24 = .ok (.aload_n 0, 1) := by decide +kernel
theorem d_M_secret_25 : decode b_M_secret 25 = .ok (.iload_n 3, 1) := by decide +kernel
theorem d_M_secret_26 : decode b_M_secret 26 = .ok (.i2l, 1) := by decide +kernel
theorem d_M_secret_27 : decode b_M_secret 27 = .ok (.invokevirtual 54, 3) := by decide +kernel
theorem d_M_secret_30 : decode b_M_secret 30 = .ok (.ifCond .eq 18, 3) := by decide +kernel
theorem d_M_secret_33 : decode b_M_secret 33 = .ok (.aload_n 0, 1) := by decide +kernel
theorem d_M_secret_34 : decode b_M_secret 34 = .ok (.iload 4, 2) := by decide +kernel
theorem d_M_secret_36 : decode b_M_secret 36 = .ok (.i2l, 1) := by decide +kernel
theorem d_M_secret_37 : decode b_M_secret 37 = .ok (.invokevirtual 54, 3) := by decide +kernel
theorem d_M_secret_40 : decode b_M_secret 40 = .ok (.ifCond .eq 8, 3) := by decide +kernel
theorem d_M_secret_43 : decode b_M_secret 43 = .ok (.iload_n 1, 1) := by decide +kernel
theorem d_M_secret_44 : decode b_M_secret 44 = .ok (.iload_n 3, 1) := by decide +kernel
theorem d_M_secret_45 : decode b_M_secret 45 = .ok (.if_icmp .ne 7, 3) := by decide +kernel
theorem d_M_secret_48 : decode b_M_secret 48 = .ok (.iconst 1, 1) := by decide +kernel
theorem d_M_secret_49 : decode b_M_secret 49 = .ok (.goto 4, 3) := by decide +kernel
theorem d_M_secret_52 : decode b_M_secret 52 = .ok (.iconst 0, 1) := by decide +kernel
theorem d_M_secret_53 : decode b_M_secret 53 = .ok (.iconst 1, 1) := by decide +kernel
theorem d_M_secret_54 : decode b_M_secret 54 = .ok (.invokevirtual 44, 3) := by decide +kernel
theorem d_M_secret_57 : decode b_M_secret 57 = .ok (.ifCond .eq 5, 3) := by decide +kernel
theorem d_M_secret_60 : decode b_M_secret 60 = .ok (.iconst 0, 1) := by decide +kernel
theorem d_M_secret_61 : decode b_M_secret 61 = .ok (.ireturn, 1) := by decide +kernel
theorem d_M_secret_62 : decode b_M_secret 62 = .ok (.iload_n 2, 1) := by decide +kernel
theorem d_M_secret_63 : decode b_M_secret 63 = .ok (.i2l, 1) := by decide +kernel
theorem d_M_secret_64 : decode b_M_secret 64 = .ok (.iload 4, 2) := by decide +kernel
theorem d_M_secret_66 : decode b_M_secret 66 = .ok (.i2l, 1) := by decide +kernel
theorem d_M_secret_67 : decode b_M_secret 67 = .ok (.lsub, 1) := by decide +kernel
theorem d_M_secret_68 : decode b_M_secret 68 = .ok (.aload_n 0, 1) := by decide +kernel
theorem d_M_secret_69 : decode b_M_secret 69 = .ok (.getfield 17, 3) := by decide +kernel
theorem d_M_secret_72 : decode b_M_secret 72 = .ok (.ladd, 1) := by decide +kernel
theorem d_M_secret_73 : decode b_M_secret 73 = .ok (.aload_n 0, 1) := by decide +kernel
theorem d_M_secret_74 : decode b_M_secret 74 = .ok (.getfield 17, 3) := by decide +kernel
theorem d_M_secret_77 : decode b_M_secret 77 = .ok (.lrem, 1) := by decide +kernel
theorem d_M_secret_78 : decode b_M_secret 78 = .ok (.lstore 5, 2) := by decide +kernel
theorem d_M_secret_80 : decode b_M_secret 80 = .ok (.iload_n 1, 1) := by decide +kernel
theorem d_M_secret_81 : decode b_M_secret 81 = .ok (.i2l, 1) := by decide +kernel
theorem d_M_secret_82 : decode b_M_secret 82 = .ok (.iload_n 3, 1) := by decide +kernel
theorem d_M_secret_83 : decode b_M_secret 83 = .ok (.i2l, 1) := by decide +kernel
theorem d_M_secret_84 : decode b_M_secret 84 = .ok (.lsub, 1) := by decide +kernel
theorem d_M_secret_85 : decode b_M_secret 85 = .ok (.aload_n 0, 1) := by decide +kernel
theorem d_M_secret_86 : decode b_M_secret 86 = .ok (.getfield 17, 3) := by decide +kernel
theorem d_M_secret_89 : decode b_M_secret 89 = .ok (.ladd, 1) := by decide +kernel
theorem d_M_secret_90 : decode b_M_secret 90 = .ok (.aload_n 0, 1) := by decide +kernel
theorem d_M_secret_91 : decode b_M_secret 91 = .ok (.getfield 17, 3) := by decide +kernel
theorem d_M_secret_94 : decode b_M_secret 94 = .ok (.lrem, 1) := by decide +kernel
theorem d_M_secret_95 : decode b_M_secret 95 = .ok (.lstore 7, 2) := by decide +kernel
theorem d_M_secret_97 : decode b_M_secret 97 = .ok (.lload 5, 2) := by decide +kernel
theorem d_M_secret_99 : decode b_M_secret 99 = .ok (.lload 7, 2) := by decide +kernel
theorem d_M_secret_101 : decode b_M_secret 101 = .ok (.aload_n 0, 1) := by decide +kernel
theorem d_M_secret_102 : decode b_M_secret 102 = .ok (.getfield 17, 3) := by decide +kernel
theorem d_M_secret_105 : decode b_M_secret 105 = .ok (.invokestatic 48, 3) := by decide +kernel
theorem d_M_secret_108 : decode b_M_secret 108 = .ok (.lmul, 1) := by decide +kernel
theorem d_M_secret_109 : decode b_M_secret 109 = .ok (.aload_n 0, 1) := by decide +kernel
theorem d_M_secret_110 : decode b_M_secret 110 = .ok (.getfield 17, 3) := by decide +kernel
theorem d_M_secret_113 : decode b_M_secret 113 = .ok (.lrem, 1) := by decide +kernel
theorem d_M_secret_114 : decode b_M_secret 114 = .ok (.l2i, 1) := by decide +kernel
theorem d_M_secret_115 : decode b_M_secret 115 = .ok (.ireturn, 1) := by decide +kernel
theorem d_M_count_0 : decode b_M_count 0 = .ok (.aload_n 0, 1) := by decide +kernel
theorem d_M_count_1 : decode b_M_count 1 = .ok (.iconst 0, 1) := by decide +kernel
theorem d_M_count_2 : decode b_M_count 2 = .ok (.putfield 25, 3) := by decide +kernel
theorem d_M_count_5 : decode b_M_count 5 = .ok (.aload_n 0, 1) := by decide +kernel
theorem d_M_count_6 : decode b_M_count 6 = .ok (.iload_n 1, 1) := by decide +kernel
theorem d_M_count_7 : decode b_M_count 7 = .ok (.i2l, 1) := by decide +kernel
theorem d_M_count_8 : decode b_M_count 8 = .ok (.lconst 0, 1) := by decide +kernel
theorem d_M_count_9 : decode b_M_count 9 = .ok (.ldc2_w 20, 3) := by decide +kernel
theorem d_M_count_12 : decode b_M_count 12 = .ok (.invokestatic 29, 3) := by decide +kernel
theorem d_M_count_15 : decode b_M_count 15 = .ok (.ifCond .ne 7, 3) := by decide +kernel
theorem d_M_count_18 : decode b_M_count 18 = .ok (.iconst 1, 1) := by decide +kernel
theorem d_M_count_19 : decode b_M_count 19 = .ok (.goto 4, 3) := by decide +kernel
theorem d_M_count_22 : decode b_M_count 22 = .ok (.iconst 0, 1) := by decide +kernel
theorem d_M_count_23 : decode b_M_count 23 = .ok (.iconst 1, 1) := by decide +kernel
theorem d_M_count_24 : decode b_M_count 24 = .ok (.invokevirtual 44, 3) := by decide +kernel
theorem d_M_count_27 : decode b_M_count 27 = .ok (.ifCond .eq 7, 3) := by decide +kernel
theorem d_M_count_30 : decode b_M_count 30 = .ok (.iconst 0, 1) := by decide +kernel
theorem d_M_count_31 : decode b_M_count 31 = .ok (.goto 31, 3) := by decide +kernel
theorem d_M_count_34 : decode b_M_count 34 = .ok (.iload_n 1, 1) := by decide +kernel
theorem d_M_count_35 : decode b_M_count 35 = .ok (.ifCond .ne 10, 3) := by decide +kernel
theorem d_M_count_38 : decode b_M_count 38 = .ok (.aload_n 0, 1) := by decide +kernel
theorem d_M_count_39 : decode b_M_count 39 = .ok (.getfield 9, 3) := by decide +kernel
theorem d_M_count_42 : decode b_M_count 42 = .ok (.goto 19, 3) := by decide +kernel
theorem d_M_count_45 : decode b_M_count 45 = .ok (.iload_n 1, 1) := by decide +kernel
theorem d_M_count_46 : decode b_M_count 46 = .ok (.iconst 1, 1) := by decide +kernel
theorem d_M_count_47 : decode b_M_count 47 = .ok (.if_icmp .ne 10, 3) := by decide +kernel
theorem d_M_count_50 : decode b_M_count 50 = .ok (.aload_n 0, 1) := by decide +kernel
theorem d_M_count_51 : decode b_M_count 51 = .ok (.getfield 17, 3) := by decide +kernel
theorem d_M_count_54 : decode b_M_count 54 = .ok (.goto 7, 3) := by decide +kernel
theorem d_M_count_57 : decode b_M_count 57 = .ok (.aload_n 0, 1) := by decide +kernel
theorem d_M_count_58 : decode b_M_count 58 = .ok (.getfield 22, 3) := by decide +kernel
theorem d_M_count_61 : decode b_M_count 61 = .ok (.l2i, 1) := by decide +kernel
theorem d_M_count_62 : decode b_M_count 62 = .ok (.ireturn, 1) := by decide +kernel
end
section
/-! decode rows -/
theorem d_L_product_0 : decode b_L_product 0 = .ok (.aload_n 3, 1) := by decide +kernel
theorem d_L_product_1 : decode b_L_product 1 = .ok (.iconst 0, 1) := by decide +kernel
theorem d_L_product_2 : decode b_L_product 2 = .ok (.aload_n 0, 1) := by decide +kernel
theorem d_L_product_3 : decode b_L_product 3 = .ok (.iload_n 1, 1) := by decide +kernel
theorem d_L_product_4 : decode b_L_product 4 = .ok (.iload_n 2, 1) := by decide +kernel
theorem d_L_product_5 : decode b_L_product 5 = .ok (.invokevirtual 7, 3) := by decide +kernel
theorem d_L_product_8 : decode b_L_product 8 = .ok (.i2l, 1) := by decide +kernel
theorem d_L_product_9 : decode b_L_product 9 = .ok (.lastore, 1) := by decide +kernel
theorem d_L_product_10 : decode b_L_product 10 = .ok (.goto 7, 3) := by decide +kernel
theorem d_L_product_13 : decode b_L_product 13 = .ok (.astore 4, 2) := by decide +kernel
theorem d_L_product_15 : decode b_L_product 15 = .ok (.iconst 1, 1) := by decide +kernel
theorem d_L_product_16 : decode b_L_product 16 = .ok (.ireturn, 1) := by decide +kernel
theorem d_L_product_17 : decode b_L_product 17 = .ok (.iconst 0, 1) := by decide +kernel
theorem d_L_product_18 : decode b_L_product 18 = .ok (.ireturn, 1) := by decide +kernel
theorem d_L_power_0 : decode b_L_power 0 = .ok (.aload 4, 2) := by decide +kernel
theorem d_L_power_2 : decode b_L_power 2 = .ok (.iconst 0, 1) := by decide +kernel
theorem d_L_power_3 : decode b_L_power 3 = .ok (.aload_n 0, 1) := by decide +kernel
theorem d_L_power_4 : decode b_L_power 4 = .ok (.iload_n 1, 1) := by decide +kernel
theorem d_L_power_5 : decode b_L_power 5 = .ok (.lload_n 2, 1) := by decide +kernel
theorem d_L_power_6 : decode b_L_power 6 = .ok (.invokevirtual 15, 3) := by decide +kernel
theorem d_L_power_9 : decode b_L_power 9 = .ok (.i2l, 1) := by decide +kernel
theorem d_L_power_10 : decode b_L_power 10 = .ok (.lastore, 1) := by decide +kernel
theorem d_L_power_11 : decode b_L_power 11 = .ok (.goto 7, 3) := by decide +kernel
theorem d_L_power_14 : decode b_L_power 14 = .ok (.astore 5, 2) := by decide +kernel
theorem d_L_power_16 : decode b_L_power 16 = .ok (.iconst 1, 1) := by decide +kernel
theorem d_L_power_17 : decode b_L_power 17 = .ok (.ireturn, 1) := by decide +kernel
theorem d_L_power_18 : decode b_L_power 18 = .ok (.iconst 0, 1) := by decide +kernel
theorem d_L_power_19 : decode b_L_power 19 = .ok (.ireturn, 1) := by decide +kernel
theorem d_L_inverse_0 : decode b_L_inverse 0 = .ok (.aload_n 2, 1) := by decide +kernel
theorem d_L_inverse_1 : decode b_L_inverse 1 = .ok (.iconst 0, 1) := by decide +kernel
theorem d_L_inverse_2 : decode b_L_inverse 2 = .ok (.aload_n 0, 1) := by decide +kernel
theorem d_L_inverse_3 : decode b_L_inverse 3 = .ok (.iload_n 1, 1) := by decide +kernel
theorem d_L_inverse_4 : decode b_L_inverse 4 = .ok (.invokevirtual 19, 3) := by decide +kernel
theorem d_L_inverse_7 : decode b_L_inverse 7 = .ok (.i2l, 1) := by decide +kernel
theorem d_L_inverse_8 : decode b_L_inverse 8 = .ok (.lastore, 1) := by decide +kernel
theorem d_L_inverse_9 : decode b_L_inverse 9 = .ok (.goto 6, 3) := by decide +kernel
theorem d_L_inverse_12 : decode b_L_inverse 12 = .ok (.astore_n 3, 1) := by decide +kernel
theorem d_L_inverse_13 : decode b_L_inverse 13 = .ok (.iconst 1, 1) := by decide +kernel
theorem d_L_inverse_14 : decode b_L_inverse 14 = .ok (.ireturn, 1) := by decide +kernel
theorem d_L_inverse_15 : decode b_L_inverse 15 = .ok (.iconst 0, 1) := by decide +kernel
theorem d_L_inverse_16 : decode b_L_inverse 16 = .ok (.ireturn, 1) := by decide +kernel
theorem d_L_log_0 : decode b_L_log 0 = .ok (.aload_n 2, 1) := by decide +kernel
theorem d_L_log_1 : decode b_L_log 1 = .ok (.iconst 0, 1) := by decide +kernel
theorem d_L_log_2 : decode b_L_log 2 = .ok (.aload_n 0, 1) := by decide +kernel
theorem d_L_log_3 : decode b_L_log 3 = .ok (.iload_n 1, 1) := by decide +kernel
theorem d_L_log_4 : decode b_L_log 4 = .ok (.invokevirtual 23, 3) := by decide +kernel
theorem d_L_log_7 : decode b_L_log 7 = .ok (.i2l, 1) := by decide +kernel
theorem d_L_log_8 : decode b_L_log 8 = .ok (.lastore, 1) := by decide +kernel
theorem d_L_log_9 : decode b_L_log 9 = .ok (.goto 9, 3) := by decide +kernel
theorem d_L_log_12 : decode b_L_log 12 = .ok (.astore_n 3, 1) := by decide +kernel
theorem d_L_log_13 : decode b_L_log 13 = .ok (.iconst 1, 1) := by decide +kernel
theorem d_L_log_14 : decode b_L_log 14 = .ok (.ireturn, 1) := by decide +kernel
theorem d_L_log_15 : decode b_L_log 15 = .ok (.astore_n 3, 1) := by decide +kernel
theorem d_L_log_16 : decode b_L_log 16 = .ok (.iconst 2, 1) := by decide +kernel
theorem d_L_log_17 : decode b_L_log 17 = .ok (.ireturn, 1) := by decide +kernel
theorem d_L_log_18 : decode b_L_log 18 = .ok (.iconst 0, 1) := by decide +kernel
theorem d_L_log_19 : decode b_L_log 19 = .ok (.ireturn, 1) := by decide +kernel
theorem d_L_answer_0 : decode b_L_answer 0 = .ok (.aload 4, 2) := by decide +kernel
theorem d_L_answer_2 : decode b_L_answer 2 = .ok (.iconst 0, 1) := by decide +kernel
theorem d_L_answer_3 : decode b_L_answer 3 = .ok (.aload_n 0, 1) := by decide +kernel
theorem d_L_answer_4 : decode b_L_answer 4 = .ok (.iload_n 1, 1) := by decide +kernel
theorem d_L_answer_5 : decode b_L_answer 5 = .ok (.iload_n 2, 1) := by decide +kernel
theorem d_L_answer_6 : decode b_L_answer 6 = .ok (.iload_n 3, 1) := by decide +kernel
theorem d_L_answer_7 : decode b_L_answer 7 = .ok (.invokevirtual 28, 3) := by decide +kernel
theorem d_L_answer_10 : decode b_L_answer 10 = .ok (.i2l, 1) := by decide +kernel
theorem d_L_answer_11 : decode b_L_answer 11 = .ok (.lastore, 1) := by decide +kernel
theorem d_L_answer_12 : decode b_L_answer 12 = .ok (.goto 7, 3) := by decide +kernel
theorem d_L_answer_15 : decode b_L_answer 15 = .ok (.astore 5, 2) := by decide +kernel
theorem d_L_answer_17 : decode b_L_answer 17 = .ok (.iconst 1, 1) := by decide +kernel
theorem d_L_answer_18 : decode b_L_answer 18 = .ok (.ireturn, 1) := by decide +kernel
theorem d_L_answer_19 : decode b_L_answer 19 = .ok (.iconst 0, 1) := by decide +kernel
theorem d_L_answer_20 : decode b_L_answer 20 = .ok (.ireturn, 1) := by decide +kernel
theorem d_L_feign_0 : decode b_L_feign 0 = .ok (.aload 4, 2) := by decide +kernel
theorem d_L_feign_2 : decode b_L_feign 2 = .ok (.iconst 0, 1) := by decide +kernel
theorem d_L_feign_3 : decode b_L_feign 3 = .ok (.aload_n 0, 1) := by decide +kernel
theorem d_L_feign_4 : decode b_L_feign 4 = .ok (.iload_n 1, 1) := by decide +kernel
theorem d_L_feign_5 : decode b_L_feign 5 = .ok (.iload_n 2, 1) := by decide +kernel
theorem d_L_feign_6 : decode b_L_feign 6 = .ok (.iload_n 3, 1) := by decide +kernel
theorem d_L_feign_7 : decode b_L_feign 7 = .ok (.invokevirtual 32, 3) := by decide +kernel
theorem d_L_feign_10 : decode b_L_feign 10 = .ok (.i2l, 1) := by decide +kernel
theorem d_L_feign_11 : decode b_L_feign 11 = .ok (.lastore, 1) := by decide +kernel
theorem d_L_feign_12 : decode b_L_feign 12 = .ok (.goto 7, 3) := by decide +kernel
theorem d_L_feign_15 : decode b_L_feign 15 = .ok (.astore 5, 2) := by decide +kernel
theorem d_L_feign_17 : decode b_L_feign 17 = .ok (.iconst 1, 1) := by decide +kernel
theorem d_L_feign_18 : decode b_L_feign 18 = .ok (.ireturn, 1) := by decide +kernel
theorem d_L_feign_19 : decode b_L_feign 19 = .ok (.iconst 0, 1) := by decide +kernel
theorem d_L_feign_20 : decode b_L_feign 20 = .ok (.ireturn, 1) := by decide +kernel
theorem d_L_secret_0 : decode b_L_secret 0 = .ok (.aload 5, 2) := by decide +kernel
theorem d_L_secret_2 : decode b_L_secret 2 = .ok (.iconst 0, 1) := by decide +kernel
theorem d_L_secret_3 : decode b_L_secret 3 = .ok (.aload_n 0, 1) := by decide +kernel
theorem d_L_secret_4 : decode b_L_secret 4 = .ok (.iload_n 1, 1) := by decide +kernel
theorem d_L_secret_5 : decode b_L_secret 5 = .ok (.iload_n 2, 1) := by decide +kernel
theorem d_L_secret_6 : decode b_L_secret 6 = .ok (.iload_n 3, 1) := by decide +kernel
theorem d_L_secret_7 : decode b_L_secret 7 = .ok (.iload 4, 2) := by decide +kernel
theorem d_L_secret_9 : decode b_L_secret 9 = .ok (.invokevirtual 35, 3) := by decide +kernel
theorem d_L_secret_12 : decode b_L_secret 12 = .ok (.i2l, 1) := by decide +kernel
theorem d_L_secret_13 : decode b_L_secret 13 = .ok (.lastore, 1) := by decide +kernel
theorem d_L_secret_14 : decode b_L_secret 14 = .ok (.goto 7, 3) := by decide +kernel
theorem d_L_secret_17 : decode b_L_secret 17 = .ok (.astore 6, 2) := by decide +kernel
theorem d_L_secret_19 : decode b_L_secret 19 = .ok (.iconst 1, 1) := by decide +kernel
theorem d_L_secret_20 : decode b_L_secret 20 = .ok (.ireturn, 1) := by decide +kernel
theorem d_L_secret_21 : decode b_L_secret 21 = .ok (.iconst 0, 1) := by decide +kernel
theorem d_L_secret_22 : decode b_L_secret 22 = .ok (.ireturn, 1) := by decide +kernel
theorem d_L_count_0 : decode b_L_count 0 = .ok (.aload_n 2, 1) := by decide +kernel
theorem d_L_count_1 : decode b_L_count 1 = .ok (.iconst 0, 1) := by decide +kernel
theorem d_L_count_2 : decode b_L_count 2 = .ok (.aload_n 0, 1) := by decide +kernel
theorem d_L_count_3 : decode b_L_count 3 = .ok (.iload_n 1, 1) := by decide +kernel
theorem d_L_count_4 : decode b_L_count 4 = .ok (.invokevirtual 39, 3) := by decide +kernel
theorem d_L_count_7 : decode b_L_count 7 = .ok (.i2l, 1) := by decide +kernel
theorem d_L_count_8 : decode b_L_count 8 = .ok (.lastore, 1) := by decide +kernel
theorem d_L_count_9 : decode b_L_count 9 = .ok (.goto 6, 3) := by decide +kernel
theorem d_L_count_12 : decode b_L_count 12 = .ok (.astore_n 3, 1) := by decide +kernel
theorem d_L_count_13 : decode b_L_count 13 = .ok (.iconst 1, 1) := by decide +kernel
theorem d_L_count_14 : decode b_L_count 14 = .ok (.ireturn, 1) := by decide +kernel
theorem d_L_count_15 : decode b_L_count 15 = .ok (.iconst 0, 1) := by decide +kernel
theorem d_L_count_16 : decode b_L_count 16 = .ok (.ireturn, 1) := by decide +kernel
end
section
/-! decode rows of the law -/
theorem d_W_0 : decode code 0 = .ok (.new 8, 3) := by decide +kernel
theorem d_W_3 : decode code 3 = .ok (.dup, 1) := by decide +kernel
theorem d_W_4 : decode code 4 = .ok (.invokespecial 42, 3) := by decide +kernel
theorem d_W_7 : decode code 7 = .ok (.astore_n 1, 1) := by decide +kernel
theorem d_W_8 : decode code 8 = .ok (.new 43, 3) := by decide +kernel
theorem d_W_11 : decode code 11 = .ok (.dup, 1) := by decide +kernel
theorem d_W_12 : decode code 12 = .ok (.invokespecial 45, 3) := by decide +kernel
theorem d_W_15 : decode code 15 = .ok (.astore_n 2, 1) := by decide +kernel
theorem d_W_16 : decode code 16 = .ok (.iconst 1, 1) := by decide +kernel
theorem d_W_17 : decode code 17 = .ok (.newarray .long, 2) := by decide +kernel
theorem d_W_19 : decode code 19 = .ok (.astore_n 3, 1) := by decide +kernel
theorem d_W_20 : decode code 20 = .ok (.iconst 0, 1) := by decide +kernel
theorem d_W_21 : decode code 21 = .ok (.istore 4, 2) := by decide +kernel
theorem d_W_23 : decode code 23 = .ok (.iload 4, 2) := by decide +kernel
theorem d_W_25 : decode code 25 = .ok (.aload_n 0, 1) := by decide +kernel
theorem d_W_26 : decode code 26 = .ok (.arraylength, 1) := by decide +kernel
theorem d_W_27 : decode code 27 = .ok (.iconst 5, 1) := by decide +kernel
theorem d_W_28 : decode code 28 = .ok (.isub, 1) := by decide +kernel
theorem d_W_29 : decode code 29 = .ok (.if_icmp .gt 784, 3) := by decide +kernel
theorem d_W_32 : decode code 32 = .ok (.aload_n 0, 1) := by decide +kernel
theorem d_W_33 : decode code 33 = .ok (.iload 4, 2) := by decide +kernel
theorem d_W_35 : decode code 35 = .ok (.iaload, 1) := by decide +kernel
theorem d_W_36 : decode code 36 = .ok (.bipush 15, 2) := by decide +kernel
theorem d_W_38 : decode code 38 = .ok (.iand, 1) := by decide +kernel
theorem d_W_39 : decode code 39 = .ok (.tableswitch 768 0 10 #[57, 94, 119, 187, 287, 343, 399, 460, 540, 620, 712], 57) := by decide +kernel
theorem d_W_96 : decode code 96 = .ok (.aload_n 1, 1) := by decide +kernel
theorem d_W_97 : decode code 97 = .ok (.aload_n 0, 1) := by decide +kernel
theorem d_W_98 : decode code 98 = .ok (.iload 4, 2) := by decide +kernel
theorem d_W_100 : decode code 100 = .ok (.iconst 1, 1) := by decide +kernel
theorem d_W_101 : decode code 101 = .ok (.iadd, 1) := by decide +kernel
theorem d_W_102 : decode code 102 = .ok (.iaload, 1) := by decide +kernel
theorem d_W_103 : decode code 103 = .ok (.aload_n 0, 1) := by decide +kernel
theorem d_W_104 : decode code 104 = .ok (.iload 4, 2) := by decide +kernel
theorem d_W_106 : decode code 106 = .ok (.iconst 2, 1) := by decide +kernel
theorem d_W_107 : decode code 107 = .ok (.iadd, 1) := by decide +kernel
theorem d_W_108 : decode code 108 = .ok (.iaload, 1) := by decide +kernel
theorem d_W_109 : decode code 109 = .ok (.invokevirtual 46, 3) := by decide +kernel
theorem d_W_112 : decode code 112 = .ok (.aload_n 2, 1) := by decide +kernel
theorem d_W_113 : decode code 113 = .ok (.aload_n 0, 1) := by decide +kernel
theorem d_W_114 : decode code 114 = .ok (.iload 4, 2) := by decide +kernel
theorem d_W_116 : decode code 116 = .ok (.iconst 1, 1) := by decide +kernel
theorem d_W_117 : decode code 117 = .ok (.iadd, 1) := by decide +kernel
theorem d_W_118 : decode code 118 = .ok (.iaload, 1) := by decide +kernel
theorem d_W_119 : decode code 119 = .ok (.aload_n 0, 1) := by decide +kernel
theorem d_W_120 : decode code 120 = .ok (.iload 4, 2) := by decide +kernel
theorem d_W_122 : decode code 122 = .ok (.iconst 2, 1) := by decide +kernel
theorem d_W_123 : decode code 123 = .ok (.iadd, 1) := by decide +kernel
theorem d_W_124 : decode code 124 = .ok (.iaload, 1) := by decide +kernel
theorem d_W_125 : decode code 125 = .ok (.invokevirtual 50, 3) := by decide +kernel
theorem d_W_128 : decode code 128 = .ok (.if_icmp .eq 679, 3) := by decide +kernel
theorem d_W_131 : decode code 131 = .ok (.iconst 0, 1) := by decide +kernel
theorem d_W_132 : decode code 132 = .ok (.ireturn, 1) := by decide +kernel
theorem d_W_133 : decode code 133 = .ok (.aload_n 1, 1) := by decide +kernel
theorem d_W_134 : decode code 134 = .ok (.aload_n 0, 1) := by decide +kernel
theorem d_W_135 : decode code 135 = .ok (.iload 4, 2) := by decide +kernel
theorem d_W_137 : decode code 137 = .ok (.iconst 1, 1) := by decide +kernel
theorem d_W_138 : decode code 138 = .ok (.iadd, 1) := by decide +kernel
theorem d_W_139 : decode code 139 = .ok (.iaload, 1) := by decide +kernel
theorem d_W_140 : decode code 140 = .ok (.invokevirtual 51, 3) := by decide +kernel
theorem d_W_143 : decode code 143 = .ok (.aload_n 2, 1) := by decide +kernel
end
section
/-! decode rows of the law -/
theorem d_W_144 : decode code 144 = .ok (.aload_n 0, 1) := by decide +kernel
theorem d_W_145 : decode code 145 = .ok (.iload 4, 2) := by decide +kernel
theorem d_W_147 : decode code 147 = .ok (.iconst 1, 1) := by decide +kernel
theorem d_W_148 : decode code 148 = .ok (.iadd, 1) := by decide +kernel
theorem d_W_149 : decode code 149 = .ok (.iaload, 1) := by decide +kernel
theorem d_W_150 : decode code 150 = .ok (.invokevirtual 55, 3) := by decide +kernel
theorem d_W_153 : decode code 153 = .ok (.if_icmp .eq 654, 3) := by decide +kernel
theorem d_W_156 : decode code 156 = .ok (.iconst 0, 1) := by decide +kernel
theorem d_W_157 : decode code 157 = .ok (.ireturn, 1) := by decide +kernel
theorem d_W_158 : decode code 158 = .ok (.aload_n 1, 1) := by decide +kernel
theorem d_W_159 : decode code 159 = .ok (.aload_n 0, 1) := by decide +kernel
theorem d_W_160 : decode code 160 = .ok (.iload 4, 2) := by decide +kernel
theorem d_W_162 : decode code 162 = .ok (.iconst 1, 1) := by decide +kernel
theorem d_W_163 : decode code 163 = .ok (.iadd, 1) := by decide +kernel
theorem d_W_164 : decode code 164 = .ok (.iaload, 1) := by decide +kernel
theorem d_W_165 : decode code 165 = .ok (.aload_n 0, 1) := by decide +kernel
theorem d_W_166 : decode code 166 = .ok (.iload 4, 2) := by decide +kernel
theorem d_W_168 : decode code 168 = .ok (.iconst 2, 1) := by decide +kernel
theorem d_W_169 : decode code 169 = .ok (.iadd, 1) := by decide +kernel
theorem d_W_170 : decode code 170 = .ok (.iaload, 1) := by decide +kernel
theorem d_W_171 : decode code 171 = .ok (.aload_n 3, 1) := by decide +kernel
theorem d_W_172 : decode code 172 = .ok (.invokestatic 56, 3) := by decide +kernel
theorem d_W_175 : decode code 175 = .ok (.istore 5, 2) := by decide +kernel
theorem d_W_177 : decode code 177 = .ok (.aload_n 2, 1) := by decide +kernel
theorem d_W_178 : decode code 178 = .ok (.aload_n 0, 1) := by decide +kernel
theorem d_W_179 : decode code 179 = .ok (.iload 4, 2) := by decide +kernel
theorem d_W_181 : decode code 181 = .ok (.iconst 1, 1) := by decide +kernel
theorem d_W_182 : decode code 182 = .ok (.iadd, 1) := by decide +kernel
theorem d_W_183 : decode code 183 = .ok (.iaload, 1) := by decide +kernel
theorem d_W_184 : decode code 184 = .ok (.aload_n 0, 1) := by decide +kernel
theorem d_W_185 : decode code 185 = .ok (.iload 4, 2) := by decide +kernel
theorem d_W_187 : decode code 187 = .ok (.iconst 2, 1) := by decide +kernel
theorem d_W_188 : decode code 188 = .ok (.iadd, 1) := by decide +kernel
theorem d_W_189 : decode code 189 = .ok (.iaload, 1) := by decide +kernel
theorem d_W_190 : decode code 190 = .ok (.invokevirtual 61, 3) := by decide +kernel
theorem d_W_193 : decode code 193 = .ok (.istore 6, 2) := by decide +kernel
theorem d_W_195 : decode code 195 = .ok (.aload_n 2, 1) := by decide +kernel
theorem d_W_196 : decode code 196 = .ok (.invokevirtual 62, 3) := by decide +kernel
theorem d_W_199 : decode code 199 = .ok (.iload 5, 2) := by decide +kernel
theorem d_W_201 : decode code 201 = .ok (.if_icmp .eq 5, 3) := by decide +kernel
theorem d_W_204 : decode code 204 = .ok (.iconst 0, 1) := by decide +kernel
theorem d_W_205 : decode code 205 = .ok (.ireturn, 1) := by decide +kernel
theorem d_W_206 : decode code 206 = .ok (.iload 5, 2) := by decide +kernel
theorem d_W_208 : decode code 208 = .ok (.ifCond .ne 15, 3) := by decide +kernel
theorem d_W_211 : decode code 211 = .ok (.aload_n 3, 1) := by decide +kernel
theorem d_W_212 : decode code 212 = .ok (.iconst 0, 1) := by decide +kernel
theorem d_W_213 : decode code 213 = .ok (.laload, 1) := by decide +kernel
theorem d_W_214 : decode code 214 = .ok (.iload 6, 2) := by decide +kernel
theorem d_W_216 : decode code 216 = .ok (.i2l, 1) := by decide +kernel
theorem d_W_217 : decode code 217 = .ok (.lcmp, 1) := by decide +kernel
theorem d_W_218 : decode code 218 = .ok (.ifCond .eq 5, 3) := by decide +kernel
theorem d_W_221 : decode code 221 = .ok (.iconst 0, 1) := by decide +kernel
theorem d_W_222 : decode code 222 = .ok (.ireturn, 1) := by decide +kernel
theorem d_W_223 : decode code 223 = .ok (.goto 584, 3) := by decide +kernel
theorem d_W_226 : decode code 226 = .ok (.aload_n 1, 1) := by decide +kernel
theorem d_W_227 : decode code 227 = .ok (.aload_n 0, 1) := by decide +kernel
theorem d_W_228 : decode code 228 = .ok (.iload 4, 2) := by decide +kernel
theorem d_W_230 : decode code 230 = .ok (.iconst 1, 1) := by decide +kernel
theorem d_W_231 : decode code 231 = .ok (.iadd, 1) := by decide +kernel
theorem d_W_232 : decode code 232 = .ok (.iaload, 1) := by decide +kernel
end
section
/-! decode rows of the law -/
theorem d_W_233 : decode code 233 = .ok (.aload_n 0, 1) := by decide +kernel
theorem d_W_234 : decode code 234 = .ok (.iload 4, 2) := by decide +kernel
theorem d_W_236 : decode code 236 = .ok (.iconst 2, 1) := by decide +kernel
theorem d_W_237 : decode code 237 = .ok (.iadd, 1) := by decide +kernel
theorem d_W_238 : decode code 238 = .ok (.iaload, 1) := by decide +kernel
theorem d_W_239 : decode code 239 = .ok (.i2l, 1) := by decide +kernel
theorem d_W_240 : decode code 240 = .ok (.bipush 32, 2) := by decide +kernel
theorem d_W_242 : decode code 242 = .ok (.lshl, 1) := by decide +kernel
theorem d_W_243 : decode code 243 = .ok (.aload_n 0, 1) := by decide +kernel
theorem d_W_244 : decode code 244 = .ok (.iload 4, 2) := by decide +kernel
theorem d_W_246 : decode code 246 = .ok (.iconst 3, 1) := by decide +kernel
theorem d_W_247 : decode code 247 = .ok (.iadd, 1) := by decide +kernel
theorem d_W_248 : decode code 248 = .ok (.iaload, 1) := by decide +kernel
theorem d_W_249 : decode code 249 = .ok (.i2l, 1) := by decide +kernel
theorem d_W_250 : decode code 250 = .ok (.ldc2_w 66, 3) := by decide +kernel
theorem d_W_253 : decode code 253 = .ok (.land, 1) := by decide +kernel
theorem d_W_254 : decode code 254 = .ok (.lor, 1) := by decide +kernel
theorem d_W_255 : decode code 255 = .ok (.aload_n 3, 1) := by decide +kernel
theorem d_W_256 : decode code 256 = .ok (.invokestatic 68, 3) := by decide +kernel
theorem d_W_259 : decode code 259 = .ok (.istore 5, 2) := by decide +kernel
theorem d_W_261 : decode code 261 = .ok (.aload_n 2, 1) := by decide +kernel
theorem d_W_262 : decode code 262 = .ok (.aload_n 0, 1) := by decide +kernel
theorem d_W_263 : decode code 263 = .ok (.iload 4, 2) := by decide +kernel
theorem d_W_265 : decode code 265 = .ok (.iconst 1, 1) := by decide +kernel
theorem d_W_266 : decode code 266 = .ok (.iadd, 1) := by decide +kernel
theorem d_W_267 : decode code 267 = .ok (.iaload, 1) := by decide +kernel
theorem d_W_268 : decode code 268 = .ok (.aload_n 0, 1) := by decide +kernel
theorem d_W_269 : decode code 269 = .ok (.iload 4, 2) := by decide +kernel
theorem d_W_271 : decode code 271 = .ok (.iconst 2, 1) := by decide +kernel
theorem d_W_272 : decode code 272 = .ok (.iadd, 1) := by decide +kernel
theorem d_W_273 : decode code 273 = .ok (.iaload, 1) := by decide +kernel
theorem d_W_274 : decode code 274 = .ok (.i2l, 1) := by decide +kernel
theorem d_W_275 : decode code 275 = .ok (.bipush 32, 2) := by decide +kernel
theorem d_W_277 : decode code 277 = .ok (.lshl, 1) := by decide +kernel
theorem d_W_278 : decode code 278 = .ok (.aload_n 0, 1) := by decide +kernel
theorem d_W_279 : decode code 279 = .ok (.iload 4, 2) := by decide +kernel
theorem d_W_281 : decode code 281 = .ok (.iconst 3, 1) := by decide +kernel
theorem d_W_282 : decode code 282 = .ok (.iadd, 1) := by decide +kernel
theorem d_W_283 : decode code 283 = .ok (.iaload, 1) := by decide +kernel
theorem d_W_284 : decode code 284 = .ok (.i2l, 1) := by decide +kernel
theorem d_W_285 : decode code 285 = .ok (.ldc2_w 66, 3) := by decide +kernel
theorem d_W_288 : decode code 288 = .ok (.land, 1) := by decide +kernel
theorem d_W_289 : decode code 289 = .ok (.lor, 1) := by decide +kernel
theorem d_W_290 : decode code 290 = .ok (.invokevirtual 71, 3) := by decide +kernel
theorem d_W_293 : decode code 293 = .ok (.istore 6, 2) := by decide +kernel
theorem d_W_295 : decode code 295 = .ok (.aload_n 2, 1) := by decide +kernel
theorem d_W_296 : decode code 296 = .ok (.invokevirtual 62, 3) := by decide +kernel
theorem d_W_299 : decode code 299 = .ok (.iload 5, 2) := by decide +kernel
theorem d_W_301 : decode code 301 = .ok (.if_icmp .eq 5, 3) := by decide +kernel
theorem d_W_304 : decode code 304 = .ok (.iconst 0, 1) := by decide +kernel
theorem d_W_305 : decode code 305 = .ok (.ireturn, 1) := by decide +kernel
theorem d_W_306 : decode code 306 = .ok (.iload 5, 2) := by decide +kernel
theorem d_W_308 : decode code 308 = .ok (.ifCond .ne 15, 3) := by decide +kernel
theorem d_W_311 : decode code 311 = .ok (.aload_n 3, 1) := by decide +kernel
theorem d_W_312 : decode code 312 = .ok (.iconst 0, 1) := by decide +kernel
theorem d_W_313 : decode code 313 = .ok (.laload, 1) := by decide +kernel
theorem d_W_314 : decode code 314 = .ok (.iload 6, 2) := by decide +kernel
theorem d_W_316 : decode code 316 = .ok (.i2l, 1) := by decide +kernel
theorem d_W_317 : decode code 317 = .ok (.lcmp, 1) := by decide +kernel
theorem d_W_318 : decode code 318 = .ok (.ifCond .eq 5, 3) := by decide +kernel
end
section
/-! decode rows of the law -/
theorem d_W_321 : decode code 321 = .ok (.iconst 0, 1) := by decide +kernel
theorem d_W_322 : decode code 322 = .ok (.ireturn, 1) := by decide +kernel
theorem d_W_323 : decode code 323 = .ok (.goto 484, 3) := by decide +kernel
theorem d_W_326 : decode code 326 = .ok (.aload_n 1, 1) := by decide +kernel
theorem d_W_327 : decode code 327 = .ok (.aload_n 0, 1) := by decide +kernel
theorem d_W_328 : decode code 328 = .ok (.iload 4, 2) := by decide +kernel
theorem d_W_330 : decode code 330 = .ok (.iconst 1, 1) := by decide +kernel
theorem d_W_331 : decode code 331 = .ok (.iadd, 1) := by decide +kernel
theorem d_W_332 : decode code 332 = .ok (.iaload, 1) := by decide +kernel
theorem d_W_333 : decode code 333 = .ok (.aload_n 3, 1) := by decide +kernel
theorem d_W_334 : decode code 334 = .ok (.invokestatic 72, 3) := by decide +kernel
theorem d_W_337 : decode code 337 = .ok (.istore 5, 2) := by decide +kernel
theorem d_W_339 : decode code 339 = .ok (.aload_n 2, 1) := by decide +kernel
theorem d_W_340 : decode code 340 = .ok (.aload_n 0, 1) := by decide +kernel
theorem d_W_341 : decode code 341 = .ok (.iload 4, 2) := by decide +kernel
theorem d_W_343 : decode code 343 = .ok (.iconst 1, 1) := by decide +kernel
theorem d_W_344 : decode code 344 = .ok (.iadd, 1) := by decide +kernel
theorem d_W_345 : decode code 345 = .ok (.iaload, 1) := by decide +kernel
theorem d_W_346 : decode code 346 = .ok (.invokevirtual 75, 3) := by decide +kernel
theorem d_W_349 : decode code 349 = .ok (.istore 6, 2) := by decide +kernel
theorem d_W_351 : decode code 351 = .ok (.aload_n 2, 1) := by decide +kernel
theorem d_W_352 : decode code 352 = .ok (.invokevirtual 62, 3) := by decide +kernel
theorem d_W_355 : decode code 355 = .ok (.iload 5, 2) := by decide +kernel
theorem d_W_357 : decode code 357 = .ok (.if_icmp .eq 5, 3) := by decide +kernel
theorem d_W_360 : decode code 360 = .ok (.iconst 0, 1) := by decide +kernel
theorem d_W_361 : decode code 361 = .ok (.ireturn, 1) := by decide +kernel
theorem d_W_362 : decode code 362 = .ok (.iload 5, 2) := by decide +kernel
theorem d_W_364 : decode code 364 = .ok (.ifCond .ne 15, 3) := by decide +kernel
theorem d_W_367 : decode code 367 = .ok (.aload_n 3, 1) := by decide +kernel
theorem d_W_368 : decode code 368 = .ok (.iconst 0, 1) := by decide +kernel
theorem d_W_369 : decode code 369 = .ok (.laload, 1) := by decide +kernel
theorem d_W_370 : decode code 370 = .ok (.iload 6, 2) := by decide +kernel
theorem d_W_372 : decode code 372 = .ok (.i2l, 1) := by decide +kernel
theorem d_W_373 : decode code 373 = .ok (.lcmp, 1) := by decide +kernel
theorem d_W_374 : decode code 374 = .ok (.ifCond .eq 5, 3) := by decide +kernel
theorem d_W_377 : decode code 377 = .ok (.iconst 0, 1) := by decide +kernel
theorem d_W_378 : decode code 378 = .ok (.ireturn, 1) := by decide +kernel
theorem d_W_379 : decode code 379 = .ok (.goto 428, 3) := by decide +kernel
theorem d_W_382 : decode code 382 = .ok (.aload_n 1, 1) := by decide +kernel
theorem d_W_383 : decode code 383 = .ok (.aload_n 0, 1) := by decide +kernel
theorem d_W_384 : decode code 384 = .ok (.iload 4, 2) := by decide +kernel
theorem d_W_386 : decode code 386 = .ok (.iconst 1, 1) := by decide +kernel
theorem d_W_387 : decode code 387 = .ok (.iadd, 1) := by decide +kernel
theorem d_W_388 : decode code 388 = .ok (.iaload, 1) := by decide +kernel
theorem d_W_389 : decode code 389 = .ok (.aload_n 3, 1) := by decide +kernel
theorem d_W_390 : decode code 390 = .ok (.invokestatic 76, 3) := by decide +kernel
theorem d_W_393 : decode code 393 = .ok (.istore 5, 2) := by decide +kernel
theorem d_W_395 : decode code 395 = .ok (.aload_n 2, 1) := by decide +kernel
theorem d_W_396 : decode code 396 = .ok (.aload_n 0, 1) := by decide +kernel
theorem d_W_397 : decode code 397 = .ok (.iload 4, 2) := by decide +kernel
theorem d_W_399 : decode code 399 = .ok (.iconst 1, 1) := by decide +kernel
theorem d_W_400 : decode code 400 = .ok (.iadd, 1) := by decide +kernel
theorem d_W_401 : decode code 401 = .ok (.iaload, 1) := by decide +kernel
theorem d_W_402 : decode code 402 = .ok (.invokevirtual 78, 3) := by decide +kernel
theorem d_W_405 : decode code 405 = .ok (.istore 6, 2) := by decide +kernel
theorem d_W_407 : decode code 407 = .ok (.aload_n 2, 1) := by decide +kernel
theorem d_W_408 : decode code 408 = .ok (.invokevirtual 62, 3) := by decide +kernel
theorem d_W_411 : decode code 411 = .ok (.iload 5, 2) := by decide +kernel
theorem d_W_413 : decode code 413 = .ok (.if_icmp .eq 5, 3) := by decide +kernel
theorem d_W_416 : decode code 416 = .ok (.iconst 0, 1) := by decide +kernel
end
section
/-! decode rows of the law -/
theorem d_W_417 : decode code 417 = .ok (.ireturn, 1) := by decide +kernel
theorem d_W_418 : decode code 418 = .ok (.iload 5, 2) := by decide +kernel
theorem d_W_420 : decode code 420 = .ok (.ifCond .ne 15, 3) := by decide +kernel
theorem d_W_423 : decode code 423 = .ok (.aload_n 3, 1) := by decide +kernel
theorem d_W_424 : decode code 424 = .ok (.iconst 0, 1) := by decide +kernel
theorem d_W_425 : decode code 425 = .ok (.laload, 1) := by decide +kernel
theorem d_W_426 : decode code 426 = .ok (.iload 6, 2) := by decide +kernel
theorem d_W_428 : decode code 428 = .ok (.i2l, 1) := by decide +kernel
theorem d_W_429 : decode code 429 = .ok (.lcmp, 1) := by decide +kernel
theorem d_W_430 : decode code 430 = .ok (.ifCond .eq 5, 3) := by decide +kernel
theorem d_W_433 : decode code 433 = .ok (.iconst 0, 1) := by decide +kernel
theorem d_W_434 : decode code 434 = .ok (.ireturn, 1) := by decide +kernel
theorem d_W_435 : decode code 435 = .ok (.goto 372, 3) := by decide +kernel
theorem d_W_438 : decode code 438 = .ok (.aload_n 1, 1) := by decide +kernel
theorem d_W_439 : decode code 439 = .ok (.aload_n 0, 1) := by decide +kernel
theorem d_W_440 : decode code 440 = .ok (.iload 4, 2) := by decide +kernel
theorem d_W_442 : decode code 442 = .ok (.iconst 1, 1) := by decide +kernel
theorem d_W_443 : decode code 443 = .ok (.iadd, 1) := by decide +kernel
theorem d_W_444 : decode code 444 = .ok (.iaload, 1) := by decide +kernel
theorem d_W_445 : decode code 445 = .ok (.aload_n 0, 1) := by decide +kernel
theorem d_W_446 : decode code 446 = .ok (.iload 4, 2) := by decide +kernel
theorem d_W_448 : decode code 448 = .ok (.iconst 2, 1) := by decide +kernel
theorem d_W_449 : decode code 449 = .ok (.iadd, 1) := by decide +kernel
theorem d_W_450 : decode code 450 = .ok (.iaload, 1) := by decide +kernel
theorem d_W_451 : decode code 451 = .ok (.aload_n 0, 1) := by decide +kernel
theorem d_W_452 : decode code 452 = .ok (.iload 4, 2) := by decide +kernel
theorem d_W_454 : decode code 454 = .ok (.iconst 3, 1) := by decide +kernel
theorem d_W_455 : decode code 455 = .ok (.iadd, 1) := by decide +kernel
theorem d_W_456 : decode code 456 = .ok (.iaload, 1) := by decide +kernel
theorem d_W_457 : decode code 457 = .ok (.aload_n 0, 1) := by decide +kernel
theorem d_W_458 : decode code 458 = .ok (.iload 4, 2) := by decide +kernel
theorem d_W_460 : decode code 460 = .ok (.iconst 4, 1) := by decide +kernel
theorem d_W_461 : decode code 461 = .ok (.iadd, 1) := by decide +kernel
theorem d_W_462 : decode code 462 = .ok (.iaload, 1) := by decide +kernel
theorem d_W_463 : decode code 463 = .ok (.invokevirtual 79, 3) := by decide +kernel
theorem d_W_466 : decode code 466 = .ok (.aload_n 2, 1) := by decide +kernel
theorem d_W_467 : decode code 467 = .ok (.aload_n 0, 1) := by decide +kernel
theorem d_W_468 : decode code 468 = .ok (.iload 4, 2) := by decide +kernel
theorem d_W_470 : decode code 470 = .ok (.iconst 1, 1) := by decide +kernel
theorem d_W_471 : decode code 471 = .ok (.iadd, 1) := by decide +kernel
theorem d_W_472 : decode code 472 = .ok (.iaload, 1) := by decide +kernel
theorem d_W_473 : decode code 473 = .ok (.aload_n 0, 1) := by decide +kernel
theorem d_W_474 : decode code 474 = .ok (.iload 4, 2) := by decide +kernel
theorem d_W_476 : decode code 476 = .ok (.iconst 2, 1) := by decide +kernel
theorem d_W_477 : decode code 477 = .ok (.iadd, 1) := by decide +kernel
theorem d_W_478 : decode code 478 = .ok (.iaload, 1) := by decide +kernel
theorem d_W_479 : decode code 479 = .ok (.aload_n 0, 1) := by decide +kernel
theorem d_W_480 : decode code 480 = .ok (.iload 4, 2) := by decide +kernel
theorem d_W_482 : decode code 482 = .ok (.iconst 3, 1) := by decide +kernel
theorem d_W_483 : decode code 483 = .ok (.iadd, 1) := by decide +kernel
theorem d_W_484 : decode code 484 = .ok (.iaload, 1) := by decide +kernel
theorem d_W_485 : decode code 485 = .ok (.aload_n 0, 1) := by decide +kernel
theorem d_W_486 : decode code 486 = .ok (.iload 4, 2) := by decide +kernel
theorem d_W_488 : decode code 488 = .ok (.iconst 4, 1) := by decide +kernel
theorem d_W_489 : decode code 489 = .ok (.iadd, 1) := by decide +kernel
theorem d_W_490 : decode code 490 = .ok (.iaload, 1) := by decide +kernel
theorem d_W_491 : decode code 491 = .ok (.invokevirtual 83, 3) := by decide +kernel
theorem d_W_494 : decode code 494 = .ok (.if_icmp .eq 313, 3) := by decide +kernel
theorem d_W_497 : decode code 497 = .ok (.iconst 0, 1) := by decide +kernel
theorem d_W_498 : decode code 498 = .ok (.ireturn, 1) := by decide +kernel
end
section
/-! decode rows of the law -/
theorem d_W_499 : decode code 499 = .ok (.aload_n 1, 1) := by decide +kernel
theorem d_W_500 : decode code 500 = .ok (.aload_n 0, 1) := by decide +kernel
theorem d_W_501 : decode code 501 = .ok (.iload 4, 2) := by decide +kernel
theorem d_W_503 : decode code 503 = .ok (.iconst 1, 1) := by decide +kernel
theorem d_W_504 : decode code 504 = .ok (.iadd, 1) := by decide +kernel
theorem d_W_505 : decode code 505 = .ok (.iaload, 1) := by decide +kernel
theorem d_W_506 : decode code 506 = .ok (.aload_n 0, 1) := by decide +kernel
theorem d_W_507 : decode code 507 = .ok (.iload 4, 2) := by decide +kernel
theorem d_W_509 : decode code 509 = .ok (.iconst 2, 1) := by decide +kernel
theorem d_W_510 : decode code 510 = .ok (.iadd, 1) := by decide +kernel
theorem d_W_511 : decode code 511 = .ok (.iaload, 1) := by decide +kernel
theorem d_W_512 : decode code 512 = .ok (.aload_n 0, 1) := by decide +kernel
theorem d_W_513 : decode code 513 = .ok (.iload 4, 2) := by decide +kernel
theorem d_W_515 : decode code 515 = .ok (.iconst 3, 1) := by decide +kernel
theorem d_W_516 : decode code 516 = .ok (.iadd, 1) := by decide +kernel
theorem d_W_517 : decode code 517 = .ok (.iaload, 1) := by decide +kernel
theorem d_W_518 : decode code 518 = .ok (.aload_n 3, 1) := by decide +kernel
theorem d_W_519 : decode code 519 = .ok (.invokestatic 84, 3) := by decide +kernel
theorem d_W_522 : decode code 522 = .ok (.istore 5, 2) := by decide +kernel
theorem d_W_524 : decode code 524 = .ok (.aload_n 2, 1) := by decide +kernel
theorem d_W_525 : decode code 525 = .ok (.aload_n 0, 1) := by decide +kernel
theorem d_W_526 : decode code 526 = .ok (.iload 4, 2) := by decide +kernel
theorem d_W_528 : decode code 528 = .ok (.iconst 1, 1) := by decide +kernel
theorem d_W_529 : decode code 529 = .ok (.iadd, 1) := by decide +kernel
theorem d_W_530 : decode code 530 = .ok (.iaload, 1) := by decide +kernel
theorem d_W_531 : decode code 531 = .ok (.aload_n 0, 1) := by decide +kernel
theorem d_W_532 : decode code 532 = .ok (.iload 4, 2) := by decide +kernel
theorem d_W_534 : decode code 534 = .ok (.iconst 2, 1) := by decide +kernel
theorem d_W_535 : decode code 535 = .ok (.iadd, 1) := by decide +kernel
theorem d_W_536 : decode code 536 = .ok (.iaload, 1) := by decide +kernel
theorem d_W_537 : decode code 537 = .ok (.aload_n 0, 1) := by decide +kernel
theorem d_W_538 : decode code 538 = .ok (.iload 4, 2) := by decide +kernel
theorem d_W_540 : decode code 540 = .ok (.iconst 3, 1) := by decide +kernel
theorem d_W_541 : decode code 541 = .ok (.iadd, 1) := by decide +kernel
theorem d_W_542 : decode code 542 = .ok (.iaload, 1) := by decide +kernel
theorem d_W_543 : decode code 543 = .ok (.invokevirtual 87, 3) := by decide +kernel
theorem d_W_546 : decode code 546 = .ok (.istore 6, 2) := by decide +kernel
theorem d_W_548 : decode code 548 = .ok (.aload_n 2, 1) := by decide +kernel
theorem d_W_549 : decode code 549 = .ok (.invokevirtual 62, 3) := by decide +kernel
theorem d_W_552 : decode code 552 = .ok (.iload 5, 2) := by decide +kernel
theorem d_W_554 : decode code 554 = .ok (.if_icmp .eq 5, 3) := by decide +kernel
theorem d_W_557 : decode code 557 = .ok (.iconst 0, 1) := by decide +kernel
theorem d_W_558 : decode code 558 = .ok (.ireturn, 1) := by decide +kernel
theorem d_W_559 : decode code 559 = .ok (.iload 5, 2) := by decide +kernel
theorem d_W_561 : decode code 561 = .ok (.ifCond .ne 15, 3) := by decide +kernel
theorem d_W_564 : decode code 564 = .ok (.aload_n 3, 1) := by decide +kernel
theorem d_W_565 : decode code 565 = .ok (.iconst 0, 1) := by decide +kernel
theorem d_W_566 : decode code 566 = .ok (.laload, 1) := by decide +kernel
theorem d_W_567 : decode code 567 = .ok (.iload 6, 2) := by decide +kernel
theorem d_W_569 : decode code 569 = .ok (.i2l, 1) := by decide +kernel
theorem d_W_570 : decode code 570 = .ok (.lcmp, 1) := by decide +kernel
theorem d_W_571 : decode code 571 = .ok (.ifCond .eq 5, 3) := by decide +kernel
theorem d_W_574 : decode code 574 = .ok (.iconst 0, 1) := by decide +kernel
theorem d_W_575 : decode code 575 = .ok (.ireturn, 1) := by decide +kernel
theorem d_W_576 : decode code 576 = .ok (.goto 231, 3) := by decide +kernel
theorem d_W_579 : decode code 579 = .ok (.aload_n 1, 1) := by decide +kernel
theorem d_W_580 : decode code 580 = .ok (.aload_n 0, 1) := by decide +kernel
theorem d_W_581 : decode code 581 = .ok (.iload 4, 2) := by decide +kernel
theorem d_W_583 : decode code 583 = .ok (.iconst 1, 1) := by decide +kernel
theorem d_W_584 : decode code 584 = .ok (.iadd, 1) := by decide +kernel
end
section
/-! decode rows of the law -/
theorem d_W_585 : decode code 585 = .ok (.iaload, 1) := by decide +kernel
theorem d_W_586 : decode code 586 = .ok (.aload_n 0, 1) := by decide +kernel
theorem d_W_587 : decode code 587 = .ok (.iload 4, 2) := by decide +kernel
theorem d_W_589 : decode code 589 = .ok (.iconst 2, 1) := by decide +kernel
theorem d_W_590 : decode code 590 = .ok (.iadd, 1) := by decide +kernel
theorem d_W_591 : decode code 591 = .ok (.iaload, 1) := by decide +kernel
theorem d_W_592 : decode code 592 = .ok (.aload_n 0, 1) := by decide +kernel
theorem d_W_593 : decode code 593 = .ok (.iload 4, 2) := by decide +kernel
theorem d_W_595 : decode code 595 = .ok (.iconst 3, 1) := by decide +kernel
theorem d_W_596 : decode code 596 = .ok (.iadd, 1) := by decide +kernel
theorem d_W_597 : decode code 597 = .ok (.iaload, 1) := by decide +kernel
theorem d_W_598 : decode code 598 = .ok (.aload_n 3, 1) := by decide +kernel
theorem d_W_599 : decode code 599 = .ok (.invokestatic 88, 3) := by decide +kernel
theorem d_W_602 : decode code 602 = .ok (.istore 5, 2) := by decide +kernel
theorem d_W_604 : decode code 604 = .ok (.aload_n 2, 1) := by decide +kernel
theorem d_W_605 : decode code 605 = .ok (.aload_n 0, 1) := by decide +kernel
theorem d_W_606 : decode code 606 = .ok (.iload 4, 2) := by decide +kernel
theorem d_W_608 : decode code 608 = .ok (.iconst 1, 1) := by decide +kernel
theorem d_W_609 : decode code 609 = .ok (.iadd, 1) := by decide +kernel
theorem d_W_610 : decode code 610 = .ok (.iaload, 1) := by decide +kernel
theorem d_W_611 : decode code 611 = .ok (.aload_n 0, 1) := by decide +kernel
theorem d_W_612 : decode code 612 = .ok (.iload 4, 2) := by decide +kernel
theorem d_W_614 : decode code 614 = .ok (.iconst 2, 1) := by decide +kernel
theorem d_W_615 : decode code 615 = .ok (.iadd, 1) := by decide +kernel
theorem d_W_616 : decode code 616 = .ok (.iaload, 1) := by decide +kernel
theorem d_W_617 : decode code 617 = .ok (.aload_n 0, 1) := by decide +kernel
theorem d_W_618 : decode code 618 = .ok (.iload 4, 2) := by decide +kernel
theorem d_W_620 : decode code 620 = .ok (.iconst 3, 1) := by decide +kernel
theorem d_W_621 : decode code 621 = .ok (.iadd, 1) := by decide +kernel
theorem d_W_622 : decode code 622 = .ok (.iaload, 1) := by decide +kernel
theorem d_W_623 : decode code 623 = .ok (.invokevirtual 90, 3) := by decide +kernel
theorem d_W_626 : decode code 626 = .ok (.istore 6, 2) := by decide +kernel
theorem d_W_628 : decode code 628 = .ok (.aload_n 2, 1) := by decide +kernel
theorem d_W_629 : decode code 629 = .ok (.invokevirtual 62, 3) := by decide +kernel
theorem d_W_632 : decode code 632 = .ok (.iload 5, 2) := by decide +kernel
theorem d_W_634 : decode code 634 = .ok (.if_icmp .eq 5, 3) := by decide +kernel
theorem d_W_637 : decode code 637 = .ok (.iconst 0, 1) := by decide +kernel
theorem d_W_638 : decode code 638 = .ok (.ireturn, 1) := by decide +kernel
theorem d_W_639 : decode code 639 = .ok (.iload 5, 2) := by decide +kernel
theorem d_W_641 : decode code 641 = .ok (.ifCond .ne 15, 3) := by decide +kernel
theorem d_W_644 : decode code 644 = .ok (.aload_n 3, 1) := by decide +kernel
theorem d_W_645 : decode code 645 = .ok (.iconst 0, 1) := by decide +kernel
theorem d_W_646 : decode code 646 = .ok (.laload, 1) := by decide +kernel
theorem d_W_647 : decode code 647 = .ok (.iload 6, 2) := by decide +kernel
theorem d_W_649 : decode code 649 = .ok (.i2l, 1) := by decide +kernel
theorem d_W_650 : decode code 650 = .ok (.lcmp, 1) := by decide +kernel
theorem d_W_651 : decode code 651 = .ok (.ifCond .eq 5, 3) := by decide +kernel
theorem d_W_654 : decode code 654 = .ok (.iconst 0, 1) := by decide +kernel
theorem d_W_655 : decode code 655 = .ok (.ireturn, 1) := by decide +kernel
theorem d_W_656 : decode code 656 = .ok (.goto 151, 3) := by decide +kernel
theorem d_W_659 : decode code 659 = .ok (.aload_n 1, 1) := by decide +kernel
theorem d_W_660 : decode code 660 = .ok (.aload_n 0, 1) := by decide +kernel
theorem d_W_661 : decode code 661 = .ok (.iload 4, 2) := by decide +kernel
theorem d_W_663 : decode code 663 = .ok (.iconst 1, 1) := by decide +kernel
theorem d_W_664 : decode code 664 = .ok (.iadd, 1) := by decide +kernel
theorem d_W_665 : decode code 665 = .ok (.iaload, 1) := by decide +kernel
theorem d_W_666 : decode code 666 = .ok (.aload_n 0, 1) := by decide +kernel
theorem d_W_667 : decode code 667 = .ok (.iload 4, 2) := by decide +kernel
theorem d_W_669 : decode code 669 = .ok (.iconst 2, 1) := by decide +kernel
theorem d_W_670 : decode code 670 = .ok (.iadd, 1) := by decide +kernel
end
section
/-! decode rows of the law -/
theorem d_W_671 : decode code 671 = .ok (.iaload, 1) := by decide +kernel
theorem d_W_672 : decode code 672 = .ok (.aload_n 0, 1) := by decide +kernel
theorem d_W_673 : decode code 673 = .ok (.iload 4, 2) := by decide +kernel
theorem d_W_675 : decode code 675 = .ok (.iconst 3, 1) := by decide +kernel
theorem d_W_676 : decode code 676 = .ok (.iadd, 1) := by decide +kernel
theorem d_W_677 : decode code 677 = .ok (.iaload, 1) := by decide +kernel
theorem d_W_678 : decode code 678 = .ok (.aload_n 0, 1) := by decide +kernel
theorem d_W_679 : decode code 679 = .ok (.iload 4, 2) := by decide +kernel
theorem d_W_681 : decode code 681 = .ok (.iconst 4, 1) := by decide +kernel
theorem d_W_682 : decode code 682 = .ok (.iadd, 1) := by decide +kernel
theorem d_W_683 : decode code 683 = .ok (.iaload, 1) := by decide +kernel
theorem d_W_684 : decode code 684 = .ok (.aload_n 3, 1) := by decide +kernel
theorem d_W_685 : decode code 685 = .ok (.invokestatic 91, 3) := by decide +kernel
theorem d_W_688 : decode code 688 = .ok (.istore 5, 2) := by decide +kernel
theorem d_W_690 : decode code 690 = .ok (.aload_n 2, 1) := by decide +kernel
theorem d_W_691 : decode code 691 = .ok (.aload_n 0, 1) := by decide +kernel
theorem d_W_692 : decode code 692 = .ok (.iload 4, 2) := by decide +kernel
theorem d_W_694 : decode code 694 = .ok (.iconst 1, 1) := by decide +kernel
theorem d_W_695 : decode code 695 = .ok (.iadd, 1) := by decide +kernel
theorem d_W_696 : decode code 696 = .ok (.iaload, 1) := by decide +kernel
theorem d_W_697 : decode code 697 = .ok (.aload_n 0, 1) := by decide +kernel
theorem d_W_698 : decode code 698 = .ok (.iload 4, 2) := by decide +kernel
theorem d_W_700 : decode code 700 = .ok (.iconst 2, 1) := by decide +kernel
theorem d_W_701 : decode code 701 = .ok (.iadd, 1) := by decide +kernel
theorem d_W_702 : decode code 702 = .ok (.iaload, 1) := by decide +kernel
theorem d_W_703 : decode code 703 = .ok (.aload_n 0, 1) := by decide +kernel
theorem d_W_704 : decode code 704 = .ok (.iload 4, 2) := by decide +kernel
theorem d_W_706 : decode code 706 = .ok (.iconst 3, 1) := by decide +kernel
theorem d_W_707 : decode code 707 = .ok (.iadd, 1) := by decide +kernel
theorem d_W_708 : decode code 708 = .ok (.iaload, 1) := by decide +kernel
theorem d_W_709 : decode code 709 = .ok (.aload_n 0, 1) := by decide +kernel
theorem d_W_710 : decode code 710 = .ok (.iload 4, 2) := by decide +kernel
theorem d_W_712 : decode code 712 = .ok (.iconst 4, 1) := by decide +kernel
theorem d_W_713 : decode code 713 = .ok (.iadd, 1) := by decide +kernel
theorem d_W_714 : decode code 714 = .ok (.iaload, 1) := by decide +kernel
theorem d_W_715 : decode code 715 = .ok (.invokevirtual 94, 3) := by decide +kernel
theorem d_W_718 : decode code 718 = .ok (.istore 6, 2) := by decide +kernel
theorem d_W_720 : decode code 720 = .ok (.aload_n 2, 1) := by decide +kernel
theorem d_W_721 : decode code 721 = .ok (.invokevirtual 62, 3) := by decide +kernel
theorem d_W_724 : decode code 724 = .ok (.iload 5, 2) := by decide +kernel
theorem d_W_726 : decode code 726 = .ok (.if_icmp .eq 5, 3) := by decide +kernel
theorem d_W_729 : decode code 729 = .ok (.iconst 0, 1) := by decide +kernel
theorem d_W_730 : decode code 730 = .ok (.ireturn, 1) := by decide +kernel
theorem d_W_731 : decode code 731 = .ok (.iload 5, 2) := by decide +kernel
theorem d_W_733 : decode code 733 = .ok (.ifCond .ne 15, 3) := by decide +kernel
theorem d_W_736 : decode code 736 = .ok (.aload_n 3, 1) := by decide +kernel
theorem d_W_737 : decode code 737 = .ok (.iconst 0, 1) := by decide +kernel
theorem d_W_738 : decode code 738 = .ok (.laload, 1) := by decide +kernel
theorem d_W_739 : decode code 739 = .ok (.iload 6, 2) := by decide +kernel
theorem d_W_741 : decode code 741 = .ok (.i2l, 1) := by decide +kernel
theorem d_W_742 : decode code 742 = .ok (.lcmp, 1) := by decide +kernel
theorem d_W_743 : decode code 743 = .ok (.ifCond .eq 5, 3) := by decide +kernel
theorem d_W_746 : decode code 746 = .ok (.iconst 0, 1) := by decide +kernel
theorem d_W_747 : decode code 747 = .ok (.ireturn, 1) := by decide +kernel
theorem d_W_748 : decode code 748 = .ok (.goto 59, 3) := by decide +kernel
theorem d_W_751 : decode code 751 = .ok (.aload_n 1, 1) := by decide +kernel
theorem d_W_752 : decode code 752 = .ok (.aload_n 0, 1) := by decide +kernel
theorem d_W_753 : decode code 753 = .ok (.iload 4, 2) := by decide +kernel
theorem d_W_755 : decode code 755 = .ok (.iconst 1, 1) := by decide +kernel
theorem d_W_756 : decode code 756 = .ok (.iadd, 1) := by decide +kernel
end
section
/-! decode rows of the law -/
theorem d_W_757 : decode code 757 = .ok (.iaload, 1) := by decide +kernel
theorem d_W_758 : decode code 758 = .ok (.aload_n 3, 1) := by decide +kernel
theorem d_W_759 : decode code 759 = .ok (.invokestatic 95, 3) := by decide +kernel
theorem d_W_762 : decode code 762 = .ok (.istore 5, 2) := by decide +kernel
theorem d_W_764 : decode code 764 = .ok (.aload_n 2, 1) := by decide +kernel
theorem d_W_765 : decode code 765 = .ok (.aload_n 0, 1) := by decide +kernel
theorem d_W_766 : decode code 766 = .ok (.iload 4, 2) := by decide +kernel
theorem d_W_768 : decode code 768 = .ok (.iconst 1, 1) := by decide +kernel
theorem d_W_769 : decode code 769 = .ok (.iadd, 1) := by decide +kernel
theorem d_W_770 : decode code 770 = .ok (.iaload, 1) := by decide +kernel
theorem d_W_771 : decode code 771 = .ok (.invokevirtual 97, 3) := by decide +kernel
theorem d_W_774 : decode code 774 = .ok (.istore 6, 2) := by decide +kernel
theorem d_W_776 : decode code 776 = .ok (.aload_n 2, 1) := by decide +kernel
theorem d_W_777 : decode code 777 = .ok (.invokevirtual 62, 3) := by decide +kernel
theorem d_W_780 : decode code 780 = .ok (.iload 5, 2) := by decide +kernel
theorem d_W_782 : decode code 782 = .ok (.if_icmp .eq 5, 3) := by decide +kernel
theorem d_W_785 : decode code 785 = .ok (.iconst 0, 1) := by decide +kernel
theorem d_W_786 : decode code 786 = .ok (.ireturn, 1) := by decide +kernel
theorem d_W_787 : decode code 787 = .ok (.iload 5, 2) := by decide +kernel
theorem d_W_789 : decode code 789 = .ok (.ifCond .ne 15, 3) := by decide +kernel
theorem d_W_792 : decode code 792 = .ok (.aload_n 3, 1) := by decide +kernel
theorem d_W_793 : decode code 793 = .ok (.iconst 0, 1) := by decide +kernel
theorem d_W_794 : decode code 794 = .ok (.laload, 1) := by decide +kernel
theorem d_W_795 : decode code 795 = .ok (.iload 6, 2) := by decide +kernel
theorem d_W_797 : decode code 797 = .ok (.i2l, 1) := by decide +kernel
theorem d_W_798 : decode code 798 = .ok (.lcmp, 1) := by decide +kernel
theorem d_W_799 : decode code 799 = .ok (.ifCond .eq 5, 3) := by decide +kernel
theorem d_W_802 : decode code 802 = .ok (.iconst 0, 1) := by decide +kernel
theorem d_W_803 : decode code 803 = .ok (.ireturn, 1) := by decide +kernel
theorem d_W_804 : decode code 804 = .ok (.goto 3, 3) := by decide +kernel
theorem d_W_807 : decode code 807 = .ok (.iinc 4 5, 3) := by decide +kernel
theorem d_W_810 : decode code 810 = .ok (.goto (-787), 3) := by decide +kernel
theorem d_W_813 : decode code 813 = .ok (.iconst 1, 1) := by decide +kernel
theorem d_W_814 : decode code 814 = .ok (.ireturn, 1) := by decide +kernel
end
section
/-! the frame of every contract here: the tables' words tb; one room a level -/
abbrev rk (k : Nat) : Room := { frames := k, cells := 0, slots := 0, locals := 36 * k }
abbrev rt (k : Nat) : Room := { frames := k, cells := 1, slots := 6, locals := 36 * k }
abbrev nf : Addr → Prop := fun _ => False
def CX (p : Program) (s : State) (args : Array Value) (m : MethodId) (meth : Method) (c : Code) (own : String) (cc : ByteArray) (nL : Nat) (ret : Option FieldType) : Prop :=
  p.tables.exec = Jvm.exec ∧ c.code = cc ∧ c.maxLocals = nL ∧ s.vm.findClass own = some m.cls ∧ (∀ w ∈ tb, w.before args s = true) ∧ meth.sig.returnType = ret ∧ meth.locks = false
theorem mk_met {l : Launch} {y : MethodName} {b : ByteArray} {n : Nat} {ret : Option FieldType} {rm : Room} {av : List Value} {B : State → Prop} {Qc : Array Value → State → Outcome → State → Prop} {mc ms : Nat} {free : Addr → Prop} (hy : plainName y.cls = true) (hlen : (lg_sl av).length ≤ n)
    (body : ∀ (p : Program) (e : Env) (s : State) (m : MethodId) (below : List Frame) (meth : Method) (c : Code) (ls : Array Slot), CX p s av.toArray m meth c y.cls b n ret → meth.name = y.name → B s → lv_has ls n (lv_args 0 av) → W p l e rm s m av.toArray below meth c s.heap [] 0 0 (MQ below Qc av.toArray s mc ms free) (F0 m 0 ls [])) :
    Met l y (.code y b n ret :: tb) rm (va_Pc av B) Qc mc ms free := by
  refine Met.ofW (cc := b) (maxL := n) (ret := ret) hy rfl ?_
  intro p e s m args below meth c s₁ Bd hml hv
  obtain ⟨rfl, hB⟩ := hv
  have hts := atoms_spec (ws := .code y b n ret :: tb) Bd.pre
  have hl := lv_entry av (n := n) hlen
  rw [lg_entry_eq]
  exact body p e s m below meth c _ ⟨Bd.exec, Bd.bytes, hml, findClass_of_methodNamed Bd.named, fun w hw => hts w (List.mem_cons_of_mem _ hw), Bd.returns, Bd.notSynchronized⟩ (name_of_methodNamed Bd.named Bd.method).1 hB hl
/-! pure methods: an answer, the heap as it was -/
def QI (post : Int32 → Prop) : Array Value → State → Outcome → State → Prop := fun _ st o t => (∃ r, o = .returned (some (.int r)) ∧ post r) ∧ t.heap = st.heap
def QL (post : Int64 → Prop) : Array Value → State → Outcome → State → Prop := fun _ st o t => (∃ r, o = .returned (some (.long r)) ∧ post r) ∧ t.heap = st.heap
def QV : Array Value → State → Outcome → State → Prop := fun _ st o t => o = .returned none ∧ t.heap = st.heap
section RU
variable {p : Program} {l : Launch} {e : Env} {R : Room} {s : State} {m : MethodId} {args : Array Value} {below : List Frame} {meth : Method} {c : Code} {H : Heap} {locs : List Loc} {cells slots : Nat} {Q : State → Prop}
variable {cc : ByteArray} {pc nL : Nat} {ls : Array Slot} {own : String} {ret : Option FieldType}
theorem rI {post : Int32 → Prop} {v : Int32} (C : CX p s args m meth c own cc nL (some .int)) (hdg : decode cc pc = .ok (.ireturn, 1)) (hp : post v) : W p l e R s m args below meth c s.heap [] 0 0 (MQ below (QI post) args s 0 0 nf) (F0 m pc ls [.int v]) :=
  W.iret C.1 C.2.1 C.2.2.2.2.2.1 (fun t ht _ => ⟨⟨v, rfl, hp⟩, ht⟩) (fun q hq => by cases hq) hdg C.2.2.2.2.2.2
theorem rZ {post : Int32 → Prop} {v : Int32} (C : CX p s args m meth c own cc nL (some .boolean)) (hdg : decode cc pc = .ok (.ireturn, 1)) (hv : v = 0 ∨ v = 1) (hp : post v) : W p l e R s m args below meth c s.heap [] 0 0 (MQ below (QI post) args s 0 0 nf) (F0 m pc ls [.int v]) :=
  W.zret C.1 C.2.1 C.2.2.2.2.2.1 (by rcases hv with rfl | rfl <;> decide +kernel) (fun t ht _ => ⟨⟨v, rfl, hp⟩, ht⟩) (fun q hq => by cases hq) hdg C.2.2.2.2.2.2
theorem rL {post : Int64 → Prop} {v : Int64} (C : CX p s args m meth c own cc nL (some .long)) (hdg : decode cc pc = .ok (.lreturn, 1)) (hp : post v) : W p l e R s m args below meth c s.heap [] 0 0 (MQ below (QL post) args s 0 0 nf) (F0 m pc ls [.long v]) :=
  W.lret C.1 C.2.1 C.2.2.2.2.2.1 (fun t ht _ => ⟨⟨v, rfl, hp⟩, ht⟩) (fun q hq => by cases hq) hdg C.2.2.2.2.2.2
theorem rV (C : CX p s args m meth c own cc nL none) (hdg : decode cc pc = .ok (.return_, 1)) : W p l e R s m args below meth c s.heap [] 0 0 (MQ below QV args s 0 0 nf) (F0 m pc ls []) :=
  W.vret C.1 C.2.1 C.2.2.2.2.2.1 (fun t ht _ => ⟨rfl, ht⟩) (fun q hq => by cases hq) hdg C.2.2.2.2.2.2
theorem nil_of_nf {L : List Loc} (h : ∀ q ∈ L, nf q.base) : L = [] := by
  cases L with
  | nil => rfl
  | cons a L => exact absurd (h a List.mem_cons_self) (fun h => h)
theorem goI {st0 rest : List Value} {a : Array Value} {post : Int32 → Prop} (hr : va_Run p l e R s m args below meth c H locs cells slots 0 0 (F0 m pc ls st0) rest (QI post a) nf)
    (kk : ∀ r, post r → W p l e R s m args below meth c H locs cells slots Q (F0 m (pc + 3) ls (.int r :: rest))) : W p l e R s m args below meth c H locs cells slots Q (F0 m pc ls st0) := by
  intro T hT X
  obtain ⟨v, st₀, t, T', L, h0, X', hL, e1, e2, ⟨⟨r, hv, hp⟩, hh⟩, st⟩ := hr T hT X
  cases hv
  have := nil_of_nf hL
  subst this
  rw [List.append_nil] at X'
  obtain ⟨t2, a1, b1⟩ := kk r hp T' (by rw [e1, hh, h0]) X'
  exact ⟨t2, st t2 a1, b1⟩
theorem goL {st0 rest : List Value} {a : Array Value} {post : Int64 → Prop} (hr : va_Run p l e R s m args below meth c H locs cells slots 0 0 (F0 m pc ls st0) rest (QL post a) nf)
    (kk : ∀ r, post r → W p l e R s m args below meth c H locs cells slots Q (F0 m (pc + 3) ls (.long r :: rest))) : W p l e R s m args below meth c H locs cells slots Q (F0 m pc ls st0) := by
  intro T hT X
  obtain ⟨v, st₀, t, T', L, h0, X', hL, e1, e2, ⟨⟨r, hv, hp⟩, hh⟩, st⟩ := hr T hT X
  cases hv
  have := nil_of_nf hL
  subst this
  rw [List.append_nil] at X'
  obtain ⟨t2, a1, b1⟩ := kk r hp T' (by rw [e1, hh, h0]) X'
  exact ⟨t2, st t2 a1, b1⟩
theorem goV {st0 rest : List Value} {a : Array Value} (hr : va_Run p l e R s m args below meth c H locs cells slots 0 0 (F0 m pc ls st0) rest (QV a) nf)
    (kk : W p l e R s m args below meth c H locs cells slots Q (F0 m (pc + 3) ls rest)) : W p l e R s m args below meth c H locs cells slots Q (F0 m pc ls st0) := by
  intro T hT X
  obtain ⟨v, st₀, t, T', L, h0, X', hL, e1, e2, ⟨hv, hh⟩, st⟩ := hr T hT X
  cases hv
  have := nil_of_nf hL
  subst this
  rw [List.append_nil] at X'
  obtain ⟨t2, a1, b1⟩ := kk T' (by rw [e1, hh, h0]) X'
  exact ⟨t2, st t2 a1, b1⟩
end RU
/-- what a call of a static method stands on, of the tables -/
def SW (own : String) (index : Nat) (y : MethodName) (b : ByteArray) (maxL : Nat) (ret : Option FieldType) (n : Nat) : Prop :=
  (∀ w ∈ va_wsS own index y (.code y b maxL ret :: tb), w ∈ tb) ∧ (y.cls ≠ "java/lang/invoke/MethodHandle" ∧ y.cls ≠ "java/lang/invoke/VarHandle" ∧ (parseMethodDescriptor y.desc).map (fun d => d.parameters.length) = some n)
theorem mk_SW {own : String} {index : Nat} {y : MethodName} {b : ByteArray} {maxL : Nat} {ret : Option FieldType} {n : Nat} (h1 : Cond.methodLink own index y ∈ tb) (h2 : Cond.static y ∈ tb) (h3 : Cond.initialized y.cls ∈ tb) (h4 : Cond.code y b maxL ret ∈ tb)
    (h5 : y.cls ≠ "java/lang/invoke/MethodHandle" ∧ y.cls ≠ "java/lang/invoke/VarHandle" ∧ (parseMethodDescriptor y.desc).map (fun d => d.parameters.length) = some n) : SW own index y b maxL ret n := by
  refine ⟨fun w hw => ?_, h5⟩
  simp only [va_wsS, List.cons_append, List.nil_append, List.mem_cons] at hw
  rcases hw with rfl | rfl | rfl | rfl | hw
  · exact h1
  · exact h2
  · exact h3
  · exact h4
  · exact hw
/-- a call of an instance method -/
def VW (own : String) (index : Nat) (C : String) (y : MethodName) (b : ByteArray) (maxL : Nat) (ret : Option FieldType) (n : Nat) : Prop :=
  (∀ w ∈ wsV own index C y (.code y b maxL ret :: tb), w ∈ tb) ∧ (y.cls = C ∧ y.cls ≠ "java/lang/invoke/MethodHandle" ∧ y.cls ≠ "java/lang/invoke/VarHandle" ∧ (parseMethodDescriptor y.desc).map (fun d => d.parameters.length) = some n)
theorem mk_VW {own : String} {index : Nat} {C : String} {y : MethodName} {b : ByteArray} {maxL : Nat} {ret : Option FieldType} {n : Nat} (h1 : Cond.methodLink own index y ∈ tb) (h2 : Cond.instanceMethod y ∈ tb) (h3 : Cond.selects C y y ∈ tb) (h6 : Cond.initialized C ∈ tb) (h4 : Cond.code y b maxL ret ∈ tb)
    (h5 : y.cls = C ∧ y.cls ≠ "java/lang/invoke/MethodHandle" ∧ y.cls ≠ "java/lang/invoke/VarHandle" ∧ (parseMethodDescriptor y.desc).map (fun d => d.parameters.length) = some n) : VW own index C y b maxL ret n := by
  refine ⟨fun w hw => ?_, h5⟩
  simp only [wsV, List.cons_append, List.nil_append, List.mem_cons] at hw
  rcases hw with rfl | rfl | rfl | rfl | rfl | hw
  · exact h1
  · exact h2
  · exact h3
  · exact h6
  · exact h4
  · exact hw
section RC
variable {p : Program} {l : Launch} {e : Env} {R : Room} {s : State} {m : MethodId} {args : Array Value} {below : List Frame} {meth : Method} {c : Code} {H : Heap} {locs : List Loc} {cells slots : Nat} {Q : State → Prop}
variable {cc : ByteArray} {pc nL : Nat} {ls : Array Slot} {own : String} {ret : Option FieldType}
variable {y : MethodName} {b : ByteArray} {maxL n index mc ms : Nat} {ry : Option FieldType} {rm : Room} {B : State → Prop} {Qc : Array Value → State → Outcome → State → Prop} {free : Addr → Prop}
theorem runS (C : CX p s args m meth c own cc nL ret) (As rest : List Value) (hM : Met l y (.code y b maxL ry :: tb) rm (va_Pc As B) Qc mc ms free) (sw : SW own index y b maxL ry n) (hn : As.length = n) (hsz : ls.size = nL) (hrc : rm.cells = mc ∧ rm.slots = ms)
    (hB : ∀ U : State, U.heap = H → s.WarmedH U.vm → B U) (hbl : ∀ (U : State) (g : JFrame) (mk : MethodId) (a : Array Value), B U → B (U.calling g mk a))
    (hW : (rest.map fun v => v.category).sum ≤ 8) (hR : rm.frames + 1 ≤ R.frames ∧ 8 + (maxL + 11) + rm.locals ≤ R.locals) (hf : cells + mc ≤ R.cells ∧ slots + ms ≤ R.slots) (hdg : decode cc pc = .ok (.invokestatic index, 3)) :
    va_Run p l e R s m args below meth c H locs cells slots mc ms (F0 m pc ls (As.reverse ++ rest)) rest (Qc As.toArray) free :=
  va_runS (Ts := tb) (own := own) ⟨C.1, C.2.1, C.2.2.1, C.2.2.2.1, C.2.2.2.2.1⟩ hM (va_cwS n C.2.2.2.2.1 (tb_in (fun _ h => h) sw.1) rfl hrc.1 hrc.2 sw.2 hR)
    ⟨fun a U g mk h => ⟨h.1, hbl U g mk a h.2⟩, fun U hU hWm => ⟨rfl, hB U hU hWm⟩⟩ rfl hn hsz rfl (lv_room hW) hdg hf
theorem runV (C : CX p s args m meth c own cc nL ret) {CC : String} (o : Nat) (As rest : List Value) (hM : Met l y (.code y b maxL ry :: tb) rm (va_Pc (.ref o :: As) B) Qc mc ms free) (vw : VW own index CC y b maxL ry n) (hn : As.length = n) (hsz : ls.size = nL) (hrc : rm.cells = mc ∧ rm.slots = ms)
    (hcell : ∃ cellB : Cell, H[o]? = some cellB ∧ cellB.vm.isStatics = false ∧ s.vm.findClass CC = some cellB.cls)
    (hB : ∀ U : State, U.heap = H → s.WarmedH U.vm → B U) (hbl : ∀ (U : State) (g : JFrame) (mk : MethodId) (a : Array Value), B U → B (U.calling g mk a))
    (hW : (rest.map fun v => v.category).sum ≤ 8) (hR : rm.frames + 1 ≤ R.frames ∧ 8 + (maxL + 11) + rm.locals ≤ R.locals) (hf : cells + mc ≤ R.cells ∧ slots + ms ≤ R.slots) (hdg : decode cc pc = .ok (.invokevirtual index, 3)) :
    va_Run p l e R s m args below meth c H locs cells slots mc ms (F0 m pc ls (As.reverse ++ .ref o :: rest)) rest (Qc (Value.ref o :: As).toArray) free :=
  va_runV (Ts := tb) (own := own) (C := CC) ⟨C.1, C.2.1, C.2.2.1, C.2.2.2.1, C.2.2.2.2.1⟩ hM (cwV n C.2.2.2.2.1 (tb_in (fun _ h => h) vw.1) rfl hrc.1 hrc.2 vw.2 hR)
    ⟨fun a U g mk h => ⟨h.1, hbl U g mk a h.2⟩, hcell, fun U hU hWm => ⟨rfl, hB U hU hWm⟩⟩ rfl hn hsz rfl (lv_room hW) hdg hf
end RC
end
section
/-! what a throw needs of the state beside the tables' words: words of linking, and two statics of Throwable -/
abbrev steN : String := "[Ljava/lang/StackTraceElement;"
abbrev lisN : String := "Ljava/util/List;"
abbrev thN : String := "java/lang/Throwable"
abbrev iaN : String := "java/lang/IllegalArgumentException"
abbrev isN : String := "java/lang/IllegalStateException"
abbrev upN : List String := ["java/lang/RuntimeException", "java/lang/Exception"]
def fx0 : List Cond := fx.filter (fun w => w.onTables && w.keepsFace)
def st0 : List Cond := [.laysStatic thN "UNASSIGNED_STACK" steN, .isRef (.static thN "UNASSIGNED_STACK" steN), .laysStatic thN "SUPPRESSED_SENTINEL" lisN, .isRef (.static thN "SUPPRESSED_SENTINEL" lisN)]
def st_ok (n d : String) (U : State) : Prop := (Cond.laysStatic thN n d).before #[] U = true ∧ (Cond.isRef (.static thN n d)).before #[] U = true
def ex_ok (U : State) : Prop := (∀ w ∈ fx0, w.before #[] U = true) ∧ st_ok "UNASSIGNED_STACK" steN U ∧ st_ok "SUPPRESSED_SENTINEL" lisN U
theorem st_move {n d : String} {s U : State} (h : st_ok n d s) (hW : s.vm.Alike U.vm) (hh : ∀ q : Nat, q < s.heap.size → U.heap[q]? = s.heap[q]?) : st_ok n d U := by
  obtain ⟨c, k, i, f, a, cell, h1, h2, h3, h4, h5, h6, h7, h8, h9⟩ := Cond.laysStatic_spec h.1
  obtain ⟨u, hu⟩ := Cond.staticRefV h2 h3 h4 h5 h6 h.2
  obtain ⟨k', hi', he⟩ := State.fieldFound?_setVm hW h2
  have h5' : U.heap[a]? = some cell := by rw [hh a (Array.getElem?_eq_some_iff.mp h5).1]; exact h5
  have h1' : U.vm.findClass thN = some c := by rw [hW.findClass]; exact h1
  have hi' : U.fieldFound? thN n d = some (c, k', i, f) := hi'
  have h4' : k'.statics = some a := by rw [he]; exact h4
  have h9' : k'.staticTypes[f.slot]? = some f.type := by rw [he]; exact h9
  refine ⟨?_, ?_⟩
  · simp [Cond.before, Cond.holds, Cond.value, h1', hi', h3, h4', h5', h6, h7, h8, h9']
  · have hv : (Term.static thN n d).eval #[] U none [] U = some u.v := by
      simp [Term.eval, State.fieldNamed?, hi', h3, h4', h5', h6, hu]
    obtain ⟨v, hv2⟩ := u
    simp only [Cond.before, Cond.holds, Cond.value]
    rw [hv]
    clear hv hu
    cases v <;> first | rfl | (exact absurd hv2 (by simp [Value.isRef]))
theorem fx_move {w : Cond} {args args' : Array Value} {s U : State} (ho : w.onTables = true) (hf : w.keepsFace = true) (hW : s.WarmedH U.vm) (h : w.before args s = true) : w.before args' U = true := by
  have h1 := Cond.before_shiftedFace (State.Shifted.of_warmed hW) w hf h
  rw [Cond.onTables_vm (A' := args') (U' := U) U.vm w ho] at h1
  rwa [State.setVm_self] at h1
theorem fx0_ok {w : Cond} (h : w ∈ fx0) : w.onTables = true ∧ w.keepsFace = true := by
  have := (List.mem_filter.mp h).2
  simpa using this
theorem ex_move {s U : State} (h : ex_ok s) (hW : s.WarmedH U.vm) (hh : ∀ q : Nat, q < s.heap.size → U.heap[q]? = s.heap[q]?) : ex_ok U :=
  ⟨fun w hw => fx_move (fx0_ok hw).1 (fx0_ok hw).2 hW (h.1 w hw), st_move h.2.1 hW.alike hh, st_move h.2.2 hW.alike hh⟩
theorem ex_call {U : State} {g : JFrame} {mk : MethodId} {a : Array Value} (h : ex_ok U) : ex_ok (U.calling g mk a) := by
  refine ⟨fun w hw => ?_, ?_, ?_⟩
  · have h1 := h.1 w hw
    have h2 := Cond.onTables_vm (A := #[]) (A' := #[]) (U := U.calling g mk a) (U' := U) U.vm w (fx0_ok hw).1
    rw [State.setVm_self] at h2
    have h3 : (U.calling g mk a).setVm U.vm = U.calling g mk a := State.setVm_self (U.calling g mk a)
    rw [h3] at h2
    rw [h2]; exact h1
  · exact st_move h.2.1 (Vm.Alike.refl U.vm) (fun q _ => rfl)
  · exact st_move h.2.2 (Vm.Alike.refl U.vm) (fun q _ => rfl)
theorem at_all {X : String} {own : String} {ic : Nat} {args : Array Value} {s : State} (hin : ∀ a ∈ Bundle.ownAtoms0 own ic X upN, a ∈ tb ∨ a ∈ fx0 ∨ a ∈ st0) (hts : ∀ w ∈ tb, w.before args s = true) (hex : ex_ok s) : ∀ a ∈ Bundle.ownAtoms0 own ic X upN, a.before args s = true := by
  intro a ha
  rcases hin a ha with h | h | h
  · exact hts a h
  · have h1 := hex.1 a h
    have h2 := Cond.onTables_vm (A := args) (A' := #[]) (U := s) (U' := s) s.vm a (fx0_ok h).1
    rw [State.setVm_self] at h2
    rw [h2]; exact h1
  · simp only [st0, List.mem_cons, List.not_mem_nil, or_false] at h
    rcases h with rfl | rfl | rfl | rfl
    · exact hex.2.1.1
    · exact hex.2.1.2
    · exact hex.2.2.1
    · exact hex.2.2.2
theorem at_ia : ∀ a ∈ Bundle.ownAtoms0 "ProofDesk" 28 iaN upN, a ∈ tb ∨ a ∈ fx0 ∨ a ∈ st0 := by decide +kernel
theorem at_is : ∀ a ∈ Bundle.ownAtoms0 "ProofDesk" 73 isN upN, a ∈ tb ∨ a ∈ fx0 ∨ a ∈ st0 := by decide +kernel
/-! contracts that end in a throw: one new object of the class C, nothing old is changed -/
def TQ (C : String) (st : State) (x : Addr) (t : State) : Prop := ∃ ce : Cell, st.heap.size ≤ x ∧ t.heap[x]? = some ce ∧ ce.vm.isStatics = false ∧ st.vm.findClass C = some ce.cls ∧ st.WarmedH t.vm ∧ st.sameButNew ({ t with vm := st.vm } : State) [] 1 6
def MetT (l : Launch) (y : MethodName) (ws : List Cond) (rm : Room) (Pc : Array Value → State → Prop) (C : String) : Prop :=
  MetFree l y (headSpec ws rm) Pc (fun _ _ _ _ _ => True) (fun _ st o t => ∃ x, o = .threw x ∧ TQ C st x t)
def MQT (below : List Frame) (C : String) (s : State) : State → Prop := fun t => ∃ x, t.status = .running ∧ Ended t below (.threw x) ∧ TQ C s x t
theorem mk_metT {l : Launch} {y : MethodName} {b : ByteArray} {n : Nat} {ret : Option FieldType} {rm : Room} {av : List Value} {B : State → Prop} {C : String} (hy : plainName y.cls = true) (hlen : (lg_sl av).length ≤ n)
    (body : ∀ (p : Program) (e : Env) (s : State) (m : MethodId) (below : List Frame) (meth : Method) (c : Code) (ls : Array Slot), CX p s av.toArray m meth c y.cls b n ret → c.exceptionTable.isEmpty = true → B s → lv_has ls n (lv_args 0 av) → W p l e rm s m av.toArray below meth c s.heap [] 0 0 (MQT below C s) (F0 m 0 ls [])) :
    MetT l y (.code y b n ret :: tb) rm (va_Pc av B) C := by
  refine MetFree.of_bodyS (code := b) (maxLocals := n) (ret := ret) hy ?_ ?_
  · intro args s m h hn
    obtain ⟨meth, c, h1, h2, h3, h4, h5, h6, -, -⟩ := Cond.code_spec hn (atoms_spec (ws := .code y b n ret :: tb) h _ List.mem_cons_self)
    exact ⟨meth, c, h1, h2, h3, h4, h5, h6⟩
  · intro p e s m args below meth c s₁ Bd hml hP _
    obtain ⟨rfl, hB⟩ := hP
    have hh0 : s₁.heap = s.heap := by rw [Bd.state]; rfl
    have hts := atoms_spec (ws := .code y b n ret :: tb) Bd.pre
    have hl := lv_entry av (n := n) hlen
    have k := body p e s m below meth c _ ⟨Bd.exec, Bd.bytes, hml, findClass_of_methodNamed Bd.named, fun w hw => hts w (List.mem_cons_of_mem _ hw), Bd.returns, Bd.notSynchronized⟩ (Bd.noHandlers (hts _ List.mem_cons_self)) hB hl
    rw [← lg_entry_eq] at k
    obtain ⟨t, a1, x, b1, b2, b3⟩ := k s₁ hh0 (Stand.of_body Bd)
    exact ⟨t, .threw x, a1, b1, b2, x, rfl, b3⟩
theorem same_keep {s s' : State} {k n : Nat} (h : s.sameButNew s' [] k n) : ∀ q : Nat, q < s.heap.size → s'.heap[q]? = s.heap[q]? := by
  intro q hq
  obtain ⟨c', h1, h2, h3, h4⟩ := h.2.2.2.2.2 q s.heap[q] (Array.getElem?_eq_getElem hq)
  have e : c'.slots = s.heap[q].slots := Array.ext_getElem? (fun i => h4 i (fun hm => by cases hm))
  rw [h1, Array.getElem?_eq_getElem hq, h2, e]
section TR
variable {p : Program} {l : Launch} {e : Env} {R : Room} {s : State} {m : MethodId} {args : Array Value} {below : List Frame} {meth : Method} {c : Code} {H : Heap} {locs : List Loc} {cells slots : Nat} {Q : State → Prop}
variable {cc : ByteArray} {pc nL : Nat} {ls : Array Slot} {own : String} {ret : Option FieldType}
/-- new X; dup; X.<init>(); athrow -/
theorem th_new {X : String} {ia ic : Nat} (C : CX p s args m meth c own cc nL ret) (hne : c.exceptionTable.isEmpty = true) (hfl : l.flags = flags0) (hex : ex_ok s) (hin : ∀ a ∈ Bundle.ownAtoms0 own ic X upN, a ∈ tb ∨ a ∈ fx0 ∨ a ∈ st0) (hfit : Bundle.fit X = true)
    (hcl : Cond.classLink own ia X ∈ tb) (hini : Cond.initialized X ∈ tb) (hinst : Cond.instantiable X 6 ∈ tb) (hsz : ls.size = nL)
    (hd0 : decode cc pc = .ok (.new ia, 3)) (hd3 : decode cc (pc + 3) = .ok (.dup, 1)) (hd4 : decode cc (pc + 4) = .ok (.invokespecial ic, 3)) (hd7 : decode cc (pc + 7) = .ok (.athrow, 1))
    (hR : 5 < R.frames ∧ 84 ≤ R.locals ∧ 1 ≤ R.cells ∧ 6 ≤ R.slots) : W p l e R s m args below meth c s.heap [] 0 0 (MQT below X s) (F0 m pc ls []) := by
  obtain ⟨hx, hb, hml, hown, hts, hr, hlk⟩ := C
  refine W.newc hx hb hown (hts _ hcl) (hts _ hinst) (hts _ hini) rfl hd0 (by omega) (by omega) (fun cC kC h1 h2 h3 h4 => ?_)
  refine lv_dup hx hb hd3 rfl ?_
  intro T hT Xs
  have htr : e.platform.stackTraces = false := Launch.traces_off (by rw [hfl]; rfl) Xs.admits
  have hcell : T.heap[s.heap.size]? = some (freshCell cC kC) := by
    rw [hT]
    simp [freshCell]
  obtain ⟨U, hsteps, hrun, hend, hW, hsame, ce, hce, K⟩ := Xs.ctorThrow0 hx htr (own := own) (cls := X) (names := upN) (ic := ic) hown hfit (by decide +kernel) (at_all hin hts hex) (fun y hy => by cases hy) h1 h2 hcell (Nat.le_refl _)
    (g := F0 m (pc + 3 + 1) ls [.ref s.heap.size, .ref s.heap.size]) rfl (hsz.trans hml.symm) rfl rfl (rest := []) rfl (by rw [hb]; exact hd4) (by rw [hb]; exact hd7) (covers_of_empty hne _) (by simp [upN]; omega) (by simp [upN, Value.category, JFrame.monitorRoom]; omega) hlk
  refine ⟨U, hsteps, s.heap.size, hrun, hend, ce, Nat.le_refl _, hce, by rw [K.vm]; rfl, K.cls, hW, ?_⟩
  have hs2 : s.sameButNew ({ U with vm := s.vm } : State) [] (0 + 1) (0 + 6) := hsame
  exact hs2
end TR
end
section
/-! calls that throw; handlers; calls of methods that have handlers -/
section TB
variable {p : Program} {l : Launch} {e : Env} {R : Room} {s : State} {m : MethodId} {args : Array Value} {below : List Frame} {meth : Method} {c : Code} {H : Heap} {locs : List Loc} {cells slots : Nat} {Q : State → Prop}
variable {cc : ByteArray} {pc nL : Nat} {ls : Array Slot} {own : String} {ret : Option FieldType}
variable {y : MethodName} {b : ByteArray} {maxL n index : Nat} {ry : Option FieldType} {rm : Room} {B : State → Prop}
/-- a callee that throws: the note lies over the caller's frame -/
theorem th_back {CC : String} {Pc : Array Value → State → Prop} (hM : MetT l y (.code y b maxL ry :: tb) rm Pc CC) (hrm : rm.cells = 1 ∧ rm.slots = 6) {len Wt : Nat} (hR : rm.frames + 1 ≤ R.frames ∧ Wt + (maxL + 11) + rm.locals ≤ R.locals)
    {U : State} (X : Stand p l e R s m args below meth c U locs cells slots) (hf : cells + 1 ≤ R.cells ∧ slots + 6 ≤ R.slots) (hts : ∀ w ∈ tb, w.before args s = true) (hcode : Cond.code y b maxL ry ∈ tb) (hini : Cond.initialized y.cls ∈ tb)
    {g : JFrame} {ig : Instr} {mk : MethodId} {a : Array Value} (hg : g.method = m) (hsize : g.locals.size = c.maxLocals) (hdg : decode c.code g.pc = .ok (ig, len)) (hWt : 2 * g.monitorRoom + (g.stack.map fun v => v.category).sum ≤ Wt) (hn : U.methodNamed? y = some mk) (hP : Pc a (U.calling g mk a)) :
    ∃ (x : Addr) (ce : Cell) (T' : State), Stand p l e R s m args below meth c T' locs (cells + 1) (slots + 6) ∧ U.heap.size ≤ x ∧ T'.heap[x]? = some ce ∧ ce.vm.isStatics = false ∧ U.vm.findClass CC = some ce.cls ∧ U.heap.size ≤ T'.heap.size ∧ (∀ q : Nat, q < U.heap.size → T'.heap[q]? = U.heap[q]?) ∧
      Steps p.tables e below (doInvoke e (U.setTop g) [] mk a).1 ((T'.setTop g).pushFrame (.throwing x)) := by
  have word : ∀ w ∈ tb, w.before a U = true := fun w hw => word_at X.warmed (tb_g hw) (hts w hw)
  have h1 : (headSpec (.code y b maxL ry :: tb) rm).pre.before a U = true := atoms_intro fun w hw => by
    rcases List.mem_cons.mp hw with rfl | hw
    · exact word _ hcode
    · exact word w hw
  obtain ⟨methY, cY, hmY, hcY, -, hlY, -, -, -, -⟩ := Cond.code_spec hn (word _ hcode)
  obtain ⟨kY, hkY, -⟩ := className_of_methodNamed hn
  have hinitY : kY.init = .initialized := Cond.initialized_spec (findClass_of_methodNamed hn) hkY (word _ hini)
  have h : At U g.method c below := by rw [hg]; exact X.here
  have happ : (headSpec (.code y b maxL ry :: tb) rm).appliesLoose y e.platform (U.calling g mk a) = true :=
    Spec.appliesLoose_calling (g := g) h hdg hn hkY hinitY
      (X.room_calling (g := g) (R' := rm) hsize hmY hcY hR.1 (by rw [hlY]; omega) (by rw [hrm.1]; exact hf.1) (by rw [hrm.2]; exact hf.2)) h1
  obtain ⟨mid, hmid⟩ := h.above
  have hfr : (U.setTop g).frames = (.java g :: mid) ++ below := by rw [State.frames_setTop' g h.top, hmid]; rfl
  obtain ⟨o, s₂, hsteps, -, hend, x, ho, ce, q1, q2, q3, q4, hW₂, hsm⟩ := Steps.callFree hM p X.admits X.cas X.clock (acts := []) hfr happ hP trivial
  subst ho
  rw [State.frames_setTop' g h.top] at hend
  have hsm : (U.calling g mk a).sameButNew ({ s₂ with vm := (U.calling g mk a).vm } : State) [] 1 6 := hsm
  have hkeep := same_keep hsm
  obtain ⟨e2, k2, k3, k4, k5, k6⟩ := id hsm
  have e3 : s₂ = ({ (U.calling g mk a).setFrames s₂.frames with heap := s₂.heap, slotsUsed := s₂.slotsUsed } : State).setVm s₂.vm := by
    have : s₂ = ({ s₂ with vm := (U.calling g mk a).vm } : State).setVm s₂.vm := rfl
    rw [e2] at this
    exact this
  have hf₂ : s₂.frames = .throwing x :: .java g :: U.frames.tail := hend
  have hW' : U.WarmedH s₂.vm := hW₂
  obtain ⟨g₀, hg0⟩ := Option.isSome_iff_exists.mp h.top
  obtain ⟨r, hr⟩ := State.topJava?_eq_some.mp hg0
  have hs₂ : s₂ = ((({ U with heap := s₂.heap, slotsUsed := s₂.slotsUsed } : State).setVm s₂.vm).setTop g).pushFrame (.throwing x) := by
    have hr' : (({ U with heap := s₂.heap, slotsUsed := s₂.slotsUsed } : State).setVm s₂.vm).frames = .java g₀ :: r := hr
    refine e3.trans ?_
    rw [hf₂, State.calling_eq h.top, State.setFrames_setFrames, State.pushFrame, State.frames_setTop _ hr', State.setTop_of_frames _ hr', State.setFrames_setFrames, hr]
    rfl
  have hsame : U.sameButNew ({ U with heap := s₂.heap, slotsUsed := s₂.slotsUsed } : State) [] 1 6 := by
    refine ⟨?_, k2, k3, k4, k5, k6⟩
    obtain ⟨t, ht, -⟩ := State.frames_cons hr
    show ({ U with heap := s₂.heap, slotsUsed := s₂.slotsUsed } : State) = { U.setFrames U.frames with heap := s₂.heap, slotsUsed := s₂.slotsUsed }
    rw [State.setFrames_self ht]
  have X' : Stand p l e R s m args below meth c (({ U with heap := s₂.heap, slotsUsed := s₂.slotsUsed } : State).setVm s₂.vm) (locs ++ []) (cells + 1) (slots + 6) :=
    ⟨X.admits, X.cas, X.clock, X.frames, X.room, X.hears, X.method, X.code, (X.here.setHeapUsed s₂.heap s₂.slotsUsed).setVm hW'.alike, X.tail, State.WarmedH.trans X.warmed hW', X.limits, X.bytes, X.same.trans (hsame.setVm s.vm)⟩
  rw [List.append_nil] at X'
  refine ⟨x, ce, _, X', q1, q2, q3, q4, k2, hkeep, ?_⟩
  rw [← hs₂]
  exact hsteps
/-- a static callee throws, and so does this method -/
theorem th_callS {CC : String} (C : CX p s args m meth c own cc nL ret) (hne : c.exceptionTable.isEmpty = true) (As rest : List Value) (hM : MetT l y (.code y b maxL ry :: tb) rm (va_Pc As B) CC) (hrm : rm.cells = 1 ∧ rm.slots = 6) (sw : SW own index y b maxL ry n) (hn : As.length = n) (hsz : ls.size = nL)
    (hB : ∀ U : State, U.heap = s.heap → s.WarmedH U.vm → B U) (hbl : ∀ (U : State) (g : JFrame) (mk : MethodId) (a : Array Value), B U → B (U.calling g mk a))
    (hW : (rest.map fun v => v.category).sum ≤ 8) (hR : rm.frames + 1 ≤ R.frames ∧ 8 + (maxL + 11) + rm.locals ≤ R.locals) (hf : 1 ≤ R.cells ∧ 6 ≤ R.slots) (hdg : decode cc pc = .ok (.invokestatic index, 3)) :
    W p l e R s m args below meth c s.heap [] 0 0 (MQT below CC s) (F0 m pc ls (As.reverse ++ rest)) := by
  obtain ⟨hx, hb, hml, hown, hts, hr, hlk⟩ := C
  have wl : Cond.methodLink own index y ∈ tb := sw.1 _ (by simp [va_wsS])
  have wst : Cond.static y ∈ tb := sw.1 _ (by simp [va_wsS])
  have wi : Cond.initialized y.cls ∈ tb := sw.1 _ (by simp [va_wsS])
  have wc : Cond.code y b maxL ry ∈ tb := sw.1 _ (by simp [va_wsS])
  intro T hT X
  obtain ⟨mk, hnamed⟩ := Cond.code_named (hts _ wc)
  obtain ⟨methM, cM, hmethM, -, -, -, -, -, -, hsigM⟩ := Cond.code_spec hnamed (hts _ wc)
  have hstatic : methM.isStatic = true := Cond.static_spec hnamed hmethM (hts _ wst)
  obtain ⟨kP, hkP, -⟩ := className_of_methodNamed hnamed
  have hinitP : kP.init = .initialized := Cond.initialized_spec (findClass_of_methodNamed hnamed) hkP (hts _ wi)
  have hlen : As.length = methM.sig.parameters.length := by
    have h2 := sw.2.2.2
    rw [hsigM] at h2
    rw [hn]
    exact (Option.some.inj h2).symm
  obtain ⟨vm₁, X₁, hstep₁⟩ := X.invokestatic hx hown (hts _ wl) hnamed hmethM hstatic hkP hinitP ⟨sw.2.1, sw.2.2.1⟩ (g := F0 m pc ls (As.reverse ++ rest)) rfl (argsL := As) (rest := rest) hlen rfl (by rw [hb]; exact hdg)
  obtain ⟨x, ce, T', X', q1, q2, q3, q4, q5, q6, st⟩ := th_back hM hrm (len := 3) (Wt := 8) (ig := .invokestatic index) hR X₁ ⟨by omega, by omega⟩ hts wc wi (g := F0 m pc ls rest) (mk := mk) (a := As.toArray) rfl (hsz.trans hml.symm) (by rw [hb]; exact hdg) (lv_room hW) (X₁.named hnamed) ⟨rfl, hbl _ _ _ _ (hB _ hT X₁.warmed)⟩
  obtain ⟨hwalk, hrun, hended, hWU, hsame⟩ := X'.leaveThrown x (g := F0 m pc ls rest) rfl rfl rfl (covers_of_empty hne _) hlk
  have hTs : (T.setVm vm₁).heap = s.heap := hT
  rw [hTs] at q1 q6
  refine ⟨_, hstep₁ _ (fun acts => by rw [doInvoke_state]; exact st.trans hwalk), x, hrun, hended, ce, q1, q2, q3, ?_, hWU, hsame⟩
  have : (T.setVm vm₁).vm.findClass CC = some ce.cls := q4
  rw [← X₁.warmed.alike.findClass]
  exact this
/-! the search of a handler whose class may be resolved for the first time -/
theorem fh_no {Qh : Handler → Pre} {E : CtlPost} {d : Bool} {acts : List Action} {S : State} {f : JFrame} {a : Addr} {x : ExceptionTableEntry} {t : List ExceptionTableEntry} {c0 : ClassId} {cell : Cell} (hx : covers x f.pc = true) (h0 : x.catchType ≠ 0)
    (hl : S.vm.ClassLinks e.platform f.method.cls x.catchType c0) (hcell : S.heap[a]? = some cell) (hobj : ∀ k, cell.vm ≠ .statics k)
    (hk : ∃ k, S.vm.classes[cell.cls]? = some k) (hc : ∃ k, S.vm.classes[c0]? = some k) {yes : Bool} (hfit : S.vm.assignable cell.cls c0 = yes) :
    wp (findHandler.go f a (x :: t)) Qh E e d acts S ↔ cond yes (Qh (.found x.handlerPc) d acts (S.setVm (S.vm.noted f.method.cls x.catchType (.cls c0)))) (wp (findHandler.go f a t) Qh E e d acts (S.setVm (S.vm.noted f.method.cls x.catchType (.cls c0)))) := by
  simp only [covers] at hx
  obtain ⟨ha, ht⟩ := (resolveClass_links e.toSetting hl).op (op := VmOp.resolveClass f.method.cls x.catchType) rfl
  have hal : S.vm.Alike (S.vm.noted f.method.cls x.catchType (.cls c0)) := (Vm.Alike.refl S.vm).noted _ _ _
  obtain ⟨k1, hk1⟩ := hk
  obtain ⟨k2, hk2⟩ := hc
  obtain ⟨k1', hk1', -⟩ := hal.2.2 _ _ hk1
  obtain ⟨k2', hk2', -⟩ := hal.2.2 _ _ hk2
  have hfit' : (S.vm.noted f.method.cls x.catchType (.cls c0)).assignable cell.cls c0 = yes := by rw [hal.assignable]; exact hfit
  cases yes <;> simp [findHandler.go, hx, h0, ha, ht, hcell, hobj, hk1', hk2', hfit', VmOp.dirties, VmOp.acts]
/-- the step of the search, once it is known what it finds and leaves -/
theorem fh_step {tb' : Tables} {T target : State} {g : JFrame} {a : Addr} (h : At T g.method c below) {hpc : Nat} {vm' : Vm}
    (hfind : ∀ (Qh : Handler → Pre) (E : CtlPost) (d : Bool) (acts : List Action), wp (findHandler g a) Qh E e d acts ((T.setTop g).pushFrame (.throwing a)) ↔ Qh (.found hpc) d acts (((T.setTop g).pushFrame (.throwing a)).setVm vm'))
    (hrest : Steps tb' e below ((T.setVm vm').setTop { g with pc := hpc, stack := [.ref a] }) target) : Steps tb' e below ((T.setTop g).pushFrame (.throwing a)) target := by
  obtain ⟨hgo, hw⟩ := h.throwing a
  refine Steps.head hgo hw ?_
  have hone : (stepThrowing e ((T.setTop g).pushFrame (.throwing a)) a (.java g :: T.frames.tail)).Is ((((T.setTop g).pushFrame (.throwing a)).setVm vm').setFrames (.java { g with pc := hpc, stack := [.ref a] } :: T.frames.tail)) [] := by
    simp only [stepThrowing, searchFrame, vmDo]
    generalize hr : Sem.go _ e false [] ((T.setTop g).pushFrame (.throwing a)) = res
    obtain ⟨as, rfl, ha⟩ := Sem.eq_ok_of hr (a := Handler.found hpc) (s' := ((T.setTop g).pushFrame (.throwing a)).setVm vm') (acts' := []) (by simp [hfind _ _ _ _])
    exact ⟨rfl, ha⟩
  rw [stepThread_throwing (frames_entered h.top _), hone.1]
  obtain ⟨g₀, hg⟩ := Option.isSome_iff_exists.mp h.top
  obtain ⟨r, hr⟩ := State.topJava?_eq_some.mp hg
  have hr' : (T.setVm vm').frames = .java g₀ :: r := hr
  rw [State.setTop_of_frames _ hr'] at hrest
  have e1 : ∀ (F G : List Frame), ((T.setFrames F).setVm vm').setFrames G = (T.setVm vm').setFrames G := fun F G => by
    have h1 : (T.setFrames F).setVm vm' = (T.setVm vm').setFrames F := rfl
    rw [h1, State.setFrames_setFrames]
  rw [hr, List.tail_cons, State.pushFrame, State.setTop_of_frames _ hr, State.setFrames_setFrames, e1]
  exact hrest
end TB
end
section
/-! virtual callees that throw, caught here; contracts of methods with handlers; their calls -/
def nc_ok (U : State) : Prop := ∃ c t, U.vm.findClass isN = some c ∧ U.vm.findClass iaN = some t ∧ U.vm.assignable c t = false
theorem nc_move {s U : State} (h : nc_ok s) (hW : s.vm.Alike U.vm) : nc_ok U := by
  obtain ⟨c, t, h1, h2, h3⟩ := h
  exact ⟨c, t, by rw [hW.findClass]; exact h1, by rw [hW.findClass]; exact h2, by rw [hW.assignable]; exact h3⟩
section TC
variable {p : Program} {l : Launch} {e : Env} {R : Room} {s : State} {m : MethodId} {args : Array Value} {below : List Frame} {meth : Method} {c : Code} {H : Heap} {locs : List Loc} {cells slots : Nat} {Q : State → Prop}
variable {cc : ByteArray} {pc nL : Nat} {ls : Array Slot} {own : String} {ret : Option FieldType}
variable {y : MethodName} {b : ByteArray} {maxL n index : Nat} {ry : Option FieldType} {rm : Room} {B : State → Prop}
/-- a virtual callee throws: the machine stands with the note over this frame -/
theorem th_virt {CC DD : String} (C : CX p s args m meth c own cc nL ret) (o : Nat) (As rest : List Value) (hM : MetT l y (.code y b maxL ry :: tb) rm (va_Pc (.ref o :: As) B) CC) (hrm : rm.cells = 1 ∧ rm.slots = 6) (vw : VW own index DD y b maxL ry n) (hn : As.length = n) (hsz : ls.size = nL)
    (hcell : ∃ cellB : Cell, H[o]? = some cellB ∧ cellB.vm.isStatics = false ∧ s.vm.findClass DD = some cellB.cls)
    (hB : ∀ U : State, U.heap = H → s.WarmedH U.vm → B U) (hbl : ∀ (U : State) (g : JFrame) (mk : MethodId) (a : Array Value), B U → B (U.calling g mk a))
    (hW : (rest.map fun v => v.category).sum ≤ 8) (hR : rm.frames + 1 ≤ R.frames ∧ 8 + (maxL + 11) + rm.locals ≤ R.locals) (hf : cells + 1 ≤ R.cells ∧ slots + 6 ≤ R.slots) (hdg : decode cc pc = .ok (.invokevirtual index, 3))
    (T : State) (hT : T.heap = H) (X : Stand p l e R s m args below meth c T locs cells slots) :
    ∃ (x : Addr) (ce : Cell) (T' : State), Stand p l e R s m args below meth c T' locs (cells + 1) (slots + 6) ∧ H.size ≤ x ∧ T'.heap[x]? = some ce ∧ ce.vm.isStatics = false ∧ s.vm.findClass CC = some ce.cls ∧ H.size ≤ T'.heap.size ∧ (∀ q : Nat, q < H.size → T'.heap[q]? = H[q]?) ∧
      ∀ tg, Steps p.tables e below ((T'.setTop (F0 m pc ls rest)).pushFrame (.throwing x)) tg → Steps p.tables e below (T.setTop (F0 m pc ls (As.reverse ++ .ref o :: rest))) tg := by
  obtain ⟨hx, hb, hml, hown, hts, hr, hlk⟩ := C
  have wl : Cond.methodLink own index y ∈ tb := vw.1 _ (by simp [wsV])
  have win : Cond.instanceMethod y ∈ tb := vw.1 _ (by simp [wsV])
  have wse : Cond.selects DD y y ∈ tb := vw.1 _ (by simp [wsV])
  have wi : Cond.initialized y.cls ∈ tb := by rw [vw.2.1]; exact vw.1 _ (by simp [wsV])
  have wc : Cond.code y b maxL ry ∈ tb := vw.1 _ (by simp [wsV])
  have hy : y.cls ≠ "java/lang/invoke/MethodHandle" ∧ y.cls ≠ "java/lang/invoke/VarHandle" := ⟨vw.2.2.1, vw.2.2.2.1⟩
  obtain ⟨mk, methM, hnamed, hmethM, hstM, habM⟩ := Cond.instanceMethod_spec (hts _ win)
  obtain ⟨methM', cM, hmethM', -, -, -, -, -, -, hsigM⟩ := Cond.code_spec hnamed (hts _ wc)
  cases hmethM.symm.trans hmethM'
  obtain ⟨cellB, hcB, hoB, hclB⟩ := hcell
  obtain ⟨c2, r2, m2, q1, q2, q3, q4, kP, hkP, hkPi⟩ := Cond.selects_spec (hts _ wse)
  cases hclB.symm.trans q1
  cases (State.methodFound?_of_named hnamed hy).symm.trans q2
  cases hnamed.symm.trans q3
  have hselP : selectMethod e.platform s.vm cellB.cls mk = .method mk := by rw [Launch.admits_selectMethod X.admits]; exact q4
  have hlen : As.length = methM.sig.parameters.length := by
    have h2 := vw.2.2.2.2
    rw [hsigM] at h2
    rw [hn]
    exact (Option.some.inj h2).symm
  obtain ⟨vm₁, X₁, hstep₁⟩ := X.invokevirtual hx hown (hts _ wl) hnamed hmethM hstM hkP hkPi hy (a := o) (cell := cellB) (by rw [hT]; exact hcB)
    (fun z h => by rw [h] at hoB; cases hoB) hselP hmethM habM hkP hkPi (g := F0 m pc ls (As.reverse ++ .ref o :: rest)) rfl (argsL := As) (rest := rest) hlen rfl (by rw [hb]; exact hdg)
  obtain ⟨x, ce, T', X', p1, p2, p3, p4, p5, p6, st⟩ := th_back hM hrm (len := 3) (Wt := 8) (ig := .invokevirtual index) hR X₁ hf hts wc wi (g := F0 m pc ls rest) (mk := mk) (a := (Value.ref o :: As).toArray) rfl (hsz.trans hml.symm) (by rw [hb]; exact hdg) (lv_room hW) (X₁.named hnamed) ⟨rfl, hbl _ _ _ _ (hB _ hT X₁.warmed)⟩
  have hTs : (T.setVm vm₁).heap = H := hT
  rw [hTs] at p1 p5 p6
  have p4 : (T.setVm vm₁).vm.findClass CC = some ce.cls := p4
  refine ⟨x, ce, T', X', p1, p2, p3, ?_, p5, p6, fun tg h => hstep₁ _ fun acts => by rw [doInvoke_state]; exact st.trans h⟩
  rw [← X₁.warmed.alike.findClass]
  exact p4
/-- a row of the handlers' table, by its class: what the search does there -/
theorem th_row {CN TN : String} {T' : State} (hown : s.vm.findClass own = some m.cls) (hw : s.WarmedH T'.vm) (hpl : e.platform.magicAccessors = ({} : Platform).magicAccessors) {ct : Nat} (hlink : (Cond.classLink own ct CN).before args s = true)
    {thrown tc : ClassId} {yes : Bool} (h1 : s.vm.findClass TN = some thrown) (h2 : s.vm.findClass CN = some tc) (hfit : s.vm.assignable thrown tc = yes) :
    T'.vm.ClassLinks e.platform m.cls ct tc ∧ s.WarmedH (T'.vm.noted m.cls ct (.cls tc)) ∧ (∃ k, T'.vm.classes[thrown]? = some k) ∧ (∃ k, T'.vm.classes[tc]? = some k) ∧ T'.vm.assignable thrown tc = yes := by
  obtain ⟨c', hc', hcl⟩ := Cond.classLink_spec hown hlink e.platform hpl
  cases h2.symm.trans hc'
  obtain ⟨dk, _, _, kt, hd, _, _, _, _, hkt, _, hopen⟩ := hcl.here
  have hal := hw.alike
  obtain ⟨kt', hkt', -⟩ := hal.2.2 _ _ hkt
  obtain ⟨k3, hk3⟩ := Vm.classAt_of_findClass h1
  obtain ⟨k3', hk3', -⟩ := hal.2.2 _ _ hk3
  exact ⟨hw.classLinks hcl, hw.noted hd hopen (State.rightAt_cls hcl), ⟨k3', hk3'⟩, ⟨kt', hkt'⟩, by rw [hal.assignable]; exact hfit⟩
theorem tab_cons {L : List ExceptionTableEntry} {a1 a2 a3 a4 : Nat} {tl : List (Nat × Nat × Nat × Nat)} (h : L.map (fun h => (h.startPc, h.endPc, h.handlerPc, h.catchType)) = (a1, a2, a3, a4) :: tl) :
    ∃ x L', L = x :: L' ∧ x.startPc = a1 ∧ x.endPc = a2 ∧ x.handlerPc = a3 ∧ x.catchType = a4 ∧ L'.map (fun h => (h.startPc, h.endPc, h.handlerPc, h.catchType)) = tl := by
  cases L with
  | nil => cases h
  | cons x L' =>
    rw [List.map_cons, List.cons.injEq] at h
    obtain ⟨h1, h2⟩ := h
    simp only [Prod.mk.injEq] at h1
    exact ⟨x, L', rfl, h1.1, h1.2.1, h1.2.2.1, h1.2.2.2, h2⟩
theorem self_cast {N : String} {U : State} (h : (Cond.castable N N).before #[] U = true) {k : ClassId} (hk : U.vm.findClass N = some k) : U.vm.assignable k k = true := by
  obtain ⟨c3, c4, hc3, hc4, hasg⟩ := Cond.castable_spec h
  cases hk.symm.trans hc3
  cases hk.symm.trans hc4
  exact hasg
/-- a virtual callee throws, the first row of the table takes it -/
theorem th_catch {CC DD : String} (C : CX p s args m meth c own cc nL ret) {a1 a2 a3 a4 : Nat} {tl : List (Nat × Nat × Nat × Nat)} (htab : c.exceptionTable.toList.map (fun h => (h.startPc, h.endPc, h.handlerPc, h.catchType)) = (a1, a2, a3, a4) :: tl) (hcov : a1 ≤ pc ∧ pc < a2) (h4 : a4 ≠ 0) (hcl : Cond.classLink own a4 CC ∈ tb) (hcast : (Cond.castable CC CC).before #[] s = true)
    (o : Nat) (As rest : List Value) (hM : MetT l y (.code y b maxL ry :: tb) rm (va_Pc (.ref o :: As) B) CC) (hrm : rm.cells = 1 ∧ rm.slots = 6) (vw : VW own index DD y b maxL ry n) (hn : As.length = n) (hsz : ls.size = nL)
    (hcell : ∃ cellB : Cell, H[o]? = some cellB ∧ cellB.vm.isStatics = false ∧ s.vm.findClass DD = some cellB.cls)
    (hB : ∀ U : State, U.heap = H → s.WarmedH U.vm → B U) (hbl : ∀ (U : State) (g : JFrame) (mk : MethodId) (a : Array Value), B U → B (U.calling g mk a))
    (hW : (rest.map fun v => v.category).sum ≤ 8) (hR : rm.frames + 1 ≤ R.frames ∧ 8 + (maxL + 11) + rm.locals ≤ R.locals) (hf : cells + 1 ≤ R.cells ∧ slots + 6 ≤ R.slots) (hdg : decode cc pc = .ok (.invokevirtual index, 3))
    (kk : ∀ (x : Addr) (H1 : Heap), H.size ≤ H1.size → (∀ q : Nat, q < H.size → H1[q]? = H[q]?) → W p l e R s m args below meth c H1 locs (cells + 1) (slots + 6) Q (F0 m a3 ls [.ref x])) :
    W p l e R s m args below meth c H locs cells slots Q (F0 m pc ls (As.reverse ++ .ref o :: rest)) := by
  intro T hT X
  obtain ⟨x, ce, T', X', q1, q2, q3, q4, q5, q6, st⟩ := th_virt C o As rest hM hrm vw hn hsz hcell hB hbl hW hR hf hdg T hT X
  obtain ⟨hx, hb, hml, hown, hts, hr, hlk⟩ := C
  have hpl : e.platform.magicAccessors = ({} : Platform).magicAccessors := by rw [X.admits.platform]
  obtain ⟨en, L', hL, e1, e2, e3, e4, -⟩ := tab_cons htab
  subst e1; subst e2; subst e3; subst e4
  obtain ⟨r1, r2, r3, r4, r5⟩ := th_row (T' := T') hown X'.warmed hpl (hts _ hcl) q4 q4 (self_cast hcast q4)
  have hcv : covers en pc = true := by simp [covers, hcov.1, hcov.2]
  have X2 := X'.noted r2
  obtain ⟨t, t1, t2⟩ := kk x T'.heap q5 q6 (T'.setVm (T'.vm.noted m.cls en.catchType (.cls ce.cls))) rfl X2
  refine ⟨t, st t (fh_step (g := F0 m pc ls rest) X'.here (hpc := en.handlerPc) (fun Qh E d acts => ?_) t1), t2⟩
  rw [W.findHandler_eq (meth := meth) (code := c) X'.method' X'.code, hL]
  exact fh_no (S := (T'.setTop (F0 m pc ls rest)).pushFrame (.throwing x)) (f := F0 m pc ls rest) hcv h4 r1 q2 (VmData.ne_statics_of q3) r3 r4 r5
/-- the first row passes it on (an IllegalStateException is no IllegalArgumentException), the second takes it -/
theorem th_catch2 {DD : String} (C : CX p s args m meth c own cc nL ret) {a1 a2 a3 a4 b1 b2 b3 b4 : Nat} {tl : List (Nat × Nat × Nat × Nat)} (htab : c.exceptionTable.toList.map (fun h => (h.startPc, h.endPc, h.handlerPc, h.catchType)) = (a1, a2, a3, a4) :: (b1, b2, b3, b4) :: tl) (hcov : a1 ≤ pc ∧ pc < a2) (hcov2 : b1 ≤ pc ∧ pc < b2) (h4 : a4 ≠ 0) (h4b : b4 ≠ 0) (hcl : Cond.classLink own a4 iaN ∈ tb) (hcl2 : Cond.classLink own b4 isN ∈ tb) (hcast : (Cond.castable isN isN).before #[] s = true) (hnc : nc_ok s)
    (o : Nat) (As rest : List Value) (hM : MetT l y (.code y b maxL ry :: tb) rm (va_Pc (.ref o :: As) B) isN) (hrm : rm.cells = 1 ∧ rm.slots = 6) (vw : VW own index DD y b maxL ry n) (hn : As.length = n) (hsz : ls.size = nL)
    (hcell : ∃ cellB : Cell, H[o]? = some cellB ∧ cellB.vm.isStatics = false ∧ s.vm.findClass DD = some cellB.cls)
    (hB : ∀ U : State, U.heap = H → s.WarmedH U.vm → B U) (hbl : ∀ (U : State) (g : JFrame) (mk : MethodId) (a : Array Value), B U → B (U.calling g mk a))
    (hW : (rest.map fun v => v.category).sum ≤ 8) (hR : rm.frames + 1 ≤ R.frames ∧ 8 + (maxL + 11) + rm.locals ≤ R.locals) (hf : cells + 1 ≤ R.cells ∧ slots + 6 ≤ R.slots) (hdg : decode cc pc = .ok (.invokevirtual index, 3))
    (kk : ∀ (x : Addr) (H1 : Heap), H.size ≤ H1.size → (∀ q : Nat, q < H.size → H1[q]? = H[q]?) → W p l e R s m args below meth c H1 locs (cells + 1) (slots + 6) Q (F0 m b3 ls [.ref x])) :
    W p l e R s m args below meth c H locs cells slots Q (F0 m pc ls (As.reverse ++ .ref o :: rest)) := by
  intro T hT X
  obtain ⟨x, ce, T', X', q1, q2, q3, q4, q5, q6, st⟩ := th_virt C o As rest hM hrm vw hn hsz hcell hB hbl hW hR hf hdg T hT X
  obtain ⟨hx, hb, hml, hown, hts, hr, hlk⟩ := C
  have hpl : e.platform.magicAccessors = ({} : Platform).magicAccessors := by rw [X.admits.platform]
  obtain ⟨en, L', hL, e1, e2, e3, e4, htab2⟩ := tab_cons htab
  obtain ⟨en2, L2, hL2, f1, f2, f3, f4, -⟩ := tab_cons htab2
  subst e1; subst e2; subst e3; subst e4; subst f1; subst f2; subst f3; subst f4
  obtain ⟨cI, cT, n1, n2, n3⟩ := hnc
  cases n1.symm.trans q4
  obtain ⟨r1, r2, r3, r4, r5⟩ := th_row (T' := T') hown X'.warmed hpl (hts _ hcl) q4 n2 n3
  obtain ⟨s1, s2, s3, s4, s5⟩ := th_row (T' := T'.setVm (T'.vm.noted m.cls en.catchType (.cls cT))) hown r2 hpl (hts _ hcl2) q4 q4 (self_cast hcast q4)
  have hcv : covers en pc = true := by simp [covers, hcov.1, hcov.2]
  have hcv2 : covers en2 pc = true := by simp [covers, hcov2.1, hcov2.2]
  have X2 := X'.noted s2
  obtain ⟨t, t1, t2⟩ := kk x T'.heap q5 q6 (T'.setVm ((T'.setVm (T'.vm.noted m.cls en.catchType (.cls cT))).vm.noted m.cls en2.catchType (.cls ce.cls))) rfl X2
  refine ⟨t, st t (fh_step (g := F0 m pc ls rest) X'.here (hpc := en2.handlerPc) (fun Qh E d acts => ?_) t1), t2⟩
  rw [W.findHandler_eq (meth := meth) (code := c) X'.method' X'.code, hL, hL2]
  refine (fh_no (S := (T'.setTop (F0 m pc ls rest)).pushFrame (.throwing x)) (f := F0 m pc ls rest) hcv h4 r1 q2 (VmData.ne_statics_of q3) r3 r4 r5).trans ?_
  exact fh_no (S := ((T'.setTop (F0 m pc ls rest)).pushFrame (.throwing x)).setVm (T'.vm.noted m.cls en.catchType (.cls cT))) (f := F0 m pc ls rest) hcv2 h4b s1 q2 (VmData.ne_statics_of q3) s3 s4 s5
end TC
/-- a contract of a method with handlers -/
theorem mk_metW {l : Launch} {y : MethodName} {b : ByteArray} {n : Nat} {ret : Option FieldType} {hh : List (Nat × Nat × Nat × Nat)} {rm : Room} {av : List Value} {B : State → Prop} {Qc : Array Value → State → Outcome → State → Prop} {mc ms : Nat} {free : Addr → Prop} (hy : plainName y.cls = true) (hlen : (lg_sl av).length ≤ n)
    (body : ∀ (p : Program) (e : Env) (s : State) (m : MethodId) (below : List Frame) (meth : Method) (c : Code) (ls : Array Slot), CX p s av.toArray m meth c y.cls b n ret → c.exceptionTable.toList.map (fun h => (h.startPc, h.endPc, h.handlerPc, h.catchType)) = hh → B s → lv_has ls n (lv_args 0 av) → W p l e rm s m av.toArray below meth c s.heap [] 0 0 (MQ below Qc av.toArray s mc ms free) (F0 m 0 ls [])) :
    Met l y (.codeWith y b n ret hh :: tb) rm (va_Pc av B) Qc mc ms free := by
  refine va_MetW (cc := b) (maxL := n) (ret := ret) (hh := hh) hy rfl ?_
  intro p e s m args below meth c s₁ Bd hml hv
  obtain ⟨rfl, hB⟩ := hv
  have hts := atoms_spec (ws := .codeWith y b n ret hh :: tb) Bd.pre
  have hl := lv_entry av (n := n) hlen
  rw [lg_entry_eq]
  obtain ⟨m9, meth9, c9, hn9, h1, h2, -, -, htab, -⟩ := Cond.codeWith_spec (hts _ List.mem_cons_self)
  cases Bd.named.symm.trans hn9
  cases Bd.method.symm.trans h1
  cases (Stand.of_body Bd).code.symm.trans h2
  exact body p e s m below meth c _ ⟨Bd.exec, Bd.bytes, hml, findClass_of_methodNamed Bd.named, fun w hw => hts w (List.mem_cons_of_mem _ hw), Bd.returns, Bd.notSynchronized⟩ htab hB hl
/-- a call of a static method with handlers -/
theorem runSW {p : Program} {l : Launch} {e : Env} {R : Room} {s : State} {m : MethodId} {args : Array Value} {below : List Frame} {meth : Method} {c : Code} {H : Heap} {locs : List Loc} {cells slots : Nat}
    {cc : ByteArray} {pc nL : Nat} {ls : Array Slot} {own : String} {y : MethodName} {b : ByteArray} {maxL n index mc ms : Nat} {ry : Option FieldType} {rm : Room} {B : State → Prop} {Qc : Array Value → State → Outcome → State → Prop} {free : Addr → Prop} {hh : List (Nat × Nat × Nat × Nat)}
    (C : p.tables.exec = Jvm.exec ∧ c.code = cc ∧ c.maxLocals = nL ∧ s.vm.findClass own = some m.cls ∧ ∀ w ∈ tb, w.before args s = true) (As rest : List Value) (hM : Met l y (.codeWith y b maxL ry hh :: tb) rm (va_Pc As B) Qc mc ms free) (wl : Cond.methodLink own index y ∈ tb) (wst : Cond.static y ∈ tb) (wi : Cond.initialized y.cls ∈ tb) (wc : Cond.codeWith y b maxL ry hh ∈ tb)
    (hy : y.cls ≠ "java/lang/invoke/MethodHandle" ∧ y.cls ≠ "java/lang/invoke/VarHandle" ∧ (parseMethodDescriptor y.desc).map (fun d => d.parameters.length) = some n) (hn : As.length = n) (hsz : ls.size = nL) (hrc : rm.cells = mc ∧ rm.slots = ms)
    (hB : ∀ U : State, U.heap = H → s.WarmedH U.vm → B U) (hbl : ∀ (U : State) (g : JFrame) (mk : MethodId) (a : Array Value), B U → B (U.calling g mk a))
    (hW : (rest.map fun v => v.category).sum ≤ 8) (hR : rm.frames + 1 ≤ R.frames ∧ 8 + (maxL + 11) + rm.locals ≤ R.locals) (hf : cells + mc ≤ R.cells ∧ slots + ms ≤ R.slots) (hdg : decode cc pc = .ok (.invokestatic index, 3)) :
    va_Run p l e R s m args below meth c H locs cells slots mc ms (F0 m pc ls (As.reverse ++ rest)) rest (Qc As.toArray) free := by
  obtain ⟨hx, hb, hml, hown, hts⟩ := C
  have hK : Back l R p e below s args y 3 8 (PreOf R mc ms (va_Pc As B)) (PostOf Qc mc ms free) := va_backW (hh := hh) (bytes := b) (maxL := maxL) (ret := ry) hM (fun a U g mk h => ⟨h.1, hbl U g mk a h.2⟩) hrc.1 hrc.2 hR.1 hR.2
    (pay_in hts (tb_in (fun _ h => h) (fun w hw => by
      rcases List.mem_cons.mp hw with rfl | hw
      · exact wc
      · exact hw))) List.mem_cons_self (fun a' U hW => word_at hW (tb_g wi) (hts _ wi))
  intro T hT X
  obtain ⟨mk, methM, cM, hnamed, hmethM, -, -, -, -, -, -, hsigM⟩ := Cond.codeWith_spec (hts _ wc)
  have hstatic : methM.isStatic = true := Cond.static_spec hnamed hmethM (hts _ wst)
  obtain ⟨kP, hkP, -⟩ := className_of_methodNamed hnamed
  have hinitP : kP.init = .initialized := Cond.initialized_spec (findClass_of_methodNamed hnamed) hkP (hts _ wi)
  have hlen : As.length = methM.sig.parameters.length := by
    have h2 := hy.2.2
    rw [hsigM] at h2
    rw [hn]
    exact (Option.some.inj h2).symm
  obtain ⟨vm₁, X₁, hstep₁⟩ := X.invokestatic hx hown (hts _ wl) hnamed hmethM hstatic hkP hinitP ⟨hy.1, hy.2.1⟩ (g := F0 m pc ls (As.reverse ++ rest)) rfl (argsL := As) (rest := rest) hlen rfl (by rw [hb]; exact hdg)
  obtain ⟨v, ⟨U', l2, c2, s2⟩, X', ⟨g', mk', t, L, e1, e2, hq, h1, hL, h2, h3⟩, hsteps⟩ := hK m meth c ⟨T.setVm vm₁, locs, cells, slots⟩ (F0 m pc ls rest) (.invokestatic index) mk As.toArray X₁ rfl (hsz.trans hml.symm) (by rw [hb]; exact hdg) (lv_room hW) (X₁.named hnamed) ⟨hf.1, hf.2, rfl, hB _ hT X₁.warmed⟩
  dsimp only [Pt.U, Pt.locs, Pt.cells, Pt.slots] at X' e1 e2 h1 h2 h3 hsteps
  subst h1; subst h2; subst h3
  exact ⟨v, (T.setVm vm₁).calling g' mk' As.toArray, t, U', L, hT, X', hL, e1, e2, hq, fun target h => hstep₁ _ fun acts => by rw [doInvoke_state]; exact hsteps.trans h⟩
end
section
/-! numbers: ints and longs as naturals -/
theorem nI_of_toInt {v : Int32} (h : 0 ≤ v.toInt) : ∃ k : Nat, k < 2 ^ 31 ∧ v = nI k ∧ v.toInt = (k : Int) := by
  have h1 : ¬ v < 0 := by
    rw [Int32.lt_iff_toInt_lt]
    have : (0 : Int32).toInt = 0 := rfl
    omega
  obtain ⟨j, hj, e⟩ := nI_of h1
  exact ⟨j, hj, e, by rw [e, nI_toInt hj]⟩
def in_v (lo v hi : Int32) : Int32 := if lo ≤ v ∧ v ≤ hi then 1 else 0
def in_l (lo v hi : Int64) : Int32 := if lo ≤ v ∧ v ≤ hi then 1 else 0
theorem i32_one_ne : ¬ (1 : Int32) = 0 := by decide
theorem lN_ne0 {n : Nat} (h0 : 0 < n) (h : n < 2 ^ 63) : ¬ lN n = 0 := by
  intro hq
  have h1 : lN n = lN 0 := hq
  have := (pk_lEQ h (by decide)).mp h1
  omega
theorem nI_one : nI 1 = 1 := rfl
theorem lN_one : lN 1 = 1 := rfl
theorem lN_zero : lN 0 = 0 := rfl
theorem lN_toI (n : Nat) : (lN n).toInt32 = nI n := lN_i n
theorem mul_lt62 {a b : Nat} (ha : a < 2 ^ 31) (hb : b < 2 ^ 31) : a * b < 2 ^ 62 := by
  have := Nat.mul_lt_mul'' ha hb
  omega
/-! rows of kit/laws/BITS.to-paste (wb_) -/
theorem wb_tb (n : Nat) : (lN n).toBitVec = BitVec.ofNat 64 n := rfl
theorem wb_inj {a b : Int64} (h : a.toBitVec = b.toBitVec) : a = b := Int64.toBitVec_inj.mp h
theorem wb_tn {n : Nat} (h : n < 2 ^ 64) : (lN n).toBitVec.toNat = n := by rw [wb_tb, BitVec.toNat_ofNat, Nat.mod_eq_of_lt h]
theorem wb_of (x : Int64) : ∃ n, n < 2 ^ 64 ∧ x = lN n := ⟨x.toBitVec.toNat, x.toBitVec.isLt, wb_inj (by rw [wb_tb]; simp)⟩
theorem wb_of32 (x : Int32) : ∃ n, n < 2 ^ 32 ∧ x = nI n := ⟨x.toBitVec.toNat, x.toBitVec.isLt, Int32.toBitVec_inj.mp (by show _ = BitVec.ofNat 32 _; simp)⟩
theorem wb_c : ∀ k, k < 64 → ((nI k).toInt64 &&& 63) = lN k := by decide +kernel
theorem wb_cu : ∀ k, k < 64 → ((nI k).toInt64.toUInt64 &&& Int64.toUInt64 63) = UInt64.ofNat k := by decide +kernel
theorem wb_sm : ∀ k, k < 64 → (BitVec.ofNat 64 k).smod 64 = BitVec.ofNat 64 k := by decide +kernel
theorem wb_pw {a b : Nat} (h : a ≤ b) : 2 ^ b = 2 ^ a * 2 ^ (b - a) := by rw [← Nat.pow_add]; congr 1; omega
theorem wb_lt2 {a b : Nat} (h : a < b) : 2 ^ a < 2 ^ b := Nat.pow_lt_pow_right (by decide) h
theorem wb_mod (n : Nat) : lN n = lN (n % 2 ^ 64) := wb_inj (by rw [wb_tb, wb_tb]; apply BitVec.eq_of_toNat_eq; rw [BitVec.toNat_ofNat, BitVec.toNat_ofNat, Nat.mod_mod])
theorem wb_shl (n : Nat) {k : Nat} (hk : k < 64) : lN n <<< ((nI k).toInt64 &&& 63) = lN (n * 2 ^ k) := by
  rw [wb_c k hk]
  apply wb_inj
  rw [Int64.toBitVec_shiftLeft, wb_tb, wb_tb, wb_tb, wb_sm k hk]
  apply BitVec.eq_of_toNat_eq
  rw [BitVec.shiftLeft_eq', BitVec.toNat_shiftLeft, BitVec.toNat_ofNat, BitVec.toNat_ofNat, BitVec.toNat_ofNat, Nat.mod_eq_of_lt (show k < 2 ^ 64 by omega), Nat.shiftLeft_eq, Nat.mul_mod, Nat.mod_mod, ← Nat.mul_mod]
theorem wb_and {a b : Nat} (ha : a < 2 ^ 64) (hb : b < 2 ^ 64) : lN a &&& lN b = lN (a &&& b) := by
  apply wb_inj
  rw [Int64.toBitVec_and, wb_tb, wb_tb, wb_tb]
  apply BitVec.eq_of_toNat_eq
  rw [BitVec.toNat_and, BitVec.toNat_ofNat, BitVec.toNat_ofNat, BitVec.toNat_ofNat, Nat.mod_eq_of_lt ha, Nat.mod_eq_of_lt hb, Nat.mod_eq_of_lt (Nat.and_lt_two_pow _ hb)]
theorem wb_or {a b : Nat} (ha : a < 2 ^ 64) (hb : b < 2 ^ 64) : lN a ||| lN b = lN (a ||| b) := by
  apply wb_inj
  rw [Int64.toBitVec_or, wb_tb, wb_tb, wb_tb]
  apply BitVec.eq_of_toNat_eq
  rw [BitVec.toNat_or, BitVec.toNat_ofNat, BitVec.toNat_ofNat, BitVec.toNat_ofNat, Nat.mod_eq_of_lt ha, Nat.mod_eq_of_lt hb, Nat.mod_eq_of_lt (Nat.or_lt_two_pow ha hb)]
theorem wb_mask {n k : Nat} (hn : n < 2 ^ 64) (hk : k < 64) : lN n &&& lN (2 ^ k - 1) = lN (n % 2 ^ k) := by
  rw [wb_and hn (by have := wb_lt2 hk; omega), Nat.and_two_pow_sub_one_eq_mod]
theorem wb_a1 {n : Nat} (hn : n < 2 ^ 64) : lN n &&& 1 = lN (n % 2) := wb_mask (k := 1) hn (by decide)
/-! shifts to the right of naturals -/
theorem sh_sm : ∀ k, k < 64 → ((lN k).toBitVec.smod 64).toNat = k := by decide +kernel
theorem sh_l {a k : Nat} (h : a < 2 ^ 63) (hk : k < 64) : lN a >>> ((nI k).toInt64 &&& 63) = lN (a / 2 ^ k) := by
  rw [wb_c k hk]
  have hd : a / 2 ^ k ≤ a := Nat.div_le_self _ _
  apply Int64.toInt_inj.mp
  have e : (lN a >>> lN k).toInt = (lN a).toInt >>> k := by
    have hs := sh_sm k hk
    conv => rhs; rw [← hs]
    exact BitVec.toInt_sshiftRight ..
  rw [e, Int.shiftRight_eq_div_pow, pk_lT h, pk_lT (by omega)]
  rfl
/-! powers by squares -/
theorem pw_even {n k : Nat} (r v : Nat) (h : k % 2 = 0) : r * (v * v % n) ^ (k / 2) % n = r * v ^ k % n := by
  rw [Nat.mul_mod, ← Nat.pow_mod, ← Nat.mul_mod, ← Nat.pow_two, ← Nat.pow_mul, show 2 * (k / 2) = k by omega]
theorem pw_odd {n k : Nat} (r v : Nat) (h : k % 2 = 1) : r * v % n * (v * v % n) ^ (k / 2) % n = r * v ^ k % n := by
  rw [Nat.mul_mod, Nat.mod_mod, ← Nat.pow_mod, ← Nat.mul_mod, ← Nat.pow_two, ← Nat.pow_mul, Nat.mul_assoc, ← Nat.pow_succ', show (2 * (k / 2)).succ = k by omega]
end
section
/-! what each call stands on, of the tables -/
theorem vw_L_46 : VW "ProofDeskLaw" 46 "ProofDesk" y_D_begin b_D_begin 4 (some .boolean) 2 := mk_VW tk_35 tk_36 tk_37 tk_1 tk_38 (by decide +kernel)
theorem sw_D_53 : SW "ProofDesk" 53 y_D_in b_D_in 3 (some .boolean) 3 := mk_SW tk_39 tk_40 tk_1 tk_41 (by decide +kernel)
theorem sw_D_56 : SW "ProofDesk" 56 y_D_prime b_D_prime 3 (some .boolean) 1 := mk_SW tk_42 tk_43 tk_1 tk_44 (by decide +kernel)
theorem sw_D_33 : SW "ProofDesk" 33 y_J_ntz b_J_ntz 2 (some .int) 1 := mk_SW tk_45 tk_46 tk_3 tk_47 (by decide +kernel)
theorem sw_D_39 : SW "ProofDesk" 39 y_D_powS b_D_powS 8 (some .int) 3 := mk_SW tk_49 tk_50 tk_1 tk_51 (by decide +kernel)
theorem sw_D_29 : SW "ProofDesk" 29 y_D_times b_D_times 3 (some .int) 3 := mk_SW tk_52 tk_53 tk_1 tk_54 (by decide +kernel)
theorem sw_D_43 : SW "ProofDesk" 43 y_D_passes b_D_passes 5 (some .boolean) 3 := mk_SW tk_55 tk_56 tk_1 tk_57 (by decide +kernel)
theorem vw_L_51 : VW "ProofDeskLaw" 51 "ProofDesk" y_D_member b_D_member 2 (some .boolean) 1 := mk_VW tk_58 tk_59 tk_60 tk_1 tk_61 (by decide +kernel)
theorem vw_L_79 : VW "ProofDeskLaw" 79 "ProofDesk" y_D_accepts b_D_accepts 5 (some .boolean) 4 := mk_VW tk_62 tk_63 tk_64 tk_1 tk_65 (by decide +kernel)
theorem vw_D_68 : VW "ProofDesk" 68 "ProofDesk" y_D_member b_D_member 2 (some .boolean) 1 := mk_VW tk_66 tk_59 tk_60 tk_1 tk_61 (by decide +kernel)
theorem vw_D_79 : VW "ProofDesk" 79 "ProofDesk" y_D_exponent b_D_exponent 2 (some .boolean) 1 := mk_VW tk_67 tk_69 ts_D_exponent tk_1 tk_70 (by decide +kernel)
theorem vw_L_7 : VW "ProofDeskLaw" 7 "ProofDesk" y_D_product b_D_product 3 (some .int) 2 := mk_VW tk_75 tk_76 tk_77 tk_1 tk_78 (by decide +kernel)
theorem sw_D_60 : SW "ProofDesk" 60 y_D_good b_D_good 1 none 1 := mk_SW tk_79 tk_80 tk_1 tk_81 (by decide +kernel)
theorem vw_L_15 : VW "ProofDeskLaw" 15 "ProofDesk" y_D_powV b_D_powV 4 (some .int) 2 := mk_VW tk_147 tk_148 tk_149 tk_1 tk_150 (by decide +kernel)
theorem vw_L_19 : VW "ProofDeskLaw" 19 "ProofDesk" y_D_invV b_D_invV 2 (some .int) 1 := mk_VW tk_154 tk_155 tk_156 tk_1 tk_157 (by decide +kernel)
theorem sw_D_64 : SW "ProofDesk" 64 y_D_invS b_D_invS 12 (some .int) 2 := mk_SW tk_158 tk_159 tk_1 tk_160 (by decide +kernel)
theorem sw_D_47 : SW "ProofDesk" 47 y_J_fmL b_J_fmL 6 (some .long) 2 := mk_SW tk_161 tk_162 tk_8 tk_163 (by decide +kernel)
theorem vw_L_23 : VW "ProofDeskLaw" 23 "ProofDesk" y_D_log b_D_log 9 (some .int) 1 := mk_VW tk_168 tk_169 tk_170 tk_1 tk_171 (by decide +kernel)
theorem vw_D_74 : VW "ProofDesk" 74 "ProofDesk" y_D_find b_D_find 6 (some .int) 2 := mk_VW tk_187 tk_189 ts_D_find tk_1 tk_190 (by decide +kernel)
theorem sw_D_77 : SW "ProofDesk" 77 y_J_fmI b_J_fmI 3 (some .int) 2 := mk_SW tk_191 tk_192 tk_8 tk_193 (by decide +kernel)
theorem vw_L_28 : VW "ProofDeskLaw" 28 "ProofDesk" y_D_answer b_D_answer 4 (some .int) 3 := mk_VW tk_197 tk_198 tk_199 tk_1 tk_200 (by decide +kernel)
theorem vw_L_32 : VW "ProofDeskLaw" 32 "ProofDesk" y_D_feign b_D_feign 4 (some .int) 3 := mk_VW tk_204 tk_205 tk_206 tk_1 tk_207 (by decide +kernel)
theorem vw_L_35 : VW "ProofDeskLaw" 35 "ProofDesk" y_D_secret b_D_secret 5 (some .int) 4 := mk_VW tk_211 tk_212 tk_213 tk_1 tk_214 (by decide +kernel)
theorem vw_L_39 : VW "ProofDeskLaw" 39 "ProofDesk" y_D_count b_D_count 2 (some .int) 1 := mk_VW tk_218 tk_219 tk_220 tk_1 tk_221 (by decide +kernel)
theorem vw_L_62 : VW "ProofDeskLaw" 62 "ProofDeskModel" y_M_thrown b_M_thrown 1 (some .int) 0 := mk_VW tk_244 tk_245 tk_246 tk_2 tk_247 (by decide +kernel)
theorem vw_L_50 : VW "ProofDeskLaw" 50 "ProofDeskModel" y_M_begin b_M_begin 3 (some .boolean) 2 := mk_VW tk_248 tk_249 tk_250 tk_2 tk_251 (by decide +kernel)
theorem sw_M_37 : SW "ProofDeskModel" 37 y_M_isPrime b_M_isPrime 4 (some .boolean) 1 := mk_SW tk_252 tk_253 tk_2 tk_254 (by decide +kernel)
theorem sw_M_41 : SW "ProofDeskModel" 41 y_M_isMember b_M_isMember 6 (some .boolean) 3 := mk_SW tk_255 tk_256 tk_2 tk_257 (by decide +kernel)
theorem sw_M_29 : SW "ProofDeskModel" 29 y_M_in b_M_in 6 (some .boolean) 3 := mk_SW tk_258 tk_259 tk_2 tk_260 (by decide +kernel)
theorem sw_M_33 : SW "ProofDeskModel" 33 y_M_powS b_M_powS 9 (some .long) 3 := mk_SW tk_261 tk_262 tk_2 tk_263 (by decide +kernel)
theorem vw_L_55 : VW "ProofDeskLaw" 55 "ProofDeskModel" y_M_member b_M_member 2 (some .boolean) 1 := mk_VW tk_264 tk_265 tk_266 tk_2 tk_267 (by decide +kernel)
theorem vw_L_61 : VW "ProofDeskLaw" 61 "ProofDeskModel" y_M_product b_M_product 3 (some .int) 2 := mk_VW tk_268 tk_269 tk_270 tk_2 tk_271 (by decide +kernel)
theorem vw_M_44 : VW "ProofDeskModel" 44 "ProofDeskModel" y_M_fails b_M_fails 3 (some .boolean) 2 := mk_VW tk_272 tk_274 ts_M_fails tk_2 tk_275 (by decide +kernel)
theorem vw_L_71 : VW "ProofDeskLaw" 71 "ProofDeskModel" y_M_powV b_M_powV 4 (some .int) 2 := mk_VW tk_276 tk_277 tk_278 tk_2 tk_279 (by decide +kernel)
theorem vw_L_75 : VW "ProofDeskLaw" 75 "ProofDeskModel" y_M_invV b_M_invV 2 (some .int) 1 := mk_VW tk_280 tk_281 tk_282 tk_2 tk_283 (by decide +kernel)
theorem sw_M_48 : SW "ProofDeskModel" 48 y_M_invS b_M_invS 16 (some .long) 2 := mk_SW tk_284 tk_285 tk_2 tk_286 (by decide +kernel)
theorem vw_L_78 : VW "ProofDeskLaw" 78 "ProofDeskModel" y_M_log b_M_log 5 (some .int) 1 := mk_VW tk_287 tk_288 tk_289 tk_2 tk_290 (by decide +kernel)
theorem vw_L_83 : VW "ProofDeskLaw" 83 "ProofDeskModel" y_M_accepts b_M_accepts 5 (some .boolean) 4 := mk_VW tk_292 tk_293 tk_294 tk_2 tk_295 (by decide +kernel)
theorem vw_M_54 : VW "ProofDeskModel" 54 "ProofDeskModel" y_M_isExponent b_M_isExponent 3 (some .boolean) 1 := mk_VW tk_296 tk_298 ts_M_isExponent tk_2 tk_299 (by decide +kernel)
theorem vw_L_87 : VW "ProofDeskLaw" 87 "ProofDeskModel" y_M_answer b_M_answer 4 (some .int) 3 := mk_VW tk_300 tk_301 tk_302 tk_2 tk_303 (by decide +kernel)
theorem vw_L_90 : VW "ProofDeskLaw" 90 "ProofDeskModel" y_M_feign b_M_feign 4 (some .int) 3 := mk_VW tk_304 tk_305 tk_306 tk_2 tk_307 (by decide +kernel)
theorem vw_L_94 : VW "ProofDeskLaw" 94 "ProofDeskModel" y_M_secret b_M_secret 9 (some .int) 4 := mk_VW tk_308 tk_309 tk_310 tk_2 tk_311 (by decide +kernel)
theorem vw_L_97 : VW "ProofDeskLaw" 97 "ProofDeskModel" y_M_count b_M_count 2 (some .int) 1 := mk_VW tk_312 tk_313 tk_314 tk_2 tk_315 (by decide +kernel)
end
section
/-! remainders, signs, bits -/
theorem tm_em {a y : Int} (hy : 0 < y) : a % y = if a.tmod y < 0 then a.tmod y + y else a.tmod y := by
  have h := Int.tmod_add_mul_tdiv a y
  obtain ⟨h1, h2⟩ := tmod_bounds (a := a) hy
  have e : a % y = a.tmod y % y := by
    conv => lhs; rw [← h]
    exact Int.add_mul_emod_self_left _ _ _
  rw [e]
  generalize a.tmod y = t at *
  split
  · have e2 : t % y = (t + y) % y := (Int.add_emod_right t y).symm
    rw [e2]
    exact Int.emod_eq_of_lt (by omega) (by omega)
  · exact Int.emod_eq_of_lt (by omega) (by omega)
theorem tm_neg {a y : Int} (hy : 0 < y) : a.tmod y < 0 ↔ a < 0 ∧ a.tmod y ≠ 0 := by
  constructor
  · intro h
    refine ⟨?_, by omega⟩
    apply Classical.byContradiction
    intro hq
    have := Int.tmod_nonneg y (show 0 ≤ a by omega)
    omega
  · rintro ⟨h1, h2⟩
    have h3 := Int.tmod_nonneg y (show 0 ≤ -a by omega)
    rw [Int.neg_tmod] at h3
    omega
theorem xor_neg32 {a y : Int32} (hy : 0 ≤ y.toInt) : (0 ≤ a ^^^ y) ↔ ¬ a.toInt < 0 := by
  rw [Jvm.Kit.i32_nonneg]
  have h1 : (a ^^^ y).toBitVec.msb = decide ((a ^^^ y).toInt < 0) := BitVec.msb_eq_toInt
  have h2 : a.toBitVec.msb = decide (a.toInt < 0) := BitVec.msb_eq_toInt
  have h3 : y.toBitVec.msb = decide (y.toInt < 0) := BitVec.msb_eq_toInt
  rw [Int32.toBitVec_xor, BitVec.msb_xor, h2, h3, decide_eq_false (show ¬ y.toInt < 0 by omega)] at h1
  have h4 : decide (a.toInt < 0) = decide ((a ^^^ y).toInt < 0) := by simpa using h1
  have h5 : a.toInt < 0 ↔ (a ^^^ y).toInt < 0 := by simpa using h4
  omega
theorem xor_neg64 {a y : Int64} (hy : 0 ≤ y.toInt) : (0 ≤ a ^^^ y) ↔ ¬ a.toInt < 0 := by
  rw [Jvm.Kit.i64_nonneg]
  have h1 : (a ^^^ y).toBitVec.msb = decide ((a ^^^ y).toInt < 0) := BitVec.msb_eq_toInt
  have h2 : a.toBitVec.msb = decide (a.toInt < 0) := BitVec.msb_eq_toInt
  have h3 : y.toBitVec.msb = decide (y.toInt < 0) := BitVec.msb_eq_toInt
  rw [Int64.toBitVec_xor, BitVec.msb_xor, h2, h3, decide_eq_false (show ¬ y.toInt < 0 by omega)] at h1
  have h4 : decide (a.toInt < 0) = decide ((a ^^^ y).toInt < 0) := by simpa using h1
  have h5 : a.toInt < 0 ↔ (a ^^^ y).toInt < 0 := by simpa using h4
  omega
theorem eq_nI {r : Int32} {k : Int} (h : r.toInt = k) (h0 : 0 ≤ k) : r = nI k.toNat := by
  obtain ⟨j, hj, e1, e2⟩ := nI_of_toInt (v := r) (by omega)
  rw [e1]
  congr 1
  omega
theorem lN_of_toInt {v : Int64} (h : 0 ≤ v.toInt) : ∃ k : Nat, k < 2 ^ 63 ∧ v = lN k ∧ v.toInt = (k : Int) := by
  have h1 : ¬ v < 0 := by
    rw [Int64.lt_iff_toInt_lt]
    have : (0 : Int64).toInt = 0 := rfl
    omega
  obtain ⟨j, hj, e⟩ := pk_lOf h1
  exact ⟨j, hj, e, by rw [e, pk_lT hj]⟩
theorem eq_lN {r : Int64} {k : Int} (h : r.toInt = k) (h0 : 0 ≤ k) : r = lN k.toNat := by
  obtain ⟨j, hj, e1, e2⟩ := lN_of_toInt (v := r) (by omega)
  rw [e1]
  congr 1
  omega
/-! trailing zeros -/
theorem nz_mask {k s o : Nat} (hk : k = 2 ^ s * o) (ho : o % 2 = 1) (hlt : k < 2 ^ 31) : (nI k ^^^ (-1)) &&& (nI k - 1) = nI (2 ^ s - 1) := by
  obtain ⟨t, rfl⟩ : ∃ t, o = 2 * t + 1 := ⟨o / 2, by omega⟩
  have hp : 0 < 2 ^ s := Nat.pow_pos (by decide)
  have hk0 : 0 < k := by rw [hk]; exact Nat.mul_pos hp (by omega)
  have e1 : nI k - 1 = nI (k - 1) := by
    obtain ⟨j, rfl⟩ : ∃ j, k = j + 1 := ⟨k - 1, by omega⟩
    exact nI_pred j
  have e2 : k - 1 = 2 ^ s * (2 * t) + (2 ^ s - 1) := by
    rw [hk, Nat.mul_add, Nat.mul_one]
    omega
  rw [e1]
  apply Int32.toBitVec_inj.mp
  rw [Int32.toBitVec_and, Int32.toBitVec_xor]
  have b1 : (nI k).toBitVec = BitVec.ofNat 32 k := rfl
  have b2 : (nI (k - 1)).toBitVec = BitVec.ofNat 32 (k - 1) := rfl
  have b3 : (nI (2 ^ s - 1)).toBitVec = BitVec.ofNat 32 (2 ^ s - 1) := rfl
  have b4 : (-1 : Int32).toBitVec = BitVec.allOnes 32 := by decide
  rw [b1, b2, b3, b4]
  apply BitVec.eq_of_getLsbD_eq
  intro i hi
  rw [BitVec.getLsbD_and, BitVec.getLsbD_xor, BitVec.getLsbD_allOnes, BitVec.getLsbD_ofNat, BitVec.getLsbD_ofNat, BitVec.getLsbD_ofNat, Nat.testBit_two_pow_sub_one]
  simp only [hi, decide_true, Bool.true_and, Bool.xor_true]
  have hka : k.testBit i = (decide (i ≥ s) && (2 * t + 1).testBit (i - s)) := by rw [hk, Nat.testBit_two_pow_mul]
  have hkb : (k - 1).testBit i = if i < s then (2 ^ s - 1).testBit i else (2 * t).testBit (i - s) := by
    rw [e2, Nat.testBit_two_pow_mul_add _ (by omega)]
  rw [hka, hkb, Nat.testBit_two_pow_sub_one]
  by_cases his : i < s
  · simp [his, Nat.not_le.mpr his]
  · rw [if_neg his]
    have h3 : decide (i < s) = false := by simp; omega
    have h4 : decide (i ≥ s) = true := by simp; omega
    rw [h3, h4, Bool.true_and]
    cases hj : i - s with
    | zero => simp
    | succ j =>
      rw [Nat.testBit_succ, Nat.testBit_succ, show (2 * t + 1) / 2 = t by omega, show 2 * t / 2 = t by omega]
      cases t.testBit j <;> rfl
/-! the strong test, as the loop has it -/
theorem mr_S_iff {n b s o : Nat} (hn : n - 1 = 2 ^ s * o) (ho : o % 2 = 1) (hs1 : 1 ≤ s) (hs : s ≤ 30) : mr_S n b ↔ b ^ o % n = 1 ∨ ∃ i, i < s ∧ b ^ (o * 2 ^ i) % n = n - 1 := by
  have hp : ∀ j, 0 < 2 ^ j := fun j => Nat.pow_pos (by decide)
  have hdiv : ∀ j, j ≤ s → (n - 1) / 2 ^ j = o * 2 ^ (s - j) := by
    intro j hj
    rw [hn, show 2 ^ s = 2 ^ j * 2 ^ (s - j) by rw [← Nat.pow_add]; congr 1; omega, Nat.mul_assoc, Nat.mul_div_cancel_left _ (hp j), Nat.mul_comm]
  constructor
  · rintro ⟨j, h1, h2, h3, h4⟩
    have hjs : j ≤ s := by
      apply Classical.byContradiction
      intro hq
      obtain ⟨c, hc⟩ := h3
      rw [hn, show 2 ^ j = 2 ^ s * (2 * 2 ^ (j - s - 1)) by rw [← Nat.pow_succ', ← Nat.pow_add]; congr 1; omega, Nat.mul_assoc] at hc
      have := Nat.eq_of_mul_eq_mul_left (hp s) hc
      rw [Nat.mul_assoc] at this
      omega
    rw [hdiv j hjs] at h4
    rcases h4 with h4 | ⟨h4, h5⟩
    · exact Or.inr ⟨s - j, by omega, h4⟩
    · have hj : s - j = 0 := by
        apply Classical.byContradiction
        intro hq
        rw [show s - j = (s - j - 1) + 1 by omega, Nat.pow_succ, ← Nat.mul_assoc] at h4
        omega
      rw [hj, Nat.pow_zero, Nat.mul_one] at h5
      exact Or.inl h5
  · rintro (h | ⟨i, hi, h⟩)
    · refine ⟨s, hs1, hs, ⟨o, hn⟩, Or.inr ?_⟩
      rw [hdiv s (Nat.le_refl s), Nat.sub_self, Nat.pow_zero, Nat.mul_one]
      exact ⟨ho, h⟩
    · refine ⟨s - i, by omega, by omega, ⟨o * 2 ^ i, ?_⟩, Or.inl ?_⟩
      · rw [hn, show 2 ^ s = 2 ^ (s - i) * 2 ^ i by rw [← Nat.pow_add]; congr 1; omega, Nat.mul_assoc, Nat.mul_comm (2 ^ i)]
      · rw [hdiv (s - i) (by omega), show s - (s - i) = i by omega]
        exact h
/-! Euclid, with one coefficient -/
def eg_f : Nat → Nat → Nat → Int → Int → Int
  | 0, _, _, u, _ => u
  | f + 1, b, c, u, v => if c = 0 then u else eg_f f c (b % c) v (u - ((b / c : Nat) : Int) * v)
theorem eg_f_any : ∀ (f g b c : Nat) (u v : Int), c < f → c < g → eg_f f b c u v = eg_f g b c u v
  | 0, _, _, _, _, _, h, _ => by omega
  | _ + 1, 0, _, _, _, _, _, h => by omega
  | f + 1, g + 1, b, c, u, v, h1, h2 => by
    unfold eg_f
    by_cases hc : c = 0
    · rw [if_pos hc, if_pos hc]
    · rw [if_neg hc, if_neg hc]
      have := Nat.mod_lt b (show 0 < c by omega)
      exact eg_f_any f g c (b % c) _ _ (by omega) (by omega)
def eg_v (b c : Nat) (u v : Int) : Int := eg_f (c + 1) b c u v
theorem eg_0 (b : Nat) (u v : Int) : eg_v b 0 u v = u := rfl
theorem eg_s {b c : Nat} (hc : 0 < c) (u v : Int) : eg_v b c u v = eg_v c (b % c) v (u - ((b / c : Nat) : Int) * v) := by
  unfold eg_v
  have h1 : eg_f (c + 1) b c u v = eg_f c c (b % c) v (u - ((b / c : Nat) : Int) * v) := by
    show (if c = 0 then u else eg_f c c (b % c) v (u - ((b / c : Nat) : Int) * v)) = _
    rw [if_neg (by omega)]
  rw [h1]
  have := Nat.mod_lt b hc
  exact eg_f_any _ _ _ _ _ _ (by omega) (by omega)
theorem eg_ok {a n : Int} : ∀ (c b : Nat) (u v : Int), n ∣ u * a - b → n ∣ v * a - c → n ∣ eg_v b c u v * a - (Nat.gcd b c : Nat) := by
  intro c
  induction c using Nat.strongRecOn with
  | _ c ih =>
    intro b u v h1 h2
    by_cases hc : c = 0
    · subst hc
      rw [eg_0, Nat.gcd_zero_right]
      exact h1
    · rw [eg_s (by omega)]
      have hm := Nat.mod_lt b (show 0 < c by omega)
      have h3 := ih (b % c) hm c v (u - ((b / c : Nat) : Int) * v) h2 (by
        have e : (u - ((b / c : Nat) : Int) * v) * a - ((b % c : Nat) : Int) = (u * a - b) - ((b / c : Nat) : Int) * (v * a - c) := by
          have : (b : Int) = (c : Int) * ((b / c : Nat) : Int) + ((b % c : Nat) : Int) := by
            have := Nat.div_add_mod b c
            exact_mod_cast this.symm
          rw [this]
          grind
        rw [e]
        exact Int.dvd_sub h1 (Int.dvd_mul_of_dvd_right h2))
      rw [Nat.gcd_comm b c, Nat.gcd_rec c b, Nat.gcd_comm]
      exact h3
/-- the coefficients stay small: their signs differ -/
def eg_I (n b c : Nat) (u v : Int) : Prop := u.natAbs * c + v.natAbs * b = n ∧ (u ≤ 0 ∧ 0 ≤ v ∨ 0 ≤ u ∧ v ≤ 0)
theorem eg_next {n b c : Nat} {u v : Int} (h : eg_I n b c u v) : eg_I n c (b % c) v (u - ((b / c : Nat) : Int) * v) ∧ (u - ((b / c : Nat) : Int) * v).natAbs = u.natAbs + b / c * v.natAbs := by
  obtain ⟨h1, h2⟩ := h
  have hb := Nat.div_add_mod b c
  generalize hq : b / c = t at *
  generalize b % c = d at *
  have ea : (u - (t : Int) * v).natAbs = u.natAbs + t * v.natAbs := by
    rcases h2 with ⟨p1, p2⟩ | ⟨p1, p2⟩
    · obtain ⟨v', rfl⟩ : ∃ v' : Nat, v = v' := ⟨v.natAbs, by omega⟩
      obtain ⟨u', rfl⟩ : ∃ u' : Nat, u = -(u' : Int) := ⟨u.natAbs, by omega⟩
      have : -(u' : Int) - (t : Int) * (v' : Int) = -((u' + t * v' : Nat) : Int) := by push_cast; omega
      rw [this, Int.natAbs_neg, Int.natAbs_natCast, Int.natAbs_neg, Int.natAbs_natCast, Int.natAbs_natCast]
    · obtain ⟨v', rfl⟩ : ∃ v' : Nat, v = -(v' : Int) := ⟨v.natAbs, by omega⟩
      obtain ⟨u', rfl⟩ : ∃ u' : Nat, u = (u' : Int) := ⟨u.natAbs, by omega⟩
      have : (u' : Int) - (t : Int) * -(v' : Int) = ((u' + t * v' : Nat) : Int) := by push_cast; rw [Int.mul_neg]; omega
      rw [this, Int.natAbs_natCast, Int.natAbs_natCast, Int.natAbs_neg, Int.natAbs_natCast]
  refine ⟨⟨?_, ?_⟩, ea⟩
  · rw [ea, ← h1, ← hb]
    grind
  · have ht : (0 : Int) ≤ (t : Int) := Int.natCast_nonneg t
    rcases h2 with ⟨p1, p2⟩ | ⟨p1, p2⟩
    · have := Int.mul_nonneg ht p2
      right
      omega
    · have := Int.mul_nonneg ht (show 0 ≤ -v by omega)
      rw [Int.mul_neg] at this
      left
      omega
def inv_v (a n : Nat) : Nat := (eg_v n a 0 1 % n).toNat
theorem eg_first {a n : Nat} (ha : a < n) : eg_v a n 1 0 = eg_v n a 0 1 := by
  rw [eg_s (by omega), Nat.mod_eq_of_lt ha, Nat.div_eq_of_lt ha]
  rfl
theorem inv_ok {a n : Nat} (hn : 1 < n) (hg : Nat.gcd a n = 1) : a * inv_v a n % n = 1 := by
  have h := eg_ok (a := a) (n := n) a n 0 1 (by simp) (by simp)
  rw [Nat.gcd_comm, hg] at h
  unfold inv_v
  generalize eg_v n a 0 1 = z at h
  have hz0 : 0 ≤ z % (n : Int) := Int.emod_nonneg _ (by omega)
  have e1 : ((a * (z % n).toNat : Nat) : Int) % n = 1 := by
    push_cast
    rw [Int.toNat_of_nonneg hz0, Int.mul_emod, Int.emod_emod_of_dvd _ (Int.dvd_refl _), ← Int.mul_emod, Int.mul_comm]
    have h2 : (z * a) % n = 1 % n := Int.emod_eq_emod_iff_emod_sub_eq_zero.mpr (Int.emod_eq_zero_of_dvd h)
    rw [h2]
    exact Int.emod_eq_of_lt (by omega) (by omega)
  have e2 : ((a * (z % n).toNat % n : Nat) : Int) = 1 := by
    rw [Int.natCast_emod]
    exact e1
  omega
theorem inv_lt {a n : Nat} (hn : 0 < n) : inv_v a n < n := by
  unfold inv_v
  have h1 := Int.emod_nonneg (eg_v n a 0 1) (show (n : Int) ≠ 0 by omega)
  have h2 := Int.emod_lt_of_pos (eg_v n a 0 1) (show (0 : Int) < n by omega)
  omega
end
section
/-! pure methods of ProofDesk and of the JDK -/
set_option maxHeartbeats 4000000 in
/-- in(v, lo, hi) -/
theorem c_in (l : Launch) (v lo hi : Int32) : Met l y_D_in (.code y_D_in b_D_in 3 (some .boolean) :: tb) (rk 0) (va_Pc [.int v, .int lo, .int hi] (fun _ => True)) (QI (fun r => r = in_v lo v hi)) 0 0 nf := by
  refine mk_met (by decide) (Nat.le_of_ble_eq_true rfl) ?_
  intro p e s m below meth c ls C hnm hB hl
  generalize ([.int v, .int lo, .int hi] : List Value).toArray = args at C ⊢
  obtain ⟨hx, hb, hml, hown, hts, hr, hlk⟩ := id C
  have hl : lv_has ls 3 [(0, .int v), (1, .int lo), (2, .int hi)] := hl
  refine lv_iload_n hx hb d_D_in_0 rfl (lv_at hl 0 rfl) ?_
  refine lv_iload_n hx hb d_D_in_1 rfl (lv_at hl 1 rfl) ?_
  refine lv_icmp_lt hx hb d_D_in_2 rfl (fun h1 => ?_) (fun h1 => ?_)
  · refine lv_iconst (v := 0) hx hb d_D_in_14 (by decide) ?_
    exact rZ C d_D_in_15 (Or.inl rfl) (by rw [in_v, if_neg]; rintro ⟨q1, q2⟩; exact absurd q1 (Int32.not_le.mpr h1))
  · refine lv_iload_n hx hb d_D_in_5 rfl (lv_at hl 0 rfl) ?_
    refine lv_iload_n hx hb d_D_in_6 rfl (lv_at hl 2 rfl) ?_
    refine lv_icmp_gt hx hb d_D_in_7 rfl (fun h2 => ?_) (fun h2 => ?_)
    · refine lv_iconst (v := 0) hx hb d_D_in_14 (by decide) ?_
      exact rZ C d_D_in_15 (Or.inl rfl) (by rw [in_v, if_neg]; rintro ⟨q1, q2⟩; exact absurd q2 (Int32.not_le.mpr h2))
    · refine lv_iconst (v := 1) hx hb d_D_in_10 (by decide) ?_
      refine lv_goto hx hb d_D_in_11 rfl ?_
      exact rZ C d_D_in_15 (Or.inr rfl) (by rw [in_v, if_pos]; exact ⟨Int32.not_lt.mp h1, Int32.not_lt.mp h2⟩)
set_option maxHeartbeats 4000000 in
/-- times(a, b, n) -/
theorem c_times (l : Launch) {a b n : Nat} (ha : a < 2 ^ 31) (hb2 : b < 2 ^ 31) (hn0 : 0 < n) (hn : n < 2 ^ 31) : Met l y_D_times (.code y_D_times b_D_times 3 (some .int) :: tb) (rk 0) (va_Pc [.int (nI a), .int (nI b), .int (nI n)] (fun _ => True)) (QI (fun r => r = nI (a * b % n))) 0 0 nf := by
  refine mk_met (by decide) (Nat.le_of_ble_eq_true rfl) ?_
  intro p e s m below meth c ls C hnm hB hl
  generalize ([.int (nI a), .int (nI b), .int (nI n)] : List Value).toArray = args at C ⊢
  obtain ⟨hx, hb, hml, hown, hts, hr, hlk⟩ := id C
  have hl : lv_has ls 3 [(0, .int (nI a)), (1, .int (nI b)), (2, .int (nI n))] := hl
  have hab := mul_lt62 ha hb2
  refine lv_iload_n hx hb d_D_times_0 rfl (lv_at hl 0 rfl) ?_
  refine lv_i2l (v := lN a) hx hb d_D_times_1 (nI_l ha) ?_
  refine lv_iload_n hx hb d_D_times_2 rfl (lv_at hl 1 rfl) ?_
  refine lv_i2l (v := lN b) hx hb d_D_times_3 (nI_l hb2) ?_
  refine lv_lmul hx hb d_D_times_4 ?_
  rw [show ((lN a) * (lN b) : Int64) = lN (a * b) from lN_mul a b]
  refine lv_iload_n hx hb d_D_times_5 rfl (lv_at hl 2 rfl) ?_
  refine lv_i2l (v := lN n) hx hb d_D_times_6 (nI_l hn) ?_
  refine lv_lrem hx hb d_D_times_7 (lN_ne0 hn0 (by omega)) ?_
  rw [show ((lN (a * b)) - (lN (a * b)) / (lN n) * (lN n) : Int64) = lN (a * b % n) from pk_lRem (by omega) hn0 (by omega)]
  refine lv_l2i (v := nI (a * b % n)) hx hb d_D_times_8 (lN_i _) ?_
  exact rI C d_D_times_9 rfl
set_option maxHeartbeats 4000000 in
/-- power(a, e, n) -/
theorem c_powS (l : Launch) {a ee n : Nat} (ha : a < 2 ^ 31) (he : ee < 2 ^ 63) (hn2 : 2 ≤ n) (hn : n < 2 ^ 31) : Met l y_D_powS (.code y_D_powS b_D_powS 8 (some .int) :: tb) (rk 1) (va_Pc [.int (nI a), .long (lN ee), .int (nI n)] (fun _ => True)) (QI (fun r => r = nI (a ^ ee % n))) 0 0 nf := by
  refine mk_met (by decide) (Nat.le_of_ble_eq_true rfl) ?_
  intro p e s m below meth c ls C hnm hB hl
  generalize ([.int (nI a), .long (lN ee), .int (nI n)] : List Value).toArray = args at C ⊢
  obtain ⟨hx, hb, hml, hown, hts, hr, hlk⟩ := id C
  have hl : lv_has ls 8 [(0, .int (nI a)), (1, .long (lN ee)), (3, .int (nI n))] := hl
  have loop : ∀ (k r v : Nat) (ls : Array Slot), k < 2 ^ 63 → r < n → v < n → r * v ^ k % n = a ^ ee % n → lv_has ls 8 [(0, .int (nI a)), (1, .long (lN ee)), (3, .int (nI n)), (4, .int (nI r)), (5, .int (nI v)), (6, .long (lN k))] → W p l e (rk 1) s m args below meth c s.heap [] 0 0 (MQ below (QI (fun r => r = nI (a ^ ee % n))) args s 0 0 nf) (F0 m 11 ls []) := by
    intro k
    induction k using Nat.strongRecOn with
    | _ k ih =>
      intro r v ls hk hrn hvn hinv hl
      refine lv_lload hx hb d_D_powS_11 (lv_at hl 5 rfl) ?_
      refine lv_lconst (v := 0) hx hb d_D_powS_13 (by decide) ?_
      refine W.lcmp hx hb d_D_powS_14 ?_
      refine lv_if_le hx hb d_D_powS_15 rfl (fun h1 => ?_) (fun h1 => ?_)
      · have hk0 : k = 0 := by
          have := (lg_cmp_le _ _).mp h1
          have := (pk_lLE hk (b := 0) (by decide)).mp this
          omega
        refine lv_iload hx hb d_D_powS_56 (lv_at hl 3 rfl) ?_
        refine rI C d_D_powS_58 ?_
        subst hk0
        rw [Nat.pow_zero, Nat.mul_one, Nat.mod_eq_of_lt hrn] at hinv
        rw [hinv]
      · have hk0 : 0 < k := by
          apply Classical.byContradiction
          intro hq
          exact h1 ((lg_cmp_le _ _).mpr ((pk_lLE hk (b := 0) (by decide)).mpr (by omega)))
        refine lv_lload hx hb d_D_powS_18 (lv_at hl 5 rfl) ?_
        refine lv_lconst (v := 1) hx hb d_D_powS_20 (by decide) ?_
        refine lv_land hx hb d_D_powS_21 ?_
        rw [show ((lN k) &&& 1 : Int64) = lN (k % 2) from wb_a1 (by omega)]
        refine lv_lconst (v := 1) hx hb d_D_powS_22 (by decide) ?_
        refine W.lcmp hx hb d_D_powS_23 ?_
        refine lv_if_ne hx hb d_D_powS_24 rfl (fun h2 => ?_) (fun h2 => ?_)
        · have hk2 : k % 2 = 0 := by
            apply Classical.byContradiction
            intro hq
            refine h2 ((lg_cmp_eq _ _).mpr ?_)
            rw [show k % 2 = 1 by omega]
            rfl
          refine lv_iload hx hb d_D_powS_37 (lv_at hl 4 rfl) ?_
          refine lv_iload hx hb d_D_powS_39 (lv_at hl 4 rfl) ?_
          refine lv_iload_n hx hb d_D_powS_41 rfl (lv_at hl 2 rfl) ?_
          refine goI (runS C [.int (nI v), .int (nI v), .int (nI n)] [] (c_times l (a := v) (b := v) (n := n) (by omega) (by omega) (by omega) hn) sw_D_29 rfl hl.1 ⟨rfl, rfl⟩ (fun _ _ _ => trivial) (fun _ _ _ _ h => h) (Nat.le_of_ble_eq_true rfl) ⟨(Nat.le_of_ble_eq_true rfl), (Nat.le_of_ble_eq_true rfl)⟩ ⟨(Nat.le_of_ble_eq_true rfl), (Nat.le_of_ble_eq_true rfl)⟩ d_D_powS_42) (fun r hr => ?_)
          subst hr
          refine lv_istore (lv' := [(5, .int (nI (v * v % n))), (0, .int (nI a)), (1, .long (lN ee)), (3, .int (nI n)), (4, .int (nI r)), (6, .long (lN k))]) hx hb d_D_powS_45 hl (Nat.le_of_ble_eq_true rfl) rfl (fun ls hl => ?_)
          refine lv_lload hx hb d_D_powS_47 (lv_at hl 5 rfl) ?_
          refine lv_iconst (v := 1) hx hb d_D_powS_49 (by decide) ?_
          refine lv_lshr (v := lN (k / 2)) hx hb d_D_powS_50 (sh_l (k := 1) hk (by decide)) ?_
          refine lv_lstore (lv' := [(6, .long (lN (k / 2))), (5, .int (nI (v * v % n))), (0, .int (nI a)), (1, .long (lN ee)), (3, .int (nI n)), (4, .int (nI r))]) hx hb d_D_powS_51 hl (Nat.le_of_ble_eq_true rfl) rfl (fun ls hl => ?_)
          refine lv_goto hx hb d_D_powS_53 rfl ?_
          have hl := lv_sub hl [2, 3, 4, 5, 1, 0] rfl
          have hl : lv_has ls 8 [(0, .int (nI a)), (1, .long (lN ee)), (3, .int (nI n)), (4, .int (nI r)), (5, .int (nI (v * v % n))), (6, .long (lN (k / 2)))] := hl
          exact ih (k / 2) (by omega) _ _ ls (by omega) hrn (Nat.mod_lt _ (by omega)) (by rw [pw_even r v hk2]; exact hinv) hl
        · have hk2 : k % 2 = 1 := by
            have hq := h2
            have := (pk_lEQ (by omega) (b := 1) (by decide)).mp ((lg_cmp_eq _ _).mp hq)
            exact this
          refine lv_iload hx hb d_D_powS_27 (lv_at hl 3 rfl) ?_
          refine lv_iload hx hb d_D_powS_29 (lv_at hl 4 rfl) ?_
          refine lv_iload_n hx hb d_D_powS_31 rfl (lv_at hl 2 rfl) ?_
          refine goI (runS C [.int (nI r), .int (nI v), .int (nI n)] [] (c_times l (a := r) (b := v) (n := n) (by omega) (by omega) (by omega) hn) sw_D_29 rfl hl.1 ⟨rfl, rfl⟩ (fun _ _ _ => trivial) (fun _ _ _ _ h => h) (Nat.le_of_ble_eq_true rfl) ⟨(Nat.le_of_ble_eq_true rfl), (Nat.le_of_ble_eq_true rfl)⟩ ⟨(Nat.le_of_ble_eq_true rfl), (Nat.le_of_ble_eq_true rfl)⟩ d_D_powS_32) (fun r hr => ?_)
          subst hr
          refine lv_istore (lv' := [(4, .int (nI (r * v % n))), (0, .int (nI a)), (1, .long (lN ee)), (3, .int (nI n)), (5, .int (nI v)), (6, .long (lN k))]) hx hb d_D_powS_35 hl (Nat.le_of_ble_eq_true rfl) rfl (fun ls hl => ?_)
          refine lv_iload hx hb d_D_powS_37 (lv_at hl 4 rfl) ?_
          refine lv_iload hx hb d_D_powS_39 (lv_at hl 4 rfl) ?_
          refine lv_iload_n hx hb d_D_powS_41 rfl (lv_at hl 3 rfl) ?_
          refine goI (runS C [.int (nI v), .int (nI v), .int (nI n)] [] (c_times l (a := v) (b := v) (n := n) (by omega) (by omega) (by omega) hn) sw_D_29 rfl hl.1 ⟨rfl, rfl⟩ (fun _ _ _ => trivial) (fun _ _ _ _ h => h) (Nat.le_of_ble_eq_true rfl) ⟨(Nat.le_of_ble_eq_true rfl), (Nat.le_of_ble_eq_true rfl)⟩ ⟨(Nat.le_of_ble_eq_true rfl), (Nat.le_of_ble_eq_true rfl)⟩ d_D_powS_42) (fun r hr => ?_)
          subst hr
          refine lv_istore (lv' := [(5, .int (nI (v * v % n))), (4, .int (nI (r * v % n))), (0, .int (nI a)), (1, .long (lN ee)), (3, .int (nI n)), (6, .long (lN k))]) hx hb d_D_powS_45 hl (Nat.le_of_ble_eq_true rfl) rfl (fun ls hl => ?_)
          refine lv_lload hx hb d_D_powS_47 (lv_at hl 5 rfl) ?_
          refine lv_iconst (v := 1) hx hb d_D_powS_49 (by decide) ?_
          refine lv_lshr (v := lN (k / 2)) hx hb d_D_powS_50 (sh_l (k := 1) hk (by decide)) ?_
          refine lv_lstore (lv' := [(6, .long (lN (k / 2))), (5, .int (nI (v * v % n))), (4, .int (nI (r * v % n))), (0, .int (nI a)), (1, .long (lN ee)), (3, .int (nI n))]) hx hb d_D_powS_51 hl (Nat.le_of_ble_eq_true rfl) rfl (fun ls hl => ?_)
          refine lv_goto hx hb d_D_powS_53 rfl ?_
          have hl := lv_sub hl [3, 4, 5, 2, 1, 0] rfl
          have hl : lv_has ls 8 [(0, .int (nI a)), (1, .long (lN ee)), (3, .int (nI n)), (4, .int (nI (r * v % n))), (5, .int (nI (v * v % n))), (6, .long (lN (k / 2)))] := hl
          exact ih (k / 2) (by omega) _ _ ls (by omega) (Nat.mod_lt _ (by omega)) (Nat.mod_lt _ (by omega)) (by rw [pw_odd r v hk2]; exact hinv) hl
  refine lv_iconst (v := 1) hx hb d_D_powS_0 (by decide) ?_
  refine lv_istore (lv' := [(4, .int 1), (0, .int (nI a)), (1, .long (lN ee)), (3, .int (nI n))]) hx hb d_D_powS_1 hl (Nat.le_of_ble_eq_true rfl) rfl (fun ls hl => ?_)
  refine lv_iload_n hx hb d_D_powS_3 rfl (lv_at hl 1 rfl) ?_
  refine lv_iload_n hx hb d_D_powS_4 rfl (lv_at hl 3 rfl) ?_
  refine lv_irem hx hb d_D_powS_5 (nI_ne0 (by omega) hn) ?_
  rw [show ((nI a) - (nI a) / (nI n) * (nI n) : Int32) = nI (a % n) from pk_rem ha (by omega) hn]
  refine lv_istore (lv' := [(5, .int (nI (a % n))), (4, .int 1), (0, .int (nI a)), (1, .long (lN ee)), (3, .int (nI n))]) hx hb d_D_powS_6 hl (Nat.le_of_ble_eq_true rfl) rfl (fun ls hl => ?_)
  refine lv_lload_n hx hb d_D_powS_8 rfl (lv_at hl 3 rfl) ?_
  refine lv_lstore (lv' := [(6, .long (lN ee)), (5, .int (nI (a % n))), (4, .int 1), (0, .int (nI a)), (1, .long (lN ee)), (3, .int (nI n))]) hx hb d_D_powS_9 hl (Nat.le_of_ble_eq_true rfl) rfl (fun ls hl => ?_)
  have hl := lv_sub hl [3, 4, 5, 2, 1, 0] rfl
  have hl : lv_has ls 8 [(0, .int (nI a)), (1, .long (lN ee)), (3, .int (nI n)), (4, .int (nI 1)), (5, .int (nI (a % n))), (6, .long (lN ee))] := hl
  exact loop ee 1 (a % n) ls he (by omega) (Nat.mod_lt _ (by omega)) (by rw [Nat.one_mul, ← Nat.pow_mod]) hl
end
section
/-! pure methods, second part: floorMod, trailing zeros -/
theorem mk_metF {l : Launch} {y : MethodName} {b : ByteArray} {n : Nat} {ret : Option FieldType} {rm : Room} {av : List Value} {B : State → Prop} {Qc : Array Value → State → Outcome → State → Prop} {mc ms : Nat} {free : Addr → Prop} (hy : plainFor y = true) (hlen : (lg_sl av).length ≤ n)
    (body : ∀ (p : Program) (e : Env) (s : State) (m : MethodId) (below : List Frame) (meth : Method) (c : Code) (ls : Array Slot), CX p s av.toArray m meth c y.cls b n ret → meth.name = y.name → B s → lv_has ls n (lv_args 0 av) → W p l e rm s m av.toArray below meth c s.heap [] 0 0 (MQ below Qc av.toArray s mc ms free) (F0 m 0 ls [])) :
    Met l y (.code y b n ret :: tb) rm (va_Pc av B) Qc mc ms free := by
  refine va_MetF (cc := b) (maxL := n) (ret := ret) hy rfl ?_
  intro p e s m args below meth c s₁ Bd hml hv
  obtain ⟨rfl, hB⟩ := hv
  have hts := atoms_spec (ws := .code y b n ret :: tb) Bd.pre
  have hl := lv_entry av (n := n) hlen
  rw [lg_entry_eq]
  exact body p e s m below meth c _ ⟨Bd.exec, Bd.bytes, hml, findClass_of_methodNamed Bd.named, fun w hw => hts w (List.mem_cons_of_mem _ hw), Bd.returns, Bd.notSynchronized⟩ (name_of_methodNamed Bd.named Bd.method).1 hB hl
def nz_sh (i : Int32) (k : Int32) : Int32 := (i.toUInt32 >>> (k.toUInt32 &&& Int32.toUInt32 31)).toInt32
def nz4 (n i : Int32) : Int32 := n + nz_sh i 1
def nz3 (n i : Int32) : Int32 := if i ≤ 4 then nz4 n i else nz4 (n + 2) (nz_sh i 2)
def nz2 (n i : Int32) : Int32 := if i ≤ 16 then nz3 n i else nz3 (n + 4) (nz_sh i 4)
def nz1 (n i : Int32) : Int32 := if i ≤ 256 then nz2 n i else nz2 (n + 8) (nz_sh i 8)
def nz0 (n i : Int32) : Int32 := if i ≤ 65536 then nz1 n i else nz1 (n + 16) (nz_sh i 16)
theorem nz_fin : ∀ z, z < 31 → 1 ≤ z → nz0 1 (nI (2 ^ z - 1)) = nI z := by decide +kernel
theorem nz_pos : ∀ z, z < 31 → 1 ≤ z → 0 < nI (2 ^ z - 1) := by decide +kernel
set_option maxHeartbeats 4000000 in
/-- Math.floorMod(int, int), the second positive -/
theorem c_fmI (l : Launch) (z : Int32) {q : Nat} (hq0 : 0 < q) (hq : q < 2 ^ 31) : Met l y_J_fmI (.code y_J_fmI b_J_fmI 3 (some .int) :: tb) (rk 0) (va_Pc [.int z, .int (nI q)] (fun _ => True)) (QI (fun r => r = nI (z.toInt % q).toNat)) 0 0 nf := by
  refine mk_metF (by decide +kernel) (Nat.le_of_ble_eq_true rfl) ?_
  intro p e s m below meth c ls C hnm hB hl
  generalize ([.int z, .int (nI q)] : List Value).toArray = args at C ⊢
  obtain ⟨hx, hb, hml, hown, hts, hr, hlk⟩ := id C
  have hl : lv_has ls 3 [(0, .int z), (1, .int (nI q))] := hl
  have hqi : (nI q).toInt = (q : Int) := nI_toInt hq
  have hrem := rem_toInt z (nI q)
  rw [hqi] at hrem
  have hem := tm_em (a := z.toInt) (y := q) (by omega)
  have hneg := tm_neg (a := z.toInt) (y := q) (by omega)
  have hb2 := tmod_bounds (a := z.toInt) (M := (q : Int)) (by omega)
  have hpos : 0 ≤ z.toInt % (q : Int) := Int.emod_nonneg _ (by omega)
  have hxs := xor_neg32 (a := z) (y := nI q) (by omega)
  refine lv_iload_n hx hb d_J_fmI_0 rfl (lv_at hl 0 rfl) ?_
  refine lv_iload_n hx hb d_J_fmI_1 rfl (lv_at hl 1 rfl) ?_
  refine lv_irem hx hb d_J_fmI_2 (nI_ne0 hq0 hq) ?_
  generalize z - z / nI q * nI q = rr at hrem ⊢
  refine lv_istore_n (lv' := [(2, .int rr), (0, .int z), (1, .int (nI q))]) hx hb d_J_fmI_3 rfl hl (Nat.le_of_ble_eq_true rfl) rfl (fun ls hl => ?_)
  refine lv_iload_n hx hb d_J_fmI_4 rfl (lv_at hl 1 rfl) ?_
  refine lv_iload_n hx hb d_J_fmI_5 rfl (lv_at hl 2 rfl) ?_
  refine lv_ixor hx hb d_J_fmI_6 ?_
  refine lv_if_ge hx hb d_J_fmI_7 rfl (fun h1 => ?_) (fun h1 => ?_)
  · refine lv_iload_n hx hb d_J_fmI_18 rfl (lv_at hl 0 rfl) ?_
    refine rI C d_J_fmI_19 (eq_nI ?_ hpos)
    rw [hrem, hem, if_neg]
    intro hq3
    exact (hxs.mp h1) (hneg.mp hq3).1
  · refine lv_iload_n hx hb d_J_fmI_10 rfl (lv_at hl 0 rfl) ?_
    refine lv_if_eq hx hb d_J_fmI_11 rfl (fun h2 => ?_) (fun h2 => ?_)
    · refine lv_iload_n hx hb d_J_fmI_18 rfl (lv_at hl 0 rfl) ?_
      refine rI C d_J_fmI_19 (eq_nI ?_ hpos)
      rw [hrem, hem, if_neg]
      intro hq3
      apply (hneg.mp hq3).2
      rw [← hrem, h2]
      rfl
    · refine lv_iload_n hx hb d_J_fmI_14 rfl (lv_at hl 0 rfl) ?_
      refine lv_iload_n hx hb d_J_fmI_15 rfl (lv_at hl 2 rfl) ?_
      refine lv_iadd hx hb d_J_fmI_16 ?_
      have hlt : z.toInt.tmod q < 0 := by
        refine hneg.mpr ⟨?_, ?_⟩
        · apply Classical.byContradiction
          intro hq3
          exact h1 (hxs.mpr hq3)
        · intro hq3
          apply h2
          apply Int32.toInt_inj.mp
          rw [hrem, hq3]
          rfl
      refine rI C d_J_fmI_17 (eq_nI ?_ hpos)
      rw [Jvm.Kit.i32_add (by rw [hrem, hqi]; omega) (by rw [hrem, hqi]; omega), hrem, hqi, hem, if_pos hlt]
set_option maxHeartbeats 4000000 in
/-- Math.floorMod(long, long), the second positive -/
theorem c_fmL (l : Launch) (z : Int64) {q : Nat} (hq0 : 0 < q) (hq : q < 2 ^ 31) : Met l y_J_fmL (.code y_J_fmL b_J_fmL 6 (some .long) :: tb) (rk 0) (va_Pc [.long z, .long (lN q)] (fun _ => True)) (QL (fun r => r = lN (z.toInt % q).toNat)) 0 0 nf := by
  refine mk_metF (by decide +kernel) (Nat.le_of_ble_eq_true rfl) ?_
  intro p e s m below meth c ls C hnm hB hl
  generalize ([.long z, .long (lN q)] : List Value).toArray = args at C ⊢
  obtain ⟨hx, hb, hml, hown, hts, hr, hlk⟩ := id C
  have hl : lv_has ls 6 [(0, .long z), (2, .long (lN q))] := hl
  have hqi : (lN q).toInt = (q : Int) := lN_toInt hq
  have hrem := Jvm.Kit.i64_rem z (lN q)
  rw [hqi] at hrem
  have hem := tm_em (a := z.toInt) (y := q) (by omega)
  have hneg := tm_neg (a := z.toInt) (y := q) (by omega)
  have hb2 := tmod_bounds (a := z.toInt) (M := (q : Int)) (by omega)
  have hpos : 0 ≤ z.toInt % (q : Int) := Int.emod_nonneg _ (by omega)
  have hxs := xor_neg64 (a := z) (y := lN q) (by omega)
  refine lv_lload_n hx hb d_J_fmL_0 rfl (lv_at hl 0 rfl) ?_
  refine lv_lload_n hx hb d_J_fmL_1 rfl (lv_at hl 1 rfl) ?_
  refine lv_lrem hx hb d_J_fmL_2 (lN_ne0 hq0 (by omega)) ?_
  generalize z - z / lN q * lN q = rr at hrem ⊢
  refine lv_lstore (lv' := [(4, .long rr), (0, .long z), (2, .long (lN q))]) hx hb d_J_fmL_3 hl (Nat.le_of_ble_eq_true rfl) rfl (fun ls hl => ?_)
  refine lv_lload_n hx hb d_J_fmL_5 rfl (lv_at hl 1 rfl) ?_
  refine lv_lload_n hx hb d_J_fmL_6 rfl (lv_at hl 2 rfl) ?_
  refine lv_lxor hx hb d_J_fmL_7 ?_
  refine lv_lconst (v := 0) hx hb d_J_fmL_8 (by decide) ?_
  refine W.lcmp hx hb d_J_fmL_9 ?_
  refine lv_if_ge hx hb d_J_fmL_10 rfl (fun h1 => ?_) (fun h1 => ?_)
  · have h1 := (lg_cmp_ge _ _).mp h1
    refine lv_lload hx hb d_J_fmL_25 (lv_at hl 0 rfl) ?_
    refine rL C d_J_fmL_27 (eq_lN ?_ hpos)
    rw [hrem, hem, if_neg]
    intro hq3
    exact (hxs.mp h1) (hneg.mp hq3).1
  · have h1 : ¬ (0 : Int64) ≤ z ^^^ lN q := fun hq3 => h1 ((lg_cmp_ge _ _).mpr hq3)
    refine lv_lload hx hb d_J_fmL_13 (lv_at hl 0 rfl) ?_
    refine lv_lconst (v := 0) hx hb d_J_fmL_15 (by decide) ?_
    refine W.lcmp hx hb d_J_fmL_16 ?_
    refine lv_if_eq hx hb d_J_fmL_17 rfl (fun h2 => ?_) (fun h2 => ?_)
    · have h2 := (lg_cmp_eq _ _).mp h2
      refine lv_lload hx hb d_J_fmL_25 (lv_at hl 0 rfl) ?_
      refine rL C d_J_fmL_27 (eq_lN ?_ hpos)
      rw [hrem, hem, if_neg]
      intro hq3
      apply (hneg.mp hq3).2
      rw [← hrem, h2]
      rfl
    · have h2 : ¬ rr = 0 := fun hq3 => h2 ((lg_cmp_eq _ _).mpr hq3)
      refine lv_lload hx hb d_J_fmL_20 (lv_at hl 0 rfl) ?_
      refine lv_lload_n hx hb d_J_fmL_22 rfl (lv_at hl 2 rfl) ?_
      refine lv_ladd hx hb d_J_fmL_23 ?_
      have hlt : z.toInt.tmod q < 0 := by
        refine hneg.mpr ⟨?_, ?_⟩
        · apply Classical.byContradiction
          intro hq3
          exact h1 (hxs.mpr hq3)
        · intro hq3
          apply h2
          apply Int64.toInt_inj.mp
          rw [hrem, hq3]
          rfl
      refine rL C d_J_fmL_24 (eq_lN ?_ hpos)
      rw [Jvm.Kit.i64_add (by rw [hrem, hqi]; omega) (by rw [hrem, hqi]; omega), hrem, hqi, hem, if_pos hlt]
set_option maxHeartbeats 4000000 in
/-- Integer.numberOfTrailingZeros of an even number above 0 -/
theorem c_ntz (l : Launch) {k z od : Nat} (hk : k = 2 ^ z * od) (hod : od % 2 = 1) (hlt : k < 2 ^ 31) (hz1 : 1 ≤ z) (hz : z < 31) : Met l y_J_ntz (.code y_J_ntz b_J_ntz 2 (some .int) :: tb) (rk 0) (va_Pc [.int (nI k)] (fun _ => True)) (QI (fun r => r = nI z)) 0 0 nf := by
  refine mk_met (by decide) (Nat.le_of_ble_eq_true rfl) ?_
  intro p e s m below meth c ls C hnm hB hl
  generalize ([.int (nI k)] : List Value).toArray = args at C ⊢
  obtain ⟨hx, hb, hml, hown, hts, hr, hlk⟩ := id C
  have hl : lv_has ls 2 [(0, .int (nI k))] := hl
  have K4 : ∀ (n i : Int32) (ls : Array Slot), nz4 n i = nI z → lv_has ls 2 [(0, .int i), (1, .int n)] → W p l e (rk 0) s m args below meth c s.heap [] 0 0 (MQ below (QI (fun r => r = nI z)) args s 0 0 nf) (F0 m 74 ls []) := by
    intro n i ls hf hl
    refine lv_iload_n hx hb d_J_ntz_74 rfl (lv_at hl 1 rfl) ?_
    refine lv_iload_n hx hb d_J_ntz_75 rfl (lv_at hl 0 rfl) ?_
    refine lv_iconst (v := 1) hx hb d_J_ntz_76 (by decide) ?_
    refine lv_iushr (v := nz_sh i 1) hx hb d_J_ntz_77 (rfl) ?_
    refine lv_iadd hx hb d_J_ntz_78 ?_
    exact rI C d_J_ntz_79 hf
  have K3 : ∀ (n i : Int32) (ls : Array Slot), nz3 n i = nI z → lv_has ls 2 [(0, .int i), (1, .int n)] → W p l e (rk 0) s m args below meth c s.heap [] 0 0 (MQ below (QI (fun r => r = nI z)) args s 0 0 nf) (F0 m 62 ls []) := by
    intro n i ls hf hl
    refine lv_iload_n hx hb d_J_ntz_62 rfl (lv_at hl 0 rfl) ?_
    refine lv_iconst (v := 4) hx hb d_J_ntz_63 (by decide) ?_
    refine lv_icmp_le hx hb d_J_ntz_64 rfl (fun g => ?_) (fun g => ?_)
    · exact K4 n i ls (by rw [← hf, nz3, if_pos g]) hl
    · refine lv_iinc (k := 1) (v := n + 2) (lv' := [(1, .int (n + 2)), (0, .int i)]) hx hb d_J_ntz_67 hl rfl (rfl) (Nat.le_of_ble_eq_true rfl) rfl (fun ls hl => ?_)
      refine lv_iload_n hx hb d_J_ntz_70 rfl (lv_at hl 1 rfl) ?_
      refine lv_iconst (v := 2) hx hb d_J_ntz_71 (by decide) ?_
      refine lv_iushr (v := nz_sh i 2) hx hb d_J_ntz_72 (rfl) ?_
      refine lv_istore_n (lv' := [(0, .int (nz_sh i 2)), (1, .int (n + 2))]) hx hb d_J_ntz_73 rfl hl (Nat.le_of_ble_eq_true rfl) rfl (fun ls hl => ?_)
      have hl := lv_sub hl [0, 1] rfl
      have hl : lv_has ls 2 [(0, .int (nz_sh i 2)), (1, .int (n + 2))] := hl
      exact K4 _ _ ls (by rw [← hf, nz3, if_neg g]) hl
  have K2 : ∀ (n i : Int32) (ls : Array Slot), nz2 n i = nI z → lv_has ls 2 [(0, .int i), (1, .int n)] → W p l e (rk 0) s m args below meth c s.heap [] 0 0 (MQ below (QI (fun r => r = nI z)) args s 0 0 nf) (F0 m 49 ls []) := by
    intro n i ls hf hl
    refine lv_iload_n hx hb d_J_ntz_49 rfl (lv_at hl 0 rfl) ?_
    refine lv_bipush (v := 16) hx hb d_J_ntz_50 (by decide) ?_
    refine lv_icmp_le hx hb d_J_ntz_52 rfl (fun g => ?_) (fun g => ?_)
    · exact K3 n i ls (by rw [← hf, nz2, if_pos g]) hl
    · refine lv_iinc (k := 1) (v := n + 4) (lv' := [(1, .int (n + 4)), (0, .int i)]) hx hb d_J_ntz_55 hl rfl (rfl) (Nat.le_of_ble_eq_true rfl) rfl (fun ls hl => ?_)
      refine lv_iload_n hx hb d_J_ntz_58 rfl (lv_at hl 1 rfl) ?_
      refine lv_iconst (v := 4) hx hb d_J_ntz_59 (by decide) ?_
      refine lv_iushr (v := nz_sh i 4) hx hb d_J_ntz_60 (rfl) ?_
      refine lv_istore_n (lv' := [(0, .int (nz_sh i 4)), (1, .int (n + 4))]) hx hb d_J_ntz_61 rfl hl (Nat.le_of_ble_eq_true rfl) rfl (fun ls hl => ?_)
      have hl := lv_sub hl [0, 1] rfl
      have hl : lv_has ls 2 [(0, .int (nz_sh i 4)), (1, .int (n + 4))] := hl
      exact K3 _ _ ls (by rw [← hf, nz2, if_neg g]) hl
  have K1 : ∀ (n i : Int32) (ls : Array Slot), nz1 n i = nI z → lv_has ls 2 [(0, .int i), (1, .int n)] → W p l e (rk 0) s m args below meth c s.heap [] 0 0 (MQ below (QI (fun r => r = nI z)) args s 0 0 nf) (F0 m 34 ls []) := by
    intro n i ls hf hl
    refine lv_iload_n hx hb d_J_ntz_34 rfl (lv_at hl 0 rfl) ?_
    refine lv_sipush (v := 256) hx hb d_J_ntz_35 (by decide) ?_
    refine lv_icmp_le hx hb d_J_ntz_38 rfl (fun g => ?_) (fun g => ?_)
    · exact K2 n i ls (by rw [← hf, nz1, if_pos g]) hl
    · refine lv_iinc (k := 1) (v := n + 8) (lv' := [(1, .int (n + 8)), (0, .int i)]) hx hb d_J_ntz_41 hl rfl (rfl) (Nat.le_of_ble_eq_true rfl) rfl (fun ls hl => ?_)
      refine lv_iload_n hx hb d_J_ntz_44 rfl (lv_at hl 1 rfl) ?_
      refine lv_bipush (v := 8) hx hb d_J_ntz_45 (by decide) ?_
      refine lv_iushr (v := nz_sh i 8) hx hb d_J_ntz_47 (rfl) ?_
      refine lv_istore_n (lv' := [(0, .int (nz_sh i 8)), (1, .int (n + 8))]) hx hb d_J_ntz_48 rfl hl (Nat.le_of_ble_eq_true rfl) rfl (fun ls hl => ?_)
      have hl := lv_sub hl [0, 1] rfl
      have hl : lv_has ls 2 [(0, .int (nz_sh i 8)), (1, .int (n + 8))] := hl
      exact K2 _ _ ls (by rw [← hf, nz1, if_neg g]) hl
  have K0 : ∀ (n i : Int32) (ls : Array Slot), nz0 n i = nI z → lv_has ls 2 [(0, .int i), (1, .int n)] → W p l e (rk 0) s m args below meth c s.heap [] 0 0 (MQ below (QI (fun r => r = nI z)) args s 0 0 nf) (F0 m 19 ls []) := by
    intro n i ls hf hl
    refine lv_iload_n hx hb d_J_ntz_19 rfl (lv_at hl 0 rfl) ?_
    refine lv_ldcw hx hb hown (hts _ tk_48) d_J_ntz_20 ?_
    refine lv_icmp_le hx hb d_J_ntz_23 rfl (fun g => ?_) (fun g => ?_)
    · exact K1 n i ls (by rw [← hf, nz0, if_pos g]) hl
    · refine lv_iinc (k := 1) (v := n + 16) (lv' := [(1, .int (n + 16)), (0, .int i)]) hx hb d_J_ntz_26 hl rfl (rfl) (Nat.le_of_ble_eq_true rfl) rfl (fun ls hl => ?_)
      refine lv_iload_n hx hb d_J_ntz_29 rfl (lv_at hl 1 rfl) ?_
      refine lv_bipush (v := 16) hx hb d_J_ntz_30 (by decide) ?_
      refine lv_iushr (v := nz_sh i 16) hx hb d_J_ntz_32 (rfl) ?_
      refine lv_istore_n (lv' := [(0, .int (nz_sh i 16)), (1, .int (n + 16))]) hx hb d_J_ntz_33 rfl hl (Nat.le_of_ble_eq_true rfl) rfl (fun ls hl => ?_)
      have hl := lv_sub hl [0, 1] rfl
      have hl : lv_has ls 2 [(0, .int (nz_sh i 16)), (1, .int (n + 16))] := hl
      exact K1 _ _ ls (by rw [← hf, nz0, if_neg g]) hl
  refine lv_iload_n hx hb d_J_ntz_0 rfl (lv_at hl 0 rfl) ?_
  refine lv_iconst (v := (-1)) hx hb d_J_ntz_1 (by decide) ?_
  refine lv_ixor hx hb d_J_ntz_2 ?_
  refine lv_iload_n hx hb d_J_ntz_3 rfl (lv_at hl 0 rfl) ?_
  refine lv_iconst (v := 1) hx hb d_J_ntz_4 (by decide) ?_
  refine lv_isub hx hb d_J_ntz_5 ?_
  refine lv_iand hx hb d_J_ntz_6 ?_
  rw [show (((nI k) ^^^ (-1)) &&& ((nI k) - 1) : Int32) = nI (2 ^ z - 1) from nz_mask hk hod hlt]
  refine lv_istore_n (lv' := [(0, .int (nI (2 ^ z - 1)))]) hx hb d_J_ntz_7 rfl hl (Nat.le_of_ble_eq_true rfl) rfl (fun ls hl => ?_)
  refine lv_iload_n hx hb d_J_ntz_8 rfl (lv_at hl 0 rfl) ?_
  refine lv_if_gt hx hb d_J_ntz_9 rfl (fun h0 => ?_) (fun h0 => ?_)
  · refine lv_iconst (v := 1) hx hb d_J_ntz_17 (by decide) ?_
    refine lv_istore_n (lv' := [(1, .int 1), (0, .int (nI (2 ^ z - 1)))]) hx hb d_J_ntz_18 rfl hl (Nat.le_of_ble_eq_true rfl) rfl (fun ls hl => ?_)
    have hl := lv_sub hl [1, 0] rfl
    have hl : lv_has ls 2 [(0, .int (nI (2 ^ z - 1))), (1, .int 1)] := hl
    exact K0 _ _ ls (nz_fin z hz hz1) hl
  · exact absurd (nz_pos z hz hz1) h0
end
section
theorem eg_long {n b c : Nat} {u v : Int64} (hn : n < 2 ^ 31) (hc : 0 < c) (hb : b < 2 ^ 31) (h : eg_I n b c u.toInt v.toInt) : (u - lN (b / c) * v).toInt = u.toInt - ((b / c : Nat) : Int) * v.toInt := by
  obtain ⟨⟨h1, -⟩, h3⟩ := eg_next h
  have hle : (u.toInt - ((b / c : Nat) : Int) * v.toInt).natAbs ≤ (u.toInt - ((b / c : Nat) : Int) * v.toInt).natAbs * c := Nat.le_mul_of_pos_right _ hc
  have hbc : b / c ≤ b := Nat.div_le_self b c
  have ht : (lN (b / c)).toInt = ((b / c : Nat) : Int) := lN_toInt (by omega)
  have hm : (((b / c : Nat) : Int) * v.toInt).natAbs = b / c * v.toInt.natAbs := by rw [Int.natAbs_mul, Int.natAbs_natCast]
  have e1 : (lN (b / c) * v).toInt = ((b / c : Nat) : Int) * v.toInt := by
    rw [Jvm.Kit.i64_mul, ht] <;> (rw [ht]; omega)
  rw [Jvm.Kit.i64_sub, e1] <;> (rw [e1]; omega)
/-- prime(n), as the code has it -/
def mr_P (n : Nat) : Prop := n = 2 ∨ (n % 2 = 1 ∧ (2 < n → mr_S n 2) ∧ (3 < n → mr_S n 3) ∧ (5 < n → mr_S n 5) ∧ (7 < n → mr_S n 7))
def z_of (P : Prop) (r : Int32) : Prop := (r = 1 ∧ P) ∨ (r = 0 ∧ ¬ P)
end
section
/-! inverse(a, n); passes; prime -/
set_option maxHeartbeats 4000000 in
/-- inverse(a, n) -/
theorem c_invS (l : Launch) {a n : Nat} (ha0 : 0 < a) (ha : a < n) (hn : n < 2 ^ 31) : Met l y_D_invS (.code y_D_invS b_D_invS 12 (some .int) :: tb) (rk 1) (va_Pc [.int (nI a), .int (nI n)] (fun _ => True)) (QI (fun r => r = nI (inv_v a n))) 0 0 nf := by
  refine mk_met (by decide) (Nat.le_of_ble_eq_true rfl) ?_
  intro p e s m below meth c ls C hnm hB hl
  generalize ([.int (nI a), .int (nI n)] : List Value).toArray = args at C ⊢
  obtain ⟨hx, hb, hml, hown, hts, hr, hlk⟩ := id C
  have hl : lv_has ls 12 [(0, .int (nI a)), (1, .int (nI n))] := hl
  have loop : ∀ (cc b : Nat) (u v : Int64) (ls : Array Slot), cc < 2 ^ 31 → b < 2 ^ 31 → eg_I n b cc u.toInt v.toInt → eg_v b cc u.toInt v.toInt = eg_v n a 0 1 → lv_has ls 12 [(0, .int (nI a)), (1, .int (nI n)), (2, .long u), (4, .long v), (6, .int (nI b)), (7, .int (nI cc))] → W p l e (rk 1) s m args below meth c s.heap [] 0 0 (MQ below (QI (fun r => r = nI (inv_v a n))) args s 0 0 nf) (F0 m 11 ls []) := by
    intro cc
    induction cc using Nat.strongRecOn with
    | _ cc ih =>
      intro b u v ls hcc hbb hI hE hl
      refine lv_iload hx hb d_D_invS_11 (lv_at hl 5 rfl) ?_
      refine lv_if_eq hx hb d_D_invS_13 rfl (fun h1 => ?_) (fun h1 => ?_)
      · have hc0 : cc = 0 := by
          have := (nI_eq hcc (b := 0) (by decide)).mp h1
          exact this
        subst hc0
        refine lv_lload_n hx hb d_D_invS_58 rfl (lv_at hl 2 rfl) ?_
        refine lv_iload_n hx hb d_D_invS_59 rfl (lv_at hl 1 rfl) ?_
        refine lv_i2l (v := lN n) hx hb d_D_invS_60 (nI_l hn) ?_
        refine goL (runS C [.long u, .long (lN n)] [] (c_fmL l u (q := n) (by omega) hn) sw_D_47 rfl hl.1 ⟨rfl, rfl⟩ (fun _ _ _ => trivial) (fun _ _ _ _ h => h) (Nat.le_of_ble_eq_true rfl) ⟨(Nat.le_of_ble_eq_true rfl), (Nat.le_of_ble_eq_true rfl)⟩ ⟨(Nat.le_of_ble_eq_true rfl), (Nat.le_of_ble_eq_true rfl)⟩ d_D_invS_61) (fun r hr => ?_)
        subst hr
        refine lv_l2i (v := nI (u.toInt % n).toNat) hx hb d_D_invS_64 (lN_i _) ?_
        refine rI C d_D_invS_65 ?_
        rw [eg_0] at hE
        rw [inv_v, ← hE]
      · have hc0 : 0 < cc := by
          apply Classical.byContradiction
          intro hq
          exact h1 (by rw [show cc = 0 by omega]; rfl)
        have hnx := eg_next hI
        have hlg := eg_long hn hc0 hbb hI
        have hmod := Nat.mod_lt b hc0
        have hdle : b / cc ≤ b := Nat.div_le_self _ _
        refine lv_iload hx hb d_D_invS_16 (lv_at hl 4 rfl) ?_
        refine lv_iload hx hb d_D_invS_18 (lv_at hl 5 rfl) ?_
        refine lv_idiv hx hb d_D_invS_20 (h1) ?_
        rw [show ((nI b) / (nI cc) : Int32) = nI (b / cc) from pk_div hbb hc0 hcc]
        refine lv_istore (lv' := [(8, .int (nI (b / cc))), (0, .int (nI a)), (1, .int (nI n)), (2, .long u), (4, .long v), (6, .int (nI b)), (7, .int (nI cc))]) hx hb d_D_invS_21 hl (Nat.le_of_ble_eq_true rfl) rfl (fun ls hl => ?_)
        refine lv_iload hx hb d_D_invS_23 (lv_at hl 5 rfl) ?_
        refine lv_iload hx hb d_D_invS_25 (lv_at hl 6 rfl) ?_
        refine lv_irem hx hb d_D_invS_27 (h1) ?_
        rw [show ((nI b) - (nI b) / (nI cc) * (nI cc) : Int32) = nI (b % cc) from pk_rem hbb hc0 hcc]
        refine lv_istore (lv' := [(9, .int (nI (b % cc))), (8, .int (nI (b / cc))), (0, .int (nI a)), (1, .int (nI n)), (2, .long u), (4, .long v), (6, .int (nI b)), (7, .int (nI cc))]) hx hb d_D_invS_28 hl (Nat.le_of_ble_eq_true rfl) rfl (fun ls hl => ?_)
        refine lv_lload_n hx hb d_D_invS_30 rfl (lv_at hl 4 rfl) ?_
        refine lv_iload hx hb d_D_invS_31 (lv_at hl 1 rfl) ?_
        refine lv_i2l (v := lN (b / cc)) hx hb d_D_invS_33 (nI_l (by omega)) ?_
        refine lv_lload hx hb d_D_invS_34 (lv_at hl 5 rfl) ?_
        refine lv_lmul hx hb d_D_invS_36 ?_
        refine lv_lsub hx hb d_D_invS_37 ?_
        refine lv_lstore (lv' := [(10, .long (u - ((lN (b / cc)) * v))), (9, .int (nI (b % cc))), (8, .int (nI (b / cc))), (0, .int (nI a)), (1, .int (nI n)), (2, .long u), (4, .long v), (6, .int (nI b)), (7, .int (nI cc))]) hx hb d_D_invS_38 hl (Nat.le_of_ble_eq_true rfl) rfl (fun ls hl => ?_)
        refine lv_lload hx hb d_D_invS_40 (lv_at hl 6 rfl) ?_
        refine lv_lstore_n (lv' := [(2, .long v), (10, .long (u - ((lN (b / cc)) * v))), (9, .int (nI (b % cc))), (8, .int (nI (b / cc))), (0, .int (nI a)), (1, .int (nI n)), (4, .long v), (6, .int (nI b)), (7, .int (nI cc))]) hx hb d_D_invS_42 rfl hl (Nat.le_of_ble_eq_true rfl) rfl (fun ls hl => ?_)
        refine lv_lload hx hb d_D_invS_43 (lv_at hl 1 rfl) ?_
        refine lv_lstore (lv' := [(4, .long (u - ((lN (b / cc)) * v))), (2, .long v), (10, .long (u - ((lN (b / cc)) * v))), (9, .int (nI (b % cc))), (8, .int (nI (b / cc))), (0, .int (nI a)), (1, .int (nI n)), (6, .int (nI b)), (7, .int (nI cc))]) hx hb d_D_invS_45 hl (Nat.le_of_ble_eq_true rfl) rfl (fun ls hl => ?_)
        refine lv_iload hx hb d_D_invS_47 (lv_at hl 8 rfl) ?_
        refine lv_istore (lv' := [(6, .int (nI cc)), (4, .long (u - ((lN (b / cc)) * v))), (2, .long v), (10, .long (u - ((lN (b / cc)) * v))), (9, .int (nI (b % cc))), (8, .int (nI (b / cc))), (0, .int (nI a)), (1, .int (nI n)), (7, .int (nI cc))]) hx hb d_D_invS_49 hl (Nat.le_of_ble_eq_true rfl) rfl (fun ls hl => ?_)
        refine lv_iload hx hb d_D_invS_51 (lv_at hl 4 rfl) ?_
        refine lv_istore (lv' := [(7, .int (nI (b % cc))), (6, .int (nI cc)), (4, .long (u - ((lN (b / cc)) * v))), (2, .long v), (10, .long (u - ((lN (b / cc)) * v))), (9, .int (nI (b % cc))), (8, .int (nI (b / cc))), (0, .int (nI a)), (1, .int (nI n))]) hx hb d_D_invS_53 hl (Nat.le_of_ble_eq_true rfl) rfl (fun ls hl => ?_)
        refine lv_goto hx hb d_D_invS_55 rfl ?_
        have hl := lv_sub hl [7, 8, 3, 2, 1, 0] rfl
        have hl : lv_has ls 12 [(0, .int (nI a)), (1, .int (nI n)), (2, .long v), (4, .long (u - ((lN (b / cc)) * v))), (6, .int (nI cc)), (7, .int (nI (b % cc)))] := hl
        refine ih (b % cc) hmod cc v (u - lN (b / cc) * v) ls (by omega) hcc ?_ ?_ hl
        · rw [hlg]; exact hnx.1
        · rw [hlg, ← eg_s hc0]; exact hE
  refine lv_lconst (v := 1) hx hb d_D_invS_0 (by decide) ?_
  refine lv_lstore_n (lv' := [(2, .long 1), (0, .int (nI a)), (1, .int (nI n))]) hx hb d_D_invS_1 rfl hl (Nat.le_of_ble_eq_true rfl) rfl (fun ls hl => ?_)
  refine lv_lconst (v := 0) hx hb d_D_invS_2 (by decide) ?_
  refine lv_lstore (lv' := [(4, .long 0), (2, .long 1), (0, .int (nI a)), (1, .int (nI n))]) hx hb d_D_invS_3 hl (Nat.le_of_ble_eq_true rfl) rfl (fun ls hl => ?_)
  refine lv_iload_n hx hb d_D_invS_5 rfl (lv_at hl 2 rfl) ?_
  refine lv_istore (lv' := [(6, .int (nI a)), (4, .long 0), (2, .long 1), (0, .int (nI a)), (1, .int (nI n))]) hx hb d_D_invS_6 hl (Nat.le_of_ble_eq_true rfl) rfl (fun ls hl => ?_)
  refine lv_iload_n hx hb d_D_invS_8 rfl (lv_at hl 4 rfl) ?_
  refine lv_istore (lv' := [(7, .int (nI n)), (6, .int (nI a)), (4, .long 0), (2, .long 1), (0, .int (nI a)), (1, .int (nI n))]) hx hb d_D_invS_9 hl (Nat.le_of_ble_eq_true rfl) rfl (fun ls hl => ?_)
  have hl := lv_sub hl [4, 5, 3, 2, 1, 0] rfl
  have hl : lv_has ls 12 [(0, .int (nI a)), (1, .int (nI n)), (2, .long 1), (4, .long 0), (6, .int (nI a)), (7, .int (nI n))] := hl
  refine loop n a 1 0 ls hn (by omega) ?_ ?_ hl
  · refine ⟨?_, Or.inr ⟨by decide, by decide⟩⟩
    show 1 * n + 0 * a = n
    omega
  · exact eg_first ha
set_option maxHeartbeats 4000000 in
/-- passes(n, b ^ odd mod n, odd) -/
theorem c_passes (l : Launch) {n b z od : Nat} (hn : n - 1 = 2 ^ z * od) (hod : od % 2 = 1) (hz1 : 1 ≤ z) (hz : z ≤ 30) (hn3 : 3 ≤ n) (hlt : n < 2 ^ 31) : Met l y_D_passes (.code y_D_passes b_D_passes 5 (some .boolean) :: tb) (rk 1) (va_Pc [.int (nI n), .int (nI (b ^ od % n)), .int (nI od)] (fun _ => True)) (QI (z_of (mr_S n b))) 0 0 nf := by
  refine mk_met (by decide) (Nat.le_of_ble_eq_true rfl) ?_
  intro p e s m below meth c ls C hnm hB hl
  generalize ([.int (nI n), .int (nI (b ^ od % n)), .int (nI od)] : List Value).toArray = args at C ⊢
  obtain ⟨hx, hb, hml, hown, hts, hr, hlk⟩ := id C
  have hl : lv_has ls 5 [(0, .int (nI n)), (1, .int (nI (b ^ od % n))), (2, .int (nI od))] := hl
  have hp1 : nI n - 1 = nI (n - 1) := by
    obtain ⟨j, rfl⟩ : ∃ j, n = j + 1 := ⟨n - 1, by omega⟩
    exact nI_pred j
  have hml2 : ∀ t, b ^ t % n < n := fun t => Nat.mod_lt _ (by omega)
  have hmono : ∀ i, i ≤ z → od * 2 ^ i ≤ n - 1 := fun i hi => by
    rw [hn, Nat.mul_comm]
    exact Nat.mul_le_mul_right _ (Nat.pow_le_pow_right (by decide) hi)
  have hlt2 : ∀ i, i < z → 2 * (od * 2 ^ i) ≤ n - 1 := fun i hi => by
    have := hmono (i + 1) hi
    rw [Nat.pow_succ] at this
    rw [Nat.mul_comm 2, Nat.mul_assoc]
    exact this
  have hodp : 0 < od := by omega
  have loop : ∀ (d i : Nat) (ls : Array Slot), d = z - i → i ≤ z → ¬ b ^ od % n = 1 → (∀ i2, i2 < i → ¬ b ^ (od * 2 ^ i2) % n = n - 1) → lv_has ls 5 [(0, .int (nI n)), (1, .int (nI (b ^ od % n))), (2, .int (nI od)), (3, .int (nI (b ^ (od * 2 ^ i) % n))), (4, .int (nI (od * 2 ^ i)))] → W p l e (rk 1) s m args below meth c s.heap [] 0 0 (MQ below (QI (z_of (mr_S n b))) args s 0 0 nf) (F0 m 12 ls []) := by
    intro d
    induction d with
    | zero =>
      intro i ls hd hi hne hno hl
      have hiz : i = z := by omega
      subst hiz
      have hge : nI (n - 1) ≤ nI (od * 2 ^ i) := by rw [hn, Nat.mul_comm]; exact Int32.le_refl _
      refine lv_iload hx hb d_D_passes_12 (lv_at hl 4 rfl) ?_
      refine lv_iload_n hx hb d_D_passes_14 rfl (lv_at hl 0 rfl) ?_
      refine lv_iconst (v := 1) hx hb d_D_passes_15 (by decide) ?_
      refine lv_isub hx hb d_D_passes_16 ?_
      rw [show ((nI n) - 1 : Int32) = nI (n - 1) from hp1]
      refine lv_icmp_ge hx hb d_D_passes_17 rfl (fun h1 => ?_) (fun h1 => ?_)
      · refine lv_iload hx hb d_D_passes_43 (lv_at hl 4 rfl) ?_
        refine lv_iload_n hx hb d_D_passes_45 rfl (lv_at hl 0 rfl) ?_
        refine lv_iconst (v := 1) hx hb d_D_passes_46 (by decide) ?_
        refine lv_isub hx hb d_D_passes_47 ?_
        rw [show ((nI n) - 1 : Int32) = nI (n - 1) from hp1]
        refine lv_icmp_ge hx hb d_D_passes_48 rfl (fun h2 => ?_) (fun h2 => ?_)
        · refine lv_iconst (v := 0) hx hb d_D_passes_55 (by decide) ?_
          refine rZ C d_D_passes_56 (Or.inl rfl) (Or.inr ⟨rfl, ?_⟩)
          rw [mr_S_iff hn hod hz1 hz]
          rintro (hq | ⟨i2, hi2, hq⟩)
          · exact hne hq
          · exact hno i2 (by omega) hq
        · exact absurd (hge) h2
      · exact absurd hge h1
    | succ d ih =>
      intro i ls hd hi hne hno hl
      have hiz : i < z := by omega
      have h2i := hlt2 i hiz
      have hposi : 0 < od * 2 ^ i := Nat.mul_pos hodp (Nat.pow_pos (by decide))
      have hng : ¬ nI (n - 1) ≤ nI (od * 2 ^ i) := nI_ge (by omega) (by omega)
      refine lv_iload hx hb d_D_passes_12 (lv_at hl 4 rfl) ?_
      refine lv_iload_n hx hb d_D_passes_14 rfl (lv_at hl 0 rfl) ?_
      refine lv_iconst (v := 1) hx hb d_D_passes_15 (by decide) ?_
      refine lv_isub hx hb d_D_passes_16 ?_
      rw [show ((nI n) - 1 : Int32) = nI (n - 1) from hp1]
      refine lv_icmp_ge hx hb d_D_passes_17 rfl (fun h1 => ?_) (fun h1 => ?_)
      · exact absurd h1 hng
      · refine lv_iload_n hx hb d_D_passes_20 rfl (lv_at hl 3 rfl) ?_
        refine lv_iload_n hx hb d_D_passes_21 rfl (lv_at hl 0 rfl) ?_
        refine lv_iconst (v := 1) hx hb d_D_passes_22 (by decide) ?_
        refine lv_isub hx hb d_D_passes_23 ?_
        rw [show ((nI n) - 1 : Int32) = nI (n - 1) from hp1]
        refine lv_icmp_eq hx hb d_D_passes_24 rfl (fun h2 => ?_) (fun h2 => ?_)
        · refine lv_iload hx hb d_D_passes_43 (lv_at hl 4 rfl) ?_
          refine lv_iload_n hx hb d_D_passes_45 rfl (lv_at hl 0 rfl) ?_
          refine lv_iconst (v := 1) hx hb d_D_passes_46 (by decide) ?_
          refine lv_isub hx hb d_D_passes_47 ?_
          rw [show ((nI n) - 1 : Int32) = nI (n - 1) from hp1]
          refine lv_icmp_ge hx hb d_D_passes_48 rfl (fun h3 => ?_) (fun h3 => ?_)
          · exact absurd h3 hng
          · refine lv_iconst (v := 1) hx hb d_D_passes_51 (by decide) ?_
            refine lv_goto hx hb d_D_passes_52 rfl ?_
            refine rZ C d_D_passes_56 (Or.inr rfl) (Or.inl ⟨rfl, (mr_S_iff hn hod hz1 hz).mpr (Or.inr ⟨i, hiz, ?_⟩)⟩)
            have := hml2 (od * 2 ^ i)
            exact (nI_eq (by omega) (by omega)).mp h2
        · refine lv_iload_n hx hb d_D_passes_27 rfl (lv_at hl 3 rfl) ?_
          refine lv_iload_n hx hb d_D_passes_28 rfl (lv_at hl 3 rfl) ?_
          refine lv_iload_n hx hb d_D_passes_29 rfl (lv_at hl 0 rfl) ?_
          refine goI (runS C [.int (nI (b ^ (od * 2 ^ i) % n)), .int (nI (b ^ (od * 2 ^ i) % n)), .int (nI n)] [] (c_times l (a := b ^ (od * 2 ^ i) % n) (b := b ^ (od * 2 ^ i) % n) (n := n) (by have := hml2 (od * 2 ^ i); omega) (by have := hml2 (od * 2 ^ i); omega) (by omega) hlt) sw_D_29 rfl hl.1 ⟨rfl, rfl⟩ (fun _ _ _ => trivial) (fun _ _ _ _ h => h) (Nat.le_of_ble_eq_true rfl) ⟨(Nat.le_of_ble_eq_true rfl), (Nat.le_of_ble_eq_true rfl)⟩ ⟨(Nat.le_of_ble_eq_true rfl), (Nat.le_of_ble_eq_true rfl)⟩ d_D_passes_30) (fun r hr => ?_)
          subst hr
          rw [show (nI (b ^ (od * 2 ^ i) % n * (b ^ (od * 2 ^ i) % n) % n) : Int32) = nI (b ^ (od * 2 ^ (i + 1)) % n) from by rw [← Nat.mul_mod, ← Nat.pow_add, Nat.pow_succ, ← Nat.mul_assoc, Nat.mul_two]]
          refine lv_istore_n (lv' := [(3, .int (nI (b ^ (od * 2 ^ (i + 1)) % n))), (0, .int (nI n)), (1, .int (nI (b ^ od % n))), (2, .int (nI od)), (4, .int (nI (od * 2 ^ i)))]) hx hb d_D_passes_33 rfl hl (Nat.le_of_ble_eq_true rfl) rfl (fun ls hl => ?_)
          refine lv_iconst (v := 2) hx hb d_D_passes_34 (by decide) ?_
          refine lv_iload hx hb d_D_passes_35 (lv_at hl 4 rfl) ?_
          refine lv_imul hx hb d_D_passes_37 ?_
          rw [show (2 * (nI (od * 2 ^ i)) : Int32) = nI (od * 2 ^ (i + 1)) from by rw [show (2 : Int32) = nI 2 from rfl, pk_mul, Nat.pow_succ, Nat.mul_comm 2, Nat.mul_assoc]]
          refine lv_istore (lv' := [(4, .int (nI (od * 2 ^ (i + 1)))), (3, .int (nI (b ^ (od * 2 ^ (i + 1)) % n))), (0, .int (nI n)), (1, .int (nI (b ^ od % n))), (2, .int (nI od))]) hx hb d_D_passes_38 hl (Nat.le_of_ble_eq_true rfl) rfl (fun ls hl => ?_)
          refine lv_goto hx hb d_D_passes_40 rfl ?_
          have hl := lv_sub hl [2, 3, 4, 1, 0] rfl
          have hl : lv_has ls 5 [(0, .int (nI n)), (1, .int (nI (b ^ od % n))), (2, .int (nI od)), (3, .int (nI (b ^ (od * 2 ^ (i + 1)) % n))), (4, .int (nI (od * 2 ^ (i + 1))))] := hl
          refine ih (i + 1) ls (by omega) (by omega) hne (fun i2 hi2 => ?_) hl
          rcases Nat.lt_succ_iff_lt_or_eq.mp hi2 with hq | hq
          · exact hno i2 hq
          · subst hq; intro hq2; exact h2 (by rw [hq2])
  refine lv_iload_n hx hb d_D_passes_0 rfl (lv_at hl 1 rfl) ?_
  refine lv_istore_n (lv' := [(3, .int (nI (b ^ od % n))), (0, .int (nI n)), (1, .int (nI (b ^ od % n))), (2, .int (nI od))]) hx hb d_D_passes_1 rfl hl (Nat.le_of_ble_eq_true rfl) rfl (fun ls hl => ?_)
  refine lv_iload_n hx hb d_D_passes_2 rfl (lv_at hl 3 rfl) ?_
  refine lv_istore (lv' := [(4, .int (nI od)), (3, .int (nI (b ^ od % n))), (0, .int (nI n)), (1, .int (nI (b ^ od % n))), (2, .int (nI od))]) hx hb d_D_passes_3 hl (Nat.le_of_ble_eq_true rfl) rfl (fun ls hl => ?_)
  refine lv_iload_n hx hb d_D_passes_5 rfl (lv_at hl 1 rfl) ?_
  refine lv_iconst (v := 1) hx hb d_D_passes_6 (by decide) ?_
  refine lv_icmp_ne hx hb d_D_passes_7 rfl (fun h1 => ?_) (fun h1 => ?_)
  · have e0 : od * 2 ^ 0 = od := by rw [Nat.pow_zero, Nat.mul_one]
    have hl := lv_sub hl [2, 3, 4, 1, 0] rfl
    have hl : lv_has ls 5 [(0, .int (nI n)), (1, .int (nI (b ^ od % n))), (2, .int (nI od)), (3, .int (nI (b ^ (od * 2 ^ 0) % n))), (4, .int (nI (od * 2 ^ 0)))] := by rw [e0]; exact hl
    refine loop (z - 0) 0 ls rfl (by omega) (fun hq => h1 (by rw [hq]; rfl)) (fun i2 hi2 => by omega) hl
  · refine lv_iconst (v := 1) hx hb d_D_passes_10 (by decide) ?_
    refine rZ C d_D_passes_11 (Or.inr rfl) (Or.inl ⟨rfl, (mr_S_iff hn hod hz1 hz).mpr (Or.inl ?_)⟩)
    have := hml2 od
    exact (nI_eq (b := 1) (by omega) (by decide)).mp h1
theorem sh_i : ∀ z, z < 32 → ((nI z &&& 31).toBitVec.smod 32).toNat = z := by decide +kernel
set_option maxHeartbeats 4000000 in
/-- prime(n) -/
theorem c_prime (l : Launch) {n : Nat} (hn2 : 2 ≤ n) (hlt : n < 2 ^ 31) : Met l y_D_prime (.code y_D_prime b_D_prime 3 (some .boolean) :: tb) (rk 2) (va_Pc [.int (nI n)] (fun _ => True)) (QI (z_of (mr_P n))) 0 0 nf := by
  refine mk_met (by decide) (Nat.le_of_ble_eq_true rfl) ?_
  intro p e s m below meth c ls C hnm hB hl
  generalize ([.int (nI n)] : List Value).toArray = args at C ⊢
  obtain ⟨hx, hb, hml, hown, hts, hr, hlk⟩ := id C
  have hl : lv_has ls 3 [(0, .int (nI n))] := hl
  refine lv_iload_n hx hb d_D_prime_0 rfl (lv_at hl 0 rfl) ?_
  refine lv_iconst (v := 2) hx hb d_D_prime_1 (by decide) ?_
  refine lv_icmp_lt hx hb d_D_prime_2 rfl (fun h1 => ?_) (fun h1 => ?_)
  · exact absurd h1 (nI_nlt (b := 2) hn2 hlt)
  · refine lv_iload_n hx hb d_D_prime_5 rfl (lv_at hl 0 rfl) ?_
    refine lv_iconst (v := 2) hx hb d_D_prime_6 (by decide) ?_
    refine lv_irem hx hb d_D_prime_7 (by decide) ?_
    rw [show ((nI n) - (nI n) / 2 * 2 : Int32) = nI (n % 2) from pk_rem (d := 2) hlt (by decide) (by decide)]
    refine lv_if_ne hx hb d_D_prime_8 rfl (fun h2 => ?_) (fun h2 => ?_)
    · have hodd : n % 2 = 1 := by
        apply Classical.byContradiction
        intro hq
        exact h2 (by rw [show n % 2 = 0 by omega]; rfl)
      obtain ⟨z, od, hzo, hod⟩ := nt_v2 (n - 1) (by omega)
      have hz1 : 1 ≤ z := by
        rcases Nat.eq_zero_or_pos z with h | h
        · subst h
          rw [Nat.pow_zero, Nat.one_mul] at hzo
          omega
        · exact h
      have hz30 : z ≤ 30 := by
        apply Classical.byContradiction
        intro hq
        have q1 : 2 ^ 31 ≤ 2 ^ z := Nat.pow_le_pow_right (by decide) (by omega)
        have q2 : 2 ^ z ≤ 2 ^ z * od := Nat.le_mul_of_pos_right _ (by omega)
        omega
      have hodn : od ≤ n - 1 := by rw [hzo]; exact Nat.le_mul_of_pos_left _ (Nat.pow_pos (by decide))
      have hp1 : nI n - 1 = nI (n - 1) := by
        obtain ⟨j, rfl⟩ : ∃ j, n = j + 1 := ⟨n - 1, by omega⟩
        exact nI_pred j
      refine lv_iload_n hx hb d_D_prime_22 rfl (lv_at hl 0 rfl) ?_
      refine lv_iconst (v := 1) hx hb d_D_prime_23 (by decide) ?_
      refine lv_isub hx hb d_D_prime_24 ?_
      rw [show ((nI n) - 1 : Int32) = nI (n - 1) from hp1]
      refine lv_iload_n hx hb d_D_prime_25 rfl (lv_at hl 0 rfl) ?_
      refine lv_iconst (v := 1) hx hb d_D_prime_26 (by decide) ?_
      refine lv_isub hx hb d_D_prime_27 ?_
      rw [show ((nI n) - 1 : Int32) = nI (n - 1) from hp1]
      refine goI (runS C [.int (nI (n - 1))] [.int (nI (n - 1))] (c_ntz l (k := n - 1) (z := z) (od := od) hzo hod (by omega) hz1 (by omega)) sw_D_33 rfl hl.1 ⟨rfl, rfl⟩ (fun _ _ _ => trivial) (fun _ _ _ _ h => h) (Nat.le_of_ble_eq_true rfl) ⟨(Nat.le_of_ble_eq_true rfl), (Nat.le_of_ble_eq_true rfl)⟩ ⟨(Nat.le_of_ble_eq_true rfl), (Nat.le_of_ble_eq_true rfl)⟩ d_D_prime_28) (fun r hr => ?_)
      subst hr
      refine lv_ishr hx hb d_D_prime_31 ?_
      rw [show ((nI (n - 1)) >>> ((nI z) &&& 31) : Int32) = nI od from by rw [pk_shrN (k := z) (by omega) _ (sh_i z (by omega)), hzo, Nat.mul_div_cancel_left _ (Nat.pow_pos (by decide))]]
      refine lv_istore_n (lv' := [(1, .int (nI od)), (0, .int (nI n))]) hx hb d_D_prime_32 rfl hl (Nat.le_of_ble_eq_true rfl) rfl (fun ls hl => ?_)
      refine lv_iconst (v := 2) hx hb d_D_prime_33 (by decide) ?_
      refine lv_istore_n (lv' := [(2, .int 2), (1, .int (nI od)), (0, .int (nI n))]) hx hb d_D_prime_34 rfl hl (Nat.le_of_ble_eq_true rfl) rfl (fun ls hl => ?_)
      refine lv_iload_n hx hb d_D_prime_35 rfl (lv_at hl 0 rfl) ?_
      refine lv_bipush (v := 8) hx hb d_D_prime_36 (by decide) ?_
      refine lv_icmp_ge hx hb d_D_prime_38 rfl (fun g => ?_) (fun g => ?_)
      · exact absurd g (by decide)
      · refine lv_iload_n hx hb d_D_prime_41 rfl (lv_at hl 0 rfl) ?_
        refine lv_iload_n hx hb d_D_prime_42 rfl (lv_at hl 2 rfl) ?_
        refine lv_icmp_ge hx hb d_D_prime_43 rfl (fun g1 => ?_) (fun g1 => ?_)
        · have hS2 : 2 < n → mr_S n 2 := fun hq => absurd g1 (nI_ge (a := 2) hq hlt)
          refine lv_iload_n hx hb d_D_prime_63 rfl (lv_at hl 0 rfl) ?_
          refine lv_iload_n hx hb d_D_prime_64 rfl (lv_at hl 0 rfl) ?_
          refine lv_iconst (v := 2) hx hb d_D_prime_65 (by decide) ?_
          refine lv_icmp_ne hx hb d_D_prime_66 rfl (fun g => ?_) (fun g => ?_)
          · exact absurd rfl g
          · refine lv_iconst (v := 1) hx hb d_D_prime_69 (by decide) ?_
            refine lv_goto hx hb d_D_prime_70 rfl ?_
            refine lv_iadd hx hb d_D_prime_74 ?_
            rw [show (2 + 1 : Int32) = 3 from by decide]
            refine lv_istore_n (lv' := [(2, .int 3), (1, .int (nI od)), (0, .int (nI n))]) hx hb d_D_prime_75 rfl hl (Nat.le_of_ble_eq_true rfl) rfl (fun ls hl => ?_)
            refine lv_goto hx hb d_D_prime_76 rfl ?_
            refine lv_iload_n hx hb d_D_prime_35 rfl (lv_at hl 0 rfl) ?_
            refine lv_bipush (v := 8) hx hb d_D_prime_36 (by decide) ?_
            refine lv_icmp_ge hx hb d_D_prime_38 rfl (fun g => ?_) (fun g => ?_)
            · exact absurd g (by decide)
            · refine lv_iload_n hx hb d_D_prime_41 rfl (lv_at hl 0 rfl) ?_
              refine lv_iload_n hx hb d_D_prime_42 rfl (lv_at hl 2 rfl) ?_
              refine lv_icmp_ge hx hb d_D_prime_43 rfl (fun g1 => ?_) (fun g1 => ?_)
              · have hS3 : 3 < n → mr_S n 3 := fun hq => absurd g1 (nI_ge (a := 3) hq hlt)
                refine lv_iload_n hx hb d_D_prime_63 rfl (lv_at hl 0 rfl) ?_
                refine lv_iload_n hx hb d_D_prime_64 rfl (lv_at hl 0 rfl) ?_
                refine lv_iconst (v := 2) hx hb d_D_prime_65 (by decide) ?_
                refine lv_icmp_ne hx hb d_D_prime_66 rfl (fun g => ?_) (fun g => ?_)
                · refine lv_iconst (v := 2) hx hb d_D_prime_73 (by decide) ?_
                  refine lv_iadd hx hb d_D_prime_74 ?_
                  rw [show (3 + 2 : Int32) = 5 from by decide]
                  refine lv_istore_n (lv' := [(2, .int 5), (1, .int (nI od)), (0, .int (nI n))]) hx hb d_D_prime_75 rfl hl (Nat.le_of_ble_eq_true rfl) rfl (fun ls hl => ?_)
                  refine lv_goto hx hb d_D_prime_76 rfl ?_
                  refine lv_iload_n hx hb d_D_prime_35 rfl (lv_at hl 0 rfl) ?_
                  refine lv_bipush (v := 8) hx hb d_D_prime_36 (by decide) ?_
                  refine lv_icmp_ge hx hb d_D_prime_38 rfl (fun g => ?_) (fun g => ?_)
                  · exact absurd g (by decide)
                  · refine lv_iload_n hx hb d_D_prime_41 rfl (lv_at hl 0 rfl) ?_
                    refine lv_iload_n hx hb d_D_prime_42 rfl (lv_at hl 2 rfl) ?_
                    refine lv_icmp_ge hx hb d_D_prime_43 rfl (fun g1 => ?_) (fun g1 => ?_)
                    · have hS5 : 5 < n → mr_S n 5 := fun hq => absurd g1 (nI_ge (a := 5) hq hlt)
                      refine lv_iload_n hx hb d_D_prime_63 rfl (lv_at hl 0 rfl) ?_
                      refine lv_iload_n hx hb d_D_prime_64 rfl (lv_at hl 0 rfl) ?_
                      refine lv_iconst (v := 2) hx hb d_D_prime_65 (by decide) ?_
                      refine lv_icmp_ne hx hb d_D_prime_66 rfl (fun g => ?_) (fun g => ?_)
                      · refine lv_iconst (v := 2) hx hb d_D_prime_73 (by decide) ?_
                        refine lv_iadd hx hb d_D_prime_74 ?_
                        rw [show (5 + 2 : Int32) = 7 from by decide]
                        refine lv_istore_n (lv' := [(2, .int 7), (1, .int (nI od)), (0, .int (nI n))]) hx hb d_D_prime_75 rfl hl (Nat.le_of_ble_eq_true rfl) rfl (fun ls hl => ?_)
                        refine lv_goto hx hb d_D_prime_76 rfl ?_
                        refine lv_iload_n hx hb d_D_prime_35 rfl (lv_at hl 0 rfl) ?_
                        refine lv_bipush (v := 8) hx hb d_D_prime_36 (by decide) ?_
                        refine lv_icmp_ge hx hb d_D_prime_38 rfl (fun g => ?_) (fun g => ?_)
                        · exact absurd g (by decide)
                        · refine lv_iload_n hx hb d_D_prime_41 rfl (lv_at hl 0 rfl) ?_
                          refine lv_iload_n hx hb d_D_prime_42 rfl (lv_at hl 2 rfl) ?_
                          refine lv_icmp_ge hx hb d_D_prime_43 rfl (fun g1 => ?_) (fun g1 => ?_)
                          · have hS7 : 7 < n → mr_S n 7 := fun hq => absurd g1 (nI_ge (a := 7) hq hlt)
                            refine lv_iload_n hx hb d_D_prime_63 rfl (lv_at hl 0 rfl) ?_
                            refine lv_iload_n hx hb d_D_prime_64 rfl (lv_at hl 0 rfl) ?_
                            refine lv_iconst (v := 2) hx hb d_D_prime_65 (by decide) ?_
                            refine lv_icmp_ne hx hb d_D_prime_66 rfl (fun g => ?_) (fun g => ?_)
                            · refine lv_iconst (v := 2) hx hb d_D_prime_73 (by decide) ?_
                              refine lv_iadd hx hb d_D_prime_74 ?_
                              rw [show (7 + 2 : Int32) = 9 from by decide]
                              refine lv_istore_n (lv' := [(2, .int 9), (1, .int (nI od)), (0, .int (nI n))]) hx hb d_D_prime_75 rfl hl (Nat.le_of_ble_eq_true rfl) rfl (fun ls hl => ?_)
                              refine lv_goto hx hb d_D_prime_76 rfl ?_
                              refine lv_iload_n hx hb d_D_prime_35 rfl (lv_at hl 0 rfl) ?_
                              refine lv_bipush (v := 8) hx hb d_D_prime_36 (by decide) ?_
                              refine lv_icmp_ge hx hb d_D_prime_38 rfl (fun g => ?_) (fun g => ?_)
                              · refine lv_iconst (v := 1) hx hb d_D_prime_79 (by decide) ?_
                                exact rZ C d_D_prime_80 (Or.inr rfl) (Or.inl ⟨rfl, Or.inr ⟨hodd, hS2, hS3, hS5, hS7⟩⟩)
                              · exact absurd (by decide) g
                            · exact absurd g (by decide)
                          · have hbn : 7 < n := by
                              apply Classical.byContradiction
                              intro hq
                              exact g1 (nI_le (b := 7) (by omega) (by decide))
                            refine lv_iload_n hx hb d_D_prime_46 rfl (lv_at hl 2 rfl) ?_
                            refine lv_iload_n hx hb d_D_prime_47 rfl (lv_at hl 0 rfl) ?_
                            refine lv_iload_n hx hb d_D_prime_48 rfl (lv_at hl 1 rfl) ?_
                            refine lv_i2l (v := lN od) hx hb d_D_prime_49 (nI_l (by omega)) ?_
                            refine lv_iload_n hx hb d_D_prime_50 rfl (lv_at hl 2 rfl) ?_
                            refine goI (runS C [.int 7, .long (lN od), .int (nI n)] [.int (nI n)] (c_powS l (a := 7) (ee := od) (n := n) (by decide) (by omega) hn2 hlt) sw_D_39 rfl hl.1 ⟨rfl, rfl⟩ (fun _ _ _ => trivial) (fun _ _ _ _ h => h) (Nat.le_of_ble_eq_true rfl) ⟨(Nat.le_of_ble_eq_true rfl), (Nat.le_of_ble_eq_true rfl)⟩ ⟨(Nat.le_of_ble_eq_true rfl), (Nat.le_of_ble_eq_true rfl)⟩ d_D_prime_51) (fun r hr => ?_)
                            subst hr
                            refine lv_iload_n hx hb d_D_prime_54 rfl (lv_at hl 1 rfl) ?_
                            refine goI (runS C [.int (nI n), .int (nI (7 ^ od % n)), .int (nI od)] [] (c_passes l (n := n) (b := 7) (z := z) (od := od) hzo hod hz1 hz30 (by omega) hlt) sw_D_43 rfl hl.1 ⟨rfl, rfl⟩ (fun _ _ _ => trivial) (fun _ _ _ _ h => h) (Nat.le_of_ble_eq_true rfl) ⟨(Nat.le_of_ble_eq_true rfl), (Nat.le_of_ble_eq_true rfl)⟩ ⟨(Nat.le_of_ble_eq_true rfl), (Nat.le_of_ble_eq_true rfl)⟩ d_D_prime_55) (fun rp hps => ?_)
                            refine lv_if_ne hx hb d_D_prime_58 rfl (fun g2 => ?_) (fun g2 => ?_)
                            · have hS7 : 7 < n → mr_S n 7 := fun _ => by
                                rcases hps with ⟨-, q⟩ | ⟨q, -⟩
                                · exact q
                                · exact absurd q g2
                              refine lv_iload_n hx hb d_D_prime_63 rfl (lv_at hl 0 rfl) ?_
                              refine lv_iload_n hx hb d_D_prime_64 rfl (lv_at hl 0 rfl) ?_
                              refine lv_iconst (v := 2) hx hb d_D_prime_65 (by decide) ?_
                              refine lv_icmp_ne hx hb d_D_prime_66 rfl (fun g => ?_) (fun g => ?_)
                              · refine lv_iconst (v := 2) hx hb d_D_prime_73 (by decide) ?_
                                refine lv_iadd hx hb d_D_prime_74 ?_
                                rw [show (7 + 2 : Int32) = 9 from by decide]
                                refine lv_istore_n (lv' := [(2, .int 9), (1, .int (nI od)), (0, .int (nI n))]) hx hb d_D_prime_75 rfl hl (Nat.le_of_ble_eq_true rfl) rfl (fun ls hl => ?_)
                                refine lv_goto hx hb d_D_prime_76 rfl ?_
                                refine lv_iload_n hx hb d_D_prime_35 rfl (lv_at hl 0 rfl) ?_
                                refine lv_bipush (v := 8) hx hb d_D_prime_36 (by decide) ?_
                                refine lv_icmp_ge hx hb d_D_prime_38 rfl (fun g => ?_) (fun g => ?_)
                                · refine lv_iconst (v := 1) hx hb d_D_prime_79 (by decide) ?_
                                  exact rZ C d_D_prime_80 (Or.inr rfl) (Or.inl ⟨rfl, Or.inr ⟨hodd, hS2, hS3, hS5, hS7⟩⟩)
                                · exact absurd (by decide) g
                              · exact absurd g (by decide)
                            · refine lv_iconst (v := 0) hx hb d_D_prime_61 (by decide) ?_
                              refine rZ C d_D_prime_62 (Or.inl rfl) (Or.inr ⟨rfl, ?_⟩)
                              rintro (hq | ⟨-, q2, q3, q5, q7⟩)
                              · omega
                              · rcases hps with ⟨q, -⟩ | ⟨-, q⟩
                                · rw [q] at g2; exact absurd g2 (by decide)
                                · exact q (q7 hbn)
                      · exact absurd g (by decide)
                    · have hbn : 5 < n := by
                        apply Classical.byContradiction
                        intro hq
                        exact g1 (nI_le (b := 5) (by omega) (by decide))
                      refine lv_iload_n hx hb d_D_prime_46 rfl (lv_at hl 2 rfl) ?_
                      refine lv_iload_n hx hb d_D_prime_47 rfl (lv_at hl 0 rfl) ?_
                      refine lv_iload_n hx hb d_D_prime_48 rfl (lv_at hl 1 rfl) ?_
                      refine lv_i2l (v := lN od) hx hb d_D_prime_49 (nI_l (by omega)) ?_
                      refine lv_iload_n hx hb d_D_prime_50 rfl (lv_at hl 2 rfl) ?_
                      refine goI (runS C [.int 5, .long (lN od), .int (nI n)] [.int (nI n)] (c_powS l (a := 5) (ee := od) (n := n) (by decide) (by omega) hn2 hlt) sw_D_39 rfl hl.1 ⟨rfl, rfl⟩ (fun _ _ _ => trivial) (fun _ _ _ _ h => h) (Nat.le_of_ble_eq_true rfl) ⟨(Nat.le_of_ble_eq_true rfl), (Nat.le_of_ble_eq_true rfl)⟩ ⟨(Nat.le_of_ble_eq_true rfl), (Nat.le_of_ble_eq_true rfl)⟩ d_D_prime_51) (fun r hr => ?_)
                      subst hr
                      refine lv_iload_n hx hb d_D_prime_54 rfl (lv_at hl 1 rfl) ?_
                      refine goI (runS C [.int (nI n), .int (nI (5 ^ od % n)), .int (nI od)] [] (c_passes l (n := n) (b := 5) (z := z) (od := od) hzo hod hz1 hz30 (by omega) hlt) sw_D_43 rfl hl.1 ⟨rfl, rfl⟩ (fun _ _ _ => trivial) (fun _ _ _ _ h => h) (Nat.le_of_ble_eq_true rfl) ⟨(Nat.le_of_ble_eq_true rfl), (Nat.le_of_ble_eq_true rfl)⟩ ⟨(Nat.le_of_ble_eq_true rfl), (Nat.le_of_ble_eq_true rfl)⟩ d_D_prime_55) (fun rp hps => ?_)
                      refine lv_if_ne hx hb d_D_prime_58 rfl (fun g2 => ?_) (fun g2 => ?_)
                      · have hS5 : 5 < n → mr_S n 5 := fun _ => by
                          rcases hps with ⟨-, q⟩ | ⟨q, -⟩
                          · exact q
                          · exact absurd q g2
                        refine lv_iload_n hx hb d_D_prime_63 rfl (lv_at hl 0 rfl) ?_
                        refine lv_iload_n hx hb d_D_prime_64 rfl (lv_at hl 0 rfl) ?_
                        refine lv_iconst (v := 2) hx hb d_D_prime_65 (by decide) ?_
                        refine lv_icmp_ne hx hb d_D_prime_66 rfl (fun g => ?_) (fun g => ?_)
                        · refine lv_iconst (v := 2) hx hb d_D_prime_73 (by decide) ?_
                          refine lv_iadd hx hb d_D_prime_74 ?_
                          rw [show (5 + 2 : Int32) = 7 from by decide]
                          refine lv_istore_n (lv' := [(2, .int 7), (1, .int (nI od)), (0, .int (nI n))]) hx hb d_D_prime_75 rfl hl (Nat.le_of_ble_eq_true rfl) rfl (fun ls hl => ?_)
                          refine lv_goto hx hb d_D_prime_76 rfl ?_
                          refine lv_iload_n hx hb d_D_prime_35 rfl (lv_at hl 0 rfl) ?_
                          refine lv_bipush (v := 8) hx hb d_D_prime_36 (by decide) ?_
                          refine lv_icmp_ge hx hb d_D_prime_38 rfl (fun g => ?_) (fun g => ?_)
                          · exact absurd g (by decide)
                          · refine lv_iload_n hx hb d_D_prime_41 rfl (lv_at hl 0 rfl) ?_
                            refine lv_iload_n hx hb d_D_prime_42 rfl (lv_at hl 2 rfl) ?_
                            refine lv_icmp_ge hx hb d_D_prime_43 rfl (fun g1 => ?_) (fun g1 => ?_)
                            · have hS7 : 7 < n → mr_S n 7 := fun hq => absurd g1 (nI_ge (a := 7) hq hlt)
                              refine lv_iload_n hx hb d_D_prime_63 rfl (lv_at hl 0 rfl) ?_
                              refine lv_iload_n hx hb d_D_prime_64 rfl (lv_at hl 0 rfl) ?_
                              refine lv_iconst (v := 2) hx hb d_D_prime_65 (by decide) ?_
                              refine lv_icmp_ne hx hb d_D_prime_66 rfl (fun g => ?_) (fun g => ?_)
                              · refine lv_iconst (v := 2) hx hb d_D_prime_73 (by decide) ?_
                                refine lv_iadd hx hb d_D_prime_74 ?_
                                rw [show (7 + 2 : Int32) = 9 from by decide]
                                refine lv_istore_n (lv' := [(2, .int 9), (1, .int (nI od)), (0, .int (nI n))]) hx hb d_D_prime_75 rfl hl (Nat.le_of_ble_eq_true rfl) rfl (fun ls hl => ?_)
                                refine lv_goto hx hb d_D_prime_76 rfl ?_
                                refine lv_iload_n hx hb d_D_prime_35 rfl (lv_at hl 0 rfl) ?_
                                refine lv_bipush (v := 8) hx hb d_D_prime_36 (by decide) ?_
                                refine lv_icmp_ge hx hb d_D_prime_38 rfl (fun g => ?_) (fun g => ?_)
                                · refine lv_iconst (v := 1) hx hb d_D_prime_79 (by decide) ?_
                                  exact rZ C d_D_prime_80 (Or.inr rfl) (Or.inl ⟨rfl, Or.inr ⟨hodd, hS2, hS3, hS5, hS7⟩⟩)
                                · exact absurd (by decide) g
                              · exact absurd g (by decide)
                            · have hbn : 7 < n := by
                                apply Classical.byContradiction
                                intro hq
                                exact g1 (nI_le (b := 7) (by omega) (by decide))
                              refine lv_iload_n hx hb d_D_prime_46 rfl (lv_at hl 2 rfl) ?_
                              refine lv_iload_n hx hb d_D_prime_47 rfl (lv_at hl 0 rfl) ?_
                              refine lv_iload_n hx hb d_D_prime_48 rfl (lv_at hl 1 rfl) ?_
                              refine lv_i2l (v := lN od) hx hb d_D_prime_49 (nI_l (by omega)) ?_
                              refine lv_iload_n hx hb d_D_prime_50 rfl (lv_at hl 2 rfl) ?_
                              refine goI (runS C [.int 7, .long (lN od), .int (nI n)] [.int (nI n)] (c_powS l (a := 7) (ee := od) (n := n) (by decide) (by omega) hn2 hlt) sw_D_39 rfl hl.1 ⟨rfl, rfl⟩ (fun _ _ _ => trivial) (fun _ _ _ _ h => h) (Nat.le_of_ble_eq_true rfl) ⟨(Nat.le_of_ble_eq_true rfl), (Nat.le_of_ble_eq_true rfl)⟩ ⟨(Nat.le_of_ble_eq_true rfl), (Nat.le_of_ble_eq_true rfl)⟩ d_D_prime_51) (fun r hr => ?_)
                              subst hr
                              refine lv_iload_n hx hb d_D_prime_54 rfl (lv_at hl 1 rfl) ?_
                              refine goI (runS C [.int (nI n), .int (nI (7 ^ od % n)), .int (nI od)] [] (c_passes l (n := n) (b := 7) (z := z) (od := od) hzo hod hz1 hz30 (by omega) hlt) sw_D_43 rfl hl.1 ⟨rfl, rfl⟩ (fun _ _ _ => trivial) (fun _ _ _ _ h => h) (Nat.le_of_ble_eq_true rfl) ⟨(Nat.le_of_ble_eq_true rfl), (Nat.le_of_ble_eq_true rfl)⟩ ⟨(Nat.le_of_ble_eq_true rfl), (Nat.le_of_ble_eq_true rfl)⟩ d_D_prime_55) (fun rp hps => ?_)
                              refine lv_if_ne hx hb d_D_prime_58 rfl (fun g2 => ?_) (fun g2 => ?_)
                              · have hS7 : 7 < n → mr_S n 7 := fun _ => by
                                  rcases hps with ⟨-, q⟩ | ⟨q, -⟩
                                  · exact q
                                  · exact absurd q g2
                                refine lv_iload_n hx hb d_D_prime_63 rfl (lv_at hl 0 rfl) ?_
                                refine lv_iload_n hx hb d_D_prime_64 rfl (lv_at hl 0 rfl) ?_
                                refine lv_iconst (v := 2) hx hb d_D_prime_65 (by decide) ?_
                                refine lv_icmp_ne hx hb d_D_prime_66 rfl (fun g => ?_) (fun g => ?_)
                                · refine lv_iconst (v := 2) hx hb d_D_prime_73 (by decide) ?_
                                  refine lv_iadd hx hb d_D_prime_74 ?_
                                  rw [show (7 + 2 : Int32) = 9 from by decide]
                                  refine lv_istore_n (lv' := [(2, .int 9), (1, .int (nI od)), (0, .int (nI n))]) hx hb d_D_prime_75 rfl hl (Nat.le_of_ble_eq_true rfl) rfl (fun ls hl => ?_)
                                  refine lv_goto hx hb d_D_prime_76 rfl ?_
                                  refine lv_iload_n hx hb d_D_prime_35 rfl (lv_at hl 0 rfl) ?_
                                  refine lv_bipush (v := 8) hx hb d_D_prime_36 (by decide) ?_
                                  refine lv_icmp_ge hx hb d_D_prime_38 rfl (fun g => ?_) (fun g => ?_)
                                  · refine lv_iconst (v := 1) hx hb d_D_prime_79 (by decide) ?_
                                    exact rZ C d_D_prime_80 (Or.inr rfl) (Or.inl ⟨rfl, Or.inr ⟨hodd, hS2, hS3, hS5, hS7⟩⟩)
                                  · exact absurd (by decide) g
                                · exact absurd g (by decide)
                              · refine lv_iconst (v := 0) hx hb d_D_prime_61 (by decide) ?_
                                refine rZ C d_D_prime_62 (Or.inl rfl) (Or.inr ⟨rfl, ?_⟩)
                                rintro (hq | ⟨-, q2, q3, q5, q7⟩)
                                · omega
                                · rcases hps with ⟨q, -⟩ | ⟨-, q⟩
                                  · rw [q] at g2; exact absurd g2 (by decide)
                                  · exact q (q7 hbn)
                        · exact absurd g (by decide)
                      · refine lv_iconst (v := 0) hx hb d_D_prime_61 (by decide) ?_
                        refine rZ C d_D_prime_62 (Or.inl rfl) (Or.inr ⟨rfl, ?_⟩)
                        rintro (hq | ⟨-, q2, q3, q5, q7⟩)
                        · omega
                        · rcases hps with ⟨q, -⟩ | ⟨-, q⟩
                          · rw [q] at g2; exact absurd g2 (by decide)
                          · exact q (q5 hbn)
                · exact absurd g (by decide)
              · have hbn : 3 < n := by
                  apply Classical.byContradiction
                  intro hq
                  exact g1 (nI_le (b := 3) (by omega) (by decide))
                refine lv_iload_n hx hb d_D_prime_46 rfl (lv_at hl 2 rfl) ?_
                refine lv_iload_n hx hb d_D_prime_47 rfl (lv_at hl 0 rfl) ?_
                refine lv_iload_n hx hb d_D_prime_48 rfl (lv_at hl 1 rfl) ?_
                refine lv_i2l (v := lN od) hx hb d_D_prime_49 (nI_l (by omega)) ?_
                refine lv_iload_n hx hb d_D_prime_50 rfl (lv_at hl 2 rfl) ?_
                refine goI (runS C [.int 3, .long (lN od), .int (nI n)] [.int (nI n)] (c_powS l (a := 3) (ee := od) (n := n) (by decide) (by omega) hn2 hlt) sw_D_39 rfl hl.1 ⟨rfl, rfl⟩ (fun _ _ _ => trivial) (fun _ _ _ _ h => h) (Nat.le_of_ble_eq_true rfl) ⟨(Nat.le_of_ble_eq_true rfl), (Nat.le_of_ble_eq_true rfl)⟩ ⟨(Nat.le_of_ble_eq_true rfl), (Nat.le_of_ble_eq_true rfl)⟩ d_D_prime_51) (fun r hr => ?_)
                subst hr
                refine lv_iload_n hx hb d_D_prime_54 rfl (lv_at hl 1 rfl) ?_
                refine goI (runS C [.int (nI n), .int (nI (3 ^ od % n)), .int (nI od)] [] (c_passes l (n := n) (b := 3) (z := z) (od := od) hzo hod hz1 hz30 (by omega) hlt) sw_D_43 rfl hl.1 ⟨rfl, rfl⟩ (fun _ _ _ => trivial) (fun _ _ _ _ h => h) (Nat.le_of_ble_eq_true rfl) ⟨(Nat.le_of_ble_eq_true rfl), (Nat.le_of_ble_eq_true rfl)⟩ ⟨(Nat.le_of_ble_eq_true rfl), (Nat.le_of_ble_eq_true rfl)⟩ d_D_prime_55) (fun rp hps => ?_)
                refine lv_if_ne hx hb d_D_prime_58 rfl (fun g2 => ?_) (fun g2 => ?_)
                · have hS3 : 3 < n → mr_S n 3 := fun _ => by
                    rcases hps with ⟨-, q⟩ | ⟨q, -⟩
                    · exact q
                    · exact absurd q g2
                  refine lv_iload_n hx hb d_D_prime_63 rfl (lv_at hl 0 rfl) ?_
                  refine lv_iload_n hx hb d_D_prime_64 rfl (lv_at hl 0 rfl) ?_
                  refine lv_iconst (v := 2) hx hb d_D_prime_65 (by decide) ?_
                  refine lv_icmp_ne hx hb d_D_prime_66 rfl (fun g => ?_) (fun g => ?_)
                  · refine lv_iconst (v := 2) hx hb d_D_prime_73 (by decide) ?_
                    refine lv_iadd hx hb d_D_prime_74 ?_
                    rw [show (3 + 2 : Int32) = 5 from by decide]
                    refine lv_istore_n (lv' := [(2, .int 5), (1, .int (nI od)), (0, .int (nI n))]) hx hb d_D_prime_75 rfl hl (Nat.le_of_ble_eq_true rfl) rfl (fun ls hl => ?_)
                    refine lv_goto hx hb d_D_prime_76 rfl ?_
                    refine lv_iload_n hx hb d_D_prime_35 rfl (lv_at hl 0 rfl) ?_
                    refine lv_bipush (v := 8) hx hb d_D_prime_36 (by decide) ?_
                    refine lv_icmp_ge hx hb d_D_prime_38 rfl (fun g => ?_) (fun g => ?_)
                    · exact absurd g (by decide)
                    · refine lv_iload_n hx hb d_D_prime_41 rfl (lv_at hl 0 rfl) ?_
                      refine lv_iload_n hx hb d_D_prime_42 rfl (lv_at hl 2 rfl) ?_
                      refine lv_icmp_ge hx hb d_D_prime_43 rfl (fun g1 => ?_) (fun g1 => ?_)
                      · have hS5 : 5 < n → mr_S n 5 := fun hq => absurd g1 (nI_ge (a := 5) hq hlt)
                        refine lv_iload_n hx hb d_D_prime_63 rfl (lv_at hl 0 rfl) ?_
                        refine lv_iload_n hx hb d_D_prime_64 rfl (lv_at hl 0 rfl) ?_
                        refine lv_iconst (v := 2) hx hb d_D_prime_65 (by decide) ?_
                        refine lv_icmp_ne hx hb d_D_prime_66 rfl (fun g => ?_) (fun g => ?_)
                        · refine lv_iconst (v := 2) hx hb d_D_prime_73 (by decide) ?_
                          refine lv_iadd hx hb d_D_prime_74 ?_
                          rw [show (5 + 2 : Int32) = 7 from by decide]
                          refine lv_istore_n (lv' := [(2, .int 7), (1, .int (nI od)), (0, .int (nI n))]) hx hb d_D_prime_75 rfl hl (Nat.le_of_ble_eq_true rfl) rfl (fun ls hl => ?_)
                          refine lv_goto hx hb d_D_prime_76 rfl ?_
                          refine lv_iload_n hx hb d_D_prime_35 rfl (lv_at hl 0 rfl) ?_
                          refine lv_bipush (v := 8) hx hb d_D_prime_36 (by decide) ?_
                          refine lv_icmp_ge hx hb d_D_prime_38 rfl (fun g => ?_) (fun g => ?_)
                          · exact absurd g (by decide)
                          · refine lv_iload_n hx hb d_D_prime_41 rfl (lv_at hl 0 rfl) ?_
                            refine lv_iload_n hx hb d_D_prime_42 rfl (lv_at hl 2 rfl) ?_
                            refine lv_icmp_ge hx hb d_D_prime_43 rfl (fun g1 => ?_) (fun g1 => ?_)
                            · have hS7 : 7 < n → mr_S n 7 := fun hq => absurd g1 (nI_ge (a := 7) hq hlt)
                              refine lv_iload_n hx hb d_D_prime_63 rfl (lv_at hl 0 rfl) ?_
                              refine lv_iload_n hx hb d_D_prime_64 rfl (lv_at hl 0 rfl) ?_
                              refine lv_iconst (v := 2) hx hb d_D_prime_65 (by decide) ?_
                              refine lv_icmp_ne hx hb d_D_prime_66 rfl (fun g => ?_) (fun g => ?_)
                              · refine lv_iconst (v := 2) hx hb d_D_prime_73 (by decide) ?_
                                refine lv_iadd hx hb d_D_prime_74 ?_
                                rw [show (7 + 2 : Int32) = 9 from by decide]
                                refine lv_istore_n (lv' := [(2, .int 9), (1, .int (nI od)), (0, .int (nI n))]) hx hb d_D_prime_75 rfl hl (Nat.le_of_ble_eq_true rfl) rfl (fun ls hl => ?_)
                                refine lv_goto hx hb d_D_prime_76 rfl ?_
                                refine lv_iload_n hx hb d_D_prime_35 rfl (lv_at hl 0 rfl) ?_
                                refine lv_bipush (v := 8) hx hb d_D_prime_36 (by decide) ?_
                                refine lv_icmp_ge hx hb d_D_prime_38 rfl (fun g => ?_) (fun g => ?_)
                                · refine lv_iconst (v := 1) hx hb d_D_prime_79 (by decide) ?_
                                  exact rZ C d_D_prime_80 (Or.inr rfl) (Or.inl ⟨rfl, Or.inr ⟨hodd, hS2, hS3, hS5, hS7⟩⟩)
                                · exact absurd (by decide) g
                              · exact absurd g (by decide)
                            · have hbn : 7 < n := by
                                apply Classical.byContradiction
                                intro hq
                                exact g1 (nI_le (b := 7) (by omega) (by decide))
                              refine lv_iload_n hx hb d_D_prime_46 rfl (lv_at hl 2 rfl) ?_
                              refine lv_iload_n hx hb d_D_prime_47 rfl (lv_at hl 0 rfl) ?_
                              refine lv_iload_n hx hb d_D_prime_48 rfl (lv_at hl 1 rfl) ?_
                              refine lv_i2l (v := lN od) hx hb d_D_prime_49 (nI_l (by omega)) ?_
                              refine lv_iload_n hx hb d_D_prime_50 rfl (lv_at hl 2 rfl) ?_
                              refine goI (runS C [.int 7, .long (lN od), .int (nI n)] [.int (nI n)] (c_powS l (a := 7) (ee := od) (n := n) (by decide) (by omega) hn2 hlt) sw_D_39 rfl hl.1 ⟨rfl, rfl⟩ (fun _ _ _ => trivial) (fun _ _ _ _ h => h) (Nat.le_of_ble_eq_true rfl) ⟨(Nat.le_of_ble_eq_true rfl), (Nat.le_of_ble_eq_true rfl)⟩ ⟨(Nat.le_of_ble_eq_true rfl), (Nat.le_of_ble_eq_true rfl)⟩ d_D_prime_51) (fun r hr => ?_)
                              subst hr
                              refine lv_iload_n hx hb d_D_prime_54 rfl (lv_at hl 1 rfl) ?_
                              refine goI (runS C [.int (nI n), .int (nI (7 ^ od % n)), .int (nI od)] [] (c_passes l (n := n) (b := 7) (z := z) (od := od) hzo hod hz1 hz30 (by omega) hlt) sw_D_43 rfl hl.1 ⟨rfl, rfl⟩ (fun _ _ _ => trivial) (fun _ _ _ _ h => h) (Nat.le_of_ble_eq_true rfl) ⟨(Nat.le_of_ble_eq_true rfl), (Nat.le_of_ble_eq_true rfl)⟩ ⟨(Nat.le_of_ble_eq_true rfl), (Nat.le_of_ble_eq_true rfl)⟩ d_D_prime_55) (fun rp hps => ?_)
                              refine lv_if_ne hx hb d_D_prime_58 rfl (fun g2 => ?_) (fun g2 => ?_)
                              · have hS7 : 7 < n → mr_S n 7 := fun _ => by
                                  rcases hps with ⟨-, q⟩ | ⟨q, -⟩
                                  · exact q
                                  · exact absurd q g2
                                refine lv_iload_n hx hb d_D_prime_63 rfl (lv_at hl 0 rfl) ?_
                                refine lv_iload_n hx hb d_D_prime_64 rfl (lv_at hl 0 rfl) ?_
                                refine lv_iconst (v := 2) hx hb d_D_prime_65 (by decide) ?_
                                refine lv_icmp_ne hx hb d_D_prime_66 rfl (fun g => ?_) (fun g => ?_)
                                · refine lv_iconst (v := 2) hx hb d_D_prime_73 (by decide) ?_
                                  refine lv_iadd hx hb d_D_prime_74 ?_
                                  rw [show (7 + 2 : Int32) = 9 from by decide]
                                  refine lv_istore_n (lv' := [(2, .int 9), (1, .int (nI od)), (0, .int (nI n))]) hx hb d_D_prime_75 rfl hl (Nat.le_of_ble_eq_true rfl) rfl (fun ls hl => ?_)
                                  refine lv_goto hx hb d_D_prime_76 rfl ?_
                                  refine lv_iload_n hx hb d_D_prime_35 rfl (lv_at hl 0 rfl) ?_
                                  refine lv_bipush (v := 8) hx hb d_D_prime_36 (by decide) ?_
                                  refine lv_icmp_ge hx hb d_D_prime_38 rfl (fun g => ?_) (fun g => ?_)
                                  · refine lv_iconst (v := 1) hx hb d_D_prime_79 (by decide) ?_
                                    exact rZ C d_D_prime_80 (Or.inr rfl) (Or.inl ⟨rfl, Or.inr ⟨hodd, hS2, hS3, hS5, hS7⟩⟩)
                                  · exact absurd (by decide) g
                                · exact absurd g (by decide)
                              · refine lv_iconst (v := 0) hx hb d_D_prime_61 (by decide) ?_
                                refine rZ C d_D_prime_62 (Or.inl rfl) (Or.inr ⟨rfl, ?_⟩)
                                rintro (hq | ⟨-, q2, q3, q5, q7⟩)
                                · omega
                                · rcases hps with ⟨q, -⟩ | ⟨-, q⟩
                                  · rw [q] at g2; exact absurd g2 (by decide)
                                  · exact q (q7 hbn)
                        · exact absurd g (by decide)
                      · have hbn : 5 < n := by
                          apply Classical.byContradiction
                          intro hq
                          exact g1 (nI_le (b := 5) (by omega) (by decide))
                        refine lv_iload_n hx hb d_D_prime_46 rfl (lv_at hl 2 rfl) ?_
                        refine lv_iload_n hx hb d_D_prime_47 rfl (lv_at hl 0 rfl) ?_
                        refine lv_iload_n hx hb d_D_prime_48 rfl (lv_at hl 1 rfl) ?_
                        refine lv_i2l (v := lN od) hx hb d_D_prime_49 (nI_l (by omega)) ?_
                        refine lv_iload_n hx hb d_D_prime_50 rfl (lv_at hl 2 rfl) ?_
                        refine goI (runS C [.int 5, .long (lN od), .int (nI n)] [.int (nI n)] (c_powS l (a := 5) (ee := od) (n := n) (by decide) (by omega) hn2 hlt) sw_D_39 rfl hl.1 ⟨rfl, rfl⟩ (fun _ _ _ => trivial) (fun _ _ _ _ h => h) (Nat.le_of_ble_eq_true rfl) ⟨(Nat.le_of_ble_eq_true rfl), (Nat.le_of_ble_eq_true rfl)⟩ ⟨(Nat.le_of_ble_eq_true rfl), (Nat.le_of_ble_eq_true rfl)⟩ d_D_prime_51) (fun r hr => ?_)
                        subst hr
                        refine lv_iload_n hx hb d_D_prime_54 rfl (lv_at hl 1 rfl) ?_
                        refine goI (runS C [.int (nI n), .int (nI (5 ^ od % n)), .int (nI od)] [] (c_passes l (n := n) (b := 5) (z := z) (od := od) hzo hod hz1 hz30 (by omega) hlt) sw_D_43 rfl hl.1 ⟨rfl, rfl⟩ (fun _ _ _ => trivial) (fun _ _ _ _ h => h) (Nat.le_of_ble_eq_true rfl) ⟨(Nat.le_of_ble_eq_true rfl), (Nat.le_of_ble_eq_true rfl)⟩ ⟨(Nat.le_of_ble_eq_true rfl), (Nat.le_of_ble_eq_true rfl)⟩ d_D_prime_55) (fun rp hps => ?_)
                        refine lv_if_ne hx hb d_D_prime_58 rfl (fun g2 => ?_) (fun g2 => ?_)
                        · have hS5 : 5 < n → mr_S n 5 := fun _ => by
                            rcases hps with ⟨-, q⟩ | ⟨q, -⟩
                            · exact q
                            · exact absurd q g2
                          refine lv_iload_n hx hb d_D_prime_63 rfl (lv_at hl 0 rfl) ?_
                          refine lv_iload_n hx hb d_D_prime_64 rfl (lv_at hl 0 rfl) ?_
                          refine lv_iconst (v := 2) hx hb d_D_prime_65 (by decide) ?_
                          refine lv_icmp_ne hx hb d_D_prime_66 rfl (fun g => ?_) (fun g => ?_)
                          · refine lv_iconst (v := 2) hx hb d_D_prime_73 (by decide) ?_
                            refine lv_iadd hx hb d_D_prime_74 ?_
                            rw [show (5 + 2 : Int32) = 7 from by decide]
                            refine lv_istore_n (lv' := [(2, .int 7), (1, .int (nI od)), (0, .int (nI n))]) hx hb d_D_prime_75 rfl hl (Nat.le_of_ble_eq_true rfl) rfl (fun ls hl => ?_)
                            refine lv_goto hx hb d_D_prime_76 rfl ?_
                            refine lv_iload_n hx hb d_D_prime_35 rfl (lv_at hl 0 rfl) ?_
                            refine lv_bipush (v := 8) hx hb d_D_prime_36 (by decide) ?_
                            refine lv_icmp_ge hx hb d_D_prime_38 rfl (fun g => ?_) (fun g => ?_)
                            · exact absurd g (by decide)
                            · refine lv_iload_n hx hb d_D_prime_41 rfl (lv_at hl 0 rfl) ?_
                              refine lv_iload_n hx hb d_D_prime_42 rfl (lv_at hl 2 rfl) ?_
                              refine lv_icmp_ge hx hb d_D_prime_43 rfl (fun g1 => ?_) (fun g1 => ?_)
                              · have hS7 : 7 < n → mr_S n 7 := fun hq => absurd g1 (nI_ge (a := 7) hq hlt)
                                refine lv_iload_n hx hb d_D_prime_63 rfl (lv_at hl 0 rfl) ?_
                                refine lv_iload_n hx hb d_D_prime_64 rfl (lv_at hl 0 rfl) ?_
                                refine lv_iconst (v := 2) hx hb d_D_prime_65 (by decide) ?_
                                refine lv_icmp_ne hx hb d_D_prime_66 rfl (fun g => ?_) (fun g => ?_)
                                · refine lv_iconst (v := 2) hx hb d_D_prime_73 (by decide) ?_
                                  refine lv_iadd hx hb d_D_prime_74 ?_
                                  rw [show (7 + 2 : Int32) = 9 from by decide]
                                  refine lv_istore_n (lv' := [(2, .int 9), (1, .int (nI od)), (0, .int (nI n))]) hx hb d_D_prime_75 rfl hl (Nat.le_of_ble_eq_true rfl) rfl (fun ls hl => ?_)
                                  refine lv_goto hx hb d_D_prime_76 rfl ?_
                                  refine lv_iload_n hx hb d_D_prime_35 rfl (lv_at hl 0 rfl) ?_
                                  refine lv_bipush (v := 8) hx hb d_D_prime_36 (by decide) ?_
                                  refine lv_icmp_ge hx hb d_D_prime_38 rfl (fun g => ?_) (fun g => ?_)
                                  · refine lv_iconst (v := 1) hx hb d_D_prime_79 (by decide) ?_
                                    exact rZ C d_D_prime_80 (Or.inr rfl) (Or.inl ⟨rfl, Or.inr ⟨hodd, hS2, hS3, hS5, hS7⟩⟩)
                                  · exact absurd (by decide) g
                                · exact absurd g (by decide)
                              · have hbn : 7 < n := by
                                  apply Classical.byContradiction
                                  intro hq
                                  exact g1 (nI_le (b := 7) (by omega) (by decide))
                                refine lv_iload_n hx hb d_D_prime_46 rfl (lv_at hl 2 rfl) ?_
                                refine lv_iload_n hx hb d_D_prime_47 rfl (lv_at hl 0 rfl) ?_
                                refine lv_iload_n hx hb d_D_prime_48 rfl (lv_at hl 1 rfl) ?_
                                refine lv_i2l (v := lN od) hx hb d_D_prime_49 (nI_l (by omega)) ?_
                                refine lv_iload_n hx hb d_D_prime_50 rfl (lv_at hl 2 rfl) ?_
                                refine goI (runS C [.int 7, .long (lN od), .int (nI n)] [.int (nI n)] (c_powS l (a := 7) (ee := od) (n := n) (by decide) (by omega) hn2 hlt) sw_D_39 rfl hl.1 ⟨rfl, rfl⟩ (fun _ _ _ => trivial) (fun _ _ _ _ h => h) (Nat.le_of_ble_eq_true rfl) ⟨(Nat.le_of_ble_eq_true rfl), (Nat.le_of_ble_eq_true rfl)⟩ ⟨(Nat.le_of_ble_eq_true rfl), (Nat.le_of_ble_eq_true rfl)⟩ d_D_prime_51) (fun r hr => ?_)
                                subst hr
                                refine lv_iload_n hx hb d_D_prime_54 rfl (lv_at hl 1 rfl) ?_
                                refine goI (runS C [.int (nI n), .int (nI (7 ^ od % n)), .int (nI od)] [] (c_passes l (n := n) (b := 7) (z := z) (od := od) hzo hod hz1 hz30 (by omega) hlt) sw_D_43 rfl hl.1 ⟨rfl, rfl⟩ (fun _ _ _ => trivial) (fun _ _ _ _ h => h) (Nat.le_of_ble_eq_true rfl) ⟨(Nat.le_of_ble_eq_true rfl), (Nat.le_of_ble_eq_true rfl)⟩ ⟨(Nat.le_of_ble_eq_true rfl), (Nat.le_of_ble_eq_true rfl)⟩ d_D_prime_55) (fun rp hps => ?_)
                                refine lv_if_ne hx hb d_D_prime_58 rfl (fun g2 => ?_) (fun g2 => ?_)
                                · have hS7 : 7 < n → mr_S n 7 := fun _ => by
                                    rcases hps with ⟨-, q⟩ | ⟨q, -⟩
                                    · exact q
                                    · exact absurd q g2
                                  refine lv_iload_n hx hb d_D_prime_63 rfl (lv_at hl 0 rfl) ?_
                                  refine lv_iload_n hx hb d_D_prime_64 rfl (lv_at hl 0 rfl) ?_
                                  refine lv_iconst (v := 2) hx hb d_D_prime_65 (by decide) ?_
                                  refine lv_icmp_ne hx hb d_D_prime_66 rfl (fun g => ?_) (fun g => ?_)
                                  · refine lv_iconst (v := 2) hx hb d_D_prime_73 (by decide) ?_
                                    refine lv_iadd hx hb d_D_prime_74 ?_
                                    rw [show (7 + 2 : Int32) = 9 from by decide]
                                    refine lv_istore_n (lv' := [(2, .int 9), (1, .int (nI od)), (0, .int (nI n))]) hx hb d_D_prime_75 rfl hl (Nat.le_of_ble_eq_true rfl) rfl (fun ls hl => ?_)
                                    refine lv_goto hx hb d_D_prime_76 rfl ?_
                                    refine lv_iload_n hx hb d_D_prime_35 rfl (lv_at hl 0 rfl) ?_
                                    refine lv_bipush (v := 8) hx hb d_D_prime_36 (by decide) ?_
                                    refine lv_icmp_ge hx hb d_D_prime_38 rfl (fun g => ?_) (fun g => ?_)
                                    · refine lv_iconst (v := 1) hx hb d_D_prime_79 (by decide) ?_
                                      exact rZ C d_D_prime_80 (Or.inr rfl) (Or.inl ⟨rfl, Or.inr ⟨hodd, hS2, hS3, hS5, hS7⟩⟩)
                                    · exact absurd (by decide) g
                                  · exact absurd g (by decide)
                                · refine lv_iconst (v := 0) hx hb d_D_prime_61 (by decide) ?_
                                  refine rZ C d_D_prime_62 (Or.inl rfl) (Or.inr ⟨rfl, ?_⟩)
                                  rintro (hq | ⟨-, q2, q3, q5, q7⟩)
                                  · omega
                                  · rcases hps with ⟨q, -⟩ | ⟨-, q⟩
                                    · rw [q] at g2; exact absurd g2 (by decide)
                                    · exact q (q7 hbn)
                          · exact absurd g (by decide)
                        · refine lv_iconst (v := 0) hx hb d_D_prime_61 (by decide) ?_
                          refine rZ C d_D_prime_62 (Or.inl rfl) (Or.inr ⟨rfl, ?_⟩)
                          rintro (hq | ⟨-, q2, q3, q5, q7⟩)
                          · omega
                          · rcases hps with ⟨q, -⟩ | ⟨-, q⟩
                            · rw [q] at g2; exact absurd g2 (by decide)
                            · exact q (q5 hbn)
                  · exact absurd g (by decide)
                · refine lv_iconst (v := 0) hx hb d_D_prime_61 (by decide) ?_
                  refine rZ C d_D_prime_62 (Or.inl rfl) (Or.inr ⟨rfl, ?_⟩)
                  rintro (hq | ⟨-, q2, q3, q5, q7⟩)
                  · omega
                  · rcases hps with ⟨q, -⟩ | ⟨-, q⟩
                    · rw [q] at g2; exact absurd g2 (by decide)
                    · exact q (q3 hbn)
        · have hbn : 2 < n := by
            apply Classical.byContradiction
            intro hq
            exact g1 (nI_le (b := 2) (by omega) (by decide))
          refine lv_iload_n hx hb d_D_prime_46 rfl (lv_at hl 2 rfl) ?_
          refine lv_iload_n hx hb d_D_prime_47 rfl (lv_at hl 0 rfl) ?_
          refine lv_iload_n hx hb d_D_prime_48 rfl (lv_at hl 1 rfl) ?_
          refine lv_i2l (v := lN od) hx hb d_D_prime_49 (nI_l (by omega)) ?_
          refine lv_iload_n hx hb d_D_prime_50 rfl (lv_at hl 2 rfl) ?_
          refine goI (runS C [.int 2, .long (lN od), .int (nI n)] [.int (nI n)] (c_powS l (a := 2) (ee := od) (n := n) (by decide) (by omega) hn2 hlt) sw_D_39 rfl hl.1 ⟨rfl, rfl⟩ (fun _ _ _ => trivial) (fun _ _ _ _ h => h) (Nat.le_of_ble_eq_true rfl) ⟨(Nat.le_of_ble_eq_true rfl), (Nat.le_of_ble_eq_true rfl)⟩ ⟨(Nat.le_of_ble_eq_true rfl), (Nat.le_of_ble_eq_true rfl)⟩ d_D_prime_51) (fun r hr => ?_)
          subst hr
          refine lv_iload_n hx hb d_D_prime_54 rfl (lv_at hl 1 rfl) ?_
          refine goI (runS C [.int (nI n), .int (nI (2 ^ od % n)), .int (nI od)] [] (c_passes l (n := n) (b := 2) (z := z) (od := od) hzo hod hz1 hz30 (by omega) hlt) sw_D_43 rfl hl.1 ⟨rfl, rfl⟩ (fun _ _ _ => trivial) (fun _ _ _ _ h => h) (Nat.le_of_ble_eq_true rfl) ⟨(Nat.le_of_ble_eq_true rfl), (Nat.le_of_ble_eq_true rfl)⟩ ⟨(Nat.le_of_ble_eq_true rfl), (Nat.le_of_ble_eq_true rfl)⟩ d_D_prime_55) (fun rp hps => ?_)
          refine lv_if_ne hx hb d_D_prime_58 rfl (fun g2 => ?_) (fun g2 => ?_)
          · have hS2 : 2 < n → mr_S n 2 := fun _ => by
              rcases hps with ⟨-, q⟩ | ⟨q, -⟩
              · exact q
              · exact absurd q g2
            refine lv_iload_n hx hb d_D_prime_63 rfl (lv_at hl 0 rfl) ?_
            refine lv_iload_n hx hb d_D_prime_64 rfl (lv_at hl 0 rfl) ?_
            refine lv_iconst (v := 2) hx hb d_D_prime_65 (by decide) ?_
            refine lv_icmp_ne hx hb d_D_prime_66 rfl (fun g => ?_) (fun g => ?_)
            · exact absurd rfl g
            · refine lv_iconst (v := 1) hx hb d_D_prime_69 (by decide) ?_
              refine lv_goto hx hb d_D_prime_70 rfl ?_
              refine lv_iadd hx hb d_D_prime_74 ?_
              rw [show (2 + 1 : Int32) = 3 from by decide]
              refine lv_istore_n (lv' := [(2, .int 3), (1, .int (nI od)), (0, .int (nI n))]) hx hb d_D_prime_75 rfl hl (Nat.le_of_ble_eq_true rfl) rfl (fun ls hl => ?_)
              refine lv_goto hx hb d_D_prime_76 rfl ?_
              refine lv_iload_n hx hb d_D_prime_35 rfl (lv_at hl 0 rfl) ?_
              refine lv_bipush (v := 8) hx hb d_D_prime_36 (by decide) ?_
              refine lv_icmp_ge hx hb d_D_prime_38 rfl (fun g => ?_) (fun g => ?_)
              · exact absurd g (by decide)
              · refine lv_iload_n hx hb d_D_prime_41 rfl (lv_at hl 0 rfl) ?_
                refine lv_iload_n hx hb d_D_prime_42 rfl (lv_at hl 2 rfl) ?_
                refine lv_icmp_ge hx hb d_D_prime_43 rfl (fun g1 => ?_) (fun g1 => ?_)
                · have hS3 : 3 < n → mr_S n 3 := fun hq => absurd g1 (nI_ge (a := 3) hq hlt)
                  refine lv_iload_n hx hb d_D_prime_63 rfl (lv_at hl 0 rfl) ?_
                  refine lv_iload_n hx hb d_D_prime_64 rfl (lv_at hl 0 rfl) ?_
                  refine lv_iconst (v := 2) hx hb d_D_prime_65 (by decide) ?_
                  refine lv_icmp_ne hx hb d_D_prime_66 rfl (fun g => ?_) (fun g => ?_)
                  · refine lv_iconst (v := 2) hx hb d_D_prime_73 (by decide) ?_
                    refine lv_iadd hx hb d_D_prime_74 ?_
                    rw [show (3 + 2 : Int32) = 5 from by decide]
                    refine lv_istore_n (lv' := [(2, .int 5), (1, .int (nI od)), (0, .int (nI n))]) hx hb d_D_prime_75 rfl hl (Nat.le_of_ble_eq_true rfl) rfl (fun ls hl => ?_)
                    refine lv_goto hx hb d_D_prime_76 rfl ?_
                    refine lv_iload_n hx hb d_D_prime_35 rfl (lv_at hl 0 rfl) ?_
                    refine lv_bipush (v := 8) hx hb d_D_prime_36 (by decide) ?_
                    refine lv_icmp_ge hx hb d_D_prime_38 rfl (fun g => ?_) (fun g => ?_)
                    · exact absurd g (by decide)
                    · refine lv_iload_n hx hb d_D_prime_41 rfl (lv_at hl 0 rfl) ?_
                      refine lv_iload_n hx hb d_D_prime_42 rfl (lv_at hl 2 rfl) ?_
                      refine lv_icmp_ge hx hb d_D_prime_43 rfl (fun g1 => ?_) (fun g1 => ?_)
                      · have hS5 : 5 < n → mr_S n 5 := fun hq => absurd g1 (nI_ge (a := 5) hq hlt)
                        refine lv_iload_n hx hb d_D_prime_63 rfl (lv_at hl 0 rfl) ?_
                        refine lv_iload_n hx hb d_D_prime_64 rfl (lv_at hl 0 rfl) ?_
                        refine lv_iconst (v := 2) hx hb d_D_prime_65 (by decide) ?_
                        refine lv_icmp_ne hx hb d_D_prime_66 rfl (fun g => ?_) (fun g => ?_)
                        · refine lv_iconst (v := 2) hx hb d_D_prime_73 (by decide) ?_
                          refine lv_iadd hx hb d_D_prime_74 ?_
                          rw [show (5 + 2 : Int32) = 7 from by decide]
                          refine lv_istore_n (lv' := [(2, .int 7), (1, .int (nI od)), (0, .int (nI n))]) hx hb d_D_prime_75 rfl hl (Nat.le_of_ble_eq_true rfl) rfl (fun ls hl => ?_)
                          refine lv_goto hx hb d_D_prime_76 rfl ?_
                          refine lv_iload_n hx hb d_D_prime_35 rfl (lv_at hl 0 rfl) ?_
                          refine lv_bipush (v := 8) hx hb d_D_prime_36 (by decide) ?_
                          refine lv_icmp_ge hx hb d_D_prime_38 rfl (fun g => ?_) (fun g => ?_)
                          · exact absurd g (by decide)
                          · refine lv_iload_n hx hb d_D_prime_41 rfl (lv_at hl 0 rfl) ?_
                            refine lv_iload_n hx hb d_D_prime_42 rfl (lv_at hl 2 rfl) ?_
                            refine lv_icmp_ge hx hb d_D_prime_43 rfl (fun g1 => ?_) (fun g1 => ?_)
                            · have hS7 : 7 < n → mr_S n 7 := fun hq => absurd g1 (nI_ge (a := 7) hq hlt)
                              refine lv_iload_n hx hb d_D_prime_63 rfl (lv_at hl 0 rfl) ?_
                              refine lv_iload_n hx hb d_D_prime_64 rfl (lv_at hl 0 rfl) ?_
                              refine lv_iconst (v := 2) hx hb d_D_prime_65 (by decide) ?_
                              refine lv_icmp_ne hx hb d_D_prime_66 rfl (fun g => ?_) (fun g => ?_)
                              · refine lv_iconst (v := 2) hx hb d_D_prime_73 (by decide) ?_
                                refine lv_iadd hx hb d_D_prime_74 ?_
                                rw [show (7 + 2 : Int32) = 9 from by decide]
                                refine lv_istore_n (lv' := [(2, .int 9), (1, .int (nI od)), (0, .int (nI n))]) hx hb d_D_prime_75 rfl hl (Nat.le_of_ble_eq_true rfl) rfl (fun ls hl => ?_)
                                refine lv_goto hx hb d_D_prime_76 rfl ?_
                                refine lv_iload_n hx hb d_D_prime_35 rfl (lv_at hl 0 rfl) ?_
                                refine lv_bipush (v := 8) hx hb d_D_prime_36 (by decide) ?_
                                refine lv_icmp_ge hx hb d_D_prime_38 rfl (fun g => ?_) (fun g => ?_)
                                · refine lv_iconst (v := 1) hx hb d_D_prime_79 (by decide) ?_
                                  exact rZ C d_D_prime_80 (Or.inr rfl) (Or.inl ⟨rfl, Or.inr ⟨hodd, hS2, hS3, hS5, hS7⟩⟩)
                                · exact absurd (by decide) g
                              · exact absurd g (by decide)
                            · have hbn : 7 < n := by
                                apply Classical.byContradiction
                                intro hq
                                exact g1 (nI_le (b := 7) (by omega) (by decide))
                              refine lv_iload_n hx hb d_D_prime_46 rfl (lv_at hl 2 rfl) ?_
                              refine lv_iload_n hx hb d_D_prime_47 rfl (lv_at hl 0 rfl) ?_
                              refine lv_iload_n hx hb d_D_prime_48 rfl (lv_at hl 1 rfl) ?_
                              refine lv_i2l (v := lN od) hx hb d_D_prime_49 (nI_l (by omega)) ?_
                              refine lv_iload_n hx hb d_D_prime_50 rfl (lv_at hl 2 rfl) ?_
                              refine goI (runS C [.int 7, .long (lN od), .int (nI n)] [.int (nI n)] (c_powS l (a := 7) (ee := od) (n := n) (by decide) (by omega) hn2 hlt) sw_D_39 rfl hl.1 ⟨rfl, rfl⟩ (fun _ _ _ => trivial) (fun _ _ _ _ h => h) (Nat.le_of_ble_eq_true rfl) ⟨(Nat.le_of_ble_eq_true rfl), (Nat.le_of_ble_eq_true rfl)⟩ ⟨(Nat.le_of_ble_eq_true rfl), (Nat.le_of_ble_eq_true rfl)⟩ d_D_prime_51) (fun r hr => ?_)
                              subst hr
                              refine lv_iload_n hx hb d_D_prime_54 rfl (lv_at hl 1 rfl) ?_
                              refine goI (runS C [.int (nI n), .int (nI (7 ^ od % n)), .int (nI od)] [] (c_passes l (n := n) (b := 7) (z := z) (od := od) hzo hod hz1 hz30 (by omega) hlt) sw_D_43 rfl hl.1 ⟨rfl, rfl⟩ (fun _ _ _ => trivial) (fun _ _ _ _ h => h) (Nat.le_of_ble_eq_true rfl) ⟨(Nat.le_of_ble_eq_true rfl), (Nat.le_of_ble_eq_true rfl)⟩ ⟨(Nat.le_of_ble_eq_true rfl), (Nat.le_of_ble_eq_true rfl)⟩ d_D_prime_55) (fun rp hps => ?_)
                              refine lv_if_ne hx hb d_D_prime_58 rfl (fun g2 => ?_) (fun g2 => ?_)
                              · have hS7 : 7 < n → mr_S n 7 := fun _ => by
                                  rcases hps with ⟨-, q⟩ | ⟨q, -⟩
                                  · exact q
                                  · exact absurd q g2
                                refine lv_iload_n hx hb d_D_prime_63 rfl (lv_at hl 0 rfl) ?_
                                refine lv_iload_n hx hb d_D_prime_64 rfl (lv_at hl 0 rfl) ?_
                                refine lv_iconst (v := 2) hx hb d_D_prime_65 (by decide) ?_
                                refine lv_icmp_ne hx hb d_D_prime_66 rfl (fun g => ?_) (fun g => ?_)
                                · refine lv_iconst (v := 2) hx hb d_D_prime_73 (by decide) ?_
                                  refine lv_iadd hx hb d_D_prime_74 ?_
                                  rw [show (7 + 2 : Int32) = 9 from by decide]
                                  refine lv_istore_n (lv' := [(2, .int 9), (1, .int (nI od)), (0, .int (nI n))]) hx hb d_D_prime_75 rfl hl (Nat.le_of_ble_eq_true rfl) rfl (fun ls hl => ?_)
                                  refine lv_goto hx hb d_D_prime_76 rfl ?_
                                  refine lv_iload_n hx hb d_D_prime_35 rfl (lv_at hl 0 rfl) ?_
                                  refine lv_bipush (v := 8) hx hb d_D_prime_36 (by decide) ?_
                                  refine lv_icmp_ge hx hb d_D_prime_38 rfl (fun g => ?_) (fun g => ?_)
                                  · refine lv_iconst (v := 1) hx hb d_D_prime_79 (by decide) ?_
                                    exact rZ C d_D_prime_80 (Or.inr rfl) (Or.inl ⟨rfl, Or.inr ⟨hodd, hS2, hS3, hS5, hS7⟩⟩)
                                  · exact absurd (by decide) g
                                · exact absurd g (by decide)
                              · refine lv_iconst (v := 0) hx hb d_D_prime_61 (by decide) ?_
                                refine rZ C d_D_prime_62 (Or.inl rfl) (Or.inr ⟨rfl, ?_⟩)
                                rintro (hq | ⟨-, q2, q3, q5, q7⟩)
                                · omega
                                · rcases hps with ⟨q, -⟩ | ⟨-, q⟩
                                  · rw [q] at g2; exact absurd g2 (by decide)
                                  · exact q (q7 hbn)
                        · exact absurd g (by decide)
                      · have hbn : 5 < n := by
                          apply Classical.byContradiction
                          intro hq
                          exact g1 (nI_le (b := 5) (by omega) (by decide))
                        refine lv_iload_n hx hb d_D_prime_46 rfl (lv_at hl 2 rfl) ?_
                        refine lv_iload_n hx hb d_D_prime_47 rfl (lv_at hl 0 rfl) ?_
                        refine lv_iload_n hx hb d_D_prime_48 rfl (lv_at hl 1 rfl) ?_
                        refine lv_i2l (v := lN od) hx hb d_D_prime_49 (nI_l (by omega)) ?_
                        refine lv_iload_n hx hb d_D_prime_50 rfl (lv_at hl 2 rfl) ?_
                        refine goI (runS C [.int 5, .long (lN od), .int (nI n)] [.int (nI n)] (c_powS l (a := 5) (ee := od) (n := n) (by decide) (by omega) hn2 hlt) sw_D_39 rfl hl.1 ⟨rfl, rfl⟩ (fun _ _ _ => trivial) (fun _ _ _ _ h => h) (Nat.le_of_ble_eq_true rfl) ⟨(Nat.le_of_ble_eq_true rfl), (Nat.le_of_ble_eq_true rfl)⟩ ⟨(Nat.le_of_ble_eq_true rfl), (Nat.le_of_ble_eq_true rfl)⟩ d_D_prime_51) (fun r hr => ?_)
                        subst hr
                        refine lv_iload_n hx hb d_D_prime_54 rfl (lv_at hl 1 rfl) ?_
                        refine goI (runS C [.int (nI n), .int (nI (5 ^ od % n)), .int (nI od)] [] (c_passes l (n := n) (b := 5) (z := z) (od := od) hzo hod hz1 hz30 (by omega) hlt) sw_D_43 rfl hl.1 ⟨rfl, rfl⟩ (fun _ _ _ => trivial) (fun _ _ _ _ h => h) (Nat.le_of_ble_eq_true rfl) ⟨(Nat.le_of_ble_eq_true rfl), (Nat.le_of_ble_eq_true rfl)⟩ ⟨(Nat.le_of_ble_eq_true rfl), (Nat.le_of_ble_eq_true rfl)⟩ d_D_prime_55) (fun rp hps => ?_)
                        refine lv_if_ne hx hb d_D_prime_58 rfl (fun g2 => ?_) (fun g2 => ?_)
                        · have hS5 : 5 < n → mr_S n 5 := fun _ => by
                            rcases hps with ⟨-, q⟩ | ⟨q, -⟩
                            · exact q
                            · exact absurd q g2
                          refine lv_iload_n hx hb d_D_prime_63 rfl (lv_at hl 0 rfl) ?_
                          refine lv_iload_n hx hb d_D_prime_64 rfl (lv_at hl 0 rfl) ?_
                          refine lv_iconst (v := 2) hx hb d_D_prime_65 (by decide) ?_
                          refine lv_icmp_ne hx hb d_D_prime_66 rfl (fun g => ?_) (fun g => ?_)
                          · refine lv_iconst (v := 2) hx hb d_D_prime_73 (by decide) ?_
                            refine lv_iadd hx hb d_D_prime_74 ?_
                            rw [show (5 + 2 : Int32) = 7 from by decide]
                            refine lv_istore_n (lv' := [(2, .int 7), (1, .int (nI od)), (0, .int (nI n))]) hx hb d_D_prime_75 rfl hl (Nat.le_of_ble_eq_true rfl) rfl (fun ls hl => ?_)
                            refine lv_goto hx hb d_D_prime_76 rfl ?_
                            refine lv_iload_n hx hb d_D_prime_35 rfl (lv_at hl 0 rfl) ?_
                            refine lv_bipush (v := 8) hx hb d_D_prime_36 (by decide) ?_
                            refine lv_icmp_ge hx hb d_D_prime_38 rfl (fun g => ?_) (fun g => ?_)
                            · exact absurd g (by decide)
                            · refine lv_iload_n hx hb d_D_prime_41 rfl (lv_at hl 0 rfl) ?_
                              refine lv_iload_n hx hb d_D_prime_42 rfl (lv_at hl 2 rfl) ?_
                              refine lv_icmp_ge hx hb d_D_prime_43 rfl (fun g1 => ?_) (fun g1 => ?_)
                              · have hS7 : 7 < n → mr_S n 7 := fun hq => absurd g1 (nI_ge (a := 7) hq hlt)
                                refine lv_iload_n hx hb d_D_prime_63 rfl (lv_at hl 0 rfl) ?_
                                refine lv_iload_n hx hb d_D_prime_64 rfl (lv_at hl 0 rfl) ?_
                                refine lv_iconst (v := 2) hx hb d_D_prime_65 (by decide) ?_
                                refine lv_icmp_ne hx hb d_D_prime_66 rfl (fun g => ?_) (fun g => ?_)
                                · refine lv_iconst (v := 2) hx hb d_D_prime_73 (by decide) ?_
                                  refine lv_iadd hx hb d_D_prime_74 ?_
                                  rw [show (7 + 2 : Int32) = 9 from by decide]
                                  refine lv_istore_n (lv' := [(2, .int 9), (1, .int (nI od)), (0, .int (nI n))]) hx hb d_D_prime_75 rfl hl (Nat.le_of_ble_eq_true rfl) rfl (fun ls hl => ?_)
                                  refine lv_goto hx hb d_D_prime_76 rfl ?_
                                  refine lv_iload_n hx hb d_D_prime_35 rfl (lv_at hl 0 rfl) ?_
                                  refine lv_bipush (v := 8) hx hb d_D_prime_36 (by decide) ?_
                                  refine lv_icmp_ge hx hb d_D_prime_38 rfl (fun g => ?_) (fun g => ?_)
                                  · refine lv_iconst (v := 1) hx hb d_D_prime_79 (by decide) ?_
                                    exact rZ C d_D_prime_80 (Or.inr rfl) (Or.inl ⟨rfl, Or.inr ⟨hodd, hS2, hS3, hS5, hS7⟩⟩)
                                  · exact absurd (by decide) g
                                · exact absurd g (by decide)
                              · have hbn : 7 < n := by
                                  apply Classical.byContradiction
                                  intro hq
                                  exact g1 (nI_le (b := 7) (by omega) (by decide))
                                refine lv_iload_n hx hb d_D_prime_46 rfl (lv_at hl 2 rfl) ?_
                                refine lv_iload_n hx hb d_D_prime_47 rfl (lv_at hl 0 rfl) ?_
                                refine lv_iload_n hx hb d_D_prime_48 rfl (lv_at hl 1 rfl) ?_
                                refine lv_i2l (v := lN od) hx hb d_D_prime_49 (nI_l (by omega)) ?_
                                refine lv_iload_n hx hb d_D_prime_50 rfl (lv_at hl 2 rfl) ?_
                                refine goI (runS C [.int 7, .long (lN od), .int (nI n)] [.int (nI n)] (c_powS l (a := 7) (ee := od) (n := n) (by decide) (by omega) hn2 hlt) sw_D_39 rfl hl.1 ⟨rfl, rfl⟩ (fun _ _ _ => trivial) (fun _ _ _ _ h => h) (Nat.le_of_ble_eq_true rfl) ⟨(Nat.le_of_ble_eq_true rfl), (Nat.le_of_ble_eq_true rfl)⟩ ⟨(Nat.le_of_ble_eq_true rfl), (Nat.le_of_ble_eq_true rfl)⟩ d_D_prime_51) (fun r hr => ?_)
                                subst hr
                                refine lv_iload_n hx hb d_D_prime_54 rfl (lv_at hl 1 rfl) ?_
                                refine goI (runS C [.int (nI n), .int (nI (7 ^ od % n)), .int (nI od)] [] (c_passes l (n := n) (b := 7) (z := z) (od := od) hzo hod hz1 hz30 (by omega) hlt) sw_D_43 rfl hl.1 ⟨rfl, rfl⟩ (fun _ _ _ => trivial) (fun _ _ _ _ h => h) (Nat.le_of_ble_eq_true rfl) ⟨(Nat.le_of_ble_eq_true rfl), (Nat.le_of_ble_eq_true rfl)⟩ ⟨(Nat.le_of_ble_eq_true rfl), (Nat.le_of_ble_eq_true rfl)⟩ d_D_prime_55) (fun rp hps => ?_)
                                refine lv_if_ne hx hb d_D_prime_58 rfl (fun g2 => ?_) (fun g2 => ?_)
                                · have hS7 : 7 < n → mr_S n 7 := fun _ => by
                                    rcases hps with ⟨-, q⟩ | ⟨q, -⟩
                                    · exact q
                                    · exact absurd q g2
                                  refine lv_iload_n hx hb d_D_prime_63 rfl (lv_at hl 0 rfl) ?_
                                  refine lv_iload_n hx hb d_D_prime_64 rfl (lv_at hl 0 rfl) ?_
                                  refine lv_iconst (v := 2) hx hb d_D_prime_65 (by decide) ?_
                                  refine lv_icmp_ne hx hb d_D_prime_66 rfl (fun g => ?_) (fun g => ?_)
                                  · refine lv_iconst (v := 2) hx hb d_D_prime_73 (by decide) ?_
                                    refine lv_iadd hx hb d_D_prime_74 ?_
                                    rw [show (7 + 2 : Int32) = 9 from by decide]
                                    refine lv_istore_n (lv' := [(2, .int 9), (1, .int (nI od)), (0, .int (nI n))]) hx hb d_D_prime_75 rfl hl (Nat.le_of_ble_eq_true rfl) rfl (fun ls hl => ?_)
                                    refine lv_goto hx hb d_D_prime_76 rfl ?_
                                    refine lv_iload_n hx hb d_D_prime_35 rfl (lv_at hl 0 rfl) ?_
                                    refine lv_bipush (v := 8) hx hb d_D_prime_36 (by decide) ?_
                                    refine lv_icmp_ge hx hb d_D_prime_38 rfl (fun g => ?_) (fun g => ?_)
                                    · refine lv_iconst (v := 1) hx hb d_D_prime_79 (by decide) ?_
                                      exact rZ C d_D_prime_80 (Or.inr rfl) (Or.inl ⟨rfl, Or.inr ⟨hodd, hS2, hS3, hS5, hS7⟩⟩)
                                    · exact absurd (by decide) g
                                  · exact absurd g (by decide)
                                · refine lv_iconst (v := 0) hx hb d_D_prime_61 (by decide) ?_
                                  refine rZ C d_D_prime_62 (Or.inl rfl) (Or.inr ⟨rfl, ?_⟩)
                                  rintro (hq | ⟨-, q2, q3, q5, q7⟩)
                                  · omega
                                  · rcases hps with ⟨q, -⟩ | ⟨-, q⟩
                                    · rw [q] at g2; exact absurd g2 (by decide)
                                    · exact q (q7 hbn)
                          · exact absurd g (by decide)
                        · refine lv_iconst (v := 0) hx hb d_D_prime_61 (by decide) ?_
                          refine rZ C d_D_prime_62 (Or.inl rfl) (Or.inr ⟨rfl, ?_⟩)
                          rintro (hq | ⟨-, q2, q3, q5, q7⟩)
                          · omega
                          · rcases hps with ⟨q, -⟩ | ⟨-, q⟩
                            · rw [q] at g2; exact absurd g2 (by decide)
                            · exact q (q5 hbn)
                  · exact absurd g (by decide)
                · have hbn : 3 < n := by
                    apply Classical.byContradiction
                    intro hq
                    exact g1 (nI_le (b := 3) (by omega) (by decide))
                  refine lv_iload_n hx hb d_D_prime_46 rfl (lv_at hl 2 rfl) ?_
                  refine lv_iload_n hx hb d_D_prime_47 rfl (lv_at hl 0 rfl) ?_
                  refine lv_iload_n hx hb d_D_prime_48 rfl (lv_at hl 1 rfl) ?_
                  refine lv_i2l (v := lN od) hx hb d_D_prime_49 (nI_l (by omega)) ?_
                  refine lv_iload_n hx hb d_D_prime_50 rfl (lv_at hl 2 rfl) ?_
                  refine goI (runS C [.int 3, .long (lN od), .int (nI n)] [.int (nI n)] (c_powS l (a := 3) (ee := od) (n := n) (by decide) (by omega) hn2 hlt) sw_D_39 rfl hl.1 ⟨rfl, rfl⟩ (fun _ _ _ => trivial) (fun _ _ _ _ h => h) (Nat.le_of_ble_eq_true rfl) ⟨(Nat.le_of_ble_eq_true rfl), (Nat.le_of_ble_eq_true rfl)⟩ ⟨(Nat.le_of_ble_eq_true rfl), (Nat.le_of_ble_eq_true rfl)⟩ d_D_prime_51) (fun r hr => ?_)
                  subst hr
                  refine lv_iload_n hx hb d_D_prime_54 rfl (lv_at hl 1 rfl) ?_
                  refine goI (runS C [.int (nI n), .int (nI (3 ^ od % n)), .int (nI od)] [] (c_passes l (n := n) (b := 3) (z := z) (od := od) hzo hod hz1 hz30 (by omega) hlt) sw_D_43 rfl hl.1 ⟨rfl, rfl⟩ (fun _ _ _ => trivial) (fun _ _ _ _ h => h) (Nat.le_of_ble_eq_true rfl) ⟨(Nat.le_of_ble_eq_true rfl), (Nat.le_of_ble_eq_true rfl)⟩ ⟨(Nat.le_of_ble_eq_true rfl), (Nat.le_of_ble_eq_true rfl)⟩ d_D_prime_55) (fun rp hps => ?_)
                  refine lv_if_ne hx hb d_D_prime_58 rfl (fun g2 => ?_) (fun g2 => ?_)
                  · have hS3 : 3 < n → mr_S n 3 := fun _ => by
                      rcases hps with ⟨-, q⟩ | ⟨q, -⟩
                      · exact q
                      · exact absurd q g2
                    refine lv_iload_n hx hb d_D_prime_63 rfl (lv_at hl 0 rfl) ?_
                    refine lv_iload_n hx hb d_D_prime_64 rfl (lv_at hl 0 rfl) ?_
                    refine lv_iconst (v := 2) hx hb d_D_prime_65 (by decide) ?_
                    refine lv_icmp_ne hx hb d_D_prime_66 rfl (fun g => ?_) (fun g => ?_)
                    · refine lv_iconst (v := 2) hx hb d_D_prime_73 (by decide) ?_
                      refine lv_iadd hx hb d_D_prime_74 ?_
                      rw [show (3 + 2 : Int32) = 5 from by decide]
                      refine lv_istore_n (lv' := [(2, .int 5), (1, .int (nI od)), (0, .int (nI n))]) hx hb d_D_prime_75 rfl hl (Nat.le_of_ble_eq_true rfl) rfl (fun ls hl => ?_)
                      refine lv_goto hx hb d_D_prime_76 rfl ?_
                      refine lv_iload_n hx hb d_D_prime_35 rfl (lv_at hl 0 rfl) ?_
                      refine lv_bipush (v := 8) hx hb d_D_prime_36 (by decide) ?_
                      refine lv_icmp_ge hx hb d_D_prime_38 rfl (fun g => ?_) (fun g => ?_)
                      · exact absurd g (by decide)
                      · refine lv_iload_n hx hb d_D_prime_41 rfl (lv_at hl 0 rfl) ?_
                        refine lv_iload_n hx hb d_D_prime_42 rfl (lv_at hl 2 rfl) ?_
                        refine lv_icmp_ge hx hb d_D_prime_43 rfl (fun g1 => ?_) (fun g1 => ?_)
                        · have hS5 : 5 < n → mr_S n 5 := fun hq => absurd g1 (nI_ge (a := 5) hq hlt)
                          refine lv_iload_n hx hb d_D_prime_63 rfl (lv_at hl 0 rfl) ?_
                          refine lv_iload_n hx hb d_D_prime_64 rfl (lv_at hl 0 rfl) ?_
                          refine lv_iconst (v := 2) hx hb d_D_prime_65 (by decide) ?_
                          refine lv_icmp_ne hx hb d_D_prime_66 rfl (fun g => ?_) (fun g => ?_)
                          · refine lv_iconst (v := 2) hx hb d_D_prime_73 (by decide) ?_
                            refine lv_iadd hx hb d_D_prime_74 ?_
                            rw [show (5 + 2 : Int32) = 7 from by decide]
                            refine lv_istore_n (lv' := [(2, .int 7), (1, .int (nI od)), (0, .int (nI n))]) hx hb d_D_prime_75 rfl hl (Nat.le_of_ble_eq_true rfl) rfl (fun ls hl => ?_)
                            refine lv_goto hx hb d_D_prime_76 rfl ?_
                            refine lv_iload_n hx hb d_D_prime_35 rfl (lv_at hl 0 rfl) ?_
                            refine lv_bipush (v := 8) hx hb d_D_prime_36 (by decide) ?_
                            refine lv_icmp_ge hx hb d_D_prime_38 rfl (fun g => ?_) (fun g => ?_)
                            · exact absurd g (by decide)
                            · refine lv_iload_n hx hb d_D_prime_41 rfl (lv_at hl 0 rfl) ?_
                              refine lv_iload_n hx hb d_D_prime_42 rfl (lv_at hl 2 rfl) ?_
                              refine lv_icmp_ge hx hb d_D_prime_43 rfl (fun g1 => ?_) (fun g1 => ?_)
                              · have hS7 : 7 < n → mr_S n 7 := fun hq => absurd g1 (nI_ge (a := 7) hq hlt)
                                refine lv_iload_n hx hb d_D_prime_63 rfl (lv_at hl 0 rfl) ?_
                                refine lv_iload_n hx hb d_D_prime_64 rfl (lv_at hl 0 rfl) ?_
                                refine lv_iconst (v := 2) hx hb d_D_prime_65 (by decide) ?_
                                refine lv_icmp_ne hx hb d_D_prime_66 rfl (fun g => ?_) (fun g => ?_)
                                · refine lv_iconst (v := 2) hx hb d_D_prime_73 (by decide) ?_
                                  refine lv_iadd hx hb d_D_prime_74 ?_
                                  rw [show (7 + 2 : Int32) = 9 from by decide]
                                  refine lv_istore_n (lv' := [(2, .int 9), (1, .int (nI od)), (0, .int (nI n))]) hx hb d_D_prime_75 rfl hl (Nat.le_of_ble_eq_true rfl) rfl (fun ls hl => ?_)
                                  refine lv_goto hx hb d_D_prime_76 rfl ?_
                                  refine lv_iload_n hx hb d_D_prime_35 rfl (lv_at hl 0 rfl) ?_
                                  refine lv_bipush (v := 8) hx hb d_D_prime_36 (by decide) ?_
                                  refine lv_icmp_ge hx hb d_D_prime_38 rfl (fun g => ?_) (fun g => ?_)
                                  · refine lv_iconst (v := 1) hx hb d_D_prime_79 (by decide) ?_
                                    exact rZ C d_D_prime_80 (Or.inr rfl) (Or.inl ⟨rfl, Or.inr ⟨hodd, hS2, hS3, hS5, hS7⟩⟩)
                                  · exact absurd (by decide) g
                                · exact absurd g (by decide)
                              · have hbn : 7 < n := by
                                  apply Classical.byContradiction
                                  intro hq
                                  exact g1 (nI_le (b := 7) (by omega) (by decide))
                                refine lv_iload_n hx hb d_D_prime_46 rfl (lv_at hl 2 rfl) ?_
                                refine lv_iload_n hx hb d_D_prime_47 rfl (lv_at hl 0 rfl) ?_
                                refine lv_iload_n hx hb d_D_prime_48 rfl (lv_at hl 1 rfl) ?_
                                refine lv_i2l (v := lN od) hx hb d_D_prime_49 (nI_l (by omega)) ?_
                                refine lv_iload_n hx hb d_D_prime_50 rfl (lv_at hl 2 rfl) ?_
                                refine goI (runS C [.int 7, .long (lN od), .int (nI n)] [.int (nI n)] (c_powS l (a := 7) (ee := od) (n := n) (by decide) (by omega) hn2 hlt) sw_D_39 rfl hl.1 ⟨rfl, rfl⟩ (fun _ _ _ => trivial) (fun _ _ _ _ h => h) (Nat.le_of_ble_eq_true rfl) ⟨(Nat.le_of_ble_eq_true rfl), (Nat.le_of_ble_eq_true rfl)⟩ ⟨(Nat.le_of_ble_eq_true rfl), (Nat.le_of_ble_eq_true rfl)⟩ d_D_prime_51) (fun r hr => ?_)
                                subst hr
                                refine lv_iload_n hx hb d_D_prime_54 rfl (lv_at hl 1 rfl) ?_
                                refine goI (runS C [.int (nI n), .int (nI (7 ^ od % n)), .int (nI od)] [] (c_passes l (n := n) (b := 7) (z := z) (od := od) hzo hod hz1 hz30 (by omega) hlt) sw_D_43 rfl hl.1 ⟨rfl, rfl⟩ (fun _ _ _ => trivial) (fun _ _ _ _ h => h) (Nat.le_of_ble_eq_true rfl) ⟨(Nat.le_of_ble_eq_true rfl), (Nat.le_of_ble_eq_true rfl)⟩ ⟨(Nat.le_of_ble_eq_true rfl), (Nat.le_of_ble_eq_true rfl)⟩ d_D_prime_55) (fun rp hps => ?_)
                                refine lv_if_ne hx hb d_D_prime_58 rfl (fun g2 => ?_) (fun g2 => ?_)
                                · have hS7 : 7 < n → mr_S n 7 := fun _ => by
                                    rcases hps with ⟨-, q⟩ | ⟨q, -⟩
                                    · exact q
                                    · exact absurd q g2
                                  refine lv_iload_n hx hb d_D_prime_63 rfl (lv_at hl 0 rfl) ?_
                                  refine lv_iload_n hx hb d_D_prime_64 rfl (lv_at hl 0 rfl) ?_
                                  refine lv_iconst (v := 2) hx hb d_D_prime_65 (by decide) ?_
                                  refine lv_icmp_ne hx hb d_D_prime_66 rfl (fun g => ?_) (fun g => ?_)
                                  · refine lv_iconst (v := 2) hx hb d_D_prime_73 (by decide) ?_
                                    refine lv_iadd hx hb d_D_prime_74 ?_
                                    rw [show (7 + 2 : Int32) = 9 from by decide]
                                    refine lv_istore_n (lv' := [(2, .int 9), (1, .int (nI od)), (0, .int (nI n))]) hx hb d_D_prime_75 rfl hl (Nat.le_of_ble_eq_true rfl) rfl (fun ls hl => ?_)
                                    refine lv_goto hx hb d_D_prime_76 rfl ?_
                                    refine lv_iload_n hx hb d_D_prime_35 rfl (lv_at hl 0 rfl) ?_
                                    refine lv_bipush (v := 8) hx hb d_D_prime_36 (by decide) ?_
                                    refine lv_icmp_ge hx hb d_D_prime_38 rfl (fun g => ?_) (fun g => ?_)
                                    · refine lv_iconst (v := 1) hx hb d_D_prime_79 (by decide) ?_
                                      exact rZ C d_D_prime_80 (Or.inr rfl) (Or.inl ⟨rfl, Or.inr ⟨hodd, hS2, hS3, hS5, hS7⟩⟩)
                                    · exact absurd (by decide) g
                                  · exact absurd g (by decide)
                                · refine lv_iconst (v := 0) hx hb d_D_prime_61 (by decide) ?_
                                  refine rZ C d_D_prime_62 (Or.inl rfl) (Or.inr ⟨rfl, ?_⟩)
                                  rintro (hq | ⟨-, q2, q3, q5, q7⟩)
                                  · omega
                                  · rcases hps with ⟨q, -⟩ | ⟨-, q⟩
                                    · rw [q] at g2; exact absurd g2 (by decide)
                                    · exact q (q7 hbn)
                          · exact absurd g (by decide)
                        · have hbn : 5 < n := by
                            apply Classical.byContradiction
                            intro hq
                            exact g1 (nI_le (b := 5) (by omega) (by decide))
                          refine lv_iload_n hx hb d_D_prime_46 rfl (lv_at hl 2 rfl) ?_
                          refine lv_iload_n hx hb d_D_prime_47 rfl (lv_at hl 0 rfl) ?_
                          refine lv_iload_n hx hb d_D_prime_48 rfl (lv_at hl 1 rfl) ?_
                          refine lv_i2l (v := lN od) hx hb d_D_prime_49 (nI_l (by omega)) ?_
                          refine lv_iload_n hx hb d_D_prime_50 rfl (lv_at hl 2 rfl) ?_
                          refine goI (runS C [.int 5, .long (lN od), .int (nI n)] [.int (nI n)] (c_powS l (a := 5) (ee := od) (n := n) (by decide) (by omega) hn2 hlt) sw_D_39 rfl hl.1 ⟨rfl, rfl⟩ (fun _ _ _ => trivial) (fun _ _ _ _ h => h) (Nat.le_of_ble_eq_true rfl) ⟨(Nat.le_of_ble_eq_true rfl), (Nat.le_of_ble_eq_true rfl)⟩ ⟨(Nat.le_of_ble_eq_true rfl), (Nat.le_of_ble_eq_true rfl)⟩ d_D_prime_51) (fun r hr => ?_)
                          subst hr
                          refine lv_iload_n hx hb d_D_prime_54 rfl (lv_at hl 1 rfl) ?_
                          refine goI (runS C [.int (nI n), .int (nI (5 ^ od % n)), .int (nI od)] [] (c_passes l (n := n) (b := 5) (z := z) (od := od) hzo hod hz1 hz30 (by omega) hlt) sw_D_43 rfl hl.1 ⟨rfl, rfl⟩ (fun _ _ _ => trivial) (fun _ _ _ _ h => h) (Nat.le_of_ble_eq_true rfl) ⟨(Nat.le_of_ble_eq_true rfl), (Nat.le_of_ble_eq_true rfl)⟩ ⟨(Nat.le_of_ble_eq_true rfl), (Nat.le_of_ble_eq_true rfl)⟩ d_D_prime_55) (fun rp hps => ?_)
                          refine lv_if_ne hx hb d_D_prime_58 rfl (fun g2 => ?_) (fun g2 => ?_)
                          · have hS5 : 5 < n → mr_S n 5 := fun _ => by
                              rcases hps with ⟨-, q⟩ | ⟨q, -⟩
                              · exact q
                              · exact absurd q g2
                            refine lv_iload_n hx hb d_D_prime_63 rfl (lv_at hl 0 rfl) ?_
                            refine lv_iload_n hx hb d_D_prime_64 rfl (lv_at hl 0 rfl) ?_
                            refine lv_iconst (v := 2) hx hb d_D_prime_65 (by decide) ?_
                            refine lv_icmp_ne hx hb d_D_prime_66 rfl (fun g => ?_) (fun g => ?_)
                            · refine lv_iconst (v := 2) hx hb d_D_prime_73 (by decide) ?_
                              refine lv_iadd hx hb d_D_prime_74 ?_
                              rw [show (5 + 2 : Int32) = 7 from by decide]
                              refine lv_istore_n (lv' := [(2, .int 7), (1, .int (nI od)), (0, .int (nI n))]) hx hb d_D_prime_75 rfl hl (Nat.le_of_ble_eq_true rfl) rfl (fun ls hl => ?_)
                              refine lv_goto hx hb d_D_prime_76 rfl ?_
                              refine lv_iload_n hx hb d_D_prime_35 rfl (lv_at hl 0 rfl) ?_
                              refine lv_bipush (v := 8) hx hb d_D_prime_36 (by decide) ?_
                              refine lv_icmp_ge hx hb d_D_prime_38 rfl (fun g => ?_) (fun g => ?_)
                              · exact absurd g (by decide)
                              · refine lv_iload_n hx hb d_D_prime_41 rfl (lv_at hl 0 rfl) ?_
                                refine lv_iload_n hx hb d_D_prime_42 rfl (lv_at hl 2 rfl) ?_
                                refine lv_icmp_ge hx hb d_D_prime_43 rfl (fun g1 => ?_) (fun g1 => ?_)
                                · have hS7 : 7 < n → mr_S n 7 := fun hq => absurd g1 (nI_ge (a := 7) hq hlt)
                                  refine lv_iload_n hx hb d_D_prime_63 rfl (lv_at hl 0 rfl) ?_
                                  refine lv_iload_n hx hb d_D_prime_64 rfl (lv_at hl 0 rfl) ?_
                                  refine lv_iconst (v := 2) hx hb d_D_prime_65 (by decide) ?_
                                  refine lv_icmp_ne hx hb d_D_prime_66 rfl (fun g => ?_) (fun g => ?_)
                                  · refine lv_iconst (v := 2) hx hb d_D_prime_73 (by decide) ?_
                                    refine lv_iadd hx hb d_D_prime_74 ?_
                                    rw [show (7 + 2 : Int32) = 9 from by decide]
                                    refine lv_istore_n (lv' := [(2, .int 9), (1, .int (nI od)), (0, .int (nI n))]) hx hb d_D_prime_75 rfl hl (Nat.le_of_ble_eq_true rfl) rfl (fun ls hl => ?_)
                                    refine lv_goto hx hb d_D_prime_76 rfl ?_
                                    refine lv_iload_n hx hb d_D_prime_35 rfl (lv_at hl 0 rfl) ?_
                                    refine lv_bipush (v := 8) hx hb d_D_prime_36 (by decide) ?_
                                    refine lv_icmp_ge hx hb d_D_prime_38 rfl (fun g => ?_) (fun g => ?_)
                                    · refine lv_iconst (v := 1) hx hb d_D_prime_79 (by decide) ?_
                                      exact rZ C d_D_prime_80 (Or.inr rfl) (Or.inl ⟨rfl, Or.inr ⟨hodd, hS2, hS3, hS5, hS7⟩⟩)
                                    · exact absurd (by decide) g
                                  · exact absurd g (by decide)
                                · have hbn : 7 < n := by
                                    apply Classical.byContradiction
                                    intro hq
                                    exact g1 (nI_le (b := 7) (by omega) (by decide))
                                  refine lv_iload_n hx hb d_D_prime_46 rfl (lv_at hl 2 rfl) ?_
                                  refine lv_iload_n hx hb d_D_prime_47 rfl (lv_at hl 0 rfl) ?_
                                  refine lv_iload_n hx hb d_D_prime_48 rfl (lv_at hl 1 rfl) ?_
                                  refine lv_i2l (v := lN od) hx hb d_D_prime_49 (nI_l (by omega)) ?_
                                  refine lv_iload_n hx hb d_D_prime_50 rfl (lv_at hl 2 rfl) ?_
                                  refine goI (runS C [.int 7, .long (lN od), .int (nI n)] [.int (nI n)] (c_powS l (a := 7) (ee := od) (n := n) (by decide) (by omega) hn2 hlt) sw_D_39 rfl hl.1 ⟨rfl, rfl⟩ (fun _ _ _ => trivial) (fun _ _ _ _ h => h) (Nat.le_of_ble_eq_true rfl) ⟨(Nat.le_of_ble_eq_true rfl), (Nat.le_of_ble_eq_true rfl)⟩ ⟨(Nat.le_of_ble_eq_true rfl), (Nat.le_of_ble_eq_true rfl)⟩ d_D_prime_51) (fun r hr => ?_)
                                  subst hr
                                  refine lv_iload_n hx hb d_D_prime_54 rfl (lv_at hl 1 rfl) ?_
                                  refine goI (runS C [.int (nI n), .int (nI (7 ^ od % n)), .int (nI od)] [] (c_passes l (n := n) (b := 7) (z := z) (od := od) hzo hod hz1 hz30 (by omega) hlt) sw_D_43 rfl hl.1 ⟨rfl, rfl⟩ (fun _ _ _ => trivial) (fun _ _ _ _ h => h) (Nat.le_of_ble_eq_true rfl) ⟨(Nat.le_of_ble_eq_true rfl), (Nat.le_of_ble_eq_true rfl)⟩ ⟨(Nat.le_of_ble_eq_true rfl), (Nat.le_of_ble_eq_true rfl)⟩ d_D_prime_55) (fun rp hps => ?_)
                                  refine lv_if_ne hx hb d_D_prime_58 rfl (fun g2 => ?_) (fun g2 => ?_)
                                  · have hS7 : 7 < n → mr_S n 7 := fun _ => by
                                      rcases hps with ⟨-, q⟩ | ⟨q, -⟩
                                      · exact q
                                      · exact absurd q g2
                                    refine lv_iload_n hx hb d_D_prime_63 rfl (lv_at hl 0 rfl) ?_
                                    refine lv_iload_n hx hb d_D_prime_64 rfl (lv_at hl 0 rfl) ?_
                                    refine lv_iconst (v := 2) hx hb d_D_prime_65 (by decide) ?_
                                    refine lv_icmp_ne hx hb d_D_prime_66 rfl (fun g => ?_) (fun g => ?_)
                                    · refine lv_iconst (v := 2) hx hb d_D_prime_73 (by decide) ?_
                                      refine lv_iadd hx hb d_D_prime_74 ?_
                                      rw [show (7 + 2 : Int32) = 9 from by decide]
                                      refine lv_istore_n (lv' := [(2, .int 9), (1, .int (nI od)), (0, .int (nI n))]) hx hb d_D_prime_75 rfl hl (Nat.le_of_ble_eq_true rfl) rfl (fun ls hl => ?_)
                                      refine lv_goto hx hb d_D_prime_76 rfl ?_
                                      refine lv_iload_n hx hb d_D_prime_35 rfl (lv_at hl 0 rfl) ?_
                                      refine lv_bipush (v := 8) hx hb d_D_prime_36 (by decide) ?_
                                      refine lv_icmp_ge hx hb d_D_prime_38 rfl (fun g => ?_) (fun g => ?_)
                                      · refine lv_iconst (v := 1) hx hb d_D_prime_79 (by decide) ?_
                                        exact rZ C d_D_prime_80 (Or.inr rfl) (Or.inl ⟨rfl, Or.inr ⟨hodd, hS2, hS3, hS5, hS7⟩⟩)
                                      · exact absurd (by decide) g
                                    · exact absurd g (by decide)
                                  · refine lv_iconst (v := 0) hx hb d_D_prime_61 (by decide) ?_
                                    refine rZ C d_D_prime_62 (Or.inl rfl) (Or.inr ⟨rfl, ?_⟩)
                                    rintro (hq | ⟨-, q2, q3, q5, q7⟩)
                                    · omega
                                    · rcases hps with ⟨q, -⟩ | ⟨-, q⟩
                                      · rw [q] at g2; exact absurd g2 (by decide)
                                      · exact q (q7 hbn)
                            · exact absurd g (by decide)
                          · refine lv_iconst (v := 0) hx hb d_D_prime_61 (by decide) ?_
                            refine rZ C d_D_prime_62 (Or.inl rfl) (Or.inr ⟨rfl, ?_⟩)
                            rintro (hq | ⟨-, q2, q3, q5, q7⟩)
                            · omega
                            · rcases hps with ⟨q, -⟩ | ⟨-, q⟩
                              · rw [q] at g2; exact absurd g2 (by decide)
                              · exact q (q5 hbn)
                    · exact absurd g (by decide)
                  · refine lv_iconst (v := 0) hx hb d_D_prime_61 (by decide) ?_
                    refine rZ C d_D_prime_62 (Or.inl rfl) (Or.inr ⟨rfl, ?_⟩)
                    rintro (hq | ⟨-, q2, q3, q5, q7⟩)
                    · omega
                    · rcases hps with ⟨q, -⟩ | ⟨-, q⟩
                      · rw [q] at g2; exact absurd g2 (by decide)
                      · exact q (q3 hbn)
          · refine lv_iconst (v := 0) hx hb d_D_prime_61 (by decide) ?_
            refine rZ C d_D_prime_62 (Or.inl rfl) (Or.inr ⟨rfl, ?_⟩)
            rintro (hq | ⟨-, q2, q3, q5, q7⟩)
            · omega
            · rcases hps with ⟨q, -⟩ | ⟨-, q⟩
              · rw [q] at g2; exact absurd g2 (by decide)
              · exact q (q2 hbn)
    · have hev : n % 2 = 0 := (nI_eq (b := 0) (by omega) (by decide)).mp h2
      refine lv_iload_n hx hb d_D_prime_11 rfl (lv_at hl 0 rfl) ?_
      refine lv_iconst (v := 2) hx hb d_D_prime_12 (by decide) ?_
      refine lv_icmp_ne hx hb d_D_prime_13 rfl (fun h3 => ?_) (fun h3 => ?_)
      · refine lv_iconst (v := 0) hx hb d_D_prime_20 (by decide) ?_
        refine rZ C d_D_prime_21 (Or.inl rfl) (Or.inr ⟨rfl, ?_⟩)
        rintro (hq | ⟨hq, -⟩)
        · exact h3 (by rw [hq]; rfl)
        · omega
      · refine lv_iconst (v := 1) hx hb d_D_prime_16 (by decide) ?_
        refine lv_goto hx hb d_D_prime_17 rfl ?_
        exact rZ C d_D_prime_21 (Or.inr rfl) (Or.inl ⟨rfl, Or.inl ((nI_eq (b := 2) hlt (by decide)).mp h3)⟩)
end
section
/-! the two objects -/
def F_D : u_T := fun k => match k with
  | 0 => ("ProofDesk", "near", "[I", true)
  | 1 => ("ProofDesk", "places", "[I", true)
  | 2 => ("ProofDesk", "p", "I", false)
  | 3 => ("ProofDesk", "q", "I", false)
  | _ => ("ProofDesk", "g", "I", false)
def t_D : Nat → FieldType := fun k => match k with
  | 0 => .array .int
  | 1 => .array .int
  | _ => .int
def F_M : u_T := fun k => match k with
  | 0 => ("ProofDeskModel", "err", "I", false)
  | 1 => ("ProofDeskModel", "p", "J", false)
  | 2 => ("ProofDeskModel", "q", "J", false)
  | _ => ("ProofDeskModel", "g", "J", false)
def t_M : Nat → FieldType := fun k => match k with
  | 0 => .int
  | _ => .long
abbrev cl : List vw_C := [("ProofDesk", F_D, 5), ("ProofDeskModel", F_M, 4)]
theorem n_D : ∀ a, a < 5 → ∀ b, b < 5 → a ≠ b → (F_D a).2.1 ≠ (F_D b).2.1 := by decide +kernel
theorem t_D_ok : ∀ k, k < 5 → parseFieldDescriptor (F_D k).2.2.1 = some (t_D k) := by decide +kernel
theorem n_M : ∀ a, a < 4 → ∀ b, b < 4 → a ≠ b → (F_M a).2.1 ≠ (F_M b).2.1 := by decide +kernel
theorem t_M_ok : ∀ k, k < 4 → parseFieldDescriptor (F_M k).2.2.1 = some (t_M k) := by decide +kernel
theorem in_D : ∀ w ∈ u_ws "ProofDesk" F_D 5, w ∈ tb := by decide +kernel
theorem in_M : ∀ w ∈ u_ws "ProofDeskModel" F_M 4, w ∈ tb := by decide +kernel
abbrev xW (h n pl p q g : Nat) : Nat × va_E := (h, .inr (0, [.ref n, .ref pl, .int (nI p), .int (nI q), .int (nI g)]))
abbrev mW (h : Nat) (er : Int32) (p q g : Nat) : Nat × va_E := (h, .inr (1, [.int er, .long (lN p), .long (lN q), .long (lN g)]))
/-- what the group's numbers are -/
def grp (p q g : Nat) : Prop := nt_P p ∧ nt_P q ∧ p = 2 * q + 1 ∧ 2 ≤ g ∧ g < p ∧ g ^ q % p = 1 ∧ p < 2 ^ 31
theorem grp.nums {p q g : Nat} (h : grp p q g) : 5 ≤ p ∧ p < 2 ^ 31 ∧ 2 ≤ q ∧ q < p ∧ g < p ∧ 2 ≤ g := by
  obtain ⟨h1, h2, h3, h4, h5, h6, h7⟩ := h
  have := h2.1
  omega
def XO (D : va_G) (h n pl p q g : Nat) (U : State) : Prop := va_P D cl [xW h n pl p q g] U.heap ∧ va_K D cl [] U
theorem XO.move {D : va_G} {h n pl p q g : Nat} {s U : State} (hX : XO D h n pl p q g s) (hU : U.heap = s.heap) (hW : s.WarmedH U.vm) : XO D h n pl p q g U :=
  ⟨by rw [hU]; exact hX.1, va_K.moved hW.alike hX.2⟩
theorem XO.call {D : va_G} {h n pl p q g : Nat} {U : State} (hX : XO D h n pl p q g U) (f : JFrame) (mk : MethodId) (a : Array Value) : XO D h n pl p q g (U.calling f mk a) :=
  ⟨hX.1, va_K.moved (u := U) (U := U.calling f mk a) (Vm.Alike.refl U.vm) hX.2⟩
theorem XO.cell {D : va_G} {h n pl p q g : Nat} {s : State} (hX : XO D h n pl p q g s) : ∃ cellB : Cell, s.heap[h]? = some cellB ∧ cellB.vm.isStatics = false ∧ s.vm.findClass "ProofDesk" = some cellB.cls :=
  va_recv (ci := 0) (q := ("ProofDesk", F_D, 5)) hX.2 hX.1 rfl (q0 := 0) rfl
section XG
variable {p0 : Program} {l : Launch} {e : Env} {R : Room} {s : State} {m : MethodId} {args : Array Value} {below : List Frame} {meth : Method} {c : Code} {locs : List Loc} {cells slots : Nat} {Q : State → Prop}
variable {cc : ByteArray} {pc nL : Nat} {ls : Array Slot} {ret : Option FieldType} {D : va_G} {h n pl p q g : Nat} {rest : List Value}
theorem xg_p (C : CX p0 s args m meth c "ProofDesk" cc nL ret) (hX : XO D h n pl p q g s) (hdg : decode cc pc = .ok (.getfield 16, 3))
    (kk : W p0 l e R s m args below meth c s.heap locs cells slots Q (F0 m (pc + 3) ls (.int (nI p) :: rest))) : W p0 l e R s m args below meth c s.heap locs cells slots Q (F0 m pc ls (.ref h :: rest)) :=
  va_get (D := D) (ci := 0) (v := .int (nI p)) C.1 C.2.1 C.2.2.2.2.1 in_D C.2.2.2.1 hX.2 hX.1 0 rfl rfl 2 (by decide) (C.2.2.2.2.1 _ tk_20) (fun _ h9 => h9) rfl hdg kk
theorem xg_q (C : CX p0 s args m meth c "ProofDesk" cc nL ret) (hX : XO D h n pl p q g s) (hdg : decode cc pc = .ok (.getfield 20, 3))
    (kk : W p0 l e R s m args below meth c s.heap locs cells slots Q (F0 m (pc + 3) ls (.int (nI q) :: rest))) : W p0 l e R s m args below meth c s.heap locs cells slots Q (F0 m pc ls (.ref h :: rest)) :=
  va_get (D := D) (ci := 0) (v := .int (nI q)) C.1 C.2.1 C.2.2.2.2.1 in_D C.2.2.2.1 hX.2 hX.1 0 rfl rfl 3 (by decide) (C.2.2.2.2.1 _ tk_21) (fun _ h9 => h9) rfl hdg kk
theorem xg_g (C : CX p0 s args m meth c "ProofDesk" cc nL ret) (hX : XO D h n pl p q g s) (hdg : decode cc pc = .ok (.getfield 23, 3))
    (kk : W p0 l e R s m args below meth c s.heap locs cells slots Q (F0 m (pc + 3) ls (.int (nI g) :: rest))) : W p0 l e R s m args below meth c s.heap locs cells slots Q (F0 m pc ls (.ref h :: rest)) :=
  va_get (D := D) (ci := 0) (v := .int (nI g)) C.1 C.2.1 C.2.2.2.2.1 in_D C.2.2.2.1 hX.2 hX.1 0 rfl rfl 4 (by decide) (C.2.2.2.2.1 _ tk_22) (fun _ h9 => h9) rfl hdg kk
end XG
/-! what the checks say -/
theorem in_v0 {lo v hi : Int32} : in_v lo v hi = 0 ↔ ¬ (lo.toInt ≤ v.toInt ∧ v.toInt ≤ hi.toInt) := by
  rw [← Int32.le_iff_toInt_le, ← Int32.le_iff_toInt_le]
  unfold in_v
  split
  · rename_i h
    constructor
    · intro hq; exact absurd hq (by decide)
    · intro hq; exact absurd h hq
  · rename_i h
    exact ⟨fun _ => h, fun _ => rfl⟩
theorem in_v1 {lo v hi : Int32} : ¬ in_v lo v hi = 0 ↔ (lo.toInt ≤ v.toInt ∧ v.toInt ≤ hi.toInt) := by rw [in_v0, Classical.not_not]
theorem in_z {lo v hi : Int32} {P : Prop} (h : P ↔ (lo.toInt ≤ v.toInt ∧ v.toInt ≤ hi.toInt)) : z_of P (in_v lo v hi) := by
  rw [← Int32.le_iff_toInt_le, ← Int32.le_iff_toInt_le] at h
  unfold in_v
  split
  · rename_i h2; exact Or.inl ⟨rfl, h.mpr h2⟩
  · rename_i h2; exact Or.inr ⟨rfl, fun hq => h2 (h.mp hq)⟩
theorem z_01 {P : Prop} {r : Int32} (h : z_of P r) : r = 0 ∨ r = 1 := by
  rcases h with ⟨h, -⟩ | ⟨h, -⟩
  · exact Or.inr h
  · exact Or.inl h
theorem z_t {P : Prop} {r : Int32} (h : z_of P r) (hr : ¬ r = 0) : P := by
  rcases h with ⟨-, h⟩ | ⟨h, -⟩
  · exact h
  · exact absurd h hr
theorem z_f {P : Prop} {r : Int32} (h : z_of P r) (hr : r = 0) : ¬ P := by
  rcases h with ⟨h, -⟩ | ⟨-, h⟩
  · rw [h] at hr; exact absurd hr (by decide)
  · exact h
theorem nI_m1 {n : Nat} (h : 1 ≤ n) : nI n - 1 = nI (n - 1) := by
  obtain ⟨j, rfl⟩ : ∃ j, n = j + 1 := ⟨n - 1, by omega⟩
  exact nI_pred j
def memP (p q : Nat) (y : Int32) : Prop := 1 ≤ y.toInt ∧ y.toInt < p ∧ y.toInt.toNat ^ q % p = 1
def expP (q : Nat) (v : Int32) : Prop := 0 ≤ v.toInt ∧ v.toInt < q
end
section
/-! reading methods of ProofDesk -/
set_option maxHeartbeats 4000000 in
/-- exponent(v) -/
theorem c_expo (l : Launch) (D : va_G) {h n pl p q g : Nat} (hG : grp p q g) (v : Int32) : Met l y_D_exponent (.code y_D_exponent b_D_exponent 2 (some .boolean) :: tb) (rk 1) (va_Pc [.ref h, .int v] (fun U => XO D h n pl p q g U)) (QI (z_of (expP q v))) 0 0 nf := by
  refine mk_met (by decide) (Nat.le_of_ble_eq_true rfl) ?_
  intro p0 e s m below meth c ls C hnm hX hl
  have hX : XO D h n pl p q g s := hX
  obtain ⟨g5, g31, gq, gqp, ggp, gg2⟩ := hG.nums
  generalize ([.ref h, .int v] : List Value).toArray = args at C ⊢
  obtain ⟨hx, hb, hml, hown, hts, hr, hlk⟩ := id C
  have hl : lv_has ls 2 [(0, .ref h), (1, .int v)] := hl
  refine lv_iload_n hx hb d_D_exponent_0 rfl (lv_at hl 1 rfl) ?_
  refine lv_iconst (v := 0) hx hb d_D_exponent_1 (by decide) ?_
  refine lv_aload_n hx hb d_D_exponent_2 rfl (lv_at hl 0 rfl) ?_
  refine xg_q C hX d_D_exponent_3 ?_
  refine lv_iconst (v := 1) hx hb d_D_exponent_6 (by decide) ?_
  refine lv_isub hx hb d_D_exponent_7 ?_
  rw [show ((nI q) - 1 : Int32) = nI (q - 1) from nI_m1 (by omega)]
  refine goI (runS C [.int v, .int 0, .int (nI (q - 1))] [] (c_in l v 0 (nI (q - 1))) sw_D_53 rfl hl.1 ⟨rfl, rfl⟩ (fun _ _ _ => trivial) (fun _ _ _ _ h => h) (Nat.le_of_ble_eq_true rfl) ⟨(Nat.le_of_ble_eq_true rfl), (Nat.le_of_ble_eq_true rfl)⟩ ⟨(Nat.le_of_ble_eq_true rfl), (Nat.le_of_ble_eq_true rfl)⟩ d_D_exponent_8) (fun r hr => ?_)
  subst hr
  have hz : z_of (expP q v) (in_v 0 v (nI (q - 1))) := in_z (by rw [expP, nI_toInt (show q - 1 < 2 ^ 31 by omega), show (0 : Int32).toInt = 0 from rfl]; omega)
  exact rZ C d_D_exponent_11 (z_01 hz) hz
set_option maxHeartbeats 4000000 in
/-- member(y) -/
theorem c_member (l : Launch) (D : va_G) {h n pl p q g : Nat} (hG : grp p q g) (y : Int32) : Met l y_D_member (.code y_D_member b_D_member 2 (some .boolean) :: tb) (rk 2) (va_Pc [.ref h, .int y] (fun U => XO D h n pl p q g U)) (QI (z_of (memP p q y))) 0 0 nf := by
  refine mk_met (by decide) (Nat.le_of_ble_eq_true rfl) ?_
  intro p0 e s m below meth c ls C hnm hX hl
  have hX : XO D h n pl p q g s := hX
  obtain ⟨g5, g31, gq, gqp, ggp, gg2⟩ := hG.nums
  generalize ([.ref h, .int y] : List Value).toArray = args at C ⊢
  obtain ⟨hx, hb, hml, hown, hts, hr, hlk⟩ := id C
  have hl : lv_has ls 2 [(0, .ref h), (1, .int y)] := hl
  refine lv_iload_n hx hb d_D_member_0 rfl (lv_at hl 1 rfl) ?_
  refine lv_iconst (v := 1) hx hb d_D_member_1 (by decide) ?_
  refine lv_aload_n hx hb d_D_member_2 rfl (lv_at hl 0 rfl) ?_
  refine xg_p C hX d_D_member_3 ?_
  refine lv_iconst (v := 1) hx hb d_D_member_6 (by decide) ?_
  refine lv_isub hx hb d_D_member_7 ?_
  rw [show ((nI p) - 1 : Int32) = nI (p - 1) from nI_m1 (by omega)]
  refine goI (runS C [.int y, .int 1, .int (nI (p - 1))] [] (c_in l y 1 (nI (p - 1))) sw_D_53 rfl hl.1 ⟨rfl, rfl⟩ (fun _ _ _ => trivial) (fun _ _ _ _ h => h) (Nat.le_of_ble_eq_true rfl) ⟨(Nat.le_of_ble_eq_true rfl), (Nat.le_of_ble_eq_true rfl)⟩ ⟨(Nat.le_of_ble_eq_true rfl), (Nat.le_of_ble_eq_true rfl)⟩ d_D_member_8) (fun r hr => ?_)
  subst hr
  refine lv_if_eq hx hb d_D_member_11 rfl (fun h1 => ?_) (fun h1 => ?_)
  · have h2 := in_v0.mp h1
    rw [nI_toInt (show p - 1 < 2 ^ 31 by omega), show (1 : Int32).toInt = 1 from rfl] at h2
    refine lv_iconst (v := 0) hx hb d_D_member_35 (by decide) ?_
    refine rZ C d_D_member_36 (Or.inl rfl) (Or.inr ⟨rfl, ?_⟩)
    rintro ⟨q1, q2, q3⟩
    exact h2 ⟨q1, by omega⟩
  · have h2 := in_v1.mp h1
    rw [nI_toInt (show p - 1 < 2 ^ 31 by omega), show (1 : Int32).toInt = 1 from rfl] at h2
    obtain ⟨k, hk, rfl, hk2⟩ := nI_of_toInt (v := y) (by omega)
    refine lv_iload_n hx hb d_D_member_14 rfl (lv_at hl 1 rfl) ?_
    refine lv_aload_n hx hb d_D_member_15 rfl (lv_at hl 0 rfl) ?_
    refine xg_q C hX d_D_member_16 ?_
    refine lv_i2l (v := lN q) hx hb d_D_member_19 (nI_l (by omega)) ?_
    refine lv_aload_n hx hb d_D_member_20 rfl (lv_at hl 0 rfl) ?_
    refine xg_p C hX d_D_member_21 ?_
    refine goI (runS C [.int (nI k), .long (lN q), .int (nI p)] [] (c_powS l (a := k) (ee := q) (n := p) (by omega) (by omega) (by omega) g31) sw_D_39 rfl hl.1 ⟨rfl, rfl⟩ (fun _ _ _ => trivial) (fun _ _ _ _ h => h) (Nat.le_of_ble_eq_true rfl) ⟨(Nat.le_of_ble_eq_true rfl), (Nat.le_of_ble_eq_true rfl)⟩ ⟨(Nat.le_of_ble_eq_true rfl), (Nat.le_of_ble_eq_true rfl)⟩ d_D_member_24) (fun r hr => ?_)
    subst hr
    have hlt := Nat.mod_lt (k ^ q) (show p > 0 by omega)
    have hmem : memP p q (nI k) ↔ k ^ q % p = 1 := by
      rw [memP, hk2, Int.toNat_natCast]
      omega
    refine lv_iconst (v := 1) hx hb d_D_member_27 (by decide) ?_
    refine lv_icmp_ne hx hb d_D_member_28 rfl (fun h3 => ?_) (fun h3 => ?_)
    · refine lv_iconst (v := 0) hx hb d_D_member_35 (by decide) ?_
      exact rZ C d_D_member_36 (Or.inl rfl) (Or.inr ⟨rfl, fun hq => h3 (by rw [hmem.mp hq]; rfl)⟩)
    · refine lv_iconst (v := 1) hx hb d_D_member_31 (by decide) ?_
      refine lv_goto hx hb d_D_member_32 rfl ?_
      exact rZ C d_D_member_36 (Or.inr rfl) (Or.inl ⟨rfl, hmem.mpr ((nI_eq (b := 1) (by omega) (by decide)).mp h3)⟩)
set_option maxHeartbeats 4000000 in
/-- accepts(y, a, c, z) -/
theorem c_accepts (l : Launch) (D : va_G) {h n pl p q g : Nat} (hG : grp p q g) (y a cc z : Int32) : Met l y_D_accepts (.code y_D_accepts b_D_accepts 5 (some .boolean) :: tb) (rk 3) (va_Pc [.ref h, .int y, .int a, .int cc, .int z] (fun U => XO D h n pl p q g U)) (QI (z_of (memP p q y ∧ memP p q a ∧ expP q cc ∧ expP q z ∧ g ^ z.toInt.toNat % p = a.toInt.toNat * (y.toInt.toNat ^ cc.toInt.toNat % p) % p))) 0 0 nf := by
  refine mk_met (by decide) (Nat.le_of_ble_eq_true rfl) ?_
  intro p0 e s m below meth c ls C hnm hX hl
  have hX : XO D h n pl p q g s := hX
  obtain ⟨g5, g31, gq, gqp, ggp, gg2⟩ := hG.nums
  generalize ([.ref h, .int y, .int a, .int cc, .int z] : List Value).toArray = args at C ⊢
  obtain ⟨hx, hb, hml, hown, hts, hr, hlk⟩ := id C
  have hl : lv_has ls 5 [(0, .ref h), (1, .int y), (2, .int a), (3, .int cc), (4, .int z)] := hl
  refine lv_aload_n hx hb d_D_accepts_0 rfl (lv_at hl 0 rfl) ?_
  refine lv_iload_n hx hb d_D_accepts_1 rfl (lv_at hl 1 rfl) ?_
  refine goI (runV C h [.int y] [] (c_member l D hG y) vw_D_68 rfl hl.1 ⟨rfl, rfl⟩ hX.cell (fun U hU hW => hX.move hU hW) (fun U f mk a hU => XO.call hU f mk a) (Nat.le_of_ble_eq_true rfl) ⟨(Nat.le_of_ble_eq_true rfl), (Nat.le_of_ble_eq_true rfl)⟩ ⟨(Nat.le_of_ble_eq_true rfl), (Nat.le_of_ble_eq_true rfl)⟩ d_D_accepts_2) (fun re1 e1 => ?_)
  have ze1 := e1
  refine lv_if_eq hx hb d_D_accepts_5 rfl (fun ke1 => ?_) (fun ke1 => ?_)
  · refine lv_iconst (v := 0) hx hb d_D_accepts_72 (by decide) ?_
    exact rZ C d_D_accepts_73 (Or.inl rfl) (Or.inr ⟨rfl, fun hq => z_f e1 ke1 hq.1⟩)
  · have e1 := z_t e1 ke1
    refine lv_aload_n hx hb d_D_accepts_8 rfl (lv_at hl 0 rfl) ?_
    refine lv_iload_n hx hb d_D_accepts_9 rfl (lv_at hl 2 rfl) ?_
    refine goI (runV C h [.int a] [] (c_member l D hG a) vw_D_68 rfl hl.1 ⟨rfl, rfl⟩ hX.cell (fun U hU hW => hX.move hU hW) (fun U f mk a hU => XO.call hU f mk a) (Nat.le_of_ble_eq_true rfl) ⟨(Nat.le_of_ble_eq_true rfl), (Nat.le_of_ble_eq_true rfl)⟩ ⟨(Nat.le_of_ble_eq_true rfl), (Nat.le_of_ble_eq_true rfl)⟩ d_D_accepts_10) (fun re2 e2 => ?_)
    have ze2 := e2
    refine lv_if_eq hx hb d_D_accepts_13 rfl (fun ke2 => ?_) (fun ke2 => ?_)
    · refine lv_iconst (v := 0) hx hb d_D_accepts_72 (by decide) ?_
      exact rZ C d_D_accepts_73 (Or.inl rfl) (Or.inr ⟨rfl, fun hq => z_f e2 ke2 hq.2.1⟩)
    · have e2 := z_t e2 ke2
      refine lv_aload_n hx hb d_D_accepts_16 rfl (lv_at hl 0 rfl) ?_
      refine lv_iload_n hx hb d_D_accepts_17 rfl (lv_at hl 3 rfl) ?_
      refine goI (runV C h [.int cc] [] (c_expo l D hG cc) vw_D_79 rfl hl.1 ⟨rfl, rfl⟩ hX.cell (fun U hU hW => hX.move hU hW) (fun U f mk a hU => XO.call hU f mk a) (Nat.le_of_ble_eq_true rfl) ⟨(Nat.le_of_ble_eq_true rfl), (Nat.le_of_ble_eq_true rfl)⟩ ⟨(Nat.le_of_ble_eq_true rfl), (Nat.le_of_ble_eq_true rfl)⟩ d_D_accepts_18) (fun re3 e3 => ?_)
      have ze3 := e3
      refine lv_if_eq hx hb d_D_accepts_21 rfl (fun ke3 => ?_) (fun ke3 => ?_)
      · refine lv_iconst (v := 0) hx hb d_D_accepts_72 (by decide) ?_
        exact rZ C d_D_accepts_73 (Or.inl rfl) (Or.inr ⟨rfl, fun hq => z_f e3 ke3 hq.2.2.1⟩)
      · have e3 := z_t e3 ke3
        refine lv_aload_n hx hb d_D_accepts_24 rfl (lv_at hl 0 rfl) ?_
        refine lv_iload hx hb d_D_accepts_25 (lv_at hl 4 rfl) ?_
        refine goI (runV C h [.int z] [] (c_expo l D hG z) vw_D_79 rfl hl.1 ⟨rfl, rfl⟩ hX.cell (fun U hU hW => hX.move hU hW) (fun U f mk a hU => XO.call hU f mk a) (Nat.le_of_ble_eq_true rfl) ⟨(Nat.le_of_ble_eq_true rfl), (Nat.le_of_ble_eq_true rfl)⟩ ⟨(Nat.le_of_ble_eq_true rfl), (Nat.le_of_ble_eq_true rfl)⟩ d_D_accepts_27) (fun re4 e4 => ?_)
        have ze4 := e4
        refine lv_if_eq hx hb d_D_accepts_30 rfl (fun ke4 => ?_) (fun ke4 => ?_)
        · refine lv_iconst (v := 0) hx hb d_D_accepts_72 (by decide) ?_
          exact rZ C d_D_accepts_73 (Or.inl rfl) (Or.inr ⟨rfl, fun hq => z_f e4 ke4 hq.2.2.2.1⟩)
        · have e4 := z_t e4 ke4
          obtain ⟨y1, hy1, rfl, hy2⟩ := nI_of_toInt (v := y) (by have := e1.1; omega)
          obtain ⟨a1, ha1, rfl, ha2⟩ := nI_of_toInt (v := a) (by have := e2.1; omega)
          obtain ⟨c1, hc1, rfl, hc2⟩ := nI_of_toInt (v := cc) e3.1
          obtain ⟨z1, hz1, rfl, hz2⟩ := nI_of_toInt (v := z) e4.1
          have b1 := e1.2.1
          have b2 := e2.2.1
          have b3 := e3.2
          have b4 := e4.2
          rw [hy2] at b1
          rw [ha2] at b2
          rw [hc2] at b3
          rw [hz2] at b4
          refine lv_aload_n hx hb d_D_accepts_33 rfl (lv_at hl 0 rfl) ?_
          refine xg_g C hX d_D_accepts_34 ?_
          refine lv_iload hx hb d_D_accepts_37 (lv_at hl 4 rfl) ?_
          refine lv_i2l (v := lN z1) hx hb d_D_accepts_39 (nI_l hz1) ?_
          refine lv_aload_n hx hb d_D_accepts_40 rfl (lv_at hl 0 rfl) ?_
          refine xg_p C hX d_D_accepts_41 ?_
          refine goI (runS C [.int (nI g), .long (lN z1), .int (nI p)] [] (c_powS l (a := g) (ee := z1) (n := p) (by omega) (by omega) (by omega) g31) sw_D_39 rfl hl.1 ⟨rfl, rfl⟩ (fun _ _ _ => trivial) (fun _ _ _ _ h => h) (Nat.le_of_ble_eq_true rfl) ⟨(Nat.le_of_ble_eq_true rfl), (Nat.le_of_ble_eq_true rfl)⟩ ⟨(Nat.le_of_ble_eq_true rfl), (Nat.le_of_ble_eq_true rfl)⟩ d_D_accepts_44) (fun r hr => ?_)
          subst hr
          refine lv_iload_n hx hb d_D_accepts_47 rfl (lv_at hl 2 rfl) ?_
          refine lv_iload_n hx hb d_D_accepts_48 rfl (lv_at hl 1 rfl) ?_
          refine lv_iload_n hx hb d_D_accepts_49 rfl (lv_at hl 3 rfl) ?_
          refine lv_i2l (v := lN c1) hx hb d_D_accepts_50 (nI_l hc1) ?_
          refine lv_aload_n hx hb d_D_accepts_51 rfl (lv_at hl 0 rfl) ?_
          refine xg_p C hX d_D_accepts_52 ?_
          refine goI (runS C [.int (nI y1), .long (lN c1), .int (nI p)] [.int (nI a1), .int (nI (g ^ z1 % p))] (c_powS l (a := y1) (ee := c1) (n := p) (by omega) (by omega) (by omega) g31) sw_D_39 rfl hl.1 ⟨rfl, rfl⟩ (fun _ _ _ => trivial) (fun _ _ _ _ h => h) (Nat.le_of_ble_eq_true rfl) ⟨(Nat.le_of_ble_eq_true rfl), (Nat.le_of_ble_eq_true rfl)⟩ ⟨(Nat.le_of_ble_eq_true rfl), (Nat.le_of_ble_eq_true rfl)⟩ d_D_accepts_55) (fun r hr => ?_)
          subst hr
          refine lv_aload_n hx hb d_D_accepts_58 rfl (lv_at hl 0 rfl) ?_
          refine xg_p C hX d_D_accepts_59 ?_
          have m1 := Nat.mod_lt (y1 ^ c1) (show p > 0 by omega)
          refine goI (runS C [.int (nI a1), .int (nI (y1 ^ c1 % p)), .int (nI p)] [.int (nI (g ^ z1 % p))] (c_times l (a := a1) (b := y1 ^ c1 % p) (n := p) (by omega) (by omega) (by omega) g31) sw_D_29 rfl hl.1 ⟨rfl, rfl⟩ (fun _ _ _ => trivial) (fun _ _ _ _ h => h) (Nat.le_of_ble_eq_true rfl) ⟨(Nat.le_of_ble_eq_true rfl), (Nat.le_of_ble_eq_true rfl)⟩ ⟨(Nat.le_of_ble_eq_true rfl), (Nat.le_of_ble_eq_true rfl)⟩ d_D_accepts_62) (fun r hr => ?_)
          subst hr
          have m2 := Nat.mod_lt (g ^ z1) (show p > 0 by omega)
          have m3 := Nat.mod_lt (a1 * (y1 ^ c1 % p)) (show p > 0 by omega)
          refine lv_icmp_ne hx hb d_D_accepts_65 rfl (fun h5 => ?_) (fun h5 => ?_)
          · refine lv_iconst (v := 0) hx hb d_D_accepts_72 (by decide) ?_
            refine rZ C d_D_accepts_73 (Or.inl rfl) (Or.inr ⟨rfl, fun hq => h5 ?_⟩)
            have q5 := hq.2.2.2.2
            rw [hy2, ha2, hc2, hz2, Int.toNat_natCast, Int.toNat_natCast, Int.toNat_natCast, Int.toNat_natCast] at q5
            rw [q5]
          · refine lv_iconst (v := 1) hx hb d_D_accepts_68 (by decide) ?_
            refine lv_goto hx hb d_D_accepts_69 rfl ?_
            refine rZ C d_D_accepts_73 (Or.inr rfl) (Or.inl ⟨rfl, e1, e2, e3, e4, ?_⟩)
            rw [hy2, ha2, hc2, hz2, Int.toNat_natCast, Int.toNat_natCast, Int.toNat_natCast, Int.toNat_natCast]
            exact (nI_eq (by omega) (by omega)).mp h5
end
section
/-! methods of ProofDesk that throw on what they refuse -/
set_option maxHeartbeats 4000000 in
theorem c_goodT (l : Launch) : Met l y_D_good (.code y_D_good b_D_good 1 none :: tb) (rk 0) (va_Pc [.int 1] (fun _ => True)) QV 0 0 nf := by
  refine mk_met (by decide) (Nat.le_of_ble_eq_true rfl) ?_
  intro p e s m below meth c ls C hnm hB hl
  generalize ([.int 1] : List Value).toArray = args at C ⊢
  obtain ⟨hx, hb, hml, hown, hts, hr, hlk⟩ := id C
  have hl : lv_has ls 1 [(0, .int 1)] := hl
  refine lv_iload_n hx hb d_D_good_0 rfl (lv_at hl 0 rfl) ?_
  refine lv_if_ne hx hb d_D_good_1 rfl (fun h1 => ?_) (fun h1 => ?_)
  · exact rV C d_D_good_12
  · exact absurd h1 (by decide)
set_option maxHeartbeats 4000000 in
theorem t_good (l : Launch) (hfl : l.flags = flags0) : MetT l y_D_good (.code y_D_good b_D_good 1 none :: tb) (rt 6) (va_Pc [.int 0] (fun U => ex_ok U)) iaN := by
  refine mk_metT (by decide) (Nat.le_of_ble_eq_true rfl) ?_
  intro p e s m below meth c ls C hne hex hl
  generalize ([.int 0] : List Value).toArray = args at C ⊢
  obtain ⟨hx, hb, hml, hown, hts, hr, hlk⟩ := id C
  have hl : lv_has ls 1 [(0, .int 0)] := hl
  refine lv_iload_n hx hb d_D_good_0 rfl (lv_at hl 0 rfl) ?_
  refine lv_if_ne hx hb d_D_good_1 rfl (fun h1 => ?_) (fun h1 => ?_)
  · exact absurd rfl h1
  · exact th_new C hne hfl hex at_ia (by decide +kernel) tk_82 tk_7 tk_83 hl.1 d_D_good_4 d_D_good_7 d_D_good_8 d_D_good_11 ⟨by decide, by decide, by decide, by decide⟩
set_option maxHeartbeats 4000000 in
/-- product(a, b) of numbers below p -/
theorem c_product (l : Launch) (D : va_G) {h n pl p q g : Nat} (hG : grp p q g) {a b : Nat} (ha : a < p) (hb2 : b < p) : Met l y_D_product (.code y_D_product b_D_product 3 (some .int) :: tb) (rk 1) (va_Pc [.ref h, .int (nI a), .int (nI b)] (fun U => XO D h n pl p q g U)) (QI (fun r => r = nI (a * b % p))) 0 0 nf := by
  refine mk_met (by decide) (Nat.le_of_ble_eq_true rfl) ?_
  intro p0 e s m below meth c ls C hnm hX hl
  have hX : XO D h n pl p q g s := hX
  obtain ⟨g5, g31, gq, gqp, ggp, gg2⟩ := hG.nums
  generalize ([.ref h, .int (nI a), .int (nI b)] : List Value).toArray = args at C ⊢
  obtain ⟨hx, hb, hml, hown, hts, hr, hlk⟩ := id C
  have hl : lv_has ls 3 [(0, .ref h), (1, .int (nI a)), (2, .int (nI b))] := hl
  refine lv_iload_n hx hb d_D_product_0 rfl (lv_at hl 1 rfl) ?_
  refine lv_iconst (v := 0) hx hb d_D_product_1 (by decide) ?_
  refine lv_aload_n hx hb d_D_product_2 rfl (lv_at hl 0 rfl) ?_
  refine xg_p C hX d_D_product_3 ?_
  refine lv_iconst (v := 1) hx hb d_D_product_6 (by decide) ?_
  refine lv_isub hx hb d_D_product_7 ?_
  rw [show ((nI p) - 1 : Int32) = nI (p - 1) from nI_m1 (by omega)]
  refine goI (runS C [.int (nI a), .int 0, .int (nI (p - 1))] [] (c_in l (nI a) 0 (nI (p - 1))) sw_D_53 rfl hl.1 ⟨rfl, rfl⟩ (fun _ _ _ => trivial) (fun _ _ _ _ h => h) (Nat.le_of_ble_eq_true rfl) ⟨(Nat.le_of_ble_eq_true rfl), (Nat.le_of_ble_eq_true rfl)⟩ ⟨(Nat.le_of_ble_eq_true rfl), (Nat.le_of_ble_eq_true rfl)⟩ d_D_product_8) (fun r hr => ?_)
  subst hr
  refine lv_if_eq hx hb d_D_product_11 rfl (fun h1 => ?_) (fun h1 => ?_)
  · have h1 := in_v0.mp h1
    rw [nI_toInt (show p - 1 < 2 ^ 31 by omega), show (0 : Int32).toInt = 0 from rfl] at h1
    exact absurd ⟨by rw [nI_toInt (by omega)]; omega, by rw [nI_toInt (by omega)]; omega⟩ h1
  · have h1 := in_v1.mp h1
    rw [nI_toInt (show p - 1 < 2 ^ 31 by omega), show (0 : Int32).toInt = 0 from rfl] at h1
    refine lv_iload_n hx hb d_D_product_14 rfl (lv_at hl 2 rfl) ?_
    refine lv_iconst (v := 0) hx hb d_D_product_15 (by decide) ?_
    refine lv_aload_n hx hb d_D_product_16 rfl (lv_at hl 0 rfl) ?_
    refine xg_p C hX d_D_product_17 ?_
    refine lv_iconst (v := 1) hx hb d_D_product_20 (by decide) ?_
    refine lv_isub hx hb d_D_product_21 ?_
    rw [show ((nI p) - 1 : Int32) = nI (p - 1) from nI_m1 (by omega)]
    refine goI (runS C [.int (nI b), .int 0, .int (nI (p - 1))] [] (c_in l (nI b) 0 (nI (p - 1))) sw_D_53 rfl hl.1 ⟨rfl, rfl⟩ (fun _ _ _ => trivial) (fun _ _ _ _ h => h) (Nat.le_of_ble_eq_true rfl) ⟨(Nat.le_of_ble_eq_true rfl), (Nat.le_of_ble_eq_true rfl)⟩ ⟨(Nat.le_of_ble_eq_true rfl), (Nat.le_of_ble_eq_true rfl)⟩ d_D_product_22) (fun r hr => ?_)
    subst hr
    refine lv_if_eq hx hb d_D_product_25 rfl (fun h2 => ?_) (fun h2 => ?_)
    · have h2 := in_v0.mp h2
      rw [nI_toInt (show p - 1 < 2 ^ 31 by omega), show (0 : Int32).toInt = 0 from rfl] at h2
      exact absurd ⟨by rw [nI_toInt (by omega)]; omega, by rw [nI_toInt (by omega)]; omega⟩ h2
    · have h2 := in_v1.mp h2
      rw [nI_toInt (show p - 1 < 2 ^ 31 by omega), show (0 : Int32).toInt = 0 from rfl] at h2
      refine lv_iconst (v := 1) hx hb d_D_product_28 (by decide) ?_
      refine lv_goto hx hb d_D_product_29 rfl ?_
      refine goV (runS C [.int 1] [] (c_goodT l) sw_D_60 rfl hl.1 ⟨rfl, rfl⟩ (fun _ _ _ => trivial) (fun _ _ _ _ h => h) (Nat.le_of_ble_eq_true rfl) ⟨(Nat.le_of_ble_eq_true rfl), (Nat.le_of_ble_eq_true rfl)⟩ ⟨(Nat.le_of_ble_eq_true rfl), (Nat.le_of_ble_eq_true rfl)⟩ d_D_product_33) ?_
      refine lv_iload_n hx hb d_D_product_36 rfl (lv_at hl 1 rfl) ?_
      refine lv_iload_n hx hb d_D_product_37 rfl (lv_at hl 2 rfl) ?_
      refine lv_aload_n hx hb d_D_product_38 rfl (lv_at hl 0 rfl) ?_
      refine xg_p C hX d_D_product_39 ?_
      refine goI (runS C [.int (nI a), .int (nI b), .int (nI p)] [] (c_times l (a := a) (b := b) (n := p) (by omega) (by omega) (by omega) g31) sw_D_29 rfl hl.1 ⟨rfl, rfl⟩ (fun _ _ _ => trivial) (fun _ _ _ _ h => h) (Nat.le_of_ble_eq_true rfl) ⟨(Nat.le_of_ble_eq_true rfl), (Nat.le_of_ble_eq_true rfl)⟩ ⟨(Nat.le_of_ble_eq_true rfl), (Nat.le_of_ble_eq_true rfl)⟩ d_D_product_42) (fun r hr => ?_)
      subst hr
      exact rI C d_D_product_45 rfl
set_option maxHeartbeats 4000000 in
/-- product refuses -/
theorem t_product (l : Launch) (hfl : l.flags = flags0) (D : va_G) {h n pl p q g : Nat} (hG : grp p q g) (a b : Int32) (hbad : ¬ ((0 ≤ a.toInt ∧ a.toInt < p) ∧ (0 ≤ b.toInt ∧ b.toInt < p))) : MetT l y_D_product (.code y_D_product b_D_product 3 (some .int) :: tb) (rt 7) (va_Pc [.ref h, .int a, .int b] (fun U => XO D h n pl p q g U ∧ ex_ok U)) iaN := by
  refine mk_metT (by decide) (Nat.le_of_ble_eq_true rfl) ?_
  intro p0 e s m below meth c ls C hne hB hl
  generalize ([.ref h, .int a, .int b] : List Value).toArray = args at C ⊢
  obtain ⟨hx, hb, hml, hown, hts, hr, hlk⟩ := id C
  obtain ⟨hX, hex⟩ := hB
  obtain ⟨g5, g31, gq, gqp, ggp, gg2⟩ := hG.nums
  have hl : lv_has ls 3 [(0, .ref h), (1, .int a), (2, .int b)] := hl
  refine lv_iload_n hx hb d_D_product_0 rfl (lv_at hl 1 rfl) ?_
  refine lv_iconst (v := 0) hx hb d_D_product_1 (by decide) ?_
  refine lv_aload_n hx hb d_D_product_2 rfl (lv_at hl 0 rfl) ?_
  refine xg_p C hX d_D_product_3 ?_
  refine lv_iconst (v := 1) hx hb d_D_product_6 (by decide) ?_
  refine lv_isub hx hb d_D_product_7 ?_
  rw [show ((nI p) - 1 : Int32) = nI (p - 1) from nI_m1 (by omega)]
  refine goI (runS C [.int a, .int 0, .int (nI (p - 1))] [] (c_in l a 0 (nI (p - 1))) sw_D_53 rfl hl.1 ⟨rfl, rfl⟩ (fun _ _ _ => trivial) (fun _ _ _ _ h => h) (Nat.le_of_ble_eq_true rfl) ⟨(Nat.le_of_ble_eq_true rfl), (Nat.le_of_ble_eq_true rfl)⟩ ⟨(Nat.le_of_ble_eq_true rfl), (Nat.le_of_ble_eq_true rfl)⟩ d_D_product_8) (fun r hr => ?_)
  subst hr
  refine lv_if_eq hx hb d_D_product_11 rfl (fun h1 => ?_) (fun h1 => ?_)
  · have h1 := in_v0.mp h1
    rw [nI_toInt (show p - 1 < 2 ^ 31 by omega), show (0 : Int32).toInt = 0 from rfl] at h1
    refine lv_iconst (v := 0) hx hb d_D_product_32 (by decide) ?_
    exact th_callS C hne [.int 0] [] (t_good l hfl) ⟨rfl, rfl⟩ sw_D_60 rfl hl.1 (fun U hU hW => ex_move hex hW (fun q _ => by rw [hU])) (fun U f mk a hU => ex_call hU) (Nat.le_of_ble_eq_true rfl) ⟨(Nat.le_of_ble_eq_true rfl), (Nat.le_of_ble_eq_true rfl)⟩ ⟨(Nat.le_of_ble_eq_true rfl), (Nat.le_of_ble_eq_true rfl)⟩ d_D_product_33
  · have h1 := in_v1.mp h1
    rw [nI_toInt (show p - 1 < 2 ^ 31 by omega), show (0 : Int32).toInt = 0 from rfl] at h1
    refine lv_iload_n hx hb d_D_product_14 rfl (lv_at hl 2 rfl) ?_
    refine lv_iconst (v := 0) hx hb d_D_product_15 (by decide) ?_
    refine lv_aload_n hx hb d_D_product_16 rfl (lv_at hl 0 rfl) ?_
    refine xg_p C hX d_D_product_17 ?_
    refine lv_iconst (v := 1) hx hb d_D_product_20 (by decide) ?_
    refine lv_isub hx hb d_D_product_21 ?_
    rw [show ((nI p) - 1 : Int32) = nI (p - 1) from nI_m1 (by omega)]
    refine goI (runS C [.int b, .int 0, .int (nI (p - 1))] [] (c_in l b 0 (nI (p - 1))) sw_D_53 rfl hl.1 ⟨rfl, rfl⟩ (fun _ _ _ => trivial) (fun _ _ _ _ h => h) (Nat.le_of_ble_eq_true rfl) ⟨(Nat.le_of_ble_eq_true rfl), (Nat.le_of_ble_eq_true rfl)⟩ ⟨(Nat.le_of_ble_eq_true rfl), (Nat.le_of_ble_eq_true rfl)⟩ d_D_product_22) (fun r hr => ?_)
    subst hr
    refine lv_if_eq hx hb d_D_product_25 rfl (fun h2 => ?_) (fun h2 => ?_)
    · have h2 := in_v0.mp h2
      rw [nI_toInt (show p - 1 < 2 ^ 31 by omega), show (0 : Int32).toInt = 0 from rfl] at h2
      refine lv_iconst (v := 0) hx hb d_D_product_32 (by decide) ?_
      exact th_callS C hne [.int 0] [] (t_good l hfl) ⟨rfl, rfl⟩ sw_D_60 rfl hl.1 (fun U hU hW => ex_move hex hW (fun q _ => by rw [hU])) (fun U f mk a hU => ex_call hU) (Nat.le_of_ble_eq_true rfl) ⟨(Nat.le_of_ble_eq_true rfl), (Nat.le_of_ble_eq_true rfl)⟩ ⟨(Nat.le_of_ble_eq_true rfl), (Nat.le_of_ble_eq_true rfl)⟩ d_D_product_33
    · have h2 := in_v1.mp h2
      rw [nI_toInt (show p - 1 < 2 ^ 31 by omega), show (0 : Int32).toInt = 0 from rfl] at h2
      exact absurd ⟨⟨by omega, by omega⟩, ⟨by omega, by omega⟩⟩ hbad
set_option maxHeartbeats 4000000 in
/-- power(a, e) of a number below p -/
theorem c_powV (l : Launch) (D : va_G) {h n pl p q g : Nat} (hG : grp p q g) {a ee : Nat} (ha : a < p) (he : ee < 2 ^ 63) : Met l y_D_powV (.code y_D_powV b_D_powV 4 (some .int) :: tb) (rk 2) (va_Pc [.ref h, .int (nI a), .long (lN ee)] (fun U => XO D h n pl p q g U)) (QI (fun r => r = nI (a ^ ee % p))) 0 0 nf := by
  refine mk_met (by decide) (Nat.le_of_ble_eq_true rfl) ?_
  intro p0 e s m below meth c ls C hnm hX hl
  have hX : XO D h n pl p q g s := hX
  obtain ⟨g5, g31, gq, gqp, ggp, gg2⟩ := hG.nums
  generalize ([.ref h, .int (nI a), .long (lN ee)] : List Value).toArray = args at C ⊢
  obtain ⟨hx, hb, hml, hown, hts, hr, hlk⟩ := id C
  have hl : lv_has ls 4 [(0, .ref h), (1, .int (nI a)), (2, .long (lN ee))] := hl
  refine lv_iload_n hx hb d_D_powV_0 rfl (lv_at hl 1 rfl) ?_
  refine lv_iconst (v := 0) hx hb d_D_powV_1 (by decide) ?_
  refine lv_aload_n hx hb d_D_powV_2 rfl (lv_at hl 0 rfl) ?_
  refine xg_p C hX d_D_powV_3 ?_
  refine lv_iconst (v := 1) hx hb d_D_powV_6 (by decide) ?_
  refine lv_isub hx hb d_D_powV_7 ?_
  rw [show ((nI p) - 1 : Int32) = nI (p - 1) from nI_m1 (by omega)]
  refine goI (runS C [.int (nI a), .int 0, .int (nI (p - 1))] [] (c_in l (nI a) 0 (nI (p - 1))) sw_D_53 rfl hl.1 ⟨rfl, rfl⟩ (fun _ _ _ => trivial) (fun _ _ _ _ h => h) (Nat.le_of_ble_eq_true rfl) ⟨(Nat.le_of_ble_eq_true rfl), (Nat.le_of_ble_eq_true rfl)⟩ ⟨(Nat.le_of_ble_eq_true rfl), (Nat.le_of_ble_eq_true rfl)⟩ d_D_powV_8) (fun r hr => ?_)
  subst hr
  refine lv_if_eq hx hb d_D_powV_11 rfl (fun h1 => ?_) (fun h1 => ?_)
  · have h1 := in_v0.mp h1
    rw [nI_toInt (show p - 1 < 2 ^ 31 by omega), show (0 : Int32).toInt = 0 from rfl] at h1
    exact absurd ⟨by rw [nI_toInt (by omega)]; omega, by rw [nI_toInt (by omega)]; omega⟩ h1
  · have h1 := in_v1.mp h1
    rw [nI_toInt (show p - 1 < 2 ^ 31 by omega), show (0 : Int32).toInt = 0 from rfl] at h1
    refine lv_lload_n hx hb d_D_powV_14 rfl (lv_at hl 2 rfl) ?_
    refine lv_lconst (v := 0) hx hb d_D_powV_15 (by decide) ?_
    refine W.lcmp hx hb d_D_powV_16 ?_
    refine lv_if_lt hx hb d_D_powV_17 rfl (fun h2 => ?_) (fun h2 => ?_)
    · exact absurd ((pk_lLT he (b := 0) (by decide)).mp ((lg_cmp_lt _ _).mp h2)) (by omega)
    · refine lv_iconst (v := 1) hx hb d_D_powV_20 (by decide) ?_
      refine lv_goto hx hb d_D_powV_21 rfl ?_
      refine goV (runS C [.int 1] [] (c_goodT l) sw_D_60 rfl hl.1 ⟨rfl, rfl⟩ (fun _ _ _ => trivial) (fun _ _ _ _ h => h) (Nat.le_of_ble_eq_true rfl) ⟨(Nat.le_of_ble_eq_true rfl), (Nat.le_of_ble_eq_true rfl)⟩ ⟨(Nat.le_of_ble_eq_true rfl), (Nat.le_of_ble_eq_true rfl)⟩ d_D_powV_25) ?_
      refine lv_iload_n hx hb d_D_powV_28 rfl (lv_at hl 1 rfl) ?_
      refine lv_lload_n hx hb d_D_powV_29 rfl (lv_at hl 2 rfl) ?_
      refine lv_aload_n hx hb d_D_powV_30 rfl (lv_at hl 0 rfl) ?_
      refine xg_p C hX d_D_powV_31 ?_
      refine goI (runS C [.int (nI a), .long (lN ee), .int (nI p)] [] (c_powS l (a := a) (ee := ee) (n := p) (by omega) he (by omega) g31) sw_D_39 rfl hl.1 ⟨rfl, rfl⟩ (fun _ _ _ => trivial) (fun _ _ _ _ h => h) (Nat.le_of_ble_eq_true rfl) ⟨(Nat.le_of_ble_eq_true rfl), (Nat.le_of_ble_eq_true rfl)⟩ ⟨(Nat.le_of_ble_eq_true rfl), (Nat.le_of_ble_eq_true rfl)⟩ d_D_powV_34) (fun r hr => ?_)
      subst hr
      exact rI C d_D_powV_37 rfl
set_option maxHeartbeats 4000000 in
/-- power refuses -/
theorem t_powV (l : Launch) (hfl : l.flags = flags0) (D : va_G) {h n pl p q g : Nat} (hG : grp p q g) (a : Int32) (ee : Int64) (hbad : ¬ ((0 ≤ a.toInt ∧ a.toInt < p) ∧ 0 ≤ ee.toInt)) : MetT l y_D_powV (.code y_D_powV b_D_powV 4 (some .int) :: tb) (rt 7) (va_Pc [.ref h, .int a, .long ee] (fun U => XO D h n pl p q g U ∧ ex_ok U)) iaN := by
  refine mk_metT (by decide) (Nat.le_of_ble_eq_true rfl) ?_
  intro p0 e s m below meth c ls C hne hB hl
  generalize ([.ref h, .int a, .long ee] : List Value).toArray = args at C ⊢
  obtain ⟨hx, hb, hml, hown, hts, hr, hlk⟩ := id C
  obtain ⟨hX, hex⟩ := hB
  obtain ⟨g5, g31, gq, gqp, ggp, gg2⟩ := hG.nums
  have hl : lv_has ls 4 [(0, .ref h), (1, .int a), (2, .long ee)] := hl
  refine lv_iload_n hx hb d_D_powV_0 rfl (lv_at hl 1 rfl) ?_
  refine lv_iconst (v := 0) hx hb d_D_powV_1 (by decide) ?_
  refine lv_aload_n hx hb d_D_powV_2 rfl (lv_at hl 0 rfl) ?_
  refine xg_p C hX d_D_powV_3 ?_
  refine lv_iconst (v := 1) hx hb d_D_powV_6 (by decide) ?_
  refine lv_isub hx hb d_D_powV_7 ?_
  rw [show ((nI p) - 1 : Int32) = nI (p - 1) from nI_m1 (by omega)]
  refine goI (runS C [.int a, .int 0, .int (nI (p - 1))] [] (c_in l a 0 (nI (p - 1))) sw_D_53 rfl hl.1 ⟨rfl, rfl⟩ (fun _ _ _ => trivial) (fun _ _ _ _ h => h) (Nat.le_of_ble_eq_true rfl) ⟨(Nat.le_of_ble_eq_true rfl), (Nat.le_of_ble_eq_true rfl)⟩ ⟨(Nat.le_of_ble_eq_true rfl), (Nat.le_of_ble_eq_true rfl)⟩ d_D_powV_8) (fun r hr => ?_)
  subst hr
  refine lv_if_eq hx hb d_D_powV_11 rfl (fun h1 => ?_) (fun h1 => ?_)
  · have h1 := in_v0.mp h1
    rw [nI_toInt (show p - 1 < 2 ^ 31 by omega), show (0 : Int32).toInt = 0 from rfl] at h1
    refine lv_iconst (v := 0) hx hb d_D_powV_24 (by decide) ?_
    exact th_callS C hne [.int 0] [] (t_good l hfl) ⟨rfl, rfl⟩ sw_D_60 rfl hl.1 (fun U hU hW => ex_move hex hW (fun q _ => by rw [hU])) (fun U f mk a hU => ex_call hU) (Nat.le_of_ble_eq_true rfl) ⟨(Nat.le_of_ble_eq_true rfl), (Nat.le_of_ble_eq_true rfl)⟩ ⟨(Nat.le_of_ble_eq_true rfl), (Nat.le_of_ble_eq_true rfl)⟩ d_D_powV_25
  · have h1 := in_v1.mp h1
    rw [nI_toInt (show p - 1 < 2 ^ 31 by omega), show (0 : Int32).toInt = 0 from rfl] at h1
    refine lv_lload_n hx hb d_D_powV_14 rfl (lv_at hl 2 rfl) ?_
    refine lv_lconst (v := 0) hx hb d_D_powV_15 (by decide) ?_
    refine W.lcmp hx hb d_D_powV_16 ?_
    refine lv_if_lt hx hb d_D_powV_17 rfl (fun h2 => ?_) (fun h2 => ?_)
    · refine lv_iconst (v := 0) hx hb d_D_powV_24 (by decide) ?_
      exact th_callS C hne [.int 0] [] (t_good l hfl) ⟨rfl, rfl⟩ sw_D_60 rfl hl.1 (fun U hU hW => ex_move hex hW (fun q _ => by rw [hU])) (fun U f mk a hU => ex_call hU) (Nat.le_of_ble_eq_true rfl) ⟨(Nat.le_of_ble_eq_true rfl), (Nat.le_of_ble_eq_true rfl)⟩ ⟨(Nat.le_of_ble_eq_true rfl), (Nat.le_of_ble_eq_true rfl)⟩ d_D_powV_25
    · exact absurd ⟨⟨by omega, by omega⟩, Jvm.Kit.i64_nonneg.mp (Int64.not_lt.mp (fun hq => h2 ((lg_cmp_lt _ _).mpr hq)))⟩ hbad
set_option maxHeartbeats 4000000 in
/-- inverse(a) -/
theorem c_invV (l : Launch) (D : va_G) {h n pl p q g : Nat} (hG : grp p q g) {a : Nat} (ha0 : 0 < a) (ha : a < p) : Met l y_D_invV (.code y_D_invV b_D_invV 2 (some .int) :: tb) (rk 2) (va_Pc [.ref h, .int (nI a)] (fun U => XO D h n pl p q g U)) (QI (fun r => r = nI (inv_v a p))) 0 0 nf := by
  refine mk_met (by decide) (Nat.le_of_ble_eq_true rfl) ?_
  intro p0 e s m below meth c ls C hnm hX hl
  have hX : XO D h n pl p q g s := hX
  obtain ⟨g5, g31, gq, gqp, ggp, gg2⟩ := hG.nums
  generalize ([.ref h, .int (nI a)] : List Value).toArray = args at C ⊢
  obtain ⟨hx, hb, hml, hown, hts, hr, hlk⟩ := id C
  have hl : lv_has ls 2 [(0, .ref h), (1, .int (nI a))] := hl
  refine lv_iload_n hx hb d_D_invV_0 rfl (lv_at hl 1 rfl) ?_
  refine lv_iconst (v := 1) hx hb d_D_invV_1 (by decide) ?_
  refine lv_aload_n hx hb d_D_invV_2 rfl (lv_at hl 0 rfl) ?_
  refine xg_p C hX d_D_invV_3 ?_
  refine lv_iconst (v := 1) hx hb d_D_invV_6 (by decide) ?_
  refine lv_isub hx hb d_D_invV_7 ?_
  rw [show ((nI p) - 1 : Int32) = nI (p - 1) from nI_m1 (by omega)]
  refine goI (runS C [.int (nI a), .int 1, .int (nI (p - 1))] [] (c_in l (nI a) 1 (nI (p - 1))) sw_D_53 rfl hl.1 ⟨rfl, rfl⟩ (fun _ _ _ => trivial) (fun _ _ _ _ h => h) (Nat.le_of_ble_eq_true rfl) ⟨(Nat.le_of_ble_eq_true rfl), (Nat.le_of_ble_eq_true rfl)⟩ ⟨(Nat.le_of_ble_eq_true rfl), (Nat.le_of_ble_eq_true rfl)⟩ d_D_invV_8) (fun r hr => ?_)
  subst hr
  rw [show (in_v 1 (nI a) (nI (p - 1)) : Int32) = 1 from by rw [in_v, if_pos]; rw [Int32.le_iff_toInt_le, Int32.le_iff_toInt_le, nI_toInt (by omega), nI_toInt (by omega), show (1 : Int32).toInt = 1 from rfl]; omega]
  refine goV (runS C [.int 1] [] (c_goodT l) sw_D_60 rfl hl.1 ⟨rfl, rfl⟩ (fun _ _ _ => trivial) (fun _ _ _ _ h => h) (Nat.le_of_ble_eq_true rfl) ⟨(Nat.le_of_ble_eq_true rfl), (Nat.le_of_ble_eq_true rfl)⟩ ⟨(Nat.le_of_ble_eq_true rfl), (Nat.le_of_ble_eq_true rfl)⟩ d_D_invV_11) ?_
  refine lv_iload_n hx hb d_D_invV_14 rfl (lv_at hl 1 rfl) ?_
  refine lv_aload_n hx hb d_D_invV_15 rfl (lv_at hl 0 rfl) ?_
  refine xg_p C hX d_D_invV_16 ?_
  refine goI (runS C [.int (nI a), .int (nI p)] [] (c_invS l (a := a) (n := p) ha0 ha g31) sw_D_64 rfl hl.1 ⟨rfl, rfl⟩ (fun _ _ _ => trivial) (fun _ _ _ _ h => h) (Nat.le_of_ble_eq_true rfl) ⟨(Nat.le_of_ble_eq_true rfl), (Nat.le_of_ble_eq_true rfl)⟩ ⟨(Nat.le_of_ble_eq_true rfl), (Nat.le_of_ble_eq_true rfl)⟩ d_D_invV_19) (fun r hr => ?_)
  subst hr
  exact rI C d_D_invV_22 rfl
set_option maxHeartbeats 4000000 in
/-- inverse refuses -/
theorem t_invV (l : Launch) (hfl : l.flags = flags0) (D : va_G) {h n pl p q g : Nat} (hG : grp p q g) (a : Int32) (hbad : ¬ (1 ≤ a.toInt ∧ a.toInt < p)) : MetT l y_D_invV (.code y_D_invV b_D_invV 2 (some .int) :: tb) (rt 7) (va_Pc [.ref h, .int a] (fun U => XO D h n pl p q g U ∧ ex_ok U)) iaN := by
  refine mk_metT (by decide) (Nat.le_of_ble_eq_true rfl) ?_
  intro p0 e s m below meth c ls C hne hB hl
  generalize ([.ref h, .int a] : List Value).toArray = args at C ⊢
  obtain ⟨hx, hb, hml, hown, hts, hr, hlk⟩ := id C
  obtain ⟨hX, hex⟩ := hB
  obtain ⟨g5, g31, gq, gqp, ggp, gg2⟩ := hG.nums
  have hl : lv_has ls 2 [(0, .ref h), (1, .int a)] := hl
  refine lv_iload_n hx hb d_D_invV_0 rfl (lv_at hl 1 rfl) ?_
  refine lv_iconst (v := 1) hx hb d_D_invV_1 (by decide) ?_
  refine lv_aload_n hx hb d_D_invV_2 rfl (lv_at hl 0 rfl) ?_
  refine xg_p C hX d_D_invV_3 ?_
  refine lv_iconst (v := 1) hx hb d_D_invV_6 (by decide) ?_
  refine lv_isub hx hb d_D_invV_7 ?_
  rw [show ((nI p) - 1 : Int32) = nI (p - 1) from nI_m1 (by omega)]
  refine goI (runS C [.int a, .int 1, .int (nI (p - 1))] [] (c_in l a 1 (nI (p - 1))) sw_D_53 rfl hl.1 ⟨rfl, rfl⟩ (fun _ _ _ => trivial) (fun _ _ _ _ h => h) (Nat.le_of_ble_eq_true rfl) ⟨(Nat.le_of_ble_eq_true rfl), (Nat.le_of_ble_eq_true rfl)⟩ ⟨(Nat.le_of_ble_eq_true rfl), (Nat.le_of_ble_eq_true rfl)⟩ d_D_invV_8) (fun r hr => ?_)
  subst hr
  rw [show (in_v 1 a (nI (p - 1)) : Int32) = 0 from by rw [in_v0, nI_toInt (show p - 1 < 2 ^ 31 by omega), show (1 : Int32).toInt = 1 from rfl]; omega]
  exact th_callS C hne [.int 0] [] (t_good l hfl) ⟨rfl, rfl⟩ sw_D_60 rfl hl.1 (fun U hU hW => ex_move hex hW (fun q _ => by rw [hU])) (fun U f mk a hU => ex_call hU) (Nat.le_of_ble_eq_true rfl) ⟨(Nat.le_of_ble_eq_true rfl), (Nat.le_of_ble_eq_true rfl)⟩ ⟨(Nat.le_of_ble_eq_true rfl), (Nat.le_of_ble_eq_true rfl)⟩ d_D_invV_11
set_option maxHeartbeats 4000000 in
/-- count(what) -/
theorem c_count (l : Launch) (D : va_G) {h n pl p q g : Nat} (hG : grp p q g) {k : Nat} (hk : k ≤ 2) : Met l y_D_count (.code y_D_count b_D_count 2 (some .int) :: tb) (rk 1) (va_Pc [.ref h, .int (nI k)] (fun U => XO D h n pl p q g U)) (QI (fun r => r = nI (if k = 0 then p else if k = 1 then q else g))) 0 0 nf := by
  refine mk_met (by decide) (Nat.le_of_ble_eq_true rfl) ?_
  intro p0 e s m below meth c ls C hnm hX hl
  have hX : XO D h n pl p q g s := hX
  obtain ⟨g5, g31, gq, gqp, ggp, gg2⟩ := hG.nums
  generalize ([.ref h, .int (nI k)] : List Value).toArray = args at C ⊢
  obtain ⟨hx, hb, hml, hown, hts, hr, hlk⟩ := id C
  have hl : lv_has ls 2 [(0, .ref h), (1, .int (nI k))] := hl
  refine lv_iload_n hx hb d_D_count_0 rfl (lv_at hl 1 rfl) ?_
  refine lv_iconst (v := 0) hx hb d_D_count_1 (by decide) ?_
  refine lv_iconst (v := 2) hx hb d_D_count_2 (by decide) ?_
  refine goI (runS C [.int (nI k), .int 0, .int 2] [] (c_in l (nI k) 0 2) sw_D_53 rfl hl.1 ⟨rfl, rfl⟩ (fun _ _ _ => trivial) (fun _ _ _ _ h => h) (Nat.le_of_ble_eq_true rfl) ⟨(Nat.le_of_ble_eq_true rfl), (Nat.le_of_ble_eq_true rfl)⟩ ⟨(Nat.le_of_ble_eq_true rfl), (Nat.le_of_ble_eq_true rfl)⟩ d_D_count_3) (fun r hr => ?_)
  subst hr
  rw [show (in_v 0 (nI k) 2 : Int32) = 1 from by rw [in_v, if_pos]; rw [Int32.le_iff_toInt_le, Int32.le_iff_toInt_le, nI_toInt (by omega), show (0 : Int32).toInt = 0 from rfl, show (2 : Int32).toInt = 2 from rfl]; omega]
  refine goV (runS C [.int 1] [] (c_goodT l) sw_D_60 rfl hl.1 ⟨rfl, rfl⟩ (fun _ _ _ => trivial) (fun _ _ _ _ h => h) (Nat.le_of_ble_eq_true rfl) ⟨(Nat.le_of_ble_eq_true rfl), (Nat.le_of_ble_eq_true rfl)⟩ ⟨(Nat.le_of_ble_eq_true rfl), (Nat.le_of_ble_eq_true rfl)⟩ d_D_count_6) ?_
  refine lv_iload_n hx hb d_D_count_9 rfl (lv_at hl 1 rfl) ?_
  refine lv_if_ne hx hb d_D_count_10 rfl (fun h1 => ?_) (fun h1 => ?_)
  · refine lv_iload_n hx hb d_D_count_20 rfl (lv_at hl 1 rfl) ?_
    refine lv_iconst (v := 1) hx hb d_D_count_21 (by decide) ?_
    refine lv_icmp_ne hx hb d_D_count_22 rfl (fun h2 => ?_) (fun h2 => ?_)
    · refine lv_aload_n hx hb d_D_count_32 rfl (lv_at hl 0 rfl) ?_
      refine xg_g C hX d_D_count_33 ?_
      refine rI C d_D_count_36 ?_
      rw [if_neg (fun hq => h1 (by rw [hq]; rfl)), if_neg (fun hq => h2 (by rw [hq]; rfl))]
    · refine lv_aload_n hx hb d_D_count_25 rfl (lv_at hl 0 rfl) ?_
      refine xg_q C hX d_D_count_26 ?_
      refine lv_goto hx hb d_D_count_29 rfl ?_
      refine rI C d_D_count_36 ?_
      have hk1 := (nI_eq (b := 1) (show k < 2 ^ 31 by omega) (by decide)).mp h2
      rw [if_neg (by omega), if_pos hk1]
  · refine lv_aload_n hx hb d_D_count_13 rfl (lv_at hl 0 rfl) ?_
    refine xg_p C hX d_D_count_14 ?_
    refine lv_goto hx hb d_D_count_17 rfl ?_
    refine rI C d_D_count_36 ?_
    have hk1 := (nI_eq (b := 0) (show k < 2 ^ 31 by omega) (by decide)).mp h1
    rw [if_pos hk1]
set_option maxHeartbeats 4000000 in
/-- count refuses -/
theorem t_count (l : Launch) (hfl : l.flags = flags0) (D : va_G) {h n pl p q g : Nat} (hG : grp p q g) (a : Int32) (hbad : ¬ (0 ≤ a.toInt ∧ a.toInt ≤ 2)) : MetT l y_D_count (.code y_D_count b_D_count 2 (some .int) :: tb) (rt 7) (va_Pc [.ref h, .int a] (fun U => XO D h n pl p q g U ∧ ex_ok U)) iaN := by
  refine mk_metT (by decide) (Nat.le_of_ble_eq_true rfl) ?_
  intro p0 e s m below meth c ls C hne hB hl
  generalize ([.ref h, .int a] : List Value).toArray = args at C ⊢
  obtain ⟨hx, hb, hml, hown, hts, hr, hlk⟩ := id C
  obtain ⟨hX, hex⟩ := hB
  obtain ⟨g5, g31, gq, gqp, ggp, gg2⟩ := hG.nums
  have hl : lv_has ls 2 [(0, .ref h), (1, .int a)] := hl
  refine lv_iload_n hx hb d_D_count_0 rfl (lv_at hl 1 rfl) ?_
  refine lv_iconst (v := 0) hx hb d_D_count_1 (by decide) ?_
  refine lv_iconst (v := 2) hx hb d_D_count_2 (by decide) ?_
  refine goI (runS C [.int a, .int 0, .int 2] [] (c_in l a 0 2) sw_D_53 rfl hl.1 ⟨rfl, rfl⟩ (fun _ _ _ => trivial) (fun _ _ _ _ h => h) (Nat.le_of_ble_eq_true rfl) ⟨(Nat.le_of_ble_eq_true rfl), (Nat.le_of_ble_eq_true rfl)⟩ ⟨(Nat.le_of_ble_eq_true rfl), (Nat.le_of_ble_eq_true rfl)⟩ d_D_count_3) (fun r hr => ?_)
  subst hr
  rw [show (in_v 0 a 2 : Int32) = 0 from by rw [in_v0, show (0 : Int32).toInt = 0 from rfl, show (2 : Int32).toInt = 2 from rfl]; omega]
  exact th_callS C hne [.int 0] [] (t_good l hfl) ⟨rfl, rfl⟩ sw_D_60 rfl hl.1 (fun U hU hW => ex_move hex hW (fun q _ => by rw [hU])) (fun U f mk a hU => ex_call hU) (Nat.le_of_ble_eq_true rfl) ⟨(Nat.le_of_ble_eq_true rfl), (Nat.le_of_ble_eq_true rfl)⟩ ⟨(Nat.le_of_ble_eq_true rfl), (Nat.le_of_ble_eq_true rfl)⟩ d_D_count_6
end
section
/-! answer, feign, secret -/
def sub_m (q a b : Nat) : Nat := (a + q - b) % q
theorem sub_m_int {q a b : Nat} (hb : b < q) : (((a : Int) - (b : Int)) % (q : Int)).toNat = sub_m q a b := by
  have e : ((a : Int) - (b : Int)) % (q : Int) = ((a + q - b : Nat) : Int) % (q : Int) := by
    rw [show ((a + q - b : Nat) : Int) = ((a : Int) - (b : Int)) + (q : Int) by omega, Int.add_emod_right]
  rw [e, sub_m, ← Int.natCast_emod, Int.toNat_natCast]
theorem sub_m_pos {q a b : Nat} (ha : a < q) (hb : b < q) (h : a ≠ b) : 0 < sub_m q a b ∧ sub_m q a b < q := by
  unfold sub_m
  refine ⟨?_, Nat.mod_lt _ (by omega)⟩
  by_cases hq : a + q - b < q
  · rw [Nat.mod_eq_of_lt hq]; omega
  · rw [show a + q - b = (a - b) + q by omega, Nat.add_mod_right, Nat.mod_eq_of_lt (by omega)]
    omega
theorem expP_nI {q k : Nat} (hk : k < 2 ^ 31) : expP q (nI k) ↔ k < q := by
  rw [expP, nI_toInt hk]
  omega
set_option maxHeartbeats 4000000 in
/-- answer(x, k, c) -/
theorem c_answer (l : Launch) (D : va_G) {h n pl p q g : Nat} (hG : grp p q g) {z k cc : Nat} (hz : z < q) (hk : k < q) (hcc : cc < q) : Met l y_D_answer (.code y_D_answer b_D_answer 4 (some .int) :: tb) (rk 2) (va_Pc [.ref h, .int (nI z), .int (nI k), .int (nI cc)] (fun U => XO D h n pl p q g U)) (QI (fun r => r = nI ((k + cc * z) % q))) 0 0 nf := by
  refine mk_met (by decide) (Nat.le_of_ble_eq_true rfl) ?_
  intro p0 e s m below meth c ls C hnm hX hl
  have hX : XO D h n pl p q g s := hX
  obtain ⟨g5, g31, gq, gqp, ggp, gg2⟩ := hG.nums
  generalize ([.ref h, .int (nI z), .int (nI k), .int (nI cc)] : List Value).toArray = args at C ⊢
  obtain ⟨hx, hb, hml, hown, hts, hr, hlk⟩ := id C
  have hl : lv_has ls 4 [(0, .ref h), (1, .int (nI z)), (2, .int (nI k)), (3, .int (nI cc))] := hl
  refine lv_aload_n hx hb d_D_answer_0 rfl (lv_at hl 0 rfl) ?_
  refine lv_iload_n hx hb d_D_answer_1 rfl (lv_at hl 1 rfl) ?_
  refine goI (runV C h [.int (nI z)] [] (c_expo l D hG (nI z)) vw_D_79 rfl hl.1 ⟨rfl, rfl⟩ hX.cell (fun U hU hW => hX.move hU hW) (fun U f mk a hU => XO.call hU f mk a) (Nat.le_of_ble_eq_true rfl) ⟨(Nat.le_of_ble_eq_true rfl), (Nat.le_of_ble_eq_true rfl)⟩ ⟨(Nat.le_of_ble_eq_true rfl), (Nat.le_of_ble_eq_true rfl)⟩ d_D_answer_2) (fun re1 e1 => ?_)
  refine lv_if_eq hx hb d_D_answer_5 rfl (fun ke1 => ?_) (fun ke1 => ?_)
  · have e1 := z_f e1 ke1
    exact absurd ((expP_nI (by omega)).mpr (by omega)) e1
  · have e1 := z_t e1 ke1
    refine lv_aload_n hx hb d_D_answer_8 rfl (lv_at hl 0 rfl) ?_
    refine lv_iload_n hx hb d_D_answer_9 rfl (lv_at hl 2 rfl) ?_
    refine goI (runV C h [.int (nI k)] [] (c_expo l D hG (nI k)) vw_D_79 rfl hl.1 ⟨rfl, rfl⟩ hX.cell (fun U hU hW => hX.move hU hW) (fun U f mk a hU => XO.call hU f mk a) (Nat.le_of_ble_eq_true rfl) ⟨(Nat.le_of_ble_eq_true rfl), (Nat.le_of_ble_eq_true rfl)⟩ ⟨(Nat.le_of_ble_eq_true rfl), (Nat.le_of_ble_eq_true rfl)⟩ d_D_answer_10) (fun re2 e2 => ?_)
    refine lv_if_eq hx hb d_D_answer_13 rfl (fun ke2 => ?_) (fun ke2 => ?_)
    · have e2 := z_f e2 ke2
      exact absurd ((expP_nI (by omega)).mpr (by omega)) e2
    · have e2 := z_t e2 ke2
      refine lv_aload_n hx hb d_D_answer_16 rfl (lv_at hl 0 rfl) ?_
      refine lv_iload_n hx hb d_D_answer_17 rfl (lv_at hl 3 rfl) ?_
      refine goI (runV C h [.int (nI cc)] [] (c_expo l D hG (nI cc)) vw_D_79 rfl hl.1 ⟨rfl, rfl⟩ hX.cell (fun U hU hW => hX.move hU hW) (fun U f mk a hU => XO.call hU f mk a) (Nat.le_of_ble_eq_true rfl) ⟨(Nat.le_of_ble_eq_true rfl), (Nat.le_of_ble_eq_true rfl)⟩ ⟨(Nat.le_of_ble_eq_true rfl), (Nat.le_of_ble_eq_true rfl)⟩ d_D_answer_18) (fun re3 e3 => ?_)
      refine lv_if_eq hx hb d_D_answer_21 rfl (fun ke3 => ?_) (fun ke3 => ?_)
      · have e3 := z_f e3 ke3
        exact absurd ((expP_nI (by omega)).mpr (by omega)) e3
      · have e3 := z_t e3 ke3
        refine lv_iconst (v := 1) hx hb d_D_answer_24 (by decide) ?_
        refine lv_goto hx hb d_D_answer_25 rfl ?_
        refine goV (runS C [.int 1] [] (c_goodT l) sw_D_60 rfl hl.1 ⟨rfl, rfl⟩ (fun _ _ _ => trivial) (fun _ _ _ _ h => h) (Nat.le_of_ble_eq_true rfl) ⟨(Nat.le_of_ble_eq_true rfl), (Nat.le_of_ble_eq_true rfl)⟩ ⟨(Nat.le_of_ble_eq_true rfl), (Nat.le_of_ble_eq_true rfl)⟩ d_D_answer_29) ?_
        have hm := mul_lt62 (a := cc) (b := z) (by omega) (by omega)
        refine lv_iload_n hx hb d_D_answer_32 rfl (lv_at hl 2 rfl) ?_
        refine lv_i2l (v := lN k) hx hb d_D_answer_33 (nI_l (by omega)) ?_
        refine lv_iload_n hx hb d_D_answer_34 rfl (lv_at hl 3 rfl) ?_
        refine lv_i2l (v := lN cc) hx hb d_D_answer_35 (nI_l (by omega)) ?_
        refine lv_iload_n hx hb d_D_answer_36 rfl (lv_at hl 1 rfl) ?_
        refine lv_i2l (v := lN z) hx hb d_D_answer_37 (nI_l (by omega)) ?_
        refine lv_lmul hx hb d_D_answer_38 ?_
        rw [show ((lN cc) * (lN z) : Int64) = lN (cc * z) from lN_mul _ _]
        refine lv_ladd hx hb d_D_answer_39 ?_
        rw [show ((lN k) + (lN (cc * z)) : Int64) = lN (k + cc * z) from lN_add _ _]
        refine lv_aload_n hx hb d_D_answer_40 rfl (lv_at hl 0 rfl) ?_
        refine xg_q C hX d_D_answer_41 ?_
        refine lv_i2l (v := lN q) hx hb d_D_answer_44 (nI_l (by omega)) ?_
        refine lv_lrem hx hb d_D_answer_45 (lN_ne0 (by omega) (by omega)) ?_
        rw [show ((lN (k + cc * z)) - (lN (k + cc * z)) / (lN q) * (lN q) : Int64) = lN ((k + cc * z) % q) from pk_lRem (by omega) (by omega) (by omega)]
        refine lv_l2i (v := nI ((k + cc * z) % q)) hx hb d_D_answer_46 (lN_i _) ?_
        exact rI C d_D_answer_47 rfl
set_option maxHeartbeats 4000000 in
/-- answer refuses -/
theorem t_answer (l : Launch) (hfl : l.flags = flags0) (D : va_G) {h n pl p q g : Nat} (hG : grp p q g) (z k cc : Int32) (hbad : ¬ (expP q z ∧ expP q k ∧ expP q cc)) : MetT l y_D_answer (.code y_D_answer b_D_answer 4 (some .int) :: tb) (rt 7) (va_Pc [.ref h, .int z, .int k, .int cc] (fun U => XO D h n pl p q g U ∧ ex_ok U)) iaN := by
  refine mk_metT (by decide) (Nat.le_of_ble_eq_true rfl) ?_
  intro p0 e s m below meth c ls C hne hB hl
  generalize ([.ref h, .int z, .int k, .int cc] : List Value).toArray = args at C ⊢
  obtain ⟨hx, hb, hml, hown, hts, hr, hlk⟩ := id C
  obtain ⟨hX, hex⟩ := hB
  obtain ⟨g5, g31, gq, gqp, ggp, gg2⟩ := hG.nums
  have hl : lv_has ls 4 [(0, .ref h), (1, .int z), (2, .int k), (3, .int cc)] := hl
  refine lv_aload_n hx hb d_D_answer_0 rfl (lv_at hl 0 rfl) ?_
  refine lv_iload_n hx hb d_D_answer_1 rfl (lv_at hl 1 rfl) ?_
  refine goI (runV C h [.int z] [] (c_expo l D hG z) vw_D_79 rfl hl.1 ⟨rfl, rfl⟩ hX.cell (fun U hU hW => hX.move hU hW) (fun U f mk a hU => XO.call hU f mk a) (Nat.le_of_ble_eq_true rfl) ⟨(Nat.le_of_ble_eq_true rfl), (Nat.le_of_ble_eq_true rfl)⟩ ⟨(Nat.le_of_ble_eq_true rfl), (Nat.le_of_ble_eq_true rfl)⟩ d_D_answer_2) (fun re1 e1 => ?_)
  refine lv_if_eq hx hb d_D_answer_5 rfl (fun ke1 => ?_) (fun ke1 => ?_)
  · have e1 := z_f e1 ke1
    refine lv_iconst (v := 0) hx hb d_D_answer_28 (by decide) ?_
    exact th_callS C hne [.int 0] [] (t_good l hfl) ⟨rfl, rfl⟩ sw_D_60 rfl hl.1 (fun U hU hW => ex_move hex hW (fun q _ => by rw [hU])) (fun U f mk a hU => ex_call hU) (Nat.le_of_ble_eq_true rfl) ⟨(Nat.le_of_ble_eq_true rfl), (Nat.le_of_ble_eq_true rfl)⟩ ⟨(Nat.le_of_ble_eq_true rfl), (Nat.le_of_ble_eq_true rfl)⟩ d_D_answer_29
  · have e1 := z_t e1 ke1
    refine lv_aload_n hx hb d_D_answer_8 rfl (lv_at hl 0 rfl) ?_
    refine lv_iload_n hx hb d_D_answer_9 rfl (lv_at hl 2 rfl) ?_
    refine goI (runV C h [.int k] [] (c_expo l D hG k) vw_D_79 rfl hl.1 ⟨rfl, rfl⟩ hX.cell (fun U hU hW => hX.move hU hW) (fun U f mk a hU => XO.call hU f mk a) (Nat.le_of_ble_eq_true rfl) ⟨(Nat.le_of_ble_eq_true rfl), (Nat.le_of_ble_eq_true rfl)⟩ ⟨(Nat.le_of_ble_eq_true rfl), (Nat.le_of_ble_eq_true rfl)⟩ d_D_answer_10) (fun re2 e2 => ?_)
    refine lv_if_eq hx hb d_D_answer_13 rfl (fun ke2 => ?_) (fun ke2 => ?_)
    · have e2 := z_f e2 ke2
      refine lv_iconst (v := 0) hx hb d_D_answer_28 (by decide) ?_
      exact th_callS C hne [.int 0] [] (t_good l hfl) ⟨rfl, rfl⟩ sw_D_60 rfl hl.1 (fun U hU hW => ex_move hex hW (fun q _ => by rw [hU])) (fun U f mk a hU => ex_call hU) (Nat.le_of_ble_eq_true rfl) ⟨(Nat.le_of_ble_eq_true rfl), (Nat.le_of_ble_eq_true rfl)⟩ ⟨(Nat.le_of_ble_eq_true rfl), (Nat.le_of_ble_eq_true rfl)⟩ d_D_answer_29
    · have e2 := z_t e2 ke2
      refine lv_aload_n hx hb d_D_answer_16 rfl (lv_at hl 0 rfl) ?_
      refine lv_iload_n hx hb d_D_answer_17 rfl (lv_at hl 3 rfl) ?_
      refine goI (runV C h [.int cc] [] (c_expo l D hG cc) vw_D_79 rfl hl.1 ⟨rfl, rfl⟩ hX.cell (fun U hU hW => hX.move hU hW) (fun U f mk a hU => XO.call hU f mk a) (Nat.le_of_ble_eq_true rfl) ⟨(Nat.le_of_ble_eq_true rfl), (Nat.le_of_ble_eq_true rfl)⟩ ⟨(Nat.le_of_ble_eq_true rfl), (Nat.le_of_ble_eq_true rfl)⟩ d_D_answer_18) (fun re3 e3 => ?_)
      refine lv_if_eq hx hb d_D_answer_21 rfl (fun ke3 => ?_) (fun ke3 => ?_)
      · have e3 := z_f e3 ke3
        refine lv_iconst (v := 0) hx hb d_D_answer_28 (by decide) ?_
        exact th_callS C hne [.int 0] [] (t_good l hfl) ⟨rfl, rfl⟩ sw_D_60 rfl hl.1 (fun U hU hW => ex_move hex hW (fun q _ => by rw [hU])) (fun U f mk a hU => ex_call hU) (Nat.le_of_ble_eq_true rfl) ⟨(Nat.le_of_ble_eq_true rfl), (Nat.le_of_ble_eq_true rfl)⟩ ⟨(Nat.le_of_ble_eq_true rfl), (Nat.le_of_ble_eq_true rfl)⟩ d_D_answer_29
      · have e3 := z_t e3 ke3
        exact absurd ⟨e1, e2, e3⟩ hbad
set_option maxHeartbeats 4000000 in
/-- feign(y, c, z) -/
theorem c_feign (l : Launch) (D : va_G) {h n pl p q g : Nat} (hG : grp p q g) {y cc z : Nat} (hy : memP p q (nI y)) (hyp : y < p) (hcc : cc < q) (hz : z < q) : Met l y_D_feign (.code y_D_feign b_D_feign 4 (some .int) :: tb) (rk 3) (va_Pc [.ref h, .int (nI y), .int (nI cc), .int (nI z)] (fun U => XO D h n pl p q g U)) (QI (fun r => r = nI (g ^ z % p * (y ^ (q - cc) % p) % p))) 0 0 nf := by
  refine mk_met (by decide) (Nat.le_of_ble_eq_true rfl) ?_
  intro p0 e s m below meth c ls C hnm hX hl
  have hX : XO D h n pl p q g s := hX
  obtain ⟨g5, g31, gq, gqp, ggp, gg2⟩ := hG.nums
  generalize ([.ref h, .int (nI y), .int (nI cc), .int (nI z)] : List Value).toArray = args at C ⊢
  obtain ⟨hx, hb, hml, hown, hts, hr, hlk⟩ := id C
  have hl : lv_has ls 4 [(0, .ref h), (1, .int (nI y)), (2, .int (nI cc)), (3, .int (nI z))] := hl
  refine lv_aload_n hx hb d_D_feign_0 rfl (lv_at hl 0 rfl) ?_
  refine lv_iload_n hx hb d_D_feign_1 rfl (lv_at hl 1 rfl) ?_
  refine goI (runV C h [.int (nI y)] [] (c_member l D hG (nI y)) vw_D_68 rfl hl.1 ⟨rfl, rfl⟩ hX.cell (fun U hU hW => hX.move hU hW) (fun U f mk a hU => XO.call hU f mk a) (Nat.le_of_ble_eq_true rfl) ⟨(Nat.le_of_ble_eq_true rfl), (Nat.le_of_ble_eq_true rfl)⟩ ⟨(Nat.le_of_ble_eq_true rfl), (Nat.le_of_ble_eq_true rfl)⟩ d_D_feign_2) (fun re1 e1 => ?_)
  refine lv_if_eq hx hb d_D_feign_5 rfl (fun ke1 => ?_) (fun ke1 => ?_)
  · have e1 := z_f e1 ke1
    exact absurd hy e1
  · have e1 := z_t e1 ke1
    refine lv_aload_n hx hb d_D_feign_8 rfl (lv_at hl 0 rfl) ?_
    refine lv_iload_n hx hb d_D_feign_9 rfl (lv_at hl 2 rfl) ?_
    refine goI (runV C h [.int (nI cc)] [] (c_expo l D hG (nI cc)) vw_D_79 rfl hl.1 ⟨rfl, rfl⟩ hX.cell (fun U hU hW => hX.move hU hW) (fun U f mk a hU => XO.call hU f mk a) (Nat.le_of_ble_eq_true rfl) ⟨(Nat.le_of_ble_eq_true rfl), (Nat.le_of_ble_eq_true rfl)⟩ ⟨(Nat.le_of_ble_eq_true rfl), (Nat.le_of_ble_eq_true rfl)⟩ d_D_feign_10) (fun re2 e2 => ?_)
    refine lv_if_eq hx hb d_D_feign_13 rfl (fun ke2 => ?_) (fun ke2 => ?_)
    · have e2 := z_f e2 ke2
      exact absurd ((expP_nI (by omega)).mpr (by omega)) e2
    · have e2 := z_t e2 ke2
      refine lv_aload_n hx hb d_D_feign_16 rfl (lv_at hl 0 rfl) ?_
      refine lv_iload_n hx hb d_D_feign_17 rfl (lv_at hl 3 rfl) ?_
      refine goI (runV C h [.int (nI z)] [] (c_expo l D hG (nI z)) vw_D_79 rfl hl.1 ⟨rfl, rfl⟩ hX.cell (fun U hU hW => hX.move hU hW) (fun U f mk a hU => XO.call hU f mk a) (Nat.le_of_ble_eq_true rfl) ⟨(Nat.le_of_ble_eq_true rfl), (Nat.le_of_ble_eq_true rfl)⟩ ⟨(Nat.le_of_ble_eq_true rfl), (Nat.le_of_ble_eq_true rfl)⟩ d_D_feign_18) (fun re3 e3 => ?_)
      refine lv_if_eq hx hb d_D_feign_21 rfl (fun ke3 => ?_) (fun ke3 => ?_)
      · have e3 := z_f e3 ke3
        exact absurd ((expP_nI (by omega)).mpr (by omega)) e3
      · have e3 := z_t e3 ke3
        refine lv_iconst (v := 1) hx hb d_D_feign_24 (by decide) ?_
        refine lv_goto hx hb d_D_feign_25 rfl ?_
        refine goV (runS C [.int 1] [] (c_goodT l) sw_D_60 rfl hl.1 ⟨rfl, rfl⟩ (fun _ _ _ => trivial) (fun _ _ _ _ h => h) (Nat.le_of_ble_eq_true rfl) ⟨(Nat.le_of_ble_eq_true rfl), (Nat.le_of_ble_eq_true rfl)⟩ ⟨(Nat.le_of_ble_eq_true rfl), (Nat.le_of_ble_eq_true rfl)⟩ d_D_feign_29) ?_
        refine lv_aload_n hx hb d_D_feign_32 rfl (lv_at hl 0 rfl) ?_
        refine xg_g C hX d_D_feign_33 ?_
        refine lv_iload_n hx hb d_D_feign_36 rfl (lv_at hl 3 rfl) ?_
        refine lv_i2l (v := lN z) hx hb d_D_feign_37 (nI_l (by omega)) ?_
        refine lv_aload_n hx hb d_D_feign_38 rfl (lv_at hl 0 rfl) ?_
        refine xg_p C hX d_D_feign_39 ?_
        refine goI (runS C [.int (nI g), .long (lN z), .int (nI p)] [] (c_powS l (a := g) (ee := z) (n := p) (by omega) (by omega) (by omega) g31) sw_D_39 rfl hl.1 ⟨rfl, rfl⟩ (fun _ _ _ => trivial) (fun _ _ _ _ h => h) (Nat.le_of_ble_eq_true rfl) ⟨(Nat.le_of_ble_eq_true rfl), (Nat.le_of_ble_eq_true rfl)⟩ ⟨(Nat.le_of_ble_eq_true rfl), (Nat.le_of_ble_eq_true rfl)⟩ d_D_feign_42) (fun r hr => ?_)
        subst hr
        refine lv_iload_n hx hb d_D_feign_45 rfl (lv_at hl 1 rfl) ?_
        refine lv_aload_n hx hb d_D_feign_46 rfl (lv_at hl 0 rfl) ?_
        refine xg_q C hX d_D_feign_47 ?_
        refine lv_iload_n hx hb d_D_feign_50 rfl (lv_at hl 2 rfl) ?_
        refine lv_isub hx hb d_D_feign_51 ?_
        rw [show ((nI q) - (nI cc) : Int32) = nI (q - cc) from pk_sub (by omega)]
        refine lv_i2l (v := lN (q - cc)) hx hb d_D_feign_52 (nI_l (by omega)) ?_
        refine lv_aload_n hx hb d_D_feign_53 rfl (lv_at hl 0 rfl) ?_
        refine xg_p C hX d_D_feign_54 ?_
        refine goI (runS C [.int (nI y), .long (lN (q - cc)), .int (nI p)] [.int (nI (g ^ z % p))] (c_powS l (a := y) (ee := q - cc) (n := p) (by omega) (by omega) (by omega) g31) sw_D_39 rfl hl.1 ⟨rfl, rfl⟩ (fun _ _ _ => trivial) (fun _ _ _ _ h => h) (Nat.le_of_ble_eq_true rfl) ⟨(Nat.le_of_ble_eq_true rfl), (Nat.le_of_ble_eq_true rfl)⟩ ⟨(Nat.le_of_ble_eq_true rfl), (Nat.le_of_ble_eq_true rfl)⟩ d_D_feign_57) (fun r hr => ?_)
        subst hr
        refine lv_aload_n hx hb d_D_feign_60 rfl (lv_at hl 0 rfl) ?_
        refine xg_p C hX d_D_feign_61 ?_
        have m1 := Nat.mod_lt (g ^ z) (show p > 0 by omega)
        have m2 := Nat.mod_lt (y ^ (q - cc)) (show p > 0 by omega)
        refine goI (runS C [.int (nI (g ^ z % p)), .int (nI (y ^ (q - cc) % p)), .int (nI p)] [] (c_times l (a := g ^ z % p) (b := y ^ (q - cc) % p) (n := p) (by omega) (by omega) (by omega) g31) sw_D_29 rfl hl.1 ⟨rfl, rfl⟩ (fun _ _ _ => trivial) (fun _ _ _ _ h => h) (Nat.le_of_ble_eq_true rfl) ⟨(Nat.le_of_ble_eq_true rfl), (Nat.le_of_ble_eq_true rfl)⟩ ⟨(Nat.le_of_ble_eq_true rfl), (Nat.le_of_ble_eq_true rfl)⟩ d_D_feign_64) (fun r hr => ?_)
        subst hr
        exact rI C d_D_feign_67 rfl
set_option maxHeartbeats 4000000 in
/-- feign refuses -/
theorem t_feign (l : Launch) (hfl : l.flags = flags0) (D : va_G) {h n pl p q g : Nat} (hG : grp p q g) (y cc z : Int32) (hbad : ¬ (memP p q y ∧ expP q cc ∧ expP q z)) : MetT l y_D_feign (.code y_D_feign b_D_feign 4 (some .int) :: tb) (rt 7) (va_Pc [.ref h, .int y, .int cc, .int z] (fun U => XO D h n pl p q g U ∧ ex_ok U)) iaN := by
  refine mk_metT (by decide) (Nat.le_of_ble_eq_true rfl) ?_
  intro p0 e s m below meth c ls C hne hB hl
  generalize ([.ref h, .int y, .int cc, .int z] : List Value).toArray = args at C ⊢
  obtain ⟨hx, hb, hml, hown, hts, hr, hlk⟩ := id C
  obtain ⟨hX, hex⟩ := hB
  obtain ⟨g5, g31, gq, gqp, ggp, gg2⟩ := hG.nums
  have hl : lv_has ls 4 [(0, .ref h), (1, .int y), (2, .int cc), (3, .int z)] := hl
  refine lv_aload_n hx hb d_D_feign_0 rfl (lv_at hl 0 rfl) ?_
  refine lv_iload_n hx hb d_D_feign_1 rfl (lv_at hl 1 rfl) ?_
  refine goI (runV C h [.int y] [] (c_member l D hG y) vw_D_68 rfl hl.1 ⟨rfl, rfl⟩ hX.cell (fun U hU hW => hX.move hU hW) (fun U f mk a hU => XO.call hU f mk a) (Nat.le_of_ble_eq_true rfl) ⟨(Nat.le_of_ble_eq_true rfl), (Nat.le_of_ble_eq_true rfl)⟩ ⟨(Nat.le_of_ble_eq_true rfl), (Nat.le_of_ble_eq_true rfl)⟩ d_D_feign_2) (fun re1 e1 => ?_)
  refine lv_if_eq hx hb d_D_feign_5 rfl (fun ke1 => ?_) (fun ke1 => ?_)
  · have e1 := z_f e1 ke1
    refine lv_iconst (v := 0) hx hb d_D_feign_28 (by decide) ?_
    exact th_callS C hne [.int 0] [] (t_good l hfl) ⟨rfl, rfl⟩ sw_D_60 rfl hl.1 (fun U hU hW => ex_move hex hW (fun q _ => by rw [hU])) (fun U f mk a hU => ex_call hU) (Nat.le_of_ble_eq_true rfl) ⟨(Nat.le_of_ble_eq_true rfl), (Nat.le_of_ble_eq_true rfl)⟩ ⟨(Nat.le_of_ble_eq_true rfl), (Nat.le_of_ble_eq_true rfl)⟩ d_D_feign_29
  · have e1 := z_t e1 ke1
    refine lv_aload_n hx hb d_D_feign_8 rfl (lv_at hl 0 rfl) ?_
    refine lv_iload_n hx hb d_D_feign_9 rfl (lv_at hl 2 rfl) ?_
    refine goI (runV C h [.int cc] [] (c_expo l D hG cc) vw_D_79 rfl hl.1 ⟨rfl, rfl⟩ hX.cell (fun U hU hW => hX.move hU hW) (fun U f mk a hU => XO.call hU f mk a) (Nat.le_of_ble_eq_true rfl) ⟨(Nat.le_of_ble_eq_true rfl), (Nat.le_of_ble_eq_true rfl)⟩ ⟨(Nat.le_of_ble_eq_true rfl), (Nat.le_of_ble_eq_true rfl)⟩ d_D_feign_10) (fun re2 e2 => ?_)
    refine lv_if_eq hx hb d_D_feign_13 rfl (fun ke2 => ?_) (fun ke2 => ?_)
    · have e2 := z_f e2 ke2
      refine lv_iconst (v := 0) hx hb d_D_feign_28 (by decide) ?_
      exact th_callS C hne [.int 0] [] (t_good l hfl) ⟨rfl, rfl⟩ sw_D_60 rfl hl.1 (fun U hU hW => ex_move hex hW (fun q _ => by rw [hU])) (fun U f mk a hU => ex_call hU) (Nat.le_of_ble_eq_true rfl) ⟨(Nat.le_of_ble_eq_true rfl), (Nat.le_of_ble_eq_true rfl)⟩ ⟨(Nat.le_of_ble_eq_true rfl), (Nat.le_of_ble_eq_true rfl)⟩ d_D_feign_29
    · have e2 := z_t e2 ke2
      refine lv_aload_n hx hb d_D_feign_16 rfl (lv_at hl 0 rfl) ?_
      refine lv_iload_n hx hb d_D_feign_17 rfl (lv_at hl 3 rfl) ?_
      refine goI (runV C h [.int z] [] (c_expo l D hG z) vw_D_79 rfl hl.1 ⟨rfl, rfl⟩ hX.cell (fun U hU hW => hX.move hU hW) (fun U f mk a hU => XO.call hU f mk a) (Nat.le_of_ble_eq_true rfl) ⟨(Nat.le_of_ble_eq_true rfl), (Nat.le_of_ble_eq_true rfl)⟩ ⟨(Nat.le_of_ble_eq_true rfl), (Nat.le_of_ble_eq_true rfl)⟩ d_D_feign_18) (fun re3 e3 => ?_)
      refine lv_if_eq hx hb d_D_feign_21 rfl (fun ke3 => ?_) (fun ke3 => ?_)
      · have e3 := z_f e3 ke3
        refine lv_iconst (v := 0) hx hb d_D_feign_28 (by decide) ?_
        exact th_callS C hne [.int 0] [] (t_good l hfl) ⟨rfl, rfl⟩ sw_D_60 rfl hl.1 (fun U hU hW => ex_move hex hW (fun q _ => by rw [hU])) (fun U f mk a hU => ex_call hU) (Nat.le_of_ble_eq_true rfl) ⟨(Nat.le_of_ble_eq_true rfl), (Nat.le_of_ble_eq_true rfl)⟩ ⟨(Nat.le_of_ble_eq_true rfl), (Nat.le_of_ble_eq_true rfl)⟩ d_D_feign_29
      · have e3 := z_t e3 ke3
        exact absurd ⟨e1, e2, e3⟩ hbad
set_option maxHeartbeats 4000000 in
/-- secret(c, z, d, w) -/
theorem c_secret (l : Launch) (D : va_G) {h n pl p q g : Nat} (hG : grp p q g) {cc z dd v : Nat} (hcc : cc < q) (hz : z < q) (hdd : dd < q) (hv : v < q) (hne : cc ≠ dd) : Met l y_D_secret (.code y_D_secret b_D_secret 5 (some .int) :: tb) (rk 2) (va_Pc [.ref h, .int (nI cc), .int (nI z), .int (nI dd), .int (nI v)] (fun U => XO D h n pl p q g U)) (QI (fun r => r = nI (sub_m q z v * inv_v (sub_m q cc dd) q % q))) 0 0 nf := by
  refine mk_met (by decide) (Nat.le_of_ble_eq_true rfl) ?_
  intro p0 e s m below meth c ls C hnm hX hl
  have hX : XO D h n pl p q g s := hX
  obtain ⟨g5, g31, gq, gqp, ggp, gg2⟩ := hG.nums
  generalize ([.ref h, .int (nI cc), .int (nI z), .int (nI dd), .int (nI v)] : List Value).toArray = args at C ⊢
  obtain ⟨hx, hb, hml, hown, hts, hr, hlk⟩ := id C
  have gq30 : q < 2 ^ 30 := by
    have := hG.2.2.1
    omega
  have hl : lv_has ls 5 [(0, .ref h), (1, .int (nI cc)), (2, .int (nI z)), (3, .int (nI dd)), (4, .int (nI v))] := hl
  refine lv_aload_n hx hb d_D_secret_0 rfl (lv_at hl 0 rfl) ?_
  refine lv_iload_n hx hb d_D_secret_1 rfl (lv_at hl 1 rfl) ?_
  refine goI (runV C h [.int (nI cc)] [] (c_expo l D hG (nI cc)) vw_D_79 rfl hl.1 ⟨rfl, rfl⟩ hX.cell (fun U hU hW => hX.move hU hW) (fun U f mk a hU => XO.call hU f mk a) (Nat.le_of_ble_eq_true rfl) ⟨(Nat.le_of_ble_eq_true rfl), (Nat.le_of_ble_eq_true rfl)⟩ ⟨(Nat.le_of_ble_eq_true rfl), (Nat.le_of_ble_eq_true rfl)⟩ d_D_secret_2) (fun re1 e1 => ?_)
  refine lv_if_eq hx hb d_D_secret_5 rfl (fun ke1 => ?_) (fun ke1 => ?_)
  · have e1 := z_f e1 ke1
    exact absurd ((expP_nI (by omega)).mpr (by omega)) e1
  · have e1 := z_t e1 ke1
    refine lv_aload_n hx hb d_D_secret_8 rfl (lv_at hl 0 rfl) ?_
    refine lv_iload_n hx hb d_D_secret_9 rfl (lv_at hl 2 rfl) ?_
    refine goI (runV C h [.int (nI z)] [] (c_expo l D hG (nI z)) vw_D_79 rfl hl.1 ⟨rfl, rfl⟩ hX.cell (fun U hU hW => hX.move hU hW) (fun U f mk a hU => XO.call hU f mk a) (Nat.le_of_ble_eq_true rfl) ⟨(Nat.le_of_ble_eq_true rfl), (Nat.le_of_ble_eq_true rfl)⟩ ⟨(Nat.le_of_ble_eq_true rfl), (Nat.le_of_ble_eq_true rfl)⟩ d_D_secret_10) (fun re2 e2 => ?_)
    refine lv_if_eq hx hb d_D_secret_13 rfl (fun ke2 => ?_) (fun ke2 => ?_)
    · have e2 := z_f e2 ke2
      exact absurd ((expP_nI (by omega)).mpr (by omega)) e2
    · have e2 := z_t e2 ke2
      refine lv_aload_n hx hb d_D_secret_16 rfl (lv_at hl 0 rfl) ?_
      refine lv_iload_n hx hb d_D_secret_17 rfl (lv_at hl 3 rfl) ?_
      refine goI (runV C h [.int (nI dd)] [] (c_expo l D hG (nI dd)) vw_D_79 rfl hl.1 ⟨rfl, rfl⟩ hX.cell (fun U hU hW => hX.move hU hW) (fun U f mk a hU => XO.call hU f mk a) (Nat.le_of_ble_eq_true rfl) ⟨(Nat.le_of_ble_eq_true rfl), (Nat.le_of_ble_eq_true rfl)⟩ ⟨(Nat.le_of_ble_eq_true rfl), (Nat.le_of_ble_eq_true rfl)⟩ d_D_secret_18) (fun re3 e3 => ?_)
      refine lv_if_eq hx hb d_D_secret_21 rfl (fun ke3 => ?_) (fun ke3 => ?_)
      · have e3 := z_f e3 ke3
        exact absurd ((expP_nI (by omega)).mpr (by omega)) e3
      · have e3 := z_t e3 ke3
        refine lv_aload_n hx hb d_D_secret_24 rfl (lv_at hl 0 rfl) ?_
        refine lv_iload hx hb d_D_secret_25 (lv_at hl 4 rfl) ?_
        refine goI (runV C h [.int (nI v)] [] (c_expo l D hG (nI v)) vw_D_79 rfl hl.1 ⟨rfl, rfl⟩ hX.cell (fun U hU hW => hX.move hU hW) (fun U f mk a hU => XO.call hU f mk a) (Nat.le_of_ble_eq_true rfl) ⟨(Nat.le_of_ble_eq_true rfl), (Nat.le_of_ble_eq_true rfl)⟩ ⟨(Nat.le_of_ble_eq_true rfl), (Nat.le_of_ble_eq_true rfl)⟩ d_D_secret_27) (fun re4 e4 => ?_)
        refine lv_if_eq hx hb d_D_secret_30 rfl (fun ke4 => ?_) (fun ke4 => ?_)
        · have e4 := z_f e4 ke4
          exact absurd ((expP_nI (by omega)).mpr (by omega)) e4
        · have e4 := z_t e4 ke4
          refine lv_iload_n hx hb d_D_secret_33 rfl (lv_at hl 1 rfl) ?_
          refine lv_iload_n hx hb d_D_secret_34 rfl (lv_at hl 3 rfl) ?_
          refine lv_icmp_eq hx hb d_D_secret_35 rfl (fun h5 => ?_) (fun h5 => ?_)
          · exact absurd ((nI_eq (by omega) (by omega)).mp h5) hne
          · refine lv_iconst (v := 1) hx hb d_D_secret_38 (by decide) ?_
            refine lv_goto hx hb d_D_secret_39 rfl ?_
            refine goV (runS C [.int 1] [] (c_goodT l) sw_D_60 rfl hl.1 ⟨rfl, rfl⟩ (fun _ _ _ => trivial) (fun _ _ _ _ h => h) (Nat.le_of_ble_eq_true rfl) ⟨(Nat.le_of_ble_eq_true rfl), (Nat.le_of_ble_eq_true rfl)⟩ ⟨(Nat.le_of_ble_eq_true rfl), (Nat.le_of_ble_eq_true rfl)⟩ d_D_secret_43) ?_
            refine lv_iload_n hx hb d_D_secret_46 rfl (lv_at hl 2 rfl) ?_
            refine lv_iload hx hb d_D_secret_47 (lv_at hl 4 rfl) ?_
            refine lv_isub hx hb d_D_secret_49 ?_
            refine lv_aload_n hx hb d_D_secret_50 rfl (lv_at hl 0 rfl) ?_
            refine xg_q C hX d_D_secret_51 ?_
            refine goI (runS C [.int ((nI z) - (nI v)), .int (nI q)] [] (c_fmI l (nI z - nI v) (q := q) (by omega) (by omega)) sw_D_77 rfl hl.1 ⟨rfl, rfl⟩ (fun _ _ _ => trivial) (fun _ _ _ _ h => h) (Nat.le_of_ble_eq_true rfl) ⟨(Nat.le_of_ble_eq_true rfl), (Nat.le_of_ble_eq_true rfl)⟩ ⟨(Nat.le_of_ble_eq_true rfl), (Nat.le_of_ble_eq_true rfl)⟩ d_D_secret_54) (fun r hr => ?_)
            subst hr
            rw [show (nI ((nI z - nI v).toInt % q).toNat : Int32) = nI (sub_m q z v) from by rw [pk_sub_toInt (by omega) (by omega), sub_m_int hv]]
            refine lv_iload_n hx hb d_D_secret_57 rfl (lv_at hl 1 rfl) ?_
            refine lv_iload_n hx hb d_D_secret_58 rfl (lv_at hl 3 rfl) ?_
            refine lv_isub hx hb d_D_secret_59 ?_
            refine lv_aload_n hx hb d_D_secret_60 rfl (lv_at hl 0 rfl) ?_
            refine xg_q C hX d_D_secret_61 ?_
            refine goI (runS C [.int ((nI cc) - (nI dd)), .int (nI q)] [.int (nI (sub_m q z v))] (c_fmI l (nI cc - nI dd) (q := q) (by omega) (by omega)) sw_D_77 rfl hl.1 ⟨rfl, rfl⟩ (fun _ _ _ => trivial) (fun _ _ _ _ h => h) (Nat.le_of_ble_eq_true rfl) ⟨(Nat.le_of_ble_eq_true rfl), (Nat.le_of_ble_eq_true rfl)⟩ ⟨(Nat.le_of_ble_eq_true rfl), (Nat.le_of_ble_eq_true rfl)⟩ d_D_secret_64) (fun r hr => ?_)
            subst hr
            rw [show (nI ((nI cc - nI dd).toInt % q).toNat : Int32) = nI (sub_m q cc dd) from by rw [pk_sub_toInt (by omega) (by omega), sub_m_int hdd]]
            refine lv_aload_n hx hb d_D_secret_67 rfl (lv_at hl 0 rfl) ?_
            refine xg_q C hX d_D_secret_68 ?_
            have hsp := sub_m_pos hcc hdd hne
            have hil := inv_lt (a := sub_m q cc dd) (show 0 < q by omega)
            have hsz : sub_m q z v < q := Nat.mod_lt _ (by omega)
            refine goI (runS C [.int (nI (sub_m q cc dd)), .int (nI q)] [.int (nI (sub_m q z v))] (c_invS l (a := sub_m q cc dd) (n := q) hsp.1 hsp.2 (by omega)) sw_D_64 rfl hl.1 ⟨rfl, rfl⟩ (fun _ _ _ => trivial) (fun _ _ _ _ h => h) (Nat.le_of_ble_eq_true rfl) ⟨(Nat.le_of_ble_eq_true rfl), (Nat.le_of_ble_eq_true rfl)⟩ ⟨(Nat.le_of_ble_eq_true rfl), (Nat.le_of_ble_eq_true rfl)⟩ d_D_secret_71) (fun r hr => ?_)
            subst hr
            refine lv_aload_n hx hb d_D_secret_74 rfl (lv_at hl 0 rfl) ?_
            refine xg_q C hX d_D_secret_75 ?_
            refine goI (runS C [.int (nI (sub_m q z v)), .int (nI (inv_v (sub_m q cc dd) q)), .int (nI q)] [] (c_times l (a := sub_m q z v) (b := inv_v (sub_m q cc dd) q) (n := q) (by omega) (by omega) (by omega) (by omega)) sw_D_29 rfl hl.1 ⟨rfl, rfl⟩ (fun _ _ _ => trivial) (fun _ _ _ _ h => h) (Nat.le_of_ble_eq_true rfl) ⟨(Nat.le_of_ble_eq_true rfl), (Nat.le_of_ble_eq_true rfl)⟩ ⟨(Nat.le_of_ble_eq_true rfl), (Nat.le_of_ble_eq_true rfl)⟩ d_D_secret_78) (fun r hr => ?_)
            subst hr
            exact rI C d_D_secret_81 rfl
set_option maxHeartbeats 4000000 in
/-- secret refuses -/
theorem t_secret (l : Launch) (hfl : l.flags = flags0) (D : va_G) {h n pl p q g : Nat} (hG : grp p q g) (cc z dd v : Int32) (hbad : ¬ (expP q cc ∧ expP q z ∧ expP q dd ∧ expP q v ∧ cc ≠ dd)) : MetT l y_D_secret (.code y_D_secret b_D_secret 5 (some .int) :: tb) (rt 7) (va_Pc [.ref h, .int cc, .int z, .int dd, .int v] (fun U => XO D h n pl p q g U ∧ ex_ok U)) iaN := by
  refine mk_metT (by decide) (Nat.le_of_ble_eq_true rfl) ?_
  intro p0 e s m below meth c ls C hne hB hl
  generalize ([.ref h, .int cc, .int z, .int dd, .int v] : List Value).toArray = args at C ⊢
  obtain ⟨hx, hb, hml, hown, hts, hr, hlk⟩ := id C
  obtain ⟨hX, hex⟩ := hB
  obtain ⟨g5, g31, gq, gqp, ggp, gg2⟩ := hG.nums
  have hl : lv_has ls 5 [(0, .ref h), (1, .int cc), (2, .int z), (3, .int dd), (4, .int v)] := hl
  refine lv_aload_n hx hb d_D_secret_0 rfl (lv_at hl 0 rfl) ?_
  refine lv_iload_n hx hb d_D_secret_1 rfl (lv_at hl 1 rfl) ?_
  refine goI (runV C h [.int cc] [] (c_expo l D hG cc) vw_D_79 rfl hl.1 ⟨rfl, rfl⟩ hX.cell (fun U hU hW => hX.move hU hW) (fun U f mk a hU => XO.call hU f mk a) (Nat.le_of_ble_eq_true rfl) ⟨(Nat.le_of_ble_eq_true rfl), (Nat.le_of_ble_eq_true rfl)⟩ ⟨(Nat.le_of_ble_eq_true rfl), (Nat.le_of_ble_eq_true rfl)⟩ d_D_secret_2) (fun re1 e1 => ?_)
  refine lv_if_eq hx hb d_D_secret_5 rfl (fun ke1 => ?_) (fun ke1 => ?_)
  · have e1 := z_f e1 ke1
    refine lv_iconst (v := 0) hx hb d_D_secret_42 (by decide) ?_
    exact th_callS C hne [.int 0] [] (t_good l hfl) ⟨rfl, rfl⟩ sw_D_60 rfl hl.1 (fun U hU hW => ex_move hex hW (fun q _ => by rw [hU])) (fun U f mk a hU => ex_call hU) (Nat.le_of_ble_eq_true rfl) ⟨(Nat.le_of_ble_eq_true rfl), (Nat.le_of_ble_eq_true rfl)⟩ ⟨(Nat.le_of_ble_eq_true rfl), (Nat.le_of_ble_eq_true rfl)⟩ d_D_secret_43
  · have e1 := z_t e1 ke1
    refine lv_aload_n hx hb d_D_secret_8 rfl (lv_at hl 0 rfl) ?_
    refine lv_iload_n hx hb d_D_secret_9 rfl (lv_at hl 2 rfl) ?_
    refine goI (runV C h [.int z] [] (c_expo l D hG z) vw_D_79 rfl hl.1 ⟨rfl, rfl⟩ hX.cell (fun U hU hW => hX.move hU hW) (fun U f mk a hU => XO.call hU f mk a) (Nat.le_of_ble_eq_true rfl) ⟨(Nat.le_of_ble_eq_true rfl), (Nat.le_of_ble_eq_true rfl)⟩ ⟨(Nat.le_of_ble_eq_true rfl), (Nat.le_of_ble_eq_true rfl)⟩ d_D_secret_10) (fun re2 e2 => ?_)
    refine lv_if_eq hx hb d_D_secret_13 rfl (fun ke2 => ?_) (fun ke2 => ?_)
    · have e2 := z_f e2 ke2
      refine lv_iconst (v := 0) hx hb d_D_secret_42 (by decide) ?_
      exact th_callS C hne [.int 0] [] (t_good l hfl) ⟨rfl, rfl⟩ sw_D_60 rfl hl.1 (fun U hU hW => ex_move hex hW (fun q _ => by rw [hU])) (fun U f mk a hU => ex_call hU) (Nat.le_of_ble_eq_true rfl) ⟨(Nat.le_of_ble_eq_true rfl), (Nat.le_of_ble_eq_true rfl)⟩ ⟨(Nat.le_of_ble_eq_true rfl), (Nat.le_of_ble_eq_true rfl)⟩ d_D_secret_43
    · have e2 := z_t e2 ke2
      refine lv_aload_n hx hb d_D_secret_16 rfl (lv_at hl 0 rfl) ?_
      refine lv_iload_n hx hb d_D_secret_17 rfl (lv_at hl 3 rfl) ?_
      refine goI (runV C h [.int dd] [] (c_expo l D hG dd) vw_D_79 rfl hl.1 ⟨rfl, rfl⟩ hX.cell (fun U hU hW => hX.move hU hW) (fun U f mk a hU => XO.call hU f mk a) (Nat.le_of_ble_eq_true rfl) ⟨(Nat.le_of_ble_eq_true rfl), (Nat.le_of_ble_eq_true rfl)⟩ ⟨(Nat.le_of_ble_eq_true rfl), (Nat.le_of_ble_eq_true rfl)⟩ d_D_secret_18) (fun re3 e3 => ?_)
      refine lv_if_eq hx hb d_D_secret_21 rfl (fun ke3 => ?_) (fun ke3 => ?_)
      · have e3 := z_f e3 ke3
        refine lv_iconst (v := 0) hx hb d_D_secret_42 (by decide) ?_
        exact th_callS C hne [.int 0] [] (t_good l hfl) ⟨rfl, rfl⟩ sw_D_60 rfl hl.1 (fun U hU hW => ex_move hex hW (fun q _ => by rw [hU])) (fun U f mk a hU => ex_call hU) (Nat.le_of_ble_eq_true rfl) ⟨(Nat.le_of_ble_eq_true rfl), (Nat.le_of_ble_eq_true rfl)⟩ ⟨(Nat.le_of_ble_eq_true rfl), (Nat.le_of_ble_eq_true rfl)⟩ d_D_secret_43
      · have e3 := z_t e3 ke3
        refine lv_aload_n hx hb d_D_secret_24 rfl (lv_at hl 0 rfl) ?_
        refine lv_iload hx hb d_D_secret_25 (lv_at hl 4 rfl) ?_
        refine goI (runV C h [.int v] [] (c_expo l D hG v) vw_D_79 rfl hl.1 ⟨rfl, rfl⟩ hX.cell (fun U hU hW => hX.move hU hW) (fun U f mk a hU => XO.call hU f mk a) (Nat.le_of_ble_eq_true rfl) ⟨(Nat.le_of_ble_eq_true rfl), (Nat.le_of_ble_eq_true rfl)⟩ ⟨(Nat.le_of_ble_eq_true rfl), (Nat.le_of_ble_eq_true rfl)⟩ d_D_secret_27) (fun re4 e4 => ?_)
        refine lv_if_eq hx hb d_D_secret_30 rfl (fun ke4 => ?_) (fun ke4 => ?_)
        · have e4 := z_f e4 ke4
          refine lv_iconst (v := 0) hx hb d_D_secret_42 (by decide) ?_
          exact th_callS C hne [.int 0] [] (t_good l hfl) ⟨rfl, rfl⟩ sw_D_60 rfl hl.1 (fun U hU hW => ex_move hex hW (fun q _ => by rw [hU])) (fun U f mk a hU => ex_call hU) (Nat.le_of_ble_eq_true rfl) ⟨(Nat.le_of_ble_eq_true rfl), (Nat.le_of_ble_eq_true rfl)⟩ ⟨(Nat.le_of_ble_eq_true rfl), (Nat.le_of_ble_eq_true rfl)⟩ d_D_secret_43
        · have e4 := z_t e4 ke4
          refine lv_iload_n hx hb d_D_secret_33 rfl (lv_at hl 1 rfl) ?_
          refine lv_iload_n hx hb d_D_secret_34 rfl (lv_at hl 3 rfl) ?_
          refine lv_icmp_eq hx hb d_D_secret_35 rfl (fun h5 => ?_) (fun h5 => ?_)
          · refine lv_iconst (v := 0) hx hb d_D_secret_42 (by decide) ?_
            exact th_callS C hne [.int 0] [] (t_good l hfl) ⟨rfl, rfl⟩ sw_D_60 rfl hl.1 (fun U hU hW => ex_move hex hW (fun q _ => by rw [hU])) (fun U f mk a hU => ex_call hU) (Nat.le_of_ble_eq_true rfl) ⟨(Nat.le_of_ble_eq_true rfl), (Nat.le_of_ble_eq_true rfl)⟩ ⟨(Nat.le_of_ble_eq_true rfl), (Nat.le_of_ble_eq_true rfl)⟩ d_D_secret_43
          · exact absurd ⟨e1, e2, e3, e4, h5⟩ hbad
end
section
/-! the group: which p, q, g are taken; logarithms -/
theorem mr_P_of {n : Nat} (h : nt_P n) (hlt : n < 2 ^ 31) : mr_P n := by
  by_cases h2 : n = 2
  · exact Or.inl h2
  · have hn := h.1
    have hodd : n % 2 = 1 := by
      apply Classical.byContradiction
      intro hq
      have hd : 2 ∣ n := by omega
      rcases h.2 2 hd with h3 | h3 <;> omega
    exact Or.inr ⟨hodd, fun hb => mr_pass h hodd hlt (mr_ndvd (by decide) hb), fun hb => mr_pass h hodd hlt (mr_ndvd (by decide) hb), fun hb => mr_pass h hodd hlt (mr_ndvd (by decide) hb), fun hb => mr_pass h hodd hlt (mr_ndvd (by decide) hb)⟩
theorem mr_P_both {H : Nat} (h2 : 2 ≤ H) (hlt : H < 1073741824) (hH : mr_P H) (hP : mr_P (2 * H + 1)) : nt_P H ∧ nt_P (2 * H + 1) := by
  have hP' : (2 < 2 * H + 1 → mr_S (2 * H + 1) 2) ∧ (3 < 2 * H + 1 → mr_S (2 * H + 1) 3) ∧ (5 < 2 * H + 1 → mr_S (2 * H + 1) 5) ∧ (7 < 2 * H + 1 → mr_S (2 * H + 1) 7) := by
    rcases hP with h | ⟨-, h⟩
    · omega
    · exact h
  obtain ⟨p2, p3, p5, p7⟩ := hP'
  have hH1 : nt_P H := by
    rcases hH with h | ⟨ho, s2, s3, s5, s7⟩
    · subst h
      exact nt_P2
    · by_cases h7 : H ≤ 7
      · rcases (by omega : H = 3 ∨ H = 5 ∨ H = 7) with h | h | h <;> subst h
        · exact nt_P3
        · exact nt_P5
        · exact nt_P7
      · refine mr_main hlt (by omega) ho ?_ (s2 (by omega)) (s3 (by omega)) (s5 (by omega)) (s7 (by omega))
        have h3 := mr_coprime nt_P3 (by omega) (s3 (by omega))
        have h5 := mr_coprime nt_P5 (by omega) (s5 (by omega))
        have h7 := mr_coprime nt_P7 (by omega) (s7 (by omega))
        have q3 := mr_coprime nt_P3 (by omega) (p3 (by omega))
        have q5 := mr_coprime nt_P5 (by omega) (p5 (by omega))
        have q7 := mr_coprime nt_P7 (by omega) (p7 (by omega))
        refine mr_g105 (fun hd => ?_) (fun hd => ?_) (fun hd => ?_)
        · rcases nt_euclid nt_P3 hd with h | h
          · exact h3 h
          · exact q3 h
        · rcases nt_euclid nt_P5 hd with h | h
          · exact h5 h
          · exact q5 h
        · rcases nt_euclid nt_P7 hd with h | h
          · exact h7 h
          · exact q7 h
  refine ⟨hH1, ?_⟩
  by_cases h3 : 3 ≤ H
  · exact mr_pock hH1 rfl h3 (p2 (by omega)) (p3 (by omega))
  · have : H = 2 := by omega
    subst this
    exact nt_P5
/-- begin(P, G) takes them -/
theorem bg_iff {P G : Nat} (h5 : 5 ≤ P) (hlt : P < 2 ^ 31) (hodd : P % 2 = 1) (hG2 : 2 ≤ G) (hGP : G < P) : (mr_P (P / 2) ∧ mr_P P ∧ G ^ (P / 2) % P = 1) ↔ grp P (P / 2) G := by
  have e : P = 2 * (P / 2) + 1 := by omega
  constructor
  · rintro ⟨h1, h2, h3⟩
    have h2' : mr_P (2 * (P / 2) + 1) := by rw [← e]; exact h2
    obtain ⟨a, b⟩ := mr_P_both (by omega) (by omega) h1 h2'
    rw [← e] at b
    exact ⟨b, a, e, hG2, hGP, h3, hlt⟩
  · rintro ⟨h1, h2, h3, h4, h6, h7, h8⟩
    exact ⟨mr_P_of h2 (by omega), mr_P_of h1 hlt, h7⟩
theorem nt_cancel {p a b c : Nat} (hp : nt_P p) (hc : ¬ p ∣ c) (h : c * a % p = c * b % p) : a % p = b % p := by
  have key : ∀ a b : Nat, a ≤ b → c * a % p = c * b % p → a % p = b % p := by
    intro a b hab h
    have h1 : p ∣ c * (b - a) := by
      rw [Nat.mul_sub]
      exact Nat.dvd_of_mod_eq_zero (Nat.sub_mod_eq_zero_of_mod_eq h.symm)
    rcases nt_euclid hp h1 with h2 | ⟨t, ht⟩
    · exact absurd h2 hc
    · rw [show b = a + p * t by omega, Nat.add_mul_mod_self_left]
  rcases Nat.le_total a b with hab | hab
  · exact key a b hab h
  · exact (key b a hab h.symm).symm
theorem grp_pow_nd {p q g : Nat} (hG : grp p q g) (x : Nat) : ¬ p ∣ g ^ x := by
  intro hd
  have h1 := nt_euclid_pow hG.1 x hd
  have := Nat.le_of_dvd (by have := hG.2.2.2.1; omega) h1
  have := hG.2.2.2.2.1
  omega
theorem grp_one {p q g : Nat} (hG : grp p q g) {d : Nat} (h : g ^ d % p = 1) : q ∣ d := by
  have h1 := nt_pow_gcd _ _ h hG.2.2.2.2.2.1
  rcases hG.2.1.2 (Nat.gcd d q) (Nat.gcd_dvd_right d q) with h2 | h2
  · rw [h2, Nat.pow_one, Nat.mod_eq_of_lt hG.2.2.2.2.1] at h1
    have := hG.2.2.2.1
    omega
  · have := Nat.gcd_dvd_left d q
    rw [h2] at this
    exact this
theorem grp_inj {p q g : Nat} (hG : grp p q g) {x y : Nat} (h : g ^ x % p = g ^ y % p) : x % q = y % q := by
  have h1p : 1 % p = 1 := Nat.mod_eq_of_lt (by have := hG.nums; omega)
  have key : ∀ x y : Nat, x ≤ y → g ^ x % p = g ^ y % p → x % q = y % q := by
    intro x y hxy h
    have e : g ^ y = g ^ x * g ^ (y - x) := by rw [← Nat.pow_add]; congr 1; omega
    have h2 : g ^ x * 1 % p = g ^ x * g ^ (y - x) % p := by rw [Nat.mul_one, ← e]; exact h
    have h3 := nt_cancel hG.1 (grp_pow_nd hG x) h2
    obtain ⟨t, ht⟩ := grp_one hG (h3.symm.trans h1p)
    rw [show y = x + q * t by omega, Nat.add_mul_mod_self_left]
  rcases Nat.le_total x y with hxy | hxy
  · exact key x y hxy h
  · exact (key y x hxy h.symm).symm
theorem pigeon : ∀ (N : Nat) (f : Nat → Nat), (∀ i, i < N + 1 → f i < N) → ∃ i j, i < j ∧ j < N + 1 ∧ f i = f j
  | 0, f, h => by
    have := h 0 (by omega)
    omega
  | N + 1, f, h => by
    by_cases hx : ∃ i, i < N + 1 ∧ f i = f (N + 1)
    · obtain ⟨i, hi, he⟩ := hx
      exact ⟨i, N + 1, hi, by omega, he⟩
    · have hno : ∀ i, i < N + 1 → f i ≠ f (N + 1) := fun i hi he => hx ⟨i, hi, he⟩
      have hl := h (N + 1) (by omega)
      obtain ⟨i, j, hij, hj, he⟩ := pigeon N (fun i => if f i = N then f (N + 1) else f i) (fun i hi => by
        have h1 := h i (by omega)
        have h2 := hno i hi
        show (if f i = N then f (N + 1) else f i) < N
        split
        · omega
        · omega)
      have he : (if f i = N then f (N + 1) else f i) = (if f j = N then f (N + 1) else f j) := he
      have n1 := hno i (by omega)
      have n2 := hno j hj
      refine ⟨i, j, hij, by omega, ?_⟩
      split at he <;> split at he <;> omega
theorem grp_log {p q g : Nat} (hG : grp p q g) {y : Nat} (hy0 : 1 ≤ y) (hyp : y < p) (hy : y ^ q % p = 1) : ∃ z, z < q ∧ g ^ z % p = y := by
  obtain ⟨hp, hq, hpq, hg2, hgp, hgq, hlt⟩ := id hG
  have hq2 := hq.1
  have h1p : 1 % p = 1 := Nat.mod_eq_of_lt (by omega)
  by_cases hqe : q = 2
  · subst hqe
    have hp5 : p = 5 := by omega
    subst hp5
    have hg4 : g = 4 := by
      rcases (by omega : g = 2 ∨ g = 3 ∨ g = 4) with h | h | h <;> subst h
      · exact absurd hgq (by decide)
      · exact absurd hgq (by decide)
      · rfl
    subst hg4
    rcases (by omega : y = 1 ∨ y = 2 ∨ y = 3 ∨ y = 4) with h | h | h | h <;> subst h
    · exact ⟨0, by decide, by decide⟩
    · exact absurd hy (by decide)
    · exact absurd hy (by decide)
    · exact ⟨1, by decide, by decide⟩
  · have hqo : q % 2 = 1 := by
      apply Classical.byContradiction
      intro hc
      rcases hq.2 2 (by omega) with h | h <;> omega
    apply Classical.byContradiction
    intro hno
    have hy' : ¬ p ∣ y := mr_ndvd (by omega) hyp
    have neg : ∀ a : Nat, a ^ q % p = 1 → a % p ≠ p - 1 := by
      intro a ha he
      rw [Nat.pow_mod, he] at ha
      have e : (p - 1) ^ q % p = p - 1 := by
        obtain ⟨t, ht⟩ : ∃ t, q = 2 * t + 1 := ⟨q / 2, by omega⟩
        rw [ht, Nat.pow_succ, Nat.pow_mul, Nat.mul_mod, Nat.pow_mod, Nat.pow_two, nt_sq1 (by omega), Nat.one_pow, h1p, Nat.one_mul, Nat.mod_mod]
        exact Nat.mod_eq_of_lt (by omega)
      omega
    have gq : ∀ i, (g ^ i) ^ q % p = 1 := by
      intro i
      rw [← Nat.pow_mul, Nat.mul_comm, nt_pow_one hgq, h1p]
    have yg : ∀ i, (y * g ^ i) ^ q % p = 1 := by
      intro i
      rw [Nat.mul_pow, Nat.mul_mod, hy, gq, Nat.one_mul, h1p]
    have pos : ∀ a : Nat, ¬ p ∣ a → 1 ≤ a % p ∧ a % p < p := by
      intro a ha
      refine ⟨?_, Nat.mod_lt _ (by omega)⟩
      rcases Nat.eq_zero_or_pos (a % p) with h | h
      · exact absurd (Nat.dvd_of_mod_eq_zero h) ha
      · exact h
    have ynd : ∀ i, ¬ p ∣ y * g ^ i := by
      intro i hd
      rcases nt_euclid hp hd with h | h
      · exact hy' h
      · exact grp_pow_nd hG i h
    have inG : ∀ i j, i < q → j < q → g ^ i % p = y * g ^ j % p → False := by
      intro i j hi hj he
      apply hno
      refine ⟨(i + (q - j)) % q, Nat.mod_lt _ (by omega), ?_⟩
      rw [← nt_pow_red hgq, Nat.pow_add, Nat.mul_mod, he, ← Nat.mul_mod, Nat.mul_assoc, ← Nat.pow_add, show j + (q - j) = q by omega, Nat.mul_mod, hgq, Nat.mul_one, Nat.mod_mod]
      exact Nat.mod_eq_of_lt hyp
    obtain ⟨i, j, hij, hj, he⟩ := pigeon (2 * q) (fun i => if i < q then g ^ i % p - 1 else if i < 2 * q then y * g ^ (i - q) % p - 1 else p - 2) (fun i hi => by
      have a1 := pos _ (grp_pow_nd hG i)
      have a2 := pos _ (ynd (i - q))
      show (if i < q then g ^ i % p - 1 else if i < 2 * q then y * g ^ (i - q) % p - 1 else p - 2) < 2 * q
      split
      · omega
      · split <;> omega)
    have he : (if i < q then g ^ i % p - 1 else if i < 2 * q then y * g ^ (i - q) % p - 1 else p - 2) = (if j < q then g ^ j % p - 1 else if j < 2 * q then y * g ^ (j - q) % p - 1 else p - 2) := he
    have a1 := pos _ (grp_pow_nd hG i)
    have a2 := pos _ (ynd (i - q))
    have b1 := pos _ (grp_pow_nd hG j)
    have b2 := pos _ (ynd (j - q))
    by_cases c1 : i < q
    · rw [if_pos c1] at he
      by_cases c2 : j < q
      · rw [if_pos c2] at he
        have := grp_inj hG (x := i) (y := j) (by omega)
        rw [Nat.mod_eq_of_lt c1, Nat.mod_eq_of_lt c2] at this
        omega
      · rw [if_neg c2] at he
        by_cases c3 : j < 2 * q
        · rw [if_pos c3] at he
          exact inG i (j - q) c1 (by omega) (by omega)
        · rw [if_neg c3] at he
          exact neg _ (gq i) (by omega)
    · rw [if_neg c1, if_neg (show ¬ j < q by omega)] at he
      by_cases c2 : i < 2 * q
      · rw [if_pos c2] at he
        by_cases c3 : j < 2 * q
        · rw [if_pos c3] at he
          have h5 := nt_cancel hp hy' (show y * g ^ (i - q) % p = y * g ^ (j - q) % p by omega)
          have := grp_inj hG h5
          rw [Nat.mod_eq_of_lt (by omega), Nat.mod_eq_of_lt (by omega)] at this
          omega
        · rw [if_neg c3] at he
          exact neg _ (yg (i - q)) (by omega)
      · omega
/-- what feign rests on: q - c in place of -c -/
theorem feign_inv {p q g : Nat} (hG : grp p q g) {y c : Nat} (hy0 : 1 ≤ y) (hyp : y < p) (hy : y ^ q % p = 1) (hc : c < q) : inv_v (y ^ c % p) p = y ^ (q - c) % p := by
  have hp := hG.1
  have hn := hG.nums
  have hy' : ¬ p ∣ y := mr_ndvd (by omega) hyp
  have hnd : ¬ p ∣ y ^ c := fun hd => hy' (nt_euclid_pow hp c hd)
  have hnd2 : ¬ p ∣ y ^ c % p := by
    intro hd
    apply hnd
    have h1 := Nat.mod_lt (y ^ c) (show p > 0 by omega)
    rcases Nat.eq_zero_or_pos (y ^ c % p) with h | h
    · exact Nat.dvd_of_mod_eq_zero h
    · have := Nat.le_of_dvd h hd
      omega
  have hgcd : Nat.gcd (y ^ c % p) p = 1 := by
    rw [Nat.gcd_comm]
    rcases hp.2 _ (Nat.gcd_dvd_left p (y ^ c % p)) with h | h
    · exact h
    · have := Nat.gcd_dvd_right p (y ^ c % p)
      rw [h] at this
      exact absurd this hnd2
  have h1 := inv_ok (show 1 < p by omega) hgcd
  have h2 : y ^ c % p * (y ^ (q - c) % p) % p = 1 := by
    rw [← Nat.mul_mod, ← Nat.pow_add, show c + (q - c) = q by omega, hy]
  have h3 := nt_cancel hp hnd2 (h1.trans h2.symm)
  rw [Nat.mod_eq_of_lt (inv_lt (by omega)), Nat.mod_mod] at h3
  exact h3
end
section
/-! begin, and the constructor -/
def bgV (pp gg : Int32) : Prop := 5 ≤ pp.toInt ∧ 2 ≤ gg.toInt ∧ grp pp.toInt.toNat (pp.toInt.toNat / 2) gg.toInt.toNat
abbrev at_x (D : va_G) (A : Nat → Prop) (h n pl : Nat) (u : Nat × Nat × Nat) (t : State) : Prop := va_P D cl [xW h n pl u.1 u.2.1 u.2.2] t.heap ∧ va_K D cl [] t ∧ va_D A [xW h n pl u.1 u.2.1 u.2.2]
def bg_post (pp gg : Int32) (p q g : Nat) (r : Int32) (u : Nat × Nat × Nat) : Prop := (r = 1 ∧ bgV pp gg ∧ u = (pp.toInt.toNat, pp.toInt.toNat / 2, gg.toInt.toNat)) ∨ (r = 0 ∧ ¬ bgV pp gg ∧ u = (p, q, g))
set_option maxHeartbeats 4000000 in
/-- begin(pp, gg) -/
theorem c_begin (l : Launch) (D : va_G) {h n pl p q g sz : Nat} (pp gg : Int32) : Met l y_D_begin (.code y_D_begin b_D_begin 4 (some .boolean) :: tb) (rk 3) (va_Pc [.ref h, .int pp, .int gg] (fun U => U.heap.size = sz ∧ va_P D cl [xW h n pl p q g] U.heap ∧ va_K D cl [] U)) (va_Qi (bg_post pp gg p q g) (at_x D (va_A [xW h n pl p q g] sz) h n pl) (va_A [xW h n pl p q g] sz)) 0 0 (va_A [xW h n pl p q g] sz) := by
  refine mk_met (by decide) (Nat.le_of_ble_eq_true rfl) ?_
  intro p0 e s m below meth c ls C hnm hB hl
  generalize ([.ref h, .int pp, .int gg] : List Value).toArray = args at C ⊢
  obtain ⟨hx, hb, hml, hown, hts, hr, hlk⟩ := id C
  obtain ⟨hsz, hP, hK⟩ := hB
  subst hsz
  have hD : va_D (va_A [xW h n pl p q g] s.heap.size) [xW h n pl p q g] := va_D.self (A := fun _ => True) ⟨fun i j a b hi hj _ => by
    rcases i with _ | i <;> rcases j with _ | j <;> first | rfl | (simp at hi; done) | (simp at hj; done), fun _ _ _ => trivial⟩
  generalize hAe : va_A [xW h n pl p q g] s.heap.size = A at hD ⊢
  have hS : va_S A s.heap s.heap [] := va_S.rf
  have hl : lv_has ls 4 [(0, .ref h), (1, .int pp), (2, .int gg)] := hl
  refine lv_iload_n hx hb d_D_begin_0 rfl (lv_at hl 1 rfl) ?_
  refine lv_iconst (v := 5) hx hb d_D_begin_1 (by decide) ?_
  refine lv_icmp_lt hx hb d_D_begin_2 rfl (fun h1 => ?_) (fun h1 => ?_)
  · have hnv : ¬ bgV pp gg := by
      rintro ⟨q1, -, -⟩
      rw [Int32.lt_iff_toInt_lt] at h1
      have : (5 : Int32).toInt = 5 := rfl
      omega
    refine lv_iconst (v := 0) hx hb d_D_begin_22 (by decide) ?_
    exact W.zret hx hb hr (by decide +kernel) (fun t ht hW => ⟨⟨0, (p, q, g), rfl, Or.inr ⟨rfl, hnv, rfl⟩, by rw [ht]; exact hP, va_K.moved hW.alike hK, hD⟩, hS.F ht⟩) hS.2.2 d_D_begin_23 hlk
  · have h5 : 5 ≤ pp.toInt := by
      rw [Int32.lt_iff_toInt_lt] at h1
      have : (5 : Int32).toInt = 5 := rfl
      omega
    obtain ⟨P, hP31, rfl, hPi⟩ := nI_of_toInt (v := pp) (by omega)
    have hP5 : 5 ≤ P := by omega
    refine lv_iload_n hx hb d_D_begin_5 rfl (lv_at hl 1 rfl) ?_
    refine lv_iconst (v := 2) hx hb d_D_begin_6 (by decide) ?_
    refine lv_irem hx hb d_D_begin_7 (by decide) ?_
    rw [show ((nI P) - (nI P) / 2 * 2 : Int32) = nI (P % 2) from pk_rem (d := 2) hP31 (by decide) (by decide)]
    refine lv_if_eq hx hb d_D_begin_8 rfl (fun h2 => ?_) (fun h2 => ?_)
    · have hnv : ¬ bgV (nI P) gg := by
        have hev : P % 2 = 0 := (nI_eq (b := 0) (by omega) (by decide)).mp h2
        rintro ⟨-, -, q3⟩
        have := q3.2.2.1
        rw [hPi, Int.toNat_natCast] at this
        omega
      refine lv_iconst (v := 0) hx hb d_D_begin_22 (by decide) ?_
      exact W.zret hx hb hr (by decide +kernel) (fun t ht hW => ⟨⟨0, (p, q, g), rfl, Or.inr ⟨rfl, hnv, rfl⟩, by rw [ht]; exact hP, va_K.moved hW.alike hK, hD⟩, hS.F ht⟩) hS.2.2 d_D_begin_23 hlk
    · have hodd : P % 2 = 1 := by
        apply Classical.byContradiction
        intro hq
        exact h2 (by rw [show P % 2 = 0 by omega]; rfl)
      refine lv_iload_n hx hb d_D_begin_11 rfl (lv_at hl 2 rfl) ?_
      refine lv_iconst (v := 2) hx hb d_D_begin_12 (by decide) ?_
      refine lv_iload_n hx hb d_D_begin_13 rfl (lv_at hl 1 rfl) ?_
      refine lv_iconst (v := 1) hx hb d_D_begin_14 (by decide) ?_
      refine lv_isub hx hb d_D_begin_15 ?_
      rw [show ((nI P) - 1 : Int32) = nI (P - 1) from nI_m1 (by omega)]
      refine goI (runS C [.int gg, .int 2, .int (nI (P - 1))] [] (c_in l gg 2 (nI (P - 1))) sw_D_53 rfl hl.1 ⟨rfl, rfl⟩ (fun _ _ _ => trivial) (fun _ _ _ _ h => h) (Nat.le_of_ble_eq_true rfl) ⟨(Nat.le_of_ble_eq_true rfl), (Nat.le_of_ble_eq_true rfl)⟩ ⟨(Nat.le_of_ble_eq_true rfl), (Nat.le_of_ble_eq_true rfl)⟩ d_D_begin_16) (fun r hr => ?_)
      subst hr
      refine lv_if_ne hx hb d_D_begin_19 rfl (fun h3 => ?_) (fun h3 => ?_)
      · have h3 := in_v1.mp h3
        rw [nI_toInt (show P - 1 < 2 ^ 31 by omega), show (2 : Int32).toInt = 2 from rfl] at h3
        obtain ⟨G, hG31, rfl, hGi⟩ := nI_of_toInt (v := gg) (by omega)
        have hG2 : 2 ≤ G := by omega
        have hGP : G < P := by omega
        have hiff := bg_iff hP5 hP31 hodd hG2 hGP
        have hV : bgV (nI P) (nI G) ↔ grp P (P / 2) G := by
          rw [bgV, hPi, hGi, Int.toNat_natCast, Int.toNat_natCast]
          exact ⟨fun hq => hq.2.2, fun hq => ⟨by omega, by omega, hq⟩⟩
        refine lv_iload_n hx hb d_D_begin_24 rfl (lv_at hl 1 rfl) ?_
        refine lv_iconst (v := 2) hx hb d_D_begin_25 (by decide) ?_
        refine lv_idiv hx hb d_D_begin_26 (by decide) ?_
        rw [show ((nI P) / 2 : Int32) = nI (P / 2) from pk_div (d := 2) hP31 (by decide) (by decide)]
        refine lv_istore_n (lv' := [(3, .int (nI (P / 2))), (0, .ref h), (1, .int (nI P)), (2, .int (nI G))]) hx hb d_D_begin_27 rfl hl (Nat.le_of_ble_eq_true rfl) rfl (fun ls hl => ?_)
        refine lv_iload_n hx hb d_D_begin_28 rfl (lv_at hl 0 rfl) ?_
        refine goI (runS C [.int (nI (P / 2))] [] (c_prime l (n := P / 2) (by omega) (by omega)) sw_D_56 rfl hl.1 ⟨rfl, rfl⟩ (fun _ _ _ => trivial) (fun _ _ _ _ h => h) (Nat.le_of_ble_eq_true rfl) ⟨(Nat.le_of_ble_eq_true rfl), (Nat.le_of_ble_eq_true rfl)⟩ ⟨(Nat.le_of_ble_eq_true rfl), (Nat.le_of_ble_eq_true rfl)⟩ d_D_begin_29) (fun r1 z1 => ?_)
        refine lv_if_eq hx hb d_D_begin_32 rfl (fun kz1 => ?_) (fun kz1 => ?_)
        · have hnv : ¬ bgV (nI P) (nI G) := by
            intro hq
            exact z_f z1 kz1 (hiff.mpr (hV.mp hq)).1
          refine lv_iconst (v := 0) hx hb d_D_begin_53 (by decide) ?_
          exact W.zret hx hb hr (by decide +kernel) (fun t ht hW => ⟨⟨0, (p, q, g), rfl, Or.inr ⟨rfl, hnv, rfl⟩, by rw [ht]; exact hP, va_K.moved hW.alike hK, hD⟩, hS.F ht⟩) hS.2.2 d_D_begin_54 hlk
        · refine lv_iload_n hx hb d_D_begin_35 rfl (lv_at hl 2 rfl) ?_
          refine goI (runS C [.int (nI P)] [] (c_prime l (n := P) (by omega) hP31) sw_D_56 rfl hl.1 ⟨rfl, rfl⟩ (fun _ _ _ => trivial) (fun _ _ _ _ h => h) (Nat.le_of_ble_eq_true rfl) ⟨(Nat.le_of_ble_eq_true rfl), (Nat.le_of_ble_eq_true rfl)⟩ ⟨(Nat.le_of_ble_eq_true rfl), (Nat.le_of_ble_eq_true rfl)⟩ d_D_begin_36) (fun r2 z2 => ?_)
          refine lv_if_eq hx hb d_D_begin_39 rfl (fun kz2 => ?_) (fun kz2 => ?_)
          · have hnv : ¬ bgV (nI P) (nI G) := by
              intro hq
              exact z_f z2 kz2 (hiff.mpr (hV.mp hq)).2.1
            refine lv_iconst (v := 0) hx hb d_D_begin_53 (by decide) ?_
            exact W.zret hx hb hr (by decide +kernel) (fun t ht hW => ⟨⟨0, (p, q, g), rfl, Or.inr ⟨rfl, hnv, rfl⟩, by rw [ht]; exact hP, va_K.moved hW.alike hK, hD⟩, hS.F ht⟩) hS.2.2 d_D_begin_54 hlk
          · refine lv_iload_n hx hb d_D_begin_42 rfl (lv_at hl 3 rfl) ?_
            refine lv_iload_n hx hb d_D_begin_43 rfl (lv_at hl 0 rfl) ?_
            refine lv_i2l (v := lN (P / 2)) hx hb d_D_begin_44 (nI_l (by omega)) ?_
            refine lv_iload_n hx hb d_D_begin_45 rfl (lv_at hl 2 rfl) ?_
            refine goI (runS C [.int (nI G), .long (lN (P / 2)), .int (nI P)] [] (c_powS l (a := G) (ee := P / 2) (n := P) hG31 (by omega) (by omega) hP31) sw_D_39 rfl hl.1 ⟨rfl, rfl⟩ (fun _ _ _ => trivial) (fun _ _ _ _ h => h) (Nat.le_of_ble_eq_true rfl) ⟨(Nat.le_of_ble_eq_true rfl), (Nat.le_of_ble_eq_true rfl)⟩ ⟨(Nat.le_of_ble_eq_true rfl), (Nat.le_of_ble_eq_true rfl)⟩ d_D_begin_46) (fun r hr => ?_)
            subst hr
            refine lv_iconst (v := 1) hx hb d_D_begin_49 (by decide) ?_
            have hm := Nat.mod_lt (G ^ (P / 2)) (show P > 0 by omega)
            refine lv_icmp_eq hx hb d_D_begin_50 rfl (fun h4 => ?_) (fun h4 => ?_)
            · have hg1 : G ^ (P / 2) % P = 1 := (nI_eq (b := 1) (by omega) (by decide)).mp h4
              have hv : bgV (nI P) (nI G) := hV.mpr (hiff.mp ⟨z_t z1 kz1, z_t z2 kz2, hg1⟩)
              refine lv_aload_n hx hb d_D_begin_55 rfl (lv_at hl 1 rfl) ?_
              refine lv_iload_n hx hb d_D_begin_56 rfl (lv_at hl 2 rfl) ?_
              refine va_put (D := D) (ci := 0) (v := .int (nI P)) (ty := .int) (C := "ProofDesk") (T := F_D) (N := 5) hx hb hts in_D t_D t_D_ok n_D hown hK hP hD hS 0 rfl rfl 2 (by decide) (hts _ tk_20) (fun _ h9 => h9) rfl (by decide +kernel) rfl rfl (Nat.le_of_ble_eq_true rfl) d_D_begin_57 (fun H locs hP hD hS => ?_)
              refine lv_aload_n hx hb d_D_begin_60 rfl (lv_at hl 1 rfl) ?_
              refine lv_iload_n hx hb d_D_begin_61 rfl (lv_at hl 3 rfl) ?_
              refine va_put (D := D) (ci := 0) (v := .int (nI G)) (ty := .int) (C := "ProofDesk") (T := F_D) (N := 5) hx hb hts in_D t_D t_D_ok n_D hown hK hP hD hS 0 rfl rfl 4 (by decide) (hts _ tk_22) (fun _ h9 => h9) rfl (by decide +kernel) rfl rfl (Nat.le_of_ble_eq_true rfl) d_D_begin_62 (fun H locs hP hD hS => ?_)
              refine lv_aload_n hx hb d_D_begin_65 rfl (lv_at hl 1 rfl) ?_
              refine lv_iload_n hx hb d_D_begin_66 rfl (lv_at hl 0 rfl) ?_
              refine va_put (D := D) (ci := 0) (v := .int (nI (P / 2))) (ty := .int) (C := "ProofDesk") (T := F_D) (N := 5) hx hb hts in_D t_D t_D_ok n_D hown hK hP hD hS 0 rfl rfl 3 (by decide) (hts _ tk_21) (fun _ h9 => h9) rfl (by decide +kernel) rfl rfl (Nat.le_of_ble_eq_true rfl) d_D_begin_67 (fun H locs hP hD hS => ?_)
              have hP : va_P D cl [xW h n pl P (P / 2) G] H := hP
              have hD : va_D A [xW h n pl P (P / 2) G] := hD
              refine lv_iconst (v := 1) hx hb d_D_begin_70 (by decide) ?_
              exact W.zret hx hb hr (by decide +kernel) (fun t ht hW => ⟨⟨1, (P, P / 2, G), rfl, Or.inl ⟨rfl, hv, by rw [hPi, hGi, Int.toNat_natCast, Int.toNat_natCast]⟩, by rw [ht]; exact hP, va_K.moved hW.alike hK, hD⟩, hS.F ht⟩) hS.2.2 d_D_begin_71 hlk
            · have hnv : ¬ bgV (nI P) (nI G) := by
                intro hq
                exact h4 (by rw [(hiff.mpr (hV.mp hq)).2.2]; rfl)
              refine lv_iconst (v := 0) hx hb d_D_begin_53 (by decide) ?_
              exact W.zret hx hb hr (by decide +kernel) (fun t ht hW => ⟨⟨0, (p, q, g), rfl, Or.inr ⟨rfl, hnv, rfl⟩, by rw [ht]; exact hP, va_K.moved hW.alike hK, hD⟩, hS.F ht⟩) hS.2.2 d_D_begin_54 hlk
      · have hnv : ¬ bgV (nI P) gg := by
          have h3 := in_v0.mp h3
          rw [nI_toInt (show P - 1 < 2 ^ 31 by omega), show (2 : Int32).toInt = 2 from rfl] at h3
          rintro ⟨-, q2, q3⟩
          have := q3.2.2.2.2.1
          rw [hPi, Int.toNat_natCast] at this
          exact h3 ⟨q2, by omega⟩
        refine lv_iconst (v := 0) hx hb d_D_begin_22 (by decide) ?_
        exact W.zret hx hb hr (by decide +kernel) (fun t ht hW => ⟨⟨0, (p, q, g), rfl, Or.inr ⟨rfl, hnv, rfl⟩, by rw [ht]; exact hP, va_K.moved hW.alike hK, hD⟩, hS.F ht⟩) hS.2.2 d_D_begin_23 hlk
end
section
/-! the constructors -/
theorem one_D (A : Nat → Prop) (w : Nat × va_E) (h : A w.1) : va_D A [w] := ⟨fun i j a b hi hj _ => by
    rcases i with _ | i <;> rcases j with _ | j <;> first | rfl | (simp at hi; done) | (simp at hj; done), fun k q hk => by
    rcases k with _ | k
    · cases hk; exact h
    · simp at hk⟩
abbrev aZ (n : Nat) (cA : ClassId) (f : Nat → Int32) : Nat × va_E := (n, .inl (cA, 101, .inl f))
def at_xi (D : va_G) (A : Nat → Prop) (h : Nat) (_ : Unit) (t : State) : Prop := ∃ (n pl : Nat) (cA cB : ClassId), va_P D cl [xW h n pl 23 11 2, aZ n cA (fun _ => 0), aZ pl cB (fun _ => 0)] t.heap ∧ va_K D cl [(cA, .int), (cB, .int)] t ∧ va_D A [xW h n pl 23 11 2, aZ n cA (fun _ => 0), aZ pl cB (fun _ => 0)]
set_option maxHeartbeats 4000000 in
/-- ProofDesk() -/
theorem c_xinit (l : Launch) (D : va_G) {h sz : Nat} : Met l y_D_init (.code y_D_init b_D_init 1 none :: tb) ({ frames := 2, cells := 2, slots := 202, locals := 72 }) (va_Pc [.ref h] (fun U => U.heap.size = sz ∧ va_P D cl [(h, .inr (0, [.null, .null, .int 0, .int 0, .int 0]))] U.heap ∧ va_K D cl [] U)) (va_Qv (fun _ : Unit => True) (at_xi D (va_A [(h, .inr (0, [.null, .null, .int 0, .int 0, .int 0]))] sz) h) (va_A [(h, .inr (0, [.null, .null, .int 0, .int 0, .int 0]))] sz)) 2 202 (va_A [(h, .inr (0, [.null, .null, .int 0, .int 0, .int 0]))] sz) := by
  refine mk_met (by decide) (Nat.le_of_ble_eq_true rfl) ?_
  intro p0 e s m below meth c ls C hin hB hl
  generalize ([.ref h] : List Value).toArray = args at C ⊢
  obtain ⟨hx, hb, hml, hown, hts, hr, hlk⟩ := id C
  obtain ⟨hsz, hP, hK⟩ := hB
  subst hsz
  have hin : meth.name = "<init>" := hin
  have hD : va_D (va_A [(h, .inr (0, [.null, .null, .int 0, .int 0, .int 0]))] s.heap.size) [(h, .inr (0, [.null, .null, .int 0, .int 0, .int 0]))] := one_D _ _ (va_A.in (k := 0) rfl)
  generalize hAe : va_A [(h, .inr (0, [.null, .null, .int 0, .int 0, .int 0]))] s.heap.size = A at hD ⊢
  have hA : ∀ q : Nat, s.heap.size ≤ q → A q := fun q h => by rw [← hAe]; exact Or.inr h
  have hS : va_S A s.heap s.heap [] := va_S.rf
  have hl : lv_has ls 1 [(0, .ref h)] := hl
  refine lv_aload_n hx hb d_D_init_0 rfl (lv_at hl 0 rfl) ?_
  refine W.objInit hx hb hown (hts _ tk_15) (hts _ tk_16) (hts _ tk_17) rfl (by rw [hml]; exact hl.1) rfl d_D_init_1 (Nat.le_of_ble_eq_true rfl) (Nat.le_of_ble_eq_true rfl) ?_
  refine W.eq (g2 := F0 m 4 ls []) rfl ?_
  refine lv_aload_n hx hb d_D_init_4 rfl (lv_at hl 0 rfl) ?_
  refine lv_bipush (v := 101) hx hb d_D_init_5 (by decide) ?_
  refine va_newa (D := D) (atype := .int) (ty := .int) (N' := 101) (a0 := (101, .inl (fun _ => 0))) hx hb (hts _ tk_34) rfl hK hP hD hS hA (fun cA => rfl) (by decide) (by decide) (by decide) (by decide) (by decide) d_D_init_7 (fun n cA H hK hP hD hS => ?_)
  have hP : va_P D cl [(h, .inr (0, [.null, .null, .int 0, .int 0, .int 0])), aZ n cA (fun _ => 0)] H := hP
  have hD : va_D A [(h, .inr (0, [.null, .null, .int 0, .int 0, .int 0])), aZ n cA (fun _ => 0)] := hD
  have hK : va_K D cl [(cA, .int)] s := hK
  refine va_putF (D := D) (ci := 0) (v := .ref n) (ty := .array .int) (C := "ProofDesk") (T := F_D) (N := 5) hx hb hts in_D t_D t_D_ok n_D hown hK hP hD hS 0 rfl rfl 0 (by decide) (hts _ tk_18) (fun _ h9 => h9) rfl hin rfl (by decide +kernel) rfl rfl (Nat.le_of_ble_eq_true rfl) d_D_init_9 (fun H locs hP hD hS => ?_)
  have hP : va_P D cl [(h, .inr (0, [.ref n, .null, .int 0, .int 0, .int 0])), aZ n cA (fun _ => 0)] H := hP
  have hD : va_D A [(h, .inr (0, [.ref n, .null, .int 0, .int 0, .int 0])), aZ n cA (fun _ => 0)] := hD
  refine lv_aload_n hx hb d_D_init_12 rfl (lv_at hl 0 rfl) ?_
  refine lv_bipush (v := 101) hx hb d_D_init_13 (by decide) ?_
  refine va_newa (D := D) (atype := .int) (ty := .int) (N' := 101) (a0 := (101, .inl (fun _ => 0))) hx hb (hts _ tk_34) rfl hK hP hD hS hA (fun cA => rfl) (by decide) (by decide) (by decide) (by decide) (by decide) d_D_init_15 (fun pl cB H hK hP hD hS => ?_)
  have hP : va_P D cl [(h, .inr (0, [.ref n, .null, .int 0, .int 0, .int 0])), aZ n cA (fun _ => 0), aZ pl cB (fun _ => 0)] H := hP
  have hD : va_D A [(h, .inr (0, [.ref n, .null, .int 0, .int 0, .int 0])), aZ n cA (fun _ => 0), aZ pl cB (fun _ => 0)] := hD
  have hK : va_K D cl [(cA, .int), (cB, .int)] s := hK
  refine va_putF (D := D) (ci := 0) (v := .ref pl) (ty := .array .int) (C := "ProofDesk") (T := F_D) (N := 5) hx hb hts in_D t_D t_D_ok n_D hown hK hP hD hS 0 rfl rfl 1 (by decide) (hts _ tk_19) (fun _ h9 => h9) rfl hin rfl (by decide +kernel) rfl rfl (Nat.le_of_ble_eq_true rfl) d_D_init_17 (fun H locs hP hD hS => ?_)
  refine lv_aload_n hx hb d_D_init_20 rfl (lv_at hl 0 rfl) ?_
  refine lv_bipush (v := 23) hx hb d_D_init_21 (by decide) ?_
  refine va_put (D := D) (ci := 0) (v := .int 23) (ty := .int) (C := "ProofDesk") (T := F_D) (N := 5) hx hb hts in_D t_D t_D_ok n_D hown hK hP hD hS 0 rfl rfl 2 (by decide) (hts _ tk_20) (fun _ h9 => h9) rfl (by decide +kernel) rfl rfl (Nat.le_of_ble_eq_true rfl) d_D_init_23 (fun H locs hP hD hS => ?_)
  refine lv_aload_n hx hb d_D_init_26 rfl (lv_at hl 0 rfl) ?_
  refine lv_bipush (v := 11) hx hb d_D_init_27 (by decide) ?_
  refine va_put (D := D) (ci := 0) (v := .int 11) (ty := .int) (C := "ProofDesk") (T := F_D) (N := 5) hx hb hts in_D t_D t_D_ok n_D hown hK hP hD hS 0 rfl rfl 3 (by decide) (hts _ tk_21) (fun _ h9 => h9) rfl (by decide +kernel) rfl rfl (Nat.le_of_ble_eq_true rfl) d_D_init_29 (fun H locs hP hD hS => ?_)
  refine lv_aload_n hx hb d_D_init_32 rfl (lv_at hl 0 rfl) ?_
  refine lv_iconst (v := 2) hx hb d_D_init_33 (by decide) ?_
  refine va_put (D := D) (ci := 0) (v := .int 2) (ty := .int) (C := "ProofDesk") (T := F_D) (N := 5) hx hb hts in_D t_D t_D_ok n_D hown hK hP hD hS 0 rfl rfl 4 (by decide) (hts _ tk_22) (fun _ h9 => h9) rfl (by decide +kernel) rfl rfl (Nat.le_of_ble_eq_true rfl) d_D_init_34 (fun H locs hP hD hS => ?_)
  have hP : va_P D cl [xW h n pl 23 11 2, aZ n cA (fun _ => 0), aZ pl cB (fun _ => 0)] H := hP
  have hD : va_D A [xW h n pl 23 11 2, aZ n cA (fun _ => 0), aZ pl cB (fun _ => 0)] := hD
  exact W.vret hx hb hr (fun t ht hW => ⟨⟨(), rfl, trivial, n, pl, cA, cB, by rw [ht]; exact hP, va_K.moved hW.alike hK, hD⟩, hS.F ht⟩) hS.2.2 d_D_init_37 hlk
def at_mi (D : va_G) (A : Nat → Prop) (h : Nat) (_ : Unit) (t : State) : Prop := va_P D cl [mW h 0 23 11 2] t.heap ∧ va_K D cl [] t ∧ va_D A [mW h 0 23 11 2]
set_option maxHeartbeats 4000000 in
/-- ProofDeskModel() -/
theorem c_minit (l : Launch) (D : va_G) {h sz : Nat} : Met l y_M_init (.code y_M_init b_M_init 1 none :: tb) (rk 2) (va_Pc [.ref h] (fun U => U.heap.size = sz ∧ va_P D cl [(h, .inr (1, [.int 0, .long 0, .long 0, .long 0]))] U.heap ∧ va_K D cl [] U)) (va_Qv (fun _ : Unit => True) (at_mi D (va_A [(h, .inr (1, [.int 0, .long 0, .long 0, .long 0]))] sz) h) (va_A [(h, .inr (1, [.int 0, .long 0, .long 0, .long 0]))] sz)) 0 0 (va_A [(h, .inr (1, [.int 0, .long 0, .long 0, .long 0]))] sz) := by
  refine mk_met (by decide) (Nat.le_of_ble_eq_true rfl) ?_
  intro p0 e s m below meth c ls C hin hB hl
  generalize ([.ref h] : List Value).toArray = args at C ⊢
  obtain ⟨hx, hb, hml, hown, hts, hr, hlk⟩ := id C
  obtain ⟨hsz, hP, hK⟩ := hB
  subst hsz
  have hD : va_D (va_A [(h, .inr (1, [.int 0, .long 0, .long 0, .long 0]))] s.heap.size) [(h, .inr (1, [.int 0, .long 0, .long 0, .long 0]))] := one_D _ _ (va_A.in (k := 0) rfl)
  generalize hAe : va_A [(h, .inr (1, [.int 0, .long 0, .long 0, .long 0]))] s.heap.size = A at hD ⊢
  have hS : va_S A s.heap s.heap [] := va_S.rf
  have hl : lv_has ls 1 [(0, .ref h)] := hl
  refine lv_aload_n hx hb d_M_init_0 rfl (lv_at hl 0 rfl) ?_
  refine W.objInit hx hb hown (hts _ tk_227) (hts _ tk_16) (hts _ tk_17) rfl (by rw [hml]; exact hl.1) rfl d_M_init_1 (Nat.le_of_ble_eq_true rfl) (Nat.le_of_ble_eq_true rfl) ?_
  refine W.eq (g2 := F0 m 4 ls []) rfl ?_
  refine lv_aload_n hx hb d_M_init_4 rfl (lv_at hl 0 rfl) ?_
  refine lv_ldc2 hx hb hown (hts _ tk_228) d_M_init_5 ?_
  refine va_put (D := D) (ci := 1) (v := .long 23) (ty := .long) (C := "ProofDeskModel") (T := F_M) (N := 4) hx hb hts in_M t_M t_M_ok n_M hown hK hP hD hS 0 rfl rfl 1 (by decide) (hts _ tk_232) (fun _ h9 => h9) rfl (by decide +kernel) rfl rfl (Nat.le_of_ble_eq_true rfl) d_M_init_8 (fun H locs hP hD hS => ?_)
  refine lv_aload_n hx hb d_M_init_11 rfl (lv_at hl 0 rfl) ?_
  refine lv_ldc2 hx hb hown (hts _ tk_229) d_M_init_12 ?_
  refine va_put (D := D) (ci := 1) (v := .long 11) (ty := .long) (C := "ProofDeskModel") (T := F_M) (N := 4) hx hb hts in_M t_M t_M_ok n_M hown hK hP hD hS 0 rfl rfl 2 (by decide) (hts _ tk_233) (fun _ h9 => h9) rfl (by decide +kernel) rfl rfl (Nat.le_of_ble_eq_true rfl) d_M_init_15 (fun H locs hP hD hS => ?_)
  refine lv_aload_n hx hb d_M_init_18 rfl (lv_at hl 0 rfl) ?_
  refine lv_ldc2 hx hb hown (hts _ tk_230) d_M_init_19 ?_
  refine va_put (D := D) (ci := 1) (v := .long 2) (ty := .long) (C := "ProofDeskModel") (T := F_M) (N := 4) hx hb hts in_M t_M t_M_ok n_M hown hK hP hD hS 0 rfl rfl 3 (by decide) (hts _ tk_234) (fun _ h9 => h9) rfl (by decide +kernel) rfl rfl (Nat.le_of_ble_eq_true rfl) d_M_init_22 (fun H locs hP hD hS => ?_)
  have hP : va_P D cl [mW h 0 23 11 2] H := hP
  have hD : va_D A [mW h 0 23 11 2] := hD
  exact W.vret hx hb hr (fun t ht hW => ⟨⟨(), rfl, trivial, by rw [ht]; exact hP, va_K.moved hW.alike hK, hD⟩, hS.F ht⟩) hS.2.2 d_M_init_25 hlk
end
section
/-! the object with its two arrays -/
abbrev W3 (h n pl p q g : Nat) (cA cB : ClassId) (f f2 : Nat → Int32) : va_W := [xW h n pl p q g, aZ n cA f, aZ pl cB f2]
section A3
variable {p0 : Program} {l : Launch} {e : Env} {R : Room} {s : State} {m : MethodId} {args : Array Value} {below : List Frame} {meth : Method} {c : Code} {H H0 : Heap} {locs : List Loc} {cells slots : Nat} {Q : State → Prop} {A : Nat → Prop}
variable {cc : ByteArray} {pc nL : Nat} {ls : Array Slot} {ret : Option FieldType} {D : va_G} {h n pl p q g : Nat} {cA cB : ClassId} {f f2 : Nat → Int32} {rest : List Value}
theorem w3_n (C : CX p0 s args m meth c "ProofDesk" cc nL ret) (hK : va_K D cl [(cA, .int), (cB, .int)] s) (hP : va_P D cl (W3 h n pl p q g cA cB f f2) H) (hdg : decode cc pc = .ok (.getfield 9, 3))
    (kk : W p0 l e R s m args below meth c H locs cells slots Q (F0 m (pc + 3) ls (.ref n :: rest))) : W p0 l e R s m args below meth c H locs cells slots Q (F0 m pc ls (.ref h :: rest)) :=
  va_get (D := D) (ci := 0) (v := .ref n) C.1 C.2.1 C.2.2.2.2.1 in_D C.2.2.2.1 hK hP 0 rfl rfl 0 (by decide) (C.2.2.2.2.1 _ tk_18) (fun _ h9 => h9) rfl hdg kk
theorem w3_pl (C : CX p0 s args m meth c "ProofDesk" cc nL ret) (hK : va_K D cl [(cA, .int), (cB, .int)] s) (hP : va_P D cl (W3 h n pl p q g cA cB f f2) H) (hdg : decode cc pc = .ok (.getfield 13, 3))
    (kk : W p0 l e R s m args below meth c H locs cells slots Q (F0 m (pc + 3) ls (.ref pl :: rest))) : W p0 l e R s m args below meth c H locs cells slots Q (F0 m pc ls (.ref h :: rest)) :=
  va_get (D := D) (ci := 0) (v := .ref pl) C.1 C.2.1 C.2.2.2.2.1 in_D C.2.2.2.1 hK hP 0 rfl rfl 1 (by decide) (C.2.2.2.2.1 _ tk_19) (fun _ h9 => h9) rfl hdg kk
theorem w3_p (C : CX p0 s args m meth c "ProofDesk" cc nL ret) (hK : va_K D cl [(cA, .int), (cB, .int)] s) (hP : va_P D cl (W3 h n pl p q g cA cB f f2) H) (hdg : decode cc pc = .ok (.getfield 16, 3))
    (kk : W p0 l e R s m args below meth c H locs cells slots Q (F0 m (pc + 3) ls (.int (nI p) :: rest))) : W p0 l e R s m args below meth c H locs cells slots Q (F0 m pc ls (.ref h :: rest)) :=
  va_get (D := D) (ci := 0) (v := .int (nI p)) C.1 C.2.1 C.2.2.2.2.1 in_D C.2.2.2.1 hK hP 0 rfl rfl 2 (by decide) (C.2.2.2.2.1 _ tk_20) (fun _ h9 => h9) rfl hdg kk
theorem w3_q (C : CX p0 s args m meth c "ProofDesk" cc nL ret) (hK : va_K D cl [(cA, .int), (cB, .int)] s) (hP : va_P D cl (W3 h n pl p q g cA cB f f2) H) (hdg : decode cc pc = .ok (.getfield 20, 3))
    (kk : W p0 l e R s m args below meth c H locs cells slots Q (F0 m (pc + 3) ls (.int (nI q) :: rest))) : W p0 l e R s m args below meth c H locs cells slots Q (F0 m pc ls (.ref h :: rest)) :=
  va_get (D := D) (ci := 0) (v := .int (nI q)) C.1 C.2.1 C.2.2.2.2.1 in_D C.2.2.2.1 hK hP 0 rfl rfl 3 (by decide) (C.2.2.2.2.1 _ tk_21) (fun _ h9 => h9) rfl hdg kk
theorem w3_g (C : CX p0 s args m meth c "ProofDesk" cc nL ret) (hK : va_K D cl [(cA, .int), (cB, .int)] s) (hP : va_P D cl (W3 h n pl p q g cA cB f f2) H) (hdg : decode cc pc = .ok (.getfield 23, 3))
    (kk : W p0 l e R s m args below meth c H locs cells slots Q (F0 m (pc + 3) ls (.int (nI g) :: rest))) : W p0 l e R s m args below meth c H locs cells slots Q (F0 m pc ls (.ref h :: rest)) :=
  va_get (D := D) (ci := 0) (v := .int (nI g)) C.1 C.2.1 C.2.2.2.2.1 in_D C.2.2.2.1 hK hP 0 rfl rfl 4 (by decide) (C.2.2.2.2.1 _ tk_22) (fun _ h9 => h9) rfl hdg kk
theorem w3_rdn (C : CX p0 s args m meth c "ProofDesk" cc nL ret) (hK : va_K D cl [(cA, .int), (cB, .int)] s) (hP : va_P D cl (W3 h n pl p q g cA cB f f2) H) {i : Nat} (hi : i < 101) (hdg : decode cc pc = .ok (.iaload, 1))
    (kk : W p0 l e R s m args below meth c H locs cells slots Q (F0 m (pc + 1) ls (.int (f i) :: rest))) : W p0 l e R s m args below meth c H locs cells slots Q (F0 m pc ls (.int (nI i) :: .ref n :: rest)) := by
  refine va_iald C.1 C.2.1 hK hP 1 0 (cA := cA) (n := 101) (f := f) rfl rfl (vp_in_nI hi (by decide)) hdg ?_
  rw [nI_clamp (by omega)]
  exact kk
theorem w3_rdp (C : CX p0 s args m meth c "ProofDesk" cc nL ret) (hK : va_K D cl [(cA, .int), (cB, .int)] s) (hP : va_P D cl (W3 h n pl p q g cA cB f f2) H) {i : Nat} (hi : i < 101) (hdg : decode cc pc = .ok (.iaload, 1))
    (kk : W p0 l e R s m args below meth c H locs cells slots Q (F0 m (pc + 1) ls (.int (f2 i) :: rest))) : W p0 l e R s m args below meth c H locs cells slots Q (F0 m pc ls (.int (nI i) :: .ref pl :: rest)) := by
  refine va_iald C.1 C.2.1 hK hP 2 1 (cA := cB) (n := 101) (f := f2) rfl rfl (vp_in_nI hi (by decide)) hdg ?_
  rw [nI_clamp (by omega)]
  exact kk
theorem w3_stn (C : CX p0 s args m meth c "ProofDesk" cc nL ret) (hK : va_K D cl [(cA, .int), (cB, .int)] s) (hP : va_P D cl (W3 h n pl p q g cA cB f f2) H) (hD : va_D A (W3 h n pl p q g cA cB f f2)) (hS : va_S A H0 H locs) {i : Nat} {v : Int32} (hi : i < 101) (hdg : decode cc pc = .ok (.iastore, 1))
    (kk : ∀ (H1 : Heap) (locs1 : List Loc), va_P D cl (W3 h n pl p q g cA cB (upd f i v) f2) H1 → va_D A (W3 h n pl p q g cA cB (upd f i v) f2) → va_S A H0 H1 locs1 → W p0 l e R s m args below meth c H1 locs1 cells slots Q (F0 m (pc + 1) ls rest)) : W p0 l e R s m args below meth c H locs cells slots Q (F0 m pc ls (.int v :: .int (nI i) :: .ref n :: rest)) := by
  refine va_iast C.1 C.2.1 hK hP hD hS 1 0 (cA := cA) (n := 101) (f := f) rfl rfl (vp_in_nI hi (by decide)) hdg (fun H1 l1 a1 a2 a3 => ?_)
  rw [nI_clamp (by omega)] at a1 a2
  exact kk H1 l1 a1 a2 a3
theorem w3_stp (C : CX p0 s args m meth c "ProofDesk" cc nL ret) (hK : va_K D cl [(cA, .int), (cB, .int)] s) (hP : va_P D cl (W3 h n pl p q g cA cB f f2) H) (hD : va_D A (W3 h n pl p q g cA cB f f2)) (hS : va_S A H0 H locs) {i : Nat} {v : Int32} (hi : i < 101) (hdg : decode cc pc = .ok (.iastore, 1))
    (kk : ∀ (H1 : Heap) (locs1 : List Loc), va_P D cl (W3 h n pl p q g cA cB f (upd f2 i v)) H1 → va_D A (W3 h n pl p q g cA cB f (upd f2 i v)) → va_S A H0 H1 locs1 → W p0 l e R s m args below meth c H1 locs1 cells slots Q (F0 m (pc + 1) ls rest)) : W p0 l e R s m args below meth c H locs cells slots Q (F0 m pc ls (.int v :: .int (nI i) :: .ref pl :: rest)) := by
  refine va_iast C.1 C.2.1 hK hP hD hS 2 1 (cA := cB) (n := 101) (f := f2) rfl rfl (vp_in_nI hi (by decide)) hdg (fun H1 l1 a1 a2 a3 => ?_)
  rw [nI_clamp (by omega)] at a1 a2
  exact kk H1 l1 a1 a2 a3
end A3
def X3 (D : va_G) (h n pl p q g : Nat) (cA cB : ClassId) (f f2 : Nat → Int32) (U : State) : Prop := va_P D cl (W3 h n pl p q g cA cB f f2) U.heap ∧ va_K D cl [(cA, .int), (cB, .int)] U
theorem X3.one {D : va_G} {h n pl p q g : Nat} {cA cB : ClassId} {f f2 : Nat → Int32} {U : State} (hX : X3 D h n pl p q g cA cB f f2 U) : XO D h n pl p q g U :=
  ⟨hX.1.sub (ws' := [xW h n pl p q g]) [0] rfl, hX.2.sub (tys' := []) [] rfl⟩
theorem X3.call {D : va_G} {h n pl p q g : Nat} {cA cB : ClassId} {f f2 : Nat → Int32} {U : State} (hX : X3 D h n pl p q g cA cB f f2 U) (fr : JFrame) (mk : MethodId) (a : Array Value) : X3 D h n pl p q g cA cB f f2 (U.calling fr mk a) :=
  ⟨hX.1, va_K.moved (u := U) (U := U.calling fr mk a) (Vm.Alike.refl U.vm) hX.2⟩
/-! sorted pairs: insertion, and what is found -/
def bs_I (p g y : Nat) (a b : Nat → Nat) (k : Nat) : Prop := (∀ i, i < k → b i < k ∧ a i = y * g ^ b i % p) ∧ (∀ j, j < k → ∃ i, i < k ∧ a i = y * g ^ j % p) ∧ (∀ i j, i < j → j < k → a i ≤ a j)
def bs_A (a b : Nat → Nat) (k : Nat) (f f2 : Nat → Int32) : Prop := ∀ i, i < k → f i = nI (a i) ∧ f2 i = nI (b i)
def in_I (a b : Nat → Nat) (k i v : Nat) (f f2 : Nat → Int32) : Prop := i ≤ k ∧ (∀ t, t < i → f t = nI (a t) ∧ f2 t = nI (b t)) ∧ (∀ t, i < t → t ≤ k → f t = nI (a (t - 1)) ∧ f2 t = nI (b (t - 1)) ∧ v < a (t - 1))
theorem in_I0 {a b : Nat → Nat} {k v : Nat} {f f2 : Nat → Int32} (h : bs_A a b k f f2) : in_I a b k k v f f2 := ⟨Nat.le_refl k, h, fun t h1 h2 => by omega⟩
theorem upd_at {f : Nat → Int32} {i : Nat} {v : Int32} : upd f i v i = v := pk_us
theorem upd_ne {f : Nat → Int32} {i j : Nat} {v : Int32} (h : j ≠ i) : upd f i v j = f j := pk_un h
theorem in_Is {a b : Nat → Nat} {k i v : Nat} {f f2 : Nat → Int32} (h : in_I a b k (i + 1) v f f2) (hv : v < a i) : in_I a b k i v (upd f (i + 1) (f i)) (upd f2 (i + 1) (f2 i)) := by
  obtain ⟨h1, h2, h3⟩ := h
  refine ⟨by omega, fun t ht => ?_, fun t ht hk => ?_⟩
  · rw [upd_ne (by omega), upd_ne (by omega)]
    exact h2 t (by omega)
  · by_cases e : t = i + 1
    · subst e
      rw [upd_at, upd_at]
      have := h2 i (by omega)
      exact ⟨this.1, this.2, hv⟩
    · rw [upd_ne e, upd_ne e]
      exact h3 t (by omega) hk
def ins_a (a : Nat → Nat) (i v : Nat) : Nat → Nat := fun t => if t < i then a t else if t = i then v else a (t - 1)
theorem in_Ie {a b : Nat → Nat} {p g y k i v : Nat} {f f2 : Nat → Int32} (hI : bs_I p g y a b k) (h : in_I a b k i v f f2) (hv : v = y * g ^ k % p) (hi : i = 0 ∨ a (i - 1) ≤ v) :
    bs_I p g y (ins_a a i v) (ins_a b i k) (k + 1) ∧ bs_A (ins_a a i v) (ins_a b i k) (k + 1) (upd f i (nI v)) (upd f2 i (nI k)) := by
  obtain ⟨h1, h2, h3⟩ := h
  obtain ⟨i1, i2, i3⟩ := hI
  have lo : ∀ t, t < i → a t ≤ v := by
    intro t ht
    rcases hi with hi | hi
    · omega
    · by_cases e : t = i - 1
      · subst e; exact hi
      · exact Nat.le_trans (i3 t (i - 1) (by omega) (by omega)) hi
  have hiA : ∀ t, i ≤ t → t < k → v < a t := fun t ha hb => by
    have := (h3 (t + 1) (by omega) (by omega)).2.2
    rwa [show t + 1 - 1 = t by omega] at this
  have ea : ∀ (u : Nat → Nat) (w t : Nat), t < i → ins_a u i w t = u t := fun u w t ht => by unfold ins_a; rw [if_pos ht]
  have eb : ∀ (u : Nat → Nat) (w : Nat), ins_a u i w i = w := fun u w => by unfold ins_a; rw [if_neg (by omega), if_pos rfl]
  have ec : ∀ (u : Nat → Nat) (w t : Nat), i < t → ins_a u i w t = u (t - 1) := fun u w t ht => by unfold ins_a; rw [if_neg (by omega), if_neg (by omega)]
  refine ⟨⟨fun t ht => ?_, fun j hj => ?_, fun t j htj hj => ?_⟩, fun t ht => ?_⟩
  · rcases Nat.lt_trichotomy t i with h | h | h
    · rw [ea _ _ _ h, ea _ _ _ h]
      have := i1 t (by omega)
      exact ⟨by omega, this.2⟩
    · subst h
      rw [eb, eb]
      exact ⟨by omega, hv⟩
    · rw [ec _ _ _ h, ec _ _ _ h]
      have := i1 (t - 1) (by omega)
      exact ⟨by omega, this.2⟩
  · by_cases e : j = k
    · subst e
      exact ⟨i, by omega, by rw [eb, hv]⟩
    · obtain ⟨t, ht, he⟩ := i2 j (by omega)
      by_cases hti : t < i
      · exact ⟨t, by omega, by rw [ea _ _ _ hti]; exact he⟩
      · exact ⟨t + 1, by omega, by rw [ec _ _ _ (by omega), show t + 1 - 1 = t by omega]; exact he⟩
  · rcases Nat.lt_trichotomy j i with h | h | h
    · rw [ea _ _ _ h, ea _ _ _ (by omega)]
      exact i3 t j htj (by omega)
    · subst h
      rw [eb, ea _ _ _ htj]
      exact lo t htj
    · rw [ec _ _ _ h]
      rcases Nat.lt_trichotomy t i with h4 | h4 | h4
      · rw [ea _ _ _ h4]
        have q1 := lo t h4
        have q2 := hiA (j - 1) (by omega) (by omega)
        omega
      · subst h4
        rw [eb]
        exact Nat.le_of_lt (hiA (j - 1) (by omega) (by omega))
      · rw [ec _ _ _ h4]
        exact i3 (t - 1) (j - 1) (by omega) (by omega)
  · rcases Nat.lt_trichotomy t i with h | h | h
    · rw [ea _ _ _ h, ea _ _ _ h, upd_ne (by omega), upd_ne (by omega)]
      exact h2 t h
    · subst h
      rw [eb, eb, upd_at, upd_at]
      exact ⟨rfl, rfl⟩
    · rw [ec _ _ _ h, ec _ _ _ h, upd_ne (by omega), upd_ne (by omega)]
      have := h3 t h (by omega)
      exact ⟨this.1, this.2.1⟩
end
section
/-! find and log -/
set_option maxHeartbeats 4000000 in
/-- find(many, v): where v stands among the first 'many' of near, which are sorted -/
theorem c_find (l : Launch) (D : va_G) {h n pl p q g : Nat} {cA cB : ClassId} {f f2 : Nat → Int32} (a : Nat → Nat) {many v : Nat} (hmany : many ≤ 100) (hv : v < 2 ^ 31) (ha : ∀ i, i < many → f i = nI (a i) ∧ a i < 2 ^ 31) (hs : ∀ i j, i < j → j < many → a i ≤ a j) : Met l y_D_find (.code y_D_find b_D_find 6 (some .int) :: tb) (rk 0) (va_Pc [.ref h, .int (nI many), .int (nI v)] (fun U => X3 D h n pl p q g cA cB f f2 U)) (QI (fun r => (∃ i, i < many ∧ r = nI i ∧ a i = v) ∨ (r = -1 ∧ ∀ i, i < many → a i ≠ v))) 0 0 nf := by
  refine mk_met (by decide) (Nat.le_of_ble_eq_true rfl) ?_
  intro p0 e s m below meth c ls C hnm hB hl
  generalize ([.ref h, .int (nI many), .int (nI v)] : List Value).toArray = args at C ⊢
  obtain ⟨hx, hb, hml, hown, hts, hr, hlk⟩ := id C
  obtain ⟨hP, hK⟩ := hB
  have hl : lv_has ls 6 [(0, .ref h), (1, .int (nI many)), (2, .int (nI v))] := hl
  have loop : ∀ (d lo hi : Nat) (ls : Array Slot), hi - lo = d → lo ≤ hi → hi ≤ many → (∀ i, i < lo → a i < v) → (∀ i, hi ≤ i → i < many → v ≤ a i) → lv_has ls 6 [(0, .ref h), (1, .int (nI many)), (2, .int (nI v)), (3, .int (nI lo)), (4, .int (nI hi))] → W p0 l e (rk 0) s m args below meth c s.heap [] 0 0 (MQ below (QI (fun r => (∃ i, i < many ∧ r = nI i ∧ a i = v) ∨ (r = -1 ∧ ∀ i, i < many → a i ≠ v))) args s 0 0 nf) (F0 m 5 ls []) := by
    intro d
    induction d using Nat.strongRecOn with
    | _ d ih =>
      intro lo hi ls hd hlh hhm hlo hhi hl
      refine lv_iload_n hx hb d_D_find_5 rfl (lv_at hl 3 rfl) ?_
      refine lv_iload hx hb d_D_find_6 (lv_at hl 4 rfl) ?_
      refine lv_icmp_ge hx hb d_D_find_8 rfl (fun h1 => ?_) (fun h1 => ?_)
      · have hle : hi ≤ lo := (nI_leI (by omega) (by omega)).mp h1
        have hlh2 : lo = hi := by omega
        refine lv_iload_n hx hb d_D_find_45 rfl (lv_at hl 3 rfl) ?_
        refine lv_iload_n hx hb d_D_find_46 rfl (lv_at hl 1 rfl) ?_
        refine lv_icmp_ge hx hb d_D_find_47 rfl (fun h2 => ?_) (fun h2 => ?_)
        · have hml2 : many ≤ lo := (nI_leI (by omega) (by omega)).mp h2
          refine lv_iconst (v := (-1)) hx hb d_D_find_64 (by decide) ?_
          refine rI C d_D_find_65 (Or.inr ⟨rfl, fun i hi2 => ?_⟩)
          have := hlo i (by omega)
          omega
        · have hlm : lo < many := by
            apply Classical.byContradiction
            intro hq
            exact h2 ((nI_leI (by omega) (by omega)).mpr (by omega))
          have hal := ha lo hlm
          refine lv_aload_n hx hb d_D_find_50 rfl (lv_at hl 0 rfl) ?_
          refine w3_n C hK hP d_D_find_51 ?_
          refine lv_iload_n hx hb d_D_find_54 rfl (lv_at hl 3 rfl) ?_
          refine w3_rdn C hK hP (i := lo) (by omega) d_D_find_55 ?_
          rw [show (f lo : Int32) = nI (a lo) from hal.1]
          refine lv_iload_n hx hb d_D_find_56 rfl (lv_at hl 2 rfl) ?_
          refine lv_icmp_ne hx hb d_D_find_57 rfl (fun h3 => ?_) (fun h3 => ?_)
          · refine lv_iconst (v := (-1)) hx hb d_D_find_64 (by decide) ?_
            refine rI C d_D_find_65 (Or.inr ⟨rfl, fun i hi2 he => ?_⟩)
            have q1 : a lo ≠ v := fun hq => h3 (by rw [hq])
            have q2 := hhi lo (by omega) hlm
            by_cases hil : i < lo
            · have := hlo i hil
              omega
            · by_cases hil2 : i = lo
              · subst hil2
                exact q1 he
              · have := hs lo i (by omega) hi2
                omega
          · refine lv_iload_n hx hb d_D_find_60 rfl (lv_at hl 3 rfl) ?_
            refine lv_goto hx hb d_D_find_61 rfl ?_
            exact rI C d_D_find_65 (Or.inl ⟨lo, hlm, rfl, (nI_eq hal.2 hv).mp h3⟩)
      · have hlt : lo < hi := by
          apply Classical.byContradiction
          intro hq
          exact h1 ((nI_leI (by omega) (by omega)).mpr (by omega))
        have ham := ha ((lo + hi) / 2) (by omega)
        refine lv_iload_n hx hb d_D_find_11 rfl (lv_at hl 3 rfl) ?_
        refine lv_iload hx hb d_D_find_12 (lv_at hl 4 rfl) ?_
        refine lv_iadd hx hb d_D_find_14 ?_
        rw [show ((nI lo) + (nI hi) : Int32) = nI (lo + hi) from nI_add _ _]
        refine lv_iconst (v := 1) hx hb d_D_find_15 (by decide) ?_
        refine lv_ishr hx hb d_D_find_16 ?_
        rw [show ((nI (lo + hi)) >>> (1 &&& 31) : Int32) = nI ((lo + hi) / 2) from pk_shrN (k := 1) (by omega) _ (by decide)]
        refine lv_istore (lv' := [(5, .int (nI ((lo + hi) / 2))), (0, .ref h), (1, .int (nI many)), (2, .int (nI v)), (3, .int (nI lo)), (4, .int (nI hi))]) hx hb d_D_find_17 hl (Nat.le_of_ble_eq_true rfl) rfl (fun ls hl => ?_)
        refine lv_aload_n hx hb d_D_find_19 rfl (lv_at hl 1 rfl) ?_
        refine w3_n C hK hP d_D_find_20 ?_
        refine lv_iload hx hb d_D_find_23 (lv_at hl 0 rfl) ?_
        refine w3_rdn C hK hP (i := (lo + hi) / 2) (by omega) d_D_find_25 ?_
        rw [show (f ((lo + hi) / 2) : Int32) = nI (a ((lo + hi) / 2)) from ham.1]
        refine lv_iload_n hx hb d_D_find_26 rfl (lv_at hl 3 rfl) ?_
        refine lv_icmp_ge hx hb d_D_find_27 rfl (fun h2 => ?_) (fun h2 => ?_)
        · have hva : v ≤ a ((lo + hi) / 2) := (nI_leI hv ham.2).mp h2
          refine lv_iload hx hb d_D_find_38 (lv_at hl 0 rfl) ?_
          refine lv_istore (lv' := [(4, .int (nI ((lo + hi) / 2))), (5, .int (nI ((lo + hi) / 2))), (0, .ref h), (1, .int (nI many)), (2, .int (nI v)), (3, .int (nI lo))]) hx hb d_D_find_40 hl (Nat.le_of_ble_eq_true rfl) rfl (fun ls hl => ?_)
          refine lv_goto hx hb d_D_find_42 rfl ?_
          have hl := lv_sub hl [2, 3, 4, 5, 0] rfl
          have hl : lv_has ls 6 [(0, .ref h), (1, .int (nI many)), (2, .int (nI v)), (3, .int (nI lo)), (4, .int (nI ((lo + hi) / 2)))] := hl
          refine ih ((lo + hi) / 2 - lo) (by omega) lo ((lo + hi) / 2) ls rfl (by omega) (by omega) hlo (fun i hi1 hi2 => ?_) hl
          by_cases hq : i = (lo + hi) / 2
          · rw [hq]; exact hva
          · have := hs ((lo + hi) / 2) i (by omega) hi2
            omega
        · have hva : a ((lo + hi) / 2) < v := by
            apply Classical.byContradiction
            intro hq
            exact h2 ((nI_leI hv ham.2).mpr (by omega))
          refine lv_iload hx hb d_D_find_30 (lv_at hl 0 rfl) ?_
          refine lv_iconst (v := 1) hx hb d_D_find_32 (by decide) ?_
          refine lv_iadd hx hb d_D_find_33 ?_
          rw [show ((nI ((lo + hi) / 2)) + 1 : Int32) = nI ((lo + hi) / 2 + 1) from nI_1 _]
          refine lv_istore_n (lv' := [(3, .int (nI ((lo + hi) / 2 + 1))), (5, .int (nI ((lo + hi) / 2))), (0, .ref h), (1, .int (nI many)), (2, .int (nI v)), (4, .int (nI hi))]) hx hb d_D_find_34 rfl hl (Nat.le_of_ble_eq_true rfl) rfl (fun ls hl => ?_)
          refine lv_goto hx hb d_D_find_35 rfl ?_
          refine lv_goto hx hb d_D_find_42 rfl ?_
          have hl := lv_sub hl [2, 3, 4, 0, 5] rfl
          have hl : lv_has ls 6 [(0, .ref h), (1, .int (nI many)), (2, .int (nI v)), (3, .int (nI ((lo + hi) / 2 + 1))), (4, .int (nI hi))] := hl
          refine ih (hi - ((lo + hi) / 2 + 1)) (by omega) ((lo + hi) / 2 + 1) hi ls rfl (by omega) hhm (fun i hi1 => ?_) hhi hl
          by_cases hq : i = (lo + hi) / 2
          · rw [hq]; exact hva
          · have := hs i ((lo + hi) / 2) (by omega) (by omega)
            omega
  refine lv_iconst (v := 0) hx hb d_D_find_0 (by decide) ?_
  refine lv_istore_n (lv' := [(3, .int 0), (0, .ref h), (1, .int (nI many)), (2, .int (nI v))]) hx hb d_D_find_1 rfl hl (Nat.le_of_ble_eq_true rfl) rfl (fun ls hl => ?_)
  refine lv_iload_n hx hb d_D_find_2 rfl (lv_at hl 2 rfl) ?_
  refine lv_istore (lv' := [(4, .int (nI many)), (3, .int 0), (0, .ref h), (1, .int (nI many)), (2, .int (nI v))]) hx hb d_D_find_3 hl (Nat.le_of_ble_eq_true rfl) rfl (fun ls hl => ?_)
  have hl := lv_sub hl [2, 3, 4, 1, 0] rfl
  have hl : lv_has ls 6 [(0, .ref h), (1, .int (nI many)), (2, .int (nI v)), (3, .int (nI 0)), (4, .int (nI many))] := hl
  exact loop many 0 many ls (by omega) (by omega) (Nat.le_refl _) (fun i hi => by omega) (fun i h1 h2 => by omega) hl
end
section
theorem nI_nm1 {i : Nat} (h : i < 2 ^ 31) : ¬ nI i = -1 := by
  intro hq
  have h1 := nI_toInt h
  rw [hq] at h1
  have : (-1 : Int32).toInt = -1 := by decide
  omega
theorem bs_ans {p q g : Nat} (hG : grp p q g) {x0 y b K : Nat} (hx0 : x0 < q) (hy : g ^ x0 % p = y) (h : y * g ^ b % p = g ^ K % p) : (((K : Int) - (b : Int)) % (q : Int)).toNat = x0 := by
  have h1 : g ^ (x0 + b) % p = g ^ K % p := by
    rw [← h, ← hy, Nat.pow_add, Nat.mod_mul_mod]
  have h2 := grp_inj hG h1
  have h3 : ((x0 + b : Nat) : Int) % (q : Int) = ((K : Nat) : Int) % (q : Int) := by
    rw [← Int.natCast_emod, ← Int.natCast_emod, h2]
  have h4 : ((K : Int) - (b : Int)) % (q : Int) = (x0 : Int) % (q : Int) := by
    have h5 := Int.emod_emod_of_dvd
    apply Int.emod_eq_emod_iff_emod_sub_eq_zero.mpr
    have h6 := Int.emod_eq_emod_iff_emod_sub_eq_zero.mp h3.symm
    rw [show (K : Int) - (b : Int) - (x0 : Int) = (K : Int) - ((x0 + b : Nat) : Int) by push_cast; omega]
    exact h6
  rw [h4, Int.emod_eq_of_lt (by omega) (by omega), Int.toNat_natCast]
theorem bs_hit {p q g : Nat} (hG : grp p q g) {x0 y ww : Nat} {a b : Nat → Nat} (hw : 1 ≤ ww) (hx0 : x0 < q) (hy : g ^ x0 % p = y) (hI : bs_I p g y a b ww) : ∃ i, i < ww ∧ a i = g ^ ((x0 + ww - 1) / ww * ww) % p := by
  have h1 : (x0 + ww - 1) / ww * ww ≤ x0 + ww - 1 := Nat.div_mul_le_self _ _
  have h2 : x0 + ww - 1 < ((x0 + ww - 1) / ww + 1) * ww := by
    rw [Nat.add_mul, Nat.one_mul]
    have q1 := Nat.div_add_mod (x0 + ww - 1) ww
    have q2 := Nat.mod_lt (x0 + ww - 1) (show ww > 0 by omega)
    rw [Nat.mul_comm] at q1
    omega
  rw [Nat.add_mul, Nat.one_mul] at h2
  obtain ⟨i, hi, he⟩ := hI.2.1 ((x0 + ww - 1) / ww * ww - x0) (by omega)
  refine ⟨i, hi, ?_⟩
  rw [he, ← hy, Nat.mod_mul_mod, ← Nat.pow_add]
  congr 2
  omega
theorem bs_k0 {q x0 ww : Nat} (hw : 1 ≤ ww) (hx0 : x0 < q) : (x0 + ww - 1) / ww ≤ q / ww + 1 := by
  have h1 : (x0 + ww - 1) / ww ≤ (q + ww) / ww := Nat.div_le_div_right (by omega)
  rw [Nat.add_div_right _ (by omega)] at h1
  exact h1
end
section
/-! log -/
set_option maxHeartbeats 8000000 in
/-- log(y): the number below q to which g gives y -/
theorem c_log (l : Launch) (D : va_G) {h n pl p q g sz : Nat} {cA cB : ClassId} {f0 f20 : Nat → Int32} (hG : grp p q g) (hp2 : p ≤ 20000) {y : Nat} (hy0 : 1 ≤ y) (hyp : y < p) (hyq : y ^ q % p = 1) : Met l y_D_log (.code y_D_log b_D_log 9 (some .int) :: tb) (rk 3) (va_Pc [.ref h, .int (nI y)] (fun U => U.heap.size = sz ∧ X3 D h n pl p q g cA cB f0 f20 U ∧ va_D (fun _ => True) (W3 h n pl p q g cA cB f0 f20))) (va_Qi (fun r (_ : (Nat → Int32) × (Nat → Int32)) => ∃ z, z < q ∧ g ^ z % p = y ∧ r = nI z) (fun u t => va_P D cl (W3 h n pl p q g cA cB u.1 u.2) t.heap ∧ va_K D cl [(cA, .int), (cB, .int)] t ∧ va_D (va_A (W3 h n pl p q g cA cB f0 f20) sz) (W3 h n pl p q g cA cB u.1 u.2)) (va_A (W3 h n pl p q g cA cB f0 f20) sz)) 0 0 (va_A (W3 h n pl p q g cA cB f0 f20) sz) := by
  refine mk_met (by decide) (Nat.le_of_ble_eq_true rfl) ?_
  intro p0 e s m below meth c ls C hnm hB hl
  generalize ([.ref h, .int (nI y)] : List Value).toArray = args at C ⊢
  obtain ⟨hx, hb, hml, hown, hts, hr, hlk⟩ := id C
  obtain ⟨g5, g31, gq, gqp, ggp, gg2⟩ := hG.nums
  have gq2 := hG.2.2.1
  obtain ⟨hsz, ⟨hP, hK⟩, hD0⟩ := hB
  subst hsz
  have hX : XO D h n pl p q g s := X3.one (cA := cA) (cB := cB) (f := f0) (f2 := f20) ⟨hP, hK⟩
  have hD := hD0.self (sz := s.heap.size)
  generalize hAe : va_A (W3 h n pl p q g cA cB f0 f20) s.heap.size = A at hD ⊢
  have hS : va_S A s.heap s.heap [] := va_S.rf
  obtain ⟨x0, hx0, hgx⟩ := grp_log hG hy0 hyp hyq
  have hl : lv_has ls 9 [(0, .ref h), (1, .int (nI y))] := hl
  have K181 : ∀ (ww : Nat) (a b : Nat → Nat) (f f2 : Nat → Int32) (H : Heap) (locs : List Loc), 1 ≤ ww → ww ≤ 100 → bs_I p g y a b ww → bs_A a b ww f f2 → va_P D cl (W3 h n pl p q g cA cB f f2) H → va_D A (W3 h n pl p q g cA cB f f2) → va_S A s.heap H locs → ∀ (d k : Nat) (ls : Array Slot), (x0 + ww - 1) / ww - k = d → k ≤ (x0 + ww - 1) / ww → lv_has ls 9 [(0, .ref h), (1, .int (nI y)), (2, .int (nI ww)), (3, .int (nI ww)), (5, .int (nI (g ^ ww % p))), (6, .int (nI (g ^ (k * ww) % p))), (7, .int (nI k))] → W p0 l e (rk 3) s m args below meth c H locs 0 0 (MQ below (va_Qi (fun r (_ : (Nat → Int32) × (Nat → Int32)) => ∃ z, z < q ∧ g ^ z % p = y ∧ r = nI z) (fun u t => va_P D cl (W3 h n pl p q g cA cB u.1 u.2) t.heap ∧ va_K D cl [(cA, .int), (cB, .int)] t ∧ va_D (A) (W3 h n pl p q g cA cB u.1 u.2)) A) args s 0 0 A) (F0 m 181 ls []) := by
    intro ww a b f f2 H locs hw1 hw2 hI hA hP hD hS d
    induction d with
    | zero =>
      intro k ls hd hk hl
      have hk0 := bs_k0 (q := q) hw1 hx0
      have hqw : q / ww ≤ q := Nat.div_le_self _ _
      have hkw : k * ww ≤ q + ww := by
        have q1 : k * ww ≤ (q / ww + 1) * ww := Nat.mul_le_mul_right _ (by omega)
        have q2 : q / ww * ww ≤ q := Nat.div_mul_le_self _ _
        rw [Nat.add_mul, Nat.one_mul] at q1
        omega
      have hm1 := Nat.mod_lt (g ^ (k * ww)) (show p > 0 by omega)
      have hm2 := Nat.mod_lt (g ^ ww) (show p > 0 by omega)
      refine lv_iload hx hb d_D_log_181 (lv_at hl 6 rfl) ?_
      refine lv_aload_n hx hb d_D_log_183 rfl (lv_at hl 0 rfl) ?_
      refine w3_q C hK hP d_D_log_184 ?_
      refine lv_iload_n hx hb d_D_log_187 rfl (lv_at hl 2 rfl) ?_
      refine lv_idiv hx hb d_D_log_188 (nI_ne0 (by omega) (by omega)) ?_
      rw [show ((nI q) / (nI ww) : Int32) = nI (q / ww) from pk_div (by omega) (by omega) (by omega)]
      refine lv_iconst (v := 1) hx hb d_D_log_189 (by decide) ?_
      refine lv_iadd hx hb d_D_log_190 ?_
      rw [show ((nI (q / ww)) + 1 : Int32) = nI (q / ww + 1) from nI_1 _]
      refine lv_icmp_gt hx hb d_D_log_191 rfl (fun h1 => ?_) (fun h1 => ?_)
      · exact absurd h1 (nI_nlt (by omega) (by omega))
      · refine lv_aload_n hx hb d_D_log_194 rfl (lv_at hl 0 rfl) ?_
        refine lv_iload_n hx hb d_D_log_195 rfl (lv_at hl 3 rfl) ?_
        refine lv_iload hx hb d_D_log_196 (lv_at hl 5 rfl) ?_
        refine goI (runV C h [.int (nI ww), .int (nI (g ^ (k * ww) % p))] [] (c_find l D (h := h) (n := n) (pl := pl) (p := p) (q := q) (g := g) (cA := cA) (cB := cB) (f := f) (f2 := f2) a (many := ww) (v := g ^ (k * ww) % p) hw2 (by omega) (fun i hi => ⟨(hA i hi).1, by have := (hI.1 i hi).2; have := Nat.mod_lt (y * g ^ b i) (show p > 0 by omega); omega⟩) hI.2.2) vw_D_74 rfl hl.1 ⟨rfl, rfl⟩ (va_recv (ci := 0) (q := ("ProofDesk", F_D, 5)) hK hP rfl (q0 := 0) rfl) (fun U hU hW => ⟨by rw [hU]; exact hP, va_K.moved hW.alike hK⟩) (fun U fr mk a hU => X3.call hU fr mk a) (Nat.le_of_ble_eq_true rfl) ⟨(Nat.le_of_ble_eq_true rfl), (Nat.le_of_ble_eq_true rfl)⟩ ⟨(Nat.le_of_ble_eq_true rfl), (Nat.le_of_ble_eq_true rfl)⟩ d_D_log_198) (fun fd hfd => ?_)
        refine lv_istore (lv' := [(8, .int fd), (0, .ref h), (1, .int (nI y)), (2, .int (nI ww)), (3, .int (nI ww)), (5, .int (nI (g ^ ww % p))), (6, .int (nI (g ^ (k * ww) % p))), (7, .int (nI k))]) hx hb d_D_log_201 hl (Nat.le_of_ble_eq_true rfl) rfl (fun ls hl => ?_)
        refine lv_iload hx hb d_D_log_203 (lv_at hl 0 rfl) ?_
        refine lv_iconst (v := (-1)) hx hb d_D_log_205 (by decide) ?_
        refine lv_icmp_eq hx hb d_D_log_206 rfl (fun h2 => ?_) (fun h2 => ?_)
        · have hnf : ∀ i, i < ww → a i ≠ g ^ (k * ww) % p := by
            rcases hfd with ⟨i, hi, q1, -⟩ | ⟨-, q1⟩
            · rw [q1] at h2
              exact absurd h2 (nI_nm1 (by omega))
            · exact q1
          have hkne : k ≠ (x0 + ww - 1) / ww := by
            intro hq
            obtain ⟨i, hi, he⟩ := bs_hit hG hw1 hx0 hgx hI
            rw [← hq] at he
            exact hnf i hi he
          clear hfd
          omega
        · obtain ⟨i, hi, rfl, hai⟩ : ∃ i, i < ww ∧ fd = nI i ∧ a i = g ^ (k * ww) % p := by
            rcases hfd with hq | ⟨q1, -⟩
            · exact hq
            · exact absurd q1 h2
          have hbi := hI.1 i hi
          have hfi := hA i hi
          rw [hai] at hbi
          refine lv_iload hx hb d_D_log_209 (lv_at hl 7 rfl) ?_
          refine lv_iload_n hx hb d_D_log_211 rfl (lv_at hl 3 rfl) ?_
          refine lv_imul hx hb d_D_log_212 ?_
          rw [show ((nI k) * (nI ww) : Int32) = nI (k * ww) from pk_mul _ _]
          refine lv_aload_n hx hb d_D_log_213 rfl (lv_at hl 1 rfl) ?_
          refine w3_pl C hK hP d_D_log_214 ?_
          refine lv_iload hx hb d_D_log_217 (lv_at hl 0 rfl) ?_
          refine w3_rdp C hK hP (i := i) (by omega) d_D_log_219 ?_
          rw [show (f2 i : Int32) = nI (b i) from hfi.2]
          refine lv_isub hx hb d_D_log_220 ?_
          refine lv_aload_n hx hb d_D_log_221 rfl (lv_at hl 1 rfl) ?_
          refine w3_q C hK hP d_D_log_222 ?_
          refine goI (runS C [.int ((nI (k * ww)) - (nI (b i))), .int (nI q)] [] (c_fmI l (nI (k * ww) - nI (b i)) (q := q) (by omega) (by omega)) sw_D_77 rfl hl.1 ⟨rfl, rfl⟩ (fun _ _ _ => trivial) (fun _ _ _ _ h => h) (Nat.le_of_ble_eq_true rfl) ⟨(Nat.le_of_ble_eq_true rfl), (Nat.le_of_ble_eq_true rfl)⟩ ⟨(Nat.le_of_ble_eq_true rfl), (Nat.le_of_ble_eq_true rfl)⟩ d_D_log_225) (fun r hr => ?_)
          subst hr
          rw [show (nI ((nI (k * ww) - nI (b i)).toInt % q).toNat : Int32) = nI x0 from by rw [pk_sub_toInt (by omega) (by omega), bs_ans hG hx0 hgx hbi.2.symm]]
          exact W.iret hx hb hr (fun t ht hW => ⟨⟨nI x0, (f, f2), rfl, ⟨x0, hx0, hgx, rfl⟩, by rw [ht]; exact hP, va_K.moved hW.alike hK, hD⟩, hS.F ht⟩) hS.2.2 d_D_log_228 hlk
    | succ d ih =>
      intro k ls hd hk hl
      have hk0 := bs_k0 (q := q) hw1 hx0
      have hqw : q / ww ≤ q := Nat.div_le_self _ _
      have hkw : k * ww ≤ q + ww := by
        have q1 : k * ww ≤ (q / ww + 1) * ww := Nat.mul_le_mul_right _ (by omega)
        have q2 : q / ww * ww ≤ q := Nat.div_mul_le_self _ _
        rw [Nat.add_mul, Nat.one_mul] at q1
        omega
      have hm1 := Nat.mod_lt (g ^ (k * ww)) (show p > 0 by omega)
      have hm2 := Nat.mod_lt (g ^ ww) (show p > 0 by omega)
      refine lv_iload hx hb d_D_log_181 (lv_at hl 6 rfl) ?_
      refine lv_aload_n hx hb d_D_log_183 rfl (lv_at hl 0 rfl) ?_
      refine w3_q C hK hP d_D_log_184 ?_
      refine lv_iload_n hx hb d_D_log_187 rfl (lv_at hl 2 rfl) ?_
      refine lv_idiv hx hb d_D_log_188 (nI_ne0 (by omega) (by omega)) ?_
      rw [show ((nI q) / (nI ww) : Int32) = nI (q / ww) from pk_div (by omega) (by omega) (by omega)]
      refine lv_iconst (v := 1) hx hb d_D_log_189 (by decide) ?_
      refine lv_iadd hx hb d_D_log_190 ?_
      rw [show ((nI (q / ww)) + 1 : Int32) = nI (q / ww + 1) from nI_1 _]
      refine lv_icmp_gt hx hb d_D_log_191 rfl (fun h1 => ?_) (fun h1 => ?_)
      · exact absurd h1 (nI_nlt (by omega) (by omega))
      · refine lv_aload_n hx hb d_D_log_194 rfl (lv_at hl 0 rfl) ?_
        refine lv_iload_n hx hb d_D_log_195 rfl (lv_at hl 3 rfl) ?_
        refine lv_iload hx hb d_D_log_196 (lv_at hl 5 rfl) ?_
        refine goI (runV C h [.int (nI ww), .int (nI (g ^ (k * ww) % p))] [] (c_find l D (h := h) (n := n) (pl := pl) (p := p) (q := q) (g := g) (cA := cA) (cB := cB) (f := f) (f2 := f2) a (many := ww) (v := g ^ (k * ww) % p) hw2 (by omega) (fun i hi => ⟨(hA i hi).1, by have := (hI.1 i hi).2; have := Nat.mod_lt (y * g ^ b i) (show p > 0 by omega); omega⟩) hI.2.2) vw_D_74 rfl hl.1 ⟨rfl, rfl⟩ (va_recv (ci := 0) (q := ("ProofDesk", F_D, 5)) hK hP rfl (q0 := 0) rfl) (fun U hU hW => ⟨by rw [hU]; exact hP, va_K.moved hW.alike hK⟩) (fun U fr mk a hU => X3.call hU fr mk a) (Nat.le_of_ble_eq_true rfl) ⟨(Nat.le_of_ble_eq_true rfl), (Nat.le_of_ble_eq_true rfl)⟩ ⟨(Nat.le_of_ble_eq_true rfl), (Nat.le_of_ble_eq_true rfl)⟩ d_D_log_198) (fun fd hfd => ?_)
        refine lv_istore (lv' := [(8, .int fd), (0, .ref h), (1, .int (nI y)), (2, .int (nI ww)), (3, .int (nI ww)), (5, .int (nI (g ^ ww % p))), (6, .int (nI (g ^ (k * ww) % p))), (7, .int (nI k))]) hx hb d_D_log_201 hl (Nat.le_of_ble_eq_true rfl) rfl (fun ls hl => ?_)
        refine lv_iload hx hb d_D_log_203 (lv_at hl 0 rfl) ?_
        refine lv_iconst (v := (-1)) hx hb d_D_log_205 (by decide) ?_
        refine lv_icmp_eq hx hb d_D_log_206 rfl (fun h2 => ?_) (fun h2 => ?_)
        · have hnf : ∀ i, i < ww → a i ≠ g ^ (k * ww) % p := by
            rcases hfd with ⟨i, hi, q1, -⟩ | ⟨-, q1⟩
            · rw [q1] at h2
              exact absurd h2 (nI_nm1 (by omega))
            · exact q1
          have hkne : k ≠ (x0 + ww - 1) / ww := by
            intro hq
            obtain ⟨i, hi, he⟩ := bs_hit hG hw1 hx0 hgx hI
            rw [← hq] at he
            exact hnf i hi he
          clear hfd
          refine lv_iload hx hb d_D_log_229 (lv_at hl 6 rfl) ?_
          refine lv_iload hx hb d_D_log_231 (lv_at hl 5 rfl) ?_
          refine lv_aload_n hx hb d_D_log_233 rfl (lv_at hl 1 rfl) ?_
          refine w3_p C hK hP d_D_log_234 ?_
          refine goI (runS C [.int (nI (g ^ (k * ww) % p)), .int (nI (g ^ ww % p)), .int (nI p)] [] (c_times l (a := g ^ (k * ww) % p) (b := g ^ ww % p) (n := p) (by omega) (by omega) (by omega) g31) sw_D_29 rfl hl.1 ⟨rfl, rfl⟩ (fun _ _ _ => trivial) (fun _ _ _ _ h => h) (Nat.le_of_ble_eq_true rfl) ⟨(Nat.le_of_ble_eq_true rfl), (Nat.le_of_ble_eq_true rfl)⟩ ⟨(Nat.le_of_ble_eq_true rfl), (Nat.le_of_ble_eq_true rfl)⟩ d_D_log_237) (fun r hr => ?_)
          subst hr
          rw [show (nI (g ^ (k * ww) % p * (g ^ ww % p) % p) : Int32) = nI (g ^ ((k + 1) * ww) % p) from by rw [← Nat.mul_mod, ← Nat.pow_add, Nat.add_mul, Nat.one_mul]]
          refine lv_istore (lv' := [(6, .int (nI (g ^ ((k + 1) * ww) % p))), (8, .int fd), (0, .ref h), (1, .int (nI y)), (2, .int (nI ww)), (3, .int (nI ww)), (5, .int (nI (g ^ ww % p))), (7, .int (nI k))]) hx hb d_D_log_240 hl (Nat.le_of_ble_eq_true rfl) rfl (fun ls hl => ?_)
          refine lv_iinc (k := 7) (v := nI (k + 1)) (lv' := [(7, .int (nI (k + 1))), (6, .int (nI (g ^ ((k + 1) * ww) % p))), (8, .int fd), (0, .ref h), (1, .int (nI y)), (2, .int (nI ww)), (3, .int (nI ww)), (5, .int (nI (g ^ ww % p)))]) hx hb d_D_log_242 hl rfl (nI_1 k) (Nat.le_of_ble_eq_true rfl) rfl (fun ls hl => ?_)
          refine lv_goto hx hb d_D_log_245 rfl ?_
          have hl := lv_sub hl [3, 4, 5, 6, 7, 1, 0] rfl
          have hl : lv_has ls 9 [(0, .ref h), (1, .int (nI y)), (2, .int (nI ww)), (3, .int (nI ww)), (5, .int (nI (g ^ ww % p))), (6, .int (nI (g ^ ((k + 1) * ww) % p))), (7, .int (nI (k + 1)))] := hl
          exact ih (k + 1) ls (by omega) (by omega) hl
        · obtain ⟨i, hi, rfl, hai⟩ : ∃ i, i < ww ∧ fd = nI i ∧ a i = g ^ (k * ww) % p := by
            rcases hfd with hq | ⟨q1, -⟩
            · exact hq
            · exact absurd q1 h2
          have hbi := hI.1 i hi
          have hfi := hA i hi
          rw [hai] at hbi
          refine lv_iload hx hb d_D_log_209 (lv_at hl 7 rfl) ?_
          refine lv_iload_n hx hb d_D_log_211 rfl (lv_at hl 3 rfl) ?_
          refine lv_imul hx hb d_D_log_212 ?_
          rw [show ((nI k) * (nI ww) : Int32) = nI (k * ww) from pk_mul _ _]
          refine lv_aload_n hx hb d_D_log_213 rfl (lv_at hl 1 rfl) ?_
          refine w3_pl C hK hP d_D_log_214 ?_
          refine lv_iload hx hb d_D_log_217 (lv_at hl 0 rfl) ?_
          refine w3_rdp C hK hP (i := i) (by omega) d_D_log_219 ?_
          rw [show (f2 i : Int32) = nI (b i) from hfi.2]
          refine lv_isub hx hb d_D_log_220 ?_
          refine lv_aload_n hx hb d_D_log_221 rfl (lv_at hl 1 rfl) ?_
          refine w3_q C hK hP d_D_log_222 ?_
          refine goI (runS C [.int ((nI (k * ww)) - (nI (b i))), .int (nI q)] [] (c_fmI l (nI (k * ww) - nI (b i)) (q := q) (by omega) (by omega)) sw_D_77 rfl hl.1 ⟨rfl, rfl⟩ (fun _ _ _ => trivial) (fun _ _ _ _ h => h) (Nat.le_of_ble_eq_true rfl) ⟨(Nat.le_of_ble_eq_true rfl), (Nat.le_of_ble_eq_true rfl)⟩ ⟨(Nat.le_of_ble_eq_true rfl), (Nat.le_of_ble_eq_true rfl)⟩ d_D_log_225) (fun r hr => ?_)
          subst hr
          rw [show (nI ((nI (k * ww) - nI (b i)).toInt % q).toNat : Int32) = nI x0 from by rw [pk_sub_toInt (by omega) (by omega), bs_ans hG hx0 hgx hbi.2.symm]]
          exact W.iret hx hb hr (fun t ht hW => ⟨⟨nI x0, (f, f2), rfl, ⟨x0, hx0, hgx, rfl⟩, by rw [ht]; exact hP, va_K.moved hW.alike hK, hD⟩, hS.F ht⟩) hS.2.2 d_D_log_228 hlk
  have K52 : ∀ (ww d k : Nat) (a b : Nat → Nat) (f f2 : Nat → Int32) (H : Heap) (locs : List Loc) (ls : Array Slot), 1 ≤ ww → ww ≤ 100 → ww - k = d → k ≤ ww → bs_I p g y a b k → bs_A a b k f f2 → va_P D cl (W3 h n pl p q g cA cB f f2) H → va_D A (W3 h n pl p q g cA cB f f2) → va_S A s.heap H locs → lv_has ls 9 [(0, .ref h), (1, .int (nI y)), (2, .int (nI ww)), (3, .int (nI k)), (4, .int (nI (y * g ^ k % p))), (5, .int (nI k))] → W p0 l e (rk 3) s m args below meth c H locs 0 0 (MQ below (va_Qi (fun r (_ : (Nat → Int32) × (Nat → Int32)) => ∃ z, z < q ∧ g ^ z % p = y ∧ r = nI z) (fun u t => va_P D cl (W3 h n pl p q g cA cB u.1 u.2) t.heap ∧ va_K D cl [(cA, .int), (cB, .int)] t ∧ va_D (A) (W3 h n pl p q g cA cB u.1 u.2)) A) args s 0 0 A) (F0 m 52 ls []) := by
    intro ww d
    induction d with
    | zero =>
      intro k a b f f2 H locs ls hw1 hw2 hd hk hI hA hP hD hS hl
      have hkw : k = ww := by omega
      subst hkw
      refine lv_iload hx hb d_D_log_52 (lv_at hl 5 rfl) ?_
      refine lv_iload_n hx hb d_D_log_54 rfl (lv_at hl 2 rfl) ?_
      refine lv_icmp_ge hx hb d_D_log_55 rfl (fun h1 => ?_) (fun h1 => ?_)
      · refine lv_aload_n hx hb d_D_log_160 rfl (lv_at hl 0 rfl) ?_
        refine w3_g C hK hP d_D_log_161 ?_
        refine lv_iload_n hx hb d_D_log_164 rfl (lv_at hl 2 rfl) ?_
        refine lv_i2l (v := lN k) hx hb d_D_log_165 (nI_l (by omega)) ?_
        refine lv_aload_n hx hb d_D_log_166 rfl (lv_at hl 0 rfl) ?_
        refine w3_p C hK hP d_D_log_167 ?_
        refine goI (runS C [.int (nI g), .long (lN k), .int (nI p)] [] (c_powS l (a := g) (ee := k) (n := p) (by omega) (by omega) (by omega) g31) sw_D_39 rfl hl.1 ⟨rfl, rfl⟩ (fun _ _ _ => trivial) (fun _ _ _ _ h => h) (Nat.le_of_ble_eq_true rfl) ⟨(Nat.le_of_ble_eq_true rfl), (Nat.le_of_ble_eq_true rfl)⟩ ⟨(Nat.le_of_ble_eq_true rfl), (Nat.le_of_ble_eq_true rfl)⟩ d_D_log_170) (fun r hr => ?_)
        subst hr
        refine lv_istore (lv' := [(5, .int (nI (g ^ k % p))), (0, .ref h), (1, .int (nI y)), (2, .int (nI k)), (3, .int (nI k)), (4, .int (nI (y * g ^ k % p)))]) hx hb d_D_log_173 hl (Nat.le_of_ble_eq_true rfl) rfl (fun ls hl => ?_)
        refine lv_iconst (v := 1) hx hb d_D_log_175 (by decide) ?_
        rw [show (1 : Int32) = nI (g ^ (0 * k) % p) from by rw [Nat.zero_mul, Nat.pow_zero, Nat.mod_eq_of_lt (by omega)]; rfl]
        refine lv_istore (lv' := [(6, .int (nI (g ^ (0 * k) % p))), (5, .int (nI (g ^ k % p))), (0, .ref h), (1, .int (nI y)), (2, .int (nI k)), (3, .int (nI k)), (4, .int (nI (y * g ^ k % p)))]) hx hb d_D_log_176 hl (Nat.le_of_ble_eq_true rfl) rfl (fun ls hl => ?_)
        refine lv_iconst (v := 0) hx hb d_D_log_178 (by decide) ?_
        rw [show (0 : Int32) = nI 0 from rfl]
        refine lv_istore (lv' := [(7, .int (nI 0)), (6, .int (nI (g ^ (0 * k) % p))), (5, .int (nI (g ^ k % p))), (0, .ref h), (1, .int (nI y)), (2, .int (nI k)), (3, .int (nI k)), (4, .int (nI (y * g ^ k % p)))]) hx hb d_D_log_179 hl (Nat.le_of_ble_eq_true rfl) rfl (fun ls hl => ?_)
        have hl := lv_sub hl [3, 4, 5, 6, 2, 1, 0] rfl
        have hl : lv_has ls 9 [(0, .ref h), (1, .int (nI y)), (2, .int (nI k)), (3, .int (nI k)), (5, .int (nI (g ^ k % p))), (6, .int (nI (g ^ (0 * k) % p))), (7, .int (nI 0))] := hl
        exact K181 k a b f f2 H locs hw1 hw2 hI hA hP hD hS _ 0 ls rfl (Nat.zero_le _) hl
      · exact absurd (Int32.le_refl _) h1
    | succ d ih =>
      intro k a b f f2 H locs ls hw1 hw2 hd hk hI hA hP hD hS hl
      have hkw : k < ww := by omega
      have hmv := Nat.mod_lt (y * g ^ k) (show p > 0 by omega)
      refine lv_iload hx hb d_D_log_52 (lv_at hl 5 rfl) ?_
      refine lv_iload_n hx hb d_D_log_54 rfl (lv_at hl 2 rfl) ?_
      refine lv_icmp_ge hx hb d_D_log_55 rfl (fun h1 => ?_) (fun h1 => ?_)
      · exact absurd h1 (nI_ge hkw (by omega))
      · refine lv_iload_n hx hb d_D_log_58 rfl (lv_at hl 3 rfl) ?_
        refine lv_iinc (k := 3) (v := nI (k + 1)) (lv' := [(3, .int (nI (k + 1))), (0, .ref h), (1, .int (nI y)), (2, .int (nI ww)), (4, .int (nI (y * g ^ k % p))), (5, .int (nI k))]) hx hb d_D_log_59 hl rfl (nI_1 k) (Nat.le_of_ble_eq_true rfl) rfl (fun ls hl => ?_)
        refine lv_istore (lv' := [(6, .int (nI k)), (3, .int (nI (k + 1))), (0, .ref h), (1, .int (nI y)), (2, .int (nI ww)), (4, .int (nI (y * g ^ k % p))), (5, .int (nI k))]) hx hb d_D_log_62 hl (Nat.le_of_ble_eq_true rfl) rfl (fun ls hl => ?_)
        have hl := lv_sub hl [2, 3, 4, 1, 5, 6, 0] rfl
        have hl : lv_has ls 9 [(0, .ref h), (1, .int (nI y)), (2, .int (nI ww)), (3, .int (nI (k + 1))), (4, .int (nI (y * g ^ k % p))), (5, .int (nI k)), (6, .int (nI k))] := hl
        have K121 : ∀ (i : Nat) (f f2 : Nat → Int32) (H : Heap) (locs : List Loc) (ls : Array Slot), in_I a b k i (y * g ^ k % p) f f2 → (i = 0 ∨ a (i - 1) ≤ y * g ^ k % p) → va_P D cl (W3 h n pl p q g cA cB f f2) H → va_D A (W3 h n pl p q g cA cB f f2) → va_S A s.heap H locs → lv_has ls 9 [(0, .ref h), (1, .int (nI y)), (2, .int (nI ww)), (3, .int (nI (k + 1))), (4, .int (nI (y * g ^ k % p))), (5, .int (nI k)), (6, .int (nI i))] → W p0 l e (rk 3) s m args below meth c H locs 0 0 (MQ below (va_Qi (fun r (_ : (Nat → Int32) × (Nat → Int32)) => ∃ z, z < q ∧ g ^ z % p = y ∧ r = nI z) (fun u t => va_P D cl (W3 h n pl p q g cA cB u.1 u.2) t.heap ∧ va_K D cl [(cA, .int), (cB, .int)] t ∧ va_D (A) (W3 h n pl p q g cA cB u.1 u.2)) A) args s 0 0 A) (F0 m 121 ls []) := by
          intro i f f2 H locs ls hin hor hP hD hS hl
          have hik := hin.1
          have hne := in_Ie hI hin rfl hor
          refine lv_aload_n hx hb d_D_log_121 rfl (lv_at hl 0 rfl) ?_
          refine w3_n C hK hP d_D_log_122 ?_
          refine lv_iload hx hb d_D_log_125 (lv_at hl 6 rfl) ?_
          refine lv_iload hx hb d_D_log_127 (lv_at hl 4 rfl) ?_
          refine w3_stn C hK hP hD hS (i := i) (by omega) d_D_log_129 (fun H locs hP hD hS => ?_)
          refine lv_aload_n hx hb d_D_log_130 rfl (lv_at hl 0 rfl) ?_
          refine w3_pl C hK hP d_D_log_131 ?_
          refine lv_iload hx hb d_D_log_134 (lv_at hl 6 rfl) ?_
          refine lv_iload hx hb d_D_log_136 (lv_at hl 5 rfl) ?_
          refine w3_stp C hK hP hD hS (i := i) (by omega) d_D_log_138 (fun H locs hP hD hS => ?_)
          refine lv_iload hx hb d_D_log_139 (lv_at hl 4 rfl) ?_
          refine lv_aload_n hx hb d_D_log_141 rfl (lv_at hl 0 rfl) ?_
          refine w3_g C hK hP d_D_log_142 ?_
          refine lv_aload_n hx hb d_D_log_145 rfl (lv_at hl 0 rfl) ?_
          refine w3_p C hK hP d_D_log_146 ?_
          refine goI (runS C [.int (nI (y * g ^ k % p)), .int (nI g), .int (nI p)] [] (c_times l (a := y * g ^ k % p) (b := g) (n := p) (by omega) (by omega) (by omega) g31) sw_D_29 rfl hl.1 ⟨rfl, rfl⟩ (fun _ _ _ => trivial) (fun _ _ _ _ h => h) (Nat.le_of_ble_eq_true rfl) ⟨(Nat.le_of_ble_eq_true rfl), (Nat.le_of_ble_eq_true rfl)⟩ ⟨(Nat.le_of_ble_eq_true rfl), (Nat.le_of_ble_eq_true rfl)⟩ d_D_log_149) (fun r hr => ?_)
          subst hr
          rw [show (nI (y * g ^ k % p * g % p) : Int32) = nI (y * g ^ (k + 1) % p) from by rw [Nat.mod_mul_mod, Nat.mul_assoc, ← Nat.pow_succ]]
          refine lv_istore (lv' := [(4, .int (nI (y * g ^ (k + 1) % p))), (0, .ref h), (1, .int (nI y)), (2, .int (nI ww)), (3, .int (nI (k + 1))), (5, .int (nI k)), (6, .int (nI i))]) hx hb d_D_log_152 hl (Nat.le_of_ble_eq_true rfl) rfl (fun ls hl => ?_)
          refine lv_iinc (k := 5) (v := nI (k + 1)) (lv' := [(5, .int (nI (k + 1))), (4, .int (nI (y * g ^ (k + 1) % p))), (0, .ref h), (1, .int (nI y)), (2, .int (nI ww)), (3, .int (nI (k + 1))), (6, .int (nI i))]) hx hb d_D_log_154 hl rfl (nI_1 k) (Nat.le_of_ble_eq_true rfl) rfl (fun ls hl => ?_)
          refine lv_goto hx hb d_D_log_157 rfl ?_
          have hl := lv_sub hl [2, 3, 4, 5, 1, 0] rfl
          have hl : lv_has ls 9 [(0, .ref h), (1, .int (nI y)), (2, .int (nI ww)), (3, .int (nI (k + 1))), (4, .int (nI (y * g ^ (k + 1) % p))), (5, .int (nI (k + 1)))] := hl
          exact ih (k + 1) _ _ _ _ H locs ls hw1 hw2 (by omega) (by omega) hne.1 hne.2 hP hD hS hl
        have K64 : ∀ (i : Nat) (f f2 : Nat → Int32) (H : Heap) (locs : List Loc) (ls : Array Slot), in_I a b k i (y * g ^ k % p) f f2 → va_P D cl (W3 h n pl p q g cA cB f f2) H → va_D A (W3 h n pl p q g cA cB f f2) → va_S A s.heap H locs → lv_has ls 9 [(0, .ref h), (1, .int (nI y)), (2, .int (nI ww)), (3, .int (nI (k + 1))), (4, .int (nI (y * g ^ k % p))), (5, .int (nI k)), (6, .int (nI i))] → W p0 l e (rk 3) s m args below meth c H locs 0 0 (MQ below (va_Qi (fun r (_ : (Nat → Int32) × (Nat → Int32)) => ∃ z, z < q ∧ g ^ z % p = y ∧ r = nI z) (fun u t => va_P D cl (W3 h n pl p q g cA cB u.1 u.2) t.heap ∧ va_K D cl [(cA, .int), (cB, .int)] t ∧ va_D (A) (W3 h n pl p q g cA cB u.1 u.2)) A) args s 0 0 A) (F0 m 64 ls []) := by
          intro i
          induction i with
          | zero =>
            intro f f2 H locs ls hin hP hD hS hl
            refine lv_iload hx hb d_D_log_64 (lv_at hl 6 rfl) ?_
            refine lv_if_le hx hb d_D_log_66 rfl (fun h2 => ?_) (fun h2 => ?_)
            · exact K121 0 f f2 H locs ls hin (Or.inl rfl) hP hD hS hl
            · exact absurd (by decide) h2
          | succ i ih2 =>
            intro f f2 H locs ls hin hP hD hS hl
            have hik := hin.1
            have hfi := hin.2.1 i (by omega)
            have hai : a i < p := by
              rw [(hI.1 i (by omega)).2]
              exact Nat.mod_lt _ (by omega)
            refine lv_iload hx hb d_D_log_64 (lv_at hl 6 rfl) ?_
            refine lv_if_le hx hb d_D_log_66 rfl (fun h2 => ?_) (fun h2 => ?_)
            · exact absurd h2 (nI_nle (by omega) (by omega))
            · refine lv_aload_n hx hb d_D_log_69 rfl (lv_at hl 0 rfl) ?_
              refine w3_n C hK hP d_D_log_70 ?_
              refine lv_iload hx hb d_D_log_73 (lv_at hl 6 rfl) ?_
              refine lv_iconst (v := 1) hx hb d_D_log_75 (by decide) ?_
              refine lv_isub hx hb d_D_log_76 ?_
              rw [show ((nI (i + 1)) - 1 : Int32) = nI i from nI_pred i]
              refine w3_rdn C hK hP (i := i) (by omega) d_D_log_77 ?_
              rw [show (f i : Int32) = nI (a i) from hfi.1]
              refine lv_iload hx hb d_D_log_78 (lv_at hl 4 rfl) ?_
              refine lv_icmp_le hx hb d_D_log_80 rfl (fun h3 => ?_) (fun h3 => ?_)
              · refine K121 (i + 1) f f2 H locs ls hin (Or.inr ?_) hP hD hS hl
                rw [show i + 1 - 1 = i by omega]
                exact (nI_leI (by omega) (by omega)).mp h3
              · have hva : y * g ^ k % p < a i := by
                  apply Classical.byContradiction
                  intro hq
                  exact h3 ((nI_leI (by omega) (by omega)).mpr (by omega))
                refine lv_aload_n hx hb d_D_log_83 rfl (lv_at hl 0 rfl) ?_
                refine w3_n C hK hP d_D_log_84 ?_
                refine lv_iload hx hb d_D_log_87 (lv_at hl 6 rfl) ?_
                refine lv_aload_n hx hb d_D_log_89 rfl (lv_at hl 0 rfl) ?_
                refine w3_n C hK hP d_D_log_90 ?_
                refine lv_iload hx hb d_D_log_93 (lv_at hl 6 rfl) ?_
                refine lv_iconst (v := 1) hx hb d_D_log_95 (by decide) ?_
                refine lv_isub hx hb d_D_log_96 ?_
                rw [show ((nI (i + 1)) - 1 : Int32) = nI i from nI_pred i]
                refine w3_rdn C hK hP (i := i) (by omega) d_D_log_97 ?_
                refine w3_stn C hK hP hD hS (i := i + 1) (by omega) d_D_log_98 (fun H locs hP hD hS => ?_)
                refine lv_aload_n hx hb d_D_log_99 rfl (lv_at hl 0 rfl) ?_
                refine w3_pl C hK hP d_D_log_100 ?_
                refine lv_iload hx hb d_D_log_103 (lv_at hl 6 rfl) ?_
                refine lv_aload_n hx hb d_D_log_105 rfl (lv_at hl 0 rfl) ?_
                refine w3_pl C hK hP d_D_log_106 ?_
                refine lv_iload hx hb d_D_log_109 (lv_at hl 6 rfl) ?_
                refine lv_iconst (v := 1) hx hb d_D_log_111 (by decide) ?_
                refine lv_isub hx hb d_D_log_112 ?_
                rw [show ((nI (i + 1)) - 1 : Int32) = nI i from nI_pred i]
                refine w3_rdp C hK hP (i := i) (by omega) d_D_log_113 ?_
                refine w3_stp C hK hP hD hS (i := i + 1) (by omega) d_D_log_114 (fun H locs hP hD hS => ?_)
                refine lv_iinc (k := 6) (v := nI i) (lv' := [(6, .int (nI i)), (0, .ref h), (1, .int (nI y)), (2, .int (nI ww)), (3, .int (nI (k + 1))), (4, .int (nI (y * g ^ k % p))), (5, .int (nI k))]) hx hb d_D_log_115 hl rfl (pk_m1 i) (Nat.le_of_ble_eq_true rfl) rfl (fun ls hl => ?_)
                refine lv_goto hx hb d_D_log_118 rfl ?_
                have hl := lv_sub hl [1, 2, 3, 4, 5, 6, 0] rfl
                have hl : lv_has ls 9 [(0, .ref h), (1, .int (nI y)), (2, .int (nI ww)), (3, .int (nI (k + 1))), (4, .int (nI (y * g ^ k % p))), (5, .int (nI k)), (6, .int (nI i))] := hl
                exact ih2 _ _ H locs ls (in_Is hin hva) hP hD hS hl
        exact K64 k f f2 H locs ls (in_I0 hA) hP hD hS hl
  have K28 : ∀ (d ww : Nat) (ls : Array Slot), 100 - ww = d → 1 ≤ ww → ww ≤ 100 → lv_has ls 9 [(0, .ref h), (1, .int (nI y)), (2, .int (nI ww))] → W p0 l e (rk 3) s m args below meth c s.heap [] 0 0 (MQ below (va_Qi (fun r (_ : (Nat → Int32) × (Nat → Int32)) => ∃ z, z < q ∧ g ^ z % p = y ∧ r = nI z) (fun u t => va_P D cl (W3 h n pl p q g cA cB u.1 u.2) t.heap ∧ va_K D cl [(cA, .int), (cB, .int)] t ∧ va_D (A) (W3 h n pl p q g cA cB u.1 u.2)) A) args s 0 0 A) (F0 m 28 ls []) := by
    intro d
    induction d with
    | zero =>
      intro ww ls hd hw1 hw2 hl
      have hww : ww * ww ≤ 10000 := Nat.mul_le_mul hw2 hw2
      refine lv_iload_n hx hb d_D_log_28 rfl (lv_at hl 2 rfl) ?_
      refine lv_iload_n hx hb d_D_log_29 rfl (lv_at hl 2 rfl) ?_
      refine lv_imul hx hb d_D_log_30 ?_
      rw [show ((nI ww) * (nI ww) : Int32) = nI (ww * ww) from pk_mul _ _]
      refine lv_aload_n hx hb d_D_log_31 rfl (lv_at hl 0 rfl) ?_
      refine w3_q C hK hP d_D_log_32 ?_
      refine lv_icmp_ge hx hb d_D_log_35 rfl (fun h1 => ?_) (fun h1 => ?_)
      · refine lv_iconst (v := 0) hx hb d_D_log_44 (by decide) ?_
        rw [show (0 : Int32) = nI 0 from rfl]
        refine lv_istore_n (lv' := [(3, .int (nI 0)), (0, .ref h), (1, .int (nI y)), (2, .int (nI ww))]) hx hb d_D_log_45 rfl hl (Nat.le_of_ble_eq_true rfl) rfl (fun ls hl => ?_)
        refine lv_iload_n hx hb d_D_log_46 rfl (lv_at hl 2 rfl) ?_
        rw [show (nI y : Int32) = nI (y * g ^ 0 % p) from by rw [Nat.pow_zero, Nat.mul_one, Nat.mod_eq_of_lt hyp]]
        refine lv_istore (lv' := [(4, .int (nI (y * g ^ 0 % p))), (3, .int (nI 0)), (0, .ref h), (1, .int (nI y)), (2, .int (nI ww))]) hx hb d_D_log_47 hl (Nat.le_of_ble_eq_true rfl) rfl (fun ls hl => ?_)
        refine lv_iconst (v := 0) hx hb d_D_log_49 (by decide) ?_
        rw [show (0 : Int32) = nI 0 from rfl]
        refine lv_istore (lv' := [(5, .int (nI 0)), (4, .int (nI (y * g ^ 0 % p))), (3, .int (nI 0)), (0, .ref h), (1, .int (nI y)), (2, .int (nI ww))]) hx hb d_D_log_50 hl (Nat.le_of_ble_eq_true rfl) rfl (fun ls hl => ?_)
        have hl := lv_sub hl [3, 4, 5, 2, 1, 0] rfl
        have hl : lv_has ls 9 [(0, .ref h), (1, .int (nI y)), (2, .int (nI ww)), (3, .int (nI 0)), (4, .int (nI (y * g ^ 0 % p))), (5, .int (nI 0))] := hl
        exact K52 ww ww 0 (fun _ => 0) (fun _ => 0) f0 f20 s.heap [] ls hw1 hw2 (by omega) (by omega) ⟨fun i hi => by omega, fun j hj => by omega, fun i j _ hj => by omega⟩ (fun i hi => by omega) hP hD hS hl
      · have hlt : ww * ww < q := by
          apply Classical.byContradiction
          intro hq
          exact h1 ((nI_leI (by omega) (by omega)).mpr (by omega))
        have hw99 : ww ≤ 99 := by
          apply Classical.byContradiction
          intro hq
          have : 100 * 100 ≤ ww * ww := Nat.mul_le_mul (by omega) (by omega)
          omega
        omega
    | succ d ih =>
      intro ww ls hd hw1 hw2 hl
      have hww : ww * ww ≤ 10000 := Nat.mul_le_mul hw2 hw2
      refine lv_iload_n hx hb d_D_log_28 rfl (lv_at hl 2 rfl) ?_
      refine lv_iload_n hx hb d_D_log_29 rfl (lv_at hl 2 rfl) ?_
      refine lv_imul hx hb d_D_log_30 ?_
      rw [show ((nI ww) * (nI ww) : Int32) = nI (ww * ww) from pk_mul _ _]
      refine lv_aload_n hx hb d_D_log_31 rfl (lv_at hl 0 rfl) ?_
      refine w3_q C hK hP d_D_log_32 ?_
      refine lv_icmp_ge hx hb d_D_log_35 rfl (fun h1 => ?_) (fun h1 => ?_)
      · refine lv_iconst (v := 0) hx hb d_D_log_44 (by decide) ?_
        rw [show (0 : Int32) = nI 0 from rfl]
        refine lv_istore_n (lv' := [(3, .int (nI 0)), (0, .ref h), (1, .int (nI y)), (2, .int (nI ww))]) hx hb d_D_log_45 rfl hl (Nat.le_of_ble_eq_true rfl) rfl (fun ls hl => ?_)
        refine lv_iload_n hx hb d_D_log_46 rfl (lv_at hl 2 rfl) ?_
        rw [show (nI y : Int32) = nI (y * g ^ 0 % p) from by rw [Nat.pow_zero, Nat.mul_one, Nat.mod_eq_of_lt hyp]]
        refine lv_istore (lv' := [(4, .int (nI (y * g ^ 0 % p))), (3, .int (nI 0)), (0, .ref h), (1, .int (nI y)), (2, .int (nI ww))]) hx hb d_D_log_47 hl (Nat.le_of_ble_eq_true rfl) rfl (fun ls hl => ?_)
        refine lv_iconst (v := 0) hx hb d_D_log_49 (by decide) ?_
        rw [show (0 : Int32) = nI 0 from rfl]
        refine lv_istore (lv' := [(5, .int (nI 0)), (4, .int (nI (y * g ^ 0 % p))), (3, .int (nI 0)), (0, .ref h), (1, .int (nI y)), (2, .int (nI ww))]) hx hb d_D_log_50 hl (Nat.le_of_ble_eq_true rfl) rfl (fun ls hl => ?_)
        have hl := lv_sub hl [3, 4, 5, 2, 1, 0] rfl
        have hl : lv_has ls 9 [(0, .ref h), (1, .int (nI y)), (2, .int (nI ww)), (3, .int (nI 0)), (4, .int (nI (y * g ^ 0 % p))), (5, .int (nI 0))] := hl
        exact K52 ww ww 0 (fun _ => 0) (fun _ => 0) f0 f20 s.heap [] ls hw1 hw2 (by omega) (by omega) ⟨fun i hi => by omega, fun j hj => by omega, fun i j _ hj => by omega⟩ (fun i hi => by omega) hP hD hS hl
      · have hlt : ww * ww < q := by
          apply Classical.byContradiction
          intro hq
          exact h1 ((nI_leI (by omega) (by omega)).mpr (by omega))
        have hw99 : ww ≤ 99 := by
          apply Classical.byContradiction
          intro hq
          have : 100 * 100 ≤ ww * ww := Nat.mul_le_mul (by omega) (by omega)
          omega
        refine lv_iinc (k := 2) (v := nI (ww + 1)) (lv' := [(2, .int (nI (ww + 1))), (0, .ref h), (1, .int (nI y))]) hx hb d_D_log_38 hl rfl (nI_1 ww) (Nat.le_of_ble_eq_true rfl) rfl (fun ls hl => ?_)
        refine lv_goto hx hb d_D_log_41 rfl ?_
        have hl := lv_sub hl [1, 2, 0] rfl
        have hl : lv_has ls 9 [(0, .ref h), (1, .int (nI y)), (2, .int (nI (ww + 1)))] := hl
        exact ih (ww + 1) ls (by omega) (by omega) (by omega) hl
  have hmem : memP p q (nI y) := ⟨by rw [nI_toInt (by omega)]; omega, by rw [nI_toInt (by omega)]; omega, by rw [nI_toInt (by omega), Int.toNat_natCast]; exact hyq⟩
  refine lv_aload_n hx hb d_D_log_0 rfl (lv_at hl 0 rfl) ?_
  refine lv_iload_n hx hb d_D_log_1 rfl (lv_at hl 1 rfl) ?_
  refine goI (runV C h [.int (nI y)] [] (c_member l D hG (nI y)) vw_D_68 rfl hl.1 ⟨rfl, rfl⟩ hX.cell (fun U hU hW => hX.move hU hW) (fun U f mk a hU => XO.call hU f mk a) (Nat.le_of_ble_eq_true rfl) ⟨(Nat.le_of_ble_eq_true rfl), (Nat.le_of_ble_eq_true rfl)⟩ ⟨(Nat.le_of_ble_eq_true rfl), (Nat.le_of_ble_eq_true rfl)⟩ d_D_log_2) (fun rm zm => ?_)
  obtain rfl : rm = 1 := by
    rcases zm with ⟨q1, -⟩ | ⟨-, q1⟩
    · exact q1
    · exact absurd hmem q1
  refine goV (runS C [.int 1] [] (c_goodT l) sw_D_60 rfl hl.1 ⟨rfl, rfl⟩ (fun _ _ _ => trivial) (fun _ _ _ _ h => h) (Nat.le_of_ble_eq_true rfl) ⟨(Nat.le_of_ble_eq_true rfl), (Nat.le_of_ble_eq_true rfl)⟩ ⟨(Nat.le_of_ble_eq_true rfl), (Nat.le_of_ble_eq_true rfl)⟩ d_D_log_5) ?_
  refine lv_aload_n hx hb d_D_log_8 rfl (lv_at hl 0 rfl) ?_
  refine w3_p C hK hP d_D_log_9 ?_
  refine lv_sipush (v := 20000) hx hb d_D_log_12 (by decide) ?_
  refine lv_icmp_le hx hb d_D_log_15 rfl (fun h1 => ?_) (fun h1 => ?_)
  · refine lv_iconst (v := 1) hx hb d_D_log_26 (by decide) ?_
    rw [show (1 : Int32) = nI 1 from rfl]
    refine lv_istore_n (lv' := [(2, .int (nI 1)), (0, .ref h), (1, .int (nI y))]) hx hb d_D_log_27 rfl hl (Nat.le_of_ble_eq_true rfl) rfl (fun ls hl => ?_)
    have hl := lv_sub hl [1, 2, 0] rfl
    have hl : lv_has ls 9 [(0, .ref h), (1, .int (nI y)), (2, .int (nI 1))] := hl
    exact K28 99 1 ls rfl (by omega) (by omega) hl
  · exact absurd (nI_le (b := 20000) hp2 (by decide)) h1
set_option maxHeartbeats 4000000 in
/-- log refuses what is no member -/
theorem t_log1 (l : Launch) (hfl : l.flags = flags0) (D : va_G) {h n pl p q g : Nat} (hG : grp p q g) (y : Int32) (hbad : ¬ memP p q y) : MetT l y_D_log (.code y_D_log b_D_log 9 (some .int) :: tb) (rt 7) (va_Pc [.ref h, .int y] (fun U => XO D h n pl p q g U ∧ ex_ok U)) iaN := by
  refine mk_metT (by decide) (Nat.le_of_ble_eq_true rfl) ?_
  intro p0 e s m below meth c ls C hne hB hl
  generalize ([.ref h, .int y] : List Value).toArray = args at C ⊢
  obtain ⟨hx, hb, hml, hown, hts, hr, hlk⟩ := id C
  obtain ⟨hX, hex⟩ := hB
  obtain ⟨g5, g31, gq, gqp, ggp, gg2⟩ := hG.nums
  have hl : lv_has ls 9 [(0, .ref h), (1, .int y)] := hl
  refine lv_aload_n hx hb d_D_log_0 rfl (lv_at hl 0 rfl) ?_
  refine lv_iload_n hx hb d_D_log_1 rfl (lv_at hl 1 rfl) ?_
  refine goI (runV C h [.int y] [] (c_member l D hG y) vw_D_68 rfl hl.1 ⟨rfl, rfl⟩ hX.cell (fun U hU hW => hX.move hU hW) (fun U f mk a hU => XO.call hU f mk a) (Nat.le_of_ble_eq_true rfl) ⟨(Nat.le_of_ble_eq_true rfl), (Nat.le_of_ble_eq_true rfl)⟩ ⟨(Nat.le_of_ble_eq_true rfl), (Nat.le_of_ble_eq_true rfl)⟩ d_D_log_2) (fun rm zm => ?_)
  obtain rfl : rm = 0 := by
    rcases zm with ⟨-, q1⟩ | ⟨q1, -⟩
    · exact absurd q1 hbad
    · exact q1
  exact th_callS C hne [.int 0] [] (t_good l hfl) ⟨rfl, rfl⟩ sw_D_60 rfl hl.1 (fun U hU hW => ex_move hex hW (fun q _ => by rw [hU])) (fun U f mk a hU => ex_call hU) (Nat.le_of_ble_eq_true rfl) ⟨(Nat.le_of_ble_eq_true rfl), (Nat.le_of_ble_eq_true rfl)⟩ ⟨(Nat.le_of_ble_eq_true rfl), (Nat.le_of_ble_eq_true rfl)⟩ d_D_log_5
set_option maxHeartbeats 4000000 in
/-- log of a large group -/
theorem t_log2 (l : Launch) (hfl : l.flags = flags0) (D : va_G) {h n pl p q g : Nat} (hG : grp p q g) (y : Int32) (hmem : memP p q y) (hbig : 20000 < p) : MetT l y_D_log (.code y_D_log b_D_log 9 (some .int) :: tb) (rt 7) (va_Pc [.ref h, .int y] (fun U => XO D h n pl p q g U ∧ ex_ok U)) isN := by
  refine mk_metT (by decide) (Nat.le_of_ble_eq_true rfl) ?_
  intro p0 e s m below meth c ls C hne hB hl
  generalize ([.ref h, .int y] : List Value).toArray = args at C ⊢
  obtain ⟨hx, hb, hml, hown, hts, hr, hlk⟩ := id C
  obtain ⟨hX, hex⟩ := hB
  obtain ⟨g5, g31, gq, gqp, ggp, gg2⟩ := hG.nums
  have hl : lv_has ls 9 [(0, .ref h), (1, .int y)] := hl
  refine lv_aload_n hx hb d_D_log_0 rfl (lv_at hl 0 rfl) ?_
  refine lv_iload_n hx hb d_D_log_1 rfl (lv_at hl 1 rfl) ?_
  refine goI (runV C h [.int y] [] (c_member l D hG y) vw_D_68 rfl hl.1 ⟨rfl, rfl⟩ hX.cell (fun U hU hW => hX.move hU hW) (fun U f mk a hU => XO.call hU f mk a) (Nat.le_of_ble_eq_true rfl) ⟨(Nat.le_of_ble_eq_true rfl), (Nat.le_of_ble_eq_true rfl)⟩ ⟨(Nat.le_of_ble_eq_true rfl), (Nat.le_of_ble_eq_true rfl)⟩ d_D_log_2) (fun rm zm => ?_)
  obtain rfl : rm = 1 := by
    rcases zm with ⟨q1, -⟩ | ⟨-, q1⟩
    · exact q1
    · exact absurd hmem q1
  refine goV (runS C [.int 1] [] (c_goodT l) sw_D_60 rfl hl.1 ⟨rfl, rfl⟩ (fun _ _ _ => trivial) (fun _ _ _ _ h => h) (Nat.le_of_ble_eq_true rfl) ⟨(Nat.le_of_ble_eq_true rfl), (Nat.le_of_ble_eq_true rfl)⟩ ⟨(Nat.le_of_ble_eq_true rfl), (Nat.le_of_ble_eq_true rfl)⟩ d_D_log_5) ?_
  refine lv_aload_n hx hb d_D_log_8 rfl (lv_at hl 0 rfl) ?_
  refine xg_p C hX d_D_log_9 ?_
  refine lv_sipush (v := 20000) hx hb d_D_log_12 (by decide) ?_
  refine lv_icmp_le hx hb d_D_log_15 rfl (fun h1 => ?_) (fun h1 => ?_)
  · exact absurd h1 (nI_ge (a := 20000) hbig g31)
  · exact th_new C hne hfl hex at_is (by decide +kernel) tk_172 tk_9 tk_173 hl.1 d_D_log_18 d_D_log_21 d_D_log_22 d_D_log_25 ⟨by decide, by decide, by decide, by decide⟩
end
section
/-! numbers of the model -/
theorem in_l0 {lo v hi : Int64} : in_l lo v hi = 0 ↔ ¬ (lo.toInt ≤ v.toInt ∧ v.toInt ≤ hi.toInt) := by
  rw [← Int64.le_iff_toInt_le, ← Int64.le_iff_toInt_le]
  unfold in_l
  split
  · rename_i h
    constructor
    · intro hq; exact absurd hq (by decide)
    · intro hq; exact absurd h hq
  · rename_i h
    exact ⟨fun _ => h, fun _ => rfl⟩
theorem in_l1 {lo v hi : Int64} : ¬ in_l lo v hi = 0 ↔ (lo.toInt ≤ v.toInt ∧ v.toInt ≤ hi.toInt) := by rw [in_l0, Classical.not_not]
theorem in_lz {lo v hi : Int64} {P : Prop} (h : P ↔ (lo.toInt ≤ v.toInt ∧ v.toInt ≤ hi.toInt)) : z_of P (in_l lo v hi) := by
  rw [← Int64.le_iff_toInt_le, ← Int64.le_iff_toInt_le] at h
  unfold in_l
  split
  · rename_i h2; exact Or.inl ⟨rfl, h.mpr h2⟩
  · rename_i h2; exact Or.inr ⟨rfl, fun hq => h2 (h.mp hq)⟩
theorem lN_m1 {n : Nat} (h : 1 ≤ n) : lN n - 1 = lN (n - 1) := by
  rw [show (1 : Int64) = lN 1 from rfl, lN_sub h]
theorem nI_dec (j : Nat) : nI (j + 1) - 1 + (-1) = nI j - 1 := by
  rw [nI_pred, Int32.sub_eq_add_neg]
theorem pw_step {a m ee j : Nat} (hm : 0 < m) : (a ^ (ee / 2 ^ (j + 1)) % m) * (a ^ (ee / 2 ^ (j + 1)) % m) % m = a ^ (2 * (ee / 2 ^ (j + 1))) % m := by
  rw [← Nat.mul_mod, ← Nat.pow_add, Nat.two_mul]
theorem bit_step (ee j : Nat) : ee / 2 ^ j = 2 * (ee / 2 ^ (j + 1)) + ee / 2 ^ j % 2 := by
  rw [Nat.pow_succ, ← Nat.div_div_eq_div_mul]
  omega
theorem tm_fix {u n : Int} (hn : 0 < n) : (u.tmod n + n) % n = u % n := by
  have h := Int.tmod_add_mul_tdiv u n
  conv => rhs; rw [← h]
  rw [Int.add_mul_emod_self_left, Int.add_emod_right]
theorem nt_np {n d : Nat} (h2 : 2 ≤ d) (hdd : d * d ≤ n) (hd : d ∣ n) : ¬ nt_P n := by
  intro hp
  rcases hp.2 d hd with h | h
  · omega
  · subst h
    have : d * 2 ≤ d * d := Nat.mul_le_mul_left d h2
    omega
theorem lN_mod {b c : Nat} : lN b - lN (b / c) * lN c = lN (b % c) := by
  rw [lN_mul, lN_sub (Nat.div_mul_le_self b c)]
  congr 1
  have := Nat.div_add_mod b c
  rw [Nat.mul_comm] at this
  omega
end
section
/-! pure methods of the model -/
set_option maxHeartbeats 4000000 in
/-- in(v, lo, hi) of longs -/
theorem m_in (l : Launch) (v lo hi : Int64) : Met l y_M_in (.code y_M_in b_M_in 6 (some .boolean) :: tb) (rk 0) (va_Pc [.long v, .long lo, .long hi] (fun _ => True)) (QI (fun r => r = in_l lo v hi)) 0 0 nf := by
  refine mk_met (by decide) (Nat.le_of_ble_eq_true rfl) ?_
  intro p e s m below meth c ls C hnm hB hl
  generalize ([.long v, .long lo, .long hi] : List Value).toArray = args at C ⊢
  obtain ⟨hx, hb, hml, hown, hts, hr, hlk⟩ := id C
  have hl : lv_has ls 6 [(0, .long v), (2, .long lo), (4, .long hi)] := hl
  refine lv_lload_n hx hb d_M_in_0 rfl (lv_at hl 0 rfl) ?_
  refine lv_lload_n hx hb d_M_in_1 rfl (lv_at hl 1 rfl) ?_
  refine W.lcmp hx hb d_M_in_2 ?_
  refine lv_if_lt hx hb d_M_in_3 rfl (fun h1 => ?_) (fun h1 => ?_)
  · refine lv_iconst (v := 0) hx hb d_M_in_17 (by decide) ?_
    exact rZ C d_M_in_18 (Or.inl rfl) (by rw [in_l, if_neg]; rintro ⟨q1, q2⟩; exact absurd q1 (Int64.not_le.mpr ((lg_cmp_lt _ _).mp h1)))
  · refine lv_lload_n hx hb d_M_in_6 rfl (lv_at hl 0 rfl) ?_
    refine lv_lload hx hb d_M_in_7 (lv_at hl 2 rfl) ?_
    refine W.lcmp hx hb d_M_in_9 ?_
    refine lv_if_gt hx hb d_M_in_10 rfl (fun h2 => ?_) (fun h2 => ?_)
    · refine lv_iconst (v := 0) hx hb d_M_in_17 (by decide) ?_
      exact rZ C d_M_in_18 (Or.inl rfl) (by rw [in_l, if_neg]; rintro ⟨q1, q2⟩; exact absurd q2 (Int64.not_le.mpr ((lg_cmp_gt _ _).mp h2)))
    · refine lv_iconst (v := 1) hx hb d_M_in_13 (by decide) ?_
      refine lv_goto hx hb d_M_in_14 rfl ?_
      exact rZ C d_M_in_18 (Or.inr rfl) (by rw [in_l, if_pos]; exact ⟨Int64.not_lt.mp (fun hq => h1 ((lg_cmp_lt _ _).mpr hq)), Int64.not_lt.mp (fun hq => h2 ((lg_cmp_gt _ _).mpr hq))⟩)
set_option maxHeartbeats 4000000 in
/-- power(a, e, m) of longs -/
theorem m_powS (l : Launch) {a ee n : Nat} (ha : a < 2 ^ 31) (he : ee < 2 ^ 63) (hn2 : 2 ≤ n) (hn : n < 2 ^ 31) : Met l y_M_powS (.code y_M_powS b_M_powS 9 (some .long) :: tb) (rk 0) (va_Pc [.long (lN a), .long (lN ee), .long (lN n)] (fun _ => True)) (QL (fun r => r = lN (a ^ ee % n))) 0 0 nf := by
  refine mk_met (by decide) (Nat.le_of_ble_eq_true rfl) ?_
  intro p e s m below meth c ls C hnm hB hl
  generalize ([.long (lN a), .long (lN ee), .long (lN n)] : List Value).toArray = args at C ⊢
  obtain ⟨hx, hb, hml, hown, hts, hr, hlk⟩ := id C
  have hl : lv_has ls 9 [(0, .long (lN a)), (2, .long (lN ee)), (4, .long (lN n))] := hl
  have loop : ∀ (j : Nat) (ls : Array Slot), j ≤ 63 → lv_has ls 9 [(0, .long (lN a)), (2, .long (lN ee)), (4, .long (lN n)), (6, .long (lN (a ^ (ee / 2 ^ j) % n))), (8, .int (nI j - 1))] → W p l e (rk 0) s m args below meth c s.heap [] 0 0 (MQ below (QL (fun r => r = lN (a ^ ee % n))) args s 0 0 nf) (F0 m 7 ls []) := by
    intro j
    induction j with
    | zero =>
      intro ls hj hl
      refine lv_iload hx hb d_M_powS_7 (lv_at hl 4 rfl) ?_
      refine lv_if_lt hx hb d_M_powS_9 rfl (fun h1 => ?_) (fun h1 => ?_)
      · refine lv_lload hx hb d_M_powS_48 (lv_at hl 3 rfl) ?_
        exact rL C d_M_powS_50 (by rw [Nat.pow_zero, Nat.div_one])
      · exact absurd (by decide) h1
    | succ j ih =>
      intro ls hj hl
      have hm := Nat.mod_lt (a ^ (ee / 2 ^ (j + 1))) (show n > 0 by omega)
      have hmm := mul_lt62 (show a ^ (ee / 2 ^ (j + 1)) % n < 2 ^ 31 by omega) (show a ^ (ee / 2 ^ (j + 1)) % n < 2 ^ 31 by omega)
      have hm2 := Nat.mod_lt (a ^ (2 * (ee / 2 ^ (j + 1)))) (show n > 0 by omega)
      have hma := mul_lt62 (show a ^ (2 * (ee / 2 ^ (j + 1))) % n < 2 ^ 31 by omega) ha
      have hbs := bit_step ee j
      have hed : ee / 2 ^ j ≤ ee := Nat.div_le_self _ _
      refine lv_iload hx hb d_M_powS_7 (lv_at hl 4 rfl) ?_
      refine lv_if_lt hx hb d_M_powS_9 rfl (fun h1 => ?_) (fun h1 => ?_)
      · rw [nI_pred] at h1
        exact absurd h1 (nI_pos (by omega))
      · refine lv_lload hx hb d_M_powS_12 (lv_at hl 3 rfl) ?_
        refine lv_lload hx hb d_M_powS_14 (lv_at hl 3 rfl) ?_
        refine lv_lmul hx hb d_M_powS_16 ?_
        rw [show ((lN (a ^ (ee / 2 ^ (j + 1)) % n)) * (lN (a ^ (ee / 2 ^ (j + 1)) % n)) : Int64) = lN (a ^ (ee / 2 ^ (j + 1)) % n * (a ^ (ee / 2 ^ (j + 1)) % n)) from lN_mul _ _]
        refine lv_lload hx hb d_M_powS_17 (lv_at hl 2 rfl) ?_
        refine lv_lrem hx hb d_M_powS_19 (lN_ne0 (by omega) (by omega)) ?_
        rw [show ((lN (a ^ (ee / 2 ^ (j + 1)) % n * (a ^ (ee / 2 ^ (j + 1)) % n))) - (lN (a ^ (ee / 2 ^ (j + 1)) % n * (a ^ (ee / 2 ^ (j + 1)) % n))) / (lN n) * (lN n) : Int64) = lN (a ^ (2 * (ee / 2 ^ (j + 1))) % n) from by rw [pk_lRem (by omega) (by omega) (by omega), pw_step (by omega)]]
        refine lv_lstore (lv' := [(6, .long (lN (a ^ (2 * (ee / 2 ^ (j + 1))) % n))), (0, .long (lN a)), (2, .long (lN ee)), (4, .long (lN n)), (8, .int (nI (j + 1) - 1))]) hx hb d_M_powS_20 hl (Nat.le_of_ble_eq_true rfl) rfl (fun ls hl => ?_)
        refine lv_lload_n hx hb d_M_powS_22 rfl (lv_at hl 2 rfl) ?_
        refine lv_iload hx hb d_M_powS_23 (lv_at hl 4 rfl) ?_
        refine lv_lshr (v := lN (ee / 2 ^ j)) hx hb d_M_powS_25 (by rw [nI_pred]; exact sh_l he (by omega)) ?_
        refine lv_lconst (v := 1) hx hb d_M_powS_26 (by decide) ?_
        refine lv_land hx hb d_M_powS_27 ?_
        rw [show ((lN (ee / 2 ^ j)) &&& 1 : Int64) = lN (ee / 2 ^ j % 2) from wb_a1 (by omega)]
        refine lv_lconst (v := 1) hx hb d_M_powS_28 (by decide) ?_
        refine W.lcmp hx hb d_M_powS_29 ?_
        refine lv_if_ne hx hb d_M_powS_30 rfl (fun h2 => ?_) (fun h2 => ?_)
        · have hb0 : ee / 2 ^ j % 2 = 0 := by
            apply Classical.byContradiction
            intro hq
            refine h2 ((lg_cmp_eq _ _).mpr ?_)
            rw [show ee / 2 ^ j % 2 = 1 by omega]
            rfl
          rw [hb0, Nat.add_zero] at hbs
          rw [← hbs] at hl
          refine lv_iinc (k := 4) (v := nI j - 1) (lv' := [(8, .int (nI j - 1)), (6, .long (lN (a ^ (ee / 2 ^ j) % n))), (0, .long (lN a)), (2, .long (lN ee)), (4, .long (lN n))]) hx hb d_M_powS_42 hl rfl (nI_dec j) (Nat.le_of_ble_eq_true rfl) rfl (fun ls hl => ?_)
          refine lv_goto hx hb d_M_powS_45 rfl ?_
          have hl := lv_sub hl [2, 3, 4, 1, 0] rfl
          have hl : lv_has ls 9 [(0, .long (lN a)), (2, .long (lN ee)), (4, .long (lN n)), (6, .long (lN (a ^ (ee / 2 ^ j) % n))), (8, .int (nI j - 1))] := hl
          exact ih ls (by omega) hl
        · have hb1 : ee / 2 ^ j % 2 = 1 := (pk_lEQ (by omega) (b := 1) (by decide)).mp ((lg_cmp_eq _ _).mp h2)
          rw [hb1] at hbs
          refine lv_lload hx hb d_M_powS_33 (lv_at hl 0 rfl) ?_
          refine lv_lload_n hx hb d_M_powS_35 rfl (lv_at hl 1 rfl) ?_
          refine lv_lmul hx hb d_M_powS_36 ?_
          rw [show ((lN (a ^ (2 * (ee / 2 ^ (j + 1))) % n)) * (lN a) : Int64) = lN (a ^ (2 * (ee / 2 ^ (j + 1))) % n * a) from lN_mul _ _]
          refine lv_lload hx hb d_M_powS_37 (lv_at hl 3 rfl) ?_
          refine lv_lrem hx hb d_M_powS_39 (lN_ne0 (by omega) (by omega)) ?_
          rw [show ((lN (a ^ (2 * (ee / 2 ^ (j + 1))) % n * a)) - (lN (a ^ (2 * (ee / 2 ^ (j + 1))) % n * a)) / (lN n) * (lN n) : Int64) = lN (a ^ (ee / 2 ^ j) % n) from by rw [pk_lRem (by omega) (by omega) (by omega), Nat.mod_mul_mod, ← Nat.pow_succ, hbs]]
          refine lv_lstore (lv' := [(6, .long (lN (a ^ (ee / 2 ^ j) % n))), (0, .long (lN a)), (2, .long (lN ee)), (4, .long (lN n)), (8, .int (nI (j + 1) - 1))]) hx hb d_M_powS_40 hl (Nat.le_of_ble_eq_true rfl) rfl (fun ls hl => ?_)
          refine lv_iinc (k := 4) (v := nI j - 1) (lv' := [(8, .int (nI j - 1)), (6, .long (lN (a ^ (ee / 2 ^ j) % n))), (0, .long (lN a)), (2, .long (lN ee)), (4, .long (lN n))]) hx hb d_M_powS_42 hl rfl (nI_dec j) (Nat.le_of_ble_eq_true rfl) rfl (fun ls hl => ?_)
          refine lv_goto hx hb d_M_powS_45 rfl ?_
          have hl := lv_sub hl [2, 3, 4, 1, 0] rfl
          have hl : lv_has ls 9 [(0, .long (lN a)), (2, .long (lN ee)), (4, .long (lN n)), (6, .long (lN (a ^ (ee / 2 ^ j) % n))), (8, .int (nI j - 1))] := hl
          exact ih ls (by omega) hl
  refine lv_lconst (v := 1) hx hb d_M_powS_0 (by decide) ?_
  rw [show (1 : Int64) = lN (a ^ (ee / 2 ^ 63) % n) from by rw [Nat.div_eq_of_lt he, Nat.pow_zero, Nat.mod_eq_of_lt (by omega)]; rfl]
  refine lv_lstore (lv' := [(6, .long (lN (a ^ (ee / 2 ^ 63) % n))), (0, .long (lN a)), (2, .long (lN ee)), (4, .long (lN n))]) hx hb d_M_powS_1 hl (Nat.le_of_ble_eq_true rfl) rfl (fun ls hl => ?_)
  refine lv_bipush (v := 62) hx hb d_M_powS_3 (by decide) ?_
  rw [show (62 : Int32) = nI 63 - 1 from by decide]
  refine lv_istore (lv' := [(8, .int (nI 63 - 1)), (6, .long (lN (a ^ (ee / 2 ^ 63) % n))), (0, .long (lN a)), (2, .long (lN ee)), (4, .long (lN n))]) hx hb d_M_powS_5 hl (Nat.le_of_ble_eq_true rfl) rfl (fun ls hl => ?_)
  have hl := lv_sub hl [2, 3, 4, 1, 0] rfl
  have hl : lv_has ls 9 [(0, .long (lN a)), (2, .long (lN ee)), (4, .long (lN n)), (6, .long (lN (a ^ (ee / 2 ^ 63) % n))), (8, .int (nI 63 - 1))] := hl
  exact loop 63 ls (Nat.le_refl _) hl
set_option maxHeartbeats 4000000 in
/-- isPrime(n) -/
theorem m_isP (l : Launch) {n : Nat} (hn2 : 2 ≤ n) (hn : n < 2 ^ 31) : Met l y_M_isPrime (.code y_M_isPrime b_M_isPrime 4 (some .boolean) :: tb) (rk 0) (va_Pc [.long (lN n)] (fun _ => True)) (QI (z_of (nt_P n))) 0 0 nf := by
  refine mk_met (by decide) (Nat.le_of_ble_eq_true rfl) ?_
  intro p e s m below meth c ls C hnm hB hl
  generalize ([.long (lN n)] : List Value).toArray = args at C ⊢
  obtain ⟨hx, hb, hml, hown, hts, hr, hlk⟩ := id C
  have hl : lv_has ls 4 [(0, .long (lN n))] := hl
  have loop : ∀ (k d : Nat) (ls : Array Slot), 50000 - d = k → 2 ≤ d → (d - 1) * (d - 1) ≤ n → (∀ t, 2 ≤ t → t < d → ¬ t ∣ n) → lv_has ls 4 [(0, .long (lN n)), (2, .long (lN d))] → W p l e (rk 0) s m args below meth c s.heap [] 0 0 (MQ below (QI (z_of (nt_P n))) args s 0 0 nf) (F0 m 14 ls []) := by
    intro k
    induction k using Nat.strongRecOn with
    | _ k ih =>
      intro d ls hk hd2 hdn hno hl
      have hdl : d - 1 ≤ 46341 := by
        apply Classical.byContradiction
        intro hq
        have : 46342 * 46342 ≤ (d - 1) * (d - 1) := Nat.mul_le_mul (by omega) (by omega)
        omega
      have hdd := mul_lt62 (show d < 2 ^ 31 by omega) (show d < 2 ^ 31 by omega)
      refine lv_lload_n hx hb d_M_isPrime_14 rfl (lv_at hl 1 rfl) ?_
      refine lv_lload_n hx hb d_M_isPrime_15 rfl (lv_at hl 1 rfl) ?_
      refine lv_lmul hx hb d_M_isPrime_16 ?_
      rw [show ((lN d) * (lN d) : Int64) = lN (d * d) from lN_mul _ _]
      refine lv_lload_n hx hb d_M_isPrime_17 rfl (lv_at hl 0 rfl) ?_
      refine W.lcmp hx hb d_M_isPrime_18 ?_
      refine lv_if_gt hx hb d_M_isPrime_19 rfl (fun h1 => ?_) (fun h1 => ?_)
      · have hgt : n < d * d := (pk_lLT (by omega) (by omega)).mp ((lg_cmp_gt _ _).mp h1)
        refine lv_iconst (v := 1) hx hb d_M_isPrime_39 (by decide) ?_
        refine rZ C d_M_isPrime_40 (Or.inr rfl) (Or.inl ⟨rfl, nt_trial hn2 (fun t h2 ht => hno t h2 ?_)⟩)
        apply Classical.byContradiction
        intro hq
        have : d * d ≤ t * t := Nat.mul_le_mul (by omega) (by omega)
        omega
      · have hle : d * d ≤ n := by
          apply Classical.byContradiction
          intro hq
          exact h1 ((lg_cmp_gt _ _).mpr ((pk_lLT (by omega) (by omega)).mpr (by omega)))
        refine lv_lload_n hx hb d_M_isPrime_22 rfl (lv_at hl 0 rfl) ?_
        refine lv_lload_n hx hb d_M_isPrime_23 rfl (lv_at hl 1 rfl) ?_
        refine lv_lrem hx hb d_M_isPrime_24 (lN_ne0 (by omega) (by omega)) ?_
        rw [show ((lN n) - (lN n) / (lN d) * (lN d) : Int64) = lN (n % d) from pk_lRem (by omega) (by omega) (by omega)]
        refine lv_lconst (v := 0) hx hb d_M_isPrime_25 (by decide) ?_
        refine W.lcmp hx hb d_M_isPrime_26 ?_
        refine lv_if_ne hx hb d_M_isPrime_27 rfl (fun h2 => ?_) (fun h2 => ?_)
        · have hnd : ¬ d ∣ n := by
            intro hq
            refine h2 ((lg_cmp_eq _ _).mpr ?_)
            rw [Nat.mod_eq_zero_of_dvd hq]
            rfl
          refine lv_lload_n hx hb d_M_isPrime_32 rfl (lv_at hl 1 rfl) ?_
          refine lv_lconst (v := 1) hx hb d_M_isPrime_33 (by decide) ?_
          refine lv_ladd hx hb d_M_isPrime_34 ?_
          rw [show ((lN d) + 1 : Int64) = lN (d + 1) from lN_1 _]
          refine lv_lstore_n (lv' := [(2, .long (lN (d + 1))), (0, .long (lN n))]) hx hb d_M_isPrime_35 rfl hl (Nat.le_of_ble_eq_true rfl) rfl (fun ls hl => ?_)
          refine lv_goto hx hb d_M_isPrime_36 rfl ?_
          have hl := lv_sub hl [1, 0] rfl
          have hl : lv_has ls 4 [(0, .long (lN n)), (2, .long (lN (d + 1)))] := hl
          refine ih (50000 - (d + 1)) (by omega) (d + 1) ls rfl (by omega) (by rw [show d + 1 - 1 = d by omega]; exact hle) (fun t h3 h4 => ?_) hl
          by_cases hq : t = d
          · rw [hq]; exact hnd
          · exact hno t h3 (by omega)
        · have hmd := Nat.mod_lt n (show d > 0 by omega)
          have hz : n % d = 0 := (pk_lEQ (by omega) (b := 0) (by decide)).mp ((lg_cmp_eq _ _).mp h2)
          refine lv_iconst (v := 0) hx hb d_M_isPrime_30 (by decide) ?_
          exact rZ C d_M_isPrime_31 (Or.inl rfl) (Or.inr ⟨rfl, nt_np hd2 hle (Nat.dvd_of_mod_eq_zero hz)⟩)
  refine lv_lload_n hx hb d_M_isPrime_0 rfl (lv_at hl 0 rfl) ?_
  refine lv_ldc2 hx hb hown (hts _ tk_230) d_M_isPrime_1 ?_
  refine W.lcmp hx hb d_M_isPrime_4 ?_
  refine lv_if_ge hx hb d_M_isPrime_5 rfl (fun h1 => ?_) (fun h1 => ?_)
  · refine lv_ldc2 hx hb hown (hts _ tk_230) d_M_isPrime_10 ?_
    refine lv_lstore_n (lv' := [(2, .long (lN 2)), (0, .long (lN n))]) hx hb d_M_isPrime_13 rfl hl (Nat.le_of_ble_eq_true rfl) rfl (fun ls hl => ?_)
    have hl := lv_sub hl [1, 0] rfl
    have hl : lv_has ls 4 [(0, .long (lN n)), (2, .long (lN 2))] := hl
    exact loop (50000 - 2) 2 ls rfl (by omega) (by omega) (fun t h3 h4 => by omega) hl
  · exact absurd ((lg_cmp_ge _ _).mpr ((pk_lLE (a := 2) (by decide) (by omega)).mpr hn2)) h1
set_option maxHeartbeats 4000000 in
/-- isMember(y, p, q), y an int -/
theorem m_isM (l : Launch) (y : Int32) {p1 q1 : Nat} (hp2 : 2 ≤ p1) (hp : p1 < 2 ^ 31) (hq : q1 < 2 ^ 31) : Met l y_M_isMember (.code y_M_isMember b_M_isMember 6 (some .boolean) :: tb) (rk 1) (va_Pc [.long y.toInt64, .long (lN p1), .long (lN q1)] (fun _ => True)) (QI (z_of (memP p1 q1 y))) 0 0 nf := by
  refine mk_met (by decide) (Nat.le_of_ble_eq_true rfl) ?_
  intro p e s m below meth c ls C hnm hB hl
  generalize ([.long y.toInt64, .long (lN p1), .long (lN q1)] : List Value).toArray = args at C ⊢
  obtain ⟨hx, hb, hml, hown, hts, hr, hlk⟩ := id C
  have hl : lv_has ls 6 [(0, .long y.toInt64), (2, .long (lN p1)), (4, .long (lN q1))] := hl
  refine lv_lload_n hx hb d_M_isMember_0 rfl (lv_at hl 0 rfl) ?_
  refine lv_lconst (v := 1) hx hb d_M_isMember_1 (by decide) ?_
  refine lv_lload_n hx hb d_M_isMember_2 rfl (lv_at hl 1 rfl) ?_
  refine lv_lconst (v := 1) hx hb d_M_isMember_3 (by decide) ?_
  refine lv_lsub hx hb d_M_isMember_4 ?_
  rw [show ((lN p1) - 1 : Int64) = lN (p1 - 1) from lN_m1 (by omega)]
  refine goI (runS C [.long y.toInt64, .long 1, .long (lN (p1 - 1))] [] (m_in l y.toInt64 1 (lN (p1 - 1))) sw_M_29 rfl hl.1 ⟨rfl, rfl⟩ (fun _ _ _ => trivial) (fun _ _ _ _ h => h) (Nat.le_of_ble_eq_true rfl) ⟨(Nat.le_of_ble_eq_true rfl), (Nat.le_of_ble_eq_true rfl)⟩ ⟨(Nat.le_of_ble_eq_true rfl), (Nat.le_of_ble_eq_true rfl)⟩ d_M_isMember_5) (fun r hr => ?_)
  subst hr
  refine lv_if_eq hx hb d_M_isMember_8 rfl (fun h1 => ?_) (fun h1 => ?_)
  · have h2 := in_l0.mp h1
    rw [lN_toInt (show p1 - 1 < 2 ^ 31 by omega), show (1 : Int64).toInt = 1 from rfl, Jvm.Kit.i64_of_i32] at h2
    refine lv_iconst (v := 0) hx hb d_M_isMember_27 (by decide) ?_
    refine rZ C d_M_isMember_28 (Or.inl rfl) (Or.inr ⟨rfl, ?_⟩)
    rintro ⟨q1, q2, q3⟩
    exact h2 ⟨q1, by omega⟩
  · have h2 := in_l1.mp h1
    rw [lN_toInt (show p1 - 1 < 2 ^ 31 by omega), show (1 : Int64).toInt = 1 from rfl, Jvm.Kit.i64_of_i32] at h2
    obtain ⟨k, hk, rfl, hk2⟩ := nI_of_toInt (v := y) (by omega)
    rw [nI_l hk] at hl
    refine lv_lload_n hx hb d_M_isMember_11 rfl (lv_at hl 0 rfl) ?_
    refine lv_lload hx hb d_M_isMember_12 (lv_at hl 2 rfl) ?_
    refine lv_lload_n hx hb d_M_isMember_14 rfl (lv_at hl 1 rfl) ?_
    refine goL (runS C [.long (lN k), .long (lN q1), .long (lN p1)] [] (m_powS l (a := k) (ee := q1) (n := p1) hk (by omega) hp2 hp) sw_M_33 rfl hl.1 ⟨rfl, rfl⟩ (fun _ _ _ => trivial) (fun _ _ _ _ h => h) (Nat.le_of_ble_eq_true rfl) ⟨(Nat.le_of_ble_eq_true rfl), (Nat.le_of_ble_eq_true rfl)⟩ ⟨(Nat.le_of_ble_eq_true rfl), (Nat.le_of_ble_eq_true rfl)⟩ d_M_isMember_15) (fun r hr => ?_)
    subst hr
    have hlt := Nat.mod_lt (k ^ q1) (show p1 > 0 by omega)
    have hmem : memP p1 q1 (nI k) ↔ k ^ q1 % p1 = 1 := by
      rw [memP, hk2, Int.toNat_natCast]
      omega
    refine lv_lconst (v := 1) hx hb d_M_isMember_18 (by decide) ?_
    refine W.lcmp hx hb d_M_isMember_19 ?_
    refine lv_if_ne hx hb d_M_isMember_20 rfl (fun h3 => ?_) (fun h3 => ?_)
    · refine lv_iconst (v := 0) hx hb d_M_isMember_27 (by decide) ?_
      exact rZ C d_M_isMember_28 (Or.inl rfl) (Or.inr ⟨rfl, fun hq => h3 ((lg_cmp_eq _ _).mpr (by rw [hmem.mp hq]; rfl))⟩)
    · refine lv_iconst (v := 1) hx hb d_M_isMember_23 (by decide) ?_
      refine lv_goto hx hb d_M_isMember_24 rfl ?_
      exact rZ C d_M_isMember_28 (Or.inr rfl) (Or.inl ⟨rfl, hmem.mpr ((pk_lEQ (b := 1) (by omega) (by decide)).mp ((lg_cmp_eq _ _).mp h3))⟩)
set_option maxHeartbeats 4000000 in
/-- inverse(a, m) of longs -/
theorem m_invS (l : Launch) {a n : Nat} (ha0 : 0 < a) (ha : a < n) (hn : n < 2 ^ 31) : Met l y_M_invS (.code y_M_invS b_M_invS 16 (some .long) :: tb) (rk 0) (va_Pc [.long (lN a), .long (lN n)] (fun _ => True)) (QL (fun r => r = lN (inv_v a n))) 0 0 nf := by
  refine mk_met (by decide) (Nat.le_of_ble_eq_true rfl) ?_
  intro p e s m below meth c ls C hnm hB hl
  generalize ([.long (lN a), .long (lN n)] : List Value).toArray = args at C ⊢
  obtain ⟨hx, hb, hml, hown, hts, hr, hlk⟩ := id C
  have hl : lv_has ls 16 [(0, .long (lN a)), (2, .long (lN n))] := hl
  have loop : ∀ (cc b : Nat) (u v : Int64) (ls : Array Slot), cc < 2 ^ 31 → b < 2 ^ 31 → eg_I n b cc u.toInt v.toInt → eg_v b cc u.toInt v.toInt = eg_v n a 0 1 → lv_has ls 16 [(0, .long (lN a)), (2, .long (lN n)), (4, .long (lN b)), (6, .long (lN cc)), (8, .long u), (10, .long v)] → W p l e (rk 0) s m args below meth c s.heap [] 0 0 (MQ below (QL (fun r => r = lN (inv_v a n))) args s 0 0 nf) (F0 m 12 ls []) := by
    intro cc
    induction cc using Nat.strongRecOn with
    | _ cc ih =>
      intro b u v ls hcc hbb hI hE hl
      refine lv_lload hx hb d_M_invS_12 (lv_at hl 3 rfl) ?_
      refine lv_lconst (v := 0) hx hb d_M_invS_14 (by decide) ?_
      refine W.lcmp hx hb d_M_invS_15 ?_
      refine lv_if_eq hx hb d_M_invS_16 rfl (fun h1 => ?_) (fun h1 => ?_)
      · have hc0 : cc = 0 := (pk_lEQ (by omega) (b := 0) (by decide)).mp ((lg_cmp_eq _ _).mp h1)
        subst hc0
        rw [eg_0] at hE
        have hni : (lN n).toInt = (n : Int) := lN_toInt hn
        have hrem := Jvm.Kit.i64_rem u (lN n)
        rw [hni] at hrem
        have hbd := tmod_bounds (a := u.toInt) (M := (n : Int)) (by omega)
        refine lv_lload hx hb d_M_invS_65 (lv_at hl 4 rfl) ?_
        refine lv_lload_n hx hb d_M_invS_67 rfl (lv_at hl 1 rfl) ?_
        refine lv_lrem hx hb d_M_invS_68 (lN_ne0 (by omega) (by omega)) ?_
        generalize u - u / lN n * lN n = rr at hrem ⊢
        refine lv_lload_n hx hb d_M_invS_69 rfl (lv_at hl 1 rfl) ?_
        refine lv_ladd hx hb d_M_invS_70 ?_
        have hadd : (rr + lN n).toInt = u.toInt.tmod n + n := by
          rw [Jvm.Kit.i64_add (by rw [hrem, hni]; omega) (by rw [hrem, hni]; omega), hrem, hni]
        refine lv_lload_n hx hb d_M_invS_71 rfl (lv_at hl 1 rfl) ?_
        refine lv_lrem hx hb d_M_invS_72 (lN_ne0 (by omega) (by omega)) ?_
        refine rL C d_M_invS_73 ?_
        rw [inv_v, ← hE]
        refine eq_lN ?_ (Int.emod_nonneg _ (by omega))
        rw [Jvm.Kit.i64_rem_nonneg (by omega), hadd, hni]
        exact tm_fix (by omega)
      · have hc0 : 0 < cc := by
          apply Classical.byContradiction
          intro hq
          exact h1 ((lg_cmp_eq _ _).mpr (by rw [show cc = 0 by omega]; rfl))
        have hnx := eg_next hI
        have hlg := eg_long hn hc0 hbb hI
        have hmod := Nat.mod_lt b hc0
        refine lv_lload hx hb d_M_invS_19 (lv_at hl 2 rfl) ?_
        refine lv_lload hx hb d_M_invS_21 (lv_at hl 3 rfl) ?_
        refine lv_ldiv hx hb d_M_invS_23 (lN_ne0 hc0 (by omega)) ?_
        rw [show ((lN b) / (lN cc) : Int64) = lN (b / cc) from pk_lDiv (by omega) hc0 (by omega)]
        refine lv_lstore (lv' := [(12, .long (lN (b / cc))), (0, .long (lN a)), (2, .long (lN n)), (4, .long (lN b)), (6, .long (lN cc)), (8, .long u), (10, .long v)]) hx hb d_M_invS_24 hl (Nat.le_of_ble_eq_true rfl) rfl (fun ls hl => ?_)
        refine lv_lload hx hb d_M_invS_26 (lv_at hl 3 rfl) ?_
        refine lv_lload hx hb d_M_invS_28 (lv_at hl 0 rfl) ?_
        refine lv_lload hx hb d_M_invS_30 (lv_at hl 4 rfl) ?_
        refine lv_lmul hx hb d_M_invS_32 ?_
        refine lv_lsub hx hb d_M_invS_33 ?_
        rw [show ((lN b) - ((lN (b / cc)) * (lN cc)) : Int64) = lN (b % cc) from lN_mod]
        refine lv_lstore (lv' := [(14, .long (lN (b % cc))), (12, .long (lN (b / cc))), (0, .long (lN a)), (2, .long (lN n)), (4, .long (lN b)), (6, .long (lN cc)), (8, .long u), (10, .long v)]) hx hb d_M_invS_34 hl (Nat.le_of_ble_eq_true rfl) rfl (fun ls hl => ?_)
        refine lv_lload hx hb d_M_invS_36 (lv_at hl 5 rfl) ?_
        refine lv_lstore (lv' := [(4, .long (lN cc)), (14, .long (lN (b % cc))), (12, .long (lN (b / cc))), (0, .long (lN a)), (2, .long (lN n)), (6, .long (lN cc)), (8, .long u), (10, .long v)]) hx hb d_M_invS_38 hl (Nat.le_of_ble_eq_true rfl) rfl (fun ls hl => ?_)
        refine lv_lload hx hb d_M_invS_40 (lv_at hl 1 rfl) ?_
        refine lv_lstore (lv' := [(6, .long (lN (b % cc))), (4, .long (lN cc)), (14, .long (lN (b % cc))), (12, .long (lN (b / cc))), (0, .long (lN a)), (2, .long (lN n)), (8, .long u), (10, .long v)]) hx hb d_M_invS_42 hl (Nat.le_of_ble_eq_true rfl) rfl (fun ls hl => ?_)
        refine lv_lload hx hb d_M_invS_44 (lv_at hl 6 rfl) ?_
        refine lv_lload hx hb d_M_invS_46 (lv_at hl 3 rfl) ?_
        refine lv_lload hx hb d_M_invS_48 (lv_at hl 7 rfl) ?_
        refine lv_lmul hx hb d_M_invS_50 ?_
        refine lv_lsub hx hb d_M_invS_51 ?_
        refine lv_lstore (lv' := [(14, .long (u - ((lN (b / cc)) * v))), (6, .long (lN (b % cc))), (4, .long (lN cc)), (12, .long (lN (b / cc))), (0, .long (lN a)), (2, .long (lN n)), (8, .long u), (10, .long v)]) hx hb d_M_invS_52 hl (Nat.le_of_ble_eq_true rfl) rfl (fun ls hl => ?_)
        refine lv_lload hx hb d_M_invS_54 (lv_at hl 7 rfl) ?_
        refine lv_lstore (lv' := [(8, .long v), (14, .long (u - ((lN (b / cc)) * v))), (6, .long (lN (b % cc))), (4, .long (lN cc)), (12, .long (lN (b / cc))), (0, .long (lN a)), (2, .long (lN n)), (10, .long v)]) hx hb d_M_invS_56 hl (Nat.le_of_ble_eq_true rfl) rfl (fun ls hl => ?_)
        refine lv_lload hx hb d_M_invS_58 (lv_at hl 1 rfl) ?_
        refine lv_lstore (lv' := [(10, .long (u - ((lN (b / cc)) * v))), (8, .long v), (14, .long (u - ((lN (b / cc)) * v))), (6, .long (lN (b % cc))), (4, .long (lN cc)), (12, .long (lN (b / cc))), (0, .long (lN a)), (2, .long (lN n))]) hx hb d_M_invS_60 hl (Nat.le_of_ble_eq_true rfl) rfl (fun ls hl => ?_)
        refine lv_goto hx hb d_M_invS_62 rfl ?_
        have hl := lv_sub hl [6, 7, 4, 3, 1, 0] rfl
        have hl : lv_has ls 16 [(0, .long (lN a)), (2, .long (lN n)), (4, .long (lN cc)), (6, .long (lN (b % cc))), (8, .long v), (10, .long (u - ((lN (b / cc)) * v)))] := hl
        refine ih (b % cc) hmod cc v (u - lN (b / cc) * v) ls (by omega) hcc ?_ ?_ hl
        · rw [hlg]; exact hnx.1
        · rw [hlg, ← eg_s hc0]; exact hE
  refine lv_lload_n hx hb d_M_invS_0 rfl (lv_at hl 1 rfl) ?_
  refine lv_lstore (lv' := [(4, .long (lN n)), (0, .long (lN a)), (2, .long (lN n))]) hx hb d_M_invS_1 hl (Nat.le_of_ble_eq_true rfl) rfl (fun ls hl => ?_)
  refine lv_lload_n hx hb d_M_invS_3 rfl (lv_at hl 1 rfl) ?_
  refine lv_lstore (lv' := [(6, .long (lN a)), (4, .long (lN n)), (0, .long (lN a)), (2, .long (lN n))]) hx hb d_M_invS_4 hl (Nat.le_of_ble_eq_true rfl) rfl (fun ls hl => ?_)
  refine lv_lconst (v := 0) hx hb d_M_invS_6 (by decide) ?_
  refine lv_lstore (lv' := [(8, .long 0), (6, .long (lN a)), (4, .long (lN n)), (0, .long (lN a)), (2, .long (lN n))]) hx hb d_M_invS_7 hl (Nat.le_of_ble_eq_true rfl) rfl (fun ls hl => ?_)
  refine lv_lconst (v := 1) hx hb d_M_invS_9 (by decide) ?_
  refine lv_lstore (lv' := [(10, .long 1), (8, .long 0), (6, .long (lN a)), (4, .long (lN n)), (0, .long (lN a)), (2, .long (lN n))]) hx hb d_M_invS_10 hl (Nat.le_of_ble_eq_true rfl) rfl (fun ls hl => ?_)
  have hl := lv_sub hl [4, 5, 3, 2, 1, 0] rfl
  have hl : lv_has ls 16 [(0, .long (lN a)), (2, .long (lN n)), (4, .long (lN n)), (6, .long (lN a)), (8, .long 0), (10, .long 1)] := hl
  refine loop a n 0 1 ls (by omega) hn ?_ rfl hl
  refine ⟨?_, Or.inl ⟨by decide, by decide⟩⟩
  show 0 * a + 1 * n = n
  omega
end
section
/-! the model's object -/
section MG
variable {p0 : Program} {l : Launch} {e : Env} {R : Room} {s : State} {m : MethodId} {args : Array Value} {below : List Frame} {meth : Method} {c : Code} {H H0 : Heap} {locs : List Loc} {cells slots : Nat} {Q : State → Prop} {A : Nat → Prop}
variable {cc : ByteArray} {pc nL : Nat} {ls : Array Slot} {ret : Option FieldType} {D : va_G} {h p q g : Nat} {er : Int32} {rest : List Value}
theorem mg_e (C : CX p0 s args m meth c "ProofDeskModel" cc nL ret) (hK : va_K D cl [] s) (hP : va_P D cl [mW h er p q g] H) (hdg : decode cc pc = .ok (.getfield 25, 3))
    (kk : W p0 l e R s m args below meth c H locs cells slots Q (F0 m (pc + 3) ls (.int er :: rest))) : W p0 l e R s m args below meth c H locs cells slots Q (F0 m pc ls (.ref h :: rest)) :=
  va_get (D := D) (ci := 1) (v := .int er) C.1 C.2.1 C.2.2.2.2.1 in_M C.2.2.2.1 hK hP 0 rfl rfl 0 (by decide) (C.2.2.2.2.1 _ tk_231) (fun _ h9 => h9) rfl hdg kk
theorem mg_p (C : CX p0 s args m meth c "ProofDeskModel" cc nL ret) (hK : va_K D cl [] s) (hP : va_P D cl [mW h er p q g] H) (hdg : decode cc pc = .ok (.getfield 9, 3))
    (kk : W p0 l e R s m args below meth c H locs cells slots Q (F0 m (pc + 3) ls (.long (lN p) :: rest))) : W p0 l e R s m args below meth c H locs cells slots Q (F0 m pc ls (.ref h :: rest)) :=
  va_get (D := D) (ci := 1) (v := .long (lN p)) C.1 C.2.1 C.2.2.2.2.1 in_M C.2.2.2.1 hK hP 0 rfl rfl 1 (by decide) (C.2.2.2.2.1 _ tk_232) (fun _ h9 => h9) rfl hdg kk
theorem mg_q (C : CX p0 s args m meth c "ProofDeskModel" cc nL ret) (hK : va_K D cl [] s) (hP : va_P D cl [mW h er p q g] H) (hdg : decode cc pc = .ok (.getfield 17, 3))
    (kk : W p0 l e R s m args below meth c H locs cells slots Q (F0 m (pc + 3) ls (.long (lN q) :: rest))) : W p0 l e R s m args below meth c H locs cells slots Q (F0 m pc ls (.ref h :: rest)) :=
  va_get (D := D) (ci := 1) (v := .long (lN q)) C.1 C.2.1 C.2.2.2.2.1 in_M C.2.2.2.1 hK hP 0 rfl rfl 2 (by decide) (C.2.2.2.2.1 _ tk_233) (fun _ h9 => h9) rfl hdg kk
theorem mg_g (C : CX p0 s args m meth c "ProofDeskModel" cc nL ret) (hK : va_K D cl [] s) (hP : va_P D cl [mW h er p q g] H) (hdg : decode cc pc = .ok (.getfield 22, 3))
    (kk : W p0 l e R s m args below meth c H locs cells slots Q (F0 m (pc + 3) ls (.long (lN g) :: rest))) : W p0 l e R s m args below meth c H locs cells slots Q (F0 m pc ls (.ref h :: rest)) :=
  va_get (D := D) (ci := 1) (v := .long (lN g)) C.1 C.2.1 C.2.2.2.2.1 in_M C.2.2.2.1 hK hP 0 rfl rfl 3 (by decide) (C.2.2.2.2.1 _ tk_234) (fun _ h9 => h9) rfl hdg kk
theorem mp_e (C : CX p0 s args m meth c "ProofDeskModel" cc nL ret) (hK : va_K D cl [] s) (hP : va_P D cl [mW h er p q g] H) (hD : va_D A [mW h er p q g]) (hS : va_S A H0 H locs) {v : Int32} (hdg : decode cc pc = .ok (.putfield 25, 3))
    (kk : ∀ (H1 : Heap) (locs1 : List Loc), va_P D cl [mW h v p q g] H1 → va_D A [mW h v p q g] → va_S A H0 H1 locs1 → W p0 l e R s m args below meth c H1 locs1 cells slots Q (F0 m (pc + 3) ls rest)) : W p0 l e R s m args below meth c H locs cells slots Q (F0 m pc ls (.int v :: .ref h :: rest)) :=
  va_put (D := D) (ci := 1) (v := .int v) (ty := .int) (C := "ProofDeskModel") (T := F_M) (N := 4) C.1 C.2.1 C.2.2.2.2.1 in_M t_M t_M_ok n_M C.2.2.2.1 hK hP hD hS 0 rfl rfl 0 (by decide) (C.2.2.2.2.1 _ tk_231) (fun _ h9 => h9) rfl (by decide +kernel) rfl rfl (Nat.le_of_ble_eq_true rfl) hdg kk
end MG
def MO (D : va_G) (h : Nat) (er : Int32) (p q g : Nat) (U : State) : Prop := va_P D cl [mW h er p q g] U.heap ∧ va_K D cl [] U
theorem MO.call {D : va_G} {h p q g : Nat} {er : Int32} {U : State} (hX : MO D h er p q g U) (f : JFrame) (mk : MethodId) (a : Array Value) : MO D h er p q g (U.calling f mk a) :=
  ⟨hX.1, va_K.moved (u := U) (U := U.calling f mk a) (Vm.Alike.refl U.vm) hX.2⟩
abbrev at_m (D : va_G) (A : Nat → Prop) (h p q g : Nat) (u : Int32) (t : State) : Prop := va_P D cl [mW h u p q g] t.heap ∧ va_K D cl [] t ∧ va_D A [mW h u p q g]
/-- what an operation of the model answers: refused with 1, or the number -/
def mo_post (Good : Prop) (val : Nat) (r u : Int32) : Prop := (Good ∧ u = 0 ∧ r = nI val) ∨ (¬ Good ∧ u = 1 ∧ r = 0)
end
section
/-! methods of the model -/
set_option maxHeartbeats 4000000 in
/-- thrown() -/
theorem m_thrown (l : Launch) (D : va_G) {h p q g : Nat} {er : Int32} : Met l y_M_thrown (.code y_M_thrown b_M_thrown 1 (some .int) :: tb) (rk 0) (va_Pc [.ref h] (fun U => MO D h er p q g U)) (QI (fun r => r = er)) 0 0 nf := by
  refine mk_met (by decide) (Nat.le_of_ble_eq_true rfl) ?_
  intro p0 e s m below meth c ls C hnm hB hl
  generalize ([.ref h] : List Value).toArray = args at C ⊢
  obtain ⟨hx, hb, hml, hown, hts, hr, hlk⟩ := id C
  obtain ⟨hP, hK⟩ := hB
  have hl : lv_has ls 1 [(0, .ref h)] := hl
  refine lv_aload_n hx hb d_M_thrown_0 rfl (lv_at hl 0 rfl) ?_
  refine mg_e C hK hP d_M_thrown_1 ?_
  exact rI C d_M_thrown_4 rfl
set_option maxHeartbeats 4000000 in
/-- isExponent(v), v an int -/
theorem m_isE (l : Launch) (D : va_G) {h p q g : Nat} {er : Int32} (hq0 : 0 < q) (hq : q < 2 ^ 31) (v : Int32) : Met l y_M_isExponent (.code y_M_isExponent b_M_isExponent 3 (some .boolean) :: tb) (rk 1) (va_Pc [.ref h, .long v.toInt64] (fun U => MO D h er p q g U)) (QI (z_of (expP q v))) 0 0 nf := by
  refine mk_met (by decide) (Nat.le_of_ble_eq_true rfl) ?_
  intro p0 e s m below meth c ls C hnm hB hl
  generalize ([.ref h, .long v.toInt64] : List Value).toArray = args at C ⊢
  obtain ⟨hx, hb, hml, hown, hts, hr, hlk⟩ := id C
  obtain ⟨hP, hK⟩ := hB
  have hl : lv_has ls 3 [(0, .ref h), (1, .long v.toInt64)] := hl
  refine lv_lload_n hx hb d_M_isExponent_0 rfl (lv_at hl 1 rfl) ?_
  refine lv_lconst (v := 0) hx hb d_M_isExponent_1 (by decide) ?_
  refine lv_aload_n hx hb d_M_isExponent_2 rfl (lv_at hl 0 rfl) ?_
  refine mg_q C hK hP d_M_isExponent_3 ?_
  refine lv_lconst (v := 1) hx hb d_M_isExponent_6 (by decide) ?_
  refine lv_lsub hx hb d_M_isExponent_7 ?_
  rw [show ((lN q) - 1 : Int64) = lN (q - 1) from lN_m1 (by omega)]
  refine goI (runS C [.long v.toInt64, .long 0, .long (lN (q - 1))] [] (m_in l v.toInt64 0 (lN (q - 1))) sw_M_29 rfl hl.1 ⟨rfl, rfl⟩ (fun _ _ _ => trivial) (fun _ _ _ _ h => h) (Nat.le_of_ble_eq_true rfl) ⟨(Nat.le_of_ble_eq_true rfl), (Nat.le_of_ble_eq_true rfl)⟩ ⟨(Nat.le_of_ble_eq_true rfl), (Nat.le_of_ble_eq_true rfl)⟩ d_M_isExponent_8) (fun r hr => ?_)
  subst hr
  have hz : z_of (expP q v) (in_l 0 v.toInt64 (lN (q - 1))) := in_lz (by rw [expP, lN_toInt (show q - 1 < 2 ^ 31 by omega), show (0 : Int64).toInt = 0 from rfl, Jvm.Kit.i64_of_i32]; omega)
  exact rZ C d_M_isExponent_11 (z_01 hz) hz
set_option maxHeartbeats 4000000 in
/-- fails(false, ..) -/
theorem m_fails0 (l : Launch) (D : va_G) {h p q g : Nat} (cd : Int32) : Met l y_M_fails (.code y_M_fails b_M_fails 3 (some .boolean) :: tb) (rk 0) (va_Pc [.ref h, .int 0, .int cd] (fun U => MO D h 0 p q g U)) (QI (fun r => r = 0)) 0 0 nf := by
  refine mk_met (by decide) (Nat.le_of_ble_eq_true rfl) ?_
  intro p0 e s m below meth c ls C hnm hB hl
  generalize ([.ref h, .int 0, .int cd] : List Value).toArray = args at C ⊢
  obtain ⟨hx, hb, hml, hown, hts, hr, hlk⟩ := id C
  obtain ⟨hP, hK⟩ := hB
  have hl : lv_has ls 3 [(0, .ref h), (1, .int 0), (2, .int cd)] := hl
  refine lv_iload_n hx hb d_M_fails_0 rfl (lv_at hl 1 rfl) ?_
  refine lv_if_eq hx hb d_M_fails_1 rfl (fun h1 => ?_) (fun h1 => ?_)
  · refine lv_aload_n hx hb d_M_fails_16 rfl (lv_at hl 0 rfl) ?_
    refine mg_e C hK hP d_M_fails_17 ?_
    refine lv_if_eq hx hb d_M_fails_20 rfl (fun h2 => ?_) (fun h2 => ?_)
    · refine lv_iconst (v := 0) hx hb d_M_fails_27 (by decide) ?_
      exact rZ C d_M_fails_28 (Or.inl rfl) rfl
    · exact absurd rfl h2
  · exact absurd rfl h1
set_option maxHeartbeats 4000000 in
/-- fails(true, cd) -/
theorem m_fails1 (l : Launch) (D : va_G) {h p q g sz : Nat} {cd : Int32} (hcd : ¬ cd = 0) : Met l y_M_fails (.code y_M_fails b_M_fails 3 (some .boolean) :: tb) (rk 0) (va_Pc [.ref h, .int 1, .int cd] (fun U => U.heap.size = sz ∧ MO D h 0 p q g U)) (va_Qi (fun r (u : Int32) => r = 1 ∧ u = cd) (at_m D (va_A [mW h 0 p q g] sz) h p q g) (va_A [mW h 0 p q g] sz)) 0 0 (va_A [mW h 0 p q g] sz) := by
  refine mk_met (by decide) (Nat.le_of_ble_eq_true rfl) ?_
  intro p0 e s m below meth c ls C hnm hB hl
  generalize ([.ref h, .int 1, .int cd] : List Value).toArray = args at C ⊢
  obtain ⟨hx, hb, hml, hown, hts, hr, hlk⟩ := id C
  obtain ⟨hsz, hP, hK⟩ := hB
  subst hsz
  have hD : va_D (va_A [mW h 0 p q g] s.heap.size) [mW h 0 p q g] := one_D _ _ (va_A.in (k := 0) rfl)
  generalize hAe : va_A [mW h 0 p q g] s.heap.size = A at hD ⊢
  have hA : ∀ q : Nat, s.heap.size ≤ q → A q := fun q h => by rw [← hAe]; exact Or.inr h
  have hS : va_S A s.heap s.heap [] := va_S.rf
  have hl : lv_has ls 3 [(0, .ref h), (1, .int 1), (2, .int cd)] := hl
  refine lv_iload_n hx hb d_M_fails_0 rfl (lv_at hl 1 rfl) ?_
  refine lv_if_eq hx hb d_M_fails_1 rfl (fun h1 => ?_) (fun h1 => ?_)
  · exact absurd h1 (by decide)
  · refine lv_aload_n hx hb d_M_fails_4 rfl (lv_at hl 0 rfl) ?_
    refine mg_e C hK hP d_M_fails_5 ?_
    refine lv_if_ne hx hb d_M_fails_8 rfl (fun h2 => ?_) (fun h2 => ?_)
    · exact absurd rfl h2
    · refine lv_aload_n hx hb d_M_fails_11 rfl (lv_at hl 0 rfl) ?_
      refine lv_iload_n hx hb d_M_fails_12 rfl (lv_at hl 2 rfl) ?_
      refine mp_e C hK hP hD hS (v := cd) d_M_fails_13 (fun H locs hP hD hS => ?_)
      refine lv_aload_n hx hb d_M_fails_16 rfl (lv_at hl 0 rfl) ?_
      refine mg_e C hK hP d_M_fails_17 ?_
      refine lv_if_eq hx hb d_M_fails_20 rfl (fun h3 => ?_) (fun h3 => ?_)
      · exact absurd h3 hcd
      · refine lv_iconst (v := 1) hx hb d_M_fails_23 (by decide) ?_
        refine lv_goto hx hb d_M_fails_24 rfl ?_
        exact W.zret hx hb hr (by decide +kernel) (fun t ht hW => ⟨⟨1, cd, rfl, ⟨rfl, rfl⟩, by rw [ht]; exact hP, va_K.moved hW.alike hK, hD⟩, hS.F ht⟩) hS.2.2 d_M_fails_28 hlk
set_option maxHeartbeats 4000000 in
/-- product -/
theorem m_product (l : Launch) (D : va_G) {h p q g sz : Nat} {er : Int32} (hG : grp p q g) (a b : Int32) : Met l y_M_product (.code y_M_product b_M_product 3 (some .int) :: tb) (rk 2) (va_Pc [.ref h, .int a, .int b] (fun U => U.heap.size = sz ∧ MO D h er p q g U)) (va_Qi (mo_post ((0 ≤ a.toInt ∧ a.toInt < p) ∧ (0 ≤ b.toInt ∧ b.toInt < p)) (a.toInt.toNat * b.toInt.toNat % p)) (at_m D (va_A [mW h er p q g] sz) h p q g) (va_A [mW h er p q g] sz)) 0 0 (va_A [mW h er p q g] sz) := by
  refine mk_met (by decide) (Nat.le_of_ble_eq_true rfl) ?_
  intro p0 e s m below meth c ls C hnm hB hl
  generalize ([.ref h, .int a, .int b] : List Value).toArray = args at C ⊢
  obtain ⟨hx, hb, hml, hown, hts, hr, hlk⟩ := id C
  obtain ⟨hsz, hP, hK⟩ := hB
  subst hsz
  have hD : va_D (va_A [mW h er p q g] s.heap.size) [mW h er p q g] := one_D _ _ (va_A.in (k := 0) rfl)
  generalize hAe : va_A [mW h er p q g] s.heap.size = A at hD ⊢
  have hA : ∀ q : Nat, s.heap.size ≤ q → A q := fun q h => by rw [← hAe]; exact Or.inr h
  have hS : va_S A s.heap s.heap [] := va_S.rf
  obtain ⟨g5, g31, gq, gqp, ggp, gg2⟩ := hG.nums
  have hl : lv_has ls 3 [(0, .ref h), (1, .int a), (2, .int b)] := hl
  refine lv_aload_n hx hb d_M_product_0 rfl (lv_at hl 0 rfl) ?_
  refine lv_iconst (v := 0) hx hb d_M_product_1 (by decide) ?_
  refine mp_e C hK hP hD hS (v := 0) d_M_product_2 (fun H locs hP hD hS => ?_)
  refine lv_aload_n hx hb d_M_product_5 rfl (lv_at hl 0 rfl) ?_
  refine lv_iload_n hx hb d_M_product_6 rfl (lv_at hl 1 rfl) ?_
  refine lv_i2l hx hb d_M_product_7 (rfl) ?_
  refine lv_lconst (v := 0) hx hb d_M_product_8 (by decide) ?_
  refine lv_aload_n hx hb d_M_product_9 rfl (lv_at hl 0 rfl) ?_
  refine mg_p C hK hP d_M_product_10 ?_
  refine lv_lconst (v := 1) hx hb d_M_product_13 (by decide) ?_
  refine lv_lsub hx hb d_M_product_14 ?_
  rw [show ((lN p) - 1 : Int64) = lN (p - 1) from lN_m1 (by omega)]
  refine goI (runS C [.long a.toInt64, .long 0, .long (lN (p - 1))] [.ref h] (m_in l a.toInt64 0 (lN (p - 1))) sw_M_29 rfl hl.1 ⟨rfl, rfl⟩ (fun _ _ _ => trivial) (fun _ _ _ _ h => h) (Nat.le_of_ble_eq_true rfl) ⟨(Nat.le_of_ble_eq_true rfl), (Nat.le_of_ble_eq_true rfl)⟩ ⟨(Nat.le_of_ble_eq_true rfl), (Nat.le_of_ble_eq_true rfl)⟩ d_M_product_15) (fun r hr => ?_)
  subst hr
  refine lv_if_eq hx hb d_M_product_18 rfl (fun h1 => ?_) (fun h1 => ?_)
  · have h1 := in_l0.mp h1
    rw [lN_toInt (show p - 1 < 2 ^ 31 by omega), show (0 : Int64).toInt = 0 from rfl, Jvm.Kit.i64_of_i32] at h1
    have hng : ¬ ((0 ≤ a.toInt ∧ a.toInt < p) ∧ (0 ≤ b.toInt ∧ b.toInt < p)) := fun hq => h1 ⟨hq.1.1, by omega⟩
    refine lv_iconst (v := 1) hx hb d_M_product_36 (by decide) ?_
    refine lv_goto hx hb d_M_product_37 rfl ?_
    refine lv_iconst (v := 1) hx hb d_M_product_41 (by decide) ?_
    have hFc := va_free (wc := [mW h 0 p q g]) hD hS hA [0] rfl
    refine va_calli (runV C h [.int 1, .int 1] [] (m_fails1 l D (h := h) (p := p) (q := q) (g := g) (sz := H.size) (cd := 1) (by decide)) vw_M_44 rfl hl.1 ⟨rfl, rfl⟩ (va_recv (ci := 1) (q := ("ProofDeskModel", F_M, 4)) hK hP rfl (q0 := 0) rfl) (fun U hU hW => ⟨by rw [hU], by rw [hU]; exact hP, va_K.moved hW.alike hK⟩) (fun U f mk a hU => ⟨hU.1, MO.call hU.2 f mk a⟩) (Nat.le_of_ble_eq_true rfl) ⟨(Nat.le_of_ble_eq_true rfl), (Nat.le_of_ble_eq_true rfl)⟩ ⟨(Nat.le_of_ble_eq_true rfl), (Nat.le_of_ble_eq_true rfl)⟩ d_M_product_42) hS (fun q _ h9 => hFc q h9) hFc (fun rr u t H1 locs ht hvm hpo hBB hz1 hk1 hS => ?_)
    obtain ⟨rfl, rfl⟩ := hpo
    obtain ⟨hP1, hK1, hD1⟩ := hBB
    rw [ht] at hP1
    obtain ⟨hP, hD⟩ := va_join (wr := []) (w1 := [mW h 1 p q g]) hP hD [0] [] rfl rfl (by decide) (by decide) hk1 hFc hP1 hD1
    have hP : va_P D cl [mW h 1 p q g] H1 := hP
    have hD : va_D A [mW h 1 p q g] := hD
    generalize H1 = H at hP hS ⊢
    refine lv_if_eq hx hb d_M_product_45 rfl (fun k9 => ?_) (fun k9 => ?_)
    · exact absurd k9 (by decide)
    · refine lv_iconst (v := 0) hx hb d_M_product_48 (by decide) ?_
      refine lv_goto hx hb d_M_product_49 rfl ?_
      exact W.iret hx hb hr (fun t ht hW => ⟨⟨0, 1, rfl, Or.inr ⟨hng, rfl, rfl⟩, by rw [ht]; exact hP, va_K.moved hW.alike hK, hD⟩, hS.F ht⟩) hS.2.2 d_M_product_63 hlk
  · have h1 := in_l1.mp h1
    rw [lN_toInt (show p - 1 < 2 ^ 31 by omega), show (0 : Int64).toInt = 0 from rfl, Jvm.Kit.i64_of_i32] at h1
    refine lv_iload_n hx hb d_M_product_21 rfl (lv_at hl 2 rfl) ?_
    refine lv_i2l hx hb d_M_product_22 (rfl) ?_
    refine lv_lconst (v := 0) hx hb d_M_product_23 (by decide) ?_
    refine lv_aload_n hx hb d_M_product_24 rfl (lv_at hl 0 rfl) ?_
    refine mg_p C hK hP d_M_product_25 ?_
    refine lv_lconst (v := 1) hx hb d_M_product_28 (by decide) ?_
    refine lv_lsub hx hb d_M_product_29 ?_
    rw [show ((lN p) - 1 : Int64) = lN (p - 1) from lN_m1 (by omega)]
    refine goI (runS C [.long b.toInt64, .long 0, .long (lN (p - 1))] [.ref h] (m_in l b.toInt64 0 (lN (p - 1))) sw_M_29 rfl hl.1 ⟨rfl, rfl⟩ (fun _ _ _ => trivial) (fun _ _ _ _ h => h) (Nat.le_of_ble_eq_true rfl) ⟨(Nat.le_of_ble_eq_true rfl), (Nat.le_of_ble_eq_true rfl)⟩ ⟨(Nat.le_of_ble_eq_true rfl), (Nat.le_of_ble_eq_true rfl)⟩ d_M_product_30) (fun r hr => ?_)
    subst hr
    refine lv_if_ne hx hb d_M_product_33 rfl (fun h2 => ?_) (fun h2 => ?_)
    · have h2 := in_l1.mp h2
      rw [lN_toInt (show p - 1 < 2 ^ 31 by omega), show (0 : Int64).toInt = 0 from rfl, Jvm.Kit.i64_of_i32] at h2
      have hgd : ((0 ≤ a.toInt ∧ a.toInt < p) ∧ (0 ≤ b.toInt ∧ b.toInt < p)) := ⟨⟨by omega, by omega⟩, ⟨by omega, by omega⟩⟩
      refine lv_iconst (v := 0) hx hb d_M_product_40 (by decide) ?_
      refine lv_iconst (v := 1) hx hb d_M_product_41 (by decide) ?_
      refine goI (runV C h [.int 0, .int 1] [] (m_fails0 l D (h := h) (p := p) (q := q) (g := g) 1) vw_M_44 rfl hl.1 ⟨rfl, rfl⟩ (va_recv (ci := 1) (q := ("ProofDeskModel", F_M, 4)) hK hP rfl (q0 := 0) rfl) (fun U hU hW => ⟨by rw [hU]; exact hP, va_K.moved hW.alike hK⟩) (fun U f mk a hU => MO.call hU f mk a) (Nat.le_of_ble_eq_true rfl) ⟨(Nat.le_of_ble_eq_true rfl), (Nat.le_of_ble_eq_true rfl)⟩ ⟨(Nat.le_of_ble_eq_true rfl), (Nat.le_of_ble_eq_true rfl)⟩ d_M_product_42) (fun r hfl0 => ?_)
      subst hfl0
      refine lv_if_eq hx hb d_M_product_45 rfl (fun k9 => ?_) (fun k9 => ?_)
      · obtain ⟨a1, ha1, rfl, ha2⟩ := nI_of_toInt (v := a) hgd.1.1
        obtain ⟨b1, hb1, rfl, hb2⟩ := nI_of_toInt (v := b) hgd.2.1
        have hm := mul_lt62 ha1 hb1
        refine lv_iload_n hx hb d_M_product_52 rfl (lv_at hl 1 rfl) ?_
        refine lv_i2l (v := lN a1) hx hb d_M_product_53 (nI_l ha1) ?_
        refine lv_iload_n hx hb d_M_product_54 rfl (lv_at hl 2 rfl) ?_
        refine lv_i2l (v := lN b1) hx hb d_M_product_55 (nI_l hb1) ?_
        refine lv_lmul hx hb d_M_product_56 ?_
        rw [show ((lN a1) * (lN b1) : Int64) = lN (a1 * b1) from lN_mul _ _]
        refine lv_aload_n hx hb d_M_product_57 rfl (lv_at hl 0 rfl) ?_
        refine mg_p C hK hP d_M_product_58 ?_
        refine lv_lrem hx hb d_M_product_61 (lN_ne0 (by omega) (by omega)) ?_
        rw [show ((lN (a1 * b1)) - (lN (a1 * b1)) / (lN p) * (lN p) : Int64) = lN (a1 * b1 % p) from pk_lRem (by omega) (by omega) (by omega)]
        refine lv_l2i (v := nI (a1 * b1 % p)) hx hb d_M_product_62 (lN_i _) ?_
        exact W.iret hx hb hr (fun t ht hW => ⟨⟨nI (a1 * b1 % p), 0, rfl, Or.inl ⟨hgd, rfl, by rw [ha2, hb2, Int.toNat_natCast, Int.toNat_natCast]⟩, by rw [ht]; exact hP, va_K.moved hW.alike hK, hD⟩, hS.F ht⟩) hS.2.2 d_M_product_63 hlk
      · exact absurd rfl k9
    · have h2 := in_l0.mp h2
      rw [lN_toInt (show p - 1 < 2 ^ 31 by omega), show (0 : Int64).toInt = 0 from rfl, Jvm.Kit.i64_of_i32] at h2
      have hng : ¬ ((0 ≤ a.toInt ∧ a.toInt < p) ∧ (0 ≤ b.toInt ∧ b.toInt < p)) := fun hq => h2 ⟨hq.2.1, by omega⟩
      refine lv_iconst (v := 1) hx hb d_M_product_36 (by decide) ?_
      refine lv_goto hx hb d_M_product_37 rfl ?_
      refine lv_iconst (v := 1) hx hb d_M_product_41 (by decide) ?_
      have hFc := va_free (wc := [mW h 0 p q g]) hD hS hA [0] rfl
      refine va_calli (runV C h [.int 1, .int 1] [] (m_fails1 l D (h := h) (p := p) (q := q) (g := g) (sz := H.size) (cd := 1) (by decide)) vw_M_44 rfl hl.1 ⟨rfl, rfl⟩ (va_recv (ci := 1) (q := ("ProofDeskModel", F_M, 4)) hK hP rfl (q0 := 0) rfl) (fun U hU hW => ⟨by rw [hU], by rw [hU]; exact hP, va_K.moved hW.alike hK⟩) (fun U f mk a hU => ⟨hU.1, MO.call hU.2 f mk a⟩) (Nat.le_of_ble_eq_true rfl) ⟨(Nat.le_of_ble_eq_true rfl), (Nat.le_of_ble_eq_true rfl)⟩ ⟨(Nat.le_of_ble_eq_true rfl), (Nat.le_of_ble_eq_true rfl)⟩ d_M_product_42) hS (fun q _ h9 => hFc q h9) hFc (fun rr u t H1 locs ht hvm hpo hBB hz1 hk1 hS => ?_)
      obtain ⟨rfl, rfl⟩ := hpo
      obtain ⟨hP1, hK1, hD1⟩ := hBB
      rw [ht] at hP1
      obtain ⟨hP, hD⟩ := va_join (wr := []) (w1 := [mW h 1 p q g]) hP hD [0] [] rfl rfl (by decide) (by decide) hk1 hFc hP1 hD1
      have hP : va_P D cl [mW h 1 p q g] H1 := hP
      have hD : va_D A [mW h 1 p q g] := hD
      generalize H1 = H at hP hS ⊢
      refine lv_if_eq hx hb d_M_product_45 rfl (fun k9 => ?_) (fun k9 => ?_)
      · exact absurd k9 (by decide)
      · refine lv_iconst (v := 0) hx hb d_M_product_48 (by decide) ?_
        refine lv_goto hx hb d_M_product_49 rfl ?_
        exact W.iret hx hb hr (fun t ht hW => ⟨⟨0, 1, rfl, Or.inr ⟨hng, rfl, rfl⟩, by rw [ht]; exact hP, va_K.moved hW.alike hK, hD⟩, hS.F ht⟩) hS.2.2 d_M_product_63 hlk
set_option maxHeartbeats 4000000 in
/-- power -/
theorem m_powV (l : Launch) (D : va_G) {h p q g sz : Nat} {er : Int32} (hG : grp p q g) (a : Int32) (ee : Int64) : Met l y_M_powV (.code y_M_powV b_M_powV 4 (some .int) :: tb) (rk 2) (va_Pc [.ref h, .int a, .long ee] (fun U => U.heap.size = sz ∧ MO D h er p q g U)) (va_Qi (mo_post ((0 ≤ a.toInt ∧ a.toInt < p) ∧ 0 ≤ ee.toInt) (a.toInt.toNat ^ ee.toInt.toNat % p)) (at_m D (va_A [mW h er p q g] sz) h p q g) (va_A [mW h er p q g] sz)) 0 0 (va_A [mW h er p q g] sz) := by
  refine mk_met (by decide) (Nat.le_of_ble_eq_true rfl) ?_
  intro p0 e s m below meth c ls C hnm hB hl
  generalize ([.ref h, .int a, .long ee] : List Value).toArray = args at C ⊢
  obtain ⟨hx, hb, hml, hown, hts, hr, hlk⟩ := id C
  obtain ⟨hsz, hP, hK⟩ := hB
  subst hsz
  have hD : va_D (va_A [mW h er p q g] s.heap.size) [mW h er p q g] := one_D _ _ (va_A.in (k := 0) rfl)
  generalize hAe : va_A [mW h er p q g] s.heap.size = A at hD ⊢
  have hA : ∀ q : Nat, s.heap.size ≤ q → A q := fun q h => by rw [← hAe]; exact Or.inr h
  have hS : va_S A s.heap s.heap [] := va_S.rf
  obtain ⟨g5, g31, gq, gqp, ggp, gg2⟩ := hG.nums
  have hl : lv_has ls 4 [(0, .ref h), (1, .int a), (2, .long ee)] := hl
  refine lv_aload_n hx hb d_M_powV_0 rfl (lv_at hl 0 rfl) ?_
  refine lv_iconst (v := 0) hx hb d_M_powV_1 (by decide) ?_
  refine mp_e C hK hP hD hS (v := 0) d_M_powV_2 (fun H locs hP hD hS => ?_)
  refine lv_aload_n hx hb d_M_powV_5 rfl (lv_at hl 0 rfl) ?_
  refine lv_iload_n hx hb d_M_powV_6 rfl (lv_at hl 1 rfl) ?_
  refine lv_i2l hx hb d_M_powV_7 (rfl) ?_
  refine lv_lconst (v := 0) hx hb d_M_powV_8 (by decide) ?_
  refine lv_aload_n hx hb d_M_powV_9 rfl (lv_at hl 0 rfl) ?_
  refine mg_p C hK hP d_M_powV_10 ?_
  refine lv_lconst (v := 1) hx hb d_M_powV_13 (by decide) ?_
  refine lv_lsub hx hb d_M_powV_14 ?_
  rw [show ((lN p) - 1 : Int64) = lN (p - 1) from lN_m1 (by omega)]
  refine goI (runS C [.long a.toInt64, .long 0, .long (lN (p - 1))] [.ref h] (m_in l a.toInt64 0 (lN (p - 1))) sw_M_29 rfl hl.1 ⟨rfl, rfl⟩ (fun _ _ _ => trivial) (fun _ _ _ _ h => h) (Nat.le_of_ble_eq_true rfl) ⟨(Nat.le_of_ble_eq_true rfl), (Nat.le_of_ble_eq_true rfl)⟩ ⟨(Nat.le_of_ble_eq_true rfl), (Nat.le_of_ble_eq_true rfl)⟩ d_M_powV_15) (fun r hr => ?_)
  subst hr
  refine lv_if_eq hx hb d_M_powV_18 rfl (fun h1 => ?_) (fun h1 => ?_)
  · have h1 := in_l0.mp h1
    rw [lN_toInt (show p - 1 < 2 ^ 31 by omega), show (0 : Int64).toInt = 0 from rfl, Jvm.Kit.i64_of_i32] at h1
    have hng : ¬ ((0 ≤ a.toInt ∧ a.toInt < p) ∧ 0 ≤ ee.toInt) := fun hq => h1 ⟨hq.1.1, by omega⟩
    refine lv_iconst (v := 1) hx hb d_M_powV_27 (by decide) ?_
    refine lv_goto hx hb d_M_powV_28 rfl ?_
    refine lv_iconst (v := 1) hx hb d_M_powV_32 (by decide) ?_
    have hFc := va_free (wc := [mW h 0 p q g]) hD hS hA [0] rfl
    refine va_calli (runV C h [.int 1, .int 1] [] (m_fails1 l D (h := h) (p := p) (q := q) (g := g) (sz := H.size) (cd := 1) (by decide)) vw_M_44 rfl hl.1 ⟨rfl, rfl⟩ (va_recv (ci := 1) (q := ("ProofDeskModel", F_M, 4)) hK hP rfl (q0 := 0) rfl) (fun U hU hW => ⟨by rw [hU], by rw [hU]; exact hP, va_K.moved hW.alike hK⟩) (fun U f mk a hU => ⟨hU.1, MO.call hU.2 f mk a⟩) (Nat.le_of_ble_eq_true rfl) ⟨(Nat.le_of_ble_eq_true rfl), (Nat.le_of_ble_eq_true rfl)⟩ ⟨(Nat.le_of_ble_eq_true rfl), (Nat.le_of_ble_eq_true rfl)⟩ d_M_powV_33) hS (fun q _ h9 => hFc q h9) hFc (fun rr u t H1 locs ht hvm hpo hBB hz1 hk1 hS => ?_)
    obtain ⟨rfl, rfl⟩ := hpo
    obtain ⟨hP1, hK1, hD1⟩ := hBB
    rw [ht] at hP1
    obtain ⟨hP, hD⟩ := va_join (wr := []) (w1 := [mW h 1 p q g]) hP hD [0] [] rfl rfl (by decide) (by decide) hk1 hFc hP1 hD1
    have hP : va_P D cl [mW h 1 p q g] H1 := hP
    have hD : va_D A [mW h 1 p q g] := hD
    generalize H1 = H at hP hS ⊢
    refine lv_if_eq hx hb d_M_powV_36 rfl (fun k9 => ?_) (fun k9 => ?_)
    · exact absurd k9 (by decide)
    · refine lv_iconst (v := 0) hx hb d_M_powV_39 (by decide) ?_
      refine lv_goto hx hb d_M_powV_40 rfl ?_
      exact W.iret hx hb hr (fun t ht hW => ⟨⟨0, 1, rfl, Or.inr ⟨hng, rfl, rfl⟩, by rw [ht]; exact hP, va_K.moved hW.alike hK, hD⟩, hS.F ht⟩) hS.2.2 d_M_powV_54 hlk
  · have h1 := in_l1.mp h1
    rw [lN_toInt (show p - 1 < 2 ^ 31 by omega), show (0 : Int64).toInt = 0 from rfl, Jvm.Kit.i64_of_i32] at h1
    refine lv_lload_n hx hb d_M_powV_21 rfl (lv_at hl 2 rfl) ?_
    refine lv_lconst (v := 0) hx hb d_M_powV_22 (by decide) ?_
    refine W.lcmp hx hb d_M_powV_23 ?_
    refine lv_if_ge hx hb d_M_powV_24 rfl (fun h2 => ?_) (fun h2 => ?_)
    · have hgd : ((0 ≤ a.toInt ∧ a.toInt < p) ∧ 0 ≤ ee.toInt) := ⟨⟨by omega, by omega⟩, Jvm.Kit.i64_nonneg.mp ((lg_cmp_ge _ _).mp h2)⟩
      refine lv_iconst (v := 0) hx hb d_M_powV_31 (by decide) ?_
      refine lv_iconst (v := 1) hx hb d_M_powV_32 (by decide) ?_
      refine goI (runV C h [.int 0, .int 1] [] (m_fails0 l D (h := h) (p := p) (q := q) (g := g) 1) vw_M_44 rfl hl.1 ⟨rfl, rfl⟩ (va_recv (ci := 1) (q := ("ProofDeskModel", F_M, 4)) hK hP rfl (q0 := 0) rfl) (fun U hU hW => ⟨by rw [hU]; exact hP, va_K.moved hW.alike hK⟩) (fun U f mk a hU => MO.call hU f mk a) (Nat.le_of_ble_eq_true rfl) ⟨(Nat.le_of_ble_eq_true rfl), (Nat.le_of_ble_eq_true rfl)⟩ ⟨(Nat.le_of_ble_eq_true rfl), (Nat.le_of_ble_eq_true rfl)⟩ d_M_powV_33) (fun r hfl0 => ?_)
      subst hfl0
      refine lv_if_eq hx hb d_M_powV_36 rfl (fun k9 => ?_) (fun k9 => ?_)
      · obtain ⟨a1, ha1, rfl, ha2⟩ := nI_of_toInt (v := a) hgd.1.1
        obtain ⟨k1, hk1, rfl, hk2⟩ := lN_of_toInt (v := ee) hgd.2
        refine lv_iload_n hx hb d_M_powV_43 rfl (lv_at hl 1 rfl) ?_
        refine lv_i2l (v := lN a1) hx hb d_M_powV_44 (nI_l ha1) ?_
        refine lv_lload_n hx hb d_M_powV_45 rfl (lv_at hl 2 rfl) ?_
        refine lv_aload_n hx hb d_M_powV_46 rfl (lv_at hl 0 rfl) ?_
        refine mg_p C hK hP d_M_powV_47 ?_
        refine goL (runS C [.long (lN a1), .long (lN k1), .long (lN p)] [] (m_powS l (a := a1) (ee := k1) (n := p) ha1 hk1 (by omega) g31) sw_M_33 rfl hl.1 ⟨rfl, rfl⟩ (fun _ _ _ => trivial) (fun _ _ _ _ h => h) (Nat.le_of_ble_eq_true rfl) ⟨(Nat.le_of_ble_eq_true rfl), (Nat.le_of_ble_eq_true rfl)⟩ ⟨(Nat.le_of_ble_eq_true rfl), (Nat.le_of_ble_eq_true rfl)⟩ d_M_powV_50) (fun r hr => ?_)
        subst hr
        refine lv_l2i (v := nI (a1 ^ k1 % p)) hx hb d_M_powV_53 (lN_i _) ?_
        exact W.iret hx hb hr (fun t ht hW => ⟨⟨nI (a1 ^ k1 % p), 0, rfl, Or.inl ⟨hgd, rfl, by rw [ha2, hk2, Int.toNat_natCast, Int.toNat_natCast]⟩, by rw [ht]; exact hP, va_K.moved hW.alike hK, hD⟩, hS.F ht⟩) hS.2.2 d_M_powV_54 hlk
      · exact absurd rfl k9
    · have hng : ¬ ((0 ≤ a.toInt ∧ a.toInt < p) ∧ 0 ≤ ee.toInt) := fun hq => h2 ((lg_cmp_ge _ _).mpr (Jvm.Kit.i64_nonneg.mpr hq.2))
      refine lv_iconst (v := 1) hx hb d_M_powV_27 (by decide) ?_
      refine lv_goto hx hb d_M_powV_28 rfl ?_
      refine lv_iconst (v := 1) hx hb d_M_powV_32 (by decide) ?_
      have hFc := va_free (wc := [mW h 0 p q g]) hD hS hA [0] rfl
      refine va_calli (runV C h [.int 1, .int 1] [] (m_fails1 l D (h := h) (p := p) (q := q) (g := g) (sz := H.size) (cd := 1) (by decide)) vw_M_44 rfl hl.1 ⟨rfl, rfl⟩ (va_recv (ci := 1) (q := ("ProofDeskModel", F_M, 4)) hK hP rfl (q0 := 0) rfl) (fun U hU hW => ⟨by rw [hU], by rw [hU]; exact hP, va_K.moved hW.alike hK⟩) (fun U f mk a hU => ⟨hU.1, MO.call hU.2 f mk a⟩) (Nat.le_of_ble_eq_true rfl) ⟨(Nat.le_of_ble_eq_true rfl), (Nat.le_of_ble_eq_true rfl)⟩ ⟨(Nat.le_of_ble_eq_true rfl), (Nat.le_of_ble_eq_true rfl)⟩ d_M_powV_33) hS (fun q _ h9 => hFc q h9) hFc (fun rr u t H1 locs ht hvm hpo hBB hz1 hk1 hS => ?_)
      obtain ⟨rfl, rfl⟩ := hpo
      obtain ⟨hP1, hK1, hD1⟩ := hBB
      rw [ht] at hP1
      obtain ⟨hP, hD⟩ := va_join (wr := []) (w1 := [mW h 1 p q g]) hP hD [0] [] rfl rfl (by decide) (by decide) hk1 hFc hP1 hD1
      have hP : va_P D cl [mW h 1 p q g] H1 := hP
      have hD : va_D A [mW h 1 p q g] := hD
      generalize H1 = H at hP hS ⊢
      refine lv_if_eq hx hb d_M_powV_36 rfl (fun k9 => ?_) (fun k9 => ?_)
      · exact absurd k9 (by decide)
      · refine lv_iconst (v := 0) hx hb d_M_powV_39 (by decide) ?_
        refine lv_goto hx hb d_M_powV_40 rfl ?_
        exact W.iret hx hb hr (fun t ht hW => ⟨⟨0, 1, rfl, Or.inr ⟨hng, rfl, rfl⟩, by rw [ht]; exact hP, va_K.moved hW.alike hK, hD⟩, hS.F ht⟩) hS.2.2 d_M_powV_54 hlk
set_option maxHeartbeats 4000000 in
/-- inverse -/
theorem m_invV (l : Launch) (D : va_G) {h p q g sz : Nat} {er : Int32} (hG : grp p q g) (a : Int32) : Met l y_M_invV (.code y_M_invV b_M_invV 2 (some .int) :: tb) (rk 2) (va_Pc [.ref h, .int a] (fun U => U.heap.size = sz ∧ MO D h er p q g U)) (va_Qi (mo_post (1 ≤ a.toInt ∧ a.toInt < p) (inv_v a.toInt.toNat p)) (at_m D (va_A [mW h er p q g] sz) h p q g) (va_A [mW h er p q g] sz)) 0 0 (va_A [mW h er p q g] sz) := by
  refine mk_met (by decide) (Nat.le_of_ble_eq_true rfl) ?_
  intro p0 e s m below meth c ls C hnm hB hl
  generalize ([.ref h, .int a] : List Value).toArray = args at C ⊢
  obtain ⟨hx, hb, hml, hown, hts, hr, hlk⟩ := id C
  obtain ⟨hsz, hP, hK⟩ := hB
  subst hsz
  have hD : va_D (va_A [mW h er p q g] s.heap.size) [mW h er p q g] := one_D _ _ (va_A.in (k := 0) rfl)
  generalize hAe : va_A [mW h er p q g] s.heap.size = A at hD ⊢
  have hA : ∀ q : Nat, s.heap.size ≤ q → A q := fun q h => by rw [← hAe]; exact Or.inr h
  have hS : va_S A s.heap s.heap [] := va_S.rf
  obtain ⟨g5, g31, gq, gqp, ggp, gg2⟩ := hG.nums
  have hl : lv_has ls 2 [(0, .ref h), (1, .int a)] := hl
  refine lv_aload_n hx hb d_M_invV_0 rfl (lv_at hl 0 rfl) ?_
  refine lv_iconst (v := 0) hx hb d_M_invV_1 (by decide) ?_
  refine mp_e C hK hP hD hS (v := 0) d_M_invV_2 (fun H locs hP hD hS => ?_)
  refine lv_aload_n hx hb d_M_invV_5 rfl (lv_at hl 0 rfl) ?_
  refine lv_iload_n hx hb d_M_invV_6 rfl (lv_at hl 1 rfl) ?_
  refine lv_i2l hx hb d_M_invV_7 (rfl) ?_
  refine lv_lconst (v := 1) hx hb d_M_invV_8 (by decide) ?_
  refine lv_aload_n hx hb d_M_invV_9 rfl (lv_at hl 0 rfl) ?_
  refine mg_p C hK hP d_M_invV_10 ?_
  refine lv_lconst (v := 1) hx hb d_M_invV_13 (by decide) ?_
  refine lv_lsub hx hb d_M_invV_14 ?_
  rw [show ((lN p) - 1 : Int64) = lN (p - 1) from lN_m1 (by omega)]
  refine goI (runS C [.long a.toInt64, .long 1, .long (lN (p - 1))] [.ref h] (m_in l a.toInt64 1 (lN (p - 1))) sw_M_29 rfl hl.1 ⟨rfl, rfl⟩ (fun _ _ _ => trivial) (fun _ _ _ _ h => h) (Nat.le_of_ble_eq_true rfl) ⟨(Nat.le_of_ble_eq_true rfl), (Nat.le_of_ble_eq_true rfl)⟩ ⟨(Nat.le_of_ble_eq_true rfl), (Nat.le_of_ble_eq_true rfl)⟩ d_M_invV_15) (fun r hr => ?_)
  subst hr
  refine lv_if_ne hx hb d_M_invV_18 rfl (fun h1 => ?_) (fun h1 => ?_)
  · have h1 := in_l1.mp h1
    rw [lN_toInt (show p - 1 < 2 ^ 31 by omega), show (1 : Int64).toInt = 1 from rfl, Jvm.Kit.i64_of_i32] at h1
    have hgd : (1 ≤ a.toInt ∧ a.toInt < p) := ⟨by omega, by omega⟩
    refine lv_iconst (v := 0) hx hb d_M_invV_25 (by decide) ?_
    refine lv_iconst (v := 1) hx hb d_M_invV_26 (by decide) ?_
    refine goI (runV C h [.int 0, .int 1] [] (m_fails0 l D (h := h) (p := p) (q := q) (g := g) 1) vw_M_44 rfl hl.1 ⟨rfl, rfl⟩ (va_recv (ci := 1) (q := ("ProofDeskModel", F_M, 4)) hK hP rfl (q0 := 0) rfl) (fun U hU hW => ⟨by rw [hU]; exact hP, va_K.moved hW.alike hK⟩) (fun U f mk a hU => MO.call hU f mk a) (Nat.le_of_ble_eq_true rfl) ⟨(Nat.le_of_ble_eq_true rfl), (Nat.le_of_ble_eq_true rfl)⟩ ⟨(Nat.le_of_ble_eq_true rfl), (Nat.le_of_ble_eq_true rfl)⟩ d_M_invV_27) (fun r hfl0 => ?_)
    subst hfl0
    refine lv_if_eq hx hb d_M_invV_30 rfl (fun k9 => ?_) (fun k9 => ?_)
    · obtain ⟨a1, ha1, rfl, ha2⟩ := nI_of_toInt (v := a) (by omega)
      refine lv_iload_n hx hb d_M_invV_37 rfl (lv_at hl 1 rfl) ?_
      refine lv_i2l (v := lN a1) hx hb d_M_invV_38 (nI_l ha1) ?_
      refine lv_aload_n hx hb d_M_invV_39 rfl (lv_at hl 0 rfl) ?_
      refine mg_p C hK hP d_M_invV_40 ?_
      refine goL (runS C [.long (lN a1), .long (lN p)] [] (m_invS l (a := a1) (n := p) (by omega) (by omega) g31) sw_M_48 rfl hl.1 ⟨rfl, rfl⟩ (fun _ _ _ => trivial) (fun _ _ _ _ h => h) (Nat.le_of_ble_eq_true rfl) ⟨(Nat.le_of_ble_eq_true rfl), (Nat.le_of_ble_eq_true rfl)⟩ ⟨(Nat.le_of_ble_eq_true rfl), (Nat.le_of_ble_eq_true rfl)⟩ d_M_invV_43) (fun r hr => ?_)
      subst hr
      refine lv_l2i (v := nI (inv_v a1 p)) hx hb d_M_invV_46 (lN_i _) ?_
      exact W.iret hx hb hr (fun t ht hW => ⟨⟨nI (inv_v a1 p), 0, rfl, Or.inl ⟨hgd, rfl, by rw [ha2, Int.toNat_natCast]⟩, by rw [ht]; exact hP, va_K.moved hW.alike hK, hD⟩, hS.F ht⟩) hS.2.2 d_M_invV_47 hlk
    · exact absurd rfl k9
  · have h1 := in_l0.mp h1
    rw [lN_toInt (show p - 1 < 2 ^ 31 by omega), show (1 : Int64).toInt = 1 from rfl, Jvm.Kit.i64_of_i32] at h1
    have hng : ¬ (1 ≤ a.toInt ∧ a.toInt < p) := fun hq => h1 ⟨hq.1, by omega⟩
    refine lv_iconst (v := 1) hx hb d_M_invV_21 (by decide) ?_
    refine lv_goto hx hb d_M_invV_22 rfl ?_
    refine lv_iconst (v := 1) hx hb d_M_invV_26 (by decide) ?_
    have hFc := va_free (wc := [mW h 0 p q g]) hD hS hA [0] rfl
    refine va_calli (runV C h [.int 1, .int 1] [] (m_fails1 l D (h := h) (p := p) (q := q) (g := g) (sz := H.size) (cd := 1) (by decide)) vw_M_44 rfl hl.1 ⟨rfl, rfl⟩ (va_recv (ci := 1) (q := ("ProofDeskModel", F_M, 4)) hK hP rfl (q0 := 0) rfl) (fun U hU hW => ⟨by rw [hU], by rw [hU]; exact hP, va_K.moved hW.alike hK⟩) (fun U f mk a hU => ⟨hU.1, MO.call hU.2 f mk a⟩) (Nat.le_of_ble_eq_true rfl) ⟨(Nat.le_of_ble_eq_true rfl), (Nat.le_of_ble_eq_true rfl)⟩ ⟨(Nat.le_of_ble_eq_true rfl), (Nat.le_of_ble_eq_true rfl)⟩ d_M_invV_27) hS (fun q _ h9 => hFc q h9) hFc (fun rr u t H1 locs ht hvm hpo hBB hz1 hk1 hS => ?_)
    obtain ⟨rfl, rfl⟩ := hpo
    obtain ⟨hP1, hK1, hD1⟩ := hBB
    rw [ht] at hP1
    obtain ⟨hP, hD⟩ := va_join (wr := []) (w1 := [mW h 1 p q g]) hP hD [0] [] rfl rfl (by decide) (by decide) hk1 hFc hP1 hD1
    have hP : va_P D cl [mW h 1 p q g] H1 := hP
    have hD : va_D A [mW h 1 p q g] := hD
    generalize H1 = H at hP hS ⊢
    refine lv_if_eq hx hb d_M_invV_30 rfl (fun k9 => ?_) (fun k9 => ?_)
    · exact absurd k9 (by decide)
    · refine lv_iconst (v := 0) hx hb d_M_invV_33 (by decide) ?_
      refine lv_goto hx hb d_M_invV_34 rfl ?_
      exact W.iret hx hb hr (fun t ht hW => ⟨⟨0, 1, rfl, Or.inr ⟨hng, rfl, rfl⟩, by rw [ht]; exact hP, va_K.moved hW.alike hK, hD⟩, hS.F ht⟩) hS.2.2 d_M_invV_47 hlk
set_option maxHeartbeats 4000000 in
/-- count -/
theorem m_count (l : Launch) (D : va_G) {h p q g sz : Nat} {er : Int32} (hG : grp p q g) (a : Int32) : Met l y_M_count (.code y_M_count b_M_count 2 (some .int) :: tb) (rk 2) (va_Pc [.ref h, .int a] (fun U => U.heap.size = sz ∧ MO D h er p q g U)) (va_Qi (mo_post (0 ≤ a.toInt ∧ a.toInt ≤ 2) (if a.toInt.toNat = 0 then p else if a.toInt.toNat = 1 then q else g)) (at_m D (va_A [mW h er p q g] sz) h p q g) (va_A [mW h er p q g] sz)) 0 0 (va_A [mW h er p q g] sz) := by
  refine mk_met (by decide) (Nat.le_of_ble_eq_true rfl) ?_
  intro p0 e s m below meth c ls C hnm hB hl
  generalize ([.ref h, .int a] : List Value).toArray = args at C ⊢
  obtain ⟨hx, hb, hml, hown, hts, hr, hlk⟩ := id C
  obtain ⟨hsz, hP, hK⟩ := hB
  subst hsz
  have hD : va_D (va_A [mW h er p q g] s.heap.size) [mW h er p q g] := one_D _ _ (va_A.in (k := 0) rfl)
  generalize hAe : va_A [mW h er p q g] s.heap.size = A at hD ⊢
  have hA : ∀ q : Nat, s.heap.size ≤ q → A q := fun q h => by rw [← hAe]; exact Or.inr h
  have hS : va_S A s.heap s.heap [] := va_S.rf
  obtain ⟨g5, g31, gq, gqp, ggp, gg2⟩ := hG.nums
  have hl : lv_has ls 2 [(0, .ref h), (1, .int a)] := hl
  refine lv_aload_n hx hb d_M_count_0 rfl (lv_at hl 0 rfl) ?_
  refine lv_iconst (v := 0) hx hb d_M_count_1 (by decide) ?_
  refine mp_e C hK hP hD hS (v := 0) d_M_count_2 (fun H locs hP hD hS => ?_)
  refine lv_aload_n hx hb d_M_count_5 rfl (lv_at hl 0 rfl) ?_
  refine lv_iload_n hx hb d_M_count_6 rfl (lv_at hl 1 rfl) ?_
  refine lv_i2l hx hb d_M_count_7 (rfl) ?_
  refine lv_lconst (v := 0) hx hb d_M_count_8 (by decide) ?_
  refine lv_ldc2 hx hb hown (hts _ tk_230) d_M_count_9 ?_
  refine goI (runS C [.long a.toInt64, .long 0, .long 2] [.ref h] (m_in l a.toInt64 0 2) sw_M_29 rfl hl.1 ⟨rfl, rfl⟩ (fun _ _ _ => trivial) (fun _ _ _ _ h => h) (Nat.le_of_ble_eq_true rfl) ⟨(Nat.le_of_ble_eq_true rfl), (Nat.le_of_ble_eq_true rfl)⟩ ⟨(Nat.le_of_ble_eq_true rfl), (Nat.le_of_ble_eq_true rfl)⟩ d_M_count_12) (fun r hr => ?_)
  subst hr
  refine lv_if_ne hx hb d_M_count_15 rfl (fun h1 => ?_) (fun h1 => ?_)
  · have h1 := in_l1.mp h1
    rw [show (2 : Int64).toInt = 2 from rfl, show (0 : Int64).toInt = 0 from rfl, Jvm.Kit.i64_of_i32] at h1
    have hgd : (0 ≤ a.toInt ∧ a.toInt ≤ 2) := h1
    refine lv_iconst (v := 0) hx hb d_M_count_22 (by decide) ?_
    refine lv_iconst (v := 1) hx hb d_M_count_23 (by decide) ?_
    refine goI (runV C h [.int 0, .int 1] [] (m_fails0 l D (h := h) (p := p) (q := q) (g := g) 1) vw_M_44 rfl hl.1 ⟨rfl, rfl⟩ (va_recv (ci := 1) (q := ("ProofDeskModel", F_M, 4)) hK hP rfl (q0 := 0) rfl) (fun U hU hW => ⟨by rw [hU]; exact hP, va_K.moved hW.alike hK⟩) (fun U f mk a hU => MO.call hU f mk a) (Nat.le_of_ble_eq_true rfl) ⟨(Nat.le_of_ble_eq_true rfl), (Nat.le_of_ble_eq_true rfl)⟩ ⟨(Nat.le_of_ble_eq_true rfl), (Nat.le_of_ble_eq_true rfl)⟩ d_M_count_24) (fun r hfl0 => ?_)
    subst hfl0
    refine lv_if_eq hx hb d_M_count_27 rfl (fun k9 => ?_) (fun k9 => ?_)
    · obtain ⟨a1, ha1, rfl, ha2⟩ := nI_of_toInt (v := a) (by omega)
      refine lv_iload_n hx hb d_M_count_34 rfl (lv_at hl 1 rfl) ?_
      refine lv_if_ne hx hb d_M_count_35 rfl (fun h2 => ?_) (fun h2 => ?_)
      · refine lv_iload_n hx hb d_M_count_45 rfl (lv_at hl 1 rfl) ?_
        refine lv_iconst (v := 1) hx hb d_M_count_46 (by decide) ?_
        refine lv_icmp_ne hx hb d_M_count_47 rfl (fun h3 => ?_) (fun h3 => ?_)
        · refine lv_aload_n hx hb d_M_count_57 rfl (lv_at hl 0 rfl) ?_
          refine mg_g C hK hP d_M_count_58 ?_
          refine lv_l2i (v := nI g) hx hb d_M_count_61 (lN_i _) ?_
          exact W.iret hx hb hr (fun t ht hW => ⟨⟨nI g, 0, rfl, Or.inl ⟨hgd, rfl, by rw [ha2, Int.toNat_natCast, if_neg (fun hq => h2 (by rw [hq]; rfl)), if_neg (fun hq => h3 (by rw [hq]; rfl))]⟩, by rw [ht]; exact hP, va_K.moved hW.alike hK, hD⟩, hS.F ht⟩) hS.2.2 d_M_count_62 hlk
        · have ha3 : a1 = 1 := (nI_eq (b := 1) ha1 (by decide)).mp h3
          refine lv_aload_n hx hb d_M_count_50 rfl (lv_at hl 0 rfl) ?_
          refine mg_q C hK hP d_M_count_51 ?_
          refine lv_goto hx hb d_M_count_54 rfl ?_
          refine lv_l2i (v := nI q) hx hb d_M_count_61 (lN_i _) ?_
          exact W.iret hx hb hr (fun t ht hW => ⟨⟨nI q, 0, rfl, Or.inl ⟨hgd, rfl, by rw [ha2, Int.toNat_natCast, if_neg (by omega), if_pos ha3]⟩, by rw [ht]; exact hP, va_K.moved hW.alike hK, hD⟩, hS.F ht⟩) hS.2.2 d_M_count_62 hlk
      · have ha3 : a1 = 0 := (nI_eq (b := 0) ha1 (by decide)).mp h2
        refine lv_aload_n hx hb d_M_count_38 rfl (lv_at hl 0 rfl) ?_
        refine mg_p C hK hP d_M_count_39 ?_
        refine lv_goto hx hb d_M_count_42 rfl ?_
        refine lv_l2i (v := nI p) hx hb d_M_count_61 (lN_i _) ?_
        exact W.iret hx hb hr (fun t ht hW => ⟨⟨nI p, 0, rfl, Or.inl ⟨hgd, rfl, by rw [ha2, Int.toNat_natCast, if_pos ha3]⟩, by rw [ht]; exact hP, va_K.moved hW.alike hK, hD⟩, hS.F ht⟩) hS.2.2 d_M_count_62 hlk
    · exact absurd rfl k9
  · have h1 := in_l0.mp h1
    rw [show (2 : Int64).toInt = 2 from rfl, show (0 : Int64).toInt = 0 from rfl, Jvm.Kit.i64_of_i32] at h1
    have hng : ¬ (0 ≤ a.toInt ∧ a.toInt ≤ 2) := fun hq => h1 hq
    refine lv_iconst (v := 1) hx hb d_M_count_18 (by decide) ?_
    refine lv_goto hx hb d_M_count_19 rfl ?_
    refine lv_iconst (v := 1) hx hb d_M_count_23 (by decide) ?_
    have hFc := va_free (wc := [mW h 0 p q g]) hD hS hA [0] rfl
    refine va_calli (runV C h [.int 1, .int 1] [] (m_fails1 l D (h := h) (p := p) (q := q) (g := g) (sz := H.size) (cd := 1) (by decide)) vw_M_44 rfl hl.1 ⟨rfl, rfl⟩ (va_recv (ci := 1) (q := ("ProofDeskModel", F_M, 4)) hK hP rfl (q0 := 0) rfl) (fun U hU hW => ⟨by rw [hU], by rw [hU]; exact hP, va_K.moved hW.alike hK⟩) (fun U f mk a hU => ⟨hU.1, MO.call hU.2 f mk a⟩) (Nat.le_of_ble_eq_true rfl) ⟨(Nat.le_of_ble_eq_true rfl), (Nat.le_of_ble_eq_true rfl)⟩ ⟨(Nat.le_of_ble_eq_true rfl), (Nat.le_of_ble_eq_true rfl)⟩ d_M_count_24) hS (fun q _ h9 => hFc q h9) hFc (fun rr u t H1 locs ht hvm hpo hBB hz1 hk1 hS => ?_)
    obtain ⟨rfl, rfl⟩ := hpo
    obtain ⟨hP1, hK1, hD1⟩ := hBB
    rw [ht] at hP1
    obtain ⟨hP, hD⟩ := va_join (wr := []) (w1 := [mW h 1 p q g]) hP hD [0] [] rfl rfl (by decide) (by decide) hk1 hFc hP1 hD1
    have hP : va_P D cl [mW h 1 p q g] H1 := hP
    have hD : va_D A [mW h 1 p q g] := hD
    generalize H1 = H at hP hS ⊢
    refine lv_if_eq hx hb d_M_count_27 rfl (fun k9 => ?_) (fun k9 => ?_)
    · exact absurd k9 (by decide)
    · refine lv_iconst (v := 0) hx hb d_M_count_30 (by decide) ?_
      refine lv_goto hx hb d_M_count_31 rfl ?_
      exact W.iret hx hb hr (fun t ht hW => ⟨⟨0, 1, rfl, Or.inr ⟨hng, rfl, rfl⟩, by rw [ht]; exact hP, va_K.moved hW.alike hK, hD⟩, hS.F ht⟩) hS.2.2 d_M_count_62 hlk
end
section
/-! methods of the model, second part -/
set_option maxHeartbeats 4000000 in
/-- member -/
theorem m_member (l : Launch) (D : va_G) {h p q g sz : Nat} {er : Int32} (hG : grp p q g) (y : Int32) : Met l y_M_member (.code y_M_member b_M_member 2 (some .boolean) :: tb) (rk 2) (va_Pc [.ref h, .int y] (fun U => U.heap.size = sz ∧ MO D h er p q g U)) (va_Qi (fun r (u : Int32) => z_of (memP p q y) r ∧ u = 0) (at_m D (va_A [mW h er p q g] sz) h p q g) (va_A [mW h er p q g] sz)) 0 0 (va_A [mW h er p q g] sz) := by
  refine mk_met (by decide) (Nat.le_of_ble_eq_true rfl) ?_
  intro p0 e s m below meth c ls C hnm hB hl
  generalize ([.ref h, .int y] : List Value).toArray = args at C ⊢
  obtain ⟨hx, hb, hml, hown, hts, hr, hlk⟩ := id C
  obtain ⟨hsz, hP, hK⟩ := hB
  subst hsz
  have hD : va_D (va_A [mW h er p q g] s.heap.size) [mW h er p q g] := one_D _ _ (va_A.in (k := 0) rfl)
  generalize hAe : va_A [mW h er p q g] s.heap.size = A at hD ⊢
  have hA : ∀ q : Nat, s.heap.size ≤ q → A q := fun q h => by rw [← hAe]; exact Or.inr h
  have hS : va_S A s.heap s.heap [] := va_S.rf
  obtain ⟨g5, g31, gq, gqp, ggp, gg2⟩ := hG.nums
  have hl : lv_has ls 2 [(0, .ref h), (1, .int y)] := hl
  refine lv_aload_n hx hb d_M_member_0 rfl (lv_at hl 0 rfl) ?_
  refine lv_iconst (v := 0) hx hb d_M_member_1 (by decide) ?_
  refine mp_e C hK hP hD hS (v := 0) d_M_member_2 (fun H locs hP hD hS => ?_)
  refine lv_iload_n hx hb d_M_member_5 rfl (lv_at hl 1 rfl) ?_
  refine lv_i2l hx hb d_M_member_6 (rfl) ?_
  refine lv_aload_n hx hb d_M_member_7 rfl (lv_at hl 0 rfl) ?_
  refine mg_p C hK hP d_M_member_8 ?_
  refine lv_aload_n hx hb d_M_member_11 rfl (lv_at hl 0 rfl) ?_
  refine mg_q C hK hP d_M_member_12 ?_
  refine goI (runS C [.long y.toInt64, .long (lN p), .long (lN q)] [] (m_isM l y (p1 := p) (q1 := q) (by omega) g31 (by omega)) sw_M_41 rfl hl.1 ⟨rfl, rfl⟩ (fun _ _ _ => trivial) (fun _ _ _ _ h => h) (Nat.le_of_ble_eq_true rfl) ⟨(Nat.le_of_ble_eq_true rfl), (Nat.le_of_ble_eq_true rfl)⟩ ⟨(Nat.le_of_ble_eq_true rfl), (Nat.le_of_ble_eq_true rfl)⟩ d_M_member_15) (fun rz hz => ?_)
  exact W.zret hx hb hr (by rcases z_01 hz with q1 | q1 <;> rw [q1] <;> decide +kernel) (fun t ht hW => ⟨⟨rz, 0, rfl, ⟨hz, rfl⟩, by rw [ht]; exact hP, va_K.moved hW.alike hK, hD⟩, hS.F ht⟩) hS.2.2 d_M_member_18 hlk
set_option maxHeartbeats 4000000 in
/-- accepts -/
theorem m_accepts (l : Launch) (D : va_G) {h p q g sz : Nat} {er : Int32} (hG : grp p q g) (y a cc z : Int32) : Met l y_M_accepts (.code y_M_accepts b_M_accepts 5 (some .boolean) :: tb) (rk 2) (va_Pc [.ref h, .int y, .int a, .int cc, .int z] (fun U => U.heap.size = sz ∧ MO D h er p q g U)) (va_Qi (fun r (u : Int32) => z_of (memP p q y ∧ memP p q a ∧ expP q cc ∧ expP q z ∧ g ^ z.toInt.toNat % p = a.toInt.toNat * (y.toInt.toNat ^ cc.toInt.toNat % p) % p) r ∧ u = 0) (at_m D (va_A [mW h er p q g] sz) h p q g) (va_A [mW h er p q g] sz)) 0 0 (va_A [mW h er p q g] sz) := by
  refine mk_met (by decide) (Nat.le_of_ble_eq_true rfl) ?_
  intro p0 e s m below meth c ls C hnm hB hl
  generalize ([.ref h, .int y, .int a, .int cc, .int z] : List Value).toArray = args at C ⊢
  obtain ⟨hx, hb, hml, hown, hts, hr, hlk⟩ := id C
  obtain ⟨hsz, hP, hK⟩ := hB
  subst hsz
  have hD : va_D (va_A [mW h er p q g] s.heap.size) [mW h er p q g] := one_D _ _ (va_A.in (k := 0) rfl)
  generalize hAe : va_A [mW h er p q g] s.heap.size = A at hD ⊢
  have hA : ∀ q : Nat, s.heap.size ≤ q → A q := fun q h => by rw [← hAe]; exact Or.inr h
  have hS : va_S A s.heap s.heap [] := va_S.rf
  obtain ⟨g5, g31, gq, gqp, ggp, gg2⟩ := hG.nums
  have hl : lv_has ls 5 [(0, .ref h), (1, .int y), (2, .int a), (3, .int cc), (4, .int z)] := hl
  refine lv_aload_n hx hb d_M_accepts_0 rfl (lv_at hl 0 rfl) ?_
  refine lv_iconst (v := 0) hx hb d_M_accepts_1 (by decide) ?_
  refine mp_e C hK hP hD hS (v := 0) d_M_accepts_2 (fun H locs hP hD hS => ?_)
  refine lv_iload_n hx hb d_M_accepts_5 rfl (lv_at hl 1 rfl) ?_
  refine lv_i2l hx hb d_M_accepts_6 (rfl) ?_
  refine lv_aload_n hx hb d_M_accepts_7 rfl (lv_at hl 0 rfl) ?_
  refine mg_p C hK hP d_M_accepts_8 ?_
  refine lv_aload_n hx hb d_M_accepts_11 rfl (lv_at hl 0 rfl) ?_
  refine mg_q C hK hP d_M_accepts_12 ?_
  refine goI (runS C [.long y.toInt64, .long (lN p), .long (lN q)] [] (m_isM l y (p1 := p) (q1 := q) (by omega) g31 (by omega)) sw_M_41 rfl hl.1 ⟨rfl, rfl⟩ (fun _ _ _ => trivial) (fun _ _ _ _ h => h) (Nat.le_of_ble_eq_true rfl) ⟨(Nat.le_of_ble_eq_true rfl), (Nat.le_of_ble_eq_true rfl)⟩ ⟨(Nat.le_of_ble_eq_true rfl), (Nat.le_of_ble_eq_true rfl)⟩ d_M_accepts_15) (fun re1 e1 => ?_)
  refine lv_if_eq hx hb d_M_accepts_18 rfl (fun ke1 => ?_) (fun ke1 => ?_)
  · have e1 := z_f e1 ke1
    refine lv_iconst (v := 0) hx hb d_M_accepts_97 (by decide) ?_
    exact W.zret hx hb hr (by decide +kernel) (fun t ht hW => ⟨⟨0, 0, rfl, ⟨Or.inr ⟨rfl, fun hq => e1 hq.1⟩, rfl⟩, by rw [ht]; exact hP, va_K.moved hW.alike hK, hD⟩, hS.F ht⟩) hS.2.2 d_M_accepts_98 hlk
  · have e1 := z_t e1 ke1
    refine lv_iload_n hx hb d_M_accepts_21 rfl (lv_at hl 2 rfl) ?_
    refine lv_i2l hx hb d_M_accepts_22 (rfl) ?_
    refine lv_aload_n hx hb d_M_accepts_23 rfl (lv_at hl 0 rfl) ?_
    refine mg_p C hK hP d_M_accepts_24 ?_
    refine lv_aload_n hx hb d_M_accepts_27 rfl (lv_at hl 0 rfl) ?_
    refine mg_q C hK hP d_M_accepts_28 ?_
    refine goI (runS C [.long a.toInt64, .long (lN p), .long (lN q)] [] (m_isM l a (p1 := p) (q1 := q) (by omega) g31 (by omega)) sw_M_41 rfl hl.1 ⟨rfl, rfl⟩ (fun _ _ _ => trivial) (fun _ _ _ _ h => h) (Nat.le_of_ble_eq_true rfl) ⟨(Nat.le_of_ble_eq_true rfl), (Nat.le_of_ble_eq_true rfl)⟩ ⟨(Nat.le_of_ble_eq_true rfl), (Nat.le_of_ble_eq_true rfl)⟩ d_M_accepts_31) (fun re2 e2 => ?_)
    refine lv_if_eq hx hb d_M_accepts_34 rfl (fun ke2 => ?_) (fun ke2 => ?_)
    · have e2 := z_f e2 ke2
      refine lv_iconst (v := 0) hx hb d_M_accepts_97 (by decide) ?_
      exact W.zret hx hb hr (by decide +kernel) (fun t ht hW => ⟨⟨0, 0, rfl, ⟨Or.inr ⟨rfl, fun hq => e2 hq.2.1⟩, rfl⟩, by rw [ht]; exact hP, va_K.moved hW.alike hK, hD⟩, hS.F ht⟩) hS.2.2 d_M_accepts_98 hlk
    · have e2 := z_t e2 ke2
      refine lv_aload_n hx hb d_M_accepts_37 rfl (lv_at hl 0 rfl) ?_
      refine lv_iload_n hx hb d_M_accepts_38 rfl (lv_at hl 3 rfl) ?_
      refine lv_i2l hx hb d_M_accepts_39 (rfl) ?_
      refine goI (runV C h [.long cc.toInt64] [] (m_isE l D (h := h) (p := p) (q := q) (g := g) (er := 0) (by omega) (by omega) cc) vw_M_54 rfl hl.1 ⟨rfl, rfl⟩ (va_recv (ci := 1) (q := ("ProofDeskModel", F_M, 4)) hK hP rfl (q0 := 0) rfl) (fun U hU hW => ⟨by rw [hU]; exact hP, va_K.moved hW.alike hK⟩) (fun U f mk a hU => MO.call hU f mk a) (Nat.le_of_ble_eq_true rfl) ⟨(Nat.le_of_ble_eq_true rfl), (Nat.le_of_ble_eq_true rfl)⟩ ⟨(Nat.le_of_ble_eq_true rfl), (Nat.le_of_ble_eq_true rfl)⟩ d_M_accepts_40) (fun re3 e3 => ?_)
      refine lv_if_eq hx hb d_M_accepts_43 rfl (fun ke3 => ?_) (fun ke3 => ?_)
      · have e3 := z_f e3 ke3
        refine lv_iconst (v := 0) hx hb d_M_accepts_97 (by decide) ?_
        exact W.zret hx hb hr (by decide +kernel) (fun t ht hW => ⟨⟨0, 0, rfl, ⟨Or.inr ⟨rfl, fun hq => e3 hq.2.2.1⟩, rfl⟩, by rw [ht]; exact hP, va_K.moved hW.alike hK, hD⟩, hS.F ht⟩) hS.2.2 d_M_accepts_98 hlk
      · have e3 := z_t e3 ke3
        refine lv_aload_n hx hb d_M_accepts_46 rfl (lv_at hl 0 rfl) ?_
        refine lv_iload hx hb d_M_accepts_47 (lv_at hl 4 rfl) ?_
        refine lv_i2l hx hb d_M_accepts_49 (rfl) ?_
        refine goI (runV C h [.long z.toInt64] [] (m_isE l D (h := h) (p := p) (q := q) (g := g) (er := 0) (by omega) (by omega) z) vw_M_54 rfl hl.1 ⟨rfl, rfl⟩ (va_recv (ci := 1) (q := ("ProofDeskModel", F_M, 4)) hK hP rfl (q0 := 0) rfl) (fun U hU hW => ⟨by rw [hU]; exact hP, va_K.moved hW.alike hK⟩) (fun U f mk a hU => MO.call hU f mk a) (Nat.le_of_ble_eq_true rfl) ⟨(Nat.le_of_ble_eq_true rfl), (Nat.le_of_ble_eq_true rfl)⟩ ⟨(Nat.le_of_ble_eq_true rfl), (Nat.le_of_ble_eq_true rfl)⟩ d_M_accepts_50) (fun re4 e4 => ?_)
        refine lv_if_eq hx hb d_M_accepts_53 rfl (fun ke4 => ?_) (fun ke4 => ?_)
        · have e4 := z_f e4 ke4
          refine lv_iconst (v := 0) hx hb d_M_accepts_97 (by decide) ?_
          exact W.zret hx hb hr (by decide +kernel) (fun t ht hW => ⟨⟨0, 0, rfl, ⟨Or.inr ⟨rfl, fun hq => e4 hq.2.2.2.1⟩, rfl⟩, by rw [ht]; exact hP, va_K.moved hW.alike hK, hD⟩, hS.F ht⟩) hS.2.2 d_M_accepts_98 hlk
        · have e4 := z_t e4 ke4
          obtain ⟨y1, hy1, rfl, hy2⟩ := nI_of_toInt (v := y) (by have := e1.1; omega)
          obtain ⟨a1, ha1, rfl, ha2⟩ := nI_of_toInt (v := a) (by have := e2.1; omega)
          obtain ⟨c1, hc1, rfl, hc2⟩ := nI_of_toInt (v := cc) e3.1
          obtain ⟨z1, hz1, rfl, hz2⟩ := nI_of_toInt (v := z) e4.1
          have b1 := e1.2.1
          have b2 := e2.2.1
          have b3 := e3.2
          have b4 := e4.2
          rw [hy2] at b1
          rw [ha2] at b2
          rw [hc2] at b3
          rw [hz2] at b4
          refine lv_aload_n hx hb d_M_accepts_56 rfl (lv_at hl 0 rfl) ?_
          refine mg_g C hK hP d_M_accepts_57 ?_
          refine lv_iload hx hb d_M_accepts_60 (lv_at hl 4 rfl) ?_
          refine lv_i2l (v := lN z1) hx hb d_M_accepts_62 (nI_l hz1) ?_
          refine lv_aload_n hx hb d_M_accepts_63 rfl (lv_at hl 0 rfl) ?_
          refine mg_p C hK hP d_M_accepts_64 ?_
          refine goL (runS C [.long (lN g), .long (lN z1), .long (lN p)] [] (m_powS l (a := g) (ee := z1) (n := p) (by omega) (by omega) (by omega) g31) sw_M_33 rfl hl.1 ⟨rfl, rfl⟩ (fun _ _ _ => trivial) (fun _ _ _ _ h => h) (Nat.le_of_ble_eq_true rfl) ⟨(Nat.le_of_ble_eq_true rfl), (Nat.le_of_ble_eq_true rfl)⟩ ⟨(Nat.le_of_ble_eq_true rfl), (Nat.le_of_ble_eq_true rfl)⟩ d_M_accepts_67) (fun r hr => ?_)
          subst hr
          refine lv_iload_n hx hb d_M_accepts_70 rfl (lv_at hl 2 rfl) ?_
          refine lv_i2l (v := lN a1) hx hb d_M_accepts_71 (nI_l ha1) ?_
          refine lv_iload_n hx hb d_M_accepts_72 rfl (lv_at hl 1 rfl) ?_
          refine lv_i2l (v := lN y1) hx hb d_M_accepts_73 (nI_l hy1) ?_
          refine lv_iload_n hx hb d_M_accepts_74 rfl (lv_at hl 3 rfl) ?_
          refine lv_i2l (v := lN c1) hx hb d_M_accepts_75 (nI_l hc1) ?_
          refine lv_aload_n hx hb d_M_accepts_76 rfl (lv_at hl 0 rfl) ?_
          refine mg_p C hK hP d_M_accepts_77 ?_
          refine goL (runS C [.long (lN y1), .long (lN c1), .long (lN p)] [.long (lN a1), .long (lN (g ^ z1 % p))] (m_powS l (a := y1) (ee := c1) (n := p) (by omega) (by omega) (by omega) g31) sw_M_33 rfl hl.1 ⟨rfl, rfl⟩ (fun _ _ _ => trivial) (fun _ _ _ _ h => h) (Nat.le_of_ble_eq_true rfl) ⟨(Nat.le_of_ble_eq_true rfl), (Nat.le_of_ble_eq_true rfl)⟩ ⟨(Nat.le_of_ble_eq_true rfl), (Nat.le_of_ble_eq_true rfl)⟩ d_M_accepts_80) (fun r hr => ?_)
          subst hr
          have m1 := Nat.mod_lt (y1 ^ c1) (show p > 0 by omega)
          have hmu := mul_lt62 ha1 (show y1 ^ c1 % p < 2 ^ 31 by omega)
          refine lv_lmul hx hb d_M_accepts_83 ?_
          rw [show ((lN a1) * (lN (y1 ^ c1 % p)) : Int64) = lN (a1 * (y1 ^ c1 % p)) from lN_mul _ _]
          refine lv_aload_n hx hb d_M_accepts_84 rfl (lv_at hl 0 rfl) ?_
          refine mg_p C hK hP d_M_accepts_85 ?_
          refine lv_lrem hx hb d_M_accepts_88 (lN_ne0 (by omega) (by omega)) ?_
          rw [show ((lN (a1 * (y1 ^ c1 % p))) - (lN (a1 * (y1 ^ c1 % p))) / (lN p) * (lN p) : Int64) = lN (a1 * (y1 ^ c1 % p) % p) from pk_lRem (by omega) (by omega) (by omega)]
          have m2 := Nat.mod_lt (g ^ z1) (show p > 0 by omega)
          have m3 := Nat.mod_lt (a1 * (y1 ^ c1 % p)) (show p > 0 by omega)
          refine W.lcmp hx hb d_M_accepts_89 ?_
          refine lv_if_ne hx hb d_M_accepts_90 rfl (fun h5 => ?_) (fun h5 => ?_)
          · have hng : ¬ (memP p q (nI y1) ∧ memP p q (nI a1) ∧ expP q (nI c1) ∧ expP q (nI z1) ∧ g ^ (nI z1).toInt.toNat % p = (nI a1).toInt.toNat * ((nI y1).toInt.toNat ^ (nI c1).toInt.toNat % p) % p) := by
              intro hq
              have q5 := hq.2.2.2.2
              rw [hy2, ha2, hc2, hz2, Int.toNat_natCast, Int.toNat_natCast, Int.toNat_natCast, Int.toNat_natCast] at q5
              exact h5 ((lg_cmp_eq _ _).mpr (by rw [q5]))
            refine lv_iconst (v := 0) hx hb d_M_accepts_97 (by decide) ?_
            exact W.zret hx hb hr (by decide +kernel) (fun t ht hW => ⟨⟨0, 0, rfl, ⟨Or.inr ⟨rfl, hng⟩, rfl⟩, by rw [ht]; exact hP, va_K.moved hW.alike hK, hD⟩, hS.F ht⟩) hS.2.2 d_M_accepts_98 hlk
          · have hgd := (pk_lEQ (by omega) (by omega)).mp ((lg_cmp_eq _ _).mp h5)
            refine lv_iconst (v := 1) hx hb d_M_accepts_93 (by decide) ?_
            refine lv_goto hx hb d_M_accepts_94 rfl ?_
            exact W.zret hx hb hr (by decide +kernel) (fun t ht hW => ⟨⟨1, 0, rfl, ⟨Or.inl ⟨rfl, e1, e2, e3, e4, by rw [hy2, ha2, hc2, hz2, Int.toNat_natCast, Int.toNat_natCast, Int.toNat_natCast, Int.toNat_natCast]; exact hgd⟩, rfl⟩, by rw [ht]; exact hP, va_K.moved hW.alike hK, hD⟩, hS.F ht⟩) hS.2.2 d_M_accepts_98 hlk
set_option maxHeartbeats 4000000 in
/-- answer -/
theorem m_answer (l : Launch) (D : va_G) {h p q g sz : Nat} {er : Int32} (hG : grp p q g) (z k cc : Int32) : Met l y_M_answer (.code y_M_answer b_M_answer 4 (some .int) :: tb) (rk 2) (va_Pc [.ref h, .int z, .int k, .int cc] (fun U => U.heap.size = sz ∧ MO D h er p q g U)) (va_Qi (mo_post (expP q z ∧ expP q k ∧ expP q cc) ((k.toInt.toNat + cc.toInt.toNat * z.toInt.toNat) % q)) (at_m D (va_A [mW h er p q g] sz) h p q g) (va_A [mW h er p q g] sz)) 0 0 (va_A [mW h er p q g] sz) := by
  refine mk_met (by decide) (Nat.le_of_ble_eq_true rfl) ?_
  intro p0 e s m below meth c ls C hnm hB hl
  generalize ([.ref h, .int z, .int k, .int cc] : List Value).toArray = args at C ⊢
  obtain ⟨hx, hb, hml, hown, hts, hr, hlk⟩ := id C
  obtain ⟨hsz, hP, hK⟩ := hB
  subst hsz
  have hD : va_D (va_A [mW h er p q g] s.heap.size) [mW h er p q g] := one_D _ _ (va_A.in (k := 0) rfl)
  generalize hAe : va_A [mW h er p q g] s.heap.size = A at hD ⊢
  have hA : ∀ q : Nat, s.heap.size ≤ q → A q := fun q h => by rw [← hAe]; exact Or.inr h
  have hS : va_S A s.heap s.heap [] := va_S.rf
  obtain ⟨g5, g31, gq, gqp, ggp, gg2⟩ := hG.nums
  have hl : lv_has ls 4 [(0, .ref h), (1, .int z), (2, .int k), (3, .int cc)] := hl
  refine lv_aload_n hx hb d_M_answer_0 rfl (lv_at hl 0 rfl) ?_
  refine lv_iconst (v := 0) hx hb d_M_answer_1 (by decide) ?_
  refine mp_e C hK hP hD hS (v := 0) d_M_answer_2 (fun H locs hP hD hS => ?_)
  refine lv_aload_n hx hb d_M_answer_5 rfl (lv_at hl 0 rfl) ?_
  refine lv_aload_n hx hb d_M_answer_6 rfl (lv_at hl 0 rfl) ?_
  refine lv_iload_n hx hb d_M_answer_7 rfl (lv_at hl 1 rfl) ?_
  refine lv_i2l hx hb d_M_answer_8 (rfl) ?_
  refine goI (runV C h [.long z.toInt64] [.ref h] (m_isE l D (h := h) (p := p) (q := q) (g := g) (er := 0) (by omega) (by omega) z) vw_M_54 rfl hl.1 ⟨rfl, rfl⟩ (va_recv (ci := 1) (q := ("ProofDeskModel", F_M, 4)) hK hP rfl (q0 := 0) rfl) (fun U hU hW => ⟨by rw [hU]; exact hP, va_K.moved hW.alike hK⟩) (fun U f mk a hU => MO.call hU f mk a) (Nat.le_of_ble_eq_true rfl) ⟨(Nat.le_of_ble_eq_true rfl), (Nat.le_of_ble_eq_true rfl)⟩ ⟨(Nat.le_of_ble_eq_true rfl), (Nat.le_of_ble_eq_true rfl)⟩ d_M_answer_9) (fun re1 e1 => ?_)
  refine lv_if_eq hx hb d_M_answer_12 rfl (fun ke1 => ?_) (fun ke1 => ?_)
  · have e1 := z_f e1 ke1
    have hng : ¬ (expP q z ∧ expP q k ∧ expP q cc) := fun hq => e1 hq.1
    refine lv_iconst (v := 1) hx hb d_M_answer_33 (by decide) ?_
    refine lv_goto hx hb d_M_answer_34 rfl ?_
    refine lv_iconst (v := 1) hx hb d_M_answer_38 (by decide) ?_
    have hFc := va_free (wc := [mW h 0 p q g]) hD hS hA [0] rfl
    refine va_calli (runV C h [.int 1, .int 1] [] (m_fails1 l D (h := h) (p := p) (q := q) (g := g) (sz := H.size) (cd := 1) (by decide)) vw_M_44 rfl hl.1 ⟨rfl, rfl⟩ (va_recv (ci := 1) (q := ("ProofDeskModel", F_M, 4)) hK hP rfl (q0 := 0) rfl) (fun U hU hW => ⟨by rw [hU], by rw [hU]; exact hP, va_K.moved hW.alike hK⟩) (fun U f mk a hU => ⟨hU.1, MO.call hU.2 f mk a⟩) (Nat.le_of_ble_eq_true rfl) ⟨(Nat.le_of_ble_eq_true rfl), (Nat.le_of_ble_eq_true rfl)⟩ ⟨(Nat.le_of_ble_eq_true rfl), (Nat.le_of_ble_eq_true rfl)⟩ d_M_answer_39) hS (fun q _ h9 => hFc q h9) hFc (fun rr u t H1 locs ht hvm hpo hBB hz1 hk1 hS => ?_)
    obtain ⟨rfl, rfl⟩ := hpo
    obtain ⟨hP1, hK1, hD1⟩ := hBB
    rw [ht] at hP1
    obtain ⟨hP, hD⟩ := va_join (wr := []) (w1 := [mW h 1 p q g]) hP hD [0] [] rfl rfl (by decide) (by decide) hk1 hFc hP1 hD1
    have hP : va_P D cl [mW h 1 p q g] H1 := hP
    have hD : va_D A [mW h 1 p q g] := hD
    generalize H1 = H at hP hS ⊢
    refine lv_if_eq hx hb d_M_answer_42 rfl (fun k9 => ?_) (fun k9 => ?_)
    · exact absurd k9 (by decide)
    · refine lv_iconst (v := 0) hx hb d_M_answer_45 (by decide) ?_
      refine lv_goto hx hb d_M_answer_46 rfl ?_
      exact W.iret hx hb hr (fun t ht hW => ⟨⟨0, 1, rfl, Or.inr ⟨hng, rfl, rfl⟩, by rw [ht]; exact hP, va_K.moved hW.alike hK, hD⟩, hS.F ht⟩) hS.2.2 d_M_answer_63 hlk
  · have e1 := z_t e1 ke1
    refine lv_aload_n hx hb d_M_answer_15 rfl (lv_at hl 0 rfl) ?_
    refine lv_iload_n hx hb d_M_answer_16 rfl (lv_at hl 2 rfl) ?_
    refine lv_i2l hx hb d_M_answer_17 (rfl) ?_
    refine goI (runV C h [.long k.toInt64] [.ref h] (m_isE l D (h := h) (p := p) (q := q) (g := g) (er := 0) (by omega) (by omega) k) vw_M_54 rfl hl.1 ⟨rfl, rfl⟩ (va_recv (ci := 1) (q := ("ProofDeskModel", F_M, 4)) hK hP rfl (q0 := 0) rfl) (fun U hU hW => ⟨by rw [hU]; exact hP, va_K.moved hW.alike hK⟩) (fun U f mk a hU => MO.call hU f mk a) (Nat.le_of_ble_eq_true rfl) ⟨(Nat.le_of_ble_eq_true rfl), (Nat.le_of_ble_eq_true rfl)⟩ ⟨(Nat.le_of_ble_eq_true rfl), (Nat.le_of_ble_eq_true rfl)⟩ d_M_answer_18) (fun re2 e2 => ?_)
    refine lv_if_eq hx hb d_M_answer_21 rfl (fun ke2 => ?_) (fun ke2 => ?_)
    · have e2 := z_f e2 ke2
      have hng : ¬ (expP q z ∧ expP q k ∧ expP q cc) := fun hq => e2 hq.2.1
      refine lv_iconst (v := 1) hx hb d_M_answer_33 (by decide) ?_
      refine lv_goto hx hb d_M_answer_34 rfl ?_
      refine lv_iconst (v := 1) hx hb d_M_answer_38 (by decide) ?_
      have hFc := va_free (wc := [mW h 0 p q g]) hD hS hA [0] rfl
      refine va_calli (runV C h [.int 1, .int 1] [] (m_fails1 l D (h := h) (p := p) (q := q) (g := g) (sz := H.size) (cd := 1) (by decide)) vw_M_44 rfl hl.1 ⟨rfl, rfl⟩ (va_recv (ci := 1) (q := ("ProofDeskModel", F_M, 4)) hK hP rfl (q0 := 0) rfl) (fun U hU hW => ⟨by rw [hU], by rw [hU]; exact hP, va_K.moved hW.alike hK⟩) (fun U f mk a hU => ⟨hU.1, MO.call hU.2 f mk a⟩) (Nat.le_of_ble_eq_true rfl) ⟨(Nat.le_of_ble_eq_true rfl), (Nat.le_of_ble_eq_true rfl)⟩ ⟨(Nat.le_of_ble_eq_true rfl), (Nat.le_of_ble_eq_true rfl)⟩ d_M_answer_39) hS (fun q _ h9 => hFc q h9) hFc (fun rr u t H1 locs ht hvm hpo hBB hz1 hk1 hS => ?_)
      obtain ⟨rfl, rfl⟩ := hpo
      obtain ⟨hP1, hK1, hD1⟩ := hBB
      rw [ht] at hP1
      obtain ⟨hP, hD⟩ := va_join (wr := []) (w1 := [mW h 1 p q g]) hP hD [0] [] rfl rfl (by decide) (by decide) hk1 hFc hP1 hD1
      have hP : va_P D cl [mW h 1 p q g] H1 := hP
      have hD : va_D A [mW h 1 p q g] := hD
      generalize H1 = H at hP hS ⊢
      refine lv_if_eq hx hb d_M_answer_42 rfl (fun k9 => ?_) (fun k9 => ?_)
      · exact absurd k9 (by decide)
      · refine lv_iconst (v := 0) hx hb d_M_answer_45 (by decide) ?_
        refine lv_goto hx hb d_M_answer_46 rfl ?_
        exact W.iret hx hb hr (fun t ht hW => ⟨⟨0, 1, rfl, Or.inr ⟨hng, rfl, rfl⟩, by rw [ht]; exact hP, va_K.moved hW.alike hK, hD⟩, hS.F ht⟩) hS.2.2 d_M_answer_63 hlk
    · have e2 := z_t e2 ke2
      refine lv_aload_n hx hb d_M_answer_24 rfl (lv_at hl 0 rfl) ?_
      refine lv_iload_n hx hb d_M_answer_25 rfl (lv_at hl 3 rfl) ?_
      refine lv_i2l hx hb d_M_answer_26 (rfl) ?_
      refine goI (runV C h [.long cc.toInt64] [.ref h] (m_isE l D (h := h) (p := p) (q := q) (g := g) (er := 0) (by omega) (by omega) cc) vw_M_54 rfl hl.1 ⟨rfl, rfl⟩ (va_recv (ci := 1) (q := ("ProofDeskModel", F_M, 4)) hK hP rfl (q0 := 0) rfl) (fun U hU hW => ⟨by rw [hU]; exact hP, va_K.moved hW.alike hK⟩) (fun U f mk a hU => MO.call hU f mk a) (Nat.le_of_ble_eq_true rfl) ⟨(Nat.le_of_ble_eq_true rfl), (Nat.le_of_ble_eq_true rfl)⟩ ⟨(Nat.le_of_ble_eq_true rfl), (Nat.le_of_ble_eq_true rfl)⟩ d_M_answer_27) (fun re3 e3 => ?_)
      refine lv_if_ne hx hb d_M_answer_30 rfl (fun ke3 => ?_) (fun ke3 => ?_)
      · have e3 := z_t e3 ke3
        have hgd : (expP q z ∧ expP q k ∧ expP q cc) := ⟨e1, e2, e3⟩
        refine lv_iconst (v := 0) hx hb d_M_answer_37 (by decide) ?_
        refine lv_iconst (v := 1) hx hb d_M_answer_38 (by decide) ?_
        refine goI (runV C h [.int 0, .int 1] [] (m_fails0 l D (h := h) (p := p) (q := q) (g := g) 1) vw_M_44 rfl hl.1 ⟨rfl, rfl⟩ (va_recv (ci := 1) (q := ("ProofDeskModel", F_M, 4)) hK hP rfl (q0 := 0) rfl) (fun U hU hW => ⟨by rw [hU]; exact hP, va_K.moved hW.alike hK⟩) (fun U f mk a hU => MO.call hU f mk a) (Nat.le_of_ble_eq_true rfl) ⟨(Nat.le_of_ble_eq_true rfl), (Nat.le_of_ble_eq_true rfl)⟩ ⟨(Nat.le_of_ble_eq_true rfl), (Nat.le_of_ble_eq_true rfl)⟩ d_M_answer_39) (fun r hfl0 => ?_)
        subst hfl0
        refine lv_if_eq hx hb d_M_answer_42 rfl (fun k9 => ?_) (fun k9 => ?_)
        · obtain ⟨z1, hz1, rfl, hz2⟩ := nI_of_toInt (v := z) e1.1
          obtain ⟨k1, hk1, rfl, hk2⟩ := nI_of_toInt (v := k) e2.1
          obtain ⟨c1, hc1, rfl, hc2⟩ := nI_of_toInt (v := cc) e3.1
          have hm := mul_lt62 hc1 hz1
          refine lv_iload_n hx hb d_M_answer_49 rfl (lv_at hl 2 rfl) ?_
          refine lv_i2l (v := lN k1) hx hb d_M_answer_50 (nI_l hk1) ?_
          refine lv_iload_n hx hb d_M_answer_51 rfl (lv_at hl 3 rfl) ?_
          refine lv_i2l (v := lN c1) hx hb d_M_answer_52 (nI_l hc1) ?_
          refine lv_iload_n hx hb d_M_answer_53 rfl (lv_at hl 1 rfl) ?_
          refine lv_i2l (v := lN z1) hx hb d_M_answer_54 (nI_l hz1) ?_
          refine lv_lmul hx hb d_M_answer_55 ?_
          rw [show ((lN c1) * (lN z1) : Int64) = lN (c1 * z1) from lN_mul _ _]
          refine lv_ladd hx hb d_M_answer_56 ?_
          rw [show ((lN k1) + (lN (c1 * z1)) : Int64) = lN (k1 + c1 * z1) from lN_add _ _]
          refine lv_aload_n hx hb d_M_answer_57 rfl (lv_at hl 0 rfl) ?_
          refine mg_q C hK hP d_M_answer_58 ?_
          refine lv_lrem hx hb d_M_answer_61 (lN_ne0 (by omega) (by omega)) ?_
          rw [show ((lN (k1 + c1 * z1)) - (lN (k1 + c1 * z1)) / (lN q) * (lN q) : Int64) = lN ((k1 + c1 * z1) % q) from pk_lRem (by omega) (by omega) (by omega)]
          refine lv_l2i (v := nI ((k1 + c1 * z1) % q)) hx hb d_M_answer_62 (lN_i _) ?_
          exact W.iret hx hb hr (fun t ht hW => ⟨⟨nI ((k1 + c1 * z1) % q), 0, rfl, Or.inl ⟨hgd, rfl, by rw [hz2, hk2, hc2, Int.toNat_natCast, Int.toNat_natCast, Int.toNat_natCast]⟩, by rw [ht]; exact hP, va_K.moved hW.alike hK, hD⟩, hS.F ht⟩) hS.2.2 d_M_answer_63 hlk
        · exact absurd rfl k9
      · have e3 := z_f e3 ke3
        have hng : ¬ (expP q z ∧ expP q k ∧ expP q cc) := fun hq => e3 hq.2.2
        refine lv_iconst (v := 1) hx hb d_M_answer_33 (by decide) ?_
        refine lv_goto hx hb d_M_answer_34 rfl ?_
        refine lv_iconst (v := 1) hx hb d_M_answer_38 (by decide) ?_
        have hFc := va_free (wc := [mW h 0 p q g]) hD hS hA [0] rfl
        refine va_calli (runV C h [.int 1, .int 1] [] (m_fails1 l D (h := h) (p := p) (q := q) (g := g) (sz := H.size) (cd := 1) (by decide)) vw_M_44 rfl hl.1 ⟨rfl, rfl⟩ (va_recv (ci := 1) (q := ("ProofDeskModel", F_M, 4)) hK hP rfl (q0 := 0) rfl) (fun U hU hW => ⟨by rw [hU], by rw [hU]; exact hP, va_K.moved hW.alike hK⟩) (fun U f mk a hU => ⟨hU.1, MO.call hU.2 f mk a⟩) (Nat.le_of_ble_eq_true rfl) ⟨(Nat.le_of_ble_eq_true rfl), (Nat.le_of_ble_eq_true rfl)⟩ ⟨(Nat.le_of_ble_eq_true rfl), (Nat.le_of_ble_eq_true rfl)⟩ d_M_answer_39) hS (fun q _ h9 => hFc q h9) hFc (fun rr u t H1 locs ht hvm hpo hBB hz1 hk1 hS => ?_)
        obtain ⟨rfl, rfl⟩ := hpo
        obtain ⟨hP1, hK1, hD1⟩ := hBB
        rw [ht] at hP1
        obtain ⟨hP, hD⟩ := va_join (wr := []) (w1 := [mW h 1 p q g]) hP hD [0] [] rfl rfl (by decide) (by decide) hk1 hFc hP1 hD1
        have hP : va_P D cl [mW h 1 p q g] H1 := hP
        have hD : va_D A [mW h 1 p q g] := hD
        generalize H1 = H at hP hS ⊢
        refine lv_if_eq hx hb d_M_answer_42 rfl (fun k9 => ?_) (fun k9 => ?_)
        · exact absurd k9 (by decide)
        · refine lv_iconst (v := 0) hx hb d_M_answer_45 (by decide) ?_
          refine lv_goto hx hb d_M_answer_46 rfl ?_
          exact W.iret hx hb hr (fun t ht hW => ⟨⟨0, 1, rfl, Or.inr ⟨hng, rfl, rfl⟩, by rw [ht]; exact hP, va_K.moved hW.alike hK, hD⟩, hS.F ht⟩) hS.2.2 d_M_answer_63 hlk
set_option maxHeartbeats 4000000 in
/-- feign -/
theorem m_feign (l : Launch) (D : va_G) {h p q g sz : Nat} {er : Int32} (hG : grp p q g) (y cc z : Int32) : Met l y_M_feign (.code y_M_feign b_M_feign 4 (some .int) :: tb) (rk 2) (va_Pc [.ref h, .int y, .int cc, .int z] (fun U => U.heap.size = sz ∧ MO D h er p q g U)) (va_Qi (mo_post (memP p q y ∧ expP q cc ∧ expP q z) (g ^ z.toInt.toNat % p * (y.toInt.toNat ^ (q - cc.toInt.toNat) % p) % p)) (at_m D (va_A [mW h er p q g] sz) h p q g) (va_A [mW h er p q g] sz)) 0 0 (va_A [mW h er p q g] sz) := by
  refine mk_met (by decide) (Nat.le_of_ble_eq_true rfl) ?_
  intro p0 e s m below meth c ls C hnm hB hl
  generalize ([.ref h, .int y, .int cc, .int z] : List Value).toArray = args at C ⊢
  obtain ⟨hx, hb, hml, hown, hts, hr, hlk⟩ := id C
  obtain ⟨hsz, hP, hK⟩ := hB
  subst hsz
  have hD : va_D (va_A [mW h er p q g] s.heap.size) [mW h er p q g] := one_D _ _ (va_A.in (k := 0) rfl)
  generalize hAe : va_A [mW h er p q g] s.heap.size = A at hD ⊢
  have hA : ∀ q : Nat, s.heap.size ≤ q → A q := fun q h => by rw [← hAe]; exact Or.inr h
  have hS : va_S A s.heap s.heap [] := va_S.rf
  obtain ⟨g5, g31, gq, gqp, ggp, gg2⟩ := hG.nums
  have hl : lv_has ls 4 [(0, .ref h), (1, .int y), (2, .int cc), (3, .int z)] := hl
  refine lv_aload_n hx hb d_M_feign_0 rfl (lv_at hl 0 rfl) ?_
  refine lv_iconst (v := 0) hx hb d_M_feign_1 (by decide) ?_
  refine mp_e C hK hP hD hS (v := 0) d_M_feign_2 (fun H locs hP hD hS => ?_)
  refine lv_aload_n hx hb d_M_feign_5 rfl (lv_at hl 0 rfl) ?_
  refine lv_iload_n hx hb d_M_feign_6 rfl (lv_at hl 1 rfl) ?_
  refine lv_i2l hx hb d_M_feign_7 (rfl) ?_
  refine lv_aload_n hx hb d_M_feign_8 rfl (lv_at hl 0 rfl) ?_
  refine mg_p C hK hP d_M_feign_9 ?_
  refine lv_aload_n hx hb d_M_feign_12 rfl (lv_at hl 0 rfl) ?_
  refine mg_q C hK hP d_M_feign_13 ?_
  refine goI (runS C [.long y.toInt64, .long (lN p), .long (lN q)] [.ref h] (m_isM l y (p1 := p) (q1 := q) (by omega) g31 (by omega)) sw_M_41 rfl hl.1 ⟨rfl, rfl⟩ (fun _ _ _ => trivial) (fun _ _ _ _ h => h) (Nat.le_of_ble_eq_true rfl) ⟨(Nat.le_of_ble_eq_true rfl), (Nat.le_of_ble_eq_true rfl)⟩ ⟨(Nat.le_of_ble_eq_true rfl), (Nat.le_of_ble_eq_true rfl)⟩ d_M_feign_16) (fun re1 e1 => ?_)
  refine lv_if_eq hx hb d_M_feign_19 rfl (fun ke1 => ?_) (fun ke1 => ?_)
  · have e1 := z_f e1 ke1
    have hng : ¬ (memP p q y ∧ expP q cc ∧ expP q z) := fun hq => e1 hq.1
    refine lv_iconst (v := 1) hx hb d_M_feign_40 (by decide) ?_
    refine lv_goto hx hb d_M_feign_41 rfl ?_
    refine lv_iconst (v := 1) hx hb d_M_feign_45 (by decide) ?_
    have hFc := va_free (wc := [mW h 0 p q g]) hD hS hA [0] rfl
    refine va_calli (runV C h [.int 1, .int 1] [] (m_fails1 l D (h := h) (p := p) (q := q) (g := g) (sz := H.size) (cd := 1) (by decide)) vw_M_44 rfl hl.1 ⟨rfl, rfl⟩ (va_recv (ci := 1) (q := ("ProofDeskModel", F_M, 4)) hK hP rfl (q0 := 0) rfl) (fun U hU hW => ⟨by rw [hU], by rw [hU]; exact hP, va_K.moved hW.alike hK⟩) (fun U f mk a hU => ⟨hU.1, MO.call hU.2 f mk a⟩) (Nat.le_of_ble_eq_true rfl) ⟨(Nat.le_of_ble_eq_true rfl), (Nat.le_of_ble_eq_true rfl)⟩ ⟨(Nat.le_of_ble_eq_true rfl), (Nat.le_of_ble_eq_true rfl)⟩ d_M_feign_46) hS (fun q _ h9 => hFc q h9) hFc (fun rr u t H1 locs ht hvm hpo hBB hz1 hk1 hS => ?_)
    obtain ⟨rfl, rfl⟩ := hpo
    obtain ⟨hP1, hK1, hD1⟩ := hBB
    rw [ht] at hP1
    obtain ⟨hP, hD⟩ := va_join (wr := []) (w1 := [mW h 1 p q g]) hP hD [0] [] rfl rfl (by decide) (by decide) hk1 hFc hP1 hD1
    have hP : va_P D cl [mW h 1 p q g] H1 := hP
    have hD : va_D A [mW h 1 p q g] := hD
    generalize H1 = H at hP hS ⊢
    refine lv_if_eq hx hb d_M_feign_49 rfl (fun k9 => ?_) (fun k9 => ?_)
    · exact absurd k9 (by decide)
    · refine lv_iconst (v := 0) hx hb d_M_feign_52 (by decide) ?_
      refine lv_goto hx hb d_M_feign_53 rfl ?_
      exact W.iret hx hb hr (fun t ht hW => ⟨⟨0, 1, rfl, Or.inr ⟨hng, rfl, rfl⟩, by rw [ht]; exact hP, va_K.moved hW.alike hK, hD⟩, hS.F ht⟩) hS.2.2 d_M_feign_94 hlk
  · have e1 := z_t e1 ke1
    refine lv_aload_n hx hb d_M_feign_22 rfl (lv_at hl 0 rfl) ?_
    refine lv_iload_n hx hb d_M_feign_23 rfl (lv_at hl 2 rfl) ?_
    refine lv_i2l hx hb d_M_feign_24 (rfl) ?_
    refine goI (runV C h [.long cc.toInt64] [.ref h] (m_isE l D (h := h) (p := p) (q := q) (g := g) (er := 0) (by omega) (by omega) cc) vw_M_54 rfl hl.1 ⟨rfl, rfl⟩ (va_recv (ci := 1) (q := ("ProofDeskModel", F_M, 4)) hK hP rfl (q0 := 0) rfl) (fun U hU hW => ⟨by rw [hU]; exact hP, va_K.moved hW.alike hK⟩) (fun U f mk a hU => MO.call hU f mk a) (Nat.le_of_ble_eq_true rfl) ⟨(Nat.le_of_ble_eq_true rfl), (Nat.le_of_ble_eq_true rfl)⟩ ⟨(Nat.le_of_ble_eq_true rfl), (Nat.le_of_ble_eq_true rfl)⟩ d_M_feign_25) (fun re2 e2 => ?_)
    refine lv_if_eq hx hb d_M_feign_28 rfl (fun ke2 => ?_) (fun ke2 => ?_)
    · have e2 := z_f e2 ke2
      have hng : ¬ (memP p q y ∧ expP q cc ∧ expP q z) := fun hq => e2 hq.2.1
      refine lv_iconst (v := 1) hx hb d_M_feign_40 (by decide) ?_
      refine lv_goto hx hb d_M_feign_41 rfl ?_
      refine lv_iconst (v := 1) hx hb d_M_feign_45 (by decide) ?_
      have hFc := va_free (wc := [mW h 0 p q g]) hD hS hA [0] rfl
      refine va_calli (runV C h [.int 1, .int 1] [] (m_fails1 l D (h := h) (p := p) (q := q) (g := g) (sz := H.size) (cd := 1) (by decide)) vw_M_44 rfl hl.1 ⟨rfl, rfl⟩ (va_recv (ci := 1) (q := ("ProofDeskModel", F_M, 4)) hK hP rfl (q0 := 0) rfl) (fun U hU hW => ⟨by rw [hU], by rw [hU]; exact hP, va_K.moved hW.alike hK⟩) (fun U f mk a hU => ⟨hU.1, MO.call hU.2 f mk a⟩) (Nat.le_of_ble_eq_true rfl) ⟨(Nat.le_of_ble_eq_true rfl), (Nat.le_of_ble_eq_true rfl)⟩ ⟨(Nat.le_of_ble_eq_true rfl), (Nat.le_of_ble_eq_true rfl)⟩ d_M_feign_46) hS (fun q _ h9 => hFc q h9) hFc (fun rr u t H1 locs ht hvm hpo hBB hz1 hk1 hS => ?_)
      obtain ⟨rfl, rfl⟩ := hpo
      obtain ⟨hP1, hK1, hD1⟩ := hBB
      rw [ht] at hP1
      obtain ⟨hP, hD⟩ := va_join (wr := []) (w1 := [mW h 1 p q g]) hP hD [0] [] rfl rfl (by decide) (by decide) hk1 hFc hP1 hD1
      have hP : va_P D cl [mW h 1 p q g] H1 := hP
      have hD : va_D A [mW h 1 p q g] := hD
      generalize H1 = H at hP hS ⊢
      refine lv_if_eq hx hb d_M_feign_49 rfl (fun k9 => ?_) (fun k9 => ?_)
      · exact absurd k9 (by decide)
      · refine lv_iconst (v := 0) hx hb d_M_feign_52 (by decide) ?_
        refine lv_goto hx hb d_M_feign_53 rfl ?_
        exact W.iret hx hb hr (fun t ht hW => ⟨⟨0, 1, rfl, Or.inr ⟨hng, rfl, rfl⟩, by rw [ht]; exact hP, va_K.moved hW.alike hK, hD⟩, hS.F ht⟩) hS.2.2 d_M_feign_94 hlk
    · have e2 := z_t e2 ke2
      refine lv_aload_n hx hb d_M_feign_31 rfl (lv_at hl 0 rfl) ?_
      refine lv_iload_n hx hb d_M_feign_32 rfl (lv_at hl 3 rfl) ?_
      refine lv_i2l hx hb d_M_feign_33 (rfl) ?_
      refine goI (runV C h [.long z.toInt64] [.ref h] (m_isE l D (h := h) (p := p) (q := q) (g := g) (er := 0) (by omega) (by omega) z) vw_M_54 rfl hl.1 ⟨rfl, rfl⟩ (va_recv (ci := 1) (q := ("ProofDeskModel", F_M, 4)) hK hP rfl (q0 := 0) rfl) (fun U hU hW => ⟨by rw [hU]; exact hP, va_K.moved hW.alike hK⟩) (fun U f mk a hU => MO.call hU f mk a) (Nat.le_of_ble_eq_true rfl) ⟨(Nat.le_of_ble_eq_true rfl), (Nat.le_of_ble_eq_true rfl)⟩ ⟨(Nat.le_of_ble_eq_true rfl), (Nat.le_of_ble_eq_true rfl)⟩ d_M_feign_34) (fun re3 e3 => ?_)
      refine lv_if_ne hx hb d_M_feign_37 rfl (fun ke3 => ?_) (fun ke3 => ?_)
      · have e3 := z_t e3 ke3
        have hgd : (memP p q y ∧ expP q cc ∧ expP q z) := ⟨e1, e2, e3⟩
        refine lv_iconst (v := 0) hx hb d_M_feign_44 (by decide) ?_
        refine lv_iconst (v := 1) hx hb d_M_feign_45 (by decide) ?_
        refine goI (runV C h [.int 0, .int 1] [] (m_fails0 l D (h := h) (p := p) (q := q) (g := g) 1) vw_M_44 rfl hl.1 ⟨rfl, rfl⟩ (va_recv (ci := 1) (q := ("ProofDeskModel", F_M, 4)) hK hP rfl (q0 := 0) rfl) (fun U hU hW => ⟨by rw [hU]; exact hP, va_K.moved hW.alike hK⟩) (fun U f mk a hU => MO.call hU f mk a) (Nat.le_of_ble_eq_true rfl) ⟨(Nat.le_of_ble_eq_true rfl), (Nat.le_of_ble_eq_true rfl)⟩ ⟨(Nat.le_of_ble_eq_true rfl), (Nat.le_of_ble_eq_true rfl)⟩ d_M_feign_46) (fun r hfl0 => ?_)
        subst hfl0
        refine lv_if_eq hx hb d_M_feign_49 rfl (fun k9 => ?_) (fun k9 => ?_)
        · obtain ⟨y1, hy1, rfl, hy2⟩ := nI_of_toInt (v := y) (by have := e1.1; omega)
          obtain ⟨c1, hc1, rfl, hc2⟩ := nI_of_toInt (v := cc) e2.1
          obtain ⟨z1, hz1, rfl, hz2⟩ := nI_of_toInt (v := z) e3.1
          obtain ⟨b1, b2, b3⟩ := id e1
          rw [hy2] at b1 b2 b3
          rw [Int.toNat_natCast] at b3
          have b4 := e2.2
          rw [hc2] at b4
          have hinv := feign_inv hG (y := y1) (c := c1) (by omega) (by omega) b3 (by omega)
          have hcp : 0 < y1 ^ c1 % p := by
            apply Classical.byContradiction
            intro hq
            have h0 : p ∣ y1 ^ c1 := Nat.dvd_of_mod_eq_zero (by omega)
            have := Nat.le_of_dvd (by omega) (nt_euclid_pow hG.1 c1 h0)
            omega
          have m1 := Nat.mod_lt (y1 ^ c1) (show p > 0 by omega)
          have m2 := Nat.mod_lt (g ^ z1) (show p > 0 by omega)
          have m3 := inv_lt (a := y1 ^ c1 % p) (show 0 < p by omega)
          have hmu := mul_lt62 (show g ^ z1 % p < 2 ^ 31 by omega) (show inv_v (y1 ^ c1 % p) p < 2 ^ 31 by omega)
          refine lv_aload_n hx hb d_M_feign_56 rfl (lv_at hl 0 rfl) ?_
          refine mg_g C hK hP d_M_feign_57 ?_
          refine lv_iload_n hx hb d_M_feign_60 rfl (lv_at hl 3 rfl) ?_
          refine lv_i2l (v := lN z1) hx hb d_M_feign_61 (nI_l hz1) ?_
          refine lv_aload_n hx hb d_M_feign_62 rfl (lv_at hl 0 rfl) ?_
          refine mg_p C hK hP d_M_feign_63 ?_
          refine goL (runS C [.long (lN g), .long (lN z1), .long (lN p)] [] (m_powS l (a := g) (ee := z1) (n := p) (by omega) (by omega) (by omega) g31) sw_M_33 rfl hl.1 ⟨rfl, rfl⟩ (fun _ _ _ => trivial) (fun _ _ _ _ h => h) (Nat.le_of_ble_eq_true rfl) ⟨(Nat.le_of_ble_eq_true rfl), (Nat.le_of_ble_eq_true rfl)⟩ ⟨(Nat.le_of_ble_eq_true rfl), (Nat.le_of_ble_eq_true rfl)⟩ d_M_feign_66) (fun r hr => ?_)
          subst hr
          refine lv_iload_n hx hb d_M_feign_69 rfl (lv_at hl 1 rfl) ?_
          refine lv_i2l (v := lN y1) hx hb d_M_feign_70 (nI_l hy1) ?_
          refine lv_iload_n hx hb d_M_feign_71 rfl (lv_at hl 2 rfl) ?_
          refine lv_i2l (v := lN c1) hx hb d_M_feign_72 (nI_l hc1) ?_
          refine lv_aload_n hx hb d_M_feign_73 rfl (lv_at hl 0 rfl) ?_
          refine mg_p C hK hP d_M_feign_74 ?_
          refine goL (runS C [.long (lN y1), .long (lN c1), .long (lN p)] [.long (lN (g ^ z1 % p))] (m_powS l (a := y1) (ee := c1) (n := p) (by omega) (by omega) (by omega) g31) sw_M_33 rfl hl.1 ⟨rfl, rfl⟩ (fun _ _ _ => trivial) (fun _ _ _ _ h => h) (Nat.le_of_ble_eq_true rfl) ⟨(Nat.le_of_ble_eq_true rfl), (Nat.le_of_ble_eq_true rfl)⟩ ⟨(Nat.le_of_ble_eq_true rfl), (Nat.le_of_ble_eq_true rfl)⟩ d_M_feign_77) (fun r hr => ?_)
          subst hr
          refine lv_aload_n hx hb d_M_feign_80 rfl (lv_at hl 0 rfl) ?_
          refine mg_p C hK hP d_M_feign_81 ?_
          refine goL (runS C [.long (lN (y1 ^ c1 % p)), .long (lN p)] [.long (lN (g ^ z1 % p))] (m_invS l (a := y1 ^ c1 % p) (n := p) hcp m1 g31) sw_M_48 rfl hl.1 ⟨rfl, rfl⟩ (fun _ _ _ => trivial) (fun _ _ _ _ h => h) (Nat.le_of_ble_eq_true rfl) ⟨(Nat.le_of_ble_eq_true rfl), (Nat.le_of_ble_eq_true rfl)⟩ ⟨(Nat.le_of_ble_eq_true rfl), (Nat.le_of_ble_eq_true rfl)⟩ d_M_feign_84) (fun r hr => ?_)
          subst hr
          refine lv_lmul hx hb d_M_feign_87 ?_
          rw [show ((lN (g ^ z1 % p)) * (lN (inv_v (y1 ^ c1 % p) p)) : Int64) = lN (g ^ z1 % p * inv_v (y1 ^ c1 % p) p) from lN_mul _ _]
          refine lv_aload_n hx hb d_M_feign_88 rfl (lv_at hl 0 rfl) ?_
          refine mg_p C hK hP d_M_feign_89 ?_
          refine lv_lrem hx hb d_M_feign_92 (lN_ne0 (by omega) (by omega)) ?_
          rw [show ((lN (g ^ z1 % p * inv_v (y1 ^ c1 % p) p)) - (lN (g ^ z1 % p * inv_v (y1 ^ c1 % p) p)) / (lN p) * (lN p) : Int64) = lN (g ^ z1 % p * inv_v (y1 ^ c1 % p) p % p) from pk_lRem (by omega) (by omega) (by omega)]
          refine lv_l2i (v := nI (g ^ z1 % p * inv_v (y1 ^ c1 % p) p % p)) hx hb d_M_feign_93 (lN_i _) ?_
          exact W.iret hx hb hr (fun t ht hW => ⟨⟨nI (g ^ z1 % p * inv_v (y1 ^ c1 % p) p % p), 0, rfl, Or.inl ⟨hgd, rfl, by rw [hy2, hc2, hz2, Int.toNat_natCast, Int.toNat_natCast, Int.toNat_natCast, hinv]⟩, by rw [ht]; exact hP, va_K.moved hW.alike hK, hD⟩, hS.F ht⟩) hS.2.2 d_M_feign_94 hlk
        · exact absurd rfl k9
      · have e3 := z_f e3 ke3
        have hng : ¬ (memP p q y ∧ expP q cc ∧ expP q z) := fun hq => e3 hq.2.2
        refine lv_iconst (v := 1) hx hb d_M_feign_40 (by decide) ?_
        refine lv_goto hx hb d_M_feign_41 rfl ?_
        refine lv_iconst (v := 1) hx hb d_M_feign_45 (by decide) ?_
        have hFc := va_free (wc := [mW h 0 p q g]) hD hS hA [0] rfl
        refine va_calli (runV C h [.int 1, .int 1] [] (m_fails1 l D (h := h) (p := p) (q := q) (g := g) (sz := H.size) (cd := 1) (by decide)) vw_M_44 rfl hl.1 ⟨rfl, rfl⟩ (va_recv (ci := 1) (q := ("ProofDeskModel", F_M, 4)) hK hP rfl (q0 := 0) rfl) (fun U hU hW => ⟨by rw [hU], by rw [hU]; exact hP, va_K.moved hW.alike hK⟩) (fun U f mk a hU => ⟨hU.1, MO.call hU.2 f mk a⟩) (Nat.le_of_ble_eq_true rfl) ⟨(Nat.le_of_ble_eq_true rfl), (Nat.le_of_ble_eq_true rfl)⟩ ⟨(Nat.le_of_ble_eq_true rfl), (Nat.le_of_ble_eq_true rfl)⟩ d_M_feign_46) hS (fun q _ h9 => hFc q h9) hFc (fun rr u t H1 locs ht hvm hpo hBB hz1 hk1 hS => ?_)
        obtain ⟨rfl, rfl⟩ := hpo
        obtain ⟨hP1, hK1, hD1⟩ := hBB
        rw [ht] at hP1
        obtain ⟨hP, hD⟩ := va_join (wr := []) (w1 := [mW h 1 p q g]) hP hD [0] [] rfl rfl (by decide) (by decide) hk1 hFc hP1 hD1
        have hP : va_P D cl [mW h 1 p q g] H1 := hP
        have hD : va_D A [mW h 1 p q g] := hD
        generalize H1 = H at hP hS ⊢
        refine lv_if_eq hx hb d_M_feign_49 rfl (fun k9 => ?_) (fun k9 => ?_)
        · exact absurd k9 (by decide)
        · refine lv_iconst (v := 0) hx hb d_M_feign_52 (by decide) ?_
          refine lv_goto hx hb d_M_feign_53 rfl ?_
          exact W.iret hx hb hr (fun t ht hW => ⟨⟨0, 1, rfl, Or.inr ⟨hng, rfl, rfl⟩, by rw [ht]; exact hP, va_K.moved hW.alike hK, hD⟩, hS.F ht⟩) hS.2.2 d_M_feign_94 hlk
set_option maxHeartbeats 4000000 in
/-- secret -/
theorem m_secret (l : Launch) (D : va_G) {h p q g sz : Nat} {er : Int32} (hG : grp p q g) (cc z dd v : Int32) : Met l y_M_secret (.code y_M_secret b_M_secret 9 (some .int) :: tb) (rk 2) (va_Pc [.ref h, .int cc, .int z, .int dd, .int v] (fun U => U.heap.size = sz ∧ MO D h er p q g U)) (va_Qi (mo_post (expP q cc ∧ expP q z ∧ expP q dd ∧ expP q v ∧ cc ≠ dd) (sub_m q z.toInt.toNat v.toInt.toNat * inv_v (sub_m q cc.toInt.toNat dd.toInt.toNat) q % q)) (at_m D (va_A [mW h er p q g] sz) h p q g) (va_A [mW h er p q g] sz)) 0 0 (va_A [mW h er p q g] sz) := by
  refine mk_met (by decide) (Nat.le_of_ble_eq_true rfl) ?_
  intro p0 e s m below meth c ls C hnm hB hl
  generalize ([.ref h, .int cc, .int z, .int dd, .int v] : List Value).toArray = args at C ⊢
  obtain ⟨hx, hb, hml, hown, hts, hr, hlk⟩ := id C
  obtain ⟨hsz, hP, hK⟩ := hB
  subst hsz
  have hD : va_D (va_A [mW h er p q g] s.heap.size) [mW h er p q g] := one_D _ _ (va_A.in (k := 0) rfl)
  generalize hAe : va_A [mW h er p q g] s.heap.size = A at hD ⊢
  have hA : ∀ q : Nat, s.heap.size ≤ q → A q := fun q h => by rw [← hAe]; exact Or.inr h
  have hS : va_S A s.heap s.heap [] := va_S.rf
  obtain ⟨g5, g31, gq, gqp, ggp, gg2⟩ := hG.nums
  have hl : lv_has ls 9 [(0, .ref h), (1, .int cc), (2, .int z), (3, .int dd), (4, .int v)] := hl
  refine lv_aload_n hx hb d_M_secret_0 rfl (lv_at hl 0 rfl) ?_
  refine lv_iconst (v := 0) hx hb d_M_secret_1 (by decide) ?_
  refine mp_e C hK hP hD hS (v := 0) d_M_secret_2 (fun H locs hP hD hS => ?_)
  refine lv_aload_n hx hb d_M_secret_5 rfl (lv_at hl 0 rfl) ?_
  refine lv_aload_n hx hb d_M_secret_6 rfl (lv_at hl 0 rfl) ?_
  refine lv_iload_n hx hb d_M_secret_7 rfl (lv_at hl 1 rfl) ?_
  refine lv_i2l hx hb d_M_secret_8 (rfl) ?_
  refine goI (runV C h [.long cc.toInt64] [.ref h] (m_isE l D (h := h) (p := p) (q := q) (g := g) (er := 0) (by omega) (by omega) cc) vw_M_54 rfl hl.1 ⟨rfl, rfl⟩ (va_recv (ci := 1) (q := ("ProofDeskModel", F_M, 4)) hK hP rfl (q0 := 0) rfl) (fun U hU hW => ⟨by rw [hU]; exact hP, va_K.moved hW.alike hK⟩) (fun U f mk a hU => MO.call hU f mk a) (Nat.le_of_ble_eq_true rfl) ⟨(Nat.le_of_ble_eq_true rfl), (Nat.le_of_ble_eq_true rfl)⟩ ⟨(Nat.le_of_ble_eq_true rfl), (Nat.le_of_ble_eq_true rfl)⟩ d_M_secret_9) (fun re1 e1 => ?_)
  refine lv_if_eq hx hb d_M_secret_12 rfl (fun ke1 => ?_) (fun ke1 => ?_)
  · have e1 := z_f e1 ke1
    have hng : ¬ (expP q cc ∧ expP q z ∧ expP q dd ∧ expP q v ∧ cc ≠ dd) := fun hq => e1 hq.1
    refine lv_iconst (v := 1) hx hb d_M_secret_48 (by decide) ?_
    refine lv_goto hx hb d_M_secret_49 rfl ?_
    refine lv_iconst (v := 1) hx hb d_M_secret_53 (by decide) ?_
    have hFc := va_free (wc := [mW h 0 p q g]) hD hS hA [0] rfl
    refine va_calli (runV C h [.int 1, .int 1] [] (m_fails1 l D (h := h) (p := p) (q := q) (g := g) (sz := H.size) (cd := 1) (by decide)) vw_M_44 rfl hl.1 ⟨rfl, rfl⟩ (va_recv (ci := 1) (q := ("ProofDeskModel", F_M, 4)) hK hP rfl (q0 := 0) rfl) (fun U hU hW => ⟨by rw [hU], by rw [hU]; exact hP, va_K.moved hW.alike hK⟩) (fun U f mk a hU => ⟨hU.1, MO.call hU.2 f mk a⟩) (Nat.le_of_ble_eq_true rfl) ⟨(Nat.le_of_ble_eq_true rfl), (Nat.le_of_ble_eq_true rfl)⟩ ⟨(Nat.le_of_ble_eq_true rfl), (Nat.le_of_ble_eq_true rfl)⟩ d_M_secret_54) hS (fun q _ h9 => hFc q h9) hFc (fun rr u t H1 locs ht hvm hpo hBB hz1 hk1 hS => ?_)
    obtain ⟨rfl, rfl⟩ := hpo
    obtain ⟨hP1, hK1, hD1⟩ := hBB
    rw [ht] at hP1
    obtain ⟨hP, hD⟩ := va_join (wr := []) (w1 := [mW h 1 p q g]) hP hD [0] [] rfl rfl (by decide) (by decide) hk1 hFc hP1 hD1
    have hP : va_P D cl [mW h 1 p q g] H1 := hP
    have hD : va_D A [mW h 1 p q g] := hD
    generalize H1 = H at hP hS ⊢
    refine lv_if_eq hx hb d_M_secret_57 rfl (fun k9 => ?_) (fun k9 => ?_)
    · exact absurd k9 (by decide)
    · refine lv_iconst (v := 0) hx hb d_M_secret_60 (by decide) ?_
      exact W.iret hx hb hr (fun t ht hW => ⟨⟨0, 1, rfl, Or.inr ⟨hng, rfl, rfl⟩, by rw [ht]; exact hP, va_K.moved hW.alike hK, hD⟩, hS.F ht⟩) hS.2.2 d_M_secret_61 hlk
  · have e1 := z_t e1 ke1
    refine lv_aload_n hx hb d_M_secret_15 rfl (lv_at hl 0 rfl) ?_
    refine lv_iload_n hx hb d_M_secret_16 rfl (lv_at hl 2 rfl) ?_
    refine lv_i2l hx hb d_M_secret_17 (rfl) ?_
    refine goI (runV C h [.long z.toInt64] [.ref h] (m_isE l D (h := h) (p := p) (q := q) (g := g) (er := 0) (by omega) (by omega) z) vw_M_54 rfl hl.1 ⟨rfl, rfl⟩ (va_recv (ci := 1) (q := ("ProofDeskModel", F_M, 4)) hK hP rfl (q0 := 0) rfl) (fun U hU hW => ⟨by rw [hU]; exact hP, va_K.moved hW.alike hK⟩) (fun U f mk a hU => MO.call hU f mk a) (Nat.le_of_ble_eq_true rfl) ⟨(Nat.le_of_ble_eq_true rfl), (Nat.le_of_ble_eq_true rfl)⟩ ⟨(Nat.le_of_ble_eq_true rfl), (Nat.le_of_ble_eq_true rfl)⟩ d_M_secret_18) (fun re2 e2 => ?_)
    refine lv_if_eq hx hb d_M_secret_21 rfl (fun ke2 => ?_) (fun ke2 => ?_)
    · have e2 := z_f e2 ke2
      have hng : ¬ (expP q cc ∧ expP q z ∧ expP q dd ∧ expP q v ∧ cc ≠ dd) := fun hq => e2 hq.2.1
      refine lv_iconst (v := 1) hx hb d_M_secret_48 (by decide) ?_
      refine lv_goto hx hb d_M_secret_49 rfl ?_
      refine lv_iconst (v := 1) hx hb d_M_secret_53 (by decide) ?_
      have hFc := va_free (wc := [mW h 0 p q g]) hD hS hA [0] rfl
      refine va_calli (runV C h [.int 1, .int 1] [] (m_fails1 l D (h := h) (p := p) (q := q) (g := g) (sz := H.size) (cd := 1) (by decide)) vw_M_44 rfl hl.1 ⟨rfl, rfl⟩ (va_recv (ci := 1) (q := ("ProofDeskModel", F_M, 4)) hK hP rfl (q0 := 0) rfl) (fun U hU hW => ⟨by rw [hU], by rw [hU]; exact hP, va_K.moved hW.alike hK⟩) (fun U f mk a hU => ⟨hU.1, MO.call hU.2 f mk a⟩) (Nat.le_of_ble_eq_true rfl) ⟨(Nat.le_of_ble_eq_true rfl), (Nat.le_of_ble_eq_true rfl)⟩ ⟨(Nat.le_of_ble_eq_true rfl), (Nat.le_of_ble_eq_true rfl)⟩ d_M_secret_54) hS (fun q _ h9 => hFc q h9) hFc (fun rr u t H1 locs ht hvm hpo hBB hz1 hk1 hS => ?_)
      obtain ⟨rfl, rfl⟩ := hpo
      obtain ⟨hP1, hK1, hD1⟩ := hBB
      rw [ht] at hP1
      obtain ⟨hP, hD⟩ := va_join (wr := []) (w1 := [mW h 1 p q g]) hP hD [0] [] rfl rfl (by decide) (by decide) hk1 hFc hP1 hD1
      have hP : va_P D cl [mW h 1 p q g] H1 := hP
      have hD : va_D A [mW h 1 p q g] := hD
      generalize H1 = H at hP hS ⊢
      refine lv_if_eq hx hb d_M_secret_57 rfl (fun k9 => ?_) (fun k9 => ?_)
      · exact absurd k9 (by decide)
      · refine lv_iconst (v := 0) hx hb d_M_secret_60 (by decide) ?_
        exact W.iret hx hb hr (fun t ht hW => ⟨⟨0, 1, rfl, Or.inr ⟨hng, rfl, rfl⟩, by rw [ht]; exact hP, va_K.moved hW.alike hK, hD⟩, hS.F ht⟩) hS.2.2 d_M_secret_61 hlk
    · have e2 := z_t e2 ke2
      refine lv_aload_n hx hb d_M_secret_24 rfl (lv_at hl 0 rfl) ?_
      refine lv_iload_n hx hb d_M_secret_25 rfl (lv_at hl 3 rfl) ?_
      refine lv_i2l hx hb d_M_secret_26 (rfl) ?_
      refine goI (runV C h [.long dd.toInt64] [.ref h] (m_isE l D (h := h) (p := p) (q := q) (g := g) (er := 0) (by omega) (by omega) dd) vw_M_54 rfl hl.1 ⟨rfl, rfl⟩ (va_recv (ci := 1) (q := ("ProofDeskModel", F_M, 4)) hK hP rfl (q0 := 0) rfl) (fun U hU hW => ⟨by rw [hU]; exact hP, va_K.moved hW.alike hK⟩) (fun U f mk a hU => MO.call hU f mk a) (Nat.le_of_ble_eq_true rfl) ⟨(Nat.le_of_ble_eq_true rfl), (Nat.le_of_ble_eq_true rfl)⟩ ⟨(Nat.le_of_ble_eq_true rfl), (Nat.le_of_ble_eq_true rfl)⟩ d_M_secret_27) (fun re3 e3 => ?_)
      refine lv_if_eq hx hb d_M_secret_30 rfl (fun ke3 => ?_) (fun ke3 => ?_)
      · have e3 := z_f e3 ke3
        have hng : ¬ (expP q cc ∧ expP q z ∧ expP q dd ∧ expP q v ∧ cc ≠ dd) := fun hq => e3 hq.2.2.1
        refine lv_iconst (v := 1) hx hb d_M_secret_48 (by decide) ?_
        refine lv_goto hx hb d_M_secret_49 rfl ?_
        refine lv_iconst (v := 1) hx hb d_M_secret_53 (by decide) ?_
        have hFc := va_free (wc := [mW h 0 p q g]) hD hS hA [0] rfl
        refine va_calli (runV C h [.int 1, .int 1] [] (m_fails1 l D (h := h) (p := p) (q := q) (g := g) (sz := H.size) (cd := 1) (by decide)) vw_M_44 rfl hl.1 ⟨rfl, rfl⟩ (va_recv (ci := 1) (q := ("ProofDeskModel", F_M, 4)) hK hP rfl (q0 := 0) rfl) (fun U hU hW => ⟨by rw [hU], by rw [hU]; exact hP, va_K.moved hW.alike hK⟩) (fun U f mk a hU => ⟨hU.1, MO.call hU.2 f mk a⟩) (Nat.le_of_ble_eq_true rfl) ⟨(Nat.le_of_ble_eq_true rfl), (Nat.le_of_ble_eq_true rfl)⟩ ⟨(Nat.le_of_ble_eq_true rfl), (Nat.le_of_ble_eq_true rfl)⟩ d_M_secret_54) hS (fun q _ h9 => hFc q h9) hFc (fun rr u t H1 locs ht hvm hpo hBB hz1 hk1 hS => ?_)
        obtain ⟨rfl, rfl⟩ := hpo
        obtain ⟨hP1, hK1, hD1⟩ := hBB
        rw [ht] at hP1
        obtain ⟨hP, hD⟩ := va_join (wr := []) (w1 := [mW h 1 p q g]) hP hD [0] [] rfl rfl (by decide) (by decide) hk1 hFc hP1 hD1
        have hP : va_P D cl [mW h 1 p q g] H1 := hP
        have hD : va_D A [mW h 1 p q g] := hD
        generalize H1 = H at hP hS ⊢
        refine lv_if_eq hx hb d_M_secret_57 rfl (fun k9 => ?_) (fun k9 => ?_)
        · exact absurd k9 (by decide)
        · refine lv_iconst (v := 0) hx hb d_M_secret_60 (by decide) ?_
          exact W.iret hx hb hr (fun t ht hW => ⟨⟨0, 1, rfl, Or.inr ⟨hng, rfl, rfl⟩, by rw [ht]; exact hP, va_K.moved hW.alike hK, hD⟩, hS.F ht⟩) hS.2.2 d_M_secret_61 hlk
      · have e3 := z_t e3 ke3
        refine lv_aload_n hx hb d_M_secret_33 rfl (lv_at hl 0 rfl) ?_
        refine lv_iload hx hb d_M_secret_34 (lv_at hl 4 rfl) ?_
        refine lv_i2l hx hb d_M_secret_36 (rfl) ?_
        refine goI (runV C h [.long v.toInt64] [.ref h] (m_isE l D (h := h) (p := p) (q := q) (g := g) (er := 0) (by omega) (by omega) v) vw_M_54 rfl hl.1 ⟨rfl, rfl⟩ (va_recv (ci := 1) (q := ("ProofDeskModel", F_M, 4)) hK hP rfl (q0 := 0) rfl) (fun U hU hW => ⟨by rw [hU]; exact hP, va_K.moved hW.alike hK⟩) (fun U f mk a hU => MO.call hU f mk a) (Nat.le_of_ble_eq_true rfl) ⟨(Nat.le_of_ble_eq_true rfl), (Nat.le_of_ble_eq_true rfl)⟩ ⟨(Nat.le_of_ble_eq_true rfl), (Nat.le_of_ble_eq_true rfl)⟩ d_M_secret_37) (fun re4 e4 => ?_)
        refine lv_if_eq hx hb d_M_secret_40 rfl (fun ke4 => ?_) (fun ke4 => ?_)
        · have e4 := z_f e4 ke4
          have hng : ¬ (expP q cc ∧ expP q z ∧ expP q dd ∧ expP q v ∧ cc ≠ dd) := fun hq => e4 hq.2.2.2.1
          refine lv_iconst (v := 1) hx hb d_M_secret_48 (by decide) ?_
          refine lv_goto hx hb d_M_secret_49 rfl ?_
          refine lv_iconst (v := 1) hx hb d_M_secret_53 (by decide) ?_
          have hFc := va_free (wc := [mW h 0 p q g]) hD hS hA [0] rfl
          refine va_calli (runV C h [.int 1, .int 1] [] (m_fails1 l D (h := h) (p := p) (q := q) (g := g) (sz := H.size) (cd := 1) (by decide)) vw_M_44 rfl hl.1 ⟨rfl, rfl⟩ (va_recv (ci := 1) (q := ("ProofDeskModel", F_M, 4)) hK hP rfl (q0 := 0) rfl) (fun U hU hW => ⟨by rw [hU], by rw [hU]; exact hP, va_K.moved hW.alike hK⟩) (fun U f mk a hU => ⟨hU.1, MO.call hU.2 f mk a⟩) (Nat.le_of_ble_eq_true rfl) ⟨(Nat.le_of_ble_eq_true rfl), (Nat.le_of_ble_eq_true rfl)⟩ ⟨(Nat.le_of_ble_eq_true rfl), (Nat.le_of_ble_eq_true rfl)⟩ d_M_secret_54) hS (fun q _ h9 => hFc q h9) hFc (fun rr u t H1 locs ht hvm hpo hBB hz1 hk1 hS => ?_)
          obtain ⟨rfl, rfl⟩ := hpo
          obtain ⟨hP1, hK1, hD1⟩ := hBB
          rw [ht] at hP1
          obtain ⟨hP, hD⟩ := va_join (wr := []) (w1 := [mW h 1 p q g]) hP hD [0] [] rfl rfl (by decide) (by decide) hk1 hFc hP1 hD1
          have hP : va_P D cl [mW h 1 p q g] H1 := hP
          have hD : va_D A [mW h 1 p q g] := hD
          generalize H1 = H at hP hS ⊢
          refine lv_if_eq hx hb d_M_secret_57 rfl (fun k9 => ?_) (fun k9 => ?_)
          · exact absurd k9 (by decide)
          · refine lv_iconst (v := 0) hx hb d_M_secret_60 (by decide) ?_
            exact W.iret hx hb hr (fun t ht hW => ⟨⟨0, 1, rfl, Or.inr ⟨hng, rfl, rfl⟩, by rw [ht]; exact hP, va_K.moved hW.alike hK, hD⟩, hS.F ht⟩) hS.2.2 d_M_secret_61 hlk
        · have e4 := z_t e4 ke4
          refine lv_iload_n hx hb d_M_secret_43 rfl (lv_at hl 1 rfl) ?_
          refine lv_iload_n hx hb d_M_secret_44 rfl (lv_at hl 3 rfl) ?_
          refine lv_icmp_ne hx hb d_M_secret_45 rfl (fun h5 => ?_) (fun h5 => ?_)
          · have hgd : (expP q cc ∧ expP q z ∧ expP q dd ∧ expP q v ∧ cc ≠ dd) := ⟨e1, e2, e3, e4, h5⟩
            refine lv_iconst (v := 0) hx hb d_M_secret_52 (by decide) ?_
            refine lv_iconst (v := 1) hx hb d_M_secret_53 (by decide) ?_
            refine goI (runV C h [.int 0, .int 1] [] (m_fails0 l D (h := h) (p := p) (q := q) (g := g) 1) vw_M_44 rfl hl.1 ⟨rfl, rfl⟩ (va_recv (ci := 1) (q := ("ProofDeskModel", F_M, 4)) hK hP rfl (q0 := 0) rfl) (fun U hU hW => ⟨by rw [hU]; exact hP, va_K.moved hW.alike hK⟩) (fun U f mk a hU => MO.call hU f mk a) (Nat.le_of_ble_eq_true rfl) ⟨(Nat.le_of_ble_eq_true rfl), (Nat.le_of_ble_eq_true rfl)⟩ ⟨(Nat.le_of_ble_eq_true rfl), (Nat.le_of_ble_eq_true rfl)⟩ d_M_secret_54) (fun r hfl0 => ?_)
            subst hfl0
            refine lv_if_eq hx hb d_M_secret_57 rfl (fun k9 => ?_) (fun k9 => ?_)
            · obtain ⟨c1, hc1, rfl, hc2⟩ := nI_of_toInt (v := cc) e1.1
              obtain ⟨z1, hz1, rfl, hz2⟩ := nI_of_toInt (v := z) e2.1
              obtain ⟨d1, hd1, rfl, hd2⟩ := nI_of_toInt (v := dd) e3.1
              obtain ⟨v1, hv1, rfl, hv2⟩ := nI_of_toInt (v := v) e4.1
              have b1 := e1.2
              have b2 := e2.2
              have b3 := e3.2
              have b4 := e4.2
              rw [hc2] at b1
              rw [hz2] at b2
              rw [hd2] at b3
              rw [hv2] at b4
              have hne : c1 ≠ d1 := fun hq => h5 (by rw [hq])
              have hsp := sub_m_pos (q := q) (a := c1) (b := d1) (by omega) (by omega) hne
              have hsz : sub_m q z1 v1 < q := Nat.mod_lt _ (by omega)
              have hil := inv_lt (a := sub_m q c1 d1) (show 0 < q by omega)
              have hmu := mul_lt62 (show sub_m q z1 v1 < 2 ^ 31 by omega) (show inv_v (sub_m q c1 d1) q < 2 ^ 31 by omega)
              have hsl : ∀ a b : Nat, b < q → lN a - lN b + lN q = lN (a + q - b) := by
                intro a b hb
                rw [show a + q - b = (a + q) - b by omega, ← lN_sub (by omega), ← lN_add, Int64.sub_eq_add_neg, Int64.sub_eq_add_neg, Int64.add_assoc, Int64.add_assoc, Int64.add_comm (-lN b)]
              refine lv_iload_n hx hb d_M_secret_62 rfl (lv_at hl 2 rfl) ?_
              refine lv_i2l (v := lN z1) hx hb d_M_secret_63 (nI_l hz1) ?_
              refine lv_iload hx hb d_M_secret_64 (lv_at hl 4 rfl) ?_
              refine lv_i2l (v := lN v1) hx hb d_M_secret_66 (nI_l hv1) ?_
              refine lv_lsub hx hb d_M_secret_67 ?_
              refine lv_aload_n hx hb d_M_secret_68 rfl (lv_at hl 0 rfl) ?_
              refine mg_q C hK hP d_M_secret_69 ?_
              refine lv_ladd hx hb d_M_secret_72 ?_
              rw [show (((lN z1) - (lN v1)) + (lN q) : Int64) = lN (z1 + q - v1) from hsl _ _ (by omega)]
              refine lv_aload_n hx hb d_M_secret_73 rfl (lv_at hl 0 rfl) ?_
              refine mg_q C hK hP d_M_secret_74 ?_
              refine lv_lrem hx hb d_M_secret_77 (lN_ne0 (by omega) (by omega)) ?_
              rw [show ((lN (z1 + q - v1)) - (lN (z1 + q - v1)) / (lN q) * (lN q) : Int64) = lN (sub_m q z1 v1) from pk_lRem (by omega) (by omega) (by omega)]
              refine lv_lstore (lv' := [(5, .long (lN (sub_m q z1 v1))), (0, .ref h), (1, .int (nI c1)), (2, .int (nI z1)), (3, .int (nI d1)), (4, .int (nI v1))]) hx hb d_M_secret_78 hl (Nat.le_of_ble_eq_true rfl) rfl (fun ls hl => ?_)
              refine lv_iload_n hx hb d_M_secret_80 rfl (lv_at hl 2 rfl) ?_
              refine lv_i2l (v := lN c1) hx hb d_M_secret_81 (nI_l hc1) ?_
              refine lv_iload_n hx hb d_M_secret_82 rfl (lv_at hl 4 rfl) ?_
              refine lv_i2l (v := lN d1) hx hb d_M_secret_83 (nI_l hd1) ?_
              refine lv_lsub hx hb d_M_secret_84 ?_
              refine lv_aload_n hx hb d_M_secret_85 rfl (lv_at hl 1 rfl) ?_
              refine mg_q C hK hP d_M_secret_86 ?_
              refine lv_ladd hx hb d_M_secret_89 ?_
              rw [show (((lN c1) - (lN d1)) + (lN q) : Int64) = lN (c1 + q - d1) from hsl _ _ (by omega)]
              refine lv_aload_n hx hb d_M_secret_90 rfl (lv_at hl 1 rfl) ?_
              refine mg_q C hK hP d_M_secret_91 ?_
              refine lv_lrem hx hb d_M_secret_94 (lN_ne0 (by omega) (by omega)) ?_
              rw [show ((lN (c1 + q - d1)) - (lN (c1 + q - d1)) / (lN q) * (lN q) : Int64) = lN (sub_m q c1 d1) from pk_lRem (by omega) (by omega) (by omega)]
              refine lv_lstore (lv' := [(7, .long (lN (sub_m q c1 d1))), (5, .long (lN (sub_m q z1 v1))), (0, .ref h), (1, .int (nI c1)), (2, .int (nI z1)), (3, .int (nI d1)), (4, .int (nI v1))]) hx hb d_M_secret_95 hl (Nat.le_of_ble_eq_true rfl) rfl (fun ls hl => ?_)
              refine lv_lload hx hb d_M_secret_97 (lv_at hl 1 rfl) ?_
              refine lv_lload hx hb d_M_secret_99 (lv_at hl 0 rfl) ?_
              refine lv_aload_n hx hb d_M_secret_101 rfl (lv_at hl 2 rfl) ?_
              refine mg_q C hK hP d_M_secret_102 ?_
              refine goL (runS C [.long (lN (sub_m q c1 d1)), .long (lN q)] [.long (lN (sub_m q z1 v1))] (m_invS l (a := sub_m q c1 d1) (n := q) hsp.1 hsp.2 (by omega)) sw_M_48 rfl hl.1 ⟨rfl, rfl⟩ (fun _ _ _ => trivial) (fun _ _ _ _ h => h) (Nat.le_of_ble_eq_true rfl) ⟨(Nat.le_of_ble_eq_true rfl), (Nat.le_of_ble_eq_true rfl)⟩ ⟨(Nat.le_of_ble_eq_true rfl), (Nat.le_of_ble_eq_true rfl)⟩ d_M_secret_105) (fun r hr => ?_)
              subst hr
              refine lv_lmul hx hb d_M_secret_108 ?_
              rw [show ((lN (sub_m q z1 v1)) * (lN (inv_v (sub_m q c1 d1) q)) : Int64) = lN (sub_m q z1 v1 * inv_v (sub_m q c1 d1) q) from lN_mul _ _]
              refine lv_aload_n hx hb d_M_secret_109 rfl (lv_at hl 2 rfl) ?_
              refine mg_q C hK hP d_M_secret_110 ?_
              refine lv_lrem hx hb d_M_secret_113 (lN_ne0 (by omega) (by omega)) ?_
              rw [show ((lN (sub_m q z1 v1 * inv_v (sub_m q c1 d1) q)) - (lN (sub_m q z1 v1 * inv_v (sub_m q c1 d1) q)) / (lN q) * (lN q) : Int64) = lN (sub_m q z1 v1 * inv_v (sub_m q c1 d1) q % q) from pk_lRem (by omega) (by omega) (by omega)]
              refine lv_l2i (v := nI (sub_m q z1 v1 * inv_v (sub_m q c1 d1) q % q)) hx hb d_M_secret_114 (lN_i _) ?_
              exact W.iret hx hb hr (fun t ht hW => ⟨⟨nI (sub_m q z1 v1 * inv_v (sub_m q c1 d1) q % q), 0, rfl, Or.inl ⟨hgd, rfl, by rw [hc2, hz2, hd2, hv2, Int.toNat_natCast, Int.toNat_natCast, Int.toNat_natCast, Int.toNat_natCast]⟩, by rw [ht]; exact hP, va_K.moved hW.alike hK, hD⟩, hS.F ht⟩) hS.2.2 d_M_secret_115 hlk
            · exact absurd rfl k9
          · have hng : ¬ (expP q cc ∧ expP q z ∧ expP q dd ∧ expP q v ∧ cc ≠ dd) := fun hq => hq.2.2.2.2 h5
            refine lv_iconst (v := 1) hx hb d_M_secret_48 (by decide) ?_
            refine lv_goto hx hb d_M_secret_49 rfl ?_
            refine lv_iconst (v := 1) hx hb d_M_secret_53 (by decide) ?_
            have hFc := va_free (wc := [mW h 0 p q g]) hD hS hA [0] rfl
            refine va_calli (runV C h [.int 1, .int 1] [] (m_fails1 l D (h := h) (p := p) (q := q) (g := g) (sz := H.size) (cd := 1) (by decide)) vw_M_44 rfl hl.1 ⟨rfl, rfl⟩ (va_recv (ci := 1) (q := ("ProofDeskModel", F_M, 4)) hK hP rfl (q0 := 0) rfl) (fun U hU hW => ⟨by rw [hU], by rw [hU]; exact hP, va_K.moved hW.alike hK⟩) (fun U f mk a hU => ⟨hU.1, MO.call hU.2 f mk a⟩) (Nat.le_of_ble_eq_true rfl) ⟨(Nat.le_of_ble_eq_true rfl), (Nat.le_of_ble_eq_true rfl)⟩ ⟨(Nat.le_of_ble_eq_true rfl), (Nat.le_of_ble_eq_true rfl)⟩ d_M_secret_54) hS (fun q _ h9 => hFc q h9) hFc (fun rr u t H1 locs ht hvm hpo hBB hz1 hk1 hS => ?_)
            obtain ⟨rfl, rfl⟩ := hpo
            obtain ⟨hP1, hK1, hD1⟩ := hBB
            rw [ht] at hP1
            obtain ⟨hP, hD⟩ := va_join (wr := []) (w1 := [mW h 1 p q g]) hP hD [0] [] rfl rfl (by decide) (by decide) hk1 hFc hP1 hD1
            have hP : va_P D cl [mW h 1 p q g] H1 := hP
            have hD : va_D A [mW h 1 p q g] := hD
            generalize H1 = H at hP hS ⊢
            refine lv_if_eq hx hb d_M_secret_57 rfl (fun k9 => ?_) (fun k9 => ?_)
            · exact absurd k9 (by decide)
            · refine lv_iconst (v := 0) hx hb d_M_secret_60 (by decide) ?_
              exact W.iret hx hb hr (fun t ht hW => ⟨⟨0, 1, rfl, Or.inr ⟨hng, rfl, rfl⟩, by rw [ht]; exact hP, va_K.moved hW.alike hK, hD⟩, hS.F ht⟩) hS.2.2 d_M_secret_61 hlk
set_option maxHeartbeats 4000000 in
/-- log -/
theorem m_log (l : Launch) (D : va_G) {h p q g sz : Nat} {er : Int32} (hG : grp p q g) (y : Int32) : Met l y_M_log (.code y_M_log b_M_log 5 (some .int) :: tb) (rk 2) (va_Pc [.ref h, .int y] (fun U => U.heap.size = sz ∧ MO D h er p q g U)) (va_Qi (fun r (u : Int32) => (memP p q y ∧ p ≤ 20000 ∧ u = 0 ∧ ∃ z, z < q ∧ g ^ z % p = y.toInt.toNat ∧ r = nI z) ∨ (¬ memP p q y ∧ u = 1 ∧ r = 0) ∨ (memP p q y ∧ 20000 < p ∧ u = 2 ∧ r = 0)) (at_m D (va_A [mW h er p q g] sz) h p q g) (va_A [mW h er p q g] sz)) 0 0 (va_A [mW h er p q g] sz) := by
  refine mk_met (by decide) (Nat.le_of_ble_eq_true rfl) ?_
  intro p0 e s m below meth c ls C hnm hB hl
  generalize ([.ref h, .int y] : List Value).toArray = args at C ⊢
  obtain ⟨hx, hb, hml, hown, hts, hr, hlk⟩ := id C
  obtain ⟨hsz, hP, hK⟩ := hB
  subst hsz
  have hD : va_D (va_A [mW h er p q g] s.heap.size) [mW h er p q g] := one_D _ _ (va_A.in (k := 0) rfl)
  generalize hAe : va_A [mW h er p q g] s.heap.size = A at hD ⊢
  have hA : ∀ q : Nat, s.heap.size ≤ q → A q := fun q h => by rw [← hAe]; exact Or.inr h
  have hS : va_S A s.heap s.heap [] := va_S.rf
  obtain ⟨g5, g31, gq, gqp, ggp, gg2⟩ := hG.nums
  have hl : lv_has ls 5 [(0, .ref h), (1, .int y)] := hl
  refine lv_aload_n hx hb d_M_log_0 rfl (lv_at hl 0 rfl) ?_
  refine lv_iconst (v := 0) hx hb d_M_log_1 (by decide) ?_
  refine mp_e C hK hP hD hS (v := 0) d_M_log_2 (fun H locs hP hD hS => ?_)
  refine lv_aload_n hx hb d_M_log_5 rfl (lv_at hl 0 rfl) ?_
  refine lv_iload_n hx hb d_M_log_6 rfl (lv_at hl 1 rfl) ?_
  refine lv_i2l hx hb d_M_log_7 (rfl) ?_
  refine lv_aload_n hx hb d_M_log_8 rfl (lv_at hl 0 rfl) ?_
  refine mg_p C hK hP d_M_log_9 ?_
  refine lv_aload_n hx hb d_M_log_12 rfl (lv_at hl 0 rfl) ?_
  refine mg_q C hK hP d_M_log_13 ?_
  refine goI (runS C [.long y.toInt64, .long (lN p), .long (lN q)] [.ref h] (m_isM l y (p1 := p) (q1 := q) (by omega) g31 (by omega)) sw_M_41 rfl hl.1 ⟨rfl, rfl⟩ (fun _ _ _ => trivial) (fun _ _ _ _ h => h) (Nat.le_of_ble_eq_true rfl) ⟨(Nat.le_of_ble_eq_true rfl), (Nat.le_of_ble_eq_true rfl)⟩ ⟨(Nat.le_of_ble_eq_true rfl), (Nat.le_of_ble_eq_true rfl)⟩ d_M_log_16) (fun re1 e1 => ?_)
  refine lv_if_ne hx hb d_M_log_19 rfl (fun ke1 => ?_) (fun ke1 => ?_)
  · have e1 := z_t e1 ke1
    refine lv_iconst (v := 0) hx hb d_M_log_26 (by decide) ?_
    refine lv_iconst (v := 1) hx hb d_M_log_27 (by decide) ?_
    refine goI (runV C h [.int 0, .int 1] [] (m_fails0 l D (h := h) (p := p) (q := q) (g := g) 1) vw_M_44 rfl hl.1 ⟨rfl, rfl⟩ (va_recv (ci := 1) (q := ("ProofDeskModel", F_M, 4)) hK hP rfl (q0 := 0) rfl) (fun U hU hW => ⟨by rw [hU]; exact hP, va_K.moved hW.alike hK⟩) (fun U f mk a hU => MO.call hU f mk a) (Nat.le_of_ble_eq_true rfl) ⟨(Nat.le_of_ble_eq_true rfl), (Nat.le_of_ble_eq_true rfl)⟩ ⟨(Nat.le_of_ble_eq_true rfl), (Nat.le_of_ble_eq_true rfl)⟩ d_M_log_28) (fun r hfl0 => ?_)
    subst hfl0
    refine lv_if_ne hx hb d_M_log_31 rfl (fun k9 => ?_) (fun k9 => ?_)
    · exact absurd rfl k9
    · refine lv_aload_n hx hb d_M_log_34 rfl (lv_at hl 0 rfl) ?_
      refine lv_aload_n hx hb d_M_log_35 rfl (lv_at hl 0 rfl) ?_
      refine mg_p C hK hP d_M_log_36 ?_
      refine lv_ldc2 hx hb hown (hts _ tk_291) d_M_log_39 ?_
      refine W.lcmp hx hb d_M_log_42 ?_
      refine lv_if_le hx hb d_M_log_43 rfl (fun h2 => ?_) (fun h2 => ?_)
      · have hsm : p ≤ 20000 := (pk_lLE (b := 20000) (by omega) (by decide)).mp ((lg_cmp_le _ _).mp h2)
        obtain ⟨y1, hy1, rfl, hy2⟩ := nI_of_toInt (v := y) (by have := e1.1; omega)
        obtain ⟨b1, b2, b3⟩ := id e1
        rw [hy2] at b1 b2 b3
        rw [Int.toNat_natCast] at b3
        obtain ⟨x0, hx0, hgx⟩ := grp_log hG (y := y1) (by omega) (by omega) b3
        refine lv_iconst (v := 0) hx hb d_M_log_50 (by decide) ?_
        refine lv_iconst (v := 2) hx hb d_M_log_51 (by decide) ?_
        refine goI (runV C h [.int 0, .int 2] [] (m_fails0 l D (h := h) (p := p) (q := q) (g := g) 2) vw_M_44 rfl hl.1 ⟨rfl, rfl⟩ (va_recv (ci := 1) (q := ("ProofDeskModel", F_M, 4)) hK hP rfl (q0 := 0) rfl) (fun U hU hW => ⟨by rw [hU]; exact hP, va_K.moved hW.alike hK⟩) (fun U f mk a hU => MO.call hU f mk a) (Nat.le_of_ble_eq_true rfl) ⟨(Nat.le_of_ble_eq_true rfl), (Nat.le_of_ble_eq_true rfl)⟩ ⟨(Nat.le_of_ble_eq_true rfl), (Nat.le_of_ble_eq_true rfl)⟩ d_M_log_52) (fun r hfl0 => ?_)
        subst hfl0
        refine lv_if_eq hx hb d_M_log_55 rfl (fun k9 => ?_) (fun k9 => ?_)
        · have loop : ∀ (d x : Nat) (ls : Array Slot), x0 - x = d → x ≤ x0 → lv_has ls 5 [(0, .ref h), (1, .int (nI y1)), (2, .int (nI x)), (3, .long (lN (g ^ x % p)))] → W p0 l e (rk 2) s m args below meth c H locs 0 0 (MQ below (va_Qi (fun r (u : Int32) => (memP p q (nI y1) ∧ p ≤ 20000 ∧ u = 0 ∧ ∃ z, z < q ∧ g ^ z % p = (nI y1).toInt.toNat ∧ r = nI z) ∨ (¬ memP p q (nI y1) ∧ u = 1 ∧ r = 0) ∨ (memP p q (nI y1) ∧ 20000 < p ∧ u = 2 ∧ r = 0)) (at_m D A h p q g) A) args s 0 0 A) (F0 m 64 ls []) := by
            intro d
            induction d with
            | zero =>
              intro x ls hd hxx hl
              have m1 := Nat.mod_lt (g ^ x) (show p > 0 by omega)
              refine lv_lload_n hx hb d_M_log_64 rfl (lv_at hl 3 rfl) ?_
              refine lv_iload_n hx hb d_M_log_65 rfl (lv_at hl 1 rfl) ?_
              refine lv_i2l (v := lN y1) hx hb d_M_log_66 (nI_l hy1) ?_
              refine W.lcmp hx hb d_M_log_67 ?_
              refine lv_if_eq hx hb d_M_log_68 rfl (fun h4 => ?_) (fun h4 => ?_)
              · have hxv : g ^ x % p = y1 := (pk_lEQ (by omega) (by omega)).mp ((lg_cmp_eq _ _).mp h4)
                have hfin : ∃ z, z < q ∧ g ^ z % p = (nI y1).toInt.toNat ∧ nI x = nI z := ⟨x, by omega, by rw [hy2, Int.toNat_natCast]; exact hxv, rfl⟩
                refine lv_iload_n hx hb d_M_log_89 rfl (lv_at hl 2 rfl) ?_
                exact W.iret hx hb hr (fun t ht hW => ⟨⟨nI x, 0, rfl, Or.inl ⟨e1, hsm, rfl, hfin⟩, by rw [ht]; exact hP, va_K.moved hW.alike hK, hD⟩, hS.F ht⟩) hS.2.2 d_M_log_90 hlk
              · have hne : x ≠ x0 := by
                  intro hq
                  refine h4 ((lg_cmp_eq _ _).mpr ?_)
                  rw [hq, hgx]
                omega
            | succ d ih =>
              intro x ls hd hxx hl
              have m1 := Nat.mod_lt (g ^ x) (show p > 0 by omega)
              refine lv_lload_n hx hb d_M_log_64 rfl (lv_at hl 3 rfl) ?_
              refine lv_iload_n hx hb d_M_log_65 rfl (lv_at hl 1 rfl) ?_
              refine lv_i2l (v := lN y1) hx hb d_M_log_66 (nI_l hy1) ?_
              refine W.lcmp hx hb d_M_log_67 ?_
              refine lv_if_eq hx hb d_M_log_68 rfl (fun h4 => ?_) (fun h4 => ?_)
              · have hxv : g ^ x % p = y1 := (pk_lEQ (by omega) (by omega)).mp ((lg_cmp_eq _ _).mp h4)
                have hfin : ∃ z, z < q ∧ g ^ z % p = (nI y1).toInt.toNat ∧ nI x = nI z := ⟨x, by omega, by rw [hy2, Int.toNat_natCast]; exact hxv, rfl⟩
                refine lv_iload_n hx hb d_M_log_89 rfl (lv_at hl 2 rfl) ?_
                exact W.iret hx hb hr (fun t ht hW => ⟨⟨nI x, 0, rfl, Or.inl ⟨e1, hsm, rfl, hfin⟩, by rw [ht]; exact hP, va_K.moved hW.alike hK, hD⟩, hS.F ht⟩) hS.2.2 d_M_log_90 hlk
              · have hne : x ≠ x0 := by
                  intro hq
                  refine h4 ((lg_cmp_eq _ _).mpr ?_)
                  rw [hq, hgx]
                have hmu := mul_lt62 (show g ^ x % p < 2 ^ 31 by omega) (show g < 2 ^ 31 by omega)
                refine lv_iinc (k := 2) (v := nI (x + 1)) (lv' := [(2, .int (nI (x + 1))), (0, .ref h), (1, .int (nI y1)), (3, .long (lN (g ^ x % p)))]) hx hb d_M_log_71 hl rfl (nI_1 x) (Nat.le_of_ble_eq_true rfl) rfl (fun ls hl => ?_)
                refine lv_lload_n hx hb d_M_log_74 rfl (lv_at hl 3 rfl) ?_
                refine lv_aload_n hx hb d_M_log_75 rfl (lv_at hl 1 rfl) ?_
                refine mg_g C hK hP d_M_log_76 ?_
                refine lv_lmul hx hb d_M_log_79 ?_
                rw [show ((lN (g ^ x % p)) * (lN g) : Int64) = lN (g ^ x % p * g) from lN_mul _ _]
                refine lv_aload_n hx hb d_M_log_80 rfl (lv_at hl 1 rfl) ?_
                refine mg_p C hK hP d_M_log_81 ?_
                refine lv_lrem hx hb d_M_log_84 (lN_ne0 (by omega) (by omega)) ?_
                rw [show ((lN (g ^ x % p * g)) - (lN (g ^ x % p * g)) / (lN p) * (lN p) : Int64) = lN (g ^ (x + 1) % p) from by rw [pk_lRem (by omega) (by omega) (by omega), Nat.mod_mul_mod, ← Nat.pow_succ]]
                refine lv_lstore_n (lv' := [(3, .long (lN (g ^ (x + 1) % p))), (2, .int (nI (x + 1))), (0, .ref h), (1, .int (nI y1))]) hx hb d_M_log_85 rfl hl (Nat.le_of_ble_eq_true rfl) rfl (fun ls hl => ?_)
                refine lv_goto hx hb d_M_log_86 rfl ?_
                have hl := lv_sub hl [2, 3, 1, 0] rfl
                have hl : lv_has ls 5 [(0, .ref h), (1, .int (nI y1)), (2, .int (nI (x + 1))), (3, .long (lN (g ^ (x + 1) % p)))] := hl
                exact ih (x + 1) ls (by omega) (by omega) hl
          refine lv_iconst (v := 0) hx hb d_M_log_60 (by decide) ?_
          rw [show (0 : Int32) = nI 0 from rfl]
          refine lv_istore_n (lv' := [(2, .int (nI 0)), (0, .ref h), (1, .int (nI y1))]) hx hb d_M_log_61 rfl hl (Nat.le_of_ble_eq_true rfl) rfl (fun ls hl => ?_)
          refine lv_lconst (v := 1) hx hb d_M_log_62 (by decide) ?_
          rw [show (1 : Int64) = lN (g ^ 0 % p) from by rw [Nat.pow_zero, Nat.mod_eq_of_lt (by omega)]; rfl]
          refine lv_lstore_n (lv' := [(3, .long (lN (g ^ 0 % p))), (2, .int (nI 0)), (0, .ref h), (1, .int (nI y1))]) hx hb d_M_log_63 rfl hl (Nat.le_of_ble_eq_true rfl) rfl (fun ls hl => ?_)
          have hl := lv_sub hl [2, 3, 1, 0] rfl
          have hl : lv_has ls 5 [(0, .ref h), (1, .int (nI y1)), (2, .int (nI 0)), (3, .long (lN (g ^ 0 % p)))] := hl
          exact loop x0 0 ls rfl (Nat.zero_le _) hl
        · exact absurd rfl k9
      · have hbig : 20000 < p := by
          apply Classical.byContradiction
          intro hq
          exact h2 ((lg_cmp_le _ _).mpr ((pk_lLE (b := 20000) (by omega) (by decide)).mpr (by omega)))
        refine lv_iconst (v := 1) hx hb d_M_log_46 (by decide) ?_
        refine lv_goto hx hb d_M_log_47 rfl ?_
        refine lv_iconst (v := 2) hx hb d_M_log_51 (by decide) ?_
        have hFc := va_free (wc := [mW h 0 p q g]) hD hS hA [0] rfl
        refine va_calli (runV C h [.int 1, .int 2] [] (m_fails1 l D (h := h) (p := p) (q := q) (g := g) (sz := H.size) (cd := 2) (by decide)) vw_M_44 rfl hl.1 ⟨rfl, rfl⟩ (va_recv (ci := 1) (q := ("ProofDeskModel", F_M, 4)) hK hP rfl (q0 := 0) rfl) (fun U hU hW => ⟨by rw [hU], by rw [hU]; exact hP, va_K.moved hW.alike hK⟩) (fun U f mk a hU => ⟨hU.1, MO.call hU.2 f mk a⟩) (Nat.le_of_ble_eq_true rfl) ⟨(Nat.le_of_ble_eq_true rfl), (Nat.le_of_ble_eq_true rfl)⟩ ⟨(Nat.le_of_ble_eq_true rfl), (Nat.le_of_ble_eq_true rfl)⟩ d_M_log_52) hS (fun q _ h9 => hFc q h9) hFc (fun rr u t H1 locs ht hvm hpo hBB hz1 hk1 hS => ?_)
        obtain ⟨rfl, rfl⟩ := hpo
        obtain ⟨hP1, hK1, hD1⟩ := hBB
        rw [ht] at hP1
        obtain ⟨hP, hD⟩ := va_join (wr := []) (w1 := [mW h 2 p q g]) hP hD [0] [] rfl rfl (by decide) (by decide) hk1 hFc hP1 hD1
        have hP : va_P D cl [mW h 2 p q g] H1 := hP
        have hD : va_D A [mW h 2 p q g] := hD
        generalize H1 = H at hP hS ⊢
        refine lv_if_eq hx hb d_M_log_55 rfl (fun k9 => ?_) (fun k9 => ?_)
        · exact absurd k9 (by decide)
        · refine lv_iconst (v := 0) hx hb d_M_log_58 (by decide) ?_
          exact W.iret hx hb hr (fun t ht hW => ⟨⟨0, 2, rfl, Or.inr (Or.inr ⟨e1, hbig, rfl, rfl⟩), by rw [ht]; exact hP, va_K.moved hW.alike hK, hD⟩, hS.F ht⟩) hS.2.2 d_M_log_59 hlk
  · have e1 := z_f e1 ke1
    refine lv_iconst (v := 1) hx hb d_M_log_22 (by decide) ?_
    refine lv_goto hx hb d_M_log_23 rfl ?_
    refine lv_iconst (v := 1) hx hb d_M_log_27 (by decide) ?_
    have hFc := va_free (wc := [mW h 0 p q g]) hD hS hA [0] rfl
    refine va_calli (runV C h [.int 1, .int 1] [] (m_fails1 l D (h := h) (p := p) (q := q) (g := g) (sz := H.size) (cd := 1) (by decide)) vw_M_44 rfl hl.1 ⟨rfl, rfl⟩ (va_recv (ci := 1) (q := ("ProofDeskModel", F_M, 4)) hK hP rfl (q0 := 0) rfl) (fun U hU hW => ⟨by rw [hU], by rw [hU]; exact hP, va_K.moved hW.alike hK⟩) (fun U f mk a hU => ⟨hU.1, MO.call hU.2 f mk a⟩) (Nat.le_of_ble_eq_true rfl) ⟨(Nat.le_of_ble_eq_true rfl), (Nat.le_of_ble_eq_true rfl)⟩ ⟨(Nat.le_of_ble_eq_true rfl), (Nat.le_of_ble_eq_true rfl)⟩ d_M_log_28) hS (fun q _ h9 => hFc q h9) hFc (fun rr u t H1 locs ht hvm hpo hBB hz1 hk1 hS => ?_)
    obtain ⟨rfl, rfl⟩ := hpo
    obtain ⟨hP1, hK1, hD1⟩ := hBB
    rw [ht] at hP1
    obtain ⟨hP, hD⟩ := va_join (wr := []) (w1 := [mW h 1 p q g]) hP hD [0] [] rfl rfl (by decide) (by decide) hk1 hFc hP1 hD1
    have hP : va_P D cl [mW h 1 p q g] H1 := hP
    have hD : va_D A [mW h 1 p q g] := hD
    generalize H1 = H at hP hS ⊢
    refine lv_if_ne hx hb d_M_log_31 rfl (fun k9 => ?_) (fun k9 => ?_)
    · refine lv_iconst (v := 0) hx hb d_M_log_58 (by decide) ?_
      exact W.iret hx hb hr (fun t ht hW => ⟨⟨0, 1, rfl, Or.inr (Or.inl ⟨e1, rfl, rfl⟩), by rw [ht]; exact hP, va_K.moved hW.alike hK, hD⟩, hS.F ht⟩) hS.2.2 d_M_log_59 hlk
    · exact absurd k9 (by decide)
end
section
/-! the model's begin -/
theorem bgM {P G : Nat} (h5 : 5 ≤ P) (hlt : P < 2 ^ 31) : (nt_P P ∧ nt_P ((P - 1) / 2) ∧ G ≠ 1 ∧ (1 ≤ G ∧ G < P ∧ G ^ ((P - 1) / 2) % P = 1)) ↔ (2 ≤ G ∧ grp P (P / 2) G) := by
  constructor
  · rintro ⟨h1, h2, h3, h4, h6, h7⟩
    have hodd : P % 2 = 1 := by
      apply Classical.byContradiction
      intro hq
      rcases h1.2 2 (by omega) with h | h <;> omega
    rw [show (P - 1) / 2 = P / 2 by omega] at h2 h7
    exact ⟨by omega, h1, h2, by omega, by omega, h6, h7, hlt⟩
  · rintro ⟨h0, h1, h2, h3, h4, h6, h7, h8⟩
    rw [show (P - 1) / 2 = P / 2 by omega]
    exact ⟨h1, h2, by omega, by omega, h6, h7⟩
def mb_post (pp gg : Int32) (p q g : Nat) (r : Int32) (u : Nat × Nat × Nat) : Prop := (r = 1 ∧ bgV pp gg ∧ u = (pp.toInt.toNat, pp.toInt.toNat / 2, gg.toInt.toNat)) ∨ (r = 0 ∧ ¬ bgV pp gg ∧ u = (p, q, g))
abbrev at_mb (D : va_G) (A : Nat → Prop) (h : Nat) (u : Nat × Nat × Nat) (t : State) : Prop := va_P D cl [mW h 0 u.1 u.2.1 u.2.2] t.heap ∧ va_K D cl [] t ∧ va_D A [mW h 0 u.1 u.2.1 u.2.2]
set_option maxHeartbeats 4000000 in
/-- begin -/
theorem m_begin (l : Launch) (D : va_G) {h p q g sz : Nat} {er : Int32} (pp gg : Int32) : Met l y_M_begin (.code y_M_begin b_M_begin 3 (some .boolean) :: tb) (rk 2) (va_Pc [.ref h, .int pp, .int gg] (fun U => U.heap.size = sz ∧ MO D h er p q g U)) (va_Qi (mb_post pp gg p q g) (at_mb D (va_A [mW h er p q g] sz) h) (va_A [mW h er p q g] sz)) 0 0 (va_A [mW h er p q g] sz) := by
  refine mk_met (by decide) (Nat.le_of_ble_eq_true rfl) ?_
  intro p0 e s m below meth c ls C hnm hB hl
  generalize ([.ref h, .int pp, .int gg] : List Value).toArray = args at C ⊢
  obtain ⟨hx, hb, hml, hown, hts, hr, hlk⟩ := id C
  obtain ⟨hsz, hP, hK⟩ := hB
  subst hsz
  have hD : va_D (va_A [mW h er p q g] s.heap.size) [mW h er p q g] := one_D _ _ (va_A.in (k := 0) rfl)
  generalize hAe : va_A [mW h er p q g] s.heap.size = A at hD ⊢
  have hA : ∀ q : Nat, s.heap.size ≤ q → A q := fun q h => by rw [← hAe]; exact Or.inr h
  have hS : va_S A s.heap s.heap [] := va_S.rf
  have hl : lv_has ls 3 [(0, .ref h), (1, .int pp), (2, .int gg)] := hl
  refine lv_aload_n hx hb d_M_begin_0 rfl (lv_at hl 0 rfl) ?_
  refine lv_iconst (v := 0) hx hb d_M_begin_1 (by decide) ?_
  refine mp_e C hK hP hD hS (v := 0) d_M_begin_2 (fun H locs hP hD hS => ?_)
  refine lv_iload_n hx hb d_M_begin_5 rfl (lv_at hl 1 rfl) ?_
  refine lv_iconst (v := 5) hx hb d_M_begin_6 (by decide) ?_
  refine lv_icmp_lt hx hb d_M_begin_7 rfl (fun h1 => ?_) (fun h1 => ?_)
  · have hnv : ¬ bgV pp gg := by
      rintro ⟨q1, -, -⟩
      rw [Int32.lt_iff_toInt_lt] at h1
      have : (5 : Int32).toInt = 5 := rfl
      omega
    refine lv_iconst (v := 0) hx hb d_M_begin_51 (by decide) ?_
    exact W.zret hx hb hr (by decide +kernel) (fun t ht hW => ⟨⟨0, (p, q, g), rfl, Or.inr ⟨rfl, hnv, rfl⟩, by rw [ht]; exact hP, va_K.moved hW.alike hK, hD⟩, hS.F ht⟩) hS.2.2 d_M_begin_52 hlk
  · have h5 : 5 ≤ pp.toInt := by
      rw [Int32.lt_iff_toInt_lt] at h1
      have : (5 : Int32).toInt = 5 := rfl
      omega
    obtain ⟨P, hP31, rfl, hPi⟩ := nI_of_toInt (v := pp) (by omega)
    have hP5 : 5 ≤ P := by omega
    have hVg : bgV (nI P) gg → grp P (P / 2) gg.toInt.toNat := fun hq => by
      have := hq.2.2
      rw [hPi, Int.toNat_natCast] at this
      exact this
    refine lv_iload_n hx hb d_M_begin_10 rfl (lv_at hl 1 rfl) ?_
    refine lv_i2l (v := lN P) hx hb d_M_begin_11 (nI_l hP31) ?_
    refine goI (runS C [.long (lN P)] [] (m_isP l (n := P) (by omega) hP31) sw_M_37 rfl hl.1 ⟨rfl, rfl⟩ (fun _ _ _ => trivial) (fun _ _ _ _ h => h) (Nat.le_of_ble_eq_true rfl) ⟨(Nat.le_of_ble_eq_true rfl), (Nat.le_of_ble_eq_true rfl)⟩ ⟨(Nat.le_of_ble_eq_true rfl), (Nat.le_of_ble_eq_true rfl)⟩ d_M_begin_12) (fun r1 z1 => ?_)
    refine lv_if_eq hx hb d_M_begin_15 rfl (fun kz1 => ?_) (fun kz1 => ?_)
    · have hnv : ¬ bgV (nI P) gg := by
        intro hq
        exact z_f z1 kz1 (hVg hq).1
      refine lv_iconst (v := 0) hx hb d_M_begin_51 (by decide) ?_
      exact W.zret hx hb hr (by decide +kernel) (fun t ht hW => ⟨⟨0, (p, q, g), rfl, Or.inr ⟨rfl, hnv, rfl⟩, by rw [ht]; exact hP, va_K.moved hW.alike hK, hD⟩, hS.F ht⟩) hS.2.2 d_M_begin_52 hlk
    · have z1 := z_t z1 kz1
      have hhalf : (P - 1) / 2 = P / 2 := by
        have : P % 2 = 1 := by
          apply Classical.byContradiction
          intro hq
          rcases z1.2 2 (by omega) with h | h <;> omega
        omega
      refine lv_iload_n hx hb d_M_begin_18 rfl (lv_at hl 1 rfl) ?_
      refine lv_iconst (v := 1) hx hb d_M_begin_19 (by decide) ?_
      refine lv_isub hx hb d_M_begin_20 ?_
      rw [show ((nI P) - 1 : Int32) = nI (P - 1) from nI_m1 (by omega)]
      refine lv_iconst (v := 2) hx hb d_M_begin_21 (by decide) ?_
      refine lv_idiv hx hb d_M_begin_22 (by decide) ?_
      rw [show ((nI (P - 1)) / 2 : Int32) = nI ((P - 1) / 2) from pk_div (d := 2) (by omega) (by decide) (by decide)]
      refine lv_i2l (v := lN ((P - 1) / 2)) hx hb d_M_begin_23 (nI_l (by omega)) ?_
      refine goI (runS C [.long (lN ((P - 1) / 2))] [] (m_isP l (n := (P - 1) / 2) (by omega) (by omega)) sw_M_37 rfl hl.1 ⟨rfl, rfl⟩ (fun _ _ _ => trivial) (fun _ _ _ _ h => h) (Nat.le_of_ble_eq_true rfl) ⟨(Nat.le_of_ble_eq_true rfl), (Nat.le_of_ble_eq_true rfl)⟩ ⟨(Nat.le_of_ble_eq_true rfl), (Nat.le_of_ble_eq_true rfl)⟩ d_M_begin_24) (fun r2 z2 => ?_)
      refine lv_if_eq hx hb d_M_begin_27 rfl (fun kz2 => ?_) (fun kz2 => ?_)
      · have hnv : ¬ bgV (nI P) gg := by
          intro hq
          exact z_f z2 kz2 (by rw [hhalf]; exact (hVg hq).2.1)
        refine lv_iconst (v := 0) hx hb d_M_begin_51 (by decide) ?_
        exact W.zret hx hb hr (by decide +kernel) (fun t ht hW => ⟨⟨0, (p, q, g), rfl, Or.inr ⟨rfl, hnv, rfl⟩, by rw [ht]; exact hP, va_K.moved hW.alike hK, hD⟩, hS.F ht⟩) hS.2.2 d_M_begin_52 hlk
      · have z2 := z_t z2 kz2
        refine lv_iload_n hx hb d_M_begin_30 rfl (lv_at hl 2 rfl) ?_
        refine lv_iconst (v := 1) hx hb d_M_begin_31 (by decide) ?_
        refine lv_icmp_eq hx hb d_M_begin_32 rfl (fun h3 => ?_) (fun h3 => ?_)
        · have hnv : ¬ bgV (nI P) gg := by
            intro hq
            have := hq.2.1
            rw [h3] at this
            exact absurd this (by decide)
          refine lv_iconst (v := 0) hx hb d_M_begin_51 (by decide) ?_
          exact W.zret hx hb hr (by decide +kernel) (fun t ht hW => ⟨⟨0, (p, q, g), rfl, Or.inr ⟨rfl, hnv, rfl⟩, by rw [ht]; exact hP, va_K.moved hW.alike hK, hD⟩, hS.F ht⟩) hS.2.2 d_M_begin_52 hlk
        · refine lv_iload_n hx hb d_M_begin_35 rfl (lv_at hl 2 rfl) ?_
          refine lv_i2l hx hb d_M_begin_36 (rfl) ?_
          refine lv_iload_n hx hb d_M_begin_37 rfl (lv_at hl 1 rfl) ?_
          refine lv_i2l (v := lN P) hx hb d_M_begin_38 (nI_l hP31) ?_
          refine lv_iload_n hx hb d_M_begin_39 rfl (lv_at hl 1 rfl) ?_
          refine lv_iconst (v := 1) hx hb d_M_begin_40 (by decide) ?_
          refine lv_isub hx hb d_M_begin_41 ?_
          rw [show ((nI P) - 1 : Int32) = nI (P - 1) from nI_m1 (by omega)]
          refine lv_iconst (v := 2) hx hb d_M_begin_42 (by decide) ?_
          refine lv_idiv hx hb d_M_begin_43 (by decide) ?_
          rw [show ((nI (P - 1)) / 2 : Int32) = nI ((P - 1) / 2) from pk_div (d := 2) (by omega) (by decide) (by decide)]
          refine lv_i2l (v := lN ((P - 1) / 2)) hx hb d_M_begin_44 (nI_l (by omega)) ?_
          refine goI (runS C [.long gg.toInt64, .long (lN P), .long (lN ((P - 1) / 2))] [] (m_isM l gg (p1 := P) (q1 := (P - 1) / 2) (by omega) hP31 (by omega)) sw_M_41 rfl hl.1 ⟨rfl, rfl⟩ (fun _ _ _ => trivial) (fun _ _ _ _ h => h) (Nat.le_of_ble_eq_true rfl) ⟨(Nat.le_of_ble_eq_true rfl), (Nat.le_of_ble_eq_true rfl)⟩ ⟨(Nat.le_of_ble_eq_true rfl), (Nat.le_of_ble_eq_true rfl)⟩ d_M_begin_45) (fun r3 z3 => ?_)
          refine lv_if_ne hx hb d_M_begin_48 rfl (fun kz3 => ?_) (fun kz3 => ?_)
          · have z3 := z_t z3 kz3
            obtain ⟨G, hG31, rfl, hGi⟩ := nI_of_toInt (v := gg) (by have := z3.1; omega)
            obtain ⟨b1, b2, b3⟩ := z3
            rw [hGi] at b1 b2 b3
            rw [Int.toNat_natCast] at b3
            have hG1 : G ≠ 1 := fun hq => h3 (by rw [hq]; rfl)
            have hgr := (bgM hP5 hP31).mp ⟨z1, z2, hG1, by omega, by omega, b3⟩
            have hv : bgV (nI P) (nI G) := ⟨by omega, by omega, by rw [hPi, hGi, Int.toNat_natCast, Int.toNat_natCast]; exact hgr.2⟩
            refine lv_aload_n hx hb d_M_begin_53 rfl (lv_at hl 0 rfl) ?_
            refine lv_iload_n hx hb d_M_begin_54 rfl (lv_at hl 1 rfl) ?_
            refine lv_i2l (v := lN P) hx hb d_M_begin_55 (nI_l hP31) ?_
            refine va_put (D := D) (ci := 1) (v := .long (lN P)) (ty := .long) (C := "ProofDeskModel") (T := F_M) (N := 4) hx hb hts in_M t_M t_M_ok n_M hown hK hP hD hS 0 rfl rfl 1 (by decide) (hts _ tk_232) (fun _ h9 => h9) rfl (by decide +kernel) rfl rfl (Nat.le_of_ble_eq_true rfl) d_M_begin_56 (fun H locs hP hD hS => ?_)
            refine lv_aload_n hx hb d_M_begin_59 rfl (lv_at hl 0 rfl) ?_
            refine lv_iload_n hx hb d_M_begin_60 rfl (lv_at hl 1 rfl) ?_
            refine lv_iconst (v := 1) hx hb d_M_begin_61 (by decide) ?_
            refine lv_isub hx hb d_M_begin_62 ?_
            rw [show ((nI P) - 1 : Int32) = nI (P - 1) from nI_m1 (by omega)]
            refine lv_iconst (v := 2) hx hb d_M_begin_63 (by decide) ?_
            refine lv_idiv hx hb d_M_begin_64 (by decide) ?_
            rw [show ((nI (P - 1)) / 2 : Int32) = nI ((P - 1) / 2) from pk_div (d := 2) (by omega) (by decide) (by decide)]
            refine lv_i2l (v := lN (P / 2)) hx hb d_M_begin_65 (by rw [hhalf]; exact nI_l (by omega)) ?_
            refine va_put (D := D) (ci := 1) (v := .long (lN (P / 2))) (ty := .long) (C := "ProofDeskModel") (T := F_M) (N := 4) hx hb hts in_M t_M t_M_ok n_M hown hK hP hD hS 0 rfl rfl 2 (by decide) (hts _ tk_233) (fun _ h9 => h9) rfl (by decide +kernel) rfl rfl (Nat.le_of_ble_eq_true rfl) d_M_begin_66 (fun H locs hP hD hS => ?_)
            refine lv_aload_n hx hb d_M_begin_69 rfl (lv_at hl 0 rfl) ?_
            refine lv_iload_n hx hb d_M_begin_70 rfl (lv_at hl 2 rfl) ?_
            refine lv_i2l (v := lN G) hx hb d_M_begin_71 (nI_l hG31) ?_
            refine va_put (D := D) (ci := 1) (v := .long (lN G)) (ty := .long) (C := "ProofDeskModel") (T := F_M) (N := 4) hx hb hts in_M t_M t_M_ok n_M hown hK hP hD hS 0 rfl rfl 3 (by decide) (hts _ tk_234) (fun _ h9 => h9) rfl (by decide +kernel) rfl rfl (Nat.le_of_ble_eq_true rfl) d_M_begin_72 (fun H locs hP hD hS => ?_)
            have hP : va_P D cl [mW h 0 P (P / 2) G] H := hP
            have hD : va_D A [mW h 0 P (P / 2) G] := hD
            refine lv_iconst (v := 1) hx hb d_M_begin_75 (by decide) ?_
            exact W.zret hx hb hr (by decide +kernel) (fun t ht hW => ⟨⟨1, (P, P / 2, G), rfl, Or.inl ⟨rfl, hv, by rw [hPi, hGi, Int.toNat_natCast, Int.toNat_natCast]⟩, by rw [ht]; exact hP, va_K.moved hW.alike hK, hD⟩, hS.F ht⟩) hS.2.2 d_M_begin_76 hlk
          · have hnv : ¬ bgV (nI P) gg := by
              intro hq
              have hg := hVg hq
              have q2 := hq.2.1
              exact z_f z3 kz3 ⟨by omega, by have := hg.2.2.2.2.1; omega, by rw [hhalf]; exact hg.2.2.2.2.2.1⟩
            refine lv_iconst (v := 0) hx hb d_M_begin_51 (by decide) ?_
            exact W.zret hx hb hr (by decide +kernel) (fun t ht hW => ⟨⟨0, (p, q, g), rfl, Or.inr ⟨rfl, hnv, rfl⟩, by rw [ht]; exact hP, va_K.moved hW.alike hK, hD⟩, hS.F ht⟩) hS.2.2 d_M_begin_52 hlk
end
section
/-! the law's helpers: the object, its arrays, and the array 'out' -/
abbrev oW (ho : Nat) (cO : ClassId) (fo : Nat → Int64) : Nat × va_E := (ho, .inl (cO, 1, .inr (.inl fo)))
abbrev W4 (h n pl p q g : Nat) (cA cB : ClassId) (f f2 : Nat → Int32) (ho : Nat) (cO : ClassId) (fo : Nat → Int64) : va_W := [xW h n pl p q g, aZ n cA f, aZ pl cB f2, oW ho cO fo]
abbrev T4 (cA cB cO : ClassId) : List (ClassId × FieldType) := [(cA, .int), (cB, .int), (cO, .long)]
abbrev U4 : Type := (Nat → Int32) × (Nat → Int32) × (Nat → Int64)
abbrev at_4 (D : va_G) (A : Nat → Prop) (h n pl p q g : Nat) (cA cB : ClassId) (ho : Nat) (cO : ClassId) (u : U4) (t : State) : Prop := va_P D cl (W4 h n pl p q g cA cB u.1 u.2.1 ho cO u.2.2) t.heap ∧ va_K D cl (T4 cA cB cO) t ∧ va_D A (W4 h n pl p q g cA cB u.1 u.2.1 ho cO u.2.2)
def X4 (D : va_G) (h n pl p q g : Nat) (cA cB : ClassId) (f f2 : Nat → Int32) (ho : Nat) (cO : ClassId) (fo : Nat → Int64) (U : State) : Prop := va_P D cl (W4 h n pl p q g cA cB f f2 ho cO fo) U.heap ∧ va_K D cl (T4 cA cB cO) U ∧ va_D (fun _ => True) (W4 h n pl p q g cA cB f f2 ho cO fo) ∧ ex_ok U ∧ nc_ok U
theorem X4.call {D : va_G} {h n pl p q g : Nat} {cA cB : ClassId} {f f2 : Nat → Int32} {ho : Nat} {cO : ClassId} {fo : Nat → Int64} {U : State} (hX : X4 D h n pl p q g cA cB f f2 ho cO fo U) (fr : JFrame) (mk : MethodId) (a : Array Value) : X4 D h n pl p q g cA cB f f2 ho cO fo (U.calling fr mk a) :=
  ⟨hX.1, va_K.moved (u := U) (U := U.calling fr mk a) (Vm.Alike.refl U.vm) hX.2.1, hX.2.2.1, ex_call hX.2.2.2.1, nc_move hX.2.2.2.2 (Vm.Alike.refl U.vm)⟩
def wr_post (Good : Prop) (val : Nat) (r : Int32) (u : U4) : Prop := (Good ∧ r = 0 ∧ u.2.2 0 = lN val) ∨ (¬ Good ∧ r = 1)
theorem out_at {fo : Nat → Int64} {v : Int64} : vp_updL fo (0 : Int32).toNatClampNeg v 0 = v := pk_uLs
theorem keep_P {D : va_G} {ws : va_W} {H H1 : Heap} (hP : va_P D cl ws H) (hk : ∀ q : Nat, q < H.size → H1[q]? = H[q]?) : va_P D cl ws H1 := hP.kept (fun k q hq => hk q.1 (hP k q hq).lt)
theorem keep_S {A : Nat → Prop} {H H1 : Heap} (hz : H.size ≤ H1.size) (hk : ∀ q : Nat, q < H.size → H1[q]? = H[q]?) : va_S A H H1 [] := ⟨hz, fun q hq _ => hk q hq, fun l hl => by cases hl⟩
theorem castI : (Cond.castable iaN iaN) ∈ fx0 := by decide +kernel
theorem castS : (Cond.castable isN isN) ∈ fx0 := by decide +kernel
end
section
/-! the helpers of the law: an answer, or the number of what was thrown -/
/-- place 0 of a row of one -/
theorem in01 : vp_in 0 1 := vp_in_nI (n := 0) (N := 1) (by decide) (by decide)
set_option maxHeartbeats 4000000 in
/-- product -/
theorem w_product (l : Launch) (hfl : l.flags = flags0) (D : va_G) {h n pl p q g ho sz : Nat} {cA cB cO : ClassId} {f f2 : Nat → Int32} {fo : Nat → Int64} (hG : grp p q g) (a : Int32) (b : Int32) : Met l y_L_product (.codeWith y_L_product b_L_product 5 (some .int) [(0, 10, 13, 13)] :: tb) (rt 8) (va_Pc [.ref h, .int a, .int b, .ref ho] (fun U => U.heap.size = sz ∧ X4 D h n pl p q g cA cB f f2 ho cO fo U)) (va_Qi (wr_post ((0 ≤ a.toInt ∧ a.toInt < p) ∧ (0 ≤ b.toInt ∧ b.toInt < p)) (a.toInt.toNat * b.toInt.toNat % p)) (at_4 D (va_A (W4 h n pl p q g cA cB f f2 ho cO fo) sz) h n pl p q g cA cB ho cO) (va_A (W4 h n pl p q g cA cB f f2 ho cO fo) sz)) 1 6 (va_A (W4 h n pl p q g cA cB f f2 ho cO fo) sz) := by
  refine mk_metW (by decide) (Nat.le_of_ble_eq_true rfl) ?_
  intro p0 e s m below meth c ls C htab hB hl
  generalize ([.ref h, .int a, .int b, .ref ho] : List Value).toArray = args at C ⊢
  obtain ⟨hx, hb, hml, hown, hts, hr, hlk⟩ := id C
  obtain ⟨g5, g31, gq, gqp, ggp, gg2⟩ := hG.nums
  obtain ⟨hsz, hP, hK, hD0, hex, hnc⟩ := hB
  subst hsz
  have hX : XO D h n pl p q g s := ⟨hP.sub (ws' := [xW h n pl p q g]) [0] rfl, hK.sub (tys' := []) [] rfl⟩
  have hD := hD0.self (sz := s.heap.size)
  generalize hAe : va_A (W4 h n pl p q g cA cB f f2 ho cO fo) s.heap.size = A at hD ⊢
  have hA : ∀ q : Nat, s.heap.size ≤ q → A q := fun q h => by rw [← hAe]; exact Or.inr h
  have hS : va_S A s.heap s.heap [] := va_S.rf
  have hl : lv_has ls 5 [(0, .ref h), (1, .int a), (2, .int b), (3, .ref ho)] := hl
  by_cases hgd : (0 ≤ a.toInt ∧ a.toInt < p) ∧ (0 ≤ b.toInt ∧ b.toInt < p)
  · obtain ⟨a1, ha1, rfl, ha2⟩ := nI_of_toInt (v := a) (by omega)
    obtain ⟨b1, hb1, rfl, hb2⟩ := nI_of_toInt (v := b) (by omega)
    refine lv_aload_n hx hb d_L_product_0 rfl (lv_at hl 3 rfl) ?_
    refine lv_iconst (v := 0) hx hb d_L_product_1 (by decide) ?_
    refine lv_aload_n hx hb d_L_product_2 rfl (lv_at hl 0 rfl) ?_
    refine lv_iload_n hx hb d_L_product_3 rfl (lv_at hl 1 rfl) ?_
    refine lv_iload_n hx hb d_L_product_4 rfl (lv_at hl 2 rfl) ?_
    refine goI (runV C h [.int (nI a1), .int (nI b1)] [.int 0, .ref ho] (c_product l D hG (a := a1) (b := b1) (by omega) (by omega)) vw_L_7 rfl hl.1 ⟨rfl, rfl⟩ hX.cell (fun U hU hW => hX.move hU hW) (fun U f mk a hU => XO.call hU f mk a) (Nat.le_of_ble_eq_true rfl) ⟨(Nat.le_of_ble_eq_true rfl), (Nat.le_of_ble_eq_true rfl)⟩ ⟨(Nat.le_of_ble_eq_true rfl), (Nat.le_of_ble_eq_true rfl)⟩ d_L_product_5) (fun r hrr => ?_)
    subst hrr
    have hvb : (a1 * b1 % p) < 2 ^ 31 := by have := Nat.mod_lt (a1 * b1) (show p > 0 by omega); omega
    refine lv_i2l (v := lN (a1 * b1 % p)) hx hb d_L_product_8 (nI_l hvb) ?_
    refine va_last (D := D) hx hb hK hP hD hS 3 2 (cA := cO) (n := 1) (f := fo) rfl rfl (x := lN (a1 * b1 % p)) (i := 0) in01 d_L_product_9 (fun H locs hP hD hS => ?_)
    refine W.widen (k := 1) (n := 6) (by decide) (by decide) ?_
    refine lv_goto hx hb d_L_product_10 rfl ?_
    refine lv_iconst (v := 0) hx hb d_L_product_17 (by decide) ?_
    exact W.iret hx hb hr (fun t ht hW => ⟨⟨0, (f, f2, vp_updL fo (0 : Int32).toNatClampNeg (lN (a1 * b1 % p))), rfl, Or.inl ⟨hgd, rfl, (show vp_updL fo (0 : Int32).toNatClampNeg (lN (a1 * b1 % p)) 0 = _ by rw [out_at, ha2, hb2, Int.toNat_natCast, Int.toNat_natCast])⟩, by rw [ht]; exact hP, va_K.moved hW.alike hK, hD⟩, hS.F ht⟩) hS.2.2 d_L_product_18 hlk
  · refine lv_aload_n hx hb d_L_product_0 rfl (lv_at hl 3 rfl) ?_
    refine lv_iconst (v := 0) hx hb d_L_product_1 (by decide) ?_
    refine lv_aload_n hx hb d_L_product_2 rfl (lv_at hl 0 rfl) ?_
    refine lv_iload_n hx hb d_L_product_3 rfl (lv_at hl 1 rfl) ?_
    refine lv_iload_n hx hb d_L_product_4 rfl (lv_at hl 2 rfl) ?_
    refine th_catch C htab ⟨Nat.zero_le _, by decide⟩ (by decide) tk_74 (hex.1 _ castI) h [.int a, .int b] [.int 0, .ref ho] (t_product l hfl D hG a b hgd) ⟨rfl, rfl⟩ vw_L_7 rfl hl.1 hX.cell (fun U hU hW => ⟨hX.move hU hW, ex_move hex hW (fun q _ => by rw [hU])⟩) (fun U fr mk a hU => ⟨XO.call hU.1 fr mk a, ex_call hU.2⟩) (Nat.le_of_ble_eq_true rfl) ⟨(Nat.le_of_ble_eq_true rfl), (Nat.le_of_ble_eq_true rfl)⟩ ⟨(Nat.le_of_ble_eq_true rfl), (Nat.le_of_ble_eq_true rfl)⟩ d_L_product_5 (fun xx H1 hz1 hk1 => ?_)
    have hP := keep_P hP hk1
    have hS : va_S A s.heap H1 [] := keep_S hz1 hk1
    refine lv_astore (lv' := [(4, .ref xx), (0, .ref h), (1, .int a), (2, .int b), (3, .ref ho)]) hx hb d_L_product_13 hl (Nat.le_of_ble_eq_true rfl) rfl (fun ls hl => ?_)
    refine lv_iconst (v := 1) hx hb d_L_product_15 (by decide) ?_
    exact W.iret hx hb hr (fun t ht hW => ⟨⟨1, (f, f2, fo), rfl, Or.inr ⟨hgd, rfl⟩, by rw [ht]; exact hP, va_K.moved hW.alike hK, hD⟩, hS.F ht⟩) hS.2.2 d_L_product_16 hlk
set_option maxHeartbeats 4000000 in
/-- power -/
theorem w_power (l : Launch) (hfl : l.flags = flags0) (D : va_G) {h n pl p q g ho sz : Nat} {cA cB cO : ClassId} {f f2 : Nat → Int32} {fo : Nat → Int64} (hG : grp p q g) (a : Int32) (ee : Int64) : Met l y_L_power (.codeWith y_L_power b_L_power 6 (some .int) [(0, 11, 14, 13)] :: tb) (rt 8) (va_Pc [.ref h, .int a, .long ee, .ref ho] (fun U => U.heap.size = sz ∧ X4 D h n pl p q g cA cB f f2 ho cO fo U)) (va_Qi (wr_post ((0 ≤ a.toInt ∧ a.toInt < p) ∧ 0 ≤ ee.toInt) (a.toInt.toNat ^ ee.toInt.toNat % p)) (at_4 D (va_A (W4 h n pl p q g cA cB f f2 ho cO fo) sz) h n pl p q g cA cB ho cO) (va_A (W4 h n pl p q g cA cB f f2 ho cO fo) sz)) 1 6 (va_A (W4 h n pl p q g cA cB f f2 ho cO fo) sz) := by
  refine mk_metW (by decide) (Nat.le_of_ble_eq_true rfl) ?_
  intro p0 e s m below meth c ls C htab hB hl
  generalize ([.ref h, .int a, .long ee, .ref ho] : List Value).toArray = args at C ⊢
  obtain ⟨hx, hb, hml, hown, hts, hr, hlk⟩ := id C
  obtain ⟨g5, g31, gq, gqp, ggp, gg2⟩ := hG.nums
  obtain ⟨hsz, hP, hK, hD0, hex, hnc⟩ := hB
  subst hsz
  have hX : XO D h n pl p q g s := ⟨hP.sub (ws' := [xW h n pl p q g]) [0] rfl, hK.sub (tys' := []) [] rfl⟩
  have hD := hD0.self (sz := s.heap.size)
  generalize hAe : va_A (W4 h n pl p q g cA cB f f2 ho cO fo) s.heap.size = A at hD ⊢
  have hA : ∀ q : Nat, s.heap.size ≤ q → A q := fun q h => by rw [← hAe]; exact Or.inr h
  have hS : va_S A s.heap s.heap [] := va_S.rf
  have hl : lv_has ls 6 [(0, .ref h), (1, .int a), (2, .long ee), (4, .ref ho)] := hl
  by_cases hgd : (0 ≤ a.toInt ∧ a.toInt < p) ∧ 0 ≤ ee.toInt
  · obtain ⟨a1, ha1, rfl, ha2⟩ := nI_of_toInt (v := a) (by omega)
    obtain ⟨k1, hk1, rfl, hk2⟩ := lN_of_toInt (v := ee) hgd.2
    refine lv_aload hx hb d_L_power_0 (lv_at hl 3 rfl) ?_
    refine lv_iconst (v := 0) hx hb d_L_power_2 (by decide) ?_
    refine lv_aload_n hx hb d_L_power_3 rfl (lv_at hl 0 rfl) ?_
    refine lv_iload_n hx hb d_L_power_4 rfl (lv_at hl 1 rfl) ?_
    refine lv_lload_n hx hb d_L_power_5 rfl (lv_at hl 2 rfl) ?_
    refine goI (runV C h [.int (nI a1), .long (lN k1)] [.int 0, .ref ho] (c_powV l D hG (a := a1) (ee := k1) (by omega) hk1) vw_L_15 rfl hl.1 ⟨rfl, rfl⟩ hX.cell (fun U hU hW => hX.move hU hW) (fun U f mk a hU => XO.call hU f mk a) (Nat.le_of_ble_eq_true rfl) ⟨(Nat.le_of_ble_eq_true rfl), (Nat.le_of_ble_eq_true rfl)⟩ ⟨(Nat.le_of_ble_eq_true rfl), (Nat.le_of_ble_eq_true rfl)⟩ d_L_power_6) (fun r hrr => ?_)
    subst hrr
    have hvb : (a1 ^ k1 % p) < 2 ^ 31 := by have := Nat.mod_lt (a1 ^ k1) (show p > 0 by omega); omega
    refine lv_i2l (v := lN (a1 ^ k1 % p)) hx hb d_L_power_9 (nI_l hvb) ?_
    refine va_last (D := D) hx hb hK hP hD hS 3 2 (cA := cO) (n := 1) (f := fo) rfl rfl (x := lN (a1 ^ k1 % p)) (i := 0) in01 d_L_power_10 (fun H locs hP hD hS => ?_)
    refine W.widen (k := 1) (n := 6) (by decide) (by decide) ?_
    refine lv_goto hx hb d_L_power_11 rfl ?_
    refine lv_iconst (v := 0) hx hb d_L_power_18 (by decide) ?_
    exact W.iret hx hb hr (fun t ht hW => ⟨⟨0, (f, f2, vp_updL fo (0 : Int32).toNatClampNeg (lN (a1 ^ k1 % p))), rfl, Or.inl ⟨hgd, rfl, (show vp_updL fo (0 : Int32).toNatClampNeg (lN (a1 ^ k1 % p)) 0 = _ by rw [out_at, ha2, hk2, Int.toNat_natCast, Int.toNat_natCast])⟩, by rw [ht]; exact hP, va_K.moved hW.alike hK, hD⟩, hS.F ht⟩) hS.2.2 d_L_power_19 hlk
  · refine lv_aload hx hb d_L_power_0 (lv_at hl 3 rfl) ?_
    refine lv_iconst (v := 0) hx hb d_L_power_2 (by decide) ?_
    refine lv_aload_n hx hb d_L_power_3 rfl (lv_at hl 0 rfl) ?_
    refine lv_iload_n hx hb d_L_power_4 rfl (lv_at hl 1 rfl) ?_
    refine lv_lload_n hx hb d_L_power_5 rfl (lv_at hl 2 rfl) ?_
    refine th_catch C htab ⟨Nat.zero_le _, by decide⟩ (by decide) tk_74 (hex.1 _ castI) h [.int a, .long ee] [.int 0, .ref ho] (t_powV l hfl D hG a ee hgd) ⟨rfl, rfl⟩ vw_L_15 rfl hl.1 hX.cell (fun U hU hW => ⟨hX.move hU hW, ex_move hex hW (fun q _ => by rw [hU])⟩) (fun U fr mk a hU => ⟨XO.call hU.1 fr mk a, ex_call hU.2⟩) (Nat.le_of_ble_eq_true rfl) ⟨(Nat.le_of_ble_eq_true rfl), (Nat.le_of_ble_eq_true rfl)⟩ ⟨(Nat.le_of_ble_eq_true rfl), (Nat.le_of_ble_eq_true rfl)⟩ d_L_power_6 (fun xx H1 hz1 hk1 => ?_)
    have hP := keep_P hP hk1
    have hS : va_S A s.heap H1 [] := keep_S hz1 hk1
    refine lv_astore (lv' := [(5, .ref xx), (0, .ref h), (1, .int a), (2, .long ee), (4, .ref ho)]) hx hb d_L_power_14 hl (Nat.le_of_ble_eq_true rfl) rfl (fun ls hl => ?_)
    refine lv_iconst (v := 1) hx hb d_L_power_16 (by decide) ?_
    exact W.iret hx hb hr (fun t ht hW => ⟨⟨1, (f, f2, fo), rfl, Or.inr ⟨hgd, rfl⟩, by rw [ht]; exact hP, va_K.moved hW.alike hK, hD⟩, hS.F ht⟩) hS.2.2 d_L_power_17 hlk
set_option maxHeartbeats 4000000 in
/-- inverse -/
theorem w_inverse (l : Launch) (hfl : l.flags = flags0) (D : va_G) {h n pl p q g ho sz : Nat} {cA cB cO : ClassId} {f f2 : Nat → Int32} {fo : Nat → Int64} (hG : grp p q g) (a : Int32) : Met l y_L_inverse (.codeWith y_L_inverse b_L_inverse 4 (some .int) [(0, 9, 12, 13)] :: tb) (rt 8) (va_Pc [.ref h, .int a, .ref ho] (fun U => U.heap.size = sz ∧ X4 D h n pl p q g cA cB f f2 ho cO fo U)) (va_Qi (wr_post (1 ≤ a.toInt ∧ a.toInt < p) (inv_v a.toInt.toNat p)) (at_4 D (va_A (W4 h n pl p q g cA cB f f2 ho cO fo) sz) h n pl p q g cA cB ho cO) (va_A (W4 h n pl p q g cA cB f f2 ho cO fo) sz)) 1 6 (va_A (W4 h n pl p q g cA cB f f2 ho cO fo) sz) := by
  refine mk_metW (by decide) (Nat.le_of_ble_eq_true rfl) ?_
  intro p0 e s m below meth c ls C htab hB hl
  generalize ([.ref h, .int a, .ref ho] : List Value).toArray = args at C ⊢
  obtain ⟨hx, hb, hml, hown, hts, hr, hlk⟩ := id C
  obtain ⟨g5, g31, gq, gqp, ggp, gg2⟩ := hG.nums
  obtain ⟨hsz, hP, hK, hD0, hex, hnc⟩ := hB
  subst hsz
  have hX : XO D h n pl p q g s := ⟨hP.sub (ws' := [xW h n pl p q g]) [0] rfl, hK.sub (tys' := []) [] rfl⟩
  have hD := hD0.self (sz := s.heap.size)
  generalize hAe : va_A (W4 h n pl p q g cA cB f f2 ho cO fo) s.heap.size = A at hD ⊢
  have hA : ∀ q : Nat, s.heap.size ≤ q → A q := fun q h => by rw [← hAe]; exact Or.inr h
  have hS : va_S A s.heap s.heap [] := va_S.rf
  have hl : lv_has ls 4 [(0, .ref h), (1, .int a), (2, .ref ho)] := hl
  by_cases hgd : 1 ≤ a.toInt ∧ a.toInt < p
  · obtain ⟨a1, ha1, rfl, ha2⟩ := nI_of_toInt (v := a) (by omega)
    refine lv_aload_n hx hb d_L_inverse_0 rfl (lv_at hl 2 rfl) ?_
    refine lv_iconst (v := 0) hx hb d_L_inverse_1 (by decide) ?_
    refine lv_aload_n hx hb d_L_inverse_2 rfl (lv_at hl 0 rfl) ?_
    refine lv_iload_n hx hb d_L_inverse_3 rfl (lv_at hl 1 rfl) ?_
    refine goI (runV C h [.int (nI a1)] [.int 0, .ref ho] (c_invV l D hG (a := a1) (by omega) (by omega)) vw_L_19 rfl hl.1 ⟨rfl, rfl⟩ hX.cell (fun U hU hW => hX.move hU hW) (fun U f mk a hU => XO.call hU f mk a) (Nat.le_of_ble_eq_true rfl) ⟨(Nat.le_of_ble_eq_true rfl), (Nat.le_of_ble_eq_true rfl)⟩ ⟨(Nat.le_of_ble_eq_true rfl), (Nat.le_of_ble_eq_true rfl)⟩ d_L_inverse_4) (fun r hrr => ?_)
    subst hrr
    have hvb : (inv_v a1 p) < 2 ^ 31 := by have := inv_lt (a := a1) (show 0 < p by omega); omega
    refine lv_i2l (v := lN (inv_v a1 p)) hx hb d_L_inverse_7 (nI_l hvb) ?_
    refine va_last (D := D) hx hb hK hP hD hS 3 2 (cA := cO) (n := 1) (f := fo) rfl rfl (x := lN (inv_v a1 p)) (i := 0) in01 d_L_inverse_8 (fun H locs hP hD hS => ?_)
    refine W.widen (k := 1) (n := 6) (by decide) (by decide) ?_
    refine lv_goto hx hb d_L_inverse_9 rfl ?_
    refine lv_iconst (v := 0) hx hb d_L_inverse_15 (by decide) ?_
    exact W.iret hx hb hr (fun t ht hW => ⟨⟨0, (f, f2, vp_updL fo (0 : Int32).toNatClampNeg (lN (inv_v a1 p))), rfl, Or.inl ⟨hgd, rfl, (show vp_updL fo (0 : Int32).toNatClampNeg (lN (inv_v a1 p)) 0 = _ by rw [out_at, ha2, Int.toNat_natCast])⟩, by rw [ht]; exact hP, va_K.moved hW.alike hK, hD⟩, hS.F ht⟩) hS.2.2 d_L_inverse_16 hlk
  · refine lv_aload_n hx hb d_L_inverse_0 rfl (lv_at hl 2 rfl) ?_
    refine lv_iconst (v := 0) hx hb d_L_inverse_1 (by decide) ?_
    refine lv_aload_n hx hb d_L_inverse_2 rfl (lv_at hl 0 rfl) ?_
    refine lv_iload_n hx hb d_L_inverse_3 rfl (lv_at hl 1 rfl) ?_
    refine th_catch C htab ⟨Nat.zero_le _, by decide⟩ (by decide) tk_74 (hex.1 _ castI) h [.int a] [.int 0, .ref ho] (t_invV l hfl D hG a hgd) ⟨rfl, rfl⟩ vw_L_19 rfl hl.1 hX.cell (fun U hU hW => ⟨hX.move hU hW, ex_move hex hW (fun q _ => by rw [hU])⟩) (fun U fr mk a hU => ⟨XO.call hU.1 fr mk a, ex_call hU.2⟩) (Nat.le_of_ble_eq_true rfl) ⟨(Nat.le_of_ble_eq_true rfl), (Nat.le_of_ble_eq_true rfl)⟩ ⟨(Nat.le_of_ble_eq_true rfl), (Nat.le_of_ble_eq_true rfl)⟩ d_L_inverse_4 (fun xx H1 hz1 hk1 => ?_)
    have hP := keep_P hP hk1
    have hS : va_S A s.heap H1 [] := keep_S hz1 hk1
    refine lv_astore_n (lv' := [(3, .ref xx), (0, .ref h), (1, .int a), (2, .ref ho)]) hx hb d_L_inverse_12 rfl hl (Nat.le_of_ble_eq_true rfl) rfl (fun ls hl => ?_)
    refine lv_iconst (v := 1) hx hb d_L_inverse_13 (by decide) ?_
    exact W.iret hx hb hr (fun t ht hW => ⟨⟨1, (f, f2, fo), rfl, Or.inr ⟨hgd, rfl⟩, by rw [ht]; exact hP, va_K.moved hW.alike hK, hD⟩, hS.F ht⟩) hS.2.2 d_L_inverse_14 hlk
set_option maxHeartbeats 4000000 in
/-- count -/
theorem w_count (l : Launch) (hfl : l.flags = flags0) (D : va_G) {h n pl p q g ho sz : Nat} {cA cB cO : ClassId} {f f2 : Nat → Int32} {fo : Nat → Int64} (hG : grp p q g) (a : Int32) : Met l y_L_count (.codeWith y_L_count b_L_count 4 (some .int) [(0, 9, 12, 13)] :: tb) (rt 8) (va_Pc [.ref h, .int a, .ref ho] (fun U => U.heap.size = sz ∧ X4 D h n pl p q g cA cB f f2 ho cO fo U)) (va_Qi (wr_post (0 ≤ a.toInt ∧ a.toInt ≤ 2) (if a.toInt.toNat = 0 then p else if a.toInt.toNat = 1 then q else g)) (at_4 D (va_A (W4 h n pl p q g cA cB f f2 ho cO fo) sz) h n pl p q g cA cB ho cO) (va_A (W4 h n pl p q g cA cB f f2 ho cO fo) sz)) 1 6 (va_A (W4 h n pl p q g cA cB f f2 ho cO fo) sz) := by
  refine mk_metW (by decide) (Nat.le_of_ble_eq_true rfl) ?_
  intro p0 e s m below meth c ls C htab hB hl
  generalize ([.ref h, .int a, .ref ho] : List Value).toArray = args at C ⊢
  obtain ⟨hx, hb, hml, hown, hts, hr, hlk⟩ := id C
  obtain ⟨g5, g31, gq, gqp, ggp, gg2⟩ := hG.nums
  obtain ⟨hsz, hP, hK, hD0, hex, hnc⟩ := hB
  subst hsz
  have hX : XO D h n pl p q g s := ⟨hP.sub (ws' := [xW h n pl p q g]) [0] rfl, hK.sub (tys' := []) [] rfl⟩
  have hD := hD0.self (sz := s.heap.size)
  generalize hAe : va_A (W4 h n pl p q g cA cB f f2 ho cO fo) s.heap.size = A at hD ⊢
  have hA : ∀ q : Nat, s.heap.size ≤ q → A q := fun q h => by rw [← hAe]; exact Or.inr h
  have hS : va_S A s.heap s.heap [] := va_S.rf
  have hl : lv_has ls 4 [(0, .ref h), (1, .int a), (2, .ref ho)] := hl
  by_cases hgd : 0 ≤ a.toInt ∧ a.toInt ≤ 2
  · obtain ⟨a1, ha1, rfl, ha2⟩ := nI_of_toInt (v := a) (by omega)
    refine lv_aload_n hx hb d_L_count_0 rfl (lv_at hl 2 rfl) ?_
    refine lv_iconst (v := 0) hx hb d_L_count_1 (by decide) ?_
    refine lv_aload_n hx hb d_L_count_2 rfl (lv_at hl 0 rfl) ?_
    refine lv_iload_n hx hb d_L_count_3 rfl (lv_at hl 1 rfl) ?_
    refine goI (runV C h [.int (nI a1)] [.int 0, .ref ho] (c_count l D hG (k := a1) (by omega)) vw_L_39 rfl hl.1 ⟨rfl, rfl⟩ hX.cell (fun U hU hW => hX.move hU hW) (fun U f mk a hU => XO.call hU f mk a) (Nat.le_of_ble_eq_true rfl) ⟨(Nat.le_of_ble_eq_true rfl), (Nat.le_of_ble_eq_true rfl)⟩ ⟨(Nat.le_of_ble_eq_true rfl), (Nat.le_of_ble_eq_true rfl)⟩ d_L_count_4) (fun r hrr => ?_)
    subst hrr
    have hvb : (if a1 = 0 then p else if a1 = 1 then q else g) < 2 ^ 31 := by split <;> (try split) <;> omega
    refine lv_i2l (v := lN (if a1 = 0 then p else if a1 = 1 then q else g)) hx hb d_L_count_7 (nI_l hvb) ?_
    refine va_last (D := D) hx hb hK hP hD hS 3 2 (cA := cO) (n := 1) (f := fo) rfl rfl (x := lN (if a1 = 0 then p else if a1 = 1 then q else g)) (i := 0) in01 d_L_count_8 (fun H locs hP hD hS => ?_)
    refine W.widen (k := 1) (n := 6) (by decide) (by decide) ?_
    refine lv_goto hx hb d_L_count_9 rfl ?_
    refine lv_iconst (v := 0) hx hb d_L_count_15 (by decide) ?_
    exact W.iret hx hb hr (fun t ht hW => ⟨⟨0, (f, f2, vp_updL fo (0 : Int32).toNatClampNeg (lN (if a1 = 0 then p else if a1 = 1 then q else g))), rfl, Or.inl ⟨hgd, rfl, (show vp_updL fo (0 : Int32).toNatClampNeg (lN (if a1 = 0 then p else if a1 = 1 then q else g)) 0 = _ by rw [out_at, ha2, Int.toNat_natCast])⟩, by rw [ht]; exact hP, va_K.moved hW.alike hK, hD⟩, hS.F ht⟩) hS.2.2 d_L_count_16 hlk
  · refine lv_aload_n hx hb d_L_count_0 rfl (lv_at hl 2 rfl) ?_
    refine lv_iconst (v := 0) hx hb d_L_count_1 (by decide) ?_
    refine lv_aload_n hx hb d_L_count_2 rfl (lv_at hl 0 rfl) ?_
    refine lv_iload_n hx hb d_L_count_3 rfl (lv_at hl 1 rfl) ?_
    refine th_catch C htab ⟨Nat.zero_le _, by decide⟩ (by decide) tk_74 (hex.1 _ castI) h [.int a] [.int 0, .ref ho] (t_count l hfl D hG a hgd) ⟨rfl, rfl⟩ vw_L_39 rfl hl.1 hX.cell (fun U hU hW => ⟨hX.move hU hW, ex_move hex hW (fun q _ => by rw [hU])⟩) (fun U fr mk a hU => ⟨XO.call hU.1 fr mk a, ex_call hU.2⟩) (Nat.le_of_ble_eq_true rfl) ⟨(Nat.le_of_ble_eq_true rfl), (Nat.le_of_ble_eq_true rfl)⟩ ⟨(Nat.le_of_ble_eq_true rfl), (Nat.le_of_ble_eq_true rfl)⟩ d_L_count_4 (fun xx H1 hz1 hk1 => ?_)
    have hP := keep_P hP hk1
    have hS : va_S A s.heap H1 [] := keep_S hz1 hk1
    refine lv_astore_n (lv' := [(3, .ref xx), (0, .ref h), (1, .int a), (2, .ref ho)]) hx hb d_L_count_12 rfl hl (Nat.le_of_ble_eq_true rfl) rfl (fun ls hl => ?_)
    refine lv_iconst (v := 1) hx hb d_L_count_13 (by decide) ?_
    exact W.iret hx hb hr (fun t ht hW => ⟨⟨1, (f, f2, fo), rfl, Or.inr ⟨hgd, rfl⟩, by rw [ht]; exact hP, va_K.moved hW.alike hK, hD⟩, hS.F ht⟩) hS.2.2 d_L_count_14 hlk
set_option maxHeartbeats 4000000 in
/-- answer -/
theorem w_answer (l : Launch) (hfl : l.flags = flags0) (D : va_G) {h n pl p q g ho sz : Nat} {cA cB cO : ClassId} {f f2 : Nat → Int32} {fo : Nat → Int64} (hG : grp p q g) (z : Int32) (k : Int32) (cc : Int32) : Met l y_L_answer (.codeWith y_L_answer b_L_answer 6 (some .int) [(0, 12, 15, 13)] :: tb) (rt 8) (va_Pc [.ref h, .int z, .int k, .int cc, .ref ho] (fun U => U.heap.size = sz ∧ X4 D h n pl p q g cA cB f f2 ho cO fo U)) (va_Qi (wr_post (expP q z ∧ expP q k ∧ expP q cc) ((k.toInt.toNat + cc.toInt.toNat * z.toInt.toNat) % q)) (at_4 D (va_A (W4 h n pl p q g cA cB f f2 ho cO fo) sz) h n pl p q g cA cB ho cO) (va_A (W4 h n pl p q g cA cB f f2 ho cO fo) sz)) 1 6 (va_A (W4 h n pl p q g cA cB f f2 ho cO fo) sz) := by
  refine mk_metW (by decide) (Nat.le_of_ble_eq_true rfl) ?_
  intro p0 e s m below meth c ls C htab hB hl
  generalize ([.ref h, .int z, .int k, .int cc, .ref ho] : List Value).toArray = args at C ⊢
  obtain ⟨hx, hb, hml, hown, hts, hr, hlk⟩ := id C
  obtain ⟨g5, g31, gq, gqp, ggp, gg2⟩ := hG.nums
  obtain ⟨hsz, hP, hK, hD0, hex, hnc⟩ := hB
  subst hsz
  have hX : XO D h n pl p q g s := ⟨hP.sub (ws' := [xW h n pl p q g]) [0] rfl, hK.sub (tys' := []) [] rfl⟩
  have hD := hD0.self (sz := s.heap.size)
  generalize hAe : va_A (W4 h n pl p q g cA cB f f2 ho cO fo) s.heap.size = A at hD ⊢
  have hA : ∀ q : Nat, s.heap.size ≤ q → A q := fun q h => by rw [← hAe]; exact Or.inr h
  have hS : va_S A s.heap s.heap [] := va_S.rf
  have hl : lv_has ls 6 [(0, .ref h), (1, .int z), (2, .int k), (3, .int cc), (4, .ref ho)] := hl
  by_cases hgd : expP q z ∧ expP q k ∧ expP q cc
  · obtain ⟨z1, hz1, rfl, hz2⟩ := nI_of_toInt (v := z) hgd.1.1
    have bz := hgd.1.2
    rw [hz2] at bz
    obtain ⟨k1, hk1, rfl, hk2⟩ := nI_of_toInt (v := k) hgd.2.1.1
    have bk := hgd.2.1.2
    rw [hk2] at bk
    obtain ⟨cc1, hcc1, rfl, hcc2⟩ := nI_of_toInt (v := cc) hgd.2.2.1
    have bcc := hgd.2.2.2
    rw [hcc2] at bcc
    refine lv_aload hx hb d_L_answer_0 (lv_at hl 4 rfl) ?_
    refine lv_iconst (v := 0) hx hb d_L_answer_2 (by decide) ?_
    refine lv_aload_n hx hb d_L_answer_3 rfl (lv_at hl 0 rfl) ?_
    refine lv_iload_n hx hb d_L_answer_4 rfl (lv_at hl 1 rfl) ?_
    refine lv_iload_n hx hb d_L_answer_5 rfl (lv_at hl 2 rfl) ?_
    refine lv_iload_n hx hb d_L_answer_6 rfl (lv_at hl 3 rfl) ?_
    refine goI (runV C h [.int (nI z1), .int (nI k1), .int (nI cc1)] [.int 0, .ref ho] (c_answer l D hG (z := z1) (k := k1) (cc := cc1) (by omega) (by omega) (by omega)) vw_L_28 rfl hl.1 ⟨rfl, rfl⟩ hX.cell (fun U hU hW => hX.move hU hW) (fun U f mk a hU => XO.call hU f mk a) (Nat.le_of_ble_eq_true rfl) ⟨(Nat.le_of_ble_eq_true rfl), (Nat.le_of_ble_eq_true rfl)⟩ ⟨(Nat.le_of_ble_eq_true rfl), (Nat.le_of_ble_eq_true rfl)⟩ d_L_answer_7) (fun r hrr => ?_)
    subst hrr
    have hvb : ((k1 + cc1 * z1) % q) < 2 ^ 31 := by have := Nat.mod_lt (k1 + cc1 * z1) (show q > 0 by omega); omega
    refine lv_i2l (v := lN ((k1 + cc1 * z1) % q)) hx hb d_L_answer_10 (nI_l hvb) ?_
    refine va_last (D := D) hx hb hK hP hD hS 3 2 (cA := cO) (n := 1) (f := fo) rfl rfl (x := lN ((k1 + cc1 * z1) % q)) (i := 0) in01 d_L_answer_11 (fun H locs hP hD hS => ?_)
    refine W.widen (k := 1) (n := 6) (by decide) (by decide) ?_
    refine lv_goto hx hb d_L_answer_12 rfl ?_
    refine lv_iconst (v := 0) hx hb d_L_answer_19 (by decide) ?_
    exact W.iret hx hb hr (fun t ht hW => ⟨⟨0, (f, f2, vp_updL fo (0 : Int32).toNatClampNeg (lN ((k1 + cc1 * z1) % q))), rfl, Or.inl ⟨hgd, rfl, (show vp_updL fo (0 : Int32).toNatClampNeg (lN ((k1 + cc1 * z1) % q)) 0 = _ by rw [out_at, hz2, hk2, hcc2, Int.toNat_natCast, Int.toNat_natCast, Int.toNat_natCast])⟩, by rw [ht]; exact hP, va_K.moved hW.alike hK, hD⟩, hS.F ht⟩) hS.2.2 d_L_answer_20 hlk
  · refine lv_aload hx hb d_L_answer_0 (lv_at hl 4 rfl) ?_
    refine lv_iconst (v := 0) hx hb d_L_answer_2 (by decide) ?_
    refine lv_aload_n hx hb d_L_answer_3 rfl (lv_at hl 0 rfl) ?_
    refine lv_iload_n hx hb d_L_answer_4 rfl (lv_at hl 1 rfl) ?_
    refine lv_iload_n hx hb d_L_answer_5 rfl (lv_at hl 2 rfl) ?_
    refine lv_iload_n hx hb d_L_answer_6 rfl (lv_at hl 3 rfl) ?_
    refine th_catch C htab ⟨Nat.zero_le _, by decide⟩ (by decide) tk_74 (hex.1 _ castI) h [.int z, .int k, .int cc] [.int 0, .ref ho] (t_answer l hfl D hG z k cc hgd) ⟨rfl, rfl⟩ vw_L_28 rfl hl.1 hX.cell (fun U hU hW => ⟨hX.move hU hW, ex_move hex hW (fun q _ => by rw [hU])⟩) (fun U fr mk a hU => ⟨XO.call hU.1 fr mk a, ex_call hU.2⟩) (Nat.le_of_ble_eq_true rfl) ⟨(Nat.le_of_ble_eq_true rfl), (Nat.le_of_ble_eq_true rfl)⟩ ⟨(Nat.le_of_ble_eq_true rfl), (Nat.le_of_ble_eq_true rfl)⟩ d_L_answer_7 (fun xx H1 hz1 hk1 => ?_)
    have hP := keep_P hP hk1
    have hS : va_S A s.heap H1 [] := keep_S hz1 hk1
    refine lv_astore (lv' := [(5, .ref xx), (0, .ref h), (1, .int z), (2, .int k), (3, .int cc), (4, .ref ho)]) hx hb d_L_answer_15 hl (Nat.le_of_ble_eq_true rfl) rfl (fun ls hl => ?_)
    refine lv_iconst (v := 1) hx hb d_L_answer_17 (by decide) ?_
    exact W.iret hx hb hr (fun t ht hW => ⟨⟨1, (f, f2, fo), rfl, Or.inr ⟨hgd, rfl⟩, by rw [ht]; exact hP, va_K.moved hW.alike hK, hD⟩, hS.F ht⟩) hS.2.2 d_L_answer_18 hlk
set_option maxHeartbeats 4000000 in
/-- feign -/
theorem w_feign (l : Launch) (hfl : l.flags = flags0) (D : va_G) {h n pl p q g ho sz : Nat} {cA cB cO : ClassId} {f f2 : Nat → Int32} {fo : Nat → Int64} (hG : grp p q g) (y : Int32) (cc : Int32) (z : Int32) : Met l y_L_feign (.codeWith y_L_feign b_L_feign 6 (some .int) [(0, 12, 15, 13)] :: tb) (rt 8) (va_Pc [.ref h, .int y, .int cc, .int z, .ref ho] (fun U => U.heap.size = sz ∧ X4 D h n pl p q g cA cB f f2 ho cO fo U)) (va_Qi (wr_post (memP p q y ∧ expP q cc ∧ expP q z) (g ^ z.toInt.toNat % p * (y.toInt.toNat ^ (q - cc.toInt.toNat) % p) % p)) (at_4 D (va_A (W4 h n pl p q g cA cB f f2 ho cO fo) sz) h n pl p q g cA cB ho cO) (va_A (W4 h n pl p q g cA cB f f2 ho cO fo) sz)) 1 6 (va_A (W4 h n pl p q g cA cB f f2 ho cO fo) sz) := by
  refine mk_metW (by decide) (Nat.le_of_ble_eq_true rfl) ?_
  intro p0 e s m below meth c ls C htab hB hl
  generalize ([.ref h, .int y, .int cc, .int z, .ref ho] : List Value).toArray = args at C ⊢
  obtain ⟨hx, hb, hml, hown, hts, hr, hlk⟩ := id C
  obtain ⟨g5, g31, gq, gqp, ggp, gg2⟩ := hG.nums
  obtain ⟨hsz, hP, hK, hD0, hex, hnc⟩ := hB
  subst hsz
  have hX : XO D h n pl p q g s := ⟨hP.sub (ws' := [xW h n pl p q g]) [0] rfl, hK.sub (tys' := []) [] rfl⟩
  have hD := hD0.self (sz := s.heap.size)
  generalize hAe : va_A (W4 h n pl p q g cA cB f f2 ho cO fo) s.heap.size = A at hD ⊢
  have hA : ∀ q : Nat, s.heap.size ≤ q → A q := fun q h => by rw [← hAe]; exact Or.inr h
  have hS : va_S A s.heap s.heap [] := va_S.rf
  have hl : lv_has ls 6 [(0, .ref h), (1, .int y), (2, .int cc), (3, .int z), (4, .ref ho)] := hl
  by_cases hgd : memP p q y ∧ expP q cc ∧ expP q z
  · obtain ⟨y1, hy1, rfl, hy2⟩ := nI_of_toInt (v := y) (by have := hgd.1.1; omega)
    have by1 := hgd.1.2.1
    rw [hy2] at by1
    obtain ⟨cc1, hcc1, rfl, hcc2⟩ := nI_of_toInt (v := cc) hgd.2.1.1
    have bcc := hgd.2.1.2
    rw [hcc2] at bcc
    obtain ⟨z1, hz1, rfl, hz2⟩ := nI_of_toInt (v := z) hgd.2.2.1
    have bz := hgd.2.2.2
    rw [hz2] at bz
    refine lv_aload hx hb d_L_feign_0 (lv_at hl 4 rfl) ?_
    refine lv_iconst (v := 0) hx hb d_L_feign_2 (by decide) ?_
    refine lv_aload_n hx hb d_L_feign_3 rfl (lv_at hl 0 rfl) ?_
    refine lv_iload_n hx hb d_L_feign_4 rfl (lv_at hl 1 rfl) ?_
    refine lv_iload_n hx hb d_L_feign_5 rfl (lv_at hl 2 rfl) ?_
    refine lv_iload_n hx hb d_L_feign_6 rfl (lv_at hl 3 rfl) ?_
    refine goI (runV C h [.int (nI y1), .int (nI cc1), .int (nI z1)] [.int 0, .ref ho] (c_feign l D hG (y := y1) (cc := cc1) (z := z1) hgd.1 (by omega) (by omega) (by omega)) vw_L_32 rfl hl.1 ⟨rfl, rfl⟩ hX.cell (fun U hU hW => hX.move hU hW) (fun U f mk a hU => XO.call hU f mk a) (Nat.le_of_ble_eq_true rfl) ⟨(Nat.le_of_ble_eq_true rfl), (Nat.le_of_ble_eq_true rfl)⟩ ⟨(Nat.le_of_ble_eq_true rfl), (Nat.le_of_ble_eq_true rfl)⟩ d_L_feign_7) (fun r hrr => ?_)
    subst hrr
    have hvb : (g ^ z1 % p * (y1 ^ (q - cc1) % p) % p) < 2 ^ 31 := by have := Nat.mod_lt (g ^ z1 % p * (y1 ^ (q - cc1) % p)) (show p > 0 by omega); omega
    refine lv_i2l (v := lN (g ^ z1 % p * (y1 ^ (q - cc1) % p) % p)) hx hb d_L_feign_10 (nI_l hvb) ?_
    refine va_last (D := D) hx hb hK hP hD hS 3 2 (cA := cO) (n := 1) (f := fo) rfl rfl (x := lN (g ^ z1 % p * (y1 ^ (q - cc1) % p) % p)) (i := 0) in01 d_L_feign_11 (fun H locs hP hD hS => ?_)
    refine W.widen (k := 1) (n := 6) (by decide) (by decide) ?_
    refine lv_goto hx hb d_L_feign_12 rfl ?_
    refine lv_iconst (v := 0) hx hb d_L_feign_19 (by decide) ?_
    exact W.iret hx hb hr (fun t ht hW => ⟨⟨0, (f, f2, vp_updL fo (0 : Int32).toNatClampNeg (lN (g ^ z1 % p * (y1 ^ (q - cc1) % p) % p))), rfl, Or.inl ⟨hgd, rfl, (show vp_updL fo (0 : Int32).toNatClampNeg (lN (g ^ z1 % p * (y1 ^ (q - cc1) % p) % p)) 0 = _ by rw [out_at, hy2, hcc2, hz2, Int.toNat_natCast, Int.toNat_natCast, Int.toNat_natCast])⟩, by rw [ht]; exact hP, va_K.moved hW.alike hK, hD⟩, hS.F ht⟩) hS.2.2 d_L_feign_20 hlk
  · refine lv_aload hx hb d_L_feign_0 (lv_at hl 4 rfl) ?_
    refine lv_iconst (v := 0) hx hb d_L_feign_2 (by decide) ?_
    refine lv_aload_n hx hb d_L_feign_3 rfl (lv_at hl 0 rfl) ?_
    refine lv_iload_n hx hb d_L_feign_4 rfl (lv_at hl 1 rfl) ?_
    refine lv_iload_n hx hb d_L_feign_5 rfl (lv_at hl 2 rfl) ?_
    refine lv_iload_n hx hb d_L_feign_6 rfl (lv_at hl 3 rfl) ?_
    refine th_catch C htab ⟨Nat.zero_le _, by decide⟩ (by decide) tk_74 (hex.1 _ castI) h [.int y, .int cc, .int z] [.int 0, .ref ho] (t_feign l hfl D hG y cc z hgd) ⟨rfl, rfl⟩ vw_L_32 rfl hl.1 hX.cell (fun U hU hW => ⟨hX.move hU hW, ex_move hex hW (fun q _ => by rw [hU])⟩) (fun U fr mk a hU => ⟨XO.call hU.1 fr mk a, ex_call hU.2⟩) (Nat.le_of_ble_eq_true rfl) ⟨(Nat.le_of_ble_eq_true rfl), (Nat.le_of_ble_eq_true rfl)⟩ ⟨(Nat.le_of_ble_eq_true rfl), (Nat.le_of_ble_eq_true rfl)⟩ d_L_feign_7 (fun xx H1 hz1 hk1 => ?_)
    have hP := keep_P hP hk1
    have hS : va_S A s.heap H1 [] := keep_S hz1 hk1
    refine lv_astore (lv' := [(5, .ref xx), (0, .ref h), (1, .int y), (2, .int cc), (3, .int z), (4, .ref ho)]) hx hb d_L_feign_15 hl (Nat.le_of_ble_eq_true rfl) rfl (fun ls hl => ?_)
    refine lv_iconst (v := 1) hx hb d_L_feign_17 (by decide) ?_
    exact W.iret hx hb hr (fun t ht hW => ⟨⟨1, (f, f2, fo), rfl, Or.inr ⟨hgd, rfl⟩, by rw [ht]; exact hP, va_K.moved hW.alike hK, hD⟩, hS.F ht⟩) hS.2.2 d_L_feign_18 hlk
set_option maxHeartbeats 4000000 in
/-- secret -/
theorem w_secret (l : Launch) (hfl : l.flags = flags0) (D : va_G) {h n pl p q g ho sz : Nat} {cA cB cO : ClassId} {f f2 : Nat → Int32} {fo : Nat → Int64} (hG : grp p q g) (cc : Int32) (z : Int32) (dd : Int32) (v : Int32) : Met l y_L_secret (.codeWith y_L_secret b_L_secret 7 (some .int) [(0, 14, 17, 13)] :: tb) (rt 8) (va_Pc [.ref h, .int cc, .int z, .int dd, .int v, .ref ho] (fun U => U.heap.size = sz ∧ X4 D h n pl p q g cA cB f f2 ho cO fo U)) (va_Qi (wr_post (expP q cc ∧ expP q z ∧ expP q dd ∧ expP q v ∧ cc ≠ dd) (sub_m q z.toInt.toNat v.toInt.toNat * inv_v (sub_m q cc.toInt.toNat dd.toInt.toNat) q % q)) (at_4 D (va_A (W4 h n pl p q g cA cB f f2 ho cO fo) sz) h n pl p q g cA cB ho cO) (va_A (W4 h n pl p q g cA cB f f2 ho cO fo) sz)) 1 6 (va_A (W4 h n pl p q g cA cB f f2 ho cO fo) sz) := by
  refine mk_metW (by decide) (Nat.le_of_ble_eq_true rfl) ?_
  intro p0 e s m below meth c ls C htab hB hl
  generalize ([.ref h, .int cc, .int z, .int dd, .int v, .ref ho] : List Value).toArray = args at C ⊢
  obtain ⟨hx, hb, hml, hown, hts, hr, hlk⟩ := id C
  obtain ⟨g5, g31, gq, gqp, ggp, gg2⟩ := hG.nums
  obtain ⟨hsz, hP, hK, hD0, hex, hnc⟩ := hB
  subst hsz
  have hX : XO D h n pl p q g s := ⟨hP.sub (ws' := [xW h n pl p q g]) [0] rfl, hK.sub (tys' := []) [] rfl⟩
  have hD := hD0.self (sz := s.heap.size)
  generalize hAe : va_A (W4 h n pl p q g cA cB f f2 ho cO fo) s.heap.size = A at hD ⊢
  have hA : ∀ q : Nat, s.heap.size ≤ q → A q := fun q h => by rw [← hAe]; exact Or.inr h
  have hS : va_S A s.heap s.heap [] := va_S.rf
  have hl : lv_has ls 7 [(0, .ref h), (1, .int cc), (2, .int z), (3, .int dd), (4, .int v), (5, .ref ho)] := hl
  by_cases hgd : expP q cc ∧ expP q z ∧ expP q dd ∧ expP q v ∧ cc ≠ dd
  · obtain ⟨cc1, hcc1, rfl, hcc2⟩ := nI_of_toInt (v := cc) hgd.1.1
    have bcc := hgd.1.2
    rw [hcc2] at bcc
    obtain ⟨z1, hz1, rfl, hz2⟩ := nI_of_toInt (v := z) hgd.2.1.1
    have bz := hgd.2.1.2
    rw [hz2] at bz
    obtain ⟨dd1, hdd1, rfl, hdd2⟩ := nI_of_toInt (v := dd) hgd.2.2.1.1
    have bdd := hgd.2.2.1.2
    rw [hdd2] at bdd
    obtain ⟨v1, hv1, rfl, hv2⟩ := nI_of_toInt (v := v) hgd.2.2.2.1.1
    have bv := hgd.2.2.2.1.2
    rw [hv2] at bv
    have hne : cc1 ≠ dd1 := fun hq => hgd.2.2.2.2 (by rw [hq])
    refine lv_aload hx hb d_L_secret_0 (lv_at hl 5 rfl) ?_
    refine lv_iconst (v := 0) hx hb d_L_secret_2 (by decide) ?_
    refine lv_aload_n hx hb d_L_secret_3 rfl (lv_at hl 0 rfl) ?_
    refine lv_iload_n hx hb d_L_secret_4 rfl (lv_at hl 1 rfl) ?_
    refine lv_iload_n hx hb d_L_secret_5 rfl (lv_at hl 2 rfl) ?_
    refine lv_iload_n hx hb d_L_secret_6 rfl (lv_at hl 3 rfl) ?_
    refine lv_iload hx hb d_L_secret_7 (lv_at hl 4 rfl) ?_
    refine goI (runV C h [.int (nI cc1), .int (nI z1), .int (nI dd1), .int (nI v1)] [.int 0, .ref ho] (c_secret l D hG (cc := cc1) (z := z1) (dd := dd1) (v := v1) (by omega) (by omega) (by omega) (by omega) hne) vw_L_35 rfl hl.1 ⟨rfl, rfl⟩ hX.cell (fun U hU hW => hX.move hU hW) (fun U f mk a hU => XO.call hU f mk a) (Nat.le_of_ble_eq_true rfl) ⟨(Nat.le_of_ble_eq_true rfl), (Nat.le_of_ble_eq_true rfl)⟩ ⟨(Nat.le_of_ble_eq_true rfl), (Nat.le_of_ble_eq_true rfl)⟩ d_L_secret_9) (fun r hrr => ?_)
    subst hrr
    have hvb : (sub_m q z1 v1 * inv_v (sub_m q cc1 dd1) q % q) < 2 ^ 31 := by have := Nat.mod_lt (sub_m q z1 v1 * inv_v (sub_m q cc1 dd1) q) (show q > 0 by omega); omega
    refine lv_i2l (v := lN (sub_m q z1 v1 * inv_v (sub_m q cc1 dd1) q % q)) hx hb d_L_secret_12 (nI_l hvb) ?_
    refine va_last (D := D) hx hb hK hP hD hS 3 2 (cA := cO) (n := 1) (f := fo) rfl rfl (x := lN (sub_m q z1 v1 * inv_v (sub_m q cc1 dd1) q % q)) (i := 0) in01 d_L_secret_13 (fun H locs hP hD hS => ?_)
    refine W.widen (k := 1) (n := 6) (by decide) (by decide) ?_
    refine lv_goto hx hb d_L_secret_14 rfl ?_
    refine lv_iconst (v := 0) hx hb d_L_secret_21 (by decide) ?_
    exact W.iret hx hb hr (fun t ht hW => ⟨⟨0, (f, f2, vp_updL fo (0 : Int32).toNatClampNeg (lN (sub_m q z1 v1 * inv_v (sub_m q cc1 dd1) q % q))), rfl, Or.inl ⟨hgd, rfl, (show vp_updL fo (0 : Int32).toNatClampNeg (lN (sub_m q z1 v1 * inv_v (sub_m q cc1 dd1) q % q)) 0 = _ by rw [out_at, hz2, hv2, hcc2, hdd2, Int.toNat_natCast, Int.toNat_natCast, Int.toNat_natCast, Int.toNat_natCast])⟩, by rw [ht]; exact hP, va_K.moved hW.alike hK, hD⟩, hS.F ht⟩) hS.2.2 d_L_secret_22 hlk
  · refine lv_aload hx hb d_L_secret_0 (lv_at hl 5 rfl) ?_
    refine lv_iconst (v := 0) hx hb d_L_secret_2 (by decide) ?_
    refine lv_aload_n hx hb d_L_secret_3 rfl (lv_at hl 0 rfl) ?_
    refine lv_iload_n hx hb d_L_secret_4 rfl (lv_at hl 1 rfl) ?_
    refine lv_iload_n hx hb d_L_secret_5 rfl (lv_at hl 2 rfl) ?_
    refine lv_iload_n hx hb d_L_secret_6 rfl (lv_at hl 3 rfl) ?_
    refine lv_iload hx hb d_L_secret_7 (lv_at hl 4 rfl) ?_
    refine th_catch C htab ⟨Nat.zero_le _, by decide⟩ (by decide) tk_74 (hex.1 _ castI) h [.int cc, .int z, .int dd, .int v] [.int 0, .ref ho] (t_secret l hfl D hG cc z dd v hgd) ⟨rfl, rfl⟩ vw_L_35 rfl hl.1 hX.cell (fun U hU hW => ⟨hX.move hU hW, ex_move hex hW (fun q _ => by rw [hU])⟩) (fun U fr mk a hU => ⟨XO.call hU.1 fr mk a, ex_call hU.2⟩) (Nat.le_of_ble_eq_true rfl) ⟨(Nat.le_of_ble_eq_true rfl), (Nat.le_of_ble_eq_true rfl)⟩ ⟨(Nat.le_of_ble_eq_true rfl), (Nat.le_of_ble_eq_true rfl)⟩ d_L_secret_9 (fun xx H1 hz1 hk1 => ?_)
    have hP := keep_P hP hk1
    have hS : va_S A s.heap H1 [] := keep_S hz1 hk1
    refine lv_astore (lv' := [(6, .ref xx), (0, .ref h), (1, .int cc), (2, .int z), (3, .int dd), (4, .int v), (5, .ref ho)]) hx hb d_L_secret_17 hl (Nat.le_of_ble_eq_true rfl) rfl (fun ls hl => ?_)
    refine lv_iconst (v := 1) hx hb d_L_secret_19 (by decide) ?_
    exact W.iret hx hb hr (fun t ht hW => ⟨⟨1, (f, f2, fo), rfl, Or.inr ⟨hgd, rfl⟩, by rw [ht]; exact hP, va_K.moved hW.alike hK, hD⟩, hS.F ht⟩) hS.2.2 d_L_secret_20 hlk
set_option maxHeartbeats 4000000 in
/-- log -/
theorem w_log (l : Launch) (hfl : l.flags = flags0) (D : va_G) {h n pl p q g ho sz : Nat} {cA cB cO : ClassId} {f f2 : Nat → Int32} {fo : Nat → Int64} (hG : grp p q g) (y : Int32) : Met l y_L_log (.codeWith y_L_log b_L_log 4 (some .int) [(0, 9, 12, 13), (0, 9, 15, 26)] :: tb) (rt 8) (va_Pc [.ref h, .int y, .ref ho] (fun U => U.heap.size = sz ∧ X4 D h n pl p q g cA cB f f2 ho cO fo U)) (va_Qi (fun r (u : U4) => (memP p q y ∧ p ≤ 20000 ∧ r = 0 ∧ ∃ z, z < q ∧ g ^ z % p = y.toInt.toNat ∧ u.2.2 0 = lN z) ∨ (¬ memP p q y ∧ r = 1) ∨ (memP p q y ∧ 20000 < p ∧ r = 2)) (at_4 D (va_A (W4 h n pl p q g cA cB f f2 ho cO fo) sz) h n pl p q g cA cB ho cO) (va_A (W4 h n pl p q g cA cB f f2 ho cO fo) sz)) 1 6 (va_A (W4 h n pl p q g cA cB f f2 ho cO fo) sz) := by
  refine mk_metW (by decide) (Nat.le_of_ble_eq_true rfl) ?_
  intro p0 e s m below meth c ls C htab hB hl
  generalize ([.ref h, .int y, .ref ho] : List Value).toArray = args at C ⊢
  obtain ⟨hx, hb, hml, hown, hts, hr, hlk⟩ := id C
  obtain ⟨g5, g31, gq, gqp, ggp, gg2⟩ := hG.nums
  obtain ⟨hsz, hP, hK, hD0, hex, hnc⟩ := hB
  subst hsz
  have hX : XO D h n pl p q g s := ⟨hP.sub (ws' := [xW h n pl p q g]) [0] rfl, hK.sub (tys' := []) [] rfl⟩
  have hD := hD0.self (sz := s.heap.size)
  generalize hAe : va_A (W4 h n pl p q g cA cB f f2 ho cO fo) s.heap.size = A at hD ⊢
  have hA : ∀ q : Nat, s.heap.size ≤ q → A q := fun q h => by rw [← hAe]; exact Or.inr h
  have hS : va_S A s.heap s.heap [] := va_S.rf
  have hl : lv_has ls 4 [(0, .ref h), (1, .int y), (2, .ref ho)] := hl
  by_cases hgd : memP p q y
  · by_cases hsm : p ≤ 20000
    · obtain ⟨y1, hy1, rfl, hy2⟩ := nI_of_toInt (v := y) (by have := hgd.1; omega)
      obtain ⟨b1, b2, b3⟩ := id hgd
      rw [hy2] at b1 b2 b3
      rw [Int.toNat_natCast] at b3
      refine lv_aload_n hx hb d_L_log_0 rfl (lv_at hl 2 rfl) ?_
      refine lv_iconst (v := 0) hx hb d_L_log_1 (by decide) ?_
      refine lv_aload_n hx hb d_L_log_2 rfl (lv_at hl 0 rfl) ?_
      refine lv_iload_n hx hb d_L_log_3 rfl (lv_at hl 1 rfl) ?_
      have hPc := hP.sub (ws' := W3 h n pl p q g cA cB f f2) [0, 1, 2] rfl
      have hDc := hD.sub (ws' := W3 h n pl p q g cA cB f f2) [0, 1, 2] (by decide) rfl
      have hKc := hK.sub (tys' := [(cA, .int), (cB, .int)]) [0, 1] rfl
      have hFc := va_free (wc := W3 h n pl p q g cA cB f f2) hD hS hA [0, 1, 2] rfl
      refine va_calli (runV C h [.int (nI y1)] [.int 0, .ref ho] (c_log l D (h := h) (n := n) (pl := pl) (p := p) (q := q) (g := g) (sz := s.heap.size) (cA := cA) (cB := cB) (f0 := f) (f20 := f2) hG hsm (y := y1) (by omega) (by omega) b3) vw_L_23 rfl hl.1 ⟨rfl, rfl⟩ hX.cell (fun U hU hW => ⟨by rw [hU], ⟨by rw [hU]; exact hPc, va_K.moved hW.alike hKc⟩, hDc.weaken (fun _ _ _ _ => trivial)⟩) (fun U fr mk a hU => ⟨hU.1, X3.call hU.2.1 fr mk a, hU.2.2⟩) (Nat.le_of_ble_eq_true rfl) ⟨(Nat.le_of_ble_eq_true rfl), (Nat.le_of_ble_eq_true rfl)⟩ ⟨(Nat.le_of_ble_eq_true rfl), (Nat.le_of_ble_eq_true rfl)⟩ d_L_log_4) hS (fun q _ h9 => hFc q h9) hFc (fun rr u t H1 locs ht hvm hpo hBB hz1 hk1 hS => ?_)
      obtain ⟨z, hz, hgz, rfl⟩ := hpo
      obtain ⟨hP1, hK1, hD1⟩ := hBB
      rw [ht] at hP1
      obtain ⟨hP, hD⟩ := va_join (wr := [oW ho cO fo]) (w1 := W3 h n pl p q g cA cB u.1 u.2) hP hD [0, 1, 2] [3] rfl rfl (by decide) (by decide) hk1 hFc hP1 hD1
      have hP := hP.sub (ws' := W4 h n pl p q g cA cB u.1 u.2 ho cO fo) [1, 2, 3, 0] rfl
      have hD := hD.sub (ws' := W4 h n pl p q g cA cB u.1 u.2 ho cO fo) [1, 2, 3, 0] (by decide) rfl
      generalize H1 = H at hP hS ⊢
      refine lv_i2l (v := lN z) hx hb d_L_log_7 (nI_l (by omega)) ?_
      refine va_last (D := D) hx hb hK hP hD hS 3 2 (cA := cO) (n := 1) (f := fo) rfl rfl (x := lN z) (i := 0) in01 d_L_log_8 (fun H locs hP hD hS => ?_)
      refine W.widen (k := 1) (n := 6) (by decide) (by decide) ?_
      refine lv_goto hx hb d_L_log_9 rfl ?_
      refine lv_iconst (v := 0) hx hb d_L_log_18 (by decide) ?_
      exact W.iret hx hb hr (fun t ht hW => ⟨⟨0, (u.1, u.2, vp_updL fo (0 : Int32).toNatClampNeg (lN z)), rfl, Or.inl ⟨hgd, hsm, rfl, z, hz, by rw [hy2, Int.toNat_natCast]; exact hgz, out_at (fo := fo)⟩, by rw [ht]; exact hP, va_K.moved hW.alike hK, hD⟩, hS.F ht⟩) hS.2.2 d_L_log_19 hlk
    · refine lv_aload_n hx hb d_L_log_0 rfl (lv_at hl 2 rfl) ?_
      refine lv_iconst (v := 0) hx hb d_L_log_1 (by decide) ?_
      refine lv_aload_n hx hb d_L_log_2 rfl (lv_at hl 0 rfl) ?_
      refine lv_iload_n hx hb d_L_log_3 rfl (lv_at hl 1 rfl) ?_
      refine th_catch2 C htab ⟨Nat.zero_le _, by decide⟩ ⟨Nat.zero_le _, by decide⟩ (by decide) (by decide) tk_74 tk_167 (hex.1 _ castS) hnc h [.int y] [.int 0, .ref ho] (t_log2 l hfl D hG y hgd (by omega)) ⟨rfl, rfl⟩ vw_L_23 rfl hl.1 hX.cell (fun U hU hW => ⟨hX.move hU hW, ex_move hex hW (fun q _ => by rw [hU])⟩) (fun U fr mk a hU => ⟨XO.call hU.1 fr mk a, ex_call hU.2⟩) (Nat.le_of_ble_eq_true rfl) ⟨(Nat.le_of_ble_eq_true rfl), (Nat.le_of_ble_eq_true rfl)⟩ ⟨(Nat.le_of_ble_eq_true rfl), (Nat.le_of_ble_eq_true rfl)⟩ d_L_log_4 (fun xx H1 hz1 hk1 => ?_)
      have hP := keep_P hP hk1
      have hS : va_S A s.heap H1 [] := keep_S hz1 hk1
      refine lv_astore_n (lv' := [(3, .ref xx), (0, .ref h), (1, .int y), (2, .ref ho)]) hx hb d_L_log_15 rfl hl (Nat.le_of_ble_eq_true rfl) rfl (fun ls hl => ?_)
      refine lv_iconst (v := 2) hx hb d_L_log_16 (by decide) ?_
      exact W.iret hx hb hr (fun t ht hW => ⟨⟨2, (f, f2, fo), rfl, Or.inr (Or.inr ⟨hgd, by omega, rfl⟩), by rw [ht]; exact hP, va_K.moved hW.alike hK, hD⟩, hS.F ht⟩) hS.2.2 d_L_log_17 hlk
  · refine lv_aload_n hx hb d_L_log_0 rfl (lv_at hl 2 rfl) ?_
    refine lv_iconst (v := 0) hx hb d_L_log_1 (by decide) ?_
    refine lv_aload_n hx hb d_L_log_2 rfl (lv_at hl 0 rfl) ?_
    refine lv_iload_n hx hb d_L_log_3 rfl (lv_at hl 1 rfl) ?_
    refine th_catch C htab ⟨Nat.zero_le _, by decide⟩ (by decide) tk_74 (hex.1 _ castI) h [.int y] [.int 0, .ref ho] (t_log1 l hfl D hG y hgd) ⟨rfl, rfl⟩ vw_L_23 rfl hl.1 hX.cell (fun U hU hW => ⟨hX.move hU hW, ex_move hex hW (fun q _ => by rw [hU])⟩) (fun U fr mk a hU => ⟨XO.call hU.1 fr mk a, ex_call hU.2⟩) (Nat.le_of_ble_eq_true rfl) ⟨(Nat.le_of_ble_eq_true rfl), (Nat.le_of_ble_eq_true rfl)⟩ ⟨(Nat.le_of_ble_eq_true rfl), (Nat.le_of_ble_eq_true rfl)⟩ d_L_log_4 (fun xx H1 hz1 hk1 => ?_)
    have hP := keep_P hP hk1
    have hS : va_S A s.heap H1 [] := keep_S hz1 hk1
    refine lv_astore_n (lv' := [(3, .ref xx), (0, .ref h), (1, .int y), (2, .ref ho)]) hx hb d_L_log_12 rfl hl (Nat.le_of_ble_eq_true rfl) rfl (fun ls hl => ?_)
    refine lv_iconst (v := 1) hx hb d_L_log_13 (by decide) ?_
    exact W.iret hx hb hr (fun t ht hW => ⟨⟨1, (f, f2, fo), rfl, Or.inr (Or.inl ⟨hgd, rfl⟩), by rw [ht]; exact hP, va_K.moved hW.alike hK, hD⟩, hS.F ht⟩) hS.2.2 d_L_log_14 hlk
end
section
/-! the law's frame: its five cells, the script, its calls -/
def R_law : String := "ProofDeskLaw"
abbrev W5 (h n pl p q g : Nat) (cA cB : ClassId) (f f2 : Nat → Int32) (ho : Nat) (cO : ClassId) (fo : Nat → Int64) (hm : Nat) (er : Int32) (p1 q1 g1 : Nat) : va_W := [xW h n pl p q g, aZ n cA f, aZ pl cB f2, oW ho cO fo, mW hm er p1 q1 g1]
def lA (s : State) : Nat → Prop := fun q => s.heap.size ≤ q
theorem cmp_eq {x y : Int64} (h : x = y) : lg_cmp x y = 0 := by
  subst h
  unfold lg_cmp
  rw [if_neg (by rw [gt_iff_lt, Int64.lt_iff_toInt_lt]; omega), if_pos rfl]
theorem z_same {P : Prop} {r u : Int32} (h1 : z_of P r) (h2 : z_of P u) : r = u := by
  rcases h1 with ⟨rfl, h1⟩ | ⟨rfl, h1⟩ <;> rcases h2 with ⟨rfl, h2⟩ | ⟨rfl, h2⟩
  · rfl
  · exact absurd h1 h2
  · exact absurd h2 h1
  · rfl
theorem wm_eq {G : Prop} {v : Nat} {r er bb : Int32} {u : U4} (h1 : wr_post G v r u) (h2 : mo_post G v bb er) (hv : G → v < 2 ^ 31) : er = r ∧ (r = 0 → u.2.2 0 = bb.toInt64) := by
  rcases h1 with ⟨g1, rfl, h1⟩ | ⟨g1, rfl⟩ <;> rcases h2 with ⟨g2, h2, rfl⟩ | ⟨g2, h2, rfl⟩
  · exact ⟨h2, fun _ => by rw [h1, nI_l (hv g1)]⟩
  · exact absurd g1 g2
  · exact absurd g2 g1
  · exact ⟨h2, fun h => absurd h (by decide)⟩
theorem wm_log {p q g : Nat} (hG : grp p q g) {y r er bb : Int32} {u : U4} (h1 : (memP p q y ∧ p ≤ 20000 ∧ r = 0 ∧ ∃ z, z < q ∧ g ^ z % p = y.toInt.toNat ∧ u.2.2 0 = lN z) ∨ (¬ memP p q y ∧ r = 1) ∨ (memP p q y ∧ 20000 < p ∧ r = 2))
    (h2 : (memP p q y ∧ p ≤ 20000 ∧ er = 0 ∧ ∃ z, z < q ∧ g ^ z % p = y.toInt.toNat ∧ bb = nI z) ∨ (¬ memP p q y ∧ er = 1 ∧ bb = 0) ∨ (memP p q y ∧ 20000 < p ∧ er = 2 ∧ bb = 0)) : er = r ∧ (r = 0 → u.2.2 0 = bb.toInt64) := by
  rcases h1 with ⟨m1, s1, rfl, z, hz, he, h1⟩ | ⟨m1, rfl⟩ | ⟨m1, s1, rfl⟩ <;> rcases h2 with ⟨m2, s2, h2, z2, hz2, he2, rfl⟩ | ⟨m2, h2, -⟩ | ⟨m2, s2, h2, -⟩
  · obtain ⟨g5, g31, gq, gqp, ggp, gg2⟩ := hG.nums
    have := grp_inj hG (he.trans he2.symm)
    rw [Nat.mod_eq_of_lt hz, Nat.mod_eq_of_lt hz2] at this
    subst this
    exact ⟨h2, fun _ => by rw [h1, nI_l (by omega)]⟩
  · exact absurd m1 m2
  · omega
  · exact absurd m2 m1
  · exact ⟨h2, fun h => absurd h (by decide)⟩
  · exact absurd m2 m1
  · omega
  · exact absurd m1 m2
  · exact ⟨h2, fun h => absurd h (by decide)⟩
section LW
variable {p0 : Program} {l : Launch} {e : Env} {s : State} {m : MethodId} {args : Array Value} {below : List Frame} {meth : Method} {c : Code} {H : Heap} {locs : List Loc} {cells slots : Nat} {Q : State → Prop}
variable {cc : ByteArray} {pc : Nat} {ls : Array Slot} {ret : Option FieldType} {D : va_G}
variable {h n pl p q g ho hm p1 q1 g1 : Nat} {cA cB cO : ClassId} {f f2 : Nat → Int32} {fo : Nat → Int64} {er : Int32}
variable {y : MethodName} {bb : ByteArray} {maxL k index : Nat} {ry : Option FieldType}
theorem ls_ld {b L : Nat} {xs : Nat → Int32} {rest : List Value} (C : CX p0 s args m meth c "ProofDeskLaw" cc 7 ret) (hX : va_X b L xs s s.heap) (hbl : b < s.heap.size) (hS : va_S (lA s) s.heap H locs) {j : Nat} (hj : j < L) (hL : L ≤ 2560) (hdg : decode cc pc = .ok (.iaload, 1))
    (kk : W p0 l e room_1 s m args below meth c H locs cells slots Q (F0 m (pc + 1) ls (.int (xs j) :: rest))) : W p0 l e room_1 s m args below meth c H locs cells slots Q (F0 m pc ls (.int (nI j) :: .ref b :: rest)) := by
  have hc : (nI j).toNatClampNeg = j := nI_clamp (by omega)
  refine va_sld (A := lA s) C.1 C.2.1 hX hbl (Nat.not_le.mpr hbl) hS (vp_in_nI hj (by omega)) hdg ?_
  rw [hc]
  exact kk
/-- a call of the model -/
theorem lm_call {post : Int32 → Int32 → Prop} (C : CX p0 s args m meth c "ProofDeskLaw" cc 7 ret) (hK : va_K D cl (T4 cA cB cO) s) (hP : va_P D cl (W5 h n pl p q g cA cB f f2 ho cO fo hm er p1 q1 g1) H) (hD : va_D (lA s) (W5 h n pl p q g cA cB f f2 ho cO fo hm er p1 q1 g1)) (hS : va_S (lA s) s.heap H locs) (As rest : List Value)
    (hM : ∀ sz : Nat, Met l y (.code y bb maxL ry :: tb) (rk 2) (va_Pc (.ref hm :: As) (fun U => U.heap.size = sz ∧ MO D hm er p1 q1 g1 U)) (va_Qi post (at_m D (va_A [mW hm er p1 q1 g1] sz) hm p1 q1 g1) (va_A [mW hm er p1 q1 g1] sz)) 0 0 (va_A [mW hm er p1 q1 g1] sz))
    (vw : VW "ProofDeskLaw" index "ProofDeskModel" y bb maxL ry k) (hn : As.length = k) (hsz : ls.size = 7) (hW : (rest.map fun v => v.category).sum ≤ 8) (hmx : maxL ≤ 100) (hf : cells ≤ 1031 ∧ slots ≤ 8416) (hdg : decode cc pc = .ok (.invokevirtual index, 3))
    (kk : ∀ (r u : Int32) (H1 : Heap) (locs1 : List Loc), post r u → va_P D cl (W5 h n pl p q g cA cB f f2 ho cO fo hm u p1 q1 g1) H1 → va_D (lA s) (W5 h n pl p q g cA cB f f2 ho cO fo hm u p1 q1 g1) → va_S (lA s) s.heap H1 locs1 → W p0 l e room_1 s m args below meth c H1 locs1 cells slots Q (F0 m (pc + 3) ls (.int r :: rest))) :
    W p0 l e room_1 s m args below meth c H locs cells slots Q (F0 m pc ls (As.reverse ++ .ref hm :: rest)) := by
  have hPc := hP.sub (ws' := [mW hm er p1 q1 g1]) [4] rfl
  have hFc := va_free (wc := [mW hm er p1 q1 g1]) hD hS (fun q h => h) [4] rfl
  have hKc : va_K D cl [] s := hK.sub (tys' := []) [] rfl
  refine va_calli (runV C hm As rest (hM H.size) vw hn hsz ⟨rfl, rfl⟩ (va_recv (ci := 1) (q := ("ProofDeskModel", F_M, 4)) hK hP rfl (q0 := 4) rfl) (fun U hU hW => ⟨by rw [hU], by rw [hU]; exact hPc, va_K.moved hW.alike hKc⟩) (fun U fr mk a hU => ⟨hU.1, MO.call hU.2 fr mk a⟩) hW ⟨Nat.le_of_ble_eq_true rfl, by show 8 + (maxL + 11) + 72 ≤ 384; omega⟩ ⟨by show cells + 0 ≤ 1031; omega, by show slots + 0 ≤ 8416; omega⟩ hdg) hS (fun q _ h9 => hFc q h9) hFc (fun r u t H1 locs1 ht hvm hpo hBB hz1 hk1 hS1 => ?_)
  obtain ⟨hP1, hK1, hD1⟩ := hBB
  rw [ht] at hP1
  obtain ⟨hP2, hD2⟩ := va_join (wr := W4 h n pl p q g cA cB f f2 ho cO fo) (w1 := [mW hm u p1 q1 g1]) hP hD [4] [0, 1, 2, 3] rfl rfl (by decide) (by decide) hk1 hFc hP1 hD1
  exact kk r u H1 locs1 hpo hP2 hD2 hS1
/-- a call of the model's begin -/
theorem lm_begin (C : CX p0 s args m meth c "ProofDeskLaw" cc 7 ret) (hK : va_K D cl (T4 cA cB cO) s) (hP : va_P D cl (W5 h n pl p q g cA cB f f2 ho cO fo hm er p1 q1 g1) H) (hD : va_D (lA s) (W5 h n pl p q g cA cB f f2 ho cO fo hm er p1 q1 g1)) (hS : va_S (lA s) s.heap H locs) (pp gg : Int32) (rest : List Value)
    (hsz : ls.size = 7) (hW : (rest.map fun v => v.category).sum ≤ 8) (hf : cells ≤ 1031 ∧ slots ≤ 8416) (hdg : decode cc pc = .ok (.invokevirtual 50, 3))
    (kk : ∀ (r : Int32) (u : Nat × Nat × Nat) (H1 : Heap) (locs1 : List Loc), mb_post pp gg p1 q1 g1 r u → va_P D cl (W5 h n pl p q g cA cB f f2 ho cO fo hm 0 u.1 u.2.1 u.2.2) H1 → va_D (lA s) (W5 h n pl p q g cA cB f f2 ho cO fo hm 0 u.1 u.2.1 u.2.2) → va_S (lA s) s.heap H1 locs1 → W p0 l e room_1 s m args below meth c H1 locs1 cells slots Q (F0 m (pc + 3) ls (.int r :: rest))) :
    W p0 l e room_1 s m args below meth c H locs cells slots Q (F0 m pc ls (.int gg :: .int pp :: .ref hm :: rest)) := by
  have hPc := hP.sub (ws' := [mW hm er p1 q1 g1]) [4] rfl
  have hFc := va_free (wc := [mW hm er p1 q1 g1]) hD hS (fun q h => h) [4] rfl
  have hKc : va_K D cl [] s := hK.sub (tys' := []) [] rfl
  refine va_calli (runV C hm [.int pp, .int gg] rest (m_begin l D (h := hm) (p := p1) (q := q1) (g := g1) (er := er) (sz := H.size) pp gg) vw_L_50 rfl hsz ⟨rfl, rfl⟩ (va_recv (ci := 1) (q := ("ProofDeskModel", F_M, 4)) hK hP rfl (q0 := 4) rfl) (fun U hU hW => ⟨by rw [hU], by rw [hU]; exact hPc, va_K.moved hW.alike hKc⟩) (fun U fr mk a hU => ⟨hU.1, MO.call hU.2 fr mk a⟩) hW ⟨Nat.le_of_ble_eq_true rfl, Nat.le_of_ble_eq_true rfl⟩ ⟨by show cells + 0 ≤ 1031; omega, by show slots + 0 ≤ 8416; omega⟩ hdg) hS (fun q _ h9 => hFc q h9) hFc (fun r u t H1 locs1 ht hvm hpo hBB hz1 hk1 hS1 => ?_)
  obtain ⟨hP1, hK1, hD1⟩ := hBB
  rw [ht] at hP1
  obtain ⟨hP2, hD2⟩ := va_join (wr := W4 h n pl p q g cA cB f f2 ho cO fo) (w1 := [mW hm 0 u.1 u.2.1 u.2.2]) hP hD [4] [0, 1, 2, 3] rfl rfl (by decide) (by decide) hk1 hFc hP1 hD1
  exact kk r u H1 locs1 hpo hP2 hD2 hS1
/-- a call of begin -/
theorem lx_begin (C : CX p0 s args m meth c "ProofDeskLaw" cc 7 ret) (hK : va_K D cl (T4 cA cB cO) s) (hP : va_P D cl (W5 h n pl p q g cA cB f f2 ho cO fo hm er p1 q1 g1) H) (hD : va_D (lA s) (W5 h n pl p q g cA cB f f2 ho cO fo hm er p1 q1 g1)) (hS : va_S (lA s) s.heap H locs) (pp gg : Int32) (rest : List Value)
    (hsz : ls.size = 7) (hW : (rest.map fun v => v.category).sum ≤ 8) (hf : cells ≤ 1031 ∧ slots ≤ 8416) (hdg : decode cc pc = .ok (.invokevirtual 46, 3))
    (kk : ∀ (r : Int32) (u : Nat × Nat × Nat) (H1 : Heap) (locs1 : List Loc), bg_post pp gg p q g r u → va_P D cl (W5 h n pl u.1 u.2.1 u.2.2 cA cB f f2 ho cO fo hm er p1 q1 g1) H1 → va_D (lA s) (W5 h n pl u.1 u.2.1 u.2.2 cA cB f f2 ho cO fo hm er p1 q1 g1) → va_S (lA s) s.heap H1 locs1 → W p0 l e room_1 s m args below meth c H1 locs1 cells slots Q (F0 m (pc + 3) ls (.int r :: rest))) :
    W p0 l e room_1 s m args below meth c H locs cells slots Q (F0 m pc ls (.int gg :: .int pp :: .ref h :: rest)) := by
  have hPc := hP.sub (ws' := [xW h n pl p q g]) [0] rfl
  have hFc := va_free (wc := [xW h n pl p q g]) hD hS (fun q h => h) [0] rfl
  have hKc : va_K D cl [] s := hK.sub (tys' := []) [] rfl
  refine va_calli (runV C h [.int pp, .int gg] rest (c_begin l D (h := h) (n := n) (pl := pl) (p := p) (q := q) (g := g) (sz := H.size) pp gg) vw_L_46 rfl hsz ⟨rfl, rfl⟩ (va_recv (ci := 0) (q := ("ProofDesk", F_D, 5)) hK hP rfl (q0 := 0) rfl) (fun U hU hW => ⟨by rw [hU], by rw [hU]; exact hPc, va_K.moved hW.alike hKc⟩) (fun U fr mk a hU => ⟨hU.1, hU.2.1, va_K.moved (u := U) (U := U.calling fr mk a) (Vm.Alike.refl U.vm) hU.2.2⟩) hW ⟨Nat.le_of_ble_eq_true rfl, Nat.le_of_ble_eq_true rfl⟩ ⟨by show cells + 0 ≤ 1031; omega, by show slots + 0 ≤ 8416; omega⟩ hdg) hS (fun q _ h9 => hFc q h9) hFc (fun r u t H1 locs1 ht hvm hpo hBB hz1 hk1 hS1 => ?_)
  obtain ⟨hP1, hK1, hD1⟩ := hBB
  rw [ht] at hP1
  obtain ⟨hP2, hD2⟩ := va_join (wr := [aZ n cA f, aZ pl cB f2, oW ho cO fo, mW hm er p1 q1 g1]) (w1 := [xW h n pl u.1 u.2.1 u.2.2]) hP hD [0] [1, 2, 3, 4] rfl rfl (by decide) (by decide) hk1 hFc hP1 hD1
  exact kk r u H1 locs1 hpo (hP2.sub (ws' := W5 h n pl u.1 u.2.1 u.2.2 cA cB f f2 ho cO fo hm er p1 q1 g1) [4, 0, 1, 2, 3] rfl) (hD2.sub (ws' := W5 h n pl u.1 u.2.1 u.2.2 cA cB f f2 ho cO fo hm er p1 q1 g1) [4, 0, 1, 2, 3] (by decide) rfl) hS1
/-- a call of ProofDesk that only reads -/
theorem lp_call {post : Int32 → Prop} {rm : Room} (C : CX p0 s args m meth c "ProofDeskLaw" cc 7 ret) (hK : va_K D cl (T4 cA cB cO) s) (hP : va_P D cl (W5 h n pl p q g cA cB f f2 ho cO fo hm er p1 q1 g1) H) (As rest : List Value)
    (hM : Met l y (.code y bb maxL ry :: tb) rm (va_Pc (.ref h :: As) (fun U => XO D h n pl p q g U)) (QI post) 0 0 nf) (hrm : rm = rk 2 ∨ rm = rk 3)
    (vw : VW "ProofDeskLaw" index "ProofDesk" y bb maxL ry k) (hn : As.length = k) (hsz : ls.size = 7) (hW : (rest.map fun v => v.category).sum ≤ 8) (hmx : maxL ≤ 100) (hf : cells ≤ 1031 ∧ slots ≤ 8416) (hdg : decode cc pc = .ok (.invokevirtual index, 3))
    (kk : ∀ (r : Int32), post r → W p0 l e room_1 s m args below meth c H locs cells slots Q (F0 m (pc + 3) ls (.int r :: rest))) :
    W p0 l e room_1 s m args below meth c H locs cells slots Q (F0 m pc ls (As.reverse ++ .ref h :: rest)) := by
  have hPc := hP.sub (ws' := [xW h n pl p q g]) [0] rfl
  have hKc : va_K D cl [] s := hK.sub (tys' := []) [] rfl
  refine goI (runV C h As rest hM vw hn hsz (by rcases hrm with rfl | rfl <;> exact ⟨rfl, rfl⟩) (va_recv (ci := 0) (q := ("ProofDesk", F_D, 5)) hK hP rfl (q0 := 0) rfl) (fun U hU hW => ⟨by rw [hU]; exact hPc, va_K.moved hW.alike hKc⟩) (fun U fr mk a hU => XO.call hU fr mk a) hW (by rcases hrm with rfl | rfl <;> exact ⟨Nat.le_of_ble_eq_true rfl, by show 8 + (maxL + 11) + _ ≤ 384; simp only [Nat.reduceMul]; omega⟩) ⟨by show cells + 0 ≤ 1031; omega, by show slots + 0 ≤ 8416; omega⟩ hdg) kk
/-- what the model threw -/
theorem lt_call (C : CX p0 s args m meth c "ProofDeskLaw" cc 7 ret) (hK : va_K D cl (T4 cA cB cO) s) (hP : va_P D cl (W5 h n pl p q g cA cB f f2 ho cO fo hm er p1 q1 g1) H) (rest : List Value) (hsz : ls.size = 7) (hW : (rest.map fun v => v.category).sum ≤ 8) (hf : cells ≤ 1031 ∧ slots ≤ 8416) (hdg : decode cc pc = .ok (.invokevirtual 62, 3))
    (kk : W p0 l e room_1 s m args below meth c H locs cells slots Q (F0 m (pc + 3) ls (.int er :: rest))) : W p0 l e room_1 s m args below meth c H locs cells slots Q (F0 m pc ls (.ref hm :: rest)) := by
  have hPc := hP.sub (ws' := [mW hm er p1 q1 g1]) [4] rfl
  have hKc : va_K D cl [] s := hK.sub (tys' := []) [] rfl
  refine goI (runV C hm [] rest (m_thrown l D (h := hm) (p := p1) (q := q1) (g := g1) (er := er)) vw_L_62 rfl hsz ⟨rfl, rfl⟩ (va_recv (ci := 1) (q := ("ProofDeskModel", F_M, 4)) hK hP rfl (q0 := 4) rfl) (fun U hU hW => ⟨by rw [hU]; exact hPc, va_K.moved hW.alike hKc⟩) (fun U fr mk a hU => MO.call hU fr mk a) hW ⟨Nat.le_of_ble_eq_true rfl, Nat.le_of_ble_eq_true rfl⟩ ⟨by show cells + 0 ≤ 1031; omega, by show slots + 0 ≤ 8416; omega⟩ hdg) (fun r hr => ?_)
  subst hr
  exact kk
/-- a call of a helper -/
theorem lz_call {post : Int32 → U4 → Prop} {hh : List (Nat × Nat × Nat × Nat)} (C : CX p0 s args m meth c "ProofDeskLaw" cc 7 ret) (hex : ex_ok s) (hnc : nc_ok s) (hK : va_K D cl (T4 cA cB cO) s) (hP : va_P D cl (W5 h n pl p q g cA cB f f2 ho cO fo hm er p1 q1 g1) H) (hD : va_D (lA s) (W5 h n pl p q g cA cB f f2 ho cO fo hm er p1 q1 g1)) (hS : va_S (lA s) s.heap H locs) (As rest : List Value)
    (hM : ∀ sz : Nat, Met l y (.codeWith y bb maxL ry hh :: tb) (rt 8) (va_Pc As (fun U => U.heap.size = sz ∧ X4 D h n pl p q g cA cB f f2 ho cO fo U)) (va_Qi post (at_4 D (va_A (W4 h n pl p q g cA cB f f2 ho cO fo) sz) h n pl p q g cA cB ho cO) (va_A (W4 h n pl p q g cA cB f f2 ho cO fo) sz)) 1 6 (va_A (W4 h n pl p q g cA cB f f2 ho cO fo) sz))
    (wl : Cond.methodLink "ProofDeskLaw" index y ∈ tb) (wst : Cond.static y ∈ tb) (wi : Cond.initialized y.cls ∈ tb) (wc : Cond.codeWith y bb maxL ry hh ∈ tb) (hy : y.cls ≠ "java/lang/invoke/MethodHandle" ∧ y.cls ≠ "java/lang/invoke/VarHandle" ∧ (parseMethodDescriptor y.desc).map (fun d => d.parameters.length) = some k)
    (hn : As.length = k) (hsz : ls.size = 7) (hW : (rest.map fun v => v.category).sum ≤ 8) (hmx : maxL ≤ 50) (hf : cells + 1 ≤ 1031 ∧ slots + 6 ≤ 8416) (hdg : decode cc pc = .ok (.invokestatic index, 3))
    (kk : ∀ (r : Int32) (u : U4) (H1 : Heap) (locs1 : List Loc), post r u → va_P D cl (W5 h n pl p q g cA cB u.1 u.2.1 ho cO u.2.2 hm er p1 q1 g1) H1 → va_D (lA s) (W5 h n pl p q g cA cB u.1 u.2.1 ho cO u.2.2 hm er p1 q1 g1) → va_S (lA s) s.heap H1 locs1 → W p0 l e room_1 s m args below meth c H1 locs1 (cells + 1) (slots + 6) Q (F0 m (pc + 3) ls (.int r :: rest))) :
    W p0 l e room_1 s m args below meth c H locs cells slots Q (F0 m pc ls (As.reverse ++ rest)) := by
  have hPc := hP.sub (ws' := W4 h n pl p q g cA cB f f2 ho cO fo) [0, 1, 2, 3] rfl
  have hDc := hD.sub (ws' := W4 h n pl p q g cA cB f f2 ho cO fo) [0, 1, 2, 3] (by decide) rfl
  have hFc := va_free (wc := W4 h n pl p q g cA cB f f2 ho cO fo) hD hS (fun q h => h) [0, 1, 2, 3] rfl
  refine va_calli (runSW ⟨C.1, C.2.1, C.2.2.1, C.2.2.2.1, C.2.2.2.2.1⟩ As rest (hM H.size) wl wst wi wc hy hn hsz ⟨rfl, rfl⟩ (fun U hU hW => ⟨by rw [hU], by rw [hU]; exact hPc, va_K.moved hW.alike hK, hDc.weaken (fun _ _ _ _ => trivial), ex_move hex hW (fun q hq => by rw [hU]; exact hS.2.1 q hq (Nat.not_le.mpr hq)), nc_move hnc hW.alike⟩) (fun U fr mk a hU => ⟨hU.1, X4.call hU.2 fr mk a⟩) hW ⟨Nat.le_of_ble_eq_true rfl, by show 8 + (maxL + 11) + 288 ≤ 384; omega⟩ ⟨by show cells + 1 ≤ 1031; omega, by show slots + 6 ≤ 8416; omega⟩ hdg) hS (fun q _ h9 => hFc q h9) hFc (fun r u t H1 locs1 ht hvm hpo hBB hz1 hk1 hS1 => ?_)
  obtain ⟨hP1, hK1, hD1⟩ := hBB
  rw [ht] at hP1
  obtain ⟨hP2, hD2⟩ := va_join (wr := [mW hm er p1 q1 g1]) (w1 := W4 h n pl p q g cA cB u.1 u.2.1 ho cO u.2.2) hP hD [0, 1, 2, 3] [4] rfl rfl (by decide) (by decide) hk1 hFc hP1 hD1
  exact kk r u H1 locs1 hpo (hP2.sub (ws' := W5 h n pl p q g cA cB u.1 u.2.1 ho cO u.2.2 hm er p1 q1 g1) [1, 2, 3, 4, 0] rfl) (hD2.sub (ws' := W5 h n pl p q g cA cB u.1 u.2.1 ho cO u.2.2 hm er p1 q1 g1) [1, 2, 3, 4, 0] (by decide) rfl) hS1
end LW
end
section
/-! the cases of the law, one by one -/
theorem bg_same {pp gg : Int32} {p q g : Nat} (hG : grp p q g) {r r2 : Int32} {u u2 : Nat × Nat × Nat} (h1 : bg_post pp gg p q g r u) (h2 : mb_post pp gg p q g r2 u2) : r = r2 ∧ u2 = u ∧ grp u.1 u.2.1 u.2.2 := by
  rcases h1 with ⟨rfl, v1, rfl⟩ | ⟨rfl, v1, rfl⟩ <;> rcases h2 with ⟨rfl, v2, rfl⟩ | ⟨rfl, v2, rfl⟩
  · exact ⟨rfl, rfl, v1.2.2⟩
  · exact absurd v1 v2
  · exact absurd v2 v1
  · exact ⟨rfl, rfl, hG⟩
set_option maxHeartbeats 4000000 in
theorem law_product {p0 : Program} {l : Launch} {e : Env} {s : State} {m : MethodId} {args : Array Value} {below : List Frame} {meth : Method} {c : Code} {H : Heap} {locs : List Loc} {cells slots : Nat} {Q : State → Prop} {ls : Array Slot} {D : va_G} {b L i h n pl p q g ho hm : Nat} {xs : Nat → Int32} {cA cB cO : ClassId} {f f2 : Nat → Int32} {fo : Nat → Int64} {er : Int32}
    (hfl : l.flags = flags0) (C : CX p0 s args m meth c "ProofDeskLaw" code 7 (some .boolean)) (hex : ex_ok s) (hnc : nc_ok s) (hX : va_X b L xs s s.heap) (hbl : b < s.heap.size) (hL : L ≤ 2560) (hi : i + 5 ≤ L) (hc : cells + 1 ≤ 1031 ∧ slots + 6 ≤ 8416)
    (hK : va_K D cl (T4 cA cB cO) s) (hG : grp p q g) (hP : va_P D cl (W5 h n pl p q g cA cB f f2 ho cO fo hm er p q g) H) (hD : va_D (lA s) (W5 h n pl p q g cA cB f f2 ho cO fo hm er p q g)) (hS : va_S (lA s) s.heap H locs) (hl : lv_has ls 7 [(0, .ref b), (1, .ref h), (2, .ref hm), (3, .ref ho), (4, .int (nI i))])
    (kk : ∀ (p q g : Nat) (f f2 : Nat → Int32) (fo : Nat → Int64) (er : Int32) (H : Heap) (locs : List Loc) (ls : Array Slot), grp p q g → va_P D cl (W5 h n pl p q g cA cB f f2 ho cO fo hm er p q g) H → va_D (lA s) (W5 h n pl p q g cA cB f f2 ho cO fo hm er p q g) → va_S (lA s) s.heap H locs → lv_has ls 7 [(0, .ref b), (1, .ref h), (2, .ref hm), (3, .ref ho), (4, .int (nI i))] → W p0 l e room_1 s m args below meth c H locs (cells + 1) (slots + 6) Q (F0 m 807 ls [])) : W p0 l e room_1 s m args below meth c H locs cells slots Q (F0 m 158 ls []) := by
  obtain ⟨hx, hb, hml, hown, hts, hr, hlk⟩ := id C
  obtain ⟨g5, g31, gq, gqp, ggp, gg2⟩ := hG.nums
  refine lv_aload_n hx hb d_W_158 rfl (lv_at hl 1 rfl) ?_
  refine lv_aload_n hx hb d_W_159 rfl (lv_at hl 0 rfl) ?_
  refine lv_iload hx hb d_W_160 (lv_at hl 4 rfl) ?_
  refine lv_iconst (v := 1) hx hb d_W_162 (by decide) ?_
  refine lv_iadd hx hb d_W_163 ?_
  rw [show (nI i + 1 : Int32) = nI (i + 1) from nI_add i 1]
  refine ls_ld C hX hbl hS (j := i + 1) (by omega) hL d_W_164 ?_
  refine lv_aload_n hx hb d_W_165 rfl (lv_at hl 0 rfl) ?_
  refine lv_iload hx hb d_W_166 (lv_at hl 4 rfl) ?_
  refine lv_iconst (v := 2) hx hb d_W_168 (by decide) ?_
  refine lv_iadd hx hb d_W_169 ?_
  rw [show (nI i + 2 : Int32) = nI (i + 2) from nI_add i 2]
  refine ls_ld C hX hbl hS (j := i + 2) (by omega) hL d_W_170 ?_
  refine lv_aload_n hx hb d_W_171 rfl (lv_at hl 3 rfl) ?_
  refine lz_call (k := 4) C hex hnc hK hP hD hS [.ref h, .int (xs (i + 1)), .int (xs (i + 2)), .ref ho] [] (fun sz => w_product l hfl D hG (xs (i + 1)) (xs (i + 2))) tk_71 tk_72 tk_0 tk_73 (by decide +kernel) rfl hl.1 (Nat.le_of_ble_eq_true rfl) (by decide) hc d_W_172 (fun k1 u1 H locs hw1 hP hD hS => ?_)
  refine lv_istore (lv' := [(5, .int k1), (0, .ref b), (1, .ref h), (2, .ref hm), (3, .ref ho), (4, .int (nI i))]) hx hb d_W_175 hl (Nat.le_of_ble_eq_true rfl) rfl (fun ls hl => ?_)
  refine lv_aload_n hx hb d_W_177 rfl (lv_at hl 3 rfl) ?_
  refine lv_aload_n hx hb d_W_178 rfl (lv_at hl 1 rfl) ?_
  refine lv_iload hx hb d_W_179 (lv_at hl 5 rfl) ?_
  refine lv_iconst (v := 1) hx hb d_W_181 (by decide) ?_
  refine lv_iadd hx hb d_W_182 ?_
  rw [show (nI i + 1 : Int32) = nI (i + 1) from nI_add i 1]
  refine ls_ld C hX hbl hS (j := i + 1) (by omega) hL d_W_183 ?_
  refine lv_aload_n hx hb d_W_184 rfl (lv_at hl 1 rfl) ?_
  refine lv_iload hx hb d_W_185 (lv_at hl 5 rfl) ?_
  refine lv_iconst (v := 2) hx hb d_W_187 (by decide) ?_
  refine lv_iadd hx hb d_W_188 ?_
  rw [show (nI i + 2 : Int32) = nI (i + 2) from nI_add i 2]
  refine ls_ld C hX hbl hS (j := i + 2) (by omega) hL d_W_189 ?_
  refine lm_call C hK hP hD hS [.int (xs (i + 1)), .int (xs (i + 2))] [] (fun sz => m_product l D hG (xs (i + 1)) (xs (i + 2))) vw_L_61 rfl hl.1 (Nat.le_of_ble_eq_true rfl) (by decide) (by omega) d_W_190 (fun b1 er1 H locs hm1 hP hD hS => ?_)
  obtain ⟨he1, he2⟩ := wm_eq hw1 hm1 (fun _ => Nat.lt_trans (Nat.mod_lt _ (show p > 0 by omega)) g31)
  clear hw1 hm1
  refine lv_istore (lv' := [(6, .int b1), (5, .int k1), (0, .ref b), (1, .ref h), (2, .ref hm), (3, .ref ho), (4, .int (nI i))]) hx hb d_W_193 hl (Nat.le_of_ble_eq_true rfl) rfl (fun ls hl => ?_)
  refine lv_aload_n hx hb d_W_195 rfl (lv_at hl 4 rfl) ?_
  refine lt_call C hK hP [] hl.1 (Nat.le_of_ble_eq_true rfl) (by omega) d_W_196 ?_
  refine lv_iload hx hb d_W_199 (lv_at hl 1 rfl) ?_
  refine lv_icmp_eq hx hb d_W_201 rfl (fun h1 => ?_) (fun h1 => ?_)
  · refine lv_iload hx hb d_W_206 (lv_at hl 1 rfl) ?_
    refine lv_if_ne hx hb d_W_208 rfl (fun h2 => ?_) (fun h2 => ?_)
    · refine lv_goto hx hb d_W_223 rfl ?_
      have hl := lv_sub hl [2, 3, 4, 5, 6] rfl
      have hl : lv_has ls 7 [(0, .ref b), (1, .ref h), (2, .ref hm), (3, .ref ho), (4, .int (nI i))] := hl
      exact kk _ _ _ _ _ _ _ _ _ _ hG hP hD hS hl
    · refine lv_aload_n hx hb d_W_211 rfl (lv_at hl 5 rfl) ?_
      refine lv_iconst (v := 0) hx hb d_W_212 (by decide) ?_
      refine va_lald (D := D) hx hb hK hP 3 2 (cA := cO) (n := 1) (f := u1.2.2) rfl rfl (i := 0) in01 d_W_213 ?_
      refine lv_iload hx hb d_W_214 (lv_at hl 0 rfl) ?_
      refine lv_i2l hx hb d_W_216 (rfl) ?_
      refine W.lcmp hx hb d_W_217 ?_
      refine lv_if_eq hx hb d_W_218 rfl (fun h3 => ?_) (fun h3 => ?_)
      · refine lv_goto hx hb d_W_223 rfl ?_
        have hl := lv_sub hl [2, 3, 4, 5, 6] rfl
        have hl : lv_has ls 7 [(0, .ref b), (1, .ref h), (2, .ref hm), (3, .ref ho), (4, .int (nI i))] := hl
        exact kk _ _ _ _ _ _ _ _ _ _ hG hP hD hS hl
      · exact absurd (cmp_eq (he2 h2)) h3
  · exact absurd he1 h1
set_option maxHeartbeats 4000000 in
theorem law_power {p0 : Program} {l : Launch} {e : Env} {s : State} {m : MethodId} {args : Array Value} {below : List Frame} {meth : Method} {c : Code} {H : Heap} {locs : List Loc} {cells slots : Nat} {Q : State → Prop} {ls : Array Slot} {D : va_G} {b L i h n pl p q g ho hm : Nat} {xs : Nat → Int32} {cA cB cO : ClassId} {f f2 : Nat → Int32} {fo : Nat → Int64} {er : Int32}
    (hfl : l.flags = flags0) (C : CX p0 s args m meth c "ProofDeskLaw" code 7 (some .boolean)) (hex : ex_ok s) (hnc : nc_ok s) (hX : va_X b L xs s s.heap) (hbl : b < s.heap.size) (hL : L ≤ 2560) (hi : i + 5 ≤ L) (hc : cells + 1 ≤ 1031 ∧ slots + 6 ≤ 8416)
    (hK : va_K D cl (T4 cA cB cO) s) (hG : grp p q g) (hP : va_P D cl (W5 h n pl p q g cA cB f f2 ho cO fo hm er p q g) H) (hD : va_D (lA s) (W5 h n pl p q g cA cB f f2 ho cO fo hm er p q g)) (hS : va_S (lA s) s.heap H locs) (hl : lv_has ls 7 [(0, .ref b), (1, .ref h), (2, .ref hm), (3, .ref ho), (4, .int (nI i))])
    (kk : ∀ (p q g : Nat) (f f2 : Nat → Int32) (fo : Nat → Int64) (er : Int32) (H : Heap) (locs : List Loc) (ls : Array Slot), grp p q g → va_P D cl (W5 h n pl p q g cA cB f f2 ho cO fo hm er p q g) H → va_D (lA s) (W5 h n pl p q g cA cB f f2 ho cO fo hm er p q g) → va_S (lA s) s.heap H locs → lv_has ls 7 [(0, .ref b), (1, .ref h), (2, .ref hm), (3, .ref ho), (4, .int (nI i))] → W p0 l e room_1 s m args below meth c H locs (cells + 1) (slots + 6) Q (F0 m 807 ls [])) : W p0 l e room_1 s m args below meth c H locs cells slots Q (F0 m 226 ls []) := by
  obtain ⟨hx, hb, hml, hown, hts, hr, hlk⟩ := id C
  obtain ⟨g5, g31, gq, gqp, ggp, gg2⟩ := hG.nums
  refine lv_aload_n hx hb d_W_226 rfl (lv_at hl 1 rfl) ?_
  refine lv_aload_n hx hb d_W_227 rfl (lv_at hl 0 rfl) ?_
  refine lv_iload hx hb d_W_228 (lv_at hl 4 rfl) ?_
  refine lv_iconst (v := 1) hx hb d_W_230 (by decide) ?_
  refine lv_iadd hx hb d_W_231 ?_
  rw [show (nI i + 1 : Int32) = nI (i + 1) from nI_add i 1]
  refine ls_ld C hX hbl hS (j := i + 1) (by omega) hL d_W_232 ?_
  refine lv_aload_n hx hb d_W_233 rfl (lv_at hl 0 rfl) ?_
  refine lv_iload hx hb d_W_234 (lv_at hl 4 rfl) ?_
  refine lv_iconst (v := 2) hx hb d_W_236 (by decide) ?_
  refine lv_iadd hx hb d_W_237 ?_
  rw [show (nI i + 2 : Int32) = nI (i + 2) from nI_add i 2]
  refine ls_ld C hX hbl hS (j := i + 2) (by omega) hL d_W_238 ?_
  refine lv_i2l hx hb d_W_239 (rfl) ?_
  refine lv_bipush (v := 32) hx hb d_W_240 (by decide) ?_
  refine lv_lshl (v := ((xs (i + 2)).toInt64) <<< ((32 : Int32).toInt64 &&& 63)) hx hb d_W_242 (rfl) ?_
  refine lv_aload_n hx hb d_W_243 rfl (lv_at hl 0 rfl) ?_
  refine lv_iload hx hb d_W_244 (lv_at hl 4 rfl) ?_
  refine lv_iconst (v := 3) hx hb d_W_246 (by decide) ?_
  refine lv_iadd hx hb d_W_247 ?_
  rw [show (nI i + 3 : Int32) = nI (i + 3) from nI_add i 3]
  refine ls_ld C hX hbl hS (j := i + 3) (by omega) hL d_W_248 ?_
  refine lv_i2l hx hb d_W_249 (rfl) ?_
  refine lv_ldc2 hx hb hown (hts _ tk_316) d_W_250 ?_
  refine lv_land hx hb d_W_253 ?_
  refine lv_lor hx hb d_W_254 ?_
  refine lv_aload_n hx hb d_W_255 rfl (lv_at hl 3 rfl) ?_
  refine lz_call (k := 4) C hex hnc hK hP hD hS [.ref h, .int (xs (i + 1)), .long ((((xs (i + 2)).toInt64) <<< ((32 : Int32).toInt64 &&& 63)) ||| (((xs (i + 3)).toInt64) &&& 4294967295)), .ref ho] [] (fun sz => w_power l hfl D hG (xs (i + 1)) ((((xs (i + 2)).toInt64) <<< ((32 : Int32).toInt64 &&& 63)) ||| (((xs (i + 3)).toInt64) &&& 4294967295))) tk_144 tk_145 tk_0 tk_146 (by decide +kernel) rfl hl.1 (Nat.le_of_ble_eq_true rfl) (by decide) hc d_W_256 (fun k1 u1 H locs hw1 hP hD hS => ?_)
  refine lv_istore (lv' := [(5, .int k1), (0, .ref b), (1, .ref h), (2, .ref hm), (3, .ref ho), (4, .int (nI i))]) hx hb d_W_259 hl (Nat.le_of_ble_eq_true rfl) rfl (fun ls hl => ?_)
  refine lv_aload_n hx hb d_W_261 rfl (lv_at hl 3 rfl) ?_
  refine lv_aload_n hx hb d_W_262 rfl (lv_at hl 1 rfl) ?_
  refine lv_iload hx hb d_W_263 (lv_at hl 5 rfl) ?_
  refine lv_iconst (v := 1) hx hb d_W_265 (by decide) ?_
  refine lv_iadd hx hb d_W_266 ?_
  rw [show (nI i + 1 : Int32) = nI (i + 1) from nI_add i 1]
  refine ls_ld C hX hbl hS (j := i + 1) (by omega) hL d_W_267 ?_
  refine lv_aload_n hx hb d_W_268 rfl (lv_at hl 1 rfl) ?_
  refine lv_iload hx hb d_W_269 (lv_at hl 5 rfl) ?_
  refine lv_iconst (v := 2) hx hb d_W_271 (by decide) ?_
  refine lv_iadd hx hb d_W_272 ?_
  rw [show (nI i + 2 : Int32) = nI (i + 2) from nI_add i 2]
  refine ls_ld C hX hbl hS (j := i + 2) (by omega) hL d_W_273 ?_
  refine lv_i2l hx hb d_W_274 (rfl) ?_
  refine lv_bipush (v := 32) hx hb d_W_275 (by decide) ?_
  refine lv_lshl (v := ((xs (i + 2)).toInt64) <<< ((32 : Int32).toInt64 &&& 63)) hx hb d_W_277 (rfl) ?_
  refine lv_aload_n hx hb d_W_278 rfl (lv_at hl 1 rfl) ?_
  refine lv_iload hx hb d_W_279 (lv_at hl 5 rfl) ?_
  refine lv_iconst (v := 3) hx hb d_W_281 (by decide) ?_
  refine lv_iadd hx hb d_W_282 ?_
  rw [show (nI i + 3 : Int32) = nI (i + 3) from nI_add i 3]
  refine ls_ld C hX hbl hS (j := i + 3) (by omega) hL d_W_283 ?_
  refine lv_i2l hx hb d_W_284 (rfl) ?_
  refine lv_ldc2 hx hb hown (hts _ tk_316) d_W_285 ?_
  refine lv_land hx hb d_W_288 ?_
  refine lv_lor hx hb d_W_289 ?_
  refine lm_call C hK hP hD hS [.int (xs (i + 1)), .long ((((xs (i + 2)).toInt64) <<< ((32 : Int32).toInt64 &&& 63)) ||| (((xs (i + 3)).toInt64) &&& 4294967295))] [] (fun sz => m_powV l D hG (xs (i + 1)) ((((xs (i + 2)).toInt64) <<< ((32 : Int32).toInt64 &&& 63)) ||| (((xs (i + 3)).toInt64) &&& 4294967295))) vw_L_71 rfl hl.1 (Nat.le_of_ble_eq_true rfl) (by decide) (by omega) d_W_290 (fun b1 er1 H locs hm1 hP hD hS => ?_)
  obtain ⟨he1, he2⟩ := wm_eq hw1 hm1 (fun _ => Nat.lt_trans (Nat.mod_lt _ (show p > 0 by omega)) g31)
  clear hw1 hm1
  refine lv_istore (lv' := [(6, .int b1), (5, .int k1), (0, .ref b), (1, .ref h), (2, .ref hm), (3, .ref ho), (4, .int (nI i))]) hx hb d_W_293 hl (Nat.le_of_ble_eq_true rfl) rfl (fun ls hl => ?_)
  refine lv_aload_n hx hb d_W_295 rfl (lv_at hl 4 rfl) ?_
  refine lt_call C hK hP [] hl.1 (Nat.le_of_ble_eq_true rfl) (by omega) d_W_296 ?_
  refine lv_iload hx hb d_W_299 (lv_at hl 1 rfl) ?_
  refine lv_icmp_eq hx hb d_W_301 rfl (fun h1 => ?_) (fun h1 => ?_)
  · refine lv_iload hx hb d_W_306 (lv_at hl 1 rfl) ?_
    refine lv_if_ne hx hb d_W_308 rfl (fun h2 => ?_) (fun h2 => ?_)
    · refine lv_goto hx hb d_W_323 rfl ?_
      have hl := lv_sub hl [2, 3, 4, 5, 6] rfl
      have hl : lv_has ls 7 [(0, .ref b), (1, .ref h), (2, .ref hm), (3, .ref ho), (4, .int (nI i))] := hl
      exact kk _ _ _ _ _ _ _ _ _ _ hG hP hD hS hl
    · refine lv_aload_n hx hb d_W_311 rfl (lv_at hl 5 rfl) ?_
      refine lv_iconst (v := 0) hx hb d_W_312 (by decide) ?_
      refine va_lald (D := D) hx hb hK hP 3 2 (cA := cO) (n := 1) (f := u1.2.2) rfl rfl (i := 0) in01 d_W_313 ?_
      refine lv_iload hx hb d_W_314 (lv_at hl 0 rfl) ?_
      refine lv_i2l hx hb d_W_316 (rfl) ?_
      refine W.lcmp hx hb d_W_317 ?_
      refine lv_if_eq hx hb d_W_318 rfl (fun h3 => ?_) (fun h3 => ?_)
      · refine lv_goto hx hb d_W_323 rfl ?_
        have hl := lv_sub hl [2, 3, 4, 5, 6] rfl
        have hl : lv_has ls 7 [(0, .ref b), (1, .ref h), (2, .ref hm), (3, .ref ho), (4, .int (nI i))] := hl
        exact kk _ _ _ _ _ _ _ _ _ _ hG hP hD hS hl
      · exact absurd (cmp_eq (he2 h2)) h3
  · exact absurd he1 h1
set_option maxHeartbeats 4000000 in
theorem law_inverse {p0 : Program} {l : Launch} {e : Env} {s : State} {m : MethodId} {args : Array Value} {below : List Frame} {meth : Method} {c : Code} {H : Heap} {locs : List Loc} {cells slots : Nat} {Q : State → Prop} {ls : Array Slot} {D : va_G} {b L i h n pl p q g ho hm : Nat} {xs : Nat → Int32} {cA cB cO : ClassId} {f f2 : Nat → Int32} {fo : Nat → Int64} {er : Int32}
    (hfl : l.flags = flags0) (C : CX p0 s args m meth c "ProofDeskLaw" code 7 (some .boolean)) (hex : ex_ok s) (hnc : nc_ok s) (hX : va_X b L xs s s.heap) (hbl : b < s.heap.size) (hL : L ≤ 2560) (hi : i + 5 ≤ L) (hc : cells + 1 ≤ 1031 ∧ slots + 6 ≤ 8416)
    (hK : va_K D cl (T4 cA cB cO) s) (hG : grp p q g) (hP : va_P D cl (W5 h n pl p q g cA cB f f2 ho cO fo hm er p q g) H) (hD : va_D (lA s) (W5 h n pl p q g cA cB f f2 ho cO fo hm er p q g)) (hS : va_S (lA s) s.heap H locs) (hl : lv_has ls 7 [(0, .ref b), (1, .ref h), (2, .ref hm), (3, .ref ho), (4, .int (nI i))])
    (kk : ∀ (p q g : Nat) (f f2 : Nat → Int32) (fo : Nat → Int64) (er : Int32) (H : Heap) (locs : List Loc) (ls : Array Slot), grp p q g → va_P D cl (W5 h n pl p q g cA cB f f2 ho cO fo hm er p q g) H → va_D (lA s) (W5 h n pl p q g cA cB f f2 ho cO fo hm er p q g) → va_S (lA s) s.heap H locs → lv_has ls 7 [(0, .ref b), (1, .ref h), (2, .ref hm), (3, .ref ho), (4, .int (nI i))] → W p0 l e room_1 s m args below meth c H locs (cells + 1) (slots + 6) Q (F0 m 807 ls [])) : W p0 l e room_1 s m args below meth c H locs cells slots Q (F0 m 326 ls []) := by
  obtain ⟨hx, hb, hml, hown, hts, hr, hlk⟩ := id C
  obtain ⟨g5, g31, gq, gqp, ggp, gg2⟩ := hG.nums
  refine lv_aload_n hx hb d_W_326 rfl (lv_at hl 1 rfl) ?_
  refine lv_aload_n hx hb d_W_327 rfl (lv_at hl 0 rfl) ?_
  refine lv_iload hx hb d_W_328 (lv_at hl 4 rfl) ?_
  refine lv_iconst (v := 1) hx hb d_W_330 (by decide) ?_
  refine lv_iadd hx hb d_W_331 ?_
  rw [show (nI i + 1 : Int32) = nI (i + 1) from nI_add i 1]
  refine ls_ld C hX hbl hS (j := i + 1) (by omega) hL d_W_332 ?_
  refine lv_aload_n hx hb d_W_333 rfl (lv_at hl 3 rfl) ?_
  refine lz_call (k := 3) C hex hnc hK hP hD hS [.ref h, .int (xs (i + 1)), .ref ho] [] (fun sz => w_inverse l hfl D hG (xs (i + 1))) tk_151 tk_152 tk_0 tk_153 (by decide +kernel) rfl hl.1 (Nat.le_of_ble_eq_true rfl) (by decide) hc d_W_334 (fun k1 u1 H locs hw1 hP hD hS => ?_)
  refine lv_istore (lv' := [(5, .int k1), (0, .ref b), (1, .ref h), (2, .ref hm), (3, .ref ho), (4, .int (nI i))]) hx hb d_W_337 hl (Nat.le_of_ble_eq_true rfl) rfl (fun ls hl => ?_)
  refine lv_aload_n hx hb d_W_339 rfl (lv_at hl 3 rfl) ?_
  refine lv_aload_n hx hb d_W_340 rfl (lv_at hl 1 rfl) ?_
  refine lv_iload hx hb d_W_341 (lv_at hl 5 rfl) ?_
  refine lv_iconst (v := 1) hx hb d_W_343 (by decide) ?_
  refine lv_iadd hx hb d_W_344 ?_
  rw [show (nI i + 1 : Int32) = nI (i + 1) from nI_add i 1]
  refine ls_ld C hX hbl hS (j := i + 1) (by omega) hL d_W_345 ?_
  refine lm_call C hK hP hD hS [.int (xs (i + 1))] [] (fun sz => m_invV l D hG (xs (i + 1))) vw_L_75 rfl hl.1 (Nat.le_of_ble_eq_true rfl) (by decide) (by omega) d_W_346 (fun b1 er1 H locs hm1 hP hD hS => ?_)
  obtain ⟨he1, he2⟩ := wm_eq hw1 hm1 (fun _ => Nat.lt_trans (inv_lt (show 0 < p by omega)) g31)
  clear hw1 hm1
  refine lv_istore (lv' := [(6, .int b1), (5, .int k1), (0, .ref b), (1, .ref h), (2, .ref hm), (3, .ref ho), (4, .int (nI i))]) hx hb d_W_349 hl (Nat.le_of_ble_eq_true rfl) rfl (fun ls hl => ?_)
  refine lv_aload_n hx hb d_W_351 rfl (lv_at hl 4 rfl) ?_
  refine lt_call C hK hP [] hl.1 (Nat.le_of_ble_eq_true rfl) (by omega) d_W_352 ?_
  refine lv_iload hx hb d_W_355 (lv_at hl 1 rfl) ?_
  refine lv_icmp_eq hx hb d_W_357 rfl (fun h1 => ?_) (fun h1 => ?_)
  · refine lv_iload hx hb d_W_362 (lv_at hl 1 rfl) ?_
    refine lv_if_ne hx hb d_W_364 rfl (fun h2 => ?_) (fun h2 => ?_)
    · refine lv_goto hx hb d_W_379 rfl ?_
      have hl := lv_sub hl [2, 3, 4, 5, 6] rfl
      have hl : lv_has ls 7 [(0, .ref b), (1, .ref h), (2, .ref hm), (3, .ref ho), (4, .int (nI i))] := hl
      exact kk _ _ _ _ _ _ _ _ _ _ hG hP hD hS hl
    · refine lv_aload_n hx hb d_W_367 rfl (lv_at hl 5 rfl) ?_
      refine lv_iconst (v := 0) hx hb d_W_368 (by decide) ?_
      refine va_lald (D := D) hx hb hK hP 3 2 (cA := cO) (n := 1) (f := u1.2.2) rfl rfl (i := 0) in01 d_W_369 ?_
      refine lv_iload hx hb d_W_370 (lv_at hl 0 rfl) ?_
      refine lv_i2l hx hb d_W_372 (rfl) ?_
      refine W.lcmp hx hb d_W_373 ?_
      refine lv_if_eq hx hb d_W_374 rfl (fun h3 => ?_) (fun h3 => ?_)
      · refine lv_goto hx hb d_W_379 rfl ?_
        have hl := lv_sub hl [2, 3, 4, 5, 6] rfl
        have hl : lv_has ls 7 [(0, .ref b), (1, .ref h), (2, .ref hm), (3, .ref ho), (4, .int (nI i))] := hl
        exact kk _ _ _ _ _ _ _ _ _ _ hG hP hD hS hl
      · exact absurd (cmp_eq (he2 h2)) h3
  · exact absurd he1 h1
set_option maxHeartbeats 4000000 in
theorem law_log {p0 : Program} {l : Launch} {e : Env} {s : State} {m : MethodId} {args : Array Value} {below : List Frame} {meth : Method} {c : Code} {H : Heap} {locs : List Loc} {cells slots : Nat} {Q : State → Prop} {ls : Array Slot} {D : va_G} {b L i h n pl p q g ho hm : Nat} {xs : Nat → Int32} {cA cB cO : ClassId} {f f2 : Nat → Int32} {fo : Nat → Int64} {er : Int32}
    (hfl : l.flags = flags0) (C : CX p0 s args m meth c "ProofDeskLaw" code 7 (some .boolean)) (hex : ex_ok s) (hnc : nc_ok s) (hX : va_X b L xs s s.heap) (hbl : b < s.heap.size) (hL : L ≤ 2560) (hi : i + 5 ≤ L) (hc : cells + 1 ≤ 1031 ∧ slots + 6 ≤ 8416)
    (hK : va_K D cl (T4 cA cB cO) s) (hG : grp p q g) (hP : va_P D cl (W5 h n pl p q g cA cB f f2 ho cO fo hm er p q g) H) (hD : va_D (lA s) (W5 h n pl p q g cA cB f f2 ho cO fo hm er p q g)) (hS : va_S (lA s) s.heap H locs) (hl : lv_has ls 7 [(0, .ref b), (1, .ref h), (2, .ref hm), (3, .ref ho), (4, .int (nI i))])
    (kk : ∀ (p q g : Nat) (f f2 : Nat → Int32) (fo : Nat → Int64) (er : Int32) (H : Heap) (locs : List Loc) (ls : Array Slot), grp p q g → va_P D cl (W5 h n pl p q g cA cB f f2 ho cO fo hm er p q g) H → va_D (lA s) (W5 h n pl p q g cA cB f f2 ho cO fo hm er p q g) → va_S (lA s) s.heap H locs → lv_has ls 7 [(0, .ref b), (1, .ref h), (2, .ref hm), (3, .ref ho), (4, .int (nI i))] → W p0 l e room_1 s m args below meth c H locs (cells + 1) (slots + 6) Q (F0 m 807 ls [])) : W p0 l e room_1 s m args below meth c H locs cells slots Q (F0 m 382 ls []) := by
  obtain ⟨hx, hb, hml, hown, hts, hr, hlk⟩ := id C
  obtain ⟨g5, g31, gq, gqp, ggp, gg2⟩ := hG.nums
  refine lv_aload_n hx hb d_W_382 rfl (lv_at hl 1 rfl) ?_
  refine lv_aload_n hx hb d_W_383 rfl (lv_at hl 0 rfl) ?_
  refine lv_iload hx hb d_W_384 (lv_at hl 4 rfl) ?_
  refine lv_iconst (v := 1) hx hb d_W_386 (by decide) ?_
  refine lv_iadd hx hb d_W_387 ?_
  rw [show (nI i + 1 : Int32) = nI (i + 1) from nI_add i 1]
  refine ls_ld C hX hbl hS (j := i + 1) (by omega) hL d_W_388 ?_
  refine lv_aload_n hx hb d_W_389 rfl (lv_at hl 3 rfl) ?_
  refine lz_call (k := 3) C hex hnc hK hP hD hS [.ref h, .int (xs (i + 1)), .ref ho] [] (fun sz => w_log l hfl D hG (xs (i + 1))) tk_164 tk_165 tk_0 tk_166 (by decide +kernel) rfl hl.1 (Nat.le_of_ble_eq_true rfl) (by decide) hc d_W_390 (fun k1 u1 H locs hw1 hP hD hS => ?_)
  refine lv_istore (lv' := [(5, .int k1), (0, .ref b), (1, .ref h), (2, .ref hm), (3, .ref ho), (4, .int (nI i))]) hx hb d_W_393 hl (Nat.le_of_ble_eq_true rfl) rfl (fun ls hl => ?_)
  refine lv_aload_n hx hb d_W_395 rfl (lv_at hl 3 rfl) ?_
  refine lv_aload_n hx hb d_W_396 rfl (lv_at hl 1 rfl) ?_
  refine lv_iload hx hb d_W_397 (lv_at hl 5 rfl) ?_
  refine lv_iconst (v := 1) hx hb d_W_399 (by decide) ?_
  refine lv_iadd hx hb d_W_400 ?_
  rw [show (nI i + 1 : Int32) = nI (i + 1) from nI_add i 1]
  refine ls_ld C hX hbl hS (j := i + 1) (by omega) hL d_W_401 ?_
  refine lm_call C hK hP hD hS [.int (xs (i + 1))] [] (fun sz => m_log l D hG (xs (i + 1))) vw_L_78 rfl hl.1 (Nat.le_of_ble_eq_true rfl) (by decide) (by omega) d_W_402 (fun b1 er1 H locs hm1 hP hD hS => ?_)
  obtain ⟨he1, he2⟩ := wm_log hG hw1 hm1
  clear hw1 hm1
  refine lv_istore (lv' := [(6, .int b1), (5, .int k1), (0, .ref b), (1, .ref h), (2, .ref hm), (3, .ref ho), (4, .int (nI i))]) hx hb d_W_405 hl (Nat.le_of_ble_eq_true rfl) rfl (fun ls hl => ?_)
  refine lv_aload_n hx hb d_W_407 rfl (lv_at hl 4 rfl) ?_
  refine lt_call C hK hP [] hl.1 (Nat.le_of_ble_eq_true rfl) (by omega) d_W_408 ?_
  refine lv_iload hx hb d_W_411 (lv_at hl 1 rfl) ?_
  refine lv_icmp_eq hx hb d_W_413 rfl (fun h1 => ?_) (fun h1 => ?_)
  · refine lv_iload hx hb d_W_418 (lv_at hl 1 rfl) ?_
    refine lv_if_ne hx hb d_W_420 rfl (fun h2 => ?_) (fun h2 => ?_)
    · refine lv_goto hx hb d_W_435 rfl ?_
      have hl := lv_sub hl [2, 3, 4, 5, 6] rfl
      have hl : lv_has ls 7 [(0, .ref b), (1, .ref h), (2, .ref hm), (3, .ref ho), (4, .int (nI i))] := hl
      exact kk _ _ _ _ _ _ _ _ _ _ hG hP hD hS hl
    · refine lv_aload_n hx hb d_W_423 rfl (lv_at hl 5 rfl) ?_
      refine lv_iconst (v := 0) hx hb d_W_424 (by decide) ?_
      refine va_lald (D := D) hx hb hK hP 3 2 (cA := cO) (n := 1) (f := u1.2.2) rfl rfl (i := 0) in01 d_W_425 ?_
      refine lv_iload hx hb d_W_426 (lv_at hl 0 rfl) ?_
      refine lv_i2l hx hb d_W_428 (rfl) ?_
      refine W.lcmp hx hb d_W_429 ?_
      refine lv_if_eq hx hb d_W_430 rfl (fun h3 => ?_) (fun h3 => ?_)
      · refine lv_goto hx hb d_W_435 rfl ?_
        have hl := lv_sub hl [2, 3, 4, 5, 6] rfl
        have hl : lv_has ls 7 [(0, .ref b), (1, .ref h), (2, .ref hm), (3, .ref ho), (4, .int (nI i))] := hl
        exact kk _ _ _ _ _ _ _ _ _ _ hG hP hD hS hl
      · exact absurd (cmp_eq (he2 h2)) h3
  · exact absurd he1 h1
set_option maxHeartbeats 4000000 in
theorem law_answer {p0 : Program} {l : Launch} {e : Env} {s : State} {m : MethodId} {args : Array Value} {below : List Frame} {meth : Method} {c : Code} {H : Heap} {locs : List Loc} {cells slots : Nat} {Q : State → Prop} {ls : Array Slot} {D : va_G} {b L i h n pl p q g ho hm : Nat} {xs : Nat → Int32} {cA cB cO : ClassId} {f f2 : Nat → Int32} {fo : Nat → Int64} {er : Int32}
    (hfl : l.flags = flags0) (C : CX p0 s args m meth c "ProofDeskLaw" code 7 (some .boolean)) (hex : ex_ok s) (hnc : nc_ok s) (hX : va_X b L xs s s.heap) (hbl : b < s.heap.size) (hL : L ≤ 2560) (hi : i + 5 ≤ L) (hc : cells + 1 ≤ 1031 ∧ slots + 6 ≤ 8416)
    (hK : va_K D cl (T4 cA cB cO) s) (hG : grp p q g) (hP : va_P D cl (W5 h n pl p q g cA cB f f2 ho cO fo hm er p q g) H) (hD : va_D (lA s) (W5 h n pl p q g cA cB f f2 ho cO fo hm er p q g)) (hS : va_S (lA s) s.heap H locs) (hl : lv_has ls 7 [(0, .ref b), (1, .ref h), (2, .ref hm), (3, .ref ho), (4, .int (nI i))])
    (kk : ∀ (p q g : Nat) (f f2 : Nat → Int32) (fo : Nat → Int64) (er : Int32) (H : Heap) (locs : List Loc) (ls : Array Slot), grp p q g → va_P D cl (W5 h n pl p q g cA cB f f2 ho cO fo hm er p q g) H → va_D (lA s) (W5 h n pl p q g cA cB f f2 ho cO fo hm er p q g) → va_S (lA s) s.heap H locs → lv_has ls 7 [(0, .ref b), (1, .ref h), (2, .ref hm), (3, .ref ho), (4, .int (nI i))] → W p0 l e room_1 s m args below meth c H locs (cells + 1) (slots + 6) Q (F0 m 807 ls [])) : W p0 l e room_1 s m args below meth c H locs cells slots Q (F0 m 499 ls []) := by
  obtain ⟨hx, hb, hml, hown, hts, hr, hlk⟩ := id C
  obtain ⟨g5, g31, gq, gqp, ggp, gg2⟩ := hG.nums
  refine lv_aload_n hx hb d_W_499 rfl (lv_at hl 1 rfl) ?_
  refine lv_aload_n hx hb d_W_500 rfl (lv_at hl 0 rfl) ?_
  refine lv_iload hx hb d_W_501 (lv_at hl 4 rfl) ?_
  refine lv_iconst (v := 1) hx hb d_W_503 (by decide) ?_
  refine lv_iadd hx hb d_W_504 ?_
  rw [show (nI i + 1 : Int32) = nI (i + 1) from nI_add i 1]
  refine ls_ld C hX hbl hS (j := i + 1) (by omega) hL d_W_505 ?_
  refine lv_aload_n hx hb d_W_506 rfl (lv_at hl 0 rfl) ?_
  refine lv_iload hx hb d_W_507 (lv_at hl 4 rfl) ?_
  refine lv_iconst (v := 2) hx hb d_W_509 (by decide) ?_
  refine lv_iadd hx hb d_W_510 ?_
  rw [show (nI i + 2 : Int32) = nI (i + 2) from nI_add i 2]
  refine ls_ld C hX hbl hS (j := i + 2) (by omega) hL d_W_511 ?_
  refine lv_aload_n hx hb d_W_512 rfl (lv_at hl 0 rfl) ?_
  refine lv_iload hx hb d_W_513 (lv_at hl 4 rfl) ?_
  refine lv_iconst (v := 3) hx hb d_W_515 (by decide) ?_
  refine lv_iadd hx hb d_W_516 ?_
  rw [show (nI i + 3 : Int32) = nI (i + 3) from nI_add i 3]
  refine ls_ld C hX hbl hS (j := i + 3) (by omega) hL d_W_517 ?_
  refine lv_aload_n hx hb d_W_518 rfl (lv_at hl 3 rfl) ?_
  refine lz_call (k := 5) C hex hnc hK hP hD hS [.ref h, .int (xs (i + 1)), .int (xs (i + 2)), .int (xs (i + 3)), .ref ho] [] (fun sz => w_answer l hfl D hG (xs (i + 1)) (xs (i + 2)) (xs (i + 3))) tk_194 tk_195 tk_0 tk_196 (by decide +kernel) rfl hl.1 (Nat.le_of_ble_eq_true rfl) (by decide) hc d_W_519 (fun k1 u1 H locs hw1 hP hD hS => ?_)
  refine lv_istore (lv' := [(5, .int k1), (0, .ref b), (1, .ref h), (2, .ref hm), (3, .ref ho), (4, .int (nI i))]) hx hb d_W_522 hl (Nat.le_of_ble_eq_true rfl) rfl (fun ls hl => ?_)
  refine lv_aload_n hx hb d_W_524 rfl (lv_at hl 3 rfl) ?_
  refine lv_aload_n hx hb d_W_525 rfl (lv_at hl 1 rfl) ?_
  refine lv_iload hx hb d_W_526 (lv_at hl 5 rfl) ?_
  refine lv_iconst (v := 1) hx hb d_W_528 (by decide) ?_
  refine lv_iadd hx hb d_W_529 ?_
  rw [show (nI i + 1 : Int32) = nI (i + 1) from nI_add i 1]
  refine ls_ld C hX hbl hS (j := i + 1) (by omega) hL d_W_530 ?_
  refine lv_aload_n hx hb d_W_531 rfl (lv_at hl 1 rfl) ?_
  refine lv_iload hx hb d_W_532 (lv_at hl 5 rfl) ?_
  refine lv_iconst (v := 2) hx hb d_W_534 (by decide) ?_
  refine lv_iadd hx hb d_W_535 ?_
  rw [show (nI i + 2 : Int32) = nI (i + 2) from nI_add i 2]
  refine ls_ld C hX hbl hS (j := i + 2) (by omega) hL d_W_536 ?_
  refine lv_aload_n hx hb d_W_537 rfl (lv_at hl 1 rfl) ?_
  refine lv_iload hx hb d_W_538 (lv_at hl 5 rfl) ?_
  refine lv_iconst (v := 3) hx hb d_W_540 (by decide) ?_
  refine lv_iadd hx hb d_W_541 ?_
  rw [show (nI i + 3 : Int32) = nI (i + 3) from nI_add i 3]
  refine ls_ld C hX hbl hS (j := i + 3) (by omega) hL d_W_542 ?_
  refine lm_call C hK hP hD hS [.int (xs (i + 1)), .int (xs (i + 2)), .int (xs (i + 3))] [] (fun sz => m_answer l D hG (xs (i + 1)) (xs (i + 2)) (xs (i + 3))) vw_L_87 rfl hl.1 (Nat.le_of_ble_eq_true rfl) (by decide) (by omega) d_W_543 (fun b1 er1 H locs hm1 hP hD hS => ?_)
  obtain ⟨he1, he2⟩ := wm_eq hw1 hm1 (fun _ => Nat.lt_trans (Nat.mod_lt _ (show q > 0 by omega)) (show q < 2 ^ 31 by omega))
  clear hw1 hm1
  refine lv_istore (lv' := [(6, .int b1), (5, .int k1), (0, .ref b), (1, .ref h), (2, .ref hm), (3, .ref ho), (4, .int (nI i))]) hx hb d_W_546 hl (Nat.le_of_ble_eq_true rfl) rfl (fun ls hl => ?_)
  refine lv_aload_n hx hb d_W_548 rfl (lv_at hl 4 rfl) ?_
  refine lt_call C hK hP [] hl.1 (Nat.le_of_ble_eq_true rfl) (by omega) d_W_549 ?_
  refine lv_iload hx hb d_W_552 (lv_at hl 1 rfl) ?_
  refine lv_icmp_eq hx hb d_W_554 rfl (fun h1 => ?_) (fun h1 => ?_)
  · refine lv_iload hx hb d_W_559 (lv_at hl 1 rfl) ?_
    refine lv_if_ne hx hb d_W_561 rfl (fun h2 => ?_) (fun h2 => ?_)
    · refine lv_goto hx hb d_W_576 rfl ?_
      have hl := lv_sub hl [2, 3, 4, 5, 6] rfl
      have hl : lv_has ls 7 [(0, .ref b), (1, .ref h), (2, .ref hm), (3, .ref ho), (4, .int (nI i))] := hl
      exact kk _ _ _ _ _ _ _ _ _ _ hG hP hD hS hl
    · refine lv_aload_n hx hb d_W_564 rfl (lv_at hl 5 rfl) ?_
      refine lv_iconst (v := 0) hx hb d_W_565 (by decide) ?_
      refine va_lald (D := D) hx hb hK hP 3 2 (cA := cO) (n := 1) (f := u1.2.2) rfl rfl (i := 0) in01 d_W_566 ?_
      refine lv_iload hx hb d_W_567 (lv_at hl 0 rfl) ?_
      refine lv_i2l hx hb d_W_569 (rfl) ?_
      refine W.lcmp hx hb d_W_570 ?_
      refine lv_if_eq hx hb d_W_571 rfl (fun h3 => ?_) (fun h3 => ?_)
      · refine lv_goto hx hb d_W_576 rfl ?_
        have hl := lv_sub hl [2, 3, 4, 5, 6] rfl
        have hl : lv_has ls 7 [(0, .ref b), (1, .ref h), (2, .ref hm), (3, .ref ho), (4, .int (nI i))] := hl
        exact kk _ _ _ _ _ _ _ _ _ _ hG hP hD hS hl
      · exact absurd (cmp_eq (he2 h2)) h3
  · exact absurd he1 h1
set_option maxHeartbeats 4000000 in
theorem law_feign {p0 : Program} {l : Launch} {e : Env} {s : State} {m : MethodId} {args : Array Value} {below : List Frame} {meth : Method} {c : Code} {H : Heap} {locs : List Loc} {cells slots : Nat} {Q : State → Prop} {ls : Array Slot} {D : va_G} {b L i h n pl p q g ho hm : Nat} {xs : Nat → Int32} {cA cB cO : ClassId} {f f2 : Nat → Int32} {fo : Nat → Int64} {er : Int32}
    (hfl : l.flags = flags0) (C : CX p0 s args m meth c "ProofDeskLaw" code 7 (some .boolean)) (hex : ex_ok s) (hnc : nc_ok s) (hX : va_X b L xs s s.heap) (hbl : b < s.heap.size) (hL : L ≤ 2560) (hi : i + 5 ≤ L) (hc : cells + 1 ≤ 1031 ∧ slots + 6 ≤ 8416)
    (hK : va_K D cl (T4 cA cB cO) s) (hG : grp p q g) (hP : va_P D cl (W5 h n pl p q g cA cB f f2 ho cO fo hm er p q g) H) (hD : va_D (lA s) (W5 h n pl p q g cA cB f f2 ho cO fo hm er p q g)) (hS : va_S (lA s) s.heap H locs) (hl : lv_has ls 7 [(0, .ref b), (1, .ref h), (2, .ref hm), (3, .ref ho), (4, .int (nI i))])
    (kk : ∀ (p q g : Nat) (f f2 : Nat → Int32) (fo : Nat → Int64) (er : Int32) (H : Heap) (locs : List Loc) (ls : Array Slot), grp p q g → va_P D cl (W5 h n pl p q g cA cB f f2 ho cO fo hm er p q g) H → va_D (lA s) (W5 h n pl p q g cA cB f f2 ho cO fo hm er p q g) → va_S (lA s) s.heap H locs → lv_has ls 7 [(0, .ref b), (1, .ref h), (2, .ref hm), (3, .ref ho), (4, .int (nI i))] → W p0 l e room_1 s m args below meth c H locs (cells + 1) (slots + 6) Q (F0 m 807 ls [])) : W p0 l e room_1 s m args below meth c H locs cells slots Q (F0 m 579 ls []) := by
  obtain ⟨hx, hb, hml, hown, hts, hr, hlk⟩ := id C
  obtain ⟨g5, g31, gq, gqp, ggp, gg2⟩ := hG.nums
  refine lv_aload_n hx hb d_W_579 rfl (lv_at hl 1 rfl) ?_
  refine lv_aload_n hx hb d_W_580 rfl (lv_at hl 0 rfl) ?_
  refine lv_iload hx hb d_W_581 (lv_at hl 4 rfl) ?_
  refine lv_iconst (v := 1) hx hb d_W_583 (by decide) ?_
  refine lv_iadd hx hb d_W_584 ?_
  rw [show (nI i + 1 : Int32) = nI (i + 1) from nI_add i 1]
  refine ls_ld C hX hbl hS (j := i + 1) (by omega) hL d_W_585 ?_
  refine lv_aload_n hx hb d_W_586 rfl (lv_at hl 0 rfl) ?_
  refine lv_iload hx hb d_W_587 (lv_at hl 4 rfl) ?_
  refine lv_iconst (v := 2) hx hb d_W_589 (by decide) ?_
  refine lv_iadd hx hb d_W_590 ?_
  rw [show (nI i + 2 : Int32) = nI (i + 2) from nI_add i 2]
  refine ls_ld C hX hbl hS (j := i + 2) (by omega) hL d_W_591 ?_
  refine lv_aload_n hx hb d_W_592 rfl (lv_at hl 0 rfl) ?_
  refine lv_iload hx hb d_W_593 (lv_at hl 4 rfl) ?_
  refine lv_iconst (v := 3) hx hb d_W_595 (by decide) ?_
  refine lv_iadd hx hb d_W_596 ?_
  rw [show (nI i + 3 : Int32) = nI (i + 3) from nI_add i 3]
  refine ls_ld C hX hbl hS (j := i + 3) (by omega) hL d_W_597 ?_
  refine lv_aload_n hx hb d_W_598 rfl (lv_at hl 3 rfl) ?_
  refine lz_call (k := 5) C hex hnc hK hP hD hS [.ref h, .int (xs (i + 1)), .int (xs (i + 2)), .int (xs (i + 3)), .ref ho] [] (fun sz => w_feign l hfl D hG (xs (i + 1)) (xs (i + 2)) (xs (i + 3))) tk_201 tk_202 tk_0 tk_203 (by decide +kernel) rfl hl.1 (Nat.le_of_ble_eq_true rfl) (by decide) hc d_W_599 (fun k1 u1 H locs hw1 hP hD hS => ?_)
  refine lv_istore (lv' := [(5, .int k1), (0, .ref b), (1, .ref h), (2, .ref hm), (3, .ref ho), (4, .int (nI i))]) hx hb d_W_602 hl (Nat.le_of_ble_eq_true rfl) rfl (fun ls hl => ?_)
  refine lv_aload_n hx hb d_W_604 rfl (lv_at hl 3 rfl) ?_
  refine lv_aload_n hx hb d_W_605 rfl (lv_at hl 1 rfl) ?_
  refine lv_iload hx hb d_W_606 (lv_at hl 5 rfl) ?_
  refine lv_iconst (v := 1) hx hb d_W_608 (by decide) ?_
  refine lv_iadd hx hb d_W_609 ?_
  rw [show (nI i + 1 : Int32) = nI (i + 1) from nI_add i 1]
  refine ls_ld C hX hbl hS (j := i + 1) (by omega) hL d_W_610 ?_
  refine lv_aload_n hx hb d_W_611 rfl (lv_at hl 1 rfl) ?_
  refine lv_iload hx hb d_W_612 (lv_at hl 5 rfl) ?_
  refine lv_iconst (v := 2) hx hb d_W_614 (by decide) ?_
  refine lv_iadd hx hb d_W_615 ?_
  rw [show (nI i + 2 : Int32) = nI (i + 2) from nI_add i 2]
  refine ls_ld C hX hbl hS (j := i + 2) (by omega) hL d_W_616 ?_
  refine lv_aload_n hx hb d_W_617 rfl (lv_at hl 1 rfl) ?_
  refine lv_iload hx hb d_W_618 (lv_at hl 5 rfl) ?_
  refine lv_iconst (v := 3) hx hb d_W_620 (by decide) ?_
  refine lv_iadd hx hb d_W_621 ?_
  rw [show (nI i + 3 : Int32) = nI (i + 3) from nI_add i 3]
  refine ls_ld C hX hbl hS (j := i + 3) (by omega) hL d_W_622 ?_
  refine lm_call C hK hP hD hS [.int (xs (i + 1)), .int (xs (i + 2)), .int (xs (i + 3))] [] (fun sz => m_feign l D hG (xs (i + 1)) (xs (i + 2)) (xs (i + 3))) vw_L_90 rfl hl.1 (Nat.le_of_ble_eq_true rfl) (by decide) (by omega) d_W_623 (fun b1 er1 H locs hm1 hP hD hS => ?_)
  obtain ⟨he1, he2⟩ := wm_eq hw1 hm1 (fun _ => Nat.lt_trans (Nat.mod_lt _ (show p > 0 by omega)) g31)
  clear hw1 hm1
  refine lv_istore (lv' := [(6, .int b1), (5, .int k1), (0, .ref b), (1, .ref h), (2, .ref hm), (3, .ref ho), (4, .int (nI i))]) hx hb d_W_626 hl (Nat.le_of_ble_eq_true rfl) rfl (fun ls hl => ?_)
  refine lv_aload_n hx hb d_W_628 rfl (lv_at hl 4 rfl) ?_
  refine lt_call C hK hP [] hl.1 (Nat.le_of_ble_eq_true rfl) (by omega) d_W_629 ?_
  refine lv_iload hx hb d_W_632 (lv_at hl 1 rfl) ?_
  refine lv_icmp_eq hx hb d_W_634 rfl (fun h1 => ?_) (fun h1 => ?_)
  · refine lv_iload hx hb d_W_639 (lv_at hl 1 rfl) ?_
    refine lv_if_ne hx hb d_W_641 rfl (fun h2 => ?_) (fun h2 => ?_)
    · refine lv_goto hx hb d_W_656 rfl ?_
      have hl := lv_sub hl [2, 3, 4, 5, 6] rfl
      have hl : lv_has ls 7 [(0, .ref b), (1, .ref h), (2, .ref hm), (3, .ref ho), (4, .int (nI i))] := hl
      exact kk _ _ _ _ _ _ _ _ _ _ hG hP hD hS hl
    · refine lv_aload_n hx hb d_W_644 rfl (lv_at hl 5 rfl) ?_
      refine lv_iconst (v := 0) hx hb d_W_645 (by decide) ?_
      refine va_lald (D := D) hx hb hK hP 3 2 (cA := cO) (n := 1) (f := u1.2.2) rfl rfl (i := 0) in01 d_W_646 ?_
      refine lv_iload hx hb d_W_647 (lv_at hl 0 rfl) ?_
      refine lv_i2l hx hb d_W_649 (rfl) ?_
      refine W.lcmp hx hb d_W_650 ?_
      refine lv_if_eq hx hb d_W_651 rfl (fun h3 => ?_) (fun h3 => ?_)
      · refine lv_goto hx hb d_W_656 rfl ?_
        have hl := lv_sub hl [2, 3, 4, 5, 6] rfl
        have hl : lv_has ls 7 [(0, .ref b), (1, .ref h), (2, .ref hm), (3, .ref ho), (4, .int (nI i))] := hl
        exact kk _ _ _ _ _ _ _ _ _ _ hG hP hD hS hl
      · exact absurd (cmp_eq (he2 h2)) h3
  · exact absurd he1 h1
set_option maxHeartbeats 4000000 in
theorem law_secret {p0 : Program} {l : Launch} {e : Env} {s : State} {m : MethodId} {args : Array Value} {below : List Frame} {meth : Method} {c : Code} {H : Heap} {locs : List Loc} {cells slots : Nat} {Q : State → Prop} {ls : Array Slot} {D : va_G} {b L i h n pl p q g ho hm : Nat} {xs : Nat → Int32} {cA cB cO : ClassId} {f f2 : Nat → Int32} {fo : Nat → Int64} {er : Int32}
    (hfl : l.flags = flags0) (C : CX p0 s args m meth c "ProofDeskLaw" code 7 (some .boolean)) (hex : ex_ok s) (hnc : nc_ok s) (hX : va_X b L xs s s.heap) (hbl : b < s.heap.size) (hL : L ≤ 2560) (hi : i + 5 ≤ L) (hc : cells + 1 ≤ 1031 ∧ slots + 6 ≤ 8416)
    (hK : va_K D cl (T4 cA cB cO) s) (hG : grp p q g) (hP : va_P D cl (W5 h n pl p q g cA cB f f2 ho cO fo hm er p q g) H) (hD : va_D (lA s) (W5 h n pl p q g cA cB f f2 ho cO fo hm er p q g)) (hS : va_S (lA s) s.heap H locs) (hl : lv_has ls 7 [(0, .ref b), (1, .ref h), (2, .ref hm), (3, .ref ho), (4, .int (nI i))])
    (kk : ∀ (p q g : Nat) (f f2 : Nat → Int32) (fo : Nat → Int64) (er : Int32) (H : Heap) (locs : List Loc) (ls : Array Slot), grp p q g → va_P D cl (W5 h n pl p q g cA cB f f2 ho cO fo hm er p q g) H → va_D (lA s) (W5 h n pl p q g cA cB f f2 ho cO fo hm er p q g) → va_S (lA s) s.heap H locs → lv_has ls 7 [(0, .ref b), (1, .ref h), (2, .ref hm), (3, .ref ho), (4, .int (nI i))] → W p0 l e room_1 s m args below meth c H locs (cells + 1) (slots + 6) Q (F0 m 807 ls [])) : W p0 l e room_1 s m args below meth c H locs cells slots Q (F0 m 659 ls []) := by
  obtain ⟨hx, hb, hml, hown, hts, hr, hlk⟩ := id C
  obtain ⟨g5, g31, gq, gqp, ggp, gg2⟩ := hG.nums
  refine lv_aload_n hx hb d_W_659 rfl (lv_at hl 1 rfl) ?_
  refine lv_aload_n hx hb d_W_660 rfl (lv_at hl 0 rfl) ?_
  refine lv_iload hx hb d_W_661 (lv_at hl 4 rfl) ?_
  refine lv_iconst (v := 1) hx hb d_W_663 (by decide) ?_
  refine lv_iadd hx hb d_W_664 ?_
  rw [show (nI i + 1 : Int32) = nI (i + 1) from nI_add i 1]
  refine ls_ld C hX hbl hS (j := i + 1) (by omega) hL d_W_665 ?_
  refine lv_aload_n hx hb d_W_666 rfl (lv_at hl 0 rfl) ?_
  refine lv_iload hx hb d_W_667 (lv_at hl 4 rfl) ?_
  refine lv_iconst (v := 2) hx hb d_W_669 (by decide) ?_
  refine lv_iadd hx hb d_W_670 ?_
  rw [show (nI i + 2 : Int32) = nI (i + 2) from nI_add i 2]
  refine ls_ld C hX hbl hS (j := i + 2) (by omega) hL d_W_671 ?_
  refine lv_aload_n hx hb d_W_672 rfl (lv_at hl 0 rfl) ?_
  refine lv_iload hx hb d_W_673 (lv_at hl 4 rfl) ?_
  refine lv_iconst (v := 3) hx hb d_W_675 (by decide) ?_
  refine lv_iadd hx hb d_W_676 ?_
  rw [show (nI i + 3 : Int32) = nI (i + 3) from nI_add i 3]
  refine ls_ld C hX hbl hS (j := i + 3) (by omega) hL d_W_677 ?_
  refine lv_aload_n hx hb d_W_678 rfl (lv_at hl 0 rfl) ?_
  refine lv_iload hx hb d_W_679 (lv_at hl 4 rfl) ?_
  refine lv_iconst (v := 4) hx hb d_W_681 (by decide) ?_
  refine lv_iadd hx hb d_W_682 ?_
  rw [show (nI i + 4 : Int32) = nI (i + 4) from nI_add i 4]
  refine ls_ld C hX hbl hS (j := i + 4) (by omega) hL d_W_683 ?_
  refine lv_aload_n hx hb d_W_684 rfl (lv_at hl 3 rfl) ?_
  refine lz_call (k := 6) C hex hnc hK hP hD hS [.ref h, .int (xs (i + 1)), .int (xs (i + 2)), .int (xs (i + 3)), .int (xs (i + 4)), .ref ho] [] (fun sz => w_secret l hfl D hG (xs (i + 1)) (xs (i + 2)) (xs (i + 3)) (xs (i + 4))) tk_208 tk_209 tk_0 tk_210 (by decide +kernel) rfl hl.1 (Nat.le_of_ble_eq_true rfl) (by decide) hc d_W_685 (fun k1 u1 H locs hw1 hP hD hS => ?_)
  refine lv_istore (lv' := [(5, .int k1), (0, .ref b), (1, .ref h), (2, .ref hm), (3, .ref ho), (4, .int (nI i))]) hx hb d_W_688 hl (Nat.le_of_ble_eq_true rfl) rfl (fun ls hl => ?_)
  refine lv_aload_n hx hb d_W_690 rfl (lv_at hl 3 rfl) ?_
  refine lv_aload_n hx hb d_W_691 rfl (lv_at hl 1 rfl) ?_
  refine lv_iload hx hb d_W_692 (lv_at hl 5 rfl) ?_
  refine lv_iconst (v := 1) hx hb d_W_694 (by decide) ?_
  refine lv_iadd hx hb d_W_695 ?_
  rw [show (nI i + 1 : Int32) = nI (i + 1) from nI_add i 1]
  refine ls_ld C hX hbl hS (j := i + 1) (by omega) hL d_W_696 ?_
  refine lv_aload_n hx hb d_W_697 rfl (lv_at hl 1 rfl) ?_
  refine lv_iload hx hb d_W_698 (lv_at hl 5 rfl) ?_
  refine lv_iconst (v := 2) hx hb d_W_700 (by decide) ?_
  refine lv_iadd hx hb d_W_701 ?_
  rw [show (nI i + 2 : Int32) = nI (i + 2) from nI_add i 2]
  refine ls_ld C hX hbl hS (j := i + 2) (by omega) hL d_W_702 ?_
  refine lv_aload_n hx hb d_W_703 rfl (lv_at hl 1 rfl) ?_
  refine lv_iload hx hb d_W_704 (lv_at hl 5 rfl) ?_
  refine lv_iconst (v := 3) hx hb d_W_706 (by decide) ?_
  refine lv_iadd hx hb d_W_707 ?_
  rw [show (nI i + 3 : Int32) = nI (i + 3) from nI_add i 3]
  refine ls_ld C hX hbl hS (j := i + 3) (by omega) hL d_W_708 ?_
  refine lv_aload_n hx hb d_W_709 rfl (lv_at hl 1 rfl) ?_
  refine lv_iload hx hb d_W_710 (lv_at hl 5 rfl) ?_
  refine lv_iconst (v := 4) hx hb d_W_712 (by decide) ?_
  refine lv_iadd hx hb d_W_713 ?_
  rw [show (nI i + 4 : Int32) = nI (i + 4) from nI_add i 4]
  refine ls_ld C hX hbl hS (j := i + 4) (by omega) hL d_W_714 ?_
  refine lm_call C hK hP hD hS [.int (xs (i + 1)), .int (xs (i + 2)), .int (xs (i + 3)), .int (xs (i + 4))] [] (fun sz => m_secret l D hG (xs (i + 1)) (xs (i + 2)) (xs (i + 3)) (xs (i + 4))) vw_L_94 rfl hl.1 (Nat.le_of_ble_eq_true rfl) (by decide) (by omega) d_W_715 (fun b1 er1 H locs hm1 hP hD hS => ?_)
  obtain ⟨he1, he2⟩ := wm_eq hw1 hm1 (fun _ => Nat.lt_trans (Nat.mod_lt _ (show q > 0 by omega)) (show q < 2 ^ 31 by omega))
  clear hw1 hm1
  refine lv_istore (lv' := [(6, .int b1), (5, .int k1), (0, .ref b), (1, .ref h), (2, .ref hm), (3, .ref ho), (4, .int (nI i))]) hx hb d_W_718 hl (Nat.le_of_ble_eq_true rfl) rfl (fun ls hl => ?_)
  refine lv_aload_n hx hb d_W_720 rfl (lv_at hl 4 rfl) ?_
  refine lt_call C hK hP [] hl.1 (Nat.le_of_ble_eq_true rfl) (by omega) d_W_721 ?_
  refine lv_iload hx hb d_W_724 (lv_at hl 1 rfl) ?_
  refine lv_icmp_eq hx hb d_W_726 rfl (fun h1 => ?_) (fun h1 => ?_)
  · refine lv_iload hx hb d_W_731 (lv_at hl 1 rfl) ?_
    refine lv_if_ne hx hb d_W_733 rfl (fun h2 => ?_) (fun h2 => ?_)
    · refine lv_goto hx hb d_W_748 rfl ?_
      have hl := lv_sub hl [2, 3, 4, 5, 6] rfl
      have hl : lv_has ls 7 [(0, .ref b), (1, .ref h), (2, .ref hm), (3, .ref ho), (4, .int (nI i))] := hl
      exact kk _ _ _ _ _ _ _ _ _ _ hG hP hD hS hl
    · refine lv_aload_n hx hb d_W_736 rfl (lv_at hl 5 rfl) ?_
      refine lv_iconst (v := 0) hx hb d_W_737 (by decide) ?_
      refine va_lald (D := D) hx hb hK hP 3 2 (cA := cO) (n := 1) (f := u1.2.2) rfl rfl (i := 0) in01 d_W_738 ?_
      refine lv_iload hx hb d_W_739 (lv_at hl 0 rfl) ?_
      refine lv_i2l hx hb d_W_741 (rfl) ?_
      refine W.lcmp hx hb d_W_742 ?_
      refine lv_if_eq hx hb d_W_743 rfl (fun h3 => ?_) (fun h3 => ?_)
      · refine lv_goto hx hb d_W_748 rfl ?_
        have hl := lv_sub hl [2, 3, 4, 5, 6] rfl
        have hl : lv_has ls 7 [(0, .ref b), (1, .ref h), (2, .ref hm), (3, .ref ho), (4, .int (nI i))] := hl
        exact kk _ _ _ _ _ _ _ _ _ _ hG hP hD hS hl
      · exact absurd (cmp_eq (he2 h2)) h3
  · exact absurd he1 h1
set_option maxHeartbeats 4000000 in
theorem law_count {p0 : Program} {l : Launch} {e : Env} {s : State} {m : MethodId} {args : Array Value} {below : List Frame} {meth : Method} {c : Code} {H : Heap} {locs : List Loc} {cells slots : Nat} {Q : State → Prop} {ls : Array Slot} {D : va_G} {b L i h n pl p q g ho hm : Nat} {xs : Nat → Int32} {cA cB cO : ClassId} {f f2 : Nat → Int32} {fo : Nat → Int64} {er : Int32}
    (hfl : l.flags = flags0) (C : CX p0 s args m meth c "ProofDeskLaw" code 7 (some .boolean)) (hex : ex_ok s) (hnc : nc_ok s) (hX : va_X b L xs s s.heap) (hbl : b < s.heap.size) (hL : L ≤ 2560) (hi : i + 5 ≤ L) (hc : cells + 1 ≤ 1031 ∧ slots + 6 ≤ 8416)
    (hK : va_K D cl (T4 cA cB cO) s) (hG : grp p q g) (hP : va_P D cl (W5 h n pl p q g cA cB f f2 ho cO fo hm er p q g) H) (hD : va_D (lA s) (W5 h n pl p q g cA cB f f2 ho cO fo hm er p q g)) (hS : va_S (lA s) s.heap H locs) (hl : lv_has ls 7 [(0, .ref b), (1, .ref h), (2, .ref hm), (3, .ref ho), (4, .int (nI i))])
    (kk : ∀ (p q g : Nat) (f f2 : Nat → Int32) (fo : Nat → Int64) (er : Int32) (H : Heap) (locs : List Loc) (ls : Array Slot), grp p q g → va_P D cl (W5 h n pl p q g cA cB f f2 ho cO fo hm er p q g) H → va_D (lA s) (W5 h n pl p q g cA cB f f2 ho cO fo hm er p q g) → va_S (lA s) s.heap H locs → lv_has ls 7 [(0, .ref b), (1, .ref h), (2, .ref hm), (3, .ref ho), (4, .int (nI i))] → W p0 l e room_1 s m args below meth c H locs (cells + 1) (slots + 6) Q (F0 m 807 ls [])) : W p0 l e room_1 s m args below meth c H locs cells slots Q (F0 m 751 ls []) := by
  obtain ⟨hx, hb, hml, hown, hts, hr, hlk⟩ := id C
  obtain ⟨g5, g31, gq, gqp, ggp, gg2⟩ := hG.nums
  refine lv_aload_n hx hb d_W_751 rfl (lv_at hl 1 rfl) ?_
  refine lv_aload_n hx hb d_W_752 rfl (lv_at hl 0 rfl) ?_
  refine lv_iload hx hb d_W_753 (lv_at hl 4 rfl) ?_
  refine lv_iconst (v := 1) hx hb d_W_755 (by decide) ?_
  refine lv_iadd hx hb d_W_756 ?_
  rw [show (nI i + 1 : Int32) = nI (i + 1) from nI_add i 1]
  refine ls_ld C hX hbl hS (j := i + 1) (by omega) hL d_W_757 ?_
  refine lv_aload_n hx hb d_W_758 rfl (lv_at hl 3 rfl) ?_
  refine lz_call (k := 3) C hex hnc hK hP hD hS [.ref h, .int (xs (i + 1)), .ref ho] [] (fun sz => w_count l hfl D hG (xs (i + 1))) tk_215 tk_216 tk_0 tk_217 (by decide +kernel) rfl hl.1 (Nat.le_of_ble_eq_true rfl) (by decide) hc d_W_759 (fun k1 u1 H locs hw1 hP hD hS => ?_)
  refine lv_istore (lv' := [(5, .int k1), (0, .ref b), (1, .ref h), (2, .ref hm), (3, .ref ho), (4, .int (nI i))]) hx hb d_W_762 hl (Nat.le_of_ble_eq_true rfl) rfl (fun ls hl => ?_)
  refine lv_aload_n hx hb d_W_764 rfl (lv_at hl 3 rfl) ?_
  refine lv_aload_n hx hb d_W_765 rfl (lv_at hl 1 rfl) ?_
  refine lv_iload hx hb d_W_766 (lv_at hl 5 rfl) ?_
  refine lv_iconst (v := 1) hx hb d_W_768 (by decide) ?_
  refine lv_iadd hx hb d_W_769 ?_
  rw [show (nI i + 1 : Int32) = nI (i + 1) from nI_add i 1]
  refine ls_ld C hX hbl hS (j := i + 1) (by omega) hL d_W_770 ?_
  refine lm_call C hK hP hD hS [.int (xs (i + 1))] [] (fun sz => m_count l D hG (xs (i + 1))) vw_L_97 rfl hl.1 (Nat.le_of_ble_eq_true rfl) (by decide) (by omega) d_W_771 (fun b1 er1 H locs hm1 hP hD hS => ?_)
  obtain ⟨he1, he2⟩ := wm_eq hw1 hm1 (fun _ => by split <;> (try split) <;> omega)
  clear hw1 hm1
  refine lv_istore (lv' := [(6, .int b1), (5, .int k1), (0, .ref b), (1, .ref h), (2, .ref hm), (3, .ref ho), (4, .int (nI i))]) hx hb d_W_774 hl (Nat.le_of_ble_eq_true rfl) rfl (fun ls hl => ?_)
  refine lv_aload_n hx hb d_W_776 rfl (lv_at hl 4 rfl) ?_
  refine lt_call C hK hP [] hl.1 (Nat.le_of_ble_eq_true rfl) (by omega) d_W_777 ?_
  refine lv_iload hx hb d_W_780 (lv_at hl 1 rfl) ?_
  refine lv_icmp_eq hx hb d_W_782 rfl (fun h1 => ?_) (fun h1 => ?_)
  · refine lv_iload hx hb d_W_787 (lv_at hl 1 rfl) ?_
    refine lv_if_ne hx hb d_W_789 rfl (fun h2 => ?_) (fun h2 => ?_)
    · refine lv_goto hx hb d_W_804 rfl ?_
      have hl := lv_sub hl [2, 3, 4, 5, 6] rfl
      have hl : lv_has ls 7 [(0, .ref b), (1, .ref h), (2, .ref hm), (3, .ref ho), (4, .int (nI i))] := hl
      exact kk _ _ _ _ _ _ _ _ _ _ hG hP hD hS hl
    · refine lv_aload_n hx hb d_W_792 rfl (lv_at hl 5 rfl) ?_
      refine lv_iconst (v := 0) hx hb d_W_793 (by decide) ?_
      refine va_lald (D := D) hx hb hK hP 3 2 (cA := cO) (n := 1) (f := u1.2.2) rfl rfl (i := 0) in01 d_W_794 ?_
      refine lv_iload hx hb d_W_795 (lv_at hl 0 rfl) ?_
      refine lv_i2l hx hb d_W_797 (rfl) ?_
      refine W.lcmp hx hb d_W_798 ?_
      refine lv_if_eq hx hb d_W_799 rfl (fun h3 => ?_) (fun h3 => ?_)
      · refine lv_goto hx hb d_W_804 rfl ?_
        have hl := lv_sub hl [2, 3, 4, 5, 6] rfl
        have hl : lv_has ls 7 [(0, .ref b), (1, .ref h), (2, .ref hm), (3, .ref ho), (4, .int (nI i))] := hl
        exact kk _ _ _ _ _ _ _ _ _ _ hG hP hD hS hl
      · exact absurd (cmp_eq (he2 h2)) h3
  · exact absurd he1 h1
set_option maxHeartbeats 4000000 in
theorem law_member {p0 : Program} {l : Launch} {e : Env} {s : State} {m : MethodId} {args : Array Value} {below : List Frame} {meth : Method} {c : Code} {H : Heap} {locs : List Loc} {cells slots : Nat} {Q : State → Prop} {ls : Array Slot} {D : va_G} {b L i h n pl p q g ho hm : Nat} {xs : Nat → Int32} {cA cB cO : ClassId} {f f2 : Nat → Int32} {fo : Nat → Int64} {er : Int32}
    (hfl : l.flags = flags0) (C : CX p0 s args m meth c "ProofDeskLaw" code 7 (some .boolean)) (hex : ex_ok s) (hnc : nc_ok s) (hX : va_X b L xs s s.heap) (hbl : b < s.heap.size) (hL : L ≤ 2560) (hi : i + 5 ≤ L) (hc : cells + 1 ≤ 1031 ∧ slots + 6 ≤ 8416)
    (hK : va_K D cl (T4 cA cB cO) s) (hG : grp p q g) (hP : va_P D cl (W5 h n pl p q g cA cB f f2 ho cO fo hm er p q g) H) (hD : va_D (lA s) (W5 h n pl p q g cA cB f f2 ho cO fo hm er p q g)) (hS : va_S (lA s) s.heap H locs) (hl : lv_has ls 7 [(0, .ref b), (1, .ref h), (2, .ref hm), (3, .ref ho), (4, .int (nI i))])
    (kk : ∀ (p q g : Nat) (f f2 : Nat → Int32) (fo : Nat → Int64) (er : Int32) (H : Heap) (locs : List Loc) (ls : Array Slot), grp p q g → va_P D cl (W5 h n pl p q g cA cB f f2 ho cO fo hm er p q g) H → va_D (lA s) (W5 h n pl p q g cA cB f f2 ho cO fo hm er p q g) → va_S (lA s) s.heap H locs → lv_has ls 7 [(0, .ref b), (1, .ref h), (2, .ref hm), (3, .ref ho), (4, .int (nI i))] → W p0 l e room_1 s m args below meth c H locs (cells + 1) (slots + 6) Q (F0 m 807 ls [])) : W p0 l e room_1 s m args below meth c H locs cells slots Q (F0 m 133 ls []) := by
  obtain ⟨hx, hb, hml, hown, hts, hr, hlk⟩ := id C
  obtain ⟨g5, g31, gq, gqp, ggp, gg2⟩ := hG.nums
  refine lv_aload_n hx hb d_W_133 rfl (lv_at hl 1 rfl) ?_
  refine lv_aload_n hx hb d_W_134 rfl (lv_at hl 0 rfl) ?_
  refine lv_iload hx hb d_W_135 (lv_at hl 4 rfl) ?_
  refine lv_iconst (v := 1) hx hb d_W_137 (by decide) ?_
  refine lv_iadd hx hb d_W_138 ?_
  rw [show (nI i + 1 : Int32) = nI (i + 1) from nI_add i 1]
  refine ls_ld C hX hbl hS (j := i + 1) (by omega) hL d_W_139 ?_
  refine lp_call C hK hP [.int (xs (i + 1))] [] (c_member l D hG (xs (i + 1))) (by first | exact Or.inl rfl | exact Or.inr rfl) vw_L_51 rfl hl.1 (Nat.le_of_ble_eq_true rfl) (by decide) (by omega) d_W_140 (fun k1 hw1 => ?_)
  refine lv_aload_n hx hb d_W_143 rfl (lv_at hl 2 rfl) ?_
  refine lv_aload_n hx hb d_W_144 rfl (lv_at hl 0 rfl) ?_
  refine lv_iload hx hb d_W_145 (lv_at hl 4 rfl) ?_
  refine lv_iconst (v := 1) hx hb d_W_147 (by decide) ?_
  refine lv_iadd hx hb d_W_148 ?_
  rw [show (nI i + 1 : Int32) = nI (i + 1) from nI_add i 1]
  refine ls_ld C hX hbl hS (j := i + 1) (by omega) hL d_W_149 ?_
  refine lm_call C hK hP hD hS [.int (xs (i + 1))] [.int k1] (fun sz => m_member l D hG (xs (i + 1))) vw_L_55 rfl hl.1 (Nat.le_of_ble_eq_true rfl) (by decide) (by omega) d_W_150 (fun b1 er1 H locs hm1 hP hD hS => ?_)
  have he1 : k1 = b1 := z_same hw1 hm1.1
  clear hw1 hm1
  refine lv_icmp_eq hx hb d_W_153 rfl (fun h1 => ?_) (fun h1 => ?_)
  · refine W.widen (k := cells + 1) (n := slots + 6) (by omega) (by omega) ?_
    have hl := lv_sub hl [0, 1, 2, 3, 4] rfl
    have hl : lv_has ls 7 [(0, .ref b), (1, .ref h), (2, .ref hm), (3, .ref ho), (4, .int (nI i))] := hl
    exact kk _ _ _ _ _ _ _ _ _ _ hG hP hD hS hl
  · exact absurd he1 h1
set_option maxHeartbeats 4000000 in
theorem law_accepts {p0 : Program} {l : Launch} {e : Env} {s : State} {m : MethodId} {args : Array Value} {below : List Frame} {meth : Method} {c : Code} {H : Heap} {locs : List Loc} {cells slots : Nat} {Q : State → Prop} {ls : Array Slot} {D : va_G} {b L i h n pl p q g ho hm : Nat} {xs : Nat → Int32} {cA cB cO : ClassId} {f f2 : Nat → Int32} {fo : Nat → Int64} {er : Int32}
    (hfl : l.flags = flags0) (C : CX p0 s args m meth c "ProofDeskLaw" code 7 (some .boolean)) (hex : ex_ok s) (hnc : nc_ok s) (hX : va_X b L xs s s.heap) (hbl : b < s.heap.size) (hL : L ≤ 2560) (hi : i + 5 ≤ L) (hc : cells + 1 ≤ 1031 ∧ slots + 6 ≤ 8416)
    (hK : va_K D cl (T4 cA cB cO) s) (hG : grp p q g) (hP : va_P D cl (W5 h n pl p q g cA cB f f2 ho cO fo hm er p q g) H) (hD : va_D (lA s) (W5 h n pl p q g cA cB f f2 ho cO fo hm er p q g)) (hS : va_S (lA s) s.heap H locs) (hl : lv_has ls 7 [(0, .ref b), (1, .ref h), (2, .ref hm), (3, .ref ho), (4, .int (nI i))])
    (kk : ∀ (p q g : Nat) (f f2 : Nat → Int32) (fo : Nat → Int64) (er : Int32) (H : Heap) (locs : List Loc) (ls : Array Slot), grp p q g → va_P D cl (W5 h n pl p q g cA cB f f2 ho cO fo hm er p q g) H → va_D (lA s) (W5 h n pl p q g cA cB f f2 ho cO fo hm er p q g) → va_S (lA s) s.heap H locs → lv_has ls 7 [(0, .ref b), (1, .ref h), (2, .ref hm), (3, .ref ho), (4, .int (nI i))] → W p0 l e room_1 s m args below meth c H locs (cells + 1) (slots + 6) Q (F0 m 807 ls [])) : W p0 l e room_1 s m args below meth c H locs cells slots Q (F0 m 438 ls []) := by
  obtain ⟨hx, hb, hml, hown, hts, hr, hlk⟩ := id C
  obtain ⟨g5, g31, gq, gqp, ggp, gg2⟩ := hG.nums
  refine lv_aload_n hx hb d_W_438 rfl (lv_at hl 1 rfl) ?_
  refine lv_aload_n hx hb d_W_439 rfl (lv_at hl 0 rfl) ?_
  refine lv_iload hx hb d_W_440 (lv_at hl 4 rfl) ?_
  refine lv_iconst (v := 1) hx hb d_W_442 (by decide) ?_
  refine lv_iadd hx hb d_W_443 ?_
  rw [show (nI i + 1 : Int32) = nI (i + 1) from nI_add i 1]
  refine ls_ld C hX hbl hS (j := i + 1) (by omega) hL d_W_444 ?_
  refine lv_aload_n hx hb d_W_445 rfl (lv_at hl 0 rfl) ?_
  refine lv_iload hx hb d_W_446 (lv_at hl 4 rfl) ?_
  refine lv_iconst (v := 2) hx hb d_W_448 (by decide) ?_
  refine lv_iadd hx hb d_W_449 ?_
  rw [show (nI i + 2 : Int32) = nI (i + 2) from nI_add i 2]
  refine ls_ld C hX hbl hS (j := i + 2) (by omega) hL d_W_450 ?_
  refine lv_aload_n hx hb d_W_451 rfl (lv_at hl 0 rfl) ?_
  refine lv_iload hx hb d_W_452 (lv_at hl 4 rfl) ?_
  refine lv_iconst (v := 3) hx hb d_W_454 (by decide) ?_
  refine lv_iadd hx hb d_W_455 ?_
  rw [show (nI i + 3 : Int32) = nI (i + 3) from nI_add i 3]
  refine ls_ld C hX hbl hS (j := i + 3) (by omega) hL d_W_456 ?_
  refine lv_aload_n hx hb d_W_457 rfl (lv_at hl 0 rfl) ?_
  refine lv_iload hx hb d_W_458 (lv_at hl 4 rfl) ?_
  refine lv_iconst (v := 4) hx hb d_W_460 (by decide) ?_
  refine lv_iadd hx hb d_W_461 ?_
  rw [show (nI i + 4 : Int32) = nI (i + 4) from nI_add i 4]
  refine ls_ld C hX hbl hS (j := i + 4) (by omega) hL d_W_462 ?_
  refine lp_call C hK hP [.int (xs (i + 1)), .int (xs (i + 2)), .int (xs (i + 3)), .int (xs (i + 4))] [] (c_accepts l D hG (xs (i + 1)) (xs (i + 2)) (xs (i + 3)) (xs (i + 4))) (by first | exact Or.inl rfl | exact Or.inr rfl) vw_L_79 rfl hl.1 (Nat.le_of_ble_eq_true rfl) (by decide) (by omega) d_W_463 (fun k1 hw1 => ?_)
  refine lv_aload_n hx hb d_W_466 rfl (lv_at hl 2 rfl) ?_
  refine lv_aload_n hx hb d_W_467 rfl (lv_at hl 0 rfl) ?_
  refine lv_iload hx hb d_W_468 (lv_at hl 4 rfl) ?_
  refine lv_iconst (v := 1) hx hb d_W_470 (by decide) ?_
  refine lv_iadd hx hb d_W_471 ?_
  rw [show (nI i + 1 : Int32) = nI (i + 1) from nI_add i 1]
  refine ls_ld C hX hbl hS (j := i + 1) (by omega) hL d_W_472 ?_
  refine lv_aload_n hx hb d_W_473 rfl (lv_at hl 0 rfl) ?_
  refine lv_iload hx hb d_W_474 (lv_at hl 4 rfl) ?_
  refine lv_iconst (v := 2) hx hb d_W_476 (by decide) ?_
  refine lv_iadd hx hb d_W_477 ?_
  rw [show (nI i + 2 : Int32) = nI (i + 2) from nI_add i 2]
  refine ls_ld C hX hbl hS (j := i + 2) (by omega) hL d_W_478 ?_
  refine lv_aload_n hx hb d_W_479 rfl (lv_at hl 0 rfl) ?_
  refine lv_iload hx hb d_W_480 (lv_at hl 4 rfl) ?_
  refine lv_iconst (v := 3) hx hb d_W_482 (by decide) ?_
  refine lv_iadd hx hb d_W_483 ?_
  rw [show (nI i + 3 : Int32) = nI (i + 3) from nI_add i 3]
  refine ls_ld C hX hbl hS (j := i + 3) (by omega) hL d_W_484 ?_
  refine lv_aload_n hx hb d_W_485 rfl (lv_at hl 0 rfl) ?_
  refine lv_iload hx hb d_W_486 (lv_at hl 4 rfl) ?_
  refine lv_iconst (v := 4) hx hb d_W_488 (by decide) ?_
  refine lv_iadd hx hb d_W_489 ?_
  rw [show (nI i + 4 : Int32) = nI (i + 4) from nI_add i 4]
  refine ls_ld C hX hbl hS (j := i + 4) (by omega) hL d_W_490 ?_
  refine lm_call C hK hP hD hS [.int (xs (i + 1)), .int (xs (i + 2)), .int (xs (i + 3)), .int (xs (i + 4))] [.int k1] (fun sz => m_accepts l D hG (xs (i + 1)) (xs (i + 2)) (xs (i + 3)) (xs (i + 4))) vw_L_83 rfl hl.1 (Nat.le_of_ble_eq_true rfl) (by decide) (by omega) d_W_491 (fun b1 er1 H locs hm1 hP hD hS => ?_)
  have he1 : k1 = b1 := z_same hw1 hm1.1
  clear hw1 hm1
  refine lv_icmp_eq hx hb d_W_494 rfl (fun h1 => ?_) (fun h1 => ?_)
  · refine W.widen (k := cells + 1) (n := slots + 6) (by omega) (by omega) ?_
    have hl := lv_sub hl [0, 1, 2, 3, 4] rfl
    have hl : lv_has ls 7 [(0, .ref b), (1, .ref h), (2, .ref hm), (3, .ref ho), (4, .int (nI i))] := hl
    exact kk _ _ _ _ _ _ _ _ _ _ hG hP hD hS hl
  · exact absurd he1 h1
set_option maxHeartbeats 4000000 in
theorem law_begin {p0 : Program} {l : Launch} {e : Env} {s : State} {m : MethodId} {args : Array Value} {below : List Frame} {meth : Method} {c : Code} {H : Heap} {locs : List Loc} {cells slots : Nat} {Q : State → Prop} {ls : Array Slot} {D : va_G} {b L i h n pl p q g ho hm : Nat} {xs : Nat → Int32} {cA cB cO : ClassId} {f f2 : Nat → Int32} {fo : Nat → Int64} {er : Int32}
    (hfl : l.flags = flags0) (C : CX p0 s args m meth c "ProofDeskLaw" code 7 (some .boolean)) (hex : ex_ok s) (hnc : nc_ok s) (hX : va_X b L xs s s.heap) (hbl : b < s.heap.size) (hL : L ≤ 2560) (hi : i + 5 ≤ L) (hc : cells + 1 ≤ 1031 ∧ slots + 6 ≤ 8416)
    (hK : va_K D cl (T4 cA cB cO) s) (hG : grp p q g) (hP : va_P D cl (W5 h n pl p q g cA cB f f2 ho cO fo hm er p q g) H) (hD : va_D (lA s) (W5 h n pl p q g cA cB f f2 ho cO fo hm er p q g)) (hS : va_S (lA s) s.heap H locs) (hl : lv_has ls 7 [(0, .ref b), (1, .ref h), (2, .ref hm), (3, .ref ho), (4, .int (nI i))])
    (kk : ∀ (p q g : Nat) (f f2 : Nat → Int32) (fo : Nat → Int64) (er : Int32) (H : Heap) (locs : List Loc) (ls : Array Slot), grp p q g → va_P D cl (W5 h n pl p q g cA cB f f2 ho cO fo hm er p q g) H → va_D (lA s) (W5 h n pl p q g cA cB f f2 ho cO fo hm er p q g) → va_S (lA s) s.heap H locs → lv_has ls 7 [(0, .ref b), (1, .ref h), (2, .ref hm), (3, .ref ho), (4, .int (nI i))] → W p0 l e room_1 s m args below meth c H locs (cells + 1) (slots + 6) Q (F0 m 807 ls [])) : W p0 l e room_1 s m args below meth c H locs cells slots Q (F0 m 96 ls []) := by
  obtain ⟨hx, hb, hml, hown, hts, hr, hlk⟩ := id C
  obtain ⟨g5, g31, gq, gqp, ggp, gg2⟩ := hG.nums
  refine lv_aload_n hx hb d_W_96 rfl (lv_at hl 1 rfl) ?_
  refine lv_aload_n hx hb d_W_97 rfl (lv_at hl 0 rfl) ?_
  refine lv_iload hx hb d_W_98 (lv_at hl 4 rfl) ?_
  refine lv_iconst (v := 1) hx hb d_W_100 (by decide) ?_
  refine lv_iadd hx hb d_W_101 ?_
  rw [show (nI i + 1 : Int32) = nI (i + 1) from nI_add i 1]
  refine ls_ld C hX hbl hS (j := i + 1) (by omega) hL d_W_102 ?_
  refine lv_aload_n hx hb d_W_103 rfl (lv_at hl 0 rfl) ?_
  refine lv_iload hx hb d_W_104 (lv_at hl 4 rfl) ?_
  refine lv_iconst (v := 2) hx hb d_W_106 (by decide) ?_
  refine lv_iadd hx hb d_W_107 ?_
  rw [show (nI i + 2 : Int32) = nI (i + 2) from nI_add i 2]
  refine ls_ld C hX hbl hS (j := i + 2) (by omega) hL d_W_108 ?_
  refine lx_begin C hK hP hD hS (xs (i + 1)) (xs (i + 2)) [] hl.1 (Nat.le_of_ble_eq_true rfl) (by omega) d_W_109 (fun k1 u1 H locs hw1 hP hD hS => ?_)
  refine lv_aload_n hx hb d_W_112 rfl (lv_at hl 2 rfl) ?_
  refine lv_aload_n hx hb d_W_113 rfl (lv_at hl 0 rfl) ?_
  refine lv_iload hx hb d_W_114 (lv_at hl 4 rfl) ?_
  refine lv_iconst (v := 1) hx hb d_W_116 (by decide) ?_
  refine lv_iadd hx hb d_W_117 ?_
  rw [show (nI i + 1 : Int32) = nI (i + 1) from nI_add i 1]
  refine ls_ld C hX hbl hS (j := i + 1) (by omega) hL d_W_118 ?_
  refine lv_aload_n hx hb d_W_119 rfl (lv_at hl 0 rfl) ?_
  refine lv_iload hx hb d_W_120 (lv_at hl 4 rfl) ?_
  refine lv_iconst (v := 2) hx hb d_W_122 (by decide) ?_
  refine lv_iadd hx hb d_W_123 ?_
  rw [show (nI i + 2 : Int32) = nI (i + 2) from nI_add i 2]
  refine ls_ld C hX hbl hS (j := i + 2) (by omega) hL d_W_124 ?_
  refine lm_begin C hK hP hD hS (xs (i + 1)) (xs (i + 2)) [.int k1] hl.1 (Nat.le_of_ble_eq_true rfl) (by omega) d_W_125 (fun b1 u2 H locs hm1 hP hD hS => ?_)
  obtain ⟨he1, hu, hG⟩ := bg_same hG hw1 hm1
  subst hu
  clear hw1 hm1
  refine lv_icmp_eq hx hb d_W_128 rfl (fun h1 => ?_) (fun h1 => ?_)
  · refine W.widen (k := cells + 1) (n := slots + 6) (by omega) (by omega) ?_
    have hl := lv_sub hl [0, 1, 2, 3, 4] rfl
    have hl : lv_has ls 7 [(0, .ref b), (1, .ref h), (2, .ref hm), (3, .ref ho), (4, .int (nI i))] := hl
    exact kk _ _ _ _ _ _ _ _ _ _ hG hP hD hS hl
  · exact absurd he1 h1
end
section
/-! THE CLAIM OUT OF ONE WALK OF THE LAW (the skeleton's rows) -/
def lw_P (b : Addr) (xs : List Int32) (args : Array Value) (s : State) : Prop := args = #[.ref b] ∧ s.IntsAt b xs ∧ xs.length ≤ 2560 ∧ (Jvm.Cond.and given_1 narrow_1).before args s = true
def lw_Q (_ : Array Value) (s : State) (o : Outcome) (t : State) : Prop := o = .returned (some (.int 1)) ∧ Framed s o t [] 1031 8416
def lw_Z (below : List Frame) (a : Array Value) (s : State) : State → Prop := fun t => ∃ o, t.status = .running ∧ Ended t below o ∧ lw_Q a s o t
/-- the law's own end, with 1 on the stack, nothing written that was there before, its room as the claim has it -/
theorem lw_ret {p : Program} {l : Launch} {e : Env} {s : State} {m : MethodId} {below : List Frame} {meth : Method} {c : Code} {b : Nat} (hx : p.tables.exec = Jvm.exec) (hb : c.code = code) (hr : meth.sig.returnType = ret) (hlocks : meth.locks = false) {pc : Nat} {H : Heap} {ls : Array Slot} (hdg : decode code pc = .ok (.ireturn, 1)) : W p l e room_1 s m #[Value.ref b] below meth c H [] 1031 8416 (lw_Z below #[Value.ref b] s) (F0 m pc ls [.int 1]) := by
  intro T hT X
  obtain ⟨fs, hret, hrun, hended, hW, hframe⟩ := X.leave (v := some (.int 1)) (hlocks := hlocks) (fun h => by rw [hr] at h; cases h)
  have hmeth' : T.vm.method? m = some meth := X.method'
  refine ⟨T.setFrames fs, ?_, .returned (some (.int 1)), hrun, hended, rfl, ⟨_, rfl⟩, hW, hframe⟩
  jvm_step X.here [X.here.top, hx, hb, hdg, hmeth', hr, ret, narrow_b1]
  (try refine ⟨rfl, ?_⟩); (try refine ⟨rfl, ?_⟩)
  first | (intro acts; rw [hret _ acts rfl rfl rfl]) | rw [hret _ _ rfl rfl rfl]
  exact Steps.refl _
/-- what holds at the law's entry: the machine, the code, the tables' words (any of lw_tbl by 'hts w (by decide +kernel)'), the script of L ints xs at the cell b, what the Statement gives of the start (any of its parts by flat_of_before) -/
def lw_At (p : Program) (s : State) (m : MethodId) (meth : Method) (c : Code) (b L : Nat) (xs : Nat → Int32) : Prop :=
  p.tables.exec = Jvm.exec ∧ c.code = code ∧ meth.sig.returnType = ret ∧ c.maxLocals = 7 ∧ s.vm.findClass R_law = some m.cls ∧ (∀ w ∈ lw_tbl, w.before #[Value.ref b] s = true) ∧ va_X b L xs s s.heap ∧ b < s.heap.size ∧ meth.locks = false ∧ (Jvm.Cond.and given_1 narrow_1).before #[Value.ref b] s = true
end
section
/-! the law's loop and its start -/
set_option maxHeartbeats 4000000 in
theorem law_step {p0 : Program} {l : Launch} {e : Env} {s : State} {m : MethodId} {args : Array Value} {below : List Frame} {meth : Method} {c : Code} {H : Heap} {locs : List Loc} {cells slots : Nat} {Q : State → Prop} {ls : Array Slot} {D : va_G} {b L i h n pl p q g ho hm : Nat} {xs : Nat → Int32} {cA cB cO : ClassId} {f f2 : Nat → Int32} {fo : Nat → Int64} {er : Int32}
    (hfl : l.flags = flags0) (C : CX p0 s args m meth c "ProofDeskLaw" code 7 (some .boolean)) (hex : ex_ok s) (hnc : nc_ok s) (hX : va_X b L xs s s.heap) (hbl : b < s.heap.size) (hL : L ≤ 2560) (hi : i ≤ 2560) (hc : i + 5 ≤ L → cells + 1 ≤ 1031 ∧ slots + 6 ≤ 8416)
    (hK : va_K D cl (T4 cA cB cO) s) (hG : grp p q g) (hP : va_P D cl (W5 h n pl p q g cA cB f f2 ho cO fo hm er p q g) H) (hD : va_D (lA s) (W5 h n pl p q g cA cB f f2 ho cO fo hm er p q g)) (hS : va_S (lA s) s.heap H locs) (hl : lv_has ls 7 [(0, .ref b), (1, .ref h), (2, .ref hm), (3, .ref ho), (4, .int (nI i))])
    (kx : L < i + 5 → W p0 l e room_1 s m args below meth c H locs cells slots Q (F0 m 813 ls []))
    (kk : i + 5 ≤ L → ∀ (p q g : Nat) (f f2 : Nat → Int32) (fo : Nat → Int64) (er : Int32) (H : Heap) (locs : List Loc) (ls : Array Slot), grp p q g → va_P D cl (W5 h n pl p q g cA cB f f2 ho cO fo hm er p q g) H → va_D (lA s) (W5 h n pl p q g cA cB f f2 ho cO fo hm er p q g) → va_S (lA s) s.heap H locs → lv_has ls 7 [(0, .ref b), (1, .ref h), (2, .ref hm), (3, .ref ho), (4, .int (nI i))] → W p0 l e room_1 s m args below meth c H locs (cells + 1) (slots + 6) Q (F0 m 807 ls [])) : W p0 l e room_1 s m args below meth c H locs cells slots Q (F0 m 23 ls []) := by
  obtain ⟨hx, hb, hml, hown, hts, hr, hlk⟩ := id C
  refine lv_iload hx hb d_W_23 (lv_at hl 4 rfl) ?_
  refine lv_aload_n hx hb d_W_25 rfl (lv_at hl 0 rfl) ?_
  refine va_slen (A := lA s) hx hb hX hbl (Nat.not_le.mpr hbl) hS d_W_26 ?_
  refine lv_iconst (v := 5) hx hb d_W_27 (by decide) ?_
  refine lv_isub hx hb d_W_28 ?_
  have hsub : (nI L - 5).toInt = (L : Int) - 5 := pk_sub_toInt (b := 5) (by omega) (by decide)
  have hii : (nI i).toInt = (i : Int) := nI_toInt (by omega)
  refine lv_icmp_gt hx hb d_W_29 rfl (fun h1 => ?_) (fun h1 => ?_)
  · rw [Int32.lt_iff_toInt_lt] at h1
    rw [show (Int32.ofNat L - 5 : Int32).toInt = (L : Int) - 5 from hsub, hii] at h1
    exact kx (by omega)
  · have hi5 : i + 5 ≤ L := by
      rw [Int32.lt_iff_toInt_lt] at h1
      rw [show (Int32.ofNat L - 5 : Int32).toInt = (L : Int) - 5 from hsub, hii] at h1
      omega
    have hc5 := hc hi5
    have kk := kk hi5
    refine lv_aload_n hx hb d_W_32 rfl (lv_at hl 0 rfl) ?_
    refine lv_iload hx hb d_W_33 (lv_at hl 4 rfl) ?_
    refine ls_ld C hX hbl hS (j := i) (by omega) hL d_W_35 ?_
    refine lv_bipush (v := 15) hx hb d_W_36 (by decide) ?_
    refine lv_iand hx hb d_W_38 ?_
    generalize (xs i &&& 15 : Int32) = v
    by_cases hv : v.toInt < 0 ∨ 10 < v.toInt
    · refine lv_tableOut (tgt := 807) hx hb d_W_39 hv rfl ?_
      refine W.widen (k := cells + 1) (n := slots + 6) (by omega) (by omega) ?_
      exact kk _ _ _ _ _ _ _ _ _ _ hG hP hD hS hl
    · have h11 : v.toInt = 0 ∨ v.toInt = 1 ∨ v.toInt = 2 ∨ v.toInt = 3 ∨ v.toInt = 4 ∨ v.toInt = 5 ∨ v.toInt = 6 ∨ v.toInt = 7 ∨ v.toInt = 8 ∨ v.toInt = 9 ∨ v.toInt = 10 := by omega
      rcases h11 with hq | hq | hq | hq | hq | hq | hq | hq | hq | hq | hq
      · refine lv_tableIn (off := 57) (tgt := 96) hx hb d_W_39 (by omega) (by omega) (by rw [hq]; rfl) rfl ?_
        exact law_begin hfl C hex hnc hX hbl hL hi5 hc5 hK hG hP hD hS hl kk
      · refine lv_tableIn (off := 94) (tgt := 133) hx hb d_W_39 (by omega) (by omega) (by rw [hq]; rfl) rfl ?_
        exact law_member hfl C hex hnc hX hbl hL hi5 hc5 hK hG hP hD hS hl kk
      · refine lv_tableIn (off := 119) (tgt := 158) hx hb d_W_39 (by omega) (by omega) (by rw [hq]; rfl) rfl ?_
        exact law_product hfl C hex hnc hX hbl hL hi5 hc5 hK hG hP hD hS hl kk
      · refine lv_tableIn (off := 187) (tgt := 226) hx hb d_W_39 (by omega) (by omega) (by rw [hq]; rfl) rfl ?_
        exact law_power hfl C hex hnc hX hbl hL hi5 hc5 hK hG hP hD hS hl kk
      · refine lv_tableIn (off := 287) (tgt := 326) hx hb d_W_39 (by omega) (by omega) (by rw [hq]; rfl) rfl ?_
        exact law_inverse hfl C hex hnc hX hbl hL hi5 hc5 hK hG hP hD hS hl kk
      · refine lv_tableIn (off := 343) (tgt := 382) hx hb d_W_39 (by omega) (by omega) (by rw [hq]; rfl) rfl ?_
        exact law_log hfl C hex hnc hX hbl hL hi5 hc5 hK hG hP hD hS hl kk
      · refine lv_tableIn (off := 399) (tgt := 438) hx hb d_W_39 (by omega) (by omega) (by rw [hq]; rfl) rfl ?_
        exact law_accepts hfl C hex hnc hX hbl hL hi5 hc5 hK hG hP hD hS hl kk
      · refine lv_tableIn (off := 460) (tgt := 499) hx hb d_W_39 (by omega) (by omega) (by rw [hq]; rfl) rfl ?_
        exact law_answer hfl C hex hnc hX hbl hL hi5 hc5 hK hG hP hD hS hl kk
      · refine lv_tableIn (off := 540) (tgt := 579) hx hb d_W_39 (by omega) (by omega) (by rw [hq]; rfl) rfl ?_
        exact law_feign hfl C hex hnc hX hbl hL hi5 hc5 hK hG hP hD hS hl kk
      · refine lv_tableIn (off := 620) (tgt := 659) hx hb d_W_39 (by omega) (by omega) (by rw [hq]; rfl) rfl ?_
        exact law_secret hfl C hex hnc hX hbl hL hi5 hc5 hK hG hP hD hS hl kk
      · refine lv_tableIn (off := 712) (tgt := 751) hx hb d_W_39 (by omega) (by omega) (by rw [hq]; rfl) rfl ?_
        exact law_count hfl C hex hnc hX hbl hL hi5 hc5 hK hG hP hD hS hl kk
set_option maxHeartbeats 4000000 in
theorem law_loop {p0 : Program} {l : Launch} {e : Env} {s : State} {m : MethodId} {below : List Frame} {meth : Method} {c : Code} {D : va_G} {b L h n pl ho hm : Nat} {xs : Nat → Int32} {cA cB cO : ClassId}
    (hfl : l.flags = flags0) (C : CX p0 s #[Value.ref b] m meth c "ProofDeskLaw" code 7 (some .boolean)) (hex : ex_ok s) (hnc : nc_ok s) (hX : va_X b L xs s s.heap) (hbl : b < s.heap.size) (hL : L ≤ 2560) (hK : va_K D cl (T4 cA cB cO) s) :
    ∀ (d k : Nat), L ≤ 5 * k + d → 5 * k ≤ 2560 → ∀ (p q g : Nat) (f f2 : Nat → Int32) (fo : Nat → Int64) (er : Int32) (H : Heap) (locs : List Loc) (ls : Array Slot), grp p q g → va_P D cl (W5 h n pl p q g cA cB f f2 ho cO fo hm er p q g) H → va_D (lA s) (W5 h n pl p q g cA cB f f2 ho cO fo hm er p q g) → va_S (lA s) s.heap H locs → lv_has ls 7 [(0, .ref b), (1, .ref h), (2, .ref hm), (3, .ref ho), (4, .int (nI (5 * k)))] → W p0 l e room_1 s m #[Value.ref b] below meth c H locs (5 + k) (212 + 6 * k) (lw_Z below #[Value.ref b] s) (F0 m 23 ls []) := by
  obtain ⟨hx, hb, hml, hown, hts, hr, hlk⟩ := id C
  have hend : ∀ (k : Nat) (H : Heap) (locs : List Loc) (ls : Array Slot), 5 * k ≤ 2560 → va_S (lA s) s.heap H locs → W p0 l e room_1 s m #[Value.ref b] below meth c H locs (5 + k) (212 + 6 * k) (lw_Z below #[Value.ref b] s) (F0 m 813 ls []) := by
    intro k H locs ls hk hS
    refine va_forget (fun q hq => hS.2.2 q hq) ?_
    refine W.widen (k := 1031) (n := 8416) (by omega) (by omega) ?_
    refine lv_iconst (v := 1) hx hb d_W_813 (by decide) ?_
    exact lw_ret hx hb hr hlk d_W_814
  intro d
  induction d with
  | zero =>
    intro k hd hk p q g f f2 fo er H locs ls hG hP hD hS hl
    exact law_step hfl C hex hnc hX hbl hL hk (fun h5 => by omega) hK hG hP hD hS hl (fun _ => hend k H locs ls hk hS) (fun h5 => by omega)
  | succ d ih =>
    intro k hd hk p q g f f2 fo er H locs ls hG hP hD hS hl
    refine law_step hfl C hex hnc hX hbl hL hk (fun h5 => by omega) hK hG hP hD hS hl (fun _ => hend k H locs ls hk hS) (fun h5 p q g f f2 fo er H locs ls hG hP hD hS hl => ?_)
    refine lv_iinc (k := 4) (v := nI (5 * (k + 1))) (lv' := [(4, .int (nI (5 * (k + 1)))), (0, .ref b), (1, .ref h), (2, .ref hm), (3, .ref ho)]) hx hb d_W_807 hl rfl (nI_add (5 * k) 5) (Nat.le_of_ble_eq_true rfl) rfl (fun ls hl => ?_)
    refine lv_goto hx hb d_W_810 rfl ?_
    have hl := lv_sub hl [1, 2, 3, 4, 0] rfl
    have hl : lv_has ls 7 [(0, .ref b), (1, .ref h), (2, .ref hm), (3, .ref ho), (4, .int (nI (5 * (k + 1))))] := hl
    refine W.widen (k := 5 + (k + 1)) (n := 212 + 6 * (k + 1)) (by omega) (by omega) ?_
    exact ih (k + 1) (by omega) (by omega) p q g f f2 fo er H locs ls hG hP hD hS hl
theorem alike_symm {vm vm1 : Vm} (h : vm.Alike vm1) : vm1.Alike vm := by
  obtain ⟨h1, h2, h3⟩ := h
  refine ⟨?_, h2.symm, fun c k1 hk1 => ?_⟩
  · rw [h1]
  · have hc : c < vm.classes.size := by rw [← h2]; exact (Array.getElem?_eq_some_iff.mp hk1).1
    obtain ⟨k2, q1, q2⟩ := h3 c vm.classes[c] (Array.getElem?_eq_getElem hc)
    cases hk1.symm.trans q1
    exact ⟨vm.classes[c], Array.getElem?_eq_getElem hc, by rw [q2]⟩
theorem nc_of {args : Array Value} {s : State} (h : (Cond.not (Cond.castable isN iaN)).before args s = true) : nc_ok s := by
  simp only [Cond.before, Cond.holds, Cond.value] at h
  cases h1 : s.vm.findClass isN with
  | none => simp [h1] at h
  | some k1 =>
    cases h2 : s.vm.findClass iaN with
    | none => simp [h1, h2] at h
    | some k2 => exact ⟨k1, k2, h1, h2, by simpa [h1, h2] using h⟩
theorem grp0 : grp 23 11 2 := by
  refine ⟨⟨by decide, fun d hd => ?_⟩, ⟨by decide, fun d hd => ?_⟩, by decide, by decide, by decide, by decide, by decide⟩
  · have h1 : d ≤ 23 := Nat.le_of_dvd (by decide) hd
    have h2 : ∀ d : Nat, d ≤ 23 → d ∣ 23 → d = 1 ∨ d = 23 := by decide
    exact h2 d h1 hd
  · have h1 : d ≤ 11 := Nat.le_of_dvd (by decide) hd
    have h2 : ∀ d : Nat, d ≤ 11 → d ∣ 11 → d = 1 ∨ d = 11 := by decide
    exact h2 d h1 hd
end
section
/-! the law from its entry -/
set_option maxHeartbeats 4000000 in
theorem law_body {p0 : Program} {l : Launch} {e : Env} {s : State} {m : MethodId} {below : List Frame} {meth : Method} {c : Code} {D : va_G} {b L : Nat} {xs : Nat → Int32} {ls : Array Slot}
    (hfl : l.flags = flags0) (C : CX p0 s #[Value.ref b] m meth c "ProofDeskLaw" code 7 (some .boolean)) (hex : ex_ok s) (hnc : nc_ok s) (hX : va_X b L xs s s.heap) (hbl : b < s.heap.size) (hL : L ≤ 2560) (hK : va_K D cl [] s) (hl : lv_has ls 7 [(0, .ref b)]) :
    W p0 l e room_1 s m #[Value.ref b] below meth c s.heap [] 0 0 (lw_Z below #[Value.ref b] s) (F0 m 0 ls []) := by
  obtain ⟨hx, hb, hml, hown, hts, hr, hlk⟩ := id C
  have hK0 := hK
  have hA : ∀ q : Nat, s.heap.size ≤ q → lA s q := fun q h => h
  have hP : va_P D cl [] s.heap := fun k q h => by simp at h
  have hD : va_D (lA s) [] := ⟨fun i j a b h => by simp at h, fun k q h => by simp at h⟩
  have hS : va_S (lA s) s.heap s.heap [] := va_S.rf
  refine va_new (D := D) (C := "ProofDesk") (T := F_D) (N := 5) (ci := 0) hx hb hts in_D t_D t_D_ok hown (hts _ tk_10) (hts _ tk_11) (hts _ tk_1) hK hP hD hS hA rfl (fs := [.null, .null, .int 0, .int 0, .int 0]) (fun j hj => by
        have h9 : j = 0 ∨ j = 1 ∨ j = 2 ∨ j = 3 ∨ j = 4 := by omega
        rcases h9 with rfl | rfl | rfl | rfl | rfl <;> rfl) (Nat.le_of_ble_eq_true rfl) (Nat.le_of_ble_eq_true rfl) d_W_0 (fun h H hP hD hS => ?_)
  refine lv_dup hx hb d_W_3 rfl ?_
  have hPc := hP.sub (ws' := [(h, .inr (0, [.null, .null, .int 0, .int 0, .int 0]))]) [0] rfl
  have hFc := va_free (wc := [(h, .inr (0, [.null, .null, .int 0, .int 0, .int 0]))]) hD hS hA [0] rfl
  refine va_callv (va_runI (As := []) (rest := [.ref h]) ⟨hx, hb, hml, hown, hts⟩ (c_xinit l D (h := h) (sz := H.size)) (cwI 0 hts (tb_in (fun _ h => h) (fun w hw => by
        rcases List.mem_cons.mp hw with rfl | hw
        · exact tk_14
        · exact hw)) rfl rfl rfl (hts _ tk_1) (hts _ tk_12) (hts _ tk_13) rfl (by decide +kernel) ⟨(Nat.le_of_ble_eq_true rfl), (Nat.le_of_ble_eq_true rfl)⟩) ⟨fun a U g mk q => ⟨q.1, q.2.1, q.2.2.1, va_K.moved (u := U) (U := U.calling g mk a) (Vm.Alike.refl U.vm) q.2.2.2⟩, fun U hU hW => ⟨rfl, by rw [hU], by rw [hU]; exact hPc, va_K.moved hW.alike hK0⟩⟩ rfl rfl hl.1 rfl (lv_room (Nat.le_of_ble_eq_true rfl)) d_W_4 ⟨(Nat.le_of_ble_eq_true rfl), (Nat.le_of_ble_eq_true rfl)⟩) hS (fun q _ h9 => hFc q h9) hFc (fun u t H1 locs ht hvm hw hB hz1 hk1 hS => ?_)
  obtain ⟨n, pl, cA, cB, hP1, hK1, hD1⟩ := hB
  rw [ht] at hP1
  obtain ⟨hP, hD⟩ := va_join (wr := []) (w1 := [xW h n pl 23 11 2, aZ n cA (fun _ => 0), aZ pl cB (fun _ => 0)]) hP hD [0] [] rfl rfl (by decide) (by decide) hk1 hFc hP1 hD1
  have hP : va_P D cl [xW h n pl 23 11 2, aZ n cA (fun _ => 0), aZ pl cB (fun _ => 0)] H1 := hP
  have hD : va_D (lA s) [xW h n pl 23 11 2, aZ n cA (fun _ => 0), aZ pl cB (fun _ => 0)] := hD
  have hK := va_K.moved (alike_symm hvm) hK1
  clear hP1 hD1 hK1 hk1 hFc hPc
  rename_i H9
  skip
  refine lv_astore_n (lv' := [(1, .ref h), (0, .ref b)]) hx hb d_W_7 rfl hl (Nat.le_of_ble_eq_true rfl) rfl (fun ls hl => ?_)
  refine va_new (D := D) (C := "ProofDeskModel") (T := F_M) (N := 4) (ci := 1) hx hb hts in_M t_M t_M_ok hown (hts _ tk_222) (hts _ tk_223) (hts _ tk_2) hK hP hD hS hA rfl (fs := [.int 0, .long 0, .long 0, .long 0]) (fun j hj => by
        have h9 : j = 0 ∨ j = 1 ∨ j = 2 ∨ j = 3 := by omega
        rcases h9 with rfl | rfl | rfl | rfl <;> rfl) (Nat.le_of_ble_eq_true rfl) (Nat.le_of_ble_eq_true rfl) d_W_8 (fun hm H hP hD hS => ?_)
  refine lv_dup hx hb d_W_11 rfl ?_
  have hPc := hP.sub (ws' := [(hm, .inr (1, [.int 0, .long 0, .long 0, .long 0]))]) [3] rfl
  have hFc := va_free (wc := [(hm, .inr (1, [.int 0, .long 0, .long 0, .long 0]))]) hD hS hA [3] rfl
  refine va_callv (va_runI (As := []) (rest := [.ref hm]) ⟨hx, hb, hml, hown, hts⟩ (c_minit l D (h := hm) (sz := H.size)) (cwI 0 hts (tb_in (fun _ h => h) (fun w hw => by
        rcases List.mem_cons.mp hw with rfl | hw
        · exact tk_226
        · exact hw)) rfl rfl rfl (hts _ tk_2) (hts _ tk_224) (hts _ tk_225) rfl (by decide +kernel) ⟨(Nat.le_of_ble_eq_true rfl), (Nat.le_of_ble_eq_true rfl)⟩) ⟨fun a U g mk q => ⟨q.1, q.2.1, q.2.2.1, va_K.moved (u := U) (U := U.calling g mk a) (Vm.Alike.refl U.vm) q.2.2.2⟩, fun U hU hW => ⟨rfl, by rw [hU], by rw [hU]; exact hPc, va_K.moved hW.alike hK0⟩⟩ rfl rfl hl.1 rfl (lv_room (Nat.le_of_ble_eq_true rfl)) d_W_12 ⟨(Nat.le_of_ble_eq_true rfl), (Nat.le_of_ble_eq_true rfl)⟩) hS (fun q _ h9 => hFc q h9) hFc (fun u t H1 locs ht hvm hw hB hz1 hk1 hS => ?_)
  obtain ⟨hP1, hK1, hD1⟩ := hB
  rw [ht] at hP1
  obtain ⟨hP, hD⟩ := va_join (wr := [xW h n pl 23 11 2, aZ n cA (fun _ => 0), aZ pl cB (fun _ => 0)]) (w1 := [mW hm 0 23 11 2]) hP hD [3] [0, 1, 2] rfl rfl (by decide) (by decide) hk1 hFc hP1 hD1
  have hP : va_P D cl [xW h n pl 23 11 2, aZ n cA (fun _ => 0), aZ pl cB (fun _ => 0), mW hm 0 23 11 2] H1 := hP
  have hD : va_D (lA s) [xW h n pl 23 11 2, aZ n cA (fun _ => 0), aZ pl cB (fun _ => 0), mW hm 0 23 11 2] := hD
  refine lv_astore_n (lv' := [(2, .ref hm), (1, .ref h), (0, .ref b)]) hx hb d_W_15 rfl hl (Nat.le_of_ble_eq_true rfl) rfl (fun ls hl => ?_)
  refine lv_iconst (v := 1) hx hb d_W_16 (by decide) ?_
  refine va_newa (D := D) (atype := .long) (ty := .long) (N' := 1) (a0 := (1, .inr (.inl (fun _ => 0)))) hx hb (hts _ tk_317) rfl hK hP hD hS hA (fun cA => rfl) (by decide) (by decide) (by decide) (by decide) (by decide) d_W_17 (fun ho cO H hK hP hD hS => ?_)
  have hP := hP.sub (ws' := W5 h n pl 23 11 2 cA cB (fun _ => 0) (fun _ => 0) ho cO (fun _ => 0) hm 0 23 11 2) [0, 1, 2, 4, 3] rfl
  have hD := hD.sub (ws' := W5 h n pl 23 11 2 cA cB (fun _ => 0) (fun _ => 0) ho cO (fun _ => 0) hm 0 23 11 2) [0, 1, 2, 4, 3] (by decide) rfl
  have hK : va_K D cl (T4 cA cB cO) s := hK
  refine lv_astore_n (lv' := [(3, .ref ho), (2, .ref hm), (1, .ref h), (0, .ref b)]) hx hb d_W_19 rfl hl (Nat.le_of_ble_eq_true rfl) rfl (fun ls hl => ?_)
  refine lv_iconst (v := 0) hx hb d_W_20 (by decide) ?_
  refine lv_istore (lv' := [(4, .int 0), (3, .ref ho), (2, .ref hm), (1, .ref h), (0, .ref b)]) hx hb d_W_21 hl (Nat.le_of_ble_eq_true rfl) rfl (fun ls hl => ?_)
  have hl := lv_sub hl [4, 3, 2, 1, 0] rfl
  have hl : lv_has ls 7 [(0, .ref b), (1, .ref h), (2, .ref hm), (3, .ref ho), (4, .int 0)] := hl
  refine W.widen (k := 5 + 0) (n := 212 + 6 * 0) (by decide) (by decide) ?_
  exact law_loop hfl C hex hnc hX hbl hL hK L 0 (by omega) (by omega) 23 11 2 _ _ _ _ H locs ls grp0 hP hD hS hl
theorem law_K {s : State} {args : Array Value} (hts : ∀ w ∈ tb, w.before args s = true) : ∃ D : va_G, va_K D cl [] s := by
  obtain ⟨cD, iD, kD⟩ := u_known hts in_D (hts _ tk_11)
  obtain ⟨cM, iM, kM⟩ := u_known hts in_M (hts _ tk_223)
  refine ⟨(fun k => if k = 0 then cD else cM, fun k => if k = 0 then iD else iM), fun k q hq => ?_, fun k q hq => by simp at hq⟩
  rcases k with _ | _ | k
  · cases hq
    exact kD
  · cases hq
    exact kM
  · simp [cl] at hq
theorem law_ex {s : State} {args : Array Value} (hts : ∀ w ∈ lw_tbl, w.before args s = true) (h1 : (Cond.isRef (.static thN "UNASSIGNED_STACK" steN)).before args s = true) (h2 : (Cond.isRef (.static thN "SUPPRESSED_SENTINEL" lisN)).before args s = true) : ex_ok s := by
  refine ⟨fun w hw => ?_, ⟨hts (.laysStatic thN "UNASSIGNED_STACK" steN) (by decide +kernel), h1⟩, ⟨hts (.laysStatic thN "SUPPRESSED_SENTINEL" lisN) (by decide +kernel), h2⟩⟩
  have h3 := hts w (fx_in w (List.mem_filter.mp hw).1)
  have h4 := Cond.onTables_vm (A := #[]) (A' := args) (U := s) (U' := s) s.vm w (fx0_ok hw).1
  rw [State.setVm_self] at h4
  rw [h4]; exact h3
/-- from the entry, for every script of at most 2560 ints, the law comes to its end with true -/
theorem whole_start {p : Program} {e : Env} {s : State} {m : MethodId} {below : List Frame} {meth : Method} {c : Code} (l : Launch) (hfl : l.flags = flags0) {b L : Nat} {xs : Nat → Int32} (hL : L ≤ 2560) (C0 : lw_At p s m meth c b L xs) : W p l e room_1 s m #[Value.ref b] below meth c s.heap [] 0 0 (lw_Z below #[Value.ref b] s) (entryFrame m ([Value.ref b] : List Value).toArray 7) := by
  obtain ⟨hx, hb, hr, hml, hown, hts0, hX, hbl, hlk, hgv⟩ := C0
  have hts := tb_of hts0
  have hs := flat_of_before _ hgv
  obtain ⟨D, hK⟩ := law_K hts
  have hl := lv_entry [Value.ref b] (n := 7) (Nat.le_of_ble_eq_true rfl)
  rw [lg_entry_eq]
  exact law_body hfl ⟨hx, hb, hml, hown, hts, hr, hlk⟩ (law_ex hts0 (hs _ (by decide +kernel)) (hs _ (by decide +kernel))) (nc_of (hs _ (by decide +kernel))) hX hbl hL hK hl
end
section
/-! the claim (the skeleton's rows) -/
set_option maxHeartbeats 4000000 in
theorem lw_walk (l : Launch) (hfl : l.flags = flags0) (b : Addr) (xs : List Int32) : MetFree l x (headSpec (Jvm.Cond.code x code maxLocals ret :: tables_1) room_1) (lw_P b xs) (fun _ _ _ _ _ => True) lw_Q := by
  refine MetFree.of_bodyS (code := code) (maxLocals := maxLocals) (ret := ret) (by decide) ?_ ?_
  · intro args s m h hn
    obtain ⟨meth, c, h1, h2, h3, h4, h5, h6, -, -⟩ := Cond.code_spec hn (atoms_spec (ws := Jvm.Cond.code x code maxLocals ret :: tables_1) h _ List.mem_cons_self)
    exact ⟨meth, c, h1, h2, h3, h4, h5, h6⟩
  · intro p e s m args below meth c s₁ B hml0 hP _
    obtain ⟨rfl, hx, hbd, hgv⟩ := hP
    obtain ⟨scr, harrAt, hlist, hof, hsmall⟩ := hx
    obtain ⟨hcb, hkn, -, -⟩ := State.arrayAt?_spec harrAt
    have hown : s.vm.findClass R_law = some m.cls := findClass_of_methodNamed B.named
    have hts0 : ∀ c ∈ (Jvm.Cond.code x code maxLocals ret :: tables_1), c.before #[Value.ref b] s = true := atoms_spec (ws := Jvm.Cond.code x code maxLocals ret :: tables_1) B.pre
    have hts : ∀ w ∈ lw_tbl, w.before #[Value.ref b] s = true := k2_hts_sels lw_privs (fun w hw => hts0 w (List.mem_cons_of_mem _ hw)) lw_privs_ok
    have hml : c.maxLocals = 7 := B.maxLocals_eq (hts0 _ List.mem_cons_self)
    have X₀ : Stand p l e room_1 s m #[Value.ref b] below meth c s₁ [] 0 0 := Stand.of_body B
    have hh0 : s₁.heap = s.heap := by rw [B.state]; rfl
    have hsz : scr.slots.size = xs.length := by rw [← Array.length_toList, hlist, List.length_map]
    have hval : ∀ j : Nat, j < xs.length → scr.slots[j]? = some (.int (xs.getD j 0)) := fun j hj => by
      rw [← Array.getElem?_toList, hlist]
      simp [hj]
    have hbl : b < s.heap.size := (Array.getElem?_eq_some_iff.mp hcb).1
    have hX : va_X b xs.length (fun j => xs.getD j 0) s s.heap := ⟨scr, hcb, hof, hkn, hsz, hval⟩
    have K : W p l e room_1 s m #[Value.ref b] below meth c s₁.heap [] 0 0 (lw_Z below #[Value.ref b] s) (entryFrame m ([Value.ref b] : List Value).toArray 7) := by
      rw [hh0]
      exact whole_start l hfl hbd ⟨B.exec, B.bytes, B.returns, hml, hown, hts, hX, hbl, B.notSynchronized, hgv⟩
    obtain ⟨t, a1, o, b1, b2, b3⟩ := K s₁ rfl X₀
    exact ⟨t, o, a1, b1, b2, b3⟩
theorem lw_pre_spec {args : Array Value} {s : State} (h : (Jvm.Cond.and given_1 narrow_1).before args s = true) (hr : rest_1_c.before args s = true) : ∃ (b : Addr) (xs : List Int32), lw_P b xs args s := by
  have hs := flat_of_before _ h
  have hq := flat_of_before _ hr
  have hc : (Cond.count 1).before args s = true := hs _ (by decide +kernel)
  have harr : (Cond.arrayOf (.arg 0) .int).before args s = true := hs _ (by decide +kernel)
  have hle : (Cond.le (.length (.arg 0)) (.int 2560)).before args s = true := hs _ (by decide +kernel)
  have hlen : (Cond.isInt (.length (.arg 0))).before args s = true := hq _ (by decide +kernel)
  have hall : (Cond.all (.arg 0) (.isInt (.elem (.arg 0) (.index 0)))).before args s = true := hq _ (by decide +kernel)
  obtain ⟨b, xs, hb, hx⟩ := State.ints_of_pre rfl harr hlen hall
  have hsm : xs.length < 2 ^ 31 := hx.choose_spec.2.2.2
  have hev : (Term.length (.arg 0)).eval args s none [] s = some (.int xs.length.toInt32) := hx.length_eval hb
  have hv := Cond.le_ints hev (show (Term.int 2560).eval args s none [] s = some (.int 2560) from rfl)
  have hd : xs.length.toInt32 ≤ 2560 := by
    simpa [Cond.before, Cond.holds, hv] using hle
  have hN : xs.length ≤ 2560 := (Int32.ofNat_le_ofNat hsm (by decide)).mp (show Int32.ofNat xs.length ≤ Int32.ofNat 2560 from hd)
  exact ⟨b, xs, Cond.one_arg hc (show args[0]? = some (.ref b) from hb), hx, hN, h⟩
theorem lw_comes (l : Launch) (hfl : l.flags = flags0) : Comes l x (Jvm.Cond.code x code maxLocals ret :: tables_1) room_1 (fun tb e args s => Calls_1 tb e args s ∧ rest_1 tb e args s ∧ Pre_1 tb e args s)
    (fun _ _ args s o t => lw_Q args s o t) := by
  intro p e ha hc hk s m args below hf hfit hheap happ hpre
  obtain ⟨b, xs, hP⟩ := lw_pre_spec hpre.2.2 hpre.2.1
  obtain ⟨k, o, h1, h2, h3, hQ⟩ := lw_walk l hfl b xs p e ha hc hk s m args below hf ((Spec.applies_iff_loose hf).mp happ).1 hP trivial
  exact ⟨k, o, h1, h2, h3, hQ⟩
theorem lw_frame {s t : State} {o : Outcome} {args : Array Value} (h : Framed s o t [] 1031 8416) :
    Framed s o t (fieldLocs frame_1_writes args s ++ arrayLocs frame_1_arrays args s ++ staticLocs frame_1_statics s) 1031 8416 := h
theorem lw_limb (L : Cond) (hL : ∀ (args : Array Value) (s t : State), L.after args s (.returned (some (.int 1))) t = true) :
    ArmFor flags0 classFile x code maxLocals ret World_1 tables_1 room_1 Calls_1 rest_1 Pre_1
      (fun tb e a s o t => postC L tb e a s o t ∧ Framed s o t (fieldLocs frame_1_writes a s ++ arrayLocs frame_1_arrays a s ++ staticLocs frame_1_statics s) 1031 8416) := by
  intro l hfl _ _ p e ha hc hk s m args below hf hfit hheap happ hpre
  obtain ⟨k, o, h1, h2, h3, rfl, hF⟩ := lw_comes l hfl p e ha hc hk s m args below hf hfit hheap happ hpre
  exact ⟨k, _, h1, h2, h3, hL args s _, lw_frame hF⟩
theorem i_vc : Claimed_1_1 ∧ Claimed_1_2 := ⟨lw_limb limb_1_1 (fun args s t => by simp [limb_1_1, Cond.after, Cond.holds, Cond.value]), lw_limb limb_1_2 (fun args s t => Cond.after_iff.mpr (by
  first | (rw [show limb_1_2 = Cond.eq .result (.int 1) from rfl, Cond.eq_ints (x := 1) (y := 1) rfl rfl]; simp; done) | (simp [limb_1_2, Cond.value, Term.eval]; done)))⟩
end
