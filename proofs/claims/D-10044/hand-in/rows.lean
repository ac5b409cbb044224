section
/-! ===== numbers: primes, Fermat ===== -/
/-- a prime -/
def pd_P (p : Nat) : Prop := 2 ≤ p ∧ ∀ d, d ∣ p → d = 1 ∨ d = p
theorem pd_cop {p a : Nat} (hp : pd_P p) (h : ¬ p ∣ a) : Nat.Coprime p a := by
  rcases hp.2 (Nat.gcd p a) (Nat.gcd_dvd_left p a) with h1 | h1
  · exact h1
  · have h2 := Nat.gcd_dvd_right p a
    rw [h1] at h2
    exact absurd h2 h
theorem pd_eu {p a b : Nat} (hp : pd_P p) (h : p ∣ a * b) : p ∣ a ∨ p ∣ b := by
  by_cases ha : p ∣ a
  · exact Or.inl ha
  · exact Or.inr (Nat.Coprime.dvd_of_dvd_mul_left (pd_cop hp ha) h)
theorem pd_eup {p a : Nat} (hp : pd_P p) : ∀ e, p ∣ a ^ e → p ∣ a
  | 0, h => by
    have h1 := Nat.le_of_dvd (by decide) (show p ∣ 1 from h)
    have := hp.1
    omega
  | e + 1, h => by
    rw [Nat.pow_succ] at h
    rcases pd_eu hp h with h1 | h1
    · exact pd_eup hp e h1
    · exact h1
theorem pd_npos {p a : Nat} (h : ¬ p ∣ a) : 0 < a := by
  rcases Nat.eq_zero_or_pos a with h1 | h1
  · exact absurd (h1 ▸ Nat.dvd_zero p) h
  · exact h1
theorem pd_nd {p a : Nat} (h0 : 0 < a) (h : a < p) : ¬ p ∣ a := fun z => absurd (Nat.le_of_dvd h0 z) (by omega)
/-- two primes, one divides the other -/
theorem pd_pp {p q : Nat} (hp : pd_P p) (hq : pd_P q) (h : p ∣ q) : p = q := by
  rcases hq.2 p h with h1 | h1
  · have := hp.1; omega
  · exact h1
/-! binomials -/
def pd_ch : Nat → Nat → Nat
  | _, 0 => 1
  | 0, _ + 1 => 0
  | n + 1, k + 1 => pd_ch n k + pd_ch n (k + 1)
theorem pd_ch0 (n : Nat) : pd_ch n 0 = 1 := by cases n <;> rfl
theorem pd_chs (n k : Nat) : pd_ch (n + 1) (k + 1) = pd_ch n k + pd_ch n (k + 1) := rfl
theorem pd_chbig : ∀ n k, n < k → pd_ch n k = 0
  | 0, 0, h => absurd h (by omega)
  | 0, k + 1, h => rfl
  | n + 1, 0, h => absurd h (by omega)
  | n + 1, k + 1, h => by rw [pd_chs, pd_chbig n k (by omega), pd_chbig n (k + 1) (by omega)]
theorem pd_chn : ∀ n, pd_ch n n = 1
  | 0 => rfl
  | n + 1 => by rw [pd_chs, pd_chn n, pd_chbig n (n + 1) (by omega)]
theorem pd_chm : ∀ n k, (k + 1) * pd_ch (n + 1) (k + 1) = (n + 1) * pd_ch n k
  | 0, 0 => rfl
  | 0, k + 1 => by rw [pd_chbig (0 + 1) (k + 1 + 1) (by omega), pd_chbig 0 (k + 1) (by omega)]; rfl
  | n + 1, 0 => by
    have h := pd_chm n 0
    rw [pd_chs, pd_ch0]
    rw [pd_ch0] at h
    omega
  | n + 1, k + 1 => by
    have h1 := pd_chm n k
    have h2 := pd_chm n (k + 1)
    have e1 := pd_chs (n + 1) (k + 1)
    have e2 := pd_chs n k
    rw [e1]
    grind
/-- the sum of the first m rows of (a + 1) ^ n -/
def pd_B (a n : Nat) : Nat → Nat
  | 0 => 0
  | m + 1 => pd_B a n m + pd_ch n m * a ^ m
theorem pd_Bs (a n : Nat) : ∀ m, pd_B a (n + 1) (m + 1) = pd_B a n (m + 1) + a * pd_B a n m
  | 0 => by simp [pd_B, pd_ch0]
  | m + 1 => by
    have h := pd_Bs a n m
    have e1 : pd_B a (n + 1) (m + 1 + 1) = pd_B a (n + 1) (m + 1) + pd_ch (n + 1) (m + 1) * a ^ (m + 1) := rfl
    have e2 : pd_B a n (m + 1 + 1) = pd_B a n (m + 1) + pd_ch n (m + 1) * a ^ (m + 1) := rfl
    have e3 : pd_B a n (m + 1) = pd_B a n m + pd_ch n m * a ^ m := rfl
    rw [e1, e2, h, pd_chs]
    have e4 : a * pd_B a n (m + 1) = a * pd_B a n m + pd_ch n m * a ^ (m + 1) := by
      rw [e3, Nat.pow_succ]; grind
    rw [e4]
    grind
theorem pd_bin (a : Nat) : ∀ n, (a + 1) ^ n = pd_B a n (n + 1)
  | 0 => by simp [pd_B, pd_ch0]
  | n + 1 => by
    have h := pd_bin a n
    rw [pd_Bs]
    have e2 : pd_B a n (n + 1 + 1) = pd_B a n (n + 1) + pd_ch n (n + 1) * a ^ (n + 1) := rfl
    rw [e2, pd_chbig n (n + 1) (by omega), Nat.pow_succ, h]
    grind
theorem pd_chp {p k : Nat} (hp : pd_P p) (h0 : 0 < k) (h : k < p) : p ∣ pd_ch p k := by
  obtain ⟨k, rfl⟩ : ∃ j, k = j + 1 := ⟨k - 1, by omega⟩
  obtain ⟨q, rfl⟩ : ∃ j, p = j + 1 := ⟨p - 1, by omega⟩
  have e := pd_chm q k
  have : (q + 1) ∣ (k + 1) * pd_ch (q + 1) (k + 1) := by rw [e]; exact Nat.dvd_mul_right _ _
  rcases pd_eu hp this with h1 | h1
  · exact absurd h1 (pd_nd (by omega) h)
  · exact h1
theorem pd_Bp {p : Nat} (hp : pd_P p) (a : Nat) : ∀ m, m < p → pd_B a p (m + 1) % p = 1 % p
  | 0, _ => by simp [pd_B, pd_ch0]
  | m + 1, h => by
    have ih := pd_Bp hp a m (by omega)
    have e1 : pd_B a p (m + 1 + 1) = pd_B a p (m + 1) + pd_ch p (m + 1) * a ^ (m + 1) := rfl
    obtain ⟨c, hc⟩ := pd_chp hp (show 0 < m + 1 by omega) h
    rw [e1, hc, Nat.mul_assoc, Nat.add_mul_mod_self_left, ih]
/-- Fermat -/
theorem pd_fe {p : Nat} (hp : pd_P p) : ∀ a, a ^ p % p = a % p
  | 0 => by rw [Nat.zero_pow (by have := hp.1; omega)]
  | a + 1 => by
    have ih := pd_fe hp a
    have h2 := hp.1
    have e : pd_B a p (p + 1) = pd_B a p p + pd_ch p p * a ^ p := rfl
    have h3 := pd_Bp hp a (p - 1) (by omega)
    rw [show p - 1 + 1 = p by omega] at h3
    rw [pd_bin, e, pd_chn, Nat.one_mul, Nat.add_mod, h3, ih, ← Nat.add_mod, Nat.add_comm]
theorem pd_dm {x y m : Nat} (h : y ≤ x) : m ∣ x - y ↔ x % m = y % m := by
  constructor
  · rintro ⟨c, hc⟩
    have : x = y + m * c := by omega
    rw [this, Nat.add_mul_mod_self_left]
  · intro h1
    exact Nat.dvd_of_mod_eq_zero (Nat.sub_mod_eq_zero_of_mod_eq h1)
/-- Fermat: the form with p - 1 -/
theorem pd_fl {p a : Nat} (hp : pd_P p) (h : ¬ p ∣ a) : a ^ (p - 1) % p = 1 := by
  have h2 := hp.1
  have ha := pd_npos h
  have e : a ^ p = a * a ^ (p - 1) := by
    rw [← Nat.pow_succ', show (p - 1).succ = p by omega]
  have h1 := pd_fe hp a
  have hpos : 0 < a ^ (p - 1) := Nat.pow_pos ha
  have hle : a ≤ a ^ p := by
    rw [e]; exact Nat.le_mul_of_pos_right a hpos
  have h3 := (pd_dm hle).mpr h1
  have e2 : a ^ p - a = a * (a ^ (p - 1) - 1) := by
    rw [e, Nat.mul_sub, Nat.mul_one]
  rw [e2] at h3
  rcases pd_eu hp h3 with h4 | h4
  · exact absurd h4 h
  · have := (pd_dm (show 1 ≤ a ^ (p - 1) from hpos)).mp h4
    rw [this]
    exact Nat.mod_eq_of_lt h2
theorem pd_sq1 {p x : Nat} (hp : pd_P p) (hx : x < p) (h : x * x % p = 1) : x = 1 ∨ x = p - 1 := by
  have h2 := hp.1
  rcases Nat.eq_zero_or_pos x with h0 | h0
  · rw [h0] at h; simp at h
  · obtain ⟨y, rfl⟩ : ∃ j, x = j + 1 := ⟨x - 1, by omega⟩
    have h3 : p ∣ (y + 1) * (y + 1) - 1 := (pd_dm (Nat.mul_pos h0 h0)).mpr (by rw [h]; exact (Nat.mod_eq_of_lt h2).symm)
    have e : (y + 1) * (y + 1) - 1 = y * (y + 2) := by
      have : (y + 1) * (y + 1) = y * (y + 2) + 1 := by grind
      omega
    rw [e] at h3
    rcases pd_eu hp h3 with h4 | h4
    · left
      rcases Nat.eq_zero_or_pos y with h5 | h5
      · omega
      · exact absurd (Nat.le_of_dvd h5 h4) (by omega)
    · right
      have := Nat.le_of_dvd (by omega) h4
      rcases Nat.eq_or_lt_of_le this with h5 | h5
      · omega
      · omega
/-- what is composite has a small divisor -/
theorem pd_small {n : Nat} (h2 : 2 ≤ n) (hn : ¬ pd_P n) : ∃ d, 2 ≤ d ∧ d * d ≤ n ∧ d ∣ n ∧ d < n := by
  have : ∃ d, d ∣ n ∧ d ≠ 1 ∧ d ≠ n := by
    apply Classical.byContradiction
    intro hc
    apply hn
    refine ⟨h2, fun d hd => ?_⟩
    by_cases h1 : d = 1
    · exact Or.inl h1
    · by_cases h3 : d = n
      · exact Or.inr h3
      · exact absurd ⟨d, hd, h1, h3⟩ hc
  obtain ⟨d, ⟨c, hc⟩, h1, h3⟩ := this
  have hd0 : d ≠ 0 := by intro z; rw [z] at hc; omega
  have hc0 : c ≠ 0 := by intro z; rw [z] at hc; omega
  have hc1 : c ≠ 1 := by intro z; rw [z] at hc; omega
  have hdn : d < n := by
    have : d * 2 ≤ d * c := Nat.mul_le_mul_left d (by omega)
    omega
  have hcn : c < n := by
    have : 2 * c ≤ d * c := Nat.mul_le_mul_right c (by omega)
    omega
  rcases Nat.le_total d c with h | h
  · exact ⟨d, by omega, by rw [hc]; exact Nat.mul_le_mul_left d h, ⟨c, hc⟩, hdn⟩
  · exact ⟨c, by omega, by rw [hc]; exact Nat.mul_le_mul_right c h, ⟨d, by rw [hc, Nat.mul_comm]⟩, hcn⟩
/-- no divisor from 2 up to the root: a prime -/
theorem pd_prime {n p : Nat} (h2 : 2 ≤ n) (hp : n < p * p) (h : ∀ d, 2 ≤ d → d < p → ¬ d ∣ n) : pd_P n := by
  apply Classical.byContradiction
  intro hc
  obtain ⟨d, hd, hdd, hdn, _⟩ := pd_small h2 hc
  refine h d hd ?_ hdn
  apply Classical.byContradiction
  intro hz
  have : p * p ≤ d * d := Nat.mul_le_mul (by omega) (by omega)
  omega
/-- the least divisor is a prime -/
theorem pd_least {n p : Nat} (h2 : 2 ≤ p) (hd : p ∣ n) (h : ∀ d, 2 ≤ d → d < p → ¬ d ∣ n) (h0 : 0 < n) : pd_P p := by
  refine ⟨h2, fun d hdp => ?_⟩
  have hle := Nat.le_of_dvd (by omega) hdp
  have hpos := Nat.pos_of_dvd_of_pos hdp (by omega)
  by_cases h1 : d = 1
  · exact Or.inl h1
  · by_cases h3 : d = p
    · exact Or.inr h3
    · exact absurd (Nat.dvd_trans hdp hd) (h d (by omega) (by omega))
theorem pd_hasP {n : Nat} (h : 2 ≤ n) : ∃ p, pd_P p ∧ p ∣ n := by
  obtain ⟨p, ⟨h1, h2⟩, h3⟩ := pk_least (fun d => 2 ≤ d ∧ d ∣ n) ⟨n, h, Nat.dvd_refl n⟩
  exact ⟨p, pd_least h1 h2 (fun d hd hdp z => h3 d hdp ⟨hd, z⟩) (by omega), h2⟩
end
section
/-! ===== sums over 1..n ===== -/
def pd_S (f : Nat → Nat) : Nat → Nat
  | 0 => 0
  | n + 1 => pd_S f n + f (n + 1)
theorem pd_Ss (f : Nat → Nat) (n : Nat) : pd_S f (n + 1) = pd_S f n + f (n + 1) := rfl
theorem pd_Sc {f g : Nat → Nat} : ∀ n, (∀ k, 1 ≤ k → k ≤ n → f k = g k) → pd_S f n = pd_S g n
  | 0, _ => rfl
  | n + 1, h => by rw [pd_Ss, pd_Ss, pd_Sc n (fun k h1 h2 => h k h1 (by omega)), h (n + 1) (by omega) (by omega)]
theorem pd_Sz {f : Nat → Nat} : ∀ n, (∀ k, 1 ≤ k → k ≤ n → f k = 0) → pd_S f n = 0
  | 0, _ => rfl
  | n + 1, h => by rw [pd_Ss, pd_Sz n (fun k h1 h2 => h k h1 (by omega)), h (n + 1) (by omega) (by omega)]
theorem pd_Sadd (f : Nat → Nat) (a : Nat) : ∀ b, pd_S f (a + b) = pd_S f a + pd_S (fun k => f (a + k)) b
  | 0 => rfl
  | b + 1 => by
    rw [← Nat.add_assoc, pd_Ss, pd_Ss, pd_Sadd f a b, Nat.add_assoc, Nat.add_assoc]
theorem pd_Sp (f g : Nat → Nat) : ∀ n, pd_S (fun k => f k + g k) n = pd_S f n + pd_S g n
  | 0 => rfl
  | n + 1 => by rw [pd_Ss, pd_Ss, pd_Ss, pd_Sp f g n]; omega
theorem pd_Sm (c : Nat) (f : Nat → Nat) : ∀ n, pd_S (fun k => c * f k) n = c * pd_S f n
  | 0 => rfl
  | n + 1 => by rw [pd_Ss, pd_Ss, pd_Sm c f n, Nat.mul_add]
theorem pd_S1 : ∀ n, pd_S (fun _ => 1) n = n
  | 0 => rfl
  | n + 1 => by rw [pd_Ss, pd_S1 n]
theorem pd_Sx (F : Nat → Nat → Nat) (m : Nat) : ∀ n, pd_S (fun i => pd_S (fun j => F i j) m) n = pd_S (fun j => pd_S (fun i => F i j) n) m
  | 0 => (pd_Sz m (fun _ _ _ => rfl)).symm
  | n + 1 => by
    rw [pd_Ss, pd_Sx F m n, ← pd_Sp]
    rfl
theorem pd_Sext {f : Nat → Nat} {m n : Nat} (h : m ≤ n) (hz : ∀ k, m < k → k ≤ n → f k = 0) : pd_S f n = pd_S f m := by
  obtain ⟨b, rfl⟩ : ∃ b, n = m + b := ⟨n - m, by omega⟩
  rw [pd_Sadd, pd_Sz b (fun k h1 h2 => hz (m + k) (by omega) (by omega)), Nat.add_zero]
theorem pd_Sper {f : Nat → Nat} {m : Nat} (h : ∀ k, f (m + k) = f k) : ∀ p, pd_S f (m * p) = p * pd_S f m
  | 0 => by rw [Nat.mul_zero, Nat.zero_mul]; rfl
  | p + 1 => by
    rw [Nat.mul_succ, Nat.add_comm (m * p) m, pd_Sadd, pd_Sc (m * p) (fun k _ _ => h k), pd_Sper h p, Nat.succ_mul, Nat.add_comm]
/-- a sum over multiples -/
theorem pd_Smul {f : Nat → Nat} {g : Nat} (hg : 0 < g) (h : ∀ k, ¬ g ∣ k → f k = 0) : ∀ d, pd_S f (g * d) = pd_S (fun j => f (g * j)) d
  | 0 => rfl
  | d + 1 => by
    rw [Nat.mul_succ, pd_Sadd, pd_Smul hg h d, pd_Ss]
    congr 1
    obtain ⟨c, rfl⟩ : ∃ c, g = c + 1 := ⟨g - 1, by omega⟩
    rw [pd_Ss, pd_Sz c, Nat.zero_add, Nat.mul_succ]
    intro k h1 h2
    apply h
    intro z
    have z2 := (Nat.dvd_add_iff_right (Nat.dvd_mul_right (c + 1) d)).mpr z
    exact absurd (Nat.le_of_dvd (by omega) z2) (by omega)
theorem pd_Sone {c v : Nat} : ∀ n, pd_S (fun k => if k = c then v else 0) n = if 1 ≤ c ∧ c ≤ n then v else 0
  | 0 => by rw [if_neg (by omega)]; rfl
  | n + 1 => by
    rw [pd_Ss, pd_Sone n]
    by_cases h : n + 1 = c
    · rw [if_pos h, if_neg (by omega), if_pos (by omega), Nat.zero_add]
    · rw [if_neg h]
      by_cases h2 : 1 ≤ c ∧ c ≤ n
      · rw [if_pos h2, if_pos (by omega), Nat.add_zero]
      · rw [if_neg h2, if_neg (by omega)]
/-! ===== the number of rests without common divisor ===== -/
def pd_ph (m j : Nat) : Nat := if Nat.gcd j m = 1 then 1 else 0
def pd_phi (n : Nat) : Nat := pd_S (pd_ph n) n
theorem pd_phi1 : pd_phi 1 = 1 := by decide
theorem pd_phper (m k : Nat) : pd_ph m (m + k) = pd_ph m k := by
  unfold pd_ph
  simp only [Nat.gcd_self_add_left]
theorem pd_phi_in {p m : Nat} (h : p ∣ m) : pd_phi (p * m) = p * pd_phi m := by
  unfold pd_phi
  rw [← pd_Sper (pd_phper m) p, Nat.mul_comm m p]
  refine pd_Sc _ (fun k _ _ => ?_)
  unfold pd_ph
  have e : Nat.gcd k (p * m) = 1 ↔ Nat.gcd k m = 1 := by
    constructor
    · intro z
      exact (Nat.coprime_mul_iff_right.mp z).2
    · intro z
      exact Nat.coprime_mul_iff_right.mpr ⟨Nat.Coprime.coprime_dvd_right h z, z⟩
  by_cases z : Nat.gcd k m = 1
  · rw [if_pos z, if_pos (e.mpr z)]
  · rw [if_neg z, if_neg (fun y => z (e.mp y))]
theorem pd_phi_out {p m : Nat} (hp : pd_P p) (h : ¬ p ∣ m) : pd_phi (p * m) = (p - 1) * pd_phi m := by
  have h2 := hp.1
  have hc := pd_cop hp h
  have key : pd_phi (p * m) + pd_phi m = p * pd_phi m := by
    have e1 : p * pd_phi m = pd_S (pd_ph m) (p * m) := by
      rw [Nat.mul_comm p m, pd_Sper (pd_phper m) p]; rfl
    have e2 : pd_phi m = pd_S (fun k => if p ∣ k then pd_ph m k else 0) (p * m) := by
      rw [pd_Smul (by omega) (fun k hk => if_neg hk)]
      refine pd_Sc _ (fun k _ _ => ?_)
      rw [if_pos (Nat.dvd_mul_right p k)]
      unfold pd_ph
      simp only [Nat.Coprime.gcd_mul_left_cancel k hc]
    have e3 : pd_phi (p * m) + pd_S (fun k => if p ∣ k then pd_ph m k else 0) (p * m) = pd_S (pd_ph m) (p * m) := by
      unfold pd_phi
      rw [← pd_Sp]
      refine pd_Sc _ (fun k _ _ => ?_)
      show pd_ph (p * m) k + (if p ∣ k then pd_ph m k else 0) = pd_ph m k
      unfold pd_ph
      by_cases hk : p ∣ k
      · rw [if_pos hk, if_neg, Nat.zero_add]
        intro z
        exact Nat.not_coprime_of_dvd_of_dvd (by omega) hk (Nat.dvd_mul_right p m) z
      · rw [if_neg hk, Nat.add_zero]
        have e : Nat.gcd k (p * m) = 1 ↔ Nat.gcd k m = 1 := by
          constructor
          · intro z
            exact (Nat.coprime_mul_iff_right.mp z).2
          · intro z
            exact Nat.coprime_mul_iff_right.mpr ⟨Nat.Coprime.symm (pd_cop hp hk), z⟩
        by_cases z : Nat.gcd k m = 1
        · rw [if_pos z, if_pos (e.mpr z)]
        · rw [if_neg z, if_neg (fun y => z (e.mp y))]
    rw [e1, ← e3, ← e2]
  rw [Nat.sub_mul, Nat.one_mul]
  omega
theorem pd_phi_p {p : Nat} (hp : pd_P p) : pd_phi p = p - 1 := by
  have h2 := hp.1
  have h := pd_phi_out (m := 1) hp (pd_nd (by omega) (by omega))
  rw [pd_phi1, Nat.mul_one, Nat.mul_one] at h
  exact h
theorem pd_phi_le (n : Nat) : pd_phi n ≤ n := by
  have : ∀ m, pd_S (pd_ph n) m ≤ m := by
    intro m
    induction m with
    | zero => exact Nat.le_refl 0
    | succ m ih =>
      rw [pd_Ss]
      have : pd_ph n (m + 1) ≤ 1 := by unfold pd_ph; split <;> omega
      omega
  exact this n
theorem pd_phi_pos {n : Nat} (h : 0 < n) : 0 < pd_phi n := by
  obtain ⟨m, rfl⟩ : ∃ m, n = m + 1 := ⟨n - 1, by omega⟩
  unfold pd_phi
  have : ∀ k, 0 < pd_S (pd_ph (m + 1)) (k + 1) := by
    intro k
    induction k with
    | zero => rw [pd_Ss]; unfold pd_ph; rw [if_pos (Nat.gcd_one_left _)]; omega
    | succ k ih => rw [pd_Ss]; omega
  exact this m
/-- a sum over the divisors of n -/
def pd_dv (f : Nat → Nat) (n : Nat) : Nat := pd_S (fun k => if k ∣ n then f k else 0) n
/-- the sum of phi over the divisors of n is n -/
theorem pd_phi_sum {n : Nat} (hn : 0 < n) : pd_dv pd_phi n = n := by
  have e1 : pd_S (fun j => pd_S (fun d => if Nat.gcd j n * d = n then 1 else 0) n) n = n := by
    refine Eq.trans (pd_Sc n (fun j h1 h2 => ?_)) (pd_S1 n)
    show pd_S (fun d => if Nat.gcd j n * d = n then 1 else 0) n = 1
    have hg : 0 < Nat.gcd j n := Nat.gcd_pos_of_pos_left n (by omega)
    obtain ⟨q, hq⟩ := Nat.gcd_dvd_right j n
    have hqn : q ∣ n := ⟨Nat.gcd j n, by rw [Nat.mul_comm]; exact hq⟩
    have hq0 := Nat.pos_of_dvd_of_pos hqn hn
    have hql := Nat.le_of_dvd hn hqn
    have : pd_S (fun d => if d = q then 1 else 0) n = 1 := by rw [pd_Sone, if_pos (by omega)]
    refine Eq.trans (pd_Sc n (fun d _ _ => ?_)) this
    show (if Nat.gcd j n * d = n then 1 else 0) = (if d = q then 1 else 0)
    by_cases hd : d = q
    · rw [if_pos hd, if_pos (by rw [hd]; exact hq.symm)]
    · rw [if_neg hd, if_neg]
      intro z
      apply hd
      apply Nat.eq_of_mul_eq_mul_left hg
      rw [z, ← hq]
  rw [pd_Sx (fun j d => if Nat.gcd j n * d = n then 1 else 0) n n] at e1
  unfold pd_dv
  refine Eq.trans (pd_Sc n (fun d h1 h2 => ?_)) e1
  show (if d ∣ n then pd_phi d else 0) = pd_S (fun j => if Nat.gcd j n * d = n then 1 else 0) n
  by_cases hd : d ∣ n
  · rw [if_pos hd]
    obtain ⟨g, hg⟩ := hd
    have hg0 : 0 < g := by
      rcases Nat.eq_zero_or_pos g with z | z
      · rw [z] at hg; omega
      · exact z
    have en : n = g * d := by rw [hg, Nat.mul_comm]
    conv => rhs; rw [en]
    rw [pd_Smul hg0]
    · refine pd_Sc d (fun j _ _ => ?_)
      show pd_ph d j = (if Nat.gcd (g * j) (g * d) * d = g * d then 1 else 0)
      rw [Nat.gcd_mul_left]
      unfold pd_ph
      by_cases z : Nat.gcd j d = 1
      · rw [if_pos z, if_pos (by rw [z, Nat.mul_one])]
      · rw [if_neg z, if_neg]
        intro y
        apply z
        have y2 : g * Nat.gcd j d = g * 1 := by
          rw [Nat.mul_one]
          exact Nat.eq_of_mul_eq_mul_right (by omega) y
        exact Nat.eq_of_mul_eq_mul_left hg0 y2
    · intro k hk
      refine if_neg (fun y => hk ?_)
      have : Nat.gcd k (g * d) = g := Nat.eq_of_mul_eq_mul_right (by omega) y
      rw [← this]
      exact Nat.gcd_dvd_left _ _
  · rw [if_neg hd]
    exact (pd_Sz n (fun j _ _ => if_neg (fun y => hd ⟨Nat.gcd j n, by rw [Nat.mul_comm]; exact y.symm⟩))).symm
/-- one more prime factor: a sum over divisors -/
theorem pd_dvs (f : Nat → Nat) {p m : Nat} (e : Nat) (hp : pd_P p) (h : ¬ p ∣ m) : pd_dv f (p * (p ^ e * m)) = pd_dv (fun k => f (p * k)) (p ^ e * m) + pd_dv f m := by
  have h2 := hp.1
  have hm := pd_npos h
  have hpe : 0 < p ^ e := Nat.pow_pos (by omega)
  unfold pd_dv
  have e1 : pd_S (fun k => if k ∣ p * (p ^ e * m) then f k else 0) (p * (p ^ e * m)) = pd_S (fun k => if p ∣ k then (if k ∣ p * (p ^ e * m) then f k else 0) else 0) (p * (p ^ e * m)) + pd_S (fun k => if k ∣ m then f k else 0) (p * (p ^ e * m)) := by
    rw [← pd_Sp]
    refine pd_Sc _ (fun k h1 _ => ?_)
    show (if k ∣ p * (p ^ e * m) then f k else 0) = (if p ∣ k then (if k ∣ p * (p ^ e * m) then f k else 0) else 0) + (if k ∣ m then f k else 0)
    by_cases hk : p ∣ k
    · rw [if_pos hk, if_neg (fun z => h (Nat.dvd_trans hk z)), Nat.add_zero]
    · rw [if_neg hk, Nat.zero_add]
      have e : k ∣ p * (p ^ e * m) ↔ k ∣ m := by
        constructor
        · intro z
          have hc := Nat.Coprime.symm (pd_cop hp hk)
          exact Nat.Coprime.dvd_of_dvd_mul_left (Nat.Coprime.pow_right e hc) (Nat.Coprime.dvd_of_dvd_mul_left hc z)
        · intro z
          exact Nat.dvd_mul_left_of_dvd (Nat.dvd_mul_left_of_dvd z _) _
      by_cases z : k ∣ m
      · rw [if_pos z, if_pos (e.mpr z)]
      · rw [if_neg z, if_neg (fun y => z (e.mp y))]
  rw [e1]
  congr 1
  · rw [pd_Smul (by omega) (fun k hk => if_neg hk)]
    refine pd_Sc _ (fun k h1 _ => ?_)
    rw [if_pos (Nat.dvd_mul_right p k)]
    by_cases z : k ∣ p ^ e * m
    · rw [if_pos z, if_pos (Nat.mul_dvd_mul_left p z)]
    · rw [if_neg z, if_neg (fun y => z (Nat.dvd_of_mul_dvd_mul_left (by omega) y))]
  · have hle : m ≤ p * (p ^ e * m) := by
      have a1 : m ≤ p ^ e * m := Nat.le_mul_of_pos_left m hpe
      have a2 : p ^ e * m ≤ p * (p ^ e * m) := Nat.le_mul_of_pos_left _ (by omega)
      omega
    exact pd_Sext hle (fun k h1 _ => if_neg (fun z => absurd (Nat.le_of_dvd hm z) (by omega)))
theorem pd_dv1 (f : Nat → Nat) : pd_dv f 1 = f 1 := by
  unfold pd_dv
  rw [pd_Ss, if_pos (Nat.dvd_refl 1)]
  exact Nat.zero_add _
/-- the number of divisors -/
theorem pd_cnt {p m : Nat} (hp : pd_P p) (h : ¬ p ∣ m) : ∀ e, pd_dv (fun _ => 1) (p ^ e * m) = pd_dv (fun _ => 1) m * (e + 1)
  | 0 => by rw [Nat.pow_zero, Nat.one_mul, Nat.zero_add, Nat.mul_one]
  | e + 1 => by
    rw [Nat.pow_succ', Nat.mul_assoc, pd_dvs _ e hp h, pd_cnt hp h e]
    grind
/-- 1 + p + .. + p ^ e, as the code builds it -/
def pd_in (p : Nat) : Nat → Nat
  | 0 => 1
  | e + 1 => pd_in p e * p + 1
theorem pd_dvm (c : Nat) (f : Nat → Nat) (n : Nat) : pd_dv (fun k => c * f k) n = c * pd_dv f n := by
  unfold pd_dv
  rw [← pd_Sm]
  refine pd_Sc n (fun k _ _ => ?_)
  split
  · rfl
  · rfl
theorem pd_sig {p m : Nat} (hp : pd_P p) (h : ¬ p ∣ m) : ∀ e, pd_dv (fun k => k) (p ^ e * m) = pd_dv (fun k => k) m * pd_in p e
  | 0 => by rw [Nat.pow_zero, Nat.one_mul]; exact (Nat.mul_one _).symm
  | e + 1 => by
    rw [Nat.pow_succ', Nat.mul_assoc, pd_dvs _ e hp h, pd_dvm p (fun k => k), pd_sig hp h e]
    show _ = pd_dv (fun k => k) m * (pd_in p e * p + 1)
    grind
end
section
/-! ===== products of primes ===== -/
def pd_pr (F : Nat → Nat) : Nat → Nat
  | 0 => 1
  | c + 1 => pd_pr F c * F c
theorem pd_prs (F : Nat → Nat) (c : Nat) : pd_pr F (c + 1) = pd_pr F c * F c := rfl
theorem pd_prc {F G : Nat → Nat} : ∀ c, (∀ j, j < c → F j = G j) → pd_pr F c = pd_pr G c
  | 0, _ => rfl
  | c + 1, h => by rw [pd_prs, pd_prs, pd_prc c (fun j hj => h j (by omega)), h c (by omega)]
/-- F holds c primes in order, their product is n -/
def pd_FL (F : Nat → Nat) (c n : Nat) : Prop := (∀ j, j < c → pd_P (F j)) ∧ (∀ i j, i ≤ j → j < c → F i ≤ F j) ∧ pd_pr F c = n
theorem pd_pr_pow {F : Nat → Nat} : ∀ c, (∀ j, j < c → 2 ≤ F j) → 2 ^ c ≤ pd_pr F c
  | 0, _ => Nat.le_refl 1
  | c + 1, h => by
    rw [pd_prs, Nat.pow_succ]
    exact Nat.mul_le_mul (pd_pr_pow c (fun j hj => h j (by omega))) (h c (by omega))
theorem pd_pr_pre {F : Nat → Nat} (k : Nat) : ∀ b, pd_pr F k ∣ pd_pr F (k + b)
  | 0 => Nat.dvd_refl _
  | b + 1 => by
    rw [← Nat.add_assoc, pd_prs]
    exact Nat.dvd_mul_right_of_dvd (pd_pr_pre k b) _
theorem pd_pr_pre' {F : Nat → Nat} {k c : Nat} (h : k ≤ c) : pd_pr F k ∣ pd_pr F c := by
  have := pd_pr_pre (F := F) k (c - k)
  rwa [show k + (c - k) = c by omega] at this
theorem pd_pr_dvd {F : Nat → Nat} {j c : Nat} (h : j < c) : F j ∣ pd_pr F c := by
  refine Nat.dvd_trans ?_ (pd_pr_pre' (show j + 1 ≤ c by omega))
  rw [pd_prs]
  exact Nat.dvd_mul_left _ _
theorem pd_pr_in {F : Nat → Nat} {q : Nat} (hq : pd_P q) : ∀ c, (∀ j, j < c → pd_P (F j)) → q ∣ pd_pr F c → ∃ j, j < c ∧ F j = q
  | 0, _, h => by
    have h1 := Nat.le_of_dvd (by decide) (show q ∣ 1 from h)
    have := hq.1
    omega
  | c + 1, hF, h => by
    rw [pd_prs] at h
    rcases pd_eu hq h with h1 | h1
    · obtain ⟨j, hj, e⟩ := pd_pr_in hq c (fun j hj => hF j (by omega)) h1
      exact ⟨j, by omega, e⟩
    · exact ⟨c, by omega, (pd_pp hq (hF c (by omega)) h1).symm⟩
theorem pd_pr_pos {F : Nat → Nat} {c : Nat} (h : ∀ j, j < c → pd_P (F j)) : 0 < pd_pr F c := by
  have := pd_pr_pow c (fun j hj => (h j hj).1)
  have : 0 < 2 ^ c := Nat.pow_pos (by decide)
  omega
/-- a new prime doesn't divide what stands before it -/
theorem pd_new {F : Nat → Nat} {c n k : Nat} (h : pd_FL F c n) (hk : k < c) (hn : ∀ i, i + 1 = k → F i ≠ F k) : ¬ F k ∣ pd_pr F k := by
  obtain ⟨hP, hS, _⟩ := h
  intro z
  obtain ⟨j, hj, e⟩ := pd_pr_in (hP k hk) k (fun j hj => hP j (by omega)) z
  obtain ⟨i, rfl⟩ : ∃ i, k = i + 1 := ⟨k - 1, by omega⟩
  have a1 := hS j i (by omega) (by omega)
  have a2 := hS i (i + 1) (by omega) hk
  exact hn i rfl (by omega)
theorem pd_uniq {F G : Nat → Nat} : ∀ c d, (∀ j, j < c → pd_P (F j)) → (∀ i j, i ≤ j → j < c → F i ≤ F j) → (∀ j, j < d → pd_P (G j)) → (∀ i j, i ≤ j → j < d → G i ≤ G j) → pd_pr F c = pd_pr G d → c = d ∧ ∀ j, j < c → F j = G j
  | 0, 0, _, _, _, _, _ => ⟨rfl, fun j hj => absurd hj (by omega)⟩
  | 0, d + 1, hF, _, hG, _, e => by
    have h1 : G d ∣ pd_pr F 0 := by rw [e]; exact pd_pr_dvd (by omega)
    obtain ⟨j, hj, _⟩ := pd_pr_in (hG d (by omega)) 0 hF h1
    omega
  | c + 1, 0, hF, _, hG, _, e => by
    have h1 : F c ∣ pd_pr G 0 := by rw [← e]; exact pd_pr_dvd (by omega)
    obtain ⟨j, hj, _⟩ := pd_pr_in (hF c (by omega)) 0 hG h1
    omega
  | c + 1, d + 1, hF, sF, hG, sG, e => by
    have h1 : G d ∣ pd_pr F (c + 1) := by rw [e]; exact pd_pr_dvd (by omega)
    have h2 : F c ∣ pd_pr G (d + 1) := by rw [← e]; exact pd_pr_dvd (by omega)
    obtain ⟨i, hi, ei⟩ := pd_pr_in (hG d (by omega)) (c + 1) hF h1
    obtain ⟨j, hj, ej⟩ := pd_pr_in (hF c (by omega)) (d + 1) hG h2
    have a1 := sF i c (by omega) (by omega)
    have a2 := sG j d (by omega) (by omega)
    have ee : F c = G d := by omega
    rw [pd_prs, pd_prs, ee] at e
    have e2 := Nat.eq_of_mul_eq_mul_right (by have := (hG d (by omega)).1; omega) e
    obtain ⟨r1, r2⟩ := pd_uniq c d (fun j hj => hF j (by omega)) (fun i j a b => sF i j a (by omega)) (fun j hj => hG j (by omega)) (fun i j a b => sG i j a (by omega)) e2
    refine ⟨by omega, fun j hj => ?_⟩
    by_cases hjc : j = c
    · rw [hjc, ee, r1]
    · exact r2 j (by omega)
theorem pd_FLu {F G : Nat → Nat} {c d n : Nat} (hF : pd_FL F c n) (hG : pd_FL G d n) : c = d ∧ ∀ j, j < c → F j = G j :=
  pd_uniq c d hF.1 hF.2.1 hG.1 hG.2.1 (by rw [hF.2.2, hG.2.2])
/-- every number is a product of primes -/
theorem pd_ex : ∀ b n, 0 < n → n ≤ b → ∃ F c, (∀ j, j < c → pd_P (F j)) ∧ pd_pr F c = n
  | 0, n, h, h2 => absurd h (by omega)
  | b + 1, n, h, h2 => by
    by_cases h1 : n = 1
    · exact ⟨fun _ => 0, 0, fun j hj => absurd hj (by omega), by rw [h1]; rfl⟩
    · obtain ⟨p, hp, m, hm⟩ := pd_hasP (n := n) (by omega)
      have hp2 := hp.1
      have hm0 : 0 < m := by
        rcases Nat.eq_zero_or_pos m with z | z
        · rw [z] at hm; omega
        · exact z
      have hmn : m < n := by
        have : 2 * m ≤ p * m := Nat.mul_le_mul_right m hp2
        omega
      obtain ⟨F, c, hF, e⟩ := pd_ex b m hm0 (by omega)
      refine ⟨fun j => if j = c then p else F j, c + 1, fun j hj => ?_, ?_⟩
      · by_cases hjc : j = c
        · show pd_P (if j = c then p else F j)
          rw [if_pos hjc]; exact hp
        · show pd_P (if j = c then p else F j)
          rw [if_neg hjc]; exact hF j (by omega)
      · rw [pd_prs, if_pos rfl, pd_prc (G := F) c (fun j hj => if_neg (by omega)), e, hm, Nat.mul_comm]
/-- the step of Euler's law at a prime that is there already -/
theorem pd_lift {p M k : Nat} (h : p ∣ M) : ∀ j, ∃ q, (1 + M * k) ^ j = 1 + j * (M * k) + p * M * q
  | 0 => ⟨0, by simp⟩
  | j + 1 => by
    obtain ⟨q, hq⟩ := pd_lift (k := k) h j
    obtain ⟨c, hc⟩ := h
    refine ⟨q * (1 + M * k) + j * k * k * c, ?_⟩
    rw [Nat.pow_succ, hq]
    have e : M * M = p * M * c := by
      conv => lhs; rhs; rw [hc]
      grind
    grind
theorem pd_euL {F : Nat → Nat} : ∀ c, (∀ j, j < c → pd_P (F j)) → ∀ a, 0 < a → Nat.Coprime a (pd_pr F c) → pd_pr F c ∣ a ^ pd_phi (pd_pr F c) - 1
  | 0, _, a, _, _ => Nat.one_dvd _
  | c + 1, hF, a, h0, ha => by
    have hp := hF c (by omega)
    have hp2 := hp.1
    rw [pd_prs, Nat.mul_comm] at ha ⊢
    have haM := (Nat.coprime_mul_iff_right.mp ha).2
    have hap := (Nat.coprime_mul_iff_right.mp ha).1
    have ih := pd_euL c (fun j hj => hF j (by omega)) a h0 haM
    have hM := pd_pr_pos (F := F) (c := c) (fun j hj => hF j (by omega))
    have hpow : ∀ e, 1 ≤ a ^ e := fun e => Nat.pow_pos h0
    by_cases hd : F c ∣ pd_pr F c
    · rw [pd_phi_in hd, Nat.mul_comm (F c) (pd_phi _), Nat.pow_mul]
      obtain ⟨k, hk⟩ := ih
      have e1 : a ^ pd_phi (pd_pr F c) = 1 + pd_pr F c * k := by
        have := hpow (pd_phi (pd_pr F c))
        omega
      obtain ⟨q, hq⟩ := pd_lift (k := k) hd (F c)
      rw [e1, hq]
      refine ⟨k + q, ?_⟩
      have : F c * (pd_pr F c * k) = F c * pd_pr F c * k := by rw [Nat.mul_assoc]
      rw [this, Nat.mul_add]
      omega
    · rw [pd_phi_out hp hd]
      refine Nat.Coprime.mul_dvd_of_dvd_of_dvd (pd_cop hp hd) ?_ ?_
      · rw [Nat.pow_mul]
        have hna : ¬ F c ∣ a := by
          intro z
          exact Nat.not_coprime_of_dvd_of_dvd (by omega) z (Nat.dvd_refl _) hap
        rw [pd_dm (Nat.pow_pos (hpow _)), Nat.pow_mod, pd_fl hp hna, Nat.one_pow]
      · rw [Nat.mul_comm, Nat.pow_mul, pd_dm (Nat.pow_pos (hpow _)), Nat.pow_mod, (pd_dm (hpow _)).mp ih, ← Nat.pow_mod, Nat.one_pow]
/-- Euler -/
theorem pd_euler {n a : Nat} (hn : 2 ≤ n) (ha : Nat.Coprime a n) : a ^ pd_phi n % n = 1 := by
  have h0 : 0 < a := by
    rcases Nat.eq_zero_or_pos a with z | z
    · rw [z] at ha
      have := (Nat.coprime_zero_left n).mp ha
      omega
    · exact z
  obtain ⟨F, c, hF, e⟩ := pd_ex n n (by omega) (Nat.le_refl n)
  have h := pd_euL c hF a h0 (by rw [e]; exact ha)
  rw [e] at h
  rw [(pd_dm (Nat.pow_pos h0)).mp h]
  exact Nat.mod_eq_of_lt (by omega)
/-! ===== a place put into a row ===== -/
def pd_ins (F : Nat → Nat) (t p : Nat) (j : Nat) : Nat := if j < t then F j else if j = t then p else F (j - 1)
theorem pd_ins_lo {F : Nat → Nat} {t p j : Nat} (h : j < t) : pd_ins F t p j = F j := if_pos h
theorem pd_ins_at {F : Nat → Nat} {t p : Nat} : pd_ins F t p t = p := by
  unfold pd_ins
  rw [if_neg (by omega), if_pos rfl]
theorem pd_ins_hi {F : Nat → Nat} {t p j : Nat} (h : t < j) : pd_ins F t p j = F (j - 1) := by
  unfold pd_ins
  rw [if_neg (by omega), if_neg (by omega)]
theorem pd_ins_pr {F : Nat → Nat} {t p : Nat} : ∀ b, pd_pr (pd_ins F t p) (t + b + 1) = pd_pr F (t + b) * p
  | 0 => by
    show pd_pr (pd_ins F t p) (t + 1) = pd_pr F t * p
    rw [pd_prs, pd_ins_at, pd_prc (G := F) t (fun j hj => pd_ins_lo hj)]
  | b + 1 => by
    rw [pd_prs, ← Nat.add_assoc, pd_ins_pr b, pd_ins_hi (by omega), pd_prs, show t + b + 1 - 1 = t + b by omega, Nat.mul_assoc, Nat.mul_comm p, Nat.mul_assoc]
theorem pd_ins_FL {F : Nat → Nat} {c n t p : Nat} (h : pd_FL F c n) (hp : pd_P p) (ht : t ≤ c) (hlo : ∀ j, j < t → F j ≤ p) (hhi : ∀ j, t ≤ j → j < c → p ≤ F j) : pd_FL (pd_ins F t p) (c + 1) (n * p) := by
  obtain ⟨h1, h2, h3⟩ := h
  refine ⟨fun j hj => ?_, fun i j hij hj => ?_, ?_⟩
  · rcases Nat.lt_trichotomy j t with z | z | z
    · rw [pd_ins_lo z]; exact h1 j (by omega)
    · rw [z, pd_ins_at]; exact hp
    · rw [pd_ins_hi z]; exact h1 (j - 1) (by omega)
  · rcases Nat.lt_trichotomy i t with z | z | z
    · rw [pd_ins_lo z]
      rcases Nat.lt_trichotomy j t with y | y | y
      · rw [pd_ins_lo y]; exact h2 i j hij (by omega)
      · rw [y, pd_ins_at]; exact hlo i z
      · rw [pd_ins_hi y]; exact h2 i (j - 1) (by omega) (by omega)
    · rw [z, pd_ins_at]
      rcases Nat.lt_trichotomy j t with y | y | y
      · omega
      · rw [y, pd_ins_at]; exact Nat.le_refl p
      · rw [pd_ins_hi y]; exact hhi (j - 1) (by omega) (by omega)
    · rw [pd_ins_hi z, pd_ins_hi (by omega)]; exact h2 (i - 1) (j - 1) (by omega) (by omega)
  · have := pd_ins_pr (F := F) (t := t) (p := p) (c - t)
    rw [show t + (c - t) = c by omega] at this
    rw [this, h3]
end
section
/-! ===== tables that the kernel looks through ===== -/
def pd_all (f : Nat → Bool) : Nat → Nat → Bool
  | 0, s => f s
  | d + 1, s => pd_all f d s && pd_all f d (s + 2 ^ d)
theorem pd_all_of {f : Nat → Bool} : ∀ d s, pd_all f d s = true → ∀ i, i < 2 ^ d → f (s + i) = true
  | 0, s, h, i, hi => by
    have : i = 0 := by simpa using hi
    rw [this]; exact h
  | d + 1, s, h, i, hi => by
    have h2 : (pd_all f d s && pd_all f d (s + 2 ^ d)) = true := h
    rw [Bool.and_eq_true] at h2
    rw [Nat.pow_succ] at hi
    by_cases hl : i < 2 ^ d
    · exact pd_all_of d s h2.1 i hl
    · have := pd_all_of d (s + 2 ^ d) h2.2 (i - 2 ^ d) (by omega)
      rw [show s + 2 ^ d + (i - 2 ^ d) = s + i by omega] at this
      exact this
/-- the product of the primes up to 173 -/
def pd_K : Nat := 166589903787325219380851695350896256250980509594874862046961683989710
def pd_exc (n : Nat) : Bool := Nat.beq n 1105 || Nat.beq n 1729 || Nat.beq n 2465 || Nat.beq n 2701 || Nat.beq n 2821 || Nat.beq n 6601 || Nat.beq n 8911 || Nat.beq n 10585 || Nat.beq n 15841 || Nat.beq n 18721 || Nat.beq n 29341
def pd_cP (n : Nat) : Bool := Nat.ble n 173 || Nat.ble 30001 n || Nat.beq (n % 3) 0 || Nat.beq (Nat.gcd n pd_K) 1 || !(Nat.beq (2 ^ (n - 1) % n) 1) || !(Nat.beq (3 ^ (n - 1) % n) 1) || pd_exc n
theorem pd_tabP : pd_all (fun k => pd_cP (2 * k + 1)) 14 0 = true := by decide +kernel
theorem pd_tabK : ∀ d, d < 174 → 2 ≤ d → Nat.gcd d pd_K ≠ 1 := by decide +kernel
theorem pd_tabS : ∀ n, n < 174 → ∀ d, d < 14 → (n < 4 ∨ n % 2 = 0 ∨ n % 3 = 0 ∨ 2 ^ (n - 1) % n ≠ 1 ∨ d < 2 ∨ n % d ≠ 0 ∨ d = n) := by decide +kernel
/-- a composite number falls by a power of 2 or of 3, or is one of a few -/
theorem pd_fall {n : Nat} (h4 : 4 ≤ n) (hn : n ≤ 30000) (h2 : n % 2 ≠ 0) (h3 : n % 3 ≠ 0) (hc : ¬ pd_P n) : 2 ^ (n - 1) % n ≠ 1 ∨ 3 ^ (n - 1) % n ≠ 1 ∨ pd_exc n = true := by
  obtain ⟨d, d2, dd, dn, dl⟩ := pd_small (by omega) hc
  by_cases hs : n < 174
  · left
    intro z
    have hd : d < 14 := by
      apply Classical.byContradiction
      intro y
      have : 14 * 14 ≤ d * d := Nat.mul_le_mul (by omega) (by omega)
      omega
    have hm := Nat.mod_eq_zero_of_dvd dn
    rcases pd_tabS n hs d hd with y | y | y | y | y | y | y
    · omega
    · exact h2 y
    · exact h3 y
    · exact y z
    · omega
    · exact y hm
    · omega
  · have hd : d < 174 := by
      apply Classical.byContradiction
      intro y
      have : 174 * 174 ≤ d * d := Nat.mul_le_mul (by omega) (by omega)
      omega
    have hg : Nat.gcd n pd_K ≠ 1 := by
      intro z
      have h1 := Nat.gcd_dvd_gcd_of_dvd_left pd_K dn
      rw [z] at h1
      exact pd_tabK d hd d2 (Nat.eq_one_of_dvd_one h1)
    have ht := pd_all_of 14 0 pd_tabP (n / 2) (by omega)
    have e : 2 * (0 + n / 2) + 1 = n := by omega
    have ht2 : pd_cP (2 * (0 + n / 2) + 1) = true := ht
    rw [e] at ht2
    unfold pd_cP at ht2
    simp only [Bool.or_eq_true, Nat.ble_eq, Nat.beq_eq, Bool.not_eq_true'] at ht2
    by_cases a1 : 2 ^ (n - 1) % n = 1
    · by_cases a2 : 3 ^ (n - 1) % n = 1
      · rcases ht2 with ((((((t | t) | t) | t) | t) | t) | t)
        · omega
        · omega
        · exact absurd t h3
        · exact absurd t hg
        · rw [(Nat.beq_eq ..).mpr a1] at t
          exact absurd t (by decide)
        · rw [(Nat.beq_eq ..).mpr a2] at t
          exact absurd t (by decide)
        · exact Or.inr (Or.inr t)
      · exact Or.inr (Or.inl a2)
    · exact Or.inl a1
/-! ===== the strong test ===== -/
def pd_st (n b o t : Nat) : Prop := b ^ o % n = 1 ∨ ∃ i, i < t ∧ b ^ (o * 2 ^ i) % n = n - 1
theorem pd_odd2 : ∀ {t1 t2 o1 o2 : Nat}, o1 % 2 = 1 → o2 % 2 = 1 → o1 * 2 ^ t1 = o2 * 2 ^ t2 → o1 = o2 ∧ t1 = t2
  | 0, 0, o1, o2, _, _, h => by
    simp at h
    exact ⟨h, rfl⟩
  | 0, t2 + 1, o1, o2, h1, h2, h => by
    rw [Nat.pow_succ, ← Nat.mul_assoc] at h
    simp at h
    omega
  | t1 + 1, 0, o1, o2, h1, h2, h => by
    rw [Nat.pow_succ, ← Nat.mul_assoc] at h
    simp at h
    omega
  | t1 + 1, t2 + 1, o1, o2, h1, h2, h => by
    rw [Nat.pow_succ, Nat.pow_succ, ← Nat.mul_assoc, ← Nat.mul_assoc] at h
    obtain ⟨a, b⟩ := pd_odd2 h1 h2 (show o1 * 2 ^ t1 = o2 * 2 ^ t2 by omega)
    exact ⟨a, by omega⟩
def pd_stb (n b o : Nat) : Nat → Bool
  | 0 => Nat.beq (b ^ o % n) 1
  | t + 1 => pd_stb n b o t || Nat.beq (b ^ (o * 2 ^ t) % n) (n - 1)
theorem pd_stb_of {n b o : Nat} : ∀ t, pd_st n b o t → pd_stb n b o t = true
  | 0, h => by
    rcases h with h | ⟨i, hi, _⟩
    · exact (Nat.beq_eq ..).mpr h
    · omega
  | t + 1, h => by
    unfold pd_stb
    rw [Bool.or_eq_true]
    rcases h with h | ⟨i, hi, e⟩
    · exact Or.inl (pd_stb_of t (Or.inl h))
    · by_cases ht : i = t
      · right
        rw [ht] at e
        exact (Nat.beq_eq ..).mpr e
      · exact Or.inl (pd_stb_of t (Or.inr ⟨i, by omega, e⟩))
theorem pd_exc_no {n o t : Nat} (h : pd_exc n = true) (ho : o % 2 = 1) (e : o * 2 ^ t = n - 1) : ¬ (pd_st n 2 o t ∧ pd_st n 3 o t) := by
  intro ⟨s2, s3⟩
  have s2 := pd_stb_of t s2
  have s3 := pd_stb_of t s3
  unfold pd_exc at h
  simp only [Bool.or_eq_true, Nat.beq_eq] at h
  have go : ∀ (N O T : Nat), O % 2 = 1 → O * 2 ^ T = N - 1 → (pd_stb N 2 O T && pd_stb N 3 O T) = false → n = N → False := by
    intro N O T hO hE hF hN
    subst hN
    obtain ⟨a, b⟩ := pd_odd2 ho hO (e.trans hE.symm)
    subst a
    subst b
    rw [s2, s3] at hF
    exact absurd hF (by decide)
  rcases h with ((((((((((h | h) | h) | h) | h) | h) | h) | h) | h) | h) | h)
  · exact go 1105 69 4 (by decide) (by decide) (by decide +kernel) h
  · exact go 1729 27 6 (by decide) (by decide) (by decide +kernel) h
  · exact go 2465 77 5 (by decide) (by decide) (by decide +kernel) h
  · exact go 2701 675 2 (by decide) (by decide) (by decide +kernel) h
  · exact go 2821 705 2 (by decide) (by decide) (by decide +kernel) h
  · exact go 6601 825 3 (by decide) (by decide) (by decide +kernel) h
  · exact go 8911 4455 1 (by decide) (by decide) (by decide +kernel) h
  · exact go 10585 1323 3 (by decide) (by decide) (by decide +kernel) h
  · exact go 15841 495 5 (by decide) (by decide) (by decide +kernel) h
  · exact go 18721 585 5 (by decide) (by decide) (by decide +kernel) h
  · exact go 29341 7335 2 (by decide) (by decide) (by decide +kernel) h
theorem pd_m1sq {n : Nat} (h : 2 ≤ n) : (n - 1) * (n - 1) % n = 1 := by
  obtain ⟨m, rfl⟩ : ∃ m, n = m + 2 := ⟨n - 2, by omega⟩
  have e : (m + 2 - 1) * (m + 2 - 1) = 1 + (m + 2) * m := by
    rw [show m + 2 - 1 = m + 1 by omega]; grind
  rw [e, Nat.add_mul_mod_self_left]
  exact Nat.mod_eq_of_lt (by omega)
theorem pd_st_fermat {n b o t : Nat} (hn : 2 ≤ n) (h : pd_st n b o t) : b ^ (o * 2 ^ t) % n = 1 := by
  have h1 : 1 % n = 1 := Nat.mod_eq_of_lt (by omega)
  rcases h with h | ⟨i, hi, h⟩
  · rw [Nat.pow_mul, Nat.pow_mod, h, Nat.one_pow, h1]
  · obtain ⟨d, rfl⟩ : ∃ d, t = i + 1 + d := ⟨t - (i + 1), by omega⟩
    have e : o * 2 ^ (i + 1 + d) = o * 2 ^ i * 2 * 2 ^ d := by
      rw [Nat.pow_add, Nat.pow_succ]; grind
    rw [e, Nat.pow_mul, Nat.pow_mul, Nat.pow_mod, Nat.pow_mod (b ^ (o * 2 ^ i)), h, Nat.pow_two, pd_m1sq hn, Nat.one_pow, h1]
theorem pd_st_prime {n b o : Nat} (hp : pd_P n) : ∀ t, b ^ (o * 2 ^ t) % n = 1 → pd_st n b o t
  | 0, h => by
    left
    simpa using h
  | t + 1, h => by
    have h2 := hp.1
    have e : b ^ (o * 2 ^ (t + 1)) = b ^ (o * 2 ^ t) * b ^ (o * 2 ^ t) := by
      rw [← Nat.pow_add, Nat.pow_succ]; congr 1; grind
    rw [e, Nat.mul_mod] at h
    rcases pd_sq1 hp (Nat.mod_lt _ (by omega)) h with z | z
    · rcases pd_st_prime hp t z with y | ⟨i, hi, y⟩
      · exact Or.inl y
      · exact Or.inr ⟨i, by omega, y⟩
    · exact Or.inr ⟨t, by omega, z⟩
/-- the test with 2 and 3 finds the primes -/
theorem pd_exact {n o t : Nat} (h4 : 4 ≤ n) (hn : n ≤ 30000) (h2 : n % 2 ≠ 0) (h3 : n % 3 ≠ 0) (ho : o % 2 = 1) (e : o * 2 ^ t = n - 1) : (pd_st n 2 o t ∧ pd_st n 3 o t) ↔ pd_P n := by
  constructor
  · intro h
    apply Classical.byContradiction
    intro hc
    have f2 := pd_st_fermat (by omega) h.1
    have f3 := pd_st_fermat (by omega) h.2
    rw [e] at f2 f3
    rcases pd_fall h4 hn h2 h3 hc with z | z | z
    · exact z f2
    · exact z f3
    · exact pd_exc_no z ho e h
  · intro hp
    refine ⟨pd_st_prime hp t ?_, pd_st_prime hp t ?_⟩
    · rw [e]; exact pd_fl hp (pd_nd (by omega) (by omega))
    · rw [e]; exact pd_fl hp (pd_nd (by omega) (by omega))
/-! ===== a rest whose powers are all the rests ===== -/
def pd_gen (n g : Nat) : Prop := ∀ q, pd_P q → q ∣ n - 1 → g ^ ((n - 1) / q) % n ≠ 1
def pd_tr (n g : Nat) : Nat → Nat → Nat → Bool
  | 0, _, _ => false
  | f + 1, p, r => bif Nat.ble r 1 then true else bif Nat.ble (p * p) r then (bif Nat.beq (r % p) 0 then (!(Nat.beq (g ^ ((n - 1) / p) % n) 1)) && pd_tr n g f p (r / p) else pd_tr n g f (p + 1) r) else !(Nat.beq (g ^ ((n - 1) / r) % n) 1)
theorem pd_tr_of {n g : Nat} : ∀ f p r, pd_tr n g f p r = true → 2 ≤ p → 0 < r → (∀ d, 2 ≤ d → d < p → ¬ d ∣ r) → ∀ q, pd_P q → q ∣ r → g ^ ((n - 1) / q) % n ≠ 1
  | 0, p, r, h, _, _, _, _, _, _ => absurd (show false = true from h) (by decide)
  | f + 1, p, r, h, h2, h0, hd, q, hq, hqr => by
    unfold pd_tr at h
    have hq2 := hq.1
    have hqle := Nat.le_of_dvd h0 hqr
    by_cases a1 : Nat.ble r 1 = true
    · have := Nat.le_of_ble_eq_true a1
      omega
    · rw [Bool.not_eq_true] at a1
      rw [a1, cond_false] at h
      by_cases a2 : Nat.ble (p * p) r = true
      · rw [a2, cond_true] at h
        by_cases a3 : Nat.beq (r % p) 0 = true
        · rw [a3, cond_true, Bool.and_eq_true] at h
          have a4 := Nat.dvd_of_mod_eq_zero ((Nat.beq_eq ..).mp a3)
          have hpP := pd_least h2 a4 hd h0
          have er := Nat.mul_div_cancel' a4
          rw [← er] at hqr
          rcases pd_eu hq hqr with z | z
          · have e := pd_pp hq hpP z
            rw [e]
            intro y
            have := h.1
            rw [(Nat.beq_eq ..).mpr y] at this
            exact absurd this (by decide)
          · have hr0 : 0 < r / p := Nat.div_pos (Nat.le_of_dvd h0 a4) (by omega)
            exact pd_tr_of f p (r / p) h.2 h2 hr0 (fun d d1 d2 d3 => hd d d1 d2 (by rw [← er]; exact Nat.dvd_mul_left_of_dvd d3 p)) q hq z
        · rw [Bool.not_eq_true] at a3
          rw [a3, cond_false] at h
          refine pd_tr_of f (p + 1) r h (by omega) h0 (fun d d1 d2 d3 => ?_) q hq hqr
          by_cases e : d = p
          · rw [e] at d3
            rw [(Nat.beq_eq ..).mpr (Nat.mod_eq_zero_of_dvd d3)] at a3
            exact absurd a3 (by decide)
          · exact hd d d1 (by omega) d3
      · rw [Bool.not_eq_true] at a2
        rw [a2, cond_false] at h
        have a5 : r < p * p := by
          apply Classical.byContradiction
          intro y
          rw [Nat.ble_eq_true_of_le (Nat.le_of_not_lt y)] at a2
          exact absurd a2 (by decide)
        have hr2 : 2 ≤ r := by omega
        have e := pd_pp hq (pd_prime hr2 a5 hd) hqr
        rw [e]
        intro y
        rw [(Nat.beq_eq ..).mpr y] at h
        exact absurd h (by decide)
def pd_fg (n : Nat) : Nat → Nat → Bool
  | 0, _ => false
  | f + 1, g => (Nat.ble (g + 1) n && pd_tr n g 200 2 (n - 1)) || pd_fg n f (g + 1)
theorem pd_fg_of {n : Nat} (hn : 2 ≤ n) : ∀ f g, pd_fg n f g = true → 2 ≤ g → ∃ k, 2 ≤ k ∧ k < n ∧ pd_gen n k
  | 0, g, h, _ => absurd (show false = true from h) (by decide)
  | f + 1, g, h, h2 => by
    unfold pd_fg at h
    rw [Bool.or_eq_true, Bool.and_eq_true] at h
    rcases h with h | h
    · refine ⟨g, h2, Nat.le_of_ble_eq_true h.1, fun q hq hqd => ?_⟩
      exact pd_tr_of 200 2 (n - 1) h.2 (by omega) (by omega) (fun d d1 d2 => absurd d1 (by omega)) q hq hqd
    · exact pd_fg_of hn f (g + 1) h (by omega)
def pd_sk (n : Nat) : Bool := Nat.beq (n % 3) 0 || !(Nat.beq (2 ^ (n - 1) % n) 1) || !(Nat.beq (3 ^ (n - 1) % n) 1) || (Nat.ble 2 (Nat.gcd n 1632995) && Nat.ble (Nat.gcd n 1632995 + 1) n)
theorem pd_sk_no {n : Nat} (h5 : 5 ≤ n) (hp : pd_P n) : pd_sk n = false := by
  have f2 := pd_fl hp (pd_nd (a := 2) (by omega) (by omega))
  have f3 := pd_fl hp (pd_nd (a := 3) (by omega) (by omega))
  have a1 : Nat.beq (n % 3) 0 = false := by
    rw [← Bool.not_eq_true, Nat.beq_eq]
    intro z
    rcases hp.2 3 (Nat.dvd_of_mod_eq_zero z) with y | y <;> omega
  have a4 : (Nat.ble 2 (Nat.gcd n 1632995) && Nat.ble (Nat.gcd n 1632995 + 1) n) = false := by
    rcases hp.2 (Nat.gcd n 1632995) (Nat.gcd_dvd_left _ _) with y | y
    · rw [y]; rfl
    · rw [y]
      rw [← Bool.not_eq_true, Bool.and_eq_true]
      intro z
      have := Nat.le_of_ble_eq_true z.2
      omega
  unfold pd_sk
  rw [a1, (Nat.beq_eq ..).mpr f2, (Nat.beq_eq ..).mpr f3, a4]
  rfl
theorem pd_tabG : pd_all (fun k => Nat.ble 30001 (2 * k + 1) || Nat.ble (2 * k + 1) 4 || pd_sk (2 * k + 1) || pd_fg (2 * k + 1) 40 2) 14 0 = true := by decide +kernel
theorem pd_root_ex {n : Nat} (hp : pd_P n) (h3 : 3 ≤ n) (hn : n ≤ 30000) : ∃ g, 2 ≤ g ∧ g < n ∧ pd_gen n g := by
  have hodd : n % 2 = 1 := by
    rcases Nat.mod_two_eq_zero_or_one n with z | z
    · rcases hp.2 2 (Nat.dvd_of_mod_eq_zero z) with y | y <;> omega
    · exact z
  by_cases h5 : 5 ≤ n
  · have ht := pd_all_of 14 0 pd_tabG (n / 2) (by omega)
    have e : 2 * (0 + n / 2) + 1 = n := by omega
    have ht2 : (Nat.ble 30001 (2 * (0 + n / 2) + 1) || Nat.ble (2 * (0 + n / 2) + 1) 4 || pd_sk (2 * (0 + n / 2) + 1) || pd_fg (2 * (0 + n / 2) + 1) 40 2) = true := ht
    rw [e, pd_sk_no h5 hp] at ht2
    simp only [Bool.or_eq_true, Nat.ble_eq] at ht2
    rcases ht2 with ((t | t) | t) | t
    · omega
    · omega
    · exact absurd t (by decide)
    · exact pd_fg_of (by omega) 40 2 t (by omega)
  · have e : n = 3 := by omega
    subst e
    refine ⟨2, by omega, by omega, fun q hq hqd => ?_⟩
    have := Nat.le_of_dvd (by decide) hqd
    have := hq.1
    have e : q = 2 := by omega
    rw [e]
    decide
end
section
/-! ===== walks: powers, common divisor, primes, splitter ===== -/
theorem pd_sub1 {n : Nat} (h : 1 ≤ n) : nI n - 1 = nI (n - 1) := pk_sub (b := 1) h
theorem pd_ev {n : Nat} (h : n < 2 ^ 31) : nI n &&& 1 = nI (n % 2) := pk_andN (by omega) (m := 1) 1 (by decide)
theorem pd_half {n : Nat} (h : n < 2 ^ 31) : nI n >>> ((1 : Int32) &&& 31) = nI (n / 2) := pk_shrN h _ 1 (by decide)
theorem pd_times {post : Int32 → Prop} {u : St1} {a b m : Nat} (ha : a < 2 ^ 31) (hb : b < 2 ^ 31) (h0 : 0 < m) (hm : m < 2 ^ 31) (h : post (nI (a * b % m))) : wpX_timesRest post u (nI a) (nI b) (nI m) := by
  obtain ⟨f1, f2, f3, f4, a1, a2⟩ := u
  have hab : a * b < 2 ^ 63 := by
    have : a * b ≤ 2 ^ 31 * 2 ^ 31 := Nat.mul_le_mul (by omega) (by omega)
    omega
  show ¬ (nI m).toInt64 = 0 ∧ (post ((((nI a).toInt64 * (nI b).toInt64) - ((nI a).toInt64 * (nI b).toInt64) / (nI m).toInt64 * (nI m).toInt64).toInt32))
  rw [nI_l ha, nI_l hb, nI_l hm, lN_mul, pk_lRem hab h0 (by omega), lN_i]
  refine ⟨fun z => ?_, h⟩
  have := (pk_lEQ (a := m) (b := 0) (by omega) (by omega)).mp z
  omega
theorem pd_pow {post : Int32 → Prop} {u : St1} {b e m : Nat} (hb : b < 2 ^ 31) (he : e < 2 ^ 31) (h0 : 0 < m) (hm : m < 2 ^ 31) (h : post (nI (b ^ e % m))) : wpX_powerRest post u (nI b) (nI e) (nI m) := by
  obtain ⟨f1, f2, f3, f4, a1, a2⟩ := u
  refine ⟨nI_ne0 h0 hm, nm_r (pk_rem (a := 1) (by omega) h0 hm) ⟨nI_ne0 h0 hm, nm_r (pk_rem hb h0 hm) ?_⟩⟩
  refine lp3 (fun n (x y z : Nat) => wX_powerRest_13 post (nI m) f1 f2 f3 f4 a1 a2 n (nI x) (nI y) (nI z)) (fun x y z => x < m ∧ y < m ∧ z < 2 ^ 31 ∧ x * y ^ z % m = b ^ e % m) (fun _ _ z => z) ?_ (1 % m) (b % m) e ⟨Nat.mod_lt _ h0, Nat.mod_lt _ h0, he, ?_⟩
  · intro n x y z ⟨hx, hy, hz, hi⟩ hw
    refine pk_le z 0 (fun g => ?_) (fun g => ?_)
    · have g0 : z = 0 := by omega
      rw [g0, Nat.pow_zero, Nat.mul_one, Nat.mod_eq_of_lt hx] at hi
      rw [hi]; exact h
    · have hzz : z = z / 2 + z / 2 + z % 2 := by omega
      have hpow : y ^ z = (y * y) ^ (z / 2) * y ^ (z % 2) := by
        conv => lhs; rw [hzz]
        rw [Nat.pow_add, Nat.pow_add, Nat.mul_pow]
      have key : ∀ x', x' < m → x' * (y * y) ^ (z / 2) % m = b ^ e % m → wX_powerRest_36 post (wX_powerRest_13 post (nI m) f1 f2 f3 f4 a1 a2 n) (nI m) (nI x') (nI y) (nI z) f1 f2 f3 f4 a1 a2 := by
        intro x' hx' hi'
        refine pd_times (by omega) (by omega) h0 hm (nm_r (pd_half hz) (hw x' (y * y % m) (z / 2) ⟨hx', Nat.mod_lt _ h0, by omega, ?_⟩ (by omega)))
        rw [Nat.mul_mod, ← Nat.pow_mod, ← Nat.mul_mod]
        exact hi'
      refine pk_eq (z % 2) 0 (fun g2 => ?_) (fun g2 => ?_) (pd_ev hz)
      · refine key x hx ?_
        rw [hpow, g2, Nat.pow_zero, Nat.mul_one] at hi
        exact hi
      · refine pd_times (by omega) (by omega) h0 hm (key (x * y % m) (Nat.mod_lt _ h0) ?_)
        have g3 : z % 2 = 1 := by omega
        rw [hpow, g3, Nat.pow_one] at hi
        rw [← hi, Nat.mod_mul_mod]
        congr 1
        grind
  · rw [Nat.mul_mod, ← Nat.pow_mod, Nat.mod_mod, ← Nat.mul_mod, Nat.one_mul]
theorem pd_gcd {post : Int32 → Prop} {u : St1} {a b : Nat} (ha : a < 2 ^ 31) (hb : b < 2 ^ 31) (h : post (nI (Nat.gcd a b))) : wpX_commonDivisor post u (nI a) (nI b) := by
  obtain ⟨f1, f2, f3, f4, a1, a2⟩ := u
  refine lp2 (fun n (x y : Nat) => wX_commonDivisor_5 post f1 f2 f3 f4 a1 a2 n (nI x) (nI y)) (fun x y => x < 2 ^ 31 ∧ y < 2 ^ 31 ∧ Nat.gcd x y = Nat.gcd a b) (fun x _ => x) ?_ a b ⟨ha, hb, rfl⟩
  intro n x y ⟨hx, hy, hg⟩ hw
  refine pk_eq x 0 (fun g => ?_) (fun g => ?_)
  · rw [g, Nat.gcd_zero_left] at hg
    rw [hg]; exact h
  · refine ⟨nI_ne0 (by omega) hx, nm_r (pk_rem hy (by omega) hx) (hw (y % x) x ⟨?_, hx, ?_⟩ (Nat.mod_lt _ (by omega)))⟩
    · have := Nat.mod_lt y (show 0 < x by omega)
      omega
    · rw [← Nat.gcd_rec]; exact hg
theorem pd_passes {post : Int32 → Prop} {u : St1} {n b : Nat} (h2 : 2 ≤ n) (hodd : n % 2 ≠ 0) (hn : n < 2 ^ 30) (hb : b < 2 ^ 31) (H1 : ∀ o t, o % 2 = 1 → o * 2 ^ t = n - 1 → pd_st n b o t → post 1) (H0 : ∀ o t, o % 2 = 1 → o * 2 ^ t = n - 1 → ¬ pd_st n b o t → post 0) : wpX_passes post u (nI n) (nI b) := by
  obtain ⟨f1, f2, f3, f4, a1, a2⟩ := u
  refine nm_r (pd_sub1 (by omega)) ?_
  refine lp2 (fun k (x y : Nat) => wX_passes_7 post (nI n) (nI b) f1 f2 f3 f4 a1 a2 k (nI x) (nI y)) (fun x y => 0 < x ∧ x * 2 ^ y = n - 1) (fun x _ => x) ?_ (n - 1) 0 ⟨by omega, by rw [Nat.pow_zero, Nat.mul_one]⟩
  intro k o t ⟨ho, he⟩ hw
  have hp : 0 < 2 ^ t := Nat.pow_pos (by decide)
  have ho2 : o ≤ n - 1 := by
    rw [← he]; exact Nat.le_mul_of_pos_right o hp
  have ht2 : 2 ^ t ≤ n - 1 := by
    rw [← he]; exact Nat.le_mul_of_pos_left _ ho
  have ht : t < 2 ^ t := Nat.lt_two_pow_self
  refine pk_eq (o % 2) 0 (fun g => ?_) (fun g => ?_) (pd_ev (by omega))
  · refine nm_r (pd_half (by omega)) (nm_r (nI_1 t) (hw (o / 2) (t + 1) ⟨by omega, ?_⟩ (by omega)))
    rw [← he, Nat.pow_succ, Nat.mul_comm (2 ^ t) 2, ← Nat.mul_assoc]
    congr 1
    omega
  · have g1 : o % 2 = 1 := by omega
    refine pd_pow hb (by omega) (by omega) (by omega) ?_
    have hx : b ^ o % n < n := Nat.mod_lt _ (by omega)
    refine pk_eq (b ^ o % n) 1 (fun g2 => H1 o t g1 he (Or.inl g2)) (fun g2 => ?_)
    refine pk_eq (b ^ o % n) (n - 1) (fun g3 => ?_) (fun g3 => ?_) rfl (pd_sub1 (by omega))
    · by_cases ht0 : t = 0
      · rw [ht0, Nat.pow_zero, Nat.mul_one] at he
        omega
      · exact H1 o t g1 he (Or.inr ⟨0, by omega, by rw [Nat.pow_zero, Nat.mul_one]; exact g3⟩)
    · refine lp2 (fun j (x i : Nat) => wX_passes_51 post (nI n) (nI t) f1 f2 f3 f4 a1 a2 j (nI x) (nI i)) (fun x i => 1 ≤ i ∧ i < 2 ^ 30 + 1 ∧ x = b ^ (o * 2 ^ (i - 1)) % n ∧ ∀ l, l < i → b ^ (o * 2 ^ l) % n ≠ n - 1) (fun _ i => t - i) ?_ (b ^ o % n) 1 ⟨by omega, by omega, by rw [Nat.sub_self, Nat.pow_zero, Nat.mul_one], ?_⟩
      · intro j x i ⟨hi1, hi2, hxe, hl⟩ hw2
        have hxn : x < n := by rw [hxe]; exact Nat.mod_lt _ (by omega)
        refine pk_le t i (fun g4 => ?_) (fun g4 => ?_)
        · refine H0 o t g1 he (fun hs => ?_)
          rcases hs with hs | ⟨l, hl1, hl2⟩
          · exact g2 hs
          · exact hl l (by omega) hl2
        · refine pd_times (by omega) (by omega) (by omega) (by omega) ?_
          have ex : x * x % n = b ^ (o * 2 ^ i) % n := by
            rw [hxe, ← Nat.mul_mod, ← Nat.pow_add]
            congr 2
            obtain ⟨r, rfl⟩ : ∃ r, i = r + 1 := ⟨i - 1, by omega⟩
            rw [Nat.add_sub_cancel, Nat.pow_succ]
            grind
          refine pk_eq (x * x % n) (n - 1) (fun g5 => ?_) (fun g5 => ?_) rfl (pd_sub1 (by omega)) (by have := Nat.mod_lt (x * x) (show 0 < n by omega); omega)
          · exact H1 o t g1 he (Or.inr ⟨i, g4, by rw [← ex]; exact g5⟩)
          · refine nm_r (nI_1 i) (hw2 (x * x % n) (i + 1) ⟨by omega, by omega, by rw [Nat.add_sub_cancel]; exact ex, fun l hl3 => ?_⟩ (by omega))
            by_cases el : l = i
            · rw [el, ← ex]; exact g5
            · exact hl l (by omega)
      · intro l hl1
        have : l = 0 := by omega
        rw [this, Nat.pow_zero, Nat.mul_one]
        exact g3
theorem pd_P2 : pd_P 2 := pd_prime (p := 2) (by omega) (by omega) (fun d h1 h2 => absurd h1 (by omega))
theorem pd_P3 : pd_P 3 := pd_prime (p := 2) (by omega) (by omega) (fun d h1 h2 => absurd h1 (by omega))
theorem pd_nP {n d : Nat} (h2 : 2 ≤ d) (hd : n % d = 0) (hn : n ≠ d) : ¬ pd_P n := by
  intro hp
  rcases hp.2 d (Nat.dvd_of_mod_eq_zero hd) with y | y <;> omega
/-- the test: some answer -/
theorem pd_test0 {post : Int32 → Prop} {u : St1} {n : Nat} (hn : n < 2 ^ 30) (h1 : post 1) (h0 : post 0) : wpX_primeTest post u (nI n) := by
  obtain ⟨f1, f2, f3, f4, a1, a2⟩ := u
  refine pk_le 4 n (fun g => ⟨by decide, pk_eq (n % 2) 0 (fun g2 => br_c (fun _ => h1) (fun _ => h0)) (fun g2 => ⟨by decide, ?_⟩) (pk_rem (d := 2) (by omega) (by omega) (by omega))⟩) (fun g => br_c (fun _ => h0) (fun _ => h1))
  refine pk_eq (n % 3) 0 (fun g3 => br_c (fun _ => h1) (fun _ => h0)) (fun g3 => ?_) (pk_rem (d := 3) (by omega) (by omega) (by omega))
  refine pd_passes (b := 2) (by omega) g2 hn (by omega) (fun o t _ _ _ => br_f (by decide) ?_) (fun o t _ _ _ => br_t rfl h0)
  exact pd_passes (b := 3) (by omega) g2 hn (by omega) (fun o t _ _ _ => br_f (by decide) h1) (fun o t _ _ _ => br_t rfl h0)
/-- the test: the primes -/
theorem pd_test {post : Int32 → Prop} {u : St1} {n : Nat} (hn : n ≤ 30000) (H1 : pd_P n → post 1) (H0 : ¬ pd_P n → post 0) : wpX_primeTest post u (nI n) := by
  obtain ⟨f1, f2, f3, f4, a1, a2⟩ := u
  refine pk_le 4 n (fun g => ⟨by decide, pk_eq (n % 2) 0 (fun g2 => pk_eq n 3 (fun z => absurd z (by omega)) (fun _ => H0 (pd_nP (by omega) g2 (by omega)))) (fun g2 => ⟨by decide, ?_⟩) (pk_rem (d := 2) (by omega) (by omega) (by omega))⟩) (fun g => pk_le n 1 (fun g1 => H0 (fun z => absurd z.1 (by omega))) (fun g1 => H1 ?_))
  · refine pk_eq (n % 3) 0 (fun g3 => pk_eq n 3 (fun z => absurd z (by omega)) (fun _ => H0 (pd_nP (by omega) g3 (by omega)))) (fun g3 => ?_) (pk_rem (d := 3) (by omega) (by omega) (by omega))
    refine pd_passes (b := 2) (by omega) g2 (by omega) (by omega) (fun o t ho ht hs => br_f (by decide) ?_) (fun o t ho ht hs => br_t rfl (H0 (fun hp => hs ((pd_exact g hn g2 g3 ho ht).mpr hp).1)))
    refine pd_passes (b := 3) (by omega) g2 (by omega) (by omega) (fun o' t' ho' ht' hs' => br_f (by decide) (H1 ?_)) (fun o' t' ho' ht' hs' => br_t rfl (H0 (fun hp => hs' ((pd_exact g hn g2 g3 ho' ht').mpr hp).2)))
    obtain ⟨e1, e2⟩ := pd_odd2 ho ho' (ht.trans ht'.symm)
    subst e1
    subst e2
    exact (pd_exact g hn g2 g3 ho ht).mp ⟨hs, hs'⟩
  · have : n = 2 ∨ n = 3 := by omega
    rcases this with e | e
    · rw [e]; exact pd_P2
    · rw [e]; exact pd_P3
/-- the walk: some divisor -/
theorem pd_walk {post : Int32 → Prop} {u : St1} {n a : Nat} (h0 : 0 < n) (hn : n ≤ 30000) (ha : a ≤ 8) (H : ∀ d, 0 < d → d ∣ n → post (nI d)) : wpX_walk post u (nI n) (nI a) := by
  obtain ⟨f1, f2, f3, f4, a1, a2⟩ := u
  refine lp4 (fun k (x y d s : Nat) => wX_walk_11 post (nI n) (nI a) f1 f2 f3 f4 a1 a2 k (nI x) (nI y) (nI d) (nI s)) (fun x y d s => x < 30001 ∧ y < 30001 ∧ 0 < d ∧ d ∣ n ∧ s ≤ 2000) (fun _ _ _ s => 2000 - s) ?_ 2 2 1 0 ⟨by omega, by omega, by omega, Nat.one_dvd n, by omega⟩
  intro k x y d s ⟨hx, hy, hd, hdn, hs⟩ hw
  have hdl := Nat.le_of_dvd h0 hdn
  refine pk_le 2000 s (fun _ => H d hd hdn) (fun g => ?_)
  refine pk_eq d 1 (fun g1 => ?_) (fun g1 => H d hd hdn)
  have hlt : ∀ w, w % n < n := fun w => Nat.mod_lt _ h0
  have step : ∀ v, v < 30001 → nI (v * v % n) + nI a - (nI (v * v % n) + nI a) / nI n * nI n = nI ((v * v % n + a) % n) := by
    intro v hv
    have := hlt (v * v)
    rw [nI_add]
    exact pk_rem (by omega) h0 (by omega)
  have key : ∀ x' y' z, x' < 30001 → y' < 30001 → z < 30001 → wX_walk_84 post (wX_walk_11 post (nI n) (nI a) f1 f2 f3 f4 a1 a2 k) (nI n) (nI a) (nI x') (nI y') (nI s) (nI z) f1 f2 f3 f4 a1 a2 := by
    intro x' y' z hx' hy' hz
    refine pk_eq z 0 (fun _ => nm_r (nI_1 s) (hw x' y' n (s + 1) ⟨hx', hy', h0, Nat.dvd_refl n, by omega⟩ (by omega))) (fun gz => ?_)
    exact pd_gcd (by omega) (by omega) (nm_r (nI_1 s) (hw x' y' (Nat.gcd z n) (s + 1) ⟨hx', hy', Nat.gcd_pos_of_pos_right z h0, Nat.gcd_dvd_right z n, by omega⟩ (by omega)))
  have hx2 := hlt (x * x % n + a)
  have hy2 := hlt (y * y % n + a)
  refine pd_times (by omega) (by omega) h0 (by omega) ⟨nI_ne0 h0 (by omega), nm_r (step x hx) ?_⟩
  refine pd_times (by omega) (by omega) h0 (by omega) ⟨nI_ne0 h0 (by omega), nm_r (step y hy) ?_⟩
  refine pd_times (by omega) (by omega) h0 (by omega) ⟨nI_ne0 h0 (by omega), nm_r (step _ (by omega)) ?_⟩
  have hy3 := hlt ((y * y % n + a) % n * ((y * y % n + a) % n) % n + a)
  generalize ((y * y % n + a) % n * ((y * y % n + a) % n) % n + a) % n = y3 at hy3 ⊢
  generalize (x * x % n + a) % n = x3 at hx2 ⊢
  refine pk_le x3 y3 (fun g2 => ?_) (fun g2 => ?_)
  · rw [pk_sub g2]
    exact key x3 y3 (y3 - x3) (by omega) (by omega) (by omega)
  · rw [pk_sub (by omega)]
    exact key x3 y3 (x3 - y3) (by omega) (by omega) (by omega)
/-- the splitter: a proper divisor of what is composite -/
theorem pd_splitter {post : Int32 → Prop} {u : St1} {n : Nat} (h2 : 2 ≤ n) (hn : n ≤ 30000) (hc : ¬ pd_P n) (H : ∀ d, 2 ≤ d → d < n → d ∣ n → post (nI d)) : wpX_splitter post u (nI n) := by
  obtain ⟨f1, f2, f3, f4, a1, a2⟩ := u
  refine ⟨by decide, pk_eq (n % 2) 0 (fun g => ?_) (fun g => ?_) (pk_rem (d := 2) (by omega) (by omega) (by omega))⟩
  · refine H 2 (by omega) ?_ (Nat.dvd_of_mod_eq_zero g)
    apply Classical.byContradiction
    intro z
    have e : n = 2 := by omega
    rw [e] at hc
    exact hc pd_P2
  · obtain ⟨q, q2, _, qn, ql⟩ := pd_small h2 hc
    have qodd : q % 2 = 1 := by
      rcases Nat.mod_two_eq_zero_or_one q with z | z
      · exact absurd (Nat.mod_eq_zero_of_dvd (Nat.dvd_trans (Nat.dvd_of_mod_eq_zero z) qn)) g
      · exact z
    refine lp1 (fun k (x : Nat) => wX_splitter_10 post (nI n) f1 f2 f3 f4 a1 a2 k (nI x)) (fun x => x ≤ 9) (fun x => 9 - x) ?_ 1 (by omega)
    intro k x hx hw
    refine pk_lt 8 x (fun g2 => ?_) (fun g2 => ?_)
    · refine lp1 (fun k (d : Nat) => wX_splitter_43 post (nI n) f1 f2 f3 f4 a1 a2 k (nI d)) (fun d => 3 ≤ d ∧ d ≤ q ∧ d % 2 = 1) (fun d => q - d) ?_ 3 (by omega)
      intro k d ⟨d3, dq, dodd⟩ hw2
      refine ⟨nI_ne0 (by omega) (by omega), pk_eq (n % d) 0 (fun g3 => ?_) (fun g3 => ?_) (pk_rem (by omega) (by omega) (by omega)) rfl (by have := Nat.mod_lt n (show 0 < d by omega); omega)⟩
      · exact H d (by omega) (by omega) (Nat.dvd_of_mod_eq_zero g3)
      · have hne : d ≠ q := by
          intro z
          rw [z] at g3
          exact g3 (Nat.mod_eq_zero_of_dvd qn)
        exact nm_r (nI_add d 2) (hw2 (d + 2) ⟨by omega, by omega, by omega⟩ (by omega))
    · refine pd_walk (by omega) hn (by omega) (fun d d0 dn => ?_)
      have dl := Nat.le_of_dvd (by omega) dn
      refine pk_le d 1 (fun _ => nm_r (nI_1 x) (hw (x + 1) (by omega) (by omega))) (fun g3 => ?_)
      exact pk_le n d (fun _ => nm_r (nI_1 x) (hw (x + 1) (by omega) (by omega))) (fun g4 => H d (by omega) g4 dn)
end
section
/-! ===== the factor list ===== -/
theorem pd_push {post : St1 → Prop} {f1 f2 f3 p : Int32} {a1 a2 : Nat → Int32} {t : Nat} (ht : t < 20) (h : post (f1, f2, f3, nI (t + 1), a1, upd a2 t p)) : wpX_pushPart post (f1, f2, f3, nI t, a1, a2) p :=
  ⟨pk_in t 20 ht, nm_r (by rw [nI_clamp (by omega)]) (nm_r (nI_1 t) h)⟩
theorem pd_insert {post : St1 → Prop} {f1 f2 f4 : Int32} {a1 a2 : Nat → Int32} {F : Nat → Nat} {c m p : Nat} (hF : pd_FL F c m) (ha : ∀ j, j < c → a1 j = nI (F j)) (hb : ∀ j, j < c → F j < 2 ^ 31) (hp : pd_P p) (hp2 : p < 2 ^ 31) (hc : c < 20)
    (H : ∀ F' a1', pd_FL F' (c + 1) (m * p) → (∀ j, j < c + 1 → a1' j = nI (F' j)) → post (f1, f2, nI (c + 1), f4, a1', a2)) : wpX_insertFactor post (f1, f2, nI c, f4, a1, a2) (nI p) := by
  refine lp3 (fun n (t : Nat) (a b : Nat → Int32) => wX_insertFactor_5 post (nI p) f1 f2 (nI c) f4 n (nI t) a b) (fun t a b => t ≤ c ∧ b = a2 ∧ (∀ j, j < t → a j = nI (F j)) ∧ (∀ j, t < j → j ≤ c → a j = nI (F (j - 1))) ∧ (∀ j, t ≤ j → j < c → p ≤ F j)) (fun t _ _ => t) ?_ c a1 a2 ⟨Nat.le_refl c, rfl, ha, fun j h1 h2 => absurd h1 (by omega), fun j h1 h2 => absurd h1 (by omega)⟩
  intro n t a b ⟨htc, hb2, hlo, hhi, hge⟩ hw
  subst hb2
  have fin : (∀ j, j < t → F j ≤ p) → wX_insertFactor_41 post (nI p) (nI t) f1 f2 (nI c) f4 a b := by
    intro hle
    refine ⟨pk_in t 20 (by omega), nm_r (show _ = upd a t (nI p) by rw [nI_clamp (by omega)]) (nm_r (nI_1 c) (H (pd_ins F t p) _ (pd_ins_FL hF hp htc hle hge) (fun j hj => ?_)))⟩
    rcases Nat.lt_trichotomy j t with z | z | z
    · rw [pk_un (by omega), pd_ins_lo z]; exact hlo j z
    · rw [z, pk_us, pd_ins_at]
    · rw [pk_un (by omega), pd_ins_hi z]; exact hhi j z (by omega)
  refine pk_le t 0 (fun g => fin (fun j hj => absurd hj (by omega))) (fun g => ?_)
  have e1 := pd_sub1 (n := t) (by omega)
  have ea : a (nI t - 1).toNatClampNeg = nI (F (t - 1)) := by
    rw [e1, nI_clamp (by omega)]; exact hlo (t - 1) (by omega)
  refine ⟨pk_in (t - 1) 20 (by omega) e1, pk_le (F (t - 1)) p (fun g2 => fin (fun j hj => ?_)) (fun g2 => ?_) ea rfl (hb (t - 1) (by omega))⟩
  · exact Nat.le_trans (hF.2.1 j (t - 1) (by omega) (by omega)) g2
  · refine ⟨pk_in (t - 1) 20 (by omega) e1, pk_in t 20 (by omega), nm_r (show _ = upd a t (nI (F (t - 1))) by rw [nI_clamp (by omega), ea]) (nm_r (show _ = nI (t - 1) from sb_m1 (by omega)) (hw (t - 1) _ _ ⟨by omega, rfl, fun j hj => ?_, fun j h1 h2 => ?_, fun j h1 h2 => ?_⟩ (by omega)))⟩
    · rw [pk_un (by omega)]; exact hlo j (by omega)
    · by_cases z : j = t
      · rw [z, pk_us]
      · rw [pk_un z]; exact hhi j (by omega) h2
    · by_cases z : j = t - 1
      · rw [z]; omega
      · exact hge j (by omega) h2
theorem pd_two {F G : Nat → Nat} {c t n : Nat} (hF : ∀ j, j < c → 2 ≤ F j) (hG : ∀ j, j < t → 2 ≤ G j) (e : pd_pr F c * pd_pr G t = n) (hn : n ≤ 30000) : c + t ≤ 14 := by
  have h1 := pd_pr_pow c hF
  have h2 := pd_pr_pow t hG
  have h3 : 2 ^ (c + t) ≤ n := by
    rw [Nat.pow_add, ← e]; exact Nat.mul_le_mul h1 h2
  apply Classical.byContradiction
  intro z
  have h4 : 2 ^ 15 ≤ 2 ^ (c + t) := Nat.pow_le_pow_right (by decide) (by omega)
  have : (2 : Nat) ^ 15 = 32768 := by decide
  omega
theorem pd_FL14 {F : Nat → Nat} {c n : Nat} (h : pd_FL F c n) (hn : n ≤ 30000) : c ≤ 14 := by
  have := pd_two (G := F) (t := 0) (fun j hj => (h.1 j hj).1) (fun j hj => absurd hj (by omega)) (show pd_pr F c * pd_pr F 0 = n by rw [h.2.2]; exact Nat.mul_one n) hn
  omega
theorem pd_le_of {a n : Nat} (h : a ∣ n) (h1 : 1 ≤ n) (hn : n ≤ 30000) : a ≤ 30000 := by
  have := Nat.le_of_dvd h1 h
  omega
theorem pd_loop39 {post : St1 → Prop} {n : Nat} (h1 : 1 ≤ n) (hn : n ≤ 30000) {c t : Nat} {a1 a2 : Nat → Int32}
    (h : ∃ F G, (∀ j, j < t → a2 j = nI (G j) ∧ 2 ≤ G j) ∧ (∀ j, j < c → a1 j = nI (F j)) ∧ pd_FL F c (pd_pr F c) ∧ pd_pr F c * pd_pr G t = n)
    (H : ∀ F c a1' a2', pd_FL F c n → (∀ j, j < c → a1' j = nI (F j)) → post (nI n, 1, nI c, 0, a1', a2')) : ∃ fu, wX_findFactors_39 post fu (nI n) 1 (nI c) (nI t) a1 a2 := by
  refine lp4 (fun k (c t : Nat) (a1 a2 : Nat → Int32) => wX_findFactors_39 post k (nI n) 1 (nI c) (nI t) a1 a2) (fun c t a1 a2 => ∃ F G, (∀ j, j < t → a2 j = nI (G j) ∧ 2 ≤ G j) ∧ (∀ j, j < c → a1 j = nI (F j)) ∧ pd_FL F c (pd_pr F c) ∧ pd_pr F c * pd_pr G t = n) (fun c t _ _ => 28 - t - 2 * c) ?_ c t a1 a2 h
  intro k c t a1 a2 ⟨F, G, hG, hF, hL, e⟩ hw
  have hct := pd_two (fun j hj => (hL.1 j hj).1) (fun j hj => (hG j hj).2) e hn
  refine pk_le t 0 (fun g => ?_) (fun g => ?_)
  · have g0 : t = 0 := by omega
    subst g0
    have e2 : pd_pr F c = n := by rw [← e]; exact (Nat.mul_one _).symm
    rw [e2] at hL
    exact H F c a1 a2 hL hF
  · obtain ⟨s, rfl⟩ : ∃ s, t = s + 1 := ⟨t - 1, by omega⟩
    have hg := hG s (by omega)
    have hFn : pd_pr F c ∣ n := ⟨_, e.symm⟩
    have hGn : pd_pr G (s + 1) ∣ n := ⟨pd_pr F c, by rw [Nat.mul_comm]; exact e.symm⟩
    have hgn : G s ∣ n := Nat.dvd_trans (pd_pr_dvd (by omega)) hGn
    have hgl := pd_le_of hgn h1 hn
    refine nm_r (nI_pred s) ⟨pk_in s 20 (by omega), nm_r (show _ = nI (G s) by rw [nI_clamp (by omega)]; exact hg.1) ?_⟩
    refine pd_test hgl (fun hp => br_f (by decide) ?_) (fun hp => br_t rfl ?_)
    · refine pd_insert hL hF (fun j hj => ?_) hp (by omega) (by omega) (fun F' a1' hF' ha' => ?_)
      · have := pd_le_of (Nat.dvd_trans (pd_pr_dvd hj) hFn) h1 hn
        omega
      · have e3 : pd_pr F' (c + 1) = pd_pr F c * G s := hF'.2.2
        refine hw (c + 1) s a1' a2 ⟨F', G, fun j hj => hG j (by omega), ha', ?_, ?_⟩ (by omega)
        · rw [e3]; exact hF'
        · rw [e3, ← e, pd_prs, Nat.mul_assoc, Nat.mul_comm (G s)]
    · refine pd_splitter hg.2 hgl hp (fun d d2 dl dd => ?_)
      have hdv : 2 ≤ G s / d := by
        obtain ⟨q, hq⟩ := dd
        rw [hq, Nat.mul_div_cancel_left q (by omega)]
        apply Classical.byContradiction
        intro z
        have : q = 0 ∨ q = 1 := by omega
        rcases this with y | y
        · rw [y] at hq; omega
        · rw [y] at hq; omega
      refine pd_push (by omega) ⟨nI_ne0 (by omega) (by omega), pd_push (by omega) ?_⟩
      refine hw c (s + 1 + 1) a1 _ ⟨F, fun j => if j = s then d else if j = s + 1 then G s / d else G j, fun j hj => ?_, hF, hL, ?_⟩ (by omega)
      · show upd (upd a2 s (nI d)) (s + 1) (nI (G s) / nI d) j = nI (if j = s then d else if j = s + 1 then G s / d else G j) ∧ 2 ≤ (if j = s then d else if j = s + 1 then G s / d else G j)
        by_cases z1 : j = s
        · rw [if_pos z1, z1, pk_un (by omega), pk_us]; exact ⟨rfl, d2⟩
        · rw [if_neg z1]
          by_cases z2 : j = s + 1
          · rw [if_pos z2, z2, pk_us]; exact ⟨pk_div (by omega) (by omega) (by omega), hdv⟩
          · rw [if_neg z2, pk_un z2, pk_un z1]; exact hG j (by omega)
      · rw [pd_prs, pd_prs, if_pos rfl, if_neg (by omega), if_pos rfl, pd_prc (G := G) s (fun j hj => by rw [if_neg (by omega), if_neg (by omega)]), Nat.mul_assoc (pd_pr G s), Nat.mul_div_cancel' dd, ← pd_prs]
        exact e
/-- the object: its number, and its list where it is made -/
def pd_ok (n : Nat) (u : St1) : Prop := 1 ≤ n ∧ n ≤ 30000 ∧ ∃ s f p a1 a2, u = (nI n, s, f, p, a1, a2) ∧ (¬ s = 0 → ∃ F c, f = nI c ∧ pd_FL F c n ∧ ∀ j, j < c → a1 j = nI (F j))
def pd_full (n : Nat) (F : Nat → Nat) (c : Nat) (u : St1) : Prop := 1 ≤ n ∧ n ≤ 30000 ∧ pd_FL F c n ∧ ∃ s p a1 a2, u = (nI n, s, nI c, p, a1, a2) ∧ ¬ s = 0 ∧ ∀ j, j < c → a1 j = nI (F j)
theorem pd_full_ok {n c : Nat} {F : Nat → Nat} {u : St1} (h : pd_full n F c u) : pd_ok n u := by
  obtain ⟨h1, h2, h3, s, p, a1, a2, e, hs, ha⟩ := h
  exact ⟨h1, h2, s, nI c, p, a1, a2, e, fun _ => ⟨F, c, rfl, h3, ha⟩⟩
theorem pd_find {post : St1 → Prop} {u : St1} {n : Nat} (h : pd_ok n u) (H : ∀ F c u', pd_full n F c u' → post u') : wpX_findFactors post u := by
  obtain ⟨h1, h2, s, f, p, a1, a2, e, hs⟩ := h
  subst e
  have H' : ∀ F c a1' a2', pd_FL F c n → (∀ j, j < c → a1' j = nI (F j)) → post (nI n, 1, nI c, 0, a1', a2') := fun F c a1' a2' hL ha => H F c _ ⟨h1, h2, hL, 1, 0, a1', a2', rfl, by decide, ha⟩
  refine br_c (fun g => ?_) (fun g => ?_)
  · refine pk_le n 1 (fun g1 => ?_) (fun g1 => ?_)
    · refine pd_loop39 (c := 0) (t := 0) h1 h2 ⟨fun _ => 0, fun _ => 0, fun j hj => absurd hj (by omega), fun j hj => absurd hj (by omega), ⟨fun j hj => absurd hj (by omega), fun i j _ hj => absurd hj (by omega), rfl⟩, ?_⟩ H'
      show 1 * 1 = n
      omega
    · refine pd_push (t := 0) (by omega) (pd_loop39 (c := 0) (t := 1) h1 h2 ⟨fun _ => 0, fun _ => n, fun j hj => ?_, fun j hj => absurd hj (by omega), ⟨fun j hj => absurd hj (by omega), fun i j _ hj => absurd hj (by omega), rfl⟩, ?_⟩ H')
      · have : j = 0 := by omega
        rw [this, pk_us]; exact ⟨rfl, g1⟩
      · show 1 * (1 * n) = n
        omega
  · obtain ⟨F, c, ef, hL, ha⟩ := hs g
    subst ef
    exact H F c _ ⟨h1, h2, hL, s, p, a1, a2, rfl, g, ha⟩
theorem pd_factors {post : Int32 → St1 → Prop} {u : St1} {n : Nat} (h : pd_ok n u) (H : ∀ F c u', pd_full n F c u' → post (nI c) u') : wpX_factors post u := by
  obtain ⟨f1, f2, f3, f4, a1, a2⟩ := u
  refine pd_find h (fun F c u' hf => ?_)
  have hf' := hf
  obtain ⟨h1, h2, h3, s, p, b1, b2, e, hs, hb⟩ := hf
  subst e
  exact H F c _ hf'
theorem pd_factor {post : Int32 → St1 → Prop} {u : St1} {n k : Nat} (h : pd_ok n u) (hk : k < 2 ^ 31) (H : ∀ F c u', pd_full n F c u' → post (if k < c then nI (F k) else -2) u') : wpX_factor post u (nI k) := by
  obtain ⟨f1, f2, f3, f4, a1, a2⟩ := u
  refine pd_find h (fun F c u' hf => ?_)
  have hf' := hf
  obtain ⟨h1, h2, h3, s, p, b1, b2, e, hs, hb⟩ := hf
  subst e
  have hc := pd_FL14 h3 h2
  have hh := H F c _ hf'
  refine br_f (nI_pos hk) (pk_lt k c (fun g => ⟨pk_in k 20 (by omega), ?_⟩) (fun g => ?_))
  · rw [if_pos g] at hh
    rw [nI_clamp hk, hb k g]; exact hh
  · rw [if_neg (by omega)] at hh
    exact hh
theorem pd_factorN {post : Int32 → St1 → Prop} {u : St1} {n : Nat} (h : pd_ok n u) (H : ∀ F c u', pd_full n F c u' → post (-2) u') : wpX_factor post u (-1) := by
  obtain ⟨f1, f2, f3, f4, a1, a2⟩ := u
  refine pd_find h (fun F c u' hf => ?_)
  have hf' := hf
  obtain ⟨h1, h2, h3, s, p, b1, b2, e, hs, hb⟩ := hf
  subst e
  exact br_t (by decide) (H F c _ hf')
theorem pd_take {post : Int32 → St1 → Prop} {u : St1} {n m : Nat} (h : pd_ok n u) (h1 : 1 ≤ m) (h2 : m ≤ 30000) (H : ∀ u', pd_ok m u' → post 1 u') : wpX_take post u (nI m) := by
  obtain ⟨_, _, s, f, p, a1, a2, e, hs⟩ := h
  subst e
  refine pk_lt m 1 (fun z => absurd z (by omega)) (fun _ => pk_le m 30000 (fun _ => ?_) (fun z => absurd z (by omega)))
  exact H _ ⟨h1, h2, 0, f, p, a1, a2, rfl, fun z => absurd rfl z⟩
theorem pd_isPrime {post : Int32 → Prop} {u : St1} {n : Nat} (h : pd_ok n u) (H1 : pd_P n → post 1) (H0 : ¬ pd_P n → post 0) : wpX_isPrime post u := by
  obtain ⟨h1, h2, s, f, p, a1, a2, e, hs⟩ := h
  subst e
  unfold wpX_isPrime
  dsimp only
  exact pd_test (post := fun r => narrow .boolean (.int r) = .int r ∧ post r) h2 (fun hp => ⟨rfl, H1 hp⟩) (fun hp => ⟨rfl, H0 hp⟩)
end
section
/-! ===== divisors, sum, coprimes; the law's sums ===== -/
theorem pd_divisors {post : Int32 → St1 → Prop} {u : St1} {n : Nat} (h : pd_ok n u) (H : ∀ u', pd_ok n u' → post (nI (pd_dv (fun _ => 1) n)) u') : wpX_divisors post u := by
  obtain ⟨f1, f2, f3, f4, a1, a2⟩ := u
  refine pd_find h (fun F c u' hf => ?_)
  have hH := H u' (pd_full_ok hf)
  obtain ⟨h1, h2, h3, s, p, b1, b2, e, hs, hb⟩ := hf
  subst e
  have hc := pd_FL14 h3 h2
  refine lp3 (fun f (x y k : Nat) => wX_divisors_10 post (nI n) s (nI c) p b1 b2 f (nI x) (nI y) (nI k)) (fun x y k => k ≤ c ∧ (k = c → x = pd_dv (fun _ => 1) n) ∧ (k < c → ∃ m, pd_pr F k = F k ^ y * m ∧ ¬ F k ∣ m ∧ x = pd_dv (fun _ => 1) m)) (fun _ _ k => c - k) ?_ 1 0 0 ⟨by omega, fun z => ?_, fun z => ⟨1, rfl, pd_nd (by omega) (h3.1 0 z).1, (pd_dv1 (fun _ => 1)).symm⟩⟩
  · intro f x y k ⟨hk, hx, hm⟩ hw
    refine pk_le c k (fun g => ?_) (fun g => ?_)
    · rw [hx (by omega)]; exact hH
    · obtain ⟨m, em, hnd, ex⟩ := hm g
      have e1 : pd_pr F (k + 1) = F k ^ (y + 1) * m := by
        rw [pd_prs, em, Nat.pow_succ]; grind
      have close : (k + 1 < c → F k ≠ F (k + 1)) → wX_divisors_51 post (wX_divisors_10 post (nI n) s (nI c) p b1 b2 f) (nI x) (nI (y + 1)) (nI k) (nI n) s (nI c) p b1 b2 := by
        intro hne
        refine nm_r (show _ = nI (x * (y + 1 + 1)) by rw [nI_1, pk_mul]) (nm_r (nI_1 k) (hw (x * (y + 1 + 1)) 0 (k + 1) ⟨by omega, fun z => ?_, fun z => ⟨pd_pr F (k + 1), by rw [Nat.pow_zero, Nat.one_mul], ?_, ?_⟩⟩ (by omega)))
        · rw [ex, ← pd_cnt (h3.1 k g) hnd (y + 1), ← e1, z, h3.2.2]
        · exact pd_new h3 z (fun i hi => by have : i = k := by omega
                                            rw [this]; exact hne z)
        · rw [ex, ← pd_cnt (h3.1 k g) hnd (y + 1), ← e1]
      refine nm_r (nI_1 y) (pk_le c (k + 1) (fun g2 => close (fun z => absurd z (by omega))) (fun g2 => ?_) rfl (nI_1 k))
      refine ⟨pk_in (k + 1) 20 (by omega) (nI_1 k), pk_in k 20 (by omega), pk_eq (F (k + 1)) (F k) (fun g3 => ?_) (fun g3 => close (fun _ z => g3 z.symm)) ?_ ?_ ?_ ?_⟩
      · refine nm_r (nI_1 k) (hw x (y + 1) (k + 1) ⟨by omega, fun z => absurd z (by omega), fun z => ⟨m, ?_, ?_, ex⟩⟩ (by omega))
        · rw [e1, g3]
        · rw [g3]; exact hnd
      · rw [nI_1, nI_clamp (by omega)]; exact hb (k + 1) g2
      · rw [nI_clamp (by omega)]; exact hb k g
      · have := pd_le_of (show F (k + 1) ∣ n by rw [← h3.2.2]; exact pd_pr_dvd g2) h1 h2
        omega
      · have := pd_le_of (show F k ∣ n by rw [← h3.2.2]; exact pd_pr_dvd g) h1 h2
        omega
  · have e2 := h3.2.2
    rw [← z] at e2
    rw [← e2]
    exact (pd_dv1 (fun _ => 1)).symm
theorem pd_sum {post : Int32 → St1 → Prop} {u : St1} {n : Nat} (h : pd_ok n u) (H : ∀ u', pd_ok n u' → post (nI (pd_dv (fun k => k) n)) u') : wpX_sum post u := by
  obtain ⟨f1, f2, f3, f4, a1, a2⟩ := u
  refine pd_find h (fun F c u' hf => ?_)
  have hH := H u' (pd_full_ok hf)
  obtain ⟨h1, h2, h3, s, p, b1, b2, e, hs, hb⟩ := hf
  subst e
  have hc := pd_FL14 h3 h2
  refine lp3 (fun f (x y k : Nat) => wX_sum_10 post (nI n) s (nI c) p b1 b2 f (nI x) (nI y) (nI k)) (fun x y k => k ≤ c ∧ (k = c → x = pd_dv (fun k => k) n) ∧ (k < c → ∃ e m, pd_pr F k = F k ^ e * m ∧ ¬ F k ∣ m ∧ x = pd_dv (fun k => k) m ∧ y = pd_in (F k) e)) (fun _ _ k => c - k) ?_ 1 1 0 ⟨by omega, fun z => ?_, fun z => ⟨0, 1, rfl, pd_nd (by omega) (h3.1 0 z).1, (pd_dv1 (fun k => k)).symm, rfl⟩⟩
  · intro f x y k ⟨hk, hx, hm⟩ hw
    refine pk_le c k (fun g => ?_) (fun g => ?_)
    · rw [hx (by omega)]; exact hH
    · obtain ⟨e, m, em, hnd, ex, ey⟩ := hm g
      have e1 : pd_pr F (k + 1) = F k ^ (e + 1) * m := by
        rw [pd_prs, em, Nat.pow_succ]; grind
      have ey1 : y * F k + 1 = pd_in (F k) (e + 1) := by rw [ey]; rfl
      have close : (k + 1 < c → F k ≠ F (k + 1)) → wX_sum_59 post (wX_sum_10 post (nI n) s (nI c) p b1 b2 f) (nI x) (nI (y * F k + 1)) (nI k) (nI n) s (nI c) p b1 b2 := by
        intro hne
        refine nm_r (pk_mul x (y * F k + 1)) (nm_r (nI_1 k) (hw (x * (y * F k + 1)) 1 (k + 1) ⟨by omega, fun z => ?_, fun z => ⟨0, pd_pr F (k + 1), by rw [Nat.pow_zero, Nat.one_mul], ?_, ?_, rfl⟩⟩ (by omega)))
        · rw [ex, ey1, ← pd_sig (h3.1 k g) hnd (e + 1), ← e1, z, h3.2.2]
        · exact pd_new h3 z (fun i hi => by have : i = k := by omega
                                            rw [this]; exact hne z)
        · rw [ex, ey1, ← pd_sig (h3.1 k g) hnd (e + 1), ← e1]
      refine ⟨pk_in k 20 (by omega), nm_r (show _ = nI (y * F k + 1) by rw [nI_clamp (by omega), hb k g, pk_mul, nI_1]) (pk_le c (k + 1) (fun g2 => close (fun z => absurd z (by omega))) (fun g2 => ?_) rfl (nI_1 k))⟩
      refine ⟨pk_in (k + 1) 20 (by omega) (nI_1 k), pk_in k 20 (by omega), pk_eq (F (k + 1)) (F k) (fun g3 => ?_) (fun g3 => close (fun _ z => g3 z.symm)) ?_ ?_ ?_ ?_⟩
      · refine nm_r (nI_1 k) (hw x (y * F k + 1) (k + 1) ⟨by omega, fun z => absurd z (by omega), fun z => ⟨e + 1, m, ?_, ?_, ex, ?_⟩⟩ (by omega))
        · rw [e1, g3]
        · rw [g3]; exact hnd
        · rw [g3]; exact ey1
      · rw [nI_1, nI_clamp (by omega)]; exact hb (k + 1) g2
      · rw [nI_clamp (by omega)]; exact hb k g
      · have := pd_le_of (show F (k + 1) ∣ n by rw [← h3.2.2]; exact pd_pr_dvd g2) h1 h2
        omega
      · have := pd_le_of (show F k ∣ n by rw [← h3.2.2]; exact pd_pr_dvd g) h1 h2
        omega
  · have e2 := h3.2.2
    rw [← z] at e2
    rw [← e2]
    exact (pd_dv1 (fun k => k)).symm
theorem pd_coprimes {post : Int32 → St1 → Prop} {u : St1} {n : Nat} (h : pd_ok n u) (H : ∀ u', pd_ok n u' → post (nI (pd_phi n)) u') : wpX_coprimes post u := by
  obtain ⟨f1, f2, f3, f4, a1, a2⟩ := u
  refine pd_find h (fun F c u' hf => ?_)
  have hH := H u' (pd_full_ok hf)
  obtain ⟨h1, h2, h3, s, p, b1, b2, e, hs, hb⟩ := hf
  subst e
  have hc := pd_FL14 h3 h2
  refine lp2 (fun f (x k : Nat) => wX_coprimes_11 post (nI n) s (nI c) p b1 b2 f (nI x) (nI k)) (fun x k => k ≤ c ∧ ∃ T, pd_pr F k * T = n ∧ x = pd_phi (pd_pr F k) * T) (fun _ k => c - k) ?_ n 0 ⟨by omega, n, ?_, ?_⟩
  · intro f x k ⟨hk, T, eT, ex⟩ hw
    refine pk_le c k (fun g => ?_) (fun g => ?_)
    · have ek : k = c := by omega
      rw [ek, h3.2.2] at eT ex
      have : T = 1 := by
        apply Nat.eq_of_mul_eq_mul_left h1
        rw [eT, Nat.mul_one]
      rw [this, Nat.mul_one] at ex
      rw [ex]; exact hH
    · have hq := h3.1 k g
      have hq2 := hq.1
      have hpk : 0 < pd_pr F k := pd_pr_pos (fun j hj => h3.1 j (by omega))
      have hd : pd_pr F (k + 1) ∣ n := by rw [← h3.2.2]; exact pd_pr_pre' (by omega)
      obtain ⟨T', eT'⟩ := hd
      have eTT : T = F k * T' := by
        apply Nat.eq_of_mul_eq_mul_left hpk
        rw [eT, eT', pd_prs, Nat.mul_assoc]
      have hxl : x ≤ 30000 := by
        have : pd_phi (pd_pr F k) * T ≤ pd_pr F k * T := Nat.mul_le_mul_right T (pd_phi_le _)
        omega
      have hql : F k ≤ 30000 := pd_le_of (show F k ∣ n by rw [← h3.2.2]; exact pd_pr_dvd g) h1 h2
      have eb : b1 (nI k).toNatClampNeg = nI (F k) := by rw [nI_clamp (by omega)]; exact hb k g
      have close : (∀ i, i + 1 = k → F i ≠ F k) → wX_coprimes_43 post (wX_coprimes_11 post (nI n) s (nI c) p b1 b2 f) (nI x) (nI k) (nI n) s (nI c) p b1 b2 := by
        intro hne
        have hnd := pd_new h3 g hne
        unfold wX_coprimes_43
        rw [eb]
        refine ⟨pk_in k 20 (by omega), nI_ne0 (by omega) (by omega), pk_in k 20 (by omega), nm_r (show _ = nI (x / F k * (F k - 1)) by rw [pk_div (by omega) (by omega) (by omega), pd_sub1 (by omega), pk_mul]) (nm_r (nI_1 k) (hw _ (k + 1) ⟨by omega, T', eT'.symm, ?_⟩ (by omega)))⟩
        have e3 : x / F k = pd_phi (pd_pr F k) * T' := by
          rw [ex, eTT, Nat.mul_left_comm, Nat.mul_div_cancel_left _ (by omega)]
        rw [e3, pd_prs, Nat.mul_comm (pd_pr F k), pd_phi_out hq hnd]
        grind
      refine pk_le k 0 (fun g2 => close (fun i hi => absurd hi (by omega))) (fun g2 => ?_)
      have e1 := pd_sub1 (n := k) (by omega)
      have eb1 : b1 (nI k - 1).toNatClampNeg = nI (F (k - 1)) := by rw [e1, nI_clamp (by omega)]; exact hb (k - 1) (by omega)
      have hql1 : F (k - 1) ≤ 30000 := pd_le_of (show F (k - 1) ∣ n by rw [← h3.2.2]; exact pd_pr_dvd (by omega)) h1 h2
      refine ⟨pk_in (k - 1) 20 (by omega) e1, pk_in k 20 (by omega), pk_eq (F (k - 1)) (F k) (fun g3 => ?_) (fun g3 => close (fun i hi => ?_)) eb1 eb⟩
      · refine nm_r (nI_1 k) (hw x (k + 1) ⟨by omega, T', eT'.symm, ?_⟩ (by omega))
        have hdv : F k ∣ pd_pr F k := by rw [← g3]; exact pd_pr_dvd (by omega)
        rw [pd_prs, Nat.mul_comm (pd_pr F k), pd_phi_in hdv, ex, eTT]
        grind
      · have : i = k - 1 := by omega
        rw [this]; exact g3
  · show 1 * n = n
    omega
  · show n = pd_phi 1 * n
    rw [pd_phi1]; omega
theorem pd_adds {post : Int32 → St1 → Prop} {u : St1} {n : Nat} (h : pd_ok n u) (H : ∀ u', pd_ok n u' → post 1 u') : wpL_adds post u (nI n) := by
  have h1 := h.1
  have h2 := h.2.1
  obtain ⟨f1, f2, f3, f4, a1, a2⟩ := u
  refine pd_divisors h (fun u' hu' => ?_)
  obtain ⟨g1, g2, g3, g4, b1, b2⟩ := u'
  refine pd_sum hu' (fun u' hu' => ?_)
  clear h
  obtain ⟨f1, f2, f3, f4, a1, a2⟩ := u'
  refine loop_m (fun f (q : Nat × St1) => wL_adds_22 post (nI n) (nI (pd_dv (fun _ => 1) n)) (nI (pd_dv (fun k => k) n)) f (nI (pd_S (fun k => if k ∣ n then 1 else 0) q.1)) (nI (pd_S (fun k => if k ∣ n then k else 0) q.1)) (nI (pd_S (fun k => if k ∣ n then pd_phi k else 0) q.1)) (nI (q.1 + 1)) q.2.1 q.2.2.1 q.2.2.2.1 q.2.2.2.2.1 q.2.2.2.2.2.1 q.2.2.2.2.2.2) (fun q => q.1 ≤ n ∧ ∃ m, pd_ok m q.2) (fun q => n - q.1) ?_ (0, (f1, f2, f3, f4, a1, a2)) ⟨by show 0 ≤ n; omega, n, hu'⟩
  intro f ⟨k, v⟩ ⟨hk, m, hm⟩ hw
  obtain ⟨f1, f2, f3, f4, a1, a2⟩ := v
  have hk : k ≤ n := hk
  refine pk_lt n (k + 1) (fun g => ?_) (fun g => ⟨nI_ne0 (by omega) (by omega), ?_⟩)
  · have ek : k = n := by omega
    subst ek
    refine pd_take hm h1 h2 (fun u' hu' => ?_)
    obtain ⟨g1, g2, g3, g4, b1, b2⟩ := u'
    refine br_f (by decide) (br_t rfl (br_t rfl (br_t ?_ (H _ hu'))))
    have := pd_phi_sum (n := k) (by omega)
    unfold pd_dv at this
    show nI (pd_S (fun j => if j ∣ k then pd_phi j else 0) k) = nI k
    rw [this]
  · refine pk_eq (n % (k + 1)) 0 (fun g2 => ?_) (fun g2 => ?_) (pk_rem (by omega) (by omega) (by omega)) rfl (by have := Nat.mod_lt n (show 0 < k + 1 by omega); omega)
    · have hd := Nat.dvd_of_mod_eq_zero g2
      refine pd_take hm (by omega) (by omega) (fun u' hu' => ?_)
      obtain ⟨g1, g2, g3, g4, b1, b2⟩ := u'
      refine br_f (by decide) (nm_r (show _ = nI (pd_S (fun k => if k ∣ n then 1 else 0) (k + 1)) by rw [pd_Ss, if_pos hd, nI_1]) (nm_r (show _ = nI (pd_S (fun k => if k ∣ n then k else 0) (k + 1)) by rw [pd_Ss, if_pos hd, nI_add]) ?_))
      refine pd_coprimes hu' (fun u' hu' => ?_)
      obtain ⟨g1, g2, g3, g4, b1, b2⟩ := u'
      exact nm_r (show _ = nI (pd_S (fun k => if k ∣ n then pd_phi k else 0) (k + 1)) by rw [pd_Ss, if_pos hd, nI_add]) (nm_r (nI_1 (k + 1)) (hw (k + 1, (g1, g2, g3, g4, b1, b2)) ⟨by show k + 1 ≤ n; omega, _, hu'⟩ (by show n - (k + 1) < n - k; omega)))
    · have hd : ¬ (k + 1) ∣ n := fun z => g2 (Nat.mod_eq_zero_of_dvd z)
      have hn := hw (k + 1, (f1, f2, f3, f4, a1, a2)) ⟨by show k + 1 ≤ n; omega, _, hm⟩ (by show n - (k + 1) < n - k; omega)
      dsimp only at hn
      rw [pd_Ss, pd_Ss, pd_Ss, if_neg hd, if_neg hd, if_neg hd, Nat.add_zero, Nat.add_zero, Nat.add_zero] at hn
      exact nm_r (nI_1 (k + 1)) hn
end
section
/-! ===== power, order, generator, next prime ===== -/
theorem pd_power {post : Int32 → Prop} {u : St1} {n a e : Nat} (h : pd_ok n u) (ha : a ≤ 30000) (he : e ≤ 30000) (H : post (nI (a ^ e % n))) : wpX_power post u (nI a) (nI e) := by
  obtain ⟨h1, h2, s, f, p, a1, a2, eu, hs⟩ := h
  subst eu
  exact br_f (nI_pos (by omega)) (pk_lt 30000 a (fun z => absurd z (by omega)) (fun _ => br_f (nI_pos (by omega)) (pk_le e 30000 (fun _ => pd_pow (by omega) (by omega) (by omega) (by omega) H) (fun z => absurd z (by omega)))))
/-- what the loops of order keep: R the rest at the start, T the group's size -/
def pd_I2 (n a T R o r : Nat) : Prop := 1 ≤ r ∧ r ∣ R ∧ r ∣ o ∧ o ∣ T ∧ 1 ≤ o ∧ a ^ o % n = 1 ∧ ((∀ q, pd_P q → q ∣ T → a ^ (T / q) % n ≠ 1) → o = T)
theorem pd_order65 {post : Int32 → St1 → Prop} {J : Int32 → Int32 → Int32 → Prop} {f2 f3 f4 : Int32} {a1 a2 : Nat → Int32} {n a q T R o r : Nat} (h1 : 2 ≤ n) (h2 : n ≤ 30000) (ha : a ≤ 30000) (hT : T ≤ 30000) (hT1 : 1 ≤ T) (q2 : 2 ≤ q) (q3 : q ≤ 30000) (hqP : q ∣ R → pd_P q) (h : pd_I2 n a T R o r)
    (HJ : ∀ o' r', pd_I2 n a T R o' r' → ¬ q ∣ r' → J (nI o') (nI r') (nI (q + 1))) : ∃ fu, wX_order_65 post J (nI a) (nI q) (nI n) f2 f3 f4 a1 a2 fu (nI o) (nI r) := by
  refine lp2 (fun f (o r : Nat) => wX_order_65 post J (nI a) (nI q) (nI n) f2 f3 f4 a1 a2 f (nI o) (nI r)) (fun o r => pd_I2 n a T R o r) (fun _ r => r) ?_ o r h
  intro f o r hI hw
  have hI' := hI
  obtain ⟨r1, rR, ro, oT, o1, ho, hg⟩ := hI
  have ol := Nat.le_of_dvd hT1 oT
  have rl := Nat.le_of_dvd o1 ro
  refine ⟨nI_ne0 (by omega) (by omega), pk_eq (r % q) 0 (fun g => ?_) (fun g => nm_r (nI_1 q) (HJ o r hI' (fun z => g (Nat.mod_eq_zero_of_dvd z)))) (pk_rem (by omega) (by omega) (by omega)) rfl (by have := Nat.mod_lt r (show 0 < q by omega); omega)⟩
  have qr := Nat.dvd_of_mod_eq_zero g
  have hq := hqP (Nat.dvd_trans qr rR)
  have qo := Nat.dvd_trans qr ro
  have er := Nat.mul_div_cancel' qr
  have eo := Nat.mul_div_cancel' qo
  have hr0 : 1 ≤ r / q := Nat.div_pos (Nat.le_of_dvd r1 qr) (by omega)
  have ho0 : 1 ≤ o / q := Nat.div_pos (Nat.le_of_dvd o1 qo) (by omega)
  have hrl : r / q < r := Nat.div_lt_self r1 q2
  have hol : o / q ≤ o := Nat.div_le_self o q
  have rr : r / q ∣ r := ⟨q, by rw [Nat.mul_comm]; exact er.symm⟩
  have oo : o / q ∣ o := ⟨q, by rw [Nat.mul_comm]; exact eo.symm⟩
  have hro : r / q ∣ o / q := by
    apply Nat.dvd_of_mul_dvd_mul_left (show 0 < q by omega)
    rw [er, eo]; exact ro
  have ed : nI o / nI q = nI (o / q) := pk_div (by omega) (by omega) (by omega)
  refine ⟨nI_ne0 (by omega) (by omega), nm_r (pk_div (by omega) (by omega) (by omega)) ⟨nI_ne0 (by omega) (by omega), ?_⟩⟩
  rw [ed]
  refine pd_pow (by omega) (by omega) (by omega) (by omega) ?_
  have hml := Nat.mod_lt (a ^ (o / q)) (show 0 < n by omega)
  refine pk_eq (a ^ (o / q) % n) 1 (fun g2 => ⟨nI_ne0 (by omega) (by omega), nm_e ?_⟩) (fun g2 => ?_)
  · refine hw (o / q) (r / q) ⟨hr0, Nat.dvd_trans rr rR, hro, Nat.dvd_trans oo oT, ho0, g2, fun hG => ?_⟩ hrl
    have e := hg hG
    rw [e] at g2
    exact absurd g2 (hG q hq (Nat.dvd_trans qo oT))
  · exact hw o (r / q) ⟨hr0, Nat.dvd_trans rr rR, Nat.dvd_trans rr ro, oT, o1, ho, hg⟩ hrl
theorem pd_nd1 {r d : Nat} (h : r = 1) (h2 : 2 ≤ d) : ¬ d ∣ r := by
  rw [h]
  exact pd_nd (by omega) h2
theorem pd_sqle {p r : Nat} (h2 : 2 ≤ p) (h : p * p ≤ r) : p ≤ r := by
  have : 2 * p ≤ p * p := Nat.mul_le_mul_right p h2
  omega
theorem pd_ple {p r : Nat} (h2 : 2 ≤ r) (h : ∀ d, 2 ≤ d → d < p → ¬ d ∣ r) : p ≤ r := by
  apply Classical.byContradiction
  intro z
  exact h r h2 (by omega) (Nat.dvd_refl r)
theorem pd_order {post : Int32 → St1 → Prop} {u : St1} {n a : Nat} (h : pd_ok n u) (ha1 : 1 ≤ a) (ha2 : a ≤ 30000)
    (H0 : (n = 1 ∨ Nat.gcd a n ≠ 1) → ∀ u', pd_ok n u' → post (-2) u')
    (H1 : 2 ≤ n → Nat.gcd a n = 1 → ∀ o u', 1 ≤ o → o ∣ pd_phi n → a ^ o % n = 1 → ((∀ q, pd_P q → q ∣ pd_phi n → a ^ (pd_phi n / q) % n ≠ 1) → o = pd_phi n) → pd_ok n u' → post (nI o) u') : wpX_order post u (nI a) := by
  have hok := h
  obtain ⟨h1, h2, s, f, p, a1, a2, eu, hs⟩ := h
  subst eu
  refine pk_lt a 1 (fun z => absurd z (by omega)) (fun _ => pk_le a 30000 (fun _ => ?_) (fun z => absurd z (by omega)))
  refine pk_eq n 1 (fun g => H0 (Or.inl g) _ hok) (fun g => ?_)
  refine pd_gcd (by omega) (by omega) ?_
  have hgl : Nat.gcd a n ≤ a := Nat.gcd_le_left n ha1
  refine pk_eq (Nat.gcd a n) 1 (fun g2 => ?_) (fun g2 => H0 (Or.inr g2) _ hok)
  refine pd_coprimes hok (fun u' hu' => ?_)
  have hn2 : 2 ≤ n := by omega
  have hT := pd_phi_le n
  have hT1 := pd_phi_pos (n := n) (by omega)
  have heu := pd_euler hn2 g2
  have hok' := hu'
  obtain ⟨_, _, s, f, p, a1, a2, eu, hs⟩ := hu'
  subst eu
  generalize hTe : pd_phi n = T at *
  have HH := H1 hn2 g2
  refine lp3 (fun k (o r q : Nat) => wX_order_48 post (nI a) (nI n) s f p a1 a2 k (nI o) (nI r) (nI q)) (fun o r q => pd_I2 n a T r o r ∧ 2 ≤ q ∧ q ≤ 30001 ∧ ∀ d, 2 ≤ d → d < q → ¬ d ∣ r) (fun _ r q => r + 1 - q) ?_ T T 2 ⟨⟨hT1, Nat.dvd_refl T, Nat.dvd_refl T, Nat.dvd_refl T, hT1, heu, fun _ => rfl⟩, by omega, by omega, fun d d1 d2 => absurd d1 (by omega)⟩
  intro k o r q ⟨hI, q2, q3, hd⟩ hw
  have hI' := hI
  obtain ⟨r1, rR, ro, oT, o1, ho, hg⟩ := hI
  have ol := Nat.le_of_dvd hT1 oT
  have rl := Nat.le_of_dvd o1 ro
  refine pk_le r 1 (fun g3 => HH o _ o1 oT ho hg hok') (fun g3 => ?_)
  have hqr := pd_ple (by omega) hd
  have hqq : q * q < 2 ^ 31 := by
    have : q * q ≤ 30001 * 30001 := Nat.mul_le_mul (by omega) (by omega)
    omega
  refine pk_le (q * q) r (fun g4 => ?_) (fun g4 => ?_) (pk_mul q q)
  · refine pd_order65 hn2 h2 ha2 (by omega) hT1 q2 (by omega) (fun z => pd_least q2 z hd (by omega)) hI' (fun o' r' hI2 hq => ?_)
    obtain ⟨b1, b2, b3, b4, b5, b6, b7⟩ := hI2
    have hrl := Nat.le_of_dvd r1 b2
    refine hw o' r' (q + 1) ⟨⟨b1, Nat.dvd_refl r', b3, b4, b5, b6, b7⟩, by omega, by omega, fun d d1 d2 d3 => ?_⟩ (by omega)
    by_cases z : d = q
    · rw [z] at d3; exact hq d3
    · exact hd d d1 (by omega) (Nat.dvd_trans d3 b2)
  · have hrP := pd_prime (by omega) g4 hd
    refine pd_order65 hn2 h2 ha2 (by omega) hT1 (by omega) (by omega) (fun z => hrP) hI' (fun o' r' hI2 hq => ?_)
    obtain ⟨b1, b2, b3, b4, b5, b6, b7⟩ := hI2
    have e1 : r' = 1 := by
      rcases hrP.2 r' b2 with z | z
      · exact z
      · exact absurd (z ▸ Nat.dvd_refl r) hq
    exact hw o' r' (r + 1) ⟨⟨b1, Nat.dvd_refl r', b3, b4, b5, b6, b7⟩, by omega, by omega, fun d d1 d2 => pd_nd1 e1 d1⟩ (by omega)
theorem pd_gen39 {post : Int32 → Prop} {J : Int32 → Int32 → Prop} {f2 f3 f4 : Int32} {a1 a2 : Nat → Int32} {n g q R : Nat} (h1 : 3 ≤ n) (h2 : n ≤ 30000) (hg : g < 2 ^ 31) (hq : pd_P q) (q3 : q ≤ 30000) (hR : 1 ≤ R) (hR2 : R ≤ 30000) (hJ : g ^ ((n - 1) / q) % n ≠ 1 → ∀ r, 1 ≤ r → r ∣ R → ¬ q ∣ r → (∀ p, pd_P p → p ∣ R → p = q ∨ p ∣ r) → J (nI r) (nI (q + 1))) (H0 : g ^ ((n - 1) / q) % n = 1 → post 0) : ∃ fu, wX_generates_39 post J (nI g) (nI (n - 1)) (nI q) (nI n) f2 f3 f4 a1 a2 fu (nI R) := by
  have q2 := hq.1
  refine lp1 (fun f (r : Nat) => wX_generates_39 post J (nI g) (nI (n - 1)) (nI q) (nI n) f2 f3 f4 a1 a2 f (nI r)) (fun r => 1 ≤ r ∧ r ∣ R ∧ ∀ p, pd_P p → p ∣ R → p = q ∨ p ∣ r) (fun r => r) ?_ R ⟨hR, Nat.dvd_refl R, fun p _ h => Or.inr h⟩
  intro f r ⟨r1, rR, hp⟩ hw
  have rl := Nat.le_of_dvd hR rR
  refine ⟨nI_ne0 (by omega) (by omega), pk_eq (r % q) 0 (fun z => ?_) (fun z => ?_) (pk_rem (by omega) (by omega) (by omega)) rfl (by have := Nat.mod_lt r (show 0 < q by omega); omega)⟩
  · have qr := Nat.dvd_of_mod_eq_zero z
    have er := Nat.mul_div_cancel' qr
    refine ⟨nI_ne0 (by omega) (by omega), nm_r (pk_div (by omega) (by omega) (by omega)) (hw (r / q) ⟨Nat.div_pos (Nat.le_of_dvd r1 qr) (by omega), Nat.dvd_trans ⟨q, by rw [Nat.mul_comm]; exact er.symm⟩ rR, fun p hpP hpR => ?_⟩ (Nat.div_lt_self r1 q2))⟩
    rcases hp p hpP hpR with y | y
    · exact Or.inl y
    · rw [← er] at y
      rcases pd_eu hpP y with x | x
      · exact Or.inl (pd_pp hpP hq x)
      · exact Or.inr x
  · refine ⟨nI_ne0 (by omega) (by omega), ?_⟩
    rw [pk_div (show n - 1 < 2 ^ 31 by omega) (show 0 < q by omega) (show q < 2 ^ 31 by omega)]
    have hdl := Nat.div_le_self (n - 1) q
    refine pd_pow hg (by omega) (by omega) (by omega) ?_
    have hml := Nat.mod_lt (g ^ ((n - 1) / q)) (show 0 < n by omega)
    exact pk_eq (g ^ ((n - 1) / q) % n) 1 H0 (fun y => nm_r (nI_1 q) (hJ y r r1 rR (fun x => z (Nat.mod_eq_zero_of_dvd x)) hp))
theorem pd_generates {post : Int32 → Prop} {f2 f3 f4 : Int32} {a1 a2 : Nat → Int32} {n g : Nat} (h1 : 3 ≤ n) (h2 : n ≤ 30000) (hg : g < 2 ^ 31) (H1 : pd_gen n g → post 1) (H0 : ¬ pd_gen n g → post 0) : wpX_generates post (nI n, f2, f3, f4, a1, a2) (nI g) := by
  refine nm_r (pd_sub1 (by omega)) ?_
  refine lp2 (fun f (r q : Nat) => wX_generates_12 post (nI g) (nI (n - 1)) (nI n) f2 f3 f4 a1 a2 f (nI r) (nI q)) (fun r q => 1 ≤ r ∧ r ∣ n - 1 ∧ 2 ≤ q ∧ q ≤ 30001 ∧ (∀ d, 2 ≤ d → d < q → ¬ d ∣ r) ∧ ∀ p, pd_P p → p ∣ n - 1 → p ∣ r ∨ g ^ ((n - 1) / p) % n ≠ 1) (fun r q => r + 1 - q) ?_ (n - 1) 2 ⟨by omega, Nat.dvd_refl _, by omega, by omega, fun d d1 d2 => absurd d1 (by omega), fun p _ hp => Or.inl hp⟩
  intro f r q ⟨r1, rn, q2, q3, hd, hp⟩ hw
  have rl := Nat.le_of_dvd (by omega) rn
  refine pk_le r 1 (fun g3 => H1 (fun p hpP hpn => ?_)) (fun g3 => ?_)
  · rcases hp p hpP hpn with z | z
    · exact absurd z (pd_nd1 (by omega) hpP.1)
    · exact z
  have hqr := pd_ple (by omega) hd
  have hqq : q * q < 2 ^ 31 := by
    have : q * q ≤ 30001 * 30001 := Nat.mul_le_mul (by omega) (by omega)
    omega
  have fin : ∀ p, pd_P p → p ∣ r → g ^ ((n - 1) / p) % n = 1 → post 0 := fun p hpP hpr e => H0 (fun hG => hG p hpP (Nat.dvd_trans hpr rn) e)
  refine pk_le (q * q) r (fun g4 => ?_) (fun g4 => ?_) (pk_mul q q)
  · refine ⟨nI_ne0 (by omega) (by omega), pk_eq (r % q) 0 (fun z => ?_) (fun z => ?_) (pk_rem (by omega) (by omega) (by omega)) rfl (by have := Nat.mod_lt r (show 0 < q by omega); omega)⟩
    · have qr := Nat.dvd_of_mod_eq_zero z
      have hqP := pd_least q2 qr hd (by omega)
      refine pd_gen39 h1 h2 hg hqP (by omega) r1 (by omega) (fun hne r' b1 b2 b3 b4 => ?_) (fin q hqP qr)
      have hrl := Nat.le_of_dvd r1 b2
      refine hw r' (q + 1) ⟨b1, Nat.dvd_trans b2 rn, by omega, by omega, fun d d1 d2 d3 => ?_, fun p hpP hpn => ?_⟩ (by omega)
      · by_cases y : d = q
        · rw [y] at d3; exact b3 d3
        · exact hd d d1 (by omega) (Nat.dvd_trans d3 b2)
      · rcases hp p hpP hpn with y | y
        · rcases b4 p hpP y with x | x
          · rw [x]; exact Or.inr hne
          · exact Or.inl x
        · exact Or.inr y
    · refine nm_r (nI_1 q) (hw r (q + 1) ⟨r1, rn, by omega, by omega, fun d d1 d2 d3 => ?_, hp⟩ (by omega))
      by_cases y : d = q
      · rw [y] at d3; exact z (Nat.mod_eq_zero_of_dvd d3)
      · exact hd d d1 (by omega) d3
  · have hrP := pd_prime (by omega) g4 hd
    refine ⟨nI_ne0 (by omega) (by omega), pk_eq (r % r) 0 (fun z => ?_) (fun z => absurd (Nat.mod_self r) z) (pk_rem (by omega) (by omega) (by omega)) rfl (by rw [Nat.mod_self]; omega)⟩
    refine pd_gen39 h1 h2 hg hrP (by omega) r1 (by omega) (fun hne r' b1 b2 b3 b4 => ?_) (fin r hrP (Nat.dvd_refl r))
    have e1 : r' = 1 := by
      rcases hrP.2 r' b2 with z | z
      · exact z
      · exact absurd (z ▸ Nat.dvd_refl r) b3
    refine hw r' (r + 1) ⟨b1, Nat.dvd_trans b2 rn, by omega, by omega, fun d d1 d2 => pd_nd1 e1 d1, fun p hpP hpn => ?_⟩ (by omega)
    rcases hp p hpP hpn with y | y
    · rcases b4 p hpP y with x | x
      · rw [x]; exact Or.inr hne
      · exact Or.inl x
    · exact Or.inr y
theorem pd_generator {post : Int32 → Prop} {u : St1} {n : Nat} (h : pd_ok n u) (Hn : ¬ pd_P n → post (-2)) (H2 : n = 2 → post 1) (Hg : pd_P n → 3 ≤ n → ∀ g, 2 ≤ g → g < n → pd_gen n g → post (nI g)) : wpX_generator post u := by
  obtain ⟨h1, h2, s, f, p, a1, a2, eu, hs⟩ := h
  subst eu
  unfold wpX_generator
  dsimp only
  refine pd_test h2 (fun hp => br_f (by decide) ?_) (fun hp => br_t rfl (Hn hp))
  refine pk_eq n 2 (fun z => H2 z) (fun z => ?_)
  have hp2 := hp.1
  obtain ⟨g0, g2, gl, hgen⟩ := pd_root_ex hp (by omega) h2
  refine lp2 (fun k (g : Nat) (x : Int32) => wX_generator_28 post (nI n) s f p a1 a2 k (nI g) x) (fun g x => (x = 0 ∧ 1 ≤ g ∧ g < g0) ∨ (x = 1 ∧ 2 ≤ g ∧ g ≤ g0 ∧ pd_gen n g)) (fun g x => if x = 0 then g0 - g + 1 else 0) ?_ 1 0 (Or.inl ⟨rfl, by omega, by omega⟩)
  intro k g x hI hw
  rcases hI with ⟨e, b1, b2⟩ | ⟨e, b1, b2, b3⟩
  · subst e
    refine br_t rfl (nm_r (nI_1 g) (pd_generates (by omega) h2 (by omega) (fun hG => ?_) (fun hG => ?_)))
    · exact hw (g + 1) 1 (Or.inr ⟨rfl, by omega, by omega, hG⟩) (by rw [if_neg (by decide), if_pos rfl]; omega)
    · have : g + 1 ≠ g0 := fun z => hG (z ▸ hgen)
      exact hw (g + 1) 0 (Or.inl ⟨rfl, by omega, by omega⟩) (by rw [if_pos rfl, if_pos rfl]; omega)
  · subst e
    exact br_f (by decide) (Hg hp (by omega) g b1 (by omega) b3)
/-- a prime lies between n and 2 n (for the first few) -/
theorem pd_bert {n : Nat} (h1 : 1 ≤ n) (h : n < 81) : ∃ q, pd_P q ∧ n < q ∧ q ≤ 2 * n := by
  have T5 : ∀ d, d < 3 → 2 ≤ d → 5 % d ≠ 0 := by decide
  have P5 : pd_P 5 := pd_prime (p := 3) (by omega) (by omega) (fun d d1 d2 z => T5 d d2 d1 (Nat.mod_eq_zero_of_dvd z))
  have T : ∀ N, (∀ d, d < 10 → 2 ≤ d → N % d ≠ 0) → 2 ≤ N → N < 100 → pd_P N := fun N hN h2 h3 => pd_prime (p := 10) h2 (by omega) (fun d d1 d2 z => hN d d2 d1 (Nat.mod_eq_zero_of_dvd z))
  have T3 : ∀ N, (∀ d, d < 4 → 2 ≤ d → N % d ≠ 0) → 2 ≤ N → N < 16 → pd_P N := fun N hN h2 h3 => pd_prime (p := 4) h2 (by omega) (fun d d1 d2 z => hN d d2 d1 (Nat.mod_eq_zero_of_dvd z))
  by_cases c1 : n < 2
  · exact ⟨2, pd_P2, by omega, by omega⟩
  by_cases c2 : n < 3
  · exact ⟨3, pd_P3, by omega, by omega⟩
  by_cases c3 : n < 5
  · exact ⟨5, P5, by omega, by omega⟩
  by_cases c4 : n < 7
  · exact ⟨7, T3 7 (by decide) (by omega) (by omega), by omega, by omega⟩
  by_cases c5 : n < 13
  · exact ⟨13, T3 13 (by decide) (by omega) (by omega), by omega, by omega⟩
  by_cases c6 : n < 23
  · exact ⟨23, T 23 (by decide) (by omega) (by omega), by omega, by omega⟩
  by_cases c7 : n < 43
  · exact ⟨43, T 43 (by decide) (by omega) (by omega), by omega, by omega⟩
  · exact ⟨83, T 83 (by decide) (by omega) (by omega), by omega, by omega⟩
theorem pd_next {post : Int32 → Prop} {u : St1} {n : Nat} (h : pd_ok n u) (H : ∀ p, n < p → p ≤ 2 * n → post (nI p)) : wpX_nextPrime post u := by
  obtain ⟨h1, h2, s, f, p, a1, a2, eu, hs⟩ := h
  subst eu
  refine nm_r (nI_1 n) ?_
  by_cases hb : n < 81
  · obtain ⟨q, hq, q1, q2⟩ := pd_bert h1 hb
    refine lp1 (fun k (j : Nat) => wX_nextPrime_9 post (nI n) s f p a1 a2 k (nI (n + 1 + j)) (nI j)) (fun j => j ≤ 80 ∧ n + 1 + j ≤ q) (fun j => 80 - j) ?_ 0 ⟨by omega, by omega⟩
    intro k j ⟨j1, j2⟩ hw
    refine pk_le 80 j (fun g => H _ (by omega) (by omega)) (fun g => ?_)
    refine pd_test (by omega) (fun hp => br_f (by decide) (H _ (by omega) (by omega))) (fun hp => br_t rfl ?_)
    have : n + 1 + j ≠ q := fun z => hp (z ▸ hq)
    exact nm_r (nI_1 _) (nm_r (nI_1 j) (hw (j + 1) ⟨by omega, by omega⟩ (by omega)))
  · refine lp1 (fun k (j : Nat) => wX_nextPrime_9 post (nI n) s f p a1 a2 k (nI (n + 1 + j)) (nI j)) (fun j => j ≤ 80) (fun j => 80 - j) ?_ 0 (by omega)
    intro k j j1 hw
    refine pk_le 80 j (fun g => H _ (by omega) (by omega)) (fun g => ?_)
    exact pd_test0 (by omega) (br_f (by decide) (H _ (by omega) (by omega))) (br_t rfl (nm_r (nI_1 _) (nm_r (nI_1 j) (hw (j + 1) (by omega) (by omega)))))
end
section
/-! ===== square roots of rests ===== -/
theorem pd_oddp {p : Nat} (hp : pd_P p) (h3 : 3 ≤ p) : p % 2 = 1 := by
  rcases Nat.mod_two_eq_zero_or_one p with z | z
  · rcases hp.2 2 (Nat.dvd_of_mod_eq_zero z) with y | y <;> omega
  · exact z
/-- Euler's mark of a rest -/
theorem pd_euc {p a : Nat} (hp : pd_P p) (h3 : 3 ≤ p) (ha : ¬ p ∣ a) : a ^ ((p - 1) / 2) % p = 1 ∨ a ^ ((p - 1) / 2) % p = p - 1 := by
  have ho := pd_oddp hp h3
  refine pd_sq1 hp (Nat.mod_lt _ (by omega)) ?_
  rw [← Nat.mul_mod, ← Nat.pow_add, show (p - 1) / 2 + (p - 1) / 2 = p - 1 by omega]
  exact pd_fl hp ha
theorem pd_sqr (b e : Nat) : b ^ (2 ^ (e + 1)) = b ^ (2 ^ e) * b ^ (2 ^ e) := by
  rw [← Nat.pow_add, Nat.pow_succ]
  congr 1
  omega
theorem pd_least5 {post : Int32 → Prop} {u : St1} {f p s : Nat} (h2 : 2 ≤ p) (hp : p ≤ 30000) (hf : f < p) (hs : s ≤ 30000) (h : f ^ (2 ^ s) % p = 1) (H : ∀ l, l ≤ s → f ^ (2 ^ l) % p = 1 → (∀ i, i < l → f ^ (2 ^ i) % p ≠ 1) → post (nI l)) : wpX_leastPower post u (nI f) (nI p) := by
  obtain ⟨f1, f2, f3, f4, a1, a2⟩ := u
  refine lp2 (fun k (c y : Nat) => wX_leastPower_5 post (nI p) f1 f2 f3 f4 a1 a2 k (nI c) (nI y)) (fun c y => c ≤ s ∧ y = f ^ (2 ^ c) % p ∧ ∀ i, i < c → f ^ (2 ^ i) % p ≠ 1) (fun c _ => s - c) ?_ 0 f ⟨by omega, by rw [Nat.pow_zero, Nat.pow_one, Nat.mod_eq_of_lt hf], fun i hi => absurd hi (by omega)⟩
  intro k c y ⟨hc, hy, hi⟩ hw
  have hyl : y < p := by rw [hy]; exact Nat.mod_lt _ (by omega)
  refine pk_eq y 1 (fun g => H c hc (by rw [← hy]; exact g) hi) (fun g => ?_)
  have hcs : c ≠ s := by
    intro z
    rw [hy, z] at g
    exact g h
  refine pd_times (by omega) (by omega) (by omega) (by omega) (nm_r (nI_1 c) (hw (c + 1) (y * y % p) ⟨by omega, ?_, fun i hi2 => ?_⟩ (by omega)))
  · rw [hy, ← Nat.mul_mod, ← pd_sqr]
  · by_cases z : i = c
    · rw [z, ← hy]; exact g
    · exact hi i (by omega)
theorem pd_r106 {post : Int32 → Prop} {J : Int32 → Int32 → Int32 → Int32 → Prop} {f1 f2 f3 f4 : Int32} {a1 a2 : Nat → Int32} {p r f s l h : Nat} (h2 : 2 ≤ p) (hp : p ≤ 30000) (hr : r < p) (hf : f < p) (hh : h < p) (hs : s ≤ 30000) (hl : l + 1 ≤ s)
    (H : ∀ w, w = h ^ (2 ^ (s - l - 1)) % p → J (nI (w * w % p)) (nI (r * w % p)) (nI (f * (w * w % p) % p)) (nI l)) : ∃ fu, wX_rootModulo_106 post J (nI p) (nI r) (nI f) (nI s) (nI l) f1 f2 f3 f4 a1 a2 fu (nI h) 0 := by
  refine lp2 (fun k (w i : Nat) => wX_rootModulo_106 post J (nI p) (nI r) (nI f) (nI s) (nI l) f1 f2 f3 f4 a1 a2 k (nI w) (nI i)) (fun w i => i ≤ s - l - 1 ∧ w = h ^ (2 ^ i) % p) (fun _ i => s - l - 1 - i) ?_ h 0 ⟨by omega, by rw [Nat.pow_zero, Nat.pow_one, Nat.mod_eq_of_lt hh]⟩
  intro k w i ⟨hi, hw0⟩ hw
  have hwl : w < p := by rw [hw0]; exact Nat.mod_lt _ (by omega)
  have hm : ∀ x, x % p < 2 ^ 31 := fun x => by have := Nat.mod_lt x (show 0 < p by omega); omega
  refine pk_le (s - l - 1) i (fun g => ?_) (fun g => ?_) (by rw [pk_sub (by omega), pd_sub1 (by omega)])
  · have e : i = s - l - 1 := by omega
    rw [e] at hw0
    refine pd_times (by omega) (by omega) (by omega) (by omega) ?_
    refine pd_times (by omega) (by omega) (by omega) (by omega) ?_
    exact pd_times (by omega) (hm _) (by omega) (by omega) (H w hw0)
  · refine pd_times (by omega) (by omega) (by omega) (by omega) (nm_r (nI_1 i) (hw (w * w % p) (i + 1) ⟨by omega, ?_⟩ (by omega)))
    rw [hw0, ← Nat.mul_mod, ← pd_sqr]
theorem pd_r84 {post : Int32 → Prop} {f1 f2 f3 f4 : Int32} {a1 a2 : Nat → Int32} {p a h r f s : Nat} (hP : pd_P p) (hp : p ≤ 30000) (ha : a < p) (hs : s ≤ 30000) (h1 : h < p) (h2 : r < p) (h3 : f < p) (h4 : 1 ≤ s) (h5 : h ^ (2 ^ (s - 1)) % p = p - 1) (h6 : r * r % p = a * f % p) (h7 : f ^ (2 ^ (s - 1)) % p = 1)
    (H : ∀ x, x < p → x * x % p = a → post (nI x)) : ∃ fu, wX_rootModulo_84 post (nI p) f1 f2 f3 f4 a1 a2 fu (nI h) (nI r) (nI f) (nI s) := by
  have p2 := hP.1
  refine lp4 (fun k (h r f s : Nat) => wX_rootModulo_84 post (nI p) f1 f2 f3 f4 a1 a2 k (nI h) (nI r) (nI f) (nI s)) (fun h r f s => s ≤ 30000 ∧ h < p ∧ r < p ∧ f < p ∧ 1 ≤ s ∧ h ^ (2 ^ (s - 1)) % p = p - 1 ∧ r * r % p = a * f % p ∧ f ^ (2 ^ (s - 1)) % p = 1) (fun _ _ _ s => s) ?_ h r f s ⟨hs, h1, h2, h3, h4, h5, h6, h7⟩
  clear hs h1 h2 h3 h4 h5 h6 h7
  intro k h r f s ⟨hs, h1, h2, h3, h4, h5, h6, h7⟩ hw
  refine pk_eq f 1 (fun g => H r h2 ?_) (fun g => ?_)
  · rw [h6, g, Nat.mul_one, Nat.mod_eq_of_lt ha]
  refine pd_least5 p2 hp h3 (by omega) h7 (fun l l1 l2 l3 => ?_)
  have hl1 : 1 ≤ l := by
    apply Classical.byContradiction
    intro z
    have z0 : l = 0 := by omega
    rw [z0, Nat.pow_zero, Nat.pow_one, Nat.mod_eq_of_lt h3] at l2
    exact g l2
  obtain ⟨m, rfl⟩ : ∃ m, l = m + 1 := ⟨l - 1, by omega⟩
  obtain ⟨b, rfl⟩ : ∃ b, s = m + 1 + b + 1 := ⟨s - (m + 2), by omega⟩
  refine pd_r106 p2 hp h2 h3 h1 hs (by omega) (fun w ew => ?_)
  have hm : ∀ x, x % p < p := fun x => Nat.mod_lt x (by omega)
  rw [show m + 1 + b + 1 - (m + 1) - 1 = b by omega] at ew
  rw [show m + 1 + b + 1 - 1 = m + 1 + b by omega] at h5
  have e1 : (w * w) ^ (2 ^ m) % p = p - 1 := by
    rw [Nat.pow_mod, ew, ← Nat.mul_mod, ← pd_sqr, ← Nat.pow_mod, ← Nat.pow_mul, ← Nat.pow_add, show b + 1 + m = m + 1 + b by omega]
    exact h5
  have e2 : f ^ (2 ^ m) % p = p - 1 := by
    have z : f ^ (2 ^ m) % p * (f ^ (2 ^ m) % p) % p = 1 := by
      rw [← Nat.mul_mod, ← pd_sqr]; exact l2
    rcases pd_sq1 hP (hm _) z with y | y
    · exact absurd y (l3 m (by omega))
    · exact y
  refine hw (w * w % p) (r * w % p) (f * (w * w % p) % p) (m + 1) ⟨by omega, hm _, hm _, hm _, by omega, ?_, ?_, ?_⟩ (by omega)
  · rw [Nat.add_sub_cancel, ← Nat.pow_mod]
    exact e1
  · rw [← Nat.mul_mod, Nat.mul_mod_mod, ← Nat.mul_assoc a f, Nat.mul_mod_mod]
    have : r * w * (r * w) = r * r * (w * w) := by grind
    rw [this, Nat.mul_mod, h6, ← Nat.mul_mod]
  · rw [Nat.add_sub_cancel, ← Nat.pow_mod, Nat.mul_pow, Nat.mul_mod, e2, ← Nat.pow_mod, e1]
    exact pd_m1sq p2
theorem pd_r26 {post : Int32 → Prop} {f1 f2 f3 f4 : Int32} {a1 a2 : Nat → Int32} {p a o t : Nat} (hP : pd_P p) (h3 : 3 ≤ p) (hp : p ≤ 30000) (ha : a < p) (ho : o % 2 = 1) (ht : 1 ≤ t) (e : o * 2 ^ t = p - 1) (hq : a ^ ((p - 1) / 2) % p = 1)
    (H : ∀ x, x < p → x * x % p = a → post (nI x)) : ∃ fu, wX_rootModulo_26 post (nI a) (nI p) (nI o) (nI t) f1 f2 f3 f4 a1 a2 fu 2 := by
  obtain ⟨g, g2, gl, hgen⟩ := pd_root_ex hP h3 hp
  have hodd := pd_oddp hP h3
  have hg := hgen 2 pd_P2 (Nat.dvd_of_mod_eq_zero (by omega))
  have ed : (nI p - 1) / 2 = nI ((p - 1) / 2) := by
    rw [pd_sub1 (by omega)]
    exact pk_div (d := 2) (by omega) (by omega) (by omega)
  obtain ⟨s, rfl⟩ : ∃ s, t = s + 1 := ⟨t - 1, by omega⟩
  have e' : o * 2 ^ s = (p - 1) / 2 := by
    rw [Nat.pow_succ, ← Nat.mul_assoc] at e
    omega
  have hol : o ≤ p - 1 := by
    rw [← e]; exact Nat.le_mul_of_pos_right o (Nat.pow_pos (by decide))
  have hsl : s < 2 ^ s := Nat.lt_two_pow_self
  have hsp : 2 ^ s ≤ (p - 1) / 2 := by
    rw [← e']; exact Nat.le_mul_of_pos_left _ (by omega)
  refine lp1 (fun k (w : Nat) => wX_rootModulo_26 post (nI a) (nI p) (nI o) (nI (s + 1)) f1 f2 f3 f4 a1 a2 k (nI w)) (fun w => 2 ≤ w ∧ w ≤ g) (fun w => g - w) ?_ 2 ⟨by omega, by omega⟩
  intro k w ⟨w2, wg⟩ hw
  have hm : ∀ x, x % p < p := fun x => Nat.mod_lt x (by omega)
  unfold wX_rootModulo_26
  refine ⟨by decide, ?_⟩
  rw [ed]
  refine pd_pow (by omega) (by omega) (by omega) (by omega) ?_
  have hml := hm (w ^ ((p - 1) / 2))
  refine pk_eq (w ^ ((p - 1) / 2) % p) 1 (fun z => ?_) (fun z => ?_)
  · have : w ≠ g := by
      intro y
      rw [y] at z
      exact hg z
    exact nm_r (nI_1 w) (hw (w + 1) ⟨by omega, by omega⟩ (by omega))
  · have hwm : w ^ ((p - 1) / 2) % p = p - 1 := by
      rcases pd_euc hP h3 (pd_nd (show 0 < w by omega) (by omega)) with y | y
      · exact absurd y z
      · exact y
    refine pd_pow (by omega) (by omega) (by omega) (by omega) ⟨by decide, ?_⟩
    have ed2 : (nI o + 1) / 2 = nI ((o + 1) / 2) := by
      rw [nI_1]
      exact pk_div (d := 2) (by omega) (by omega) (by omega)
    rw [ed2]
    refine pd_pow (by omega) (by omega) (by omega) (by omega) ?_
    refine pd_pow (by omega) (by omega) (by omega) (by omega) ?_
    refine pd_r84 hP hp ha (by omega) (hm _) (hm _) (hm _) (by omega) ?_ ?_ ?_ H
    · rw [Nat.add_sub_cancel, ← Nat.pow_mod, ← Nat.pow_mul, e']
      exact hwm
    · rw [← Nat.mul_mod, ← Nat.pow_add, Nat.mul_mod_mod, ← Nat.pow_succ', show (o + 1) / 2 + (o + 1) / 2 = o.succ by omega]
    · rw [Nat.add_sub_cancel, ← Nat.pow_mod, ← Nat.pow_mul, e']
      exact hq
theorem pd_rootMod {post : Int32 → Prop} {u : St1} {p a : Nat} (hP : pd_P p) (h3 : 3 ≤ p) (hp : p ≤ 30000) (ha : a < p) (hq : a ^ ((p - 1) / 2) % p = 1) (H : ∀ x, x < p → x * x % p = a → post (nI x)) : wpX_rootModulo post u (nI a) (nI p) := by
  obtain ⟨f1, f2, f3, f4, a1, a2⟩ := u
  have hodd := pd_oddp hP h3
  refine nm_r (pd_sub1 (by omega)) ?_
  refine lp2 (fun k (o t : Nat) => wX_rootModulo_7 post (nI a) (nI p) f1 f2 f3 f4 a1 a2 k (nI o) (nI t)) (fun o t => 1 ≤ o ∧ o * 2 ^ t = p - 1) (fun o _ => o) ?_ (p - 1) 0 ⟨by omega, by rw [Nat.pow_zero, Nat.mul_one]⟩
  intro k o t ⟨ho, he⟩ hw
  have hpt : 0 < 2 ^ t := Nat.pow_pos (by decide)
  have ho2 : o ≤ p - 1 := by
    rw [← he]; exact Nat.le_mul_of_pos_right o hpt
  refine pk_eq (o % 2) 0 (fun g => ?_) (fun g => ?_) (pd_ev (by omega))
  · refine nm_r (pd_half (by omega)) (nm_r (nI_1 t) (hw (o / 2) (t + 1) ⟨by omega, ?_⟩ (by omega)))
    rw [← he, Nat.pow_succ, Nat.mul_comm (2 ^ t) 2, ← Nat.mul_assoc]
    congr 1
    omega
  · refine pd_r26 hP h3 hp ha (by omega) ?_ he hq H
    apply Classical.byContradiction
    intro z
    have z0 : t = 0 := by omega
    rw [z0, Nat.pow_zero, Nat.mul_one] at he
    omega
theorem pd_neg2 {n x : Nat} (h : x ≤ n) : (n - x) * (n - x) % n = x * x % n := by
  obtain ⟨y, rfl⟩ : ∃ y, n = x + y := ⟨n - x, by omega⟩
  rw [Nat.add_sub_cancel_left]
  have e : y * y + (x + y) * x = x * x + (x + y) * y := by grind
  rw [← Nat.add_mul_mod_self_left (y * y) (x + y) x, e, Nat.add_mul_mod_self_left]
theorem pd_root {post : Int32 → Prop} {u : St1} {n a : Nat} (h : pd_ok n u) (ha : a ≤ 30000) (H0 : ¬ pd_P n → post (-2)) (H2 : pd_P n → a ^ ((n - 1) / 2) % n = n - 1 → post (-2)) (H1 : ∀ r, r < n → r * r % n = a % n → post (nI r)) : wpX_root post u (nI a) := by
  obtain ⟨h1, h2, s, f, p, a1, a2, eu, hs⟩ := h
  subst eu
  refine br_f (nI_pos (by omega)) (pk_le a 30000 (fun _ => ?_) (fun z => absurd z (by omega)))
  refine pd_test h2 (fun hp => br_f (by decide) ⟨nI_ne0 (by omega) (by omega), nm_r (pk_rem (by omega) (by omega) (by omega)) ?_⟩) (fun hp => br_t rfl (H0 hp))
  have hp2 := hp.1
  have hml := Nat.mod_lt a (show 0 < n by omega)
  refine pk_eq n 2 (fun z => H1 _ hml ?_) (fun z => ?_)
  · have : a % n = 0 ∨ a % n = 1 := by omega
    rcases this with y | y
    · rw [y]; exact Nat.zero_mod n
    · rw [y]; exact Nat.mod_eq_of_lt (by omega)
  · refine pk_eq (a % n) 0 (fun y => H1 _ hml ?_) (fun y => ⟨by decide, ?_⟩)
    · rw [y]; exact Nat.zero_mod n
    · have ed : (nI n - 1) / 2 = nI ((n - 1) / 2) := by
        rw [pd_sub1 (by omega)]
        exact pk_div (d := 2) (by omega) (by omega) (by omega)
      rw [ed]
      refine pd_pow (by omega) (by omega) (by omega) (by omega) ?_
      have hml2 := Nat.mod_lt ((a % n) ^ ((n - 1) / 2)) (show 0 < n by omega)
      refine pk_eq ((a % n) ^ ((n - 1) / 2) % n) 1 (fun g => ?_) (fun g => H2 hp ?_)
      · refine pd_rootMod hp (by omega) h2 hml g (fun x hx ex => ?_)
        refine pk_lt (n - x) x (fun w => ?_) (fun w => H1 x hx ex) (pk_sub (by omega))
        rw [pk_sub (by omega)]
        exact H1 (n - x) (by omega) (by rw [pd_neg2 (by omega)]; exact ex)
      · rw [← Nat.pow_mod] at g
        rcases pd_euc hp (by omega) (show ¬ n ∣ a from fun w => y (Nat.mod_eq_zero_of_dvd w)) with w | w
        · exact absurd w g
        · exact w
end
section
/-! ===== the law's three checks ===== -/
theorem pd_c1 {F : Nat → Nat} {c n : Nat} (h : pd_FL F c n) : c = 1 ↔ pd_P n := by
  constructor
  · intro e
    subst e
    have e2 : 1 * F 0 = n := h.2.2
    rw [Nat.one_mul] at e2
    rw [← e2]
    exact h.1 0 (by omega)
  · intro hp
    refine (pd_FLu h (G := fun _ => n) (d := 1) ⟨fun _ _ => hp, fun _ _ _ _ => Nat.le_refl n, ?_⟩).1
    show 1 * n = n
    omega
/-- the factor before place i -/
def pd_la (F : Nat → Nat) : Nat → Nat
  | 0 => 1
  | i + 1 => F i
theorem pd_t111 {post : Int32 → St1 → Prop} {u : St1} {n c : Nat} {F : Nat → Nat} (hL : pd_FL F c n) (h : pd_ok n u) (H : ∀ u', pd_ok n u' → post 1 u') : ∃ fu, wL_taken_111 post (nI n) (nI c) fu 0 u.1 u.2.1 u.2.2.1 u.2.2.2.1 u.2.2.2.2.1 u.2.2.2.2.2 := by
  have h1 := h.1
  have h2 := h.2.1
  have hc := pd_FL14 hL h2
  refine loop_m (fun f (q : Nat × St1) => wL_taken_111 post (nI n) (nI c) f (nI q.1) q.2.1 q.2.2.1 q.2.2.2.1 q.2.2.2.2.1 q.2.2.2.2.2.1 q.2.2.2.2.2.2) (fun q => q.1 ≤ c ∧ pd_ok n q.2) (fun q => c - q.1) ?_ (0, u) ⟨by show 0 ≤ c; omega, h⟩
  intro f ⟨i, v⟩ ⟨hi, hv⟩ hw
  have hi : i ≤ c := hi
  obtain ⟨f1, f2, f3, f4, a1, a2⟩ := v
  refine pk_le c i (fun g => H _ hv) (fun g => ?_)
  refine pd_factor hv (by omega) (fun F' c' u' hu' => ?_)
  obtain ⟨ec, eF⟩ := pd_FLu hL hu'.2.2.1
  have hu2 := pd_full_ok hu'
  obtain ⟨f1, f2, f3, f4, a1, a2⟩ := u'
  rw [if_pos (by omega), ← eF i g]
  have hP := hL.1 i g
  have hP2 := hP.1
  have hFl : F i ≤ 30000 := pd_le_of (show F i ∣ n by rw [← hL.2.2]; exact pd_pr_dvd g) h1 h2
  refine pd_take hu2 (by omega) hFl (fun u' hu' => ?_)
  obtain ⟨f1, f2, f3, f4, a1, a2⟩ := u'
  refine br_f (by decide) (pd_isPrime hu' (fun _ => br_f (by decide) ?_) (fun z => absurd hP z))
  refine pd_take hu' h1 h2 (fun u' hu' => ?_)
  obtain ⟨f1, f2, f3, f4, a1, a2⟩ := u'
  exact br_f (by decide) (nm_r (nI_1 i) (hw (i + 1, (f1, f2, f3, f4, a1, a2)) ⟨by show i + 1 ≤ c; omega, hu'⟩ (by show c - (i + 1) < c - i; omega)))
theorem pd_taken {post : Int32 → St1 → Prop} {u : St1} {n : Nat} (h : pd_ok n u) (H : ∀ u', pd_ok n u' → post 1 u') : wpL_taken post u (nI n) := by
  have h1 := h.1
  have h2 := h.2.1
  obtain ⟨f1, f2, f3, f4, a1, a2⟩ := u
  unfold wpL_taken
  dsimp only
  refine pd_factors h (fun F c u' hu' => ?_)
  have hL := hu'.2.2.1
  have hc := pd_FL14 hL h2
  have hu2 := pd_full_ok hu'
  clear h hu'
  obtain ⟨f1, f2, f3, f4, a1, a2⟩ := u'
  refine loop_m (fun f (q : Nat × St1) => wL_taken_13 post (nI n) (nI c) f (nI (pd_pr F q.1)) (nI (pd_la F q.1)) (nI q.1) q.2.1 q.2.2.1 q.2.2.2.1 q.2.2.2.2.1 q.2.2.2.2.2.1 q.2.2.2.2.2.2) (fun q => q.1 ≤ c ∧ pd_ok n q.2) (fun q => c - q.1) ?_ (0, (f1, f2, f3, f4, a1, a2)) ⟨by show 0 ≤ c; omega, hu2⟩
  clear hu2
  intro f ⟨i, v⟩ ⟨hi, hv⟩ hw
  have hi : i ≤ c := hi
  obtain ⟨f1, f2, f3, f4, a1, a2⟩ := v
  refine pk_le c i (fun g => ?_) (fun g => ?_)
  · have ei : i = c := by omega
    refine br_t (by show nI (pd_pr F i) = nI n; rw [ei, hL.2.2]) ?_
    refine pd_factor hv (by omega) (fun F' c' u' hu' => ?_)
    obtain ⟨ec, eF⟩ := pd_FLu hL hu'.2.2.1
    have hu2 := pd_full_ok hu'
    obtain ⟨f1, f2, f3, f4, a1, a2⟩ := u'
    rw [if_neg (by omega)]
    refine br_t rfl (pd_factorN hu2 (fun F' c' u' hu' => ?_))
    have hu2 := pd_full_ok hu'
    obtain ⟨f1, f2, f3, f4, a1, a2⟩ := u'
    refine br_t rfl (pd_isPrime hu2 (fun hp => ?_) (fun hp => ?_))
    · have e1 := (pd_c1 hL).mpr hp
      exact pk_eq c 1 (fun _ => br_t rfl (pd_t111 hL hu2 H)) (fun z => absurd e1 z)
    · have e1 : c ≠ 1 := fun z => hp ((pd_c1 hL).mp z)
      exact pk_eq c 1 (fun z => absurd z e1) (fun _ => br_t rfl (pd_t111 hL hu2 H))
  · refine pk_le 16 i (fun z => absurd z (by omega)) (fun _ => ?_)
    refine pd_factor hv (by omega) (fun F' c' u' hu' => ?_)
    obtain ⟨ec, eF⟩ := pd_FLu hL hu'.2.2.1
    have hu2 := pd_full_ok hu'
    obtain ⟨f1, f2, f3, f4, a1, a2⟩ := u'
    rw [if_pos (by omega), ← eF i g]
    have hP := hL.1 i g
    have hP2 := hP.1
    have hFl : F i ≤ 30000 := pd_le_of (show F i ∣ n by rw [← hL.2.2]; exact pd_pr_dvd g) h1 h2
    have hla : pd_la F i ≤ F i := by
      cases i with
      | zero => show 1 ≤ F 0; omega
      | succ j => exact hL.2.1 j (j + 1) (by omega) g
    refine pk_lt (F i) (pd_la F i) (fun z => absurd z (by omega)) (fun _ => pk_le 2 (F i) (fun _ => ?_) (fun z => absurd z (by omega)))
    exact nm_r (pk_mul (pd_pr F i) (F i)) (nm_r (nI_1 i) (hw (i + 1, (f1, f2, f3, f4, a1, a2)) ⟨by show i + 1 ≤ c; omega, hu2⟩ (by show c - (i + 1) < c - i; omega)))
/-- a remainder that is nothing, of a number of either sign -/
theorem pd_rem0 {x : Int32} {n : Nat} {k : Int} (h0 : 0 < n) (hn : n < 2 ^ 31) (hx : x.toInt = n * k) : x - x / nI n * nI n = 0 := by
  have hne : nI n ≠ -1 := by
    intro z
    have := congrArg Int32.toInt z
    rw [nI_toInt hn, show (-1 : Int32).toInt = -1 by decide] at this
    omega
  have e1 : (x / nI n).toInt = k := by
    rw [Int32.toInt_div_of_ne_right _ _ hne, nI_toInt hn, hx]
    exact Int.mul_tdiv_cancel_left k (by omega)
  have e2 : x / nI n * nI n = x := by
    apply Int32.toInt_inj.mp
    rw [Int32.toInt_mul, e1, nI_toInt hn, Int.mul_comm, ← hx]
    exact Int32.toInt_bmod x
  rw [e2, Int32.sub_self]
theorem pd_sqrem {r a n : Nat} (h0 : 0 < n) (hn : n ≤ 30000) (hr : r < n) (ha : a ≤ 30000) (e : r * r % n = a % n) : (nI r * nI r - nI a) - (nI r * nI r - nI a) / nI n * nI n = 0 := by
  have hrr : r * r < 2 ^ 30 := by
    have : r * r ≤ 30000 * 30000 := Nat.mul_le_mul (by omega) (by omega)
    omega
  rw [pk_mul]
  refine pd_rem0 (k := ((r * r / n : Nat) : Int) - ((a / n : Nat) : Int)) h0 (by omega) ?_
  rw [pk_sub_toInt hrr (by omega), Int.mul_sub, ← Int.natCast_mul, ← Int.natCast_mul]
  have e1 := Nat.div_add_mod (r * r) n
  have e2 := Nat.div_add_mod a n
  omega
theorem pd_131 {post : Int32 → St1 → Prop} {u : St1} {n : Nat} (h : pd_ok n u) (H : ∀ u', pd_ok n u' → post 1 u') : wL_rests_131 post (nI n) u.1 u.2.1 u.2.2.1 u.2.2.2.1 u.2.2.2.2.1 u.2.2.2.2.2 := by
  have h1 := h.1
  have h2 := h.2.1
  obtain ⟨f1, f2, f3, f4, a1, a2⟩ := u
  refine pd_generator h (fun hp => br_t rfl (pd_isPrime h (fun z => absurd z hp) (fun _ => br_t rfl (H _ h)))) (fun e => ?_) (fun hp h3 g g2 gl hg => ?_)
  · subst e
    refine br_f (by decide) (pd_isPrime h (fun _ => br_f (by decide) ?_) (fun z => absurd pd_P2 z))
    refine pd_order (a := 1) h (by omega) (by omega) (fun z => ?_) (fun _ _ o u' o1 oT _ _ hu' => ?_)
    · rcases z with z | z
      · exact absurd z (by omega)
      · exact absurd (Nat.gcd_one_left 2) z
    · obtain ⟨f1, f2, f3, f4, a1, a2⟩ := u'
      rw [pd_phi_p pd_P2] at oT
      have := Nat.le_of_dvd (by decide) oT
      have e : o = 1 := by omega
      subst e
      exact br_t (by decide) (H _ hu')
  · have hne : ¬ nI g = -2 := by
      intro z
      have := congrArg Int32.toInt z
      rw [nI_toInt (by omega), show (-2 : Int32).toInt = -2 by decide] at this
      omega
    refine br_f hne (pd_isPrime h (fun _ => br_f (by decide) ?_) (fun z => absurd hp z))
    refine pd_order h (by omega) (by omega) (fun z => ?_) (fun _ _ o u' o1 oT _ hG hu' => ?_)
    · rcases z with z | z
      · exact absurd z (by omega)
      · exact absurd (Nat.Coprime.symm (pd_cop hp (pd_nd (by omega) gl))) z
    · obtain ⟨f1, f2, f3, f4, a1, a2⟩ := u'
      rw [pd_phi_p hp] at hG
      have e := hG hg
      subst e
      exact br_t (pd_sub1 (by omega)).symm (H _ hu')
theorem pd_99 {post : Int32 → St1 → Prop} {u : St1} {n a : Nat} {x : Int32} (h : pd_ok n u) (ha : a ≤ 30000) (hx : x = -2 → pd_P n → a ^ ((n - 1) / 2) % n = n - 1) (H : ∀ u', pd_ok n u' → post 1 u') : wL_rests_99 post (nI n) (nI a) x u.1 u.2.1 u.2.2.1 u.2.2.2.1 u.2.2.2.2.1 u.2.2.2.2.2 := by
  have h1 := h.1
  have h2 := h.2.1
  have h131 := pd_131 h H
  obtain ⟨f1, f2, f3, f4, a1, a2⟩ := u
  refine pd_isPrime h (fun hp => br_f (by decide) (br_c (fun e => ⟨by decide, ?_⟩) (fun _ => h131))) (fun _ => br_t rfl h131)
  have ed : (nI n - 1) / 2 = nI ((n - 1) / 2) := by
    rw [pd_sub1 (by omega)]
    exact pk_div (d := 2) (by omega) (by omega) (by omega)
  rw [ed]
  refine pd_power h ha (by omega) ?_
  rw [hx e hp]
  exact br_t (pd_sub1 (by omega)).symm h131
theorem pd_61 {post : Int32 → St1 → Prop} {u : St1} {n a : Nat} (h : pd_ok n u) (ha : a ≤ 30000) (H : ∀ u', pd_ok n u' → post 1 u') : wL_rests_61 post (nI n) (nI a) u.1 u.2.1 u.2.2.1 u.2.2.2.1 u.2.2.2.2.1 u.2.2.2.2.2 := by
  have h1 := h.1
  have h2 := h.2.1
  have h99 : ∀ x, (x = -2 → pd_P n → a ^ ((n - 1) / 2) % n = n - 1) → wL_rests_99 post (nI n) (nI a) x u.1 u.2.1 u.2.2.1 u.2.2.2.1 u.2.2.2.2.1 u.2.2.2.2.2 := fun x hx => pd_99 h ha hx H
  obtain ⟨f1, f2, f3, f4, a1, a2⟩ := u
  have hnl : ¬ nI n ≤ (-2) := by
    rw [Int32.le_iff_toInt_le, nI_toInt (by omega), show (-2 : Int32).toInt = -2 by decide]
    omega
  have hno : (pd_P n → a ^ ((n - 1) / 2) % n = n - 1) → ((((-2 : Int32) = (-1) → (post 0 (f1, f2, f3, f4, a1, a2))) ∧ (¬ (-2 : Int32) = (-1) → (((nI n ≤ (-2) → (post 0 (f1, f2, f3, f4, a1, a2))) ∧ (¬ nI n ≤ (-2) → ((((-2 : Int32) < 0 → (wL_rests_99 post (nI n) (nI a) (-2) f1 f2 f3 f4 a1 a2)) ∧ (¬ (-2 : Int32) < 0 → (¬ nI n = 0 ∧ (((((((-2) * (-2)) - nI a) - (((-2) * (-2)) - nI a) / nI n * nI n) = 0 → (wL_rests_99 post (nI n) (nI a) (-2) f1 f2 f3 f4 a1 a2)) ∧ (¬ ((((-2) * (-2)) - nI a) - (((-2) * (-2)) - nI a) / nI n * nI n) = 0 → (post 0 (f1, f2, f3, f4, a1, a2))))))))))))))) := fun hx => br_f (by decide) (br_f hnl (br_t (by decide) (h99 (-2) (fun _ => hx))))
  refine pd_root h ha (fun hp => hno (fun z => absurd z hp)) (fun hp e => hno (fun _ => e)) (fun r hr e => ?_)
  have hrI := nI_toInt (n := r) (by omega)
  refine br_f ?_ (pk_le n r (fun z => absurd z (by omega)) (fun _ => br_f (nI_pos (by omega)) ⟨nI_ne0 (by omega) (by omega), br_t (pd_sqrem (by omega) h2 hr ha e) (h99 (nI r) (fun z => ?_))⟩))
  · intro z
    have := congrArg Int32.toInt z
    rw [hrI, show (-1 : Int32).toInt = -1 by decide] at this
    omega
  · have := congrArg Int32.toInt z
    rw [hrI, show (-2 : Int32).toInt = -2 by decide] at this
    omega
theorem pd_rests {post : Int32 → St1 → Prop} {u : St1} {n a : Nat} (h : pd_ok n u) (ha1 : 1 ≤ a) (ha : a ≤ 30000) (H : ∀ u', pd_ok n u' → post 1 u') : wpL_rests post u (nI n) (nI a) := by
  have h1 := h.1
  have h2 := h.2.1
  have hT := pd_phi_le n
  have hT1 := pd_phi_pos (n := n) (by omega)
  obtain ⟨f1, f2, f3, f4, a1, a2⟩ := u
  unfold wpL_rests
  dsimp only
  refine pd_order h ha1 ha (fun hz u' hu' => ?_) (fun hn2 hg o u' o1 oT ho _ hu' => ?_)
  · obtain ⟨f1, f2, f3, f4, a1, a2⟩ := u'
    refine pd_coprimes hu' (fun u' hu' => ?_)
    obtain ⟨f1, f2, f3, f4, a1, a2⟩ := u'
    refine br_t rfl (pk_le n 1 (fun _ => pd_61 hu' ha H) (fun g => ?_))
    refine pd_power hu' ha (by omega) ?_
    have hml := Nat.mod_lt (a ^ pd_phi n) (show 0 < n by omega)
    refine pk_eq (a ^ pd_phi n % n) 1 (fun e => ?_) (fun _ => pd_61 hu' ha H)
    exfalso
    rcases hz with z | z
    · omega
    · apply z
      have d1 := Nat.gcd_dvd_left a n
      have d2 := Nat.gcd_dvd_right a n
      have d3 : Nat.gcd a n ∣ a ^ pd_phi n := by
        obtain ⟨t, et⟩ : ∃ t, pd_phi n = t + 1 := ⟨pd_phi n - 1, by omega⟩
        rw [et, Nat.pow_succ]
        exact Nat.dvd_mul_left_of_dvd d1 _
      have d4 := (Nat.dvd_mod_iff d2).mpr d3
      rw [e] at d4
      exact Nat.eq_one_of_dvd_one d4
  · obtain ⟨f1, f2, f3, f4, a1, a2⟩ := u'
    have ol := Nat.le_of_dvd hT1 oT
    refine pd_coprimes hu' (fun u' hu' => ?_)
    obtain ⟨f1, f2, f3, f4, a1, a2⟩ := u'
    have hne : ¬ nI o = -2 := by
      intro z
      have := congrArg Int32.toInt z
      rw [nI_toInt (by omega), show (-2 : Int32).toInt = -2 by decide] at this
      omega
    refine br_f hne (pk_lt o 1 (fun z => absurd z (by omega)) (fun _ => ⟨nI_ne0 (by omega) (by omega), br_t ?_ ?_⟩))
    · rw [pk_rem (by omega) (by omega) (by omega), Nat.mod_eq_zero_of_dvd oT]
      rfl
    · refine pd_power hu' ha (by omega) ?_
      rw [ho]
      exact br_t rfl (pd_61 hu' ha H)
end
section
/-! ===== the law's loop, and what is owed ===== -/
theorem pd_56 {post : Int32 → Prop} {L : Nat} {xs : Nat → Int32} {J : Int32 → Int32 → Int32 → Int32 → Int32 → (Nat → Int32) → (Nat → Int32) → Prop} {kc ks k m w : Nat} {u : St1} (hL : L ≤ 260) (hk : 2 * k + 2 ≤ L) (hm : m < 30000) (h : pd_ok w u)
    (HJ : ∀ n u', pd_ok n u' → J (nI (2 * (k + 1))) u'.1 u'.2.1 u'.2.2.1 u'.2.2.2.1 u'.2.2.2.2.1 u'.2.2.2.2.2) : wL_law_56 post L xs J (nI (2 * k)) (nI m) 1 kc ks u.1 u.2.1 u.2.2.1 u.2.2.2.1 u.2.2.2.2.1 u.2.2.2.2.2 := by
  obtain ⟨f1, f2, f3, f4, a1, a2⟩ := u
  refine nm_r (nI_add 1 m) (pd_take h (by omega) (by omega) (fun u' hu' => ?_))
  obtain ⟨f1, f2, f3, f4, a1, a2⟩ := u'
  obtain ⟨j, hj, ej⟩ := pk_andE (xs (nI (2 * k) + 1).toNatClampNeg) (m := 1048575) 20 (by decide)
  have hjm := Nat.mod_lt j (show 0 < 30000 by omega)
  refine br_f (by decide) ⟨pk_in (2 * k + 1) L (by omega) (nI_1 (2 * k)), by decide, nm_r (show _ = nI (1 + j % 30000) by rw [ej]; rw [← nI_add]; exact congrArg (fun x => (1 : Int32) + x) (pk_rem (d := 30000) (by omega) (by omega) (by omega))) ?_⟩
  refine pd_next hu' (fun p p1 p2 => ?_)
  refine pd_taken hu' (fun u' hu' => ?_)
  obtain ⟨f1, f2, f3, f4, a1, a2⟩ := u'
  refine pd_adds hu' (fun u' hu' => ?_)
  obtain ⟨f1, f2, f3, f4, a1, a2⟩ := u'
  refine pd_rests hu' (by omega) (by omega) (fun u' hu' => ?_)
  obtain ⟨f1, f2, f3, f4, a1, a2⟩ := u'
  refine br_f (by decide) (br_f (by decide) (br_f (by decide) ?_))
  refine pk_le p (1 + m) (fun z => absurd z (by omega)) (fun _ => pk_le p (2 * (1 + m)) (fun _ => ?_) (fun z => absurd z (by omega)) rfl (pk_mul 2 (1 + m)))
  exact nm_r (nI_add (2 * k) 2) (HJ (1 + m) (f1, f2, f3, f4, a1, a2) hu')
theorem i_vc (xs : Nat → Int32) (L : Nat) (hL : L ≤ 260) : wpL_law (fun r => r = 1) L xs := by
  refine ⟨2, 40, by omega, by omega, ⟨by omega, by omega, by omega, by omega, ?_⟩⟩
  refine loop_m (fun f (q : Nat × St1) => wL_law_10 (fun r => r = 1) L xs (1 + 2) (6 + 40) f (nI (2 * q.1)) q.2.1 q.2.2.1 q.2.2.2.1 q.2.2.2.2.1 q.2.2.2.2.2.1 q.2.2.2.2.2.2) (fun q => q.1 ≤ 12 ∧ ∃ m, pd_ok m q.2) (fun q => 12 - q.1) ?_ (0, ((1 : Int32), (0 : Int32), (0 : Int32), (0 : Int32), (fun _ => 0), (fun _ => 0))) ⟨by show 0 ≤ 12; omega, 1, by omega, by omega, 0, 0, 0, (fun _ => 0), (fun _ => 0), rfl, fun z => absurd rfl z⟩
  intro f ⟨k, v⟩ ⟨hk, m, hv⟩ hw
  have hk : k ≤ 12 := hk
  refine br_c (fun _ => rfl) (fun g => pk_le 24 (2 * k) (fun _ => rfl) (fun g2 => ?_))
  have hkL : 2 * k + 2 ≤ L := by
    have g3 : ¬ (nI L - nI 2 < nI (2 * k)) := g
    rw [Int32.lt_iff_toInt_lt, pk_sub_toInt (by omega) (by omega), nI_toInt (by omega)] at g3
    omega
  obtain ⟨j, hj, ej⟩ := pk_andE (xs (nI (2 * k)).toNatClampNeg) (m := 1048575) 20 (by decide)
  have hN : ∀ n u', pd_ok n u' → wL_law_10 (fun r => r = 1) L xs (1 + 2) (6 + 40) f (nI (2 * (k + 1))) u'.1 u'.2.1 u'.2.2.1 u'.2.2.2.1 u'.2.2.2.2.1 u'.2.2.2.2.2 := fun n u' hu' => hw (k + 1, u') ⟨by show k + 1 ≤ 12; omega, n, hu'⟩ (by show 12 - (k + 1) < 12 - k; omega)
  have e1 : nI j - nI j / 30000 * 30000 = nI (j % 30000) := pk_rem (d := 30000) (by omega) (by omega) (by omega)
  have e2 : nI j - nI j / 700 * 700 = nI (j % 700) := pk_rem (d := 700) (by omega) (by omega) (by omega)
  refine ⟨pk_in (2 * k) L (by omega), nm_r ej ⟨pk_in (2 * k) L (by omega), br_c (fun _ => ⟨by decide, ?_⟩) (fun _ => ⟨by decide, ?_⟩)⟩⟩
  · rw [e1]
    exact pd_56 hL hkL (by omega) hv hN
  · rw [e2]
    exact pd_56 hL hkL (by omega) hv hN
end
