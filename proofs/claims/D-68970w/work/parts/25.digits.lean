section Digits
/-- the number that digits of sixteen bits make, the lowest first -/
def dv (f : Int → Int) : Nat → Int
  | 0 => 0
  | k + 1 => dv f k + f k * 65536 ^ k
theorem dv_congr {f g : Int → Int} : ∀ {n : Nat}, (∀ i : Nat, i < n → f i = g i) → dv f n = dv g n := by
  intro n
  induction n with
  | zero => intro _; rfl
  | succ k ih =>
    intro h
    unfold dv
    rw [ih (fun i hi => h i (by omega)), h k (by omega)]
def dr (f : Int → Int) (n : Nat) : Prop := ∀ i : Nat, i < n → 0 ≤ f i ∧ f i < 65536
theorem p16_pos (n : Nat) : (0 : Int) < 65536 ^ n := Int.pow_pos (by omega)
theorem p16_s (n : Nat) : (65536 : Int) ^ (n + 1) = 65536 * 65536 ^ n := by rw [Int.pow_succ, Int.mul_comm]
theorem dv_rng {f : Int → Int} : ∀ {n : Nat}, dr f n → 0 ≤ dv f n ∧ dv f n < 65536 ^ n := by
  intro n
  induction n with
  | zero => intro _; exact ⟨Int.le_refl 0, by show (0 : Int) < 65536 ^ 0; decide⟩
  | succ k ih =>
    intro h
    have h1 := ih (fun i hi => h i (by omega))
    have h2 := h k (by omega)
    unfold dv
    rw [p16_s]
    have hp := p16_pos k
    have h3 : 0 ≤ f k * 65536 ^ k := Int.mul_nonneg h2.1 (by omega)
    have h4 : f k * 65536 ^ k ≤ 65535 * 65536 ^ k := Int.mul_le_mul_of_nonneg_right (by omega) (by omega)
    omega
theorem dv_top {f : Int → Int} {n : Nat} (h : dr f (n + 1)) (ht : f n ≠ 0) : 65536 ^ n ≤ dv f (n + 1) := by
  have h1 := dv_rng (fun i hi => h i (by omega) : dr f n)
  have h2 := h n (by omega)
  unfold dv
  have hp := p16_pos n
  have h4 : 1 * 65536 ^ n ≤ f n * 65536 ^ n := Int.mul_le_mul_of_nonneg_right (by omega) (by omega)
  omega
theorem dv_zero {f : Int → Int} {n m : Nat} (hnm : n ≤ m) (h : ∀ i : Nat, n ≤ i → i < m → f i = 0) : dv f m = dv f n := by
  induction m with
  | zero => rw [show n = 0 by omega]
  | succ k ih =>
    by_cases e : n = k + 1
    · rw [e]
    · rw [show dv f (k + 1) = dv f k + f k * 65536 ^ k from rfl, ih (by omega) (fun i a b => h i a (by omega)), h k (by omega) (by omega)]
      omega
/-- the lowest digit by itself -/
theorem dv_low (f : Int → Int) : ∀ n : Nat, dv f (n + 1) = f 0 + 65536 * dv (fun i => f (i + 1)) n := by
  intro n
  induction n with
  | zero => simp [dv]
  | succ k ih =>
    rw [show dv f (k + 1 + 1) = dv f (k + 1) + f ((k + 1 : Nat) : Int) * 65536 ^ (k + 1) from rfl, ih]
    rw [show dv (fun i => f (i + 1)) (k + 1) = dv (fun i => f (i + 1)) k + f ((k : Int) + 1) * 65536 ^ k from rfl]
    rw [p16_s, Int.mul_add, Int.natCast_succ]
    rw [show f ((k : Int) + 1) * (65536 * 65536 ^ k) = 65536 * (f ((k : Int) + 1) * 65536 ^ k) by rw [← Int.mul_assoc, ← Int.mul_assoc, Int.mul_comm (f _)]]
    omega
/-- digits from a place on -/
theorem dv_app (f : Int → Int) (a : Nat) : ∀ b : Nat, dv f (a + b) = dv f a + 65536 ^ a * dv (fun i => f (a + i)) b := by
  intro b
  induction b with
  | zero => simp [dv]
  | succ k ih =>
    rw [← Nat.add_assoc]
    rw [show dv f (a + k + 1) = dv f (a + k) + f ((a + k : Nat) : Int) * 65536 ^ (a + k) from rfl, ih]
    rw [show dv (fun i => f (a + i)) (k + 1) = dv (fun i => f (a + i)) k + f (a + (k : Int)) * 65536 ^ k from rfl]
    rw [Int.mul_add, Int.pow_add, Int.natCast_add]
    rw [show f ((a : Int) + (k : Int)) * (65536 ^ a * 65536 ^ k) = 65536 ^ a * (f ((a : Int) + (k : Int)) * 65536 ^ k) by
      rw [← Int.mul_assoc, ← Int.mul_assoc, Int.mul_comm (f _)]]
    omega
theorem dv_inj {f g : Int → Int} : ∀ {n : Nat}, dr f n → dr g n → dv f n = dv g n → ∀ i : Nat, i < n → f i = g i := by
  intro n
  induction n with
  | zero => intro _ _ _ i hi; omega
  | succ k ih =>
    intro hf hg h i hi
    have f1 := dv_rng (fun i hi => hf i (by omega) : dr f k)
    have g1 := dv_rng (fun i hi => hg i (by omega) : dr g k)
    unfold dv at h
    have hp := p16_pos k
    have e : f k = g k := by
      have a1 : dv f k = (dv f k + f k * 65536 ^ k) % 65536 ^ k := by rw [Int.add_mul_emod_self_right, Int.emod_eq_of_lt f1.1 f1.2]
      have a2 : (dv f k + f k * 65536 ^ k) / 65536 ^ k = f k := by
        rw [Int.add_mul_ediv_right _ _ (by omega), Int.ediv_eq_zero_of_lt f1.1 f1.2]; omega
      have a3 : (dv g k + g k * 65536 ^ k) / 65536 ^ k = g k := by
        rw [Int.add_mul_ediv_right _ _ (by omega), Int.ediv_eq_zero_of_lt g1.1 g1.2]; omega
      rw [← a2, ← a3, h]
    rcases Nat.lt_or_ge i k with hk | hk
    · refine ih (fun i hi => hf i (by omega)) (fun i hi => hg i (by omega)) ?_ i hk
      rw [e] at h
      omega
    · rw [show i = k by omega]; exact e
end Digits
