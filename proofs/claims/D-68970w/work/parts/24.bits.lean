section Bits
theorem b_i_rng (x : Int) : -2147483648 ≤ b_i x ∧ b_i x ≤ 2147483647 := by
  have := b_tr (Int32.ofInt x); rw [Int32.toInt_ofInt] at this; exact this
theorem b_l_rng (x : Int) : -9223372036854775808 ≤ b_l x ∧ b_l x ≤ 9223372036854775807 := by
  have := b_trl (Int64.ofInt x); rw [Int64.toInt_ofInt] at this; exact this
theorem b_bvn (x : Int) : (Int32.ofInt x).toBitVec.toNat = (x % 4294967296).toNat := by
  show (BitVec.ofInt 32 x).toNat = _
  rw [BitVec.toNat_ofInt]; rfl
theorem b_bvnl (x : Int) : (Int64.ofInt x).toBitVec.toNat = (x % 18446744073709551616).toNat := by
  show (BitVec.ofInt 64 x).toNat = _
  rw [BitVec.toNat_ofInt]; rfl
theorem b_tin (x : Int32) : x.toInt = b_i (x.toBitVec.toNat : Int) := by
  show x.toBitVec.toInt = _
  rw [BitVec.toInt_eq_toNat_bmod]; rfl
theorem b_tinl (x : Int64) : x.toInt = b_l (x.toBitVec.toNat : Int) := by
  show x.toBitVec.toInt = _
  rw [BitVec.toInt_eq_toNat_bmod]; rfl
theorem b_and_n (x y : Int) : b_and x y = b_i (((x % 4294967296).toNat &&& (y % 4294967296).toNat : Nat) : Int) := by
  unfold b_and
  rw [b_tin, Int32.toBitVec_and, BitVec.toNat_and, b_bvn, b_bvn]
theorem b_or_n (x y : Int) : b_or x y = b_i (((x % 4294967296).toNat ||| (y % 4294967296).toNat : Nat) : Int) := by
  unfold b_or
  rw [b_tin, Int32.toBitVec_or, BitVec.toNat_or, b_bvn, b_bvn]
theorem b_xor_n (x y : Int) : b_xor x y = b_i (((x % 4294967296).toNat ^^^ (y % 4294967296).toNat : Nat) : Int) := by
  unfold b_xor
  rw [b_tin, Int32.toBitVec_xor, BitVec.toNat_xor, b_bvn, b_bvn]
theorem b_land_n (x y : Int) : b_land x y = b_l (((x % 18446744073709551616).toNat &&& (y % 18446744073709551616).toNat : Nat) : Int) := by
  unfold b_land
  rw [b_tinl, Int64.toBitVec_and, BitVec.toNat_and, b_bvnl, b_bvnl]
theorem b_lor_n (x y : Int) : b_lor x y = b_l (((x % 18446744073709551616).toNat ||| (y % 18446744073709551616).toNat : Nat) : Int) := by
  unfold b_lor
  rw [b_tinl, Int64.toBitVec_or, BitVec.toNat_or, b_bvnl, b_bvnl]
/-- of numbers that are not below 0 -/
theorem b_and_nn {x y : Int} (hx : 0 ≤ x ∧ x ≤ 2147483647) (hy : 0 ≤ y ∧ y ≤ 2147483647) : b_and x y = ((x.toNat &&& y.toNat : Nat) : Int) := by
  rw [b_and_n, Int.emod_eq_of_lt (by omega) (by omega), Int.emod_eq_of_lt (by omega) (by omega)]
  apply b_i_id
  have := Nat.and_le_left (n := x.toNat) (m := y.toNat)
  omega
theorem b_or_nn {x y : Int} (hx : 0 ≤ x ∧ x ≤ 2147483647) (hy : 0 ≤ y ∧ y ≤ 2147483647) : b_or x y = ((x.toNat ||| y.toNat : Nat) : Int) := by
  rw [b_or_n, Int.emod_eq_of_lt (by omega) (by omega), Int.emod_eq_of_lt (by omega) (by omega)]
  apply b_i_id
  have : x.toNat ||| y.toNat < 2 ^ 31 := Nat.or_lt_two_pow (by omega) (by omega)
  omega
theorem b_xor_nn {x y : Int} (hx : 0 ≤ x ∧ x ≤ 2147483647) (hy : 0 ≤ y ∧ y ≤ 2147483647) : b_xor x y = ((x.toNat ^^^ y.toNat : Nat) : Int) := by
  rw [b_xor_n, Int.emod_eq_of_lt (by omega) (by omega), Int.emod_eq_of_lt (by omega) (by omega)]
  apply b_i_id
  have : x.toNat ^^^ y.toNat < 2 ^ 31 := Nat.xor_lt_two_pow (by omega) (by omega)
  omega
theorem b_and_m (x : Int) (k : Nat) (hk : k < 32) : b_and x (2 ^ k - 1) = x % 2 ^ k := by
  have h2 : (2 : Int) ^ k ≤ 2147483648 := by
    have : (2 : Nat) ^ k ≤ 2 ^ 31 := Nat.pow_le_pow_right (by omega) (by omega)
    have h : ((2 ^ k : Nat) : Int) ≤ ((2 ^ 31 : Nat) : Int) := Int.ofNat_le.mpr this
    rw [Int.natCast_pow] at h
    exact h
  have h0 : (0 : Int) < 2 ^ k := Int.pow_pos (by omega)
  rw [b_and_n, Int.emod_eq_of_lt (a := 2 ^ k - 1) (by omega) (by omega)]
  have e : ((2 : Int) ^ k - 1).toNat = 2 ^ k - 1 := by
    have : ((2 ^ k : Nat) : Int) = 2 ^ k := by rw [Int.natCast_pow]; rfl
    omega
  rw [e, Nat.and_two_pow_sub_one_eq_mod, Int.natCast_emod, Int.toNat_of_nonneg (Int.emod_nonneg _ (by omega)), Int.natCast_pow]
  rw [show ((2 : Nat) : Int) = 2 from rfl, Int.emod_emod_of_dvd]
  · apply b_i_id
    have := Int.emod_nonneg x (Int.ne_of_gt h0)
    have := Int.emod_lt_of_pos x h0
    omega
  · rw [show (4294967296 : Int) = 2 ^ 32 from rfl]
    exact ⟨2 ^ (32 - k), by rw [← Int.pow_add]; congr 1; omega⟩
theorem b_and1 (x : Int) : b_and x 1 = x % 2 := b_and_m x 1 (by decide)
theorem b_and3 (x : Int) : b_and x 3 = x % 4 := b_and_m x 2 (by decide)
theorem b_and15 (x : Int) : b_and x 15 = x % 16 := b_and_m x 4 (by decide)
theorem b_and31 (x : Int) : b_and x 31 = x % 32 := b_and_m x 5 (by decide)
theorem b_and63 (x : Int) : b_and x 63 = x % 64 := b_and_m x 6 (by decide)
theorem b_and127 (x : Int) : b_and x 127 = x % 128 := b_and_m x 7 (by decide)
theorem b_and255 (x : Int) : b_and x 255 = x % 256 := b_and_m x 8 (by decide)
theorem b_and4095 (x : Int) : b_and x 4095 = x % 4096 := b_and_m x 12 (by decide)
theorem b_and65535 (x : Int) : b_and x 65535 = x % 65536 := b_and_m x 16 (by decide)
theorem b_andmax (x : Int) : b_and x 2147483647 = x % 2147483648 := b_and_m x 31 (by decide)
theorem b_land65535 (x : Int) : b_land x 65535 = x % 65536 := by
  rw [b_land_n, Int.emod_eq_of_lt (a := 65535) (by omega) (by omega)]
  rw [show (65535 : Int).toNat = 2 ^ 16 - 1 from rfl, Nat.and_two_pow_sub_one_eq_mod, Int.natCast_emod, Int.toNat_of_nonneg (Int.emod_nonneg _ (by omega))]
  rw [show ((2 ^ 16 : Nat) : Int) = 65536 from rfl, Int.emod_emod_of_dvd]
  · apply b_l_id; omega
  · decide
theorem b_and31' {y : Int} (h : 0 ≤ y ∧ y < 32) : Int32.ofInt y &&& 31 = Int32.ofInt y := by
  apply Int32.toInt_inj.mp
  rw [b_toI (by omega)]
  have := b_and31 y
  rw [Int.emod_eq_of_lt h.1 h.2] at this
  exact this
theorem b_smod32 {y : Int} (h : 0 ≤ y ∧ y < 32) : ((Int32.ofInt y).toBitVec.smod 32).toNat = y.toNat := by
  have hy : (Int32.ofInt y).toBitVec = BitVec.ofNat 32 y.toNat := by
    apply BitVec.eq_of_toNat_eq
    rw [b_bvn, BitVec.toNat_ofNat]
    omega
  rw [hy]
  have : ∀ k : Nat, k < 32 → ((BitVec.ofNat 32 k).smod 32).toNat = k := by decide
  exact this _ (by omega)
/-- shifts -/
theorem b_shl_e {x y : Int} (h : 0 ≤ y ∧ y < 32) : b_shl x y = b_i (x * 2 ^ y.toNat) := by
  unfold b_shl
  rw [b_and31' h, b_tin, Int32.toBitVec_shiftLeft, BitVec.shiftLeft_eq', b_smod32 h, BitVec.toNat_shiftLeft, b_bvn, Nat.shiftLeft_eq]
  unfold b_i
  rw [Int.natCast_emod]
  have e1 := Int.emod_bmod (((x % 4294967296).toNat * 2 ^ y.toNat : Nat) : Int) 4294967296
  refine Eq.trans e1 ?_
  rw [Int.natCast_mul, Int.toNat_of_nonneg (Int.emod_nonneg _ (by omega)), Int.natCast_pow]
  exact Int.emod_mul_bmod x 4294967296
theorem b_shr_e {x y : Int} (hx : -2147483648 ≤ x ∧ x ≤ 2147483647) (h : 0 ≤ y ∧ y < 32) : b_shr x y = x / 2 ^ y.toNat := by
  unfold b_shr
  rw [b_and31' h]
  show ((Int32.ofInt x >>> Int32.ofInt y).toBitVec).toInt = _
  rw [Int32.toBitVec_shiftRight, BitVec.toInt_sshiftRight', b_smod32 h, Int.shiftRight_eq_div_pow]
  rw [show (Int32.ofInt x).toBitVec.toInt = x from b_toI hx]
  rfl
theorem b_ush_e {x y : Int} (h : 0 < y ∧ y < 32) : b_ush x y = x % 4294967296 / 2 ^ y.toNat := by
  unfold b_ush
  have e1 : (Int32.ofInt y).toUInt32 &&& Int32.toUInt32 31 = (Int32.ofInt y).toUInt32 := by
    have := congrArg Int32.toUInt32 (b_and31' (y := y) (by omega))
    exact this
  rw [e1]
  have hy : (Int32.ofInt y).toUInt32.toNat = y.toNat := by
    show (Int32.ofInt y).toBitVec.toNat = _
    rw [b_bvn]; omega
  rw [b_tin]
  have e2 : ((Int32.ofInt x).toUInt32 >>> (Int32.ofInt y).toUInt32).toInt32.toBitVec.toNat = (x % 4294967296).toNat / 2 ^ y.toNat := by
    show ((Int32.ofInt x).toUInt32 >>> (Int32.ofInt y).toUInt32).toNat = _
    rw [UInt32.toNat_shiftRight, hy, Nat.mod_eq_of_lt (by omega), Nat.shiftRight_eq_div_pow]
    show (Int32.ofInt x).toBitVec.toNat / _ = _
    rw [b_bvn]
  rw [e2]
  have h2 : 2 ≤ 2 ^ y.toNat := by
    have : (2 : Nat) ^ 1 ≤ 2 ^ y.toNat := Nat.pow_le_pow_right (by omega) (by omega)
    omega
  have h3 : (x % 4294967296).toNat / 2 ^ y.toNat ≤ 2147483647 := by
    have h4 := Nat.div_le_div_left h2 (by omega : 0 < 2) (a := (x % 4294967296).toNat)
    omega
  rw [b_i_id (by omega), Int.natCast_ediv, Int.toNat_of_nonneg (Int.emod_nonneg _ (by omega)), Int.natCast_pow]
  rfl
theorem b_ush0 {x : Int} (hx : -2147483648 ≤ x ∧ x ≤ 2147483647) : b_ush x 0 = x := by
  unfold b_ush
  have e1 : (Int32.ofInt 0).toUInt32 &&& Int32.toUInt32 31 = 0 := by decide
  rw [e1]
  rw [show ((Int32.ofInt x).toUInt32 >>> (0 : UInt32)) = (Int32.ofInt x).toUInt32 from by simp]
  rw [show (Int32.ofInt x).toUInt32.toInt32 = Int32.ofInt x from rfl, b_toI hx]
theorem b_div_e {x y : Int} (hx : -2147483648 ≤ x ∧ x ≤ 2147483647) (hy : -2147483648 ≤ y ∧ y ≤ 2147483647) (h : y ≠ -1) : b_div x y = x.tdiv y := by
  unfold b_div
  rw [Int32.toInt_div, b_toI hx, b_toI hy]
  apply b_i_id
  have h1 : (x.tdiv y).natAbs ≤ 2147483648 ∧ x.tdiv y ≠ 2147483648 := by
    rw [Int.natAbs_tdiv]
    refine ⟨Nat.le_trans (Nat.div_le_self _ _) (by omega), fun e => ?_⟩
    have e2 : (x.tdiv y).natAbs = 2147483648 := by rw [e]; rfl
    rw [Int.natAbs_tdiv] at e2
    by_cases h0 : y.natAbs ≤ 1
    · rcases (by omega : y = 0 ∨ y = 1) with rfl | rfl
      · simp at e
      · simp at e; omega
    · have h5 := Nat.div_le_div_left (by omega : 2 ≤ y.natAbs) (by omega) (a := x.natAbs)
      have e3 : x.natAbs / y.natAbs = 2147483648 := e2
      rw [e3] at h5
      omega
  generalize x.tdiv y = q at h1 ⊢
  omega
theorem b_rem_e {x y : Int} (hx : -2147483648 ≤ x ∧ x ≤ 2147483647) (hy : -2147483648 ≤ y ∧ y ≤ 2147483647) (h : y ≠ -1) : b_rem x y = x.tmod y := by
  have hd := b_div_e hx hy h
  unfold b_div at hd
  unfold b_rem
  rw [Int32.toInt_sub, Int32.toInt_mul, hd, b_toI hx, b_toI hy]
  rw [Int.sub_bmod_bmod, Int.tmod_def, Int.mul_comm y]
  apply b_i_id
  have h1 : (x - x.tdiv y * y) = x.tmod y := by rw [Int.tmod_def, Int.mul_comm y]
  rw [h1]
  by_cases h0 : y = 0
  · subst h0; simp; omega
  · have h2 : (x.tmod y).natAbs < y.natAbs := by
      rw [Int.natAbs_tmod]; exact Nat.mod_lt _ (by omega)
    generalize x.tmod y = q at h2 ⊢
    omega
/-- of numbers that are not below 0 -/
theorem b_div_p {x y : Int} (hx : 0 ≤ x ∧ x ≤ 2147483647) (hy : 0 < y ∧ y ≤ 2147483647) : b_div x y = x / y := by
  rw [b_div_e (by omega) (by omega) (by omega), Int.tdiv_eq_ediv_of_nonneg hx.1]
theorem b_rem_p {x y : Int} (hx : 0 ≤ x ∧ x ≤ 2147483647) (hy : 0 < y ∧ y ≤ 2147483647) : b_rem x y = x % y := by
  rw [b_rem_e (by omega) (by omega) (by omega), Int.tmod_eq_emod_of_nonneg hx.1]
theorem b_ldiv_p {x y : Int} (hx : 0 ≤ x ∧ x ≤ 9223372036854775807) (hy : 0 < y ∧ y ≤ 9223372036854775807) : b_ldiv x y = x / y := by
  unfold b_ldiv
  rw [Int64.toInt_div, b_toL (by omega), b_toL (by omega), Int.tdiv_eq_ediv_of_nonneg hx.1]
  apply b_l_id
  have := Int.ediv_nonneg hx.1 (by omega : 0 ≤ y)
  have := Int.ediv_le_self y hx.1
  omega
theorem b_lrem_p {x y : Int} (hx : 0 ≤ x ∧ x ≤ 9223372036854775807) (hy : 0 < y ∧ y ≤ 9223372036854775807) : b_lrem x y = x % y := by
  have hd := b_ldiv_p hx hy
  unfold b_ldiv at hd
  unfold b_lrem
  rw [Int64.toInt_sub, Int64.toInt_mul, hd, b_toL (by omega), b_toL (by omega)]
  rw [Int.sub_bmod_bmod]
  have h1 : x - x / y * y = x % y := by rw [Int.emod_def, Int.mul_comm y]
  rw [h1]
  apply b_l_id
  have := Int.emod_nonneg x (by omega : y ≠ 0)
  have := Int.emod_lt_of_pos x hy.1
  omega
end Bits
