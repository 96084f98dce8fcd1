/-! PROG 4a: doubles: rounding keeps the order (2) -/
set_option maxRecDepth 100000

/-- what bits stand for: a magnitude below INF, in units of the least -/
def d6_c (m : Nat) : Nat := if m < 4503599627370496 then m else 4503599627370496 + m % 4503599627370496
def d6_j (m : Nat) : Nat := if m < 4503599627370496 then 0 else m / 4503599627370496 - 1
def d6_vl (m : Nat) : Nat := d6_c m * 2 ^ d6_j m
theorem d6_dec (n : Nat) (h : n < 2 * 9223372036854775808) : FP.Core.decode FP.Core.b64 n = if n % 9223372036854775808 = 9218868437227405312 then .inf (decide (9223372036854775808 ≤ n)) else if 9218868437227405312 < n % 9223372036854775808 then .nan else .fin (decide (9223372036854775808 ≤ n)) (d6_c (n % 9223372036854775808)) (-1074 + d6_j (n % 9223372036854775808)) := by
  have hT : FP.Core.fieldT FP.Core.b64 n = n % 4503599627370496 := by unfold FP.Core.fieldT; rw [d6_tails]
  have hE : FP.Core.fieldE FP.Core.b64 n = n / 4503599627370496 % 2048 := by unfold FP.Core.fieldE; rw [d6_tails, d6_exps]
  have hS : FP.Core.fieldS FP.Core.b64 n = decide (9223372036854775808 ≤ n) := by
    unfold FP.Core.fieldS
    rw [d6_tails, d6_exps]
    by_cases hs : 9223372036854775808 ≤ n
    · rw [decide_eq_true hs]
      have : n / 4503599627370496 / 2048 % 2 = 1 := by omega
      rw [this]; rfl
    · rw [decide_eq_false hs]
      have : n / 4503599627370496 / 2048 % 2 = 0 := by omega
      rw [this]; rfl
  unfold FP.Core.decode
  rw [hT, hE, hS, d6_exps, d6_qmin, d6_tails]
  by_cases h1 : n % 9223372036854775808 = 9218868437227405312
  · rw [if_pos h1, if_pos (by omega), if_pos (by omega)]
  rw [if_neg h1]
  by_cases h2 : 9218868437227405312 < n % 9223372036854775808
  · rw [if_pos h2, if_pos (by omega), if_neg (by omega)]
  rw [if_neg h2, if_neg (by omega)]
  unfold d6_c d6_j
  by_cases h3 : n % 9223372036854775808 < 4503599627370496
  · rw [if_pos h3, if_pos h3, if_pos (by omega)]
    congr 1
    · omega
  · rw [if_neg h3, if_neg h3, if_neg (by omega)]
    congr 1
    · omega
    · omega
theorem d6_vl_mono {m n : Nat} (h : m < n) : d6_vl m < d6_vl n := by
  unfold d6_vl d6_c d6_j
  by_cases hn : n < 4503599627370496
  · rw [if_pos hn, if_pos hn, if_pos (by omega), if_pos (by omega)]
    omega
  rw [if_neg hn, if_neg hn]
  by_cases hm : m < 4503599627370496
  · rw [if_pos hm, if_pos hm, Nat.pow_zero, Nat.mul_one]
    have := Nat.le_mul_of_pos_right (4503599627370496 + n % 4503599627370496) (Nat.two_pow_pos (n / 4503599627370496 - 1))
    omega
  rw [if_neg hm, if_neg hm]
  by_cases hj : m / 4503599627370496 = n / 4503599627370496
  · rw [hj]
    exact Nat.mul_lt_mul_of_pos_right (by omega) (Nat.two_pow_pos _)
  · have hlt : m / 4503599627370496 - 1 + 1 ≤ n / 4503599627370496 - 1 := by omega
    calc (4503599627370496 + m % 4503599627370496) * 2 ^ (m / 4503599627370496 - 1) < 9007199254740992 * 2 ^ (m / 4503599627370496 - 1) := Nat.mul_lt_mul_of_pos_right (by omega) (Nat.two_pow_pos _)
      _ = 4503599627370496 * 2 ^ (m / 4503599627370496 - 1 + 1) := by rw [Nat.pow_succ]; omega
      _ ≤ 4503599627370496 * 2 ^ (n / 4503599627370496 - 1) := Nat.mul_le_mul_left _ (Nat.pow_le_pow_right (by decide) hlt)
      _ ≤ (4503599627370496 + n % 4503599627370496) * 2 ^ (n / 4503599627370496 - 1) := Nat.mul_le_mul_right _ (by omega)
theorem d6_vl_lt {m n : Nat} : d6_vl m < d6_vl n ↔ m < n := by
  constructor
  · intro h
    rcases Nat.lt_trichotomy m n with h1 | h1 | h1
    · exact h1
    · subst h1; omega
    · have := d6_vl_mono h1; omega
  · exact d6_vl_mono
theorem d6_vl_0 : d6_vl 0 = 0 := by decide
/-- what can be kept is kept -/
theorem d6_rk_vl (m : Nat) (h : m < 9218868437227405312) : d6_rk (d6_c m) (-1074 + d6_j m) = m := by
  unfold d6_rk
  by_cases h0 : m = 0
  · subst h0; rfl
  have hc : d6_c m ≠ 0 := by unfold d6_c; split <;> omega
  rw [if_neg hc]
  have hq : FP.Core.quantum FP.Core.b64 (d6_c m) 1 (-1074 + d6_j m) = -1074 + d6_j m := by
    rw [d6_quant _ _ hc]
    by_cases hm : m < 4503599627370496
    · have : (d6_c m).log2 < 52 + 1 := by
        rw [Nat.log2_lt hc]
        have : (2 : Nat) ^ (52 + 1) = 9007199254740992 := by decide
        rw [this]; unfold d6_c; rw [if_pos hm]; omega
      have hj : d6_j m = 0 := by unfold d6_j; rw [if_pos hm]
      rw [hj]; omega
    · have : (d6_c m).log2 = 52 := by
        rw [Nat.log2_eq_iff hc]
        have e1 : (2 : Nat) ^ 52 = 4503599627370496 := by decide
        have e2 : (2 : Nat) ^ (52 + 1) = 9007199254740992 := by decide
        rw [e1, e2]; unfold d6_c; rw [if_neg hm]; omega
      rw [this]; omega
  rw [hq]
  unfold FP.Core.unitsNum FP.Core.unitsDen
  rw [Int.sub_self, Int.toNat_zero, Nat.pow_zero, Nat.mul_one, Nat.mul_one, near_one]
  unfold d6_c d6_j
  by_cases hm : m < 4503599627370496
  · rw [if_pos hm, if_pos hm]; omega
  · rw [if_neg hm, if_neg hm]; omega

