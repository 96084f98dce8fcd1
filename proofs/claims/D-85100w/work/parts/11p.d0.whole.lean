/-! PROG q1: whole numbers as doubles -/
set_option maxRecDepth 100000
/-- 1, in units of the least double -/
def kU : Int := ((2 ^ 1074 : Nat) : Int)
theorem kU_pos : 0 < kU := Int.natCast_pos.mpr (Nat.two_pow_pos _)
theorem vl_int (m : Nat) (h0 : 0 < m) (h : m < 9007199254740992) : ∃ k, k < 9218868437227405312 ∧ d6_vl k = m * 2 ^ 1074 := by
  have a1 := Nat.log2_self_le (n := m) (by omega)
  have a2 := Nat.lt_log2_self (n := m)
  have a3 : m.log2 ≤ 52 := by
    have h1 : 2 ^ m.log2 < 2 ^ 53 := Nat.lt_of_le_of_lt a1 h
    have := (Nat.pow_lt_pow_iff_right (by decide)).mp h1
    omega
  generalize m.log2 = e at a1 a2 a3
  have b1 : 4503599627370496 ≤ m * 2 ^ (52 - e) := by
    have e1 : 2 ^ e * 2 ^ (52 - e) = 4503599627370496 := by rw [← Nat.pow_add, show e + (52 - e) = 52 by omega]
    rw [← e1]
    exact Nat.mul_le_mul_right _ a1
  have b2 : m * 2 ^ (52 - e) < 9007199254740992 := by
    have e1 : 2 ^ (e + 1) * 2 ^ (52 - e) = 9007199254740992 := by rw [← Nat.pow_add, show e + 1 + (52 - e) = 53 by omega]
    rw [← e1]
    exact Nat.mul_lt_mul_of_pos_right a2 (Nat.two_pow_pos _)
  have b3 : m * 2 ^ (52 - e) * 2 ^ (1022 + e) = m * 2 ^ 1074 := by
    rw [Nat.mul_assoc, ← Nat.pow_add, show 52 - e + (1022 + e) = 1074 by omega]
  generalize m * 2 ^ (52 - e) = c at b1 b2 b3
  refine ⟨(1022 + e) * 4503599627370496 + c, by omega, ?_⟩
  rw [← b3]
  unfold d6_vl d6_c d6_j
  rw [if_neg (by omega), if_neg (by omega), show 4503599627370496 + ((1022 + e) * 4503599627370496 + c) % 4503599627370496 = c by omega, show ((1022 + e) * 4503599627370496 + c) / 4503599627370496 - 1 = 1022 + e by omega]
/-- the key of a whole number -/
def kI (a : Int) : Int := rkS (a * kU)
theorem kI_neg (a : Int) : kI (-a) = -kI a := by
  unfold kI
  rw [Int.neg_mul, rkS_neg]
theorem kI_nat (m : Nat) (h : m < 9007199254740992) : kF (kI m) ∧ sv (kI m) = m * kU := by
  by_cases h0 : m = 0
  · subst h0
    have e : kI ((0 : Nat) : Int) = 0 := by unfold kI; rw [show ((0 : Nat) : Int) * kU = 0 from Int.zero_mul _]; rfl
    rw [e, sv_0]
    exact ⟨by unfold kF; omega, (Int.zero_mul _).symm⟩
  · obtain ⟨k, k1, k2⟩ := vl_int m (by omega) h
    have s1 : sv (k : Int) = m * kU := by
      unfold sv kU
      rw [if_neg (by omega), Int.natAbs_natCast, k2, Int.natCast_mul]
    have f1 : kF (k : Int) := by unfold kF; omega
    have e : kI (m : Int) = k := by
      unfold kI
      rw [← s1, rkS_sv f1]
    rw [e]
    exact ⟨f1, s1⟩
theorem kI_sv {a : Int} (h : a.natAbs < 9007199254740992) : kF (kI a) ∧ sv (kI a) = a * kU := by
  have q := kI_nat a.natAbs h
  by_cases hs : a < 0
  · have e : a = -(a.natAbs : Int) := by omega
    rw [e, kI_neg, sv_neg, q.2, Int.neg_mul]
    have := q.1
    unfold kF at *
    exact ⟨by omega, rfl⟩
  · have e : a = (a.natAbs : Int) := by omega
    rw [e]
    exact q
theorem kI_lt {a b : Int} (ha : a.natAbs < 9007199254740992) (hb : b.natAbs < 9007199254740992) : kI a < kI b ↔ a < b := by
  rw [← sv_lt, (kI_sv ha).2, (kI_sv hb).2]
  exact ⟨fun h => Int.lt_of_mul_lt_mul_right h (Int.le_of_lt kU_pos), fun h => Int.mul_lt_mul_of_pos_right h kU_pos⟩
theorem kI_inj {a b : Int} (ha : a.natAbs < 9007199254740992) (hb : b.natAbs < 9007199254740992) (h : kI a = kI b) : a = b := by
  have h1 := @kI_lt a b ha hb
  have h2 := @kI_lt b a hb ha
  omega
/-- a whole number as a double -/
theorem fromInt_ky (a : Int) : ky (UInt64.ofNat (FP.Core.fromInt FP.Core.b64 a)) = kI a ∧ dOk (UInt64.ofNat (FP.Core.fromInt FP.Core.b64 a)) = true := by
  have e : FP.Core.fromInt FP.Core.b64 a = FP.Core.encode FP.Core.b64 (FP.Core.roundRatio FP.Core.b64 (decide (a < 0)) a.natAbs 1 0) := rfl
  rw [e, d6_round, d6_rk_up _ _ (by decide), show ((0 : Int) + 1074).toNat = 1074 from rfl]
  obtain ⟨h1, h2⟩ := ky_bits (decide (a < 0)) (d6_rk (a.natAbs * 2 ^ 1074) (-1074)) (d6_rk_le _ _)
  refine ⟨?_, h2⟩
  rw [h1]
  have hn : (a * kU).natAbs = a.natAbs * 2 ^ 1074 := by
    rw [Int.natAbs_mul]
    rfl
  unfold kI rkS
  rw [hn]
  by_cases hs : a < 0
  · have : a * kU < 0 := Int.mul_neg_of_neg_of_pos hs kU_pos
    rw [decide_eq_true hs, if_pos rfl, if_pos this]
  · have : ¬ a * kU < 0 := by
      have := Int.mul_nonneg (show 0 ≤ a by omega) (Int.le_of_lt kU_pos)
      omega
    rw [decide_eq_false hs, if_neg (by decide), if_neg this]
theorem i2d_ky (a : Int32) : ky (FP.i2d a) = kI a.toInt ∧ dOk (FP.i2d a) = true := fromInt_ky a.toInt
theorem l2d_ky (a : Int64) : ky (FP.l2d a) = kI a.toInt ∧ dOk (FP.l2d a) = true := fromInt_ky a.toInt
theorem i2d_de (a : Int32) : FP.i2d a = de (kI a.toInt) := by
  rw [← (i2d_ky a).1, de_ky (i2d_g a).1 (i2d_g a).2]
/-- the part that is whole -/
theorem tr_sv (s : Bool) (c : Nat) {q : Int} (hq : -1074 ≤ q) : FP.Core.truncate s c q = Int.tdiv (FP.Core.signed s (c * 2 ^ (q + 1074).toNat)) kU := by
  have hn : c * 2 ^ q.toNat / 2 ^ (-q).toNat = c * 2 ^ (q + 1074).toNat / 2 ^ 1074 := by
    by_cases h0 : 0 ≤ q
    · rw [show (-q).toNat = 0 by omega, show (q + 1074).toNat = q.toNat + 1074 by omega, Nat.pow_zero, Nat.div_one, Nat.pow_add, ← Nat.mul_assoc, Nat.mul_div_cancel _ (Nat.two_pow_pos _)]
    · rw [show q.toNat = 0 by omega, Nat.pow_zero, Nat.mul_one]
      have e : (2 : Nat) ^ 1074 = 2 ^ (-q).toNat * 2 ^ (q + 1074).toNat := by rw [← Nat.pow_add]; congr 1; omega
      rw [e, Nat.mul_div_mul_right _ _ (Nat.two_pow_pos _)]
  unfold FP.Core.truncate
  rw [hn]
  unfold FP.Core.signed kU
  cases s
  · rw [if_neg (by decide), if_neg (by decide)]
    exact (Int.ofNat_tdiv _ _).symm
  · rw [if_pos rfl, if_pos rfl, Int.neg_tdiv]
    congr 1
/-- a number's whole part -/
def kT0 (k : Int) : Int := Int.tdiv (sv k) kU
theorem d2l_k {v : UInt64} (hv : dOk v = true) (hF : kF (ky v)) (h1 : -9223372036854775808 ≤ kT0 (ky v)) (h2 : kT0 (ky v) ≤ 9223372036854775807) : (FP.d2l v).toInt = kT0 (ky v) := by
  unfold kF at hF
  rcases d_cases hv with ⟨k1, -⟩ | ⟨k1, -⟩ | ⟨f1, s, c, q, e1, q1, v1, -⟩
  · omega
  · omega
  · show (Int64.ofInt (FP.Core.toInt (-2 ^ 63) (2 ^ 63 - 1) (FP.Core.decode FP.Core.b64 v.toNat))).toInt = _
    rw [e1]
    show (Int64.ofInt (max (-2 ^ 63) (min (2 ^ 63 - 1) (FP.Core.truncate s c q)))).toInt = _
    rw [tr_sv s c q1, v1]
    show (Int64.ofInt (max (-9223372036854775808) (min 9223372036854775807 (kT0 (ky v))))).toInt = _
    rw [Int64.toInt_ofInt_of_le (by omega) (by omega)]
    omega
theorem d2i_k {v : UInt64} (hv : dOk v = true) (hF : kF (ky v)) (h1 : -2147483648 ≤ kT0 (ky v)) (h2 : kT0 (ky v) ≤ 2147483647) : (FP.d2i v).toInt = kT0 (ky v) := by
  unfold kF at hF
  rcases d_cases hv with ⟨k1, -⟩ | ⟨k1, -⟩ | ⟨f1, s, c, q, e1, q1, v1, -⟩
  · omega
  · omega
  · show (Int32.ofInt (FP.Core.toInt (-2 ^ 31) (2 ^ 31 - 1) (FP.Core.decode FP.Core.b64 v.toNat))).toInt = _
    rw [e1]
    show (Int32.ofInt (max (-2 ^ 31) (min (2 ^ 31 - 1) (FP.Core.truncate s c q)))).toInt = _
    rw [tr_sv s c q1, v1]
    show (Int32.ofInt (max (-2147483648) (min 2147483647 (kT0 (ky v))))).toInt = _
    rw [Int32.toInt_ofInt_of_le (by omega) (by omega)]
    omega
theorem kT0_I {a : Int} (h : a.natAbs < 9007199254740992) : kT0 (kI a) = a := by
  unfold kT0
  rw [(kI_sv h).2, Int.mul_tdiv_cancel _ (by have := kU_pos; omega)]
