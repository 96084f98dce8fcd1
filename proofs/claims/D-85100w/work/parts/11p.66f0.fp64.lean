/-! PROG 4a: doubles: rounding keeps the order (0) -/
set_option maxRecDepth 100000

/-! format b64: the key of a datum -/
def d6_INF : Nat := 9218868437227405312
/-- the magnitude that is kept of num * 2 ^ e, as its bits -/
def d6_rk (num : Nat) (e : Int) : Nat := if num = 0 then 0 else min 9218868437227405312 ((FP.Core.quantum FP.Core.b64 num 1 e + 1074).toNat * 4503599627370496 + FP.Core.nearest (FP.Core.unitsNum num e (FP.Core.quantum FP.Core.b64 num 1 e)) (FP.Core.unitsDen 1 e (FP.Core.quantum FP.Core.b64 num 1 e)))
theorem d6_tails : FP.Core.Fmt.tails FP.Core.b64 = 4503599627370496 := by decide
theorem d6_exps : FP.Core.Fmt.exps FP.Core.b64 = 2048 := by decide
theorem d6_qmin : FP.Core.Fmt.qmin FP.Core.b64 = -1074 := by decide
theorem d6_qmax : FP.Core.Fmt.qmax FP.Core.b64 = 971 := by decide
theorem d6_pp : 2 ^ (FP.Core.Fmt.p FP.Core.b64) = 9007199254740992 := by decide
theorem d6_quant (num : Nat) (e : Int) (h : num ≠ 0) : FP.Core.quantum FP.Core.b64 num 1 e = max (-1074) ((num.log2 : Int) + e - 52) := by
  unfold FP.Core.quantum
  rw [leading_1 num h, d6_qmin]
  rfl
/-- scaled units -/
theorem d6_units (num : Nat) (e q z : Int) (h1 : z ≤ e) (h2 : z ≤ q) : FP.Core.nearest (FP.Core.unitsNum num e q) (FP.Core.unitsDen 1 e q) = FP.Core.nearest (num * 2 ^ (e - z).toNat) (2 ^ (q - z).toNat) := by
  unfold FP.Core.unitsNum FP.Core.unitsDen
  refine near_eq (by rw [Nat.one_mul]; exact Nat.two_pow_pos _) (Nat.two_pow_pos _) ?_
  rw [Nat.one_mul, Nat.mul_assoc, Nat.mul_assoc, ← Nat.pow_add, ← Nat.pow_add]
  congr 2
  omega
theorem d6_nlo {num : Nat} (h : num ≠ 0) {e : Int} (hq : -1074 < FP.Core.quantum FP.Core.b64 num 1 e) : 4503599627370496 ≤ FP.Core.nearest (FP.Core.unitsNum num e (FP.Core.quantum FP.Core.b64 num 1 e)) (FP.Core.unitsDen 1 e (FP.Core.quantum FP.Core.b64 num 1 e)) := by
  rw [d6_quant num e h] at hq ⊢
  have hm : max (-1074) ((num.log2 : Int) + e - 52) = (num.log2 : Int) + e - 52 := by omega
  rw [hm, ← near_one 4503599627370496]
  unfold FP.Core.unitsNum FP.Core.unitsDen
  refine near_mono (by decide) (by rw [Nat.one_mul]; exact Nat.two_pow_pos _) ?_
  rw [Nat.one_mul, Nat.mul_one]
  have h2 := Nat.log2_self_le h
  have e1 : (2 : Nat) ^ 52 = 4503599627370496 := by decide
  rw [← e1, ← Nat.pow_add]
  calc 2 ^ (52 + ((num.log2 : Int) + e - 52 - e).toNat) ≤ 2 ^ (num.log2 + (e - ((num.log2 : Int) + e - 52)).toNat) := Nat.pow_le_pow_right (by decide) (by omega)
    _ = 2 ^ num.log2 * 2 ^ (e - ((num.log2 : Int) + e - 52)).toNat := Nat.pow_add _ _ _
    _ ≤ num * 2 ^ (e - ((num.log2 : Int) + e - 52)).toNat := Nat.mul_le_mul_right _ h2
theorem d6_nhi {num : Nat} (h : num ≠ 0) {e : Int} : FP.Core.nearest (FP.Core.unitsNum num e (FP.Core.quantum FP.Core.b64 num 1 e)) (FP.Core.unitsDen 1 e (FP.Core.quantum FP.Core.b64 num 1 e)) ≤ 9007199254740992 := by
  rw [d6_quant num e h, ← near_one 9007199254740992]
  have hm : (num.log2 : Int) + e - 52 ≤ max (-1074) ((num.log2 : Int) + e - 52) := by omega
  generalize max (-1074) ((num.log2 : Int) + e - 52) = q at *
  unfold FP.Core.unitsNum FP.Core.unitsDen
  refine near_mono (by rw [Nat.one_mul]; exact Nat.two_pow_pos _) (by decide) ?_
  rw [Nat.one_mul, Nat.mul_one]
  have h2 : num < 2 ^ (num.log2 + 1) := (Nat.log2_lt h).mp (Nat.lt_succ_self _)
  have e1 : (2 : Nat) ^ (52 + 1) = 9007199254740992 := by decide
  rw [← e1, ← Nat.pow_add]
  calc num * 2 ^ (e - q).toNat ≤ 2 ^ (num.log2 + 1) * 2 ^ (e - q).toNat := Nat.mul_le_mul_right _ (Nat.le_of_lt h2)
    _ = 2 ^ (num.log2 + 1 + (e - q).toNat) := (Nat.pow_add _ _ _).symm
    _ ≤ 2 ^ (52 + 1 + (q - e).toNat) := Nat.pow_le_pow_right (by decide) (by omega)
theorem d6_mono {a b : Nat} {e r z : Int} (h1 : z ≤ e) (h2 : z ≤ r) (h : a * 2 ^ (e - z).toNat ≤ b * 2 ^ (r - z).toNat) : d6_rk a e ≤ d6_rk b r := by
  unfold d6_rk
  by_cases ha : a = 0
  · rw [if_pos ha]; exact Nat.zero_le _
  rw [if_neg ha]
  have hb : b ≠ 0 := by
    rintro rfl
    rw [Nat.zero_mul] at h
    have := Nat.mul_pos (Nat.pos_of_ne_zero ha) (Nat.two_pow_pos (e - z).toNat)
    omega
  rw [if_neg hb]
  have hL : (a.log2 : Int) + e ≤ b.log2 + r := by
    have h9 := log2_mono (Nat.mul_ne_zero ha (Nat.ne_of_gt (Nat.two_pow_pos _))) h
    rw [log2_scale _ _ ha, log2_scale _ _ hb] at h9
    clear h
    omega
  have ha1 := d6_nhi ha (e := e)
  have hb1 := d6_nlo hb (e := r)
  have q1 := d6_quant a e ha
  have q2 := d6_quant b r hb
  generalize FP.Core.quantum FP.Core.b64 a 1 e = q at *
  generalize FP.Core.quantum FP.Core.b64 b 1 r = s at *
  refine Nat.le_min.mpr ⟨Nat.min_le_left _ _, Nat.le_trans (Nat.min_le_right _ _) ?_⟩
  by_cases hq : q = s
  · subst hq
    have k : FP.Core.nearest (FP.Core.unitsNum a e q) (FP.Core.unitsDen 1 e q) ≤ FP.Core.nearest (FP.Core.unitsNum b r q) (FP.Core.unitsDen 1 r q) := by
      have z1 : min z q ≤ z := Int.min_le_left _ _
      have z2 : min z q ≤ q := Int.min_le_right _ _
      rw [d6_units a e q (min z q) (Int.le_trans z1 h1) z2, d6_units b r q (min z q) (Int.le_trans z1 h2) z2]
      refine near_mono (Nat.two_pow_pos _) (Nat.two_pow_pos _) (Nat.mul_le_mul_right _ ?_)
      have g1 : (e - min z q).toNat = (e - z).toNat + (z - min z q).toNat := by clear h ha1 hb1 q1 q2 hL; omega
      have g2 : (r - min z q).toNat = (r - z).toNat + (z - min z q).toNat := by clear h ha1 hb1 q1 q2 hL; omega
      rw [g1, g2, Nat.pow_add, Nat.pow_add, ← Nat.mul_assoc, ← Nat.mul_assoc]
      exact Nat.mul_le_mul_right _ h
    exact Nat.add_le_add_left k _
  · have g1 : -1074 < s := by clear h ha1 hb1; omega
    have g2 : (q + 1074).toNat + 1 ≤ (s + 1074).toNat := by clear h ha1 hb1; omega
    have k1 := hb1 g1
    clear h hb1 q1 q2 hL g1
    generalize FP.Core.nearest (FP.Core.unitsNum a e q) (FP.Core.unitsDen 1 e q) = x at *
    generalize FP.Core.nearest (FP.Core.unitsNum b r s) (FP.Core.unitsDen 1 r s) = y at *
    generalize (q + 1074).toNat = c at *
    generalize (s + 1074).toNat = d at *
    omega
theorem d6_rk_le (a : Nat) (e : Int) : d6_rk a e ≤ 9218868437227405312 := by
  unfold d6_rk
  split
  · decide
  · exact Nat.min_le_left _ _

