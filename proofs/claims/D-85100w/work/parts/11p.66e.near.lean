/-! PROG 4: rounding to the nearest keeps the order -/
set_option maxRecDepth 100000

/-! rounding to the nearest whole number -/
theorem near_lo (n d : Nat) (hd : 0 < d) : 2 * (FP.Core.nearest n d * d) < 2 * n + d ∨ 2 * (FP.Core.nearest n d * d) = 2 * n + d ∧ FP.Core.nearest n d % 2 = 0 := by
  have h := Nat.div_add_mod n d
  have hr := Nat.mod_lt n hd
  unfold FP.Core.nearest
  rw [Nat.mul_comm] at h
  split
  · omega
  · split
    · rw [Nat.add_mul]; omega
    · have h9 : n / d % 2 = 0 ∨ n / d % 2 = 1 := by omega
      rcases h9 with h9 | h9
      · rw [h9, Nat.add_zero]; omega
      · rw [h9, Nat.add_mul]; right; omega
theorem near_hi (n d : Nat) (hd : 0 < d) : 2 * n < 2 * (FP.Core.nearest n d * d) + d ∨ 2 * n = 2 * (FP.Core.nearest n d * d) + d ∧ FP.Core.nearest n d % 2 = 0 := by
  have h := Nat.div_add_mod n d
  have hr := Nat.mod_lt n hd
  unfold FP.Core.nearest
  rw [Nat.mul_comm] at h
  split
  · omega
  · split
    · rw [Nat.add_mul]; omega
    · have h9 : n / d % 2 = 0 ∨ n / d % 2 = 1 := by omega
      rcases h9 with h9 | h9
      · rw [h9, Nat.add_zero]; omega
      · rw [h9, Nat.add_mul]; left; omega
theorem near_mono {n d m e : Nat} (hd : 0 < d) (he : 0 < e) (h : n * e ≤ m * d) : FP.Core.nearest n d ≤ FP.Core.nearest m e := by
  rcases Nat.lt_or_ge (FP.Core.nearest m e) (FP.Core.nearest n d) with hlt | hge
  · exfalso
    have h1 := near_lo n d hd
    have h2 := near_hi m e he
    generalize FP.Core.nearest n d = a at *
    generalize FP.Core.nearest m e = b at *
    -- everything times d * e
    have g1 : 2 * (a * (d * e)) ≤ 2 * (n * e) + d * e := by
      have : 2 * (a * d) ≤ 2 * n + d := by omega
      have := Nat.mul_le_mul_right e this
      rw [Nat.add_mul, Nat.mul_assoc, Nat.mul_assoc, Nat.mul_assoc] at this
      exact this
    have g2 : 2 * (m * d) ≤ 2 * (b * (d * e)) + d * e := by
      have : 2 * m ≤ 2 * (b * e) + e := by omega
      have := Nat.mul_le_mul_right d this
      rw [Nat.add_mul, Nat.mul_assoc, Nat.mul_assoc, Nat.mul_assoc, Nat.mul_comm e d] at this
      exact this
    have g3 : (b + 1) * (d * e) ≤ a * (d * e) := Nat.mul_le_mul_right _ hlt
    rw [Nat.add_mul, Nat.one_mul] at g3
    have hde : 0 < d * e := Nat.mul_pos hd he
    have e1 : 2 * (a * (d * e)) = 2 * (n * e) + d * e := by omega
    have e2 : 2 * (m * d) = 2 * (b * (d * e)) + d * e := by omega
    have e3 : a * (d * e) = (b + 1) * (d * e) := by rw [Nat.add_mul, Nat.one_mul]; omega
    have e4 : a = b + 1 := Nat.eq_of_mul_eq_mul_right hde e3
    have p1 : a % 2 = 0 := by
      rcases h1 with h1 | h1
      · exfalso
        have := Nat.mul_lt_mul_of_pos_right h1 he
        rw [Nat.add_mul, Nat.mul_assoc, Nat.mul_assoc, Nat.mul_assoc] at this
        omega
      · exact h1.2
    have p2 : b % 2 = 0 := by
      rcases h2 with h2 | h2
      · exfalso
        have := Nat.mul_lt_mul_of_pos_right h2 hd
        rw [Nat.add_mul, Nat.mul_assoc, Nat.mul_assoc, Nat.mul_assoc, Nat.mul_comm e d] at this
        omega
      · exact h2.2
    omega
  · exact hge
theorem near_eq {n d m e : Nat} (hd : 0 < d) (he : 0 < e) (h : n * e = m * d) : FP.Core.nearest n d = FP.Core.nearest m e := Nat.le_antisymm (near_mono hd he (Nat.le_of_eq h)) (near_mono he hd (Nat.le_of_eq h.symm))
theorem near_one (n : Nat) : FP.Core.nearest n 1 = n := by
  unfold FP.Core.nearest
  rw [Nat.mod_one, Nat.div_one]
  exact if_pos (by decide)
theorem log2_scale (n j : Nat) (h : n ≠ 0) : (n * 2 ^ j).log2 = n.log2 + j := by
  induction j with
  | zero => rw [Nat.pow_zero, Nat.mul_one, Nat.add_zero]
  | succ j ih =>
    have e : n * 2 ^ (j + 1) = 2 * (n * 2 ^ j) := by rw [Nat.pow_succ, ← Nat.mul_assoc, Nat.mul_comm]
    rw [e, Nat.log2_two_mul (Nat.mul_ne_zero h (Nat.ne_of_gt (Nat.two_pow_pos j))), ih]
    rfl
theorem log2_mono {n m : Nat} (hn : n ≠ 0) (h : n ≤ m) : n.log2 ≤ m.log2 := by
  have hm : m ≠ 0 := by omega
  rcases Nat.lt_or_ge m.log2 n.log2 with hl | hl
  · have := (Nat.log2_lt hm).mp hl
    have := Nat.log2_self_le hn
    omega
  · exact hl
theorem leading_1 (n : Nat) (h : n ≠ 0) : FP.Core.leading n 1 = (n.log2 : Int) := by
  unfold FP.Core.leading
  have e : Nat.log2 1 = 0 := by decide
  rw [e]
  show (if _ then _ else _) = _
  rw [show (n.log2 : Int) - ((0 : Nat) : Int) = n.log2 by omega, if_pos]
  rw [Int.toNat_natCast, show (-(n.log2 : Int)).toNat = 0 by omega, Nat.pow_zero, Nat.mul_one, Nat.one_mul]
  exact Nat.log2_self_le h

