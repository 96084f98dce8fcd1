/-! PROG r0: a value is given to a variable -/
set_option maxRecDepth 100000
theorem he_20 {lo hi : UInt64} (h1 : dOk lo = true) (h2 : dOk hi = true) (a : ¬ (dlt lo kN20 = true ∨ dgt lo k20 = true ∨ dlt hi kN20 = true ∨ dgt hi k20 = true)) (b1 : ¬ FP.d2i (flr hi) < FP.d2i (cel lo)) (b2 : ¬ 64 ≤ (FP.d2i (flr hi)).toInt - (FP.d2i (cel lo)).toInt) : FP.d2i (flr hi) - FP.d2i (cel lo) + 1 = i3 ((FP.d2i (flr hi)).toInt - (FP.d2i (cel lo)).toInt + 1).toNat ∧ ((FP.d2i (flr hi)).toInt - (FP.d2i (cel lo)).toInt + 1).toNat ≤ 64 := by
  simp only [not_or] at a
  obtain ⟨a1, a2, a3, a4⟩ := a
  obtain ⟨-, C, -, c1, -, c2, -, c3⟩ := in_20 h1 a1 a2
  obtain ⟨F, -, f1, -, f2, -, f3, -⟩ := in_20 h2 a3 a4
  rw [Int32.lt_iff_toInt_lt, f3, c3] at b1
  rw [f3, c3] at b2
  rw [f3, c3]
  refine ⟨?_, by omega⟩
  apply Int32.toInt_inj.mp
  have e1 : (1 : Int32).toInt = 1 := rfl
  have e2 : (F - C).bmod (2 ^ 32) = F - C := Int.bmod_eq_of_le (by omega) (by omega)
  rw [i3_toInt (by omega), Int32.toInt_add, Int32.toInt_sub, f3, c3, e1, e2, Int.bmod_eq_of_le (by omega) (by omega)]
  omega
