/-! PROG 4a: doubles: rounding keeps the order (1) -/
set_option maxRecDepth 100000

/-- what is encoded -/
theorem d6_enc_inf (s : Bool) : FP.Core.encode FP.Core.b64 (.inf s) = s.toNat * 9223372036854775808 + 9218868437227405312 := by
  cases s <;> decide
theorem d6_enc_fin (s : Bool) (c : Nat) (q : Int) (hq : -1074 ≤ q) (h : c < 4503599627370496 → q = -1074) : FP.Core.encode FP.Core.b64 (.fin s c q) = s.toNat * 9223372036854775808 + ((q + 1074).toNat * 4503599627370496 + c) := by
  show (if c < FP.Core.Fmt.tails FP.Core.b64 then FP.Core.assemble FP.Core.b64 s 0 c else FP.Core.assemble FP.Core.b64 s ((q - FP.Core.Fmt.qmin FP.Core.b64).toNat + 1) (c - FP.Core.Fmt.tails FP.Core.b64)) = _
  unfold FP.Core.assemble
  rw [d6_tails, d6_exps, d6_qmin]
  split
  · rename_i hc
    have := h hc
    subst this
    cases s <;> simp only [Bool.toNat_false, Bool.toNat_true] <;> omega
  · cases s <;> simp only [Bool.toNat_false, Bool.toNat_true] <;> omega
theorem d6_round (s : Bool) (num : Nat) (e : Int) : FP.Core.encode FP.Core.b64 (FP.Core.roundRatio FP.Core.b64 s num 1 e) = s.toNat * 9223372036854775808 + d6_rk num e := by
  unfold FP.Core.roundRatio d6_rk
  by_cases h : num = 0
  · rw [if_pos h, if_pos h, d6_enc_fin _ _ _ (by rw [d6_qmin]; omega) (fun _ => d6_qmin), d6_qmin]
    cases s <;> rfl
  rw [if_neg h, if_neg h]
  have h1 := d6_nhi h (e := e)
  have h2 := d6_nlo h (e := e)
  have h3 := d6_quant num e h
  generalize FP.Core.quantum FP.Core.b64 num 1 e = q at *
  unfold FP.Core.roundAt FP.Core.settle
  generalize FP.Core.nearest (FP.Core.unitsNum num e q) (FP.Core.unitsDen 1 e q) = c at *
  rw [d6_pp]
  have hq : -1074 ≤ q := by omega
  have h4 : c < 4503599627370496 → q = -1074 := fun hc => by
    by_cases h5 : -1074 < q
    · have := h2 h5; omega
    · omega
  split
  · unfold FP.Core.bound
    rw [d6_qmax]
    split
    · rw [d6_enc_fin s c q hq h4]
      congr 1
      omega
    · rw [d6_enc_inf]
      congr 1
      omega
  · unfold FP.Core.bound
    rw [d6_qmax, d6_tails]
    split
    · rw [d6_enc_fin s 4503599627370496 (q + 1) (by omega) (fun h => absurd h (by omega))]
      congr 1
      omega
    · rw [d6_enc_inf]
      congr 1
      omega

