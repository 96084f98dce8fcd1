/-! PROG 5a: sums, products, quotients by keys -/
set_option maxRecDepth 100000
theorem bits_inf (s : Bool) : ky (UInt64.ofNat (FP.Core.encode FP.Core.b64 (.inf s))) = (if s = true then -9218868437227405312 else 9218868437227405312) ∧ dOk (UInt64.ofNat (FP.Core.encode FP.Core.b64 (.inf s))) = true := by
  rw [d6_enc_inf]
  have h := ky_bits s 9218868437227405312 (Nat.le_refl _)
  refine ⟨?_, h.2⟩
  rw [h.1]
  cases s <;> rfl
def kAdd (a b : Int) : Int := if a = 9218868437227405312 ∨ b = 9218868437227405312 then 9218868437227405312 else if a = -9218868437227405312 ∨ b = -9218868437227405312 then -9218868437227405312 else rkS (sv a + sv b)
theorem kAdd_ok (a b : Int) : kO (kAdd a b) := by
  unfold kAdd
  split
  · unfold kO; omega
  · split
    · unfold kO; omega
    · exact rkS_ok _
theorem kAdd_lh {a b c d : Int} (ha : a < 9218868437227405312) (hb : b < 9218868437227405312) (hc : -9218868437227405312 < c) (hd : -9218868437227405312 < d) (h1 : a ≤ c) (h2 : b ≤ d) : kAdd a b ≤ kAdd c d := by
  have o1 := kAdd_ok a b
  have o2 := kAdd_ok c d
  unfold kO at o1 o2
  by_cases e1 : c = 9218868437227405312 ∨ d = 9218868437227405312
  · have : kAdd c d = 9218868437227405312 := by unfold kAdd; rw [if_pos e1]
    omega
  · by_cases e2 : a = -9218868437227405312 ∨ b = -9218868437227405312
    · have : kAdd a b = -9218868437227405312 := by unfold kAdd; rw [if_neg (by omega), if_pos e2]
      omega
    · unfold kAdd
      rw [if_neg (by omega), if_neg e2, if_neg e1, if_neg (by omega)]
      have g1 := (@sv_le a c).mpr h1
      have g2 := (@sv_le b d).mpr h2
      exact rkS_mono (by omega)
theorem dadd_ky {x y : UInt64} (hx : dOk x = true) (hy : dOk y = true) (h1 : ¬ (ky x = 9218868437227405312 ∧ ky y = -9218868437227405312)) (h2 : ¬ (ky x = -9218868437227405312 ∧ ky y = 9218868437227405312)) : ky (FP.dadd x y) = kAdd (ky x) (ky y) ∧ dOk (FP.dadd x y) = true := by
  show ky (UInt64.ofNat (FP.Core.encode FP.Core.b64 (FP.Core.round FP.Core.b64 (FP.Core.exactSum (FP.Core.decode FP.Core.b64 x.toNat) (FP.Core.decode FP.Core.b64 y.toNat))))) = _ ∧ dOk (UInt64.ofNat (FP.Core.encode FP.Core.b64 (FP.Core.round FP.Core.b64 (FP.Core.exactSum (FP.Core.decode FP.Core.b64 x.toNat) (FP.Core.decode FP.Core.b64 y.toNat))))) = true
  rcases d_cases hx with ⟨k1, e1⟩ | ⟨k1, e1⟩ | ⟨f1, s, c, q, e1, q1, v1, -⟩ <;> rcases d_cases hy with ⟨k2, e2⟩ | ⟨k2, e2⟩ | ⟨f2, t, d, r, e2, q2, v2, -⟩
  · rw [e1, e2, k1, k2]; exact bits_inf false
  · exact absurd ⟨k1, k2⟩ h1
  · rw [e1, e2, k1]
    have := bits_inf false
    unfold kAdd; rw [if_pos (Or.inl rfl)]; exact this
  · exact absurd ⟨k1, k2⟩ h2
  · rw [e1, e2, k1, k2]; exact bits_inf true
  · rw [e1, e2, k1]
    have := bits_inf true
    unfold kF at f2
    unfold kAdd; rw [if_neg (by omega), if_pos (Or.inl rfl)]; exact this
  · rw [e1, e2, k2]
    have := bits_inf false
    unfold kAdd; rw [if_pos (Or.inr rfl)]; exact this
  · rw [e1, e2, k2]
    have := bits_inf true
    unfold kF at f1
    unfold kAdd; rw [if_neg (by omega), if_pos (Or.inr rfl)]; exact this
  · rw [e1, e2]
    unfold kF at f1 f2
    unfold kAdd; rw [if_neg (by omega), if_neg (by omega)]
    exact sum_ky q1 q2 v1 v2
theorem signed_not (s : Bool) (c : Nat) : FP.Core.signed (!s) c = -FP.Core.signed s c := by
  unfold FP.Core.signed
  cases s
  · rfl
  · show (c : Int) = -(-(c : Int)); omega
theorem dsub_ky {x y : UInt64} (hx : dOk x = true) (hy : dOk y = true) (h1 : ¬ (ky x = 9218868437227405312 ∧ ky y = 9218868437227405312)) (h2 : ¬ (ky x = -9218868437227405312 ∧ ky y = -9218868437227405312)) : ky (FP.dsub x y) = kAdd (ky x) (-ky y) ∧ dOk (FP.dsub x y) = true := by
  show ky (UInt64.ofNat (FP.Core.encode FP.Core.b64 (FP.Core.round FP.Core.b64 (FP.Core.exactSum (FP.Core.decode FP.Core.b64 x.toNat) (FP.Core.negate (FP.Core.decode FP.Core.b64 y.toNat)))))) = _ ∧ dOk (UInt64.ofNat (FP.Core.encode FP.Core.b64 (FP.Core.round FP.Core.b64 (FP.Core.exactSum (FP.Core.decode FP.Core.b64 x.toNat) (FP.Core.negate (FP.Core.decode FP.Core.b64 y.toNat)))))) = true
  rcases d_cases hx with ⟨k1, e1⟩ | ⟨k1, e1⟩ | ⟨f1, s, c, q, e1, q1, v1, -⟩ <;> rcases d_cases hy with ⟨k2, e2⟩ | ⟨k2, e2⟩ | ⟨f2, t, d, r, e2, q2, v2, -⟩
  · exact absurd ⟨k1, k2⟩ h1
  · rw [e1, e2, k1, k2]; exact bits_inf false
  · rw [e1, e2, k1]
    have := bits_inf false
    unfold kAdd; rw [if_pos (Or.inl rfl)]; exact this
  · rw [e1, e2, k1, k2]; exact bits_inf true
  · exact absurd ⟨k1, k2⟩ h2
  · rw [e1, e2, k1]
    have := bits_inf true
    unfold kF at f2
    unfold kAdd; rw [if_neg (by omega), if_pos (Or.inl rfl)]; exact this
  · rw [e1, e2, k2]
    have := bits_inf true
    unfold kF at f1
    unfold kAdd; rw [if_neg (by omega), if_pos (Or.inr rfl)]; exact this
  · rw [e1, e2, k2]
    have := bits_inf false
    unfold kF at f1
    unfold kAdd; rw [if_pos (Or.inr (by omega))]; exact this
  · rw [e1, e2]
    unfold kF at f1 f2
    unfold kAdd; rw [if_neg (by omega), if_neg (by omega)]
    refine sum_ky (t := !t) q1 q2 v1 ?_
    rw [signed_not, v2, sv_neg]
/-- a product of which it is known that it is one -/
theorem dmul_ok {x y : UInt64} (hx : dOk x = true) (hy : dOk y = true) (h1 : kF (ky x) ∨ ky y ≠ 0) (h2 : kF (ky y) ∨ ky x ≠ 0) : dOk (FP.dmul x y) = true := by
  show dOk (UInt64.ofNat (FP.Core.encode FP.Core.b64 (FP.Core.round FP.Core.b64 (FP.Core.exactProduct (FP.Core.decode FP.Core.b64 x.toNat) (FP.Core.decode FP.Core.b64 y.toNat))))) = true
  have nz : ∀ {k : Int} {s : Bool} {c : Nat} {q : Int}, k.natAbs = (q + 1074).toNat * 4503599627370496 + c → (c < 4503599627370496 → q = -1074) → k ≠ 0 → c ≠ 0 := by
    intro k s c q ha hc h0 e
    subst e
    have := hc (by decide)
    subst this
    have : k.natAbs = 0 := ha
    omega
  rcases d_cases hx with ⟨k1, e1⟩ | ⟨k1, e1⟩ | ⟨f1, s, c, q, e1, q1, v1, c1, a1, -⟩ <;> rcases d_cases hy with ⟨k2, e2⟩ | ⟨k2, e2⟩ | ⟨f2, t, d, r, e2, q2, v2, c2, a2, -⟩ <;> rw [e1, e2]
  · exact (bits_inf _).2
  · exact (bits_inf _).2
  · have : d ≠ 0 := nz (s := t) a2 c2 (h1.elim (fun h9 => by unfold kF at h9; omega) id)
    show dOk (UInt64.ofNat (FP.Core.encode FP.Core.b64 (FP.Core.round FP.Core.b64 (if d = 0 then .nan else .inf _)))) = true
    rw [if_neg this]
    exact (bits_inf _).2
  · exact (bits_inf _).2
  · exact (bits_inf _).2
  · have : d ≠ 0 := nz (s := t) a2 c2 (h1.elim (fun h9 => by unfold kF at h9; omega) id)
    show dOk (UInt64.ofNat (FP.Core.encode FP.Core.b64 (FP.Core.round FP.Core.b64 (if d = 0 then .nan else .inf _)))) = true
    rw [if_neg this]
    exact (bits_inf _).2
  · have : c ≠ 0 := nz (s := s) a1 c1 (h2.elim (fun h9 => by unfold kF at h9; omega) id)
    show dOk (UInt64.ofNat (FP.Core.encode FP.Core.b64 (FP.Core.round FP.Core.b64 (if c = 0 then .nan else .inf _)))) = true
    rw [if_neg this]
    exact (bits_inf _).2
  · have : c ≠ 0 := nz (s := s) a1 c1 (h2.elim (fun h9 => by unfold kF at h9; omega) id)
    show dOk (UInt64.ofNat (FP.Core.encode FP.Core.b64 (FP.Core.round FP.Core.b64 (if c = 0 then .nan else .inf _)))) = true
    rw [if_neg this]
    exact (bits_inf _).2
  · show dOk (UInt64.ofNat (FP.Core.encode FP.Core.b64 (FP.Core.roundRatio FP.Core.b64 _ _ 1 _))) = true
    rw [d6_round]
    exact (ky_bits _ _ (d6_rk_le _ _)).2
/-- the square of a number that isn't below 0 -/
def kSq (k : Int) : Int := ky (FP.dmul (de k) (de k))
theorem sq_mono {a b : Int} (h0 : 0 ≤ a) (h : a ≤ b) (hb : b ≤ 9218868437227405312) : 0 ≤ kSq a ∧ kSq a ≤ kSq b ∧ dOk (FP.dmul (de a) (de a)) = true := by
  have oa : kO a := by unfold kO; omega
  have ob : kO b := by unfold kO; omega
  have inf_sq : ∀ {x : UInt64}, FP.Core.decode FP.Core.b64 x.toNat = .inf false → ky (FP.dmul x x) = 9218868437227405312 := by
    intro x e
    show ky (UInt64.ofNat (FP.Core.encode FP.Core.b64 (FP.Core.round FP.Core.b64 (FP.Core.exactProduct (FP.Core.decode FP.Core.b64 x.toNat) (FP.Core.decode FP.Core.b64 x.toNat))))) = _
    rw [e]
    exact (bits_inf false).1
  have fin_sq : ∀ {x : UInt64} {s : Bool} {c : Nat} {q : Int}, FP.Core.decode FP.Core.b64 x.toNat = .fin s c q → ky (FP.dmul x x) = (d6_rk (c * c) (q + q) : Int) := by
    intro x s c q e
    show ky (UInt64.ofNat (FP.Core.encode FP.Core.b64 (FP.Core.round FP.Core.b64 (FP.Core.exactProduct (FP.Core.decode FP.Core.b64 x.toNat) (FP.Core.decode FP.Core.b64 x.toNat))))) = _
    rw [e]
    show ky (UInt64.ofNat (FP.Core.encode FP.Core.b64 (FP.Core.roundRatio FP.Core.b64 (s != s) (c * c) 1 (q + q)))) = _
    rw [d6_round, show (s != s) = false by cases s <;> rfl]
    exact (ky_bits false _ (d6_rk_le _ _)).1
  have ka := ky_de oa
  have kb := ky_de ob
  have h9 : ∀ n e, d6_rk n e ≤ 9218868437227405312 := d6_rk_le
  have hd : dOk (FP.dmul (de a) (de a)) = true := by
    refine dmul_ok (de_ok oa) (de_ok oa) ?_ ?_ <;> rw [ka] <;> unfold kF <;> omega
  refine ⟨?_, ?_, hd⟩
  · unfold kSq
    rcases d_cases (de_ok oa) with ⟨k1, e1⟩ | ⟨k1, e1⟩ | ⟨f1, s, c, q, e1, q1, v1, -⟩
    · rw [inf_sq e1]; decide
    · rw [ka] at k1; omega
    · rw [fin_sq e1]; omega
  · unfold kSq
    rcases d_cases (de_ok ob) with ⟨k2, e2⟩ | ⟨k2, e2⟩ | ⟨f2, t, d, r, e2, q2, v2, -⟩
    · rw [inf_sq e2]
      have := ky_ok hd
      exact this.2
    · rw [kb] at k2; omega
    · rcases d_cases (de_ok oa) with ⟨k1, e1⟩ | ⟨k1, e1⟩ | ⟨f1, s, c, q, e1, q1, v1, -⟩
      · rw [ka] at k1; unfold kF at f2; rw [kb] at f2; omega
      · rw [ka] at k1; omega
      · rw [fin_sq e1, fin_sq e2]
        have hv := (@sv_le a b).mpr h
        have s0 := (@sv_le 0 a).mpr h0
        rw [sv_0] at s0
        rw [ka] at v1
        rw [kb] at v2
        have n1 : ((c * 2 ^ (q + 1074).toNat : Nat) : Int) = sv a := by
          unfold FP.Core.signed at v1
          cases s
          · exact v1
          · have h9 : -((c * 2 ^ (q + 1074).toNat : Nat) : Int) = sv a := v1
            omega
        have n2 : ((d * 2 ^ (r + 1074).toNat : Nat) : Int) = sv b := by
          unfold FP.Core.signed at v2
          cases t
          · exact v2
          · have h9 : -((d * 2 ^ (r + 1074).toNat : Nat) : Int) = sv b := v2
            omega
        have hle : c * 2 ^ (q + 1074).toNat ≤ d * 2 ^ (r + 1074).toNat := by omega
        refine Int.ofNat_le.mpr (d6_mono (z := -2148) (by omega) (by omega) ?_)
        have e3 : (q + q - -2148).toNat = (q + 1074).toNat + (q + 1074).toNat := by omega
        have e4 : (r + r - -2148).toNat = (r + 1074).toNat + (r + 1074).toNat := by omega
        rw [e3, e4, Nat.pow_add, Nat.pow_add]
        have := Nat.mul_le_mul hle hle
        calc c * c * (2 ^ (q + 1074).toNat * 2 ^ (q + 1074).toNat) = c * 2 ^ (q + 1074).toNat * (c * 2 ^ (q + 1074).toNat) := Nat.mul_mul_mul_comm _ _ _ _
          _ ≤ d * 2 ^ (r + 1074).toNat * (d * 2 ^ (r + 1074).toNat) := this
          _ = d * d * (2 ^ (r + 1074).toNat * 2 ^ (r + 1074).toNat) := (Nat.mul_mul_mul_comm _ _ _ _).symm
/-- what is rounded, of any ratio, is a number -/
theorem round_ok (s : Bool) (a b : Nat) (e : Int) : dOk (UInt64.ofNat (FP.Core.encode FP.Core.b64 (FP.Core.roundRatio FP.Core.b64 s a b e))) = true := by
  have g : ∀ c q, q ≤ 971 → c < 9007199254740992 → dOk (UInt64.ofNat (FP.Core.encode FP.Core.b64 (.fin s c q))) = true := by
    intro c q h1 h2
    show dOk (UInt64.ofNat (if c < FP.Core.Fmt.tails FP.Core.b64 then FP.Core.assemble FP.Core.b64 s 0 c else FP.Core.assemble FP.Core.b64 s ((q - FP.Core.Fmt.qmin FP.Core.b64).toNat + 1) (c - FP.Core.Fmt.tails FP.Core.b64))) = true
    unfold FP.Core.assemble
    rw [d6_tails, d6_exps, d6_qmin]
    split
    · have := (ky_bits s c (by omega)).2
      rw [show (s.toNat * 2048 + 0) * 4503599627370496 + c = s.toNat * 9223372036854775808 + c by omega]
      exact this
    · have := (ky_bits s (((q - -1074).toNat + 1) * 4503599627370496 + (c - 4503599627370496)) (by omega)).2
      rw [show (s.toNat * 2048 + ((q - -1074).toNat + 1)) * 4503599627370496 + (c - 4503599627370496) = s.toNat * 9223372036854775808 + (((q - -1074).toNat + 1) * 4503599627370496 + (c - 4503599627370496)) by omega]
      exact this
  unfold FP.Core.roundRatio
  split
  · exact g 0 _ (by rw [d6_qmin]; decide) (by decide)
  · unfold FP.Core.roundAt FP.Core.settle FP.Core.bound
    rw [d6_pp, d6_qmax, d6_tails]
    generalize FP.Core.quantum FP.Core.b64 a b e = q
    generalize FP.Core.nearest (FP.Core.unitsNum a e q) (FP.Core.unitsDen b e q) = c
    split
    · split
      · exact g _ _ (by assumption) (by assumption)
      · exact (bits_inf s).2
    · split
      · exact g _ _ (by assumption) (by decide)
      · exact (bits_inf s).2
theorem ddiv_ok {x y : UInt64} (hx : dOk x = true) (hy : dOk y = true) (h1 : ky y ≠ 0) (h2 : kF (ky x) ∨ kF (ky y)) : dOk (FP.ddiv x y) = true := by
  show dOk (UInt64.ofNat (FP.Core.encode FP.Core.b64 (FP.Core.quotient FP.Core.b64 (FP.Core.decode FP.Core.b64 x.toNat) (FP.Core.decode FP.Core.b64 y.toNat)))) = true
  rcases d_cases hx with ⟨k1, e1⟩ | ⟨k1, e1⟩ | ⟨f1, s, c, q, e1, q1, v1, c1, a1, -⟩ <;> rcases d_cases hy with ⟨k2, e2⟩ | ⟨k2, e2⟩ | ⟨f2, t, d, r, e2, q2, v2, c2, a2, -⟩ <;> rw [e1, e2]
  · exfalso; unfold kF at h2; omega
  · exfalso; unfold kF at h2; omega
  · exact (bits_inf _).2
  · exfalso; unfold kF at h2; omega
  · exfalso; unfold kF at h2; omega
  · exact (bits_inf _).2
  · have h := (ky_bits (s != false) 0 (by decide)).2
    show dOk (UInt64.ofNat (FP.Core.encode FP.Core.b64 (.fin (s != false) 0 (FP.Core.Fmt.qmin FP.Core.b64)))) = true
    rw [d6_enc_fin _ _ _ (by rw [d6_qmin]; omega) (fun _ => d6_qmin), d6_qmin]
    exact h
  · have h := (ky_bits (s != true) 0 (by decide)).2
    show dOk (UInt64.ofNat (FP.Core.encode FP.Core.b64 (.fin (s != true) 0 (FP.Core.Fmt.qmin FP.Core.b64)))) = true
    rw [d6_enc_fin _ _ _ (by rw [d6_qmin]; omega) (fun _ => d6_qmin), d6_qmin]
    exact h
  · have : d ≠ 0 := by
      intro e
      subst e
      have := c2 (by decide)
      subst this
      have : (ky y).natAbs = 0 := a2
      omega
    show dOk (UInt64.ofNat (FP.Core.encode FP.Core.b64 (if d = 0 then _ else FP.Core.roundRatio FP.Core.b64 (s != t) c d (q - r)))) = true
    rw [if_neg this]
    exact round_ok _ _ _ _
