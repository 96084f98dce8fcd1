/-! PROG p5: numbers without a sign -/
set_option maxRecDepth 100000
theorem bits_p {r : Nat} (h : r ≤ 9218868437227405312) : (UInt64.ofNat (false.toNat * 9223372036854775808 + r)).toNat < 9223372036854775808 := by
  rw [u64_of (by show 0 * _ + r < _; omega)]
  show 0 * _ + r < _
  omega
theorem inf_p : (UInt64.ofNat (FP.Core.encode FP.Core.b64 (.inf false))).toNat < 9223372036854775808 := by
  rw [d6_enc_inf]
  exact bits_p (Nat.le_refl _)
theorem nan_p : (UInt64.ofNat (FP.Core.encode FP.Core.b64 .nan)).toNat < 9223372036854775808 := by decide +kernel
theorem round_p (a b : Nat) (e : Int) : (UInt64.ofNat (FP.Core.encode FP.Core.b64 (FP.Core.roundRatio FP.Core.b64 false a b e))).toNat < 9223372036854775808 := by
  have g : ∀ c q, q ≤ 971 → c < 9007199254740992 → (UInt64.ofNat (FP.Core.encode FP.Core.b64 (.fin false c q))).toNat < 9223372036854775808 := by
    intro c q h1 h2
    show (UInt64.ofNat (if c < FP.Core.Fmt.tails FP.Core.b64 then FP.Core.assemble FP.Core.b64 false 0 c else FP.Core.assemble FP.Core.b64 false ((q - FP.Core.Fmt.qmin FP.Core.b64).toNat + 1) (c - FP.Core.Fmt.tails FP.Core.b64))).toNat < _
    unfold FP.Core.assemble
    rw [d6_tails, d6_exps, d6_qmin]
    split
    · have := bits_p (r := c) (by omega)
      rw [show (false.toNat * 2048 + 0) * 4503599627370496 + c = false.toNat * 9223372036854775808 + c by omega]
      exact this
    · have := bits_p (r := ((q - -1074).toNat + 1) * 4503599627370496 + (c - 4503599627370496)) (by omega)
      rw [show (false.toNat * 2048 + ((q - -1074).toNat + 1)) * 4503599627370496 + (c - 4503599627370496) = false.toNat * 9223372036854775808 + (((q - -1074).toNat + 1) * 4503599627370496 + (c - 4503599627370496)) by omega]
      exact this
  unfold FP.Core.roundRatio
  split
  · exact g 0 _ (by rw [d6_qmin]; decide) (by decide)
  · unfold FP.Core.roundAt FP.Core.settle FP.Core.bound
    rw [d6_pp, d6_qmax, d6_tails]
    generalize FP.Core.quantum FP.Core.b64 a b e = q
    generalize FP.Core.nearest (FP.Core.unitsNum a e q) (FP.Core.unitsDen b e q) = c
    split
    · split
      · exact g _ _ (by assumption) (by assumption)
      · exact inf_p
    · split
      · exact g _ _ (by assumption) (by decide)
      · exact inf_p
theorem dec_p {x : UInt64} (hx : dOk x = true) (hp : x.toNat < 9223372036854775808) : FP.Core.decode FP.Core.b64 x.toNat = .inf false ∨ ∃ c q, FP.Core.decode FP.Core.b64 x.toNat = .fin false c q := by
  rw [dOk_iff] at hx
  rw [d6_dec x.toNat x.toNat_lt]
  by_cases h1 : x.toNat % 9223372036854775808 = 9218868437227405312
  · left
    rw [if_pos h1, decide_eq_false (by omega)]
  · right
    rw [if_neg h1, if_neg (by omega), decide_eq_false (by omega)]
    exact ⟨_, _, rfl⟩
theorem ddiv_p {x y : UInt64} (hx : dOk x = true) (hy : dOk y = true) (px : x.toNat < 9223372036854775808) (py : y.toNat < 9223372036854775808) : (FP.ddiv x y).toNat < 9223372036854775808 := by
  show (UInt64.ofNat (FP.Core.encode FP.Core.b64 (FP.Core.quotient FP.Core.b64 (FP.Core.decode FP.Core.b64 x.toNat) (FP.Core.decode FP.Core.b64 y.toNat)))).toNat < _
  rcases dec_p hx px with e1 | ⟨c, q, e1⟩ <;> rcases dec_p hy py with e2 | ⟨d, r, e2⟩ <;> rw [e1, e2]
  · exact nan_p
  · exact inf_p
  · show (UInt64.ofNat (FP.Core.encode FP.Core.b64 (.fin false 0 (FP.Core.Fmt.qmin FP.Core.b64)))).toNat < _
    decide +kernel
  · show (UInt64.ofNat (FP.Core.encode FP.Core.b64 (if d = 0 then (if c = 0 then .nan else .inf (false != false)) else FP.Core.roundRatio FP.Core.b64 (false != false) c d (q - r)))).toNat < _
    split
    · split
      · exact nan_p
      · exact inf_p
    · exact round_p _ _ _
theorem dmul_p {x y : UInt64} (hx : dOk x = true) (hy : dOk y = true) (px : x.toNat < 9223372036854775808) (py : y.toNat < 9223372036854775808) : (FP.dmul x y).toNat < 9223372036854775808 := by
  show (UInt64.ofNat (FP.Core.encode FP.Core.b64 (FP.Core.round FP.Core.b64 (FP.Core.exactProduct (FP.Core.decode FP.Core.b64 x.toNat) (FP.Core.decode FP.Core.b64 y.toNat))))).toNat < _
  rcases dec_p hx px with e1 | ⟨c, q, e1⟩ <;> rcases dec_p hy py with e2 | ⟨d, r, e2⟩ <;> rw [e1, e2]
  · exact inf_p
  · show (UInt64.ofNat (FP.Core.encode FP.Core.b64 (FP.Core.round FP.Core.b64 (if d = 0 then .nan else .inf (false != false))))).toNat < _
    split
    · exact nan_p
    · exact inf_p
  · show (UInt64.ofNat (FP.Core.encode FP.Core.b64 (FP.Core.round FP.Core.b64 (if c = 0 then .nan else .inf (false != false))))).toNat < _
    split
    · exact nan_p
    · exact inf_p
  · exact round_p _ _ _
theorem dadd_p {x y : UInt64} (hx : dOk x = true) (hy : dOk y = true) (px : x.toNat < 9223372036854775808) (py : y.toNat < 9223372036854775808) : (FP.dadd x y).toNat < 9223372036854775808 := by
  show (UInt64.ofNat (FP.Core.encode FP.Core.b64 (FP.Core.round FP.Core.b64 (FP.Core.exactSum (FP.Core.decode FP.Core.b64 x.toNat) (FP.Core.decode FP.Core.b64 y.toNat))))).toNat < _
  rcases dec_p hx px with e1 | ⟨c, q, e1⟩ <;> rcases dec_p hy py with e2 | ⟨d, r, e2⟩ <;> rw [e1, e2]
  · exact inf_p
  · exact inf_p
  · exact inf_p
  · show (UInt64.ofNat (FP.Core.encode FP.Core.b64 (FP.Core.roundRatio FP.Core.b64 (FP.Core.sumSign false false (FP.Core.sumUnits false c q false d r (min q r))) _ 1 _))).toNat < _
    have e : FP.Core.sumSign false false (FP.Core.sumUnits false c q false d r (min q r)) = false := by
      unfold FP.Core.sumSign
      split
      · rfl
      · apply decide_eq_false
        show ¬ ((FP.Core.inUnits c q (min q r) : Int) + (FP.Core.inUnits d r (min q r) : Int) < 0)
        omega
    rw [e]
    exact round_p _ _ _
theorem dplain_p {x : UInt64} (hx : dOk x = true) (hp : x.toNat < 9223372036854775808) : dplain x = x := by
  unfold dplain
  split
  · rename_i h
    rw [dcmp_ky hx (by decide)] at h
    have h1 : compare (ky x) (ky 0) = .eq := Option.some.inj h
    have h2 : ky x = ky 0 := Std.LawfulEqCmp.eq_of_compare h1
    have e0 : ky 0 = 0 := by decide
    rw [e0] at h2
    unfold ky at h2
    rw [if_pos hp] at h2
    apply UInt64.toNat_inj.mp
    show 0 = x.toNat
    omega
  · rfl
theorem numS_p (t : Nat → Int32) (n : Nat) : ∀ f p v m j (wh : Bool), dOk v = true → v.toNat < 9223372036854775808 → (numS t n f (p, v, Un j, m, wh)).2.1.toNat < 9223372036854775808 ∧ ∃ k, (numS t n f (p, v, Un j, m, wh)).2.2.1 = Un k := by
  have hd : ∀ j, j < 10 → (FP.i2d (i3 j)).toNat < 9223372036854775808 := by decide +kernel
  have h10 : dOk d10 = true ∧ d10.toNat < 9223372036854775808 := by decide
  intro f
  induction f with
  | zero => intro p v m j wh h1 h2; exact ⟨h2, j, rfl⟩
  | succ f ih =>
    intro p v m j wh h1 h2
    by_cases hD : isD (bAt t n p) = true
    · obtain ⟨k1, k2⟩ := num_step hD h1
      obtain ⟨x, hx, -, ex⟩ := isD_ex hD
      have h3 := dadd_p k1 (dig_k x hx).1 (dmul_p h10.1 h1 h10.2 h2) (hd x hx)
      rw [← ex] at h3
      have eN : numS t n (f + 1) (p, v, Un j, m, wh) = numS t n f (p + 1, (if 15 < m + 1 then v else FP.dadd (FP.dmul d10 v) (FP.i2d (bAt t n p - 48))), (if wh = true then d1 else FP.dmul d10 (Un j)), m + 1, wh) := if_pos hD
      have eU : (if wh = true then d1 else FP.dmul d10 (Un j)) = Un (if wh = true then 0 else j + 1) := by cases wh <;> rfl
      rw [eN, eU]
      by_cases h15 : 15 < m + 1
      · rw [if_pos h15]; exact ih _ _ _ _ _ h1 h2
      · rw [if_neg h15]; exact ih _ _ _ _ _ k2 h3
    · rw [numS]
      show (if isD (bAt t n p) = true then _ else _ : NS).2.1.toNat < _ ∧ ∃ k, (if isD (bAt t n p) = true then _ else _ : NS).2.2.1 = Un k
      rw [if_neg hD]
      split
      · exact ih _ _ _ _ _ h1 h2
      · exact ⟨h2, j, rfl⟩
theorem Un_p (j : Nat) : (Un j).toNat < 9223372036854775808 := by
  have h10 : dOk d10 = true ∧ d10.toNat < 9223372036854775808 := by decide
  induction j with
  | zero => decide
  | succ j ih => exact dmul_p h10.1 (Un_ok j) h10.2 ih
/-- a numeral's number has no sign -/
theorem tV_p {t : Nat → Int32} {n i : Nat} (hk : tK (tkOf t n) i = 3) : dOk (tV (tkOf t n) i) = true ∧ (tV (tkOf t n) i).toNat < 9223372036854775808 := by
  have hk' : (tks t n i).2.1 = 3 := hk
  rw [tks_lx] at hk'
  obtain ⟨a1, a2, a3, a4, a5⟩ := lx_n3 _ _ _ hk'
  obtain ⟨v, b, c1, c2⟩ := lx_num _ _ _ hk'
  rw [← tks_lx] at a5 c1
  have eV : tV (tkOf t n) i = ((tks t n i).2.2.2.2.getD (0, false)).1 := rfl
  obtain ⟨j', o1, o2, o3⟩ := numS_ok t n (n - (tks t n i).1) (tks t n i).1 0 0 0 true (by decide) (fun _ => rfl) (Nat.le_refl _)
  obtain ⟨p1, k, p2⟩ := numS_p t n (n - (tks t n i).1) (tks t n i).1 0 0 0 true (by decide) (by decide)
  have eU : Un 0 = d1 := rfl
  rw [eU] at o1 o2 o3 p1 p2
  constructor
  · rw [eV, c1]; exact c2
  · rw [eV, a5]
    show (FP.ddiv _ _).toNat < _
    rw [p2]
    exact ddiv_p o3 (Un_ok k) p1 (Un_p k)
