/-! PROG q2: the whole number below -/
set_option maxRecDepth 100000
theorem cmp_eqi {a b : Int} : compare a b = .eq ↔ a = b := by
  show compareOfLessAndEq a b = .eq ↔ _
  unfold compareOfLessAndEq
  by_cases h1 : a < b
  · rw [if_pos h1]; exact ⟨fun h => (by cases h), fun h => by omega⟩
  · rw [if_neg h1]
    by_cases h2 : a = b
    · rw [if_pos h2]; exact ⟨fun _ => h2, fun _ => rfl⟩
    · rw [if_neg h2]; exact ⟨fun h => (by cases h), fun h => absurd h h2⟩
theorem cmp_lti {a b : Int} : compare a b = .lt ↔ a < b := by
  show compareOfLessAndEq a b = .lt ↔ _
  unfold compareOfLessAndEq
  by_cases h1 : a < b
  · rw [if_pos h1]; exact ⟨fun _ => h1, fun _ => rfl⟩
  · rw [if_neg h1]
    by_cases h2 : a = b
    · rw [if_pos h2]; exact ⟨fun h => (by cases h), fun h => absurd h h1⟩
    · rw [if_neg h2]; exact ⟨fun h => (by cases h), fun h => absurd h h1⟩
theorem cmp_gti {a b : Int} : compare a b = .gt ↔ b < a := by
  show compareOfLessAndEq a b = .gt ↔ _
  unfold compareOfLessAndEq
  by_cases h1 : a < b
  · rw [if_pos h1]; exact ⟨fun h => (by cases h), fun h => by omega⟩
  · rw [if_neg h1]
    by_cases h2 : a = b
    · rw [if_pos h2]; exact ⟨fun h => (by cases h), fun h => by omega⟩
    · rw [if_neg h2]; exact ⟨fun _ => by omega, fun _ => rfl⟩
theorem some_inj3 {a b : Ordering} : (some a = some b) ↔ a = b := ⟨Option.some.inj, fun h => by rw [h]⟩
theorem deq_ky {x y : UInt64} (hx : dOk x = true) (hy : dOk y = true) : deq x y = decide (ky x = ky y) := by
  unfold deq
  rw [dcmp_ky hx hy]
  exact decide_eq_decide.mpr (some_inj3.trans cmp_eqi)
theorem dlt_ky {x y : UInt64} (hx : dOk x = true) (hy : dOk y = true) : dlt x y = decide (ky x < ky y) := by
  unfold dlt
  rw [dcmp_ky hx hy]
  exact decide_eq_decide.mpr (some_inj3.trans cmp_lti)
theorem dgt_ky {x y : UInt64} (hx : dOk x = true) (hy : dOk y = true) : dgt x y = decide (ky y < ky x) := by
  unfold dgt
  rw [dcmp_ky hx hy]
  exact decide_eq_decide.mpr (some_inj3.trans cmp_gti)
theorem dplain_ky {x : UInt64} (hx : dOk x = true) : ky (dplain x) = ky x := by
  unfold dplain
  have hz : dOk 0 = true := by decide
  by_cases hc : FP.dcmp x 0 = some .eq
  · rw [if_pos hc]
    rw [dcmp_ky hx hz] at hc
    exact (cmp_eqi.mp (Option.some.inj hc)).symm
  · rw [if_neg hc]
theorem kI_0 : kI 0 = 0 := by unfold kI; rw [Int.zero_mul]; rfl
theorem d1_k : ky d1 = kI 1 ∧ dOk d1 = true := by
  have e : FP.i2d 1 = d1 := by decide +kernel
  rw [← e]
  exact i2d_ky 1
theorem k9_k : ky k9e15 = kI 9000000000000000 ∧ dOk k9e15 = true := by
  have e : FP.l2d 9000000000000000 = k9e15 := by decide +kernel
  rw [← e]
  exact l2d_ky 9000000000000000
theorem kN9_k : ky kN9e15 = kI (-9000000000000000) ∧ dOk kN9e15 = true := by
  have e : FP.l2d (-9000000000000000) = kN9e15 := by decide +kernel
  rw [← e]
  exact l2d_ky (-9000000000000000)
/-- sums of whole numbers -/
theorem dsub_I {x y : UInt64} {a b : Int} (hx : ky x = kI a ∧ dOk x = true) (hy : ky y = kI b ∧ dOk y = true) (ha : a.natAbs < 9007199254740992) (hb : b.natAbs < 9007199254740992) : ky (FP.dsub x y) = kI (a - b) ∧ dOk (FP.dsub x y) = true := by
  obtain ⟨a1, a2⟩ := kI_sv ha
  obtain ⟨b1, b2⟩ := kI_sv hb
  unfold kF at a1 b1
  obtain ⟨c1, c2⟩ := dsub_ky hx.2 hy.2 (by rw [hx.1]; omega) (by rw [hx.1]; omega)
  refine ⟨?_, c2⟩
  rw [c1, hx.1, hy.1]
  unfold kAdd
  rw [if_neg (by omega), if_neg (by omega), sv_neg, a2, b2]
  unfold kI
  rw [Int.sub_mul]
  rfl
/-- what a whole part leaves -/
theorem fl_int {s t u : Int} (hu : 0 < u) (h1 : s - u < t * u) (h2 : t * u < s + u) : s / u = if s < t * u then t - 1 else t := by
  by_cases h : s < t * u
  · rw [if_pos h]
    have := (Int.ediv_emod_unique (a := s) (b := u) (r := s - (t - 1) * u) (q := t - 1) hu).mpr ⟨by rw [Int.mul_comm u]; omega, by rw [Int.sub_mul]; omega, by rw [Int.sub_mul]; omega⟩
    exact this.1
  · rw [if_neg h]
    have := (Int.ediv_emod_unique (a := s) (b := u) (r := s - t * u) (q := t) hu).mpr ⟨by rw [Int.mul_comm u]; omega, by omega, by omega⟩
    exact this.1
theorem td_b (s : Int) {u : Int} (hu : 0 < u) : s - u < s.tdiv u * u ∧ s.tdiv u * u < s + u := by
  have h1 := Int.mul_tdiv_add_tmod s u
  have h2 := Int.tmod_lt_of_pos s hu
  have h3 := Int.lt_tmod_of_pos s hu
  rw [Int.mul_comm] at h1
  omega
theorem lt_of_mulU {a b : Int} (h : a * kU < b * kU) : a < b := Int.lt_of_mul_lt_mul_right h (Int.le_of_lt kU_pos)
theorem flr_in {v : UInt64} (hv : dOk v = true) (h1 : kI (-9000000000000000) < ky v) (h2 : ky v < kI 9000000000000000) : (ky (flr v) = kI (sv (ky v) / kU) ∧ dOk (flr v) = true) ∧ (flr v).toNat ≠ 9223372036854775808 ∧ -9000000000000000 ≤ sv (ky v) / kU ∧ sv (ky v) / kU < 9000000000000000 := by
  have u0 := kU_pos
  obtain ⟨p1, p2⟩ := kI_sv (a := 9000000000000000) (by decide)
  obtain ⟨n1, n2⟩ := kI_sv (a := -9000000000000000) (by decide)
  have s1 : -9000000000000000 * kU < sv (ky v) := by rw [← n2]; exact sv_lt.mpr h1
  have s2 : sv (ky v) < 9000000000000000 * kU := by rw [← p2]; exact sv_lt.mpr h2
  have hF : kF (ky v) := by unfold kF at *; omega
  obtain ⟨t1, t2⟩ := td_b (sv (ky v)) u0
  have tlo : -9000000000000001 < kT0 (ky v) := lt_of_mulU (by unfold kT0; omega)
  have thi : kT0 (ky v) < 9000000000000001 := lt_of_mulU (by unfold kT0; omega)
  have hd := d2l_k hv hF (by omega) (by omega)
  obtain ⟨l1, l2⟩ := l2d_ky (FP.d2l v)
  rw [hd] at l1
  have hfl := fl_int u0 t1 t2
  have c1 : kI (kT0 (ky v)) > ky v ↔ sv (ky v) < (sv (ky v)).tdiv kU * kU := by
    rw [gt_iff_lt, ← sv_lt, (kI_sv (a := kT0 (ky v)) (by omega)).2]
    exact Iff.rfl
  have hlo : -9000000000000000 ≤ sv (ky v) / kU := (Int.le_ediv_iff_mul_le u0).mpr (by omega)
  have hhi : sv (ky v) / kU < 9000000000000000 := (Int.ediv_lt_iff_lt_mul u0).mpr s2
  have hcond : dgt v kN9e15 = true ∧ dlt v k9e15 = true := by
    rw [dgt_ky hv kN9_k.2, dlt_ky hv k9_k.2, kN9_k.1, k9_k.1]
    exact ⟨decide_eq_true h1, decide_eq_true h2⟩
  unfold flr
  rw [if_pos hcond, dgt_ky l2 hv, l1]
  by_cases hc : kI (kT0 (ky v)) > ky v
  · rw [if_pos (decide_eq_true hc)]
    rw [if_pos (c1.mp hc)] at hfl
    obtain ⟨e1, e2⟩ := dsub_I (a := kT0 (ky v)) (b := 1) ⟨l1, l2⟩ d1_k (by omega) (by decide)
    have o := dplain_o e2
    refine ⟨⟨?_, o.1⟩, o.2, hlo, hhi⟩
    rw [dplain_ky e2, e1, hfl]
    rfl
  · rw [if_neg (by rw [decide_eq_false hc]; decide)]
    rw [if_neg (fun h9 => hc (c1.mpr h9))] at hfl
    have o := dplain_o l2
    refine ⟨⟨?_, o.1⟩, o.2, hlo, hhi⟩
    rw [dplain_ky l2, l1, hfl]
    rfl
theorem cel_in {v : UInt64} (hv : dOk v = true) (h1 : kI (-9000000000000000) < ky v) (h2 : ky v < kI 9000000000000000) : (ky (cel v) = kI (-(-sv (ky v) / kU)) ∧ dOk (cel v) = true) ∧ (cel v).toNat ≠ 9223372036854775808 ∧ -9000000000000000 < -(-sv (ky v) / kU) ∧ -(-sv (ky v) / kU) ≤ 9000000000000000 := by
  have e := kI_neg 9000000000000000
  have e' : kI (-9000000000000000) = -kI 9000000000000000 := e
  obtain ⟨n1, n2⟩ := dneg_ky hv
  obtain ⟨⟨f1, f2⟩, f3, f4, f5⟩ := flr_in n2 (by rw [n1]; omega) (by rw [n1]; omega)
  rw [n1, sv_neg] at f1 f4 f5
  obtain ⟨m1, m2⟩ := dneg_ky f2
  have o := dplain_o m2
  unfold cel
  refine ⟨⟨?_, o.1⟩, o.2, by omega, by omega⟩
  rw [dplain_ky m2, m1, f1, kI_neg]
