/-! PROG 5: numbers as their keys: the order of doubles is that of whole numbers -/
set_option maxRecDepth 100000
/-- the key of a double that is a number -/
def ky (x : UInt64) : Int := if x.toNat < 9223372036854775808 then (x.toNat : Int) else 9223372036854775808 - (x.toNat : Int)
/-- the double of a key; of 0 it is + 0 -/
def de (k : Int) : UInt64 := if k < 0 then UInt64.ofNat (9223372036854775808 + k.natAbs) else UInt64.ofNat k.natAbs
/-- keys -/
def kO (k : Int) : Prop := -9218868437227405312 ≤ k ∧ k ≤ 9218868437227405312
/-- keys of numbers that are finite -/
def kF (k : Int) : Prop := -9218868437227405312 < k ∧ k < 9218868437227405312
theorem dOk_iff (x : UInt64) : dOk x = true ↔ x.toNat % 9223372036854775808 ≤ 9218868437227405312 := by
  unfold dOk
  rw [decide_eq_true_eq, UInt64.le_iff_toNat_le, UInt64.toNat_and]
  show x.toNat &&& (2 ^ 63 - 1) ≤ _ ↔ _
  rw [Nat.and_two_pow_sub_one_eq_mod]
  exact Iff.rfl
theorem u64_of {n : Nat} (h : n < 18446744073709551616) : (UInt64.ofNat n).toNat = n := by
  rw [UInt64.toNat_ofNat']
  exact Nat.mod_eq_of_lt h
theorem ky_bits (s : Bool) (r : Nat) (h : r ≤ 9218868437227405312) : ky (UInt64.ofNat (s.toNat * 9223372036854775808 + r)) = (if s = true then -(r : Int) else (r : Int)) ∧ dOk (UInt64.ofNat (s.toNat * 9223372036854775808 + r)) = true := by
  cases s
  · have e : (UInt64.ofNat (false.toNat * 9223372036854775808 + r)).toNat = r := by rw [u64_of (by show 0 * _ + r < _; omega)]; show 0 * _ + r = r; omega
    refine ⟨?_, (dOk_iff _).mpr (by rw [e]; omega)⟩
    unfold ky
    rw [e, if_pos (by omega), if_neg (by decide)]
  · have e : (UInt64.ofNat (true.toNat * 9223372036854775808 + r)).toNat = 9223372036854775808 + r := by rw [u64_of (by show 1 * _ + r < _; omega)]; show 1 * _ + r = _; omega
    refine ⟨?_, (dOk_iff _).mpr (by rw [e]; omega)⟩
    unfold ky
    rw [e, if_neg (by omega), if_pos rfl]
    omega
theorem ky_de {k : Int} (h : kO k) : ky (de k) = k := by
  unfold kO at h
  unfold de
  split
  · have := (ky_bits true k.natAbs (by omega)).1
    rw [show true.toNat * 9223372036854775808 + k.natAbs = 9223372036854775808 + k.natAbs by show 1 * _ + _ = _; omega] at this
    rw [this, if_pos rfl]
    omega
  · have := (ky_bits false k.natAbs (by omega)).1
    rw [show false.toNat * 9223372036854775808 + k.natAbs = k.natAbs by show 0 * _ + _ = _; omega] at this
    rw [this, if_neg (by decide)]
    omega
theorem de_ok {k : Int} (h : kO k) : dOk (de k) = true := by
  unfold kO at h
  unfold de
  split
  · have := (ky_bits true k.natAbs (by omega)).2
    rw [show true.toNat * 9223372036854775808 + k.natAbs = 9223372036854775808 + k.natAbs by show 1 * _ + _ = _; omega] at this
    exact this
  · have := (ky_bits false k.natAbs (by omega)).2
    rw [show false.toNat * 9223372036854775808 + k.natAbs = k.natAbs by show 0 * _ + _ = _; omega] at this
    exact this
theorem ky_ok {x : UInt64} (h : dOk x = true) : kO (ky x) := by
  rw [dOk_iff] at h
  unfold kO ky
  have := x.toNat_lt
  split <;> omega
/-- a double that isn't - 0 is that of its key -/
theorem de_ky {x : UInt64} (h : dOk x = true) (h0 : x.toNat ≠ 9223372036854775808) : de (ky x) = x := by
  rw [dOk_iff] at h
  have hx := x.toNat_lt
  apply UInt64.toNat_inj.mp
  unfold ky de
  split
  · rw [if_neg (by omega), u64_of (by omega)]
    omega
  · rw [if_pos (by omega), u64_of (by omega)]
    omega
theorem de_inj {a b : Int} (ha : kO a) (hb : kO b) (h : de a = de b) : a = b := by rw [← ky_de ha, ← ky_de hb, h]
/-- the value in units of the least one -/
def sv (k : Int) : Int := if k < 0 then -(d6_vl k.natAbs : Int) else (d6_vl k.natAbs : Int)
theorem sv_lt {a b : Int} : sv a < sv b ↔ a < b := by
  have p : ∀ m n : Nat, m < n → d6_vl m < d6_vl n := fun m n h => d6_vl_mono h
  have z := d6_vl_0
  have key : ∀ a b : Int, a < b → sv a < sv b := by
    intro a b h
    unfold sv
    split
    · split
      · have := p b.natAbs a.natAbs (by omega); omega
      · have := p 0 a.natAbs (by omega); omega
    · rw [if_neg (by omega)]
      have := p a.natAbs b.natAbs (by omega); omega
  constructor
  · intro h
    rcases Int.lt_trichotomy a b with h1 | h1 | h1
    · exact h1
    · subst h1; omega
    · have := key b a h1; omega
  · exact key a b
theorem sv_le {a b : Int} : sv a ≤ sv b ↔ a ≤ b := by
  have := @sv_lt b a
  omega
theorem sv_eq {a b : Int} : sv a = sv b ↔ a = b := by
  have := @sv_le b a
  have := @sv_le a b
  omega
theorem sv_0 : sv 0 = 0 := by
  unfold sv
  rw [if_neg (by decide)]
  exact congrArg Int.ofNat d6_vl_0
theorem sv_neg (a : Int) : sv (-a) = -sv a := by
  have z := d6_vl_0
  unfold sv
  rw [Int.natAbs_neg]
  by_cases h : a < 0
  · rw [if_neg (by omega), if_pos h]; omega
  · rw [if_neg h]
    by_cases h0 : a = 0
    · subst h0
      rw [if_neg (by decide)]
      show (d6_vl 0 : Int) = -(d6_vl 0 : Int)
      rw [z]; rfl
    · rw [if_pos (by omega)]
/-- a value that is rounded, as its key -/
def rkS (v : Int) : Int := if v < 0 then -(d6_rk v.natAbs (-1074) : Int) else (d6_rk v.natAbs (-1074) : Int)
theorem d6_rk_mono {a b : Nat} (e : Int) (h : a ≤ b) : d6_rk a e ≤ d6_rk b e := d6_mono (z := e) (Int.le_refl _) (Int.le_refl _) (Nat.mul_le_mul_right _ h)
theorem rkS_mono {a b : Int} (h : a ≤ b) : rkS a ≤ rkS b := by
  unfold rkS
  split
  · split
    · have := d6_rk_mono (-1074) (show b.natAbs ≤ a.natAbs by omega); omega
    · omega
  · rw [if_neg (by omega)]
    have := d6_rk_mono (-1074) (show a.natAbs ≤ b.natAbs by omega); omega
theorem rkS_ok (v : Int) : kO (rkS v) := by
  have := d6_rk_le v.natAbs (-1074)
  unfold kO rkS
  split <;> omega
theorem rkS_neg (v : Int) : rkS (-v) = -rkS v := by
  have z : d6_rk 0 (-1074) = 0 := rfl
  unfold rkS
  rw [Int.natAbs_neg]
  by_cases h : v < 0
  · rw [if_neg (by omega), if_pos h]; omega
  · rw [if_neg h]
    by_cases h0 : v = 0
    · subst h0
      rw [if_neg (by decide)]
      show (d6_rk 0 (-1074) : Int) = -(d6_rk 0 (-1074) : Int)
      rw [z]; rfl
    · rw [if_pos (by omega)]
theorem d6_rk_up (c : Nat) (e : Int) (h : -1074 ≤ e) : d6_rk c e = d6_rk (c * 2 ^ (e + 1074).toNat) (-1074) := by
  apply Nat.le_antisymm
  · refine d6_mono (z := -1074) h (Int.le_refl _) ?_
    rw [Int.sub_self, Int.toNat_zero, Nat.pow_zero, Nat.mul_one]
    exact Nat.le_of_eq (by congr 2)
  · refine d6_mono (z := -1074) (Int.le_refl _) h ?_
    rw [Int.sub_self, Int.toNat_zero, Nat.pow_zero, Nat.mul_one]
    exact Nat.le_of_eq (by congr 2)
/-- what a number stands for is kept -/
theorem rkS_sv {k : Int} (h : kF k) : rkS (sv k) = k := by
  unfold kF at h
  have g : ∀ m : Nat, m < 9218868437227405312 → d6_rk (d6_vl m) (-1074) = m := fun m hm => by
    have h9 := d6_rk_vl m hm
    rw [d6_rk_up _ _ (by omega)] at h9
    rw [show (-1074 + (d6_j m : Int) + 1074).toNat = d6_j m by omega] at h9
    exact h9
  unfold rkS sv
  by_cases hk : k < 0
  · rw [if_pos hk]
    have h1 := g k.natAbs (by omega)
    have h2 := d6_vl_mono (show 0 < k.natAbs by omega)
    rw [if_pos (by omega), Int.natAbs_neg, Int.natAbs_natCast, h1]
    omega
  · rw [if_neg hk]
    have h1 := g k.natAbs (by omega)
    rw [if_neg (by omega), Int.natAbs_natCast, h1]
    omega
theorem signed_scale (s : Bool) (c k : Nat) : FP.Core.signed s c * (2 ^ k : Nat) = FP.Core.signed s (c * 2 ^ k) := by
  unfold FP.Core.signed
  cases s
  · show (c : Int) * _ = ((c * 2 ^ k : Nat) : Int)
    rw [Int.natCast_mul]
  · show -(c : Int) * _ = -((c * 2 ^ k : Nat) : Int)
    rw [Int.natCast_mul, Int.neg_mul]
/-- the sorts of doubles: two infinities, and numbers -/
theorem d_cases {x : UInt64} (h : dOk x = true) : (ky x = 9218868437227405312 ∧ FP.Core.decode FP.Core.b64 x.toNat = .inf false) ∨ (ky x = -9218868437227405312 ∧ FP.Core.decode FP.Core.b64 x.toNat = .inf true) ∨ (kF (ky x) ∧ ∃ (s : Bool) (c : Nat) (q : Int), FP.Core.decode FP.Core.b64 x.toNat = .fin s c q ∧ -1074 ≤ q ∧ FP.Core.signed s (c * 2 ^ (q + 1074).toNat) = sv (ky x) ∧ (c < 4503599627370496 → q = -1074) ∧ (ky x).natAbs = (q + 1074).toNat * 4503599627370496 + c ∧ (ky x ≠ 0 → s = decide (ky x < 0))) := by
  rw [dOk_iff] at h
  have hx := x.toNat_lt
  have hd := d6_dec x.toNat hx
  unfold ky
  by_cases h1 : x.toNat % 9223372036854775808 = 9218868437227405312
  · rw [if_pos h1] at hd
    by_cases h2 : x.toNat < 9223372036854775808
    · left
      rw [if_pos h2]
      refine ⟨by omega, by rw [hd, decide_eq_false (by omega)]⟩
    · right; left
      rw [if_neg h2]
      refine ⟨by omega, by rw [hd, decide_eq_true (by omega)]⟩
  · rw [if_neg h1, if_neg (by omega)] at hd
    right; right
    have hv : d6_vl (x.toNat % 9223372036854775808) = d6_c (x.toNat % 9223372036854775808) * 2 ^ d6_j (x.toNat % 9223372036854775808) := rfl
    have hn : x.toNat % 9223372036854775808 = d6_j (x.toNat % 9223372036854775808) * 4503599627370496 + d6_c (x.toNat % 9223372036854775808) := by
      unfold d6_c d6_j
      split <;> omega
    have hs : d6_c (x.toNat % 9223372036854775808) < 4503599627370496 → (d6_j (x.toNat % 9223372036854775808) : Int) = 0 := by
      unfold d6_c d6_j
      split <;> intro h9 <;> omega
    have z := d6_vl_0
    refine ⟨by unfold kF; split <;> omega, _, _, _, hd, by omega, ?_, fun h9 => by rw [hs h9]; rfl, ?_, ?_⟩
    · rw [show (-1074 + (d6_j (x.toNat % 9223372036854775808) : Int) + 1074).toNat = d6_j (x.toNat % 9223372036854775808) by omega, ← hv]
      unfold FP.Core.signed sv
      by_cases h2 : x.toNat < 9223372036854775808
      · rw [decide_eq_false (by omega), if_neg (by decide), if_pos h2, if_neg (by omega)]
        congr 2
        omega
      · rw [decide_eq_true (by omega), if_pos rfl, if_neg h2]
        by_cases h3 : x.toNat = 9223372036854775808
        · rw [if_neg (by omega), h3]
          show -((d6_vl (9223372036854775808 % 9223372036854775808) : Nat) : Int) = ((d6_vl _ : Nat) : Int)
          rw [show 9223372036854775808 % 9223372036854775808 = 0 from rfl, show ((9223372036854775808 : Int) - ((9223372036854775808 : Nat) : Int)).natAbs = 0 from rfl, z]
          rfl
        · rw [if_pos (by omega)]
          congr 2
          congr 1
          omega
    · rw [show (-1074 + (d6_j (x.toNat % 9223372036854775808) : Int) + 1074).toNat = d6_j (x.toNat % 9223372036854775808) by omega, ← hn]
      split <;> omega
    · intro h9
      by_cases h2 : x.toNat < 9223372036854775808
      · rw [if_pos h2, decide_eq_false (by omega), decide_eq_false (by omega)]
      · rw [if_neg h2] at h9 ⊢
        rw [decide_eq_true (by omega), decide_eq_true (by omega)]
theorem cmp_congr {a b c d : Int} (h1 : a < b ↔ c < d) (h2 : a = b ↔ c = d) : compare a b = compare c d := by
  show compareOfLessAndEq a b = compareOfLessAndEq c d
  unfold compareOfLessAndEq
  by_cases h : a < b
  · rw [if_pos h, if_pos (h1.mp h)]
  · rw [if_neg h, if_neg (fun h9 => h (h1.mpr h9))]
    by_cases h3 : a = b
    · rw [if_pos h3, if_pos (h2.mp h3)]
    · rw [if_neg h3, if_neg (fun h9 => h3 (h2.mpr h9))]
theorem sc_units {s : Bool} {c : Nat} {q e : Int} (h1 : -1074 ≤ e) (h2 : e ≤ q) : FP.Core.signed s (FP.Core.inUnits c q e) * (2 ^ (e + 1074).toNat : Nat) = FP.Core.signed s (c * 2 ^ (q + 1074).toNat) := by
  rw [signed_scale]
  unfold FP.Core.inUnits
  rw [Nat.mul_assoc, ← Nat.pow_add]
  congr 3
  omega
theorem dcmp_ky {x y : UInt64} (hx : dOk x = true) (hy : dOk y = true) : FP.dcmp x y = some (compare (ky x) (ky y)) := by
  show FP.Core.order (FP.Core.decode FP.Core.b64 x.toNat) (FP.Core.decode FP.Core.b64 y.toNat) = _
  have one : ∀ s : Bool, FP.Core.signed s 1 = if s = true then -1 else 1 := fun s => by cases s <;> rfl
  rcases d_cases hx with ⟨k1, e1⟩ | ⟨k1, e1⟩ | ⟨f1, s, c, q, e1, q1, v1, -⟩ <;> rcases d_cases hy with ⟨k2, e2⟩ | ⟨k2, e2⟩ | ⟨f2, t, d, r, e2, q2, v2, -⟩ <;> rw [e1, e2] <;> show some _ = some _ <;> congr 1
  · rw [k1, k2]; rfl
  · rw [k1, k2]; rfl
  · rw [k1]; unfold kF at f2; exact cmp_congr (by rw [one, if_neg (by decide)]; omega) (by rw [one, if_neg (by decide)]; omega)
  · rw [k1, k2]; rfl
  · rw [k1, k2]; rfl
  · rw [k1]; unfold kF at f2; exact cmp_congr (by rw [one, if_pos rfl]; omega) (by rw [one, if_pos rfl]; omega)
  · rw [k2]; unfold kF at f1; exact cmp_congr (by rw [one, if_neg (by decide)]; omega) (by rw [one, if_neg (by decide)]; omega)
  · rw [k2]; unfold kF at f1; exact cmp_congr (by rw [one, if_pos rfl]; omega) (by rw [one, if_pos rfl]; omega)
  · have g1 := sc_units (s := s) (c := c) (q := q) (e := min q r) (by omega) (Int.min_le_left _ _)
    have g2 := sc_units (s := t) (c := d) (q := r) (e := min q r) (by omega) (Int.min_le_right _ _)
    rw [v1] at g1
    rw [v2] at g2
    have hp : (0 : Int) < ((2 ^ (min q r + 1074).toNat : Nat) : Int) := Int.natCast_pos.mpr (Nat.two_pow_pos _)
    generalize FP.Core.signed s (FP.Core.inUnits c q (min q r)) = a at *
    generalize FP.Core.signed t (FP.Core.inUnits d r (min q r)) = b at *
    generalize ((2 ^ (min q r + 1074).toNat : Nat) : Int) = k at *
    refine cmp_congr ?_ ?_
    · rw [← @sv_lt (ky x) (ky y), ← g1, ← g2]
      exact ⟨fun h => Int.mul_lt_mul_of_pos_right h hp, fun h => Int.lt_of_mul_lt_mul_right h (Int.le_of_lt hp)⟩
    · rw [← @sv_eq (ky x) (ky y), ← g1, ← g2]
      exact ⟨fun h => by rw [h], fun h => Int.eq_of_mul_eq_mul_right (by omega) h⟩
/-- a sum of numbers -/
theorem sum_ky {s t : Bool} {c d : Nat} {q r : Int} {a b : Int} (q1 : -1074 ≤ q) (q2 : -1074 ≤ r) (v1 : FP.Core.signed s (c * 2 ^ (q + 1074).toNat) = a) (v2 : FP.Core.signed t (d * 2 ^ (r + 1074).toNat) = b) : ky (UInt64.ofNat (FP.Core.encode FP.Core.b64 (FP.Core.round FP.Core.b64 (FP.Core.exactSum (.fin s c q) (.fin t d r))))) = rkS (a + b) ∧ dOk (UInt64.ofNat (FP.Core.encode FP.Core.b64 (FP.Core.round FP.Core.b64 (FP.Core.exactSum (.fin s c q) (.fin t d r))))) = true := by
  have g1 := sc_units (s := s) (c := c) (q := q) (e := min q r) (by omega) (Int.min_le_left _ _)
  have g2 := sc_units (s := t) (c := d) (q := r) (e := min q r) (by omega) (Int.min_le_right _ _)
  rw [v1] at g1
  rw [v2] at g2
  show ky (UInt64.ofNat (FP.Core.encode FP.Core.b64 (FP.Core.roundRatio FP.Core.b64 _ _ 1 (min q r)))) = _ ∧ dOk (UInt64.ofNat (FP.Core.encode FP.Core.b64 (FP.Core.roundRatio FP.Core.b64 _ _ 1 (min q r)))) = true
  rw [d6_round, d6_rk_up _ _ (by omega)]
  have hu : FP.Core.sumUnits s c q t d r (min q r) * ((2 ^ (min q r + 1074).toNat : Nat) : Int) = a + b := by
    unfold FP.Core.sumUnits
    rw [Int.add_mul, g1, g2]
  have hp : (0 : Int) < ((2 ^ (min q r + 1074).toNat : Nat) : Int) := Int.natCast_pos.mpr (Nat.two_pow_pos _)
  have hn : (FP.Core.sumUnits s c q t d r (min q r)).natAbs * 2 ^ (min q r + 1074).toNat = (a + b).natAbs := by
    rw [← hu, Int.natAbs_mul, Int.natAbs_natCast]
  rw [hn]
  obtain ⟨h1, h2⟩ := ky_bits (FP.Core.sumSign s t (FP.Core.sumUnits s c q t d r (min q r))) (d6_rk (a + b).natAbs (-1074)) (d6_rk_le _ _)
  refine ⟨?_, h2⟩
  rw [h1]
  generalize FP.Core.sumUnits s c q t d r (min q r) = u at *
  generalize ((2 ^ (min q r + 1074).toNat : Nat) : Int) = k at *
  unfold rkS FP.Core.sumSign
  by_cases h0 : u = 0
  · subst h0
    rw [Int.zero_mul] at hu
    rw [← hu]
    show (if _ then -((d6_rk 0 (-1074) : Nat) : Int) else ((d6_rk 0 (-1074) : Nat) : Int)) = _
    rw [if_pos (rfl : (0 : Int) = 0)]
    cases (s && t) <;> rfl
  · rw [if_neg h0]
    by_cases hneg : u < 0
    · have : a + b < 0 := by rw [← hu]; exact Int.mul_neg_of_neg_of_pos hneg hp
      rw [decide_eq_true hneg, if_pos rfl, if_pos this]
    · have : 0 < a + b := by rw [← hu]; exact Int.mul_pos (by omega) hp
      rw [decide_eq_false hneg, if_neg (by decide), if_neg (by omega)]
theorem xor63 {r : Nat} (h : r < 2 ^ 63) : r ^^^ 2 ^ 63 = 2 ^ 63 + r := by
  apply Nat.eq_of_testBit_eq
  intro i
  rw [Nat.testBit_xor, Nat.testBit_two_pow]
  rcases Nat.lt_trichotomy i 63 with h1 | h1 | h1
  · rw [Nat.testBit_two_pow_add_gt h1, decide_eq_false (by omega), Bool.xor_false]
  · subst h1
    rw [Nat.testBit_two_pow_add_eq, decide_eq_true rfl, Bool.xor_true]
  · have e : 2 ^ 64 ≤ 2 ^ i := Nat.pow_le_pow_right (by decide) h1
    have g1 : r.testBit i = false := Nat.testBit_lt_two_pow (by omega)
    have g2 : (2 ^ 63 + r).testBit i = false := Nat.testBit_lt_two_pow (by omega)
    rw [g1, g2, decide_eq_false (by omega)]
    rfl
theorem dneg_nat (x : UInt64) : (FP.dneg x).toNat = if x.toNat < 9223372036854775808 then 9223372036854775808 + x.toNat else x.toNat - 9223372036854775808 := by
  have hx := x.toNat_lt
  show (x ^^^ 0x8000000000000000).toNat = _
  rw [UInt64.toNat_xor]
  show x.toNat ^^^ 2 ^ 63 = _
  split
  · rw [xor63 (by omega)]
  · have e : x.toNat = 2 ^ 63 + (x.toNat - 2 ^ 63) := by omega
    rw [e, ← xor63 (by omega), Nat.xor_assoc, Nat.xor_self, Nat.xor_zero, xor63 (by omega)]
    omega
theorem dneg_ky {x : UInt64} (hx : dOk x = true) : ky (FP.dneg x) = -ky x ∧ dOk (FP.dneg x) = true := by
  have h1 := dneg_nat x
  have h2 := x.toNat_lt
  rw [dOk_iff] at hx ⊢
  unfold ky
  split at h1
  · rename_i h3
    rw [h1, if_pos h3, if_neg (by omega)]
    omega
  · rename_i h3
    rw [h1, if_neg h3, if_pos (by omega)]
    omega
