/-! PROG 9: numbers of tokens, laws -/
set_option maxRecDepth 100000
def Un : Nat → UInt64
  | 0 => d1
  | j + 1 => FP.dmul d10 (Un j)
theorem d10_k : dOk d10 = true ∧ kF (ky d10) ∧ ky d10 ≠ 0 := by
  refine ⟨by decide +kernel, ?_, by decide +kernel⟩
  unfold kF
  decide +kernel
theorem Un_ok (j : Nat) : dOk (Un j) = true := by
  induction j with
  | zero => decide +kernel
  | succ j ih => exact dmul_ok d10_k.1 ih (Or.inl d10_k.2.1) (Or.inr d10_k.2.2)
theorem Un_k : ∀ j, j < 16 → (0 < ky (Un j) ∧ ky (Un j) < 9218868437227405312) := by decide +kernel
theorem dig_k : ∀ j, j < 10 → dOk (FP.i2d (i3 j)) = true ∧ (0 ≤ ky (FP.i2d (i3 j)) ∧ ky (FP.i2d (i3 j)) < 9218868437227405312) := by decide +kernel
theorem isD_ex {c : Int32} (h : isD c = true) : ∃ j, j < 10 ∧ c = i3 (48 + j) ∧ c - 48 = i3 j := by
  unfold isD at h
  rw [decide_eq_true_eq, Int32.lt_iff_toInt_lt, Int32.lt_iff_toInt_lt] at h
  have h1 : (48 : Int32).toInt = 48 := rfl
  have h2 : (57 : Int32).toInt = 57 := rfl
  obtain ⟨j, hj⟩ : ∃ j, j = c.toInt.toNat - 48 := ⟨_, rfl⟩
  have hj10 : j < 10 := by omega
  have e : c = i3 (48 + j) := by
    apply Int32.toInt_inj.mp
    rw [i3_toInt (by omega)]
    omega
  refine ⟨j, hj10, e, ?_⟩
  rw [e, show (48 : Int32) = i3 48 from rfl, i3_sub (by omega) (by omega)]
  congr 1
  omega
theorem num_step {c : Int32} {v : UInt64} (h : isD c = true) (hv : dOk v = true) : dOk (FP.dmul d10 v) = true ∧ dOk (FP.dadd (FP.dmul d10 v) (FP.i2d (c - 48))) = true := by
  obtain ⟨j, hj, -, e⟩ := isD_ex h
  have h1 := dmul_ok d10_k.1 hv (Or.inl d10_k.2.1) (Or.inr d10_k.2.2)
  have h2 := dig_k j hj
  refine ⟨h1, ?_⟩
  rw [e]
  exact (dadd_ky h1 h2.1 (by omega) (by omega)).2
theorem isD_46 : isD 46 = false := by decide
theorem bAt_ge {t : Nat → Int32} {n k : Nat} (h : n ≤ k) : bAt t n k = 0 := if_neg (by omega)
theorem numS_ok (t : Nat → Int32) (n : Nat) : ∀ f p v m j (wh : Bool), dOk v = true → (wh = true → j = 0) → j ≤ m → ∃ j', j' ≤ (numS t n f (p, v, Un j, m, wh)).2.2.2.1 ∧ (numS t n f (p, v, Un j, m, wh)).2.2.1 = Un j' ∧ dOk (numS t n f (p, v, Un j, m, wh)).2.1 = true := by
  intro f
  induction f with
  | zero => intro p v m j wh hv hw hj; exact ⟨j, hj, rfl, hv⟩
  | succ f ih =>
    intro p v m j wh hv hw hj
    by_cases hD : isD (bAt t n p) = true
    · obtain ⟨k1, k2⟩ := num_step hD hv
      have hv2 : dOk (if 15 < m + 1 then v else FP.dadd (FP.dmul d10 v) (FP.i2d (bAt t n p - 48))) = true := by split <;> assumption
      have eN : ∀ u : UInt64, numS t n (f + 1) (p, v, u, m, wh) = numS t n f (p + 1, (if 15 < m + 1 then v else FP.dadd (FP.dmul d10 v) (FP.i2d (bAt t n p - 48))), (if wh = true then d1 else FP.dmul d10 u), m + 1, wh) := fun u => if_pos hD
      have eU : (if wh = true then d1 else FP.dmul d10 (Un j)) = Un (if wh = true then 0 else j + 1) := by cases wh <;> rfl
      rw [eN, eU]
      exact ih (p + 1) _ (m + 1) (if wh = true then 0 else j + 1) wh hv2 (fun hh => by rw [if_pos hh]) (by split <;> omega)
    · by_cases hdot : wh = true ∧ bAt t n p = 46 ∧ isD (bAt t n (p + 1)) = true
      · obtain ⟨rfl, hb, hd1⟩ := hdot
        have eN : numS t n (f + 1) (p, v, Un j, m, true) = numS t n f (p + 1, v, Un j, m, false) := by
          show (if _ then _ else if _ then _ else _) = _
          rw [if_neg hD, if_pos ⟨rfl, hb, hd1⟩]
        rw [eN]
        exact ih (p + 1) v m j false hv (fun hh => by cases hh) hj
      · have eN : numS t n (f + 1) (p, v, Un j, m, wh) = (p, v, Un j, m, wh) := by
          show (if _ then _ else if _ then _ else _) = _
          rw [if_neg hD, if_neg hdot]
        rw [eN]
        exact ⟨j, hj, rfl, hv⟩
theorem lx_num (t : Nat → Int32) (n q : Nat) (h : (lx t n q).1 = 3) : ∃ v b, (lx t n q).2.2.2 = some (v, b) ∧ dOk v = true := by
  have k0 : ∀ {a : Nat} {x : Nat × Option Int32 × Option (UInt64 × Bool)}, ((a, x) : Lx).1 = 3 → a = 3 := fun h => h
  unfold lx at h ⊢
  split at h
  · exact absurd (k0 h) (by decide)
  · rename_i h1
    rw [if_neg h1]
    split at h
    · split at h
      · exact absurd (k0 h) (by decide)
      · split at h <;> exact absurd (k0 h) (by decide)
    · rename_i h2
      rw [if_neg h2]
      split at h
      · rename_i h3
        rw [if_pos h3]
        have h9 := k0 h
        refine ⟨_, _, rfl, ?_⟩
        obtain ⟨j', i1, i2, i4⟩ := numS_ok t n (n - q) q 0 0 0 true (by decide +kernel) (fun _ => rfl) (Nat.le_refl _)
        have hU : (Un 0) = d1 := rfl
        rw [hU] at i1 i2 i4
        by_cases h15 : 15 < (numS t n (n - q) (q, 0, d1, 0, true)).2.2.2.1
        · rw [if_pos h15] at h9; exact absurd h9 (by decide)
        · rw [if_neg h15, i2]
          have hk := Un_k j' (by omega)
          exact ddiv_ok i4 (Un_ok j') (by omega) (Or.inr (by unfold kF; omega))
      · rename_i h3
        split at h
        · have h9 := k0 h
          split at h9 <;> exact absurd h9 (by decide)
        · have h9 := k0 h
          split at h9 <;> exact absurd h9 (by decide)
theorem cmp_eq0 (o : Option Ordering) (p : CmpOp) : (Op.cmpValue o p = 0) ↔ o = some .eq := by
  cases o with
  | none => cases p <;> decide
  | some x => cases x <;> cases p <;> decide
theorem cmp_gt0 (o : Option Ordering) : (0 < Op.cmpValue o .g) ↔ ¬ (o = some .lt ∨ o = some .eq) := by
  cases o with
  | none => decide
  | some x => cases x <;> decide
