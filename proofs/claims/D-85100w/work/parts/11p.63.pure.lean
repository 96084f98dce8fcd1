/-! PROG 4: tokens and the grammar, laws -/
set_option maxRecDepth 100000
/-- the values of acts -/
def nuP (A : List PA) : List UInt64 := A.filterMap fun x => x.2.2
theorem b2i_t : b2i true = 1 := rfl
theorem b2i_f : b2i false = 0 := rfl
theorem lx_le (t : Nat → Int32) (n q : Nat) (h : q ≤ n + 2) : (lx t n q).2.1 ≤ n + 2 := by
  have hs : ∀ f : Nat → Bool, q < n → scn f (n - q) q ≤ n + 2 := fun f h9 => by have := scn_le f (n - q) q; omega
  have hN : ∀ f (s : NS), (numS t n f s).1 ≤ s.1 + f := by
    intro f
    induction f with
    | zero => intro s; exact Nat.le_refl _
    | succ f ih =>
      intro s
      rw [numS]
      split
      · have := ih (s.1 + 1, (if 15 < s.2.2.2.1 + 1 then s.2.1 else FP.dadd (FP.dmul d10 s.2.1) (FP.i2d (bAt t n s.1 - 48))), (if s.2.2.2.2 = true then d1 else FP.dmul d10 s.2.2.1), s.2.2.2.1 + 1, s.2.2.2.2)
        show _ ≤ s.1 + (f + 1)
        have e : (s.1 + 1) + f = s.1 + (f + 1) := by omega
        rw [← e]; exact this
      · split
        · have := ih (s.1 + 1, s.2.1, s.2.2.1, s.2.2.2.1, false)
          have e : (s.1 + 1) + f = s.1 + (f + 1) := by omega
          rw [← e]; exact this
        · omega
  have hQ : ∀ f (s : Nat × Int32 × Nat), (quoS t n f s).1 ≤ s.1 + f := by
    intro f
    induction f with
    | zero => intro s; exact Nat.le_refl _
    | succ f ih =>
      intro s
      rw [quoS]
      split
      · have := ih (s.1 + 1, bAt t n s.1, s.2.2 + 1)
        have e : (s.1 + 1) + f = s.1 + (f + 1) := by omega
        rw [← e]; exact this
      · omega
  unfold lx
  split
  · exact h
  · rename_i hq
    split
    · split
      · exact hs _ (by omega)
      · split <;> exact hs _ (by omega)
    · split
      · have := hN (n - q) (q, 0, d1, 0, true)
        show (numS t n (n - q) (q, 0, d1, 0, true)).1 ≤ _
        have e : (q, (0 : UInt64), d1, 0, true).1 = q := rfl
        rw [e] at this
        omega
      · split
        · have := hQ (n - (q + 1)) (q + 1, 0, 0)
          show (quoS t n (n - (q + 1)) (q + 1, 0, 0)).1 + 1 ≤ _
          have e : (q + 1, (0 : Int32), 0).1 = q + 1 := rfl
          rw [e] at this
          omega
        · show (if 255 < sgC (t q) (bAt t n (q + 1)) then q + 2 else q + 1) ≤ n + 2
          split <;> omega
theorem tks_le (t : Nat → Int32) (n i : Nat) : (tks t n i).1 ≤ n + 2 ∧ (tks t n i).2.2.1 ≤ n + 2 := by
  have hk : ∀ p, p ≤ n + 2 → skp t n p ≤ n + 2 := fun p hp => by
    unfold skp
    have := scn_le (fun q => decide (q < n) && isB (t q)) (n - p) p
    omega
  induction i with
  | zero => exact ⟨hk 0 (by omega), lx_le t n _ (hk 0 (by omega))⟩
  | succ i ih => exact ⟨hk _ ih.2, lx_le t n _ (hk _ ih.2)⟩
theorem lx_kind (t : Nat → Int32) (n q : Nat) : (lx t n q).1 ≤ 6 := by
  unfold lx
  split
  · exact Nat.le_of_ble_eq_true rfl
  · split
    · split
      · exact Nat.le_of_ble_eq_true rfl
      · split <;> exact Nat.le_of_ble_eq_true rfl
    · split
      · show (if 15 < (numS t n (n - q) (q, 0, d1, 0, true)).2.2.2.1 then 6 else 3) ≤ 6
        split <;> decide
      · split
        · show (if bAt t n (quoS t n (n - (q + 1)) (q + 1, 0, 0)).1 = 34 then 4 else 6) ≤ 6
          split <;> decide
        · show (if 255 < sgC (t q) (bAt t n (q + 1)) ∨ isSgC (t q) = true then 5 else 6) ≤ 6
          split <;> decide
theorem lx_code (t : Nat → Int32) (n q : Nat) (h : (lx t n q).1 = 2 ∨ (lx t n q).1 = 4 ∨ (lx t n q).1 = 5) : ∃ c, (lx t n q).2.2.1 = some c := by
  have k0 : ∀ {a : Nat} {x : Nat × Option Int32 × Option (UInt64 × Bool)}, (((a, x) : Lx).1 = 2 ∨ ((a, x) : Lx).1 = 4 ∨ ((a, x) : Lx).1 = 5) → a = 2 ∨ a = 4 ∨ a = 5 := fun h => h
  unfold lx at h ⊢
  split at h
  · exact absurd (k0 h) (by decide)
  · rename_i h1
    rw [if_neg h1]
    split at h
    · rename_i h2
      rw [if_pos h2]
      split at h
      · exact absurd (k0 h) (by decide)
      · rename_i h3
        rw [if_neg h3]
        cases hw : wdS t q (scn (fun q => isL (bAt t n q) || isD (bAt t n q)) (n - q) q - q) 37 0 with
        | none => rw [hw] at h; exact absurd (k0 h) (by decide)
        | some v => exact ⟨_, rfl⟩
    · rename_i h2
      rw [if_neg h2]
      split at h
      · have h9 := k0 h
        split at h9 <;> exact absurd h9 (by decide)
      · rename_i h3
        rw [if_neg h3]
        split
        · exact ⟨_, rfl⟩
        · exact ⟨_, rfl⟩
theorem tks_lx (t : Nat → Int32) (n i : Nat) : (tks t n i).2 = lx t n (tks t n i).1 := by cases i <;> rfl
/-- a token may be passed -/
def okT (T : TK) (s0 i : Nat) : Bool := decide (tK T i ≠ 0 ∧ tK T i ≠ 6 ∧ i - s0 < 200)
theorem psP_eq (T : TK) (s0 i : Nat) : psP T s0 i = if okT T s0 i = true then some (.inl (i + 1, [])) else some (.inr i) := by
  unfold psP okT
  by_cases h : tK T i ≠ 0 ∧ tK T i ≠ 6 ∧ i - s0 < 200
  · rw [if_pos h, decide_eq_true h, if_pos rfl]
  · rw [if_neg h, decide_eq_false h, if_neg (by decide)]
theorem sqP_of {j : Nat} {B : List PA} {f : Nat → PR} : sqP (some (.inl (j, B))) f = match f j with | none => none | some (.inr e) => some (.inr e) | some (.inl (k, C)) => some (.inl (k, B ++ C)) := rfl
theorem sqP_ok (j : Nat) (f : Nat → PR) : sqP (some (.inl (j, []))) f = f j := by
  unfold sqP
  cases h : f j with
  | none => simp only [h]
  | some x => cases x <;> simp only [h, List.nil_append]
theorem sqP_no (e : Nat) (f : Nat → PR) : sqP (some (.inr e)) f = some (.inr e) := rfl
theorem sqP_assoc (j : Nat) (B : List PA) (f g : Nat → PR) : sqP (sqP (some (.inl (j, B))) f) g = sqP (some (.inl (j, B))) (fun j => sqP (f j) g) := by
  unfold sqP
  show (match (match f j with | none => none | some (.inr e) => some (.inr e) | some (.inl (k, C)) => some (.inl (k, B ++ C)) : PR) with | none => none | some (.inr e) => some (.inr e) | some (.inl (k, C)) => _ : PR) = (match (match f j with | none => none | some (.inr e) => some (.inr e) | some (.inl (k, C)) => _ : PR) with | none => none | some (.inr e) => some (.inr e) | some (.inl (k, C)) => some (.inl (k, B ++ C)) : PR)
  cases f j with
  | none => rfl
  | some x =>
    cases x with
    | inr e => rfl
    | inl q =>
      obtain ⟨k, C⟩ := q
      show (match g k with | none => none | some (.inr e) => some (.inr e) | some (.inl (l, D)) => some (.inl (l, (B ++ C) ++ D)) : PR) = (match (match g k with | none => none | some (.inr e) => some (.inr e) | some (.inl (l, D)) => some (.inl (l, C ++ D)) : PR) with | none => none | some (.inr e) => some (.inr e) | some (.inl (l, D)) => some (.inl (l, B ++ D)) : PR)
      cases g k with
      | none => rfl
      | some y =>
        cases y with
        | inr e => rfl
        | inl z => obtain ⟨l, D⟩ := z; simp only [List.append_assoc]
theorem sqP_two (j k : Nat) (B C : List PA) (f : Nat → PR) : sqP (some (.inl (j, B))) (fun _ => sqP (some (.inl (k, C))) f) = sqP (some (.inl (k, B ++ C))) f := by
  unfold sqP
  show (match (match f k with | none => none | some (.inr e) => some (.inr e) | some (.inl (l, D)) => some (.inl (l, C ++ D)) : PR) with | none => none | some (.inr e) => some (.inr e) | some (.inl (l, D)) => some (.inl (l, B ++ D)) : PR) = (match f k with | none => none | some (.inr e) => some (.inr e) | some (.inl (l, D)) => some (.inl (l, (B ++ C) ++ D)) : PR)
  cases f k with
  | none => rfl
  | some y =>
    cases y with
    | inr e => rfl
    | inl z => obtain ⟨l, D⟩ := z; simp only [List.append_assoc]
theorem sqP_as (r : PR) (f g : Nat → PR) : sqP (sqP r f) g = sqP r (fun j => sqP (f j) g) := by
  match r with
  | none => rfl
  | some (.inr e) => rfl
  | some (.inl (j, B)) => exact sqP_assoc j B f g
theorem wdS_lt (t : Nat → Int32) (p m : Nat) : ∀ f v w, wdS t p m f v = some w → w < v + f := by
  intro f
  induction f with
  | zero => intro v w h; cases h
  | succ f ih =>
    intro v w h
    rw [wdS] at h
    split at h
    · cases h; omega
    · have := ih _ _ h; omega
theorem lx_word (t : Nat → Int32) (n q : Nat) (h : (lx t n q).1 = 2) : ∃ w, w < 37 ∧ (lx t n q).2.2.1 = some (i3 w) := by
  have k0 : ∀ {a : Nat} {x : Nat × Option Int32 × Option (UInt64 × Bool)}, ((a, x) : Lx).1 = 2 → a = 2 := fun h => h
  unfold lx at h ⊢
  split at h
  · exact absurd (k0 h) (by decide)
  · rename_i h1
    rw [if_neg h1]
    split at h
    · rename_i h2
      rw [if_pos h2]
      split at h
      · exact absurd (k0 h) (by decide)
      · rename_i h3
        rw [if_neg h3]
        cases hw : wdS t q (scn (fun q => isL (bAt t n q) || isD (bAt t n q)) (n - q) q - q) 37 0 with
        | none => rw [hw] at h; exact absurd (k0 h) (by decide)
        | some v => exact ⟨v, by have := wdS_lt _ _ _ _ _ _ hw; omega, rfl⟩
    · split at h
      · have h9 := k0 h
        split at h9 <;> exact absurd h9 (by decide)
      · split at h
        · have h9 := k0 h
          split at h9 <;> exact absurd h9 (by decide)
        · have h9 := k0 h
          split at h9 <;> exact absurd h9 (by decide)
theorem tC_word (t : Nat → Int32) (n i : Nat) (h : tK (tkOf t n) i = 2) : ∃ w, w < 37 ∧ tC (tkOf t n) i = i3 w := by
  have h1 : (tks t n i).2.1 = 2 := h
  rw [tks_lx] at h1
  obtain ⟨w, hw, hc⟩ := lx_word t n _ h1
  rw [← tks_lx] at hc
  have e : tC (tkOf t n) i = (tks t n i).2.2.2.1.getD 0 := rfl
  exact ⟨w, hw, by rw [e, hc]; rfl⟩
