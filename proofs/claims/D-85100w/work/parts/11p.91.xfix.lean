/-! PROG 33: the grammar without fuel -/
set_option maxRecDepth 100000
def leP (r s : PR) : Prop := r = none ∨ r = s
theorem leP_r (r : PR) : leP r r := Or.inr rfl
theorem leP_sq {r s : PR} {f g : Nat → PR} (h1 : leP r s) (h2 : ∀ j, leP (f j) (g j)) : leP (sqP r f) (sqP s g) := by
  rcases h1 with rfl | rfl
  · exact Or.inl rfl
  · match r with
    | none => exact Or.inl rfl
    | some (.inr e) => exact Or.inr rfl
    | some (.inl (j, B)) =>
      rw [sqP_of, sqP_of]
      rcases h2 j with h | h
      · rw [h]; exact Or.inl rfl
      · rw [h]; exact Or.inr rfl
theorem leP_if {c : Prop} [Decidable c] {a b a' b' : PR} (h1 : leP a a') (h2 : leP b b') : leP (if c then a else b) (if c then a' else b') := by
  split
  · exact h1
  · exact h2
theorem leP_on {T : TK} {s0 : Nat} {c c' : Nat → PR} (h : ∀ j, leP (c j) (c' j)) (a b : Int32) (i : Nat) : leP (onP T s0 c a b i) (onP T s0 c' a b i) := by
  unfold onP
  exact leP_if (leP_sq (leP_r _) fun j => leP_if (leP_sq (leP_r _) fun j => leP_sq (h j) fun j => leP_r _) (leP_r _)) (leP_r _)
theorem leP_ca {T : TK} {s0 : Nat} {c c' e e' : Nat → PR} (h : ∀ j, leP (c j) (c' j)) (g : ∀ j, leP (e j) (e' j)) (i : Nat) : leP (caP T s0 c e i) (caP T s0 c' e' i) := by
  unfold caP
  refine leP_if (leP_r _) ?_
  refine leP_if (leP_sq (leP_r _) fun j => leP_sq (leP_r _) fun j => leP_sq (g j) fun j => leP_r _) ?_
  refine leP_if (leP_sq (leP_r _) fun j => leP_sq (leP_r _) fun j => leP_sq (g j) fun j => leP_sq (leP_r _) fun j => leP_sq (g j) fun j => leP_r _) ?_
  refine leP_if (leP_sq (leP_r _) fun j => leP_sq (leP_r _) fun j => leP_sq (g j) fun j => leP_sq (leP_r _) fun j => leP_sq (g j) fun j => leP_sq (leP_r _) fun j => leP_sq (g j) fun j => leP_r _) ?_
  refine leP_if (leP_r _) ?_
  refine leP_if (leP_sq (leP_r _) fun j => leP_sq (leP_r _) fun j => leP_if (leP_sq (leP_r _) fun j => leP_sq (leP_r _) fun j => leP_sq (leP_r _) fun j => leP_sq (h j) fun j => leP_r _) (leP_r _)) ?_
  exact leP_r _
theorem leP_am {T : TK} {s0 : Nat} {c c' : Nat → PR} (h : ∀ j, leP (c j) (c' j)) (i : Nat) : leP (amP T s0 c i) (amP T s0 c' i) := by
  unfold amP seP
  exact leP_if (leP_r _) (leP_if (leP_r _) (leP_sq (leP_r _) h))
theorem pz_mono (T : TK) (s0 : Nat) : ∀ f t p q d i, leP (pz T s0 f t p q d i) (pz T s0 (f + 1) t p q d i) := by
  intro f
  induction f with
  | zero => intro t p q d i; exact Or.inl rfl
  | succ f ih =>
    intro t p q d i
    match t with
    | 0 => rw [pz_e0, pz_e0]; exact leP_if (leP_sq (ih _ _ _ _ _) fun j => ih _ _ _ _ _) (leP_r _)
    | 1 => rw [pz_e1, pz_e1]; exact leP_if (leP_sq (leP_r _) fun j => leP_sq (ih _ _ _ _ _) fun j => leP_sq (leP_r _) fun j => ih _ _ _ _ _) (leP_r _)
    | 2 => rw [pz_e2, pz_e2]; exact leP_sq (ih _ _ _ _ _) fun j => ih _ _ _ _ _
    | 3 => rw [pz_e3, pz_e3]; exact leP_if (leP_sq (leP_r _) fun j => leP_sq (ih _ _ _ _ _) fun j => leP_sq (leP_r _) fun j => ih _ _ _ _ _) (leP_r _)
    | 4 => rw [pz_e4, pz_e4]; exact leP_if (leP_sq (leP_r _) fun j => ih _ _ _ _ _) (leP_if (leP_r _) (leP_if (leP_sq (leP_r _) fun j => leP_sq (ih _ _ _ _ _) fun j => leP_r _) (leP_r _)))
    | 5 => rw [pz_e5, pz_e5]; exact leP_if (leP_sq (ih _ _ _ _ _) fun j => leP_if (leP_sq (leP_r _) fun k => leP_sq (ih _ _ _ _ _) fun j => leP_r _) (leP_r _)) (leP_r _)
    | 6 => rw [pz_e6, pz_e6]; exact leP_sq (ih _ _ _ _ _) fun j => ih _ _ _ _ _
    | 7 => rw [pz_e7, pz_e7]; exact leP_if (leP_sq (leP_r _) fun j => leP_sq (ih _ _ _ _ _) fun j => leP_sq (leP_r _) fun j => ih _ _ _ _ _) (leP_r _)
    | 8 => rw [pz_e8, pz_e8]; exact leP_sq (ih _ _ _ _ _) fun j => ih _ _ _ _ _
    | 9 => rw [pz_e9, pz_e9]; exact leP_if (leP_sq (leP_r _) fun j => leP_sq (ih _ _ _ _ _) fun j => leP_sq (leP_r _) fun j => ih _ _ _ _ _) (leP_r _)
    | 10 => rw [pz_e10, pz_e10]; exact leP_if (leP_if (leP_sq (leP_r _) fun j => leP_sq (ih _ _ _ _ _) fun j => leP_r _) (ih _ _ _ _ _)) (leP_r _)
    | 11 => rw [pz_e11, pz_e11]; exact leP_sq (ih _ _ _ _ _) fun j => leP_if (leP_sq (leP_r _) fun j => leP_am (fun j => ih _ _ _ _ _) j) (leP_if (leP_sq (leP_r _) fun k => leP_sq (ih _ _ _ _ _) fun j => leP_r _) (leP_r _))
    | 13 => rw [pz_e13, pz_e13]; exact leP_sq (ih _ _ _ _ _) fun j => ih _ _ _ _ _
    | 14 => rw [pz_e14, pz_e14]; exact leP_if (leP_sq (leP_r _) fun j => leP_sq (ih _ _ _ _ _) fun j => leP_sq (leP_r _) fun j => ih _ _ _ _ _) (leP_r _)
    | 15 => rw [pz_e15, pz_e15]; exact leP_sq (ih _ _ _ _ _) fun j => ih _ _ _ _ _
    | 16 => rw [pz_e16, pz_e16]; exact leP_if (leP_sq (leP_r _) fun j => leP_sq (ih _ _ _ _ _) fun j => leP_sq (leP_r _) fun j => ih _ _ _ _ _) (leP_r _)
    | 17 => rw [pz_e17, pz_e17]; exact leP_if (leP_if (leP_sq (leP_r _) fun j => leP_sq (ih _ _ _ _ _) fun j => leP_r _) (ih _ _ _ _ _)) (leP_r _)
    | 18 =>
      rw [pz_e18, pz_e18]
      exact leP_if (leP_r _) (leP_if (leP_r _) (leP_if (leP_on (fun j => ih _ _ _ _ _) _ _ _) (leP_if (leP_sq (leP_r _) fun j => leP_sq (ih _ _ _ _ _) fun j => leP_r _) (leP_if (leP_ca (fun j => ih _ _ _ _ _) (fun j => ih _ _ _ _ _) _) (leP_r _)))))
    | 21 => rw [pz_e21, pz_e21]; exact leP_sq (ih _ _ _ _ _) fun j => ih _ _ _ _ _
    | 22 => rw [pz_e22, pz_e22]; exact leP_if (leP_sq (leP_r _) fun j => leP_sq (ih _ _ _ _ _) fun j => ih _ _ _ _ _) (leP_r _)
    | 12 | 19 | 20 | t + 23 => exact Or.inl rfl
/-- the grammar is a fixed point of its equations -/
theorem pz_fix (T : TK) {s0 t i : Nat} (p : Nat) (q : Int32) (d : Nat) (ht : rkT t ≠ 0) (hi : s0 ≤ i) : pz T s0 8100 t p q d i = pz T s0 (8100 + 1) t p q d i := by
  have a : ∀ t, rkT t ≤ 9 := fun t => by
    by_cases ht : t < 23
    · have : ∀ t, t < 23 → rkT t ≤ 9 := by decide
      exact this t ht
    · unfold rkT
      rw [List.getD_eq_getElem?_getD, List.getElem?_eq_none (by show 23 ≤ t; omega)]
      exact Nat.zero_le _
  have h1 := pz_fuel T s0 8100 t p q d i ht hi (by have := a t; omega)
  rcases pz_mono T s0 8100 t p q d i with h | h
  · exact absurd h h1.1
  · exact h
theorem pz_f0 (T : TK) {s0 i : Nat} (p : Nat) (q : Int32) (d : Nat) (hi : s0 ≤ i) : pz T s0 8100 0 p q d i = if d < 24 then sqP (pz T s0 8100 2 0 0 (d + 1) i) (pz T s0 8100 1 0 0 (d + 1)) else some (.inr i) := (pz_fix T p q d (by decide) hi).trans (pz_e0 T s0 8100 p q d i)
theorem pz_f1 (T : TK) {s0 i : Nat} (p : Nat) (q : Int32) (d : Nat) (hi : s0 ≤ i) : pz T s0 8100 1 p q d i = if isS T 43 i = true ∨ isS T 45 i = true then sqP (psP T s0 i) fun j => sqP (pz T s0 8100 2 0 0 d j) fun j => sqP (emP [(if tC T i = 43 then 3 else 4, 0, none)] j) (pz T s0 8100 1 0 0 d) else okP i [] := (pz_fix T p q d (by decide) hi).trans (pz_e1 T s0 8100 p q d i)
theorem pz_f2 (T : TK) {s0 i : Nat} (p : Nat) (q : Int32) (d : Nat) (hi : s0 ≤ i) : pz T s0 8100 2 p q d i = sqP (pz T s0 8100 4 0 0 d i) (pz T s0 8100 3 0 0 d) := (pz_fix T p q d (by decide) hi).trans (pz_e2 T s0 8100 p q d i)
theorem pz_f3 (T : TK) {s0 i : Nat} (p : Nat) (q : Int32) (d : Nat) (hi : s0 ≤ i) : pz T s0 8100 3 p q d i = if isS T 42 i = true ∨ isS T 47 i = true ∨ isS T 37 i = true then sqP (psP T s0 i) fun j => sqP (pz T s0 8100 4 0 0 d j) fun j => sqP (emP [(if tC T i = 42 then 5 else if tC T i = 47 then 6 else 7, 0, none)] j) (pz T s0 8100 3 0 0 d) else okP i [] := (pz_fix T p q d (by decide) hi).trans (pz_e3 T s0 8100 p q d i)
theorem pz_f4 (T : TK) {s0 i : Nat} (p : Nat) (q : Int32) (d : Nat) (hi : s0 ≤ i) : pz T s0 8100 4 p q d i = if isS T 45 i = true then sqP (psP T s0 i) (pz T s0 8100 4 (p + 1) 0 d) else if tK T i = 3 then (if wholeN T i = true then sqP (psP T s0 i) (emP ((0, FP.d2i (tV T i), none) :: List.replicate p (2, 0, none))) else some (.inr i)) else if isS T 40 i = true then sqP (psP T s0 i) fun j => sqP (pz T s0 8100 0 0 0 d j) fun j => sqP (muP T s0 41 j) (emP (List.replicate p (2, 0, none))) else naP T s0 (fun v => (1, v, none) :: List.replicate p (2, 0, none)) i := (pz_fix T p q d (by decide) hi).trans (pz_e4 T s0 8100 p q d i)
theorem pz_f5 (T : TK) {s0 i : Nat} (p : Nat) (q : Int32) (d : Nat) (hi : s0 ≤ i) : pz T s0 8100 5 p q d i = if d < 24 then sqP (pz T s0 8100 6 0 0 (d + 1) i) (fun j => if isS T 259 j = true then sqP (psP T s0 j) fun k => sqP (pz T s0 8100 5 0 0 (d + 1) k) (emP [(27, 259, none)]) else okP j []) else some (.inr i) := (pz_fix T p q d (by decide) hi).trans (pz_e5 T s0 8100 p q d i)
theorem pz_f6 (T : TK) {s0 i : Nat} (p : Nat) (q : Int32) (d : Nat) (hi : s0 ≤ i) : pz T s0 8100 6 p q d i = sqP (pz T s0 8100 8 0 0 d i) (pz T s0 8100 7 0 0 d) := (pz_fix T p q d (by decide) hi).trans (pz_e6 T s0 8100 p q d i)
theorem pz_f7 (T : TK) {s0 i : Nat} (p : Nat) (q : Int32) (d : Nat) (hi : s0 ≤ i) : pz T s0 8100 7 p q d i = if isW T 20 i = true then sqP (psP T s0 i) fun j => sqP (pz T s0 8100 8 0 0 d j) fun j => sqP (emP [(27, 124, none)] j) (pz T s0 8100 7 0 0 d) else okP i [] := (pz_fix T p q d (by decide) hi).trans (pz_e7 T s0 8100 p q d i)
theorem pz_f8 (T : TK) {s0 i : Nat} (p : Nat) (q : Int32) (d : Nat) (hi : s0 ≤ i) : pz T s0 8100 8 p q d i = sqP (pz T s0 8100 10 0 0 d i) (pz T s0 8100 9 0 0 d) := (pz_fix T p q d (by decide) hi).trans (pz_e8 T s0 8100 p q d i)
theorem pz_f9 (T : TK) {s0 i : Nat} (p : Nat) (q : Int32) (d : Nat) (hi : s0 ≤ i) : pz T s0 8100 9 p q d i = if isW T 2 i = true then sqP (psP T s0 i) fun j => sqP (pz T s0 8100 10 0 0 d j) fun j => sqP (emP [(27, 38, none)] j) (pz T s0 8100 9 0 0 d) else okP i [] := (pz_fix T p q d (by decide) hi).trans (pz_e9 T s0 8100 p q d i)
theorem pz_f10 (T : TK) {s0 i : Nat} (p : Nat) (q : Int32) (d : Nat) (hi : s0 ≤ i) : pz T s0 8100 10 p q d i = if d < 24 then (if isW T 19 i = true then sqP (psP T s0 i) fun j => sqP (pz T s0 8100 10 0 0 (d + 1) j) (emP [(28, 0, none)]) else pz T s0 8100 11 0 0 (d + 1) i) else some (.inr i) := (pz_fix T p q d (by decide) hi).trans (pz_e10 T s0 8100 p q d i)
theorem pz_f11 (T : TK) {s0 i : Nat} (p : Nat) (q : Int32) (d : Nat) (hi : s0 ≤ i) : pz T s0 8100 11 p q d i = sqP (pz T s0 8100 13 0 0 d i) fun j => if isW T 12 j = true then sqP (psP T s0 j) (amP T s0 (pz T s0 8100 21 0 33 d)) else if isCmp T j = true then sqP (psP T s0 j) fun k => sqP (pz T s0 8100 13 0 0 d k) (emP [(27, tC T j, none)]) else okP j [] := (pz_fix T p q d (by decide) hi).trans (pz_e11 T s0 8100 p q d i)
theorem pz_f13 (T : TK) {s0 i : Nat} (p : Nat) (q : Int32) (d : Nat) (hi : s0 ≤ i) : pz T s0 8100 13 p q d i = sqP (pz T s0 8100 15 0 0 d i) (pz T s0 8100 14 0 0 d) := (pz_fix T p q d (by decide) hi).trans (pz_e13 T s0 8100 p q d i)
theorem pz_f14 (T : TK) {s0 i : Nat} (p : Nat) (q : Int32) (d : Nat) (hi : s0 ≤ i) : pz T s0 8100 14 p q d i = if isS T 43 i = true ∨ isS T 45 i = true then sqP (psP T s0 i) fun j => sqP (pz T s0 8100 15 0 0 d j) fun j => sqP (emP [(27, tC T i, none)] j) (pz T s0 8100 14 0 0 d) else okP i [] := (pz_fix T p q d (by decide) hi).trans (pz_e14 T s0 8100 p q d i)
theorem pz_f15 (T : TK) {s0 i : Nat} (p : Nat) (q : Int32) (d : Nat) (hi : s0 ≤ i) : pz T s0 8100 15 p q d i = sqP (pz T s0 8100 17 0 0 d i) (pz T s0 8100 16 0 0 d) := (pz_fix T p q d (by decide) hi).trans (pz_e15 T s0 8100 p q d i)
theorem pz_f16 (T : TK) {s0 i : Nat} (p : Nat) (q : Int32) (d : Nat) (hi : s0 ≤ i) : pz T s0 8100 16 p q d i = if isS T 42 i = true ∨ isS T 47 i = true then sqP (psP T s0 i) fun j => sqP (pz T s0 8100 17 0 0 d j) fun j => sqP (emP [(27, tC T i, none)] j) (pz T s0 8100 16 0 0 d) else okP i [] := (pz_fix T p q d (by decide) hi).trans (pz_e16 T s0 8100 p q d i)
theorem pz_f17 (T : TK) {s0 i : Nat} (p : Nat) (q : Int32) (d : Nat) (hi : s0 ≤ i) : pz T s0 8100 17 p q d i = if d < 24 then (if isS T 45 i = true then sqP (psP T s0 i) fun j => sqP (pz T s0 8100 17 0 0 (d + 1) j) (emP [(25, 0, none)]) else pz T s0 8100 18 0 0 (d + 1) i) else some (.inr i) := (pz_fix T p q d (by decide) hi).trans (pz_e17 T s0 8100 p q d i)
theorem pz_f18 (T : TK) {s0 i : Nat} (p : Nat) (q : Int32) (d : Nat) (hi : s0 ≤ i) : pz T s0 8100 18 p q d i = if tK T i = 3 then sqP (psP T s0 i) (emP [(20, 0, some (tV T i))]) else if tK T i = 4 then sqP (psP T s0 i) (emP [(22, i3 (tP T i), none)]) else if tK T i = 1 then onP T s0 (pz T s0 8100 0 0 0 d) 23 24 i else if isS T 40 i = true then sqP (psP T s0 i) fun j => sqP (pz T s0 8100 5 0 0 d j) (muP T s0 41) else if tK T i = 2 then caP T s0 (pz T s0 8100 0 0 0 d) (pz T s0 8100 5 0 0 d) i else some (.inr i) := (pz_fix T p q d (by decide) hi).trans (pz_e18 T s0 8100 p q d i)
theorem pz_f21 (T : TK) {s0 i : Nat} (p : Nat) (q : Int32) (d : Nat) (hi : s0 ≤ i) : pz T s0 8100 21 p q d i = sqP (pz T s0 8100 0 0 0 d i) (pz T s0 8100 22 1 q d) := (pz_fix T p q d (by decide) hi).trans (pz_e21 T s0 8100 p q d i)
theorem pz_f22 (T : TK) {s0 i : Nat} (p : Nat) (q : Int32) (d : Nat) (hi : s0 ≤ i) : pz T s0 8100 22 p q d i = if isS T 44 i = true then sqP (psP T s0 i) fun j => sqP (pz T s0 8100 0 0 0 d j) (pz T s0 8100 22 (p + 1) q d) else if q = 51 then okP i [(51, i3 p, none)] else sqP (muP T s0 125 i) (emP [(q, i3 p, none)]) := (pz_fix T p q d (by decide) hi).trans (pz_e22 T s0 8100 p q d i)

