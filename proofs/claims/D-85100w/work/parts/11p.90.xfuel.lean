/-! PROG 32: the grammar never runs dry -/
set_option maxRecDepth 100000
/-- an answer is there; what is left behind it -/
def NR (s0 : Nat) (m : Int) (r : PR) : Prop := r ≠ none ∧ ∀ j B, r = some (.inl (j, B)) → s0 ≤ j ∧ ((40 * (s0 + 201 - j) : Nat) : Int) ≤ m
theorem NR_sq {s0 : Nat} {m m2 : Int} {r : PR} {f : Nat → PR} (h1 : NR s0 m r) (h2 : ∀ j, s0 ≤ j → ((40 * (s0 + 201 - j) : Nat) : Int) ≤ m → NR s0 m2 (f j)) : NR s0 m2 (sqP r f) := by
  match r, h1 with
  | none, h1 => exact absurd rfl h1.1
  | some (.inr e), _ => exact ⟨(by intro h; cases h), fun j B h => (by cases h)⟩
  | some (.inl (j, B)), h1 =>
    obtain ⟨a1, a2⟩ := h1.2 j B rfl
    have h3 := h2 j a1 a2
    rw [sqP_of]
    match hf : f j, h3 with
    | none, h3 => exact absurd rfl h3.1
    | some (.inr e), _ => exact ⟨(by intro h; cases h), fun j B h => (by cases h)⟩
    | some (.inl (k, C)), h3 =>
      refine ⟨(by intro h; cases h), fun j2 B2 h => ?_⟩
      cases h
      exact h3.2 k C rfl
theorem NR_no (s0 : Nat) (m : Int) (e : Nat) : NR s0 m (some (.inr e)) := ⟨(by intro h; cases h), fun j B h => (by cases h)⟩
theorem NR_em {s0 : Nat} {m : Int} (A : List PA) {i : Nat} (hi : s0 ≤ i) (hm : ((40 * (s0 + 201 - i) : Nat) : Int) ≤ m) : NR s0 m (emP A i) := ⟨(by intro h; cases h), fun j B h => (by cases h; exact ⟨hi, hm⟩)⟩
theorem NR_if {s0 : Nat} {m : Int} {c : Prop} [Decidable c] {a b : PR} (h1 : NR s0 m a) (h2 : NR s0 m b) : NR s0 m (if c then a else b) := by
  split
  · exact h1
  · exact h2
theorem NR_w {s0 : Nat} {m m2 : Int} {r : PR} (h : NR s0 m r) (h2 : m ≤ m2) : NR s0 m2 r := ⟨h.1, fun j B e => by have := h.2 j B e; exact ⟨this.1, by omega⟩⟩
theorem NR_ps {s0 : Nat} {m : Int} (T : TK) {i : Nat} (hi : s0 ≤ i) (hm : ((40 * (s0 + 201 - i) : Nat) : Int) ≤ m) : NR s0 (m - 40) (psP T s0 i) := by
  unfold psP
  split
  · rename_i h
    refine ⟨(by intro h; cases h), fun j B h2 => ?_⟩
    cases h2
    exact ⟨by omega, by omega⟩
  · exact NR_no _ _ _
theorem NR_p0 {s0 : Nat} {m : Int} (T : TK) {i : Nat} (hi : s0 ≤ i) (hm : ((40 * (s0 + 201 - i) : Nat) : Int) ≤ m) : NR s0 m (psP T s0 i) := NR_w (NR_ps T hi hm) (by omega)
theorem NR_mu {s0 : Nat} {m : Int} (T : TK) (c : Int32) {i : Nat} (hi : s0 ≤ i) (hm : ((40 * (s0 + 201 - i) : Nat) : Int) ≤ m) : NR s0 (m - 40) (muP T s0 c i) := NR_if (NR_ps T hi hm) (NR_no _ _ _)
theorem NR_m0 {s0 : Nat} {m : Int} (T : TK) (c : Int32) {i : Nat} (hi : s0 ≤ i) (hm : ((40 * (s0 + 201 - i) : Nat) : Int) ≤ m) : NR s0 m (muP T s0 c i) := NR_if (NR_p0 T hi hm) (NR_no _ _ _)
theorem NR_na {s0 : Nat} {m : Int} (T : TK) (f : Int32 → List PA) {i : Nat} (hi : s0 ≤ i) (hm : ((40 * (s0 + 201 - i) : Nat) : Int) ≤ m) : NR s0 m (naP T s0 f i) := NR_if (NR_sq (NR_p0 T hi hm) (fun j hj hm => NR_em _ hj hm)) (NR_no _ _ _)
theorem NR_bo {s0 : Nat} {m : Int} (T : TK) {i : Nat} (hi : s0 ≤ i) (hm : ((40 * (s0 + 201 - i) : Nat) : Int) ≤ m) : NR s0 m (boP T s0 i) := by
  unfold boP
  exact NR_if (NR_sq (NR_p0 T hi hm) (fun j hj hm => NR_if (NR_sq (NR_p0 T hj hm) (fun j hj hm => NR_em _ hj hm)) (NR_na T _ hj hm))) (NR_if (NR_sq (NR_p0 T hi hm) (fun j hj hm => NR_em _ hj hm)) (NR_na T _ hi hm))
theorem NR_ra {s0 : Nat} {m : Int} (T : TK) {i : Nat} (hi : s0 ≤ i) (hm : ((40 * (s0 + 201 - i) : Nat) : Int) ≤ m) : NR s0 m (raP T s0 i) := NR_sq (NR_m0 T _ hi hm) (fun _ hj hm => NR_sq (NR_bo T hj hm) (fun _ hj hm => NR_sq (NR_m0 T _ hj hm) (fun _ hj hm => NR_sq (NR_bo T hj hm) (fun _ hj hm => NR_m0 T _ hj hm))))
theorem NR_on {s0 : Nat} {m : Int} (T : TK) {con : Nat → PR} (hc : ∀ j, s0 ≤ j → ((40 * (s0 + 201 - j) : Nat) : Int) ≤ m - 40 → NR s0 (m - 40) (con j)) (a b : Int32) {i : Nat} (hi : s0 ≤ i) (hm : ((40 * (s0 + 201 - i) : Nat) : Int) ≤ m) : NR s0 m (onP T s0 con a b i) := by
  unfold onP
  refine NR_if (NR_sq (NR_ps T hi hm) (fun j hj hm => NR_w (m := m - 40) (NR_if (NR_sq (NR_p0 T hj hm) (fun j hj hm => NR_sq (hc j hj hm) (fun j hj hm => NR_sq (NR_m0 T _ hj hm) (fun j hj hm => NR_em _ hj hm)))) (NR_em _ hj hm)) (by omega))) (NR_no _ _ _)
theorem NR_ca {s0 : Nat} {m : Int} (T : TK) {con ex : Nat → PR} (hc : ∀ j, s0 ≤ j → ((40 * (s0 + 201 - j) : Nat) : Int) ≤ m - 40 → NR s0 (m - 40) (con j)) (he : ∀ j, s0 ≤ j → ((40 * (s0 + 201 - j) : Nat) : Int) ≤ m - 40 → NR s0 (m - 40) (ex j)) {i : Nat} (hi : s0 ≤ i) (hm : ((40 * (s0 + 201 - i) : Nat) : Int) ≤ m) : NR s0 m (caP T s0 con ex i) := by
  have k : ∀ {f : Nat → PR}, (∀ j, s0 ≤ j → ((40 * (s0 + 201 - j) : Nat) : Int) ≤ m - 40 → NR s0 (m - 40) (f j)) → NR s0 m (sqP (psP T s0 i) f) := fun h => NR_sq (NR_ps T hi hm) (fun j hj hm => NR_w (h j hj hm) (by omega))
  have mm : ∀ {f : Nat → PR} {c : Int32} (j : Nat), s0 ≤ j → ((40 * (s0 + 201 - j) : Nat) : Int) ≤ m - 40 → (∀ j, s0 ≤ j → ((40 * (s0 + 201 - j) : Nat) : Int) ≤ m - 40 → NR s0 (m - 40) (f j)) → NR s0 (m - 40) (sqP (muP T s0 c j) f) := fun j hj hm h => NR_sq (NR_m0 T _ hj hm) h
  unfold caP
  refine NR_if (k fun j hj hm => NR_em _ hj hm) ?_
  refine NR_if (k fun j hj hm => mm j hj hm fun j hj hm => NR_sq (he j hj hm) fun j hj hm => mm j hj hm fun j hj hm => NR_em _ hj hm) ?_
  refine NR_if (k fun j hj hm => mm j hj hm fun j hj hm => NR_sq (he j hj hm) fun j hj hm => mm j hj hm fun j hj hm => NR_sq (he j hj hm) fun j hj hm => mm j hj hm fun j hj hm => NR_em _ hj hm) ?_
  refine NR_if (k fun j hj hm => mm j hj hm fun j hj hm => NR_sq (he j hj hm) fun j hj hm => mm j hj hm fun j hj hm => NR_sq (he j hj hm) fun j hj hm => mm j hj hm fun j hj hm => NR_sq (he j hj hm) fun j hj hm => mm j hj hm fun j hj hm => NR_em _ hj hm) ?_
  refine NR_if (k fun j hj hm => mm j hj hm fun j hj hm => NR_sq (NR_na T _ hj hm) fun j hj hm => NR_m0 T _ hj hm) ?_
  refine NR_if (k fun j hj hm => mm j hj hm fun j hj hm => NR_if (NR_sq (NR_p0 T hj hm) fun j hj hm => NR_sq (NR_em _ hj hm) fun j hj hm => mm j hj hm fun j hj hm => NR_sq (hc j hj hm) fun j hj hm => mm j hj hm fun j hj hm => NR_em _ hj hm) (NR_no _ _ _)) ?_
  exact NR_no _ _ _
theorem NR_se {s0 : Nat} {m : Int} (T : TK) {cons : Nat → PR} (hc : ∀ j, s0 ≤ j → ((40 * (s0 + 201 - j) : Nat) : Int) ≤ m - 40 → NR s0 (m - 40) (cons j)) {i : Nat} (hi : s0 ≤ i) (hm : ((40 * (s0 + 201 - i) : Nat) : Int) ≤ m) : NR s0 m (seP T s0 cons i) := NR_sq (NR_mu T _ hi hm) (fun j hj hm => NR_w (hc j hj hm) (by omega))
theorem NR_am {s0 : Nat} {m : Int} (T : TK) {cons : Nat → PR} (hc : ∀ j, s0 ≤ j → ((40 * (s0 + 201 - j) : Nat) : Int) ≤ m - 40 → NR s0 (m - 40) (cons j)) {i : Nat} (hi : s0 ≤ i) (hm : ((40 * (s0 + 201 - i) : Nat) : Int) ≤ m) : NR s0 m (amP T s0 cons i) := by
  unfold amP
  exact NR_if (NR_sq (NR_ra T hi hm) (fun j hj hm => NR_em _ hj hm)) (NR_if (NR_sq (NR_p0 T hi hm) (fun j hj hm => NR_em _ hj hm)) (NR_se T hc hi hm))
/-- how far down a piece of the grammar goes at one token -/
def rkT (t : Nat) : Nat := [3, 1, 2, 1, 1, 9, 8, 1, 7, 1, 6, 5, 0, 4, 1, 3, 1, 2, 1, 0, 0, 4, 1].getD t 0
theorem pz_fuel (T : TK) (s0 : Nat) : ∀ f t p q d i, rkT t ≠ 0 → s0 ≤ i → 40 * (s0 + 201 - i) + rkT t ≤ f → NR s0 ((40 * (s0 + 201 - i) : Nat) : Int) (pz T s0 f t p q d i) := by
  intro f
  induction f with
  | zero => intro t p q d i h0 hi hf; omega
  | succ f ih =>
    intro t p q d i h0 hi hf
    have c : ∀ (m : Int) t p q d j, rkT t ≠ 0 → s0 ≤ j → ((40 * (s0 + 201 - j) : Nat) : Int) ≤ m → m + rkT t ≤ f → NR s0 m (pz T s0 f t p q d j) := fun m t p q d j h0 hj hm hf => NR_w (ih t p q d j h0 hj (by omega)) hm
    generalize hM : ((40 * (s0 + 201 - i) : Nat) : Int) = M
    have hm : ((40 * (s0 + 201 - i) : Nat) : Int) ≤ M := by omega
    have hf2 : M + rkT t ≤ f + 1 := by omega
    have ps : ∀ {F : Nat → PR}, (∀ j, s0 ≤ j → ((40 * (s0 + 201 - j) : Nat) : Int) ≤ M - 40 → NR s0 (M - 40) (F j)) → NR s0 M (sqP (psP T s0 i) F) := fun h => NR_sq (NR_ps T hi hm) (fun j hj hm => NR_w (h j hj hm) (by omega))
    have p2 : ∀ {F : Nat → PR} j, s0 ≤ j → ((40 * (s0 + 201 - j) : Nat) : Int) ≤ M → (∀ j, s0 ≤ j → ((40 * (s0 + 201 - j) : Nat) : Int) ≤ M - 40 → NR s0 (M - 40) (F j)) → NR s0 M (sqP (psP T s0 j) F) := fun j hj hm h => NR_sq (NR_ps T hj hm) (fun j hj hm => NR_w (h j hj hm) (by omega))
    have a : ∀ t, rkT t ≤ 9 := fun t => by
      by_cases ht : t < 23
      · have : ∀ t, t < 23 → rkT t ≤ 9 := by decide
        exact this t ht
      · unfold rkT
        rw [List.getD_eq_getElem?_getD, List.getElem?_eq_none (by show 23 ≤ t; omega)]
        exact Nat.zero_le _
    have hpos : 1 ≤ rkT t := by omega
    have c2 : ∀ t p q d j, rkT t ≠ 0 → s0 ≤ j → ((40 * (s0 + 201 - j) : Nat) : Int) ≤ M - 40 → NR s0 (M - 40) (pz T s0 f t p q d j) := fun t p q d j h0 hj hm => c (M - 40) t p q d j h0 hj hm (by have := a t; omega)
    match t, h0, hf2 with
    | 0, _, hf2 =>
      have e : rkT 0 = 3 := rfl
      rw [e] at hf2
      rw [pz_e0]
      exact NR_if (NR_sq (c M 2 _ _ _ _ (by decide) hi hm (by have : rkT 2 = 2 := rfl; omega)) (fun j hj hm => c M 1 _ _ _ _ (by decide) hj hm (by have : rkT 1 = 1 := rfl; omega))) (NR_no _ _ _)
    | 1, _, hf2 =>
      rw [pz_e1]
      exact NR_if (ps fun j hj hm => NR_sq (c2 2 _ _ _ _ (by decide) hj hm) fun j hj hm => NR_sq (NR_em _ hj hm) fun j hj hm => c2 1 _ _ _ _ (by decide) hj hm) (NR_em _ hi hm)
    | 2, _, hf2 =>
      have e : rkT 2 = 2 := rfl
      rw [e] at hf2
      rw [pz_e2]
      exact NR_sq (c M 4 _ _ _ _ (by decide) hi hm (by have : rkT 4 = 1 := rfl; omega)) (fun j hj hm => c M 3 _ _ _ _ (by decide) hj hm (by have : rkT 3 = 1 := rfl; omega))
    | 3, _, hf2 =>
      rw [pz_e3]
      exact NR_if (ps fun j hj hm => NR_sq (c2 4 _ _ _ _ (by decide) hj hm) fun j hj hm => NR_sq (NR_em _ hj hm) fun j hj hm => c2 3 _ _ _ _ (by decide) hj hm) (NR_em _ hi hm)
    | 4, _, hf2 =>
      rw [pz_e4]
      refine NR_if (ps fun j hj hm => c2 4 _ _ _ _ (by decide) hj hm) ?_
      refine NR_if (NR_if (ps fun j hj hm => NR_em _ hj hm) (NR_no _ _ _)) ?_
      refine NR_if (ps fun j hj hm => NR_sq (c2 0 _ _ _ _ (by decide) hj hm) fun j hj hm => NR_sq (NR_m0 T _ hj hm) fun j hj hm => NR_em _ hj hm) ?_
      exact NR_na T _ hi hm
    | 5, _, hf2 =>
      have e : rkT 5 = 9 := rfl
      rw [e] at hf2
      rw [pz_e5]
      exact NR_if (NR_sq (c M 6 _ _ _ _ (by decide) hi hm (by have : rkT 6 = 8 := rfl; omega)) fun j hj hm => NR_if (p2 j hj hm fun j hj hm => NR_sq (c2 5 _ _ _ _ (by decide) hj hm) fun j hj hm => NR_em _ hj hm) (NR_em _ hj hm)) (NR_no _ _ _)
    | 6, _, hf2 =>
      have e : rkT 6 = 8 := rfl
      rw [e] at hf2
      rw [pz_e6]
      exact NR_sq (c M 8 _ _ _ _ (by decide) hi hm (by have : rkT 8 = 7 := rfl; omega)) (fun j hj hm => c M 7 _ _ _ _ (by decide) hj hm (by have : rkT 7 = 1 := rfl; omega))
    | 7, _, hf2 =>
      rw [pz_e7]
      exact NR_if (ps fun j hj hm => NR_sq (c2 8 _ _ _ _ (by decide) hj hm) fun j hj hm => NR_sq (NR_em _ hj hm) fun j hj hm => c2 7 _ _ _ _ (by decide) hj hm) (NR_em _ hi hm)
    | 8, _, hf2 =>
      have e : rkT 8 = 7 := rfl
      rw [e] at hf2
      rw [pz_e8]
      exact NR_sq (c M 10 _ _ _ _ (by decide) hi hm (by have : rkT 10 = 6 := rfl; omega)) (fun j hj hm => c M 9 _ _ _ _ (by decide) hj hm (by have : rkT 9 = 1 := rfl; omega))
    | 9, _, hf2 =>
      rw [pz_e9]
      exact NR_if (ps fun j hj hm => NR_sq (c2 10 _ _ _ _ (by decide) hj hm) fun j hj hm => NR_sq (NR_em _ hj hm) fun j hj hm => c2 9 _ _ _ _ (by decide) hj hm) (NR_em _ hi hm)
    | 10, _, hf2 =>
      have e : rkT 10 = 6 := rfl
      rw [e] at hf2
      rw [pz_e10]
      exact NR_if (NR_if (ps fun j hj hm => NR_sq (c2 10 _ _ _ _ (by decide) hj hm) fun j hj hm => NR_em _ hj hm) (c M 11 _ _ _ _ (by decide) hi hm (by have : rkT 11 = 5 := rfl; omega))) (NR_no _ _ _)
    | 11, _, hf2 =>
      have e : rkT 11 = 5 := rfl
      rw [e] at hf2
      rw [pz_e11]
      exact NR_sq (c M 13 _ _ _ _ (by decide) hi hm (by have : rkT 13 = 4 := rfl; omega)) fun j hj hm => NR_if (p2 j hj hm fun j hj hm => NR_am T (fun j hj hm => c (M - 40 - 40) 21 _ _ _ _ (by decide) hj hm (by have : rkT 21 = 4 := rfl; omega)) hj hm) (NR_if (p2 j hj hm fun j hj hm => NR_sq (c2 13 _ _ _ _ (by decide) hj hm) fun j hj hm => NR_em _ hj hm) (NR_em _ hj hm))
    | 13, _, hf2 =>
      have e : rkT 13 = 4 := rfl
      rw [e] at hf2
      rw [pz_e13]
      exact NR_sq (c M 15 _ _ _ _ (by decide) hi hm (by have : rkT 15 = 3 := rfl; omega)) (fun j hj hm => c M 14 _ _ _ _ (by decide) hj hm (by have : rkT 14 = 1 := rfl; omega))
    | 14, _, hf2 =>
      rw [pz_e14]
      exact NR_if (ps fun j hj hm => NR_sq (c2 15 _ _ _ _ (by decide) hj hm) fun j hj hm => NR_sq (NR_em _ hj hm) fun j hj hm => c2 14 _ _ _ _ (by decide) hj hm) (NR_em _ hi hm)
    | 15, _, hf2 =>
      have e : rkT 15 = 3 := rfl
      rw [e] at hf2
      rw [pz_e15]
      exact NR_sq (c M 17 _ _ _ _ (by decide) hi hm (by have : rkT 17 = 2 := rfl; omega)) (fun j hj hm => c M 16 _ _ _ _ (by decide) hj hm (by have : rkT 16 = 1 := rfl; omega))
    | 16, _, hf2 =>
      rw [pz_e16]
      exact NR_if (ps fun j hj hm => NR_sq (c2 17 _ _ _ _ (by decide) hj hm) fun j hj hm => NR_sq (NR_em _ hj hm) fun j hj hm => c2 16 _ _ _ _ (by decide) hj hm) (NR_em _ hi hm)
    | 17, _, hf2 =>
      have e : rkT 17 = 2 := rfl
      rw [e] at hf2
      rw [pz_e17]
      exact NR_if (NR_if (ps fun j hj hm => NR_sq (c2 17 _ _ _ _ (by decide) hj hm) fun j hj hm => NR_em _ hj hm) (c M 18 _ _ _ _ (by decide) hi hm (by have : rkT 18 = 1 := rfl; omega))) (NR_no _ _ _)
    | 18, _, hf2 =>
      rw [pz_e18]
      refine NR_if (ps fun j hj hm => NR_em _ hj hm) ?_
      refine NR_if (ps fun j hj hm => NR_em _ hj hm) ?_
      refine NR_if (NR_on T (fun j hj hm => c2 0 _ _ _ _ (by decide) hj hm) _ _ hi hm) ?_
      refine NR_if (ps fun j hj hm => NR_sq (c2 5 _ _ _ _ (by decide) hj hm) fun j hj hm => NR_m0 T _ hj hm) ?_
      exact NR_if (NR_ca T (fun j hj hm => c2 0 _ _ _ _ (by decide) hj hm) (fun j hj hm => c2 5 _ _ _ _ (by decide) hj hm) hi hm) (NR_no _ _ _)
    | 21, _, hf2 =>
      have e : rkT 21 = 4 := rfl
      rw [e] at hf2
      rw [pz_e21]
      exact NR_sq (c M 0 _ _ _ _ (by decide) hi hm (by have : rkT 0 = 3 := rfl; omega)) (fun j hj hm => c M 22 _ _ _ _ (by decide) hj hm (by have : rkT 22 = 1 := rfl; omega))
    | 22, _, hf2 =>
      rw [pz_e22]
      exact NR_if (ps fun j hj hm => NR_sq (c2 0 _ _ _ _ (by decide) hj hm) fun j hj hm => c2 22 _ _ _ _ (by decide) hj hm) (NR_if (NR_em _ hi hm) (NR_sq (NR_m0 T _ hi hm) fun j hj hm => NR_em _ hj hm))
    | 12, h0, _ | 19, h0, _ | 20, h0, _ => exact absurd rfl h0
    | t + 23, h0, _ =>
      exfalso
      apply h0
      unfold rkT
      rw [List.getD_eq_getElem?_getD, List.getElem?_eq_none (by show 23 ≤ t + 23; omega)]
      rfl
theorem NR_va {s0 : Nat} (T : TK) {f : Nat} (hf : 8100 ≤ f) {i : Nat} (hi : s0 ≤ i) : NR s0 8040 (vaP T s0 f i) := by
  have hm : ((40 * (s0 + 201 - i) : Nat) : Int) ≤ 8040 := by omega
  have c : ∀ t p q d j, rkT t ≠ 0 → rkT t ≤ 9 → s0 ≤ j → NR s0 8040 (pz T s0 f t p q d j) := fun t p q d j h0 h9 hj => NR_w (pz_fuel T s0 f t p q d j h0 hj (by omega)) (by omega)
  unfold vaP
  refine NR_if (NR_sq (NR_ra T hi hm) (fun j hj hm => NR_em _ hj hm)) ?_
  refine NR_if (NR_sq (NR_m0 T _ hi hm) (fun j hj hm => c 21 _ _ _ _ (by decide) (by decide) hj)) ?_
  refine NR_if (NR_sq (NR_p0 T hi hm) (fun j hj hm => NR_em _ hj hm)) ?_
  exact NR_if (NR_sq (NR_p0 T hi hm) (fun j hj hm => NR_em _ hj hm)) (NR_no _ _ _)
theorem NR_pl {s0 : Nat} (T : TK) {f : Nat} (hf : 8100 ≤ f) {g : Int32 → Nat → PR} (hg : ∀ v j, s0 ≤ j → NR s0 8040 (g v j)) {i : Nat} (hi : s0 ≤ i) : NR s0 8040 (plP T s0 f g i) := by
  have hm : ((40 * (s0 + 201 - i) : Nat) : Int) ≤ 8040 := by omega
  have c : ∀ t p q d j, rkT t ≠ 0 → rkT t ≤ 9 → s0 ≤ j → NR s0 8040 (pz T s0 f t p q d j) := fun t p q d j h0 h9 hj => NR_w (pz_fuel T s0 f t p q d j h0 hj (by omega)) (by omega)
  unfold plP
  exact NR_if (NR_sq (NR_p0 T hi hm) fun j hj hm => NR_sq (NR_m0 T _ hj hm) fun j hj hm => NR_sq (NR_em _ hj hm) fun j hj hm => NR_sq (c 0 _ _ _ _ (by decide) (by decide) hj) fun j hj hm => NR_sq (NR_m0 T _ hj hm) fun j hj hm => hg _ j hj) (NR_no _ _ _)
theorem NR_wo {s0 : Nat} (T : TK) {f : Nat} (hf : 8100 ≤ f) {i : Nat} (hi : s0 ≤ i) : NR s0 8040 (woP T s0 f i) := by
  have hm : ((40 * (s0 + 201 - i) : Nat) : Int) ≤ 8040 := by omega
  have c : ∀ t p q d j, rkT t ≠ 0 → rkT t ≤ 9 → s0 ≤ j → NR s0 8040 (pz T s0 f t p q d j) := fun t p q d j h0 h9 hj => NR_w (pz_fuel T s0 f t p q d j h0 hj (by omega)) (by omega)
  have ps : ∀ {F : Nat → PR} j, s0 ≤ j → (∀ j, s0 ≤ j → NR s0 8040 (F j)) → NR s0 8040 (sqP (psP T s0 j) F) := fun j hj h => NR_sq (m := 8040) (NR_p0 T hj (by omega)) (fun j hj hm => h j hj)
  have mu : ∀ {F : Nat → PR} {k : Int32} j, s0 ≤ j → (∀ j, s0 ≤ j → NR s0 8040 (F j)) → NR s0 8040 (sqP (muP T s0 k j) F) := fun j hj h => NR_sq (m := 8040) (NR_m0 T _ hj (by omega)) (fun j hj hm => h j hj)
  have em : ∀ (A : List PA) j, s0 ≤ j → NR s0 8040 (emP A j) := fun A j hj => NR_em A hj (by omega)
  have sq : ∀ {r : PR} {F : Nat → PR}, NR s0 8040 r → (∀ j, s0 ≤ j → NR s0 8040 (F j)) → NR s0 8040 (sqP r F) := fun h1 h => NR_sq h1 (fun j hj hm => h j hj)
  have no : ∀ e, NR s0 8040 (some (.inr e)) := fun e => NR_no _ _ e
  have c0 : ∀ j, s0 ≤ j → NR s0 8040 (pz T s0 f 0 0 0 0 j) := fun j hj => c 0 _ _ _ _ (by decide) (by decide) hj
  unfold woP
  refine NR_if (ps _ hi fun j hj => NR_na T _ hj (by omega)) ?_
  refine NR_if (ps _ hi fun j hj => NR_if (ps _ hj fun j hj => mu _ hj fun j hj => sq (c0 j hj) fun j hj => em _ j hj) (no _)) ?_
  refine NR_if (ps _ hi fun j hj => NR_if (ps _ hj fun j hj => em _ j hj) (no _)) ?_
  refine NR_if (ps _ hi fun j hj => NR_if (ps _ hj fun j hj => mu _ hj fun j hj => NR_if (ps _ hj fun j hj => sq (c0 j hj) fun j hj => em _ j hj) (no _)) (no _)) ?_
  refine NR_if (ps _ hi fun j hj => NR_if (ps _ hj fun j hj => mu _ hj fun j hj => sq (em _ j hj) fun j hj => sq (NR_va T hf hj) fun j hj => em _ j hj) (no _)) ?_
  refine NR_if (ps _ hi fun j hj => NR_pl T hf (fun v j hj => mu _ hj fun j hj => sq (NR_if (ps _ hj fun j hj => em _ j hj) (NR_on (m := 8040) T (fun j hj hm => NR_w (pz_fuel T s0 f 0 0 0 0 j (by decide) hj (by have : rkT 0 = 3 := rfl; omega)) hm) _ _ hj (by omega))) fun j hj => em _ j hj) hj) ?_
  refine NR_if (ps _ hi fun j hj => NR_pl T hf (fun v j hj => mu _ hj fun j hj => sq (c0 j hj) fun j hj => NR_if (ps _ hj fun j hj => NR_pl T hf (fun u j hj => em _ j hj) hj) (no _)) hj) ?_
  refine NR_if (ps _ hi fun j hj => NR_if (ps _ hj fun j hj => mu _ hj fun j hj => sq (em _ j hj) fun j hj => sq (c 21 _ _ _ _ (by decide) (by decide) hj) fun j hj => em _ j hj) (no _)) ?_
  refine NR_if (ps _ hi fun j hj => sq (em _ j hj) fun j hj => sq (c 5 _ _ _ _ (by decide) (by decide) hj) fun j hj => em _ j hj) ?_
  exact no _
/-- a statement is read, or the token is told at which it can't be -/
theorem st_some (T : TK) {s0 : Nat} : stP T s0 8100 s0 ≠ none := by
  have h : NR s0 8040 (stP T s0 8100 s0) := by
    unfold stP
    refine NR_sq (m := 8040) (NR_if ?_ (NR_if (NR_wo T (Nat.le_refl _) (Nat.le_refl _)) (NR_no _ _ _))) (fun j hj hm => NR_m0 T _ hj (by omega))
    exact NR_sq (m := 8040) (NR_p0 T (Nat.le_refl _) (by omega)) fun j hj hm => NR_sq (NR_m0 T _ hj hm) fun j hj hm => NR_sq (NR_em _ hj hm) fun j hj hm => NR_sq (NR_va T (Nat.le_refl _) hj) fun j hj hm => NR_em _ hj hm
  exact h.1
