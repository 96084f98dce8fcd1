/-! PROG 14: how far the grammar goes, and how many acts it leaves -/
set_option maxRecDepth 100000
theorem nuP_app (A B : List PA) : nuP (A ++ B) = nuP A ++ nuP B := List.filterMap_append
theorem nuP_rep (p : Nat) (a v : Int32) : nuP (List.replicate p (a, v, none)) = [] := by
  induction p with
  | zero => rfl
  | succ p ih => rw [List.replicate_succ]; exact ih
def okR (s0 : Nat) (k : Int) (i : Nat) (r : PR) : Prop := ∀ j B, r = some (.inl (j, B)) → i ≤ j ∧ (i ≤ s0 + 200 → j ≤ s0 + 200) ∧ (B.length : Int) + (nuP B).length + 2 * i ≤ 2 * j + k
theorem okR_sq {s0 : Nat} {k k1 k2 : Int} {i : Nat} {r : PR} {f : Nat → PR} (h1 : okR s0 k1 i r) (h2 : ∀ j, okR s0 k2 j (f j)) (hk : k1 + k2 ≤ k) : okR s0 k i (sqP r f) := by
  intro j B h
  unfold sqP at h
  match r, h1, h with
  | none, _, h => cases h
  | some (.inr e), _, h => cases h
  | some (.inl (a, A)), h1, h =>
    have h : (match f a with | none => none | some (.inr e) => some (.inr e) | some (.inl (j, B)) => some (.inl (j, A ++ B)) : PR) = some (.inl (j, B)) := h
    obtain ⟨a1, a2, a3⟩ := h1 a A rfl
    cases hf : f a with
    | none => rw [hf] at h; cases h
    | some x =>
      rw [hf] at h
      cases x with
      | inr e => cases h
      | inl q =>
        obtain ⟨c, C⟩ := q
        cases h
        obtain ⟨b1, b2, b3⟩ := h2 a _ _ hf
        refine ⟨by omega, fun h9 => b2 (a2 h9), ?_⟩
        rw [List.length_append, nuP_app, List.length_append]
        omega
theorem okR_no (s0 : Nat) (k : Int) (i e : Nat) : okR s0 k i (some (.inr e)) := fun j B h => by cases h
theorem okR_none (s0 : Nat) (k : Int) (i : Nat) : okR s0 k i none := fun j B h => by cases h
theorem okR_em {s0 : Nat} {k : Int} (i : Nat) (A : List PA) (hk : (A.length : Int) + (nuP A).length ≤ k) : okR s0 k i (emP A i) := fun j B h => by cases h; exact ⟨Nat.le_refl _, id, by omega⟩
theorem okR_ok {s0 : Nat} {k : Int} (i : Nat) (A : List PA) (hk : (A.length : Int) + (nuP A).length ≤ k) : okR s0 k i (okP i A) := okR_em i A hk
theorem okR_if {s0 : Nat} {k : Int} {i : Nat} {c : Prop} [Decidable c] {a b : PR} (h1 : okR s0 k i a) (h2 : okR s0 k i b) : okR s0 k i (if c then a else b) := by
  split
  · exact h1
  · exact h2
theorem okR_weak {s0 : Nat} {k k1 : Int} {i : Nat} {r : PR} (h : okR s0 k1 i r) (hk : k1 ≤ k) : okR s0 k i r := fun j B e => by have := h j B e; exact ⟨this.1, this.2.1, by omega⟩
theorem okR_ps {s0 : Nat} {k : Int} (T : TK) (i : Nat) (hk : -2 ≤ k) : okR s0 k i (psP T s0 i) := by
  unfold psP
  split
  · rename_i h9
    intro j B h
    cases h
    refine ⟨by omega, fun _ => by omega, ?_⟩
    show ((0 : Nat) : Int) + ((0 : Nat) : Int) + _ ≤ _
    omega
  · exact okR_no _ _ _ _
theorem okR_mu {s0 : Nat} {k : Int} (T : TK) (c : Int32) (i : Nat) (hk : -2 ≤ k) : okR s0 k i (muP T s0 c i) := okR_if (okR_ps T i hk) (okR_no _ _ _ _)
theorem okR_na {s0 : Nat} {k : Int} (T : TK) (f : Int32 → List PA) (i : Nat) (hk : ∀ v, ((f v).length : Int) + (nuP (f v)).length - 2 ≤ k) : okR s0 k i (naP T s0 f i) := okR_if (okR_sq (k2 := k + 2) (okR_ps T i (Int.le_refl _)) (fun j => okR_em j _ (by have := hk (i3 (tP T i)); omega)) (by omega)) (okR_no _ _ _ _)
theorem okR_bo {s0 : Nat} (T : TK) (i : Nat) : okR s0 0 i (boP T s0 i) := by
  have hn : ∀ v : Int32, ∀ c : Int32, (([(9, v, none), (c, 0, none)] : List PA).length : Int) + (nuP [(9, v, none), (c, 0, none)]).length - 2 ≤ 0 := fun v c => by show ((2 : Nat) : Int) + ((0 : Nat) : Int) - 2 ≤ 0; decide
  unfold boP
  refine okR_if (okR_sq (k2 := 0) (okR_ps T i (Int.le_refl _)) (fun j => okR_if (okR_sq (k2 := 2) (okR_ps T j (Int.le_refl _)) (fun j => okR_em j _ (by simp [nuP])) (by decide)) (okR_na T _ j (fun v => hn v 1))) (by decide)) (okR_if (okR_sq (k2 := 2) (okR_ps T i (Int.le_refl _)) (fun j => okR_em j _ (by simp [nuP])) (by decide)) (okR_na T _ i (fun v => hn v 0)))
theorem okR_ra {s0 : Nat} (T : TK) (i : Nat) : okR s0 (-6) i (raP T s0 i) := okR_sq (k2 := -4) (okR_mu T _ i (Int.le_refl _)) (fun i => okR_sq (k2 := -4) (okR_bo T i) (fun i => okR_sq (k2 := -2) (okR_mu T _ i (Int.le_refl _)) (fun i => okR_sq (k2 := -2) (okR_bo T i) (fun i => okR_mu T _ i (Int.le_refl _)) (by decide)) (by decide)) (by decide)) (by decide)
theorem okR_on {s0 : Nat} (T : TK) {con : Nat → PR} (hc : ∀ i, okR s0 (-1) i (con i)) (a b : Int32) (i : Nat) : okR s0 (-1) i (onP T s0 con a b i) := by
  unfold onP
  refine okR_if (okR_sq (k2 := 1) (okR_ps T i (Int.le_refl _)) (fun j => okR_if (okR_sq (k2 := 0) (okR_ps T j (Int.le_refl _)) (fun j => okR_sq (k2 := 0) (hc j) (fun j => okR_sq (k2 := 1) (okR_mu T _ j (Int.le_refl _)) (fun j => okR_em j _ (by simp [nuP])) (by decide)) (by decide)) (by decide)) (okR_ok j _ (by simp [nuP]))) (by decide)) (okR_no _ _ _ _)
theorem okR_ca {s0 : Nat} (T : TK) {con ex : Nat → PR} (hc : ∀ i, okR s0 (-1) i (con i)) (he : ∀ i, okR s0 0 i (ex i)) (i : Nat) : okR s0 (-1) i (caP T s0 con ex i) := by
  have m : ∀ c i, okR s0 (-2) i (muP T s0 c i) := fun c i => okR_mu T c i (Int.le_refl _)
  unfold caP
  refine okR_if (okR_sq (k2 := 1) (okR_ps T i (Int.le_refl _)) (fun j => okR_em j _ (by simp [nuP])) (by decide)) ?_
  refine okR_if (okR_sq (k2 := 1) (okR_ps T i (Int.le_refl _)) (fun j => okR_sq (k2 := 1) (m _ j) (fun j => okR_sq (k2 := 1) (he j) (fun j => okR_sq (k2 := 1) (m _ j) (fun j => okR_em j _ (by simp [nuP])) (by decide)) (by decide)) (by decide)) (by decide)) ?_
  refine okR_if (okR_sq (k2 := 1) (okR_ps T i (Int.le_refl _)) (fun j => okR_sq (k2 := 1) (m _ j) (fun j => okR_sq (k2 := 1) (he j) (fun j => okR_sq (k2 := 1) (m _ j) (fun j => okR_sq (k2 := 1) (he j) (fun j => okR_sq (k2 := 1) (m _ j) (fun j => okR_em j _ (by simp [nuP])) (by decide)) (by decide)) (by decide)) (by decide)) (by decide)) (by decide)) ?_
  refine okR_if (okR_sq (k2 := 1) (okR_ps T i (Int.le_refl _)) (fun j => okR_sq (k2 := 1) (m _ j) (fun j => okR_sq (k2 := 1) (he j) (fun j => okR_sq (k2 := 1) (m _ j) (fun j => okR_sq (k2 := 1) (he j) (fun j => okR_sq (k2 := 1) (m _ j) (fun j => okR_sq (k2 := 1) (he j) (fun j => okR_sq (k2 := 1) (m _ j) (fun j => okR_em j _ (by simp [nuP])) (by decide)) (by decide)) (by decide)) (by decide)) (by decide)) (by decide)) (by decide)) (by decide)) ?_
  refine okR_if (okR_sq (k2 := 0) (okR_ps T i (Int.le_refl _)) (fun j => okR_sq (k2 := 0) (m _ j) (fun j => okR_sq (k1 := 0) (k2 := 0) (okR_na T _ j (fun v => by show ((2 : Nat) : Int) + ((0 : Nat) : Int) - 2 ≤ 0; decide)) (fun j => okR_mu T _ j (by decide)) (by decide)) (by decide)) (by decide)) ?_
  refine okR_if (okR_sq (k2 := 1) (okR_ps T i (Int.le_refl _)) (fun j => okR_sq (k2 := 1) (m _ j) (fun j => okR_if (okR_sq (k2 := 2) (okR_ps T j (Int.le_refl _)) (fun j => okR_sq (k1 := 1) (k2 := 1) (okR_em j _ (by simp [nuP])) (fun j => okR_sq (k2 := 1) (m _ j) (fun j => okR_sq (k2 := 1) (hc j) (fun j => okR_sq (k2 := 1) (m _ j) (fun j => okR_em j _ (by simp [nuP])) (by decide)) (by decide)) (by decide)) (by decide)) (by decide)) (okR_no _ _ _ _)) (by decide)) (by decide)) ?_
  exact okR_no _ _ _ _
theorem okR_am {s0 : Nat} (T : TK) {cons : Nat → PR} (hc : ∀ i, okR s0 0 i (cons i)) (i : Nat) : okR s0 0 i (amP T s0 cons i) := by
  unfold amP
  refine okR_if (okR_sq (k2 := 1) (okR_ra T i) (fun j => okR_em j _ (by simp [nuP])) (by decide)) ?_
  refine okR_if (okR_sq (k2 := 1) (okR_ps T i (Int.le_refl _)) (fun j => okR_em j _ (by simp [nuP])) (by decide)) ?_
  exact okR_sq (k2 := 0) (okR_mu T _ i (Int.le_refl _)) (fun j => hc j) (by decide)
theorem pz_e0 (T : TK) (s0 f p : Nat) (q : Int32) (d i : Nat) : pz T s0 (f + 1) 0 p q d i = if d < 24 then sqP (pz T s0 f 2 0 0 (d + 1) i) (pz T s0 f 1 0 0 (d + 1)) else some (.inr i) := rfl
theorem pz_e1 (T : TK) (s0 f p : Nat) (q : Int32) (d i : Nat) : pz T s0 (f + 1) 1 p q d i = if isS T 43 i = true ∨ isS T 45 i = true then sqP (psP T s0 i) fun j => sqP (pz T s0 f 2 0 0 d j) fun j => sqP (emP [(if tC T i = 43 then 3 else 4, 0, none)] j) (pz T s0 f 1 0 0 d) else okP i [] := rfl
theorem pz_e2 (T : TK) (s0 f p : Nat) (q : Int32) (d i : Nat) : pz T s0 (f + 1) 2 p q d i = sqP (pz T s0 f 4 0 0 d i) (pz T s0 f 3 0 0 d) := rfl
theorem pz_e3 (T : TK) (s0 f p : Nat) (q : Int32) (d i : Nat) : pz T s0 (f + 1) 3 p q d i = if isS T 42 i = true ∨ isS T 47 i = true ∨ isS T 37 i = true then sqP (psP T s0 i) fun j => sqP (pz T s0 f 4 0 0 d j) fun j => sqP (emP [(if tC T i = 42 then 5 else if tC T i = 47 then 6 else 7, 0, none)] j) (pz T s0 f 3 0 0 d) else okP i [] := rfl
theorem pz_e4 (T : TK) (s0 f p : Nat) (q : Int32) (d i : Nat) : pz T s0 (f + 1) 4 p q d i = if isS T 45 i = true then sqP (psP T s0 i) (pz T s0 f 4 (p + 1) 0 d) else if tK T i = 3 then (if wholeN T i = true then sqP (psP T s0 i) (emP ((0, FP.d2i (tV T i), none) :: List.replicate p (2, 0, none))) else some (.inr i)) else if isS T 40 i = true then sqP (psP T s0 i) fun j => sqP (pz T s0 f 0 0 0 d j) fun j => sqP (muP T s0 41 j) (emP (List.replicate p (2, 0, none))) else naP T s0 (fun v => (1, v, none) :: List.replicate p (2, 0, none)) i := rfl
theorem pz_e5 (T : TK) (s0 f p : Nat) (q : Int32) (d i : Nat) : pz T s0 (f + 1) 5 p q d i = if d < 24 then sqP (pz T s0 f 6 0 0 (d + 1) i) (fun j => if isS T 259 j = true then sqP (psP T s0 j) fun k => sqP (pz T s0 f 5 0 0 (d + 1) k) (emP [(27, 259, none)]) else okP j []) else some (.inr i) := rfl
theorem pz_e6 (T : TK) (s0 f p : Nat) (q : Int32) (d i : Nat) : pz T s0 (f + 1) 6 p q d i = sqP (pz T s0 f 8 0 0 d i) (pz T s0 f 7 0 0 d) := rfl
theorem pz_e7 (T : TK) (s0 f p : Nat) (q : Int32) (d i : Nat) : pz T s0 (f + 1) 7 p q d i = if isW T 20 i = true then sqP (psP T s0 i) fun j => sqP (pz T s0 f 8 0 0 d j) fun j => sqP (emP [(27, 124, none)] j) (pz T s0 f 7 0 0 d) else okP i [] := rfl
theorem pz_e8 (T : TK) (s0 f p : Nat) (q : Int32) (d i : Nat) : pz T s0 (f + 1) 8 p q d i = sqP (pz T s0 f 10 0 0 d i) (pz T s0 f 9 0 0 d) := rfl
theorem pz_e9 (T : TK) (s0 f p : Nat) (q : Int32) (d i : Nat) : pz T s0 (f + 1) 9 p q d i = if isW T 2 i = true then sqP (psP T s0 i) fun j => sqP (pz T s0 f 10 0 0 d j) fun j => sqP (emP [(27, 38, none)] j) (pz T s0 f 9 0 0 d) else okP i [] := rfl
theorem pz_e10 (T : TK) (s0 f p : Nat) (q : Int32) (d i : Nat) : pz T s0 (f + 1) 10 p q d i = if d < 24 then (if isW T 19 i = true then sqP (psP T s0 i) fun j => sqP (pz T s0 f 10 0 0 (d + 1) j) (emP [(28, 0, none)]) else pz T s0 f 11 0 0 (d + 1) i) else some (.inr i) := rfl
theorem pz_e11 (T : TK) (s0 f p : Nat) (q : Int32) (d i : Nat) : pz T s0 (f + 1) 11 p q d i = sqP (pz T s0 f 13 0 0 d i) fun j => if isW T 12 j = true then sqP (psP T s0 j) (amP T s0 (pz T s0 f 21 0 33 d)) else if isCmp T j = true then sqP (psP T s0 j) fun k => sqP (pz T s0 f 13 0 0 d k) (emP [(27, tC T j, none)]) else okP j [] := rfl
theorem pz_e13 (T : TK) (s0 f p : Nat) (q : Int32) (d i : Nat) : pz T s0 (f + 1) 13 p q d i = sqP (pz T s0 f 15 0 0 d i) (pz T s0 f 14 0 0 d) := rfl
theorem pz_e14 (T : TK) (s0 f p : Nat) (q : Int32) (d i : Nat) : pz T s0 (f + 1) 14 p q d i = if isS T 43 i = true ∨ isS T 45 i = true then sqP (psP T s0 i) fun j => sqP (pz T s0 f 15 0 0 d j) fun j => sqP (emP [(27, tC T i, none)] j) (pz T s0 f 14 0 0 d) else okP i [] := rfl
theorem pz_e15 (T : TK) (s0 f p : Nat) (q : Int32) (d i : Nat) : pz T s0 (f + 1) 15 p q d i = sqP (pz T s0 f 17 0 0 d i) (pz T s0 f 16 0 0 d) := rfl
theorem pz_e16 (T : TK) (s0 f p : Nat) (q : Int32) (d i : Nat) : pz T s0 (f + 1) 16 p q d i = if isS T 42 i = true ∨ isS T 47 i = true then sqP (psP T s0 i) fun j => sqP (pz T s0 f 17 0 0 d j) fun j => sqP (emP [(27, tC T i, none)] j) (pz T s0 f 16 0 0 d) else okP i [] := rfl
theorem pz_e17 (T : TK) (s0 f p : Nat) (q : Int32) (d i : Nat) : pz T s0 (f + 1) 17 p q d i = if d < 24 then (if isS T 45 i = true then sqP (psP T s0 i) fun j => sqP (pz T s0 f 17 0 0 (d + 1) j) (emP [(25, 0, none)]) else pz T s0 f 18 0 0 (d + 1) i) else some (.inr i) := rfl
theorem pz_e18 (T : TK) (s0 f p : Nat) (q : Int32) (d i : Nat) : pz T s0 (f + 1) 18 p q d i = if tK T i = 3 then sqP (psP T s0 i) (emP [(20, 0, some (tV T i))]) else if tK T i = 4 then sqP (psP T s0 i) (emP [(22, i3 (tP T i), none)]) else if tK T i = 1 then onP T s0 (pz T s0 f 0 0 0 d) 23 24 i else if isS T 40 i = true then sqP (psP T s0 i) fun j => sqP (pz T s0 f 5 0 0 d j) (muP T s0 41) else if tK T i = 2 then caP T s0 (pz T s0 f 0 0 0 d) (pz T s0 f 5 0 0 d) i else some (.inr i) := rfl
theorem pz_e21 (T : TK) (s0 f p : Nat) (q : Int32) (d i : Nat) : pz T s0 (f + 1) 21 p q d i = sqP (pz T s0 f 0 0 0 d i) (pz T s0 f 22 1 q d) := rfl
theorem pz_e22 (T : TK) (s0 f p : Nat) (q : Int32) (d i : Nat) : pz T s0 (f + 1) 22 p q d i = if isS T 44 i = true then sqP (psP T s0 i) fun j => sqP (pz T s0 f 0 0 0 d j) (pz T s0 f 22 (p + 1) q d) else if q = 51 then okP i [(51, i3 p, none)] else sqP (muP T s0 125 i) (emP [(q, i3 p, none)]) := rfl

def kT (t p : Nat) : Int := if t = 1 ∨ t = 3 ∨ t = 7 ∨ t = 9 ∨ t = 14 ∨ t = 16 ∨ t = 21 then 0 else if t = 22 then 1 else if t = 4 then (p : Int) - 1 else if t = 0 ∨ t = 2 then -1 else 0
theorem pz_len (T : TK) (s0 : Nat) : ∀ f t p q d i, okR s0 (kT t p) i (pz T s0 f t p q d i) := by
  intro f
  induction f with
  | zero => intro t p q d i; exact okR_none _ _ _
  | succ f ih =>
    intro t p q d i
    have ps : ∀ i, okR s0 (-2) i (psP T s0 i) := fun i => okR_ps T i (Int.le_refl _)
    have m : ∀ c i, okR s0 (-2) i (muP T s0 c i) := fun c i => okR_mu T c i (Int.le_refl _)
    have c0 : ∀ d i, okR s0 (-1) i (pz T s0 f 0 0 0 d i) := fun d i => ih 0 0 0 d i
    have c1 : ∀ d i, okR s0 0 i (pz T s0 f 1 0 0 d i) := fun d i => ih 1 0 0 d i
    have c2 : ∀ d i, okR s0 (-1) i (pz T s0 f 2 0 0 d i) := fun d i => ih 2 0 0 d i
    have c3 : ∀ d i, okR s0 0 i (pz T s0 f 3 0 0 d i) := fun d i => ih 3 0 0 d i
    have c4 : ∀ (p d i : Nat), okR s0 ((p : Int) - 1) i (pz T s0 f 4 p 0 d i) := fun p d i => ih 4 p 0 d i
    have c40 : ∀ d i, okR s0 (-1) i (pz T s0 f 4 0 0 d i) := fun d i => ih 4 0 0 d i
    have c5 : ∀ d i, okR s0 0 i (pz T s0 f 5 0 0 d i) := fun d i => ih 5 0 0 d i
    have c6 : ∀ d i, okR s0 0 i (pz T s0 f 6 0 0 d i) := fun d i => ih 6 0 0 d i
    have c7 : ∀ d i, okR s0 0 i (pz T s0 f 7 0 0 d i) := fun d i => ih 7 0 0 d i
    have c8 : ∀ d i, okR s0 0 i (pz T s0 f 8 0 0 d i) := fun d i => ih 8 0 0 d i
    have c9 : ∀ d i, okR s0 0 i (pz T s0 f 9 0 0 d i) := fun d i => ih 9 0 0 d i
    have c10 : ∀ d i, okR s0 0 i (pz T s0 f 10 0 0 d i) := fun d i => ih 10 0 0 d i
    have c11 : ∀ d i, okR s0 0 i (pz T s0 f 11 0 0 d i) := fun d i => ih 11 0 0 d i
    have c13 : ∀ d i, okR s0 0 i (pz T s0 f 13 0 0 d i) := fun d i => ih 13 0 0 d i
    have c14 : ∀ d i, okR s0 0 i (pz T s0 f 14 0 0 d i) := fun d i => ih 14 0 0 d i
    have c15 : ∀ d i, okR s0 0 i (pz T s0 f 15 0 0 d i) := fun d i => ih 15 0 0 d i
    have c16 : ∀ d i, okR s0 0 i (pz T s0 f 16 0 0 d i) := fun d i => ih 16 0 0 d i
    have c17 : ∀ d i, okR s0 0 i (pz T s0 f 17 0 0 d i) := fun d i => ih 17 0 0 d i
    have c18 : ∀ d i, okR s0 0 i (pz T s0 f 18 0 0 d i) := fun d i => ih 18 0 0 d i
    have c21 : ∀ q d i, okR s0 0 i (pz T s0 f 21 0 q d i) := fun q d i => ih 21 0 q d i
    have c22 : ∀ p q d i, okR s0 1 i (pz T s0 f 22 p q d i) := fun p q d i => ih 22 p q d i
    match t with
    | 0 =>
      show okR s0 (-1) i (pz T s0 (f + 1) 0 p q d i)
      rw [pz_e0]
      exact okR_if (okR_sq (k2 := 0) (c2 _ _) (fun j => c1 _ j) (by decide)) (okR_no _ _ _ _)
    | 1 =>
      show okR s0 0 i (pz T s0 (f + 1) 1 p q d i)
      rw [pz_e1]
      exact okR_if (okR_sq (k2 := 1) (ps _) (fun j => okR_sq (k2 := 1) (c2 _ j) (fun j => okR_sq (k1 := 1) (k2 := 0) (okR_em j _ (by simp [nuP])) (fun j => c1 _ j) (by decide)) (by decide)) (by decide)) (okR_ok _ _ (by decide))
    | 2 =>
      show okR s0 (-1) i (pz T s0 (f + 1) 2 p q d i)
      rw [pz_e2]
      exact okR_sq (k2 := 0) (c40 _ _) (fun j => c3 _ j) (by decide)
    | 3 =>
      show okR s0 0 i (pz T s0 (f + 1) 3 p q d i)
      rw [pz_e3]
      exact okR_if (okR_sq (k2 := 1) (ps _) (fun j => okR_sq (k2 := 1) (c40 _ j) (fun j => okR_sq (k1 := 1) (k2 := 0) (okR_em j _ (by simp [nuP])) (fun j => c3 _ j) (by decide)) (by decide)) (by decide)) (okR_ok _ _ (by decide))
    | 4 =>
      show okR s0 ((p : Int) - 1) i (pz T s0 (f + 1) 4 p q d i)
      rw [pz_e4]
      refine okR_if (okR_sq (k2 := (p : Int)) (ps _) (fun j => by have := c4 (p + 1) d j; rw [Int.natCast_add] at this; intro j' B' h'; have := this j' B' h'; refine ⟨this.1, this.2.1, by have := this.2.2; omega⟩) (by omega)) ?_
      refine okR_if (okR_if (okR_sq (k2 := (p : Int) + 1) (ps _) (fun j => okR_em j _ (by show (((0, FP.d2i (tV T i), none) :: List.replicate p (2, 0, none) : List PA).length : Int) + (nuP (List.replicate p (2, 0, none))).length ≤ _; rw [nuP_rep, List.length_cons, List.length_replicate, List.length_nil]; omega)) (by omega)) (okR_no _ _ _ _)) ?_
      refine okR_if (okR_sq (k2 := (p : Int)) (ps _) (fun j => okR_sq (k2 := (p : Int)) (c0 _ j) (fun j => okR_sq (k2 := (p : Int)) (m _ j) (fun j => okR_em j _ (by rw [nuP_rep, List.length_replicate, List.length_nil]; omega)) (by omega)) (by omega)) (by omega)) ?_
      exact okR_na T _ _ (fun v => by show (((1, v, none) :: List.replicate p (2, 0, none) : List PA).length : Int) + (nuP (List.replicate p (2, 0, none))).length - 2 ≤ _; rw [nuP_rep, List.length_cons, List.length_replicate, List.length_nil]; omega)
    | 5 =>
      show okR s0 0 i (pz T s0 (f + 1) 5 p q d i)
      rw [pz_e5]
      exact okR_if (okR_sq (k2 := 0) (c6 _ _) (fun j => okR_if (okR_sq (k2 := 1) (ps _) (fun k => okR_sq (k2 := 1) (c5 _ k) (fun j => okR_em j _ (by simp [nuP])) (by decide)) (by decide)) (okR_ok _ _ (by decide))) (by decide)) (okR_no _ _ _ _)
    | 6 =>
      show okR s0 0 i (pz T s0 (f + 1) 6 p q d i)
      rw [pz_e6]
      exact okR_sq (k2 := 0) (c8 _ _) (fun j => c7 _ j) (by decide)
    | 7 =>
      show okR s0 0 i (pz T s0 (f + 1) 7 p q d i)
      rw [pz_e7]
      exact okR_if (okR_sq (k2 := 1) (ps _) (fun j => okR_sq (k2 := 1) (c8 _ j) (fun j => okR_sq (k1 := 1) (k2 := 0) (okR_em j _ (by simp [nuP])) (fun j => c7 _ j) (by decide)) (by decide)) (by decide)) (okR_ok _ _ (by decide))
    | 8 =>
      show okR s0 0 i (pz T s0 (f + 1) 8 p q d i)
      rw [pz_e8]
      exact okR_sq (k2 := 0) (c10 _ _) (fun j => c9 _ j) (by decide)
    | 9 =>
      show okR s0 0 i (pz T s0 (f + 1) 9 p q d i)
      rw [pz_e9]
      exact okR_if (okR_sq (k2 := 1) (ps _) (fun j => okR_sq (k2 := 1) (c10 _ j) (fun j => okR_sq (k1 := 1) (k2 := 0) (okR_em j _ (by simp [nuP])) (fun j => c9 _ j) (by decide)) (by decide)) (by decide)) (okR_ok _ _ (by decide))
    | 10 =>
      show okR s0 0 i (pz T s0 (f + 1) 10 p q d i)
      rw [pz_e10]
      exact okR_if (okR_if (okR_sq (k2 := 1) (ps _) (fun j => okR_sq (k2 := 1) (c10 _ j) (fun j => okR_em j _ (by simp [nuP])) (by decide)) (by decide)) (c11 _ _)) (okR_no _ _ _ _)
    | 11 =>
      show okR s0 0 i (pz T s0 (f + 1) 11 p q d i)
      rw [pz_e11]
      exact okR_sq (k2 := 0) (c13 _ _) (fun j => okR_if (okR_sq (k2 := 1) (ps _) (fun j => okR_weak (okR_am T (fun i => c21 _ _ i) j) (by decide)) (by decide)) (okR_if (okR_sq (k2 := 1) (ps _) (fun k => okR_sq (k2 := 1) (c13 _ k) (fun j => okR_em j _ (by simp [nuP])) (by decide)) (by decide)) (okR_ok _ _ (by decide)))) (by decide)
    | 13 =>
      show okR s0 0 i (pz T s0 (f + 1) 13 p q d i)
      rw [pz_e13]
      exact okR_sq (k2 := 0) (c15 _ _) (fun j => c14 _ j) (by decide)
    | 14 =>
      show okR s0 0 i (pz T s0 (f + 1) 14 p q d i)
      rw [pz_e14]
      exact okR_if (okR_sq (k2 := 1) (ps _) (fun j => okR_sq (k2 := 1) (c15 _ j) (fun j => okR_sq (k1 := 1) (k2 := 0) (okR_em j _ (by simp [nuP])) (fun j => c14 _ j) (by decide)) (by decide)) (by decide)) (okR_ok _ _ (by decide))
    | 15 =>
      show okR s0 0 i (pz T s0 (f + 1) 15 p q d i)
      rw [pz_e15]
      exact okR_sq (k2 := 0) (c17 _ _) (fun j => c16 _ j) (by decide)
    | 16 =>
      show okR s0 0 i (pz T s0 (f + 1) 16 p q d i)
      rw [pz_e16]
      exact okR_if (okR_sq (k2 := 1) (ps _) (fun j => okR_sq (k2 := 1) (c17 _ j) (fun j => okR_sq (k1 := 1) (k2 := 0) (okR_em j _ (by simp [nuP])) (fun j => c16 _ j) (by decide)) (by decide)) (by decide)) (okR_ok _ _ (by decide))
    | 17 =>
      show okR s0 0 i (pz T s0 (f + 1) 17 p q d i)
      rw [pz_e17]
      exact okR_if (okR_if (okR_sq (k2 := 1) (ps _) (fun j => okR_sq (k2 := 1) (c17 _ j) (fun j => okR_em j _ (by simp [nuP])) (by decide)) (by decide)) (c18 _ _)) (okR_no _ _ _ _)
    | 18 =>
      show okR s0 0 i (pz T s0 (f + 1) 18 p q d i)
      rw [pz_e18]
      refine okR_if (okR_sq (k2 := 2) (ps _) (fun j => okR_em j _ (by simp [nuP])) (by decide)) ?_
      refine okR_if (okR_sq (k2 := 1) (ps _) (fun j => okR_em j _ (by simp [nuP])) (by decide)) ?_
      refine okR_if (okR_weak (okR_on T (fun i => c0 _ i) _ _ _) (by decide)) ?_
      refine okR_if (okR_sq (k2 := 1) (ps _) (fun j => okR_sq (k2 := 1) (c5 _ j) (fun j => okR_mu T _ j (by decide)) (by decide)) (by decide)) ?_
      exact okR_if (okR_weak (okR_ca T (fun i => c0 _ i) (fun i => c5 _ i) _) (by decide)) (okR_no _ _ _ _)
    | 21 =>
      show okR s0 0 i (pz T s0 (f + 1) 21 p q d i)
      rw [pz_e21]
      exact okR_sq (k2 := 1) (c0 _ _) (fun j => c22 _ _ _ j) (by decide)
    | 22 =>
      show okR s0 1 i (pz T s0 (f + 1) 22 p q d i)
      rw [pz_e22]
      exact okR_if (okR_sq (k2 := 1) (ps _) (fun j => okR_sq (k2 := 1) (c0 _ j) (fun j => c22 _ _ _ j) (by decide)) (by decide)) (okR_if (okR_ok _ _ (by simp [nuP])) (okR_sq (k2 := 1) (m _ _) (fun j => okR_em j _ (by simp [nuP])) (by decide)))
    | 12 | 19 | 20 | t + 23 => exact okR_none _ _ _
