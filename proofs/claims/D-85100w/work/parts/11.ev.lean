/-! EVALUATION OF METHODS by number, with a budget of locals' words -/
set_option maxRecDepth 100000
/-- 1: methods that the machine runs by an entry that asks StrictMath; 2: methods that it runs by another entry -/
def ovk (k : Nat) : Nat := if k = 214 ∨ k = 218 ∨ k = 279 then 1 else if k = 1 ∨ k = 258 ∨ k = 259 ∨ k = 281 ∨ k = 282 ∨ k = 285 then 2 else 0
/-- the words of a method's frame, and what its operand stack may hold beside -/
def cost0 (k : Nat) : Nat := mlc (mt k) + 19
/-- beside it the words that are reckoned for a native's frame -/
def cost (k : Nat) : Nat := mlc (mt k) + 19 + (if ovk k = 1 then 1024 else 0)
theorem cost_pos (k : Nat) : 0 < cost k := by unfold cost; omega
theorem cost_le (k : Nat) : cost0 k ≤ cost k := Nat.le_add_right _ _
theorem cost_eq {k : Nat} (h : ovk k = 0) : cost k = cost0 k := by
  unfold cost cost0
  rw [h]
  rfl
def ovG (n : Nat) (o : Option Res) : Option Res := match n, o with
  | 0, o => o
  | 1, some (.inl v, h) => some (.inl v, h)
  | _, _ => none
theorem ovG_sub {n : Nat} {o : Option Res} {r : Res} (h : ovG n o = some r) : o = some r := by
  unfold ovG at h
  split at h
  · exact h
  · exact h
  · cases h
theorem ovG_2 {n : Nat} {o : Option Res} {r : Res} (h : ovG n o = some r) : n = 0 ∨ n = 1 ∧ ∃ v, r.1 = .inl v := by
  unfold ovG at h
  split at h
  · exact Or.inl rfl
  · cases h; exact Or.inr ⟨rfl, _, rfl⟩
  · cases h
noncomputable def evM (w : Nat) (k : Nat) (as : SK) (h : Hp) : Option Res :=
  if hw : w < cost k ∨ mlc (mt k) < wds as then none else ovG (ovk k) <| evq (fun k' as' h' => evM (w - cost k) k' as' h') (w - cost k) (mt k) (0, lent 0 as, [], h)
termination_by w
decreasing_by
  have := cost_pos k
  have h1 : ¬ w < cost k := fun h => hw (Or.inl h)
  omega
noncomputable def ev (w : Nat) (M : MT) (pc : Nat) (ls : LcS) (st : SK) (h : Hp) : Option Res := evq (evM w) w M (pc, ls, st, h)
theorem evM_ov {w k : Nat} (hw : cost k ≤ w) {as : SK} (hf : wds as ≤ mlc (mt k)) (h : Hp) : evM w k as h = ovG (ovk k) (ev (w - cost k) (mt k) 0 (lent 0 as) [] h) := by
  rw [evM, dif_neg (by omega)]
  rfl
theorem evM_eq {w k : Nat} (hw : cost k ≤ w) {as : SK} (hf : wds as ≤ mlc (mt k)) (h : Hp) (ho : ovk k = 0 := by decide) : evM w k as h = ev (w - cost k) (mt k) 0 (lent 0 as) [] h := by
  rw [evM_ov hw hf, ho]
  rfl
theorem evM_none {w k : Nat} {as : SK} (hw : w < cost k ∨ mlc (mt k) < wds as) (h : Hp) : evM w k as h = none := by
  rw [evM, dif_pos hw]
noncomputable def fin (w : Nat) (M : MT) (o : Option Nxt) : Option Res := nxt (evq (evM w) w M) o
noncomputable def cont (w : Nat) (M : MT) (pc : Nat) (ls : LcS) (o : Option Act) : Option Res := fin w M (stp (evM w) M pc ls o)
noncomputable def hdk (w : Nat) (M : MT) (ls : LcS) (x : Nat) (h : Hp) (o : Option (Option Nat)) : Option Res := match o with
  | none => none
  | some none => some (.inr x, h)
  | some (some t) => ev w M t ls [.ref x] h
noncomputable def aftE (w : Nat) (M : MT) (pc : Nat) (ls : LcS) (rest : SK) (len : Nat) (o : Option Res) : Option Res := fin w M (aft M pc ls rest len o)
theorem fin_hnd (w : Nat) (M : MT) (pc : Nat) (ls : LcS) (x : Nat) (h : Hp) : fin w M (hnd M pc ls x h) = hdk w M ls x h (hfd (mhh M) pc (kd h x).1) := by
  unfold hnd hdk fin
  cases hfd (mhh M) pc (kd h x).1 with
  | none => rfl
  | some o => cases o <;> rfl
theorem ev_at {w : Nat} {M : MT} {pc : Nat} {i : Instr} {n : Nat} (d : decode (mcd M) pc = .ok (i, n)) (hn : iln i = n ∨ iln i = 0 := by first | exact Or.inl rfl | exact Or.inr rfl) (ls : LcS) (st : SK) (h : Hp) : ev w M pc ls st h = cont w M pc ls (exI w M pc i ls st h) := by
  unfold ev
  rw [evq_eq]
  have e : one (evM w) w M (pc, ls, st, h) = stp (evM w) M pc ls (exI w M pc i ls st h) := by
    unfold one
    show (match decode (mcd M) pc with | .ok (i, n) => _ | .error _ => none) = _
    rw [d]
    exact if_pos hn
  rw [e]
  rfl
theorem cont_go (w : Nat) (M : MT) (pc : Nat) (ls : LcS) (pc' : Nat) (ls' : LcS) (st : SK) (h : Hp) : cont w M pc ls (go pc' ls' st h) = ev w M pc' ls' st h := rfl
theorem cont_rt (w : Nat) (M : MT) (pc : Nat) (ls : LcS) (v : Option Value) (h : Hp) : cont w M pc ls (rt v h) = some (.inl v, h) := rfl
theorem cont_th (w : Nat) (M : MT) (pc : Nat) (ls : LcS) (x : Nat) (h : Hp) : cont w M pc ls (th x h) = hdk w M ls x h (hfd (mhh M) pc (kd h x).1) := fin_hnd w M pc ls x h
theorem cont_cal (w : Nat) (M : MT) (pc : Nat) (ls : LcS) (k : Nat) (as rest : SK) (len : Nat) (h : Hp) : cont w M pc ls (cal k as rest len h) = aftE w M pc ls rest len (evM w k as h) := rfl
theorem cont_none (w : Nat) (M : MT) (pc : Nat) (ls : LcS) : cont w M pc ls none = none := rfl
theorem cont_ite (w : Nat) (M : MT) (pc : Nat) (ls : LcS) (c : Prop) [Decidable c] (a b : Option Act) : cont w M pc ls (if c then a else b) = if c then cont w M pc ls a else cont w M pc ls b := by split <;> rfl
theorem aftE_v (w : Nat) (M : MT) (pc : Nat) (ls : LcS) (rest : SK) (len : Nat) (v : Value) (h : Hp) : aftE w M pc ls rest len (some (.inl (some v), h)) = ev w M (pc + len) ls (v :: rest) h := rfl
theorem aftE_0 (w : Nat) (M : MT) (pc : Nat) (ls : LcS) (rest : SK) (len : Nat) (h : Hp) : aftE w M pc ls rest len (some (.inl none, h)) = ev w M (pc + len) ls rest h := rfl
theorem aftE_x (w : Nat) (M : MT) (pc : Nat) (ls : LcS) (rest : SK) (len x : Nat) (h : Hp) : aftE w M pc ls rest len (some (.inr x, h)) = hdk w M ls x h (hfd (mhh M) pc (kd h x).1) := fin_hnd w M pc ls x h
theorem aftE_none (w : Nat) (M : MT) (pc : Nat) (ls : LcS) (rest : SK) (len : Nat) : aftE w M pc ls rest len none = none := rfl
theorem aftE_ite (w : Nat) (M : MT) (pc : Nat) (ls : LcS) (rest : SK) (len : Nat) (c : Prop) [Decidable c] (a b : Option Res) : aftE w M pc ls rest len (if c then a else b) = if c then aftE w M pc ls rest len a else aftE w M pc ls rest len b := by split <;> rfl
theorem hdk_h (w : Nat) (M : MT) (ls : LcS) (x : Nat) (h : Hp) (t : Nat) : hdk w M ls x h (some (some t)) = ev w M t ls [.ref x] h := rfl
theorem hdk_0 (w : Nat) (M : MT) (ls : LcS) (x : Nat) (h : Hp) : hdk w M ls x h (some none) = some (.inr x, h) := rfl
