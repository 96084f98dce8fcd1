/-! PROG 3: tokens and the grammar, without a machine -/
set_option maxRecDepth 100000
def b2i (b : Bool) : Int32 := if b = true then 1 else 0
def isL (c : Int32) : Bool := decide (¬ c < 97 ∧ ¬ 122 < c)
def isD (c : Int32) : Bool := decide (¬ c < 48 ∧ ¬ 57 < c)
def isB (c : Int32) : Bool := decide (c = 10 ∨ c = 32)
/-- the byte at a place; 0 behind the text -/
def bAt (t : Nat → Int32) (n k : Nat) : Int32 := if k < n then t k else 0
/-- on while it holds -/
def scn (f : Nat → Bool) : Nat → Nat → Nat
  | 0, p => p
  | k + 1, p => if f p = true then scn f k (p + 1) else p
theorem scn_0 (f : Nat → Bool) (p : Nat) : scn f 0 p = p := rfl
theorem scn_s (f : Nat → Bool) (k p : Nat) : scn f (k + 1) p = if f p = true then scn f k (p + 1) else p := rfl
theorem scn_ge (f : Nat → Bool) (k p : Nat) : p ≤ scn f k p := by
  induction k generalizing p with
  | zero => exact Nat.le_refl _
  | succ k ih =>
    rw [scn_s]
    split
    · exact Nat.le_trans (Nat.le_succ p) (ih (p + 1))
    · exact Nat.le_refl _
theorem scn_le (f : Nat → Bool) (k p : Nat) : scn f k p ≤ p + k := by
  induction k generalizing p with
  | zero => exact Nat.le_refl _
  | succ k ih =>
    rw [scn_s]
    split
    · have := ih (p + 1); omega
    · omega
theorem scn_all (f : Nat → Bool) (k p q : Nat) (h1 : p ≤ q) (h2 : q < scn f k p) : f q = true := by
  induction k generalizing p with
  | zero => rw [scn_0] at h2; omega
  | succ k ih =>
    rw [scn_s] at h2
    split at h2
    · rename_i hp
      by_cases e : q = p
      · rw [e]; exact hp
      · exact ih (p + 1) (by omega) h2
    · omega
/-- it stops where it doesn't hold, if the room is enough -/
theorem scn_stop (f : Nat → Bool) (k p : Nat) (h : f (p + k) = false) : f (scn f k p) = false := by
  induction k generalizing p with
  | zero => exact h
  | succ k ih =>
    rw [scn_s]
    split
    · exact ih (p + 1) (by rw [show p + 1 + k = p + (k + 1) by omega]; exact h)
    · rename_i hp; exact Bool.eq_false_iff.mpr hp
/-- a numeral's loop: place, value, unit, digits, whole -/
abbrev NS : Type := Nat × UInt64 × UInt64 × Nat × Bool
def d10 : UInt64 := 4621819117588971520
def d1 : UInt64 := 4607182418800017408
def numS (t : Nat → Int32) (n : Nat) : Nat → NS → NS
  | 0, s => s
  | k + 1, s => if isD (bAt t n s.1) = true then numS t n k (s.1 + 1, (if 15 < s.2.2.2.1 + 1 then s.2.1 else FP.dadd (FP.dmul d10 s.2.1) (FP.i2d (bAt t n s.1 - 48))), (if s.2.2.2.2 = true then d1 else FP.dmul d10 s.2.2.1), s.2.2.2.1 + 1, s.2.2.2.2)
    else if s.2.2.2.2 = true ∧ bAt t n s.1 = 46 ∧ isD (bAt t n (s.1 + 1)) = true then numS t n k (s.1 + 1, s.2.1, s.2.2.1, s.2.2.2.1, false) else s
/-- letters that rise: place, the last one, how many -/
def quoS (t : Nat → Int32) (n : Nat) : Nat → (Nat × Int32 × Nat) → (Nat × Int32 × Nat)
  | 0, s => s
  | k + 1, s => if isL (bAt t n s.1) = true ∧ s.2.1 < bAt t n s.1 ∧ s.2.2 < 12 then quoS t n k (s.1 + 1, bAt t n s.1, s.2.2 + 1) else s
/-- whether the bytes from p on are a text's -/
def allF (t u : Nat → Int32) (p : Nat) : Nat → Nat → Bool
  | 0, _ => true
  | f + 1, k => decide (t (p + k) = u k) && allF t u p f (k + 1)
def areB (t : Nat → Int32) (p : Nat) (l : List Int32) : Bool := allF t (fun k => l.getD k 0) p l.length 0
def isWn (t : Nat → Int32) (p m w : Nat) : Bool := decide ((sBy w).length = m) && areB t p (sBy w)
/-- the first word that it is, from w on -/
def wdS (t : Nat → Int32) (p m : Nat) : Nat → Nat → Option Nat
  | 0, _ => none
  | k + 1, w => if isWn t p m w = true then some w else wdS t p m k (w + 1)
def sgC (c d : Int32) : Int32 := if c = 60 ∧ d = 61 then 256 else if c = 62 ∧ d = 61 then 257 else if c = 33 ∧ d = 61 then 258 else if c = 45 ∧ d = 62 then 259 else c
def anyF (u : Nat → Int32) (c : Int32) : Nat → Nat → Bool
  | 0, _ => false
  | f + 1, k => decide (u k = c) || anyF u c f (k + 1)
def isSgC (c : Int32) : Bool := anyF (fun k => (sBy 37).getD k 0) c 17 0
/-- a token: kind (0 end, 1 name, 2 word, 3 numeral, 4 letters, 5 sign, 6 none), its end, its code, its value -/
abbrev Lx : Type := Nat × Nat × Option Int32 × Option (UInt64 × Bool)
def lx (t : Nat → Int32) (n p : Nat) : Lx :=
  if n ≤ p then (0, p, none, none)
  else if isL (t p) = true then
    (if 12 < scn (fun q => isL (bAt t n q) || isD (bAt t n q)) (n - p) p - p then (6, scn (fun q => isL (bAt t n q) || isD (bAt t n q)) (n - p) p, none, none)
      else match wdS t p (scn (fun q => isL (bAt t n q) || isD (bAt t n q)) (n - p) p - p) 37 0 with
        | some w => (2, scn (fun q => isL (bAt t n q) || isD (bAt t n q)) (n - p) p, some (i3 w), none)
        | none => (1, scn (fun q => isL (bAt t n q) || isD (bAt t n q)) (n - p) p, none, none))
  else if isD (t p) = true then
    ((if 15 < (numS t n (n - p) (p, 0, d1, 0, true)).2.2.2.1 then 6 else 3), (numS t n (n - p) (p, 0, d1, 0, true)).1, none, some ((if 15 < (numS t n (n - p) (p, 0, d1, 0, true)).2.2.2.1 then 0 else FP.ddiv (numS t n (n - p) (p, 0, d1, 0, true)).2.1 (numS t n (n - p) (p, 0, d1, 0, true)).2.2.1), (numS t n (n - p) (p, 0, d1, 0, true)).2.2.2.2))
  else if t p = 34 then
    ((if bAt t n (quoS t n (n - (p + 1)) (p + 1, 0, 0)).1 = 34 then 4 else 6), (quoS t n (n - (p + 1)) (p + 1, 0, 0)).1 + 1, some (i3 (quoS t n (n - (p + 1)) (p + 1, 0, 0)).2.2), none)
  else ((if 255 < sgC (t p) (bAt t n (p + 1)) ∨ isSgC (t p) = true then 5 else 6), (if 255 < sgC (t p) (bAt t n (p + 1)) then p + 2 else p + 1), some (sgC (t p) (bAt t n (p + 1))), none)
def skp (t : Nat → Int32) (n p : Nat) : Nat := scn (fun q => decide (q < n) && isB (t q)) (n - p) p
/-- the tokens of a text: where each stands, and what it is -/
def tks (t : Nat → Int32) (n : Nat) : Nat → Nat × Lx
  | 0 => (skp t n 0, lx t n (skp t n 0))
  | i + 1 => (skp t n (tks t n i).2.2.1, lx t n (skp t n (tks t n i).2.2.1))
/-- kinds, codes, values, whether whole, places -/
abbrev TK : Type := (Nat → Nat) × (Nat → Int32) × (Nat → UInt64) × (Nat → Bool) × (Nat → Nat)
def tkOf (t : Nat → Int32) (n : Nat) : TK := (fun i => (tks t n i).2.1, fun i => (tks t n i).2.2.2.1.getD 0, fun i => ((tks t n i).2.2.2.2.getD (0, false)).1, fun i => ((tks t n i).2.2.2.2.getD (0, false)).2, fun i => (tks t n i).1)
/-! the grammar: acts (code, number, a value) -/
abbrev PA : Type := Int32 × Int32 × Option UInt64
abbrev PR : Type := Option ((Nat × List PA) ⊕ Nat)
def okP (i : Nat) (A : List PA) : PR := some (.inl (i, A))
def noP (i : Nat) : PR := some (.inr i)
def sqP (r : PR) (f : Nat → PR) : PR := match r with
  | none => none
  | some (.inr e) => some (.inr e)
  | some (.inl (i, A)) => match f i with
    | none => none
    | some (.inr e) => some (.inr e)
    | some (.inl (j, B)) => some (.inl (j, A ++ B))
def emP (A : List PA) (i : Nat) : PR := some (.inl (i, A))
section PZ
variable (T : TK) (s0 : Nat)
def tK (i : Nat) : Nat := T.1 i
def tC (i : Nat) : Int32 := T.2.1 i
def tV (i : Nat) : UInt64 := T.2.2.1 i
def tW (i : Nat) : Bool := T.2.2.2.1 i
def tP (i : Nat) : Nat := T.2.2.2.2 i
def isS (c : Int32) (i : Nat) : Bool := decide (tK T i = 5 ∧ tC T i = c)
def isW (w : Int32) (i : Nat) : Bool := decide (tK T i = 2 ∧ tC T i = w)
def psP (i : Nat) : PR := if tK T i ≠ 0 ∧ tK T i ≠ 6 ∧ i - s0 < 200 then some (.inl (i + 1, [])) else some (.inr i)
def muP (c : Int32) (i : Nat) : PR := if isS T c i = true then psP T s0 i else some (.inr i)
def naP (f : Int32 → List PA) (i : Nat) : PR := if tK T i = 1 then sqP (psP T s0 i) (emP (f (i3 (tP T i)))) else some (.inr i)
/-- 2147483647.0 -/
def dMaxI : UInt64 := 4746794007244308480
def dplain (v : UInt64) : UInt64 := if FP.dcmp v 0 = some .eq then 0 else v
def wholeN (i : Nat) : Bool := tW T i && decide (FP.dcmp (tV T i) dMaxI = some .lt ∨ FP.dcmp (tV T i) dMaxI = some .eq)
def boP (i : Nat) : PR :=
  if isS T 45 i = true then sqP (psP T s0 i) fun j => if tK T j = 3 then sqP (psP T s0 j) (emP [(8, 0, some (dplain (FP.dneg (tV T j))))]) else naP T s0 (fun v => [(9, v, none), (1, 0, none)]) j
  else if tK T i = 3 then sqP (psP T s0 i) (emP [(8, 0, some (tV T i))]) else naP T s0 (fun v => [(9, v, none), (0, 0, none)]) i
def raP (i : Nat) : PR := sqP (muP T s0 91 i) fun i => sqP (boP T s0 i) fun i => sqP (muP T s0 44 i) fun i => sqP (boP T s0 i) (muP T s0 93)
def onP (con : Nat → PR) (a b : Int32) (i : Nat) : PR := if tK T i = 1 then sqP (psP T s0 i) fun j => if isS T 91 j = true then sqP (psP T s0 j) fun k => sqP (con k) fun k => sqP (muP T s0 93 k) (emP [(b, i3 (tP T i), none)]) else okP j [(a, i3 (tP T i), none)] else some (.inr i)
def seP (cons : Nat → PR) (i : Nat) : PR := sqP (muP T s0 123 i) cons
def caP (con ex : Nat → PR) (i : Nat) : PR :=
  if tC T i = 33 ∨ tC T i = 8 then sqP (psP T s0 i) (emP [(21, tC T i, none)])
  else if tC T i = 0 ∨ tC T i = 28 ∨ tC T i = 29 ∨ tC T i = 10 ∨ tC T i = 17 ∨ tC T i = 26 then sqP (psP T s0 i) fun j => sqP (muP T s0 40 j) fun j => sqP (ex j) fun j => sqP (muP T s0 41 j) (emP [(26, tC T i, none)])
  else if tC T i = 16 ∨ tC T i = 15 then sqP (psP T s0 i) fun j => sqP (muP T s0 40 j) fun j => sqP (ex j) fun j => sqP (muP T s0 44 j) fun j => sqP (ex j) fun j => sqP (muP T s0 41 j) (emP [(27, if tC T i = 16 then 110 else 120, none)])
  else if tC T i = 11 then sqP (psP T s0 i) fun j => sqP (muP T s0 40 j) fun j => sqP (ex j) fun j => sqP (muP T s0 44 j) fun j => sqP (ex j) fun j => sqP (muP T s0 44 j) fun j => sqP (ex j) fun j => sqP (muP T s0 41 j) (emP [(29, 0, none)])
  else if tC T i = 30 ∨ tC T i = 32 ∨ tC T i = 7 then sqP (psP T s0 i) fun j => sqP (muP T s0 40 j) fun j => sqP (naP T s0 (fun v => [(30, v, none), (tC T i, 0, none)]) j) (muP T s0 41)
  else if tC T i = 6 then sqP (psP T s0 i) fun j => sqP (muP T s0 40 j) fun j => if tK T j = 1 then sqP (psP T s0 j) fun k => sqP (emP [(31, i3 (tP T j), none)] k) fun k => sqP (muP T s0 44 k) fun k => sqP (con k) fun k => sqP (muP T s0 41 k) (emP [(32, i3 (tP T j), none)]) else some (.inr j)
  else some (.inr i)
def amP (cons : Nat → PR) (i : Nat) : PR :=
  if isS T 91 i = true then sqP (raP T s0 i) (emP [(34, 0, none)])
  else if tK T i = 4 then sqP (psP T s0 i) (emP [(35, i3 (tP T i), none)])
  else seP T s0 cons i
def isCmp (i : Nat) : Bool := decide (tK T i = 5 ∧ (tC T i = 61 ∨ tC T i = 60 ∨ tC T i = 62 ∨ tC T i = 258 ∨ tC T i = 256 ∨ tC T i = 257))
/-- room, what (0 con, 1 its rest, 2 product, 3 its rest, 4 single behind p signs, 5 ex, 6 joined, 7, 8 both, 9, 10 denied, 11 relation, 13 sum, 14, 15 times, 16, 17 minus, 18 atom, 21 cons, 22 its rest), p, q, depth, place -/
def pz : Nat → Nat → Nat → Int32 → Nat → Nat → PR
  | 0, _, _, _, _, _ => none
  | f + 1, 0, _, _, d, i => if d < 24 then sqP (pz f 2 0 0 (d + 1) i) (pz f 1 0 0 (d + 1)) else some (.inr i)
  | f + 1, 1, _, _, d, i => if isS T 43 i = true ∨ isS T 45 i = true then sqP (psP T s0 i) fun j => sqP (pz f 2 0 0 d j) fun j => sqP (emP [(if tC T i = 43 then 3 else 4, 0, none)] j) (pz f 1 0 0 d) else okP i []
  | f + 1, 2, _, _, d, i => sqP (pz f 4 0 0 d i) (pz f 3 0 0 d)
  | f + 1, 3, _, _, d, i => if isS T 42 i = true ∨ isS T 47 i = true ∨ isS T 37 i = true then sqP (psP T s0 i) fun j => sqP (pz f 4 0 0 d j) fun j => sqP (emP [(if tC T i = 42 then 5 else if tC T i = 47 then 6 else 7, 0, none)] j) (pz f 3 0 0 d) else okP i []
  | f + 1, 4, p, _, d, i => if isS T 45 i = true then sqP (psP T s0 i) (pz f 4 (p + 1) 0 d)
    else if tK T i = 3 then (if wholeN T i = true then sqP (psP T s0 i) (emP ((0, FP.d2i (tV T i), none) :: List.replicate p (2, 0, none))) else some (.inr i))
    else if isS T 40 i = true then sqP (psP T s0 i) fun j => sqP (pz f 0 0 0 d j) fun j => sqP (muP T s0 41 j) (emP (List.replicate p (2, 0, none)))
    else naP T s0 (fun v => (1, v, none) :: List.replicate p (2, 0, none)) i
  | f + 1, 5, _, _, d, i => if d < 24 then sqP (pz f 6 0 0 (d + 1) i) (fun j => if isS T 259 j = true then sqP (psP T s0 j) fun k => sqP (pz f 5 0 0 (d + 1) k) (emP [(27, 259, none)]) else okP j []) else some (.inr i)
  | f + 1, 6, _, _, d, i => sqP (pz f 8 0 0 d i) (pz f 7 0 0 d)
  | f + 1, 7, _, _, d, i => if isW T 20 i = true then sqP (psP T s0 i) fun j => sqP (pz f 8 0 0 d j) fun j => sqP (emP [(27, 124, none)] j) (pz f 7 0 0 d) else okP i []
  | f + 1, 8, _, _, d, i => sqP (pz f 10 0 0 d i) (pz f 9 0 0 d)
  | f + 1, 9, _, _, d, i => if isW T 2 i = true then sqP (psP T s0 i) fun j => sqP (pz f 10 0 0 d j) fun j => sqP (emP [(27, 38, none)] j) (pz f 9 0 0 d) else okP i []
  | f + 1, 10, _, _, d, i => if d < 24 then (if isW T 19 i = true then sqP (psP T s0 i) fun j => sqP (pz f 10 0 0 (d + 1) j) (emP [(28, 0, none)]) else pz f 11 0 0 (d + 1) i) else some (.inr i)
  | f + 1, 11, _, _, d, i => sqP (pz f 13 0 0 d i) fun j => if isW T 12 j = true then sqP (psP T s0 j) (amP T s0 (pz f 21 0 33 d)) else if isCmp T j = true then sqP (psP T s0 j) fun k => sqP (pz f 13 0 0 d k) (emP [(27, tC T j, none)]) else okP j []
  | f + 1, 13, _, _, d, i => sqP (pz f 15 0 0 d i) (pz f 14 0 0 d)
  | f + 1, 14, _, _, d, i => if isS T 43 i = true ∨ isS T 45 i = true then sqP (psP T s0 i) fun j => sqP (pz f 15 0 0 d j) fun j => sqP (emP [(27, tC T i, none)] j) (pz f 14 0 0 d) else okP i []
  | f + 1, 15, _, _, d, i => sqP (pz f 17 0 0 d i) (pz f 16 0 0 d)
  | f + 1, 16, _, _, d, i => if isS T 42 i = true ∨ isS T 47 i = true then sqP (psP T s0 i) fun j => sqP (pz f 17 0 0 d j) fun j => sqP (emP [(27, tC T i, none)] j) (pz f 16 0 0 d) else okP i []
  | f + 1, 17, _, _, d, i => if d < 24 then (if isS T 45 i = true then sqP (psP T s0 i) fun j => sqP (pz f 17 0 0 (d + 1) j) (emP [(25, 0, none)]) else pz f 18 0 0 (d + 1) i) else some (.inr i)
  | f + 1, 18, _, _, d, i => if tK T i = 3 then sqP (psP T s0 i) (emP [(20, 0, some (tV T i))])
    else if tK T i = 4 then sqP (psP T s0 i) (emP [(22, i3 (tP T i), none)])
    else if tK T i = 1 then onP T s0 (pz f 0 0 0 d) 23 24 i
    else if isS T 40 i = true then sqP (psP T s0 i) fun j => sqP (pz f 5 0 0 d j) (muP T s0 41)
    else if tK T i = 2 then caP T s0 (pz f 0 0 0 d) (pz f 5 0 0 d) i else some (.inr i)
  | f + 1, 21, _, q, d, i => sqP (pz f 0 0 0 d i) (pz f 22 1 q d)
  | f + 1, 22, p, q, d, i => if isS T 44 i = true then sqP (psP T s0 i) fun j => sqP (pz f 0 0 0 d j) (pz f 22 (p + 1) q d) else if q = 51 then okP i [(51, i3 p, none)] else sqP (muP T s0 125 i) (emP [(q, i3 p, none)])
  | _ + 1, _, _, _, _, _ => none
def vaP (f : Nat) (i : Nat) : PR :=
  if isS T 91 i = true then sqP (raP T s0 i) (emP [(10, 0, none)])
  else if isS T 123 i = true then seP T s0 (pz T s0 f 21 0 11 0) i
  else if tK T i = 4 then sqP (psP T s0 i) (emP [(13, i3 (tP T i), none)])
  else if isW T 33 i = true ∨ isW T 8 i = true ∨ isW T 4 i = true then sqP (psP T s0 i) (emP [(12, tC T i, none)]) else some (.inr i)
/-- the sort that a word names; -1 -/
def soW (w : Int32) : Int32 := if w = 23 then 0 else if w = 27 then 1 else if w = 36 then 2 else if w = 34 then 3 else if w = 14 then 4 else -1
/-- name[con] with the row's name first -/
def plP (f : Nat) (g : Int32 → Nat → PR) (i : Nat) : PR := if tK T i = 1 then sqP (psP T s0 i) fun j => sqP (muP T s0 91 j) fun j => sqP (emP [(46, i3 (tP T i), none)] j) fun j => sqP (pz T s0 f 0 0 0 0 j) fun j => sqP (muP T s0 93 j) (g (i3 (tP T i))) else some (.inr i)
def woP (f : Nat) (i : Nat) : PR :=
  if soW (tC T i) ≠ -1 then sqP (psP T s0 i) (naP T s0 (fun v => [(42, v, none), (soW (tC T i), 0, none)]))
  else if tC T i = 13 then sqP (psP T s0 i) fun j => if tK T j = 1 then sqP (psP T s0 j) fun k => sqP (muP T s0 61 k) fun k => sqP (pz T s0 f 0 0 0 0 k) (emP [(40, i3 (tP T j), none)]) else some (.inr j)
  else if tC T i = 21 then sqP (psP T s0 i) fun j => if tK T j = 3 then sqP (psP T s0 j) (emP [(41, 0, some (tV T j))]) else some (.inr j)
  else if tC T i = 24 then sqP (psP T s0 i) fun j => if tK T j = 1 then sqP (psP T s0 j) fun k => sqP (muP T s0 61 k) fun k => if tK T k = 2 ∧ (tC T k = 3 ∨ soW (tC T k) ≠ -1) then sqP (psP T s0 k) fun l => sqP (pz T s0 f 0 0 0 0 l) (emP [(45, i3 (tP T j), none), (if tC T k = 3 then 5 else soW (tC T k), 0, none)]) else some (.inr k) else some (.inr j)
  else if tC T i = 9 then sqP (psP T s0 i) fun j => if tK T j = 1 then sqP (psP T s0 j) fun k => sqP (muP T s0 58 k) fun k => sqP (emP [(47, i3 (tP T j), none)] k) fun k => sqP (vaP T s0 f k) (emP [(48, i3 (tP T j), none)]) else some (.inr j)
  else if tC T i = 22 then sqP (psP T s0 i) (plP T s0 f fun v j => sqP (muP T s0 61 j) fun j => sqP (if isW T 18 j = true then sqP (psP T s0 j) (emP [(16, 0, none)]) else onP T s0 (pz T s0 f 0 0 0 0) 14 15 j) (emP [(49, v, none)]))
  else if tC T i = 5 then sqP (psP T s0 i) (plP T s0 f fun v j => sqP (muP T s0 44 j) fun j => sqP (pz T s0 f 0 0 0 0 j) fun j => if isW T 31 j = true then sqP (psP T s0 j) (plP T s0 f fun u => emP [(50, v, none), (u, 0, none)]) else some (.inr j))
  else if tC T i = 35 then sqP (psP T s0 i) fun j => if tK T j = 1 then sqP (psP T s0 j) fun k => sqP (muP T s0 61 k) fun k => sqP (emP [(46, i3 (tP T j), none)] k) fun k => sqP (pz T s0 f 21 0 51 0 k) (emP [(i3 (tP T j), 0, none)]) else some (.inr j)
  else if tC T i = 25 ∨ tC T i = 1 then sqP (psP T s0 i) fun j => sqP (emP [(36, 0, none)] j) fun j => sqP (pz T s0 f 5 0 0 0 j) (emP [(if tC T i = 25 then 52 else 53, 0, none)])
  else some (.inr i)
def stP (f : Nat) (i : Nat) : PR :=
  sqP (if tK T i = 1 then sqP (psP T s0 i) fun j => sqP (muP T s0 58 j) fun j => sqP (emP [(43, i3 (tP T i), none)] j) fun j => sqP (vaP T s0 f j) (emP [(44, i3 (tP T i), none)]) else if tK T i = 2 then woP T s0 f i else some (.inr i)) (muP T s0 59)
end PZ
