/-! PROG p1: what statements do, without a machine -/
set_option maxRecDepth 100000
/-! numbers -/
def kMORE : UInt64 := 9218868437227405312
def kLESS : UInt64 := 18442240474082181120
def deq (a b : UInt64) : Bool := decide (FP.dcmp a b = some .eq)
def dlt (a b : UInt64) : Bool := decide (FP.dcmp a b = some .lt)
def dgt (a b : UInt64) : Bool := decide (FP.dcmp a b = some .gt)
/-- the next number above, below -/
def dNx (v : UInt64) : UInt64 := if deq v kMORE = true then v else if deq v 0 = true then 1 else dplain (if dgt v 0 = true then v + 1 else v - 1)
def dPr (v : UInt64) : UInt64 := dplain (FP.dneg (dNx (FP.dneg v)))
/-- 9.0e15, -9.0e15, 1.0 -/
def k9e15 : UInt64 := 4845865999795912704
def kN9e15 : UInt64 := 14069238036650688512
def flr (v : UInt64) : UInt64 := if dgt v kN9e15 = true ∧ dlt v k9e15 = true then dplain (if dgt (FP.l2d (FP.d2l v)) v = true then FP.dsub (FP.l2d (FP.d2l v)) d1 else FP.l2d (FP.d2l v)) else v
def cel (v : UInt64) : UInt64 := dplain (FP.dneg (flr (FP.dneg v)))
/-- the next small number above -/
def sup (v : UInt32) : UInt32 := if deq (FP.f2d v) kMORE = true then v else if FP.fcmp v 0 = some .eq then 1 else if FP.fcmp (if FP.fcmp v 0 = some .gt then v + 1 else v - 1) 0 = some .eq then 0 else (if FP.fcmp v 0 = some .gt then v + 1 else v - 1)
def sBel (v : UInt64) : UInt64 := dplain (FP.f2d (if dgt (FP.f2d (FP.d2f v)) v = true then FP.fneg (sup (FP.fneg (FP.d2f v))) else FP.d2f v))
def sAbo (v : UInt64) : UInt64 := dplain (FP.dneg (sBel (FP.dneg v)))
/-! texts -/
def nmLen (t : Nat → Int32) (p : Nat) : Nat := scn (fun q => isL (t q) || isD (t q)) (min 12 (6000 - p)) p - p
/-- so many bytes from a place on -/
def byF (t : Nat → Int32) : Nat → Nat → List Int32
  | _, 0 => []
  | p, f + 1 => t p :: byF t (p + 1) f
def nmAt (t : Nat → Int32) (p : Nat) : List Int32 := byF t p (nmLen t p)
/-- letters between two signs of quotation: from the place of the first one on -/
def ltLen (t : Nat → Int32) (p : Nat) : Nat := scn (fun q => !decide (t q = 34)) (6000 - (p + 1)) (p + 1) - (p + 1)
def ltAt (t : Nat → Int32) (p : Nat) : List Int32 := (byF t (p + 1) (ltLen t p)).map fun c => c - 97
/-! the world of statements -/
/-- a name: its letters, 0 let 1 variable 2 row, its value -/
abbrev NE : Type := List Int32 × Nat × Int32
/-- a domain: bounds, things -/
abbrev DM : Type := (UInt64 × UInt64) × List Int32
/-- a variable: its sort, its domain -/
abbrev VE : Type := Nat × Option DM
/-- a row: its sort, cells, weights -/
abbrev RE : Type := Nat × List (Option Nat) × Option (List Int32)
/-- a part: what, its sort (0 numbers 1 truths 2 letters), its parts, numbers, a set -/
abbrev PE : Type := Nat × Nat × (Nat × Nat × Nat) × (UInt64 × UInt64) × List Int32
/-- names, how many lets, variables, rows, parts, rules (from, to), the aim, the precision -/
abbrev WS : Type := List NE × Nat × List VE × List RE × List PE × List (Nat × Nat) × Option (Nat × Nat) × UInt64
/-- a value: 0 a range 1 a set 2 truths 3 letters -/
abbrev VL : Type := Nat × (UInt64 × UInt64) × List Int32
/-- the world, ints, bounds, parts, rows at hand, a value, a one, where the expression's parts begin, an act that waits for its second half -/
abbrev SM : Type := WS × List Int32 × List UInt64 × List Nat × List Nat × VL × Option Nat × Nat × Option (Nat × Int32)
section ZA
variable (s : SM)
def zW : WS := s.1
def zC : List Int32 := s.2.1
def zB : List UInt64 := s.2.2.1
def zP : List Nat := s.2.2.2.1
def zH : List Nat := s.2.2.2.2.1
def zV : VL := s.2.2.2.2.2.1
def zO : Option Nat := s.2.2.2.2.2.2.1
def zX : Nat := s.2.2.2.2.2.2.2.1
def zQ : Option (Nat × Int32) := s.2.2.2.2.2.2.2.2
def zcW (x : WS) : SM := (x, s.2)
def zcC (x : List Int32) : SM := (s.1, x, s.2.2)
def zcB (x : List UInt64) : SM := (s.1, s.2.1, x, s.2.2.2)
def zcP (x : List Nat) : SM := (s.1, s.2.1, s.2.2.1, x, s.2.2.2.2)
def zcH (x : List Nat) : SM := (s.1, s.2.1, s.2.2.1, s.2.2.2.1, x, s.2.2.2.2.2)
def zcV (x : VL) : SM := (s.1, s.2.1, s.2.2.1, s.2.2.2.1, s.2.2.2.2.1, x, s.2.2.2.2.2.2)
def zcO (x : Option Nat) : SM := (s.1, s.2.1, s.2.2.1, s.2.2.2.1, s.2.2.2.2.1, s.2.2.2.2.2.1, x, s.2.2.2.2.2.2.2)
def zcX (x : Nat) : SM := (s.1, s.2.1, s.2.2.1, s.2.2.2.1, s.2.2.2.2.1, s.2.2.2.2.2.1, s.2.2.2.2.2.2.1, x, s.2.2.2.2.2.2.2.2)
def zcQ (x : Option (Nat × Int32)) : SM := (s.1, s.2.1, s.2.2.1, s.2.2.2.1, s.2.2.2.2.1, s.2.2.2.2.2.1, s.2.2.2.2.2.2.1, s.2.2.2.2.2.2.2.1, x)
end ZA
section WA
variable (w : WS)
def wN : List NE := w.1
def wL : Nat := w.2.1
def wV : List VE := w.2.2.1
def wR : List RE := w.2.2.2.1
def wP : List PE := w.2.2.2.2.1
def wQ : List (Nat × Nat) := w.2.2.2.2.2.1
def wA : Option (Nat × Nat) := w.2.2.2.2.2.2.1
def wE : UInt64 := w.2.2.2.2.2.2.2
def wcN (x : List NE) : WS := (x, w.2)
def wcL (x : Nat) : WS := (w.1, x, w.2.2)
def wcV (x : List VE) : WS := (w.1, w.2.1, x, w.2.2.2)
def wcR (x : List RE) : WS := (w.1, w.2.1, w.2.2.1, x, w.2.2.2.2)
def wcP (x : List PE) : WS := (w.1, w.2.1, w.2.2.1, w.2.2.2.1, x, w.2.2.2.2.2)
def wcQ (x : List (Nat × Nat)) : WS := (w.1, w.2.1, w.2.2.1, w.2.2.2.1, w.2.2.2.2.1, x, w.2.2.2.2.2.2)
def wcA (x : Option (Nat × Nat)) : WS := (w.1, w.2.1, w.2.2.1, w.2.2.2.1, w.2.2.2.2.1, w.2.2.2.2.2.1, x, w.2.2.2.2.2.2.2)
def wcE (x : UInt64) : WS := (w.1, w.2.1, w.2.2.1, w.2.2.2.1, w.2.2.2.2.1, w.2.2.2.2.2.1, w.2.2.2.2.2.2.1, x)
end WA
/-- stuck; it goes on; a fault, and the world as it is left -/
abbrev RS : Type := Option (SM ⊕ (Nat × WS))
def gon (s : SM) : RS := some (.inl s)
def flt (k : Nat) (s : SM) : RS := some (.inr (k, zW s))
def bnd (r : RS) (f : SM → RS) : RS := match r with
  | some (.inl s) => f s
  | some (.inr e) => some (.inr e)
  | none => none
/-- what a name is -/
def fnd (N : List NE) (b : List Int32) : Option (Nat × Int32) := (N.find? fun e => decide (e.1 = b)).map fun e => e.2
def fndS (t : Nat → Int32) (s : SM) (v : Int32) : Option (Nat × Int32) := fnd (wN (zW s)) (nmAt t v.toInt.toNat)
/-- a row by its name: its number -/
def rowS (t : Nat → Int32) (s : SM) (v : Int32) : Option Nat := match fndS t s v with
  | some (2, r) => some r.toInt.toNat
  | _ => none
def varS (t : Nat → Int32) (s : SM) (v : Int32) : Option Nat := match fndS t s v with
  | some (1, r) => some r.toInt.toNat
  | _ => none
def rwE (w : WS) (r : Nat) : RE := (wR w)[r]?.getD (0, [], none)
def vrE (w : WS) (v : Nat) : VE := (wV w)[v]?.getD (0, none)
def ptE (w : WS) (p : Nat) : PE := (wP w)[p]?.getD (0, 0, (0, 0, 0), (0, 0), [])
def kOf (n : Nat) : Nat := if n < 3 then 0 else if n = 3 then 1 else 2
/-! parts -/
def mkP (p : PE) (s : SM) : RS := if (wP (zW s)).length - zX s = 4000 ∨ (wP (zW s)).length = 30000 then flt 8 s else gon (zcP (zcW s (wcP (zW s) (wP (zW s) ++ [p]))) ((wP (zW s)).length :: zP s))
def soPt (s : SM) (p : Nat) : Nat := (ptE (zW s) p).2.1
def numP (v : UInt64) : PE := (1, 0, (0, 0, 0), (v, 0), [])
def fixP (sort bits : Nat) : PE := (2, sort, (bits, 0, 0), (0, 0), [])
def leafP (s : SM) (v : Nat) : PE := (0, kOf (vrE (zW s) v).1, (v, 0, 0), (0, 0), [])
def opP (o sort a b c : Nat) : PE := (o, sort, (a, b, c), (0, 0), [])
/-- the last parts become one -/
def one1 (o sort : Nat) (s : SM) : RS := match zP s with
  | a :: l => mkP (opP o sort a a 0) (zcP s l)
  | _ => none
def two2 (o sort : Nat) (s : SM) : RS := match zP s with
  | b :: a :: l => mkP (opP o sort a b 0) (zcP s l)
  | _ => none
/-- a unary operation -/
def unS (o sort wants : Nat) (s : SM) : RS := match zP s with
  | a :: _ => if soPt s a = wants then one1 o sort s else flt 3 s
  | _ => none
def mapC (w : Int32) : Nat := if w = 0 then 8 else if w = 28 then 9 else if w = 29 then 10 else if w = 10 then 11 else if w = 17 then 12 else 13
/-- a binary one by its sign -/
def biS (c : Int32) (s : SM) : RS := match zP s with
  | b :: a :: l =>
    if soPt s a = soPt s b ∧ ((c = 61 ∨ c = 258) ∨ soPt s a = (if c = 38 ∨ c = 124 ∨ c = 259 then 1 else 0)) then
      (if c = 43 then mkP (opP 3 0 a b 0) (zcP s l) else if c = 45 then mkP (opP 4 0 a b 0) (zcP s l) else if c = 42 then mkP (opP 5 0 a b 0) (zcP s l) else if c = 47 then mkP (opP 6 0 a b 0) (zcP s l)
      else if c = 110 then mkP (opP 14 0 a b 0) (zcP s l) else if c = 120 then mkP (opP 15 0 a b 0) (zcP s l)
      else if c = 61 then mkP (opP 17 1 a b 0) (zcP s l) else if c = 258 then mkP (opP 18 1 a b 0) (zcP s l)
      else if c = 60 then mkP (opP 19 1 a b 0) (zcP s l) else if c = 256 then mkP (opP 20 1 a b 0) (zcP s l)
      else if c = 62 then mkP (opP 19 1 b a 0) (zcP s l) else if c = 257 then mkP (opP 20 1 b a 0) (zcP s l)
      else mkP (opP (if c = 38 then 26 else if c = 124 then 27 else 29) 1 a b 0) (zcP s l))
    else flt 3 s
  | _ => none
def ifS (s : SM) : RS := match zP s with
  | c :: b :: a :: l => if soPt s a = 1 ∧ soPt s b = soPt s c then mkP (opP 16 (soPt s b) a b c) (zcP s l) else flt 3 s
  | _ => none
/-- a part for each cell of a row that is filled, joined -/
def cells (f : Nat → Nat → SM → RS) (o sort : Nat) : List (Option Nat) → Nat → Bool → SM → RS
  | [], _, some_, s => if some_ = true then gon s else none
  | none :: l, k, some_, s => cells f o sort l (k + 1) some_ s
  | some v :: l, k, some_, s => bnd (f v k s) fun s => bnd (if some_ = true then two2 o sort s else gon s) (cells f o sort l (k + 1) true)
def sumS (f : Nat → Nat → SM → RS) (c : List (Option Nat)) (s : SM) : RS := if c.all Option.isNone = true then mkP (numP 0) s else cells f 3 0 c 0 false s
def difS (c : List (Option Nat)) : List (Nat × Nat) → Bool → SM → RS
  | [], some_, s => if some_ = true then gon s else mkP (fixP 1 2) s
  | (i, j) :: l, some_, s => match c[i]?.getD none, c[j]?.getD none with
    | some x, some y => bnd (mkP (leafP s x) s) fun s => bnd (mkP (leafP s y) s) fun s => bnd (two2 18 1 s) fun s => bnd (if some_ = true then two2 26 1 s else gon s) (difS c l true)
    | _, _ => difS c l some_ s
def prs (n : Nat) : List (Nat × Nat) := (List.range n).flatMap fun i => (List.range (n - (i + 1))).map fun j => (i, i + 1 + j)
def rowX (w : Int32) (r : Nat) (s : SM) : RS :=
  if (if w = 7 then (rwE (zW s) r).1 ≠ 5 else (rwE (zW s) r).1 < 3) then
    (if w = 7 then difS (rwE (zW s) r).2.1 (prs (rwE (zW s) r).2.1.length) false s
     else if w = 30 then sumS (fun v _ s => mkP (leafP s v) s) (rwE (zW s) r).2.1 s
     else match (rwE (zW s) r).2.2 with
       | none => flt 1 s
       | some g => sumS (fun v k s => bnd (mkP (numP (FP.i2d (g.getD k 0))) s) fun s => bnd (mkP (leafP s v) s) fun s => two2 5 0 s) (rwE (zW s) r).2.1 s)
  else flt 3 s
def cntX (c : Int32) (r : Nat) (s : SM) : RS := sumS (fun v _ s => bnd (mkP (leafP s v) s) fun s => bnd (mkP (numP (FP.i2d c)) s) fun s => bnd (two2 17 1 s) fun s => bnd (mkP (numP d1) s) fun s => bnd (mkP (numP 0) s) fun s => match zP s with
  | z :: y :: x :: l => mkP (opP 16 0 x y z) (zcP s l)
  | _ => none) (rwE (zW s) r).2.1 s
def inS (o : Nat) (wants : Nat) (bits : Nat) (r : UInt64 × UInt64) (set : List Int32) (s : SM) : RS := match zP s with
  | a :: l => if soPt s a = wants then mkP (o, 1, (a, bits, 0), r, set) (zcP s l) else flt 3 s
  | _ => none
/-- letters as bits -/
def bitsL (l : List Int32) : Nat := l.foldr (fun x b => b ||| 2 ^ x.toInt.toNat) 0
/-! values -/
def insL (x : Int32) : List Int32 → List Int32
  | [] => [x]
  | y :: l => if y < x then y :: insL x l else if y = x then y :: l else x :: y :: l
def k20 : UInt64 := 4671226772094713856
def kN20 : UInt64 := 13894598808949489664
/-- a value becomes a domain of a sort, or a fault -/
def giv (sort : Nat) (v : VL) : DM ⊕ Nat :=
  if sort = 0 then (if v.1 = 0 then (if dgt v.2.1.1 v.2.1.2 = true then .inr 7 else .inl (v.2.1, [])) else .inr 3)
  else if sort = 1 then (if v.1 = 0 then (if dgt v.2.1.1 v.2.1.2 = true then .inr 7 else .inl ((sBel v.2.1.1, sAbo v.2.1.2), [])) else .inr 3)
  else if sort = 2 then
    (if v.1 = 0 then (if dlt v.2.1.1 kN20 = true ∨ dgt v.2.1.1 k20 = true ∨ dlt v.2.1.2 kN20 = true ∨ dgt v.2.1.2 k20 = true then .inr 2
       else if FP.d2i (flr v.2.1.2) < FP.d2i (cel v.2.1.1) then .inr 7
       else if 64 ≤ (FP.d2i (flr v.2.1.2)).toInt - (FP.d2i (cel v.2.1.1)).toInt then .inr 5
       else .inl ((0, 0), (List.range ((FP.d2i (flr v.2.1.2)).toInt - (FP.d2i (cel v.2.1.1)).toInt + 1).toNat).map fun k => FP.d2i (cel v.2.1.1) + i3 k))
     else if v.1 = 1 then (if 64 < v.2.2.length then .inr 5 else if v.2.2.any (fun x => decide (x < -20000 ∨ 20000 < x)) = true then .inr 2 else .inl ((0, 0), v.2.2.foldl (fun l x => insL x l) []))
     else .inr 3)
  else if sort = 3 then (if v.1 = 2 then .inl ((0, 0), v.2.2) else .inr 3)
  else (if v.1 = 3 then (if v.2.2 = [] then .inr 7 else .inl ((0, 0), v.2.2)) else .inr 3)
def newV (sort : Nat) (d : Option DM) (s : SM) : RS := if (wV (zW s)).length = 100 then flt 8 s else gon (zcW s (wcV (zW s) (wV (zW s) ++ [(sort, d)])))
def fillS (sort r : Nat) (d : DM) : Nat → Nat → SM → RS
  | 0, _, s => gon s
  | f + 1, k, s => match (rwE (zW s) r).2.1[k]?.getD none with
    | some _ => fillS sort r d f (k + 1) s
    | none => bnd (newV sort (some d) s) fun u => fillS sort r d f (k + 1) (zcW u (wcR (zW u) ((wR (zW u)).set r ((rwE (zW u) r).1, (rwE (zW u) r).2.1.set k (some (wV (zW s)).length), (rwE (zW u) r).2.2))))
def putR (r k : Nat) (v : Option Nat) (w : WS) : WS := wcR w ((wR w).set r ((rwE w r).1, (rwE w r).2.1.set k v, (rwE w r).2.2))
def fitR (w : WS) (r : Nat) (v : Option Nat) : Bool := match v with
  | none => true
  | some x => decide ((rwE w r).1 = 5 ∨ (vrE w x).1 = (rwE w r).1)
/-- cells into a row, till one may not stand there -/
def cpyS (r : Nat) : List (Option Nat) → Nat → SM → RS
  | [], _, s => gon s
  | v :: l, b, s => if fitR (zW s) r v = true then cpyS r l (b + 1) (zcW s (putR r b v (zW s))) else flt 4 s
/-! acts -/
def isTwo (c : Nat) : Bool := decide (c = 9 ∨ c = 30 ∨ c = 42 ∨ c = 45 ∨ c = 50 ∨ c = 51)
def popC (n : Nat) (s : SM) (f : List Int32 → SM → RS) : RS := if n ≤ (zC s).length then f ((zC s).take n).reverse (zcC s ((zC s).drop n)) else none
def con1 (s : SM) (f : Int32 → SM → RS) : RS := match zC s with
  | x :: l => f x (zcC s l)
  | [] => none
def con2 (s : SM) (f : Int32 → Int32 → SM → RS) : RS := match zC s with
  | y :: x :: l => f x y (zcC s l)
  | _ => none
def psh (x : Int32) (s : SM) : RS := gon (zcC s (x :: zC s))
/-- a row's cell by name and number: its variable -/
def plcS (t : Nat → Int32) (v i : Int32) (s : SM) (f : Nat → SM → RS) : RS := match fndS t s v with
  | none => flt 1 s
  | some (2, r) => if i < 0 ∨ ((rwE (zW s) r.toInt.toNat).2.1.length : Int) ≤ i.toInt then flt 2 s else match (rwE (zW s) r.toInt.toNat).2.1[i.toInt.toNat]?.getD none with
    | none => flt 1 s
    | some x => f x s
  | _ => flt 3 s
/-- acts by which numbers are reckoned, bounds, values, ones -/
def stA (t : Nat → Int32) (c : Nat) (v : Int32) (x : Option UInt64) (s : SM) : RS :=
  if c = 0 then psh v s
  else if c = 1 then (match fndS t s v with
    | some (0, n) => psh n s
    | _ => flt 1 s)
  else if c = 2 then con1 s fun y s => psh (-y) s
  else if c = 3 then con2 s fun a b s => psh (a + b) s
  else if c = 4 then con2 s fun a b s => psh (a - b) s
  else if c = 5 then con2 s fun a b s => psh (a * b) s
  else if c = 6 then con2 s fun a b s => if b = 0 then flt 6 s else psh (a / b) s
  else if c = 7 then con2 s fun a b s => if b = 0 then flt 6 s else psh (a - a / b * b) s
  else if c = 8 then (match x with
    | some q => gon (zcB s (q :: zB s))
    | none => none)
  else if c = 10 then (match zB s with
    | b :: a :: l => gon (zcB (zcV s (0, (a, b), [])) l)
    | _ => none)
  else if c = 11 then popC v.toInt.toNat s fun l s => gon (zcV s (1, (0, 0), l))
  else if c = 12 then gon (zcV s (2, (0, 0), (if v = 33 then [1] else if v = 8 then [0] else [0, 1])))
  else if c = 13 then gon (zcV s (3, (0, 0), ltAt t v.toInt.toNat))
  else if c = 14 then (match fndS t s v with
    | none => flt 1 s
    | some (1, n) => gon (zcO s (some n.toInt.toNat))
    | _ => flt 3 s)
  else if c = 15 then con1 s fun i s => plcS t v i s fun n s => gon (zcO s (some n))
  else if c = 16 then gon (zcO s none)
  else none
/-- acts by which parts are made -/
def stB (t : Nat → Int32) (c : Nat) (v : Int32) (x : Option UInt64) (s : SM) : RS :=
  if c = 20 then (match x with
    | some q => mkP (numP q) s
    | none => none)
  else if c = 21 then mkP (fixP 1 (if v = 33 then 2 else 1)) s
  else if c = 22 then (if (ltAt t v.toInt.toNat).length = 1 then mkP (fixP 2 (bitsL (ltAt t v.toInt.toNat))) s else flt 3 s)
  else if c = 23 then (match fndS t s v with
    | none => flt 1 s
    | some (0, n) => mkP (numP (FP.i2d n)) s
    | some (1, n) => mkP (leafP s n.toInt.toNat) s
    | _ => flt 3 s)
  else if c = 24 then con1 s fun i s => plcS t v i s fun n s => mkP (leafP s n) s
  else if c = 25 then unS 7 0 0 s
  else if c = 26 then unS (mapC v) 0 0 s
  else if c = 27 then biS v s
  else if c = 28 then unS 28 1 1 s
  else if c = 29 then ifS s
  else if c = 31 then (match rowS t s v with
    | none => flt 1 s
    | some r => if (rwE (zW s) r).1 = 2 then gon (zcH s (r :: zH s)) else flt 3 s)
  else if c = 32 then con1 s fun i s => match zH s with
    | r :: l => cntX i r (zcH s l)
    | [] => none
  else if c = 33 then popC v.toInt.toNat s fun l s => inS 23 0 0 (0, 0) l s
  else if c = 34 then (match zB s with
    | b :: a :: l => inS 24 0 0 (a, b) [] (zcB s l)
    | _ => none)
  else if c = 35 then inS 25 2 (bitsL (ltAt t v.toInt.toNat)) (0, 0) [] s
  else if c = 36 then gon (zcX (zcP s []) (wP (zW s)).length)
  else none
/-- acts that end statements -/
def stC (t : Nat → Int32) (c : Nat) (v : Int32) (x : Option UInt64) (s : SM) : RS :=
  if c = 40 then (match fndS t s v with
    | some _ => flt 9 s
    | none => if wL (zW s) = 60 then flt 8 s else con1 s fun i s => gon (zcW s (wcL (wcN (zW s) (wN (zW s) ++ [(nmAt t v.toInt.toNat, 0, i)])) (wL (zW s) + 1))))
  else if c = 41 then (match x with
    | some q => if deq q 0 = true then flt 5 s else gon (zcW s (wcE (zW s) q))
    | none => none)
  else if c = 43 then (match varS t s v with
    | none => flt 1 s
    | some _ => gon s)
  else if c = 44 then (match varS t s v with
    | none => none
    | some n => match giv (vrE (zW s) n).1 (zV s) with
      | .inr k => flt k s
      | .inl d => gon (zcW s (wcV (zW s) ((wV (zW s)).set n ((vrE (zW s) n).1, some d)))))
  else if c = 46 then (match rowS t s v with
    | none => flt 1 s
    | some r => gon (zcH s (r :: zH s)))
  else if c = 47 then (match rowS t s v with
    | none => flt 1 s
    | some r => if (rwE (zW s) r).1 = 5 then flt 3 s else gon (zcH s (r :: zH s)))
  else if c = 48 then (match zH s with
    | r :: _ => (match giv (rwE (zW s) r).1 (zV s) with
      | .inr k => flt k s
      | .inl d => fillS (rwE (zW s) r).1 r d (rwE (zW s) r).2.1.length 0 s)
    | [] => none)
  else if c = 49 then con1 s fun i s => match zH s with
    | r :: _ => if i < 0 ∨ ((rwE (zW s) r).2.1.length : Int) ≤ i.toInt then flt 2 s else if fitR (zW s) r (zO s) = true then gon (zcW s (putR r i.toInt.toNat (zO s) (zW s))) else flt 4 s
    | [] => none
  else if c = 52 then (match zP s with
    | p :: _ => if soPt s p = 1 then (if (wQ (zW s)).length = 100 then flt 8 s else gon (zcW s (wcQ (zW s) (wQ (zW s) ++ [(zX s, (wP (zW s)).length)])))) else flt 3 s
    | [] => none)
  else if c = 53 then (match zP s with
    | p :: _ => if soPt s p = 0 then gon (zcW s (wcA (zW s) (some (zX s, (wP (zW s)).length)))) else flt 3 s
    | [] => none)
  else none
/-- acts of two halves -/
def stD (t : Nat → Int32) (c : Nat) (v u : Int32) (s : SM) : RS :=
  if c = 9 then (match fndS t s v with
    | some (0, n) => gon (zcB s ((if u = 1 then dplain (FP.dneg (FP.i2d n)) else FP.i2d n) :: zB s))
    | _ => flt 1 s)
  else if c = 30 then (match rowS t s v with
    | none => flt 1 s
    | some r => rowX u r s)
  else if c = 42 then (match fndS t s v with
    | some _ => flt 9 s
    | none => bnd (newV u.toInt.toNat none s) fun z => gon (zcW z (wcN (zW z) (wN (zW z) ++ [(nmAt t v.toInt.toNat, 1, i3 (wV (zW s)).length)]))))
  else if c = 45 then (match fndS t s v with
    | some _ => flt 9 s
    | none => con1 s fun i s => if i < 0 then flt 5 s else if 40 < i ∨ (wR (zW s)).length = 40 then flt 8 s else gon (zcW s (wcN (wcR (zW s) (wR (zW s) ++ [(u.toInt.toNat, List.replicate i.toInt.toNat none, none)])) (wN (zW s) ++ [(nmAt t v.toInt.toNat, 2, i3 (wR (zW s)).length)]))))
  else if c = 50 then (match zC s, zH s with
    | [b, n, a], [q, r] => if a < 0 ∨ b < 0 ∨ n < 0 ∨ ((rwE (zW s) r).2.1.length : Int) < a.toInt + n.toInt ∨ ((rwE (zW s) q).2.1.length : Int) < b.toInt + n.toInt then flt 2 s else cpyS q (((rwE (zW s) r).2.1.drop a.toInt.toNat).take n.toInt.toNat) b.toInt.toNat s
    | _, _ => none)
  else if c = 51 then (match zH s with
    | [r] => if (v.toInt : Int) = ((rwE (zW s) r).2.1.length : Int) then (if v.toInt.toNat ≤ (zC s).length then gon (zcW s (wcR (zW s) ((wR (zW s)).set r ((rwE (zW s) r).1, (rwE (zW s) r).2.1, some ((zC s).take v.toInt.toNat).reverse)))) else none) else flt 5 s
    | _ => none)
  else none
/-- one act -/
def stp1 (t : Nat → Int32) (s : SM) (a : PA) : RS := match zQ s with
  | some (c, v) => stD t c v a.1 (zcQ s none)
  | none => if isTwo a.1.toInt.toNat = true then gon (zcQ s (some (a.1.toInt.toNat, a.2.1))) else if a.1.toInt.toNat < 20 then stA t a.1.toInt.toNat a.2.1 a.2.2 s else if a.1.toInt.toNat < 40 then stB t a.1.toInt.toNat a.2.1 a.2.2 s else stC t a.1.toInt.toNat a.2.1 a.2.2 s
/-- a row of acts -/
def rnA (t : Nat → Int32) (A : List PA) (r : RS) : RS := A.foldl (fun r a => bnd r fun s => stp1 t s a) r
theorem rnA_nil (t : Nat → Int32) (r : RS) : rnA t [] r = r := rfl
theorem rnA_cons (t : Nat → Int32) (a : PA) (A : List PA) (r : RS) : rnA t (a :: A) r = rnA t A (bnd r fun s => stp1 t s a) := rfl
theorem rnA_app (t : Nat → Int32) (A B : List PA) (r : RS) : rnA t (A ++ B) r = rnA t B (rnA t A r) := List.foldl_append ..
theorem rnA_none (t : Nat → Int32) (A : List PA) : rnA t A none = none := by
  induction A with
  | nil => rfl
  | cons a A ih => rw [rnA_cons]; exact ih
theorem rnA_flt (t : Nat → Int32) (A : List PA) (e : Nat × WS) : rnA t A (some (.inr e)) = some (.inr e) := by
  induction A with
  | nil => rfl
  | cons a A ih => rw [rnA_cons]; exact ih
/-- a statement: its world behind it, or a fault and the world that it leaves -/
def stmS (t : Nat → Int32) (A : List PA) (w : WS) : Option (WS ⊕ (Nat × WS)) := match rnA t A (gon (w, [], [], [], [], (0, (0, 0), []), none, 0, none)) with
  | none => none
  | some (.inl s) => if zQ s = none then some (.inl (zW s)) else none
  | some (.inr e) => some (.inr e)
