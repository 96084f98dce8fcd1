/-! THE SEMANTICS: bytecode over an abstract heap. Printed by gen/sem.py -/
set_option maxRecDepth 100000
/-- (next address, cells, slots), kinds and lengths, ints, longs, floats, doubles, references -/
abbrev Hp : Type := (Nat × Nat × Nat) × (Nat → Nat × Nat) × (Nat → Nat → Int32) × (Nat → Nat → Int64) × (Nat → Nat → UInt32) × (Nat → Nat → UInt64) × (Nat → Nat → Option Nat)
def nx (h : Hp) : Nat := h.1.1
def nc (h : Hp) : Nat := h.1.2.1
def ns (h : Hp) : Nat := h.1.2.2
def kd (h : Hp) (a : Nat) : Nat × Nat := h.2.1 a
def gI (h : Hp) (a k : Nat) : Int32 := h.2.2.1 a k
def gL (h : Hp) (a k : Nat) : Int64 := h.2.2.2.1 a k
def gF (h : Hp) (a k : Nat) : UInt32 := h.2.2.2.2.1 a k
def gD (h : Hp) (a k : Nat) : UInt64 := h.2.2.2.2.2.1 a k
def gR (h : Hp) (a k : Nat) : Option Nat := h.2.2.2.2.2.2 a k
def up2 {α : Type} (f : Nat → Nat → α) (a k : Nat) (v : α) : Nat → Nat → α := fun b j => if b = a ∧ j = k then v else f b j
def rs0 {α : Type} (f : Nat → Nat → α) (a : Nat) (z : α) : Nat → Nat → α := fun b j => if b = a then z else f b j
def sI (h : Hp) (a k : Nat) (v : Int32) : Hp := (h.1, h.2.1, up2 h.2.2.1 a k v, h.2.2.2.1, h.2.2.2.2.1, h.2.2.2.2.2.1, h.2.2.2.2.2.2)
def sL (h : Hp) (a k : Nat) (v : Int64) : Hp := (h.1, h.2.1, h.2.2.1, up2 h.2.2.2.1 a k v, h.2.2.2.2.1, h.2.2.2.2.2.1, h.2.2.2.2.2.2)
def sF (h : Hp) (a k : Nat) (v : UInt32) : Hp := (h.1, h.2.1, h.2.2.1, h.2.2.2.1, up2 h.2.2.2.2.1 a k v, h.2.2.2.2.2.1, h.2.2.2.2.2.2)
def sD (h : Hp) (a k : Nat) (v : UInt64) : Hp := (h.1, h.2.1, h.2.2.1, h.2.2.2.1, h.2.2.2.2.1, up2 h.2.2.2.2.2.1 a k v, h.2.2.2.2.2.2)
def sR (h : Hp) (a k : Nat) (v : Option Nat) : Hp := (h.1, h.2.1, h.2.2.1, h.2.2.2.1, h.2.2.2.2.1, h.2.2.2.2.2.1, up2 h.2.2.2.2.2.2 a k v)
/-- a new cell of a kind, all its places 0 or null; it counts dc cells of ds slots -/
def alo (h : Hp) (kind len dc ds : Nat) : Hp := ((nx h + 1, nc h + dc, ns h + ds), fun b => if b = nx h then (kind, len) else kd h b, rs0 (gI h) (nx h) 0, rs0 (gL h) (nx h) 0, rs0 (gF h) (nx h) 0, rs0 (gD h) (nx h) 0, rs0 (gR h) (nx h) none)

theorem gI_sI (h : Hp) (a k b j : Nat) (v : Int32) : gI (sI h a k v) b j = if b = a ∧ j = k then v else gI h b j := rfl
theorem gI_sI_eq (h : Hp) (a k : Nat) (v : Int32) : gI (sI h a k v) a k = v := by rw [gI_sI]; exact if_pos ⟨rfl, rfl⟩
theorem gI_sL (h : Hp) (a k b j : Nat) (v : Int64) : gI (sL h a k v) b j = gI h b j := rfl
theorem gI_sF (h : Hp) (a k b j : Nat) (v : UInt32) : gI (sF h a k v) b j = gI h b j := rfl
theorem gI_sD (h : Hp) (a k b j : Nat) (v : UInt64) : gI (sD h a k v) b j = gI h b j := rfl
theorem gI_sR (h : Hp) (a k b j : Nat) (v : Option Nat) : gI (sR h a k v) b j = gI h b j := rfl
theorem gI_alo (h : Hp) (kind len dc ds b j : Nat) : gI (alo h kind len dc ds) b j = if b = nx h then 0 else gI h b j := rfl
theorem kd_sI (h : Hp) (a k b : Nat) (v : Int32) : kd (sI h a k v) b = kd h b := rfl
theorem nx_sI (h : Hp) (a k : Nat) (v : Int32) : nx (sI h a k v) = nx h := rfl
theorem nc_sI (h : Hp) (a k : Nat) (v : Int32) : nc (sI h a k v) = nc h := rfl
theorem ns_sI (h : Hp) (a k : Nat) (v : Int32) : ns (sI h a k v) = ns h := rfl
theorem gL_sI (h : Hp) (a k b j : Nat) (v : Int32) : gL (sI h a k v) b j = gL h b j := rfl
theorem gL_sL (h : Hp) (a k b j : Nat) (v : Int64) : gL (sL h a k v) b j = if b = a ∧ j = k then v else gL h b j := rfl
theorem gL_sL_eq (h : Hp) (a k : Nat) (v : Int64) : gL (sL h a k v) a k = v := by rw [gL_sL]; exact if_pos ⟨rfl, rfl⟩
theorem gL_sF (h : Hp) (a k b j : Nat) (v : UInt32) : gL (sF h a k v) b j = gL h b j := rfl
theorem gL_sD (h : Hp) (a k b j : Nat) (v : UInt64) : gL (sD h a k v) b j = gL h b j := rfl
theorem gL_sR (h : Hp) (a k b j : Nat) (v : Option Nat) : gL (sR h a k v) b j = gL h b j := rfl
theorem gL_alo (h : Hp) (kind len dc ds b j : Nat) : gL (alo h kind len dc ds) b j = if b = nx h then 0 else gL h b j := rfl
theorem kd_sL (h : Hp) (a k b : Nat) (v : Int64) : kd (sL h a k v) b = kd h b := rfl
theorem nx_sL (h : Hp) (a k : Nat) (v : Int64) : nx (sL h a k v) = nx h := rfl
theorem nc_sL (h : Hp) (a k : Nat) (v : Int64) : nc (sL h a k v) = nc h := rfl
theorem ns_sL (h : Hp) (a k : Nat) (v : Int64) : ns (sL h a k v) = ns h := rfl
theorem gF_sI (h : Hp) (a k b j : Nat) (v : Int32) : gF (sI h a k v) b j = gF h b j := rfl
theorem gF_sL (h : Hp) (a k b j : Nat) (v : Int64) : gF (sL h a k v) b j = gF h b j := rfl
theorem gF_sF (h : Hp) (a k b j : Nat) (v : UInt32) : gF (sF h a k v) b j = if b = a ∧ j = k then v else gF h b j := rfl
theorem gF_sF_eq (h : Hp) (a k : Nat) (v : UInt32) : gF (sF h a k v) a k = v := by rw [gF_sF]; exact if_pos ⟨rfl, rfl⟩
theorem gF_sD (h : Hp) (a k b j : Nat) (v : UInt64) : gF (sD h a k v) b j = gF h b j := rfl
theorem gF_sR (h : Hp) (a k b j : Nat) (v : Option Nat) : gF (sR h a k v) b j = gF h b j := rfl
theorem gF_alo (h : Hp) (kind len dc ds b j : Nat) : gF (alo h kind len dc ds) b j = if b = nx h then 0 else gF h b j := rfl
theorem kd_sF (h : Hp) (a k b : Nat) (v : UInt32) : kd (sF h a k v) b = kd h b := rfl
theorem nx_sF (h : Hp) (a k : Nat) (v : UInt32) : nx (sF h a k v) = nx h := rfl
theorem nc_sF (h : Hp) (a k : Nat) (v : UInt32) : nc (sF h a k v) = nc h := rfl
theorem ns_sF (h : Hp) (a k : Nat) (v : UInt32) : ns (sF h a k v) = ns h := rfl
theorem gD_sI (h : Hp) (a k b j : Nat) (v : Int32) : gD (sI h a k v) b j = gD h b j := rfl
theorem gD_sL (h : Hp) (a k b j : Nat) (v : Int64) : gD (sL h a k v) b j = gD h b j := rfl
theorem gD_sF (h : Hp) (a k b j : Nat) (v : UInt32) : gD (sF h a k v) b j = gD h b j := rfl
theorem gD_sD (h : Hp) (a k b j : Nat) (v : UInt64) : gD (sD h a k v) b j = if b = a ∧ j = k then v else gD h b j := rfl
theorem gD_sD_eq (h : Hp) (a k : Nat) (v : UInt64) : gD (sD h a k v) a k = v := by rw [gD_sD]; exact if_pos ⟨rfl, rfl⟩
theorem gD_sR (h : Hp) (a k b j : Nat) (v : Option Nat) : gD (sR h a k v) b j = gD h b j := rfl
theorem gD_alo (h : Hp) (kind len dc ds b j : Nat) : gD (alo h kind len dc ds) b j = if b = nx h then 0 else gD h b j := rfl
theorem kd_sD (h : Hp) (a k b : Nat) (v : UInt64) : kd (sD h a k v) b = kd h b := rfl
theorem nx_sD (h : Hp) (a k : Nat) (v : UInt64) : nx (sD h a k v) = nx h := rfl
theorem nc_sD (h : Hp) (a k : Nat) (v : UInt64) : nc (sD h a k v) = nc h := rfl
theorem ns_sD (h : Hp) (a k : Nat) (v : UInt64) : ns (sD h a k v) = ns h := rfl
theorem gR_sI (h : Hp) (a k b j : Nat) (v : Int32) : gR (sI h a k v) b j = gR h b j := rfl
theorem gR_sL (h : Hp) (a k b j : Nat) (v : Int64) : gR (sL h a k v) b j = gR h b j := rfl
theorem gR_sF (h : Hp) (a k b j : Nat) (v : UInt32) : gR (sF h a k v) b j = gR h b j := rfl
theorem gR_sD (h : Hp) (a k b j : Nat) (v : UInt64) : gR (sD h a k v) b j = gR h b j := rfl
theorem gR_sR (h : Hp) (a k b j : Nat) (v : Option Nat) : gR (sR h a k v) b j = if b = a ∧ j = k then v else gR h b j := rfl
theorem gR_sR_eq (h : Hp) (a k : Nat) (v : Option Nat) : gR (sR h a k v) a k = v := by rw [gR_sR]; exact if_pos ⟨rfl, rfl⟩
theorem gR_alo (h : Hp) (kind len dc ds b j : Nat) : gR (alo h kind len dc ds) b j = if b = nx h then none else gR h b j := rfl
theorem kd_sR (h : Hp) (a k b : Nat) (v : Option Nat) : kd (sR h a k v) b = kd h b := rfl
theorem nx_sR (h : Hp) (a k : Nat) (v : Option Nat) : nx (sR h a k v) = nx h := rfl
theorem nc_sR (h : Hp) (a k : Nat) (v : Option Nat) : nc (sR h a k v) = nc h := rfl
theorem ns_sR (h : Hp) (a k : Nat) (v : Option Nat) : ns (sR h a k v) = ns h := rfl
theorem kd_alo (h : Hp) (kind len dc ds b : Nat) : kd (alo h kind len dc ds) b = if b = nx h then (kind, len) else kd h b := rfl
theorem nx_alo (h : Hp) (kind len dc ds : Nat) : nx (alo h kind len dc ds) = nx h + 1 := rfl
theorem nc_alo (h : Hp) (kind len dc ds : Nat) : nc (alo h kind len dc ds) = nc h + dc := rfl
theorem ns_alo (h : Hp) (kind len dc ds : Nat) : ns (alo h kind len dc ds) = ns h + ds := rfl
/-! locals -/
abbrev LcS : Type := List (Nat × Value)
def lg : LcS → Nat → Option Value
  | [], _ => none
  | (j, v) :: t, i => if j = i then some v else lg t i
def lin : LcS → Nat → Value → LcS
  | [], i, v => [(i, v)]
  | (j, w) :: t, i, v => if j < i then (j, w) :: lin t i v else (i, v) :: (j, w) :: t
def lf1 : LcS → Nat → LcS
  | [], _ => []
  | (j, w) :: t, i => if j = i then lf1 t i else if j + 1 = i then (if w.category = 2 then lf1 t i else (j, w) :: lf1 t i) else (j, w) :: lf1 t i
def lf2 : LcS → Nat → LcS
  | [], _ => []
  | (j, w) :: t, i => if j = i then lf2 t i else if j = i + 1 then lf2 t i else if j + 1 = i then (if w.category = 2 then lf2 t i else (j, w) :: lf2 t i) else (j, w) :: lf2 t i
def ls1 (l : LcS) (i : Nat) (v : Value) : LcS := lin (lf1 l i) i v
def ls2 (l : LcS) (i : Nat) (v : Value) : LcS := lin (lf2 l i) i v
theorem lg_nil (i : Nat) : lg [] i = none := rfl
theorem lg_cons (j i : Nat) (v : Value) (t : LcS) : lg ((j, v) :: t) i = if j = i then some v else lg t i := rfl
theorem lin_nil (i : Nat) (v : Value) : lin [] i v = [(i, v)] := rfl
theorem lin_cons (j i : Nat) (w v : Value) (t : LcS) : lin ((j, w) :: t) i v = if j < i then (j, w) :: lin t i v else (i, v) :: (j, w) :: t := rfl
theorem lf1_nil (i : Nat) : lf1 [] i = [] := rfl
theorem lf1_cons (j i : Nat) (w : Value) (t : LcS) : lf1 ((j, w) :: t) i = if j = i then lf1 t i else if j + 1 = i then (if w.category = 2 then lf1 t i else (j, w) :: lf1 t i) else (j, w) :: lf1 t i := rfl
theorem lf2_nil (i : Nat) : lf2 [] i = [] := rfl
theorem lf2_cons (j i : Nat) (w : Value) (t : LcS) : lf2 ((j, w) :: t) i = if j = i then lf2 t i else if j = i + 1 then lf2 t i else if j + 1 = i then (if w.category = 2 then lf2 t i else (j, w) :: lf2 t i) else (j, w) :: lf2 t i := rfl
theorem cat_int (x : Int32) : (Value.int x).category = 1 := rfl
theorem cat_long (x : Int64) : (Value.long x).category = 2 := rfl
theorem cat_float (x : UInt32) : (Value.float x).category = 1 := rfl
theorem cat_double (x : UInt64) : (Value.double x).category = 2 := rfl
theorem cat_null : Value.null.category = 1 := rfl
theorem cat_ref (x : Nat) : (Value.ref x).category = 1 := rfl
theorem cat_rf (o : Option Nat) : (va_rf o).category = 1 := by cases o <;> rfl
theorem rf_some (a : Nat) : va_rf (some a) = .ref a := rfl
theorem rf_none : va_rf none = .null := rfl
/-- arguments of a method, as its locals -/
def lent : Nat → List Value → LcS
  | _, [] => []
  | i, v :: t => (i, v) :: lent (i + v.category) t
theorem lent_nil (i : Nat) : lent i [] = [] := rfl
theorem lent_cons (i : Nat) (v : Value) (t : List Value) : lent i (v :: t) = (i, v) :: lent (i + v.category) t := rfl
/-! the stack -/
abbrev SK : Type := List Value
def dOk (r : UInt64) : Bool := decide (r &&& 0x7fffffffffffffff ≤ 0x7ff0000000000000)
def fOk (r : UInt32) : Bool := decide (r &&& 0x7fffffff ≤ 0x7f800000)
def pI (f : Int32 → Option Value) : SK → Option SK
  | .int x :: r => (f x).map (· :: r)
  | _ => none
def pII (f : Int32 → Int32 → Option Value) : SK → Option SK
  | .int y :: .int x :: r => (f x y).map (· :: r)
  | _ => none
def pL (f : Int64 → Option Value) : SK → Option SK
  | .long x :: r => (f x).map (· :: r)
  | _ => none
def pLL (f : Int64 → Int64 → Option Value) : SK → Option SK
  | .long y :: .long x :: r => (f x y).map (· :: r)
  | _ => none
def pLI (f : Int64 → Int32 → Option Value) : SK → Option SK
  | .int y :: .long x :: r => (f x y).map (· :: r)
  | _ => none
def pF (f : UInt32 → Option Value) : SK → Option SK
  | .float x :: r => (f x).map (· :: r)
  | _ => none
def pFF (f : UInt32 → UInt32 → Option Value) : SK → Option SK
  | .float y :: .float x :: r => (f x y).map (· :: r)
  | _ => none
def pD (f : UInt64 → Option Value) : SK → Option SK
  | .double x :: r => (f x).map (· :: r)
  | _ => none
def pDD (f : UInt64 → UInt64 → Option Value) : SK → Option SK
  | .double y :: .double x :: r => (f x y).map (· :: r)
  | _ => none
def okd (r : UInt64) : Option Value := if dOk r = true then some (.double r) else none
def okf (r : UInt32) : Option Value := if fOk r = true then some (.float r) else none
def sdup : SK → Option SK
  | v :: r => if v.category = 1 then some (v :: v :: r) else none
  | _ => none
def spop : SK → Option SK
  | v :: r => if v.category = 1 then some r else none
  | _ => none
def sdupx1 : SK → Option SK
  | v :: w :: r => if v.category = 1 ∧ w.category = 1 then some (v :: w :: v :: r) else none
  | _ => none
def sdup2 : SK → Option SK
  | v :: w :: r => if v.category = 1 ∧ w.category = 1 then some (v :: w :: v :: w :: r) else none
  | _ => none
theorem sdup_c (v : Value) (r : SK) : sdup (v :: r) = if v.category = 1 then some (v :: v :: r) else none := rfl
theorem spop_c (v : Value) (r : SK) : spop (v :: r) = if v.category = 1 then some r else none := rfl
theorem sdupx1_c (v w : Value) (r : SK) : sdupx1 (v :: w :: r) = if v.category = 1 ∧ w.category = 1 then some (v :: w :: v :: r) else none := rfl
theorem sdup2_c (v w : Value) (r : SK) : sdup2 (v :: w :: r) = if v.category = 1 ∧ w.category = 1 then some (v :: w :: v :: w :: r) else none := rfl
theorem pI_c (f : Int32 → Option Value) (x : Int32) (r : SK) : pI f (.int x :: r) = (f x).map (· :: r) := rfl
theorem pII_c (f : Int32 → Int32 → Option Value) (x y : Int32) (r : SK) : pII f (.int y :: .int x :: r) = (f x y).map (· :: r) := rfl
theorem pL_c (f : Int64 → Option Value) (x : Int64) (r : SK) : pL f (.long x :: r) = (f x).map (· :: r) := rfl
theorem pLL_c (f : Int64 → Int64 → Option Value) (x y : Int64) (r : SK) : pLL f (.long y :: .long x :: r) = (f x y).map (· :: r) := rfl
theorem pLI_c (f : Int64 → Int32 → Option Value) (x : Int64) (y : Int32) (r : SK) : pLI f (.int y :: .long x :: r) = (f x y).map (· :: r) := rfl
theorem pF_c (f : UInt32 → Option Value) (x : UInt32) (r : SK) : pF f (.float x :: r) = (f x).map (· :: r) := rfl
theorem pFF_c (f : UInt32 → UInt32 → Option Value) (x y : UInt32) (r : SK) : pFF f (.float y :: .float x :: r) = (f x y).map (· :: r) := rfl
theorem pD_c (f : UInt64 → Option Value) (x : UInt64) (r : SK) : pD f (.double x :: r) = (f x).map (· :: r) := rfl
theorem pDD_c (f : UInt64 → UInt64 → Option Value) (x y : UInt64) (r : SK) : pDD f (.double y :: .double x :: r) = (f x y).map (· :: r) := rfl
theorem mapc_some (v : Value) (r : SK) : (some v).map (· :: r) = some (v :: r) := rfl
theorem mapc_none (r : SK) : (none : Option Value).map (· :: r) = none := rfl
theorem mapc_ite (c : Prop) [Decidable c] (a b : Option Value) (r : SK) : (if c then a else b).map (· :: r) = if c then a.map (· :: r) else b.map (· :: r) := by split <;> rfl

/-- what works on the stack alone -/
def ari (i : Instr) (st : SK) : Option SK := match i with
  | .iconst n => some (.int (Int32.ofInt n) :: st)
  | .bipush n => some (.int (Int8.ofInt n).toInt32 :: st)
  | .sipush n => some (.int (Int16.ofInt n).toInt32 :: st)
  | .lconst n => some (.long (Int64.ofNat (n : Nat)) :: st)
  | .aconst_null => some (.null :: st)
  | .fconst n => some (.float (if n = 0 then FP.fconst0 else if n = 1 then FP.fconst1 else FP.fconst2) :: st)
  | .dconst n => some (.double (if n = 0 then FP.dconst0 else FP.dconst1) :: st)
  | .iadd => pII (fun x y => some (.int (x + y))) st
  | .isub => pII (fun x y => some (.int (x - y))) st
  | .imul => pII (fun x y => some (.int (x * y))) st
  | .iand => pII (fun x y => some (.int (x &&& y))) st
  | .ior => pII (fun x y => some (.int (x ||| y))) st
  | .ixor => pII (fun x y => some (.int (x ^^^ y))) st
  | .ishl => pII (fun x y => some (.int (x <<< (y &&& 31)))) st
  | .ishr => pII (fun x y => some (.int (x >>> (y &&& 31)))) st
  | .iushr => pII (fun x y => some (.int ((x.toUInt32 >>> (y.toUInt32 &&& Int32.toUInt32 31)).toInt32))) st
  | .idiv => pII (fun x y => if y = 0 then none else some (.int (x / y))) st
  | .irem => pII (fun x y => if y = 0 then none else some (.int (x - x / y * y))) st
  | .ineg => pI (fun x => some (.int (-x))) st
  | .ladd => pLL (fun x y => some (.long (x + y))) st
  | .lsub => pLL (fun x y => some (.long (x - y))) st
  | .lmul => pLL (fun x y => some (.long (x * y))) st
  | .land => pLL (fun x y => some (.long (x &&& y))) st
  | .lor => pLL (fun x y => some (.long (x ||| y))) st
  | .lxor => pLL (fun x y => some (.long (x ^^^ y))) st
  | .ldiv => pLL (fun x y => if y = 0 then none else some (.long (x / y))) st
  | .lrem => pLL (fun x y => if y = 0 then none else some (.long (x - x / y * y))) st
  | .lneg => pL (fun x => some (.long (-x))) st
  | .lshl => pLI (fun x y => some (.long (x <<< (y.toInt64 &&& 63)))) st
  | .lshr => pLI (fun x y => some (.long (x >>> (y.toInt64 &&& 63)))) st
  | .lushr => pLI (fun x y => some (.long (x.toUInt64 >>> (y.toInt64.toUInt64 &&& Int64.toUInt64 63)).toInt64)) st
  | .lcmp => pLL (fun x y => some (.int (lg_cmp x y))) st
  | .dadd => pDD (fun x y => okd (FP.dadd x y)) st
  | .dsub => pDD (fun x y => okd (FP.dsub x y)) st
  | .dmul => pDD (fun x y => okd (FP.dmul x y)) st
  | .ddiv => pDD (fun x y => okd (FP.ddiv x y)) st
  | .fadd => pFF (fun x y => okf (FP.fadd x y)) st
  | .fsub => pFF (fun x y => okf (FP.fsub x y)) st
  | .fmul => pFF (fun x y => okf (FP.fmul x y)) st
  | .fdiv => pFF (fun x y => okf (FP.fdiv x y)) st
  | .dneg => pD (fun x => some (.double (FP.dneg x))) st
  | .fneg => pF (fun x => some (.float (FP.fneg x))) st
  | .dcmp op => pDD (fun x y => some (.int (Op.cmpValue (FP.dcmp x y) op))) st
  | .fcmp op => pFF (fun x y => some (.int (Op.cmpValue (FP.fcmp x y) op))) st
  | .i2l => pI (fun x => some (.long x.toInt64)) st
  | .l2i => pL (fun x => some (.int x.toInt32)) st
  | .i2b => pI (fun x => some (.int x.toInt8.toInt32)) st
  | .i2s => pI (fun x => some (.int x.toInt16.toInt32)) st
  | .i2c => pI (fun x => some (.int (x.toUInt32 % 65536).toInt32)) st
  | .i2d => pI (fun x => some (.double (FP.i2d x))) st
  | .i2f => pI (fun x => some (.float (FP.i2f x))) st
  | .l2d => pL (fun x => some (.double (FP.l2d x))) st
  | .d2i => pD (fun x => some (.int (FP.d2i x))) st
  | .d2l => pD (fun x => some (.long (FP.d2l x))) st
  | .f2i => pF (fun x => some (.int (FP.f2i x))) st
  | .f2d => pF (fun x => okd (FP.f2d x)) st
  | .d2f => pD (fun x => okf (FP.d2f x)) st
  | .dup => sdup st
  | .pop => spop st
  | .dup_x1 => sdupx1 st
  | .dup2 => sdup2 st
  | _ => none
theorem ari_iconst (n : Int) (st : SK) : ari (.iconst n) st = some (.int (Int32.ofInt n) :: st) := rfl
theorem ari_bipush (n : Int) (st : SK) : ari (.bipush n) st = some (.int (Int8.ofInt n).toInt32 :: st) := rfl
theorem ari_sipush (n : Int) (st : SK) : ari (.sipush n) st = some (.int (Int16.ofInt n).toInt32 :: st) := rfl
theorem ari_lconst (n : Fin 2) (st : SK) : ari (.lconst n) st = some (.long (Int64.ofNat (n : Nat)) :: st) := rfl
theorem ari_aconst_null (st : SK) : ari (.aconst_null) st = some (.null :: st) := rfl
theorem ari_fconst (n : Fin 3) (st : SK) : ari (.fconst n) st = some (.float (if n = 0 then FP.fconst0 else if n = 1 then FP.fconst1 else FP.fconst2) :: st) := rfl
theorem ari_dconst (n : Fin 2) (st : SK) : ari (.dconst n) st = some (.double (if n = 0 then FP.dconst0 else FP.dconst1) :: st) := rfl
theorem ari_iadd (st : SK) : ari (.iadd) st = pII (fun x y => some (.int (x + y))) st := rfl
theorem ari_isub (st : SK) : ari (.isub) st = pII (fun x y => some (.int (x - y))) st := rfl
theorem ari_imul (st : SK) : ari (.imul) st = pII (fun x y => some (.int (x * y))) st := rfl
theorem ari_iand (st : SK) : ari (.iand) st = pII (fun x y => some (.int (x &&& y))) st := rfl
theorem ari_ior (st : SK) : ari (.ior) st = pII (fun x y => some (.int (x ||| y))) st := rfl
theorem ari_ixor (st : SK) : ari (.ixor) st = pII (fun x y => some (.int (x ^^^ y))) st := rfl
theorem ari_ishl (st : SK) : ari (.ishl) st = pII (fun x y => some (.int (x <<< (y &&& 31)))) st := rfl
theorem ari_ishr (st : SK) : ari (.ishr) st = pII (fun x y => some (.int (x >>> (y &&& 31)))) st := rfl
theorem ari_iushr (st : SK) : ari (.iushr) st = pII (fun x y => some (.int ((x.toUInt32 >>> (y.toUInt32 &&& Int32.toUInt32 31)).toInt32))) st := rfl
theorem ari_idiv (st : SK) : ari (.idiv) st = pII (fun x y => if y = 0 then none else some (.int (x / y))) st := rfl
theorem ari_irem (st : SK) : ari (.irem) st = pII (fun x y => if y = 0 then none else some (.int (x - x / y * y))) st := rfl
theorem ari_ineg (st : SK) : ari (.ineg) st = pI (fun x => some (.int (-x))) st := rfl
theorem ari_ladd (st : SK) : ari (.ladd) st = pLL (fun x y => some (.long (x + y))) st := rfl
theorem ari_lsub (st : SK) : ari (.lsub) st = pLL (fun x y => some (.long (x - y))) st := rfl
theorem ari_lmul (st : SK) : ari (.lmul) st = pLL (fun x y => some (.long (x * y))) st := rfl
theorem ari_land (st : SK) : ari (.land) st = pLL (fun x y => some (.long (x &&& y))) st := rfl
theorem ari_lor (st : SK) : ari (.lor) st = pLL (fun x y => some (.long (x ||| y))) st := rfl
theorem ari_lxor (st : SK) : ari (.lxor) st = pLL (fun x y => some (.long (x ^^^ y))) st := rfl
theorem ari_ldiv (st : SK) : ari (.ldiv) st = pLL (fun x y => if y = 0 then none else some (.long (x / y))) st := rfl
theorem ari_lrem (st : SK) : ari (.lrem) st = pLL (fun x y => if y = 0 then none else some (.long (x - x / y * y))) st := rfl
theorem ari_lneg (st : SK) : ari (.lneg) st = pL (fun x => some (.long (-x))) st := rfl
theorem ari_lshl (st : SK) : ari (.lshl) st = pLI (fun x y => some (.long (x <<< (y.toInt64 &&& 63)))) st := rfl
theorem ari_lshr (st : SK) : ari (.lshr) st = pLI (fun x y => some (.long (x >>> (y.toInt64 &&& 63)))) st := rfl
theorem ari_lushr (st : SK) : ari (.lushr) st = pLI (fun x y => some (.long (x.toUInt64 >>> (y.toInt64.toUInt64 &&& Int64.toUInt64 63)).toInt64)) st := rfl
theorem ari_lcmp (st : SK) : ari (.lcmp) st = pLL (fun x y => some (.int (lg_cmp x y))) st := rfl
theorem ari_dadd (st : SK) : ari (.dadd) st = pDD (fun x y => okd (FP.dadd x y)) st := rfl
theorem ari_dsub (st : SK) : ari (.dsub) st = pDD (fun x y => okd (FP.dsub x y)) st := rfl
theorem ari_dmul (st : SK) : ari (.dmul) st = pDD (fun x y => okd (FP.dmul x y)) st := rfl
theorem ari_ddiv (st : SK) : ari (.ddiv) st = pDD (fun x y => okd (FP.ddiv x y)) st := rfl
theorem ari_fadd (st : SK) : ari (.fadd) st = pFF (fun x y => okf (FP.fadd x y)) st := rfl
theorem ari_fsub (st : SK) : ari (.fsub) st = pFF (fun x y => okf (FP.fsub x y)) st := rfl
theorem ari_fmul (st : SK) : ari (.fmul) st = pFF (fun x y => okf (FP.fmul x y)) st := rfl
theorem ari_fdiv (st : SK) : ari (.fdiv) st = pFF (fun x y => okf (FP.fdiv x y)) st := rfl
theorem ari_dneg (st : SK) : ari (.dneg) st = pD (fun x => some (.double (FP.dneg x))) st := rfl
theorem ari_fneg (st : SK) : ari (.fneg) st = pF (fun x => some (.float (FP.fneg x))) st := rfl
theorem ari_dcmp (op : CmpOp) (st : SK) : ari (.dcmp op) st = pDD (fun x y => some (.int (Op.cmpValue (FP.dcmp x y) op))) st := rfl
theorem ari_fcmp (op : CmpOp) (st : SK) : ari (.fcmp op) st = pFF (fun x y => some (.int (Op.cmpValue (FP.fcmp x y) op))) st := rfl
theorem ari_i2l (st : SK) : ari (.i2l) st = pI (fun x => some (.long x.toInt64)) st := rfl
theorem ari_l2i (st : SK) : ari (.l2i) st = pL (fun x => some (.int x.toInt32)) st := rfl
theorem ari_i2b (st : SK) : ari (.i2b) st = pI (fun x => some (.int x.toInt8.toInt32)) st := rfl
theorem ari_i2s (st : SK) : ari (.i2s) st = pI (fun x => some (.int x.toInt16.toInt32)) st := rfl
theorem ari_i2c (st : SK) : ari (.i2c) st = pI (fun x => some (.int (x.toUInt32 % 65536).toInt32)) st := rfl
theorem ari_i2d (st : SK) : ari (.i2d) st = pI (fun x => some (.double (FP.i2d x))) st := rfl
theorem ari_i2f (st : SK) : ari (.i2f) st = pI (fun x => some (.float (FP.i2f x))) st := rfl
theorem ari_l2d (st : SK) : ari (.l2d) st = pL (fun x => some (.double (FP.l2d x))) st := rfl
theorem ari_d2i (st : SK) : ari (.d2i) st = pD (fun x => some (.int (FP.d2i x))) st := rfl
theorem ari_d2l (st : SK) : ari (.d2l) st = pD (fun x => some (.long (FP.d2l x))) st := rfl
theorem ari_f2i (st : SK) : ari (.f2i) st = pF (fun x => some (.int (FP.f2i x))) st := rfl
theorem ari_f2d (st : SK) : ari (.f2d) st = pF (fun x => okd (FP.f2d x)) st := rfl
theorem ari_d2f (st : SK) : ari (.d2f) st = pD (fun x => okf (FP.d2f x)) st := rfl
theorem ari_dup (st : SK) : ari (.dup) st = sdup st := rfl
theorem ari_pop (st : SK) : ari (.pop) st = spop st := rfl
theorem ari_dup_x1 (st : SK) : ari (.dup_x1) st = sdupx1 st := rfl
theorem ari_dup2 (st : SK) : ari (.dup2) st = sdup2 st := rfl
def tgt (pc : Nat) (off : Int) : Nat := ((pc : Int) + off).toNat
def tgOk (pc : Nat) (off : Int) : Bool := decide (0 ≤ (pc : Int) + off)
def br1 {α : Type} (c : ClassFile.Cond) (x : Int32) (a b : α) : α := match c with
  | .eq => if x = 0 then a else b
  | .ne => if x = 0 then b else a
  | .lt => if x < 0 then a else b
  | .ge => if x < 0 then b else a
  | .gt => if 0 < x then a else b
  | .le => if 0 < x then b else a
def br2 {α : Type} (c : ClassFile.Cond) (x y : Int32) (a b : α) : α := match c with
  | .eq => if x = y then a else b
  | .ne => if x = y then b else a
  | .lt => if x < y then a else b
  | .ge => if x < y then b else a
  | .gt => if y < x then a else b
  | .le => if y < x then b else a

theorem br1_eq {α : Type} (x : Int32) (a b : α) : br1 .eq x a b = if x = 0 then a else b := rfl
theorem br2_eq {α : Type} (x y : Int32) (a b : α) : br2 .eq x y a b = if x = y then a else b := rfl
theorem br1_ne {α : Type} (x : Int32) (a b : α) : br1 .ne x a b = if x = 0 then b else a := rfl
theorem br2_ne {α : Type} (x y : Int32) (a b : α) : br2 .ne x y a b = if x = y then b else a := rfl
theorem br1_lt {α : Type} (x : Int32) (a b : α) : br1 .lt x a b = if x < 0 then a else b := rfl
theorem br2_lt {α : Type} (x y : Int32) (a b : α) : br2 .lt x y a b = if x < y then a else b := rfl
theorem br1_ge {α : Type} (x : Int32) (a b : α) : br1 .ge x a b = if x < 0 then b else a := rfl
theorem br2_ge {α : Type} (x y : Int32) (a b : α) : br2 .ge x y a b = if x < y then b else a := rfl
theorem br1_gt {α : Type} (x : Int32) (a b : α) : br1 .gt x a b = if 0 < x then a else b := rfl
theorem br2_gt {α : Type} (x y : Int32) (a b : α) : br2 .gt x y a b = if y < x then a else b := rfl
theorem br1_le {α : Type} (x : Int32) (a b : α) : br1 .le x a b = if 0 < x then b else a := rfl
theorem br2_le {α : Type} (x y : Int32) (a b : α) : br2 .le x y a b = if y < x then b else a := rfl
/-! methods: (own class, kind of answer, locals, code, handlers (from, to, at, kinds; no kinds: any)) -/
abbrev MT : Type := Nat × Nat × Nat × ByteArray × List (Nat × Nat × Nat × List Nat)
def mown (M : MT) : Nat := M.1
def mrt (M : MT) : Nat := M.2.1
def mlc (M : MT) : Nat := M.2.2.1
def mcd (M : MT) : ByteArray := M.2.2.2.1
def mhh (M : MT) : List (Nat × Nat × Nat × List Nat) := M.2.2.2.2
/-- go on | return | throw | call (method, arguments, the rest of the stack, length) -/
abbrev Act : Type := (Nat × LcS × SK × Hp) ⊕ (Option Value × Hp) ⊕ (Nat × Hp) ⊕ (Nat × SK × SK × Nat × Hp)
def go (pc : Nat) (ls : LcS) (st : SK) (h : Hp) : Option Act := some (.inl (pc, ls, st, h))
def rt (v : Option Value) (h : Hp) : Option Act := some (.inr (.inl (v, h)))
def th (x : Nat) (h : Hp) : Option Act := some (.inr (.inr (.inl (x, h))))
def cal (k : Nat) (as rest : SK) (len : Nat) (h : Hp) : Option Act := some (.inr (.inr (.inr (k, as, rest, len, h))))
def wds (st : SK) : Nat := (st.map fun v => v.category).sum
theorem wds_nil : wds [] = 0 := rfl
theorem wds_cons (v : Value) (t : SK) : wds (v :: t) = v.category + wds t := rfl
/-- the machine throws: an exception of a kind (r: what lies below on the stack) -/
def thv (w : Nat) (r : SK) (e dc ds : Nat) (h : Hp) : Option Act := if 10300 ≤ w ∧ wds r ≤ 60 then th (nx h) (alo h e 0 dc ds) else none
def npe (w : Nat) (r : SK) (h : Hp) : Option Act := thv w r kNPE 1 8 h
def msg (w : Nat) (r : SK) (e : Nat) (h : Hp) : Option Act := thv w r e 3 1010 h
def f4 (k : Fin 4) : Nat := k.val
theorem f4_0 : f4 0 = 0 := rfl
theorem f4_1 : f4 1 = 1 := rfl
theorem f4_2 : f4 2 = 2 := rfl
theorem f4_3 : f4 3 = 3 := rfl
def inB (i : Int32) (n : Nat) : Bool := decide (¬ (i < 0 ∨ n ≤ i.toNatClampNeg))
/-- an int is what a type keeps (0 int, 1 boolean, 2 byte, 3 char, 4 short) -/
def narO (t : Nat) (x : Int32) : Bool := match t with
  | 0 => true
  | 1 => decide (x = 0 ∨ x = 1)
  | 2 => decide (x.toInt8.toInt32 = x)
  | 3 => decide ((x.toUInt32 % 65536).toInt32 = x)
  | 4 => decide (x.toInt16.toInt32 = x)
  | _ => false
theorem narO_0 (x : Int32) : narO 0 x = true := rfl
theorem narO_1 (x : Int32) : narO 1 x = decide (x = 0 ∨ x = 1) := rfl
theorem narO_2 (x : Int32) : narO 2 x = decide (x.toInt8.toInt32 = x) := rfl
theorem narO_3 (x : Int32) : narO 3 x = decide ((x.toUInt32 % 65536).toInt32 = x) := rfl
theorem narO_4 (x : Int32) : narO 4 x = decide (x.toInt16.toInt32 = x) := rfl
/-- a field's value by its type code (5 long, 6 float, 7 double, 8 reference) -/
def vF (h : Hp) (a f t : Nat) : Value := match t with
  | 5 => .long (gL h a f)
  | 6 => .float (gF h a f)
  | 7 => .double (gD h a f)
  | 8 => va_rf (gR h a f)
  | _ => .int (gI h a f)
theorem vF_0 (h : Hp) (a f : Nat) : vF h a f 0 = .int (gI h a f) := rfl
theorem vF_1 (h : Hp) (a f : Nat) : vF h a f 1 = .int (gI h a f) := rfl
theorem vF_2 (h : Hp) (a f : Nat) : vF h a f 2 = .int (gI h a f) := rfl
theorem vF_3 (h : Hp) (a f : Nat) : vF h a f 3 = .int (gI h a f) := rfl
theorem vF_4 (h : Hp) (a f : Nat) : vF h a f 4 = .int (gI h a f) := rfl
theorem vF_5 (h : Hp) (a f : Nat) : vF h a f 5 = .long (gL h a f) := rfl
theorem vF_6 (h : Hp) (a f : Nat) : vF h a f 6 = .float (gF h a f) := rfl
theorem vF_7 (h : Hp) (a f : Nat) : vF h a f 7 = .double (gD h a f) := rfl
theorem vF_8 (h : Hp) (a f : Nat) : vF h a f 8 = va_rf (gR h a f) := rfl
def stF (h : Hp) (a f t : Nat) : Value → Option Hp
  | .int x => if t < 5 ∧ narO t x = true then some (sI h a f x) else none
  | .long x => if t = 5 then some (sL h a f x) else none
  | .float x => if t = 6 then some (sF h a f x) else none
  | .double x => if t = 7 then some (sD h a f x) else none
  | .null => if t = 8 then some (sR h a f none) else none
  | .ref b => if t = 8 then some (sR h a f (some b)) else none
  | _ => none
theorem stF_int (h : Hp) (a f t : Nat) (x : Int32) : stF h a f t (.int x) = if t < 5 ∧ narO t x = true then some (sI h a f x) else none := rfl
theorem stF_long (h : Hp) (a f t : Nat) (x : Int64) : stF h a f t (.long x) = if t = 5 then some (sL h a f x) else none := rfl
theorem stF_float (h : Hp) (a f t : Nat) (x : UInt32) : stF h a f t (.float x) = if t = 6 then some (sF h a f x) else none := rfl
theorem stF_double (h : Hp) (a f t : Nat) (x : UInt64) : stF h a f t (.double x) = if t = 7 then some (sD h a f x) else none := rfl
theorem stF_null (h : Hp) (a f t : Nat) : stF h a f t .null = if t = 8 then some (sR h a f none) else none := rfl
theorem stF_ref (h : Hp) (a f t b : Nat) : stF h a f t (.ref b) = if t = 8 then some (sR h a f (some b)) else none := rfl
theorem stF_rf (h : Hp) (a f t : Nat) (o : Option Nat) : stF h a f t (va_rf o) = if t = 8 then some (sR h a f o) else none := by cases o <;> rfl
/-- n arguments off the stack, the first one first -/
def popN : Nat → SK → SK → Option (SK × SK)
  | 0, acc, st => some (acc, st)
  | n + 1, acc, v :: st => popN n (v :: acc) st
  | _ + 1, _, [] => none
theorem popN_0 (acc st : SK) : popN 0 acc st = some (acc, st) := rfl
theorem popN_s (n : Nat) (acc st : SK) (v : Value) : popN (n + 1) acc (v :: st) = popN n (v :: acc) st := rfl
def tI (v : Value) : Bool := match v with
  | .int _ => true
  | _ => false
def tL (v : Value) : Bool := match v with
  | .long _ => true
  | _ => false
def tF (v : Value) : Bool := match v with
  | .float _ => true
  | _ => false
def tD (v : Value) : Bool := match v with
  | .double _ => true
  | _ => false
def tA (v : Value) : Bool := match v with
  | .null | .ref _ => true
  | _ => false
def tC1 (v : Value) : Bool := match v with
  | .int _ | .float _ | .null | .ref _ => true
  | _ => false
def tC2 (v : Value) : Bool := match v with
  | .long _ | .double _ => true
  | _ => false
theorem tC1_i (x : Int32) : tC1 (.int x) = true := rfl
theorem tC1_f (x : UInt32) : tC1 (.float x) = true := rfl
theorem tC1_r (x : Nat) : tC1 (.ref x) = true := rfl
theorem tC2_l (x : Int64) : tC2 (.long x) = true := rfl
theorem tC2_d (x : UInt64) : tC2 (.double x) = true := rfl
theorem tI_ (x : Int32) : tI (.int x) = true := rfl
theorem tL_ (x : Int64) : tL (.long x) = true := rfl
theorem tF_ (x : UInt32) : tF (.float x) = true := rfl
theorem tD_ (x : UInt64) : tD (.double x) = true := rfl
theorem tA_n : tA .null = true := rfl
theorem tA_r (a : Nat) : tA (.ref a) = true := rfl
theorem tA_rf (o : Option Nat) : tA (va_rf o) = true := by cases o <;> rfl
/-! pieces of instructions -/
def kGet (w pc : Nat) (ls : LcS) (h : Hp) (F : Option (Nat × Nat)) : SK → Option Act
  | .ref a :: r => match F with
    | some (f, t) => if hasF (kd h a).1 f = true then go (pc + 3) ls (vF h a f t :: r) h else none
    | none => none
  | .null :: r => match F with
    | some _ => npe w r h
    | none => none
  | _ => none
def goO (pc : Nat) (ls : LcS) (st : SK) (o : Option Hp) : Option Act := match o with
  | some h => go pc ls st h
  | none => none
def kPut (pc : Nat) (ls : LcS) (h : Hp) (F : Option (Nat × Nat)) : SK → Option Act
  | v :: .ref a :: r => match F with
    | some (f, t) => if (kd h a).1 < 200 ∧ hasF (kd h a).1 f = true then goO (pc + 3) ls r (stF h a f t v) else none
    | none => none
  | _ => none
def kALd (w pc : Nat) (ls : LcS) (h : Hp) (ks : List Nat) (rd : Nat → Nat → Value) : SK → Option Act
  | .int i :: .ref a :: r => if ks.contains (kd h a).1 = true then (if inB i (kd h a).2 = true then go (pc + 1) ls (rd a i.toNatClampNeg :: r) h else if (kd h a).1 < 220 ∧ (kd h a).2 ≤ 2000000 then msg w r kAIO h else none) else none
  | .int _ :: .null :: r => npe w r h
  | _ => none
def kPutI (pc : Nat) (ls : LcS) (h : Hp) (wr : Nat → Int32 → Option Int32) : SK → Option Act
  | .int x :: .int i :: .ref a :: r => match wr (kd h a).1 x with
    | some y => if inB i (kd h a).2 = true then go (pc + 1) ls r (sI h a i.toNatClampNeg y) else none
    | none => none
  | _ => none
def kPutL (pc : Nat) (ls : LcS) (h : Hp) : SK → Option Act
  | .long x :: .int i :: .ref a :: r => if (kd h a).1 = 205 ∧ inB i (kd h a).2 = true then go (pc + 1) ls r (sL h a i.toNatClampNeg x) else none
  | _ => none
def kPutF (pc : Nat) (ls : LcS) (h : Hp) : SK → Option Act
  | .float x :: .int i :: .ref a :: r => if (kd h a).1 = 206 ∧ inB i (kd h a).2 = true then go (pc + 1) ls r (sF h a i.toNatClampNeg x) else none
  | _ => none
def kPutD (pc : Nat) (ls : LcS) (h : Hp) : SK → Option Act
  | .double x :: .int i :: .ref a :: r => if (kd h a).1 = 207 ∧ inB i (kd h a).2 = true then go (pc + 1) ls r (sD h a i.toNatClampNeg x) else none
  | _ => none
def wI (k : Nat) (x : Int32) : Option Int32 := if k = 204 then some x else none
def wB (k : Nat) (x : Int32) : Option Int32 := if k = 201 then some x.toInt8.toInt32 else if k = 200 ∧ (x = 0 ∨ x = 1) then some x else none
def wC (k : Nat) (x : Int32) : Option Int32 := if k = 202 then some (x.toUInt32 % 65536).toInt32 else none
def wS (k : Nat) (x : Int32) : Option Int32 := if k = 203 then some x.toInt16.toInt32 else none
def isRA (k : Nat) : Bool := decide (210 ≤ k ∧ k < 219)
def kPutA (w pc : Nat) (ls : LcS) (h : Hp) : SK → Option Act
  | .null :: .int i :: .ref a :: r => if isRA (kd h a).1 = true then (if inB i (kd h a).2 = true then go (pc + 1) ls r (sR h a i.toNatClampNeg none) else if (kd h a).2 ≤ 2000000 then msg w r kAIO h else none) else none
  | .ref b :: .int i :: .ref a :: r => if isRA (kd h a).1 = true then (if inB i (kd h a).2 = true then (if fitA (kd h a).1 (kd h b).1 = some true then go (pc + 1) ls r (sR h a i.toNatClampNeg (some b)) else if fitA (kd h a).1 (kd h b).1 = some false then msg w r kASE h else none) else if (kd h a).2 ≤ 2000000 then msg w r kAIO h else none) else none
  | _ => none
def isAr (k : Nat) : Bool := [200, 201, 202, 203, 204, 205, 206, 207, 210, 211, 212, 213, 214, 215, 216, 217, 218, 300, 301].contains k
def kLen (w pc : Nat) (ls : LcS) (h : Hp) : SK → Option Act
  | .ref a :: r => if isAr (kd h a).1 = true then go (pc + 1) ls (.int (Int32.ofNat (kd h a).2) :: r) h else none
  | .null :: r => npe w r h
  | _ => none
def kNewa (w pc len : Nat) (ls : LcS) (h : Hp) (kind : Nat) : SK → Option Act
  | .int n :: r => if n < 0 then msg w r kNAS h else if n.toNatClampNeg ≤ 2000000 then go (pc + len) ls (.ref (nx h) :: r) (alo h kind n.toNatClampNeg 1 n.toNatClampNeg) else none
  | _ => none
def kNewA (w pc : Nat) (ls : LcS) (h : Hp) (K : Option Nat) (st : SK) : Option Act := match K with
  | some kind => kNewa w pc 3 ls h kind st
  | none => none
/-- new: an object of a kind of so many slots; or, of an exception, its making whole -/
def kNew (pc : Nat) (ls : LcS) (h : Hp) (K : Option (Nat × Nat)) (st : SK) : Option Act := match K with
  | some (kind, n) => go (pc + 3) ls (.ref (nx h) :: st) (alo h kind 0 1 n)
  | none => none
def kNewX (w pc : Nat) (ls : LcS) (h : Hp) (kind : Nat) (st : SK) : Option Act := if 200 ≤ w ∧ wds st ≤ 20 then go (pc + 7) ls (.ref (nx h) :: st) (alo h kind 0 1 6) else none
/-- checkcast: kinds that pass, kinds that don't -/
def kCast (w pc : Nat) (ls : LcS) (h : Hp) (K : Option (List Nat × List Nat)) : SK → Option Act
  | .null :: r => go (pc + 3) ls (.null :: r) h
  | .ref a :: r => match K with
    | some (ys, zs) => if ys.contains (kd h a).1 = true then go (pc + 3) ls (.ref a :: r) h else if zs.contains (kd h a).1 = true then msg w (.ref a :: r) kCCE h else none
    | none => none
  | _ => none
def kInst (pc : Nat) (ls : LcS) (h : Hp) (K : Option (List Nat × List Nat)) : SK → Option Act
  | .null :: r => go (pc + 3) ls (.int 0 :: r) h
  | .ref a :: r => match K with
    | some (ys, zs) => if ys.contains (kd h a).1 = true then go (pc + 3) ls (.int 1 :: r) h else if zs.contains (kd h a).1 = true then go (pc + 3) ls (.int 0 :: r) h else none
    | none => none
  | _ => none
/-- calls: of a method by its number; by the receiver's kind -/
def calS (p : Option (SK × SK)) (k : Nat) (h : Hp) : Option Act := match p with
  | some (as, r) => if wds r ≤ 8 then cal k as r 3 h else none
  | none => none
def kStat (h : Hp) (K : Option (Nat × Nat)) (st : SK) : Option Act := match K with
  | some (n, k) => calS (popN n [] st) k h
  | none => none
def asc : List (Nat × Nat) → Nat → Option Nat
  | [], _ => none
  | (a, b) :: t, k => if a = k then some b else asc t k
theorem asc_nil (k : Nat) : asc [] k = none := rfl
theorem asc_cons (a b k : Nat) (t : List (Nat × Nat)) : asc ((a, b) :: t) k = if a = k then some b else asc t k := rfl
def calV (w len : Nat) (z : Bool) (L : List (Nat × Nat)) (h : Hp) : Option (SK × SK) → Option Act
  | some (.ref b :: as, r) => match asc L (kd h b).1 with
    | some k => if wds r ≤ 8 then cal k (.ref b :: as) r len h else none
    | none => none
  | some ([.null], r) => if z = true then npe w r h else none
  | _ => none
/-- the one call that is made of null: Variable.sort() in Doer -/
def nulT (o i : Nat) : Bool := decide (o = 34 ∧ i = 284)
def kVirt (w len : Nat) (z : Bool) (h : Hp) (K : Option (Nat × List (Nat × Nat))) (st : SK) : Option Act := match K with
  | some (n, L) => calV w len z L h (popN n [] st)
  | none => none
def kRetI (t : Nat) (h : Hp) : SK → Option Act
  | [.int x] => if narO t x = true then rt (some (.int x)) h else none
  | _ => none
def kRetL (t : Nat) (h : Hp) : SK → Option Act
  | [.long x] => if t = 5 then rt (some (.long x)) h else none
  | _ => none
def kRetF (t : Nat) (h : Hp) : SK → Option Act
  | [.float x] => if t = 6 then rt (some (.float x)) h else none
  | _ => none
def kRetD (t : Nat) (h : Hp) : SK → Option Act
  | [.double x] => if t = 7 ∧ dOk x = true then rt (some (.double x)) h else none
  | _ => none
def kRetA (t : Nat) (h : Hp) : SK → Option Act
  | [v] => if t = 8 ∧ tA v = true then rt (some v) h else none
  | _ => none
def kRet0 (t : Nat) (h : Hp) : SK → Option Act
  | [] => if t = 9 ∨ t = 10 then rt none h else none
  | _ => none
def kThr (h : Hp) : SK → Option Act
  | .ref a :: _ => if isX (kd h a).1 = true then th a h else none
  | _ => none
def kLd (pc len : Nat) (ls : LcS) (st : SK) (h : Hp) (p : Value → Bool) (o : Option Value) : Option Act := match o with
  | some v => if p v = true then go (pc + len) ls (v :: st) h else none
  | none => none
/-- a store: into locals below n -/
def kS1 (n pc len : Nat) (ls : LcS) (h : Hp) (i : Nat) (p : Value → Bool) : SK → Option Act
  | v :: r => if p v = true ∧ i < n then go (pc + len) (ls1 ls i v) r h else none
  | _ => none
def kS2 (n pc len : Nat) (ls : LcS) (h : Hp) (i : Nat) (p : Value → Bool) : SK → Option Act
  | v :: r => if p v = true ∧ i + 1 < n then go (pc + len) (ls2 ls i v) r h else none
  | _ => none
def kInc (n pc : Nat) (ls : LcS) (st : SK) (h : Hp) (i : Nat) (c : Int) : Option Value → Option Act
  | some (.int x) => if i < n then go (pc + 3) (ls1 ls i (.int (x + Int32.ofInt c))) st h else none
  | _ => none
def goB (pc : Nat) (off : Int) (ls : LcS) (st : SK) (h : Hp) : Option Act := if tgOk pc off = true then go (tgt pc off) ls st h else none
def kIf (pc : Nat) (ls : LcS) (h : Hp) (c : ClassFile.Cond) (off : Int) : SK → Option Act
  | .int x :: r => if tgOk pc off = true then br1 c x (go (tgt pc off) ls r h) (go (pc + 3) ls r h) else none
  | _ => none
def kIf2 (pc : Nat) (ls : LcS) (h : Hp) (c : ClassFile.Cond) (off : Int) : SK → Option Act
  | .int y :: .int x :: r => if tgOk pc off = true then br2 c x y (go (tgt pc off) ls r h) (go (pc + 3) ls r h) else none
  | _ => none
def kNul (pc : Nat) (ls : LcS) (h : Hp) (off : Int) (neg : Bool) : SK → Option Act
  | .null :: r => if neg = true then go (pc + 3) ls r h else goB pc off ls r h
  | .ref a :: r => if kOp (kd h a).1 = true then none else (if neg = true then goB pc off ls r h else go (pc + 3) ls r h)
  | _ => none
def kTab (pc : Nat) (ls : LcS) (h : Hp) (d lo hi : Int) (offs : Array Int) : SK → Option Act
  | .int x :: r => if x.toInt < lo ∨ hi < x.toInt then goB pc d ls r h else (match offs[(x.toInt - lo).toNat]? with | some o => goB pc o ls r h | none => none)
  | _ => none
def ldK (pc len : Nat) (ls : LcS) (st : SK) (h : Hp) (o : Option Value) : Option Act := match o with
  | some v => go (pc + len) ls (v :: st) h
  | none => none
def ariK (pc len : Nat) (ls : LcS) (h : Hp) (o : Option SK) : Option Act := match o with
  | some st => go (pc + len) ls st h
  | none => none
/-- a division by 0 throws -/
def kDz (w : Nat) (h : Hp) (o : Option Act) : SK → Option Act
  | .int y :: .int x :: r => if y = 0 then msg w r kARI h else o
  | _ => none
theorem kDz_c (w : Nat) (h : Hp) (o : Option Act) (x y : Int32) (r : SK) : kDz w h o (.int y :: .int x :: r) = if y = 0 then msg w r kARI h else o := rfl
def isDup (r : Except DecodeError (Instr × Nat)) : Bool := match r with
  | .ok (.dup, 1) => true
  | _ => false
def isSpc (r : Except DecodeError (Instr × Nat)) (ic : Nat) : Bool := match r with
  | .ok (.invokespecial k, 3) => decide (k = ic)
  | _ => false
def kNews (w : Nat) (M : MT) (pc : Nat) (ls : LcS) (h : Hp) (X : Option (Nat × Nat)) (K : Option (Nat × Nat)) (st : SK) : Option Act := match X with
  | some (kind, ic) => if isDup (decode (mcd M) (pc + 3)) = true ∧ isSpc (decode (mcd M) (pc + 4)) ic = true then kNewX w pc ls h kind st else none
  | none => kNew pc ls h K st
/-- natives: 0 doubleToRawLongBits, 1 longBitsToDouble, 2 floatToRawIntBits, 3 intBitsToFloat, 4 arraycopy; 5 max, 6 min, 7 abs, 8 signum, 9 copySign of doubles (Math's own entries) -/
def cpI (h : Hp) (a b sp dp n : Nat) : Hp := (h.1, h.2.1, (fun q k => if q = b then va_cpy (gI h a) (gI h b) sp dp n k else gI h q k), h.2.2.2.1, h.2.2.2.2.1, h.2.2.2.2.2.1, h.2.2.2.2.2.2)
def cpR (h : Hp) (a b sp dp n : Nat) : Hp := (h.1, h.2.1, h.2.2.1, h.2.2.2.1, h.2.2.2.2.1, h.2.2.2.2.2.1, (fun q k => if q = b then va_cpy (gR h a) (gR h b) sp dp n k else gR h q k))
def cpOk (h : Hp) (a b : Nat) (sp dp n : Int32) : Bool := decide (¬ sp < 0 ∧ ¬ dp < 0 ∧ ¬ n < 0 ∧ sp.toNatClampNeg + n.toNatClampNeg ≤ (kd h a).2 ∧ dp.toNatClampNeg + n.toNatClampNeg ≤ (kd h b).2)
def fitO (h : Hp) (k : Nat) (o : Option Nat) : Bool := match o with
  | none => true
  | some b => fitA k (kd h b).1 == some true
def kCpy (w pc : Nat) (ls : LcS) (h : Hp) : SK → Option Act
  | .int n :: .int dp :: .ref b :: .int sp :: .ref a :: r => if wds r ≤ 8 ∧ 40 ≤ w then (
      if (kd h a).1 = 201 ∧ (kd h b).1 = 201 then (if cpOk h a b sp dp n = true ∧ (List.range n.toNatClampNeg).all (fun i => narO 2 (gI h a (sp.toNatClampNeg + i))) = true then go (pc + 3) ls r (cpI h a b sp.toNatClampNeg dp.toNatClampNeg n.toNatClampNeg) else none)
      else if isRA (kd h a).1 = true ∧ isRA (kd h b).1 = true then (if cpOk h a b sp dp n = true then (if (List.range n.toNatClampNeg).all (fun i => fitO h (kd h b).1 (gR h a (sp.toNatClampNeg + i))) = true then go (pc + 3) ls r (cpR h a b sp.toNatClampNeg dp.toNatClampNeg n.toNatClampNeg) else none) else if (kd h a).2 ≤ 2000000 ∧ (kd h b).2 ≤ 2000000 then msg w r kAIO h else none)
      else none) else none
  | _ => none
def kNat (w pc : Nat) (ls : LcS) (h : Hp) (n : Nat) (st : SK) : Option Act := match n, st with
  | 0, .double b :: r => if wds r ≤ 8 ∧ 40 ≤ w then go (pc + 3) ls (.long b.toInt64 :: r) h else none
  | 1, .long b :: r => if wds r ≤ 8 ∧ 40 ≤ w ∧ vn_snl2d b = false then go (pc + 3) ls (.double b.toUInt64 :: r) h else none
  | 2, .float b :: r => if wds r ≤ 8 ∧ 40 ≤ w then go (pc + 3) ls (.int b.toInt32 :: r) h else none
  | 3, .int b :: r => if wds r ≤ 8 ∧ 40 ≤ w ∧ vn_sni2f b = false then go (pc + 3) ls (.float b.toUInt32 :: r) h else none
  | 4, st => kCpy w pc ls h st
  | 5, .double b :: .double a :: r => if wds r ≤ 8 ∧ 40 ≤ w ∧ dOk a = true ∧ dOk b = true then go (pc + 3) ls (.double (Native.java_lang_Math.nans.pick64 true a b) :: r) h else none
  | 6, .double b :: .double a :: r => if wds r ≤ 8 ∧ 40 ≤ w ∧ dOk a = true ∧ dOk b = true then go (pc + 3) ls (.double (Native.java_lang_Math.nans.pick64 false a b) :: r) h else none
  | 7, .double a :: r => if wds r ≤ 8 ∧ 40 ≤ w ∧ dOk a = true then go (pc + 3) ls (.double (a &&& 0x7fffffffffffffff) :: r) h else none
  | 8, .double a :: r => if wds r ≤ 8 ∧ 40 ≤ w ∧ dOk a = true then go (pc + 3) ls (.double (if a <<< 1 == 0 then a else (a &&& 0x8000000000000000) ||| 0x3ff0000000000000) :: r) h else none
  | 9, .double b :: .double a :: r => if wds r ≤ 8 ∧ 40 ≤ w ∧ dOk b = true then go (pc + 3) ls (.double ((a &&& 0x7fffffffffffffff) ||| (if b >>> 63 == 1 then 0x8000000000000000 else 0)) :: r) h else none
  | _, _ => none
def kStt (w pc : Nat) (ls : LcS) (h : Hp) (N : Option Nat) (K : Option (Nat × Nat)) (st : SK) : Option Act := match N with
  | some n => kNat w pc ls h n st
  | none => kStat h K st
/-- invokespecial: Object's own (number 9999), or a method of a receiver that is there -/
def calI (w pc k : Nat) (ls : LcS) (h : Hp) : Option (SK × SK) → Option Act
  | some (.ref b :: as, r) => if wds r ≤ 8 then (if k = 9999 then (if 40 ≤ w ∧ (kd h b).1 < 200 then go (pc + 3) ls r h else none) else if (kd h b).1 < 200 then cal k (.ref b :: as) r 3 h else none) else none
  | _ => none
def kSpc (w pc : Nat) (ls : LcS) (h : Hp) (K : Option (Nat × Nat)) (st : SK) : Option Act := match K with
  | some (n, k) => calI w pc k ls h (popN n [] st)
  | none => none
def kPuts (M : MT) (pc : Nat) (ls : LcS) (h : Hp) (P F : Option (Nat × Nat)) (st : SK) : Option Act := match P with
  | some q => kPut pc ls h (some q) st
  | none => if mrt M = 9 then kPut pc ls h F st else none
def kArT (t : ArrayType) : Nat := match t with
  | .boolean => 200 | .byte => 201 | .char => 202 | .short => 203 | .int => 204 | .long => 205 | .float => 206 | .double => 207
def iln (i : Instr) : Nat := match i with
  | .bipush _ | .iload _ | .lload _ | .fload _ | .dload _ | .aload _ | .istore _ | .lstore _ | .fstore _ | .dstore _ | .astore _ | .ldc _ | .newarray _ => 2
  | .sipush _ | .ldc_w _ | .ldc2_w _ | .iinc _ _ | .goto _ | .ifCond _ _ | .if_icmp _ _ | .ifnull _ | .ifnonnull _ | .getfield _ | .putfield _ | .getstatic _ | .new _ | .anewarray _ | .checkcast _ | .instanceof _ | .invokestatic _ | .invokespecial _ | .invokevirtual _ => 3
  | .invokeinterface _ _ => 5
  | .tableswitch _ _ _ _ => 0
  | _ => 1
/-- one instruction -/
def exI (w : Nat) (M : MT) (pc : Nat) (i : Instr) (ls : LcS) (st : SK) (h : Hp) : Option Act := match i with
  | .idiv => kDz w h (ariK pc 1 ls h (ari .idiv st)) st
  | .irem => kDz w h (ariK pc 1 ls h (ari .irem st)) st
  | .iload n => kLd pc 2 ls st h tI (lg ls n)
  | .iload_n n => kLd pc 1 ls st h tI (lg ls (f4 n))
  | .istore n => kS1 (mlc M) pc 2 ls h n tI st
  | .istore_n n => kS1 (mlc M) pc 1 ls h (f4 n) tI st
  | .lload n => kLd pc 2 ls st h tL (lg ls n)
  | .lload_n n => kLd pc 1 ls st h tL (lg ls (f4 n))
  | .lstore n => kS2 (mlc M) pc 2 ls h n tL st
  | .lstore_n n => kS2 (mlc M) pc 1 ls h (f4 n) tL st
  | .fload n => kLd pc 2 ls st h tF (lg ls n)
  | .fload_n n => kLd pc 1 ls st h tF (lg ls (f4 n))
  | .fstore n => kS1 (mlc M) pc 2 ls h n tF st
  | .fstore_n n => kS1 (mlc M) pc 1 ls h (f4 n) tF st
  | .dload n => kLd pc 2 ls st h tD (lg ls n)
  | .dload_n n => kLd pc 1 ls st h tD (lg ls (f4 n))
  | .dstore n => kS2 (mlc M) pc 2 ls h n tD st
  | .dstore_n n => kS2 (mlc M) pc 1 ls h (f4 n) tD st
  | .aload n => kLd pc 2 ls st h tA (lg ls n)
  | .aload_n n => kLd pc 1 ls st h tA (lg ls (f4 n))
  | .astore n => kS1 (mlc M) pc 2 ls h n tA st
  | .astore_n n => kS1 (mlc M) pc 1 ls h (f4 n) tA st
  | .iinc n c => kInc (mlc M) pc ls st h n c (lg ls n)
  | .goto off => goB pc off ls st h
  | .ifCond c off => kIf pc ls h c off st
  | .if_icmp c off => kIf2 pc ls h c off st
  | .ifnull off => kNul pc ls h off false st
  | .ifnonnull off => kNul pc ls h off true st
  | .tableswitch d lo hi offs => kTab pc ls h d lo hi offs st
  | .getfield n => kGet w pc ls h (fldT (mown M) n) st
  | .putfield n => kPuts M pc ls h (fldP (mown M) n) (fldQ (mown M) n) st
  | .getstatic n => ldK pc 3 ls st h (stcT (mown M) n)
  | .ldc n => kLd pc 2 ls st h tC1 (cstT (mown M) n)
  | .ldc_w n => kLd pc 3 ls st h tC1 (cstT (mown M) n)
  | .ldc2_w n => kLd pc 3 ls st h tC2 (cstT (mown M) n)
  | .iaload => kALd w pc ls h [204, 300] (fun a k => .int (gI h a k)) st
  | .baload => kALd w pc ls h [200, 201, 301] (fun a k => .int (gI h a k)) st
  | .caload => kALd w pc ls h [202] (fun a k => .int (gI h a k)) st
  | .saload => kALd w pc ls h [203] (fun a k => .int (gI h a k)) st
  | .laload => kALd w pc ls h [205] (fun a k => .long (gL h a k)) st
  | .faload => kALd w pc ls h [206] (fun a k => .float (gF h a k)) st
  | .daload => kALd w pc ls h [207] (fun a k => .double (gD h a k)) st
  | .aaload => kALd w pc ls h [210, 211, 212, 213, 214, 215, 216, 217, 218] (fun a k => va_rf (gR h a k)) st
  | .iastore => kPutI pc ls h wI st
  | .bastore => kPutI pc ls h wB st
  | .castore => kPutI pc ls h wC st
  | .sastore => kPutI pc ls h wS st
  | .lastore => kPutL pc ls h st
  | .fastore => kPutF pc ls h st
  | .dastore => kPutD pc ls h st
  | .aastore => kPutA w pc ls h st
  | .arraylength => kLen w pc ls h st
  | .newarray t => kNewa w pc 2 ls h (kArT t) st
  | .anewarray n => kNewA w pc ls h (anwT (mown M) n) st
  | .new n => kNews w M pc ls h (excN (mown M) n) (newT (mown M) n) st
  | .checkcast n => kCast w pc ls h (ckT (mown M) n) st
  | .instanceof n => kInst pc ls h (ckT (mown M) n) st
  | .invokestatic n => kStt w pc ls h (natT (mown M) n) (smT (mown M) n) st
  | .invokespecial n => kSpc w pc ls h (spT (mown M) n) st
  | .invokevirtual n => kVirt w 3 (nulT (mown M) n) h (vmT (mown M) n) st
  | .invokeinterface n c => kVirt w 5 false h (ifT (mown M) n) st
  | .ireturn => kRetI (mrt M) h st
  | .lreturn => kRetL (mrt M) h st
  | .freturn => kRetF (mrt M) h st
  | .dreturn => kRetD (mrt M) h st
  | .areturn => kRetA (mrt M) h st
  | .return_ => kRet0 (mrt M) h st
  | .athrow => kThr h st
  | i => ariK pc (iln i) ls h (ari i st)
theorem x_iload (w : Nat) (M : MT) (pc : Nat) (n : Nat) (ls : LcS) (st : SK) (h : Hp) : exI w M pc (.iload n) ls st h = kLd pc 2 ls st h tI (lg ls n) := rfl
theorem x_iload_n (w : Nat) (M : MT) (pc : Nat) (n : Fin 4) (ls : LcS) (st : SK) (h : Hp) : exI w M pc (.iload_n n) ls st h = kLd pc 1 ls st h tI (lg ls (f4 n)) := rfl
theorem x_istore (w : Nat) (M : MT) (pc : Nat) (n : Nat) (ls : LcS) (st : SK) (h : Hp) : exI w M pc (.istore n) ls st h = kS1 (mlc M) pc 2 ls h n tI st := rfl
theorem x_istore_n (w : Nat) (M : MT) (pc : Nat) (n : Fin 4) (ls : LcS) (st : SK) (h : Hp) : exI w M pc (.istore_n n) ls st h = kS1 (mlc M) pc 1 ls h (f4 n) tI st := rfl
theorem x_lload (w : Nat) (M : MT) (pc : Nat) (n : Nat) (ls : LcS) (st : SK) (h : Hp) : exI w M pc (.lload n) ls st h = kLd pc 2 ls st h tL (lg ls n) := rfl
theorem x_lload_n (w : Nat) (M : MT) (pc : Nat) (n : Fin 4) (ls : LcS) (st : SK) (h : Hp) : exI w M pc (.lload_n n) ls st h = kLd pc 1 ls st h tL (lg ls (f4 n)) := rfl
theorem x_lstore (w : Nat) (M : MT) (pc : Nat) (n : Nat) (ls : LcS) (st : SK) (h : Hp) : exI w M pc (.lstore n) ls st h = kS2 (mlc M) pc 2 ls h n tL st := rfl
theorem x_lstore_n (w : Nat) (M : MT) (pc : Nat) (n : Fin 4) (ls : LcS) (st : SK) (h : Hp) : exI w M pc (.lstore_n n) ls st h = kS2 (mlc M) pc 1 ls h (f4 n) tL st := rfl
theorem x_fload (w : Nat) (M : MT) (pc : Nat) (n : Nat) (ls : LcS) (st : SK) (h : Hp) : exI w M pc (.fload n) ls st h = kLd pc 2 ls st h tF (lg ls n) := rfl
theorem x_fload_n (w : Nat) (M : MT) (pc : Nat) (n : Fin 4) (ls : LcS) (st : SK) (h : Hp) : exI w M pc (.fload_n n) ls st h = kLd pc 1 ls st h tF (lg ls (f4 n)) := rfl
theorem x_fstore (w : Nat) (M : MT) (pc : Nat) (n : Nat) (ls : LcS) (st : SK) (h : Hp) : exI w M pc (.fstore n) ls st h = kS1 (mlc M) pc 2 ls h n tF st := rfl
theorem x_fstore_n (w : Nat) (M : MT) (pc : Nat) (n : Fin 4) (ls : LcS) (st : SK) (h : Hp) : exI w M pc (.fstore_n n) ls st h = kS1 (mlc M) pc 1 ls h (f4 n) tF st := rfl
theorem x_dload (w : Nat) (M : MT) (pc : Nat) (n : Nat) (ls : LcS) (st : SK) (h : Hp) : exI w M pc (.dload n) ls st h = kLd pc 2 ls st h tD (lg ls n) := rfl
theorem x_dload_n (w : Nat) (M : MT) (pc : Nat) (n : Fin 4) (ls : LcS) (st : SK) (h : Hp) : exI w M pc (.dload_n n) ls st h = kLd pc 1 ls st h tD (lg ls (f4 n)) := rfl
theorem x_dstore (w : Nat) (M : MT) (pc : Nat) (n : Nat) (ls : LcS) (st : SK) (h : Hp) : exI w M pc (.dstore n) ls st h = kS2 (mlc M) pc 2 ls h n tD st := rfl
theorem x_dstore_n (w : Nat) (M : MT) (pc : Nat) (n : Fin 4) (ls : LcS) (st : SK) (h : Hp) : exI w M pc (.dstore_n n) ls st h = kS2 (mlc M) pc 1 ls h (f4 n) tD st := rfl
theorem x_aload (w : Nat) (M : MT) (pc : Nat) (n : Nat) (ls : LcS) (st : SK) (h : Hp) : exI w M pc (.aload n) ls st h = kLd pc 2 ls st h tA (lg ls n) := rfl
theorem x_aload_n (w : Nat) (M : MT) (pc : Nat) (n : Fin 4) (ls : LcS) (st : SK) (h : Hp) : exI w M pc (.aload_n n) ls st h = kLd pc 1 ls st h tA (lg ls (f4 n)) := rfl
theorem x_astore (w : Nat) (M : MT) (pc : Nat) (n : Nat) (ls : LcS) (st : SK) (h : Hp) : exI w M pc (.astore n) ls st h = kS1 (mlc M) pc 2 ls h n tA st := rfl
theorem x_astore_n (w : Nat) (M : MT) (pc : Nat) (n : Fin 4) (ls : LcS) (st : SK) (h : Hp) : exI w M pc (.astore_n n) ls st h = kS1 (mlc M) pc 1 ls h (f4 n) tA st := rfl
theorem x_iinc (w : Nat) (M : MT) (pc : Nat) (n : Nat) (c : Int) (ls : LcS) (st : SK) (h : Hp) : exI w M pc (.iinc n c) ls st h = kInc (mlc M) pc ls st h n c (lg ls n) := rfl
theorem x_goto (w : Nat) (M : MT) (pc : Nat) (off : Int) (ls : LcS) (st : SK) (h : Hp) : exI w M pc (.goto off) ls st h = goB pc off ls st h := rfl
theorem x_ifCond (w : Nat) (M : MT) (pc : Nat) (c : ClassFile.Cond) (off : Int) (ls : LcS) (st : SK) (h : Hp) : exI w M pc (.ifCond c off) ls st h = kIf pc ls h c off st := rfl
theorem x_if_icmp (w : Nat) (M : MT) (pc : Nat) (c : ClassFile.Cond) (off : Int) (ls : LcS) (st : SK) (h : Hp) : exI w M pc (.if_icmp c off) ls st h = kIf2 pc ls h c off st := rfl
theorem x_ifnull (w : Nat) (M : MT) (pc : Nat) (off : Int) (ls : LcS) (st : SK) (h : Hp) : exI w M pc (.ifnull off) ls st h = kNul pc ls h off false st := rfl
theorem x_ifnonnull (w : Nat) (M : MT) (pc : Nat) (off : Int) (ls : LcS) (st : SK) (h : Hp) : exI w M pc (.ifnonnull off) ls st h = kNul pc ls h off true st := rfl
theorem x_tableswitch (w : Nat) (M : MT) (pc : Nat) (d lo hi : Int) (offs : Array Int) (ls : LcS) (st : SK) (h : Hp) : exI w M pc (.tableswitch d lo hi offs) ls st h = kTab pc ls h d lo hi offs st := rfl
theorem x_getfield (w : Nat) (M : MT) (pc : Nat) (n : Nat) (ls : LcS) (st : SK) (h : Hp) : exI w M pc (.getfield n) ls st h = kGet w pc ls h (fldT (mown M) n) st := rfl
theorem x_putfield (w : Nat) (M : MT) (pc : Nat) (n : Nat) (ls : LcS) (st : SK) (h : Hp) : exI w M pc (.putfield n) ls st h = kPuts M pc ls h (fldP (mown M) n) (fldQ (mown M) n) st := rfl
theorem x_getstatic (w : Nat) (M : MT) (pc : Nat) (n : Nat) (ls : LcS) (st : SK) (h : Hp) : exI w M pc (.getstatic n) ls st h = ldK pc 3 ls st h (stcT (mown M) n) := rfl
theorem x_ldc (w : Nat) (M : MT) (pc : Nat) (n : Nat) (ls : LcS) (st : SK) (h : Hp) : exI w M pc (.ldc n) ls st h = kLd pc 2 ls st h tC1 (cstT (mown M) n) := rfl
theorem x_ldc_w (w : Nat) (M : MT) (pc : Nat) (n : Nat) (ls : LcS) (st : SK) (h : Hp) : exI w M pc (.ldc_w n) ls st h = kLd pc 3 ls st h tC1 (cstT (mown M) n) := rfl
theorem x_ldc2_w (w : Nat) (M : MT) (pc : Nat) (n : Nat) (ls : LcS) (st : SK) (h : Hp) : exI w M pc (.ldc2_w n) ls st h = kLd pc 3 ls st h tC2 (cstT (mown M) n) := rfl
theorem x_iaload (w : Nat) (M : MT) (pc : Nat)  (ls : LcS) (st : SK) (h : Hp) : exI w M pc (.iaload) ls st h = kALd w pc ls h [204, 300] (fun a k => .int (gI h a k)) st := rfl
theorem x_baload (w : Nat) (M : MT) (pc : Nat)  (ls : LcS) (st : SK) (h : Hp) : exI w M pc (.baload) ls st h = kALd w pc ls h [200, 201, 301] (fun a k => .int (gI h a k)) st := rfl
theorem x_caload (w : Nat) (M : MT) (pc : Nat)  (ls : LcS) (st : SK) (h : Hp) : exI w M pc (.caload) ls st h = kALd w pc ls h [202] (fun a k => .int (gI h a k)) st := rfl
theorem x_saload (w : Nat) (M : MT) (pc : Nat)  (ls : LcS) (st : SK) (h : Hp) : exI w M pc (.saload) ls st h = kALd w pc ls h [203] (fun a k => .int (gI h a k)) st := rfl
theorem x_laload (w : Nat) (M : MT) (pc : Nat)  (ls : LcS) (st : SK) (h : Hp) : exI w M pc (.laload) ls st h = kALd w pc ls h [205] (fun a k => .long (gL h a k)) st := rfl
theorem x_faload (w : Nat) (M : MT) (pc : Nat)  (ls : LcS) (st : SK) (h : Hp) : exI w M pc (.faload) ls st h = kALd w pc ls h [206] (fun a k => .float (gF h a k)) st := rfl
theorem x_daload (w : Nat) (M : MT) (pc : Nat)  (ls : LcS) (st : SK) (h : Hp) : exI w M pc (.daload) ls st h = kALd w pc ls h [207] (fun a k => .double (gD h a k)) st := rfl
theorem x_aaload (w : Nat) (M : MT) (pc : Nat)  (ls : LcS) (st : SK) (h : Hp) : exI w M pc (.aaload) ls st h = kALd w pc ls h [210, 211, 212, 213, 214, 215, 216, 217, 218] (fun a k => va_rf (gR h a k)) st := rfl
theorem x_iastore (w : Nat) (M : MT) (pc : Nat)  (ls : LcS) (st : SK) (h : Hp) : exI w M pc (.iastore) ls st h = kPutI pc ls h wI st := rfl
theorem x_bastore (w : Nat) (M : MT) (pc : Nat)  (ls : LcS) (st : SK) (h : Hp) : exI w M pc (.bastore) ls st h = kPutI pc ls h wB st := rfl
theorem x_castore (w : Nat) (M : MT) (pc : Nat)  (ls : LcS) (st : SK) (h : Hp) : exI w M pc (.castore) ls st h = kPutI pc ls h wC st := rfl
theorem x_sastore (w : Nat) (M : MT) (pc : Nat)  (ls : LcS) (st : SK) (h : Hp) : exI w M pc (.sastore) ls st h = kPutI pc ls h wS st := rfl
theorem x_lastore (w : Nat) (M : MT) (pc : Nat)  (ls : LcS) (st : SK) (h : Hp) : exI w M pc (.lastore) ls st h = kPutL pc ls h st := rfl
theorem x_fastore (w : Nat) (M : MT) (pc : Nat)  (ls : LcS) (st : SK) (h : Hp) : exI w M pc (.fastore) ls st h = kPutF pc ls h st := rfl
theorem x_dastore (w : Nat) (M : MT) (pc : Nat)  (ls : LcS) (st : SK) (h : Hp) : exI w M pc (.dastore) ls st h = kPutD pc ls h st := rfl
theorem x_aastore (w : Nat) (M : MT) (pc : Nat)  (ls : LcS) (st : SK) (h : Hp) : exI w M pc (.aastore) ls st h = kPutA w pc ls h st := rfl
theorem x_arraylength (w : Nat) (M : MT) (pc : Nat)  (ls : LcS) (st : SK) (h : Hp) : exI w M pc (.arraylength) ls st h = kLen w pc ls h st := rfl
theorem x_newarray (w : Nat) (M : MT) (pc : Nat) (t : ArrayType) (ls : LcS) (st : SK) (h : Hp) : exI w M pc (.newarray t) ls st h = kNewa w pc 2 ls h (kArT t) st := rfl
theorem x_anewarray (w : Nat) (M : MT) (pc : Nat) (n : Nat) (ls : LcS) (st : SK) (h : Hp) : exI w M pc (.anewarray n) ls st h = kNewA w pc ls h (anwT (mown M) n) st := rfl
theorem x_new (w : Nat) (M : MT) (pc : Nat) (n : Nat) (ls : LcS) (st : SK) (h : Hp) : exI w M pc (.new n) ls st h = kNews w M pc ls h (excN (mown M) n) (newT (mown M) n) st := rfl
theorem x_checkcast (w : Nat) (M : MT) (pc : Nat) (n : Nat) (ls : LcS) (st : SK) (h : Hp) : exI w M pc (.checkcast n) ls st h = kCast w pc ls h (ckT (mown M) n) st := rfl
theorem x_instanceof (w : Nat) (M : MT) (pc : Nat) (n : Nat) (ls : LcS) (st : SK) (h : Hp) : exI w M pc (.instanceof n) ls st h = kInst pc ls h (ckT (mown M) n) st := rfl
theorem x_invokestatic (w : Nat) (M : MT) (pc : Nat) (n : Nat) (ls : LcS) (st : SK) (h : Hp) : exI w M pc (.invokestatic n) ls st h = kStt w pc ls h (natT (mown M) n) (smT (mown M) n) st := rfl
theorem x_invokespecial (w : Nat) (M : MT) (pc : Nat) (n : Nat) (ls : LcS) (st : SK) (h : Hp) : exI w M pc (.invokespecial n) ls st h = kSpc w pc ls h (spT (mown M) n) st := rfl
theorem x_invokevirtual (w : Nat) (M : MT) (pc : Nat) (n : Nat) (ls : LcS) (st : SK) (h : Hp) : exI w M pc (.invokevirtual n) ls st h = kVirt w 3 (nulT (mown M) n) h (vmT (mown M) n) st := rfl
theorem x_invokeinterface (w : Nat) (M : MT) (pc : Nat) (n c : Nat) (ls : LcS) (st : SK) (h : Hp) : exI w M pc (.invokeinterface n c) ls st h = kVirt w 5 false h (ifT (mown M) n) st := rfl
theorem x_ireturn (w : Nat) (M : MT) (pc : Nat)  (ls : LcS) (st : SK) (h : Hp) : exI w M pc (.ireturn) ls st h = kRetI (mrt M) h st := rfl
theorem x_lreturn (w : Nat) (M : MT) (pc : Nat)  (ls : LcS) (st : SK) (h : Hp) : exI w M pc (.lreturn) ls st h = kRetL (mrt M) h st := rfl
theorem x_freturn (w : Nat) (M : MT) (pc : Nat)  (ls : LcS) (st : SK) (h : Hp) : exI w M pc (.freturn) ls st h = kRetF (mrt M) h st := rfl
theorem x_dreturn (w : Nat) (M : MT) (pc : Nat)  (ls : LcS) (st : SK) (h : Hp) : exI w M pc (.dreturn) ls st h = kRetD (mrt M) h st := rfl
theorem x_areturn (w : Nat) (M : MT) (pc : Nat)  (ls : LcS) (st : SK) (h : Hp) : exI w M pc (.areturn) ls st h = kRetA (mrt M) h st := rfl
theorem x_return_ (w : Nat) (M : MT) (pc : Nat)  (ls : LcS) (st : SK) (h : Hp) : exI w M pc (.return_) ls st h = kRet0 (mrt M) h st := rfl
theorem x_athrow (w : Nat) (M : MT) (pc : Nat)  (ls : LcS) (st : SK) (h : Hp) : exI w M pc (.athrow) ls st h = kThr h st := rfl
theorem x_iconst (w : Nat) (M : MT) (pc : Nat) (n : Int) (ls : LcS) (st : SK) (h : Hp) : exI w M pc (.iconst n) ls st h = ariK pc 1 ls h (some (.int (Int32.ofInt n) :: st)) := rfl
theorem x_bipush (w : Nat) (M : MT) (pc : Nat) (n : Int) (ls : LcS) (st : SK) (h : Hp) : exI w M pc (.bipush n) ls st h = ariK pc 2 ls h (some (.int (Int8.ofInt n).toInt32 :: st)) := rfl
theorem x_sipush (w : Nat) (M : MT) (pc : Nat) (n : Int) (ls : LcS) (st : SK) (h : Hp) : exI w M pc (.sipush n) ls st h = ariK pc 3 ls h (some (.int (Int16.ofInt n).toInt32 :: st)) := rfl
theorem x_lconst (w : Nat) (M : MT) (pc : Nat) (n : Fin 2) (ls : LcS) (st : SK) (h : Hp) : exI w M pc (.lconst n) ls st h = ariK pc 1 ls h (some (.long (Int64.ofNat (n : Nat)) :: st)) := rfl
theorem x_aconst_null (w : Nat) (M : MT) (pc : Nat) (ls : LcS) (st : SK) (h : Hp) : exI w M pc (.aconst_null) ls st h = ariK pc 1 ls h (some (.null :: st)) := rfl
theorem x_fconst (w : Nat) (M : MT) (pc : Nat) (n : Fin 3) (ls : LcS) (st : SK) (h : Hp) : exI w M pc (.fconst n) ls st h = ariK pc 1 ls h (some (.float (if n = 0 then FP.fconst0 else if n = 1 then FP.fconst1 else FP.fconst2) :: st)) := rfl
theorem x_dconst (w : Nat) (M : MT) (pc : Nat) (n : Fin 2) (ls : LcS) (st : SK) (h : Hp) : exI w M pc (.dconst n) ls st h = ariK pc 1 ls h (some (.double (if n = 0 then FP.dconst0 else FP.dconst1) :: st)) := rfl
theorem x_iadd (w : Nat) (M : MT) (pc : Nat) (ls : LcS) (st : SK) (h : Hp) : exI w M pc (.iadd) ls st h = ariK pc 1 ls h (pII (fun x y => some (.int (x + y))) st) := rfl
theorem x_isub (w : Nat) (M : MT) (pc : Nat) (ls : LcS) (st : SK) (h : Hp) : exI w M pc (.isub) ls st h = ariK pc 1 ls h (pII (fun x y => some (.int (x - y))) st) := rfl
theorem x_imul (w : Nat) (M : MT) (pc : Nat) (ls : LcS) (st : SK) (h : Hp) : exI w M pc (.imul) ls st h = ariK pc 1 ls h (pII (fun x y => some (.int (x * y))) st) := rfl
theorem x_iand (w : Nat) (M : MT) (pc : Nat) (ls : LcS) (st : SK) (h : Hp) : exI w M pc (.iand) ls st h = ariK pc 1 ls h (pII (fun x y => some (.int (x &&& y))) st) := rfl
theorem x_ior (w : Nat) (M : MT) (pc : Nat) (ls : LcS) (st : SK) (h : Hp) : exI w M pc (.ior) ls st h = ariK pc 1 ls h (pII (fun x y => some (.int (x ||| y))) st) := rfl
theorem x_ixor (w : Nat) (M : MT) (pc : Nat) (ls : LcS) (st : SK) (h : Hp) : exI w M pc (.ixor) ls st h = ariK pc 1 ls h (pII (fun x y => some (.int (x ^^^ y))) st) := rfl
theorem x_ishl (w : Nat) (M : MT) (pc : Nat) (ls : LcS) (st : SK) (h : Hp) : exI w M pc (.ishl) ls st h = ariK pc 1 ls h (pII (fun x y => some (.int (x <<< (y &&& 31)))) st) := rfl
theorem x_ishr (w : Nat) (M : MT) (pc : Nat) (ls : LcS) (st : SK) (h : Hp) : exI w M pc (.ishr) ls st h = ariK pc 1 ls h (pII (fun x y => some (.int (x >>> (y &&& 31)))) st) := rfl
theorem x_iushr (w : Nat) (M : MT) (pc : Nat) (ls : LcS) (st : SK) (h : Hp) : exI w M pc (.iushr) ls st h = ariK pc 1 ls h (pII (fun x y => some (.int ((x.toUInt32 >>> (y.toUInt32 &&& Int32.toUInt32 31)).toInt32))) st) := rfl
theorem x_idiv (w : Nat) (M : MT) (pc : Nat) (ls : LcS) (st : SK) (h : Hp) : exI w M pc (.idiv) ls st h = kDz w h (ariK pc 1 ls h (pII (fun x y => if y = 0 then none else some (.int (x / y))) st)) st := rfl
theorem x_irem (w : Nat) (M : MT) (pc : Nat) (ls : LcS) (st : SK) (h : Hp) : exI w M pc (.irem) ls st h = kDz w h (ariK pc 1 ls h (pII (fun x y => if y = 0 then none else some (.int (x - x / y * y))) st)) st := rfl
theorem x_ineg (w : Nat) (M : MT) (pc : Nat) (ls : LcS) (st : SK) (h : Hp) : exI w M pc (.ineg) ls st h = ariK pc 1 ls h (pI (fun x => some (.int (-x))) st) := rfl
theorem x_ladd (w : Nat) (M : MT) (pc : Nat) (ls : LcS) (st : SK) (h : Hp) : exI w M pc (.ladd) ls st h = ariK pc 1 ls h (pLL (fun x y => some (.long (x + y))) st) := rfl
theorem x_lsub (w : Nat) (M : MT) (pc : Nat) (ls : LcS) (st : SK) (h : Hp) : exI w M pc (.lsub) ls st h = ariK pc 1 ls h (pLL (fun x y => some (.long (x - y))) st) := rfl
theorem x_lmul (w : Nat) (M : MT) (pc : Nat) (ls : LcS) (st : SK) (h : Hp) : exI w M pc (.lmul) ls st h = ariK pc 1 ls h (pLL (fun x y => some (.long (x * y))) st) := rfl
theorem x_land (w : Nat) (M : MT) (pc : Nat) (ls : LcS) (st : SK) (h : Hp) : exI w M pc (.land) ls st h = ariK pc 1 ls h (pLL (fun x y => some (.long (x &&& y))) st) := rfl
theorem x_lor (w : Nat) (M : MT) (pc : Nat) (ls : LcS) (st : SK) (h : Hp) : exI w M pc (.lor) ls st h = ariK pc 1 ls h (pLL (fun x y => some (.long (x ||| y))) st) := rfl
theorem x_lxor (w : Nat) (M : MT) (pc : Nat) (ls : LcS) (st : SK) (h : Hp) : exI w M pc (.lxor) ls st h = ariK pc 1 ls h (pLL (fun x y => some (.long (x ^^^ y))) st) := rfl
theorem x_ldiv (w : Nat) (M : MT) (pc : Nat) (ls : LcS) (st : SK) (h : Hp) : exI w M pc (.ldiv) ls st h = ariK pc 1 ls h (pLL (fun x y => if y = 0 then none else some (.long (x / y))) st) := rfl
theorem x_lrem (w : Nat) (M : MT) (pc : Nat) (ls : LcS) (st : SK) (h : Hp) : exI w M pc (.lrem) ls st h = ariK pc 1 ls h (pLL (fun x y => if y = 0 then none else some (.long (x - x / y * y))) st) := rfl
theorem x_lneg (w : Nat) (M : MT) (pc : Nat) (ls : LcS) (st : SK) (h : Hp) : exI w M pc (.lneg) ls st h = ariK pc 1 ls h (pL (fun x => some (.long (-x))) st) := rfl
theorem x_lshl (w : Nat) (M : MT) (pc : Nat) (ls : LcS) (st : SK) (h : Hp) : exI w M pc (.lshl) ls st h = ariK pc 1 ls h (pLI (fun x y => some (.long (x <<< (y.toInt64 &&& 63)))) st) := rfl
theorem x_lshr (w : Nat) (M : MT) (pc : Nat) (ls : LcS) (st : SK) (h : Hp) : exI w M pc (.lshr) ls st h = ariK pc 1 ls h (pLI (fun x y => some (.long (x >>> (y.toInt64 &&& 63)))) st) := rfl
theorem x_lushr (w : Nat) (M : MT) (pc : Nat) (ls : LcS) (st : SK) (h : Hp) : exI w M pc (.lushr) ls st h = ariK pc 1 ls h (pLI (fun x y => some (.long (x.toUInt64 >>> (y.toInt64.toUInt64 &&& Int64.toUInt64 63)).toInt64)) st) := rfl
theorem x_lcmp (w : Nat) (M : MT) (pc : Nat) (ls : LcS) (st : SK) (h : Hp) : exI w M pc (.lcmp) ls st h = ariK pc 1 ls h (pLL (fun x y => some (.int (lg_cmp x y))) st) := rfl
theorem x_dadd (w : Nat) (M : MT) (pc : Nat) (ls : LcS) (st : SK) (h : Hp) : exI w M pc (.dadd) ls st h = ariK pc 1 ls h (pDD (fun x y => okd (FP.dadd x y)) st) := rfl
theorem x_dsub (w : Nat) (M : MT) (pc : Nat) (ls : LcS) (st : SK) (h : Hp) : exI w M pc (.dsub) ls st h = ariK pc 1 ls h (pDD (fun x y => okd (FP.dsub x y)) st) := rfl
theorem x_dmul (w : Nat) (M : MT) (pc : Nat) (ls : LcS) (st : SK) (h : Hp) : exI w M pc (.dmul) ls st h = ariK pc 1 ls h (pDD (fun x y => okd (FP.dmul x y)) st) := rfl
theorem x_ddiv (w : Nat) (M : MT) (pc : Nat) (ls : LcS) (st : SK) (h : Hp) : exI w M pc (.ddiv) ls st h = ariK pc 1 ls h (pDD (fun x y => okd (FP.ddiv x y)) st) := rfl
theorem x_fadd (w : Nat) (M : MT) (pc : Nat) (ls : LcS) (st : SK) (h : Hp) : exI w M pc (.fadd) ls st h = ariK pc 1 ls h (pFF (fun x y => okf (FP.fadd x y)) st) := rfl
theorem x_fsub (w : Nat) (M : MT) (pc : Nat) (ls : LcS) (st : SK) (h : Hp) : exI w M pc (.fsub) ls st h = ariK pc 1 ls h (pFF (fun x y => okf (FP.fsub x y)) st) := rfl
theorem x_fmul (w : Nat) (M : MT) (pc : Nat) (ls : LcS) (st : SK) (h : Hp) : exI w M pc (.fmul) ls st h = ariK pc 1 ls h (pFF (fun x y => okf (FP.fmul x y)) st) := rfl
theorem x_fdiv (w : Nat) (M : MT) (pc : Nat) (ls : LcS) (st : SK) (h : Hp) : exI w M pc (.fdiv) ls st h = ariK pc 1 ls h (pFF (fun x y => okf (FP.fdiv x y)) st) := rfl
theorem x_dneg (w : Nat) (M : MT) (pc : Nat) (ls : LcS) (st : SK) (h : Hp) : exI w M pc (.dneg) ls st h = ariK pc 1 ls h (pD (fun x => some (.double (FP.dneg x))) st) := rfl
theorem x_fneg (w : Nat) (M : MT) (pc : Nat) (ls : LcS) (st : SK) (h : Hp) : exI w M pc (.fneg) ls st h = ariK pc 1 ls h (pF (fun x => some (.float (FP.fneg x))) st) := rfl
theorem x_dcmp (w : Nat) (M : MT) (pc : Nat) (op : CmpOp) (ls : LcS) (st : SK) (h : Hp) : exI w M pc (.dcmp op) ls st h = ariK pc 1 ls h (pDD (fun x y => some (.int (Op.cmpValue (FP.dcmp x y) op))) st) := rfl
theorem x_fcmp (w : Nat) (M : MT) (pc : Nat) (op : CmpOp) (ls : LcS) (st : SK) (h : Hp) : exI w M pc (.fcmp op) ls st h = ariK pc 1 ls h (pFF (fun x y => some (.int (Op.cmpValue (FP.fcmp x y) op))) st) := rfl
theorem x_i2l (w : Nat) (M : MT) (pc : Nat) (ls : LcS) (st : SK) (h : Hp) : exI w M pc (.i2l) ls st h = ariK pc 1 ls h (pI (fun x => some (.long x.toInt64)) st) := rfl
theorem x_l2i (w : Nat) (M : MT) (pc : Nat) (ls : LcS) (st : SK) (h : Hp) : exI w M pc (.l2i) ls st h = ariK pc 1 ls h (pL (fun x => some (.int x.toInt32)) st) := rfl
theorem x_i2b (w : Nat) (M : MT) (pc : Nat) (ls : LcS) (st : SK) (h : Hp) : exI w M pc (.i2b) ls st h = ariK pc 1 ls h (pI (fun x => some (.int x.toInt8.toInt32)) st) := rfl
theorem x_i2s (w : Nat) (M : MT) (pc : Nat) (ls : LcS) (st : SK) (h : Hp) : exI w M pc (.i2s) ls st h = ariK pc 1 ls h (pI (fun x => some (.int x.toInt16.toInt32)) st) := rfl
theorem x_i2c (w : Nat) (M : MT) (pc : Nat) (ls : LcS) (st : SK) (h : Hp) : exI w M pc (.i2c) ls st h = ariK pc 1 ls h (pI (fun x => some (.int (x.toUInt32 % 65536).toInt32)) st) := rfl
theorem x_i2d (w : Nat) (M : MT) (pc : Nat) (ls : LcS) (st : SK) (h : Hp) : exI w M pc (.i2d) ls st h = ariK pc 1 ls h (pI (fun x => some (.double (FP.i2d x))) st) := rfl
theorem x_i2f (w : Nat) (M : MT) (pc : Nat) (ls : LcS) (st : SK) (h : Hp) : exI w M pc (.i2f) ls st h = ariK pc 1 ls h (pI (fun x => some (.float (FP.i2f x))) st) := rfl
theorem x_l2d (w : Nat) (M : MT) (pc : Nat) (ls : LcS) (st : SK) (h : Hp) : exI w M pc (.l2d) ls st h = ariK pc 1 ls h (pL (fun x => some (.double (FP.l2d x))) st) := rfl
theorem x_d2i (w : Nat) (M : MT) (pc : Nat) (ls : LcS) (st : SK) (h : Hp) : exI w M pc (.d2i) ls st h = ariK pc 1 ls h (pD (fun x => some (.int (FP.d2i x))) st) := rfl
theorem x_d2l (w : Nat) (M : MT) (pc : Nat) (ls : LcS) (st : SK) (h : Hp) : exI w M pc (.d2l) ls st h = ariK pc 1 ls h (pD (fun x => some (.long (FP.d2l x))) st) := rfl
theorem x_f2i (w : Nat) (M : MT) (pc : Nat) (ls : LcS) (st : SK) (h : Hp) : exI w M pc (.f2i) ls st h = ariK pc 1 ls h (pF (fun x => some (.int (FP.f2i x))) st) := rfl
theorem x_f2d (w : Nat) (M : MT) (pc : Nat) (ls : LcS) (st : SK) (h : Hp) : exI w M pc (.f2d) ls st h = ariK pc 1 ls h (pF (fun x => okd (FP.f2d x)) st) := rfl
theorem x_d2f (w : Nat) (M : MT) (pc : Nat) (ls : LcS) (st : SK) (h : Hp) : exI w M pc (.d2f) ls st h = ariK pc 1 ls h (pD (fun x => okf (FP.d2f x)) st) := rfl
theorem x_dup (w : Nat) (M : MT) (pc : Nat) (ls : LcS) (st : SK) (h : Hp) : exI w M pc (.dup) ls st h = ariK pc 1 ls h (sdup st) := rfl
theorem x_pop (w : Nat) (M : MT) (pc : Nat) (ls : LcS) (st : SK) (h : Hp) : exI w M pc (.pop) ls st h = ariK pc 1 ls h (spop st) := rfl
theorem x_dup_x1 (w : Nat) (M : MT) (pc : Nat) (ls : LcS) (st : SK) (h : Hp) : exI w M pc (.dup_x1) ls st h = ariK pc 1 ls h (sdupx1 st) := rfl
theorem x_dup2 (w : Nat) (M : MT) (pc : Nat) (ls : LcS) (st : SK) (h : Hp) : exI w M pc (.dup2) ls st h = ariK pc 1 ls h (sdup2 st) := rfl
/-! evaluation -/
abbrev Res : Type := (Option Value ⊕ Nat) × Hp
abbrev FN : Type := Nat → SK → Hp → Option Res
/-- the handler of a kind at a place: stuck, none, or one -/
def hfd : List (Nat × Nat × Nat × List Nat) → Nat → Nat → Option (Option Nat)
  | [], _, _ => some none
  | (a, b, t, ks) :: r, pc, k => if a ≤ pc ∧ pc < b then (if ks = [] ∨ ks.contains k = true then some (some t) else if ks.contains (k + 1000) = true then hfd r pc k else none) else hfd r pc k
/-- what comes next: an answer, or a state to go on from -/
abbrev Nxt : Type := Res ⊕ (Nat × LcS × SK × Hp)
def hnd (M : MT) (pc : Nat) (ls : LcS) (x : Nat) (h : Hp) : Option Nxt := match hfd (mhh M) pc (kd h x).1 with
  | none => none
  | some none => some (.inl (.inr x, h))
  | some (some t) => some (.inr (t, ls, [.ref x], h))
def aft (M : MT) (pc : Nat) (ls : LcS) (rest : SK) (len : Nat) : Option Res → Option Nxt
  | none => none
  | some (.inl v, h) => some (.inr (pc + len, ls, v.toList ++ rest, h))
  | some (.inr x, h) => hnd M pc ls x h
def stp (F : FN) (M : MT) (pc : Nat) (ls : LcS) : Option Act → Option Nxt
  | none => none
  | some (.inl q) => some (.inr q)
  | some (.inr (.inl (v, h))) => some (.inl (.inl v, h))
  | some (.inr (.inr (.inl (x, h)))) => hnd M pc ls x h
  | some (.inr (.inr (.inr (k, as, rest, len, h)))) => aft M pc ls rest len (F k as h)
def one (F : FN) (w : Nat) (M : MT) (q : Nat × LcS × SK × Hp) : Option Nxt := match decode (mcd M) q.1 with
  | .ok (i, n) => if iln i = n ∨ iln i = 0 then stp F M q.1 q.2.1 (exI w M q.1 i q.2.1 q.2.2.1 q.2.2.2) else none
  | .error _ => none
def run (F : FN) (w : Nat) (M : MT) : Nat → (Nat × LcS × SK × Hp) → Option Res
  | 0, _ => none
  | n + 1, q => match one F w M q with
    | none => none
    | some (.inl r) => some r
    | some (.inr q') => run F w M n q'
theorem run_mono (F : FN) (w : Nat) (M : MT) : ∀ (n : Nat) (q : Nat × LcS × SK × Hp) (r : Res), run F w M n q = some r → run F w M (n + 1) q = some r := by
  intro n
  induction n with
  | zero => intro q r h; cases h
  | succ n ih =>
    intro q r h
    rw [run] at h ⊢
    cases hq : one F w M q with
    | none => rw [hq] at h; cases h
    | some x =>
      rw [hq] at h
      cases x with
      | inl y => exact h
      | inr q' => exact ih q' r h
theorem run_le (F : FN) (w : Nat) (M : MT) {n m : Nat} (hn : n ≤ m) (q : Nat × LcS × SK × Hp) (r : Res) (h : run F w M n q = some r) : run F w M m q = some r := by
  induction hn with
  | refl => exact h
  | step _ ih => exact run_mono F w M _ q r ih
theorem run_det (F : FN) (w : Nat) (M : MT) {n m : Nat} (q : Nat × LcS × SK × Hp) (r s : Res) (h : run F w M n q = some r) (h2 : run F w M m q = some s) : r = s := by
  rcases Nat.le_total n m with e | e
  · exact Option.some.inj ((run_le F w M e q r h).symm.trans h2)
  · exact Option.some.inj (h.symm.trans (run_le F w M e q s h2))
noncomputable def evq (F : FN) (w : Nat) (M : MT) (q : Nat × LcS × SK × Hp) : Option Res := @dite (Option Res) (∃ r n, run F w M n q = some r) (Classical.propDecidable _) (fun h => some h.choose) (fun _ => none)
theorem evq_of {F : FN} {w : Nat} {M : MT} {q : Nat × LcS × SK × Hp} {r : Res} {n : Nat} (h : run F w M n q = some r) : evq F w M q = some r := by
  unfold evq
  have hx : ∃ r n, run F w M n q = some r := ⟨r, n, h⟩
  rw [dif_pos hx]
  obtain ⟨m, hm⟩ := hx.choose_spec
  rw [run_det F w M q _ _ hm h]
theorem evq_run {F : FN} {w : Nat} {M : MT} {q : Nat × LcS × SK × Hp} {r : Res} (h : evq F w M q = some r) : ∃ n, run F w M n q = some r := by
  unfold evq at h
  by_cases hx : ∃ r n, run F w M n q = some r
  · rw [dif_pos hx] at h
    obtain ⟨n, hn⟩ := hx.choose_spec
    exact ⟨n, by rw [hn]; exact h⟩
  · rw [dif_neg hx] at h
    cases h
def nxt (E : (Nat × LcS × SK × Hp) → Option Res) : Option Nxt → Option Res
  | none => none
  | some (.inl r) => some r
  | some (.inr q) => E q
theorem evq_eq (F : FN) (w : Nat) (M : MT) (q : Nat × LcS × SK × Hp) : evq F w M q = nxt (evq F w M) (one F w M q) := by
  cases ho : one F w M q with
  | none =>
    cases he : evq F w M q with
    | none => rfl
    | some r =>
      obtain ⟨n, hn⟩ := evq_run he
      cases n with
      | zero => cases hn
      | succ n => rw [run, ho] at hn; cases hn
  | some x =>
    cases x with
    | inl r => exact evq_of (n := 1) (by rw [run, ho])
    | inr q' =>
      show evq F w M q = evq F w M q'
      cases he : evq F w M q' with
      | some r =>
        obtain ⟨n, hn⟩ := evq_run he
        exact evq_of (n := n + 1) (by rw [run, ho]; exact hn)
      | none =>
        cases he2 : evq F w M q with
        | none => rfl
        | some r =>
          obtain ⟨n, hn⟩ := evq_run he2
          cases n with
          | zero => cases hn
          | succ n =>
            rw [run, ho] at hn
            rw [evq_of hn] at he
            cases he
