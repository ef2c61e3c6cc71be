/-! THE ABSTRACT MACHINE: a memory of typed places, references as numbers (0 null, k+1 the cell k), instructions the JVM's own with what they resolve to. -/
abbrev ev_M : Type := (Nat → Nat) × (Nat → Nat) × (Nat → Nat → Int32) × (Nat → Nat → Int64) × (Nat → Nat → UInt32) × (Nat → Nat → UInt64) × (Nat → Nat → Nat) × Nat × Nat × Nat × (Nat → Nat)
/-- what kind of thing lies at a reference; how long an array is; its ints, longs, floats, doubles, references; the next reference; the cells and the slots used; the constants' references -/
def mK (M : ev_M) : Nat → Nat := M.1
def mN (M : ev_M) : Nat → Nat := M.2.1
def mI (M : ev_M) : Nat → Nat → Int32 := M.2.2.1
def mL (M : ev_M) : Nat → Nat → Int64 := M.2.2.2.1
def mF (M : ev_M) : Nat → Nat → UInt32 := M.2.2.2.2.1
def mD (M : ev_M) : Nat → Nat → UInt64 := M.2.2.2.2.2.1
def mA (M : ev_M) : Nat → Nat → Nat := M.2.2.2.2.2.2.1
def nx (M : ev_M) : Nat := M.2.2.2.2.2.2.2.1
def ncl (M : ev_M) : Nat := M.2.2.2.2.2.2.2.2.1
def nsl (M : ev_M) : Nat := M.2.2.2.2.2.2.2.2.2.1
def mS (M : ev_M) : Nat → Nat := M.2.2.2.2.2.2.2.2.2.2
def up2 {α : Type} (f : Nat → Nat → α) (a k : Nat) (v : α) : Nat → Nat → α := fun b j => if b = a ∧ j = k then v else f b j
def up1 {α : Type} (f : Nat → α) (a : Nat) (v : α) : Nat → α := fun b => if b = a then v else f b
def wI (M : ev_M) (a k : Nat) (v : Int32) : ev_M := (mK M, mN M, up2 (mI M) a k v, mL M, mF M, mD M, mA M, nx M, ncl M, nsl M, mS M)
def wL (M : ev_M) (a k : Nat) (v : Int64) : ev_M := (mK M, mN M, mI M, up2 (mL M) a k v, mF M, mD M, mA M, nx M, ncl M, nsl M, mS M)
def wF (M : ev_M) (a k : Nat) (v : UInt32) : ev_M := (mK M, mN M, mI M, mL M, up2 (mF M) a k v, mD M, mA M, nx M, ncl M, nsl M, mS M)
def wD (M : ev_M) (a k : Nat) (v : UInt64) : ev_M := (mK M, mN M, mI M, mL M, mF M, up2 (mD M) a k v, mA M, nx M, ncl M, nsl M, mS M)
def wA (M : ev_M) (a k : Nat) (v : Nat) : ev_M := (mK M, mN M, mI M, mL M, mF M, mD M, up2 (mA M) a k v, nx M, ncl M, nsl M, mS M)
/-- a new cell of kind t, n long, of s slots -/
def wN (M : ev_M) (t n s : Nat) : ev_M := (up1 (mK M) (nx M) t, up1 (mN M) (nx M) n, up1 (mI M) (nx M) (fun _ => 0), up1 (mL M) (nx M) (fun _ => 0), up1 (mF M) (nx M) (fun _ => 0), up1 (mD M) (nx M) (fun _ => 0), up1 (mA M) (nx M) (fun _ => 0), nx M + 1, ncl M + 1, nsl M + s, mS M)
/-- k cells of n slots more, of which nothing is known -/
def wX (M : ev_M) (k n : Nat) : ev_M := (mK M, mN M, mI M, mL M, mF M, mD M, mA M, nx M, ncl M + k, nsl M + n, mS M)
abbrev ev_I : Type := Instr × Nat × List Nat
abbrev ev_S : Type := List Value × List Value × ev_M
/-- nothing known of a local; some reference, of which nothing is known -/
def jk : Value := .retAddr 0
def ek : Value := .retAddr 1
def ev_cat2 : Value → Bool
  | .long _ => true
  | .double _ => true
  | _ => false
/-- a local of one word -/
def ev_set1 : Nat → Value → List Value → Option (List Value)
  | _, _, [] => none
  | 0, v, _ :: l => some (v :: l)
  | i + 1, v, a :: l => (ev_set1 i v l).map ((if i = 0 ∧ ev_cat2 a = true then jk else a) :: ·)
/-- a local of two words -/
def ev_set2 : Nat → Value → List Value → Option (List Value)
  | _, _, [] => none
  | 0, _, [_] => none
  | 0, v, _ :: _ :: l => some (v :: jk :: l)
  | i + 1, v, a :: l => (ev_set2 i v l).map ((if i = 0 ∧ ev_cat2 a = true then jk else a) :: ·)
def ev_kill : List Nat → List Value → List Value
  | [], l => l
  | i :: r, l => ev_kill r (l.set i jk)
def ev_w : List Value → Nat
  | [] => 0
  | v :: l => (if ev_cat2 v = true then 2 else 1) + ev_w l
def ev_in (i : Int32) (n : Nat) : Bool := decide (0 ≤ i.toInt) && decide (i.toInt < n)
def ev_ix (i : Int32) : Nat := i.toNatClampNeg
section
variable (S : ev_S)
def ev_ii (f : Int32 → Int32 → Int32) : Option ev_S := match S.2.1 with | .int y :: .int x :: st => some (S.1, .int (f x y) :: st, S.2.2) | _ => none
def ev_ll (f : Int64 → Int64 → Int64) : Option ev_S := match S.2.1 with | .long y :: .long x :: st => some (S.1, .long (f x y) :: st, S.2.2) | _ => none
def ev_li (f : Int64 → Int32 → Int64) : Option ev_S := match S.2.1 with | .int y :: .long x :: st => some (S.1, .long (f x y) :: st, S.2.2) | _ => none
def ev_ff (f : UInt32 → UInt32 → UInt32) : Option ev_S := match S.2.1 with | .float y :: .float x :: st => some (S.1, .float (f x y) :: st, S.2.2) | _ => none
def ev_dd (f : UInt64 → UInt64 → UInt64) : Option ev_S := match S.2.1 with | .double y :: .double x :: st => some (S.1, .double (f x y) :: st, S.2.2) | _ => none
def ev_i1 (f : Int32 → Value) : Option ev_S := match S.2.1 with | .int x :: st => some (S.1, f x :: st, S.2.2) | _ => none
def ev_l1 (f : Int64 → Value) : Option ev_S := match S.2.1 with | .long x :: st => some (S.1, f x :: st, S.2.2) | _ => none
def ev_f1 (f : UInt32 → Value) : Option ev_S := match S.2.1 with | .float x :: st => some (S.1, f x :: st, S.2.2) | _ => none
def ev_d1 (f : UInt64 → Value) : Option ev_S := match S.2.1 with | .double x :: st => some (S.1, f x :: st, S.2.2) | _ => none
def ev_push (v : Value) : Option ev_S := some (S.1, v :: S.2.1, S.2.2)
def ev_iload (i : Nat) : Option ev_S := match S.1[i]? with | some (.int x) => some (S.1, .int x :: S.2.1, S.2.2) | _ => none
def ev_lload (i : Nat) : Option ev_S := match S.1[i]? with | some (.long x) => some (S.1, .long x :: S.2.1, S.2.2) | _ => none
def ev_fload (i : Nat) : Option ev_S := match S.1[i]? with | some (.float x) => some (S.1, .float x :: S.2.1, S.2.2) | _ => none
def ev_dload (i : Nat) : Option ev_S := match S.1[i]? with | some (.double x) => some (S.1, .double x :: S.2.1, S.2.2) | _ => none
def ev_aload (i : Nat) : Option ev_S := match S.1[i]? with | some (.ref x) => some (S.1, .ref x :: S.2.1, S.2.2) | _ => none
def ev_istore (i : Nat) : Option ev_S := match S.2.1 with | .int x :: st => (ev_set1 i (.int x) S.1).map fun l => (l, st, S.2.2) | _ => none
def ev_fstore (i : Nat) : Option ev_S := match S.2.1 with | .float x :: st => (ev_set1 i (.float x) S.1).map fun l => (l, st, S.2.2) | _ => none
def ev_astore (i : Nat) : Option ev_S := match S.2.1 with | .ref x :: st => (ev_set1 i (.ref x) S.1).map fun l => (l, st, S.2.2) | .retAddr 1 :: st => (ev_set1 i ek S.1).map fun l => (l, st, S.2.2) | _ => none
def ev_lstore (i : Nat) : Option ev_S := match S.2.1 with | .long x :: st => (ev_set2 i (.long x) S.1).map fun l => (l, st, S.2.2) | _ => none
def ev_dstore (i : Nat) : Option ev_S := match S.2.1 with | .double x :: st => (ev_set2 i (.double x) S.1).map fun l => (l, st, S.2.2) | _ => none
def ev_iinc (i : Nat) (n : Int) : Option ev_S := match S.1[i]? with | some (.int x) => (ev_set1 i (.int (x + Int32.ofInt n)) S.1).map fun l => (l, S.2.1, S.2.2) | _ => none
/-- a read of an array: its kinds -/
def ev_ald (ok : Nat → Bool) (f : Nat → Nat → Value) : Option ev_S := match S.2.1 with
  | .int i :: .ref a :: st => if ok (mK S.2.2 a) = true ∧ ev_in i (mN S.2.2 a) = true then some (S.1, f a (ev_ix i) :: st, S.2.2) else none
  | _ => none
def ev_iast (ok : Nat → Bool) (f : Nat → Int32 → Int32) : Option ev_S := match S.2.1 with
  | .int x :: .int i :: .ref a :: st => if ok (mK S.2.2 a) = true ∧ ev_in i (mN S.2.2 a) = true then some (S.1, st, wI S.2.2 a (ev_ix i) (f (mK S.2.2 a) x)) else none
  | _ => none
def ev_last : Option ev_S := match S.2.1 with
  | .long x :: .int i :: .ref a :: st => if mK S.2.2 a = 41 ∧ ev_in i (mN S.2.2 a) = true then some (S.1, st, wL S.2.2 a (ev_ix i) x) else none
  | _ => none
def ev_fast : Option ev_S := match S.2.1 with
  | .float x :: .int i :: .ref a :: st => if mK S.2.2 a = 42 ∧ ev_in i (mN S.2.2 a) = true then some (S.1, st, wF S.2.2 a (ev_ix i) x) else none
  | _ => none
def ev_dast : Option ev_S := match S.2.1 with
  | .double x :: .int i :: .ref a :: st => if mK S.2.2 a = 43 ∧ ev_in i (mN S.2.2 a) = true then some (S.1, st, wD S.2.2 a (ev_ix i) x) else none
  | _ => none
/-- what an array of references may be given: kind of the array, kind of the value -/
def ev_may (t k : Nat) : Bool := (t == 48 && (k == 5 || k == 9)) || (t == 49 && (k == 13 || k == 14)) || (t == 50 && k == 4) || (t == 51 && k == 10) || (t == 52 && k == 6)
def ev_isA (t : Nat) : Bool := decide (48 ≤ t) && decide (t ≤ 52)
def ev_aast : Option ev_S := match S.2.1 with
  | .ref x :: .int i :: .ref a :: st => if ev_isA (mK S.2.2 a) = true ∧ ev_in i (mN S.2.2 a) = true ∧ (x = 0 ∨ ev_may (mK S.2.2 a) (mK S.2.2 x) = true) then some (S.1, st, wA S.2.2 a (ev_ix i) x) else none
  | _ => none
def ev_isArr (t : Nat) : Bool := decide (t ∈ [40, 41, 42, 43, 44, 45, 46, 48, 49, 50, 51, 52, 60, 61, 65, 66])
def ev_alen : Option ev_S := match S.2.1 with
  | .ref a :: st => if ev_isArr (mK S.2.2 a) = true then some (S.1, .int (Int32.ofNat (mN S.2.2 a)) :: st, S.2.2) else none
  | _ => none
/-- a field: [type, place, kinds ..] -/
def ev_fld (M : ev_M) (t k a : Nat) : Value := match t with
  | 1 => .long (mL M a k)
  | 2 => .float (mF M a k)
  | 3 => .double (mD M a k)
  | 4 => .ref (mA M a k)
  | _ => .int (mI M a k)
def ev_getf (ar : List Nat) : Option ev_S := match ar, S.2.1 with
  | _ :: t :: k :: cs, .ref a :: st => if cs.contains (mK S.2.2 a) = true then some (S.1, ev_fld S.2.2 t k a :: st, S.2.2) else none
  | _, _ => none
def ev_put (M : ev_M) (t k a : Nat) (v : Value) : Option ev_M := match t, v with
  | 0, .int x => some (wI M a k x)
  | 1, .long x => some (wL M a k x)
  | 2, .float x => some (wF M a k x)
  | 3, .double x => some (wD M a k x)
  | 4, .ref x => some (wA M a k x)
  | 5, .int x => if x = 0 ∨ x = 1 then some (wI M a k x) else none
  | 6, .int x => if x.toInt8.toInt32 = x then some (wI M a k x) else none
  | _, _ => none
def ev_putf (ar : List Nat) : Option ev_S := match ar, S.2.1 with
  | _ :: t :: k :: cs, v :: .ref a :: st => if cs.contains (mK S.2.2 a) = true then (ev_put S.2.2 t k a v).map fun M => (S.1, st, M) else none
  | _, _ => none
/-- new: [kind, slots] -/
def ev_new (ar : List Nat) : Option ev_S := match ar with
  | [t, n] => some (S.1, .ref (nx S.2.2) :: S.2.1, wN S.2.2 t 0 n)
  | _ => none
/-- newarray, anewarray: [kind] -/
def ev_newa (ar : List Nat) : Option ev_S := match ar, S.2.1 with
  | t :: _, .int n :: st => if 0 ≤ n.toInt ∧ n.toInt ≤ 100000 then some (S.1, .ref (nx S.2.2) :: st, wN S.2.2 t (ev_ix n) (ev_ix n)) else none
  | _, _ => none
/-- checkcast: [number of kinds that are good, these .., kinds that aren't ..] -/
def ev_ccast (ar : List Nat) : Option ev_S := match ar, S.2.1 with
  | n :: ks, .ref a :: st => if a = 0 ∨ (ks.take n).contains (mK S.2.2 a) = true then some (S.1, .ref a :: st, S.2.2) else none
  | _, _ => none
/-- instanceof: [number of kinds that are, kinds that are .., kinds that aren't ..] -/
def ev_inst (ar : List Nat) : Option ev_S := match ar, S.2.1 with
  | n :: ks, .ref a :: st => if (ks.take n).contains (mK S.2.2 a) = true then some (S.1, .int 1 :: st, S.2.2) else if a = 0 ∨ (ks.drop n).contains (mK S.2.2 a) = true then some (S.1, .int 0 :: st, S.2.2) else none
  | _, _ => none
end
/-- ints and longs by whole numbers -/
def iI (z : Int) : Int32 := Int32.ofInt z
def lI (z : Int) : Int64 := Int64.ofInt z
/-- a whole number written in the operands: its sign, its size -/
def ev_z (s n : Nat) : Int := if s = 0 then (n : Int) else -(n : Int)
def ev_isI (t : Nat) : Bool := t == 40 || t == 60 || t == 61
def ev_isB (t : Nat) : Bool := t == 45 || t == 65 || t == 44
def ev_nar (t : Nat) (x : Int32) : Int32 := if t = 44 then (if x &&& 1 = 1 then 1 else 0) else x.toInt8.toInt32
section
variable (S : ev_S)
def ev_i1n (ok : Int32 → Bool) (f : Int32 → Int32 → Int32) : Option ev_S := match S.2.1 with | .int y :: .int x :: st => if ok y = true then some (S.1, .int (f x y) :: st, S.2.2) else none | _ => none
def ev_ffn (f : UInt32 → UInt32 → UInt32) : Option ev_S := match S.2.1 with | .float y :: .float x :: st => if (f x y) &&& 0x7fffffff ≤ 0x7f800000 then some (S.1, .float (f x y) :: st, S.2.2) else none | _ => none
def ev_ddn (f : UInt64 → UInt64 → UInt64) : Option ev_S := match S.2.1 with | .double y :: .double x :: st => if (f x y) &&& 0x7fffffffffffffff ≤ 0x7ff0000000000000 then some (S.1, .double (f x y) :: st, S.2.2) else none | _ => none
def ev_f2dn : Option ev_S := match S.2.1 with | .float x :: st => if (FP.f2d x) &&& 0x7fffffffffffffff ≤ 0x7ff0000000000000 then some (S.1, .double (FP.f2d x) :: st, S.2.2) else none | _ => none
def ev_d2fn : Option ev_S := match S.2.1 with | .double x :: st => if (FP.d2f x) &&& 0x7fffffff ≤ 0x7f800000 then some (S.1, .float (FP.d2f x) :: st, S.2.2) else none | _ => none
def ev_ldc (ar : List Nat) : Option ev_S := match ar with
  | [0, s, n] => ev_push S (.int (iI (ev_z s n)))
  | [1, b] => ev_push S (.float (UInt32.ofNat b))
  | [2, k] => ev_push S (.ref (mS S.2.2 k))
  | _ => none
def ev_ldc2 (ar : List Nat) : Option ev_S := match ar with
  | [0, s, n] => ev_push S (.long (lI (ev_z s n)))
  | [1, b] => ev_push S (.double (UInt64.ofNat b))
  | _ => none
def ev_cat1 : Value → Bool := fun v => !ev_cat2 v
def ev_pop : Option ev_S := match S.2.1 with | v :: st => if ev_cat2 v = false then some (S.1, st, S.2.2) else none | _ => none
def ev_pop2 : Option ev_S := match S.2.1 with
  | v :: st => if ev_cat2 v = true then some (S.1, st, S.2.2) else match st with | w :: st => if ev_cat2 w = false then some (S.1, st, S.2.2) else none | _ => none
  | _ => none
def ev_dup : Option ev_S := match S.2.1 with | v :: st => if ev_cat2 v = false then some (S.1, v :: v :: st, S.2.2) else none | _ => none
def ev_dup_x1 : Option ev_S := match S.2.1 with | v :: w :: st => if ev_cat2 v = false ∧ ev_cat2 w = false then some (S.1, v :: w :: v :: st, S.2.2) else none | _ => none
def ev_dup_x2 : Option ev_S := match S.2.1 with | v :: w :: u :: st => if ev_cat2 v = false ∧ ev_cat2 w = false ∧ ev_cat2 u = false then some (S.1, v :: w :: u :: v :: st, S.2.2) else none | _ => none
def ev_dup2 : Option ev_S := match S.2.1 with
  | v :: st => if ev_cat2 v = true then some (S.1, v :: v :: st, S.2.2) else match st with | w :: st => if ev_cat2 w = false then some (S.1, v :: w :: v :: w :: st, S.2.2) else none | _ => none
  | _ => none
/-- arraycopy: n elements of the array a from sp on, to the array b from dp on -/
def cp2 {α : Type} (f : Nat → Nat → α) (a sp b dp n : Nat) : Nat → Nat → α := fun x j => if x = b ∧ dp ≤ j ∧ j < dp + n then f a (sp + (j - dp)) else f x j
def wCI (M : ev_M) (a sp b dp n : Nat) : ev_M := (mK M, mN M, cp2 (mI M) a sp b dp n, mL M, mF M, mD M, mA M, nx M, ncl M, nsl M, mS M)
def wCF (M : ev_M) (a sp b dp n : Nat) : ev_M := (mK M, mN M, mI M, mL M, cp2 (mF M) a sp b dp n, mD M, mA M, nx M, ncl M, nsl M, mS M)
def wCD (M : ev_M) (a sp b dp n : Nat) : ev_M := (mK M, mN M, mI M, mL M, mF M, cp2 (mD M) a sp b dp n, mA M, nx M, ncl M, nsl M, mS M)
def wCA (M : ev_M) (a sp b dp n : Nat) : ev_M := (mK M, mN M, mI M, mL M, mF M, mD M, cp2 (mA M) a sp b dp n, nx M, ncl M, nsl M, mS M)
def ev_cpk (t : Nat) : Bool := t == 40 || t == 42 || t == 43 || t == 44 || t == 45 || t == 46 || t == 48
def ev_cpm (M : ev_M) (t a sp b dp n : Nat) : ev_M := if t = 42 then wCF M a sp b dp n else if t = 43 then wCD M a sp b dp n else if t = 48 then wCA M a sp b dp n else wCI M a sp b dp n
def ev_cpy : Option ev_S := match S.2.1 with
  | .int n :: .int dp :: .ref b :: .int sp :: .ref a :: st =>
    if 8 < ev_w st then none else
    if ev_cpk (mK S.2.2 a) = true ∧ mK S.2.2 b = mK S.2.2 a ∧ 0 ≤ n.toInt ∧ 0 ≤ sp.toInt ∧ 0 ≤ dp.toInt ∧ sp.toInt + n.toInt ≤ mN S.2.2 a ∧ dp.toInt + n.toInt ≤ mN S.2.2 b ∧ (mK S.2.2 a = 48 → ∀ i, i < ev_ix n → mA S.2.2 a (ev_ix sp + i) = 0 ∨ mK S.2.2 (mA S.2.2 a (ev_ix sp + i)) = 5 ∨ mK S.2.2 (mA S.2.2 a (ev_ix sp + i)) = 9) then some (S.1, st, ev_cpm S.2.2 (mK S.2.2 a) a (ev_ix sp) b (ev_ix dp) (ev_ix n)) else none
  | _ => none
/-- natives -/
def ev_nat (ar : List Nat) : Option ev_S := match ar, S.2.1 with
  | [9000, 1], .float x :: st => if 8 < ev_w st then none else some (S.1, .int x.toInt32 :: st, S.2.2)
  | [9000, 2], .double x :: st => if 8 < ev_w st then none else some (S.1, .long x.toInt64 :: st, S.2.2)
  | [9000, 3], _ => ev_cpy S
  | [9000, 4, k], .ref a :: st => if 8 < ev_w st then none else if mK S.2.2 a = 48 then some (S.1, .ref (mS S.2.2 k) :: st, S.2.2) else none
  | _, _ => none
/-- the instructions that only go on to the next one -/
def ev_so (i : Instr) (ar : List Nat) : Option ev_S := match i with
  | .iconst n => ev_push S (.int (iI n))
  | .bipush n => if -128 ≤ n ∧ n ≤ 127 then ev_push S (.int (iI n)) else none
  | .sipush n => if -32768 ≤ n ∧ n ≤ 32767 then ev_push S (.int (iI n)) else none
  | .lconst n => ev_push S (.long (lI (n : Nat)))
  | .fconst n => match n with | 0 => ev_push S (.float FP.fconst0) | 1 => ev_push S (.float FP.fconst1) | 2 => ev_push S (.float FP.fconst2)
  | .dconst n => match n with | 0 => ev_push S (.double FP.dconst0) | 1 => ev_push S (.double FP.dconst1)
  | .aconst_null => ev_push S (.ref 0)
  | .ldc _ => ev_ldc S ar
  | .ldc_w _ => match ar with | [0, s, n] => ev_push S (.int (iI (ev_z s n))) | _ => none
  | .ldc2_w _ => ev_ldc2 S ar
  | .getstatic _ => ev_ldc S ar
  | .iload_n k => ev_iload S k
  | .iload k => ev_iload S k
  | .lload_n k => ev_lload S k
  | .lload k => ev_lload S k
  | .fload_n k => ev_fload S k
  | .fload k => ev_fload S k
  | .dload_n k => ev_dload S k
  | .dload k => ev_dload S k
  | .aload_n k => ev_aload S k
  | .aload k => ev_aload S k
  | .istore_n k => ev_istore S k
  | .istore k => ev_istore S k
  | .lstore_n k => ev_lstore S k
  | .lstore k => ev_lstore S k
  | .fstore_n k => ev_fstore S k
  | .fstore k => ev_fstore S k
  | .dstore_n k => ev_dstore S k
  | .dstore k => ev_dstore S k
  | .astore_n k => ev_astore S k
  | .astore k => ev_astore S k
  | .iinc k n => ev_iinc S k n
  | .pop => ev_pop S
  | .pop2 => ev_pop2 S
  | .dup => ev_dup S
  | .dup_x1 => ev_dup_x1 S
  | .dup_x2 => ev_dup_x2 S
  | .dup2 => ev_dup2 S
  | .iadd => ev_ii S (· + ·)
  | .isub => ev_ii S (· - ·)
  | .imul => ev_ii S (· * ·)
  | .iand => ev_ii S (· &&& ·)
  | .ior => ev_ii S (· ||| ·)
  | .ixor => ev_ii S (· ^^^ ·)
  | .ishl => ev_ii S fun x y => x <<< (y &&& 31)
  | .ishr => ev_ii S fun x y => x >>> (y &&& 31)
  | .iushr => ev_ii S fun x y => (x.toUInt32 >>> (y.toUInt32 &&& Int32.toUInt32 31)).toInt32
  | .idiv => ev_i1n S (fun y => decide (y ≠ 0)) (· / ·)
  | .irem => ev_i1n S (fun y => decide (y ≠ 0)) fun x y => x - x / y * y
  | .ineg => ev_i1 S fun x => .int (-x)
  | .ladd => ev_ll S (· + ·)
  | .lsub => ev_ll S (· - ·)
  | .lmul => ev_ll S (· * ·)
  | .land => ev_ll S (· &&& ·)
  | .lor => ev_ll S (· ||| ·)
  | .lxor => ev_ll S (· ^^^ ·)
  | .lneg => ev_l1 S fun x => .long (-x)
  | .lshl => ev_li S fun x y => x <<< (y.toInt64 &&& 63)
  | .lshr => ev_li S fun x y => x >>> (y.toInt64 &&& 63)
  | .lushr => ev_li S fun x y => (x.toUInt64 >>> (y.toInt64.toUInt64 &&& Int64.toUInt64 63)).toInt64
  | .lcmp => match S.2.1 with | .long y :: .long x :: st => some (S.1, .int (lg_cmp x y) :: st, S.2.2) | _ => none
  | .i2l => ev_i1 S fun x => .long x.toInt64
  | .l2i => ev_l1 S fun x => .int x.toInt32
  | .i2b => ev_i1 S fun x => .int x.toInt8.toInt32
  | .i2s => ev_i1 S fun x => .int x.toInt16.toInt32
  | .i2c => ev_i1 S fun x => .int (x.toUInt32 % 65536).toInt32
  | .i2f => ev_i1 S fun x => .float (FP.i2f x)
  | .i2d => ev_i1 S fun x => .double (FP.i2d x)
  | .f2i => ev_f1 S fun x => .int (FP.f2i x)
  | .f2d => ev_f2dn S
  | .d2i => ev_d1 S fun x => .int (FP.d2i x)
  | .d2l => ev_d1 S fun x => .long (FP.d2l x)
  | .d2f => ev_d2fn S
  | .fadd => ev_ffn S FP.fadd
  | .fsub => ev_ffn S FP.fsub
  | .fmul => ev_ffn S FP.fmul
  | .fdiv => ev_ffn S FP.fdiv
  | .frem => ev_ffn S FP.frem
  | .dadd => ev_ddn S FP.dadd
  | .dsub => ev_ddn S FP.dsub
  | .dmul => ev_ddn S FP.dmul
  | .ddiv => ev_ddn S FP.ddiv
  | .drem => ev_ddn S FP.drem
  | .dneg => ev_d1 S fun x => .double (FP.dneg x)
  | .fcmp op => match S.2.1 with | .float y :: .float x :: st => some (S.1, .int (Op.cmpValue (FP.fcmp x y) op) :: st, S.2.2) | _ => none
  | .dcmp op => match S.2.1 with | .double y :: .double x :: st => some (S.1, .int (Op.cmpValue (FP.dcmp x y) op) :: st, S.2.2) | _ => none
  | .iaload => ev_ald S ev_isI fun a j => .int (mI S.2.2 a j)
  | .baload => ev_ald S ev_isB fun a j => .int (mI S.2.2 a j)
  | .saload => ev_ald S (· == 46) fun a j => .int (mI S.2.2 a j)
  | .laload => ev_ald S (· == 41) fun a j => .long (mL S.2.2 a j)
  | .faload => ev_ald S (· == 42) fun a j => .float (mF S.2.2 a j)
  | .daload => ev_ald S (· == 43) fun a j => .double (mD S.2.2 a j)
  | .aaload => ev_ald S ev_isA fun a j => .ref (mA S.2.2 a j)
  | .iastore => ev_iast S (· == 40) fun _ x => x
  | .bastore => ev_iast S (fun t => t == 44 || t == 45) ev_nar
  | .sastore => ev_iast S (· == 46) fun _ x => x.toInt16.toInt32
  | .lastore => ev_last S
  | .fastore => ev_fast S
  | .dastore => ev_dast S
  | .aastore => ev_aast S
  | .arraylength => ev_alen S
  | .getfield _ => ev_getf S ar
  | .putfield _ => ev_putf S ar
  | .new _ => ev_new S ar
  | .newarray _ => ev_newa S ar
  | .anewarray _ => ev_newa S ar
  | .checkcast _ => ev_ccast S ar
  | .instanceof _ => ev_inst S ar
  | .invokestatic _ => ev_nat S ar
  | .invokevirtual _ => ev_nat S ar
  | _ => none
end
