/-! THE RUN OF THE ABSTRACT MACHINE -/
def ev_cc (c : ClassFile.Cond) (x y : Int32) : Bool := match c with
  | .eq => decide (x = y)
  | .ne => decide (¬ x = y)
  | .lt => decide (x < y)
  | .ge => decide (y ≤ x)
  | .gt => decide (y < x)
  | .le => decide (x ≤ y)
/-- a cell of ours: its address is no other's -/
def ev_own (t : Nat) : Bool := (decide (1 ≤ t) && decide (t ≤ 30) && decide (t ≠ 16)) || (decide (40 ≤ t) && decide (t < 60))
/-- a branch: is it taken? -/
def ev_br (i : Instr) (S : ev_S) : Option (Bool × ev_S) := match i with
  | .ifCond c _ => match S.2.1 with | .int x :: st => some (ev_cc c x 0, S.1, st, S.2.2) | _ => none
  | .if_icmp c _ => match S.2.1 with | .int y :: .int x :: st => some (ev_cc c x y, S.1, st, S.2.2) | _ => none
  | .if_acmp c _ => match S.2.1 with
    | .ref y :: .ref x :: st => if x = y ∨ x = 0 ∨ y = 0 ∨ (ev_own (mK S.2.2 x) = true ∧ ¬ mK S.2.2 y = 0) ∨ (ev_own (mK S.2.2 y) = true ∧ ¬ mK S.2.2 x = 0) then some (match c with | .eq => decide (x = y) | .ne => decide (¬ x = y), S.1, st, S.2.2) else none
    | _ => none
  | .ifnull _ => match S.2.1 with | .ref x :: st => some (decide (x = 0), S.1, st, S.2.2) | _ => none
  | .ifnonnull _ => match S.2.1 with | .ref x :: st => some (decide (¬ x = 0), S.1, st, S.2.2) | _ => none
  | .goto _ => some (true, S)
  | _ => none
/-- a switch: where it goes ([default, targets ..]) -/
def ev_look (x : Int) : List (Int × Int) → List Nat → Nat → Nat
  | p :: ps, t :: ts, d => if x = p.1 then t else ev_look x ps ts d
  | _, _, d => d
def ev_sw (i : Instr) (ar : List Nat) (S : ev_S) : Option (Nat × ev_S) := match i, ar, S.2.1 with
  | .tableswitch _ lo hi _, d :: ts, .int x :: st => some (if x.toInt < lo ∨ hi < x.toInt then d else ts.getD (x.toInt - lo).toNat d, S.1, st, S.2.2)
  | .lookupswitch _ ps, d :: ts, .int x :: st => some (ev_look x.toInt ps.toList ts d, S.1, st, S.2.2)
  | _, _, _ => none
def ev_take : Nat → List Value → List Value → Option (List Value × List Value)
  | 0, acc, st => some (acc, st)
  | n + 1, acc, v :: st => ev_take n (v :: acc) st
  | _ + 1, _, [] => none
/-- the locals at a method's start -/
def ev_lay : List Value → List Value
  | [] => []
  | v :: l => if ev_cat2 v = true then v :: jk :: ev_lay l else v :: ev_lay l
def ev_ent (n : Nat) (vs : List Value) : List Value := ev_lay vs ++ List.replicate (n - (ev_lay vs).length) jk
def ev_ret (r : Value) (st : List Value) : List Value := match r with
  | .retAddr 0 => st
  | v => v :: st
def ev_pair (t : Nat) : List Nat → Option Nat
  | a :: y :: l => if t = a then some y else ev_pair t l
  | _ => none
def ev_isRef : Value → Bool
  | .ref _ => true
  | .retAddr 1 => true
  | _ => false
/-- what is captured, by types -/
def ev_caps (M : ev_M) (a : Nat) : List Nat → Nat → List Value
  | [], _ => []
  | t :: ts, k => ev_fld M t k a :: ev_caps M a ts (k + 1)
def ev_puts (M : ev_M) (a : Nat) : List Nat → Nat → List Value → Option ev_M
  | [], _, [] => some M
  | t :: ts, k, v :: vs => match ev_put M t k a v with | some M' => ev_puts M' a ts (k + 1) vs | none => none
  | _, _, _ => none
/-- which method of a receiver of kind t is meant -/
def ev_who (i : Instr) (ar : List Nat) (t : Nat) : Option Nat := match i, ar with
  | .invokevirtual _, _ :: l => ev_pair t l
  | .invokeinterface _ _, 0 :: _ :: l => ev_pair t l
  | _, _ => none
/-- the program: blocks; locals of a method; what a lambda's site captures, by types; its method -/
abbrev ev_P : Type := (Nat → List (ev_I × List (Nat × Nat))) × (Nat → Nat) × (Nat → List Nat) × (Nat → Nat)
/-- what a lambda is given: ints, floats, doubles -/
def ev_ty : Nat → Value → Bool
  | 0, .int _ => true
  | 2, .float _ => true
  | 3, .double _ => true
  | _, _ => false
/-- a call: the method, its arguments, the stack behind it -/
def ev_call (P : ev_P) (i : Instr) (ar : List Nat) (S : ev_S) : Option (Nat × List Value × List Value) := match i, ar with
  | .invokestatic _, [y, k] => (ev_take k [] S.2.1).map fun q => (y, q.1, q.2)
  | .invokespecial _, [y, k] => match ev_take k [] S.2.1 with
    | some (.ref a :: vs, st) => if a = 0 then none else some (y, .ref a :: vs, st)
    | _ => none
  | .invokespecial _, [y, k, t] => match ev_take k [] S.2.1 with
    | some (.ref a :: vs, st) => if mK S.2.2 a = t then some (y, .ref a :: vs, st) else none
    | _ => none
  | .invokevirtual _, k :: l => match ev_take k [] S.2.1 with
    | some (.ref a :: vs, st) => (ev_pair (mK S.2.2 a) l).map fun y => (y, .ref a :: vs, st)
    | _ => none
  | .invokeinterface _ _, 0 :: k :: l => match ev_take k [] S.2.1 with
    | some (.ref a :: vs, st) => (ev_pair (mK S.2.2 a) l).map fun y => (y, .ref a :: vs, st)
    | _ => none
  | .invokeinterface _ _, 1 :: k :: ct :: l => match ev_take k [] S.2.1 with
    | some (.ref a :: vs, st) => if l.contains (mK S.2.2 a) = true ∧ vs.all (ev_ty ct) = true ∧ (mK S.2.2 a = 130 ∨ mK S.2.2 a = 133 → mK S.2.2 (mA S.2.2 a 0) = 1) then some (P.2.2.2 (mK S.2.2 a), ev_caps S.2.2 a (P.2.2.1 (mK S.2.2 a)) 0 ++ vs, st) else none
    | _ => none
  | _, _ => none
/-- what the machine throws by itself: the exception, the memory behind it -/
def ev_vt (i : Instr) (ar : List Nat) (S : ev_S) : Option (Nat × ev_M) := match i, ar, S.2.1 with
  | .getfield _, 2 :: _, .ref 0 :: _ => some (1, wX S.2.2 1 8)
  | .invokevirtual _, k :: l, st => if l.contains 7777 = true then (match ev_take k [] st with | some (.ref 0 :: _, _) => some (1, wX S.2.2 1 8) | _ => none) else none
  | .checkcast _, n :: ks, .ref a :: _ => if (ks.drop n).contains (mK S.2.2 a) = true then some (2, wX S.2.2 3 310) else none
  | .iaload, [3], .int i :: .ref a :: _ => if mK S.2.2 a = 40 ∧ ev_in i (mN S.2.2 a) = false ∧ mN S.2.2 a ≤ 100000 then some (3, wX S.2.2 3 310) else none
  | .baload, [3], .int i :: .ref a :: _ => if mK S.2.2 a = 44 ∧ ev_in i (mN S.2.2 a) = false ∧ mN S.2.2 a ≤ 100000 then some (3, wX S.2.2 3 310) else none
  | .saload, [3], .int i :: .ref a :: _ => if mK S.2.2 a = 46 ∧ ev_in i (mN S.2.2 a) = false ∧ mN S.2.2 a ≤ 100000 then some (3, wX S.2.2 3 310) else none
  | .faload, [3], .int i :: .ref a :: _ => if mK S.2.2 a = 42 ∧ ev_in i (mN S.2.2 a) = false ∧ mN S.2.2 a ≤ 100000 then some (3, wX S.2.2 3 310) else none
  | .daload, [3], .int i :: .ref a :: _ => if mK S.2.2 a = 43 ∧ ev_in i (mN S.2.2 a) = false ∧ mN S.2.2 a ≤ 100000 then some (3, wX S.2.2 3 310) else none
  | .iastore, [3], .int _ :: .int i :: .ref a :: _ => if mK S.2.2 a = 40 ∧ ev_in i (mN S.2.2 a) = false ∧ mN S.2.2 a ≤ 100000 then some (3, wX S.2.2 3 310) else none
  | .bastore, [3], .int _ :: .int i :: .ref a :: _ => if mK S.2.2 a = 44 ∧ ev_in i (mN S.2.2 a) = false ∧ mN S.2.2 a ≤ 100000 then some (3, wX S.2.2 3 310) else none
  | .sastore, [3], .int _ :: .int i :: .ref a :: _ => if mK S.2.2 a = 46 ∧ ev_in i (mN S.2.2 a) = false ∧ mN S.2.2 a ≤ 100000 then some (3, wX S.2.2 3 310) else none
  | .fastore, [3], .float _ :: .int i :: .ref a :: _ => if mK S.2.2 a = 42 ∧ ev_in i (mN S.2.2 a) = false ∧ mN S.2.2 a ≤ 100000 then some (3, wX S.2.2 3 310) else none
  | .dastore, [3], .double _ :: .int i :: .ref a :: _ => if mK S.2.2 a = 43 ∧ ev_in i (mN S.2.2 a) = false ∧ mN S.2.2 a ≤ 100000 then some (3, wX S.2.2 3 310) else none
  | .newarray _, [_, 3], .int n :: _ => if n.toInt < 0 then some (5, wX S.2.2 3 310) else none
  | .new _, [3, e, k, n], _ => some (e, wX S.2.2 k n)
  | .invokestatic _, [9000, 3], .int n :: .int dp :: .ref b :: .int sp :: .ref a :: _ =>
    if ev_cpk (mK S.2.2 a) = true ∧ ev_cpk (mK S.2.2 b) = true ∧ ¬ mK S.2.2 a = mK S.2.2 b ∧ ¬ mK S.2.2 a = 48 ∧ ¬ mK S.2.2 b = 48 then some (4, wX S.2.2 3 310)
    else if ev_cpk (mK S.2.2 a) = true ∧ mK S.2.2 b = mK S.2.2 a ∧ (n.toInt < 0 ∨ sp.toInt < 0 ∨ dp.toInt < 0 ∨ mN S.2.2 a < sp.toInt + n.toInt ∨ mN S.2.2 b < dp.toInt + n.toInt) ∧ mN S.2.2 a ≤ 100000 ∧ mN S.2.2 b ≤ 100000 ∧ ¬ mK S.2.2 a = 48 then some (3, wX S.2.2 3 410) else none
  | _, _, _ => none
/-- where an exception is caught (77: by a handler of any, of which nothing is said) -/
def ev_hd (hs : List (Nat × Nat)) (e : Nat) : Option (Option Nat) := if (hs.lookup 77).isSome = true then none else some (hs.lookup e)
/-- one step: it goes on; it ends; it calls (the method, its arguments, the stack behind it) -/
abbrev ev_B : Type := List (ev_I × List (Nat × Nat))
abbrev ev_O : Type := Nat × Value × ev_M
abbrev ev_R : Type := (ev_B × ev_S) ⊕ (ev_O ⊕ (Nat × List Value × List Value))
def ev_go (cs : ev_B) (ls st : List Value) (M : ev_M) : Option ev_R := some (.inl (cs, ls, st, M))
def ev_end (o : Nat) (r : Value) (M : ev_M) : Option ev_R := some (.inr (.inl (o, r, M)))
/-- what a method of a narrow type may return -/
def ev_rz (t : Nat) (x : Int32) : Bool := match t with
  | 5 => x == 0 || x == 1
  | 6 => x.toInt8.toInt32 == x
  | 7 => x.toInt16.toInt32 == x
  | _ => true
def ev_rt (i : Instr) (ar : List Nat) (st : List Value) (M : ev_M) : Option ev_R := match i, st with
  | .ireturn, [.int x] => if ev_rz (ar.headD 0) x = true then ev_end 0 (.int x) M else none
  | .lreturn, [.long x] => ev_end 0 (.long x) M
  | .freturn, [.float x] => ev_end 0 (.float x) M
  | .dreturn, [.double x] => ev_end 0 (.double x) M
  | .areturn, [.ref x] => ev_end 0 (.ref x) M
  | .return_, [] => ev_end 0 jk M
  | _, _ => none
def ev_dyn (P : ev_P) (ar : List Nat) (cs : ev_B) (ls st : List Value) (M : ev_M) : Option ev_R := if 1000 < ev_w st then none else match ar with
  | [0, k] => ev_go cs ls (.ref (mS M k) :: st) M
  | [1, t, k] => match ev_take k [] st with
    | some (vs, st') => match ev_puts (wN M t 0 k) (nx M) (P.2.2.1 t) 0 vs with
      | some M' => ev_go cs ls (.ref (nx M) :: st') M'
      | none => none
    | none => none
  | _ => none
def ev_nop (P : ev_P) (ar : List Nat) (cs : ev_B) (ls st : List Value) (M : ev_M) : Option ev_R := match ar with
  | 0 :: t :: [] => ev_go (P.1 t) ls st M
  | 1 :: ks => ev_go cs (ev_kill ks ls) st M
  | _ => none
/-- an exception comes up -/
def ev_xc (P : ev_P) (hs : List (Nat × Nat)) (ls : List Value) (e : Nat) (M : ev_M) : Option ((ev_B × ev_S) ⊕ ev_O) := match ev_hd hs e with
  | some (some t) => some (.inl (P.1 t, ls, [ek], M))
  | some none => some (.inr (e + 1, ek, M))
  | none => none
def ev_up : (ev_B × ev_S) ⊕ ev_O → ev_R
  | .inl a => .inl a
  | .inr b => .inr (.inl b)
def ev_cl (P : ev_P) (i : Instr) (ar : List Nat) (hs : List (Nat × Nat)) (cs : ev_B) (ls st : List Value) (M : ev_M) : Option ev_R :=
  match ev_vt i ar (ls, st, M) with
  | some (e, M') => if 1000 < ev_w st then none else (ev_xc P hs ls e M').map ev_up
  | none =>
  match ev_call P i ar (ls, st, M) with
  | some (y, vs, st') => if 8 < ev_w st' then none else if y = 0 then (match vs with | [.ref _] => ev_go cs ls st' M | _ => none) else if P.2.1 y < (ev_lay vs).length then none else some (.inr (.inr (y, vs, st')))
  | none => none
def ev_isBr : Instr → Bool
  | .ifCond _ _ | .if_icmp _ _ | .if_acmp _ _ | .ifnull _ | .ifnonnull _ | .goto _ => true
  | _ => false
def ev_isSw : Instr → Bool
  | .tableswitch _ _ _ _ | .lookupswitch _ _ => true
  | _ => false
def ev_st (P : ev_P) (i : Instr) (ar : List Nat) (hs : List (Nat × Nat)) (cs : ev_B) (ls st : List Value) (M : ev_M) : Option ev_R :=
  match ev_so (ls, st, M) i ar with
  | some S => some (.inl (cs, S))
  | none =>
  if ev_isBr i = true then
    match ev_br i (ls, st, M), ar with
    | some (b, S), [t] => if b = true then some (.inl (P.1 t, S)) else some (.inl (cs, S))
    | _, _ => none
  else if ev_isSw i = true then
    match ev_sw i ar (ls, st, M) with
    | some (t, S) => some (.inl (P.1 t, S))
    | none => none
  else match i with
  | .nop => ev_nop P ar cs ls st M
  | .ireturn => ev_rt i ar st M
  | .lreturn => ev_rt i ar st M
  | .freturn => ev_rt i ar st M
  | .dreturn => ev_rt i ar st M
  | .areturn => ev_rt i ar st M
  | .return_ => ev_rt i ar st M
  | .invokedynamic _ => ev_dyn P ar cs ls st M
  | _ => ev_cl P i ar hs cs ls st M
/-- behind a call: how it came back -/
def ev_bk (P : ev_P) (hs : List (Nat × Nat)) (cs : ev_B) (ls st : List Value) (o : Nat) (r : Value) (M : ev_M) : Option ((ev_B × ev_S) ⊕ ev_O) := match o with
  | 0 => some (.inl (cs, ls, ev_ret r st, M))
  | e + 1 => ev_xc P hs ls e M
/-- the run: fuel, the block's rest, locals, stack, memory; how it ends: 0 it returns (jk: nothing), e + 1: it throws e -/
def ex (P : ev_P) : Nat → ev_B → List Value → List Value → ev_M → Option ev_O
  | 0, _, _, _, _ => none
  | _ + 1, [], _, _, _ => none
  | n + 1, c :: cs, ls, st, M =>
    match ev_st P c.1.1 c.1.2.2 c.2 cs ls st M with
    | none => none
    | some (.inl q) => ex P n q.1 q.2.1 q.2.2.1 q.2.2.2
    | some (.inr (.inl r)) => some r
    | some (.inr (.inr q)) =>
      match ex P n (P.1 (q.1 * 4096)) (ev_ent (P.2.1 q.1) q.2.1) [] M with
      | none => none
      | some r => match ev_bk P c.2 cs ls q.2.2 r.1 r.2.1 r.2.2 with
        | none => none
        | some (.inl q) => ex P n q.1 q.2.1 q.2.2.1 q.2.2.2
        | some (.inr r) => some r
