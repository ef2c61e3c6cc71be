/-! WHAT THE TABLES MUST SAY of a block -/
/-- a branch's target -/
def LB (y pc : Nat) (i : Instr) (ar : List Nat) : Prop := (∀ off, joff i = some off → (0 ≤ (pc : Int) + off ∧ ((pc : Int) + off).toNat < 4096) ∧ ar = [y * 4096 + ((pc : Int) + off).toNat]) ∧ SWOK y pc i ar ∧ (ev_isSw i = true → ∀ t ∈ ar, t < y * 4096 + 4096)
def LCl (mt : Nat → ev_T) (y z : Nat) : Prop := (1 ≤ z ∧ z < y) ∧ MOK (mt z)
/-- a call's callees; a lambda's site -/
def LCa (mt : Nat → ev_T) (t : ev_T) (y pc : Nat) (i : Instr) (ar : List Nat) : Prop := match i, ar with
  | .invokestatic idx, [z, k] => z = 9000 ∨ (LCl mt y z ∧ (mt z).2.2.2.2 = none ∧ npar (mt z).1.desc = some k ∧ Cond.static (mt z).1 ∈ lw_all ∧ (Cond.methodLink t.1.cls idx (mt z).1 ∈ lw_all ∨ ∃ host, Cond.methodLinkNest t.1.cls idx (mt z).1 host ∈ lw_tbl))
  | .invokespecial idx, [z, k] => (z = 0 ∧ LOI t.1.cls idx) ∨ (LCl mt y z ∧ (mt z).2.2.2.2 = none ∧ (mt z).2.2.2.1 = none ∧ (∃ n, k = n + 1 ∧ npar (mt z).1.desc = some n) ∧ Cond.instanceMethod (mt z).1 ∈ lw_all ∧ (mt z).1.name = "<init>" ∧ (Cond.methodLink t.1.cls idx (mt z).1 ∈ lw_all ∨ ∃ host, Cond.methodLinkNest t.1.cls idx (mt z).1 host ∈ lw_tbl))
  | .invokespecial idx, [z, k, q] => LCl mt y z ∧ (1 ≤ q ∧ q ≤ 21) ∧ (mt z).2.2.2.2 = none ∧ (∃ n, k = n + 1 ∧ npar (mt z).1.desc = some n) ∧ Cond.instanceMethod (mt z).1 ∈ lw_all ∧ (mt z).1.name ≠ "<init>" ∧ Cond.methodLink t.1.cls idx (mt z).1 ∈ lw_all ∧ Cond.sameMethod (mt z).1.cls (mt z).1.cls (mt z).1.name (mt z).1.desc ∈ lw_all ∧ Cond.superclass t.1.cls (mt z).1.cls ∈ lw_all
  | .invokevirtual idx, k :: l => (k = 9000 ∧ 7777 ∉ l ∧ ∀ q z, ev_pair q l = some z → ev_prog.2.1 z < 9000) ∨ ∃ n, k = n + 1 ∧ (∀ q z, ev_pair q l = some z → LCl mt y z ∧ (1 ≤ q ∧ q ≤ 21) ∧ VF t.1.cls idx (kz q).1 n (mt z)) ∧ (7777 ∈ l → LKvN t.1.cls idx n)
  | .invokeinterface idx _, 0 :: k :: l => ∃ n, k = n + 1 ∧ (∀ q z, ev_pair q l = some z → LCl mt y z ∧ (1 ≤ q ∧ q ≤ 21) ∧ IFc t.1.cls idx (kz q).1 n (mt z))
  | .invokeinterface idx _, 1 :: k :: ct :: l => ∃ n, k = n + 1 ∧ ∀ g ∈ l, ∃ q, g = 100 + q ∧ (1 ≤ q ∧ q ≤ 41) ∧ LCl mt y (ev_prog.2.2.2 g) ∧ LLi q (mt (ev_prog.2.2.2 g)) ∧ LLc t.1.cls idx n ct q
  | .invokedynamic idx, [0, k] => ∃ q, LDs t.1 pc idx q ∧ LDc q k
  | .invokedynamic idx, [1, g, k] => ∃ q, g = 100 + q ∧ LDs t.1 pc idx q ∧ LDm q k
  | _, _ => True
/-- throws of the machine's own -/
def LTh (own : String) (cd : ByteArray) (hh : Option (List (Nat × Nat × Nat × Nat))) (pc : Nat) (i : Instr) (ar : List Nat) : Prop := match i, ar with
  | .getfield idx, 2 :: l => LKfN own idx (2 :: l)
  | .checkcast idx, n :: ks => ks.drop n = [] ∨ LKcN own idx (n :: ks)
  | .new idx, [_, e, k, n] => (e = 6 ∧ k = 3 ∧ n = 310) ∧ hh = none ∧ LKar own cd pc idx
  | _, _ => True
/-- instructions of which the tables say nothing more -/
def plainI (i : Instr) : Bool := match i with
  | .getfield _ | .putfield _ | .new _ | .newarray _ | .anewarray _ | .checkcast _ | .instanceof _ | .ldc _ | .ldc_w _ | .ldc2_w _ | .getstatic _ | .invokestatic _ | .invokevirtual _ | .invokespecial _ | .invokeinterface _ _ | .invokedynamic _ => false
  | .ifCond _ _ | .if_icmp _ _ | .if_acmp _ _ | .ifnull _ | .ifnonnull _ | .goto _ | .tableswitch _ _ _ _ | .lookupswitch _ _ => false
  | .ireturn | .lreturn | .freturn | .dreturn | .areturn | .return_ | .nop => false
  | _ => true
/-- what may throw or call -/
def canX (i : Instr) (ar : List Nat) : Bool := match i, ar with
  | .getfield _, 2 :: _ => true
  | .checkcast _, n :: ks => !(ks.drop n).isEmpty
  | .iaload, [3] | .baload, [3] | .saload, [3] | .faload, [3] | .daload, [3] => true
  | .iastore, [3] | .bastore, [3] | .sastore, [3] | .fastore, [3] | .dastore, [3] => true
  | .newarray _, [_, 3] => true
  | .new _, [3, _, _, _] => true
  | .invokestatic _, _ | .invokevirtual _, _ | .invokespecial _, _ | .invokeinterface _ _, _ => true
  | _, _ => false
def IHd (t : ev_T) (y pc : Nat) (i : Instr) (ar : List Nat) (hs : List (Nat × Nat)) : Prop := (t.2.2.2.2 = none ∧ hs = []) ∨ t.2.2.2.2 ≠ none ∧ (canX i ar = true → HOK t.1.cls t.2.2.2.2 y pc hs)
def IOKt (mt : Nat → ev_T) (t : ev_T) (y pc : Nat) (c : ev_I × List (Nat × Nat)) : Prop :=
  decode t.2.1 pc = .ok (c.1.1, c.1.2.1) ∧ (ev_isSw c.1.1 = true ∨ c.1.2.1 = iln c.1.1) ∧ LK t.1.cls (t.1.name = "<init>") c.1.1 c.1.2.2 ∧ LB y pc c.1.1 c.1.2.2 ∧ LCa mt t y pc c.1.1 c.1.2.2 ∧ LTh t.1.cls t.2.1 t.2.2.2.2 pc c.1.1 c.1.2.2 ∧ RTOK c.1.1 c.1.2.2 t.2.2.2.1 ∧ IHd t y pc c.1.1 c.1.2.2 c.2
def IOK (mt : Nat → ev_T) (y pc : Nat) (c : ev_I × List (Nat × Nat)) : Prop := IOKt mt (mt y) y pc c
def BOKt (mt : Nat → ev_T) (t : ev_T) (y : Nat) : Nat → ev_B → Prop
  | _, [] => True
  | pc, c :: cs => (c.1.1 = .nop ∧ ((c.1.2.2 = [0, y * 4096 + pc] ∧ pc < 4096) ∨ (∃ ks, c.1.2.2 = 1 :: ks) ∧ BOKt mt t y pc cs)) ∨ (c.1.1 ≠ .nop ∧ IOKt mt t y pc c ∧ BOKt mt t y (pc + c.1.2.1) cs)
def BOK (mt : Nat → ev_T) (y pc : Nat) (b : ev_B) : Prop := BOKt mt (mt y) y pc b
theorem vt_can {i : Instr} {ar : List Nat} {S : ev_S} {z : Nat × ev_M} (h : ev_vt i ar S = some z) : canX i ar = true := by
  unfold ev_vt at h
  split at h
  all_goals first | rfl | (cases h; done) | skip
  · split at h
    · rename_i hc
      show (!(List.drop _ _).isEmpty) = true
      cases hd : List.drop _ _ with
      | nil => rw [hd] at hc; exact absurd hc (by simp)
      | cons a b => rfl
    · cases h
theorem ca_can {P : ev_P} {i : Instr} {ar : List Nat} {S : ev_S} {z : Nat × List Value × List Value} (h : ev_call P i ar S = some z) : canX i ar = true := by
  unfold ev_call at h
  split at h
  all_goals first | rfl | (cases h; done)
