/-! SOUNDNESS of stores of references, casts, constants, natives (by gen/misc.py) -/
def nc_prs : List (String × String) := [("java/util/HashMap$Node", "java/util/HashMap$TreeNode"), ("java/util/LinkedHashMap$Entry", "java/util/HashMap$TreeNode"), ("[S", "[I"), ("[S", "[F"), ("[S", "[D"), ("[S", "[Z"), ("[I", "[S"), ("[I", "[F"), ("[I", "[D"), ("[I", "[Z"), ("[F", "[S"), ("[F", "[I"), ("[F", "[D"), ("[F", "[Z"), ("[D", "[S"), ("[D", "[I"), ("[D", "[F"), ("[D", "[Z"), ("[Z", "[S"), ("[Z", "[I"), ("[Z", "[F"), ("[Z", "[D"), ("java/lang/NullPointerException", "java/lang/ClassCastException"), ("java/lang/NullPointerException", "java/lang/ArrayIndexOutOfBoundsException"), ("java/lang/NullPointerException", "java/lang/ArrayStoreException"), ("java/lang/NullPointerException", "java/lang/NegativeArraySizeException"), ("java/lang/NullPointerException", "java/lang/ArithmeticException"), ("java/lang/NullPointerException", "java/lang/IndexOutOfBoundsException"), ("java/lang/ClassCastException", "java/lang/NullPointerException"), ("java/lang/ClassCastException", "java/lang/ArrayIndexOutOfBoundsException"), ("java/lang/ClassCastException", "java/lang/ArrayStoreException"), ("java/lang/ClassCastException", "java/lang/NegativeArraySizeException"), ("java/lang/ClassCastException", "java/lang/ArithmeticException"), ("java/lang/ClassCastException", "java/lang/IndexOutOfBoundsException"), ("java/lang/ArrayIndexOutOfBoundsException", "java/lang/NullPointerException"), ("java/lang/ArrayIndexOutOfBoundsException", "java/lang/ClassCastException"), ("java/lang/ArrayIndexOutOfBoundsException", "java/lang/ArrayStoreException"), ("java/lang/ArrayIndexOutOfBoundsException", "java/lang/NegativeArraySizeException"), ("java/lang/ArrayIndexOutOfBoundsException", "java/lang/ArithmeticException"), ("java/lang/ArrayStoreException", "java/lang/NullPointerException"), ("java/lang/ArrayStoreException", "java/lang/ClassCastException"), ("java/lang/ArrayStoreException", "java/lang/ArrayIndexOutOfBoundsException"), ("java/lang/ArrayStoreException", "java/lang/NegativeArraySizeException"), ("java/lang/ArrayStoreException", "java/lang/ArithmeticException"), ("java/lang/ArrayStoreException", "java/lang/IndexOutOfBoundsException"), ("java/lang/NegativeArraySizeException", "java/lang/NullPointerException"), ("java/lang/NegativeArraySizeException", "java/lang/ClassCastException"), ("java/lang/NegativeArraySizeException", "java/lang/ArrayIndexOutOfBoundsException"), ("java/lang/NegativeArraySizeException", "java/lang/ArrayStoreException"), ("java/lang/NegativeArraySizeException", "java/lang/ArithmeticException"), ("java/lang/NegativeArraySizeException", "java/lang/IndexOutOfBoundsException"), ("java/lang/ArithmeticException", "java/lang/NullPointerException"), ("java/lang/ArithmeticException", "java/lang/ClassCastException"), ("java/lang/ArithmeticException", "java/lang/ArrayIndexOutOfBoundsException"), ("java/lang/ArithmeticException", "java/lang/ArrayStoreException"), ("java/lang/ArithmeticException", "java/lang/NegativeArraySizeException"), ("java/lang/ArithmeticException", "java/lang/IndexOutOfBoundsException")]
def sx_prs : List (String × Nat × String × Nat) := [("StrideTurns", 614, "add", 0), ("StrideTurns$Deed", 58, "add", 0), ("StrideTurns$Deed", 77, "sub", 1), ("StrideTurns$Deed", 82, "mul", 2), ("StrideTurns$Deed", 87, "rem", 3), ("StrideTurns$Deed", 92, "max", 4), ("StrideTurns$Deed", 97, "min", 5), ("StrideTurns$Deed", 102, "and", 6), ("StrideTurns$Deed", 105, "or", 7), ("StrideTurns$Deed", 108, "xor", 8), ("StrideTurns$Deed", 111, "copy", 9), ("StrideTurns$Deed", 116, "pick", 10), ("StrideTurns$Deed", 121, "sure", 11), ("StrideTurns$Deed", 124, "times", 13), ("java/lang/Math", 111, "integer overflow", 12)]
def gi_prs : List (String × String × String × Int32) := [("java/lang/String", "COMPACT_STRINGS", "Z", 1), ("java/util/HashMap$TreeNode", "$assertionsDisabled", "Z", 1)]
def gr_prs : List (String × String × String × Nat) := [("java/util/ArrayList", "EMPTY_ELEMENTDATA", "[Ljava/lang/Object;", 45), ("java/util/ArrayList", "DEFAULTCAPACITY_EMPTY_ELEMENTDATA", "[Ljava/lang/Object;", 47), ("StrideTurns", "ORDER", "[I", 48)]
def mir_no : Nat := 46
def KC (U : State) : Prop := ∀ q ∈ nc_prs, va_Nc q.1 q.2 U
def KX (D : rl_D) (U : State) : Prop := (∀ q ∈ sx_prs, vk_R q.1 q.2.1 q.2.2.1 (D.2.2.2.2 q.2.2.2) U) ∧ va_Mi "[Ljava/lang/Object;" (D.2.2.2.2 mir_no) U
def KG (D : rl_D) (bs : Nat) (H0 : Heap) (U : State) : Prop := (∀ q ∈ gi_prs, va_Z q.1 q.2.1 q.2.2.1 (.int q.2.2.2) (bs ≤ ·) U H0) ∧ ∀ q ∈ gr_prs, va_Z q.1 q.2.1 q.2.2.1 (.ref (D.2.2.2.2 q.2.2.2)) (bs ≤ ·) U H0
/-- interface calls: what the tables say -/
def fc_prs : List (String × MethodName × MethodName) := [("java/util/LinkedHashMap$LinkedValues", ⟨"java/util/Collection", "iterator", "()Ljava/util/Iterator;"⟩, ⟨"java/util/LinkedHashMap$LinkedValues", "iterator", "()Ljava/util/Iterator;"⟩), ("java/util/LinkedHashMap$LinkedValueIterator", ⟨"java/util/Iterator", "hasNext", "()Z"⟩, ⟨"java/util/LinkedHashMap$LinkedHashIterator", "hasNext", "()Z"⟩), ("java/util/LinkedHashMap$LinkedValueIterator", ⟨"java/util/Iterator", "next", "()Ljava/lang/Object;"⟩, ⟨"java/util/LinkedHashMap$LinkedValueIterator", "next", "()Ljava/lang/Object;"⟩)]
theorem fc_ok : ∀ q ∈ fc_prs, q.2.1.cls ≠ "java/lang/invoke/MethodHandle" ∧ q.2.1.cls ≠ "java/lang/invoke/VarHandle" := by decide +kernel
def KF (U : State) : Prop := ∀ q ∈ fc_prs, va_Fw q.1 q.2.1 q.2.2 U
/-- what a throw reads of Throwable's statics -/
def KZ (bs : Nat) (H0 : Heap) (U : State) : Prop := vx_Zq Bundle.tN "UNASSIGNED_STACK" Bundle.steD (bs ≤ ·) U H0 ∧ vx_Zq Bundle.tN "SUPPRESSED_SENTINEL" Bundle.listD (bs ≤ ·) U H0
def KK (D : rl_D) (bs : Nat) (H0 : Heap) (U : State) : Prop := KN D U ∧ KW U ∧ KC U ∧ KX D U ∧ KG D bs H0 U ∧ KF U ∧ (KZ bs H0 U ∧ KL D U)
theorem KK.warm {D : rl_D} {bs : Nat} {H0 : Heap} {s U : State} (hW : s.WarmedH U.vm) (h : KK D bs H0 s) : KK D bs H0 U :=
  ⟨h.1.moved hW.alike, h.2.1.warm hW, fun q hq => (h.2.2.1 q hq).moved hW.alike, ⟨fun q hq => (h.2.2.2.1.1 q hq).warm hW, h.2.2.2.1.2.moved hW.alike⟩, ⟨fun q hq => (h.2.2.2.2.1.1 q hq).moved hW.alike, fun q hq => (h.2.2.2.2.1.2 q hq).moved hW.alike⟩, fun q hq => va_Fw.moved (fc_ok q hq) hW.alike (h.2.2.2.2.2.1 q hq), ⟨⟨h.2.2.2.2.2.2.1.1.moved hW.alike, h.2.2.2.2.2.2.1.2.moved hW.alike⟩, KL.warm hW h.2.2.2.2.2.2.2⟩⟩
/-- the name of a kind's class -/
def knm (q : Nat) : String := if q ≤ 21 then (kz q).1 else "[" ++ (katy q).toString
def kk_ok (q : Nat) : Prop := (1 ≤ q ∧ q ≤ 21) ∨ (q ∈ kA ∧ q < 60)
/-- what a cast asks: the kinds that are of the class, those that aren't -/
def LKc (own : String) (idx : Nat) (ar : List Nat) : Prop := match ar with
  | n :: ks => ∃ nm, Cond.classLink own idx nm ∈ lw_all ∧ (∀ q ∈ ks.take n, kk_ok q ∧ (knm q = nm ∨ Cond.castable (knm q) nm ∈ lw_tbl)) ∧ ∀ q ∈ ks.drop n, kk_ok q ∧ (knm q, nm) ∈ nc_prs
  | _ => True
def LKl (own : String) (idx : Nat) (ar : List Nat) : Prop := match ar with
  | [0, sg, n] => Cond.constant own idx (iI (ev_z sg n)) ∈ lw_all
  | [1, b] => Cond.constantFloat own idx (UInt32.ofNat b) ∈ lw_all
  | [2, k] => k < 60 ∧ ((∃ tx, (own, idx, tx, k) ∈ sx_prs) ∨ (k = mir_no ∧ Cond.classLink own idx "[Ljava/lang/Object;" ∈ lw_all))
  | _ => True
def LKl2 (own : String) (idx : Nat) (ar : List Nat) : Prop := match ar with
  | [0, sg, n] => Cond.constantLong own idx (lI (ev_z sg n)) ∈ lw_all
  | [1, b] => Cond.constantDouble own idx (UInt64.ofNat b) ∈ lw_all
  | _ => True
def LKg (own : String) (idx : Nat) (ar : List Nat) : Prop := match ar with
  | [0, sg, n] => ∃ C f d, Cond.fieldLink own idx C f d ∈ lw_all ∧ (C, f, d, iI (ev_z sg n)) ∈ gi_prs
  | [2, k] => k < 60 ∧ ∃ C f d, Cond.fieldLink own idx C f d ∈ lw_all ∧ (C, f, d, k) ∈ gr_prs
  | [1, _] => False
  | _ => True
def ev_ldcw (S : ev_S) (ar : List Nat) : Option ev_S := match ar with
  | [0, s, n] => ev_push S (.int (iI (ev_z s n)))
  | _ => none
def LKnat (own : String) (idx : Nat) (y : MethodName) : Prop := Cond.methodLink own idx y ∈ lw_all ∧ Cond.native y ∈ lw_all ∧ Cond.static y ∈ lw_all ∧ Cond.initialized y.cls ∈ lw_all
abbrev gc_nm : MethodName := ⟨"java/lang/Object", "getClass", "()Ljava/lang/Class;"⟩
def LKgc (own : String) (idx : Nat) : Prop := Cond.methodLink own idx gc_nm ∈ lw_all ∧ Cond.declares gc_nm ∈ lw_tbl ∧ Cond.selects "[Ljava/lang/Object;" gc_nm gc_nm ∈ lw_all ∧ Cond.instanceMethod gc_nm ∈ lw_all ∧ Cond.native gc_nm ∈ lw_all
def LKt (own : String) (idx : Nat) (ar : List Nat) : Prop := match ar with
  | [9000, 1] => LKnat own idx ⟨"java/lang/Float", "floatToRawIntBits", "(F)I"⟩
  | [9000, 2] => LKnat own idx ⟨"java/lang/Double", "doubleToRawLongBits", "(D)J"⟩
  | [9000, 3] => LKnat own idx arraycopyName
  | [9000, 4, _] => False
  | _ => True
def LKv (own : String) (idx : Nat) (ar : List Nat) : Prop := match ar with
  | [9000, 4, k] => k = mir_no ∧ LKgc own idx
  | [9000, _] => False
  | _ => True
section
variable {p : Program} {l : Launch} {e : Env} {R : Room} {s : State} {m : MethodId} {args : Array Value} {below : List Frame} {meth : Method} {c : Code} {Q : State → Prop}
variable {D : rl_D} {bs : Nat} {H0 : Heap} {nL c0 s0 : Nat} {M0 : ev_M} {φ0 : Nat → Nat} {cd : ByteArray} {pc : Nat} {own : String}
theorem ARw.isA {U : State} {c : ClassId} {n : Nat} {F : Nat → Value} {cell : Cell} {ty : FieldType} (h : ARw c n F cell) (hA : ArrOfT U c ty) : U.isArrayOf cell ty := by
  obtain ⟨-, h2⟩ := hA 0 (fun _ => .null)
  refine ⟨fun k hk => ?_, by rw [h.1]; exact h2⟩
  have h3 := h.2.1
  rw [hk] at h3
  cases h3
/-- the cell of a kind, by its class's name -/
theorem kcell {φ : Nat → Nat} {M : ev_M} {H : Heap} {a : Nat} (hKN : KN D s) (hR : Rel D φ bs H0 M H) (hk : kk_ok (mK M a)) : ∃ cell : Cell, H[φ a]? = some cell ∧ cell.vm.isStatics = false ∧ s.vm.findClass (knm (mK M a)) = some cell.cls := by
  rcases hk with hk | hk
  · obtain ⟨cell, g1, g2, g3, -⟩ := (hR.2.2.1 a).ob hk.1 (by omega)
    refine ⟨cell, g1, g3, ?_⟩
    unfold knm
    rw [if_pos hk.2, g2]
    exact (hKN.1 _ hk.1 hk.2).2.1
  · have hr := kA_rng hk.1
    refine ⟨_, (hR.2.2.1 a).2.2.1 hr.1 hk.2, rfl, ?_⟩
    unfold knm
    rw [if_neg (by omega)]
    have h1 := (hKN.2 _ hk.1).2 hk.2
    generalize katy (mK M a) = ty at h1 ⊢
    cases ty with
    | object C => obtain ⟨-, -, -, -, -, h2⟩ := h1; exact h2
    | _ => exact h1
theorem kref {φ : Nat → Nat} {M : ev_M} {H : Heap} {a : Nat} {y : Value} (hR : Rel D φ bs H0 M H) (hy : VR φ (.ref a) y) (hk : kk_ok (mK M a)) : y = .ref (φ a) := by
  have h1 : y = crf φ a := hy
  rw [h1]
  refine crf_at hR fun q => ?_
  rcases hk with hk | hk
  · omega
  · have := kA_rng hk.1; omega
theorem wt_ccast (hx : p.tables.exec = Jvm.exec) (hb : c.code = cd) (hts : ∀ w ∈ lw_all, w.before args s = true) (hown : s.vm.findClass own = some m.cls) (hKK : KK D bs H0 s) {idx : Nat} {ar : List Nat} (hlk : LKc own idx ar) (hd : decode cd pc = .ok (.checkcast idx, 3))
    {S S' : ev_S} (h : ev_ccast S ar = some S') (k : WT p l e R s m args below meth c Q D bs H0 nL c0 s0 M0 φ0 S' (pc + 3)) : WT p l e R s m args below meth c Q D bs H0 nL c0 s0 M0 φ0 S pc := by
  obtain ⟨ls, st, M⟩ := S
  unfold ev_ccast at h
  split at h
  · rename_i n ks a st heq
    dsimp only at heq
    subst heq
    split at h
    · rename_i hc0
      cases h
      obtain ⟨nm, l1, l2, -⟩ := hlk
      intro φ lsA stA H locs cells slots hE hn hR hL hS hl hc hs
      have hS' := hS
      obtain ⟨y, r, rfl, hy0, -, hS2⟩ := StR_cons hS
      have kk := k φ lsA (y :: r) H locs cells slots hE hn hR hL hS' hl hc hs
      by_cases ha : a = 0
      · have ey : y = .null := by
          have h1 : y = crf φ a := hy0
          rw [h1, crf, if_pos ha]
        subst ey
        exact lv_castN hx hb hd kk
      · have hq : mK M a ∈ ks.take n := by
          rcases hc0 with h1 | h1
          · exact absurd h1 ha
          · exact List.contains_iff_mem.mp h1
        obtain ⟨q1, q2⟩ := l2 _ hq
        have ey := kref hR hy0 q1
        subst ey
        obtain ⟨cell, g1, g2, g3⟩ := kcell hKK.1 hR q1
        have hasg : ∃ cT, s.vm.findClass nm = some cT ∧ s.vm.assignable cell.cls cT = true := by
          rcases q2 with q2 | q2
          · exact ⟨cell.cls, by rw [← q2]; exact g3, va_asg _ _⟩
          · obtain ⟨a1, a2, f1, f2, f3⟩ := Cond.castable_spec (va_Nw.use (A := args) rfl (hKK.2.1 _ q2 rfl))
            cases g3.symm.trans f1
            exact ⟨a2, f2, f3⟩
        obtain ⟨cT, hcT, hasg⟩ := hasg
        intro T hT X
        obtain ⟨vm', X', stp⟩ := X.checkcastYes hx hown (hts _ l1) (by rw [hT]; exact g1) g2 hcT hasg (g := F0 m pc lsA (.ref (φ a) :: r)) rfl rfl (by rw [hb]; exact hd)
        obtain ⟨t, a1, b1⟩ := kk (T.setVm vm') hT X'
        exact ⟨t, stp t a1, b1⟩
    · cases h
  · cases h
theorem wt_inst (hx : p.tables.exec = Jvm.exec) (hb : c.code = cd) (hts : ∀ w ∈ lw_all, w.before args s = true) (hown : s.vm.findClass own = some m.cls) (hKK : KK D bs H0 s) {idx : Nat} {ar : List Nat} (hlk : LKc own idx ar) (hd : decode cd pc = .ok (.instanceof idx, 3))
    {S S' : ev_S} (h : ev_inst S ar = some S') (k : WT p l e R s m args below meth c Q D bs H0 nL c0 s0 M0 φ0 S' (pc + 3)) : WT p l e R s m args below meth c Q D bs H0 nL c0 s0 M0 φ0 S pc := by
  obtain ⟨ls, st, M⟩ := S
  unfold ev_inst at h
  split at h
  · rename_i n ks a st heq
    dsimp only at heq
    subst heq
    obtain ⟨nm, l1, l2, l3⟩ := hlk
    split at h
    · rename_i hc0
      cases h
      intro φ lsA stA H locs cells slots hE hn hR hL hS hl hc hs
      obtain ⟨y, r, rfl, hy0, -, hS2⟩ := StR_cons hS
      have kk := k φ lsA (.int 1 :: r) H locs cells slots hE hn hR hL (StR.mk rfl trivial hS2) hl hc hs
      obtain ⟨q1, q2⟩ := l2 _ (List.contains_iff_mem.mp hc0)
      have ey := kref hR hy0 q1
      subst ey
      obtain ⟨cell, g1, g2, g3⟩ := kcell hKK.1 hR q1
      have hasg : ∃ cT, s.vm.findClass nm = some cT ∧ s.vm.assignable cell.cls cT = true := by
        rcases q2 with q2 | q2
        · exact ⟨cell.cls, by rw [← q2]; exact g3, va_asg _ _⟩
        · obtain ⟨a1, a2, f1, f2, f3⟩ := Cond.castable_spec (va_Nw.use (A := args) rfl (hKK.2.1 _ q2 rfl))
          cases g3.symm.trans f1
          exact ⟨a2, f2, f3⟩
      obtain ⟨cT, hcT, hasg⟩ := hasg
      intro T hT X
      obtain ⟨vm', X', stp⟩ := X.instanceofYes hx hown (hts _ l1) (by rw [hT]; exact g1) g2 hcT hasg (g := F0 m pc lsA (.ref (φ a) :: r)) rfl rfl (by rw [hb]; exact hd)
      obtain ⟨t, a1, b1⟩ := kk (T.setVm vm') hT X'
      exact ⟨t, stp t a1, b1⟩
    · split at h
      · rename_i hc0
        cases h
        intro φ lsA stA H locs cells slots hE hn hR hL hS hl hc hs
        obtain ⟨y, r, rfl, hy0, -, hS2⟩ := StR_cons hS
        have kk := k φ lsA (.int 0 :: r) H locs cells slots hE hn hR hL (StR.mk rfl trivial hS2) hl hc hs
        by_cases ha : a = 0
        · have ey : y = .null := by
            have h1 : y = crf φ a := hy0
            rw [h1, crf, if_pos ha]
          subst ey
          exact lv_instN hx hb hd kk
        · have hq : mK M a ∈ ks.drop n := by
            rcases hc0 with h1 | h1
            · exact absurd h1 ha
            · exact List.contains_iff_mem.mp h1
          obtain ⟨q1, q2⟩ := l3 _ hq
          have ey := kref hR hy0 q1
          subst ey
          exact va_instNo hx hb hown (hts _ l1) (hKK.2.2.1 _ q2) (kcell hKK.1 hR q1) hd kk
      · cases h
  · cases h
/-- a push of a constant's reference -/
theorem cref {φ : Nat → Nat} {M : ev_M} {H : Heap} (hR : Rel D φ bs H0 M H) {k : Nat} (hk : k < 60) : VR φ (.ref (mS M k)) (.ref (D.2.2.2.2 k)) := by
  obtain ⟨h1, h2⟩ := hR.2.2.2.2.2.1 k hk
  show Value.ref _ = crf φ (mS M k)
  unfold crf
  rw [if_neg (by omega), h2]
theorem wt_ldc (hx : p.tables.exec = Jvm.exec) (hb : c.code = cd) (hts : ∀ w ∈ lw_all, w.before args s = true) (hown : s.vm.findClass own = some m.cls) (hKK : KK D bs H0 s) {idx : Nat} {ar : List Nat} (hlk : LKl own idx ar) (hd : decode cd pc = .ok (.ldc idx, 2))
    {S S' : ev_S} (h : ev_ldc S ar = some S') (k : WT p l e R s m args below meth c Q D bs H0 nL c0 s0 M0 φ0 S' (pc + 2)) : WT p l e R s m args below meth c Q D bs H0 nL c0 s0 M0 φ0 S pc := by
  obtain ⟨ls, st, M⟩ := S
  unfold ev_ldc at h
  split at h
  · rename_i sg n
    exact wt_push (v := .int (iI (ev_z sg n))) (vA := .int (iI (ev_z sg n))) (fun _ => rfl) trivial (fun kk => lv_ldc hx hb hown (hts _ hlk) hd kk) h k
  · rename_i b
    exact wt_push (v := .float (UInt32.ofNat b)) (vA := .float (UInt32.ofNat b)) (fun _ => rfl) trivial (fun kk => lv_ldcf hx hb hown (hts _ hlk) hd kk) h k
  · rename_i kn
    cases h
    obtain ⟨hk, hlk⟩ := hlk
    intro φ lsA stA H locs cells slots hE hn hR hL hS hl hc hs
    have kk := k φ lsA (.ref (D.2.2.2.2 kn) :: stA) H locs cells slots hE hn hR hL (StR.mk (cref hR hk) (hR.1.2.2.1 kn) hS) hl hc hs
    rcases hlk with ⟨tx, h1⟩ | ⟨h1, h2⟩
    · exact va_ldcS hx hb hown (hKK.2.2.2.1.1 _ h1) hd kk
    · subst h1
      exact va_ldcM hx hb hown (hts _ h2) hKK.2.2.2.1.2 hd kk
  · cases h
theorem wt_ldcw (hx : p.tables.exec = Jvm.exec) (hb : c.code = cd) (hts : ∀ w ∈ lw_all, w.before args s = true) (hown : s.vm.findClass own = some m.cls) {idx : Nat} {ar : List Nat} (hlk : LKl own idx ar) (hd : decode cd pc = .ok (.ldc_w idx, 3))
    {S S' : ev_S} (h : ev_ldcw S ar = some S') (k : WT p l e R s m args below meth c Q D bs H0 nL c0 s0 M0 φ0 S' (pc + 3)) : WT p l e R s m args below meth c Q D bs H0 nL c0 s0 M0 φ0 S pc := by
  obtain ⟨ls, st, M⟩ := S
  unfold ev_ldcw at h
  split at h
  · rename_i sg n
    exact wt_push (v := .int (iI (ev_z sg n))) (vA := .int (iI (ev_z sg n))) (fun _ => rfl) trivial (fun kk => lv_ldcw hx hb hown (hts _ hlk) hd kk) h k
  · cases h
theorem wt_ldc2 (hx : p.tables.exec = Jvm.exec) (hb : c.code = cd) (hts : ∀ w ∈ lw_all, w.before args s = true) (hown : s.vm.findClass own = some m.cls) {idx : Nat} {ar : List Nat} (hlk : LKl2 own idx ar) (hd : decode cd pc = .ok (.ldc2_w idx, 3))
    {S S' : ev_S} (h : ev_ldc2 S ar = some S') (k : WT p l e R s m args below meth c Q D bs H0 nL c0 s0 M0 φ0 S' (pc + 3)) : WT p l e R s m args below meth c Q D bs H0 nL c0 s0 M0 φ0 S pc := by
  obtain ⟨ls, st, M⟩ := S
  unfold ev_ldc2 at h
  split at h
  · rename_i sg n
    exact wt_push (v := .long (lI (ev_z sg n))) (vA := .long (lI (ev_z sg n))) (fun _ => rfl) trivial (fun kk => lv_ldc2 hx hb hown (hts _ hlk) hd kk) h k
  · rename_i b
    exact wt_push (v := .double (UInt64.ofNat b)) (vA := .double (UInt64.ofNat b)) (fun _ => rfl) trivial (fun kk => lv_ldc2d hx hb hown (hts _ hlk) hd kk) h k
  · cases h
theorem wt_gets (hx : p.tables.exec = Jvm.exec) (hb : c.code = cd) (hts : ∀ w ∈ lw_all, w.before args s = true) (hown : s.vm.findClass own = some m.cls) (hKK : KK D bs H0 s) {idx : Nat} {ar : List Nat} (hlk : LKg own idx ar) (hd : decode cd pc = .ok (.getstatic idx, 3))
    {S S' : ev_S} (h : ev_ldc S ar = some S') (k : WT p l e R s m args below meth c Q D bs H0 nL c0 s0 M0 φ0 S' (pc + 3)) : WT p l e R s m args below meth c Q D bs H0 nL c0 s0 M0 φ0 S pc := by
  obtain ⟨ls, st, M⟩ := S
  unfold ev_ldc at h
  split at h
  · cases h
    obtain ⟨C, f, d, l1, l2⟩ := hlk
    intro φ lsA stA H locs cells slots hE hn hR hL hS hl hc hs
    obtain ⟨cf, kf, fi, ff, a, cell, h1, h2, h3, h4, h5, h6, h7, h8⟩ := hKK.2.2.2.2.1.1 _ l2
    refine W.gets hx hb hown (hts _ l1) h1 h2 h3 h4 (by rw [hR.2.2.2.2.1.2 a (Nat.lt_of_not_le h8)]; exact h5) (fun q => by rw [q] at h6; cases h6) h7 rfl hd ?_
    exact k φ lsA _ H locs cells slots hE hn hR hL (StR.mk rfl trivial hS) hl hc hs
  · exact hlk.elim
  · rename_i kn
    cases h
    obtain ⟨hk, C, f, d, l1, l2⟩ := hlk
    intro φ lsA stA H locs cells slots hE hn hR hL hS hl hc hs
    obtain ⟨cf, kf, fi, ff, a, cell, h1, h2, h3, h4, h5, h6, h7, h8⟩ := hKK.2.2.2.2.1.2 _ l2
    refine W.gets hx hb hown (hts _ l1) h1 h2 h3 h4 (by rw [hR.2.2.2.2.1.2 a (Nat.lt_of_not_le h8)]; exact h5) (fun q => by rw [q] at h6; cases h6) h7 rfl hd ?_
    exact k φ lsA _ H locs cells slots hE hn hR hL (StR.mk (cref hR hk) (hR.1.2.2.1 kn) hS) hl hc hs
  · cases h

theorem may_ok (hKK : KK D bs H0 s) {t kx : Nat} (h : ev_may t kx = true) : (1 ≤ kx ∧ kx ≤ 21) ∧ ∃ C, katy t = .object C ∧ ∀ comp cV, s.vm.findClass C = some comp → s.vm.findClass (kz kx).1 = some cV → s.vm.assignable cV comp = true := by
  have cst : ∀ A B, Cond.castable A B ∈ lw_tbl → ∀ comp cV, s.vm.findClass B = some comp → s.vm.findClass A = some cV → s.vm.assignable cV comp = true := by
    intro A B hw comp cV h1 h2
    obtain ⟨a1, a2, f1, f2, f3⟩ := Cond.castable_spec (va_Nw.use (A := #[]) rfl (hKK.2.1 _ hw rfl))
    cases h2.symm.trans f1
    cases h1.symm.trans f2
    exact f3
  have same : ∀ A, ∀ comp cV, s.vm.findClass A = some comp → s.vm.findClass A = some cV → s.vm.assignable cV comp = true := by
    intro A comp cV h1 h2
    cases h1.symm.trans h2
    exact va_asg _ _
  unfold ev_may at h
  simp only [Bool.or_eq_true, Bool.and_eq_true, beq_iff_eq] at h
  rcases h with (((h | h) | h) | h) | h
  · obtain ⟨rfl, rfl | rfl⟩ := h
    · exact ⟨by decide, "java/lang/Object", rfl, cst "StrideTurns$Statement" _ q3241⟩
    · exact ⟨by decide, "java/lang/Object", rfl, cst "StrideTurns$Told" _ q3238⟩
  · obtain ⟨rfl, rfl | rfl⟩ := h
    · exact ⟨by decide, "java/util/HashMap$Node", rfl, same "java/util/HashMap$Node"⟩
    · exact ⟨by decide, "java/util/HashMap$Node", rfl, cst "java/util/LinkedHashMap$Entry" _ q3252⟩
  · obtain ⟨rfl, rfl⟩ := h
    exact ⟨by decide, "StrideTurns$Row", rfl, same "StrideTurns$Row"⟩
  · obtain ⟨rfl, rfl⟩ := h
    exact ⟨by decide, "StrideTurns$Turn", rfl, same "StrideTurns$Turn"⟩
  · obtain ⟨rfl, rfl⟩ := h
    exact ⟨by decide, "StrideTurns$Reference", rfl, same "StrideTurns$Reference"⟩
theorem isA_rng {t : Nat} (h : ev_isA t = true) : 48 ≤ t ∧ t ≤ 52 := by
  unfold ev_isA at h
  simpa using h
theorem isA_mem {t : Nat} (h : ev_isA t = true) : t ∈ kA := by
  have h1 := isA_rng h
  have : t = 48 ∨ t = 49 ∨ t = 50 ∨ t = 51 ∨ t = 52 := by omega
  rcases this with rfl | rfl | rfl | rfl | rfl <;> decide
theorem isA_obj {t : Nat} (h : ev_isA t = true) : ∃ C, katy t = .object C := by
  have h1 := isA_rng h
  have : t = 48 ∨ t = 49 ∨ t = 50 ∨ t = 51 ∨ t = 52 := by omega
  rcases this with rfl | rfl | rfl | rfl | rfl <;> exact ⟨_, rfl⟩
theorem isA_kat {t : Nat} (h : ev_isA t = true) : kat t = 4 := by
  have h1 := isA_rng h
  have : t = 48 ∨ t = 49 ∨ t = 50 ∨ t = 51 ∨ t = 52 := by omega
  rcases this with rfl | rfl | rfl | rfl | rfl <;> rfl
theorem wt_aast (hx : p.tables.exec = Jvm.exec) (hb : c.code = cd) (hKK : KK D bs H0 s) (hd : decode cd pc = .ok (.aastore, 1)) {S S' : ev_S} (h : ev_aast S = some S') (k : WT p l e R s m args below meth c Q D bs H0 nL c0 s0 M0 φ0 S' (pc + 1)) : WT p l e R s m args below meth c Q D bs H0 nL c0 s0 M0 φ0 S pc := by
  obtain ⟨ls, st, M⟩ := S
  unfold ev_aast at h
  split at h
  · rename_i x i a st heq
    dsimp only at heq
    subst heq
    split at h
    · rename_i hc0
      cases h
      obtain ⟨hk, hi, hx1⟩ := hc0
      have hk : ev_isA (mK M a) = true := hk
      have hm := isA_mem hk
      have hr := isA_rng hk
      have hct := isA_kat hk
      obtain ⟨C, hC⟩ := isA_obj hk
      intro φ lsA stA H locs cells slots hE hn hR hL hS hl hc hs
      have hR : Rel D φ bs H0 M H := hR
      obtain ⟨xA, r, rfl, hx0, hxw, hS0⟩ := StR_cons hS
      obtain ⟨iA, r, rfl, hi0, -, hS1⟩ := StR_cons hS0
      obtain ⟨y, r, rfl, hy0, -, hS2⟩ := StR_cons hS1
      cases hi0
      have ey := kref hR hy0 (Or.inr ⟨hm, by omega⟩)
      subst ey
      have hcell := (hR.2.2.1 a).2.2.1 (by omega) (by omega)
      have hbase := (hR.2.2.2.1 a (by unfold ev_own; have h1 : (decide (40 ≤ mK M a) && decide (mK M a < 60)) = true := by { simp only [Bool.and_eq_true, decide_eq_true_eq]; omega }; rw [h1, Bool.or_true])).1
      have hAr := (hKK.1.2 _ hm).1
      have hin := ev_in_vp hi
      have hlt : i.toNatClampNeg < mN M a := Nat.not_le.mp fun q => hin (Or.inr q)
      have h0 : ¬ i < 0 := fun q => hin (Or.inl q)
      have fin : ∀ H' : Heap, H'[φ a]? = some ((arrV (D.2.2.1 (mK M a)) (mN M a) (fun j => fv φ M (kat (mK M a)) a j)).setSlot i.toNatClampNeg xA) → H'.size = H.size → (∀ q, q ≠ φ a → H'[q]? = H[q]?) → W p l e R s m args below meth c H' (locs ++ [⟨φ a, i.toNatClampNeg⟩]) cells slots Q (F0 m (pc + 1) lsA r) := by
        intro H' e1 e2 e3
        refine k φ lsA r H' _ cells slots hE hn (hR.arr (a := a) (j := ev_ix i) (v := xA) ⟨by omega, by omega⟩ rfl rfl rfl rfl (fun b j => ?_) (fun b hb => ⟨rfl, rfl, rfl, rfl, ?_⟩) (fun j => ?_) e1 e2 e3 (fun h4 => absurd h4 (by omega))) (LocR_ext (M := M) Ext.rf (Nat.le_refl (nx M)) hL) (StR_to (M := M) (wA M a (ev_ix i) x) rfl hS2) ?_ hc hs
        · show (if b = a ∧ j = ev_ix i then x else mA M b j) < nx M
          split
          · exact hxw
          · exact hR.1.2.1 _ _
        · funext j
          show (if b = a ∧ j = ev_ix i then _ else mA M b j) = _
          rw [if_neg (fun q => hb q.1)]
        · rw [hct]
          have hx0 : xA = crf φ x := hx0
          rw [hx0]
          show crf φ (if a = a ∧ j = ev_ix i then x else mA M a j) = if j = ev_ix i then crf φ x else crf φ (mA M a j)
          by_cases hj : j = ev_ix i
          · rw [if_pos ⟨rfl, hj⟩, if_pos hj]
          · rw [if_neg (fun q => hj q.2), if_neg hj]
        · intro z hz
          rcases List.mem_append.mp hz with hz | hz
          · exact hl z hz
          · rw [List.mem_singleton.mp hz]; exact hbase
      by_cases hxz : x = 0
      · have ex : xA = .null := by
          have h1 : xA = crf φ x := hx0
          rw [h1, crf, if_pos hxz]
        subst ex
        exact va_WaastN (C := C) hx hb hcell (by rw [← hC]; exact hAr _ _) (fun q => by cases q) (by rw [arrV_size]; exact hin) rfl rfl hd fin
      · have hmay : ev_may (mK M a) (mK M x) = true := hx1.resolve_left hxz
        obtain ⟨hkx, C', hC', hasg⟩ := may_ok hKK hmay
        cases hC.symm.trans hC'
        have ex := kref hR hx0 (Or.inl hkx)
        subst ex
        obtain ⟨cv, v1, v2, v3, -⟩ := (hR.2.2.1 x).ob hkx.1 (by omega)
        have hRA := (hKK.1.2 _ hm).2 (by omega)
        rw [hC] at hRA
        obtain ⟨kA, comp, k1, k2, k3, -⟩ := hRA
        obtain ⟨kC, hkC, -⟩ := Vm.findClass_spec k3
        have hfx := (hKK.1.1 _ hkx.1 hkx.2).2
        obtain ⟨kV, hkV, -⟩ := Vm.findClass_spec hfx.1
        refine W.aast hx hb hcell (fun q hq => by cases hq) (fun q => by cases q) k1 k2 rfl hkC ⟨h0, by rw [arrV_size]; exact hlt⟩ v1 (fun q hq => by rw [hq] at v3; cases v3) (by rw [v2]; exact hkV) (by rw [v2]; exact hasg _ _ k3 hfx.1) rfl rfl hd fin
    · cases h
  · cases h
end
