/-! THE LAMBDAS' SITES: what the start says of them, riding with a state -/
def lm_w : List Cond := [siteWord_1_1, siteWord_1_2, siteWord_1_3, siteWord_1_4, siteWord_1_5, siteWord_1_6, siteWord_1_7, siteWord_1_8, siteWord_1_9, siteWord_1_10, siteWord_1_11, siteWord_1_12, siteWord_1_13, siteWord_1_14, siteWord_1_15, siteWord_1_16, siteWord_1_17, siteWord_1_18, siteWord_1_19, siteWord_1_20, siteWord_1_21, siteWord_1_22, siteWord_1_23, siteWord_1_24, siteWord_1_25, siteWord_1_26, siteWord_1_27, siteWord_1_28, siteWord_1_29, siteWord_1_30, siteWord_1_31, siteWord_1_32, siteWord_1_33, siteWord_1_34, siteWord_1_35, siteWord_1_36, siteWord_1_37, siteWord_1_38, siteWord_1_39, siteWord_1_40, siteWord_1_41]
def lm_cs : List Nat := [14, 15, 16, 17, 18, 19, 20, 21, 22, 23, 24, 25, 26, 27, 28, 29, 30, 31, 32, 33, 34, 35, 36, 37, 38, 39, 40, 41, 42, 99, 43, 44, 99, 99, 99, 99, 99, 99, 99, 99, 99]
def lm_d : MethodName × Nat × Nat × Lambda.Shape := (⟨"", "", ""⟩, 0, 0, default)
def lm_sg : Cond → MethodName × Nat × Nat × Lambda.Shape
  | .lambdaSite x pc i σ => (x, pc, i, σ)
  | _ => lm_d
def lm_g (q : Nat) : MethodName × Nat × Nat × Lambda.Shape := lm_sg (lm_w.getD (q - 1) siteWord_1_1)
def lm_c (q : Nat) : Nat := lm_cs.getD (q - 1) 99
/-- the interfaces' methods -/
def lm_f : List MethodName := [⟨"StrideTurns$Act", "back", "()I"⟩, ⟨"StrideTurns$When", "is", "(I)Z"⟩, ⟨"StrideTurns$Where", "at", "(II)I"⟩, ⟨"StrideTurns$Ints", "on", "(II)I"⟩, ⟨"StrideTurns$Floats", "on", "(FF)F"⟩, ⟨"StrideTurns$Doubles", "on", "(DD)D"⟩, ⟨"StrideTurns$Deal", "worker", "(I)I"⟩]
theorem lm_fn : ∀ x ∈ lm_f, x.cls ≠ "java/lang/invoke/MethodHandle" ∧ x.cls ≠ "java/lang/invoke/VarHandle" := by decide +kernel
def va_Fi (x : MethodName) (U : State) : Prop := (Cond.declares x).before #[] U = true ∧ (Cond.interfaceMethod x.cls x.cls x.name x.desc).before #[] U = true
theorem va_Fi.moved {x : MethodName} (hx : x.cls ≠ "java/lang/invoke/MethodHandle" ∧ x.cls ≠ "java/lang/invoke/VarHandle") {u U : State} (hvm : u.vm.Alike U.vm) (h : va_Fi x u) : va_Fi x U := by
  obtain ⟨h1, h2⟩ := h
  obtain ⟨r, meth, hn, -⟩ := Cond.declares_spec h1
  have tr : ∀ {c : Cond}, c.onTables = true → c.before #[] (u.setVm U.vm) = true → c.before #[] U = true := by
    intro c hc h
    have e := Cond.onTables_vm (A := #[]) (A' := #[]) (U := u) (U' := U) U.vm c hc
    have hU : U.setVm U.vm = U := rfl
    rw [hU] at e
    rw [← e]
    exact h
  exact ⟨tr rfl (by rw [Cond.declares_setVm hvm]; exact h1), tr rfl (by rw [Cond.interfaceMethod_setVm hvm (r := r) hn hx]; exact h2)⟩
/-- a site -/
def KS (D : rl_D) (U : State) (q : Nat) : Prop := ∃ m k cf i0 p0 lk, U.methodNamed? (lm_g q).1 = some m ∧ U.vm.classes[m.cls]? = some k ∧ k.cf = some cf ∧ Lambda.shapeOf? cf (lm_g q).2.2.1 = some (lm_g q).2.2.2 ∧
  (k.callSites.find? fun y => y.1 == m.idx && y.2.1 == (lm_g q).2.1) = some (i0, p0, lk) ∧ Lambda.isMade { classPath := fun _ => none } U.vm m.cls (lm_g q).2.2.2 (D.2.2.2.1 (100 + q)) = true ∧ U.lambdaCallable (lm_g q).2.2.2 (D.2.2.2.1 (100 + q)) = true ∧
  (((lm_g q).2.2.2.captured = [] ∧ lk = .constant (D.2.2.2.2 (lm_c q))) ∨ ((lm_g q).2.2.2.captured ≠ [] ∧ lk = .makes (D.2.2.2.1 (100 + q))))
theorem KS.warm {D : rl_D} {s U : State} {q : Nat} (hW : s.WarmedH U.vm) (h : KS D s q) : KS D U q := by
  obtain ⟨m, k, cf, i0, p0, lk, hm, hk, hcf, hsh, hfind, hmade, hcall, hl⟩ := h
  obtain ⟨k', hk', he⟩ := hW.alike.2.2 _ _ hk
  have hm' : U.methodNamed? (lm_g q).1 = some m := by
    have := State.methodNamed?_setVm (s := s) hW.alike (lm_g q).1
    rw [hm] at this
    exact this
  have hcall' : U.lambdaCallable (lm_g q).2.2.2 (D.2.2.2.1 (100 + q)) = true := by
    have hA := hW.alike
    simp only [State.lambdaCallable, hA.findClass, hA.assignable, hA.superclasses, hA.declaredIn] at hcall ⊢
    exact hcall
  exact ⟨m, k', cf, i0, p0, lk, hm', hk', by rw [he]; exact hcf, hsh, by rw [he]; exact hfind, Lambda.isMade_warmer hW hmade, hcall', hl⟩
def KL (D : rl_D) (U : State) : Prop := (∀ x ∈ lm_f, va_Fi x U) ∧ ∀ q, 1 ≤ q → q ≤ 41 → KS D U q
theorem KL.warm {D : rl_D} {s U : State} (hW : s.WarmedH U.vm) (h : KL D s) : KL D U := ⟨fun x hx => (h.1 x hx).moved (lm_fn x hx) hW.alike, fun q h1 h2 => (h.2 q h1 h2).warm hW⟩
theorem KL.same {D : rl_D} {u U : State} (hv : u.vm = U.vm) (h : KL D u) : KL D U := KL.warm (s := u) (by rw [← hv]; exact State.WarmedH.refl u) h
