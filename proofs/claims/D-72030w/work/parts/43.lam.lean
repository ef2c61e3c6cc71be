/-! A METHOD'S ENTRY; the lambdas: what their classes hold, their method's run, calls of them -/
theorem lay_sl {φ : Nat → Nat} {M : ev_M} : ∀ {vs As : List Value}, StR φ M vs As → (lg_sl As).length = (ev_lay vs).length
  | [], [], _ => rfl
  | v :: vs, a :: As, hs => by
    have h1 := lay_sl hs.2
    cases hc : ev_cat2 v with
    | true =>
      have h2 := VR_c2 hs.1.1 hc
      have e1 : ev_lay (v :: vs) = v :: jk :: ev_lay vs := by simp [ev_lay, hc]
      have e2 : lg_sl (a :: As) = .val a :: .second :: lg_sl As := by simp [lg_sl, h2]
      rw [e1, e2, List.length_cons, List.length_cons, List.length_cons, List.length_cons, h1]
    | false =>
      have h2 := VR_c1 hs.1.1 hc
      have e1 : ev_lay (v :: vs) = v :: ev_lay vs := by simp [ev_lay, hc]
      have e2 : lg_sl (a :: As) = .val a :: lg_sl As := by simp [lg_sl, h2]
      rw [e1, e2, List.length_cons, List.length_cons, h1]
  | [], _ :: _, hs => hs.elim
  | _ :: _, [], hs => hs.elim
theorem lay_at {φ : Nat → Nat} {M : ev_M} : ∀ {vs As : List Value} (i0 : Nat), StR φ M vs As → ∀ i v, (ev_lay vs)[i]? = some v → v ≠ jk → wfv M v ∧ ∃ vA, VR φ v vA ∧ (i0 + i, vA) ∈ lv_args i0 As
  | [], [], _, _, i, v, h, _ => by simp [ev_lay] at h
  | v :: vs, a :: As, i0, hs, i, w, h, hj => by
    cases hc : ev_cat2 v with
    | true =>
      have h2 := VR_c2 hs.1.1 hc
      have e1 : ev_lay (v :: vs) = v :: jk :: ev_lay vs := by simp [ev_lay, hc]
      have e2 : lv_args i0 (a :: As) = (i0, a) :: lv_args (i0 + 2) As := by simp [lv_args, h2]
      rw [e1] at h
      rw [e2]
      match i, h with
      | 0, h => cases h; exact ⟨hs.1.2, a, hs.1.1, List.mem_cons_self⟩
      | 1, h => cases h; exact absurd rfl hj
      | i + 2, h =>
        obtain ⟨g1, vA, g2, g3⟩ := lay_at (i0 + 2) hs.2 i w (by simpa using h) hj
        exact ⟨g1, vA, g2, List.mem_cons_of_mem _ (by rw [show i0 + (i + 2) = i0 + 2 + i by omega]; exact g3)⟩
    | false =>
      have h2 := VR_c1 hs.1.1 hc
      have e1 : ev_lay (v :: vs) = v :: ev_lay vs := by simp [ev_lay, hc]
      have e2 : lv_args i0 (a :: As) = (i0, a) :: lv_args (i0 + 1) As := by simp [lv_args, h2]
      rw [e1] at h
      rw [e2]
      match i, h with
      | 0, h => cases h; exact ⟨hs.1.2, a, hs.1.1, List.mem_cons_self⟩
      | i + 1, h =>
        obtain ⟨g1, vA, g2, g3⟩ := lay_at (i0 + 1) hs.2 i w (by simpa using h) hj
        exact ⟨g1, vA, g2, List.mem_cons_of_mem _ (by rw [show i0 + (i + 1) = i0 + 1 + i by omega]; exact g3)⟩
  | [], _ :: _, _, hs, _, _, _, _ => hs.elim
  | _ :: _, [], _, hs, _, _, _, _ => hs.elim
theorem ent_loc {φ : Nat → Nat} {M : ev_M} {vs As : List Value} {nL : Nat} (hS : StR φ M vs As) (h : (ev_lay vs).length ≤ nL) : LocR φ M (ev_ent nL vs) ((lg_sl As ++ List.replicate (nL - (lg_sl As).length) Slot.unset).toArray) nL := by
  have hl := lay_sl hS
  refine ⟨by simp [ev_ent]; omega, lv_args 0 As, lv_entry As (by omega), fun i v hi hj => ?_⟩
  unfold ev_ent at hi
  rw [List.getElem?_append] at hi
  split at hi
  · have := lay_at 0 hS i v hi hj
    simpa using this
  · rw [List.getElem?_replicate] at hi
    split at hi
    · cases hi; exact absurd rfl hj
    · cases hi
/-! what a shape's file holds -/
def lm_ld (t : FieldType) (n : Fin 4) : Instr := match t with
  | .float => .fload_n n
  | .double => .dload_n n
  | _ => .iload_n n
def lm_rt (t : Option FieldType) : Instr := match t with
  | some .float => .freturn
  | some .double => .dreturn
  | _ => .ireturn
def lm_loads (code : ByteArray) : Nat → List (FieldType × Nat) → Option Nat
  | pc, [] => some pc
  | pc, (t, n) :: r => if h : n < 4 then (if decode code pc = .ok (lm_ld t ⟨n, h⟩, 1) then lm_loads code (pc + 1) r else none) else none
/-- the field of the j-th captured value: its entry -/
def lm_fi (cp : ConstantPool) (flds : Array Field) (j i : Nat) : Bool := match cp[i]? with
  | some (.fieldref _ nt) => (match cp.nameAndType? nt with
    | some (nm, _) => decide (flds.findIdx? (·.name == nm) = some j)
    | none => false)
  | _ => false
def lm_cap (cp : ConstantPool) (flds : Array Field) (code : ByteArray) (j : Nat) : Bool := decide (decode code (4 * j) = .ok (.aload_n 0, 1)) && ((match decode code (4 * j + 1) with
  | .ok (.getfield i, 3) => lm_fi cp flds j i
  | _ => false) && (match flds[j]? with
    | some f => !f.isStatic && decide (f.slot = j)
    | none => false))
def lm_ref (cp : ConstantPool) (this : Nat) (σ : Lambda.Shape) (i : Nat) : Bool := match cp[i]? with
  | some (.methodref ci nt) => decide (cp.className? ci = some σ.implClass) && (decide (cp.nameAndType? nt = some (σ.implName, σ.implDesc.toString)) && (match cp[ci]? with
    | some (.class_ n) => decide (cp.string? n = some σ.implClass) && decide (ci ≠ this)
    | _ => false))
  | _ => false
def lm_inv (cp : ConstantPool) (this : Nat) (σ : Lambda.Shape) (code : ByteArray) (pc : Nat) : Bool := match decode code pc with
  | .ok (.invokestatic i, 3) => decide (σ.kind = 6) && lm_ref cp this σ i
  | .ok (.invokevirtual i, 3) => decide (σ.kind = 5) && lm_ref cp this σ i
  | _ => false
def lm_ts : List FieldType := [.int, .float, .double]
def lm_chk (caller : String) (σ : Lambda.Shape) : Bool := match σ.file caller with
  | none => false
  | some F => match layoutFields F 0, layoutMethods F with
    | some lay, some ms => match ms[1]? with
      | some mth => match mth.code with
        | some x => decide (mth.accessFlags = 1) && (decide (mth.sig.returnType = σ.sam.returnType) && (decide (mth.sig.parameters = σ.sam.parameters) && (decide (x.maxLocals ≤ 20) && (decide (1 + (σ.sam.parameters.map FieldType.units).sum ≤ x.maxLocals) && (decide (lay.2.1 = σ.captured.toArray) && ((List.range σ.captured.length).all (lm_cap F.constantPool lay.1 x.code) && (σ.sam.parameters.all (fun t => decide (t ∈ lm_ts)) && (decide (σ.sam.returnType = some .int ∨ σ.sam.returnType = some .boolean ∨ σ.sam.returnType = some .float ∨ σ.sam.returnType = some .double) && (plainName (caller ++ "$$Lambda") && (match lm_loads x.code (4 * σ.captured.length) (Lambda.places 1 σ.sam.parameters) with
          | some pc => lm_inv F.constantPool F.thisClass σ x.code pc && decide (decode x.code (pc + 3) = .ok (lm_rt σ.sam.returnType, 1))
          | none => false))))))))))
        | none => false
      | none => false
    | _, _ => false
theorem lm_all : (List.range 41).all (fun q => lm_chk (lm_g (q + 1)).1.cls (lm_g (q + 1)).2.2.2) = true := by decide +kernel
theorem lm_chk_spec {caller : String} {σ : Lambda.Shape} (h : lm_chk caller σ = true) : ∃ F lay ms mth x pc, σ.file caller = some F ∧ layoutFields F 0 = some lay ∧ layoutMethods F = some ms ∧ ms[1]? = some mth ∧ mth.code = some x ∧ mth.accessFlags = 1 ∧ mth.sig.returnType = σ.sam.returnType ∧ mth.sig.parameters = σ.sam.parameters ∧ x.maxLocals ≤ 20 ∧
    1 + (σ.sam.parameters.map FieldType.units).sum ≤ x.maxLocals ∧ lay.2.1 = σ.captured.toArray ∧ (∀ j, j < σ.captured.length → lm_cap F.constantPool lay.1 x.code j = true) ∧ (∀ t ∈ σ.sam.parameters, t ∈ lm_ts) ∧ (σ.sam.returnType = some .int ∨ σ.sam.returnType = some .boolean ∨ σ.sam.returnType = some .float ∨ σ.sam.returnType = some .double) ∧ plainName (caller ++ "$$Lambda") = true ∧
    lm_loads x.code (4 * σ.captured.length) (Lambda.places 1 σ.sam.parameters) = some pc ∧ lm_inv F.constantPool F.thisClass σ x.code pc = true ∧ decode x.code (pc + 3) = .ok (lm_rt σ.sam.returnType, 1) := by
  unfold lm_chk at h
  split at h
  · cases h
  · rename_i F hF
    split at h
    · rename_i lay ms hlay hms
      split at h
      · rename_i mth hmth
        split at h
        · rename_i x hx
          simp only [Bool.and_eq_true, decide_eq_true_eq, List.all_eq_true, List.mem_range] at h
          obtain ⟨h1, h2, h3, h4, h5, h6, h7, h8, h9, h10, h11⟩ := h
          split at h11
          · rename_i pc hpc
            simp only [Bool.and_eq_true, decide_eq_true_eq] at h11
            exact ⟨F, lay, ms, mth, x, pc, hF, hlay, hms, hmth, hx, h1, h2, h3, h4, h5, h6, h7, h8, h9, h10, hpc, h11.1, h11.2⟩
          · cases h11
        · cases h
      · cases h
    · cases h
theorem lm_ok {q : Nat} (h1 : 1 ≤ q) (h2 : q ≤ 41) : lm_chk (lm_g q).1.cls (lm_g q).2.2.2 = true := by
  have h := List.all_eq_true.mp lm_all (q - 1) (List.mem_range.mpr (by omega))
  rw [show q - 1 + 1 = q by omega] at h
  exact h
/-- what the start says of Object's fields -/
def obW : Cond := .instantiable "java/lang/Object" 0
/-- a site's file -/
def LMF (q : Nat) (F : ClassFile) (lay : Array Field × Array FieldType × Array FieldType) (ms : Array Method) (mth : Method) (x : Code) : Prop :=
  (lm_g q).2.2.2.file (lm_g q).1.cls = some F ∧ layoutFields F 0 = some lay ∧ layoutMethods F = some ms ∧ ms[1]? = some mth ∧ mth.code = some x
/-- the class that a site has made, in a state: its method, its fields, what its method's entries are resolved to -/
theorem ks_made {D : rl_D} {U : State} {q : Nat} {args : Array Value} (hKS : KS D U q) (hob : obW.before args U = true) {F : ClassFile} {lay : Array Field × Array FieldType × Array FieldType} {ms : Array Method} {mth : Method} {x : Code} (hLM : LMF q F lay ms mth x) :
    ∃ (kK tk : Class) (methK : Method) (ck : Code) (t : ClassId) (target : MethodId),
      (U.vm.classes[D.2.2.2.1 (100 + q)]? = some kK ∧ kK.name = (lm_g q).1.cls ++ "$$Lambda" ∧ kK.instanceTypes = lay.2.1 ∧ U.vm.method? ⟨D.2.2.2.1 (100 + q), 1⟩ = some methK ∧ kK.kind = .ordinary) ∧ (methK.code = some ck ∧ ck.code = x.code ∧ ck.maxLocals = x.maxLocals ∧ ck.exceptionTable = #[] ∧ methK.accessFlags = mth.accessFlags ∧ methK.sig = mth.sig) ∧
      (∀ j i, lm_fi F.constantPool lay.1 j i = true → ∀ f, lay.1[j]? = some f → U.vm.fieldReady (D.2.2.2.1 (100 + q)) i (D.2.2.2.1 (100 + q)) f) ∧
      (U.vm.findClass (lm_g q).2.2.2.implClass = some t ∧ U.vm.classes[t]? = some tk ∧ tk.isInterface = (lm_g q).2.2.2.implItf ∧ ((methodIn t (lm_g q).2.2.2.implName (lm_g q).2.2.2.implDesc.toString tk.isInterface none).ask { classPath := fun _ => none } U.vm).1 = .ok target) ∧
      (∀ i, lm_ref F.constantPool F.thisClass (lm_g q).2.2.2 i = true → U.vm.methodReady (D.2.2.2.1 (100 + q)) i target ∧ ∃ file ci nt, kK.cf = some file ∧ file.constantPool[i]? = some (.methodref ci nt) ∧ file.constantPool.nameAndType? nt = some ((lm_g q).2.2.2.implName, (lm_g q).2.2.2.implDesc.toString) ∧ U.vm.classReady (D.2.2.2.1 (100 + q)) ci t) ∧
      (∃ iface found, U.vm.findClass (lm_g q).2.2.2.iface = some iface ∧ ((methodIn iface (lm_g q).2.2.2.name (lm_g q).2.2.2.sam.toString true none).ask { classPath := fun _ => none } U.vm).1 = .ok found ∧ selectMethod {} U.vm (D.2.2.2.1 (100 + q)) found = .method ⟨D.2.2.2.1 (100 + q), 1⟩) := by
  obtain ⟨hF, hlay, hms, hmth, hxc⟩ := hLM
  obtain ⟨m, k, cf, i0, p0, lk, hm, hk, -, -, -, hmade, -, -⟩ := hKS
  obtain ⟨dk, kK, ok, tk, file, F', object, iface, t, lay', ms', target, found, d1, d2, d3, d4, d5, d6, d7, d8, d9, d10, d11, d12, d13, d14, d15, d16, d17, d18, d19, d20, d21, d22, d23, d24⟩ := Lambda.isMade_spec hmade
  cases hk.symm.trans d1
  obtain ⟨kn, hkn, hname⟩ := className_of_methodNamed hm
  cases hk.symm.trans hkn
  rw [hname] at d4 d14
  cases hF.symm.trans d4
  obtain ⟨co, ko, hco, hko, -, -, -, ho0⟩ := Cond.instantiable_spec hob
  cases hco.symm.trans d5
  cases hko.symm.trans d7
  rw [ho0] at d8
  cases hlay.symm.trans d8
  cases hms.symm.trans d9
  obtain ⟨methK, e1, e2⟩ := d20 1 mth hmth
  obtain ⟨s1, s2, s3, s4, x', y, s5, s6, s7, s8, s9, s10⟩ := Lambda.sameMethod_spec e2
  cases hxc.symm.trans s5
  have hmeth : U.vm.method? ⟨D.2.2.2.1 (100 + q), 1⟩ = some methK := by simp [Vm.method?, d2, e1]
  have hOi : ok.instanceTypes = #[] := Array.eq_empty_of_size_eq_zero ho0
  refine ⟨kK, tk, methK, y, t, target, ⟨d2, d14.1, by rw [d22.1, hOi]; simp, hmeth, d14.2.1⟩, ⟨s6, s9, s8, s10, s4, s3⟩, fun j i hji f hf => ?_, ⟨d10, d11, d18, d12⟩, fun i hi => ?_, iface, found, d6, d13, d24⟩
  · unfold lm_fi at hji
    split at hji
    · rename_i ci nt hci
      split at hji
      · rename_i nm ds hnt
        have hfi := of_decide_eq_true hji
        exact ⟨kK, j, kK, d2, d23 i _ (Lambda.resolvedOf_field hci hnt hfi), d2, d21 j f hf⟩
      · cases hji
    · cases hji
  · unfold lm_ref at hi
    split at hi
    · rename_i ci nt hci
      simp only [Bool.and_eq_true, decide_eq_true_eq] at hi
      obtain ⟨r1, r2, r3⟩ := hi
      split at r3
      · rename_i n hn
        simp only [Bool.and_eq_true, decide_eq_true_eq] at r3
        refine ⟨⟨kK, d2, d23 i _ (Lambda.resolvedOf_method hci r1 d10 d11 r2 d12)⟩, file, ci, nt, d3, by rw [d19.2.1]; exact hci, by rw [d19.2.1]; exact r2, ⟨kK, d2, d23 ci _ (Lambda.resolvedOf_class hn r3.2 r3.1 d10)⟩⟩
      · cases r3
    · cases hi
/-! a method without a name is entered and left (follows vx_back) -/
section
variable {p : Program} {l : Launch} {e : Env} {R : Room} {s : State} {m : MethodId} {args : Array Value} {below : List Frame} {meth : Method} {c : Code} {T : State} {locs : List Loc} {cells slots : Nat}
theorem lm_back (X : Stand p l e R s m args below meth c T locs cells slots) {g : JFrame} (hg : g.method = m) (hsize : g.locals.size = c.maxLocals) {ig : Instr} {len : Nat} (hdg : decode c.code g.pc = .ok (ig, len))
    {mk : MethodId} {methk : Method} {ck : Code} (a : Array Value) {R' : Room} (hmk : T.vm.method? mk = some methk) (hck : methk.code = some ck) (hlk : methk.locks = false) (hpk : T.plainMethod mk)
    (hframes : R'.frames + 1 ≤ R.frames) (hlocals : 2 * g.monitorRoom + (g.stack.map fun v => v.category).sum + (ck.maxLocals + 11) + R'.locals ≤ R.locals) (hcells : cells + R'.cells ≤ R.cells) (hslots : slots + R'.slots ≤ R.slots)
    {Qc : Array Value → State → Outcome → State → Prop} {XC : String → State → State → Prop} {mc ms : Nat} {free : Addr → Prop}
    (body : W p l e R' (T.calling g mk a) mk a (.java g :: below) methk ck T.heap [] 0 0 (vx_MQ (.java g :: below) Qc XC a (T.calling g mk a) mc ms free) (entryFrame mk a ck.maxLocals)) :
    (∃ (v : Option Value) (B : Pt), Stand p l e R s m args below meth c B.U B.locs B.cells B.slots ∧ PostOf Qc mc ms free ⟨T, locs, cells, slots⟩ a v B ∧ ∀ acts, Steps p.tables e below (doInvoke e (T.setTop g) acts mk a).1 (B.U.setTop { g with pc := g.pc + len, stack := v.toList ++ g.stack })) ∨
    (∃ (q : Addr) (B : Pt), Stand p l e R s m args below meth c B.U B.locs B.cells B.slots ∧ vx_Post XC mc ms free ⟨T, locs, cells, slots⟩ a q B ∧ ∀ acts, Steps p.tables e below (doInvoke e (T.setTop g) acts mk a).1 ((B.U.setTop g).pushFrame (.throwing q))) := by
  obtain ⟨Y₀, hin⟩ := X.into hg hsize hdg a (R' := R') hmk hck hlk hpk hframes hlocals hcells hslots
  obtain ⟨s₂, a1, o, hrun, hend, hq'⟩ := body ((T.setTop g).pushFrame (.java (entryFrame mk a ck.maxLocals))) rfl Y₀
  have hsteps : ∀ acts, Steps p.tables e below (doInvoke e (T.setTop g) acts mk a).1 s₂ := fun acts => by
    rw [hin acts]
    exact Steps.weaken (mid := [.java g]) a1
  have htop := X.here.top
  obtain ⟨g₀, hr⟩ := X.frames_eq
  rcases hq' with ⟨hqc, L, hfe, hL⟩ | ⟨q, rfl, E, ce, L, hx, hce, hcv, hcl, hW₂, hsm, hL⟩
  · obtain ⟨⟨v, rfl⟩, hW₂, hsm⟩ := hfe
    obtain ⟨T', X', hW', -, ht⟩ := X.outOf hg hdg hend hW₂ hsm
    refine Or.inl ⟨v, ⟨T', locs ++ L, cells + mc, slots + ms⟩, X', ⟨g, mk, s₂, L, ?_, ?_, hqc, rfl, hL, rfl, rfl⟩, fun acts => ?_⟩
    · rw [ht]; rfl
    · rw [ht]; rfl
    · show Steps p.tables e below _ (T'.setTop { g with pc := g.pc + len, stack := v.toList ++ g.stack })
      rw [← ht]
      exact hsteps acts
  · obtain ⟨e2, q2, q3, q4, q5, q6⟩ := id hsm
    have e3 : s₂ = ({ (T.calling g mk a).setFrames s₂.frames with heap := s₂.heap, slotsUsed := s₂.slotsUsed } : State).setVm s₂.vm := by
      have : s₂ = ({ s₂ with vm := (T.calling g mk a).vm } : State).setVm s₂.vm := rfl
      rw [e2] at this
      exact this
    have hf₂ : s₂.frames = .throwing q :: .java g :: below := hend
    have hW' : T.WarmedH s₂.vm := hW₂
    have hr' : (({ T with heap := s₂.heap, slotsUsed := s₂.slotsUsed } : State).setVm s₂.vm).frames = .java g₀ :: below := hr
    have hs₂ : s₂ = ((({ T with heap := s₂.heap, slotsUsed := s₂.slotsUsed } : State).setVm s₂.vm).setTop g).pushFrame (.throwing q) := by
      refine e3.trans ?_
      rw [hf₂, State.calling_eq htop, State.setFrames_setFrames, State.pushFrame, State.frames_setTop _ hr', State.setTop_of_frames _ hr', State.setFrames_setFrames]
      rfl
    have hsame : T.sameButNew ({ T with heap := s₂.heap, slotsUsed := s₂.slotsUsed } : State) L mc ms := by
      refine ⟨?_, q2, q3, q4, q5, q6⟩
      obtain ⟨t, ht, -⟩ := State.frames_cons hr
      show ({ T with heap := s₂.heap, slotsUsed := s₂.slotsUsed } : State) = { T.setFrames T.frames with heap := s₂.heap, slotsUsed := s₂.slotsUsed }
      rw [State.setFrames_self ht]
    subst hg
    refine Or.inr ⟨q, ⟨(({ T with heap := s₂.heap, slotsUsed := s₂.slotsUsed } : State).setVm s₂.vm), locs ++ L, cells + mc, slots + ms⟩,
      ⟨X.admits, X.cas, X.clock, X.frames, X.room, X.hears, X.method, X.code, (X.here.setHeapUsed s₂.heap s₂.slotsUsed).setVm hW'.alike, X.tail, State.WarmedH.trans X.warmed hW', X.limits, X.bytes, X.same.trans (hsame.setVm s.vm)⟩,
      ⟨g, mk, s₂, L, E, ce, rfl, rfl, hx, hce, hcv, hcl, rfl, hL, rfl, rfl⟩, fun acts => ?_⟩
    show Steps p.tables e below _ (((({ T with heap := s₂.heap, slotsUsed := s₂.slotsUsed } : State).setVm s₂.vm).setTop g).pushFrame (.throwing q))
    rw [← hs₂]
    exact hsteps acts
/-- a call of a lambda's object, by its interface -/
theorem lm_run5 {H : Heap} {cc : ByteArray} {pc nL n index count mc ms : Nat} {own : String} {x : MethodName} {b : Addr} {As rest : List Value} {lsA : Array Slot} {Qc : Array Value → State → Outcome → State → Prop} {XC : String → State → State → Prop} {free : Addr → Prop} {mk : MethodId} {methk : Method} {ck : Code} {cellB : Cell} {kB : Class} {R' : Room}
    (hx : p.tables.exec = Jvm.exec) (hb : c.code = cc) (hml : c.maxLocals = nL) (hown : s.vm.findClass own = some m.cls) (hlink : (Cond.methodLink own index x).before args s = true) (hfi : va_Fi x s) (hxx : x.cls ≠ "java/lang/invoke/MethodHandle" ∧ x.cls ≠ "java/lang/invoke/VarHandle")
    (hcell : H[b]? = some cellB) (hobj : cellB.vm.isStatics = false) (hkB : s.vm.classes[cellB.cls]? = some kB) (hmk : s.vm.method? mk = some methk) (hck : methk.code = some ck) (hlk : methk.locks = false) (hpk : s.plainMethod mk) (hflg : methk.accessFlags = 1)
    (hasg : ∀ i, s.vm.findClass x.cls = some i → s.vm.assignable cellB.cls i = true) (hsel : ∀ r0, s.methodNamed? x = some r0 → selectMethod {} s.vm cellB.cls r0 = .method mk)
    (hway : ((cellB.cls :: s.vm.superclasses cellB.cls).any fun k => (declaredIn s.vm x.name x.desc k).any fun (_, z) => z.isPrivate || z.isStatic) = false)
    (hnp : npar x.desc = some n) (hn : As.length = n) (hsize : lsA.size = nL) (hW : (rest.map fun v => v.category).sum ≤ 8) (hdg : decode cc pc = .ok (.invokeinterface index count, 5))
    (hframes : R'.frames + 1 ≤ R.frames) (hlocals : 8 + (ck.maxLocals + 11) + R'.locals ≤ R.locals) (hcells : cells + R'.cells ≤ R.cells) (hslots : slots + R'.slots ≤ R.slots)
    (body : ∀ (U : State) (below' : List Frame), U.heap = H → s.WarmedH U.vm → W p l e R' U mk (Value.ref b :: As).toArray below' methk ck H [] 0 0 (vx_MQ below' Qc XC (Value.ref b :: As).toArray U mc ms free) (entryFrame mk (Value.ref b :: As).toArray ck.maxLocals)) :
    vx_Run5 p l e R s m args below meth c H locs cells slots mc ms (F0 m pc lsA (As.reverse ++ .ref b :: rest)) rest (Qc (Value.ref b :: As).toArray) XC free := by
  obtain ⟨r0, r, hnR, hrm, hstR, hsigR⟩ := Cond.declares_spec hfi.1
  obtain ⟨cL, kL, r1, hcL, hkL, hiL, hfoundL, hn1⟩ := Cond.interfaceMethod_spec hfi.2
  cases hnR.symm.trans hn1
  have hr0cls : r0.cls = cL := Option.some.inj ((findClass_of_methodNamed hnR).symm.trans hcL)
  obtain ⟨hnameR, hdescR⟩ := name_of_methodNamed hnR hrm
  intro T hT X
  have hlen : As.length = r.sig.parameters.length := hn.trans (np_ok hnp _ hsigR)
  obtain ⟨vm₁, X₁, hstep₁⟩ := X.invokeinterface hx hown hlink hnR hrm hstR (by rw [hr0cls]; exact hkL) hiL hxx (a := b) (cell := cellB) (kcell := kB) (by rw [hT]; exact hcell)
    (fun z h => by rw [h] at hobj; cases hobj) hkB (by rw [hr0cls]; exact hasg _ hcL) (m' := mk) (meth' := methk) (by rw [Launch.admits_selectMethod X.admits]; exact hsel _ hnR) hmk (by rw [hnameR, hdescR]; exact hway) (by rw [hflg]; decide) (by simp [Method.isAbstract, hflg, hasFlag, Acc.abstract])
    (g := F0 m pc lsA (As.reverse ++ .ref b :: rest)) rfl (argsL := As) (rest := rest) hlen rfl (by rw [hb]; exact hdg)
  have hal : s.vm.Alike vm₁ := X₁.warmed.alike
  have hmk1 : (T.setVm vm₁).vm.method? mk = some methk := by show vm₁.method? mk = _; rw [hal.method?]; exact hmk
  have hpk1 : (T.setVm vm₁).plainMethod mk := fun k' hk' => by
    cases hks : s.vm.classes[mk.cls]? with
    | none =>
      have := hal.none hks
      rw [show (T.setVm vm₁).vm.classes[mk.cls]? = vm₁.classes[mk.cls]? from rfl, this] at hk'
      cases hk'
    | some k0 =>
      obtain ⟨k1, hk1, he1⟩ := hal.2.2 _ _ hks
      cases hk1.symm.trans hk'
      exact plain_congr (by rw [he1]) (by rw [he1]) (hpk k0 hks)
  rcases lm_back X₁ (g := F0 m pc lsA rest) rfl (by rw [hml]; exact hsize) (by rw [hb]; exact hdg) (Value.ref b :: As).toArray (R' := R') hmk1 hck hlk hpk1 hframes (by show 2 * 0 + (rest.map fun v => v.category).sum + (ck.maxLocals + 11) + R'.locals ≤ R.locals; omega) hcells hslots
    (show W p l e R' _ mk _ _ methk ck (T.setVm vm₁).heap [] 0 0 _ _ from (show (T.setVm vm₁).heap = H from hT) ▸ body ((T.setVm vm₁).calling (F0 m pc lsA rest) mk (Value.ref b :: As).toArray) (.java (F0 m pc lsA rest) :: below) hT X₁.warmed) with ⟨v, ⟨U', l2, c2, s2⟩, X', ⟨g', mk', t, L, e1, e2, hq, h1, hL, h2, h3⟩, st⟩ | ⟨q, ⟨U', l2, c2, s2⟩, X', ⟨g', mk', t, L, E, ce, e1, e2, hq, hce, hcv, hcl, h1, hL, h2, h3⟩, st⟩
  · dsimp only [Pt.U, Pt.locs, Pt.cells, Pt.slots] at X' e1 e2 h1 h2 h3 st
    subst h1; subst h2; subst h3
    exact Or.inl ⟨v, (T.setVm vm₁).calling g' mk' (Value.ref b :: As).toArray, t, U', L, hT, X', hL, e1, e2, hq, fun target h => hstep₁ _ fun acts => (st acts).trans h⟩
  · dsimp only [Pt.U, Pt.locs, Pt.cells, Pt.slots] at X' e1 e2 h1 h2 h3 st hcl
    subst h1; subst h2; subst h3
    exact Or.inr ⟨q, (T.setVm vm₁).calling g' mk' (Value.ref b :: As).toArray, t, U', L, E, ce, hT, X', hL, e1, e2, hq, hce, hcv, vx_cls X₁.warmed hcl, hstep₁ _ fun acts => st acts⟩
end
/-- what a method gives back, by its type -/
def RTY (ret : Option FieldType) (r : Value) : Prop := match ret with
  | some .int => ∃ x, r = .int x
  | some .boolean => ∃ x, r = .int x ∧ (x = 0 ∨ x = 1)
  | some .float => ∃ x, r = .float x
  | some .double => ∃ x, r = .double x
  | _ => True
def lm_tv (t : FieldType) (v : Value) : Prop := match t, v with
  | .int, .int _ => True
  | .float, .float _ => True
  | .double, .double _ => True
  | _, _ => False
def lm_ldR (ls : List Value) : List (FieldType × Nat) → List Value → Prop
  | [], [] => True
  | (t, n) :: ps, v :: vs => (ls[n]? = some v ∧ lm_tv t v) ∧ lm_ldR ls ps vs
  | _, _ => False
def lm_code (t : FieldType) : Nat := match t with
  | .float => 2
  | .double => 3
  | _ => 0
theorem lm_places {ls0 : List Value} : ∀ (ts : List FieldType) (vs : List Value) (n : Nat), ts.length = vs.length → (∀ t ∈ ts, t ∈ lm_ts ∧ ∀ v ∈ vs, ev_ty (lm_code t) v = true) → (∀ i v, (ev_lay vs)[i]? = some v → ls0[n + i]? = some v) → lm_ldR ls0 (Lambda.places n ts) vs
  | [], [], n, _, _, _ => trivial
  | t :: ts, v :: vs, n, hl, ht, hn => by
    obtain ⟨t1, t2⟩ := ht t List.mem_cons_self
    have t3 := t2 v List.mem_cons_self
    have hv0 : ls0[n]? = some v := by
      have := hn 0 v (by
        unfold ev_lay
        split <;> rfl)
      simpa using this
    have hun : (ev_lay (v :: vs)) = (if t.units = 2 then [v, jk] else [v]) ++ ev_lay vs ∧ lm_tv t v := by
      simp only [lm_ts, List.mem_cons, List.not_mem_nil, or_false] at t1
      rcases t1 with rfl | rfl | rfl <;> (cases v <;> first | exact ⟨rfl, trivial⟩ | (simp [lm_code, ev_ty] at t3))
    refine ⟨⟨hv0, hun.2⟩, lm_places ts vs (n + t.units) (by simpa using hl) (fun t' h' => ⟨(ht t' (List.mem_cons_of_mem _ h')).1, fun v' hv' => (ht t' (List.mem_cons_of_mem _ h')).2 v' (List.mem_cons_of_mem _ hv')⟩) (fun i w hw => ?_)⟩
    have hu : t.units = 1 ∨ t.units = 2 := by
      simp only [lm_ts, List.mem_cons, List.not_mem_nil, or_false] at t1
      rcases t1 with rfl | rfl | rfl <;> simp [FieldType.units]
    have := hn (t.units + i) w (by
      rw [hun.1]
      rcases hu with hu | hu
      · rw [hu, if_neg (by decide), List.singleton_append, Nat.add_comm, List.getElem?_cons_succ]; exact hw
      · rw [hu, if_pos rfl]
        show (v :: jk :: ev_lay vs)[2 + i]? = some w
        rw [Nat.add_comm, List.getElem?_cons_succ, List.getElem?_cons_succ]; exact hw)
    rw [show n + t.units + i = n + (t.units + i) by omega]
    exact this
  | [], _ :: _, _, hl, _, _ => by cases hl
  | _ :: _, [], _, hl, _, _ => by cases hl
section
variable {p : Program} {l : Launch} {e : Env} {R : Room} {s : State} {m : MethodId} {args : Array Value} {below : List Frame} {meth : Method} {c : Code} {Q : State → Prop}
variable {D : rl_D} {bs : Nat} {H0 : Heap} {nL c0 s0 : Nat} {M0 : ev_M} {φ0 : Nat → Nat} {cd : ByteArray} {pc : Nat} {own : String}
theorem lm_getfS {T : State} {locs : List Loc} {cells slots : Nat} (X : Stand p l e R s m args below meth c T locs cells slots) (hexec : p.tables.exec = Jvm.exec) {g : JFrame} (hg : g.method = m) {i : Nat} {f : Field} {a : Addr} {cell : Cell} {v : Value} {rest : List Value}
    (hfr : T.vm.fieldReady m.cls i m.cls f) (hst : f.isStatic = false) (hcell : T.heap[a]? = some cell) (hkn : cell.vm ≠ .unknown) (hv : cell.slots[f.slot]? = some v) (hstack : g.stack = .ref a :: rest) (hdg : decode c.code g.pc = .ok (.getfield i, 3)) :
    ∀ target, Steps p.tables e below (T.setTop { g with pc := g.pc + 3, stack := v :: rest }) target → Steps p.tables e below (T.setTop g) target := by
  intro target hrest
  subst hg
  jvm_step X.here [hexec, hdg, getfield.wp_ready (e := e) (s := T) (f := g) X.here.top hfr hst hstack hcell hkn hv]
  exact hrest
/-- a captured value is laid on the stack -/
theorem wt_lcap (hx : p.tables.exec = Jvm.exec) (hb : c.code = cd) {q : Nat} (hKS : KS D s q) (hob : ∀ U : State, s.WarmedH U.vm → obW.before #[] U = true) {F : ClassFile} {lay : Array Field × Array FieldType × Array FieldType} {ms : Array Method} {mth : Method} {x : Code} (hLM : LMF q F lay ms mth x) (hm : m.cls = D.2.2.2.1 (100 + q))
    {a j ct : Nat} {ls st : List Value} {M : ev_M} (h0 : ls[0]? = some (.ref a)) (hk : mK M a = 100 + q) (hct : (kcap (100 + q))[j]? = some ct) (hchk : lm_cap F.constantPool lay.1 cd j = true)
    (k : WT p l e R s m args below meth c Q D bs H0 nL c0 s0 M0 φ0 (ls, ev_fld M ct j a :: st, M) (4 * (j + 1))) : WT p l e R s m args below meth c Q D bs H0 nL c0 s0 M0 φ0 (ls, st, M) (4 * j) := by
  unfold lm_cap at hchk
  simp only [Bool.and_eq_true, decide_eq_true_eq] at hchk
  obtain ⟨d0, d1, d2⟩ := hchk
  split at d1
  · rename_i i hd
    split at d2
    · rename_i f hf
      simp only [Bool.and_eq_true, Bool.not_eq_true', decide_eq_true_eq] at d2
      refine wt_aload (i := 0) (n := 1) (fun hl kk => lv_aload_n hx hb d0 rfl hl kk) (fun hl kk => lv_aload_nN hx hb d0 rfl hl kk) (S' := (ls, .ref a :: st, M)) (by simp [ev_aload, h0]) ?_
      intro φ lsA stA H locs cells slots hE hn hR hL hS hl hc hs
      have hR : Rel D φ bs H0 M H := hR
      obtain ⟨y, r, rfl, hy0, -, hS2⟩ := StR_cons hS
      have ha1 := hR.1.2.2.2 a (by omega)
      have ey : y = .ref (φ a) := by
        have h1 : y = crf φ a := hy0
        rw [h1, crf, if_neg (by omega)]
      subst ey
      obtain ⟨cell, q1, q2, q3, q4⟩ := (hR.2.2.1 a).2.2.2.2 (by omega)
      have hv := q4 j ct (by rw [hk]; exact hct)
      have kk := k φ lsA (fv φ M ct a j :: r) H locs cells slots hE hn hR hL (StR.mk (VR_fld ct a j) (wfv_fld hR.1 ct a j) hS2) hl hc hs
      intro T hT X
      obtain ⟨t, a1, b1⟩ := kk T hT X
      obtain ⟨kK, tk, methK, ck, t0, target, -, -, hfr, -⟩ := ks_made (hKS.warm X.warmed) (hob T X.warmed) hLM
      refine ⟨t, lm_getfS X hx (g := F0 m (4 * j + 1) lsA (.ref (φ a) :: r)) rfl (i := i) (f := f) (v := fv φ M ct a j) (by rw [hm]; exact hfr j i d1 f hf) d2.1 (by rw [hT]; exact q1) (by rw [q3]; exact fun h => (by cases h)) (by rw [d2.2]; exact hv) rfl (by rw [hb]; exact hd) t ?_, b1⟩
      exact a1
    · cases d2
  · cases d1
theorem wt_lcaps (hx : p.tables.exec = Jvm.exec) (hb : c.code = cd) {q : Nat} (hKS : KS D s q) (hob : ∀ U : State, s.WarmedH U.vm → obW.before #[] U = true) {F : ClassFile} {lay : Array Field × Array FieldType × Array FieldType} {ms : Array Method} {mth : Method} {x : Code} (hLM : LMF q F lay ms mth x) (hm : m.cls = D.2.2.2.1 (100 + q))
    {a : Nat} {ls : List Value} {M : ev_M} (h0 : ls[0]? = some (.ref a)) (hk : mK M a = 100 + q) :
    ∀ (ts : List Nat) (j : Nat) (st : List Value), (∀ k ct, ts[k]? = some ct → (kcap (100 + q))[j + k]? = some ct ∧ lm_cap F.constantPool lay.1 cd (j + k) = true) → WT p l e R s m args below meth c Q D bs H0 nL c0 s0 M0 φ0 (ls, (ev_caps M a ts j).reverse ++ st, M) (4 * (j + ts.length)) → WT p l e R s m args below meth c Q D bs H0 nL c0 s0 M0 φ0 (ls, st, M) (4 * j)
  | [], j, st, _, k => k
  | ct :: ts, j, st, h, k => by
    have h1 := h 0 ct rfl
    refine wt_lcap hx hb hKS hob hLM hm h0 hk h1.1 h1.2 (wt_lcaps hx hb hKS hob hLM hm h0 hk ts (j + 1) _ (fun i c' hc => by rw [show j + 1 + i = j + (i + 1) by omega]; exact h (i + 1) c' (by simpa using hc)) ?_)
    rw [show j + 1 + ts.length = j + (ct :: ts).length by simp; omega]
    have e1 : (ev_caps M a ts (j + 1)).reverse ++ ev_fld M ct j a :: st = (ev_caps M a (ct :: ts) j).reverse ++ st := by simp [ev_caps]
    rw [e1]
    exact k
theorem wt_lloads (hx : p.tables.exec = Jvm.exec) (hb : c.code = cd) {ls : List Value} {M : ev_M} : ∀ (ps : List (FieldType × Nat)) (vs st : List Value) (pc pc' : Nat), lm_loads cd pc ps = some pc' → lm_ldR ls ps vs → WT p l e R s m args below meth c Q D bs H0 nL c0 s0 M0 φ0 (ls, vs.reverse ++ st, M) pc' → WT p l e R s m args below meth c Q D bs H0 nL c0 s0 M0 φ0 (ls, st, M) pc
  | [], [], st, pc, pc', h, _, k => by cases h; exact k
  | (t, n) :: ps, v :: vs, st, pc, pc', h, hr, k => by
    unfold lm_loads at h
    split at h
    · rename_i hn
      split at h
      · rename_i hd
        have k2 := wt_lloads hx hb ps vs (v :: st) (pc + 1) pc' h hr.2 (by
          have e1 : vs.reverse ++ v :: st = (v :: vs).reverse ++ st := by simp
          rw [e1]
          exact k)
        obtain ⟨⟨h1, h2⟩, -⟩ := hr
        cases t <;> cases v <;> first | exact h2.elim | skip
        · exact wt_dload (i := n) (n := 1) (fun hl kk => lv_dload_n hx hb hd rfl hl kk) (by simp [ev_dload, h1]) k2
        · exact wt_fload (i := n) (n := 1) (fun hl kk => lv_fload_n hx hb hd rfl hl kk) (by simp [ev_fload, h1]) k2
        · exact wt_iload (i := n) (n := 1) (fun hl kk => lv_iload_n hx hb hd rfl hl kk) (by simp [ev_iload, h1]) k2
      · cases h
    · cases h
  | [], _ :: _, _, _, _, _, hr, _ => hr.elim
  | _ :: _, [], _, _, _, _, hr, _ => hr.elim
theorem lm_stS {T : State} {locs : List Loc} {cells slots : Nat} (X : Stand p l e R s m args below meth c T locs cells slots) (hexec : p.tables.exec = Jvm.exec) {g : JFrame} (hg : g.method = m) {i : Nat} {mk : MethodId} {kt : Class} {metht : Method} {As rest : List Value}
    (href : plainRef T e m.cls i) (hr : T.vm.methodReady m.cls i mk) (hk : T.vm.classes[mk.cls]? = some kt) (hm : T.vm.method? mk = some metht) (hpoly : signaturePolymorphic kt metht = false) (hstatic : metht.isStatic = true) (hinit : kt.init = .initialized)
    (hlen : As.length = metht.sig.parameters.length) (hstack : g.stack = As.reverse ++ rest) (hdg : decode c.code g.pc = .ok (.invokestatic i, 3)) :
    ∀ target, (∀ acts, Steps p.tables e below (doInvoke e (T.setTop { g with stack := rest }) acts mk As.toArray).1 target) → Steps p.tables e below (T.setTop g) target := by
  intro target hrest
  subst hg
  jvm_step X.here [hexec, hdg, invokestatic.wp_ready (e := e) (s := T) (f := g) X.here.top href hr hk hm hpoly hstatic hinit hlen hstack]
  intro acts
  exact hrest acts
theorem lm_stV {T : State} {locs : List Loc} {cells slots : Nat} (X : Stand p l e R s m args below meth c T locs cells slots) (hexec : p.tables.exec = Jvm.exec) {g : JFrame} (hg : g.method = m) {i : Nat} {mk : MethodId} {kt : Class} {metht : Method} {a : Addr} {cell : Cell} {As rest : List Value}
    (hnamed : namesAClass T m.cls i) (hr : T.vm.methodReady m.cls i mk) (hk : T.vm.classes[mk.cls]? = some kt) (hm : T.vm.method? mk = some metht) (hpoly : signaturePolymorphic kt metht = false) (hstatic : metht.isStatic = false) (habs : metht.isAbstract = false) (hitf : kt.isInterface = false)
    (hcell : T.heap[a]? = some cell) (hobj : ∀ c, cell.vm ≠ .statics c) (hsel : selectMethod e.platform T.vm cell.cls mk = .method mk)
    (hlen : As.length = metht.sig.parameters.length) (hstack : g.stack = As.reverse ++ .ref a :: rest) (hdg : decode c.code g.pc = .ok (.invokevirtual i, 3)) :
    ∀ target, (∀ acts, Steps p.tables e below (doInvoke e (T.setTop { g with stack := rest }) acts mk (Value.ref a :: As).toArray).1 target) → Steps p.tables e below (T.setTop g) target := by
  intro target hrest
  subst hg
  jvm_step X.here [hexec, hdg, invokevirtual.wp_ready (e := e) (s := T) (f := g) X.here.top hnamed hr hk hm hpoly hstatic hlen hstack hcell hobj hsel hm habs hk hitf]
  intro acts
  exact hrest acts
theorem lm_poly {k : Class} {x : Method} (h : noVH k.name) : signaturePolymorphic k x = false := by
  have h1 : (k.name == "java/lang/invoke/MethodHandle") = false := beq_eq_false_iff_ne.mpr h.1
  have h2 : (k.name == "java/lang/invoke/VarHandle") = false := beq_eq_false_iff_ne.mpr h.2
  simp [signaturePolymorphic, h1, h2]
/-- what is said of a site's target -/
def LLi (q : Nat) (t : ev_T) : Prop := t.1 = ⟨(lm_g q).2.2.2.implClass, (lm_g q).2.2.2.implName, (lm_g q).2.2.2.implDesc.toString⟩ ∧ t.2.2.2.2 = none ∧ t.2.2.2.1 = (lm_g q).2.2.2.sam.returnType ∧ (kcap (100 + q)).length = (lm_g q).2.2.2.captured.length ∧
  (((lm_g q).2.2.2.kind = 6 ∧ Cond.static t.1 ∈ lw_all ∧ npar t.1.desc = some ((lm_g q).2.2.2.captured.length + (lm_g q).2.2.2.sam.parameters.length)) ∨
  ((lm_g q).2.2.2.kind = 5 ∧ (lm_g q).2.2.2.implItf = false ∧ Cond.instanceMethod t.1 ∈ lw_all ∧ Cond.selects "StrideTurns" t.1 t.1 ∈ lw_all ∧ (q = 30 ∨ q = 33) ∧ (∃ ts, kcap (100 + q) = 4 :: ts) ∧ ∃ n, npar t.1.desc = some n ∧ n + 1 = (lm_g q).2.2.2.captured.length + (lm_g q).2.2.2.sam.parameters.length))
/-- in a lambda's method: its target's call -/
theorem lm_runS (hx : p.tables.exec = Jvm.exec) (hb : c.code = cd) (hml : c.maxLocals = nL) (hts : ∀ w ∈ lw_all, w.before args s = true) {q : Nat} (hKS : KS D s q) (hob : ∀ U : State, s.WarmedH U.vm → obW.before #[] U = true) {F : ClassFile} {lay : Array Field × Array FieldType × Array FieldType} {ms0 : Array Method} {mth : Method} {x : Code} (hLM : LMF q F lay ms0 mth x) (hm : m.cls = D.2.2.2.1 (100 + q))
    {t : ev_T} {y' mc ms n : Nat} {Pc : Array Value → State → Prop} {Qc : Array Value → State → Outcome → State → Prop} {XC : String → State → State → Prop} {free : Addr → Prop} (hMet : vx_Met l t.1 (t_word t :: lw_all) (rmY y' mc ms) Pc Qc XC mc ms free) (hM : MOK t) (hRf : 2 * y' + 11 ≤ R.frames) (hRl : 12099 + 200 * y' ≤ R.locals)
    (ht1 : t.1 = ⟨(lm_g q).2.2.2.implClass, (lm_g q).2.2.2.implName, (lm_g q).2.2.2.implDesc.toString⟩) (hh : t.2.2.2.2 = none) (hst : Cond.static t.1 ∈ lw_all) (hnp : npar t.1.desc = some n)
    {H : Heap} {locs : List Loc} {cells slots : Nat} {lsA : Array Slot} {As rest : List Value} (hp : PreS s H Pc As) (hn : As.length = n) (hsize : lsA.size = nL) (hW : (rest.map fun v => v.category).sum ≤ 8) {i : Nat} (hdg : decode cd pc = .ok (.invokestatic i, 3)) (href : lm_ref F.constantPool F.thisClass (lm_g q).2.2.2 i = true) (hf : cells + mc ≤ R.cells ∧ slots + ms ≤ R.slots) :
    vx_Run p l e R s m args below meth c H locs cells slots mc ms (F0 m pc lsA (As.reverse ++ rest)) rest (Qc As.toArray) XC free := by
  have hcode : t_word t = Cond.code t.1 t.2.1 t.2.2.1 t.2.2.2.1 := by unfold t_word; rw [hh]
  have hmem : Cond.code t.1 t.2.1 t.2.2.1 t.2.2.2.1 ∈ t_word t :: lw_all := by rw [hcode]; exact List.mem_cons_self
  have hmem2 : Cond.code t.1 t.2.1 t.2.2.1 t.2.2.2.1 ∈ lw_all := by rw [← hcode]; exact hM.1
  have ride : ∀ w ∈ lw_all, ∀ (a' : Array Value) (U : State), s.WarmedH U.vm → w.before a' U = true := pay_in hts (lw_good fun w hw => hw)
  have hK : vx_Back l R p e below s args t.1 3 8 (PreOf R mc ms Pc) (PostOf Qc mc ms free) (vx_Post XC mc ms free) := vx_back (bytes := t.2.1) (maxL := t.2.2.1) (ret := t.2.2.2.1) hMet hp.1 rfl rfl (by show 2 * y' + 10 + 1 ≤ _; omega) (by have := hM.2.2.2.2; show 8 + (t.2.2.1 + 11) + (12000 + 200 * y') ≤ _; omega) (bk_ok hts hM) hmem (fun a' U hW => ride _ hM.2.1 a' U hW)
  intro T hT X
  have hcT := ride _ hmem2 #[] T X.warmed
  obtain ⟨mk, hnT⟩ := Cond.code_named hcT
  obtain ⟨methM, cM, hmethM, -, -, -, -, -, -, hsigM⟩ := Cond.code_spec hnT hcT
  have hstatic : methM.isStatic = true := Cond.static_spec hnT hmethM (ride _ hst #[] T X.warmed)
  obtain ⟨kP, hkP, hkPn⟩ := className_of_methodNamed hnT
  have hinitP : kP.init = .initialized := Cond.initialized_spec (findClass_of_methodNamed hnT) hkP (ride _ hM.2.1 #[] T X.warmed)
  obtain ⟨kK, tk, methK, ck, t0, target, ⟨a1, -⟩, -, -, ⟨d10, d11, d18, d12⟩, hmr, -⟩ := ks_made (hKS.warm X.warmed) (hob T X.warmed) hLM
  obtain ⟨hmr1, file, ci, nt, f1, f2, f3, f4⟩ := hmr i href
  have htg : target = mk := by
    have h1 : T.methodFound? t.1.cls t.1.name t.1.desc = some mk := State.methodFound?_of_named hnT hM.2.2.2.1
    rw [ht1] at h1
    simp only [State.methodFound?, d10, d11, Option.bind_eq_bind, Option.bind_some] at h1
    rw [d12] at h1
    exact Option.some.inj h1
  subst htg
  have hno : noVH (lm_g q).2.2.2.implClass := by have := hM.2.2.2.1; rw [ht1] at this; exact this
  obtain ⟨k9, hk9, hk9n, -, -⟩ := findC d10
  cases d11.symm.trans hk9
  obtain ⟨b0, hmref⟩ := memberRef_ask' (e := e) (vm := T.vm) (d := m.cls) (index := i) (by rw [hm]; exact a1) f1 (Or.inl f2) f3
  have hpr : plainRef T e m.cls i := ⟨ci, _, _, b0, t0, tk, hmref, by rw [hm]; exact f4, d11, by
    simp only [Array.any_eq_false, lm_poly (show noVH tk.name by rw [hk9n]; exact hno), Bool.and_false]
    exact fun _ _ => (by decide)⟩
  have hpoly : signaturePolymorphic kP methM = false := lm_poly (by rw [hkPn]; exact hM.2.2.2.1)
  have hdg2 : decode c.code (F0 m pc lsA (As.reverse ++ rest)).pc = .ok (.invokestatic i, 3) := by rw [hb]; exact hdg
  have hstep := lm_stS X hx (g := F0 m pc lsA (As.reverse ++ rest)) rfl hpr (by rw [hm]; exact hmr1) hkP hmethM hpoly hstatic hinitP (As := As) (rest := rest) (hn.trans (np_ok hnp _ hsigM)) rfl hdg2
  rcases hK m meth c ⟨T, locs, cells, slots⟩ (F0 m pc lsA rest) (.invokestatic i) target As.toArray X rfl (hsize.trans hml.symm) hdg2 (by show 2 * 0 + (rest.map fun v => v.category).sum ≤ 8; omega) hnT ⟨hf.1, hf.2, hp.2 T hT X.warmed⟩ with ⟨v, ⟨U', l2, c2, s2⟩, X', ⟨g', mk', t', L, e1, e2, hq, h1, hL, h2, h3⟩, st⟩ | ⟨z, ⟨U', l2, c2, s2⟩, X', ⟨g', mk', t', L, E, ce, e1, e2, hq, hce, hcv, hcl, h1, hL, h2, h3⟩, st⟩
  · dsimp only [Pt.U, Pt.locs, Pt.cells, Pt.slots] at X' e1 e2 h1 h2 h3 st
    subst h1; subst h2; subst h3
    exact Or.inl ⟨v, T.calling g' mk' As.toArray, t', U', L, hT, X', hL, e1, e2, hq, fun target h => hstep _ fun acts => by rw [doInvoke_state]; exact st.trans h⟩
  · dsimp only [Pt.U, Pt.locs, Pt.cells, Pt.slots] at X' e1 e2 h1 h2 h3 st hcl
    subst h1; subst h2; subst h3
    exact Or.inr ⟨z, T.calling g' mk' As.toArray, t', U', L, E, ce, hT, X', hL, e1, e2, hq, hce, hcv, vx_cls (T := T) X.warmed hcl, hstep _ fun acts => by rw [doInvoke_state]; exact st⟩
theorem lm_runV (hx : p.tables.exec = Jvm.exec) (hb : c.code = cd) (hml : c.maxLocals = nL) (hts : ∀ w ∈ lw_all, w.before args s = true) {q : Nat} (hKS : KS D s q) (hob : ∀ U : State, s.WarmedH U.vm → obW.before #[] U = true) {F : ClassFile} {lay : Array Field × Array FieldType × Array FieldType} {ms0 : Array Method} {mth : Method} {x : Code} (hLM : LMF q F lay ms0 mth x) (hm : m.cls = D.2.2.2.1 (100 + q))
    {t : ev_T} {y' mc ms n : Nat} {Pc : Array Value → State → Prop} {Qc : Array Value → State → Outcome → State → Prop} {XC : String → State → State → Prop} {free : Addr → Prop} (hMet : vx_Met l t.1 (t_word t :: lw_all) (rmY y' mc ms) Pc Qc XC mc ms free) (hM : MOK t) (hRf : 2 * y' + 11 ≤ R.frames) (hRl : 12099 + 200 * y' ≤ R.locals)
    (ht1 : t.1 = ⟨(lm_g q).2.2.2.implClass, (lm_g q).2.2.2.implName, (lm_g q).2.2.2.implDesc.toString⟩) (hh : t.2.2.2.2 = none) (hif : (lm_g q).2.2.2.implItf = false) (hin : Cond.instanceMethod t.1 ∈ lw_all) (hse : Cond.selects "StrideTurns" t.1 t.1 ∈ lw_all) (hnp : npar t.1.desc = some n)
    {H : Heap} {locs : List Loc} {cells slots : Nat} {lsA : Array Slot} {b : Addr} {As rest : List Value} (hp : PreV s H "StrideTurns" b Pc As) (hn : As.length = n) (hsize : lsA.size = nL) (hW : (rest.map fun v => v.category).sum ≤ 8) {i : Nat} (hdg : decode cd pc = .ok (.invokevirtual i, 3)) (href : lm_ref F.constantPool F.thisClass (lm_g q).2.2.2 i = true) (hf : cells + mc ≤ R.cells ∧ slots + ms ≤ R.slots) :
    vx_Run p l e R s m args below meth c H locs cells slots mc ms (F0 m pc lsA (As.reverse ++ .ref b :: rest)) rest (Qc (Value.ref b :: As).toArray) XC free := by
  have hcode : t_word t = Cond.code t.1 t.2.1 t.2.2.1 t.2.2.2.1 := by unfold t_word; rw [hh]
  have hmem : Cond.code t.1 t.2.1 t.2.2.1 t.2.2.2.1 ∈ t_word t :: lw_all := by rw [hcode]; exact List.mem_cons_self
  have hmem2 : Cond.code t.1 t.2.1 t.2.2.1 t.2.2.2.1 ∈ lw_all := by rw [← hcode]; exact hM.1
  have ride : ∀ w ∈ lw_all, ∀ (a' : Array Value) (U : State), s.WarmedH U.vm → w.before a' U = true := pay_in hts (lw_good fun w hw => hw)
  have hK : vx_Back l R p e below s args t.1 3 8 (PreOf R mc ms Pc) (PostOf Qc mc ms free) (vx_Post XC mc ms free) := vx_back (bytes := t.2.1) (maxL := t.2.2.1) (ret := t.2.2.2.1) hMet hp.1 rfl rfl (by show 2 * y' + 10 + 1 ≤ _; omega) (by have := hM.2.2.2.2; show 8 + (t.2.2.1 + 11) + (12000 + 200 * y') ≤ _; omega) (bk_ok hts hM) hmem (fun a' U hW => ride _ hM.2.1 a' U hW)
  obtain ⟨-, ⟨cellB, hcB, hoB, hclB⟩, hPc⟩ := hp
  intro T hT X
  obtain ⟨mk, methM, hnT, hmethM, hstM, habM⟩ := Cond.instanceMethod_spec (ride _ hin #[] T X.warmed)
  obtain ⟨methM', cM, hmethM', -, -, -, -, -, -, hsigM⟩ := Cond.code_spec hnT (ride _ hmem2 #[] T X.warmed)
  cases hmethM.symm.trans hmethM'
  have hclT : T.vm.findClass "StrideTurns" = some cellB.cls := by rw [X.warmed.alike.findClass]; exact hclB
  obtain ⟨c2, r2, m2, q1, q2, q3, q4, kP, hkP, hkPi⟩ := Cond.selects_spec (ride _ hse #[] T X.warmed)
  cases hclT.symm.trans q1
  cases (State.methodFound?_of_named hnT hM.2.2.2.1).symm.trans q2
  cases hnT.symm.trans q3
  obtain ⟨kP2, hkP2, hkPn⟩ := className_of_methodNamed hnT
  cases hkP.symm.trans hkP2
  obtain ⟨kK, tk, methK, ck, t0, target, ⟨a1, -⟩, -, -, ⟨d10, d11, d18, d12⟩, hmr, -⟩ := ks_made (hKS.warm X.warmed) (hob T X.warmed) hLM
  obtain ⟨hmr1, file, ci, nt, f1, f2, f3, f4⟩ := hmr i href
  have htg : target = mk := by
    have h1 : T.methodFound? t.1.cls t.1.name t.1.desc = some mk := State.methodFound?_of_named hnT hM.2.2.2.1
    rw [ht1] at h1
    simp only [State.methodFound?, d10, d11, Option.bind_eq_bind, Option.bind_some] at h1
    rw [d12] at h1
    exact Option.some.inj h1
  subst htg
  have hpoly : signaturePolymorphic kP methM = false := lm_poly (by rw [hkPn]; exact hM.2.2.2.1)
  have hnm : namesAClass T m.cls i := ⟨kK, file, ci, nt, t0, tk, by rw [hm]; exact a1, f1, f2, by rw [hm]; exact f4, d11, by rw [d18]; exact hif⟩
  have hdg2 : decode c.code (F0 m pc lsA (As.reverse ++ .ref b :: rest)).pc = .ok (.invokevirtual i, 3) := by rw [hb]; exact hdg
  have hstep := lm_stV X hx (g := F0 m pc lsA (As.reverse ++ .ref b :: rest)) rfl hnm (by rw [hm]; exact hmr1) hkP hmethM hpoly hstM habM hkPi (a := b) (cell := cellB) (by rw [hT]; exact hcB) (fun z h => by rw [h] at hoB; cases hoB) (by rw [Launch.admits_selectMethod X.admits]; exact q4) (As := As) (rest := rest) (hn.trans (np_ok hnp _ hsigM)) rfl hdg2
  rcases hK m meth c ⟨T, locs, cells, slots⟩ (F0 m pc lsA rest) (.invokevirtual i) target (Value.ref b :: As).toArray X rfl (hsize.trans hml.symm) hdg2 (by show 2 * 0 + (rest.map fun v => v.category).sum ≤ 8; omega) hnT ⟨hf.1, hf.2, hPc T hT X.warmed⟩ with ⟨v, ⟨U', l2, c2, s2⟩, X', ⟨g', mk', t', L, e1, e2, hq, h1, hL, h2, h3⟩, st⟩ | ⟨z, ⟨U', l2, c2, s2⟩, X', ⟨g', mk', t', L, E, ce, e1, e2, hq, hce, hcv, hcl, h1, hL, h2, h3⟩, st⟩
  · dsimp only [Pt.U, Pt.locs, Pt.cells, Pt.slots] at X' e1 e2 h1 h2 h3 st
    subst h1; subst h2; subst h3
    exact Or.inl ⟨v, T.calling g' mk' (Value.ref b :: As).toArray, t', U', L, hT, X', hL, e1, e2, hq, fun target h => hstep _ fun acts => by rw [doInvoke_state]; exact st.trans h⟩
  · dsimp only [Pt.U, Pt.locs, Pt.cells, Pt.slots] at X' e1 e2 h1 h2 h3 st hcl
    subst h1; subst h2; subst h3
    exact Or.inr ⟨z, T.calling g' mk' (Value.ref b :: As).toArray, t', U', L, E, ce, hT, X', hL, e1, e2, hq, hce, hcv, vx_cls (T := T) X.warmed hcl, hstep _ fun acts => by rw [doInvoke_state]; exact st⟩
theorem take_rev : ∀ (vs acc : List Value), ev_take vs.length acc vs.reverse = some (vs.reverse.reverse ++ acc, []) := by
  have h : ∀ (xs acc st : List Value), ev_take xs.length acc (xs ++ st) = some (xs.reverse ++ acc, st) := by
    intro xs
    induction xs with
    | nil => intro acc st; rfl
    | cons x xs ih =>
      intro acc st
      show ev_take xs.length (x :: acc) (xs ++ st) = _
      rw [ih]
      simp
  intro vs acc
  have := h vs.reverse acc []
  rw [List.length_reverse, List.append_nil] at this
  exact this
theorem caps_len (M : ev_M) (a : Nat) : ∀ (ts : List Nat) (k : Nat), (ev_caps M a ts k).length = ts.length
  | [], _ => rfl
  | t :: ts, k => by simp [ev_caps, caps_len M a ts (k + 1)]
/-- a lambda's method, from its entry -/
theorem lm_body (hx : p.tables.exec = Jvm.exec) (hb : c.code = cd) (hml : c.maxLocals = nL) (hts : ∀ w ∈ lw_all, w.before args s = true) (hKK : KK D bs H0 s) {q : Nat} (hq : 1 ≤ q ∧ q ≤ 41) (hob : ∀ U : State, s.WarmedH U.vm → obW.before #[] U = true) {F : ClassFile} {lay : Array Field × Array FieldType × Array FieldType} {ms0 : Array Method} {mth : Method} {x : Code} (hLM : LMF q F lay ms0 mth x) (hm : m.cls = D.2.2.2.1 (100 + q)) (hxt : c.exceptionTable.toList = []) (hlk : meth.locks = false) (hret : meth.sig.returnType = (lm_g q).2.2.2.sam.returnType)
    (hcap : ∀ j, j < (lm_g q).2.2.2.captured.length → lm_cap F.constantPool lay.1 cd j = true) {pc' : Nat} (hld : lm_loads cd (4 * (lm_g q).2.2.2.captured.length) (Lambda.places 1 (lm_g q).2.2.2.sam.parameters) = some pc') (hinv : lm_inv F.constantPool F.thisClass (lm_g q).2.2.2 cd pc' = true) (hrtd : decode cd (pc' + 3) = .ok (lm_rt (lm_g q).2.2.2.sam.returnType, 1))
    (hrty : (lm_g q).2.2.2.sam.returnType = some .int ∨ (lm_g q).2.2.2.sam.returnType = some .boolean ∨ (lm_g q).2.2.2.sam.returnType = some .float ∨ (lm_g q).2.2.2.sam.returnType = some .double)
    {t : ev_T} {y' : Nat} (hLL : LLi q t) (hM : MOK t) (hRf : 2 * y' + 11 ≤ R.frames) (hRl : 12099 + 200 * y' ≤ R.locals) {b : Nat} {ws : List Value} {M M1 : ev_M} {o : Nat} {r : Value} (hbk : mK M b = 100 + q) (hb0 : q = 30 ∨ q = 33 → mK M (mA M b 0) = 1)
    (hCT : CT l D bs H0 t y' (ev_caps M b (kcap (100 + q)) 0 ++ ws) M o r M1) (hty : o = 0 → RTY t.2.2.2.1 r) (hle : ncl M ≤ ncl M1 ∧ nsl M ≤ nsl M1) (hRc : ncl M1 ≤ R.cells + ncl M) (hRs : nsl M1 ≤ R.slots + nsl M)
    (hwl : ws.length = (lm_g q).2.2.2.sam.parameters.length) (hps : ∀ t ∈ (lm_g q).2.2.2.sam.parameters, t ∈ lm_ts ∧ ∀ v ∈ ws, ev_ty (lm_code t) v = true) (hnl : (ev_lay (.ref b :: ws)).length ≤ nL) :
    WT p l e R s m args below meth c (FQ below args s D bs H0 M φ0 o r M1) D bs H0 nL (ncl M) (nsl M) M φ0 (ev_ent nL (.ref b :: ws), [], M) 0 := by
  obtain ⟨ht1, hh, htr, hcl, hkind⟩ := hLL
  have h0 : (ev_ent nL (.ref b :: ws))[0]? = some (.ref b) := by simp [ev_ent, ev_lay, ev_cat2]
  have hKS := hKK.2.2.2.2.2.2.2.2 q hq.1 hq.2
  refine wt_lcaps hx hb hKS hob hLM hm h0 hbk (kcap (100 + q)) 0 [] (fun k ct hk => ⟨by rw [Nat.zero_add]; exact hk, by
    rw [Nat.zero_add]
    refine hcap k ?_
    rw [← hcl]
    exact (List.getElem?_eq_some_iff.mp hk).1⟩) ?_
  rw [Nat.zero_add, hcl]
  refine wt_lloads hx hb _ ws _ _ pc' hld (lm_places _ ws 1 hwl.symm hps (fun i v hv => ?_)) ?_
  · unfold ev_ent
    rw [List.getElem?_append_left (by
      have h1 := (List.getElem?_eq_some_iff.mp hv).1
      simp [ev_lay, ev_cat2]
      omega)]
    have e0 : ev_lay (.ref b :: ws) = .ref b :: ev_lay ws := by simp [ev_lay, ev_cat2]
    rw [e0, Nat.add_comm, List.getElem?_cons_succ]
    exact hv
  · have e1 : ws.reverse ++ ((ev_caps M b (kcap (100 + q)) 0).reverse ++ []) = (ev_caps M b (kcap (100 + q)) 0 ++ ws).reverse := by simp
    rw [e1]
    have hwx : ∀ k, o = k + 1 → WX p l e R s m args below meth c (FQ below args s D bs H0 M φ0 o r M1) D bs H0 nL (ncl M) (nsl M) M φ0 (ev_ent nL (.ref b :: ws)) M1 k pc' := by
      intro k ho φ lsA stA H locs cells slots z ce hE hn hR hL hce hcv hclz hl hc hs
      have hc1 : cells ≤ ncl M1 - ncl M := by have h : cells + ncl M = ncl M1 := hc; omega
      have hs2 : slots ≤ nsl M1 - nsl M := by have h : slots + nsl M = nsl M1 := hs; omega
      exact vx_out (fun x hx => by rw [hxt] at hx; cases hx) hlk hce hcv hclz (fun t ht _ => ⟨hn, k, φ, ho, rfl, hE, by rw [ht]; exact hR⟩) hl hc1 hs2
    have hk0 : o = 0 → WT p l e R s m args below meth c (FQ below args s D bs H0 M φ0 o r M1) D bs H0 nL (ncl M) (nsl M) M φ0 (ev_ent nL (.ref b :: ws), ev_ret r [], M1) (pc' + 3) := by
      intro ho
      subst ho
      have hty := hty rfl
      rw [htr] at hty
      rcases hrty with h | h | h | h <;> rw [h] at hty hrtd hret
      · obtain ⟨z, rfl⟩ := hty
        exact wt_rt hx hb hlk (i := .ireturn) (ar := []) (st := [.int z]) rfl hrtd (Or.inl ⟨rfl, hret⟩)
      · obtain ⟨z, rfl, hz⟩ := hty
        exact wt_rt hx hb hlk (i := .ireturn) (ar := [5]) (st := [.int z]) (by rcases hz with rfl | rfl <;> rfl) hrtd (Or.inr ⟨rfl, hret⟩)
      · obtain ⟨z, rfl⟩ := hty
        exact wt_rt hx hb hlk (i := .freturn) (ar := []) (st := [.float z]) rfl hrtd hret
      · obtain ⟨z, rfl⟩ := hty
        exact wt_rt hx hb hlk (i := .dreturn) (ar := []) (st := [.double z]) rfl hrtd hret
    intro φ lsA stA H locs cells slots hE hn hR hL hS hl hc hs
    have hR : Rel D φ bs H0 M H := hR
    obtain ⟨As, restA, rfl, hlen, hSv, hSr⟩ := take_As (take_rev _ []) hS
    rw [List.append_nil, List.reverse_reverse] at hSv
    cases StR_nil hSr
    have hsz : lsA.size = nL := by obtain ⟨-, l0, w, -⟩ := hL; exact w.1
    have hc' : cells + ncl M = ncl M := hc
    have hs' : slots + nsl M = nsl M := hs
    have hf : cells + (ncl M1 - ncl M) ≤ R.cells ∧ slots + (nsl M1 - nsl M) ≤ R.slots := by omega
    rw [List.length_append, caps_len, hcl, hwl] at hlen
    unfold lm_inv at hinv
    split at hinv
    · rename_i i hd
      simp only [Bool.and_eq_true, decide_eq_true_eq] at hinv
      rcases hkind with ⟨hk6, hst, hnp⟩ | ⟨hk5, -⟩
      · have hp : PreS s H (PC D bs H0 φ (ev_caps M b (kcap (100 + q)) 0 ++ ws) M) As := ⟨PC_blind, fun U hU hW => ⟨⟨As, rfl, hSv⟩, by rw [hU]; exact hR, hKK.warm hW⟩⟩
        exact af (lm_runS hx hb hml hts hKS hob hLM hm (hCT φ) hM hRf hRl ht1 hh hst hnp hp hlen hsz (by decide) hd hinv.2 hf) hE hn hL hSr hl hc hs (by omega) (by omega) hk0 hwx
      · rw [hk5] at hinv; exact absurd hinv.1 (by decide)
    · rename_i i hd
      simp only [Bool.and_eq_true, decide_eq_true_eq] at hinv
      rcases hkind with ⟨hk6, -⟩ | ⟨hk5, hif, hin, hse, hqq, ⟨ts, hkc⟩, n, hnp, hn1⟩
      · rw [hk6] at hinv; exact absurd hinv.1 (by decide)
      · have hb1 := hb0 hqq
        have hcs : ev_caps M b (kcap (100 + q)) 0 = .ref (mA M b 0) :: ev_caps M b ts 1 := by rw [hkc]; rfl
        rw [hcs] at hSv hCT
        obtain ⟨bA, As1, rfl, hbA, -, hSa⟩ := StR_cons hSv
        have eb := kref hR hbA (Or.inl (by rw [hb1]; decide))
        subst eb
        have hcl2 := kcell hKK.1 hR (a := mA M b 0) (Or.inl (by rw [hb1]; decide))
        rw [hb1, kz_knm (by decide)] at hcl2
        have hp : PreV s H "StrideTurns" (φ (mA M b 0)) (PC D bs H0 φ (.ref (mA M b 0) :: ev_caps M b ts 1 ++ ws) M) As1 := ⟨PC_blind, hcl2, fun U hU hW => ⟨⟨.ref (φ (mA M b 0)) :: As1, rfl, hSv⟩, by rw [hU]; exact hR, hKK.warm hW⟩⟩
        have hln2 : As1.length = n := by rw [List.length_cons] at hlen; omega
        have hstk : (Value.ref (φ (mA M b 0)) :: As1).reverse ++ [] = As1.reverse ++ .ref (φ (mA M b 0)) :: [] := by simp
        rw [hstk]
        exact af (lm_runV hx hb hml hts hKS hob hLM hm (hCT φ) hM hRf hRl ht1 hh hif hin hse hnp hp hln2 hsz (by decide) hd hinv.2 hf) hE hn hL hSr hl hc hs (by omega) (by omega) hk0 hwx
    · cases hinv
/-- a call by a function's interface -/
def LLc (own : String) (idx n ct q : Nat) : Prop := ∃ x ∈ lm_f, Cond.methodLink own idx x ∈ lw_all ∧ npar x.desc = some n ∧ (lm_g q).2.2.2.iface = x.cls ∧ (lm_g q).2.2.2.name = x.name ∧ (lm_g q).2.2.2.sam.toString = x.desc ∧ (lm_g q).2.2.2.sam.parameters.length = n ∧ ∀ t ∈ (lm_g q).2.2.2.sam.parameters, lm_code t = ct
theorem ty_units : ∀ (ts : List FieldType) (ws : List Value), ts.length = ws.length → (∀ t ∈ ts, t ∈ lm_ts ∧ ∀ v ∈ ws, ev_ty (lm_code t) v = true) → (ev_lay ws).length = (ts.map FieldType.units).sum
  | [], [], _, _ => rfl
  | t :: ts, v :: ws, hl, h => by
    obtain ⟨t1, t2⟩ := h t List.mem_cons_self
    have t3 := t2 v List.mem_cons_self
    have ih := ty_units ts ws (by simpa using hl) (fun t' h' => ⟨(h t' (List.mem_cons_of_mem _ h')).1, fun v' hv' => (h t' (List.mem_cons_of_mem _ h')).2 v' (List.mem_cons_of_mem _ hv')⟩)
    simp only [lm_ts, List.mem_cons, List.not_mem_nil, or_false] at t1
    rcases t1 with rfl | rfl | rfl <;> (cases v <;> first | (simp [lm_code, ev_ty] at t3; done) | (simp [ev_lay, ev_cat2, FieldType.units, ih]; try omega))
  | [], _ :: _, hl, _ => by cases hl
  | _ :: _, [], hl, _ => by cases hl
theorem obw_ride (hts : ∀ w ∈ lw_all, w.before args s = true) (hob : obW ∈ lw_all) : ∀ U : State, s.WarmedH U.vm → obW.before #[] U = true := fun U hW => pay_in hts (lw_good fun w hw => hw) _ hob #[] U hW
theorem wt_lam (S : CallFix p m c cd nL s args lw_all own) (hob : obW ∈ lw_all) (hKK : KK D bs H0 s) {t : ev_T} {y' : Nat} {o : Nat} {r : Value} {M M1 : ev_M} {ls st st' : List Value} {b q : Nat} {ws : List Value} (hCT : CT l D bs H0 t y' (ev_caps M b (kcap (100 + q)) 0 ++ ws) M o r M1) (hty : o = 0 → RTY t.2.2.2.1 r) (hM : MOK t) (hRf : 2 * y' + 12 ≤ R.frames) (hRl : 12200 + 200 * y' ≤ R.locals) (hle : ncl M ≤ ncl M1 ∧ nsl M ≤ nsl M1) (hRc : ncl M1 ≤ R.cells + c0) (hRs : nsl M1 ≤ R.slots + s0)
    {idx cnt n ct : Nat} (hq : 1 ≤ q ∧ q ≤ 41) (hbk : mK M b = 100 + q) (hb0 : q = 30 ∨ q = 33 → mK M (mA M b 0) = 1) (h : ev_take (n + 1) [] st = some (.ref b :: ws, st')) (h8 : ¬ 8 < ev_w st') (hd : decode cd pc = .ok (.invokeinterface idx cnt, 5)) (hwt : ws.all (ev_ty ct) = true) (hLL : LLi q t) (hLc : LLc own idx n ct q)
    (k0 : o = 0 → WT p l e R s m args below meth c Q D bs H0 nL c0 s0 M0 φ0 (ls, ev_ret r st', M1) (pc + 5)) (kx : ∀ k, o = k + 1 → WX p l e R s m args below meth c Q D bs H0 nL c0 s0 M0 φ0 ls M1 k pc) : WT p l e R s m args below meth c Q D bs H0 nL c0 s0 M0 φ0 (ls, st, M) pc := by
  intro φ lsA stA H locs cells slots hE hn hR hL hS hl hc hs
  obtain ⟨As, restA, rfl, hlen, hSv, hSr⟩ := take_As h hS
  have hsum := StR_cat hSr
  have hsz : lsA.size = nL := by obtain ⟨-, l0, w, -⟩ := hL; exact w.1
  have hc' : cells + c0 = ncl M := hc
  have hs' : slots + s0 = nsl M := hs
  have hR : Rel D φ bs H0 M H := hR
  obtain ⟨bA, As, rfl, hb0', -, hSa⟩ := StR_cons hSv
  have hln2 : As.length = n := by simpa using hlen
  have hstk : (bA :: As).reverse ++ restA = As.reverse ++ bA :: restA := by simp
  rw [hstk]
  have hb1 := hR.1.2.2.2 b (by omega)
  have eb : bA = .ref (φ b) := by
    have h1 : bA = crf φ b := hb0'
    rw [h1, crf, if_neg (by omega)]
  subst eb
  obtain ⟨x, hxf, hlink, hnp, w1, w2, w3, w4, w5⟩ := hLc
  obtain ⟨F, lay, ms, mth, xc, pc', c1, c2, c3, c4, c5, c6, c7, c8, c9, c10, c11, c12, c13, c14, c15, c16, c17, c18⟩ := lm_chk_spec (lm_ok hq.1 hq.2)
  have hLM : LMF q F lay ms mth xc := ⟨c1, c2, c3, c4, c5⟩
  have hride := obw_ride S.2.2.2.2 hob
  have hKS := hKK.2.2.2.2.2.2.2.2 q hq.1 hq.2
  obtain ⟨kK, tk, methK, ck, t0, target, ⟨a1, a2, a3, a4, -⟩, ⟨b1, b2, b3, b4, b5, b6⟩, -, -, -, iface, found, g1, g2, g3⟩ := ks_made hKS (hride s (State.WarmedH.refl s)) hLM
  obtain ⟨m9, k9, cf9, i09, p09, lk9, -, -, -, -, -, -, hcall, -⟩ := hKS
  obtain ⟨i2, hi2, hasg, hway⟩ := State.lambdaCallable_spec hcall
  obtain ⟨cellB, q1, q2, q3, -⟩ := (hR.2.2.1 b).2.2.2.2 (by omega)
  rw [hbk] at q2
  have hfi := hKK.2.2.2.2.2.2.2.1 x hxf
  have hps : ∀ t ∈ (lm_g q).2.2.2.sam.parameters, t ∈ lm_ts ∧ ∀ v ∈ ws, ev_ty (lm_code t) v = true := fun t ht => ⟨c13 t ht, fun v hv => by rw [w5 t ht]; exact List.all_eq_true.mp hwt v hv⟩
  have hwl : ws.length = (lm_g q).2.2.2.sam.parameters.length := by
    rw [w4]
    have : ∀ {k : Nat} {acc st vs st' : List Value}, ev_take k acc st = some (vs, st') → vs.length = k + acc.length := by
      intro k
      induction k with
      | zero => intro acc st vs st' h; cases h; simp
      | succ k ih =>
        intro acc st vs st' h
        cases st with
        | nil => cases h
        | cons v st =>
          have := ih (acc := v :: acc) h
          rw [this, List.length_cons]; omega
    have h2 := this h
    simp only [List.length_cons, List.length_nil] at h2
    omega
  have hnl : (ev_lay (.ref b :: ws)).length ≤ ck.maxLocals := by
    have h2 := ty_units _ ws hwl.symm hps
    have h3 : (ev_lay (.ref b :: ws)).length = 1 + (ev_lay ws).length := by simp [ev_lay, ev_cat2]; omega
    rw [b3, h3, h2]
    exact c10
  have hfl : methK.accessFlags = 1 := b5.trans c6
  have hlkK : methK.locks = false := by simp [Method.locks, Method.isSynchronized, hfl, hasFlag, Acc.synchronized]
  refine af5 (lm_run5 S.1 S.2.1 S.2.2.1 S.2.2.2.1 (S.2.2.2.2 _ hlink) hfi (lm_fn x hxf) q1 (by rw [q3]; rfl) (kB := kK) (by rw [q2]; exact a1) (mk := ⟨D.2.2.2.1 (100 + q), 1⟩) a4 b1 hlkK (State.plainMethod.of_name (fun k' hk' => by
      cases a1.symm.trans hk'
      rw [a2]; exact c15)) hfl (fun i hi => by
      rw [w1] at hi2
      cases hi2.symm.trans hi
      rw [q2]; exact hasg) (fun r0 hr0 => ?_) (by rw [q2, ← w2, ← w3]; exact hway) hnp hln2 hsz (by omega) hd (R' := { frames := 2 * y' + 11, locals := 12099 + 200 * y', cells := ncl M1 - ncl M, slots := nsl M1 - nsl M }) (by show 2 * y' + 11 + 1 ≤ _; omega) (by show 8 + (ck.maxLocals + 11) + (12099 + 200 * y') ≤ _; omega) (by show cells + (ncl M1 - ncl M) ≤ _; omega) (by show slots + (nsl M1 - nsl M) ≤ _; omega) (Qc := QC D bs H0 M φ o r M1) (XC := XCC D bs H0 M φ o M1) (mc := ncl M1 - ncl M) (ms := nsl M1 - nsl M) (free := (bs ≤ ·)) (fun U below' hU hW => ?_)) hE hn hL hSr hl hc hs (by omega) (by omega) k0 kx
  · obtain ⟨cL, kL, r1, hcL, hkL, hiL, hfoundL, hn1⟩ := Cond.interfaceMethod_spec hfi.2
    cases hr0.symm.trans hn1
    rw [w1] at g1
    cases hcL.symm.trans g1
    have hfr : found = r0 := by
      have h1 : s.methodFound? x.cls x.name x.desc = some r0 := hfoundL
      simp only [State.methodFound?, hcL, hkL, hiL, Option.bind_eq_bind, Option.bind_some] at h1
      rw [w2, w3] at g2
      rw [g2] at h1
      exact Option.some.inj h1
    rw [← hfr, q2]
    exact g3
  · have hws := fun w hw => pay_in S.2.2.2.2 (lw_good fun w hw => hw) w hw (Value.ref (φ b) :: As).toArray U hW
    have hB := lm_body (e := e) (R := { frames := 2 * y' + 11, locals := 12099 + 200 * y', cells := ncl M1 - ncl M, slots := nsl M1 - nsl M }) (s := U) (m := ⟨D.2.2.2.1 (100 + q), 1⟩) (args := (Value.ref (φ b) :: As).toArray) (below := below') (meth := methK) (c := ck) (cd := ck.code) (nL := ck.maxLocals) (φ0 := φ) S.1 rfl rfl hws (hKK.warm hW) hq (fun U' hW' => hride U' (State.WarmedH.trans hW hW')) hLM rfl (by rw [b4]) hlkK (by rw [b6]; exact c7)
      (fun j hj => by rw [b2]; exact c12 j hj) (by rw [b2]; exact c16) (by rw [b2]; exact c17) (by rw [b2]; exact c18) c14 hLL hM (by show 2 * y' + 11 ≤ 2 * y' + 11; omega) (by show 12099 + 200 * y' ≤ 12099 + 200 * y'; omega) hbk hb0 hCT hty hle (by show ncl M1 ≤ ncl M1 - ncl M + ncl M; omega) (by show nsl M1 ≤ nsl M1 - nsl M + nsl M; omega) hwl hps hnl
    have hW0 := hB φ ((lg_sl (.ref (φ b) :: As) ++ List.replicate (ck.maxLocals - (lg_sl (.ref (φ b) :: As)).length) Slot.unset).toArray) [] H [] 0 0 Ext.rf (Nat.le_refl _) hR (ent_loc hSv hnl) trivial (fun _ h => nomatch h) (Nat.zero_add _) (Nat.zero_add _)
    rw [lg_entry_eq]
    exact hW0
end
