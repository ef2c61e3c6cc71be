/-! SOUNDNESS: ArrayStoreException and the bounds of System.arraycopy, ClassCastException, an exception that is made -/
def acp_kn (t : Nat) : String := Native.java_lang_System.arraycopy.kindName (katy t)
def acp_tx (t u : Nat) : String := toString "arraycopy: type mismatch: can not copy " ++ toString (acp_kn t) ++ toString "[] into " ++ toString (acp_kn u) ++ toString "[]"
theorem acp_ts : ∀ t ∈ [40, 42, 43, 44, 45, 46], ∀ u ∈ [40, 42, 43, 44, 45, 46], ((acp_tx t u) == notModelled) = false ∧ (stringBytes (stringToUtf16 (acp_tx t u))).size ≤ 300 ∧ (t ≠ u → ((refKind (katy t) != refKind (katy u)) || (!refKind (katy t) && katy t != katy u)) = true) := by decide +kernel
theorem acp_k {t : Nat} (h : ev_cpk t = true) (h48 : ¬ t = 48) : t ∈ [40, 42, 43, 44, 45, 46] := by
  rcases cpk_cs h with h | h | h | h | h | h | h <;> first | exact absurd h h48 | (rw [h]; decide)
theorem acp_kl : ∀ t ∈ [40, 42, 43, 44, 45, 46], (acp_kn t).toList.length ≤ 7 ∧ ((refKind (katy t) != refKind (katy t)) || (!refKind (katy t) && katy t != katy t)) = false := by decide +kernel
theorem int_print {z : Int} (h1 : -10 ^ 10 < z) (h2 : z < 10 ^ 10) : (toString z).toList.length ≤ 11 := by
  show (Int.repr z).toList.length ≤ 11
  cases h : z with
  | ofNat m =>
    rw [h] at h2
    have h2' : (m : Int) < 10 ^ 10 := h2
    have := nat_print (n := m) (by omega)
    show (toString m).toList.length ≤ 11
    omega
  | negSucc m =>
    rw [h] at h1
    have h1' : -(10 : Int) ^ 10 < -((m : Int) + 1) := by simpa [Int.negSucc_eq] using h1
    have := nat_print (n := m.succ) (by omega)
    show ("-" ++ toString m.succ).toList.length ≤ 11
    rw [String.toList_append, List.length_append]
    have h0 : "-".toList.length = 1 := by decide
    omega
theorem tx_ok {x : String} (h : x.toList.length ≤ 89) : (("arraycopy: " ++ x) == notModelled) = false ∧ (stringBytes (stringToUtf16 ("arraycopy: " ++ x))).size ≤ 400 := by
  refine ⟨?_, ?_⟩
  · rw [beq_eq_false_iff_ne]
    intro q
    have h2 := congrArg String.toList q
    rw [String.toList_append] at h2
    have h3 : "arraycopy: ".toList = 'a' :: "rraycopy: ".toList := by decide
    have h4 : notModelled.toList = '\u0000' :: " a message that is not modelled".toList := by decide
    rw [h3, h4] at h2
    simp at h2
  · have b1 := stringBytes_size_le (stringToUtf16 ("arraycopy: " ++ x))
    have b2 := utf16_size_le ("arraycopy: " ++ x)
    rw [String.toList_append, List.length_append] at b2
    have h0 : "arraycopy: ".toList.length = 11 := by decide
    omega
theorem cf_text {t : FieldType} (ht : (Native.java_lang_System.arraycopy.kindName t).toList.length ≤ 7) {sl dl : Nat} (h1 : sl ≤ 100000) (h2 : dl ≤ 100000) {sp dp n : Int32} {what : String} (h : copyFault t t sl dl sp dp n = some what) : what.toList.length ≤ 89 := by
  have e1 := nat_print (n := sl) (by omega)
  have e2 := nat_print (n := dl) (by omega)
  have e3 := int32_print sp
  have e4 := int32_print dp
  have e5 := int32_print n
  have q1 := Int32.toInt_lt sp
  have q2 := Int32.le_toInt sp
  have q3 := Int32.toInt_lt dp
  have q4 := Int32.le_toInt dp
  have q5 := Int32.toInt_lt n
  have q6 := Int32.le_toInt n
  have e6 := int_print (z := sp.toInt + n.toInt) (by omega) (by omega)
  have e7 := int_print (z := dp.toInt + n.toInt) (by omega) (by omega)
  have ts : ∀ x : String, toString x = x := fun _ => rfl
  have k1 : "source index ".toList.length = 13 := by decide
  have k2 : " out of bounds for ".toList.length = 19 := by decide
  have k3 : "destination index ".toList.length = 18 := by decide
  have k4 : "length ".toList.length = 7 := by decide
  have k5 : " is negative".toList.length = 12 := by decide
  have k6 : "last source index ".toList.length = 18 := by decide
  have k7 : "last destination index ".toList.length = 23 := by decide
  have k8 : "[".toList.length = 1 := by decide
  have k9 : "]".toList.length = 1 := by decide
  have k0 : "".toList.length = 0 := by decide
  unfold copyFault at h
  split at h
  · cases h
    simp only [ts, String.toList_append, List.length_append, k1, k2, k8, k9, k0]
    omega
  · split at h
    · cases h
      simp only [ts, String.toList_append, List.length_append, k3, k2, k8, k9, k0]
      omega
    · split at h
      · cases h
        simp only [ts, String.toList_append, List.length_append, k4, k5, k0]
        omega
      · split at h
        · cases h
          simp only [ts, String.toList_append, List.length_append, k6, k2, k8, k9, k0]
          omega
        · split at h
          · cases h
            simp only [ts, String.toList_append, List.length_append, k7, k2, k8, k9, k0]
            omega
          · cases h
theorem cf_some {t u : FieldType} {sl dl : Nat} {sp dp n : Int32} (h : n.toInt < 0 ∨ sp.toInt < 0 ∨ dp.toInt < 0 ∨ (sl : Int) < sp.toInt + n.toInt ∨ (dl : Int) < dp.toInt + n.toInt) : ∃ what, copyFault t u sl dl sp dp n = some what := by
  unfold copyFault
  split
  · exact ⟨_, rfl⟩
  · rename_i g1
    split
    · exact ⟨_, rfl⟩
    · rename_i g2
      split
      · exact ⟨_, rfl⟩
      · rename_i g3
        split
        · exact ⟨_, rfl⟩
        · rename_i g4
          split
          · exact ⟨_, rfl⟩
          · rename_i g5
            rw [Int32.lt_iff_toInt_lt, Int32.toInt_zero] at g1 g2 g3
            exfalso
            omega
/-- names of primitive arrays; the message of a cast between them -/
def cce_ns : List String := ["[S", "[I", "[F", "[D", "[Z"]
def cce_tx (b : Bool) (x y : String) : String := toString "class " ++ toString (dotted x) ++ toString " cannot be cast to class " ++ toString (dotted y) ++ toString " (" ++ toString (toString (dotted x) ++ toString " and " ++ toString (dotted y) ++ toString " are in " ++ toString ((if b = true then "module java.base" else "unnamed module") ++ " of loader " ++ "'bootstrap'")) ++ toString ")"
def cce_p (b : Bool) (x : String) : Prop := ∀ y ∈ cce_ns, ((cce_tx b x y) == notModelled) = false ∧ (stringBytes (stringToUtf16 (cce_tx b x y))).size ≤ 300
theorem cce_tt0 : cce_p true "[S" := by unfold cce_p; decide +kernel
theorem cce_tt1 : cce_p true "[I" := by unfold cce_p; decide +kernel
theorem cce_tt2 : cce_p true "[F" := by unfold cce_p; decide +kernel
theorem cce_tt3 : cce_p true "[D" := by unfold cce_p; decide +kernel
theorem cce_tt4 : cce_p true "[Z" := by unfold cce_p; decide +kernel
theorem cce_tf0 : cce_p false "[S" := by unfold cce_p; decide +kernel
theorem cce_tf1 : cce_p false "[I" := by unfold cce_p; decide +kernel
theorem cce_tf2 : cce_p false "[F" := by unfold cce_p; decide +kernel
theorem cce_tf3 : cce_p false "[D" := by unfold cce_p; decide +kernel
theorem cce_tf4 : cce_p false "[Z" := by unfold cce_p; decide +kernel
theorem cce_ts (b : Bool) : ∀ x ∈ cce_ns, ∀ y ∈ cce_ns, ((cce_tx b x y) == notModelled) = false ∧ (stringBytes (stringToUtf16 (cce_tx b x y))).size ≤ 300 := by
  intro x hx
  simp only [cce_ns, List.mem_cons, List.not_mem_nil, or_false] at hx
  cases b
  · rcases hx with rfl | rfl | rfl | rfl | rfl
    · exact cce_tf0
    · exact cce_tf1
    · exact cce_tf2
    · exact cce_tf3
    · exact cce_tf4
  · rcases hx with rfl | rfl | rfl | rfl | rfl
    · exact cce_tt0
    · exact cce_tt1
    · exact cce_tt2
    · exact cce_tt3
    · exact cce_tt4
theorem cce_1 : ∀ x ∈ cce_ns, ((withoutBrackets x).length == 1) = true := by decide +kernel
theorem findC {vm : Vm} {name : String} {c : ClassId} (h : vm.findClass name = some c) : ∃ k, vm.classes[c]? = some k ∧ k.name = name ∧ k.hidden = none ∧ k.loader = none := by
  obtain ⟨hlt, hp, _⟩ := Array.findIdx?_eq_some_iff_getElem.mp h
  simp only [Bool.and_eq_true, beq_iff_eq, Option.isNone_iff_eq_none] at hp
  exact ⟨vm.classes[c], by simp [hlt], hp.1.1.1, hp.1.1.2, hp.2⟩
theorem cce_msg {vm : Vm} {ks kt : Class} {x y : String} (hx : x ∈ cce_ns) (hy : y ∈ cce_ns) (h1 : ks.name = x ∧ ks.hidden = none ∧ ks.loader = none) (h2 : kt.name = y ∧ kt.hidden = none ∧ kt.loader = none)
    (a1 : ∃ c t, ks.kind = .array c t) (a2 : ∃ c t, kt.kind = .array c t) : ∃ b : Bool, checkcast.message vm ks kt = cce_tx b x y := by
  have p1 : ks.ofPrimitives = true := by
    obtain ⟨c, t, h⟩ := a1
    unfold Class.ofPrimitives
    rw [h]
    show ((withoutBrackets ks.name).length == 1) = true
    rw [h1.1]; exact cce_1 x hx
  have p2 : kt.ofPrimitives = true := by
    obtain ⟨c, t, h⟩ := a2
    unfold Class.ofPrimitives
    rw [h]
    show ((withoutBrackets kt.name).length == 1) = true
    rw [h2.1]; exact cce_1 y hy
  have m1 : vm.moduleOf ks = vm.modules.find? (·.name == "java.base") := by unfold Vm.moduleOf; rw [if_pos p1]
  have m2 : vm.moduleOf kt = vm.modules.find? (·.name == "java.base") := by unfold Vm.moduleOf; rw [if_pos p2]
  have s1 : ks.shown = dotted x := by unfold Class.shown; rw [h1.2.1, h1.1]
  have s2 : kt.shown = dotted y := by unfold Class.shown; rw [h2.2.1, h2.1]
  have sm : vm.sameModule ks kt = true := by
    unfold Vm.sameModule
    rw [m1, m2]
    cases vm.modules.find? (·.name == "java.base") with
    | none => rw [h1.2.2, h2.2.2]; rfl
    | some q => exact beq_self_eq_true _
  have hm : ∃ b : Bool, vm.home ks = (if b = true then "module java.base" else "unnamed module") ++ " of loader " ++ "'bootstrap'" := by
    unfold Vm.home
    rw [m1, h1.2.2]
    cases hq : vm.modules.find? (·.name == "java.base") with
    | none => exact ⟨false, rfl⟩
    | some q =>
      have hn : q.name = "java.base" := by have := List.find?_some hq; simpa using this
      refine ⟨true, ?_⟩
      show "module " ++ q.name ++ " of loader " ++ _ = _
      rw [hn]
      rfl
  obtain ⟨b, hb⟩ := hm
  refine ⟨b, ?_⟩
  unfold checkcast.message Vm.homes
  rw [if_pos sm, s1, s2, hb]
  rfl
/-- a cast that may fail: between arrays of primitives alone -/
def LKcN (own : String) (idx : Nat) (ar : List Nat) : Prop := match ar with
  | n :: ks => ∃ nm, Cond.classLink own idx nm ∈ lw_all ∧ nm ∈ cce_ns ∧ ∀ q ∈ ks.drop n, q ∈ [40, 42, 43, 44, 46] ∧ (knm q, nm) ∈ nc_prs
  | _ => True
theorem cce_kn : ∀ q ∈ [40, 42, 43, 44, 46], knm q ∈ cce_ns ∧ kk_ok q := by
  intro q hq
  simp only [List.mem_cons, List.not_mem_nil, or_false] at hq
  rcases hq with rfl | rfl | rfl | rfl | rfl <;> exact ⟨by decide +kernel, Or.inr (by decide)⟩
section
variable {p : Program} {l : Launch} {e : Env} {R : Room} {s : State} {m : MethodId} {args : Array Value} {below : List Frame} {meth : Method} {c : Code} {Q : State → Prop}
variable {D : rl_D} {bs : Nat} {H0 : Heap} {nL c0 s0 : Nat} {M0 : ev_M} {φ0 : Nat → Nat} {cd : ByteArray} {pc : Nat} {own : String}
theorem vt_acpS (hx : p.tables.exec = Jvm.exec) (hb : c.code = cd) (hTR : THR l R s meth c bs H0 nL) (hts : ∀ w ∈ lw_all, w.before args s = true) (hown : s.vm.findClass own = some m.cls) (hKK : KK D bs H0 s) {idx : Nat} (hlk : LKnat own idx arraycopyName) (hd : decode cd pc = .ok (.invokestatic idx, 3))
    {n dp sp : Int32} {a b : Nat} {ls st : List Value} {M : ev_M} (ha : ev_cpk (mK M a) = true) (hb9 : ev_cpk (mK M b) = true) (hab : ¬ mK M a = mK M b) (ha48 : ¬ mK M a = 48) (hb48 : ¬ mK M b = 48)
    (hw : ¬ 1000 < ev_w (.int n :: .int dp :: .ref b :: .int sp :: .ref a :: st)) (hfr9 : 9 < R.frames) (hRc : ncl M + 3 ≤ R.cells + c0) (hRs : nsl M + 310 ≤ R.slots + s0) (kk : WX p l e R s m args below meth c Q D bs H0 nL c0 s0 M0 φ0 ls (wX M 3 310) 4 pc) :
    WT p l e R s m args below meth c Q D bs H0 nL c0 s0 M0 φ0 (ls, .int n :: .int dp :: .ref b :: .int sp :: .ref a :: st, M) pc := by
  intro φ lsA stA H locs cells slots hE hn hR hL hS hl hc hs
  have hR : Rel D φ bs H0 M H := hR
  obtain ⟨v0, r, rfl, hv0, -, hS0⟩ := StR_cons hS
  obtain ⟨v1, r, rfl, hv1, -, hS1⟩ := StR_cons hS0
  obtain ⟨v2, r, rfl, hv2, -, hS2⟩ := StR_cons hS1
  obtain ⟨v3, r, rfl, hv3, -, hS3⟩ := StR_cons hS2
  obtain ⟨v4, r, rfl, hv4, -, hS4⟩ := StR_cons hS3
  cases hv0
  cases hv1
  cases hv3
  have ka := acp_k ha ha48
  have kb := acp_k hb9 hb48
  have hma : mK M a ∈ kA ∧ 40 ≤ mK M a ∧ mK M a < 60 := by
    rcases cpk_cs ha with h | h | h | h | h | h | h <;> (rw [h]; decide)
  have hmb : mK M b ∈ kA ∧ 40 ≤ mK M b ∧ mK M b < 60 := by
    rcases cpk_cs hb9 with h | h | h | h | h | h | h <;> (rw [h]; decide)
  have e2 := kref hR hv2 (Or.inr ⟨hmb.1, hmb.2.2⟩)
  have e4 := kref hR hv4 (Or.inr ⟨hma.1, hma.2.2⟩)
  subst e2
  subst e4
  have hca := (hR.2.2.1 a).2.2.1 hma.2.1 hma.2.2
  have hcb := (hR.2.2.1 b).2.2.1 hmb.2.1 hmb.2.2
  obtain ⟨-, kA0, hkA, compA, hkindA⟩ := (hKK.1.2 _ hma.1).1 0 (fun _ => .null)
  obtain ⟨-, kB0, hkB, compB, hkindB⟩ := (hKK.1.2 _ hmb.1).1 0 (fun _ => .null)
  have hsum := StR_cat hS4
  have hw2 : ev_w st ≤ 1000 := by simp only [ev_w] at hw; omega
  obtain ⟨t1, t2, t3⟩ := acp_ts _ ka _ kb
  refine nt_acp hx hb hTR hts hown hKK hlk hd (k := 4) (Or.inr rfl) t1 t2 (by decide) hE hn hR hL hl hc hs (by omega) hfr9 hRc hRs kk ?_
  intro T vm₁ fs E hT hal hE4
  obtain ⟨kA1, hkA1, hea⟩ := hal.2.2 _ _ hkA
  obtain ⟨kB1, hkB1, heb⟩ := hal.2.2 _ _ hkB
  exact Jvm.W.arraycopy_types (s := (T.setVm vm₁).setFrames fs) (cs := arrV (D.2.2.1 (mK M a)) (mN M a) (fun j => fv φ M (kat (mK M a)) a j)) (cd := arrV (D.2.2.1 (mK M b)) (mN M b) (fun j => fv φ M (kat (mK M b)) b j)) (ks := kA1) (kd := kB1) (sType := katy (mK M a)) (dType := katy (mK M b)) (sComp := compA) (dComp := compB)
    (show T.heap[φ a]? = _ by rw [hT]; exact hca) (show T.heap[φ b]? = _ by rw [hT]; exact hcb) (fun _ h => by cases h) (fun _ h => by cases h) hkA1 hkB1 (by rw [hea]; exact hkindA) (by rw [heb]; exact hkindB) (t3 hab) (hE4 _)
theorem vt_acpB (hx : p.tables.exec = Jvm.exec) (hb : c.code = cd) (hTR : THR l R s meth c bs H0 nL) (hts : ∀ w ∈ lw_all, w.before args s = true) (hown : s.vm.findClass own = some m.cls) (hKK : KK D bs H0 s) {idx : Nat} (hlk : LKnat own idx arraycopyName) (hd : decode cd pc = .ok (.invokestatic idx, 3))
    {n dp sp : Int32} {a b : Nat} {ls st : List Value} {M : ev_M} (ha : ev_cpk (mK M a) = true) (hab : mK M b = mK M a) (ha48 : ¬ mK M a = 48) (hf : n.toInt < 0 ∨ sp.toInt < 0 ∨ dp.toInt < 0 ∨ mN M a < sp.toInt + n.toInt ∨ mN M b < dp.toInt + n.toInt) (hna : mN M a ≤ 100000) (hnb : mN M b ≤ 100000)
    (hw : ¬ 1000 < ev_w (.int n :: .int dp :: .ref b :: .int sp :: .ref a :: st)) (hfr9 : 9 < R.frames) (hRc : ncl M + 3 ≤ R.cells + c0) (hRs : nsl M + 410 ≤ R.slots + s0) (kk : WX p l e R s m args below meth c Q D bs H0 nL c0 s0 M0 φ0 ls (wX M 3 410) 3 pc) :
    WT p l e R s m args below meth c Q D bs H0 nL c0 s0 M0 φ0 (ls, .int n :: .int dp :: .ref b :: .int sp :: .ref a :: st, M) pc := by
  intro φ lsA stA H locs cells slots hE hn hR hL hS hl hc hs
  have hR : Rel D φ bs H0 M H := hR
  obtain ⟨v0, r, rfl, hv0, -, hS0⟩ := StR_cons hS
  obtain ⟨v1, r, rfl, hv1, -, hS1⟩ := StR_cons hS0
  obtain ⟨v2, r, rfl, hv2, -, hS2⟩ := StR_cons hS1
  obtain ⟨v3, r, rfl, hv3, -, hS3⟩ := StR_cons hS2
  obtain ⟨v4, r, rfl, hv4, -, hS4⟩ := StR_cons hS3
  cases hv0
  cases hv1
  cases hv3
  have ka := acp_k ha ha48
  have hma : mK M a ∈ kA ∧ 40 ≤ mK M a ∧ mK M a < 60 := by
    rcases cpk_cs ha with h | h | h | h | h | h | h <;> (rw [h]; decide)
  have e2 := kref hR hv2 (Or.inr (by rw [hab]; exact ⟨hma.1, hma.2.2⟩))
  have e4 := kref hR hv4 (Or.inr ⟨hma.1, hma.2.2⟩)
  subst e2
  subst e4
  have hca := (hR.2.2.1 a).2.2.1 hma.2.1 hma.2.2
  have hcb := (hR.2.2.1 b).2.2.1 (by rw [hab]; exact hma.2.1) (by rw [hab]; exact hma.2.2)
  rw [hab] at hcb
  obtain ⟨-, kA0, hkA, compA, hkindA⟩ := (hKK.1.2 _ hma.1).1 0 (fun _ => .null)
  have hsum := StR_cat hS4
  have hw2 : ev_w st ≤ 1000 := by simp only [ev_w] at hw; omega
  obtain ⟨t1, t2⟩ := acp_kl _ ka
  obtain ⟨what, hwhat⟩ := cf_some (t := katy (mK M a)) (u := katy (mK M a)) hf
  have htx := tx_ok (cf_text t1 hna hnb hwhat)
  refine nt_acp hx hb hTR hts hown hKK hlk hd (k := 3) (nb := 400) (Or.inl rfl) htx.1 htx.2 (by decide) hE hn hR hL hl hc hs (by omega) hfr9 hRc hRs kk ?_
  intro T vm₁ fs E hT hal hE4
  obtain ⟨kA1, hkA1, hea⟩ := hal.2.2 _ _ hkA
  exact Jvm.W.arraycopy_bounds (s := (T.setVm vm₁).setFrames fs) (cs := arrV (D.2.2.1 (mK M a)) (mN M a) (fun j => fv φ M (kat (mK M a)) a j)) (cd := arrV (D.2.2.1 (mK M a)) (mN M b) (fun j => fv φ M (kat (mK M a)) b j)) (ks := kA1) (kd := kA1) (sType := katy (mK M a)) (dType := katy (mK M a)) (sComp := compA) (dComp := compA) (what := what)
    (show T.heap[φ a]? = _ by rw [hT]; exact hca) (show T.heap[φ b]? = _ by rw [hT]; exact hcb) (fun _ h => by cases h) (fun _ h => by cases h) hkA1 hkA1 (by rw [hea]; exact hkindA) (by rw [hea]; exact hkindA) t2 (by rw [arrV_size, arrV_size]; exact hwhat) (hE4 _)
theorem cc_fails {T : State} {locs : List Loc} {cells slots : Nat} (X : Stand p l e R s m args below meth c T locs cells slots) (hexec : p.tables.exec = Jvm.exec)
    {own name : String} {index : Nat} (hown : s.vm.findClass own = some m.cls) (hlink : (Cond.classLink own index name).before args s = true)
    {a : Addr} {cell : Cell} {cT : ClassId} {ks : Class} (hcell : T.heap[a]? = some cell) (hobj : cell.vm.isStatics = false) (hks : s.vm.classes[cell.cls]? = some ks) (hcT : s.vm.findClass name = some cT) (hasg : s.vm.assignable cell.cls cT = false)
    {g : JFrame} (hg : g.method = m) {rest : List Value} (hstack : g.stack = .ref a :: rest) (hdg : decode c.code g.pc = .ok (.checkcast index, 3)) :
    ∃ (vm' : Vm) (ks' kt' : Class), Stand p l e R s m args below meth c (T.setVm vm') locs cells slots ∧ s.vm.Alike vm' ∧ vm'.classes[cell.cls]? = some ks' ∧ vm'.classes[cT]? = some kt' ∧
      ∀ target, Steps p.tables e below (((T.setVm vm').setTop g).pushFrame (.throwNew "java/lang/ClassCastException" (some (checkcast.message vm' ks' kt')) none)) target → Steps p.tables e below (T.setTop g) target := by
  have hpl : e.platform.magicAccessors = ({} : Platform).magicAccessors := by rw [X.admits.platform]
  obtain ⟨c', hc', hcl⟩ := Cond.classLink_spec hown hlink e.platform hpl
  cases hcT.symm.trans hc'
  obtain ⟨dk, _, _, kt, hd, _, _, _, _, hkt, _, hopen⟩ := hcl.here
  have hcl₀ := X.warmed.classLinks hcl
  have hW' : s.WarmedH (T.vm.noted m.cls index (.cls cT)) := X.warmed.noted hd hopen (State.rightAt_cls hcl)
  obtain ⟨ks', hks', -⟩ := hW'.alike.2.2 _ _ hks
  obtain ⟨kt', hkt', -⟩ := hW'.alike.2.2 _ _ hkt
  refine ⟨_, ks', kt', X.noted hW', hW'.alike, hks', hkt', fun target hrest => ?_⟩
  have h1 : (T.vm.noted m.cls index (Resolved.cls cT)).assignable cell.cls cT = false := by rw [hW'.alike.assignable]; exact hasg
  subst hg
  jvm_step X.here [hexec, hdg, checkcast.wp_cold (e := e) (s := T) (f := g) X.here.top hstack (resolveClass_links e.toSetting hcl₀) hcl₀.ready,
    checkcast.wp_ready (e := e) (s := T.setVm (T.vm.noted g.method.cls index (.cls cT))) (f := g) X.here.top hcl₀.ready hstack]
  refine ⟨cell, hcell, VmData.noStatics_of hobj, ks', hks', kt', hkt', ?_⟩
  rw [if_neg (by rw [h1]; decide)]
  exact hrest
theorem vt_cce (hx : p.tables.exec = Jvm.exec) (hb : c.code = cd) (hTR : THR l R s meth c bs H0 nL) (hts : ∀ w ∈ lw_all, w.before args s = true) (hown : s.vm.findClass own = some m.cls) (hKK : KK D bs H0 s) {idx n : Nat} {ks : List Nat} (hlk : LKcN own idx (n :: ks)) (hd : decode cd pc = .ok (.checkcast idx, 3))
    {a : Nat} {ls st : List Value} {M : ev_M} (ha : (ks.drop n).contains (mK M a) = true) (hw : ¬ 1000 < ev_w (.ref a :: st)) (hRc : ncl M + 3 ≤ R.cells + c0) (hRs : nsl M + 310 ≤ R.slots + s0) (kk : WX p l e R s m args below meth c Q D bs H0 nL c0 s0 M0 φ0 ls (wX M 3 310) 2 pc) :
    WT p l e R s m args below meth c Q D bs H0 nL c0 s0 M0 φ0 (ls, .ref a :: st, M) pc := by
  intro φ lsA stA H locs cells slots hE hn hR hL hS hl hc hs
  have hR : Rel D φ bs H0 M H := hR
  obtain ⟨y, r, rfl, hy0, -, hS2⟩ := StR_cons hS
  obtain ⟨nm, l1, l2, l3⟩ := hlk
  obtain ⟨q1, q2⟩ := l3 _ (List.contains_iff_mem.mp ha)
  obtain ⟨q3, q4⟩ := cce_kn _ q1
  have ey := kref hR hy0 q4
  subst ey
  have hsum := StR_cat hS
  have hw2 : ev_w (.ref a :: st) ≤ 1000 := by omega
  have hmA : mK M a ∈ kA ∧ 40 ≤ mK M a ∧ mK M a < 60 ∧ mK M a ≠ 48 ∧ mK M a ≠ 49 ∧ mK M a ≠ 50 ∧ mK M a ≠ 51 ∧ mK M a ≠ 52 := by
    simp only [List.mem_cons, List.not_mem_nil, or_false] at q1
    rcases q1 with h | h | h | h | h <;> (rw [h]; decide)
  have hcell := (hR.2.2.1 a).2.2.1 hmA.2.1 hmA.2.2.1
  obtain ⟨-, kA0, hkA, compA, hkindA⟩ := (hKK.1.2 _ hmA.1).1 0 (fun _ => .null)
  have hfA : s.vm.findClass (knm (mK M a)) = some (D.2.2.1 (mK M a)) := by
    obtain ⟨cell, g1, g2, g3⟩ := kcell hKK.1 hR q4
    cases hcell.symm.trans g1
    exact g3
  obtain ⟨cA, cT, f1, f2, f3⟩ := hKK.2.2.1 _ q2
  cases hfA.symm.trans f1
  -- the class cast to is an array of primitives too
  have hnmK : ∃ q ∈ [40, 42, 43, 44, 46], knm q = nm := by
    have : ∀ x ∈ cce_ns, ∃ q ∈ [40, 42, 43, 44, 46], knm q = x := by
      intro x hx
      simp only [cce_ns, List.mem_cons, List.not_mem_nil, or_false] at hx
      rcases hx with rfl | rfl | rfl | rfl | rfl
      · exact ⟨46, by decide, by decide +kernel⟩
      · exact ⟨40, by decide, by decide +kernel⟩
      · exact ⟨42, by decide, by decide +kernel⟩
      · exact ⟨43, by decide, by decide +kernel⟩
      · exact ⟨44, by decide, by decide +kernel⟩
    exact this nm l2
  obtain ⟨qt, hqt, hqn⟩ := hnmK
  have hmT : qt ∈ kA ∧ qt < 60 ∧ ¬ qt ≤ 21 := by
    simp only [List.mem_cons, List.not_mem_nil, or_false] at hqt
    rcases hqt with h | h | h | h | h <;> (rw [h]; decide)
  have hfT : s.vm.findClass nm = some (D.2.2.1 qt) := by
    have h1 := (hKK.1.2 _ hmT.1).2 hmT.2.1
    rw [← hqn]
    unfold knm
    rw [if_neg hmT.2.2]
    generalize katy qt = ty at h1 ⊢
    cases ty with
    | object C => obtain ⟨-, -, -, -, -, h2⟩ := h1; exact h2
    | _ => exact h1
  cases f2.symm.trans hfT
  obtain ⟨-, kT0, hkT, compT, hkindT⟩ := (hKK.1.2 _ hmT.1).1 0 (fun _ => .null)
  intro T hT X
  obtain ⟨vm', ks', kt', X', hal, hks', hkt', stp0⟩ := cc_fails X hx hown (hts _ l1) (cell := arrV (D.2.2.1 (mK M a)) (mN M a) (fun j => fv φ M (kat (mK M a)) a j)) (by rw [hT]; exact hcell) rfl hkA f2 f3 (g := F0 m pc lsA (.ref (φ a) :: r)) rfl (rest := r) rfl (by rw [hb]; exact hd)
  have hfA' : vm'.findClass (knm (mK M a)) = some (D.2.2.1 (mK M a)) := by rw [hal.findClass]; exact hfA
  have hfT' : vm'.findClass nm = some (D.2.2.1 qt) := by rw [hal.findClass]; exact hfT
  obtain ⟨k1, hk1, n1⟩ := findC hfA'
  obtain ⟨k2, hk2, n2⟩ := findC hfT'
  obtain ⟨k3, hk3, hke⟩ := hal.2.2 _ _ hkA
  obtain ⟨k4, hk4, hte⟩ := hal.2.2 _ _ hkT
  cases hk1.symm.trans hks'
  cases hk2.symm.trans hkt'
  cases hk1.symm.trans hk3
  cases hk2.symm.trans hk4
  obtain ⟨b, hmsg⟩ := cce_msg (vm := vm') q3 l2 n1 n2 ⟨compA, _, by rw [hke]; exact hkindA⟩ ⟨compT, _, by rw [hte]; exact hkindT⟩
  have htx := cce_ts b _ q3 _ l2
  have hsum1 : ((Value.ref (φ a) :: r).map fun v => v.category).sum ≤ ev_w (.ref a :: st) := hsum
  have hnote := note_ok (rest := .ref (φ a) :: r) hx hTR hts hKK (k := 2) (by omega) htx.1 htx.2 hE hn hR hL hl hc hs (by omega) hRc hRs kk
  obtain ⟨t, stp, q⟩ := hnote (T.setVm vm') hT X'
  refine ⟨t, stp0 t ?_, q⟩
  rw [hmsg]
  exact stp
/-- an exception of arithmetic that is made and thrown (Math's exact sums and products) -/
def LKar (own : String) (cd : ByteArray) (pc idx : Nat) : Prop := own = "java/lang/Math" ∧ (∃ is tx ad, (own, is, tx, ad) ∈ sx_prs ∧ decode cd (pc + 4) = .ok (.ldc is, 2)) ∧ Cond.classLink own idx (exn 6) ∈ lw_all ∧ Cond.initialized (exn 6) ∈ lw_all ∧ decode cd (pc + 3) = .ok (.dup, 1) ∧ decode cd (pc + 6) = .ok (.invokespecial 113, 3) ∧ decode cd (pc + 9) = .ok (.athrow, 1)
theorem vt_new (hx : p.tables.exec = Jvm.exec) (hb : c.code = cd) (hTR : THR l R s meth c bs H0 nL) (hts : ∀ w ∈ lw_all, w.before args s = true) (hown : s.vm.findClass own = some m.cls) (hKK : KK D bs H0 s) {idx : Nat} (hlk : LKar own cd pc idx) (hd : decode cd pc = .ok (.new idx, 3)) (hXT : ∀ x ∈ c.exceptionTable.toList, False)
    {ls st : List Value} {M M' : ev_M} {o : Nat} {r : Value} (ho : o = 7) (hM' : M' = wX M 3 310) (hw : ¬ 1000 < ev_w st) (hRc : ncl M + 3 ≤ R.cells + ncl M0) (hRs : nsl M + 310 ≤ R.slots + nsl M0) :
    WT p l e R s m args below meth c (FQ below args s D bs H0 M0 φ0 o r M') D bs H0 nL (ncl M0) (nsl M0) M0 φ0 (ls, st, M) pc := by
  intro φ lsA stA H locs cells slots hE hn hR hL hS hl hc hs
  have hR : Rel D φ bs H0 M H := hR
  have hsum := StR_cat hS
  have hc' : cells + ncl M0 = ncl M := hc
  have hs' : slots + nsl M0 = nsl M := hs
  have hsz : lsA.size = nL := by obtain ⟨-, l0, w, -⟩ := hL; exact w.1
  have hrow := ew_use hts hKK.2.1 ew_6 ek_6
  have hz := kz_s hKK hTR.2.2.2.1
  obtain ⟨hown9, ⟨is, tx, ad, h1, h2⟩, h3, h7, h4, h5, h6⟩ := hlk
  subst hown9
  have hot : ∀ w ∈ lw_all, vx_ot w = true := fun w hw => by
    have := (List.mem_filter.mp hw).2
    unfold vx_ot
    rw [this, Bool.or_true]
  intro T hT X
  have hsumA : (stA.map fun v => v.category).sum ≤ ev_w st := StR_cat hS
  have hfr := vx_frame X.same
  have hSv : va_S (bs ≤ ·) s.heap H locs := ⟨by rw [← hT]; exact hfr.1, fun q _ h => by rw [hR.2.2.2.2.1.2 q (Nat.lt_of_not_le h), hTR.2.2.2.1 q (Nat.lt_of_not_le h)], hl⟩
  have e1 : ncl M' = ncl M + 3 := by rw [hM']; rfl
  have e2 : nsl M' = nsl M + 310 := by rw [hM']; rfl
  have e3 : nx M' = nx M := by rw [hM']; rfl
  exact vx_throwS hx hb hTR.1 (own := "java/lang/Math") (cls := exn 6) (text := tx) (names := exsup 6) (ik := idx) (is := is) (ic := 113) (mc := ncl M' - ncl M0) (ms := nsl M' - nsl M0) (sa := D.2.2.2.2 ad) (A := (bs ≤ ·)) hown (by decide +kernel) (by decide +kernel) (hts _ h3) (hts _ h7) (hKK.2.2.2.1.1 _ h1) hrow.1
    (fun w hw => by
      rcases List.mem_cons.mp hw with rfl | hw
      · exact hot _ h3
      · rcases List.mem_cons.mp hw with rfl | hw
        · exact hot _ h7
        · exact hrow.2 w hw) hz.1 hz.2 hSv (by rw [hTR.2.1]; exact hsz) hd h4 h2 h5 h6 (fun x hx => (hXT x hx).elim) (by have := hTR.2.2.2.2.1; have h9 : (exsup 6).length ≤ 3 := (by decide); omega) (by have := hTR.2.2.2.2.2; have h9 : (exsup 6).length ≤ 3 := (by decide); omega) (by omega) (by omega) hTR.2.2.1
    (fun t _ g1 g2 => ⟨by rw [e3]; exact hn, 6, φ, ho, rfl, hE, by rw [hM']; exact hR.grow 3 310 g1 g2⟩) hl (by omega) (by omega) T hT X
end
