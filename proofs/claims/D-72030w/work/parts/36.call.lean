/-! SOUNDNESS: calls (by gen/call.py) -/
abbrev ev_T : Type := MethodName × ByteArray × Nat × Option FieldType × Option (List (Nat × Nat × Nat × Nat))
def t_word (t : ev_T) : Cond := match t.2.2.2.2 with
  | none => .code t.1 t.2.1 t.2.2.1 t.2.2.2.1
  | some hh => .codeWith t.1 t.2.1 t.2.2.1 t.2.2.2.1 hh
/-- a method's room -/
def rmY (y mc ms : Nat) : Room := { frames := 2 * y + 10, locals := 12000 + 200 * y, cells := mc, slots := ms }
def npar (d : String) : Option Nat := (parseMethodDescriptor d).map fun d => d.parameters.length
def noVH (y : String) : Prop := y ≠ "java/lang/invoke/MethodHandle" ∧ y ≠ "java/lang/invoke/VarHandle"
def MOK (t : ev_T) : Prop := t_word t ∈ lw_all ∧ Cond.initialized t.1.cls ∈ lw_all ∧ plainFor t.1 = true ∧ noVH t.1.cls ∧ t.2.2.1 ≤ 80
def PC (D : rl_D) (bs : Nat) (H0 : Heap) (φ : Nat → Nat) (vs : List Value) (M : ev_M) : Array Value → State → Prop := fun a U => (∃ As : List Value, a = As.toArray ∧ StR φ M vs As) ∧ Rel D φ bs H0 M U.heap ∧ KK D bs H0 U
/-- a method's contract, for one run of it -/
def CT (l : Launch) (D : rl_D) (bs : Nat) (H0 : Heap) (t : ev_T) (y : Nat) (vs : List Value) (M : ev_M) (o : Nat) (r : Value) (M' : ev_M) : Prop :=
  ∀ φ : Nat → Nat, vx_Met l t.1 (t_word t :: lw_all) (rmY y (ncl M' - ncl M) (nsl M' - nsl M)) (PC D bs H0 φ vs M) (QC D bs H0 M φ o r M') (XCC D bs H0 M φ o M') (ncl M' - ncl M) (nsl M' - nsl M) (bs ≤ ·)
theorem KK.same {D : rl_D} {bs : Nat} {H0 : Heap} {u U : State} (hv : u.vm = U.vm) (h : KK D bs H0 u) : KK D bs H0 U := by
  have hA : u.vm.Alike U.vm := by rw [hv]; exact Vm.Alike.refl _
  exact ⟨h.1.moved hA, h.2.1.same hv, fun q hq => (h.2.2.1 q hq).moved hA, ⟨fun q hq => (h.2.2.2.1.1 q hq).same hv.symm, h.2.2.2.1.2.moved hA⟩, ⟨fun q hq => (h.2.2.2.2.1.1 q hq).moved hA, fun q hq => (h.2.2.2.2.1.2 q hq).moved hA⟩, fun q hq => va_Fw.moved (fc_ok q hq) hA (h.2.2.2.2.2.1 q hq), ⟨⟨h.2.2.2.2.2.2.1.1.moved hA, h.2.2.2.2.2.2.1.2.moved hA⟩, KL.same hv h.2.2.2.2.2.2.2⟩⟩
theorem PC_blind {D : rl_D} {bs : Nat} {H0 : Heap} {φ : Nat → Nat} {vs : List Value} {M : ev_M} : FrameBlind (PC D bs H0 φ vs M) := fun a U g mk h => ⟨h.1, h.2.1, KK.same (u := U) (show U.vm = (U.calling g mk a).vm from rfl) h.2.2⟩
theorem take_StR {φ : Nat → Nat} {M : ev_M} : ∀ {k : Nat} {acc accA st stA vs st' : List Value}, ev_take k acc st = some (vs, st') → StR φ M acc accA → StR φ M st stA → ∃ B restA : List Value, stA = B ++ restA ∧ B.length = k ∧ StR φ M vs (B.reverse ++ accA) ∧ StR φ M st' restA
  | 0, acc, accA, st, stA, vs, st', h, ha, hs => by
    cases h
    exact ⟨[], stA, rfl, rfl, ha, hs⟩
  | k + 1, acc, accA, [], stA, vs, st', h, ha, hs => by cases h
  | k + 1, acc, accA, v :: st, stA, vs, st', h, ha, hs => by
    obtain ⟨a, r, rfl, hv, hw, hs1⟩ := StR_cons hs
    obtain ⟨B, restA, e1, e2, e3, e4⟩ := take_StR (k := k) (acc := v :: acc) (accA := a :: accA) h (StR.mk hv hw ha) hs1
    exact ⟨a :: B, restA, by rw [e1]; rfl, by rw [List.length_cons, e2], by rw [List.reverse_cons, List.append_assoc]; exact e3, e4⟩
theorem take_As {φ : Nat → Nat} {M : ev_M} {k : Nat} {st stA vs st' : List Value} (h : ev_take k [] st = some (vs, st')) (hs : StR φ M st stA) : ∃ As restA : List Value, stA = As.reverse ++ restA ∧ As.length = k ∧ StR φ M vs As ∧ StR φ M st' restA := by
  obtain ⟨B, restA, e1, e2, e3, e4⟩ := take_StR (accA := []) h trivial hs
  exact ⟨B.reverse, restA, by rw [List.reverse_reverse]; exact e1, by rw [List.length_reverse]; exact e2, by rw [List.append_nil] at e3; exact e3, e4⟩
theorem ev_ret_ne {r : Value} {st : List Value} (h : r ≠ jk) : ev_ret r st = r :: st := by
  cases r with
  | retAddr n =>
    cases n with
    | zero => exact absurd rfl h
    | succ n => rfl
  | _ => rfl
theorem Ext.tr {M M1 : ev_M} {φ0 φ φ1 : Nat → Nat} (h : Ext M φ0 φ) (h1 : Ext M1 φ φ1) (hn : nx M ≤ nx M1) : Ext M φ0 φ1 := fun n hn1 => by rw [h1 n (Nat.lt_of_lt_of_le hn1 hn)]; exact h n hn1
section
variable {p : Program} {l : Launch} {e : Env} {R : Room} {s : State} {m : MethodId} {args : Array Value} {below : List Frame} {meth : Method} {c : Code} {Q : State → Prop}
variable {D : rl_D} {bs : Nat} {H0 : Heap} {nL c0 s0 : Nat} {M0 : ev_M} {φ0 : Nat → Nat} {cd : ByteArray} {pc : Nat} {own : String}
/-- an exception comes up at pc, from every related machine state -/
def WX (p : Program) (l : Launch) (e : Env) (R : Room) (s : State) (m : MethodId) (args : Array Value) (below : List Frame) (meth : Method) (c : Code) (Q : State → Prop) (D : rl_D) (bs : Nat) (H0 : Heap) (nL c0 s0 : Nat) (M0 : ev_M) (φ0 : Nat → Nat) (ls : List Value) (M : ev_M) (k pc : Nat) : Prop :=
  ∀ (φ : Nat → Nat) (lsA : Array Slot) (stA : List Value) (H : Heap) (locs : List Loc) (cells slots : Nat) (q : Addr) (ce : Cell), Ext M0 φ0 φ → nx M0 ≤ nx M → Rel D φ bs H0 M H → LocR φ M ls lsA nL → H[q]? = some ce → ce.vm = .none → s.vm.findClass (exn k) = some ce.cls → (∀ z ∈ locs, bs ≤ z.base) → cells + c0 = ncl M → slots + s0 = nsl M → vx_W p l e R s m args below meth c H locs cells slots Q (F0 m pc lsA stA) q
theorem af {φ : Nat → Nat} {lsA : Array Slot} {stA restA : List Value} {H : Heap} {locs : List Loc} {cells slots mc ms o : Nat} {r : Value} {M M1 : ev_M} {ls st : List Value} {As : Array Value}
    (hr : vx_Run p l e R s m args below meth c H locs cells slots mc ms (F0 m pc lsA stA) restA (QC D bs H0 M φ o r M1 As) (XCC D bs H0 M φ o M1) (bs ≤ ·))
    (hE : Ext M0 φ0 φ) (hn : nx M0 ≤ nx M) (hL : LocR φ M ls lsA nL) (hS : StR φ M st restA) (hl : ∀ z ∈ locs, bs ≤ z.base) (hc : cells + c0 = ncl M) (hs : slots + s0 = nsl M) (hmc : ncl M + mc = ncl M1) (hms : nsl M + ms = nsl M1)
    (k0 : o = 0 → WT p l e R s m args below meth c Q D bs H0 nL c0 s0 M0 φ0 (ls, ev_ret r st, M1) (pc + 3)) (kx : ∀ k, o = k + 1 → WX p l e R s m args below meth c Q D bs H0 nL c0 s0 M0 φ0 ls M1 k pc) : W p l e R s m args below meth c H locs cells slots Q (F0 m pc lsA stA) := by
  intro T hT X
  rcases hr T hT X with ⟨v, st₀, t, T', L, h0, X', hL', e1, e2, hq, stp⟩ | ⟨q, st₀, t, T', L, E, ce, h0, X', hL', e1, e2, hq, hce, hcv, hcl, stp⟩
  · obtain ⟨ho, hnx, φ', v', hv', hE', hR', hRV⟩ := hq
    cases hv'
    rw [← e1] at hR'
    have hSt : StR φ' M1 (ev_ret r st) (v.toList ++ restA) := by
      rcases hRV with ⟨rfl, rfl⟩ | ⟨hne, hw, a, rfl, hv⟩
      · exact StR_ext (M := M) hE' hnx hS
      · rw [ev_ret_ne hne]
        exact StR.mk hv hw (StR_ext (M := M) hE' hnx hS)
    obtain ⟨t2, a1, b1⟩ := k0 ho φ' lsA (v.toList ++ restA) T'.heap (locs ++ L) (cells + mc) (slots + ms) (hE.tr hE' hn) (Nat.le_trans hn hnx) hR' (LocR_ext (M := M) hE' hnx hL) hSt (fun z hz => by
      rcases List.mem_append.mp hz with hz | hz
      · exact hl z hz
      · exact hL' z hz) (by show cells + mc + c0 = ncl M1; omega) (by show slots + ms + s0 = nsl M1; omega) T' rfl X'
    exact ⟨t2, stp t2 a1, b1⟩
  · obtain ⟨hnx, k, φ', ho, rfl, hE', hR'⟩ := hq
    rw [← e1] at hR' hce
    obtain ⟨t2, a1, b1⟩ := kx k ho φ' lsA restA T'.heap (locs ++ L) (cells + mc) (slots + ms) q ce (hE.tr hE' hn) (Nat.le_trans hn hnx) hR' (LocR_ext (M := M) hE' hnx hL) hce hcv hcl (fun z hz => by
      rcases List.mem_append.mp hz with hz | hz
      · exact hl z hz
      · exact hL' z hz) (by omega) (by omega) T' rfl X'
    exact ⟨t2, stp.trans a1, b1⟩
theorem af5 {φ : Nat → Nat} {lsA : Array Slot} {stA restA : List Value} {H : Heap} {locs : List Loc} {cells slots mc ms o : Nat} {r : Value} {M M1 : ev_M} {ls st : List Value} {As : Array Value}
    (hr : vx_Run5 p l e R s m args below meth c H locs cells slots mc ms (F0 m pc lsA stA) restA (QC D bs H0 M φ o r M1 As) (XCC D bs H0 M φ o M1) (bs ≤ ·))
    (hE : Ext M0 φ0 φ) (hn : nx M0 ≤ nx M) (hL : LocR φ M ls lsA nL) (hS : StR φ M st restA) (hl : ∀ z ∈ locs, bs ≤ z.base) (hc : cells + c0 = ncl M) (hs : slots + s0 = nsl M) (hmc : ncl M + mc = ncl M1) (hms : nsl M + ms = nsl M1)
    (k0 : o = 0 → WT p l e R s m args below meth c Q D bs H0 nL c0 s0 M0 φ0 (ls, ev_ret r st, M1) (pc + 5)) (kx : ∀ k, o = k + 1 → WX p l e R s m args below meth c Q D bs H0 nL c0 s0 M0 φ0 ls M1 k pc) : W p l e R s m args below meth c H locs cells slots Q (F0 m pc lsA stA) := by
  intro T hT X
  rcases hr T hT X with ⟨v, st₀, t, T', L, h0, X', hL', e1, e2, hq, stp⟩ | ⟨q, st₀, t, T', L, E, ce, h0, X', hL', e1, e2, hq, hce, hcv, hcl, stp⟩
  · obtain ⟨ho, hnx, φ', v', hv', hE', hR', hRV⟩ := hq
    cases hv'
    rw [← e1] at hR'
    have hSt : StR φ' M1 (ev_ret r st) (v.toList ++ restA) := by
      rcases hRV with ⟨rfl, rfl⟩ | ⟨hne, hw, a, rfl, hv⟩
      · exact StR_ext (M := M) hE' hnx hS
      · rw [ev_ret_ne hne]
        exact StR.mk hv hw (StR_ext (M := M) hE' hnx hS)
    obtain ⟨t2, a1, b1⟩ := k0 ho φ' lsA (v.toList ++ restA) T'.heap (locs ++ L) (cells + mc) (slots + ms) (hE.tr hE' hn) (Nat.le_trans hn hnx) hR' (LocR_ext (M := M) hE' hnx hL) hSt (fun z hz => by
      rcases List.mem_append.mp hz with hz | hz
      · exact hl z hz
      · exact hL' z hz) (by show cells + mc + c0 = ncl M1; omega) (by show slots + ms + s0 = nsl M1; omega) T' rfl X'
    exact ⟨t2, stp t2 a1, b1⟩
  · obtain ⟨hnx, k, φ', ho, rfl, hE', hR'⟩ := hq
    rw [← e1] at hR' hce
    obtain ⟨t2, a1, b1⟩ := kx k ho φ' lsA restA T'.heap (locs ++ L) (cells + mc) (slots + ms) q ce (hE.tr hE' hn) (Nat.le_trans hn hnx) hR' (LocR_ext (M := M) hE' hnx hL) hce hcv hcl (fun z hz => by
      rcases List.mem_append.mp hz with hz | hz
      · exact hl z hz
      · exact hL' z hz) (by omega) (by omega) T' rfl X'
    exact ⟨t2, stp.trans a1, b1⟩
theorem bk_ok (hts : ∀ w ∈ lw_all, w.before args s = true) {t : ev_T} (ht : MOK t) : ∀ w ∈ t_word t :: lw_all, ∀ (a' : Array Value) (U : State), s.WarmedH U.vm → w.before a' U = true :=
  pay_in hts (lw_good fun w hw => by
    rcases List.mem_cons.mp hw with rfl | hw
    · exact ht.1
    · exact hw)
theorem np_ok {d : String} {n : Nat} (h : npar d = some n) : ∀ sig, parseMethodDescriptor d = some sig → n = sig.parameters.length := by
  intro sig hs
  unfold npar at h
  rw [hs] at h
  exact (Option.some.inj h).symm
/-- a static call -/
theorem wt_stat (S : CallFix p m c cd nL s args lw_all own) (hKK : KK D bs H0 s) {t : ev_T} {y' : Nat} {vs : List Value} {o : Nat} {r : Value} {M M1 : ev_M} {ls st st' : List Value} (hCT : CT l D bs H0 t y' vs M o r M1) (hM : MOK t) (hRf : 2 * y' + 11 ≤ R.frames) (hRl : 12099 + 200 * y' ≤ R.locals) (hle : ncl M ≤ ncl M1 ∧ nsl M ≤ nsl M1) (hRc : ncl M1 ≤ R.cells + c0) (hRs : nsl M1 ≤ R.slots + s0)
    {idx k : Nat} (hh : t.2.2.2.2 = none) (h : ev_take k [] st = some (vs, st')) (h8 : ¬ 8 < ev_w st') (hd : decode cd pc = .ok (.invokestatic idx, 3)) (hnp : npar t.1.desc = some k) (hst : Cond.static t.1 ∈ lw_all)
    (hlink : Cond.methodLink own idx t.1 ∈ lw_all ∨ ∃ host, Cond.methodLinkNest own idx t.1 host ∈ lw_tbl)
    (k0 : o = 0 → WT p l e R s m args below meth c Q D bs H0 nL c0 s0 M0 φ0 (ls, ev_ret r st', M1) (pc + 3)) (kx : ∀ k, o = k + 1 → WX p l e R s m args below meth c Q D bs H0 nL c0 s0 M0 φ0 ls M1 k pc) : WT p l e R s m args below meth c Q D bs H0 nL c0 s0 M0 φ0 (ls, st, M) pc := by
  intro φ lsA stA H locs cells slots hE hn hR hL hS hl hc hs
  obtain ⟨As, restA, rfl, hlen, hSv, hSr⟩ := take_As h hS
  have hsum := StR_cat hSr
  have hsz : lsA.size = nL := by obtain ⟨-, l0, w, -⟩ := hL; exact w.1
  have hc' : cells + c0 = ncl M := hc
  have hs' : slots + s0 = nsl M := hs
  have hf : cells + (ncl M1 - ncl M) ≤ R.cells ∧ slots + (nsl M1 - nsl M) ≤ R.slots := by omega
  have hw : 2 * 0 + (restA.map fun v => v.category).sum ≤ 8 := by omega
  have hcode : t_word t = Cond.code t.1 t.2.1 t.2.2.1 t.2.2.2.1 := by unfold t_word; rw [hh]
  have hp : PreS s H (PC D bs H0 φ vs M) As := ⟨PC_blind, fun U hU hW => ⟨⟨As, rfl, hSv⟩, by rw [hU]; exact hR, hKK.warm hW⟩⟩
  have hcd := S.2.2.2.2 _ hM.1
  rw [hcode] at hcd
  have hmem : Cond.code t.1 t.2.1 t.2.2.1 t.2.2.2.1 ∈ t_word t :: lw_all := by rw [hcode]; exact List.mem_cons_self
  rcases hlink with hlink | ⟨host, hlink⟩
  · exact af (vx_runS S (hCT φ) (bytes := t.2.1) (maxL := t.2.2.1) (ret := t.2.2.2.1) (n := k) ⟨⟨rfl, rfl, (by show 2 * y' + 10 + 1 ≤ _; omega), (by have := hM.2.2.2.2; show 8 + (t.2.2.1 + 11) + (12000 + 200 * y') ≤ _; omega), bk_ok S.2.2.2.2 hM, hmem, hcd, S.2.2.2.2 _ hM.2.1, hM.2.2.2.1, np_ok hnp, S.2.2.2.2 _ hlink⟩, S.2.2.2.2 _ hst⟩ hp rfl hlen hsz rfl hw hd hf) hE hn hL hSr hl hc hs (by omega) (by omega) k0 kx
  · exact af (vx_runSN S (hCT φ) (bytes := t.2.1) (maxL := t.2.2.1) (ret := t.2.2.2.1) (n := k) (host := host) ⟨⟨⟨rfl, rfl, (by show 2 * y' + 10 + 1 ≤ _; omega), (by have := hM.2.2.2.2; show 8 + (t.2.2.1 + 11) + (12000 + 200 * y') ≤ _; omega), bk_ok S.2.2.2.2 hM, hmem⟩, hcd, S.2.2.2.2 _ hM.2.1, hM.2.2.2.1, np_ok hnp, va_Nw.use rfl (hKK.2.1 _ hlink rfl)⟩, S.2.2.2.2 _ hst, trivial⟩ hp rfl hlen hsz rfl hw hd hf) hE hn hL hSr hl hc hs (by omega) (by omega) k0 kx
/-- a constructor's call -/
theorem wt_init (S : CallFix p m c cd nL s args lw_all own) (hKK : KK D bs H0 s) {t : ev_T} {y' : Nat} {vs : List Value} {o : Nat} {r : Value} {M M1 : ev_M} {ls st st' : List Value} (hCT : CT l D bs H0 t y' vs M o r M1) (hM : MOK t) (hRf : 2 * y' + 11 ≤ R.frames) (hRl : 12099 + 200 * y' ≤ R.locals) (hle : ncl M ≤ ncl M1 ∧ nsl M ≤ nsl M1) (hRc : ncl M1 ≤ R.cells + c0) (hRs : nsl M1 ≤ R.slots + s0)
    {idx n b : Nat} {ws : List Value} (hvs : vs = .ref b :: ws) (hb : b ≠ 0) (hh : t.2.2.2.2 = none) (hrt : t.2.2.2.1 = none) (h : ev_take (n + 1) [] st = some (vs, st')) (h8 : ¬ 8 < ev_w st') (hd : decode cd pc = .ok (.invokespecial idx, 3)) (hnp : npar t.1.desc = some n) (hin : Cond.instanceMethod t.1 ∈ lw_all) (hnm : t.1.name = "<init>")
    (hlink : Cond.methodLink own idx t.1 ∈ lw_all ∨ ∃ host, Cond.methodLinkNest own idx t.1 host ∈ lw_tbl)
    (k0 : o = 0 → WT p l e R s m args below meth c Q D bs H0 nL c0 s0 M0 φ0 (ls, ev_ret r st', M1) (pc + 3)) (kx : ∀ k, o = k + 1 → WX p l e R s m args below meth c Q D bs H0 nL c0 s0 M0 φ0 ls M1 k pc) : WT p l e R s m args below meth c Q D bs H0 nL c0 s0 M0 φ0 (ls, st, M) pc := by
  subst hvs
  intro φ lsA stA H locs cells slots hE hn hR hL hS hl hc hs
  obtain ⟨As, restA, rfl, hlen, hSv, hSr⟩ := take_As h hS
  have hsum := StR_cat hSr
  have hsz : lsA.size = nL := by obtain ⟨-, l0, w, -⟩ := hL; exact w.1
  have hc' : cells + c0 = ncl M := hc
  have hs' : slots + s0 = nsl M := hs
  have hf : cells + (ncl M1 - ncl M) ≤ R.cells ∧ slots + (nsl M1 - nsl M) ≤ R.slots := by omega
  have hw : 2 * 0 + (restA.map fun v => v.category).sum ≤ 8 := by omega
  obtain ⟨bA, As, rfl, hb0, -, hSa⟩ := StR_cons hSv
  have hln2 : As.length = n := by simpa using hlen
  have hstk : (bA :: As).reverse ++ restA = As.reverse ++ bA :: restA := by simp
  rw [hstk]
  have hcode : t_word t = Cond.code t.1 t.2.1 t.2.2.1 none := by unfold t_word; rw [hh, hrt]
  have eb : bA = .ref (φ b) := by
    have h1 : bA = crf φ b := hb0
    rw [h1, crf, if_neg hb]
  subst eb
  have hp : PreS s H (PC D bs H0 φ (.ref b :: ws) M) (.ref (φ b) :: As) := ⟨PC_blind, fun U hU hW => ⟨⟨.ref (φ b) :: As, rfl, hSv⟩, by rw [hU]; exact hR, hKK.warm hW⟩⟩
  have hcd := S.2.2.2.2 _ hM.1
  rw [hcode] at hcd
  have hmem : Cond.code t.1 t.2.1 t.2.2.1 none ∈ t_word t :: lw_all := by rw [hcode]; exact List.mem_cons_self
  rcases hlink with hlink | ⟨host, hlink⟩
  · exact af (vx_runI S (hCT φ) (bytes := t.2.1) (maxL := t.2.2.1) (n := n) ⟨⟨rfl, rfl, (by show 2 * y' + 10 + 1 ≤ _; omega), (by have := hM.2.2.2.2; show 8 + (t.2.2.1 + 11) + (12000 + 200 * y') ≤ _; omega), bk_ok S.2.2.2.2 hM, hmem, hcd, S.2.2.2.2 _ hM.2.1, hM.2.2.2.1, np_ok hnp, S.2.2.2.2 _ hlink⟩, hnm, S.2.2.2.2 _ hin⟩ hp rfl hln2 hsz rfl hw hd hf) hE hn hL hSr hl hc hs (by omega) (by omega) k0 kx
  · exact af (vx_runIN S (hCT φ) (bytes := t.2.1) (maxL := t.2.2.1) (n := n) (host := host) ⟨⟨⟨rfl, rfl, (by show 2 * y' + 10 + 1 ≤ _; omega), (by have := hM.2.2.2.2; show 8 + (t.2.2.1 + 11) + (12000 + 200 * y') ≤ _; omega), bk_ok S.2.2.2.2 hM, hmem⟩, hcd, S.2.2.2.2 _ hM.2.1, hM.2.2.2.1, np_ok hnp, va_Nw.use rfl (hKK.2.1 _ hlink rfl)⟩, hnm, S.2.2.2.2 _ hin⟩ hp rfl hln2 hsz rfl hw hd hf) hE hn hL hSr hl hc hs (by omega) (by omega) k0 kx
/-- what is said of a call by the receiver's class -/
def DECL (d : MethodName) : Prop := (∃ b k r, Cond.instanceMethod d ∈ lw_all ∧ Cond.code d b k r ∈ lw_all) ∨ Cond.declares d ∈ lw_tbl
/-- a method is the one meant: the words say so, or it is private -/
def SELP (C : String) (y : MethodName) : Prop := Cond.selects C y y ∈ lw_all ∨ (Cond.privateMethod y ∈ lw_tbl ∧ ∃ C' y', Cond.selects C' y' y' ∈ lw_all ∧ y'.cls = y.cls)
theorem sel_of {U : State} {args : Array Value} (hts : ∀ w ∈ lw_all, w.before args U = true) (hKW : KW U) {C : String} {y : MethodName} (hy : noVH y.cls) (hin : (Cond.instanceMethod y).before args U = true) {cC : ClassId} (hC : U.vm.findClass C = some cC) (h : SELP C y) : (Cond.selects C y y).before args U = true := by
  rcases h with h | ⟨hp, C', y', hs, hc⟩
  · exact hts _ h
  · obtain ⟨mk, methM, hnamed, hmethM, hstM, habM⟩ := Cond.instanceMethod_spec hin
    have hpr := Cond.privateMethod_at (va_Nw.use (A := args) rfl (hKW _ hp rfl)) mk methM hnamed hmethM
    obtain ⟨c2, r2, m2, q1, q2, q3, q4, kP, hkP, hkPi⟩ := Cond.selects_spec (hts _ hs)
    have e : m2.cls = mk.cls := by
      have h1 := findClass_of_methodNamed q3
      have h2 := findClass_of_methodNamed hnamed
      rw [hc] at h1
      rw [h1] at h2
      exact Option.some.inj h2
    rw [e] at hkP
    have hf := State.methodFound?_of_named hnamed hy
    have hsp : selectMethod {} U.vm cC mk = .method mk := selectMethod_private hmethM hpr
    simp [Cond.before, Cond.holds, Cond.value, hC, hf, hnamed, hsp, hkP, hkPi]
def VF (own : String) (idx : Nat) (C : String) (n : Nat) (t : ev_T) : Prop := Cond.instanceMethod t.1 ∈ lw_all ∧ npar t.1.desc = some n ∧
  ((Cond.methodLink own idx t.1 ∈ lw_all ∧ SELP C t.1) ∨
  (t.2.2.2.2 = none ∧ ∃ host, Cond.methodLinkNest own idx t.1 host ∈ lw_tbl ∧ SELP C t.1) ∨
  (t.2.2.2.2 = none ∧ ∃ x owner, Cond.methodLink own idx x ∈ lw_all ∧ Cond.sameMethod x.cls owner x.name x.desc ∈ lw_all ∧ noVH owner ∧ npar x.desc = some n ∧ Cond.selects C x t.1 ∈ lw_all ∧ DECL ⟨owner, x.name, x.desc⟩))
theorem decl_ok (hts : ∀ w ∈ lw_all, w.before args s = true) (hKW : KW s) {d : MethodName} (h : DECL d) : va_Decl s d := by
  rcases h with ⟨b, k, r, h1, h2⟩ | h
  · exact va_Decl.of (hts _ h1) (hts _ h2)
  · exact va_Decl.abs (hKW _ h rfl)
theorem kz_knm {q : Nat} (h : q ≤ 21) : knm q = (kz q).1 := if_pos h
/-- a virtual call -/
theorem wt_virt (S : CallFix p m c cd nL s args lw_all own) (hKK : KK D bs H0 s) {t : ev_T} {y' : Nat} {vs : List Value} {o : Nat} {r : Value} {M M1 : ev_M} {ls st st' : List Value} (hCT : CT l D bs H0 t y' vs M o r M1) (hM : MOK t) (hRf : 2 * y' + 11 ≤ R.frames) (hRl : 12099 + 200 * y' ≤ R.locals) (hle : ncl M ≤ ncl M1 ∧ nsl M ≤ nsl M1) (hRc : ncl M1 ≤ R.cells + c0) (hRs : nsl M1 ≤ R.slots + s0)
    {idx n b : Nat} {ws : List Value} (hvs : vs = .ref b :: ws) (hb : 1 ≤ mK M b ∧ mK M b ≤ 21) (h : ev_take (n + 1) [] st = some (vs, st')) (h8 : ¬ 8 < ev_w st') (hd : decode cd pc = .ok (.invokevirtual idx, 3)) (hvf : VF own idx (kz (mK M b)).1 n t)
    (k0 : o = 0 → WT p l e R s m args below meth c Q D bs H0 nL c0 s0 M0 φ0 (ls, ev_ret r st', M1) (pc + 3)) (kx : ∀ k, o = k + 1 → WX p l e R s m args below meth c Q D bs H0 nL c0 s0 M0 φ0 ls M1 k pc) : WT p l e R s m args below meth c Q D bs H0 nL c0 s0 M0 φ0 (ls, st, M) pc := by
  subst hvs
  intro φ lsA stA H locs cells slots hE hn hR hL hS hl hc hs
  obtain ⟨As, restA, rfl, hlen, hSv, hSr⟩ := take_As h hS
  have hsum := StR_cat hSr
  have hsz : lsA.size = nL := by obtain ⟨-, l0, w, -⟩ := hL; exact w.1
  have hc' : cells + c0 = ncl M := hc
  have hs' : slots + s0 = nsl M := hs
  have hf : cells + (ncl M1 - ncl M) ≤ R.cells ∧ slots + (nsl M1 - nsl M) ≤ R.slots := by omega
  have hw : 2 * 0 + (restA.map fun v => v.category).sum ≤ 8 := by omega
  obtain ⟨bA, As, rfl, hb0, -, hSa⟩ := StR_cons hSv
  have hln2 : As.length = n := by simpa using hlen
  have hstk : (bA :: As).reverse ++ restA = As.reverse ++ bA :: restA := by simp
  rw [hstk]
  have hR : Rel D φ bs H0 M H := hR
  have eb := kref hR hb0 (Or.inl hb)
  subst eb
  have hcl := kcell hKK.1 hR (Or.inl hb)
  rw [kz_knm hb.2] at hcl
  have hp : PreV s H (kz (mK M b)).1 (φ b) (PC D bs H0 φ (.ref b :: ws) M) As := ⟨PC_blind, hcl, fun U hU hW => ⟨⟨.ref (φ b) :: As, rfl, hSv⟩, by rw [hU]; exact hR, hKK.warm hW⟩⟩
  obtain ⟨hin, hnp, hlink⟩ := hvf
  have hcd := S.2.2.2.2 _ hM.1
  cases hh : t.2.2.2.2 with
  | none =>
    have hcode : t_word t = Cond.code t.1 t.2.1 t.2.2.1 t.2.2.2.1 := by unfold t_word; rw [hh]
    rw [hcode] at hcd
    have hmem : Cond.code t.1 t.2.1 t.2.2.1 t.2.2.2.1 ∈ t_word t :: lw_all := by rw [hcode]; exact List.mem_cons_self
    rcases hlink with ⟨hlink, hsel⟩ | ⟨-, host, hlink, hsel⟩ | ⟨-, x, owner, k1, k2, k3, k4, k5, k6⟩
    · exact af (vx_runV S (hCT φ) (bytes := t.2.1) (maxL := t.2.2.1) (ret := t.2.2.2.1) (n := n) ⟨⟨rfl, rfl, (by show 2 * y' + 10 + 1 ≤ _; omega), (by have := hM.2.2.2.2; show 8 + (t.2.2.1 + 11) + (12000 + 200 * y') ≤ _; omega), bk_ok S.2.2.2.2 hM, hmem, hcd, S.2.2.2.2 _ hM.2.1, hM.2.2.2.1, np_ok hnp, S.2.2.2.2 _ hlink⟩, S.2.2.2.2 _ hin, (by obtain ⟨cB, -, -, hcB⟩ := hcl; exact sel_of S.2.2.2.2 hKK.2.1 hM.2.2.2.1 (S.2.2.2.2 _ hin) hcB hsel)⟩ hp rfl hln2 hsz rfl hw hd hf) hE hn hL hSr hl hc hs (by omega) (by omega) k0 kx
    · exact af (vx_runVN S (hCT φ) (bytes := t.2.1) (maxL := t.2.2.1) (ret := t.2.2.2.1) (n := n) (host := host) ⟨⟨⟨rfl, rfl, (by show 2 * y' + 10 + 1 ≤ _; omega), (by have := hM.2.2.2.2; show 8 + (t.2.2.1 + 11) + (12000 + 200 * y') ≤ _; omega), bk_ok S.2.2.2.2 hM, hmem⟩, hcd, S.2.2.2.2 _ hM.2.1, hM.2.2.2.1, np_ok hnp, va_Nw.use rfl (hKK.2.1 _ hlink rfl)⟩, S.2.2.2.2 _ hin, (by obtain ⟨cB, -, -, hcB⟩ := hcl; exact sel_of S.2.2.2.2 hKK.2.1 hM.2.2.2.1 (S.2.2.2.2 _ hin) hcB hsel)⟩ hp rfl hln2 hsz rfl hw hd hf) hE hn hL hSr hl hc hs (by omega) (by omega) k0 kx
    · exact af (vx_runU S (hCT φ) (x := x) (owner := owner) (bytes := t.2.1) (maxL := t.2.2.1) (ret := t.2.2.2.1) (n := n) ⟨⟨rfl, rfl, (by show 2 * y' + 10 + 1 ≤ _; omega), (by have := hM.2.2.2.2; show 8 + (t.2.2.1 + 11) + (12000 + 200 * y') ≤ _; omega), bk_ok S.2.2.2.2 hM, hmem⟩, hcd, S.2.2.2.2 _ hM.2.1, k3, np_ok k4, S.2.2.2.2 _ k1, S.2.2.2.2 _ k2, decl_ok S.2.2.2.2 hKK.2.1 k6, S.2.2.2.2 _ k5, S.2.2.2.2 _ hin⟩ hp rfl hln2 hsz rfl hw hd hf) hE hn hL hSr hl hc hs (by omega) (by omega) k0 kx
  | some hh1 =>
    have hcode : t_word t = Cond.codeWith t.1 t.2.1 t.2.2.1 t.2.2.2.1 hh1 := by unfold t_word; rw [hh]
    rw [hcode] at hcd
    have hmem : Cond.codeWith t.1 t.2.1 t.2.2.1 t.2.2.2.1 hh1 ∈ t_word t :: lw_all := by rw [hcode]; exact List.mem_cons_self
    rcases hlink with ⟨hlink, hsel⟩ | ⟨h0, -⟩ | ⟨h0, -⟩
    · exact af (vx_runVX S (hCT φ) (bytes := t.2.1) (maxL := t.2.2.1) (ret := t.2.2.2.1) (n := n) (hh := hh1) ⟨⟨rfl, rfl, (by show 2 * y' + 10 + 1 ≤ _; omega), (by have := hM.2.2.2.2; show 8 + (t.2.2.1 + 11) + (12000 + 200 * y') ≤ _; omega), bk_ok S.2.2.2.2 hM, hmem⟩, hcd, S.2.2.2.2 _ hM.2.1, hM.2.2.2.1, np_ok hnp, S.2.2.2.2 _ hlink, S.2.2.2.2 _ hin, (by obtain ⟨cB, -, -, hcB⟩ := hcl; exact sel_of S.2.2.2.2 hKK.2.1 hM.2.2.2.1 (S.2.2.2.2 _ hin) hcB hsel)⟩ hp rfl hln2 hsz rfl hw hd hf) hE hn hL hSr hl hc hs (by omega) (by omega) k0 kx
    · rw [hh] at h0; cases h0
    · rw [hh] at h0; cases h0
/-- a call of the superclass's -/
theorem wt_supr (S : CallFix p m c cd nL s args lw_all own) (hKK : KK D bs H0 s) {t : ev_T} {y' : Nat} {vs : List Value} {o : Nat} {r : Value} {M M1 : ev_M} {ls st st' : List Value} (hCT : CT l D bs H0 t y' vs M o r M1) (hM : MOK t) (hRf : 2 * y' + 11 ≤ R.frames) (hRl : 12099 + 200 * y' ≤ R.locals) (hle : ncl M ≤ ncl M1 ∧ nsl M ≤ nsl M1) (hRc : ncl M1 ≤ R.cells + c0) (hRs : nsl M1 ≤ R.slots + s0)
    {idx n b : Nat} {ws : List Value} (hvs : vs = .ref b :: ws) (hb : 1 ≤ mK M b ∧ mK M b ≤ 21) (hh : t.2.2.2.2 = none) (h : ev_take (n + 1) [] st = some (vs, st')) (h8 : ¬ 8 < ev_w st') (hd : decode cd pc = .ok (.invokespecial idx, 3)) (hnp : npar t.1.desc = some n) (hin : Cond.instanceMethod t.1 ∈ lw_all)
    (hnm : t.1.name ≠ "<init>") (l1 : Cond.methodLink own idx t.1 ∈ lw_all) (l2 : Cond.sameMethod t.1.cls t.1.cls t.1.name t.1.desc ∈ lw_all) (l3 : Cond.superclass own t.1.cls ∈ lw_all)
    (k0 : o = 0 → WT p l e R s m args below meth c Q D bs H0 nL c0 s0 M0 φ0 (ls, ev_ret r st', M1) (pc + 3)) (kx : ∀ k, o = k + 1 → WX p l e R s m args below meth c Q D bs H0 nL c0 s0 M0 φ0 ls M1 k pc) : WT p l e R s m args below meth c Q D bs H0 nL c0 s0 M0 φ0 (ls, st, M) pc := by
  subst hvs
  intro φ lsA stA H locs cells slots hE hn hR hL hS hl hc hs
  obtain ⟨As, restA, rfl, hlen, hSv, hSr⟩ := take_As h hS
  have hsum := StR_cat hSr
  have hsz : lsA.size = nL := by obtain ⟨-, l0, w, -⟩ := hL; exact w.1
  have hc' : cells + c0 = ncl M := hc
  have hs' : slots + s0 = nsl M := hs
  have hf : cells + (ncl M1 - ncl M) ≤ R.cells ∧ slots + (nsl M1 - nsl M) ≤ R.slots := by omega
  have hw : 2 * 0 + (restA.map fun v => v.category).sum ≤ 8 := by omega
  obtain ⟨bA, As, rfl, hb0, -, hSa⟩ := StR_cons hSv
  have hln2 : As.length = n := by simpa using hlen
  have hstk : (bA :: As).reverse ++ restA = As.reverse ++ bA :: restA := by simp
  rw [hstk]
  have hR : Rel D φ bs H0 M H := hR
  have eb := kref hR hb0 (Or.inl hb)
  subst eb
  have hcl := kcell hKK.1 hR (Or.inl hb)
  rw [kz_knm hb.2] at hcl
  have hp : PreV s H (kz (mK M b)).1 (φ b) (PC D bs H0 φ (.ref b :: ws) M) As := ⟨PC_blind, hcl, fun U hU hW => ⟨⟨.ref (φ b) :: As, rfl, hSv⟩, by rw [hU]; exact hR, hKK.warm hW⟩⟩
  have hcd := S.2.2.2.2 _ hM.1
  have hcode : t_word t = Cond.code t.1 t.2.1 t.2.2.1 t.2.2.2.1 := by unfold t_word; rw [hh]
  rw [hcode] at hcd
  have hmem : Cond.code t.1 t.2.1 t.2.2.1 t.2.2.2.1 ∈ t_word t :: lw_all := by rw [hcode]; exact List.mem_cons_self
  exact af (vx_runSU (hKK.1.1 _ hb.1 hb.2).2 S (hCT φ) (bytes := t.2.1) (maxL := t.2.2.1) (ret := t.2.2.2.1) (n := n) ⟨⟨rfl, rfl, (by show 2 * y' + 10 + 1 ≤ _; omega), (by have := hM.2.2.2.2; show 8 + (t.2.2.1 + 11) + (12000 + 200 * y') ≤ _; omega), bk_ok S.2.2.2.2 hM, hmem⟩, S.2.2.2.2 _ l1, S.2.2.2.2 _ l2, S.2.2.2.2 _ l3, S.2.2.2.2 _ hin, S.2.2.2.2 _ hM.2.1, hcd, hnm, np_ok hnp⟩ hp rfl hln2 hsz rfl hw hd hf) hE hn hL hSr hl hc hs (by omega) (by omega) k0 kx
/-- a call by an interface -/
def IFc (own : String) (idx : Nat) (C : String) (n : Nat) (t : ev_T) : Prop := t.2.2.2.2 = none ∧ Cond.instanceMethod t.1 ∈ lw_all ∧ ∃ x, Cond.methodLink own idx x ∈ lw_all ∧ (C, x, t.1) ∈ fc_prs ∧ Cond.selects C x t.1 ∈ lw_all ∧ noVH x.cls ∧ npar x.desc = some n
theorem wt_face (S : CallFix p m c cd nL s args lw_all own) (hKK : KK D bs H0 s) {t : ev_T} {y' : Nat} {vs : List Value} {o : Nat} {r : Value} {M M1 : ev_M} {ls st st' : List Value} (hCT : CT l D bs H0 t y' vs M o r M1) (hM : MOK t) (hRf : 2 * y' + 11 ≤ R.frames) (hRl : 12099 + 200 * y' ≤ R.locals) (hle : ncl M ≤ ncl M1 ∧ nsl M ≤ nsl M1) (hRc : ncl M1 ≤ R.cells + c0) (hRs : nsl M1 ≤ R.slots + s0)
    {idx cnt n b : Nat} {ws : List Value} (hvs : vs = .ref b :: ws) (hb : 1 ≤ mK M b ∧ mK M b ≤ 21) (h : ev_take (n + 1) [] st = some (vs, st')) (h8 : ¬ 8 < ev_w st') (hd : decode cd pc = .ok (.invokeinterface idx cnt, 5)) (hif : IFc own idx (kz (mK M b)).1 n t)
    (k0 : o = 0 → WT p l e R s m args below meth c Q D bs H0 nL c0 s0 M0 φ0 (ls, ev_ret r st', M1) (pc + 5)) (kx : ∀ k, o = k + 1 → WX p l e R s m args below meth c Q D bs H0 nL c0 s0 M0 φ0 ls M1 k pc) : WT p l e R s m args below meth c Q D bs H0 nL c0 s0 M0 φ0 (ls, st, M) pc := by
  subst hvs
  intro φ lsA stA H locs cells slots hE hn hR hL hS hl hc hs
  obtain ⟨As, restA, rfl, hlen, hSv, hSr⟩ := take_As h hS
  have hsum := StR_cat hSr
  have hsz : lsA.size = nL := by obtain ⟨-, l0, w, -⟩ := hL; exact w.1
  have hc' : cells + c0 = ncl M := hc
  have hs' : slots + s0 = nsl M := hs
  have hf : cells + (ncl M1 - ncl M) ≤ R.cells ∧ slots + (nsl M1 - nsl M) ≤ R.slots := by omega
  have hw : 2 * 0 + (restA.map fun v => v.category).sum ≤ 8 := by omega
  obtain ⟨bA, As, rfl, hb0, -, hSa⟩ := StR_cons hSv
  have hln2 : As.length = n := by simpa using hlen
  have hstk : (bA :: As).reverse ++ restA = As.reverse ++ bA :: restA := by simp
  rw [hstk]
  have hR : Rel D φ bs H0 M H := hR
  have eb := kref hR hb0 (Or.inl hb)
  subst eb
  have hcl := kcell hKK.1 hR (Or.inl hb)
  rw [kz_knm hb.2] at hcl
  have hp : PreV s H (kz (mK M b)).1 (φ b) (PC D bs H0 φ (.ref b :: ws) M) As := ⟨PC_blind, hcl, fun U hU hW => ⟨⟨.ref (φ b) :: As, rfl, hSv⟩, by rw [hU]; exact hR, hKK.warm hW⟩⟩
  obtain ⟨hh, hin, x, k1, k2, k3, k4, k5⟩ := hif
  have hF := hKK.2.2.2.2.2.1 _ k2
  have hcd := S.2.2.2.2 _ hM.1
  have hcode : t_word t = Cond.code t.1 t.2.1 t.2.2.1 t.2.2.2.1 := by unfold t_word; rw [hh]
  rw [hcode] at hcd
  have hmem : Cond.code t.1 t.2.1 t.2.2.1 t.2.2.2.1 ∈ t_word t :: lw_all := by rw [hcode]; exact List.mem_cons_self
  exact af5 (vx_runF (hKK.1.1 _ hb.1 hb.2).2 S (hCT φ) (x := x) (bytes := t.2.1) (maxL := t.2.2.1) (ret := t.2.2.2.1) (n := n) ⟨⟨rfl, rfl, (by show 2 * y' + 10 + 1 ≤ _; omega), (by have := hM.2.2.2.2; show 8 + (t.2.2.1 + 11) + (12000 + 200 * y') ≤ _; omega), bk_ok S.2.2.2.2 hM, hmem⟩, S.2.2.2.2 _ k1, va_any rfl hF.1, va_any rfl hF.2.1, S.2.2.2.2 _ k3, S.2.2.2.2 _ hin, va_any rfl hF.2.2.1, va_any rfl hF.2.2.2.1, va_any rfl hF.2.2.2.2, S.2.2.2.2 _ hM.2.1, hcd, k4, np_ok k5⟩ hp rfl hln2 hsz rfl hw hd hf) hE hn hL hSr hl hc hs (by omega) (by omega) k0 kx
/-- Object's constructor -/
def LOI (own : String) (idx : Nat) : Prop := Cond.methodLink own idx Lib.objectInit ∈ lw_all ∧ Cond.instanceMethod Lib.objectInit ∈ lw_all ∧ Cond.code Lib.objectInit ⟨#[0xb1]⟩ 1 none ∈ lw_all
theorem wt_oinit (S : CallFix p m c cd nL s args lw_all own) {idx b : Nat} {ls st : List Value} {M : ev_M} (hb : b ≠ 0) (h8 : ¬ 8 < ev_w st) (hd : decode cd pc = .ok (.invokespecial idx, 3)) (hlk : LOI own idx) (hfr : 1 ≤ R.frames) (hlo : 100 ≤ R.locals)
    (k : WT p l e R s m args below meth c Q D bs H0 nL c0 s0 M0 φ0 (ls, st, M) (pc + 3)) : WT p l e R s m args below meth c Q D bs H0 nL c0 s0 M0 φ0 (ls, .ref b :: st, M) pc := by
  intro φ lsA stA H locs cells slots hE hn hR hL hS hl hc hs
  obtain ⟨bA, r, rfl, hb0, -, hS1⟩ := StR_cons hS
  have eb : bA = .ref (φ b) := by
    have h1 : bA = crf φ b := hb0
    rw [h1, crf, if_neg hb]
  subst eb
  have hsum := StR_cat hS1
  have hsz : lsA.size = nL := by obtain ⟨-, l0, w, -⟩ := hL; exact w.1
  exact W.objInit S.1 S.2.1 S.2.2.2.1 (S.2.2.2.2 _ hlk.1) (S.2.2.2.2 _ hlk.2.1) (S.2.2.2.2 _ hlk.2.2) rfl (by rw [S.2.2.1]; exact hsz) rfl hd hfr (by show 2 * 0 + _ + 12 ≤ _; omega) (k φ lsA r H locs cells slots hE hn hR hL hS1 hl hc hs)
end
