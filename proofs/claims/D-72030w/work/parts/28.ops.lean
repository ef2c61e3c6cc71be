/-! SOUNDNESS of the instructions that only go on (by gen/ops.py) -/
def KN (D : rl_D) (U : State) : Prop :=
  (∀ t, 1 ≤ t → t ≤ 21 → u_Kn U (kz t).1 (kz t).2.1 (kz t).2.2 (D.1 t) (D.2.1 t)) ∧
  (∀ t, t ∈ [40, 41, 42, 43, 44, 45, 46, 48, 49, 50, 51, 52, 60, 61, 65, 66] → ArrOfT U (D.2.2.1 t) (katy t) ∧ (t < 60 → va_RA U (D.2.2.1 t) (katy t)))
theorem KN.moved {D : rl_D} {u U : State} (hvm : u.vm.Alike U.vm) (h : KN D u) : KN D U := ⟨fun t a b => u_Kn_moved hvm (h.1 t a b), fun t a => ⟨arrOfT_moved hvm (h.2 t a).1, fun z => ((h.2 t a).2 z).moved hvm⟩⟩
section
variable {p : Program} {l : Launch} {e : Env} {R : Room} {s : State} {m : MethodId} {args : Array Value} {below : List Frame} {meth : Method} {c : Code} {Q : State → Prop}
variable {D : rl_D} {bs : Nat} {H0 : Heap} {nL c0 s0 : Nat} {M0 : ev_M} {φ0 : Nat → Nat} {cd : ByteArray} {pc : Nat}
def WT (p : Program) (l : Launch) (e : Env) (R : Room) (s : State) (m : MethodId) (args : Array Value) (below : List Frame) (meth : Method) (c : Code) (Q : State → Prop) (D : rl_D) (bs : Nat) (H0 : Heap) (nL c0 s0 : Nat) (M0 : ev_M) (φ0 : Nat → Nat) (S : ev_S) (pc : Nat) : Prop :=
  ∀ (φ : Nat → Nat) (lsA : Array Slot) (stA : List Value) (H : Heap) (locs : List Loc) (cells slots : Nat), Ext M0 φ0 φ → nx M0 ≤ nx S.2.2 → Rel D φ bs H0 S.2.2 H → LocR φ S.2.2 S.1 lsA nL → StR φ S.2.2 S.2.1 stA → (∀ z ∈ locs, bs ≤ z.base) → cells + c0 = ncl S.2.2 → slots + s0 = nsl S.2.2 → W p l e R s m args below meth c H locs cells slots Q (F0 m pc lsA stA)
theorem StR_cons {φ : Nat → Nat} {M : ev_M} {v : Value} {st sa : List Value} (h : StR φ M (v :: st) sa) : ∃ a r, sa = a :: r ∧ VR φ v a ∧ wfv M v ∧ StR φ M st r := by
  cases sa with
  | nil => exact h.elim
  | cons a r => exact ⟨a, r, rfl, h.1.1, h.1.2, h.2⟩
theorem StR.mk {φ : Nat → Nat} {M : ev_M} {v a : Value} {st sa : List Value} (h1 : VR φ v a) (h2 : wfv M v) (h3 : StR φ M st sa) : StR φ M (v :: st) (a :: sa) := ⟨⟨h1, h2⟩, h3⟩
theorem StR_nil {φ : Nat → Nat} {M : ev_M} {sa : List Value} (h : StR φ M [] sa) : sa = [] := by
  cases sa with
  | nil => rfl
  | cons a r => exact h.elim
theorem wt_st {ls st st' : List Value} {M : ev_M} {pc' : Nat} (hrow : ∀ (φ : Nat → Nat) (stA : List Value), StR φ M st stA → ∃ stA', StR φ M st' stA' ∧ ∀ {lsA : Array Slot} {H : Heap} {locs : List Loc} {cells slots : Nat}, W p l e R s m args below meth c H locs cells slots Q (F0 m pc' lsA stA') → W p l e R s m args below meth c H locs cells slots Q (F0 m pc lsA stA)) (k : WT p l e R s m args below meth c Q D bs H0 nL c0 s0 M0 φ0 (ls, st', M) pc') : WT p l e R s m args below meth c Q D bs H0 nL c0 s0 M0 φ0 (ls, st, M) pc := by
  intro φ lsA stA H locs cells slots hE hn hR hL hS hl hc hs
  obtain ⟨stA', a, b⟩ := hrow φ stA hS
  exact b (k φ lsA stA' H locs cells slots hE hn hR hL a hl hc hs)
/-- what a push of a constant asks -/
theorem wt_push {ls st : List Value} {v : Value} {M : ev_M} {pc' : Nat} {vA : Value} (hv : ∀ φ, VR φ v vA) (hw : wfv M v) (hrow : ∀ {lsA : Array Slot} {H : Heap} {locs : List Loc} {cells slots : Nat} {rest : List Value}, W p l e R s m args below meth c H locs cells slots Q (F0 m pc' lsA (vA :: rest)) → W p l e R s m args below meth c H locs cells slots Q (F0 m pc lsA rest)) {S' : ev_S} (h : ev_push (ls, st, M) v = some S') (k : WT p l e R s m args below meth c Q D bs H0 nL c0 s0 M0 φ0 S' pc') : WT p l e R s m args below meth c Q D bs H0 nL c0 s0 M0 φ0 (ls, st, M) pc := by
  cases h
  exact wt_st (fun φ stA hs => ⟨vA :: stA, StR.mk (hv φ) hw hs, fun k => hrow k⟩) k
theorem wt_ii {f : Int32 → Int32 → Int32} {n : Nat} (hrow : ∀ {lsA : Array Slot} {H : Heap} {locs : List Loc} {cells slots : Nat} {x : Int32} {y : Int32} {rest : List Value}, W p l e R s m args below meth c H locs cells slots Q (F0 m (pc + n) lsA (.int (f x y) :: rest)) → W p l e R s m args below meth c H locs cells slots Q (F0 m pc lsA (.int y :: .int x :: rest))) {S S' : ev_S} (h : ev_ii S f = some S') (k : WT p l e R s m args below meth c Q D bs H0 nL c0 s0 M0 φ0 S' (pc + n)) : WT p l e R s m args below meth c Q D bs H0 nL c0 s0 M0 φ0 S pc := by
  obtain ⟨ls, st, M⟩ := S
  unfold ev_ii at h
  split at h
  · rename_i y x st heq
    cases h
    dsimp only at heq
    subst heq
    refine wt_st (fun φ stA hs => ?_) k
    obtain ⟨a, r, rfl, ha, -, hs1⟩ := StR_cons hs
    obtain ⟨b, r, rfl, hb, -, hs11⟩ := StR_cons hs1
    cases ha
    cases hb
    exact ⟨_, StR.mk rfl trivial hs11, fun k => hrow k⟩
  · cases h
theorem wt_iin {f : Int32 → Int32 → Int32} {ok : Int32 → Bool} {n : Nat} (hrow : ∀ {lsA : Array Slot} {H : Heap} {locs : List Loc} {cells slots : Nat} {x : Int32} {y : Int32} {rest : List Value}, ok y = true → W p l e R s m args below meth c H locs cells slots Q (F0 m (pc + n) lsA (.int (f x y) :: rest)) → W p l e R s m args below meth c H locs cells slots Q (F0 m pc lsA (.int y :: .int x :: rest))) {S S' : ev_S} (h : ev_i1n S ok f = some S') (k : WT p l e R s m args below meth c Q D bs H0 nL c0 s0 M0 φ0 S' (pc + n)) : WT p l e R s m args below meth c Q D bs H0 nL c0 s0 M0 φ0 S pc := by
  obtain ⟨ls, st, M⟩ := S
  unfold ev_i1n at h
  split at h
  · rename_i y x st heq
    split at h
    · rename_i hok
      cases h
      dsimp only at heq
      subst heq
      refine wt_st (fun φ stA hs => ?_) k
      obtain ⟨a, r, rfl, ha, -, hs1⟩ := StR_cons hs
      obtain ⟨b, r, rfl, hb, -, hs11⟩ := StR_cons hs1
      cases ha
      cases hb
      exact ⟨_, StR.mk rfl trivial hs11, fun k => hrow hok k⟩
    · cases h
  · cases h
theorem wt_ll {f : Int64 → Int64 → Int64} {n : Nat} (hrow : ∀ {lsA : Array Slot} {H : Heap} {locs : List Loc} {cells slots : Nat} {x : Int64} {y : Int64} {rest : List Value}, W p l e R s m args below meth c H locs cells slots Q (F0 m (pc + n) lsA (.long (f x y) :: rest)) → W p l e R s m args below meth c H locs cells slots Q (F0 m pc lsA (.long y :: .long x :: rest))) {S S' : ev_S} (h : ev_ll S f = some S') (k : WT p l e R s m args below meth c Q D bs H0 nL c0 s0 M0 φ0 S' (pc + n)) : WT p l e R s m args below meth c Q D bs H0 nL c0 s0 M0 φ0 S pc := by
  obtain ⟨ls, st, M⟩ := S
  unfold ev_ll at h
  split at h
  · rename_i y x st heq
    cases h
    dsimp only at heq
    subst heq
    refine wt_st (fun φ stA hs => ?_) k
    obtain ⟨a, r, rfl, ha, -, hs1⟩ := StR_cons hs
    obtain ⟨b, r, rfl, hb, -, hs11⟩ := StR_cons hs1
    cases ha
    cases hb
    exact ⟨_, StR.mk rfl trivial hs11, fun k => hrow k⟩
  · cases h
theorem wt_li {f : Int64 → Int32 → Int64} {n : Nat} (hrow : ∀ {lsA : Array Slot} {H : Heap} {locs : List Loc} {cells slots : Nat} {x : Int64} {y : Int32} {rest : List Value}, W p l e R s m args below meth c H locs cells slots Q (F0 m (pc + n) lsA (.long (f x y) :: rest)) → W p l e R s m args below meth c H locs cells slots Q (F0 m pc lsA (.int y :: .long x :: rest))) {S S' : ev_S} (h : ev_li S f = some S') (k : WT p l e R s m args below meth c Q D bs H0 nL c0 s0 M0 φ0 S' (pc + n)) : WT p l e R s m args below meth c Q D bs H0 nL c0 s0 M0 φ0 S pc := by
  obtain ⟨ls, st, M⟩ := S
  unfold ev_li at h
  split at h
  · rename_i y x st heq
    cases h
    dsimp only at heq
    subst heq
    refine wt_st (fun φ stA hs => ?_) k
    obtain ⟨a, r, rfl, ha, -, hs1⟩ := StR_cons hs
    obtain ⟨b, r, rfl, hb, -, hs11⟩ := StR_cons hs1
    cases ha
    cases hb
    exact ⟨_, StR.mk rfl trivial hs11, fun k => hrow k⟩
  · cases h
theorem wt_ffn {f : UInt32 → UInt32 → UInt32} {n : Nat} (hrow : ∀ {lsA : Array Slot} {H : Heap} {locs : List Loc} {cells slots : Nat} {x : UInt32} {y : UInt32} {rest : List Value}, f x y &&& 0x7fffffff ≤ 0x7f800000 → W p l e R s m args below meth c H locs cells slots Q (F0 m (pc + n) lsA (.float (f x y) :: rest)) → W p l e R s m args below meth c H locs cells slots Q (F0 m pc lsA (.float y :: .float x :: rest))) {S S' : ev_S} (h : ev_ffn S f = some S') (k : WT p l e R s m args below meth c Q D bs H0 nL c0 s0 M0 φ0 S' (pc + n)) : WT p l e R s m args below meth c Q D bs H0 nL c0 s0 M0 φ0 S pc := by
  obtain ⟨ls, st, M⟩ := S
  unfold ev_ffn at h
  split at h
  · rename_i y x st heq
    split at h
    · rename_i hok
      cases h
      dsimp only at heq
      subst heq
      refine wt_st (fun φ stA hs => ?_) k
      obtain ⟨a, r, rfl, ha, -, hs1⟩ := StR_cons hs
      obtain ⟨b, r, rfl, hb, -, hs11⟩ := StR_cons hs1
      cases ha
      cases hb
      exact ⟨_, StR.mk rfl trivial hs11, fun k => hrow hok k⟩
    · cases h
  · cases h
theorem wt_ddn {f : UInt64 → UInt64 → UInt64} {n : Nat} (hrow : ∀ {lsA : Array Slot} {H : Heap} {locs : List Loc} {cells slots : Nat} {x : UInt64} {y : UInt64} {rest : List Value}, f x y &&& 0x7fffffffffffffff ≤ 0x7ff0000000000000 → W p l e R s m args below meth c H locs cells slots Q (F0 m (pc + n) lsA (.double (f x y) :: rest)) → W p l e R s m args below meth c H locs cells slots Q (F0 m pc lsA (.double y :: .double x :: rest))) {S S' : ev_S} (h : ev_ddn S f = some S') (k : WT p l e R s m args below meth c Q D bs H0 nL c0 s0 M0 φ0 S' (pc + n)) : WT p l e R s m args below meth c Q D bs H0 nL c0 s0 M0 φ0 S pc := by
  obtain ⟨ls, st, M⟩ := S
  unfold ev_ddn at h
  split at h
  · rename_i y x st heq
    split at h
    · rename_i hok
      cases h
      dsimp only at heq
      subst heq
      refine wt_st (fun φ stA hs => ?_) k
      obtain ⟨a, r, rfl, ha, -, hs1⟩ := StR_cons hs
      obtain ⟨b, r, rfl, hb, -, hs11⟩ := StR_cons hs1
      cases ha
      cases hb
      exact ⟨_, StR.mk rfl trivial hs11, fun k => hrow hok k⟩
    · cases h
  · cases h
theorem wt_i1 {f : Int32 → Value} {n : Nat} (hf : ∀ φ x, VR φ (f x) (f x)) (hw : ∀ (M : ev_M) x, wfv M (f x)) (hrow : ∀ {lsA : Array Slot} {H : Heap} {locs : List Loc} {cells slots : Nat} {x : Int32} {rest : List Value}, W p l e R s m args below meth c H locs cells slots Q (F0 m (pc + n) lsA (f x :: rest)) → W p l e R s m args below meth c H locs cells slots Q (F0 m pc lsA (.int x :: rest))) {S S' : ev_S} (h : ev_i1 S f = some S') (k : WT p l e R s m args below meth c Q D bs H0 nL c0 s0 M0 φ0 S' (pc + n)) : WT p l e R s m args below meth c Q D bs H0 nL c0 s0 M0 φ0 S pc := by
  obtain ⟨ls, st, M⟩ := S
  unfold ev_i1 at h
  split at h
  · rename_i x st heq
    cases h
    dsimp only at heq
    subst heq
    refine wt_st (fun φ stA hs => ?_) k
    obtain ⟨a, r, rfl, ha, -, hs1⟩ := StR_cons hs
    cases ha
    exact ⟨_, StR.mk (hf φ x) (hw M x) hs1, fun k => hrow k⟩
  · cases h
theorem wt_l1 {f : Int64 → Value} {n : Nat} (hf : ∀ φ x, VR φ (f x) (f x)) (hw : ∀ (M : ev_M) x, wfv M (f x)) (hrow : ∀ {lsA : Array Slot} {H : Heap} {locs : List Loc} {cells slots : Nat} {x : Int64} {rest : List Value}, W p l e R s m args below meth c H locs cells slots Q (F0 m (pc + n) lsA (f x :: rest)) → W p l e R s m args below meth c H locs cells slots Q (F0 m pc lsA (.long x :: rest))) {S S' : ev_S} (h : ev_l1 S f = some S') (k : WT p l e R s m args below meth c Q D bs H0 nL c0 s0 M0 φ0 S' (pc + n)) : WT p l e R s m args below meth c Q D bs H0 nL c0 s0 M0 φ0 S pc := by
  obtain ⟨ls, st, M⟩ := S
  unfold ev_l1 at h
  split at h
  · rename_i x st heq
    cases h
    dsimp only at heq
    subst heq
    refine wt_st (fun φ stA hs => ?_) k
    obtain ⟨a, r, rfl, ha, -, hs1⟩ := StR_cons hs
    cases ha
    exact ⟨_, StR.mk (hf φ x) (hw M x) hs1, fun k => hrow k⟩
  · cases h
theorem wt_f1 {f : UInt32 → Value} {n : Nat} (hf : ∀ φ x, VR φ (f x) (f x)) (hw : ∀ (M : ev_M) x, wfv M (f x)) (hrow : ∀ {lsA : Array Slot} {H : Heap} {locs : List Loc} {cells slots : Nat} {x : UInt32} {rest : List Value}, W p l e R s m args below meth c H locs cells slots Q (F0 m (pc + n) lsA (f x :: rest)) → W p l e R s m args below meth c H locs cells slots Q (F0 m pc lsA (.float x :: rest))) {S S' : ev_S} (h : ev_f1 S f = some S') (k : WT p l e R s m args below meth c Q D bs H0 nL c0 s0 M0 φ0 S' (pc + n)) : WT p l e R s m args below meth c Q D bs H0 nL c0 s0 M0 φ0 S pc := by
  obtain ⟨ls, st, M⟩ := S
  unfold ev_f1 at h
  split at h
  · rename_i x st heq
    cases h
    dsimp only at heq
    subst heq
    refine wt_st (fun φ stA hs => ?_) k
    obtain ⟨a, r, rfl, ha, -, hs1⟩ := StR_cons hs
    cases ha
    exact ⟨_, StR.mk (hf φ x) (hw M x) hs1, fun k => hrow k⟩
  · cases h
theorem wt_d1 {f : UInt64 → Value} {n : Nat} (hf : ∀ φ x, VR φ (f x) (f x)) (hw : ∀ (M : ev_M) x, wfv M (f x)) (hrow : ∀ {lsA : Array Slot} {H : Heap} {locs : List Loc} {cells slots : Nat} {x : UInt64} {rest : List Value}, W p l e R s m args below meth c H locs cells slots Q (F0 m (pc + n) lsA (f x :: rest)) → W p l e R s m args below meth c H locs cells slots Q (F0 m pc lsA (.double x :: rest))) {S S' : ev_S} (h : ev_d1 S f = some S') (k : WT p l e R s m args below meth c Q D bs H0 nL c0 s0 M0 φ0 S' (pc + n)) : WT p l e R s m args below meth c Q D bs H0 nL c0 s0 M0 φ0 S pc := by
  obtain ⟨ls, st, M⟩ := S
  unfold ev_d1 at h
  split at h
  · rename_i x st heq
    cases h
    dsimp only at heq
    subst heq
    refine wt_st (fun φ stA hs => ?_) k
    obtain ⟨a, r, rfl, ha, -, hs1⟩ := StR_cons hs
    cases ha
    exact ⟨_, StR.mk (hf φ x) (hw M x) hs1, fun k => hrow k⟩
  · cases h
theorem wt_f2d (hrow : ∀ {lsA : Array Slot} {H : Heap} {locs : List Loc} {cells slots : Nat} {x : UInt32} {rest : List Value}, FP.f2d x &&& 0x7fffffffffffffff ≤ 0x7ff0000000000000 → W p l e R s m args below meth c H locs cells slots Q (F0 m (pc + 1) lsA (.double (FP.f2d x) :: rest)) → W p l e R s m args below meth c H locs cells slots Q (F0 m pc lsA (.float x :: rest))) {S S' : ev_S} (h : ev_f2dn S = some S') (k : WT p l e R s m args below meth c Q D bs H0 nL c0 s0 M0 φ0 S' (pc + 1)) : WT p l e R s m args below meth c Q D bs H0 nL c0 s0 M0 φ0 S pc := by
  obtain ⟨ls, st, M⟩ := S
  unfold ev_f2dn at h
  split at h
  · rename_i x st heq
    split at h
    · rename_i hok
      cases h
      dsimp only at heq
      subst heq
      refine wt_st (fun φ stA hs => ?_) k
      obtain ⟨a, r, rfl, ha, -, hs1⟩ := StR_cons hs
      cases ha
      exact ⟨_, StR.mk rfl trivial hs1, fun k => hrow hok k⟩
    · cases h
  · cases h
theorem wt_d2f (hrow : ∀ {lsA : Array Slot} {H : Heap} {locs : List Loc} {cells slots : Nat} {x : UInt64} {rest : List Value}, FP.d2f x &&& 0x7fffffff ≤ 0x7f800000 → W p l e R s m args below meth c H locs cells slots Q (F0 m (pc + 1) lsA (.float (FP.d2f x) :: rest)) → W p l e R s m args below meth c H locs cells slots Q (F0 m pc lsA (.double x :: rest))) {S S' : ev_S} (h : ev_d2fn S = some S') (k : WT p l e R s m args below meth c Q D bs H0 nL c0 s0 M0 φ0 S' (pc + 1)) : WT p l e R s m args below meth c Q D bs H0 nL c0 s0 M0 φ0 S pc := by
  obtain ⟨ls, st, M⟩ := S
  unfold ev_d2fn at h
  split at h
  · rename_i x st heq
    split at h
    · rename_i hok
      cases h
      dsimp only at heq
      subst heq
      refine wt_st (fun φ stA hs => ?_) k
      obtain ⟨a, r, rfl, ha, -, hs1⟩ := StR_cons hs
      cases ha
      exact ⟨_, StR.mk rfl trivial hs1, fun k => hrow hok k⟩
    · cases h
  · cases h
theorem wt_lcmp (hrow : ∀ {lsA : Array Slot} {H : Heap} {locs : List Loc} {cells slots : Nat} {x y : Int64} {rest : List Value}, W p l e R s m args below meth c H locs cells slots Q (F0 m (pc + 1) lsA (.int (lg_cmp x y) :: rest)) → W p l e R s m args below meth c H locs cells slots Q (F0 m pc lsA (.long y :: .long x :: rest))) {S S' : ev_S} (h : (match S.2.1 with | .long y :: .long x :: st => some (S.1, Value.int (lg_cmp x y) :: st, S.2.2) | _ => none) = some S') (k : WT p l e R s m args below meth c Q D bs H0 nL c0 s0 M0 φ0 S' (pc + 1)) : WT p l e R s m args below meth c Q D bs H0 nL c0 s0 M0 φ0 S pc := by
  obtain ⟨ls, st, M⟩ := S
  split at h
  · rename_i y x st heq
    cases h
    dsimp only at heq
    subst heq
    refine wt_st (fun φ stA hs => ?_) k
    obtain ⟨a, r, rfl, ha, -, hs1⟩ := StR_cons hs
    obtain ⟨b, r, rfl, hb, -, hs11⟩ := StR_cons hs1
    cases ha
    cases hb
    exact ⟨_, StR.mk rfl trivial hs11, fun k => hrow k⟩
  · cases h
theorem wt_fcmp {op : CmpOp} (hrow : ∀ {lsA : Array Slot} {H : Heap} {locs : List Loc} {cells slots : Nat} {x y : UInt32} {rest : List Value}, W p l e R s m args below meth c H locs cells slots Q (F0 m (pc + 1) lsA (.int (Op.cmpValue (FP.fcmp x y) op) :: rest)) → W p l e R s m args below meth c H locs cells slots Q (F0 m pc lsA (.float y :: .float x :: rest))) {S S' : ev_S} (h : (match S.2.1 with | .float y :: .float x :: st => some (S.1, Value.int (Op.cmpValue (FP.fcmp x y) op) :: st, S.2.2) | _ => none) = some S') (k : WT p l e R s m args below meth c Q D bs H0 nL c0 s0 M0 φ0 S' (pc + 1)) : WT p l e R s m args below meth c Q D bs H0 nL c0 s0 M0 φ0 S pc := by
  obtain ⟨ls, st, M⟩ := S
  split at h
  · rename_i y x st heq
    cases h
    dsimp only at heq
    subst heq
    refine wt_st (fun φ stA hs => ?_) k
    obtain ⟨a, r, rfl, ha, -, hs1⟩ := StR_cons hs
    obtain ⟨b, r, rfl, hb, -, hs11⟩ := StR_cons hs1
    cases ha
    cases hb
    exact ⟨_, StR.mk rfl trivial hs11, fun k => hrow k⟩
  · cases h
theorem wt_dcmp {op : CmpOp} (hrow : ∀ {lsA : Array Slot} {H : Heap} {locs : List Loc} {cells slots : Nat} {x y : UInt64} {rest : List Value}, W p l e R s m args below meth c H locs cells slots Q (F0 m (pc + 1) lsA (.int (Op.cmpValue (FP.dcmp x y) op) :: rest)) → W p l e R s m args below meth c H locs cells slots Q (F0 m pc lsA (.double y :: .double x :: rest))) {S S' : ev_S} (h : (match S.2.1 with | .double y :: .double x :: st => some (S.1, Value.int (Op.cmpValue (FP.dcmp x y) op) :: st, S.2.2) | _ => none) = some S') (k : WT p l e R s m args below meth c Q D bs H0 nL c0 s0 M0 φ0 S' (pc + 1)) : WT p l e R s m args below meth c Q D bs H0 nL c0 s0 M0 φ0 S pc := by
  obtain ⟨ls, st, M⟩ := S
  split at h
  · rename_i y x st heq
    cases h
    dsimp only at heq
    subst heq
    refine wt_st (fun φ stA hs => ?_) k
    obtain ⟨a, r, rfl, ha, -, hs1⟩ := StR_cons hs
    obtain ⟨b, r, rfl, hb, -, hs11⟩ := StR_cons hs1
    cases ha
    cases hb
    exact ⟨_, StR.mk rfl trivial hs11, fun k => hrow k⟩
  · cases h
theorem wt_iload {i n : Nat} (hrow : ∀ {lsA : Array Slot} {H : Heap} {locs : List Loc} {cells slots : Nat} {x : Int32} {rest : List Value}, lsA[i]? = some (.val (.int x)) → W p l e R s m args below meth c H locs cells slots Q (F0 m (pc + n) lsA (.int x :: rest)) → W p l e R s m args below meth c H locs cells slots Q (F0 m pc lsA rest)) {S S' : ev_S} (h : ev_iload S i = some S') (k : WT p l e R s m args below meth c Q D bs H0 nL c0 s0 M0 φ0 S' (pc + n)) : WT p l e R s m args below meth c Q D bs H0 nL c0 s0 M0 φ0 S pc := by
  obtain ⟨ls, st, M⟩ := S
  unfold ev_iload at h
  split at h
  · rename_i x heq
    cases h
    intro φ lsA stA H locs cells slots hE hn hR hL hS hl hc hs
    obtain ⟨hw, vA, hv, hi⟩ := hL.get heq (by intro q; cases q)
    cases hv
    exact hrow hi (k φ lsA (_ :: stA) H locs cells slots hE hn hR hL (StR.mk rfl hw hS) hl hc hs)
  · cases h
theorem wt_lload {i n : Nat} (hrow : ∀ {lsA : Array Slot} {H : Heap} {locs : List Loc} {cells slots : Nat} {x : Int64} {rest : List Value}, lsA[i]? = some (.val (.long x)) → W p l e R s m args below meth c H locs cells slots Q (F0 m (pc + n) lsA (.long x :: rest)) → W p l e R s m args below meth c H locs cells slots Q (F0 m pc lsA rest)) {S S' : ev_S} (h : ev_lload S i = some S') (k : WT p l e R s m args below meth c Q D bs H0 nL c0 s0 M0 φ0 S' (pc + n)) : WT p l e R s m args below meth c Q D bs H0 nL c0 s0 M0 φ0 S pc := by
  obtain ⟨ls, st, M⟩ := S
  unfold ev_lload at h
  split at h
  · rename_i x heq
    cases h
    intro φ lsA stA H locs cells slots hE hn hR hL hS hl hc hs
    obtain ⟨hw, vA, hv, hi⟩ := hL.get heq (by intro q; cases q)
    cases hv
    exact hrow hi (k φ lsA (_ :: stA) H locs cells slots hE hn hR hL (StR.mk rfl hw hS) hl hc hs)
  · cases h
theorem wt_fload {i n : Nat} (hrow : ∀ {lsA : Array Slot} {H : Heap} {locs : List Loc} {cells slots : Nat} {x : UInt32} {rest : List Value}, lsA[i]? = some (.val (.float x)) → W p l e R s m args below meth c H locs cells slots Q (F0 m (pc + n) lsA (.float x :: rest)) → W p l e R s m args below meth c H locs cells slots Q (F0 m pc lsA rest)) {S S' : ev_S} (h : ev_fload S i = some S') (k : WT p l e R s m args below meth c Q D bs H0 nL c0 s0 M0 φ0 S' (pc + n)) : WT p l e R s m args below meth c Q D bs H0 nL c0 s0 M0 φ0 S pc := by
  obtain ⟨ls, st, M⟩ := S
  unfold ev_fload at h
  split at h
  · rename_i x heq
    cases h
    intro φ lsA stA H locs cells slots hE hn hR hL hS hl hc hs
    obtain ⟨hw, vA, hv, hi⟩ := hL.get heq (by intro q; cases q)
    cases hv
    exact hrow hi (k φ lsA (_ :: stA) H locs cells slots hE hn hR hL (StR.mk rfl hw hS) hl hc hs)
  · cases h
theorem wt_dload {i n : Nat} (hrow : ∀ {lsA : Array Slot} {H : Heap} {locs : List Loc} {cells slots : Nat} {x : UInt64} {rest : List Value}, lsA[i]? = some (.val (.double x)) → W p l e R s m args below meth c H locs cells slots Q (F0 m (pc + n) lsA (.double x :: rest)) → W p l e R s m args below meth c H locs cells slots Q (F0 m pc lsA rest)) {S S' : ev_S} (h : ev_dload S i = some S') (k : WT p l e R s m args below meth c Q D bs H0 nL c0 s0 M0 φ0 S' (pc + n)) : WT p l e R s m args below meth c Q D bs H0 nL c0 s0 M0 φ0 S pc := by
  obtain ⟨ls, st, M⟩ := S
  unfold ev_dload at h
  split at h
  · rename_i x heq
    cases h
    intro φ lsA stA H locs cells slots hE hn hR hL hS hl hc hs
    obtain ⟨hw, vA, hv, hi⟩ := hL.get heq (by intro q; cases q)
    cases hv
    exact hrow hi (k φ lsA (_ :: stA) H locs cells slots hE hn hR hL (StR.mk rfl hw hS) hl hc hs)
  · cases h
theorem wt_aload {i n : Nat} (hrow : ∀ {lsA : Array Slot} {H : Heap} {locs : List Loc} {cells slots : Nat} {x : Nat} {rest : List Value}, lsA[i]? = some (.val (.ref x)) → W p l e R s m args below meth c H locs cells slots Q (F0 m (pc + n) lsA (.ref x :: rest)) → W p l e R s m args below meth c H locs cells slots Q (F0 m pc lsA rest)) (hrowN : ∀ {lsA : Array Slot} {H : Heap} {locs : List Loc} {cells slots : Nat} {rest : List Value}, lsA[i]? = some (.val .null) → W p l e R s m args below meth c H locs cells slots Q (F0 m (pc + n) lsA (.null :: rest)) → W p l e R s m args below meth c H locs cells slots Q (F0 m pc lsA rest)) {S S' : ev_S} (h : ev_aload S i = some S') (k : WT p l e R s m args below meth c Q D bs H0 nL c0 s0 M0 φ0 S' (pc + n)) : WT p l e R s m args below meth c Q D bs H0 nL c0 s0 M0 φ0 S pc := by
  obtain ⟨ls, st, M⟩ := S
  unfold ev_aload at h
  split at h
  · rename_i x heq
    cases h
    intro φ lsA stA H locs cells slots hE hn hR hL hS hl hc hs
    obtain ⟨hw, vA, hv, hi⟩ := hL.get heq (by intro q; cases q)
    have k2 := k φ lsA (vA :: stA) H locs cells slots hE hn hR hL (StR.mk hv hw hS) hl hc hs
    have hv : vA = crf φ x := hv
    unfold crf at hv
    split at hv
    · subst hv; exact hrowN hi k2
    · subst hv; exact hrow hi k2
  · cases h
theorem wt_istore {i n : Nat} (hrow : ∀ {lsA : Array Slot} {H : Heap} {locs : List Loc} {cells slots : Nat} {x : Int32} {rest : List Value} {lv : List (Nat × Value)}, lv_has lsA nL lv → i < nL → (∀ ls' : Array Slot, lv_has ls' nL ((i, .int x) :: lv.filter (fun q : Nat × Value => !(q.1 == i) && !(q.1 + 1 == i && q.2.category == 2))) → W p l e R s m args below meth c H locs cells slots Q (F0 m (pc + n) ls' rest)) → W p l e R s m args below meth c H locs cells slots Q (F0 m pc lsA (.int x :: rest))) {S S' : ev_S} (h : ev_istore S i = some S') (k : WT p l e R s m args below meth c Q D bs H0 nL c0 s0 M0 φ0 S' (pc + n)) : WT p l e R s m args below meth c Q D bs H0 nL c0 s0 M0 φ0 S pc := by
  obtain ⟨ls, st, M⟩ := S
  unfold ev_istore at h
  split at h
  · rename_i x st heq
    dsimp only at heq
    subst heq
    cases hs1 : ev_set1 i (.int x) ls with
    | none => dsimp only at h; rw [hs1] at h; cases h
    | some ls' =>
      dsimp only at h
      rw [hs1] at h
      cases h
      intro φ lsA stA H locs cells slots hE hn hR hL hS hl hc hs
      obtain ⟨a, r, rfl, ha, hw, hS1⟩ := StR_cons hS
      cases ha
      obtain ⟨h0, lv, h1, h2⟩ := hL
      exact hrow h1 (h0 ▸ (set1_spec hs1).1) fun ls2 hl2 => k φ ls2 r H locs cells slots hE hn hR (LocR.set1 h0 h2 hs1 rfl trivial hl2) hS1 hl hc hs
  · cases h
theorem wt_fstore {i n : Nat} (hrow : ∀ {lsA : Array Slot} {H : Heap} {locs : List Loc} {cells slots : Nat} {x : UInt32} {rest : List Value} {lv : List (Nat × Value)}, lv_has lsA nL lv → i < nL → (∀ ls' : Array Slot, lv_has ls' nL ((i, .float x) :: lv.filter (fun q : Nat × Value => !(q.1 == i) && !(q.1 + 1 == i && q.2.category == 2))) → W p l e R s m args below meth c H locs cells slots Q (F0 m (pc + n) ls' rest)) → W p l e R s m args below meth c H locs cells slots Q (F0 m pc lsA (.float x :: rest))) {S S' : ev_S} (h : ev_fstore S i = some S') (k : WT p l e R s m args below meth c Q D bs H0 nL c0 s0 M0 φ0 S' (pc + n)) : WT p l e R s m args below meth c Q D bs H0 nL c0 s0 M0 φ0 S pc := by
  obtain ⟨ls, st, M⟩ := S
  unfold ev_fstore at h
  split at h
  · rename_i x st heq
    dsimp only at heq
    subst heq
    cases hs1 : ev_set1 i (.float x) ls with
    | none => dsimp only at h; rw [hs1] at h; cases h
    | some ls' =>
      dsimp only at h
      rw [hs1] at h
      cases h
      intro φ lsA stA H locs cells slots hE hn hR hL hS hl hc hs
      obtain ⟨a, r, rfl, ha, hw, hS1⟩ := StR_cons hS
      cases ha
      obtain ⟨h0, lv, h1, h2⟩ := hL
      exact hrow h1 (h0 ▸ (set1_spec hs1).1) fun ls2 hl2 => k φ ls2 r H locs cells slots hE hn hR (LocR.set1 h0 h2 hs1 rfl trivial hl2) hS1 hl hc hs
  · cases h
theorem wt_lstore {i n : Nat} (hrow : ∀ {lsA : Array Slot} {H : Heap} {locs : List Loc} {cells slots : Nat} {x : Int64} {rest : List Value} {lv : List (Nat × Value)}, lv_has lsA nL lv → i + 1 < nL → (∀ ls' : Array Slot, lv_has ls' nL ((i, .long x) :: lv.filter (fun q : Nat × Value => !(q.1 == i) && (!(q.1 == i + 1) && !(q.1 + 1 == i && q.2.category == 2)))) → W p l e R s m args below meth c H locs cells slots Q (F0 m (pc + n) ls' rest)) → W p l e R s m args below meth c H locs cells slots Q (F0 m pc lsA (.long x :: rest))) {S S' : ev_S} (h : ev_lstore S i = some S') (k : WT p l e R s m args below meth c Q D bs H0 nL c0 s0 M0 φ0 S' (pc + n)) : WT p l e R s m args below meth c Q D bs H0 nL c0 s0 M0 φ0 S pc := by
  obtain ⟨ls, st, M⟩ := S
  unfold ev_lstore at h
  split at h
  · rename_i x st heq
    dsimp only at heq
    subst heq
    cases hs1 : ev_set2 i (.long x) ls with
    | none => dsimp only at h; rw [hs1] at h; cases h
    | some ls' =>
      dsimp only at h
      rw [hs1] at h
      cases h
      intro φ lsA stA H locs cells slots hE hn hR hL hS hl hc hs
      obtain ⟨a, r, rfl, ha, hw, hS1⟩ := StR_cons hS
      cases ha
      obtain ⟨h0, lv, h1, h2⟩ := hL
      exact hrow h1 (h0 ▸ (set2_spec hs1).1) fun ls2 hl2 => k φ ls2 r H locs cells slots hE hn hR (LocR.set2 h0 h2 hs1 rfl trivial hl2) hS1 hl hc hs
  · cases h
theorem wt_dstore {i n : Nat} (hrow : ∀ {lsA : Array Slot} {H : Heap} {locs : List Loc} {cells slots : Nat} {x : UInt64} {rest : List Value} {lv : List (Nat × Value)}, lv_has lsA nL lv → i + 1 < nL → (∀ ls' : Array Slot, lv_has ls' nL ((i, .double x) :: lv.filter (fun q : Nat × Value => !(q.1 == i) && (!(q.1 == i + 1) && !(q.1 + 1 == i && q.2.category == 2)))) → W p l e R s m args below meth c H locs cells slots Q (F0 m (pc + n) ls' rest)) → W p l e R s m args below meth c H locs cells slots Q (F0 m pc lsA (.double x :: rest))) {S S' : ev_S} (h : ev_dstore S i = some S') (k : WT p l e R s m args below meth c Q D bs H0 nL c0 s0 M0 φ0 S' (pc + n)) : WT p l e R s m args below meth c Q D bs H0 nL c0 s0 M0 φ0 S pc := by
  obtain ⟨ls, st, M⟩ := S
  unfold ev_dstore at h
  split at h
  · rename_i x st heq
    dsimp only at heq
    subst heq
    cases hs1 : ev_set2 i (.double x) ls with
    | none => dsimp only at h; rw [hs1] at h; cases h
    | some ls' =>
      dsimp only at h
      rw [hs1] at h
      cases h
      intro φ lsA stA H locs cells slots hE hn hR hL hS hl hc hs
      obtain ⟨a, r, rfl, ha, hw, hS1⟩ := StR_cons hS
      cases ha
      obtain ⟨h0, lv, h1, h2⟩ := hL
      exact hrow h1 (h0 ▸ (set2_spec hs1).1) fun ls2 hl2 => k φ ls2 r H locs cells slots hE hn hR (LocR.set2 h0 h2 hs1 rfl trivial hl2) hS1 hl hc hs
  · cases h
theorem wt_astore {i n : Nat} (hrow : ∀ {lsA : Array Slot} {H : Heap} {locs : List Loc} {cells slots : Nat} {x : Nat} {rest : List Value} {lv : List (Nat × Value)}, lv_has lsA nL lv → i < nL → (∀ ls' : Array Slot, lv_has ls' nL ((i, .ref x) :: lv.filter (fun q : Nat × Value => !(q.1 == i) && !(q.1 + 1 == i && q.2.category == 2))) → W p l e R s m args below meth c H locs cells slots Q (F0 m (pc + n) ls' rest)) → W p l e R s m args below meth c H locs cells slots Q (F0 m pc lsA (.ref x :: rest))) (hrowN : ∀ {lsA : Array Slot} {H : Heap} {locs : List Loc} {cells slots : Nat} {rest : List Value} {lv : List (Nat × Value)}, lv_has lsA nL lv → i < nL → (∀ ls' : Array Slot, lv_has ls' nL ((i, .null) :: lv.filter (fun q : Nat × Value => !(q.1 == i) && !(q.1 + 1 == i && q.2.category == 2))) → W p l e R s m args below meth c H locs cells slots Q (F0 m (pc + n) ls' rest)) → W p l e R s m args below meth c H locs cells slots Q (F0 m pc lsA (.null :: rest))) {S S' : ev_S} (h : ev_astore S i = some S') (k : WT p l e R s m args below meth c Q D bs H0 nL c0 s0 M0 φ0 S' (pc + n)) : WT p l e R s m args below meth c Q D bs H0 nL c0 s0 M0 φ0 S pc := by
  obtain ⟨ls, st, M⟩ := S
  unfold ev_astore at h
  split at h
  · rename_i x st heq
    dsimp only at heq
    subst heq
    cases hs1 : ev_set1 i (.ref x) ls with
    | none => dsimp only at h; rw [hs1] at h; cases h
    | some ls' =>
      dsimp only at h
      rw [hs1] at h
      cases h
      intro φ lsA stA H locs cells slots hE hn hR hL hS hl hc hs
      obtain ⟨a, r, rfl, ha, hw, hS1⟩ := StR_cons hS
      obtain ⟨h0, lv, h1, h2⟩ := hL
      have hv : a = crf φ x := ha
      by_cases hx : x = 0
      · have ea : a = .null := by rw [hv, crf, if_pos hx]
        subst ea
        exact hrowN h1 (h0 ▸ (set1_spec hs1).1) fun ls2 hl2 => k φ ls2 r H locs cells slots hE hn hR (LocR.set1 h0 h2 hs1 ha hw hl2) hS1 hl hc hs
      · have ea : a = .ref (φ x) := by rw [hv, crf, if_neg hx]
        subst ea
        exact hrow h1 (h0 ▸ (set1_spec hs1).1) fun ls2 hl2 => k φ ls2 r H locs cells slots hE hn hR (LocR.set1 h0 h2 hs1 ha hw hl2) hS1 hl hc hs
  · rename_i st heq
    dsimp only at heq
    subst heq
    cases hs1 : ev_set1 i ek ls with
    | none => dsimp only at h; rw [hs1] at h; cases h
    | some ls' =>
      dsimp only at h
      rw [hs1] at h
      cases h
      intro φ lsA stA H locs cells slots hE hn hR hL hS hl hc hs
      obtain ⟨a, r, rfl, ha, hw, hS1⟩ := StR_cons hS
      obtain ⟨h0, lv, h1, h2⟩ := hL
      obtain ⟨-, q, rfl⟩ : 1 = 1 ∧ ∃ q, a = Value.ref q := ha
      exact hrow h1 (h0 ▸ (set1_spec hs1).1) fun ls2 hl2 => k φ ls2 r H locs cells slots hE hn hR (LocR.set1 h0 h2 hs1 ⟨rfl, q, rfl⟩ trivial hl2) hS1 hl hc hs
  · cases h
theorem wt_iinc {i : Nat} {z : Int} {n : Nat} (hrow : ∀ {lsA : Array Slot} {H : Heap} {locs : List Loc} {cells slots : Nat} {x : Int32} {rest : List Value} {lv : List (Nat × Value)} {q : Nat}, lv_has lsA nL lv → lv[q]? = some (i, .int x) → i < nL → (∀ ls' : Array Slot, lv_has ls' nL ((i, .int (x + Int32.ofInt z)) :: lv.filter (fun q : Nat × Value => !(q.1 == i) && !(q.1 + 1 == i && q.2.category == 2))) → W p l e R s m args below meth c H locs cells slots Q (F0 m (pc + n) ls' rest)) → W p l e R s m args below meth c H locs cells slots Q (F0 m pc lsA rest)) {S S' : ev_S} (h : ev_iinc S i z = some S') (k : WT p l e R s m args below meth c Q D bs H0 nL c0 s0 M0 φ0 S' (pc + n)) : WT p l e R s m args below meth c Q D bs H0 nL c0 s0 M0 φ0 S pc := by
  obtain ⟨ls, st, M⟩ := S
  unfold ev_iinc at h
  split at h
  · rename_i x heq
    cases hs1 : ev_set1 i (.int (x + Int32.ofInt z)) ls with
    | none => dsimp only at h; rw [hs1] at h; cases h
    | some ls' =>
      dsimp only at h
      rw [hs1] at h
      cases h
      intro φ lsA stA H locs cells slots hE hn hR hL hS hl hc hs
      obtain ⟨h0, lv, h1, h2⟩ := hL
      obtain ⟨-, vA, hv, hm⟩ := h2 i _ heq (by intro q; cases q)
      cases hv
      obtain ⟨q, hq⟩ := List.getElem?_of_mem hm
      exact hrow h1 hq (h0 ▸ (set1_spec hs1).1) fun ls2 hl2 => k φ ls2 stA H locs cells slots hE hn hR (LocR.set1 h0 h2 hs1 rfl trivial hl2) hS hl hc hs
  · cases h
end
