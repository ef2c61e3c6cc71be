/-! SOUNDNESS: branches, switches, returns (by gen/ctl.py) -/
/-- how a branch goes on -/
def joff : Instr → Option Int
  | .ifCond _ o => some o
  | .if_icmp _ o => some o
  | .if_acmp _ o => some o
  | .ifnull o => some o
  | .ifnonnull o => some o
  | .goto o => some o
  | _ => none
/-- the name of an exception -/
def exn (e : Nat) : String := match e with
  | 1 => "java/lang/NullPointerException"
  | 2 => "java/lang/ClassCastException"
  | 3 => "java/lang/ArrayIndexOutOfBoundsException"
  | 4 => "java/lang/ArrayStoreException"
  | 5 => "java/lang/NegativeArraySizeException"
  | _ => "java/lang/ArithmeticException"
/-- what a method gives back -/
def RV (φ : Nat → Nat) (M : ev_M) (r : Value) (v : Option Value) : Prop := (r = jk ∧ v = none) ∨ (r ≠ jk ∧ wfv M r ∧ ∃ a, v = some a ∧ VR φ r a)
def QC (D : rl_D) (bs : Nat) (H0 : Heap) (M0 : ev_M) (φ0 : Nat → Nat) (o : Nat) (r : Value) (M' : ev_M) : Array Value → State → Outcome → State → Prop := fun _ _ oc t =>
  o = 0 ∧ nx M0 ≤ nx M' ∧ ∃ (φ : Nat → Nat) (v : Option Value), oc = .returned v ∧ Ext M0 φ0 φ ∧ Rel D φ bs H0 M' t.heap ∧ RV φ M' r v
def XCC (D : rl_D) (bs : Nat) (H0 : Heap) (M0 : ev_M) (φ0 : Nat → Nat) (o : Nat) (M' : ev_M) : String → State → State → Prop := fun E _ t =>
  nx M0 ≤ nx M' ∧ ∃ (k : Nat) (φ : Nat → Nat), o = k + 1 ∧ E = exn k ∧ Ext M0 φ0 φ ∧ Rel D φ bs H0 M' t.heap
abbrev FQ (below : List Frame) (args : Array Value) (s : State) (D : rl_D) (bs : Nat) (H0 : Heap) (M0 : ev_M) (φ0 : Nat → Nat) (o : Nat) (r : Value) (M' : ev_M) : State → Prop :=
  vx_MQ below (QC D bs H0 M0 φ0 o r M') (XCC D bs H0 M0 φ0 o M') args s (ncl M' - ncl M0) (nsl M' - nsl M0) (bs ≤ ·)
/-- the return's type -/
def RTOK (i : Instr) (ar : List Nat) (ret : Option FieldType) : Prop := match i with
  | .ireturn => (ar = [] ∧ ret = some .int) ∨ (ar = [5] ∧ ret = some .boolean)
  | .lreturn => ret = some .long
  | .freturn => ret = some .float
  | .dreturn => ret = some .double
  | .areturn => ∃ rt, ret = some rt ∧ ((∃ n, rt = .object n) ∨ ∃ t, rt = .array t)
  | .return_ => ret = none
  | _ => True
section
variable {p : Program} {l : Launch} {e : Env} {R : Room} {s : State} {m : MethodId} {args : Array Value} {below : List Frame} {meth : Method} {c : Code} {Q : State → Prop}
variable {D : rl_D} {bs : Nat} {H0 : Heap} {nL c0 s0 : Nat} {M0 : ev_M} {φ0 : Nat → Nat} {cd : ByteArray} {pc : Nat} {own : String}
theorem crf_rf (φ : Nat → Nat) (x : Nat) : crf φ x = va_rf (if x = 0 then none else some (φ x)) := by
  unfold crf
  split <;> rfl
theorem crf_inj {φ : Nat → Nat} {M : ev_M} {H : Heap} (hR : Rel D φ bs H0 M H) {x y : Nat} (hx : x < nx M) (hy : y < nx M) (h : x = y ∨ x = 0 ∨ y = 0 ∨ (ev_own (mK M x) = true ∧ ¬ mK M y = 0) ∨ (ev_own (mK M y) = true ∧ ¬ mK M x = 0)) :
    ((if x = 0 then (none : Option Nat) else some (φ x)) = (if y = 0 then none else some (φ y))) ↔ x = y := by
  constructor
  · intro q
    by_cases h0 : x = 0
    · rw [if_pos h0] at q
      by_cases h1 : y = 0
      · omega
      · rw [if_neg h1] at q; cases q
    · rw [if_neg h0] at q
      by_cases h1 : y = 0
      · rw [if_pos h1] at q; cases q
      · rw [if_neg h1] at q
        have q := Option.some.inj q
        rcases h with h | h | h | h | h
        · exact h
        · exact absurd h h0
        · exact absurd h h1
        · exact ((hR.2.2.2.1 x h.1).2 y h.2 q.symm).symm
        · exact (hR.2.2.2.1 y h.1).2 x h.2 q
  · intro q
    rw [q]
theorem wt_if (hx : p.tables.exec = Jvm.exec) (hb : c.code = cd) {cc : ClassFile.Cond} {off : Int} {tgt : Nat} (hd : decode cd pc = .ok (.ifCond cc off, 3)) (ht : (pc : Int) + off = tgt) {ls st : List Value} {M : ev_M} {x : Int32}
    (kt : ev_cc cc x 0 = true → WT p l e R s m args below meth c Q D bs H0 nL c0 s0 M0 φ0 (ls, st, M) tgt) (kf : ev_cc cc x 0 = false → WT p l e R s m args below meth c Q D bs H0 nL c0 s0 M0 φ0 (ls, st, M) (pc + 3)) : WT p l e R s m args below meth c Q D bs H0 nL c0 s0 M0 φ0 (ls, .int x :: st, M) pc := by
  intro φ lsA stA H locs cells slots hE hn hR hL hS hl hc hs
  obtain ⟨a, r, rfl, ha, -, hS1⟩ := StR_cons hS
  cases ha
  have k1 := fun q => kt q φ lsA r H locs cells slots hE hn hR hL hS1 hl hc hs
  have k2 := fun q => kf q φ lsA r H locs cells slots hE hn hR hL hS1 hl hc hs
  cases cc with
  | eq => exact lv_if_eq hx hb hd ht (fun q => k1 (decide_eq_true q)) (fun q => k2 (decide_eq_false q))
  | ne => exact lv_if_ne hx hb hd ht (fun q => k1 (decide_eq_true q)) (fun q => k2 (decide_eq_false (fun z => z q)))
  | lt => exact lv_if_lt hx hb hd ht (fun q => k1 (decide_eq_true q)) (fun q => k2 (decide_eq_false q))
  | ge => exact lv_if_ge hx hb hd ht (fun q => k1 (decide_eq_true q)) (fun q => k2 (decide_eq_false q))
  | gt => exact lv_if_gt hx hb hd ht (fun q => k1 (decide_eq_true q)) (fun q => k2 (decide_eq_false q))
  | le => exact lv_if_le hx hb hd ht (fun q => k1 (decide_eq_true q)) (fun q => k2 (decide_eq_false q))
theorem wt_icmp (hx : p.tables.exec = Jvm.exec) (hb : c.code = cd) {cc : ClassFile.Cond} {off : Int} {tgt : Nat} (hd : decode cd pc = .ok (.if_icmp cc off, 3)) (ht : (pc : Int) + off = tgt) {ls st : List Value} {M : ev_M} {x y : Int32}
    (kt : ev_cc cc x y = true → WT p l e R s m args below meth c Q D bs H0 nL c0 s0 M0 φ0 (ls, st, M) tgt) (kf : ev_cc cc x y = false → WT p l e R s m args below meth c Q D bs H0 nL c0 s0 M0 φ0 (ls, st, M) (pc + 3)) : WT p l e R s m args below meth c Q D bs H0 nL c0 s0 M0 φ0 (ls, .int y :: .int x :: st, M) pc := by
  intro φ lsA stA H locs cells slots hE hn hR hL hS hl hc hs
  obtain ⟨a, r, rfl, ha, -, hS0⟩ := StR_cons hS
  obtain ⟨a1, r, rfl, ha1, -, hS1⟩ := StR_cons hS0
  cases ha
  cases ha1
  have k1 := fun q => kt q φ lsA r H locs cells slots hE hn hR hL hS1 hl hc hs
  have k2 := fun q => kf q φ lsA r H locs cells slots hE hn hR hL hS1 hl hc hs
  cases cc with
  | eq => exact lv_icmp_eq hx hb hd ht (fun q => k1 (decide_eq_true q)) (fun q => k2 (decide_eq_false q))
  | ne => exact lv_icmp_ne hx hb hd ht (fun q => k1 (decide_eq_true q)) (fun q => k2 (decide_eq_false (fun z => z q)))
  | lt => exact lv_icmp_lt hx hb hd ht (fun q => k1 (decide_eq_true q)) (fun q => k2 (decide_eq_false q))
  | ge => exact lv_icmp_ge hx hb hd ht (fun q => k1 (decide_eq_true q)) (fun q => k2 (decide_eq_false q))
  | gt => exact lv_icmp_gt hx hb hd ht (fun q => k1 (decide_eq_true q)) (fun q => k2 (decide_eq_false q))
  | le => exact lv_icmp_le hx hb hd ht (fun q => k1 (decide_eq_true q)) (fun q => k2 (decide_eq_false q))
theorem wt_br (hx : p.tables.exec = Jvm.exec) (hb : c.code = cd) {i : Instr} {b : Bool} {S S' : ev_S} (h : ev_br i S = some (b, S')) (hd : decode cd pc = .ok (i, 3)) {tgt : Nat} (hj : ∀ off, joff i = some off → (pc : Int) + off = tgt)
    (kt : b = true → WT p l e R s m args below meth c Q D bs H0 nL c0 s0 M0 φ0 S' tgt) (kf : b = false → WT p l e R s m args below meth c Q D bs H0 nL c0 s0 M0 φ0 S' (pc + 3)) : WT p l e R s m args below meth c Q D bs H0 nL c0 s0 M0 φ0 S pc := by
  obtain ⟨ls, st, M⟩ := S
  unfold ev_br at h
  split at h
  · rename_i cc off
    split at h
    · rename_i x st heq
      dsimp only at heq
      subst heq
      cases h
      exact wt_if hx hb hd (hj _ rfl) kt kf
    · cases h
  · rename_i cc off
    split at h
    · rename_i y x st heq
      dsimp only at heq
      subst heq
      cases h
      exact wt_icmp hx hb hd (hj _ rfl) kt kf
    · cases h
  · rename_i cc off
    split at h
    · rename_i y x st heq
      dsimp only at heq
      subst heq
      split at h
      · rename_i hown
        cases h
        intro φ lsA stA H locs cells slots hE hn hR hL hS hl hc hs
        have hR : Rel D φ bs H0 M H := hR
        obtain ⟨a, r, rfl, ha, hw, hS0⟩ := StR_cons hS
        obtain ⟨a1, r, rfl, ha1, hw1, hS1⟩ := StR_cons hS0
        have ha : a = crf φ y := ha
        have ha1 : a1 = crf φ x := ha1
        have hw : y < nx M := hw
        have hw1 : x < nx M := hw1
        have hiff := crf_inj hR hw1 hw hown
        rw [ha, ha1, crf_rf, crf_rf]
        have k1 := fun q => kt q φ lsA r H locs cells slots hE hn hR hL hS1 hl hc hs
        have k2 := fun q => kf q φ lsA r H locs cells slots hE hn hR hL hS1 hl hc hs
        cases cc with
        | eq => exact lv_acmp_eq hx hb hd (hj _ rfl) (fun q => k1 (decide_eq_true (hiff.mp q))) (fun q => k2 (decide_eq_false fun z => q (hiff.mpr z)))
        | ne => exact lv_acmp_ne hx hb hd (hj _ rfl) (fun q => k1 (decide_eq_true fun z => q (hiff.mpr z))) (fun q => k2 (decide_eq_false fun z => z (hiff.mp q)))
      · cases h
    · cases h
  · rename_i off
    split at h
    · rename_i x st heq
      dsimp only at heq
      subst heq
      cases h
      intro φ lsA stA H locs cells slots hE hn hR hL hS hl hc hs
      obtain ⟨a, r, rfl, ha, hw, hS1⟩ := StR_cons hS
      have ha : a = crf φ x := ha
      have k1 := fun q => kt q φ lsA r H locs cells slots hE hn hR hL hS1 hl hc hs
      have k2 := fun q => kf q φ lsA r H locs cells slots hE hn hR hL hS1 hl hc hs
      by_cases h0 : x = 0
      · rw [ha, crf, if_pos h0]
        exact lv_ifnullN hx hb hd (hj _ rfl) (k1 (decide_eq_true h0))
      · rw [ha, crf, if_neg h0]
        exact lv_ifnull hx hb hd (k2 (decide_eq_false h0))
    · cases h
  · rename_i off
    split at h
    · rename_i x st heq
      dsimp only at heq
      subst heq
      cases h
      intro φ lsA stA H locs cells slots hE hn hR hL hS hl hc hs
      obtain ⟨a, r, rfl, ha, hw, hS1⟩ := StR_cons hS
      have ha : a = crf φ x := ha
      have k1 := fun q => kt q φ lsA r H locs cells slots hE hn hR hL hS1 hl hc hs
      have k2 := fun q => kf q φ lsA r H locs cells slots hE hn hR hL hS1 hl hc hs
      by_cases h0 : x = 0
      · rw [ha, crf, if_pos h0]
        exact lv_ifnonnullN hx hb hd (k2 (decide_eq_false fun z => z h0))
      · rw [ha, crf, if_neg h0]
        exact lv_ifnonnull hx hb hd (hj _ rfl) (k1 (decide_eq_true h0))
    · cases h
  · rename_i off
    cases h
    intro φ lsA stA H locs cells slots hE hn hR hL hS hl hc hs
    exact lv_goto hx hb hd (hj _ rfl) (kt rfl φ lsA stA H locs cells slots hE hn hR hL hS hl hc hs)
  · cases h
/-- a switch's targets -/
def SWOK (y pc : Nat) (i : Instr) (ar : List Nat) : Prop := match i, ar with
  | .tableswitch d lo hi offs, t :: ts => (lo ≤ hi ∧ (offs.toList.length : Int) = hi - lo + 1) ∧ (0 ≤ (pc : Int) + d ∧ t = y * 4096 + ((pc : Int) + d).toNat) ∧ ts = offs.toList.map (fun o => y * 4096 + ((pc : Int) + o).toNat) ∧ ∀ o ∈ offs.toList, 0 ≤ (pc : Int) + o
  | .lookupswitch d ps, t :: ts => (ps.toList.zip (ps.toList.drop 1)).all (fun (a, next) => a.1 < next.1) = true ∧ (0 ≤ (pc : Int) + d ∧ t = y * 4096 + ((pc : Int) + d).toNat) ∧ ts = ps.toList.map (fun o => y * 4096 + ((pc : Int) + o.2).toNat) ∧ ∀ o ∈ ps.toList, 0 ≤ (pc : Int) + o.2
  | _, _ => True
theorem sw_look {y pc d : Nat} {D0 : Int} (hd : d = y * 4096 + ((pc : Int) + D0).toNat) (hd0 : 0 ≤ (pc : Int) + D0) (x : Int) : ∀ ps : List (Int × Int), (∀ o ∈ ps, 0 ≤ (pc : Int) + o.2) → ∃ tgt : Nat, ev_look x ps (ps.map (fun o => y * 4096 + ((pc : Int) + o.2).toNat)) d = y * 4096 + tgt ∧ (pc : Int) + Op.lookupswitch.offset ps D0 x = tgt
  | [], _ => ⟨((pc : Int) + D0).toNat, hd, by
      show (pc : Int) + D0 = _
      omega⟩
  | q :: ps, h => by
    obtain ⟨tgt, h1, h2⟩ := sw_look hd hd0 x ps fun o ho => h o (List.mem_cons_of_mem _ ho)
    have h3 := h q List.mem_cons_self
    by_cases hq : x = q.1
    · refine ⟨((pc : Int) + q.2).toNat, ?_, ?_⟩
      · simp only [List.map_cons, ev_look]
        rw [if_pos hq]
      · obtain ⟨a, b⟩ := q
        rw [Op.lookupswitch.offset_cons, if_pos hq.symm]
        show (pc : Int) + b = _
        dsimp only at h3 ⊢
        omega
    · refine ⟨tgt, ?_, ?_⟩
      · simp only [List.map_cons, ev_look]
        rw [if_neg hq]
        exact h1
      · obtain ⟨a, b⟩ := q
        rw [Op.lookupswitch.offset_cons, if_neg (fun z => hq z.symm)]
        exact h2
theorem wt_sw (hx : p.tables.exec = Jvm.exec) (hb : c.code = cd) {i : Instr} {ar : List Nat} {len t y : Nat} {S S' : ev_S} (h : ev_sw i ar S = some (t, S')) (hd : decode cd pc = .ok (i, len)) (hj : SWOK y pc i ar)
    (k : ∀ tgt, t = y * 4096 + tgt → WT p l e R s m args below meth c Q D bs H0 nL c0 s0 M0 φ0 S' tgt) : WT p l e R s m args below meth c Q D bs H0 nL c0 s0 M0 φ0 S pc := by
  obtain ⟨ls, st, M⟩ := S
  unfold ev_sw at h
  split at h
  · rename_i d0 lo hi offs d ts x st heq
    dsimp only at heq
    subst heq
    cases h
    obtain ⟨⟨j1, j2⟩, ⟨j3, j4⟩, j5, j6⟩ := hj
    intro φ lsA stA H locs cells slots hE hn hR hL hS hl hc hs
    obtain ⟨a, r, rfl, ha, hw, hS1⟩ := StR_cons hS
    cases ha
    have kk := fun tgt q => k tgt q φ lsA r H locs cells slots hE hn hR hL hS1 hl hc hs
    by_cases ho : x.toInt < lo ∨ hi < x.toInt
    · exact lv_tableOut hx hb hd ho (tgt := ((pc : Int) + d0).toNat) (by omega) (kk _ (by rw [if_pos ho]; exact j4))
    · have hlt : (x.toInt - lo).toNat < offs.toList.length := by omega
      have hge : offs.toList[(x.toInt - lo).toNat]? = some offs.toList[(x.toInt - lo).toNat] := List.getElem?_eq_getElem hlt
      have h6 := j6 _ (List.getElem_mem hlt)
      refine lv_tableIn hx hb hd (fun q => ho (Or.inl q)) (fun q => ho (Or.inr q)) (off := offs.toList[(x.toInt - lo).toNat]) (by rw [← Array.getElem?_toList]; exact hge) (tgt := ((pc : Int) + offs.toList[(x.toInt - lo).toNat]).toNat) (by omega) (kk _ ?_)
      rw [if_neg ho, j5, List.getD_eq_getElem?_getD, List.getElem?_map, hge]
      rfl
  · rename_i d0 ps d ts x st heq
    dsimp only at heq
    subst heq
    cases h
    obtain ⟨j1, ⟨j3, j4⟩, j5, j6⟩ := hj
    intro φ lsA stA H locs cells slots hE hn hR hL hS hl hc hs
    obtain ⟨a, r, rfl, ha, hw, hS1⟩ := StR_cons hS
    cases ha
    have kk := fun tgt q => k tgt q φ lsA r H locs cells slots hE hn hR hL hS1 hl hc hs
    obtain ⟨tgt, g1, g2⟩ := sw_look j4 j3 x.toInt ps.toList j6
    exact lv_lookup hx hb hd j1 rfl g2 (kk tgt (by rw [j5]; exact g1))
  · cases h
theorem fin_q {φ : Nat → Nat} {M : ev_M} {H : Heap} {r : Value} {v : Option Value} (hn : nx M0 ≤ nx M) (hE : Ext M0 φ0 φ) (hR : Rel D φ bs H0 M H) (hv : RV φ M r v) : ∀ t : State, t.heap = H → s.WarmedH t.vm → QC D bs H0 M0 φ0 0 r M args s (.returned v) t := by
  intro t ht _
  exact ⟨rfl, hn, φ, v, rfl, hE, by rw [ht]; exact hR, hv⟩
theorem wt_rt (hx : p.tables.exec = Jvm.exec) (hb : c.code = cd) (hlocks : meth.locks = false) {i : Instr} {ar : List Nat} {ls st : List Value} {M M' : ev_M} {o : Nat} {r : Value} (h : ev_rt i ar st M = some (.inr (.inl (o, r, M')))) (hd : decode cd pc = .ok (i, 1)) (hrt : RTOK i ar meth.sig.returnType) :
    WT p l e R s m args below meth c (FQ below args s D bs H0 M0 φ0 o r M') D bs H0 nL (ncl M0) (nsl M0) M0 φ0 (ls, st, M) pc := by
  unfold ev_rt at h
  split at h
  · rename_i x
    split at h
    · rename_i hz
      cases h
      intro φ lsA stA H locs cells slots hE hn hR hL hS hl hc hs
      obtain ⟨a, r, rfl, ha, hw, hS1⟩ := StR_cons hS
      cases ha
      cases StR_nil hS1
      have hc1 : ncl M - ncl M0 = cells := by have h : cells + ncl M0 = ncl M := hc; omega
      have hs1 : nsl M - nsl M0 = slots := by have h : slots + nsl M0 = nsl M := hs; omega
      unfold FQ
      rw [hc1, hs1]
      refine vx_ret ?_
      rcases hrt with ⟨rfl, h1⟩ | ⟨rfl, h1⟩
      · exact W.iret hx hb h1 (fin_q (M := M) (r := .int x) hn hE hR (Or.inr ⟨(fun q => by cases q), trivial, _, rfl, rfl⟩)) hl hd
      · have hz : (x == 0 || x == 1) = true := hz
        simp only [Bool.or_eq_true, beq_iff_eq] at hz
        exact W.zret hx hb h1 (by rcases hz with rfl | rfl <;> rfl) (fin_q (M := M) (r := .int x) hn hE hR (Or.inr ⟨(fun q => by cases q), trivial, _, rfl, rfl⟩)) hl hd
    · cases h

  · rename_i x
    cases h
    intro φ lsA stA H locs cells slots hE hn hR hL hS hl hc hs
    obtain ⟨a, r, rfl, ha, hw, hS1⟩ := StR_cons hS
    cases ha
    cases StR_nil hS1
    have hc1 : ncl M - ncl M0 = cells := by have h : cells + ncl M0 = ncl M := hc; omega
    have hs1 : nsl M - nsl M0 = slots := by have h : slots + nsl M0 = nsl M := hs; omega
    unfold FQ
    rw [hc1, hs1]
    exact vx_ret (W.lret hx hb hrt (fin_q (M := M) (r := .long x) hn hE hR (Or.inr ⟨(fun q => by cases q), trivial, _, rfl, rfl⟩)) hl hd)

  · rename_i x
    cases h
    intro φ lsA stA H locs cells slots hE hn hR hL hS hl hc hs
    obtain ⟨a, r, rfl, ha, hw, hS1⟩ := StR_cons hS
    cases ha
    cases StR_nil hS1
    have hc1 : ncl M - ncl M0 = cells := by have h : cells + ncl M0 = ncl M := hc; omega
    have hs1 : nsl M - nsl M0 = slots := by have h : slots + nsl M0 = nsl M := hs; omega
    unfold FQ
    rw [hc1, hs1]
    exact vx_ret (W.fret hx hb hrt (fin_q (M := M) (r := .float x) hn hE hR (Or.inr ⟨(fun q => by cases q), trivial, _, rfl, rfl⟩)) hl hd)

  · rename_i x
    cases h
    intro φ lsA stA H locs cells slots hE hn hR hL hS hl hc hs
    obtain ⟨a, r, rfl, ha, hw, hS1⟩ := StR_cons hS
    cases ha
    cases StR_nil hS1
    have hc1 : ncl M - ncl M0 = cells := by have h : cells + ncl M0 = ncl M := hc; omega
    have hs1 : nsl M - nsl M0 = slots := by have h : slots + nsl M0 = nsl M := hs; omega
    unfold FQ
    rw [hc1, hs1]
    exact vx_ret (W.dret hx hb hrt (fin_q (M := M) (r := .double x) hn hE hR (Or.inr ⟨(fun q => by cases q), trivial, _, rfl, rfl⟩)) hl hd)

  · rename_i x
    cases h
    intro φ lsA stA H locs cells slots hE hn hR hL hS hl hc hs
    obtain ⟨a, r, rfl, ha, hw, hS1⟩ := StR_cons hS
    cases StR_nil hS1
    have hc1 : ncl M - ncl M0 = cells := by have h : cells + ncl M0 = ncl M := hc; omega
    have hs1 : nsl M - nsl M0 = slots := by have h : slots + nsl M0 = nsl M := hs; omega
    unfold FQ
    rw [hc1, hs1]
    obtain ⟨rt, h1, h2⟩ := hrt
    have ha2 : a = .null ∨ ∃ q, a = .ref q := by
      have ha : a = crf φ x := ha
      rw [ha]
      unfold crf
      split
      · exact Or.inl rfl
      · exact Or.inr ⟨_, rfl⟩
    exact vx_ret (W.aret hx hb h1 h2 ha2 (fin_q (M := M) (r := .ref x) hn hE hR (Or.inr ⟨(fun q => by cases q), hw, _, rfl, ha⟩)) hl hd)
  · cases h
    intro φ lsA stA H locs cells slots hE hn hR hL hS hl hc hs
    cases StR_nil hS
    have hc1 : ncl M - ncl M0 = cells := by have h : cells + ncl M0 = ncl M := hc; omega
    have hs1 : nsl M - nsl M0 = slots := by have h : slots + nsl M0 = nsl M := hs; omega
    unfold FQ
    rw [hc1, hs1]
    exact vx_ret (W.vret hx hb hrt (fin_q (M := M) (r := jk) hn hE hR (Or.inl ⟨rfl, rfl⟩)) hl hd)
  · cases h
end
