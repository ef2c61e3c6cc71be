/-! BLOCKS' FACTS, by kinds of instructions -/
def isNopI (i : Instr) : Bool := match i with | .nop => true | _ => false
def isRet (i : Instr) : Bool := match i with | .ireturn | .lreturn | .freturn | .dreturn | .areturn | .return_ => true | _ => false
def objI (i : Instr) : Bool := match i with | .putfield _ | .newarray _ | .anewarray _ | .instanceof _ | .ldc _ | .ldc_w _ | .ldc2_w _ | .getstatic _ => true | _ => false
def thrI (i : Instr) : Bool := match i with | .getfield _ | .new _ | .checkcast _ => true | _ => false
def calI (i : Instr) : Bool := match i with | .invokestatic _ | .invokevirtual _ | .invokespecial _ | .invokeinterface _ _ | .invokedynamic _ => true | _ => false
section
variable {mt : Nat → ev_T} {t : ev_T} {y pc pc' : Nat} {i : Instr} {len : Nat} {ar : List Nat} {hs : List (Nat × Nat)} {cs : ev_B}
theorem bcons (hn : isNopI i = false) (hd : decode t.2.1 pc = .ok (i, len)) (hl : ev_isSw i = true ∨ len = iln i) (h3 : LK t.1.cls (t.1.name = "<init>") i ar) (h4 : LB y pc i ar) (h5 : LCa mt t y pc i ar) (h6 : LTh t.1.cls t.2.1 t.2.2.2.2 pc i ar) (h7 : RTOK i ar t.2.2.2.1) (h8 : IHd t y pc i ar hs) (e : pc + len = pc') (b : BOKt mt t y pc' cs) : BOKt mt t y pc (((i, len, ar), hs) :: cs) := by
  refine Or.inr ⟨fun h => ?_, ⟨hd, hl, h3, h4, h5, h6, h7, h8⟩, ?_⟩
  · have h : i = .nop := h
    rw [h] at hn
    cases hn
  · subst e
    exact b
theorem bnop0 {a : Nat} (e : y * 4096 + pc = a) (h : pc < 4096) : BOKt mt t y pc [((.nop, 0, [0, a]), [])] := Or.inl ⟨rfl, Or.inl ⟨by subst e; rfl, h⟩⟩
theorem bnop1 {ks : List Nat} (b : BOKt mt t y pc cs) : BOKt mt t y pc (((.nop, 0, 1 :: ks), []) :: cs) := Or.inl ⟨rfl, Or.inr ⟨⟨ks, rfl⟩, b⟩⟩
theorem lbN (h1 : joff i = none) (h2 : ev_isSw i = false) : LB y pc i ar := by
  refine ⟨fun off h => ?_, ?_, fun h => ?_⟩
  · rw [h1] at h; cases h
  · cases i <;> first | trivial | (cases h2; done)
  · rw [h2] at h; cases h
theorem bplain (hp : plainI i = true) (hd : decode t.2.1 pc = .ok (i, len)) (hl : len = iln i) (h8 : IHd t y pc i ar hs) (e : pc + len = pc') (b : BOKt mt t y pc' cs) : BOKt mt t y pc (((i, len, ar), hs) :: cs) := by
  have h : isNopI i = false ∧ LK t.1.cls (t.1.name = "<init>") i ar ∧ (joff i = none ∧ ev_isSw i = false) ∧ LCa mt t y pc i ar ∧ LTh t.1.cls t.2.1 t.2.2.2.2 pc i ar ∧ RTOK i ar t.2.2.2.1 := by
    clear hd hl h8 e b
    cases i <;> first | (cases hp; done) | exact ⟨rfl, trivial, ⟨rfl, rfl⟩, trivial, trivial, trivial⟩
  exact bcons h.1 hd (Or.inr hl) h.2.1 (lbN h.2.2.1.1 h.2.2.1.2) h.2.2.2.1 h.2.2.2.2.1 h.2.2.2.2.2 h8 e b
theorem bret (hp : isRet i = true) (hd : decode t.2.1 pc = .ok (i, len)) (hl : len = iln i) (h7 : RTOK i ar t.2.2.2.1) (h8 : IHd t y pc i ar hs) (e : pc + len = pc') (b : BOKt mt t y pc' cs) : BOKt mt t y pc (((i, len, ar), hs) :: cs) := by
  have h : isNopI i = false ∧ LK t.1.cls (t.1.name = "<init>") i ar ∧ (joff i = none ∧ ev_isSw i = false) ∧ LCa mt t y pc i ar ∧ LTh t.1.cls t.2.1 t.2.2.2.2 pc i ar := by
    clear hd hl h7 h8 e b
    cases i <;> first | (cases hp; done) | exact ⟨rfl, trivial, ⟨rfl, rfl⟩, trivial, trivial⟩
  exact bcons h.1 hd (Or.inr hl) h.2.1 (lbN h.2.2.1.1 h.2.2.1.2) h.2.2.2.1 h.2.2.2.2 h7 h8 e b
theorem bobj (hp : objI i = true) (hd : decode t.2.1 pc = .ok (i, len)) (hl : len = iln i) (h3 : LK t.1.cls (t.1.name = "<init>") i ar) (h8 : IHd t y pc i ar hs) (e : pc + len = pc') (b : BOKt mt t y pc' cs) : BOKt mt t y pc (((i, len, ar), hs) :: cs) := by
  have h : isNopI i = false ∧ (joff i = none ∧ ev_isSw i = false) ∧ LCa mt t y pc i ar ∧ LTh t.1.cls t.2.1 t.2.2.2.2 pc i ar ∧ RTOK i ar t.2.2.2.1 := by
    clear hd hl h3 h8 e b
    cases i <;> first | (cases hp; done) | exact ⟨rfl, ⟨rfl, rfl⟩, trivial, trivial, trivial⟩
  exact bcons h.1 hd (Or.inr hl) h3 (lbN h.2.1.1 h.2.1.2) h.2.2.1 h.2.2.2.1 h.2.2.2.2 h8 e b
theorem bthr (hp : thrI i = true) (hd : decode t.2.1 pc = .ok (i, len)) (hl : len = iln i) (h3 : LK t.1.cls (t.1.name = "<init>") i ar) (h6 : LTh t.1.cls t.2.1 t.2.2.2.2 pc i ar) (h8 : IHd t y pc i ar hs) (e : pc + len = pc') (b : BOKt mt t y pc' cs) : BOKt mt t y pc (((i, len, ar), hs) :: cs) := by
  have h : isNopI i = false ∧ (joff i = none ∧ ev_isSw i = false) ∧ LCa mt t y pc i ar ∧ RTOK i ar t.2.2.2.1 := by
    clear hd hl h3 h6 h8 e b
    cases i <;> first | (cases hp; done) | exact ⟨rfl, ⟨rfl, rfl⟩, trivial, trivial⟩
  exact bcons h.1 hd (Or.inr hl) h3 (lbN h.2.1.1 h.2.1.2) h.2.2.1 h6 h.2.2.2 h8 e b
theorem bcall (hp : calI i = true) (hd : decode t.2.1 pc = .ok (i, len)) (hl : len = iln i) (h3 : LK t.1.cls (t.1.name = "<init>") i ar) (h5 : LCa mt t y pc i ar) (h8 : IHd t y pc i ar hs) (e : pc + len = pc') (b : BOKt mt t y pc' cs) : BOKt mt t y pc (((i, len, ar), hs) :: cs) := by
  have h : isNopI i = false ∧ (joff i = none ∧ ev_isSw i = false) ∧ LTh t.1.cls t.2.1 t.2.2.2.2 pc i ar ∧ RTOK i ar t.2.2.2.1 := by
    clear hd hl h3 h5 h8 e b
    cases i <;> first | (cases hp; done) | exact ⟨rfl, ⟨rfl, rfl⟩, trivial, trivial⟩
  exact bcons h.1 hd (Or.inr hl) h3 (lbN h.2.1.1 h.2.1.2) h5 h.2.2.1 h.2.2.2 h8 e b
theorem bjmp {off : Int} {tg a : Nat} (hj : joff i = some off) (h0 : (pc : Int) + off = (tg : Int)) (h4 : tg < 4096) (ea : y * 4096 + tg = a) (hd : decode t.2.1 pc = .ok (i, len)) (hl : len = iln i) (h8 : IHd t y pc i [a] hs) (e : pc + len = pc') (b : BOKt mt t y pc' cs) : BOKt mt t y pc (((i, len, [a]), hs) :: cs) := by
  have h : isNopI i = false ∧ LK t.1.cls (t.1.name = "<init>") i [a] ∧ ev_isSw i = false ∧ SWOK y pc i [a] ∧ LCa mt t y pc i [a] ∧ LTh t.1.cls t.2.1 t.2.2.2.2 pc i [a] ∧ RTOK i [a] t.2.2.2.1 := by
    clear hd hl h8 e b
    cases i <;> first | (cases hj; done) | exact ⟨rfl, trivial, rfl, trivial, trivial, trivial, trivial⟩
  refine bcons h.1 hd (Or.inr hl) h.2.1 ⟨fun off' ho => ?_, h.2.2.2.1, fun hs => ?_⟩ h.2.2.2.2.1 h.2.2.2.2.2.1 h.2.2.2.2.2.2 h8 e b
  · cases hj.symm.trans ho
    rw [h0]
    exact ⟨⟨by omega, by rw [Int.toNat_natCast]; exact h4⟩, by rw [Int.toNat_natCast, ea]⟩
  · rw [h.2.2.1] at hs; cases hs
theorem bsw (hp : ev_isSw i = true) (hd : decode t.2.1 pc = .ok (i, len)) (h : SWOK y pc i ar) (h2 : ar.all (fun g => decide (g < y * 4096 + 4096)) = true) (h8 : IHd t y pc i ar hs) : BOKt mt t y pc [((i, len, ar), hs)] := by
  have h9 : isNopI i = false ∧ LK t.1.cls (t.1.name = "<init>") i ar ∧ joff i = none ∧ LCa mt t y pc i ar ∧ LTh t.1.cls t.2.1 t.2.2.2.2 pc i ar ∧ RTOK i ar t.2.2.2.1 := by
    clear hd h h2 h8
    cases i <;> first | (cases hp; done) | exact ⟨rfl, trivial, rfl, trivial, trivial, trivial⟩
  refine bcons h9.1 hd (Or.inl hp) h9.2.1 ⟨fun off' ho => ?_, h, fun _ g hg => ?_⟩ h9.2.2.2.1 h9.2.2.2.2.1 h9.2.2.2.2.2 h8 rfl trivial
  · rw [h9.2.2.1] at ho; cases ho
  · exact of_decide_eq_true (List.all_eq_true.mp h2 g hg)
theorem ihN (h : t.2.2.2.2 = none) : IHd t y pc i ar [] := Or.inl ⟨h, rfl⟩
theorem ihP (h : t.2.2.2.2 ≠ none) (h1 : canX i ar = false) : IHd t y pc i ar hs := Or.inr ⟨h, fun h2 => by rw [h1] at h2; cases h2⟩
theorem ihH (h : t.2.2.2.2 ≠ none) (h1 : HOK t.1.cls t.2.2.2.2 y pc hs) : IHd t y pc i ar hs := Or.inr ⟨h, fun _ => h1⟩
end
/-! fields -/
def FLD (ref name desc : String) (t k : Nat) (cs : List Nat) : Prop := ∀ q ∈ cs, (1 ≤ q ∧ q ≤ 21) ∧ k < (kz q).2.2 ∧ (kft q k = t ∧ (t = 0 → kty q k = .int)) ∧ (((kz q).2.1 k).2.1 = name ∧ ((kz q).2.1 k).2.2.1 = desc) ∧ (((kz q).2.1 k).1 = ref ∨ Cond.sameField ref ((kz q).2.1 k).1 name desc ∈ lw_all)
theorem fld_n {ref name desc : String} {t k : Nat} : FLD ref name desc t k [] := fun q h => nomatch h
theorem fld_c {ref name desc : String} {t k q : Nat} {cs : List Nat} (h1 : 1 ≤ q ∧ q ≤ 21) (h2 : k < (kz q).2.2) (h3 : kft q k = t) (h3' : t = 0 → kty q k = .int) (h4 : ((kz q).2.1 k).2.1 = name) (h5 : ((kz q).2.1 k).2.2.1 = desc) (h6 : ((kz q).2.1 k).1 = ref ∨ Cond.sameField ref ((kz q).2.1 k).1 name desc ∈ lw_all) (h : FLD ref name desc t k cs) : FLD ref name desc t k (q :: cs) := by
  intro z hz
  rcases List.mem_cons.mp hz with rfl | hz
  · exact ⟨h1, h2, ⟨h3, h3'⟩, ⟨h4, h5⟩, h6⟩
  · exact h z hz
theorem lkf0 {own ref name desc : String} {idx t k : Nat} {cs : List Nat} (hl : Cond.fieldLink own idx ref name desc ∈ lw_all) (h : FLD ref name desc t k cs) : LKf own idx (0 :: t :: k :: cs) := ⟨ref, name, desc, "", by rw [if_pos rfl]; exact hl, h⟩
theorem lkf1 {own ref name desc host : String} {idx m1 t k : Nat} {cs : List Nat} (hm : m1 ≠ 0) (hl : Cond.fieldLinkNest own idx ref name desc host ∈ lw_tbl) (h : FLD ref name desc t k cs) : LKf own idx (m1 :: t :: k :: cs) := ⟨ref, name, desc, host, by rw [if_neg hm]; exact hl, h⟩
theorem lkf2 {own ref name desc host : String} {idx t k q : Nat} {cs : List Nat} (hl : Cond.fieldLinkNest own idx ref name desc host ∈ lw_tbl) (h : FLD ref name desc t k (q :: cs)) : LKfN own idx (2 :: t :: k :: q :: cs) := by
  have h := h q List.mem_cons_self
  exact ⟨ref, name, desc, host, hl, h.1, h.2.1, h.2.2.2.1, h.2.2.2.2⟩
/-- stores -/
def PUF (k : Nat) (cs : List Nat) : Prop := ∀ q ∈ cs, q ≠ 16 ∧ ((kz q).2.1 k).2.2.2 = false
theorem puf_n {k : Nat} : PUF k [] := fun q h => nomatch h
theorem puf_c {k q : Nat} {cs : List Nat} (h1 : q ≠ 16) (h2 : ((kz q).2.1 k).2.2.2 = false) (h : PUF k cs) : PUF k (q :: cs) := by
  intro z hz
  rcases List.mem_cons.mp hz with rfl | hz
  · exact ⟨h1, h2⟩
  · exact h z hz
def PUO (own : String) (k : Nat) (cs : List Nat) : Prop := ∀ q ∈ cs, q ≠ 16 ∧ (((kz q).2.1 k).2.2.2 = false ∨ ((kz q).2.1 k).1 = own)
theorem puo_n {own : String} {k : Nat} : PUO own k [] := fun q h => nomatch h
theorem puo_c {own : String} {k q : Nat} {cs : List Nat} (h1 : q ≠ 16) (h2 : ((kz q).2.1 k).2.2.2 = false ∨ ((kz q).2.1 k).1 = own) (h : PUO own k cs) : PUO own k (q :: cs) := by
  intro z hz
  rcases List.mem_cons.mp hz with rfl | hz
  · exact ⟨h1, h2⟩
  · exact h z hz
theorem lkp0 {own : String} {P : Prop} {m1 t k : Nat} {cs : List Nat} (h : PUF k cs) : LKp own P (m1 :: t :: k :: cs) := fun q hq => ⟨(h q hq).1, Or.inl (h q hq).2⟩
theorem lkp1 {own : String} {P : Prop} {t k : Nat} {cs : List Nat} (hP : P) (h : PUO own k cs) : LKp own P (0 :: t :: k :: cs) := fun q hq => ⟨(h q hq).1, (h q hq).2.imp id fun z => ⟨hP, z, rfl⟩⟩
/-- casts -/
def GKC (nm : String) (ks : List Nat) : Prop := ∀ q ∈ ks, kk_ok q ∧ (knm q = nm ∨ Cond.castable (knm q) nm ∈ lw_tbl)
theorem gkc_n {nm : String} : GKC nm [] := fun q h => nomatch h
theorem gkc_c {nm : String} {q : Nat} {ks : List Nat} (h1 : kk_ok q) (h2 : knm q = nm ∨ Cond.castable (knm q) nm ∈ lw_tbl) (h : GKC nm ks) : GKC nm (q :: ks) := by
  intro z hz
  rcases List.mem_cons.mp hz with rfl | hz
  · exact ⟨h1, h2⟩
  · exact h z hz
def BKC (nm : String) (ks : List Nat) : Prop := ∀ q ∈ ks, kk_ok q ∧ (knm q, nm) ∈ nc_prs
theorem bkc_n {nm : String} : BKC nm [] := fun q h => nomatch h
theorem bkc_c {nm : String} {q : Nat} {ks : List Nat} (h1 : kk_ok q) (h2 : (knm q, nm) ∈ nc_prs) (h : BKC nm ks) : BKC nm (q :: ks) := by
  intro z hz
  rcases List.mem_cons.mp hz with rfl | hz
  · exact ⟨h1, h2⟩
  · exact h z hz
theorem lkc {own nm : String} {idx n : Nat} {ks : List Nat} (hl : Cond.classLink own idx nm ∈ lw_all) (h1 : GKC nm (ks.take n)) (h2 : BKC nm (ks.drop n)) : LKc own idx (n :: ks) := ⟨nm, hl, h1, h2⟩
theorem lkcN {own nm : String} {idx n : Nat} {ks : List Nat} (hl : Cond.classLink own idx nm ∈ lw_all) (h1 : nm ∈ cce_ns) (h3 : (ks.drop n).all (fun q => decide (q ∈ [40, 42, 43, 44, 46])) = true) (h2 : BKC nm (ks.drop n)) : LKcN own idx (n :: ks) := ⟨nm, hl, h1, fun q hq => ⟨of_decide_eq_true (List.all_eq_true.mp h3 q hq), (h2 q hq).2⟩⟩
/-- constants -/
theorem lkl0 {own : String} {idx sg n : Nat} {v : Int32} (h : iI (ev_z sg n) = v) (hl : Cond.constant own idx v ∈ lw_all) : LKl own idx [0, sg, n] := by subst h; exact hl
theorem lkl1 {own : String} {idx b : Nat} {v : UInt32} (h : UInt32.ofNat b = v) (hl : Cond.constantFloat own idx v ∈ lw_all) : LKl own idx [1, b] := by subst h; exact hl
theorem lkls {own tx : String} {idx k n : Nat} (h : k < 60) (hl : sx_prs[n]? = some (own, idx, tx, k)) : LKl own idx [2, k] := ⟨h, Or.inl ⟨tx, List.mem_of_getElem? hl⟩⟩
theorem lklm {own : String} {idx k : Nat} (h : k < 60) (hk : k = mir_no) (hl : Cond.classLink own idx "[Ljava/lang/Object;" ∈ lw_all) : LKl own idx [2, k] := ⟨h, Or.inr ⟨hk, hl⟩⟩
theorem lkq0 {own : String} {idx sg n : Nat} {v : Int64} (h : lI (ev_z sg n) = v) (hl : Cond.constantLong own idx v ∈ lw_all) : LKl2 own idx [0, sg, n] := by subst h; exact hl
theorem lkq1 {own : String} {idx b : Nat} {v : UInt64} (h : UInt64.ofNat b = v) (hl : Cond.constantDouble own idx v ∈ lw_all) : LKl2 own idx [1, b] := by subst h; exact hl
theorem lkg0 {own C f d : String} {idx sg n j : Nat} {v : Int32} (h : iI (ev_z sg n) = v) (hl : Cond.fieldLink own idx C f d ∈ lw_all) (hg : gi_prs[j]? = some (C, f, d, v)) : LKg own idx [0, sg, n] := ⟨C, f, d, hl, by rw [h]; exact List.mem_of_getElem? hg⟩
theorem lkg2 {own C f d : String} {idx k j : Nat} (h : k < 60) (hl : Cond.fieldLink own idx C f d ∈ lw_all) (hg : gr_prs[j]? = some (C, f, d, k)) : LKg own idx [2, k] := ⟨h, C, f, d, hl, List.mem_of_getElem? hg⟩
/-! calls -/
section
variable {mt : Nat → ev_T} {t u : ev_T} {y pc idx z k n : Nat}
theorem lcs {l : Cond.static u.1 ∈ lw_all} (hz : mt z = u) (h1 : 1 ≤ z ∧ z < y) (hM : MOK u) (hh : u.2.2.2.2 = none) (hp : npar u.1.desc = some k) (hl : Cond.methodLink t.1.cls idx u.1 ∈ lw_all ∨ ∃ host, Cond.methodLinkNest t.1.cls idx u.1 host ∈ lw_tbl) : LCa mt t y pc (.invokestatic idx) [z, k] := by
  subst hz
  exact Or.inr ⟨⟨h1, hM⟩, hh, hp, l, hl⟩
theorem lci (hz : mt z = u) (h1 : 1 ≤ z ∧ z < y) (hM : MOK u) (hh : u.2.2.2.2 = none) (hr : u.2.2.2.1 = none) (hk : k = n + 1) (hp : npar u.1.desc = some n) (hi : Cond.instanceMethod u.1 ∈ lw_all) (hn : u.1.name = "<init>") (hl : Cond.methodLink t.1.cls idx u.1 ∈ lw_all ∨ ∃ host, Cond.methodLinkNest t.1.cls idx u.1 host ∈ lw_tbl) : LCa mt t y pc (.invokespecial idx) [z, k] := by
  subst hz
  exact Or.inr ⟨⟨h1, hM⟩, hh, hr, ⟨n, hk, hp⟩, hi, hn, hl⟩
theorem lco {own : String} (ho : t.1.cls = own) (h : LOI own idx) : LCa mt t y pc (.invokespecial idx) [0, 1] := by
  subst ho
  exact Or.inl ⟨rfl, h⟩
theorem lcu {q : Nat} (hz : mt z = u) (h1 : 1 ≤ z ∧ z < y) (hM : MOK u) (hq : 1 ≤ q ∧ q ≤ 21) (hh : u.2.2.2.2 = none) (hk : k = n + 1) (hp : npar u.1.desc = some n) (hi : Cond.instanceMethod u.1 ∈ lw_all) (hn : (u.1.name == "<init>") = false) (l1 : Cond.methodLink t.1.cls idx u.1 ∈ lw_all) (l2 : Cond.sameMethod u.1.cls u.1.cls u.1.name u.1.desc ∈ lw_all) (l3 : Cond.superclass t.1.cls u.1.cls ∈ lw_all) : LCa mt t y pc (.invokespecial idx) [z, k, q] := by
  subst hz
  exact ⟨⟨h1, hM⟩, hq, hh, ⟨n, hk, hp⟩, hi, beq_eq_false_iff_ne.mp hn, l1, l2, l3⟩
def PV (F : Nat → Nat → Prop) : List Nat → Prop
  | a :: z :: l => F a z ∧ PV F l
  | _ => True
theorem pv_ok {F : Nat → Nat → Prop} : ∀ {l : List Nat}, PV F l → ∀ q z, ev_pair q l = some z → F q z
  | [], _, q, z, h => by cases h
  | [_], _, q, z, h => by cases h
  | a :: b :: l, h, q, z, hq => by
    unfold ev_pair at hq
    split at hq
    · rename_i e
      cases hq
      rw [e]
      exact h.1
    · exact pv_ok h.2 q z hq
theorem lcv {l : List Nat} (hk : k = n + 1) (h : PV (fun q z => LCl mt y z ∧ (1 ≤ q ∧ q ≤ 21) ∧ VF t.1.cls idx (kz q).1 n (mt z)) l) (h7 : l.contains 7777 = false ∨ LKvN t.1.cls idx n) : LCa mt t y pc (.invokevirtual idx) (k :: l) :=
  Or.inr ⟨n, hk, pv_ok h, fun h9 => h7.resolve_left (by rw [List.contains_iff_mem.mpr h9]; decide)⟩
theorem pvc {F : Nat → Nat → Prop} {a b : Nat} {l : List Nat} (h1 : F a b) (h2 : PV F l) : PV F (a :: b :: l) := ⟨h1, h2⟩
theorem lfv {own : String} {q : Nat} (hz : mt z = u) (h1 : 1 ≤ z ∧ z < y) (hM : MOK u) (hq : 1 ≤ q ∧ q ≤ 21) (hv : VF own idx (kz q).1 n u) : LCl mt y z ∧ (1 ≤ q ∧ q ≤ 21) ∧ VF own idx (kz q).1 n (mt z) := by
  subst hz
  exact ⟨⟨h1, hM⟩, hq, hv⟩
theorem lcf {cnt : Nat} {l : List Nat} (hk : k = n + 1) (h : PV (fun q z => LCl mt y z ∧ (1 ≤ q ∧ q ≤ 21) ∧ IFc t.1.cls idx (kz q).1 n (mt z)) l) : LCa mt t y pc (.invokeinterface idx cnt) (0 :: k :: l) := ⟨n, hk, pv_ok h⟩
theorem lff {own : String} {q : Nat} (hz : mt z = u) (h1 : 1 ≤ z ∧ z < y) (hM : MOK u) (hq : 1 ≤ q ∧ q ≤ 21) (hv : IFc own idx (kz q).1 n u) : LCl mt y z ∧ (1 ≤ q ∧ q ≤ 21) ∧ IFc own idx (kz q).1 n (mt z) := by
  subst hz
  exact ⟨⟨h1, hM⟩, hq, hv⟩
def PL (F : Nat → Prop) : List Nat → Prop
  | a :: l => F a ∧ PL F l
  | [] => True
theorem pl_ok {F : Nat → Prop} : ∀ {l : List Nat}, PL F l → ∀ g ∈ l, F g
  | a :: l, h, g, hg => by
    rcases List.mem_cons.mp hg with rfl | hg
    · exact h.1
    · exact pl_ok h.2 g hg
theorem plc {F : Nat → Prop} {a : Nat} {l : List Nat} (h1 : F a) (h2 : PL F l) : PL F (a :: l) := ⟨h1, h2⟩
/-- a lambda's shape, by its face -/
def LL2 (x : MethodName) (n ct q : Nat) : Prop := (lm_g q).2.2.2.iface = x.cls ∧ (lm_g q).2.2.2.name = x.name ∧ (lm_g q).2.2.2.sam.toString = x.desc ∧ (lm_g q).2.2.2.sam.parameters.length = n ∧ ∀ t ∈ (lm_g q).2.2.2.sam.parameters, lm_code t = ct
theorem lcl {cnt ct : Nat} {l : List Nat} {x : MethodName} {j : Nat} (hx : lm_f[j]? = some x) (hl : Cond.methodLink t.1.cls idx x ∈ lw_all) (hp : npar x.desc = some n) (hk : k = n + 1) (h : PL (fun g => ∃ q, g = 100 + q ∧ (1 ≤ q ∧ q ≤ 41) ∧ LCl mt y (ev_prog.2.2.2 g) ∧ LLi q (mt (ev_prog.2.2.2 g)) ∧ LL2 x n ct q) l) : LCa mt t y pc (.invokeinterface idx cnt) (1 :: k :: ct :: l) := by
  refine ⟨n, hk, fun g hg => ?_⟩
  obtain ⟨q, h1, h2, h3, h4, h5⟩ := pl_ok h g hg
  exact ⟨q, h1, h2, h3, h4, x, List.mem_of_getElem? hx, hl, hp, h5⟩
theorem lfl {q g : Nat} {x : MethodName} {ct : Nat} (e : g = 100 + q) (hq : 1 ≤ q ∧ q ≤ 41) (ez : ev_prog.2.2.2 g = z) (hz : mt z = u) (h1 : 1 ≤ z ∧ z < y) (hM : MOK u) (h3 : LLi q u) (h4 : LL2 x n ct q) : ∃ q, g = 100 + q ∧ (1 ≤ q ∧ q ≤ 41) ∧ LCl mt y (ev_prog.2.2.2 g) ∧ LLi q (mt (ev_prog.2.2.2 g)) ∧ LL2 x n ct q := by
  subst hz
  exact ⟨q, e, hq, by rw [ez]; exact ⟨h1, hM⟩, by rw [ez]; exact h3, h4⟩
end
/-! switches: targets by numbers -/
theorem swt {y pc t : Nat} {d lo hi : Int} {offs : Array Int} {ts : List Nat} (h1 : lo ≤ hi) (h2 : (offs.toList.length : Int) = hi - lo + 1) (h3 : 0 ≤ (pc : Int) + d) (h4 : t = y * 4096 + ((pc : Int) + d).toNat) (h5 : ts = offs.toList.map (fun o => y * 4096 + ((pc : Int) + o).toNat)) (h6 : offs.toList.all (fun o => decide (0 ≤ (pc : Int) + o)) = true) : SWOK y pc (.tableswitch d lo hi offs) (t :: ts) := ⟨⟨h1, h2⟩, ⟨h3, h4⟩, h5, fun o ho => of_decide_eq_true (List.all_eq_true.mp h6 o ho)⟩
theorem swl {y pc t : Nat} {d : Int} {ps : Array (Int × Int)} {ts : List Nat} (h1 : (ps.toList.zip (ps.toList.drop 1)).all (fun (a, next) => a.1 < next.1) = true) (h3 : 0 ≤ (pc : Int) + d) (h4 : t = y * 4096 + ((pc : Int) + d).toNat) (h5 : ts = ps.toList.map (fun o => y * 4096 + ((pc : Int) + o.2).toNat)) (h6 : ps.toList.all (fun o => decide (0 ≤ (pc : Int) + o.2)) = true) : SWOK y pc (.lookupswitch d ps) (t :: ts) := ⟨h1, ⟨h3, h4⟩, h5, fun o ho => of_decide_eq_true (List.all_eq_true.mp h6 o ho)⟩
/-! handlers -/
theorem xps_c {own : String} {pc k : Nat} {z : ExceptionTableEntry} (h : covers z pc = false) : XPS own pc k z := Or.inl h
def XPL (own : String) (pc k : Nat) : List ExceptionTableEntry → Prop
  | [] => True
  | z :: l => XPS own pc k z ∧ XPL own pc k l
theorem xpl_ok {own : String} {pc k : Nat} : ∀ {l : List ExceptionTableEntry}, XPL own pc k l → ∀ z ∈ l, XPS own pc k z
  | a :: l, h, z, hz => by
    rcases List.mem_cons.mp hz with rfl | hz
    · exact h.1
    · exact xpl_ok h.2 z hz
/-- nothing covers this place -/
theorem hokN {own : String} {hh : List (Nat × Nat × Nat × Nat)} {y pc : Nat} (h : (tableOf hh).all (fun z => !covers z pc) = true) : HOK own (some hh) y pc [] := Or.inr fun k _ _ => by
  show ∀ z ∈ tableOf hh, _
  intro z hz
  have := List.all_eq_true.mp h z hz
  refine Or.inl ?_
  cases hc : covers z pc with
  | false => rfl
  | true => rw [hc] at this; cases this
def HK1 (own : String) (hh : List (Nat × Nat × Nat × Nat)) (y pc k : Nat) : Option Nat → Prop
  | some t => ∃ pre x suf name, tableOf hh = pre ++ x :: suf ∧ (∀ z ∈ pre, XPS own pc k z) ∧ covers x pc = true ∧ x.catchType ≠ 0 ∧ Cond.classLink own x.catchType name ∈ lw_all ∧ Cond.castable (exn k) name ∈ lw_tbl ∧ x.handlerPc < 4096 ∧ t = y * 4096 + x.handlerPc
  | none => ∀ z ∈ tableOf hh, XPS own pc k z
theorem hokH {own : String} {hh : List (Nat × Nat × Nat × Nat)} {y pc : Nat} {hs : List (Nat × Nat)} (h : ∀ k, 1 ≤ k → k ≤ 6 → HK1 own hh y pc k (hs.lookup k)) : HOK own (some hh) y pc hs := Or.inr fun k h1 h2 => by
  have h3 := h k h1 h2
  unfold HK1 at h3
  exact h3
theorem all6 {F : Nat → Prop} (h1 : F 1) (h2 : F 2) (h3 : F 3) (h4 : F 4) (h5 : F 5) (h6 : F 6) : ∀ k, 1 ≤ k → k ≤ 6 → F k := fun k a b => by
  have : k = 1 ∨ k = 2 ∨ k = 3 ∨ k = 4 ∨ k = 5 ∨ k = 6 := by omega
  rcases this with rfl | rfl | rfl | rfl | rfl | rfl <;> assumption
/-- a handler's class isn't this exception's -/
theorem xps_x {own nm : String} {pc k : Nat} {z : ExceptionTableEntry} (h : (z.catchType == 0) = false) (hl : Cond.classLink own z.catchType nm ∈ lw_all) (hn : (exn k, nm) ∈ nc_prs) : XPS own pc k z := Or.inr ⟨beq_eq_false_iff_ne.mp h, nm, hl, hn⟩
theorem hk1s {own name : String} {hh : List (Nat × Nat × Nat × Nat)} {y pc k t : Nat} {pre suf : List ExceptionTableEntry} {x : ExceptionTableEntry} (e : tableOf hh = pre ++ x :: suf) (h1 : XPL own pc k pre) (h2 : covers x pc = true) (h3 : (x.catchType == 0) = false) (h4 : Cond.classLink own x.catchType name ∈ lw_all) (h5 : Cond.castable (exn k) name ∈ lw_tbl) (h6 : x.handlerPc < 4096) (h7 : t = y * 4096 + x.handlerPc) : HK1 own hh y pc k (some t) := ⟨pre, x, suf, name, e, xpl_ok h1, h2, beq_eq_false_iff_ne.mp h3, h4, h5, h6, h7⟩
theorem hk1n {own : String} {hh : List (Nat × Nat × Nat × Nat)} {y pc k : Nat} (h : XPL own pc k (tableOf hh)) : HK1 own hh y pc k none := xpl_ok h
/-! all blocks -/
def AllT (mt : Nat → ev_T) : Nat → List (List (Nat × ev_B)) → Prop
  | _, [] => True
  | y, tb :: r => (∀ x ∈ tb, BOK mt y x.1 x.2) ∧ AllT mt (y + 1) r
theorem allT_at {mt : Nat → ev_T} : ∀ {l : List (List (Nat × ev_B))} {y0 : Nat}, AllT mt y0 l → ∀ (j : Nat) (tb : List (Nat × ev_B)), l[j]? = some tb → ∀ x ∈ tb, BOK mt (y0 + j) x.1 x.2
  | tb :: r, y0, h, 0, tb', hj, x, hx => by cases hj; exact h.1 x hx
  | tb :: r, y0, h, j + 1, tb', hj, x, hx => by
    have := allT_at h.2 j tb' (by simpa using hj) x hx
    rw [show y0 + (j + 1) = y0 + 1 + j by omega]
    exact this
theorem lookup_mem {b : ev_B} : ∀ {tb : List (Nat × ev_B)} {pc : Nat}, tb.lookup pc = some b → (pc, b) ∈ tb
  | (a, c) :: tb, pc, h => by
    rw [List.lookup_cons] at h
    split at h
    · rename_i e
      cases h
      rw [beq_iff_eq] at e
      rw [e]
      exact List.mem_cons_self
    · exact List.mem_cons_of_mem _ (lookup_mem h)
theorem hB_of {mt : Nat → ev_T} (h : AllT mt 0 ev_tbs) : ∀ y pc, pc < 4096 → BOK mt y pc (ev_prog.1 (y * 4096 + pc)) := by
  intro y pc hp
  show BOK mt y pc (((ev_tbs.getD ((y * 4096 + pc) / 4096) []).lookup ((y * 4096 + pc) % 4096)).getD [])
  rw [show (y * 4096 + pc) / 4096 = y by omega, show (y * 4096 + pc) % 4096 = pc by omega, List.getD_eq_getElem?_getD]
  cases ht : ev_tbs[y]? with
  | none => exact trivial
  | some tb =>
    cases hb : tb.lookup pc with
    | none =>
      show BOK mt y pc ((tb.lookup pc).getD [])
      rw [hb]; exact trivial
    | some b =>
      show BOK mt y pc ((tb.lookup pc).getD [])
      rw [hb]
      have := allT_at h y tb ht (pc, b) (lookup_mem hb)
      rw [Nat.zero_add] at this
      exact this
theorem tb_n {mt : Nat → ev_T} {y : Nat} : ∀ x ∈ ([] : List (Nat × ev_B)), BOK mt y x.1 x.2 := fun x h => nomatch h
theorem tb_c {mt : Nat → ev_T} {t : ev_T} {y pc : Nat} {b : ev_B} {r : List (Nat × ev_B)} (hm : mt y = t) (h : BOKt mt t y pc b) (h2 : ∀ x ∈ r, BOK mt y x.1 x.2) : ∀ x ∈ (pc, b) :: r, BOK mt y x.1 x.2 := by
  intro x hx
  rcases List.mem_cons.mp hx with rfl | hx
  · show BOKt mt (mt y) y pc b
    rw [hm]; exact h
  · exact h2 x hx
