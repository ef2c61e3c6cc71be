/-! SOUNDNESS OF A RUN (by gen/ind.py) -/
def CTX (mt : Nat → ev_T) (p : Program) (l : Launch) (R : Room) (s : State) (m : MethodId) (args : Array Value) (meth : Method) (c : Code) (D : rl_D) (bs : Nat) (H0 : Heap) (y : Nat) : Prop :=
  (p.tables.exec = Jvm.exec ∧ c.code = (mt y).2.1 ∧ c.maxLocals = (mt y).2.2.1 ∧ meth.locks = false ∧ meth.sig.returnType = (mt y).2.2.2.1) ∧ (∀ w ∈ lw_all, w.before args s = true) ∧ (s.methodNamed? (mt y).1 = some m ∧ s.vm.method? m = some meth) ∧ KK D bs H0 s ∧ (∀ q, q < bs → s.heap[q]? = H0[q]?) ∧ XT c (mt y).2.2.2.2 ∧ l.stackTraces = false ∧ 2 * y + 10 ≤ R.frames ∧ 12000 + 200 * y ≤ R.locals
section
variable {mt : Nat → ev_T} {p : Program} {l : Launch} {e : Env} {R : Room} {s : State} {m : MethodId} {args : Array Value} {below : List Frame} {meth : Method} {c : Code}
variable {D : rl_D} {bs : Nat} {H0 : Heap} {M0 : ev_M} {φ0 : Nat → Nat} {y : Nat} {o : Nat} {r : Value} {M' : ev_M}
theorem CTX.fix (h : CTX mt p l R s m args meth c D bs H0 y) : CallFix p m c (mt y).2.1 (mt y).2.2.1 s args lw_all (mt y).1.cls := ⟨h.1.1, h.1.2.1, h.1.2.2.1, findClass_of_methodNamed h.2.2.1.1, h.2.1⟩
theorem CTX.thr (h : CTX mt p l R s m args meth c D bs H0 y) : THR l R s meth c bs H0 (mt y).2.2.1 := ⟨h.2.2.2.2.2.2.1, h.1.2.2.1, h.1.2.2.2.1, h.2.2.2.2.1, by have := h.2.2.2.2.2.2.2.1; omega, by have := h.2.2.2.2.2.2.2.2; omega⟩
theorem CTX.nm (h : CTX mt p l R s m args meth c D bs H0 y) : meth.name = (mt y).1.name := (name_of_methodNamed h.2.2.1.1 h.2.2.1.2).1
theorem hok_of {t : ev_T} {pc : Nat} {i : Instr} {ar : List Nat} {hs : List (Nat × Nat)} (h : IHd t y pc i ar hs) (hc : canX i ar = true) : HOK t.1.cls t.2.2.2.2 y pc hs := by
  rcases h with ⟨h1, rfl⟩ | ⟨-, h⟩
  · rw [h1]
    exact Or.inr fun k _ _ => by
      show ∀ z ∈ ([] : List ExceptionTableEntry), _
      exact fun z hz => nomatch hz
  · exact h hc
theorem xt_none {hh : Option (List (Nat × Nat × Nat × Nat))} (h : XT c hh) (hn : hh = none) : ∀ x ∈ c.exceptionTable.toList, False := by
  subst hn
  intro x hx
  have h : c.exceptionTable.toList = [] := h
  rw [h] at hx
  cases hx
/-- what the machine throws by itself -/
theorem vt_ok (C : CTX mt p l R s m args meth c D bs H0 y) {pc len : Nat} {i : Instr} {ar : List Nat} {hs : List (Nat × Nat)} (I : IOK mt y pc ((i, len, ar), hs)) {k : Nat} {ls st : List Value} {M M1 : ev_M} (hv : ev_vt i ar (ls, st, M) = some (k, M1)) (hw : ¬ 1000 < ev_w st) {Y : (ev_B × ev_S) ⊕ ev_O} (hY : ev_xc ev_prog hs ls k M1 = some Y) (hRc : ncl M1 ≤ R.cells + ncl M0) (hRs : nsl M1 ≤ R.slots + nsl M0)
    (hin : ∀ tgt, tgt < 4096 → Y = .inl (ev_prog.1 (y * 4096 + tgt), ls, [ek], M1) → WT p l e R s m args below meth c (FQ below args s D bs H0 M0 φ0 o r M') D bs H0 (mt y).2.2.1 (ncl M0) (nsl M0) M0 φ0 (ls, [ek], M1) tgt) (hou : Y = .inr (k + 1, ek, M1) → o = k + 1 ∧ M' = M1) :
    (1 ≤ k ∧ k ≤ 6) ∧ WT p l e R s m args below meth c (FQ below args s D bs H0 M0 φ0 o r M') D bs H0 (mt y).2.2.1 (ncl M0) (nsl M0) M0 φ0 (ls, st, M) pc := by
  obtain ⟨hd, hsw, hlk, hlb, hla, hlt, hrt, hho⟩ := I
  have hx := C.1.1
  have hb := C.1.2.1
  have hts := C.2.1
  have hown := C.fix.2.2.2.1
  have hKK := C.2.2.2.1
  have hTR := C.thr
  have hfr9 : 9 < R.frames := by have := C.2.2.2.2.2.2.2.1; omega
  have hkx : (1 ≤ k ∧ k ≤ 6) → WX p l e R s m args below meth c (FQ below args s D bs H0 M0 φ0 o r M') D bs H0 (mt y).2.2.1 (ncl M0) (nsl M0) M0 φ0 ls M1 k pc := fun hk => wx_xc hTR hts hown hKK C.2.2.2.2.2.1 (hok_of hho (vt_can hv)) hk hY hin hou
  dsimp only at hd hsw hlk hla hlt hho
  unfold ev_vt at hv
  dsimp only at hv
  split at hv
  · cases hv
    have hln := hsw.resolve_left (by intro h; cases h)
    subst hln
    have hk : 1 ≤ 1 ∧ 1 ≤ 6 := by decide
    exact ⟨hk, vt_getN hx hb hTR hts hown hKK hd hlt hw (by have : ncl (wX M 1 8) = ncl M + 1 := rfl; omega) (by have : nsl (wX M 1 8) = nsl M + 8 := rfl; omega) (hkx hk)⟩
  · rename_i idx k0 l0
    split at hv
    · rename_i h7
      split at hv
      · rename_i vs0 st0 htk
        cases hv
        have hln := hsw.resolve_left (by intro h; cases h)
        subst hln
        have hk : 1 ≤ 1 ∧ 1 ≤ 6 := by decide
        rcases hla with ⟨-, h9, -⟩ | ⟨n, rfl, -, h77⟩
        · exact absurd (List.contains_iff_mem.mp h7) h9
        · exact ⟨hk, vt_virtN hx hb hTR hts hown hKK hd (h77 (List.contains_iff_mem.mp h7)) htk hw (by have : ncl (wX M 1 8) = ncl M + 1 := rfl; omega) (by have : nsl (wX M 1 8) = nsl M + 8 := rfl; omega) (hkx hk)⟩
      · cases hv
    · cases hv
  · split at hv
    · rename_i hcs
      cases hv
      have hln := hsw.resolve_left (by intro h; cases h)
      subst hln
      have hk : 1 ≤ 2 ∧ 2 ≤ 6 := by decide
      rcases hlt with h0 | h0
      · rw [h0] at hcs; exact absurd hcs (by simp)
      · exact ⟨hk, vt_cce hx hb hTR hts hown hKK h0 hd hcs hw (by have : ncl (wX M 3 310) = ncl M + 3 := rfl; omega) (by have : nsl (wX M 3 310) = nsl M + 310 := rfl; omega) (hkx hk)⟩
    · cases hv
  · split at hv
    · rename_i hcs
      obtain ⟨h1, h2, h3⟩ := hcs
      cases hv
      have hln := hsw.resolve_left (by intro h; cases h)
      subst hln
      have hk : 1 ≤ 3 ∧ 3 ≤ 6 := by decide
      exact ⟨hk, vt_iaload hx hb hTR hts hKK hd h1 h2 h3 hw (by have : ncl (wX M 3 310) = ncl M + 3 := rfl; omega) (by have : nsl (wX M 3 310) = nsl M + 310 := rfl; omega) (hkx hk)⟩
    · cases hv
  · split at hv
    · rename_i hcs
      obtain ⟨h1, h2, h3⟩ := hcs
      cases hv
      have hln := hsw.resolve_left (by intro h; cases h)
      subst hln
      have hk : 1 ≤ 3 ∧ 3 ≤ 6 := by decide
      exact ⟨hk, vt_baload hx hb hTR hts hKK hd h1 h2 h3 hw (by have : ncl (wX M 3 310) = ncl M + 3 := rfl; omega) (by have : nsl (wX M 3 310) = nsl M + 310 := rfl; omega) (hkx hk)⟩
    · cases hv
  · split at hv
    · rename_i hcs
      obtain ⟨h1, h2, h3⟩ := hcs
      cases hv
      have hln := hsw.resolve_left (by intro h; cases h)
      subst hln
      have hk : 1 ≤ 3 ∧ 3 ≤ 6 := by decide
      exact ⟨hk, vt_saload hx hb hTR hts hKK hd h1 h2 h3 hw (by have : ncl (wX M 3 310) = ncl M + 3 := rfl; omega) (by have : nsl (wX M 3 310) = nsl M + 310 := rfl; omega) (hkx hk)⟩
    · cases hv
  · split at hv
    · rename_i hcs
      obtain ⟨h1, h2, h3⟩ := hcs
      cases hv
      have hln := hsw.resolve_left (by intro h; cases h)
      subst hln
      have hk : 1 ≤ 3 ∧ 3 ≤ 6 := by decide
      exact ⟨hk, vt_faload hx hb hTR hts hKK hd h1 h2 h3 hw (by have : ncl (wX M 3 310) = ncl M + 3 := rfl; omega) (by have : nsl (wX M 3 310) = nsl M + 310 := rfl; omega) (hkx hk)⟩
    · cases hv
  · split at hv
    · rename_i hcs
      obtain ⟨h1, h2, h3⟩ := hcs
      cases hv
      have hln := hsw.resolve_left (by intro h; cases h)
      subst hln
      have hk : 1 ≤ 3 ∧ 3 ≤ 6 := by decide
      exact ⟨hk, vt_daload hx hb hTR hts hKK hd h1 h2 h3 hw (by have : ncl (wX M 3 310) = ncl M + 3 := rfl; omega) (by have : nsl (wX M 3 310) = nsl M + 310 := rfl; omega) (hkx hk)⟩
    · cases hv
  · split at hv
    · rename_i hcs
      obtain ⟨h1, h2, h3⟩ := hcs
      cases hv
      have hln := hsw.resolve_left (by intro h; cases h)
      subst hln
      have hk : 1 ≤ 3 ∧ 3 ≤ 6 := by decide
      exact ⟨hk, vt_iastore hx hb hTR hts hKK hd h1 h2 h3 hw (by have : ncl (wX M 3 310) = ncl M + 3 := rfl; omega) (by have : nsl (wX M 3 310) = nsl M + 310 := rfl; omega) (hkx hk)⟩
    · cases hv
  · split at hv
    · rename_i hcs
      obtain ⟨h1, h2, h3⟩ := hcs
      cases hv
      have hln := hsw.resolve_left (by intro h; cases h)
      subst hln
      have hk : 1 ≤ 3 ∧ 3 ≤ 6 := by decide
      exact ⟨hk, vt_bastore hx hb hTR hts hKK hd h1 h2 h3 hw (by have : ncl (wX M 3 310) = ncl M + 3 := rfl; omega) (by have : nsl (wX M 3 310) = nsl M + 310 := rfl; omega) (hkx hk)⟩
    · cases hv
  · split at hv
    · rename_i hcs
      obtain ⟨h1, h2, h3⟩ := hcs
      cases hv
      have hln := hsw.resolve_left (by intro h; cases h)
      subst hln
      have hk : 1 ≤ 3 ∧ 3 ≤ 6 := by decide
      exact ⟨hk, vt_sastore hx hb hTR hts hKK hd h1 h2 h3 hw (by have : ncl (wX M 3 310) = ncl M + 3 := rfl; omega) (by have : nsl (wX M 3 310) = nsl M + 310 := rfl; omega) (hkx hk)⟩
    · cases hv
  · split at hv
    · rename_i hcs
      obtain ⟨h1, h2, h3⟩ := hcs
      cases hv
      have hln := hsw.resolve_left (by intro h; cases h)
      subst hln
      have hk : 1 ≤ 3 ∧ 3 ≤ 6 := by decide
      exact ⟨hk, vt_fastore hx hb hTR hts hKK hd h1 h2 h3 hw (by have : ncl (wX M 3 310) = ncl M + 3 := rfl; omega) (by have : nsl (wX M 3 310) = nsl M + 310 := rfl; omega) (hkx hk)⟩
    · cases hv
  · split at hv
    · rename_i hcs
      obtain ⟨h1, h2, h3⟩ := hcs
      cases hv
      have hln := hsw.resolve_left (by intro h; cases h)
      subst hln
      have hk : 1 ≤ 3 ∧ 3 ≤ 6 := by decide
      exact ⟨hk, vt_dastore hx hb hTR hts hKK hd h1 h2 h3 hw (by have : ncl (wX M 3 310) = ncl M + 3 := rfl; omega) (by have : nsl (wX M 3 310) = nsl M + 310 := rfl; omega) (hkx hk)⟩
    · cases hv
  · split at hv
    · rename_i hcs
      cases hv
      have hln := hsw.resolve_left (by intro h; cases h)
      subst hln
      have hk : 1 ≤ 5 ∧ 5 ≤ 6 := by decide
      exact ⟨hk, vt_nas hx hb hTR hts hKK hd hcs hw (by have : ncl (wX M 3 310) = ncl M + 3 := rfl; omega) (by have : nsl (wX M 3 310) = nsl M + 310 := rfl; omega) (hkx hk)⟩
    · cases hv
  · rename_i idx e0 k0 n0
    cases hv
    have hln := hsw.resolve_left (by intro h; cases h)
    subst hln
    obtain ⟨⟨rfl, rfl, rfl⟩, hhn, har⟩ := hlt
    have hk : 1 ≤ 6 ∧ 6 ≤ 6 := by decide
    rcases hho with ⟨-, hs0⟩ | hho
    · subst hs0
      have hY2 : Y = .inr (6 + 1, ek, wX M 3 310) := (Option.some.inj hY).symm
      obtain ⟨ho, hM⟩ := hou hY2
      exact ⟨hk, vt_new hx hb hTR hts hown hKK har hd (xt_none C.2.2.2.2.2.1 hhn) ho hM hw (by have : ncl (wX M 3 310) = ncl M + 3 := rfl; omega) (by have : nsl (wX M 3 310) = nsl M + 310 := rfl; omega)⟩
    · exact absurd hhn hho.1
  · rename_i idx n0 dp b sp a st0
    split at hv
    · rename_i hcs
      obtain ⟨h1, h2, h3, h4, h5⟩ := hcs
      cases hv
      have hln := hsw.resolve_left (by intro h; cases h)
      subst hln
      have hk : 1 ≤ 4 ∧ 4 ≤ 6 := by decide
      exact ⟨hk, vt_acpS hx hb hTR hts hown hKK hlk hd h1 h2 h3 h4 h5 hw hfr9 (by have : ncl (wX M 3 310) = ncl M + 3 := rfl; omega) (by have : nsl (wX M 3 310) = nsl M + 310 := rfl; omega) (hkx hk)⟩
    · split at hv
      · rename_i hcs
        obtain ⟨h1, h2, h3, h4, h5, h6⟩ := hcs
        cases hv
        have hln := hsw.resolve_left (by intro h; cases h)
        subst hln
        have hk : 1 ≤ 3 ∧ 3 ≤ 6 := by decide
        exact ⟨hk, vt_acpB hx hb hTR hts hown hKK hlk hd h1 h2 h6 h3 h4 h5 hw hfr9 (by have : ncl (wX M 3 410) = ncl M + 3 := rfl; omega) (by have : nsl (wX M 3 410) = nsl M + 410 := rfl; omega) (hkx hk)⟩
      · cases hv
  · cases hv
theorem sw_mem {i : Instr} {ar : List Nat} {S S' : ev_S} {t : Nat} (h : ev_sw i ar S = some (t, S')) : t ∈ ar := by
  unfold ev_sw at h
  split at h
  · rename_i d0 lo hi offs d ts x st heq
    cases h
    split
    · exact List.mem_cons_self
    · rw [List.getD_eq_getElem?_getD]
      cases hg : ts[(x.toInt - lo).toNat]? with
      | none => exact List.mem_cons_self
      | some v => exact List.mem_cons_of_mem _ (List.mem_of_getElem? hg)
  · rename_i d0 ps d ts x st heq
    cases h
    have : ∀ (ps : List (Int × Int)) (ts : List Nat) (x : Int), ev_look x ps ts d ∈ d :: ts := by
      intro ps
      induction ps with
      | nil => intro ts x; exact List.mem_cons_self
      | cons q ps ih =>
        intro ts x
        cases ts with
        | nil => exact List.mem_cons_self
        | cons t ts =>
          unfold ev_look
          split
          · exact List.mem_cons_of_mem _ List.mem_cons_self
          · rcases List.mem_cons.mp (ih ts x) with h | h
            · rw [h]; exact List.mem_cons_self
            · exact List.mem_cons_of_mem _ (List.mem_cons_of_mem _ h)
    exact this _ _ _
  · cases h
theorem rt_out {i : Instr} {ar : List Nat} {st : List Value} {M : ev_M} {X : ev_R} (h : ev_rt i ar st M = some X) : ∃ r, X = .inr (.inl (0, r, M)) := by
  unfold ev_rt at h
  repeat' split at h
  all_goals first | (cases h; done) | (cases h; exact ⟨_, rfl⟩)
theorem rt_rty {i : Instr} {ar : List Nat} {st : List Value} {M M' : ev_M} {o : Nat} {r : Value} {ret : Option FieldType} (h : ev_rt i ar st M = some (.inr (.inl (o, r, M')))) (hrt : RTOK i ar ret) : RTY ret r := by
  unfold ev_rt at h
  split at h
  · split at h
    · rename_i x hz
      cases h
      rcases hrt with ⟨rfl, rfl⟩ | ⟨rfl, rfl⟩
      · exact ⟨_, rfl⟩
      · have hz : (x == 0 || x == 1) = true := hz
        simp only [Bool.or_eq_true, beq_iff_eq] at hz
        exact ⟨_, rfl, hz⟩
    · cases h
  · cases h
    have hrt : ret = some .long := hrt
    rw [hrt]; trivial
  · cases h
    have hrt : ret = some .float := hrt
    rw [hrt]; exact ⟨_, rfl⟩
  · cases h
    have hrt : ret = some .double := hrt
    rw [hrt]; exact ⟨_, rfl⟩
  · cases h
    obtain ⟨rt, h1, h2⟩ := hrt
    rw [h1]
    rcases h2 with ⟨n, rfl⟩ | ⟨t, rfl⟩ <;> trivial
  · cases h
    have hrt : ret = none := hrt
    rw [hrt]; trivial
  · cases h
end
