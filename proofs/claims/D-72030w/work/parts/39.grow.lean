/-! WHAT A RUN USES only grows (by gen/grow.py) -/
def GR (M M' : ev_M) : Prop := ncl M ≤ ncl M' ∧ nsl M ≤ nsl M' ∧ nx M ≤ nx M'
theorem GR.rf {M : ev_M} : GR M M := ⟨Nat.le_refl _, Nat.le_refl _, Nat.le_refl _⟩
theorem GR.tr {A B C : ev_M} (h : GR A B) (k : GR B C) : GR A C := ⟨Nat.le_trans h.1 k.1, Nat.le_trans h.2.1 k.2.1, Nat.le_trans h.2.2 k.2.2⟩
theorem GR.wN {M : ev_M} {t n s : Nat} : GR M (wN M t n s) := ⟨Nat.le_succ _, Nat.le_add_right _ _, Nat.le_succ _⟩
theorem GR.wX {M : ev_M} {k n : Nat} : GR M (wX M k n) := ⟨Nat.le_add_right _ _, Nat.le_add_right _ _, Nat.le_refl _⟩
theorem grw_put {M M' : ev_M} {t k a : Nat} {v : Value} (h : ev_put M t k a v = some M') : GR M M' := by
  unfold ev_put at h
  split at h
  all_goals first | (cases h; exact GR.rf) | (split at h <;> first | (cases h; exact GR.rf) | cases h) | cases h
theorem gr_cpm {M : ev_M} {t a sp b dp n : Nat} : GR M (ev_cpm M t a sp b dp n) := by
  obtain ⟨-, -, h3, -, h5, h6⟩ := cpm_same M t a sp b dp n
  exact ⟨Nat.le_of_eq h5.symm, Nat.le_of_eq h6.symm, Nat.le_of_eq h3.symm⟩
theorem gr_ev_ii {S S' : ev_S} (f : Int32 → Int32 → Int32) (h : ev_ii S f = some S') : GR S.2.2 S'.2.2 := by
  unfold ev_ii at h
  repeat' split at h
  all_goals first | (cases h; done) | (cases h; first | exact GR.rf | exact GR.wN | exact gr_cpm)
theorem gr_ev_ll {S S' : ev_S} (f : Int64 → Int64 → Int64) (h : ev_ll S f = some S') : GR S.2.2 S'.2.2 := by
  unfold ev_ll at h
  repeat' split at h
  all_goals first | (cases h; done) | (cases h; first | exact GR.rf | exact GR.wN | exact gr_cpm)
theorem gr_ev_li {S S' : ev_S} (f : Int64 → Int32 → Int64) (h : ev_li S f = some S') : GR S.2.2 S'.2.2 := by
  unfold ev_li at h
  repeat' split at h
  all_goals first | (cases h; done) | (cases h; first | exact GR.rf | exact GR.wN | exact gr_cpm)
theorem gr_ev_i1 {S S' : ev_S} (f : Int32 → Value) (h : ev_i1 S f = some S') : GR S.2.2 S'.2.2 := by
  unfold ev_i1 at h
  repeat' split at h
  all_goals first | (cases h; done) | (cases h; first | exact GR.rf | exact GR.wN | exact gr_cpm)
theorem gr_ev_l1 {S S' : ev_S} (f : Int64 → Value) (h : ev_l1 S f = some S') : GR S.2.2 S'.2.2 := by
  unfold ev_l1 at h
  repeat' split at h
  all_goals first | (cases h; done) | (cases h; first | exact GR.rf | exact GR.wN | exact gr_cpm)
theorem gr_ev_f1 {S S' : ev_S} (f : UInt32 → Value) (h : ev_f1 S f = some S') : GR S.2.2 S'.2.2 := by
  unfold ev_f1 at h
  repeat' split at h
  all_goals first | (cases h; done) | (cases h; first | exact GR.rf | exact GR.wN | exact gr_cpm)
theorem gr_ev_d1 {S S' : ev_S} (f : UInt64 → Value) (h : ev_d1 S f = some S') : GR S.2.2 S'.2.2 := by
  unfold ev_d1 at h
  repeat' split at h
  all_goals first | (cases h; done) | (cases h; first | exact GR.rf | exact GR.wN | exact gr_cpm)
theorem gr_ev_i1n {S S' : ev_S} (ok : Int32 → Bool) (f : Int32 → Int32 → Int32) (h : ev_i1n S ok f = some S') : GR S.2.2 S'.2.2 := by
  unfold ev_i1n at h
  repeat' split at h
  all_goals first | (cases h; done) | (cases h; first | exact GR.rf | exact GR.wN | exact gr_cpm)
theorem gr_ev_ffn {S S' : ev_S} (f : UInt32 → UInt32 → UInt32) (h : ev_ffn S f = some S') : GR S.2.2 S'.2.2 := by
  unfold ev_ffn at h
  repeat' split at h
  all_goals first | (cases h; done) | (cases h; first | exact GR.rf | exact GR.wN | exact gr_cpm)
theorem gr_ev_ddn {S S' : ev_S} (f : UInt64 → UInt64 → UInt64) (h : ev_ddn S f = some S') : GR S.2.2 S'.2.2 := by
  unfold ev_ddn at h
  repeat' split at h
  all_goals first | (cases h; done) | (cases h; first | exact GR.rf | exact GR.wN | exact gr_cpm)
theorem gr_ev_f2dn {S S' : ev_S}  (h : ev_f2dn S  = some S') : GR S.2.2 S'.2.2 := by
  unfold ev_f2dn at h
  repeat' split at h
  all_goals first | (cases h; done) | (cases h; first | exact GR.rf | exact GR.wN | exact gr_cpm)
theorem gr_ev_d2fn {S S' : ev_S}  (h : ev_d2fn S  = some S') : GR S.2.2 S'.2.2 := by
  unfold ev_d2fn at h
  repeat' split at h
  all_goals first | (cases h; done) | (cases h; first | exact GR.rf | exact GR.wN | exact gr_cpm)
theorem gr_ev_push {S S' : ev_S} (v : Value) (h : ev_push S v = some S') : GR S.2.2 S'.2.2 := by
  unfold ev_push at h
  repeat' split at h
  all_goals first | (cases h; done) | (cases h; first | exact GR.rf | exact GR.wN | exact gr_cpm)
theorem gr_ev_iload {S S' : ev_S} (i : Nat) (h : ev_iload S i = some S') : GR S.2.2 S'.2.2 := by
  unfold ev_iload at h
  repeat' split at h
  all_goals first | (cases h; done) | (cases h; first | exact GR.rf | exact GR.wN | exact gr_cpm)
theorem gr_ev_lload {S S' : ev_S} (i : Nat) (h : ev_lload S i = some S') : GR S.2.2 S'.2.2 := by
  unfold ev_lload at h
  repeat' split at h
  all_goals first | (cases h; done) | (cases h; first | exact GR.rf | exact GR.wN | exact gr_cpm)
theorem gr_ev_fload {S S' : ev_S} (i : Nat) (h : ev_fload S i = some S') : GR S.2.2 S'.2.2 := by
  unfold ev_fload at h
  repeat' split at h
  all_goals first | (cases h; done) | (cases h; first | exact GR.rf | exact GR.wN | exact gr_cpm)
theorem gr_ev_dload {S S' : ev_S} (i : Nat) (h : ev_dload S i = some S') : GR S.2.2 S'.2.2 := by
  unfold ev_dload at h
  repeat' split at h
  all_goals first | (cases h; done) | (cases h; first | exact GR.rf | exact GR.wN | exact gr_cpm)
theorem gr_ev_aload {S S' : ev_S} (i : Nat) (h : ev_aload S i = some S') : GR S.2.2 S'.2.2 := by
  unfold ev_aload at h
  repeat' split at h
  all_goals first | (cases h; done) | (cases h; first | exact GR.rf | exact GR.wN | exact gr_cpm)
theorem gr_ev_ald {S S' : ev_S} (ok : Nat → Bool) (f : Nat → Nat → Value) (h : ev_ald S ok f = some S') : GR S.2.2 S'.2.2 := by
  unfold ev_ald at h
  repeat' split at h
  all_goals first | (cases h; done) | (cases h; first | exact GR.rf | exact GR.wN | exact gr_cpm)
theorem gr_ev_iast {S S' : ev_S} (ok : Nat → Bool) (f : Nat → Int32 → Int32) (h : ev_iast S ok f = some S') : GR S.2.2 S'.2.2 := by
  unfold ev_iast at h
  repeat' split at h
  all_goals first | (cases h; done) | (cases h; first | exact GR.rf | exact GR.wN | exact gr_cpm)
theorem gr_ev_last {S S' : ev_S}  (h : ev_last S  = some S') : GR S.2.2 S'.2.2 := by
  unfold ev_last at h
  repeat' split at h
  all_goals first | (cases h; done) | (cases h; first | exact GR.rf | exact GR.wN | exact gr_cpm)
theorem gr_ev_fast {S S' : ev_S}  (h : ev_fast S  = some S') : GR S.2.2 S'.2.2 := by
  unfold ev_fast at h
  repeat' split at h
  all_goals first | (cases h; done) | (cases h; first | exact GR.rf | exact GR.wN | exact gr_cpm)
theorem gr_ev_dast {S S' : ev_S}  (h : ev_dast S  = some S') : GR S.2.2 S'.2.2 := by
  unfold ev_dast at h
  repeat' split at h
  all_goals first | (cases h; done) | (cases h; first | exact GR.rf | exact GR.wN | exact gr_cpm)
theorem gr_ev_aast {S S' : ev_S}  (h : ev_aast S  = some S') : GR S.2.2 S'.2.2 := by
  unfold ev_aast at h
  repeat' split at h
  all_goals first | (cases h; done) | (cases h; first | exact GR.rf | exact GR.wN | exact gr_cpm)
theorem gr_ev_alen {S S' : ev_S}  (h : ev_alen S  = some S') : GR S.2.2 S'.2.2 := by
  unfold ev_alen at h
  repeat' split at h
  all_goals first | (cases h; done) | (cases h; first | exact GR.rf | exact GR.wN | exact gr_cpm)
theorem gr_ev_pop {S S' : ev_S}  (h : ev_pop S  = some S') : GR S.2.2 S'.2.2 := by
  unfold ev_pop at h
  repeat' split at h
  all_goals first | (cases h; done) | (cases h; first | exact GR.rf | exact GR.wN | exact gr_cpm)
theorem gr_ev_pop2 {S S' : ev_S}  (h : ev_pop2 S  = some S') : GR S.2.2 S'.2.2 := by
  unfold ev_pop2 at h
  repeat' split at h
  all_goals first | (cases h; done) | (cases h; first | exact GR.rf | exact GR.wN | exact gr_cpm)
theorem gr_ev_dup {S S' : ev_S}  (h : ev_dup S  = some S') : GR S.2.2 S'.2.2 := by
  unfold ev_dup at h
  repeat' split at h
  all_goals first | (cases h; done) | (cases h; first | exact GR.rf | exact GR.wN | exact gr_cpm)
theorem gr_ev_dup_x1 {S S' : ev_S}  (h : ev_dup_x1 S  = some S') : GR S.2.2 S'.2.2 := by
  unfold ev_dup_x1 at h
  repeat' split at h
  all_goals first | (cases h; done) | (cases h; first | exact GR.rf | exact GR.wN | exact gr_cpm)
theorem gr_ev_dup_x2 {S S' : ev_S}  (h : ev_dup_x2 S  = some S') : GR S.2.2 S'.2.2 := by
  unfold ev_dup_x2 at h
  repeat' split at h
  all_goals first | (cases h; done) | (cases h; first | exact GR.rf | exact GR.wN | exact gr_cpm)
theorem gr_ev_dup2 {S S' : ev_S}  (h : ev_dup2 S  = some S') : GR S.2.2 S'.2.2 := by
  unfold ev_dup2 at h
  repeat' split at h
  all_goals first | (cases h; done) | (cases h; first | exact GR.rf | exact GR.wN | exact gr_cpm)
theorem gr_ev_ccast {S S' : ev_S} (ar : List Nat) (h : ev_ccast S ar = some S') : GR S.2.2 S'.2.2 := by
  unfold ev_ccast at h
  repeat' split at h
  all_goals first | (cases h; done) | (cases h; first | exact GR.rf | exact GR.wN | exact gr_cpm)
theorem gr_ev_inst {S S' : ev_S} (ar : List Nat) (h : ev_inst S ar = some S') : GR S.2.2 S'.2.2 := by
  unfold ev_inst at h
  repeat' split at h
  all_goals first | (cases h; done) | (cases h; first | exact GR.rf | exact GR.wN | exact gr_cpm)
theorem gr_ev_getf {S S' : ev_S} (ar : List Nat) (h : ev_getf S ar = some S') : GR S.2.2 S'.2.2 := by
  unfold ev_getf at h
  repeat' split at h
  all_goals first | (cases h; done) | (cases h; first | exact GR.rf | exact GR.wN | exact gr_cpm)
theorem gr_ev_new {S S' : ev_S} (ar : List Nat) (h : ev_new S ar = some S') : GR S.2.2 S'.2.2 := by
  unfold ev_new at h
  repeat' split at h
  all_goals first | (cases h; done) | (cases h; first | exact GR.rf | exact GR.wN | exact gr_cpm)
theorem gr_ev_newa {S S' : ev_S} (ar : List Nat) (h : ev_newa S ar = some S') : GR S.2.2 S'.2.2 := by
  unfold ev_newa at h
  repeat' split at h
  all_goals first | (cases h; done) | (cases h; first | exact GR.rf | exact GR.wN | exact gr_cpm)
theorem gr_ev_cpy {S S' : ev_S}  (h : ev_cpy S  = some S') : GR S.2.2 S'.2.2 := by
  unfold ev_cpy at h
  repeat' split at h
  all_goals first | (cases h; done) | (cases h; first | exact GR.rf | exact GR.wN | exact gr_cpm)
theorem gr_ev_ldc {S S' : ev_S} (ar : List Nat) (h : ev_ldc S ar = some S') : GR S.2.2 S'.2.2 := by
  unfold ev_ldc at h
  repeat' split at h
  all_goals first | exact gr_ev_push _ h | (cases h; done) | (cases h; first | exact GR.rf | exact GR.wN | exact gr_cpm)
theorem gr_ev_ldc2 {S S' : ev_S} (ar : List Nat) (h : ev_ldc2 S ar = some S') : GR S.2.2 S'.2.2 := by
  unfold ev_ldc2 at h
  repeat' split at h
  all_goals first | exact gr_ev_push _ h | (cases h; done) | (cases h; first | exact GR.rf | exact GR.wN | exact gr_cpm)
theorem gr_ev_nat {S S' : ev_S} (ar : List Nat) (h : ev_nat S ar = some S') : GR S.2.2 S'.2.2 := by
  unfold ev_nat at h
  repeat' split at h
  all_goals first | exact gr_ev_cpy h | (cases h; done) | (cases h; first | exact GR.rf | exact GR.wN | exact gr_cpm)
theorem gr_ev_istore {S S' : ev_S} (i : Nat) (h : ev_istore S i = some S') : GR S.2.2 S'.2.2 := by
  unfold ev_istore at h
  repeat' split at h
  all_goals first | (cases h; done) | (obtain ⟨l, -, rfl⟩ := Option.map_eq_some_iff.mp h; exact GR.rf)
theorem gr_ev_fstore {S S' : ev_S} (i : Nat) (h : ev_fstore S i = some S') : GR S.2.2 S'.2.2 := by
  unfold ev_fstore at h
  repeat' split at h
  all_goals first | (cases h; done) | (obtain ⟨l, -, rfl⟩ := Option.map_eq_some_iff.mp h; exact GR.rf)
theorem gr_ev_astore {S S' : ev_S} (i : Nat) (h : ev_astore S i = some S') : GR S.2.2 S'.2.2 := by
  unfold ev_astore at h
  repeat' split at h
  all_goals first | (cases h; done) | (obtain ⟨l, -, rfl⟩ := Option.map_eq_some_iff.mp h; exact GR.rf)
theorem gr_ev_lstore {S S' : ev_S} (i : Nat) (h : ev_lstore S i = some S') : GR S.2.2 S'.2.2 := by
  unfold ev_lstore at h
  repeat' split at h
  all_goals first | (cases h; done) | (obtain ⟨l, -, rfl⟩ := Option.map_eq_some_iff.mp h; exact GR.rf)
theorem gr_ev_dstore {S S' : ev_S} (i : Nat) (h : ev_dstore S i = some S') : GR S.2.2 S'.2.2 := by
  unfold ev_dstore at h
  repeat' split at h
  all_goals first | (cases h; done) | (obtain ⟨l, -, rfl⟩ := Option.map_eq_some_iff.mp h; exact GR.rf)
theorem gr_ev_iinc {S S' : ev_S} (i : Nat) (n : Int) (h : ev_iinc S i n = some S') : GR S.2.2 S'.2.2 := by
  unfold ev_iinc at h
  repeat' split at h
  all_goals first | (cases h; done) | (obtain ⟨l, -, rfl⟩ := Option.map_eq_some_iff.mp h; exact GR.rf)
theorem gr_ev_putf {S S' : ev_S} (ar : List Nat) (h : ev_putf S ar = some S') : GR S.2.2 S'.2.2 := by
  unfold ev_putf at h
  split at h
  · split at h
    · obtain ⟨M, h1, rfl⟩ := Option.map_eq_some_iff.mp h
      exact grw_put h1
    · cases h
  · cases h
theorem so_grow {S S' : ev_S} {i : Instr} {ar : List Nat} (h : ev_so S i ar = some S') : GR S.2.2 S'.2.2 := by
  unfold ev_so at h
  repeat' split at h
  all_goals first | (cases h; done) | exact gr_ev_ii _ h | exact gr_ev_ll _ h | exact gr_ev_li _ h | exact gr_ev_i1 _ h | exact gr_ev_l1 _ h | exact gr_ev_f1 _ h | exact gr_ev_d1 _ h | exact gr_ev_i1n _ _ h | exact gr_ev_ffn _ h | exact gr_ev_ddn _ h | exact gr_ev_f2dn h | exact gr_ev_d2fn h | exact gr_ev_push _ h | exact gr_ev_iload _ h | exact gr_ev_lload _ h | exact gr_ev_fload _ h | exact gr_ev_dload _ h | exact gr_ev_aload _ h | exact gr_ev_ald _ _ h | exact gr_ev_iast _ _ h | exact gr_ev_last h | exact gr_ev_fast h | exact gr_ev_dast h | exact gr_ev_aast h | exact gr_ev_alen h | exact gr_ev_pop h | exact gr_ev_pop2 h | exact gr_ev_dup h | exact gr_ev_dup_x1 h | exact gr_ev_dup_x2 h | exact gr_ev_dup2 h | exact gr_ev_ccast _ h | exact gr_ev_inst _ h | exact gr_ev_getf _ h | exact gr_ev_new _ h | exact gr_ev_newa _ h | exact gr_ev_cpy h | exact gr_ev_ldc _ h | exact gr_ev_ldc2 _ h | exact gr_ev_nat _ h | exact gr_ev_istore _ h | exact gr_ev_fstore _ h | exact gr_ev_astore _ h | exact gr_ev_lstore _ h | exact gr_ev_dstore _ h | exact gr_ev_iinc _ _ h | exact gr_ev_putf _ h | (cases h; exact GR.rf)
theorem br_grow {i : Instr} {S S' : ev_S} {b : Bool} (h : ev_br i S = some (b, S')) : GR S.2.2 S'.2.2 := by
  unfold ev_br at h
  repeat' split at h
  all_goals first | (cases h; done) | (cases h; exact GR.rf)
theorem sw_grow {i : Instr} {ar : List Nat} {S S' : ev_S} {t : Nat} (h : ev_sw i ar S = some (t, S')) : GR S.2.2 S'.2.2 := by
  unfold ev_sw at h
  repeat' split at h
  all_goals first | (cases h; done) | (cases h; exact GR.rf)
theorem vt_grow {i : Instr} {ar : List Nat} {S : ev_S} {e : Nat} {M : ev_M} (h : ev_vt i ar S = some (e, M)) : GR S.2.2 M := by
  unfold ev_vt at h
  repeat' split at h
  all_goals first | (cases h; done) | (cases h; exact GR.wX)
theorem puts_grow {a : Nat} : ∀ {ts : List Nat} {k : Nat} {vs : List Value} {M M' : ev_M}, ev_puts M a ts k vs = some M' → GR M M'
  | [], _, [], M, M', h => by cases h; exact GR.rf
  | t :: ts, k, v :: vs, M, M', h => by
    unfold ev_puts at h
    split at h
    · rename_i M1 h1
      exact (grw_put h1).tr (puts_grow h)
    · cases h
  | [], _, _ :: _, M, M', h => by cases h
  | _ :: _, _, [], M, M', h => by cases h
/-- the memory of a step's outcome -/
def st_mem (M : ev_M) : ev_R → ev_M
  | .inl q => q.2.2.2
  | .inr (.inl r) => r.2.2
  | .inr (.inr _) => M
theorem xc_grow {P : ev_P} {hs : List (Nat × Nat)} {ls : List Value} {e : Nat} {M : ev_M} {X : (ev_B × ev_S) ⊕ ev_O} (h : ev_xc P hs ls e M = some X) : GR M (st_mem M (ev_up X)) := by
  unfold ev_xc at h
  split at h
  · cases h; exact GR.rf
  · cases h; exact GR.rf
  · cases h
theorem rt_grow {i : Instr} {ar : List Nat} {st : List Value} {M : ev_M} {X : ev_R} (h : ev_rt i ar st M = some X) : GR M (st_mem M X) := by
  unfold ev_rt at h
  repeat' split at h
  all_goals first | (cases h; done) | (cases h; exact GR.rf)
theorem cl_grow {P : ev_P} {i : Instr} {ar : List Nat} {hs : List (Nat × Nat)} {cs : ev_B} {ls st : List Value} {M : ev_M} {X : ev_R} (h : ev_cl P i ar hs cs ls st M = some X) : GR M (st_mem M X) := by
  unfold ev_cl at h
  split at h
  · rename_i e M' hv
    split at h
    · cases h
    · obtain ⟨Y, h1, rfl⟩ := Option.map_eq_some_iff.mp h
      have h2 := xc_grow h1
      have h3 := vt_grow hv
      refine h3.tr ?_
      cases Y with
      | inl a => exact h2
      | inr b => exact h2
  · repeat' split at h
    all_goals first | (cases h; done) | (cases h; exact GR.rf)
theorem dyn_grow {P : ev_P} {ar : List Nat} {cs : ev_B} {ls st : List Value} {M : ev_M} {X : ev_R} (h : ev_dyn P ar cs ls st M = some X) : GR M (st_mem M X) := by
  unfold ev_dyn at h
  split at h
  · cases h
  · split at h
    · cases h; exact GR.rf
    · split at h
      · split at h
        · rename_i M' h1
          cases h
          exact GR.wN.tr (puts_grow h1)
        · cases h
      · cases h
    · cases h
theorem nop_grow {P : ev_P} {ar : List Nat} {cs : ev_B} {ls st : List Value} {M : ev_M} {X : ev_R} (h : ev_nop P ar cs ls st M = some X) : GR M (st_mem M X) := by
  unfold ev_nop at h
  repeat' split at h
  all_goals first | (cases h; done) | (cases h; exact GR.rf)
theorem st_grow {P : ev_P} {i : Instr} {ar : List Nat} {hs : List (Nat × Nat)} {cs : ev_B} {ls st : List Value} {M : ev_M} {X : ev_R} (h : ev_st P i ar hs cs ls st M = some X) : GR M (st_mem M X) := by
  unfold ev_st at h
  split at h
  · rename_i S h1
    cases h
    exact so_grow h1
  · split at h
    · split at h
      · rename_i b S t hbr hso
        have h2 := br_grow (by first | exact hbr | exact hso)
        split at h <;> (cases h; exact h2)
      · cases h
    · split at h
      · split at h
        · rename_i t S h1
          cases h
          exact sw_grow h1
        · cases h
      · split at h
        · exact nop_grow h
        · exact rt_grow h
        · exact rt_grow h
        · exact rt_grow h
        · exact rt_grow h
        · exact rt_grow h
        · exact rt_grow h
        · exact dyn_grow h
        · exact cl_grow h
theorem bk_grow {P : ev_P} {hs : List (Nat × Nat)} {cs : ev_B} {ls st : List Value} {o : Nat} {r : Value} {M : ev_M} {X : (ev_B × ev_S) ⊕ ev_O} (h : ev_bk P hs cs ls st o r M = some X) : GR M (st_mem M (ev_up X)) := by
  unfold ev_bk at h
  split at h
  · cases h; exact GR.rf
  · exact xc_grow h
theorem ex_grow {P : ev_P} : ∀ {n : Nat} {cs : ev_B} {ls st : List Value} {M : ev_M} {r : ev_O}, ex P n cs ls st M = some r → GR M r.2.2 := by
  intro n
  induction n with
  | zero => intro cs ls st M r h; simp [ex] at h
  | succ n ih =>
    intro cs ls st M r h
    cases cs with
    | nil => simp [ex] at h
    | cons c cs =>
      unfold ex at h
      split at h
      · cases h
      · rename_i q hq
        exact (st_grow hq).tr (ih h)
      · rename_i q hq
        cases h
        exact st_grow hq
      · rename_i q hq
        split at h
        · cases h
        · rename_i r' hr
          have h1 := ih hr
          split at h
          · cases h
          · rename_i q' hq'
            exact h1.tr ((bk_grow hq').tr (ih h))
          · rename_i q' hq'
            cases h
            exact h1.tr (bk_grow hq')
