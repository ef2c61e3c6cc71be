/-! SOUNDNESS OF A RUN: how a step went; what a run comes to; the induction (vy_ofW, vy_ofWH: as vx_ofW, vx_ofWH of part 10, by MetFree.of_bodySF) -/
theorem vy_ofW {l : Launch} {y : MethodName} {ws ws' : List Cond} {rm : Room} {Pc : Array Value → State → Prop} {Qc : Array Value → State → Outcome → State → Prop} {XC : String → State → State → Prop} {mc ms : Nat} {free : Addr → Prop} {cc : ByteArray} {maxL : Nat} {ret : Option FieldType}
    (hy : plainFor y = true) (hw : ws = Cond.code y cc maxL ret :: ws')
    (body : ∀ p e s m args below meth c s₁, BodyLoose p l y (headSpec ws rm) cc maxL ret e s m args below meth c s₁ → c.maxLocals = maxL → (∀ x ∈ c.exceptionTable.toList, False) → Pc args s →
      W p l e (headSpec ws rm).room s m args below meth c s.heap [] 0 0 (vx_MQ below Qc XC args s mc ms free) (entryFrame m args maxL)) : vx_Met l y ws rm Pc Qc XC mc ms free := by
  refine MetFree.of_bodySF (code := cc) (maxLocals := maxL) (ret := ret) hy ?_ ?_
  · intro args s m h hn
    obtain ⟨meth, c, h1, h2, h3, h4, h5, h6, -, -⟩ := Cond.code_spec hn (atoms_spec (ws := ws) h _ (by rw [hw]; exact List.mem_cons_self))
    exact ⟨meth, c, h1, h2, h3, h4, h5, h6⟩
  · intro p e s m args below meth c s₁ B hml hP _
    have hh0 : s₁.heap = s.heap := by rw [B.state]; rfl
    have ht : ∀ x ∈ c.exceptionTable.toList, False := by
      obtain ⟨meth9, c9, h1, h2, -, -, -, -, h7, -⟩ := Cond.code_spec B.named (atoms_spec (ws := ws) B.pre _ (by rw [hw]; exact List.mem_cons_self))
      cases Option.some.inj (h1.symm.trans B.method)
      cases Option.some.inj (h2.symm.trans (Stand.of_body B).code)
      intro x hx
      rw [Array.isEmpty_iff.mp h7] at hx
      cases hx
    obtain ⟨t, a1, o, b1, b2, b3⟩ := body p e s m args below meth c s₁ B hml ht hP s₁ hh0 (Stand.of_body B)
    exact ⟨t, o, a1, b1, b2, b3⟩
theorem vy_ofWH {l : Launch} {y : MethodName} {ws ws' : List Cond} {rm : Room} {Pc : Array Value → State → Prop} {Qc : Array Value → State → Outcome → State → Prop} {XC : String → State → State → Prop} {mc ms : Nat} {free : Addr → Prop} {cc : ByteArray} {maxL : Nat} {ret : Option FieldType} {hh : List (Nat × Nat × Nat × Nat)}
    (hy : plainFor y = true) (hw : ws = Cond.codeWith y cc maxL ret hh :: ws')
    (body : ∀ p e s m args below meth c s₁, BodyLoose p l y (headSpec ws rm) cc maxL ret e s m args below meth c s₁ → c.maxLocals = maxL → Pc args s →
      W p l e (headSpec ws rm).room s m args below meth c s.heap [] 0 0 (vx_MQ below Qc XC args s mc ms free) (entryFrame m args maxL)) : vx_Met l y ws rm Pc Qc XC mc ms free := by
  refine MetFree.of_bodySF (code := cc) (maxLocals := maxL) (ret := ret) hy ?_ ?_
  · intro args s m h hn
    obtain ⟨m9, meth, c, hn9, h1, h2, h3, h4, -, h5, h6, -⟩ := Cond.codeWith_spec (atoms_spec (ws := ws) h _ (by rw [hw]; exact List.mem_cons_self))
    cases hn.symm.trans hn9
    exact ⟨meth, c, h1, h2, h3, h4, h5, h6⟩
  · intro p e s m args below meth c s₁ B hml hP _
    have hh0 : s₁.heap = s.heap := by rw [B.state]; rfl
    obtain ⟨t, a1, o, b1, b2, b3⟩ := body p e s m args below meth c s₁ B hml hP s₁ hh0 (Stand.of_body B)
    exact ⟨t, o, a1, b1, b2, b3⟩
section
variable {P : ev_P} {i : Instr} {ar : List Nat} {hs : List (Nat × Nat)} {cs : ev_B} {ls st : List Value} {M : ev_M} {Z : ev_R}
theorem br_3 {S S' : ev_S} {b : Bool} (h : ev_br i S = some (b, S')) : (iln i = 3 ∧ ev_isSw i = false) ∧ ∃ off, joff i = some off := by
  unfold ev_br at h
  split at h <;> first | exact ⟨⟨rfl, rfl⟩, _, rfl⟩ | cases h
theorem rt_1 {X : ev_R} (h : ev_rt i ar st M = some X) : iln i = 1 ∧ ev_isSw i = false := by
  unfold ev_rt at h
  split at h <;> first | exact ⟨rfl, rfl⟩ | cases h
theorem so_nsw {S S' : ev_S} (h : ev_so S i ar = some S') : ev_isSw i = false := by
  cases hi : ev_isSw i with
  | false => rfl
  | true =>
    unfold ev_isSw at hi
    split at hi <;> first | (cases hi; done) | (cases h; done) | skip
theorem st_inv (h : ev_st P i ar hs cs ls st M = some Z) (hi : i ≠ .nop) :
    (∃ S, ev_so (ls, st, M) i ar = some S ∧ Z = .inl (cs, S)) ∨ (∃ b S t, ev_br i (ls, st, M) = some (b, S) ∧ ar = [t] ∧ Z = .inl (if b = true then P.1 t else cs, S)) ∨
    (∃ t S, ev_isSw i = true ∧ ev_sw i ar (ls, st, M) = some (t, S) ∧ Z = .inl (P.1 t, S)) ∨ ev_rt i ar st M = some Z ∨ (∃ idx, i = .invokedynamic idx ∧ ev_dyn P ar cs ls st M = some Z) ∨ ev_cl P i ar hs cs ls st M = some Z := by
  unfold ev_st at h
  split at h
  · rename_i S h1
    cases h
    exact Or.inl ⟨S, h1, rfl⟩
  · split at h
    · refine Or.inr (Or.inl ?_)
      cases hb : ev_br i (ls, st, M) with
      | none => rw [hb] at h; cases h
      | some q =>
        obtain ⟨b, S⟩ := q
        rw [hb] at h
        match ar, h with
        | [t], h =>
          refine ⟨b, S, t, rfl, rfl, ?_⟩
          cases b <;> (cases h; rfl)
    · split at h
      · rename_i hsw
        cases hb : ev_sw i ar (ls, st, M) with
        | none => rw [hb] at h; cases h
        | some q =>
          obtain ⟨t, S⟩ := q
          rw [hb] at h
          cases h
          exact Or.inr (Or.inr (Or.inl ⟨t, S, hsw, rfl, rfl⟩))
      · split at h
        · exact absurd rfl hi
        · exact Or.inr (Or.inr (Or.inr (Or.inl h)))
        · exact Or.inr (Or.inr (Or.inr (Or.inl h)))
        · exact Or.inr (Or.inr (Or.inr (Or.inl h)))
        · exact Or.inr (Or.inr (Or.inr (Or.inl h)))
        · exact Or.inr (Or.inr (Or.inr (Or.inl h)))
        · exact Or.inr (Or.inr (Or.inr (Or.inl h)))
        · exact Or.inr (Or.inr (Or.inr (Or.inr (Or.inl ⟨_, rfl, h⟩))))
        · exact Or.inr (Or.inr (Or.inr (Or.inr (Or.inr h))))
theorem cl_inv (h : ev_cl P i ar hs cs ls st M = some Z) :
    (∃ k M1 Y, ev_vt i ar (ls, st, M) = some (k, M1) ∧ ¬ 1000 < ev_w st ∧ ev_xc P hs ls k M1 = some Y ∧ Z = ev_up Y) ∨
    (∃ y vs st', ev_call P i ar (ls, st, M) = some (y, vs, st') ∧ ¬ 8 < ev_w st' ∧ ((y = 0 ∧ ∃ a, vs = [.ref a] ∧ Z = .inl (cs, ls, st', M)) ∨ (y ≠ 0 ∧ ¬ P.2.1 y < (ev_lay vs).length ∧ Z = .inr (.inr (y, vs, st'))))) := by
  unfold ev_cl at h
  split at h
  · rename_i k M1 hv
    split at h
    · cases h
    · rename_i hw
      obtain ⟨Y, h1, rfl⟩ := Option.map_eq_some_iff.mp h
      exact Or.inl ⟨k, M1, Y, hv, hw, h1, rfl⟩
  · split at h
    · rename_i y vs st' hc
      split at h
      · cases h
      · rename_i h8
        refine Or.inr ⟨y, vs, st', hc, h8, ?_⟩
        split at h
        · rename_i h0
          split at h
          · cases h
            exact Or.inl ⟨h0, _, rfl, rfl⟩
          · cases h
        · rename_i h0
          split at h
          · cases h
          · rename_i hl
            cases h
            exact Or.inr ⟨h0, hl, rfl⟩
    · cases h
theorem dyn_inv (h : ev_dyn P ar cs ls st M = some Z) : ¬ 1000 < ev_w st ∧ ((∃ k, ar = [0, k] ∧ Z = .inl (cs, ls, .ref (mS M k) :: st, M)) ∨
    (∃ t k vs st' M', ar = [1, t, k] ∧ ev_take k [] st = some (vs, st') ∧ ev_puts (wN M t 0 k) (nx M) (P.2.2.1 t) 0 vs = some M' ∧ Z = .inl (cs, ls, .ref (nx M) :: st', M'))) := by
  unfold ev_dyn at h
  split at h
  · cases h
  · rename_i hw
    refine ⟨hw, ?_⟩
    split at h
    · rename_i k
      cases h
      exact Or.inl ⟨k, rfl, rfl⟩
    · rename_i t k
      split at h
      · rename_i vs st' hk
        split at h
        · rename_i M' hp
          cases h
          exact Or.inr ⟨t, k, vs, st', M', rfl, hk, hp, rfl⟩
        · cases h
      · cases h
    · cases h
theorem call_inv {S : ev_S} {y : Nat} {vs st' : List Value} (h : ev_call P i ar S = some (y, vs, st')) :
    (∃ idx k, i = .invokestatic idx ∧ ar = [y, k] ∧ ev_take k [] S.2.1 = some (vs, st')) ∨
    (∃ idx k a ws, i = .invokespecial idx ∧ ar = [y, k] ∧ ev_take k [] S.2.1 = some (vs, st') ∧ vs = .ref a :: ws ∧ a ≠ 0) ∨
    (∃ idx k t a ws, i = .invokespecial idx ∧ ar = [y, k, t] ∧ ev_take k [] S.2.1 = some (vs, st') ∧ vs = .ref a :: ws ∧ mK S.2.2 a = t) ∨
    (∃ idx k l a ws, i = .invokevirtual idx ∧ ar = k :: l ∧ ev_take k [] S.2.1 = some (vs, st') ∧ vs = .ref a :: ws ∧ ev_pair (mK S.2.2 a) l = some y) ∨
    (∃ idx cnt k l a ws, i = .invokeinterface idx cnt ∧ ar = 0 :: k :: l ∧ ev_take k [] S.2.1 = some (vs, st') ∧ vs = .ref a :: ws ∧ ev_pair (mK S.2.2 a) l = some y) ∨
    (∃ idx cnt k ct l a ws, i = .invokeinterface idx cnt ∧ ar = 1 :: k :: ct :: l ∧ ev_take k [] S.2.1 = some (.ref a :: ws, st') ∧ mK S.2.2 a ∈ l ∧ ws.all (ev_ty ct) = true ∧ (mK S.2.2 a = 130 ∨ mK S.2.2 a = 133 → mK S.2.2 (mA S.2.2 a 0) = 1) ∧ y = P.2.2.2 (mK S.2.2 a) ∧ vs = ev_caps S.2.2 a (P.2.2.1 (mK S.2.2 a)) 0 ++ ws) := by
  unfold ev_call at h
  split at h
  · rename_i idx y0 k
    obtain ⟨q, h1, h2⟩ := Option.map_eq_some_iff.mp h
    cases h2
    exact Or.inl ⟨idx, k, rfl, rfl, h1⟩
  · rename_i idx y0 k
    split at h
    · rename_i a ws st0 h1
      split at h
      · cases h
      · rename_i ha
        cases h
        exact Or.inr (Or.inl ⟨idx, k, a, ws, rfl, rfl, h1, rfl, ha⟩)
    · cases h
  · rename_i idx y0 k t
    split at h
    · rename_i a ws st0 h1
      split at h
      · rename_i ha
        cases h
        exact Or.inr (Or.inr (Or.inl ⟨idx, k, t, a, ws, rfl, rfl, h1, rfl, ha⟩))
      · cases h
    · cases h
  · rename_i idx k l
    split at h
    · rename_i a ws st0 h1
      obtain ⟨q, h2, h3⟩ := Option.map_eq_some_iff.mp h
      cases h3
      exact Or.inr (Or.inr (Or.inr (Or.inl ⟨idx, k, l, a, ws, rfl, rfl, h1, rfl, h2⟩)))
    · cases h
  · rename_i idx cnt k l
    split at h
    · rename_i a ws st0 h1
      obtain ⟨q, h2, h3⟩ := Option.map_eq_some_iff.mp h
      cases h3
      exact Or.inr (Or.inr (Or.inr (Or.inr (Or.inl ⟨idx, cnt, k, l, a, ws, rfl, rfl, h1, rfl, h2⟩))))
    · cases h
  · rename_i idx cnt k ct l
    split at h
    · rename_i a ws st0 h1
      split at h
      · rename_i hc
        obtain ⟨c1, c2, c3⟩ := hc
        cases h
        exact Or.inr (Or.inr (Or.inr (Or.inr (Or.inr ⟨idx, cnt, k, ct, l, a, ws, rfl, rfl, h1, List.contains_iff_mem.mp c1, c2, c3, rfl, rfl⟩))))
      · cases h
    · cases h
  · cases h
end
theorem take_len : ∀ {k : Nat} {acc st vs st' : List Value}, ev_take k acc st = some (vs, st') → vs.length = k + acc.length
  | 0, acc, st, vs, st', h => by cases h; simp
  | k + 1, acc, [], vs, st', h => by cases h
  | k + 1, acc, v :: st, vs, st', h => by
    have := take_len (k := k) (acc := v :: acc) h
    rw [this, List.length_cons]; omega
theorem lay_len : ∀ vs : List Value, vs.length ≤ (ev_lay vs).length
  | [] => Nat.le_refl _
  | v :: vs => by
    have := lay_len vs
    unfold ev_lay
    split <;> (simp only [List.length_cons]; omega)
section
variable {mt : Nat → ev_T} {y : Nat}
theorem xc_out {own : String} {hh : Option (List (Nat × Nat × Nat × Nat))} {pc : Nat} {hs : List (Nat × Nat)} (h : HOK own hh y pc hs) {k : Nat} (hk : 1 ≤ k ∧ k ≤ 6) {ls : List Value} {M : ev_M} {X : (ev_B × ev_S) ⊕ ev_O} (hX : ev_xc ev_prog hs ls k M = some X) : (∃ tgt, tgt < 4096 ∧ X = .inl (ev_prog.1 (y * 4096 + tgt), ls, [ek], M)) ∨ X = .inr (k + 1, ek, M) := by
  unfold ev_xc ev_hd at hX
  by_cases h77 : (hs.lookup 77).isSome = true
  · rw [if_pos h77] at hX; cases hX
  · rw [if_neg h77] at hX
    have h := h.resolve_left h77 k hk.1 hk.2
    cases hlk : hs.lookup k with
    | some t =>
      rw [hlk] at hX h
      cases hX
      obtain ⟨pre, x, suf, name, e1, e2, e3, e4, e5, e6, e8, e7⟩ := h
      exact Or.inl ⟨x.handlerPc, e8, by rw [e7]⟩
    | none =>
      rw [hlk] at hX
      cases hX
      exact Or.inr rfl
theorem vt_rng {own : String} {cd : ByteArray} {hh : Option (List (Nat × Nat × Nat × Nat))} {pc : Nat} {i : Instr} {ar : List Nat} {S : ev_S} {k : Nat} {M1 : ev_M} (hlt : LTh own cd hh pc i ar) (hv : ev_vt i ar S = some (k, M1)) : 1 ≤ k ∧ k ≤ 6 := by
  unfold ev_vt at hv
  repeat' split at hv
  all_goals first | (cases hv; done) | (cases hv; decide) | (cases hv; obtain ⟨⟨rfl, -, -⟩, -⟩ := hlt; decide)
theorem sw_ge {pc : Nat} {i : Instr} {ar : List Nat} {S S' : ev_S} {t : Nat} (h : ev_sw i ar S = some (t, S')) (hj : SWOK y pc i ar) : y * 4096 ≤ t := by
  have hm := sw_mem h
  unfold ev_sw at h
  split at h
  · obtain ⟨-, ⟨-, j4⟩, j5, -⟩ := hj
    rcases List.mem_cons.mp hm with e | hm
    · omega
    · rw [j5] at hm
      obtain ⟨o, -, e⟩ := List.mem_map.mp hm
      omega
  · obtain ⟨-, ⟨-, j4⟩, j5, -⟩ := hj
    rcases List.mem_cons.mp hm with e | hm
    · omega
    · rw [j5] at hm
      obtain ⟨o, -, e⟩ := List.mem_map.mp hm
      omega
  · cases h
/-- a run's end -/
def FCT (t : ev_T) (o : Nat) (r : Value) : Prop := (o = 0 → RTY t.2.2.2.1 r) ∧ (o = 0 ∨ (2 ≤ o ∧ o ≤ 7))
def RN (n : Nat) (r : ev_O) : (ev_B × ev_S) ⊕ ev_O → Prop
  | .inl q => ex ev_prog n q.1 q.2.1 q.2.2.1 q.2.2.2 = some r
  | .inr z => z = r
theorem hB_0 (hB : ∀ y pc, pc < 4096 → BOK mt y pc (ev_prog.1 (y * 4096 + pc))) (y : Nat) : BOK mt y 0 (ev_prog.1 (y * 4096)) := by
  have h := hB y 0 (by decide)
  rw [Nat.add_zero] at h
  exact h
theorem run_facts (hB : ∀ y pc, pc < 4096 → BOK mt y pc (ev_prog.1 (y * 4096 + pc))) : ∀ (n : Nat) (y pc : Nat) (cs : ev_B) (ls st : List Value) (M : ev_M) (r : ev_O), BOK mt y pc cs → ex ev_prog n cs ls st M = some r → FCT (mt y) r.1 r.2.1 := by
  intro n
  induction n with
  | zero => intro y pc cs ls st M r _ h; simp [ex] at h
  | succ n ih =>
    intro y pc cs ls st M r hb h
    cases cs with
    | nil => simp [ex] at h
    | cons c0 cs =>
      obtain ⟨⟨i, len, ar⟩, hs⟩ := c0
      unfold ex at h
      dsimp only at h
      rcases hb with ⟨hi, hb⟩ | ⟨hi, I, hb⟩
      · have hi : i = .nop := hi
        subst hi
        rcases hb with ⟨har, hpc⟩ | ⟨⟨ks, har⟩, hb⟩
        · have har : ar = [0, y * 4096 + pc] := har
          subst har
          have h : ex ev_prog n (ev_prog.1 (y * 4096 + pc)) ls st M = some r := h
          exact ih y pc _ ls st M r (hB y pc hpc) h
        · have har : ar = 1 :: ks := har
          subst har
          have h : ex ev_prog n cs (ev_kill ks ls) st M = some r := h
          exact ih y pc _ _ st M r hb h
      · have hi : i ≠ .nop := hi
        have hb : BOK mt y (pc + len) cs := hb
        have hX : ∀ {k : Nat} {ls : List Value} {M1 : ev_M} {X : (ev_B × ev_S) ⊕ ev_O}, canX i ar = true → (1 ≤ k ∧ k ≤ 6) → ev_xc ev_prog hs ls k M1 = some X → RN n r X → FCT (mt y) r.1 r.2.1 := by
          intro k ls M1 X hcx hk h1 h2
          rcases xc_out (hok_of I.2.2.2.2.2.2.2 hcx) hk h1 with ⟨tgt, g1, rfl⟩ | rfl
          · exact ih y tgt _ _ _ _ r (hB y tgt g1) h2
          · have h2 : (k + 1, ek, M1) = r := h2
            subst h2
            exact ⟨fun q => absurd q (Nat.succ_ne_zero _), Or.inr ⟨by show 2 ≤ k + 1; omega, by show k + 1 ≤ 7; omega⟩⟩
        cases hzz : ev_st ev_prog i ar hs cs ls st M with
        | none => rw [hzz] at h; cases h
        | some Z =>
          rw [hzz] at h
          rcases st_inv hzz hi with ⟨S, h1, rfl⟩ | ⟨b, S, t, h1, rfl, rfl⟩ | ⟨t, S, hsw, h1, rfl⟩ | h1 | ⟨idx, rfl, h1⟩ | h1
          · exact ih y _ cs _ _ _ r hb h
          · obtain ⟨-, off, hoff⟩ := br_3 h1
            obtain ⟨⟨-, b2⟩, b3⟩ := I.2.2.2.1.1 off hoff
            have b3 : t = y * 4096 + ((pc : Int) + off).toNat := (List.cons.inj b3).1
            cases b with
            | true =>
              have h : ex ev_prog n (ev_prog.1 t) S.1 S.2.1 S.2.2 = some r := h
              rw [b3] at h
              exact ih y _ _ _ _ _ r (hB y _ b2) h
            | false => exact ih y _ cs _ _ _ r hb h
          · have g1 := sw_ge h1 I.2.2.2.1.2.1
            have g2 := I.2.2.2.1.2.2 hsw t (sw_mem h1)
            have h : ex ev_prog n (ev_prog.1 t) S.1 S.2.1 S.2.2 = some r := h
            rw [show t = y * 4096 + (t - y * 4096) by omega] at h
            exact ih y _ _ _ _ _ r (hB y _ (by omega)) h
          · obtain ⟨v, rfl⟩ := rt_out h1
            cases h
            exact ⟨fun _ => rt_rty h1 I.2.2.2.2.2.2.1, Or.inl rfl⟩
          · obtain ⟨-, ⟨k, -, rfl⟩ | ⟨t, k, vs, st', M', -, -, -, rfl⟩⟩ := dyn_inv h1
            · exact ih y _ cs _ _ _ r hb h
            · exact ih y _ cs _ _ _ r hb h
          · rcases cl_inv h1 with ⟨k, M1, Y, h2, -, h3, rfl⟩ | ⟨y', vs, st', h2, -, ⟨-, a, -, rfl⟩ | ⟨-, -, rfl⟩⟩
            · refine hX (vt_can h2) (vt_rng I.2.2.2.2.2.1 h2) h3 ?_
              cases Y with
              | inl q => exact h
              | inr z => exact Option.some.inj h
            · exact ih y _ cs _ _ _ r hb h
            · dsimp only at h
              cases hr : ex ev_prog n (ev_prog.1 (y' * 4096)) (ev_ent (ev_prog.2.1 y') vs) [] M with
              | none => rw [hr] at h; cases h
              | some r' =>
                rw [hr] at h
                dsimp only at h
                have hF := ih y' 0 _ _ _ _ r' (hB_0 hB y') hr
                obtain ⟨o', v', M'⟩ := r'
                dsimp only at h hF
                cases o' with
                | zero => exact ih y _ cs _ _ _ r hb h
                | succ k =>
                  have hk : 1 ≤ k ∧ k ≤ 6 := by
                    rcases hF.2 with h | h <;> omega
                  cases hx : ev_xc ev_prog hs ls k M' with
                  | none =>
                    have e1 : ev_bk ev_prog hs cs ls st' (k + 1) v' M' = none := hx
                    rw [e1] at h
                    cases h
                  | some X =>
                    have e1 : ev_bk ev_prog hs cs ls st' (k + 1) v' M' = some X := hx
                    rw [e1] at h
                    refine hX (ca_can h2) hk hx ?_
                    cases X with
                    | inl q => exact h
                    | inr z => exact Option.some.inj h
/-- a method's contract, from its body's run -/
theorem ct_of {l : Launch} {D : rl_D} {bs : Nat} {H0 : Heap} {vs : List Value} {M M' : ev_M} {o : Nat} {r : Value} (hst : l.stackTraces = false) (hM : MOK (mt y)) (hlen : (ev_lay vs).length ≤ (mt y).2.2.1)
    (hW : ∀ {p : Program} {e : Env} {R : Room} {s : State} {m : MethodId} {args : Array Value} {below : List Frame} {meth : Method} {c : Code} {φ0 : Nat → Nat}, CTX mt p l R s m args meth c D bs H0 y → ncl M' ≤ R.cells + ncl M → nsl M' ≤ R.slots + nsl M → WT p l e R s m args below meth c (FQ below args s D bs H0 M φ0 o r M') D bs H0 (mt y).2.2.1 (ncl M) (nsl M) M φ0 (ev_ent (mt y).2.2.1 vs, [], M) 0) :
    CT l D bs H0 (mt y) y vs M o r M' := by
  intro φ
  cases hh : (mt y).2.2.2.2 with
  | none =>
    have hcode : t_word (mt y) = Cond.code (mt y).1 (mt y).2.1 (mt y).2.2.1 (mt y).2.2.2.1 := by unfold t_word; rw [hh]
    refine vy_ofW (cc := (mt y).2.1) (maxL := (mt y).2.2.1) (ret := (mt y).2.2.2.1) hM.2.2.1 (by rw [hcode]) ?_
    intro p e s m args below meth c s₁ B hml ht hP
    obtain ⟨⟨As, rfl, hS⟩, hR, hKK⟩ := hP
    have hws := fun w hw => atoms_spec (ws := t_word (mt y) :: lw_all) B.pre w (List.mem_cons_of_mem _ hw)
    have hxt : c.exceptionTable.toList = [] := by
      cases hc : c.exceptionTable.toList with
      | nil => rfl
      | cons x xs => exact (ht x (by rw [hc]; exact List.mem_cons_self)).elim
    have C : CTX mt p l (headSpec (t_word (mt y) :: lw_all) (rmY y (ncl M' - ncl M) (nsl M' - nsl M))).room s m As.toArray meth c D bs H0 y :=
      ⟨⟨B.exec, B.bytes, hml, B.notSynchronized, B.returns⟩, hws, ⟨B.named, B.method⟩, hKK, hR.2.2.2.2.1.2, by unfold XT; rw [hh]; exact hxt, hst, Nat.le_refl _, Nat.le_refl _⟩
    have h1 := hW (e := e) (below := below) (φ0 := φ) C (by show ncl M' ≤ ncl M' - ncl M + ncl M; omega) (by show nsl M' ≤ nsl M' - nsl M + nsl M; omega) φ _ [] s.heap [] 0 0 Ext.rf (Nat.le_refl _) hR (ent_loc hS hlen) trivial (fun _ h => nomatch h) (Nat.zero_add _) (Nat.zero_add _)
    rw [lg_entry_eq]
    exact h1
  | some hh1 =>
    have hcode : t_word (mt y) = Cond.codeWith (mt y).1 (mt y).2.1 (mt y).2.2.1 (mt y).2.2.2.1 hh1 := by unfold t_word; rw [hh]
    refine vy_ofWH (cc := (mt y).2.1) (maxL := (mt y).2.2.1) (ret := (mt y).2.2.2.1) (hh := hh1) hM.2.2.1 (by rw [hcode]) ?_
    intro p e s m args below meth c s₁ B hml hP
    obtain ⟨⟨As, rfl, hS⟩, hR, hKK⟩ := hP
    have hws := fun w hw => atoms_spec (ws := t_word (mt y) :: lw_all) B.pre w (List.mem_cons_of_mem _ hw)
    have hxt : c.exceptionTable.toList = tableOf hh1 := vx_table (x := (mt y).1) B (by have := hws _ hM.1; rw [hcode] at this; exact this)
    have C : CTX mt p l (headSpec (t_word (mt y) :: lw_all) (rmY y (ncl M' - ncl M) (nsl M' - nsl M))).room s m As.toArray meth c D bs H0 y :=
      ⟨⟨B.exec, B.bytes, hml, B.notSynchronized, B.returns⟩, hws, ⟨B.named, B.method⟩, hKK, hR.2.2.2.2.1.2, by unfold XT; rw [hh]; exact hxt, hst, Nat.le_refl _, Nat.le_refl _⟩
    have h1 := hW (e := e) (below := below) (φ0 := φ) C (by show ncl M' ≤ ncl M' - ncl M + ncl M; omega) (by show nsl M' ≤ nsl M' - nsl M + nsl M; omega) φ _ [] s.heap [] 0 0 Ext.rf (Nat.le_refl _) hR (ent_loc hS hlen) trivial (fun _ h => nomatch h) (Nat.zero_add _) (Nat.zero_add _)
    rw [lg_entry_eq]
    exact h1
/-- a run says what the machine does -/
theorem sound (hB : ∀ y pc, pc < 4096 → BOK mt y pc (ev_prog.1 (y * 4096 + pc))) (hL : ∀ y, ev_prog.2.1 y = (mt y).2.2.1) (h9 : ev_prog.1 (9000 * 4096) = []) (hob : obW ∈ lw_all) {l : Launch} {D : rl_D} {bs : Nat} {H0 : Heap} (hst : l.stackTraces = false) :
    ∀ (n : Nat) (y pc : Nat) (cs : ev_B) (ls st : List Value) (M : ev_M) (r : ev_O), BOK mt y pc cs → ex ev_prog n cs ls st M = some r →
      ∀ {p : Program} {e : Env} {R : Room} {s : State} {m : MethodId} {args : Array Value} {below : List Frame} {meth : Method} {c : Code} {φ0 : Nat → Nat} {M0 : ev_M}, CTX mt p l R s m args meth c D bs H0 y → ncl r.2.2 ≤ R.cells + ncl M0 → nsl r.2.2 ≤ R.slots + nsl M0 →
        WT p l e R s m args below meth c (FQ below args s D bs H0 M0 φ0 r.1 r.2.1 r.2.2) D bs H0 (mt y).2.2.1 (ncl M0) (nsl M0) M0 φ0 (ls, st, M) pc := by
  intro n
  induction n with
  | zero => intro y pc cs ls st M r _ h; simp [ex] at h
  | succ n ih =>
    intro y pc cs ls st M r hb h p e R s m args below meth c φ0 M0 C hRc hRs
    cases cs with
    | nil => simp [ex] at h
    | cons c0 cs =>
      obtain ⟨⟨i, len, ar⟩, hs⟩ := c0
      unfold ex at h
      dsimp only at h
      rcases hb with ⟨hi, hb⟩ | ⟨hi, I, hb⟩
      · have hi : i = .nop := hi
        subst hi
        rcases hb with ⟨har, hpc⟩ | ⟨⟨ks, har⟩, hb⟩
        · have har : ar = [0, y * 4096 + pc] := har
          subst har
          have h : ex ev_prog n (ev_prog.1 (y * 4096 + pc)) ls st M = some r := h
          exact ih y pc _ ls st M r (hB y pc hpc) h C hRc hRs
        · have har : ar = 1 :: ks := har
          subst har
          have h : ex ev_prog n cs (ev_kill ks ls) st M = some r := h
          intro φ lsA stA H locs cells slots hE hn hR hL hS hl hc hs1
          exact ih y pc _ _ st M r hb h C hRc hRs φ lsA stA H locs cells slots hE hn hR hL.kill hS hl hc hs1
      · have hi : i ≠ .nop := hi
        have hb : BOK mt y (pc + len) cs := hb
        have hx := C.1.1
        have hcd := C.1.2.1
        have hml := C.1.2.2.1
        have hts := C.2.1
        have hown := C.fix.2.2.2.1
        have hKK := C.2.2.2.1
        have hfr := C.2.2.2.2.2.2.2.1
        have hlo := C.2.2.2.2.2.2.2.2
        have hd : decode (mt y).2.1 pc = .ok (i, len) := I.1
        have hin : ∀ {ls : List Value} {k : Nat} {M1 : ev_M} {X : (ev_B × ev_S) ⊕ ev_O}, RN n r X →
            (∀ tgt, tgt < 4096 → X = .inl (ev_prog.1 (y * 4096 + tgt), ls, [ek], M1) → WT p l e R s m args below meth c (FQ below args s D bs H0 M0 φ0 r.1 r.2.1 r.2.2) D bs H0 (mt y).2.2.1 (ncl M0) (nsl M0) M0 φ0 (ls, [ek], M1) tgt) ∧ (X = .inr (k + 1, ek, M1) → r.1 = k + 1 ∧ r.2.2 = M1) := by
          intro ls k M1 X hq
          refine ⟨fun tgt ht e1 => ?_, fun e1 => ?_⟩
          · subst e1
            exact ih y tgt _ _ _ _ r (hB y tgt ht) hq C hRc hRs
          · subst e1
            have hq : (k + 1, ek, M1) = r := hq
            subst hq
            exact ⟨rfl, rfl⟩
        have hgx : ∀ {M1 : ev_M} {X : (ev_B × ev_S) ⊕ ev_O}, GR M1 (st_mem M1 (ev_up X)) → RN n r X → GR M1 r.2.2 := by
          intro M1 X h1 h2
          cases X with
          | inl q => exact GR.tr h1 (ex_grow h2)
          | inr z =>
            have h2 : z = r := h2
            subst h2
            exact h1
        cases hzz : ev_st ev_prog i ar hs cs ls st M with
        | none => rw [hzz] at h; cases h
        | some Z =>
          rw [hzz] at h
          rcases st_inv hzz hi with ⟨S, h1, rfl⟩ | ⟨b, S, t, h1, rfl, rfl⟩ | ⟨t, S, hsw, h1, rfl⟩ | h1 | ⟨idx, rfl, h1⟩ | h1
          · have h : ex ev_prog n cs S.1 S.2.1 S.2.2 = some r := h
            have hg := ex_grow h
            have hln : len = iln i := I.2.1.resolve_left (by rw [so_nsw h1]; decide)
            exact so_sound hx hcd hml hts hown hKK (by omega) (by omega) hd hln (by rw [C.nm]; exact I.2.2.1) h1 (Nat.le_trans hg.1 hRc) (Nat.le_trans hg.2.1 hRs) (ih y (pc + len) cs S.1 S.2.1 S.2.2 r hb h C hRc hRs)
          · obtain ⟨⟨g1, g2⟩, off, hoff⟩ := br_3 h1
            obtain ⟨⟨b1, b2⟩, b3'⟩ := I.2.2.2.1.1 off hoff
            have b3 : t = y * 4096 + ((pc : Int) + off).toNat := (List.cons.inj b3').1
            clear b3'
            have hln : len = 3 := (I.2.1.resolve_left (by rw [g2]; decide)).trans g1
            subst hln
            refine wt_br hx hcd h1 hd (tgt := ((pc : Int) + off).toNat) (fun off' ho' => by cases hoff.symm.trans ho'; omega) (fun hbt => ?_) (fun hbf => ?_)
            · subst hbt
              have h : ex ev_prog n (ev_prog.1 t) S.1 S.2.1 S.2.2 = some r := h
              rw [b3] at h
              exact ih y _ _ _ _ _ r (hB y _ b2) h C hRc hRs
            · subst hbf
              exact ih y _ cs _ _ _ r hb h C hRc hRs
          · have g2 := I.2.2.2.1.2.2 hsw t (sw_mem h1)
            have h : ex ev_prog n (ev_prog.1 t) S.1 S.2.1 S.2.2 = some r := h
            refine wt_sw (y := y) hx hcd h1 hd I.2.2.2.1.2.1 (fun tgt ht => ?_)
            rw [ht] at h
            exact ih y _ _ _ _ _ r (hB y _ (by omega)) h C hRc hRs
          · obtain ⟨v, rfl⟩ := rt_out h1
            cases h
            obtain ⟨g1, g2⟩ := rt_1 h1
            have hln : len = 1 := (I.2.1.resolve_left (by rw [g2]; decide)).trans g1
            subst hln
            exact wt_rt hx hcd C.1.2.2.2.1 h1 hd (by rw [C.1.2.2.2.2]; exact I.2.2.2.2.2.2.1)
          · have hln : len = 5 := I.2.1.resolve_left (by intro h; cases h)
            subst hln
            have hla := I.2.2.2.2.1
            obtain ⟨hw, ⟨k, rfl, rfl⟩ | ⟨t, k, vs, st', M', rfl, h3, h4, rfl⟩⟩ := dyn_inv h1
            · obtain ⟨q, q1, q2⟩ := hla
              exact wt_dyn0 hx hcd hml hKK C.2.2.1.1 q1 q2 hd hw (by omega) (ih y _ cs _ _ _ r hb h C hRc hRs)
            · obtain ⟨q, hq, q1, q2⟩ := hla
              subst hq
              have h : ex ev_prog n cs ls (.ref (nx M) :: st') M' = some r := h
              have hg := ex_grow h
              exact wt_dyn1 hx hcd hml hts hob hKK C.2.2.1.1 q1 q2 hd hw (by omega) h3 h4 (Nat.le_trans hg.1 hRc) (Nat.le_trans hg.2.1 hRs) (ih y _ cs _ _ _ r hb h C hRc hRs)
          · rcases cl_inv h1 with ⟨k, M1, Y, h2, hw, h3, rfl⟩ | ⟨y', vs, st', h2, h8, hr0⟩
            · have hq : RN n r Y := by
                cases Y with
                | inl q => exact h
                | inr z => exact Option.some.inj h
              have hg := hgx (xc_grow h3) hq
              exact (vt_ok C I h2 hw h3 (Nat.le_trans hg.1 hRc) (Nat.le_trans hg.2.1 hRs) (hin (ls := ls) (k := k) (M1 := M1) hq).1 (hin (ls := ls) (k := k) (M1 := M1) hq).2).2
            · rcases hr0 with ⟨rfl, a0, rfl, rfl⟩ | ⟨h0, hll, rfl⟩
              · -- Object's constructor
                have hla := I.2.2.2.2.1
                have hcl0 : ∀ {z : Nat}, LCl mt y z → z ≠ 0 := fun h => by have := h.1.1; omega
                rcases call_inv h2 with ⟨idx, k, rfl, rfl, g1⟩ | ⟨idx, k, a, ws, rfl, rfl, g1, g2, g3⟩ | ⟨idx, k, t, a, ws, rfl, rfl, g1, g2, g3⟩ | ⟨idx, k, l', a, ws, rfl, rfl, g1, g2, g3⟩ | ⟨idx, cnt, k, l', a, ws, rfl, rfl, g1, g2, g3⟩ | ⟨idx, cnt, k, ct, l', a, ws, rfl, rfl, g1, g2, g3, g4, g5, g6⟩
                · rcases hla with hla | hla
                  · exact absurd hla (by decide)
                  · exact absurd rfl (hcl0 hla.1)
                · rcases hla with ⟨-, hlo0⟩ | hla
                  · have hln : len = 3 := I.2.1.resolve_left (by intro h; cases h)
                    subst hln
                    cases g2
                    have hk := take_len g1
                    have hk1 : k = 1 := by simpa using hk.symm
                    subst hk1
                    have g1 : ev_take 1 [] st = some ([.ref a0], st') := g1
                    cases st with
                    | nil => cases g1
                    | cons v st0 =>
                      cases g1
                      exact wt_oinit C.fix g3 h8 hd hlo0 (by omega) (by omega) (ih y _ cs _ _ _ r hb h C hRc hRs)
                  · exact absurd rfl (hcl0 hla.1)
                · exact absurd rfl (hcl0 hla.1)
                · rcases hla with ⟨hk9, -, hla⟩ | ⟨n', -, hla, -⟩
                  · subst hk9
                    have := take_len g1
                    cases this
                  · exact absurd rfl (hcl0 (hla _ _ g3).1)
                · obtain ⟨n', -, hla⟩ := hla
                  exact absurd rfl (hcl0 (hla _ _ g3).1)
                · obtain ⟨n', -, hla⟩ := hla
                  obtain ⟨q, e1, -, hla, -⟩ := hla _ g2
                  exact absurd g5.symm (hcl0 hla)
              · dsimp only at h
                cases hr : ex ev_prog n (ev_prog.1 (y' * 4096)) (ev_ent (ev_prog.2.1 y') vs) [] M with
                | none => rw [hr] at h; cases h
                | some r' =>
                  rw [hr] at h
                  dsimp only at h
                  have hF := run_facts hB n y' 0 _ _ _ _ r' (hB_0 hB y') hr
                  have hg1 := ex_grow hr
                  have hr2 : ex ev_prog n (ev_prog.1 (y' * 4096)) (ev_ent (mt y').2.2.1 vs) [] M = some r' := by rw [← hL]; exact hr
                  have hCT : MOK (mt y') → CT l D bs H0 (mt y') y' vs M r'.1 r'.2.1 r'.2.2 := fun hM => ct_of hst hM (by rw [← hL]; omega) (fun C' c1 c2 => ih y' 0 _ _ _ _ r' (hB_0 hB y') hr2 C' c1 c2)
                  cases hbk : ev_bk ev_prog hs cs ls st' r'.1 r'.2.1 r'.2.2 with
                  | none => rw [hbk] at h; cases h
                  | some X =>
                    rw [hbk] at h
                    have hq : RN n r X := by
                      cases X with
                      | inl q => exact h
                      | inr z => exact Option.some.inj h
                    have hg2 := hgx (bk_grow hbk) hq
                    have hle : ncl M ≤ ncl r'.2.2 ∧ nsl M ≤ nsl r'.2.2 := ⟨hg1.1, hg1.2.1⟩
                    have hRc' : ncl r'.2.2 ≤ R.cells + ncl M0 := Nat.le_trans hg2.1 hRc
                    have hRs' : nsl r'.2.2 ≤ R.slots + nsl M0 := Nat.le_trans hg2.2.1 hRs
                    have k0 : r'.1 = 0 → WT p l e R s m args below meth c (FQ below args s D bs H0 M0 φ0 r.1 r.2.1 r.2.2) D bs H0 (mt y).2.2.1 (ncl M0) (nsl M0) M0 φ0 (ls, ev_ret r'.2.1 st', r'.2.2) (pc + len) := by
                      intro ho
                      rw [ho] at hbk
                      cases hbk
                      exact ih y _ cs _ _ _ r hb hq C hRc hRs
                    have kx : ∀ k, r'.1 = k + 1 → WX p l e R s m args below meth c (FQ below args s D bs H0 M0 φ0 r.1 r.2.1 r.2.2) D bs H0 (mt y).2.2.1 (ncl M0) (nsl M0) M0 φ0 ls r'.2.2 k pc := by
                      intro k ho
                      rw [ho] at hbk
                      have hk : 1 ≤ k ∧ k ≤ 6 := by
                        have h5 := hF.2
                        omega
                      exact wx_xc C.thr hts hown hKK C.2.2.2.2.2.1 (hok_of I.2.2.2.2.2.2.2 (ca_can h2)) hk hbk (hin (ls := ls) (k := k) (M1 := r'.2.2) hq).1 (hin (ls := ls) (k := k) (M1 := r'.2.2) hq).2
                    have hla := I.2.2.2.2.1
                    have hrm : LCl mt y y' → 2 * y' + 12 ≤ R.frames ∧ 12200 + 200 * y' ≤ R.locals := fun hz => by have := hz.1; omega
                    rcases call_inv h2 with ⟨idx, k, rfl, rfl, g1⟩ | ⟨idx, k, a, ws, rfl, rfl, g1, g2, g3⟩ | ⟨idx, k, t, a, ws, rfl, rfl, g1, g2, g3⟩ | ⟨idx, k, l', a, ws, rfl, rfl, g1, g2, g3⟩ | ⟨idx, cnt, k, l', a, ws, rfl, rfl, g1, g2, g3⟩ | ⟨idx, cnt, k, ct, l', a, ws, rfl, rfl, g1, g2, g3, g4, g5, g6⟩
                    · have hln : len = 3 := I.2.1.resolve_left (by intro h; cases h)
                      subst hln
                      rcases hla with hla | ⟨hz, q1, q2, q3, q4⟩
                      · subst hla
                        rw [h9] at hr
                        cases n with
                        | zero => simp [ex] at hr
                        | succ n => simp [ex] at hr
                      · have hrm := hrm hz
                        exact wt_stat C.fix hKK (hCT hz.2) hz.2 (by omega) (by omega) hle hRc' hRs' q1 g1 h8 hd q2 q3 q4 k0 kx
                    · have hln : len = 3 := I.2.1.resolve_left (by intro h; cases h)
                      subst hln
                      rcases hla with ⟨hla, -⟩ | ⟨hz, q1, q2, ⟨n', rfl, q3⟩, q4, q5, q6⟩
                      · exact absurd hla h0
                      · have hrm := hrm hz
                        exact wt_init C.fix hKK (hCT hz.2) hz.2 (by omega) (by omega) hle hRc' hRs' g2 g3 q1 q2 g1 h8 hd q3 q4 q5 q6 k0 kx
                    · have hln : len = 3 := I.2.1.resolve_left (by intro h; cases h)
                      subst hln
                      obtain ⟨hz, hq1, q1, ⟨n', rfl, q3⟩, q4, q5, q6, q7, q8⟩ := hla
                      have hrm := hrm hz
                      have g3 : mK M a = t := g3
                      exact wt_supr C.fix hKK (hCT hz.2) hz.2 (by omega) (by omega) hle hRc' hRs' g2 (by rw [g3]; exact hq1) q1 g1 h8 hd q3 q4 q5 q6 q7 q8 k0 kx
                    · have hln : len = 3 := I.2.1.resolve_left (by intro h; cases h)
                      subst hln
                      rcases hla with ⟨hk9, -, hla⟩ | ⟨n', rfl, hla, -⟩
                      · subst hk9
                        have e1 := hla _ _ g3
                        have e2 := take_len g1
                        have e3 := lay_len vs
                        simp only [List.length_nil] at e2
                        omega
                      · obtain ⟨hz, hq1, q2⟩ := hla _ _ g3
                        have hrm := hrm hz
                        exact wt_virt C.fix hKK (hCT hz.2) hz.2 (by omega) (by omega) hle hRc' hRs' g2 hq1 g1 h8 hd q2 k0 kx
                    · have hln : len = 5 := I.2.1.resolve_left (by intro h; cases h)
                      subst hln
                      obtain ⟨n', rfl, hla⟩ := hla
                      obtain ⟨hz, hq1, q2⟩ := hla _ _ g3
                      have hrm := hrm hz
                      exact wt_face C.fix hKK (hCT hz.2) hz.2 (by omega) (by omega) hle hRc' hRs' g2 hq1 g1 h8 hd q2 k0 kx
                    · have hln : len = 5 := I.2.1.resolve_left (by intro h; cases h)
                      subst hln
                      obtain ⟨n', rfl, hla⟩ := hla
                      obtain ⟨q, e1, hq1, hz, hLL, hLc⟩ := hla _ g2
                      have e1 : mK M a = 100 + q := e1
                      have e2 : mK (ls, st, M).2.2 a = 100 + q := e1
                      rw [e2] at g5 g6
                      rw [e2] at hz hLL
                      subst g5
                      subst g6
                      have hrm := hrm hz
                      exact wt_lam C.fix hob hKK (hCT hz.2) hF.1 hz.2 hrm.1 hrm.2 hle hRc' hRs' hq1 e1 (fun hqq => g4 (by rw [e2]; omega)) g1 h8 hd g3 hLL hLc k0 kx
end
