/-! SOUNDNESS of natives, System.arraycopy, the stack's own instructions (by gen/nat.py) -/
theorem VR_c1 {φ : Nat → Nat} {v a : Value} (h : VR φ v a) (hc : ev_cat2 v = false) : a.category = 1 := by
  cases v with
  | int x => cases h; rfl
  | long x => cases hc
  | float x => cases h; rfl
  | double x => cases hc
  | null => exact h.elim
  | ref n =>
    have h : a = crf φ n := h
    subst h
    unfold crf
    split <;> rfl
  | retAddr n => obtain ⟨-, k, rfl⟩ := h; rfl
theorem VR_c2 {φ : Nat → Nat} {v a : Value} (h : VR φ v a) (hc : ev_cat2 v = true) : a.category = 2 := by
  cases v with
  | long x => cases h; rfl
  | double x => cases h; rfl
  | _ => cases hc
section
variable {p : Program} {l : Launch} {e : Env} {R : Room} {s : State} {m : MethodId} {args : Array Value} {below : List Frame} {meth : Method} {c : Code} {Q : State → Prop}
variable {D : rl_D} {bs : Nat} {H0 : Heap} {nL c0 s0 : Nat} {M0 : ev_M} {φ0 : Nat → Nat} {cd : ByteArray} {pc : Nat} {own : String}
theorem wt_pop (hx : p.tables.exec = Jvm.exec) (hb : c.code = cd) (hd : decode cd pc = .ok (.pop, 1)) {S S' : ev_S} (h : ev_pop S = some S') (k : WT p l e R s m args below meth c Q D bs H0 nL c0 s0 M0 φ0 S' (pc + 1)) : WT p l e R s m args below meth c Q D bs H0 nL c0 s0 M0 φ0 S pc := by
  obtain ⟨ls, st, M⟩ := S
  unfold ev_pop at h
  split at h
  · rename_i v st heq
    dsimp only at heq
    subst heq
    split at h
    · rename_i hc1
      cases h
      refine wt_st (fun φ stA hs => ?_) k
      obtain ⟨a, r, rfl, ha, -, hs1⟩ := StR_cons hs
      exact ⟨r, hs1, fun k => lv_pop hx hb hd (VR_c1 ha hc1) k⟩
    · cases h
  · cases h
theorem wt_dup (hx : p.tables.exec = Jvm.exec) (hb : c.code = cd) (hd : decode cd pc = .ok (.dup, 1)) {S S' : ev_S} (h : ev_dup S = some S') (k : WT p l e R s m args below meth c Q D bs H0 nL c0 s0 M0 φ0 S' (pc + 1)) : WT p l e R s m args below meth c Q D bs H0 nL c0 s0 M0 φ0 S pc := by
  obtain ⟨ls, st, M⟩ := S
  unfold ev_dup at h
  split at h
  · rename_i v st heq
    dsimp only at heq
    subst heq
    split at h
    · rename_i hc1
      cases h
      refine wt_st (fun φ stA hs => ?_) k
      obtain ⟨a, r, rfl, ha, hw, hs1⟩ := StR_cons hs
      exact ⟨_, StR.mk ha hw (StR.mk ha hw hs1), fun k => lv_dup hx hb hd (VR_c1 ha hc1) k⟩
    · cases h
  · cases h
theorem wt_dup_x1 (hx : p.tables.exec = Jvm.exec) (hb : c.code = cd) (hd : decode cd pc = .ok (.dup_x1, 1)) {S S' : ev_S} (h : ev_dup_x1 S = some S') (k : WT p l e R s m args below meth c Q D bs H0 nL c0 s0 M0 φ0 S' (pc + 1)) : WT p l e R s m args below meth c Q D bs H0 nL c0 s0 M0 φ0 S pc := by
  obtain ⟨ls, st, M⟩ := S
  unfold ev_dup_x1 at h
  split at h
  · rename_i v w st heq
    dsimp only at heq
    subst heq
    split at h
    · rename_i hc1
      cases h
      refine wt_st (fun φ stA hs => ?_) k
      obtain ⟨a, r, rfl, ha, hw, hs1⟩ := StR_cons hs
      obtain ⟨b, r, rfl, hb1, hw1, hs2⟩ := StR_cons hs1
      exact ⟨_, StR.mk ha hw (StR.mk hb1 hw1 (StR.mk ha hw hs2)), fun k => lv_dup_x1 hx hb hd (VR_c1 ha hc1.1) (VR_c1 hb1 hc1.2) k⟩
    · cases h
  · cases h
theorem wt_dup_x2 (hx : p.tables.exec = Jvm.exec) (hb : c.code = cd) (hd : decode cd pc = .ok (.dup_x2, 1)) {S S' : ev_S} (h : ev_dup_x2 S = some S') (k : WT p l e R s m args below meth c Q D bs H0 nL c0 s0 M0 φ0 S' (pc + 1)) : WT p l e R s m args below meth c Q D bs H0 nL c0 s0 M0 φ0 S pc := by
  obtain ⟨ls, st, M⟩ := S
  unfold ev_dup_x2 at h
  split at h
  · rename_i v w u st heq
    dsimp only at heq
    subst heq
    split at h
    · rename_i hc1
      cases h
      refine wt_st (fun φ stA hs => ?_) k
      obtain ⟨a, r, rfl, ha, hw, hs1⟩ := StR_cons hs
      obtain ⟨b, r, rfl, hb1, hw1, hs2⟩ := StR_cons hs1
      obtain ⟨d, r, rfl, hd1, hw2, hs3⟩ := StR_cons hs2
      exact ⟨_, StR.mk ha hw (StR.mk hb1 hw1 (StR.mk hd1 hw2 (StR.mk ha hw hs3))), fun k => lv_dup_x2 hx hb hd (VR_c1 ha hc1.1) (VR_c1 hb1 hc1.2.1) (VR_c1 hd1 hc1.2.2) k⟩
    · cases h
  · cases h
theorem wt_dup2 (hx : p.tables.exec = Jvm.exec) (hb : c.code = cd) (hd : decode cd pc = .ok (.dup2, 1)) {S S' : ev_S} (h : ev_dup2 S = some S') (k : WT p l e R s m args below meth c Q D bs H0 nL c0 s0 M0 φ0 S' (pc + 1)) : WT p l e R s m args below meth c Q D bs H0 nL c0 s0 M0 φ0 S pc := by
  obtain ⟨ls, st, M⟩ := S
  unfold ev_dup2 at h
  split at h
  · rename_i v st heq
    dsimp only at heq
    subst heq
    split at h
    · rename_i hc1
      cases h
      refine wt_st (fun φ stA hs => ?_) k
      obtain ⟨a, r, rfl, ha, hw, hs1⟩ := StR_cons hs
      exact ⟨_, StR.mk ha hw (StR.mk ha hw hs1), fun k => lv_dup2_2 hx hb hd (VR_c2 ha hc1) k⟩
    · rename_i hc0
      split at h
      · rename_i w st
        split at h
        · rename_i hc1
          cases h
          refine wt_st (fun φ stA hs => ?_) k
          obtain ⟨a, r, rfl, ha, hw, hs1⟩ := StR_cons hs
          obtain ⟨b, r, rfl, hb1, hw1, hs2⟩ := StR_cons hs1
          exact ⟨_, StR.mk ha hw (StR.mk hb1 hw1 (StR.mk ha hw (StR.mk hb1 hw1 hs2))), fun k => lv_dup2_11 hx hb hd (VR_c1 ha (by simpa using hc0)) (VR_c1 hb1 hc1) k⟩
        · cases h
      · cases h
  · cases h
theorem wt_pop2 (hx : p.tables.exec = Jvm.exec) (hb : c.code = cd) (hd : decode cd pc = .ok (.pop2, 1)) {S S' : ev_S} (h : ev_pop2 S = some S') (k : WT p l e R s m args below meth c Q D bs H0 nL c0 s0 M0 φ0 S' (pc + 1)) : WT p l e R s m args below meth c Q D bs H0 nL c0 s0 M0 φ0 S pc := by
  obtain ⟨ls, st, M⟩ := S
  unfold ev_pop2 at h
  split at h
  · rename_i v st heq
    dsimp only at heq
    subst heq
    split at h
    · rename_i hc1
      cases h
      refine wt_st (fun φ stA hs => ?_) k
      obtain ⟨a, r, rfl, ha, hw, hs1⟩ := StR_cons hs
      exact ⟨_, hs1, fun k => lv_pop2_2 hx hb hd (VR_c2 ha hc1) k⟩
    · rename_i hc0
      split at h
      · rename_i w st
        split at h
        · rename_i hc1
          cases h
          refine wt_st (fun φ stA hs => ?_) k
          obtain ⟨a, r, rfl, ha, hw, hs1⟩ := StR_cons hs
          obtain ⟨b, r, rfl, hb1, hw1, hs2⟩ := StR_cons hs1
          exact ⟨_, hs2, fun k => lv_pop2_11 hx hb hd (VR_c1 ha (by simpa using hc0)) (VR_c1 hb1 hc1) k⟩
        · cases h
      · cases h
  · cases h
/-! arraycopy -/
theorem cpk_cs {t : Nat} (h : ev_cpk t = true) : t = 40 ∨ t = 42 ∨ t = 43 ∨ t = 44 ∨ t = 45 ∨ t = 46 ∨ t = 48 := by
  unfold ev_cpk at h
  simp only [Bool.or_eq_true, beq_iff_eq] at h
  omega
theorem cpm_same (M : ev_M) (t a sp b dp n : Nat) : mK (ev_cpm M t a sp b dp n) = mK M ∧ mN (ev_cpm M t a sp b dp n) = mN M ∧ nx (ev_cpm M t a sp b dp n) = nx M ∧ mS (ev_cpm M t a sp b dp n) = mS M ∧ ncl (ev_cpm M t a sp b dp n) = ncl M ∧ nsl (ev_cpm M t a sp b dp n) = nsl M := by
  unfold ev_cpm
  split
  · exact ⟨rfl, rfl, rfl, rfl, rfl, rfl⟩
  · split
    · exact ⟨rfl, rfl, rfl, rfl, rfl, rfl⟩
    · split <;> exact ⟨rfl, rfl, rfl, rfl, rfl, rfl⟩
theorem cp2_o {α : Type} (f : Nat → Nat → α) (a sp b dp n : Nat) {x : Nat} (h : x ≠ b) : cp2 f a sp b dp n x = f x := by
  funext j
  exact if_neg fun q => h q.1
theorem cpm_row (M : ev_M) (t a sp b dp n : Nat) {x : Nat} (h : x ≠ b) : Row M (ev_cpm M t a sp b dp n) x := by
  unfold ev_cpm
  split
  · exact ⟨rfl, rfl, cp2_o _ _ _ _ _ _ h, rfl, rfl⟩
  · split
    · exact ⟨rfl, rfl, rfl, cp2_o _ _ _ _ _ _ h, rfl⟩
    · split
      · exact ⟨rfl, rfl, rfl, rfl, cp2_o _ _ _ _ _ _ h⟩
      · exact ⟨cp2_o _ _ _ _ _ _ h, rfl, rfl, rfl, rfl⟩
theorem cp2_lt {f : Nat → Nat → Nat} {N : Nat} (h : ∀ a k, f a k < N) (a sp b dp n : Nat) : ∀ x j, cp2 f a sp b dp n x j < N := by
  intro x j
  unfold cp2
  split <;> exact h _ _
theorem cpm_wf {M : ev_M} (hM : ∀ a k, mA M a k < nx M) (t a sp b dp n : Nat) : ∀ x j, mA (ev_cpm M t a sp b dp n) x j < nx M := by
  unfold ev_cpm
  split
  · exact hM
  · split
    · exact hM
    · split
      · exact cp2_lt hM _ _ _ _ _
      · exact hM
theorem cpm_fv (φ : Nat → Nat) (M : ev_M) {t : Nat} (a sp b dp n : Nat) (h : ev_cpk t = true) (j : Nat) : fv φ (ev_cpm M t a sp b dp n) (kat t) b j = va_cpy (fun i => fv φ M (kat t) a i) (fun i => fv φ M (kat t) b i) sp dp n j := by
  have key : ∀ {α : Type} (f : Nat → Nat → α) (g : α → Value), g (cp2 f a sp b dp n b j) = va_cpy (fun i => g (f a i)) (fun i => g (f b i)) sp dp n j := by
    intro α f g
    unfold cp2 va_cpy
    by_cases hj : dp ≤ j ∧ j < dp + n
    · rw [if_pos ⟨rfl, hj⟩, if_pos hj]
    · rw [if_neg (fun q => hj q.2), if_neg hj]
  rcases cpk_cs h with rfl | rfl | rfl | rfl | rfl | rfl | rfl
  · exact key (mI M) (fun v => .int v)
  · exact key (mF M) (fun v => .float v)
  · exact key (mD M) (fun v => .double v)
  · exact key (mI M) (fun v => .int v)
  · exact key (mI M) (fun v => .int v)
  · exact key (mI M) (fun v => .int v)
  · exact key (mA M) (fun v => crf φ v)
theorem cp_fit {φ : Nat → Nat} {M : ev_M} (hF : FT M) {a : Nat} (h : ev_cpk (mK M a) = true) (j : Nat) : fits (katy (mK M a)) (fv φ M (kat (mK M a)) a j) = true := by
  have h3 := hF a
  generalize mK M a = t at h h3
  rcases cpk_cs h with rfl | rfl | rfl | rfl | rfl | rfl | rfl
  · rfl
  · rfl
  · rfl
  · exact h3 (by decide) j
  · exact h3 (by decide) j
  · exact h3 (by decide) j
  · show fits (.object _) (crf φ _) = true
    unfold crf
    split <;> rfl
theorem cpm_ft {M : ev_M} (hF : FT M) {t a sp b dp n : Nat} (ha : mK M a = t) (hb : mK M b = t) (h : t = 44 ∨ t = 45 ∨ t = 46) (j : Nat) : fits (katy t) (.int (mI (ev_cpm M t a sp b dp n) b j)) = true := by
  have e : mI (ev_cpm M t a sp b dp n) = cp2 (mI M) a sp b dp n := by
    unfold ev_cpm
    rw [if_neg (by omega), if_neg (by omega), if_neg (by omega)]
    rfl
  rw [e]
  unfold cp2
  split
  · have := hF a (by rw [ha]; exact h) (sp + (j - dp))
    rw [ha] at this
    exact this
  · have := hF b (by rw [hb]; exact h) j
    rw [hb] at this
    exact this
theorem nn_ix {z : Int32} (h : 0 ≤ z.toInt) : z.toInt = (z.toNatClampNeg : Int) := by
  show z.toInt = ((z.toInt.toNat : Nat) : Int)
  omega
theorem nn_lt {z : Int32} (h : 0 ≤ z.toInt) : ¬ z < 0 := by
  rw [Int32.lt_iff_toInt_lt, Int32.toInt_zero]
  omega
theorem wt_cpy (hx : p.tables.exec = Jvm.exec) (hb : c.code = cd) (hml : c.maxLocals = nL) (hts : ∀ w ∈ lw_all, w.before args s = true) (hown : s.vm.findClass own = some m.cls) (hKK : KK D bs H0 s) {idx : Nat} (hlk : LKnat own idx arraycopyName) (hd : decode cd pc = .ok (.invokestatic idx, 3)) (hfr : 1 ≤ R.frames) (hlo : 100 ≤ R.locals)
    {S S' : ev_S} (h : ev_cpy S = some S') (k : WT p l e R s m args below meth c Q D bs H0 nL c0 s0 M0 φ0 S' (pc + 3)) : WT p l e R s m args below meth c Q D bs H0 nL c0 s0 M0 φ0 S pc := by
  obtain ⟨ls, st, M⟩ := S
  unfold ev_cpy at h
  split at h
  · rename_i n dp b sp a st heq
    dsimp only at heq
    subst heq
    split at h
    · cases h
    · rename_i hw8
      split at h
      · rename_i hc0
        cases h
        obtain ⟨ha, hab, h1, h2, h3, h4, h5, h6⟩ := hc0
        have ha : ev_cpk (mK M a) = true := ha
        have hab : mK M b = mK M a := hab
        have hm : mK M a ∈ kA ∧ 40 ≤ mK M a ∧ mK M a < 60 := by
          rcases cpk_cs ha with h | h | h | h | h | h | h <;> (rw [h]; decide)
        intro φ lsA stA H locs cells slots hE hn hR hL hS hl hc hs
        have hR : Rel D φ bs H0 M H := hR
        obtain ⟨v0, r, rfl, hv0, -, hS0⟩ := StR_cons hS
        obtain ⟨v1, r, rfl, hv1, -, hS1⟩ := StR_cons hS0
        obtain ⟨v2, r, rfl, hv2, -, hS2⟩ := StR_cons hS1
        obtain ⟨v3, r, rfl, hv3, -, hS3⟩ := StR_cons hS2
        obtain ⟨v4, r, rfl, hv4, -, hS4⟩ := StR_cons hS3
        cases hv0
        cases hv1
        cases hv3
        have e2 := kref hR hv2 (Or.inr (by rw [hab]; exact ⟨hm.1, hm.2.2⟩))
        have e4 := kref hR hv4 (Or.inr ⟨hm.1, hm.2.2⟩)
        subst e2
        subst e4
        have hca := (hR.2.2.1 a).2.2.1 hm.2.1 hm.2.2
        have hcb := (hR.2.2.1 b).2.2.1 (by rw [hab]; exact hm.2.1) (by rw [hab]; exact hm.2.2)
        rw [hab] at hcb
        have hbase := (hR.2.2.2.1 b (by rw [hab]; unfold ev_own; have h1 : (decide (40 ≤ mK M a) && decide (mK M a < 60)) = true := by { simp only [Bool.and_eq_true, decide_eq_true_eq]; exact hm.2 }; rw [h1, Bool.or_true])).1
        have hAr := (hKK.1.2 _ hm.1).1
        obtain ⟨-, kA0, hkA, comp, hkind⟩ := hAr 0 (fun _ => .null)
        have q1 := nn_ix h1
        have q2 := nn_ix h2
        have q3 := nn_ix h3
        have h4 : sp.toInt + n.toInt ≤ mN M a := h4
        have h5 : dp.toInt + n.toInt ≤ mN M b := h5
        have hsum := StR_cat hS4
        intro T hT X
        have hnw : nativeFrameWords "java/lang/System" "arraycopy" 5 ≤ 50 := by decide
        obtain ⟨vm', X', stp⟩ := X.arraycopy hx hown (hts _ hlk.1) (hts _ hlk.2.1) (hts _ hlk.2.2.1) (hts _ hlk.2.2.2) (src := φ a) (dst := φ b) (cs := arrV (D.2.2.1 (mK M a)) (mN M a) (fun j => fv φ M (kat (mK M a)) a j)) (cd := arrV (D.2.2.1 (mK M a)) (mN M b) (fun j => fv φ M (kat (mK M a)) b j)) (srcPos := sp) (destPos := dp) (n := n) (by rw [hT]; exact hca) (by rw [hT]; exact hcb)
          (fun _ h => by cases h) (fun _ h => by cases h) (fun h => by cases h) (fun h => by cases h) (ks := kA0) (kd := kA0) hkA hkA hkind hkind (by simp) (nn_lt h2) (nn_lt h3) (nn_lt h1)
          (by rw [arrV_size]; omega) (by rw [arrV_size]; omega)
          (fun vm₁ hal i hi => by
            have e : (arrV (D.2.2.1 (mK M a)) (mN M a) (fun j => fv φ M (kat (mK M a)) a j)).slots.getD (sp.toNatClampNeg + i) .null = fv φ M (kat (mK M a)) a (sp.toNatClampNeg + i) := by
              rw [Array.getD_eq_getD_getElem?, arrV_read _ _ (by omega)]
              rfl
            rw [e]
            refine ⟨cp_fit hR.2.2.2.2.2.2 ha _, ?_⟩
            by_cases h48 : mK M a = 48
            · have h7 := h6 h48 i hi
              rw [h48]
              show (T.setVm vm₁).takes comp (crf φ (mA M a (sp.toNatClampNeg + i)))
              by_cases hz : mA M a (sp.toNatClampNeg + i) = 0
              · rw [hz]; exact trivial
              · have h8 : ev_may 48 (mK M (mA M a (sp.toNatClampNeg + i))) = true := by
                  rcases h7 with h7 | h7 | h7
                  · exact absurd h7 hz
                  · have h7 : mK M (mA M a (sp.toNatClampNeg + i)) = 5 := h7
                    rw [h7]; rfl
                  · have h7 : mK M (mA M a (sp.toNatClampNeg + i)) = 9 := h7
                    rw [h7]; rfl
                obtain ⟨hkx, C', hC', hasg⟩ := may_ok hKK h8
                unfold crf
                rw [if_neg hz]
                obtain ⟨cv, v1, v2, v3, -⟩ := (hR.2.2.1 (mA M a (sp.toNatClampNeg + i))).ob hkx.1 (by omega)
                have hRA := (hKK.1.2 _ hm.1).2 hm.2.2
                rw [h48] at hRA hkA
                rw [hC'] at hRA
                obtain ⟨kA1, comp1, k1, k2, k3, -⟩ := hRA
                cases hkA.symm.trans k1
                injection hkind.symm.trans k2 with hcc hcc2
                subst hcc
                obtain ⟨kC, hkC, -⟩ := Vm.findClass_spec k3
                have hfx := (hKK.1.1 _ hkx.1 hkx.2).2
                obtain ⟨kV, hkV, -⟩ := Vm.findClass_spec hfx.1
                obtain ⟨kC', hkC', -⟩ := hal.2.2 _ _ hkC
                obtain ⟨kV', hkV', -⟩ := hal.2.2 _ _ hkV
                refine ⟨cv, (show T.heap[_]? = some cv by rw [hT]; exact v1), (fun q h => by rw [h] at v3; cases v3), ⟨kV', by rw [v2]; exact hkV'⟩, ⟨kC', hkC'⟩, ?_⟩
                show vm₁.assignable _ _ = true
                rw [hal.assignable, v2]
                exact hasg _ _ k3 hfx.1
            · have h9 : kat (mK M a) = 0 ∨ kat (mK M a) = 2 ∨ kat (mK M a) = 3 := by
                rcases cpk_cs ha with h | h | h | h | h | h | h <;> first | exact absurd h h48 | (rw [h]; decide)
              rcases h9 with h9 | h9 | h9 <;> (rw [h9]; exact trivial))
          (g := F0 m pc lsA (.int n :: .int dp :: .ref (φ b) :: .int sp :: .ref (φ a) :: r)) rfl (by rw [hml]; obtain ⟨-, l0, w, -⟩ := hL; exact w.1) (rest := r) rfl (by rw [hb]; exact hd) hfr (by show 2 * 0 + _ + _ ≤ _; omega)
        have e1 : copied (arrV (D.2.2.1 (mK M a)) (mN M a) (fun j => fv φ M (kat (mK M a)) a j)) (arrV (D.2.2.1 (mK M a)) (mN M b) (fun j => fv φ M (kat (mK M a)) b j)) sp dp n = arrV (D.2.2.1 (mK M a)) (mN M b) (va_cpy (fun j => fv φ M (kat (mK M a)) a j) (fun j => fv φ M (kat (mK M a)) b j) sp.toNatClampNeg dp.toNatClampNeg n.toNatClampNeg) := va_copied (fun z : Value => z) _ _ (fun j => fv φ M (kat (mK M a)) a j) (fun j => fv φ M (kat (mK M a)) b j) (by omega)
        rw [e1] at X' stp
        generalize hcn : arrV (D.2.2.1 (mK M a)) (mN M b) (va_cpy (fun j => fv φ M (kat (mK M a)) a j) (fun j => fv φ M (kat (mK M a)) b j) sp.toNatClampNeg dp.toNatClampNeg n.toNatClampNeg) = cn at X' stp
        have hlb : φ b < H.size := (Array.getElem?_eq_some_iff.mp hcb).1
        have hheap : ((T.setVm vm').setCell (φ b) cn).heap = H.setIfInBounds (φ b) cn := by rw [← hT]; rfl
        obtain ⟨c1, c2, c3, c4, c5, c6⟩ := cpm_same M (mK M a) a (ev_ix sp) b (ev_ix dp) (ev_ix n)
        have hRel : Rel D φ bs H0 (ev_cpm M (mK M a) a (ev_ix sp) b (ev_ix dp) (ev_ix n)) (H.setIfInBounds (φ b) cn) := by
          refine hR.upd (n := b) (by rw [hab]; unfold ev_own; have h1 : (decide (40 ≤ mK M a) && decide (mK M a < 60)) = true := by { simp only [Bool.and_eq_true, decide_eq_true_eq]; exact hm.2 }; rw [h1, Bool.or_true]) c1 c2 c3 c4 (cpm_wf hR.1.2.1 _ _ _ _ _ _) (fun x hx => cpm_row _ _ _ _ _ _ _ hx) (by simp) (fun q hq => by simp [Array.getElem?_setIfInBounds, Ne.symm hq]) ?_ (fun h4 j => by rw [hab] at h4 ⊢; exact cpm_ft hR.2.2.2.2.2.2 rfl hab h4 j)
          unfold CR
          rw [c1, c2, hab]
          refine ⟨fun _ q => absurd q (by omega), fun q => absurd q (by omega), fun _ _ => ?_, fun q => absurd q (by omega), fun q => absurd q (by omega)⟩
          rw [Array.getElem?_setIfInBounds, if_pos rfl, if_pos hlb, ← hcn]
          congr 2
          funext j
          exact (cpm_fv φ M _ _ _ _ _ ha j).symm
        obtain ⟨t, a1, b1⟩ := k φ lsA r (H.setIfInBounds (φ b) cn) _ cells slots hE (by show nx M0 ≤ nx (ev_cpm M (mK M a) a (ev_ix sp) b (ev_ix dp) (ev_ix n)); rw [c3]; exact hn) hRel (LocR_ext (M := M) Ext.rf (Nat.le_of_eq c3.symm) hL) (StR_to (M := M) (ev_cpm M (mK M a) a (ev_ix sp) b (ev_ix dp) (ev_ix n)) c3 hS4) (fun z hz => by
          rcases List.mem_append.mp hz with hz | hz
          · exact hl z hz
          · obtain ⟨w, -, hw⟩ := List.mem_map.mp hz
            rw [← hw]; exact hbase) (by show _ = ncl (ev_cpm M (mK M a) a (ev_ix sp) b (ev_ix dp) (ev_ix n)); rw [c5]; exact hc) (by show _ = nsl (ev_cpm M (mK M a) a (ev_ix sp) b (ev_ix dp) (ev_ix n)); rw [c6]; exact hs) _ hheap X'
        exact ⟨t, stp t a1, b1⟩
      · cases h
  · cases h
theorem wt_nat (hx : p.tables.exec = Jvm.exec) (hb : c.code = cd) (hml : c.maxLocals = nL) (hts : ∀ w ∈ lw_all, w.before args s = true) (hown : s.vm.findClass own = some m.cls) (hKK : KK D bs H0 s) {idx : Nat} {ar : List Nat} (hlk : LKt own idx ar) (hd : decode cd pc = .ok (.invokestatic idx, 3)) (hfr : 1 ≤ R.frames) (hlo : 100 ≤ R.locals)
    {S S' : ev_S} (h : ev_nat S ar = some S') (k : WT p l e R s m args below meth c Q D bs H0 nL c0 s0 M0 φ0 S' (pc + 3)) : WT p l e R s m args below meth c Q D bs H0 nL c0 s0 M0 φ0 S pc := by
  obtain ⟨ls, st, M⟩ := S
  unfold ev_nat at h
  split at h
  · rename_i x st heq
    dsimp only at heq
    subst heq
    split at h
    · cases h
    · rename_i hw8
      cases h
      intro φ lsA stA H locs cells slots hE hn hR hL hS hl hc hs
      obtain ⟨v0, r, rfl, hv0, -, hS0⟩ := StR_cons hS
      cases hv0
      have hsum := StR_cat hS0
      have kk := k φ lsA _ H locs cells slots hE hn hR hL (StR.mk rfl trivial hS0) hl hc hs
      exact vn_f2i hx hb (by rw [hml]; obtain ⟨-, l0, w, -⟩ := hL; exact w.1.symm) hown (hts _ hlk.1) (hts _ hlk.2.1) (hts _ hlk.2.2.1) (hts _ hlk.2.2.2) hfr (by omega) hd kk
  · rename_i x st heq
    dsimp only at heq
    subst heq
    split at h
    · cases h
    · rename_i hw8
      cases h
      intro φ lsA stA H locs cells slots hE hn hR hL hS hl hc hs
      obtain ⟨v0, r, rfl, hv0, -, hS0⟩ := StR_cons hS
      cases hv0
      have hsum := StR_cat hS0
      have kk := k φ lsA _ H locs cells slots hE hn hR hL (StR.mk rfl trivial hS0) hl hc hs
      exact vn_d2l hx hb (by rw [hml]; obtain ⟨-, l0, w, -⟩ := hL; exact w.1.symm) hown (hts _ hlk.1) (hts _ hlk.2.1) (hts _ hlk.2.2.1) (hts _ hlk.2.2.2) hfr (by omega) hd kk
  · exact wt_cpy hx hb hml hts hown hKK hlk hd hfr hlo h k
  · exact hlk.elim
  · cases h
theorem wt_natv (hx : p.tables.exec = Jvm.exec) (hb : c.code = cd) (hml : c.maxLocals = nL) (hts : ∀ w ∈ lw_all, w.before args s = true) (hown : s.vm.findClass own = some m.cls) (hKK : KK D bs H0 s) {idx : Nat} {ar : List Nat} (hlk : LKv own idx ar) (hd : decode cd pc = .ok (.invokevirtual idx, 3)) (hfr : 1 ≤ R.frames) (hlo : 100 ≤ R.locals)
    {S S' : ev_S} (h : ev_nat S ar = some S') (k : WT p l e R s m args below meth c Q D bs H0 nL c0 s0 M0 φ0 S' (pc + 3)) : WT p l e R s m args below meth c Q D bs H0 nL c0 s0 M0 φ0 S pc := by
  obtain ⟨ls, st, M⟩ := S
  unfold ev_nat at h
  split at h
  · exact hlk.elim
  · exact hlk.elim
  · exact hlk.elim
  · rename_i kn a st heq
    dsimp only at heq
    subst heq
    split at h
    · cases h
    · rename_i hw8
      split at h
      · rename_i hk
        cases h
        obtain ⟨rfl, l1, l2, l3, l4, l5⟩ := hlk
        intro φ lsA stA H locs cells slots hE hn hR hL hS hl hc hs
        have hR : Rel D φ bs H0 M H := hR
        have hk : mK M a = 48 := hk
        obtain ⟨v0, r, rfl, hv0, -, hS0⟩ := StR_cons hS
        have hkk : kk_ok (mK M a) := Or.inr (by rw [hk]; decide)
        have ev := kref hR hv0 hkk
        subst ev
        have hsum := StR_cat hS0
        have kk := k φ lsA _ H locs cells slots hE hn hR hL (StR.mk (cref hR (by decide)) (hR.1.2.2.1 _) hS0) hl hc hs
        have hcell := kcell hKK.1 hR hkk
        have e : knm (mK M a) = "[Ljava/lang/Object;" := by rw [hk]; decide +kernel
        rw [e] at hcell
        exact va_getC hx hb (by rw [hml]; obtain ⟨-, l0, w, -⟩ := hL; exact w.1.symm) hown (hts _ l1) (va_Nw.use rfl (hKK.2.1 _ l2 rfl)) (hts _ l3) (hts _ l4) (hts _ l5) hKK.2.2.2.1.2 hcell hfr (by omega) hd kk
      · cases h
  · cases h
end
