/-! SOUNDNESS of the instructions on memory (by gen/mem.py) -/
theorem ev_in_vp {i : Int32} {n : Nat} (h : ev_in i n = true) : vp_in i n := by
  unfold ev_in at h
  simp only [Bool.and_eq_true, decide_eq_true_eq] at h
  exact vp_in_iff.mpr h
theorem VR_fld {φ : Nat → Nat} {M : ev_M} (cd a j : Nat) : VR φ (ev_fld M cd j a) (fv φ M cd a j) := by
  match cd with
  | 0 => exact rfl
  | 1 => exact rfl
  | 2 => exact rfl
  | 3 => exact rfl
  | 4 => exact rfl
  | n + 5 => exact rfl
theorem StR_to {φ : Nat → Nat} {M : ev_M} (M' : ev_M) (h : nx M' = nx M) {st sa : List Value} (hs : StR φ M st sa) : StR φ M' st sa := StR_ext (M := M) (M' := M') Ext.rf (Nat.le_of_eq h.symm) hs
theorem wfv_fld {M : ev_M} (h : WFM M) (cd a j : Nat) : wfv M (ev_fld M cd j a) := by
  unfold ev_fld
  split <;> first | trivial | exact h.2.1 _ _
def kA : List Nat := [40, 41, 42, 43, 44, 45, 46, 48, 49, 50, 51, 52, 60, 61, 65, 66]
theorem kA_rng {t : Nat} (h : t ∈ kA) : 40 ≤ t ∧ t < 70 := by
  have h1 : ∀ t ∈ kA, 40 ≤ t ∧ t < 70 := by decide
  exact h1 t h
section
variable {p : Program} {l : Launch} {e : Env} {R : Room} {s : State} {m : MethodId} {args : Array Value} {below : List Frame} {meth : Method} {c : Code} {Q : State → Prop}
variable {D : rl_D} {bs : Nat} {H0 : Heap} {nL c0 s0 : Nat} {M0 : ev_M} {φ0 : Nat → Nat} {cd : ByteArray} {pc : Nat}
theorem crf_at {φ : Nat → Nat} {M : ev_M} {H : Heap} (h : Rel D φ bs H0 M H) {a : Nat} (hk : mK M a ≠ 0) : crf φ a = .ref (φ a) := by
  have h1 := (h.1.2.2.2 a hk).1
  unfold crf
  rw [if_neg (by omega)]
theorem wt_ald {ok : Nat → Bool} {vf : Nat → Nat → Value} {ct : Nat} {S S' : ev_S} (hok : ∀ t, ok t = true → t ∈ kA ∧ kat t = ct) (hvf : ∀ a j, vf a j = ev_fld S.2.2 ct j a)
    (hrow : ∀ {lsA : Array Slot} {H : Heap} {locs : List Loc} {cells slots : Nat} {t n q : Nat} {F : Nat → Value} {i : Int32} {rest : List Value} {cell : Cell}, ok t = true → H[q]? = some cell → ARw (D.2.2.1 t) n F cell → vp_in i n → W p l e R s m args below meth c H locs cells slots Q (F0 m (pc + 1) lsA (F i.toNatClampNeg :: rest)) → W p l e R s m args below meth c H locs cells slots Q (F0 m pc lsA (.int i :: .ref q :: rest)))
    (h : ev_ald S ok vf = some S') (k : WT p l e R s m args below meth c Q D bs H0 nL c0 s0 M0 φ0 S' (pc + 1)) : WT p l e R s m args below meth c Q D bs H0 nL c0 s0 M0 φ0 S pc := by
  obtain ⟨ls, st, M⟩ := S
  unfold ev_ald at h
  split at h
  · rename_i i a st heq
    dsimp only at heq
    subst heq
    split at h
    · rename_i hc0
      cases h
      obtain ⟨hk, hi⟩ := hc0
      intro φ lsA stA H locs cells slots hE hn hR hL hS hl hc hs
      obtain ⟨x, r, rfl, hx0, -, hS1⟩ := StR_cons hS
      obtain ⟨y, r, rfl, hy0, -, hS2⟩ := StR_cons hS1
      cases hx0
      obtain ⟨hm, hct⟩ := hok _ hk
      have hr := kA_rng hm
      have ey : y = .ref (φ a) := by
        have h1 : y = crf φ a := hy0
        rw [h1]
        exact crf_at hR (fun q => by have h2 : 40 ≤ mK M a := hr.1; have h3 : mK M a = 0 := q; omega)
      subst ey
      obtain ⟨cell, hcell, hAR⟩ := (hR.2.2.1 a).ar hr.1 hr.2
      refine hrow hk hcell hAR (ev_in_vp hi) ?_
      have hv := hvf a (ev_ix i)
      refine k φ lsA _ H locs cells slots hE hn hR hL (StR.mk (a := fv φ M (kat (mK M a)) a (ev_ix i)) ?_ ?_ hS2) hl hc hs
      · rw [hv, hct]; exact VR_fld _ _ _
      · rw [hv]; exact wfv_fld hR.1 _ _ _
    · cases h
  · cases h
theorem wt_alen (hrow : ∀ {lsA : Array Slot} {H : Heap} {locs : List Loc} {cells slots : Nat} {t n q : Nat} {F : Nat → Value} {rest : List Value} {cell : Cell}, t ∈ kA → H[q]? = some cell → ARw (D.2.2.1 t) n F cell → W p l e R s m args below meth c H locs cells slots Q (F0 m (pc + 1) lsA (.int (Int32.ofNat n) :: rest)) → W p l e R s m args below meth c H locs cells slots Q (F0 m pc lsA (.ref q :: rest)))
    {S S' : ev_S} (h : ev_alen S = some S') (k : WT p l e R s m args below meth c Q D bs H0 nL c0 s0 M0 φ0 S' (pc + 1)) : WT p l e R s m args below meth c Q D bs H0 nL c0 s0 M0 φ0 S pc := by
  obtain ⟨ls, st, M⟩ := S
  unfold ev_alen at h
  split at h
  · rename_i a st heq
    dsimp only at heq
    subst heq
    split at h
    · rename_i hk
      cases h
      have hm : mK M a ∈ kA := by unfold ev_isArr at hk; exact of_decide_eq_true hk
      intro φ lsA stA H locs cells slots hE hn hR hL hS hl hc hs
      obtain ⟨y, r, rfl, hy0, -, hS2⟩ := StR_cons hS
      have hr := kA_rng hm
      have ey : y = .ref (φ a) := by
        have h1 : y = crf φ a := hy0
        rw [h1]
        exact crf_at hR (fun q => by have h2 : 40 ≤ mK M a := hr.1; have h3 : mK M a = 0 := q; omega)
      subst ey
      obtain ⟨cell, hcell, hAR⟩ := (hR.2.2.1 a).ar hr.1 hr.2
      exact hrow hm hcell hAR (k φ lsA _ H locs cells slots hE hn hR hL (StR.mk rfl trivial hS2) hl hc hs)
    · cases h
  · cases h
/-- a store into an array -/
theorem Rel.arr {φ : Nat → Nat} {M M' : ev_M} {H H' : Heap} {a j : Nat} {v : Value} (hR : Rel D φ bs H0 M H) (hr : 40 ≤ mK M a ∧ mK M a < 60) (hk : mK M' = mK M) (hN : mN M' = mN M) (hx : nx M' = nx M) (hS : mS M' = mS M) (hwf : ∀ a k, mA M' a k < nx M) (hrow : ∀ b, b ≠ a → Row M M' b)
    (hv : ∀ i, fv φ M' (kat (mK M a)) a i = if i = j then v else fv φ M (kat (mK M a)) a i) (hc : H'[φ a]? = some ((arrV (D.2.2.1 (mK M a)) (mN M a) (fun i => fv φ M (kat (mK M a)) a i)).setSlot j v)) (hsz : H'.size = H.size) (ho : ∀ q, q ≠ φ a → H'[q]? = H[q]?) (hft : (mK M a = 44 ∨ mK M a = 45 ∨ mK M a = 46) → ∀ j, fits (katy (mK M a)) (.int (mI M' a j)) = true) : Rel D φ bs H0 M' H' := by
  refine hR.upd (n := a) ?_ hk hN hx hS hwf hrow hsz ho ?_ hft
  · unfold ev_own
    have h1 : (decide (40 ≤ mK M a) && decide (mK M a < 60)) = true := by simp [hr.1, hr.2]
    rw [h1, Bool.or_true]
  · unfold CR
    rw [hk, hN]
    refine ⟨fun _ q => absurd q (by omega), fun q => absurd q (by omega), fun _ _ => ?_, fun q => absurd q (by omega), fun q => absurd q (by omega)⟩
    rw [hc, arrV_store]
    congr 2
    funext i
    rw [hv i]
    rfl
theorem wt_iast {ok : Nat → Bool} {f : Nat → Int32 → Int32} {S S' : ev_S} (hok : ∀ t, ok t = true → t ∈ kA ∧ kat t = 0 ∧ t < 60) (hfit : ∀ t x, ok t = true → (t = 44 ∨ t = 45 ∨ t = 46) → fits (katy t) (.int (f t x)) = true)
    (hrow : ∀ {lsA : Array Slot} {H : Heap} {locs : List Loc} {cells slots : Nat} {t n q : Nat} {F : Nat → Value} {i x : Int32} {rest : List Value}, ok t = true → H[q]? = some (arrV (D.2.2.1 t) n F) → vp_in i n → (∀ H' : Heap, H'[q]? = some ((arrV (D.2.2.1 t) n F).setSlot i.toNatClampNeg (.int (f t x))) → H'.size = H.size → (∀ b, b ≠ q → H'[b]? = H[b]?) → W p l e R s m args below meth c H' (locs ++ [⟨q, i.toNatClampNeg⟩]) cells slots Q (F0 m (pc + 1) lsA rest)) → W p l e R s m args below meth c H locs cells slots Q (F0 m pc lsA (.int x :: .int i :: .ref q :: rest)))
    (h : ev_iast S ok f = some S') (k : WT p l e R s m args below meth c Q D bs H0 nL c0 s0 M0 φ0 S' (pc + 1)) : WT p l e R s m args below meth c Q D bs H0 nL c0 s0 M0 φ0 S pc := by
  obtain ⟨ls, st, M⟩ := S
  unfold ev_iast at h
  split at h
  · rename_i x i a st heq
    dsimp only at heq
    subst heq
    split at h
    · rename_i hc0
      cases h
      obtain ⟨hk, hi⟩ := hc0
      intro φ lsA stA H locs cells slots hE hn hR hL hS hl hc hs
      obtain ⟨x0, r, rfl, hx0, -, hS0⟩ := StR_cons hS
      obtain ⟨x1, r, rfl, hx1, -, hS1⟩ := StR_cons hS0
      obtain ⟨y, r, rfl, hy0, -, hS2⟩ := StR_cons hS1
      cases hx0
      cases hx1
      obtain ⟨hm, hct, h60⟩ := hok _ hk
      have hr := kA_rng hm
      have ey : y = .ref (φ a) := by
        have h1 : y = crf φ a := hy0
        rw [h1]
        exact crf_at hR (fun q => by have h2 : 40 ≤ mK M a := hr.1; have h3 : mK M a = 0 := q; omega)
      subst ey
      have hcell := (hR.2.2.1 a).2.2.1 hr.1 h60
      have hbase := (hR.2.2.2.1 a (by unfold ev_own; have h1 : (decide (40 ≤ mK M a) && decide (mK M a < 60)) = true := by { simp only [Bool.and_eq_true, decide_eq_true_eq]; exact ⟨hr.1, h60⟩ }; rw [h1, Bool.or_true])).1
      refine hrow hk hcell (ev_in_vp hi) fun H' e1 e2 e3 => ?_
      refine k φ lsA r H' _ cells slots hE hn (hR.arr (a := a) (j := ev_ix i) (v := .int (f (mK M a) x)) ⟨hr.1, h60⟩ rfl rfl rfl rfl hR.1.2.1 (fun b hb => ⟨?_, rfl, rfl, rfl, rfl⟩) (fun j => ?_) e1 e2 e3 (fun h4 j => by have e : mI (wI M a (ev_ix i) (f (mK M a) x)) a j = if a = a ∧ j = ev_ix i then f (mK M a) x else mI M a j := rfl; rw [e]; split; exact hfit _ _ hk h4; exact hR.2.2.2.2.2.2 a h4 j)) (LocR_ext (M := M) Ext.rf (Nat.le_refl (nx M)) hL) (StR_to (M := M) (wI M a (ev_ix i) (f (mK M a) x)) rfl hS2) ?_ hc hs
      · funext j
        show (if b = a ∧ j = ev_ix i then _ else mI M b j) = _
        rw [if_neg (fun q => hb q.1)]
      · rw [hct]
        show Value.int (if a = a ∧ j = ev_ix i then _ else mI M a j) = if j = ev_ix i then _ else Value.int (mI M a j)
        by_cases hj : j = ev_ix i
        · rw [if_pos ⟨rfl, hj⟩, if_pos hj]
        · rw [if_neg (fun q => hj q.2), if_neg hj]
      · intro z hz
        rcases List.mem_append.mp hz with hz | hz
        · exact hl z hz
        · rw [List.mem_singleton.mp hz]; exact hbase
    · cases h
  · cases h
theorem wt_last {S S' : ev_S}
    (hrow : ∀ {lsA : Array Slot} {H : Heap} {locs : List Loc} {cells slots : Nat} {t n q : Nat} {F : Nat → Value} {i : Int32} {x : Int64} {rest : List Value}, t = 41 → H[q]? = some (arrV (D.2.2.1 t) n F) → vp_in i n → (∀ H' : Heap, H'[q]? = some ((arrV (D.2.2.1 t) n F).setSlot i.toNatClampNeg (.long x)) → H'.size = H.size → (∀ b, b ≠ q → H'[b]? = H[b]?) → W p l e R s m args below meth c H' (locs ++ [⟨q, i.toNatClampNeg⟩]) cells slots Q (F0 m (pc + 1) lsA rest)) → W p l e R s m args below meth c H locs cells slots Q (F0 m pc lsA (.long x :: .int i :: .ref q :: rest)))
    (h : ev_last S = some S') (k : WT p l e R s m args below meth c Q D bs H0 nL c0 s0 M0 φ0 S' (pc + 1)) : WT p l e R s m args below meth c Q D bs H0 nL c0 s0 M0 φ0 S pc := by
  obtain ⟨ls, st, M⟩ := S
  unfold ev_last at h
  split at h
  · rename_i x i a st heq
    dsimp only at heq
    subst heq
    split at h
    · rename_i hc0
      cases h
      obtain ⟨hk, hi⟩ := hc0
      intro φ lsA stA H locs cells slots hE hn hR hL hS hl hc hs
      obtain ⟨x0, r, rfl, hx0, -, hS0⟩ := StR_cons hS
      obtain ⟨x1, r, rfl, hx1, -, hS1⟩ := StR_cons hS0
      obtain ⟨y, r, rfl, hy0, -, hS2⟩ := StR_cons hS1
      cases hx0
      cases hx1
      obtain ⟨hm, hct, h60⟩ : mK M a ∈ kA ∧ kat (mK M a) = 1 ∧ mK M a < 60 := by rw [hk]; decide
      have hr := kA_rng hm
      have ey : y = .ref (φ a) := by
        have h1 : y = crf φ a := hy0
        rw [h1]
        exact crf_at hR (fun q => by have h2 : 40 ≤ mK M a := hr.1; have h3 : mK M a = 0 := q; omega)
      subst ey
      have hcell := (hR.2.2.1 a).2.2.1 hr.1 h60
      have hbase := (hR.2.2.2.1 a (by unfold ev_own; have h1 : (decide (40 ≤ mK M a) && decide (mK M a < 60)) = true := by { simp only [Bool.and_eq_true, decide_eq_true_eq]; exact ⟨hr.1, h60⟩ }; rw [h1, Bool.or_true])).1
      refine hrow hk hcell (ev_in_vp hi) fun H' e1 e2 e3 => ?_
      refine k φ lsA r H' _ cells slots hE hn (hR.arr (a := a) (j := ev_ix i) (v := .long x) ⟨hr.1, h60⟩ rfl rfl rfl rfl hR.1.2.1 (fun b hb => ⟨rfl, ?_, rfl, rfl, rfl⟩) (fun j => ?_) e1 e2 e3 (fun h4 => absurd h4 (by have h5 : mK M a = 41 := hk; show ¬ (mK M a = 44 ∨ mK M a = 45 ∨ mK M a = 46); omega))) (LocR_ext (M := M) Ext.rf (Nat.le_refl (nx M)) hL) (StR_to (M := M) (wL M a (ev_ix i) x) rfl hS2) ?_ hc hs
      · funext j
        show (if b = a ∧ j = ev_ix i then _ else mL M b j) = _
        rw [if_neg (fun q => hb q.1)]
      · rw [hct]
        show Value.long (if a = a ∧ j = ev_ix i then _ else mL M a j) = if j = ev_ix i then _ else Value.long (mL M a j)
        by_cases hj : j = ev_ix i
        · rw [if_pos ⟨rfl, hj⟩, if_pos hj]
        · rw [if_neg (fun q => hj q.2), if_neg hj]
      · intro z hz
        rcases List.mem_append.mp hz with hz | hz
        · exact hl z hz
        · rw [List.mem_singleton.mp hz]; exact hbase
    · cases h
  · cases h
theorem wt_fast {S S' : ev_S}
    (hrow : ∀ {lsA : Array Slot} {H : Heap} {locs : List Loc} {cells slots : Nat} {t n q : Nat} {F : Nat → Value} {i : Int32} {x : UInt32} {rest : List Value}, t = 42 → H[q]? = some (arrV (D.2.2.1 t) n F) → vp_in i n → (∀ H' : Heap, H'[q]? = some ((arrV (D.2.2.1 t) n F).setSlot i.toNatClampNeg (.float x)) → H'.size = H.size → (∀ b, b ≠ q → H'[b]? = H[b]?) → W p l e R s m args below meth c H' (locs ++ [⟨q, i.toNatClampNeg⟩]) cells slots Q (F0 m (pc + 1) lsA rest)) → W p l e R s m args below meth c H locs cells slots Q (F0 m pc lsA (.float x :: .int i :: .ref q :: rest)))
    (h : ev_fast S = some S') (k : WT p l e R s m args below meth c Q D bs H0 nL c0 s0 M0 φ0 S' (pc + 1)) : WT p l e R s m args below meth c Q D bs H0 nL c0 s0 M0 φ0 S pc := by
  obtain ⟨ls, st, M⟩ := S
  unfold ev_fast at h
  split at h
  · rename_i x i a st heq
    dsimp only at heq
    subst heq
    split at h
    · rename_i hc0
      cases h
      obtain ⟨hk, hi⟩ := hc0
      intro φ lsA stA H locs cells slots hE hn hR hL hS hl hc hs
      obtain ⟨x0, r, rfl, hx0, -, hS0⟩ := StR_cons hS
      obtain ⟨x1, r, rfl, hx1, -, hS1⟩ := StR_cons hS0
      obtain ⟨y, r, rfl, hy0, -, hS2⟩ := StR_cons hS1
      cases hx0
      cases hx1
      obtain ⟨hm, hct, h60⟩ : mK M a ∈ kA ∧ kat (mK M a) = 2 ∧ mK M a < 60 := by rw [hk]; decide
      have hr := kA_rng hm
      have ey : y = .ref (φ a) := by
        have h1 : y = crf φ a := hy0
        rw [h1]
        exact crf_at hR (fun q => by have h2 : 40 ≤ mK M a := hr.1; have h3 : mK M a = 0 := q; omega)
      subst ey
      have hcell := (hR.2.2.1 a).2.2.1 hr.1 h60
      have hbase := (hR.2.2.2.1 a (by unfold ev_own; have h1 : (decide (40 ≤ mK M a) && decide (mK M a < 60)) = true := by { simp only [Bool.and_eq_true, decide_eq_true_eq]; exact ⟨hr.1, h60⟩ }; rw [h1, Bool.or_true])).1
      refine hrow hk hcell (ev_in_vp hi) fun H' e1 e2 e3 => ?_
      refine k φ lsA r H' _ cells slots hE hn (hR.arr (a := a) (j := ev_ix i) (v := .float x) ⟨hr.1, h60⟩ rfl rfl rfl rfl hR.1.2.1 (fun b hb => ⟨rfl, rfl, ?_, rfl, rfl⟩) (fun j => ?_) e1 e2 e3 (fun h4 => absurd h4 (by have h5 : mK M a = 42 := hk; show ¬ (mK M a = 44 ∨ mK M a = 45 ∨ mK M a = 46); omega))) (LocR_ext (M := M) Ext.rf (Nat.le_refl (nx M)) hL) (StR_to (M := M) (wF M a (ev_ix i) x) rfl hS2) ?_ hc hs
      · funext j
        show (if b = a ∧ j = ev_ix i then _ else mF M b j) = _
        rw [if_neg (fun q => hb q.1)]
      · rw [hct]
        show Value.float (if a = a ∧ j = ev_ix i then _ else mF M a j) = if j = ev_ix i then _ else Value.float (mF M a j)
        by_cases hj : j = ev_ix i
        · rw [if_pos ⟨rfl, hj⟩, if_pos hj]
        · rw [if_neg (fun q => hj q.2), if_neg hj]
      · intro z hz
        rcases List.mem_append.mp hz with hz | hz
        · exact hl z hz
        · rw [List.mem_singleton.mp hz]; exact hbase
    · cases h
  · cases h
theorem wt_dast {S S' : ev_S}
    (hrow : ∀ {lsA : Array Slot} {H : Heap} {locs : List Loc} {cells slots : Nat} {t n q : Nat} {F : Nat → Value} {i : Int32} {x : UInt64} {rest : List Value}, t = 43 → H[q]? = some (arrV (D.2.2.1 t) n F) → vp_in i n → (∀ H' : Heap, H'[q]? = some ((arrV (D.2.2.1 t) n F).setSlot i.toNatClampNeg (.double x)) → H'.size = H.size → (∀ b, b ≠ q → H'[b]? = H[b]?) → W p l e R s m args below meth c H' (locs ++ [⟨q, i.toNatClampNeg⟩]) cells slots Q (F0 m (pc + 1) lsA rest)) → W p l e R s m args below meth c H locs cells slots Q (F0 m pc lsA (.double x :: .int i :: .ref q :: rest)))
    (h : ev_dast S = some S') (k : WT p l e R s m args below meth c Q D bs H0 nL c0 s0 M0 φ0 S' (pc + 1)) : WT p l e R s m args below meth c Q D bs H0 nL c0 s0 M0 φ0 S pc := by
  obtain ⟨ls, st, M⟩ := S
  unfold ev_dast at h
  split at h
  · rename_i x i a st heq
    dsimp only at heq
    subst heq
    split at h
    · rename_i hc0
      cases h
      obtain ⟨hk, hi⟩ := hc0
      intro φ lsA stA H locs cells slots hE hn hR hL hS hl hc hs
      obtain ⟨x0, r, rfl, hx0, -, hS0⟩ := StR_cons hS
      obtain ⟨x1, r, rfl, hx1, -, hS1⟩ := StR_cons hS0
      obtain ⟨y, r, rfl, hy0, -, hS2⟩ := StR_cons hS1
      cases hx0
      cases hx1
      obtain ⟨hm, hct, h60⟩ : mK M a ∈ kA ∧ kat (mK M a) = 3 ∧ mK M a < 60 := by rw [hk]; decide
      have hr := kA_rng hm
      have ey : y = .ref (φ a) := by
        have h1 : y = crf φ a := hy0
        rw [h1]
        exact crf_at hR (fun q => by have h2 : 40 ≤ mK M a := hr.1; have h3 : mK M a = 0 := q; omega)
      subst ey
      have hcell := (hR.2.2.1 a).2.2.1 hr.1 h60
      have hbase := (hR.2.2.2.1 a (by unfold ev_own; have h1 : (decide (40 ≤ mK M a) && decide (mK M a < 60)) = true := by { simp only [Bool.and_eq_true, decide_eq_true_eq]; exact ⟨hr.1, h60⟩ }; rw [h1, Bool.or_true])).1
      refine hrow hk hcell (ev_in_vp hi) fun H' e1 e2 e3 => ?_
      refine k φ lsA r H' _ cells slots hE hn (hR.arr (a := a) (j := ev_ix i) (v := .double x) ⟨hr.1, h60⟩ rfl rfl rfl rfl hR.1.2.1 (fun b hb => ⟨rfl, rfl, rfl, ?_, rfl⟩) (fun j => ?_) e1 e2 e3 (fun h4 => absurd h4 (by have h5 : mK M a = 43 := hk; show ¬ (mK M a = 44 ∨ mK M a = 45 ∨ mK M a = 46); omega))) (LocR_ext (M := M) Ext.rf (Nat.le_refl (nx M)) hL) (StR_to (M := M) (wD M a (ev_ix i) x) rfl hS2) ?_ hc hs
      · funext j
        show (if b = a ∧ j = ev_ix i then _ else mD M b j) = _
        rw [if_neg (fun q => hb q.1)]
      · rw [hct]
        show Value.double (if a = a ∧ j = ev_ix i then _ else mD M a j) = if j = ev_ix i then _ else Value.double (mD M a j)
        by_cases hj : j = ev_ix i
        · rw [if_pos ⟨rfl, hj⟩, if_pos hj]
        · rw [if_neg (fun q => hj q.2), if_neg hj]
      · intro z hz
        rcases List.mem_append.mp hz with hz | hz
        · exact hl z hz
        · rw [List.mem_singleton.mp hz]; exact hbase
    · cases h
  · cases h
end
