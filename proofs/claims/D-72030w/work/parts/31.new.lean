/-! SOUNDNESS of new cells (by gen/new.py) -/
theorem CR_mv {D : rl_D} {φ φ' : Nat → Nat} {M M' : ev_M} {H H' : Heap} {n : Nat} (h : CR D φ M H n) (hφ : φ' n = φ n) (hk : mK M' n = mK M n) (hn : mN M' n = mN M n) (hr : ∀ cd k, fv φ' M' cd n k = fv φ M cd n k) (hH : H'[φ n]? = H[φ n]?) : CR D φ' M' H' n := by
  unfold CR at h ⊢
  rw [hk, hn, hφ]
  refine ⟨fun a b z => ?_, fun a => ?_, fun a b => ?_, fun a b => ?_, fun a => ?_⟩
  · exact ((h.1 a b z).kept hH).to fun k _ => (hr _ _).symm
  · exact (h.2.1 a).mv hH fun k => hr _ _
  · rw [hH, h.2.2.1 a b]
    congr 2
    funext j
    exact (hr _ _).symm
  · obtain ⟨cell, q1, q2⟩ := h.2.2.2.1 a b
    exact ⟨cell, by rw [hH]; exact q1, q2.to fun j => hr _ _⟩
  · obtain ⟨cell, q1, q2, q3, q4⟩ := h.2.2.2.2 a
    exact ⟨cell, by rw [hH]; exact q1, q2, q3, fun k c hc => by rw [hr]; exact q4 k c hc⟩
theorem dflt_ok {φ : Nat → Nat} {M : ev_M} {n k : Nat} (h : mI M n = (fun _ => 0) ∧ mL M n = (fun _ => 0) ∧ mF M n = (fun _ => 0) ∧ mD M n = (fun _ => 0) ∧ mA M n = (fun _ => 0)) (ty : FieldType) : fv φ M (tyc ty) n k = defaultValue ty := by
  obtain ⟨h1, h2, h3, h4, h5⟩ := h
  cases ty <;> simp only [tyc, fv, h1, h2, h3, h4, h5, crf] <;> rfl
theorem up1_s {α : Type} (f : Nat → α) (a : Nat) (v : α) : up1 f a v a = v := if_pos rfl
theorem up1_n {α : Type} (f : Nat → α) {a b : Nat} (v : α) (h : b ≠ a) : up1 f a v b = f b := if_neg h
theorem wN_zero (M : ev_M) (t n s : Nat) : mI (wN M t n s) (nx M) = (fun _ => 0) ∧ mL (wN M t n s) (nx M) = (fun _ => 0) ∧ mF (wN M t n s) (nx M) = (fun _ => 0) ∧ mD (wN M t n s) (nx M) = (fun _ => 0) ∧ mA (wN M t n s) (nx M) = (fun _ => 0) :=
  ⟨up1_s _ _ _, up1_s _ _ _, up1_s _ _ _, up1_s _ _ _, up1_s _ _ _⟩
theorem fv_wN {φ φ' : Nat → Nat} {M : ev_M} {t n s : Nat} (hM : WFM M) (hE : Ext M φ φ') {a : Nat} (ha : a ≠ nx M) (cd k : Nat) : fv φ' (wN M t n s) cd a k = fv φ M cd a k := by
  have e1 : mI (wN M t n s) a = mI M a := up1_n _ _ ha
  have e2 : mL (wN M t n s) a = mL M a := up1_n _ _ ha
  have e3 : mF (wN M t n s) a = mF M a := up1_n _ _ ha
  have e4 : mD (wN M t n s) a = mD M a := up1_n _ _ ha
  have e5 : mA (wN M t n s) a = mA M a := up1_n _ _ ha
  unfold fv
  split <;> simp only [e1, e2, e3, e4, e5]
  exact crf_ext hE (hM.2.1 _ _)
/-- a new cell -/
theorem Rel.push {D : rl_D} {φ : Nat → Nat} {bs : Nat} {H0 H H' : Heap} {M : ev_M} {t n s : Nat} (h : Rel D φ bs H0 M H) (hsz : H'.size = H.size + 1) (hold : ∀ q, q < H.size → H'[q]? = H[q]?)
    (hc : CR D (up1 φ (nx M) H.size) (wN M t n s) H' (nx M)) : Rel D (up1 φ (nx M) H.size) bs H0 (wN M t n s) H' := by
  obtain ⟨⟨w1, w2, w3, w4⟩, r1, r2, r3, ⟨r4, r5⟩, r6, r7⟩ := h
  have hE : Ext M φ (up1 φ (nx M) H.size) := fun k hk => up1_n _ _ (by omega)
  have enx : nx (wN M t n s) = nx M + 1 := rfl
  have hkn : ∀ k, k ≠ nx M → mK (wN M t n s) k = mK M k := fun k hk => up1_n _ _ hk
  refine ⟨⟨Nat.succ_pos _, fun a k => ?_, fun k => Nat.lt_succ_of_lt (w3 k), fun k hk => ?_⟩, fun k h1 => ?_, fun k => ?_, fun k hk => ?_, ⟨by omega, fun q hq => by rw [hold q (by omega)]; exact r5 q hq⟩, fun k hk => ?_, fun k hk j => ?_⟩
  · show up1 (mA M) (nx M) (fun _ => 0) a k < nx M + 1
    by_cases ha : a = nx M
    · rw [ha, up1_s]; exact Nat.succ_pos _
    · rw [up1_n _ _ ha]; exact Nat.lt_succ_of_lt (w2 a k)
  · by_cases e : k = nx M
    · rw [e]; exact ⟨w1, Nat.lt_succ_self _⟩
    · rw [hkn k e] at hk
      have := w4 k hk
      exact ⟨this.1, by rw [enx]; omega⟩
  · by_cases e : k = nx M
    · rw [e, up1_s]; omega
    · rw [up1_n _ _ e]
      have := r1 k (by rw [← hkn k e]; exact h1)
      omega
  · by_cases e : k = nx M
    · rw [e]; exact hc
    · by_cases h0 : mK M k = 0
      · unfold CR
        rw [hkn k e, h0]
        exact ⟨fun a => absurd a (by decide), fun a => absurd a (by decide), fun a => absurd a (by decide), fun a => absurd a (by decide), fun a => absurd a (by decide)⟩
      · exact CR_mv (r2 k) (up1_n _ _ e) (hkn k e) (up1_n _ _ e) (fun cd j => fv_wN ⟨w1, w2, w3, w4⟩ hE e cd j) (hold _ (r1 k h0))
  · by_cases e : k = nx M
    · rw [e, up1_s]
      refine ⟨r4, fun j h1 h3 => ?_⟩
      by_cases ej : j = nx M
      · exact ej
      · rw [up1_n _ _ ej] at h3
        have := r1 j (by rw [← hkn j ej]; exact h1)
        omega
    · rw [hkn k e] at hk
      have hk1 : mK M k ≠ 0 := fun q => by rw [q] at hk; exact absurd hk (by decide)
      rw [up1_n _ _ e]
      refine ⟨(r3 k hk).1, fun j h1 h3 => ?_⟩
      by_cases ej : j = nx M
      · rw [ej, up1_s] at h3
        have := r1 k hk1
        omega
      · rw [up1_n _ _ ej] at h3
        exact (r3 k hk).2 j (by rw [← hkn j ej]; exact h1) h3
  · have := r6 k hk
    have h3 := w3 k
    exact ⟨this.1, by rw [up1_n _ _ (by show mS M k ≠ nx M; omega)]; exact this.2⟩
  · by_cases e : k = nx M
    · have e0 : mI (wN M t n s) k j = 0 := by rw [e, (wN_zero M t n s).1]
      rw [e0]
      rcases hk with hk | hk | hk <;> (rw [hk]; rfl)
    · have e0 : mI (wN M t n s) k = mI M k := up1_n _ _ e
      rw [hkn k e] at hk ⊢
      rw [e0]
      exact r7 k hk j
/-- what 'new' asks -/
def LKn (own : String) (idx : Nat) (ar : List Nat) : Prop := match ar with
  | [t, n] => (1 ≤ t ∧ t ≤ 21 ∧ t ≠ 16) ∧ n = (kz t).2.2 ∧ Cond.classLink own idx (kz t).1 ∈ lw_all ∧ Cond.instantiable (kz t).1 n ∈ lw_all ∧ Cond.initialized (kz t).1 ∈ lw_all
  | _ => True
def LKna (aty : ArrayType) (ar : List Nat) : Prop := match ar with
  | t :: _ => (t ∈ [40, 41, 42, 43, 44, 45, 46]) ∧ newarray.typeOf aty = katy t ∧ Cond.arrayClass (newarray.typeOf aty) ∈ lw_all
  | _ => True
def LKan (own : String) (idx : Nat) (ar : List Nat) : Prop := match ar with
  | t :: _ => ∃ C, (t ∈ [48, 49, 50, 51, 52]) ∧ katy t = .object C ∧ Cond.classLink own idx C ∈ lw_all ∧ Cond.arrayOver (.object C) ∈ lw_tbl
  | _ => True
section
variable {p : Program} {l : Launch} {e : Env} {R : Room} {s : State} {m : MethodId} {args : Array Value} {below : List Frame} {meth : Method} {c : Code} {Q : State → Prop}
variable {D : rl_D} {bs : Nat} {H0 : Heap} {nL c0 s0 : Nat} {M0 : ev_M} {φ0 : Nat → Nat} {cd : ByteArray} {pc : Nat} {own : String}
theorem wt_new (hx : p.tables.exec = Jvm.exec) (hb : c.code = cd) (hts : ∀ w ∈ lw_all, w.before args s = true) (hown : s.vm.findClass own = some m.cls) (hKN : KN D s) {idx : Nat} {ar : List Nat} (hlk : LKn own idx ar) (hd : decode cd pc = .ok (.new idx, 3))
    {S S' : ev_S} (h : ev_new S ar = some S') (hRc : ncl S'.2.2 ≤ R.cells + c0) (hRs : nsl S'.2.2 ≤ R.slots + s0) (k : WT p l e R s m args below meth c Q D bs H0 nL c0 s0 M0 φ0 S' (pc + 3)) : WT p l e R s m args below meth c Q D bs H0 nL c0 s0 M0 φ0 S pc := by
  obtain ⟨ls, st, M⟩ := S
  unfold ev_new at h
  split at h
  · rename_i t n
    cases h
    obtain ⟨ht, hn0, l1, l2, l3⟩ := hlk
    intro φ lsA stA H locs cells slots hE hn hR hL hS hl hc hs
    have e1 : ncl (wN M t 0 n) = ncl M + 1 := rfl
    have e2 : nsl (wN M t 0 n) = nsl M + n := rfl
    have hc' : cells + c0 = ncl M := hc
    have hs' : slots + s0 = nsl M := hs
    have hRc' : ncl M + 1 ≤ R.cells + c0 := hRc
    have hRs' : nsl M + n ≤ R.slots + s0 := hRs
    have hKt := hKN.1 t ht.1 ht.2.1
    refine W.newcK hx hb (C := (kz t).1) hown (hts _ l1) (hts _ l2) (hts _ l3) rfl hd (by omega) (by omega) hKt.2.1 rfl fun H' kC hkC hcell hsz hold => ?_
    have hE2 : Ext M φ (up1 φ (nx M) H.size) := fun k hk => up1_n _ _ (by show k ≠ nx M; omega)
    refine k (up1 φ (nx M) H.size) lsA (.ref H.size :: stA) H' locs (cells + 1) (slots + n) (fun k hk => by rw [hE2 k (Nat.lt_of_lt_of_le hk hn)]; exact hE k hk) (Nat.le_succ_of_le hn) (hR.push hsz hold ?_) (LocR_ext (M := M) hE2 (Nat.le_succ _) hL) (StR.mk ?_ (Nat.lt_succ_self (nx M)) (StR_ext (M := M) (M' := wN M t 0 n) hE2 (Nat.le_succ _) hS)) hl (by show cells + 1 + c0 = ncl M + 1; omega) (by show slots + n + s0 = nsl M + n; omega)
    · unfold CR
      have ek : mK (wN M t 0 n) (nx M) = t := up1_s _ _ _
      rw [ek, up1_s]
      refine ⟨fun _ _ _ => ?_, fun z => absurd z (by omega), fun z => absurd z (by omega), fun z => absurd z (by omega), fun z => absurd z (by omega)⟩
      refine t_OB.to (u_born (kty t) hts (kz_in t ht.1 ht.2.1) hKt hkC hcell (kz_ty t ht.1 ht.2.1)) fun j _ => ?_
      exact (dflt_ok (wN_zero M t 0 n) (kty t j)).symm
    · show Value.ref H.size = crf (up1 φ (nx M) H.size) (nx M)
      unfold crf
      rw [if_neg (Nat.ne_of_gt hR.1.1), up1_s]
  · cases h
theorem new_arr {φ : Nat → Nat} {M : ev_M} {H H' : Heap} {t n : Nat} (hR : Rel D φ bs H0 M H) (ht : 40 ≤ t ∧ t < 60) (hct : ∀ φ' M' j, (mI M' (nx M) = (fun _ => 0) ∧ mL M' (nx M) = (fun _ => 0) ∧ mF M' (nx M) = (fun _ => 0) ∧ mD M' (nx M) = (fun _ => 0) ∧ mA M' (nx M) = (fun _ => 0)) → fv φ' M' (kat t) (nx M) j = defaultValue (katy t)) (hcell : H'[H.size]? = some (arrV (D.2.2.1 t) n (fun _ => defaultValue (katy t)))) (hsz : H'.size = H.size + 1) (hold : ∀ q, q < H.size → H'[q]? = H[q]?) : Rel D (up1 φ (nx M) H.size) bs H0 (wN M t n n) H' := by
  refine hR.push hsz hold ?_
  unfold CR
  have ek : mK (wN M t n n) (nx M) = t := up1_s _ _ _
  have en : mN (wN M t n n) (nx M) = n := up1_s _ _ _
  rw [ek, en, up1_s]
  refine ⟨fun _ z => absurd z (by omega), fun z => absurd z (by omega), fun _ _ => ?_, fun z => absurd z (by omega), fun z => absurd z (by omega)⟩
  rw [hcell]
  congr 2
  funext j
  exact (hct _ _ j (wN_zero M t n n)).symm
theorem kat_dflt {t : Nat} (ht : t ∈ [40, 41, 42, 43, 44, 45, 46, 48, 49, 50, 51, 52]) {n : Nat} (φ' : Nat → Nat) (M' : ev_M) (j : Nat) (h : mI M' n = (fun _ => 0) ∧ mL M' n = (fun _ => 0) ∧ mF M' n = (fun _ => 0) ∧ mD M' n = (fun _ => 0) ∧ mA M' n = (fun _ => 0)) : fv φ' M' (kat t) n j = defaultValue (katy t) := by
  obtain ⟨h1, h2, h3, h4, h5⟩ := h
  simp only [List.mem_cons, List.not_mem_nil, or_false] at ht
  rcases ht with rfl | rfl | rfl | rfl | rfl | rfl | rfl | rfl | rfl | rfl | rfl | rfl
  all_goals first | exact congrArg Value.int (congrFun h1 j) | exact congrArg Value.long (congrFun h2 j) | exact congrArg Value.float (congrFun h3 j) | exact congrArg Value.double (congrFun h4 j) | (show crf φ' (mA M' n j) = _; rw [h5]; rfl)
theorem wt_newa (hx : p.tables.exec = Jvm.exec) (hb : c.code = cd) (hts : ∀ w ∈ lw_all, w.before args s = true) (hKN : KN D s) {aty : ArrayType} {ar : List Nat} (hlk : LKna aty ar) (hd : decode cd pc = .ok (.newarray aty, 2))
    {S S' : ev_S} (h : ev_newa S ar = some S') (hRc : ncl S'.2.2 ≤ R.cells + c0) (hRs : nsl S'.2.2 ≤ R.slots + s0) (k : WT p l e R s m args below meth c Q D bs H0 nL c0 s0 M0 φ0 S' (pc + 2)) : WT p l e R s m args below meth c Q D bs H0 nL c0 s0 M0 φ0 S pc := by
  obtain ⟨ls, st, M⟩ := S
  unfold ev_newa at h
  split at h
  · rename_i t ar n st heq
    dsimp only at heq
    subst heq
    split at h
    · rename_i hn1
      cases h
      obtain ⟨ht, hty, l1⟩ := hlk
      intro φ lsA stA H locs cells slots hE hn hR hL hS hl hc hs
      obtain ⟨x, r, rfl, hx0, -, hS1⟩ := StR_cons hS
      cases hx0
      have hc' : cells + c0 = ncl M := hc
      have hs' : slots + s0 = nsl M := hs
      have hRc' : ncl M + 1 ≤ R.cells + c0 := hRc
      have hRs' : nsl M + ev_ix n ≤ R.slots + s0 := hRs
      have hixn : (ev_ix n : Int) = n.toInt := by
        unfold ev_ix
        show ((n.toInt.toNat : Nat) : Int) = n.toInt
        omega
      have ht2 : t ∈ kA := by
        have : ∀ t ∈ [40, 41, 42, 43, 44, 45, 46], t ∈ kA := by decide
        exact this t ht
      have ht3 : 40 ≤ t ∧ t ≤ 46 := by
        have : ∀ t ∈ [40, 41, 42, 43, 44, 45, 46], 40 ≤ t ∧ t ≤ 46 := by decide
        exact this t ht
      have hbytes : ev_ix n * componentBytes (newarray.typeOf aty) ≤ 536870912 := by
        have hcb : componentBytes (newarray.typeOf aty) ≤ 8 := by cases aty <;> decide
        have h1 : ev_ix n ≤ 100000 := by omega
        calc ev_ix n * componentBytes (newarray.typeOf aty) ≤ 100000 * 8 := Nat.mul_le_mul h1 hcb
          _ ≤ 536870912 := by decide
      refine va_newaK hx hb (hts _ l1) rfl hd rfl (by rw [Int32.lt_iff_toInt_lt, Int32.toInt_zero]; omega) (N := ev_ix n) rfl hbytes (by omega) (by omega) rfl fun H' cA hcell hsz hold _ hfc => ?_
      have hE2 : Ext M φ (up1 φ (nx M) H.size) := fun k hk => up1_n _ _ (by show k ≠ nx M; omega)
      have hcA : cA = D.2.2.1 t := by
        have h1 := (hKN.2 t ht2).2 (by omega)
        have h2 : s.vm.findClass ("[" ++ (katy t).toString) = some (D.2.2.1 t) := by
          simp only [List.mem_cons, List.not_mem_nil, or_false] at ht
          rcases ht with rfl | rfl | rfl | rfl | rfl | rfl | rfl <;> exact h1
        rw [hty] at hfc
        exact Option.some.inj (hfc.symm.trans h2)
      rw [hcA, hty] at hcell
      refine k (up1 φ (nx M) H.size) lsA (.ref H.size :: r) H' locs (cells + 1) (slots + ev_ix n) (fun k hk => by rw [hE2 k (Nat.lt_of_lt_of_le hk hn)]; exact hE k hk) (Nat.le_succ_of_le hn) (new_arr hR ⟨ht3.1, by omega⟩ (fun φ' M' j hz => kat_dflt (by simp only [List.mem_cons, List.not_mem_nil, or_false] at ht ⊢; omega) φ' M' j hz) hcell hsz hold) (LocR_ext (M := M) hE2 (Nat.le_succ _) hL) (StR.mk ?_ (Nat.lt_succ_self (nx M)) (StR_ext (M := M) (M' := wN M t (ev_ix n) (ev_ix n)) hE2 (Nat.le_succ _) hS1)) hl (by show cells + 1 + c0 = ncl M + 1; omega) (by show slots + ev_ix n + s0 = nsl M + ev_ix n; omega)
      show Value.ref H.size = crf (up1 φ (nx M) H.size) (nx M)
      unfold crf
      rw [if_neg (Nat.ne_of_gt hR.1.1), up1_s]
    · cases h
  · cases h
theorem wt_anewa (hx : p.tables.exec = Jvm.exec) (hb : c.code = cd) (hts : ∀ w ∈ lw_all, w.before args s = true) (hKW : KW s) (hown : s.vm.findClass own = some m.cls) (hKN : KN D s) {idx : Nat} {ar : List Nat} (hlk : LKan own idx ar) (hd : decode cd pc = .ok (.anewarray idx, 3))
    {S S' : ev_S} (h : ev_newa S ar = some S') (hRc : ncl S'.2.2 ≤ R.cells + c0) (hRs : nsl S'.2.2 ≤ R.slots + s0) (k : WT p l e R s m args below meth c Q D bs H0 nL c0 s0 M0 φ0 S' (pc + 3)) : WT p l e R s m args below meth c Q D bs H0 nL c0 s0 M0 φ0 S pc := by
  obtain ⟨ls, st, M⟩ := S
  unfold ev_newa at h
  split at h
  · rename_i t ar n st heq
    dsimp only at heq
    subst heq
    split at h
    · rename_i hn1
      cases h
      obtain ⟨C, ht, hty, l1, l2⟩ := hlk
      intro φ lsA stA H locs cells slots hE hn hR hL hS hl hc hs
      obtain ⟨x, r, rfl, hx0, -, hS1⟩ := StR_cons hS
      cases hx0
      have hc' : cells + c0 = ncl M := hc
      have hs' : slots + s0 = nsl M := hs
      have hRc' : ncl M + 1 ≤ R.cells + c0 := hRc
      have hRs' : nsl M + ev_ix n ≤ R.slots + s0 := hRs
      have hixn : (ev_ix n : Int) = n.toInt := by
        unfold ev_ix
        show ((n.toInt.toNat : Nat) : Int) = n.toInt
        omega
      have ht2 : t ∈ kA := by
        have : ∀ t ∈ [48, 49, 50, 51, 52], t ∈ kA := by decide
        exact this t ht
      have ht3 : 48 ≤ t ∧ t ≤ 52 := by
        have : ∀ t ∈ [48, 49, 50, 51, 52], 48 ≤ t ∧ t ≤ 52 := by decide
        exact this t ht
      refine W.anew hx hb hown (hts _ l1) (va_AO.use (hKW _ l2 rfl)) rfl hd rfl (by rw [Int32.lt_iff_toInt_lt, Int32.toInt_zero]; omega) (by show ev_ix n * 4 ≤ _; omega) (by omega) (by show slots + ev_ix n ≤ _; omega) fun cA kA comp hfc _ _ _ => ?_
      have hE2 : Ext M φ (up1 φ (nx M) H.size) := fun k hk => up1_n _ _ (by show k ≠ nx M; omega)
      have hcA : cA = D.2.2.1 t := by
        have h1 := (hKN.2 t ht2).2 (by omega)
        rw [hty] at h1
        obtain ⟨_, _, -, -, -, h2⟩ := h1
        exact Option.some.inj (hfc.symm.trans h2)
      rw [arrV_new, hcA]
      refine k (up1 φ (nx M) H.size) lsA (.ref H.size :: r) _ locs (cells + 1) (slots + ev_ix n) (fun k hk => by rw [hE2 k (Nat.lt_of_lt_of_le hk hn)]; exact hE k hk) (Nat.le_succ_of_le hn) (new_arr hR ⟨by omega, by omega⟩ (fun φ' M' j hz => kat_dflt (by simp only [List.mem_cons, List.not_mem_nil, or_false] at ht ⊢; omega) φ' M' j hz) (by rw [hty]; simp [defaultValue]; rfl) (by simp) (fun q hq => by rw [Array.getElem?_push, if_neg (Nat.ne_of_lt hq)])) (LocR_ext (M := M) hE2 (Nat.le_succ _) hL) (StR.mk ?_ (Nat.lt_succ_self (nx M)) (StR_ext (M := M) (M' := wN M t (ev_ix n) (ev_ix n)) hE2 (Nat.le_succ _) hS1)) hl (by show cells + 1 + c0 = ncl M + 1; omega) (by show slots + ev_ix n + s0 = nsl M + ev_ix n; omega)
      show Value.ref H.size = crf (up1 φ (nx M) H.size) (nx M)
      unfold crf
      rw [if_neg (Nat.ne_of_gt hR.1.1), up1_s]
    · cases h
  · cases h
end
