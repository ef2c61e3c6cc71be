/-! SOUNDNESS: what the machine throws by itself (by gen/thr.py) -/
section
variable {p : Program} {l : Launch} {e : Env} {R : Room} {s : State} {m : MethodId} {args : Array Value} {below : List Frame} {meth : Method} {c : Code} {Q : State → Prop}
variable {D : rl_D} {bs : Nat} {H0 : Heap} {nL c0 s0 : Nat} {M0 : ev_M} {φ0 : Nat → Nat} {cd : ByteArray} {pc : Nat} {own : String}
theorem idx_text (i : Int32) (n : Nat) (h : n < 2 ^ 31) : ((toString "Index " ++ toString i ++ toString " out of bounds for length " ++ toString n : String) == notModelled) = false ∧ (stringBytes (stringToUtf16 (toString "Index " ++ toString i ++ toString " out of bounds for length " ++ toString n : String))).size ≤ 300 :=
  ⟨index_text_modelled i n, Nat.le_trans (index_text_bytes i h) (by decide)⟩
theorem ev_in_no {i : Int32} {n : Nat} (h : ev_in i n = false) : ¬ vp_in i n := by
  intro q
  have h1 := vp_in_iff.mp q
  unfold ev_in at h
  simp only [Bool.and_eq_false_iff, decide_eq_false_iff_not] at h
  omega
theorem vt_iaload (hx : p.tables.exec = Jvm.exec) (hb : c.code = cd) (hTR : THR l R s meth c bs H0 nL) (hts : ∀ w ∈ lw_all, w.before args s = true) (hKK : KK D bs H0 s) (hd : decode cd pc = .ok (.iaload, 1)) {i : Int32} {a : Nat} {ls st : List Value} {M : ev_M}
    (hk : mK M a = 40) (hi : ev_in i (mN M a) = false) (hn9 : mN M a ≤ 100000) (hw : ¬ 1000 < ev_w (.int i :: .ref a :: st)) (hRc : ncl M + 3 ≤ R.cells + c0) (hRs : nsl M + 310 ≤ R.slots + s0) (kk : WX p l e R s m args below meth c Q D bs H0 nL c0 s0 M0 φ0 ls (wX M 3 310) 3 pc) : WT p l e R s m args below meth c Q D bs H0 nL c0 s0 M0 φ0 (ls, .int i :: .ref a :: st, M) pc := by
  intro φ lsA stA H locs cells slots hE hn hR hL hS hl hc hs
  have hR : Rel D φ bs H0 M H := hR
  obtain ⟨iA, r, rfl, hi0, -, hS1⟩ := StR_cons hS
  obtain ⟨y, r, rfl, hy0, -, hS2⟩ := StR_cons hS1
  cases hi0
  have ey := kref hR hy0 (Or.inr (by rw [hk]; decide))
  subst ey
  have hcell := (hR.2.2.1 a).2.2.1 (by omega) (by omega)
  have hsum := StR_cat hS2
  have hw2 : ev_w st ≤ 1000 := by simp only [ev_w] at hw; omega
  have htx := idx_text i (mN M a) (by omega)
  have hnote := note_ok (rest := r) hx hTR hts hKK (k := 3) (by omega) htx.1 htx.2 hE hn hR hL hl hc hs (by omega) hRc hRs kk
  have hAr : ArrOfT s (D.2.2.1 (mK M a)) (.int) := by rw [hk]; exact (hKK.1.2 40 (by decide)).1
  intro T hT X
  obtain ⟨t, stp, q⟩ := hnote T hT X
  refine ⟨t, ?_, q⟩
  have h1 := X.ialoadOut hx (by rw [hT]; exact hcell) (hAr _ _) (j := i) (by rw [arrV_size]; exact Classical.byContradiction (ev_in_no hi)) (g := F0 m pc lsA (.int i :: .ref (φ a) :: r)) rfl (rest := r) rfl (by rw [hb]; exact hd) t
  simp only [arrV_size] at h1
  exact h1 stp
theorem vt_baload (hx : p.tables.exec = Jvm.exec) (hb : c.code = cd) (hTR : THR l R s meth c bs H0 nL) (hts : ∀ w ∈ lw_all, w.before args s = true) (hKK : KK D bs H0 s) (hd : decode cd pc = .ok (.baload, 1)) {i : Int32} {a : Nat} {ls st : List Value} {M : ev_M}
    (hk : mK M a = 44) (hi : ev_in i (mN M a) = false) (hn9 : mN M a ≤ 100000) (hw : ¬ 1000 < ev_w (.int i :: .ref a :: st)) (hRc : ncl M + 3 ≤ R.cells + c0) (hRs : nsl M + 310 ≤ R.slots + s0) (kk : WX p l e R s m args below meth c Q D bs H0 nL c0 s0 M0 φ0 ls (wX M 3 310) 3 pc) : WT p l e R s m args below meth c Q D bs H0 nL c0 s0 M0 φ0 (ls, .int i :: .ref a :: st, M) pc := by
  intro φ lsA stA H locs cells slots hE hn hR hL hS hl hc hs
  have hR : Rel D φ bs H0 M H := hR
  obtain ⟨iA, r, rfl, hi0, -, hS1⟩ := StR_cons hS
  obtain ⟨y, r, rfl, hy0, -, hS2⟩ := StR_cons hS1
  cases hi0
  have ey := kref hR hy0 (Or.inr (by rw [hk]; decide))
  subst ey
  have hcell := (hR.2.2.1 a).2.2.1 (by omega) (by omega)
  have hsum := StR_cat hS2
  have hw2 : ev_w st ≤ 1000 := by simp only [ev_w] at hw; omega
  have htx := idx_text i (mN M a) (by omega)
  have hnote := note_ok (rest := r) hx hTR hts hKK (k := 3) (by omega) htx.1 htx.2 hE hn hR hL hl hc hs (by omega) hRc hRs kk
  have hAr : ArrOfT s (D.2.2.1 (mK M a)) (.boolean) := by rw [hk]; exact (hKK.1.2 44 (by decide)).1
  intro T hT X
  obtain ⟨t, stp, q⟩ := hnote T hT X
  refine ⟨t, ?_, q⟩
  have h1 := X.baloadOut hx (by rw [hT]; exact hcell) (hAr _ _) (j := i) (by rw [arrV_size]; exact Classical.byContradiction (ev_in_no hi)) (g := F0 m pc lsA (.int i :: .ref (φ a) :: r)) rfl (rest := r) rfl (by rw [hb]; exact hd) t
  simp only [arrV_size] at h1
  exact h1 stp
theorem vt_saload (hx : p.tables.exec = Jvm.exec) (hb : c.code = cd) (hTR : THR l R s meth c bs H0 nL) (hts : ∀ w ∈ lw_all, w.before args s = true) (hKK : KK D bs H0 s) (hd : decode cd pc = .ok (.saload, 1)) {i : Int32} {a : Nat} {ls st : List Value} {M : ev_M}
    (hk : mK M a = 46) (hi : ev_in i (mN M a) = false) (hn9 : mN M a ≤ 100000) (hw : ¬ 1000 < ev_w (.int i :: .ref a :: st)) (hRc : ncl M + 3 ≤ R.cells + c0) (hRs : nsl M + 310 ≤ R.slots + s0) (kk : WX p l e R s m args below meth c Q D bs H0 nL c0 s0 M0 φ0 ls (wX M 3 310) 3 pc) : WT p l e R s m args below meth c Q D bs H0 nL c0 s0 M0 φ0 (ls, .int i :: .ref a :: st, M) pc := by
  intro φ lsA stA H locs cells slots hE hn hR hL hS hl hc hs
  have hR : Rel D φ bs H0 M H := hR
  obtain ⟨iA, r, rfl, hi0, -, hS1⟩ := StR_cons hS
  obtain ⟨y, r, rfl, hy0, -, hS2⟩ := StR_cons hS1
  cases hi0
  have ey := kref hR hy0 (Or.inr (by rw [hk]; decide))
  subst ey
  have hcell := (hR.2.2.1 a).2.2.1 (by omega) (by omega)
  have hsum := StR_cat hS2
  have hw2 : ev_w st ≤ 1000 := by simp only [ev_w] at hw; omega
  have htx := idx_text i (mN M a) (by omega)
  have hnote := note_ok (rest := r) hx hTR hts hKK (k := 3) (by omega) htx.1 htx.2 hE hn hR hL hl hc hs (by omega) hRc hRs kk
  have hAr : ArrOfT s (D.2.2.1 (mK M a)) (.short) := by rw [hk]; exact (hKK.1.2 46 (by decide)).1
  intro T hT X
  obtain ⟨t, stp, q⟩ := hnote T hT X
  refine ⟨t, ?_, q⟩
  have h1 := X.saloadOut hx (by rw [hT]; exact hcell) (hAr _ _) (j := i) (by rw [arrV_size]; exact Classical.byContradiction (ev_in_no hi)) (g := F0 m pc lsA (.int i :: .ref (φ a) :: r)) rfl (rest := r) rfl (by rw [hb]; exact hd) t
  simp only [arrV_size] at h1
  exact h1 stp
theorem vt_faload (hx : p.tables.exec = Jvm.exec) (hb : c.code = cd) (hTR : THR l R s meth c bs H0 nL) (hts : ∀ w ∈ lw_all, w.before args s = true) (hKK : KK D bs H0 s) (hd : decode cd pc = .ok (.faload, 1)) {i : Int32} {a : Nat} {ls st : List Value} {M : ev_M}
    (hk : mK M a = 42) (hi : ev_in i (mN M a) = false) (hn9 : mN M a ≤ 100000) (hw : ¬ 1000 < ev_w (.int i :: .ref a :: st)) (hRc : ncl M + 3 ≤ R.cells + c0) (hRs : nsl M + 310 ≤ R.slots + s0) (kk : WX p l e R s m args below meth c Q D bs H0 nL c0 s0 M0 φ0 ls (wX M 3 310) 3 pc) : WT p l e R s m args below meth c Q D bs H0 nL c0 s0 M0 φ0 (ls, .int i :: .ref a :: st, M) pc := by
  intro φ lsA stA H locs cells slots hE hn hR hL hS hl hc hs
  have hR : Rel D φ bs H0 M H := hR
  obtain ⟨iA, r, rfl, hi0, -, hS1⟩ := StR_cons hS
  obtain ⟨y, r, rfl, hy0, -, hS2⟩ := StR_cons hS1
  cases hi0
  have ey := kref hR hy0 (Or.inr (by rw [hk]; decide))
  subst ey
  have hcell := (hR.2.2.1 a).2.2.1 (by omega) (by omega)
  have hsum := StR_cat hS2
  have hw2 : ev_w st ≤ 1000 := by simp only [ev_w] at hw; omega
  have htx := idx_text i (mN M a) (by omega)
  have hnote := note_ok (rest := r) hx hTR hts hKK (k := 3) (by omega) htx.1 htx.2 hE hn hR hL hl hc hs (by omega) hRc hRs kk
  have hAr : ArrOfT s (D.2.2.1 (mK M a)) (.float) := by rw [hk]; exact (hKK.1.2 42 (by decide)).1
  intro T hT X
  obtain ⟨t, stp, q⟩ := hnote T hT X
  refine ⟨t, ?_, q⟩
  have h1 := X.faloadOut hx (by rw [hT]; exact hcell) (hAr _ _) (j := i) (by rw [arrV_size]; exact Classical.byContradiction (ev_in_no hi)) (g := F0 m pc lsA (.int i :: .ref (φ a) :: r)) rfl (rest := r) rfl (by rw [hb]; exact hd) t
  simp only [arrV_size] at h1
  exact h1 stp
theorem vt_daload (hx : p.tables.exec = Jvm.exec) (hb : c.code = cd) (hTR : THR l R s meth c bs H0 nL) (hts : ∀ w ∈ lw_all, w.before args s = true) (hKK : KK D bs H0 s) (hd : decode cd pc = .ok (.daload, 1)) {i : Int32} {a : Nat} {ls st : List Value} {M : ev_M}
    (hk : mK M a = 43) (hi : ev_in i (mN M a) = false) (hn9 : mN M a ≤ 100000) (hw : ¬ 1000 < ev_w (.int i :: .ref a :: st)) (hRc : ncl M + 3 ≤ R.cells + c0) (hRs : nsl M + 310 ≤ R.slots + s0) (kk : WX p l e R s m args below meth c Q D bs H0 nL c0 s0 M0 φ0 ls (wX M 3 310) 3 pc) : WT p l e R s m args below meth c Q D bs H0 nL c0 s0 M0 φ0 (ls, .int i :: .ref a :: st, M) pc := by
  intro φ lsA stA H locs cells slots hE hn hR hL hS hl hc hs
  have hR : Rel D φ bs H0 M H := hR
  obtain ⟨iA, r, rfl, hi0, -, hS1⟩ := StR_cons hS
  obtain ⟨y, r, rfl, hy0, -, hS2⟩ := StR_cons hS1
  cases hi0
  have ey := kref hR hy0 (Or.inr (by rw [hk]; decide))
  subst ey
  have hcell := (hR.2.2.1 a).2.2.1 (by omega) (by omega)
  have hsum := StR_cat hS2
  have hw2 : ev_w st ≤ 1000 := by simp only [ev_w] at hw; omega
  have htx := idx_text i (mN M a) (by omega)
  have hnote := note_ok (rest := r) hx hTR hts hKK (k := 3) (by omega) htx.1 htx.2 hE hn hR hL hl hc hs (by omega) hRc hRs kk
  have hAr : ArrOfT s (D.2.2.1 (mK M a)) (.double) := by rw [hk]; exact (hKK.1.2 43 (by decide)).1
  intro T hT X
  obtain ⟨t, stp, q⟩ := hnote T hT X
  refine ⟨t, ?_, q⟩
  have h1 := X.daloadOut hx (by rw [hT]; exact hcell) (hAr _ _) (j := i) (by rw [arrV_size]; exact Classical.byContradiction (ev_in_no hi)) (g := F0 m pc lsA (.int i :: .ref (φ a) :: r)) rfl (rest := r) rfl (by rw [hb]; exact hd) t
  simp only [arrV_size] at h1
  exact h1 stp
theorem vt_iastore (hx : p.tables.exec = Jvm.exec) (hb : c.code = cd) (hTR : THR l R s meth c bs H0 nL) (hts : ∀ w ∈ lw_all, w.before args s = true) (hKK : KK D bs H0 s) (hd : decode cd pc = .ok (.iastore, 1)) {i : Int32} {a : Nat} {x : Int32} {ls st : List Value} {M : ev_M}
    (hk : mK M a = 40) (hi : ev_in i (mN M a) = false) (hn9 : mN M a ≤ 100000) (hw : ¬ 1000 < ev_w (.int x :: .int i :: .ref a :: st)) (hRc : ncl M + 3 ≤ R.cells + c0) (hRs : nsl M + 310 ≤ R.slots + s0) (kk : WX p l e R s m args below meth c Q D bs H0 nL c0 s0 M0 φ0 ls (wX M 3 310) 3 pc) : WT p l e R s m args below meth c Q D bs H0 nL c0 s0 M0 φ0 (ls, .int x :: .int i :: .ref a :: st, M) pc := by
  intro φ lsA stA H locs cells slots hE hn hR hL hS hl hc hs
  have hR : Rel D φ bs H0 M H := hR
  obtain ⟨xA, r, rfl, hx0, -, hSx⟩ := StR_cons hS
  cases hx0
  obtain ⟨iA, r, rfl, hi0, -, hS1⟩ := StR_cons hSx
  obtain ⟨y, r, rfl, hy0, -, hS2⟩ := StR_cons hS1
  cases hi0
  have ey := kref hR hy0 (Or.inr (by rw [hk]; decide))
  subst ey
  have hcell := (hR.2.2.1 a).2.2.1 (by omega) (by omega)
  have hsum := StR_cat hS2
  have hw2 : ev_w st ≤ 1000 := by simp only [ev_w] at hw; omega
  have htx := idx_text i (mN M a) (by omega)
  have hnote := note_ok (rest := r) hx hTR hts hKK (k := 3) (by omega) htx.1 htx.2 hE hn hR hL hl hc hs (by omega) hRc hRs kk
  have hAr : ArrOfT s (D.2.2.1 (mK M a)) (.int) := by rw [hk]; exact (hKK.1.2 40 (by decide)).1
  intro T hT X
  obtain ⟨t, stp, q⟩ := hnote T hT X
  refine ⟨t, ?_, q⟩
  have h1 := X.iastoreOut hx (by rw [hT]; exact hcell) (hAr _ _) (j := i) (by rw [arrV_size]; exact Classical.byContradiction (ev_in_no hi)) (g := F0 m pc lsA (.int x :: .int i :: .ref (φ a) :: r)) rfl (rest := r) rfl (by rw [hb]; exact hd) t
  simp only [arrV_size] at h1
  exact h1 stp
theorem vt_bastore (hx : p.tables.exec = Jvm.exec) (hb : c.code = cd) (hTR : THR l R s meth c bs H0 nL) (hts : ∀ w ∈ lw_all, w.before args s = true) (hKK : KK D bs H0 s) (hd : decode cd pc = .ok (.bastore, 1)) {i : Int32} {a : Nat} {x : Int32} {ls st : List Value} {M : ev_M}
    (hk : mK M a = 44) (hi : ev_in i (mN M a) = false) (hn9 : mN M a ≤ 100000) (hw : ¬ 1000 < ev_w (.int x :: .int i :: .ref a :: st)) (hRc : ncl M + 3 ≤ R.cells + c0) (hRs : nsl M + 310 ≤ R.slots + s0) (kk : WX p l e R s m args below meth c Q D bs H0 nL c0 s0 M0 φ0 ls (wX M 3 310) 3 pc) : WT p l e R s m args below meth c Q D bs H0 nL c0 s0 M0 φ0 (ls, .int x :: .int i :: .ref a :: st, M) pc := by
  intro φ lsA stA H locs cells slots hE hn hR hL hS hl hc hs
  have hR : Rel D φ bs H0 M H := hR
  obtain ⟨xA, r, rfl, hx0, -, hSx⟩ := StR_cons hS
  cases hx0
  obtain ⟨iA, r, rfl, hi0, -, hS1⟩ := StR_cons hSx
  obtain ⟨y, r, rfl, hy0, -, hS2⟩ := StR_cons hS1
  cases hi0
  have ey := kref hR hy0 (Or.inr (by rw [hk]; decide))
  subst ey
  have hcell := (hR.2.2.1 a).2.2.1 (by omega) (by omega)
  have hsum := StR_cat hS2
  have hw2 : ev_w st ≤ 1000 := by simp only [ev_w] at hw; omega
  have htx := idx_text i (mN M a) (by omega)
  have hnote := note_ok (rest := r) hx hTR hts hKK (k := 3) (by omega) htx.1 htx.2 hE hn hR hL hl hc hs (by omega) hRc hRs kk
  have hAr : ArrOfT s (D.2.2.1 (mK M a)) (.boolean) := by rw [hk]; exact (hKK.1.2 44 (by decide)).1
  intro T hT X
  obtain ⟨t, stp, q⟩ := hnote T hT X
  refine ⟨t, ?_, q⟩
  have h1 := X.bastoreOut hx (by rw [hT]; exact hcell) (hAr _ _) (j := i) (by rw [arrV_size]; exact Classical.byContradiction (ev_in_no hi)) (g := F0 m pc lsA (.int x :: .int i :: .ref (φ a) :: r)) rfl (rest := r) rfl (by rw [hb]; exact hd) t
  simp only [arrV_size] at h1
  exact h1 stp
theorem vt_sastore (hx : p.tables.exec = Jvm.exec) (hb : c.code = cd) (hTR : THR l R s meth c bs H0 nL) (hts : ∀ w ∈ lw_all, w.before args s = true) (hKK : KK D bs H0 s) (hd : decode cd pc = .ok (.sastore, 1)) {i : Int32} {a : Nat} {x : Int32} {ls st : List Value} {M : ev_M}
    (hk : mK M a = 46) (hi : ev_in i (mN M a) = false) (hn9 : mN M a ≤ 100000) (hw : ¬ 1000 < ev_w (.int x :: .int i :: .ref a :: st)) (hRc : ncl M + 3 ≤ R.cells + c0) (hRs : nsl M + 310 ≤ R.slots + s0) (kk : WX p l e R s m args below meth c Q D bs H0 nL c0 s0 M0 φ0 ls (wX M 3 310) 3 pc) : WT p l e R s m args below meth c Q D bs H0 nL c0 s0 M0 φ0 (ls, .int x :: .int i :: .ref a :: st, M) pc := by
  intro φ lsA stA H locs cells slots hE hn hR hL hS hl hc hs
  have hR : Rel D φ bs H0 M H := hR
  obtain ⟨xA, r, rfl, hx0, -, hSx⟩ := StR_cons hS
  cases hx0
  obtain ⟨iA, r, rfl, hi0, -, hS1⟩ := StR_cons hSx
  obtain ⟨y, r, rfl, hy0, -, hS2⟩ := StR_cons hS1
  cases hi0
  have ey := kref hR hy0 (Or.inr (by rw [hk]; decide))
  subst ey
  have hcell := (hR.2.2.1 a).2.2.1 (by omega) (by omega)
  have hsum := StR_cat hS2
  have hw2 : ev_w st ≤ 1000 := by simp only [ev_w] at hw; omega
  have htx := idx_text i (mN M a) (by omega)
  have hnote := note_ok (rest := r) hx hTR hts hKK (k := 3) (by omega) htx.1 htx.2 hE hn hR hL hl hc hs (by omega) hRc hRs kk
  have hAr : ArrOfT s (D.2.2.1 (mK M a)) (.short) := by rw [hk]; exact (hKK.1.2 46 (by decide)).1
  intro T hT X
  obtain ⟨t, stp, q⟩ := hnote T hT X
  refine ⟨t, ?_, q⟩
  have h1 := X.sastoreOut hx (by rw [hT]; exact hcell) (hAr _ _) (j := i) (by rw [arrV_size]; exact Classical.byContradiction (ev_in_no hi)) (g := F0 m pc lsA (.int x :: .int i :: .ref (φ a) :: r)) rfl (rest := r) rfl (by rw [hb]; exact hd) t
  simp only [arrV_size] at h1
  exact h1 stp
theorem vt_fastore (hx : p.tables.exec = Jvm.exec) (hb : c.code = cd) (hTR : THR l R s meth c bs H0 nL) (hts : ∀ w ∈ lw_all, w.before args s = true) (hKK : KK D bs H0 s) (hd : decode cd pc = .ok (.fastore, 1)) {i : Int32} {a : Nat} {x : UInt32} {ls st : List Value} {M : ev_M}
    (hk : mK M a = 42) (hi : ev_in i (mN M a) = false) (hn9 : mN M a ≤ 100000) (hw : ¬ 1000 < ev_w (.float x :: .int i :: .ref a :: st)) (hRc : ncl M + 3 ≤ R.cells + c0) (hRs : nsl M + 310 ≤ R.slots + s0) (kk : WX p l e R s m args below meth c Q D bs H0 nL c0 s0 M0 φ0 ls (wX M 3 310) 3 pc) : WT p l e R s m args below meth c Q D bs H0 nL c0 s0 M0 φ0 (ls, .float x :: .int i :: .ref a :: st, M) pc := by
  intro φ lsA stA H locs cells slots hE hn hR hL hS hl hc hs
  have hR : Rel D φ bs H0 M H := hR
  obtain ⟨xA, r, rfl, hx0, -, hSx⟩ := StR_cons hS
  cases hx0
  obtain ⟨iA, r, rfl, hi0, -, hS1⟩ := StR_cons hSx
  obtain ⟨y, r, rfl, hy0, -, hS2⟩ := StR_cons hS1
  cases hi0
  have ey := kref hR hy0 (Or.inr (by rw [hk]; decide))
  subst ey
  have hcell := (hR.2.2.1 a).2.2.1 (by omega) (by omega)
  have hsum := StR_cat hS2
  have hw2 : ev_w st ≤ 1000 := by simp only [ev_w] at hw; omega
  have htx := idx_text i (mN M a) (by omega)
  have hnote := note_ok (rest := r) hx hTR hts hKK (k := 3) (by omega) htx.1 htx.2 hE hn hR hL hl hc hs (by omega) hRc hRs kk
  have hAr : ArrOfT s (D.2.2.1 (mK M a)) (.float) := by rw [hk]; exact (hKK.1.2 42 (by decide)).1
  intro T hT X
  obtain ⟨t, stp, q⟩ := hnote T hT X
  refine ⟨t, ?_, q⟩
  have h1 := X.fastoreOut hx (by rw [hT]; exact hcell) (hAr _ _) (j := i) (by rw [arrV_size]; exact Classical.byContradiction (ev_in_no hi)) (g := F0 m pc lsA (.float x :: .int i :: .ref (φ a) :: r)) rfl (rest := r) rfl (by rw [hb]; exact hd) t
  simp only [arrV_size] at h1
  exact h1 stp
theorem vt_dastore (hx : p.tables.exec = Jvm.exec) (hb : c.code = cd) (hTR : THR l R s meth c bs H0 nL) (hts : ∀ w ∈ lw_all, w.before args s = true) (hKK : KK D bs H0 s) (hd : decode cd pc = .ok (.dastore, 1)) {i : Int32} {a : Nat} {x : UInt64} {ls st : List Value} {M : ev_M}
    (hk : mK M a = 43) (hi : ev_in i (mN M a) = false) (hn9 : mN M a ≤ 100000) (hw : ¬ 1000 < ev_w (.double x :: .int i :: .ref a :: st)) (hRc : ncl M + 3 ≤ R.cells + c0) (hRs : nsl M + 310 ≤ R.slots + s0) (kk : WX p l e R s m args below meth c Q D bs H0 nL c0 s0 M0 φ0 ls (wX M 3 310) 3 pc) : WT p l e R s m args below meth c Q D bs H0 nL c0 s0 M0 φ0 (ls, .double x :: .int i :: .ref a :: st, M) pc := by
  intro φ lsA stA H locs cells slots hE hn hR hL hS hl hc hs
  have hR : Rel D φ bs H0 M H := hR
  obtain ⟨xA, r, rfl, hx0, -, hSx⟩ := StR_cons hS
  cases hx0
  obtain ⟨iA, r, rfl, hi0, -, hS1⟩ := StR_cons hSx
  obtain ⟨y, r, rfl, hy0, -, hS2⟩ := StR_cons hS1
  cases hi0
  have ey := kref hR hy0 (Or.inr (by rw [hk]; decide))
  subst ey
  have hcell := (hR.2.2.1 a).2.2.1 (by omega) (by omega)
  have hsum := StR_cat hS2
  have hw2 : ev_w st ≤ 1000 := by simp only [ev_w] at hw; omega
  have htx := idx_text i (mN M a) (by omega)
  have hnote := note_ok (rest := r) hx hTR hts hKK (k := 3) (by omega) htx.1 htx.2 hE hn hR hL hl hc hs (by omega) hRc hRs kk
  have hAr : ArrOfT s (D.2.2.1 (mK M a)) (.double) := by rw [hk]; exact (hKK.1.2 43 (by decide)).1
  intro T hT X
  obtain ⟨t, stp, q⟩ := hnote T hT X
  refine ⟨t, ?_, q⟩
  have h1 := X.dastoreOut hx (by rw [hT]; exact hcell) (hAr _ _) (j := i) (by rw [arrV_size]; exact Classical.byContradiction (ev_in_no hi)) (g := F0 m pc lsA (.double x :: .int i :: .ref (φ a) :: r)) rfl (rest := r) rfl (by rw [hb]; exact hd) t
  simp only [arrV_size] at h1
  exact h1 stp
theorem vt_nas (hx : p.tables.exec = Jvm.exec) (hb : c.code = cd) (hTR : THR l R s meth c bs H0 nL) (hts : ∀ w ∈ lw_all, w.before args s = true) (hKK : KK D bs H0 s) {aty : ArrayType} (hd : decode cd pc = .ok (.newarray aty, 2)) {n : Int32} {ls st : List Value} {M : ev_M}
    (hneg : n.toInt < 0) (hw : ¬ 1000 < ev_w (.int n :: st)) (hRc : ncl M + 3 ≤ R.cells + c0) (hRs : nsl M + 310 ≤ R.slots + s0) (kk : WX p l e R s m args below meth c Q D bs H0 nL c0 s0 M0 φ0 ls (wX M 3 310) 5 pc) : WT p l e R s m args below meth c Q D bs H0 nL c0 s0 M0 φ0 (ls, .int n :: st, M) pc := by
  intro φ lsA stA H locs cells slots hE hn hR hL hS hl hc hs
  have hR : Rel D φ bs H0 M H := hR
  obtain ⟨iA, r, rfl, hi0, -, hS1⟩ := StR_cons hS
  cases hi0
  have hsum := StR_cat hS1
  have hw2 : ev_w st ≤ 1000 := by simp only [ev_w] at hw; omega
  have hlt : n < 0 := by rw [Int32.lt_iff_toInt_lt, Int32.toInt_zero]; exact hneg
  exact vx_newarrayZ hx hb hlt hd fun tx e => by
    subst e
    exact note_ok (rest := r) hx hTR hts hKK (k := 5) (by omega) (negative_text_modelled hlt) (Nat.le_trans (negative_text_bytes n) (by decide)) hE hn hR hL hl hc hs (by omega) hRc hRs kk
/-- a field of null -/
def LKfN (own : String) (idx : Nat) (ar : List Nat) : Prop := match ar with
  | 2 :: _ :: k :: q :: _ => ∃ ref name desc host, Cond.fieldLinkNest own idx ref name desc host ∈ lw_tbl ∧ (1 ≤ q ∧ q ≤ 21) ∧ k < (kz q).2.2 ∧ (((kz q).2.1 k).2.1 = name ∧ ((kz q).2.1 k).2.2.1 = desc) ∧ (((kz q).2.1 k).1 = ref ∨ Cond.sameField ref ((kz q).2.1 k).1 name desc ∈ lw_all)
  | 2 :: _ => False
  | _ => True
theorem vt_getN (hx : p.tables.exec = Jvm.exec) (hb : c.code = cd) (hTR : THR l R s meth c bs H0 nL) (hts : ∀ w ∈ lw_all, w.before args s = true) (hown : s.vm.findClass own = some m.cls) (hKK : KK D bs H0 s) {idx : Nat} {ar : List Nat} (hd : decode cd pc = .ok (.getfield idx, 3)) (hlk : LKfN own idx (2 :: ar)) {ls st : List Value} {M : ev_M}
    (hw : ¬ 1000 < ev_w (.ref 0 :: st)) (hRc : ncl M + 1 ≤ R.cells + c0) (hRs : nsl M + 8 ≤ R.slots + s0) (kk : WX p l e R s m args below meth c Q D bs H0 nL c0 s0 M0 φ0 ls (wX M 1 8) 1 pc) : WT p l e R s m args below meth c Q D bs H0 nL c0 s0 M0 φ0 (ls, .ref 0 :: st, M) pc := by
  intro φ lsA stA H locs cells slots hE hn hR hL hS hl hc hs
  have hR : Rel D φ bs H0 M H := hR
  obtain ⟨iA, r, rfl, hi0, -, hS1⟩ := StR_cons hS
  have ei : iA = .null := hi0
  subst ei
  have hsum := StR_cat hS1
  have hw2 : ev_w st ≤ 1000 := by simp only [ev_w] at hw; omega
  match ar, hlk with
  | [], h => exact h.elim
  | [_], h => exact h.elim
  | [_, _], h => exact h.elim
  | _ :: k :: q :: _, hlk =>
    obtain ⟨ref, name, desc, host, l1, q1, q2, q4, q5⟩ := hlk
    obtain ⟨cf, kf, i, f, hi, -, hsl, hst⟩ := kz_found hts hKK.1 q1 q2 q4 q5
    have hnote := npe_ok (rest := r) hx hTR hts hKK hE hn hR hL hl hc hs (by omega) hRc hRs kk
    intro T hT X
    obtain ⟨vm', X1, st1⟩ := X.getfieldNullNest hx hown (va_Nw.use (A := args) rfl (hKK.2.1 _ l1 rfl)) hi hst (g := F0 m pc lsA (.null :: r)) rfl (rest := r) rfl (by rw [hb]; exact hd)
    obtain ⟨t, stp, q⟩ := hnote (T.setVm vm') hT X1
    exact ⟨t, st1 t stp, q⟩
/-- a call on null -/
def LKvN (own : String) (idx n : Nat) : Prop := ∃ y b k r C, Cond.methodLink own idx y ∈ lw_all ∧ Cond.instanceMethod y ∈ lw_all ∧ Cond.code y b k r ∈ lw_all ∧ Cond.selects C y y ∈ lw_all ∧ noVH y.cls ∧ npar y.desc = some n
theorem vt_virtN (hx : p.tables.exec = Jvm.exec) (hb : c.code = cd) (hTR : THR l R s meth c bs H0 nL) (hts : ∀ w ∈ lw_all, w.before args s = true) (hown : s.vm.findClass own = some m.cls) (hKK : KK D bs H0 s) {idx n : Nat} (hd : decode cd pc = .ok (.invokevirtual idx, 3)) (hlk : LKvN own idx n) {ls st st' vs : List Value} {M : ev_M}
    (htk : ev_take (n + 1) [] st = some (.ref 0 :: vs, st')) (hw : ¬ 1000 < ev_w st) (hRc : ncl M + 1 ≤ R.cells + c0) (hRs : nsl M + 8 ≤ R.slots + s0) (kk : WX p l e R s m args below meth c Q D bs H0 nL c0 s0 M0 φ0 ls (wX M 1 8) 1 pc) : WT p l e R s m args below meth c Q D bs H0 nL c0 s0 M0 φ0 (ls, st, M) pc := by
  intro φ lsA stA H locs cells slots hE hn hR hL hS hl hc hs
  have hR : Rel D φ bs H0 M H := hR
  have hall := StR_cat hS
  obtain ⟨As, r, rfl, hlen, hSv, hSr⟩ := take_As htk hS
  obtain ⟨bA, As, rfl, hb0, -, hSa⟩ := StR_cons hSv
  have ei : bA = .null := hb0
  subst ei
  obtain ⟨y, b, k, rt, C, l1, l2, l3, l4, l5, l6⟩ := hlk
  have hsum : (r.map fun v => v.category).sum ≤ 1000 := by
    rw [List.map_append, List.sum_append] at hall
    dsimp only at hall
    omega
  have hnote := npe_ok (rest := r) hx hTR hts hKK hE hn hR hL hl hc hs hsum hRc hRs kk
  have hln2 : As.length = n := by simpa using hlen
  exact vx_invokeN hx hb hown (hts _ l1) (hts _ l2) (hts _ l3) (hts _ l4) l5 (As := As) (by rw [hln2]; exact l6) hd hnote (by simp)
/-- exception table -/
def XT (c : Code) (hh : Option (List (Nat × Nat × Nat × Nat))) : Prop := c.exceptionTable.toList = match hh with | none => [] | some hh => tableOf hh
def XPS (own : String) (pc k : Nat) (z : ExceptionTableEntry) : Prop := covers z pc = false ∨ (z.catchType ≠ 0 ∧ ∃ nm : String, Cond.classLink own z.catchType nm ∈ lw_all ∧ (exn k, nm) ∈ nc_prs)
/-- what the handlers' list says of the exception table at pc -/
def HOK (own : String) (hh : Option (List (Nat × Nat × Nat × Nat))) (y pc : Nat) (hs : List (Nat × Nat)) : Prop :=
  (hs.lookup 77).isSome = true ∨ ∀ k, 1 ≤ k → k ≤ 6 → match hs.lookup k with
    | some t => ∃ pre x suf name, (match hh with | none => [] | some hh => tableOf hh) = pre ++ x :: suf ∧ (∀ z ∈ pre, XPS own pc k z) ∧ covers x pc = true ∧ x.catchType ≠ 0 ∧ Cond.classLink own x.catchType name ∈ lw_all ∧ Cond.castable (exn k) name ∈ lw_tbl ∧ x.handlerPc < 4096 ∧ t = y * 4096 + x.handlerPc
    | none => ∀ z ∈ (match hh with | none => [] | some hh => tableOf hh), XPS own pc k z
theorem xps_ok (hts : ∀ w ∈ lw_all, w.before args s = true) (hKK : KK D bs H0 s) {k : Nat} {z : ExceptionTableEntry} (h : XPS own pc k z) : covers z pc = false ∨ (z.catchType ≠ 0 ∧ ∃ nm : String, (Cond.classLink own z.catchType nm).before args s = true ∧ va_Nc (exn k) nm s) := by
  rcases h with h | ⟨h1, nm, h2, h3⟩
  · exact Or.inl h
  · exact Or.inr ⟨h1, nm, hts _ h2, hKK.2.2.1 _ h3⟩
/-- an exception comes up: it is caught, or goes on -/
theorem wx_xc {P : ev_P} (hTR : THR l R s meth c bs H0 nL) (hts : ∀ w ∈ lw_all, w.before args s = true) (hown : s.vm.findClass own = some m.cls) (hKK : KK D bs H0 s) {hh : Option (List (Nat × Nat × Nat × Nat))} (hXT : XT c hh) {y : Nat} {hs : List (Nat × Nat)} (hH : HOK own hh y pc hs) {k : Nat} (hk : 1 ≤ k ∧ k ≤ 6) {ls : List Value} {M M' : ev_M} {o : Nat} {r : Value} {X : (ev_B × ev_S) ⊕ ev_O} (hX : ev_xc P hs ls k M = some X)
    (hin : ∀ tgt, tgt < 4096 → X = .inl (P.1 (y * 4096 + tgt), ls, [ek], M) → WT p l e R s m args below meth c (FQ below args s D bs H0 M0 φ0 o r M') D bs H0 nL (ncl M0) (nsl M0) M0 φ0 (ls, [ek], M) tgt)
    (hou : X = .inr (k + 1, ek, M) → o = k + 1 ∧ M' = M) : WX p l e R s m args below meth c (FQ below args s D bs H0 M0 φ0 o r M') D bs H0 nL (ncl M0) (nsl M0) M0 φ0 ls M k pc := by
  intro φ lsA stA H locs cells slots q ce hE hn hR hL hce hcv hcl hl hc hs1
  unfold ev_xc ev_hd at hX
  by_cases h77 : (hs.lookup 77).isSome = true
  · rw [if_pos h77] at hX; cases hX
  · rw [if_neg h77] at hX
    have hH := hH.resolve_left h77 k hk.1 hk.2
    cases hlk : hs.lookup k with
    | some t =>
      rw [hlk] at hX hH
      cases hX
      obtain ⟨pre, x, suf, name, e1, e2, e3, e4, e5, e6, e8, e7⟩ := hH
      subst e7
      have kk := hin x.handlerPc e8 rfl φ lsA [.ref q] H locs cells slots hE hn hR hL (StR.mk (v := ek) ⟨rfl, q, rfl⟩ trivial trivial) hl hc hs1
      exact vx_catch hown pre x suf (hXT.trans e1) (fun z hz => xps_ok hts hKK (e2 z hz)) e3 e4 (hts _ e5) (va_Nw.use rfl (hKK.2.1 _ e6 rfl)) hce hcv hcl kk
    | none =>
      rw [hlk] at hX hH
      cases hX
      obtain ⟨ho, hM⟩ := hou rfl
      subst ho
      subst hM
      have hc1 : cells ≤ ncl M' - ncl M0 := by have h : cells + ncl M0 = ncl M' := hc; omega
      have hs2 : slots ≤ nsl M' - nsl M0 := by have h : slots + nsl M0 = nsl M' := hs1; omega
      exact vx_outP hown hTR.2.2.1 (fun z hz => xps_ok hts hKK (hH z (by rw [← hXT]; exact hz))) hce hcv hcl (fun t ht _ => ⟨hn, k, φ, rfl, rfl, hE, by rw [ht]; exact hR⟩) hl hc1 hs2
end
