/-! THE RELATION between the abstract memory and the machine's heap -/
/-- types by numbers -/
def tyc : FieldType → Nat
  | .long => 1
  | .float => 2
  | .double => 3
  | .object _ => 4
  | .array _ => 4
  | .boolean => 5
  | .byte => 6
  | _ => 0
def kft (t k : Nat) : Nat := tyc (kty t k)
/-- elements of an array by its kind -/
def kat (t : Nat) : Nat := if t = 41 then 1 else if t = 42 then 2 else if t = 43 then 3 else if (48 ≤ t ∧ t ≤ 52) ∨ t = 66 then 4 else 0
def katy (t : Nat) : FieldType := match t with
  | 41 => .long
  | 42 => .float
  | 43 => .double
  | 44 => .boolean
  | 45 => .byte
  | 46 => .short
  | 48 => .object "java/lang/Object"
  | 49 => .object "java/util/HashMap$Node"
  | 50 => .object "StrideTurns$Row"
  | 51 => .object "StrideTurns$Turn"
  | 52 => .object "StrideTurns$Reference"
  | 65 => .byte
  | 66 => .object "java/lang/Object"
  | _ => .int
def kcap (t : Nat) : List Nat := ev_prog.2.2.1 t
/-- class numbers, slots, array classes, lambdas' classes, constants' addresses -/
abbrev rl_D : Type := (Nat → ClassId) × (Nat → Nat → Nat) × (Nat → ClassId) × (Nat → ClassId) × (Nat → Nat)
/-- a reference, by the addresses -/
def crf (φ : Nat → Nat) (r : Nat) : Value := if r = 0 then .null else .ref (φ r)
def fv (φ : Nat → Nat) (M : ev_M) (c n k : Nat) : Value := match c with
  | 1 => .long (mL M n k)
  | 2 => .float (mF M n k)
  | 3 => .double (mD M n k)
  | 4 => crf φ (mA M n k)
  | _ => .int (mI M n k)
/-- an array that is only read -/
def ARw (c : ClassId) (n : Nat) (F : Nat → Value) (cell : Cell) : Prop := cell.cls = c ∧ cell.vm.isStatics = false ∧ cell.vm ≠ .unknown ∧ n ≤ cell.slots.size ∧ cell.slots.size.toInt32 = Int32.ofNat n ∧ ∀ j, j < n → cell.slots[j]? = some (F j)
/-- an object that is only read -/
def OBw (o : Nat) (cC : ClassId) (N : Nat) (iS : Nat → Nat) (H : Heap) (V : Nat → Value) : Prop := ∃ cell : Cell, H[o]? = some cell ∧ cell.cls = cC ∧ cell.vm.isStatics = false ∧ cell.vm ≠ .unknown ∧ ∀ k, k < N → cell.slots[iS k]? = some (V k)
theorem OBw.of {o : Nat} {cC : ClassId} {N : Nat} {iS : Nat → Nat} {H : Heap} {V : Nat → Value} (h : t_OB o cC N iS H V) : OBw o cC N iS H V := by
  obtain ⟨cell, g1, g2, g3, g4⟩ := h
  exact ⟨cell, g1, g2, by rw [g3]; rfl, by rw [g3]; exact fun q => (by cases q), g4⟩
theorem OBw.mv {o o' : Nat} {cC : ClassId} {N : Nat} {iS : Nat → Nat} {H H1 : Heap} {V V' : Nat → Value} (h : OBw o cC N iS H V) (h1 : H1[o']? = H[o]?) (hv : ∀ k, V' k = V k) : OBw o' cC N iS H1 V' := by
  obtain ⟨cell, g1, g2, g3, g4, g5⟩ := h
  exact ⟨cell, by rw [h1]; exact g1, g2, g3, g4, fun k hk => by rw [hv k]; exact g5 k hk⟩
theorem ARw.of {c : ClassId} {n : Nat} {F : Nat → Value} : ARw c n F (arrV c n F) :=
  ⟨rfl, rfl, fun q => (by cases q), by rw [arrV_size]; exact Nat.le_refl n, by rw [arrV_size], fun j hj => arrV_read _ _ hj⟩
theorem ARw.to {c : ClassId} {n : Nat} {F F' : Nat → Value} {cell : Cell} (h : ARw c n F cell) (hF : ∀ j, F' j = F j) : ARw c n F' cell :=
  ⟨h.1, h.2.1, h.2.2.1, h.2.2.2.1, h.2.2.2.2.1, fun j hj => by rw [hF j]; exact h.2.2.2.2.2 j hj⟩
/-- the cell of a reference -/
def CR (D : rl_D) (φ : Nat → Nat) (M : ev_M) (H : Heap) (n : Nat) : Prop :=
  (1 ≤ mK M n → mK M n ≤ 30 → mK M n ≠ 16 → t_OB (φ n) (D.1 (mK M n)) (kz (mK M n)).2.2 (D.2.1 (mK M n)) H (fun k => fv φ M (kft (mK M n) k) n k)) ∧
  (mK M n = 16 → OBw (φ n) (D.1 (mK M n)) (kz (mK M n)).2.2 (D.2.1 (mK M n)) H (fun k => fv φ M (kft (mK M n) k) n k)) ∧
  (40 ≤ mK M n → mK M n < 60 → H[φ n]? = some (arrV (D.2.2.1 (mK M n)) (mN M n) (fun j => fv φ M (kat (mK M n)) n j))) ∧
  (60 ≤ mK M n → mK M n < 70 → ∃ cell : Cell, H[φ n]? = some cell ∧ ARw (D.2.2.1 (mK M n)) (mN M n) (fun j => fv φ M (kat (mK M n)) n j) cell) ∧
  (100 ≤ mK M n → ∃ cell : Cell, H[φ n]? = some cell ∧ cell.cls = D.2.2.2.1 (mK M n) ∧ cell.vm = .none ∧ ∀ k c, (kcap (mK M n))[k]? = some c → cell.slots[k]? = some (fv φ M c n k))
theorem CR.ob {D : rl_D} {φ : Nat → Nat} {M : ev_M} {H : Heap} {n : Nat} (h : CR D φ M H n) (h1 : 1 ≤ mK M n) (h2 : mK M n ≤ 30) : OBw (φ n) (D.1 (mK M n)) (kz (mK M n)).2.2 (D.2.1 (mK M n)) H (fun k => fv φ M (kft (mK M n) k) n k) := by
  by_cases h3 : mK M n = 16
  · exact h.2.1 h3
  · exact OBw.of (h.1 h1 h2 h3)
theorem CR.ar {D : rl_D} {φ : Nat → Nat} {M : ev_M} {H : Heap} {n : Nat} (h : CR D φ M H n) (h1 : 40 ≤ mK M n) (h2 : mK M n < 70) : ∃ cell : Cell, H[φ n]? = some cell ∧ ARw (D.2.2.1 (mK M n)) (mN M n) (fun j => fv φ M (kat (mK M n)) n j) cell := by
  by_cases h3 : mK M n < 60
  · exact ⟨_, h.2.2.1 h1 h3, ARw.of⟩
  · exact h.2.2.2.1 (by omega) h2
/-- all refs are of this memory's -/
def WFM (M : ev_M) : Prop := 0 < nx M ∧ (∀ a k, mA M a k < nx M) ∧ (∀ k, mS M k < nx M) ∧ (∀ n, mK M n ≠ 0 → 1 ≤ n ∧ n < nx M)
/-- booleans, bytes, shorts in their arrays are such -/
def FT (M : ev_M) : Prop := ∀ n, (mK M n = 44 ∨ mK M n = 45 ∨ mK M n = 46) → ∀ j, fits (katy (mK M n)) (.int (mI M n j)) = true
def Rel (D : rl_D) (φ : Nat → Nat) (bs : Nat) (H0 : Heap) (M : ev_M) (H : Heap) : Prop :=
  WFM M ∧ (∀ n, mK M n ≠ 0 → φ n < H.size) ∧ (∀ n, CR D φ M H n) ∧
  (∀ n, ev_own (mK M n) = true → bs ≤ φ n ∧ ∀ k, mK M k ≠ 0 → φ k = φ n → k = n) ∧
  (bs ≤ H.size ∧ ∀ q, q < bs → H[q]? = H0[q]?) ∧ (∀ k, k < 60 → 1 ≤ mS M k ∧ φ (mS M k) = D.2.2.2.2 k) ∧ FT M
/-- a value and the machine's -/
def VR (φ : Nat → Nat) (v vA : Value) : Prop := match v with
  | .int x => vA = .int x
  | .long x => vA = .long x
  | .float x => vA = .float x
  | .double x => vA = .double x
  | .ref n => vA = crf φ n
  | .retAddr k => k = 1 ∧ ∃ q, vA = .ref q
  | .null => False
def wfv (M : ev_M) (v : Value) : Prop := match v with
  | .ref n => n < nx M
  | _ => True
def LocR (φ : Nat → Nat) (M : ev_M) (ls : List Value) (lsA : Array Slot) (nL : Nat) : Prop :=
  ls.length = nL ∧ ∃ l, lv_has lsA nL l ∧ ∀ i v, ls[i]? = some v → v ≠ jk → wfv M v ∧ ∃ vA, VR φ v vA ∧ (i, vA) ∈ l
def StR (φ : Nat → Nat) (M : ev_M) : List Value → List Value → Prop
  | [], [] => True
  | v :: st, a :: sa => (VR φ v a ∧ wfv M v) ∧ StR φ M st sa
  | _, _ => False
/-- addresses go on -/
def Ext (M : ev_M) (φ φ' : Nat → Nat) : Prop := ∀ n, n < nx M → φ' n = φ n
theorem crf_ext {M : ev_M} {φ φ' : Nat → Nat} (h : Ext M φ φ') {r : Nat} (hr : r < nx M) : crf φ' r = crf φ r := by
  unfold crf
  rw [h r hr]
theorem VR_ext {M : ev_M} {φ φ' : Nat → Nat} (h : Ext M φ φ') {v a : Value} (hv : VR φ v a) (hw : wfv M v) : VR φ' v a := by
  cases v with
  | ref n =>
    show a = crf φ' n
    rw [crf_ext h hw]
    exact hv
  | int x => exact hv
  | long x => exact hv
  | float x => exact hv
  | double x => exact hv
  | null => exact hv
  | retAddr k => exact hv
theorem wfv_mono {M M' : ev_M} (h : nx M ≤ nx M') {v : Value} (hw : wfv M v) : wfv M' v := by
  cases v <;> first | trivial | skip
  · exact Nat.lt_of_lt_of_le hw h
theorem StR_ext {M M' : ev_M} {φ φ' : Nat → Nat} (h : Ext M φ φ') (hn : nx M ≤ nx M') : ∀ {st sa : List Value}, StR φ M st sa → StR φ' M' st sa
  | [], [], _ => trivial
  | v :: st, a :: sa, hs => ⟨⟨VR_ext h hs.1.1 hs.1.2, wfv_mono hn hs.1.2⟩, StR_ext h hn hs.2⟩
  | [], _ :: _, hs => hs.elim
  | _ :: _, [], hs => hs.elim
theorem LocR_ext {M M' : ev_M} {φ φ' : Nat → Nat} (h : Ext M φ φ') (hn : nx M ≤ nx M') {ls : List Value} {lsA : Array Slot} {nL : Nat} (hl : LocR φ M ls lsA nL) : LocR φ' M' ls lsA nL := by
  obtain ⟨h0, l, h1, h2⟩ := hl
  refine ⟨h0, l, h1, fun i v hi hj => ?_⟩
  obtain ⟨a, b, c, d⟩ := h2 i v hi hj
  exact ⟨wfv_mono hn a, b, VR_ext h c a, d⟩
theorem Ext.rf {M : ev_M} {φ : Nat → Nat} : Ext M φ φ := fun _ _ => rfl
theorem StR_cat {φ : Nat → Nat} {M : ev_M} : ∀ {st sa : List Value}, StR φ M st sa → (sa.map fun v => v.category).sum ≤ ev_w st
  | [], [], _ => Nat.le_refl _
  | v :: st, a :: sa, hs => by
    have h1 := StR_cat hs.2
    have h2 : a.category ≤ (if ev_cat2 v = true then 2 else 1) := by
      obtain ⟨⟨h, -⟩, -⟩ := hs
      cases v with
      | int x => cases h; simp [ev_cat2, Value.category]
      | long x => cases h; simp [ev_cat2, Value.category]
      | float x => cases h; simp [ev_cat2, Value.category]
      | double x => cases h; simp [ev_cat2, Value.category]
      | null => exact h.elim
      | ref n =>
        have h : a = crf φ n := h
        subst h
        unfold crf
        split <;> simp [ev_cat2, Value.category]
      | retAddr n => obtain ⟨-, k, rfl⟩ := h; simp [ev_cat2, Value.category]
    simp only [List.map_cons, List.sum_cons, ev_w]
    omega
  | [], _ :: _, hs => hs.elim
  | _ :: _, [], hs => hs.elim
/-- rows of the memory -/
def Row (M M' : ev_M) (n : Nat) : Prop := mI M' n = mI M n ∧ mL M' n = mL M n ∧ mF M' n = mF M n ∧ mD M' n = mD M n ∧ mA M' n = mA M n
theorem fv_row {φ : Nat → Nat} {M M' : ev_M} {n : Nat} (h : Row M M' n) (c k : Nat) : fv φ M' c n k = fv φ M c n k := by
  obtain ⟨h1, h2, h3, h4, h5⟩ := h
  unfold fv
  split <;> simp only [h1, h2, h3, h4, h5]
theorem CR_same {D : rl_D} {φ : Nat → Nat} {M M' : ev_M} {H H' : Heap} {n : Nat} (h : CR D φ M H n) (hk : mK M' n = mK M n) (hn : mN M' n = mN M n) (hr : Row M M' n) (hH : H'[φ n]? = H[φ n]?) : CR D φ M' H' n := by
  unfold CR at h ⊢
  rw [hk, hn]
  refine ⟨fun a b z => ?_, fun a => ?_, fun a b => ?_, fun a b => ?_, fun a => ?_⟩
  · have h1 := (h.1 a b z).kept hH
    exact h1.to fun k _ => (fv_row hr _ _).symm
  · exact (h.2.1 a).mv hH fun k => fv_row hr _ _
  · rw [hH, h.2.2.1 a b]
    congr 2
    funext j
    exact (fv_row hr _ _).symm
  · obtain ⟨cell, q1, q2⟩ := h.2.2.2.1 a b
    exact ⟨cell, by rw [hH]; exact q1, q2.to fun j => fv_row hr _ _⟩
  · obtain ⟨cell, q1, q2, q3, q4⟩ := h.2.2.2.2 a
    exact ⟨cell, by rw [hH]; exact q1, q2, q3, fun k c hc => by rw [fv_row hr]; exact q4 k c hc⟩
/-- one cell of ours is written -/
theorem Rel.upd {D : rl_D} {φ : Nat → Nat} {bs : Nat} {H0 H H' : Heap} {M M' : ev_M} {n : Nat} (h : Rel D φ bs H0 M H) (hown : ev_own (mK M n) = true)
    (hk : mK M' = mK M) (hN : mN M' = mN M) (hx : nx M' = nx M) (hS : mS M' = mS M) (hwf : ∀ a k, mA M' a k < nx M) (hr : ∀ m, m ≠ n → Row M M' m)
    (hsz : H'.size = H.size) (hoth : ∀ q, q ≠ φ n → H'[q]? = H[q]?) (hc : CR D φ M' H' n) (hft : (mK M n = 44 ∨ mK M n = 45 ∨ mK M n = 46) → ∀ j, fits (katy (mK M n)) (.int (mI M' n j)) = true) : Rel D φ bs H0 M' H' := by
  obtain ⟨⟨w1, w2, w3, w4⟩, r1, r2, r3, ⟨r4, r5⟩, r6, r7⟩ := h
  have hn0 : 1 ≤ n ∧ n < nx M := w4 n (fun q => by rw [q] at hown; exact absurd hown (by decide))
  refine ⟨⟨by rw [hx]; exact w1, by rw [hx]; exact hwf, by rw [hx, hS]; exact w3, by rw [hk, hx]; exact w4⟩, by rw [hk, hsz]; exact r1, fun m => ?_, by rw [hk]; exact r3, ⟨by rw [hsz]; exact r4, fun q hq => ?_⟩, by rw [hS]; exact r6, fun m hm j => ?_⟩
  · by_cases hm : m = n
    · rw [hm]; exact hc
    · by_cases h0 : mK M m = 0
      · have h0' : mK M' m = 0 := by rw [hk]; exact h0
        unfold CR
        rw [h0']
        exact ⟨fun a => absurd a (by decide), fun a => absurd a (by decide), fun a => absurd a (by decide), fun a => absurd a (by decide), fun a => absurd a (by decide)⟩
      · exact CR_same (r2 m) (by rw [hk]) (by rw [hN]) (hr m hm) (hoth _ (fun e => hm ((r3 n hown).2 m h0 e)))
  · rw [hoth q (fun e => absurd (r3 n hown).1 (by omega))]
    exact r5 q hq
  · rw [hk] at hm ⊢
    by_cases e : m = n
    · rw [e] at hm ⊢; exact hft hm j
    · rw [(hr m e).1]; exact r7 m hm j
