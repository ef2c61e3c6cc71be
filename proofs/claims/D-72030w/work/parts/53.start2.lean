/-! THE START: the memory (by gen/start2.py) -/
set_option maxRecDepth 100000
def lm_q (k : Nat) : Nat := if k ≤ 42 then k - 13 else k - 12
theorem st_q1 : (List.range 31).all (fun i => decide (1 ≤ lm_q (i + 14) ∧ lm_q (i + 14) ≤ 41) && ((lm_g (lm_q (i + 14))).2.2.2.captured.isEmpty && (kcap (100 + lm_q (i + 14))).isEmpty)) = true := by decide +kernel
theorem st_q2 : (List.range 41).all (fun i => !(lm_g (i + 1)).2.2.2.captured.isEmpty || decide (14 ≤ lm_c (i + 1) ∧ lm_c (i + 1) < 45 ∧ lm_q (lm_c (i + 1)) = i + 1)) = true := by decide +kernel
def st_K (n : Nat) : Nat := if n = 0 then 0 else if n ≤ 14 then 16 else if n ≤ 45 then 100 + lm_q (n - 1) else if n = 46 then 66 else if n = 48 then 66 else if n = 49 then 60 else if n ≤ 60 then 0 else if n ≤ 74 then 65 else if n = 75 then 61 else 0
def st_N (L n : Nat) : Nat := if n = 49 then 3 else if n ≤ 60 then 0 else if n ≤ 74 then st_len.getD (n - 61) 0 else if n = 75 then L else 0
def st_I (xs : Nat → Int32) (n k : Nat) : Int32 := if n = 0 then 0 else if n ≤ 14 then (if k = 2 then st_hsh.getD (n - 1) 0 else 0) else if n = 49 then ([1, 2, 0] : List Int32).getD k 0 else if n ≤ 60 then 0 else if n ≤ 74 then (st_byt.getD (n - 61) []).getD k 0 else if n = 75 then xs k else 0
def st_A (n k : Nat) : Nat := if 1 ≤ n ∧ n ≤ 14 ∧ k = 0 then n + 60 else 0
/-- the memory at the law's entry: the constants k at k + 1, the strings' bytes from 61 on, the script at 75 -/
def st_M (L : Nat) (xs : Nat → Int32) : ev_M := (st_K, st_N L, st_I xs, fun _ _ => 0, fun _ _ => 0, fun _ _ => 0, st_A, 76, 0, 0, fun k => if k < 60 then k + 1 else 0)
def st_φ (C adV : Nat → Nat) (b n : Nat) : Nat := if n ≤ 60 then C (n - 1) else if n ≤ 74 then adV (n - 61) else b
theorem stK_16 {n : Nat} (h1 : 1 ≤ n) (h2 : n ≤ 14) : st_K n = 16 := by unfold st_K; rw [if_neg (by omega), if_pos h2]
theorem stK_lm {n : Nat} (h1 : 15 ≤ n) (h2 : n ≤ 45) : st_K n = 100 + lm_q (n - 1) := by unfold st_K; rw [if_neg (by omega), if_neg (by omega), if_pos h2]
theorem stK_0 {n : Nat} (h : n = 0 ∨ n = 47 ∨ (50 ≤ n ∧ n ≤ 60) ∨ 76 ≤ n) : st_K n = 0 := by
  unfold st_K
  rcases h with h | h | h | h
  · rw [if_pos h]
  · rw [if_neg (by omega), if_neg (by omega), if_neg (by omega), if_neg (by omega), if_neg (by omega), if_neg (by omega), if_pos (by omega)]
  · rw [if_neg (by omega), if_neg (by omega), if_neg (by omega), if_neg (by omega), if_neg (by omega), if_neg (by omega), if_pos (by omega)]
  · rw [if_neg (by omega), if_neg (by omega), if_neg (by omega), if_neg (by omega), if_neg (by omega), if_neg (by omega), if_neg (by omega), if_neg (by omega), if_neg (by omega)]
theorem stK_65 {n : Nat} (h1 : 61 ≤ n) (h2 : n ≤ 74) : st_K n = 65 := by unfold st_K; rw [if_neg (by omega), if_neg (by omega), if_neg (by omega), if_neg (by omega), if_neg (by omega), if_neg (by omega), if_neg (by omega), if_pos h2]
theorem stK_no {n : Nat} : ev_own (st_K n) = false ∧ ¬ (st_K n = 44 ∨ st_K n = 45 ∨ st_K n = 46) := by
  unfold st_K
  repeat' split
  all_goals first | decide | skip
  have : ∀ k, ev_own (100 + k) = false ∧ ¬ (100 + k = 44 ∨ 100 + k = 45 ∨ 100 + k = 46) := fun k => ⟨by unfold ev_own; simp; omega, by omega⟩
  exact this _
theorem stK_lt {n : Nat} (h : st_K n ≠ 0) : 1 ≤ n ∧ n < 76 := by
  constructor
  · rcases Nat.eq_zero_or_pos n with e | e
    · exact absurd (stK_0 (Or.inl e)) h
    · exact e
  · rcases Nat.lt_or_ge n 76 with e | e
    · exact e
    · exact absurd (stK_0 (Or.inr (Or.inr (Or.inr e)))) h
section
variable {args : Array Value} {s : State} {D : rl_D} {φ : Nat → Nat} {M : ev_M} {H : Heap} {n : Nat}
theorem CR_0 (hk : mK M n = 0) : CR D φ M H n := by
  unfold CR
  rw [hk]
  exact ⟨fun a => absurd a (by decide), fun a => absurd a (by decide), fun a => absurd a (by decide), fun a => absurd a (by decide), fun a => absurd a (by decide)⟩
theorem CR_16 (hk : mK M n = 16) (h : OBw (φ n) (D.1 16) (kz 16).2.2 (D.2.1 16) H (fun k => fv φ M (kft 16 k) n k)) : CR D φ M H n := by
  unfold CR
  rw [hk]
  exact ⟨fun _ _ a => absurd rfl a, fun _ => h, fun a => absurd a (by decide), fun a => absurd a (by decide), fun a => absurd a (by decide)⟩
theorem CR_60 {t : Nat} (hk : mK M n = t) (h1 : 60 ≤ t) (h2 : t < 70) (h : ∃ cell : Cell, H[φ n]? = some cell ∧ ARw (D.2.2.1 t) (mN M n) (fun j => fv φ M (kat t) n j) cell) : CR D φ M H n := by
  unfold CR
  rw [hk]
  exact ⟨fun _ a => absurd a (by omega), fun a => absurd a (by omega), fun _ a => absurd a (by omega), fun _ _ => h, fun a => absurd a (by omega)⟩
theorem CR_100 {q : Nat} (hk : mK M n = 100 + q) (hc : kcap (100 + q) = []) (h : ∃ cell : Cell, H[φ n]? = some cell ∧ cell.cls = D.2.2.2.1 (100 + q) ∧ cell.vm = .none) : CR D φ M H n := by
  unfold CR
  rw [hk]
  obtain ⟨cell, h1, h2, h3⟩ := h
  exact ⟨fun _ a => absurd a (by omega), fun a => absurd a (by omega), fun _ a => absurd a (by omega), fun _ a => absurd a (by omega), fun _ => ⟨cell, h1, h2, h3, fun k c hk => by rw [hc] at hk; simp at hk⟩⟩
theorem st_fld {o n d : String} {v : Value} {t i : Nat} {A : Nat → Prop} (h : va_OF o n d v t A s s.heap) (hsl : SlotIs s o n d i) {cell : Cell} (hc : s.heap[t]? = some cell) : cell.slots[i]? = some v ∧ cell.vm ≠ .unknown := by
  obtain ⟨cf, k, fi, f, c2, h1, h2, h3, h4, h5, h6⟩ := h
  obtain ⟨cf', kf', fi', fd', e1, e2⟩ := hsl
  cases h1.symm.trans e1
  cases h3.symm.trans hc
  rw [← e2]
  exact ⟨h5, h4⟩
theorem st_isr {t : Term} {C : String} (h : (Cond.exactly t C).before args s = true) : (Cond.isRef t).before args s = true := by
  obtain ⟨a, c, cell, k, h1, -⟩ := Cond.exactly_spec h
  simp [Cond.before, Cond.holds, Cond.value, h1]
theorem st_nost {cell : Cell} {ty : FieldType} (h : s.isArrayOf cell ty) : cell.vm.isStatics = false := by
  have h1 := h.1
  cases hv : cell.vm <;> first | rfl | exact absurd hv (h1 _)
/-- an array that the start says of -/
theorem st_arw {ty : FieldType} {t N : Nat} {f : Nat → Value} {A : Nat → Prop} (h : va_T ty t N f A s s.heap) {c : ClassId} (hc : ∀ cell, s.heap[t]? = some cell → cell.cls = c) {F : Nat → Value} (hF : ∀ j, j < N → F j = f j) : ∃ cell : Cell, s.heap[t]? = some cell ∧ ARw c N F cell := by
  obtain ⟨cell, h1, h2, h3, h4, h5, h6, -⟩ := h
  exact ⟨cell, h1, hc cell h1, st_nost h2, h3, h4, h5, fun j hj => by rw [hF j hj]; exact h6 j hj⟩
set_option maxHeartbeats 4000000 in
theorem st_ok {b L : Nat} {xs : Nat → Int32} (hargs : args = #[.ref b]) (hL : L ≤ 144) (hts : ∀ w ∈ lw_tbl, w.before args s = true) (hgv : st_T.before args s = true) (hX : va_X b L xs s s.heap) (hb : b < s.heap.size) :
    ∃ (D : rl_D) (φ : Nat → Nat), Rel D φ s.heap.size s.heap (st_M L xs) s.heap ∧ KK D s.heap.size s.heap s ∧ φ 75 = b := by
  have hs := flat_of_before _ hgv
  have hA : ∀ a : Nat, a < s.heap.size → ¬ s.heap.size ≤ a := fun a ha => Nat.not_le_of_lt ha
  obtain ⟨fa, hfa⟩ := st_arr hts
  obtain ⟨fk, hfk⟩ := st_kz hts
  obtain ⟨fz, hfz⟩ := st_site hgv
  obtain ⟨adK, adV, hS, hev⟩ := st_str hgv
  obtain ⟨od, hod, hodT⟩ := va_Tof (args := args) (s := s) (tm := .static "StrideTurns" "ORDER" "[I") (ty := .int) (N := 3) (f := fun j => .int (([1, 2, 0] : List Int32).getD j 0)) (A := (s.heap.size ≤ ·)) (by decide) (hs _ (by decide +kernel)) (va_eqt (hs _ (by decide +kernel)))
    (fun j hj => match j, hj with
      | 0, _ => va_eqt (hs _ (by decide +kernel))
      | 1, _ => va_eqt (hs _ (by decide +kernel))
      | 2, _ => va_eqt (hs _ (by decide +kernel))
      | n + 3, h => absurd h (by omega)) hA
  obtain ⟨e1, he1, he1T⟩ := va_Tof (args := args) (s := s) (tm := .static "java/util/ArrayList" "EMPTY_ELEMENTDATA" "[Ljava/lang/Object;") (ty := .object "java/lang/Object") (N := 0) (f := fun _ => .null) (A := (s.heap.size ≤ ·)) (by decide) (hs _ (by decide +kernel)) (va_eqt (hs _ (by decide +kernel))) (fun j hj => absurd hj (by omega)) hA
  obtain ⟨e2, he2, he2T⟩ := va_Tof (args := args) (s := s) (tm := .static "java/util/ArrayList" "DEFAULTCAPACITY_EMPTY_ELEMENTDATA" "[Ljava/lang/Object;") (ty := .object "java/lang/Object") (N := 0) (f := fun _ => .null) (A := (s.heap.size ≤ ·)) (by decide) (hs _ (by decide +kernel)) (va_eqt (hs _ (by decide +kernel))) (fun j hj => absurd hj (by omega)) hA
  obtain ⟨mi, hmi⟩ := va_Mi.of (args := args) (s := s) (C := "[Ljava/lang/Object;") (hs _ (by decide +kernel))
  obtain ⟨odc, hodc, hodA⟩ := hodT
  obtain ⟨scr, hscr, hscrA, hscrU, hscrN, hscrV⟩ := hX
  let C : Nat → Nat := fun k => if k < 14 then adK k else if k < 45 then (fz (lm_q k)).2 else if k = 45 then e1 else if k = 46 then mi else if k = 47 then e2 else if k = 48 then od else b
  let dA : Nat → ClassId := fun t => if t = 60 then odc.cls else if t = 61 then scr.cls else if t = 65 then fa 45 else if t = 66 then fa 48 else fa t
  let D : rl_D := (fun t => (fk t).1, fun t => (fk t).2, dA, fun t => (fz (t - 100)).1, C)
  have hC1 : ∀ k, k < 14 → C k = adK k := fun k hk => if_pos hk
  have hC2 : ∀ k, 14 ≤ k → k < 45 → C k = (fz (lm_q k)).2 := fun k h1 h2 => by
    show (if k < 14 then adK k else if k < 45 then (fz (lm_q k)).2 else _) = _
    rw [if_neg (by omega), if_pos h2]
  have hclsB : ∀ i, i < 14 → ∀ cell, s.heap[adV i]? = some cell → cell.cls = fa 45 := by
    intro i hi cell hcell
    have h := st_all st_s5 hi
    simp only [Bool.and_eq_true, decide_eq_true_eq] at h
    obtain ⟨a, c, c2, k, q1, q2, q3, -, -, q5, -⟩ := Cond.exactly_spec (hs _ h.2.2)
    have h1 : va_OF "java/lang/String" "value" "[B" (.ref a) (adK i) (s.heap.size ≤ ·) s s.heap := vk_OFof (hev i hi) q1 hA
    obtain ⟨cf, kk, fi, f, cA, g1, -, g3, -, g5, -⟩ := (hS.1 i hi).2.2.1
    obtain ⟨cf', kk', fi', f', cA', g1', -, g3', -, g5', -⟩ := h1
    cases g1.symm.trans g1'
    cases g3.symm.trans g3'
    cases Option.some.inj (g5.symm.trans g5')
    cases hcell.symm.trans q3
    have h2 : s.vm.findClass ("[" ++ FieldType.byte.toString) = some (fa 45) := (hfa 45 (by decide)).2
    rw [show "[" ++ FieldType.byte.toString = "[B" by decide +kernel] at h2
    rw [q5]
    exact Option.some.inj (q2.symm.trans h2)
  have hclsO : ∀ (t : Term) (a : Nat), (Cond.exactly t "[Ljava/lang/Object;").before args s = true → t.eval args s none [] s = some (.ref a) → ∀ cell, s.heap[a]? = some cell → cell.cls = fa 48 := by
    intro t a h ht cell hcell
    obtain ⟨a', c, c2, k, q1, q2, q3, -, -, q5, -⟩ := Cond.exactly_spec h
    cases Option.some.inj (ht.symm.trans q1)
    cases hcell.symm.trans q3
    have h2 := (hfa 48 (by decide)).2
    obtain ⟨kA, comp, -, -, -, h3⟩ := h2
    rw [show "[" ++ (FieldType.object "java/lang/Object").toString = "[Ljava/lang/Object;" by decide +kernel] at h3
    rw [q5]
    exact Option.some.inj (q2.symm.trans h3)
  refine ⟨D, st_φ C adV b, ⟨⟨by decide, fun a k => ?_, fun k => ?_, fun k hk => stK_lt hk⟩, fun n hn => ?_, fun n => ?_, fun n hn => ?_, ⟨Nat.le_refl _, fun q _ => rfl⟩, fun k hk => ?_, fun n hn => ?_⟩, ?_, rfl⟩
  · show st_A a k < 76
    unfold st_A
    split <;> omega
  · show (if k < 60 then k + 1 else 0) < 76
    split <;> omega
  · -- addresses
    have hn : st_K n ≠ 0 := hn
    have h1 := stK_lt hn
    show st_φ C adV b n < s.heap.size
    unfold st_φ
    by_cases a1 : n ≤ 60
    · rw [if_pos a1]
      by_cases a2 : n ≤ 14
      · rw [hC1 _ (by omega)]
        obtain ⟨cell, g1, -⟩ := (hS.1 (n - 1) (by omega)).1
        exact (Array.getElem?_eq_some_iff.mp g1).1
      · by_cases a3 : n ≤ 45
        · have h2 := st_all st_q1 (i := n - 15) (by omega)
          rw [show n - 15 + 14 = n - 1 by omega] at h2
          simp only [Bool.and_eq_true, decide_eq_true_eq, List.isEmpty_iff] at h2
          rw [hC2 _ (by omega) (by omega)]
          obtain ⟨m, k, cf, i0, p0, lk, -, -, -, -, -, -, -, h3⟩ := hfz _ h2.1
          rcases h3 with ⟨-, -, cell, g1, -⟩ | ⟨g1, -⟩
          · exact (Array.getElem?_eq_some_iff.mp g1).1
          · exact absurd h2.2.1 g1
        · have : n = 46 ∨ n = 48 ∨ n = 49 := by
            rcases Nat.lt_or_ge n 50 with h5 | h5
            · rcases Nat.lt_or_ge n 47 with h6 | h6
              · omega
              · by_cases h7 : n = 47
                · exact absurd (stK_0 (Or.inr (Or.inl h7))) hn
                · omega
            · exact absurd (stK_0 (Or.inr (Or.inr (Or.inl ⟨h5, a1⟩)))) hn
          rcases this with rfl | rfl | rfl
          · obtain ⟨cell, g1, -⟩ := he1T
            exact (Array.getElem?_eq_some_iff.mp g1).1
          · obtain ⟨cell, g1, -⟩ := he2T
            exact (Array.getElem?_eq_some_iff.mp g1).1
          · exact (Array.getElem?_eq_some_iff.mp hodc).1
    · rw [if_neg a1]
      by_cases a2 : n ≤ 74
      · rw [if_pos a2]
        obtain ⟨cell, g1, -⟩ := (hS.1 (n - 61) (by omega)).2.2.2
        exact (Array.getElem?_eq_some_iff.mp g1).1
      · rw [if_neg a2]; exact hb
  · -- cells
    by_cases a0 : n = 0 ∨ n = 47 ∨ (50 ≤ n ∧ n ≤ 60) ∨ 76 ≤ n
    · exact CR_0 (stK_0 a0)
    · by_cases a2 : n ≤ 14
      · refine CR_16 (stK_16 (by omega) a2) ?_
        have hi : n - 1 < 14 := by omega
        have eφ : st_φ C adV b n = adK (n - 1) := by
          unfold st_φ
          rw [if_pos (by omega), hC1 _ hi]
        have eφ2 : st_φ C adV b (n + 60) = adV (n - 1) := by
          unfold st_φ
          rw [if_neg (by omega), if_pos (by omega), show n + 60 - 61 = n - 1 by omega]
        obtain ⟨⟨cell, g1, g2, g3, -⟩, k1, k2, -⟩ := hS.1 (n - 1) hi
        have h5 := st_all st_s5 hi
        simp only [Bool.and_eq_true, decide_eq_true_eq] at h5
        have k3 : va_OF "java/lang/String" "hash" "I" (.int (st_hsh.getD (n - 1) 0)) (adK (n - 1)) (s.heap.size ≤ ·) s s.heap := vk_OFof (hev _ hi) (va_eqt (hs _ h5.1)) hA
        have k4 : va_OF "java/lang/String" "hashIsZero" "Z" (.int 0) (adK (n - 1)) (s.heap.size ≤ ·) s s.heap := vk_OFof (hev _ hi) (va_eqt (hs _ h5.2.1)) hA
        obtain ⟨hsl, hcl⟩ := hfk 16 ⟨by decide, by decide⟩
        rw [eφ]
        refine ⟨cell, g1, ?_, g2, (st_fld k1 (hsl 1 (by decide)) g1).2, fun k hk => ?_⟩
        · have h6 : s.vm.findClass "java/lang/String" = some (fk 16).1 := hcl.1
          exact Option.some.inj (g3.symm.trans h6)
        · have hk4 : k < 4 := hk
          have hA0 : mA (st_M L xs) n 0 = n + 60 := if_pos ⟨by omega, a2, rfl⟩
          match k, hk4 with
          | 0, _ =>
            show cell.slots[(fk 16).2 0]? = some (crf (st_φ C adV b) (mA (st_M L xs) n 0))
            rw [(st_fld k2 (hsl 0 (by decide)) g1).1, hA0, crf, if_neg (by omega), eφ2]
          | 1, _ =>
            show cell.slots[(fk 16).2 1]? = some (.int (st_I xs n 1))
            rw [(st_fld k1 (hsl 1 (by decide)) g1).1]
            unfold st_I
            rw [if_neg (by omega), if_pos a2, if_neg (by decide)]
          | 2, _ =>
            show cell.slots[(fk 16).2 2]? = some (.int (st_I xs n 2))
            rw [(st_fld k3 (hsl 2 (by decide)) g1).1]
            unfold st_I
            rw [if_neg (by omega), if_pos a2, if_pos rfl]
          | 3, _ =>
            show cell.slots[(fk 16).2 3]? = some (.int (st_I xs n 3))
            rw [(st_fld k4 (hsl 3 (by decide)) g1).1]
            unfold st_I
            rw [if_neg (by omega), if_pos a2, if_neg (by decide)]
      · by_cases a3 : n ≤ 45
        · have h2 := st_all st_q1 (i := n - 15) (by omega)
          rw [show n - 15 + 14 = n - 1 by omega] at h2
          simp only [Bool.and_eq_true, decide_eq_true_eq, List.isEmpty_iff] at h2
          refine CR_100 (stK_lm (by omega) a3) h2.2.2 ?_
          have eφ : st_φ C adV b n = (fz (lm_q (n - 1))).2 := by
            unfold st_φ
            rw [if_pos (by omega), hC2 _ (by omega) (by omega)]
          rw [eφ]
          obtain ⟨m, k, cf, i0, p0, lk, -, -, -, -, -, -, -, h3⟩ := hfz _ h2.1
          rcases h3 with ⟨-, -, cell, g1, g2, g3⟩ | ⟨g1, -⟩
          · refine ⟨cell, g1, ?_, g3⟩
            show cell.cls = (fz (100 + lm_q (n - 1) - 100)).1
            rw [Nat.add_sub_cancel_left]
            exact g2
          · exact absurd h2.2.1 g1
        · by_cases a4 : n ≤ 60
          · have : n = 46 ∨ n = 48 ∨ n = 49 := by omega
            rcases this with rfl | rfl | rfl
            · exact CR_60 (t := 66) rfl (by decide) (by decide) (st_arw he1T (hclsO _ _ (hs _ (by decide +kernel)) he1) (fun j hj => absurd hj (by omega)))
            · exact CR_60 (t := 66) rfl (by decide) (by decide) (st_arw he2T (hclsO _ _ (hs _ (by decide +kernel)) he2) (fun j hj => absurd hj (by omega)))
            · exact CR_60 (t := 60) rfl (by decide) (by decide) (st_arw ⟨odc, hodc, hodA⟩ (fun cell hc => by cases hodc.symm.trans hc; rfl) (fun j hj => rfl))
          · by_cases a5 : n ≤ 74
            · have eφ : st_φ C adV b n = adV (n - 61) := by
                unfold st_φ
                rw [if_neg a4, if_pos a5]
              refine CR_60 (t := 65) (stK_65 (by omega) a5) (by decide) (by decide) ?_
              have eN : mN (st_M L xs) n = st_len.getD (n - 61) 0 := by
                show st_N L n = _
                unfold st_N
                rw [if_neg (by omega), if_neg a4, if_pos a5]
              rw [eφ, eN]
              refine st_arw (hS.1 (n - 61) (by omega)).2.2.2 (hclsB _ (by omega)) (fun j hj => ?_)
              show Value.int (st_I xs n j) = _
              unfold st_I
              rw [if_neg (by omega), if_neg (by omega), if_neg (by omega), if_neg a4, if_pos a5]
            · have : n = 75 := by omega
              subst this
              exact CR_60 (t := 61) rfl (by decide) (by decide) ⟨scr, hscr, rfl, st_nost hscrA, hscrU, by rw [hscrN]; exact Nat.le_refl _, by rw [hscrN]; rfl, hscrV⟩
  · have h1 : ev_own (st_K n) = true := hn
    rw [stK_no.1] at h1
    cases h1
  · refine ⟨?_, ?_⟩
    · show 1 ≤ (if k < 60 then k + 1 else 0)
      rw [if_pos hk]; omega
    · show st_φ C adV b (if k < 60 then k + 1 else 0) = C k
      rw [if_pos hk]
      unfold st_φ
      rw [if_pos (by omega), Nat.add_sub_cancel]
  · exact absurd hn stK_no.2
  · refine ⟨⟨fun t h1 h2 => hfk t ⟨h1, h2⟩, fun t ht => ?_⟩, fun w hw hn => ?_, fun q hq => va_Nc.of (hs _ (of_decide_eq_true (List.all_eq_true.mp st_nc q hq))), ⟨fun q hq => ?_, hmi⟩, ⟨fun q hq => ?_, fun q hq => ?_⟩, fun q hq => ?_, ⟨⟨vx_Zqof (hts _ (lw_at lw_m4 107 rfl)) (hts _ (lw_at lw_m1 19 rfl)) (hs _ (by decide +kernel)) hA, vx_Zqof (hts _ (lw_at lw_m4 109 rfl)) (hts _ (lw_at lw_m1 19 rfl)) (hs _ (by decide +kernel)) hA⟩, fun x hx => ?_, fun q h1 h2 => ?_⟩⟩
    · by_cases h9 : t < 60
      · have e : D.2.2.1 t = fa t := by
          show dA t = fa t
          show (if t = 60 then odc.cls else if t = 61 then scr.cls else if t = 65 then fa 45 else if t = 66 then fa 48 else fa t) = fa t
          rw [if_neg (by omega), if_neg (by omega), if_neg (by omega), if_neg (by omega)]
        have h8 : t ∈ [40, 41, 42, 43, 44, 45, 46, 48, 49, 50, 51, 52] := by
          simp only [List.mem_cons, List.not_mem_nil, or_false] at ht ⊢
          omega
        rw [e]
        exact ⟨(hfa t h8).1, fun _ => (hfa t h8).2⟩
      · refine ⟨?_, fun h => absurd h h9⟩
        have h8 : t = 60 ∨ t = 61 ∨ t = 65 ∨ t = 66 := by
          simp only [List.mem_cons, List.not_mem_nil, or_false] at ht
          omega
        rcases h8 with rfl | rfl | rfl | rfl
        · exact st_of_arr hodA.1
        · exact st_of_arr hscrA
        · exact (hfa 45 (by decide)).1
        · exact (hfa 48 (by decide)).1
    · refine va_Nw.of ?_ (hts w hw)
      unfold nwW at hn
      split at hn <;> first | rfl | cases hn
    · simp only [sx_prs, List.mem_cons, List.not_mem_nil, or_false] at hq
      rcases hq with rfl | rfl | rfl | rfl | rfl | rfl | rfl | rfl | rfl | rfl | rfl | rfl | rfl | rfl | rfl
    · exact vk_R.of (A := args) (hts _ (lw_at lw_m10 221 rfl)) (st_eqR (hs _ (by decide +kernel)) (hev 0 (by decide)) (st_ref (st_isr (hs _ (by decide +kernel)))))
    · exact vk_R.of (A := args) (hts _ (lw_at lw_m1 102 rfl)) (hev 0 (by decide))
    · exact vk_R.of (A := args) (hts _ (lw_at lw_m4 16 rfl)) (hev 1 (by decide))
    · exact vk_R.of (A := args) (hts _ (lw_at lw_m4 23 rfl)) (hev 2 (by decide))
    · exact vk_R.of (A := args) (hts _ (lw_at lw_m4 30 rfl)) (hev 3 (by decide))
    · exact vk_R.of (A := args) (hts _ (lw_at lw_m4 37 rfl)) (hev 4 (by decide))
    · exact vk_R.of (A := args) (hts _ (lw_at lw_m4 44 rfl)) (hev 5 (by decide))
    · exact vk_R.of (A := args) (hts _ (lw_at lw_m4 51 rfl)) (hev 6 (by decide))
    · exact vk_R.of (A := args) (hts _ (lw_at lw_m4 54 rfl)) (hev 7 (by decide))
    · exact vk_R.of (A := args) (hts _ (lw_at lw_m4 57 rfl)) (hev 8 (by decide))
    · exact vk_R.of (A := args) (hts _ (lw_at lw_m4 60 rfl)) (hev 9 (by decide))
    · exact vk_R.of (A := args) (hts _ (lw_at lw_m4 67 rfl)) (hev 10 (by decide))
    · exact vk_R.of (A := args) (hts _ (lw_at lw_m4 74 rfl)) (hev 11 (by decide))
    · exact vk_R.of (A := args) (hts _ (lw_at lw_m4 163 rfl)) (hev 13 (by decide))
    · exact vk_R.of (A := args) (hts _ (lw_at lw_m4 137 rfl)) (hev 12 (by decide))
    · simp only [gi_prs, List.mem_cons, List.not_mem_nil, or_false] at hq
      rcases hq with rfl | rfl
    · exact va_Zof (hts _ (lw_at lw_m1 184 rfl)) (hts _ (lw_at lw_m1 5 rfl)) (va_eqt (hs _ (by decide +kernel))) hA
    · exact va_Zof (hts _ (lw_at lw_m3 124 rfl)) (hts _ (lw_at lw_m1 18 rfl)) (va_eqt (hs _ (by decide +kernel))) hA
    · simp only [gr_prs, List.mem_cons, List.not_mem_nil, or_false] at hq
      rcases hq with rfl | rfl | rfl
    · exact va_Zof (hts _ (lw_at lw_m4 186 rfl)) (hts _ (lw_at lw_m1 25 rfl)) he1 hA
    · exact va_Zof (hts _ (lw_at lw_m7 170 rfl)) (hts _ (lw_at lw_m1 25 rfl)) he2 hA
    · exact va_Zof (hts _ (lw_at lw_m8 200 rfl)) (hts _ (lw_at lw_m1 1 rfl)) hod hA
    · simp only [fc_prs, List.mem_cons, List.not_mem_nil, or_false] at hq
      rcases hq with rfl | rfl | rfl
    · exact va_Fw.of (A := args) (hts _ (lw_at lw_m9 22 rfl)) (hts _ (lw_at lw_m9 21 rfl)) (hts _ (lw_at lw_m9 78 rfl)) (hts _ (lw_at lw_m9 76 rfl)) (hts _ (lw_at lw_m9 74 rfl))
    · exact va_Fw.of (A := args) (hts _ (lw_at lw_m9 108 rfl)) (hts _ (lw_at lw_m9 107 rfl)) (hts _ (lw_at lw_m9 125 rfl)) (hts _ (lw_at lw_m9 123 rfl)) (hts _ (lw_at lw_m9 121 rfl))
    · exact va_Fw.of (A := args) (hts _ (lw_at lw_m9 130 rfl)) (hts _ (lw_at lw_m9 129 rfl)) (hts _ (lw_at lw_m9 152 rfl)) (hts _ (lw_at lw_m9 150 rfl)) (hts _ (lw_at lw_m9 121 rfl))
    · simp only [lm_f, List.mem_cons, List.not_mem_nil, or_false] at hx
      rcases hx with rfl | rfl | rfl | rfl | rfl | rfl | rfl
    · exact ⟨va_Nw.of rfl (hts _ (lw_at lw_m8 26 rfl)), va_Nw.of rfl (hts _ (lw_at lw_m8 25 rfl))⟩
    · exact ⟨va_Nw.of rfl (hts _ (lw_at lw_m8 70 rfl)), va_Nw.of rfl (hts _ (lw_at lw_m8 69 rfl))⟩
    · exact ⟨va_Nw.of rfl (hts _ (lw_at lw_m8 116 rfl)), va_Nw.of rfl (hts _ (lw_at lw_m8 115 rfl))⟩
    · exact ⟨va_Nw.of rfl (hts _ (lw_at lw_m10 138 rfl)), va_Nw.of rfl (hts _ (lw_at lw_m10 137 rfl))⟩
    · exact ⟨va_Nw.of rfl (hts _ (lw_at lw_m10 142 rfl)), va_Nw.of rfl (hts _ (lw_at lw_m10 141 rfl))⟩
    · exact ⟨va_Nw.of rfl (hts _ (lw_at lw_m10 146 rfl)), va_Nw.of rfl (hts _ (lw_at lw_m10 145 rfl))⟩
    · exact ⟨va_Nw.of rfl (hts _ (lw_at lw_m10 208 rfl)), va_Nw.of rfl (hts _ (lw_at lw_m10 207 rfl))⟩
    · obtain ⟨m, k, cf, i0, p0, lk, k1, k2, k3, k4, k5, k6, k7, k8⟩ := hfz q ⟨h1, h2⟩
      have eD : D.2.2.2.1 (100 + q) = (fz q).1 := by
        show (fz (100 + q - 100)).1 = _
        rw [Nat.add_sub_cancel_left]
      refine ⟨m, k, cf, i0, p0, lk, k1, k2, k3, k4, k5, by rw [eD]; exact k6, by rw [eD]; exact k7, ?_⟩
      rcases k8 with ⟨g1, g2, -⟩ | ⟨g1, g2⟩
      · have h9 := st_all st_q2 (i := q - 1) (by omega)
        rw [show q - 1 + 1 = q by omega] at h9
        simp only [Bool.or_eq_true, decide_eq_true_eq, Bool.not_eq_true', g1, List.isEmpty_nil] at h9
        obtain ⟨w1, w2, w3⟩ := h9.resolve_left (by decide)
        refine Or.inl ⟨g1, ?_⟩
        rw [g2]
        show Linked.constant _ = Linked.constant (C (lm_c q))
        rw [hC2 _ w1 w2, w3]
      · exact Or.inr ⟨g1, by rw [g2, eD]⟩
end
