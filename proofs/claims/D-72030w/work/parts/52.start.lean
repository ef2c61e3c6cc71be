/-! THE START (by gen/start.py) -/
set_option maxRecDepth 100000
abbrev st_T : Cond := Jvm.Cond.and given_1 narrow_1
def st_tms : List Term := [.string "StrideTurns$Deed" 58, .string "StrideTurns$Deed" 77, .string "StrideTurns$Deed" 82, .string "StrideTurns$Deed" 87, .string "StrideTurns$Deed" 92, .string "StrideTurns$Deed" 97, .string "StrideTurns$Deed" 102, .string "StrideTurns$Deed" 105, .string "StrideTurns$Deed" 108, .string "StrideTurns$Deed" 111, .string "StrideTurns$Deed" 116, .string "StrideTurns$Deed" 121, .string "java/lang/Math" 111, .string "StrideTurns$Deed" 124]
def st_tm (i : Nat) : Term := st_tms.getD i (.int 0)
def st_len : List Nat := [3, 3, 3, 3, 3, 3, 3, 2, 3, 4, 4, 4, 16, 5]
def st_byt : List (List Int32) := [[97, 100, 100], [115, 117, 98], [109, 117, 108], [114, 101, 109], [109, 97, 120], [109, 105, 110], [97, 110, 100], [111, 114], [120, 111, 114], [99, 111, 112, 121], [112, 105, 99, 107], [115, 117, 114, 101], [105, 110, 116, 101, 103, 101, 114, 32, 111, 118, 101, 114, 102, 108, 111, 119], [116, 105, 109, 101, 115]]
def st_hsh : List Int32 := [96417, 114240, 108484, 112794, 107876, 108114, 96727, 3555, 118875, 3059573, 3440673, 3542037, -623601500, 110364486]
theorem kz_inst : ∀ t, 1 ≤ t → t ≤ 21 → ∃ n, Cond.instantiable (kz t).1 n ∈ lw_all := fun t h1 h2 => match t, h1, h2 with
  | 0, h, _ => absurd h (by decide)
  | 1, _, _ => ⟨23, (lw_g (lw_at lw_m1 55 rfl) rfl)⟩
  | 2, _, _ => ⟨47, (lw_g (lw_at lw_m11 59 rfl) rfl)⟩
  | 3, _, _ => ⟨5, (lw_g (lw_at lw_m1 104 rfl) rfl)⟩
  | 4, _, _ => ⟨4, (lw_g (lw_at lw_m5 124 rfl) rfl)⟩
  | 5, _, _ => ⟨8, (lw_g (lw_at lw_m7 79 rfl) rfl)⟩
  | 6, _, _ => ⟨5, (lw_g (lw_at lw_m7 86 rfl) rfl)⟩
  | 7, _, _ => ⟨3, (lw_g (lw_at lw_m8 117 rfl) rfl)⟩
  | 8, _, _ => ⟨2, (lw_g (lw_at lw_m8 207 rfl) rfl)⟩
  | 9, _, _ => ⟨1, (lw_g (lw_at lw_m6 78 rfl) rfl)⟩
  | 10, _, _ => ⟨7, (lw_g (lw_at lw_m4 223 rfl) rfl)⟩
  | 11, _, _ => ⟨8, (lw_g (lw_at lw_m1 66 rfl) rfl)⟩
  | 12, _, _ => ⟨12, (lw_g (lw_at lw_m2 93 rfl) rfl)⟩
  | 13, _, _ => ⟨4, (lw_g (lw_at lw_m2 96 rfl) rfl)⟩
  | 14, _, _ => ⟨6, (lw_g (lw_at lw_m2 41 rfl) rfl)⟩
  | 15, _, _ => ⟨4, (lw_g (lw_at lw_m5 111 rfl) rfl)⟩
  | 16, _, _ => ⟨4, (lw_g (lw_at lw_m5 111 rfl) rfl)⟩
  | 17, _, _ => ⟨4, (lw_g (lw_at lw_m6 134 rfl) rfl)⟩
  | 18, _, _ => ⟨3, (lw_g (lw_at lw_m4 172 rfl) rfl)⟩
  | 19, _, _ => ⟨3, (lw_g (lw_at lw_m4 203 rfl) rfl)⟩
  | 20, _, _ => ⟨2, (lw_g (lw_at lw_m9 6 rfl) rfl)⟩
  | 21, _, _ => ⟨5, (lw_g (lw_at lw_m9 81 rfl) rfl)⟩
  | n + 22, _, h => absurd h (by omega)
theorem st_nc : nc_prs.all (fun q => decide (Cond.not (.castable q.1 q.2) ∈ flatC st_T)) = true := by decide +kernel
theorem st_sq : lm_w.all (fun w => decide (w ∈ flatC st_T)) = true := by decide +kernel
theorem st_s1 : (List.range 14).all (fun i => decide (Cond.exactly (st_tm i) "java/lang/String" ∈ flatC st_T) && decide (Cond.eq (.field (st_tm i) "java/lang/String" "coder" "B") (.int 0) ∈ flatC st_T)) = true := by decide +kernel
theorem st_s2 : (List.range 14).all (fun i => decide (Cond.arrayOf (.field (st_tm i) "java/lang/String" "value" "[B") .byte ∈ flatC st_T) && decide (Cond.eq (.length (.field (st_tm i) "java/lang/String" "value" "[B")) (.int (Int32.ofNat (st_len.getD i 0))) ∈ flatC st_T)) = true := by decide +kernel
theorem st_s3 : (List.range 14).all (fun i => (List.range (st_len.getD i 0)).all fun j => decide (Cond.eq (.elem (.field (st_tm i) "java/lang/String" "value" "[B") (.int (Int32.ofNat j))) (.int ((st_byt.getD i []).getD j 0)) ∈ flatC st_T)) = true := by decide +kernel
theorem st_s4 : (List.range 14).all (fun i => (List.range 14).all fun j => i == j || (decide (Cond.not (Cond.eq (st_tm i) (st_tm j)) ∈ flatC st_T) || decide (Cond.not (Cond.eq (st_tm j) (st_tm i)) ∈ flatC st_T))) = true := by decide +kernel
theorem st_s5 : (List.range 14).all (fun i => decide (Cond.eq (.field (st_tm i) "java/lang/String" "hash" "I") (.int (st_hsh.getD i 0)) ∈ flatC st_T) && (decide (Cond.eq (.field (st_tm i) "java/lang/String" "hashIsZero" "Z") (.int 0) ∈ flatC st_T) && decide (Cond.exactly (.field (st_tm i) "java/lang/String" "value" "[B") "[B" ∈ flatC st_T))) = true := by decide +kernel
theorem st_all {n : Nat} {f : Nat → Bool} (h : (List.range n).all f = true) {i : Nat} (hi : i < n) : f i = true := List.all_eq_true.mp h i (List.mem_range.mpr hi)
theorem sk {α : Type} [Inhabited α] {P : Nat → Prop} {Q : Nat → α → Prop} (h : ∀ t, P t → ∃ a, Q t a) : ∃ f : Nat → α, ∀ t, P t → Q t (f t) := by
  classical
  refine ⟨fun t => if ht : P t then (h t ht).choose else default, fun t ht => ?_⟩
  dsimp only
  rw [dif_pos ht]
  exact (h t ht).choose_spec
section
variable {args : Array Value} {s : State}
theorem st_ap {ty : FieldType} (h : (Cond.arrayClass ty).before args s = true) (hp : (match ty with | .object _ => False | _ => True) := by trivial) : ∃ cA, ArrOfT s cA ty ∧ va_RA s cA ty := by
  obtain ⟨c, k, comp, h1, h2, h3⟩ := Cond.arrayClass_spec h
  refine ⟨c, fun n z => ⟨fun q e => (by cases e), k, h2, comp, h3⟩, ?_⟩
  cases ty <;> first | exact h1 | exact hp.elim
theorem st_ao {n : String} (h : (Cond.arrayOver (.object n)).before args s = true) : ∃ cA, ArrOfT s cA (.object n) ∧ va_RA s cA (.object n) := by
  obtain ⟨comp, c, k, h1, -, h2, h3, h4⟩ := Cond.arrayOver_spec h
  exact ⟨c, fun n z => ⟨fun q e => (by cases e), k, h2, comp, h3⟩, k, comp, h2, h3, h1, h4⟩
theorem st_arr (hts : ∀ w ∈ lw_tbl, w.before args s = true) : ∃ f : Nat → ClassId, ∀ t, t ∈ [40, 41, 42, 43, 44, 45, 46, 48, 49, 50, 51, 52] → ArrOfT s (f t) (katy t) ∧ va_RA s (f t) (katy t) := by
  refine sk fun t ht => ?_
  simp only [List.mem_cons, List.not_mem_nil, or_false] at ht
  rcases ht with rfl | rfl | rfl | rfl | rfl | rfl | rfl | rfl | rfl | rfl | rfl | rfl
  · exact st_ap (hts _ (lw_all_tbl (lw_g (lw_at lw_m5 14 rfl) rfl)))
  · exact st_ap (hts _ (lw_all_tbl (lw_g (lw_at lw_m5 13 rfl) rfl)))
  · exact st_ap (hts _ (lw_all_tbl (lw_g (lw_at lw_m5 152 rfl) rfl)))
  · exact st_ap (hts _ (lw_all_tbl (lw_g (lw_at lw_m5 15 rfl) rfl)))
  · exact st_ap (hts _ (lw_all_tbl (lw_g (lw_at lw_m5 16 rfl) rfl)))
  · exact st_ap (hts _ (lw_all_tbl (lw_g (lw_at lw_m1 141 rfl) rfl)))
  · exact st_ap (hts _ (lw_all_tbl (lw_g (lw_at lw_m5 151 rfl) rfl)))
  · exact st_ao (hts _ (lw_at lw_m4 184 rfl))
  · exact st_ao (hts _ (lw_at lw_m2 22 rfl))
  · exact st_ao (hts _ (lw_at lw_m4 170 rfl))
  · exact st_ao (hts _ (lw_at lw_m4 222 rfl))
  · exact st_ao (hts _ (lw_at lw_m7 85 rfl))
theorem st_of_arr {cell : Cell} {ty : FieldType} (h : s.isArrayOf cell ty) : ArrOfT s cell.cls ty := by
  obtain ⟨-, k, h2, comp, h3⟩ := h
  exact fun n z => ⟨fun q e => (by cases e), k, h2, comp, h3⟩
theorem st_kz (hts : ∀ w ∈ lw_tbl, w.before args s = true) : ∃ f : Nat → ClassId × (Nat → Nat), ∀ t, (1 ≤ t ∧ t ≤ 21) → u_Kn s (kz t).1 (kz t).2.1 (kz t).2.2 (f t).1 (f t).2 := by
  refine sk fun t ht => ?_
  obtain ⟨n, hn⟩ := kz_inst t ht.1 ht.2
  obtain ⟨cC, iS, h⟩ := u_known (ws := lw_all) (fun w hw => hts w (lw_all_tbl hw)) (kz_in t ht.1 ht.2) (hts _ (lw_all_tbl hn))
  exact ⟨(cC, iS), h⟩
def isLS (w : Cond) : Bool := match w with | .lambdaSite _ _ _ _ => true | _ => false
theorem isLS_eq {w : Cond} (h : isLS w = true) : w = .lambdaSite (lm_sg w).1 (lm_sg w).2.1 (lm_sg w).2.2.1 (lm_sg w).2.2.2 := by
  cases w <;> first | rfl | cases h
theorem st_ls : (List.range 41).all (fun q => isLS (lm_w.getD q siteWord_1_1) && decide (lm_w.getD q siteWord_1_1 ∈ lm_w)) = true := by decide +kernel
/-- a site at the start: its class, its constant -/
def STE (s : State) (q : Nat) (z : ClassId × Nat) : Prop := ∃ m k cf i0 p0 lk, s.methodNamed? (lm_g q).1 = some m ∧ s.vm.classes[m.cls]? = some k ∧ k.cf = some cf ∧ Lambda.shapeOf? cf (lm_g q).2.2.1 = some (lm_g q).2.2.2 ∧
  (k.callSites.find? fun y => y.1 == m.idx && y.2.1 == (lm_g q).2.1) = some (i0, p0, lk) ∧ Lambda.isMade { classPath := fun _ => none } s.vm m.cls (lm_g q).2.2.2 z.1 = true ∧ s.lambdaCallable (lm_g q).2.2.2 z.1 = true ∧
  (((lm_g q).2.2.2.captured = [] ∧ lk = .constant z.2 ∧ ∃ cell, s.heap[z.2]? = some cell ∧ cell.cls = z.1 ∧ cell.vm = .none) ∨ ((lm_g q).2.2.2.captured ≠ [] ∧ lk = .makes z.1))
theorem st_site (hgv : st_T.before args s = true) : ∃ f : Nat → ClassId × Nat, ∀ q, (1 ≤ q ∧ q ≤ 41) → STE s q (f q) := by
  refine sk fun q hq => ?_
  have h1 := st_all st_ls (i := q - 1) (by omega)
  simp only [Bool.and_eq_true, decide_eq_true_eq] at h1
  have h2 := of_decide_eq_true (List.all_eq_true.mp st_sq _ h1.2)
  have h3 := flat_of_before _ hgv _ h2
  rw [isLS_eq h1.1] at h3
  obtain ⟨c, one, h4⟩ := Cond.lambdaSite_spec h3
  obtain ⟨m, k, cf, i0, p0, lk, k1, k2, k3, k4, -, k5, k6, k7, k8⟩ := State.lambdaAt?_spec h4
  rcases k8 with ⟨a, cell, e1, -, e2, e3, e4, e5, -⟩ | ⟨e1, -, e2⟩
  · exact ⟨(c, a), m, k, cf, i0, p0, lk, k1, k2, k3, k4, k5, k6, k7, Or.inl ⟨e2, e1, cell, e3, e4, e5⟩⟩
  · exact ⟨(c, 0), m, k, cf, i0, p0, lk, k1, k2, k3, k4, k5, k6, k7, Or.inr ⟨e2, e1⟩⟩
theorem st_str (hgv : st_T.before args s = true) : ∃ adK adV : Nat → Nat, vk_S 14 st_len st_byt adK adV (s.heap.size ≤ ·) s s.heap ∧ ∀ i, i < 14 → (st_tm i).eval args s none [] s = some (.ref (adK i)) := by
  have hs := flat_of_before _ hgv
  refine vk_Sof (fun i hi => ?_) (fun i hi => ?_) (fun i hi => ?_) (fun i hi => ?_) (fun i hi => ?_) (fun i hi j hj => ?_) (fun i j hi hj hij => ?_) (fun a ha => Nat.not_le_of_lt ha)
  · have : (List.range 14).all (fun i => decide (st_len.getD i 0 < 2 ^ 31)) = true := by decide
    exact of_decide_eq_true (st_all this hi)
  · have h := st_all st_s1 hi
    simp only [Bool.and_eq_true, decide_eq_true_eq] at h
    exact hs _ h.1
  · have h := st_all st_s1 hi
    simp only [Bool.and_eq_true, decide_eq_true_eq] at h
    exact hs _ h.2
  · have h := st_all st_s2 hi
    simp only [Bool.and_eq_true, decide_eq_true_eq] at h
    exact hs _ h.1
  · have h := st_all st_s2 hi
    simp only [Bool.and_eq_true, decide_eq_true_eq] at h
    exact hs _ h.2
  · exact hs _ (of_decide_eq_true (st_all (st_all st_s3 hi) hj))
  · have h := st_all (st_all st_s4 hi) hj
    simp only [Bool.or_eq_true, decide_eq_true_eq, beq_iff_eq] at h
    rcases h with h | h | h
    · exact absurd h hij
    · exact Or.inl (hs _ h)
    · exact Or.inr (hs _ h)
theorem st_ref {t : Term} (h : (Cond.isRef t).before args s = true) : ∃ a, t.eval args s none [] s = some (.ref a) := by
  obtain ⟨v, hv, a, ha⟩ := Cond.isRef_spec h
  exact ⟨a, by rw [hv, ha]⟩
theorem st_eqR {t u : Term} {a : Nat} (h : (Cond.eq t u).before args s = true) (ht : t.eval args s none [] s = some (.ref a)) (hu : ∃ b, u.eval args s none [] s = some (.ref b)) : u.eval args s none [] s = some (.ref a) := by
  obtain ⟨b, hb⟩ := hu
  simp only [Cond.before, Cond.holds, Cond.value, ht, hb] at h
  rw [hb]
  simp_all
end
