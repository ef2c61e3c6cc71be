/-! SOUNDNESS of fields, new cells, casts, natives (by gen/obj.py) -/
/-- words of the tables that ride with a state -/
def nwW : Cond → Bool
  | .fieldLinkNest _ _ _ _ _ _ => true
  | .methodLinkNest _ _ _ _ => true
  | .castable _ _ => true
  | .declares _ => true
  | .arrayOver (.object _) => true
  | .privateMethod _ => true
  | _ => false
def KW (U : State) : Prop := ∀ w ∈ lw_tbl, nwW w = true → va_Nw w U
theorem KW.warm {s U : State} (hW : s.WarmedH U.vm) (h : KW s) : KW U := by
  intro w hw hn
  have h1 := h w hw hn
  unfold nwW at hn
  split at hn
  · exact va_Nw.warmF hW h1
  · exact va_Nw.warmM hW h1
  · exact va_Nw.warmC hW h1
  · exact va_Nw.warmD hW h1
  · exact va_AO.moved hW.alike h1
  · exact Cond.privateMethod_warm hW h1
  · cases hn
theorem KW.same {u U : State} (h : u.vm = U.vm) (hZ : KW u) : KW U := by
  intro w hw hn
  have h1 := hZ w hw hn
  unfold nwW at hn
  split at hn
  · exact va_Nw.same rfl h h1
  · exact va_Nw.same rfl h h1
  · exact va_Nw.same rfl h h1
  · exact va_Nw.same rfl h h1
  · exact va_AO.moved (by rw [h]; exact Vm.Alike.refl _) h1
  · exact va_Nw.same rfl h h1
  · cases hn
/-- a field instruction's link: what it says of the kinds that may lie there -/
def LKf (own : String) (idx : Nat) (ar : List Nat) : Prop := match ar with
  | m1 :: t :: k :: cs => ∃ ref name desc host, (if m1 = 0 then Cond.fieldLink own idx ref name desc ∈ lw_all else Cond.fieldLinkNest own idx ref name desc host ∈ lw_tbl) ∧
      ∀ q ∈ cs, (1 ≤ q ∧ q ≤ 21) ∧ k < (kz q).2.2 ∧ (kft q k = t ∧ (t = 0 → kty q k = .int)) ∧ (((kz q).2.1 k).2.1 = name ∧ ((kz q).2.1 k).2.2.1 = desc) ∧ (((kz q).2.1 k).1 = ref ∨ Cond.sameField ref ((kz q).2.1 k).1 name desc ∈ lw_all)
  | _ => True
/-- a store's: the field isn't final, or this is its class's constructor -/
def LKp (own : String) (isInit : Prop) (ar : List Nat) : Prop := match ar with
  | m1 :: _ :: k :: cs => ∀ q ∈ cs, q ≠ 16 ∧ (((kz q).2.1 k).2.2.2 = false ∨ (isInit ∧ ((kz q).2.1 k).1 = own ∧ m1 = 0))
  | _ => True
theorem ev_put_spec {φ : Nat → Nat} {M M' : ev_M} {t k a : Nat} {v vA : Value} (h : ev_put M t k a v = some M') (hM : WFM M) (hw : wfv M v) (hv : VR φ v vA) :
    (mK M' = mK M ∧ mN M' = mN M ∧ nx M' = nx M ∧ mS M' = mS M ∧ ncl M' = ncl M ∧ nsl M' = nsl M) ∧ (∀ b j, mA M' b j < nx M) ∧ (∀ b, b ≠ a → Row M M' b) ∧ (∀ cd j, (j = k → cd = t) → fv φ M' cd a j = if j = k then vA else fv φ M cd a j) := by
  unfold ev_put at h
  split at h
  all_goals first | (cases h; done) | skip
  iterate 4
    · cases h
      cases hv
      refine ⟨⟨rfl, rfl, rfl, rfl, rfl, rfl⟩, hM.2.1, fun b hb => ⟨?_, ?_, ?_, ?_, ?_⟩, fun cd j hj => ?_⟩
      all_goals first | rfl | (funext j; exact if_neg (fun q => hb q.1)) | skip
      by_cases e : j = k
      · rw [if_pos e, hj e, e]
        simp [fv, mI, mL, mF, mD, wI, wL, wF, wD, up2]
      · rw [if_neg e]
        unfold fv
        split <;> first | rfl | simp [mI, mL, mF, mD, mA, wI, wL, wF, wD, up2, e]
  · rename_i x
    cases h
    have hv : vA = crf φ x := hv
    refine ⟨⟨rfl, rfl, rfl, rfl, rfl, rfl⟩, fun b j => ?_, fun b hb => ⟨rfl, rfl, rfl, rfl, ?_⟩, fun cd j hj => ?_⟩
    · show (if b = a ∧ j = k then x else mA M b j) < nx M
      split
      · exact hw
      · exact hM.2.1 _ _
    · funext j; exact if_neg (fun q => hb q.1)
    · by_cases e : j = k
      · rw [if_pos e, hj e, e, hv]
        simp [fv, mA, wA, up2]
      · rw [if_neg e]
        unfold fv
        split <;> first | rfl | simp [mI, mL, mF, mD, mA, wA, up2, e]
  iterate 2
    · split at h
      · cases h
        cases hv
        refine ⟨⟨rfl, rfl, rfl, rfl, rfl, rfl⟩, hM.2.1, fun b hb => ⟨?_, ?_, ?_, ?_, ?_⟩, fun cd j hj => ?_⟩
        all_goals first | rfl | (funext j; exact if_neg (fun q => hb q.1)) | skip
        by_cases e : j = k
        · rw [if_pos e, hj e, e]
          simp [fv, mI, wI, up2]
        · rw [if_neg e]
          unfold fv
          split <;> first | rfl | simp [mI, mL, mF, mD, mA, wI, up2, e]
      · cases h
theorem ev_put_fits {φ : Nat → Nat} {M M' : ev_M} {t k a : Nat} {v vA : Value} {ty : FieldType} (h : ev_put M t k a v = some M') (hv : VR φ v vA) (ht : tyc ty = t) (h0 : t = 0 → ty = .int) : narrow ty vA = vA ∧ fits ty vA = true := by
  unfold ev_put at h
  split at h
  · rw [h0 rfl]; cases hv; exact ⟨rfl, rfl⟩
  · cases ty <;> first | (cases ht; done) | skip
    cases hv; exact ⟨rfl, rfl⟩
  · cases ty <;> first | (cases ht; done) | skip
    cases hv; exact ⟨rfl, rfl⟩
  · cases ty <;> first | (cases ht; done) | skip
    cases hv; exact ⟨rfl, rfl⟩
  · rename_i x
    have hv : vA = crf φ x := hv
    subst hv
    unfold crf
    cases ty <;> first | (cases ht; done) | skip
    · split <;> exact ⟨rfl, rfl⟩
    · split <;> exact ⟨rfl, rfl⟩
  · cases ty <;> first | (cases ht; done) | skip
    cases hv
    split at h
    · rename_i hx
      rcases hx with rfl | rfl <;> exact ⟨rfl, rfl⟩
    · cases h
  · cases ty <;> first | (cases ht; done) | skip
    cases hv
    split at h
    · rename_i hx
      refine ⟨?_, ?_⟩
      · rw [narrow_byte, hx]
      · rw [← hx]; exact pk_fb _
    · cases h
  · cases h
section
variable {p : Program} {l : Launch} {e : Env} {R : Room} {s : State} {m : MethodId} {args : Array Value} {below : List Frame} {meth : Method} {c : Code} {Q : State → Prop}
variable {D : rl_D} {bs : Nat} {H0 : Heap} {nL c0 s0 : Nat} {M0 : ev_M} {φ0 : Nat → Nat} {cd : ByteArray} {pc : Nat} {own : String}
/-- the field of an object of a kind, found -/
theorem kz_found (hts : ∀ w ∈ lw_all, w.before args s = true) (hKN : KN D s) {q k : Nat} (hq : 1 ≤ q ∧ q ≤ 21) (hk : k < (kz q).2.2) {ref name desc : String} (hn : ((kz q).2.1 k).2.1 = name ∧ ((kz q).2.1 k).2.2.1 = desc) (hs : ((kz q).2.1 k).1 = ref ∨ Cond.sameField ref ((kz q).2.1 k).1 name desc ∈ lw_all) :
    ∃ cf kf i f, s.fieldFound? ref name desc = some (cf, kf, i, f) ∧ s.fieldFound? ((kz q).2.1 k).1 name desc = some (cf, kf, i, f) ∧ f.slot = D.2.1 q k ∧ f.isStatic = false := by
  obtain ⟨hS, hfc, kC, hkC, hkind⟩ := hKN.1 q hq.1 hq.2
  obtain ⟨cf, kf, i, f, hi, hsl⟩ := hS k hk
  have hst := (u_facts hfc hkC (u_lays hts (kz_in q hq.1 hq.2) hk) hi).1
  rw [hn.1, hn.2] at hi
  refine ⟨cf, kf, i, f, ?_, hi, hsl, hst⟩
  rcases hs with hs | hs
  · rw [← hs]; exact hi
  · exact u_same (hts _ hs) _ hi
theorem wt_getf (hx : p.tables.exec = Jvm.exec) (hb : c.code = cd) (hts : ∀ w ∈ lw_all, w.before args s = true) (hKW : KW s) (hown : s.vm.findClass own = some m.cls) (hKN : KN D s) {idx : Nat} {ar : List Nat} (hlk : LKf own idx ar) (hd : decode cd pc = .ok (.getfield idx, 3))
    {S S' : ev_S} (h : ev_getf S ar = some S') (k : WT p l e R s m args below meth c Q D bs H0 nL c0 s0 M0 φ0 S' (pc + 3)) : WT p l e R s m args below meth c Q D bs H0 nL c0 s0 M0 φ0 S pc := by
  obtain ⟨ls, st, M⟩ := S
  unfold ev_getf at h
  split at h
  · rename_i m1 t fk cs a st heq
    dsimp only at heq
    subst heq
    split at h
    · rename_i hc0
      cases h
      have hq : mK M a ∈ cs := List.contains_iff_mem.mp hc0
      obtain ⟨ref, name, desc, host, hl1, hl2⟩ := hlk
      obtain ⟨q1, q2, q3, q4, q5⟩ := hl2 _ hq
      obtain ⟨cf, kf, i, f, hi, -, hsl, hst⟩ := kz_found hts hKN q1 q2 q4 q5
      intro φ lsA stA H locs cells slots hE hn hR hL hS hl hc hs
      obtain ⟨y, r, rfl, hy0, -, hS2⟩ := StR_cons hS
      have ey : y = .ref (φ a) := by
        have h1 : y = crf φ a := hy0
        rw [h1]
        exact crf_at hR (fun q => by have h2 : 1 ≤ mK M a := q1.1; have h3 : mK M a = 0 := q; omega)
      subst ey
      obtain ⟨cell, g1, g2, g3, hkn, g4⟩ := (hR.2.2.1 a).ob q1.1 (by have : mK M a ≤ 21 := q1.2; show mK M a ≤ 30; omega)
      have hv := g4 fk q2
      rw [← hsl] at hv
      have kk := k φ lsA (fv φ M (kft (mK M a) fk) a fk :: r) H locs cells slots hE hn hR hL (StR.mk (by rw [q3.1]; exact VR_fld _ _ _) (wfv_fld hR.1 _ _ _) hS2) hl hc hs
      by_cases hm1 : m1 = 0
      · rw [if_pos hm1] at hl1
        exact W.getf hx hb hown (hts _ hl1) hi hst g1 hkn hv rfl rfl hd kk
      · rw [if_neg hm1] at hl1
        exact va_Wgetf hx hb hown (va_Nw.use rfl (hKW _ hl1 rfl)) hi hst g1 hkn hv rfl rfl hd kk
    · cases h
  · cases h
theorem wt_putf (hx : p.tables.exec = Jvm.exec) (hb : c.code = cd) (hts : ∀ w ∈ lw_all, w.before args s = true) (hKW : KW s) (hown : s.vm.findClass own = some m.cls) (hKN : KN D s) {idx : Nat} {ar : List Nat} (hlk : LKf own idx ar) (hlp : LKp own (meth.name = "<init>") ar) (hd : decode cd pc = .ok (.putfield idx, 3))
    {S S' : ev_S} (h : ev_putf S ar = some S') (k : WT p l e R s m args below meth c Q D bs H0 nL c0 s0 M0 φ0 S' (pc + 3)) : WT p l e R s m args below meth c Q D bs H0 nL c0 s0 M0 φ0 S pc := by
  obtain ⟨ls, st, M⟩ := S
  unfold ev_putf at h
  split at h
  · rename_i m1 t fk cs v a st heq
    dsimp only at heq
    subst heq
    split at h
    · rename_i hc0
      dsimp only at h
      cases hM' : ev_put M t fk a v with
      | none => rw [hM'] at h; cases h
      | some M' =>
      rw [hM'] at h
      cases h
      have hq : mK M a ∈ cs := List.contains_iff_mem.mp hc0
      obtain ⟨ref, name, desc, host, hl1, hl2⟩ := hlk
      obtain ⟨q1, q2, q3, q4, q5⟩ := hl2 _ hq
      obtain ⟨cf, kf, i, f, hi, hi0, hsl, hst⟩ := kz_found hts hKN q1 q2 q4 q5
      intro φ lsA stA H locs cells slots hE hn hR hL hS hl hc hs
      obtain ⟨vA, r, rfl, hv0, hw0, hS1⟩ := StR_cons hS
      obtain ⟨y, r, rfl, hy0, -, hS2⟩ := StR_cons hS1
      have ey : y = .ref (φ a) := by
        have h1 : y = crf φ a := hy0
        rw [h1]
        exact crf_at hR (fun q => by have h2 : 1 ≤ mK M a := q1.1; have h3 : mK M a = 0 := q; omega)
      subst ey
      obtain ⟨cell, g1, g2, g3, g4⟩ := (hR.2.2.1 a).1 q1.1 (by have : mK M a ≤ 21 := q1.2; show mK M a ≤ 30; omega) (hlp _ hq).1
      have hv := g4 fk q2
      rw [← hsl] at hv
      have hkn : cell.vm ≠ .unknown := by rw [g3]; exact fun q => by cases q
      obtain ⟨⟨e1, e2, e3, e4, e5, e6⟩, wA1, rw1, fv1⟩ := ev_put_spec hM' hR.1 hw0 hv0
      obtain ⟨hS0, hfc, kC, hkC, hkind⟩ := hKN.1 (mK M a) q1.1 q1.2
      have hty := kz_ty _ q1.1 q1.2 fk q2
      rw [q4.2] at hty
      obtain ⟨hnar, hfit⟩ := ev_put_fits hM' hv0 (ty := kty (mK M a) fk) q3.1 q3.2
      have hlay := hts _ (kz_in _ q1.1 q1.2 _ (u_in_lay q2))
      have hap : ∀ x y, x < (kz (mK M a)).2.2 → y < (kz (mK M a)).2.2 → x ≠ y → D.2.1 (mK M a) x ≠ D.2.1 (mK M a) y :=
        va_apart (own := own) (D := (fun _ => D.1 (mK M a), fun _ => D.2.1 (mK M a))) (cl := [kz (mK M a)]) (tys := []) (ci := 0) hts (kz_in _ q1.1 q1.2) (kty (mK M a)) (kz_ty _ q1.1 q1.2) (kz_nm _ q1.1 q1.2) ⟨fun ci q hq => by
          cases ci with
          | zero => cases hq; exact hKN.1 _ q1.1 q1.2
          | succ n => simp at hq, fun k q hq => by simp at hq⟩ rfl
      have h6 : narrow f.type vA = vA ∧ s.fitsSlot (D.1 (mK M a)) .none f.slot vA = true := u_fits hfc hkC hkind (u_lays hts (kz_in _ q1.1 q1.2) q2) (by rw [q4.1, q4.2]; exact hi0) (by rw [q4.2]; exact hty) hnar hfit
      have hfin : hasFlag f.accessFlags Acc.final = false ∨ (m.cls = cf ∧ meth.name = "<init>") := by
        unfold u_lay at hlay
        rcases (hlp _ hq).2 with hf | ⟨hin, hdecl, -⟩
        · rw [if_neg (by rw [hf]; decide)] at hlay
          exact Or.inl (u_store hfc hkC hkind hlay (by rw [q4.1, q4.2]; exact hi0) (by rw [q4.2]; exact hty) hnar hfit).1
        · by_cases hf : ((kz (mK M a)).2.1 fk).2.2.2 = true
          · rw [if_pos hf] at hlay
            refine Or.inr ⟨?_, hin⟩
            obtain ⟨_, _, c', _, _, _, -, -, hf', -, -, -, hown2, -⟩ := Cond.laysFinal_spec hlay
            have e1 : c' = cf := by
              rw [q4.1, q4.2] at hf'
              have := hi0.symm.trans hf'
              simp at this
              exact this.1.symm
            rw [hdecl] at hown2
            rw [← e1]
            exact Option.some.inj (hown.symm.trans hown2)
          · rw [if_neg hf] at hlay
            exact Or.inl (u_store hfc hkC hkind hlay (by rw [q4.1, q4.2]; exact hi0) (by rw [q4.2]; exact hty) hnar hfit).1
      have hlt : f.slot < cell.slots.size := k2_hasslot hv
      have hown2 : ev_own (mK M a) = true := by
        have n1 : 1 ≤ mK M a := q1.1
        have n2 : mK M a ≤ 21 := q1.2
        have n3 : mK M a ≠ 16 := (hlp _ hq).1
        unfold ev_own
        have : (decide (1 ≤ mK M a) && decide (mK M a ≤ 30) && decide (mK M a ≠ 16)) = true := by
          simp only [Bool.and_eq_true, decide_eq_true_eq]
          exact ⟨⟨n1, by omega⟩, n3⟩
        rw [this, Bool.true_or]
      have hbase := (hR.2.2.2.1 a hown2).1
      have key : ∀ H' : Heap, H' = H.setIfInBounds (φ a) (cell.setSlot f.slot vA) → W p l e R s m args below meth c H' (locs ++ [⟨φ a, f.slot⟩]) cells slots Q (F0 m (pc + 3) lsA r) := by
        intro H' eH
        have ha : φ a < H.size := (Array.getElem?_eq_some_iff.mp g1).1
        refine k φ lsA r H' _ cells slots hE (by show nx M0 ≤ nx M'; rw [e3]; exact hn) ?_ (LocR_ext (M := M) Ext.rf (Nat.le_of_eq e3.symm) hL) (StR_to (M := M) M' e3 hS2) ?_ (by show _ = ncl M'; rw [e5]; exact hc) (by show _ = nsl M'; rw [e6]; exact hs)
        · refine hR.upd (n := a) (M' := M') hown2 e1 e2 e3 e4 wA1 rw1 (by rw [eH]; simp) (fun z hz => by rw [eH]; simp [Array.getElem?_setIfInBounds, Ne.symm hz]) ?_ (fun z => absurd z (by have : mK M a ≤ 21 := q1.2; show ¬ (mK M a = 44 ∨ mK M a = 45 ∨ mK M a = 46); omega))
          unfold CR
          rw [e1]
          have h30 : mK M a ≤ 21 := q1.2
          refine ⟨fun _ _ _ => ?_, fun z => absurd z (hlp _ hq).1, fun z => absurd z (by show ¬ 40 ≤ mK M a; omega), fun z => absurd z (by show ¬ 60 ≤ mK M a; omega), fun z => absurd z (by show ¬ 100 ≤ mK M a; omega)⟩
          refine ⟨cell.setSlot f.slot vA, by rw [eH]; simp [ha], g2, g3, fun j hj => ?_⟩
          rw [hsl, t_set g4 hap q2 vA j hj]
          show some _ = some (fv φ M' (kft (mK M a) j) a j)
          rw [fv1 (kft (mK M a) j) j (fun e => by rw [e]; exact q3.1)]
          rfl
        · intro z hz
          rcases List.mem_append.mp hz with hz | hz
          · exact hl z hz
          · rw [List.mem_singleton.mp hz]; exact hbase
      by_cases hm1 : m1 = 0
      · rw [if_pos hm1] at hl1
        exact W.putf hx hb hown (hts _ hl1) hi hst hfin g1 hkn hlt h6.1 (by rw [g2, g3]; exact h6.2) rfl rfl hd (key _ rfl)
      · rw [if_neg hm1] at hl1
        exact va_Wputf hx hb hown (va_Nw.use rfl (hKW _ hl1 rfl)) hi hst hfin g1 hkn hlt h6.1 (by rw [g2, g3]; exact h6.2) rfl rfl hd (key _ rfl)
    · cases h
  · cases h
end
