/-! SOUNDNESS: the sites of lambdas (invokedynamic) -/
theorem bindS {α β : Type} {x : Option α} {f : α → Option β} {r : β} (h : x.bind f = some r) : ∃ y, x = some y ∧ f y = some r := Option.bind_eq_some_iff.mp h
theorem lm_i15 {α : Type} {x : Array Nat} {f : Nat → Nat → Nat → Option α} {r : α} (h : Lambda.shapeOf?.match_15 (fun _ => Option α) x f (fun _ => none) = some r) : ∃ a b c, f a b c = some r := by
  obtain ⟨L⟩ := x
  match L, h with
  | [a, b, c], h => exact ⟨a, b, c, h⟩
  | [], h => cases h
  | [_], h => cases h
  | [_, _], h => cases h
  | _ :: _ :: _ :: _ :: _, h => cases h
theorem lm_site {cf : ClassFile} {index : Nat} {σ : Lambda.Shape} (h : Lambda.shapeOf? cf index = some σ) : ∃ (b nt : Nat) (desc : String) (site : MethodDescriptor), cf.constantPool[index]? = some (.invokeDynamic b nt) ∧ cf.constantPool.nameAndType? nt = some (σ.name, desc) ∧ parseMethodDescriptor desc = some site ∧ site.parameters = σ.captured := by
  unfold Lambda.shapeOf? at h
  split at h
  · rename_i b nt hc
    obtain ⟨entries, -, h⟩ := bindS h
    obtain ⟨bm, -, h⟩ := bindS h
    split at h
    · obtain ⟨_, -, h⟩ := bindS h
      obtain ⟨a0, a1, a2, h⟩ := lm_i15 h
      split at h
      · split at h
        · split at h
          · obtain ⟨⟨name, desc⟩, hnt, h⟩ := bindS h
            obtain ⟨site, hsite, h⟩ := bindS h
            split at h
            · obtain ⟨⟨implClass, implName, implDesc, implItf⟩, -, h⟩ := bindS h
              obtain ⟨x1, -, h⟩ := bindS h
              obtain ⟨x2, -, h⟩ := bindS h
              obtain ⟨x3, -, h⟩ := bindS h
              obtain ⟨x4, -, h⟩ := bindS h
              obtain ⟨x5, -, h⟩ := bindS h
              cases h
              exact ⟨b, nt, desc, site, hc, hnt, hsite, rfl⟩
            · cases h
          · cases h
        · cases h
      · cases h
    · cases h
  · cases h
theorem puts_spec {φ : Nat → Nat} {a : Nat} : ∀ (ts : List Nat) (k : Nat) (vs As : List Value) (M M' : ev_M), ev_puts M a ts k vs = some M' → WFM M → StR φ M vs As →
    (mK M' = mK M ∧ mN M' = mN M ∧ nx M' = nx M ∧ mS M' = mS M ∧ ncl M' = ncl M ∧ nsl M' = nsl M) ∧ (∀ b j, mA M' b j < nx M) ∧ (∀ b, b ≠ a → Row M M' b) ∧ (∀ c j, j < k → fv φ M' c a j = fv φ M c a j) ∧ As.length = ts.length ∧ ∀ j c, ts[j]? = some c → As[j]? = some (fv φ M' c a (k + j))
  | [], k, [], [], M, M', h, hM, _ => by
    cases h
    exact ⟨⟨rfl, rfl, rfl, rfl, rfl, rfl⟩, hM.2.1, fun b _ => ⟨rfl, rfl, rfl, rfl, rfl⟩, fun _ _ _ => rfl, rfl, fun j c hj => by simp at hj⟩
  | t :: ts, k, v :: vs, vA :: As, M, M', h, hM, hS => by
    unfold ev_puts at h
    split at h
    · rename_i M1 h1
      obtain ⟨⟨hv, hw⟩, hS2⟩ := hS
      obtain ⟨⟨e1, e2, e3, e4, e5, e6⟩, e7, e8, e9⟩ := ev_put_spec h1 hM hw hv
      have hM1 : WFM M1 := ⟨by rw [e3]; exact hM.1, by rw [e3]; exact e7, by rw [e4, e3]; exact hM.2.2.1, by rw [e1, e3]; exact hM.2.2.2⟩
      obtain ⟨⟨g1, g2, g3, g4, g5, g6⟩, g7, g8, g9, g10, g11⟩ := puts_spec ts (k + 1) vs As M1 M' h hM1 (StR_to (M := M) M1 e3 hS2)
      refine ⟨⟨g1.trans e1, g2.trans e2, g3.trans e3, g4.trans e4, g5.trans e5, g6.trans e6⟩, fun b j => by rw [← e3]; exact g7 b j, fun b hb => ?_, fun c j hj => ?_, by simp [g10], fun j c hj => ?_⟩
      · obtain ⟨a1, a2, a3, a4, a5⟩ := e8 b hb
        obtain ⟨b1, b2, b3, b4, b5⟩ := g8 b hb
        exact ⟨b1.trans a1, b2.trans a2, b3.trans a3, b4.trans a4, b5.trans a5⟩
      · rw [g9 c j (by omega), e9 c j (fun q => by omega), if_neg (by omega)]
      · cases j with
        | zero =>
          cases hj
          rw [Nat.add_zero, g9 t k (by omega), e9 t k (fun _ => rfl), if_pos rfl]
          rfl
        | succ j =>
          rw [List.getElem?_cons_succ, show k + (j + 1) = k + 1 + j by omega]
          exact g11 j c (by simpa using hj)
    · cases h
  | [], _, _ :: _, _, _, _, h, _, _ => by cases h
  | _ :: _, _, [], _, _, _, h, _, _ => by cases h
  | [], _, [], _ :: _, _, _, _, _, hS => hS.elim
  | _ :: _, _, _ :: _, [], _, _, _, _, hS => hS.elim
theorem Rel.upd2 {D : rl_D} {φ : Nat → Nat} {bs : Nat} {H0 H H' : Heap} {M M' : ev_M} {n : Nat} (h : Rel D φ bs H0 M H) (hn0 : 1 ≤ n ∧ n < nx M) (hu : ∀ k, mK M k ≠ 0 → φ k = φ n → k = n) (hbs : bs ≤ φ n) (hfr : ¬ (mK M n = 44 ∨ mK M n = 45 ∨ mK M n = 46))
    (hk : mK M' = mK M) (hN : mN M' = mN M) (hx : nx M' = nx M) (hS : mS M' = mS M) (hwf : ∀ a k, mA M' a k < nx M) (hr : ∀ m, m ≠ n → Row M M' m)
    (hsz : H'.size = H.size) (hoth : ∀ q, q ≠ φ n → H'[q]? = H[q]?) (hc : CR D φ M' H' n) : Rel D φ bs H0 M' H' := by
  obtain ⟨⟨w1, w2, w3, w4⟩, r1, r2, r3, ⟨r4, r5⟩, r6, r7⟩ := h
  refine ⟨⟨by rw [hx]; exact w1, by rw [hx]; exact hwf, by rw [hx, hS]; exact w3, by rw [hk, hx]; exact w4⟩, by rw [hk, hsz]; exact r1, fun m => ?_, by rw [hk]; exact r3, ⟨by rw [hsz]; exact r4, fun q hq => ?_⟩, by rw [hS]; exact r6, fun m hm j => ?_⟩
  · by_cases hm : m = n
    · rw [hm]; exact hc
    · by_cases h0 : mK M m = 0
      · have h0' : mK M' m = 0 := by rw [hk]; exact h0
        unfold CR
        rw [h0']
        exact ⟨fun a => absurd a (by decide), fun a => absurd a (by decide), fun a => absurd a (by decide), fun a => absurd a (by decide), fun a => absurd a (by decide)⟩
      · exact CR_same (r2 m) (by rw [hk]) (by rw [hN]) (hr m hm) (hoth _ (fun e => hm (hu m h0 e)))
  · rw [hoth q (fun e => by omega)]
    exact r5 q hq
  · rw [hk] at hm ⊢
    by_cases e : m = n
    · rw [e] at hm; exact absurd hm hfr
    · rw [(hr m e).1]; exact r7 m hm j
theorem Rel.lam {D : rl_D} {φ : Nat → Nat} {bs : Nat} {H0 H : Heap} {M M' : ev_M} {t n : Nat} {vs As : List Value} (h : Rel D φ bs H0 M H) (ht : 100 ≤ t) (hp : ev_puts (wN M t 0 n) (nx M) (kcap t) 0 vs = some M') (hS : StR φ M vs As) {cell : Cell} (hcls : cell.cls = D.2.2.2.1 t) (hvm : cell.vm = .none) (hsl : cell.slots = As.toArray) :
    Rel D (up1 φ (nx M) H.size) bs H0 M' (H.push cell) ∧ nx M' = nx M + 1 ∧ ncl M' = ncl M + 1 ∧ nsl M' = nsl M + n ∧ As.length = (kcap t).length := by
  have hE : Ext M φ (up1 φ (nx M) H.size) := fun k hk => up1_n _ _ (by omega)
  have hk : mK (wN M t 0 n) (nx M) = t := up1_s _ _ _
  have e0 : (up1 φ (nx M) H.size) (nx M) = H.size := up1_s _ _ _
  obtain ⟨z, hz⟩ : ∃ z : Cell, z.cls = D.2.2.2.1 t ∧ z.vm = .none ∧ ∀ k c, (kcap t)[k]? = some c → z.slots[k]? = some (fv (up1 φ (nx M) H.size) (wN M t 0 n) c (nx M) k) := by
    obtain ⟨z1, z2, z3, z4, z5⟩ := wN_zero M t 0 n
    refine ⟨{ cls := D.2.2.2.1 t, slots := ((kcap t).map fun c => fv (up1 φ (nx M) H.size) (wN M t 0 n) c (nx M) 0).toArray, vm := .none }, rfl, rfl, fun k c hc => ?_⟩
    have e1 : fv (up1 φ (nx M) H.size) (wN M t 0 n) c (nx M) k = fv (up1 φ (nx M) H.size) (wN M t 0 n) c (nx M) 0 := by
      unfold fv
      rw [z1, z2, z3, z4, z5]
    rw [e1]
    simp [List.getElem?_map, hc]
  have h1 : Rel D (up1 φ (nx M) H.size) bs H0 (wN M t 0 n) (H.push z) := by
    refine h.push (by simp) (fun q hq => by rw [Array.getElem?_push, if_neg (by omega)]) ?_
    unfold CR
    rw [hk, e0]
    refine ⟨fun _ q => absurd q (by omega), fun q => absurd q (by omega), fun _ q => absurd q (by omega), fun _ q => absurd q (by omega), fun _ => ⟨z, by rw [Array.getElem?_push, if_pos rfl], hz.1, hz.2.1, hz.2.2⟩⟩
  have hSt : StR (up1 φ (nx M) H.size) (wN M t 0 n) vs As := StR_ext (M := M) hE (Nat.le_succ _) hS
  obtain ⟨⟨g1, g2, g3, g4, g5, g6⟩, g7, g8, g9, g10, g11⟩ := puts_spec (φ := up1 φ (nx M) H.size) (kcap t) 0 vs As _ M' hp h1.1 hSt
  refine ⟨h1.upd2 (n := nx M) ⟨h.1.1, Nat.lt_succ_self _⟩ (fun k k1 k3 => ?_) (by rw [e0]; exact h.2.2.2.2.1.1) (by rw [hk]; omega) g1 g2 g3 g4 g7 g8 (by simp) (fun q hq => ?_) ?_, g3, g5, g6, g10⟩
  · by_cases e : k = nx M
    · exact e
    · rw [e0, up1_n _ _ e] at k3
      have := h.2.1 k (by rw [← up1_n (mK M) t e]; exact k1)
      omega
  · rw [e0] at hq
    simp [Array.getElem?_push, hq]
  · unfold CR
    rw [g1, g2, hk, e0]
    refine ⟨fun _ q => absurd q (by omega), fun q => absurd q (by omega), fun _ q => absurd q (by omega), fun _ q => absurd q (by omega), fun _ => ⟨cell, by rw [Array.getElem?_push, if_pos rfl], hcls, hvm, fun k c hc => ?_⟩⟩
    rw [hsl, List.getElem?_toArray, g11 k c hc, Nat.zero_add]
def lm_tc (t : FieldType) : Nat := match t with
  | .int => 0
  | _ => 4
theorem wf_wN {M : ev_M} {t n s : Nat} (hM : WFM M) : WFM (wN M t n s) := by
  obtain ⟨w1, w2, w3, w4⟩ := hM
  refine ⟨Nat.succ_pos _, fun a k => ?_, fun k => Nat.lt_succ_of_lt (w3 k), fun k hk => ?_⟩
  · show up1 (mA M) (nx M) (fun _ => 0) a k < nx M + 1
    by_cases ha : a = nx M
    · rw [ha, up1_s]; exact Nat.succ_pos _
    · rw [up1_n _ _ ha]; exact Nat.lt_succ_of_lt (w2 a k)
  · by_cases e : k = nx M
    · rw [e]; exact ⟨w1, Nat.lt_succ_self _⟩
    · have hk : mK M k ≠ 0 := by
        have h2 : mK (wN M t n s) k = mK M k := up1_n _ _ e
        rw [← h2]; exact hk
      have := w4 k hk
      exact ⟨this.1, Nat.lt_succ_of_lt this.2⟩
theorem nar_all : ∀ (tys : List FieldType) (As : List Value), As.length = tys.length → (∀ (j : Nat) ty v, tys[j]? = some ty → As[j]? = some v → narrow ty v = v) → ((tys.zip As).map fun (t, v) => narrow t v) = As
  | [], [], _, _ => rfl
  | t :: ts, a :: As, hl, h => by
    simp only [List.zip_cons_cons, List.map_cons]
    rw [h 0 t a rfl rfl, nar_all ts As (by simpa using hl) (fun j ty v h1 h2 => h (j + 1) ty v (by simpa using h1) (by simpa using h2))]
  | [], _ :: _, hl, _ => by cases hl
  | _ :: _, [], hl, _ => by cases hl
/-- what is said of a site -/
def LDs (y : MethodName) (pc idx q : Nat) : Prop := (1 ≤ q ∧ q ≤ 41) ∧ (lm_g q).1 = y ∧ (lm_g q).2.1 = pc ∧ (lm_g q).2.2.1 = idx
def LDc (q k : Nat) : Prop := (lm_g q).2.2.2.captured = [] ∧ lm_c q = k ∧ k < 60
def LDm (q k : Nat) : Prop := (lm_g q).2.2.2.captured ≠ [] ∧ k = (lm_g q).2.2.2.captured.length ∧ kcap (100 + q) = (lm_g q).2.2.2.captured.map lm_tc ∧ ∀ t ∈ (lm_g q).2.2.2.captured, t = .int ∨ ∃ n, t = .object n
section
variable {p : Program} {l : Launch} {e : Env} {R : Room} {s : State} {m : MethodId} {args : Array Value} {below : List Frame} {meth : Method} {c : Code} {Q : State → Prop}
variable {D : rl_D} {bs : Nat} {H0 : Heap} {nL c0 s0 : Nat} {M0 : ev_M} {φ0 : Nat → Nat} {cd : ByteArray} {pc : Nat} {own : String}
theorem wt_dyn0 (hx : p.tables.exec = Jvm.exec) (hb : c.code = cd) (hml : c.maxLocals = nL) (hKK : KK D bs H0 s) {y : MethodName} (hnm : s.methodNamed? y = some m) {idx q k : Nat} (hD : LDs y pc idx q) (hc0 : LDc q k) (hd : decode cd pc = .ok (.invokedynamic idx, 5)) {ls st : List Value} {M : ev_M} (hw : ¬ 1000 < ev_w st) (hlo : 12000 ≤ R.locals)
    (kk : WT p l e R s m args below meth c Q D bs H0 nL c0 s0 M0 φ0 (ls, .ref (mS M k) :: st, M) (pc + 5)) : WT p l e R s m args below meth c Q D bs H0 nL c0 s0 M0 φ0 (ls, st, M) pc := by
  intro φ lsA stA H locs cells slots hE hn hR hL hS hl hc hs
  have hR : Rel D φ bs H0 M H := hR
  have hsum := StR_cat hS
  have hsum : (stA.map fun v => v.category).sum ≤ ev_w st := hsum
  have hsz : lsA.size = nL := by obtain ⟨-, l0, w, -⟩ := hL; exact w.1
  obtain ⟨hq, d1, d2, d3⟩ := hD
  obtain ⟨c1, c2, c3⟩ := hc0
  obtain ⟨m', kc, cf, i0, p0, lk, k1, k2, -, -, k5, -, -, k8⟩ := hKK.2.2.2.2.2.2.2.2 q hq.1 hq.2
  rw [d1, hnm] at k1
  cases k1
  rcases k8 with ⟨-, rfl⟩ | ⟨h, -⟩
  · have k2' := kk φ lsA (.ref (D.2.2.2.2 k) :: stA) H locs cells slots hE hn hR hL (StR.mk (cref hR c3) (hR.1.2.2.1 k) hS) hl hc hs
    intro T hT X
    obtain ⟨t, a1, b1⟩ := k2' T hT X
    rw [d2, c2] at k5
    refine ⟨t, X.lambdaConstant hx (g := F0 m pc lsA stA) rfl (by rw [hml]; exact hsz) (by rw [hb]; exact hd) k2 k5 (by
      rw [show e.platform.lambdaLinkWords = 3072 by rw [X.admits.platform]]
      show 2 * 0 + (stA.map fun v => v.category).sum + 3072 ≤ R.locals
      omega) ?_, b1⟩
    exact a1
  · exact absurd c1 h
theorem wt_dyn1 (hx : p.tables.exec = Jvm.exec) (hb : c.code = cd) (hml : c.maxLocals = nL) (hts : ∀ w ∈ lw_all, w.before args s = true) (hob : obW ∈ lw_all) (hKK : KK D bs H0 s) {y : MethodName} (hnm : s.methodNamed? y = some m) {idx q k : Nat} (hD : LDs y pc idx q) (hm1 : LDm q k) (hd : decode cd pc = .ok (.invokedynamic idx, 5)) {ls st st' vs : List Value} {M M' : ev_M} (hw : ¬ 1000 < ev_w st) (hlo : 12000 ≤ R.locals)
    (h : ev_take k [] st = some (vs, st')) (hp : ev_puts (wN M (100 + q) 0 k) (nx M) (kcap (100 + q)) 0 vs = some M') (hRc : ncl M' ≤ R.cells + c0) (hRs : nsl M' ≤ R.slots + s0)
    (kk : WT p l e R s m args below meth c Q D bs H0 nL c0 s0 M0 φ0 (ls, .ref (nx M) :: st', M') (pc + 5)) : WT p l e R s m args below meth c Q D bs H0 nL c0 s0 M0 φ0 (ls, st, M) pc := by
  intro φ lsA stA H locs cells slots hE hn hR hL hS hl hc hs
  have hR : Rel D φ bs H0 M H := hR
  have hsum : (stA.map fun v => v.category).sum ≤ ev_w st := StR_cat hS
  have hsz : lsA.size = nL := by obtain ⟨-, l0, w, -⟩ := hL; exact w.1
  have hc' : cells + c0 = ncl M := hc
  have hs' : slots + s0 = nsl M := hs
  obtain ⟨As, restA, rfl, hlen, hSv, hSr⟩ := take_As h hS
  obtain ⟨hq, d1, d2, d3⟩ := hD
  obtain ⟨m1, m2, m3, m4⟩ := hm1
  have hKS := hKK.2.2.2.2.2.2.2.2 q hq.1 hq.2
  obtain ⟨F, lay, ms, mth, xc, pc', c1, c2, c3, c4, c5, c6, c7, c8, c9, c10, c11, c12, c13, c14, c15, c16, c17, c18⟩ := lm_chk_spec (lm_ok hq.1 hq.2)
  have hLM : LMF q F lay ms mth xc := ⟨c1, c2, c3, c4, c5⟩
  obtain ⟨kK, tk, methK, ck, t0, target, ⟨a1, a2, a3, a4, a5⟩, -⟩ := ks_made hKS (obw_ride hts hob s (State.WarmedH.refl s)) hLM
  obtain ⟨m', kc, cf, i0, p0, lk, k1, k2, k3, k4, k5, -, -, k8⟩ := hKS
  rw [d1, hnm] at k1
  cases k1
  rcases k8 with ⟨h9, -⟩ | ⟨-, rfl⟩
  · exact absurd h9 m1
  · obtain ⟨bsm, nt, desc, site, s1, s2, s3, s4⟩ := lm_site k4
    rw [d3] at s1
    rw [d2] at k5
    have hkt : kK.instanceTypes = (lm_g q).2.2.2.captured.toArray := a3.trans c11
    obtain ⟨-, -, -, -, p5, p6⟩ := puts_spec (φ := φ) (kcap (100 + q)) 0 vs As _ M' hp (wf_wN hR.1) (StR_ext (M := M) Ext.rf (Nat.le_succ _) hSv)
    have hAl : As.length = (lm_g q).2.2.2.captured.length := by rw [p5, m3, List.length_map]
    have hval : ∀ (j : Nat) ty v, (lm_g q).2.2.2.captured[j]? = some ty → As[j]? = some v → narrow ty v = v ∧ fits ty v = true := by
      intro j ty v hj hv
      have h1 := p6 j (lm_tc ty) (by rw [m3, List.getElem?_map, hj]; rfl)
      rw [hv] at h1
      have h2 := Option.some.inj h1
      rcases m4 ty (List.mem_of_getElem? hj) with rfl | ⟨n, rfl⟩
      · rw [h2]; exact ⟨rfl, rfl⟩
      · have h3 : v = crf φ (mA M' (nx M) (0 + j)) := h2
        rw [h3]
        unfold crf
        split <;> exact ⟨rfl, rfl⟩
    have hsl : ((kK.instanceTypes.toList.zip As).map fun (t, v) => narrow t v) = As := by
      rw [hkt, List.toList_toArray]
      exact nar_all _ _ hAl fun j ty v g1 g2 => (hval j ty v g1 g2).1
    obtain ⟨r1, r2, r3, r4, r5⟩ := hR.lam (cell := { cls := D.2.2.2.1 (100 + q), slots := As.toArray, vm := .none }) (t := 100 + q) (by omega) hp hSv rfl rfl rfl
    have hEx : Ext M φ (up1 φ (nx M) H.size) := fun z hz => up1_n _ _ (by omega)
    have kk2 := kk (up1 φ (nx M) H.size) lsA (.ref H.size :: restA) (H.push { cls := D.2.2.2.1 (100 + q), slots := As.toArray, vm := .none }) locs (cells + 1) (slots + k) (hE.tr hEx hn) (Nat.le_trans hn (by show nx M ≤ nx M'; omega)) r1 (LocR_ext (M := M) hEx (by show nx M ≤ nx M'; omega) hL)
      (StR.mk (by
        show Value.ref H.size = crf (up1 φ (nx M) H.size) (nx M)
        rw [crf, if_neg (by have := hR.1.1; omega), up1_s]) (by show nx M < nx M'; omega) (StR_ext (M := M) hEx (by show nx M ≤ nx M'; omega) hSr)) hl (by show cells + 1 + c0 = ncl M'; omega) (by show slots + k + s0 = nsl M'; omega)
    intro T hT X
    have hAk : As.length = k := by rw [hAl, m2]
    obtain ⟨X1, st1⟩ := X.lambdaMakes hx (g := F0 m pc lsA (As.reverse ++ restA)) rfl (by rw [hml]; exact hsz) (by rw [hb]; exact hd) (kc := kK) (vals := As) (rest := restA) k2 k5 k3 s1 s2 (parseLong_of_parse s3) (by rw [s4]; exact hAl) rfl a1
      (by
        rw [show e.platform.lambdaLinkWords = 3072 by rw [X.admits.platform]]
        show 2 * 0 + ((As.reverse ++ restA).map fun v => v.category).sum + 3072 ≤ R.locals
        omega) (by omega) (by rw [hsl]; omega)
      (fun i v hv => by
        rw [hsl, List.getElem?_toArray] at hv
        have hj : i < As.length := (List.getElem?_eq_some_iff.mp hv).1
        have hg : (lm_g q).2.2.2.captured[i]? = some (lm_g q).2.2.2.captured[i] := List.getElem?_eq_getElem (by omega)
        have hf := (hval i _ v hg hv).2
        simp only [State.fitsSlot, State.slotType?, a1, a5, hkt, Option.bind_eq_bind, Option.bind_some, List.getElem?_toArray, hg]
        exact hf)
    rw [hsl] at X1 st1
    have e1 : slots + As.toArray.size = slots + k := by simp [hAk]
    rw [e1] at X1
    have hh : (T.pushCell { cls := D.2.2.2.1 (100 + q), slots := As.toArray, vm := .none }).heap = H.push { cls := D.2.2.2.1 (100 + q), slots := As.toArray, vm := .none } := by rw [← hT]; rfl
    obtain ⟨t, b1, b2⟩ := kk2 _ hh X1
    refine ⟨t, st1 t ?_, b2⟩
    rw [hT]
    exact b1
end
