/-! SOUNDNESS: every simple instruction (by gen/disp.py) -/
/-- how long an instruction is -/
def iln : Instr → Nat
  | .bipush _ => 2
  | .sipush _ => 3
  | .ldc _ => 2
  | .ldc_w _ => 3
  | .ldc2_w _ => 3
  | .getstatic _ => 3
  | .iload _ => 2
  | .lload _ => 2
  | .fload _ => 2
  | .dload _ => 2
  | .aload _ => 2
  | .istore _ => 2
  | .lstore _ => 2
  | .fstore _ => 2
  | .dstore _ => 2
  | .astore _ => 2
  | .iinc _ _ => 3
  | .getfield _ => 3
  | .putfield _ => 3
  | .new _ => 3
  | .newarray _ => 2
  | .anewarray _ => 3
  | .checkcast _ => 3
  | .instanceof _ => 3
  | .invokestatic _ => 3
  | .invokevirtual _ => 3
  | .invokespecial _ => 3
  | .invokeinterface _ _ => 5
  | .invokedynamic _ => 5
  | .ifCond _ _ => 3
  | .if_icmp _ _ => 3
  | .if_acmp _ _ => 3
  | .ifnull _ => 3
  | .ifnonnull _ => 3
  | .goto _ => 3
  | _ => 1
/-- what the tables must say of a simple instruction -/
def LK (own : String) (isInit : Prop) (i : Instr) (ar : List Nat) : Prop := match i with
  | .getfield idx => LKf own idx ar
  | .putfield idx => LKf own idx ar ∧ LKp own isInit ar
  | .new idx => LKn own idx ar
  | .newarray aty => LKna aty ar
  | .anewarray idx => LKan own idx ar
  | .checkcast idx => LKc own idx ar
  | .instanceof idx => LKc own idx ar
  | .ldc idx => LKl own idx ar
  | .ldc_w idx => LKl own idx ar
  | .ldc2_w idx => LKl2 own idx ar
  | .getstatic idx => LKg own idx ar
  | .invokestatic idx => LKt own idx ar
  | .invokevirtual idx => LKv own idx ar
  | _ => True
theorem so_lc : ∀ n : Fin 2, Int64.ofNat (n : Nat) = lI (n : Nat) := by decide
theorem so_bi {n : Int} (h : -128 ≤ n ∧ n ≤ 127) : (Int8.ofInt n).toInt32 = iI n := by
  apply Int32.toInt_inj.mp
  rw [Int8.toInt_toInt32, Int8.toInt_ofInt_of_le (by omega) (by omega)]
  unfold iI
  rw [Int32.toInt_ofInt_of_le (by omega) (by omega)]
theorem so_si {n : Int} (h : -32768 ≤ n ∧ n ≤ 32767) : (Int16.ofInt n).toInt32 = iI n := by
  apply Int32.toInt_inj.mp
  rw [Int16.toInt_toInt32, Int16.toInt_ofInt_of_le (by omega) (by omega)]
  unfold iI
  rw [Int32.toInt_ofInt_of_le (by omega) (by omega)]
theorem isI_cs {t : Nat} (h : ev_isI t = true) : t = 40 ∨ t = 60 ∨ t = 61 := by
  unfold ev_isI at h
  simp only [Bool.or_eq_true, beq_iff_eq] at h
  omega
theorem isB_cs {t : Nat} (h : ev_isB t = true) : t = 45 ∨ t = 65 ∨ t = 44 := by
  unfold ev_isB at h
  simp only [Bool.or_eq_true, beq_iff_eq] at h
  omega
theorem ARw.inb {c : ClassId} {n : Nat} {F : Nat → Value} {cell : Cell} {i : Int32} (h : ARw c n F cell) (hin : vp_in i n) : (¬ (i < 0 ∨ cell.slots.size ≤ i.toNatClampNeg)) ∧ cell.slots[i.toNatClampNeg]? = some (F i.toNatClampNeg) := by
  have hlt : i.toNatClampNeg < n := Nat.not_le.mp fun q => hin (Or.inr q)
  have h4 := h.2.2.2.1
  refine ⟨fun q => ?_, h.2.2.2.2.2 _ hlt⟩
  rcases q with q | q
  · exact hin (Or.inl q)
  · omega
theorem so_fs (x : Int32) : fits .short (.int x.toInt16.toInt32) = true := pk_fs x
theorem so_fb (x : Int32) : fits .byte (.int (ev_nar 45 x)) = true := pk_fb _
theorem so_fz (x : Int32) : fits .boolean (.int (ev_nar 44 x)) = true := by
  unfold ev_nar
  rw [if_pos rfl]
  split <;> rfl
theorem so_nz (x : Int32) : narrow .boolean (.int x) = .int (ev_nar 44 x) := by
  unfold ev_nar
  rw [if_pos rfl]
  have key : x &&& 1 = 0 ∨ x &&& 1 = 1 := by
    have h : ∀ b : BitVec 32, b &&& 1#32 = 0#32 ∨ b &&& 1#32 = 1#32 := by
      intro b
      rw [BitVec.and_one_eq_setWidth_ofBool_getLsbD]
      cases b.getLsbD 0
      · exact Or.inl rfl
      · exact Or.inr rfl
    rcases h x.toBitVec with h | h
    · exact Or.inl (Int32.toBitVec_inj.mp h)
    · exact Or.inr (Int32.toBitVec_inj.mp h)
  rcases key with h | h
  · simp [narrow, h]
  · simp [narrow, h]
theorem so_nb (x : Int32) : narrow .byte (.int x) = .int (ev_nar 45 x) := rfl
section
variable {p : Program} {l : Launch} {e : Env} {R : Room} {s : State} {m : MethodId} {args : Array Value} {below : List Frame} {meth : Method} {c : Code} {Q : State → Prop}
variable {D : rl_D} {bs : Nat} {H0 : Heap} {nL c0 s0 : Nat} {M0 : ev_M} {φ0 : Nat → Nat} {cd : ByteArray} {pc : Nat} {own : String}
theorem so_sound (hx : p.tables.exec = Jvm.exec) (hb : c.code = cd) (hml : c.maxLocals = nL) (hts : ∀ w ∈ lw_all, w.before args s = true) (hown : s.vm.findClass own = some m.cls) (hKK : KK D bs H0 s) (hfr : 1 ≤ R.frames) (hlo : 100 ≤ R.locals)
    {i : Instr} {len : Nat} {ar : List Nat} (hd : decode cd pc = .ok (i, len)) (hln : len = iln i) (hlk : LK own (meth.name = "<init>") i ar)
    {S S' : ev_S} (h : ev_so S i ar = some S') (hRc : ncl S'.2.2 ≤ R.cells + c0) (hRs : nsl S'.2.2 ≤ R.slots + s0) (k : WT p l e R s m args below meth c Q D bs H0 nL c0 s0 M0 φ0 S' (pc + len)) : WT p l e R s m args below meth c Q D bs H0 nL c0 s0 M0 φ0 S pc := by
  subst hln
  have hKN := hKK.1
  have hKW := hKK.2.1
  cases i with
  | iadd => exact wt_ii (fun k => lv_iadd hx hb hd k) h k
  | isub => exact wt_ii (fun k => lv_isub hx hb hd k) h k
  | imul => exact wt_ii (fun k => lv_imul hx hb hd k) h k
  | iand => exact wt_ii (fun k => lv_iand hx hb hd k) h k
  | ior => exact wt_ii (fun k => lv_ior hx hb hd k) h k
  | ixor => exact wt_ii (fun k => lv_ixor hx hb hd k) h k
  | ishl => exact wt_ii (fun k => lv_ishl hx hb hd k) h k
  | ishr => exact wt_ii (fun k => lv_ishr hx hb hd k) h k
  | iushr => exact wt_ii (fun k => lv_iushr hx hb hd rfl k) h k
  | idiv => exact wt_iin (fun hok k => lv_idiv hx hb hd (of_decide_eq_true hok) k) h k
  | irem => exact wt_iin (fun hok k => lv_irem hx hb hd (of_decide_eq_true hok) k) h k
  | ladd => exact wt_ll (fun k => lv_ladd hx hb hd k) h k
  | lsub => exact wt_ll (fun k => lv_lsub hx hb hd k) h k
  | lmul => exact wt_ll (fun k => lv_lmul hx hb hd k) h k
  | land => exact wt_ll (fun k => lv_land hx hb hd k) h k
  | lor => exact wt_ll (fun k => lv_lor hx hb hd k) h k
  | lxor => exact wt_ll (fun k => lv_lxor hx hb hd k) h k
  | lshl => exact wt_li (fun k => lv_lshl hx hb hd rfl k) h k
  | lshr => exact wt_li (fun k => lv_lshr hx hb hd rfl k) h k
  | lushr => exact wt_li (fun k => lv_lushr hx hb hd rfl k) h k
  | ineg => exact wt_i1 (f := fun x => .int (-x)) (fun _ _ => rfl) (fun _ _ => trivial) (fun k => lv_ineg hx hb hd k) h k
  | i2l => exact wt_i1 (f := fun x => .long x.toInt64) (fun _ _ => rfl) (fun _ _ => trivial) (fun k => lv_i2l hx hb hd rfl k) h k
  | i2b => exact wt_i1 (f := fun x => .int x.toInt8.toInt32) (fun _ _ => rfl) (fun _ _ => trivial) (fun k => lv_i2b hx hb hd rfl k) h k
  | i2s => exact wt_i1 (f := fun x => .int x.toInt16.toInt32) (fun _ _ => rfl) (fun _ _ => trivial) (fun k => lv_i2s hx hb hd rfl k) h k
  | i2f => exact wt_i1 (f := fun x => .float (FP.i2f x)) (fun _ _ => rfl) (fun _ _ => trivial) (fun k => lv_i2f hx hb hd k) h k
  | i2d => exact wt_i1 (f := fun x => .double (FP.i2d x)) (fun _ _ => rfl) (fun _ _ => trivial) (fun k => lv_i2d hx hb hd k) h k
  | i2c => exact wt_i1 (f := fun x => .int (x.toUInt32 % 65536).toInt32) (fun _ _ => rfl) (fun _ _ => trivial) (fun k => lv_i2c hx hb hd rfl k) h k
  | lneg => exact wt_l1 (f := fun x => .long (-x)) (fun _ _ => rfl) (fun _ _ => trivial) (fun k => lv_lneg hx hb hd k) h k
  | l2i => exact wt_l1 (f := fun x => .int x.toInt32) (fun _ _ => rfl) (fun _ _ => trivial) (fun k => lv_l2i hx hb hd rfl k) h k
  | f2i => exact wt_f1 (f := fun x => .int (FP.f2i x)) (fun _ _ => rfl) (fun _ _ => trivial) (fun k => lv_f2i hx hb hd k) h k
  | d2i => exact wt_d1 (f := fun x => .int (FP.d2i x)) (fun _ _ => rfl) (fun _ _ => trivial) (fun k => lv_d2i hx hb hd k) h k
  | d2l => exact wt_d1 (f := fun x => .long (FP.d2l x)) (fun _ _ => rfl) (fun _ _ => trivial) (fun k => lv_d2l hx hb hd k) h k
  | dneg => exact wt_d1 (f := fun x => .double (FP.dneg x)) (fun _ _ => rfl) (fun _ _ => trivial) (fun k => lv_dneg hx hb hd k) h k
  | fadd => exact wt_ffn (fun hok k => lv_fadd hx hb hd hok k) h k
  | fsub => exact wt_ffn (fun hok k => lv_fsub hx hb hd hok k) h k
  | fmul => exact wt_ffn (fun hok k => lv_fmul hx hb hd hok k) h k
  | fdiv => exact wt_ffn (fun hok k => lv_fdiv hx hb hd hok k) h k
  | frem => exact wt_ffn (fun hok k => lv_frem hx hb hd hok k) h k
  | dadd => exact wt_ddn (fun hok k => lv_dadd hx hb hd hok k) h k
  | dsub => exact wt_ddn (fun hok k => lv_dsub hx hb hd hok k) h k
  | dmul => exact wt_ddn (fun hok k => lv_dmul hx hb hd hok k) h k
  | ddiv => exact wt_ddn (fun hok k => lv_ddiv hx hb hd hok k) h k
  | drem => exact wt_ddn (fun hok k => lv_drem hx hb hd hok k) h k
  | f2d => exact wt_f2d (fun hok k => lv_f2d hx hb hd hok k) h k
  | d2f => exact wt_d2f (fun hok k => lv_d2f hx hb hd hok k) h k
  | lcmp => exact wt_lcmp (fun k => W.lcmp hx hb hd k) h k
  | fcmp op => exact wt_fcmp (fun k => lv_fcmp hx hb hd k) h k
  | dcmp op => exact wt_dcmp (fun k => lv_dcmp hx hb hd k) h k
  | iconst n => exact wt_push (v := .int (iI n)) (vA := .int (iI n)) (fun _ => rfl) trivial (fun kk => lv_iconst hx hb hd rfl kk) h k
  | bipush n => 
    unfold ev_so at h
    dsimp only at h
    split at h
    · rename_i hr
      exact wt_push (v := .int (iI n)) (vA := .int (iI n)) (fun _ => rfl) trivial (fun kk => lv_bipush hx hb hd (so_bi hr) kk) h k
    · cases h
  | sipush n => 
    unfold ev_so at h
    dsimp only at h
    split at h
    · rename_i hr
      exact wt_push (v := .int (iI n)) (vA := .int (iI n)) (fun _ => rfl) trivial (fun kk => lv_sipush hx hb hd (so_si hr) kk) h k
    · cases h
  | lconst n => exact wt_push (v := .long (lI (n : Nat))) (vA := .long (lI (n : Nat))) (fun _ => rfl) trivial (fun kk => lv_lconst hx hb hd (so_lc n) kk) h k
  | fconst n => 
    match n with
    | 0 => exact wt_push (v := .float FP.fconst0) (vA := .float FP.fconst0) (fun _ => rfl) trivial (fun kk => lv_fconst0 hx hb hd kk) h k
    | 1 => exact wt_push (v := .float FP.fconst1) (vA := .float FP.fconst1) (fun _ => rfl) trivial (fun kk => lv_fconst1 hx hb hd kk) h k
    | 2 => exact wt_push (v := .float FP.fconst2) (vA := .float FP.fconst2) (fun _ => rfl) trivial (fun kk => lv_fconst2 hx hb hd kk) h k
  | dconst n => 
    match n with
    | 0 => exact wt_push (v := .double FP.dconst0) (vA := .double FP.dconst0) (fun _ => rfl) trivial (fun kk => lv_dconst0 hx hb hd kk) h k
    | 1 => exact wt_push (v := .double FP.dconst1) (vA := .double FP.dconst1) (fun _ => rfl) trivial (fun kk => lv_dconst1 hx hb hd kk) h k
  | aconst_null => 
    cases h
    intro φ lsA stA H locs cells slots hE hn hR hL hS hl hc hs
    exact lv_null hx hb hd (k φ lsA (.null :: stA) H locs cells slots hE hn hR hL (StR.mk (v := .ref 0) rfl hR.1.1 hS) hl hc hs)
  | ldc idx => exact wt_ldc hx hb hts hown hKK hlk hd h k
  | ldc_w idx => exact wt_ldcw hx hb hts hown hlk hd h k
  | ldc2_w idx => exact wt_ldc2 hx hb hts hown hlk hd h k
  | getstatic idx => exact wt_gets hx hb hts hown hKK hlk hd h k
  | iload_n q => exact wt_iload (fun hl kk => lv_iload_n hx hb hd rfl hl kk) h k
  | iload q => exact wt_iload (fun hl kk => lv_iload hx hb hd hl kk) h k
  | istore_n q => exact wt_istore (fun h1 h2 kk => lv_istore_n hx hb hd rfl h1 h2 rfl kk) h k
  | istore q => exact wt_istore (fun h1 h2 kk => lv_istore hx hb hd h1 h2 rfl kk) h k
  | lload_n q => exact wt_lload (fun hl kk => lv_lload_n hx hb hd rfl hl kk) h k
  | lload q => exact wt_lload (fun hl kk => lv_lload hx hb hd hl kk) h k
  | lstore_n q => exact wt_lstore (fun h1 h2 kk => lv_lstore_n hx hb hd rfl h1 h2 rfl kk) h k
  | lstore q => exact wt_lstore (fun h1 h2 kk => lv_lstore hx hb hd h1 h2 rfl kk) h k
  | fload_n q => exact wt_fload (fun hl kk => lv_fload_n hx hb hd rfl hl kk) h k
  | fload q => exact wt_fload (fun hl kk => lv_fload hx hb hd hl kk) h k
  | fstore_n q => exact wt_fstore (fun h1 h2 kk => lv_fstore_n hx hb hd rfl h1 h2 rfl kk) h k
  | fstore q => exact wt_fstore (fun h1 h2 kk => lv_fstore hx hb hd h1 h2 rfl kk) h k
  | dload_n q => exact wt_dload (fun hl kk => lv_dload_n hx hb hd rfl hl kk) h k
  | dload q => exact wt_dload (fun hl kk => lv_dload hx hb hd hl kk) h k
  | dstore_n q => exact wt_dstore (fun h1 h2 kk => lv_dstore_n hx hb hd rfl h1 h2 rfl kk) h k
  | dstore q => exact wt_dstore (fun h1 h2 kk => lv_dstore hx hb hd h1 h2 rfl kk) h k
  | aload_n q => exact wt_aload (fun hl kk => lv_aload_n hx hb hd rfl hl kk) (fun hl kk => lv_aload_nN hx hb hd rfl hl kk) h k
  | aload q => exact wt_aload (fun hl kk => lv_aload hx hb hd hl kk) (fun hl kk => lv_aloadN hx hb hd hl kk) h k
  | astore_n q => exact wt_astore (fun h1 h2 kk => lv_astore_n hx hb hd rfl h1 h2 rfl kk) (fun h1 h2 kk => lv_astore_nN hx hb hd rfl h1 h2 rfl kk) h k
  | astore q => exact wt_astore (fun h1 h2 kk => lv_astore hx hb hd h1 h2 rfl kk) (fun h1 h2 kk => lv_astoreN hx hb hd h1 h2 rfl kk) h k
  | iinc q z => exact wt_iinc (fun h1 h2 h3 kk => lv_iinc hx hb hd h1 h2 rfl h3 rfl kk) h k
  | pop => exact wt_pop hx hb hd h k
  | pop2 => exact wt_pop2 hx hb hd h k
  | dup => exact wt_dup hx hb hd h k
  | dup_x1 => exact wt_dup_x1 hx hb hd h k
  | dup_x2 => exact wt_dup_x2 hx hb hd h k
  | dup2 => exact wt_dup2 hx hb hd h k
  | iaload => 
    refine wt_ald (ct := 0) (fun t ht => ?_) (fun a j => rfl) (fun hok hcell hAR hin kk => ?_) h k
    · rcases isI_cs ht with rfl | rfl | rfl <;> decide
    · have hi := hAR.inb hin
      refine W.iald hx hb hcell (hAR.isA ?_) hAR.2.2.1 hi.1 hi.2 rfl rfl hd kk
      rcases isI_cs hok with rfl | rfl | rfl <;> exact (hKN.2 _ (by decide)).1
  | baload => 
    refine wt_ald (ct := 0) (fun t ht => ?_) (fun a j => rfl) (fun hok hcell hAR hin kk => ?_) h k
    · rcases isB_cs ht with rfl | rfl | rfl <;> decide
    · have hi := hAR.inb hin
      rcases isB_cs hok with rfl | rfl | rfl
      · exact W.bald hx hb hcell (hAR.isA (ty := .byte) (hKN.2 45 (by decide)).1) hAR.2.2.1 hi.1 hi.2 rfl rfl hd kk
      · exact W.bald hx hb hcell (hAR.isA (ty := .byte) (hKN.2 65 (by decide)).1) hAR.2.2.1 hi.1 hi.2 rfl rfl hd kk
      · exact W.zald hx hb hcell (hAR.isA (ty := .boolean) (hKN.2 44 (by decide)).1) hAR.2.2.1 hi.1 hi.2 rfl rfl hd kk
  | saload => 
    refine wt_ald (ok := (· == 46)) (ct := 0) (fun t ht => ?_) (fun a j => rfl) (fun hok hcell hAR hin kk => ?_) h k
    · have ht := eq_of_beq ht
      subst ht
      decide
    · have hi := hAR.inb hin
      have hok := eq_of_beq hok
      subst hok
      exact W.sald hx hb hcell (hAR.isA (ty := .short) (hKN.2 46 (by decide)).1) hAR.2.2.1 hi.1 hi.2 rfl rfl hd kk
  | laload => 
    refine wt_ald (ok := (· == 41)) (ct := 1) (fun t ht => ?_) (fun a j => rfl) (fun hok hcell hAR hin kk => ?_) h k
    · have ht := eq_of_beq ht
      subst ht
      decide
    · have hi := hAR.inb hin
      have hok := eq_of_beq hok
      subst hok
      exact W.lald hx hb hcell (hAR.isA (ty := .long) (hKN.2 41 (by decide)).1) hAR.2.2.1 hi.1 hi.2 rfl rfl hd kk
  | faload => 
    refine wt_ald (ok := (· == 42)) (ct := 2) (fun t ht => ?_) (fun a j => rfl) (fun hok hcell hAR hin kk => ?_) h k
    · have ht := eq_of_beq ht
      subst ht
      decide
    · have hi := hAR.inb hin
      have hok := eq_of_beq hok
      subst hok
      exact W.fald hx hb hcell (hAR.isA (ty := .float) (hKN.2 42 (by decide)).1) hAR.2.2.1 hi.1 hi.2 rfl rfl hd kk
  | daload => 
    refine wt_ald (ok := (· == 43)) (ct := 3) (fun t ht => ?_) (fun a j => rfl) (fun hok hcell hAR hin kk => ?_) h k
    · have ht := eq_of_beq ht
      subst ht
      decide
    · have hi := hAR.inb hin
      have hok := eq_of_beq hok
      subst hok
      exact W.dald hx hb hcell (hAR.isA (ty := .double) (hKN.2 43 (by decide)).1) hAR.2.2.1 hi.1 hi.2 rfl rfl hd kk
  | aaload => 
    refine wt_ald (ct := 4) (fun t ht => ⟨isA_mem ht, isA_kat ht⟩) (fun a j => rfl) (fun hok hcell hAR hin kk => ?_) h k
    have hi := hAR.inb hin
    obtain ⟨C, hC⟩ := isA_obj hok
    exact W.aald hx hb hcell (hAR.isA (hKN.2 _ (isA_mem hok)).1) (by rw [hC]; rfl) hAR.2.2.1 hi.1 hi.2 rfl rfl hd kk
  | arraylength => exact wt_alen (fun hm hcell hAR kk => W.alen hx hb hcell (hAR.isA (hKN.2 _ hm).1) hAR.2.2.2.2.1 rfl rfl hd kk) h k
  | iastore => 
    refine wt_iast (ok := (· == 40)) (f := fun _ x => x) (fun t ht => ?_) (fun t x ht h4 => ?_) (fun hok hcell hin kk => ?_) h k
    · have ht := eq_of_beq ht
      subst ht
      decide
    · have ht := eq_of_beq ht
      omega
    · have hok := eq_of_beq hok
      subst hok
      exact W.iast hx hb hcell ((hKN.2 40 (by decide)).1 _ _) (fun q => by cases q) (by rw [arrV_size]; exact hin) rfl rfl hd kk
  | sastore => 
    refine wt_iast (ok := (· == 46)) (f := fun _ x => x.toInt16.toInt32) (fun t ht => ?_) (fun t x ht h4 => ?_) (fun hok hcell hin kk => ?_) h k
    · have ht := eq_of_beq ht
      subst ht
      decide
    · have ht := eq_of_beq ht
      subst ht
      exact so_fs x
    · have hok := eq_of_beq hok
      subst hok
      exact W.sast hx hb hcell ((hKN.2 46 (by decide)).1 _ _) (fun q => by cases q) (by rw [arrV_size]; exact hin) rfl rfl hd kk
  | bastore => 
    have cs : ∀ t, (fun t => t == 44 || t == 45) t = true → t = 44 ∨ t = 45 := by
      intro t ht
      simp only [Bool.or_eq_true, beq_iff_eq] at ht
      exact ht
    refine wt_iast (ok := fun t => t == 44 || t == 45) (f := ev_nar) (fun t ht => ?_) (fun t x ht h4 => ?_) (fun {lsA H locs cells slots t n q F i x rest} hok hcell hin kk => ?_) h k
    · rcases cs t ht with rfl | rfl <;> decide
    · rcases cs t ht with rfl | rfl
      · exact so_fz x
      · exact so_fb x
    · rcases cs _ hok with rfl | rfl
      · exact W.zast hx hb hcell ((hKN.2 44 (by decide)).1 _ _) (fun q => by cases q) (by rw [arrV_size]; exact hin) rfl rfl hd (by rw [so_nz x]; exact kk)
      · exact W.bast hx hb hcell ((hKN.2 45 (by decide)).1 _ _) (fun q => by cases q) (by rw [arrV_size]; exact hin) rfl rfl hd (by rw [so_nb x]; exact kk)
  | lastore => 
    refine wt_last (fun hok hcell hin kk => ?_) h k
    subst hok
    exact W.last hx hb hcell ((hKN.2 41 (by decide)).1 _ _) (fun q => by cases q) (by rw [arrV_size]; exact hin) rfl rfl hd kk
  | fastore => 
    refine wt_fast (fun hok hcell hin kk => ?_) h k
    subst hok
    exact W.fast hx hb hcell ((hKN.2 42 (by decide)).1 _ _) (fun q => by cases q) (by rw [arrV_size]; exact hin) rfl rfl hd kk
  | dastore => 
    refine wt_dast (fun hok hcell hin kk => ?_) h k
    subst hok
    exact W.dast hx hb hcell ((hKN.2 43 (by decide)).1 _ _) (fun q => by cases q) (by rw [arrV_size]; exact hin) rfl rfl hd kk
  | aastore => exact wt_aast hx hb hKK hd h k
  | getfield idx => exact wt_getf hx hb hts hKW hown hKN hlk hd h k
  | putfield idx => exact wt_putf hx hb hts hKW hown hKN hlk.1 hlk.2 hd h k
  | new idx => exact wt_new hx hb hts hown hKN hlk hd h hRc hRs k
  | newarray aty => exact wt_newa hx hb hts hKN hlk hd h hRc hRs k
  | anewarray idx => exact wt_anewa hx hb hts hKW hown hKN hlk hd h hRc hRs k
  | checkcast idx => exact wt_ccast hx hb hts hown hKK hlk hd h k
  | instanceof idx => exact wt_inst hx hb hts hown hKK hlk hd h k
  | invokestatic idx => exact wt_nat hx hb hml hts hown hKK hlk hd hfr hlo h k
  | invokevirtual idx => exact wt_natv hx hb hml hts hown hKK hlk hd hfr hlo h k
  | _ => exact nomatch (show (none : Option ev_S) = some S' from h)
end
