theorem shr1_toInt (x : Int32) : (x >>> ((1 : Int32) &&& 31)).toInt = x.toInt / 2 := by
  show (x.toBitVec.sshiftRight 1).toInt = x.toBitVec.toInt / 2
  rw [BitVec.toInt_sshiftRight, Int.shiftRight_eq_div_pow]
  rfl
theorem xor2_neg (x : Int32) : x ^^^ 2 < 0 ↔ x < 0 := by
  have h0 : (0 : Int32).toInt = 0 := rfl
  rw [fa_lt, fa_lt, h0]
  show (x.toBitVec ^^^ (2 : Int32).toBitVec).toInt < 0 ↔ x.toBitVec.toInt < 0
  have e := BitVec.msb_xor (x := x.toBitVec) (y := (2 : Int32).toBitVec)
  rw [show (2 : Int32).toBitVec.msb = false from rfl, Bool.xor_false, BitVec.msb_eq_toInt, BitVec.msb_eq_toInt] at e
  constructor
  · intro h; exact of_decide_eq_true (e ▸ decide_eq_true h)
  · intro h; exact of_decide_eq_true (e.symm ▸ decide_eq_true h)
theorem div2_toInt (x : Int32) : (x / 2).toInt = x.toInt.tdiv 2 := by
  have h1 := Int32.le_toInt x
  have h2 := Int32.toInt_lt x
  rw [Int32.toInt_div]
  rw [show (2 : Int32).toInt = 2 from rfl]
  have h3 : -(2 ^ 31) ≤ x.toInt.tdiv 2 ∧ x.toInt.tdiv 2 < 2 ^ 31 := by
    rcases Int.lt_or_le x.toInt 0 with c | c
    · have e : x.toInt = -(-x.toInt) := by omega
      rw [e, Int.neg_tdiv, Int.tdiv_eq_ediv_of_nonneg (by omega)]
      omega
    · rw [Int.tdiv_eq_ediv_of_nonneg c]; omega
  unfold Int.bmod
  simp only
  omega
theorem fd_p {x : Int32} (h : ¬ x ^^^ 2 < 0) : x / 2 = x >>> ((1 : Int32) &&& 31) := by
  apply Int32.toInt_inj.mp
  rw [shr1_toInt, div2_toInt]
  have c : 0 ≤ x.toInt := by
    have := mt (xor2_neg x).mpr h
    rw [fa_lt] at this
    have h0 : (0 : Int32).toInt = 0 := rfl
    omega
  exact Int.tdiv_eq_ediv_of_nonneg c
theorem fd_tdiv {x : Int32} (h : x ^^^ 2 < 0) : x.toInt < 0 ∧ x.toInt.tdiv 2 = -((-x.toInt) / 2) := by
  have c : x.toInt < 0 := by
    have := (xor2_neg x).mp h
    rw [fa_lt] at this
    have h0 : (0 : Int32).toInt = 0 := rfl
    omega
  refine ⟨c, ?_⟩
  have e : x.toInt = -(-x.toInt) := by omega
  rw [e, Int.neg_tdiv, Int.tdiv_eq_ediv_of_nonneg (by omega), ← e]
theorem dbl_toInt (x : Int32) (h : x ^^^ 2 < 0) : (x / 2 * 2).toInt = 2 * x.toInt.tdiv 2 := by
  have ⟨c, e⟩ := fd_tdiv h
  have h1 := Int32.le_toInt x
  rw [Int32.toInt_mul, div2_toInt, show (2 : Int32).toInt = 2 from rfl, e]
  unfold Int.bmod
  simp only
  omega
theorem fd_e {x : Int32} (h : x ^^^ 2 < 0) (q : x / 2 * 2 = x) : x / 2 = x >>> ((1 : Int32) &&& 31) := by
  apply Int32.toInt_inj.mp
  have ⟨c, e⟩ := fd_tdiv h
  have d := dbl_toInt x h
  rw [q, e] at d
  rw [shr1_toInt, div2_toInt, e]
  omega
theorem fd_o {x : Int32} (h : x ^^^ 2 < 0) (q : ¬ x / 2 * 2 = x) : x / 2 - 1 = x >>> ((1 : Int32) &&& 31) := by
  apply Int32.toInt_inj.mp
  have ⟨c, e⟩ := fd_tdiv h
  have d := dbl_toInt x h
  have h1 := Int32.le_toInt x
  have n : ¬ 2 * x.toInt.tdiv 2 = x.toInt := fun z => q (Int32.toInt_inj.mp (d.trans z))
  rw [e] at n
  rw [shr1_toInt, Int32.toInt_sub, div2_toInt, e, show (1 : Int32).toInt = 1 from rfl]
  unfold Int.bmod
  simp only
  omega
set_option maxRecDepth 100000 in
theorem cc_floorDiv {l : Launch} {Γ : Gm} {A : Nat → Prop} {ρ : State → Prop} (B : Bs l A ρ) (x : Int32) : CtP l Γ A ρ yJ12_floorDiv cJ12_floorDiv 3 (some .int) 0 0 [.int x, .int 2] (.int (x >>> ((1 : Int32) &&& 31))) := by
  intro J
  refine Ct.ofF B.1 B.2 (by decide +kernel) [some (.int x), some (.int 2), none] (Nat.le_of_ble_eq_true rfl) rfl ?_
  intro E hE C R
  subst hE
  refine g_iload_n C dJ12_floorDiv_0 rfl rfl ?_
  refine g_iload_n C dJ12_floorDiv_1 rfl rfl ?_
  refine g_idiv C dJ12_floorDiv_2 (by decide) ?_
  refine g_istore_n (lv' := [some (.int x), some (.int 2), some (.int (x / 2))]) C dJ12_floorDiv_3 rfl (by decide) rfl ?_
  refine g_iload_n C dJ12_floorDiv_4 rfl rfl ?_
  refine g_iload_n C dJ12_floorDiv_5 rfl rfl ?_
  refine g_ixor C dJ12_floorDiv_6 ?_
  refine g_if_ge 21 C dJ12_floorDiv_7 rfl (fun c7 => ?_) (fun c7 => ?_)
  · refine g_iload_n C dJ12_floorDiv_21 rfl rfl ?_
    exact g_iret C R (Nat.le_of_ble_eq_true rfl) (Nat.le_of_ble_eq_true rfl) dJ12_floorDiv_22 (fun H hH => ⟨by rw [fd_p (fun z => by rw [fa_le] at c7; rw [fa_lt] at z; omega)], hH⟩)
  · refine g_iload_n C dJ12_floorDiv_10 rfl rfl ?_
    refine g_iload_n C dJ12_floorDiv_11 rfl rfl ?_
    refine g_imul C dJ12_floorDiv_12 ?_
    refine g_iload_n C dJ12_floorDiv_13 rfl rfl ?_
    refine g_icmp_eq 21 C dJ12_floorDiv_14 rfl (fun c14 => ?_) (fun c14 => ?_)
    · refine g_iload_n C dJ12_floorDiv_21 rfl rfl ?_
      exact g_iret C R (Nat.le_of_ble_eq_true rfl) (Nat.le_of_ble_eq_true rfl) dJ12_floorDiv_22 (fun H hH => ⟨by rw [fd_e (by rw [fa_le] at c7; rw [fa_lt]; omega) c14], hH⟩)
    · refine g_iload_n C dJ12_floorDiv_17 rfl rfl ?_
      refine g_iconst (v := 1) C dJ12_floorDiv_18 rfl ?_
      refine g_isub C dJ12_floorDiv_19 ?_
      exact g_iret C R (Nat.le_of_ble_eq_true rfl) (Nat.le_of_ble_eq_true rfl) dJ12_floorDiv_20 (fun H hH => ⟨by rw [fd_o (by rw [fa_le] at c7; rw [fa_lt]; omega) c14], hH⟩)
def ajM (e : Nat → Int32) (f0 : Int32) : Nat → Int32
  | 0 => f0
  | j + 1 => jmx (ajM e f0 j) (e (j + 1))
def ajL (e : Nat → Int32) (f0 : Int32) : Nat → Int32
  | 0 => f0
  | j + 1 => jmn (ajL e f0 j) (e (j + 1))
theorem ajM_eq (e : Nat → Int32) : ∀ n, ajM e (e 0) n = mxS e n
  | 0 => rfl
  | n + 1 => by
    simp only [ajM, mxS]
    rw [ajM_eq e n]
    unfold jmx
    by_cases c : e (n + 1) ≤ mxS e n
    · rw [if_pos c, if_neg (lele c)]
    · rw [if_neg c, if_pos (ltle c)]
theorem ajL_eq (e : Nat → Int32) : ∀ n, ajL e (e 0) n = mnS e n
  | 0 => rfl
  | n + 1 => by
    simp only [ajL, mnS]
    rw [ajL_eq e n]
    unfold jmn
    by_cases c : mnS e n ≤ e (n + 1)
    · rw [if_pos c, if_neg (lele c)]
    · rw [if_neg c, if_pos (ltle c)]
set_option maxRecDepth 100000 in
theorem cc_adjOf {l : Launch} {Γ : Gm} {A : Nat → Prop} {ρ : State → Prop} (B : Bc l Γ A ρ) {h : Hp} {F : Nat → Int32} {X : Nat → Nat → Int32} {nt ns nm ne nv nu ln : Nat} (J : Iv F X nt ns nm ne nv nu ln) {x : Nat} (R_ : RepC Γ F X nt ns nm ne nv nu h x) {k en0 v : Nat} (hk : k < nv) (V : RepV Γ (LdX X nm) (X 1) k h en0 v) : CtE l Γ A ρ yX1_adjustmentOf cX1_adjustmentOf 5 (some .int) { frames := 1, cells := 0, slots := 0, locals := 22 } [.ref x, .ref v] h (fun v h' => h' = h ∧ ∃ z, v = some (.int z) ∧ (1 ≤ tnV X k → z = adI X nm k)) := by
  refine Ct.of B.1.1 B.1.2 (by decide) [some (.ref x), some (.ref v), none, none, none] (Nat.le_of_ble_eq_true rfl) rfl ?_
  intro E hE C R
  subst hE
  have SC_ := B.2 _ C.r
  have ht_ := J.lt
  have hs_ := J.ls
  have hm_ := J.lm
  have he_ := J.le
  have hu_ := J.lu
  have hl_ := J.ll
  have hv_ := J.lv
  obtain ⟨bu, mk, en, hi, sn, so, b7, b8, hs, fsn, fso, Rx, Rb, RK, RE, RH, RS, RA, RO⟩ := id R_
  obtain ⟨sl, wl, ma, te, fm, ft, ss, wq, Km, Kma, Kfm, Kte, Kft, Ksl, Kss, Kwl, Kws⟩ := id RK
  obtain ⟨vm, ve, fvm, fve, Vo, Vm, Ve, Vt⟩ := id V
  obtain ⟨sk, hsk, e1⟩ := (J.vi hk).1
  obtain ⟨tn, htn, e151, hts_⟩ := (J.vi hk).2.2.2.2.2
  refine g_aload_n C dX1_adjustmentOf_0 rfl rfl ?_
  refine c_getN 13 4 k_X15 in_X15 (by decide) (fun _ h => h) q1111 SC_ Vo rfl C dX1_adjustmentOf_1 ?_
  refine g_iconst (v := 0) C dX1_adjustmentOf_4 rfl ?_
  refine c_iald (i := 0) Ve (by omega) (by omega) C dX1_adjustmentOf_5 ?_
  refine g_istore_n (lv' := [some (.ref x), some (.ref v), some (.int (fve 0)), none, none]) C dX1_adjustmentOf_6 rfl (by decide) rfl ?_
  refine g_aload_n C dX1_adjustmentOf_7 rfl rfl ?_
  refine c_getN 13 4 k_X15 in_X15 (by decide) (fun _ h => h) q1111 SC_ Vo rfl C dX1_adjustmentOf_8 ?_
  refine g_iconst (v := 0) C dX1_adjustmentOf_11 rfl ?_
  refine c_iald (i := 0) Ve (by omega) (by omega) C dX1_adjustmentOf_12 ?_
  refine g_istore_n (lv' := [some (.ref x), some (.ref v), some (.int (fve 0)), some (.int (fve 0)), none]) C dX1_adjustmentOf_13 rfl (by decide) rfl ?_
  refine g_iconst (v := 1) C dX1_adjustmentOf_14 rfl ?_
  refine g_istore (lv' := [some (.ref x), some (.ref v), some (.int (fve 0)), some (.int (fve 0)), some (.int 1)]) C dX1_adjustmentOf_15 (by decide) rfl ?_
  by_cases ht0 : tn = 0
  · subst ht0
    refine g_iload C dX1_adjustmentOf_17 rfl ?_
    refine g_aload_n C dX1_adjustmentOf_19 rfl rfl ?_
    refine c_getN 13 5 k_X15 in_X15 (by decide) (fun _ h => h) q1113 SC_ Vo rfl C dX1_adjustmentOf_20 ?_
    refine g_topi (y := 0) (e151) ?_
    refine g_icmp_ge 56 C dX1_adjustmentOf_23 rfl (fun c23 => ?_) (fun c23 => ?_)
    · refine g_iload_n C dX1_adjustmentOf_56 rfl rfl ?_
      refine g_iload_n C dX1_adjustmentOf_57 rfl rfl ?_
      refine g_iadd C dX1_adjustmentOf_58 ?_
      refine g_iconst (v := 2) C dX1_adjustmentOf_59 rfl ?_
      refine h_callS (rest := []) 2 C (cc_floorDiv B.1 _ _) (lw_S q1257 q1258 q100 q1259) ⟨⟨by decide, by decide, by decide +kernel⟩, ⟨Nat.le_of_ble_eq_true rfl, Nat.le_of_ble_eq_true rfl⟩, ⟨Nat.le_of_ble_eq_true rfl, Nat.le_of_ble_eq_true rfl⟩⟩ (fun _ h => h) rfl rfl (Nat.le_of_ble_eq_true rfl) dX1_adjustmentOf_60 (h_P ?_)
      exact g_iret C R (Nat.le_of_ble_eq_true rfl) (Nat.le_of_ble_eq_true rfl) dX1_adjustmentOf_63 (fun H hH => ⟨h, ⟨rfl, _, rfl, fun ht => absurd ht (by rw [tn_eq e151 htn]; omega)⟩, hH⟩)
    · exact absurd c23 (by decide)
  · obtain ⟨tm, rfl⟩ : ∃ tm, tn = tm + 1 := ⟨tn - 1, by omega⟩
    refine g_for (P := fun j => G E (HP Γ A h) 0 0 17 [some (.ref x), some (.ref v), some (.int (ajM (erT X nm k) (fve 0) j)), some (.int (ajL (erT X nm k) (fve 0) j)), some (.int (nI (j + 1)))] []) tm ?_ ?_ 0 (Nat.zero_le _)
    · refine g_iload C dX1_adjustmentOf_17 rfl ?_
      refine g_aload_n C dX1_adjustmentOf_19 rfl rfl ?_
      refine c_getN 13 5 k_X15 in_X15 (by decide) (fun _ h => h) q1113 SC_ Vo rfl C dX1_adjustmentOf_20 ?_
      refine g_topi (y := nI (tm + 1)) (e151) ?_
      refine gN_ge (a := tm + 1) (b := tm + 1) 56 C dX1_adjustmentOf_23 rfl (by omega) (by omega) (fun c23 => ?_) (fun c23 => ?_)
      · refine g_iload_n C dX1_adjustmentOf_56 rfl rfl ?_
        refine g_iload_n C dX1_adjustmentOf_57 rfl rfl ?_
        refine g_iadd C dX1_adjustmentOf_58 ?_
        refine g_iconst (v := 2) C dX1_adjustmentOf_59 rfl ?_
        refine h_callS (rest := []) 2 C (cc_floorDiv B.1 _ _) (lw_S q1257 q1258 q100 q1259) ⟨⟨by decide, by decide, by decide +kernel⟩, ⟨Nat.le_of_ble_eq_true rfl, Nat.le_of_ble_eq_true rfl⟩, ⟨Nat.le_of_ble_eq_true rfl, Nat.le_of_ble_eq_true rfl⟩⟩ (fun _ h => h) rfl rfl (Nat.le_of_ble_eq_true rfl) dX1_adjustmentOf_60 (h_P ?_)
        exact g_iret C R (Nat.le_of_ble_eq_true rfl) (Nat.le_of_ble_eq_true rfl) dX1_adjustmentOf_63 (fun H hH => ⟨h, ⟨rfl, _, rfl, fun ht => (by unfold adI; rw [tn_eq e151 htn, show tm + 1 - 1 = tm from rfl, show fve 0 = erT X nm k 0 from (Vt 0 (by rw [e151, nI_clamp (by omega)]; omega)).2, ajM_eq, ajL_eq, add_c32])⟩, hH⟩)
      · exfalso; omega
    · intro j hj ih
      replace ih : G E (HP Γ A h) 0 0 17 [some (.ref x), some (.ref v), some (.int (ajM (erT X nm k) (fve 0) (j + 1))), some (.int (ajL (erT X nm k) (fve 0) (j + 1))), some (.int (nI ((j + 1) + 1)))] [] := ih
      refine g_iload C dX1_adjustmentOf_17 rfl ?_
      refine g_aload_n C dX1_adjustmentOf_19 rfl rfl ?_
      refine c_getN 13 5 k_X15 in_X15 (by decide) (fun _ h => h) q1113 SC_ Vo rfl C dX1_adjustmentOf_20 ?_
      refine g_topi (y := nI (tm + 1)) (e151) ?_
      refine gN_ge (a := j + 1) (b := tm + 1) 56 C dX1_adjustmentOf_23 rfl (by omega) (by omega) (fun c23 => ?_) (fun c23 => ?_)
      · exfalso; omega
      · refine g_iload_n C dX1_adjustmentOf_26 rfl rfl ?_
        refine g_aload_n C dX1_adjustmentOf_27 rfl rfl ?_
        refine c_getN 13 4 k_X15 in_X15 (by decide) (fun _ h => h) q1111 SC_ Vo rfl C dX1_adjustmentOf_28 ?_
        refine g_iload C dX1_adjustmentOf_31 rfl ?_
        refine c_iald (i := j + 1) Ve (by omega) (by omega) C dX1_adjustmentOf_33 ?_
        refine g_topi (y := erT X nm k (j + 1)) ((Vt (j + 1) (by rw [e151, nI_clamp (by omega)]; omega)).2) ?_
        refine h_callS (rest := []) 2 C (cc_max B.1 _ _ _) (lw_S q1043 q255 q100 q256) ⟨⟨by decide, by decide, by decide +kernel⟩, ⟨Nat.le_of_ble_eq_true rfl, Nat.le_of_ble_eq_true rfl⟩, ⟨Nat.le_of_ble_eq_true rfl, Nat.le_of_ble_eq_true rfl⟩⟩ (fun _ h => h) rfl rfl (Nat.le_of_ble_eq_true rfl) dX1_adjustmentOf_34 (h_P ?_)
        refine g_istore_n (lv' := [some (.ref x), some (.ref v), some (.int (jmx (ajM (erT X nm k) (fve 0) j) (erT X nm k (j + 1)))), some (.int (ajL (erT X nm k) (fve 0) j)), some (.int (nI (j + 1)))]) C dX1_adjustmentOf_37 rfl (by decide) rfl ?_
        refine g_iload_n C dX1_adjustmentOf_38 rfl rfl ?_
        refine g_aload_n C dX1_adjustmentOf_39 rfl rfl ?_
        refine c_getN 13 4 k_X15 in_X15 (by decide) (fun _ h => h) q1111 SC_ Vo rfl C dX1_adjustmentOf_40 ?_
        refine g_iload C dX1_adjustmentOf_43 rfl ?_
        refine c_iald (i := j + 1) Ve (by omega) (by omega) C dX1_adjustmentOf_45 ?_
        refine g_topi (y := erT X nm k (j + 1)) ((Vt (j + 1) (by rw [e151, nI_clamp (by omega)]; omega)).2) ?_
        refine h_callS (rest := []) 2 C (cc_min B.1 _ _ _) (lw_S q1256 q273 q100 q274) ⟨⟨by decide, by decide, by decide +kernel⟩, ⟨Nat.le_of_ble_eq_true rfl, Nat.le_of_ble_eq_true rfl⟩, ⟨Nat.le_of_ble_eq_true rfl, Nat.le_of_ble_eq_true rfl⟩⟩ (fun _ h => h) rfl rfl (Nat.le_of_ble_eq_true rfl) dX1_adjustmentOf_46 (h_P ?_)
        refine g_istore_n (lv' := [some (.ref x), some (.ref v), some (.int (jmx (ajM (erT X nm k) (fve 0) j) (erT X nm k (j + 1)))), some (.int (jmn (ajL (erT X nm k) (fve 0) j) (erT X nm k (j + 1)))), some (.int (nI (j + 1)))]) C dX1_adjustmentOf_49 rfl (by decide) rfl ?_
        refine g_inc1 (x := j + 1) (lv' := [some (.ref x), some (.ref v), some (.int (jmx (ajM (erT X nm k) (fve 0) j) (erT X nm k (j + 1)))), some (.int (jmn (ajL (erT X nm k) (fve 0) j) (erT X nm k (j + 1)))), some (.int (nI (j + 1 + 1)))]) C dX1_adjustmentOf_50 rfl (by decide) rfl ?_
        refine g_goto 17 C dX1_adjustmentOf_53 rfl ?_
        exact ih
set_option maxRecDepth 100000 in
theorem cc_verdict {l : Launch} {Γ : Gm} {A : Nat → Prop} {ρ : State → Prop} (B : Bd l Γ A ρ) {h : Hp} {F : Nat → Int32} {X : Nat → Nat → Int32} {nt ns nm ne nv nu ln : Nat} (J : Iv F X nt ns nm ne nv nu ln) {x : Nat} (R_ : RepC Γ F X nt ns nm ne nv nu h x) (visit : Int32) : CtF l Γ A ρ yX1_verdict cX1_verdict 2 (some .int) { frames := 7, cells := 0, slots := 0, locals := 153 } [.ref x, .int visit] h (some (.int (atI visit nv (fun j => vdI X nm j 0)))) h := by
  refine Ct.of B.1.1.1 B.1.1.2 (by decide) [some (.ref x), some (.int visit)] (Nat.le_of_ble_eq_true rfl) rfl ?_
  intro E hE C R
  subst hE
  have SC_ := B.1.2 _ C.r
  have SX_ := B.2 _ C.r
  have ht_ := J.lt
  have hs_ := J.ls
  have hm_ := J.lm
  have he_ := J.le
  have hu_ := J.lu
  have hl_ := J.ll
  have hv_ := J.lv
  obtain ⟨bu, mk, en, hi, sn, so, b7, b8, hs, fsn, fso, Rx, Rb, RK, RE, RH, RS, RA, RO⟩ := id R_
  obtain ⟨sl, wl, ma, te, fm, ft, ss, wq, Km, Kma, Kfm, Kte, Kft, Ksl, Kss, Kwl, Kws⟩ := id RK
  obtain ⟨vl, el, vs, es, Ee, E0, Evl, Eel, Evs, Ees⟩ := id RE
  refine g_aload_n C dX1_verdict_0 rfl rfl ?_
  refine g_iload_n C dX1_verdict_1 rfl rfl ?_
  refine h_callV (rest := []) 1 C (cc_isVisit B.1 J R_ _) (lw_V q1156 q1158 qs21 q86 q1159) ⟨⟨by decide, by decide, by decide +kernel⟩, ⟨Nat.le_of_ble_eq_true rfl, Nat.le_of_ble_eq_true rfl⟩, ⟨Nat.le_of_ble_eq_true rfl, Nat.le_of_ble_eq_true rfl⟩⟩ (fun _ h => h) (HP.recv C Rx k_X1) rfl rfl (Nat.le_of_ble_eq_true rfl) dX1_verdict_2 (h_F ?_)
  refine g_if_eq 30 C dX1_verdict_5 rfl (fun c5 => ?_) (fun c5 => ?_)
  · refine g_iconst (v := (-1)) C dX1_verdict_30 rfl ?_
    exact g_iret C R (Nat.le_of_ble_eq_true rfl) (Nat.le_of_ble_eq_true rfl) dX1_verdict_31 (fun H hH => ⟨by rw [atI_out c5], hH⟩)
  · obtain ⟨j_visit, hj_visit, rfl⟩ := ixI_in (by omega) c5
    refine g_aload_n C dX1_verdict_8 rfl rfl ?_
    refine g_aload_n C dX1_verdict_9 rfl rfl ?_
    refine c_get 0 4 k_X1 in_X1 (by decide) (fun _ h => h) q540 Rx rfl C dX1_verdict_10 ?_
    refine c_getN 2 0 k_X3 in_X3 (by decide) (fun _ h => h) q522 SC_ Ee rfl C dX1_verdict_13 ?_
    refine g_iload_n C dX1_verdict_16 rfl rfl ?_
    refine h_callV (rest := [.ref x]) 1 C (cc_get B.1 Evl j_visit (by omega)) (lw_V q940 q941 q942 q90 q943) ⟨⟨by decide, by decide, by decide +kernel⟩, ⟨Nat.le_of_ble_eq_true rfl, Nat.le_of_ble_eq_true rfl⟩, ⟨Nat.le_of_ble_eq_true rfl, Nat.le_of_ble_eq_true rfl⟩⟩ (fun _ h => h) (Evl.recv C) rfl rfl (Nat.le_of_ble_eq_true rfl) dX1_verdict_17 (h_F ?_)
    obtain ⟨vm1, ve1, fvm1, fve1, Vo1, Vm1, Ve1, Vt1⟩ := Evs j_visit (by omega)
    refine c_castS Vo1 k_X15 q1064 C dX1_verdict_20 ?_
    refine g_iconst (v := 0) C dX1_verdict_23 rfl ?_
    refine h_callV (rest := []) 2 C (cc_verdictOf B J R_ (show j_visit < nv by omega) (Evs j_visit (by omega)) _) (lw_V q1182 q1184 qs23 q86 q1185) ⟨⟨by decide, by decide, by decide +kernel⟩, ⟨Nat.le_of_ble_eq_true rfl, Nat.le_of_ble_eq_true rfl⟩, ⟨Nat.le_of_ble_eq_true rfl, Nat.le_of_ble_eq_true rfl⟩⟩ (fun _ h => h) (HP.recv C Rx k_X1) rfl rfl (Nat.le_of_ble_eq_true rfl) dX1_verdict_24 (h_F ?_)
    refine g_goto 31 C dX1_verdict_27 rfl ?_
    exact g_iret C R (Nat.le_of_ble_eq_true rfl) (Nat.le_of_ble_eq_true rfl) dX1_verdict_31 (fun H hH => ⟨by rw [atI_in hj_visit (by omega)], hH⟩)
theorem avI_eq {X : Nat → Nat → Int32} {nm v tn : Nat} {z : Int32} (e : X 1 (151 + v) = nI tn) (ht : tn ≤ 8) (h : 1 ≤ tnV X v → z = adI X nm v) : vdI X nm v z = avI X nm v := by
  have et := tn_eq e ht
  unfold avI
  by_cases c : tn = 0
  · subst c
    rw [if_pos (show X 1 (151 + v) = 0 from e)]
    unfold vdI
    rw [et]
    rfl
  · rw [if_neg (fun q : X 1 (151 + v) = 0 => c ((nI_eq (b := 0) (by omega) (by omega)).mp (e.symm.trans q))), h (by omega)]
set_option maxRecDepth 100000 in
theorem cc_adjVerdict {l : Launch} {Γ : Gm} {A : Nat → Prop} {ρ : State → Prop} (B : Bd l Γ A ρ) {h : Hp} {F : Nat → Int32} {X : Nat → Nat → Int32} {nt ns nm ne nv nu ln : Nat} (J : Iv F X nt ns nm ne nv nu ln) {x : Nat} (R_ : RepC Γ F X nt ns nm ne nv nu h x) (visit : Int32) : CtF l Γ A ρ yX1_adjustedVerdict cX1_adjustedVerdict 2 (some .int) { frames := 7, cells := 0, slots := 0, locals := 153 } [.ref x, .int visit] h (some (.int (atI visit nv (avI X nm)))) h := by
  refine Ct.of B.1.1.1 B.1.1.2 (by decide) [some (.ref x), some (.int visit)] (Nat.le_of_ble_eq_true rfl) rfl ?_
  intro E hE C R
  subst hE
  have SC_ := B.1.2 _ C.r
  have SX_ := B.2 _ C.r
  have ht_ := J.lt
  have hs_ := J.ls
  have hm_ := J.lm
  have he_ := J.le
  have hu_ := J.lu
  have hl_ := J.ll
  have hv_ := J.lv
  obtain ⟨bu, mk, en, hi, sn, so, b7, b8, hs, fsn, fso, Rx, Rb, RK, RE, RH, RS, RA, RO⟩ := id R_
  obtain ⟨sl, wl, ma, te, fm, ft, ss, wq, Km, Kma, Kfm, Kte, Kft, Ksl, Kss, Kwl, Kws⟩ := id RK
  obtain ⟨vl, el, vs, es, Ee, E0, Evl, Eel, Evs, Ees⟩ := id RE
  refine g_aload_n C dX1_adjustedVerdict_0 rfl rfl ?_
  refine g_iload_n C dX1_adjustedVerdict_1 rfl rfl ?_
  refine h_callV (rest := []) 1 C (cc_isVisit B.1 J R_ _) (lw_V q1156 q1158 qs21 q86 q1159) ⟨⟨by decide, by decide, by decide +kernel⟩, ⟨Nat.le_of_ble_eq_true rfl, Nat.le_of_ble_eq_true rfl⟩, ⟨Nat.le_of_ble_eq_true rfl, Nat.le_of_ble_eq_true rfl⟩⟩ (fun _ h => h) (HP.recv C Rx k_X1) rfl rfl (Nat.le_of_ble_eq_true rfl) dX1_adjustedVerdict_2 (h_F ?_)
  refine g_if_eq 47 C dX1_adjustedVerdict_5 rfl (fun c5 => ?_) (fun c5 => ?_)
  · refine g_iconst (v := (-1)) C dX1_adjustedVerdict_47 rfl ?_
    exact g_iret C R (Nat.le_of_ble_eq_true rfl) (Nat.le_of_ble_eq_true rfl) dX1_adjustedVerdict_48 (fun H hH => ⟨by rw [atI_out c5], hH⟩)
  · obtain ⟨j_visit, hj_visit, rfl⟩ := ixI_in (by omega) c5
    refine g_aload_n C dX1_adjustedVerdict_8 rfl rfl ?_
    refine g_aload_n C dX1_adjustedVerdict_9 rfl rfl ?_
    refine c_get 0 4 k_X1 in_X1 (by decide) (fun _ h => h) q540 Rx rfl C dX1_adjustedVerdict_10 ?_
    refine c_getN 2 0 k_X3 in_X3 (by decide) (fun _ h => h) q522 SC_ Ee rfl C dX1_adjustedVerdict_13 ?_
    refine g_iload_n C dX1_adjustedVerdict_16 rfl rfl ?_
    refine h_callV (rest := [.ref x]) 1 C (cc_get B.1 Evl j_visit (by omega)) (lw_V q940 q941 q942 q90 q943) ⟨⟨by decide, by decide, by decide +kernel⟩, ⟨Nat.le_of_ble_eq_true rfl, Nat.le_of_ble_eq_true rfl⟩, ⟨Nat.le_of_ble_eq_true rfl, Nat.le_of_ble_eq_true rfl⟩⟩ (fun _ h => h) (Evl.recv C) rfl rfl (Nat.le_of_ble_eq_true rfl) dX1_adjustedVerdict_17 (h_F ?_)
    obtain ⟨vm1, ve1, fvm1, fve1, Vo1, Vm1, Ve1, Vt1⟩ := Evs j_visit (by omega)
    refine c_castS Vo1 k_X15 q1064 C dX1_adjustedVerdict_20 ?_
    refine g_aload_n C dX1_adjustedVerdict_23 rfl rfl ?_
    refine g_aload_n C dX1_adjustedVerdict_24 rfl rfl ?_
    refine c_get 0 4 k_X1 in_X1 (by decide) (fun _ h => h) q540 Rx rfl C dX1_adjustedVerdict_25 ?_
    refine c_getN 2 0 k_X3 in_X3 (by decide) (fun _ h => h) q522 SC_ Ee rfl C dX1_adjustedVerdict_28 ?_
    refine g_iload_n C dX1_adjustedVerdict_31 rfl rfl ?_
    refine h_callV (rest := [.ref x, .ref (vs j_visit), .ref x]) 1 C (cc_get B.1 Evl j_visit (by omega)) (lw_V q940 q941 q942 q90 q943) ⟨⟨by decide, by decide, by decide +kernel⟩, ⟨Nat.le_of_ble_eq_true rfl, Nat.le_of_ble_eq_true rfl⟩, ⟨Nat.le_of_ble_eq_true rfl, Nat.le_of_ble_eq_true rfl⟩⟩ (fun _ h => h) (Evl.recv C) rfl rfl (Nat.le_of_ble_eq_true rfl) dX1_adjustedVerdict_32 (h_F ?_)
    refine c_castS Vo1 k_X15 q1064 C dX1_adjustedVerdict_35 ?_
    refine h_callV (rest := [.ref (vs j_visit), .ref x]) 1 C (cc_adjOf B.1 J R_ (show j_visit < nv by omega) (Evs j_visit (by omega))) (lw_V q1252 q1254 qs30 q86 q1255) ⟨⟨by decide, by decide, by decide +kernel⟩, ⟨Nat.le_of_ble_eq_true rfl, Nat.le_of_ble_eq_true rfl⟩, ⟨Nat.le_of_ble_eq_true rfl, Nat.le_of_ble_eq_true rfl⟩⟩ (fun _ h => h) (HP.recv C Rx k_X1) rfl rfl (Nat.le_of_ble_eq_true rfl) dX1_adjustedVerdict_38 (h_E (fun v1 hp1 r1 => ?_))
    obtain ⟨rfl, za, rfl, hza⟩ := r1
    refine h_callV (rest := []) 2 C (cc_verdictOf B J R_ (show j_visit < nv by omega) (Evs j_visit (by omega)) _) (lw_V q1182 q1184 qs23 q86 q1185) ⟨⟨by decide, by decide, by decide +kernel⟩, ⟨Nat.le_of_ble_eq_true rfl, Nat.le_of_ble_eq_true rfl⟩, ⟨Nat.le_of_ble_eq_true rfl, Nat.le_of_ble_eq_true rfl⟩⟩ (fun _ h => h) (HP.recv C Rx k_X1) rfl rfl (Nat.le_of_ble_eq_true rfl) dX1_adjustedVerdict_41 (h_F ?_)
    refine g_goto 48 C dX1_adjustedVerdict_44 rfl ?_
    exact g_iret C R (Nat.le_of_ble_eq_true rfl) (Nat.le_of_ble_eq_true rfl) dX1_adjustedVerdict_48 (fun H hH => ⟨by rw [atI_in hj_visit (by omega)]; obtain ⟨tn, htn, e151, -⟩ := (J.vi hj_visit).2.2.2.2.2; rw [avI_eq e151 htn hza], hH⟩)
