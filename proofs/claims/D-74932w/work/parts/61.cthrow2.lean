theorem ts_in {X : Nat → Nat → Int32} {nv j i : Nat} (hn : nv ≤ 30) (ht : tnV X j ≤ 8) (hj : j < nv) (hi : i < tnV X j) : ¬ tsI X nv (nI j) (nI i) = 0 := by
  unfold tsI
  have h1 : ¬ ixI (nI j) nv = 0 := by unfold ixI; rw [nI_toInt (by omega), if_pos (by omega)]; decide
  rw [if_neg h1, nI_clamp (by omega)]
  unfold ixI
  rw [nI_toInt (by omega), if_pos (by omega)]
  decide
theorem te_in {X : Nat → Nat → Int32} {nv j i : Nat} {f : Nat → Nat → Int32} (hn : nv ≤ 30) (ht : tnV X j ≤ 8) (hj : j < nv) (hi : i < tnV X j) : teR X nv (nI j) (nI i) f = f j i := by
  unfold teR
  rw [if_neg (ts_in hn ht hj hi), nI_clamp (by omega), nI_clamp (by omega)]
set_option maxRecDepth 100000 in
theorem cc_testLoad {l : Launch} {Γ : Gm} {A : Nat → Prop} {ρ : State → Prop} (B : Be l Γ A ρ) {h : Hp} {F : Nat → Int32} {X : Nat → Nat → Int32} {nt ns nm ne nv nu ln : Nat} (J : Iv F X nt ns nm ne nv nu ln) {x : Nat} (R_ : RepC Γ F X nt ns nm ne nv nu h x) (visit test : Int32) : CtX l Γ A ρ yX1_testLoad cX1_testLoad 3 (some .int) { frames := 7, cells := 1, slots := 6, locals := 103 } [.ref x, .int visit, .int test] (HP Γ A h) (fun v H => ∃ h', (fun v h' => h' = h ∧ v = some (.int (teR X nv visit test (ldT X nm))) ∧ ¬ tsI X nv visit test = 0) v h' ∧ HP Γ A h' H) (fun N H => (fun N => N = "java/lang/IndexOutOfBoundsException" ∧ tsI X nv visit test = 0) N ∧ HP Γ A h H) := by
  refine CtX.of B.1.1.1.1 B.1.1.1.2 (by decide) [some (.ref x), some (.int visit), some (.int test)] (Nat.le_of_ble_eq_true rfl) rfl ?_
  intro E hE C R
  subst hE
  have SC_ := B.1.1.2 _ C.r
  have SX_ := B.1.2 _ C.r
  have SY_ := B.2 _ C.r
  have ht_ := J.lt
  have hs_ := J.ls
  have hm_ := J.lm
  have he_ := J.le
  have hu_ := J.lu
  have hl_ := J.ll
  have hv_ := J.lv
  obtain ⟨bu, mk, en, hi, sn, so, b7, b8, hs, fsn, fso, Rx, Rb, RK, RE, RH, RS, RA, RO⟩ := id R_
  obtain ⟨sl, wl, ma, te, fm, ft, ss, wq, Km, Kma, Kfm, Kte, Kft, Ksl, Kss, Kwl, Kws⟩ := id RK
  obtain ⟨vl, el, vs, es, Ee, E0, Evl, Eel, Evs, Ees⟩ := id RE
  refine g_aload_n C dX1_testLoad_0 rfl rfl ?_
  refine c_get 0 3 k_X1 in_X1 (by decide) (fun _ h => h) q539 Rx rfl C dX1_testLoad_1 ?_
  refine g_aload_n C dX1_testLoad_4 rfl rfl ?_
  refine g_iload_n C dX1_testLoad_5 rfl rfl ?_
  refine g_iload_n C dX1_testLoad_6 rfl rfl ?_
  refine hx_callV (rest := [.ref mk]) 2 C (cc_visitWith B J R_ _ _) (lw_V q1583 q1585 qs44 q86 q1586) ⟨⟨by decide, by decide, by decide +kernel⟩, ⟨Nat.le_of_ble_eq_true rfl, Nat.le_of_ble_eq_true rfl⟩, ⟨Nat.le_of_ble_eq_true rfl, Nat.le_of_ble_eq_true rfl⟩⟩ (fun _ h => h) (HP.recv C Rx k_X1) rfl rfl (Nat.le_of_ble_eq_true rfl) dX1_testLoad_7 (h_E (fun v1 hp1 r1 => ?_)) (fun N => gx_out R (Nat.le_of_ble_eq_true rfl) (Nat.le_of_ble_eq_true rfl) (fun H hH => hH))
  obtain ⟨rfl, k, i, v, en0, rfl, rfl, rfl, hk, hit, V⟩ := r1
  obtain ⟨vm, ve, fvm, fve, Vo, Vm, Ve, Vt⟩ := id V
  obtain ⟨sk, hsk, e1⟩ := (J.vi hk).1
  obtain ⟨tn, htn, e151, hts_⟩ := (J.vi hk).2.2.2.2.2
  have et_ := tn_eq e151 htn
  have hit2 := hit
  rw [et_] at hit2
  refine c_getN 13 3 k_X15 in_X15 (by decide) (fun _ h => h) q1109 SC_ Vo rfl C dX1_testLoad_10 ?_
  refine g_iload_n C dX1_testLoad_13 rfl rfl ?_
  refine c_iald (i := i) Vm (by omega) (by omega) C dX1_testLoad_14 ?_
  refine g_topi (y := X 1 (181 + 8 * k + i)) ((Vt i (by rw [e151, nI_clamp (by omega)]; omega)).1) ?_
  refine h_callV (rest := []) 1 C (cc_load B.1.1 RK hm_ _) (lw_V q1028 q1029 q1030 q87 q1031) ⟨⟨by decide, by decide, by decide +kernel⟩, ⟨Nat.le_of_ble_eq_true rfl, Nat.le_of_ble_eq_true rfl⟩, ⟨Nat.le_of_ble_eq_true rfl, Nat.le_of_ble_eq_true rfl⟩⟩ (fun _ h => h) (HP.recv C Km k_X2) rfl rfl (Nat.le_of_ble_eq_true rfl) dX1_testLoad_15 (h_F ?_)
  exact gx_iret C R (Nat.le_of_ble_eq_true rfl) (Nat.le_of_ble_eq_true rfl) dX1_testLoad_18 (fun H hH => ⟨_, ⟨rfl, by rw [te_in hv_ (by omega) hk hit]; rfl, ts_in hv_ (by omega) hk hit⟩, hH⟩)
set_option maxRecDepth 100000 in
theorem cc_testError {l : Launch} {Γ : Gm} {A : Nat → Prop} {ρ : State → Prop} (B : Be l Γ A ρ) {h : Hp} {F : Nat → Int32} {X : Nat → Nat → Int32} {nt ns nm ne nv nu ln : Nat} (J : Iv F X nt ns nm ne nv nu ln) {x : Nat} (R_ : RepC Γ F X nt ns nm ne nv nu h x) (visit test : Int32) : CtX l Γ A ρ yX1_testError cX1_testError 3 (some .int) { frames := 7, cells := 1, slots := 6, locals := 103 } [.ref x, .int visit, .int test] (HP Γ A h) (fun v H => ∃ h', (fun v h' => h' = h ∧ v = some (.int (teR X nv visit test (erT X nm))) ∧ ¬ tsI X nv visit test = 0) v h' ∧ HP Γ A h' H) (fun N H => (fun N => N = "java/lang/IndexOutOfBoundsException" ∧ tsI X nv visit test = 0) N ∧ HP Γ A h H) := by
  refine CtX.of B.1.1.1.1 B.1.1.1.2 (by decide) [some (.ref x), some (.int visit), some (.int test)] (Nat.le_of_ble_eq_true rfl) rfl ?_
  intro E hE C R
  subst hE
  have SC_ := B.1.1.2 _ C.r
  have SX_ := B.1.2 _ C.r
  have SY_ := B.2 _ C.r
  have ht_ := J.lt
  have hs_ := J.ls
  have hm_ := J.lm
  have he_ := J.le
  have hu_ := J.lu
  have hl_ := J.ll
  have hv_ := J.lv
  obtain ⟨bu, mk, en, hi, sn, so, b7, b8, hs, fsn, fso, Rx, Rb, RK, RE, RH, RS, RA, RO⟩ := id R_
  obtain ⟨sl, wl, ma, te, fm, ft, ss, wq, Km, Kma, Kfm, Kte, Kft, Ksl, Kss, Kwl, Kws⟩ := id RK
  obtain ⟨vl, el, vs, es, Ee, E0, Evl, Eel, Evs, Ees⟩ := id RE
  refine g_aload_n C dX1_testError_0 rfl rfl ?_
  refine g_iload_n C dX1_testError_1 rfl rfl ?_
  refine g_iload_n C dX1_testError_2 rfl rfl ?_
  refine hx_callV (rest := []) 2 C (cc_visitWith B J R_ _ _) (lw_V q1583 q1585 qs44 q86 q1586) ⟨⟨by decide, by decide, by decide +kernel⟩, ⟨Nat.le_of_ble_eq_true rfl, Nat.le_of_ble_eq_true rfl⟩, ⟨Nat.le_of_ble_eq_true rfl, Nat.le_of_ble_eq_true rfl⟩⟩ (fun _ h => h) (HP.recv C Rx k_X1) rfl rfl (Nat.le_of_ble_eq_true rfl) dX1_testError_3 (h_E (fun v1 hp1 r1 => ?_)) (fun N => gx_out R (Nat.le_of_ble_eq_true rfl) (Nat.le_of_ble_eq_true rfl) (fun H hH => hH))
  obtain ⟨rfl, k, i, v, en0, rfl, rfl, rfl, hk, hit, V⟩ := r1
  obtain ⟨vm, ve, fvm, fve, Vo, Vm, Ve, Vt⟩ := id V
  obtain ⟨sk, hsk, e1⟩ := (J.vi hk).1
  obtain ⟨tn, htn, e151, hts_⟩ := (J.vi hk).2.2.2.2.2
  have et_ := tn_eq e151 htn
  have hit2 := hit
  rw [et_] at hit2
  refine c_getN 13 4 k_X15 in_X15 (by decide) (fun _ h => h) q1111 SC_ Vo rfl C dX1_testError_6 ?_
  refine g_iload_n C dX1_testError_9 rfl rfl ?_
  refine c_iald (i := i) Ve (by omega) (by omega) C dX1_testError_10 ?_
  refine g_topi (y := erT X nm k i) ((Vt i (by rw [e151, nI_clamp (by omega)]; omega)).2) ?_
  exact gx_iret C R (Nat.le_of_ble_eq_true rfl) (Nat.le_of_ble_eq_true rfl) dX1_testError_11 (fun H hH => ⟨_, ⟨rfl, by rw [te_in hv_ (by omega) hk hit], ts_in hv_ (by omega) hk hit⟩, hH⟩)
theorem sub0_I (a : Int32) : a - 0 = a := by apply Int32.toBitVec_inj.mp; simp
set_option maxRecDepth 100000 in
theorem cc_testPasses {l : Launch} {Γ : Gm} {A : Nat → Prop} {ρ : State → Prop} (B : Be l Γ A ρ) {h : Hp} {F : Nat → Int32} {X : Nat → Nat → Int32} {nt ns nm ne nv nu ln : Nat} (J : Iv F X nt ns nm ne nv nu ln) {x : Nat} (R_ : RepC Γ F X nt ns nm ne nv nu h x) (visit test : Int32) : CtX l Γ A ρ yX1_testPasses cX1_testPasses 3 (some .boolean) { frames := 7, cells := 1, slots := 6, locals := 130 } [.ref x, .int visit, .int test] (HP Γ A h) (fun v H => ∃ h', (fun v h' => h' = h ∧ v = some (.int (teR X nv visit test (paI X nm))) ∧ ¬ tsI X nv visit test = 0) v h' ∧ HP Γ A h' H) (fun N H => (fun N => N = "java/lang/IndexOutOfBoundsException" ∧ tsI X nv visit test = 0) N ∧ HP Γ A h H) := by
  refine CtX.of B.1.1.1.1 B.1.1.1.2 (by decide) [some (.ref x), some (.int visit), some (.int test)] (Nat.le_of_ble_eq_true rfl) rfl ?_
  intro E hE C R
  subst hE
  have SC_ := B.1.1.2 _ C.r
  have SX_ := B.1.2 _ C.r
  have SY_ := B.2 _ C.r
  have ht_ := J.lt
  have hs_ := J.ls
  have hm_ := J.lm
  have he_ := J.le
  have hu_ := J.lu
  have hl_ := J.ll
  have hv_ := J.lv
  obtain ⟨bu, mk, en, hi, sn, so, b7, b8, hs, fsn, fso, Rx, Rb, RK, RE, RH, RS, RA, RO⟩ := id R_
  obtain ⟨sl, wl, ma, te, fm, ft, ss, wq, Km, Kma, Kfm, Kte, Kft, Ksl, Kss, Kwl, Kws⟩ := id RK
  obtain ⟨vl, el, vs, es, Ee, E0, Evl, Eel, Evs, Ees⟩ := id RE
  refine g_aload_n C dX1_testPasses_0 rfl rfl ?_
  refine g_aload_n C dX1_testPasses_1 rfl rfl ?_
  refine g_iload_n C dX1_testPasses_2 rfl rfl ?_
  refine g_iload_n C dX1_testPasses_3 rfl rfl ?_
  refine hx_callV (rest := [.ref x]) 2 C (cc_visitWith B J R_ _ _) (lw_V q1583 q1585 qs44 q86 q1586) ⟨⟨by decide, by decide, by decide +kernel⟩, ⟨Nat.le_of_ble_eq_true rfl, Nat.le_of_ble_eq_true rfl⟩, ⟨Nat.le_of_ble_eq_true rfl, Nat.le_of_ble_eq_true rfl⟩⟩ (fun _ h => h) (HP.recv C Rx k_X1) rfl rfl (Nat.le_of_ble_eq_true rfl) dX1_testPasses_4 (h_E (fun v1 hp1 r1 => ?_)) (fun N => gx_out R (Nat.le_of_ble_eq_true rfl) (Nat.le_of_ble_eq_true rfl) (fun H hH => hH))
  obtain ⟨rfl, k, i, v, en0, rfl, rfl, rfl, hk, hit, V⟩ := r1
  obtain ⟨vm, ve, fvm, fve, Vo, Vm, Ve, Vt⟩ := id V
  obtain ⟨sk, hsk, e1⟩ := (J.vi hk).1
  obtain ⟨tn, htn, e151, hts_⟩ := (J.vi hk).2.2.2.2.2
  have et_ := tn_eq e151 htn
  have hit2 := hit
  rw [et_] at hit2
  refine g_iload_n C dX1_testPasses_7 rfl rfl ?_
  refine g_iconst (v := 0) C dX1_testPasses_8 rfl ?_
  refine h_callV (rest := []) 3 C (cc_passes B.1 J R_ hk V i hit _) (lw_V q1198 q1200 qs27 q86 q1201) ⟨⟨by decide, by decide, by decide +kernel⟩, ⟨Nat.le_of_ble_eq_true rfl, Nat.le_of_ble_eq_true rfl⟩, ⟨Nat.le_of_ble_eq_true rfl, Nat.le_of_ble_eq_true rfl⟩⟩ (fun _ h => h) (HP.recv C Rx k_X1) rfl rfl (Nat.le_of_ble_eq_true rfl) dX1_testPasses_9 (h_F ?_)
  refine g_topi (y := paI X nm k i) (by unfold paI; rw [sub0_I]) ?_
  exact gx_zret C R (Nat.le_of_ble_eq_true rfl) (Nat.le_of_ble_eq_true rfl) dX1_testPasses_12 (b2i_nar _) (fun H hH => ⟨_, ⟨rfl, by rw [te_in hv_ (by omega) hk hit], ts_in hv_ (by omega) hk hit⟩, hH⟩)
set_option maxRecDepth 100000 in
theorem cc_baseTol {l : Launch} {Γ : Gm} {A : Nat → Prop} {ρ : State → Prop} (B : Be l Γ A ρ) {h : Hp} {F : Nat → Int32} {X : Nat → Nat → Int32} {nt ns nm ne nv nu ln : Nat} (J : Iv F X nt ns nm ne nv nu ln) {x : Nat} (R_ : RepC Γ F X nt ns nm ne nv nu h x) (scale load : Int32) : CtX l Γ A ρ yX1_baseTolerance cX1_baseTolerance 3 (some .int) { frames := 6, cells := 1, slots := 6, locals := 81 } [.ref x, .int scale, .int load] (HP Γ A h) (fun v H => ∃ h', (fun v h' => h' = h ∧ v = some (.int (btR X ns scale load)) ∧ btT X ns scale load = 0) v h' ∧ HP Γ A h' H) (fun N H => (fun N => (N = "java/lang/IndexOutOfBoundsException" ∧ btT X ns scale load = 1) ∨ (N = "java/lang/IllegalArgumentException" ∧ btT X ns scale load = 2)) N ∧ HP Γ A h H) := by
  refine CtX.of B.1.1.1.1 B.1.1.1.2 (by decide) [some (.ref x), some (.int scale), some (.int load)] (Nat.le_of_ble_eq_true rfl) rfl ?_
  intro E hE C R
  subst hE
  have SC_ := B.1.1.2 _ C.r
  have SX_ := B.1.2 _ C.r
  have SY_ := B.2 _ C.r
  have ht_ := J.lt
  have hs_ := J.ls
  have hm_ := J.lm
  have he_ := J.le
  have hu_ := J.lu
  have hl_ := J.ll
  have hv_ := J.lv
  obtain ⟨bu, mk, en, hi, sn, so, b7, b8, hs, fsn, fso, Rx, Rb, RK, RE, RH, RS, RA, RO⟩ := id R_
  obtain ⟨sl, wl, ma, te, fm, ft, ss, wq, Km, Kma, Kfm, Kte, Kft, Ksl, Kss, Kwl, Kws⟩ := id RK
  obtain ⟨vl, el, vs, es, Ee, E0, Evl, Eel, Evs, Ees⟩ := id RE
  refine g_aload_n C dX1_baseTolerance_0 rfl rfl ?_
  refine g_iload_n C dX1_baseTolerance_1 rfl rfl ?_
  refine h_callV (rest := []) 1 C (cc_isScale B.1.1 J R_ _) (lw_V q1011 q1013 qs16 q86 q1014) ⟨⟨by decide, by decide, by decide +kernel⟩, ⟨Nat.le_of_ble_eq_true rfl, Nat.le_of_ble_eq_true rfl⟩, ⟨Nat.le_of_ble_eq_true rfl, Nat.le_of_ble_eq_true rfl⟩⟩ (fun _ h => h) (HP.recv C Rx k_X1) rfl rfl (Nat.le_of_ble_eq_true rfl) dX1_baseTolerance_2 (h_F ?_)
  refine g_if_ne 16 C dX1_baseTolerance_5 rfl (fun c5 => ?_) (fun c5 => ?_)
  · obtain ⟨j_scale, hj_scale, rfl⟩ := ixI_in (by omega) c5
    refine g_iload_n C dX1_baseTolerance_16 rfl rfl ?_
    refine g_i2l C dX1_baseTolerance_17 ?_
    refine g_lconst (v := 0) C dX1_baseTolerance_18 rfl ?_
    refine g_aload_n C dX1_baseTolerance_19 rfl rfl ?_
    refine c_get 0 3 k_X1 in_X1 (by decide) (fun _ h => h) q539 Rx rfl C dX1_baseTolerance_20 ?_
    refine c_getN 1 0 k_X2 in_X2 (by decide) (fun _ h => h) q483 SC_ Km rfl C dX1_baseTolerance_23 ?_
    refine g_iload_n C dX1_baseTolerance_26 rfl rfl ?_
    refine h_callV (rest := [.long 0, .long load.toInt64]) 1 C (cc_get B.1.1 Ksl j_scale (by omega)) (lw_V q940 q941 q942 q90 q943) ⟨⟨by decide, by decide, by decide +kernel⟩, ⟨Nat.le_of_ble_eq_true rfl, Nat.le_of_ble_eq_true rfl⟩, ⟨Nat.le_of_ble_eq_true rfl, Nat.le_of_ble_eq_true rfl⟩⟩ (fun _ h => h) (Ksl.recv C) rfl rfl (Nat.le_of_ble_eq_true rfl) dX1_baseTolerance_27 (h_F ?_)
    refine c_castS (Kss j_scale (by omega)) k_X11 q1015 C dX1_baseTolerance_30 ?_
    refine c_getN 10 3 k_X11 in_X11 (by decide) (fun _ h => h) q823 SC_ (Kss j_scale (by omega)) rfl C dX1_baseTolerance_33 ?_
    refine g_i2l C dX1_baseTolerance_36 ?_
    refine h_callS (rest := []) 3 C (cc_inRange B.1.1.1 _ _ _ _) (lw_S q580 q581 q86 q582) ⟨⟨by decide, by decide, by decide +kernel⟩, ⟨Nat.le_of_ble_eq_true rfl, Nat.le_of_ble_eq_true rfl⟩, ⟨Nat.le_of_ble_eq_true rfl, Nat.le_of_ble_eq_true rfl⟩⟩ (fun _ h => h) rfl rfl (Nat.le_of_ble_eq_true rfl) dX1_baseTolerance_37 (h_P ?_)
    refine g_topi (y := rnI load 0 (X 7 j_scale)) (wi_rn load 0 (X 7 j_scale)) ?_
    refine g_if_ne 51 C dX1_baseTolerance_40 rfl (fun c40 => ?_) (fun c40 => ?_)
    · refine g_aload_n C dX1_baseTolerance_51 rfl rfl ?_
      refine c_get 0 3 k_X1 in_X1 (by decide) (fun _ h => h) q539 Rx rfl C dX1_baseTolerance_52 ?_
      refine c_getN 1 0 k_X2 in_X2 (by decide) (fun _ h => h) q483 SC_ Km rfl C dX1_baseTolerance_55 ?_
      refine g_iload_n C dX1_baseTolerance_58 rfl rfl ?_
      refine h_callV (rest := []) 1 C (cc_get B.1.1 Ksl j_scale (by omega)) (lw_V q940 q941 q942 q90 q943) ⟨⟨by decide, by decide, by decide +kernel⟩, ⟨Nat.le_of_ble_eq_true rfl, Nat.le_of_ble_eq_true rfl⟩, ⟨Nat.le_of_ble_eq_true rfl, Nat.le_of_ble_eq_true rfl⟩⟩ (fun _ h => h) (Ksl.recv C) rfl rfl (Nat.le_of_ble_eq_true rfl) dX1_baseTolerance_59 (h_F ?_)
      refine c_castS (Kss j_scale (by omega)) k_X11 q1015 C dX1_baseTolerance_62 ?_
      refine g_iload_n C dX1_baseTolerance_65 rfl rfl ?_
      refine h_callV (rest := []) 1 C (cc_scTol B.1 J (s := j_scale) hj_scale (Kss j_scale (by omega)) _) (lw_V q1209 q1210 q1211 q114 q1212) ⟨⟨by decide, by decide, by decide +kernel⟩, ⟨Nat.le_of_ble_eq_true rfl, Nat.le_of_ble_eq_true rfl⟩, ⟨Nat.le_of_ble_eq_true rfl, Nat.le_of_ble_eq_true rfl⟩⟩ (fun _ h => h) (HP.recv C (Kss j_scale (by omega)) k_X11) rfl rfl (Nat.le_of_ble_eq_true rfl) dX1_baseTolerance_66 (h_F ?_)
      exact gx_iret C R (Nat.le_of_ble_eq_true rfl) (Nat.le_of_ble_eq_true rfl) dX1_baseTolerance_69 (fun H hH => ⟨h, ⟨rfl, by unfold btR; rw [if_pos (by unfold btT; rw [if_neg c5, nI_clamp (by omega), if_neg c40]), nI_clamp (by omega)], by unfold btT; rw [if_neg c5, nI_clamp (by omega), if_neg c40]⟩, hH⟩)
    · exact gx_throwIA C R SC_ SY_ dX1_baseTolerance_43 dX1_baseTolerance_46 dX1_baseTolerance_47 dX1_baseTolerance_50 ⟨Nat.le_of_ble_eq_true rfl, Nat.le_of_ble_eq_true rfl, Nat.le_of_ble_eq_true rfl, Nat.le_of_ble_eq_true rfl⟩ (Nat.le_of_ble_eq_true rfl) (Nat.le_of_ble_eq_true rfl) (fun H H9 hH hz hk9 => ⟨Or.inr ⟨rfl, by unfold btT; rw [if_neg c5, nI_clamp (by omega), if_pos c40]⟩, hH.grow hk9⟩)
  · exact gx_throwIO C R SC_ SY_ dX1_baseTolerance_8 dX1_baseTolerance_11 dX1_baseTolerance_12 dX1_baseTolerance_15 ⟨Nat.le_of_ble_eq_true rfl, Nat.le_of_ble_eq_true rfl, Nat.le_of_ble_eq_true rfl, Nat.le_of_ble_eq_true rfl⟩ (Nat.le_of_ble_eq_true rfl) (Nat.le_of_ble_eq_true rfl) (fun H H9 hH hz hk9 => ⟨Or.inl ⟨rfl, by unfold btT; rw [if_pos c5]⟩, hH.grow hk9⟩)
set_option maxRecDepth 100000 in
theorem cc_adjustment {l : Launch} {Γ : Gm} {A : Nat → Prop} {ρ : State → Prop} (B : Be l Γ A ρ) {h : Hp} {F : Nat → Int32} {X : Nat → Nat → Int32} {nt ns nm ne nv nu ln : Nat} (J : Iv F X nt ns nm ne nv nu ln) {x : Nat} (R_ : RepC Γ F X nt ns nm ne nv nu h x) (visit : Int32) : CtX l Γ A ρ yX1_adjustment cX1_adjustment 2 (some .int) { frames := 6, cells := 1, slots := 6, locals := 81 } [.ref x, .int visit] (HP Γ A h) (fun v H => ∃ h', (fun v h' => h' = h ∧ v = some (.int (ajR X nm nv visit)) ∧ ajT X nv visit = 0) v h' ∧ HP Γ A h' H) (fun N H => (fun N => (N = "java/lang/IndexOutOfBoundsException" ∧ ajT X nv visit = 1) ∨ (N = "java/lang/IllegalStateException" ∧ ajT X nv visit = 2)) N ∧ HP Γ A h H) := by
  refine CtX.of B.1.1.1.1 B.1.1.1.2 (by decide) [some (.ref x), some (.int visit)] (Nat.le_of_ble_eq_true rfl) rfl ?_
  intro E hE C R
  subst hE
  have SC_ := B.1.1.2 _ C.r
  have SX_ := B.1.2 _ C.r
  have SY_ := B.2 _ C.r
  have ht_ := J.lt
  have hs_ := J.ls
  have hm_ := J.lm
  have he_ := J.le
  have hu_ := J.lu
  have hl_ := J.ll
  have hv_ := J.lv
  obtain ⟨bu, mk, en, hi, sn, so, b7, b8, hs, fsn, fso, Rx, Rb, RK, RE, RH, RS, RA, RO⟩ := id R_
  obtain ⟨sl, wl, ma, te, fm, ft, ss, wq, Km, Kma, Kfm, Kte, Kft, Ksl, Kss, Kwl, Kws⟩ := id RK
  obtain ⟨vl, el, vs, es, Ee, E0, Evl, Eel, Evs, Ees⟩ := id RE
  refine g_aload_n C dX1_adjustment_0 rfl rfl ?_
  refine g_iload_n C dX1_adjustment_1 rfl rfl ?_
  refine h_callV (rest := []) 1 C (cc_isVisit B.1.1 J R_ _) (lw_V q1156 q1158 qs21 q86 q1159) ⟨⟨by decide, by decide, by decide +kernel⟩, ⟨Nat.le_of_ble_eq_true rfl, Nat.le_of_ble_eq_true rfl⟩, ⟨Nat.le_of_ble_eq_true rfl, Nat.le_of_ble_eq_true rfl⟩⟩ (fun _ h => h) (HP.recv C Rx k_X1) rfl rfl (Nat.le_of_ble_eq_true rfl) dX1_adjustment_2 (h_F ?_)
  refine g_if_ne 16 C dX1_adjustment_5 rfl (fun c5 => ?_) (fun c5 => ?_)
  · obtain ⟨j_visit, hj_visit, rfl⟩ := ixI_in (by omega) c5
    refine g_aload_n C dX1_adjustment_16 rfl rfl ?_
    refine c_get 0 4 k_X1 in_X1 (by decide) (fun _ h => h) q540 Rx rfl C dX1_adjustment_17 ?_
    refine c_getN 2 0 k_X3 in_X3 (by decide) (fun _ h => h) q522 SC_ Ee rfl C dX1_adjustment_20 ?_
    refine g_iload_n C dX1_adjustment_23 rfl rfl ?_
    refine h_callV (rest := []) 1 C (cc_get B.1.1 Evl j_visit (by omega)) (lw_V q940 q941 q942 q90 q943) ⟨⟨by decide, by decide, by decide +kernel⟩, ⟨Nat.le_of_ble_eq_true rfl, Nat.le_of_ble_eq_true rfl⟩, ⟨Nat.le_of_ble_eq_true rfl, Nat.le_of_ble_eq_true rfl⟩⟩ (fun _ h => h) (Evl.recv C) rfl rfl (Nat.le_of_ble_eq_true rfl) dX1_adjustment_24 (h_F ?_)
    obtain ⟨vm1, ve1, fvm1, fve1, Vo1, Vm1, Ve1, Vt1⟩ := Evs j_visit (by omega)
    refine c_castS Vo1 k_X15 q1064 C dX1_adjustment_27 ?_
    refine c_getN 13 5 k_X15 in_X15 (by decide) (fun _ h => h) q1113 SC_ Vo1 rfl C dX1_adjustment_30 ?_
    refine g_if_ne 44 C dX1_adjustment_33 rfl (fun c33 => ?_) (fun c33 => ?_)
    · refine g_aload_n C dX1_adjustment_44 rfl rfl ?_
      refine g_aload_n C dX1_adjustment_45 rfl rfl ?_
      refine c_get 0 4 k_X1 in_X1 (by decide) (fun _ h => h) q540 Rx rfl C dX1_adjustment_46 ?_
      refine c_getN 2 0 k_X3 in_X3 (by decide) (fun _ h => h) q522 SC_ Ee rfl C dX1_adjustment_49 ?_
      refine g_iload_n C dX1_adjustment_52 rfl rfl ?_
      refine h_callV (rest := [.ref x]) 1 C (cc_get B.1.1 Evl j_visit (by omega)) (lw_V q940 q941 q942 q90 q943) ⟨⟨by decide, by decide, by decide +kernel⟩, ⟨Nat.le_of_ble_eq_true rfl, Nat.le_of_ble_eq_true rfl⟩, ⟨Nat.le_of_ble_eq_true rfl, Nat.le_of_ble_eq_true rfl⟩⟩ (fun _ h => h) (Evl.recv C) rfl rfl (Nat.le_of_ble_eq_true rfl) dX1_adjustment_53 (h_F ?_)
      refine c_castS Vo1 k_X15 q1064 C dX1_adjustment_56 ?_
      refine h_callV (rest := []) 1 C (cc_adjOf B.1.1 J R_ (show j_visit < nv by omega) (Evs j_visit (by omega))) (lw_V q1252 q1254 qs30 q86 q1255) ⟨⟨by decide, by decide, by decide +kernel⟩, ⟨Nat.le_of_ble_eq_true rfl, Nat.le_of_ble_eq_true rfl⟩, ⟨Nat.le_of_ble_eq_true rfl, Nat.le_of_ble_eq_true rfl⟩⟩ (fun _ h => h) (HP.recv C Rx k_X1) rfl rfl (Nat.le_of_ble_eq_true rfl) dX1_adjustment_59 (h_E (fun v1 hp1 r1 => ?_))
      obtain ⟨rfl, za, rfl, hza⟩ := r1
      exact gx_iret C R (Nat.le_of_ble_eq_true rfl) (Nat.le_of_ble_eq_true rfl) dX1_adjustment_62 (fun H hH => ⟨_, ⟨rfl, by obtain ⟨tn, htn, e151, -⟩ := (J.vi hj_visit).2.2.2.2.2; unfold ajR; rw [if_pos (by unfold ajT; rw [if_neg c5, nI_clamp (by omega), if_neg c33]), nI_clamp (by omega), hza (by rw [tn_eq e151 htn]; rcases Nat.eq_zero_or_pos tn with z | z; exact absurd (e151.trans (by rw [z]; rfl)) c33; exact z)], by unfold ajT; rw [if_neg c5, nI_clamp (by omega), if_neg c33]⟩, hH⟩)
    · exact gx_throwIS C R SC_ SY_ dX1_adjustment_36 dX1_adjustment_39 dX1_adjustment_40 dX1_adjustment_43 ⟨Nat.le_of_ble_eq_true rfl, Nat.le_of_ble_eq_true rfl, Nat.le_of_ble_eq_true rfl, Nat.le_of_ble_eq_true rfl⟩ (Nat.le_of_ble_eq_true rfl) (Nat.le_of_ble_eq_true rfl) (fun H H9 hH hz hk9 => ⟨Or.inr ⟨rfl, by unfold ajT; rw [if_neg c5, nI_clamp (by omega), if_pos c33]⟩, hH.grow hk9⟩)
  · exact gx_throwIO C R SC_ SY_ dX1_adjustment_8 dX1_adjustment_11 dX1_adjustment_12 dX1_adjustment_15 ⟨Nat.le_of_ble_eq_true rfl, Nat.le_of_ble_eq_true rfl, Nat.le_of_ble_eq_true rfl, Nat.le_of_ble_eq_true rfl⟩ (Nat.le_of_ble_eq_true rfl) (Nat.le_of_ble_eq_true rfl) (fun H H9 hH hz hk9 => ⟨Or.inl ⟨rfl, by unfold ajT; rw [if_pos c5]⟩, hH.grow hk9⟩)
