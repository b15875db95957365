theorem div_N {a b : Nat} (ha : a < 2 ^ 31) (hb : b < 2 ^ 31) (h0 : 0 < b) : nI a / nI b = nI (a / b) := by
  apply Int32.toInt_inj.mp
  have h1 : a / b ≤ a := Nat.div_le_self a b
  rw [Int32.toInt_div, nI_toInt ha, nI_toInt hb, nI_toInt (by omega), Int.tdiv_eq_ediv_of_nonneg (by omega)]
  have e : (a : Int) / (b : Int) = ((a / b : Nat) : Int) := by simp
  rw [e]
  generalize a / b = q at h1 ⊢
  unfold Int.bmod
  simp only
  omega
def eyI (X : Nat → Nat → Int32) (v : Nat) : Int32 := X 1 (31 + v) / 360 + X 13 (X 5 (X 1 (1 + v)).toNatClampNeg).toNatClampNeg
theorem exI_ey (X : Nat → Nat → Int32) (v : Nat) : exI X v = eyI X v * 360 := rfl
theorem Iv.ey {F : Nat → Int32} {X : Nat → Nat → Int32} {nt ns nm ne nv nu ln : Nat} (J : Iv F X nt ns nm ne nv nu ln) {v : Nat} (hv : v < nv) : ∃ y, y ≤ 100 ∧ eyI X v = nI y := by
  obtain ⟨sk, hsk, e1⟩ := (J.vi hv).1
  obtain ⟨d, hd, e31⟩ := (J.vi hv).2.1
  have hs_ := J.ls
  obtain ⟨c, hc, e5⟩ := J.mk.2.1 sk hsk
  obtain ⟨t, ht1, ht2, e13⟩ := J.mk.2.2.2.2.2.2.2 c hc
  refine ⟨d / 360 + t, by omega, ?_⟩
  unfold eyI
  rw [e1, nI_clamp (by omega), e5, nI_clamp (by omega), e13, e31, show (360 : Int32) = nI 360 from rfl, div_N (by omega) (by omega) (by omega), nI_add]
set_option maxRecDepth 100000 in
theorem cc_expYear {l : Launch} {Γ : Gm} {A : Nat → Prop} {ρ : State → Prop} (B : Bc l Γ A ρ) {h : Hp} {F : Nat → Int32} {X : Nat → Nat → Int32} {nt ns nm ne nv nu ln : Nat} (J : Iv F X nt ns nm ne nv nu ln) {x : Nat} (R_ : RepC Γ F X nt ns nm ne nv nu h x) {k en0 v : Nat} (hk : k < nv) (V : RepV Γ (LdX X nm) (X 1) k h en0 v) : CtF l Γ A ρ yX1_expiryYear cX1_expiryYear 2 (some .int) { frames := 4, cells := 0, slots := 0, locals := 85 } [.ref x, .ref v] h (some (.int (eyI X k))) h := by
  refine Ct.of B.1.1 B.1.2 (by decide) [some (.ref x), some (.ref v)] (Nat.le_of_ble_eq_true rfl) rfl ?_
  intro E hE C R
  subst hE
  have SC_ := B.2 _ C.r
  have ht_ := J.lt
  have hs_ := J.ls
  have hm_ := J.lm
  have he_ := J.le
  have hu_ := J.lu
  have hl_ := J.ll
  have hv_ := J.lv
  obtain ⟨bu, mk, en, hi, sn, so, b7, b8, hs, fsn, fso, Rx, Rb, RK, RE, RH, RS, RA, RO⟩ := id R_
  obtain ⟨sl, wl, ma, te, fm, ft, ss, wq, Km, Kma, Kfm, Kte, Kft, Ksl, Kss, Kwl, Kws⟩ := id RK
  obtain ⟨vm, ve, fvm, fve, Vo, Vm, Ve, Vt⟩ := id V
  obtain ⟨sk, hsk, e1⟩ := (J.vi hk).1
  obtain ⟨c, hc, e5⟩ := J.mk.2.1 (X 1 (1 + k)).toNatClampNeg (by rw [e1, nI_clamp (by omega)]; exact hsk)
  refine g_aload_n C dX1_expiryYear_0 rfl rfl ?_
  refine c_getN 13 1 k_X15 in_X15 (by decide) (fun _ h => h) q1105 SC_ Vo rfl C dX1_expiryYear_1 ?_
  refine g_sipush (v := 360) C dX1_expiryYear_4 rfl ?_
  refine g_idiv C dX1_expiryYear_7 (by decide) ?_
  refine g_aload_n C dX1_expiryYear_8 rfl rfl ?_
  refine c_get 0 3 k_X1 in_X1 (by decide) (fun _ h => h) q539 Rx rfl C dX1_expiryYear_9 ?_
  refine c_getN 1 3 k_X2 in_X2 (by decide) (fun _ h => h) q493 SC_ Km rfl C dX1_expiryYear_12 ?_
  refine g_aload_n C dX1_expiryYear_15 rfl rfl ?_
  refine g_aload_n C dX1_expiryYear_16 rfl rfl ?_
  refine h_callV (rest := [.ref te, .int ((X 1 (31 + k)) / 360)]) 1 C (cc_scaleOf B J R_ hk V) (lw_V q1168 q1170 qs22 q86 q1171) ⟨⟨by decide, by decide, by decide +kernel⟩, ⟨Nat.le_of_ble_eq_true rfl, Nat.le_of_ble_eq_true rfl⟩, ⟨Nat.le_of_ble_eq_true rfl, Nat.le_of_ble_eq_true rfl⟩⟩ (fun _ h => h) (HP.recv C Rx k_X1) rfl rfl (Nat.le_of_ble_eq_true rfl) dX1_expiryYear_17 (h_E (fun v1 hp1 r1 => ?_))
  obtain ⟨sc1, rfl, rfl, So1⟩ := r1
  refine c_getN 10 1 k_X11 in_X11 (by decide) (fun _ h => h) q820 SC_ So1 rfl C dX1_expiryYear_20 ?_
  refine g_topi (y := nI c) (e5) ?_
  refine c_iald (i := c) Kte (by omega) (by omega) C dX1_expiryYear_23 ?_
  refine g_topi (y := X 13 c) (Kft c (by omega)) ?_
  refine g_iadd C dX1_expiryYear_24 ?_
  exact g_iret C R (Nat.le_of_ble_eq_true rfl) (Nat.le_of_ble_eq_true rfl) dX1_expiryYear_25 (fun H hH => ⟨by unfold eyI; rw [e5, nI_clamp (by omega)], hH⟩)
theorem vVd_cl {r : Nat → Int32} {k : Nat} (h : r (61 + k) = 1) : vVd r k = r (91 + k) := by unfold vVd; rw [if_neg (by rw [h]; decide)]
theorem q_le0 {ns nm : Nat} {r : Nat → Int32} {k : Nat} (V : ViB ns nm r k) : r (91 + k) ≤ 0 ↔ r (91 + k) = 0 := by
  obtain ⟨q, hq, e⟩ := V.2.2.2.1
  rw [e, show (0 : Int32) = nI 0 from rfl, nI_leI (by omega) (by omega), nI_eq (by omega) (by omega)]
  omega
theorem ex_le {y t : Nat} (hy : y ≤ 100) (ht : t ≤ 9999) : nI y * 360 ≤ nI t ↔ ¬ nI t / 360 < nI y := by
  rw [show (360 : Int32) = nI 360 from rfl, pk_mul, div_N (by omega) (by omega) (by omega), nI_leI (by omega) (by omega), nI_ltI (by omega) (by omega)]
  omega
theorem nle_lt {a b : Int32} : ¬ a < b ↔ b ≤ a := by rw [fa_lt, fa_le]; omega
set_option maxRecDepth 100000 in
theorem cc_stateOf {l : Launch} {Γ : Gm} {A : Nat → Prop} {ρ : State → Prop} (B : Bc l Γ A ρ) {h : Hp} {F : Nat → Int32} {X : Nat → Nat → Int32} {nt ns nm ne nv nu ln : Nat} (J : Iv F X nt ns nm ne nv nu ln) {x : Nat} (R_ : RepC Γ F X nt ns nm ne nv nu h x) (s : Int32) (t : Nat) (ht : t ≤ 9999) : CtF l Γ A ρ yX1_stateOf cX1_stateOf 4 (some .int) { frames := 5, cells := 0, slots := 0, locals := 106 } [.ref x, .int s, .int (nI t)] h (some (.int (stI X nv s (nI t)))) h := by
  refine Ct.of B.1.1 B.1.2 (by decide) [some (.ref x), some (.int s), some (.int (nI t)), none] (Nat.le_of_ble_eq_true rfl) rfl ?_
  intro E hE C R
  subst hE
  have SC_ := B.2 _ C.r
  have ht_ := J.lt
  have hs_ := J.ls
  have hm_ := J.lm
  have he_ := J.le
  have hu_ := J.lu
  have hl_ := J.ll
  have hv_ := J.lv
  obtain ⟨bu, mk, en, hi, sn, so, b7, b8, hs, fsn, fso, Rx, Rb, RK, RE, RH, RS, RA, RO⟩ := id R_
  obtain ⟨sl, wl, ma, te, fm, ft, ss, wq, Km, Kma, Kfm, Kte, Kft, Ksl, Kss, Kwl, Kws⟩ := id RK
  obtain ⟨vl, el, vs, es, Ee, E0, Evl, Eel, Evs, Ees⟩ := id RE
  refine g_aload_n C dX1_stateOf_0 rfl rfl ?_
  refine g_iload_n C dX1_stateOf_1 rfl rfl ?_
  refine g_iload_n C dX1_stateOf_2 rfl rfl ?_
  refine h_callV (rest := []) 2 C (cc_lastClosed B J R_ _ _) (lw_V q1276 q1278 qs32 q86 q1279) ⟨⟨by decide, by decide, by decide +kernel⟩, ⟨Nat.le_of_ble_eq_true rfl, Nat.le_of_ble_eq_true rfl⟩, ⟨Nat.le_of_ble_eq_true rfl, Nat.le_of_ble_eq_true rfl⟩⟩ (fun _ h => h) (HP.recv C Rx k_X1) rfl rfl (Nat.le_of_ble_eq_true rfl) dX1_stateOf_3 (h_E (fun v1 hp1 r1 => ?_))
  obtain ⟨rfl, hlc1⟩ := r1
  rcases hlc1 with ⟨el1, rfl⟩ | ⟨i1, vv1, en1, hii1, el1, rfl, V1⟩
  · refine g_astore_nN (lv' := [some (.ref x), some (.int s), some (.int (nI t)), some (.null)]) C dX1_stateOf_6 rfl (by decide) rfl ?_
    refine g_aload_nN C dX1_stateOf_7 rfl rfl ?_
    refine g_ifnonnullN C dX1_stateOf_8 ?_
    refine g_iconst (v := 0) C dX1_stateOf_11 rfl ?_
    exact g_iret C R (Nat.le_of_ble_eq_true rfl) (Nat.le_of_ble_eq_true rfl) dX1_stateOf_12 (fun H hH => ⟨by unfold stI; rw [if_pos el1], hH⟩)
  · obtain ⟨vm1, ve1, fvm1, fve1, Vo1, Vm1, Ve1, Vt1⟩ := id V1
    refine g_astore_n (lv' := [some (.ref x), some (.int s), some (.int (nI t)), some (.ref vv1)]) C dX1_stateOf_6 rfl (by decide) rfl ?_
    refine g_aload_n C dX1_stateOf_7 rfl rfl ?_
    refine g_ifnonnull 13 C dX1_stateOf_8 rfl ?_
    refine g_aload_n C dX1_stateOf_13 rfl rfl ?_
    refine c_getN 13 6 k_X15 in_X15 (by decide) (fun _ h => h) q1115 SC_ Vo1 rfl C dX1_stateOf_14 ?_
    refine g_if_eq 22 C dX1_stateOf_17 rfl (fun c17 => ?_) (fun c17 => ?_)
    · refine g_iload_n C dX1_stateOf_22 rfl rfl ?_
      refine g_sipush (v := 360) C dX1_stateOf_23 rfl ?_
      refine g_idiv C dX1_stateOf_26 (by decide) ?_
      refine g_aload_n C dX1_stateOf_27 rfl rfl ?_
      refine g_aload_n C dX1_stateOf_28 rfl rfl ?_
      refine h_callV (rest := [.int ((nI t) / 360)]) 1 C (cc_expYear B J R_ hii1 V1) (lw_V q1280 q1282 qs33 q86 q1283) ⟨⟨by decide, by decide, by decide +kernel⟩, ⟨Nat.le_of_ble_eq_true rfl, Nat.le_of_ble_eq_true rfl⟩, ⟨Nat.le_of_ble_eq_true rfl, Nat.le_of_ble_eq_true rfl⟩⟩ (fun _ h => h) (HP.recv C Rx k_X1) rfl rfl (Nat.le_of_ble_eq_true rfl) dX1_stateOf_29 (h_F ?_)
      refine g_icmp_ge 39 C dX1_stateOf_32 rfl (fun c32 => ?_) (fun c32 => ?_)
      · refine g_iconst (v := 2) C dX1_stateOf_39 rfl ?_
        exact g_iret C R (Nat.le_of_ble_eq_true rfl) (Nat.le_of_ble_eq_true rfl) dX1_stateOf_40 (fun H hH => ⟨by obtain ⟨y, hy, ey⟩ := J.ey hii1; unfold stI; rw [el1, if_neg (nI_m2 (by omega)), nI_clamp (by omega), if_pos ((q_le0 (J.vi hii1)).mpr ((vVd_cl (laN_cl _ _ _ _ (by omega) _ el1 (by omega))).symm.trans c17)), exI_ey, ey, if_pos ((ex_le hy ht).mpr (by rw [← ey]; exact lele c32))], hH⟩)
      · refine g_iconst (v := 1) C dX1_stateOf_35 rfl ?_
        refine g_goto 40 C dX1_stateOf_36 rfl ?_
        exact g_iret C R (Nat.le_of_ble_eq_true rfl) (Nat.le_of_ble_eq_true rfl) dX1_stateOf_40 (fun H hH => ⟨by obtain ⟨y, hy, ey⟩ := J.ey hii1; unfold stI; rw [el1, if_neg (nI_m2 (by omega)), nI_clamp (by omega), if_pos ((q_le0 (J.vi hii1)).mpr ((vVd_cl (laN_cl _ _ _ _ (by omega) _ el1 (by omega))).symm.trans c17)), exI_ey, ey, if_neg (fun z => (ex_le hy ht).mp z (by rw [← ey]; exact ltle c32))], hH⟩)
    · refine g_iconst (v := 3) C dX1_stateOf_20 rfl ?_
      exact g_iret C R (Nat.le_of_ble_eq_true rfl) (Nat.le_of_ble_eq_true rfl) dX1_stateOf_21 (fun H hH => ⟨by unfold stI; rw [el1, if_neg (nI_m2 (by omega)), nI_clamp (by omega), if_neg (fun z => c17 ((vVd_cl (laN_cl _ _ _ _ (by omega) _ el1 (by omega))).trans ((q_le0 (J.vi hii1)).mp z)))], hH⟩)
set_option maxRecDepth 100000 in
theorem cc_sealState {l : Launch} {Γ : Gm} {A : Nat → Prop} {ρ : State → Prop} (B : Bc l Γ A ρ) {h : Hp} {F : Nat → Int32} {X : Nat → Nat → Int32} {nt ns nm ne nv nu ln : Nat} (J : Iv F X nt ns nm ne nv nu ln) {x : Nat} (R_ : RepC Γ F X nt ns nm ne nv nu h x) (scale day : Int32) : CtF l Γ A ρ yX1_sealState cX1_sealState 3 (some .int) { frames := 6, cells := 0, slots := 0, locals := 129 } [.ref x, .int scale, .int day] h (some (.int (atI scale ns (fun j => atI day 10000 (fun t => stI X nv (nI j) (nI t)))))) h := by
  refine Ct.of B.1.1 B.1.2 (by decide) [some (.ref x), some (.int scale), some (.int day)] (Nat.le_of_ble_eq_true rfl) rfl ?_
  intro E hE C R
  subst hE
  have SC_ := B.2 _ C.r
  have ht_ := J.lt
  have hs_ := J.ls
  have hm_ := J.lm
  have he_ := J.le
  have hu_ := J.lu
  have hl_ := J.ll
  have hv_ := J.lv
  obtain ⟨bu, mk, en, hi, sn, so, b7, b8, hs, fsn, fso, Rx, Rb, RK, RE, RH, RS, RA, RO⟩ := id R_
  obtain ⟨sl, wl, ma, te, fm, ft, ss, wq, Km, Kma, Kfm, Kte, Kft, Ksl, Kss, Kwl, Kws⟩ := id RK
  obtain ⟨vl, el, vs, es, Ee, E0, Evl, Eel, Evs, Ees⟩ := id RE
  refine g_aload_n C dX1_sealState_0 rfl rfl ?_
  refine g_iload_n C dX1_sealState_1 rfl rfl ?_
  refine h_callV (rest := []) 1 C (cc_isScale B J R_ _) (lw_V q1011 q1013 qs16 q86 q1014) ⟨⟨by decide, by decide, by decide +kernel⟩, ⟨Nat.le_of_ble_eq_true rfl, Nat.le_of_ble_eq_true rfl⟩, ⟨Nat.le_of_ble_eq_true rfl, Nat.le_of_ble_eq_true rfl⟩⟩ (fun _ h => h) (HP.recv C Rx k_X1) rfl rfl (Nat.le_of_ble_eq_true rfl) dX1_sealState_2 (h_F ?_)
  refine g_if_eq 24 C dX1_sealState_5 rfl (fun c5 => ?_) (fun c5 => ?_)
  · refine g_iconst (v := (-1)) C dX1_sealState_24 rfl ?_
    exact g_iret C R (Nat.le_of_ble_eq_true rfl) (Nat.le_of_ble_eq_true rfl) dX1_sealState_25 (fun H hH => ⟨by rw [atI_out c5], hH⟩)
  · obtain ⟨j_scale, hj_scale, rfl⟩ := ixI_in (by omega) c5
    refine g_iload_n C dX1_sealState_8 rfl rfl ?_
    refine h_callS (rest := []) 1 C (cc_isDay B.1 _ _) (lw_S q1060 q1061 q86 q1062) ⟨⟨by decide, by decide, by decide +kernel⟩, ⟨Nat.le_of_ble_eq_true rfl, Nat.le_of_ble_eq_true rfl⟩, ⟨Nat.le_of_ble_eq_true rfl, Nat.le_of_ble_eq_true rfl⟩⟩ (fun _ h => h) rfl rfl (Nat.le_of_ble_eq_true rfl) dX1_sealState_9 (h_P ?_)
    refine g_if_eq 24 C dX1_sealState_12 rfl (fun c12 => ?_) (fun c12 => ?_)
    · refine g_iconst (v := (-1)) C dX1_sealState_24 rfl ?_
      exact g_iret C R (Nat.le_of_ble_eq_true rfl) (Nat.le_of_ble_eq_true rfl) dX1_sealState_25 (fun H hH => ⟨by rw [atI_in hj_scale (by omega), atI_out c12], hH⟩)
    · obtain ⟨j_day, hj_day, rfl⟩ := ixI_in (by omega) c12
      refine g_aload_n C dX1_sealState_15 rfl rfl ?_
      refine g_iload_n C dX1_sealState_16 rfl rfl ?_
      refine g_iload_n C dX1_sealState_17 rfl rfl ?_
      refine h_callV (rest := []) 2 C (cc_stateOf B J R_ _ j_day (by omega)) (lw_V q1272 q1274 qs31 q86 q1275) ⟨⟨by decide, by decide, by decide +kernel⟩, ⟨Nat.le_of_ble_eq_true rfl, Nat.le_of_ble_eq_true rfl⟩, ⟨Nat.le_of_ble_eq_true rfl, Nat.le_of_ble_eq_true rfl⟩⟩ (fun _ h => h) (HP.recv C Rx k_X1) rfl rfl (Nat.le_of_ble_eq_true rfl) dX1_sealState_18 (h_F ?_)
      refine g_goto 25 C dX1_sealState_21 rfl ?_
      exact g_iret C R (Nat.le_of_ble_eq_true rfl) (Nat.le_of_ble_eq_true rfl) dX1_sealState_25 (fun H hH => ⟨by rw [atI_in hj_scale (by omega), atI_in hj_day (by omega)], hH⟩)
set_option maxRecDepth 100000 in
theorem cc_expiryDay {l : Launch} {Γ : Gm} {A : Nat → Prop} {ρ : State → Prop} (B : Bc l Γ A ρ) {h : Hp} {F : Nat → Int32} {X : Nat → Nat → Int32} {nt ns nm ne nv nu ln : Nat} (J : Iv F X nt ns nm ne nv nu ln) {x : Nat} (R_ : RepC Γ F X nt ns nm ne nv nu h x) (scale day : Int32) : CtF l Γ A ρ yX1_expiryDay cX1_expiryDay 3 (some .int) { frames := 6, cells := 0, slots := 0, locals := 129 } [.ref x, .int scale, .int day] h (some (.int (atI scale ns (fun j => atI day 10000 (fun t => edI X nv (nI j) (nI t)))))) h := by
  refine Ct.of B.1.1 B.1.2 (by decide) [some (.ref x), some (.int scale), some (.int day)] (Nat.le_of_ble_eq_true rfl) rfl ?_
  intro E hE C R
  subst hE
  have SC_ := B.2 _ C.r
  have ht_ := J.lt
  have hs_ := J.ls
  have hm_ := J.lm
  have he_ := J.le
  have hu_ := J.lu
  have hl_ := J.ll
  have hv_ := J.lv
  obtain ⟨bu, mk, en, hi, sn, so, b7, b8, hs, fsn, fso, Rx, Rb, RK, RE, RH, RS, RA, RO⟩ := id R_
  obtain ⟨sl, wl, ma, te, fm, ft, ss, wq, Km, Kma, Kfm, Kte, Kft, Ksl, Kss, Kwl, Kws⟩ := id RK
  obtain ⟨vl, el, vs, es, Ee, E0, Evl, Eel, Evs, Ees⟩ := id RE
  refine g_aload_n C dX1_expiryDay_0 rfl rfl ?_
  refine g_iload_n C dX1_expiryDay_1 rfl rfl ?_
  refine h_callV (rest := []) 1 C (cc_isScale B J R_ _) (lw_V q1011 q1013 qs16 q86 q1014) ⟨⟨by decide, by decide, by decide +kernel⟩, ⟨Nat.le_of_ble_eq_true rfl, Nat.le_of_ble_eq_true rfl⟩, ⟨Nat.le_of_ble_eq_true rfl, Nat.le_of_ble_eq_true rfl⟩⟩ (fun _ h => h) (HP.recv C Rx k_X1) rfl rfl (Nat.le_of_ble_eq_true rfl) dX1_expiryDay_2 (h_F ?_)
  refine g_if_eq 15 C dX1_expiryDay_5 rfl (fun c5 => ?_) (fun c5 => ?_)
  · refine g_iconst (v := (-1)) C dX1_expiryDay_15 rfl ?_
    exact g_iret C R (Nat.le_of_ble_eq_true rfl) (Nat.le_of_ble_eq_true rfl) dX1_expiryDay_16 (fun H hH => ⟨by rw [atI_out c5], hH⟩)
  · obtain ⟨j_scale, hj_scale, rfl⟩ := ixI_in (by omega) c5
    refine g_iload_n C dX1_expiryDay_8 rfl rfl ?_
    refine h_callS (rest := []) 1 C (cc_isDay B.1 _ _) (lw_S q1060 q1061 q86 q1062) ⟨⟨by decide, by decide, by decide +kernel⟩, ⟨Nat.le_of_ble_eq_true rfl, Nat.le_of_ble_eq_true rfl⟩, ⟨Nat.le_of_ble_eq_true rfl, Nat.le_of_ble_eq_true rfl⟩⟩ (fun _ h => h) rfl rfl (Nat.le_of_ble_eq_true rfl) dX1_expiryDay_9 (h_P ?_)
    refine g_if_ne 17 C dX1_expiryDay_12 rfl (fun c12 => ?_) (fun c12 => ?_)
    · obtain ⟨j_day, hj_day, rfl⟩ := ixI_in (by omega) c12
      refine g_aload_n C dX1_expiryDay_17 rfl rfl ?_
      refine g_iload_n C dX1_expiryDay_18 rfl rfl ?_
      refine g_iload_n C dX1_expiryDay_19 rfl rfl ?_
      refine h_callV (rest := []) 2 C (cc_stateOf B J R_ _ j_day (by omega)) (lw_V q1272 q1274 qs31 q86 q1275) ⟨⟨by decide, by decide, by decide +kernel⟩, ⟨Nat.le_of_ble_eq_true rfl, Nat.le_of_ble_eq_true rfl⟩, ⟨Nat.le_of_ble_eq_true rfl, Nat.le_of_ble_eq_true rfl⟩⟩ (fun _ h => h) (HP.recv C Rx k_X1) rfl rfl (Nat.le_of_ble_eq_true rfl) dX1_expiryDay_20 (h_F ?_)
      refine g_iconst (v := 1) C dX1_expiryDay_23 rfl ?_
      refine g_icmp_ne 44 C dX1_expiryDay_24 rfl (fun c24 => ?_) (fun c24 => ?_)
      · refine g_bipush (v := (-2)) C dX1_expiryDay_44 rfl ?_
        exact g_iret C R (Nat.le_of_ble_eq_true rfl) (Nat.le_of_ble_eq_true rfl) dX1_expiryDay_46 (fun H hH => ⟨by rw [atI_in hj_scale (by omega), atI_in hj_day (by omega)]; unfold edI; rw [if_neg c24], hH⟩)
      · refine g_sipush (v := 360) C dX1_expiryDay_27 rfl ?_
        refine g_aload_n C dX1_expiryDay_30 rfl rfl ?_
        refine g_aload_n C dX1_expiryDay_31 rfl rfl ?_
        refine g_iload_n C dX1_expiryDay_32 rfl rfl ?_
        refine g_iload_n C dX1_expiryDay_33 rfl rfl ?_
        refine h_callV (rest := [.ref x, .int 360]) 2 C (cc_lastClosed B J R_ _ _) (lw_V q1276 q1278 qs32 q86 q1279) ⟨⟨by decide, by decide, by decide +kernel⟩, ⟨Nat.le_of_ble_eq_true rfl, Nat.le_of_ble_eq_true rfl⟩, ⟨Nat.le_of_ble_eq_true rfl, Nat.le_of_ble_eq_true rfl⟩⟩ (fun _ h => h) (HP.recv C Rx k_X1) rfl rfl (Nat.le_of_ble_eq_true rfl) dX1_expiryDay_34 (h_E (fun v1 hp1 r1 => ?_))
        obtain ⟨rfl, hlc1⟩ := r1
        rcases hlc1 with ⟨el1, rfl⟩ | ⟨i1, vv1, en1, hii1, el1, rfl, V1⟩
        · exfalso; obtain ⟨v9, hv9, e9⟩ := stI_1 c24; exact nI_m2 (by omega) (e9.symm.trans el1)
        · obtain ⟨vm1, ve1, fvm1, fve1, Vo1, Vm1, Ve1, Vt1⟩ := id V1
          refine h_callV (rest := [.int 360]) 1 C (cc_expYear B J R_ hii1 V1) (lw_V q1280 q1282 qs33 q86 q1283) ⟨⟨by decide, by decide, by decide +kernel⟩, ⟨Nat.le_of_ble_eq_true rfl, Nat.le_of_ble_eq_true rfl⟩, ⟨Nat.le_of_ble_eq_true rfl, Nat.le_of_ble_eq_true rfl⟩⟩ (fun _ h => h) (HP.recv C Rx k_X1) rfl rfl (Nat.le_of_ble_eq_true rfl) dX1_expiryDay_37 (h_F ?_)
          refine g_imul C dX1_expiryDay_40 ?_
          refine g_goto 46 C dX1_expiryDay_41 rfl ?_
          exact g_iret C R (Nat.le_of_ble_eq_true rfl) (Nat.le_of_ble_eq_true rfl) dX1_expiryDay_46 (fun H hH => ⟨by rw [atI_in hj_scale (by omega), atI_in hj_day (by omega)]; unfold edI; rw [if_pos c24, el1, nI_clamp (by omega), exI_ey, mul_c32], hH⟩)
    · refine g_iconst (v := (-1)) C dX1_expiryDay_15 rfl ?_
      exact g_iret C R (Nat.le_of_ble_eq_true rfl) (Nat.le_of_ble_eq_true rfl) dX1_expiryDay_16 (fun H hH => ⟨by rw [atI_in hj_scale (by omega), atI_out c12], hH⟩)
