set_option maxRecDepth 100000 in
theorem cc_errorPosition {l : Launch} {Γ : Gm} {A : Nat → Prop} {ρ : State → Prop} (B : Bc l Γ A ρ) {h : Hp} {F : Nat → Int32} {X : Nat → Nat → Int32} {nt ns nm ne nv nu ln : Nat} (J : Iv F X nt ns nm ne nv nu ln) {x : Nat} (R_ : RepC Γ F X nt ns nm ne nv nu h x) : CtF l Γ A ρ yX1_errorPosition cX1_errorPosition 1 (some .int) { frames := 0, cells := 0, slots := 0, locals := 0 } [.ref x] h (some (.int (F 22))) h := by
  refine Ct.of B.1.1 B.1.2 (by decide) [some (.ref x)] (Nat.le_of_ble_eq_true rfl) rfl ?_
  intro E hE C R
  subst hE
  have SC_ := B.2 _ C.r
  have ht_ := J.lt
  have hs_ := J.ls
  have hm_ := J.lm
  have he_ := J.le
  have hu_ := J.lu
  have hl_ := J.ll
  have hv_ := J.lv
  obtain ⟨bu, mk, en, hi, sn, so, b7, b8, hs, fsn, fso, Rx, Rb, RK, RE, RH, RS, RA, RO⟩ := id R_
  refine g_aload_n C dX1_errorPosition_0 rfl rfl ?_
  refine c_get 0 2 k_X1 in_X1 (by decide) (fun _ h => h) q538 Rx rfl C dX1_errorPosition_1 ?_
  exact g_iret C R (Nat.le_of_ble_eq_true rfl) (Nat.le_of_ble_eq_true rfl) dX1_errorPosition_4 (fun H hH => ⟨rfl, hH⟩)
set_option maxRecDepth 100000 in
theorem cc_traderCount {l : Launch} {Γ : Gm} {A : Nat → Prop} {ρ : State → Prop} (B : Bc l Γ A ρ) {h : Hp} {F : Nat → Int32} {X : Nat → Nat → Int32} {nt ns nm ne nv nu ln : Nat} (J : Iv F X nt ns nm ne nv nu ln) {x : Nat} (R_ : RepC Γ F X nt ns nm ne nv nu h x) : CtF l Γ A ρ yX1_traderCount cX1_traderCount 1 (some .int) { frames := 0, cells := 0, slots := 0, locals := 0 } [.ref x] h (some (.int (nI nt))) h := by
  refine Ct.of B.1.1 B.1.2 (by decide) [some (.ref x)] (Nat.le_of_ble_eq_true rfl) rfl ?_
  intro E hE C R
  subst hE
  have SC_ := B.2 _ C.r
  have ht_ := J.lt
  have hs_ := J.ls
  have hm_ := J.lm
  have he_ := J.le
  have hu_ := J.lu
  have hl_ := J.ll
  have hv_ := J.lv
  obtain ⟨bu, mk, en, hi, sn, so, b7, b8, hs, fsn, fso, Rx, Rb, RK, RE, RH, RS, RA, RO⟩ := id R_
  obtain ⟨sl, wl, ma, te, fm, ft, ss, wq, Km, Kma, Kfm, Kte, Kft, Ksl, Kss, Kwl, Kws⟩ := id RK
  refine g_aload_n C dX1_traderCount_0 rfl rfl ?_
  refine c_get 0 3 k_X1 in_X1 (by decide) (fun _ h => h) q539 Rx rfl C dX1_traderCount_1 ?_
  refine c_getN 1 4 k_X2 in_X2 (by decide) (fun _ h => h) q494 SC_ Km rfl C dX1_traderCount_4 ?_
  exact g_iret C R (Nat.le_of_ble_eq_true rfl) (Nat.le_of_ble_eq_true rfl) dX1_traderCount_7 (fun H hH => ⟨rfl, hH⟩)
set_option maxRecDepth 100000 in
theorem cc_massCount {l : Launch} {Γ : Gm} {A : Nat → Prop} {ρ : State → Prop} (B : Bc l Γ A ρ) {h : Hp} {F : Nat → Int32} {X : Nat → Nat → Int32} {nt ns nm ne nv nu ln : Nat} (J : Iv F X nt ns nm ne nv nu ln) {x : Nat} (R_ : RepC Γ F X nt ns nm ne nv nu h x) : CtF l Γ A ρ yX1_massCount cX1_massCount 1 (some .int) { frames := 0, cells := 0, slots := 0, locals := 0 } [.ref x] h (some (.int (nI nm))) h := by
  refine Ct.of B.1.1 B.1.2 (by decide) [some (.ref x)] (Nat.le_of_ble_eq_true rfl) rfl ?_
  intro E hE C R
  subst hE
  have SC_ := B.2 _ C.r
  have ht_ := J.lt
  have hs_ := J.ls
  have hm_ := J.lm
  have he_ := J.le
  have hu_ := J.lu
  have hl_ := J.ll
  have hv_ := J.lv
  obtain ⟨bu, mk, en, hi, sn, so, b7, b8, hs, fsn, fso, Rx, Rb, RK, RE, RH, RS, RA, RO⟩ := id R_
  obtain ⟨sl, wl, ma, te, fm, ft, ss, wq, Km, Kma, Kfm, Kte, Kft, Ksl, Kss, Kwl, Kws⟩ := id RK
  refine g_aload_n C dX1_massCount_0 rfl rfl ?_
  refine c_get 0 3 k_X1 in_X1 (by decide) (fun _ h => h) q539 Rx rfl C dX1_massCount_1 ?_
  refine c_getN 1 5 k_X2 in_X2 (by decide) (fun _ h => h) q498 SC_ Km rfl C dX1_massCount_4 ?_
  exact g_iret C R (Nat.le_of_ble_eq_true rfl) (Nat.le_of_ble_eq_true rfl) dX1_massCount_7 (fun H hH => ⟨rfl, hH⟩)
set_option maxRecDepth 100000 in
theorem cc_scaleCount {l : Launch} {Γ : Gm} {A : Nat → Prop} {ρ : State → Prop} (B : Bc l Γ A ρ) {h : Hp} {F : Nat → Int32} {X : Nat → Nat → Int32} {nt ns nm ne nv nu ln : Nat} (J : Iv F X nt ns nm ne nv nu ln) {x : Nat} (R_ : RepC Γ F X nt ns nm ne nv nu h x) : CtF l Γ A ρ yX1_scaleCount cX1_scaleCount 1 (some .int) { frames := 1, cells := 0, slots := 0, locals := 20 } [.ref x] h (some (.int (nI ns))) h := by
  refine Ct.of B.1.1 B.1.2 (by decide) [some (.ref x)] (Nat.le_of_ble_eq_true rfl) rfl ?_
  intro E hE C R
  subst hE
  have SC_ := B.2 _ C.r
  have ht_ := J.lt
  have hs_ := J.ls
  have hm_ := J.lm
  have he_ := J.le
  have hu_ := J.lu
  have hl_ := J.ll
  have hv_ := J.lv
  obtain ⟨bu, mk, en, hi, sn, so, b7, b8, hs, fsn, fso, Rx, Rb, RK, RE, RH, RS, RA, RO⟩ := id R_
  obtain ⟨sl, wl, ma, te, fm, ft, ss, wq, Km, Kma, Kfm, Kte, Kft, Ksl, Kss, Kwl, Kws⟩ := id RK
  refine g_aload_n C dX1_scaleCount_0 rfl rfl ?_
  refine c_get 0 3 k_X1 in_X1 (by decide) (fun _ h => h) q539 Rx rfl C dX1_scaleCount_1 ?_
  refine c_getN 1 0 k_X2 in_X2 (by decide) (fun _ h => h) q483 SC_ Km rfl C dX1_scaleCount_4 ?_
  refine h_callV (rest := []) 0 C (cc_size B Ksl) (lw_V q939 q770 q771 q90 q772) ⟨⟨by decide, by decide, by decide +kernel⟩, ⟨Nat.le_of_ble_eq_true rfl, Nat.le_of_ble_eq_true rfl⟩, ⟨Nat.le_of_ble_eq_true rfl, Nat.le_of_ble_eq_true rfl⟩⟩ (fun _ h => h) (Ksl.recv C) rfl rfl (Nat.le_of_ble_eq_true rfl) dX1_scaleCount_7 (h_F ?_)
  exact g_iret C R (Nat.le_of_ble_eq_true rfl) (Nat.le_of_ble_eq_true rfl) dX1_scaleCount_10 (fun H hH => ⟨rfl, hH⟩)
set_option maxRecDepth 100000 in
theorem cc_setCount {l : Launch} {Γ : Gm} {A : Nat → Prop} {ρ : State → Prop} (B : Bc l Γ A ρ) {h : Hp} {F : Nat → Int32} {X : Nat → Nat → Int32} {nt ns nm ne nv nu ln : Nat} (J : Iv F X nt ns nm ne nv nu ln) {x : Nat} (R_ : RepC Γ F X nt ns nm ne nv nu h x) : CtF l Γ A ρ yX1_setCount cX1_setCount 1 (some .int) { frames := 1, cells := 0, slots := 0, locals := 20 } [.ref x] h (some (.int (nI ne))) h := by
  refine Ct.of B.1.1 B.1.2 (by decide) [some (.ref x)] (Nat.le_of_ble_eq_true rfl) rfl ?_
  intro E hE C R
  subst hE
  have SC_ := B.2 _ C.r
  have ht_ := J.lt
  have hs_ := J.ls
  have hm_ := J.lm
  have he_ := J.le
  have hu_ := J.lu
  have hl_ := J.ll
  have hv_ := J.lv
  obtain ⟨bu, mk, en, hi, sn, so, b7, b8, hs, fsn, fso, Rx, Rb, RK, RE, RH, RS, RA, RO⟩ := id R_
  obtain ⟨sl, wl, ma, te, fm, ft, ss, wq, Km, Kma, Kfm, Kte, Kft, Ksl, Kss, Kwl, Kws⟩ := id RK
  refine g_aload_n C dX1_setCount_0 rfl rfl ?_
  refine c_get 0 3 k_X1 in_X1 (by decide) (fun _ h => h) q539 Rx rfl C dX1_setCount_1 ?_
  refine c_getN 1 1 k_X2 in_X2 (by decide) (fun _ h => h) q486 SC_ Km rfl C dX1_setCount_4 ?_
  refine h_callV (rest := []) 0 C (cc_size B Kwl) (lw_V q939 q770 q771 q90 q772) ⟨⟨by decide, by decide, by decide +kernel⟩, ⟨Nat.le_of_ble_eq_true rfl, Nat.le_of_ble_eq_true rfl⟩, ⟨Nat.le_of_ble_eq_true rfl, Nat.le_of_ble_eq_true rfl⟩⟩ (fun _ h => h) (Kwl.recv C) rfl rfl (Nat.le_of_ble_eq_true rfl) dX1_setCount_7 (h_F ?_)
  exact g_iret C R (Nat.le_of_ble_eq_true rfl) (Nat.le_of_ble_eq_true rfl) dX1_setCount_10 (fun H hH => ⟨rfl, hH⟩)
set_option maxRecDepth 100000 in
theorem cc_visitCount {l : Launch} {Γ : Gm} {A : Nat → Prop} {ρ : State → Prop} (B : Bc l Γ A ρ) {h : Hp} {F : Nat → Int32} {X : Nat → Nat → Int32} {nt ns nm ne nv nu ln : Nat} (J : Iv F X nt ns nm ne nv nu ln) {x : Nat} (R_ : RepC Γ F X nt ns nm ne nv nu h x) : CtF l Γ A ρ yX1_visitCount cX1_visitCount 1 (some .int) { frames := 1, cells := 0, slots := 0, locals := 20 } [.ref x] h (some (.int (nI nv))) h := by
  refine Ct.of B.1.1 B.1.2 (by decide) [some (.ref x)] (Nat.le_of_ble_eq_true rfl) rfl ?_
  intro E hE C R
  subst hE
  have SC_ := B.2 _ C.r
  have ht_ := J.lt
  have hs_ := J.ls
  have hm_ := J.lm
  have he_ := J.le
  have hu_ := J.lu
  have hl_ := J.ll
  have hv_ := J.lv
  obtain ⟨bu, mk, en, hi, sn, so, b7, b8, hs, fsn, fso, Rx, Rb, RK, RE, RH, RS, RA, RO⟩ := id R_
  obtain ⟨vl, el, vs, es, Ee, E0, Evl, Eel, Evs, Ees⟩ := id RE
  refine g_aload_n C dX1_visitCount_0 rfl rfl ?_
  refine c_get 0 4 k_X1 in_X1 (by decide) (fun _ h => h) q540 Rx rfl C dX1_visitCount_1 ?_
  refine c_getN 2 0 k_X3 in_X3 (by decide) (fun _ h => h) q522 SC_ Ee rfl C dX1_visitCount_4 ?_
  refine h_callV (rest := []) 0 C (cc_size B Evl) (lw_V q939 q770 q771 q90 q772) ⟨⟨by decide, by decide, by decide +kernel⟩, ⟨Nat.le_of_ble_eq_true rfl, Nat.le_of_ble_eq_true rfl⟩, ⟨Nat.le_of_ble_eq_true rfl, Nat.le_of_ble_eq_true rfl⟩⟩ (fun _ h => h) (Evl.recv C) rfl rfl (Nat.le_of_ble_eq_true rfl) dX1_visitCount_7 (h_F ?_)
  exact g_iret C R (Nat.le_of_ble_eq_true rfl) (Nat.le_of_ble_eq_true rfl) dX1_visitCount_10 (fun H hH => ⟨rfl, hH⟩)
set_option maxRecDepth 100000 in
theorem cc_undoDepth {l : Launch} {Γ : Gm} {A : Nat → Prop} {ρ : State → Prop} (B : Bc l Γ A ρ) {h : Hp} {F : Nat → Int32} {X : Nat → Nat → Int32} {nt ns nm ne nv nu ln : Nat} (J : Iv F X nt ns nm ne nv nu ln) {x : Nat} (R_ : RepC Γ F X nt ns nm ne nv nu h x) : CtF l Γ A ρ yX1_undoDepth cX1_undoDepth 1 (some .int) { frames := 1, cells := 0, slots := 0, locals := 20 } [.ref x] h (some (.int (nI nu))) h := by
  refine Ct.of B.1.1 B.1.2 (by decide) [some (.ref x)] (Nat.le_of_ble_eq_true rfl) rfl ?_
  intro E hE C R
  subst hE
  have SC_ := B.2 _ C.r
  have ht_ := J.lt
  have hs_ := J.ls
  have hm_ := J.lm
  have he_ := J.le
  have hu_ := J.lu
  have hl_ := J.ll
  have hv_ := J.lv
  obtain ⟨bu, mk, en, hi, sn, so, b7, b8, hs, fsn, fso, Rx, Rb, RK, RE, RH, RS, RA, RO⟩ := id R_
  refine g_aload_n C dX1_undoDepth_0 rfl rfl ?_
  refine c_get 0 5 k_X1 in_X1 (by decide) (fun _ h => h) q541 Rx rfl C dX1_undoDepth_1 ?_
  refine h_callV (rest := []) 0 C (cc_size B RH.1) (lw_V q939 q770 q771 q90 q772) ⟨⟨by decide, by decide, by decide +kernel⟩, ⟨Nat.le_of_ble_eq_true rfl, Nat.le_of_ble_eq_true rfl⟩, ⟨Nat.le_of_ble_eq_true rfl, Nat.le_of_ble_eq_true rfl⟩⟩ (fun _ h => h) (RH.1.recv C) rfl rfl (Nat.le_of_ble_eq_true rfl) dX1_undoDepth_4 (h_F ?_)
  exact g_iret C R (Nat.le_of_ble_eq_true rfl) (Nat.le_of_ble_eq_true rfl) dX1_undoDepth_7 (fun H hH => ⟨rfl, hH⟩)
set_option maxRecDepth 100000 in
theorem cc_trader {l : Launch} {Γ : Gm} {A : Nat → Prop} {ρ : State → Prop} (B : Bc l Γ A ρ) {h : Hp} {F : Nat → Int32} {X : Nat → Nat → Int32} {nt ns nm ne nv nu ln : Nat} (J : Iv F X nt ns nm ne nv nu ln) {x : Nat} (R_ : RepC Γ F X nt ns nm ne nv nu h x) (scale : Int32) : CtF l Γ A ρ yX1_trader cX1_trader 2 (some .int) { frames := 3, cells := 0, slots := 0, locals := 64 } [.ref x, .int scale] h (some (.int (atI scale ns (X 4)))) h := by
  refine Ct.of B.1.1 B.1.2 (by decide) [some (.ref x), some (.int scale)] (Nat.le_of_ble_eq_true rfl) rfl ?_
  intro E hE C R
  subst hE
  have SC_ := B.2 _ C.r
  have ht_ := J.lt
  have hs_ := J.ls
  have hm_ := J.lm
  have he_ := J.le
  have hu_ := J.lu
  have hl_ := J.ll
  have hv_ := J.lv
  obtain ⟨bu, mk, en, hi, sn, so, b7, b8, hs, fsn, fso, Rx, Rb, RK, RE, RH, RS, RA, RO⟩ := id R_
  obtain ⟨sl, wl, ma, te, fm, ft, ss, wq, Km, Kma, Kfm, Kte, Kft, Ksl, Kss, Kwl, Kws⟩ := id RK
  obtain ⟨vl, el, vs, es, Ee, E0, Evl, Eel, Evs, Ees⟩ := id RE
  refine g_aload_n C dX1_trader_0 rfl rfl ?_
  refine g_iload_n C dX1_trader_1 rfl rfl ?_
  refine h_callV (rest := []) 1 C (cc_isScale B J R_ _) (lw_V q1011 q1013 qs16 q86 q1014) ⟨⟨by decide, by decide, by decide +kernel⟩, ⟨Nat.le_of_ble_eq_true rfl, Nat.le_of_ble_eq_true rfl⟩, ⟨Nat.le_of_ble_eq_true rfl, Nat.le_of_ble_eq_true rfl⟩⟩ (fun _ h => h) (HP.recv C Rx k_X1) rfl rfl (Nat.le_of_ble_eq_true rfl) dX1_trader_2 (h_F ?_)
  refine g_if_eq 28 C dX1_trader_5 rfl (fun c5 => ?_) (fun c5 => ?_)
  · refine g_iconst (v := (-1)) C dX1_trader_28 rfl ?_
    exact g_iret C R (Nat.le_of_ble_eq_true rfl) (Nat.le_of_ble_eq_true rfl) dX1_trader_29 (fun H hH => ⟨by rw [atI_out c5], hH⟩)
  · obtain ⟨j_scale, hj_scale, rfl⟩ := ixI_in (by omega) c5
    refine g_aload_n C dX1_trader_8 rfl rfl ?_
    refine c_get 0 3 k_X1 in_X1 (by decide) (fun _ h => h) q539 Rx rfl C dX1_trader_9 ?_
    refine c_getN 1 0 k_X2 in_X2 (by decide) (fun _ h => h) q483 SC_ Km rfl C dX1_trader_12 ?_
    refine g_iload_n C dX1_trader_15 rfl rfl ?_
    refine h_callV (rest := []) 1 C (cc_get B Ksl j_scale (by omega)) (lw_V q940 q941 q942 q90 q943) ⟨⟨by decide, by decide, by decide +kernel⟩, ⟨Nat.le_of_ble_eq_true rfl, Nat.le_of_ble_eq_true rfl⟩, ⟨Nat.le_of_ble_eq_true rfl, Nat.le_of_ble_eq_true rfl⟩⟩ (fun _ h => h) (Ksl.recv C) rfl rfl (Nat.le_of_ble_eq_true rfl) dX1_trader_16 (h_F ?_)
    refine c_castS (Kss j_scale (by omega)) k_X11 q1015 C dX1_trader_19 ?_
    refine c_getN 10 0 k_X11 in_X11 (by decide) (fun _ h => h) q818 SC_ (Kss j_scale (by omega)) rfl C dX1_trader_22 ?_
    refine g_goto 29 C dX1_trader_25 rfl ?_
    exact g_iret C R (Nat.le_of_ble_eq_true rfl) (Nat.le_of_ble_eq_true rfl) dX1_trader_29 (fun H hH => ⟨by rw [atI_in hj_scale (by omega)], hH⟩)
set_option maxRecDepth 100000 in
theorem cc_capacity {l : Launch} {Γ : Gm} {A : Nat → Prop} {ρ : State → Prop} (B : Bc l Γ A ρ) {h : Hp} {F : Nat → Int32} {X : Nat → Nat → Int32} {nt ns nm ne nv nu ln : Nat} (J : Iv F X nt ns nm ne nv nu ln) {x : Nat} (R_ : RepC Γ F X nt ns nm ne nv nu h x) (scale : Int32) : CtF l Γ A ρ yX1_capacity cX1_capacity 2 (some .int) { frames := 3, cells := 0, slots := 0, locals := 64 } [.ref x, .int scale] h (some (.int (atI scale ns (X 7)))) h := by
  refine Ct.of B.1.1 B.1.2 (by decide) [some (.ref x), some (.int scale)] (Nat.le_of_ble_eq_true rfl) rfl ?_
  intro E hE C R
  subst hE
  have SC_ := B.2 _ C.r
  have ht_ := J.lt
  have hs_ := J.ls
  have hm_ := J.lm
  have he_ := J.le
  have hu_ := J.lu
  have hl_ := J.ll
  have hv_ := J.lv
  obtain ⟨bu, mk, en, hi, sn, so, b7, b8, hs, fsn, fso, Rx, Rb, RK, RE, RH, RS, RA, RO⟩ := id R_
  obtain ⟨sl, wl, ma, te, fm, ft, ss, wq, Km, Kma, Kfm, Kte, Kft, Ksl, Kss, Kwl, Kws⟩ := id RK
  obtain ⟨vl, el, vs, es, Ee, E0, Evl, Eel, Evs, Ees⟩ := id RE
  refine g_aload_n C dX1_capacity_0 rfl rfl ?_
  refine g_iload_n C dX1_capacity_1 rfl rfl ?_
  refine h_callV (rest := []) 1 C (cc_isScale B J R_ _) (lw_V q1011 q1013 qs16 q86 q1014) ⟨⟨by decide, by decide, by decide +kernel⟩, ⟨Nat.le_of_ble_eq_true rfl, Nat.le_of_ble_eq_true rfl⟩, ⟨Nat.le_of_ble_eq_true rfl, Nat.le_of_ble_eq_true rfl⟩⟩ (fun _ h => h) (HP.recv C Rx k_X1) rfl rfl (Nat.le_of_ble_eq_true rfl) dX1_capacity_2 (h_F ?_)
  refine g_if_eq 28 C dX1_capacity_5 rfl (fun c5 => ?_) (fun c5 => ?_)
  · refine g_iconst (v := (-1)) C dX1_capacity_28 rfl ?_
    exact g_iret C R (Nat.le_of_ble_eq_true rfl) (Nat.le_of_ble_eq_true rfl) dX1_capacity_29 (fun H hH => ⟨by rw [atI_out c5], hH⟩)
  · obtain ⟨j_scale, hj_scale, rfl⟩ := ixI_in (by omega) c5
    refine g_aload_n C dX1_capacity_8 rfl rfl ?_
    refine c_get 0 3 k_X1 in_X1 (by decide) (fun _ h => h) q539 Rx rfl C dX1_capacity_9 ?_
    refine c_getN 1 0 k_X2 in_X2 (by decide) (fun _ h => h) q483 SC_ Km rfl C dX1_capacity_12 ?_
    refine g_iload_n C dX1_capacity_15 rfl rfl ?_
    refine h_callV (rest := []) 1 C (cc_get B Ksl j_scale (by omega)) (lw_V q940 q941 q942 q90 q943) ⟨⟨by decide, by decide, by decide +kernel⟩, ⟨Nat.le_of_ble_eq_true rfl, Nat.le_of_ble_eq_true rfl⟩, ⟨Nat.le_of_ble_eq_true rfl, Nat.le_of_ble_eq_true rfl⟩⟩ (fun _ h => h) (Ksl.recv C) rfl rfl (Nat.le_of_ble_eq_true rfl) dX1_capacity_16 (h_F ?_)
    refine c_castS (Kss j_scale (by omega)) k_X11 q1015 C dX1_capacity_19 ?_
    refine c_getN 10 3 k_X11 in_X11 (by decide) (fun _ h => h) q823 SC_ (Kss j_scale (by omega)) rfl C dX1_capacity_22 ?_
    refine g_goto 29 C dX1_capacity_25 rfl ?_
    exact g_iret C R (Nat.le_of_ble_eq_true rfl) (Nat.le_of_ble_eq_true rfl) dX1_capacity_29 (fun H hH => ⟨by rw [atI_in hj_scale (by omega)], hH⟩)
set_option maxRecDepth 100000 in
theorem cc_visitScale {l : Launch} {Γ : Gm} {A : Nat → Prop} {ρ : State → Prop} (B : Bc l Γ A ρ) {h : Hp} {F : Nat → Int32} {X : Nat → Nat → Int32} {nt ns nm ne nv nu ln : Nat} (J : Iv F X nt ns nm ne nv nu ln) {x : Nat} (R_ : RepC Γ F X nt ns nm ne nv nu h x) (visit : Int32) : CtF l Γ A ρ yX1_visitScale cX1_visitScale 2 (some .int) { frames := 3, cells := 0, slots := 0, locals := 64 } [.ref x, .int visit] h (some (.int (atI visit nv (fun j => X 1 (1 + j))))) h := by
  refine Ct.of B.1.1 B.1.2 (by decide) [some (.ref x), some (.int visit)] (Nat.le_of_ble_eq_true rfl) rfl ?_
  intro E hE C R
  subst hE
  have SC_ := B.2 _ C.r
  have ht_ := J.lt
  have hs_ := J.ls
  have hm_ := J.lm
  have he_ := J.le
  have hu_ := J.lu
  have hl_ := J.ll
  have hv_ := J.lv
  obtain ⟨bu, mk, en, hi, sn, so, b7, b8, hs, fsn, fso, Rx, Rb, RK, RE, RH, RS, RA, RO⟩ := id R_
  obtain ⟨sl, wl, ma, te, fm, ft, ss, wq, Km, Kma, Kfm, Kte, Kft, Ksl, Kss, Kwl, Kws⟩ := id RK
  obtain ⟨vl, el, vs, es, Ee, E0, Evl, Eel, Evs, Ees⟩ := id RE
  refine g_aload_n C dX1_visitScale_0 rfl rfl ?_
  refine g_iload_n C dX1_visitScale_1 rfl rfl ?_
  refine h_callV (rest := []) 1 C (cc_isVisit B J R_ _) (lw_V q1156 q1158 qs21 q86 q1159) ⟨⟨by decide, by decide, by decide +kernel⟩, ⟨Nat.le_of_ble_eq_true rfl, Nat.le_of_ble_eq_true rfl⟩, ⟨Nat.le_of_ble_eq_true rfl, Nat.le_of_ble_eq_true rfl⟩⟩ (fun _ h => h) (HP.recv C Rx k_X1) rfl rfl (Nat.le_of_ble_eq_true rfl) dX1_visitScale_2 (h_F ?_)
  refine g_if_eq 28 C dX1_visitScale_5 rfl (fun c5 => ?_) (fun c5 => ?_)
  · refine g_iconst (v := (-1)) C dX1_visitScale_28 rfl ?_
    exact g_iret C R (Nat.le_of_ble_eq_true rfl) (Nat.le_of_ble_eq_true rfl) dX1_visitScale_29 (fun H hH => ⟨by rw [atI_out c5], hH⟩)
  · obtain ⟨j_visit, hj_visit, rfl⟩ := ixI_in (by omega) c5
    refine g_aload_n C dX1_visitScale_8 rfl rfl ?_
    refine c_get 0 4 k_X1 in_X1 (by decide) (fun _ h => h) q540 Rx rfl C dX1_visitScale_9 ?_
    refine c_getN 2 0 k_X3 in_X3 (by decide) (fun _ h => h) q522 SC_ Ee rfl C dX1_visitScale_12 ?_
    refine g_iload_n C dX1_visitScale_15 rfl rfl ?_
    refine h_callV (rest := []) 1 C (cc_get B Evl j_visit (by omega)) (lw_V q940 q941 q942 q90 q943) ⟨⟨by decide, by decide, by decide +kernel⟩, ⟨Nat.le_of_ble_eq_true rfl, Nat.le_of_ble_eq_true rfl⟩, ⟨Nat.le_of_ble_eq_true rfl, Nat.le_of_ble_eq_true rfl⟩⟩ (fun _ h => h) (Evl.recv C) rfl rfl (Nat.le_of_ble_eq_true rfl) dX1_visitScale_16 (h_F ?_)
    obtain ⟨vm1, ve1, fvm1, fve1, Vo1, Vm1, Ve1, Vt1⟩ := Evs j_visit (by omega)
    refine c_castS Vo1 k_X15 q1064 C dX1_visitScale_19 ?_
    refine c_getN 13 0 k_X15 in_X15 (by decide) (fun _ h => h) q1103 SC_ Vo1 rfl C dX1_visitScale_22 ?_
    refine g_goto 29 C dX1_visitScale_25 rfl ?_
    exact g_iret C R (Nat.le_of_ble_eq_true rfl) (Nat.le_of_ble_eq_true rfl) dX1_visitScale_29 (fun H hH => ⟨by rw [atI_in hj_visit (by omega)], hH⟩)
set_option maxRecDepth 100000 in
theorem cc_testCount {l : Launch} {Γ : Gm} {A : Nat → Prop} {ρ : State → Prop} (B : Bc l Γ A ρ) {h : Hp} {F : Nat → Int32} {X : Nat → Nat → Int32} {nt ns nm ne nv nu ln : Nat} (J : Iv F X nt ns nm ne nv nu ln) {x : Nat} (R_ : RepC Γ F X nt ns nm ne nv nu h x) (visit : Int32) : CtF l Γ A ρ yX1_testCount cX1_testCount 2 (some .int) { frames := 3, cells := 0, slots := 0, locals := 64 } [.ref x, .int visit] h (some (.int (atI visit nv (fun j => X 1 (151 + j))))) h := by
  refine Ct.of B.1.1 B.1.2 (by decide) [some (.ref x), some (.int visit)] (Nat.le_of_ble_eq_true rfl) rfl ?_
  intro E hE C R
  subst hE
  have SC_ := B.2 _ C.r
  have ht_ := J.lt
  have hs_ := J.ls
  have hm_ := J.lm
  have he_ := J.le
  have hu_ := J.lu
  have hl_ := J.ll
  have hv_ := J.lv
  obtain ⟨bu, mk, en, hi, sn, so, b7, b8, hs, fsn, fso, Rx, Rb, RK, RE, RH, RS, RA, RO⟩ := id R_
  obtain ⟨sl, wl, ma, te, fm, ft, ss, wq, Km, Kma, Kfm, Kte, Kft, Ksl, Kss, Kwl, Kws⟩ := id RK
  obtain ⟨vl, el, vs, es, Ee, E0, Evl, Eel, Evs, Ees⟩ := id RE
  refine g_aload_n C dX1_testCount_0 rfl rfl ?_
  refine g_iload_n C dX1_testCount_1 rfl rfl ?_
  refine h_callV (rest := []) 1 C (cc_isVisit B J R_ _) (lw_V q1156 q1158 qs21 q86 q1159) ⟨⟨by decide, by decide, by decide +kernel⟩, ⟨Nat.le_of_ble_eq_true rfl, Nat.le_of_ble_eq_true rfl⟩, ⟨Nat.le_of_ble_eq_true rfl, Nat.le_of_ble_eq_true rfl⟩⟩ (fun _ h => h) (HP.recv C Rx k_X1) rfl rfl (Nat.le_of_ble_eq_true rfl) dX1_testCount_2 (h_F ?_)
  refine g_if_eq 28 C dX1_testCount_5 rfl (fun c5 => ?_) (fun c5 => ?_)
  · refine g_iconst (v := (-1)) C dX1_testCount_28 rfl ?_
    exact g_iret C R (Nat.le_of_ble_eq_true rfl) (Nat.le_of_ble_eq_true rfl) dX1_testCount_29 (fun H hH => ⟨by rw [atI_out c5], hH⟩)
  · obtain ⟨j_visit, hj_visit, rfl⟩ := ixI_in (by omega) c5
    refine g_aload_n C dX1_testCount_8 rfl rfl ?_
    refine c_get 0 4 k_X1 in_X1 (by decide) (fun _ h => h) q540 Rx rfl C dX1_testCount_9 ?_
    refine c_getN 2 0 k_X3 in_X3 (by decide) (fun _ h => h) q522 SC_ Ee rfl C dX1_testCount_12 ?_
    refine g_iload_n C dX1_testCount_15 rfl rfl ?_
    refine h_callV (rest := []) 1 C (cc_get B Evl j_visit (by omega)) (lw_V q940 q941 q942 q90 q943) ⟨⟨by decide, by decide, by decide +kernel⟩, ⟨Nat.le_of_ble_eq_true rfl, Nat.le_of_ble_eq_true rfl⟩, ⟨Nat.le_of_ble_eq_true rfl, Nat.le_of_ble_eq_true rfl⟩⟩ (fun _ h => h) (Evl.recv C) rfl rfl (Nat.le_of_ble_eq_true rfl) dX1_testCount_16 (h_F ?_)
    obtain ⟨vm1, ve1, fvm1, fve1, Vo1, Vm1, Ve1, Vt1⟩ := Evs j_visit (by omega)
    refine c_castS Vo1 k_X15 q1064 C dX1_testCount_19 ?_
    refine c_getN 13 5 k_X15 in_X15 (by decide) (fun _ h => h) q1113 SC_ Vo1 rfl C dX1_testCount_22 ?_
    refine g_goto 29 C dX1_testCount_25 rfl ?_
    exact g_iret C R (Nat.le_of_ble_eq_true rfl) (Nat.le_of_ble_eq_true rfl) dX1_testCount_29 (fun H hH => ⟨by rw [atI_in hj_visit (by omega)], hH⟩)
set_option maxRecDepth 100000 in
theorem cc_weightCount {l : Launch} {Γ : Gm} {A : Nat → Prop} {ρ : State → Prop} (B : Bc l Γ A ρ) {h : Hp} {F : Nat → Int32} {X : Nat → Nat → Int32} {nt ns nm ne nv nu ln : Nat} (J : Iv F X nt ns nm ne nv nu ln) {x : Nat} (R_ : RepC Γ F X nt ns nm ne nv nu h x) (set : Int32) : CtF l Γ A ρ yX1_weightCount cX1_weightCount 2 (some .int) { frames := 3, cells := 0, slots := 0, locals := 64 } [.ref x, .int set] h (some (.int (atI set ne (X 11)))) h := by
  refine Ct.of B.1.1 B.1.2 (by decide) [some (.ref x), some (.int set)] (Nat.le_of_ble_eq_true rfl) rfl ?_
  intro E hE C R
  subst hE
  have SC_ := B.2 _ C.r
  have ht_ := J.lt
  have hs_ := J.ls
  have hm_ := J.lm
  have he_ := J.le
  have hu_ := J.lu
  have hl_ := J.ll
  have hv_ := J.lv
  obtain ⟨bu, mk, en, hi, sn, so, b7, b8, hs, fsn, fso, Rx, Rb, RK, RE, RH, RS, RA, RO⟩ := id R_
  obtain ⟨sl, wl, ma, te, fm, ft, ss, wq, Km, Kma, Kfm, Kte, Kft, Ksl, Kss, Kwl, Kws⟩ := id RK
  obtain ⟨vl, el, vs, es, Ee, E0, Evl, Eel, Evs, Ees⟩ := id RE
  refine g_aload_n C dX1_weightCount_0 rfl rfl ?_
  refine g_iload_n C dX1_weightCount_1 rfl rfl ?_
  refine h_callV (rest := []) 1 C (cc_isSet B J R_ _) (lw_V q1322 q1324 qs36 q86 q1325) ⟨⟨by decide, by decide, by decide +kernel⟩, ⟨Nat.le_of_ble_eq_true rfl, Nat.le_of_ble_eq_true rfl⟩, ⟨Nat.le_of_ble_eq_true rfl, Nat.le_of_ble_eq_true rfl⟩⟩ (fun _ h => h) (HP.recv C Rx k_X1) rfl rfl (Nat.le_of_ble_eq_true rfl) dX1_weightCount_2 (h_F ?_)
  refine g_if_eq 28 C dX1_weightCount_5 rfl (fun c5 => ?_) (fun c5 => ?_)
  · refine g_iconst (v := (-1)) C dX1_weightCount_28 rfl ?_
    exact g_iret C R (Nat.le_of_ble_eq_true rfl) (Nat.le_of_ble_eq_true rfl) dX1_weightCount_29 (fun H hH => ⟨by rw [atI_out c5], hH⟩)
  · obtain ⟨j_set, hj_set, rfl⟩ := ixI_in (by omega) c5
    refine g_aload_n C dX1_weightCount_8 rfl rfl ?_
    refine c_get 0 3 k_X1 in_X1 (by decide) (fun _ h => h) q539 Rx rfl C dX1_weightCount_9 ?_
    refine c_getN 1 1 k_X2 in_X2 (by decide) (fun _ h => h) q486 SC_ Km rfl C dX1_weightCount_12 ?_
    refine g_iload_n C dX1_weightCount_15 rfl rfl ?_
    refine h_callV (rest := []) 1 C (cc_get B Kwl j_set (by omega)) (lw_V q940 q941 q942 q90 q943) ⟨⟨by decide, by decide, by decide +kernel⟩, ⟨Nat.le_of_ble_eq_true rfl, Nat.le_of_ble_eq_true rfl⟩, ⟨Nat.le_of_ble_eq_true rfl, Nat.le_of_ble_eq_true rfl⟩⟩ (fun _ h => h) (Kwl.recv C) rfl rfl (Nat.le_of_ble_eq_true rfl) dX1_weightCount_16 (h_F ?_)
    refine c_castS (Kws j_set (by omega)) k_X13 q952 C dX1_weightCount_19 ?_
    refine c_getN 11 0 k_X13 in_X13 (by decide) (fun _ h => h) q914 SC_ (Kws j_set (by omega)) rfl C dX1_weightCount_22 ?_
    refine g_goto 29 C dX1_weightCount_25 rfl ?_
    exact g_iret C R (Nat.le_of_ble_eq_true rfl) (Nat.le_of_ble_eq_true rfl) dX1_weightCount_29 (fun H hH => ⟨by rw [atI_in hj_set (by omega)], hH⟩)
set_option maxRecDepth 100000 in
theorem cc_weighingCount {l : Launch} {Γ : Gm} {A : Nat → Prop} {ρ : State → Prop} (B : Bc l Γ A ρ) {h : Hp} {F : Nat → Int32} {X : Nat → Nat → Int32} {nt ns nm ne nv nu ln : Nat} (J : Iv F X nt ns nm ne nv nu ln) {x : Nat} (R_ : RepC Γ F X nt ns nm ne nv nu h x) (set : Int32) : CtF l Γ A ρ yX1_weighingCount cX1_weighingCount 2 (some .int) { frames := 3, cells := 0, slots := 0, locals := 64 } [.ref x, .int set] h (some (.int (atI set ne (fun j => X 1 (673 + j))))) h := by
  refine Ct.of B.1.1 B.1.2 (by decide) [some (.ref x), some (.int set)] (Nat.le_of_ble_eq_true rfl) rfl ?_
  intro E hE C R
  subst hE
  have SC_ := B.2 _ C.r
  have ht_ := J.lt
  have hs_ := J.ls
  have hm_ := J.lm
  have he_ := J.le
  have hu_ := J.lu
  have hl_ := J.ll
  have hv_ := J.lv
  obtain ⟨bu, mk, en, hi, sn, so, b7, b8, hs, fsn, fso, Rx, Rb, RK, RE, RH, RS, RA, RO⟩ := id R_
  obtain ⟨sl, wl, ma, te, fm, ft, ss, wq, Km, Kma, Kfm, Kte, Kft, Ksl, Kss, Kwl, Kws⟩ := id RK
  obtain ⟨vl, el, vs, es, Ee, E0, Evl, Eel, Evs, Ees⟩ := id RE
  refine g_aload_n C dX1_weighingCount_0 rfl rfl ?_
  refine g_iload_n C dX1_weighingCount_1 rfl rfl ?_
  refine h_callV (rest := []) 1 C (cc_isSet B J R_ _) (lw_V q1322 q1324 qs36 q86 q1325) ⟨⟨by decide, by decide, by decide +kernel⟩, ⟨Nat.le_of_ble_eq_true rfl, Nat.le_of_ble_eq_true rfl⟩, ⟨Nat.le_of_ble_eq_true rfl, Nat.le_of_ble_eq_true rfl⟩⟩ (fun _ h => h) (HP.recv C Rx k_X1) rfl rfl (Nat.le_of_ble_eq_true rfl) dX1_weighingCount_2 (h_F ?_)
  refine g_if_eq 28 C dX1_weighingCount_5 rfl (fun c5 => ?_) (fun c5 => ?_)
  · refine g_iconst (v := (-1)) C dX1_weighingCount_28 rfl ?_
    exact g_iret C R (Nat.le_of_ble_eq_true rfl) (Nat.le_of_ble_eq_true rfl) dX1_weighingCount_29 (fun H hH => ⟨by rw [atI_out c5], hH⟩)
  · obtain ⟨j_set, hj_set, rfl⟩ := ixI_in (by omega) c5
    refine g_aload_n C dX1_weighingCount_8 rfl rfl ?_
    refine c_get 0 4 k_X1 in_X1 (by decide) (fun _ h => h) q540 Rx rfl C dX1_weighingCount_9 ?_
    refine c_getN 2 1 k_X3 in_X3 (by decide) (fun _ h => h) q524 SC_ Ee rfl C dX1_weighingCount_12 ?_
    refine g_iload_n C dX1_weighingCount_15 rfl rfl ?_
    refine h_callV (rest := []) 1 C (cc_get B Eel j_set (by omega)) (lw_V q940 q941 q942 q90 q943) ⟨⟨by decide, by decide, by decide +kernel⟩, ⟨Nat.le_of_ble_eq_true rfl, Nat.le_of_ble_eq_true rfl⟩, ⟨Nat.le_of_ble_eq_true rfl, Nat.le_of_ble_eq_true rfl⟩⟩ (fun _ h => h) (Eel.recv C) rfl rfl (Nat.le_of_ble_eq_true rfl) dX1_weighingCount_16 (h_F ?_)
    refine c_castS (Ees j_set (by omega)) k_X14 q956 C dX1_weighingCount_19 ?_
    refine c_getN 12 2 k_X14 in_X14 (by decide) (fun _ h => h) q969 SC_ (Ees j_set (by omega)) rfl C dX1_weighingCount_22 ?_
    refine g_goto 29 C dX1_weighingCount_25 rfl ?_
    exact g_iret C R (Nat.le_of_ble_eq_true rfl) (Nat.le_of_ble_eq_true rfl) dX1_weighingCount_29 (fun H hH => ⟨by rw [atI_in hj_set (by omega)], hH⟩)
set_option maxRecDepth 100000 in
theorem cc_heavySuspects {l : Launch} {Γ : Gm} {A : Nat → Prop} {ρ : State → Prop} (B : Bc l Γ A ρ) {h : Hp} {F : Nat → Int32} {X : Nat → Nat → Int32} {nt ns nm ne nv nu ln : Nat} (J : Iv F X nt ns nm ne nv nu ln) {x : Nat} (R_ : RepC Γ F X nt ns nm ne nv nu h x) (set : Int32) : CtF l Γ A ρ yX1_heavySuspects cX1_heavySuspects 2 (some .int) { frames := 3, cells := 0, slots := 0, locals := 64 } [.ref x, .int set] h (some (.int (atI set ne (fun j => X 1 (661 + j))))) h := by
  refine Ct.of B.1.1 B.1.2 (by decide) [some (.ref x), some (.int set)] (Nat.le_of_ble_eq_true rfl) rfl ?_
  intro E hE C R
  subst hE
  have SC_ := B.2 _ C.r
  have ht_ := J.lt
  have hs_ := J.ls
  have hm_ := J.lm
  have he_ := J.le
  have hu_ := J.lu
  have hl_ := J.ll
  have hv_ := J.lv
  obtain ⟨bu, mk, en, hi, sn, so, b7, b8, hs, fsn, fso, Rx, Rb, RK, RE, RH, RS, RA, RO⟩ := id R_
  obtain ⟨sl, wl, ma, te, fm, ft, ss, wq, Km, Kma, Kfm, Kte, Kft, Ksl, Kss, Kwl, Kws⟩ := id RK
  obtain ⟨vl, el, vs, es, Ee, E0, Evl, Eel, Evs, Ees⟩ := id RE
  refine g_aload_n C dX1_heavySuspects_0 rfl rfl ?_
  refine g_iload_n C dX1_heavySuspects_1 rfl rfl ?_
  refine h_callV (rest := []) 1 C (cc_isSet B J R_ _) (lw_V q1322 q1324 qs36 q86 q1325) ⟨⟨by decide, by decide, by decide +kernel⟩, ⟨Nat.le_of_ble_eq_true rfl, Nat.le_of_ble_eq_true rfl⟩, ⟨Nat.le_of_ble_eq_true rfl, Nat.le_of_ble_eq_true rfl⟩⟩ (fun _ h => h) (HP.recv C Rx k_X1) rfl rfl (Nat.le_of_ble_eq_true rfl) dX1_heavySuspects_2 (h_F ?_)
  refine g_if_eq 28 C dX1_heavySuspects_5 rfl (fun c5 => ?_) (fun c5 => ?_)
  · refine g_iconst (v := (-1)) C dX1_heavySuspects_28 rfl ?_
    exact g_iret C R (Nat.le_of_ble_eq_true rfl) (Nat.le_of_ble_eq_true rfl) dX1_heavySuspects_29 (fun H hH => ⟨by rw [atI_out c5], hH⟩)
  · obtain ⟨j_set, hj_set, rfl⟩ := ixI_in (by omega) c5
    refine g_aload_n C dX1_heavySuspects_8 rfl rfl ?_
    refine c_get 0 4 k_X1 in_X1 (by decide) (fun _ h => h) q540 Rx rfl C dX1_heavySuspects_9 ?_
    refine c_getN 2 1 k_X3 in_X3 (by decide) (fun _ h => h) q524 SC_ Ee rfl C dX1_heavySuspects_12 ?_
    refine g_iload_n C dX1_heavySuspects_15 rfl rfl ?_
    refine h_callV (rest := []) 1 C (cc_get B Eel j_set (by omega)) (lw_V q940 q941 q942 q90 q943) ⟨⟨by decide, by decide, by decide +kernel⟩, ⟨Nat.le_of_ble_eq_true rfl, Nat.le_of_ble_eq_true rfl⟩, ⟨Nat.le_of_ble_eq_true rfl, Nat.le_of_ble_eq_true rfl⟩⟩ (fun _ h => h) (Eel.recv C) rfl rfl (Nat.le_of_ble_eq_true rfl) dX1_heavySuspects_16 (h_F ?_)
    refine c_castS (Ees j_set (by omega)) k_X14 q956 C dX1_heavySuspects_19 ?_
    refine c_getN 12 0 k_X14 in_X14 (by decide) (fun _ h => h) q964 SC_ (Ees j_set (by omega)) rfl C dX1_heavySuspects_22 ?_
    refine g_goto 29 C dX1_heavySuspects_25 rfl ?_
    exact g_iret C R (Nat.le_of_ble_eq_true rfl) (Nat.le_of_ble_eq_true rfl) dX1_heavySuspects_29 (fun H hH => ⟨by rw [atI_in hj_set (by omega)], hH⟩)
set_option maxRecDepth 100000 in
theorem cc_lightSuspects {l : Launch} {Γ : Gm} {A : Nat → Prop} {ρ : State → Prop} (B : Bc l Γ A ρ) {h : Hp} {F : Nat → Int32} {X : Nat → Nat → Int32} {nt ns nm ne nv nu ln : Nat} (J : Iv F X nt ns nm ne nv nu ln) {x : Nat} (R_ : RepC Γ F X nt ns nm ne nv nu h x) (set : Int32) : CtF l Γ A ρ yX1_lightSuspects cX1_lightSuspects 2 (some .int) { frames := 3, cells := 0, slots := 0, locals := 64 } [.ref x, .int set] h (some (.int (atI set ne (fun j => X 1 (665 + j))))) h := by
  refine Ct.of B.1.1 B.1.2 (by decide) [some (.ref x), some (.int set)] (Nat.le_of_ble_eq_true rfl) rfl ?_
  intro E hE C R
  subst hE
  have SC_ := B.2 _ C.r
  have ht_ := J.lt
  have hs_ := J.ls
  have hm_ := J.lm
  have he_ := J.le
  have hu_ := J.lu
  have hl_ := J.ll
  have hv_ := J.lv
  obtain ⟨bu, mk, en, hi, sn, so, b7, b8, hs, fsn, fso, Rx, Rb, RK, RE, RH, RS, RA, RO⟩ := id R_
  obtain ⟨sl, wl, ma, te, fm, ft, ss, wq, Km, Kma, Kfm, Kte, Kft, Ksl, Kss, Kwl, Kws⟩ := id RK
  obtain ⟨vl, el, vs, es, Ee, E0, Evl, Eel, Evs, Ees⟩ := id RE
  refine g_aload_n C dX1_lightSuspects_0 rfl rfl ?_
  refine g_iload_n C dX1_lightSuspects_1 rfl rfl ?_
  refine h_callV (rest := []) 1 C (cc_isSet B J R_ _) (lw_V q1322 q1324 qs36 q86 q1325) ⟨⟨by decide, by decide, by decide +kernel⟩, ⟨Nat.le_of_ble_eq_true rfl, Nat.le_of_ble_eq_true rfl⟩, ⟨Nat.le_of_ble_eq_true rfl, Nat.le_of_ble_eq_true rfl⟩⟩ (fun _ h => h) (HP.recv C Rx k_X1) rfl rfl (Nat.le_of_ble_eq_true rfl) dX1_lightSuspects_2 (h_F ?_)
  refine g_if_eq 28 C dX1_lightSuspects_5 rfl (fun c5 => ?_) (fun c5 => ?_)
  · refine g_iconst (v := (-1)) C dX1_lightSuspects_28 rfl ?_
    exact g_iret C R (Nat.le_of_ble_eq_true rfl) (Nat.le_of_ble_eq_true rfl) dX1_lightSuspects_29 (fun H hH => ⟨by rw [atI_out c5], hH⟩)
  · obtain ⟨j_set, hj_set, rfl⟩ := ixI_in (by omega) c5
    refine g_aload_n C dX1_lightSuspects_8 rfl rfl ?_
    refine c_get 0 4 k_X1 in_X1 (by decide) (fun _ h => h) q540 Rx rfl C dX1_lightSuspects_9 ?_
    refine c_getN 2 1 k_X3 in_X3 (by decide) (fun _ h => h) q524 SC_ Ee rfl C dX1_lightSuspects_12 ?_
    refine g_iload_n C dX1_lightSuspects_15 rfl rfl ?_
    refine h_callV (rest := []) 1 C (cc_get B Eel j_set (by omega)) (lw_V q940 q941 q942 q90 q943) ⟨⟨by decide, by decide, by decide +kernel⟩, ⟨Nat.le_of_ble_eq_true rfl, Nat.le_of_ble_eq_true rfl⟩, ⟨Nat.le_of_ble_eq_true rfl, Nat.le_of_ble_eq_true rfl⟩⟩ (fun _ h => h) (Eel.recv C) rfl rfl (Nat.le_of_ble_eq_true rfl) dX1_lightSuspects_16 (h_F ?_)
    refine c_castS (Ees j_set (by omega)) k_X14 q956 C dX1_lightSuspects_19 ?_
    refine c_getN 12 1 k_X14 in_X14 (by decide) (fun _ h => h) q967 SC_ (Ees j_set (by omega)) rfl C dX1_lightSuspects_22 ?_
    refine g_goto 29 C dX1_lightSuspects_25 rfl ?_
    exact g_iret C R (Nat.le_of_ble_eq_true rfl) (Nat.le_of_ble_eq_true rfl) dX1_lightSuspects_29 (fun H hH => ⟨by rw [atI_in hj_set (by omega)], hH⟩)
theorem add1_sub1 (a : Int32) : a + 1 - 1 = a := by apply Int32.toBitVec_inj.mp; simp
set_option maxRecDepth 100000 in
theorem cc_isInService {l : Launch} {Γ : Gm} {A : Nat → Prop} {ρ : State → Prop} (B : Bc l Γ A ρ) {h : Hp} {F : Nat → Int32} {X : Nat → Nat → Int32} {nt ns nm ne nv nu ln : Nat} (J : Iv F X nt ns nm ne nv nu ln) {x : Nat} (R_ : RepC Γ F X nt ns nm ne nv nu h x) (visit : Int32) : CtF l Γ A ρ yX1_isInService cX1_isInService 2 (some .int) { frames := 3, cells := 0, slots := 0, locals := 64 } [.ref x, .int visit] h (some (.int (atI visit nv (fun j => X 1 (121 + j))))) h := by
  refine Ct.of B.1.1 B.1.2 (by decide) [some (.ref x), some (.int visit)] (Nat.le_of_ble_eq_true rfl) rfl ?_
  intro E hE C R
  subst hE
  have SC_ := B.2 _ C.r
  have ht_ := J.lt
  have hs_ := J.ls
  have hm_ := J.lm
  have he_ := J.le
  have hu_ := J.lu
  have hl_ := J.ll
  have hv_ := J.lv
  obtain ⟨bu, mk, en, hi, sn, so, b7, b8, hs, fsn, fso, Rx, Rb, RK, RE, RH, RS, RA, RO⟩ := id R_
  obtain ⟨sl, wl, ma, te, fm, ft, ss, wq, Km, Kma, Kfm, Kte, Kft, Ksl, Kss, Kwl, Kws⟩ := id RK
  obtain ⟨vl, el, vs, es, Ee, E0, Evl, Eel, Evs, Ees⟩ := id RE
  refine g_aload_n C dX1_isInService_0 rfl rfl ?_
  refine g_iload_n C dX1_isInService_1 rfl rfl ?_
  refine h_callV (rest := []) 1 C (cc_isVisit B J R_ _) (lw_V q1156 q1158 qs21 q86 q1159) ⟨⟨by decide, by decide, by decide +kernel⟩, ⟨Nat.le_of_ble_eq_true rfl, Nat.le_of_ble_eq_true rfl⟩, ⟨Nat.le_of_ble_eq_true rfl, Nat.le_of_ble_eq_true rfl⟩⟩ (fun _ h => h) (HP.recv C Rx k_X1) rfl rfl (Nat.le_of_ble_eq_true rfl) dX1_isInService_2 (h_F ?_)
  refine g_if_eq 30 C dX1_isInService_5 rfl (fun c5 => ?_) (fun c5 => ?_)
  · refine g_iconst (v := (-1)) C dX1_isInService_30 rfl ?_
    exact g_iret C R (Nat.le_of_ble_eq_true rfl) (Nat.le_of_ble_eq_true rfl) dX1_isInService_31 (fun H hH => ⟨by rw [atI_out c5], hH⟩)
  · obtain ⟨j_visit, hj_visit, rfl⟩ := ixI_in (by omega) c5
    refine g_aload_n C dX1_isInService_8 rfl rfl ?_
    refine c_get 0 4 k_X1 in_X1 (by decide) (fun _ h => h) q540 Rx rfl C dX1_isInService_9 ?_
    refine c_getN 2 0 k_X3 in_X3 (by decide) (fun _ h => h) q522 SC_ Ee rfl C dX1_isInService_12 ?_
    refine g_iload_n C dX1_isInService_15 rfl rfl ?_
    refine h_callV (rest := []) 1 C (cc_get B Evl j_visit (by omega)) (lw_V q940 q941 q942 q90 q943) ⟨⟨by decide, by decide, by decide +kernel⟩, ⟨Nat.le_of_ble_eq_true rfl, Nat.le_of_ble_eq_true rfl⟩, ⟨Nat.le_of_ble_eq_true rfl, Nat.le_of_ble_eq_true rfl⟩⟩ (fun _ h => h) (Evl.recv C) rfl rfl (Nat.le_of_ble_eq_true rfl) dX1_isInService_16 (h_F ?_)
    obtain ⟨vm1, ve1, fvm1, fve1, Vo1, Vm1, Ve1, Vt1⟩ := Evs j_visit (by omega)
    refine c_castS Vo1 k_X15 q1064 C dX1_isInService_19 ?_
    refine c_getN 13 2 k_X15 in_X15 (by decide) (fun _ h => h) q1107 SC_ Vo1 rfl C dX1_isInService_22 ?_
    refine g_iconst (v := 1) C dX1_isInService_25 rfl ?_
    refine g_isub C dX1_isInService_26 ?_
    refine g_goto 31 C dX1_isInService_27 rfl ?_
    exact g_iret C R (Nat.le_of_ble_eq_true rfl) (Nat.le_of_ble_eq_true rfl) dX1_isInService_31 (fun H hH => ⟨by rw [atI_in hj_visit (by omega)]; exact congrArg (fun z => some (Value.int z)) (add1_sub1 _), hH⟩)
set_option maxRecDepth 100000 in
theorem cc_massValue {l : Launch} {Γ : Gm} {A : Nat → Prop} {ρ : State → Prop} (B : Bc l Γ A ρ) {h : Hp} {F : Nat → Int32} {X : Nat → Nat → Int32} {nt ns nm ne nv nu ln : Nat} (J : Iv F X nt ns nm ne nv nu ln) {x : Nat} (R_ : RepC Γ F X nt ns nm ne nv nu h x) (m : Int32) : CtF l Γ A ρ yX1_massValue cX1_massValue 2 (some .int) { frames := 1, cells := 0, slots := 0, locals := 25 } [.ref x, .int m] h (some (.int (atI m nm (X 9)))) h := by
  refine Ct.of B.1.1 B.1.2 (by decide) [some (.ref x), some (.int m)] (Nat.le_of_ble_eq_true rfl) rfl ?_
  intro E hE C R
  subst hE
  have SC_ := B.2 _ C.r
  have ht_ := J.lt
  have hs_ := J.ls
  have hm_ := J.lm
  have he_ := J.le
  have hu_ := J.lu
  have hl_ := J.ll
  have hv_ := J.lv
  obtain ⟨bu, mk, en, hi, sn, so, b7, b8, hs, fsn, fso, Rx, Rb, RK, RE, RH, RS, RA, RO⟩ := id R_
  obtain ⟨sl, wl, ma, te, fm, ft, ss, wq, Km, Kma, Kfm, Kte, Kft, Ksl, Kss, Kwl, Kws⟩ := id RK
  obtain ⟨vl, el, vs, es, Ee, E0, Evl, Eel, Evs, Ees⟩ := id RE
  refine g_iload_n C dX1_massValue_0 rfl rfl ?_
  refine g_i2l C dX1_massValue_1 ?_
  refine g_lconst (v := 0) C dX1_massValue_2 rfl ?_
  refine g_aload_n C dX1_massValue_3 rfl rfl ?_
  refine c_get 0 3 k_X1 in_X1 (by decide) (fun _ h => h) q539 Rx rfl C dX1_massValue_4 ?_
  refine c_getN 1 5 k_X2 in_X2 (by decide) (fun _ h => h) q498 SC_ Km rfl C dX1_massValue_7 ?_
  refine g_iconst (v := 1) C dX1_massValue_10 rfl ?_
  refine g_isub C dX1_massValue_11 ?_
  refine g_i2l C dX1_massValue_12 ?_
  refine h_callS (rest := []) 3 C (cc_inRange B.1 _ _ _ _) (lw_S q580 q581 q86 q582) ⟨⟨by decide, by decide, by decide +kernel⟩, ⟨Nat.le_of_ble_eq_true rfl, Nat.le_of_ble_eq_true rfl⟩, ⟨Nat.le_of_ble_eq_true rfl, Nat.le_of_ble_eq_true rfl⟩⟩ (fun _ h => h) rfl rfl (Nat.le_of_ble_eq_true rfl) dX1_massValue_13 (h_P ?_)
  refine g_topi (y := ixI m nm) (wi_ix (by omega)) ?_
  refine g_if_eq 31 C dX1_massValue_16 rfl (fun c16 => ?_) (fun c16 => ?_)
  · refine g_iconst (v := (-1)) C dX1_massValue_31 rfl ?_
    exact g_iret C R (Nat.le_of_ble_eq_true rfl) (Nat.le_of_ble_eq_true rfl) dX1_massValue_32 (fun H hH => ⟨by rw [atI_out c16], hH⟩)
  · obtain ⟨j_m, hj_m, rfl⟩ := ixI_in (by omega) c16
    refine g_aload_n C dX1_massValue_19 rfl rfl ?_
    refine c_get 0 3 k_X1 in_X1 (by decide) (fun _ h => h) q539 Rx rfl C dX1_massValue_20 ?_
    refine c_getN 1 2 k_X2 in_X2 (by decide) (fun _ h => h) q490 SC_ Km rfl C dX1_massValue_23 ?_
    refine g_iload_n C dX1_massValue_26 rfl rfl ?_
    refine c_iald (i := j_m) Kma (by omega) (by omega) C dX1_massValue_27 ?_
    refine g_topi (y := X 9 j_m) (Kfm j_m (by omega)) ?_
    refine g_goto 32 C dX1_massValue_28 rfl ?_
    exact g_iret C R (Nat.le_of_ble_eq_true rfl) (Nat.le_of_ble_eq_true rfl) dX1_massValue_32 (fun H hH => ⟨by rw [atI_in hj_m (by omega)], hH⟩)
theorem vVd_c {ns nm : Nat} {r : Nat → Int32} {k : Nat} (V : ViB ns nm r k) : (vVd r k = -2) = (r (61 + k) = 0) := by
  obtain ⟨-, -, h1, ⟨q, hq, e⟩, -, -⟩ := V
  unfold vVd
  rcases h1 with h | h
  · rw [if_pos h]; simp [h]
  · rw [if_neg (by rw [h]; decide), h]
    refine propext ⟨fun z => ?_, fun z => absurd z (by decide)⟩
    rw [e] at z
    have := congrArg Int32.toInt z
    rw [nI_toInt (by omega)] at this
    have h2 : (-2 : Int32).toInt = -2 := by decide
    omega
theorem ViB.c01 {ns nm : Nat} {r : Nat → Int32} {k : Nat} (V : ViB ns nm r k) : r (61 + k) = 0 ∨ r (61 + k) = 1 := V.2.2.1
set_option maxRecDepth 100000 in
theorem cc_visClosed {l : Launch} {Γ : Gm} {A : Nat → Prop} {ρ : State → Prop} (B : Bc l Γ A ρ) {h : Hp} {a : Nat} {t : Tg} {s1 s2 s3 s4 : Int32} {ma er : Nat} {vd : Int32} (Vo : h a = some (t, .inr (13, [.int s1, .int s2, .int s3, .ref ma, .ref er, .int s4, .int vd]))) : CtF l Γ A ρ yX15_isClosed cX15_isClosed 1 (some .boolean) { frames := 0, cells := 0, slots := 0, locals := 0 } [.ref a] h (some (.int (if vd = -2 then 0 else 1))) h := by
  refine Ct.of B.1.1 B.1.2 (by decide) [some (.ref a)] (Nat.le_of_ble_eq_true rfl) rfl ?_
  intro E hE C R
  subst hE
  have SC_ := B.2 _ C.r
  refine g_aload_n C dX15_isClosed_0 rfl rfl ?_
  refine c_get 13 6 k_X15 in_X15 (by decide) (fun _ h => h) q1114 Vo rfl C dX15_isClosed_1 ?_
  refine g_bipush (v := (-2)) C dX15_isClosed_4 rfl ?_
  refine g_icmp_eq 13 C dX15_isClosed_6 rfl (fun c6 => ?_) (fun c6 => ?_)
  · refine g_iconst (v := 0) C dX15_isClosed_13 rfl ?_
    exact g_zret C R (Nat.le_of_ble_eq_true rfl) (Nat.le_of_ble_eq_true rfl) dX15_isClosed_14 rfl (fun H hH => ⟨by rw [if_pos c6], hH⟩)
  · refine g_iconst (v := 1) C dX15_isClosed_9 rfl ?_
    refine g_goto 14 C dX15_isClosed_10 rfl ?_
    exact g_zret C R (Nat.le_of_ble_eq_true rfl) (Nat.le_of_ble_eq_true rfl) dX15_isClosed_14 rfl (fun H hH => ⟨by rw [if_neg c6], hH⟩)
theorem clI_eq {ns nm : Nat} {r : Nat → Int32} {k : Nat} (V : ViB ns nm r k) : (if vVd r k = -2 then (0 : Int32) else 1) = r (61 + k) := by
  have e := vVd_c V
  rcases V.c01 with h | h
  · rw [if_pos (e ▸ h), h]
  · rw [if_neg (fun z => by rw [e, h] at z; exact absurd z (by decide)), h]
set_option maxRecDepth 100000 in
theorem cc_isClosed {l : Launch} {Γ : Gm} {A : Nat → Prop} {ρ : State → Prop} (B : Bc l Γ A ρ) {h : Hp} {F : Nat → Int32} {X : Nat → Nat → Int32} {nt ns nm ne nv nu ln : Nat} (J : Iv F X nt ns nm ne nv nu ln) {x : Nat} (R_ : RepC Γ F X nt ns nm ne nv nu h x) (visit : Int32) : CtF l Γ A ρ yX1_isClosed cX1_isClosed 2 (some .int) { frames := 3, cells := 0, slots := 0, locals := 64 } [.ref x, .int visit] h (some (.int (atI visit nv (fun j => X 1 (61 + j))))) h := by
  refine Ct.of B.1.1 B.1.2 (by decide) [some (.ref x), some (.int visit)] (Nat.le_of_ble_eq_true rfl) rfl ?_
  intro E hE C R
  subst hE
  have SC_ := B.2 _ C.r
  have ht_ := J.lt
  have hs_ := J.ls
  have hm_ := J.lm
  have he_ := J.le
  have hu_ := J.lu
  have hl_ := J.ll
  have hv_ := J.lv
  obtain ⟨bu, mk, en, hi, sn, so, b7, b8, hs, fsn, fso, Rx, Rb, RK, RE, RH, RS, RA, RO⟩ := id R_
  obtain ⟨sl, wl, ma, te, fm, ft, ss, wq, Km, Kma, Kfm, Kte, Kft, Ksl, Kss, Kwl, Kws⟩ := id RK
  obtain ⟨vl, el, vs, es, Ee, E0, Evl, Eel, Evs, Ees⟩ := id RE
  refine g_aload_n C dX1_isClosed_0 rfl rfl ?_
  refine g_iload_n C dX1_isClosed_1 rfl rfl ?_
  refine h_callV (rest := []) 1 C (cc_isVisit B J R_ _) (lw_V q1156 q1158 qs21 q86 q1159) ⟨⟨by decide, by decide, by decide +kernel⟩, ⟨Nat.le_of_ble_eq_true rfl, Nat.le_of_ble_eq_true rfl⟩, ⟨Nat.le_of_ble_eq_true rfl, Nat.le_of_ble_eq_true rfl⟩⟩ (fun _ h => h) (HP.recv C Rx k_X1) rfl rfl (Nat.le_of_ble_eq_true rfl) dX1_isClosed_2 (h_F ?_)
  refine g_if_eq 36 C dX1_isClosed_5 rfl (fun c5 => ?_) (fun c5 => ?_)
  · refine g_iconst (v := (-1)) C dX1_isClosed_36 rfl ?_
    exact g_iret C R (Nat.le_of_ble_eq_true rfl) (Nat.le_of_ble_eq_true rfl) dX1_isClosed_37 (fun H hH => ⟨by rw [atI_out c5], hH⟩)
  · obtain ⟨j_visit, hj_visit, rfl⟩ := ixI_in (by omega) c5
    refine g_aload_n C dX1_isClosed_8 rfl rfl ?_
    refine c_get 0 4 k_X1 in_X1 (by decide) (fun _ h => h) q540 Rx rfl C dX1_isClosed_9 ?_
    refine c_getN 2 0 k_X3 in_X3 (by decide) (fun _ h => h) q522 SC_ Ee rfl C dX1_isClosed_12 ?_
    refine g_iload_n C dX1_isClosed_15 rfl rfl ?_
    refine h_callV (rest := []) 1 C (cc_get B Evl j_visit (by omega)) (lw_V q940 q941 q942 q90 q943) ⟨⟨by decide, by decide, by decide +kernel⟩, ⟨Nat.le_of_ble_eq_true rfl, Nat.le_of_ble_eq_true rfl⟩, ⟨Nat.le_of_ble_eq_true rfl, Nat.le_of_ble_eq_true rfl⟩⟩ (fun _ h => h) (Evl.recv C) rfl rfl (Nat.le_of_ble_eq_true rfl) dX1_isClosed_16 (h_F ?_)
    obtain ⟨vm1, ve1, fvm1, fve1, Vo1, Vm1, Ve1, Vt1⟩ := Evs j_visit (by omega)
    refine c_castS Vo1 k_X15 q1064 C dX1_isClosed_19 ?_
    refine h_callV (rest := []) 0 C (cc_visClosed B Vo1) (lw_V q1065 q1066 q1067 q122 q1068) ⟨⟨by decide, by decide, by decide +kernel⟩, ⟨Nat.le_of_ble_eq_true rfl, Nat.le_of_ble_eq_true rfl⟩, ⟨Nat.le_of_ble_eq_true rfl, Nat.le_of_ble_eq_true rfl⟩⟩ (fun _ h => h) (HP.recv C Vo1 k_X15) rfl rfl (Nat.le_of_ble_eq_true rfl) dX1_isClosed_22 (h_F ?_)
    refine g_topi (y := X 1 (61 + j_visit)) (clI_eq (J.vi hj_visit)) ?_
    refine g_if_eq 32 C dX1_isClosed_25 rfl (fun c25 => ?_) (fun c25 => ?_)
    · refine g_iconst (v := 0) C dX1_isClosed_32 rfl ?_
      refine g_goto 37 C dX1_isClosed_33 rfl ?_
      exact g_iret C R (Nat.le_of_ble_eq_true rfl) (Nat.le_of_ble_eq_true rfl) dX1_isClosed_37 (fun H hH => ⟨by rw [atI_in hj_visit (by omega)]; rw [c25], hH⟩)
    · refine g_iconst (v := 1) C dX1_isClosed_28 rfl ?_
      refine g_goto 37 C dX1_isClosed_29 rfl ?_
      exact g_iret C R (Nat.le_of_ble_eq_true rfl) (Nat.le_of_ble_eq_true rfl) dX1_isClosed_37 (fun H hH => ⟨by rw [atI_in hj_visit (by omega)]; rw [((J.vi hj_visit).c01).resolve_left c25], hH⟩)
theorem Iv.ge01 {F : Nat → Int32} {X : Nat → Nat → Int32} {nt ns nm ne nv nu ln : Nat} (J : Iv F X nt ns nm ne nv nu ln) {e : Nat} (he : e < ne) : X 1 (669 + e) = 0 ∨ X 1 (669 + e) = 1 := by
  obtain ⟨-, -, -, -, -, h1, h2⟩ := J.wt he
  rw [h1]
  have : geE X e = 0 ∨ geE X e = 1 := by omega
  rcases this with h | h <;> rw [h]
  · left; rfl
  · right; rfl
set_option maxRecDepth 100000 in
theorem cc_canBeGenuine {l : Launch} {Γ : Gm} {A : Nat → Prop} {ρ : State → Prop} (B : Bc l Γ A ρ) {h : Hp} {F : Nat → Int32} {X : Nat → Nat → Int32} {nt ns nm ne nv nu ln : Nat} (J : Iv F X nt ns nm ne nv nu ln) {x : Nat} (R_ : RepC Γ F X nt ns nm ne nv nu h x) (set : Int32) : CtF l Γ A ρ yX1_canBeGenuine cX1_canBeGenuine 2 (some .int) { frames := 3, cells := 0, slots := 0, locals := 64 } [.ref x, .int set] h (some (.int (atI set ne (fun j => X 1 (669 + j))))) h := by
  refine Ct.of B.1.1 B.1.2 (by decide) [some (.ref x), some (.int set)] (Nat.le_of_ble_eq_true rfl) rfl ?_
  intro E hE C R
  subst hE
  have SC_ := B.2 _ C.r
  have ht_ := J.lt
  have hs_ := J.ls
  have hm_ := J.lm
  have he_ := J.le
  have hu_ := J.lu
  have hl_ := J.ll
  have hv_ := J.lv
  obtain ⟨bu, mk, en, hi, sn, so, b7, b8, hs, fsn, fso, Rx, Rb, RK, RE, RH, RS, RA, RO⟩ := id R_
  obtain ⟨sl, wl, ma, te, fm, ft, ss, wq, Km, Kma, Kfm, Kte, Kft, Ksl, Kss, Kwl, Kws⟩ := id RK
  obtain ⟨vl, el, vs, es, Ee, E0, Evl, Eel, Evs, Ees⟩ := id RE
  refine g_aload_n C dX1_canBeGenuine_0 rfl rfl ?_
  refine g_iload_n C dX1_canBeGenuine_1 rfl rfl ?_
  refine h_callV (rest := []) 1 C (cc_isSet B J R_ _) (lw_V q1322 q1324 qs36 q86 q1325) ⟨⟨by decide, by decide, by decide +kernel⟩, ⟨Nat.le_of_ble_eq_true rfl, Nat.le_of_ble_eq_true rfl⟩, ⟨Nat.le_of_ble_eq_true rfl, Nat.le_of_ble_eq_true rfl⟩⟩ (fun _ h => h) (HP.recv C Rx k_X1) rfl rfl (Nat.le_of_ble_eq_true rfl) dX1_canBeGenuine_2 (h_F ?_)
  refine g_if_eq 36 C dX1_canBeGenuine_5 rfl (fun c5 => ?_) (fun c5 => ?_)
  · refine g_iconst (v := (-1)) C dX1_canBeGenuine_36 rfl ?_
    exact g_iret C R (Nat.le_of_ble_eq_true rfl) (Nat.le_of_ble_eq_true rfl) dX1_canBeGenuine_37 (fun H hH => ⟨by rw [atI_out c5], hH⟩)
  · obtain ⟨j_set, hj_set, rfl⟩ := ixI_in (by omega) c5
    refine g_aload_n C dX1_canBeGenuine_8 rfl rfl ?_
    refine c_get 0 4 k_X1 in_X1 (by decide) (fun _ h => h) q540 Rx rfl C dX1_canBeGenuine_9 ?_
    refine c_getN 2 1 k_X3 in_X3 (by decide) (fun _ h => h) q524 SC_ Ee rfl C dX1_canBeGenuine_12 ?_
    refine g_iload_n C dX1_canBeGenuine_15 rfl rfl ?_
    refine h_callV (rest := []) 1 C (cc_get B Eel j_set (by omega)) (lw_V q940 q941 q942 q90 q943) ⟨⟨by decide, by decide, by decide +kernel⟩, ⟨Nat.le_of_ble_eq_true rfl, Nat.le_of_ble_eq_true rfl⟩, ⟨Nat.le_of_ble_eq_true rfl, Nat.le_of_ble_eq_true rfl⟩⟩ (fun _ h => h) (Eel.recv C) rfl rfl (Nat.le_of_ble_eq_true rfl) dX1_canBeGenuine_16 (h_F ?_)
    refine c_castS (Ees j_set (by omega)) k_X14 q956 C dX1_canBeGenuine_19 ?_
    refine c_getN 12 3 k_X14 in_X14 (by decide) (fun _ h => h) q972 SC_ (Ees j_set (by omega)) rfl C dX1_canBeGenuine_22 ?_
    refine g_if_eq 32 C dX1_canBeGenuine_25 rfl (fun c25 => ?_) (fun c25 => ?_)
    · refine g_iconst (v := 0) C dX1_canBeGenuine_32 rfl ?_
      refine g_goto 37 C dX1_canBeGenuine_33 rfl ?_
      exact g_iret C R (Nat.le_of_ble_eq_true rfl) (Nat.le_of_ble_eq_true rfl) dX1_canBeGenuine_37 (fun H hH => ⟨by rw [atI_in hj_set (by omega)]; rw [c25], hH⟩)
    · refine g_iconst (v := 1) C dX1_canBeGenuine_28 rfl ?_
      refine g_goto 37 C dX1_canBeGenuine_29 rfl ?_
      exact g_iret C R (Nat.le_of_ble_eq_true rfl) (Nat.le_of_ble_eq_true rfl) dX1_canBeGenuine_37 (fun H hH => ⟨by rw [atI_in hj_set (by omega)]; rw [(J.ge01 hj_set).resolve_left c25], hH⟩)
theorem inI_1 {s k : Int32} (h : ¬ inI s k = 0) : (s >>> (k &&& 31)) &&& 1 = 1 := by
  unfold inI at h
  by_cases c : (s >>> (k &&& 31)) &&& 1 = 1
  · exact c
  · rw [if_neg c] at h; exact absurd rfl h
theorem inI_0 {s k : Int32} (h : inI s k = 0) : ¬ (s >>> (k &&& 31)) &&& 1 = 1 := fun c => by
  unfold inI at h
  rw [if_pos c] at h; exact absurd h (by decide)
theorem g_lveq {E : Cf} {I : Heap → Prop} {cells slots pc : Nat} {lv lv' : List (Option Value)} {st : List Value} (e : lv' = lv) (k : G E I cells slots pc lv' st) : G E I cells slots pc lv st := e ▸ k
theorem add0_I (a : Int32) : a + 0 = a := by apply Int32.toBitVec_inj.mp; simp
set_option maxRecDepth 100000 in
theorem cc_load {l : Launch} {Γ : Gm} {A : Nat → Prop} {ρ : State → Prop} (B : Bc l Γ A ρ) {h : Hp} {X : Nat → Nat → Int32} {nt ns nm ne mk : Nat} (RK : RepK Γ X nt ns nm ne h mk) (hm_ : nm ≤ 10) (set : Int32) : CtF l Γ A ρ yX2_load cX2_load 4 (some .int) { frames := 1, cells := 0, slots := 0, locals := 21 } [.ref mk, .int set] h (some (.int (loadN (X 9) set nm))) h := by
  refine Ct.of B.1.1 B.1.2 (by decide) [some (.ref mk), some (.int set), none, none] (Nat.le_of_ble_eq_true rfl) rfl ?_
  intro E hE C R
  subst hE
  have SC_ := B.2 _ C.r
  obtain ⟨sl, wl, ma, te, fm, ft, ss, wq, Km, Kma, Kfm, Kte, Kft, Ksl, Kss, Kwl, Kws⟩ := id RK
  refine g_iconst (v := 0) C dX2_load_0 rfl ?_
  refine g_istore_n (lv' := [some (.ref mk), some (.int set), some (.int 0), none]) C dX2_load_1 rfl (by decide) rfl ?_
  refine g_iconst (v := 0) C dX2_load_2 rfl ?_
  refine g_istore_n (lv' := [some (.ref mk), some (.int set), some (.int 0), some (.int 0)]) C dX2_load_3 rfl (by decide) rfl ?_
  refine g_for (P := fun k => G E (HP Γ A h) 0 0 4 [some (.ref mk), some (.int set), some (.int (loadN (X 9) set k)), some (.int (nI k))] []) nm ?_ ?_ 0 (Nat.zero_le _)
  · refine g_iload_n C dX2_load_4 rfl rfl ?_
    refine g_aload_n C dX2_load_5 rfl rfl ?_
    refine c_get 1 5 k_X2 in_X2 (by decide) (fun _ h => h) q496 Km rfl C dX2_load_6 ?_
    refine gN_ge (a := nm) (b := nm) 35 C dX2_load_9 rfl (by omega) (by omega) (fun c9 => ?_) (fun c9 => ?_)
    · refine g_iload_n C dX2_load_35 rfl rfl ?_
      exact g_iret C R (Nat.le_of_ble_eq_true rfl) (Nat.le_of_ble_eq_true rfl) dX2_load_36 (fun H hH => ⟨rfl, hH⟩)
    · exfalso; omega
  · intro k hk ih
    replace ih : G E (HP Γ A h) 0 0 4 [some (.ref mk), some (.int set), some (.int (loadN (X 9) set (k + 1))), some (.int (nI (k + 1)))] [] := ih
    refine g_iload_n C dX2_load_4 rfl rfl ?_
    refine g_aload_n C dX2_load_5 rfl rfl ?_
    refine c_get 1 5 k_X2 in_X2 (by decide) (fun _ h => h) q496 Km rfl C dX2_load_6 ?_
    refine gN_ge (a := k) (b := nm) 35 C dX2_load_9 rfl (by omega) (by omega) (fun c9 => ?_) (fun c9 => ?_)
    · exfalso; omega
    · refine g_iload_n C dX2_load_12 rfl rfl ?_
      refine g_iload_n C dX2_load_13 rfl rfl ?_
      refine h_callSN (rest := []) 2 C (cc_isIn B.1 _ _ _) SC_ (lw_meth q929) q1032 q86 q928 ⟨⟨by decide, by decide, by decide +kernel⟩, ⟨Nat.le_of_ble_eq_true rfl, Nat.le_of_ble_eq_true rfl⟩, ⟨Nat.le_of_ble_eq_true rfl, Nat.le_of_ble_eq_true rfl⟩⟩ (fun _ h => h) rfl rfl (Nat.le_of_ble_eq_true rfl) dX2_load_14 (h_P ?_)
      refine g_if_eq 29 C dX2_load_17 rfl (fun c17 => ?_) (fun c17 => ?_)
      · refine g_lveq (lv' := [some (.ref mk), some (.int set), some (.int (loadN (X 9) set (k + 1))), some (.int (nI k))]) (by simp only [loadN]; rw [if_neg (inI_0 c17), add0_I]) ?_
        refine g_inc1 (x := k) (lv' := [some (.ref mk), some (.int set), some (.int (loadN (X 9) set (k + 1))), some (.int (nI (k + 1)))]) C dX2_load_29 rfl (by decide) rfl ?_
        refine g_goto 4 C dX2_load_32 rfl ?_
        exact ih
      · refine g_iload_n C dX2_load_20 rfl rfl ?_
        refine g_aload_n C dX2_load_21 rfl rfl ?_
        refine c_get 1 2 k_X2 in_X2 (by decide) (fun _ h => h) q488 Km rfl C dX2_load_22 ?_
        refine g_iload_n C dX2_load_25 rfl rfl ?_
        refine c_iald (i := k) Kma (by omega) (by omega) C dX2_load_26 ?_
        refine g_topi (y := X 9 k) (Kfm k (by omega)) ?_
        refine g_iadd C dX2_load_27 ?_
        refine g_topi (y := loadN (X 9) set (k + 1)) (by simp only [loadN]; rw [if_pos (inI_1 c17)]) ?_
        refine g_istore_n (lv' := [some (.ref mk), some (.int set), some (.int (loadN (X 9) set (k + 1))), some (.int (nI k))]) C dX2_load_28 rfl (by decide) rfl ?_
        refine g_inc1 (x := k) (lv' := [some (.ref mk), some (.int set), some (.int (loadN (X 9) set (k + 1))), some (.int (nI (k + 1)))]) C dX2_load_29 rfl (by decide) rfl ?_
        refine g_goto 4 C dX2_load_32 rfl ?_
        exact ih
