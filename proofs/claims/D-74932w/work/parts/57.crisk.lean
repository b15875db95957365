theorem or0_I (a : Int32) : a ||| 0 = a := by apply Int32.toBitVec_inj.mp; simp
set_option maxRecDepth 100000 in
theorem cc_scalesWith {l : Launch} {Γ : Gm} {A : Nat → Prop} {ρ : State → Prop} (B : Bc l Γ A ρ) {h : Hp} {F : Nat → Int32} {X : Nat → Nat → Int32} {nt ns nm ne nv nu ln : Nat} (J : Iv F X nt ns nm ne nv nu ln) {x : Nat} (R_ : RepC Γ F X nt ns nm ne nv nu h x) (state day : Int32) : CtF l Γ A ρ yX1_scalesWith cX1_scalesWith 5 (some .int) { frames := 6, cells := 0, slots := 0, locals := 129 } [.ref x, .int state, .int day] h (some (.int (atI state 4 (fun q => atI day 10000 (fun t => swN X nv (nI q) (nI t) ns))))) h := by
  refine Ct.of B.1.1 B.1.2 (by decide) [some (.ref x), some (.int state), some (.int day), none, none] (Nat.le_of_ble_eq_true rfl) rfl ?_
  intro E hE C R
  subst hE
  have SC_ := B.2 _ C.r
  have ht_ := J.lt
  have hs_ := J.ls
  have hm_ := J.lm
  have he_ := J.le
  have hu_ := J.lu
  have hl_ := J.ll
  have hv_ := J.lv
  obtain ⟨bu, mk, en, hi, sn, so, b7, b8, hs, fsn, fso, Rx, Rb, RK, RE, RH, RS, RA, RO⟩ := id R_
  obtain ⟨sl, wl, ma, te, fm, ft, ss, wq, Km, Kma, Kfm, Kte, Kft, Ksl, Kss, Kwl, Kws⟩ := id RK
  obtain ⟨vl, el, vs, es, Ee, E0, Evl, Eel, Evs, Ees⟩ := id RE
  refine g_iload_n C dX1_scalesWith_0 rfl rfl ?_
  refine g_i2l C dX1_scalesWith_1 ?_
  refine g_lconst (v := 0) C dX1_scalesWith_2 rfl ?_
  refine g_ldc2 (v := 3) C dX1_scalesWith_3 q1292 ?_
  refine h_callS (rest := []) 3 C (cc_inRange B.1 _ _ _ _) (lw_S q580 q581 q86 q582) ⟨⟨by decide, by decide, by decide +kernel⟩, ⟨Nat.le_of_ble_eq_true rfl, Nat.le_of_ble_eq_true rfl⟩, ⟨Nat.le_of_ble_eq_true rfl, Nat.le_of_ble_eq_true rfl⟩⟩ (fun _ h => h) rfl rfl (Nat.le_of_ble_eq_true rfl) dX1_scalesWith_6 (h_P ?_)
  refine g_topi (y := ixI state 4) (wi_lit (n := 3) (by decide)) ?_
  refine g_if_eq 19 C dX1_scalesWith_9 rfl (fun c9 => ?_) (fun c9 => ?_)
  · refine g_iconst (v := (-1)) C dX1_scalesWith_19 rfl ?_
    exact g_iret C R (Nat.le_of_ble_eq_true rfl) (Nat.le_of_ble_eq_true rfl) dX1_scalesWith_20 (fun H hH => ⟨by rw [atI_out c9], hH⟩)
  · obtain ⟨j_state, hj_state, rfl⟩ := ixI_in (by omega) c9
    refine g_iload_n C dX1_scalesWith_12 rfl rfl ?_
    refine h_callS (rest := []) 1 C (cc_isDay B.1 _ _) (lw_S q1060 q1061 q86 q1062) ⟨⟨by decide, by decide, by decide +kernel⟩, ⟨Nat.le_of_ble_eq_true rfl, Nat.le_of_ble_eq_true rfl⟩, ⟨Nat.le_of_ble_eq_true rfl, Nat.le_of_ble_eq_true rfl⟩⟩ (fun _ h => h) rfl rfl (Nat.le_of_ble_eq_true rfl) dX1_scalesWith_13 (h_P ?_)
    refine g_if_ne 21 C dX1_scalesWith_16 rfl (fun c16 => ?_) (fun c16 => ?_)
    · obtain ⟨j_day, hj_day, rfl⟩ := ixI_in (by omega) c16
      refine g_iconst (v := 0) C dX1_scalesWith_21 rfl ?_
      refine g_istore_n (lv' := [some (.ref x), some (.int (nI j_state)), some (.int (nI j_day)), some (.int 0), none]) C dX1_scalesWith_22 rfl (by decide) rfl ?_
      refine g_iconst (v := 0) C dX1_scalesWith_23 rfl ?_
      refine g_istore (lv' := [some (.ref x), some (.int (nI j_state)), some (.int (nI j_day)), some (.int 0), some (.int 0)]) C dX1_scalesWith_24 (by decide) rfl ?_
      refine g_for (P := fun j => G E (HP Γ A h) 0 0 26 [some (.ref x), some (.int (nI j_state)), some (.int (nI j_day)), some (.int (swN X nv (nI j_state) (nI j_day) j)), some (.int (nI j))] []) ns ?_ ?_ 0 (Nat.zero_le _)
      · refine g_iload C dX1_scalesWith_26 rfl ?_
        refine g_aload_n C dX1_scalesWith_28 rfl rfl ?_
        refine c_get 0 3 k_X1 in_X1 (by decide) (fun _ h => h) q539 Rx rfl C dX1_scalesWith_29 ?_
        refine c_getN 1 0 k_X2 in_X2 (by decide) (fun _ h => h) q483 SC_ Km rfl C dX1_scalesWith_32 ?_
        refine h_callV (rest := [.int (nI ns)]) 0 C (cc_size B Ksl) (lw_V q939 q770 q771 q90 q772) ⟨⟨by decide, by decide, by decide +kernel⟩, ⟨Nat.le_of_ble_eq_true rfl, Nat.le_of_ble_eq_true rfl⟩, ⟨Nat.le_of_ble_eq_true rfl, Nat.le_of_ble_eq_true rfl⟩⟩ (fun _ h => h) (Ksl.recv C) rfl rfl (Nat.le_of_ble_eq_true rfl) dX1_scalesWith_35 (h_F ?_)
        refine gN_ge (a := ns) (b := ns) 65 C dX1_scalesWith_38 rfl (by omega) (by omega) (fun c38 => ?_) (fun c38 => ?_)
        · refine g_iload_n C dX1_scalesWith_65 rfl rfl ?_
          exact g_iret C R (Nat.le_of_ble_eq_true rfl) (Nat.le_of_ble_eq_true rfl) dX1_scalesWith_66 (fun H hH => ⟨by rw [atI_in hj_state (by omega), atI_in hj_day (by omega)], hH⟩)
        · exfalso; omega
      · intro j hj ih
        replace ih : G E (HP Γ A h) 0 0 26 [some (.ref x), some (.int (nI j_state)), some (.int (nI j_day)), some (.int (swN X nv (nI j_state) (nI j_day) (j + 1))), some (.int (nI (j + 1)))] [] := ih
        refine g_iload C dX1_scalesWith_26 rfl ?_
        refine g_aload_n C dX1_scalesWith_28 rfl rfl ?_
        refine c_get 0 3 k_X1 in_X1 (by decide) (fun _ h => h) q539 Rx rfl C dX1_scalesWith_29 ?_
        refine c_getN 1 0 k_X2 in_X2 (by decide) (fun _ h => h) q483 SC_ Km rfl C dX1_scalesWith_32 ?_
        refine h_callV (rest := [.int (nI j)]) 0 C (cc_size B Ksl) (lw_V q939 q770 q771 q90 q772) ⟨⟨by decide, by decide, by decide +kernel⟩, ⟨Nat.le_of_ble_eq_true rfl, Nat.le_of_ble_eq_true rfl⟩, ⟨Nat.le_of_ble_eq_true rfl, Nat.le_of_ble_eq_true rfl⟩⟩ (fun _ h => h) (Ksl.recv C) rfl rfl (Nat.le_of_ble_eq_true rfl) dX1_scalesWith_35 (h_F ?_)
        refine gN_ge (a := j) (b := ns) 65 C dX1_scalesWith_38 rfl (by omega) (by omega) (fun c38 => ?_) (fun c38 => ?_)
        · exfalso; omega
        · refine g_aload_n C dX1_scalesWith_41 rfl rfl ?_
          refine g_iload C dX1_scalesWith_42 rfl ?_
          refine g_iload_n C dX1_scalesWith_44 rfl rfl ?_
          refine h_callV (rest := []) 2 C (cc_stateOf B J R_ _ j_day (by omega)) (lw_V q1272 q1274 qs31 q86 q1275) ⟨⟨by decide, by decide, by decide +kernel⟩, ⟨Nat.le_of_ble_eq_true rfl, Nat.le_of_ble_eq_true rfl⟩, ⟨Nat.le_of_ble_eq_true rfl, Nat.le_of_ble_eq_true rfl⟩⟩ (fun _ h => h) (HP.recv C Rx k_X1) rfl rfl (Nat.le_of_ble_eq_true rfl) dX1_scalesWith_45 (h_F ?_)
          refine g_iload_n C dX1_scalesWith_48 rfl rfl ?_
          refine g_icmp_ne 59 C dX1_scalesWith_49 rfl (fun c49 => ?_) (fun c49 => ?_)
          · refine g_inc1 (x := j) (lv' := [some (.ref x), some (.int (nI j_state)), some (.int (nI j_day)), some (.int (swN X nv (nI j_state) (nI j_day) j)), some (.int (nI (j + 1)))]) C dX1_scalesWith_59 rfl (by decide) rfl ?_
            refine g_goto 26 C dX1_scalesWith_62 rfl ?_
            refine g_lveq (lv' := [some (.ref x), some (.int (nI j_state)), some (.int (nI j_day)), some (.int (swN X nv (nI j_state) (nI j_day) (j + 1))), some (.int (nI (j + 1)))]) (by simp only [swN, if_neg c49]; rw [or0_I]) ?_
            exact ih
          · refine g_iload_n C dX1_scalesWith_52 rfl rfl ?_
            refine g_iconst (v := 1) C dX1_scalesWith_53 rfl ?_
            refine g_iload C dX1_scalesWith_54 rfl ?_
            refine g_ishl C dX1_scalesWith_56 ?_
            refine g_ior C dX1_scalesWith_57 ?_
            refine g_istore_n (lv' := [some (.ref x), some (.int (nI j_state)), some (.int (nI j_day)), some (.int ((swN X nv (nI j_state) (nI j_day) j) ||| (1 <<< (nI j &&& 31)))), some (.int (nI j))]) C dX1_scalesWith_58 rfl (by decide) rfl ?_
            refine g_inc1 (x := j) (lv' := [some (.ref x), some (.int (nI j_state)), some (.int (nI j_day)), some (.int ((swN X nv (nI j_state) (nI j_day) j) ||| (1 <<< (nI j &&& 31)))), some (.int (nI (j + 1)))]) C dX1_scalesWith_59 rfl (by decide) rfl ?_
            refine g_goto 26 C dX1_scalesWith_62 rfl ?_
            refine g_lveq (lv' := [some (.ref x), some (.int (nI j_state)), some (.int (nI j_day)), some (.int (swN X nv (nI j_state) (nI j_day) (j + 1))), some (.int (nI (j + 1)))]) (by simp only [swN, if_pos c49]) ?_
            exact ih
    · refine g_iconst (v := (-1)) C dX1_scalesWith_19 rfl ?_
      exact g_iret C R (Nat.le_of_ble_eq_true rfl) (Nat.le_of_ble_eq_true rfl) dX1_scalesWith_20 (fun H hH => ⟨by rw [atI_in hj_state (by omega), atI_out c16], hH⟩)
set_option maxRecDepth 100000 in
theorem cc_riskOf {l : Launch} {Γ : Gm} {A : Nat → Prop} {ρ : State → Prop} (B : Bc l Γ A ρ) {h : Hp} {F : Nat → Int32} {X : Nat → Nat → Int32} {nt ns nm ne nv nu ln : Nat} (J : Iv F X nt ns nm ne nv nu ln) {x : Nat} (R_ : RepC Γ F X nt ns nm ne nv nu h x) (s : Nat) (hsn : s < ns) (t : Nat) (ht : t ≤ 9999) : CtF l Γ A ρ yX1_riskOf cX1_riskOf 7 (some .int) { frames := 6, cells := 0, slots := 0, locals := 129 } [.ref x, .int (nI s), .int (nI t)] h (some (.int (nI (riN X ns nv s (nI t))))) h := by
  refine Ct.of B.1.1 B.1.2 (by decide) [some (.ref x), some (.int (nI s)), some (.int (nI t)), none, none, none, none] (Nat.le_of_ble_eq_true rfl) rfl ?_
  intro E hE C R
  subst hE
  have SC_ := B.2 _ C.r
  have ht_ := J.lt
  have hs_ := J.ls
  have hm_ := J.lm
  have he_ := J.le
  have hu_ := J.lu
  have hl_ := J.ll
  have hv_ := J.lv
  obtain ⟨bu, mk, en, hi, sn, so, b7, b8, hs, fsn, fso, Rx, Rb, RK, RE, RH, RS, RA, RO⟩ := id R_
  obtain ⟨sl, wl, ma, te, fm, ft, ss, wq, Km, Kma, Kfm, Kte, Kft, Ksl, Kss, Kwl, Kws⟩ := id RK
  obtain ⟨vl, el, vs, es, Ee, E0, Evl, Eel, Evs, Ees⟩ := id RE
  have j118 : G E (HP Γ A h) 0 0 118 [some (.ref x), some (.int (nI s)), some (.int (nI t)), some (.int (stI X nv (nI s) (nI t))), some (.int (nI (rk1 (X 1) (nI s) (nI t) (rk0 (stI X nv (nI s) (nI t))) nv))), some (.int 0), none] [] := by
    refine g_for (P := fun j => G E (HP Γ A h) 0 0 118 [some (.ref x), some (.int (nI s)), some (.int (nI t)), some (.int (stI X nv (nI s) (nI t))), some (.int (nI (rk2 X nv s (nI t) (rk1 (X 1) (nI s) (nI t) (rk0 (stI X nv (nI s) (nI t))) nv) j))), some (.int (nI j)), none] []) ns ?_ ?_ 0 (Nat.zero_le _)
    · refine g_iload C dX1_riskOf_118 rfl ?_
      refine g_aload_n C dX1_riskOf_120 rfl rfl ?_
      refine c_get 0 3 k_X1 in_X1 (by decide) (fun _ h => h) q539 Rx rfl C dX1_riskOf_121 ?_
      refine c_getN 1 0 k_X2 in_X2 (by decide) (fun _ h => h) q483 SC_ Km rfl C dX1_riskOf_124 ?_
      refine h_callV (rest := [.int (nI ns)]) 0 C (cc_size B Ksl) (lw_V q939 q770 q771 q90 q772) ⟨⟨by decide, by decide, by decide +kernel⟩, ⟨Nat.le_of_ble_eq_true rfl, Nat.le_of_ble_eq_true rfl⟩, ⟨Nat.le_of_ble_eq_true rfl, Nat.le_of_ble_eq_true rfl⟩⟩ (fun _ h => h) (Ksl.recv C) rfl rfl (Nat.le_of_ble_eq_true rfl) dX1_riskOf_127 (h_F ?_)
      refine gN_ge (a := ns) (b := ns) 197 C dX1_riskOf_130 rfl (by omega) (by omega) (fun c130 => ?_) (fun c130 => ?_)
      · refine g_iload C dX1_riskOf_197 rfl ?_
        exact g_iret C R (Nat.le_of_ble_eq_true rfl) (Nat.le_of_ble_eq_true rfl) dX1_riskOf_199 (fun H hH => ⟨rfl, hH⟩)
      · exfalso; omega
    · intro j hj ih
      replace ih : G E (HP Γ A h) 0 0 118 [some (.ref x), some (.int (nI s)), some (.int (nI t)), some (.int (stI X nv (nI s) (nI t))), some (.int (nI (rk2 X nv s (nI t) (rk1 (X 1) (nI s) (nI t) (rk0 (stI X nv (nI s) (nI t))) nv) (j + 1)))), some (.int (nI (j + 1))), none] [] := ih
      refine g_iload C dX1_riskOf_118 rfl ?_
      refine g_aload_n C dX1_riskOf_120 rfl rfl ?_
      refine c_get 0 3 k_X1 in_X1 (by decide) (fun _ h => h) q539 Rx rfl C dX1_riskOf_121 ?_
      refine c_getN 1 0 k_X2 in_X2 (by decide) (fun _ h => h) q483 SC_ Km rfl C dX1_riskOf_124 ?_
      refine h_callV (rest := [.int (nI j)]) 0 C (cc_size B Ksl) (lw_V q939 q770 q771 q90 q772) ⟨⟨by decide, by decide, by decide +kernel⟩, ⟨Nat.le_of_ble_eq_true rfl, Nat.le_of_ble_eq_true rfl⟩, ⟨Nat.le_of_ble_eq_true rfl, Nat.le_of_ble_eq_true rfl⟩⟩ (fun _ h => h) (Ksl.recv C) rfl rfl (Nat.le_of_ble_eq_true rfl) dX1_riskOf_127 (h_F ?_)
      refine gN_ge (a := j) (b := ns) 197 C dX1_riskOf_130 rfl (by omega) (by omega) (fun c130 => ?_) (fun c130 => ?_)
      · exfalso; omega
      · refine g_iload C dX1_riskOf_133 rfl ?_
        refine g_iload_n C dX1_riskOf_135 rfl rfl ?_
        refine gN_eq (a := j) (b := s) 191 C dX1_riskOf_136 rfl (by omega) (by omega) (fun c136 => ?_) (fun c136 => ?_)
        · refine g_inc1 (x := j) (lv' := [some (.ref x), some (.int (nI s)), some (.int (nI t)), some (.int (stI X nv (nI s) (nI t))), some (.int (nI (rk2 X nv s (nI t) (rk1 (X 1) (nI s) (nI t) (rk0 (stI X nv (nI s) (nI t))) nv) j))), some (.int (nI (j + 1))), none]) C dX1_riskOf_191 rfl (by decide) rfl ?_
          refine g_goto 118 C dX1_riskOf_194 rfl ?_
          refine g_lveq (lv' := [some (.ref x), some (.int (nI s)), some (.int (nI t)), some (.int (stI X nv (nI s) (nI t))), some (.int (nI (rk2 X nv s (nI t) (rk1 (X 1) (nI s) (nI t) (rk0 (stI X nv (nI s) (nI t))) nv) (j + 1)))), some (.int (nI (j + 1))), none]) (by simp only [rk2]; rw [if_pos c136] <;> rfl) ?_
          exact g_lv (lv' := [some (.ref x), some (.int (nI s)), some (.int (nI t)), some (.int (stI X nv (nI s) (nI t))), some (.int (nI (rk2 X nv s (nI t) (rk1 (X 1) (nI s) (nI t) (rk0 (stI X nv (nI s) (nI t))) nv) (j + 1)))), some (.int (nI (j + 1))), none]) (fun i w h => by match i, h with | 0, h => exact h | 1, h => exact h | 2, h => exact h | 3, h => exact h | 4, h => exact h | 5, h => exact h | 6, h => cases h) (ih)
        · refine g_aload_n C dX1_riskOf_139 rfl rfl ?_
          refine c_get 0 3 k_X1 in_X1 (by decide) (fun _ h => h) q539 Rx rfl C dX1_riskOf_140 ?_
          refine c_getN 1 0 k_X2 in_X2 (by decide) (fun _ h => h) q483 SC_ Km rfl C dX1_riskOf_143 ?_
          refine g_iload C dX1_riskOf_146 rfl ?_
          refine h_callV (rest := []) 1 C (cc_get B Ksl j (by omega)) (lw_V q940 q941 q942 q90 q943) ⟨⟨by decide, by decide, by decide +kernel⟩, ⟨Nat.le_of_ble_eq_true rfl, Nat.le_of_ble_eq_true rfl⟩, ⟨Nat.le_of_ble_eq_true rfl, Nat.le_of_ble_eq_true rfl⟩⟩ (fun _ h => h) (Ksl.recv C) rfl rfl (Nat.le_of_ble_eq_true rfl) dX1_riskOf_148 (h_F ?_)
          refine c_castS (Kss j (by omega)) k_X11 q1015 C dX1_riskOf_151 ?_
          refine c_getN 10 0 k_X11 in_X11 (by decide) (fun _ h => h) q818 SC_ (Kss j (by omega)) rfl C dX1_riskOf_154 ?_
          refine g_aload_n C dX1_riskOf_157 rfl rfl ?_
          refine c_get 0 3 k_X1 in_X1 (by decide) (fun _ h => h) q539 Rx rfl C dX1_riskOf_158 ?_
          refine c_getN 1 0 k_X2 in_X2 (by decide) (fun _ h => h) q483 SC_ Km rfl C dX1_riskOf_161 ?_
          refine g_iload_n C dX1_riskOf_164 rfl rfl ?_
          refine h_callV (rest := [.int (X 4 j)]) 1 C (cc_get B Ksl s (by omega)) (lw_V q940 q941 q942 q90 q943) ⟨⟨by decide, by decide, by decide +kernel⟩, ⟨Nat.le_of_ble_eq_true rfl, Nat.le_of_ble_eq_true rfl⟩, ⟨Nat.le_of_ble_eq_true rfl, Nat.le_of_ble_eq_true rfl⟩⟩ (fun _ h => h) (Ksl.recv C) rfl rfl (Nat.le_of_ble_eq_true rfl) dX1_riskOf_165 (h_F ?_)
          refine c_castS (Kss s (by omega)) k_X11 q1015 C dX1_riskOf_168 ?_
          refine c_getN 10 0 k_X11 in_X11 (by decide) (fun _ h => h) q818 SC_ (Kss s (by omega)) rfl C dX1_riskOf_171 ?_
          refine g_icmp_ne 191 C dX1_riskOf_174 rfl (fun c174 => ?_) (fun c174 => ?_)
          · refine g_inc1 (x := j) (lv' := [some (.ref x), some (.int (nI s)), some (.int (nI t)), some (.int (stI X nv (nI s) (nI t))), some (.int (nI (rk2 X nv s (nI t) (rk1 (X 1) (nI s) (nI t) (rk0 (stI X nv (nI s) (nI t))) nv) j))), some (.int (nI (j + 1))), none]) C dX1_riskOf_191 rfl (by decide) rfl ?_
            refine g_goto 118 C dX1_riskOf_194 rfl ?_
            refine g_lveq (lv' := [some (.ref x), some (.int (nI s)), some (.int (nI t)), some (.int (stI X nv (nI s) (nI t))), some (.int (nI (rk2 X nv s (nI t) (rk1 (X 1) (nI s) (nI t) (rk0 (stI X nv (nI s) (nI t))) nv) (j + 1)))), some (.int (nI (j + 1))), none]) (by simp only [rk2]; rw [if_neg c136, if_neg c174] <;> rfl) ?_
            exact g_lv (lv' := [some (.ref x), some (.int (nI s)), some (.int (nI t)), some (.int (stI X nv (nI s) (nI t))), some (.int (nI (rk2 X nv s (nI t) (rk1 (X 1) (nI s) (nI t) (rk0 (stI X nv (nI s) (nI t))) nv) (j + 1)))), some (.int (nI (j + 1))), none]) (fun i w h => by match i, h with | 0, h => exact h | 1, h => exact h | 2, h => exact h | 3, h => exact h | 4, h => exact h | 5, h => exact h | 6, h => cases h) (ih)
          · refine g_aload_n C dX1_riskOf_177 rfl rfl ?_
            refine g_iload C dX1_riskOf_178 rfl ?_
            refine g_iload_n C dX1_riskOf_180 rfl rfl ?_
            refine h_callV (rest := []) 2 C (cc_stateOf B J R_ _ t (by omega)) (lw_V q1272 q1274 qs31 q86 q1275) ⟨⟨by decide, by decide, by decide +kernel⟩, ⟨Nat.le_of_ble_eq_true rfl, Nat.le_of_ble_eq_true rfl⟩, ⟨Nat.le_of_ble_eq_true rfl, Nat.le_of_ble_eq_true rfl⟩⟩ (fun _ h => h) (HP.recv C Rx k_X1) rfl rfl (Nat.le_of_ble_eq_true rfl) dX1_riskOf_181 (h_F ?_)
            refine g_iconst (v := 3) C dX1_riskOf_184 rfl ?_
            refine g_icmp_ne 191 C dX1_riskOf_185 rfl (fun c185 => ?_) (fun c185 => ?_)
            · refine g_inc1 (x := j) (lv' := [some (.ref x), some (.int (nI s)), some (.int (nI t)), some (.int (stI X nv (nI s) (nI t))), some (.int (nI (rk2 X nv s (nI t) (rk1 (X 1) (nI s) (nI t) (rk0 (stI X nv (nI s) (nI t))) nv) j))), some (.int (nI (j + 1))), none]) C dX1_riskOf_191 rfl (by decide) rfl ?_
              refine g_goto 118 C dX1_riskOf_194 rfl ?_
              refine g_lveq (lv' := [some (.ref x), some (.int (nI s)), some (.int (nI t)), some (.int (stI X nv (nI s) (nI t))), some (.int (nI (rk2 X nv s (nI t) (rk1 (X 1) (nI s) (nI t) (rk0 (stI X nv (nI s) (nI t))) nv) (j + 1)))), some (.int (nI (j + 1))), none]) (by simp only [rk2]; rw [if_neg c136, if_pos c174, if_neg c185] <;> rfl) ?_
              exact g_lv (lv' := [some (.ref x), some (.int (nI s)), some (.int (nI t)), some (.int (stI X nv (nI s) (nI t))), some (.int (nI (rk2 X nv s (nI t) (rk1 (X 1) (nI s) (nI t) (rk0 (stI X nv (nI s) (nI t))) nv) (j + 1)))), some (.int (nI (j + 1))), none]) (fun i w h => by match i, h with | 0, h => exact h | 1, h => exact h | 2, h => exact h | 3, h => exact h | 4, h => exact h | 5, h => exact h | 6, h => cases h) (ih)
            · refine g_inc1 (x := rk2 X nv s (nI t) (rk1 (X 1) (nI s) (nI t) (rk0 (stI X nv (nI s) (nI t))) nv) j) (lv' := [some (.ref x), some (.int (nI s)), some (.int (nI t)), some (.int (stI X nv (nI s) (nI t))), some (.int (nI (rk2 X nv s (nI t) (rk1 (X 1) (nI s) (nI t) (rk0 (stI X nv (nI s) (nI t))) nv) j + 1))), some (.int (nI j)), none]) C dX1_riskOf_188 rfl (by decide) rfl ?_
              refine g_inc1 (x := j) (lv' := [some (.ref x), some (.int (nI s)), some (.int (nI t)), some (.int (stI X nv (nI s) (nI t))), some (.int (nI (rk2 X nv s (nI t) (rk1 (X 1) (nI s) (nI t) (rk0 (stI X nv (nI s) (nI t))) nv) j + 1))), some (.int (nI (j + 1))), none]) C dX1_riskOf_191 rfl (by decide) rfl ?_
              refine g_goto 118 C dX1_riskOf_194 rfl ?_
              refine g_lveq (lv' := [some (.ref x), some (.int (nI s)), some (.int (nI t)), some (.int (stI X nv (nI s) (nI t))), some (.int (nI (rk2 X nv s (nI t) (rk1 (X 1) (nI s) (nI t) (rk0 (stI X nv (nI s) (nI t))) nv) (j + 1)))), some (.int (nI (j + 1))), none]) (by simp only [rk2]; rw [if_neg c136, if_pos c174, if_pos c185] <;> rfl) ?_
              exact g_lv (lv' := [some (.ref x), some (.int (nI s)), some (.int (nI t)), some (.int (stI X nv (nI s) (nI t))), some (.int (nI (rk2 X nv s (nI t) (rk1 (X 1) (nI s) (nI t) (rk0 (stI X nv (nI s) (nI t))) nv) (j + 1)))), some (.int (nI (j + 1))), none]) (fun i w h => by match i, h with | 0, h => exact h | 1, h => exact h | 2, h => exact h | 3, h => exact h | 4, h => exact h | 5, h => exact h | 6, h => cases h) (ih)
  have j40 : G E (HP Γ A h) 0 0 40 [some (.ref x), some (.int (nI s)), some (.int (nI t)), some (.int (stI X nv (nI s) (nI t))), some (.int (nI (rk0 (stI X nv (nI s) (nI t))))), some (.int 0), none] [] := by
    refine g_for (P := fun j => G E (HP Γ A h) 0 0 40 [some (.ref x), some (.int (nI s)), some (.int (nI t)), some (.int (stI X nv (nI s) (nI t))), some (.int (nI (rk1 (X 1) (nI s) (nI t) (rk0 (stI X nv (nI s) (nI t))) j))), some (.int (nI j)), none] []) nv ?_ ?_ 0 (Nat.zero_le _)
    · refine g_iload C dX1_riskOf_40 rfl ?_
      refine g_aload_n C dX1_riskOf_42 rfl rfl ?_
      refine c_get 0 4 k_X1 in_X1 (by decide) (fun _ h => h) q540 Rx rfl C dX1_riskOf_43 ?_
      refine c_getN 2 0 k_X3 in_X3 (by decide) (fun _ h => h) q522 SC_ Ee rfl C dX1_riskOf_46 ?_
      refine h_callV (rest := [.int (nI nv)]) 0 C (cc_size B Evl) (lw_V q939 q770 q771 q90 q772) ⟨⟨by decide, by decide, by decide +kernel⟩, ⟨Nat.le_of_ble_eq_true rfl, Nat.le_of_ble_eq_true rfl⟩, ⟨Nat.le_of_ble_eq_true rfl, Nat.le_of_ble_eq_true rfl⟩⟩ (fun _ h => h) (Evl.recv C) rfl rfl (Nat.le_of_ble_eq_true rfl) dX1_riskOf_49 (h_F ?_)
      refine gN_ge (a := nv) (b := nv) 115 C dX1_riskOf_52 rfl (by omega) (by omega) (fun c52 => ?_) (fun c52 => ?_)
      · refine g_iconst (v := 0) C dX1_riskOf_115 rfl ?_
        refine g_istore (lv' := [some (.ref x), some (.int (nI s)), some (.int (nI t)), some (.int (stI X nv (nI s) (nI t))), some (.int (nI (rk1 (X 1) (nI s) (nI t) (rk0 (stI X nv (nI s) (nI t))) nv))), some (.int 0), none]) C dX1_riskOf_116 (by decide) rfl ?_
        exact j118
      · exfalso; omega
    · intro j hj ih
      replace ih : G E (HP Γ A h) 0 0 40 [some (.ref x), some (.int (nI s)), some (.int (nI t)), some (.int (stI X nv (nI s) (nI t))), some (.int (nI (rk1 (X 1) (nI s) (nI t) (rk0 (stI X nv (nI s) (nI t))) (j + 1)))), some (.int (nI (j + 1))), none] [] := ih
      refine g_iload C dX1_riskOf_40 rfl ?_
      refine g_aload_n C dX1_riskOf_42 rfl rfl ?_
      refine c_get 0 4 k_X1 in_X1 (by decide) (fun _ h => h) q540 Rx rfl C dX1_riskOf_43 ?_
      refine c_getN 2 0 k_X3 in_X3 (by decide) (fun _ h => h) q522 SC_ Ee rfl C dX1_riskOf_46 ?_
      refine h_callV (rest := [.int (nI j)]) 0 C (cc_size B Evl) (lw_V q939 q770 q771 q90 q772) ⟨⟨by decide, by decide, by decide +kernel⟩, ⟨Nat.le_of_ble_eq_true rfl, Nat.le_of_ble_eq_true rfl⟩, ⟨Nat.le_of_ble_eq_true rfl, Nat.le_of_ble_eq_true rfl⟩⟩ (fun _ h => h) (Evl.recv C) rfl rfl (Nat.le_of_ble_eq_true rfl) dX1_riskOf_49 (h_F ?_)
      refine gN_ge (a := j) (b := nv) 115 C dX1_riskOf_52 rfl (by omega) (by omega) (fun c52 => ?_) (fun c52 => ?_)
      · exfalso; omega
      · refine g_aload_n C dX1_riskOf_55 rfl rfl ?_
        refine c_get 0 4 k_X1 in_X1 (by decide) (fun _ h => h) q540 Rx rfl C dX1_riskOf_56 ?_
        refine c_getN 2 0 k_X3 in_X3 (by decide) (fun _ h => h) q522 SC_ Ee rfl C dX1_riskOf_59 ?_
        refine g_iload C dX1_riskOf_62 rfl ?_
        refine h_callV (rest := []) 1 C (cc_get B Evl j (by omega)) (lw_V q940 q941 q942 q90 q943) ⟨⟨by decide, by decide, by decide +kernel⟩, ⟨Nat.le_of_ble_eq_true rfl, Nat.le_of_ble_eq_true rfl⟩, ⟨Nat.le_of_ble_eq_true rfl, Nat.le_of_ble_eq_true rfl⟩⟩ (fun _ h => h) (Evl.recv C) rfl rfl (Nat.le_of_ble_eq_true rfl) dX1_riskOf_64 (h_F ?_)
        obtain ⟨vm1, ve1, fvm1, fve1, Vo1, Vm1, Ve1, Vt1⟩ := Evs j (by omega)
        refine c_castS Vo1 k_X15 q1064 C dX1_riskOf_67 ?_
        refine g_astore (lv' := [some (.ref x), some (.int (nI s)), some (.int (nI t)), some (.int (stI X nv (nI s) (nI t))), some (.int (nI (rk1 (X 1) (nI s) (nI t) (rk0 (stI X nv (nI s) (nI t))) j))), some (.int (nI j)), some (.ref (vs j))]) C dX1_riskOf_70 (by decide) rfl ?_
        refine g_aload C dX1_riskOf_72 rfl ?_
        refine c_getN 13 0 k_X15 in_X15 (by decide) (fun _ h => h) q1103 SC_ Vo1 rfl C dX1_riskOf_74 ?_
        refine g_iload_n C dX1_riskOf_77 rfl rfl ?_
        refine g_icmp_ne 109 C dX1_riskOf_78 rfl (fun c78 => ?_) (fun c78 => ?_)
        · refine g_inc1 (x := j) (lv' := [some (.ref x), some (.int (nI s)), some (.int (nI t)), some (.int (stI X nv (nI s) (nI t))), some (.int (nI (rk1 (X 1) (nI s) (nI t) (rk0 (stI X nv (nI s) (nI t))) j))), some (.int (nI (j + 1))), some (.ref (vs j))]) C dX1_riskOf_109 rfl (by decide) rfl ?_
          refine g_goto 40 C dX1_riskOf_112 rfl ?_
          refine g_lveq (lv' := [some (.ref x), some (.int (nI s)), some (.int (nI t)), some (.int (stI X nv (nI s) (nI t))), some (.int (nI (rk1 (X 1) (nI s) (nI t) (rk0 (stI X nv (nI s) (nI t))) (j + 1)))), some (.int (nI (j + 1))), some (.ref (vs j))]) (by simp only [rk1]; rw [if_neg c78] <;> rfl) ?_
          exact g_lv (lv' := [some (.ref x), some (.int (nI s)), some (.int (nI t)), some (.int (stI X nv (nI s) (nI t))), some (.int (nI (rk1 (X 1) (nI s) (nI t) (rk0 (stI X nv (nI s) (nI t))) (j + 1)))), some (.int (nI (j + 1))), none]) (fun i w h => by match i, h with | 0, h => exact h | 1, h => exact h | 2, h => exact h | 3, h => exact h | 4, h => exact h | 5, h => exact h | 6, h => cases h) (ih)
        · refine g_aload C dX1_riskOf_81 rfl ?_
          refine h_callV (rest := []) 0 C (cc_visClosed B Vo1) (lw_V q1065 q1066 q1067 q122 q1068) ⟨⟨by decide, by decide, by decide +kernel⟩, ⟨Nat.le_of_ble_eq_true rfl, Nat.le_of_ble_eq_true rfl⟩, ⟨Nat.le_of_ble_eq_true rfl, Nat.le_of_ble_eq_true rfl⟩⟩ (fun _ h => h) (HP.recv C Vo1 k_X15) rfl rfl (Nat.le_of_ble_eq_true rfl) dX1_riskOf_83 (h_F ?_)
          refine g_topi (y := X 1 (61 + j)) (clI_eq (J.vi hj)) ?_
          refine g_if_eq 109 C dX1_riskOf_86 rfl (fun c86 => ?_) (fun c86 => ?_)
          · refine g_inc1 (x := j) (lv' := [some (.ref x), some (.int (nI s)), some (.int (nI t)), some (.int (stI X nv (nI s) (nI t))), some (.int (nI (rk1 (X 1) (nI s) (nI t) (rk0 (stI X nv (nI s) (nI t))) j))), some (.int (nI (j + 1))), some (.ref (vs j))]) C dX1_riskOf_109 rfl (by decide) rfl ?_
            refine g_goto 40 C dX1_riskOf_112 rfl ?_
            refine g_lveq (lv' := [some (.ref x), some (.int (nI s)), some (.int (nI t)), some (.int (stI X nv (nI s) (nI t))), some (.int (nI (rk1 (X 1) (nI s) (nI t) (rk0 (stI X nv (nI s) (nI t))) (j + 1)))), some (.int (nI (j + 1))), some (.ref (vs j))]) (by simp only [rk1]; rw [if_pos c78, if_neg (fun z : X 1 (61 + j) = 1 => absurd (c86.symm.trans z) (by decide))] <;> rfl) ?_
            exact g_lv (lv' := [some (.ref x), some (.int (nI s)), some (.int (nI t)), some (.int (stI X nv (nI s) (nI t))), some (.int (nI (rk1 (X 1) (nI s) (nI t) (rk0 (stI X nv (nI s) (nI t))) (j + 1)))), some (.int (nI (j + 1))), none]) (fun i w h => by match i, h with | 0, h => exact h | 1, h => exact h | 2, h => exact h | 3, h => exact h | 4, h => exact h | 5, h => exact h | 6, h => cases h) (ih)
          · refine g_aload C dX1_riskOf_89 rfl ?_
            refine c_getN 13 6 k_X15 in_X15 (by decide) (fun _ h => h) q1115 SC_ Vo1 rfl C dX1_riskOf_91 ?_
            refine g_if_eq 109 C dX1_riskOf_94 rfl (fun c94 => ?_) (fun c94 => ?_)
            · refine g_inc1 (x := j) (lv' := [some (.ref x), some (.int (nI s)), some (.int (nI t)), some (.int (stI X nv (nI s) (nI t))), some (.int (nI (rk1 (X 1) (nI s) (nI t) (rk0 (stI X nv (nI s) (nI t))) j))), some (.int (nI (j + 1))), some (.ref (vs j))]) C dX1_riskOf_109 rfl (by decide) rfl ?_
              refine g_goto 40 C dX1_riskOf_112 rfl ?_
              refine g_lveq (lv' := [some (.ref x), some (.int (nI s)), some (.int (nI t)), some (.int (stI X nv (nI s) (nI t))), some (.int (nI (rk1 (X 1) (nI s) (nI t) (rk0 (stI X nv (nI s) (nI t))) (j + 1)))), some (.int (nI (j + 1))), some (.ref (vs j))]) (by simp only [rk1]; rw [if_pos c78, if_pos (show X 1 (61 + j) = 1 from ((J.vi hj).c01).resolve_left c86), if_pos ((q_le0 (J.vi hj)).mpr ((vVd_cl (show X 1 (61 + j) = 1 from ((J.vi hj).c01).resolve_left c86)).symm.trans c94)), ite_self] <;> rfl) ?_
              exact g_lv (lv' := [some (.ref x), some (.int (nI s)), some (.int (nI t)), some (.int (stI X nv (nI s) (nI t))), some (.int (nI (rk1 (X 1) (nI s) (nI t) (rk0 (stI X nv (nI s) (nI t))) (j + 1)))), some (.int (nI (j + 1))), none]) (fun i w h => by match i, h with | 0, h => exact h | 1, h => exact h | 2, h => exact h | 3, h => exact h | 4, h => exact h | 5, h => exact h | 6, h => cases h) (ih)
            · refine g_aload C dX1_riskOf_97 rfl ?_
              refine c_getN 13 1 k_X15 in_X15 (by decide) (fun _ h => h) q1105 SC_ Vo1 rfl C dX1_riskOf_99 ?_
              refine g_iload_n C dX1_riskOf_102 rfl rfl ?_
              refine g_icmp_gt 109 C dX1_riskOf_103 rfl (fun c103 => ?_) (fun c103 => ?_)
              · refine g_inc1 (x := j) (lv' := [some (.ref x), some (.int (nI s)), some (.int (nI t)), some (.int (stI X nv (nI s) (nI t))), some (.int (nI (rk1 (X 1) (nI s) (nI t) (rk0 (stI X nv (nI s) (nI t))) j))), some (.int (nI (j + 1))), some (.ref (vs j))]) C dX1_riskOf_109 rfl (by decide) rfl ?_
                refine g_goto 40 C dX1_riskOf_112 rfl ?_
                refine g_lveq (lv' := [some (.ref x), some (.int (nI s)), some (.int (nI t)), some (.int (stI X nv (nI s) (nI t))), some (.int (nI (rk1 (X 1) (nI s) (nI t) (rk0 (stI X nv (nI s) (nI t))) (j + 1)))), some (.int (nI (j + 1))), some (.ref (vs j))]) (by simp only [rk1]; rw [if_pos c78, if_pos (show X 1 (61 + j) = 1 from ((J.vi hj).c01).resolve_left c86), if_pos c103] <;> rfl) ?_
                exact g_lv (lv' := [some (.ref x), some (.int (nI s)), some (.int (nI t)), some (.int (stI X nv (nI s) (nI t))), some (.int (nI (rk1 (X 1) (nI s) (nI t) (rk0 (stI X nv (nI s) (nI t))) (j + 1)))), some (.int (nI (j + 1))), none]) (fun i w h => by match i, h with | 0, h => exact h | 1, h => exact h | 2, h => exact h | 3, h => exact h | 4, h => exact h | 5, h => exact h | 6, h => cases h) (ih)
              · refine g_inc1 (x := rk1 (X 1) (nI s) (nI t) (rk0 (stI X nv (nI s) (nI t))) j) (lv' := [some (.ref x), some (.int (nI s)), some (.int (nI t)), some (.int (stI X nv (nI s) (nI t))), some (.int (nI (rk1 (X 1) (nI s) (nI t) (rk0 (stI X nv (nI s) (nI t))) j + 1))), some (.int (nI j)), some (.ref (vs j))]) C dX1_riskOf_106 rfl (by decide) rfl ?_
                refine g_inc1 (x := j) (lv' := [some (.ref x), some (.int (nI s)), some (.int (nI t)), some (.int (stI X nv (nI s) (nI t))), some (.int (nI (rk1 (X 1) (nI s) (nI t) (rk0 (stI X nv (nI s) (nI t))) j + 1))), some (.int (nI (j + 1))), some (.ref (vs j))]) C dX1_riskOf_109 rfl (by decide) rfl ?_
                refine g_goto 40 C dX1_riskOf_112 rfl ?_
                refine g_lveq (lv' := [some (.ref x), some (.int (nI s)), some (.int (nI t)), some (.int (stI X nv (nI s) (nI t))), some (.int (nI (rk1 (X 1) (nI s) (nI t) (rk0 (stI X nv (nI s) (nI t))) (j + 1)))), some (.int (nI (j + 1))), some (.ref (vs j))]) (by simp only [rk1]; rw [if_pos c78, if_pos (show X 1 (61 + j) = 1 from ((J.vi hj).c01).resolve_left c86), if_neg c103, if_neg (fun z => c94 ((vVd_cl (show X 1 (61 + j) = 1 from ((J.vi hj).c01).resolve_left c86)).trans ((q_le0 (J.vi hj)).mp z)))] <;> rfl) ?_
                exact g_lv (lv' := [some (.ref x), some (.int (nI s)), some (.int (nI t)), some (.int (stI X nv (nI s) (nI t))), some (.int (nI (rk1 (X 1) (nI s) (nI t) (rk0 (stI X nv (nI s) (nI t))) (j + 1)))), some (.int (nI (j + 1))), none]) (fun i w h => by match i, h with | 0, h => exact h | 1, h => exact h | 2, h => exact h | 3, h => exact h | 4, h => exact h | 5, h => exact h | 6, h => cases h) (ih)
  refine g_aload_n C dX1_riskOf_0 rfl rfl ?_
  refine g_iload_n C dX1_riskOf_1 rfl rfl ?_
  refine g_iload_n C dX1_riskOf_2 rfl rfl ?_
  refine h_callV (rest := []) 2 C (cc_stateOf B J R_ _ t (by omega)) (lw_V q1272 q1274 qs31 q86 q1275) ⟨⟨by decide, by decide, by decide +kernel⟩, ⟨Nat.le_of_ble_eq_true rfl, Nat.le_of_ble_eq_true rfl⟩, ⟨Nat.le_of_ble_eq_true rfl, Nat.le_of_ble_eq_true rfl⟩⟩ (fun _ h => h) (HP.recv C Rx k_X1) rfl rfl (Nat.le_of_ble_eq_true rfl) dX1_riskOf_3 (h_F ?_)
  refine g_istore_n (lv' := [some (.ref x), some (.int (nI s)), some (.int (nI t)), some (.int (stI X nv (nI s) (nI t))), none, none, none]) C dX1_riskOf_6 rfl (by decide) rfl ?_
  refine g_iload_n C dX1_riskOf_7 rfl rfl ?_
  refine g_if_ne 15 C dX1_riskOf_8 rfl (fun c8 => ?_) (fun c8 => ?_)
  · refine g_iload_n C dX1_riskOf_15 rfl rfl ?_
    refine g_iconst (v := 1) C dX1_riskOf_16 rfl ?_
    refine g_icmp_ne 24 C dX1_riskOf_17 rfl (fun c17 => ?_) (fun c17 => ?_)
    · refine g_iload_n C dX1_riskOf_24 rfl rfl ?_
      refine g_iconst (v := 2) C dX1_riskOf_25 rfl ?_
      refine g_icmp_ne 33 C dX1_riskOf_26 rfl (fun c26 => ?_) (fun c26 => ?_)
      · refine g_bipush (v := 6) C dX1_riskOf_33 rfl ?_
        refine g_topi (y := nI (rk0 (stI X nv (nI s) (nI t)))) (by simp only [rk0, if_neg c8, if_neg c17, if_neg c26]; rfl) ?_
        refine g_istore (lv' := [some (.ref x), some (.int (nI s)), some (.int (nI t)), some (.int (stI X nv (nI s) (nI t))), some (.int (nI (rk0 (stI X nv (nI s) (nI t))))), none, none]) C dX1_riskOf_35 (by decide) rfl ?_
        refine g_iconst (v := 0) C dX1_riskOf_37 rfl ?_
        refine g_istore (lv' := [some (.ref x), some (.int (nI s)), some (.int (nI t)), some (.int (stI X nv (nI s) (nI t))), some (.int (nI (rk0 (stI X nv (nI s) (nI t))))), some (.int 0), none]) C dX1_riskOf_38 (by decide) rfl ?_
        exact j40
      · refine g_iconst (v := 3) C dX1_riskOf_29 rfl ?_
        refine g_goto 35 C dX1_riskOf_30 rfl ?_
        refine g_topi (y := nI (rk0 (stI X nv (nI s) (nI t)))) (by simp only [rk0, if_neg c8, if_neg c17, if_pos c26]; rfl) ?_
        refine g_istore (lv' := [some (.ref x), some (.int (nI s)), some (.int (nI t)), some (.int (stI X nv (nI s) (nI t))), some (.int (nI (rk0 (stI X nv (nI s) (nI t))))), none, none]) C dX1_riskOf_35 (by decide) rfl ?_
        refine g_iconst (v := 0) C dX1_riskOf_37 rfl ?_
        refine g_istore (lv' := [some (.ref x), some (.int (nI s)), some (.int (nI t)), some (.int (stI X nv (nI s) (nI t))), some (.int (nI (rk0 (stI X nv (nI s) (nI t))))), some (.int 0), none]) C dX1_riskOf_38 (by decide) rfl ?_
        exact j40
    · refine g_iconst (v := 1) C dX1_riskOf_20 rfl ?_
      refine g_goto 35 C dX1_riskOf_21 rfl ?_
      refine g_topi (y := nI (rk0 (stI X nv (nI s) (nI t)))) (by simp only [rk0, if_neg c8, if_pos c17]; rfl) ?_
      refine g_istore (lv' := [some (.ref x), some (.int (nI s)), some (.int (nI t)), some (.int (stI X nv (nI s) (nI t))), some (.int (nI (rk0 (stI X nv (nI s) (nI t))))), none, none]) C dX1_riskOf_35 (by decide) rfl ?_
      refine g_iconst (v := 0) C dX1_riskOf_37 rfl ?_
      refine g_istore (lv' := [some (.ref x), some (.int (nI s)), some (.int (nI t)), some (.int (stI X nv (nI s) (nI t))), some (.int (nI (rk0 (stI X nv (nI s) (nI t))))), some (.int 0), none]) C dX1_riskOf_38 (by decide) rfl ?_
      exact j40
  · refine g_iconst (v := 4) C dX1_riskOf_11 rfl ?_
    refine g_goto 35 C dX1_riskOf_12 rfl ?_
    refine g_topi (y := nI (rk0 (stI X nv (nI s) (nI t)))) (by simp only [rk0, if_pos c8]; rfl) ?_
    refine g_istore (lv' := [some (.ref x), some (.int (nI s)), some (.int (nI t)), some (.int (stI X nv (nI s) (nI t))), some (.int (nI (rk0 (stI X nv (nI s) (nI t))))), none, none]) C dX1_riskOf_35 (by decide) rfl ?_
    refine g_iconst (v := 0) C dX1_riskOf_37 rfl ?_
    refine g_istore (lv' := [some (.ref x), some (.int (nI s)), some (.int (nI t)), some (.int (stI X nv (nI s) (nI t))), some (.int (nI (rk0 (stI X nv (nI s) (nI t))))), some (.int 0), none]) C dX1_riskOf_38 (by decide) rfl ?_
    exact j40
set_option maxRecDepth 100000 in
theorem cc_risk {l : Launch} {Γ : Gm} {A : Nat → Prop} {ρ : State → Prop} (B : Bc l Γ A ρ) {h : Hp} {F : Nat → Int32} {X : Nat → Nat → Int32} {nt ns nm ne nv nu ln : Nat} (J : Iv F X nt ns nm ne nv nu ln) {x : Nat} (R_ : RepC Γ F X nt ns nm ne nv nu h x) (scale day : Int32) : CtF l Γ A ρ yX1_risk cX1_risk 3 (some .int) { frames := 7, cells := 0, slots := 0, locals := 155 } [.ref x, .int scale, .int day] h (some (.int (atI scale ns (fun j => atI day 10000 (fun t => nI (riN X ns nv j (nI t))))))) h := by
  refine Ct.of B.1.1 B.1.2 (by decide) [some (.ref x), some (.int scale), some (.int day)] (Nat.le_of_ble_eq_true rfl) rfl ?_
  intro E hE C R
  subst hE
  have SC_ := B.2 _ C.r
  have ht_ := J.lt
  have hs_ := J.ls
  have hm_ := J.lm
  have he_ := J.le
  have hu_ := J.lu
  have hl_ := J.ll
  have hv_ := J.lv
  obtain ⟨bu, mk, en, hi, sn, so, b7, b8, hs, fsn, fso, Rx, Rb, RK, RE, RH, RS, RA, RO⟩ := id R_
  obtain ⟨sl, wl, ma, te, fm, ft, ss, wq, Km, Kma, Kfm, Kte, Kft, Ksl, Kss, Kwl, Kws⟩ := id RK
  obtain ⟨vl, el, vs, es, Ee, E0, Evl, Eel, Evs, Ees⟩ := id RE
  refine g_aload_n C dX1_risk_0 rfl rfl ?_
  refine g_iload_n C dX1_risk_1 rfl rfl ?_
  refine h_callV (rest := []) 1 C (cc_isScale B J R_ _) (lw_V q1011 q1013 qs16 q86 q1014) ⟨⟨by decide, by decide, by decide +kernel⟩, ⟨Nat.le_of_ble_eq_true rfl, Nat.le_of_ble_eq_true rfl⟩, ⟨Nat.le_of_ble_eq_true rfl, Nat.le_of_ble_eq_true rfl⟩⟩ (fun _ h => h) (HP.recv C Rx k_X1) rfl rfl (Nat.le_of_ble_eq_true rfl) dX1_risk_2 (h_F ?_)
  refine g_if_eq 24 C dX1_risk_5 rfl (fun c5 => ?_) (fun c5 => ?_)
  · refine g_iconst (v := (-1)) C dX1_risk_24 rfl ?_
    exact g_iret C R (Nat.le_of_ble_eq_true rfl) (Nat.le_of_ble_eq_true rfl) dX1_risk_25 (fun H hH => ⟨by rw [atI_out c5], hH⟩)
  · obtain ⟨j_scale, hj_scale, rfl⟩ := ixI_in (by omega) c5
    refine g_iload_n C dX1_risk_8 rfl rfl ?_
    refine h_callS (rest := []) 1 C (cc_isDay B.1 _ _) (lw_S q1060 q1061 q86 q1062) ⟨⟨by decide, by decide, by decide +kernel⟩, ⟨Nat.le_of_ble_eq_true rfl, Nat.le_of_ble_eq_true rfl⟩, ⟨Nat.le_of_ble_eq_true rfl, Nat.le_of_ble_eq_true rfl⟩⟩ (fun _ h => h) rfl rfl (Nat.le_of_ble_eq_true rfl) dX1_risk_9 (h_P ?_)
    refine g_if_eq 24 C dX1_risk_12 rfl (fun c12 => ?_) (fun c12 => ?_)
    · refine g_iconst (v := (-1)) C dX1_risk_24 rfl ?_
      exact g_iret C R (Nat.le_of_ble_eq_true rfl) (Nat.le_of_ble_eq_true rfl) dX1_risk_25 (fun H hH => ⟨by rw [atI_in hj_scale (by omega), atI_out c12], hH⟩)
    · obtain ⟨j_day, hj_day, rfl⟩ := ixI_in (by omega) c12
      refine g_aload_n C dX1_risk_15 rfl rfl ?_
      refine g_iload_n C dX1_risk_16 rfl rfl ?_
      refine g_iload_n C dX1_risk_17 rfl rfl ?_
      refine h_callV (rest := []) 2 C (cc_riskOf B J R_ j_scale (by omega) j_day (by omega)) (lw_V q1297 q1299 qs34 q86 q1300) ⟨⟨by decide, by decide, by decide +kernel⟩, ⟨Nat.le_of_ble_eq_true rfl, Nat.le_of_ble_eq_true rfl⟩, ⟨Nat.le_of_ble_eq_true rfl, Nat.le_of_ble_eq_true rfl⟩⟩ (fun _ h => h) (HP.recv C Rx k_X1) rfl rfl (Nat.le_of_ble_eq_true rfl) dX1_risk_18 (h_F ?_)
      refine g_goto 25 C dX1_risk_21 rfl ?_
      exact g_iret C R (Nat.le_of_ble_eq_true rfl) (Nat.le_of_ble_eq_true rfl) dX1_risk_25 (fun H hH => ⟨by rw [atI_in hj_scale (by omega), atI_in hj_day (by omega)], hH⟩)
set_option maxRecDepth 100000 in
theorem cc_traderRisk {l : Launch} {Γ : Gm} {A : Nat → Prop} {ρ : State → Prop} (B : Bc l Γ A ρ) {h : Hp} {F : Nat → Int32} {X : Nat → Nat → Int32} {nt ns nm ne nv nu ln : Nat} (J : Iv F X nt ns nm ne nv nu ln) {x : Nat} (R_ : RepC Γ F X nt ns nm ne nv nu h x) (tr t : Nat) (htt : t ≤ 9999) : CtF l Γ A ρ yX1_traderRisk cX1_traderRisk 5 (some .int) { frames := 7, cells := 0, slots := 0, locals := 155 } [.ref x, .int (nI tr), .int (nI t)] h (some (.int (nI (smN X ns nv tr (nI t) ns)))) h := by
  refine Ct.of B.1.1 B.1.2 (by decide) [some (.ref x), some (.int (nI tr)), some (.int (nI t)), none, none] (Nat.le_of_ble_eq_true rfl) rfl ?_
  intro E hE C R
  subst hE
  have SC_ := B.2 _ C.r
  have ht_ := J.lt
  have hs_ := J.ls
  have hm_ := J.lm
  have he_ := J.le
  have hu_ := J.lu
  have hl_ := J.ll
  have hv_ := J.lv
  obtain ⟨bu, mk, en, hi, sn, so, b7, b8, hs, fsn, fso, Rx, Rb, RK, RE, RH, RS, RA, RO⟩ := id R_
  obtain ⟨sl, wl, ma, te, fm, ft, ss, wq, Km, Kma, Kfm, Kte, Kft, Ksl, Kss, Kwl, Kws⟩ := id RK
  obtain ⟨vl, el, vs, es, Ee, E0, Evl, Eel, Evs, Ees⟩ := id RE
  refine g_iconst (v := 0) C dX1_traderRisk_0 rfl ?_
  refine g_istore_n (lv' := [some (.ref x), some (.int (nI tr)), some (.int (nI t)), some (.int 0), none]) C dX1_traderRisk_1 rfl (by decide) rfl ?_
  refine g_iconst (v := 0) C dX1_traderRisk_2 rfl ?_
  refine g_istore (lv' := [some (.ref x), some (.int (nI tr)), some (.int (nI t)), some (.int 0), some (.int 0)]) C dX1_traderRisk_3 (by decide) rfl ?_
  refine g_for (P := fun j => G E (HP Γ A h) 0 0 5 [some (.ref x), some (.int (nI tr)), some (.int (nI t)), some (.int (nI (smN X ns nv tr (nI t) j))), some (.int (nI j))] []) ns ?_ ?_ 0 (Nat.zero_le _)
  · refine g_iload C dX1_traderRisk_5 rfl ?_
    refine g_aload_n C dX1_traderRisk_7 rfl rfl ?_
    refine c_get 0 3 k_X1 in_X1 (by decide) (fun _ h => h) q539 Rx rfl C dX1_traderRisk_8 ?_
    refine c_getN 1 0 k_X2 in_X2 (by decide) (fun _ h => h) q483 SC_ Km rfl C dX1_traderRisk_11 ?_
    refine h_callV (rest := [.int (nI ns)]) 0 C (cc_size B Ksl) (lw_V q939 q770 q771 q90 q772) ⟨⟨by decide, by decide, by decide +kernel⟩, ⟨Nat.le_of_ble_eq_true rfl, Nat.le_of_ble_eq_true rfl⟩, ⟨Nat.le_of_ble_eq_true rfl, Nat.le_of_ble_eq_true rfl⟩⟩ (fun _ h => h) (Ksl.recv C) rfl rfl (Nat.le_of_ble_eq_true rfl) dX1_traderRisk_14 (h_F ?_)
    refine gN_ge (a := ns) (b := ns) 58 C dX1_traderRisk_17 rfl (by omega) (by omega) (fun c17 => ?_) (fun c17 => ?_)
    · refine g_iload_n C dX1_traderRisk_58 rfl rfl ?_
      exact g_iret C R (Nat.le_of_ble_eq_true rfl) (Nat.le_of_ble_eq_true rfl) dX1_traderRisk_59 (fun H hH => ⟨rfl, hH⟩)
    · exfalso; omega
  · intro j hj ih
    replace ih : G E (HP Γ A h) 0 0 5 [some (.ref x), some (.int (nI tr)), some (.int (nI t)), some (.int (nI (smN X ns nv tr (nI t) (j + 1)))), some (.int (nI (j + 1)))] [] := ih
    refine g_iload C dX1_traderRisk_5 rfl ?_
    refine g_aload_n C dX1_traderRisk_7 rfl rfl ?_
    refine c_get 0 3 k_X1 in_X1 (by decide) (fun _ h => h) q539 Rx rfl C dX1_traderRisk_8 ?_
    refine c_getN 1 0 k_X2 in_X2 (by decide) (fun _ h => h) q483 SC_ Km rfl C dX1_traderRisk_11 ?_
    refine h_callV (rest := [.int (nI j)]) 0 C (cc_size B Ksl) (lw_V q939 q770 q771 q90 q772) ⟨⟨by decide, by decide, by decide +kernel⟩, ⟨Nat.le_of_ble_eq_true rfl, Nat.le_of_ble_eq_true rfl⟩, ⟨Nat.le_of_ble_eq_true rfl, Nat.le_of_ble_eq_true rfl⟩⟩ (fun _ h => h) (Ksl.recv C) rfl rfl (Nat.le_of_ble_eq_true rfl) dX1_traderRisk_14 (h_F ?_)
    refine gN_ge (a := j) (b := ns) 58 C dX1_traderRisk_17 rfl (by omega) (by omega) (fun c17 => ?_) (fun c17 => ?_)
    · exfalso; omega
    · refine g_aload_n C dX1_traderRisk_20 rfl rfl ?_
      refine c_get 0 3 k_X1 in_X1 (by decide) (fun _ h => h) q539 Rx rfl C dX1_traderRisk_21 ?_
      refine c_getN 1 0 k_X2 in_X2 (by decide) (fun _ h => h) q483 SC_ Km rfl C dX1_traderRisk_24 ?_
      refine g_iload C dX1_traderRisk_27 rfl ?_
      refine h_callV (rest := []) 1 C (cc_get B Ksl j (by omega)) (lw_V q940 q941 q942 q90 q943) ⟨⟨by decide, by decide, by decide +kernel⟩, ⟨Nat.le_of_ble_eq_true rfl, Nat.le_of_ble_eq_true rfl⟩, ⟨Nat.le_of_ble_eq_true rfl, Nat.le_of_ble_eq_true rfl⟩⟩ (fun _ h => h) (Ksl.recv C) rfl rfl (Nat.le_of_ble_eq_true rfl) dX1_traderRisk_29 (h_F ?_)
      refine c_castS (Kss j (by omega)) k_X11 q1015 C dX1_traderRisk_32 ?_
      refine c_getN 10 0 k_X11 in_X11 (by decide) (fun _ h => h) q818 SC_ (Kss j (by omega)) rfl C dX1_traderRisk_35 ?_
      refine g_iload_n C dX1_traderRisk_38 rfl rfl ?_
      refine g_icmp_ne 52 C dX1_traderRisk_39 rfl (fun c39 => ?_) (fun c39 => ?_)
      · refine g_inc1 (x := j) (lv' := [some (.ref x), some (.int (nI tr)), some (.int (nI t)), some (.int (nI (smN X ns nv tr (nI t) j))), some (.int (nI (j + 1)))]) C dX1_traderRisk_52 rfl (by decide) rfl ?_
        refine g_goto 5 C dX1_traderRisk_55 rfl ?_
        refine g_lveq (lv' := [some (.ref x), some (.int (nI tr)), some (.int (nI t)), some (.int (nI (smN X ns nv tr (nI t) (j + 1)))), some (.int (nI (j + 1)))]) (by simp only [smN, if_neg c39] <;> rfl) ?_
        exact ih
      · refine g_iload_n C dX1_traderRisk_42 rfl rfl ?_
        refine g_aload_n C dX1_traderRisk_43 rfl rfl ?_
        refine g_iload C dX1_traderRisk_44 rfl ?_
        refine g_iload_n C dX1_traderRisk_46 rfl rfl ?_
        refine h_callV (rest := [.int (nI (smN X ns nv tr (nI t) j))]) 2 C (cc_riskOf B J R_ j (by omega) t (by omega)) (lw_V q1297 q1299 qs34 q86 q1300) ⟨⟨by decide, by decide, by decide +kernel⟩, ⟨Nat.le_of_ble_eq_true rfl, Nat.le_of_ble_eq_true rfl⟩, ⟨Nat.le_of_ble_eq_true rfl, Nat.le_of_ble_eq_true rfl⟩⟩ (fun _ h => h) (HP.recv C Rx k_X1) rfl rfl (Nat.le_of_ble_eq_true rfl) dX1_traderRisk_47 (h_F ?_)
        refine g_iadd C dX1_traderRisk_50 ?_
        refine g_topi (y := nI (smN X ns nv tr (nI t) j + riN X ns nv j (nI t))) (nI_add (smN X ns nv tr (nI t) j) (riN X ns nv j (nI t))) ?_
        refine g_istore_n (lv' := [some (.ref x), some (.int (nI tr)), some (.int (nI t)), some (.int (nI (smN X ns nv tr (nI t) j + riN X ns nv j (nI t)))), some (.int (nI j))]) C dX1_traderRisk_51 rfl (by decide) rfl ?_
        refine g_inc1 (x := j) (lv' := [some (.ref x), some (.int (nI tr)), some (.int (nI t)), some (.int (nI (smN X ns nv tr (nI t) j + riN X ns nv j (nI t)))), some (.int (nI (j + 1)))]) C dX1_traderRisk_52 rfl (by decide) rfl ?_
        refine g_goto 5 C dX1_traderRisk_55 rfl ?_
        refine g_lveq (lv' := [some (.ref x), some (.int (nI tr)), some (.int (nI t)), some (.int (nI (smN X ns nv tr (nI t) (j + 1)))), some (.int (nI (j + 1)))]) (by simp only [smN, if_pos c39] <;> rfl) ?_
        exact ih
set_option maxRecDepth 100000 in
theorem cc_riskiest {l : Launch} {Γ : Gm} {A : Nat → Prop} {ρ : State → Prop} (B : Bc l Γ A ρ) {h : Hp} {F : Nat → Int32} {X : Nat → Nat → Int32} {nt ns nm ne nv nu ln : Nat} (J : Iv F X nt ns nm ne nv nu ln) {x : Nat} (R_ : RepC Γ F X nt ns nm ne nv nu h x) (day : Int32) : CtF l Γ A ρ yX1_riskiestTrader cX1_riskiestTrader 6 (some .int) { frames := 8, cells := 0, slots := 0, locals := 179 } [.ref x, .int day] h (some (.int (atI day 10000 (fun t => rtI X ns nv (nI t) nt)))) h := by
  refine Ct.of B.1.1 B.1.2 (by decide) [some (.ref x), some (.int day), none, none, none, none] (Nat.le_of_ble_eq_true rfl) rfl ?_
  intro E hE C R
  subst hE
  have SC_ := B.2 _ C.r
  have ht_ := J.lt
  have hs_ := J.ls
  have hm_ := J.lm
  have he_ := J.le
  have hu_ := J.lu
  have hl_ := J.ll
  have hv_ := J.lv
  obtain ⟨bu, mk, en, hi, sn, so, b7, b8, hs, fsn, fso, Rx, Rb, RK, RE, RH, RS, RA, RO⟩ := id R_
  obtain ⟨sl, wl, ma, te, fm, ft, ss, wq, Km, Kma, Kfm, Kte, Kft, Ksl, Kss, Kwl, Kws⟩ := id RK
  obtain ⟨vl, el, vs, es, Ee, E0, Evl, Eel, Evs, Ees⟩ := id RE
  refine g_iload_n C dX1_riskiestTrader_0 rfl rfl ?_
  refine h_callS (rest := []) 1 C (cc_isDay B.1 _ _) (lw_S q1060 q1061 q86 q1062) ⟨⟨by decide, by decide, by decide +kernel⟩, ⟨Nat.le_of_ble_eq_true rfl, Nat.le_of_ble_eq_true rfl⟩, ⟨Nat.le_of_ble_eq_true rfl, Nat.le_of_ble_eq_true rfl⟩⟩ (fun _ h => h) rfl rfl (Nat.le_of_ble_eq_true rfl) dX1_riskiestTrader_1 (h_P ?_)
  refine g_if_ne 9 C dX1_riskiestTrader_4 rfl (fun c4 => ?_) (fun c4 => ?_)
  · obtain ⟨j_day, hj_day, rfl⟩ := ixI_in (by omega) c4
    refine g_bipush (v := (-2)) C dX1_riskiestTrader_9 rfl ?_
    refine g_istore_n (lv' := [some (.ref x), some (.int (nI j_day)), some (.int (-2)), none, none, none]) C dX1_riskiestTrader_11 rfl (by decide) rfl ?_
    refine g_iconst (v := (-1)) C dX1_riskiestTrader_12 rfl ?_
    refine g_istore_n (lv' := [some (.ref x), some (.int (nI j_day)), some (.int (-2)), some (.int (-1)), none, none]) C dX1_riskiestTrader_13 rfl (by decide) rfl ?_
    refine g_iconst (v := 0) C dX1_riskiestTrader_14 rfl ?_
    refine g_istore (lv' := [some (.ref x), some (.int (nI j_day)), some (.int (-2)), some (.int (-1)), some (.int 0), none]) C dX1_riskiestTrader_15 (by decide) rfl ?_
    refine g_for (P := fun j => G E (HP Γ A h) 0 0 17 [some (.ref x), some (.int (nI j_day)), some (.int (rtI X ns nv (nI j_day) j)), some (.int (rtM X ns nv (nI j_day) j)), some (.int (nI j)), none] []) nt ?_ ?_ 0 (Nat.zero_le _)
    · refine g_iload C dX1_riskiestTrader_17 rfl ?_
      refine g_aload_n C dX1_riskiestTrader_19 rfl rfl ?_
      refine c_get 0 3 k_X1 in_X1 (by decide) (fun _ h => h) q539 Rx rfl C dX1_riskiestTrader_20 ?_
      refine c_getN 1 4 k_X2 in_X2 (by decide) (fun _ h => h) q494 SC_ Km rfl C dX1_riskiestTrader_23 ?_
      refine gN_ge (a := nt) (b := nt) 59 C dX1_riskiestTrader_26 rfl (by omega) (by omega) (fun c26 => ?_) (fun c26 => ?_)
      · refine g_iload_n C dX1_riskiestTrader_59 rfl rfl ?_
        exact g_iret C R (Nat.le_of_ble_eq_true rfl) (Nat.le_of_ble_eq_true rfl) dX1_riskiestTrader_60 (fun H hH => ⟨by rw [atI_in hj_day (by omega)], hH⟩)
      · exfalso; omega
    · intro j hj ih
      replace ih : G E (HP Γ A h) 0 0 17 [some (.ref x), some (.int (nI j_day)), some (.int (rtI X ns nv (nI j_day) (j + 1))), some (.int (rtM X ns nv (nI j_day) (j + 1))), some (.int (nI (j + 1))), none] [] := ih
      refine g_iload C dX1_riskiestTrader_17 rfl ?_
      refine g_aload_n C dX1_riskiestTrader_19 rfl rfl ?_
      refine c_get 0 3 k_X1 in_X1 (by decide) (fun _ h => h) q539 Rx rfl C dX1_riskiestTrader_20 ?_
      refine c_getN 1 4 k_X2 in_X2 (by decide) (fun _ h => h) q494 SC_ Km rfl C dX1_riskiestTrader_23 ?_
      refine gN_ge (a := j) (b := nt) 59 C dX1_riskiestTrader_26 rfl (by omega) (by omega) (fun c26 => ?_) (fun c26 => ?_)
      · exfalso; omega
      · refine g_aload_n C dX1_riskiestTrader_29 rfl rfl ?_
        refine g_iload C dX1_riskiestTrader_30 rfl ?_
        refine g_iload_n C dX1_riskiestTrader_32 rfl rfl ?_
        refine h_callV (rest := []) 2 C (cc_traderRisk B J R_ j j_day (by omega)) (lw_V q1305 q1307 qs35 q86 q1308) ⟨⟨by decide, by decide, by decide +kernel⟩, ⟨Nat.le_of_ble_eq_true rfl, Nat.le_of_ble_eq_true rfl⟩, ⟨Nat.le_of_ble_eq_true rfl, Nat.le_of_ble_eq_true rfl⟩⟩ (fun _ h => h) (HP.recv C Rx k_X1) rfl rfl (Nat.le_of_ble_eq_true rfl) dX1_riskiestTrader_33 (h_F ?_)
        refine g_istore (lv' := [some (.ref x), some (.int (nI j_day)), some (.int (rtI X ns nv (nI j_day) j)), some (.int (rtM X ns nv (nI j_day) j)), some (.int (nI j)), some (.int (nI (smN X ns nv j (nI j_day) ns)))]) C dX1_riskiestTrader_36 (by decide) rfl ?_
        refine g_iload C dX1_riskiestTrader_38 rfl ?_
        refine g_iload_n C dX1_riskiestTrader_40 rfl rfl ?_
        refine g_icmp_gt 47 C dX1_riskiestTrader_41 rfl (fun c41 => ?_) (fun c41 => ?_)
        · refine g_iload C dX1_riskiestTrader_47 rfl ?_
          refine g_istore_n (lv' := [some (.ref x), some (.int (nI j_day)), some (.int (nI j)), some (.int (rtM X ns nv (nI j_day) j)), some (.int (nI j)), some (.int (nI (smN X ns nv j (nI j_day) ns)))]) C dX1_riskiestTrader_49 rfl (by decide) rfl ?_
          refine g_iload C dX1_riskiestTrader_50 rfl ?_
          refine g_istore_n (lv' := [some (.ref x), some (.int (nI j_day)), some (.int (nI j)), some (.int (nI (smN X ns nv j (nI j_day) ns))), some (.int (nI j)), some (.int (nI (smN X ns nv j (nI j_day) ns)))]) C dX1_riskiestTrader_52 rfl (by decide) rfl ?_
          refine g_inc1 (x := j) (lv' := [some (.ref x), some (.int (nI j_day)), some (.int (nI j)), some (.int (nI (smN X ns nv j (nI j_day) ns))), some (.int (nI (j + 1))), some (.int (nI (smN X ns nv j (nI j_day) ns)))]) C dX1_riskiestTrader_53 rfl (by decide) rfl ?_
          refine g_goto 17 C dX1_riskiestTrader_56 rfl ?_
          refine g_lveq (lv' := [some (.ref x), some (.int (nI j_day)), some (.int (rtI X ns nv (nI j_day) (j + 1))), some (.int (rtM X ns nv (nI j_day) (j + 1))), some (.int (nI (j + 1))), some (.int (nI (smN X ns nv j (nI j_day) ns)))]) (by simp only [rtI, rtM]; rw [if_neg (fun z => lele z c41), if_neg (fun z => lele z c41)]) ?_
          exact g_lv (lv' := [some (.ref x), some (.int (nI j_day)), some (.int (rtI X ns nv (nI j_day) (j + 1))), some (.int (rtM X ns nv (nI j_day) (j + 1))), some (.int (nI (j + 1))), none]) (fun i w h => by match i, h with | 0, h => exact h | 1, h => exact h | 2, h => exact h | 3, h => exact h | 4, h => exact h | 5, h => cases h) (ih)
        · refine g_goto 53 C dX1_riskiestTrader_44 rfl ?_
          refine g_inc1 (x := j) (lv' := [some (.ref x), some (.int (nI j_day)), some (.int (rtI X ns nv (nI j_day) j)), some (.int (rtM X ns nv (nI j_day) j)), some (.int (nI (j + 1))), some (.int (nI (smN X ns nv j (nI j_day) ns)))]) C dX1_riskiestTrader_53 rfl (by decide) rfl ?_
          refine g_goto 17 C dX1_riskiestTrader_56 rfl ?_
          refine g_lveq (lv' := [some (.ref x), some (.int (nI j_day)), some (.int (rtI X ns nv (nI j_day) (j + 1))), some (.int (rtM X ns nv (nI j_day) (j + 1))), some (.int (nI (j + 1))), some (.int (nI (smN X ns nv j (nI j_day) ns)))]) (by simp only [rtI, rtM]; rw [if_pos (nle_lt.mp c41), if_pos (nle_lt.mp c41)]) ?_
          exact g_lv (lv' := [some (.ref x), some (.int (nI j_day)), some (.int (rtI X ns nv (nI j_day) (j + 1))), some (.int (rtM X ns nv (nI j_day) (j + 1))), some (.int (nI (j + 1))), none]) (fun i w h => by match i, h with | 0, h => exact h | 1, h => exact h | 2, h => exact h | 3, h => exact h | 4, h => exact h | 5, h => cases h) (ih)
  · refine g_iconst (v := (-1)) C dX1_riskiestTrader_7 rfl ?_
    exact g_iret C R (Nat.le_of_ble_eq_true rfl) (Nat.le_of_ble_eq_true rfl) dX1_riskiestTrader_8 (fun H hH => ⟨by rw [atI_out c4], hH⟩)
