theorem res3 {j : Nat} (h : j < 3) : nI j = 0 ∨ nI j = 1 ∨ nI j = 2 := by
  have : j = 0 ∨ j = 1 ∨ j = 2 := by omega
  rcases this with e | e | e <;> subst e
  · exact Or.inl rfl
  · exact Or.inr (Or.inl rfl)
  · exact Or.inr (Or.inr rfl)
theorem wgG_01 {r : Nat → Int32} {e : Nat} {res : Int32} (h : r (669 + e) = 0 ∨ r (669 + e) = 1) : wgG r e res = 0 ∨ wgG r e res = 1 := by
  unfold wgG
  split
  · exact h
  · exact Or.inl rfl
set_option maxRecDepth 100000 in
theorem cc_weigh {l : Launch} {Γ : Gm} {A : Nat → Prop} {ρ : State → Prop} (B : Bd l Γ A ρ) {h : Hp} {F : Nat → Int32} {X : Nat → Nat → Int32} {nt ns nm ne nv nu ln : Nat} (J : Iv F X nt ns nm ne nv nu ln) {x : Nat} (R_ : RepC Γ F X nt ns nm ne nv nu h x) (set left right res : Int32) : CtE l Γ A ρ yX1_weigh cX1_weigh 8 (some .int) { frames := 9, cells := 129, slots := 3238, locals := 213 } [.ref x, .int set, .int left, .int right, .int res] h (fun v h' => v = some (.int (wgI X ne set left right res)) ∧ ∃ nu', RepC Γ (chF F nu (wgI X ne set left right res)) (chX X nu (wgI X ne set left right res) (wgR X set.toNatClampNeg left right res)) nt ns nm ne nv nu' h' x) := by
  refine Ct.of B.1.1.1 B.1.1.2 (by decide) [some (.ref x), some (.int set), some (.int left), some (.int right), some (.int res), none, none, none] (Nat.le_of_ble_eq_true rfl) rfl ?_
  intro E hE C R
  subst hE
  have SC_ := B.1.2 _ C.r
  have SX_ := B.2 _ C.r
  have ht_ := J.lt
  have hs_ := J.ls
  have hm_ := J.lm
  have he_ := J.le
  have hu_ := J.lu
  have hl_ := J.ll
  have hv_ := J.lv
  obtain ⟨bu, mk, en, hi, sn, so, b7, b8, hs, fsn, fso, Rx, Rb, RK, RE, RH, RS, RA, RO⟩ := id R_
  obtain ⟨sl, wl, ma, te, fm, ft, ss, wq, Km, Kma, Kfm, Kte, Kft, Ksl, Kss, Kwl, Kws⟩ := id RK
  obtain ⟨vl, el, vs, es, Ee, E0, Evl, Eel, Evs, Ees⟩ := id RE
  refine g_aload_n C dX1_weigh_0 rfl rfl ?_
  refine g_iload_n C dX1_weigh_1 rfl rfl ?_
  refine h_callV (rest := []) 1 C (cc_isSet B.1 J R_ _) (lw_V q1322 q1324 qs36 q86 q1325) ⟨⟨by decide, by decide, by decide +kernel⟩, ⟨Nat.le_of_ble_eq_true rfl, Nat.le_of_ble_eq_true rfl⟩, ⟨Nat.le_of_ble_eq_true rfl, Nat.le_of_ble_eq_true rfl⟩⟩ (fun _ h => h) (HP.recv C Rx k_X1) rfl rfl (Nat.le_of_ble_eq_true rfl) dX1_weigh_2 (h_F ?_)
  refine g_if_ne 10 C dX1_weigh_5 rfl (fun c5 => ?_) (fun c5 => ?_)
  · obtain ⟨j_set, hj_set, rfl⟩ := ixI_in (by omega) c5
    obtain ⟨w9, h9, l9, g9, wq9, -, -, -, -, hwq9, -, -, -, ewg, -⟩ := J.hy hj_set
    refine g_iconst (v := 1) C dX1_weigh_10 rfl ?_
    refine g_aload_n C dX1_weigh_11 rfl rfl ?_
    refine c_get 0 3 k_X1 in_X1 (by decide) (fun _ h => h) q539 Rx rfl C dX1_weigh_12 ?_
    refine c_getN 1 1 k_X2 in_X2 (by decide) (fun _ h => h) q486 SC_ Km rfl C dX1_weigh_15 ?_
    refine g_iload_n C dX1_weigh_18 rfl rfl ?_
    refine h_callV (rest := [.int 1]) 1 C (cc_get B.1 Kwl j_set (by omega)) (lw_V q940 q941 q942 q90 q943) ⟨⟨by decide, by decide, by decide +kernel⟩, ⟨Nat.le_of_ble_eq_true rfl, Nat.le_of_ble_eq_true rfl⟩, ⟨Nat.le_of_ble_eq_true rfl, Nat.le_of_ble_eq_true rfl⟩⟩ (fun _ h => h) (Kwl.recv C) rfl rfl (Nat.le_of_ble_eq_true rfl) dX1_weigh_19 (h_F ?_)
    refine c_castS (Kws j_set (by omega)) k_X13 q952 C dX1_weigh_22 ?_
    refine c_getN 11 0 k_X13 in_X13 (by decide) (fun _ h => h) q914 SC_ (Kws j_set (by omega)) rfl C dX1_weigh_25 ?_
    refine g_ishl C dX1_weigh_28 ?_
    refine g_iconst (v := 1) C dX1_weigh_29 rfl ?_
    refine g_isub C dX1_weigh_30 ?_
    refine g_istore (lv' := [some (.ref x), some (.int (nI j_set)), some (.int left), some (.int right), some (.int res), some (.int ((1 <<< (X 11 j_set &&& 31)) - 1)), none, none]) C dX1_weigh_31 (by decide) rfl ?_
    refine g_iload_n C dX1_weigh_33 rfl rfl ?_
    refine g_i2l C dX1_weigh_34 ?_
    refine g_lconst (v := 1) C dX1_weigh_35 rfl ?_
    refine g_iload C dX1_weigh_36 rfl ?_
    refine g_i2l C dX1_weigh_38 ?_
    refine h_callS (rest := []) 3 C (cc_inRange B.1.1 _ _ _ _) (lw_S q580 q581 q86 q582) ⟨⟨by decide, by decide, by decide +kernel⟩, ⟨Nat.le_of_ble_eq_true rfl, Nat.le_of_ble_eq_true rfl⟩, ⟨Nat.le_of_ble_eq_true rfl, Nat.le_of_ble_eq_true rfl⟩⟩ (fun _ h => h) rfl rfl (Nat.le_of_ble_eq_true rfl) dX1_weigh_39 (h_P ?_)
    refine g_topi (y := rnI left 1 (1 <<< (X 11 j_set &&& 31) - 1)) (wi_rn left 1 _) ?_
    refine g_if_eq 61 C dX1_weigh_42 rfl (fun c42 => ?_) (fun c42 => ?_)
    · refine g_iconst (v := 0) C dX1_weigh_61 rfl ?_
      refine g_istore (lv' := [some (.ref x), some (.int (nI j_set)), some (.int left), some (.int right), some (.int res), some (.int ((1 <<< (X 11 j_set &&& 31)) - 1)), some (.int 0), none]) C dX1_weigh_62 (by decide) rfl ?_
      refine g_iload C dX1_weigh_64 rfl ?_
      refine g_if_eq 99 C dX1_weigh_66 rfl (fun c66 => ?_) (fun c66 => ?_)
      · refine g_iconst (v := (-1)) C dX1_weigh_99 rfl ?_
        have er9 : wgI X ne (nI j_set) left right res = -1 := by rw [wgI, atI_in hj_set (by omega), wgC, if_pos c42]
        exact g_iret C R (Nat.le_of_ble_eq_true rfl) (Nat.le_of_ble_eq_true rfl) dX1_weigh_100 (fun H hH => ⟨h, ⟨by rw [er9], nu, by rw [chF, chX, er9, if_neg (by decide), if_neg (by decide)]; exact R_⟩, hH⟩)
      · exact absurd c66 (by decide)
    · refine g_iload_n C dX1_weigh_45 rfl rfl ?_
      refine g_i2l C dX1_weigh_46 ?_
      refine g_lconst (v := 1) C dX1_weigh_47 rfl ?_
      refine g_iload C dX1_weigh_48 rfl ?_
      refine g_i2l C dX1_weigh_50 ?_
      refine h_callS (rest := []) 3 C (cc_inRange B.1.1 _ _ _ _) (lw_S q580 q581 q86 q582) ⟨⟨by decide, by decide, by decide +kernel⟩, ⟨Nat.le_of_ble_eq_true rfl, Nat.le_of_ble_eq_true rfl⟩, ⟨Nat.le_of_ble_eq_true rfl, Nat.le_of_ble_eq_true rfl⟩⟩ (fun _ h => h) rfl rfl (Nat.le_of_ble_eq_true rfl) dX1_weigh_51 (h_P ?_)
      refine g_topi (y := rnI right 1 (1 <<< (X 11 j_set &&& 31) - 1)) (wi_rn right 1 _) ?_
      refine g_if_eq 61 C dX1_weigh_54 rfl (fun c54 => ?_) (fun c54 => ?_)
      · refine g_iconst (v := 0) C dX1_weigh_61 rfl ?_
        refine g_istore (lv' := [some (.ref x), some (.int (nI j_set)), some (.int left), some (.int right), some (.int res), some (.int ((1 <<< (X 11 j_set &&& 31)) - 1)), some (.int 0), none]) C dX1_weigh_62 (by decide) rfl ?_
        refine g_iload C dX1_weigh_64 rfl ?_
        refine g_if_eq 99 C dX1_weigh_66 rfl (fun c66 => ?_) (fun c66 => ?_)
        · refine g_iconst (v := (-1)) C dX1_weigh_99 rfl ?_
          have er9 : wgI X ne (nI j_set) left right res = -1 := by rw [wgI, atI_in hj_set (by omega), wgC, if_neg c42, if_pos c54]
          exact g_iret C R (Nat.le_of_ble_eq_true rfl) (Nat.le_of_ble_eq_true rfl) dX1_weigh_100 (fun H hH => ⟨h, ⟨by rw [er9], nu, by rw [chF, chX, er9, if_neg (by decide), if_neg (by decide)]; exact R_⟩, hH⟩)
        · exact absurd c66 (by decide)
      · refine g_iconst (v := 1) C dX1_weigh_57 rfl ?_
        refine g_goto 62 C dX1_weigh_58 rfl ?_
        refine g_istore (lv' := [some (.ref x), some (.int (nI j_set)), some (.int left), some (.int right), some (.int res), some (.int ((1 <<< (X 11 j_set &&& 31)) - 1)), some (.int 1), none]) C dX1_weigh_62 (by decide) rfl ?_
        refine g_iload C dX1_weigh_64 rfl ?_
        refine g_if_eq 99 C dX1_weigh_66 rfl (fun c66 => ?_) (fun c66 => ?_)
        · exact absurd c66 (by decide)
        · refine g_iload_n C dX1_weigh_69 rfl rfl ?_
          refine g_iload_n C dX1_weigh_70 rfl rfl ?_
          refine g_iand C dX1_weigh_71 ?_
          refine g_if_ne 99 C dX1_weigh_72 rfl (fun c72 => ?_) (fun c72 => ?_)
          · refine g_iconst (v := (-1)) C dX1_weigh_99 rfl ?_
            have er9 : wgI X ne (nI j_set) left right res = -1 := by rw [wgI, atI_in hj_set (by omega), wgC, if_neg c42, if_neg c54, if_neg c72]
            exact g_iret C R (Nat.le_of_ble_eq_true rfl) (Nat.le_of_ble_eq_true rfl) dX1_weigh_100 (fun H hH => ⟨h, ⟨by rw [er9], nu, by rw [chF, chX, er9, if_neg (by decide), if_neg (by decide)]; exact R_⟩, hH⟩)
          · refine g_iload_n C dX1_weigh_75 rfl rfl ?_
            refine h_callS (rest := []) 1 C (cc_bitCount B.1.1 _ _) (lw_S q1033 q1034 q105 q1035) ⟨⟨by decide, by decide, by decide +kernel⟩, ⟨Nat.le_of_ble_eq_true rfl, Nat.le_of_ble_eq_true rfl⟩, ⟨Nat.le_of_ble_eq_true rfl, Nat.le_of_ble_eq_true rfl⟩⟩ (fun _ h => h) rfl rfl (Nat.le_of_ble_eq_true rfl) dX1_weigh_76 (h_P ?_)
            refine g_topi (y := nI (pcI left)) (mlt_bc (wg_in c42 (J.wt hj_set).2.2.1 (J.wt hj_set).2.1) (J.wt hj_set).2.1) ?_
            refine g_iload_n C dX1_weigh_79 rfl rfl ?_
            refine h_callS (rest := [.int (nI (pcI left))]) 1 C (cc_bitCount B.1.1 _ _) (lw_S q1033 q1034 q105 q1035) ⟨⟨by decide, by decide, by decide +kernel⟩, ⟨Nat.le_of_ble_eq_true rfl, Nat.le_of_ble_eq_true rfl⟩, ⟨Nat.le_of_ble_eq_true rfl, Nat.le_of_ble_eq_true rfl⟩⟩ (fun _ h => h) rfl rfl (Nat.le_of_ble_eq_true rfl) dX1_weigh_80 (h_P ?_)
            refine g_topi (y := nI (pcI right)) (mlt_bc (wg_in c54 (J.wt hj_set).2.2.1 (J.wt hj_set).2.1) (J.wt hj_set).2.1) ?_
            refine gN_ne (a := pcI left) (b := pcI right) 99 C dX1_weigh_83 rfl (by first | omega | exact Nat.lt_of_le_of_lt (pcI_le _) (by decide)) (by first | omega | exact Nat.lt_of_le_of_lt (pcI_le _) (by decide)) (fun c83 => ?_) (fun c83 => ?_)
            · refine g_iconst (v := (-1)) C dX1_weigh_99 rfl ?_
              have er9 : wgI X ne (nI j_set) left right res = -1 := by rw [wgI, atI_in hj_set (by omega), wgC, if_neg c42, if_neg c54, if_pos c72, if_neg c83]
              exact g_iret C R (Nat.le_of_ble_eq_true rfl) (Nat.le_of_ble_eq_true rfl) dX1_weigh_100 (fun H hH => ⟨h, ⟨by rw [er9], nu, by rw [chF, chX, er9, if_neg (by decide), if_neg (by decide)]; exact R_⟩, hH⟩)
            · refine g_iload C dX1_weigh_86 rfl ?_
              refine g_i2l C dX1_weigh_88 ?_
              refine g_lconst (v := 0) C dX1_weigh_89 rfl ?_
              refine g_ldc2 (v := 2) C dX1_weigh_90 q1330 ?_
              refine h_callS (rest := []) 3 C (cc_inRange B.1.1 _ _ _ _) (lw_S q580 q581 q86 q582) ⟨⟨by decide, by decide, by decide +kernel⟩, ⟨Nat.le_of_ble_eq_true rfl, Nat.le_of_ble_eq_true rfl⟩, ⟨Nat.le_of_ble_eq_true rfl, Nat.le_of_ble_eq_true rfl⟩⟩ (fun _ h => h) rfl rfl (Nat.le_of_ble_eq_true rfl) dX1_weigh_93 (h_P ?_)
              refine g_topi (y := ixI res 3) (wi_lit (n := 2) (by decide)) ?_
              refine g_if_ne 101 C dX1_weigh_96 rfl (fun c96 => ?_) (fun c96 => ?_)
              · obtain ⟨j_res, hj_res, rfl⟩ := ixI_in (by omega) c96
                refine g_aload_n C dX1_weigh_101 rfl rfl ?_
                refine c_get 0 4 k_X1 in_X1 (by decide) (fun _ h => h) q540 Rx rfl C dX1_weigh_102 ?_
                refine c_getN 2 1 k_X3 in_X3 (by decide) (fun _ h => h) q524 SC_ Ee rfl C dX1_weigh_105 ?_
                refine g_iload_n C dX1_weigh_108 rfl rfl ?_
                refine h_callV (rest := []) 1 C (cc_get B.1 Eel j_set (by omega)) (lw_V q940 q941 q942 q90 q943) ⟨⟨by decide, by decide, by decide +kernel⟩, ⟨Nat.le_of_ble_eq_true rfl, Nat.le_of_ble_eq_true rfl⟩, ⟨Nat.le_of_ble_eq_true rfl, Nat.le_of_ble_eq_true rfl⟩⟩ (fun _ h => h) (Eel.recv C) rfl rfl (Nat.le_of_ble_eq_true rfl) dX1_weigh_109 (h_F ?_)
                refine c_castS (Ees j_set (by omega)) k_X14 q956 C dX1_weigh_112 ?_
                refine g_iload_n C dX1_weigh_115 rfl rfl ?_
                refine g_iload_n C dX1_weigh_116 rfl rfl ?_
                refine g_iload C dX1_weigh_117 rfl ?_
                refine h_callV (rest := []) 3 C (cc_after B.1 (Ees j_set (by omega)) (J.ge01 hj_set) left right (nI j_res) (res3 hj_res)) (lw_V q1331 q1332 q1333 q119 q1334) ⟨⟨by decide, by decide, by decide +kernel⟩, ⟨Nat.le_of_ble_eq_true rfl, Nat.le_of_ble_eq_true rfl⟩, ⟨Nat.le_of_ble_eq_true rfl, Nat.le_of_ble_eq_true rfl⟩⟩ (fun _ h => h) (HP.recv C (Ees j_set (by omega)) k_X14) rfl rfl (Nat.le_of_ble_eq_true rfl) dX1_weigh_119 (h_E (fun v1 hp1 r1 => ?_))
                obtain ⟨q, rfl, nq, Hq, KA⟩ := r1
                have R2 := R_.k0 KA
                refine g_astore (lv' := [some (.ref x), some (.int (nI j_set)), some (.int left), some (.int right), some (.int (nI j_res)), some (.int ((1 <<< (X 11 j_set &&& 31)) - 1)), some (.int 1), some (.ref q)]) C dX1_weigh_122 (by decide) rfl ?_
                refine g_aload C dX1_weigh_124 rfl ?_
                refine h_callV (rest := []) 0 C (cc_hcount B.1 Hq (mlt_and (J.wt hj_set).2.2.2.1 _) (mlt_and (J.wt hj_set).2.2.2.2.1 _) (J.wt hj_set).2.1 (wgG_01 (J.ge01 hj_set))) (lw_V q1337 q1338 q1339 q119 q1340) ⟨⟨by decide, by decide, by decide +kernel⟩, ⟨Nat.le_of_ble_eq_true rfl, Nat.le_of_ble_eq_true rfl⟩, ⟨Nat.le_of_ble_eq_true rfl, Nat.le_of_ble_eq_true rfl⟩⟩ (fun _ h => h) (HP.recv C Hq k_X14) rfl rfl (Nat.le_of_ble_eq_true rfl) dX1_weigh_126 (h_F ?_)
                refine g_topi (y := wgN (X 1) j_set left right (nI j_res)) (rfl) ?_
                refine g_if_ne 135 C dX1_weigh_129 rfl (fun c129 => ?_) (fun c129 => ?_)
                · refine g_aload C dX1_weigh_135 rfl ?_
                  refine c_getN 12 2 k_X14 in_X14 (by decide) (fun _ h => h) q969 SC_ Hq rfl C dX1_weigh_137 ?_
                  refine g_topi (y := nI (wq9 + 1)) (by rw [ewg]; exact nI_add wq9 1) ?_
                  refine g_bipush (v := 20) C dX1_weigh_140 rfl ?_
                  refine gN_le (a := wq9 + 1) (b := 20) 148 C dX1_weigh_142 rfl (by first | omega | exact Nat.lt_of_le_of_lt (pcI_le _) (by decide)) (by first | omega | exact Nat.lt_of_le_of_lt (pcI_le _) (by decide)) (fun c142 => ?_) (fun c142 => ?_)
                  · refine g_aload_n C dX1_weigh_148 rfl rfl ?_
                    refine h_callV (rest := []) 0 C (cc_keep B.1 J R2) (lw_V q1069 q1071 qs19 q86 q1072) ⟨⟨by decide, by decide, by decide +kernel⟩, ⟨Nat.le_of_ble_eq_true rfl, Nat.le_of_ble_eq_true rfl⟩, ⟨Nat.le_of_ble_eq_true rfl, Nat.le_of_ble_eq_true rfl⟩⟩ (fun _ h => h) (HP.recv C (KA.get0 Rx) k_X1) rfl rfl (Nat.le_of_ble_eq_true rfl) dX1_weigh_149 (h_E (fun v2 hp2 r2 => ?_))
                    obtain ⟨rfl, R1_, K0_⟩ := r2
                    have R1z := R1_
                    have J1 := J.keep
                    obtain ⟨bu1, mk1, en1, hi1, sn1, so1, b71, b81, hs1, fsn1, fso1, Rx1, Rb1, RK1, RE1, RH1, RS1, RA1, RO1⟩ := id R1_
                    replace RE1 : RepE Γ (LdX X nm) (X 1) nv ne hp2 en1 := RE1
                    obtain ⟨vl1, el1, vs1, es1, Ee1, E01, Evl1, Eel1, Evs1, Ees1⟩ := id RE1
                    have Hq2 := K0_.get Hq (fun z => z rfl)
                    refine g_aload_n C dX1_weigh_152 rfl rfl ?_
                    refine c_get 0 4 k_X1 in_X1 (by decide) (fun _ h => h) q540 Rx1 rfl C dX1_weigh_153 ?_
                    refine c_getN 2 1 k_X3 in_X3 (by decide) (fun _ h => h) q524 SC_ Ee1 rfl C dX1_weigh_156 ?_
                    refine g_iload_n C dX1_weigh_159 rfl rfl ?_
                    refine g_aload C dX1_weigh_160 rfl ?_
                    refine h_callV (rest := []) 2 C (cc_set B.1 Cno12 Eel1 Hq2 j_set (by omega)) (lw_V q1342 q1343 q1344 q90 q1345) ⟨⟨by decide, by decide, by decide +kernel⟩, ⟨Nat.le_of_ble_eq_true rfl, Nat.le_of_ble_eq_true rfl⟩, ⟨Nat.le_of_ble_eq_true rfl, Nat.le_of_ble_eq_true rfl⟩⟩ (fun _ h => h) (Eel1.recv C) rfl rfl (Nat.le_of_ble_eq_true rfl) dX1_weigh_162 (h_E (fun v3 hp3 r3 => ?_))
                    obtain ⟨rfl, LS, KS⟩ := r3
                    have Hq3 := KS.get Hq2 (fun z => by rcases z with z | z <;> cases z)
                    refine g_pop C dX1_weigh_165 rfl ?_
                    refine g_aload C dX1_weigh_166 rfl ?_
                    refine h_callV (rest := []) 0 C (cc_hcount B.1 Hq3 (mlt_and (J.wt hj_set).2.2.2.1 _) (mlt_and (J.wt hj_set).2.2.2.2.1 _) (J.wt hj_set).2.1 (wgG_01 (J.ge01 hj_set))) (lw_V q1337 q1338 q1339 q119 q1340) ⟨⟨by decide, by decide, by decide +kernel⟩, ⟨Nat.le_of_ble_eq_true rfl, Nat.le_of_ble_eq_true rfl⟩, ⟨Nat.le_of_ble_eq_true rfl, Nat.le_of_ble_eq_true rfl⟩⟩ (fun _ h => h) (HP.recv C Hq3 k_X14) rfl rfl (Nat.le_of_ble_eq_true rfl) dX1_weigh_168 (h_F ?_)
                    refine g_topi (y := wgN (X 1) j_set left right (nI j_res)) (rfl) ?_
                    have er9 : wgI X ne (nI j_set) left right (nI j_res) = wgN (X 1) j_set left right (nI j_res) := by rw [wgI, atI_in hj_set (by omega), wgC, if_neg c42, if_neg c54, if_pos c72, if_pos c83, if_neg c96, if_neg c129, if_neg (by rw [ewg]; intro z; have := (nI_eq (b := 20) (by omega) (by omega)).mp z; omega)]
                    have ep : (0 : Int32) ≤ wgN (X 1) j_set left right (nI j_res) := wgN_pos J hj_set _ _ _
                    have RE2 := RepE.wg hj_set hv_ he_ (fun i hi => by obtain ⟨t8, ht8, et8, -⟩ := (J.vi hi).2.2.2.2.2; rw [et8, nI_clamp (by omega)]; exact ht8) Ee1 E01 Evl1 Evs1 Ees1 KS LS Hq3
                    have RC := RepC.rowT Rx1 Rb1 RK1 RH1 RS1 RA1 RO1 KS (TOw_b en1).E (fun r9 n9 e9 ne9 E9 => E9.kO KS ne9 (TOw_b en1)) RE2
                    exact g_iret C R (Nat.le_of_ble_eq_true rfl) (Nat.le_of_ble_eq_true rfl) dX1_weigh_171 (fun H hH => ⟨hp3, ⟨by rw [er9], kpN nu, by rw [er9, nI_clamp (show j_set < 2 ^ 31 by omega)]; unfold chF chX wgR; rw [if_pos ep, if_pos ep]; exact RC⟩, hH⟩)
                  · refine g_bipush (v := (-3)) C dX1_weigh_145 rfl ?_
                    have er9 : wgI X ne (nI j_set) left right (nI j_res) = -3 := by rw [wgI, atI_in hj_set (by omega), wgC, if_neg c42, if_neg c54, if_pos c72, if_pos c83, if_neg c96, if_neg c129, if_pos (show X 1 (673 + j_set) = 20 by rw [ewg, show wq9 = 20 by omega]; rfl)]
                    exact g_iret C R (Nat.le_of_ble_eq_true rfl) (Nat.le_of_ble_eq_true rfl) dX1_weigh_147 (fun H hH => ⟨hp1, ⟨by rw [er9], nu, by rw [chF, chX, er9, if_neg (by decide), if_neg (by decide)]; exact R2⟩, hH⟩)
                · refine g_bipush (v := (-2)) C dX1_weigh_132 rfl ?_
                  have er9 : wgI X ne (nI j_set) left right (nI j_res) = -2 := by rw [wgI, atI_in hj_set (by omega), wgC, if_neg c42, if_neg c54, if_pos c72, if_pos c83, if_neg c96, if_pos c129]
                  exact g_iret C R (Nat.le_of_ble_eq_true rfl) (Nat.le_of_ble_eq_true rfl) dX1_weigh_134 (fun H hH => ⟨hp1, ⟨by rw [er9], nu, by rw [chF, chX, er9, if_neg (by decide), if_neg (by decide)]; exact R2⟩, hH⟩)
              · refine g_iconst (v := (-1)) C dX1_weigh_99 rfl ?_
                have er9 : wgI X ne (nI j_set) left right res = -1 := by rw [wgI, atI_in hj_set (by omega), wgC, if_neg c42, if_neg c54, if_pos c72, if_pos c83, if_pos c96]
                exact g_iret C R (Nat.le_of_ble_eq_true rfl) (Nat.le_of_ble_eq_true rfl) dX1_weigh_100 (fun H hH => ⟨h, ⟨by rw [er9], nu, by rw [chF, chX, er9, if_neg (by decide), if_neg (by decide)]; exact R_⟩, hH⟩)
  · refine g_iconst (v := (-1)) C dX1_weigh_8 rfl ?_
    have er9 : wgI X ne set left right res = -1 := by rw [wgI, atI_out c5]
    exact g_iret C R (Nat.le_of_ble_eq_true rfl) (Nat.le_of_ble_eq_true rfl) dX1_weigh_9 (fun H hH => ⟨h, ⟨by rw [er9], nu, by rw [chF, chX, er9, if_neg (by decide), if_neg (by decide)]; exact R_⟩, hH⟩)
