theorem nI_s1 (n : Nat) : nI (n + 1) - 1 = nI n := by rw [show nI (n + 1) = nI n + 1 from (nI_add n 1).symm]; exact add1_sub1 _
set_option maxRecDepth 100000 in
theorem cc_record {l : Launch} {Γ : Gm} {A : Nat → Prop} {ρ : State → Prop} (B : Bd l Γ A ρ) {h : Hp} {F : Nat → Int32} {X : Nat → Nat → Int32} {nt ns nm ne nv nu ln : Nat} (J : Iv F X nt ns nm ne nv nu ln) {x : Nat} (R_ : RepC Γ F X nt ns nm ne nv nu h x) (visit put reading : Int32) : CtE l Γ A ρ yX1_record cX1_record 6 (some .int) { frames := 9, cells := 128, slots := 3234, locals := 213 } [.ref x, .int visit, .int put, .int reading] h (fun v h' => v = some (.int (rcI X nm nv visit put reading)) ∧ ∃ nu', RepC Γ (chF F nu (rcI X nm nv visit put reading)) (chX X nu (rcI X nm nv visit put reading) (rcR X visit.toNatClampNeg put reading)) nt ns nm ne nv nu' h' x) := by
  refine Ct.of B.1.1.1 B.1.1.2 (by decide) [some (.ref x), some (.int visit), some (.int put), some (.int reading), none, none] (Nat.le_of_ble_eq_true rfl) rfl ?_
  intro E hE C R
  subst hE
  have SC_ := B.1.2 _ C.r
  have SX_ := B.2 _ C.r
  have ht_ := J.lt
  have hs_ := J.ls
  have hm_ := J.lm
  have he_ := J.le
  have hu_ := J.lu
  have hl_ := J.ll
  have hv_ := J.lv
  obtain ⟨bu, mk, en, hi, sn, so, b7, b8, hs, fsn, fso, Rx, Rb, RK, RE, RH, RS, RA, RO⟩ := id R_
  obtain ⟨sl, wl, ma, te, fm, ft, ss, wq, Km, Kma, Kfm, Kte, Kft, Ksl, Kss, Kwl, Kws⟩ := id RK
  obtain ⟨vl, el, vs, es, Ee, E0, Evl, Eel, Evs, Ees⟩ := id RE
  have hp_ := pow10 hm_
  refine g_aload_n C dX1_record_0 rfl rfl ?_
  refine g_iload_n C dX1_record_1 rfl rfl ?_
  refine h_callV (rest := []) 1 C (cc_isVisit B.1 J R_ _) (lw_V q1156 q1158 qs21 q86 q1159) ⟨⟨by decide, by decide, by decide +kernel⟩, ⟨Nat.le_of_ble_eq_true rfl, Nat.le_of_ble_eq_true rfl⟩, ⟨Nat.le_of_ble_eq_true rfl, Nat.le_of_ble_eq_true rfl⟩⟩ (fun _ h => h) (HP.recv C Rx k_X1) rfl rfl (Nat.le_of_ble_eq_true rfl) dX1_record_2 (h_F ?_)
  refine g_if_eq 29 C dX1_record_5 rfl (fun c5 => ?_) (fun c5 => ?_)
  · refine g_iconst (v := (-1)) C dX1_record_29 rfl ?_
    have er9 : rcI X nm nv visit put reading = -1 := by rw [rcI, atI_out c5]
    exact g_iret C R (Nat.le_of_ble_eq_true rfl) (Nat.le_of_ble_eq_true rfl) dX1_record_30 (fun H hH => ⟨_, ⟨by rw [er9], nu, by rw [chF, chX, er9, if_neg (by decide), if_neg (by decide)]; exact R_⟩, hH⟩)
  · obtain ⟨j_visit, hj_visit, rfl⟩ := ixI_in (by omega) c5
    obtain ⟨tn, htn, e151, -⟩ := (J.vi hj_visit).2.2.2.2.2
    have et9 : tnV X j_visit = tn := tn_eq e151 htn
    refine g_iload_n C dX1_record_8 rfl rfl ?_
    refine g_i2l C dX1_record_9 ?_
    refine g_lconst (v := 0) C dX1_record_10 rfl ?_
    refine g_iconst (v := 1) C dX1_record_11 rfl ?_
    refine g_aload_n C dX1_record_12 rfl rfl ?_
    refine c_get 0 3 k_X1 in_X1 (by decide) (fun _ h => h) q539 Rx rfl C dX1_record_13 ?_
    refine c_getN 1 5 k_X2 in_X2 (by decide) (fun _ h => h) q498 SC_ Km rfl C dX1_record_16 ?_
    refine g_ishl C dX1_record_19 ?_
    refine g_topi (y := nI (2 ^ nm)) (shl1 (by omega)) ?_
    refine g_iconst (v := 1) C dX1_record_20 rfl ?_
    refine g_isub C dX1_record_21 ?_
    refine g_i2l C dX1_record_22 ?_
    refine h_callS (rest := []) 3 C (cc_inRange B.1.1 _ _ _ _) (lw_S q580 q581 q86 q582) ⟨⟨by decide, by decide, by decide +kernel⟩, ⟨Nat.le_of_ble_eq_true rfl, Nat.le_of_ble_eq_true rfl⟩, ⟨Nat.le_of_ble_eq_true rfl, Nat.le_of_ble_eq_true rfl⟩⟩ (fun _ h => h) rfl rfl (Nat.le_of_ble_eq_true rfl) dX1_record_23 (h_P ?_)
    refine g_topi (y := ixI put (2 ^ nm)) (wi_ix (by omega)) ?_
    refine g_if_ne 31 C dX1_record_26 rfl (fun c26 => ?_) (fun c26 => ?_)
    · obtain ⟨j_put, hj_put, rfl⟩ := ixI_in (by omega) c26
      refine g_aload_n C dX1_record_31 rfl rfl ?_
      refine c_get 0 3 k_X1 in_X1 (by decide) (fun _ h => h) q539 Rx rfl C dX1_record_32 ?_
      refine g_iload_n C dX1_record_35 rfl rfl ?_
      refine h_callV (rest := []) 1 C (cc_load B.1 RK hm_ _) (lw_V q1028 q1029 q1030 q87 q1031) ⟨⟨by decide, by decide, by decide +kernel⟩, ⟨Nat.le_of_ble_eq_true rfl, Nat.le_of_ble_eq_true rfl⟩, ⟨Nat.le_of_ble_eq_true rfl, Nat.le_of_ble_eq_true rfl⟩⟩ (fun _ h => h) (HP.recv C Km k_X2) rfl rfl (Nat.le_of_ble_eq_true rfl) dX1_record_36 (h_F ?_)
      refine g_istore (lv' := [some (.ref x), some (.int (nI j_visit)), some (.int (nI j_put)), some (.int reading), some (.int (loadN (X 9) (nI j_put) nm)), none]) C dX1_record_39 (by decide) rfl ?_
      refine g_iload C dX1_record_41 rfl ?_
      refine g_aload_n C dX1_record_43 rfl rfl ?_
      refine g_aload_n C dX1_record_44 rfl rfl ?_
      refine c_get 0 4 k_X1 in_X1 (by decide) (fun _ h => h) q540 Rx rfl C dX1_record_45 ?_
      refine c_getN 2 0 k_X3 in_X3 (by decide) (fun _ h => h) q522 SC_ Ee rfl C dX1_record_48 ?_
      refine g_iload_n C dX1_record_51 rfl rfl ?_
      refine h_callV (rest := [.ref x, .int (loadN (X 9) (nI j_put) nm)]) 1 C (cc_get B.1 Evl j_visit (by omega)) (lw_V q940 q941 q942 q90 q943) ⟨⟨by decide, by decide, by decide +kernel⟩, ⟨Nat.le_of_ble_eq_true rfl, Nat.le_of_ble_eq_true rfl⟩, ⟨Nat.le_of_ble_eq_true rfl, Nat.le_of_ble_eq_true rfl⟩⟩ (fun _ h => h) (Evl.recv C) rfl rfl (Nat.le_of_ble_eq_true rfl) dX1_record_52 (h_F ?_)
      obtain ⟨vm1, ve1, fvm1, fve1, Vo1, Vm1, Ve1, Vt1⟩ := Evs j_visit (by omega)
      refine c_castS Vo1 k_X15 q1064 C dX1_record_55 ?_
      refine h_callV (rest := [.int (loadN (X 9) (nI j_put) nm)]) 1 C (cc_scaleOf B.1 J R_ hj_visit (Evs j_visit hj_visit)) (lw_V q1168 q1170 qs22 q86 q1171) ⟨⟨by decide, by decide, by decide +kernel⟩, ⟨Nat.le_of_ble_eq_true rfl, Nat.le_of_ble_eq_true rfl⟩, ⟨Nat.le_of_ble_eq_true rfl, Nat.le_of_ble_eq_true rfl⟩⟩ (fun _ h => h) (HP.recv C Rx k_X1) rfl rfl (Nat.le_of_ble_eq_true rfl) dX1_record_58 (h_E (fun v1 hp1 r1 => ?_))
      obtain ⟨sc1, rfl, rfl, So1⟩ := r1
      refine c_getN 10 3 k_X11 in_X11 (by decide) (fun _ h => h) q823 SC_ So1 rfl C dX1_record_61 ?_
      refine g_icmp_gt 81 C dX1_record_64 rfl (fun c64 => ?_) (fun c64 => ?_)
      · refine g_iconst (v := (-1)) C dX1_record_81 rfl ?_
        have er9 : rcI X nm nv (nI j_visit) (nI j_put) reading = -1 := by rw [rcI, atI_in hj_visit (by omega), atI_in hj_put (by omega), rcC, if_pos c64]
        exact g_iret C R (Nat.le_of_ble_eq_true rfl) (Nat.le_of_ble_eq_true rfl) dX1_record_82 (fun H hH => ⟨_, ⟨by rw [er9], nu, by rw [chF, chX, er9, if_neg (by decide), if_neg (by decide)]; exact R_⟩, hH⟩)
      · refine g_iload_n C dX1_record_67 rfl rfl ?_
        refine g_i2l C dX1_record_68 ?_
        refine g_ldc2 (v := (-1999999)) C dX1_record_69 q1172 ?_
        refine g_ldc2 (v := 1999999) C dX1_record_72 q1173 ?_
        refine h_callS (rest := []) 3 C (cc_inRange B.1.1 _ _ _ _) (lw_S q580 q581 q86 q582) ⟨⟨by decide, by decide, by decide +kernel⟩, ⟨Nat.le_of_ble_eq_true rfl, Nat.le_of_ble_eq_true rfl⟩, ⟨Nat.le_of_ble_eq_true rfl, Nat.le_of_ble_eq_true rfl⟩⟩ (fun _ h => h) rfl rfl (Nat.le_of_ble_eq_true rfl) dX1_record_75 (h_P ?_)
        refine g_topi (y := rnI reading (-1999999) 1999999) (wi_rn reading (-1999999) 1999999) ?_
        refine g_if_ne 83 C dX1_record_78 rfl (fun c78 => ?_) (fun c78 => ?_)
        · refine g_aload_n C dX1_record_83 rfl rfl ?_
          refine c_get 0 4 k_X1 in_X1 (by decide) (fun _ h => h) q540 Rx rfl C dX1_record_84 ?_
          refine c_getN 2 0 k_X3 in_X3 (by decide) (fun _ h => h) q522 SC_ Ee rfl C dX1_record_87 ?_
          refine g_iload_n C dX1_record_90 rfl rfl ?_
          refine h_callV (rest := []) 1 C (cc_get B.1 Evl j_visit (by omega)) (lw_V q940 q941 q942 q90 q943) ⟨⟨by decide, by decide, by decide +kernel⟩, ⟨Nat.le_of_ble_eq_true rfl, Nat.le_of_ble_eq_true rfl⟩, ⟨Nat.le_of_ble_eq_true rfl, Nat.le_of_ble_eq_true rfl⟩⟩ (fun _ h => h) (Evl.recv C) rfl rfl (Nat.le_of_ble_eq_true rfl) dX1_record_91 (h_F ?_)
          refine c_castS Vo1 k_X15 q1064 C dX1_record_94 ?_
          refine h_callV (rest := []) 0 C (cc_visClosed B.1 Vo1) (lw_V q1065 q1066 q1067 q122 q1068) ⟨⟨by decide, by decide, by decide +kernel⟩, ⟨Nat.le_of_ble_eq_true rfl, Nat.le_of_ble_eq_true rfl⟩, ⟨Nat.le_of_ble_eq_true rfl, Nat.le_of_ble_eq_true rfl⟩⟩ (fun _ h => h) (HP.recv C Vo1 k_X15) rfl rfl (Nat.le_of_ble_eq_true rfl) dX1_record_97 (h_F ?_)
          refine g_topi (y := X 1 (61 + j_visit)) (clI_eq (J.vi hj_visit)) ?_
          refine g_if_eq 106 C dX1_record_100 rfl (fun c100 => ?_) (fun c100 => ?_)
          · refine g_aload_n C dX1_record_106 rfl rfl ?_
            refine c_get 0 4 k_X1 in_X1 (by decide) (fun _ h => h) q540 Rx rfl C dX1_record_107 ?_
            refine c_getN 2 0 k_X3 in_X3 (by decide) (fun _ h => h) q522 SC_ Ee rfl C dX1_record_110 ?_
            refine g_iload_n C dX1_record_113 rfl rfl ?_
            refine h_callV (rest := []) 1 C (cc_get B.1 Evl j_visit (by omega)) (lw_V q940 q941 q942 q90 q943) ⟨⟨by decide, by decide, by decide +kernel⟩, ⟨Nat.le_of_ble_eq_true rfl, Nat.le_of_ble_eq_true rfl⟩, ⟨Nat.le_of_ble_eq_true rfl, Nat.le_of_ble_eq_true rfl⟩⟩ (fun _ h => h) (Evl.recv C) rfl rfl (Nat.le_of_ble_eq_true rfl) dX1_record_114 (h_F ?_)
            refine c_castS Vo1 k_X15 q1064 C dX1_record_117 ?_
            refine c_getN 13 5 k_X15 in_X15 (by decide) (fun _ h => h) q1113 SC_ Vo1 rfl C dX1_record_120 ?_
            refine g_topi (y := nI tn) (e151) ?_
            refine g_bipush (v := 8) C dX1_record_123 rfl ?_
            refine gN_ne (a := tn) (b := 8) 131 C dX1_record_125 rfl (by omega) (by omega) (fun c125 => ?_) (fun c125 => ?_)
            · refine g_aload_n C dX1_record_131 rfl rfl ?_
              refine h_callV (rest := []) 0 C (cc_keep B.1 J R_) (lw_V q1069 q1071 qs19 q86 q1072) ⟨⟨by decide, by decide, by decide +kernel⟩, ⟨Nat.le_of_ble_eq_true rfl, Nat.le_of_ble_eq_true rfl⟩, ⟨Nat.le_of_ble_eq_true rfl, Nat.le_of_ble_eq_true rfl⟩⟩ (fun _ h => h) (HP.recv C Rx k_X1) rfl rfl (Nat.le_of_ble_eq_true rfl) dX1_record_132 (h_E (fun v2 hp2 r2 => ?_))
              obtain ⟨rfl, R1_, K0_⟩ := r2
              have R1z := R1_
              have J1 := J.keep
              obtain ⟨bu1, mk1, en1, hi1, sn1, so1, b71, b81, hs1, fsn1, fso1, Rx1, Rb1, RK1, RE1, RH1, RS1, RA1, RO1⟩ := id R1_
              replace RE1 : RepE Γ (LdX X nm) (X 1) nv ne hp2 en1 := RE1
              obtain ⟨vl1, el1, vs1, es1, Ee1, E01, Evl1, Eel1, Evs1, Ees1⟩ := id RE1
              refine g_aload_n C dX1_record_135 rfl rfl ?_
              refine c_get 0 4 k_X1 in_X1 (by decide) (fun _ h => h) q540 Rx1 rfl C dX1_record_136 ?_
              refine c_getN 2 0 k_X3 in_X3 (by decide) (fun _ h => h) q522 SC_ Ee1 rfl C dX1_record_139 ?_
              refine g_iload_n C dX1_record_142 rfl rfl ?_
              refine h_callV (rest := []) 1 C (cc_get B.1 Evl1 j_visit (by omega)) (lw_V q940 q941 q942 q90 q943) ⟨⟨by decide, by decide, by decide +kernel⟩, ⟨Nat.le_of_ble_eq_true rfl, Nat.le_of_ble_eq_true rfl⟩, ⟨Nat.le_of_ble_eq_true rfl, Nat.le_of_ble_eq_true rfl⟩⟩ (fun _ h => h) (Evl1.recv C) rfl rfl (Nat.le_of_ble_eq_true rfl) dX1_record_143 (h_F ?_)
              obtain ⟨vm9, ve9, fvm9, fve9, Vo9, Vm9, Ve9, Vt9⟩ := id (Evs1 j_visit (by omega))
              have tg : vTag (X 1) j_visit en1 = (100 + j_visit, en1) := by unfold vTag; rw [if_pos c100]
              rw [tg] at Vo9
              refine c_castS Vo9 k_X15 q1064 C dX1_record_146 ?_
              refine g_astore (lv' := [some (.ref x), some (.int (nI j_visit)), some (.int (nI j_put)), some (.int reading), some (.int (loadN (X 9) (nI j_put) nm)), some (.ref (vs1 j_visit))]) C dX1_record_149 (by decide) rfl ?_
              refine g_aload C dX1_record_151 rfl ?_
              refine c_getN 13 3 k_X15 in_X15 (by decide) (fun _ h => h) q1109 SC_ Vo9 rfl C dX1_record_153 ?_
              refine g_aload C dX1_record_156 rfl ?_
              refine c_getN 13 5 k_X15 in_X15 (by decide) (fun _ h => h) q1113 SC_ Vo9 rfl C dX1_record_158 ?_
              refine g_topi (y := nI tn) (e151) ?_
              refine g_iload_n C dX1_record_161 rfl rfl ?_
              refine c_iast (i := tn) Vm9 (by omega) (by omega) C dX1_record_162 ?_
              obtain ⟨hp3, ehp3⟩ : ∃ hh9 : Hp, hh9 = hset hp2 vm9 (40, vs1 j_visit) (aI Γ 8 (upd fvm9 tn (nI j_put))) := ⟨_, rfl⟩
              refine g_heq (h' := hp3) ehp3.symm ?_
              have php3_vs1_j_visit : hp3 (vs1 j_visit) = some ((100 + j_visit, en1), .inr (13, [.int (X 1 (1 + j_visit)), .int (X 1 (31 + j_visit)), .int (X 1 (121 + j_visit) + 1), .ref vm9, .ref ve9, .int (X 1 (151 + j_visit)), .int (vVd (X 1) j_visit)])) := by rw [ehp3]; exact hset_tag Vm9 (fun z => absurd (Prod.mk.inj z).1 (by omega)) Vo9
              have php3_vm9 : hp3 vm9 = some ((40, vs1 j_visit), aI Γ 8 (upd fvm9 tn (nI j_put))) := by rw [ehp3]; exact hset_self _ _ _ _
              have php3_ve9 : hp3 ve9 = some ((41, vs1 j_visit), aI Γ 8 fve9) := by rw [ehp3]; exact hset_tag Vm9 (fun z => absurd (Prod.mk.inj z).1 (by omega)) Ve9
              refine g_aload C dX1_record_163 rfl ?_
              refine c_getN 13 4 k_X15 in_X15 (by decide) (fun _ h => h) q1111 SC_ php3_vs1_j_visit rfl C dX1_record_165 ?_
              refine g_aload C dX1_record_168 rfl ?_
              refine c_getN 13 5 k_X15 in_X15 (by decide) (fun _ h => h) q1113 SC_ php3_vs1_j_visit rfl C dX1_record_170 ?_
              refine g_topi (y := nI tn) (e151) ?_
              refine g_iload_n C dX1_record_173 rfl rfl ?_
              refine g_iload C dX1_record_174 rfl ?_
              refine g_isub C dX1_record_176 ?_
              refine c_iast (i := tn) php3_ve9 (by omega) (by omega) C dX1_record_177 ?_
              obtain ⟨hp4, ehp4⟩ : ∃ hh9 : Hp, hh9 = hset hp3 ve9 (41, vs1 j_visit) (aI Γ 8 (upd fve9 tn (reading - (loadN (X 9) (nI j_put) nm)))) := ⟨_, rfl⟩
              refine g_heq (h' := hp4) ehp4.symm ?_
              have php4_vs1_j_visit : hp4 (vs1 j_visit) = some ((100 + j_visit, en1), .inr (13, [.int (X 1 (1 + j_visit)), .int (X 1 (31 + j_visit)), .int (X 1 (121 + j_visit) + 1), .ref vm9, .ref ve9, .int (X 1 (151 + j_visit)), .int (vVd (X 1) j_visit)])) := by rw [ehp4]; exact hset_tag php3_ve9 (fun z => absurd (Prod.mk.inj z).1 (by omega)) php3_vs1_j_visit
              have php4_vm9 : hp4 vm9 = some ((40, vs1 j_visit), aI Γ 8 (upd fvm9 tn (nI j_put))) := by rw [ehp4]; exact hset_tag php3_ve9 (fun z => absurd (Prod.mk.inj z).1 (by omega)) php3_vm9
              have php4_ve9 : hp4 ve9 = some ((41, vs1 j_visit), aI Γ 8 (upd fve9 tn (reading - (loadN (X 9) (nI j_put) nm)))) := by rw [ehp4]; exact hset_self _ _ _ _
              refine g_aload C dX1_record_178 rfl ?_
              refine g_dup C dX1_record_180 rfl ?_
              refine c_getN 13 5 k_X15 in_X15 (by decide) (fun _ h => h) q1113 SC_ php4_vs1_j_visit rfl C dX1_record_181 ?_
              refine g_topi (y := nI tn) (e151) ?_
              refine g_iconst (v := 1) C dX1_record_184 rfl ?_
              refine g_iadd C dX1_record_185 ?_
              refine g_topi (y := nI (tn + 1)) (nI_add tn 1) ?_
              refine c_putN 13 5 k_X15 in_X15 tyX15 tyX15_ok nmX15 (by decide) (fun _ h => h) q1113 SC_ rfl (ty := .int) (by decide +kernel) rfl rfl (Nat.le_of_ble_eq_true rfl) php4_vs1_j_visit C dX1_record_186 ?_
              obtain ⟨hp5, ehp5⟩ : ∃ hh9 : Hp, hh9 = hset hp4 (vs1 j_visit) (100 + j_visit, en1) (.inr (13, [.int (X 1 (1 + j_visit)), .int (X 1 (31 + j_visit)), .int (X 1 (121 + j_visit) + 1), .ref vm9, .ref ve9, .int (nI (tn + 1)), .int (vVd (X 1) j_visit)])) := ⟨_, rfl⟩
              refine g_heq (h' := hp5) ehp5.symm ?_
              have php5_vs1_j_visit : hp5 (vs1 j_visit) = some ((100 + j_visit, en1), .inr (13, [.int (X 1 (1 + j_visit)), .int (X 1 (31 + j_visit)), .int (X 1 (121 + j_visit) + 1), .ref vm9, .ref ve9, .int (nI (tn + 1)), .int (vVd (X 1) j_visit)])) := by rw [ehp5]; exact hset_self _ _ _ _
              have php5_vm9 : hp5 vm9 = some ((40, vs1 j_visit), aI Γ 8 (upd fvm9 tn (nI j_put))) := by rw [ehp5]; exact hset_tag php4_vs1_j_visit (fun z => absurd (Prod.mk.inj z).1 (by omega)) php4_vm9
              have php5_ve9 : hp5 ve9 = some ((41, vs1 j_visit), aI Γ 8 (upd fve9 tn (reading - (loadN (X 9) (nI j_put) nm)))) := by rw [ehp5]; exact hset_tag php4_vs1_j_visit (fun z => absurd (Prod.mk.inj z).1 (by omega)) php4_ve9
              refine g_aload C dX1_record_189 rfl ?_
              refine c_getN 13 5 k_X15 in_X15 (by decide) (fun _ h => h) q1113 SC_ php5_vs1_j_visit rfl C dX1_record_191 ?_
              refine g_iconst (v := 1) C dX1_record_194 rfl ?_
              refine g_isub C dX1_record_195 ?_
              refine g_topi (y := nI tn) (nI_s1 tn) ?_
              have er9 : rcI X nm nv (nI j_visit) (nI j_put) reading = nI tn := by rw [rcI, atI_in hj_visit (by omega), atI_in hj_put (by omega), rcC, if_neg c64, if_neg c78, if_neg (by rw [c100]; decide), if_neg (by rw [et9]; exact c125), et9]
              have KV : Kp (T3v j_visit en1 (vs1 j_visit)) hp2 hp5 := (Kp.tr (Kp.tr (show Kp _ hp2 hp3 by rw [ehp3]; exact Kp.put Vm9 (Or.inr (Or.inl rfl))) (show Kp _ hp3 hp4 by rw [ehp4]; exact Kp.put php3_ve9 (Or.inr (Or.inr rfl)))) (show Kp _ hp4 hp5 by rw [ehp5]; exact Kp.put php4_vs1_j_visit (Or.inl rfl)))
              have RE2 := RepE.rec (tn := tn) (put := nI j_put) (reading := reading) hj_visit hv_ he_ c100 e151 (by omega) (fun i hi => by obtain ⟨t8, ht8, et8, -⟩ := (J.vi hi).2.2.2.2.2; rw [et8, nI_clamp (by omega)]; exact ht8) Ee1 E01 Evl1 Eel1 Evs1 Ees1 Vo9 KV php5_vm9 php5_ve9 Vt9 php5_vs1_j_visit
              have RC := RepC.rowT Rx1 Rb1 RK1 RH1 RS1 RA1 RO1 KV (T3v_E _ _ _) (fun r9 n9 e9 ne9 E9 => E9.k3 KV ne9 Vo9) RE2
              exact g_iret C R (Nat.le_of_ble_eq_true rfl) (Nat.le_of_ble_eq_true rfl) dX1_record_196 (fun H hH => ⟨hp5, ⟨by rw [er9], kpN nu, by rw [er9, nI_clamp (show j_visit < 2 ^ 31 by omega)]; unfold chF chX rcR; rw [if_pos (nI_pos' (by omega)), if_pos (nI_pos' (by omega)), et9]; exact RC⟩, hH⟩)
            · refine g_bipush (v := (-3)) C dX1_record_128 rfl ?_
              have er9 : rcI X nm nv (nI j_visit) (nI j_put) reading = -3 := by rw [rcI, atI_in hj_visit (by omega), atI_in hj_put (by omega), rcC, if_neg c64, if_neg c78, if_neg (by rw [c100]; decide), if_pos (by rw [et9]; exact c125)]
              exact g_iret C R (Nat.le_of_ble_eq_true rfl) (Nat.le_of_ble_eq_true rfl) dX1_record_130 (fun H hH => ⟨_, ⟨by rw [er9], nu, by rw [chF, chX, er9, if_neg (by decide), if_neg (by decide)]; exact R_⟩, hH⟩)
          · refine g_bipush (v := (-2)) C dX1_record_103 rfl ?_
            have er9 : rcI X nm nv (nI j_visit) (nI j_put) reading = -2 := by rw [rcI, atI_in hj_visit (by omega), atI_in hj_put (by omega), rcC, if_neg c64, if_neg c78, if_pos (((J.vi hj_visit).c01).resolve_left c100)]
            exact g_iret C R (Nat.le_of_ble_eq_true rfl) (Nat.le_of_ble_eq_true rfl) dX1_record_105 (fun H hH => ⟨_, ⟨by rw [er9], nu, by rw [chF, chX, er9, if_neg (by decide), if_neg (by decide)]; exact R_⟩, hH⟩)
        · refine g_iconst (v := (-1)) C dX1_record_81 rfl ?_
          have er9 : rcI X nm nv (nI j_visit) (nI j_put) reading = -1 := by rw [rcI, atI_in hj_visit (by omega), atI_in hj_put (by omega), rcC, if_neg c64, if_pos c78]
          exact g_iret C R (Nat.le_of_ble_eq_true rfl) (Nat.le_of_ble_eq_true rfl) dX1_record_82 (fun H hH => ⟨_, ⟨by rw [er9], nu, by rw [chF, chX, er9, if_neg (by decide), if_neg (by decide)]; exact R_⟩, hH⟩)
    · refine g_iconst (v := (-1)) C dX1_record_29 rfl ?_
      have er9 : rcI X nm nv (nI j_visit) put reading = -1 := by rw [rcI, atI_in hj_visit (by omega), atI_out c26]
      exact g_iret C R (Nat.le_of_ble_eq_true rfl) (Nat.le_of_ble_eq_true rfl) dX1_record_30 (fun H hH => ⟨_, ⟨by rw [er9], nu, by rw [chF, chX, er9, if_neg (by decide), if_neg (by decide)]; exact R_⟩, hH⟩)
