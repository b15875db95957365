theorem HP.grow {Γ : Gm} {A : Nat → Prop} {h : Hp} {H H' : Heap} (a : HP Γ A h H) (k : ∀ q : Nat, q < H.size → H'[q]? = H[q]?) : HP Γ A h H' := by
  obtain ⟨ws, h1, h2, h3⟩ := a
  exact ⟨ws, h1.kept (fun i q hq => k q.1 (h1 i q hq).lt), h2, h3⟩
theorem tsI_out {X : Nat → Nat → Int32} {nv : Nat} {v t : Int32} (h : ixI v nv = 0) : tsI X nv v t = 0 := by unfold tsI; rw [if_pos h]
set_option maxRecDepth 100000 in
theorem cc_visitWith {l : Launch} {Γ : Gm} {A : Nat → Prop} {ρ : State → Prop} (B : Be l Γ A ρ) {h : Hp} {F : Nat → Int32} {X : Nat → Nat → Int32} {nt ns nm ne nv nu ln : Nat} (J : Iv F X nt ns nm ne nv nu ln) {x : Nat} (R_ : RepC Γ F X nt ns nm ne nv nu h x) (visit test : Int32) : CtX l Γ A ρ yX1_visitWith cX1_visitWith 3 (some (.object "ScaleInspection$Visit")) { frames := 6, cells := 1, slots := 6, locals := 81 } [.ref x, .int visit, .int test] (HP Γ A h) (fun v H => ∃ h', (fun v h' => h' = h ∧ ∃ j i vv en0, visit = nI j ∧ test = nI i ∧ v = some (.ref vv) ∧ j < nv ∧ i < tnV X j ∧ RepV Γ (LdX X nm) (X 1) j h en0 vv) v h' ∧ HP Γ A h' H) (fun N H => (fun N => N = "java/lang/IndexOutOfBoundsException" ∧ tsI X nv visit test = 0) N ∧ HP Γ A h H) := by
  refine CtX.of B.1.1.1.1 B.1.1.1.2 (by decide) [some (.ref x), some (.int visit), some (.int test)] (Nat.le_of_ble_eq_true rfl) rfl ?_
  intro E hE C R
  subst hE
  have SC_ := B.1.1.2 _ C.r
  have SX_ := B.1.2 _ C.r
  have SY_ := B.2 _ C.r
  have ht_ := J.lt
  have hs_ := J.ls
  have hm_ := J.lm
  have he_ := J.le
  have hu_ := J.lu
  have hl_ := J.ll
  have hv_ := J.lv
  obtain ⟨bu, mk, en, hi, sn, so, b7, b8, hs, fsn, fso, Rx, Rb, RK, RE, RH, RS, RA, RO⟩ := id R_
  obtain ⟨vl, el, vs, es, Ee, E0, Evl, Eel, Evs, Ees⟩ := id RE
  refine g_aload_n C dX1_visitWith_0 rfl rfl ?_
  refine g_iload_n C dX1_visitWith_1 rfl rfl ?_
  refine h_callV (rest := []) 1 C (cc_isVisit B.1.1 J R_ _) (lw_V q1156 q1158 qs21 q86 q1159) ⟨⟨by decide, by decide, by decide +kernel⟩, ⟨Nat.le_of_ble_eq_true rfl, Nat.le_of_ble_eq_true rfl⟩, ⟨Nat.le_of_ble_eq_true rfl, Nat.le_of_ble_eq_true rfl⟩⟩ (fun _ h => h) (HP.recv C Rx k_X1) rfl rfl (Nat.le_of_ble_eq_true rfl) dX1_visitWith_2 (h_F ?_)
  refine g_if_eq 37 C dX1_visitWith_5 rfl (fun c5 => ?_) (fun c5 => ?_)
  · exact gx_throwIO C R SC_ SY_ dX1_visitWith_37 dX1_visitWith_40 dX1_visitWith_41 dX1_visitWith_44 ⟨Nat.le_of_ble_eq_true rfl, Nat.le_of_ble_eq_true rfl, Nat.le_of_ble_eq_true rfl, Nat.le_of_ble_eq_true rfl⟩ (Nat.le_of_ble_eq_true rfl) (Nat.le_of_ble_eq_true rfl) (fun H H9 hH hz hk9 => ⟨⟨rfl, tsI_out c5⟩, hH.grow hk9⟩)
  · obtain ⟨j_visit, hj_visit, rfl⟩ := ixI_in (by omega) c5
    refine g_iload_n C dX1_visitWith_8 rfl rfl ?_
    refine g_i2l C dX1_visitWith_9 ?_
    refine g_lconst (v := 0) C dX1_visitWith_10 rfl ?_
    refine g_aload_n C dX1_visitWith_11 rfl rfl ?_
    refine c_get 0 4 k_X1 in_X1 (by decide) (fun _ h => h) q540 Rx rfl C dX1_visitWith_12 ?_
    refine c_getN 2 0 k_X3 in_X3 (by decide) (fun _ h => h) q522 SC_ Ee rfl C dX1_visitWith_15 ?_
    refine g_iload_n C dX1_visitWith_18 rfl rfl ?_
    refine h_callV (rest := [.long 0, .long test.toInt64]) 1 C (cc_get B.1.1 Evl j_visit (by omega)) (lw_V q940 q941 q942 q90 q943) ⟨⟨by decide, by decide, by decide +kernel⟩, ⟨Nat.le_of_ble_eq_true rfl, Nat.le_of_ble_eq_true rfl⟩, ⟨Nat.le_of_ble_eq_true rfl, Nat.le_of_ble_eq_true rfl⟩⟩ (fun _ h => h) (Evl.recv C) rfl rfl (Nat.le_of_ble_eq_true rfl) dX1_visitWith_19 (h_F ?_)
    obtain ⟨vm1, ve1, fvm1, fve1, Vo1, Vm1, Ve1, Vt1⟩ := Evs j_visit (by omega)
    refine c_castS Vo1 k_X15 q1064 C dX1_visitWith_22 ?_
    refine c_getN 13 5 k_X15 in_X15 (by decide) (fun _ h => h) q1113 SC_ Vo1 rfl C dX1_visitWith_25 ?_
    obtain ⟨tn, htn, e151, -⟩ := (J.vi hj_visit).2.2.2.2.2
    refine g_topi (y := nI tn) (e151) ?_
    refine g_iconst (v := 1) C dX1_visitWith_28 rfl ?_
    refine g_isub C dX1_visitWith_29 ?_
    refine g_i2l C dX1_visitWith_30 ?_
    refine h_callS (rest := []) 3 C (cc_inRange B.1.1.1 _ _ _ _) (lw_S q580 q581 q86 q582) ⟨⟨by decide, by decide, by decide +kernel⟩, ⟨Nat.le_of_ble_eq_true rfl, Nat.le_of_ble_eq_true rfl⟩, ⟨Nat.le_of_ble_eq_true rfl, Nat.le_of_ble_eq_true rfl⟩⟩ (fun _ h => h) rfl rfl (Nat.le_of_ble_eq_true rfl) dX1_visitWith_31 (h_P ?_)
    refine g_topi (y := ixI test tn) (wi_ix (by omega)) ?_
    refine g_if_ne 45 C dX1_visitWith_34 rfl (fun c34 => ?_) (fun c34 => ?_)
    · obtain ⟨j_test, hj_test, rfl⟩ := ixI_in (by omega) c34
      refine g_aload_n C dX1_visitWith_45 rfl rfl ?_
      refine c_get 0 4 k_X1 in_X1 (by decide) (fun _ h => h) q540 Rx rfl C dX1_visitWith_46 ?_
      refine c_getN 2 0 k_X3 in_X3 (by decide) (fun _ h => h) q522 SC_ Ee rfl C dX1_visitWith_49 ?_
      refine g_iload_n C dX1_visitWith_52 rfl rfl ?_
      refine h_callV (rest := []) 1 C (cc_get B.1.1 Evl j_visit (by omega)) (lw_V q940 q941 q942 q90 q943) ⟨⟨by decide, by decide, by decide +kernel⟩, ⟨Nat.le_of_ble_eq_true rfl, Nat.le_of_ble_eq_true rfl⟩, ⟨Nat.le_of_ble_eq_true rfl, Nat.le_of_ble_eq_true rfl⟩⟩ (fun _ h => h) (Evl.recv C) rfl rfl (Nat.le_of_ble_eq_true rfl) dX1_visitWith_53 (h_F ?_)
      refine c_castS Vo1 k_X15 q1064 C dX1_visitWith_56 ?_
      exact gx_aret C R (Or.inl ⟨_, rfl⟩) (Or.inr ⟨_, rfl⟩) (Nat.le_of_ble_eq_true rfl) (Nat.le_of_ble_eq_true rfl) dX1_visitWith_59 (fun H hH => ⟨h, ⟨rfl, j_visit, j_test, vs j_visit, en, rfl, rfl, rfl, hj_visit, by rw [tn_eq e151 htn]; exact hj_test, Evs j_visit hj_visit⟩, hH⟩)
    · exact gx_throwIO C R SC_ SY_ dX1_visitWith_37 dX1_visitWith_40 dX1_visitWith_41 dX1_visitWith_44 ⟨Nat.le_of_ble_eq_true rfl, Nat.le_of_ble_eq_true rfl, Nat.le_of_ble_eq_true rfl, Nat.le_of_ble_eq_true rfl⟩ (Nat.le_of_ble_eq_true rfl) (Nat.le_of_ble_eq_true rfl) (fun H H9 hH hz hk9 => ⟨⟨rfl, by unfold tsI; rw [if_neg c5, nI_clamp (by omega), tn_eq e151 htn]; exact c34⟩, hH.grow hk9⟩)
