theorem vd_b (X : Nat → Nat → Int32) (nm v : Nat) (less : Int32) : ∃ q, q ≤ 5 ∧ vdI X nm v less = nI q := by
  unfold vdI
  (repeat' split)
  · exact ⟨1, by decide, rfl⟩
  · exact ⟨2, by decide, rfl⟩
  · exact ⟨3, by decide, rfl⟩
  · exact ⟨4, by decide, rfl⟩
  · exact ⟨5, by decide, rfl⟩
  · exact ⟨0, by decide, rfl⟩
theorem vd_0 (X : Nat → Nat → Int32) (nm v : Nat) (less : Int32) : 0 ≤ vdI X nm v less := by
  obtain ⟨q, hq, e⟩ := vd_b X nm v less
  rw [e]; exact nI_pos' (by omega)
theorem vd_42 (X : Nat → Nat → Int32) (f : Nat → Int32) (nm v : Nat) (less : Int32) : vdI (setX X 42 f) nm v less = vdI X nm v less := rfl
set_option maxRecDepth 100000 in
theorem cc_closeVisit {l : Launch} {Γ : Gm} {A : Nat → Prop} {ρ : State → Prop} (B : Bd l Γ A ρ) {h : Hp} {F : Nat → Int32} {X : Nat → Nat → Int32} {nt ns nm ne nv nu ln : Nat} (J : Iv F X nt ns nm ne nv nu ln) {x : Nat} (R_ : RepC Γ F X nt ns nm ne nv nu h x) (visit : Int32) : CtE l Γ A ρ yX1_closeVisit cX1_closeVisit 3 (some .int) { frames := 9, cells := 128, slots := 3234, locals := 213 } [.ref x, .int visit] h (fun v h' => v = some (.int (cvI X nm nv visit)) ∧ ∃ nu', RepC Γ (chF F nu (cvI X nm nv visit)) (chX X nu (cvI X nm nv visit) (cvR X nm visit.toNatClampNeg)) nt ns nm ne nv nu' h' x) := by
  refine Ct.of B.1.1.1 B.1.1.2 (by decide) [some (.ref x), some (.int visit), none] (Nat.le_of_ble_eq_true rfl) rfl ?_
  intro E hE C R
  subst hE
  have SC_ := B.1.2 _ C.r
  have SX_ := B.2 _ C.r
  have ht_ := J.lt
  have hs_ := J.ls
  have hm_ := J.lm
  have he_ := J.le
  have hu_ := J.lu
  have hl_ := J.ll
  have hv_ := J.lv
  obtain ⟨bu, mk, en, hi, sn, so, b7, b8, hs, fsn, fso, Rx, Rb, RK, RE, RH, RS, RA, RO⟩ := id R_
  obtain ⟨sl, wl, ma, te, fm, ft, ss, wq, Km, Kma, Kfm, Kte, Kft, Ksl, Kss, Kwl, Kws⟩ := id RK
  obtain ⟨vl, el, vs, es, Ee, E0, Evl, Eel, Evs, Ees⟩ := id RE
  refine g_aload_n C dX1_closeVisit_0 rfl rfl ?_
  refine g_iload_n C dX1_closeVisit_1 rfl rfl ?_
  refine h_callV (rest := []) 1 C (cc_isVisit B.1 J R_ _) (lw_V q1156 q1158 qs21 q86 q1159) ⟨⟨by decide, by decide, by decide +kernel⟩, ⟨Nat.le_of_ble_eq_true rfl, Nat.le_of_ble_eq_true rfl⟩, ⟨Nat.le_of_ble_eq_true rfl, Nat.le_of_ble_eq_true rfl⟩⟩ (fun _ h => h) (HP.recv C Rx k_X1) rfl rfl (Nat.le_of_ble_eq_true rfl) dX1_closeVisit_2 (h_F ?_)
  refine g_if_ne 10 C dX1_closeVisit_5 rfl (fun c5 => ?_) (fun c5 => ?_)
  · obtain ⟨j_visit, hj_visit, rfl⟩ := ixI_in (by omega) c5
    refine g_aload_n C dX1_closeVisit_10 rfl rfl ?_
    refine c_get 0 4 k_X1 in_X1 (by decide) (fun _ h => h) q540 Rx rfl C dX1_closeVisit_11 ?_
    refine c_getN 2 0 k_X3 in_X3 (by decide) (fun _ h => h) q522 SC_ Ee rfl C dX1_closeVisit_14 ?_
    refine g_iload_n C dX1_closeVisit_17 rfl rfl ?_
    refine h_callV (rest := []) 1 C (cc_get B.1 Evl j_visit (by omega)) (lw_V q940 q941 q942 q90 q943) ⟨⟨by decide, by decide, by decide +kernel⟩, ⟨Nat.le_of_ble_eq_true rfl, Nat.le_of_ble_eq_true rfl⟩, ⟨Nat.le_of_ble_eq_true rfl, Nat.le_of_ble_eq_true rfl⟩⟩ (fun _ h => h) (Evl.recv C) rfl rfl (Nat.le_of_ble_eq_true rfl) dX1_closeVisit_18 (h_F ?_)
    obtain ⟨vm1, ve1, fvm1, fve1, Vo1, Vm1, Ve1, Vt1⟩ := Evs j_visit (by omega)
    refine c_castS Vo1 k_X15 q1064 C dX1_closeVisit_21 ?_
    refine h_callV (rest := []) 0 C (cc_visClosed B.1 Vo1) (lw_V q1065 q1066 q1067 q122 q1068) ⟨⟨by decide, by decide, by decide +kernel⟩, ⟨Nat.le_of_ble_eq_true rfl, Nat.le_of_ble_eq_true rfl⟩, ⟨Nat.le_of_ble_eq_true rfl, Nat.le_of_ble_eq_true rfl⟩⟩ (fun _ h => h) (HP.recv C Vo1 k_X15) rfl rfl (Nat.le_of_ble_eq_true rfl) dX1_closeVisit_24 (h_F ?_)
    refine g_topi (y := X 1 (61 + j_visit)) (clI_eq (J.vi hj_visit)) ?_
    refine g_if_eq 33 C dX1_closeVisit_27 rfl (fun c27 => ?_) (fun c27 => ?_)
    · refine g_aload_n C dX1_closeVisit_33 rfl rfl ?_
      refine h_callV (rest := []) 0 C (cc_keep B.1 J R_) (lw_V q1069 q1071 qs19 q86 q1072) ⟨⟨by decide, by decide, by decide +kernel⟩, ⟨Nat.le_of_ble_eq_true rfl, Nat.le_of_ble_eq_true rfl⟩, ⟨Nat.le_of_ble_eq_true rfl, Nat.le_of_ble_eq_true rfl⟩⟩ (fun _ h => h) (HP.recv C Rx k_X1) rfl rfl (Nat.le_of_ble_eq_true rfl) dX1_closeVisit_34 (h_E (fun v1 hp1 r1 => ?_))
      obtain ⟨rfl, R1_, K0_⟩ := r1
      have R1z := R1_
      have J1 := J.keep
      obtain ⟨bu1, mk1, en1, hi1, sn1, so1, b71, b81, hs1, fsn1, fso1, Rx1, Rb1, RK1, RE1, RH1, RS1, RA1, RO1⟩ := id R1_
      replace RE1 : RepE Γ (LdX X nm) (X 1) nv ne hp1 en1 := RE1
      obtain ⟨vl1, el1, vs1, es1, Ee1, E01, Evl1, Eel1, Evs1, Ees1⟩ := id RE1
      refine g_aload_n C dX1_closeVisit_37 rfl rfl ?_
      refine c_get 0 4 k_X1 in_X1 (by decide) (fun _ h => h) q540 Rx1 rfl C dX1_closeVisit_38 ?_
      refine c_getN 2 0 k_X3 in_X3 (by decide) (fun _ h => h) q522 SC_ Ee1 rfl C dX1_closeVisit_41 ?_
      refine g_iload_n C dX1_closeVisit_44 rfl rfl ?_
      refine h_callV (rest := []) 1 C (cc_get B.1 Evl1 j_visit (by omega)) (lw_V q940 q941 q942 q90 q943) ⟨⟨by decide, by decide, by decide +kernel⟩, ⟨Nat.le_of_ble_eq_true rfl, Nat.le_of_ble_eq_true rfl⟩, ⟨Nat.le_of_ble_eq_true rfl, Nat.le_of_ble_eq_true rfl⟩⟩ (fun _ h => h) (Evl1.recv C) rfl rfl (Nat.le_of_ble_eq_true rfl) dX1_closeVisit_45 (h_F ?_)
      obtain ⟨vm9, ve9, fvm9, fve9, Vo9, Vm9, Ve9, Vt9⟩ := id (Evs1 j_visit (by omega))
      refine c_castS Vo9 k_X15 q1064 C dX1_closeVisit_48 ?_
      refine g_astore_n (lv' := [some (.ref x), some (.int (nI j_visit)), some (.ref (vs1 j_visit))]) C dX1_closeVisit_51 rfl (by decide) rfl ?_
      refine g_aload_n C dX1_closeVisit_52 rfl rfl ?_
      refine g_aload_n C dX1_closeVisit_53 rfl rfl ?_
      refine g_aload_n C dX1_closeVisit_54 rfl rfl ?_
      refine g_iconst (v := 0) C dX1_closeVisit_55 rfl ?_
      refine h_callV (rest := [.ref (vs1 j_visit)]) 2 C (cc_verdictOf B J1 R1z (show j_visit < nv by omega) (Evs1 j_visit (by omega)) _) (lw_V q1182 q1184 qs23 q86 q1185) ⟨⟨by decide, by decide, by decide +kernel⟩, ⟨Nat.le_of_ble_eq_true rfl, Nat.le_of_ble_eq_true rfl⟩, ⟨Nat.le_of_ble_eq_true rfl, Nat.le_of_ble_eq_true rfl⟩⟩ (fun _ h => h) (HP.recv C Rx1 k_X1) rfl rfl (Nat.le_of_ble_eq_true rfl) dX1_closeVisit_56 (h_F ?_)
      refine c_putN 13 6 k_X15 in_X15 tyX15 tyX15_ok nmX15 (by decide) (fun _ h => h) q1115 SC_ rfl (ty := .int) (by decide +kernel) rfl rfl (Nat.le_of_ble_eq_true rfl) Vo9 C dX1_closeVisit_59 ?_
      obtain ⟨hp2, ehp2⟩ : ∃ hh9 : Hp, hh9 = hset hp1 (vs1 j_visit) (vTag (X 1) j_visit en1) (.inr (13, [.int (X 1 (1 + j_visit)), .int (X 1 (31 + j_visit)), .int (X 1 (121 + j_visit) + 1), .ref vm9, .ref ve9, .int (X 1 (151 + j_visit)), .int (vdI X nm j_visit 0)])) := ⟨_, rfl⟩
      refine g_heq (h' := hp2) ehp2.symm ?_
      have php2_vs1_j_visit : hp2 (vs1 j_visit) = some ((vTag (X 1) j_visit en1), .inr (13, [.int (X 1 (1 + j_visit)), .int (X 1 (31 + j_visit)), .int (X 1 (121 + j_visit) + 1), .ref vm9, .ref ve9, .int (X 1 (151 + j_visit)), .int (vdI X nm j_visit 0)])) := by rw [ehp2]; exact hset_self _ _ _ _
      refine g_aload_n C dX1_closeVisit_62 rfl rfl ?_
      refine c_getN 13 6 k_X15 in_X15 (by decide) (fun _ h => h) q1115 SC_ php2_vs1_j_visit rfl C dX1_closeVisit_63 ?_
      have e1 : cvI X nm nv (nI j_visit) = vdI X nm j_visit 0 := by unfold cvI; rw [atI_in hj_visit (by omega)]; unfold cvC; rw [if_neg (by rw [c27]; decide)]
      have p0 := vd_0 X nm j_visit 0
      have tg : vTag (X 1) j_visit en1 = (100 + j_visit, en1) := by unfold vTag; rw [if_pos c27]
      have hh : hset hp2 (vs1 j_visit) (1, 0) (.inr (13, [.int (X 1 (1 + j_visit)), .int (X 1 (31 + j_visit)), .int (X 1 (121 + j_visit) + 1), .ref vm9, .ref ve9, .int (X 1 (151 + j_visit)), .int (vdI X nm j_visit 0)])) = hset hp1 (vs1 j_visit) (1, 0) (.inr (13, [.int (X 1 (1 + j_visit)), .int (X 1 (31 + j_visit)), .int (X 1 (121 + j_visit) + 1), .ref vm9, .ref ve9, .int (X 1 (151 + j_visit)), .int (vdI X nm j_visit 0)])) := by rw [ehp2, hset_hset]
      have KV : Kp (T1v j_visit en1) hp1 (hset hp1 (vs1 j_visit) (1, 0) (.inr (13, [.int (X 1 (1 + j_visit)), .int (X 1 (31 + j_visit)), .int (X 1 (121 + j_visit) + 1), .ref vm9, .ref ve9, .int (X 1 (151 + j_visit)), .int (vdI X nm j_visit 0)]))) := Kp.put Vo9 tg
      have RE2 := RepE.close hj_visit hv_ he_ (fun i hi => by obtain ⟨tn, htn, et, -⟩ := (J.vi hi).2.2.2.2.2; rw [et, nI_clamp (by omega)]; exact htn) Ee1 E01 Evl1 Eel1 Evs1 Ees1 KV (hset_oi Vo9 Vm9) (hset_oi Vo9 Ve9) Vt9 (hset_self _ _ _ _)
      have RC := RepC.row1 Rx1 Rb1 RK1 RH1 RS1 RA1 RO1 KV RE2
      exact g_iret C R (Nat.le_of_ble_eq_true rfl) (Nat.le_of_ble_eq_true rfl) dX1_closeVisit_66 (fun H hH => ⟨hset hp2 (vs1 j_visit) (1, 0) (.inr (13, [.int (X 1 (1 + j_visit)), .int (X 1 (31 + j_visit)), .int (X 1 (121 + j_visit) + 1), .ref vm9, .ref ve9, .int (X 1 (151 + j_visit)), .int (vdI X nm j_visit 0)])), ⟨by rw [e1], kpN nu, by rw [hh, e1, nI_clamp (by omega)]; unfold chF chX; rw [if_pos p0, if_pos p0]; exact RC⟩, hH.of (fun y t e he => by by_cases c : y = vs1 j_visit; (subst c; rw [hset_self] at he; cases he; exact ⟨_, php2_vs1_j_visit⟩); (rw [hset_ne c] at he; exact ⟨t, he⟩))⟩)
    · refine g_bipush (v := (-2)) C dX1_closeVisit_30 rfl ?_
      have e1 : cvI X nm nv (nI j_visit) = -2 := by unfold cvI; rw [atI_in hj_visit (by omega)]; unfold cvC; rw [if_pos (((J.vi hj_visit).c01).resolve_left c27)]
      exact g_iret C R (Nat.le_of_ble_eq_true rfl) (Nat.le_of_ble_eq_true rfl) dX1_closeVisit_32 (fun H hH => ⟨h, ⟨by rw [e1], nu, by rw [e1]; exact R_⟩, hH⟩)
  · refine g_iconst (v := (-1)) C dX1_closeVisit_8 rfl ?_
    have e1 : cvI X nm nv visit = -1 := atI_out c5
    exact g_iret C R (Nat.le_of_ble_eq_true rfl) (Nat.le_of_ble_eq_true rfl) dX1_closeVisit_9 (fun H hH => ⟨h, ⟨by rw [e1], nu, by rw [e1]; exact R_⟩, hH⟩)
