set_option maxRecDepth 100000 in
theorem ct_verdict {l : Launch} {Γ : Gm} {A : Nat → Prop} {ρ : State → Prop} (B : Bs l A ρ) {o : Nat} {ad : Nat → Nat} {F : Nat → Int32} {X : Nat → Nat → Int32} {nt ns nm ne nv nu ln : Nat} (J : Iv F X nt ns nm ne nv nu ln) (visit : Int32) : CtM l Γ A ρ yX4_verdict cX4_verdict 2 (some .int) 4 97 o ad [.ref o, .int visit] F X (some (.int (atI visit nv (fun j => vdI X nm j 0)))) (upd F 0 0) X := by
  refine Ct.of B.1 B.2 (by decide) [some (.ref o), some (.int visit)] (Nat.le_of_ble_eq_true rfl) rfl ?_
  intro E hE C R
  subst hE
  have hv_ := J.lv
  refine g_aload_n C dX4_verdict_0 rfl rfl ?_
  refine g_iconst (v := 0) C dX4_verdict_1 rfl ?_
  refine mp_0 C dX4_verdict_2 ?_
  refine g_aload_n C dX4_verdict_5 rfl rfl ?_
  refine g_iload_n C dX4_verdict_6 rfl rfl ?_
  refine g_mcall (rest := []) 1 C (ct_isVisit (F := upd F 0 0) (X := X) B J _) (lw_V q1950 q1952 qs63 q107 q1953) (by decide +kernel) ⟨Nat.le_of_ble_eq_true rfl, Nat.le_of_ble_eq_true rfl⟩ ⟨Nat.le_of_ble_eq_true rfl, Nat.le_of_ble_eq_true rfl⟩ rfl rfl (Nat.le_of_ble_eq_true rfl) dX4_verdict_7 ?_
  refine g_if_eq 22 C dX4_verdict_10 rfl (fun c10 => ?_) (fun c10 => ?_)
  · refine g_iconst (v := (-1)) C dX4_verdict_22 rfl ?_
    exact g_iret C R (Nat.le_refl _) (Nat.le_refl _) dX4_verdict_23 (fun H h => ⟨by rw [atI_out c10], h⟩)
  · obtain ⟨j_visit, hj_visit, rfl⟩ := ixI_in (by omega) c10
    refine g_aload_n C dX4_verdict_13 rfl rfl ?_
    refine g_iload_n C dX4_verdict_14 rfl rfl ?_
    refine g_iconst (v := 0) C dX4_verdict_15 rfl ?_
    refine g_mcall (rest := []) 2 C (ct_verdictOf (F := upd F 0 0) (X := X) B J j_visit (by omega) _) (lw_V q2003 q2005 qs68 q107 q2006) (by decide +kernel) ⟨Nat.le_of_ble_eq_true rfl, Nat.le_of_ble_eq_true rfl⟩ ⟨Nat.le_of_ble_eq_true rfl, Nat.le_of_ble_eq_true rfl⟩ rfl rfl (Nat.le_of_ble_eq_true rfl) dX4_verdict_16 ?_
    refine g_goto 23 C dX4_verdict_19 rfl ?_
    exact g_iret C R (Nat.le_refl _) (Nat.le_refl _) dX4_verdict_23 (fun H h => ⟨by rw [atI_in hj_visit (by omega)], h⟩)
set_option maxRecDepth 100000 in
theorem ct_adjustedVerdict {l : Launch} {Γ : Gm} {A : Nat → Prop} {ρ : State → Prop} (B : Bs l A ρ) {o : Nat} {ad : Nat → Nat} {F : Nat → Int32} {X : Nat → Nat → Int32} {nt ns nm ne nv nu ln : Nat} (J : Iv F X nt ns nm ne nv nu ln) (visit : Int32) : CtM l Γ A ρ yX4_adjustedVerdict cX4_adjustedVerdict 2 (some .int) 4 97 o ad [.ref o, .int visit] F X (some (.int (atI visit nv (avI X nm)))) (upd F 0 0) X := by
  refine Ct.of B.1 B.2 (by decide) [some (.ref o), some (.int visit)] (Nat.le_of_ble_eq_true rfl) rfl ?_
  intro E hE C R
  subst hE
  have hv_ := J.lv
  refine g_aload_n C dX4_adjustedVerdict_0 rfl rfl ?_
  refine g_iconst (v := 0) C dX4_adjustedVerdict_1 rfl ?_
  refine mp_0 C dX4_adjustedVerdict_2 ?_
  refine g_aload_n C dX4_adjustedVerdict_5 rfl rfl ?_
  refine g_iload_n C dX4_adjustedVerdict_6 rfl rfl ?_
  refine g_mcall (rest := []) 1 C (ct_isVisit (F := upd F 0 0) (X := X) B J _) (lw_V q1950 q1952 qs63 q107 q1953) (by decide +kernel) ⟨Nat.le_of_ble_eq_true rfl, Nat.le_of_ble_eq_true rfl⟩ ⟨Nat.le_of_ble_eq_true rfl, Nat.le_of_ble_eq_true rfl⟩ rfl rfl (Nat.le_of_ble_eq_true rfl) dX4_adjustedVerdict_7 ?_
  refine g_if_ne 15 C dX4_adjustedVerdict_10 rfl (fun c10 => ?_) (fun c10 => ?_)
  · obtain ⟨j_visit, hj_visit, rfl⟩ := ixI_in (by omega) c10
    refine g_aload_n C dX4_adjustedVerdict_15 rfl rfl ?_
    refine mg_1 C dX4_adjustedVerdict_16 ?_
    refine g_sipush (v := 151) C dX4_adjustedVerdict_19 rfl ?_
    refine g_iload_n C dX4_adjustedVerdict_22 rfl rfl ?_
    refine g_iadd C dX4_adjustedVerdict_23 ?_
    refine g_topi (y := nI (151 + j_visit)) (nI_add 151 j_visit) ?_
    refine ml_1 (i := 151 + j_visit) C dX4_adjustedVerdict_24 (by omega) ?_
    refine g_if_ne 32 C dX4_adjustedVerdict_25 rfl (fun c25 => ?_) (fun c25 => ?_)
    · have hn1 : 1 ≤ (X 1 (151 + j_visit)).toNatClampNeg := by
        obtain ⟨-, -, -, -, -, ⟨tn, htn, etn, -⟩⟩ := J.vi hj_visit
        rw [etn, nI_clamp (by omega)]; rw [etn] at c25; rcases Nat.eq_zero_or_pos tn with z | z
        · rw [z] at c25; exact absurd rfl c25
        · exact z
      refine g_aload_n C dX4_adjustedVerdict_32 rfl rfl ?_
      refine g_iload_n C dX4_adjustedVerdict_33 rfl rfl ?_
      refine g_aload_n C dX4_adjustedVerdict_34 rfl rfl ?_
      refine g_iload_n C dX4_adjustedVerdict_35 rfl rfl ?_
      refine g_mcall (rest := [.int (nI j_visit), .ref o]) 1 C (ct_adjustmentOf (F := upd F 0 0) (X := X) B J j_visit (by omega) (by assumption)) (lw_V q2011 q2013 qs69 q107 q2014) (by decide +kernel) ⟨Nat.le_of_ble_eq_true rfl, Nat.le_of_ble_eq_true rfl⟩ ⟨Nat.le_of_ble_eq_true rfl, Nat.le_of_ble_eq_true rfl⟩ rfl rfl (Nat.le_of_ble_eq_true rfl) dX4_adjustedVerdict_36 ?_
      refine g_mcall (rest := []) 2 C (ct_verdictOf (F := upd F 0 0) (X := X) B J j_visit (by omega) _) (lw_V q2003 q2005 qs68 q107 q2006) (by decide +kernel) ⟨Nat.le_of_ble_eq_true rfl, Nat.le_of_ble_eq_true rfl⟩ ⟨Nat.le_of_ble_eq_true rfl, Nat.le_of_ble_eq_true rfl⟩ rfl rfl (Nat.le_of_ble_eq_true rfl) dX4_adjustedVerdict_39 ?_
      exact g_iret C R (Nat.le_refl _) (Nat.le_refl _) dX4_adjustedVerdict_42 (fun H h => ⟨by rw [atI_in hj_visit (by omega)]; simp only [avI, if_neg c25], h⟩)
    · refine g_iconst (v := 1) C dX4_adjustedVerdict_28 rfl ?_
      refine g_goto 42 C dX4_adjustedVerdict_29 rfl ?_
      exact g_iret C R (Nat.le_refl _) (Nat.le_refl _) dX4_adjustedVerdict_42 (fun H h => ⟨by rw [atI_in hj_visit (by omega)]; simp only [avI, if_pos c25], h⟩)
  · refine g_iconst (v := (-1)) C dX4_adjustedVerdict_13 rfl ?_
    exact g_iret C R (Nat.le_refl _) (Nat.le_refl _) dX4_adjustedVerdict_14 (fun H h => ⟨by rw [atI_out c10], h⟩)
set_option maxRecDepth 100000 in
theorem ct_adjustment {l : Launch} {Γ : Gm} {A : Nat → Prop} {ρ : State → Prop} (B : Bs l A ρ) {o : Nat} {ad : Nat → Nat} {F : Nat → Int32} {X : Nat → Nat → Int32} {nt ns nm ne nv nu ln : Nat} (J : Iv F X nt ns nm ne nv nu ln) (visit : Int32) : CtM l Γ A ρ yX4_adjustment cX4_adjustment 2 (some .int) 4 92 o ad [.ref o, .int visit] F X (some (.int (ajR X nm nv visit))) (upd F 0 (ajT X nv visit)) X := by
  refine Ct.of B.1 B.2 (by decide) [some (.ref o), some (.int visit)] (Nat.le_of_ble_eq_true rfl) rfl ?_
  intro E hE C R
  subst hE
  have hv_ := J.lv
  by_cases c0 : ixI visit nv = 0
  · refine g_aload_n C dX4_adjustment_0 rfl rfl ?_
    refine g_aload_n C dX4_adjustment_1 rfl rfl ?_
    refine g_iload_n C dX4_adjustment_2 rfl rfl ?_
    refine g_mcall (rest := [.ref o]) 1 C (ct_isVisit (F := F) (X := X) B J _) (lw_V q1950 q1952 qs63 q107 q1953) (by decide +kernel) ⟨Nat.le_of_ble_eq_true rfl, Nat.le_of_ble_eq_true rfl⟩ ⟨Nat.le_of_ble_eq_true rfl, Nat.le_of_ble_eq_true rfl⟩ rfl rfl (Nat.le_of_ble_eq_true rfl) dX4_adjustment_3 ?_
    refine g_topi (y := 0) (c0) ?_
    refine g_if_ne 13 C dX4_adjustment_6 rfl (fun c6 => ?_) (fun c6 => ?_)
    · exact absurd c6 (by decide)
    · refine g_iconst (v := 1) C dX4_adjustment_9 rfl ?_
      refine g_goto 31 C dX4_adjustment_10 rfl ?_
      refine mp_0 C dX4_adjustment_31 ?_
      refine g_aload_n C dX4_adjustment_34 rfl rfl ?_
      refine mg_0 C dX4_adjustment_35 ?_
      refine g_topi (y := 1) rfl ?_
      refine g_if_le 45 C dX4_adjustment_38 rfl (fun c38 => ?_) (fun c38 => ?_)
      · exact absurd c38 (by decide)
      · refine g_iconst (v := 0) C dX4_adjustment_41 rfl ?_
        refine g_goto 50 C dX4_adjustment_42 rfl ?_
        exact g_iret C R (Nat.le_refl _) (Nat.le_refl _) dX4_adjustment_50 (fun H h => ⟨by simp only [ajR, ajT, if_pos c0]; rfl, by rw [show ajT X nv visit = 1 from if_pos c0]; exact h⟩)
  · obtain ⟨j, hj, rfl⟩ := ixI_in (by omega) c0
    have c1 := ixI_nI hj (show nv < 2 ^ 31 by omega)
    have ej : (nI j).toNatClampNeg = j := nI_clamp (by omega)
    refine g_aload_n C dX4_adjustment_0 rfl rfl ?_
    refine g_aload_n C dX4_adjustment_1 rfl rfl ?_
    refine g_iload_n C dX4_adjustment_2 rfl rfl ?_
    refine g_mcall (rest := [.ref o]) 1 C (ct_isVisit (F := F) (X := X) B J _) (lw_V q1950 q1952 qs63 q107 q1953) (by decide +kernel) ⟨Nat.le_of_ble_eq_true rfl, Nat.le_of_ble_eq_true rfl⟩ ⟨Nat.le_of_ble_eq_true rfl, Nat.le_of_ble_eq_true rfl⟩ rfl rfl (Nat.le_of_ble_eq_true rfl) dX4_adjustment_3 ?_
    refine g_topi (y := 1) (c1) ?_
    refine g_if_ne 13 C dX4_adjustment_6 rfl (fun c6 => ?_) (fun c6 => ?_)
    · refine g_aload_n C dX4_adjustment_13 rfl rfl ?_
      refine mg_1 C dX4_adjustment_14 ?_
      refine g_sipush (v := 151) C dX4_adjustment_17 rfl ?_
      refine g_iload_n C dX4_adjustment_20 rfl rfl ?_
      refine g_iadd C dX4_adjustment_21 ?_
      refine g_topi (y := nI (151 + j)) (nI_add 151 j) ?_
      refine ml_1 (i := 151 + j) C dX4_adjustment_22 (by omega) ?_
      refine g_if_ne 30 C dX4_adjustment_23 rfl (fun c23 => ?_) (fun c23 => ?_)
      · refine g_iconst (v := 0) C dX4_adjustment_30 rfl ?_
        refine mp_0 C dX4_adjustment_31 ?_
        refine g_aload_n C dX4_adjustment_34 rfl rfl ?_
        refine mg_0 C dX4_adjustment_35 ?_
        refine g_topi (y := 0) rfl ?_
        refine g_if_le 45 C dX4_adjustment_38 rfl (fun c38 => ?_) (fun c38 => ?_)
        · have hn1 : 1 ≤ (X 1 (151 + j)).toNatClampNeg := by
            obtain ⟨-, -, -, -, -, ⟨tn, htn, etn, -⟩⟩ := J.vi hj
            rw [etn, nI_clamp (by omega)]; rw [etn] at c23; rcases Nat.eq_zero_or_pos tn with z | z
            · rw [z] at c23; exact absurd rfl c23
            · exact z
          refine g_aload_n C dX4_adjustment_45 rfl rfl ?_
          refine g_iload_n C dX4_adjustment_46 rfl rfl ?_
          refine g_mcall (rest := []) 1 C (ct_adjustmentOf (F := upd F 0 0) (X := X) B J j (by omega) (by assumption)) (lw_V q2011 q2013 qs69 q107 q2014) (by decide +kernel) ⟨Nat.le_of_ble_eq_true rfl, Nat.le_of_ble_eq_true rfl⟩ ⟨Nat.le_of_ble_eq_true rfl, Nat.le_of_ble_eq_true rfl⟩ rfl rfl (Nat.le_of_ble_eq_true rfl) dX4_adjustment_47 ?_
          exact g_iret C R (Nat.le_refl _) (Nat.le_refl _) dX4_adjustment_50 (fun H h => ⟨by simp only [ajR, ajT, if_neg c0, ej, if_neg c23]; rfl, by rw [show ajT X nv (nI j) = 0 by simp only [ajT, if_neg c0, ej, if_neg c23]]; exact h⟩)
        · exact absurd c38 (by decide)
      · refine g_iconst (v := 2) C dX4_adjustment_26 rfl ?_
        refine g_goto 31 C dX4_adjustment_27 rfl ?_
        refine mp_0 C dX4_adjustment_31 ?_
        refine g_aload_n C dX4_adjustment_34 rfl rfl ?_
        refine mg_0 C dX4_adjustment_35 ?_
        refine g_topi (y := 2) rfl ?_
        refine g_if_le 45 C dX4_adjustment_38 rfl (fun c38 => ?_) (fun c38 => ?_)
        · exact absurd c38 (by decide)
        · refine g_iconst (v := 0) C dX4_adjustment_41 rfl ?_
          refine g_goto 50 C dX4_adjustment_42 rfl ?_
          exact g_iret C R (Nat.le_refl _) (Nat.le_refl _) dX4_adjustment_50 (fun H h => ⟨by simp only [ajR, ajT, if_neg c0, ej, if_pos c23]; rfl, by rw [show ajT X nv (nI j) = 2 by simp only [ajT, if_neg c0, ej, if_pos c23]]; exact h⟩)
    · exact absurd c6 (by decide)
set_option maxRecDepth 100000 in
theorem ct_last {l : Launch} {Γ : Gm} {A : Nat → Prop} {ρ : State → Prop} (B : Bs l A ρ) {o : Nat} {ad : Nat → Nat} {F : Nat → Int32} {X : Nat → Nat → Int32} {nt ns nm ne nv nu ln : Nat} (J : Iv F X nt ns nm ne nv nu ln) (s day : Int32) : CtM l Γ A ρ yX4_last cX4_last 5 (some .int) 0 0 o ad [.ref o, .int s, .int day] F X (some (.int (laN (X 1) s day nv))) F X := by
  refine Ct.of B.1 B.2 (by decide) [some (.ref o), some (.int s), some (.int day), none, none] (Nat.le_of_ble_eq_true rfl) rfl ?_
  intro E hE C R
  subst hE
  have hv_ := J.lv
  refine g_bipush (v := (-2)) C dX4_last_0 rfl ?_
  refine g_istore_n (lv' := [some (.ref o), some (.int s), some (.int day), some (.int (-2)), none]) C dX4_last_2 rfl (by decide) rfl ?_
  refine g_iconst (v := 0) C dX4_last_3 rfl ?_
  refine g_istore (lv' := [some (.ref o), some (.int s), some (.int day), some (.int (-2)), some (.int 0)]) C dX4_last_4 (by decide) rfl ?_
  refine g_for (P := fun k => G E (RepM Γ A o ad F X) 0 0 6 [some (.ref o), some (.int s), some (.int day), some (.int (laN (X 1) s day k)), some (.int (nI k))] []) nv ?_ ?_ 0 (Nat.zero_le _)
  · refine g_iload C dX4_last_6 rfl ?_
    refine g_aload_n C dX4_last_8 rfl rfl ?_
    refine mg_1 C dX4_last_9 ?_
    refine g_iconst (v := 0) C dX4_last_12 rfl ?_
    refine ml_1 (i := 0) C dX4_last_13 (by omega) ?_
    refine g_topi (y := nI nv) (J.x0) ?_
    refine gN_ge (a := nv) (b := nv) 71 C dX4_last_14 rfl (by omega) (by omega) (fun c14 => ?_) (fun c14 => ?_)
    · refine g_iload_n C dX4_last_71 rfl rfl ?_
      exact g_iret C R (Nat.le_refl _) (Nat.le_refl _) dX4_last_72 (fun H h => ⟨rfl, h⟩)
    · exfalso; omega
  · intro k hk ih
    replace ih : G E (RepM Γ A o ad F X) 0 0 6 [some (.ref o), some (.int s), some (.int day), some (.int (laN (X 1) s day (k + 1))), some (.int (nI (k + 1)))] [] := ih
    refine g_iload C dX4_last_6 rfl ?_
    refine g_aload_n C dX4_last_8 rfl rfl ?_
    refine mg_1 C dX4_last_9 ?_
    refine g_iconst (v := 0) C dX4_last_12 rfl ?_
    refine ml_1 (i := 0) C dX4_last_13 (by omega) ?_
    refine g_topi (y := nI nv) (J.x0) ?_
    refine gN_ge (a := k) (b := nv) 71 C dX4_last_14 rfl (by omega) (by omega) (fun c14 => ?_) (fun c14 => ?_)
    · exfalso; omega
    · refine g_aload_n C dX4_last_17 rfl rfl ?_
      refine mg_1 C dX4_last_18 ?_
      refine g_iconst (v := 1) C dX4_last_21 rfl ?_
      refine g_iload C dX4_last_22 rfl ?_
      refine g_iadd C dX4_last_24 ?_
      refine g_topi (y := nI (1 + k)) (nI_add 1 k) ?_
      refine ml_1 (i := 1 + k) C dX4_last_25 (by omega) ?_
      refine g_iload_n C dX4_last_26 rfl rfl ?_
      refine g_icmp_ne 63 C dX4_last_27 rfl (fun c27 => ?_) (fun c27 => ?_)
      · refine g_iload_n C dX4_last_63 rfl rfl ?_
        refine g_topi (y := laN (X 1) s day (k + 1)) (by simp only [laN, if_neg c27]) ?_
        refine g_istore_n (lv' := [some (.ref o), some (.int s), some (.int day), some (.int (laN (X 1) s day (k + 1))), some (.int (nI k))]) C dX4_last_64 rfl (by decide) rfl ?_
        refine g_inc1 (x := k) (lv' := [some (.ref o), some (.int s), some (.int day), some (.int (laN (X 1) s day (k + 1))), some (.int (nI (k + 1)))]) C dX4_last_65 rfl (by decide) rfl ?_
        refine g_goto 6 C dX4_last_68 rfl ?_
        exact ih
      · refine g_aload_n C dX4_last_30 rfl rfl ?_
        refine mg_1 C dX4_last_31 ?_
        refine g_bipush (v := 61) C dX4_last_34 rfl ?_
        refine g_iload C dX4_last_36 rfl ?_
        refine g_iadd C dX4_last_38 ?_
        refine g_topi (y := nI (61 + k)) (nI_add 61 k) ?_
        refine ml_1 (i := 61 + k) C dX4_last_39 (by omega) ?_
        refine g_iconst (v := 1) C dX4_last_40 rfl ?_
        refine g_icmp_ne 63 C dX4_last_41 rfl (fun c41 => ?_) (fun c41 => ?_)
        · refine g_iload_n C dX4_last_63 rfl rfl ?_
          refine g_topi (y := laN (X 1) s day (k + 1)) (by simp only [laN, if_pos c27, if_neg c41]) ?_
          refine g_istore_n (lv' := [some (.ref o), some (.int s), some (.int day), some (.int (laN (X 1) s day (k + 1))), some (.int (nI k))]) C dX4_last_64 rfl (by decide) rfl ?_
          refine g_inc1 (x := k) (lv' := [some (.ref o), some (.int s), some (.int day), some (.int (laN (X 1) s day (k + 1))), some (.int (nI (k + 1)))]) C dX4_last_65 rfl (by decide) rfl ?_
          refine g_goto 6 C dX4_last_68 rfl ?_
          exact ih
        · refine g_aload_n C dX4_last_44 rfl rfl ?_
          refine mg_1 C dX4_last_45 ?_
          refine g_bipush (v := 31) C dX4_last_48 rfl ?_
          refine g_iload C dX4_last_50 rfl ?_
          refine g_iadd C dX4_last_52 ?_
          refine g_topi (y := nI (31 + k)) (nI_add 31 k) ?_
          refine ml_1 (i := 31 + k) C dX4_last_53 (by omega) ?_
          refine g_iload_n C dX4_last_54 rfl rfl ?_
          refine g_icmp_gt 63 C dX4_last_55 rfl (fun c55 => ?_) (fun c55 => ?_)
          · refine g_iload_n C dX4_last_63 rfl rfl ?_
            refine g_topi (y := laN (X 1) s day (k + 1)) (by simp only [laN, if_pos c27, if_pos c41, if_pos c55]) ?_
            refine g_istore_n (lv' := [some (.ref o), some (.int s), some (.int day), some (.int (laN (X 1) s day (k + 1))), some (.int (nI k))]) C dX4_last_64 rfl (by decide) rfl ?_
            refine g_inc1 (x := k) (lv' := [some (.ref o), some (.int s), some (.int day), some (.int (laN (X 1) s day (k + 1))), some (.int (nI (k + 1)))]) C dX4_last_65 rfl (by decide) rfl ?_
            refine g_goto 6 C dX4_last_68 rfl ?_
            exact ih
          · refine g_iload C dX4_last_58 rfl ?_
            refine g_goto 64 C dX4_last_60 rfl ?_
            refine g_topi (y := laN (X 1) s day (k + 1)) (by simp only [laN, if_pos c27, if_pos c41, if_neg c55]) ?_
            refine g_istore_n (lv' := [some (.ref o), some (.int s), some (.int day), some (.int (laN (X 1) s day (k + 1))), some (.int (nI k))]) C dX4_last_64 rfl (by decide) rfl ?_
            refine g_inc1 (x := k) (lv' := [some (.ref o), some (.int s), some (.int day), some (.int (laN (X 1) s day (k + 1))), some (.int (nI (k + 1)))]) C dX4_last_65 rfl (by decide) rfl ?_
            refine g_goto 6 C dX4_last_68 rfl ?_
            exact ih
set_option maxRecDepth 100000 in
theorem ct_expires {l : Launch} {Γ : Gm} {A : Nat → Prop} {ρ : State → Prop} (B : Bs l A ρ) {o : Nat} {ad : Nat → Nat} {F : Nat → Int32} {X : Nat → Nat → Int32} {nt ns nm ne nv nu ln : Nat} (J : Iv F X nt ns nm ne nv nu ln) (v : Nat) (hv : v < nv) : CtM l Γ A ρ yX4_expires cX4_expires 2 (some .int) 0 0 o ad [.ref o, .int (nI v)] F X (some (.int (exI X v))) F X := by
  refine Ct.of B.1 B.2 (by decide) [some (.ref o), some (.int (nI v))] (Nat.le_of_ble_eq_true rfl) rfl ?_
  intro E hE C R
  subst hE
  have hv_ := J.lv
  have hs_ := J.ls
  obtain ⟨⟨sc, hsc, esc⟩, ⟨dy, hdy, edy⟩, hcl_, ⟨vd, hvd, evd⟩, hsv, ⟨tn, htn, etn, hts⟩⟩ := J.vi hv
  obtain ⟨cl, hcl, ecl⟩ := J.mk.2.1 sc hsc
  refine g_aload_n C dX4_expires_0 rfl rfl ?_
  refine mg_1 C dX4_expires_1 ?_
  refine g_bipush (v := 31) C dX4_expires_4 rfl ?_
  refine g_iload_n C dX4_expires_6 rfl rfl ?_
  refine g_iadd C dX4_expires_7 ?_
  refine g_topi (y := nI (31 + v)) (nI_add 31 v) ?_
  refine ml_1 (i := 31 + v) C dX4_expires_8 (by omega) ?_
  refine g_sipush (v := 360) C dX4_expires_9 rfl ?_
  refine g_idiv C dX4_expires_12 (by decide) ?_
  refine g_aload_n C dX4_expires_13 rfl rfl ?_
  refine mg_13 C dX4_expires_14 ?_
  refine g_aload_n C dX4_expires_17 rfl rfl ?_
  refine mg_5 C dX4_expires_18 ?_
  refine g_aload_n C dX4_expires_21 rfl rfl ?_
  refine mg_1 C dX4_expires_22 ?_
  refine g_iconst (v := 1) C dX4_expires_25 rfl ?_
  refine g_iload_n C dX4_expires_26 rfl rfl ?_
  refine g_iadd C dX4_expires_27 ?_
  refine g_topi (y := nI (1 + v)) (nI_add 1 v) ?_
  refine ml_1 (i := 1 + v) C dX4_expires_28 (by omega) ?_
  refine g_topi (y := nI sc) (esc) ?_
  refine ml_5 (i := sc) C dX4_expires_29 (by omega) ?_
  refine g_topi (y := nI cl) (ecl) ?_
  refine ml_13 (i := cl) C dX4_expires_30 (by omega) ?_
  refine g_iadd C dX4_expires_31 ?_
  refine g_sipush (v := 360) C dX4_expires_32 rfl ?_
  refine g_imul C dX4_expires_35 ?_
  exact g_iret C R (Nat.le_refl _) (Nat.le_refl _) dX4_expires_36 (fun H h => ⟨by rw [exI, esc, nI_clamp (show sc < 2 ^ 31 by omega), ecl, nI_clamp (show cl < 2 ^ 31 by omega)], h⟩)
set_option maxRecDepth 100000 in
theorem ct_stateOf {l : Launch} {Γ : Gm} {A : Nat → Prop} {ρ : State → Prop} (B : Bs l A ρ) {o : Nat} {ad : Nat → Nat} {F : Nat → Int32} {X : Nat → Nat → Int32} {nt ns nm ne nv nu ln : Nat} (J : Iv F X nt ns nm ne nv nu ln) (s day : Int32) : CtM l Γ A ρ yX4_stateOf cX4_stateOf 4 (some .int) 1 24 o ad [.ref o, .int s, .int day] F X (some (.int (stI X nv s day))) F X := by
  refine Ct.of B.1 B.2 (by decide) [some (.ref o), some (.int s), some (.int day), none] (Nat.le_of_ble_eq_true rfl) rfl ?_
  intro E hE C R
  subst hE
  have hv_ := J.lv
  rcases laN_or (X 1) s day nv with el | ⟨j, hj, el⟩
  · refine g_aload_n C dX4_stateOf_0 rfl rfl ?_
    refine g_iload_n C dX4_stateOf_1 rfl rfl ?_
    refine g_iload_n C dX4_stateOf_2 rfl rfl ?_
    refine g_mcall (rest := []) 2 C (ct_last (F := F) (X := X) B J _ _) (lw_V q2038 q2040 qs71 q107 q2041) (by decide +kernel) ⟨Nat.le_of_ble_eq_true rfl, Nat.le_of_ble_eq_true rfl⟩ ⟨Nat.le_of_ble_eq_true rfl, Nat.le_of_ble_eq_true rfl⟩ rfl rfl (Nat.le_of_ble_eq_true rfl) dX4_stateOf_3 ?_
    refine g_topi (y := (-2)) (el) ?_
    refine g_istore_n (lv' := [some (.ref o), some (.int s), some (.int day), some (.int (-2))]) C dX4_stateOf_6 rfl (by decide) rfl ?_
    refine g_iload_n C dX4_stateOf_7 rfl rfl ?_
    refine g_bipush (v := (-2)) C dX4_stateOf_8 rfl ?_
    refine g_icmp_ne 17 C dX4_stateOf_10 rfl (fun c10 => ?_) (fun c10 => ?_)
    · exact absurd c10 (by decide)
    · refine g_iconst (v := 0) C dX4_stateOf_13 rfl ?_
      refine g_goto 47 C dX4_stateOf_14 rfl ?_
      exact g_iret C R (Nat.le_refl _) (Nat.le_refl _) dX4_stateOf_47 (fun H h => ⟨by simp only [stI, if_pos el], h⟩)
  · have ej : (nI j).toNatClampNeg = j := nI_clamp (by omega)
    have n2 := nI_m2 (show j < 2 ^ 31 by omega)
    refine g_aload_n C dX4_stateOf_0 rfl rfl ?_
    refine g_iload_n C dX4_stateOf_1 rfl rfl ?_
    refine g_iload_n C dX4_stateOf_2 rfl rfl ?_
    refine g_mcall (rest := []) 2 C (ct_last (F := F) (X := X) B J _ _) (lw_V q2038 q2040 qs71 q107 q2041) (by decide +kernel) ⟨Nat.le_of_ble_eq_true rfl, Nat.le_of_ble_eq_true rfl⟩ ⟨Nat.le_of_ble_eq_true rfl, Nat.le_of_ble_eq_true rfl⟩ rfl rfl (Nat.le_of_ble_eq_true rfl) dX4_stateOf_3 ?_
    refine g_topi (y := nI j) (el) ?_
    refine g_istore_n (lv' := [some (.ref o), some (.int s), some (.int day), some (.int (nI j))]) C dX4_stateOf_6 rfl (by decide) rfl ?_
    refine g_iload_n C dX4_stateOf_7 rfl rfl ?_
    refine g_bipush (v := (-2)) C dX4_stateOf_8 rfl ?_
    refine g_icmp_ne 17 C dX4_stateOf_10 rfl (fun c10 => ?_) (fun c10 => ?_)
    · refine g_aload_n C dX4_stateOf_17 rfl rfl ?_
      refine mg_1 C dX4_stateOf_18 ?_
      refine g_bipush (v := 91) C dX4_stateOf_21 rfl ?_
      refine g_iload_n C dX4_stateOf_23 rfl rfl ?_
      refine g_iadd C dX4_stateOf_24 ?_
      refine g_topi (y := nI (91 + j)) (nI_add 91 j) ?_
      refine ml_1 (i := 91 + j) C dX4_stateOf_25 (by omega) ?_
      refine g_if_le 33 C dX4_stateOf_26 rfl (fun c26 => ?_) (fun c26 => ?_)
      · refine g_iload_n C dX4_stateOf_33 rfl rfl ?_
        refine g_aload_n C dX4_stateOf_34 rfl rfl ?_
        refine g_iload_n C dX4_stateOf_35 rfl rfl ?_
        refine g_mcall (rest := [.int day]) 1 C (ct_expires (F := F) (X := X) B J j (by omega)) (lw_V q2042 q2044 qs72 q107 q2045) (by decide +kernel) ⟨Nat.le_of_ble_eq_true rfl, Nat.le_of_ble_eq_true rfl⟩ ⟨Nat.le_of_ble_eq_true rfl, Nat.le_of_ble_eq_true rfl⟩ rfl rfl (Nat.le_of_ble_eq_true rfl) dX4_stateOf_36 ?_
        refine g_icmp_ge 46 C dX4_stateOf_39 rfl (fun c39 => ?_) (fun c39 => ?_)
        · refine g_iconst (v := 2) C dX4_stateOf_46 rfl ?_
          exact g_iret C R (Nat.le_refl _) (Nat.le_refl _) dX4_stateOf_47 (fun H h => ⟨by simp only [stI, el, if_neg n2, ej, if_pos c26, if_pos c39], h⟩)
        · refine g_iconst (v := 1) C dX4_stateOf_42 rfl ?_
          refine g_goto 47 C dX4_stateOf_43 rfl ?_
          exact g_iret C R (Nat.le_refl _) (Nat.le_refl _) dX4_stateOf_47 (fun H h => ⟨by simp only [stI, el, if_neg n2, ej, if_pos c26, if_neg c39], h⟩)
      · refine g_iconst (v := 3) C dX4_stateOf_29 rfl ?_
        refine g_goto 47 C dX4_stateOf_30 rfl ?_
        exact g_iret C R (Nat.le_refl _) (Nat.le_refl _) dX4_stateOf_47 (fun H h => ⟨by simp only [stI, el, if_neg n2, ej, if_neg c26], h⟩)
    · exact absurd c10 n2
set_option maxRecDepth 100000 in
theorem ct_sealState {l : Launch} {Γ : Gm} {A : Nat → Prop} {ρ : State → Prop} (B : Bs l A ρ) {o : Nat} {ad : Nat → Nat} {F : Nat → Int32} {X : Nat → Nat → Int32} {nt ns nm ne nv nu ln : Nat} (J : Iv F X nt ns nm ne nv nu ln) (scale day : Int32) : CtM l Γ A ρ yX4_sealState cX4_sealState 3 (some .int) 2 47 o ad [.ref o, .int scale, .int day] F X (some (.int (atI scale ns (fun j => atI day 10000 (fun t => stI X nv (nI j) (nI t)))))) (upd F 0 0) X := by
  refine Ct.of B.1 B.2 (by decide) [some (.ref o), some (.int scale), some (.int day)] (Nat.le_of_ble_eq_true rfl) rfl ?_
  intro E hE C R
  subst hE
  have hv_ := J.lv
  have hs_ := J.ls
  refine g_aload_n C dX4_sealState_0 rfl rfl ?_
  refine g_iconst (v := 0) C dX4_sealState_1 rfl ?_
  refine mp_0 C dX4_sealState_2 ?_
  refine g_aload_n C dX4_sealState_5 rfl rfl ?_
  refine g_iload_n C dX4_sealState_6 rfl rfl ?_
  refine g_mcall (rest := []) 1 C (ct_isScale (F := upd F 0 0) (X := X) B J _) (lw_V q1894 q1896 qs59 q107 q1897) (by decide +kernel) ⟨Nat.le_of_ble_eq_true rfl, Nat.le_of_ble_eq_true rfl⟩ ⟨Nat.le_of_ble_eq_true rfl, Nat.le_of_ble_eq_true rfl⟩ rfl rfl (Nat.le_of_ble_eq_true rfl) dX4_sealState_7 ?_
  refine g_if_eq 29 C dX4_sealState_10 rfl (fun c10 => ?_) (fun c10 => ?_)
  · refine g_iconst (v := (-1)) C dX4_sealState_29 rfl ?_
    exact g_iret C R (Nat.le_refl _) (Nat.le_refl _) dX4_sealState_30 (fun H h => ⟨by rw [atI_out c10], h⟩)
  · obtain ⟨j_scale, hj_scale, rfl⟩ := ixI_in (by omega) c10
    refine g_iload_n C dX4_sealState_13 rfl rfl ?_
    refine g_pcall (rest := []) 1 C (ct_isDay B _) (lw_S q2031 q2032 q107 q2033) ⟨by decide, by decide, by decide +kernel⟩ ⟨Nat.le_of_ble_eq_true rfl, Nat.le_of_ble_eq_true rfl⟩ ⟨Nat.le_of_ble_eq_true rfl, Nat.le_of_ble_eq_true rfl⟩ rfl rfl (Nat.le_of_ble_eq_true rfl) dX4_sealState_14 ?_
    refine g_if_eq 29 C dX4_sealState_17 rfl (fun c17 => ?_) (fun c17 => ?_)
    · refine g_iconst (v := (-1)) C dX4_sealState_29 rfl ?_
      exact g_iret C R (Nat.le_refl _) (Nat.le_refl _) dX4_sealState_30 (fun H h => ⟨by rw [atI_in hj_scale (by omega), atI_out c17], h⟩)
    · obtain ⟨j_day, hj_day, rfl⟩ := ixI_in (by omega) c17
      refine g_aload_n C dX4_sealState_20 rfl rfl ?_
      refine g_iload_n C dX4_sealState_21 rfl rfl ?_
      refine g_iload_n C dX4_sealState_22 rfl rfl ?_
      refine g_mcall (rest := []) 2 C (ct_stateOf (F := upd F 0 0) (X := X) B J _ _) (lw_V q2034 q2036 qs70 q107 q2037) (by decide +kernel) ⟨Nat.le_of_ble_eq_true rfl, Nat.le_of_ble_eq_true rfl⟩ ⟨Nat.le_of_ble_eq_true rfl, Nat.le_of_ble_eq_true rfl⟩ rfl rfl (Nat.le_of_ble_eq_true rfl) dX4_sealState_23 ?_
      refine g_goto 30 C dX4_sealState_26 rfl ?_
      exact g_iret C R (Nat.le_refl _) (Nat.le_refl _) dX4_sealState_30 (fun H h => ⟨by rw [atI_in hj_scale (by omega), atI_in hj_day (by omega)], h⟩)
set_option maxRecDepth 100000 in
theorem ct_expiryDay {l : Launch} {Γ : Gm} {A : Nat → Prop} {ρ : State → Prop} (B : Bs l A ρ) {o : Nat} {ad : Nat → Nat} {F : Nat → Int32} {X : Nat → Nat → Int32} {nt ns nm ne nv nu ln : Nat} (J : Iv F X nt ns nm ne nv nu ln) (scale day : Int32) : CtM l Γ A ρ yX4_expiryDay cX4_expiryDay 3 (some .int) 2 47 o ad [.ref o, .int scale, .int day] F X (some (.int (atI scale ns (fun j => atI day 10000 (fun t => edI X nv (nI j) (nI t)))))) (upd F 0 0) X := by
  refine Ct.of B.1 B.2 (by decide) [some (.ref o), some (.int scale), some (.int day)] (Nat.le_of_ble_eq_true rfl) rfl ?_
  intro E hE C R
  subst hE
  have hv_ := J.lv
  have hs_ := J.ls
  refine g_aload_n C dX4_expiryDay_0 rfl rfl ?_
  refine g_iconst (v := 0) C dX4_expiryDay_1 rfl ?_
  refine mp_0 C dX4_expiryDay_2 ?_
  refine g_aload_n C dX4_expiryDay_5 rfl rfl ?_
  refine g_iload_n C dX4_expiryDay_6 rfl rfl ?_
  refine g_mcall (rest := []) 1 C (ct_isScale (F := upd F 0 0) (X := X) B J _) (lw_V q1894 q1896 qs59 q107 q1897) (by decide +kernel) ⟨Nat.le_of_ble_eq_true rfl, Nat.le_of_ble_eq_true rfl⟩ ⟨Nat.le_of_ble_eq_true rfl, Nat.le_of_ble_eq_true rfl⟩ rfl rfl (Nat.le_of_ble_eq_true rfl) dX4_expiryDay_7 ?_
  refine g_if_eq 20 C dX4_expiryDay_10 rfl (fun c10 => ?_) (fun c10 => ?_)
  · refine g_iconst (v := (-1)) C dX4_expiryDay_20 rfl ?_
    exact g_iret C R (Nat.le_refl _) (Nat.le_refl _) dX4_expiryDay_21 (fun H h => ⟨by rw [atI_out c10], h⟩)
  · obtain ⟨j_scale, hj_scale, rfl⟩ := ixI_in (by omega) c10
    refine g_iload_n C dX4_expiryDay_13 rfl rfl ?_
    refine g_pcall (rest := []) 1 C (ct_isDay B _) (lw_S q2031 q2032 q107 q2033) ⟨by decide, by decide, by decide +kernel⟩ ⟨Nat.le_of_ble_eq_true rfl, Nat.le_of_ble_eq_true rfl⟩ ⟨Nat.le_of_ble_eq_true rfl, Nat.le_of_ble_eq_true rfl⟩ rfl rfl (Nat.le_of_ble_eq_true rfl) dX4_expiryDay_14 ?_
    refine g_if_ne 22 C dX4_expiryDay_17 rfl (fun c17 => ?_) (fun c17 => ?_)
    · obtain ⟨j_day, hj_day, rfl⟩ := ixI_in (by omega) c17
      refine g_aload_n C dX4_expiryDay_22 rfl rfl ?_
      refine g_iload_n C dX4_expiryDay_23 rfl rfl ?_
      refine g_iload_n C dX4_expiryDay_24 rfl rfl ?_
      refine g_mcall (rest := []) 2 C (ct_stateOf (F := upd F 0 0) (X := X) B J _ _) (lw_V q2034 q2036 qs70 q107 q2037) (by decide +kernel) ⟨Nat.le_of_ble_eq_true rfl, Nat.le_of_ble_eq_true rfl⟩ ⟨Nat.le_of_ble_eq_true rfl, Nat.le_of_ble_eq_true rfl⟩ rfl rfl (Nat.le_of_ble_eq_true rfl) dX4_expiryDay_25 ?_
      refine g_iconst (v := 1) C dX4_expiryDay_28 rfl ?_
      refine g_icmp_ne 45 C dX4_expiryDay_29 rfl (fun c29 => ?_) (fun c29 => ?_)
      · refine g_bipush (v := (-2)) C dX4_expiryDay_45 rfl ?_
        exact g_iret C R (Nat.le_refl _) (Nat.le_refl _) dX4_expiryDay_47 (fun H h => ⟨by rw [atI_in hj_scale (by omega), atI_in hj_day (by omega)]; simp only [edI, if_neg c29], h⟩)
      · refine g_aload_n C dX4_expiryDay_32 rfl rfl ?_
        refine g_aload_n C dX4_expiryDay_33 rfl rfl ?_
        refine g_iload_n C dX4_expiryDay_34 rfl rfl ?_
        refine g_iload_n C dX4_expiryDay_35 rfl rfl ?_
        refine g_mcall (rest := [.ref o]) 2 C (ct_last (F := upd F 0 0) (X := X) B J _ _) (lw_V q2038 q2040 qs71 q107 q2041) (by decide +kernel) ⟨Nat.le_of_ble_eq_true rfl, Nat.le_of_ble_eq_true rfl⟩ ⟨Nat.le_of_ble_eq_true rfl, Nat.le_of_ble_eq_true rfl⟩ rfl rfl (Nat.le_of_ble_eq_true rfl) dX4_expiryDay_36 ?_
        obtain ⟨v, hv, ev⟩ := stI_1 c29
        refine g_topi (y := nI v) (ev) ?_
        refine g_mcall (rest := []) 1 C (ct_expires (F := upd F 0 0) (X := X) B J v (by omega)) (lw_V q2042 q2044 qs72 q107 q2045) (by decide +kernel) ⟨Nat.le_of_ble_eq_true rfl, Nat.le_of_ble_eq_true rfl⟩ ⟨Nat.le_of_ble_eq_true rfl, Nat.le_of_ble_eq_true rfl⟩ rfl rfl (Nat.le_of_ble_eq_true rfl) dX4_expiryDay_39 ?_
        refine g_goto 47 C dX4_expiryDay_42 rfl ?_
        exact g_iret C R (Nat.le_refl _) (Nat.le_refl _) dX4_expiryDay_47 (fun H h => ⟨by rw [atI_in hj_scale (by omega), atI_in hj_day (by omega)]; simp only [edI, if_pos c29, ev, nI_clamp (show v < 2 ^ 31 by omega)], h⟩)
    · refine g_iconst (v := (-1)) C dX4_expiryDay_20 rfl ?_
      exact g_iret C R (Nat.le_refl _) (Nat.le_refl _) dX4_expiryDay_21 (fun H h => ⟨by rw [atI_in hj_scale (by omega), atI_out c17], h⟩)
set_option maxRecDepth 100000 in
theorem ct_scalesWith {l : Launch} {Γ : Gm} {A : Nat → Prop} {ρ : State → Prop} (B : Bs l A ρ) {o : Nat} {ad : Nat → Nat} {F : Nat → Int32} {X : Nat → Nat → Int32} {nt ns nm ne nv nu ln : Nat} (J : Iv F X nt ns nm ne nv nu ln) (state day : Int32) : CtM l Γ A ρ yX4_scalesWith cX4_scalesWith 5 (some .int) 2 47 o ad [.ref o, .int state, .int day] F X (some (.int (atI state 4 (fun q => atI day 10000 (fun t => swN X nv (nI q) (nI t) ns))))) (upd F 0 0) X := by
  refine Ct.of B.1 B.2 (by decide) [some (.ref o), some (.int state), some (.int day), none, none] (Nat.le_of_ble_eq_true rfl) rfl ?_
  intro E hE C R
  subst hE
  have hs_ := J.ls
  have hv_ := J.lv
  refine g_aload_n C dX4_scalesWith_0 rfl rfl ?_
  refine g_iconst (v := 0) C dX4_scalesWith_1 rfl ?_
  refine mp_0 C dX4_scalesWith_2 ?_
  refine g_iload_n C dX4_scalesWith_5 rfl rfl ?_
  refine g_i2l C dX4_scalesWith_6 ?_
  refine g_lconst (v := 0) C dX4_scalesWith_7 rfl ?_
  refine g_ldc2 (v := 3) C dX4_scalesWith_8 q2054 ?_
  refine g_pcall (rest := []) 3 C (ct_within B _ _ _) (lw_S q1783 q1784 q107 q1785) ⟨by decide, by decide, by decide +kernel⟩ ⟨Nat.le_of_ble_eq_true rfl, Nat.le_of_ble_eq_true rfl⟩ ⟨Nat.le_of_ble_eq_true rfl, Nat.le_of_ble_eq_true rfl⟩ rfl rfl (Nat.le_of_ble_eq_true rfl) dX4_scalesWith_11 ?_
  refine g_topi (y := ixI state 4) (wi_lit (n := 3) (by decide)) ?_
  refine g_if_eq 24 C dX4_scalesWith_14 rfl (fun c14 => ?_) (fun c14 => ?_)
  · refine g_iconst (v := (-1)) C dX4_scalesWith_24 rfl ?_
    exact g_iret C R (Nat.le_refl _) (Nat.le_refl _) dX4_scalesWith_25 (fun H h => ⟨by rw [atI_out c14], h⟩)
  · obtain ⟨j_state, hj_state, rfl⟩ := ixI_in (by omega) c14
    refine g_iload_n C dX4_scalesWith_17 rfl rfl ?_
    refine g_pcall (rest := []) 1 C (ct_isDay B _) (lw_S q2031 q2032 q107 q2033) ⟨by decide, by decide, by decide +kernel⟩ ⟨Nat.le_of_ble_eq_true rfl, Nat.le_of_ble_eq_true rfl⟩ ⟨Nat.le_of_ble_eq_true rfl, Nat.le_of_ble_eq_true rfl⟩ rfl rfl (Nat.le_of_ble_eq_true rfl) dX4_scalesWith_18 ?_
    refine g_if_ne 26 C dX4_scalesWith_21 rfl (fun c21 => ?_) (fun c21 => ?_)
    · obtain ⟨j_day, hj_day, rfl⟩ := ixI_in (by omega) c21
      refine g_iconst (v := 0) C dX4_scalesWith_26 rfl ?_
      refine g_istore_n (lv' := [some (.ref o), some (.int (nI j_state)), some (.int (nI j_day)), some (.int 0), none]) C dX4_scalesWith_27 rfl (by decide) rfl ?_
      refine g_iconst (v := 0) C dX4_scalesWith_28 rfl ?_
      refine g_istore (lv' := [some (.ref o), some (.int (nI j_state)), some (.int (nI j_day)), some (.int 0), some (.int 0)]) C dX4_scalesWith_29 (by decide) rfl ?_
      refine g_for (P := fun k => G E (RepM Γ A o ad (upd F 0 0) X) 0 0 31 [some (.ref o), some (.int (nI j_state)), some (.int (nI j_day)), some (.int (swN X nv (nI j_state) (nI j_day) k)), some (.int (nI k))] []) ns ?_ ?_ 0 (Nat.zero_le _)
      · refine g_iload C dX4_scalesWith_31 rfl ?_
        refine g_aload_n C dX4_scalesWith_33 rfl rfl ?_
        refine mg_3 C dX4_scalesWith_34 ?_
        refine g_topi (y := nI ns) (J.f3) ?_
        refine gN_ge (a := ns) (b := ns) 68 C dX4_scalesWith_37 rfl (by omega) (by omega) (fun c37 => ?_) (fun c37 => ?_)
        · refine g_iload_n C dX4_scalesWith_68 rfl rfl ?_
          exact g_iret C R (Nat.le_refl _) (Nat.le_refl _) dX4_scalesWith_69 (fun H h => ⟨by rw [atI_in hj_state (by omega), atI_in hj_day (by omega)], h⟩)
        · exfalso; omega
      · intro k hk ih
        replace ih : G E (RepM Γ A o ad (upd F 0 0) X) 0 0 31 [some (.ref o), some (.int (nI j_state)), some (.int (nI j_day)), some (.int (swN X nv (nI j_state) (nI j_day) (k + 1))), some (.int (nI (k + 1)))] [] := ih
        refine g_iload C dX4_scalesWith_31 rfl ?_
        refine g_aload_n C dX4_scalesWith_33 rfl rfl ?_
        refine mg_3 C dX4_scalesWith_34 ?_
        refine g_topi (y := nI ns) (J.f3) ?_
        refine gN_ge (a := k) (b := ns) 68 C dX4_scalesWith_37 rfl (by omega) (by omega) (fun c37 => ?_) (fun c37 => ?_)
        · exfalso; omega
        · refine g_iload_n C dX4_scalesWith_40 rfl rfl ?_
          refine g_aload_n C dX4_scalesWith_41 rfl rfl ?_
          refine g_iload C dX4_scalesWith_42 rfl ?_
          refine g_iload_n C dX4_scalesWith_44 rfl rfl ?_
          refine g_mcall (rest := [.int (swN X nv (nI j_state) (nI j_day) k)]) 2 C (ct_stateOf (F := upd F 0 0) (X := X) B J _ _) (lw_V q2034 q2036 qs70 q107 q2037) (by decide +kernel) ⟨Nat.le_of_ble_eq_true rfl, Nat.le_of_ble_eq_true rfl⟩ ⟨Nat.le_of_ble_eq_true rfl, Nat.le_of_ble_eq_true rfl⟩ rfl rfl (Nat.le_of_ble_eq_true rfl) dX4_scalesWith_45 ?_
          refine g_iload_n C dX4_scalesWith_48 rfl rfl ?_
          refine g_icmp_ne 59 C dX4_scalesWith_49 rfl (fun c49 => ?_) (fun c49 => ?_)
          · refine g_iconst (v := 0) C dX4_scalesWith_59 rfl ?_
            refine g_ior C dX4_scalesWith_60 ?_
            refine g_topi (y := swN X nv (nI j_state) (nI j_day) (k + 1)) (by simp only [swN, if_neg c49]) ?_
            refine g_istore_n (lv' := [some (.ref o), some (.int (nI j_state)), some (.int (nI j_day)), some (.int (swN X nv (nI j_state) (nI j_day) (k + 1))), some (.int (nI k))]) C dX4_scalesWith_61 rfl (by decide) rfl ?_
            refine g_inc1 (x := k) (lv' := [some (.ref o), some (.int (nI j_state)), some (.int (nI j_day)), some (.int (swN X nv (nI j_state) (nI j_day) (k + 1))), some (.int (nI (k + 1)))]) C dX4_scalesWith_62 rfl (by decide) rfl ?_
            refine g_goto 31 C dX4_scalesWith_65 rfl ?_
            exact ih
          · refine g_iconst (v := 1) C dX4_scalesWith_52 rfl ?_
            refine g_iload C dX4_scalesWith_53 rfl ?_
            refine g_ishl C dX4_scalesWith_55 ?_
            refine g_goto 60 C dX4_scalesWith_56 rfl ?_
            refine g_ior C dX4_scalesWith_60 ?_
            refine g_topi (y := swN X nv (nI j_state) (nI j_day) (k + 1)) (by simp only [swN, if_pos c49]) ?_
            refine g_istore_n (lv' := [some (.ref o), some (.int (nI j_state)), some (.int (nI j_day)), some (.int (swN X nv (nI j_state) (nI j_day) (k + 1))), some (.int (nI k))]) C dX4_scalesWith_61 rfl (by decide) rfl ?_
            refine g_inc1 (x := k) (lv' := [some (.ref o), some (.int (nI j_state)), some (.int (nI j_day)), some (.int (swN X nv (nI j_state) (nI j_day) (k + 1))), some (.int (nI (k + 1)))]) C dX4_scalesWith_62 rfl (by decide) rfl ?_
            refine g_goto 31 C dX4_scalesWith_65 rfl ?_
            exact ih
    · refine g_iconst (v := (-1)) C dX4_scalesWith_24 rfl ?_
      exact g_iret C R (Nat.le_refl _) (Nat.le_refl _) dX4_scalesWith_25 (fun H h => ⟨by rw [atI_in hj_state (by omega), atI_out c21], h⟩)
set_option maxRecDepth 100000 in
theorem ct_riskOf {l : Launch} {Γ : Gm} {A : Nat → Prop} {ρ : State → Prop} (B : Bs l A ρ) {o : Nat} {ad : Nat → Nat} {F : Nat → Int32} {X : Nat → Nat → Int32} {nt ns nm ne nv nu ln : Nat} (J : Iv F X nt ns nm ne nv nu ln) (s : Nat) (hs : s < ns) (day : Int32) : CtM l Γ A ρ yX4_riskOf cX4_riskOf 6 (some .int) 2 47 o ad [.ref o, .int (nI s), .int day] F X (some (.int (nI (riN X ns nv s day)))) F X := by
  refine Ct.of B.1 B.2 (by decide) [some (.ref o), some (.int (nI s)), some (.int day), none, none, none] (Nat.le_of_ble_eq_true rfl) rfl ?_
  intro E hE C R
  subst hE
  have hv_ := J.lv
  have hs_ := J.ls
  have j124 : G E (RepM Γ A o ad F X) 0 0 124 [some (.ref o), some (.int (nI s)), some (.int day), some (.int (stI X nv (nI s) day)), some (.int (nI (rk1 (X 1) (nI s) day (rk0 (stI X nv (nI s) day)) nv))), some (.int 0)] [] := by
    refine g_for (P := fun k => G E (RepM Γ A o ad F X) 0 0 124 [some (.ref o), some (.int (nI s)), some (.int day), some (.int (stI X nv (nI s) day)), some (.int (nI (rk2 X nv s day (rk1 (X 1) (nI s) day (rk0 (stI X nv (nI s) day)) nv) k))), some (.int (nI k))] []) ns ?_ ?_ 0 (Nat.zero_le _)
    · refine g_iload C dX4_riskOf_124 rfl ?_
      refine g_aload_n C dX4_riskOf_126 rfl rfl ?_
      refine mg_3 C dX4_riskOf_127 ?_
      refine g_topi (y := nI ns) (J.f3) ?_
      refine gN_ge (a := ns) (b := ns) 182 C dX4_riskOf_130 rfl (by omega) (by omega) (fun c130 => ?_) (fun c130 => ?_)
      · refine g_iload C dX4_riskOf_182 rfl ?_
        exact g_iret C R (Nat.le_refl _) (Nat.le_refl _) dX4_riskOf_184 (fun H h => ⟨rfl, h⟩)
      · exfalso; omega
    · intro k hk ih
      replace ih : G E (RepM Γ A o ad F X) 0 0 124 [some (.ref o), some (.int (nI s)), some (.int day), some (.int (stI X nv (nI s) day)), some (.int (nI (rk2 X nv s day (rk1 (X 1) (nI s) day (rk0 (stI X nv (nI s) day)) nv) (k + 1)))), some (.int (nI (k + 1)))] [] := ih
      refine g_iload C dX4_riskOf_124 rfl ?_
      refine g_aload_n C dX4_riskOf_126 rfl rfl ?_
      refine mg_3 C dX4_riskOf_127 ?_
      refine g_topi (y := nI ns) (J.f3) ?_
      refine gN_ge (a := k) (b := ns) 182 C dX4_riskOf_130 rfl (by omega) (by omega) (fun c130 => ?_) (fun c130 => ?_)
      · exfalso; omega
      · refine g_iload C dX4_riskOf_133 rfl ?_
        refine g_iload C dX4_riskOf_135 rfl ?_
        refine g_iload_n C dX4_riskOf_137 rfl rfl ?_
        refine gN_eq (a := k) (b := s) 172 C dX4_riskOf_138 rfl (by omega) (by omega) (fun c138 => ?_) (fun c138 => ?_)
        · refine g_iconst (v := 0) C dX4_riskOf_172 rfl ?_
          refine g_iadd C dX4_riskOf_173 ?_
          refine g_topi (y := nI (rk2 X nv s day (rk1 (X 1) (nI s) day (rk0 (stI X nv (nI s) day)) nv) k + 0)) (nI_add (rk2 X nv s day (rk1 (X 1) (nI s) day (rk0 (stI X nv (nI s) day)) nv) k) 0) ?_
          refine g_topi (y := nI (rk2 X nv s day (rk1 (X 1) (nI s) day (rk0 (stI X nv (nI s) day)) nv) (k + 1))) (by simp only [rk2, if_pos c138]) ?_
          refine g_istore (lv' := [some (.ref o), some (.int (nI s)), some (.int day), some (.int (stI X nv (nI s) day)), some (.int (nI (rk2 X nv s day (rk1 (X 1) (nI s) day (rk0 (stI X nv (nI s) day)) nv) (k + 1)))), some (.int (nI k))]) C dX4_riskOf_174 (by decide) rfl ?_
          refine g_inc1 (x := k) (lv' := [some (.ref o), some (.int (nI s)), some (.int day), some (.int (stI X nv (nI s) day)), some (.int (nI (rk2 X nv s day (rk1 (X 1) (nI s) day (rk0 (stI X nv (nI s) day)) nv) (k + 1)))), some (.int (nI (k + 1)))]) C dX4_riskOf_176 rfl (by decide) rfl ?_
          refine g_goto 124 C dX4_riskOf_179 rfl ?_
          exact ih
        · refine g_aload_n C dX4_riskOf_141 rfl rfl ?_
          refine mg_4 C dX4_riskOf_142 ?_
          refine g_iload C dX4_riskOf_145 rfl ?_
          refine ml_4 (i := k) C dX4_riskOf_147 (by omega) ?_
          refine g_aload_n C dX4_riskOf_148 rfl rfl ?_
          refine mg_4 C dX4_riskOf_149 ?_
          refine g_iload_n C dX4_riskOf_152 rfl rfl ?_
          refine ml_4 (i := s) C dX4_riskOf_153 (by omega) ?_
          refine g_icmp_ne 172 C dX4_riskOf_154 rfl (fun c154 => ?_) (fun c154 => ?_)
          · refine g_iconst (v := 0) C dX4_riskOf_172 rfl ?_
            refine g_iadd C dX4_riskOf_173 ?_
            refine g_topi (y := nI (rk2 X nv s day (rk1 (X 1) (nI s) day (rk0 (stI X nv (nI s) day)) nv) k + 0)) (nI_add (rk2 X nv s day (rk1 (X 1) (nI s) day (rk0 (stI X nv (nI s) day)) nv) k) 0) ?_
            refine g_topi (y := nI (rk2 X nv s day (rk1 (X 1) (nI s) day (rk0 (stI X nv (nI s) day)) nv) (k + 1))) (by simp only [rk2, if_neg c138, if_neg c154]) ?_
            refine g_istore (lv' := [some (.ref o), some (.int (nI s)), some (.int day), some (.int (stI X nv (nI s) day)), some (.int (nI (rk2 X nv s day (rk1 (X 1) (nI s) day (rk0 (stI X nv (nI s) day)) nv) (k + 1)))), some (.int (nI k))]) C dX4_riskOf_174 (by decide) rfl ?_
            refine g_inc1 (x := k) (lv' := [some (.ref o), some (.int (nI s)), some (.int day), some (.int (stI X nv (nI s) day)), some (.int (nI (rk2 X nv s day (rk1 (X 1) (nI s) day (rk0 (stI X nv (nI s) day)) nv) (k + 1)))), some (.int (nI (k + 1)))]) C dX4_riskOf_176 rfl (by decide) rfl ?_
            refine g_goto 124 C dX4_riskOf_179 rfl ?_
            exact ih
          · refine g_aload_n C dX4_riskOf_157 rfl rfl ?_
            refine g_iload C dX4_riskOf_158 rfl ?_
            refine g_iload_n C dX4_riskOf_160 rfl rfl ?_
            refine g_mcall (rest := [.int (nI (rk2 X nv s day (rk1 (X 1) (nI s) day (rk0 (stI X nv (nI s) day)) nv) k))]) 2 C (ct_stateOf (F := F) (X := X) B J _ _) (lw_V q2034 q2036 qs70 q107 q2037) (by decide +kernel) ⟨Nat.le_of_ble_eq_true rfl, Nat.le_of_ble_eq_true rfl⟩ ⟨Nat.le_of_ble_eq_true rfl, Nat.le_of_ble_eq_true rfl⟩ rfl rfl (Nat.le_of_ble_eq_true rfl) dX4_riskOf_161 ?_
            refine g_iconst (v := 3) C dX4_riskOf_164 rfl ?_
            refine g_icmp_ne 172 C dX4_riskOf_165 rfl (fun c165 => ?_) (fun c165 => ?_)
            · refine g_iconst (v := 0) C dX4_riskOf_172 rfl ?_
              refine g_iadd C dX4_riskOf_173 ?_
              refine g_topi (y := nI (rk2 X nv s day (rk1 (X 1) (nI s) day (rk0 (stI X nv (nI s) day)) nv) k + 0)) (nI_add (rk2 X nv s day (rk1 (X 1) (nI s) day (rk0 (stI X nv (nI s) day)) nv) k) 0) ?_
              refine g_topi (y := nI (rk2 X nv s day (rk1 (X 1) (nI s) day (rk0 (stI X nv (nI s) day)) nv) (k + 1))) (by simp only [rk2, if_neg c138, if_pos c154, if_neg c165]) ?_
              refine g_istore (lv' := [some (.ref o), some (.int (nI s)), some (.int day), some (.int (stI X nv (nI s) day)), some (.int (nI (rk2 X nv s day (rk1 (X 1) (nI s) day (rk0 (stI X nv (nI s) day)) nv) (k + 1)))), some (.int (nI k))]) C dX4_riskOf_174 (by decide) rfl ?_
              refine g_inc1 (x := k) (lv' := [some (.ref o), some (.int (nI s)), some (.int day), some (.int (stI X nv (nI s) day)), some (.int (nI (rk2 X nv s day (rk1 (X 1) (nI s) day (rk0 (stI X nv (nI s) day)) nv) (k + 1)))), some (.int (nI (k + 1)))]) C dX4_riskOf_176 rfl (by decide) rfl ?_
              refine g_goto 124 C dX4_riskOf_179 rfl ?_
              exact ih
            · refine g_iconst (v := 1) C dX4_riskOf_168 rfl ?_
              refine g_goto 173 C dX4_riskOf_169 rfl ?_
              refine g_iadd C dX4_riskOf_173 ?_
              refine g_topi (y := nI (rk2 X nv s day (rk1 (X 1) (nI s) day (rk0 (stI X nv (nI s) day)) nv) k + 1)) (nI_add (rk2 X nv s day (rk1 (X 1) (nI s) day (rk0 (stI X nv (nI s) day)) nv) k) 1) ?_
              refine g_topi (y := nI (rk2 X nv s day (rk1 (X 1) (nI s) day (rk0 (stI X nv (nI s) day)) nv) (k + 1))) (by simp only [rk2, if_neg c138, if_pos c154, if_pos c165]) ?_
              refine g_istore (lv' := [some (.ref o), some (.int (nI s)), some (.int day), some (.int (stI X nv (nI s) day)), some (.int (nI (rk2 X nv s day (rk1 (X 1) (nI s) day (rk0 (stI X nv (nI s) day)) nv) (k + 1)))), some (.int (nI k))]) C dX4_riskOf_174 (by decide) rfl ?_
              refine g_inc1 (x := k) (lv' := [some (.ref o), some (.int (nI s)), some (.int day), some (.int (stI X nv (nI s) day)), some (.int (nI (rk2 X nv s day (rk1 (X 1) (nI s) day (rk0 (stI X nv (nI s) day)) nv) (k + 1)))), some (.int (nI (k + 1)))]) C dX4_riskOf_176 rfl (by decide) rfl ?_
              refine g_goto 124 C dX4_riskOf_179 rfl ?_
              exact ih
  have j40 : G E (RepM Γ A o ad F X) 0 0 40 [some (.ref o), some (.int (nI s)), some (.int day), some (.int (stI X nv (nI s) day)), some (.int (nI (rk0 (stI X nv (nI s) day)))), some (.int 0)] [] := by
    refine g_for (P := fun k => G E (RepM Γ A o ad F X) 0 0 40 [some (.ref o), some (.int (nI s)), some (.int day), some (.int (stI X nv (nI s) day)), some (.int (nI (rk1 (X 1) (nI s) day (rk0 (stI X nv (nI s) day)) k))), some (.int (nI k))] []) nv ?_ ?_ 0 (Nat.zero_le _)
    · refine g_iload C dX4_riskOf_40 rfl ?_
      refine g_aload_n C dX4_riskOf_42 rfl rfl ?_
      refine mg_1 C dX4_riskOf_43 ?_
      refine g_iconst (v := 0) C dX4_riskOf_46 rfl ?_
      refine ml_1 (i := 0) C dX4_riskOf_47 (by omega) ?_
      refine g_topi (y := nI nv) (J.x0) ?_
      refine gN_ge (a := nv) (b := nv) 121 C dX4_riskOf_48 rfl (by omega) (by omega) (fun c48 => ?_) (fun c48 => ?_)
      · refine g_iconst (v := 0) C dX4_riskOf_121 rfl ?_
        refine g_istore (lv' := [some (.ref o), some (.int (nI s)), some (.int day), some (.int (stI X nv (nI s) day)), some (.int (nI (rk1 (X 1) (nI s) day (rk0 (stI X nv (nI s) day)) nv))), some (.int 0)]) C dX4_riskOf_122 (by decide) rfl ?_
        exact j124
      · exfalso; omega
    · intro k hk ih
      replace ih : G E (RepM Γ A o ad F X) 0 0 40 [some (.ref o), some (.int (nI s)), some (.int day), some (.int (stI X nv (nI s) day)), some (.int (nI (rk1 (X 1) (nI s) day (rk0 (stI X nv (nI s) day)) (k + 1)))), some (.int (nI (k + 1)))] [] := ih
      refine g_iload C dX4_riskOf_40 rfl ?_
      refine g_aload_n C dX4_riskOf_42 rfl rfl ?_
      refine mg_1 C dX4_riskOf_43 ?_
      refine g_iconst (v := 0) C dX4_riskOf_46 rfl ?_
      refine ml_1 (i := 0) C dX4_riskOf_47 (by omega) ?_
      refine g_topi (y := nI nv) (J.x0) ?_
      refine gN_ge (a := k) (b := nv) 121 C dX4_riskOf_48 rfl (by omega) (by omega) (fun c48 => ?_) (fun c48 => ?_)
      · exfalso; omega
      · refine g_iload C dX4_riskOf_51 rfl ?_
        refine g_aload_n C dX4_riskOf_53 rfl rfl ?_
        refine mg_1 C dX4_riskOf_54 ?_
        refine g_iconst (v := 1) C dX4_riskOf_57 rfl ?_
        refine g_iload C dX4_riskOf_58 rfl ?_
        refine g_iadd C dX4_riskOf_60 ?_
        refine g_topi (y := nI (1 + k)) (nI_add 1 k) ?_
        refine ml_1 (i := 1 + k) C dX4_riskOf_61 (by omega) ?_
        refine g_iload_n C dX4_riskOf_62 rfl rfl ?_
        refine g_icmp_ne 111 C dX4_riskOf_63 rfl (fun c63 => ?_) (fun c63 => ?_)
        · refine g_iconst (v := 0) C dX4_riskOf_111 rfl ?_
          refine g_iadd C dX4_riskOf_112 ?_
          refine g_topi (y := nI (rk1 (X 1) (nI s) day (rk0 (stI X nv (nI s) day)) k + 0)) (nI_add (rk1 (X 1) (nI s) day (rk0 (stI X nv (nI s) day)) k) 0) ?_
          refine g_topi (y := nI (rk1 (X 1) (nI s) day (rk0 (stI X nv (nI s) day)) (k + 1))) (by simp only [rk1, if_neg c63]) ?_
          refine g_istore (lv' := [some (.ref o), some (.int (nI s)), some (.int day), some (.int (stI X nv (nI s) day)), some (.int (nI (rk1 (X 1) (nI s) day (rk0 (stI X nv (nI s) day)) (k + 1)))), some (.int (nI k))]) C dX4_riskOf_113 (by decide) rfl ?_
          refine g_inc1 (x := k) (lv' := [some (.ref o), some (.int (nI s)), some (.int day), some (.int (stI X nv (nI s) day)), some (.int (nI (rk1 (X 1) (nI s) day (rk0 (stI X nv (nI s) day)) (k + 1)))), some (.int (nI (k + 1)))]) C dX4_riskOf_115 rfl (by decide) rfl ?_
          refine g_goto 40 C dX4_riskOf_118 rfl ?_
          exact ih
        · refine g_aload_n C dX4_riskOf_66 rfl rfl ?_
          refine mg_1 C dX4_riskOf_67 ?_
          refine g_bipush (v := 61) C dX4_riskOf_70 rfl ?_
          refine g_iload C dX4_riskOf_72 rfl ?_
          refine g_iadd C dX4_riskOf_74 ?_
          refine g_topi (y := nI (61 + k)) (nI_add 61 k) ?_
          refine ml_1 (i := 61 + k) C dX4_riskOf_75 (by omega) ?_
          refine g_iconst (v := 1) C dX4_riskOf_76 rfl ?_
          refine g_icmp_ne 111 C dX4_riskOf_77 rfl (fun c77 => ?_) (fun c77 => ?_)
          · refine g_iconst (v := 0) C dX4_riskOf_111 rfl ?_
            refine g_iadd C dX4_riskOf_112 ?_
            refine g_topi (y := nI (rk1 (X 1) (nI s) day (rk0 (stI X nv (nI s) day)) k + 0)) (nI_add (rk1 (X 1) (nI s) day (rk0 (stI X nv (nI s) day)) k) 0) ?_
            refine g_topi (y := nI (rk1 (X 1) (nI s) day (rk0 (stI X nv (nI s) day)) (k + 1))) (by simp only [rk1, if_pos c63, if_neg c77]) ?_
            refine g_istore (lv' := [some (.ref o), some (.int (nI s)), some (.int day), some (.int (stI X nv (nI s) day)), some (.int (nI (rk1 (X 1) (nI s) day (rk0 (stI X nv (nI s) day)) (k + 1)))), some (.int (nI k))]) C dX4_riskOf_113 (by decide) rfl ?_
            refine g_inc1 (x := k) (lv' := [some (.ref o), some (.int (nI s)), some (.int day), some (.int (stI X nv (nI s) day)), some (.int (nI (rk1 (X 1) (nI s) day (rk0 (stI X nv (nI s) day)) (k + 1)))), some (.int (nI (k + 1)))]) C dX4_riskOf_115 rfl (by decide) rfl ?_
            refine g_goto 40 C dX4_riskOf_118 rfl ?_
            exact ih
          · refine g_aload_n C dX4_riskOf_80 rfl rfl ?_
            refine mg_1 C dX4_riskOf_81 ?_
            refine g_bipush (v := 31) C dX4_riskOf_84 rfl ?_
            refine g_iload C dX4_riskOf_86 rfl ?_
            refine g_iadd C dX4_riskOf_88 ?_
            refine g_topi (y := nI (31 + k)) (nI_add 31 k) ?_
            refine ml_1 (i := 31 + k) C dX4_riskOf_89 (by omega) ?_
            refine g_iload_n C dX4_riskOf_90 rfl rfl ?_
            refine g_icmp_gt 111 C dX4_riskOf_91 rfl (fun c91 => ?_) (fun c91 => ?_)
            · refine g_iconst (v := 0) C dX4_riskOf_111 rfl ?_
              refine g_iadd C dX4_riskOf_112 ?_
              refine g_topi (y := nI (rk1 (X 1) (nI s) day (rk0 (stI X nv (nI s) day)) k + 0)) (nI_add (rk1 (X 1) (nI s) day (rk0 (stI X nv (nI s) day)) k) 0) ?_
              refine g_topi (y := nI (rk1 (X 1) (nI s) day (rk0 (stI X nv (nI s) day)) (k + 1))) (by simp only [rk1, if_pos c63, if_pos c77, if_pos c91]) ?_
              refine g_istore (lv' := [some (.ref o), some (.int (nI s)), some (.int day), some (.int (stI X nv (nI s) day)), some (.int (nI (rk1 (X 1) (nI s) day (rk0 (stI X nv (nI s) day)) (k + 1)))), some (.int (nI k))]) C dX4_riskOf_113 (by decide) rfl ?_
              refine g_inc1 (x := k) (lv' := [some (.ref o), some (.int (nI s)), some (.int day), some (.int (stI X nv (nI s) day)), some (.int (nI (rk1 (X 1) (nI s) day (rk0 (stI X nv (nI s) day)) (k + 1)))), some (.int (nI (k + 1)))]) C dX4_riskOf_115 rfl (by decide) rfl ?_
              refine g_goto 40 C dX4_riskOf_118 rfl ?_
              exact ih
            · refine g_aload_n C dX4_riskOf_94 rfl rfl ?_
              refine mg_1 C dX4_riskOf_95 ?_
              refine g_bipush (v := 91) C dX4_riskOf_98 rfl ?_
              refine g_iload C dX4_riskOf_100 rfl ?_
              refine g_iadd C dX4_riskOf_102 ?_
              refine g_topi (y := nI (91 + k)) (nI_add 91 k) ?_
              refine ml_1 (i := 91 + k) C dX4_riskOf_103 (by omega) ?_
              refine g_if_le 111 C dX4_riskOf_104 rfl (fun c104 => ?_) (fun c104 => ?_)
              · refine g_iconst (v := 0) C dX4_riskOf_111 rfl ?_
                refine g_iadd C dX4_riskOf_112 ?_
                refine g_topi (y := nI (rk1 (X 1) (nI s) day (rk0 (stI X nv (nI s) day)) k + 0)) (nI_add (rk1 (X 1) (nI s) day (rk0 (stI X nv (nI s) day)) k) 0) ?_
                refine g_topi (y := nI (rk1 (X 1) (nI s) day (rk0 (stI X nv (nI s) day)) (k + 1))) (by simp only [rk1, if_pos c63, if_pos c77, if_neg c91, if_pos c104]) ?_
                refine g_istore (lv' := [some (.ref o), some (.int (nI s)), some (.int day), some (.int (stI X nv (nI s) day)), some (.int (nI (rk1 (X 1) (nI s) day (rk0 (stI X nv (nI s) day)) (k + 1)))), some (.int (nI k))]) C dX4_riskOf_113 (by decide) rfl ?_
                refine g_inc1 (x := k) (lv' := [some (.ref o), some (.int (nI s)), some (.int day), some (.int (stI X nv (nI s) day)), some (.int (nI (rk1 (X 1) (nI s) day (rk0 (stI X nv (nI s) day)) (k + 1)))), some (.int (nI (k + 1)))]) C dX4_riskOf_115 rfl (by decide) rfl ?_
                refine g_goto 40 C dX4_riskOf_118 rfl ?_
                exact ih
              · refine g_iconst (v := 1) C dX4_riskOf_107 rfl ?_
                refine g_goto 112 C dX4_riskOf_108 rfl ?_
                refine g_iadd C dX4_riskOf_112 ?_
                refine g_topi (y := nI (rk1 (X 1) (nI s) day (rk0 (stI X nv (nI s) day)) k + 1)) (nI_add (rk1 (X 1) (nI s) day (rk0 (stI X nv (nI s) day)) k) 1) ?_
                refine g_topi (y := nI (rk1 (X 1) (nI s) day (rk0 (stI X nv (nI s) day)) (k + 1))) (by simp only [rk1, if_pos c63, if_pos c77, if_neg c91, if_neg c104]) ?_
                refine g_istore (lv' := [some (.ref o), some (.int (nI s)), some (.int day), some (.int (stI X nv (nI s) day)), some (.int (nI (rk1 (X 1) (nI s) day (rk0 (stI X nv (nI s) day)) (k + 1)))), some (.int (nI k))]) C dX4_riskOf_113 (by decide) rfl ?_
                refine g_inc1 (x := k) (lv' := [some (.ref o), some (.int (nI s)), some (.int day), some (.int (stI X nv (nI s) day)), some (.int (nI (rk1 (X 1) (nI s) day (rk0 (stI X nv (nI s) day)) (k + 1)))), some (.int (nI (k + 1)))]) C dX4_riskOf_115 rfl (by decide) rfl ?_
                refine g_goto 40 C dX4_riskOf_118 rfl ?_
                exact ih
  refine g_aload_n C dX4_riskOf_0 rfl rfl ?_
  refine g_iload_n C dX4_riskOf_1 rfl rfl ?_
  refine g_iload_n C dX4_riskOf_2 rfl rfl ?_
  refine g_mcall (rest := []) 2 C (ct_stateOf (F := F) (X := X) B J _ _) (lw_V q2034 q2036 qs70 q107 q2037) (by decide +kernel) ⟨Nat.le_of_ble_eq_true rfl, Nat.le_of_ble_eq_true rfl⟩ ⟨Nat.le_of_ble_eq_true rfl, Nat.le_of_ble_eq_true rfl⟩ rfl rfl (Nat.le_of_ble_eq_true rfl) dX4_riskOf_3 ?_
  refine g_istore_n (lv' := [some (.ref o), some (.int (nI s)), some (.int day), some (.int (stI X nv (nI s) day)), none, none]) C dX4_riskOf_6 rfl (by decide) rfl ?_
  refine g_iload_n C dX4_riskOf_7 rfl rfl ?_
  refine g_if_ne 15 C dX4_riskOf_8 rfl (fun c8 => ?_) (fun c8 => ?_)
  · refine g_iload_n C dX4_riskOf_15 rfl rfl ?_
    refine g_iconst (v := 1) C dX4_riskOf_16 rfl ?_
    refine g_icmp_ne 24 C dX4_riskOf_17 rfl (fun c17 => ?_) (fun c17 => ?_)
    · refine g_iload_n C dX4_riskOf_24 rfl rfl ?_
      refine g_iconst (v := 2) C dX4_riskOf_25 rfl ?_
      refine g_icmp_ne 33 C dX4_riskOf_26 rfl (fun c26 => ?_) (fun c26 => ?_)
      · refine g_bipush (v := 6) C dX4_riskOf_33 rfl ?_
        refine g_topi (y := nI (rk0 (stI X nv (nI s) day))) (by simp only [rk0, if_neg c8, if_neg c17, if_neg c26]; rfl) ?_
        refine g_istore (lv' := [some (.ref o), some (.int (nI s)), some (.int day), some (.int (stI X nv (nI s) day)), some (.int (nI (rk0 (stI X nv (nI s) day)))), none]) C dX4_riskOf_35 (by decide) rfl ?_
        refine g_iconst (v := 0) C dX4_riskOf_37 rfl ?_
        refine g_istore (lv' := [some (.ref o), some (.int (nI s)), some (.int day), some (.int (stI X nv (nI s) day)), some (.int (nI (rk0 (stI X nv (nI s) day)))), some (.int 0)]) C dX4_riskOf_38 (by decide) rfl ?_
        exact j40
      · refine g_iconst (v := 3) C dX4_riskOf_29 rfl ?_
        refine g_goto 35 C dX4_riskOf_30 rfl ?_
        refine g_topi (y := nI (rk0 (stI X nv (nI s) day))) (by simp only [rk0, if_neg c8, if_neg c17, if_pos c26]; rfl) ?_
        refine g_istore (lv' := [some (.ref o), some (.int (nI s)), some (.int day), some (.int (stI X nv (nI s) day)), some (.int (nI (rk0 (stI X nv (nI s) day)))), none]) C dX4_riskOf_35 (by decide) rfl ?_
        refine g_iconst (v := 0) C dX4_riskOf_37 rfl ?_
        refine g_istore (lv' := [some (.ref o), some (.int (nI s)), some (.int day), some (.int (stI X nv (nI s) day)), some (.int (nI (rk0 (stI X nv (nI s) day)))), some (.int 0)]) C dX4_riskOf_38 (by decide) rfl ?_
        exact j40
    · refine g_iconst (v := 1) C dX4_riskOf_20 rfl ?_
      refine g_goto 35 C dX4_riskOf_21 rfl ?_
      refine g_topi (y := nI (rk0 (stI X nv (nI s) day))) (by simp only [rk0, if_neg c8, if_pos c17]; rfl) ?_
      refine g_istore (lv' := [some (.ref o), some (.int (nI s)), some (.int day), some (.int (stI X nv (nI s) day)), some (.int (nI (rk0 (stI X nv (nI s) day)))), none]) C dX4_riskOf_35 (by decide) rfl ?_
      refine g_iconst (v := 0) C dX4_riskOf_37 rfl ?_
      refine g_istore (lv' := [some (.ref o), some (.int (nI s)), some (.int day), some (.int (stI X nv (nI s) day)), some (.int (nI (rk0 (stI X nv (nI s) day)))), some (.int 0)]) C dX4_riskOf_38 (by decide) rfl ?_
      exact j40
  · refine g_iconst (v := 4) C dX4_riskOf_11 rfl ?_
    refine g_goto 35 C dX4_riskOf_12 rfl ?_
    refine g_topi (y := nI (rk0 (stI X nv (nI s) day))) (by simp only [rk0, if_pos c8]; rfl) ?_
    refine g_istore (lv' := [some (.ref o), some (.int (nI s)), some (.int day), some (.int (stI X nv (nI s) day)), some (.int (nI (rk0 (stI X nv (nI s) day)))), none]) C dX4_riskOf_35 (by decide) rfl ?_
    refine g_iconst (v := 0) C dX4_riskOf_37 rfl ?_
    refine g_istore (lv' := [some (.ref o), some (.int (nI s)), some (.int day), some (.int (stI X nv (nI s) day)), some (.int (nI (rk0 (stI X nv (nI s) day)))), some (.int 0)]) C dX4_riskOf_38 (by decide) rfl ?_
    exact j40
set_option maxRecDepth 100000 in
theorem ct_risk {l : Launch} {Γ : Gm} {A : Nat → Prop} {ρ : State → Prop} (B : Bs l A ρ) {o : Nat} {ad : Nat → Nat} {F : Nat → Int32} {X : Nat → Nat → Int32} {nt ns nm ne nv nu ln : Nat} (J : Iv F X nt ns nm ne nv nu ln) (scale day : Int32) : CtM l Γ A ρ yX4_risk cX4_risk 3 (some .int) 3 72 o ad [.ref o, .int scale, .int day] F X (some (.int (atI scale ns (fun j => atI day 10000 (fun t => nI (riN X ns nv j (nI t))))))) (upd F 0 0) X := by
  refine Ct.of B.1 B.2 (by decide) [some (.ref o), some (.int scale), some (.int day)] (Nat.le_of_ble_eq_true rfl) rfl ?_
  intro E hE C R
  subst hE
  have hv_ := J.lv
  have hs_ := J.ls
  refine g_aload_n C dX4_risk_0 rfl rfl ?_
  refine g_iconst (v := 0) C dX4_risk_1 rfl ?_
  refine mp_0 C dX4_risk_2 ?_
  refine g_aload_n C dX4_risk_5 rfl rfl ?_
  refine g_iload_n C dX4_risk_6 rfl rfl ?_
  refine g_mcall (rest := []) 1 C (ct_isScale (F := upd F 0 0) (X := X) B J _) (lw_V q1894 q1896 qs59 q107 q1897) (by decide +kernel) ⟨Nat.le_of_ble_eq_true rfl, Nat.le_of_ble_eq_true rfl⟩ ⟨Nat.le_of_ble_eq_true rfl, Nat.le_of_ble_eq_true rfl⟩ rfl rfl (Nat.le_of_ble_eq_true rfl) dX4_risk_7 ?_
  refine g_if_eq 29 C dX4_risk_10 rfl (fun c10 => ?_) (fun c10 => ?_)
  · refine g_iconst (v := (-1)) C dX4_risk_29 rfl ?_
    exact g_iret C R (Nat.le_refl _) (Nat.le_refl _) dX4_risk_30 (fun H h => ⟨by rw [atI_out c10], h⟩)
  · obtain ⟨j_scale, hj_scale, rfl⟩ := ixI_in (by omega) c10
    refine g_iload_n C dX4_risk_13 rfl rfl ?_
    refine g_pcall (rest := []) 1 C (ct_isDay B _) (lw_S q2031 q2032 q107 q2033) ⟨by decide, by decide, by decide +kernel⟩ ⟨Nat.le_of_ble_eq_true rfl, Nat.le_of_ble_eq_true rfl⟩ ⟨Nat.le_of_ble_eq_true rfl, Nat.le_of_ble_eq_true rfl⟩ rfl rfl (Nat.le_of_ble_eq_true rfl) dX4_risk_14 ?_
    refine g_if_eq 29 C dX4_risk_17 rfl (fun c17 => ?_) (fun c17 => ?_)
    · refine g_iconst (v := (-1)) C dX4_risk_29 rfl ?_
      exact g_iret C R (Nat.le_refl _) (Nat.le_refl _) dX4_risk_30 (fun H h => ⟨by rw [atI_in hj_scale (by omega), atI_out c17], h⟩)
    · obtain ⟨j_day, hj_day, rfl⟩ := ixI_in (by omega) c17
      refine g_aload_n C dX4_risk_20 rfl rfl ?_
      refine g_iload_n C dX4_risk_21 rfl rfl ?_
      refine g_iload_n C dX4_risk_22 rfl rfl ?_
      refine g_mcall (rest := []) 2 C (ct_riskOf (F := upd F 0 0) (X := X) B J j_scale (by omega) _) (lw_V q2059 q2061 qs73 q107 q2062) (by decide +kernel) ⟨Nat.le_of_ble_eq_true rfl, Nat.le_of_ble_eq_true rfl⟩ ⟨Nat.le_of_ble_eq_true rfl, Nat.le_of_ble_eq_true rfl⟩ rfl rfl (Nat.le_of_ble_eq_true rfl) dX4_risk_23 ?_
      refine g_goto 30 C dX4_risk_26 rfl ?_
      exact g_iret C R (Nat.le_refl _) (Nat.le_refl _) dX4_risk_30 (fun H h => ⟨by rw [atI_in hj_scale (by omega), atI_in hj_day (by omega)], h⟩)
set_option maxRecDepth 100000 in
theorem ct_riskiestTrader {l : Launch} {Γ : Gm} {A : Nat → Prop} {ρ : State → Prop} (B : Bs l A ρ) {o : Nat} {ad : Nat → Nat} {F : Nat → Int32} {X : Nat → Nat → Int32} {nt ns nm ne nv nu ln : Nat} (J : Iv F X nt ns nm ne nv nu ln) (day : Int32) : CtM l Γ A ρ yX4_riskiestTrader cX4_riskiestTrader 7 (some .int) 3 72 o ad [.ref o, .int day] F X (some (.int (atI day 10000 (fun t => rtI X ns nv (nI t) nt)))) (upd F 0 0) X := by
  refine Ct.of B.1 B.2 (by decide) [some (.ref o), some (.int day), none, none, none, none, none] (Nat.le_of_ble_eq_true rfl) rfl ?_
  intro E hE C R
  subst hE
  have hs_ := J.ls
  have hv_ := J.lv
  have ht_ := J.lt
  refine g_aload_n C dX4_riskiestTrader_0 rfl rfl ?_
  refine g_iconst (v := 0) C dX4_riskiestTrader_1 rfl ?_
  refine mp_0 C dX4_riskiestTrader_2 ?_
  refine g_iload_n C dX4_riskiestTrader_5 rfl rfl ?_
  refine g_pcall (rest := []) 1 C (ct_isDay B _) (lw_S q2031 q2032 q107 q2033) ⟨by decide, by decide, by decide +kernel⟩ ⟨Nat.le_of_ble_eq_true rfl, Nat.le_of_ble_eq_true rfl⟩ ⟨Nat.le_of_ble_eq_true rfl, Nat.le_of_ble_eq_true rfl⟩ rfl rfl (Nat.le_of_ble_eq_true rfl) dX4_riskiestTrader_6 ?_
  refine g_if_ne 14 C dX4_riskiestTrader_9 rfl (fun c9 => ?_) (fun c9 => ?_)
  · obtain ⟨j_day, hj_day, rfl⟩ := ixI_in (by omega) c9
    refine g_bipush (v := (-2)) C dX4_riskiestTrader_14 rfl ?_
    refine g_istore_n (lv' := [some (.ref o), some (.int (nI j_day)), some (.int (-2)), none, none, none, none]) C dX4_riskiestTrader_16 rfl (by decide) rfl ?_
    refine g_iconst (v := (-1)) C dX4_riskiestTrader_17 rfl ?_
    refine g_istore_n (lv' := [some (.ref o), some (.int (nI j_day)), some (.int (-2)), some (.int (-1)), none, none, none]) C dX4_riskiestTrader_18 rfl (by decide) rfl ?_
    refine g_iconst (v := 0) C dX4_riskiestTrader_19 rfl ?_
    refine g_istore (lv' := [some (.ref o), some (.int (nI j_day)), some (.int (-2)), some (.int (-1)), some (.int 0), none, none]) C dX4_riskiestTrader_20 (by decide) rfl ?_
    refine g_for (P := fun t => G E (RepM Γ A o ad (upd F 0 0) X) 0 0 22 [some (.ref o), some (.int (nI j_day)), some (.int (rtI X ns nv (nI j_day) t)), some (.int (rtM X ns nv (nI j_day) t)), some (.int (nI t)), none, none] []) nt ?_ ?_ 0 (Nat.zero_le _)
    · refine g_iload C dX4_riskiestTrader_22 rfl ?_
      refine g_aload_n C dX4_riskiestTrader_24 rfl rfl ?_
      refine mg_2 C dX4_riskiestTrader_25 ?_
      refine g_topi (y := nI nt) (J.f2) ?_
      refine gN_ge (a := nt) (b := nt) 98 C dX4_riskiestTrader_28 rfl (by omega) (by omega) (fun c28 => ?_) (fun c28 => ?_)
      · refine g_iload_n C dX4_riskiestTrader_98 rfl rfl ?_
        exact g_iret C R (Nat.le_refl _) (Nat.le_refl _) dX4_riskiestTrader_99 (fun H h => ⟨by rw [atI_in hj_day (by omega)], h⟩)
      · exfalso; omega
    · intro t hk_t ih
      replace ih : G E (RepM Γ A o ad (upd F 0 0) X) 0 0 22 [some (.ref o), some (.int (nI j_day)), some (.int (rtI X ns nv (nI j_day) (t + 1))), some (.int (rtM X ns nv (nI j_day) (t + 1))), some (.int (nI (t + 1))), none, none] [] := ih
      refine g_iload C dX4_riskiestTrader_22 rfl ?_
      refine g_aload_n C dX4_riskiestTrader_24 rfl rfl ?_
      refine mg_2 C dX4_riskiestTrader_25 ?_
      refine g_topi (y := nI nt) (J.f2) ?_
      refine gN_ge (a := t) (b := nt) 98 C dX4_riskiestTrader_28 rfl (by omega) (by omega) (fun c28 => ?_) (fun c28 => ?_)
      · exfalso; omega
      · refine g_iconst (v := 0) C dX4_riskiestTrader_31 rfl ?_
        refine g_istore (lv' := [some (.ref o), some (.int (nI j_day)), some (.int (rtI X ns nv (nI j_day) t)), some (.int (rtM X ns nv (nI j_day) t)), some (.int (nI t)), some (.int 0), none]) C dX4_riskiestTrader_32 (by decide) rfl ?_
        refine g_iconst (v := 0) C dX4_riskiestTrader_34 rfl ?_
        refine g_istore (lv' := [some (.ref o), some (.int (nI j_day)), some (.int (rtI X ns nv (nI j_day) t)), some (.int (rtM X ns nv (nI j_day) t)), some (.int (nI t)), some (.int 0), some (.int 0)]) C dX4_riskiestTrader_35 (by decide) rfl ?_
        refine g_for (P := fun k => G E (RepM Γ A o ad (upd F 0 0) X) 0 0 37 [some (.ref o), some (.int (nI j_day)), some (.int (rtI X ns nv (nI j_day) t)), some (.int (rtM X ns nv (nI j_day) t)), some (.int (nI t)), some (.int (nI (smN X ns nv t (nI j_day) k))), some (.int (nI k))] []) ns ?_ ?_ 0 (Nat.zero_le _)
        · refine g_iload C dX4_riskiestTrader_37 rfl ?_
          refine g_aload_n C dX4_riskiestTrader_39 rfl rfl ?_
          refine mg_3 C dX4_riskiestTrader_40 ?_
          refine g_topi (y := nI ns) (J.f3) ?_
          refine gN_ge (a := ns) (b := ns) 80 C dX4_riskiestTrader_43 rfl (by omega) (by omega) (fun c43 => ?_) (fun c43 => ?_)
          · refine g_iload C dX4_riskiestTrader_80 rfl ?_
            refine g_iload_n C dX4_riskiestTrader_82 rfl rfl ?_
            refine g_icmp_le 92 C dX4_riskiestTrader_83 rfl (fun c83 => ?_) (fun c83 => ?_)
            · refine g_inc1 (x := t) (lv' := [some (.ref o), some (.int (nI j_day)), some (.int (rtI X ns nv (nI j_day) t)), some (.int (rtM X ns nv (nI j_day) t)), some (.int (nI (t + 1))), some (.int (nI (smN X ns nv t (nI j_day) ns))), some (.int (nI ns))]) C dX4_riskiestTrader_92 rfl (by decide) rfl ?_
              refine g_goto 22 C dX4_riskiestTrader_95 rfl ?_
              rw [show rtI X ns nv (nI j_day) (t + 1) = rtI X ns nv (nI j_day) t by simp only [rtI, rtM, if_pos c83], show rtM X ns nv (nI j_day) (t + 1) = rtM X ns nv (nI j_day) t by simp only [rtI, rtM, if_pos c83]] at ih
              exact g_lv (fun i w h => by match i, h with | 0, h => exact h | 1, h => exact h | 2, h => exact h | 3, h => exact h | 4, h => exact h | 5, h => cases h | 6, h => cases h) ih
            · refine g_iload C dX4_riskiestTrader_86 rfl ?_
              refine g_istore_n (lv' := [some (.ref o), some (.int (nI j_day)), some (.int (nI t)), some (.int (rtM X ns nv (nI j_day) t)), some (.int (nI t)), some (.int (nI (smN X ns nv t (nI j_day) ns))), some (.int (nI ns))]) C dX4_riskiestTrader_88 rfl (by decide) rfl ?_
              refine g_iload C dX4_riskiestTrader_89 rfl ?_
              refine g_istore_n (lv' := [some (.ref o), some (.int (nI j_day)), some (.int (nI t)), some (.int (nI (smN X ns nv t (nI j_day) ns))), some (.int (nI t)), some (.int (nI (smN X ns nv t (nI j_day) ns))), some (.int (nI ns))]) C dX4_riskiestTrader_91 rfl (by decide) rfl ?_
              refine g_inc1 (x := t) (lv' := [some (.ref o), some (.int (nI j_day)), some (.int (nI t)), some (.int (nI (smN X ns nv t (nI j_day) ns))), some (.int (nI (t + 1))), some (.int (nI (smN X ns nv t (nI j_day) ns))), some (.int (nI ns))]) C dX4_riskiestTrader_92 rfl (by decide) rfl ?_
              refine g_goto 22 C dX4_riskiestTrader_95 rfl ?_
              rw [show rtI X ns nv (nI j_day) (t + 1) = nI t by simp only [rtI, rtM, if_neg c83], show rtM X ns nv (nI j_day) (t + 1) = nI (smN X ns nv t (nI j_day) ns) by simp only [rtI, rtM, if_neg c83]] at ih
              exact g_lv (fun i w h => by match i, h with | 0, h => exact h | 1, h => exact h | 2, h => exact h | 3, h => exact h | 4, h => exact h | 5, h => cases h | 6, h => cases h) ih
          · exfalso; omega
        · intro k hk ihk
          replace ihk : G E (RepM Γ A o ad (upd F 0 0) X) 0 0 37 [some (.ref o), some (.int (nI j_day)), some (.int (rtI X ns nv (nI j_day) t)), some (.int (rtM X ns nv (nI j_day) t)), some (.int (nI t)), some (.int (nI (smN X ns nv t (nI j_day) (k + 1)))), some (.int (nI (k + 1)))] [] := ihk
          refine g_iload C dX4_riskiestTrader_37 rfl ?_
          refine g_aload_n C dX4_riskiestTrader_39 rfl rfl ?_
          refine mg_3 C dX4_riskiestTrader_40 ?_
          refine g_topi (y := nI ns) (J.f3) ?_
          refine gN_ge (a := k) (b := ns) 80 C dX4_riskiestTrader_43 rfl (by omega) (by omega) (fun c43 => ?_) (fun c43 => ?_)
          · exfalso; omega
          · refine g_iload C dX4_riskiestTrader_46 rfl ?_
            refine g_aload_n C dX4_riskiestTrader_48 rfl rfl ?_
            refine mg_4 C dX4_riskiestTrader_49 ?_
            refine g_iload C dX4_riskiestTrader_52 rfl ?_
            refine ml_4 (i := k) C dX4_riskiestTrader_54 (by omega) ?_
            refine g_iload C dX4_riskiestTrader_55 rfl ?_
            refine g_icmp_ne 70 C dX4_riskiestTrader_57 rfl (fun c57 => ?_) (fun c57 => ?_)
            · refine g_iconst (v := 0) C dX4_riskiestTrader_70 rfl ?_
              refine g_iadd C dX4_riskiestTrader_71 ?_
              refine g_topi (y := nI (smN X ns nv t (nI j_day) k + 0)) (nI_add (smN X ns nv t (nI j_day) k) 0) ?_
              refine g_topi (y := nI (smN X ns nv t (nI j_day) (k + 1))) (by simp only [smN, if_neg c57]) ?_
              refine g_istore (lv' := [some (.ref o), some (.int (nI j_day)), some (.int (rtI X ns nv (nI j_day) t)), some (.int (rtM X ns nv (nI j_day) t)), some (.int (nI t)), some (.int (nI (smN X ns nv t (nI j_day) (k + 1)))), some (.int (nI k))]) C dX4_riskiestTrader_72 (by decide) rfl ?_
              refine g_inc1 (x := k) (lv' := [some (.ref o), some (.int (nI j_day)), some (.int (rtI X ns nv (nI j_day) t)), some (.int (rtM X ns nv (nI j_day) t)), some (.int (nI t)), some (.int (nI (smN X ns nv t (nI j_day) (k + 1)))), some (.int (nI (k + 1)))]) C dX4_riskiestTrader_74 rfl (by decide) rfl ?_
              refine g_goto 37 C dX4_riskiestTrader_77 rfl ?_
              exact ihk
            · refine g_aload_n C dX4_riskiestTrader_60 rfl rfl ?_
              refine g_iload C dX4_riskiestTrader_61 rfl ?_
              refine g_iload_n C dX4_riskiestTrader_63 rfl rfl ?_
              refine g_mcall (rest := [.int (nI (smN X ns nv t (nI j_day) k))]) 2 C (ct_riskOf (F := upd F 0 0) (X := X) B J k (by omega) _) (lw_V q2059 q2061 qs73 q107 q2062) (by decide +kernel) ⟨Nat.le_of_ble_eq_true rfl, Nat.le_of_ble_eq_true rfl⟩ ⟨Nat.le_of_ble_eq_true rfl, Nat.le_of_ble_eq_true rfl⟩ rfl rfl (Nat.le_of_ble_eq_true rfl) dX4_riskiestTrader_64 ?_
              refine g_goto 71 C dX4_riskiestTrader_67 rfl ?_
              refine g_iadd C dX4_riskiestTrader_71 ?_
              refine g_topi (y := nI (smN X ns nv t (nI j_day) k + riN X ns nv k (nI j_day))) (nI_add (smN X ns nv t (nI j_day) k) (riN X ns nv k (nI j_day))) ?_
              refine g_topi (y := nI (smN X ns nv t (nI j_day) (k + 1))) (by simp only [smN, if_pos c57]) ?_
              refine g_istore (lv' := [some (.ref o), some (.int (nI j_day)), some (.int (rtI X ns nv (nI j_day) t)), some (.int (rtM X ns nv (nI j_day) t)), some (.int (nI t)), some (.int (nI (smN X ns nv t (nI j_day) (k + 1)))), some (.int (nI k))]) C dX4_riskiestTrader_72 (by decide) rfl ?_
              refine g_inc1 (x := k) (lv' := [some (.ref o), some (.int (nI j_day)), some (.int (rtI X ns nv (nI j_day) t)), some (.int (rtM X ns nv (nI j_day) t)), some (.int (nI t)), some (.int (nI (smN X ns nv t (nI j_day) (k + 1)))), some (.int (nI (k + 1)))]) C dX4_riskiestTrader_74 rfl (by decide) rfl ?_
              refine g_goto 37 C dX4_riskiestTrader_77 rfl ?_
              exact ihk
  · refine g_iconst (v := (-1)) C dX4_riskiestTrader_12 rfl ?_
    exact g_iret C R (Nat.le_refl _) (Nat.le_refl _) dX4_riskiestTrader_13 (fun H h => ⟨by rw [atI_out c9], h⟩)
