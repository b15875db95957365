set_option maxRecDepth 100000 in
theorem ct_countOf {l : Launch} {Γ : Gm} {A : Nat → Prop} {ρ : State → Prop} (B : Bs l A ρ) {o : Nat} {ad : Nat → Nat} {F : Nat → Int32} {X : Nat → Nat → Int32} {nt ns nm ne nv nu ln : Nat} (J : Iv F X nt ns nm ne nv nu ln) (e : Nat) (he : e < ne) : CtM l Γ A ρ yX4_countOf cX4_countOf 2 (some .int) 1 22 o ad [.ref o, .int (nI e)] F X (some (.int (coN (X 1) e))) F X := by
  refine Ct.of B.1 B.2 (by decide) [some (.ref o), some (.int (nI e))] (Nat.le_of_ble_eq_true rfl) rfl ?_
  intro E hE C R
  subst hE
  have he_ := J.le
  refine g_aload_n C dX4_countOf_0 rfl rfl ?_
  refine mg_1 C dX4_countOf_1 ?_
  refine g_sipush (v := 661) C dX4_countOf_4 rfl ?_
  refine g_iload_n C dX4_countOf_7 rfl rfl ?_
  refine g_iadd C dX4_countOf_8 ?_
  refine g_topi (y := nI (661 + e)) (nI_add 661 e) ?_
  refine ml_1 (i := 661 + e) C dX4_countOf_9 (by omega) ?_
  refine g_pcall (rest := []) 1 C (ct_bits B _) (lw_S q1922 q1923 q107 q1924) ⟨by decide, by decide, by decide +kernel⟩ ⟨Nat.le_of_ble_eq_true rfl, Nat.le_of_ble_eq_true rfl⟩ ⟨Nat.le_of_ble_eq_true rfl, Nat.le_of_ble_eq_true rfl⟩ rfl rfl (Nat.le_of_ble_eq_true rfl) dX4_countOf_10 ?_
  refine g_aload_n C dX4_countOf_13 rfl rfl ?_
  refine mg_1 C dX4_countOf_14 ?_
  refine g_sipush (v := 665) C dX4_countOf_17 rfl ?_
  refine g_iload_n C dX4_countOf_20 rfl rfl ?_
  refine g_iadd C dX4_countOf_21 ?_
  refine g_topi (y := nI (665 + e)) (nI_add 665 e) ?_
  refine ml_1 (i := 665 + e) C dX4_countOf_22 (by omega) ?_
  refine g_pcall (rest := [.int (nI (pcI (X 1 (661 + e))))]) 1 C (ct_bits B _) (lw_S q1922 q1923 q107 q1924) ⟨by decide, by decide, by decide +kernel⟩ ⟨Nat.le_of_ble_eq_true rfl, Nat.le_of_ble_eq_true rfl⟩ ⟨Nat.le_of_ble_eq_true rfl, Nat.le_of_ble_eq_true rfl⟩ rfl rfl (Nat.le_of_ble_eq_true rfl) dX4_countOf_23 ?_
  refine g_iadd C dX4_countOf_26 ?_
  refine g_topi (y := nI (pcI (X 1 (661 + e)) + pcI (X 1 (665 + e)))) (nI_add (pcI (X 1 (661 + e))) (pcI (X 1 (665 + e)))) ?_
  refine g_aload_n C dX4_countOf_27 rfl rfl ?_
  refine mg_1 C dX4_countOf_28 ?_
  refine g_sipush (v := 669) C dX4_countOf_31 rfl ?_
  refine g_iload_n C dX4_countOf_34 rfl rfl ?_
  refine g_iadd C dX4_countOf_35 ?_
  refine g_topi (y := nI (669 + e)) (nI_add 669 e) ?_
  refine ml_1 (i := 669 + e) C dX4_countOf_36 (by omega) ?_
  refine g_iadd C dX4_countOf_37 ?_
  exact g_iret C R (Nat.le_refl _) (Nat.le_refl _) dX4_countOf_38 (fun H h => ⟨rfl, h⟩)
set_option maxRecDepth 100000 in
theorem ct_hypothesisCount {l : Launch} {Γ : Gm} {A : Nat → Prop} {ρ : State → Prop} (B : Bs l A ρ) {o : Nat} {ad : Nat → Nat} {F : Nat → Int32} {X : Nat → Nat → Int32} {nt ns nm ne nv nu ln : Nat} (J : Iv F X nt ns nm ne nv nu ln) (set : Int32) : CtM l Γ A ρ yX4_hypothesisCount cX4_hypothesisCount 2 (some .int) 2 46 o ad [.ref o, .int set] F X (some (.int (atI set ne (coN (X 1))))) (upd F 0 0) X := by
  refine Ct.of B.1 B.2 (by decide) [some (.ref o), some (.int set)] (Nat.le_of_ble_eq_true rfl) rfl ?_
  intro E hE C R
  subst hE
  have he_ := J.le
  refine g_aload_n C dX4_hypothesisCount_0 rfl rfl ?_
  refine g_iconst (v := 0) C dX4_hypothesisCount_1 rfl ?_
  refine mp_0 C dX4_hypothesisCount_2 ?_
  refine g_aload_n C dX4_hypothesisCount_5 rfl rfl ?_
  refine g_iload_n C dX4_hypothesisCount_6 rfl rfl ?_
  refine g_mcall (rest := []) 1 C (ct_isSet (F := upd F 0 0) (X := X) B J _) (lw_V q2080 q2082 qs74 q107 q2083) (by decide +kernel) ⟨Nat.le_of_ble_eq_true rfl, Nat.le_of_ble_eq_true rfl⟩ ⟨Nat.le_of_ble_eq_true rfl, Nat.le_of_ble_eq_true rfl⟩ rfl rfl (Nat.le_of_ble_eq_true rfl) dX4_hypothesisCount_7 ?_
  refine g_if_eq 21 C dX4_hypothesisCount_10 rfl (fun c10 => ?_) (fun c10 => ?_)
  · refine g_iconst (v := (-1)) C dX4_hypothesisCount_21 rfl ?_
    exact g_iret C R (Nat.le_refl _) (Nat.le_refl _) dX4_hypothesisCount_22 (fun H h => ⟨by rw [atI_out c10], h⟩)
  · obtain ⟨j_set, hj_set, rfl⟩ := ixI_in (by omega) c10
    refine g_aload_n C dX4_hypothesisCount_13 rfl rfl ?_
    refine g_iload_n C dX4_hypothesisCount_14 rfl rfl ?_
    refine g_mcall (rest := []) 1 C (ct_countOf (F := upd F 0 0) (X := X) B J j_set (by omega)) (lw_V q2097 q2099 qs75 q107 q2100) (by decide +kernel) ⟨Nat.le_of_ble_eq_true rfl, Nat.le_of_ble_eq_true rfl⟩ ⟨Nat.le_of_ble_eq_true rfl, Nat.le_of_ble_eq_true rfl⟩ rfl rfl (Nat.le_of_ble_eq_true rfl) dX4_hypothesisCount_15 ?_
    refine g_goto 22 C dX4_hypothesisCount_18 rfl ?_
    exact g_iret C R (Nat.le_refl _) (Nat.le_refl _) dX4_hypothesisCount_22 (fun H h => ⟨by rw [atI_in hj_set (by omega)], h⟩)
set_option maxRecDepth 100000 in
theorem ct_finding {l : Launch} {Γ : Gm} {A : Nat → Prop} {ρ : State → Prop} (B : Bs l A ρ) {o : Nat} {ad : Nat → Nat} {F : Nat → Int32} {X : Nat → Nat → Int32} {nt ns nm ne nv nu ln : Nat} (J : Iv F X nt ns nm ne nv nu ln) (set : Int32) : CtM l Γ A ρ yX4_finding cX4_finding 3 (some .int) 2 46 o ad [.ref o, .int set] F X (some (.int (atI set ne (fiI X)))) (upd F 0 0) X := by
  refine Ct.of B.1 B.2 (by decide) [some (.ref o), some (.int set), none] (Nat.le_of_ble_eq_true rfl) rfl ?_
  intro E hE C R
  subst hE
  have he_ := J.le
  refine g_aload_n C dX4_finding_0 rfl rfl ?_
  refine g_iconst (v := 0) C dX4_finding_1 rfl ?_
  refine mp_0 C dX4_finding_2 ?_
  refine g_aload_n C dX4_finding_5 rfl rfl ?_
  refine g_iload_n C dX4_finding_6 rfl rfl ?_
  refine g_mcall (rest := []) 1 C (ct_isSet (F := upd F 0 0) (X := X) B J _) (lw_V q2080 q2082 qs74 q107 q2083) (by decide +kernel) ⟨Nat.le_of_ble_eq_true rfl, Nat.le_of_ble_eq_true rfl⟩ ⟨Nat.le_of_ble_eq_true rfl, Nat.le_of_ble_eq_true rfl⟩ rfl rfl (Nat.le_of_ble_eq_true rfl) dX4_finding_7 ?_
  refine g_if_ne 15 C dX4_finding_10 rfl (fun c10 => ?_) (fun c10 => ?_)
  · obtain ⟨j_set, hj_set, rfl⟩ := ixI_in (by omega) c10
    refine g_aload_n C dX4_finding_15 rfl rfl ?_
    refine g_iload_n C dX4_finding_16 rfl rfl ?_
    refine g_mcall (rest := []) 1 C (ct_countOf (F := upd F 0 0) (X := X) B J j_set (by omega)) (lw_V q2097 q2099 qs75 q107 q2100) (by decide +kernel) ⟨Nat.le_of_ble_eq_true rfl, Nat.le_of_ble_eq_true rfl⟩ ⟨Nat.le_of_ble_eq_true rfl, Nat.le_of_ble_eq_true rfl⟩ rfl rfl (Nat.le_of_ble_eq_true rfl) dX4_finding_17 ?_
    refine g_iconst (v := 1) C dX4_finding_20 rfl ?_
    refine g_icmp_le 27 C dX4_finding_21 rfl (fun c21 => ?_) (fun c21 => ?_)
    · obtain ⟨wt, hw2, hw12, ewt⟩ := J.mk.2.2.2.2.2.1 j_set hj_set
      refine g_iconst (v := 0) C dX4_finding_27 rfl ?_
      refine g_istore_n (lv' := [some (.ref o), some (.int (nI j_set)), some (.int 0)]) C dX4_finding_28 rfl (by decide) rfl ?_
      have eg : fiI X j_set = fiN (X 1) j_set wt wt := by rw [fiI, if_pos c21, ewt, nI_clamp (show wt < 2 ^ 31 by omega)]
      refine g_for (P := fun k => fiN (X 1) j_set wt wt = fiN (X 1) j_set wt (wt - k) → G E (RepM Γ A o ad (upd F 0 0) X) 0 0 29 [some (.ref o), some (.int (nI j_set)), some (.int (nI k))] []) wt ?_ ?_ 0 (Nat.zero_le _) (rfl)
      · intro hinv
        refine g_iload_n C dX4_finding_29 rfl rfl ?_
        refine g_aload_n C dX4_finding_30 rfl rfl ?_
        refine mg_11 C dX4_finding_31 ?_
        refine g_iload_n C dX4_finding_34 rfl rfl ?_
        refine ml_11 (i := j_set) C dX4_finding_35 (by omega) ?_
        refine g_topi (y := nI wt) (ewt) ?_
        refine gN_ge (a := wt) (b := wt) 89 C dX4_finding_36 rfl (by omega) (by omega) (fun c36 => ?_) (fun c36 => ?_)
        · refine g_iconst (v := 0) C dX4_finding_89 rfl ?_
          exact g_iret C R (Nat.le_refl _) (Nat.le_refl _) dX4_finding_90 (fun H h => ⟨by rw [atI_in hj_set (by omega), eg, hinv, Nat.sub_self]; rfl, h⟩)
        · exfalso; omega
      · intro k hk ih hinv
        replace ih : fiN (X 1) j_set wt wt = fiN (X 1) j_set wt (wt - (k + 1)) → G E (RepM Γ A o ad (upd F 0 0) X) 0 0 29 [some (.ref o), some (.int (nI j_set)), some (.int (nI (k + 1)))] [] := ih
        refine g_iload_n C dX4_finding_29 rfl rfl ?_
        refine g_aload_n C dX4_finding_30 rfl rfl ?_
        refine mg_11 C dX4_finding_31 ?_
        refine g_iload_n C dX4_finding_34 rfl rfl ?_
        refine ml_11 (i := j_set) C dX4_finding_35 (by omega) ?_
        refine g_topi (y := nI wt) (ewt) ?_
        refine gN_ge (a := k) (b := wt) 89 C dX4_finding_36 rfl (by omega) (by omega) (fun c36 => ?_) (fun c36 => ?_)
        · exfalso; omega
        · refine g_aload_n C dX4_finding_39 rfl rfl ?_
          refine mg_1 C dX4_finding_40 ?_
          refine g_sipush (v := 661) C dX4_finding_43 rfl ?_
          refine g_iload_n C dX4_finding_46 rfl rfl ?_
          refine g_iadd C dX4_finding_47 ?_
          refine g_topi (y := nI (661 + j_set)) (nI_add 661 j_set) ?_
          refine ml_1 (i := 661 + j_set) C dX4_finding_48 (by omega) ?_
          refine g_iconst (v := 1) C dX4_finding_49 rfl ?_
          refine g_iload_n C dX4_finding_50 rfl rfl ?_
          refine g_ishl C dX4_finding_51 ?_
          refine g_topi (y := nI (2 ^ k)) (shl1 (by omega)) ?_
          refine g_icmp_ne 61 C dX4_finding_52 rfl (fun c52 => ?_) (fun c52 => ?_)
          · refine g_aload_n C dX4_finding_61 rfl rfl ?_
            refine mg_1 C dX4_finding_62 ?_
            refine g_sipush (v := 665) C dX4_finding_65 rfl ?_
            refine g_iload_n C dX4_finding_68 rfl rfl ?_
            refine g_iadd C dX4_finding_69 ?_
            refine g_topi (y := nI (665 + j_set)) (nI_add 665 j_set) ?_
            refine ml_1 (i := 665 + j_set) C dX4_finding_70 (by omega) ?_
            refine g_iconst (v := 1) C dX4_finding_71 rfl ?_
            refine g_iload_n C dX4_finding_72 rfl rfl ?_
            refine g_ishl C dX4_finding_73 ?_
            refine g_topi (y := nI (2 ^ k)) (shl1 (by omega)) ?_
            refine g_icmp_ne 83 C dX4_finding_74 rfl (fun c74 => ?_) (fun c74 => ?_)
            · refine g_inc1 (x := k) (lv' := [some (.ref o), some (.int (nI j_set)), some (.int (nI (k + 1)))]) C dX4_finding_83 rfl (by decide) rfl ?_
              refine g_goto 29 C dX4_finding_86 rfl ?_
              exact ih (by rw [hinv, show wt - k = (wt - (k + 1)) + 1 by omega, fiN, show wt - (wt - (k + 1) + 1) = k by omega, if_neg c52, if_neg c74])
            · refine g_iconst (v := 2) C dX4_finding_77 rfl ?_
              refine g_iconst (v := 2) C dX4_finding_78 rfl ?_
              refine g_iload_n C dX4_finding_79 rfl rfl ?_
              refine g_imul C dX4_finding_80 ?_
              refine g_topi (y := nI (2 * k)) (pk_mul 2 k) ?_
              refine g_iadd C dX4_finding_81 ?_
              refine g_topi (y := nI (2 + 2 * k)) (nI_add 2 (2 * k)) ?_
              exact g_iret C R (Nat.le_refl _) (Nat.le_refl _) dX4_finding_82 (fun H h => ⟨by rw [atI_in hj_set (by omega), eg, hinv, show wt - k = (wt - (k + 1)) + 1 by omega, fiN, show wt - (wt - (k + 1) + 1) = k by omega, if_neg c52, if_pos c74], h⟩)
          · refine g_iconst (v := 1) C dX4_finding_55 rfl ?_
            refine g_iconst (v := 2) C dX4_finding_56 rfl ?_
            refine g_iload_n C dX4_finding_57 rfl rfl ?_
            refine g_imul C dX4_finding_58 ?_
            refine g_topi (y := nI (2 * k)) (pk_mul 2 k) ?_
            refine g_iadd C dX4_finding_59 ?_
            refine g_topi (y := nI (1 + 2 * k)) (nI_add 1 (2 * k)) ?_
            exact g_iret C R (Nat.le_refl _) (Nat.le_refl _) dX4_finding_60 (fun H h => ⟨by rw [atI_in hj_set (by omega), eg, hinv, show wt - k = (wt - (k + 1)) + 1 by omega, fiN, show wt - (wt - (k + 1) + 1) = k by omega, if_pos c52], h⟩)
    · refine g_bipush (v := (-2)) C dX4_finding_24 rfl ?_
      exact g_iret C R (Nat.le_refl _) (Nat.le_refl _) dX4_finding_26 (fun H h => ⟨by rw [atI_in hj_set (by omega), fiI, if_neg c21], h⟩)
  · refine g_iconst (v := (-1)) C dX4_finding_13 rfl ?_
    exact g_iret C R (Nat.le_refl _) (Nat.le_refl _) dX4_finding_14 (fun H h => ⟨by rw [atI_out c10], h⟩)
theorem wgN_pos {F : Nat → Int32} {X : Nat → Nat → Int32} {nt ns nm ne nv nu ln : Nat} (J : Iv F X nt ns nm ne nv nu ln) {e : Nat} (he : e < ne) (left right res : Int32) : (0 : Int32) ≤ wgN (X 1) e left right res := by
  obtain ⟨w, h, l, g, q, -, -, -, hg, -, -, -, eg, -⟩ := J.hy he
  have h1 := pcI_le (wgH (X 1) e left right res)
  have h2 := pcI_le (wgL (X 1) e left right res)
  unfold wgN wgG
  split
  · rw [eg, nI_add]; exact nI_pos' (by omega)
  · rw [show (0 : Int32) = nI 0 from rfl, nI_add]; exact nI_pos' (by omega)
set_option maxRecDepth 100000 in
theorem ct_weigh {l : Launch} {Γ : Gm} {A : Nat → Prop} {ρ : State → Prop} (B : Bs l A ρ) {o : Nat} {ad : Nat → Nat} {F : Nat → Int32} {X : Nat → Nat → Int32} {nt ns nm ne nv nu ln : Nat} (J : Iv F X nt ns nm ne nv nu ln) (set left right res : Int32) : CtM l Γ A ρ yX4_weigh cX4_weigh 10 (some .int) 2 46 o ad [.ref o, .int set, .int left, .int right, .int res] F X (some (.int (wgI X ne set left right res))) (chF F nu (wgI X ne set left right res)) (chX X nu (wgI X ne set left right res) (wgR X set.toNatClampNeg left right res)) := by
  refine Ct.of B.1 B.2 (by decide) [some (.ref o), some (.int set), some (.int left), some (.int right), some (.int res), none, none, none, none, none] (Nat.le_of_ble_eq_true rfl) rfl ?_
  intro E hE C R
  subst hE
  have he_ := J.le
  have hu_ := J.lu
  refine g_aload_n C dX4_weigh_0 rfl rfl ?_
  refine g_iconst (v := 0) C dX4_weigh_1 rfl ?_
  refine mp_0 C dX4_weigh_2 ?_
  refine g_aload_n C dX4_weigh_5 rfl rfl ?_
  refine g_iload_n C dX4_weigh_6 rfl rfl ?_
  refine g_mcall (rest := []) 1 C (ct_isSet (F := upd F 0 0) (X := X) B J _) (lw_V q2080 q2082 qs74 q107 q2083) (by decide +kernel) ⟨Nat.le_of_ble_eq_true rfl, Nat.le_of_ble_eq_true rfl⟩ ⟨Nat.le_of_ble_eq_true rfl, Nat.le_of_ble_eq_true rfl⟩ rfl rfl (Nat.le_of_ble_eq_true rfl) dX4_weigh_7 ?_
  refine g_if_ne 15 C dX4_weigh_10 rfl (fun c10 => ?_) (fun c10 => ?_)
  · obtain ⟨j_set, hj_set, rfl⟩ := ixI_in (by omega) c10
    refine g_iconst (v := 1) C dX4_weigh_15 rfl ?_
    refine g_aload_n C dX4_weigh_16 rfl rfl ?_
    refine mg_11 C dX4_weigh_17 ?_
    refine g_iload_n C dX4_weigh_20 rfl rfl ?_
    refine ml_11 (i := j_set) C dX4_weigh_21 (by omega) ?_
    refine g_ishl C dX4_weigh_22 ?_
    refine g_iconst (v := 1) C dX4_weigh_23 rfl ?_
    refine g_isub C dX4_weigh_24 ?_
    refine g_istore (lv' := [some (.ref o), some (.int (nI j_set)), some (.int left), some (.int right), some (.int res), some (.int ((1 <<< (X 11 j_set &&& 31)) - 1)), none, none, none, none]) C dX4_weigh_25 (by decide) rfl ?_
    refine g_iload_n C dX4_weigh_27 rfl rfl ?_
    refine g_i2l C dX4_weigh_28 ?_
    refine g_lconst (v := 1) C dX4_weigh_29 rfl ?_
    refine g_iload C dX4_weigh_30 rfl ?_
    refine g_i2l C dX4_weigh_32 ?_
    refine g_pcall (rest := []) 3 C (ct_within B _ _ _) (lw_S q1783 q1784 q107 q1785) ⟨by decide, by decide, by decide +kernel⟩ ⟨Nat.le_of_ble_eq_true rfl, Nat.le_of_ble_eq_true rfl⟩ ⟨Nat.le_of_ble_eq_true rfl, Nat.le_of_ble_eq_true rfl⟩ rfl rfl (Nat.le_of_ble_eq_true rfl) dX4_weigh_33 ?_
    refine g_topi (y := rnI left 1 (1 <<< (X 11 j_set &&& 31) - 1)) (wi_rn left 1 _) ?_
    refine g_if_eq 81 C dX4_weigh_36 rfl (fun c36 => ?_) (fun c36 => ?_)
    · refine g_iconst (v := (-1)) C dX4_weigh_81 rfl ?_
      have er : wgI X ne (nI j_set) left right res = -1 := by rw [wgI, atI_in hj_set (by omega), wgC, if_pos c36]
      exact g_iret C R (Nat.le_refl _) (Nat.le_refl _) dX4_weigh_82 (fun H h => ⟨by rw [er], by rw [chF, chX, er, if_neg (by decide), if_neg (by decide)]; exact h⟩)
    · refine g_iload_n C dX4_weigh_39 rfl rfl ?_
      refine g_i2l C dX4_weigh_40 ?_
      refine g_lconst (v := 1) C dX4_weigh_41 rfl ?_
      refine g_iload C dX4_weigh_42 rfl ?_
      refine g_i2l C dX4_weigh_44 ?_
      refine g_pcall (rest := []) 3 C (ct_within B _ _ _) (lw_S q1783 q1784 q107 q1785) ⟨by decide, by decide, by decide +kernel⟩ ⟨Nat.le_of_ble_eq_true rfl, Nat.le_of_ble_eq_true rfl⟩ ⟨Nat.le_of_ble_eq_true rfl, Nat.le_of_ble_eq_true rfl⟩ rfl rfl (Nat.le_of_ble_eq_true rfl) dX4_weigh_45 ?_
      refine g_topi (y := rnI right 1 (1 <<< (X 11 j_set &&& 31) - 1)) (wi_rn right 1 _) ?_
      refine g_if_eq 81 C dX4_weigh_48 rfl (fun c48 => ?_) (fun c48 => ?_)
      · refine g_iconst (v := (-1)) C dX4_weigh_81 rfl ?_
        have er : wgI X ne (nI j_set) left right res = -1 := by rw [wgI, atI_in hj_set (by omega), wgC, if_neg c36, if_pos c48]
        exact g_iret C R (Nat.le_refl _) (Nat.le_refl _) dX4_weigh_82 (fun H h => ⟨by rw [er], by rw [chF, chX, er, if_neg (by decide), if_neg (by decide)]; exact h⟩)
      · refine g_iload_n C dX4_weigh_51 rfl rfl ?_
        refine g_iload_n C dX4_weigh_52 rfl rfl ?_
        refine g_iand C dX4_weigh_53 ?_
        refine g_if_ne 81 C dX4_weigh_54 rfl (fun c54 => ?_) (fun c54 => ?_)
        · refine g_iconst (v := (-1)) C dX4_weigh_81 rfl ?_
          have er : wgI X ne (nI j_set) left right res = -1 := by rw [wgI, atI_in hj_set (by omega), wgC, if_neg c36, if_neg c48, if_neg c54]
          exact g_iret C R (Nat.le_refl _) (Nat.le_refl _) dX4_weigh_82 (fun H h => ⟨by rw [er], by rw [chF, chX, er, if_neg (by decide), if_neg (by decide)]; exact h⟩)
        · refine g_iload_n C dX4_weigh_57 rfl rfl ?_
          refine g_pcall (rest := []) 1 C (ct_bits B _) (lw_S q1922 q1923 q107 q1924) ⟨by decide, by decide, by decide +kernel⟩ ⟨Nat.le_of_ble_eq_true rfl, Nat.le_of_ble_eq_true rfl⟩ ⟨Nat.le_of_ble_eq_true rfl, Nat.le_of_ble_eq_true rfl⟩ rfl rfl (Nat.le_of_ble_eq_true rfl) dX4_weigh_58 ?_
          refine g_iload_n C dX4_weigh_61 rfl rfl ?_
          refine g_pcall (rest := [.int (nI (pcI left))]) 1 C (ct_bits B _) (lw_S q1922 q1923 q107 q1924) ⟨by decide, by decide, by decide +kernel⟩ ⟨Nat.le_of_ble_eq_true rfl, Nat.le_of_ble_eq_true rfl⟩ ⟨Nat.le_of_ble_eq_true rfl, Nat.le_of_ble_eq_true rfl⟩ rfl rfl (Nat.le_of_ble_eq_true rfl) dX4_weigh_62 ?_
          refine gN_ne (a := pcI left) (b := pcI right) 81 C dX4_weigh_65 rfl (by first | omega | exact Nat.lt_of_le_of_lt (pcI_le _) (by decide)) (by first | omega | exact Nat.lt_of_le_of_lt (pcI_le _) (by decide)) (fun c65 => ?_) (fun c65 => ?_)
          · refine g_iconst (v := (-1)) C dX4_weigh_81 rfl ?_
            have er : wgI X ne (nI j_set) left right res = -1 := by rw [wgI, atI_in hj_set (by omega), wgC, if_neg c36, if_neg c48, if_pos c54, if_neg c65]
            exact g_iret C R (Nat.le_refl _) (Nat.le_refl _) dX4_weigh_82 (fun H h => ⟨by rw [er], by rw [chF, chX, er, if_neg (by decide), if_neg (by decide)]; exact h⟩)
          · refine g_iload C dX4_weigh_68 rfl ?_
            refine g_i2l C dX4_weigh_70 ?_
            refine g_lconst (v := 0) C dX4_weigh_71 rfl ?_
            refine g_ldc2 (v := 2) C dX4_weigh_72 q2088 ?_
            refine g_pcall (rest := []) 3 C (ct_within B _ _ _) (lw_S q1783 q1784 q107 q1785) ⟨by decide, by decide, by decide +kernel⟩ ⟨Nat.le_of_ble_eq_true rfl, Nat.le_of_ble_eq_true rfl⟩ ⟨Nat.le_of_ble_eq_true rfl, Nat.le_of_ble_eq_true rfl⟩ rfl rfl (Nat.le_of_ble_eq_true rfl) dX4_weigh_75 ?_
            refine g_topi (y := ixI res 3) (wi_lit (n := 2) (by decide)) ?_
            refine g_if_ne 83 C dX4_weigh_78 rfl (fun c78 => ?_) (fun c78 => ?_)
            · obtain ⟨j_res, hj_res, rfl⟩ := ixI_in (by omega) c78
              have ej : (nI j_set).toNatClampNeg = j_set := nI_clamp (by omega)
              have j186 : G E (RepM Γ A o ad (upd F 0 0) X) 0 0 186 [some (.ref o), some (.int (nI j_set)), some (.int left), some (.int right), some (.int (nI j_res)), some (.int (1 <<< (X 11 j_set &&& 31) - 1)), some (.int (wgH (X 1) j_set left right (nI j_res))), some (.int (wgL (X 1) j_set left right (nI j_res))), some (.int (wgG (X 1) j_set (nI j_res))), none] [] := by
                refine g_iload C dX4_weigh_186 rfl ?_
                refine g_pcall (rest := []) 1 C (ct_bits B _) (lw_S q1922 q1923 q107 q1924) ⟨by decide, by decide, by decide +kernel⟩ ⟨Nat.le_of_ble_eq_true rfl, Nat.le_of_ble_eq_true rfl⟩ ⟨Nat.le_of_ble_eq_true rfl, Nat.le_of_ble_eq_true rfl⟩ rfl rfl (Nat.le_of_ble_eq_true rfl) dX4_weigh_188 ?_
                refine g_iload C dX4_weigh_191 rfl ?_
                refine g_pcall (rest := [.int (nI (pcI (wgH (X 1) j_set left right (nI j_res))))]) 1 C (ct_bits B _) (lw_S q1922 q1923 q107 q1924) ⟨by decide, by decide, by decide +kernel⟩ ⟨Nat.le_of_ble_eq_true rfl, Nat.le_of_ble_eq_true rfl⟩ ⟨Nat.le_of_ble_eq_true rfl, Nat.le_of_ble_eq_true rfl⟩ rfl rfl (Nat.le_of_ble_eq_true rfl) dX4_weigh_193 ?_
                refine g_iadd C dX4_weigh_196 ?_
                refine g_topi (y := nI (pcI (wgH (X 1) j_set left right (nI j_res)) + pcI (wgL (X 1) j_set left right (nI j_res)))) (nI_add (pcI (wgH (X 1) j_set left right (nI j_res))) (pcI (wgL (X 1) j_set left right (nI j_res)))) ?_
                refine g_iload C dX4_weigh_197 rfl ?_
                refine g_iadd C dX4_weigh_199 ?_
                refine g_topi (y := wgN (X 1) j_set left right (nI j_res)) (rfl) ?_
                refine g_istore (lv' := [some (.ref o), some (.int (nI j_set)), some (.int left), some (.int right), some (.int (nI j_res)), some (.int (1 <<< (X 11 j_set &&& 31) - 1)), some (.int (wgH (X 1) j_set left right (nI j_res))), some (.int (wgL (X 1) j_set left right (nI j_res))), some (.int (wgG (X 1) j_set (nI j_res))), some (.int (wgN (X 1) j_set left right (nI j_res)))]) C dX4_weigh_200 (by decide) rfl ?_
                refine g_iload C dX4_weigh_202 rfl ?_
                refine g_if_ne 210 C dX4_weigh_204 rfl (fun c204 => ?_) (fun c204 => ?_)
                · refine g_aload_n C dX4_weigh_210 rfl rfl ?_
                  refine mg_1 C dX4_weigh_211 ?_
                  refine g_sipush (v := 673) C dX4_weigh_214 rfl ?_
                  refine g_iload_n C dX4_weigh_217 rfl rfl ?_
                  refine g_iadd C dX4_weigh_218 ?_
                  refine g_topi (y := nI (673 + j_set)) (nI_add 673 j_set) ?_
                  refine ml_1 (i := 673 + j_set) C dX4_weigh_219 (by omega) ?_
                  refine g_bipush (v := 20) C dX4_weigh_220 rfl ?_
                  refine g_icmp_ne 228 C dX4_weigh_222 rfl (fun c222 => ?_) (fun c222 => ?_)
                  · refine g_aload_n C dX4_weigh_228 rfl rfl ?_
                    refine g_mcallv (rest := []) 0 C (ct_keeps (F := upd F 0 0) (X := X) B J) (lw_V q1938 q1940 qs62 q107 q1941) (by decide +kernel) ⟨Nat.le_of_ble_eq_true rfl, Nat.le_of_ble_eq_true rfl⟩ ⟨Nat.le_of_ble_eq_true rfl, Nat.le_of_ble_eq_true rfl⟩ rfl rfl (Nat.le_of_ble_eq_true rfl) dX4_weigh_229 ?_
                    refine g_aload_n C dX4_weigh_232 rfl rfl ?_
                    refine mg_1 C dX4_weigh_233 ?_
                    refine g_sipush (v := 661) C dX4_weigh_236 rfl ?_
                    refine g_iload_n C dX4_weigh_239 rfl rfl ?_
                    refine g_iadd C dX4_weigh_240 ?_
                    refine g_topi (y := nI (661 + j_set)) (nI_add 661 j_set) ?_
                    refine g_iload C dX4_weigh_241 rfl ?_
                    refine ms_1 (i := 661 + j_set) C dX4_weigh_243 (by omega) ?_
                    refine g_eqI (J := RepM Γ A o ad (upd (upd F 0 0) 41 (nI (kpN nu))) (setX (setX X 42 (kpA X nu)) 1 (upd (X 1) (661 + j_set) (wgH (X 1) j_set left right (nI j_res))))) rfl ?_
                    refine g_aload_n C dX4_weigh_244 rfl rfl ?_
                    refine mg_1 C dX4_weigh_245 ?_
                    refine g_sipush (v := 665) C dX4_weigh_248 rfl ?_
                    refine g_iload_n C dX4_weigh_251 rfl rfl ?_
                    refine g_iadd C dX4_weigh_252 ?_
                    refine g_topi (y := nI (665 + j_set)) (nI_add 665 j_set) ?_
                    refine g_iload C dX4_weigh_253 rfl ?_
                    refine ms_1 (i := 665 + j_set) C dX4_weigh_255 (by omega) ?_
                    refine g_eqI (J := RepM Γ A o ad (upd (upd F 0 0) 41 (nI (kpN nu))) (setX (setX X 42 (kpA X nu)) 1 (upd (upd (X 1) (661 + j_set) (wgH (X 1) j_set left right (nI j_res))) (665 + j_set) (wgL (X 1) j_set left right (nI j_res))))) (congrArg (RepM Γ A o ad _) (by rw [setX_self, setX_setX])) ?_
                    refine g_aload_n C dX4_weigh_256 rfl rfl ?_
                    refine mg_1 C dX4_weigh_257 ?_
                    refine g_sipush (v := 669) C dX4_weigh_260 rfl ?_
                    refine g_iload_n C dX4_weigh_263 rfl rfl ?_
                    refine g_iadd C dX4_weigh_264 ?_
                    refine g_topi (y := nI (669 + j_set)) (nI_add 669 j_set) ?_
                    refine g_iload C dX4_weigh_265 rfl ?_
                    refine ms_1 (i := 669 + j_set) C dX4_weigh_267 (by omega) ?_
                    refine g_eqI (J := RepM Γ A o ad (upd (upd F 0 0) 41 (nI (kpN nu))) (setX (setX X 42 (kpA X nu)) 1 (upd (upd (upd (X 1) (661 + j_set) (wgH (X 1) j_set left right (nI j_res))) (665 + j_set) (wgL (X 1) j_set left right (nI j_res))) (669 + j_set) (wgG (X 1) j_set (nI j_res))))) (congrArg (RepM Γ A o ad _) (by rw [setX_self, setX_setX])) ?_
                    refine g_aload_n C dX4_weigh_268 rfl rfl ?_
                    refine mg_1 C dX4_weigh_269 ?_
                    refine g_sipush (v := 673) C dX4_weigh_272 rfl ?_
                    refine g_iload_n C dX4_weigh_275 rfl rfl ?_
                    refine g_iadd C dX4_weigh_276 ?_
                    refine g_topi (y := nI (673 + j_set)) (nI_add 673 j_set) ?_
                    refine g_dup2 C dX4_weigh_277 rfl rfl ?_
                    refine ml_1 (i := 673 + j_set) C dX4_weigh_278 (by omega) ?_
                    refine g_topi (y := (upd (upd (upd (X 1) (661 + j_set) (wgH (X 1) j_set left right (nI j_res))) (665 + j_set) (wgL (X 1) j_set left right (nI j_res))) (669 + j_set) (wgG (X 1) j_set (nI j_res))) (673 + j_set)) rfl ?_
                    refine g_topi (y := X 1 (673 + j_set)) (by rw [upd_ne (by omega), upd_ne (by omega), upd_ne (by omega)]) ?_
                    refine g_iconst (v := 1) C dX4_weigh_279 rfl ?_
                    refine g_iadd C dX4_weigh_280 ?_
                    refine ms_1 (i := 673 + j_set) C dX4_weigh_281 (by omega) ?_
                    refine g_eqI (J := RepM Γ A o ad (upd (upd F 0 0) 41 (nI (kpN nu))) (setX (setX X 42 (kpA X nu)) 1 (upd (upd (upd (upd (X 1) (661 + j_set) (wgH (X 1) j_set left right (nI j_res))) (665 + j_set) (wgL (X 1) j_set left right (nI j_res))) (669 + j_set) (wgG (X 1) j_set (nI j_res))) (673 + j_set) ((X 1 (673 + j_set)) + 1)))) (congrArg (RepM Γ A o ad _) (by rw [setX_self, setX_setX])) ?_
                    refine g_iload C dX4_weigh_282 rfl ?_
                    have er : wgI X ne (nI j_set) left right (nI j_res) = wgN (X 1) j_set left right (nI j_res) := by rw [wgI, atI_in hj_set (by omega), wgC, if_neg c36, if_neg c48, if_pos c54, if_pos c65, if_neg c78, if_neg c204, if_neg c222]
                    have ep : (0 : Int32) ≤ wgN (X 1) j_set left right (nI j_res) := wgN_pos J hj_set _ _ _
                    exact g_iret C R (Nat.le_refl _) (Nat.le_refl _) dX4_weigh_284 (fun H h => ⟨by rw [er], by rw [chF, chX, er, if_pos ep, if_pos ep, ej]; exact h⟩)
                  · refine g_bipush (v := (-3)) C dX4_weigh_225 rfl ?_
                    have er : wgI X ne (nI j_set) left right (nI j_res) = -3 := by rw [wgI, atI_in hj_set (by omega), wgC, if_neg c36, if_neg c48, if_pos c54, if_pos c65, if_neg c78, if_neg c204, if_pos c222]
                    exact g_iret C R (Nat.le_refl _) (Nat.le_refl _) dX4_weigh_227 (fun H h => ⟨by rw [er], by rw [chF, chX, er, if_neg (by decide), if_neg (by decide)]; exact h⟩)
                · refine g_bipush (v := (-2)) C dX4_weigh_207 rfl ?_
                  have er : wgI X ne (nI j_set) left right (nI j_res) = -2 := by rw [wgI, atI_in hj_set (by omega), wgC, if_neg c36, if_neg c48, if_pos c54, if_pos c65, if_neg c78, if_pos c204]
                  exact g_iret C R (Nat.le_refl _) (Nat.le_refl _) dX4_weigh_209 (fun H h => ⟨by rw [er], by rw [chF, chX, er, if_neg (by decide), if_neg (by decide)]; exact h⟩)
              have j157 : G E (RepM Γ A o ad (upd F 0 0) X) 0 0 157 [some (.ref o), some (.int (nI j_set)), some (.int left), some (.int right), some (.int (nI j_res)), some (.int (1 <<< (X 11 j_set &&& 31) - 1)), some (.int (wgH (X 1) j_set left right (nI j_res))), some (.int (X 1 (665 + j_set))), some (.int (wgG (X 1) j_set (nI j_res))), none] [] := by
                refine g_iload C dX4_weigh_157 rfl ?_
                refine g_iload C dX4_weigh_159 rfl ?_
                refine g_if_ne 172 C dX4_weigh_161 rfl (fun c161 => ?_) (fun c161 => ?_)
                · refine g_iload C dX4_weigh_172 rfl ?_
                  refine g_iconst (v := 1) C dX4_weigh_174 rfl ?_
                  refine g_icmp_ne 182 C dX4_weigh_175 rfl (fun c175 => ?_) (fun c175 => ?_)
                  · refine g_iload_n C dX4_weigh_182 rfl rfl ?_
                    refine g_iand C dX4_weigh_183 ?_
                    refine g_topi (y := wgL (X 1) j_set left right (nI j_res)) (by simp only [wgL, if_neg c161, if_neg c175]) ?_
                    refine g_istore (lv' := [some (.ref o), some (.int (nI j_set)), some (.int left), some (.int right), some (.int (nI j_res)), some (.int (1 <<< (X 11 j_set &&& 31) - 1)), some (.int (wgH (X 1) j_set left right (nI j_res))), some (.int (wgL (X 1) j_set left right (nI j_res))), some (.int (wgG (X 1) j_set (nI j_res))), none]) C dX4_weigh_184 (by decide) rfl ?_
                    exact j186
                  · refine g_iload_n C dX4_weigh_178 rfl rfl ?_
                    refine g_goto 183 C dX4_weigh_179 rfl ?_
                    refine g_iand C dX4_weigh_183 ?_
                    refine g_topi (y := wgL (X 1) j_set left right (nI j_res)) (by simp only [wgL, if_neg c161, if_pos c175]) ?_
                    refine g_istore (lv' := [some (.ref o), some (.int (nI j_set)), some (.int left), some (.int right), some (.int (nI j_res)), some (.int (1 <<< (X 11 j_set &&& 31) - 1)), some (.int (wgH (X 1) j_set left right (nI j_res))), some (.int (wgL (X 1) j_set left right (nI j_res))), some (.int (wgG (X 1) j_set (nI j_res))), none]) C dX4_weigh_184 (by decide) rfl ?_
                    exact j186
                · refine g_iload_n C dX4_weigh_164 rfl rfl ?_
                  refine g_iload_n C dX4_weigh_165 rfl rfl ?_
                  refine g_ior C dX4_weigh_166 ?_
                  refine g_iconst (v := (-1)) C dX4_weigh_167 rfl ?_
                  refine g_ixor C dX4_weigh_168 ?_
                  refine g_goto 183 C dX4_weigh_169 rfl ?_
                  refine g_iand C dX4_weigh_183 ?_
                  refine g_topi (y := wgL (X 1) j_set left right (nI j_res)) (by simp only [wgL, if_pos c161]) ?_
                  refine g_istore (lv' := [some (.ref o), some (.int (nI j_set)), some (.int left), some (.int right), some (.int (nI j_res)), some (.int (1 <<< (X 11 j_set &&& 31) - 1)), some (.int (wgH (X 1) j_set left right (nI j_res))), some (.int (wgL (X 1) j_set left right (nI j_res))), some (.int (wgG (X 1) j_set (nI j_res))), none]) C dX4_weigh_184 (by decide) rfl ?_
                  exact j186
              have j128 : G E (RepM Γ A o ad (upd F 0 0) X) 0 0 128 [some (.ref o), some (.int (nI j_set)), some (.int left), some (.int right), some (.int (nI j_res)), some (.int (1 <<< (X 11 j_set &&& 31) - 1)), some (.int (X 1 (661 + j_set))), some (.int (X 1 (665 + j_set))), some (.int (wgG (X 1) j_set (nI j_res))), none] [] := by
                refine g_iload C dX4_weigh_128 rfl ?_
                refine g_iload C dX4_weigh_130 rfl ?_
                refine g_if_ne 143 C dX4_weigh_132 rfl (fun c132 => ?_) (fun c132 => ?_)
                · refine g_iload C dX4_weigh_143 rfl ?_
                  refine g_iconst (v := 1) C dX4_weigh_145 rfl ?_
                  refine g_icmp_ne 153 C dX4_weigh_146 rfl (fun c146 => ?_) (fun c146 => ?_)
                  · refine g_iload_n C dX4_weigh_153 rfl rfl ?_
                    refine g_iand C dX4_weigh_154 ?_
                    refine g_topi (y := wgH (X 1) j_set left right (nI j_res)) (by simp only [wgH, if_neg c132, if_neg c146]) ?_
                    refine g_istore (lv' := [some (.ref o), some (.int (nI j_set)), some (.int left), some (.int right), some (.int (nI j_res)), some (.int (1 <<< (X 11 j_set &&& 31) - 1)), some (.int (wgH (X 1) j_set left right (nI j_res))), some (.int (X 1 (665 + j_set))), some (.int (wgG (X 1) j_set (nI j_res))), none]) C dX4_weigh_155 (by decide) rfl ?_
                    exact j157
                  · refine g_iload_n C dX4_weigh_149 rfl rfl ?_
                    refine g_goto 154 C dX4_weigh_150 rfl ?_
                    refine g_iand C dX4_weigh_154 ?_
                    refine g_topi (y := wgH (X 1) j_set left right (nI j_res)) (by simp only [wgH, if_neg c132, if_pos c146]) ?_
                    refine g_istore (lv' := [some (.ref o), some (.int (nI j_set)), some (.int left), some (.int right), some (.int (nI j_res)), some (.int (1 <<< (X 11 j_set &&& 31) - 1)), some (.int (wgH (X 1) j_set left right (nI j_res))), some (.int (X 1 (665 + j_set))), some (.int (wgG (X 1) j_set (nI j_res))), none]) C dX4_weigh_155 (by decide) rfl ?_
                    exact j157
                · refine g_iload_n C dX4_weigh_135 rfl rfl ?_
                  refine g_iload_n C dX4_weigh_136 rfl rfl ?_
                  refine g_ior C dX4_weigh_137 ?_
                  refine g_iconst (v := (-1)) C dX4_weigh_138 rfl ?_
                  refine g_ixor C dX4_weigh_139 ?_
                  refine g_goto 154 C dX4_weigh_140 rfl ?_
                  refine g_iand C dX4_weigh_154 ?_
                  refine g_topi (y := wgH (X 1) j_set left right (nI j_res)) (by simp only [wgH, if_pos c132]) ?_
                  refine g_istore (lv' := [some (.ref o), some (.int (nI j_set)), some (.int left), some (.int right), some (.int (nI j_res)), some (.int (1 <<< (X 11 j_set &&& 31) - 1)), some (.int (wgH (X 1) j_set left right (nI j_res))), some (.int (X 1 (665 + j_set))), some (.int (wgG (X 1) j_set (nI j_res))), none]) C dX4_weigh_155 (by decide) rfl ?_
                  exact j157
              refine g_aload_n C dX4_weigh_83 rfl rfl ?_
              refine mg_1 C dX4_weigh_84 ?_
              refine g_sipush (v := 661) C dX4_weigh_87 rfl ?_
              refine g_iload_n C dX4_weigh_90 rfl rfl ?_
              refine g_iadd C dX4_weigh_91 ?_
              refine g_topi (y := nI (661 + j_set)) (nI_add 661 j_set) ?_
              refine ml_1 (i := 661 + j_set) C dX4_weigh_92 (by omega) ?_
              refine g_istore (lv' := [some (.ref o), some (.int (nI j_set)), some (.int left), some (.int right), some (.int (nI j_res)), some (.int ((1 <<< (X 11 j_set &&& 31)) - 1)), some (.int (X 1 (661 + j_set))), none, none, none]) C dX4_weigh_93 (by decide) rfl ?_
              refine g_aload_n C dX4_weigh_95 rfl rfl ?_
              refine mg_1 C dX4_weigh_96 ?_
              refine g_sipush (v := 665) C dX4_weigh_99 rfl ?_
              refine g_iload_n C dX4_weigh_102 rfl rfl ?_
              refine g_iadd C dX4_weigh_103 ?_
              refine g_topi (y := nI (665 + j_set)) (nI_add 665 j_set) ?_
              refine ml_1 (i := 665 + j_set) C dX4_weigh_104 (by omega) ?_
              refine g_istore (lv' := [some (.ref o), some (.int (nI j_set)), some (.int left), some (.int right), some (.int (nI j_res)), some (.int ((1 <<< (X 11 j_set &&& 31)) - 1)), some (.int (X 1 (661 + j_set))), some (.int (X 1 (665 + j_set))), none, none]) C dX4_weigh_105 (by decide) rfl ?_
              refine g_iload C dX4_weigh_107 rfl ?_
              refine g_if_ne 125 C dX4_weigh_109 rfl (fun c109 => ?_) (fun c109 => ?_)
              · refine g_iconst (v := 0) C dX4_weigh_125 rfl ?_
                refine g_topi (y := wgG (X 1) j_set (nI j_res)) (by simp only [wgG, if_neg c109]) ?_
                refine g_istore (lv' := [some (.ref o), some (.int (nI j_set)), some (.int left), some (.int right), some (.int (nI j_res)), some (.int ((1 <<< (X 11 j_set &&& 31)) - 1)), some (.int (X 1 (661 + j_set))), some (.int (X 1 (665 + j_set))), some (.int (wgG (X 1) j_set (nI j_res))), none]) C dX4_weigh_126 (by decide) rfl ?_
                exact j128
              · refine g_aload_n C dX4_weigh_112 rfl rfl ?_
                refine mg_1 C dX4_weigh_113 ?_
                refine g_sipush (v := 669) C dX4_weigh_116 rfl ?_
                refine g_iload_n C dX4_weigh_119 rfl rfl ?_
                refine g_iadd C dX4_weigh_120 ?_
                refine g_topi (y := nI (669 + j_set)) (nI_add 669 j_set) ?_
                refine ml_1 (i := 669 + j_set) C dX4_weigh_121 (by omega) ?_
                refine g_goto 126 C dX4_weigh_122 rfl ?_
                refine g_topi (y := wgG (X 1) j_set (nI j_res)) (by simp only [wgG, if_pos c109]) ?_
                refine g_istore (lv' := [some (.ref o), some (.int (nI j_set)), some (.int left), some (.int right), some (.int (nI j_res)), some (.int ((1 <<< (X 11 j_set &&& 31)) - 1)), some (.int (X 1 (661 + j_set))), some (.int (X 1 (665 + j_set))), some (.int (wgG (X 1) j_set (nI j_res))), none]) C dX4_weigh_126 (by decide) rfl ?_
                exact j128
            · refine g_iconst (v := (-1)) C dX4_weigh_81 rfl ?_
              have er : wgI X ne (nI j_set) left right res = -1 := by rw [wgI, atI_in hj_set (by omega), wgC, if_neg c36, if_neg c48, if_pos c54, if_pos c65, if_pos c78]
              exact g_iret C R (Nat.le_refl _) (Nat.le_refl _) dX4_weigh_82 (fun H h => ⟨by rw [er], by rw [chF, chX, er, if_neg (by decide), if_neg (by decide)]; exact h⟩)
  · refine g_iconst (v := (-1)) C dX4_weigh_13 rfl ?_
    have er : wgI X ne set left right res = -1 := by rw [wgI, atI_out c10]
    exact g_iret C R (Nat.le_refl _) (Nat.le_refl _) dX4_weigh_14 (fun H h => ⟨by rw [er], by rw [chF, chX, er, if_neg (by decide), if_neg (by decide)]; exact h⟩)
set_option maxRecDepth 100000 in
theorem ct_bytesOf {l : Launch} {Γ : Gm} {A : Nat → Prop} {ρ : State → Prop} (B : Bs l A ρ) {o : Nat} {ad : Nat → Nat} {F : Nat → Int32} {X : Nat → Nat → Int32} {ln : Nat} (hln : F 15 = nI ln) (hle : ln + 4 ≤ 800) (v : Int32) : CtM l Γ A ρ yX4_bytesOf cX4_bytesOf 3 none 0 0 o ad [.ref o, .int v] F X none (upd F 15 (nI (ln + 4))) (setX X 14 (bw4 (X 14) ln v)) := by
  refine Ct.of B.1 B.2 (by decide) [some (.ref o), some (.int v), none] (Nat.le_of_ble_eq_true rfl) rfl ?_
  intro E hE C R
  subst hE
  refine g_bipush (v := 24) C dX4_bytesOf_0 rfl ?_
  refine g_istore_n (lv' := [some (.ref o), some (.int v), some (.int 24)]) C dX4_bytesOf_2 rfl (by decide) rfl ?_
  refine g_iload_n C dX4_bytesOf_3 rfl rfl ?_
  refine g_if_lt 36 C dX4_bytesOf_4 rfl (fun c4 => ?_) (fun c4 => ?_)
  · exact absurd c4 (by decide)
  · refine g_aload_n C dX4_bytesOf_7 rfl rfl ?_
    refine mg_14 C dX4_bytesOf_8 ?_
    refine g_aload_n C dX4_bytesOf_11 rfl rfl ?_
    refine mg_15 C dX4_bytesOf_12 ?_
    refine g_topi (y := nI ln) (hln) ?_
    refine g_iload_n C dX4_bytesOf_15 rfl rfl ?_
    refine g_iload_n C dX4_bytesOf_16 rfl rfl ?_
    refine g_ishr C dX4_bytesOf_17 ?_
    refine g_i2b C dX4_bytesOf_18 ?_
    refine ms_14 (i := ln) C dX4_bytesOf_19 (by omega) ?_
    refine g_aload_n C dX4_bytesOf_20 rfl rfl ?_
    refine g_dup C dX4_bytesOf_21 rfl ?_
    refine mg_15 C dX4_bytesOf_22 ?_
    refine g_topi (y := nI ln) (hln) ?_
    refine g_iconst (v := 1) C dX4_bytesOf_25 rfl ?_
    refine g_iadd C dX4_bytesOf_26 ?_
    refine g_topi (y := nI (ln + 1)) (nI_add ln 1) ?_
    refine mp_15 C dX4_bytesOf_27 ?_
    refine g_iinc (x := 24) (v := 16) (lv' := [some (.ref o), some (.int v), some (.int 16)]) C dX4_bytesOf_30 rfl (by decide) (by decide) rfl ?_
    refine g_goto 3 C dX4_bytesOf_33 rfl ?_
    refine g_iload_n C dX4_bytesOf_3 rfl rfl ?_
    refine g_if_lt 36 C dX4_bytesOf_4 rfl (fun c4 => ?_) (fun c4 => ?_)
    · exact absurd c4 (by decide)
    · refine g_aload_n C dX4_bytesOf_7 rfl rfl ?_
      refine mg_14 C dX4_bytesOf_8 ?_
      refine g_aload_n C dX4_bytesOf_11 rfl rfl ?_
      refine mg_15 C dX4_bytesOf_12 ?_
      refine g_topi (y := nI (ln + 1)) rfl ?_
      refine g_iload_n C dX4_bytesOf_15 rfl rfl ?_
      refine g_iload_n C dX4_bytesOf_16 rfl rfl ?_
      refine g_ishr C dX4_bytesOf_17 ?_
      refine g_i2b C dX4_bytesOf_18 ?_
      refine ms_14 (i := ln + 1) C dX4_bytesOf_19 (by omega) ?_
      refine g_eqI (J := RepM Γ A o ad (upd F 15 (nI (ln + 1))) (setX X 14 (upd (upd (X 14) ln (((v >>> (24 &&& 31)).toInt8.toInt32).toInt8.toInt32)) (ln + 1) (((v >>> (16 &&& 31)).toInt8.toInt32).toInt8.toInt32)))) (congrArg (RepM Γ A o ad _) (by rw [setX_self, setX_setX])) ?_
      refine g_aload_n C dX4_bytesOf_20 rfl rfl ?_
      refine g_dup C dX4_bytesOf_21 rfl ?_
      refine mg_15 C dX4_bytesOf_22 ?_
      refine g_topi (y := nI (ln + 1)) rfl ?_
      refine g_iconst (v := 1) C dX4_bytesOf_25 rfl ?_
      refine g_iadd C dX4_bytesOf_26 ?_
      refine g_topi (y := nI (ln + 1 + 1)) (nI_add (ln + 1) 1) ?_
      refine mp_15 C dX4_bytesOf_27 ?_
      refine g_eqI (J := RepM Γ A o ad (upd F 15 (nI (ln + 1 + 1))) (setX X 14 (upd (upd (X 14) ln (((v >>> (24 &&& 31)).toInt8.toInt32).toInt8.toInt32)) (ln + 1) (((v >>> (16 &&& 31)).toInt8.toInt32).toInt8.toInt32)))) (congrArg (fun F => RepM Γ A o ad F _) (upd_upd _ _ _ _)) ?_
      refine g_iinc (x := 16) (v := 8) (lv' := [some (.ref o), some (.int v), some (.int 8)]) C dX4_bytesOf_30 rfl (by decide) (by decide) rfl ?_
      refine g_goto 3 C dX4_bytesOf_33 rfl ?_
      refine g_iload_n C dX4_bytesOf_3 rfl rfl ?_
      refine g_if_lt 36 C dX4_bytesOf_4 rfl (fun c4 => ?_) (fun c4 => ?_)
      · exact absurd c4 (by decide)
      · refine g_aload_n C dX4_bytesOf_7 rfl rfl ?_
        refine mg_14 C dX4_bytesOf_8 ?_
        refine g_aload_n C dX4_bytesOf_11 rfl rfl ?_
        refine mg_15 C dX4_bytesOf_12 ?_
        refine g_topi (y := nI (ln + 1 + 1)) rfl ?_
        refine g_iload_n C dX4_bytesOf_15 rfl rfl ?_
        refine g_iload_n C dX4_bytesOf_16 rfl rfl ?_
        refine g_ishr C dX4_bytesOf_17 ?_
        refine g_i2b C dX4_bytesOf_18 ?_
        refine ms_14 (i := ln + 1 + 1) C dX4_bytesOf_19 (by omega) ?_
        refine g_eqI (J := RepM Γ A o ad (upd F 15 (nI (ln + 1 + 1))) (setX X 14 (upd (upd (upd (X 14) ln (((v >>> (24 &&& 31)).toInt8.toInt32).toInt8.toInt32)) (ln + 1) (((v >>> (16 &&& 31)).toInt8.toInt32).toInt8.toInt32)) (ln + 1 + 1) (((v >>> (8 &&& 31)).toInt8.toInt32).toInt8.toInt32)))) (congrArg (RepM Γ A o ad _) (by rw [setX_self, setX_setX])) ?_
        refine g_aload_n C dX4_bytesOf_20 rfl rfl ?_
        refine g_dup C dX4_bytesOf_21 rfl ?_
        refine mg_15 C dX4_bytesOf_22 ?_
        refine g_topi (y := nI (ln + 1 + 1)) rfl ?_
        refine g_iconst (v := 1) C dX4_bytesOf_25 rfl ?_
        refine g_iadd C dX4_bytesOf_26 ?_
        refine g_topi (y := nI (ln + 1 + 1 + 1)) (nI_add (ln + 1 + 1) 1) ?_
        refine mp_15 C dX4_bytesOf_27 ?_
        refine g_eqI (J := RepM Γ A o ad (upd F 15 (nI (ln + 1 + 1 + 1))) (setX X 14 (upd (upd (upd (X 14) ln (((v >>> (24 &&& 31)).toInt8.toInt32).toInt8.toInt32)) (ln + 1) (((v >>> (16 &&& 31)).toInt8.toInt32).toInt8.toInt32)) (ln + 1 + 1) (((v >>> (8 &&& 31)).toInt8.toInt32).toInt8.toInt32)))) (congrArg (fun F => RepM Γ A o ad F _) (upd_upd _ _ _ _)) ?_
        refine g_iinc (x := 8) (v := 0) (lv' := [some (.ref o), some (.int v), some (.int 0)]) C dX4_bytesOf_30 rfl (by decide) (by decide) rfl ?_
        refine g_goto 3 C dX4_bytesOf_33 rfl ?_
        refine g_iload_n C dX4_bytesOf_3 rfl rfl ?_
        refine g_if_lt 36 C dX4_bytesOf_4 rfl (fun c4 => ?_) (fun c4 => ?_)
        · exact absurd c4 (by decide)
        · refine g_aload_n C dX4_bytesOf_7 rfl rfl ?_
          refine mg_14 C dX4_bytesOf_8 ?_
          refine g_aload_n C dX4_bytesOf_11 rfl rfl ?_
          refine mg_15 C dX4_bytesOf_12 ?_
          refine g_topi (y := nI (ln + 1 + 1 + 1)) rfl ?_
          refine g_iload_n C dX4_bytesOf_15 rfl rfl ?_
          refine g_iload_n C dX4_bytesOf_16 rfl rfl ?_
          refine g_ishr C dX4_bytesOf_17 ?_
          refine g_i2b C dX4_bytesOf_18 ?_
          refine ms_14 (i := ln + 1 + 1 + 1) C dX4_bytesOf_19 (by omega) ?_
          refine g_eqI (J := RepM Γ A o ad (upd F 15 (nI (ln + 1 + 1 + 1))) (setX X 14 (upd (upd (upd (upd (X 14) ln (((v >>> (24 &&& 31)).toInt8.toInt32).toInt8.toInt32)) (ln + 1) (((v >>> (16 &&& 31)).toInt8.toInt32).toInt8.toInt32)) (ln + 1 + 1) (((v >>> (8 &&& 31)).toInt8.toInt32).toInt8.toInt32)) (ln + 1 + 1 + 1) (((v >>> (0 &&& 31)).toInt8.toInt32).toInt8.toInt32)))) (congrArg (RepM Γ A o ad _) (by rw [setX_self, setX_setX])) ?_
          refine g_aload_n C dX4_bytesOf_20 rfl rfl ?_
          refine g_dup C dX4_bytesOf_21 rfl ?_
          refine mg_15 C dX4_bytesOf_22 ?_
          refine g_topi (y := nI (ln + 1 + 1 + 1)) rfl ?_
          refine g_iconst (v := 1) C dX4_bytesOf_25 rfl ?_
          refine g_iadd C dX4_bytesOf_26 ?_
          refine g_topi (y := nI (ln + 1 + 1 + 1 + 1)) (nI_add (ln + 1 + 1 + 1) 1) ?_
          refine mp_15 C dX4_bytesOf_27 ?_
          refine g_eqI (J := RepM Γ A o ad (upd F 15 (nI (ln + 1 + 1 + 1 + 1))) (setX X 14 (upd (upd (upd (upd (X 14) ln (((v >>> (24 &&& 31)).toInt8.toInt32).toInt8.toInt32)) (ln + 1) (((v >>> (16 &&& 31)).toInt8.toInt32).toInt8.toInt32)) (ln + 1 + 1) (((v >>> (8 &&& 31)).toInt8.toInt32).toInt8.toInt32)) (ln + 1 + 1 + 1) (((v >>> (0 &&& 31)).toInt8.toInt32).toInt8.toInt32)))) (congrArg (fun F => RepM Γ A o ad F _) (upd_upd _ _ _ _)) ?_
          refine g_iinc (x := 0) (v := (-8)) (lv' := [some (.ref o), some (.int v), some (.int (-8))]) C dX4_bytesOf_30 rfl (by decide) (by decide) rfl ?_
          refine g_goto 3 C dX4_bytesOf_33 rfl ?_
          refine g_iload_n C dX4_bytesOf_3 rfl rfl ?_
          refine g_if_lt 36 C dX4_bytesOf_4 rfl (fun c4 => ?_) (fun c4 => ?_)
          · exact g_vret C R (Nat.le_refl _) (Nat.le_refl _) dX4_bytesOf_36 (fun H h => ⟨rfl, by simp only [fb_byte_twice] at h; exact h⟩)
          · exact absurd c4 (by decide)
set_option maxRecDepth 100000 in
theorem ct_append {l : Launch} {Γ : Gm} {A : Nat → Prop} {ρ : State → Prop} (B : Bs l A ρ) {o : Nat} {ad : Nat → Nat} {F : Nat → Int32} {X : Nat → Nat → Int32} {nt ns nm ne nv nu ln : Nat} (J : Iv F X nt ns nm ne nv nu ln) (a b c d e : Int32) : CtM l Γ A ρ yX4_append cX4_append 6 (some .int) 1 22 o ad [.ref o, .int a, .int b, .int c, .int d, .int e] F X (some (.int (if ln ≤ 780 then nI (ln + 4 + 4 + 4 + 4 + 4) else -3))) (if ln ≤ 780 then upd (upd F 0 0) 15 (nI (ln + 4 + 4 + 4 + 4 + 4)) else upd F 0 0) (if ln ≤ 780 then setX X 14 (ap5 (X 14) ln a b c d e) else X) := by
  refine Ct.of B.1 B.2 (by decide) [some (.ref o), some (.int a), some (.int b), some (.int c), some (.int d), some (.int e)] (Nat.le_of_ble_eq_true rfl) rfl ?_
  intro E hE C R
  subst hE
  have hl_ := J.ll
  refine g_aload_n C dX4_append_0 rfl rfl ?_
  refine g_iconst (v := 0) C dX4_append_1 rfl ?_
  refine mp_0 C dX4_append_2 ?_
  refine g_aload_n C dX4_append_5 rfl rfl ?_
  refine mg_15 C dX4_append_6 ?_
  refine g_topi (y := nI ln) (J.f15) ?_
  refine g_bipush (v := 20) C dX4_append_9 rfl ?_
  refine g_iadd C dX4_append_11 ?_
  refine g_topi (y := nI (ln + 20)) (nI_add ln 20) ?_
  refine g_sipush (v := 800) C dX4_append_12 rfl ?_
  refine gN_le (a := ln + 20) (b := 800) 21 C dX4_append_15 rfl (by omega) (by omega) (fun c15 => ?_) (fun c15 => ?_)
  · refine g_aload_n C dX4_append_21 rfl rfl ?_
    refine g_iload_n C dX4_append_22 rfl rfl ?_
    refine g_mcallv (rest := []) 1 C (ct_bytesOf (F := upd F 0 0) (X := X) B (ln := ln) J.f15 (by omega) _) (lw_V q1775 q1777 qs45 q107 q1778) (by decide +kernel) ⟨Nat.le_of_ble_eq_true rfl, Nat.le_of_ble_eq_true rfl⟩ ⟨Nat.le_of_ble_eq_true rfl, Nat.le_of_ble_eq_true rfl⟩ rfl rfl (Nat.le_of_ble_eq_true rfl) dX4_append_23 ?_
    refine g_aload_n C dX4_append_26 rfl rfl ?_
    refine g_iload_n C dX4_append_27 rfl rfl ?_
    refine g_mcallv (rest := []) 1 C (ct_bytesOf (F := upd (upd F 0 0) 15 (nI (ln + 4))) (X := setX X 14 (bw4 (X 14) ln a)) B (ln := ln + 4) rfl (by omega) _) (lw_V q1775 q1777 qs45 q107 q1778) (by decide +kernel) ⟨Nat.le_of_ble_eq_true rfl, Nat.le_of_ble_eq_true rfl⟩ ⟨Nat.le_of_ble_eq_true rfl, Nat.le_of_ble_eq_true rfl⟩ rfl rfl (Nat.le_of_ble_eq_true rfl) dX4_append_28 ?_
    refine g_eqI (J := RepM Γ A o ad (upd (upd F 0 0) 15 (nI (ln + 4 + 4))) (setX X 14 (bw4 (bw4 (X 14) ln a) (ln + 4) b))) (by rw [upd_upd, setX_self, setX_setX]) ?_
    refine g_aload_n C dX4_append_31 rfl rfl ?_
    refine g_iload_n C dX4_append_32 rfl rfl ?_
    refine g_mcallv (rest := []) 1 C (ct_bytesOf (F := upd (upd F 0 0) 15 (nI (ln + 4 + 4))) (X := setX X 14 (bw4 (bw4 (X 14) ln a) (ln + 4) b)) B (ln := ln + 4 + 4) rfl (by omega) _) (lw_V q1775 q1777 qs45 q107 q1778) (by decide +kernel) ⟨Nat.le_of_ble_eq_true rfl, Nat.le_of_ble_eq_true rfl⟩ ⟨Nat.le_of_ble_eq_true rfl, Nat.le_of_ble_eq_true rfl⟩ rfl rfl (Nat.le_of_ble_eq_true rfl) dX4_append_33 ?_
    refine g_eqI (J := RepM Γ A o ad (upd (upd F 0 0) 15 (nI (ln + 4 + 4 + 4))) (setX X 14 (bw4 (bw4 (bw4 (X 14) ln a) (ln + 4) b) (ln + 4 + 4) c))) (by rw [upd_upd, setX_self, setX_setX]) ?_
    refine g_aload_n C dX4_append_36 rfl rfl ?_
    refine g_iload C dX4_append_37 rfl ?_
    refine g_mcallv (rest := []) 1 C (ct_bytesOf (F := upd (upd F 0 0) 15 (nI (ln + 4 + 4 + 4))) (X := setX X 14 (bw4 (bw4 (bw4 (X 14) ln a) (ln + 4) b) (ln + 4 + 4) c)) B (ln := ln + 4 + 4 + 4) rfl (by omega) _) (lw_V q1775 q1777 qs45 q107 q1778) (by decide +kernel) ⟨Nat.le_of_ble_eq_true rfl, Nat.le_of_ble_eq_true rfl⟩ ⟨Nat.le_of_ble_eq_true rfl, Nat.le_of_ble_eq_true rfl⟩ rfl rfl (Nat.le_of_ble_eq_true rfl) dX4_append_39 ?_
    refine g_eqI (J := RepM Γ A o ad (upd (upd F 0 0) 15 (nI (ln + 4 + 4 + 4 + 4))) (setX X 14 (bw4 (bw4 (bw4 (bw4 (X 14) ln a) (ln + 4) b) (ln + 4 + 4) c) (ln + 4 + 4 + 4) d))) (by rw [upd_upd, setX_self, setX_setX]) ?_
    refine g_aload_n C dX4_append_42 rfl rfl ?_
    refine g_iload C dX4_append_43 rfl ?_
    refine g_mcallv (rest := []) 1 C (ct_bytesOf (F := upd (upd F 0 0) 15 (nI (ln + 4 + 4 + 4 + 4))) (X := setX X 14 (bw4 (bw4 (bw4 (bw4 (X 14) ln a) (ln + 4) b) (ln + 4 + 4) c) (ln + 4 + 4 + 4) d)) B (ln := ln + 4 + 4 + 4 + 4) rfl (by omega) _) (lw_V q1775 q1777 qs45 q107 q1778) (by decide +kernel) ⟨Nat.le_of_ble_eq_true rfl, Nat.le_of_ble_eq_true rfl⟩ ⟨Nat.le_of_ble_eq_true rfl, Nat.le_of_ble_eq_true rfl⟩ rfl rfl (Nat.le_of_ble_eq_true rfl) dX4_append_45 ?_
    refine g_eqI (J := RepM Γ A o ad (upd (upd F 0 0) 15 (nI (ln + 4 + 4 + 4 + 4 + 4))) (setX X 14 (bw4 (bw4 (bw4 (bw4 (bw4 (X 14) ln a) (ln + 4) b) (ln + 4 + 4) c) (ln + 4 + 4 + 4) d) (ln + 4 + 4 + 4 + 4) e))) (by rw [upd_upd, setX_self, setX_setX]) ?_
    refine g_aload_n C dX4_append_48 rfl rfl ?_
    refine mg_15 C dX4_append_49 ?_
    refine g_topi (y := nI (ln + 4 + 4 + 4 + 4 + 4)) rfl ?_
    exact g_iret C R (Nat.le_refl _) (Nat.le_refl _) dX4_append_52 (fun H h => ⟨by rw [if_pos (by omega)], by rw [if_pos (by omega), if_pos (by omega)]; exact h⟩)
  · refine g_bipush (v := (-3)) C dX4_append_18 rfl ?_
    exact g_iret C R (Nat.le_refl _) (Nat.le_refl _) dX4_append_20 (fun H h => ⟨by rw [if_neg (by omega)], by rw [if_neg (by omega), if_neg (by omega)]; exact h⟩)
