set_option maxRecDepth 100000 in
theorem ct_sumOf {l : Launch} {Γ : Gm} {A : Nat → Prop} {ρ : State → Prop} (B : Bs l A ρ) {o : Nat} {ad : Nat → Nat} {F : Nat → Int32} {X : Nat → Nat → Int32} {nt ns nm ne nv nu ln : Nat} (J : Iv F X nt ns nm ne nv nu ln) (set : Int32) : CtM l Γ A ρ yX4_sumOf cX4_sumOf 4 (some .int) 0 0 o ad [.ref o, .int set] F X (some (.int (loadN (X 9) set nm))) F X := by
  refine Ct.of B.1 B.2 (by decide) [some (.ref o), some (.int set), none, none] (Nat.le_of_ble_eq_true rfl) rfl ?_
  intro E hE C R
  subst hE
  have hm_ := J.lm
  refine g_iconst (v := 0) C dX4_sumOf_0 rfl ?_
  refine g_istore_n (lv' := [some (.ref o), some (.int set), some (.int 0), none]) C dX4_sumOf_1 rfl (by decide) rfl ?_
  refine g_iconst (v := 0) C dX4_sumOf_2 rfl ?_
  refine g_istore_n (lv' := [some (.ref o), some (.int set), some (.int 0), some (.int 0)]) C dX4_sumOf_3 rfl (by decide) rfl ?_
  refine g_for (P := fun k => G E (RepM Γ A o ad F X) 0 0 4 [some (.ref o), some (.int set), some (.int (loadN (X 9) set k)), some (.int (nI k))] []) nm ?_ ?_ 0 (Nat.zero_le _)
  · refine g_iload_n C dX4_sumOf_4 rfl rfl ?_
    refine g_aload_n C dX4_sumOf_5 rfl rfl ?_
    refine mg_8 C dX4_sumOf_6 ?_
    refine g_topi (y := nI nm) (J.f8) ?_
    refine gN_ge (a := nm) (b := nm) 40 C dX4_sumOf_9 rfl (by omega) (by omega) (fun c9 => ?_) (fun c9 => ?_)
    · refine g_iload_n C dX4_sumOf_40 rfl rfl ?_
      exact g_iret C R (Nat.le_refl _) (Nat.le_refl _) dX4_sumOf_41 (fun H h => ⟨rfl, h⟩)
    · exfalso; omega
  · intro k hk ih
    replace ih : G E (RepM Γ A o ad F X) 0 0 4 [some (.ref o), some (.int set), some (.int (loadN (X 9) set (k + 1))), some (.int (nI (k + 1)))] [] := ih
    refine g_iload_n C dX4_sumOf_4 rfl rfl ?_
    refine g_aload_n C dX4_sumOf_5 rfl rfl ?_
    refine mg_8 C dX4_sumOf_6 ?_
    refine g_topi (y := nI nm) (J.f8) ?_
    refine gN_ge (a := k) (b := nm) 40 C dX4_sumOf_9 rfl (by omega) (by omega) (fun c9 => ?_) (fun c9 => ?_)
    · exfalso; omega
    · refine g_iload_n C dX4_sumOf_12 rfl rfl ?_
      refine g_iload_n C dX4_sumOf_13 rfl rfl ?_
      refine g_iload_n C dX4_sumOf_14 rfl rfl ?_
      refine g_ishr C dX4_sumOf_15 ?_
      refine g_iconst (v := 1) C dX4_sumOf_16 rfl ?_
      refine g_iand C dX4_sumOf_17 ?_
      refine g_iconst (v := 1) C dX4_sumOf_18 rfl ?_
      refine g_icmp_ne 31 C dX4_sumOf_19 rfl (fun c19 => ?_) (fun c19 => ?_)
      · refine g_iconst (v := 0) C dX4_sumOf_31 rfl ?_
        refine g_iadd C dX4_sumOf_32 ?_
        refine g_topi (y := loadN (X 9) set (k + 1)) (by simp only [loadN]; rw [if_neg c19]) ?_
        refine g_istore_n (lv' := [some (.ref o), some (.int set), some (.int (loadN (X 9) set (k + 1))), some (.int (nI k))]) C dX4_sumOf_33 rfl (by decide) rfl ?_
        refine g_inc1 (x := k) (lv' := [some (.ref o), some (.int set), some (.int (loadN (X 9) set (k + 1))), some (.int (nI (k + 1)))]) C dX4_sumOf_34 rfl (by decide) rfl ?_
        refine g_goto 4 C dX4_sumOf_37 rfl ?_
        exact ih
      · refine g_aload_n C dX4_sumOf_22 rfl rfl ?_
        refine mg_9 C dX4_sumOf_23 ?_
        refine g_iload_n C dX4_sumOf_26 rfl rfl ?_
        refine ml_9 (i := k) C dX4_sumOf_27 (by omega) ?_
        refine g_goto 32 C dX4_sumOf_28 rfl ?_
        refine g_iadd C dX4_sumOf_32 ?_
        refine g_topi (y := loadN (X 9) set (k + 1)) (by simp only [loadN]; rw [if_pos c19]) ?_
        refine g_istore_n (lv' := [some (.ref o), some (.int set), some (.int (loadN (X 9) set (k + 1))), some (.int (nI k))]) C dX4_sumOf_33 rfl (by decide) rfl ?_
        refine g_inc1 (x := k) (lv' := [some (.ref o), some (.int set), some (.int (loadN (X 9) set (k + 1))), some (.int (nI (k + 1)))]) C dX4_sumOf_34 rfl (by decide) rfl ?_
        refine g_goto 4 C dX4_sumOf_37 rfl ?_
        exact ih
set_option maxRecDepth 100000 in
theorem ct_base {l : Launch} {Γ : Gm} {A : Nat → Prop} {ρ : State → Prop} (B : Bs l A ρ) {o : Nat} {ad : Nat → Nat} {F : Nat → Int32} {X : Nat → Nat → Int32} {nt ns nm ne nv nu ln : Nat} (J : Iv F X nt ns nm ne nv nu ln) (s : Nat) (hs : s < ns) (load : Int32) : CtM l Γ A ρ yX4_base cX4_base 5 (some .int) 0 0 o ad [.ref o, .int (nI s), .int load] F X (some (.int (baseF X s load))) F X := by
  refine Ct.of B.1 B.2 (by decide) [some (.ref o), some (.int (nI s)), some (.int load), none, none] (Nat.le_of_ble_eq_true rfl) rfl ?_
  intro E hE C R
  subst hE
  have hs_ := J.ls
  refine g_aload_n C dX4_base_0 rfl rfl ?_
  refine mg_6 C dX4_base_1 ?_
  refine g_iload_n C dX4_base_4 rfl rfl ?_
  refine ml_6 (i := s) C dX4_base_5 (by omega) ?_
  refine g_istore_n (lv' := [some (.ref o), some (.int (nI s)), some (.int load), some (.int (X 6 s)), none]) C dX4_base_6 rfl (by decide) rfl ?_
  refine g_aload_n C dX4_base_7 rfl rfl ?_
  refine mg_5 C dX4_base_8 ?_
  refine g_iload_n C dX4_base_11 rfl rfl ?_
  refine ml_5 (i := s) C dX4_base_12 (by omega) ?_
  refine g_if_ne 22 C dX4_base_13 rfl (fun c13 => ?_) (fun c13 => ?_)
  · refine g_aload_n C dX4_base_22 rfl rfl ?_
    refine mg_5 C dX4_base_23 ?_
    refine g_iload_n C dX4_base_26 rfl rfl ?_
    refine ml_5 (i := s) C dX4_base_27 (by omega) ?_
    refine g_iconst (v := 1) C dX4_base_28 rfl ?_
    refine g_icmp_ne 38 C dX4_base_29 rfl (fun c29 => ?_) (fun c29 => ?_)
    · refine g_bipush (v := 50) C dX4_base_38 rfl ?_
      refine g_istore (lv' := [some (.ref o), some (.int (nI s)), some (.int load), some (.int (X 6 s)), some (.int 50)]) C dX4_base_40 (by decide) rfl ?_
      refine g_iload_n C dX4_base_42 rfl rfl ?_
      refine g_iload C dX4_base_43 rfl ?_
      refine g_iload_n C dX4_base_45 rfl rfl ?_
      refine g_imul C dX4_base_46 ?_
      refine g_icmp_gt 58 C dX4_base_47 rfl (fun c47 => ?_) (fun c47 => ?_)
      · refine g_iload_n C dX4_base_58 rfl rfl ?_
        refine g_iconst (v := 4) C dX4_base_59 rfl ?_
        refine g_iload C dX4_base_60 rfl ?_
        refine g_imul C dX4_base_62 ?_
        refine g_iload_n C dX4_base_63 rfl rfl ?_
        refine g_imul C dX4_base_64 ?_
        refine g_icmp_gt 72 C dX4_base_65 rfl (fun c65 => ?_) (fun c65 => ?_)
        · refine g_iconst (v := 3) C dX4_base_72 rfl ?_
          refine g_iload_n C dX4_base_73 rfl rfl ?_
          refine g_imul C dX4_base_74 ?_
          refine g_iconst (v := 1) C dX4_base_75 rfl ?_
          refine g_iadd C dX4_base_76 ?_
          refine g_iconst (v := 2) C dX4_base_77 rfl ?_
          refine g_idiv C dX4_base_78 (by decide) ?_
          exact g_iret C R (Nat.le_refl _) (Nat.le_refl _) dX4_base_79 (fun H h => ⟨by simp only [baseF, if_neg c13, if_neg c29, if_pos c47, if_pos c65], h⟩)
        · refine g_iload_n C dX4_base_68 rfl rfl ?_
          refine g_goto 79 C dX4_base_69 rfl ?_
          exact g_iret C R (Nat.le_refl _) (Nat.le_refl _) dX4_base_79 (fun H h => ⟨by simp only [baseF, if_neg c13, if_neg c29, if_pos c47, if_neg c65], h⟩)
      · refine g_iload_n C dX4_base_50 rfl rfl ?_
        refine g_iconst (v := 1) C dX4_base_51 rfl ?_
        refine g_iadd C dX4_base_52 ?_
        refine g_iconst (v := 2) C dX4_base_53 rfl ?_
        refine g_idiv C dX4_base_54 (by decide) ?_
        refine g_goto 79 C dX4_base_55 rfl ?_
        exact g_iret C R (Nat.le_refl _) (Nat.le_refl _) dX4_base_79 (fun H h => ⟨by simp only [baseF, if_neg c13, if_neg c29, if_neg c47], h⟩)
    · refine g_sipush (v := 500) C dX4_base_32 rfl ?_
      refine g_goto 40 C dX4_base_35 rfl ?_
      refine g_istore (lv' := [some (.ref o), some (.int (nI s)), some (.int load), some (.int (X 6 s)), some (.int 500)]) C dX4_base_40 (by decide) rfl ?_
      refine g_iload_n C dX4_base_42 rfl rfl ?_
      refine g_iload C dX4_base_43 rfl ?_
      refine g_iload_n C dX4_base_45 rfl rfl ?_
      refine g_imul C dX4_base_46 ?_
      refine g_icmp_gt 58 C dX4_base_47 rfl (fun c47 => ?_) (fun c47 => ?_)
      · refine g_iload_n C dX4_base_58 rfl rfl ?_
        refine g_iconst (v := 4) C dX4_base_59 rfl ?_
        refine g_iload C dX4_base_60 rfl ?_
        refine g_imul C dX4_base_62 ?_
        refine g_iload_n C dX4_base_63 rfl rfl ?_
        refine g_imul C dX4_base_64 ?_
        refine g_icmp_gt 72 C dX4_base_65 rfl (fun c65 => ?_) (fun c65 => ?_)
        · refine g_iconst (v := 3) C dX4_base_72 rfl ?_
          refine g_iload_n C dX4_base_73 rfl rfl ?_
          refine g_imul C dX4_base_74 ?_
          refine g_iconst (v := 1) C dX4_base_75 rfl ?_
          refine g_iadd C dX4_base_76 ?_
          refine g_iconst (v := 2) C dX4_base_77 rfl ?_
          refine g_idiv C dX4_base_78 (by decide) ?_
          exact g_iret C R (Nat.le_refl _) (Nat.le_refl _) dX4_base_79 (fun H h => ⟨by simp only [baseF, if_neg c13, if_pos c29, if_pos c47, if_pos c65], h⟩)
        · refine g_iload_n C dX4_base_68 rfl rfl ?_
          refine g_goto 79 C dX4_base_69 rfl ?_
          exact g_iret C R (Nat.le_refl _) (Nat.le_refl _) dX4_base_79 (fun H h => ⟨by simp only [baseF, if_neg c13, if_pos c29, if_pos c47, if_neg c65], h⟩)
      · refine g_iload_n C dX4_base_50 rfl rfl ?_
        refine g_iconst (v := 1) C dX4_base_51 rfl ?_
        refine g_iadd C dX4_base_52 ?_
        refine g_iconst (v := 2) C dX4_base_53 rfl ?_
        refine g_idiv C dX4_base_54 (by decide) ?_
        refine g_goto 79 C dX4_base_55 rfl ?_
        exact g_iret C R (Nat.le_refl _) (Nat.le_refl _) dX4_base_79 (fun H h => ⟨by simp only [baseF, if_neg c13, if_pos c29, if_neg c47], h⟩)
  · refine g_sipush (v := 5000) C dX4_base_16 rfl ?_
    refine g_goto 40 C dX4_base_19 rfl ?_
    refine g_istore (lv' := [some (.ref o), some (.int (nI s)), some (.int load), some (.int (X 6 s)), some (.int 5000)]) C dX4_base_40 (by decide) rfl ?_
    refine g_iload_n C dX4_base_42 rfl rfl ?_
    refine g_iload C dX4_base_43 rfl ?_
    refine g_iload_n C dX4_base_45 rfl rfl ?_
    refine g_imul C dX4_base_46 ?_
    refine g_icmp_gt 58 C dX4_base_47 rfl (fun c47 => ?_) (fun c47 => ?_)
    · refine g_iload_n C dX4_base_58 rfl rfl ?_
      refine g_iconst (v := 4) C dX4_base_59 rfl ?_
      refine g_iload C dX4_base_60 rfl ?_
      refine g_imul C dX4_base_62 ?_
      refine g_iload_n C dX4_base_63 rfl rfl ?_
      refine g_imul C dX4_base_64 ?_
      refine g_icmp_gt 72 C dX4_base_65 rfl (fun c65 => ?_) (fun c65 => ?_)
      · refine g_iconst (v := 3) C dX4_base_72 rfl ?_
        refine g_iload_n C dX4_base_73 rfl rfl ?_
        refine g_imul C dX4_base_74 ?_
        refine g_iconst (v := 1) C dX4_base_75 rfl ?_
        refine g_iadd C dX4_base_76 ?_
        refine g_iconst (v := 2) C dX4_base_77 rfl ?_
        refine g_idiv C dX4_base_78 (by decide) ?_
        exact g_iret C R (Nat.le_refl _) (Nat.le_refl _) dX4_base_79 (fun H h => ⟨by simp only [baseF, if_pos c13, if_pos c47, if_pos c65], h⟩)
      · refine g_iload_n C dX4_base_68 rfl rfl ?_
        refine g_goto 79 C dX4_base_69 rfl ?_
        exact g_iret C R (Nat.le_refl _) (Nat.le_refl _) dX4_base_79 (fun H h => ⟨by simp only [baseF, if_pos c13, if_pos c47, if_neg c65], h⟩)
    · refine g_iload_n C dX4_base_50 rfl rfl ?_
      refine g_iconst (v := 1) C dX4_base_51 rfl ?_
      refine g_iadd C dX4_base_52 ?_
      refine g_iconst (v := 2) C dX4_base_53 rfl ?_
      refine g_idiv C dX4_base_54 (by decide) ?_
      refine g_goto 79 C dX4_base_55 rfl ?_
      exact g_iret C R (Nat.le_refl _) (Nat.le_refl _) dX4_base_79 (fun H h => ⟨by simp only [baseF, if_pos c13, if_neg c47], h⟩)
set_option maxRecDepth 100000 in
theorem ct_baseTolerance {l : Launch} {Γ : Gm} {A : Nat → Prop} {ρ : State → Prop} (B : Bs l A ρ) {o : Nat} {ad : Nat → Nat} {F : Nat → Int32} {X : Nat → Nat → Int32} {nt ns nm ne nv nu ln : Nat} (J : Iv F X nt ns nm ne nv nu ln) (scale load : Int32) : CtM l Γ A ρ yX4_baseTolerance cX4_baseTolerance 3 (some .int) 2 46 o ad [.ref o, .int scale, .int load] F X (some (.int (btR X ns scale load))) (upd F 0 (btT X ns scale load)) X := by
  refine Ct.of B.1 B.2 (by decide) [some (.ref o), some (.int scale), some (.int load)] (Nat.le_of_ble_eq_true rfl) rfl ?_
  intro E hE C R
  subst hE
  have hs_ := J.ls
  by_cases c0 : ixI scale ns = 0
  · refine g_aload_n C dX4_baseTolerance_0 rfl rfl ?_
    refine g_aload_n C dX4_baseTolerance_1 rfl rfl ?_
    refine g_iload_n C dX4_baseTolerance_2 rfl rfl ?_
    refine g_mcall (rest := [.ref o]) 1 C (ct_isScale (F := F) (X := X) B J _) (lw_V q1894 q1896 qs59 q107 q1897) (by decide +kernel) ⟨Nat.le_of_ble_eq_true rfl, Nat.le_of_ble_eq_true rfl⟩ ⟨Nat.le_of_ble_eq_true rfl, Nat.le_of_ble_eq_true rfl⟩ rfl rfl (Nat.le_of_ble_eq_true rfl) dX4_baseTolerance_3 ?_
    refine g_topi (y := 0) (c0) ?_
    refine g_if_ne 13 C dX4_baseTolerance_6 rfl (fun c6 => ?_) (fun c6 => ?_)
    · exact absurd c6 (by decide)
    · refine g_iconst (v := 1) C dX4_baseTolerance_9 rfl ?_
      refine g_goto 34 C dX4_baseTolerance_10 rfl ?_
      refine mp_0 C dX4_baseTolerance_34 ?_
      refine g_aload_n C dX4_baseTolerance_37 rfl rfl ?_
      refine mg_0 C dX4_baseTolerance_38 ?_
      refine g_topi (y := 1) rfl ?_
      refine g_if_le 48 C dX4_baseTolerance_41 rfl (fun c41 => ?_) (fun c41 => ?_)
      · exact absurd c41 (by decide)
      · refine g_iconst (v := 0) C dX4_baseTolerance_44 rfl ?_
        refine g_goto 54 C dX4_baseTolerance_45 rfl ?_
        exact g_iret C R (Nat.le_refl _) (Nat.le_refl _) dX4_baseTolerance_54 (fun H h => ⟨by simp only [btR, btT, c0, ↓reduceIte]; rfl, by rw [show btT X ns scale load = 1 by simp only [btT, c0, ↓reduceIte]]; exact h⟩)
  · obtain ⟨j, hj, rfl⟩ := ixI_in (by omega) c0
    have c1 := ixI_nI hj (show ns < 2 ^ 31 by omega)
    have ej : (nI j).toNatClampNeg = j := nI_clamp (by omega)
    refine g_aload_n C dX4_baseTolerance_0 rfl rfl ?_
    refine g_aload_n C dX4_baseTolerance_1 rfl rfl ?_
    refine g_iload_n C dX4_baseTolerance_2 rfl rfl ?_
    refine g_mcall (rest := [.ref o]) 1 C (ct_isScale (F := F) (X := X) B J _) (lw_V q1894 q1896 qs59 q107 q1897) (by decide +kernel) ⟨Nat.le_of_ble_eq_true rfl, Nat.le_of_ble_eq_true rfl⟩ ⟨Nat.le_of_ble_eq_true rfl, Nat.le_of_ble_eq_true rfl⟩ rfl rfl (Nat.le_of_ble_eq_true rfl) dX4_baseTolerance_3 ?_
    refine g_topi (y := 1) (c1) ?_
    refine g_if_ne 13 C dX4_baseTolerance_6 rfl (fun c6 => ?_) (fun c6 => ?_)
    · refine g_iload_n C dX4_baseTolerance_13 rfl rfl ?_
      refine g_i2l C dX4_baseTolerance_14 ?_
      refine g_lconst (v := 0) C dX4_baseTolerance_15 rfl ?_
      refine g_aload_n C dX4_baseTolerance_16 rfl rfl ?_
      refine mg_7 C dX4_baseTolerance_17 ?_
      refine g_iload_n C dX4_baseTolerance_20 rfl rfl ?_
      refine ml_7 (i := j) C dX4_baseTolerance_21 (by omega) ?_
      refine g_i2l C dX4_baseTolerance_22 ?_
      refine g_pcall (rest := [.ref o]) 3 C (ct_within B _ _ _) (lw_S q1783 q1784 q107 q1785) ⟨by decide, by decide, by decide +kernel⟩ ⟨Nat.le_of_ble_eq_true rfl, Nat.le_of_ble_eq_true rfl⟩ ⟨Nat.le_of_ble_eq_true rfl, Nat.le_of_ble_eq_true rfl⟩ rfl rfl (Nat.le_of_ble_eq_true rfl) dX4_baseTolerance_23 ?_
      refine g_topi (y := rnI load 0 (X 7 j)) (wi_rn load 0 (X 7 j)) ?_
      refine g_if_ne 33 C dX4_baseTolerance_26 rfl (fun c26 => ?_) (fun c26 => ?_)
      · refine g_iconst (v := 0) C dX4_baseTolerance_33 rfl ?_
        refine mp_0 C dX4_baseTolerance_34 ?_
        refine g_aload_n C dX4_baseTolerance_37 rfl rfl ?_
        refine mg_0 C dX4_baseTolerance_38 ?_
        refine g_topi (y := 0) rfl ?_
        refine g_if_le 48 C dX4_baseTolerance_41 rfl (fun c41 => ?_) (fun c41 => ?_)
        · refine g_aload_n C dX4_baseTolerance_48 rfl rfl ?_
          refine g_iload_n C dX4_baseTolerance_49 rfl rfl ?_
          refine g_iload_n C dX4_baseTolerance_50 rfl rfl ?_
          refine g_mcall (rest := []) 2 C (ct_base (F := upd F 0 0) (X := X) B J j (by assumption) _) (lw_V q1906 q1908 qs60 q107 q1909) (by decide +kernel) ⟨Nat.le_of_ble_eq_true rfl, Nat.le_of_ble_eq_true rfl⟩ ⟨Nat.le_of_ble_eq_true rfl, Nat.le_of_ble_eq_true rfl⟩ rfl rfl (Nat.le_of_ble_eq_true rfl) dX4_baseTolerance_51 ?_
          exact g_iret C R (Nat.le_refl _) (Nat.le_refl _) dX4_baseTolerance_54 (fun H h => ⟨by simp only [btR, btT, c1, ej, c26, ↓reduceIte]; rfl, by rw [show btT X ns (nI j) load = 0 by simp only [btT, c1, ej, c26, ↓reduceIte]; rfl]; exact h⟩)
        · exact absurd c41 (by decide)
      · refine g_iconst (v := 2) C dX4_baseTolerance_29 rfl ?_
        refine g_goto 34 C dX4_baseTolerance_30 rfl ?_
        refine mp_0 C dX4_baseTolerance_34 ?_
        refine g_aload_n C dX4_baseTolerance_37 rfl rfl ?_
        refine mg_0 C dX4_baseTolerance_38 ?_
        refine g_topi (y := 2) rfl ?_
        refine g_if_le 48 C dX4_baseTolerance_41 rfl (fun c41 => ?_) (fun c41 => ?_)
        · exact absurd c41 (by decide)
        · refine g_iconst (v := 0) C dX4_baseTolerance_44 rfl ?_
          refine g_goto 54 C dX4_baseTolerance_45 rfl ?_
          exact g_iret C R (Nat.le_refl _) (Nat.le_refl _) dX4_baseTolerance_54 (fun H h => ⟨by simp only [btR, btT, c1, ej, c26, ↓reduceIte]; rfl, by rw [show btT X ns (nI j) load = 2 by simp only [btT, c1, ej, c26, ↓reduceIte]; rfl]; exact h⟩)
    · exact absurd c6 (by decide)
set_option maxRecDepth 100000 in
theorem ct_fewestMasses {l : Launch} {Γ : Gm} {A : Nat → Prop} {ρ : State → Prop} (B : Bs l A ρ) {o : Nat} {ad : Nat → Nat} {F : Nat → Int32} {X : Nat → Nat → Int32} {nt ns nm ne nv nu ln : Nat} (J : Iv F X nt ns nm ne nv nu ln) (load : Int32) : CtM l Γ A ρ yX4_fewestMasses cX4_fewestMasses 4 (some .int) 1 23 o ad [.ref o, .int load] F X (some (.int (fmI (X 9) load nm))) (upd F 0 0) X := by
  refine Ct.of B.1 B.2 (by decide) [some (.ref o), some (.int load), none, none] (Nat.le_of_ble_eq_true rfl) rfl ?_
  intro E hE C R
  subst hE
  have hm_ := J.lm
  have hp_ := pow10 hm_
  have hb_ : ∀ x : Int32, pcI x < 2 ^ 31 := fun x => Nat.lt_of_le_of_lt (pcI_le x) (by decide)
  refine g_aload_n C dX4_fewestMasses_0 rfl rfl ?_
  refine g_iconst (v := 0) C dX4_fewestMasses_1 rfl ?_
  refine mp_0 C dX4_fewestMasses_2 ?_
  refine g_iload_n C dX4_fewestMasses_5 rfl rfl ?_
  refine g_if_ge 11 C dX4_fewestMasses_6 rfl (fun c6 => ?_) (fun c6 => ?_)
  · refine g_bipush (v := (-2)) C dX4_fewestMasses_11 rfl ?_
    refine g_istore_n (lv' := [some (.ref o), some (.int load), some (.int (-2)), none]) C dX4_fewestMasses_13 rfl (by decide) rfl ?_
    refine g_iconst (v := 0) C dX4_fewestMasses_14 rfl ?_
    refine g_istore_n (lv' := [some (.ref o), some (.int load), some (.int (-2)), some (.int 0)]) C dX4_fewestMasses_15 rfl (by decide) rfl ?_
    refine g_for (P := fun k => G E (RepM Γ A o ad (upd F 0 0) X) 0 0 16 [some (.ref o), some (.int load), some (.int (fmN (X 9) load nm k)), some (.int (nI k))] []) (2 ^ nm) ?_ ?_ 0 (Nat.zero_le _)
    · refine g_iload_n C dX4_fewestMasses_16 rfl rfl ?_
      refine g_iconst (v := 1) C dX4_fewestMasses_17 rfl ?_
      refine g_aload_n C dX4_fewestMasses_18 rfl rfl ?_
      refine mg_8 C dX4_fewestMasses_19 ?_
      refine g_topi (y := nI nm) (J.f8) ?_
      refine g_ishl C dX4_fewestMasses_22 ?_
      refine g_topi (y := nI (2 ^ nm)) (shl1 (by omega)) ?_
      refine gN_ge (a := (2 ^ nm)) (b := 2 ^ nm) 60 C dX4_fewestMasses_23 rfl (by first | omega | exact hb_ _) (by first | omega | exact hb_ _) (fun c23 => ?_) (fun c23 => ?_)
      · refine g_iload_n C dX4_fewestMasses_60 rfl rfl ?_
        exact g_iret C R (Nat.le_refl _) (Nat.le_refl _) dX4_fewestMasses_61 (fun H h => ⟨by simp only [fmI, c6, ↓reduceIte], h⟩)
      · exfalso; omega
    · intro k hk ih
      replace ih : G E (RepM Γ A o ad (upd F 0 0) X) 0 0 16 [some (.ref o), some (.int load), some (.int (fmN (X 9) load nm (k + 1))), some (.int (nI (k + 1)))] [] := ih
      refine g_iload_n C dX4_fewestMasses_16 rfl rfl ?_
      refine g_iconst (v := 1) C dX4_fewestMasses_17 rfl ?_
      refine g_aload_n C dX4_fewestMasses_18 rfl rfl ?_
      refine mg_8 C dX4_fewestMasses_19 ?_
      refine g_topi (y := nI nm) (J.f8) ?_
      refine g_ishl C dX4_fewestMasses_22 ?_
      refine g_topi (y := nI (2 ^ nm)) (shl1 (by omega)) ?_
      refine gN_ge (a := k) (b := 2 ^ nm) 60 C dX4_fewestMasses_23 rfl (by first | omega | exact hb_ _) (by first | omega | exact hb_ _) (fun c23 => ?_) (fun c23 => ?_)
      · exfalso; omega
      · refine g_aload_n C dX4_fewestMasses_26 rfl rfl ?_
        refine g_iload_n C dX4_fewestMasses_27 rfl rfl ?_
        refine g_mcall (rest := []) 1 C (ct_sumOf (F := upd F 0 0) (X := X) B J _) (lw_V q1918 q1920 qs61 q107 q1921) (by decide +kernel) ⟨Nat.le_of_ble_eq_true rfl, Nat.le_of_ble_eq_true rfl⟩ ⟨Nat.le_of_ble_eq_true rfl, Nat.le_of_ble_eq_true rfl⟩ rfl rfl (Nat.le_of_ble_eq_true rfl) dX4_fewestMasses_28 ?_
        refine g_iload_n C dX4_fewestMasses_31 rfl rfl ?_
        refine g_icmp_ne 54 C dX4_fewestMasses_32 rfl (fun c32 => ?_) (fun c32 => ?_)
        · refine g_inc1 (x := k) (lv' := [some (.ref o), some (.int load), some (.int (fmN (X 9) load nm k)), some (.int (nI (k + 1)))]) C dX4_fewestMasses_54 rfl (by decide) rfl ?_
          refine g_goto 16 C dX4_fewestMasses_57 rfl ?_
          rw [show fmN (X 9) load nm (k + 1) = fmN (X 9) load nm k from by simp only [fmN, c32, ↓reduceIte]] at ih
          exact ih
        · refine g_iload_n C dX4_fewestMasses_35 rfl rfl ?_
          refine g_bipush (v := (-2)) C dX4_fewestMasses_36 rfl ?_
          refine g_icmp_eq 52 C dX4_fewestMasses_38 rfl (fun c38 => ?_) (fun c38 => ?_)
          · refine g_iload_n C dX4_fewestMasses_52 rfl rfl ?_
            refine g_istore_n (lv' := [some (.ref o), some (.int load), some (.int (nI k)), some (.int (nI k))]) C dX4_fewestMasses_53 rfl (by decide) rfl ?_
            refine g_inc1 (x := k) (lv' := [some (.ref o), some (.int load), some (.int (nI k)), some (.int (nI (k + 1)))]) C dX4_fewestMasses_54 rfl (by decide) rfl ?_
            refine g_goto 16 C dX4_fewestMasses_57 rfl ?_
            rw [show fmN (X 9) load nm (k + 1) = nI k from by simp only [fmN, c32, c38, ↓reduceIte]] at ih
            exact ih
          · refine g_iload_n C dX4_fewestMasses_41 rfl rfl ?_
            refine g_pcall (rest := []) 1 C (ct_bits B _) (lw_S q1922 q1923 q107 q1924) ⟨by decide, by decide, by decide +kernel⟩ ⟨Nat.le_of_ble_eq_true rfl, Nat.le_of_ble_eq_true rfl⟩ ⟨Nat.le_of_ble_eq_true rfl, Nat.le_of_ble_eq_true rfl⟩ rfl rfl (Nat.le_of_ble_eq_true rfl) dX4_fewestMasses_42 ?_
            refine g_iload_n C dX4_fewestMasses_45 rfl rfl ?_
            refine g_pcall (rest := [.int (nI (pcI (nI k)))]) 1 C (ct_bits B _) (lw_S q1922 q1923 q107 q1924) ⟨by decide, by decide, by decide +kernel⟩ ⟨Nat.le_of_ble_eq_true rfl, Nat.le_of_ble_eq_true rfl⟩ ⟨Nat.le_of_ble_eq_true rfl, Nat.le_of_ble_eq_true rfl⟩ rfl rfl (Nat.le_of_ble_eq_true rfl) dX4_fewestMasses_46 ?_
            refine gN_ge (a := pcI (nI k)) (b := pcI (fmN (X 9) load nm k)) 54 C dX4_fewestMasses_49 rfl (by first | omega | exact hb_ _) (by first | omega | exact hb_ _) (fun c49 => ?_) (fun c49 => ?_)
            · refine g_inc1 (x := k) (lv' := [some (.ref o), some (.int load), some (.int (fmN (X 9) load nm k)), some (.int (nI (k + 1)))]) C dX4_fewestMasses_54 rfl (by decide) rfl ?_
              refine g_goto 16 C dX4_fewestMasses_57 rfl ?_
              rw [show fmN (X 9) load nm (k + 1) = fmN (X 9) load nm k from by simp only [fmN, c32, c38, c49, ↓reduceIte]] at ih
              exact ih
            · refine g_iload_n C dX4_fewestMasses_52 rfl rfl ?_
              refine g_istore_n (lv' := [some (.ref o), some (.int load), some (.int (nI k)), some (.int (nI k))]) C dX4_fewestMasses_53 rfl (by decide) rfl ?_
              refine g_inc1 (x := k) (lv' := [some (.ref o), some (.int load), some (.int (nI k)), some (.int (nI (k + 1)))]) C dX4_fewestMasses_54 rfl (by decide) rfl ?_
              refine g_goto 16 C dX4_fewestMasses_57 rfl ?_
              rw [show fmN (X 9) load nm (k + 1) = nI k from by simp only [fmN, c32, c38, Nat.not_le.mpr c49, ↓reduceIte]] at ih
              exact ih
  · refine g_iconst (v := (-1)) C dX4_fewestMasses_9 rfl ?_
    exact g_iret C R (Nat.le_refl _) (Nat.le_refl _) dX4_fewestMasses_10 (fun H h => ⟨by simp only [fmI, c6, ↓reduceIte], h⟩)
set_option maxRecDepth 100000 in
theorem ct_closestLoad {l : Launch} {Γ : Gm} {A : Nat → Prop} {ρ : State → Prop} (B : Bs l A ρ) {o : Nat} {ad : Nat → Nat} {F : Nat → Int32} {X : Nat → Nat → Int32} {nt ns nm ne nv nu ln : Nat} (J : Iv F X nt ns nm ne nv nu ln) (load : Int32) : CtM l Γ A ρ yX4_closestLoad cX4_closestLoad 5 (some .int) 1 23 o ad [.ref o, .int load] F X (some (.int (clI (X 9) load nm))) (upd F 0 0) X := by
  refine Ct.of B.1 B.2 (by decide) [some (.ref o), some (.int load), none, none, none] (Nat.le_of_ble_eq_true rfl) rfl ?_
  intro E hE C R
  subst hE
  have hm_ := J.lm
  have hp_ := pow10 hm_
  refine g_aload_n C dX4_closestLoad_0 rfl rfl ?_
  refine g_iconst (v := 0) C dX4_closestLoad_1 rfl ?_
  refine mp_0 C dX4_closestLoad_2 ?_
  refine g_iload_n C dX4_closestLoad_5 rfl rfl ?_
  refine g_if_ge 11 C dX4_closestLoad_6 rfl (fun c6 => ?_) (fun c6 => ?_)
  · refine g_iconst (v := 0) C dX4_closestLoad_11 rfl ?_
    refine g_istore_n (lv' := [some (.ref o), some (.int load), some (.int 0), none, none]) C dX4_closestLoad_12 rfl (by decide) rfl ?_
    refine g_iconst (v := 0) C dX4_closestLoad_13 rfl ?_
    refine g_istore_n (lv' := [some (.ref o), some (.int load), some (.int 0), some (.int 0), none]) C dX4_closestLoad_14 rfl (by decide) rfl ?_
    refine g_for (P := fun k => G E (RepM Γ A o ad (upd F 0 0) X) 0 0 15 [some (.ref o), some (.int load), some (.int (clN (X 9) load nm k)), some (.int (nI k)), none] []) (2 ^ nm) ?_ ?_ 0 (Nat.zero_le _)
    · refine g_iload_n C dX4_closestLoad_15 rfl rfl ?_
      refine g_iconst (v := 1) C dX4_closestLoad_16 rfl ?_
      refine g_aload_n C dX4_closestLoad_17 rfl rfl ?_
      refine mg_8 C dX4_closestLoad_18 ?_
      refine g_topi (y := nI nm) (J.f8) ?_
      refine g_ishl C dX4_closestLoad_21 ?_
      refine g_topi (y := nI (2 ^ nm)) (shl1 (by omega)) ?_
      refine gN_ge (a := (2 ^ nm)) (b := 2 ^ nm) 57 C dX4_closestLoad_22 rfl (by omega) (by omega) (fun c22 => ?_) (fun c22 => ?_)
      · refine g_iload_n C dX4_closestLoad_57 rfl rfl ?_
        exact g_iret C R (Nat.le_refl _) (Nat.le_refl _) dX4_closestLoad_58 (fun H h => ⟨by simp only [clI, c6, ↓reduceIte], h⟩)
      · exfalso; omega
    · intro k hk ih
      replace ih : G E (RepM Γ A o ad (upd F 0 0) X) 0 0 15 [some (.ref o), some (.int load), some (.int (clN (X 9) load nm (k + 1))), some (.int (nI (k + 1))), none] [] := ih
      refine g_iload_n C dX4_closestLoad_15 rfl rfl ?_
      refine g_iconst (v := 1) C dX4_closestLoad_16 rfl ?_
      refine g_aload_n C dX4_closestLoad_17 rfl rfl ?_
      refine mg_8 C dX4_closestLoad_18 ?_
      refine g_topi (y := nI nm) (J.f8) ?_
      refine g_ishl C dX4_closestLoad_21 ?_
      refine g_topi (y := nI (2 ^ nm)) (shl1 (by omega)) ?_
      refine gN_ge (a := k) (b := 2 ^ nm) 57 C dX4_closestLoad_22 rfl (by omega) (by omega) (fun c22 => ?_) (fun c22 => ?_)
      · exfalso; omega
      · refine g_aload_n C dX4_closestLoad_25 rfl rfl ?_
        refine g_iload_n C dX4_closestLoad_26 rfl rfl ?_
        refine g_mcall (rest := []) 1 C (ct_sumOf (F := upd F 0 0) (X := X) B J _) (lw_V q1918 q1920 qs61 q107 q1921) (by decide +kernel) ⟨Nat.le_of_ble_eq_true rfl, Nat.le_of_ble_eq_true rfl⟩ ⟨Nat.le_of_ble_eq_true rfl, Nat.le_of_ble_eq_true rfl⟩ rfl rfl (Nat.le_of_ble_eq_true rfl) dX4_closestLoad_27 ?_
        refine g_istore (lv' := [some (.ref o), some (.int load), some (.int (clN (X 9) load nm k)), some (.int (nI k)), some (.int (loadN (X 9) (nI k) nm))]) C dX4_closestLoad_30 (by decide) rfl ?_
        refine g_iload C dX4_closestLoad_32 rfl ?_
        refine g_iload_n C dX4_closestLoad_34 rfl rfl ?_
        refine g_icmp_gt 49 C dX4_closestLoad_35 rfl (fun c35 => ?_) (fun c35 => ?_)
        · refine g_iload_n C dX4_closestLoad_49 rfl rfl ?_
          refine g_topi (y := clN (X 9) load nm (k + 1)) (by simp only [clN, c35, ↓reduceIte]) ?_
          refine g_istore_n (lv' := [some (.ref o), some (.int load), some (.int (clN (X 9) load nm (k + 1))), some (.int (nI k)), some (.int (loadN (X 9) (nI k) nm))]) C dX4_closestLoad_50 rfl (by decide) rfl ?_
          refine g_inc1 (x := k) (lv' := [some (.ref o), some (.int load), some (.int (clN (X 9) load nm (k + 1))), some (.int (nI (k + 1))), some (.int (loadN (X 9) (nI k) nm))]) C dX4_closestLoad_51 rfl (by decide) rfl ?_
          refine g_goto 15 C dX4_closestLoad_54 rfl ?_
          exact g_lv (lv' := [some (.ref o), some (.int load), some (.int (clN (X 9) load nm (k + 1))), some (.int (nI (k + 1))), none]) (fun i v h => by match i, h with | 0, h => exact h | 1, h => exact h | 2, h => exact h | 3, h => exact h | 4, h => cases h) ih
        · refine g_iload C dX4_closestLoad_38 rfl ?_
          refine g_iload_n C dX4_closestLoad_40 rfl rfl ?_
          refine g_icmp_le 49 C dX4_closestLoad_41 rfl (fun c41 => ?_) (fun c41 => ?_)
          · refine g_iload_n C dX4_closestLoad_49 rfl rfl ?_
            refine g_topi (y := clN (X 9) load nm (k + 1)) (by simp only [clN, c35, c41, ↓reduceIte]) ?_
            refine g_istore_n (lv' := [some (.ref o), some (.int load), some (.int (clN (X 9) load nm (k + 1))), some (.int (nI k)), some (.int (loadN (X 9) (nI k) nm))]) C dX4_closestLoad_50 rfl (by decide) rfl ?_
            refine g_inc1 (x := k) (lv' := [some (.ref o), some (.int load), some (.int (clN (X 9) load nm (k + 1))), some (.int (nI (k + 1))), some (.int (loadN (X 9) (nI k) nm))]) C dX4_closestLoad_51 rfl (by decide) rfl ?_
            refine g_goto 15 C dX4_closestLoad_54 rfl ?_
            exact g_lv (lv' := [some (.ref o), some (.int load), some (.int (clN (X 9) load nm (k + 1))), some (.int (nI (k + 1))), none]) (fun i v h => by match i, h with | 0, h => exact h | 1, h => exact h | 2, h => exact h | 3, h => exact h | 4, h => cases h) ih
          · refine g_iload C dX4_closestLoad_44 rfl ?_
            refine g_goto 50 C dX4_closestLoad_46 rfl ?_
            refine g_topi (y := clN (X 9) load nm (k + 1)) (by simp only [clN, c35, c41, ↓reduceIte]) ?_
            refine g_istore_n (lv' := [some (.ref o), some (.int load), some (.int (clN (X 9) load nm (k + 1))), some (.int (nI k)), some (.int (loadN (X 9) (nI k) nm))]) C dX4_closestLoad_50 rfl (by decide) rfl ?_
            refine g_inc1 (x := k) (lv' := [some (.ref o), some (.int load), some (.int (clN (X 9) load nm (k + 1))), some (.int (nI (k + 1))), some (.int (loadN (X 9) (nI k) nm))]) C dX4_closestLoad_51 rfl (by decide) rfl ?_
            refine g_goto 15 C dX4_closestLoad_54 rfl ?_
            exact g_lv (lv' := [some (.ref o), some (.int load), some (.int (clN (X 9) load nm (k + 1))), some (.int (nI (k + 1))), none]) (fun i v h => by match i, h with | 0, h => exact h | 1, h => exact h | 2, h => exact h | 3, h => exact h | 4, h => cases h) ih
  · refine g_iconst (v := (-1)) C dX4_closestLoad_9 rfl ?_
    exact g_iret C R (Nat.le_refl _) (Nat.le_refl _) dX4_closestLoad_10 (fun H h => ⟨by simp only [clI, c6, ↓reduceIte], h⟩)
set_option maxRecDepth 100000 in
theorem ct_loadOf {l : Launch} {Γ : Gm} {A : Nat → Prop} {ρ : State → Prop} (B : Bs l A ρ) {o : Nat} {ad : Nat → Nat} {F : Nat → Int32} {X : Nat → Nat → Int32} {nt ns nm ne nv nu ln : Nat} (J : Iv F X nt ns nm ne nv nu ln) (v t : Nat) (hv : v < nv) (ht : t < 8) : CtM l Γ A ρ yX4_loadOf cX4_loadOf 3 (some .int) 1 23 o ad [.ref o, .int (nI v), .int (nI t)] F X (some (.int (ldT X nm v t))) F X := by
  refine Ct.of B.1 B.2 (by decide) [some (.ref o), some (.int (nI v)), some (.int (nI t))] (Nat.le_of_ble_eq_true rfl) rfl ?_
  intro E hE C R
  subst hE
  have hv_ := J.lv
  refine g_aload_n C dX4_loadOf_0 rfl rfl ?_
  refine g_aload_n C dX4_loadOf_1 rfl rfl ?_
  refine mg_1 C dX4_loadOf_2 ?_
  refine g_sipush (v := 181) C dX4_loadOf_5 rfl ?_
  refine g_bipush (v := 8) C dX4_loadOf_8 rfl ?_
  refine g_iload_n C dX4_loadOf_10 rfl rfl ?_
  refine g_imul C dX4_loadOf_11 ?_
  refine g_topi (y := nI (8 * v)) (pk_mul 8 v) ?_
  refine g_iadd C dX4_loadOf_12 ?_
  refine g_topi (y := nI (181 + 8 * v)) (nI_add 181 (8 * v)) ?_
  refine g_iload_n C dX4_loadOf_13 rfl rfl ?_
  refine g_iadd C dX4_loadOf_14 ?_
  refine g_topi (y := nI (181 + 8 * v + t)) (nI_add (181 + 8 * v) t) ?_
  refine ml_1 (i := 181 + 8 * v + t) C dX4_loadOf_15 (by omega) ?_
  refine g_mcall (rest := []) 1 C (ct_sumOf (F := F) (X := X) B J _) (lw_V q1918 q1920 qs61 q107 q1921) (by decide +kernel) ⟨Nat.le_of_ble_eq_true rfl, Nat.le_of_ble_eq_true rfl⟩ ⟨Nat.le_of_ble_eq_true rfl, Nat.le_of_ble_eq_true rfl⟩ rfl rfl (Nat.le_of_ble_eq_true rfl) dX4_loadOf_16 ?_
  exact g_iret C R (Nat.le_refl _) (Nat.le_refl _) dX4_loadOf_19 (fun H h => ⟨rfl, h⟩)
set_option maxRecDepth 100000 in
theorem ct_errorOf {l : Launch} {Γ : Gm} {A : Nat → Prop} {ρ : State → Prop} (B : Bs l A ρ) {o : Nat} {ad : Nat → Nat} {F : Nat → Int32} {X : Nat → Nat → Int32} {nt ns nm ne nv nu ln : Nat} (J : Iv F X nt ns nm ne nv nu ln) (v t : Nat) (hv : v < nv) (ht : t < 8) : CtM l Γ A ρ yX4_errorOf cX4_errorOf 3 (some .int) 2 45 o ad [.ref o, .int (nI v), .int (nI t)] F X (some (.int (erT X nm v t))) F X := by
  refine Ct.of B.1 B.2 (by decide) [some (.ref o), some (.int (nI v)), some (.int (nI t))] (Nat.le_of_ble_eq_true rfl) rfl ?_
  intro E hE C R
  subst hE
  have hv_ := J.lv
  refine g_aload_n C dX4_errorOf_0 rfl rfl ?_
  refine mg_1 C dX4_errorOf_1 ?_
  refine g_sipush (v := 421) C dX4_errorOf_4 rfl ?_
  refine g_bipush (v := 8) C dX4_errorOf_7 rfl ?_
  refine g_iload_n C dX4_errorOf_9 rfl rfl ?_
  refine g_imul C dX4_errorOf_10 ?_
  refine g_topi (y := nI (8 * v)) (pk_mul 8 v) ?_
  refine g_iadd C dX4_errorOf_11 ?_
  refine g_topi (y := nI (421 + 8 * v)) (nI_add 421 (8 * v)) ?_
  refine g_iload_n C dX4_errorOf_12 rfl rfl ?_
  refine g_iadd C dX4_errorOf_13 ?_
  refine g_topi (y := nI (421 + 8 * v + t)) (nI_add (421 + 8 * v) t) ?_
  refine ml_1 (i := 421 + 8 * v + t) C dX4_errorOf_14 (by omega) ?_
  refine g_aload_n C dX4_errorOf_15 rfl rfl ?_
  refine g_iload_n C dX4_errorOf_16 rfl rfl ?_
  refine g_iload_n C dX4_errorOf_17 rfl rfl ?_
  refine g_mcall (rest := [.int (X 1 (421 + 8 * v + t))]) 2 C (ct_loadOf (F := F) (X := X) B J v t (by omega) (by omega)) (lw_V q1976 q1978 qs65 q107 q1979) (by decide +kernel) ⟨Nat.le_of_ble_eq_true rfl, Nat.le_of_ble_eq_true rfl⟩ ⟨Nat.le_of_ble_eq_true rfl, Nat.le_of_ble_eq_true rfl⟩ rfl rfl (Nat.le_of_ble_eq_true rfl) dX4_errorOf_18 ?_
  refine g_isub C dX4_errorOf_21 ?_
  exact g_iret C R (Nat.le_refl _) (Nat.le_refl _) dX4_errorOf_22 (fun H h => ⟨rfl, h⟩)
set_option maxRecDepth 100000 in
theorem ct_toleranceOf {l : Launch} {Γ : Gm} {A : Nat → Prop} {ρ : State → Prop} (B : Bs l A ρ) {o : Nat} {ad : Nat → Nat} {F : Nat → Int32} {X : Nat → Nat → Int32} {nt ns nm ne nv nu ln : Nat} (J : Iv F X nt ns nm ne nv nu ln) (v t : Nat) (hv : v < nv) (ht : t < 8) : CtM l Γ A ρ yX4_toleranceOf cX4_toleranceOf 3 (some .int) 2 45 o ad [.ref o, .int (nI v), .int (nI t)] F X (some (.int (toT X nm v t))) F X := by
  refine Ct.of B.1 B.2 (by decide) [some (.ref o), some (.int (nI v)), some (.int (nI t))] (Nat.le_of_ble_eq_true rfl) rfl ?_
  intro E hE C R
  subst hE
  have hv_ := J.lv
  have hs_ := J.ls
  obtain ⟨⟨sc, hsc, esc⟩, ⟨dy, hdy, edy⟩, hcl_, ⟨vd, hvd, evd⟩, hsv, ⟨tn, htn, etn, hts⟩⟩ := J.vi hv
  refine g_aload_n C dX4_toleranceOf_0 rfl rfl ?_
  refine g_aload_n C dX4_toleranceOf_1 rfl rfl ?_
  refine mg_1 C dX4_toleranceOf_2 ?_
  refine g_iconst (v := 1) C dX4_toleranceOf_5 rfl ?_
  refine g_iload_n C dX4_toleranceOf_6 rfl rfl ?_
  refine g_iadd C dX4_toleranceOf_7 ?_
  refine g_topi (y := nI (1 + v)) (nI_add 1 v) ?_
  refine ml_1 (i := 1 + v) C dX4_toleranceOf_8 (by omega) ?_
  refine g_topi (y := nI sc) (esc) ?_
  refine g_aload_n C dX4_toleranceOf_9 rfl rfl ?_
  refine g_iload_n C dX4_toleranceOf_10 rfl rfl ?_
  refine g_iload_n C dX4_toleranceOf_11 rfl rfl ?_
  refine g_mcall (rest := [.int (nI sc), .ref o]) 2 C (ct_loadOf (F := F) (X := X) B J v t (by omega) (by omega)) (lw_V q1976 q1978 qs65 q107 q1979) (by decide +kernel) ⟨Nat.le_of_ble_eq_true rfl, Nat.le_of_ble_eq_true rfl⟩ ⟨Nat.le_of_ble_eq_true rfl, Nat.le_of_ble_eq_true rfl⟩ rfl rfl (Nat.le_of_ble_eq_true rfl) dX4_toleranceOf_12 ?_
  refine g_mcall (rest := []) 2 C (ct_base (F := F) (X := X) B J sc (by assumption) _) (lw_V q1906 q1908 qs60 q107 q1909) (by decide +kernel) ⟨Nat.le_of_ble_eq_true rfl, Nat.le_of_ble_eq_true rfl⟩ ⟨Nat.le_of_ble_eq_true rfl, Nat.le_of_ble_eq_true rfl⟩ rfl rfl (Nat.le_of_ble_eq_true rfl) dX4_toleranceOf_15 ?_
  refine g_iconst (v := 1) C dX4_toleranceOf_18 rfl ?_
  refine g_aload_n C dX4_toleranceOf_19 rfl rfl ?_
  refine mg_1 C dX4_toleranceOf_20 ?_
  refine g_bipush (v := 121) C dX4_toleranceOf_23 rfl ?_
  refine g_iload_n C dX4_toleranceOf_25 rfl rfl ?_
  refine g_iadd C dX4_toleranceOf_26 ?_
  refine g_topi (y := nI (121 + v)) (nI_add 121 v) ?_
  refine ml_1 (i := 121 + v) C dX4_toleranceOf_27 (by omega) ?_
  refine g_iadd C dX4_toleranceOf_28 ?_
  refine g_imul C dX4_toleranceOf_29 ?_
  exact g_iret C R (Nat.le_refl _) (Nat.le_refl _) dX4_toleranceOf_30 (fun H h => ⟨by rw [toT, esc, nI_clamp (by omega)], h⟩)
