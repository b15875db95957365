set_option maxHeartbeats 1000000 in
set_option maxRecDepth 100000 in
theorem ct_copies {l : Launch} {Γ : Gm} {A : Nat → Prop} {ρ : State → Prop} (B : Bs l A ρ) {o : Nat} {ad : Nat → Nat} {F : Nat → Int32} {X : Nat → Nat → Int32} {j k pj pk : Nat} (hj : mIdx[pj]? = some j) (hk_ : mIdx[pk]? = some k) (tj : mTy j = 0) (tk : mTy k = 0) (sp dp n : Nat) (hs : sp + n ≤ mLen j) (hd : dp + n ≤ mLen k) (hl : mLen j ≤ 10000) (hl2 : mLen k ≤ 10000) (hjk : j ≠ k ∨ dp ≤ sp) : CtM l Γ A ρ yX4_copies cX4_copies 6 none 0 0 o ad [.ref (ad j), .int (nI sp), .ref (ad k), .int (nI dp), .int (nI n)] F X none F (setX X k (cpN (X j) (X k) sp dp n)) := by
  refine Ct.of B.1 B.2 (by decide) [some (.ref (ad j)), some (.int (nI sp)), some (.ref (ad k)), some (.int (nI dp)), some (.int (nI n)), none] (Nat.le_of_ble_eq_true rfl) rfl ?_
  intro E hE C R
  subst hE
  refine g_iconst (v := 0) C dX4_copies_0 rfl ?_
  refine g_istore (lv' := [some (.ref (ad j)), some (.int (nI sp)), some (.ref (ad k)), some (.int (nI dp)), some (.int (nI n)), some (.int 0)]) C dX4_copies_1 (by decide) rfl ?_
  refine g_eqI (J := RepM Γ A o ad F (setX X k (cpN (X j) (X k) sp dp 0))) (congrArg (RepM Γ A o ad _) (setX_id X k).symm) ?_
  refine g_for (P := fun i => G E (RepM Γ A o ad F (setX X k (cpN (X j) (X k) sp dp i))) 0 0 3 [some (.ref (ad j)), some (.int (nI sp)), some (.ref (ad k)), some (.int (nI dp)), some (.int (nI n)), some (.int (nI i))] []) n ?_ ?_ 0 (Nat.zero_le _)
  · refine g_iload C dX4_copies_3 rfl ?_
    refine g_iload C dX4_copies_5 rfl ?_
    refine gN_ge (a := n) (b := n) 28 C dX4_copies_7 rfl (by omega) (by omega) (fun c7 => ?_) (fun c7 => ?_)
    · exact g_vret C R (Nat.le_refl _) (Nat.le_refl _) dX4_copies_28 (fun H h => ⟨rfl, h⟩)
    · exfalso; omega
  · intro i hi ih
    replace ih : G E (RepM Γ A o ad F (setX X k (cpN (X j) (X k) sp dp (i + 1)))) 0 0 3 [some (.ref (ad j)), some (.int (nI sp)), some (.ref (ad k)), some (.int (nI dp)), some (.int (nI n)), some (.int (nI (i + 1)))] [] := ih
    refine g_iload C dX4_copies_3 rfl ?_
    refine g_iload C dX4_copies_5 rfl ?_
    refine gN_ge (a := i) (b := n) 28 C dX4_copies_7 rfl (by omega) (by omega) (fun c7 => ?_) (fun c7 => ?_)
    · exfalso; omega
    · refine g_aload_n C dX4_copies_10 rfl rfl ?_
      refine g_iload_n C dX4_copies_11 rfl rfl ?_
      refine g_iload C dX4_copies_12 rfl ?_
      refine g_iadd C dX4_copies_14 ?_
      refine g_topi (y := nI (dp + i)) (nI_add dp i) ?_
      refine g_aload_n C dX4_copies_15 rfl rfl ?_
      refine g_iload_n C dX4_copies_16 rfl rfl ?_
      refine g_iload C dX4_copies_17 rfl ?_
      refine g_iadd C dX4_copies_19 ?_
      refine g_topi (y := nI (sp + i)) (nI_add sp i) ?_
      refine m_ldI (p := pj) j hj tj (i := sp + i) (by omega) (by omega) C dX4_copies_20 ?_
      refine g_topi (y := X j (sp + i)) (rdcp hjk) ?_
      refine m_stI (p := pk) k hk_ tk (i := dp + i) (by omega) (by omega) C dX4_copies_21 ?_
      refine g_eqI (J := RepM Γ A o ad F (setX X k (cpN (X j) (X k) sp dp (i + 1)))) (congrArg (RepM Γ A o ad _) (by rw [setX_self, setX_setX]; rfl)) ?_
      refine g_inc1 (x := i) (lv' := [some (.ref (ad j)), some (.int (nI sp)), some (.ref (ad k)), some (.int (nI dp)), some (.int (nI n)), some (.int (nI (i + 1)))]) C dX4_copies_22 rfl (by decide) rfl ?_
      refine g_goto 3 C dX4_copies_25 rfl ?_
      exact ih
set_option maxRecDepth 100000 in
theorem ct_keeps {l : Launch} {Γ : Gm} {A : Nat → Prop} {ρ : State → Prop} (B : Bs l A ρ) {o : Nat} {ad : Nat → Nat} {F : Nat → Int32} {X : Nat → Nat → Int32} {nt ns nm ne nv nu ln : Nat} (J : Iv F X nt ns nm ne nv nu ln) : CtM l Γ A ρ yX4_keeps cX4_keeps 1 none 1 25 o ad [.ref o] F X none (upd F 41 (nI (kpN nu))) (setX X 42 (kpA X nu)) := by
  refine Ct.of B.1 B.2 (by decide) [some (.ref o)] (Nat.le_of_ble_eq_true rfl) rfl ?_
  intro E hE C R
  subst hE
  have hu_ := J.lu
  by_cases c0 : nu = 12
  · refine g_aload_n C dX4_keeps_0 rfl rfl ?_
    refine mg_41 C dX4_keeps_1 ?_
    refine g_topi (y := 12) (by rw [J.f41, c0]; rfl) ?_
    refine g_bipush (v := 12) C dX4_keeps_4 rfl ?_
    refine g_icmp_ne 42 C dX4_keeps_6 rfl (fun c6 => ?_) (fun c6 => ?_)
    · exact absurd c6 (by decide)
    · refine g_aload_n C dX4_keeps_9 rfl rfl ?_
      refine g_dup C dX4_keeps_10 rfl ?_
      refine mg_41 C dX4_keeps_11 ?_
      refine g_topi (y := 12) (by rw [J.f41, c0]; rfl) ?_
      refine g_iconst (v := 1) C dX4_keeps_14 rfl ?_
      refine g_isub C dX4_keeps_15 ?_
      refine g_topi (y := 11) (rfl) ?_
      refine mp_41 C dX4_keeps_16 ?_
      refine g_aload_n C dX4_keeps_19 rfl rfl ?_
      refine mg_42 C dX4_keeps_20 ?_
      refine g_sipush (v := 677) C dX4_keeps_23 rfl ?_
      refine g_aload_n C dX4_keeps_26 rfl rfl ?_
      refine mg_42 C dX4_keeps_27 ?_
      refine g_iconst (v := 0) C dX4_keeps_30 rfl ?_
      refine g_sipush (v := 677) C dX4_keeps_31 rfl ?_
      refine g_aload_n C dX4_keeps_34 rfl rfl ?_
      refine mg_41 C dX4_keeps_35 ?_
      refine g_topi (y := 11) rfl ?_
      refine g_imul C dX4_keeps_38 ?_
      refine g_topi (y := nI (677 * 11)) (pk_mul 677 11) ?_
      refine g_mcallSv (rest := []) 5 C (ct_copies (F := upd F 41 11) (X := X) B (j := 42) (k := 42) (pj := 22) (pk := 22) rfl rfl rfl rfl 677 0 (677 * 11) (by simp only [mLen]; omega) (by simp only [mLen]; omega) (by simp only [mLen]; omega) (by simp only [mLen]; omega) (Or.inr (by omega))) (lw_S q1867 q1868 q107 q1869) (by decide +kernel) ⟨Nat.le_of_ble_eq_true rfl, Nat.le_of_ble_eq_true rfl⟩ ⟨Nat.le_of_ble_eq_true rfl, Nat.le_of_ble_eq_true rfl⟩ rfl rfl (Nat.le_of_ble_eq_true rfl) dX4_keeps_39 ?_
      refine g_aload_n C dX4_keeps_42 rfl rfl ?_
      refine mg_1 C dX4_keeps_43 ?_
      refine g_iconst (v := 0) C dX4_keeps_46 rfl ?_
      refine g_aload_n C dX4_keeps_47 rfl rfl ?_
      refine mg_42 C dX4_keeps_48 ?_
      refine g_sipush (v := 677) C dX4_keeps_51 rfl ?_
      refine g_aload_n C dX4_keeps_54 rfl rfl ?_
      refine mg_41 C dX4_keeps_55 ?_
      refine g_topi (y := 11) rfl ?_
      refine g_imul C dX4_keeps_58 ?_
      refine g_topi (y := nI (677 * 11)) (pk_mul 677 11) ?_
      refine g_sipush (v := 677) C dX4_keeps_59 rfl ?_
      refine g_mcallSv (rest := []) 5 C (ct_copies (F := upd F 41 11) (X := setX X 42 (cpN (X 42) (X 42) 677 0 (677 * 11))) B (j := 1) (k := 42) (pj := 0) (pk := 22) rfl rfl rfl rfl 0 (677 * 11) 677 (by simp only [mLen]; omega) (by simp only [mLen]; omega) (by simp only [mLen]; omega) (by simp only [mLen]; omega) (Or.inl (by decide))) (lw_S q1867 q1868 q107 q1869) (by decide +kernel) ⟨Nat.le_of_ble_eq_true rfl, Nat.le_of_ble_eq_true rfl⟩ ⟨Nat.le_of_ble_eq_true rfl, Nat.le_of_ble_eq_true rfl⟩ rfl rfl (Nat.le_of_ble_eq_true rfl) dX4_keeps_62 ?_
      refine g_eqI (J := RepM Γ A o ad (upd F 41 11) (setX X 42 (cpN (X 1) (cpN (X 42) (X 42) 677 0 (677 * 11)) 0 (677 * 11) 677))) (congrArg (RepM Γ A o ad _) (by rw [setX_setX]; rfl)) ?_
      refine g_aload_n C dX4_keeps_65 rfl rfl ?_
      refine g_dup C dX4_keeps_66 rfl ?_
      refine mg_41 C dX4_keeps_67 ?_
      refine g_topi (y := 11) rfl ?_
      refine g_iconst (v := 1) C dX4_keeps_70 rfl ?_
      refine g_iadd C dX4_keeps_71 ?_
      refine g_topi (y := nI (11 + 1)) (nI_add 11 1) ?_
      refine mp_41 C dX4_keeps_72 ?_
      refine g_eqI (J := RepM Γ A o ad (upd F 41 (nI (11 + 1))) (setX X 42 (cpN (X 1) (cpN (X 42) (X 42) 677 0 (677 * 11)) 0 (677 * 11) 677))) (congrArg (fun F => RepM Γ A o ad F _) (upd_upd _ _ _ _)) ?_
      exact g_vret C R (Nat.le_refl _) (Nat.le_refl _) dX4_keeps_75 (fun H h => ⟨rfl, by rw [kpA, kpN, if_pos c0, if_pos c0]; exact h⟩)
  · refine g_aload_n C dX4_keeps_0 rfl rfl ?_
    refine mg_41 C dX4_keeps_1 ?_
    refine g_topi (y := nI nu) (J.f41) ?_
    refine g_bipush (v := 12) C dX4_keeps_4 rfl ?_
    refine gN_ne (a := nu) (b := 12) 42 C dX4_keeps_6 rfl (by omega) (by omega) (fun c6 => ?_) (fun c6 => ?_)
    · refine g_aload_n C dX4_keeps_42 rfl rfl ?_
      refine mg_1 C dX4_keeps_43 ?_
      refine g_iconst (v := 0) C dX4_keeps_46 rfl ?_
      refine g_aload_n C dX4_keeps_47 rfl rfl ?_
      refine mg_42 C dX4_keeps_48 ?_
      refine g_sipush (v := 677) C dX4_keeps_51 rfl ?_
      refine g_aload_n C dX4_keeps_54 rfl rfl ?_
      refine mg_41 C dX4_keeps_55 ?_
      refine g_topi (y := nI nu) (J.f41) ?_
      refine g_imul C dX4_keeps_58 ?_
      refine g_topi (y := nI (677 * nu)) (pk_mul 677 nu) ?_
      refine g_sipush (v := 677) C dX4_keeps_59 rfl ?_
      refine g_mcallSv (rest := []) 5 C (ct_copies (F := F) (X := X) B (j := 1) (k := 42) (pj := 0) (pk := 22) rfl rfl rfl rfl 0 (677 * nu) 677 (by simp only [mLen]; omega) (by simp only [mLen]; omega) (by simp only [mLen]; omega) (by simp only [mLen]; omega) (Or.inl (by decide))) (lw_S q1867 q1868 q107 q1869) (by decide +kernel) ⟨Nat.le_of_ble_eq_true rfl, Nat.le_of_ble_eq_true rfl⟩ ⟨Nat.le_of_ble_eq_true rfl, Nat.le_of_ble_eq_true rfl⟩ rfl rfl (Nat.le_of_ble_eq_true rfl) dX4_keeps_62 ?_
      refine g_aload_n C dX4_keeps_65 rfl rfl ?_
      refine g_dup C dX4_keeps_66 rfl ?_
      refine mg_41 C dX4_keeps_67 ?_
      refine g_topi (y := nI nu) (J.f41) ?_
      refine g_iconst (v := 1) C dX4_keeps_70 rfl ?_
      refine g_iadd C dX4_keeps_71 ?_
      refine g_topi (y := nI (nu + 1)) (nI_add nu 1) ?_
      refine mp_41 C dX4_keeps_72 ?_
      exact g_vret C R (Nat.le_refl _) (Nat.le_refl _) dX4_keeps_75 (fun H h => ⟨rfl, by rw [kpA, kpN, if_neg c0, if_neg c0]; exact h⟩)
    · exact absurd c6 c0
set_option maxRecDepth 100000 in
theorem ct_undo {l : Launch} {Γ : Gm} {A : Nat → Prop} {ρ : State → Prop} (B : Bs l A ρ) {o : Nat} {ad : Nat → Nat} {F : Nat → Int32} {X : Nat → Nat → Int32} {nt ns nm ne nv nu ln : Nat} (J : Iv F X nt ns nm ne nv nu ln) : CtM l Γ A ρ yX4_undo cX4_undo 1 (some .boolean) 1 25 o ad [.ref o] F X (some (.int (if nu = 0 then 0 else 1))) (if nu = 0 then upd F 0 0 else upd (upd F 0 0) 41 (nI (nu - 1))) (if nu = 0 then X else setX X 1 (cpN (X 42) (X 1) (677 * (nu - 1)) 0 677)) := by
  refine Ct.of B.1 B.2 (by decide) [some (.ref o)] (Nat.le_of_ble_eq_true rfl) rfl ?_
  intro E hE C R
  subst hE
  have hu_ := J.lu
  by_cases c0 : nu = 0
  · refine g_aload_n C dX4_undo_0 rfl rfl ?_
    refine g_iconst (v := 0) C dX4_undo_1 rfl ?_
    refine mp_0 C dX4_undo_2 ?_
    refine g_aload_n C dX4_undo_5 rfl rfl ?_
    refine mg_41 C dX4_undo_6 ?_
    refine g_topi (y := 0) (J.f41.trans (by rw [c0]; rfl)) ?_
    refine g_if_ne 14 C dX4_undo_9 rfl (fun c9 => ?_) (fun c9 => ?_)
    · exact absurd c9 (by decide)
    · refine g_iconst (v := 0) C dX4_undo_12 rfl ?_
      exact g_zret C R (Nat.le_refl _) (Nat.le_refl _) dX4_undo_13 rfl (fun H h => ⟨by rw [if_pos c0], by rw [if_pos c0, if_pos c0]; exact h⟩)
  · refine g_aload_n C dX4_undo_0 rfl rfl ?_
    refine g_iconst (v := 0) C dX4_undo_1 rfl ?_
    refine mp_0 C dX4_undo_2 ?_
    refine g_aload_n C dX4_undo_5 rfl rfl ?_
    refine mg_41 C dX4_undo_6 ?_
    refine g_topi (y := nI nu) (J.f41) ?_
    refine g_if_ne 14 C dX4_undo_9 rfl (fun c9 => ?_) (fun c9 => ?_)
    · refine g_aload_n C dX4_undo_14 rfl rfl ?_
      refine g_dup C dX4_undo_15 rfl ?_
      refine mg_41 C dX4_undo_16 ?_
      refine g_topi (y := nI nu) (J.f41) ?_
      refine g_iconst (v := 1) C dX4_undo_19 rfl ?_
      refine g_isub C dX4_undo_20 ?_
      refine g_topi (y := nI (nu - 1)) (pk_sub (a := nu) (b := 1) (by omega)) ?_
      refine mp_41 C dX4_undo_21 ?_
      refine g_aload_n C dX4_undo_24 rfl rfl ?_
      refine mg_42 C dX4_undo_25 ?_
      refine g_sipush (v := 677) C dX4_undo_28 rfl ?_
      refine g_aload_n C dX4_undo_31 rfl rfl ?_
      refine mg_41 C dX4_undo_32 ?_
      refine g_topi (y := nI (nu - 1)) rfl ?_
      refine g_imul C dX4_undo_35 ?_
      refine g_topi (y := nI (677 * (nu - 1))) (pk_mul 677 (nu - 1)) ?_
      refine g_aload_n C dX4_undo_36 rfl rfl ?_
      refine mg_1 C dX4_undo_37 ?_
      refine g_iconst (v := 0) C dX4_undo_40 rfl ?_
      refine g_sipush (v := 677) C dX4_undo_41 rfl ?_
      refine g_mcallSv (rest := []) 5 C (ct_copies (F := upd (upd F 0 0) 41 (nI (nu - 1))) (X := X) B (j := 42) (k := 1) (pj := 22) (pk := 0) rfl rfl rfl rfl (677 * (nu - 1)) 0 677 (by simp only [mLen]; omega) (by simp only [mLen]; omega) (by simp only [mLen]; omega) (by simp only [mLen]; omega) (Or.inl (by decide))) (lw_S q1867 q1868 q107 q1869) (by decide +kernel) ⟨Nat.le_of_ble_eq_true rfl, Nat.le_of_ble_eq_true rfl⟩ ⟨Nat.le_of_ble_eq_true rfl, Nat.le_of_ble_eq_true rfl⟩ rfl rfl (Nat.le_of_ble_eq_true rfl) dX4_undo_44 ?_
      refine g_iconst (v := 1) C dX4_undo_47 rfl ?_
      exact g_zret C R (Nat.le_refl _) (Nat.le_refl _) dX4_undo_48 rfl (fun H h => ⟨by rw [if_neg c0], by rw [if_neg c0, if_neg c0]; exact h⟩)
    · exact absurd c9 (nI_ne0 (by omega) (by omega))
set_option maxRecDepth 100000 in
theorem ct_saveSnapshot {l : Launch} {Γ : Gm} {A : Nat → Prop} {ρ : State → Prop} (B : Bs l A ρ) {o : Nat} {ad : Nat → Nat} {F : Nat → Int32} {X : Nat → Nat → Int32} (slot : Int32) : CtM l Γ A ρ yX4_saveSnapshot cX4_saveSnapshot 2 (some .boolean) 1 25 o ad [.ref o, .int slot] F X (some (.int (ixI slot 2))) (upd F 0 0) (if ixI slot 2 = 0 then X else setX (setX X 43 (cpN (X 1) (X 43) 0 (677 * slot.toNatClampNeg) 677)) 44 (upd (X 44) slot.toNatClampNeg 1)) := by
  refine Ct.of B.1 B.2 (by decide) [some (.ref o), some (.int slot)] (Nat.le_of_ble_eq_true rfl) rfl ?_
  intro E hE C R
  subst hE
  by_cases c0 : ixI slot 2 = 0
  · refine g_aload_n C dX4_saveSnapshot_0 rfl rfl ?_
    refine g_iconst (v := 0) C dX4_saveSnapshot_1 rfl ?_
    refine mp_0 C dX4_saveSnapshot_2 ?_
    refine g_iload_n C dX4_saveSnapshot_5 rfl rfl ?_
    refine g_i2l C dX4_saveSnapshot_6 ?_
    refine g_lconst (v := 0) C dX4_saveSnapshot_7 rfl ?_
    refine g_lconst (v := 1) C dX4_saveSnapshot_8 rfl ?_
    refine g_pcall (rest := []) 3 C (ct_within B _ _ _) (lw_S q1783 q1784 q107 q1785) ⟨by decide, by decide, by decide +kernel⟩ ⟨Nat.le_of_ble_eq_true rfl, Nat.le_of_ble_eq_true rfl⟩ ⟨Nat.le_of_ble_eq_true rfl, Nat.le_of_ble_eq_true rfl⟩ rfl rfl (Nat.le_of_ble_eq_true rfl) dX4_saveSnapshot_9 ?_
    refine g_topi (y := ixI slot 2) (wi_lit (n := 1) (by decide)) ?_
    refine g_topi (y := 0) (c0) ?_
    refine g_if_ne 17 C dX4_saveSnapshot_12 rfl (fun c12 => ?_) (fun c12 => ?_)
    · exact absurd c12 (by decide)
    · refine g_iconst (v := 0) C dX4_saveSnapshot_15 rfl ?_
      exact g_zret C R (Nat.le_refl _) (Nat.le_refl _) dX4_saveSnapshot_16 rfl (fun H h => ⟨by rw [c0], by rw [if_pos c0]; exact h⟩)
  · obtain ⟨j, hj, rfl⟩ := ixI_in (by decide) c0
    have c1 := ixI_nI hj (by decide)
    have ej : (nI j).toNatClampNeg = j := nI_clamp (by omega)
    refine g_aload_n C dX4_saveSnapshot_0 rfl rfl ?_
    refine g_iconst (v := 0) C dX4_saveSnapshot_1 rfl ?_
    refine mp_0 C dX4_saveSnapshot_2 ?_
    refine g_iload_n C dX4_saveSnapshot_5 rfl rfl ?_
    refine g_i2l C dX4_saveSnapshot_6 ?_
    refine g_lconst (v := 0) C dX4_saveSnapshot_7 rfl ?_
    refine g_lconst (v := 1) C dX4_saveSnapshot_8 rfl ?_
    refine g_pcall (rest := []) 3 C (ct_within B _ _ _) (lw_S q1783 q1784 q107 q1785) ⟨by decide, by decide, by decide +kernel⟩ ⟨Nat.le_of_ble_eq_true rfl, Nat.le_of_ble_eq_true rfl⟩ ⟨Nat.le_of_ble_eq_true rfl, Nat.le_of_ble_eq_true rfl⟩ rfl rfl (Nat.le_of_ble_eq_true rfl) dX4_saveSnapshot_9 ?_
    refine g_topi (y := ixI (nI j) 2) (wi_lit (n := 1) (by decide)) ?_
    refine g_topi (y := 1) (c1) ?_
    refine g_if_ne 17 C dX4_saveSnapshot_12 rfl (fun c12 => ?_) (fun c12 => ?_)
    · refine g_aload_n C dX4_saveSnapshot_17 rfl rfl ?_
      refine mg_1 C dX4_saveSnapshot_18 ?_
      refine g_iconst (v := 0) C dX4_saveSnapshot_21 rfl ?_
      refine g_aload_n C dX4_saveSnapshot_22 rfl rfl ?_
      refine mg_43 C dX4_saveSnapshot_23 ?_
      refine g_sipush (v := 677) C dX4_saveSnapshot_26 rfl ?_
      refine g_iload_n C dX4_saveSnapshot_29 rfl rfl ?_
      refine g_imul C dX4_saveSnapshot_30 ?_
      refine g_topi (y := nI (677 * j)) (pk_mul 677 j) ?_
      refine g_sipush (v := 677) C dX4_saveSnapshot_31 rfl ?_
      refine g_mcallSv (rest := []) 5 C (ct_copies (F := upd F 0 0) (X := X) B (j := 1) (k := 43) (pj := 0) (pk := 23) rfl rfl rfl rfl 0 (677 * j) 677 (by simp only [mLen]; omega) (by simp only [mLen]; omega) (by simp only [mLen]; omega) (by simp only [mLen]; omega) (Or.inl (by decide))) (lw_S q1867 q1868 q107 q1869) (by decide +kernel) ⟨Nat.le_of_ble_eq_true rfl, Nat.le_of_ble_eq_true rfl⟩ ⟨Nat.le_of_ble_eq_true rfl, Nat.le_of_ble_eq_true rfl⟩ rfl rfl (Nat.le_of_ble_eq_true rfl) dX4_saveSnapshot_34 ?_
      refine g_aload_n C dX4_saveSnapshot_37 rfl rfl ?_
      refine mg_44 C dX4_saveSnapshot_38 ?_
      refine g_iload_n C dX4_saveSnapshot_41 rfl rfl ?_
      refine g_iconst (v := 1) C dX4_saveSnapshot_42 rfl ?_
      refine ms_44 (i := j) C dX4_saveSnapshot_43 (by omega) rfl ?_
      refine g_eqI (J := RepM Γ A o ad (upd F 0 0) (setX (setX X 43 (cpN (X 1) (X 43) 0 (677 * j) 677)) 44 (upd (X 44) j 1))) rfl ?_
      refine g_iconst (v := 1) C dX4_saveSnapshot_44 rfl ?_
      exact g_zret C R (Nat.le_refl _) (Nat.le_refl _) dX4_saveSnapshot_45 rfl (fun H h => ⟨by rw [c1], by rw [if_neg c0, ej]; exact h⟩)
    · exact absurd c12 (by decide)
def rsC (X : Nat → Nat → Int32) (slot : Int32) : Int32 := if ixI slot 2 = 0 then 0 else if X 44 slot.toNatClampNeg = 0 then 0 else 1
set_option maxRecDepth 100000 in
theorem ct_restoreSnapshot {l : Launch} {Γ : Gm} {A : Nat → Prop} {ρ : State → Prop} (B : Bs l A ρ) {o : Nat} {ad : Nat → Nat} {F : Nat → Int32} {X : Nat → Nat → Int32} (slot : Int32) : CtM l Γ A ρ yX4_restoreSnapshot cX4_restoreSnapshot 2 (some .boolean) 1 25 o ad [.ref o, .int slot] F X (some (.int (rsC X slot))) (if rsC X slot = 0 then upd F 0 0 else upd (upd F 0 0) 41 0) (if rsC X slot = 0 then X else setX X 1 (cpN (X 43) (X 1) (677 * slot.toNatClampNeg) 0 677)) := by
  refine Ct.of B.1 B.2 (by decide) [some (.ref o), some (.int slot)] (Nat.le_of_ble_eq_true rfl) rfl ?_
  intro E hE C R
  subst hE
  by_cases c0 : ixI slot 2 = 0
  · refine g_aload_n C dX4_restoreSnapshot_0 rfl rfl ?_
    refine g_iconst (v := 0) C dX4_restoreSnapshot_1 rfl ?_
    refine mp_0 C dX4_restoreSnapshot_2 ?_
    refine g_iload_n C dX4_restoreSnapshot_5 rfl rfl ?_
    refine g_i2l C dX4_restoreSnapshot_6 ?_
    refine g_lconst (v := 0) C dX4_restoreSnapshot_7 rfl ?_
    refine g_lconst (v := 1) C dX4_restoreSnapshot_8 rfl ?_
    refine g_pcall (rest := []) 3 C (ct_within B _ _ _) (lw_S q1783 q1784 q107 q1785) ⟨by decide, by decide, by decide +kernel⟩ ⟨Nat.le_of_ble_eq_true rfl, Nat.le_of_ble_eq_true rfl⟩ ⟨Nat.le_of_ble_eq_true rfl, Nat.le_of_ble_eq_true rfl⟩ rfl rfl (Nat.le_of_ble_eq_true rfl) dX4_restoreSnapshot_9 ?_
    refine g_topi (y := ixI slot 2) (wi_lit (n := 1) (by decide)) ?_
    refine g_topi (y := 0) (c0) ?_
    refine g_if_eq 24 C dX4_restoreSnapshot_12 rfl (fun c12 => ?_) (fun c12 => ?_)
    · refine g_iconst (v := 0) C dX4_restoreSnapshot_24 rfl ?_
      exact g_zret C R (Nat.le_refl _) (Nat.le_refl _) dX4_restoreSnapshot_25 rfl (fun H h => ⟨by rw [rsC, if_pos c0], by rw [if_pos (show rsC X slot = 0 from if_pos c0), if_pos (show rsC X slot = 0 from if_pos c0)]; exact h⟩)
    · exact absurd c12 (by decide)
  · obtain ⟨j, hj, rfl⟩ := ixI_in (by decide) c0
    have c1 := ixI_nI hj (by decide)
    have ej : (nI j).toNatClampNeg = j := nI_clamp (by omega)
    refine g_aload_n C dX4_restoreSnapshot_0 rfl rfl ?_
    refine g_iconst (v := 0) C dX4_restoreSnapshot_1 rfl ?_
    refine mp_0 C dX4_restoreSnapshot_2 ?_
    refine g_iload_n C dX4_restoreSnapshot_5 rfl rfl ?_
    refine g_i2l C dX4_restoreSnapshot_6 ?_
    refine g_lconst (v := 0) C dX4_restoreSnapshot_7 rfl ?_
    refine g_lconst (v := 1) C dX4_restoreSnapshot_8 rfl ?_
    refine g_pcall (rest := []) 3 C (ct_within B _ _ _) (lw_S q1783 q1784 q107 q1785) ⟨by decide, by decide, by decide +kernel⟩ ⟨Nat.le_of_ble_eq_true rfl, Nat.le_of_ble_eq_true rfl⟩ ⟨Nat.le_of_ble_eq_true rfl, Nat.le_of_ble_eq_true rfl⟩ rfl rfl (Nat.le_of_ble_eq_true rfl) dX4_restoreSnapshot_9 ?_
    refine g_topi (y := ixI (nI j) 2) (wi_lit (n := 1) (by decide)) ?_
    refine g_topi (y := 1) (c1) ?_
    refine g_if_eq 24 C dX4_restoreSnapshot_12 rfl (fun c12 => ?_) (fun c12 => ?_)
    · exact absurd c12 (by decide)
    · refine g_aload_n C dX4_restoreSnapshot_15 rfl rfl ?_
      refine mg_44 C dX4_restoreSnapshot_16 ?_
      refine g_iload_n C dX4_restoreSnapshot_19 rfl rfl ?_
      refine ml_44 (i := j) C dX4_restoreSnapshot_20 (by omega) ?_
      refine g_if_ne 26 C dX4_restoreSnapshot_21 rfl (fun c21 => ?_) (fun c21 => ?_)
      · refine g_aload_n C dX4_restoreSnapshot_26 rfl rfl ?_
        refine mg_43 C dX4_restoreSnapshot_27 ?_
        refine g_sipush (v := 677) C dX4_restoreSnapshot_30 rfl ?_
        refine g_iload_n C dX4_restoreSnapshot_33 rfl rfl ?_
        refine g_imul C dX4_restoreSnapshot_34 ?_
        refine g_topi (y := nI (677 * j)) (pk_mul 677 j) ?_
        refine g_aload_n C dX4_restoreSnapshot_35 rfl rfl ?_
        refine mg_1 C dX4_restoreSnapshot_36 ?_
        refine g_iconst (v := 0) C dX4_restoreSnapshot_39 rfl ?_
        refine g_sipush (v := 677) C dX4_restoreSnapshot_40 rfl ?_
        refine g_mcallSv (rest := []) 5 C (ct_copies (F := upd F 0 0) (X := X) B (j := 43) (k := 1) (pj := 23) (pk := 0) rfl rfl rfl rfl (677 * j) 0 677 (by simp only [mLen]; omega) (by simp only [mLen]; omega) (by simp only [mLen]; omega) (by simp only [mLen]; omega) (Or.inl (by decide))) (lw_S q1867 q1868 q107 q1869) (by decide +kernel) ⟨Nat.le_of_ble_eq_true rfl, Nat.le_of_ble_eq_true rfl⟩ ⟨Nat.le_of_ble_eq_true rfl, Nat.le_of_ble_eq_true rfl⟩ rfl rfl (Nat.le_of_ble_eq_true rfl) dX4_restoreSnapshot_43 ?_
        refine g_aload_n C dX4_restoreSnapshot_46 rfl rfl ?_
        refine g_iconst (v := 0) C dX4_restoreSnapshot_47 rfl ?_
        refine mp_41 C dX4_restoreSnapshot_48 ?_
        refine g_iconst (v := 1) C dX4_restoreSnapshot_51 rfl ?_
        exact g_zret C R (Nat.le_refl _) (Nat.le_refl _) dX4_restoreSnapshot_52 rfl (fun H h => ⟨by rw [rsC, if_neg c0, ej, if_neg c21], by rw [if_neg (show ¬ rsC X (nI j) = 0 by rw [rsC, if_neg c0, ej, if_neg c21]; decide), if_neg (show ¬ rsC X (nI j) = 0 by rw [rsC, if_neg c0, ej, if_neg c21]; decide), ej]; exact h⟩)
      · refine g_iconst (v := 0) C dX4_restoreSnapshot_24 rfl ?_
        exact g_zret C R (Nat.le_refl _) (Nat.le_refl _) dX4_restoreSnapshot_25 rfl (fun H h => ⟨by rw [rsC, if_neg c0, ej, if_pos c21], by rw [if_pos (show rsC X (nI j) = 0 by rw [rsC, if_neg c0, ej, if_pos c21]), if_pos (show rsC X (nI j) = 0 by rw [rsC, if_neg c0, ej, if_pos c21])]; exact h⟩)
