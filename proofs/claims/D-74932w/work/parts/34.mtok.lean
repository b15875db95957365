theorem wdK_len {buf : Nat → Int32} {t : Tk} {k i : Nat} (h : wdK buf t k i = true) : t.2.1 - t.1 = swn k := by
  unfold wdK at h
  simp only [Bool.and_eq_true, decide_eq_true_eq] at h
  exact h.1.2
theorem wdB_len {buf : Nat → Int32} {t : Tk} {k : Nat} (h : wdB buf t k = true) : t.2.2.1 = 1 ∧ t.2.1 - t.1 = swn k := by
  unfold wdB at h
  simp only [Bool.and_eq_true, decide_eq_true_eq] at h
  exact h.1
/-- the model's fields hold the token t; no error yet -/
def PF (F : Nat → Int32) (n : Nat) (t : Tk) : Prop := F 16 = nI n ∧ F 17 = nI t.1 ∧ F 18 = nI t.2.1 ∧ F 19 = nI t.2.2.1 ∧ F 20 = nI t.2.2.2 ∧ F 21 = 0
set_option maxRecDepth 100000 in
theorem ct_isWord {l : Launch} {Γ : Gm} {A : Nat → Prop} {ρ : State → Prop} (B : Bs l A ρ) {o : Nat} {ad : Nat → Nat} {F : Nat → Int32} {X : Nat → Nat → Int32} {n : Nat} {t : Tk} (hn : n ≤ 800) (hb : TkB n t) (P : PF F n t) {sa va : Nat} (k : Nat) (hs : ∀ U, ρ U → StrK A sa va (swn k) (swB k) U) : CtM l Γ A ρ yX4_isWord cX4_isWord 4 (some .boolean) 4 85 o ad [.ref o, .ref sa] F X (some (.int (b2i (wdB (X 14) t k)))) F X := by
  refine Ct.of B.1 B.2 (by decide) [some (.ref o), some (.ref sa), none, none] (Nat.le_of_ble_eq_true rfl) rfl ?_
  intro E hE C R
  subst hE
  obtain ⟨hb1, hb2, hb3, hb4⟩ := hb
  have hsw := swn_le k
  refine g_aload_n C dX4_isWord_0 rfl rfl ?_
  refine mg_19 C dX4_isWord_1 ?_
  refine g_topi (y := nI t.2.2.1) (P.2.2.2.1) ?_
  refine g_iconst (v := 1) C dX4_isWord_4 rfl ?_
  refine gN_ne (a := t.2.2.1) (b := 1) 28 C dX4_isWord_5 rfl (by omega) (by omega) (fun c5 => ?_) (fun c5 => ?_)
  · refine g_iconst (v := 0) C dX4_isWord_28 rfl ?_
    refine g_topi (y := b2i (wdK (X 14) t k 0)) (by simp only [wdK, allN, b2i, decide_eq_false c5, Bool.not_true, Bool.not_false, Bool.or_true, Bool.true_or, Bool.or_false, Bool.false_or, Bool.and_true, Bool.true_and, Bool.and_false, Bool.false_and, if_true, reduceCtorEq, if_false, Bool.false_eq_true]) ?_
    refine g_istore_n (lv' := [some (.ref o), some (.ref sa), some (.int (b2i (wdK (X 14) t k 0))), none]) C dX4_isWord_29 rfl (by decide) rfl ?_
    refine g_iconst (v := 0) C dX4_isWord_30 rfl ?_
    refine g_istore_n (lv' := [some (.ref o), some (.ref sa), some (.int (b2i (wdK (X 14) t k 0))), some (.int 0)]) C dX4_isWord_31 rfl (by decide) rfl ?_
    refine g_for (P := fun i => G E (RepM Γ A o ad F X) 0 0 32 [some (.ref o), some (.ref sa), some (.int (b2i (wdK (X 14) t k i))), some (.int (nI i))] []) (swn k) ?_ ?_ 0 (Nat.zero_le _)
    · refine g_iload_n C dX4_isWord_32 rfl rfl ?_
      refine g_aload_n C dX4_isWord_33 rfl rfl ?_
      refine g_kcall (T := "") (rest := [.int (nI (swn k))]) 0 C (ct_slen B hs (by omega)) (hs _ C.r).1 (lw_V q1807 q310 q311 q97 q312) ⟨by decide, by decide, by decide +kernel⟩ ⟨Nat.le_of_ble_eq_true rfl, Nat.le_of_ble_eq_true rfl⟩ ⟨Nat.le_of_ble_eq_true rfl, Nat.le_of_ble_eq_true rfl⟩ rfl rfl (Nat.le_of_ble_eq_true rfl) dX4_isWord_34 ?_
      refine gN_ge (a := (swn k)) (b := swn k) 75 C dX4_isWord_37 rfl (by omega) (by omega) (fun c37 => ?_) (fun c37 => ?_)
      · refine g_iload_n C dX4_isWord_75 rfl rfl ?_
        exact g_zret C R (Nat.le_refl _) (Nat.le_refl _) dX4_isWord_76 (b2i_nar _) (fun H h => ⟨rfl, h⟩)
      · exfalso; omega
    · intro i hi ih
      replace ih : G E (RepM Γ A o ad F X) 0 0 32 [some (.ref o), some (.ref sa), some (.int (b2i (wdK (X 14) t k (i + 1)))), some (.int (nI (i + 1)))] [] := ih
      refine g_iload_n C dX4_isWord_32 rfl rfl ?_
      refine g_aload_n C dX4_isWord_33 rfl rfl ?_
      refine g_kcall (T := "") (rest := [.int (nI i)]) 0 C (ct_slen B hs (by omega)) (hs _ C.r).1 (lw_V q1807 q310 q311 q97 q312) ⟨by decide, by decide, by decide +kernel⟩ ⟨Nat.le_of_ble_eq_true rfl, Nat.le_of_ble_eq_true rfl⟩ ⟨Nat.le_of_ble_eq_true rfl, Nat.le_of_ble_eq_true rfl⟩ rfl rfl (Nat.le_of_ble_eq_true rfl) dX4_isWord_34 ?_
      refine gN_ge (a := i) (b := swn k) 75 C dX4_isWord_37 rfl (by omega) (by omega) (fun c37 => ?_) (fun c37 => ?_)
      · exfalso; omega
      · refine g_iload_n C dX4_isWord_40 rfl rfl ?_
        refine g_if_eq 75 C dX4_isWord_41 rfl (fun c41 => ?_) (fun c41 => ?_)
        · replace c41 := b2i_F c41
          refine g_iload_n C dX4_isWord_75 rfl rfl ?_
          exact g_zret C R (Nat.le_refl _) (Nat.le_refl _) dX4_isWord_76 (b2i_nar _) (fun H h => ⟨by rw [c41]; rw [show wdB (X 14) t k = false from wdK_mono (by omega) c41], h⟩)
        · replace c41 := b2i_T c41
          have hx := wdK_len c41
          refine g_aload_n C dX4_isWord_44 rfl rfl ?_
          refine mg_14 C dX4_isWord_45 ?_
          refine g_aload_n C dX4_isWord_48 rfl rfl ?_
          refine mg_17 C dX4_isWord_49 ?_
          refine g_topi (y := nI t.1) (P.2.1) ?_
          refine g_iload_n C dX4_isWord_52 rfl rfl ?_
          refine g_iadd C dX4_isWord_53 ?_
          refine g_topi (y := nI (t.1 + i)) (nI_add t.1 i) ?_
          refine ml_14 (i := t.1 + i) C dX4_isWord_54 (by omega) ?_
          refine g_aload_n C dX4_isWord_55 rfl rfl ?_
          refine g_iload_n C dX4_isWord_56 rfl rfl ?_
          refine g_kcall (T := "") (rest := [.int (X 14 (t.1 + i))]) 1 C (ct_schar B hs (by omega) i (by omega)) (hs _ C.r).1 (lw_V q1808 q1809 q1810 q97 q1811) ⟨by decide, by decide, by decide +kernel⟩ ⟨Nat.le_of_ble_eq_true rfl, Nat.le_of_ble_eq_true rfl⟩ ⟨Nat.le_of_ble_eq_true rfl, Nat.le_of_ble_eq_true rfl⟩ rfl rfl (Nat.le_of_ble_eq_true rfl) dX4_isWord_57 ?_
          refine g_icmp_ne 67 C dX4_isWord_60 rfl (fun c60 => ?_) (fun c60 => ?_)
          · refine g_iconst (v := 0) C dX4_isWord_67 rfl ?_
            refine g_topi (y := b2i (wdK (X 14) t k (i + 1))) (by simp only [wdK_s, b2i, c41, decide_eq_false c60, Bool.not_true, Bool.not_false, Bool.or_true, Bool.true_or, Bool.or_false, Bool.false_or, Bool.and_true, Bool.true_and, Bool.and_false, Bool.false_and, if_true, reduceCtorEq, if_false, Bool.false_eq_true]) ?_
            refine g_istore_n (lv' := [some (.ref o), some (.ref sa), some (.int (b2i (wdK (X 14) t k (i + 1)))), some (.int (nI i))]) C dX4_isWord_68 rfl (by decide) rfl ?_
            refine g_inc1 (x := i) (lv' := [some (.ref o), some (.ref sa), some (.int (b2i (wdK (X 14) t k (i + 1)))), some (.int (nI (i + 1)))]) C dX4_isWord_69 rfl (by decide) rfl ?_
            refine g_goto 32 C dX4_isWord_72 rfl ?_
            exact ih
          · refine g_iconst (v := 1) C dX4_isWord_63 rfl ?_
            refine g_goto 68 C dX4_isWord_64 rfl ?_
            refine g_topi (y := b2i (wdK (X 14) t k (i + 1))) (by simp only [wdK_s, b2i, c41, decide_eq_true c60, Bool.not_true, Bool.not_false, Bool.or_true, Bool.true_or, Bool.or_false, Bool.false_or, Bool.and_true, Bool.true_and, Bool.and_false, Bool.false_and, if_true, reduceCtorEq, if_false, Bool.false_eq_true]) ?_
            refine g_istore_n (lv' := [some (.ref o), some (.ref sa), some (.int (b2i (wdK (X 14) t k (i + 1)))), some (.int (nI i))]) C dX4_isWord_68 rfl (by decide) rfl ?_
            refine g_inc1 (x := i) (lv' := [some (.ref o), some (.ref sa), some (.int (b2i (wdK (X 14) t k (i + 1)))), some (.int (nI (i + 1)))]) C dX4_isWord_69 rfl (by decide) rfl ?_
            refine g_goto 32 C dX4_isWord_72 rfl ?_
            exact ih
  · refine g_aload_n C dX4_isWord_8 rfl rfl ?_
    refine mg_18 C dX4_isWord_9 ?_
    refine g_topi (y := nI t.2.1) (P.2.2.1) ?_
    refine g_aload_n C dX4_isWord_12 rfl rfl ?_
    refine mg_17 C dX4_isWord_13 ?_
    refine g_topi (y := nI t.1) (P.2.1) ?_
    refine g_isub C dX4_isWord_16 ?_
    refine g_topi (y := nI (t.2.1 - t.1)) (pk_sub (a := t.2.1) (b := t.1) (by omega)) ?_
    refine g_aload_n C dX4_isWord_17 rfl rfl ?_
    refine g_kcall (T := "") (rest := [.int (nI (t.2.1 - t.1))]) 0 C (ct_slen B hs (by omega)) (hs _ C.r).1 (lw_V q1807 q310 q311 q97 q312) ⟨by decide, by decide, by decide +kernel⟩ ⟨Nat.le_of_ble_eq_true rfl, Nat.le_of_ble_eq_true rfl⟩ ⟨Nat.le_of_ble_eq_true rfl, Nat.le_of_ble_eq_true rfl⟩ rfl rfl (Nat.le_of_ble_eq_true rfl) dX4_isWord_18 ?_
    refine gN_ne (a := t.2.1 - t.1) (b := swn k) 28 C dX4_isWord_21 rfl (by omega) (by omega) (fun c21 => ?_) (fun c21 => ?_)
    · refine g_iconst (v := 0) C dX4_isWord_28 rfl ?_
      refine g_topi (y := b2i (wdK (X 14) t k 0)) (by simp only [wdK, allN, b2i, decide_eq_true c5, decide_eq_false c21, Bool.not_true, Bool.not_false, Bool.or_true, Bool.true_or, Bool.or_false, Bool.false_or, Bool.and_true, Bool.true_and, Bool.and_false, Bool.false_and, if_true, reduceCtorEq, if_false, Bool.false_eq_true]) ?_
      refine g_istore_n (lv' := [some (.ref o), some (.ref sa), some (.int (b2i (wdK (X 14) t k 0))), none]) C dX4_isWord_29 rfl (by decide) rfl ?_
      refine g_iconst (v := 0) C dX4_isWord_30 rfl ?_
      refine g_istore_n (lv' := [some (.ref o), some (.ref sa), some (.int (b2i (wdK (X 14) t k 0))), some (.int 0)]) C dX4_isWord_31 rfl (by decide) rfl ?_
      refine g_for (P := fun i => G E (RepM Γ A o ad F X) 0 0 32 [some (.ref o), some (.ref sa), some (.int (b2i (wdK (X 14) t k i))), some (.int (nI i))] []) (swn k) ?_ ?_ 0 (Nat.zero_le _)
      · refine g_iload_n C dX4_isWord_32 rfl rfl ?_
        refine g_aload_n C dX4_isWord_33 rfl rfl ?_
        refine g_kcall (T := "") (rest := [.int (nI (swn k))]) 0 C (ct_slen B hs (by omega)) (hs _ C.r).1 (lw_V q1807 q310 q311 q97 q312) ⟨by decide, by decide, by decide +kernel⟩ ⟨Nat.le_of_ble_eq_true rfl, Nat.le_of_ble_eq_true rfl⟩ ⟨Nat.le_of_ble_eq_true rfl, Nat.le_of_ble_eq_true rfl⟩ rfl rfl (Nat.le_of_ble_eq_true rfl) dX4_isWord_34 ?_
        refine gN_ge (a := (swn k)) (b := swn k) 75 C dX4_isWord_37 rfl (by omega) (by omega) (fun c37 => ?_) (fun c37 => ?_)
        · refine g_iload_n C dX4_isWord_75 rfl rfl ?_
          exact g_zret C R (Nat.le_refl _) (Nat.le_refl _) dX4_isWord_76 (b2i_nar _) (fun H h => ⟨rfl, h⟩)
        · exfalso; omega
      · intro i hi ih
        replace ih : G E (RepM Γ A o ad F X) 0 0 32 [some (.ref o), some (.ref sa), some (.int (b2i (wdK (X 14) t k (i + 1)))), some (.int (nI (i + 1)))] [] := ih
        refine g_iload_n C dX4_isWord_32 rfl rfl ?_
        refine g_aload_n C dX4_isWord_33 rfl rfl ?_
        refine g_kcall (T := "") (rest := [.int (nI i)]) 0 C (ct_slen B hs (by omega)) (hs _ C.r).1 (lw_V q1807 q310 q311 q97 q312) ⟨by decide, by decide, by decide +kernel⟩ ⟨Nat.le_of_ble_eq_true rfl, Nat.le_of_ble_eq_true rfl⟩ ⟨Nat.le_of_ble_eq_true rfl, Nat.le_of_ble_eq_true rfl⟩ rfl rfl (Nat.le_of_ble_eq_true rfl) dX4_isWord_34 ?_
        refine gN_ge (a := i) (b := swn k) 75 C dX4_isWord_37 rfl (by omega) (by omega) (fun c37 => ?_) (fun c37 => ?_)
        · exfalso; omega
        · refine g_iload_n C dX4_isWord_40 rfl rfl ?_
          refine g_if_eq 75 C dX4_isWord_41 rfl (fun c41 => ?_) (fun c41 => ?_)
          · replace c41 := b2i_F c41
            refine g_iload_n C dX4_isWord_75 rfl rfl ?_
            exact g_zret C R (Nat.le_refl _) (Nat.le_refl _) dX4_isWord_76 (b2i_nar _) (fun H h => ⟨by rw [c41]; rw [show wdB (X 14) t k = false from wdK_mono (by omega) c41], h⟩)
          · replace c41 := b2i_T c41
            have hx := wdK_len c41
            refine g_aload_n C dX4_isWord_44 rfl rfl ?_
            refine mg_14 C dX4_isWord_45 ?_
            refine g_aload_n C dX4_isWord_48 rfl rfl ?_
            refine mg_17 C dX4_isWord_49 ?_
            refine g_topi (y := nI t.1) (P.2.1) ?_
            refine g_iload_n C dX4_isWord_52 rfl rfl ?_
            refine g_iadd C dX4_isWord_53 ?_
            refine g_topi (y := nI (t.1 + i)) (nI_add t.1 i) ?_
            refine ml_14 (i := t.1 + i) C dX4_isWord_54 (by omega) ?_
            refine g_aload_n C dX4_isWord_55 rfl rfl ?_
            refine g_iload_n C dX4_isWord_56 rfl rfl ?_
            refine g_kcall (T := "") (rest := [.int (X 14 (t.1 + i))]) 1 C (ct_schar B hs (by omega) i (by omega)) (hs _ C.r).1 (lw_V q1808 q1809 q1810 q97 q1811) ⟨by decide, by decide, by decide +kernel⟩ ⟨Nat.le_of_ble_eq_true rfl, Nat.le_of_ble_eq_true rfl⟩ ⟨Nat.le_of_ble_eq_true rfl, Nat.le_of_ble_eq_true rfl⟩ rfl rfl (Nat.le_of_ble_eq_true rfl) dX4_isWord_57 ?_
            refine g_icmp_ne 67 C dX4_isWord_60 rfl (fun c60 => ?_) (fun c60 => ?_)
            · refine g_iconst (v := 0) C dX4_isWord_67 rfl ?_
              refine g_topi (y := b2i (wdK (X 14) t k (i + 1))) (by simp only [wdK_s, b2i, c41, decide_eq_false c60, Bool.not_true, Bool.not_false, Bool.or_true, Bool.true_or, Bool.or_false, Bool.false_or, Bool.and_true, Bool.true_and, Bool.and_false, Bool.false_and, if_true, reduceCtorEq, if_false, Bool.false_eq_true]) ?_
              refine g_istore_n (lv' := [some (.ref o), some (.ref sa), some (.int (b2i (wdK (X 14) t k (i + 1)))), some (.int (nI i))]) C dX4_isWord_68 rfl (by decide) rfl ?_
              refine g_inc1 (x := i) (lv' := [some (.ref o), some (.ref sa), some (.int (b2i (wdK (X 14) t k (i + 1)))), some (.int (nI (i + 1)))]) C dX4_isWord_69 rfl (by decide) rfl ?_
              refine g_goto 32 C dX4_isWord_72 rfl ?_
              exact ih
            · refine g_iconst (v := 1) C dX4_isWord_63 rfl ?_
              refine g_goto 68 C dX4_isWord_64 rfl ?_
              refine g_topi (y := b2i (wdK (X 14) t k (i + 1))) (by simp only [wdK_s, b2i, c41, decide_eq_true c60, Bool.not_true, Bool.not_false, Bool.or_true, Bool.true_or, Bool.or_false, Bool.false_or, Bool.and_true, Bool.true_and, Bool.and_false, Bool.false_and, if_true, reduceCtorEq, if_false, Bool.false_eq_true]) ?_
              refine g_istore_n (lv' := [some (.ref o), some (.ref sa), some (.int (b2i (wdK (X 14) t k (i + 1)))), some (.int (nI i))]) C dX4_isWord_68 rfl (by decide) rfl ?_
              refine g_inc1 (x := i) (lv' := [some (.ref o), some (.ref sa), some (.int (b2i (wdK (X 14) t k (i + 1)))), some (.int (nI (i + 1)))]) C dX4_isWord_69 rfl (by decide) rfl ?_
              refine g_goto 32 C dX4_isWord_72 rfl ?_
              exact ih
    · refine g_iconst (v := 1) C dX4_isWord_24 rfl ?_
      refine g_goto 29 C dX4_isWord_25 rfl ?_
      refine g_topi (y := b2i (wdK (X 14) t k 0)) (by simp only [wdK, allN, b2i, decide_eq_true c5, decide_eq_true c21, Bool.not_true, Bool.not_false, Bool.or_true, Bool.true_or, Bool.or_false, Bool.false_or, Bool.and_true, Bool.true_and, Bool.and_false, Bool.false_and, if_true, reduceCtorEq, if_false, Bool.false_eq_true]) ?_
      refine g_istore_n (lv' := [some (.ref o), some (.ref sa), some (.int (b2i (wdK (X 14) t k 0))), none]) C dX4_isWord_29 rfl (by decide) rfl ?_
      refine g_iconst (v := 0) C dX4_isWord_30 rfl ?_
      refine g_istore_n (lv' := [some (.ref o), some (.ref sa), some (.int (b2i (wdK (X 14) t k 0))), some (.int 0)]) C dX4_isWord_31 rfl (by decide) rfl ?_
      refine g_for (P := fun i => G E (RepM Γ A o ad F X) 0 0 32 [some (.ref o), some (.ref sa), some (.int (b2i (wdK (X 14) t k i))), some (.int (nI i))] []) (swn k) ?_ ?_ 0 (Nat.zero_le _)
      · refine g_iload_n C dX4_isWord_32 rfl rfl ?_
        refine g_aload_n C dX4_isWord_33 rfl rfl ?_
        refine g_kcall (T := "") (rest := [.int (nI (swn k))]) 0 C (ct_slen B hs (by omega)) (hs _ C.r).1 (lw_V q1807 q310 q311 q97 q312) ⟨by decide, by decide, by decide +kernel⟩ ⟨Nat.le_of_ble_eq_true rfl, Nat.le_of_ble_eq_true rfl⟩ ⟨Nat.le_of_ble_eq_true rfl, Nat.le_of_ble_eq_true rfl⟩ rfl rfl (Nat.le_of_ble_eq_true rfl) dX4_isWord_34 ?_
        refine gN_ge (a := (swn k)) (b := swn k) 75 C dX4_isWord_37 rfl (by omega) (by omega) (fun c37 => ?_) (fun c37 => ?_)
        · refine g_iload_n C dX4_isWord_75 rfl rfl ?_
          exact g_zret C R (Nat.le_refl _) (Nat.le_refl _) dX4_isWord_76 (b2i_nar _) (fun H h => ⟨rfl, h⟩)
        · exfalso; omega
      · intro i hi ih
        replace ih : G E (RepM Γ A o ad F X) 0 0 32 [some (.ref o), some (.ref sa), some (.int (b2i (wdK (X 14) t k (i + 1)))), some (.int (nI (i + 1)))] [] := ih
        refine g_iload_n C dX4_isWord_32 rfl rfl ?_
        refine g_aload_n C dX4_isWord_33 rfl rfl ?_
        refine g_kcall (T := "") (rest := [.int (nI i)]) 0 C (ct_slen B hs (by omega)) (hs _ C.r).1 (lw_V q1807 q310 q311 q97 q312) ⟨by decide, by decide, by decide +kernel⟩ ⟨Nat.le_of_ble_eq_true rfl, Nat.le_of_ble_eq_true rfl⟩ ⟨Nat.le_of_ble_eq_true rfl, Nat.le_of_ble_eq_true rfl⟩ rfl rfl (Nat.le_of_ble_eq_true rfl) dX4_isWord_34 ?_
        refine gN_ge (a := i) (b := swn k) 75 C dX4_isWord_37 rfl (by omega) (by omega) (fun c37 => ?_) (fun c37 => ?_)
        · exfalso; omega
        · refine g_iload_n C dX4_isWord_40 rfl rfl ?_
          refine g_if_eq 75 C dX4_isWord_41 rfl (fun c41 => ?_) (fun c41 => ?_)
          · replace c41 := b2i_F c41
            refine g_iload_n C dX4_isWord_75 rfl rfl ?_
            exact g_zret C R (Nat.le_refl _) (Nat.le_refl _) dX4_isWord_76 (b2i_nar _) (fun H h => ⟨by rw [c41]; rw [show wdB (X 14) t k = false from wdK_mono (by omega) c41], h⟩)
          · replace c41 := b2i_T c41
            have hx := wdK_len c41
            refine g_aload_n C dX4_isWord_44 rfl rfl ?_
            refine mg_14 C dX4_isWord_45 ?_
            refine g_aload_n C dX4_isWord_48 rfl rfl ?_
            refine mg_17 C dX4_isWord_49 ?_
            refine g_topi (y := nI t.1) (P.2.1) ?_
            refine g_iload_n C dX4_isWord_52 rfl rfl ?_
            refine g_iadd C dX4_isWord_53 ?_
            refine g_topi (y := nI (t.1 + i)) (nI_add t.1 i) ?_
            refine ml_14 (i := t.1 + i) C dX4_isWord_54 (by omega) ?_
            refine g_aload_n C dX4_isWord_55 rfl rfl ?_
            refine g_iload_n C dX4_isWord_56 rfl rfl ?_
            refine g_kcall (T := "") (rest := [.int (X 14 (t.1 + i))]) 1 C (ct_schar B hs (by omega) i (by omega)) (hs _ C.r).1 (lw_V q1808 q1809 q1810 q97 q1811) ⟨by decide, by decide, by decide +kernel⟩ ⟨Nat.le_of_ble_eq_true rfl, Nat.le_of_ble_eq_true rfl⟩ ⟨Nat.le_of_ble_eq_true rfl, Nat.le_of_ble_eq_true rfl⟩ rfl rfl (Nat.le_of_ble_eq_true rfl) dX4_isWord_57 ?_
            refine g_icmp_ne 67 C dX4_isWord_60 rfl (fun c60 => ?_) (fun c60 => ?_)
            · refine g_iconst (v := 0) C dX4_isWord_67 rfl ?_
              refine g_topi (y := b2i (wdK (X 14) t k (i + 1))) (by simp only [wdK_s, b2i, c41, decide_eq_false c60, Bool.not_true, Bool.not_false, Bool.or_true, Bool.true_or, Bool.or_false, Bool.false_or, Bool.and_true, Bool.true_and, Bool.and_false, Bool.false_and, if_true, reduceCtorEq, if_false, Bool.false_eq_true]) ?_
              refine g_istore_n (lv' := [some (.ref o), some (.ref sa), some (.int (b2i (wdK (X 14) t k (i + 1)))), some (.int (nI i))]) C dX4_isWord_68 rfl (by decide) rfl ?_
              refine g_inc1 (x := i) (lv' := [some (.ref o), some (.ref sa), some (.int (b2i (wdK (X 14) t k (i + 1)))), some (.int (nI (i + 1)))]) C dX4_isWord_69 rfl (by decide) rfl ?_
              refine g_goto 32 C dX4_isWord_72 rfl ?_
              exact ih
            · refine g_iconst (v := 1) C dX4_isWord_63 rfl ?_
              refine g_goto 68 C dX4_isWord_64 rfl ?_
              refine g_topi (y := b2i (wdK (X 14) t k (i + 1))) (by simp only [wdK_s, b2i, c41, decide_eq_true c60, Bool.not_true, Bool.not_false, Bool.or_true, Bool.true_or, Bool.or_false, Bool.false_or, Bool.and_true, Bool.true_and, Bool.and_false, Bool.false_and, if_true, reduceCtorEq, if_false, Bool.false_eq_true]) ?_
              refine g_istore_n (lv' := [some (.ref o), some (.ref sa), some (.int (b2i (wdK (X 14) t k (i + 1)))), some (.int (nI i))]) C dX4_isWord_68 rfl (by decide) rfl ?_
              refine g_inc1 (x := i) (lv' := [some (.ref o), some (.ref sa), some (.int (b2i (wdK (X 14) t k (i + 1)))), some (.int (nI (i + 1)))]) C dX4_isWord_69 rfl (by decide) rfl ?_
              refine g_goto 32 C dX4_isWord_72 rfl ?_
              exact ih
set_option maxRecDepth 100000 in
theorem ct_fails {l : Launch} {Γ : Gm} {A : Nat → Prop} {ρ : State → Prop} (B : Bs l A ρ) {o : Nat} {ad : Nat → Nat} {F : Nat → Int32} {X : Nat → Nat → Int32} (h21 : F 21 = 0) (code : Int32) : CtM l Γ A ρ yX4_fails cX4_fails 2 (some .boolean) 0 0 o ad [.ref o, .int code] F X (some (.int 0)) (upd (upd F 21 code) 22 (F 17)) X := by
  refine Ct.of B.1 B.2 (by decide) [some (.ref o), some (.int code)] (Nat.le_of_ble_eq_true rfl) rfl ?_
  intro E hE C R
  subst hE
  refine g_aload_n C dX4_fails_0 rfl rfl ?_
  refine mg_21 C dX4_fails_1 ?_
  refine g_topi (y := 0) (h21) ?_
  refine g_if_ne 20 C dX4_fails_4 rfl (fun c4 => ?_) (fun c4 => ?_)
  · exact absurd c4 (by decide)
  · refine g_aload_n C dX4_fails_7 rfl rfl ?_
    refine g_iload_n C dX4_fails_8 rfl rfl ?_
    refine mp_21 C dX4_fails_9 ?_
    refine g_aload_n C dX4_fails_12 rfl rfl ?_
    refine g_aload_n C dX4_fails_13 rfl rfl ?_
    refine mg_17 C dX4_fails_14 ?_
    refine mp_22 C dX4_fails_17 ?_
    refine g_iconst (v := 0) C dX4_fails_20 rfl ?_
    exact g_zret C R (Nat.le_refl _) (Nat.le_refl _) dX4_fails_21 rfl (fun H h => ⟨rfl, h⟩)
def tkR (F : Nat → Int32) (r : (Nat × Nat) ⊕ (Nat × Tk)) : Nat → Int32 := match r with
  | .inl e => upd (upd F 21 (nI e.1)) 22 (nI e.2)
  | .inr p => tkF (upd F 23 (nI p.1)) p.2
def isR {α β : Type} (r : α ⊕ β) : Int32 := match r with
  | .inl _ => 0
  | .inr _ => 1
def bgR (F : Nat → Int32) (buf : Nat → Int32) (n : Nat) (t : Tk) (room : Int32) : Nat → Int32 := if room = 0 then upd (upd F 21 4) 22 (nI t.1) else tkF F (tkN buf n t)
def bgI (room : Int32) : Int32 := if room = 0 then 0 else 1
set_option maxRecDepth 100000 in
theorem ct_takes {l : Launch} {Γ : Gm} {A : Nat → Prop} {ρ : State → Prop} (B : Bs l A ρ) {o : Nat} {ad : Nat → Nat} {F : Nat → Int32} {X : Nat → Nat → Int32} {n : Nat} {t : Tk} (hn : n ≤ 800) (hb : TkB n t) (P : PF F n t) (lo hi : Int32) : CtM l Γ A ρ yX4_takes cX4_takes 3 (some .boolean) 2 46 o ad [.ref o, .int lo, .int hi] F X (some (.int (isR (pTake (X 14) n t lo hi)))) (tkR F (pTake (X 14) n t lo hi)) X := by
  refine Ct.of B.1 B.2 (by decide) [some (.ref o), some (.int lo), some (.int hi)] (Nat.le_of_ble_eq_true rfl) rfl ?_
  intro E hE C R
  subst hE
  obtain ⟨hb1, hb2, hb3, hb4⟩ := hb
  refine g_aload_n C dX4_takes_0 rfl rfl ?_
  refine mg_19 C dX4_takes_1 ?_
  refine g_topi (y := nI t.2.2.1) (P.2.2.2.1) ?_
  refine g_iconst (v := 2) C dX4_takes_4 rfl ?_
  refine gN_eq (a := t.2.2.1) (b := 2) 14 C dX4_takes_5 rfl (by omega) (by omega) (fun c5 => ?_) (fun c5 => ?_)
  · refine g_aload_n C dX4_takes_14 rfl rfl ?_
    refine mg_20 C dX4_takes_15 ?_
    refine g_topi (y := nI t.2.2.2) (P.2.2.2.2.1) ?_
    refine g_i2l C dX4_takes_18 ?_
    refine g_iload_n C dX4_takes_19 rfl rfl ?_
    refine g_i2l C dX4_takes_20 ?_
    refine g_iload_n C dX4_takes_21 rfl rfl ?_
    refine g_i2l C dX4_takes_22 ?_
    refine g_pcall (rest := []) 3 C (ct_within B _ _ _) (lw_S q1783 q1784 q107 q1785) ⟨by decide, by decide, by decide +kernel⟩ ⟨Nat.le_of_ble_eq_true rfl, Nat.le_of_ble_eq_true rfl⟩ ⟨Nat.le_of_ble_eq_true rfl, Nat.le_of_ble_eq_true rfl⟩ rfl rfl (Nat.le_of_ble_eq_true rfl) dX4_takes_23 ?_
    refine g_topi (y := rnI (nI t.2.2.2) lo hi) (wi_rn _ lo hi) ?_
    refine g_if_ne 35 C dX4_takes_26 rfl (fun c26 => ?_) (fun c26 => ?_)
    · refine g_aload_n C dX4_takes_35 rfl rfl ?_
      refine g_aload_n C dX4_takes_36 rfl rfl ?_
      refine mg_20 C dX4_takes_37 ?_
      refine g_topi (y := nI t.2.2.2) (P.2.2.2.2.1) ?_
      refine mp_23 C dX4_takes_40 ?_
      refine g_aload_n C dX4_takes_43 rfl rfl ?_
      refine g_mcallv (rest := []) 0 C (ct_advance (F := upd F 23 (nI t.2.2.2)) (X := X) B (n := n) (p0 := (t).2.1) P.1 hn P.2.2.1 (by omega)) (lw_V q1786 q1788 qs46 q107 q1789) (by decide +kernel) ⟨Nat.le_of_ble_eq_true rfl, Nat.le_of_ble_eq_true rfl⟩ ⟨Nat.le_of_ble_eq_true rfl, Nat.le_of_ble_eq_true rfl⟩ rfl rfl (Nat.le_of_ble_eq_true rfl) dX4_takes_44 ?_
      refine g_iconst (v := 1) C dX4_takes_47 rfl ?_
      have er : pTake (X 14) n t lo hi = .inr (t.2.2.2, tkN (X 14) n t) := by rw [pTake, if_pos c5, if_neg c26]
      exact g_zret C R (Nat.le_refl _) (Nat.le_refl _) dX4_takes_48 rfl (fun H h => ⟨by rw [er]; rfl, by rw [er]; exact h⟩)
    · refine g_aload_n C dX4_takes_29 rfl rfl ?_
      refine g_iconst (v := 3) C dX4_takes_30 rfl ?_
      refine g_mcall (rest := []) 1 C (ct_fails (F := F) (X := X) B P.2.2.2.2.2 _) (lw_V q1831 q1833 qs52 q107 q1834) (by decide +kernel) ⟨Nat.le_of_ble_eq_true rfl, Nat.le_of_ble_eq_true rfl⟩ ⟨Nat.le_of_ble_eq_true rfl, Nat.le_of_ble_eq_true rfl⟩ rfl rfl (Nat.le_of_ble_eq_true rfl) dX4_takes_31 ?_
      have er : pTake (X 14) n t lo hi = .inl (3, t.1) := by rw [pTake, if_pos c5, if_pos c26]
      exact g_zret C R (Nat.le_refl _) (Nat.le_refl _) dX4_takes_34 rfl (fun H h => ⟨by rw [er]; rfl, by rw [er]; rw [P.2.1] at h; exact h⟩)
  · refine g_aload_n C dX4_takes_8 rfl rfl ?_
    refine g_iconst (v := 1) C dX4_takes_9 rfl ?_
    refine g_mcall (rest := []) 1 C (ct_fails (F := F) (X := X) B P.2.2.2.2.2 _) (lw_V q1831 q1833 qs52 q107 q1834) (by decide +kernel) ⟨Nat.le_of_ble_eq_true rfl, Nat.le_of_ble_eq_true rfl⟩ ⟨Nat.le_of_ble_eq_true rfl, Nat.le_of_ble_eq_true rfl⟩ rfl rfl (Nat.le_of_ble_eq_true rfl) dX4_takes_10 ?_
    have er : pTake (X 14) n t lo hi = .inl (1, t.1) := if_neg c5
    exact g_zret C R (Nat.le_refl _) (Nat.le_refl _) dX4_takes_13 rfl (fun H h => ⟨by rw [er]; rfl, by rw [er]; rw [P.2.1] at h; exact h⟩)
set_option maxRecDepth 100000 in
theorem ct_begins {l : Launch} {Γ : Gm} {A : Nat → Prop} {ρ : State → Prop} (B : Bs l A ρ) {o : Nat} {ad : Nat → Nat} {F : Nat → Int32} {X : Nat → Nat → Int32} {n : Nat} {t : Tk} (hn : n ≤ 800) (hb : TkB n t) (P : PF F n t) (room : Int32) : CtM l Γ A ρ yX4_begins cX4_begins 2 (some .boolean) 2 46 o ad [.ref o, .int room] F X (some (.int (bgI room))) (bgR F (X 14) n t room) X := by
  refine Ct.of B.1 B.2 (by decide) [some (.ref o), some (.int room)] (Nat.le_of_ble_eq_true rfl) rfl ?_
  intro E hE C R
  subst hE
  obtain ⟨hb1, hb2, hb3, hb4⟩ := hb
  refine g_iload_n C dX4_begins_0 rfl rfl ?_
  refine g_if_ne 10 C dX4_begins_1 rfl (fun c1 => ?_) (fun c1 => ?_)
  · refine g_aload_n C dX4_begins_10 rfl rfl ?_
    refine g_mcallv (rest := []) 0 C (ct_advance (F := F) (X := X) B (n := n) (p0 := (t).2.1) P.1 hn P.2.2.1 (by omega)) (lw_V q1786 q1788 qs46 q107 q1789) (by decide +kernel) ⟨Nat.le_of_ble_eq_true rfl, Nat.le_of_ble_eq_true rfl⟩ ⟨Nat.le_of_ble_eq_true rfl, Nat.le_of_ble_eq_true rfl⟩ rfl rfl (Nat.le_of_ble_eq_true rfl) dX4_begins_11 ?_
    refine g_iconst (v := 1) C dX4_begins_14 rfl ?_
    exact g_zret C R (Nat.le_refl _) (Nat.le_refl _) dX4_begins_15 rfl (fun H h => ⟨by rw [bgI, if_neg c1], by rw [bgR, if_neg c1]; exact h⟩)
  · refine g_aload_n C dX4_begins_4 rfl rfl ?_
    refine g_iconst (v := 4) C dX4_begins_5 rfl ?_
    refine g_mcall (rest := []) 1 C (ct_fails (F := F) (X := X) B P.2.2.2.2.2 _) (lw_V q1831 q1833 qs52 q107 q1834) (by decide +kernel) ⟨Nat.le_of_ble_eq_true rfl, Nat.le_of_ble_eq_true rfl⟩ ⟨Nat.le_of_ble_eq_true rfl, Nat.le_of_ble_eq_true rfl⟩ rfl rfl (Nat.le_of_ble_eq_true rfl) dX4_begins_6 ?_
    exact g_zret C R (Nat.le_refl _) (Nat.le_refl _) dX4_begins_9 rfl (fun H h => ⟨by rw [bgI, if_pos c1], by rw [bgR, if_pos c1]; rw [P.2.1] at h; exact h⟩)
