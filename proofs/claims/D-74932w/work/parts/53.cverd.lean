theorem szI_neg' (x : Int32) : szI (-x) = szI x := by
  by_cases c : x = Int32.minValue
  · subst c; decide
  · have hx := Int32.le_toInt x
    have hx2 := Int32.toInt_lt x
    have hn : x.toInt ≠ -2 ^ 31 := fun z => c (Int32.toInt_inj.mp (by rw [z]; decide))
    have e : (-x).toInt = -x.toInt := by
      rw [Int32.toInt_neg]
      unfold Int.bmod
      simp only
      omega
    unfold szI
    have h0 : (0 : Int32).toInt = 0 := rfl
    by_cases n : x < 0
    · rw [if_pos n, if_neg (fun z => by rw [fa_lt] at z n; omega)]
    · rw [if_neg n]
      by_cases z : -x < 0
      · rw [if_pos z]
        apply Int32.toInt_inj.mp
        rw [Int32.toInt_neg, e]
        unfold Int.bmod
        simp only
        omega
      · rw [if_neg z]
        have : x.toInt = 0 := by rw [fa_lt] at z n; omega
        have hx0 : x = 0 := Int32.toInt_inj.mp (by rw [this]; rfl)
        subst hx0
        decide
theorem szI_sub (a b : Int32) : szI (a - b) = szI (b - a) := by rw [← szI_neg' (b - a), Int32.neg_sub]
theorem orF {a b : Bool} (x : a = false) (y : b = false) : (a || b) = false := by rw [x, y]; rfl
theorem orT1 {a b : Bool} (x : a = true) : (a || b) = true := by rw [x]; rfl
theorem orT2 {a b : Bool} (x : b = true) : (a || b) = true := by rw [x, Bool.or_true]
theorem andF1 {a b : Bool} (x : a = false) : (a && b) = false := by rw [x]; rfl
theorem andF2 {a b : Bool} (x : b = false) : (a && b) = false := by rw [x, Bool.and_false]
theorem andT {a b : Bool} (x : a = true) (y : b = true) : (a && b) = true := by rw [x, y]; rfl
theorem notT {a : Bool} (x : a = true) : (!a) = false := by rw [x]; rfl
theorem notF {a : Bool} (x : a = false) : (!a) = true := by rw [x]; rfl
theorem tn_eq {X : Nat → Nat → Int32} {k tn : Nat} (e : X 1 (151 + k) = nI tn) (h : tn ≤ 8) : tnV X k = tn := by
  unfold tnV
  rw [e, nI_clamp (by omega)]
set_option maxRecDepth 100000 in
theorem cc_hasEmpty {l : Launch} {Γ : Gm} {A : Nat → Prop} {ρ : State → Prop} (B : Bc l Γ A ρ) {h : Hp} {F : Nat → Int32} {X : Nat → Nat → Int32} {nt ns nm ne nv nu ln : Nat} (J : Iv F X nt ns nm ne nv nu ln) {x : Nat} (R_ : RepC Γ F X nt ns nm ne nv nu h x) {k en0 v : Nat} (hk : k < nv) (V : RepV Γ (LdX X nm) (X 1) k h en0 v) : CtF l Γ A ρ yX1_hasEmptyTest cX1_hasEmptyTest 3 (some .boolean) { frames := 0, cells := 0, slots := 0, locals := 0 } [.ref x, .ref v] h (some (.int (b2i (vEm X k (tnV X k))))) h := by
  refine Ct.of B.1.1 B.1.2 (by decide) [some (.ref x), some (.ref v), none] (Nat.le_of_ble_eq_true rfl) rfl ?_
  intro E hE C R
  subst hE
  have SC_ := B.2 _ C.r
  have ht_ := J.lt
  have hs_ := J.ls
  have hm_ := J.lm
  have he_ := J.le
  have hu_ := J.lu
  have hl_ := J.ll
  have hv_ := J.lv
  obtain ⟨bu, mk, en, hi, sn, so, b7, b8, hs, fsn, fso, Rx, Rb, RK, RE, RH, RS, RA, RO⟩ := id R_
  obtain ⟨sl, wl, ma, te, fm, ft, ss, wq, Km, Kma, Kfm, Kte, Kft, Ksl, Kss, Kwl, Kws⟩ := id RK
  obtain ⟨vm, ve, fvm, fve, Vo, Vm, Ve, Vt⟩ := id V
  obtain ⟨sk, hsk, e1⟩ := (J.vi hk).1
  obtain ⟨tn, htn, e151, hts_⟩ := (J.vi hk).2.2.2.2.2
  refine g_iconst (v := 0) C dX1_hasEmptyTest_0 rfl ?_
  refine g_istore_n (lv' := [some (.ref x), some (.ref v), some (.int 0)]) C dX1_hasEmptyTest_1 rfl (by decide) rfl ?_
  refine g_for (P := fun j => vEm X k j = false → G E (HP Γ A h) 0 0 2 [some (.ref x), some (.ref v), some (.int (nI j))] []) tn ?_ ?_ 0 (Nat.zero_le _) (rfl)
  · intro hinv
    refine g_iload_n C dX1_hasEmptyTest_2 rfl rfl ?_
    refine g_aload_n C dX1_hasEmptyTest_3 rfl rfl ?_
    refine c_getN 13 5 k_X15 in_X15 (by decide) (fun _ h => h) q1113 SC_ Vo rfl C dX1_hasEmptyTest_4 ?_
    refine g_topi (y := nI tn) (e151) ?_
    refine gN_ge (a := tn) (b := tn) 27 C dX1_hasEmptyTest_7 rfl (by omega) (by omega) (fun c7 => ?_) (fun c7 => ?_)
    · refine g_iconst (v := 0) C dX1_hasEmptyTest_27 rfl ?_
      exact g_zret C R (Nat.le_of_ble_eq_true rfl) (Nat.le_of_ble_eq_true rfl) dX1_hasEmptyTest_28 rfl (fun H hH => ⟨by rw [tn_eq e151 htn, hinv]; rfl, hH⟩)
    · exfalso; omega
  · intro j hj ih hinv
    replace ih : vEm X k (j + 1) = false → G E (HP Γ A h) 0 0 2 [some (.ref x), some (.ref v), some (.int (nI (j + 1)))] [] := ih
    refine g_iload_n C dX1_hasEmptyTest_2 rfl rfl ?_
    refine g_aload_n C dX1_hasEmptyTest_3 rfl rfl ?_
    refine c_getN 13 5 k_X15 in_X15 (by decide) (fun _ h => h) q1113 SC_ Vo rfl C dX1_hasEmptyTest_4 ?_
    refine g_topi (y := nI tn) (e151) ?_
    refine gN_ge (a := j) (b := tn) 27 C dX1_hasEmptyTest_7 rfl (by omega) (by omega) (fun c7 => ?_) (fun c7 => ?_)
    · exfalso; omega
    · refine g_aload_n C dX1_hasEmptyTest_10 rfl rfl ?_
      refine c_getN 13 3 k_X15 in_X15 (by decide) (fun _ h => h) q1109 SC_ Vo rfl C dX1_hasEmptyTest_11 ?_
      refine g_iload_n C dX1_hasEmptyTest_14 rfl rfl ?_
      refine c_iald (i := j) Vm (by omega) (by omega) C dX1_hasEmptyTest_15 ?_
      refine g_topi (y := X 1 (181 + 8 * k + j)) ((Vt j (by rw [e151, nI_clamp (by omega)]; omega)).1) ?_
      refine g_if_ne 21 C dX1_hasEmptyTest_16 rfl (fun c16 => ?_) (fun c16 => ?_)
      · refine g_inc1 (x := j) (lv' := [some (.ref x), some (.ref v), some (.int (nI (j + 1)))]) C dX1_hasEmptyTest_21 rfl (by decide) rfl ?_
        refine g_goto 2 C dX1_hasEmptyTest_24 rfl ?_
        exact ih (orF hinv (decide_eq_false c16))
      · refine g_iconst (v := 1) C dX1_hasEmptyTest_19 rfl ?_
        exact g_zret C R (Nat.le_of_ble_eq_true rfl) (Nat.le_of_ble_eq_true rfl) dX1_hasEmptyTest_20 rfl (fun H hH => ⟨by rw [tn_eq e151 htn, show vEm X k tn = true from anyN_of hj (decide_eq_true c16)]; rfl, hH⟩)
set_option maxRecDepth 100000 in
theorem cc_hasHigh {l : Launch} {Γ : Gm} {A : Nat → Prop} {ρ : State → Prop} (B : Bc l Γ A ρ) {h : Hp} {F : Nat → Int32} {X : Nat → Nat → Int32} {nt ns nm ne nv nu ln : Nat} (J : Iv F X nt ns nm ne nv nu ln) {x : Nat} (R_ : RepC Γ F X nt ns nm ne nv nu h x) {k en0 v : Nat} (hk : k < nv) (V : RepV Γ (LdX X nm) (X 1) k h en0 v) : CtF l Γ A ρ yX1_hasHighLoad cX1_hasHighLoad 3 (some .boolean) { frames := 4, cells := 0, slots := 0, locals := 85 } [.ref x, .ref v] h (some (.int (b2i (vHa X nm k (tnV X k))))) h := by
  refine Ct.of B.1.1 B.1.2 (by decide) [some (.ref x), some (.ref v), none] (Nat.le_of_ble_eq_true rfl) rfl ?_
  intro E hE C R
  subst hE
  have SC_ := B.2 _ C.r
  have ht_ := J.lt
  have hs_ := J.ls
  have hm_ := J.lm
  have he_ := J.le
  have hu_ := J.lu
  have hl_ := J.ll
  have hv_ := J.lv
  obtain ⟨bu, mk, en, hi, sn, so, b7, b8, hs, fsn, fso, Rx, Rb, RK, RE, RH, RS, RA, RO⟩ := id R_
  obtain ⟨sl, wl, ma, te, fm, ft, ss, wq, Km, Kma, Kfm, Kte, Kft, Ksl, Kss, Kwl, Kws⟩ := id RK
  obtain ⟨vm, ve, fvm, fve, Vo, Vm, Ve, Vt⟩ := id V
  obtain ⟨sk, hsk, e1⟩ := (J.vi hk).1
  obtain ⟨tn, htn, e151, hts_⟩ := (J.vi hk).2.2.2.2.2
  refine g_iconst (v := 0) C dX1_hasHighLoad_0 rfl ?_
  refine g_istore_n (lv' := [some (.ref x), some (.ref v), some (.int 0)]) C dX1_hasHighLoad_1 rfl (by decide) rfl ?_
  refine g_for (P := fun j => vHa X nm k j = false → G E (HP Γ A h) 0 0 2 [some (.ref x), some (.ref v), some (.int (nI j))] []) tn ?_ ?_ 0 (Nat.zero_le _) (rfl)
  · intro hinv
    refine g_iload_n C dX1_hasHighLoad_2 rfl rfl ?_
    refine g_aload_n C dX1_hasHighLoad_3 rfl rfl ?_
    refine c_getN 13 5 k_X15 in_X15 (by decide) (fun _ h => h) q1113 SC_ Vo rfl C dX1_hasHighLoad_4 ?_
    refine g_topi (y := nI tn) (e151) ?_
    refine gN_ge (a := tn) (b := tn) 44 C dX1_hasHighLoad_7 rfl (by omega) (by omega) (fun c7 => ?_) (fun c7 => ?_)
    · refine g_iconst (v := 0) C dX1_hasHighLoad_44 rfl ?_
      exact g_zret C R (Nat.le_of_ble_eq_true rfl) (Nat.le_of_ble_eq_true rfl) dX1_hasHighLoad_45 rfl (fun H hH => ⟨by rw [tn_eq e151 htn, hinv]; rfl, hH⟩)
    · exfalso; omega
  · intro j hj ih hinv
    replace ih : vHa X nm k (j + 1) = false → G E (HP Γ A h) 0 0 2 [some (.ref x), some (.ref v), some (.int (nI (j + 1)))] [] := ih
    refine g_iload_n C dX1_hasHighLoad_2 rfl rfl ?_
    refine g_aload_n C dX1_hasHighLoad_3 rfl rfl ?_
    refine c_getN 13 5 k_X15 in_X15 (by decide) (fun _ h => h) q1113 SC_ Vo rfl C dX1_hasHighLoad_4 ?_
    refine g_topi (y := nI tn) (e151) ?_
    refine gN_ge (a := j) (b := tn) 44 C dX1_hasHighLoad_7 rfl (by omega) (by omega) (fun c7 => ?_) (fun c7 => ?_)
    · exfalso; omega
    · refine g_iconst (v := 2) C dX1_hasHighLoad_10 rfl ?_
      refine g_aload_n C dX1_hasHighLoad_11 rfl rfl ?_
      refine c_get 0 3 k_X1 in_X1 (by decide) (fun _ h => h) q539 Rx rfl C dX1_hasHighLoad_12 ?_
      refine g_aload_n C dX1_hasHighLoad_15 rfl rfl ?_
      refine c_getN 13 3 k_X15 in_X15 (by decide) (fun _ h => h) q1109 SC_ Vo rfl C dX1_hasHighLoad_16 ?_
      refine g_iload_n C dX1_hasHighLoad_19 rfl rfl ?_
      refine c_iald (i := j) Vm (by omega) (by omega) C dX1_hasHighLoad_20 ?_
      refine g_topi (y := X 1 (181 + 8 * k + j)) ((Vt j (by rw [e151, nI_clamp (by omega)]; omega)).1) ?_
      refine h_callV (rest := [.int 2]) 1 C (cc_load B RK hm_ _) (lw_V q1028 q1029 q1030 q87 q1031) ⟨⟨by decide, by decide, by decide +kernel⟩, ⟨Nat.le_of_ble_eq_true rfl, Nat.le_of_ble_eq_true rfl⟩, ⟨Nat.le_of_ble_eq_true rfl, Nat.le_of_ble_eq_true rfl⟩⟩ (fun _ h => h) (HP.recv C Km k_X2) rfl rfl (Nat.le_of_ble_eq_true rfl) dX1_hasHighLoad_21 (h_F ?_)
      refine g_imul C dX1_hasHighLoad_24 ?_
      refine g_aload_n C dX1_hasHighLoad_25 rfl rfl ?_
      refine g_aload_n C dX1_hasHighLoad_26 rfl rfl ?_
      refine h_callV (rest := [.int (2 * (loadN (X 9) (X 1 (181 + 8 * k + j)) nm))]) 1 C (cc_scaleOf B J R_ hk V) (lw_V q1168 q1170 qs22 q86 q1171) ⟨⟨by decide, by decide, by decide +kernel⟩, ⟨Nat.le_of_ble_eq_true rfl, Nat.le_of_ble_eq_true rfl⟩, ⟨Nat.le_of_ble_eq_true rfl, Nat.le_of_ble_eq_true rfl⟩⟩ (fun _ h => h) (HP.recv C Rx k_X1) rfl rfl (Nat.le_of_ble_eq_true rfl) dX1_hasHighLoad_27 (h_E (fun v1 hp1 r1 => ?_))
      obtain ⟨sc1, rfl, rfl, So1⟩ := r1
      refine c_getN 10 3 k_X11 in_X11 (by decide) (fun _ h => h) q823 SC_ So1 rfl C dX1_hasHighLoad_30 ?_
      refine g_icmp_lt 38 C dX1_hasHighLoad_33 rfl (fun c33 => ?_) (fun c33n => ?_)
      · refine g_inc1 (x := j) (lv' := [some (.ref x), some (.ref v), some (.int (nI (j + 1)))]) C dX1_hasHighLoad_38 rfl (by decide) rfl ?_
        refine g_goto 2 C dX1_hasHighLoad_41 rfl ?_
        exact ih (orF hinv (notT (decide_eq_true c33)))
      · refine g_iconst (v := 1) C dX1_hasHighLoad_36 rfl ?_
        exact g_zret C R (Nat.le_of_ble_eq_true rfl) (Nat.le_of_ble_eq_true rfl) dX1_hasHighLoad_37 rfl (fun H hH => ⟨by rw [tn_eq e151 htn, show vHa X nm k tn = true from anyN_of hj (notF (decide_eq_false c33n))]; rfl, hH⟩)
set_option maxRecDepth 100000 in
theorem cc_hasRep {l : Launch} {Γ : Gm} {A : Nat → Prop} {ρ : State → Prop} (B : Bc l Γ A ρ) {h : Hp} {F : Nat → Int32} {X : Nat → Nat → Int32} {nt ns nm ne nv nu ln : Nat} (J : Iv F X nt ns nm ne nv nu ln) {x : Nat} (R_ : RepC Γ F X nt ns nm ne nv nu h x) {k en0 v : Nat} (hk : k < nv) (V : RepV Γ (LdX X nm) (X 1) k h en0 v) : CtF l Γ A ρ yX1_hasRepeated cX1_hasRepeated 4 (some .boolean) { frames := 0, cells := 0, slots := 0, locals := 0 } [.ref x, .ref v] h (some (.int (b2i (vTw X k (tnV X k))))) h := by
  refine Ct.of B.1.1 B.1.2 (by decide) [some (.ref x), some (.ref v), none, none] (Nat.le_of_ble_eq_true rfl) rfl ?_
  intro E hE C R
  subst hE
  have SC_ := B.2 _ C.r
  have ht_ := J.lt
  have hs_ := J.ls
  have hm_ := J.lm
  have he_ := J.le
  have hu_ := J.lu
  have hl_ := J.ll
  have hv_ := J.lv
  obtain ⟨bu, mk, en, hi, sn, so, b7, b8, hs, fsn, fso, Rx, Rb, RK, RE, RH, RS, RA, RO⟩ := id R_
  obtain ⟨sl, wl, ma, te, fm, ft, ss, wq, Km, Kma, Kfm, Kte, Kft, Ksl, Kss, Kwl, Kws⟩ := id RK
  obtain ⟨vm, ve, fvm, fve, Vo, Vm, Ve, Vt⟩ := id V
  obtain ⟨sk, hsk, e1⟩ := (J.vi hk).1
  obtain ⟨tn, htn, e151, hts_⟩ := (J.vi hk).2.2.2.2.2
  refine g_iconst (v := 0) C dX1_hasRepeated_0 rfl ?_
  refine g_istore_n (lv' := [some (.ref x), some (.ref v), some (.int 0), none]) C dX1_hasRepeated_1 rfl (by decide) rfl ?_
  refine g_for (P := fun j => vTw X k j = false → G E (HP Γ A h) 0 0 2 [some (.ref x), some (.ref v), some (.int (nI j)), none] []) tn ?_ ?_ 0 (Nat.zero_le _) (rfl)
  · intro hinv
    refine g_iload_n C dX1_hasRepeated_2 rfl rfl ?_
    refine g_aload_n C dX1_hasRepeated_3 rfl rfl ?_
    refine c_getN 13 5 k_X15 in_X15 (by decide) (fun _ h => h) q1113 SC_ Vo rfl C dX1_hasRepeated_4 ?_
    refine g_topi (y := nI tn) (e151) ?_
    refine gN_ge (a := tn) (b := tn) 55 C dX1_hasRepeated_7 rfl (by omega) (by omega) (fun c7 => ?_) (fun c7 => ?_)
    · refine g_iconst (v := 0) C dX1_hasRepeated_55 rfl ?_
      exact g_zret C R (Nat.le_of_ble_eq_true rfl) (Nat.le_of_ble_eq_true rfl) dX1_hasRepeated_56 rfl (fun H hH => ⟨by rw [tn_eq e151 htn, hinv]; rfl, hH⟩)
    · exfalso; omega
  · intro j hj ih hinv
    replace ih : vTw X k (j + 1) = false → G E (HP Γ A h) 0 0 2 [some (.ref x), some (.ref v), some (.int (nI (j + 1))), none] [] := ih
    refine g_iload_n C dX1_hasRepeated_2 rfl rfl ?_
    refine g_aload_n C dX1_hasRepeated_3 rfl rfl ?_
    refine c_getN 13 5 k_X15 in_X15 (by decide) (fun _ h => h) q1113 SC_ Vo rfl C dX1_hasRepeated_4 ?_
    refine g_topi (y := nI tn) (e151) ?_
    refine gN_ge (a := j) (b := tn) 55 C dX1_hasRepeated_7 rfl (by omega) (by omega) (fun c7 => ?_) (fun c7 => ?_)
    · exfalso; omega
    · refine g_iconst (v := 0) C dX1_hasRepeated_10 rfl ?_
      refine g_istore_n (lv' := [some (.ref x), some (.ref v), some (.int (nI j)), some (.int 0)]) C dX1_hasRepeated_11 rfl (by decide) rfl ?_
      have hinv0 := hinv
      have ih_o := ih
      refine g_for (P := fun u => vTw1 X k j u = false → G E (HP Γ A h) 0 0 12 [some (.ref x), some (.ref v), some (.int (nI j)), some (.int (nI u))] []) j ?_ ?_ 0 (Nat.zero_le _) (rfl)
      · intro hinv
        refine g_iload_n C dX1_hasRepeated_12 rfl rfl ?_
        refine g_iload_n C dX1_hasRepeated_13 rfl rfl ?_
        refine gN_ge (a := j) (b := j) 49 C dX1_hasRepeated_14 rfl (by omega) (by omega) (fun c14 => ?_) (fun c14 => ?_)
        · refine g_inc1 (x := j) (lv' := [some (.ref x), some (.ref v), some (.int (nI (j + 1))), some (.int (nI j))]) C dX1_hasRepeated_49 rfl (by decide) rfl ?_
          refine g_goto 2 C dX1_hasRepeated_52 rfl ?_
          exact g_lv (lv' := [some (.ref x), some (.ref v), some (.int (nI (j + 1))), none]) (fun i w h => by match i, h with | 0, h => exact h | 1, h => exact h | 2, h => exact h | 3, h => cases h) (ih_o (orF hinv0 hinv))
        · exfalso; omega
      · intro u hu ih hinv
        replace ih : vTw1 X k j (u + 1) = false → G E (HP Γ A h) 0 0 12 [some (.ref x), some (.ref v), some (.int (nI j)), some (.int (nI (u + 1)))] [] := ih
        refine g_iload_n C dX1_hasRepeated_12 rfl rfl ?_
        refine g_iload_n C dX1_hasRepeated_13 rfl rfl ?_
        refine gN_ge (a := u) (b := j) 49 C dX1_hasRepeated_14 rfl (by omega) (by omega) (fun c14 => ?_) (fun c14 => ?_)
        · exfalso; omega
        · refine g_aload_n C dX1_hasRepeated_17 rfl rfl ?_
          refine c_getN 13 3 k_X15 in_X15 (by decide) (fun _ h => h) q1109 SC_ Vo rfl C dX1_hasRepeated_18 ?_
          refine g_iload_n C dX1_hasRepeated_21 rfl rfl ?_
          refine c_iald (i := u) Vm (by omega) (by omega) C dX1_hasRepeated_22 ?_
          refine g_topi (y := X 1 (181 + 8 * k + u)) ((Vt u (by rw [e151, nI_clamp (by omega)]; omega)).1) ?_
          refine g_aload_n C dX1_hasRepeated_23 rfl rfl ?_
          refine c_getN 13 3 k_X15 in_X15 (by decide) (fun _ h => h) q1109 SC_ Vo rfl C dX1_hasRepeated_24 ?_
          refine g_iload_n C dX1_hasRepeated_27 rfl rfl ?_
          refine c_iald (i := j) Vm (by omega) (by omega) C dX1_hasRepeated_28 ?_
          refine g_topi (y := X 1 (181 + 8 * k + j)) ((Vt j (by rw [e151, nI_clamp (by omega)]; omega)).1) ?_
          refine g_icmp_ne 43 C dX1_hasRepeated_29 rfl (fun c29 => ?_) (fun c29 => ?_)
          · refine g_inc1 (x := u) (lv' := [some (.ref x), some (.ref v), some (.int (nI j)), some (.int (nI (u + 1)))]) C dX1_hasRepeated_43 rfl (by decide) rfl ?_
            refine g_goto 12 C dX1_hasRepeated_46 rfl ?_
            exact ih (orF hinv (andF1 (decide_eq_false c29)))
          · refine g_aload_n C dX1_hasRepeated_32 rfl rfl ?_
            refine c_getN 13 3 k_X15 in_X15 (by decide) (fun _ h => h) q1109 SC_ Vo rfl C dX1_hasRepeated_33 ?_
            refine g_iload_n C dX1_hasRepeated_36 rfl rfl ?_
            refine c_iald (i := j) Vm (by omega) (by omega) C dX1_hasRepeated_37 ?_
            refine g_topi (y := X 1 (181 + 8 * k + j)) ((Vt j (by rw [e151, nI_clamp (by omega)]; omega)).1) ?_
            refine g_if_eq 43 C dX1_hasRepeated_38 rfl (fun c38 => ?_) (fun c38 => ?_)
            · refine g_inc1 (x := u) (lv' := [some (.ref x), some (.ref v), some (.int (nI j)), some (.int (nI (u + 1)))]) C dX1_hasRepeated_43 rfl (by decide) rfl ?_
              refine g_goto 12 C dX1_hasRepeated_46 rfl ?_
              exact ih (orF hinv (andF2 (notT (decide_eq_true c38))))
            · refine g_iconst (v := 1) C dX1_hasRepeated_41 rfl ?_
              exact g_zret C R (Nat.le_of_ble_eq_true rfl) (Nat.le_of_ble_eq_true rfl) dX1_hasRepeated_42 rfl (fun H hH => ⟨by rw [tn_eq e151 htn, show vTw X k tn = true from anyN_of hj (anyN_of hu (andT (decide_eq_true c29) (notF (decide_eq_false c38))))]; rfl, hH⟩)
theorem allN_nf {p : Nat → Bool} {k n : Nat} (hk : k < n) (h : p k = false) : allN p n = false := by
  cases e : allN p n with
  | false => rfl
  | true => rw [allN_iff.mp e k hk] at h; cases h
theorem ltle {a b : Int32} (h : ¬ a ≤ b) : b < a := by rw [fa_lt]; rw [fa_le] at h; omega
theorem lele {a b : Int32} (h : a ≤ b) : ¬ b < a := by rw [fa_lt]; rw [fa_le] at h; omega
set_option maxRecDepth 100000 in
theorem cc_isSteady {l : Launch} {Γ : Gm} {A : Nat → Prop} {ρ : State → Prop} (B : Bd l Γ A ρ) {h : Hp} {F : Nat → Int32} {X : Nat → Nat → Int32} {nt ns nm ne nv nu ln : Nat} (J : Iv F X nt ns nm ne nv nu ln) {x : Nat} (R_ : RepC Γ F X nt ns nm ne nv nu h x) {k en0 v : Nat} (hk : k < nv) (V : RepV Γ (LdX X nm) (X 1) k h en0 v) : CtF l Γ A ρ yX1_isSteady cX1_isSteady 4 (some .boolean) { frames := 5, cells := 0, slots := 0, locals := 107 } [.ref x, .ref v] h (some (.int (b2i (vAg X nm k (tnV X k))))) h := by
  refine Ct.of B.1.1.1 B.1.1.2 (by decide) [some (.ref x), some (.ref v), none, none] (Nat.le_of_ble_eq_true rfl) rfl ?_
  intro E hE C R
  subst hE
  have SC_ := B.1.2 _ C.r
  have SX_ := B.2 _ C.r
  have ht_ := J.lt
  have hs_ := J.ls
  have hm_ := J.lm
  have he_ := J.le
  have hu_ := J.lu
  have hl_ := J.ll
  have hv_ := J.lv
  obtain ⟨bu, mk, en, hi, sn, so, b7, b8, hs, fsn, fso, Rx, Rb, RK, RE, RH, RS, RA, RO⟩ := id R_
  obtain ⟨sl, wl, ma, te, fm, ft, ss, wq, Km, Kma, Kfm, Kte, Kft, Ksl, Kss, Kwl, Kws⟩ := id RK
  obtain ⟨vm, ve, fvm, fve, Vo, Vm, Ve, Vt⟩ := id V
  obtain ⟨sk, hsk, e1⟩ := (J.vi hk).1
  obtain ⟨tn, htn, e151, hts_⟩ := (J.vi hk).2.2.2.2.2
  refine g_iconst (v := 0) C dX1_isSteady_0 rfl ?_
  refine g_istore_n (lv' := [some (.ref x), some (.ref v), some (.int 0), none]) C dX1_isSteady_1 rfl (by decide) rfl ?_
  refine g_for (P := fun j => vAg X nm k j = true → G E (HP Γ A h) 0 0 2 [some (.ref x), some (.ref v), some (.int (nI j)), none] []) tn ?_ ?_ 0 (Nat.zero_le _) (rfl)
  · intro hinv
    refine g_iload_n C dX1_isSteady_2 rfl rfl ?_
    refine g_aload_n C dX1_isSteady_3 rfl rfl ?_
    refine c_getN 13 5 k_X15 in_X15 (by decide) (fun _ h => h) q1113 SC_ Vo rfl C dX1_isSteady_4 ?_
    refine g_topi (y := nI tn) (e151) ?_
    refine gN_ge (a := tn) (b := tn) 71 C dX1_isSteady_7 rfl (by omega) (by omega) (fun c7 => ?_) (fun c7 => ?_)
    · refine g_iconst (v := 1) C dX1_isSteady_71 rfl ?_
      exact g_zret C R (Nat.le_of_ble_eq_true rfl) (Nat.le_of_ble_eq_true rfl) dX1_isSteady_72 rfl (fun H hH => ⟨by rw [tn_eq e151 htn, hinv]; rfl, hH⟩)
    · exfalso; omega
  · intro j hj ih hinv
    replace ih : vAg X nm k (j + 1) = true → G E (HP Γ A h) 0 0 2 [some (.ref x), some (.ref v), some (.int (nI (j + 1))), none] [] := ih
    refine g_iload_n C dX1_isSteady_2 rfl rfl ?_
    refine g_aload_n C dX1_isSteady_3 rfl rfl ?_
    refine c_getN 13 5 k_X15 in_X15 (by decide) (fun _ h => h) q1113 SC_ Vo rfl C dX1_isSteady_4 ?_
    refine g_topi (y := nI tn) (e151) ?_
    refine gN_ge (a := j) (b := tn) 71 C dX1_isSteady_7 rfl (by omega) (by omega) (fun c7 => ?_) (fun c7 => ?_)
    · exfalso; omega
    · refine g_iconst (v := 0) C dX1_isSteady_10 rfl ?_
      refine g_istore_n (lv' := [some (.ref x), some (.ref v), some (.int (nI j)), some (.int 0)]) C dX1_isSteady_11 rfl (by decide) rfl ?_
      have hinv0 := hinv
      have ih_o := ih
      refine g_for (P := fun u => vAg1 X nm k j u = true → G E (HP Γ A h) 0 0 12 [some (.ref x), some (.ref v), some (.int (nI j)), some (.int (nI u))] []) j ?_ ?_ 0 (Nat.zero_le _) (rfl)
      · intro hinv
        refine g_iload_n C dX1_isSteady_12 rfl rfl ?_
        refine g_iload_n C dX1_isSteady_13 rfl rfl ?_
        refine gN_ge (a := j) (b := j) 65 C dX1_isSteady_14 rfl (by omega) (by omega) (fun c14 => ?_) (fun c14 => ?_)
        · refine g_inc1 (x := j) (lv' := [some (.ref x), some (.ref v), some (.int (nI (j + 1))), some (.int (nI j))]) C dX1_isSteady_65 rfl (by decide) rfl ?_
          refine g_goto 2 C dX1_isSteady_68 rfl ?_
          exact g_lv (lv' := [some (.ref x), some (.ref v), some (.int (nI (j + 1))), none]) (fun i w h => by match i, h with | 0, h => exact h | 1, h => exact h | 2, h => exact h | 3, h => cases h) (ih_o (andT hinv0 hinv))
        · exfalso; omega
      · intro u hu ih hinv
        replace ih : vAg1 X nm k j (u + 1) = true → G E (HP Γ A h) 0 0 12 [some (.ref x), some (.ref v), some (.int (nI j)), some (.int (nI (u + 1)))] [] := ih
        refine g_iload_n C dX1_isSteady_12 rfl rfl ?_
        refine g_iload_n C dX1_isSteady_13 rfl rfl ?_
        refine gN_ge (a := u) (b := j) 65 C dX1_isSteady_14 rfl (by omega) (by omega) (fun c14 => ?_) (fun c14 => ?_)
        · exfalso; omega
        · refine g_aload_n C dX1_isSteady_17 rfl rfl ?_
          refine c_getN 13 3 k_X15 in_X15 (by decide) (fun _ h => h) q1109 SC_ Vo rfl C dX1_isSteady_18 ?_
          refine g_iload_n C dX1_isSteady_21 rfl rfl ?_
          refine c_iald (i := u) Vm (by omega) (by omega) C dX1_isSteady_22 ?_
          refine g_topi (y := X 1 (181 + 8 * k + u)) ((Vt u (by rw [e151, nI_clamp (by omega)]; omega)).1) ?_
          refine g_aload_n C dX1_isSteady_23 rfl rfl ?_
          refine c_getN 13 3 k_X15 in_X15 (by decide) (fun _ h => h) q1109 SC_ Vo rfl C dX1_isSteady_24 ?_
          refine g_iload_n C dX1_isSteady_27 rfl rfl ?_
          refine c_iald (i := j) Vm (by omega) (by omega) C dX1_isSteady_28 ?_
          refine g_topi (y := X 1 (181 + 8 * k + j)) ((Vt j (by rw [e151, nI_clamp (by omega)]; omega)).1) ?_
          refine g_icmp_ne 59 C dX1_isSteady_29 rfl (fun c29 => ?_) (fun c29 => ?_)
          · refine g_inc1 (x := u) (lv' := [some (.ref x), some (.ref v), some (.int (nI j)), some (.int (nI (u + 1)))]) C dX1_isSteady_59 rfl (by decide) rfl ?_
            refine g_goto 12 C dX1_isSteady_62 rfl ?_
            exact ih (andT hinv (orT1 (notF (decide_eq_false c29))))
          · refine g_aload_n C dX1_isSteady_32 rfl rfl ?_
            refine c_getN 13 4 k_X15 in_X15 (by decide) (fun _ h => h) q1111 SC_ Vo rfl C dX1_isSteady_33 ?_
            refine g_iload_n C dX1_isSteady_36 rfl rfl ?_
            refine c_iald (i := u) Ve (by omega) (by omega) C dX1_isSteady_37 ?_
            refine g_topi (y := erT X nm k u) ((Vt u (by rw [e151, nI_clamp (by omega)]; omega)).2) ?_
            refine g_aload_n C dX1_isSteady_38 rfl rfl ?_
            refine c_getN 13 4 k_X15 in_X15 (by decide) (fun _ h => h) q1111 SC_ Vo rfl C dX1_isSteady_39 ?_
            refine g_iload_n C dX1_isSteady_42 rfl rfl ?_
            refine c_iald (i := j) Ve (by omega) (by omega) C dX1_isSteady_43 ?_
            refine g_topi (y := erT X nm k j) ((Vt j (by rw [e151, nI_clamp (by omega)]; omega)).2) ?_
            refine g_isub C dX1_isSteady_44 ?_
            refine h_callS (rest := []) 1 C (cc_abs B.1.1 _ _) (lw_S q1202 q1203 q100 q1204) ⟨⟨by decide, by decide, by decide +kernel⟩, ⟨Nat.le_of_ble_eq_true rfl, Nat.le_of_ble_eq_true rfl⟩, ⟨Nat.le_of_ble_eq_true rfl, Nat.le_of_ble_eq_true rfl⟩⟩ (fun _ h => h) rfl rfl (Nat.le_of_ble_eq_true rfl) dX1_isSteady_45 (h_P ?_)
            refine g_topi (y := szI (erT X nm k j - erT X nm k u)) (szI_sub _ _) ?_
            refine g_aload_n C dX1_isSteady_48 rfl rfl ?_
            refine g_aload_n C dX1_isSteady_49 rfl rfl ?_
            refine g_iload_n C dX1_isSteady_50 rfl rfl ?_
            refine h_callV (rest := [.int (szI (erT X nm k j - erT X nm k u))]) 2 C (cc_tolV B J R_ hk V j (by rw [e151, nI_clamp (by omega)]; omega)) (lw_V q1205 q1207 qs28 q86 q1208) ⟨⟨by decide, by decide, by decide +kernel⟩, ⟨Nat.le_of_ble_eq_true rfl, Nat.le_of_ble_eq_true rfl⟩, ⟨Nat.le_of_ble_eq_true rfl, Nat.le_of_ble_eq_true rfl⟩⟩ (fun _ h => h) (HP.recv C Rx k_X1) rfl rfl (Nat.le_of_ble_eq_true rfl) dX1_isSteady_51 (h_F ?_)
            refine g_icmp_le 59 C dX1_isSteady_54 rfl (fun c54 => ?_) (fun c54 => ?_)
            · refine g_inc1 (x := u) (lv' := [some (.ref x), some (.ref v), some (.int (nI j)), some (.int (nI (u + 1)))]) C dX1_isSteady_59 rfl (by decide) rfl ?_
              refine g_goto 12 C dX1_isSteady_62 rfl ?_
              exact ih (andT hinv (orT2 (notF (decide_eq_false (lele c54)))))
            · refine g_iconst (v := 0) C dX1_isSteady_57 rfl ?_
              exact g_zret C R (Nat.le_of_ble_eq_true rfl) (Nat.le_of_ble_eq_true rfl) dX1_isSteady_58 rfl (fun H hH => ⟨by rw [tn_eq e151 htn, show vAg X nm k tn = false from allN_nf hj (allN_nf hu (orF (notT (decide_eq_true c29)) (notT (decide_eq_true (ltle c54)))))]; rfl, hH⟩)
set_option maxRecDepth 100000 in
theorem cc_verdictOf {l : Launch} {Γ : Gm} {A : Nat → Prop} {ρ : State → Prop} (B : Bd l Γ A ρ) {h : Hp} {F : Nat → Int32} {X : Nat → Nat → Int32} {nt ns nm ne nv nu ln : Nat} (J : Iv F X nt ns nm ne nv nu ln) {x : Nat} (R_ : RepC Γ F X nt ns nm ne nv nu h x) {k en0 v : Nat} (hk : k < nv) (V : RepV Γ (LdX X nm) (X 1) k h en0 v) (less : Int32) : CtF l Γ A ρ yX1_verdictOf cX1_verdictOf 4 (some .int) { frames := 6, cells := 0, slots := 0, locals := 130 } [.ref x, .ref v, .int less] h (some (.int (vdI X nm k less))) h := by
  refine Ct.of B.1.1.1 B.1.1.2 (by decide) [some (.ref x), some (.ref v), some (.int less), none] (Nat.le_of_ble_eq_true rfl) rfl ?_
  intro E hE C R
  subst hE
  have SC_ := B.1.2 _ C.r
  have SX_ := B.2 _ C.r
  have ht_ := J.lt
  have hs_ := J.ls
  have hm_ := J.lm
  have he_ := J.le
  have hu_ := J.lu
  have hl_ := J.ll
  have hv_ := J.lv
  obtain ⟨bu, mk, en, hi, sn, so, b7, b8, hs, fsn, fso, Rx, Rb, RK, RE, RH, RS, RA, RO⟩ := id R_
  obtain ⟨sl, wl, ma, te, fm, ft, ss, wq, Km, Kma, Kfm, Kte, Kft, Ksl, Kss, Kwl, Kws⟩ := id RK
  obtain ⟨vm, ve, fvm, fve, Vo, Vm, Ve, Vt⟩ := id V
  obtain ⟨sk, hsk, e1⟩ := (J.vi hk).1
  obtain ⟨tn, htn, e151, hts_⟩ := (J.vi hk).2.2.2.2.2
  refine g_aload_n C dX1_verdictOf_0 rfl rfl ?_
  refine g_aload_n C dX1_verdictOf_1 rfl rfl ?_
  refine h_callV (rest := []) 1 C (cc_hasEmpty B.1 J R_ hk V) (lw_V q1186 q1188 qs24 q86 q1189) ⟨⟨by decide, by decide, by decide +kernel⟩, ⟨Nat.le_of_ble_eq_true rfl, Nat.le_of_ble_eq_true rfl⟩, ⟨Nat.le_of_ble_eq_true rfl, Nat.le_of_ble_eq_true rfl⟩⟩ (fun _ h => h) (HP.recv C Rx k_X1) rfl rfl (Nat.le_of_ble_eq_true rfl) dX1_verdictOf_2 (h_F ?_)
  refine g_if_ne 10 C dX1_verdictOf_5 rfl (fun c5 => ?_) (fun c5 => ?_)
  · replace c5 := b2i_T c5
    refine g_aload_n C dX1_verdictOf_10 rfl rfl ?_
    refine g_aload_n C dX1_verdictOf_11 rfl rfl ?_
    refine h_callV (rest := []) 1 C (cc_hasHigh B.1 J R_ hk V) (lw_V q1190 q1192 qs25 q86 q1193) ⟨⟨by decide, by decide, by decide +kernel⟩, ⟨Nat.le_of_ble_eq_true rfl, Nat.le_of_ble_eq_true rfl⟩, ⟨Nat.le_of_ble_eq_true rfl, Nat.le_of_ble_eq_true rfl⟩⟩ (fun _ h => h) (HP.recv C Rx k_X1) rfl rfl (Nat.le_of_ble_eq_true rfl) dX1_verdictOf_12 (h_F ?_)
    refine g_if_ne 20 C dX1_verdictOf_15 rfl (fun c15 => ?_) (fun c15 => ?_)
    · replace c15 := b2i_T c15
      refine g_aload_n C dX1_verdictOf_20 rfl rfl ?_
      refine g_aload_n C dX1_verdictOf_21 rfl rfl ?_
      refine h_callV (rest := []) 1 C (cc_hasRep B.1 J R_ hk V) (lw_V q1194 q1196 qs26 q86 q1197) ⟨⟨by decide, by decide, by decide +kernel⟩, ⟨Nat.le_of_ble_eq_true rfl, Nat.le_of_ble_eq_true rfl⟩, ⟨Nat.le_of_ble_eq_true rfl, Nat.le_of_ble_eq_true rfl⟩⟩ (fun _ h => h) (HP.recv C Rx k_X1) rfl rfl (Nat.le_of_ble_eq_true rfl) dX1_verdictOf_22 (h_F ?_)
      refine g_if_ne 30 C dX1_verdictOf_25 rfl (fun c25 => ?_) (fun c25 => ?_)
      · replace c25 := b2i_T c25
        refine g_iconst (v := 0) C dX1_verdictOf_30 rfl ?_
        refine g_istore_n (lv' := [some (.ref x), some (.ref v), some (.int less), some (.int 0)]) C dX1_verdictOf_31 rfl (by decide) rfl ?_
        refine g_for (P := fun j => vPa X nm k less j = true → G E (HP Γ A h) 0 0 32 [some (.ref x), some (.ref v), some (.int less), some (.int (nI j))] []) tn ?_ ?_ 0 (Nat.zero_le _) (rfl)
        · intro hinv
          refine g_iload_n C dX1_verdictOf_32 rfl rfl ?_
          refine g_aload_n C dX1_verdictOf_33 rfl rfl ?_
          refine c_getN 13 5 k_X15 in_X15 (by decide) (fun _ h => h) q1113 SC_ Vo rfl C dX1_verdictOf_34 ?_
          refine g_topi (y := nI tn) (e151) ?_
          refine gN_ge (a := tn) (b := tn) 58 C dX1_verdictOf_37 rfl (by omega) (by omega) (fun c37 => ?_) (fun c37 => ?_)
          · refine g_aload_n C dX1_verdictOf_58 rfl rfl ?_
            refine g_aload_n C dX1_verdictOf_59 rfl rfl ?_
            refine h_callV (rest := []) 1 C (cc_isSteady B J R_ hk V) (lw_V q1244 q1246 qs29 q86 q1247) ⟨⟨by decide, by decide, by decide +kernel⟩, ⟨Nat.le_of_ble_eq_true rfl, Nat.le_of_ble_eq_true rfl⟩, ⟨Nat.le_of_ble_eq_true rfl, Nat.le_of_ble_eq_true rfl⟩⟩ (fun _ h => h) (HP.recv C Rx k_X1) rfl rfl (Nat.le_of_ble_eq_true rfl) dX1_verdictOf_60 (h_F ?_)
            refine g_if_eq 70 C dX1_verdictOf_63 rfl (fun c63 => ?_) (fun c63 => ?_)
            · replace c63 := b2i_F c63
              refine g_iconst (v := 5) C dX1_verdictOf_70 rfl ?_
              exact g_iret C R (Nat.le_of_ble_eq_true rfl) (Nat.le_of_ble_eq_true rfl) dX1_verdictOf_71 (fun H hH => ⟨by unfold vdI; rw [if_neg (by rw [c5]; decide), if_neg (by rw [c15]; decide), if_neg (by rw [c25]; decide), if_neg (by rw [tn_eq e151 htn, hinv]; decide), if_pos c63], hH⟩)
            · replace c63 := b2i_T c63
              refine g_iconst (v := 0) C dX1_verdictOf_66 rfl ?_
              refine g_goto 71 C dX1_verdictOf_67 rfl ?_
              exact g_iret C R (Nat.le_of_ble_eq_true rfl) (Nat.le_of_ble_eq_true rfl) dX1_verdictOf_71 (fun H hH => ⟨by unfold vdI; rw [if_neg (by rw [c5]; decide), if_neg (by rw [c15]; decide), if_neg (by rw [c25]; decide), if_neg (by rw [tn_eq e151 htn, hinv]; decide), if_neg (by rw [c63]; decide)], hH⟩)
          · exfalso; omega
        · intro j hj ih hinv
          replace ih : vPa X nm k less (j + 1) = true → G E (HP Γ A h) 0 0 32 [some (.ref x), some (.ref v), some (.int less), some (.int (nI (j + 1)))] [] := ih
          refine g_iload_n C dX1_verdictOf_32 rfl rfl ?_
          refine g_aload_n C dX1_verdictOf_33 rfl rfl ?_
          refine c_getN 13 5 k_X15 in_X15 (by decide) (fun _ h => h) q1113 SC_ Vo rfl C dX1_verdictOf_34 ?_
          refine g_topi (y := nI tn) (e151) ?_
          refine gN_ge (a := j) (b := tn) 58 C dX1_verdictOf_37 rfl (by omega) (by omega) (fun c37 => ?_) (fun c37 => ?_)
          · exfalso; omega
          · refine g_aload_n C dX1_verdictOf_40 rfl rfl ?_
            refine g_aload_n C dX1_verdictOf_41 rfl rfl ?_
            refine g_iload_n C dX1_verdictOf_42 rfl rfl ?_
            refine g_iload_n C dX1_verdictOf_43 rfl rfl ?_
            refine h_callV (rest := []) 3 C (cc_passes B J R_ hk V j (by rw [e151, nI_clamp (by omega)]; omega) _) (lw_V q1198 q1200 qs27 q86 q1201) ⟨⟨by decide, by decide, by decide +kernel⟩, ⟨Nat.le_of_ble_eq_true rfl, Nat.le_of_ble_eq_true rfl⟩, ⟨Nat.le_of_ble_eq_true rfl, Nat.le_of_ble_eq_true rfl⟩⟩ (fun _ h => h) (HP.recv C Rx k_X1) rfl rfl (Nat.le_of_ble_eq_true rfl) dX1_verdictOf_44 (h_F ?_)
            refine g_if_ne 52 C dX1_verdictOf_47 rfl (fun c47 => ?_) (fun c47 => ?_)
            · replace c47 := b2i_T c47
              refine g_inc1 (x := j) (lv' := [some (.ref x), some (.ref v), some (.int less), some (.int (nI (j + 1)))]) C dX1_verdictOf_52 rfl (by decide) rfl ?_
              refine g_goto 32 C dX1_verdictOf_55 rfl ?_
              exact ih (andT hinv c47)
            · replace c47 := b2i_F c47
              refine g_iconst (v := 4) C dX1_verdictOf_50 rfl ?_
              exact g_iret C R (Nat.le_of_ble_eq_true rfl) (Nat.le_of_ble_eq_true rfl) dX1_verdictOf_51 (fun H hH => ⟨by unfold vdI; rw [if_neg (by rw [c5]; decide), if_neg (by rw [c15]; decide), if_neg (by rw [c25]; decide), if_pos (show vPa X nm k less (tnV X k) = false by rw [tn_eq e151 htn]; exact allN_nf hj c47)], hH⟩)
      · replace c25 := b2i_F c25
        refine g_iconst (v := 3) C dX1_verdictOf_28 rfl ?_
        exact g_iret C R (Nat.le_of_ble_eq_true rfl) (Nat.le_of_ble_eq_true rfl) dX1_verdictOf_29 (fun H hH => ⟨by unfold vdI; rw [if_neg (by rw [c5]; decide), if_neg (by rw [c15]; decide), if_pos c25], hH⟩)
    · replace c15 := b2i_F c15
      refine g_iconst (v := 2) C dX1_verdictOf_18 rfl ?_
      exact g_iret C R (Nat.le_of_ble_eq_true rfl) (Nat.le_of_ble_eq_true rfl) dX1_verdictOf_19 (fun H hH => ⟨by unfold vdI; rw [if_neg (by rw [c5]; decide), if_pos c15], hH⟩)
  · replace c5 := b2i_F c5
    refine g_iconst (v := 1) C dX1_verdictOf_8 rfl ?_
    exact g_iret C R (Nat.le_of_ble_eq_true rfl) (Nat.le_of_ble_eq_true rfl) dX1_verdictOf_9 (fun H hH => ⟨by unfold vdI; rw [if_pos c5], hH⟩)
