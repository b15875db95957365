theorem by88 (v s : Int32) : (byI v s).toInt8.toInt32 = byI v s := by
  unfold byI
  apply Int32.toInt_inj.mp
  generalize (v >>> (s &&& 31)).toInt8 = b
  simp
set_option maxRecDepth 100000 in
theorem cc_appendWord {l : Launch} {Γ : Gm} {A : Nat → Prop} {ρ : State → Prop} (B : Bc l Γ A ρ) {h : Hp} {F : Nat → Int32} {X : Nat → Nat → Int32} {nt ns nm ne nv nu ln : Nat} {x : Nat} (R_ : RepC Γ F X nt ns nm ne nv nu h x) (h15 : F 15 = nI ln) (hln : ln + 4 ≤ 800) (word : Int32) : CtE l Γ A ρ yX1_appendWord cX1_appendWord 3 none { frames := 0, cells := 0, slots := 0, locals := 0 } [.ref x, .int word] h (fun v h' => v = none ∧ RepC Γ (upd F 15 (nI (ln + 4))) (setX X 14 (bw4 (X 14) ln word)) nt ns nm ne nv nu h' x) := by
  refine Ct.of B.1.1 B.1.2 (by decide) [some (.ref x), some (.int word), none] (Nat.le_of_ble_eq_true rfl) rfl ?_
  intro E hE C R
  subst hE
  have SC_ := B.2 _ C.r
  obtain ⟨bu, mk, en, hi, sn, so, b7, b8, hs, fsn, fso, Rx, Rb, RK, RE, RH, RS, RA, RO⟩ := id R_
  refine g_bipush (v := 24) C dX1_appendWord_0 rfl ?_
  refine g_istore_n (lv' := [some (.ref x), some (.int word), some (.int 24)]) C dX1_appendWord_2 rfl (by decide) rfl ?_
  refine g_iload_n C dX1_appendWord_3 rfl rfl ?_
  refine g_if_lt 33 C dX1_appendWord_4 rfl (fun c4 => ?_) (fun c4 => ?_)
  · exact absurd c4 (by decide)
  · refine g_aload_n C dX1_appendWord_7 rfl rfl ?_
    refine c_get 0 0 k_X1 in_X1 (by decide) (fun _ h => h) q536 Rx rfl C dX1_appendWord_8 ?_
    refine g_aload_n C dX1_appendWord_11 rfl rfl ?_
    refine g_dup C dX1_appendWord_12 rfl ?_
    refine c_get 0 1 k_X1 in_X1 (by decide) (fun _ h => h) q537 Rx rfl C dX1_appendWord_13 ?_
    refine g_topi (y := nI ln) (h15) ?_
    refine g_dup_x1 C dX1_appendWord_16 rfl rfl ?_
    refine g_iconst (v := 1) C dX1_appendWord_17 rfl ?_
    refine g_iadd C dX1_appendWord_18 ?_
    refine g_topi (y := nI (ln + 1)) (nI_add ln 1) ?_
    refine c_put 0 1 k_X1 in_X1 tyX1 tyX1_ok nmX1 (by decide) (fun _ h => h) q537 rfl (ty := .int) (by decide +kernel) rfl rfl (Nat.le_of_ble_eq_true rfl) Rx C dX1_appendWord_19 ?_
    obtain ⟨hp1, ehp1⟩ : ∃ hh9 : Hp, hh9 = hset h x (50, 0) (.inr (0, [.ref bu, .int (nI (ln + 1)), .int (F 22), .ref mk, .ref en, .ref hi, .ref sn, .int b7, .int b8, .ref so])) := ⟨_, rfl⟩
    refine g_heq (h' := hp1) ehp1.symm ?_
    have php1_x : hp1 x = some ((50, 0), .inr (0, [.ref bu, .int (nI (ln + 1)), .int (F 22), .ref mk, .ref en, .ref hi, .ref sn, .int b7, .int b8, .ref so])) := by rw [ehp1]; exact hset_self _ _ _ _
    have php1_bu : hp1 bu = some ((51, 0), aB Γ 800 (X 14)) := by rw [ehp1]; exact hset_oi Rx Rb
    refine g_iload_n C dX1_appendWord_22 rfl rfl ?_
    refine g_iload_n C dX1_appendWord_23 rfl rfl ?_
    refine g_ishr C dX1_appendWord_24 ?_
    refine g_i2b C dX1_appendWord_25 ?_
    refine g_topi (y := byI word 24) (rfl) ?_
    refine c_bast (i := ln) php1_bu (by omega) (by omega) C dX1_appendWord_26 ?_
    obtain ⟨hp2, ehp2⟩ : ∃ hh9 : Hp, hh9 = hset hp1 bu (51, 0) (aB Γ 800 (upd (X 14) ln ((byI word 24).toInt8.toInt32))) := ⟨_, rfl⟩
    refine g_heq (h' := hp2) ehp2.symm ?_
    have php2_x : hp2 x = some ((50, 0), .inr (0, [.ref bu, .int (nI (ln + 1)), .int (F 22), .ref mk, .ref en, .ref hi, .ref sn, .int b7, .int b8, .ref so])) := by rw [ehp2]; exact hset_io php1_bu php1_x
    have php2_bu : hp2 bu = some ((51, 0), aB Γ 800 (upd (X 14) ln ((byI word 24).toInt8.toInt32))) := by rw [ehp2]; exact hset_self _ _ _ _
    refine g_iinc (x := 24) (v := 16) (lv' := [some (.ref x), some (.int word), some (.int 16)]) C dX1_appendWord_27 rfl (by decide) (by decide) rfl ?_
    refine g_goto 3 C dX1_appendWord_30 rfl ?_
    refine g_iload_n C dX1_appendWord_3 rfl rfl ?_
    refine g_if_lt 33 C dX1_appendWord_4 rfl (fun c4 => ?_) (fun c4 => ?_)
    · exact absurd c4 (by decide)
    · refine g_aload_n C dX1_appendWord_7 rfl rfl ?_
      refine c_get 0 0 k_X1 in_X1 (by decide) (fun _ h => h) q536 php2_x rfl C dX1_appendWord_8 ?_
      refine g_aload_n C dX1_appendWord_11 rfl rfl ?_
      refine g_dup C dX1_appendWord_12 rfl ?_
      refine c_get 0 1 k_X1 in_X1 (by decide) (fun _ h => h) q537 php2_x rfl C dX1_appendWord_13 ?_
      refine g_dup_x1 C dX1_appendWord_16 rfl rfl ?_
      refine g_iconst (v := 1) C dX1_appendWord_17 rfl ?_
      refine g_iadd C dX1_appendWord_18 ?_
      refine g_topi (y := nI (ln + 1 + 1)) (nI_add (ln + 1) 1) ?_
      refine c_put 0 1 k_X1 in_X1 tyX1 tyX1_ok nmX1 (by decide) (fun _ h => h) q537 rfl (ty := .int) (by decide +kernel) rfl rfl (Nat.le_of_ble_eq_true rfl) php2_x C dX1_appendWord_19 ?_
      obtain ⟨hp3, ehp3⟩ : ∃ hh9 : Hp, hh9 = hset hp2 x (50, 0) (.inr (0, [.ref bu, .int (nI (ln + 1 + 1)), .int (F 22), .ref mk, .ref en, .ref hi, .ref sn, .int b7, .int b8, .ref so])) := ⟨_, rfl⟩
      refine g_heq (h' := hp3) ehp3.symm ?_
      have php3_x : hp3 x = some ((50, 0), .inr (0, [.ref bu, .int (nI (ln + 1 + 1)), .int (F 22), .ref mk, .ref en, .ref hi, .ref sn, .int b7, .int b8, .ref so])) := by rw [ehp3]; exact hset_self _ _ _ _
      have php3_bu : hp3 bu = some ((51, 0), aB Γ 800 (upd (X 14) ln ((byI word 24).toInt8.toInt32))) := by rw [ehp3]; exact hset_oi php2_x php2_bu
      refine g_iload_n C dX1_appendWord_22 rfl rfl ?_
      refine g_iload_n C dX1_appendWord_23 rfl rfl ?_
      refine g_ishr C dX1_appendWord_24 ?_
      refine g_i2b C dX1_appendWord_25 ?_
      refine g_topi (y := byI word 16) (rfl) ?_
      refine c_bast (i := ln + 1) php3_bu (by omega) (by omega) C dX1_appendWord_26 ?_
      obtain ⟨hp4, ehp4⟩ : ∃ hh9 : Hp, hh9 = hset hp3 bu (51, 0) (aB Γ 800 (upd (upd (X 14) ln ((byI word 24).toInt8.toInt32)) (ln + 1) ((byI word 16).toInt8.toInt32))) := ⟨_, rfl⟩
      refine g_heq (h' := hp4) ehp4.symm ?_
      have php4_x : hp4 x = some ((50, 0), .inr (0, [.ref bu, .int (nI (ln + 1 + 1)), .int (F 22), .ref mk, .ref en, .ref hi, .ref sn, .int b7, .int b8, .ref so])) := by rw [ehp4]; exact hset_io php3_bu php3_x
      have php4_bu : hp4 bu = some ((51, 0), aB Γ 800 (upd (upd (X 14) ln ((byI word 24).toInt8.toInt32)) (ln + 1) ((byI word 16).toInt8.toInt32))) := by rw [ehp4]; exact hset_self _ _ _ _
      refine g_iinc (x := 16) (v := 8) (lv' := [some (.ref x), some (.int word), some (.int 8)]) C dX1_appendWord_27 rfl (by decide) (by decide) rfl ?_
      refine g_goto 3 C dX1_appendWord_30 rfl ?_
      refine g_iload_n C dX1_appendWord_3 rfl rfl ?_
      refine g_if_lt 33 C dX1_appendWord_4 rfl (fun c4 => ?_) (fun c4 => ?_)
      · exact absurd c4 (by decide)
      · refine g_aload_n C dX1_appendWord_7 rfl rfl ?_
        refine c_get 0 0 k_X1 in_X1 (by decide) (fun _ h => h) q536 php4_x rfl C dX1_appendWord_8 ?_
        refine g_aload_n C dX1_appendWord_11 rfl rfl ?_
        refine g_dup C dX1_appendWord_12 rfl ?_
        refine c_get 0 1 k_X1 in_X1 (by decide) (fun _ h => h) q537 php4_x rfl C dX1_appendWord_13 ?_
        refine g_dup_x1 C dX1_appendWord_16 rfl rfl ?_
        refine g_iconst (v := 1) C dX1_appendWord_17 rfl ?_
        refine g_iadd C dX1_appendWord_18 ?_
        refine g_topi (y := nI (ln + 1 + 1 + 1)) (nI_add (ln + 1 + 1) 1) ?_
        refine c_put 0 1 k_X1 in_X1 tyX1 tyX1_ok nmX1 (by decide) (fun _ h => h) q537 rfl (ty := .int) (by decide +kernel) rfl rfl (Nat.le_of_ble_eq_true rfl) php4_x C dX1_appendWord_19 ?_
        obtain ⟨hp5, ehp5⟩ : ∃ hh9 : Hp, hh9 = hset hp4 x (50, 0) (.inr (0, [.ref bu, .int (nI (ln + 1 + 1 + 1)), .int (F 22), .ref mk, .ref en, .ref hi, .ref sn, .int b7, .int b8, .ref so])) := ⟨_, rfl⟩
        refine g_heq (h' := hp5) ehp5.symm ?_
        have php5_x : hp5 x = some ((50, 0), .inr (0, [.ref bu, .int (nI (ln + 1 + 1 + 1)), .int (F 22), .ref mk, .ref en, .ref hi, .ref sn, .int b7, .int b8, .ref so])) := by rw [ehp5]; exact hset_self _ _ _ _
        have php5_bu : hp5 bu = some ((51, 0), aB Γ 800 (upd (upd (X 14) ln ((byI word 24).toInt8.toInt32)) (ln + 1) ((byI word 16).toInt8.toInt32))) := by rw [ehp5]; exact hset_oi php4_x php4_bu
        refine g_iload_n C dX1_appendWord_22 rfl rfl ?_
        refine g_iload_n C dX1_appendWord_23 rfl rfl ?_
        refine g_ishr C dX1_appendWord_24 ?_
        refine g_i2b C dX1_appendWord_25 ?_
        refine g_topi (y := byI word 8) (rfl) ?_
        refine c_bast (i := ln + 1 + 1) php5_bu (by omega) (by omega) C dX1_appendWord_26 ?_
        obtain ⟨hp6, ehp6⟩ : ∃ hh9 : Hp, hh9 = hset hp5 bu (51, 0) (aB Γ 800 (upd (upd (upd (X 14) ln ((byI word 24).toInt8.toInt32)) (ln + 1) ((byI word 16).toInt8.toInt32)) (ln + 1 + 1) ((byI word 8).toInt8.toInt32))) := ⟨_, rfl⟩
        refine g_heq (h' := hp6) ehp6.symm ?_
        have php6_x : hp6 x = some ((50, 0), .inr (0, [.ref bu, .int (nI (ln + 1 + 1 + 1)), .int (F 22), .ref mk, .ref en, .ref hi, .ref sn, .int b7, .int b8, .ref so])) := by rw [ehp6]; exact hset_io php5_bu php5_x
        have php6_bu : hp6 bu = some ((51, 0), aB Γ 800 (upd (upd (upd (X 14) ln ((byI word 24).toInt8.toInt32)) (ln + 1) ((byI word 16).toInt8.toInt32)) (ln + 1 + 1) ((byI word 8).toInt8.toInt32))) := by rw [ehp6]; exact hset_self _ _ _ _
        refine g_iinc (x := 8) (v := 0) (lv' := [some (.ref x), some (.int word), some (.int 0)]) C dX1_appendWord_27 rfl (by decide) (by decide) rfl ?_
        refine g_goto 3 C dX1_appendWord_30 rfl ?_
        refine g_iload_n C dX1_appendWord_3 rfl rfl ?_
        refine g_if_lt 33 C dX1_appendWord_4 rfl (fun c4 => ?_) (fun c4 => ?_)
        · exact absurd c4 (by decide)
        · refine g_aload_n C dX1_appendWord_7 rfl rfl ?_
          refine c_get 0 0 k_X1 in_X1 (by decide) (fun _ h => h) q536 php6_x rfl C dX1_appendWord_8 ?_
          refine g_aload_n C dX1_appendWord_11 rfl rfl ?_
          refine g_dup C dX1_appendWord_12 rfl ?_
          refine c_get 0 1 k_X1 in_X1 (by decide) (fun _ h => h) q537 php6_x rfl C dX1_appendWord_13 ?_
          refine g_dup_x1 C dX1_appendWord_16 rfl rfl ?_
          refine g_iconst (v := 1) C dX1_appendWord_17 rfl ?_
          refine g_iadd C dX1_appendWord_18 ?_
          refine g_topi (y := nI (ln + 1 + 1 + 1 + 1)) (nI_add (ln + 1 + 1 + 1) 1) ?_
          refine c_put 0 1 k_X1 in_X1 tyX1 tyX1_ok nmX1 (by decide) (fun _ h => h) q537 rfl (ty := .int) (by decide +kernel) rfl rfl (Nat.le_of_ble_eq_true rfl) php6_x C dX1_appendWord_19 ?_
          obtain ⟨hp7, ehp7⟩ : ∃ hh9 : Hp, hh9 = hset hp6 x (50, 0) (.inr (0, [.ref bu, .int (nI (ln + 1 + 1 + 1 + 1)), .int (F 22), .ref mk, .ref en, .ref hi, .ref sn, .int b7, .int b8, .ref so])) := ⟨_, rfl⟩
          refine g_heq (h' := hp7) ehp7.symm ?_
          have php7_x : hp7 x = some ((50, 0), .inr (0, [.ref bu, .int (nI (ln + 1 + 1 + 1 + 1)), .int (F 22), .ref mk, .ref en, .ref hi, .ref sn, .int b7, .int b8, .ref so])) := by rw [ehp7]; exact hset_self _ _ _ _
          have php7_bu : hp7 bu = some ((51, 0), aB Γ 800 (upd (upd (upd (X 14) ln ((byI word 24).toInt8.toInt32)) (ln + 1) ((byI word 16).toInt8.toInt32)) (ln + 1 + 1) ((byI word 8).toInt8.toInt32))) := by rw [ehp7]; exact hset_oi php6_x php6_bu
          refine g_iload_n C dX1_appendWord_22 rfl rfl ?_
          refine g_iload_n C dX1_appendWord_23 rfl rfl ?_
          refine g_ishr C dX1_appendWord_24 ?_
          refine g_i2b C dX1_appendWord_25 ?_
          refine g_topi (y := byI word 0) (rfl) ?_
          refine c_bast (i := ln + 1 + 1 + 1) php7_bu (by omega) (by omega) C dX1_appendWord_26 ?_
          obtain ⟨hp8, ehp8⟩ : ∃ hh9 : Hp, hh9 = hset hp7 bu (51, 0) (aB Γ 800 (upd (upd (upd (upd (X 14) ln ((byI word 24).toInt8.toInt32)) (ln + 1) ((byI word 16).toInt8.toInt32)) (ln + 1 + 1) ((byI word 8).toInt8.toInt32)) (ln + 1 + 1 + 1) ((byI word 0).toInt8.toInt32))) := ⟨_, rfl⟩
          refine g_heq (h' := hp8) ehp8.symm ?_
          have php8_x : hp8 x = some ((50, 0), .inr (0, [.ref bu, .int (nI (ln + 1 + 1 + 1 + 1)), .int (F 22), .ref mk, .ref en, .ref hi, .ref sn, .int b7, .int b8, .ref so])) := by rw [ehp8]; exact hset_io php7_bu php7_x
          have php8_bu : hp8 bu = some ((51, 0), aB Γ 800 (upd (upd (upd (upd (X 14) ln ((byI word 24).toInt8.toInt32)) (ln + 1) ((byI word 16).toInt8.toInt32)) (ln + 1 + 1) ((byI word 8).toInt8.toInt32)) (ln + 1 + 1 + 1) ((byI word 0).toInt8.toInt32))) := by rw [ehp8]; exact hset_self _ _ _ _
          refine g_iinc (x := 0) (v := (-8)) (lv' := [some (.ref x), some (.int word), some (.int (-8))]) C dX1_appendWord_27 rfl (by decide) (by decide) rfl ?_
          refine g_goto 3 C dX1_appendWord_30 rfl ?_
          refine g_iload_n C dX1_appendWord_3 rfl rfl ?_
          refine g_if_lt 33 C dX1_appendWord_4 rfl (fun c4 => ?_) (fun c4 => ?_)
          · have KK : Kp TB h hp8 := (Kp.tr (Kp.tr (Kp.tr (Kp.tr (Kp.tr (Kp.tr (Kp.tr (show Kp _ h hp1 by rw [ehp1]; exact Kp.put Rx (Or.inl rfl)) (show Kp _ hp1 hp2 by rw [ehp2]; exact Kp.put php1_bu (Or.inr rfl))) (show Kp _ hp2 hp3 by rw [ehp3]; exact Kp.put php2_x (Or.inl rfl))) (show Kp _ hp3 hp4 by rw [ehp4]; exact Kp.put php3_bu (Or.inr rfl))) (show Kp _ hp4 hp5 by rw [ehp5]; exact Kp.put php4_x (Or.inl rfl))) (show Kp _ hp5 hp6 by rw [ehp6]; exact Kp.put php5_bu (Or.inr rfl))) (show Kp _ hp6 hp7 by rw [ehp7]; exact Kp.put php6_x (Or.inl rfl))) (show Kp _ hp7 hp8 by rw [ehp8]; exact Kp.put php7_bu (Or.inr rfl)))
            have PB : hp8 bu = some ((51, 0), aB Γ 800 (bw4 (X 14) ln word)) := by rw [php8_bu, by88, by88, by88, by88]; rfl
            exact g_vret C R (Nat.le_of_ble_eq_true rfl) (Nat.le_of_ble_eq_true rfl) dX1_appendWord_33 (fun H hH => ⟨hp8, ⟨rfl, ⟨bu, mk, en, hi, sn, so, b7, b8, hs, fsn, fso, php8_x, PB, RK.k5 KK TB5, RE.k5 KK TB5, RH.k5 KK TB5 (fun z => by rcases z with z | z <;> cases z) (fun z => by rcases z with z | z <;> cases z), RS.k5 KK TB5 (fun z => by rcases z with z | z <;> cases z), RA, RO.k5 KK TB5 (fun z => by rcases z with z | z <;> cases z)⟩⟩, hH⟩)
          · exact absurd c4 (by decide)
