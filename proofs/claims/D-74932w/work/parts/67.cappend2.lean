set_option maxRecDepth 100000 in
theorem cc_append {l : Launch} {Γ : Gm} {A : Nat → Prop} {ρ : State → Prop} (B : Bc l Γ A ρ) {h : Hp} {F : Nat → Int32} {X : Nat → Nat → Int32} {nt ns nm ne nv nu ln : Nat} (J : Iv F X nt ns nm ne nv nu ln) {x : Nat} (R_ : RepC Γ F X nt ns nm ne nv nu h x) (a b c d e : Int32) : CtE l Γ A ρ yX1_append cX1_append 6 (some .int) { frames := 1, cells := 0, slots := 0, locals := 22 } [.ref x, .int a, .int b, .int c, .int d, .int e] h (fun v h' => v = some (.int (if ln ≤ 780 then nI (ln + 4 + 4 + 4 + 4 + 4) else -3)) ∧ RepC Γ (if ln ≤ 780 then upd (upd F 0 0) 15 (nI (ln + 4 + 4 + 4 + 4 + 4)) else upd F 0 0) (if ln ≤ 780 then setX X 14 (ap5 (X 14) ln a b c d e) else X) nt ns nm ne nv nu h' x) := by
  refine Ct.of B.1.1 B.1.2 (by decide) [some (.ref x), some (.int a), some (.int b), some (.int c), some (.int d), some (.int e)] (Nat.le_of_ble_eq_true rfl) rfl ?_
  intro E hE C R
  subst hE
  have SC_ := B.2 _ C.r
  have ht_ := J.lt
  have hs_ := J.ls
  have hm_ := J.lm
  have he_ := J.le
  have hu_ := J.lu
  have hl_ := J.ll
  have hv_ := J.lv
  obtain ⟨bu, mk, en, hi, sn, so, b7, b8, hs, fsn, fso, Rx, Rb, RK, RE, RH, RS, RA, RO⟩ := id R_
  refine g_aload_n C dX1_append_0 rfl rfl ?_
  refine c_get 0 1 k_X1 in_X1 (by decide) (fun _ h => h) q537 Rx rfl C dX1_append_1 ?_
  refine g_topi (y := nI ln) (J.f15) ?_
  refine g_bipush (v := 20) C dX1_append_4 rfl ?_
  refine g_iadd C dX1_append_6 ?_
  refine g_topi (y := nI (ln + 20)) (nI_add ln 20) ?_
  refine g_sipush (v := 800) C dX1_append_7 rfl ?_
  refine gN_le (a := ln + 20) (b := 800) 16 C dX1_append_10 rfl (by omega) (by omega) (fun c10 => ?_) (fun c10 => ?_)
  · refine g_aload_n C dX1_append_16 rfl rfl ?_
    refine g_iload_n C dX1_append_17 rfl rfl ?_
    refine h_callV (rest := []) 1 C (cc_appendWord B R_ (ln := ln) J.f15 (by omega) _) (lw_V q571 q573 qs1 q86 q574) ⟨⟨by decide, by decide, by decide +kernel⟩, ⟨Nat.le_of_ble_eq_true rfl, Nat.le_of_ble_eq_true rfl⟩, ⟨Nat.le_of_ble_eq_true rfl, Nat.le_of_ble_eq_true rfl⟩⟩ (fun _ h => h) (HP.recv C Rx k_X1) rfl rfl (Nat.le_of_ble_eq_true rfl) dX1_append_18 (h_E (fun v1 hp1 r1 => ?_))
    obtain ⟨rfl, R1_⟩ := r1
    have R1z := R1_
    obtain ⟨bu1, mk1, en1, hi1, sn1, so1, b71, b81, hs1, fsn1, fso1, Rx1, Rb1, RK1, RE1, RH1, RS1, RA1, RO1⟩ := id R1_
    refine g_aload_n C dX1_append_21 rfl rfl ?_
    refine g_iload_n C dX1_append_22 rfl rfl ?_
    refine h_callV (rest := []) 1 C (cc_appendWord B R1z (ln := ln + 4) rfl (by omega) _) (lw_V q571 q573 qs1 q86 q574) ⟨⟨by decide, by decide, by decide +kernel⟩, ⟨Nat.le_of_ble_eq_true rfl, Nat.le_of_ble_eq_true rfl⟩, ⟨Nat.le_of_ble_eq_true rfl, Nat.le_of_ble_eq_true rfl⟩⟩ (fun _ h => h) (HP.recv C Rx1 k_X1) rfl rfl (Nat.le_of_ble_eq_true rfl) dX1_append_23 (h_E (fun v2 hp2 r2 => ?_))
    obtain ⟨rfl, R2_⟩ := r2
    have R2z := R2_
    obtain ⟨bu2, mk2, en2, hi2, sn2, so2, b72, b82, hs2, fsn2, fso2, Rx2, Rb2, RK2, RE2, RH2, RS2, RA2, RO2⟩ := id R2_
    refine g_aload_n C dX1_append_26 rfl rfl ?_
    refine g_iload_n C dX1_append_27 rfl rfl ?_
    refine h_callV (rest := []) 1 C (cc_appendWord B R2z (ln := ln + 4 + 4) rfl (by omega) _) (lw_V q571 q573 qs1 q86 q574) ⟨⟨by decide, by decide, by decide +kernel⟩, ⟨Nat.le_of_ble_eq_true rfl, Nat.le_of_ble_eq_true rfl⟩, ⟨Nat.le_of_ble_eq_true rfl, Nat.le_of_ble_eq_true rfl⟩⟩ (fun _ h => h) (HP.recv C Rx2 k_X1) rfl rfl (Nat.le_of_ble_eq_true rfl) dX1_append_28 (h_E (fun v3 hp3 r3 => ?_))
    obtain ⟨rfl, R3_⟩ := r3
    have R3z := R3_
    obtain ⟨bu3, mk3, en3, hi3, sn3, so3, b73, b83, hs3, fsn3, fso3, Rx3, Rb3, RK3, RE3, RH3, RS3, RA3, RO3⟩ := id R3_
    refine g_aload_n C dX1_append_31 rfl rfl ?_
    refine g_iload C dX1_append_32 rfl ?_
    refine h_callV (rest := []) 1 C (cc_appendWord B R3z (ln := ln + 4 + 4 + 4) rfl (by omega) _) (lw_V q571 q573 qs1 q86 q574) ⟨⟨by decide, by decide, by decide +kernel⟩, ⟨Nat.le_of_ble_eq_true rfl, Nat.le_of_ble_eq_true rfl⟩, ⟨Nat.le_of_ble_eq_true rfl, Nat.le_of_ble_eq_true rfl⟩⟩ (fun _ h => h) (HP.recv C Rx3 k_X1) rfl rfl (Nat.le_of_ble_eq_true rfl) dX1_append_34 (h_E (fun v4 hp4 r4 => ?_))
    obtain ⟨rfl, R4_⟩ := r4
    have R4z := R4_
    obtain ⟨bu4, mk4, en4, hi4, sn4, so4, b74, b84, hs4, fsn4, fso4, Rx4, Rb4, RK4, RE4, RH4, RS4, RA4, RO4⟩ := id R4_
    refine g_aload_n C dX1_append_37 rfl rfl ?_
    refine g_iload C dX1_append_38 rfl ?_
    refine h_callV (rest := []) 1 C (cc_appendWord B R4z (ln := ln + 4 + 4 + 4 + 4) rfl (by omega) _) (lw_V q571 q573 qs1 q86 q574) ⟨⟨by decide, by decide, by decide +kernel⟩, ⟨Nat.le_of_ble_eq_true rfl, Nat.le_of_ble_eq_true rfl⟩, ⟨Nat.le_of_ble_eq_true rfl, Nat.le_of_ble_eq_true rfl⟩⟩ (fun _ h => h) (HP.recv C Rx4 k_X1) rfl rfl (Nat.le_of_ble_eq_true rfl) dX1_append_40 (h_E (fun v5 hp5 r5 => ?_))
    obtain ⟨rfl, R5_⟩ := r5
    have R5z := R5_
    obtain ⟨bu5, mk5, en5, hi5, sn5, so5, b75, b85, hs5, fsn5, fso5, Rx5, Rb5, RK5, RE5, RH5, RS5, RA5, RO5⟩ := id R5_
    refine g_aload_n C dX1_append_43 rfl rfl ?_
    refine c_get 0 1 k_X1 in_X1 (by decide) (fun _ h => h) q537 Rx5 rfl C dX1_append_44 ?_
    have R5w := R5z
    simp only [upd_upd, setX_setX, setX_self] at R5w
    exact g_iret C R (Nat.le_of_ble_eq_true rfl) (Nat.le_of_ble_eq_true rfl) dX1_append_47 (fun H hH => ⟨_, ⟨by rw [if_pos (by omega)]; rfl, by rw [if_pos (by omega), if_pos (by omega)]; exact R5w⟩, hH⟩)
  · refine g_bipush (v := (-3)) C dX1_append_13 rfl ?_
    exact g_iret C R (Nat.le_of_ble_eq_true rfl) (Nat.le_of_ble_eq_true rfl) dX1_append_15 (fun H hH => ⟨h, ⟨by rw [if_neg (by omega)], by rw [if_neg (by omega), if_neg (by omega)]; exact R_⟩, hH⟩)
