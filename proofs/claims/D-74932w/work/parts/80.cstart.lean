set_option maxRecDepth 100000 in
theorem cc_startVisit {l : Launch} {Γ : Gm} {A : Nat → Prop} {ρ : State → Prop} (B : Bd l Γ A ρ) {h : Hp} {F : Nat → Int32} {X : Nat → Nat → Int32} {nt ns nm ne nv nu ln : Nat} (J : Iv F X nt ns nm ne nv nu ln) {x : Nat} (R_ : RepC Γ F X nt ns nm ne nv nu h x) (scale day : Int32) : CtE l Γ A ρ yX1_startVisit cX1_startVisit 7 (some .int) { frames := 9, cells := 132, slots := 3321, locals := 213 } [.ref x, .int scale, .int day] h (fun v h' => v = some (.int (svI (X 1) ns nv scale day)) ∧ ∃ nv' nu', RepC Γ (chF F nu (svI (X 1) ns nv scale day)) (chX X nu (svI (X 1) ns nv scale day) (svR (X 1) nv scale day)) nt ns nm ne nv' nu' h' x) := by
  refine Ct.of B.1.1.1 B.1.1.2 (by decide) [some (.ref x), some (.int scale), some (.int day), none, none, none, none] (Nat.le_of_ble_eq_true rfl) rfl ?_
  intro E hE C R
  subst hE
  have SC_ := B.1.2 _ C.r
  have SX_ := B.2 _ C.r
  have ht_ := J.lt
  have hs_ := J.ls
  have hm_ := J.lm
  have he_ := J.le
  have hu_ := J.lu
  have hl_ := J.ll
  have hv_ := J.lv
  obtain ⟨bu, mk, en, hi, sn, so, b7, b8, hs, fsn, fso, Rx, Rb, RK, RE, RH, RS, RA, RO⟩ := id R_
  obtain ⟨sl, wl, ma, te, fm, ft, ss, wq, Km, Kma, Kfm, Kte, Kft, Ksl, Kss, Kwl, Kws⟩ := id RK
  obtain ⟨vl, el, vs, es, Ee, E0, Evl, Eel, Evs, Ees⟩ := id RE
  refine g_aload_n C dX1_startVisit_0 rfl rfl ?_
  refine g_iload_n C dX1_startVisit_1 rfl rfl ?_
  refine h_callV (rest := []) 1 C (cc_isScale B.1 J R_ _) (lw_V q1011 q1013 qs16 q86 q1014) ⟨⟨by decide, by decide, by decide +kernel⟩, ⟨Nat.le_of_ble_eq_true rfl, Nat.le_of_ble_eq_true rfl⟩, ⟨Nat.le_of_ble_eq_true rfl, Nat.le_of_ble_eq_true rfl⟩⟩ (fun _ h => h) (HP.recv C Rx k_X1) rfl rfl (Nat.le_of_ble_eq_true rfl) dX1_startVisit_2 (h_F ?_)
  refine g_if_eq 15 C dX1_startVisit_5 rfl (fun c5 => ?_) (fun c5 => ?_)
  · refine g_iconst (v := (-1)) C dX1_startVisit_15 rfl ?_
    have er9 : svI (X 1) ns nv scale day = -1 := by rw [svI, atI_out c5]
    exact g_iret C R (Nat.le_of_ble_eq_true rfl) (Nat.le_of_ble_eq_true rfl) dX1_startVisit_16 (fun H hH => ⟨h, ⟨by rw [er9], nv, nu, by rw [chF, chX, er9, if_neg (by decide), if_neg (by decide)]; exact R_⟩, hH⟩)
  · obtain ⟨j_scale, hj_scale, rfl⟩ := ixI_in (by omega) c5
    refine g_iload_n C dX1_startVisit_8 rfl rfl ?_
    refine h_callS (rest := []) 1 C (cc_isDay B.1.1 _ _) (lw_S q1060 q1061 q86 q1062) ⟨⟨by decide, by decide, by decide +kernel⟩, ⟨Nat.le_of_ble_eq_true rfl, Nat.le_of_ble_eq_true rfl⟩, ⟨Nat.le_of_ble_eq_true rfl, Nat.le_of_ble_eq_true rfl⟩⟩ (fun _ h => h) rfl rfl (Nat.le_of_ble_eq_true rfl) dX1_startVisit_9 (h_P ?_)
    refine g_if_ne 17 C dX1_startVisit_12 rfl (fun c12 => ?_) (fun c12 => ?_)
    · obtain ⟨j_day, hj_day, rfl⟩ := ixI_in (by omega) c12
      refine g_iconst (v := 0) C dX1_startVisit_17 rfl ?_
      refine g_istore_n (lv' := [some (.ref x), some (.int (nI j_scale)), some (.int (nI j_day)), some (.int 0), none, none, none]) C dX1_startVisit_18 rfl (by decide) rfl ?_
      refine g_iconst (v := 0) C dX1_startVisit_19 rfl ?_
      refine g_istore (lv' := [some (.ref x), some (.int (nI j_scale)), some (.int (nI j_day)), some (.int 0), some (.int 0), none, none]) C dX1_startVisit_20 (by decide) rfl ?_
      refine g_iconst (v := 0) C dX1_startVisit_22 rfl ?_
      refine g_istore (lv' := [some (.ref x), some (.int (nI j_scale)), some (.int (nI j_day)), some (.int 0), some (.int 0), some (.int 0), none]) C dX1_startVisit_23 (by decide) rfl ?_
      refine g_lveq (lv' := [some (.ref x), some (.int (nI j_scale)), some (.int (nI j_day)), some (.int (b2i (svOp (X 1) (nI j_scale) 0))), some (.int (b2i (svSe (X 1) (nI j_scale) 0))), some (.int 0), none]) rfl ?_
      refine g_for (P := fun j => svBad (X 1) (nI j_scale) (nI j_day) j = false → G E (HP Γ A h) 0 0 25 [some (.ref x), some (.int (nI j_scale)), some (.int (nI j_day)), some (.int (b2i (svOp (X 1) (nI j_scale) j))), some (.int (b2i (svSe (X 1) (nI j_scale) j))), some (.int (nI j)), none] []) nv ?_ ?_ 0 (Nat.zero_le _) (rfl)
      · intro hinv
        refine g_iload C dX1_startVisit_25 rfl ?_
        refine g_aload_n C dX1_startVisit_27 rfl rfl ?_
        refine c_get 0 4 k_X1 in_X1 (by decide) (fun _ h => h) q540 Rx rfl C dX1_startVisit_28 ?_
        refine c_getN 2 0 k_X3 in_X3 (by decide) (fun _ h => h) q522 SC_ Ee rfl C dX1_startVisit_31 ?_
        refine h_callV (rest := [.int (nI nv)]) 0 C (cc_size B.1 Evl) (lw_V q939 q770 q771 q90 q772) ⟨⟨by decide, by decide, by decide +kernel⟩, ⟨Nat.le_of_ble_eq_true rfl, Nat.le_of_ble_eq_true rfl⟩, ⟨Nat.le_of_ble_eq_true rfl, Nat.le_of_ble_eq_true rfl⟩⟩ (fun _ h => h) (Evl.recv C) rfl rfl (Nat.le_of_ble_eq_true rfl) dX1_startVisit_34 (h_F ?_)
        refine gN_ge (a := nv) (b := nv) 120 C dX1_startVisit_37 rfl (by omega) (by omega) (fun c37 => ?_) (fun c37 => ?_)
        · refine g_iload_n C dX1_startVisit_120 rfl rfl ?_
          refine g_if_eq 127 C dX1_startVisit_121 rfl (fun c121 => ?_) (fun c121 => ?_)
          · replace c121 := b2i_F c121
            refine g_aload_n C dX1_startVisit_127 rfl rfl ?_
            refine c_get 0 4 k_X1 in_X1 (by decide) (fun _ h => h) q540 Rx rfl C dX1_startVisit_128 ?_
            refine c_getN 2 0 k_X3 in_X3 (by decide) (fun _ h => h) q522 SC_ Ee rfl C dX1_startVisit_131 ?_
            refine h_callV (rest := []) 0 C (cc_size B.1 Evl) (lw_V q939 q770 q771 q90 q772) ⟨⟨by decide, by decide, by decide +kernel⟩, ⟨Nat.le_of_ble_eq_true rfl, Nat.le_of_ble_eq_true rfl⟩, ⟨Nat.le_of_ble_eq_true rfl, Nat.le_of_ble_eq_true rfl⟩⟩ (fun _ h => h) (Evl.recv C) rfl rfl (Nat.le_of_ble_eq_true rfl) dX1_startVisit_134 (h_F ?_)
            refine g_bipush (v := 30) C dX1_startVisit_137 rfl ?_
            refine gN_ne (a := nv) (b := 30) 145 C dX1_startVisit_139 rfl (by omega) (by omega) (fun c139 => ?_) (fun c139 => ?_)
            · refine g_aload_n C dX1_startVisit_145 rfl rfl ?_
              refine h_callV (rest := []) 0 C (cc_keep B.1 J R_) (lw_V q1069 q1071 qs19 q86 q1072) ⟨⟨by decide, by decide, by decide +kernel⟩, ⟨Nat.le_of_ble_eq_true rfl, Nat.le_of_ble_eq_true rfl⟩, ⟨Nat.le_of_ble_eq_true rfl, Nat.le_of_ble_eq_true rfl⟩⟩ (fun _ h => h) (HP.recv C Rx k_X1) rfl rfl (Nat.le_of_ble_eq_true rfl) dX1_startVisit_146 (h_E (fun v1 hp1 r1 => ?_))
              obtain ⟨rfl, R1_, K0_⟩ := r1
              have R1z := R1_
              have J1 := J.keep
              obtain ⟨bu1, mk1, en1, hi1, sn1, so1, b71, b81, hs1, fsn1, fso1, Rx1, Rb1, RK1, RE1, RH1, RS1, RA1, RO1⟩ := id R1_
              replace RE1 : RepE Γ (LdX X nm) (X 1) nv ne hp1 en1 := RE1
              obtain ⟨vl1, el1, vs1, es1, Ee1, E01, Evl1, Eel1, Evs1, Ees1⟩ := id RE1
              refine g_aload_n C dX1_startVisit_149 rfl rfl ?_
              refine c_get 0 4 k_X1 in_X1 (by decide) (fun _ h => h) q540 Rx1 rfl C dX1_startVisit_150 ?_
              refine c_getN 2 0 k_X3 in_X3 (by decide) (fun _ h => h) q522 SC_ Ee1 rfl C dX1_startVisit_153 ?_
              refine c_new (fs := [.int 0, .int 0, .int 0, .null, .null, .int 0, .int 0]) (100 + nv, en1) 13 k_X15 in_X15 tyX15 tyX15_ok q1064 q1097 q122 SC_ dfsX15 (Nat.le_of_ble_eq_true rfl) (Nat.le_of_ble_eq_true rfl) C dX1_startVisit_156 (fun q nq => ?_)
              obtain ⟨hp2, ehp2⟩ : ∃ hh9 : Hp, hh9 = hset hp1 q (100 + nv, en1) (.inr (13, [.int 0, .int 0, .int 0, .null, .null, .int 0, .int 0])) := ⟨_, rfl⟩
              refine g_heq (h' := hp2) ehp2.symm ?_
              have php2_q : hp2 q = some ((100 + nv, en1), .inr (13, [.int 0, .int 0, .int 0, .null, .null, .int 0, .int 0])) := by rw [ehp2]; exact hset_self _ _ _ _
              refine g_dup C dX1_startVisit_159 rfl ?_
              refine g_iload_n C dX1_startVisit_160 rfl rfl ?_
              refine g_iload_n C dX1_startVisit_161 rfl rfl ?_
              refine g_iload C dX1_startVisit_162 rfl ?_
              refine g_if_eq 171 C dX1_startVisit_164 rfl (fun c164 => ?_) (fun c164 => ?_)
              · replace c164 := b2i_F c164
                refine g_iconst (v := 1) C dX1_startVisit_171 rfl ?_
                refine h_callI (rest := [.ref q, .ref vl1]) 3 C (cc_vinit B.1 php2_q _ _ _) (lw_meth q1100) q122 q1147 q1099 rfl ⟨⟨by decide, by decide, by decide +kernel⟩, ⟨Nat.le_of_ble_eq_true rfl, Nat.le_of_ble_eq_true rfl⟩, ⟨Nat.le_of_ble_eq_true rfl, Nat.le_of_ble_eq_true rfl⟩⟩ (fun _ h => h) rfl rfl (Nat.le_of_ble_eq_true rfl) dX1_startVisit_172 (h_E (fun v3 hp3 r3 => ?_))
                obtain ⟨rfl, mq, eq, nmq, neq, Vq, Vm, Ve, KV⟩ := r3
                have Z2 : Kp T0 hp1 hp3 := by have z := KV; rw [ehp2] at z; exact Kq.new nq z
                have LV2 := Evl1.kp0 Z2
                refine h_callV (rest := []) 1 C (cc_add B.1 Cno13 LV2 Vq (by omega)) (lw_V q982 q837 q838 q90 q839) ⟨⟨by decide, by decide, by decide +kernel⟩, ⟨Nat.le_of_ble_eq_true rfl, Nat.le_of_ble_eq_true rfl⟩, ⟨Nat.le_of_ble_eq_true rfl, Nat.le_of_ble_eq_true rfl⟩⟩ (fun _ h => h) (LV2.recv C) rfl rfl (Nat.le_of_ble_eq_true rfl) dX1_startVisit_175 (h_E (fun v4 hp4 r4 => ?_))
                obtain ⟨rfl, LA, KA⟩ := r4
                have n50 : ∀ (a b : Nat), a ≠ 31 → a ≠ 32 → ¬ TL (31, en1) ((a, b) : Tg) := fun a b h1 h2 z => by rcases z with z | z; exact h1 (Prod.mk.inj z).1; exact h2 (Prod.mk.inj z).1
                have Rx4 := KA.get (Z2.get0 Rx1) (n50 _ _ (by decide) (by decide))
                have Ee4 := KA.get (Z2.get0 Ee1) (n50 _ _ (by decide) (by decide))
                refine g_pop C dX1_startVisit_178 rfl ?_
                refine g_aload_n C dX1_startVisit_179 rfl rfl ?_
                refine c_get 0 4 k_X1 in_X1 (by decide) (fun _ h => h) q540 Rx4 rfl C dX1_startVisit_180 ?_
                refine c_getN 2 0 k_X3 in_X3 (by decide) (fun _ h => h) q522 SC_ Ee4 rfl C dX1_startVisit_183 ?_
                refine h_callV (rest := []) 0 C (cc_size B.1 LA) (lw_V q939 q770 q771 q90 q772) ⟨⟨by decide, by decide, by decide +kernel⟩, ⟨Nat.le_of_ble_eq_true rfl, Nat.le_of_ble_eq_true rfl⟩, ⟨Nat.le_of_ble_eq_true rfl, Nat.le_of_ble_eq_true rfl⟩⟩ (fun _ h => h) (LA.recv C) rfl rfl (Nat.le_of_ble_eq_true rfl) dX1_startVisit_186 (h_F ?_)
                refine g_iconst (v := 1) C dX1_startVisit_189 rfl ?_
                refine g_isub C dX1_startVisit_190 ?_
                refine g_topi (y := nI nv) (nI_s1 nv) ?_
                have er9 : svI (X 1) ns nv (nI j_scale) (nI j_day) = nI nv := by rw [svI, atI_in hj_scale (by omega), atI_in hj_day (by omega), svC, if_neg (by rw [hinv]; decide), if_neg (by rw [c121]; decide), if_neg c139]
                have KK : Kp (TL (31, en1)) hp1 hp4 := (Kp.up0 Z2).tr KA
                have Vq4 : hp4 q = some ((100 + nv, en1), .inr (13, [.int (nI j_scale), .int (nI j_day), .int (b2i (svSe (X 1) (nI j_scale) nv) + 1), .ref mq, .ref eq, .int 0, .int (-2)])) := by rw [c164]; exact KA.get Vq (n50 _ _ (by omega) (by omega))
                have RE2 := RepE.svR (show nv < 30 by omega) he_ (fun i hi => by obtain ⟨t8, ht8, et8, -⟩ := (J.vi hi).2.2.2.2.2; rw [et8, nI_clamp (by omega)]; exact ht8) Ee1 Eel1 Evs1 Ees1 KK LA Vq4 (KA.get Vm (n50 _ _ (by decide) (by decide))) (KA.get Ve (n50 _ _ (by decide) (by decide)))
                have RC := RepC.rowT Rx1 Rb1 RK1 RH1 RS1 RA1 RO1 KK (TOw_a en1).E (fun r9 n9 e9 ne9 E9 => E9.kO KK ne9 (TOw_a en1)) RE2
                exact g_iret C R (Nat.le_of_ble_eq_true rfl) (Nat.le_of_ble_eq_true rfl) dX1_startVisit_191 (fun H hH => ⟨hp4, ⟨by rw [er9], nv + 1, kpN nu, by rw [er9]; unfold chF chX; rw [if_pos (nI_pos' (by omega)), if_pos (nI_pos' (by omega))]; exact RC⟩, hH⟩)
              · replace c164 := b2i_T c164
                refine g_iconst (v := 2) C dX1_startVisit_167 rfl ?_
                refine g_goto 172 C dX1_startVisit_168 rfl ?_
                refine h_callI (rest := [.ref q, .ref vl1]) 3 C (cc_vinit B.1 php2_q _ _ _) (lw_meth q1100) q122 q1147 q1099 rfl ⟨⟨by decide, by decide, by decide +kernel⟩, ⟨Nat.le_of_ble_eq_true rfl, Nat.le_of_ble_eq_true rfl⟩, ⟨Nat.le_of_ble_eq_true rfl, Nat.le_of_ble_eq_true rfl⟩⟩ (fun _ h => h) rfl rfl (Nat.le_of_ble_eq_true rfl) dX1_startVisit_172 (h_E (fun v3 hp3 r3 => ?_))
                obtain ⟨rfl, mq, eq, nmq, neq, Vq, Vm, Ve, KV⟩ := r3
                have Z2 : Kp T0 hp1 hp3 := by have z := KV; rw [ehp2] at z; exact Kq.new nq z
                have LV2 := Evl1.kp0 Z2
                refine h_callV (rest := []) 1 C (cc_add B.1 Cno13 LV2 Vq (by omega)) (lw_V q982 q837 q838 q90 q839) ⟨⟨by decide, by decide, by decide +kernel⟩, ⟨Nat.le_of_ble_eq_true rfl, Nat.le_of_ble_eq_true rfl⟩, ⟨Nat.le_of_ble_eq_true rfl, Nat.le_of_ble_eq_true rfl⟩⟩ (fun _ h => h) (LV2.recv C) rfl rfl (Nat.le_of_ble_eq_true rfl) dX1_startVisit_175 (h_E (fun v4 hp4 r4 => ?_))
                obtain ⟨rfl, LA, KA⟩ := r4
                have n50 : ∀ (a b : Nat), a ≠ 31 → a ≠ 32 → ¬ TL (31, en1) ((a, b) : Tg) := fun a b h1 h2 z => by rcases z with z | z; exact h1 (Prod.mk.inj z).1; exact h2 (Prod.mk.inj z).1
                have Rx4 := KA.get (Z2.get0 Rx1) (n50 _ _ (by decide) (by decide))
                have Ee4 := KA.get (Z2.get0 Ee1) (n50 _ _ (by decide) (by decide))
                refine g_pop C dX1_startVisit_178 rfl ?_
                refine g_aload_n C dX1_startVisit_179 rfl rfl ?_
                refine c_get 0 4 k_X1 in_X1 (by decide) (fun _ h => h) q540 Rx4 rfl C dX1_startVisit_180 ?_
                refine c_getN 2 0 k_X3 in_X3 (by decide) (fun _ h => h) q522 SC_ Ee4 rfl C dX1_startVisit_183 ?_
                refine h_callV (rest := []) 0 C (cc_size B.1 LA) (lw_V q939 q770 q771 q90 q772) ⟨⟨by decide, by decide, by decide +kernel⟩, ⟨Nat.le_of_ble_eq_true rfl, Nat.le_of_ble_eq_true rfl⟩, ⟨Nat.le_of_ble_eq_true rfl, Nat.le_of_ble_eq_true rfl⟩⟩ (fun _ h => h) (LA.recv C) rfl rfl (Nat.le_of_ble_eq_true rfl) dX1_startVisit_186 (h_F ?_)
                refine g_iconst (v := 1) C dX1_startVisit_189 rfl ?_
                refine g_isub C dX1_startVisit_190 ?_
                refine g_topi (y := nI nv) (nI_s1 nv) ?_
                have er9 : svI (X 1) ns nv (nI j_scale) (nI j_day) = nI nv := by rw [svI, atI_in hj_scale (by omega), atI_in hj_day (by omega), svC, if_neg (by rw [hinv]; decide), if_neg (by rw [c121]; decide), if_neg c139]
                have KK : Kp (TL (31, en1)) hp1 hp4 := (Kp.up0 Z2).tr KA
                have Vq4 : hp4 q = some ((100 + nv, en1), .inr (13, [.int (nI j_scale), .int (nI j_day), .int (b2i (svSe (X 1) (nI j_scale) nv) + 1), .ref mq, .ref eq, .int 0, .int (-2)])) := by rw [c164]; exact KA.get Vq (n50 _ _ (by omega) (by omega))
                have RE2 := RepE.svR (show nv < 30 by omega) he_ (fun i hi => by obtain ⟨t8, ht8, et8, -⟩ := (J.vi hi).2.2.2.2.2; rw [et8, nI_clamp (by omega)]; exact ht8) Ee1 Eel1 Evs1 Ees1 KK LA Vq4 (KA.get Vm (n50 _ _ (by decide) (by decide))) (KA.get Ve (n50 _ _ (by decide) (by decide)))
                have RC := RepC.rowT Rx1 Rb1 RK1 RH1 RS1 RA1 RO1 KK (TOw_a en1).E (fun r9 n9 e9 ne9 E9 => E9.kO KK ne9 (TOw_a en1)) RE2
                exact g_iret C R (Nat.le_of_ble_eq_true rfl) (Nat.le_of_ble_eq_true rfl) dX1_startVisit_191 (fun H hH => ⟨hp4, ⟨by rw [er9], nv + 1, kpN nu, by rw [er9]; unfold chF chX; rw [if_pos (nI_pos' (by omega)), if_pos (nI_pos' (by omega))]; exact RC⟩, hH⟩)
            · refine g_bipush (v := (-3)) C dX1_startVisit_142 rfl ?_
              have er9 : svI (X 1) ns nv (nI j_scale) (nI j_day) = -3 := by rw [svI, atI_in hj_scale (by omega), atI_in hj_day (by omega), svC, if_neg (by rw [hinv]; decide), if_neg (by rw [c121]; decide), if_pos c139]
              exact g_iret C R (Nat.le_of_ble_eq_true rfl) (Nat.le_of_ble_eq_true rfl) dX1_startVisit_144 (fun H hH => ⟨h, ⟨by rw [er9], nv, nu, by rw [chF, chX, er9, if_neg (by decide), if_neg (by decide)]; exact R_⟩, hH⟩)
          · replace c121 := b2i_T c121
            refine g_bipush (v := (-2)) C dX1_startVisit_124 rfl ?_
            have er9 : svI (X 1) ns nv (nI j_scale) (nI j_day) = -2 := by rw [svI, atI_in hj_scale (by omega), atI_in hj_day (by omega), svC, if_neg (by rw [hinv]; decide), if_pos c121]
            exact g_iret C R (Nat.le_of_ble_eq_true rfl) (Nat.le_of_ble_eq_true rfl) dX1_startVisit_126 (fun H hH => ⟨h, ⟨by rw [er9], nv, nu, by rw [chF, chX, er9, if_neg (by decide), if_neg (by decide)]; exact R_⟩, hH⟩)
        · exfalso; omega
      · intro j hj ih hinv
        replace ih : svBad (X 1) (nI j_scale) (nI j_day) (j + 1) = false → G E (HP Γ A h) 0 0 25 [some (.ref x), some (.int (nI j_scale)), some (.int (nI j_day)), some (.int (b2i (svOp (X 1) (nI j_scale) (j + 1)))), some (.int (b2i (svSe (X 1) (nI j_scale) (j + 1)))), some (.int (nI (j + 1))), none] [] := ih
        refine g_iload C dX1_startVisit_25 rfl ?_
        refine g_aload_n C dX1_startVisit_27 rfl rfl ?_
        refine c_get 0 4 k_X1 in_X1 (by decide) (fun _ h => h) q540 Rx rfl C dX1_startVisit_28 ?_
        refine c_getN 2 0 k_X3 in_X3 (by decide) (fun _ h => h) q522 SC_ Ee rfl C dX1_startVisit_31 ?_
        refine h_callV (rest := [.int (nI j)]) 0 C (cc_size B.1 Evl) (lw_V q939 q770 q771 q90 q772) ⟨⟨by decide, by decide, by decide +kernel⟩, ⟨Nat.le_of_ble_eq_true rfl, Nat.le_of_ble_eq_true rfl⟩, ⟨Nat.le_of_ble_eq_true rfl, Nat.le_of_ble_eq_true rfl⟩⟩ (fun _ h => h) (Evl.recv C) rfl rfl (Nat.le_of_ble_eq_true rfl) dX1_startVisit_34 (h_F ?_)
        refine gN_ge (a := j) (b := nv) 120 C dX1_startVisit_37 rfl (by omega) (by omega) (fun c37 => ?_) (fun c37 => ?_)
        · exfalso; omega
        · refine g_aload_n C dX1_startVisit_40 rfl rfl ?_
          refine c_get 0 4 k_X1 in_X1 (by decide) (fun _ h => h) q540 Rx rfl C dX1_startVisit_41 ?_
          refine c_getN 2 0 k_X3 in_X3 (by decide) (fun _ h => h) q522 SC_ Ee rfl C dX1_startVisit_44 ?_
          refine g_iload C dX1_startVisit_47 rfl ?_
          refine h_callV (rest := []) 1 C (cc_get B.1 Evl j (by omega)) (lw_V q940 q941 q942 q90 q943) ⟨⟨by decide, by decide, by decide +kernel⟩, ⟨Nat.le_of_ble_eq_true rfl, Nat.le_of_ble_eq_true rfl⟩, ⟨Nat.le_of_ble_eq_true rfl, Nat.le_of_ble_eq_true rfl⟩⟩ (fun _ h => h) (Evl.recv C) rfl rfl (Nat.le_of_ble_eq_true rfl) dX1_startVisit_49 (h_F ?_)
          obtain ⟨vm1, ve1, fvm1, fve1, Vo1, Vm1, Ve1, Vt1⟩ := Evs j (by omega)
          refine c_castS Vo1 k_X15 q1064 C dX1_startVisit_52 ?_
          refine g_astore (lv' := [some (.ref x), some (.int (nI j_scale)), some (.int (nI j_day)), some (.int (b2i (svOp (X 1) (nI j_scale) j))), some (.int (b2i (svSe (X 1) (nI j_scale) j))), some (.int (nI j)), some (.ref (vs j))]) C dX1_startVisit_55 (by decide) rfl ?_
          refine g_aload C dX1_startVisit_57 rfl ?_
          refine c_getN 13 0 k_X15 in_X15 (by decide) (fun _ h => h) q1103 SC_ Vo1 rfl C dX1_startVisit_59 ?_
          refine g_iload_n C dX1_startVisit_62 rfl rfl ?_
          refine g_icmp_eq 69 C dX1_startVisit_63 rfl (fun c63 => ?_) (fun c63 => ?_)
          · refine g_iload_n C dX1_startVisit_69 rfl rfl ?_
            refine g_aload C dX1_startVisit_70 rfl ?_
            refine c_getN 13 1 k_X15 in_X15 (by decide) (fun _ h => h) q1105 SC_ Vo1 rfl C dX1_startVisit_72 ?_
            refine g_icmp_ge 80 C dX1_startVisit_75 rfl (fun c75 => ?_) (fun c75 => ?_)
            · refine g_iload_n C dX1_startVisit_80 rfl rfl ?_
              refine g_aload C dX1_startVisit_81 rfl ?_
              refine h_callV (rest := [.int (b2i (svOp (X 1) (nI j_scale) j))]) 0 C (cc_visClosed B.1 Vo1) (lw_V q1065 q1066 q1067 q122 q1068) ⟨⟨by decide, by decide, by decide +kernel⟩, ⟨Nat.le_of_ble_eq_true rfl, Nat.le_of_ble_eq_true rfl⟩, ⟨Nat.le_of_ble_eq_true rfl, Nat.le_of_ble_eq_true rfl⟩⟩ (fun _ h => h) (HP.recv C Vo1 k_X15) rfl rfl (Nat.le_of_ble_eq_true rfl) dX1_startVisit_83 (h_F ?_)
              refine g_topi (y := X 1 (61 + j)) (clI_eq (J.vi hj)) ?_
              refine g_if_ne 93 C dX1_startVisit_86 rfl (fun c86 => ?_) (fun c86 => ?_)
              · refine g_iconst (v := 0) C dX1_startVisit_93 rfl ?_
                refine g_ior C dX1_startVisit_94 ?_
                refine g_topi (y := b2i (svOp (X 1) (nI j_scale) (j + 1))) (by rw [svOp_s, decide_eq_true c63, decide_eq_false c86]; exact b2i_or _ false) ?_
                refine g_istore_n (lv' := [some (.ref x), some (.int (nI j_scale)), some (.int (nI j_day)), some (.int (b2i (svOp (X 1) (nI j_scale) (j + 1)))), some (.int (b2i (svSe (X 1) (nI j_scale) j))), some (.int (nI j)), some (.ref (vs j))]) C dX1_startVisit_95 rfl (by decide) rfl ?_
                refine g_iload C dX1_startVisit_96 rfl ?_
                refine g_aload C dX1_startVisit_98 rfl ?_
                refine c_getN 13 6 k_X15 in_X15 (by decide) (fun _ h => h) q1115 SC_ Vo1 rfl C dX1_startVisit_100 ?_
                refine g_if_ne 110 C dX1_startVisit_103 rfl (fun c103 => ?_) (fun c103 => ?_)
                · refine g_iconst (v := 0) C dX1_startVisit_110 rfl ?_
                  refine g_ior C dX1_startVisit_111 ?_
                  refine g_topi (y := b2i (svSe (X 1) (nI j_scale) (j + 1))) (by rw [svSe_s, decide_eq_true c63, se_eq (J.vi hj), decide_eq_false c103]; exact b2i_or _ false) ?_
                  refine g_istore (lv' := [some (.ref x), some (.int (nI j_scale)), some (.int (nI j_day)), some (.int (b2i (svOp (X 1) (nI j_scale) (j + 1)))), some (.int (b2i (svSe (X 1) (nI j_scale) (j + 1)))), some (.int (nI j)), some (.ref (vs j))]) C dX1_startVisit_112 (by decide) rfl ?_
                  refine g_inc1 (x := j) (lv' := [some (.ref x), some (.int (nI j_scale)), some (.int (nI j_day)), some (.int (b2i (svOp (X 1) (nI j_scale) (j + 1)))), some (.int (b2i (svSe (X 1) (nI j_scale) (j + 1)))), some (.int (nI (j + 1))), some (.ref (vs j))]) C dX1_startVisit_114 rfl (by decide) rfl ?_
                  refine g_goto 25 C dX1_startVisit_117 rfl ?_
                  exact g_lv (lv' := [some (.ref x), some (.int (nI j_scale)), some (.int (nI j_day)), some (.int (b2i (svOp (X 1) (nI j_scale) (j + 1)))), some (.int (b2i (svSe (X 1) (nI j_scale) (j + 1)))), some (.int (nI (j + 1))), none]) (fun i w h => by match i, h with | 0, h => exact h | 1, h => exact h | 2, h => exact h | 3, h => exact h | 4, h => exact h | 5, h => exact h | 6, h => cases h) (ih (by rw [svBad_s, hinv, decide_eq_true c63, decide_eq_false (Int32.not_lt.mpr c75)]; rfl))
                · refine g_iconst (v := 1) C dX1_startVisit_106 rfl ?_
                  refine g_goto 111 C dX1_startVisit_107 rfl ?_
                  refine g_ior C dX1_startVisit_111 ?_
                  refine g_topi (y := b2i (svSe (X 1) (nI j_scale) (j + 1))) (by rw [svSe_s, decide_eq_true c63, se_eq (J.vi hj), decide_eq_true c103]; exact b2i_or _ true) ?_
                  refine g_istore (lv' := [some (.ref x), some (.int (nI j_scale)), some (.int (nI j_day)), some (.int (b2i (svOp (X 1) (nI j_scale) (j + 1)))), some (.int (b2i (svSe (X 1) (nI j_scale) (j + 1)))), some (.int (nI j)), some (.ref (vs j))]) C dX1_startVisit_112 (by decide) rfl ?_
                  refine g_inc1 (x := j) (lv' := [some (.ref x), some (.int (nI j_scale)), some (.int (nI j_day)), some (.int (b2i (svOp (X 1) (nI j_scale) (j + 1)))), some (.int (b2i (svSe (X 1) (nI j_scale) (j + 1)))), some (.int (nI (j + 1))), some (.ref (vs j))]) C dX1_startVisit_114 rfl (by decide) rfl ?_
                  refine g_goto 25 C dX1_startVisit_117 rfl ?_
                  exact g_lv (lv' := [some (.ref x), some (.int (nI j_scale)), some (.int (nI j_day)), some (.int (b2i (svOp (X 1) (nI j_scale) (j + 1)))), some (.int (b2i (svSe (X 1) (nI j_scale) (j + 1)))), some (.int (nI (j + 1))), none]) (fun i w h => by match i, h with | 0, h => exact h | 1, h => exact h | 2, h => exact h | 3, h => exact h | 4, h => exact h | 5, h => exact h | 6, h => cases h) (ih (by rw [svBad_s, hinv, decide_eq_true c63, decide_eq_false (Int32.not_lt.mpr c75)]; rfl))
              · refine g_iconst (v := 1) C dX1_startVisit_89 rfl ?_
                refine g_goto 94 C dX1_startVisit_90 rfl ?_
                refine g_ior C dX1_startVisit_94 ?_
                refine g_topi (y := b2i (svOp (X 1) (nI j_scale) (j + 1))) (by rw [svOp_s, decide_eq_true c63, decide_eq_true c86]; exact b2i_or _ true) ?_
                refine g_istore_n (lv' := [some (.ref x), some (.int (nI j_scale)), some (.int (nI j_day)), some (.int (b2i (svOp (X 1) (nI j_scale) (j + 1)))), some (.int (b2i (svSe (X 1) (nI j_scale) j))), some (.int (nI j)), some (.ref (vs j))]) C dX1_startVisit_95 rfl (by decide) rfl ?_
                refine g_iload C dX1_startVisit_96 rfl ?_
                refine g_aload C dX1_startVisit_98 rfl ?_
                refine c_getN 13 6 k_X15 in_X15 (by decide) (fun _ h => h) q1115 SC_ Vo1 rfl C dX1_startVisit_100 ?_
                refine g_if_ne 110 C dX1_startVisit_103 rfl (fun c103 => ?_) (fun c103 => ?_)
                · refine g_iconst (v := 0) C dX1_startVisit_110 rfl ?_
                  refine g_ior C dX1_startVisit_111 ?_
                  refine g_topi (y := b2i (svSe (X 1) (nI j_scale) (j + 1))) (by rw [svSe_s, decide_eq_true c63, se_eq (J.vi hj), decide_eq_false c103]; exact b2i_or _ false) ?_
                  refine g_istore (lv' := [some (.ref x), some (.int (nI j_scale)), some (.int (nI j_day)), some (.int (b2i (svOp (X 1) (nI j_scale) (j + 1)))), some (.int (b2i (svSe (X 1) (nI j_scale) (j + 1)))), some (.int (nI j)), some (.ref (vs j))]) C dX1_startVisit_112 (by decide) rfl ?_
                  refine g_inc1 (x := j) (lv' := [some (.ref x), some (.int (nI j_scale)), some (.int (nI j_day)), some (.int (b2i (svOp (X 1) (nI j_scale) (j + 1)))), some (.int (b2i (svSe (X 1) (nI j_scale) (j + 1)))), some (.int (nI (j + 1))), some (.ref (vs j))]) C dX1_startVisit_114 rfl (by decide) rfl ?_
                  refine g_goto 25 C dX1_startVisit_117 rfl ?_
                  exact g_lv (lv' := [some (.ref x), some (.int (nI j_scale)), some (.int (nI j_day)), some (.int (b2i (svOp (X 1) (nI j_scale) (j + 1)))), some (.int (b2i (svSe (X 1) (nI j_scale) (j + 1)))), some (.int (nI (j + 1))), none]) (fun i w h => by match i, h with | 0, h => exact h | 1, h => exact h | 2, h => exact h | 3, h => exact h | 4, h => exact h | 5, h => exact h | 6, h => cases h) (ih (by rw [svBad_s, hinv, decide_eq_true c63, decide_eq_false (Int32.not_lt.mpr c75)]; rfl))
                · refine g_iconst (v := 1) C dX1_startVisit_106 rfl ?_
                  refine g_goto 111 C dX1_startVisit_107 rfl ?_
                  refine g_ior C dX1_startVisit_111 ?_
                  refine g_topi (y := b2i (svSe (X 1) (nI j_scale) (j + 1))) (by rw [svSe_s, decide_eq_true c63, se_eq (J.vi hj), decide_eq_true c103]; exact b2i_or _ true) ?_
                  refine g_istore (lv' := [some (.ref x), some (.int (nI j_scale)), some (.int (nI j_day)), some (.int (b2i (svOp (X 1) (nI j_scale) (j + 1)))), some (.int (b2i (svSe (X 1) (nI j_scale) (j + 1)))), some (.int (nI j)), some (.ref (vs j))]) C dX1_startVisit_112 (by decide) rfl ?_
                  refine g_inc1 (x := j) (lv' := [some (.ref x), some (.int (nI j_scale)), some (.int (nI j_day)), some (.int (b2i (svOp (X 1) (nI j_scale) (j + 1)))), some (.int (b2i (svSe (X 1) (nI j_scale) (j + 1)))), some (.int (nI (j + 1))), some (.ref (vs j))]) C dX1_startVisit_114 rfl (by decide) rfl ?_
                  refine g_goto 25 C dX1_startVisit_117 rfl ?_
                  exact g_lv (lv' := [some (.ref x), some (.int (nI j_scale)), some (.int (nI j_day)), some (.int (b2i (svOp (X 1) (nI j_scale) (j + 1)))), some (.int (b2i (svSe (X 1) (nI j_scale) (j + 1)))), some (.int (nI (j + 1))), none]) (fun i w h => by match i, h with | 0, h => exact h | 1, h => exact h | 2, h => exact h | 3, h => exact h | 4, h => exact h | 5, h => exact h | 6, h => cases h) (ih (by rw [svBad_s, hinv, decide_eq_true c63, decide_eq_false (Int32.not_lt.mpr c75)]; rfl))
            · refine g_iconst (v := (-1)) C dX1_startVisit_78 rfl ?_
              have er9 : svI (X 1) ns nv (nI j_scale) (nI j_day) = -1 := by rw [svI, atI_in hj_scale (by omega), atI_in hj_day (by omega), svC, if_pos (show svBad (X 1) (nI j_scale) (nI j_day) nv = true from anyN_of (k := j) hj (by rw [decide_eq_true c63, decide_eq_true (Int32.not_le.mp c75)]; rfl))]
              exact g_iret C R (Nat.le_of_ble_eq_true rfl) (Nat.le_of_ble_eq_true rfl) dX1_startVisit_79 (fun H hH => ⟨h, ⟨by rw [er9], nv, nu, by rw [chF, chX, er9, if_neg (by decide), if_neg (by decide)]; exact R_⟩, hH⟩)
          · refine g_goto 114 C dX1_startVisit_66 rfl ?_
            refine g_inc1 (x := j) (lv' := [some (.ref x), some (.int (nI j_scale)), some (.int (nI j_day)), some (.int (b2i (svOp (X 1) (nI j_scale) j))), some (.int (b2i (svSe (X 1) (nI j_scale) j))), some (.int (nI (j + 1))), some (.ref (vs j))]) C dX1_startVisit_114 rfl (by decide) rfl ?_
            refine g_goto 25 C dX1_startVisit_117 rfl ?_
            refine g_lveq (lv' := [some (.ref x), some (.int (nI j_scale)), some (.int (nI j_day)), some (.int (b2i (svOp (X 1) (nI j_scale) (j + 1)))), some (.int (b2i (svSe (X 1) (nI j_scale) (j + 1)))), some (.int (nI (j + 1))), some (.ref (vs j))]) (by rw [svOp_s, svSe_s, decide_eq_false c63, Bool.false_and, Bool.false_and, Bool.or_false, Bool.or_false]) ?_
            exact g_lv (lv' := [some (.ref x), some (.int (nI j_scale)), some (.int (nI j_day)), some (.int (b2i (svOp (X 1) (nI j_scale) (j + 1)))), some (.int (b2i (svSe (X 1) (nI j_scale) (j + 1)))), some (.int (nI (j + 1))), none]) (fun i w h => by match i, h with | 0, h => exact h | 1, h => exact h | 2, h => exact h | 3, h => exact h | 4, h => exact h | 5, h => exact h | 6, h => cases h) (ih (by rw [svBad_s, hinv, decide_eq_false c63]; rfl))
    · refine g_iconst (v := (-1)) C dX1_startVisit_15 rfl ?_
      have er9 : svI (X 1) ns nv (nI j_scale) day = -1 := by rw [svI, atI_in hj_scale (by omega), atI_out c12]
      exact g_iret C R (Nat.le_of_ble_eq_true rfl) (Nat.le_of_ble_eq_true rfl) dX1_startVisit_16 (fun H hH => ⟨h, ⟨by rw [er9], nv, nu, by rw [chF, chX, er9, if_neg (by decide), if_neg (by decide)]; exact R_⟩, hH⟩)
