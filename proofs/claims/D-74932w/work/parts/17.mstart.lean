set_option maxRecDepth 100000 in
theorem ct_startVisit {l : Launch} {Γ : Gm} {A : Nat → Prop} {ρ : State → Prop} (B : Bs l A ρ) {o : Nat} {ad : Nat → Nat} {F : Nat → Int32} {X : Nat → Nat → Int32} {nt ns nm ne nv nu ln : Nat} (J : Iv F X nt ns nm ne nv nu ln) (scale day : Int32) : CtM l Γ A ρ yX4_startVisit cX4_startVisit 6 (some .int) 2 46 o ad [.ref o, .int scale, .int day] F X (some (.int (svI (X 1) ns nv scale day))) (chF F nu (svI (X 1) ns nv scale day)) (chX X nu (svI (X 1) ns nv scale day) (svR (X 1) nv scale day)) := by
  refine Ct.of B.1 B.2 (by decide) [some (.ref o), some (.int scale), some (.int day), none, none, none] (Nat.le_of_ble_eq_true rfl) rfl ?_
  intro E hE C R
  subst hE
  have hs_ := J.ls
  have hv_ := J.lv
  have hu_ := J.lu
  refine g_aload_n C dX4_startVisit_0 rfl rfl ?_
  refine g_iconst (v := 0) C dX4_startVisit_1 rfl ?_
  refine mp_0 C dX4_startVisit_2 ?_
  refine g_aload_n C dX4_startVisit_5 rfl rfl ?_
  refine g_iload_n C dX4_startVisit_6 rfl rfl ?_
  refine g_mcall (rest := []) 1 C (ct_isScale (F := upd F 0 0) (X := X) B J _) (lw_V q1894 q1896 qs59 q107 q1897) (by decide +kernel) ⟨Nat.le_of_ble_eq_true rfl, Nat.le_of_ble_eq_true rfl⟩ ⟨Nat.le_of_ble_eq_true rfl, Nat.le_of_ble_eq_true rfl⟩ rfl rfl (Nat.le_of_ble_eq_true rfl) dX4_startVisit_7 ?_
  refine g_if_eq 25 C dX4_startVisit_10 rfl (fun c10 => ?_) (fun c10 => ?_)
  · refine g_iconst (v := (-1)) C dX4_startVisit_25 rfl ?_
    have er : svI (X 1) ns nv scale day = -1 := by rw [svI, atI_out c10]
    exact g_iret C R (Nat.le_refl _) (Nat.le_refl _) dX4_startVisit_26 (fun H h => ⟨by rw [er], by rw [chF, chX, er, if_neg (by decide), if_neg (by decide)]; exact h⟩)
  · obtain ⟨j_scale, hj_scale, rfl⟩ := ixI_in (by omega) c10
    refine g_iload_n C dX4_startVisit_13 rfl rfl ?_
    refine g_i2l C dX4_startVisit_14 ?_
    refine g_lconst (v := 0) C dX4_startVisit_15 rfl ?_
    refine g_ldc2 (v := 9999) C dX4_startVisit_16 q1937 ?_
    refine g_pcall (rest := []) 3 C (ct_within B _ _ _) (lw_S q1783 q1784 q107 q1785) ⟨by decide, by decide, by decide +kernel⟩ ⟨Nat.le_of_ble_eq_true rfl, Nat.le_of_ble_eq_true rfl⟩ ⟨Nat.le_of_ble_eq_true rfl, Nat.le_of_ble_eq_true rfl⟩ rfl rfl (Nat.le_of_ble_eq_true rfl) dX4_startVisit_19 ?_
    refine g_topi (y := ixI day 10000) (wi_lit (n := 9999) (by decide)) ?_
    refine g_if_ne 27 C dX4_startVisit_22 rfl (fun c22 => ?_) (fun c22 => ?_)
    · obtain ⟨j_day, hj_day, rfl⟩ := ixI_in (by omega) c22
      refine g_iconst (v := 0) C dX4_startVisit_27 rfl ?_
      refine g_istore_n (lv' := [some (.ref o), some (.int (nI j_scale)), some (.int (nI j_day)), some (.int 0), none, none]) C dX4_startVisit_28 rfl (by decide) rfl ?_
      refine g_iconst (v := 0) C dX4_startVisit_29 rfl ?_
      refine g_istore (lv' := [some (.ref o), some (.int (nI j_scale)), some (.int (nI j_day)), some (.int 0), some (.int 0), none]) C dX4_startVisit_30 (by decide) rfl ?_
      refine g_iconst (v := 0) C dX4_startVisit_32 rfl ?_
      refine g_istore (lv' := [some (.ref o), some (.int (nI j_scale)), some (.int (nI j_day)), some (.int 0), some (.int 0), some (.int 0)]) C dX4_startVisit_33 (by decide) rfl ?_
      refine g_for (P := fun k => svBad (X 1) (nI j_scale) (nI j_day) k = false → G E (RepM Γ A o ad (upd F 0 0) X) 0 0 35 [some (.ref o), some (.int (nI j_scale)), some (.int (nI j_day)), some (.int (b2i (svOp (X 1) (nI j_scale) k))), some (.int (b2i (svSe (X 1) (nI j_scale) k))), some (.int (nI k))] []) nv ?_ ?_ 0 (Nat.zero_le _) (rfl)
      · intro hinv
        refine g_iload C dX4_startVisit_35 rfl ?_
        refine g_aload_n C dX4_startVisit_37 rfl rfl ?_
        refine mg_1 C dX4_startVisit_38 ?_
        refine g_iconst (v := 0) C dX4_startVisit_41 rfl ?_
        refine ml_1 (i := 0) C dX4_startVisit_42 (by omega) ?_
        refine g_topi (y := nI nv) (J.x0) ?_
        refine gN_ge (a := nv) (b := nv) 142 C dX4_startVisit_43 rfl (by omega) (by omega) (fun c43 => ?_) (fun c43 => ?_)
        · refine g_iload_n C dX4_startVisit_142 rfl rfl ?_
          refine g_if_eq 149 C dX4_startVisit_143 rfl (fun c143 => ?_) (fun c143 => ?_)
          · replace c143 := b2i_F c143
            refine g_aload_n C dX4_startVisit_149 rfl rfl ?_
            refine mg_1 C dX4_startVisit_150 ?_
            refine g_iconst (v := 0) C dX4_startVisit_153 rfl ?_
            refine ml_1 (i := 0) C dX4_startVisit_154 (by omega) ?_
            refine g_topi (y := nI nv) (J.x0) ?_
            refine g_istore (lv' := [some (.ref o), some (.int (nI j_scale)), some (.int (nI j_day)), some (.int (b2i (svOp (X 1) (nI j_scale) nv))), some (.int (b2i (svSe (X 1) (nI j_scale) nv))), some (.int (nI nv))]) C dX4_startVisit_155 (by decide) rfl ?_
            refine g_iload C dX4_startVisit_157 rfl ?_
            refine g_bipush (v := 30) C dX4_startVisit_159 rfl ?_
            refine gN_ne (a := nv) (b := 30) 167 C dX4_startVisit_161 rfl (by omega) (by omega) (fun c161 => ?_) (fun c161 => ?_)
            · refine g_aload_n C dX4_startVisit_167 rfl rfl ?_
              refine g_mcallv (rest := []) 0 C (ct_keeps (F := upd F 0 0) (X := X) B J) (lw_V q1938 q1940 qs62 q107 q1941) (by decide +kernel) ⟨Nat.le_of_ble_eq_true rfl, Nat.le_of_ble_eq_true rfl⟩ ⟨Nat.le_of_ble_eq_true rfl, Nat.le_of_ble_eq_true rfl⟩ rfl rfl (Nat.le_of_ble_eq_true rfl) dX4_startVisit_168 ?_
              refine g_aload_n C dX4_startVisit_171 rfl rfl ?_
              refine mg_1 C dX4_startVisit_172 ?_
              refine g_iconst (v := 1) C dX4_startVisit_175 rfl ?_
              refine g_iload C dX4_startVisit_176 rfl ?_
              refine g_iadd C dX4_startVisit_178 ?_
              refine g_topi (y := nI (1 + nv)) (nI_add 1 nv) ?_
              refine g_iload_n C dX4_startVisit_179 rfl rfl ?_
              refine ms_1 (i := 1 + nv) C dX4_startVisit_180 (by omega) ?_
              refine g_eqI (J := RepM Γ A o ad (upd (upd F 0 0) 41 (nI (kpN nu))) (setX (setX X 42 (kpA X nu)) 1 (upd (X 1) (1 + nv) (nI j_scale)))) rfl ?_
              refine g_aload_n C dX4_startVisit_181 rfl rfl ?_
              refine mg_1 C dX4_startVisit_182 ?_
              refine g_bipush (v := 31) C dX4_startVisit_185 rfl ?_
              refine g_iload C dX4_startVisit_187 rfl ?_
              refine g_iadd C dX4_startVisit_189 ?_
              refine g_topi (y := nI (31 + nv)) (nI_add 31 nv) ?_
              refine g_iload_n C dX4_startVisit_190 rfl rfl ?_
              refine ms_1 (i := 31 + nv) C dX4_startVisit_191 (by omega) ?_
              refine g_eqI (J := RepM Γ A o ad (upd (upd F 0 0) 41 (nI (kpN nu))) (setX (setX X 42 (kpA X nu)) 1 (upd (upd (X 1) (1 + nv) (nI j_scale)) (31 + nv) (nI j_day)))) (congrArg (RepM Γ A o ad _) (by rw [setX_self, setX_setX])) ?_
              refine g_aload_n C dX4_startVisit_192 rfl rfl ?_
              refine mg_1 C dX4_startVisit_193 ?_
              refine g_bipush (v := 61) C dX4_startVisit_196 rfl ?_
              refine g_iload C dX4_startVisit_198 rfl ?_
              refine g_iadd C dX4_startVisit_200 ?_
              refine g_topi (y := nI (61 + nv)) (nI_add 61 nv) ?_
              refine g_iconst (v := 0) C dX4_startVisit_201 rfl ?_
              refine ms_1 (i := 61 + nv) C dX4_startVisit_202 (by omega) ?_
              refine g_eqI (J := RepM Γ A o ad (upd (upd F 0 0) 41 (nI (kpN nu))) (setX (setX X 42 (kpA X nu)) 1 (upd (upd (upd (X 1) (1 + nv) (nI j_scale)) (31 + nv) (nI j_day)) (61 + nv) 0))) (congrArg (RepM Γ A o ad _) (by rw [setX_self, setX_setX])) ?_
              refine g_aload_n C dX4_startVisit_203 rfl rfl ?_
              refine mg_1 C dX4_startVisit_204 ?_
              refine g_bipush (v := 91) C dX4_startVisit_207 rfl ?_
              refine g_iload C dX4_startVisit_209 rfl ?_
              refine g_iadd C dX4_startVisit_211 ?_
              refine g_topi (y := nI (91 + nv)) (nI_add 91 nv) ?_
              refine g_iconst (v := 0) C dX4_startVisit_212 rfl ?_
              refine ms_1 (i := 91 + nv) C dX4_startVisit_213 (by omega) ?_
              refine g_eqI (J := RepM Γ A o ad (upd (upd F 0 0) 41 (nI (kpN nu))) (setX (setX X 42 (kpA X nu)) 1 (upd (upd (upd (upd (X 1) (1 + nv) (nI j_scale)) (31 + nv) (nI j_day)) (61 + nv) 0) (91 + nv) 0))) (congrArg (RepM Γ A o ad _) (by rw [setX_self, setX_setX])) ?_
              refine g_aload_n C dX4_startVisit_214 rfl rfl ?_
              refine mg_1 C dX4_startVisit_215 ?_
              refine g_bipush (v := 121) C dX4_startVisit_218 rfl ?_
              refine g_iload C dX4_startVisit_220 rfl ?_
              refine g_iadd C dX4_startVisit_222 ?_
              refine g_topi (y := nI (121 + nv)) (nI_add 121 nv) ?_
              refine g_iload C dX4_startVisit_223 rfl ?_
              refine ms_1 (i := 121 + nv) C dX4_startVisit_225 (by omega) ?_
              refine g_eqI (J := RepM Γ A o ad (upd (upd F 0 0) 41 (nI (kpN nu))) (setX (setX X 42 (kpA X nu)) 1 (upd (upd (upd (upd (upd (X 1) (1 + nv) (nI j_scale)) (31 + nv) (nI j_day)) (61 + nv) 0) (91 + nv) 0) (121 + nv) (b2i (svSe (X 1) (nI j_scale) nv))))) (congrArg (RepM Γ A o ad _) (by rw [setX_self, setX_setX])) ?_
              refine g_aload_n C dX4_startVisit_226 rfl rfl ?_
              refine mg_1 C dX4_startVisit_227 ?_
              refine g_sipush (v := 151) C dX4_startVisit_230 rfl ?_
              refine g_iload C dX4_startVisit_233 rfl ?_
              refine g_iadd C dX4_startVisit_235 ?_
              refine g_topi (y := nI (151 + nv)) (nI_add 151 nv) ?_
              refine g_iconst (v := 0) C dX4_startVisit_236 rfl ?_
              refine ms_1 (i := 151 + nv) C dX4_startVisit_237 (by omega) ?_
              refine g_eqI (J := RepM Γ A o ad (upd (upd F 0 0) 41 (nI (kpN nu))) (setX (setX X 42 (kpA X nu)) 1 (upd (upd (upd (upd (upd (upd (X 1) (1 + nv) (nI j_scale)) (31 + nv) (nI j_day)) (61 + nv) 0) (91 + nv) 0) (121 + nv) (b2i (svSe (X 1) (nI j_scale) nv))) (151 + nv) 0))) (congrArg (RepM Γ A o ad _) (by rw [setX_self, setX_setX])) ?_
              refine g_aload_n C dX4_startVisit_238 rfl rfl ?_
              refine mg_1 C dX4_startVisit_239 ?_
              refine g_iconst (v := 0) C dX4_startVisit_242 rfl ?_
              refine g_dup2 C dX4_startVisit_243 rfl rfl ?_
              refine ml_1 (i := 0) C dX4_startVisit_244 (by omega) ?_
              refine g_topi (y := (upd (upd (upd (upd (upd (upd (X 1) (1 + nv) (nI j_scale)) (31 + nv) (nI j_day)) (61 + nv) 0) (91 + nv) 0) (121 + nv) (b2i (svSe (X 1) (nI j_scale) nv))) (151 + nv) 0) 0) rfl ?_
              refine g_topi (y := nI nv) (by rw [upd_ne (by omega), upd_ne (by omega), upd_ne (by omega), upd_ne (by omega), upd_ne (by omega), upd_ne (by omega)]; exact J.x0) ?_
              refine g_iconst (v := 1) C dX4_startVisit_245 rfl ?_
              refine g_iadd C dX4_startVisit_246 ?_
              refine g_topi (y := nI (nv + 1)) (nI_add nv 1) ?_
              refine ms_1 (i := 0) C dX4_startVisit_247 (by omega) ?_
              refine g_eqI (J := RepM Γ A o ad (upd (upd F 0 0) 41 (nI (kpN nu))) (setX (setX X 42 (kpA X nu)) 1 (upd (upd (upd (upd (upd (upd (upd (X 1) (1 + nv) (nI j_scale)) (31 + nv) (nI j_day)) (61 + nv) 0) (91 + nv) 0) (121 + nv) (b2i (svSe (X 1) (nI j_scale) nv))) (151 + nv) 0) 0 (nI (nv + 1))))) (congrArg (RepM Γ A o ad _) (by rw [setX_self, setX_setX])) ?_
              refine g_iload C dX4_startVisit_248 rfl ?_
              have er : svI (X 1) ns nv (nI j_scale) (nI j_day) = nI nv := by rw [svI, atI_in hj_scale (by omega), atI_in hj_day (by omega), svC, if_neg (by rw [hinv]; decide), if_neg (by rw [c143]; decide), if_neg c161]
              exact g_iret C R (Nat.le_refl _) (Nat.le_refl _) dX4_startVisit_250 (fun H h => ⟨by rw [er], by rw [chF, chX, er, if_pos (nI_pos' (by omega)), if_pos (nI_pos' (by omega))]; exact h⟩)
            · refine g_bipush (v := (-3)) C dX4_startVisit_164 rfl ?_
              have er : svI (X 1) ns nv (nI j_scale) (nI j_day) = (-3) := by rw [svI, atI_in hj_scale (by omega), atI_in hj_day (by omega), svC, if_neg (by rw [hinv]; decide), if_neg (by rw [c143]; decide), if_pos c161]
              exact g_iret C R (Nat.le_refl _) (Nat.le_refl _) dX4_startVisit_166 (fun H h => ⟨by rw [er], by rw [chF, chX, er, if_neg (by decide), if_neg (by decide)]; exact h⟩)
          · replace c143 := b2i_T c143
            refine g_bipush (v := (-2)) C dX4_startVisit_146 rfl ?_
            have er : svI (X 1) ns nv (nI j_scale) (nI j_day) = (-2) := by rw [svI, atI_in hj_scale (by omega), atI_in hj_day (by omega), svC, if_neg (by rw [hinv]; decide), if_pos c143]
            exact g_iret C R (Nat.le_refl _) (Nat.le_refl _) dX4_startVisit_148 (fun H h => ⟨by rw [er], by rw [chF, chX, er, if_neg (by decide), if_neg (by decide)]; exact h⟩)
        · exfalso; omega
      · intro k hk ih hinv
        replace ih : svBad (X 1) (nI j_scale) (nI j_day) (k + 1) = false → G E (RepM Γ A o ad (upd F 0 0) X) 0 0 35 [some (.ref o), some (.int (nI j_scale)), some (.int (nI j_day)), some (.int (b2i (svOp (X 1) (nI j_scale) (k + 1)))), some (.int (b2i (svSe (X 1) (nI j_scale) (k + 1)))), some (.int (nI (k + 1)))] [] := ih
        refine g_iload C dX4_startVisit_35 rfl ?_
        refine g_aload_n C dX4_startVisit_37 rfl rfl ?_
        refine mg_1 C dX4_startVisit_38 ?_
        refine g_iconst (v := 0) C dX4_startVisit_41 rfl ?_
        refine ml_1 (i := 0) C dX4_startVisit_42 (by omega) ?_
        refine g_topi (y := nI nv) (J.x0) ?_
        refine gN_ge (a := k) (b := nv) 142 C dX4_startVisit_43 rfl (by omega) (by omega) (fun c43 => ?_) (fun c43 => ?_)
        · exfalso; omega
        · refine g_aload_n C dX4_startVisit_46 rfl rfl ?_
          refine mg_1 C dX4_startVisit_47 ?_
          refine g_iconst (v := 1) C dX4_startVisit_50 rfl ?_
          refine g_iload C dX4_startVisit_51 rfl ?_
          refine g_iadd C dX4_startVisit_53 ?_
          refine g_topi (y := nI (1 + k)) (nI_add 1 k) ?_
          refine ml_1 (i := 1 + k) C dX4_startVisit_54 (by omega) ?_
          refine g_iload_n C dX4_startVisit_55 rfl rfl ?_
          refine g_icmp_eq 62 C dX4_startVisit_56 rfl (fun c56 => ?_) (fun c56 => ?_)
          · refine g_aload_n C dX4_startVisit_62 rfl rfl ?_
            refine mg_1 C dX4_startVisit_63 ?_
            refine g_bipush (v := 31) C dX4_startVisit_66 rfl ?_
            refine g_iload C dX4_startVisit_68 rfl ?_
            refine g_iadd C dX4_startVisit_70 ?_
            refine g_topi (y := nI (31 + k)) (nI_add 31 k) ?_
            refine ml_1 (i := 31 + k) C dX4_startVisit_71 (by omega) ?_
            refine g_iload_n C dX4_startVisit_72 rfl rfl ?_
            refine g_icmp_le 78 C dX4_startVisit_73 rfl (fun c73 => ?_) (fun c73 => ?_)
            · refine g_iload_n C dX4_startVisit_78 rfl rfl ?_
              refine g_if_ne 95 C dX4_startVisit_79 rfl (fun c79 => ?_) (fun c79 => ?_)
              · replace c79 := b2i_T c79
                refine g_iconst (v := 1) C dX4_startVisit_95 rfl ?_
                refine g_goto 100 C dX4_startVisit_96 rfl ?_
                refine g_topi (y := b2i (svOp (X 1) (nI j_scale) (k + 1))) (by simp only [svOp_s, svSe_s, b2i, decide_eq_true c56, decide_eq_true c73, c79, Bool.not_true, Bool.not_false, Bool.or_true, Bool.true_or, Bool.or_false, Bool.false_or, Bool.and_true, Bool.true_and, Bool.and_false, Bool.false_and, if_true, reduceCtorEq, if_false, Bool.false_eq_true]) ?_
                refine g_istore_n (lv' := [some (.ref o), some (.int (nI j_scale)), some (.int (nI j_day)), some (.int (b2i (svOp (X 1) (nI j_scale) (k + 1)))), some (.int (b2i (svSe (X 1) (nI j_scale) k))), some (.int (nI k))]) C dX4_startVisit_100 rfl (by decide) rfl ?_
                refine g_aload_n C dX4_startVisit_101 rfl rfl ?_
                refine mg_1 C dX4_startVisit_102 ?_
                refine g_bipush (v := 61) C dX4_startVisit_105 rfl ?_
                refine g_iload C dX4_startVisit_107 rfl ?_
                refine g_iadd C dX4_startVisit_109 ?_
                refine g_topi (y := nI (61 + k)) (nI_add 61 k) ?_
                refine ml_1 (i := 61 + k) C dX4_startVisit_110 (by omega) ?_
                refine g_iconst (v := 1) C dX4_startVisit_111 rfl ?_
                refine g_icmp_ne 132 C dX4_startVisit_112 rfl (fun c112 => ?_) (fun c112 => ?_)
                · refine g_iload C dX4_startVisit_132 rfl ?_
                  refine g_topi (y := b2i (svSe (X 1) (nI j_scale) (k + 1))) (by simp only [svOp_s, svSe_s, b2i, decide_eq_true c56, decide_eq_true c73, decide_eq_false c112, Bool.not_true, Bool.not_false, Bool.or_true, Bool.true_or, Bool.or_false, Bool.false_or, Bool.and_true, Bool.true_and, Bool.and_false, Bool.false_and, if_true, reduceCtorEq, if_false, Bool.false_eq_true]) ?_
                  refine g_istore (lv' := [some (.ref o), some (.int (nI j_scale)), some (.int (nI j_day)), some (.int (b2i (svOp (X 1) (nI j_scale) (k + 1)))), some (.int (b2i (svSe (X 1) (nI j_scale) (k + 1)))), some (.int (nI k))]) C dX4_startVisit_134 (by decide) rfl ?_
                  refine g_inc1 (x := k) (lv' := [some (.ref o), some (.int (nI j_scale)), some (.int (nI j_day)), some (.int (b2i (svOp (X 1) (nI j_scale) (k + 1)))), some (.int (b2i (svSe (X 1) (nI j_scale) (k + 1)))), some (.int (nI (k + 1)))]) C dX4_startVisit_136 rfl (by decide) rfl ?_
                  refine g_goto 35 C dX4_startVisit_139 rfl ?_
                  exact ih (by simp only [svBad_s, hinv, decide_eq_false (Int32.not_lt.mpr c73), Bool.not_true, Bool.not_false, Bool.or_true, Bool.true_or, Bool.or_false, Bool.false_or, Bool.and_true, Bool.true_and, Bool.and_false, Bool.false_and, if_true, reduceCtorEq, if_false, Bool.false_eq_true])
                · refine g_aload_n C dX4_startVisit_115 rfl rfl ?_
                  refine mg_1 C dX4_startVisit_116 ?_
                  refine g_bipush (v := 91) C dX4_startVisit_119 rfl ?_
                  refine g_iload C dX4_startVisit_121 rfl ?_
                  refine g_iadd C dX4_startVisit_123 ?_
                  refine g_topi (y := nI (91 + k)) (nI_add 91 k) ?_
                  refine ml_1 (i := 91 + k) C dX4_startVisit_124 (by omega) ?_
                  refine g_if_ne 132 C dX4_startVisit_125 rfl (fun c125 => ?_) (fun c125 => ?_)
                  · refine g_iload C dX4_startVisit_132 rfl ?_
                    refine g_topi (y := b2i (svSe (X 1) (nI j_scale) (k + 1))) (by simp only [svOp_s, svSe_s, b2i, decide_eq_true c56, decide_eq_true c73, decide_eq_true c112, decide_eq_false c125, Bool.not_true, Bool.not_false, Bool.or_true, Bool.true_or, Bool.or_false, Bool.false_or, Bool.and_true, Bool.true_and, Bool.and_false, Bool.false_and, if_true, reduceCtorEq, if_false, Bool.false_eq_true]) ?_
                    refine g_istore (lv' := [some (.ref o), some (.int (nI j_scale)), some (.int (nI j_day)), some (.int (b2i (svOp (X 1) (nI j_scale) (k + 1)))), some (.int (b2i (svSe (X 1) (nI j_scale) (k + 1)))), some (.int (nI k))]) C dX4_startVisit_134 (by decide) rfl ?_
                    refine g_inc1 (x := k) (lv' := [some (.ref o), some (.int (nI j_scale)), some (.int (nI j_day)), some (.int (b2i (svOp (X 1) (nI j_scale) (k + 1)))), some (.int (b2i (svSe (X 1) (nI j_scale) (k + 1)))), some (.int (nI (k + 1)))]) C dX4_startVisit_136 rfl (by decide) rfl ?_
                    refine g_goto 35 C dX4_startVisit_139 rfl ?_
                    exact ih (by simp only [svBad_s, hinv, decide_eq_false (Int32.not_lt.mpr c73), Bool.not_true, Bool.not_false, Bool.or_true, Bool.true_or, Bool.or_false, Bool.false_or, Bool.and_true, Bool.true_and, Bool.and_false, Bool.false_and, if_true, reduceCtorEq, if_false, Bool.false_eq_true])
                  · refine g_iconst (v := 1) C dX4_startVisit_128 rfl ?_
                    refine g_goto 134 C dX4_startVisit_129 rfl ?_
                    refine g_topi (y := b2i (svSe (X 1) (nI j_scale) (k + 1))) (by simp only [svOp_s, svSe_s, b2i, decide_eq_true c56, decide_eq_true c73, decide_eq_true c112, decide_eq_true c125, Bool.not_true, Bool.not_false, Bool.or_true, Bool.true_or, Bool.or_false, Bool.false_or, Bool.and_true, Bool.true_and, Bool.and_false, Bool.false_and, if_true, reduceCtorEq, if_false, Bool.false_eq_true]) ?_
                    refine g_istore (lv' := [some (.ref o), some (.int (nI j_scale)), some (.int (nI j_day)), some (.int (b2i (svOp (X 1) (nI j_scale) (k + 1)))), some (.int (b2i (svSe (X 1) (nI j_scale) (k + 1)))), some (.int (nI k))]) C dX4_startVisit_134 (by decide) rfl ?_
                    refine g_inc1 (x := k) (lv' := [some (.ref o), some (.int (nI j_scale)), some (.int (nI j_day)), some (.int (b2i (svOp (X 1) (nI j_scale) (k + 1)))), some (.int (b2i (svSe (X 1) (nI j_scale) (k + 1)))), some (.int (nI (k + 1)))]) C dX4_startVisit_136 rfl (by decide) rfl ?_
                    refine g_goto 35 C dX4_startVisit_139 rfl ?_
                    exact ih (by simp only [svBad_s, hinv, decide_eq_false (Int32.not_lt.mpr c73), Bool.not_true, Bool.not_false, Bool.or_true, Bool.true_or, Bool.or_false, Bool.false_or, Bool.and_true, Bool.true_and, Bool.and_false, Bool.false_and, if_true, reduceCtorEq, if_false, Bool.false_eq_true])
              · replace c79 := b2i_F c79
                refine g_aload_n C dX4_startVisit_82 rfl rfl ?_
                refine mg_1 C dX4_startVisit_83 ?_
                refine g_bipush (v := 61) C dX4_startVisit_86 rfl ?_
                refine g_iload C dX4_startVisit_88 rfl ?_
                refine g_iadd C dX4_startVisit_90 ?_
                refine g_topi (y := nI (61 + k)) (nI_add 61 k) ?_
                refine ml_1 (i := 61 + k) C dX4_startVisit_91 (by omega) ?_
                refine g_if_ne 99 C dX4_startVisit_92 rfl (fun c92 => ?_) (fun c92 => ?_)
                · refine g_iconst (v := 0) C dX4_startVisit_99 rfl ?_
                  refine g_topi (y := b2i (svOp (X 1) (nI j_scale) (k + 1))) (by simp only [svOp_s, svSe_s, b2i, decide_eq_true c56, decide_eq_true c73, c79, decide_eq_false c92, Bool.not_true, Bool.not_false, Bool.or_true, Bool.true_or, Bool.or_false, Bool.false_or, Bool.and_true, Bool.true_and, Bool.and_false, Bool.false_and, if_true, reduceCtorEq, if_false, Bool.false_eq_true]) ?_
                  refine g_istore_n (lv' := [some (.ref o), some (.int (nI j_scale)), some (.int (nI j_day)), some (.int (b2i (svOp (X 1) (nI j_scale) (k + 1)))), some (.int (b2i (svSe (X 1) (nI j_scale) k))), some (.int (nI k))]) C dX4_startVisit_100 rfl (by decide) rfl ?_
                  refine g_aload_n C dX4_startVisit_101 rfl rfl ?_
                  refine mg_1 C dX4_startVisit_102 ?_
                  refine g_bipush (v := 61) C dX4_startVisit_105 rfl ?_
                  refine g_iload C dX4_startVisit_107 rfl ?_
                  refine g_iadd C dX4_startVisit_109 ?_
                  refine g_topi (y := nI (61 + k)) (nI_add 61 k) ?_
                  refine ml_1 (i := 61 + k) C dX4_startVisit_110 (by omega) ?_
                  refine g_iconst (v := 1) C dX4_startVisit_111 rfl ?_
                  refine g_icmp_ne 132 C dX4_startVisit_112 rfl (fun c112 => ?_) (fun c112 => ?_)
                  · refine g_iload C dX4_startVisit_132 rfl ?_
                    refine g_topi (y := b2i (svSe (X 1) (nI j_scale) (k + 1))) (by simp only [svOp_s, svSe_s, b2i, decide_eq_true c56, decide_eq_true c73, decide_eq_false c112, Bool.not_true, Bool.not_false, Bool.or_true, Bool.true_or, Bool.or_false, Bool.false_or, Bool.and_true, Bool.true_and, Bool.and_false, Bool.false_and, if_true, reduceCtorEq, if_false, Bool.false_eq_true]) ?_
                    refine g_istore (lv' := [some (.ref o), some (.int (nI j_scale)), some (.int (nI j_day)), some (.int (b2i (svOp (X 1) (nI j_scale) (k + 1)))), some (.int (b2i (svSe (X 1) (nI j_scale) (k + 1)))), some (.int (nI k))]) C dX4_startVisit_134 (by decide) rfl ?_
                    refine g_inc1 (x := k) (lv' := [some (.ref o), some (.int (nI j_scale)), some (.int (nI j_day)), some (.int (b2i (svOp (X 1) (nI j_scale) (k + 1)))), some (.int (b2i (svSe (X 1) (nI j_scale) (k + 1)))), some (.int (nI (k + 1)))]) C dX4_startVisit_136 rfl (by decide) rfl ?_
                    refine g_goto 35 C dX4_startVisit_139 rfl ?_
                    exact ih (by simp only [svBad_s, hinv, decide_eq_false (Int32.not_lt.mpr c73), Bool.not_true, Bool.not_false, Bool.or_true, Bool.true_or, Bool.or_false, Bool.false_or, Bool.and_true, Bool.true_and, Bool.and_false, Bool.false_and, if_true, reduceCtorEq, if_false, Bool.false_eq_true])
                  · refine g_aload_n C dX4_startVisit_115 rfl rfl ?_
                    refine mg_1 C dX4_startVisit_116 ?_
                    refine g_bipush (v := 91) C dX4_startVisit_119 rfl ?_
                    refine g_iload C dX4_startVisit_121 rfl ?_
                    refine g_iadd C dX4_startVisit_123 ?_
                    refine g_topi (y := nI (91 + k)) (nI_add 91 k) ?_
                    refine ml_1 (i := 91 + k) C dX4_startVisit_124 (by omega) ?_
                    refine g_if_ne 132 C dX4_startVisit_125 rfl (fun c125 => ?_) (fun c125 => ?_)
                    · refine g_iload C dX4_startVisit_132 rfl ?_
                      refine g_topi (y := b2i (svSe (X 1) (nI j_scale) (k + 1))) (by simp only [svOp_s, svSe_s, b2i, decide_eq_true c56, decide_eq_true c73, decide_eq_true c112, decide_eq_false c125, Bool.not_true, Bool.not_false, Bool.or_true, Bool.true_or, Bool.or_false, Bool.false_or, Bool.and_true, Bool.true_and, Bool.and_false, Bool.false_and, if_true, reduceCtorEq, if_false, Bool.false_eq_true]) ?_
                      refine g_istore (lv' := [some (.ref o), some (.int (nI j_scale)), some (.int (nI j_day)), some (.int (b2i (svOp (X 1) (nI j_scale) (k + 1)))), some (.int (b2i (svSe (X 1) (nI j_scale) (k + 1)))), some (.int (nI k))]) C dX4_startVisit_134 (by decide) rfl ?_
                      refine g_inc1 (x := k) (lv' := [some (.ref o), some (.int (nI j_scale)), some (.int (nI j_day)), some (.int (b2i (svOp (X 1) (nI j_scale) (k + 1)))), some (.int (b2i (svSe (X 1) (nI j_scale) (k + 1)))), some (.int (nI (k + 1)))]) C dX4_startVisit_136 rfl (by decide) rfl ?_
                      refine g_goto 35 C dX4_startVisit_139 rfl ?_
                      exact ih (by simp only [svBad_s, hinv, decide_eq_false (Int32.not_lt.mpr c73), Bool.not_true, Bool.not_false, Bool.or_true, Bool.true_or, Bool.or_false, Bool.false_or, Bool.and_true, Bool.true_and, Bool.and_false, Bool.false_and, if_true, reduceCtorEq, if_false, Bool.false_eq_true])
                    · refine g_iconst (v := 1) C dX4_startVisit_128 rfl ?_
                      refine g_goto 134 C dX4_startVisit_129 rfl ?_
                      refine g_topi (y := b2i (svSe (X 1) (nI j_scale) (k + 1))) (by simp only [svOp_s, svSe_s, b2i, decide_eq_true c56, decide_eq_true c73, decide_eq_true c112, decide_eq_true c125, Bool.not_true, Bool.not_false, Bool.or_true, Bool.true_or, Bool.or_false, Bool.false_or, Bool.and_true, Bool.true_and, Bool.and_false, Bool.false_and, if_true, reduceCtorEq, if_false, Bool.false_eq_true]) ?_
                      refine g_istore (lv' := [some (.ref o), some (.int (nI j_scale)), some (.int (nI j_day)), some (.int (b2i (svOp (X 1) (nI j_scale) (k + 1)))), some (.int (b2i (svSe (X 1) (nI j_scale) (k + 1)))), some (.int (nI k))]) C dX4_startVisit_134 (by decide) rfl ?_
                      refine g_inc1 (x := k) (lv' := [some (.ref o), some (.int (nI j_scale)), some (.int (nI j_day)), some (.int (b2i (svOp (X 1) (nI j_scale) (k + 1)))), some (.int (b2i (svSe (X 1) (nI j_scale) (k + 1)))), some (.int (nI (k + 1)))]) C dX4_startVisit_136 rfl (by decide) rfl ?_
                      refine g_goto 35 C dX4_startVisit_139 rfl ?_
                      exact ih (by simp only [svBad_s, hinv, decide_eq_false (Int32.not_lt.mpr c73), Bool.not_true, Bool.not_false, Bool.or_true, Bool.true_or, Bool.or_false, Bool.false_or, Bool.and_true, Bool.true_and, Bool.and_false, Bool.false_and, if_true, reduceCtorEq, if_false, Bool.false_eq_true])
                · refine g_iconst (v := 1) C dX4_startVisit_95 rfl ?_
                  refine g_goto 100 C dX4_startVisit_96 rfl ?_
                  refine g_topi (y := b2i (svOp (X 1) (nI j_scale) (k + 1))) (by simp only [svOp_s, svSe_s, b2i, decide_eq_true c56, decide_eq_true c73, c79, decide_eq_true c92, Bool.not_true, Bool.not_false, Bool.or_true, Bool.true_or, Bool.or_false, Bool.false_or, Bool.and_true, Bool.true_and, Bool.and_false, Bool.false_and, if_true, reduceCtorEq, if_false, Bool.false_eq_true]) ?_
                  refine g_istore_n (lv' := [some (.ref o), some (.int (nI j_scale)), some (.int (nI j_day)), some (.int (b2i (svOp (X 1) (nI j_scale) (k + 1)))), some (.int (b2i (svSe (X 1) (nI j_scale) k))), some (.int (nI k))]) C dX4_startVisit_100 rfl (by decide) rfl ?_
                  refine g_aload_n C dX4_startVisit_101 rfl rfl ?_
                  refine mg_1 C dX4_startVisit_102 ?_
                  refine g_bipush (v := 61) C dX4_startVisit_105 rfl ?_
                  refine g_iload C dX4_startVisit_107 rfl ?_
                  refine g_iadd C dX4_startVisit_109 ?_
                  refine g_topi (y := nI (61 + k)) (nI_add 61 k) ?_
                  refine ml_1 (i := 61 + k) C dX4_startVisit_110 (by omega) ?_
                  refine g_iconst (v := 1) C dX4_startVisit_111 rfl ?_
                  refine g_icmp_ne 132 C dX4_startVisit_112 rfl (fun c112 => ?_) (fun c112 => ?_)
                  · refine g_iload C dX4_startVisit_132 rfl ?_
                    refine g_topi (y := b2i (svSe (X 1) (nI j_scale) (k + 1))) (by simp only [svOp_s, svSe_s, b2i, decide_eq_true c56, decide_eq_true c73, decide_eq_false c112, Bool.not_true, Bool.not_false, Bool.or_true, Bool.true_or, Bool.or_false, Bool.false_or, Bool.and_true, Bool.true_and, Bool.and_false, Bool.false_and, if_true, reduceCtorEq, if_false, Bool.false_eq_true]) ?_
                    refine g_istore (lv' := [some (.ref o), some (.int (nI j_scale)), some (.int (nI j_day)), some (.int (b2i (svOp (X 1) (nI j_scale) (k + 1)))), some (.int (b2i (svSe (X 1) (nI j_scale) (k + 1)))), some (.int (nI k))]) C dX4_startVisit_134 (by decide) rfl ?_
                    refine g_inc1 (x := k) (lv' := [some (.ref o), some (.int (nI j_scale)), some (.int (nI j_day)), some (.int (b2i (svOp (X 1) (nI j_scale) (k + 1)))), some (.int (b2i (svSe (X 1) (nI j_scale) (k + 1)))), some (.int (nI (k + 1)))]) C dX4_startVisit_136 rfl (by decide) rfl ?_
                    refine g_goto 35 C dX4_startVisit_139 rfl ?_
                    exact ih (by simp only [svBad_s, hinv, decide_eq_false (Int32.not_lt.mpr c73), Bool.not_true, Bool.not_false, Bool.or_true, Bool.true_or, Bool.or_false, Bool.false_or, Bool.and_true, Bool.true_and, Bool.and_false, Bool.false_and, if_true, reduceCtorEq, if_false, Bool.false_eq_true])
                  · refine g_aload_n C dX4_startVisit_115 rfl rfl ?_
                    refine mg_1 C dX4_startVisit_116 ?_
                    refine g_bipush (v := 91) C dX4_startVisit_119 rfl ?_
                    refine g_iload C dX4_startVisit_121 rfl ?_
                    refine g_iadd C dX4_startVisit_123 ?_
                    refine g_topi (y := nI (91 + k)) (nI_add 91 k) ?_
                    refine ml_1 (i := 91 + k) C dX4_startVisit_124 (by omega) ?_
                    refine g_if_ne 132 C dX4_startVisit_125 rfl (fun c125 => ?_) (fun c125 => ?_)
                    · refine g_iload C dX4_startVisit_132 rfl ?_
                      refine g_topi (y := b2i (svSe (X 1) (nI j_scale) (k + 1))) (by simp only [svOp_s, svSe_s, b2i, decide_eq_true c56, decide_eq_true c73, decide_eq_true c112, decide_eq_false c125, Bool.not_true, Bool.not_false, Bool.or_true, Bool.true_or, Bool.or_false, Bool.false_or, Bool.and_true, Bool.true_and, Bool.and_false, Bool.false_and, if_true, reduceCtorEq, if_false, Bool.false_eq_true]) ?_
                      refine g_istore (lv' := [some (.ref o), some (.int (nI j_scale)), some (.int (nI j_day)), some (.int (b2i (svOp (X 1) (nI j_scale) (k + 1)))), some (.int (b2i (svSe (X 1) (nI j_scale) (k + 1)))), some (.int (nI k))]) C dX4_startVisit_134 (by decide) rfl ?_
                      refine g_inc1 (x := k) (lv' := [some (.ref o), some (.int (nI j_scale)), some (.int (nI j_day)), some (.int (b2i (svOp (X 1) (nI j_scale) (k + 1)))), some (.int (b2i (svSe (X 1) (nI j_scale) (k + 1)))), some (.int (nI (k + 1)))]) C dX4_startVisit_136 rfl (by decide) rfl ?_
                      refine g_goto 35 C dX4_startVisit_139 rfl ?_
                      exact ih (by simp only [svBad_s, hinv, decide_eq_false (Int32.not_lt.mpr c73), Bool.not_true, Bool.not_false, Bool.or_true, Bool.true_or, Bool.or_false, Bool.false_or, Bool.and_true, Bool.true_and, Bool.and_false, Bool.false_and, if_true, reduceCtorEq, if_false, Bool.false_eq_true])
                    · refine g_iconst (v := 1) C dX4_startVisit_128 rfl ?_
                      refine g_goto 134 C dX4_startVisit_129 rfl ?_
                      refine g_topi (y := b2i (svSe (X 1) (nI j_scale) (k + 1))) (by simp only [svOp_s, svSe_s, b2i, decide_eq_true c56, decide_eq_true c73, decide_eq_true c112, decide_eq_true c125, Bool.not_true, Bool.not_false, Bool.or_true, Bool.true_or, Bool.or_false, Bool.false_or, Bool.and_true, Bool.true_and, Bool.and_false, Bool.false_and, if_true, reduceCtorEq, if_false, Bool.false_eq_true]) ?_
                      refine g_istore (lv' := [some (.ref o), some (.int (nI j_scale)), some (.int (nI j_day)), some (.int (b2i (svOp (X 1) (nI j_scale) (k + 1)))), some (.int (b2i (svSe (X 1) (nI j_scale) (k + 1)))), some (.int (nI k))]) C dX4_startVisit_134 (by decide) rfl ?_
                      refine g_inc1 (x := k) (lv' := [some (.ref o), some (.int (nI j_scale)), some (.int (nI j_day)), some (.int (b2i (svOp (X 1) (nI j_scale) (k + 1)))), some (.int (b2i (svSe (X 1) (nI j_scale) (k + 1)))), some (.int (nI (k + 1)))]) C dX4_startVisit_136 rfl (by decide) rfl ?_
                      refine g_goto 35 C dX4_startVisit_139 rfl ?_
                      exact ih (by simp only [svBad_s, hinv, decide_eq_false (Int32.not_lt.mpr c73), Bool.not_true, Bool.not_false, Bool.or_true, Bool.true_or, Bool.or_false, Bool.false_or, Bool.and_true, Bool.true_and, Bool.and_false, Bool.false_and, if_true, reduceCtorEq, if_false, Bool.false_eq_true])
            · refine g_iconst (v := (-1)) C dX4_startVisit_76 rfl ?_
              have er : svI (X 1) ns nv (nI j_scale) (nI j_day) = (-1) := by rw [svI, atI_in hj_scale (by omega), atI_in hj_day (by omega), svC, if_pos (show svBad (X 1) (nI j_scale) (nI j_day) nv = true from anyN_of (k := k) hk (by simp only [decide_eq_true c56, decide_eq_true (Int32.not_le.mp c73), Bool.not_true, Bool.not_false, Bool.or_true, Bool.true_or, Bool.or_false, Bool.false_or, Bool.and_true, Bool.true_and, Bool.and_false, Bool.false_and, if_true, reduceCtorEq, if_false, Bool.false_eq_true]))]
              exact g_iret C R (Nat.le_refl _) (Nat.le_refl _) dX4_startVisit_77 (fun H h => ⟨by rw [er], by rw [chF, chX, er, if_neg (by decide), if_neg (by decide)]; exact h⟩)
          · refine g_goto 136 C dX4_startVisit_59 rfl ?_
            refine g_inc1 (x := k) (lv' := [some (.ref o), some (.int (nI j_scale)), some (.int (nI j_day)), some (.int (b2i (svOp (X 1) (nI j_scale) k))), some (.int (b2i (svSe (X 1) (nI j_scale) k))), some (.int (nI (k + 1)))]) C dX4_startVisit_136 rfl (by decide) rfl ?_
            refine g_goto 35 C dX4_startVisit_139 rfl ?_
            rw [show svOp (X 1) (nI j_scale) (k + 1) = svOp (X 1) (nI j_scale) k by simp only [svOp_s, decide_eq_false c56, Bool.not_true, Bool.not_false, Bool.or_true, Bool.true_or, Bool.or_false, Bool.false_or, Bool.and_true, Bool.true_and, Bool.and_false, Bool.false_and, if_true, reduceCtorEq, if_false, Bool.false_eq_true], show svSe (X 1) (nI j_scale) (k + 1) = svSe (X 1) (nI j_scale) k by simp only [svSe_s, decide_eq_false c56, Bool.not_true, Bool.not_false, Bool.or_true, Bool.true_or, Bool.or_false, Bool.false_or, Bool.and_true, Bool.true_and, Bool.and_false, Bool.false_and, if_true, reduceCtorEq, if_false, Bool.false_eq_true]] at ih
            exact ih (by simp only [svBad_s, hinv, decide_eq_false c56, Bool.not_true, Bool.not_false, Bool.or_true, Bool.true_or, Bool.or_false, Bool.false_or, Bool.and_true, Bool.true_and, Bool.and_false, Bool.false_and, if_true, reduceCtorEq, if_false, Bool.false_eq_true])
    · refine g_iconst (v := (-1)) C dX4_startVisit_25 rfl ?_
      have er : svI (X 1) ns nv (nI j_scale) day = -1 := by rw [svI, atI_in hj_scale (by omega), atI_out c22]
      exact g_iret C R (Nat.le_refl _) (Nat.le_refl _) dX4_startVisit_26 (fun H h => ⟨by rw [er], by rw [chF, chX, er, if_neg (by decide), if_neg (by decide)]; exact h⟩)
theorem vdI_b (X : Nat → Nat → Int32) (nm v : Nat) (less : Int32) : ∃ q, q ≤ 5 ∧ vdI X nm v less = nI q := by
  unfold vdI
  split
  · exact ⟨1, by omega, rfl⟩
  · split
    · exact ⟨2, by omega, rfl⟩
    · split
      · exact ⟨3, by omega, rfl⟩
      · split
        · exact ⟨4, by omega, rfl⟩
        · split
          · exact ⟨5, by omega, rfl⟩
          · exact ⟨0, by omega, rfl⟩
/-- the verdict doesn't see whether the visit is closed, nor the undo rows -/
theorem vdI_cl (X : Nat → Nat → Int32) (nm : Nat) {v : Nat} (hv : v < 30) (g : Nat → Int32) (less : Int32) (ht : tnV X v ≤ 8) : vdI (setX (setX X 42 g) 1 (upd (X 1) (61 + v) 1)) nm v less = vdI X nm v less := by
  have e1 : ∀ j, j ≠ 61 + v → (setX (setX X 42 g) 1 (upd (X 1) (61 + v) 1)) 1 j = X 1 j := fun j hj => by
    rw [setX_self]; exact upd_ne hj
  have et : tnV (setX (setX X 42 g) 1 (upd (X 1) (61 + v) 1)) v = tnV X v := by unfold tnV; rw [e1 _ (by omega)]
  have el : ∀ t, t < 8 → ldT (setX (setX X 42 g) 1 (upd (X 1) (61 + v) 1)) nm v t = ldT X nm v t := fun t h => by unfold ldT; rw [e1 _ (by omega)]; rfl
  have ee : ∀ t, t < 8 → erT (setX (setX X 42 g) 1 (upd (X 1) (61 + v) 1)) nm v t = erT X nm v t := fun t h => by unfold erT; rw [e1 _ (by omega), el t h]
  have eo : ∀ t, t < 8 → toT (setX (setX X 42 g) 1 (upd (X 1) (61 + v) 1)) nm v t = toT X nm v t := fun t h => by unfold toT; rw [e1 _ (by omega), e1 _ (by omega), el t h]; rfl
  have a1 : vEm (setX (setX X 42 g) 1 (upd (X 1) (61 + v) 1)) v (tnV X v) = vEm X v (tnV X v) := anyN_congr fun t h => by rw [e1 _ (by omega)]
  have a2 : vHa (setX (setX X 42 g) 1 (upd (X 1) (61 + v) 1)) nm v (tnV X v) = vHa X nm v (tnV X v) := anyN_congr fun t h => by rw [e1 _ (by omega), el t (by omega)]; rfl
  have a3 : vTw (setX (setX X 42 g) 1 (upd (X 1) (61 + v) 1)) v (tnV X v) = vTw X v (tnV X v) := anyN_congr fun t h => anyN_congr fun u hu => by rw [e1 _ (by omega), e1 _ (by omega)]
  have a4 : vPa (setX (setX X 42 g) 1 (upd (X 1) (61 + v) 1)) nm v less (tnV X v) = vPa X nm v less (tnV X v) := allN_congr fun t h => by rw [eo t (by omega), ee t (by omega)]
  have a5 : vAg (setX (setX X 42 g) 1 (upd (X 1) (61 + v) 1)) nm v (tnV X v) = vAg X nm v (tnV X v) := allN_congr fun t h => allN_congr fun u hu => by rw [e1 _ (by omega), e1 _ (by omega), eo t (by omega), ee t (by omega), ee u (by omega)]
  unfold vdI
  rw [et, a1, a2, a3, a4, a5]
theorem Iv.tn (F : Nat → Int32) {X : Nat → Nat → Int32} {nt ns nm ne nv nu ln : Nat} (J : Iv F X nt ns nm ne nv nu ln) {v : Nat} (hv : v < nv) : tnV X v ≤ 8 ∧ X 1 (151 + v) = nI (tnV X v) := by
  obtain ⟨-, -, -, -, -, ⟨tn, htn, etn, -⟩⟩ := J.vi hv
  have e : tnV X v = tn := by rw [tnV, etn, nI_clamp (by omega)]
  exact ⟨by omega, by rw [e]; exact etn⟩
set_option maxRecDepth 100000 in
theorem ct_closeVisit {l : Launch} {Γ : Gm} {A : Nat → Prop} {ρ : State → Prop} (B : Bs l A ρ) {o : Nat} {ad : Nat → Nat} {F : Nat → Int32} {X : Nat → Nat → Int32} {nt ns nm ne nv nu ln : Nat} (J : Iv F X nt ns nm ne nv nu ln) (visit : Int32) : CtM l Γ A ρ yX4_closeVisit cX4_closeVisit 2 (some .int) 4 97 o ad [.ref o, .int visit] F X (some (.int (cvI X nm nv visit))) (chF F nu (cvI X nm nv visit)) (chX X nu (cvI X nm nv visit) (cvR X nm visit.toNatClampNeg)) := by
  refine Ct.of B.1 B.2 (by decide) [some (.ref o), some (.int visit)] (Nat.le_of_ble_eq_true rfl) rfl ?_
  intro E hE C R
  subst hE
  have hv_ := J.lv
  have hu_ := J.lu
  refine g_aload_n C dX4_closeVisit_0 rfl rfl ?_
  refine g_iconst (v := 0) C dX4_closeVisit_1 rfl ?_
  refine mp_0 C dX4_closeVisit_2 ?_
  refine g_aload_n C dX4_closeVisit_5 rfl rfl ?_
  refine g_iload_n C dX4_closeVisit_6 rfl rfl ?_
  refine g_mcall (rest := []) 1 C (ct_isVisit (F := upd F 0 0) (X := X) B J _) (lw_V q1950 q1952 qs63 q107 q1953) (by decide +kernel) ⟨Nat.le_of_ble_eq_true rfl, Nat.le_of_ble_eq_true rfl⟩ ⟨Nat.le_of_ble_eq_true rfl, Nat.le_of_ble_eq_true rfl⟩ rfl rfl (Nat.le_of_ble_eq_true rfl) dX4_closeVisit_7 ?_
  refine g_if_ne 15 C dX4_closeVisit_10 rfl (fun c10 => ?_) (fun c10 => ?_)
  · obtain ⟨j_visit, hj_visit, rfl⟩ := ixI_in (by omega) c10
    refine g_aload_n C dX4_closeVisit_15 rfl rfl ?_
    refine mg_1 C dX4_closeVisit_16 ?_
    refine g_bipush (v := 61) C dX4_closeVisit_19 rfl ?_
    refine g_iload_n C dX4_closeVisit_21 rfl rfl ?_
    refine g_iadd C dX4_closeVisit_22 ?_
    refine g_topi (y := nI (61 + j_visit)) (nI_add 61 j_visit) ?_
    refine ml_1 (i := 61 + j_visit) C dX4_closeVisit_23 (by omega) ?_
    refine g_iconst (v := 1) C dX4_closeVisit_24 rfl ?_
    refine g_icmp_ne 31 C dX4_closeVisit_25 rfl (fun c25 => ?_) (fun c25 => ?_)
    · refine g_aload_n C dX4_closeVisit_31 rfl rfl ?_
      refine g_mcallv (rest := []) 0 C (ct_keeps (F := upd F 0 0) (X := X) B J) (lw_V q1938 q1940 qs62 q107 q1941) (by decide +kernel) ⟨Nat.le_of_ble_eq_true rfl, Nat.le_of_ble_eq_true rfl⟩ ⟨Nat.le_of_ble_eq_true rfl, Nat.le_of_ble_eq_true rfl⟩ rfl rfl (Nat.le_of_ble_eq_true rfl) dX4_closeVisit_32 ?_
      refine g_aload_n C dX4_closeVisit_35 rfl rfl ?_
      refine mg_1 C dX4_closeVisit_36 ?_
      refine g_bipush (v := 61) C dX4_closeVisit_39 rfl ?_
      refine g_iload_n C dX4_closeVisit_41 rfl rfl ?_
      refine g_iadd C dX4_closeVisit_42 ?_
      refine g_topi (y := nI (61 + j_visit)) (nI_add 61 j_visit) ?_
      refine g_iconst (v := 1) C dX4_closeVisit_43 rfl ?_
      refine ms_1 (i := 61 + j_visit) C dX4_closeVisit_44 (by omega) ?_
      refine g_eqI (J := RepM Γ A o ad (upd (upd F 0 0) 41 (nI (kpN nu))) (setX (setX X 42 (kpA X nu)) 1 (upd (X 1) (61 + j_visit) 1))) rfl ?_
      refine g_aload_n C dX4_closeVisit_45 rfl rfl ?_
      refine mg_1 C dX4_closeVisit_46 ?_
      refine g_bipush (v := 91) C dX4_closeVisit_49 rfl ?_
      refine g_iload_n C dX4_closeVisit_51 rfl rfl ?_
      refine g_iadd C dX4_closeVisit_52 ?_
      refine g_topi (y := nI (91 + j_visit)) (nI_add 91 j_visit) ?_
      have ej : (nI j_visit).toNatClampNeg = j_visit := nI_clamp (by omega)
      refine g_aload_n C dX4_closeVisit_53 rfl rfl ?_
      refine g_iload_n C dX4_closeVisit_54 rfl rfl ?_
      refine g_iconst (v := 0) C dX4_closeVisit_55 rfl ?_
      refine g_mcall (rest := [.int (nI (91 + j_visit)), .ref (ad 1)]) 2 C (ct_verdictOf (F := upd (upd F 0 0) 41 (nI (kpN nu))) (X := setX (setX X 42 (kpA X nu)) 1 (upd (X 1) (61 + j_visit) 1)) B (nu := kpN nu) ((J.thr 0).keep.row (J.closed hj_visit)) j_visit (by omega) _) (lw_V q2003 q2005 qs68 q107 q2006) (by decide +kernel) ⟨Nat.le_of_ble_eq_true rfl, Nat.le_of_ble_eq_true rfl⟩ ⟨Nat.le_of_ble_eq_true rfl, Nat.le_of_ble_eq_true rfl⟩ rfl rfl (Nat.le_of_ble_eq_true rfl) dX4_closeVisit_56 ?_
      refine g_topi (y := vdI X nm j_visit 0) (vdI_cl X nm (by omega) _ 0 (J.tn F hj_visit).1) ?_
      refine ms_1 (i := 91 + j_visit) C dX4_closeVisit_59 (by omega) ?_
      refine g_eqI (J := RepM Γ A o ad (upd (upd F 0 0) 41 (nI (kpN nu))) (setX (setX X 42 (kpA X nu)) 1 (upd (upd (X 1) (61 + j_visit) 1) (91 + j_visit) (vdI X nm j_visit 0)))) (congrArg (RepM Γ A o ad _) (by rw [setX_self, setX_setX])) ?_
      refine g_aload_n C dX4_closeVisit_60 rfl rfl ?_
      refine mg_1 C dX4_closeVisit_61 ?_
      refine g_bipush (v := 91) C dX4_closeVisit_64 rfl ?_
      refine g_iload_n C dX4_closeVisit_66 rfl rfl ?_
      refine g_iadd C dX4_closeVisit_67 ?_
      refine g_topi (y := nI (91 + j_visit)) (nI_add 91 j_visit) ?_
      refine ml_1 (i := 91 + j_visit) C dX4_closeVisit_68 (by omega) ?_
      refine g_topi (y := (upd (upd (X 1) (61 + j_visit) 1) (91 + j_visit) (vdI X nm j_visit 0)) (91 + j_visit)) rfl ?_
      refine g_topi (y := vdI X nm j_visit 0) (upd_self _ _ _) ?_
      have er : cvI X nm nv (nI j_visit) = vdI X nm j_visit 0 := by rw [cvI, atI_in hj_visit (by omega), cvC, if_neg c25]
      obtain ⟨q, hq, eq⟩ := vdI_b X nm j_visit 0
      have ep : (0 : Int32) ≤ vdI X nm j_visit 0 := by rw [eq]; exact nI_pos' (by omega)
      exact g_iret C R (Nat.le_refl _) (Nat.le_refl _) dX4_closeVisit_69 (fun H h => ⟨by rw [er], by rw [chF, chX, er, if_pos ep, if_pos ep, ej]; exact h⟩)
    · refine g_bipush (v := (-2)) C dX4_closeVisit_28 rfl ?_
      have er : cvI X nm nv (nI j_visit) = -2 := by rw [cvI, atI_in hj_visit (by omega), cvC, if_pos c25]
      exact g_iret C R (Nat.le_refl _) (Nat.le_refl _) dX4_closeVisit_30 (fun H h => ⟨by rw [er], by rw [chF, chX, er, if_neg (by decide), if_neg (by decide)]; exact h⟩)
  · refine g_iconst (v := (-1)) C dX4_closeVisit_13 rfl ?_
    have er : cvI X nm nv visit = -1 := by rw [cvI, atI_out c10]
    exact g_iret C R (Nat.le_refl _) (Nat.le_refl _) dX4_closeVisit_14 (fun H h => ⟨by rw [er], by rw [chF, chX, er, if_neg (by decide), if_neg (by decide)]; exact h⟩)
set_option maxRecDepth 100000 in
theorem ct_record {l : Launch} {Γ : Gm} {A : Nat → Prop} {ρ : State → Prop} (B : Bs l A ρ) {o : Nat} {ad : Nat → Nat} {F : Nat → Int32} {X : Nat → Nat → Int32} {nt ns nm ne nv nu ln : Nat} (J : Iv F X nt ns nm ne nv nu ln) (visit put reading : Int32) : CtM l Γ A ρ yX4_record cX4_record 5 (some .int) 2 46 o ad [.ref o, .int visit, .int put, .int reading] F X (some (.int (rcI X nm nv visit put reading))) (chF F nu (rcI X nm nv visit put reading)) (chX X nu (rcI X nm nv visit put reading) (rcR X visit.toNatClampNeg put reading)) := by
  refine Ct.of B.1 B.2 (by decide) [some (.ref o), some (.int visit), some (.int put), some (.int reading), none] (Nat.le_of_ble_eq_true rfl) rfl ?_
  intro E hE C R
  subst hE
  have hv_ := J.lv
  have hu_ := J.lu
  have hm_ := J.lm
  have hs_ := J.ls
  have hp_ := pow10 hm_
  refine g_aload_n C dX4_record_0 rfl rfl ?_
  refine g_iconst (v := 0) C dX4_record_1 rfl ?_
  refine mp_0 C dX4_record_2 ?_
  refine g_aload_n C dX4_record_5 rfl rfl ?_
  refine g_iload_n C dX4_record_6 rfl rfl ?_
  refine g_mcall (rest := []) 1 C (ct_isVisit (F := upd F 0 0) (X := X) B J _) (lw_V q1950 q1952 qs63 q107 q1953) (by decide +kernel) ⟨Nat.le_of_ble_eq_true rfl, Nat.le_of_ble_eq_true rfl⟩ ⟨Nat.le_of_ble_eq_true rfl, Nat.le_of_ble_eq_true rfl⟩ rfl rfl (Nat.le_of_ble_eq_true rfl) dX4_record_7 ?_
  refine g_if_eq 66 C dX4_record_10 rfl (fun c10 => ?_) (fun c10 => ?_)
  · refine g_iconst (v := (-1)) C dX4_record_66 rfl ?_
    have er : rcI X nm nv visit put reading = -1 := by rw [rcI, atI_out c10]
    exact g_iret C R (Nat.le_refl _) (Nat.le_refl _) dX4_record_67 (fun H h => ⟨by rw [er], by rw [chF, chX, er, if_neg (by decide), if_neg (by decide)]; exact h⟩)
  · obtain ⟨j_visit, hj_visit, rfl⟩ := ixI_in (by omega) c10
    obtain ⟨⟨sc, hsc, esc⟩, -⟩ := J.vi hj_visit
    obtain ⟨htn, etn⟩ := J.tn F hj_visit
    have ej : (nI j_visit).toNatClampNeg = j_visit := nI_clamp (by omega)
    refine g_iload_n C dX4_record_13 rfl rfl ?_
    refine g_i2l C dX4_record_14 ?_
    refine g_lconst (v := 0) C dX4_record_15 rfl ?_
    refine g_iconst (v := 1) C dX4_record_16 rfl ?_
    refine g_aload_n C dX4_record_17 rfl rfl ?_
    refine mg_8 C dX4_record_18 ?_
    refine g_topi (y := nI nm) (J.f8) ?_
    refine g_ishl C dX4_record_21 ?_
    refine g_topi (y := nI (2 ^ nm)) (shl1 (by omega)) ?_
    refine g_iconst (v := 1) C dX4_record_22 rfl ?_
    refine g_isub C dX4_record_23 ?_
    refine g_i2l C dX4_record_24 ?_
    refine g_pcall (rest := []) 3 C (ct_within B _ _ _) (lw_S q1783 q1784 q107 q1785) ⟨by decide, by decide, by decide +kernel⟩ ⟨Nat.le_of_ble_eq_true rfl, Nat.le_of_ble_eq_true rfl⟩ ⟨Nat.le_of_ble_eq_true rfl, Nat.le_of_ble_eq_true rfl⟩ rfl rfl (Nat.le_of_ble_eq_true rfl) dX4_record_25 ?_
    refine g_topi (y := ixI put (2 ^ nm)) (wi_ix (by omega)) ?_
    refine g_if_eq 66 C dX4_record_28 rfl (fun c28 => ?_) (fun c28 => ?_)
    · refine g_iconst (v := (-1)) C dX4_record_66 rfl ?_
      have er : rcI X nm nv (nI j_visit) put reading = -1 := by rw [rcI, atI_in hj_visit (by omega), atI_out c28]
      exact g_iret C R (Nat.le_refl _) (Nat.le_refl _) dX4_record_67 (fun H h => ⟨by rw [er], by rw [chF, chX, er, if_neg (by decide), if_neg (by decide)]; exact h⟩)
    · obtain ⟨j_put, hj_put, rfl⟩ := ixI_in (by omega) c28
      refine g_aload_n C dX4_record_31 rfl rfl ?_
      refine g_iload_n C dX4_record_32 rfl rfl ?_
      refine g_mcall (rest := []) 1 C (ct_sumOf (F := upd F 0 0) (X := X) B J _) (lw_V q1918 q1920 qs61 q107 q1921) (by decide +kernel) ⟨Nat.le_of_ble_eq_true rfl, Nat.le_of_ble_eq_true rfl⟩ ⟨Nat.le_of_ble_eq_true rfl, Nat.le_of_ble_eq_true rfl⟩ rfl rfl (Nat.le_of_ble_eq_true rfl) dX4_record_33 ?_
      refine g_aload_n C dX4_record_36 rfl rfl ?_
      refine mg_7 C dX4_record_37 ?_
      refine g_aload_n C dX4_record_40 rfl rfl ?_
      refine mg_1 C dX4_record_41 ?_
      refine g_iconst (v := 1) C dX4_record_44 rfl ?_
      refine g_iload_n C dX4_record_45 rfl rfl ?_
      refine g_iadd C dX4_record_46 ?_
      refine g_topi (y := nI (1 + j_visit)) (nI_add 1 j_visit) ?_
      refine ml_1 (i := 1 + j_visit) C dX4_record_47 (by omega) ?_
      refine g_topi (y := nI sc) (esc) ?_
      refine ml_7 (i := sc) C dX4_record_48 (by omega) ?_
      refine g_icmp_gt 66 C dX4_record_49 rfl (fun c49 => ?_) (fun c49 => ?_)
      · refine g_iconst (v := (-1)) C dX4_record_66 rfl ?_
        have er : rcI X nm nv (nI j_visit) (nI j_put) reading = -1 := by rw [rcI, atI_in hj_visit (by omega), atI_in hj_put (by omega), rcC, esc, nI_clamp (show sc < 2 ^ 31 by omega), if_pos c49]
        exact g_iret C R (Nat.le_refl _) (Nat.le_refl _) dX4_record_67 (fun H h => ⟨by rw [er], by rw [chF, chX, er, if_neg (by decide), if_neg (by decide)]; exact h⟩)
      · refine g_iload_n C dX4_record_52 rfl rfl ?_
        refine g_i2l C dX4_record_53 ?_
        refine g_ldc2 (v := (-1999999)) C dX4_record_54 q1962 ?_
        refine g_ldc2 (v := 1999999) C dX4_record_57 q1963 ?_
        refine g_pcall (rest := []) 3 C (ct_within B _ _ _) (lw_S q1783 q1784 q107 q1785) ⟨by decide, by decide, by decide +kernel⟩ ⟨Nat.le_of_ble_eq_true rfl, Nat.le_of_ble_eq_true rfl⟩ ⟨Nat.le_of_ble_eq_true rfl, Nat.le_of_ble_eq_true rfl⟩ rfl rfl (Nat.le_of_ble_eq_true rfl) dX4_record_60 ?_
        refine g_topi (y := rnI reading (-1999999) 1999999) (wi_rn reading (-1999999) 1999999) ?_
        refine g_if_ne 68 C dX4_record_63 rfl (fun c63 => ?_) (fun c63 => ?_)
        · refine g_aload_n C dX4_record_68 rfl rfl ?_
          refine mg_1 C dX4_record_69 ?_
          refine g_bipush (v := 61) C dX4_record_72 rfl ?_
          refine g_iload_n C dX4_record_74 rfl rfl ?_
          refine g_iadd C dX4_record_75 ?_
          refine g_topi (y := nI (61 + j_visit)) (nI_add 61 j_visit) ?_
          refine ml_1 (i := 61 + j_visit) C dX4_record_76 (by omega) ?_
          refine g_iconst (v := 1) C dX4_record_77 rfl ?_
          refine g_icmp_ne 84 C dX4_record_78 rfl (fun c78 => ?_) (fun c78 => ?_)
          · refine g_aload_n C dX4_record_84 rfl rfl ?_
            refine mg_1 C dX4_record_85 ?_
            refine g_sipush (v := 151) C dX4_record_88 rfl ?_
            refine g_iload_n C dX4_record_91 rfl rfl ?_
            refine g_iadd C dX4_record_92 ?_
            refine g_topi (y := nI (151 + j_visit)) (nI_add 151 j_visit) ?_
            refine ml_1 (i := 151 + j_visit) C dX4_record_93 (by omega) ?_
            refine g_topi (y := nI (tnV X j_visit)) (etn) ?_
            refine g_istore (lv' := [some (.ref o), some (.int (nI j_visit)), some (.int (nI j_put)), some (.int reading), some (.int (nI (tnV X j_visit)))]) C dX4_record_94 (by decide) rfl ?_
            refine g_iload C dX4_record_96 rfl ?_
            refine g_bipush (v := 8) C dX4_record_98 rfl ?_
            refine gN_ne (a := tnV X j_visit) (b := 8) 106 C dX4_record_100 rfl (by omega) (by omega) (fun c100 => ?_) (fun c100 => ?_)
            · refine g_aload_n C dX4_record_106 rfl rfl ?_
              refine g_mcallv (rest := []) 0 C (ct_keeps (F := upd F 0 0) (X := X) B J) (lw_V q1938 q1940 qs62 q107 q1941) (by decide +kernel) ⟨Nat.le_of_ble_eq_true rfl, Nat.le_of_ble_eq_true rfl⟩ ⟨Nat.le_of_ble_eq_true rfl, Nat.le_of_ble_eq_true rfl⟩ rfl rfl (Nat.le_of_ble_eq_true rfl) dX4_record_107 ?_
              refine g_aload_n C dX4_record_110 rfl rfl ?_
              refine mg_1 C dX4_record_111 ?_
              refine g_sipush (v := 181) C dX4_record_114 rfl ?_
              refine g_bipush (v := 8) C dX4_record_117 rfl ?_
              refine g_iload_n C dX4_record_119 rfl rfl ?_
              refine g_imul C dX4_record_120 ?_
              refine g_topi (y := nI (8 * j_visit)) (pk_mul 8 j_visit) ?_
              refine g_iadd C dX4_record_121 ?_
              refine g_topi (y := nI (181 + 8 * j_visit)) (nI_add 181 (8 * j_visit)) ?_
              refine g_iload C dX4_record_122 rfl ?_
              refine g_iadd C dX4_record_124 ?_
              refine g_topi (y := nI (181 + 8 * j_visit + tnV X j_visit)) (nI_add (181 + 8 * j_visit) (tnV X j_visit)) ?_
              refine g_iload_n C dX4_record_125 rfl rfl ?_
              refine ms_1 (i := 181 + 8 * j_visit + tnV X j_visit) C dX4_record_126 (by omega) ?_
              refine g_eqI (J := RepM Γ A o ad (upd (upd F 0 0) 41 (nI (kpN nu))) (setX (setX X 42 (kpA X nu)) 1 (upd (X 1) (181 + 8 * j_visit + tnV X j_visit) (nI j_put)))) rfl ?_
              refine g_aload_n C dX4_record_127 rfl rfl ?_
              refine mg_1 C dX4_record_128 ?_
              refine g_sipush (v := 421) C dX4_record_131 rfl ?_
              refine g_bipush (v := 8) C dX4_record_134 rfl ?_
              refine g_iload_n C dX4_record_136 rfl rfl ?_
              refine g_imul C dX4_record_137 ?_
              refine g_topi (y := nI (8 * j_visit)) (pk_mul 8 j_visit) ?_
              refine g_iadd C dX4_record_138 ?_
              refine g_topi (y := nI (421 + 8 * j_visit)) (nI_add 421 (8 * j_visit)) ?_
              refine g_iload C dX4_record_139 rfl ?_
              refine g_iadd C dX4_record_141 ?_
              refine g_topi (y := nI (421 + 8 * j_visit + tnV X j_visit)) (nI_add (421 + 8 * j_visit) (tnV X j_visit)) ?_
              refine g_iload_n C dX4_record_142 rfl rfl ?_
              refine ms_1 (i := 421 + 8 * j_visit + tnV X j_visit) C dX4_record_143 (by omega) ?_
              refine g_eqI (J := RepM Γ A o ad (upd (upd F 0 0) 41 (nI (kpN nu))) (setX (setX X 42 (kpA X nu)) 1 (upd (upd (X 1) (181 + 8 * j_visit + tnV X j_visit) (nI j_put)) (421 + 8 * j_visit + tnV X j_visit) reading))) (congrArg (RepM Γ A o ad _) (by rw [setX_self, setX_setX])) ?_
              refine g_aload_n C dX4_record_144 rfl rfl ?_
              refine mg_1 C dX4_record_145 ?_
              refine g_sipush (v := 151) C dX4_record_148 rfl ?_
              refine g_iload_n C dX4_record_151 rfl rfl ?_
              refine g_iadd C dX4_record_152 ?_
              refine g_topi (y := nI (151 + j_visit)) (nI_add 151 j_visit) ?_
              refine g_dup2 C dX4_record_153 rfl rfl ?_
              refine ml_1 (i := 151 + j_visit) C dX4_record_154 (by omega) ?_
              refine g_topi (y := (upd (upd (X 1) (181 + 8 * j_visit + tnV X j_visit) (nI j_put)) (421 + 8 * j_visit + tnV X j_visit) reading) (151 + j_visit)) rfl ?_
              refine g_topi (y := nI (tnV X j_visit)) (by rw [upd_ne (by omega), upd_ne (by omega)]; exact etn) ?_
              refine g_iconst (v := 1) C dX4_record_155 rfl ?_
              refine g_iadd C dX4_record_156 ?_
              refine g_topi (y := nI (tnV X j_visit + 1)) (nI_add (tnV X j_visit) 1) ?_
              refine ms_1 (i := 151 + j_visit) C dX4_record_157 (by omega) ?_
              refine g_eqI (J := RepM Γ A o ad (upd (upd F 0 0) 41 (nI (kpN nu))) (setX (setX X 42 (kpA X nu)) 1 (upd (upd (upd (X 1) (181 + 8 * j_visit + tnV X j_visit) (nI j_put)) (421 + 8 * j_visit + tnV X j_visit) reading) (151 + j_visit) (nI (tnV X j_visit + 1))))) (congrArg (RepM Γ A o ad _) (by rw [setX_self, setX_setX])) ?_
              refine g_iload C dX4_record_158 rfl ?_
              have er : rcI X nm nv (nI j_visit) (nI j_put) reading = nI (tnV X j_visit) := by rw [rcI, atI_in hj_visit (by omega), atI_in hj_put (by omega), rcC, esc, nI_clamp (show sc < 2 ^ 31 by omega), if_neg c49, if_neg c63, if_neg c78, if_neg c100]
              exact g_iret C R (Nat.le_refl _) (Nat.le_refl _) dX4_record_160 (fun H h => ⟨by rw [er], by rw [chF, chX, er, if_pos (nI_pos' (by omega)), if_pos (nI_pos' (by omega)), ej]; exact h⟩)
            · refine g_bipush (v := (-3)) C dX4_record_103 rfl ?_
              have er : rcI X nm nv (nI j_visit) (nI j_put) reading = -3 := by rw [rcI, atI_in hj_visit (by omega), atI_in hj_put (by omega), rcC, esc, nI_clamp (show sc < 2 ^ 31 by omega), if_neg c49, if_neg c63, if_neg c78, if_pos c100]
              exact g_iret C R (Nat.le_refl _) (Nat.le_refl _) dX4_record_105 (fun H h => ⟨by rw [er], by rw [chF, chX, er, if_neg (by decide), if_neg (by decide)]; exact h⟩)
          · refine g_bipush (v := (-2)) C dX4_record_81 rfl ?_
            have er : rcI X nm nv (nI j_visit) (nI j_put) reading = -2 := by rw [rcI, atI_in hj_visit (by omega), atI_in hj_put (by omega), rcC, esc, nI_clamp (show sc < 2 ^ 31 by omega), if_neg c49, if_neg c63, if_pos c78]
            exact g_iret C R (Nat.le_refl _) (Nat.le_refl _) dX4_record_83 (fun H h => ⟨by rw [er], by rw [chF, chX, er, if_neg (by decide), if_neg (by decide)]; exact h⟩)
        · refine g_iconst (v := (-1)) C dX4_record_66 rfl ?_
          have er : rcI X nm nv (nI j_visit) (nI j_put) reading = -1 := by rw [rcI, atI_in hj_visit (by omega), atI_in hj_put (by omega), rcC, esc, nI_clamp (show sc < 2 ^ 31 by omega), if_neg c49, if_pos c63]
          exact g_iret C R (Nat.le_refl _) (Nat.le_refl _) dX4_record_67 (fun H h => ⟨by rw [er], by rw [chF, chX, er, if_neg (by decide), if_neg (by decide)]; exact h⟩)
