set_option maxRecDepth 100000 in
theorem ct_twoPans {l : Launch} {Γ : Gm} {A : Nat → Prop} {ρ : State → Prop} (B : Bs l A ρ) {o : Nat} {ad : Nat → Nat} {F : Nat → Int32} {X : Nat → Nat → Int32} {nt ns nm ne nv nu ln : Nat} (J : Iv F X nt ns nm ne nv nu ln) (goods : Int32) : CtM l Γ A ρ yX4_twoPans cX4_twoPans 7 (some .int) 1 23 o ad [.ref o, .int goods] F X (some (.int (tpI (X 9) nm goods))) (upd F 0 0) (if 0 ≤ goods then setX X 36 (smF (X 9) nm (X 36) (2 ^ nm)) else X) := by
  refine Ct.of B.1 B.2 (by decide) [some (.ref o), some (.int goods), none, none, none, none, none] (Nat.le_of_ble_eq_true rfl) rfl ?_
  intro E hE C R
  subst hE
  have hm_ := J.lm
  have hp_ := pow10 hm_
  have hb_ : ∀ x : Int32, pcI x ≤ 32 := pcI_le
  have hO_ := tpO_b (X 9) nm goods
  have hL_ := fun r l => tpL_b (X 9) nm goods r _ (hO_ r) l
  refine g_aload_n C dX4_twoPans_0 rfl rfl ?_
  refine g_iconst (v := 0) C dX4_twoPans_1 rfl ?_
  refine mp_0 C dX4_twoPans_2 ?_
  refine g_iload_n C dX4_twoPans_5 rfl rfl ?_
  refine g_if_ge 11 C dX4_twoPans_6 rfl (fun c6 => ?_) (fun c6 => ?_)
  · refine g_iconst (v := 1) C dX4_twoPans_11 rfl ?_
    refine g_aload_n C dX4_twoPans_12 rfl rfl ?_
    refine mg_8 C dX4_twoPans_13 ?_
    refine g_topi (y := nI nm) (J.f8) ?_
    refine g_ishl C dX4_twoPans_16 ?_
    refine g_topi (y := nI (2 ^ nm)) (shl1 (by omega)) ?_
    refine g_istore_n (lv' := [some (.ref o), some (.int goods), some (.int (nI (2 ^ nm))), none, none, none, none]) C dX4_twoPans_17 rfl (by decide) rfl ?_
    refine g_iconst (v := 0) C dX4_twoPans_18 rfl ?_
    refine g_istore_n (lv' := [some (.ref o), some (.int goods), some (.int (nI (2 ^ nm))), some (.int 0), none, none, none]) C dX4_twoPans_19 rfl (by decide) rfl ?_
    refine g_eqI (J := RepM Γ A o ad (upd F 0 0) (setX X 36 (smF (X 9) nm (X 36) 0))) (congrArg (RepM Γ A o ad _) (setX_id X 36).symm) ?_
    refine g_for (P := fun k => G E (RepM Γ A o ad (upd F 0 0) (setX X 36 (smF (X 9) nm (X 36) k))) 0 0 20 [some (.ref o), some (.int goods), some (.int (nI (2 ^ nm))), some (.int (nI k)), none, none, none] []) (2 ^ nm) ?_ ?_ 0 (Nat.zero_le _)
    · refine g_iload_n C dX4_twoPans_20 rfl rfl ?_
      refine g_iload_n C dX4_twoPans_21 rfl rfl ?_
      refine gN_ge (a := (2 ^ nm)) (b := 2 ^ nm) 42 C dX4_twoPans_22 rfl (by first | omega | exact Nat.lt_of_le_of_lt (hb_ _) (by decide) | exact Nat.lt_of_le_of_lt (hO_ _) (by decide) | exact Nat.lt_of_le_of_lt (hL_ _ _) (by decide)) (by first | omega | exact Nat.lt_of_le_of_lt (hb_ _) (by decide) | exact Nat.lt_of_le_of_lt (hO_ _) (by decide) | exact Nat.lt_of_le_of_lt (hL_ _ _) (by decide)) (fun c22 => ?_) (fun c22 => ?_)
      · refine g_bipush (v := (-2)) C dX4_twoPans_42 rfl ?_
        refine g_istore_n (lv' := [some (.ref o), some (.int goods), some (.int (nI (2 ^ nm))), some (.int (-2)), none, none, none]) C dX4_twoPans_44 rfl (by decide) rfl ?_
        refine g_bipush (v := 99) C dX4_twoPans_45 rfl ?_
        refine g_istore (lv' := [some (.ref o), some (.int goods), some (.int (nI (2 ^ nm))), some (.int (-2)), some (.int 99), none, none]) C dX4_twoPans_47 (by decide) rfl ?_
        refine g_iconst (v := 0) C dX4_twoPans_49 rfl ?_
        refine g_istore (lv' := [some (.ref o), some (.int goods), some (.int (nI (2 ^ nm))), some (.int (-2)), some (.int 99), some (.int 0), none]) C dX4_twoPans_50 (by decide) rfl ?_
        refine g_for (P := fun r => G E (RepM Γ A o ad (upd F 0 0) (setX X 36 (smF (X 9) nm (X 36) (2 ^ nm)))) 0 0 52 [some (.ref o), some (.int goods), some (.int (nI (2 ^ nm))), some (.int ((tpO (X 9) nm goods r).1)), some (.int (nI ((tpO (X 9) nm goods r).2))), some (.int (nI r)), none] []) (2 ^ nm) ?_ ?_ 0 (Nat.zero_le _)
        · refine g_iload C dX4_twoPans_52 rfl ?_
          refine g_iload_n C dX4_twoPans_54 rfl rfl ?_
          refine gN_ge (a := (2 ^ nm)) (b := 2 ^ nm) 150 C dX4_twoPans_55 rfl (by first | omega | exact Nat.lt_of_le_of_lt (hb_ _) (by decide) | exact Nat.lt_of_le_of_lt (hO_ _) (by decide) | exact Nat.lt_of_le_of_lt (hL_ _ _) (by decide)) (by first | omega | exact Nat.lt_of_le_of_lt (hb_ _) (by decide) | exact Nat.lt_of_le_of_lt (hO_ _) (by decide) | exact Nat.lt_of_le_of_lt (hL_ _ _) (by decide)) (fun c55 => ?_) (fun c55 => ?_)
          · refine g_iload_n C dX4_twoPans_150 rfl rfl ?_
            exact g_iret C R (Nat.le_refl _) (Nat.le_refl _) dX4_twoPans_151 (fun H h => ⟨by rw [tpI, if_pos c6], by rw [if_pos c6]; exact h⟩)
          · exfalso; omega
        · intro r hr ihr
          replace ihr : G E (RepM Γ A o ad (upd F 0 0) (setX X 36 (smF (X 9) nm (X 36) (2 ^ nm)))) 0 0 52 [some (.ref o), some (.int goods), some (.int (nI (2 ^ nm))), some (.int ((tpO (X 9) nm goods (r + 1)).1)), some (.int (nI ((tpO (X 9) nm goods (r + 1)).2))), some (.int (nI (r + 1))), none] [] := ihr
          refine g_iload C dX4_twoPans_52 rfl ?_
          refine g_iload_n C dX4_twoPans_54 rfl rfl ?_
          refine gN_ge (a := r) (b := 2 ^ nm) 150 C dX4_twoPans_55 rfl (by first | omega | exact Nat.lt_of_le_of_lt (hb_ _) (by decide) | exact Nat.lt_of_le_of_lt (hO_ _) (by decide) | exact Nat.lt_of_le_of_lt (hL_ _ _) (by decide)) (by first | omega | exact Nat.lt_of_le_of_lt (hb_ _) (by decide) | exact Nat.lt_of_le_of_lt (hO_ _) (by decide) | exact Nat.lt_of_le_of_lt (hL_ _ _) (by decide)) (fun c55 => ?_) (fun c55 => ?_)
          · exfalso; omega
          · refine g_iconst (v := 0) C dX4_twoPans_58 rfl ?_
            refine g_istore (lv' := [some (.ref o), some (.int goods), some (.int (nI (2 ^ nm))), some (.int ((tpO (X 9) nm goods r).1)), some (.int (nI ((tpO (X 9) nm goods r).2))), some (.int (nI r)), some (.int 0)]) C dX4_twoPans_59 (by decide) rfl ?_
            by_cases cg : loadN (X 9) (nI r) nm < goods
            · refine g_iload C dX4_twoPans_61 rfl ?_
              refine g_iload_n C dX4_twoPans_63 rfl rfl ?_
              refine gN_ge (a := 0) (b := 2 ^ nm) 144 C dX4_twoPans_64 rfl (by first | omega | exact Nat.lt_of_le_of_lt (hb_ _) (by decide) | exact Nat.lt_of_le_of_lt (hO_ _) (by decide) | exact Nat.lt_of_le_of_lt (hL_ _ _) (by decide)) (by first | omega | exact Nat.lt_of_le_of_lt (hb_ _) (by decide) | exact Nat.lt_of_le_of_lt (hO_ _) (by decide) | exact Nat.lt_of_le_of_lt (hL_ _ _) (by decide)) (fun c64 => ?_) (fun c64 => ?_)
              · exfalso; omega
              · refine g_aload_n C dX4_twoPans_67 rfl rfl ?_
                refine mg_36 C dX4_twoPans_68 ?_
                refine g_iload C dX4_twoPans_71 rfl ?_
                refine ml_36 (i := r) C dX4_twoPans_73 (by omega) ?_
                refine g_topi (y := (smF (X 9) nm (X 36) (2 ^ nm)) r) rfl ?_
                refine g_topi (y := loadN (X 9) (nI r) nm) (smF_get _ _ _ (by omega)) ?_
                refine g_iload_n C dX4_twoPans_74 rfl rfl ?_
                refine g_icmp_lt 144 C dX4_twoPans_75 rfl (fun c75 => ?_) (fun c75 => ?_)
                · refine g_inc1 (x := r) (lv' := [some (.ref o), some (.int goods), some (.int (nI (2 ^ nm))), some (.int ((tpO (X 9) nm goods r).1)), some (.int (nI ((tpO (X 9) nm goods r).2))), some (.int (nI (r + 1))), some (.int 0)]) C dX4_twoPans_144 rfl (by decide) rfl ?_
                  refine g_goto 52 C dX4_twoPans_147 rfl ?_
                  rw [show tpO (X 9) nm goods (r + 1) = tpO (X 9) nm goods r by rw [tpO, if_pos cg]] at ihr
                  exact g_lv (lv' := [some (.ref o), some (.int goods), some (.int (nI (2 ^ nm))), some (.int ((tpO (X 9) nm goods r).1)), some (.int (nI ((tpO (X 9) nm goods r).2))), some (.int (nI (r + 1))), none]) (fun i w h => by match i, h with | 0, h => exact h | 1, h => exact h | 2, h => exact h | 3, h => exact h | 4, h => exact h | 5, h => exact h | 6, h => cases h) ihr
                · exact absurd cg c75
            · refine g_for (P := fun q => G E (RepM Γ A o ad (upd F 0 0) (setX X 36 (smF (X 9) nm (X 36) (2 ^ nm)))) 0 0 61 [some (.ref o), some (.int goods), some (.int (nI (2 ^ nm))), some (.int ((tpL (X 9) nm goods r (tpO (X 9) nm goods r) q).1)), some (.int (nI ((tpL (X 9) nm goods r (tpO (X 9) nm goods r) q).2))), some (.int (nI r)), some (.int (nI q))] []) (2 ^ nm) ?_ ?_ 0 (Nat.zero_le _)
              · refine g_iload C dX4_twoPans_61 rfl ?_
                refine g_iload_n C dX4_twoPans_63 rfl rfl ?_
                refine gN_ge (a := (2 ^ nm)) (b := 2 ^ nm) 144 C dX4_twoPans_64 rfl (by first | omega | exact Nat.lt_of_le_of_lt (hb_ _) (by decide) | exact Nat.lt_of_le_of_lt (hO_ _) (by decide) | exact Nat.lt_of_le_of_lt (hL_ _ _) (by decide)) (by first | omega | exact Nat.lt_of_le_of_lt (hb_ _) (by decide) | exact Nat.lt_of_le_of_lt (hO_ _) (by decide) | exact Nat.lt_of_le_of_lt (hL_ _ _) (by decide)) (fun c64 => ?_) (fun c64 => ?_)
                · refine g_inc1 (x := r) (lv' := [some (.ref o), some (.int goods), some (.int (nI (2 ^ nm))), some (.int ((tpL (X 9) nm goods r (tpO (X 9) nm goods r) (2 ^ nm)).1)), some (.int (nI ((tpL (X 9) nm goods r (tpO (X 9) nm goods r) (2 ^ nm)).2))), some (.int (nI (r + 1))), some (.int (nI (2 ^ nm)))]) C dX4_twoPans_144 rfl (by decide) rfl ?_
                  refine g_goto 52 C dX4_twoPans_147 rfl ?_
                  rw [show tpO (X 9) nm goods (r + 1) = tpL (X 9) nm goods r (tpO (X 9) nm goods r) (2 ^ nm) by rw [tpO, if_neg cg]] at ihr
                  exact g_lv (lv' := [some (.ref o), some (.int goods), some (.int (nI (2 ^ nm))), some (.int ((tpL (X 9) nm goods r (tpO (X 9) nm goods r) (2 ^ nm)).1)), some (.int (nI ((tpL (X 9) nm goods r (tpO (X 9) nm goods r) (2 ^ nm)).2))), some (.int (nI (r + 1))), none]) (fun i w h => by match i, h with | 0, h => exact h | 1, h => exact h | 2, h => exact h | 3, h => exact h | 4, h => exact h | 5, h => exact h | 6, h => cases h) ihr
                · exfalso; omega
              · intro q hq ihq
                replace ihq : G E (RepM Γ A o ad (upd F 0 0) (setX X 36 (smF (X 9) nm (X 36) (2 ^ nm)))) 0 0 61 [some (.ref o), some (.int goods), some (.int (nI (2 ^ nm))), some (.int ((tpL (X 9) nm goods r (tpO (X 9) nm goods r) (q + 1)).1)), some (.int (nI ((tpL (X 9) nm goods r (tpO (X 9) nm goods r) (q + 1)).2))), some (.int (nI r)), some (.int (nI (q + 1)))] [] := ihq
                refine g_iload C dX4_twoPans_61 rfl ?_
                refine g_iload_n C dX4_twoPans_63 rfl rfl ?_
                refine gN_ge (a := q) (b := 2 ^ nm) 144 C dX4_twoPans_64 rfl (by first | omega | exact Nat.lt_of_le_of_lt (hb_ _) (by decide) | exact Nat.lt_of_le_of_lt (hO_ _) (by decide) | exact Nat.lt_of_le_of_lt (hL_ _ _) (by decide)) (by first | omega | exact Nat.lt_of_le_of_lt (hb_ _) (by decide) | exact Nat.lt_of_le_of_lt (hO_ _) (by decide) | exact Nat.lt_of_le_of_lt (hL_ _ _) (by decide)) (fun c64 => ?_) (fun c64 => ?_)
                · exfalso; omega
                · refine g_aload_n C dX4_twoPans_67 rfl rfl ?_
                  refine mg_36 C dX4_twoPans_68 ?_
                  refine g_iload C dX4_twoPans_71 rfl ?_
                  refine ml_36 (i := r) C dX4_twoPans_73 (by omega) ?_
                  refine g_topi (y := (smF (X 9) nm (X 36) (2 ^ nm)) r) rfl ?_
                  refine g_topi (y := loadN (X 9) (nI r) nm) (smF_get _ _ _ (by omega)) ?_
                  refine g_iload_n C dX4_twoPans_74 rfl rfl ?_
                  refine g_icmp_lt 144 C dX4_twoPans_75 rfl (fun c75 => ?_) (fun c75 => ?_)
                  · exact absurd c75 cg
                  · refine g_iload C dX4_twoPans_78 rfl ?_
                    refine g_iload C dX4_twoPans_80 rfl ?_
                    refine g_iand C dX4_twoPans_82 ?_
                    refine g_if_ne 138 C dX4_twoPans_83 rfl (fun c83 => ?_) (fun c83 => ?_)
                    · refine g_inc1 (x := q) (lv' := [some (.ref o), some (.int goods), some (.int (nI (2 ^ nm))), some (.int ((tpL (X 9) nm goods r (tpO (X 9) nm goods r) q).1)), some (.int (nI ((tpL (X 9) nm goods r (tpO (X 9) nm goods r) q).2))), some (.int (nI r)), some (.int (nI (q + 1)))]) C dX4_twoPans_138 rfl (by decide) rfl ?_
                      refine g_goto 61 C dX4_twoPans_141 rfl ?_
                      rw [show tpL (X 9) nm goods r (tpO (X 9) nm goods r) (q + 1) = tpL (X 9) nm goods r (tpO (X 9) nm goods r) q by rw [tpL, if_neg c83]] at ihq
                      exact ihq
                    · refine g_aload_n C dX4_twoPans_86 rfl rfl ?_
                      refine mg_36 C dX4_twoPans_87 ?_
                      refine g_iload C dX4_twoPans_90 rfl ?_
                      refine ml_36 (i := r) C dX4_twoPans_92 (by omega) ?_
                      refine g_topi (y := (smF (X 9) nm (X 36) (2 ^ nm)) r) rfl ?_
                      refine g_topi (y := loadN (X 9) (nI r) nm) (smF_get _ _ _ (by omega)) ?_
                      refine g_aload_n C dX4_twoPans_93 rfl rfl ?_
                      refine mg_36 C dX4_twoPans_94 ?_
                      refine g_iload C dX4_twoPans_97 rfl ?_
                      refine ml_36 (i := q) C dX4_twoPans_99 (by omega) ?_
                      refine g_topi (y := (smF (X 9) nm (X 36) (2 ^ nm)) q) rfl ?_
                      refine g_topi (y := loadN (X 9) (nI q) nm) (smF_get _ _ _ (by omega)) ?_
                      refine g_isub C dX4_twoPans_100 ?_
                      refine g_iload_n C dX4_twoPans_101 rfl rfl ?_
                      refine g_icmp_ne 138 C dX4_twoPans_102 rfl (fun c102 => ?_) (fun c102 => ?_)
                      · refine g_inc1 (x := q) (lv' := [some (.ref o), some (.int goods), some (.int (nI (2 ^ nm))), some (.int ((tpL (X 9) nm goods r (tpO (X 9) nm goods r) q).1)), some (.int (nI ((tpL (X 9) nm goods r (tpO (X 9) nm goods r) q).2))), some (.int (nI r)), some (.int (nI (q + 1)))]) C dX4_twoPans_138 rfl (by decide) rfl ?_
                        refine g_goto 61 C dX4_twoPans_141 rfl ?_
                        rw [show tpL (X 9) nm goods r (tpO (X 9) nm goods r) (q + 1) = tpL (X 9) nm goods r (tpO (X 9) nm goods r) q by rw [tpL, if_pos c83, if_neg c102]] at ihq
                        exact ihq
                      · refine g_iload C dX4_twoPans_105 rfl ?_
                        refine g_iload C dX4_twoPans_107 rfl ?_
                        refine g_ior C dX4_twoPans_109 ?_
                        refine g_pcall (rest := []) 1 C (ct_bits B _) (lw_S q1922 q1923 q107 q1924) ⟨by decide, by decide, by decide +kernel⟩ ⟨Nat.le_of_ble_eq_true rfl, Nat.le_of_ble_eq_true rfl⟩ ⟨Nat.le_of_ble_eq_true rfl, Nat.le_of_ble_eq_true rfl⟩ rfl rfl (Nat.le_of_ble_eq_true rfl) dX4_twoPans_110 ?_
                        refine g_iload C dX4_twoPans_113 rfl ?_
                        refine gN_ge (a := pcI ((nI q) ||| (nI r))) (b := (tpL (X 9) nm goods r (tpO (X 9) nm goods r) q).2) 138 C dX4_twoPans_115 rfl (by first | omega | exact Nat.lt_of_le_of_lt (hb_ _) (by decide) | exact Nat.lt_of_le_of_lt (hO_ _) (by decide) | exact Nat.lt_of_le_of_lt (hL_ _ _) (by decide)) (by first | omega | exact Nat.lt_of_le_of_lt (hb_ _) (by decide) | exact Nat.lt_of_le_of_lt (hO_ _) (by decide) | exact Nat.lt_of_le_of_lt (hL_ _ _) (by decide)) (fun c115 => ?_) (fun c115 => ?_)
                        · refine g_inc1 (x := q) (lv' := [some (.ref o), some (.int goods), some (.int (nI (2 ^ nm))), some (.int ((tpL (X 9) nm goods r (tpO (X 9) nm goods r) q).1)), some (.int (nI ((tpL (X 9) nm goods r (tpO (X 9) nm goods r) q).2))), some (.int (nI r)), some (.int (nI (q + 1)))]) C dX4_twoPans_138 rfl (by decide) rfl ?_
                          refine g_goto 61 C dX4_twoPans_141 rfl ?_
                          rw [show tpL (X 9) nm goods r (tpO (X 9) nm goods r) (q + 1) = tpL (X 9) nm goods r (tpO (X 9) nm goods r) q by rw [tpL, if_pos c83, if_pos c102, if_pos c115]] at ihq
                          exact ihq
                        · refine g_iload C dX4_twoPans_118 rfl ?_
                          refine g_iload C dX4_twoPans_120 rfl ?_
                          refine g_ior C dX4_twoPans_122 ?_
                          refine g_pcall (rest := []) 1 C (ct_bits B _) (lw_S q1922 q1923 q107 q1924) ⟨by decide, by decide, by decide +kernel⟩ ⟨Nat.le_of_ble_eq_true rfl, Nat.le_of_ble_eq_true rfl⟩ ⟨Nat.le_of_ble_eq_true rfl, Nat.le_of_ble_eq_true rfl⟩ rfl rfl (Nat.le_of_ble_eq_true rfl) dX4_twoPans_123 ?_
                          refine g_istore (lv' := [some (.ref o), some (.int goods), some (.int (nI (2 ^ nm))), some (.int ((tpL (X 9) nm goods r (tpO (X 9) nm goods r) q).1)), some (.int (nI (pcI ((nI q) ||| (nI r))))), some (.int (nI r)), some (.int (nI q))]) C dX4_twoPans_126 (by decide) rfl ?_
                          refine g_iload C dX4_twoPans_128 rfl ?_
                          refine g_sipush (v := 1024) C dX4_twoPans_130 rfl ?_
                          refine g_iload C dX4_twoPans_133 rfl ?_
                          refine g_imul C dX4_twoPans_135 ?_
                          refine g_topi (y := nI (1024 * q)) (pk_mul 1024 q) ?_
                          refine g_iadd C dX4_twoPans_136 ?_
                          refine g_topi (y := nI (r + 1024 * q)) (nI_add r (1024 * q)) ?_
                          refine g_istore_n (lv' := [some (.ref o), some (.int goods), some (.int (nI (2 ^ nm))), some (.int (nI (r + 1024 * q))), some (.int (nI (pcI ((nI q) ||| (nI r))))), some (.int (nI r)), some (.int (nI q))]) C dX4_twoPans_137 rfl (by decide) rfl ?_
                          refine g_inc1 (x := q) (lv' := [some (.ref o), some (.int goods), some (.int (nI (2 ^ nm))), some (.int (nI (r + 1024 * q))), some (.int (nI (pcI ((nI q) ||| (nI r))))), some (.int (nI r)), some (.int (nI (q + 1)))]) C dX4_twoPans_138 rfl (by decide) rfl ?_
                          refine g_goto 61 C dX4_twoPans_141 rfl ?_
                          rw [show tpL (X 9) nm goods r (tpO (X 9) nm goods r) (q + 1) = (nI (r + 1024 * q), pcI (nI q ||| nI r)) by rw [tpL, if_pos c83, if_pos c102, if_neg (Nat.not_le.mpr c115)]] at ihq
                          exact ihq
      · exfalso; omega
    · intro k hk ih
      replace ih : G E (RepM Γ A o ad (upd F 0 0) (setX X 36 (smF (X 9) nm (X 36) (k + 1)))) 0 0 20 [some (.ref o), some (.int goods), some (.int (nI (2 ^ nm))), some (.int (nI (k + 1))), none, none, none] [] := ih
      refine g_iload_n C dX4_twoPans_20 rfl rfl ?_
      refine g_iload_n C dX4_twoPans_21 rfl rfl ?_
      refine gN_ge (a := k) (b := 2 ^ nm) 42 C dX4_twoPans_22 rfl (by first | omega | exact Nat.lt_of_le_of_lt (hb_ _) (by decide) | exact Nat.lt_of_le_of_lt (hO_ _) (by decide) | exact Nat.lt_of_le_of_lt (hL_ _ _) (by decide)) (by first | omega | exact Nat.lt_of_le_of_lt (hb_ _) (by decide) | exact Nat.lt_of_le_of_lt (hO_ _) (by decide) | exact Nat.lt_of_le_of_lt (hL_ _ _) (by decide)) (fun c22 => ?_) (fun c22 => ?_)
      · exfalso; omega
      · refine g_aload_n C dX4_twoPans_25 rfl rfl ?_
        refine mg_36 C dX4_twoPans_26 ?_
        refine g_iload_n C dX4_twoPans_29 rfl rfl ?_
        refine g_aload_n C dX4_twoPans_30 rfl rfl ?_
        refine g_iload_n C dX4_twoPans_31 rfl rfl ?_
        refine g_mcall (rest := [.int (nI k), .ref (ad 36)]) 1 C (ct_sumOf (F := upd F 0 0) (X := setX X 36 (smF (X 9) nm (X 36) k)) B J _) (lw_V q1918 q1920 qs61 q107 q1921) (by decide +kernel) ⟨Nat.le_of_ble_eq_true rfl, Nat.le_of_ble_eq_true rfl⟩ ⟨Nat.le_of_ble_eq_true rfl, Nat.le_of_ble_eq_true rfl⟩ rfl rfl (Nat.le_of_ble_eq_true rfl) dX4_twoPans_32 ?_
        refine g_topi (y := loadN (X 9) (nI k) nm) (rfl) ?_
        refine ms_36 (i := k) C dX4_twoPans_35 (by omega) ?_
        refine g_eqI (J := RepM Γ A o ad (upd F 0 0) (setX X 36 (upd (smF (X 9) nm (X 36) k) k (loadN (X 9) (nI k) nm)))) (congrArg (RepM Γ A o ad _) (by rw [setX_self, setX_setX])) ?_
        refine g_inc1 (x := k) (lv' := [some (.ref o), some (.int goods), some (.int (nI (2 ^ nm))), some (.int (nI (k + 1))), none, none, none]) C dX4_twoPans_36 rfl (by decide) rfl ?_
        refine g_goto 20 C dX4_twoPans_39 rfl ?_
        exact ih
  · refine g_iconst (v := (-1)) C dX4_twoPans_9 rfl ?_
    exact g_iret C R (Nat.le_refl _) (Nat.le_refl _) dX4_twoPans_10 (fun H h => ⟨by rw [tpI, if_neg c6], by rw [if_neg c6]; exact h⟩)
