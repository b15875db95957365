set_option maxHeartbeats 2000000 in
set_option maxRecDepth 100000 in
theorem ct_lays {l : Launch} {Γ : Gm} {A : Nat → Prop} {ρ : State → Prop} (B : Bs l A ρ) {o : Nat} {ad : Nat → Nat} {F : Nat → Int32} {X : Nat → Nat → Int32} (n : Nat) (hn2 : 2 ≤ n) (hn : n ≤ 12) : CtM l Γ A ρ yX4_lays cX4_lays 4 none 2 53 o ad [.ref o, .int (nI n)] F X none F (layX X n) := by
  refine Ct.of B.1 B.2 (by decide) [some (.ref o), some (.int (nI n)), none, none] (Nat.le_of_ble_eq_true rfl) rfl ?_
  intro E hE C R
  subst hE
  refine g_iconst (v := 2) C dX4_lays_0 rfl ?_
  refine g_istore_n (lv' := [some (.ref o), some (.int (nI n)), some (.int 2), none]) C dX4_lays_1 rfl (by decide) rfl ?_
  refine g_eqI (J := RepM Γ A o ad F (setX X 38 (layO n 2 0 (X 38)))) (congrArg (RepM Γ A o ad _) (by rw [layO_0, setX_id])) ?_
  have k2 : ∀ s, 2 ≤ s → s ≤ n + 1 → G E (RepM Γ A o ad F (setX X 38 (layO n s 0 (X 38)))) 0 0 2 [some (.ref o), some (.int (nI n)), some (.int (nI s)), none] [] := by
    intro s h2 hs
    refine g_for (P := fun s => 2 ≤ s → G E (RepM Γ A o ad F (setX X 38 (layO n s 0 (X 38)))) 0 0 2 [some (.ref o), some (.int (nI n)), some (.int (nI s)), none] []) (n + 1) ?_ ?_ s hs h2
    · intro h2_
      refine g_iload_n C dX4_lays_2 rfl rfl ?_
      refine g_iload_n C dX4_lays_3 rfl rfl ?_
      refine gN_gt (a := n + 1) (b := n) 50 C dX4_lays_4 rfl (by omega) (by omega) (fun c4 => ?_) (fun c4 => ?_)
      · refine g_iconst (v := 1) C dX4_lays_50 rfl ?_
        refine g_istore_n (lv' := [some (.ref o), some (.int (nI n)), some (.int 1), none]) C dX4_lays_51 rfl (by decide) rfl ?_
        refine g_eqI (J := RepM Γ A o ad F (setX (setX X 38 (layO n (n + 1) 0 (X 38))) 39 (layB n (2 * 1) (X 39)))) (congrArg (RepM Γ A o ad _) (by rw [layB_0]; exact (setX_id _ 39).symm)) ?_
        refine g_lv (lv' := [some (.ref o), some (.int (nI n)), some (.int (nI 1)), none]) (fun i w h => by match i, h with | 0, h => exact h | 1, h => exact h | 2, h => exact h | 3, h => cases h) ?_
        have k1 : ∀ u, 1 ≤ u → u ≤ n + 1 → G E (RepM Γ A o ad F (setX (setX X 38 (layO n (n + 1) 0 (X 38))) 39 (layB n (2 * u) (X 39)))) 0 0 52 [some (.ref o), some (.int (nI n)), some (.int (nI u)), none] [] := by
          intro u h1 hu
          refine g_for (P := fun u => 1 ≤ u → G E (RepM Γ A o ad F (setX (setX X 38 (layO n (n + 1) 0 (X 38))) 39 (layB n (2 * u) (X 39)))) 0 0 52 [some (.ref o), some (.int (nI n)), some (.int (nI u)), none] []) (n + 1) ?_ ?_ u hu h1
          · intro h1_
            refine g_iload_n C dX4_lays_52 rfl rfl ?_
            refine g_iload_n C dX4_lays_53 rfl rfl ?_
            refine gN_gt (a := n + 1) (b := n) 99 C dX4_lays_54 rfl (by omega) (by omega) (fun c54 => ?_) (fun c54 => ?_)
            · exact g_vret C R (Nat.le_refl _) (Nat.le_refl _) dX4_lays_99 (fun H h => ⟨rfl, h⟩)
            · exfalso; omega
          · intro u hu ihu h1_
            replace ihu : 1 ≤ u + 1 → G E (RepM Γ A o ad F (setX (setX X 38 (layO n (n + 1) 0 (X 38))) 39 (layB n (2 * (u + 1)) (X 39)))) 0 0 52 [some (.ref o), some (.int (nI n)), some (.int (nI (u + 1))), none] [] := ihu
            replace ihu := ihu (by omega)
            refine g_iload_n C dX4_lays_52 rfl rfl ?_
            refine g_iload_n C dX4_lays_53 rfl rfl ?_
            refine gN_gt (a := u) (b := n) 99 C dX4_lays_54 rfl (by omega) (by omega) (fun c54 => ?_) (fun c54 => ?_)
            · exfalso; omega
            · refine g_aload_n C dX4_lays_57 rfl rfl ?_
              refine mg_39 C dX4_lays_58 ?_
              refine g_iconst (v := 2) C dX4_lays_61 rfl ?_
              refine g_iload_n C dX4_lays_62 rfl rfl ?_
              refine g_imul C dX4_lays_63 ?_
              refine g_topi (y := nI (2 * u)) (pk_mul 2 u) ?_
              refine g_aload_n C dX4_lays_64 rfl rfl ?_
              refine g_iload_n C dX4_lays_65 rfl rfl ?_
              refine g_iconst (v := 0) C dX4_lays_66 rfl ?_
              refine g_iload_n C dX4_lays_67 rfl rfl ?_
              refine g_iload_n C dX4_lays_68 rfl rfl ?_
              refine g_isub C dX4_lays_69 ?_
              refine g_topi (y := nI (n - u)) (pk_sub (a := n) (b := u) (by omega)) ?_
              refine g_mcall (rest := [.int (nI (2 * u)), .ref (ad 39)]) 3 C (ct_leastBoth (F := F) (X := setX (setX X 38 (layO n (n + 1) 0 (X 38))) 39 (layB n (2 * u) (X 39))) B (oneN n) (bothN n 0) u 0 (n - u) n (by omega) (by omega) (by omega) (by omega) (fun p q e1 e2 => layO_get (by omega) e1 (by omega)) (fun p q _ => T1_le _ _ _) (fun p e1 e2 => layB_get (by omega) e2 (by omega)) (fun p _ => B1_le n (by omega) p)) (lw_V q2140 q2142 qs80 q107 q2143) (by decide +kernel) ⟨Nat.le_of_ble_eq_true rfl, Nat.le_of_ble_eq_true rfl⟩ ⟨Nat.le_of_ble_eq_true rfl, Nat.le_of_ble_eq_true rfl⟩ rfl rfl (Nat.le_of_ble_eq_true rfl) dX4_lays_70 ?_
              refine g_topi (y := nI (bothN n 0 u)) (congrArg nI (bothN_eq n (by omega) (by omega)).symm) ?_
              refine ms_39 (i := 2 * u) C dX4_lays_73 (by omega) ?_
              refine g_eqI (J := RepM Γ A o ad F (setX (setX X 38 (layO n (n + 1) 0 (X 38))) 39 (upd (layB n (2 * u) (X 39)) (2 * u) (nI (bothN n 0 u))))) (congrArg (RepM Γ A o ad _) (by rw [setX_self, setX_setX])) ?_
              refine g_eqI (J := RepM Γ A o ad F (setX (setX X 38 (layO n (n + 1) 0 (X 38))) 39 (layB n (2 * u + 1) (X 39)))) (congrArg (RepM Γ A o ad _) (congrArg (setX _ 39) (by have := layB_step (n := n) (m := 2 * u) (by omega) (X 39); rw [show 2 * u % 2 = 0 by omega, show 2 * u / 2 = u by omega] at this; exact this))) ?_
              refine g_aload_n C dX4_lays_74 rfl rfl ?_
              refine mg_39 C dX4_lays_75 ?_
              refine g_iconst (v := 2) C dX4_lays_78 rfl ?_
              refine g_iload_n C dX4_lays_79 rfl rfl ?_
              refine g_imul C dX4_lays_80 ?_
              refine g_topi (y := nI (2 * u)) (pk_mul 2 u) ?_
              refine g_iconst (v := 1) C dX4_lays_81 rfl ?_
              refine g_iadd C dX4_lays_82 ?_
              refine g_topi (y := nI (2 * u + 1)) (nI_add (2 * u) 1) ?_
              refine g_aload_n C dX4_lays_83 rfl rfl ?_
              refine g_iload_n C dX4_lays_84 rfl rfl ?_
              refine g_iconst (v := 1) C dX4_lays_85 rfl ?_
              refine g_iload_n C dX4_lays_86 rfl rfl ?_
              refine g_iload_n C dX4_lays_87 rfl rfl ?_
              refine g_isub C dX4_lays_88 ?_
              refine g_topi (y := nI (n - u)) (pk_sub (a := n) (b := u) (by omega)) ?_
              refine g_mcall (rest := [.int (nI (2 * u + 1)), .ref (ad 39)]) 3 C (ct_leastBoth (F := F) (X := setX (setX X 38 (layO n (n + 1) 0 (X 38))) 39 (layB n (2 * u + 1) (X 39))) B (oneN n) (bothN n 1) u 1 (n - u) n (by omega) (by omega) (by omega) (by omega) (fun p q e1 e2 => layO_get (by omega) e1 (by omega)) (fun p q _ => T1_le _ _ _) (fun p e1 e2 => layB_get (by omega) e2 (by omega)) (fun p _ => B1_le n (by omega) p)) (lw_V q2140 q2142 qs80 q107 q2143) (by decide +kernel) ⟨Nat.le_of_ble_eq_true rfl, Nat.le_of_ble_eq_true rfl⟩ ⟨Nat.le_of_ble_eq_true rfl, Nat.le_of_ble_eq_true rfl⟩ rfl rfl (Nat.le_of_ble_eq_true rfl) dX4_lays_89 ?_
              refine g_topi (y := nI (bothN n 1 u)) (congrArg nI (bothN_eq n (by omega) (by omega)).symm) ?_
              refine ms_39 (i := 2 * u + 1) C dX4_lays_92 (by omega) ?_
              refine g_eqI (J := RepM Γ A o ad F (setX (setX X 38 (layO n (n + 1) 0 (X 38))) 39 (upd (layB n (2 * u + 1) (X 39)) (2 * u + 1) (nI (bothN n 1 u))))) (congrArg (RepM Γ A o ad _) (by rw [setX_self, setX_setX])) ?_
              refine g_eqI (J := RepM Γ A o ad F (setX (setX X 38 (layO n (n + 1) 0 (X 38))) 39 (layB n (2 * u + 1 + 1) (X 39)))) (congrArg (RepM Γ A o ad _) (congrArg (setX _ 39) (by have := layB_step (n := n) (m := 2 * u + 1) (by omega) (X 39); rw [show (2 * u + 1) % 2 = 1 by omega, show (2 * u + 1) / 2 = u by omega] at this; exact this))) ?_
              refine g_inc1 (x := u) (lv' := [some (.ref o), some (.int (nI n)), some (.int (nI (u + 1))), none]) C dX4_lays_93 rfl (by decide) rfl ?_
              refine g_goto 52 C dX4_lays_96 rfl ?_
              exact ihu
        exact k1 1 (by omega) (by omega)
      · exfalso; omega
    · intro s hs ihs h2_
      replace ihs : 2 ≤ s + 1 → G E (RepM Γ A o ad F (setX X 38 (layO n (s + 1) 0 (X 38)))) 0 0 2 [some (.ref o), some (.int (nI n)), some (.int (nI (s + 1))), none] [] := ihs
      replace ihs := ihs (by omega)
      refine g_iload_n C dX4_lays_2 rfl rfl ?_
      refine g_iload_n C dX4_lays_3 rfl rfl ?_
      refine gN_gt (a := s) (b := n) 50 C dX4_lays_4 rfl (by omega) (by omega) (fun c4 => ?_) (fun c4 => ?_)
      · exfalso; omega
      · refine g_iconst (v := 0) C dX4_lays_7 rfl ?_
        refine g_istore_n (lv' := [some (.ref o), some (.int (nI n)), some (.int (nI s)), some (.int 0)]) C dX4_lays_8 rfl (by decide) rfl ?_
        refine g_for (P := fun k => G E (RepM Γ A o ad F (setX X 38 (layO n s k (X 38)))) 0 0 9 [some (.ref o), some (.int (nI n)), some (.int (nI s)), some (.int (nI k))] []) (s + 1) ?_ ?_ 0 (Nat.zero_le _)
        · refine g_iload_n C dX4_lays_9 rfl rfl ?_
          refine g_iload_n C dX4_lays_10 rfl rfl ?_
          refine gN_gt (a := (s + 1)) (b := s) 44 C dX4_lays_11 rfl (by omega) (by omega) (fun c11 => ?_) (fun c11 => ?_)
          · refine g_inc1 (x := s) (lv' := [some (.ref o), some (.int (nI n)), some (.int (nI (s + 1))), some (.int (nI (s + 1)))]) C dX4_lays_44 rfl (by decide) rfl ?_
            refine g_goto 2 C dX4_lays_47 rfl ?_
            rw [← layO_row n s (by omega) (X 38)] at ihs
            exact g_lv (fun i w h => by match i, h with | 0, h => exact h | 1, h => exact h | 2, h => exact h | 3, h => cases h) ihs
          · exfalso; omega
        · intro k hk ihk
          replace ihk : G E (RepM Γ A o ad F (setX X 38 (layO n s (k + 1) (X 38)))) 0 0 9 [some (.ref o), some (.int (nI n)), some (.int (nI s)), some (.int (nI (k + 1)))] [] := ihk
          refine g_iload_n C dX4_lays_9 rfl rfl ?_
          refine g_iload_n C dX4_lays_10 rfl rfl ?_
          refine gN_gt (a := k) (b := s) 44 C dX4_lays_11 rfl (by omega) (by omega) (fun c11 => ?_) (fun c11 => ?_)
          · exfalso; omega
          · refine g_aload_n C dX4_lays_14 rfl rfl ?_
            refine mg_38 C dX4_lays_15 ?_
            refine g_bipush (v := 13) C dX4_lays_18 rfl ?_
            refine g_iload_n C dX4_lays_20 rfl rfl ?_
            refine g_imul C dX4_lays_21 ?_
            refine g_topi (y := nI (13 * k)) (pk_mul 13 k) ?_
            refine g_iload_n C dX4_lays_22 rfl rfl ?_
            refine g_iadd C dX4_lays_23 ?_
            refine g_topi (y := nI (13 * k + s)) (nI_add (13 * k) s) ?_
            refine g_iload_n C dX4_lays_24 rfl rfl ?_
            refine g_isub C dX4_lays_25 ?_
            refine g_topi (y := nI ((13 * k + s) - k)) (pk_sub (a := 13 * k + s) (b := k) (by omega)) ?_
            refine g_aload_n C dX4_lays_26 rfl rfl ?_
            refine g_iload_n C dX4_lays_27 rfl rfl ?_
            refine g_iload_n C dX4_lays_28 rfl rfl ?_
            refine g_iload_n C dX4_lays_29 rfl rfl ?_
            refine g_isub C dX4_lays_30 ?_
            refine g_topi (y := nI (s - k)) (pk_sub (a := s) (b := k) (by omega)) ?_
            refine g_iload_n C dX4_lays_31 rfl rfl ?_
            refine g_iload_n C dX4_lays_32 rfl rfl ?_
            refine g_isub C dX4_lays_33 ?_
            refine g_topi (y := nI (n - s)) (pk_sub (a := n) (b := s) (by omega)) ?_
            refine g_mcall (rest := [.int (nI ((13 * k + s) - k)), .ref (ad 38)]) 3 C (ct_leastOne (F := F) (X := setX X 38 (layO n s k (X 38))) B (oneN n) k (s - k) (n - s) (by omega) (by omega) (by omega) (fun p q e1 e2 => layO_get (by omega) e1 (by omega)) (fun p q _ => T1_le _ _ _)) (lw_V q2129 q2131 qs78 q107 q2132) (by decide +kernel) ⟨Nat.le_of_ble_eq_true rfl, Nat.le_of_ble_eq_true rfl⟩ ⟨Nat.le_of_ble_eq_true rfl, Nat.le_of_ble_eq_true rfl⟩ rfl rfl (Nat.le_of_ble_eq_true rfl) dX4_lays_34 ?_
            refine g_topi (y := nI (oneN n k (s - k))) (congrArg nI (by rw [oneN_eq n (by omega), show n - k - (s - k) = n - s by omega])) ?_
            refine ms_38 (i := (13 * k + s) - k) C dX4_lays_37 (by omega) ?_
            refine g_eqI (J := RepM Γ A o ad F (setX X 38 (upd (layO n s k (X 38)) ((13 * k + s) - k) (nI (oneN n k (s - k)))))) (congrArg (RepM Γ A o ad _) (by rw [setX_self, setX_setX])) ?_
            refine g_eqI (J := RepM Γ A o ad F (setX X 38 (layO n s (k + 1) (X 38)))) (congrArg (RepM Γ A o ad _) (congrArg (setX X 38) (layO_step (by omega) (by omega) (by omega) _))) ?_
            refine g_inc1 (x := k) (lv' := [some (.ref o), some (.int (nI n)), some (.int (nI s)), some (.int (nI (k + 1)))]) C dX4_lays_38 rfl (by decide) rfl ?_
            refine g_goto 9 C dX4_lays_41 rfl ?_
            exact ihk
  exact k2 2 (by omega) (by omega)
