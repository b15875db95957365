theorem lt31 {n : Nat} (h : n ≤ 1000) : n < 2 ^ 31 := Nat.lt_of_le_of_lt h (by decide)
set_option maxRecDepth 100000 in
theorem ct_needs {l : Launch} {Γ : Gm} {A : Nat → Prop} {ρ : State → Prop} (B : Bs l A ρ) {o : Nat} {ad : Nat → Nat} {F : Nat → Int32} {X : Nat → Nat → Int32} (n : Nat) (hn : n ≤ 12) (hO : ∀ p q, 2 ≤ p + q → p + q ≤ n → X 38 (13 * p + q) = nI (oneN n p q)) (hB : ∀ u g, g ≤ 1 → 2 ≤ 2 * u + g → u ≤ n → X 39 (2 * u + g) = nI (bothN n g u)) (hm lm : Int32) (h1 : mlt hm n) (h2 : mlt lm n) (g : Nat) (hg : g ≤ 1) : CtM l Γ A ρ yX4_needs cX4_needs 4 (some .int) 1 22 o ad [.ref o, .int hm, .int lm, .int (nI g)] F X (some (.int (nI (neN n hm lm g)))) F X := by
  refine Ct.of B.1 B.2 (by decide) [some (.ref o), some (.int hm), some (.int lm), some (.int (nI g))] (Nat.le_of_ble_eq_true rfl) rfl ?_
  intro E hE C R
  subst hE
  have p1 := pcI_mlt h1
  have p2 := pcI_mlt h2
  refine g_iload_n C dX4_needs_0 rfl rfl ?_
  refine g_pcall (rest := []) 1 C (ct_bits B _) (lw_S q1922 q1923 q107 q1924) ⟨by decide, by decide, by decide +kernel⟩ ⟨Nat.le_of_ble_eq_true rfl, Nat.le_of_ble_eq_true rfl⟩ ⟨Nat.le_of_ble_eq_true rfl, Nat.le_of_ble_eq_true rfl⟩ rfl rfl (Nat.le_of_ble_eq_true rfl) dX4_needs_1 ?_
  refine g_iload_n C dX4_needs_4 rfl rfl ?_
  refine g_pcall (rest := [.int (nI (pcI hm))]) 1 C (ct_bits B _) (lw_S q1922 q1923 q107 q1924) ⟨by decide, by decide, by decide +kernel⟩ ⟨Nat.le_of_ble_eq_true rfl, Nat.le_of_ble_eq_true rfl⟩ ⟨Nat.le_of_ble_eq_true rfl, Nat.le_of_ble_eq_true rfl⟩ rfl rfl (Nat.le_of_ble_eq_true rfl) dX4_needs_5 ?_
  refine g_iadd C dX4_needs_8 ?_
  refine g_topi (y := nI (pcI hm + pcI lm)) (nI_add (pcI hm) (pcI lm)) ?_
  refine g_iload_n C dX4_needs_9 rfl rfl ?_
  refine g_iadd C dX4_needs_10 ?_
  refine g_topi (y := nI (pcI hm + pcI lm + g)) (nI_add (pcI hm + pcI lm) g) ?_
  refine g_iconst (v := 2) C dX4_needs_11 rfl ?_
  refine gN_ge (a := pcI hm + pcI lm + g) (b := 2) 17 C dX4_needs_12 rfl (by omega) (by omega) (fun c12 => ?_) (fun c12 => ?_)
  · refine g_iload_n C dX4_needs_17 rfl rfl ?_
    refine g_iload_n C dX4_needs_18 rfl rfl ?_
    refine g_iand C dX4_needs_19 ?_
    refine g_if_eq 35 C dX4_needs_20 rfl (fun c20 => ?_) (fun c20 => ?_)
    · refine g_aload_n C dX4_needs_35 rfl rfl ?_
      refine g_iload_n C dX4_needs_36 rfl rfl ?_
      refine g_pcall (rest := [.ref o]) 1 C (ct_bits B _) (lw_S q1922 q1923 q107 q1924) ⟨by decide, by decide, by decide +kernel⟩ ⟨Nat.le_of_ble_eq_true rfl, Nat.le_of_ble_eq_true rfl⟩ ⟨Nat.le_of_ble_eq_true rfl, Nat.le_of_ble_eq_true rfl⟩ rfl rfl (Nat.le_of_ble_eq_true rfl) dX4_needs_37 ?_
      refine g_iload_n C dX4_needs_40 rfl rfl ?_
      refine g_pcall (rest := [.int (nI (pcI hm)), .ref o]) 1 C (ct_bits B _) (lw_S q1922 q1923 q107 q1924) ⟨by decide, by decide, by decide +kernel⟩ ⟨Nat.le_of_ble_eq_true rfl, Nat.le_of_ble_eq_true rfl⟩ ⟨Nat.le_of_ble_eq_true rfl, Nat.le_of_ble_eq_true rfl⟩ rfl rfl (Nat.le_of_ble_eq_true rfl) dX4_needs_41 ?_
      refine g_mcall (rest := []) 2 C (ct_oneOf (F := F) (X := X) B (pcI hm) (pcI lm) (T1 (oneN n) (pcI hm) (pcI lm)) (by omega) (by omega) (T1_self _ _ _) (fun z => by rw [T1_ge _ z]; exact hO _ _ z (pcI_disj h1 h2 c20))) (lw_V q2133 q2135 qs79 q107 q2136) (by decide +kernel) ⟨Nat.le_of_ble_eq_true rfl, Nat.le_of_ble_eq_true rfl⟩ ⟨Nat.le_of_ble_eq_true rfl, Nat.le_of_ble_eq_true rfl⟩ rfl rfl (Nat.le_of_ble_eq_true rfl) dX4_needs_44 ?_
      exact g_iret C R (Nat.le_refl _) (Nat.le_refl _) dX4_needs_47 (fun H h => ⟨by rw [neN, if_neg (by omega), if_pos c20], h⟩)
    · refine g_aload_n C dX4_needs_23 rfl rfl ?_
      refine g_iload_n C dX4_needs_24 rfl rfl ?_
      refine g_pcall (rest := [.ref o]) 1 C (ct_bits B _) (lw_S q1922 q1923 q107 q1924) ⟨by decide, by decide, by decide +kernel⟩ ⟨Nat.le_of_ble_eq_true rfl, Nat.le_of_ble_eq_true rfl⟩ ⟨Nat.le_of_ble_eq_true rfl, Nat.le_of_ble_eq_true rfl⟩ rfl rfl (Nat.le_of_ble_eq_true rfl) dX4_needs_25 ?_
      refine g_iload_n C dX4_needs_28 rfl rfl ?_
      refine g_mcall (rest := []) 2 C (ct_bothOf (F := F) (X := X) B (pcI hm) g (B1 (bothN n g) (pcI hm) g) (by omega) (by omega) (B1_self _ _ _) (fun z => by rw [B1_ge _ z]; exact hB _ _ hg z (by omega))) (lw_V q2144 q2146 qs81 q107 q2147) (by decide +kernel) ⟨Nat.le_of_ble_eq_true rfl, Nat.le_of_ble_eq_true rfl⟩ ⟨Nat.le_of_ble_eq_true rfl, Nat.le_of_ble_eq_true rfl⟩ rfl rfl (Nat.le_of_ble_eq_true rfl) dX4_needs_29 ?_
      refine g_goto 47 C dX4_needs_32 rfl ?_
      exact g_iret C R (Nat.le_refl _) (Nat.le_refl _) dX4_needs_47 (fun H h => ⟨by rw [neN, if_neg (by omega), if_neg c20], h⟩)
  · refine g_iconst (v := 0) C dX4_needs_15 rfl ?_
    exact g_iret C R (Nat.le_refl _) (Nat.le_refl _) dX4_needs_16 (fun H h => ⟨by rw [neN, if_pos c12]; rfl, h⟩)
set_option maxRecDepth 100000 in
theorem ct_needed {l : Launch} {Γ : Gm} {A : Nat → Prop} {ρ : State → Prop} (B : Bs l A ρ) {o : Nat} {ad : Nat → Nat} {F : Nat → Int32} {X : Nat → Nat → Int32} {nt ns nm ne nv nu ln : Nat} (J : Iv F X nt ns nm ne nv nu ln) (e : Nat) (he : e < ne) : CtM l Γ A ρ yX4_needed cX4_needed 2 (some .int) 3 76 o ad [.ref o, .int (nI e)] F X (some (.int (nI (ndE X e)))) F (layX X (wtE X e)) := by
  refine Ct.of B.1 B.2 (by decide) [some (.ref o), some (.int (nI e))] (Nat.le_of_ble_eq_true rfl) rfl ?_
  intro E hE C R
  subst hE
  have he_ := J.le
  obtain ⟨hw2, hw12, ew, hmm, hml, eg, hg⟩ := J.wt he
  have hO := fun p q (e1 : 2 ≤ p + q) (e2 : p + q ≤ wtE X e) => layX_O (X := X) (n := wtE X e) hw12 e1 e2
  have hB := fun u g (e0 : g ≤ 1) (e1 : 2 ≤ 2 * u + g) (e2 : u ≤ wtE X e) => layX_B (X := X) (n := wtE X e) e0 e1 e2
  refine g_aload_n C dX4_needed_0 rfl rfl ?_
  refine g_aload_n C dX4_needed_1 rfl rfl ?_
  refine mg_11 C dX4_needed_2 ?_
  refine g_iload_n C dX4_needed_5 rfl rfl ?_
  refine ml_11 (i := e) C dX4_needed_6 (by omega) ?_
  refine g_topi (y := nI (wtE X e)) (ew) ?_
  refine g_mcallv (rest := []) 1 C (ct_lays (F := F) (X := X) B (wtE X e) (by omega) (by omega)) (lw_V q2125 q2127 qs77 q107 q2128) (by decide +kernel) ⟨Nat.le_of_ble_eq_true rfl, Nat.le_of_ble_eq_true rfl⟩ ⟨Nat.le_of_ble_eq_true rfl, Nat.le_of_ble_eq_true rfl⟩ rfl rfl (Nat.le_of_ble_eq_true rfl) dX4_needed_7 ?_
  refine g_aload_n C dX4_needed_10 rfl rfl ?_
  refine g_aload_n C dX4_needed_11 rfl rfl ?_
  refine mg_1 C dX4_needed_12 ?_
  refine g_sipush (v := 661) C dX4_needed_15 rfl ?_
  refine g_iload_n C dX4_needed_18 rfl rfl ?_
  refine g_iadd C dX4_needed_19 ?_
  refine g_topi (y := nI (661 + e)) (nI_add 661 e) ?_
  refine ml_1 (i := 661 + e) C dX4_needed_20 (by omega) ?_
  refine g_topi (y := X 1 (661 + e)) rfl ?_
  refine g_aload_n C dX4_needed_21 rfl rfl ?_
  refine mg_1 C dX4_needed_22 ?_
  refine g_sipush (v := 665) C dX4_needed_25 rfl ?_
  refine g_iload_n C dX4_needed_28 rfl rfl ?_
  refine g_iadd C dX4_needed_29 ?_
  refine g_topi (y := nI (665 + e)) (nI_add 665 e) ?_
  refine ml_1 (i := 665 + e) C dX4_needed_30 (by omega) ?_
  refine g_topi (y := X 1 (665 + e)) rfl ?_
  refine g_aload_n C dX4_needed_31 rfl rfl ?_
  refine mg_1 C dX4_needed_32 ?_
  refine g_sipush (v := 669) C dX4_needed_35 rfl ?_
  refine g_iload_n C dX4_needed_38 rfl rfl ?_
  refine g_iadd C dX4_needed_39 ?_
  refine g_topi (y := nI (669 + e)) (nI_add 669 e) ?_
  refine ml_1 (i := 669 + e) C dX4_needed_40 (by omega) ?_
  refine g_topi (y := X 1 (669 + e)) rfl ?_
  refine g_topi (y := nI (geE X e)) (eg) ?_
  refine g_mcall (rest := []) 3 C (ct_needs (F := F) (X := layX X (wtE X e)) B (wtE X e) (by omega) (fun p q e1 e2 => hO p q e1 e2) (fun u g e0 e1 e2 => hB u g e0 e1 e2) _ _ hmm hml (geE X e) (by omega)) (lw_V q2148 q2150 qs82 q107 q2151) (by decide +kernel) ⟨Nat.le_of_ble_eq_true rfl, Nat.le_of_ble_eq_true rfl⟩ ⟨Nat.le_of_ble_eq_true rfl, Nat.le_of_ble_eq_true rfl⟩ rfl rfl (Nat.le_of_ble_eq_true rfl) dX4_needed_41 ?_
  exact g_iret C R (Nat.le_refl _) (Nat.le_refl _) dX4_needed_44 (fun H h => ⟨rfl, h⟩)
set_option maxRecDepth 100000 in
theorem ct_weighingsNeeded {l : Launch} {Γ : Gm} {A : Nat → Prop} {ρ : State → Prop} (B : Bs l A ρ) {o : Nat} {ad : Nat → Nat} {F : Nat → Int32} {X : Nat → Nat → Int32} {nt ns nm ne nv nu ln : Nat} (J : Iv F X nt ns nm ne nv nu ln) (set : Int32) : CtM l Γ A ρ yX4_weighingsNeeded cX4_weighingsNeeded 3 (some .int) 4 97 o ad [.ref o, .int set] F X (some (.int (atI set ne (wnI X)))) (upd F 0 0) (if ixI set ne = 0 then X else layX X (wtE X set.toNatClampNeg)) := by
  refine Ct.of B.1 B.2 (by decide) [some (.ref o), some (.int set), none] (Nat.le_of_ble_eq_true rfl) rfl ?_
  intro E hE C R
  subst hE
  have he_ := J.le
  refine g_aload_n C dX4_weighingsNeeded_0 rfl rfl ?_
  refine g_iconst (v := 0) C dX4_weighingsNeeded_1 rfl ?_
  refine mp_0 C dX4_weighingsNeeded_2 ?_
  refine g_aload_n C dX4_weighingsNeeded_5 rfl rfl ?_
  refine g_iload_n C dX4_weighingsNeeded_6 rfl rfl ?_
  refine g_mcall (rest := []) 1 C (ct_isSet (F := upd F 0 0) (X := X) B J _) (lw_V q2080 q2082 qs74 q107 q2083) (by decide +kernel) ⟨Nat.le_of_ble_eq_true rfl, Nat.le_of_ble_eq_true rfl⟩ ⟨Nat.le_of_ble_eq_true rfl, Nat.le_of_ble_eq_true rfl⟩ rfl rfl (Nat.le_of_ble_eq_true rfl) dX4_weighingsNeeded_7 ?_
  refine g_if_ne 15 C dX4_weighingsNeeded_10 rfl (fun c10 => ?_) (fun c10 => ?_)
  · obtain ⟨j_set, hj_set, rfl⟩ := ixI_in (by omega) c10
    refine g_aload_n C dX4_weighingsNeeded_15 rfl rfl ?_
    refine g_iload_n C dX4_weighingsNeeded_16 rfl rfl ?_
    refine g_mcall (rest := []) 1 C (ct_needed (F := upd F 0 0) (X := X) B J j_set (by omega)) (lw_V q2121 q2123 qs76 q107 q2124) (by decide +kernel) ⟨Nat.le_of_ble_eq_true rfl, Nat.le_of_ble_eq_true rfl⟩ ⟨Nat.le_of_ble_eq_true rfl, Nat.le_of_ble_eq_true rfl⟩ rfl rfl (Nat.le_of_ble_eq_true rfl) dX4_weighingsNeeded_17 ?_
    obtain ⟨hw2, hw12, ew, hmm, hml, eg, hg⟩ := J.wt hj_set
    have hnd := ndE_le (X := X) (e := j_set) hg
    refine g_istore_n (lv' := [some (.ref o), some (.int (nI j_set)), some (.int (nI (ndE X j_set)))]) C dX4_weighingsNeeded_20 rfl (by decide) rfl ?_
    refine g_iload_n C dX4_weighingsNeeded_21 rfl rfl ?_
    refine g_bipush (v := 99) C dX4_weighingsNeeded_22 rfl ?_
    refine gN_lt (a := ndE X j_set) (b := 99) 32 C dX4_weighingsNeeded_24 rfl (by omega) (by omega) (fun c24 => ?_) (fun c24 => ?_)
    · refine g_iload_n C dX4_weighingsNeeded_32 rfl rfl ?_
      exact g_iret C R (Nat.le_refl _) (Nat.le_refl _) dX4_weighingsNeeded_33 (fun H h => ⟨by rw [atI_in hj_set (by omega), wnI, if_pos c24], by rw [if_neg (by rw [ixI_nI hj_set (by omega)]; decide), nI_clamp (show j_set < 2 ^ 31 by omega)]; exact h⟩)
    · refine g_bipush (v := (-2)) C dX4_weighingsNeeded_27 rfl ?_
      refine g_goto 33 C dX4_weighingsNeeded_29 rfl ?_
      exact g_iret C R (Nat.le_refl _) (Nat.le_refl _) dX4_weighingsNeeded_33 (fun H h => ⟨by rw [atI_in hj_set (by omega), wnI, if_neg (Nat.not_lt.mpr c24)], by rw [if_neg (by rw [ixI_nI hj_set (by omega)]; decide), nI_clamp (show j_set < 2 ^ 31 by omega)]; exact h⟩)
  · refine g_iconst (v := (-1)) C dX4_weighingsNeeded_13 rfl ?_
    exact g_iret C R (Nat.le_refl _) (Nat.le_refl _) dX4_weighingsNeeded_14 (fun H h => ⟨by rw [atI_out c10], by rw [if_pos c10]; exact h⟩)
set_option maxRecDepth 100000 in
theorem ct_fewestWeighings {l : Launch} {Γ : Gm} {A : Nat → Prop} {ρ : State → Prop} (B : Bs l A ρ) {o : Nat} {ad : Nat → Nat} {F : Nat → Int32} {X : Nat → Nat → Int32} (count maybe : Int32) : CtM l Γ A ρ yX4_fewestWeighings cX4_fewestWeighings 4 (some .int) 3 76 o ad [.ref o, .int count, .int maybe] F X (some (.int (fwI count maybe))) (upd F 0 0) (if rnI count 2 12 = 0 then X else layX X count.toNatClampNeg) := by
  refine Ct.of B.1 B.2 (by decide) [some (.ref o), some (.int count), some (.int maybe), none] (Nat.le_of_ble_eq_true rfl) rfl ?_
  intro E hE C R
  subst hE
  by_cases c0 : rnI count 2 12 = 0
  · refine g_aload_n C dX4_fewestWeighings_0 rfl rfl ?_
    refine g_iconst (v := 0) C dX4_fewestWeighings_1 rfl ?_
    refine mp_0 C dX4_fewestWeighings_2 ?_
    refine g_iload_n C dX4_fewestWeighings_5 rfl rfl ?_
    refine g_i2l C dX4_fewestWeighings_6 ?_
    refine g_ldc2 (v := 2) C dX4_fewestWeighings_7 q2088 ?_
    refine g_ldc2 (v := 12) C dX4_fewestWeighings_10 q2172 ?_
    refine g_pcall (rest := []) 3 C (ct_within B _ _ _) (lw_S q1783 q1784 q107 q1785) ⟨by decide, by decide, by decide +kernel⟩ ⟨Nat.le_of_ble_eq_true rfl, Nat.le_of_ble_eq_true rfl⟩ ⟨Nat.le_of_ble_eq_true rfl, Nat.le_of_ble_eq_true rfl⟩ rfl rfl (Nat.le_of_ble_eq_true rfl) dX4_fewestWeighings_13 ?_
    refine g_topi (y := rnI count 2 12) (wi_rn count 2 12) ?_
    refine g_topi (y := 0) (c0) ?_
    refine g_if_ne 21 C dX4_fewestWeighings_16 rfl (fun c16 => ?_) (fun c16 => ?_)
    · exact absurd c16 (by decide)
    · refine g_iconst (v := (-1)) C dX4_fewestWeighings_19 rfl ?_
      exact g_iret C R (Nat.le_refl _) (Nat.le_refl _) dX4_fewestWeighings_20 (fun H h => ⟨by rw [fwI, if_pos c0], by rw [if_pos c0]; exact h⟩)
  · obtain ⟨c, hc2, hc12, rfl⟩ := rnI_in c0
    have ec : (nI c).toNatClampNeg = c := nI_clamp (by omega)
    have c1 : rnI (nI c) 2 12 = 1 := by
      by_cases z : rnI (nI c) 2 12 = 0
      · exact absurd z c0
      · unfold rnI at z ⊢; split
        · rfl
        · rename_i z2; rw [if_neg z2] at z; exact absurd rfl z
    have hfg : fwG maybe ≤ 1 := by unfold fwG; split <;> omega
    have hle : B1 (bothN c (fwG maybe)) c (fwG maybe) ≤ 99 := B1_le c hfg c
    refine g_aload_n C dX4_fewestWeighings_0 rfl rfl ?_
    refine g_iconst (v := 0) C dX4_fewestWeighings_1 rfl ?_
    refine mp_0 C dX4_fewestWeighings_2 ?_
    refine g_iload_n C dX4_fewestWeighings_5 rfl rfl ?_
    refine g_i2l C dX4_fewestWeighings_6 ?_
    refine g_ldc2 (v := 2) C dX4_fewestWeighings_7 q2088 ?_
    refine g_ldc2 (v := 12) C dX4_fewestWeighings_10 q2172 ?_
    refine g_pcall (rest := []) 3 C (ct_within B _ _ _) (lw_S q1783 q1784 q107 q1785) ⟨by decide, by decide, by decide +kernel⟩ ⟨Nat.le_of_ble_eq_true rfl, Nat.le_of_ble_eq_true rfl⟩ ⟨Nat.le_of_ble_eq_true rfl, Nat.le_of_ble_eq_true rfl⟩ rfl rfl (Nat.le_of_ble_eq_true rfl) dX4_fewestWeighings_13 ?_
    refine g_topi (y := rnI (nI c) 2 12) (wi_rn (nI c) 2 12) ?_
    refine g_topi (y := 1) (c1) ?_
    refine g_if_ne 21 C dX4_fewestWeighings_16 rfl (fun c16 => ?_) (fun c16 => ?_)
    · refine g_aload_n C dX4_fewestWeighings_21 rfl rfl ?_
      refine g_iload_n C dX4_fewestWeighings_22 rfl rfl ?_
      refine g_mcallv (rest := []) 1 C (ct_lays (F := upd F 0 0) (X := X) B c (by omega) (by omega)) (lw_V q2125 q2127 qs77 q107 q2128) (by decide +kernel) ⟨Nat.le_of_ble_eq_true rfl, Nat.le_of_ble_eq_true rfl⟩ ⟨Nat.le_of_ble_eq_true rfl, Nat.le_of_ble_eq_true rfl⟩ rfl rfl (Nat.le_of_ble_eq_true rfl) dX4_fewestWeighings_23 ?_
      refine g_aload_n C dX4_fewestWeighings_26 rfl rfl ?_
      refine g_iload_n C dX4_fewestWeighings_27 rfl rfl ?_
      refine g_iload_n C dX4_fewestWeighings_28 rfl rfl ?_
      refine g_if_eq 36 C dX4_fewestWeighings_29 rfl (fun c29 => ?_) (fun c29 => ?_)
      · refine g_iconst (v := 0) C dX4_fewestWeighings_36 rfl ?_
        refine g_topi (y := nI (fwG maybe)) (by rw [fwG, if_pos c29]; rfl) ?_
        refine g_mcall (rest := []) 2 C (ct_bothOf (F := upd F 0 0) (X := layX X c) B c (fwG maybe) (B1 (bothN c (fwG maybe)) c (fwG maybe)) (by omega) hfg (B1_self _ _ _) (fun z => by rw [B1_ge _ z]; exact layX_B hfg z (by omega))) (lw_V q2144 q2146 qs81 q107 q2147) (by decide +kernel) ⟨Nat.le_of_ble_eq_true rfl, Nat.le_of_ble_eq_true rfl⟩ ⟨Nat.le_of_ble_eq_true rfl, Nat.le_of_ble_eq_true rfl⟩ rfl rfl (Nat.le_of_ble_eq_true rfl) dX4_fewestWeighings_37 ?_
        refine g_istore_n (lv' := [some (.ref o), some (.int (nI c)), some (.int maybe), some (.int (nI (B1 (bothN c (fwG maybe)) c (fwG maybe))))]) C dX4_fewestWeighings_40 rfl (by decide) rfl ?_
        refine g_iload_n C dX4_fewestWeighings_41 rfl rfl ?_
        refine g_bipush (v := 99) C dX4_fewestWeighings_42 rfl ?_
        refine gN_lt (a := B1 (bothN c (fwG maybe)) c (fwG maybe)) (b := 99) 52 C dX4_fewestWeighings_44 rfl (by omega) (by omega) (fun c44 => ?_) (fun c44 => ?_)
        · refine g_iload_n C dX4_fewestWeighings_52 rfl rfl ?_
          exact g_iret C R (Nat.le_refl _) (Nat.le_refl _) dX4_fewestWeighings_53 (fun H h => ⟨by rw [fwI, if_neg c0, ec, if_pos c44], by rw [if_neg c0, ec]; exact h⟩)
        · refine g_bipush (v := (-2)) C dX4_fewestWeighings_47 rfl ?_
          refine g_goto 53 C dX4_fewestWeighings_49 rfl ?_
          exact g_iret C R (Nat.le_refl _) (Nat.le_refl _) dX4_fewestWeighings_53 (fun H h => ⟨by rw [fwI, if_neg c0, ec, if_neg (Nat.not_lt.mpr c44)], by rw [if_neg c0, ec]; exact h⟩)
      · refine g_iconst (v := 1) C dX4_fewestWeighings_32 rfl ?_
        refine g_goto 37 C dX4_fewestWeighings_33 rfl ?_
        refine g_topi (y := nI (fwG maybe)) (by rw [fwG, if_neg c29]; rfl) ?_
        refine g_mcall (rest := []) 2 C (ct_bothOf (F := upd F 0 0) (X := layX X c) B c (fwG maybe) (B1 (bothN c (fwG maybe)) c (fwG maybe)) (by omega) hfg (B1_self _ _ _) (fun z => by rw [B1_ge _ z]; exact layX_B hfg z (by omega))) (lw_V q2144 q2146 qs81 q107 q2147) (by decide +kernel) ⟨Nat.le_of_ble_eq_true rfl, Nat.le_of_ble_eq_true rfl⟩ ⟨Nat.le_of_ble_eq_true rfl, Nat.le_of_ble_eq_true rfl⟩ rfl rfl (Nat.le_of_ble_eq_true rfl) dX4_fewestWeighings_37 ?_
        refine g_istore_n (lv' := [some (.ref o), some (.int (nI c)), some (.int maybe), some (.int (nI (B1 (bothN c (fwG maybe)) c (fwG maybe))))]) C dX4_fewestWeighings_40 rfl (by decide) rfl ?_
        refine g_iload_n C dX4_fewestWeighings_41 rfl rfl ?_
        refine g_bipush (v := 99) C dX4_fewestWeighings_42 rfl ?_
        refine gN_lt (a := B1 (bothN c (fwG maybe)) c (fwG maybe)) (b := 99) 52 C dX4_fewestWeighings_44 rfl (by omega) (by omega) (fun c44 => ?_) (fun c44 => ?_)
        · refine g_iload_n C dX4_fewestWeighings_52 rfl rfl ?_
          exact g_iret C R (Nat.le_refl _) (Nat.le_refl _) dX4_fewestWeighings_53 (fun H h => ⟨by rw [fwI, if_neg c0, ec, if_pos c44], by rw [if_neg c0, ec]; exact h⟩)
        · refine g_bipush (v := (-2)) C dX4_fewestWeighings_47 rfl ?_
          refine g_goto 53 C dX4_fewestWeighings_49 rfl ?_
          exact g_iret C R (Nat.le_refl _) (Nat.le_refl _) dX4_fewestWeighings_53 (fun H h => ⟨by rw [fwI, if_neg c0, ec, if_neg (Nat.not_lt.mpr c44)], by rw [if_neg c0, ec]; exact h⟩)
    · exact absurd c16 (by decide)
set_option maxRecDepth 100000 in
theorem ct_behind {l : Launch} {Γ : Gm} {A : Nat → Prop} {ρ : State → Prop} (B : Bs l A ρ) {o : Nat} {ad : Nat → Nat} {F : Nat → Int32} {X : Nat → Nat → Int32} {nt ns nm ne nv nu ln : Nat} (J : Iv F X nt ns nm ne nv nu ln) (e : Nat) (he : e < ne) (hO : ∀ p q, 2 ≤ p + q → p + q ≤ wtE X e → X 38 (13 * p + q) = nI (oneN (wtE X e) p q)) (hB : ∀ u g, g ≤ 1 → 2 ≤ 2 * u + g → u ≤ wtE X e → X 39 (2 * u + g) = nI (bothN (wtE X e) g u)) (left right : Int32) : CtM l Γ A ρ yX4_behind cX4_behind 9 (some .int) 2 45 o ad [.ref o, .int (nI e), .int left, .int right] F X (some (.int (nI (bhE X e left right)))) F X := by
  refine Ct.of B.1 B.2 (by decide) [some (.ref o), some (.int (nI e)), some (.int left), some (.int right), none, none, none, none, none] (Nat.le_of_ble_eq_true rfl) rfl ?_
  intro E hE C R
  subst hE
  have he_ := J.le
  obtain ⟨hw2, hw12, ew, hmm, hml, eg, hg⟩ := J.wt he
  have p0 := pcI_le (X 1 (661 + e))
  have p1 := pcI_le (X 1 (665 + e))
  have p2 := pcI_le (X 1 (661 + e) &&& ((left ||| right) ^^^ (-1)))
  have p3 := pcI_le (X 1 (665 + e) &&& ((left ||| right) ^^^ (-1)))
  have p4 := pcI_le (X 1 (661 + e) &&& left)
  have p5 := pcI_le (X 1 (665 + e) &&& right)
  have p6 := pcI_le (X 1 (661 + e) &&& right)
  have p7 := pcI_le (X 1 (665 + e) &&& left)
  have q1 := neN_le (wtE X e) (X 1 (661 + e) &&& ((left ||| right) ^^^ (-1))) (X 1 (665 + e) &&& ((left ||| right) ^^^ (-1))) hg
  have q2 := neN_le (wtE X e) (X 1 (661 + e) &&& left) (X 1 (665 + e) &&& right) (Nat.zero_le 1)
  have q3 := neN_le (wtE X e) (X 1 (661 + e) &&& right) (X 1 (665 + e) &&& left) (Nat.zero_le 1)
  refine g_aload_n C dX4_behind_0 rfl rfl ?_
  refine mg_1 C dX4_behind_1 ?_
  refine g_sipush (v := 661) C dX4_behind_4 rfl ?_
  refine g_iload_n C dX4_behind_7 rfl rfl ?_
  refine g_iadd C dX4_behind_8 ?_
  refine g_topi (y := nI (661 + e)) (nI_add 661 e) ?_
  refine ml_1 (i := 661 + e) C dX4_behind_9 (by omega) ?_
  refine g_istore (lv' := [some (.ref o), some (.int (nI e)), some (.int left), some (.int right), some (.int (X 1 (661 + e))), none, none, none, none]) C dX4_behind_10 (by decide) rfl ?_
  refine g_aload_n C dX4_behind_12 rfl rfl ?_
  refine mg_1 C dX4_behind_13 ?_
  refine g_sipush (v := 665) C dX4_behind_16 rfl ?_
  refine g_iload_n C dX4_behind_19 rfl rfl ?_
  refine g_iadd C dX4_behind_20 ?_
  refine g_topi (y := nI (665 + e)) (nI_add 665 e) ?_
  refine ml_1 (i := 665 + e) C dX4_behind_21 (by omega) ?_
  refine g_istore (lv' := [some (.ref o), some (.int (nI e)), some (.int left), some (.int right), some (.int (X 1 (661 + e))), some (.int (X 1 (665 + e))), none, none, none]) C dX4_behind_22 (by decide) rfl ?_
  refine g_iload_n C dX4_behind_24 rfl rfl ?_
  refine g_iload_n C dX4_behind_25 rfl rfl ?_
  refine g_ior C dX4_behind_26 ?_
  refine g_iconst (v := (-1)) C dX4_behind_27 rfl ?_
  refine g_ixor C dX4_behind_28 ?_
  refine g_istore (lv' := [some (.ref o), some (.int (nI e)), some (.int left), some (.int right), some (.int (X 1 (661 + e))), some (.int (X 1 (665 + e))), some (.int ((left ||| right) ^^^ (-1))), none, none]) C dX4_behind_29 (by decide) rfl ?_
  refine g_aload_n C dX4_behind_31 rfl rfl ?_
  refine g_iload_n C dX4_behind_32 rfl rfl ?_
  refine g_mcall (rest := []) 1 C (ct_countOf (F := F) (X := X) B J e (by omega)) (lw_V q2097 q2099 qs75 q107 q2100) (by decide +kernel) ⟨Nat.le_of_ble_eq_true rfl, Nat.le_of_ble_eq_true rfl⟩ ⟨Nat.le_of_ble_eq_true rfl, Nat.le_of_ble_eq_true rfl⟩ rfl rfl (Nat.le_of_ble_eq_true rfl) dX4_behind_33 ?_
  refine g_topi (y := nI (pcI (X 1 (661 + e)) + pcI (X 1 (665 + e)) + geE X e)) (by rw [coN, eg, nI_add]) ?_
  refine g_istore (lv' := [some (.ref o), some (.int (nI e)), some (.int left), some (.int right), some (.int (X 1 (661 + e))), some (.int (X 1 (665 + e))), some (.int ((left ||| right) ^^^ (-1))), some (.int (nI (pcI (X 1 (661 + e)) + pcI (X 1 (665 + e)) + geE X e))), none]) C dX4_behind_36 (by decide) rfl ?_
  refine g_iload C dX4_behind_38 rfl ?_
  refine g_iload C dX4_behind_40 rfl ?_
  refine g_iand C dX4_behind_42 ?_
  refine g_pcall (rest := []) 1 C (ct_bits B _) (lw_S q1922 q1923 q107 q1924) ⟨by decide, by decide, by decide +kernel⟩ ⟨Nat.le_of_ble_eq_true rfl, Nat.le_of_ble_eq_true rfl⟩ ⟨Nat.le_of_ble_eq_true rfl, Nat.le_of_ble_eq_true rfl⟩ rfl rfl (Nat.le_of_ble_eq_true rfl) dX4_behind_43 ?_
  refine g_iload C dX4_behind_46 rfl ?_
  refine g_iload C dX4_behind_48 rfl ?_
  refine g_iand C dX4_behind_50 ?_
  refine g_pcall (rest := [.int (nI (pcI ((X 1 (661 + e)) &&& ((left ||| right) ^^^ (-1)))))]) 1 C (ct_bits B _) (lw_S q1922 q1923 q107 q1924) ⟨by decide, by decide, by decide +kernel⟩ ⟨Nat.le_of_ble_eq_true rfl, Nat.le_of_ble_eq_true rfl⟩ ⟨Nat.le_of_ble_eq_true rfl, Nat.le_of_ble_eq_true rfl⟩ rfl rfl (Nat.le_of_ble_eq_true rfl) dX4_behind_51 ?_
  refine g_iadd C dX4_behind_54 ?_
  refine g_topi (y := nI (pcI ((X 1 (661 + e)) &&& ((left ||| right) ^^^ (-1))) + pcI ((X 1 (665 + e)) &&& ((left ||| right) ^^^ (-1))))) (nI_add (pcI ((X 1 (661 + e)) &&& ((left ||| right) ^^^ (-1)))) (pcI ((X 1 (665 + e)) &&& ((left ||| right) ^^^ (-1))))) ?_
  refine g_aload_n C dX4_behind_55 rfl rfl ?_
  refine mg_1 C dX4_behind_56 ?_
  refine g_sipush (v := 669) C dX4_behind_59 rfl ?_
  refine g_iload_n C dX4_behind_62 rfl rfl ?_
  refine g_iadd C dX4_behind_63 ?_
  refine g_topi (y := nI (669 + e)) (nI_add 669 e) ?_
  refine ml_1 (i := 669 + e) C dX4_behind_64 (by omega) ?_
  refine g_topi (y := nI (geE X e)) (eg) ?_
  refine g_iadd C dX4_behind_65 ?_
  refine g_topi (y := nI (pcI ((X 1 (661 + e)) &&& ((left ||| right) ^^^ (-1))) + pcI ((X 1 (665 + e)) &&& ((left ||| right) ^^^ (-1))) + geE X e)) (nI_add (pcI ((X 1 (661 + e)) &&& ((left ||| right) ^^^ (-1))) + pcI ((X 1 (665 + e)) &&& ((left ||| right) ^^^ (-1)))) (geE X e)) ?_
  refine g_istore (lv' := [some (.ref o), some (.int (nI e)), some (.int left), some (.int right), some (.int (X 1 (661 + e))), some (.int (X 1 (665 + e))), some (.int ((left ||| right) ^^^ (-1))), some (.int (nI (pcI (X 1 (661 + e)) + pcI (X 1 (665 + e)) + geE X e))), some (.int (nI (pcI ((X 1 (661 + e)) &&& ((left ||| right) ^^^ (-1))) + pcI ((X 1 (665 + e)) &&& ((left ||| right) ^^^ (-1))) + geE X e)))]) C dX4_behind_66 (by decide) rfl ?_
  refine g_iload C dX4_behind_68 rfl ?_
  refine g_iload C dX4_behind_70 rfl ?_
  refine gN_eq (a := pcI ((X 1 (661 + e)) &&& ((left ||| right) ^^^ (-1))) + pcI ((X 1 (665 + e)) &&& ((left ||| right) ^^^ (-1))) + geE X e) (b := pcI (X 1 (661 + e)) + pcI (X 1 (665 + e)) + geE X e) 115 C dX4_behind_72 rfl (by omega) (by omega) (fun c72 => ?_) (fun c72 => ?_)
  · refine g_bipush (v := 99) C dX4_behind_115 rfl ?_
    exact g_iret C R (Nat.le_refl _) (Nat.le_refl _) dX4_behind_117 (fun H h => ⟨by rw [bhE, bhN, if_pos c72]; rfl, h⟩)
  · refine g_iload C dX4_behind_75 rfl ?_
    refine g_iload_n C dX4_behind_77 rfl rfl ?_
    refine g_iand C dX4_behind_78 ?_
    refine g_pcall (rest := []) 1 C (ct_bits B _) (lw_S q1922 q1923 q107 q1924) ⟨by decide, by decide, by decide +kernel⟩ ⟨Nat.le_of_ble_eq_true rfl, Nat.le_of_ble_eq_true rfl⟩ ⟨Nat.le_of_ble_eq_true rfl, Nat.le_of_ble_eq_true rfl⟩ rfl rfl (Nat.le_of_ble_eq_true rfl) dX4_behind_79 ?_
    refine g_iload C dX4_behind_82 rfl ?_
    refine g_iload_n C dX4_behind_84 rfl rfl ?_
    refine g_iand C dX4_behind_85 ?_
    refine g_pcall (rest := [.int (nI (pcI ((X 1 (661 + e)) &&& left)))]) 1 C (ct_bits B _) (lw_S q1922 q1923 q107 q1924) ⟨by decide, by decide, by decide +kernel⟩ ⟨Nat.le_of_ble_eq_true rfl, Nat.le_of_ble_eq_true rfl⟩ ⟨Nat.le_of_ble_eq_true rfl, Nat.le_of_ble_eq_true rfl⟩ rfl rfl (Nat.le_of_ble_eq_true rfl) dX4_behind_86 ?_
    refine g_iadd C dX4_behind_89 ?_
    refine g_topi (y := nI (pcI ((X 1 (661 + e)) &&& left) + pcI ((X 1 (665 + e)) &&& right))) (nI_add (pcI ((X 1 (661 + e)) &&& left)) (pcI ((X 1 (665 + e)) &&& right))) ?_
    refine g_iload C dX4_behind_90 rfl ?_
    refine gN_eq (a := pcI ((X 1 (661 + e)) &&& left) + pcI ((X 1 (665 + e)) &&& right)) (b := pcI (X 1 (661 + e)) + pcI (X 1 (665 + e)) + geE X e) 115 C dX4_behind_92 rfl (by omega) (by omega) (fun c92 => ?_) (fun c92 => ?_)
    · refine g_bipush (v := 99) C dX4_behind_115 rfl ?_
      exact g_iret C R (Nat.le_refl _) (Nat.le_refl _) dX4_behind_117 (fun H h => ⟨by rw [bhE, bhN, if_neg c72, if_pos c92]; rfl, h⟩)
    · refine g_iload C dX4_behind_95 rfl ?_
      refine g_iload_n C dX4_behind_97 rfl rfl ?_
      refine g_iand C dX4_behind_98 ?_
      refine g_pcall (rest := []) 1 C (ct_bits B _) (lw_S q1922 q1923 q107 q1924) ⟨by decide, by decide, by decide +kernel⟩ ⟨Nat.le_of_ble_eq_true rfl, Nat.le_of_ble_eq_true rfl⟩ ⟨Nat.le_of_ble_eq_true rfl, Nat.le_of_ble_eq_true rfl⟩ rfl rfl (Nat.le_of_ble_eq_true rfl) dX4_behind_99 ?_
      refine g_iload C dX4_behind_102 rfl ?_
      refine g_iload_n C dX4_behind_104 rfl rfl ?_
      refine g_iand C dX4_behind_105 ?_
      refine g_pcall (rest := [.int (nI (pcI ((X 1 (661 + e)) &&& right)))]) 1 C (ct_bits B _) (lw_S q1922 q1923 q107 q1924) ⟨by decide, by decide, by decide +kernel⟩ ⟨Nat.le_of_ble_eq_true rfl, Nat.le_of_ble_eq_true rfl⟩ ⟨Nat.le_of_ble_eq_true rfl, Nat.le_of_ble_eq_true rfl⟩ rfl rfl (Nat.le_of_ble_eq_true rfl) dX4_behind_106 ?_
      refine g_iadd C dX4_behind_109 ?_
      refine g_topi (y := nI (pcI ((X 1 (661 + e)) &&& right) + pcI ((X 1 (665 + e)) &&& left))) (nI_add (pcI ((X 1 (661 + e)) &&& right)) (pcI ((X 1 (665 + e)) &&& left))) ?_
      refine g_iload C dX4_behind_110 rfl ?_
      refine gN_ne (a := pcI ((X 1 (661 + e)) &&& right) + pcI ((X 1 (665 + e)) &&& left)) (b := pcI (X 1 (661 + e)) + pcI (X 1 (665 + e)) + geE X e) 118 C dX4_behind_112 rfl (by omega) (by omega) (fun c112 => ?_) (fun c112 => ?_)
      · refine g_aload_n C dX4_behind_118 rfl rfl ?_
        refine g_iload C dX4_behind_119 rfl ?_
        refine g_iload C dX4_behind_121 rfl ?_
        refine g_iand C dX4_behind_123 ?_
        refine g_iload C dX4_behind_124 rfl ?_
        refine g_iload C dX4_behind_126 rfl ?_
        refine g_iand C dX4_behind_128 ?_
        refine g_aload_n C dX4_behind_129 rfl rfl ?_
        refine mg_1 C dX4_behind_130 ?_
        refine g_sipush (v := 669) C dX4_behind_133 rfl ?_
        refine g_iload_n C dX4_behind_136 rfl rfl ?_
        refine g_iadd C dX4_behind_137 ?_
        refine g_topi (y := nI (669 + e)) (nI_add 669 e) ?_
        refine ml_1 (i := 669 + e) C dX4_behind_138 (by omega) ?_
        refine g_topi (y := nI (geE X e)) (eg) ?_
        refine g_mcall (rest := []) 3 C (ct_needs (F := F) (X := X) B (wtE X e) (by omega) (fun p q e1 e2 => hO p q e1 e2) (fun u g e0 e1 e2 => hB u g e0 e1 e2) _ _ (mlt_and hmm _) (mlt_and hml _) (geE X e) (by omega)) (lw_V q2148 q2150 qs82 q107 q2151) (by decide +kernel) ⟨Nat.le_of_ble_eq_true rfl, Nat.le_of_ble_eq_true rfl⟩ ⟨Nat.le_of_ble_eq_true rfl, Nat.le_of_ble_eq_true rfl⟩ rfl rfl (Nat.le_of_ble_eq_true rfl) dX4_behind_139 ?_
        refine g_aload_n C dX4_behind_142 rfl rfl ?_
        refine g_iload C dX4_behind_143 rfl ?_
        refine g_iload_n C dX4_behind_145 rfl rfl ?_
        refine g_iand C dX4_behind_146 ?_
        refine g_iload C dX4_behind_147 rfl ?_
        refine g_iload_n C dX4_behind_149 rfl rfl ?_
        refine g_iand C dX4_behind_150 ?_
        refine g_iconst (v := 0) C dX4_behind_151 rfl ?_
        refine g_mcall (rest := [.int (nI (neN (wtE X e) ((X 1 (661 + e)) &&& ((left ||| right) ^^^ (-1))) ((X 1 (665 + e)) &&& ((left ||| right) ^^^ (-1))) (geE X e)))]) 3 C (ct_needs (F := F) (X := X) B (wtE X e) (by omega) (fun p q e1 e2 => hO p q e1 e2) (fun u g e0 e1 e2 => hB u g e0 e1 e2) _ _ (mlt_and hmm _) (mlt_and hml _) 0 (by omega)) (lw_V q2148 q2150 qs82 q107 q2151) (by decide +kernel) ⟨Nat.le_of_ble_eq_true rfl, Nat.le_of_ble_eq_true rfl⟩ ⟨Nat.le_of_ble_eq_true rfl, Nat.le_of_ble_eq_true rfl⟩ rfl rfl (Nat.le_of_ble_eq_true rfl) dX4_behind_152 ?_
        refine g_aload_n C dX4_behind_155 rfl rfl ?_
        refine g_iload C dX4_behind_156 rfl ?_
        refine g_iload_n C dX4_behind_158 rfl rfl ?_
        refine g_iand C dX4_behind_159 ?_
        refine g_iload C dX4_behind_160 rfl ?_
        refine g_iload_n C dX4_behind_162 rfl rfl ?_
        refine g_iand C dX4_behind_163 ?_
        refine g_iconst (v := 0) C dX4_behind_164 rfl ?_
        refine g_mcall (rest := [.int (nI (neN (wtE X e) ((X 1 (661 + e)) &&& left) ((X 1 (665 + e)) &&& right) 0)), .int (nI (neN (wtE X e) ((X 1 (661 + e)) &&& ((left ||| right) ^^^ (-1))) ((X 1 (665 + e)) &&& ((left ||| right) ^^^ (-1))) (geE X e)))]) 3 C (ct_needs (F := F) (X := X) B (wtE X e) (by omega) (fun p q e1 e2 => hO p q e1 e2) (fun u g e0 e1 e2 => hB u g e0 e1 e2) _ _ (mlt_and hmm _) (mlt_and hml _) 0 (by omega)) (lw_V q2148 q2150 qs82 q107 q2151) (by decide +kernel) ⟨Nat.le_of_ble_eq_true rfl, Nat.le_of_ble_eq_true rfl⟩ ⟨Nat.le_of_ble_eq_true rfl, Nat.le_of_ble_eq_true rfl⟩ rfl rfl (Nat.le_of_ble_eq_true rfl) dX4_behind_165 ?_
        refine g_pcall (rest := [.int (nI (neN (wtE X e) ((X 1 (661 + e)) &&& ((left ||| right) ^^^ (-1))) ((X 1 (665 + e)) &&& ((left ||| right) ^^^ (-1))) (geE X e)))]) 2 C (ct_worse B _ _) (lw_S q2137 q2138 q107 q2139) ⟨by decide, by decide, by decide +kernel⟩ ⟨Nat.le_of_ble_eq_true rfl, Nat.le_of_ble_eq_true rfl⟩ ⟨Nat.le_of_ble_eq_true rfl, Nat.le_of_ble_eq_true rfl⟩ rfl rfl (Nat.le_of_ble_eq_true rfl) dX4_behind_168 ?_
        refine g_topi (y := nI (max (neN (wtE X e) (X 1 (661 + e) &&& left) (X 1 (665 + e) &&& right) 0) (neN (wtE X e) (X 1 (661 + e) &&& right) (X 1 (665 + e) &&& left) 0))) (mx_nI (by omega) (by omega)) ?_
        refine g_pcall (rest := []) 2 C (ct_worse B _ _) (lw_S q2137 q2138 q107 q2139) ⟨by decide, by decide, by decide +kernel⟩ ⟨Nat.le_of_ble_eq_true rfl, Nat.le_of_ble_eq_true rfl⟩ ⟨Nat.le_of_ble_eq_true rfl, Nat.le_of_ble_eq_true rfl⟩ rfl rfl (Nat.le_of_ble_eq_true rfl) dX4_behind_171 ?_
        refine g_topi (y := nI (max (neN (wtE X e) (X 1 (661 + e) &&& ((left ||| right) ^^^ (-1))) (X 1 (665 + e) &&& ((left ||| right) ^^^ (-1))) (geE X e)) (max (neN (wtE X e) (X 1 (661 + e) &&& left) (X 1 (665 + e) &&& right) 0) (neN (wtE X e) (X 1 (661 + e) &&& right) (X 1 (665 + e) &&& left) 0)))) (mx_nI (by omega) (by omega)) ?_
        exact g_iret C R (Nat.le_refl _) (Nat.le_refl _) dX4_behind_174 (fun H h => ⟨by rw [bhE, bhN, if_neg c72, if_neg c92, if_neg c112], h⟩)
      · refine g_bipush (v := 99) C dX4_behind_115 rfl ?_
        exact g_iret C R (Nat.le_refl _) (Nat.le_refl _) dX4_behind_117 (fun H h => ⟨by rw [bhE, bhN, if_neg c72, if_neg c92, if_pos c112]; rfl, h⟩)
