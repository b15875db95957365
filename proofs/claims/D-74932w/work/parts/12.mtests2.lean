set_option maxRecDepth 100000 in
theorem ct_isTest {l : Launch} {Γ : Gm} {A : Nat → Prop} {ρ : State → Prop} (B : Bs l A ρ) {o : Nat} {ad : Nat → Nat} {F : Nat → Int32} {X : Nat → Nat → Int32} {nt ns nm ne nv nu ln : Nat} (J : Iv F X nt ns nm ne nv nu ln) (v t : Int32) : CtM l Γ A ρ yX4_isTest cX4_isTest 3 (some .boolean) 2 46 o ad [.ref o, .int v, .int t] F X (some (.int (tsI X nv v t))) F X := by
  refine Ct.of B.1 B.2 (by decide) [some (.ref o), some (.int v), some (.int t)] (Nat.le_of_ble_eq_true rfl) rfl ?_
  intro E hE C R
  subst hE
  have hv_ := J.lv
  by_cases c0 : ixI v nv = 0
  · refine g_aload_n C dX4_isTest_0 rfl rfl ?_
    refine g_iload_n C dX4_isTest_1 rfl rfl ?_
    refine g_mcall (rest := []) 1 C (ct_isVisit (F := F) (X := X) B J _) (lw_V q1950 q1952 qs63 q107 q1953) (by decide +kernel) ⟨Nat.le_of_ble_eq_true rfl, Nat.le_of_ble_eq_true rfl⟩ ⟨Nat.le_of_ble_eq_true rfl, Nat.le_of_ble_eq_true rfl⟩ rfl rfl (Nat.le_of_ble_eq_true rfl) dX4_isTest_2 ?_
    refine g_topi (y := 0) (c0) ?_
    refine g_if_eq 34 C dX4_isTest_5 rfl (fun c5 => ?_) (fun c5 => ?_)
    · refine g_iconst (v := 0) C dX4_isTest_34 rfl ?_
      exact g_zret C R (Nat.le_refl _) (Nat.le_refl _) dX4_isTest_35 rfl (fun H h => ⟨by simp only [tsI, if_pos c0], h⟩)
    · exact absurd c5 (by decide)
  · obtain ⟨j, hj, rfl⟩ := ixI_in (by omega) c0
    have c1 := ixI_nI hj (show nv < 2 ^ 31 by omega)
    have ej : (nI j).toNatClampNeg = j := nI_clamp (by omega)
    obtain ⟨⟨sc, hsc, esc⟩, ⟨dy, hdy, edy⟩, hcl_, ⟨vd, hvd, evd⟩, hsv, ⟨tn, htn, etn, hts⟩⟩ := J.vi hj
    refine g_aload_n C dX4_isTest_0 rfl rfl ?_
    refine g_iload_n C dX4_isTest_1 rfl rfl ?_
    refine g_mcall (rest := []) 1 C (ct_isVisit (F := F) (X := X) B J _) (lw_V q1950 q1952 qs63 q107 q1953) (by decide +kernel) ⟨Nat.le_of_ble_eq_true rfl, Nat.le_of_ble_eq_true rfl⟩ ⟨Nat.le_of_ble_eq_true rfl, Nat.le_of_ble_eq_true rfl⟩ rfl rfl (Nat.le_of_ble_eq_true rfl) dX4_isTest_2 ?_
    refine g_topi (y := 1) (c1) ?_
    refine g_if_eq 34 C dX4_isTest_5 rfl (fun c5 => ?_) (fun c5 => ?_)
    · exact absurd c5 (by decide)
    · refine g_iload_n C dX4_isTest_8 rfl rfl ?_
      refine g_i2l C dX4_isTest_9 ?_
      refine g_lconst (v := 0) C dX4_isTest_10 rfl ?_
      refine g_aload_n C dX4_isTest_11 rfl rfl ?_
      refine mg_1 C dX4_isTest_12 ?_
      refine g_sipush (v := 151) C dX4_isTest_15 rfl ?_
      refine g_iload_n C dX4_isTest_18 rfl rfl ?_
      refine g_iadd C dX4_isTest_19 ?_
      refine g_topi (y := nI (151 + j)) (nI_add 151 j) ?_
      refine ml_1 (i := 151 + j) C dX4_isTest_20 (by omega) ?_
      refine g_topi (y := nI tn) (etn) ?_
      refine g_iconst (v := 1) C dX4_isTest_21 rfl ?_
      refine g_isub C dX4_isTest_22 ?_
      refine g_i2l C dX4_isTest_23 ?_
      refine g_pcall (rest := []) 3 C (ct_within B _ _ _) (lw_S q1783 q1784 q107 q1785) ⟨by decide, by decide, by decide +kernel⟩ ⟨Nat.le_of_ble_eq_true rfl, Nat.le_of_ble_eq_true rfl⟩ ⟨Nat.le_of_ble_eq_true rfl, Nat.le_of_ble_eq_true rfl⟩ rfl rfl (Nat.le_of_ble_eq_true rfl) dX4_isTest_24 ?_
      refine g_topi (y := ixI t tn) (wi_ix (by omega)) ?_
      refine g_if_eq 34 C dX4_isTest_27 rfl (fun c27 => ?_) (fun c27 => ?_)
      · refine g_iconst (v := 0) C dX4_isTest_34 rfl ?_
        exact g_zret C R (Nat.le_refl _) (Nat.le_refl _) dX4_isTest_35 rfl (fun H h => ⟨by simp only [tsI, if_neg c0, ej, tnV, etn, nI_clamp (show tn < 2 ^ 31 by omega)]; rw [c27], h⟩)
      · refine g_iconst (v := 1) C dX4_isTest_30 rfl ?_
        refine g_goto 35 C dX4_isTest_31 rfl ?_
        exact g_zret C R (Nat.le_refl _) (Nat.le_refl _) dX4_isTest_35 rfl (fun H h => ⟨by simp only [tsI, if_neg c0, ej, tnV, etn, nI_clamp (show tn < 2 ^ 31 by omega)]; obtain ⟨k, hk, rfl⟩ := ixI_in (by omega) c27; rw [ixI_nI hk (by omega)], h⟩)
theorem tsI_in {F : Nat → Int32} {X : Nat → Nat → Int32} {nt ns nm ne nv nu ln : Nat} (J : Iv F X nt ns nm ne nv nu ln) {v t : Int32} (h : ¬ tsI X nv v t = 0) : ∃ j k, j < nv ∧ k < tnV X j ∧ k < 8 ∧ v = nI j ∧ t = nI k ∧ tsI X nv v t = 1 := by
  have hv_ := J.lv
  unfold tsI at h ⊢
  by_cases c : ixI v nv = 0
  · rw [if_pos c] at h; exact absurd rfl h
  · rw [if_neg c] at h ⊢
    obtain ⟨j, hj, rfl⟩ := ixI_in (by omega) c
    obtain ⟨-, -, -, -, -, ⟨tn, htn, etn, -⟩⟩ := J.vi hj
    have ej : (nI j).toNatClampNeg = j := nI_clamp (by omega)
    have e : tnV X j = tn := by rw [tnV, etn, nI_clamp (by omega)]
    rw [ej, e] at h ⊢
    obtain ⟨k, hk, rfl⟩ := ixI_in (by omega) h
    exact ⟨j, k, hj, by omega, by omega, rfl, rfl, ixI_nI hk (by omega)⟩
def teT (X : Nat → Nat → Int32) (nv : Nat) (v t : Int32) : Int32 := if tsI X nv v t = 0 then 1 else 0
def teR (X : Nat → Nat → Int32) (nv : Nat) (v t : Int32) (f : Nat → Nat → Int32) : Int32 := if tsI X nv v t = 0 then 0 else f v.toNatClampNeg t.toNatClampNeg
def paI (X : Nat → Nat → Int32) (nm : Nat) (v t : Nat) : Int32 := b2i (!decide (toT X nm v t < szI (erT X nm v t)))
theorem teP_nar (X : Nat → Nat → Int32) (nm nv : Nat) (v t : Int32) : narrow .boolean (.int (teR X nv v t (paI X nm))) = .int (teR X nv v t (paI X nm)) := by
  unfold teR; split
  · rfl
  · exact b2i_nar _
set_option maxRecDepth 100000 in
theorem ct_testLoad {l : Launch} {Γ : Gm} {A : Nat → Prop} {ρ : State → Prop} (B : Bs l A ρ) {o : Nat} {ad : Nat → Nat} {F : Nat → Int32} {X : Nat → Nat → Int32} {nt ns nm ne nv nu ln : Nat} (J : Iv F X nt ns nm ne nv nu ln) (visit test : Int32) : CtM l Γ A ρ yX4_testLoad cX4_testLoad 3 (some .int) 3 68 o ad [.ref o, .int visit, .int test] F X (some (.int (teR X nv visit test (ldT X nm)))) (upd F 0 (teT X nv visit test)) X := by
  refine Ct.of B.1 B.2 (by decide) [some (.ref o), some (.int visit), some (.int test)] (Nat.le_of_ble_eq_true rfl) rfl ?_
  intro E hE C R
  subst hE
  have hv_ := J.lv
  by_cases c0 : tsI X nv visit test = 0
  · refine g_aload_n C dX4_testLoad_0 rfl rfl ?_
    refine g_aload_n C dX4_testLoad_1 rfl rfl ?_
    refine g_iload_n C dX4_testLoad_2 rfl rfl ?_
    refine g_iload_n C dX4_testLoad_3 rfl rfl ?_
    refine g_mcall (rest := [.ref o]) 2 C (ct_isTest (F := F) (X := X) B J _ _) (lw_V q1972 q1974 qs64 q107 q1975) (by decide +kernel) ⟨Nat.le_of_ble_eq_true rfl, Nat.le_of_ble_eq_true rfl⟩ ⟨Nat.le_of_ble_eq_true rfl, Nat.le_of_ble_eq_true rfl⟩ rfl rfl (Nat.le_of_ble_eq_true rfl) dX4_testLoad_4 ?_
    refine g_topi (y := 0) (c0) ?_
    refine g_if_eq 14 C dX4_testLoad_7 rfl (fun c7 => ?_) (fun c7 => ?_)
    · refine g_iconst (v := 1) C dX4_testLoad_14 rfl ?_
      refine mp_0 C dX4_testLoad_15 ?_
      refine g_aload_n C dX4_testLoad_18 rfl rfl ?_
      refine mg_0 C dX4_testLoad_19 ?_
      refine g_topi (y := 1) rfl ?_
      refine g_if_le 29 C dX4_testLoad_22 rfl (fun c22 => ?_) (fun c22 => ?_)
      · exact absurd c22 (by decide)
      · refine g_iconst (v := 0) C dX4_testLoad_25 rfl ?_
        refine g_goto 35 C dX4_testLoad_26 rfl ?_
        exact g_iret C R (Nat.le_refl _) (Nat.le_refl _) dX4_testLoad_35 (fun H h => ⟨by simp only [teR, if_pos c0], by rw [show teT X nv visit test = 1 from if_pos c0]; exact h⟩)
    · exact absurd c7 (by decide)
  · obtain ⟨j, k, hj, hk, hk8, rfl, rfl, c1⟩ := tsI_in J c0
    have ej : (nI j).toNatClampNeg = j := nI_clamp (by omega)
    have ek : (nI k).toNatClampNeg = k := nI_clamp (by omega)
    refine g_aload_n C dX4_testLoad_0 rfl rfl ?_
    refine g_aload_n C dX4_testLoad_1 rfl rfl ?_
    refine g_iload_n C dX4_testLoad_2 rfl rfl ?_
    refine g_iload_n C dX4_testLoad_3 rfl rfl ?_
    refine g_mcall (rest := [.ref o]) 2 C (ct_isTest (F := F) (X := X) B J _ _) (lw_V q1972 q1974 qs64 q107 q1975) (by decide +kernel) ⟨Nat.le_of_ble_eq_true rfl, Nat.le_of_ble_eq_true rfl⟩ ⟨Nat.le_of_ble_eq_true rfl, Nat.le_of_ble_eq_true rfl⟩ rfl rfl (Nat.le_of_ble_eq_true rfl) dX4_testLoad_4 ?_
    refine g_topi (y := 1) (c1) ?_
    refine g_if_eq 14 C dX4_testLoad_7 rfl (fun c7 => ?_) (fun c7 => ?_)
    · exact absurd c7 (by decide)
    · refine g_iconst (v := 0) C dX4_testLoad_10 rfl ?_
      refine g_goto 15 C dX4_testLoad_11 rfl ?_
      refine mp_0 C dX4_testLoad_15 ?_
      refine g_aload_n C dX4_testLoad_18 rfl rfl ?_
      refine mg_0 C dX4_testLoad_19 ?_
      refine g_topi (y := 0) rfl ?_
      refine g_if_le 29 C dX4_testLoad_22 rfl (fun c22 => ?_) (fun c22 => ?_)
      · refine g_aload_n C dX4_testLoad_29 rfl rfl ?_
        refine g_iload_n C dX4_testLoad_30 rfl rfl ?_
        refine g_iload_n C dX4_testLoad_31 rfl rfl ?_
        refine g_mcall (rest := []) 2 C (ct_loadOf (F := upd F 0 0) (X := X) B J j k (by omega) (by omega)) (lw_V q1976 q1978 qs65 q107 q1979) (by decide +kernel) ⟨Nat.le_of_ble_eq_true rfl, Nat.le_of_ble_eq_true rfl⟩ ⟨Nat.le_of_ble_eq_true rfl, Nat.le_of_ble_eq_true rfl⟩ rfl rfl (Nat.le_of_ble_eq_true rfl) dX4_testLoad_32 ?_
        exact g_iret C R (Nat.le_refl _) (Nat.le_refl _) dX4_testLoad_35 (fun H h => ⟨by simp only [teR, if_neg c0, ej, ek], by rw [show teT X nv (nI j) (nI k) = 0 from if_neg c0]; exact h⟩)
      · exact absurd c22 (by decide)
set_option maxRecDepth 100000 in
theorem ct_testError {l : Launch} {Γ : Gm} {A : Nat → Prop} {ρ : State → Prop} (B : Bs l A ρ) {o : Nat} {ad : Nat → Nat} {F : Nat → Int32} {X : Nat → Nat → Int32} {nt ns nm ne nv nu ln : Nat} (J : Iv F X nt ns nm ne nv nu ln) (visit test : Int32) : CtM l Γ A ρ yX4_testError cX4_testError 3 (some .int) 3 68 o ad [.ref o, .int visit, .int test] F X (some (.int (teR X nv visit test (erT X nm)))) (upd F 0 (teT X nv visit test)) X := by
  refine Ct.of B.1 B.2 (by decide) [some (.ref o), some (.int visit), some (.int test)] (Nat.le_of_ble_eq_true rfl) rfl ?_
  intro E hE C R
  subst hE
  have hv_ := J.lv
  by_cases c0 : tsI X nv visit test = 0
  · refine g_aload_n C dX4_testError_0 rfl rfl ?_
    refine g_aload_n C dX4_testError_1 rfl rfl ?_
    refine g_iload_n C dX4_testError_2 rfl rfl ?_
    refine g_iload_n C dX4_testError_3 rfl rfl ?_
    refine g_mcall (rest := [.ref o]) 2 C (ct_isTest (F := F) (X := X) B J _ _) (lw_V q1972 q1974 qs64 q107 q1975) (by decide +kernel) ⟨Nat.le_of_ble_eq_true rfl, Nat.le_of_ble_eq_true rfl⟩ ⟨Nat.le_of_ble_eq_true rfl, Nat.le_of_ble_eq_true rfl⟩ rfl rfl (Nat.le_of_ble_eq_true rfl) dX4_testError_4 ?_
    refine g_topi (y := 0) (c0) ?_
    refine g_if_eq 14 C dX4_testError_7 rfl (fun c7 => ?_) (fun c7 => ?_)
    · refine g_iconst (v := 1) C dX4_testError_14 rfl ?_
      refine mp_0 C dX4_testError_15 ?_
      refine g_aload_n C dX4_testError_18 rfl rfl ?_
      refine mg_0 C dX4_testError_19 ?_
      refine g_topi (y := 1) rfl ?_
      refine g_if_le 29 C dX4_testError_22 rfl (fun c22 => ?_) (fun c22 => ?_)
      · exact absurd c22 (by decide)
      · refine g_iconst (v := 0) C dX4_testError_25 rfl ?_
        refine g_goto 35 C dX4_testError_26 rfl ?_
        exact g_iret C R (Nat.le_refl _) (Nat.le_refl _) dX4_testError_35 (fun H h => ⟨by simp only [teR, if_pos c0], by rw [show teT X nv visit test = 1 from if_pos c0]; exact h⟩)
    · exact absurd c7 (by decide)
  · obtain ⟨j, k, hj, hk, hk8, rfl, rfl, c1⟩ := tsI_in J c0
    have ej : (nI j).toNatClampNeg = j := nI_clamp (by omega)
    have ek : (nI k).toNatClampNeg = k := nI_clamp (by omega)
    refine g_aload_n C dX4_testError_0 rfl rfl ?_
    refine g_aload_n C dX4_testError_1 rfl rfl ?_
    refine g_iload_n C dX4_testError_2 rfl rfl ?_
    refine g_iload_n C dX4_testError_3 rfl rfl ?_
    refine g_mcall (rest := [.ref o]) 2 C (ct_isTest (F := F) (X := X) B J _ _) (lw_V q1972 q1974 qs64 q107 q1975) (by decide +kernel) ⟨Nat.le_of_ble_eq_true rfl, Nat.le_of_ble_eq_true rfl⟩ ⟨Nat.le_of_ble_eq_true rfl, Nat.le_of_ble_eq_true rfl⟩ rfl rfl (Nat.le_of_ble_eq_true rfl) dX4_testError_4 ?_
    refine g_topi (y := 1) (c1) ?_
    refine g_if_eq 14 C dX4_testError_7 rfl (fun c7 => ?_) (fun c7 => ?_)
    · exact absurd c7 (by decide)
    · refine g_iconst (v := 0) C dX4_testError_10 rfl ?_
      refine g_goto 15 C dX4_testError_11 rfl ?_
      refine mp_0 C dX4_testError_15 ?_
      refine g_aload_n C dX4_testError_18 rfl rfl ?_
      refine mg_0 C dX4_testError_19 ?_
      refine g_topi (y := 0) rfl ?_
      refine g_if_le 29 C dX4_testError_22 rfl (fun c22 => ?_) (fun c22 => ?_)
      · refine g_aload_n C dX4_testError_29 rfl rfl ?_
        refine g_iload_n C dX4_testError_30 rfl rfl ?_
        refine g_iload_n C dX4_testError_31 rfl rfl ?_
        refine g_mcall (rest := []) 2 C (ct_errorOf (F := upd F 0 0) (X := X) B J j k (by omega) (by omega)) (lw_V q1984 q1986 qs66 q107 q1987) (by decide +kernel) ⟨Nat.le_of_ble_eq_true rfl, Nat.le_of_ble_eq_true rfl⟩ ⟨Nat.le_of_ble_eq_true rfl, Nat.le_of_ble_eq_true rfl⟩ rfl rfl (Nat.le_of_ble_eq_true rfl) dX4_testError_32 ?_
        exact g_iret C R (Nat.le_refl _) (Nat.le_refl _) dX4_testError_35 (fun H h => ⟨by simp only [teR, if_neg c0, ej, ek], by rw [show teT X nv (nI j) (nI k) = 0 from if_neg c0]; exact h⟩)
      · exact absurd c22 (by decide)
set_option maxRecDepth 100000 in
theorem ct_testPasses {l : Launch} {Γ : Gm} {A : Nat → Prop} {ρ : State → Prop} (B : Bs l A ρ) {o : Nat} {ad : Nat → Nat} {F : Nat → Int32} {X : Nat → Nat → Int32} {nt ns nm ne nv nu ln : Nat} (J : Iv F X nt ns nm ne nv nu ln) (visit test : Int32) : CtM l Γ A ρ yX4_testPasses cX4_testPasses 3 (some .boolean) 3 68 o ad [.ref o, .int visit, .int test] F X (some (.int (teR X nv visit test (paI X nm)))) (upd F 0 (teT X nv visit test)) X := by
  refine Ct.of B.1 B.2 (by decide) [some (.ref o), some (.int visit), some (.int test)] (Nat.le_of_ble_eq_true rfl) rfl ?_
  intro E hE C R
  subst hE
  have hv_ := J.lv
  by_cases c0 : tsI X nv visit test = 0
  · refine g_aload_n C dX4_testPasses_0 rfl rfl ?_
    refine g_aload_n C dX4_testPasses_1 rfl rfl ?_
    refine g_iload_n C dX4_testPasses_2 rfl rfl ?_
    refine g_iload_n C dX4_testPasses_3 rfl rfl ?_
    refine g_mcall (rest := [.ref o]) 2 C (ct_isTest (F := F) (X := X) B J _ _) (lw_V q1972 q1974 qs64 q107 q1975) (by decide +kernel) ⟨Nat.le_of_ble_eq_true rfl, Nat.le_of_ble_eq_true rfl⟩ ⟨Nat.le_of_ble_eq_true rfl, Nat.le_of_ble_eq_true rfl⟩ rfl rfl (Nat.le_of_ble_eq_true rfl) dX4_testPasses_4 ?_
    refine g_topi (y := 0) (c0) ?_
    refine g_if_eq 14 C dX4_testPasses_7 rfl (fun c7 => ?_) (fun c7 => ?_)
    · refine g_iconst (v := 1) C dX4_testPasses_14 rfl ?_
      refine mp_0 C dX4_testPasses_15 ?_
      refine g_aload_n C dX4_testPasses_18 rfl rfl ?_
      refine mg_0 C dX4_testPasses_19 ?_
      refine g_topi (y := 1) rfl ?_
      refine g_if_ne 47 C dX4_testPasses_22 rfl (fun c22 => ?_) (fun c22 => ?_)
      · refine g_iconst (v := 0) C dX4_testPasses_47 rfl ?_
        exact g_zret C R (Nat.le_refl _) (Nat.le_refl _) dX4_testPasses_48 rfl (fun H h => ⟨by simp only [teR, if_pos c0], by rw [show teT X nv visit test = 1 from if_pos c0]; exact h⟩)
      · exact absurd c22 (by decide)
    · exact absurd c7 (by decide)
  · obtain ⟨j, k, hj, hk, hk8, rfl, rfl, c1⟩ := tsI_in J c0
    have ej : (nI j).toNatClampNeg = j := nI_clamp (by omega)
    have ek : (nI k).toNatClampNeg = k := nI_clamp (by omega)
    refine g_aload_n C dX4_testPasses_0 rfl rfl ?_
    refine g_aload_n C dX4_testPasses_1 rfl rfl ?_
    refine g_iload_n C dX4_testPasses_2 rfl rfl ?_
    refine g_iload_n C dX4_testPasses_3 rfl rfl ?_
    refine g_mcall (rest := [.ref o]) 2 C (ct_isTest (F := F) (X := X) B J _ _) (lw_V q1972 q1974 qs64 q107 q1975) (by decide +kernel) ⟨Nat.le_of_ble_eq_true rfl, Nat.le_of_ble_eq_true rfl⟩ ⟨Nat.le_of_ble_eq_true rfl, Nat.le_of_ble_eq_true rfl⟩ rfl rfl (Nat.le_of_ble_eq_true rfl) dX4_testPasses_4 ?_
    refine g_topi (y := 1) (c1) ?_
    refine g_if_eq 14 C dX4_testPasses_7 rfl (fun c7 => ?_) (fun c7 => ?_)
    · exact absurd c7 (by decide)
    · refine g_iconst (v := 0) C dX4_testPasses_10 rfl ?_
      refine g_goto 15 C dX4_testPasses_11 rfl ?_
      refine mp_0 C dX4_testPasses_15 ?_
      refine g_aload_n C dX4_testPasses_18 rfl rfl ?_
      refine mg_0 C dX4_testPasses_19 ?_
      refine g_topi (y := 0) rfl ?_
      refine g_if_ne 47 C dX4_testPasses_22 rfl (fun c22 => ?_) (fun c22 => ?_)
      · exact absurd c22 (by decide)
      · refine g_aload_n C dX4_testPasses_25 rfl rfl ?_
        refine g_iload_n C dX4_testPasses_26 rfl rfl ?_
        refine g_iload_n C dX4_testPasses_27 rfl rfl ?_
        refine g_mcall (rest := []) 2 C (ct_errorOf (F := upd F 0 0) (X := X) B J j k (by omega) (by omega)) (lw_V q1984 q1986 qs66 q107 q1987) (by decide +kernel) ⟨Nat.le_of_ble_eq_true rfl, Nat.le_of_ble_eq_true rfl⟩ ⟨Nat.le_of_ble_eq_true rfl, Nat.le_of_ble_eq_true rfl⟩ rfl rfl (Nat.le_of_ble_eq_true rfl) dX4_testPasses_28 ?_
        refine g_pcall (rest := []) 1 C (ct_size B _) (lw_S q1992 q1993 q107 q1994) ⟨by decide, by decide, by decide +kernel⟩ ⟨Nat.le_of_ble_eq_true rfl, Nat.le_of_ble_eq_true rfl⟩ ⟨Nat.le_of_ble_eq_true rfl, Nat.le_of_ble_eq_true rfl⟩ rfl rfl (Nat.le_of_ble_eq_true rfl) dX4_testPasses_31 ?_
        refine g_aload_n C dX4_testPasses_34 rfl rfl ?_
        refine g_iload_n C dX4_testPasses_35 rfl rfl ?_
        refine g_iload_n C dX4_testPasses_36 rfl rfl ?_
        refine g_mcall (rest := [.int (szI (erT X nm j k))]) 2 C (ct_toleranceOf (F := upd F 0 0) (X := X) B J j k (by omega) (by omega)) (lw_V q1995 q1997 qs67 q107 q1998) (by decide +kernel) ⟨Nat.le_of_ble_eq_true rfl, Nat.le_of_ble_eq_true rfl⟩ ⟨Nat.le_of_ble_eq_true rfl, Nat.le_of_ble_eq_true rfl⟩ rfl rfl (Nat.le_of_ble_eq_true rfl) dX4_testPasses_37 ?_
        refine g_icmp_gt 47 C dX4_testPasses_40 rfl (fun c40 => ?_) (fun c40 => ?_)
        · refine g_iconst (v := 0) C dX4_testPasses_47 rfl ?_
          exact g_zret C R (Nat.le_refl _) (Nat.le_refl _) dX4_testPasses_48 rfl (fun H h => ⟨by simp only [teR, if_neg c0, ej, ek, paI, b2i, c40, decide_true, decide_false, Bool.not_true, Bool.not_false, if_true, reduceCtorEq, if_false, Bool.false_eq_true], by rw [show teT X nv (nI j) (nI k) = 0 from if_neg c0]; exact h⟩)
        · refine g_iconst (v := 1) C dX4_testPasses_43 rfl ?_
          refine g_goto 48 C dX4_testPasses_44 rfl ?_
          exact g_zret C R (Nat.le_refl _) (Nat.le_refl _) dX4_testPasses_48 rfl (fun H h => ⟨by simp only [teR, if_neg c0, ej, ek, paI, b2i, c40, decide_true, decide_false, Bool.not_true, Bool.not_false, if_true, reduceCtorEq, if_false, Bool.false_eq_true], by rw [show teT X nv (nI j) (nI k) = 0 from if_neg c0]; exact h⟩)
set_option maxRecDepth 100000 in
theorem ct_adjustmentOf {l : Launch} {Γ : Gm} {A : Nat → Prop} {ρ : State → Prop} (B : Bs l A ρ) {o : Nat} {ad : Nat → Nat} {F : Nat → Int32} {X : Nat → Nat → Int32} {nt ns nm ne nv nu ln : Nat} (J : Iv F X nt ns nm ne nv nu ln) (v : Nat) (hv : v < nv) (hn1 : 1 ≤ (X 1 (151 + v)).toNatClampNeg) : CtM l Γ A ρ yX4_adjustmentOf cX4_adjustmentOf 6 (some .int) 3 67 o ad [.ref o, .int (nI v)] F X (some (.int (adI X nm v))) F X := by
  refine Ct.of B.1 B.2 (by decide) [some (.ref o), some (.int (nI v)), none, none, none, none] (Nat.le_of_ble_eq_true rfl) rfl ?_
  intro E hE C R
  subst hE
  have hv_ := J.lv
  obtain ⟨⟨sc, hsc, esc⟩, ⟨dy, hdy, edy⟩, hcl_, ⟨vd, hvd, evd⟩, hsv, ⟨tn, htn, etn, hts⟩⟩ := J.vi hv
  have et : tnV X v = tn := by rw [tnV, etn, nI_clamp (by omega)]
  have ht1 : 1 ≤ tn := by rw [etn, nI_clamp (by omega)] at hn1; exact hn1
  refine g_aload_n C dX4_adjustmentOf_0 rfl rfl ?_
  refine g_iload_n C dX4_adjustmentOf_1 rfl rfl ?_
  refine g_iconst (v := 0) C dX4_adjustmentOf_2 rfl ?_
  refine g_mcall (rest := []) 2 C (ct_errorOf (F := F) (X := X) B J v 0 (by omega) (by omega)) (lw_V q1984 q1986 qs66 q107 q1987) (by decide +kernel) ⟨Nat.le_of_ble_eq_true rfl, Nat.le_of_ble_eq_true rfl⟩ ⟨Nat.le_of_ble_eq_true rfl, Nat.le_of_ble_eq_true rfl⟩ rfl rfl (Nat.le_of_ble_eq_true rfl) dX4_adjustmentOf_3 ?_
  refine g_istore_n (lv' := [some (.ref o), some (.int (nI v)), some (.int (erT X nm v 0)), none, none, none]) C dX4_adjustmentOf_6 rfl (by decide) rfl ?_
  refine g_iload_n C dX4_adjustmentOf_7 rfl rfl ?_
  refine g_istore_n (lv' := [some (.ref o), some (.int (nI v)), some (.int (erT X nm v 0)), some (.int (erT X nm v 0)), none, none]) C dX4_adjustmentOf_8 rfl (by decide) rfl ?_
  refine g_iconst (v := 1) C dX4_adjustmentOf_9 rfl ?_
  refine g_istore (lv' := [some (.ref o), some (.int (nI v)), some (.int (erT X nm v 0)), some (.int (erT X nm v 0)), some (.int 1), none]) C dX4_adjustmentOf_10 (by decide) rfl ?_
  refine g_eql (lv' := [some (.ref o), some (.int (nI v)), some (.int (mnS (erT X nm v) 0)), some (.int (mxS (erT X nm v) 0)), some (.int (nI (0 + 1))), none]) rfl ?_
  refine g_for (P := fun k => G E (RepM Γ A o ad F X) 0 0 12 [some (.ref o), some (.int (nI v)), some (.int (mnS (erT X nm v) k)), some (.int (mxS (erT X nm v) k)), some (.int (nI (k + 1))), none] []) (tn - 1) ?_ ?_ 0 (Nat.zero_le _)
  · refine g_iload C dX4_adjustmentOf_12 rfl ?_
    refine g_aload_n C dX4_adjustmentOf_14 rfl rfl ?_
    refine mg_1 C dX4_adjustmentOf_15 ?_
    refine g_sipush (v := 151) C dX4_adjustmentOf_18 rfl ?_
    refine g_iload_n C dX4_adjustmentOf_21 rfl rfl ?_
    refine g_iadd C dX4_adjustmentOf_22 ?_
    refine g_topi (y := nI (151 + v)) (nI_add 151 v) ?_
    refine ml_1 (i := 151 + v) C dX4_adjustmentOf_23 (by omega) ?_
    refine g_topi (y := nI tn) (etn) ?_
    refine gN_ge (a := (tn - 1) + 1) (b := tn) 68 C dX4_adjustmentOf_24 rfl (by omega) (by omega) (fun c24 => ?_) (fun c24 => ?_)
    · refine g_iload_n C dX4_adjustmentOf_68 rfl rfl ?_
      refine g_iload_n C dX4_adjustmentOf_69 rfl rfl ?_
      refine g_iadd C dX4_adjustmentOf_70 ?_
      refine g_iconst (v := 1) C dX4_adjustmentOf_71 rfl ?_
      refine g_ishr C dX4_adjustmentOf_72 ?_
      exact g_iret C R (Nat.le_refl _) (Nat.le_refl _) dX4_adjustmentOf_73 (fun H h => ⟨by rw [adI, et], h⟩)
    · exfalso; omega
  · intro k hk ih
    replace ih : G E (RepM Γ A o ad F X) 0 0 12 [some (.ref o), some (.int (nI v)), some (.int (mnS (erT X nm v) (k + 1))), some (.int (mxS (erT X nm v) (k + 1))), some (.int (nI ((k + 1) + 1))), none] [] := ih
    refine g_iload C dX4_adjustmentOf_12 rfl ?_
    refine g_aload_n C dX4_adjustmentOf_14 rfl rfl ?_
    refine mg_1 C dX4_adjustmentOf_15 ?_
    refine g_sipush (v := 151) C dX4_adjustmentOf_18 rfl ?_
    refine g_iload_n C dX4_adjustmentOf_21 rfl rfl ?_
    refine g_iadd C dX4_adjustmentOf_22 ?_
    refine g_topi (y := nI (151 + v)) (nI_add 151 v) ?_
    refine ml_1 (i := 151 + v) C dX4_adjustmentOf_23 (by omega) ?_
    refine g_topi (y := nI tn) (etn) ?_
    refine gN_ge (a := k + 1) (b := tn) 68 C dX4_adjustmentOf_24 rfl (by omega) (by omega) (fun c24 => ?_) (fun c24 => ?_)
    · exfalso; omega
    · refine g_aload_n C dX4_adjustmentOf_27 rfl rfl ?_
      refine g_iload_n C dX4_adjustmentOf_28 rfl rfl ?_
      refine g_iload C dX4_adjustmentOf_29 rfl ?_
      refine g_mcall (rest := []) 2 C (ct_errorOf (F := F) (X := X) B J v (k + 1) (by omega) (by omega)) (lw_V q1984 q1986 qs66 q107 q1987) (by decide +kernel) ⟨Nat.le_of_ble_eq_true rfl, Nat.le_of_ble_eq_true rfl⟩ ⟨Nat.le_of_ble_eq_true rfl, Nat.le_of_ble_eq_true rfl⟩ rfl rfl (Nat.le_of_ble_eq_true rfl) dX4_adjustmentOf_31 ?_
      refine g_istore (lv' := [some (.ref o), some (.int (nI v)), some (.int (mnS (erT X nm v) k)), some (.int (mxS (erT X nm v) k)), some (.int (nI (k + 1))), some (.int (erT X nm v (k + 1)))]) C dX4_adjustmentOf_34 (by decide) rfl ?_
      refine g_iload C dX4_adjustmentOf_36 rfl ?_
      refine g_iload_n C dX4_adjustmentOf_38 rfl rfl ?_
      refine g_icmp_ge 47 C dX4_adjustmentOf_39 rfl (fun c39 => ?_) (fun c39 => ?_)
      · refine g_iload_n C dX4_adjustmentOf_47 rfl rfl ?_
        refine g_topi (y := mnS (erT X nm v) (k + 1)) (by simp only [mnS, if_pos c39]) ?_
        refine g_istore_n (lv' := [some (.ref o), some (.int (nI v)), some (.int (mnS (erT X nm v) (k + 1))), some (.int (mxS (erT X nm v) k)), some (.int (nI (k + 1))), some (.int (erT X nm v (k + 1)))]) C dX4_adjustmentOf_48 rfl (by decide) rfl ?_
        refine g_iload C dX4_adjustmentOf_49 rfl ?_
        refine g_iload_n C dX4_adjustmentOf_51 rfl rfl ?_
        refine g_icmp_le 60 C dX4_adjustmentOf_52 rfl (fun c52 => ?_) (fun c52 => ?_)
        · refine g_iload_n C dX4_adjustmentOf_60 rfl rfl ?_
          refine g_topi (y := mxS (erT X nm v) (k + 1)) (by simp only [mxS, if_pos c52]) ?_
          refine g_istore_n (lv' := [some (.ref o), some (.int (nI v)), some (.int (mnS (erT X nm v) (k + 1))), some (.int (mxS (erT X nm v) (k + 1))), some (.int (nI (k + 1))), some (.int (erT X nm v (k + 1)))]) C dX4_adjustmentOf_61 rfl (by decide) rfl ?_
          refine g_inc1 (x := k + 1) (lv' := [some (.ref o), some (.int (nI v)), some (.int (mnS (erT X nm v) (k + 1))), some (.int (mxS (erT X nm v) (k + 1))), some (.int (nI (k + 1 + 1))), some (.int (erT X nm v (k + 1)))]) C dX4_adjustmentOf_62 rfl (by decide) rfl ?_
          refine g_goto 12 C dX4_adjustmentOf_65 rfl ?_
          exact g_lv (lv' := [some (.ref o), some (.int (nI v)), some (.int (mnS (erT X nm v) (k + 1))), some (.int (mxS (erT X nm v) (k + 1))), some (.int (nI (k + 1 + 1))), none]) (fun i v h => by match i, h with | 0, h => exact h | 1, h => exact h | 2, h => exact h | 3, h => exact h | 4, h => exact h | 5, h => cases h) ih
        · refine g_iload C dX4_adjustmentOf_55 rfl ?_
          refine g_goto 61 C dX4_adjustmentOf_57 rfl ?_
          refine g_topi (y := mxS (erT X nm v) (k + 1)) (by simp only [mxS, if_neg c52]) ?_
          refine g_istore_n (lv' := [some (.ref o), some (.int (nI v)), some (.int (mnS (erT X nm v) (k + 1))), some (.int (mxS (erT X nm v) (k + 1))), some (.int (nI (k + 1))), some (.int (erT X nm v (k + 1)))]) C dX4_adjustmentOf_61 rfl (by decide) rfl ?_
          refine g_inc1 (x := k + 1) (lv' := [some (.ref o), some (.int (nI v)), some (.int (mnS (erT X nm v) (k + 1))), some (.int (mxS (erT X nm v) (k + 1))), some (.int (nI (k + 1 + 1))), some (.int (erT X nm v (k + 1)))]) C dX4_adjustmentOf_62 rfl (by decide) rfl ?_
          refine g_goto 12 C dX4_adjustmentOf_65 rfl ?_
          exact g_lv (lv' := [some (.ref o), some (.int (nI v)), some (.int (mnS (erT X nm v) (k + 1))), some (.int (mxS (erT X nm v) (k + 1))), some (.int (nI (k + 1 + 1))), none]) (fun i v h => by match i, h with | 0, h => exact h | 1, h => exact h | 2, h => exact h | 3, h => exact h | 4, h => exact h | 5, h => cases h) ih
      · refine g_iload C dX4_adjustmentOf_42 rfl ?_
        refine g_goto 48 C dX4_adjustmentOf_44 rfl ?_
        refine g_topi (y := mnS (erT X nm v) (k + 1)) (by simp only [mnS, if_neg c39]) ?_
        refine g_istore_n (lv' := [some (.ref o), some (.int (nI v)), some (.int (mnS (erT X nm v) (k + 1))), some (.int (mxS (erT X nm v) k)), some (.int (nI (k + 1))), some (.int (erT X nm v (k + 1)))]) C dX4_adjustmentOf_48 rfl (by decide) rfl ?_
        refine g_iload C dX4_adjustmentOf_49 rfl ?_
        refine g_iload_n C dX4_adjustmentOf_51 rfl rfl ?_
        refine g_icmp_le 60 C dX4_adjustmentOf_52 rfl (fun c52 => ?_) (fun c52 => ?_)
        · refine g_iload_n C dX4_adjustmentOf_60 rfl rfl ?_
          refine g_topi (y := mxS (erT X nm v) (k + 1)) (by simp only [mxS, if_pos c52]) ?_
          refine g_istore_n (lv' := [some (.ref o), some (.int (nI v)), some (.int (mnS (erT X nm v) (k + 1))), some (.int (mxS (erT X nm v) (k + 1))), some (.int (nI (k + 1))), some (.int (erT X nm v (k + 1)))]) C dX4_adjustmentOf_61 rfl (by decide) rfl ?_
          refine g_inc1 (x := k + 1) (lv' := [some (.ref o), some (.int (nI v)), some (.int (mnS (erT X nm v) (k + 1))), some (.int (mxS (erT X nm v) (k + 1))), some (.int (nI (k + 1 + 1))), some (.int (erT X nm v (k + 1)))]) C dX4_adjustmentOf_62 rfl (by decide) rfl ?_
          refine g_goto 12 C dX4_adjustmentOf_65 rfl ?_
          exact g_lv (lv' := [some (.ref o), some (.int (nI v)), some (.int (mnS (erT X nm v) (k + 1))), some (.int (mxS (erT X nm v) (k + 1))), some (.int (nI (k + 1 + 1))), none]) (fun i v h => by match i, h with | 0, h => exact h | 1, h => exact h | 2, h => exact h | 3, h => exact h | 4, h => exact h | 5, h => cases h) ih
        · refine g_iload C dX4_adjustmentOf_55 rfl ?_
          refine g_goto 61 C dX4_adjustmentOf_57 rfl ?_
          refine g_topi (y := mxS (erT X nm v) (k + 1)) (by simp only [mxS, if_neg c52]) ?_
          refine g_istore_n (lv' := [some (.ref o), some (.int (nI v)), some (.int (mnS (erT X nm v) (k + 1))), some (.int (mxS (erT X nm v) (k + 1))), some (.int (nI (k + 1))), some (.int (erT X nm v (k + 1)))]) C dX4_adjustmentOf_61 rfl (by decide) rfl ?_
          refine g_inc1 (x := k + 1) (lv' := [some (.ref o), some (.int (nI v)), some (.int (mnS (erT X nm v) (k + 1))), some (.int (mxS (erT X nm v) (k + 1))), some (.int (nI (k + 1 + 1))), some (.int (erT X nm v (k + 1)))]) C dX4_adjustmentOf_62 rfl (by decide) rfl ?_
          refine g_goto 12 C dX4_adjustmentOf_65 rfl ?_
          exact g_lv (lv' := [some (.ref o), some (.int (nI v)), some (.int (mnS (erT X nm v) (k + 1))), some (.int (mxS (erT X nm v) (k + 1))), some (.int (nI (k + 1 + 1))), none]) (fun i v h => by match i, h with | 0, h => exact h | 1, h => exact h | 2, h => exact h | 3, h => exact h | 4, h => exact h | 5, h => cases h) ih
set_option maxRecDepth 100000 in
theorem ct_verdictOf {l : Launch} {Γ : Gm} {A : Nat → Prop} {ρ : State → Prop} (B : Bs l A ρ) {o : Nat} {ad : Nat → Nat} {F : Nat → Int32} {X : Nat → Nat → Int32} {nt ns nm ne nv nu ln : Nat} (J : Iv F X nt ns nm ne nv nu ln) (v : Nat) (hv : v < nv) (less : Int32) : CtM l Γ A ρ yX4_verdictOf cX4_verdictOf 11 (some .int) 3 67 o ad [.ref o, .int (nI v), .int less] F X (some (.int (vdI X nm v less))) F X := by
  refine Ct.of B.1 B.2 (by decide) [some (.ref o), some (.int (nI v)), some (.int less), none, none, none, none, none, none, none, none] (Nat.le_of_ble_eq_true rfl) rfl ?_
  intro E hE C R
  subst hE
  have hv_ := J.lv
  have hs_ := J.ls
  obtain ⟨⟨sc, hsc, esc⟩, ⟨dy, hdy, edy⟩, hcl_, ⟨vd, hvd, evd⟩, hsv, ⟨tn, htn, etn, hts⟩⟩ := J.vi hv
  have et : tnV X v = tn := by rw [tnV, etn, nI_clamp (by omega)]
  have esc_ : (X 1 (1 + v)).toNatClampNeg = sc := by rw [esc, nI_clamp (by omega)]
  refine g_iconst (v := 0) C dX4_verdictOf_0 rfl ?_
  refine g_istore_n (lv' := [some (.ref o), some (.int (nI v)), some (.int less), some (.int 0), none, none, none, none, none, none, none]) C dX4_verdictOf_1 rfl (by decide) rfl ?_
  refine g_iconst (v := 0) C dX4_verdictOf_2 rfl ?_
  refine g_istore (lv' := [some (.ref o), some (.int (nI v)), some (.int less), some (.int 0), some (.int 0), none, none, none, none, none, none]) C dX4_verdictOf_3 (by decide) rfl ?_
  refine g_iconst (v := 0) C dX4_verdictOf_5 rfl ?_
  refine g_istore (lv' := [some (.ref o), some (.int (nI v)), some (.int less), some (.int 0), some (.int 0), some (.int 0), none, none, none, none, none]) C dX4_verdictOf_6 (by decide) rfl ?_
  refine g_iconst (v := 1) C dX4_verdictOf_8 rfl ?_
  refine g_istore (lv' := [some (.ref o), some (.int (nI v)), some (.int less), some (.int 0), some (.int 0), some (.int 0), some (.int 1), none, none, none, none]) C dX4_verdictOf_9 (by decide) rfl ?_
  refine g_iconst (v := 1) C dX4_verdictOf_11 rfl ?_
  refine g_istore (lv' := [some (.ref o), some (.int (nI v)), some (.int less), some (.int 0), some (.int 0), some (.int 0), some (.int 1), some (.int 1), none, none, none]) C dX4_verdictOf_12 (by decide) rfl ?_
  refine g_iconst (v := 0) C dX4_verdictOf_14 rfl ?_
  refine g_istore (lv' := [some (.ref o), some (.int (nI v)), some (.int less), some (.int 0), some (.int 0), some (.int 0), some (.int 1), some (.int 1), some (.int 0), none, none]) C dX4_verdictOf_15 (by decide) rfl ?_
  refine g_for (P := fun k => G E (RepM Γ A o ad F X) 0 0 17 [some (.ref o), some (.int (nI v)), some (.int less), some (.int (b2i (vEm X v k))), some (.int (b2i (vHa X nm v k))), some (.int (b2i (vTw X v k))), some (.int (b2i (vPa X nm v less k))), some (.int (b2i (vAg X nm v k))), some (.int (nI k)), none, none] []) tn ?_ ?_ 0 (Nat.zero_le _)
  · refine g_iload C dX4_verdictOf_17 rfl ?_
    refine g_aload_n C dX4_verdictOf_19 rfl rfl ?_
    refine mg_1 C dX4_verdictOf_20 ?_
    refine g_sipush (v := 151) C dX4_verdictOf_23 rfl ?_
    refine g_iload_n C dX4_verdictOf_26 rfl rfl ?_
    refine g_iadd C dX4_verdictOf_27 ?_
    refine g_topi (y := nI (151 + v)) (nI_add 151 v) ?_
    refine ml_1 (i := 151 + v) C dX4_verdictOf_28 (by omega) ?_
    refine g_topi (y := nI tn) (etn) ?_
    refine gN_ge (a := tn) (b := tn) 236 C dX4_verdictOf_29 rfl (by omega) (by omega) (fun c29 => ?_) (fun c29 => ?_)
    · refine g_iload_n C dX4_verdictOf_236 rfl rfl ?_
      refine g_if_ne 244 C dX4_verdictOf_237 rfl (fun c237 => ?_) (fun c237 => ?_)
      · replace c237 := b2i_T c237
        refine g_iload C dX4_verdictOf_244 rfl ?_
        refine g_if_ne 253 C dX4_verdictOf_246 rfl (fun c246 => ?_) (fun c246 => ?_)
        · replace c246 := b2i_T c246
          refine g_iload C dX4_verdictOf_253 rfl ?_
          refine g_if_ne 262 C dX4_verdictOf_255 rfl (fun c255 => ?_) (fun c255 => ?_)
          · replace c255 := b2i_T c255
            refine g_iload C dX4_verdictOf_262 rfl ?_
            refine g_if_ne 271 C dX4_verdictOf_264 rfl (fun c264 => ?_) (fun c264 => ?_)
            · replace c264 := b2i_T c264
              refine g_iload C dX4_verdictOf_271 rfl ?_
              refine g_if_ne 280 C dX4_verdictOf_273 rfl (fun c273 => ?_) (fun c273 => ?_)
              · replace c273 := b2i_T c273
                refine g_iconst (v := 0) C dX4_verdictOf_280 rfl ?_
                exact g_iret C R (Nat.le_refl _) (Nat.le_refl _) dX4_verdictOf_281 (fun H h => ⟨by simp only [vdI, et, c29, c237, c246, c255, c264, c273, ↓reduceIte, reduceCtorEq], h⟩)
              · replace c273 := b2i_F c273
                refine g_iconst (v := 5) C dX4_verdictOf_276 rfl ?_
                refine g_goto 281 C dX4_verdictOf_277 rfl ?_
                exact g_iret C R (Nat.le_refl _) (Nat.le_refl _) dX4_verdictOf_281 (fun H h => ⟨by simp only [vdI, et, c29, c237, c246, c255, c264, c273, ↓reduceIte, reduceCtorEq], h⟩)
            · replace c264 := b2i_F c264
              refine g_iconst (v := 4) C dX4_verdictOf_267 rfl ?_
              refine g_goto 281 C dX4_verdictOf_268 rfl ?_
              exact g_iret C R (Nat.le_refl _) (Nat.le_refl _) dX4_verdictOf_281 (fun H h => ⟨by simp only [vdI, et, c29, c237, c246, c255, c264, ↓reduceIte, reduceCtorEq], h⟩)
          · replace c255 := b2i_F c255
            refine g_iconst (v := 3) C dX4_verdictOf_258 rfl ?_
            refine g_goto 281 C dX4_verdictOf_259 rfl ?_
            exact g_iret C R (Nat.le_refl _) (Nat.le_refl _) dX4_verdictOf_281 (fun H h => ⟨by simp only [vdI, et, c29, c237, c246, c255, ↓reduceIte, reduceCtorEq], h⟩)
        · replace c246 := b2i_F c246
          refine g_iconst (v := 2) C dX4_verdictOf_249 rfl ?_
          refine g_goto 281 C dX4_verdictOf_250 rfl ?_
          exact g_iret C R (Nat.le_refl _) (Nat.le_refl _) dX4_verdictOf_281 (fun H h => ⟨by simp only [vdI, et, c29, c237, c246, ↓reduceIte, reduceCtorEq], h⟩)
      · replace c237 := b2i_F c237
        refine g_iconst (v := 1) C dX4_verdictOf_240 rfl ?_
        refine g_goto 281 C dX4_verdictOf_241 rfl ?_
        exact g_iret C R (Nat.le_refl _) (Nat.le_refl _) dX4_verdictOf_281 (fun H h => ⟨by simp only [vdI, et, c29, c237, ↓reduceIte, reduceCtorEq], h⟩)
    · exfalso; omega
  · intro k hk ih
    replace ih : G E (RepM Γ A o ad F X) 0 0 17 [some (.ref o), some (.int (nI v)), some (.int less), some (.int (b2i (vEm X v (k + 1)))), some (.int (b2i (vHa X nm v (k + 1)))), some (.int (b2i (vTw X v (k + 1)))), some (.int (b2i (vPa X nm v less (k + 1)))), some (.int (b2i (vAg X nm v (k + 1)))), some (.int (nI (k + 1))), none, none] [] := ih
    have j136 : G E (RepM Γ A o ad F X) 0 0 136 [some (.ref o), some (.int (nI v)), some (.int less), some (.int (b2i (vEm X v (k + 1)))), some (.int (b2i (vHa X nm v (k + 1)))), some (.int (b2i (vTw X v k))), some (.int (b2i (vPa X nm v less (k + 1)))), some (.int (b2i (vAg X nm v k))), some (.int (nI k)), some (.int (X 1 (181 + 8 * v + k))), none] [] := by
      refine g_iconst (v := 0) C dX4_verdictOf_136 rfl ?_
      refine g_istore (lv' := [some (.ref o), some (.int (nI v)), some (.int less), some (.int (b2i (vEm X v (k + 1)))), some (.int (b2i (vHa X nm v (k + 1)))), some (.int (b2i (vTw X v k))), some (.int (b2i (vPa X nm v less (k + 1)))), some (.int (b2i (vAg X nm v k))), some (.int (nI k)), some (.int (X 1 (181 + 8 * v + k))), some (.int 0)]) C dX4_verdictOf_137 (by decide) rfl ?_
      refine g_eql (lv' := [some (.ref o), some (.int (nI v)), some (.int less), some (.int (b2i (vEm X v (k + 1)))), some (.int (b2i (vHa X nm v (k + 1)))), some (.int (b2i (twK X v k 0))), some (.int (b2i (vPa X nm v less (k + 1)))), some (.int (b2i (agK X nm v k 0))), some (.int (nI k)), some (.int (X 1 (181 + 8 * v + k))), some (.int (nI 0))]) (by rw [twK_0, agK_0]; rfl) ?_
      refine g_for (P := fun u => G E (RepM Γ A o ad F X) 0 0 139 [some (.ref o), some (.int (nI v)), some (.int less), some (.int (b2i (vEm X v (k + 1)))), some (.int (b2i (vHa X nm v (k + 1)))), some (.int (b2i (twK X v k u))), some (.int (b2i (vPa X nm v less (k + 1)))), some (.int (b2i (agK X nm v k u))), some (.int (nI k)), some (.int (X 1 (181 + 8 * v + k))), some (.int (nI u))] []) k ?_ ?_ 0 (Nat.zero_le _)
      · refine g_iload C dX4_verdictOf_139 rfl ?_
        refine g_iload C dX4_verdictOf_141 rfl ?_
        refine gN_ge (a := k) (b := k) 230 C dX4_verdictOf_143 rfl (by omega) (by omega) (fun c143 => ?_) (fun c143 => ?_)
        · refine g_inc1 (x := k) (lv' := [some (.ref o), some (.int (nI v)), some (.int less), some (.int (b2i (vEm X v (k + 1)))), some (.int (b2i (vHa X nm v (k + 1)))), some (.int (b2i (twK X v k k))), some (.int (b2i (vPa X nm v less (k + 1)))), some (.int (b2i (agK X nm v k k))), some (.int (nI (k + 1))), some (.int (X 1 (181 + 8 * v + k))), some (.int (nI k))]) C dX4_verdictOf_230 rfl (by decide) rfl ?_
          refine g_goto 17 C dX4_verdictOf_233 rfl ?_
          exact g_lv (lv' := [some (.ref o), some (.int (nI v)), some (.int less), some (.int (b2i (vEm X v (k + 1)))), some (.int (b2i (vHa X nm v (k + 1)))), some (.int (b2i (vTw X v (k + 1)))), some (.int (b2i (vPa X nm v less (k + 1)))), some (.int (b2i (vAg X nm v (k + 1)))), some (.int (nI (k + 1))), none, none]) (fun i w h => by match i, h with | 0, h => exact h | 1, h => exact h | 2, h => exact h | 3, h => exact h | 4, h => exact h | 5, h => exact h | 6, h => exact h | 7, h => exact h | 8, h => exact h | 9, h => cases h | 10, h => cases h) ih
        · exfalso; omega
      · intro u hu ihu
        replace ihu : G E (RepM Γ A o ad F X) 0 0 139 [some (.ref o), some (.int (nI v)), some (.int less), some (.int (b2i (vEm X v (k + 1)))), some (.int (b2i (vHa X nm v (k + 1)))), some (.int (b2i (twK X v k (u + 1)))), some (.int (b2i (vPa X nm v less (k + 1)))), some (.int (b2i (agK X nm v k (u + 1)))), some (.int (nI k)), some (.int (X 1 (181 + 8 * v + k))), some (.int (nI (u + 1)))] [] := ihu
        refine g_iload C dX4_verdictOf_139 rfl ?_
        refine g_iload C dX4_verdictOf_141 rfl ?_
        refine gN_ge (a := u) (b := k) 230 C dX4_verdictOf_143 rfl (by omega) (by omega) (fun c143 => ?_) (fun c143 => ?_)
        · exfalso; omega
        · refine g_aload_n C dX4_verdictOf_146 rfl rfl ?_
          refine mg_1 C dX4_verdictOf_147 ?_
          refine g_sipush (v := 181) C dX4_verdictOf_150 rfl ?_
          refine g_bipush (v := 8) C dX4_verdictOf_153 rfl ?_
          refine g_iload_n C dX4_verdictOf_155 rfl rfl ?_
          refine g_imul C dX4_verdictOf_156 ?_
          refine g_topi (y := nI (8 * v)) (pk_mul 8 v) ?_
          refine g_iadd C dX4_verdictOf_157 ?_
          refine g_topi (y := nI (181 + 8 * v)) (nI_add 181 (8 * v)) ?_
          refine g_iload C dX4_verdictOf_158 rfl ?_
          refine g_iadd C dX4_verdictOf_160 ?_
          refine g_topi (y := nI (181 + 8 * v + u)) (nI_add (181 + 8 * v) u) ?_
          refine ml_1 (i := 181 + 8 * v + u) C dX4_verdictOf_161 (by omega) ?_
          refine g_iload C dX4_verdictOf_162 rfl ?_
          refine g_icmp_ne 224 C dX4_verdictOf_164 rfl (fun c164 => ?_) (fun c164 => ?_)
          · refine g_inc1 (x := u) (lv' := [some (.ref o), some (.int (nI v)), some (.int less), some (.int (b2i (vEm X v (k + 1)))), some (.int (b2i (vHa X nm v (k + 1)))), some (.int (b2i (twK X v k u))), some (.int (b2i (vPa X nm v less (k + 1)))), some (.int (b2i (agK X nm v k u))), some (.int (nI k)), some (.int (X 1 (181 + 8 * v + k))), some (.int (nI (u + 1)))]) C dX4_verdictOf_224 rfl (by decide) rfl ?_
            refine g_goto 139 C dX4_verdictOf_227 rfl ?_
            rw [show twK X v k (u + 1) = twK X v k u by simp only [twK_s, decide_eq_false c164, Bool.not_true, Bool.not_false, Bool.or_true, Bool.true_or, Bool.or_false, Bool.false_or, Bool.and_true, Bool.true_and, Bool.and_false, Bool.false_and, if_true, reduceCtorEq, if_false, Bool.false_eq_true], show agK X nm v k (u + 1) = agK X nm v k u by simp only [agK_s, decide_eq_false c164, Bool.not_true, Bool.not_false, Bool.or_true, Bool.true_or, Bool.or_false, Bool.false_or, Bool.and_true, Bool.true_and, Bool.and_false, Bool.false_and, if_true, reduceCtorEq, if_false, Bool.false_eq_true]] at ihu
            exact ihu
          · refine g_iload C dX4_verdictOf_167 rfl ?_
            refine g_if_ne 177 C dX4_verdictOf_169 rfl (fun c169 => ?_) (fun c169 => ?_)
            · replace c169 := b2i_T c169
              refine g_iconst (v := 1) C dX4_verdictOf_177 rfl ?_
              refine g_goto 182 C dX4_verdictOf_178 rfl ?_
              refine g_topi (y := b2i (twK X v k (u + 1))) (by simp only [vEm_s, vHa_s, vPa_s, twK_s, agK_s, esc_, b2i, decide_eq_true c164, c169, Bool.not_true, Bool.not_false, Bool.or_true, Bool.true_or, Bool.or_false, Bool.false_or, Bool.and_true, Bool.true_and, Bool.and_false, Bool.false_and, if_true, reduceCtorEq, if_false, Bool.false_eq_true]) ?_
              refine g_istore (lv' := [some (.ref o), some (.int (nI v)), some (.int less), some (.int (b2i (vEm X v (k + 1)))), some (.int (b2i (vHa X nm v (k + 1)))), some (.int (b2i (twK X v k (u + 1)))), some (.int (b2i (vPa X nm v less (k + 1)))), some (.int (b2i (agK X nm v k u))), some (.int (nI k)), some (.int (X 1 (181 + 8 * v + k))), some (.int (nI u))]) C dX4_verdictOf_182 (by decide) rfl ?_
              refine g_iload C dX4_verdictOf_184 rfl ?_
              refine g_if_eq 221 C dX4_verdictOf_186 rfl (fun c186 => ?_) (fun c186 => ?_)
              · replace c186 := b2i_F c186
                refine g_iconst (v := 0) C dX4_verdictOf_221 rfl ?_
                refine g_topi (y := b2i (agK X nm v k (u + 1))) (by simp only [vEm_s, vHa_s, vPa_s, twK_s, agK_s, esc_, b2i, decide_eq_true c164, c186, Bool.not_true, Bool.not_false, Bool.or_true, Bool.true_or, Bool.or_false, Bool.false_or, Bool.and_true, Bool.true_and, Bool.and_false, Bool.false_and, if_true, reduceCtorEq, if_false, Bool.false_eq_true]) ?_
                refine g_istore (lv' := [some (.ref o), some (.int (nI v)), some (.int less), some (.int (b2i (vEm X v (k + 1)))), some (.int (b2i (vHa X nm v (k + 1)))), some (.int (b2i (twK X v k (u + 1)))), some (.int (b2i (vPa X nm v less (k + 1)))), some (.int (b2i (agK X nm v k (u + 1)))), some (.int (nI k)), some (.int (X 1 (181 + 8 * v + k))), some (.int (nI u))]) C dX4_verdictOf_222 (by decide) rfl ?_
                refine g_inc1 (x := u) (lv' := [some (.ref o), some (.int (nI v)), some (.int less), some (.int (b2i (vEm X v (k + 1)))), some (.int (b2i (vHa X nm v (k + 1)))), some (.int (b2i (twK X v k (u + 1)))), some (.int (b2i (vPa X nm v less (k + 1)))), some (.int (b2i (agK X nm v k (u + 1)))), some (.int (nI k)), some (.int (X 1 (181 + 8 * v + k))), some (.int (nI (u + 1)))]) C dX4_verdictOf_224 rfl (by decide) rfl ?_
                refine g_goto 139 C dX4_verdictOf_227 rfl ?_
                exact ihu
              · replace c186 := b2i_T c186
                refine g_aload_n C dX4_verdictOf_189 rfl rfl ?_
                refine g_iload_n C dX4_verdictOf_190 rfl rfl ?_
                refine g_iload C dX4_verdictOf_191 rfl ?_
                refine g_mcall (rest := []) 2 C (ct_errorOf (F := F) (X := X) B J v k (by omega) (by omega)) (lw_V q1984 q1986 qs66 q107 q1987) (by decide +kernel) ⟨Nat.le_of_ble_eq_true rfl, Nat.le_of_ble_eq_true rfl⟩ ⟨Nat.le_of_ble_eq_true rfl, Nat.le_of_ble_eq_true rfl⟩ rfl rfl (Nat.le_of_ble_eq_true rfl) dX4_verdictOf_193 ?_
                refine g_aload_n C dX4_verdictOf_196 rfl rfl ?_
                refine g_iload_n C dX4_verdictOf_197 rfl rfl ?_
                refine g_iload C dX4_verdictOf_198 rfl ?_
                refine g_mcall (rest := [.int (erT X nm v k)]) 2 C (ct_errorOf (F := F) (X := X) B J v u (by omega) (by omega)) (lw_V q1984 q1986 qs66 q107 q1987) (by decide +kernel) ⟨Nat.le_of_ble_eq_true rfl, Nat.le_of_ble_eq_true rfl⟩ ⟨Nat.le_of_ble_eq_true rfl, Nat.le_of_ble_eq_true rfl⟩ rfl rfl (Nat.le_of_ble_eq_true rfl) dX4_verdictOf_200 ?_
                refine g_isub C dX4_verdictOf_203 ?_
                refine g_pcall (rest := []) 1 C (ct_size B _) (lw_S q1992 q1993 q107 q1994) ⟨by decide, by decide, by decide +kernel⟩ ⟨Nat.le_of_ble_eq_true rfl, Nat.le_of_ble_eq_true rfl⟩ ⟨Nat.le_of_ble_eq_true rfl, Nat.le_of_ble_eq_true rfl⟩ rfl rfl (Nat.le_of_ble_eq_true rfl) dX4_verdictOf_204 ?_
                refine g_aload_n C dX4_verdictOf_207 rfl rfl ?_
                refine g_iload_n C dX4_verdictOf_208 rfl rfl ?_
                refine g_iload C dX4_verdictOf_209 rfl ?_
                refine g_mcall (rest := [.int (szI ((erT X nm v k) - (erT X nm v u)))]) 2 C (ct_toleranceOf (F := F) (X := X) B J v k (by omega) (by omega)) (lw_V q1995 q1997 qs67 q107 q1998) (by decide +kernel) ⟨Nat.le_of_ble_eq_true rfl, Nat.le_of_ble_eq_true rfl⟩ ⟨Nat.le_of_ble_eq_true rfl, Nat.le_of_ble_eq_true rfl⟩ rfl rfl (Nat.le_of_ble_eq_true rfl) dX4_verdictOf_211 ?_
                refine g_icmp_gt 221 C dX4_verdictOf_214 rfl (fun c214 => ?_) (fun c214 => ?_)
                · refine g_iconst (v := 0) C dX4_verdictOf_221 rfl ?_
                  refine g_topi (y := b2i (agK X nm v k (u + 1))) (by simp only [vEm_s, vHa_s, vPa_s, twK_s, agK_s, esc_, b2i, decide_eq_true c164, c186, decide_eq_true c214, Bool.not_true, Bool.not_false, Bool.or_true, Bool.true_or, Bool.or_false, Bool.false_or, Bool.and_true, Bool.true_and, Bool.and_false, Bool.false_and, if_true, reduceCtorEq, if_false, Bool.false_eq_true]) ?_
                  refine g_istore (lv' := [some (.ref o), some (.int (nI v)), some (.int less), some (.int (b2i (vEm X v (k + 1)))), some (.int (b2i (vHa X nm v (k + 1)))), some (.int (b2i (twK X v k (u + 1)))), some (.int (b2i (vPa X nm v less (k + 1)))), some (.int (b2i (agK X nm v k (u + 1)))), some (.int (nI k)), some (.int (X 1 (181 + 8 * v + k))), some (.int (nI u))]) C dX4_verdictOf_222 (by decide) rfl ?_
                  refine g_inc1 (x := u) (lv' := [some (.ref o), some (.int (nI v)), some (.int less), some (.int (b2i (vEm X v (k + 1)))), some (.int (b2i (vHa X nm v (k + 1)))), some (.int (b2i (twK X v k (u + 1)))), some (.int (b2i (vPa X nm v less (k + 1)))), some (.int (b2i (agK X nm v k (u + 1)))), some (.int (nI k)), some (.int (X 1 (181 + 8 * v + k))), some (.int (nI (u + 1)))]) C dX4_verdictOf_224 rfl (by decide) rfl ?_
                  refine g_goto 139 C dX4_verdictOf_227 rfl ?_
                  exact ihu
                · refine g_iconst (v := 1) C dX4_verdictOf_217 rfl ?_
                  refine g_goto 222 C dX4_verdictOf_218 rfl ?_
                  refine g_topi (y := b2i (agK X nm v k (u + 1))) (by simp only [vEm_s, vHa_s, vPa_s, twK_s, agK_s, esc_, b2i, decide_eq_true c164, c186, decide_eq_false c214, Bool.not_true, Bool.not_false, Bool.or_true, Bool.true_or, Bool.or_false, Bool.false_or, Bool.and_true, Bool.true_and, Bool.and_false, Bool.false_and, if_true, reduceCtorEq, if_false, Bool.false_eq_true]) ?_
                  refine g_istore (lv' := [some (.ref o), some (.int (nI v)), some (.int less), some (.int (b2i (vEm X v (k + 1)))), some (.int (b2i (vHa X nm v (k + 1)))), some (.int (b2i (twK X v k (u + 1)))), some (.int (b2i (vPa X nm v less (k + 1)))), some (.int (b2i (agK X nm v k (u + 1)))), some (.int (nI k)), some (.int (X 1 (181 + 8 * v + k))), some (.int (nI u))]) C dX4_verdictOf_222 (by decide) rfl ?_
                  refine g_inc1 (x := u) (lv' := [some (.ref o), some (.int (nI v)), some (.int less), some (.int (b2i (vEm X v (k + 1)))), some (.int (b2i (vHa X nm v (k + 1)))), some (.int (b2i (twK X v k (u + 1)))), some (.int (b2i (vPa X nm v less (k + 1)))), some (.int (b2i (agK X nm v k (u + 1)))), some (.int (nI k)), some (.int (X 1 (181 + 8 * v + k))), some (.int (nI (u + 1)))]) C dX4_verdictOf_224 rfl (by decide) rfl ?_
                  refine g_goto 139 C dX4_verdictOf_227 rfl ?_
                  exact ihu
            · replace c169 := b2i_F c169
              refine g_iload C dX4_verdictOf_172 rfl ?_
              refine g_if_eq 181 C dX4_verdictOf_174 rfl (fun c174 => ?_) (fun c174 => ?_)
              · refine g_iconst (v := 0) C dX4_verdictOf_181 rfl ?_
                refine g_topi (y := b2i (twK X v k (u + 1))) (by simp only [vEm_s, vHa_s, vPa_s, twK_s, agK_s, esc_, b2i, decide_eq_true c164, c169, decide_eq_true c174, Bool.not_true, Bool.not_false, Bool.or_true, Bool.true_or, Bool.or_false, Bool.false_or, Bool.and_true, Bool.true_and, Bool.and_false, Bool.false_and, if_true, reduceCtorEq, if_false, Bool.false_eq_true]) ?_
                refine g_istore (lv' := [some (.ref o), some (.int (nI v)), some (.int less), some (.int (b2i (vEm X v (k + 1)))), some (.int (b2i (vHa X nm v (k + 1)))), some (.int (b2i (twK X v k (u + 1)))), some (.int (b2i (vPa X nm v less (k + 1)))), some (.int (b2i (agK X nm v k u))), some (.int (nI k)), some (.int (X 1 (181 + 8 * v + k))), some (.int (nI u))]) C dX4_verdictOf_182 (by decide) rfl ?_
                refine g_iload C dX4_verdictOf_184 rfl ?_
                refine g_if_eq 221 C dX4_verdictOf_186 rfl (fun c186 => ?_) (fun c186 => ?_)
                · replace c186 := b2i_F c186
                  refine g_iconst (v := 0) C dX4_verdictOf_221 rfl ?_
                  refine g_topi (y := b2i (agK X nm v k (u + 1))) (by simp only [vEm_s, vHa_s, vPa_s, twK_s, agK_s, esc_, b2i, decide_eq_true c164, c186, Bool.not_true, Bool.not_false, Bool.or_true, Bool.true_or, Bool.or_false, Bool.false_or, Bool.and_true, Bool.true_and, Bool.and_false, Bool.false_and, if_true, reduceCtorEq, if_false, Bool.false_eq_true]) ?_
                  refine g_istore (lv' := [some (.ref o), some (.int (nI v)), some (.int less), some (.int (b2i (vEm X v (k + 1)))), some (.int (b2i (vHa X nm v (k + 1)))), some (.int (b2i (twK X v k (u + 1)))), some (.int (b2i (vPa X nm v less (k + 1)))), some (.int (b2i (agK X nm v k (u + 1)))), some (.int (nI k)), some (.int (X 1 (181 + 8 * v + k))), some (.int (nI u))]) C dX4_verdictOf_222 (by decide) rfl ?_
                  refine g_inc1 (x := u) (lv' := [some (.ref o), some (.int (nI v)), some (.int less), some (.int (b2i (vEm X v (k + 1)))), some (.int (b2i (vHa X nm v (k + 1)))), some (.int (b2i (twK X v k (u + 1)))), some (.int (b2i (vPa X nm v less (k + 1)))), some (.int (b2i (agK X nm v k (u + 1)))), some (.int (nI k)), some (.int (X 1 (181 + 8 * v + k))), some (.int (nI (u + 1)))]) C dX4_verdictOf_224 rfl (by decide) rfl ?_
                  refine g_goto 139 C dX4_verdictOf_227 rfl ?_
                  exact ihu
                · replace c186 := b2i_T c186
                  refine g_aload_n C dX4_verdictOf_189 rfl rfl ?_
                  refine g_iload_n C dX4_verdictOf_190 rfl rfl ?_
                  refine g_iload C dX4_verdictOf_191 rfl ?_
                  refine g_mcall (rest := []) 2 C (ct_errorOf (F := F) (X := X) B J v k (by omega) (by omega)) (lw_V q1984 q1986 qs66 q107 q1987) (by decide +kernel) ⟨Nat.le_of_ble_eq_true rfl, Nat.le_of_ble_eq_true rfl⟩ ⟨Nat.le_of_ble_eq_true rfl, Nat.le_of_ble_eq_true rfl⟩ rfl rfl (Nat.le_of_ble_eq_true rfl) dX4_verdictOf_193 ?_
                  refine g_aload_n C dX4_verdictOf_196 rfl rfl ?_
                  refine g_iload_n C dX4_verdictOf_197 rfl rfl ?_
                  refine g_iload C dX4_verdictOf_198 rfl ?_
                  refine g_mcall (rest := [.int (erT X nm v k)]) 2 C (ct_errorOf (F := F) (X := X) B J v u (by omega) (by omega)) (lw_V q1984 q1986 qs66 q107 q1987) (by decide +kernel) ⟨Nat.le_of_ble_eq_true rfl, Nat.le_of_ble_eq_true rfl⟩ ⟨Nat.le_of_ble_eq_true rfl, Nat.le_of_ble_eq_true rfl⟩ rfl rfl (Nat.le_of_ble_eq_true rfl) dX4_verdictOf_200 ?_
                  refine g_isub C dX4_verdictOf_203 ?_
                  refine g_pcall (rest := []) 1 C (ct_size B _) (lw_S q1992 q1993 q107 q1994) ⟨by decide, by decide, by decide +kernel⟩ ⟨Nat.le_of_ble_eq_true rfl, Nat.le_of_ble_eq_true rfl⟩ ⟨Nat.le_of_ble_eq_true rfl, Nat.le_of_ble_eq_true rfl⟩ rfl rfl (Nat.le_of_ble_eq_true rfl) dX4_verdictOf_204 ?_
                  refine g_aload_n C dX4_verdictOf_207 rfl rfl ?_
                  refine g_iload_n C dX4_verdictOf_208 rfl rfl ?_
                  refine g_iload C dX4_verdictOf_209 rfl ?_
                  refine g_mcall (rest := [.int (szI ((erT X nm v k) - (erT X nm v u)))]) 2 C (ct_toleranceOf (F := F) (X := X) B J v k (by omega) (by omega)) (lw_V q1995 q1997 qs67 q107 q1998) (by decide +kernel) ⟨Nat.le_of_ble_eq_true rfl, Nat.le_of_ble_eq_true rfl⟩ ⟨Nat.le_of_ble_eq_true rfl, Nat.le_of_ble_eq_true rfl⟩ rfl rfl (Nat.le_of_ble_eq_true rfl) dX4_verdictOf_211 ?_
                  refine g_icmp_gt 221 C dX4_verdictOf_214 rfl (fun c214 => ?_) (fun c214 => ?_)
                  · refine g_iconst (v := 0) C dX4_verdictOf_221 rfl ?_
                    refine g_topi (y := b2i (agK X nm v k (u + 1))) (by simp only [vEm_s, vHa_s, vPa_s, twK_s, agK_s, esc_, b2i, decide_eq_true c164, c186, decide_eq_true c214, Bool.not_true, Bool.not_false, Bool.or_true, Bool.true_or, Bool.or_false, Bool.false_or, Bool.and_true, Bool.true_and, Bool.and_false, Bool.false_and, if_true, reduceCtorEq, if_false, Bool.false_eq_true]) ?_
                    refine g_istore (lv' := [some (.ref o), some (.int (nI v)), some (.int less), some (.int (b2i (vEm X v (k + 1)))), some (.int (b2i (vHa X nm v (k + 1)))), some (.int (b2i (twK X v k (u + 1)))), some (.int (b2i (vPa X nm v less (k + 1)))), some (.int (b2i (agK X nm v k (u + 1)))), some (.int (nI k)), some (.int (X 1 (181 + 8 * v + k))), some (.int (nI u))]) C dX4_verdictOf_222 (by decide) rfl ?_
                    refine g_inc1 (x := u) (lv' := [some (.ref o), some (.int (nI v)), some (.int less), some (.int (b2i (vEm X v (k + 1)))), some (.int (b2i (vHa X nm v (k + 1)))), some (.int (b2i (twK X v k (u + 1)))), some (.int (b2i (vPa X nm v less (k + 1)))), some (.int (b2i (agK X nm v k (u + 1)))), some (.int (nI k)), some (.int (X 1 (181 + 8 * v + k))), some (.int (nI (u + 1)))]) C dX4_verdictOf_224 rfl (by decide) rfl ?_
                    refine g_goto 139 C dX4_verdictOf_227 rfl ?_
                    exact ihu
                  · refine g_iconst (v := 1) C dX4_verdictOf_217 rfl ?_
                    refine g_goto 222 C dX4_verdictOf_218 rfl ?_
                    refine g_topi (y := b2i (agK X nm v k (u + 1))) (by simp only [vEm_s, vHa_s, vPa_s, twK_s, agK_s, esc_, b2i, decide_eq_true c164, c186, decide_eq_false c214, Bool.not_true, Bool.not_false, Bool.or_true, Bool.true_or, Bool.or_false, Bool.false_or, Bool.and_true, Bool.true_and, Bool.and_false, Bool.false_and, if_true, reduceCtorEq, if_false, Bool.false_eq_true]) ?_
                    refine g_istore (lv' := [some (.ref o), some (.int (nI v)), some (.int less), some (.int (b2i (vEm X v (k + 1)))), some (.int (b2i (vHa X nm v (k + 1)))), some (.int (b2i (twK X v k (u + 1)))), some (.int (b2i (vPa X nm v less (k + 1)))), some (.int (b2i (agK X nm v k (u + 1)))), some (.int (nI k)), some (.int (X 1 (181 + 8 * v + k))), some (.int (nI u))]) C dX4_verdictOf_222 (by decide) rfl ?_
                    refine g_inc1 (x := u) (lv' := [some (.ref o), some (.int (nI v)), some (.int less), some (.int (b2i (vEm X v (k + 1)))), some (.int (b2i (vHa X nm v (k + 1)))), some (.int (b2i (twK X v k (u + 1)))), some (.int (b2i (vPa X nm v less (k + 1)))), some (.int (b2i (agK X nm v k (u + 1)))), some (.int (nI k)), some (.int (X 1 (181 + 8 * v + k))), some (.int (nI (u + 1)))]) C dX4_verdictOf_224 rfl (by decide) rfl ?_
                    refine g_goto 139 C dX4_verdictOf_227 rfl ?_
                    exact ihu
              · refine g_iconst (v := 1) C dX4_verdictOf_177 rfl ?_
                refine g_goto 182 C dX4_verdictOf_178 rfl ?_
                refine g_topi (y := b2i (twK X v k (u + 1))) (by simp only [vEm_s, vHa_s, vPa_s, twK_s, agK_s, esc_, b2i, decide_eq_true c164, c169, decide_eq_false c174, Bool.not_true, Bool.not_false, Bool.or_true, Bool.true_or, Bool.or_false, Bool.false_or, Bool.and_true, Bool.true_and, Bool.and_false, Bool.false_and, if_true, reduceCtorEq, if_false, Bool.false_eq_true]) ?_
                refine g_istore (lv' := [some (.ref o), some (.int (nI v)), some (.int less), some (.int (b2i (vEm X v (k + 1)))), some (.int (b2i (vHa X nm v (k + 1)))), some (.int (b2i (twK X v k (u + 1)))), some (.int (b2i (vPa X nm v less (k + 1)))), some (.int (b2i (agK X nm v k u))), some (.int (nI k)), some (.int (X 1 (181 + 8 * v + k))), some (.int (nI u))]) C dX4_verdictOf_182 (by decide) rfl ?_
                refine g_iload C dX4_verdictOf_184 rfl ?_
                refine g_if_eq 221 C dX4_verdictOf_186 rfl (fun c186 => ?_) (fun c186 => ?_)
                · replace c186 := b2i_F c186
                  refine g_iconst (v := 0) C dX4_verdictOf_221 rfl ?_
                  refine g_topi (y := b2i (agK X nm v k (u + 1))) (by simp only [vEm_s, vHa_s, vPa_s, twK_s, agK_s, esc_, b2i, decide_eq_true c164, c186, Bool.not_true, Bool.not_false, Bool.or_true, Bool.true_or, Bool.or_false, Bool.false_or, Bool.and_true, Bool.true_and, Bool.and_false, Bool.false_and, if_true, reduceCtorEq, if_false, Bool.false_eq_true]) ?_
                  refine g_istore (lv' := [some (.ref o), some (.int (nI v)), some (.int less), some (.int (b2i (vEm X v (k + 1)))), some (.int (b2i (vHa X nm v (k + 1)))), some (.int (b2i (twK X v k (u + 1)))), some (.int (b2i (vPa X nm v less (k + 1)))), some (.int (b2i (agK X nm v k (u + 1)))), some (.int (nI k)), some (.int (X 1 (181 + 8 * v + k))), some (.int (nI u))]) C dX4_verdictOf_222 (by decide) rfl ?_
                  refine g_inc1 (x := u) (lv' := [some (.ref o), some (.int (nI v)), some (.int less), some (.int (b2i (vEm X v (k + 1)))), some (.int (b2i (vHa X nm v (k + 1)))), some (.int (b2i (twK X v k (u + 1)))), some (.int (b2i (vPa X nm v less (k + 1)))), some (.int (b2i (agK X nm v k (u + 1)))), some (.int (nI k)), some (.int (X 1 (181 + 8 * v + k))), some (.int (nI (u + 1)))]) C dX4_verdictOf_224 rfl (by decide) rfl ?_
                  refine g_goto 139 C dX4_verdictOf_227 rfl ?_
                  exact ihu
                · replace c186 := b2i_T c186
                  refine g_aload_n C dX4_verdictOf_189 rfl rfl ?_
                  refine g_iload_n C dX4_verdictOf_190 rfl rfl ?_
                  refine g_iload C dX4_verdictOf_191 rfl ?_
                  refine g_mcall (rest := []) 2 C (ct_errorOf (F := F) (X := X) B J v k (by omega) (by omega)) (lw_V q1984 q1986 qs66 q107 q1987) (by decide +kernel) ⟨Nat.le_of_ble_eq_true rfl, Nat.le_of_ble_eq_true rfl⟩ ⟨Nat.le_of_ble_eq_true rfl, Nat.le_of_ble_eq_true rfl⟩ rfl rfl (Nat.le_of_ble_eq_true rfl) dX4_verdictOf_193 ?_
                  refine g_aload_n C dX4_verdictOf_196 rfl rfl ?_
                  refine g_iload_n C dX4_verdictOf_197 rfl rfl ?_
                  refine g_iload C dX4_verdictOf_198 rfl ?_
                  refine g_mcall (rest := [.int (erT X nm v k)]) 2 C (ct_errorOf (F := F) (X := X) B J v u (by omega) (by omega)) (lw_V q1984 q1986 qs66 q107 q1987) (by decide +kernel) ⟨Nat.le_of_ble_eq_true rfl, Nat.le_of_ble_eq_true rfl⟩ ⟨Nat.le_of_ble_eq_true rfl, Nat.le_of_ble_eq_true rfl⟩ rfl rfl (Nat.le_of_ble_eq_true rfl) dX4_verdictOf_200 ?_
                  refine g_isub C dX4_verdictOf_203 ?_
                  refine g_pcall (rest := []) 1 C (ct_size B _) (lw_S q1992 q1993 q107 q1994) ⟨by decide, by decide, by decide +kernel⟩ ⟨Nat.le_of_ble_eq_true rfl, Nat.le_of_ble_eq_true rfl⟩ ⟨Nat.le_of_ble_eq_true rfl, Nat.le_of_ble_eq_true rfl⟩ rfl rfl (Nat.le_of_ble_eq_true rfl) dX4_verdictOf_204 ?_
                  refine g_aload_n C dX4_verdictOf_207 rfl rfl ?_
                  refine g_iload_n C dX4_verdictOf_208 rfl rfl ?_
                  refine g_iload C dX4_verdictOf_209 rfl ?_
                  refine g_mcall (rest := [.int (szI ((erT X nm v k) - (erT X nm v u)))]) 2 C (ct_toleranceOf (F := F) (X := X) B J v k (by omega) (by omega)) (lw_V q1995 q1997 qs67 q107 q1998) (by decide +kernel) ⟨Nat.le_of_ble_eq_true rfl, Nat.le_of_ble_eq_true rfl⟩ ⟨Nat.le_of_ble_eq_true rfl, Nat.le_of_ble_eq_true rfl⟩ rfl rfl (Nat.le_of_ble_eq_true rfl) dX4_verdictOf_211 ?_
                  refine g_icmp_gt 221 C dX4_verdictOf_214 rfl (fun c214 => ?_) (fun c214 => ?_)
                  · refine g_iconst (v := 0) C dX4_verdictOf_221 rfl ?_
                    refine g_topi (y := b2i (agK X nm v k (u + 1))) (by simp only [vEm_s, vHa_s, vPa_s, twK_s, agK_s, esc_, b2i, decide_eq_true c164, c186, decide_eq_true c214, Bool.not_true, Bool.not_false, Bool.or_true, Bool.true_or, Bool.or_false, Bool.false_or, Bool.and_true, Bool.true_and, Bool.and_false, Bool.false_and, if_true, reduceCtorEq, if_false, Bool.false_eq_true]) ?_
                    refine g_istore (lv' := [some (.ref o), some (.int (nI v)), some (.int less), some (.int (b2i (vEm X v (k + 1)))), some (.int (b2i (vHa X nm v (k + 1)))), some (.int (b2i (twK X v k (u + 1)))), some (.int (b2i (vPa X nm v less (k + 1)))), some (.int (b2i (agK X nm v k (u + 1)))), some (.int (nI k)), some (.int (X 1 (181 + 8 * v + k))), some (.int (nI u))]) C dX4_verdictOf_222 (by decide) rfl ?_
                    refine g_inc1 (x := u) (lv' := [some (.ref o), some (.int (nI v)), some (.int less), some (.int (b2i (vEm X v (k + 1)))), some (.int (b2i (vHa X nm v (k + 1)))), some (.int (b2i (twK X v k (u + 1)))), some (.int (b2i (vPa X nm v less (k + 1)))), some (.int (b2i (agK X nm v k (u + 1)))), some (.int (nI k)), some (.int (X 1 (181 + 8 * v + k))), some (.int (nI (u + 1)))]) C dX4_verdictOf_224 rfl (by decide) rfl ?_
                    refine g_goto 139 C dX4_verdictOf_227 rfl ?_
                    exact ihu
                  · refine g_iconst (v := 1) C dX4_verdictOf_217 rfl ?_
                    refine g_goto 222 C dX4_verdictOf_218 rfl ?_
                    refine g_topi (y := b2i (agK X nm v k (u + 1))) (by simp only [vEm_s, vHa_s, vPa_s, twK_s, agK_s, esc_, b2i, decide_eq_true c164, c186, decide_eq_false c214, Bool.not_true, Bool.not_false, Bool.or_true, Bool.true_or, Bool.or_false, Bool.false_or, Bool.and_true, Bool.true_and, Bool.and_false, Bool.false_and, if_true, reduceCtorEq, if_false, Bool.false_eq_true]) ?_
                    refine g_istore (lv' := [some (.ref o), some (.int (nI v)), some (.int less), some (.int (b2i (vEm X v (k + 1)))), some (.int (b2i (vHa X nm v (k + 1)))), some (.int (b2i (twK X v k (u + 1)))), some (.int (b2i (vPa X nm v less (k + 1)))), some (.int (b2i (agK X nm v k (u + 1)))), some (.int (nI k)), some (.int (X 1 (181 + 8 * v + k))), some (.int (nI u))]) C dX4_verdictOf_222 (by decide) rfl ?_
                    refine g_inc1 (x := u) (lv' := [some (.ref o), some (.int (nI v)), some (.int less), some (.int (b2i (vEm X v (k + 1)))), some (.int (b2i (vHa X nm v (k + 1)))), some (.int (b2i (twK X v k (u + 1)))), some (.int (b2i (vPa X nm v less (k + 1)))), some (.int (b2i (agK X nm v k (u + 1)))), some (.int (nI k)), some (.int (X 1 (181 + 8 * v + k))), some (.int (nI (u + 1)))]) C dX4_verdictOf_224 rfl (by decide) rfl ?_
                    refine g_goto 139 C dX4_verdictOf_227 rfl ?_
                    exact ihu
    have j102 : G E (RepM Γ A o ad F X) 0 0 102 [some (.ref o), some (.int (nI v)), some (.int less), some (.int (b2i (vEm X v (k + 1)))), some (.int (b2i (vHa X nm v (k + 1)))), some (.int (b2i (vTw X v k))), some (.int (b2i (vPa X nm v less k))), some (.int (b2i (vAg X nm v k))), some (.int (nI k)), some (.int (X 1 (181 + 8 * v + k))), none] [] := by
      refine g_iload C dX4_verdictOf_102 rfl ?_
      refine g_if_eq 133 C dX4_verdictOf_104 rfl (fun c104 => ?_) (fun c104 => ?_)
      · replace c104 := b2i_F c104
        refine g_iconst (v := 0) C dX4_verdictOf_133 rfl ?_
        refine g_topi (y := b2i (vPa X nm v less (k + 1))) (by simp only [vEm_s, vHa_s, vPa_s, twK_s, agK_s, esc_, b2i, c104, Bool.not_true, Bool.not_false, Bool.or_true, Bool.true_or, Bool.or_false, Bool.false_or, Bool.and_true, Bool.true_and, Bool.and_false, Bool.false_and, if_true, reduceCtorEq, if_false, Bool.false_eq_true]) ?_
        refine g_istore (lv' := [some (.ref o), some (.int (nI v)), some (.int less), some (.int (b2i (vEm X v (k + 1)))), some (.int (b2i (vHa X nm v (k + 1)))), some (.int (b2i (vTw X v k))), some (.int (b2i (vPa X nm v less (k + 1)))), some (.int (b2i (vAg X nm v k))), some (.int (nI k)), some (.int (X 1 (181 + 8 * v + k))), none]) C dX4_verdictOf_134 (by decide) rfl ?_
        exact j136
      · replace c104 := b2i_T c104
        refine g_aload_n C dX4_verdictOf_107 rfl rfl ?_
        refine g_iload_n C dX4_verdictOf_108 rfl rfl ?_
        refine g_iload C dX4_verdictOf_109 rfl ?_
        refine g_mcall (rest := []) 2 C (ct_errorOf (F := F) (X := X) B J v k (by omega) (by omega)) (lw_V q1984 q1986 qs66 q107 q1987) (by decide +kernel) ⟨Nat.le_of_ble_eq_true rfl, Nat.le_of_ble_eq_true rfl⟩ ⟨Nat.le_of_ble_eq_true rfl, Nat.le_of_ble_eq_true rfl⟩ rfl rfl (Nat.le_of_ble_eq_true rfl) dX4_verdictOf_111 ?_
        refine g_iload_n C dX4_verdictOf_114 rfl rfl ?_
        refine g_isub C dX4_verdictOf_115 ?_
        refine g_pcall (rest := []) 1 C (ct_size B _) (lw_S q1992 q1993 q107 q1994) ⟨by decide, by decide, by decide +kernel⟩ ⟨Nat.le_of_ble_eq_true rfl, Nat.le_of_ble_eq_true rfl⟩ ⟨Nat.le_of_ble_eq_true rfl, Nat.le_of_ble_eq_true rfl⟩ rfl rfl (Nat.le_of_ble_eq_true rfl) dX4_verdictOf_116 ?_
        refine g_aload_n C dX4_verdictOf_119 rfl rfl ?_
        refine g_iload_n C dX4_verdictOf_120 rfl rfl ?_
        refine g_iload C dX4_verdictOf_121 rfl ?_
        refine g_mcall (rest := [.int (szI ((erT X nm v k) - less))]) 2 C (ct_toleranceOf (F := F) (X := X) B J v k (by omega) (by omega)) (lw_V q1995 q1997 qs67 q107 q1998) (by decide +kernel) ⟨Nat.le_of_ble_eq_true rfl, Nat.le_of_ble_eq_true rfl⟩ ⟨Nat.le_of_ble_eq_true rfl, Nat.le_of_ble_eq_true rfl⟩ rfl rfl (Nat.le_of_ble_eq_true rfl) dX4_verdictOf_123 ?_
        refine g_icmp_gt 133 C dX4_verdictOf_126 rfl (fun c126 => ?_) (fun c126 => ?_)
        · refine g_iconst (v := 0) C dX4_verdictOf_133 rfl ?_
          refine g_topi (y := b2i (vPa X nm v less (k + 1))) (by simp only [vEm_s, vHa_s, vPa_s, twK_s, agK_s, esc_, b2i, c104, decide_eq_true c126, Bool.not_true, Bool.not_false, Bool.or_true, Bool.true_or, Bool.or_false, Bool.false_or, Bool.and_true, Bool.true_and, Bool.and_false, Bool.false_and, if_true, reduceCtorEq, if_false, Bool.false_eq_true]) ?_
          refine g_istore (lv' := [some (.ref o), some (.int (nI v)), some (.int less), some (.int (b2i (vEm X v (k + 1)))), some (.int (b2i (vHa X nm v (k + 1)))), some (.int (b2i (vTw X v k))), some (.int (b2i (vPa X nm v less (k + 1)))), some (.int (b2i (vAg X nm v k))), some (.int (nI k)), some (.int (X 1 (181 + 8 * v + k))), none]) C dX4_verdictOf_134 (by decide) rfl ?_
          exact j136
        · refine g_iconst (v := 1) C dX4_verdictOf_129 rfl ?_
          refine g_goto 134 C dX4_verdictOf_130 rfl ?_
          refine g_topi (y := b2i (vPa X nm v less (k + 1))) (by simp only [vEm_s, vHa_s, vPa_s, twK_s, agK_s, esc_, b2i, c104, decide_eq_false c126, Bool.not_true, Bool.not_false, Bool.or_true, Bool.true_or, Bool.or_false, Bool.false_or, Bool.and_true, Bool.true_and, Bool.and_false, Bool.false_and, if_true, reduceCtorEq, if_false, Bool.false_eq_true]) ?_
          refine g_istore (lv' := [some (.ref o), some (.int (nI v)), some (.int less), some (.int (b2i (vEm X v (k + 1)))), some (.int (b2i (vHa X nm v (k + 1)))), some (.int (b2i (vTw X v k))), some (.int (b2i (vPa X nm v less (k + 1)))), some (.int (b2i (vAg X nm v k))), some (.int (nI k)), some (.int (X 1 (181 + 8 * v + k))), none]) C dX4_verdictOf_134 (by decide) rfl ?_
          exact j136
    have j65 : G E (RepM Γ A o ad F X) 0 0 65 [some (.ref o), some (.int (nI v)), some (.int less), some (.int (b2i (vEm X v (k + 1)))), some (.int (b2i (vHa X nm v k))), some (.int (b2i (vTw X v k))), some (.int (b2i (vPa X nm v less k))), some (.int (b2i (vAg X nm v k))), some (.int (nI k)), some (.int (X 1 (181 + 8 * v + k))), none] [] := by
      refine g_iload C dX4_verdictOf_65 rfl ?_
      refine g_if_ne 95 C dX4_verdictOf_67 rfl (fun c67 => ?_) (fun c67 => ?_)
      · replace c67 := b2i_T c67
        refine g_iconst (v := 1) C dX4_verdictOf_95 rfl ?_
        refine g_goto 100 C dX4_verdictOf_96 rfl ?_
        refine g_topi (y := b2i (vHa X nm v (k + 1))) (by simp only [vEm_s, vHa_s, vPa_s, twK_s, agK_s, esc_, b2i, c67, Bool.not_true, Bool.not_false, Bool.or_true, Bool.true_or, Bool.or_false, Bool.false_or, Bool.and_true, Bool.true_and, Bool.and_false, Bool.false_and, if_true, reduceCtorEq, if_false, Bool.false_eq_true]) ?_
        refine g_istore (lv' := [some (.ref o), some (.int (nI v)), some (.int less), some (.int (b2i (vEm X v (k + 1)))), some (.int (b2i (vHa X nm v (k + 1)))), some (.int (b2i (vTw X v k))), some (.int (b2i (vPa X nm v less k))), some (.int (b2i (vAg X nm v k))), some (.int (nI k)), some (.int (X 1 (181 + 8 * v + k))), none]) C dX4_verdictOf_100 (by decide) rfl ?_
        exact j102
      · replace c67 := b2i_F c67
        refine g_iconst (v := 2) C dX4_verdictOf_70 rfl ?_
        refine g_aload_n C dX4_verdictOf_71 rfl rfl ?_
        refine g_iload_n C dX4_verdictOf_72 rfl rfl ?_
        refine g_iload C dX4_verdictOf_73 rfl ?_
        refine g_mcall (rest := [.int 2]) 2 C (ct_loadOf (F := F) (X := X) B J v k (by omega) (by omega)) (lw_V q1976 q1978 qs65 q107 q1979) (by decide +kernel) ⟨Nat.le_of_ble_eq_true rfl, Nat.le_of_ble_eq_true rfl⟩ ⟨Nat.le_of_ble_eq_true rfl, Nat.le_of_ble_eq_true rfl⟩ rfl rfl (Nat.le_of_ble_eq_true rfl) dX4_verdictOf_75 ?_
        refine g_imul C dX4_verdictOf_78 ?_
        refine g_aload_n C dX4_verdictOf_79 rfl rfl ?_
        refine mg_7 C dX4_verdictOf_80 ?_
        refine g_aload_n C dX4_verdictOf_83 rfl rfl ?_
        refine mg_1 C dX4_verdictOf_84 ?_
        refine g_iconst (v := 1) C dX4_verdictOf_87 rfl ?_
        refine g_iload_n C dX4_verdictOf_88 rfl rfl ?_
        refine g_iadd C dX4_verdictOf_89 ?_
        refine g_topi (y := nI (1 + v)) (nI_add 1 v) ?_
        refine ml_1 (i := 1 + v) C dX4_verdictOf_90 (by omega) ?_
        refine g_topi (y := nI sc) (esc) ?_
        refine ml_7 (i := sc) C dX4_verdictOf_91 (by omega) ?_
        refine g_icmp_lt 99 C dX4_verdictOf_92 rfl (fun c92 => ?_) (fun c92 => ?_)
        · refine g_iconst (v := 0) C dX4_verdictOf_99 rfl ?_
          refine g_topi (y := b2i (vHa X nm v (k + 1))) (by simp only [vEm_s, vHa_s, vPa_s, twK_s, agK_s, esc_, b2i, c67, decide_eq_true c92, Bool.not_true, Bool.not_false, Bool.or_true, Bool.true_or, Bool.or_false, Bool.false_or, Bool.and_true, Bool.true_and, Bool.and_false, Bool.false_and, if_true, reduceCtorEq, if_false, Bool.false_eq_true]) ?_
          refine g_istore (lv' := [some (.ref o), some (.int (nI v)), some (.int less), some (.int (b2i (vEm X v (k + 1)))), some (.int (b2i (vHa X nm v (k + 1)))), some (.int (b2i (vTw X v k))), some (.int (b2i (vPa X nm v less k))), some (.int (b2i (vAg X nm v k))), some (.int (nI k)), some (.int (X 1 (181 + 8 * v + k))), none]) C dX4_verdictOf_100 (by decide) rfl ?_
          exact j102
        · refine g_iconst (v := 1) C dX4_verdictOf_95 rfl ?_
          refine g_goto 100 C dX4_verdictOf_96 rfl ?_
          refine g_topi (y := b2i (vHa X nm v (k + 1))) (by simp only [vEm_s, vHa_s, vPa_s, twK_s, agK_s, esc_, b2i, c67, decide_eq_false c92, Bool.not_true, Bool.not_false, Bool.or_true, Bool.true_or, Bool.or_false, Bool.false_or, Bool.and_true, Bool.true_and, Bool.and_false, Bool.false_and, if_true, reduceCtorEq, if_false, Bool.false_eq_true]) ?_
          refine g_istore (lv' := [some (.ref o), some (.int (nI v)), some (.int less), some (.int (b2i (vEm X v (k + 1)))), some (.int (b2i (vHa X nm v (k + 1)))), some (.int (b2i (vTw X v k))), some (.int (b2i (vPa X nm v less k))), some (.int (b2i (vAg X nm v k))), some (.int (nI k)), some (.int (X 1 (181 + 8 * v + k))), none]) C dX4_verdictOf_100 (by decide) rfl ?_
          exact j102
    refine g_iload C dX4_verdictOf_17 rfl ?_
    refine g_aload_n C dX4_verdictOf_19 rfl rfl ?_
    refine mg_1 C dX4_verdictOf_20 ?_
    refine g_sipush (v := 151) C dX4_verdictOf_23 rfl ?_
    refine g_iload_n C dX4_verdictOf_26 rfl rfl ?_
    refine g_iadd C dX4_verdictOf_27 ?_
    refine g_topi (y := nI (151 + v)) (nI_add 151 v) ?_
    refine ml_1 (i := 151 + v) C dX4_verdictOf_28 (by omega) ?_
    refine g_topi (y := nI tn) (etn) ?_
    refine gN_ge (a := k) (b := tn) 236 C dX4_verdictOf_29 rfl (by omega) (by omega) (fun c29 => ?_) (fun c29 => ?_)
    · exfalso; omega
    · refine g_aload_n C dX4_verdictOf_32 rfl rfl ?_
      refine mg_1 C dX4_verdictOf_33 ?_
      refine g_sipush (v := 181) C dX4_verdictOf_36 rfl ?_
      refine g_bipush (v := 8) C dX4_verdictOf_39 rfl ?_
      refine g_iload_n C dX4_verdictOf_41 rfl rfl ?_
      refine g_imul C dX4_verdictOf_42 ?_
      refine g_topi (y := nI (8 * v)) (pk_mul 8 v) ?_
      refine g_iadd C dX4_verdictOf_43 ?_
      refine g_topi (y := nI (181 + 8 * v)) (nI_add 181 (8 * v)) ?_
      refine g_iload C dX4_verdictOf_44 rfl ?_
      refine g_iadd C dX4_verdictOf_46 ?_
      refine g_topi (y := nI (181 + 8 * v + k)) (nI_add (181 + 8 * v) k) ?_
      refine ml_1 (i := 181 + 8 * v + k) C dX4_verdictOf_47 (by omega) ?_
      refine g_istore (lv' := [some (.ref o), some (.int (nI v)), some (.int less), some (.int (b2i (vEm X v k))), some (.int (b2i (vHa X nm v k))), some (.int (b2i (vTw X v k))), some (.int (b2i (vPa X nm v less k))), some (.int (b2i (vAg X nm v k))), some (.int (nI k)), some (.int (X 1 (181 + 8 * v + k))), none]) C dX4_verdictOf_48 (by decide) rfl ?_
      refine g_iload_n C dX4_verdictOf_50 rfl rfl ?_
      refine g_if_ne 59 C dX4_verdictOf_51 rfl (fun c51 => ?_) (fun c51 => ?_)
      · replace c51 := b2i_T c51
        refine g_iconst (v := 1) C dX4_verdictOf_59 rfl ?_
        refine g_goto 64 C dX4_verdictOf_60 rfl ?_
        refine g_topi (y := b2i (vEm X v (k + 1))) (by simp only [vEm_s, vHa_s, vPa_s, twK_s, agK_s, esc_, b2i, c51, Bool.not_true, Bool.not_false, Bool.or_true, Bool.true_or, Bool.or_false, Bool.false_or, Bool.and_true, Bool.true_and, Bool.and_false, Bool.false_and, if_true, reduceCtorEq, if_false, Bool.false_eq_true]) ?_
        refine g_istore_n (lv' := [some (.ref o), some (.int (nI v)), some (.int less), some (.int (b2i (vEm X v (k + 1)))), some (.int (b2i (vHa X nm v k))), some (.int (b2i (vTw X v k))), some (.int (b2i (vPa X nm v less k))), some (.int (b2i (vAg X nm v k))), some (.int (nI k)), some (.int (X 1 (181 + 8 * v + k))), none]) C dX4_verdictOf_64 rfl (by decide) rfl ?_
        exact j65
      · replace c51 := b2i_F c51
        refine g_iload C dX4_verdictOf_54 rfl ?_
        refine g_if_ne 63 C dX4_verdictOf_56 rfl (fun c56 => ?_) (fun c56 => ?_)
        · refine g_iconst (v := 0) C dX4_verdictOf_63 rfl ?_
          refine g_topi (y := b2i (vEm X v (k + 1))) (by simp only [vEm_s, vHa_s, vPa_s, twK_s, agK_s, esc_, b2i, c51, decide_eq_false c56, Bool.not_true, Bool.not_false, Bool.or_true, Bool.true_or, Bool.or_false, Bool.false_or, Bool.and_true, Bool.true_and, Bool.and_false, Bool.false_and, if_true, reduceCtorEq, if_false, Bool.false_eq_true]) ?_
          refine g_istore_n (lv' := [some (.ref o), some (.int (nI v)), some (.int less), some (.int (b2i (vEm X v (k + 1)))), some (.int (b2i (vHa X nm v k))), some (.int (b2i (vTw X v k))), some (.int (b2i (vPa X nm v less k))), some (.int (b2i (vAg X nm v k))), some (.int (nI k)), some (.int (X 1 (181 + 8 * v + k))), none]) C dX4_verdictOf_64 rfl (by decide) rfl ?_
          exact j65
        · refine g_iconst (v := 1) C dX4_verdictOf_59 rfl ?_
          refine g_goto 64 C dX4_verdictOf_60 rfl ?_
          refine g_topi (y := b2i (vEm X v (k + 1))) (by simp only [vEm_s, vHa_s, vPa_s, twK_s, agK_s, esc_, b2i, c51, decide_eq_true c56, Bool.not_true, Bool.not_false, Bool.or_true, Bool.true_or, Bool.or_false, Bool.false_or, Bool.and_true, Bool.true_and, Bool.and_false, Bool.false_and, if_true, reduceCtorEq, if_false, Bool.false_eq_true]) ?_
          refine g_istore_n (lv' := [some (.ref o), some (.int (nI v)), some (.int less), some (.int (b2i (vEm X v (k + 1)))), some (.int (b2i (vHa X nm v k))), some (.int (b2i (vTw X v k))), some (.int (b2i (vPa X nm v less k))), some (.int (b2i (vAg X nm v k))), some (.int (nI k)), some (.int (X 1 (181 + 8 * v + k))), none]) C dX4_verdictOf_64 rfl (by decide) rfl ?_
          exact j65
