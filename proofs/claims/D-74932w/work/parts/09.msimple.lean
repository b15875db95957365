set_option maxRecDepth 100000 in
theorem ct_thrown {l : Launch} {Γ : Gm} {A : Nat → Prop} {ρ : State → Prop} (B : Bs l A ρ) {o : Nat} {ad : Nat → Nat} {F : Nat → Int32} {X : Nat → Nat → Int32}  : CtM l Γ A ρ yX4_thrown cX4_thrown 1 (some .int) 0 0 o ad [.ref o] F X (some (.int (F 0))) F X := by
  refine Ct.of B.1 B.2 (by decide) [some (.ref o)] (Nat.le_of_ble_eq_true rfl) rfl ?_
  intro E hE C R
  subst hE
  refine g_aload_n C dX4_thrown_0 rfl rfl ?_
  refine mg_0 C dX4_thrown_1 ?_
  exact g_iret C R (Nat.le_refl _) (Nat.le_refl _) dX4_thrown_4 (fun H h => ⟨rfl, h⟩)
set_option maxRecDepth 100000 in
theorem ct_within {l : Launch} {Γ : Gm} {A : Nat → Prop} {ρ : State → Prop} (B : Bs l A ρ) (v lo hi : Int64) : CtP l Γ A ρ yX4_within cX4_within 6 (some .boolean) 0 0 [.long v, .long lo, .long hi] (.int (wi v lo hi)) := by
  intro J
  refine Ct.of B.1 B.2 (by decide) [some (.long v), none, some (.long lo), none, some (.long hi), none] (Nat.le_of_ble_eq_true rfl) rfl ?_
  intro E hE C R
  subst hE
  refine g_lload_n C dX4_within_0 rfl rfl ?_
  refine g_lload_n C dX4_within_1 rfl rfl ?_
  refine g_lcmp C dX4_within_2 ?_
  refine g_if_lt 17 C dX4_within_3 rfl (fun c3 => ?_) (fun c3 => ?_)
  · refine g_iconst (v := 0) C dX4_within_17 rfl ?_
    exact g_zret C R (Nat.le_refl _) (Nat.le_refl _) dX4_within_18 rfl (fun H h => ⟨by unfold wi; rw [if_neg (fun z => by have := (lg_cmp_lt _ _).mp c3; rw [fa_lt64] at this; have z1 := z.1; rw [fa_le64] at z1; omega)], h⟩)
  · refine g_lload_n C dX4_within_6 rfl rfl ?_
    refine g_lload C dX4_within_7 rfl ?_
    refine g_lcmp C dX4_within_9 ?_
    refine g_if_gt 17 C dX4_within_10 rfl (fun c10 => ?_) (fun c10 => ?_)
    · refine g_iconst (v := 0) C dX4_within_17 rfl ?_
      exact g_zret C R (Nat.le_refl _) (Nat.le_refl _) dX4_within_18 rfl (fun H h => ⟨by unfold wi; rw [if_neg (fun z => by have := (lg_cmp_gt _ _).mp c10; rw [fa_lt64] at this; have z1 := z.2; rw [fa_le64] at z1; omega)], h⟩)
    · refine g_iconst (v := 1) C dX4_within_13 rfl ?_
      refine g_goto 18 C dX4_within_14 rfl ?_
      exact g_zret C R (Nat.le_refl _) (Nat.le_refl _) dX4_within_18 rfl (fun H h => ⟨by unfold wi; rw [if_pos ⟨by have := mt (lg_cmp_lt _ _).mpr c3; rw [fa_lt64] at this; rw [fa_le64]; omega, by have := mt (lg_cmp_gt _ _).mpr c10; rw [fa_lt64] at this; rw [fa_le64]; omega⟩], h⟩)
set_option maxRecDepth 100000 in
theorem ct_size {l : Launch} {Γ : Gm} {A : Nat → Prop} {ρ : State → Prop} (B : Bs l A ρ) (v : Int32) : CtP l Γ A ρ yX4_size cX4_size 1 (some .int) 0 0 [.int v] (.int (szI v)) := by
  intro J
  refine Ct.of B.1 B.2 (by decide) [some (.int v)] (Nat.le_of_ble_eq_true rfl) rfl ?_
  intro E hE C R
  subst hE
  refine g_iload_n C dX4_size_0 rfl rfl ?_
  refine g_if_ge 9 C dX4_size_1 rfl (fun c1 => ?_) (fun c1 => ?_)
  · refine g_iload_n C dX4_size_9 rfl rfl ?_
    exact g_iret C R (Nat.le_refl _) (Nat.le_refl _) dX4_size_10 (fun H h => ⟨by unfold szI; rw [if_neg (by rw [fa_lt]; rw [fa_le] at c1; have := show (0 : Int32).toInt = 0 from rfl; omega)], h⟩)
  · refine g_iload_n C dX4_size_4 rfl rfl ?_
    refine g_ineg C dX4_size_5 ?_
    refine g_goto 10 C dX4_size_6 rfl ?_
    exact g_iret C R (Nat.le_refl _) (Nat.le_refl _) dX4_size_10 (fun H h => ⟨by unfold szI; rw [if_pos (by rw [fa_lt]; rw [fa_le] at c1; have := show (0 : Int32).toInt = 0 from rfl; omega)], h⟩)
set_option maxRecDepth 100000 in
theorem ct_worse {l : Launch} {Γ : Gm} {A : Nat → Prop} {ρ : State → Prop} (B : Bs l A ρ) (a b : Int32) : CtP l Γ A ρ yX4_worse cX4_worse 2 (some .int) 0 0 [.int a, .int b] (.int (mxI a b)) := by
  intro J
  refine Ct.of B.1 B.2 (by decide) [some (.int a), some (.int b)] (Nat.le_of_ble_eq_true rfl) rfl ?_
  intro E hE C R
  subst hE
  refine g_iload_n C dX4_worse_0 rfl rfl ?_
  refine g_iload_n C dX4_worse_1 rfl rfl ?_
  refine g_icmp_le 9 C dX4_worse_2 rfl (fun c2 => ?_) (fun c2 => ?_)
  · refine g_iload_n C dX4_worse_9 rfl rfl ?_
    exact g_iret C R (Nat.le_refl _) (Nat.le_refl _) dX4_worse_10 (fun H h => ⟨by unfold mxI; rw [if_neg (by rw [fa_lt]; rw [fa_le] at c2; omega)], h⟩)
  · refine g_iload_n C dX4_worse_5 rfl rfl ?_
    refine g_goto 10 C dX4_worse_6 rfl ?_
    exact g_iret C R (Nat.le_refl _) (Nat.le_refl _) dX4_worse_10 (fun H h => ⟨by unfold mxI; rw [if_pos (by rw [fa_lt]; rw [fa_le] at c2; omega)], h⟩)
set_option maxRecDepth 100000 in
theorem ct_bits {l : Launch} {Γ : Gm} {A : Nat → Prop} {ρ : State → Prop} (B : Bs l A ρ) (set : Int32) : CtP l Γ A ρ yX4_bits cX4_bits 3 (some .int) 0 0 [.int set] (.int (nI (pcI set))) := by
  intro J
  refine Ct.of B.1 B.2 (by decide) [some (.int set), none, none] (Nat.le_of_ble_eq_true rfl) rfl ?_
  intro E hE C R
  subst hE
  refine g_iconst (v := 0) C dX4_bits_0 rfl ?_
  refine g_istore_n (lv' := [some (.int set), some (.int 0), none]) C dX4_bits_1 rfl (by decide) rfl ?_
  refine g_iload_n C dX4_bits_2 rfl rfl ?_
  refine g_istore_n (lv' := [some (.int set), some (.int 0), some (.int set)]) C dX4_bits_3 rfl (by decide) rfl ?_
  have key : ∀ (m : Nat) (x : Int32) (n : Nat), pcI x = m → n + m = pcI set → G E J 0 0 4 [some (.int set), some (.int (nI n)), some (.int x)] [] := by
    intro m
    induction m with
    | zero =>
      intro x n hx hn
      refine g_iload_n C dX4_bits_4 rfl rfl ?_
      refine g_if_eq 20 C dX4_bits_5 rfl (fun c5 => ?_) (fun c5 => ?_)
      · refine g_iload_n C dX4_bits_20 rfl rfl ?_
        exact g_iret C R (Nat.le_refl _) (Nat.le_refl _) dX4_bits_21 (fun H h => ⟨by rw [show n = pcI set by omega], h⟩)
      · exfalso; have := pcI_drop c5; omega
    | succ m ih =>
      intro x n hx hn
      refine g_iload_n C dX4_bits_4 rfl rfl ?_
      refine g_if_eq 20 C dX4_bits_5 rfl (fun c5 => ?_) (fun c5 => ?_)
      · exfalso; rw [c5, pcI_0] at hx; omega
      · refine g_inc1 (x := n) (lv' := [some (.int set), some (.int (nI (n + 1))), some (.int x)]) C dX4_bits_8 rfl (by decide) rfl ?_
        refine g_iload_n C dX4_bits_11 rfl rfl ?_
        refine g_iload_n C dX4_bits_12 rfl rfl ?_
        refine g_iconst (v := 1) C dX4_bits_13 rfl ?_
        refine g_isub C dX4_bits_14 ?_
        refine g_iand C dX4_bits_15 ?_
        refine g_istore_n (lv' := [some (.int set), some (.int (nI (n + 1))), some (.int (x &&& (x - 1)))]) C dX4_bits_16 rfl (by decide) rfl ?_
        refine g_goto 4 C dX4_bits_17 rfl ?_
        exact ih _ (n + 1) (by have := pcI_drop c5; omega) (by omega)
  exact key _ set 0 rfl (by omega)
set_option maxRecDepth 100000 in
theorem ct_isDay {l : Launch} {Γ : Gm} {A : Nat → Prop} {ρ : State → Prop} (B : Bs l A ρ) (day : Int32) : CtP l Γ A ρ yX4_isDay cX4_isDay 1 (some .boolean) 1 25 [.int day] (.int (ixI day 10000)) := by
  intro J
  refine Ct.of B.1 B.2 (by decide) [some (.int day)] (Nat.le_of_ble_eq_true rfl) rfl ?_
  intro E hE C R
  subst hE
  refine g_iload_n C dX4_isDay_0 rfl rfl ?_
  refine g_i2l C dX4_isDay_1 ?_
  refine g_lconst (v := 0) C dX4_isDay_2 rfl ?_
  refine g_ldc2 (v := 9999) C dX4_isDay_3 q1937 ?_
  refine g_pcall (rest := []) 3 C (ct_within B _ _ _) (lw_S q1783 q1784 q107 q1785) ⟨by decide, by decide, by decide +kernel⟩ ⟨Nat.le_of_ble_eq_true rfl, Nat.le_of_ble_eq_true rfl⟩ ⟨Nat.le_of_ble_eq_true rfl, Nat.le_of_ble_eq_true rfl⟩ rfl rfl (Nat.le_of_ble_eq_true rfl) dX4_isDay_6 ?_
  refine g_topi (y := ixI day 10000) (wi_lit (n := 9999) (by decide)) ?_
  exact g_zret C R (Nat.le_refl _) (Nat.le_refl _) dX4_isDay_9 (ixI_nar _ _) (fun H h => ⟨rfl, h⟩)
set_option maxRecDepth 100000 in
theorem ct_isScale {l : Launch} {Γ : Gm} {A : Nat → Prop} {ρ : State → Prop} (B : Bs l A ρ) {o : Nat} {ad : Nat → Nat} {F : Nat → Int32} {X : Nat → Nat → Int32} {nt ns nm ne nv nu ln : Nat} (J : Iv F X nt ns nm ne nv nu ln) (s : Int32) : CtM l Γ A ρ yX4_isScale cX4_isScale 2 (some .boolean) 1 25 o ad [.ref o, .int s] F X (some (.int (ixI s ns))) F X := by
  refine Ct.of B.1 B.2 (by decide) [some (.ref o), some (.int s)] (Nat.le_of_ble_eq_true rfl) rfl ?_
  intro E hE C R
  subst hE
  have hs_ := J.ls
  refine g_iload_n C dX4_isScale_0 rfl rfl ?_
  refine g_i2l C dX4_isScale_1 ?_
  refine g_lconst (v := 0) C dX4_isScale_2 rfl ?_
  refine g_aload_n C dX4_isScale_3 rfl rfl ?_
  refine mg_3 C dX4_isScale_4 ?_
  refine g_topi (y := nI ns) (J.f3) ?_
  refine g_iconst (v := 1) C dX4_isScale_7 rfl ?_
  refine g_isub C dX4_isScale_8 ?_
  refine g_i2l C dX4_isScale_9 ?_
  refine g_pcall (rest := []) 3 C (ct_within B _ _ _) (lw_S q1783 q1784 q107 q1785) ⟨by decide, by decide, by decide +kernel⟩ ⟨Nat.le_of_ble_eq_true rfl, Nat.le_of_ble_eq_true rfl⟩ ⟨Nat.le_of_ble_eq_true rfl, Nat.le_of_ble_eq_true rfl⟩ rfl rfl (Nat.le_of_ble_eq_true rfl) dX4_isScale_10 ?_
  refine g_topi (y := ixI s ns) (wi_ix (by omega)) ?_
  exact g_zret C R (Nat.le_refl _) (Nat.le_refl _) dX4_isScale_13 (ixI_nar _ _) (fun H h => ⟨rfl, h⟩)
set_option maxRecDepth 100000 in
theorem ct_isSet {l : Launch} {Γ : Gm} {A : Nat → Prop} {ρ : State → Prop} (B : Bs l A ρ) {o : Nat} {ad : Nat → Nat} {F : Nat → Int32} {X : Nat → Nat → Int32} {nt ns nm ne nv nu ln : Nat} (J : Iv F X nt ns nm ne nv nu ln) (s : Int32) : CtM l Γ A ρ yX4_isSet cX4_isSet 2 (some .boolean) 1 25 o ad [.ref o, .int s] F X (some (.int (ixI s ne))) F X := by
  refine Ct.of B.1 B.2 (by decide) [some (.ref o), some (.int s)] (Nat.le_of_ble_eq_true rfl) rfl ?_
  intro E hE C R
  subst hE
  have he_ := J.le
  refine g_iload_n C dX4_isSet_0 rfl rfl ?_
  refine g_i2l C dX4_isSet_1 ?_
  refine g_lconst (v := 0) C dX4_isSet_2 rfl ?_
  refine g_aload_n C dX4_isSet_3 rfl rfl ?_
  refine mg_10 C dX4_isSet_4 ?_
  refine g_topi (y := nI ne) (J.f10) ?_
  refine g_iconst (v := 1) C dX4_isSet_7 rfl ?_
  refine g_isub C dX4_isSet_8 ?_
  refine g_i2l C dX4_isSet_9 ?_
  refine g_pcall (rest := []) 3 C (ct_within B _ _ _) (lw_S q1783 q1784 q107 q1785) ⟨by decide, by decide, by decide +kernel⟩ ⟨Nat.le_of_ble_eq_true rfl, Nat.le_of_ble_eq_true rfl⟩ ⟨Nat.le_of_ble_eq_true rfl, Nat.le_of_ble_eq_true rfl⟩ rfl rfl (Nat.le_of_ble_eq_true rfl) dX4_isSet_10 ?_
  refine g_topi (y := ixI s ne) (wi_ix (by omega)) ?_
  exact g_zret C R (Nat.le_refl _) (Nat.le_refl _) dX4_isSet_13 (ixI_nar _ _) (fun H h => ⟨rfl, h⟩)
set_option maxRecDepth 100000 in
theorem ct_isVisit {l : Launch} {Γ : Gm} {A : Nat → Prop} {ρ : State → Prop} (B : Bs l A ρ) {o : Nat} {ad : Nat → Nat} {F : Nat → Int32} {X : Nat → Nat → Int32} {nt ns nm ne nv nu ln : Nat} (J : Iv F X nt ns nm ne nv nu ln) (v : Int32) : CtM l Γ A ρ yX4_isVisit cX4_isVisit 2 (some .boolean) 1 25 o ad [.ref o, .int v] F X (some (.int (ixI v nv))) F X := by
  refine Ct.of B.1 B.2 (by decide) [some (.ref o), some (.int v)] (Nat.le_of_ble_eq_true rfl) rfl ?_
  intro E hE C R
  subst hE
  have hv_ := J.lv
  refine g_iload_n C dX4_isVisit_0 rfl rfl ?_
  refine g_i2l C dX4_isVisit_1 ?_
  refine g_lconst (v := 0) C dX4_isVisit_2 rfl ?_
  refine g_aload_n C dX4_isVisit_3 rfl rfl ?_
  refine mg_1 C dX4_isVisit_4 ?_
  refine g_iconst (v := 0) C dX4_isVisit_7 rfl ?_
  refine ml_1 (i := 0) C dX4_isVisit_8 (by omega) ?_
  refine g_topi (y := nI nv) (J.x0) ?_
  refine g_iconst (v := 1) C dX4_isVisit_9 rfl ?_
  refine g_isub C dX4_isVisit_10 ?_
  refine g_i2l C dX4_isVisit_11 ?_
  refine g_pcall (rest := []) 3 C (ct_within B _ _ _) (lw_S q1783 q1784 q107 q1785) ⟨by decide, by decide, by decide +kernel⟩ ⟨Nat.le_of_ble_eq_true rfl, Nat.le_of_ble_eq_true rfl⟩ ⟨Nat.le_of_ble_eq_true rfl, Nat.le_of_ble_eq_true rfl⟩ rfl rfl (Nat.le_of_ble_eq_true rfl) dX4_isVisit_12 ?_
  refine g_topi (y := ixI v nv) (wi_ix (by omega)) ?_
  exact g_zret C R (Nat.le_refl _) (Nat.le_refl _) dX4_isVisit_15 (ixI_nar _ _) (fun H h => ⟨rfl, h⟩)
set_option maxRecDepth 100000 in
theorem ct_errorPosition {l : Launch} {Γ : Gm} {A : Nat → Prop} {ρ : State → Prop} (B : Bs l A ρ) {o : Nat} {ad : Nat → Nat} {F : Nat → Int32} {X : Nat → Nat → Int32}  : CtM l Γ A ρ yX4_errorPosition cX4_errorPosition 1 (some .int) 0 0 o ad [.ref o] F X (some (.int (F 22))) (upd F 0 0) X := by
  refine Ct.of B.1 B.2 (by decide) [some (.ref o)] (Nat.le_of_ble_eq_true rfl) rfl ?_
  intro E hE C R
  subst hE
  refine g_aload_n C dX4_errorPosition_0 rfl rfl ?_
  refine g_iconst (v := 0) C dX4_errorPosition_1 rfl ?_
  refine mp_0 C dX4_errorPosition_2 ?_
  refine g_aload_n C dX4_errorPosition_5 rfl rfl ?_
  refine mg_22 C dX4_errorPosition_6 ?_
  exact g_iret C R (Nat.le_refl _) (Nat.le_refl _) dX4_errorPosition_9 (fun H h => ⟨rfl, h⟩)
set_option maxRecDepth 100000 in
theorem ct_traderCount {l : Launch} {Γ : Gm} {A : Nat → Prop} {ρ : State → Prop} (B : Bs l A ρ) {o : Nat} {ad : Nat → Nat} {F : Nat → Int32} {X : Nat → Nat → Int32}  : CtM l Γ A ρ yX4_traderCount cX4_traderCount 1 (some .int) 0 0 o ad [.ref o] F X (some (.int (F 2))) (upd F 0 0) X := by
  refine Ct.of B.1 B.2 (by decide) [some (.ref o)] (Nat.le_of_ble_eq_true rfl) rfl ?_
  intro E hE C R
  subst hE
  refine g_aload_n C dX4_traderCount_0 rfl rfl ?_
  refine g_iconst (v := 0) C dX4_traderCount_1 rfl ?_
  refine mp_0 C dX4_traderCount_2 ?_
  refine g_aload_n C dX4_traderCount_5 rfl rfl ?_
  refine mg_2 C dX4_traderCount_6 ?_
  exact g_iret C R (Nat.le_refl _) (Nat.le_refl _) dX4_traderCount_9 (fun H h => ⟨rfl, h⟩)
set_option maxRecDepth 100000 in
theorem ct_scaleCount {l : Launch} {Γ : Gm} {A : Nat → Prop} {ρ : State → Prop} (B : Bs l A ρ) {o : Nat} {ad : Nat → Nat} {F : Nat → Int32} {X : Nat → Nat → Int32}  : CtM l Γ A ρ yX4_scaleCount cX4_scaleCount 1 (some .int) 0 0 o ad [.ref o] F X (some (.int (F 3))) (upd F 0 0) X := by
  refine Ct.of B.1 B.2 (by decide) [some (.ref o)] (Nat.le_of_ble_eq_true rfl) rfl ?_
  intro E hE C R
  subst hE
  refine g_aload_n C dX4_scaleCount_0 rfl rfl ?_
  refine g_iconst (v := 0) C dX4_scaleCount_1 rfl ?_
  refine mp_0 C dX4_scaleCount_2 ?_
  refine g_aload_n C dX4_scaleCount_5 rfl rfl ?_
  refine mg_3 C dX4_scaleCount_6 ?_
  exact g_iret C R (Nat.le_refl _) (Nat.le_refl _) dX4_scaleCount_9 (fun H h => ⟨rfl, h⟩)
set_option maxRecDepth 100000 in
theorem ct_massCount {l : Launch} {Γ : Gm} {A : Nat → Prop} {ρ : State → Prop} (B : Bs l A ρ) {o : Nat} {ad : Nat → Nat} {F : Nat → Int32} {X : Nat → Nat → Int32}  : CtM l Γ A ρ yX4_massCount cX4_massCount 1 (some .int) 0 0 o ad [.ref o] F X (some (.int (F 8))) (upd F 0 0) X := by
  refine Ct.of B.1 B.2 (by decide) [some (.ref o)] (Nat.le_of_ble_eq_true rfl) rfl ?_
  intro E hE C R
  subst hE
  refine g_aload_n C dX4_massCount_0 rfl rfl ?_
  refine g_iconst (v := 0) C dX4_massCount_1 rfl ?_
  refine mp_0 C dX4_massCount_2 ?_
  refine g_aload_n C dX4_massCount_5 rfl rfl ?_
  refine mg_8 C dX4_massCount_6 ?_
  exact g_iret C R (Nat.le_refl _) (Nat.le_refl _) dX4_massCount_9 (fun H h => ⟨rfl, h⟩)
set_option maxRecDepth 100000 in
theorem ct_setCount {l : Launch} {Γ : Gm} {A : Nat → Prop} {ρ : State → Prop} (B : Bs l A ρ) {o : Nat} {ad : Nat → Nat} {F : Nat → Int32} {X : Nat → Nat → Int32}  : CtM l Γ A ρ yX4_setCount cX4_setCount 1 (some .int) 0 0 o ad [.ref o] F X (some (.int (F 10))) (upd F 0 0) X := by
  refine Ct.of B.1 B.2 (by decide) [some (.ref o)] (Nat.le_of_ble_eq_true rfl) rfl ?_
  intro E hE C R
  subst hE
  refine g_aload_n C dX4_setCount_0 rfl rfl ?_
  refine g_iconst (v := 0) C dX4_setCount_1 rfl ?_
  refine mp_0 C dX4_setCount_2 ?_
  refine g_aload_n C dX4_setCount_5 rfl rfl ?_
  refine mg_10 C dX4_setCount_6 ?_
  exact g_iret C R (Nat.le_refl _) (Nat.le_refl _) dX4_setCount_9 (fun H h => ⟨rfl, h⟩)
set_option maxRecDepth 100000 in
theorem ct_undoDepth {l : Launch} {Γ : Gm} {A : Nat → Prop} {ρ : State → Prop} (B : Bs l A ρ) {o : Nat} {ad : Nat → Nat} {F : Nat → Int32} {X : Nat → Nat → Int32}  : CtM l Γ A ρ yX4_undoDepth cX4_undoDepth 1 (some .int) 0 0 o ad [.ref o] F X (some (.int (F 41))) (upd F 0 0) X := by
  refine Ct.of B.1 B.2 (by decide) [some (.ref o)] (Nat.le_of_ble_eq_true rfl) rfl ?_
  intro E hE C R
  subst hE
  refine g_aload_n C dX4_undoDepth_0 rfl rfl ?_
  refine g_iconst (v := 0) C dX4_undoDepth_1 rfl ?_
  refine mp_0 C dX4_undoDepth_2 ?_
  refine g_aload_n C dX4_undoDepth_5 rfl rfl ?_
  refine mg_41 C dX4_undoDepth_6 ?_
  exact g_iret C R (Nat.le_refl _) (Nat.le_refl _) dX4_undoDepth_9 (fun H h => ⟨rfl, h⟩)
set_option maxRecDepth 100000 in
theorem ct_visitCount {l : Launch} {Γ : Gm} {A : Nat → Prop} {ρ : State → Prop} (B : Bs l A ρ) {o : Nat} {ad : Nat → Nat} {F : Nat → Int32} {X : Nat → Nat → Int32}  : CtM l Γ A ρ yX4_visitCount cX4_visitCount 1 (some .int) 0 0 o ad [.ref o] F X (some (.int (X 1 0))) (upd F 0 0) X := by
  refine Ct.of B.1 B.2 (by decide) [some (.ref o)] (Nat.le_of_ble_eq_true rfl) rfl ?_
  intro E hE C R
  subst hE
  refine g_aload_n C dX4_visitCount_0 rfl rfl ?_
  refine g_iconst (v := 0) C dX4_visitCount_1 rfl ?_
  refine mp_0 C dX4_visitCount_2 ?_
  refine g_aload_n C dX4_visitCount_5 rfl rfl ?_
  refine mg_1 C dX4_visitCount_6 ?_
  refine g_iconst (v := 0) C dX4_visitCount_9 rfl ?_
  refine ml_1 (i := 0) C dX4_visitCount_10 (by omega) ?_
  exact g_iret C R (Nat.le_refl _) (Nat.le_refl _) dX4_visitCount_11 (fun H h => ⟨rfl, h⟩)
set_option maxRecDepth 100000 in
theorem ct_trader {l : Launch} {Γ : Gm} {A : Nat → Prop} {ρ : State → Prop} (B : Bs l A ρ) {o : Nat} {ad : Nat → Nat} {F : Nat → Int32} {X : Nat → Nat → Int32} {nt ns nm ne nv nu ln : Nat} (J : Iv F X nt ns nm ne nv nu ln) (scale : Int32) : CtM l Γ A ρ yX4_trader cX4_trader 2 (some .int) 2 46 o ad [.ref o, .int scale] F X (some (.int (atI scale ns (X 4)))) (upd F 0 0) X := by
  refine Ct.of B.1 B.2 (by decide) [some (.ref o), some (.int scale)] (Nat.le_of_ble_eq_true rfl) rfl ?_
  intro E hE C R
  subst hE
  have hs_ := J.ls
  refine g_aload_n C dX4_trader_0 rfl rfl ?_
  refine g_iconst (v := 0) C dX4_trader_1 rfl ?_
  refine mp_0 C dX4_trader_2 ?_
  refine g_aload_n C dX4_trader_5 rfl rfl ?_
  refine g_iload_n C dX4_trader_6 rfl rfl ?_
  refine g_mcall (rest := []) 1 C (ct_isScale (F := upd F 0 0) (X := X) B J _) (lw_V q1894 q1896 qs59 q107 q1897) (by decide +kernel) ⟨Nat.le_of_ble_eq_true rfl, Nat.le_of_ble_eq_true rfl⟩ ⟨Nat.le_of_ble_eq_true rfl, Nat.le_of_ble_eq_true rfl⟩ rfl rfl (Nat.le_of_ble_eq_true rfl) dX4_trader_7 ?_
  refine g_if_eq 22 C dX4_trader_10 rfl (fun c10 => ?_) (fun c10 => ?_)
  · refine g_iconst (v := (-1)) C dX4_trader_22 rfl ?_
    exact g_iret C R (Nat.le_refl _) (Nat.le_refl _) dX4_trader_23 (fun H h => ⟨by rw [atI_out c10], h⟩)
  · obtain ⟨j_scale, hj_scale, rfl⟩ := ixI_in (by omega) c10
    refine g_aload_n C dX4_trader_13 rfl rfl ?_
    refine mg_4 C dX4_trader_14 ?_
    refine g_iload_n C dX4_trader_17 rfl rfl ?_
    refine ml_4 (i := j_scale) C dX4_trader_18 (by omega) ?_
    refine g_goto 23 C dX4_trader_19 rfl ?_
    exact g_iret C R (Nat.le_refl _) (Nat.le_refl _) dX4_trader_23 (fun H h => ⟨by rw [atI_in hj_scale (by omega)], h⟩)
set_option maxRecDepth 100000 in
theorem ct_capacity {l : Launch} {Γ : Gm} {A : Nat → Prop} {ρ : State → Prop} (B : Bs l A ρ) {o : Nat} {ad : Nat → Nat} {F : Nat → Int32} {X : Nat → Nat → Int32} {nt ns nm ne nv nu ln : Nat} (J : Iv F X nt ns nm ne nv nu ln) (scale : Int32) : CtM l Γ A ρ yX4_capacity cX4_capacity 2 (some .int) 2 46 o ad [.ref o, .int scale] F X (some (.int (atI scale ns (X 7)))) (upd F 0 0) X := by
  refine Ct.of B.1 B.2 (by decide) [some (.ref o), some (.int scale)] (Nat.le_of_ble_eq_true rfl) rfl ?_
  intro E hE C R
  subst hE
  have hs_ := J.ls
  refine g_aload_n C dX4_capacity_0 rfl rfl ?_
  refine g_iconst (v := 0) C dX4_capacity_1 rfl ?_
  refine mp_0 C dX4_capacity_2 ?_
  refine g_aload_n C dX4_capacity_5 rfl rfl ?_
  refine g_iload_n C dX4_capacity_6 rfl rfl ?_
  refine g_mcall (rest := []) 1 C (ct_isScale (F := upd F 0 0) (X := X) B J _) (lw_V q1894 q1896 qs59 q107 q1897) (by decide +kernel) ⟨Nat.le_of_ble_eq_true rfl, Nat.le_of_ble_eq_true rfl⟩ ⟨Nat.le_of_ble_eq_true rfl, Nat.le_of_ble_eq_true rfl⟩ rfl rfl (Nat.le_of_ble_eq_true rfl) dX4_capacity_7 ?_
  refine g_if_eq 22 C dX4_capacity_10 rfl (fun c10 => ?_) (fun c10 => ?_)
  · refine g_iconst (v := (-1)) C dX4_capacity_22 rfl ?_
    exact g_iret C R (Nat.le_refl _) (Nat.le_refl _) dX4_capacity_23 (fun H h => ⟨by rw [atI_out c10], h⟩)
  · obtain ⟨j_scale, hj_scale, rfl⟩ := ixI_in (by omega) c10
    refine g_aload_n C dX4_capacity_13 rfl rfl ?_
    refine mg_7 C dX4_capacity_14 ?_
    refine g_iload_n C dX4_capacity_17 rfl rfl ?_
    refine ml_7 (i := j_scale) C dX4_capacity_18 (by omega) ?_
    refine g_goto 23 C dX4_capacity_19 rfl ?_
    exact g_iret C R (Nat.le_refl _) (Nat.le_refl _) dX4_capacity_23 (fun H h => ⟨by rw [atI_in hj_scale (by omega)], h⟩)
set_option maxRecDepth 100000 in
theorem ct_visitScale {l : Launch} {Γ : Gm} {A : Nat → Prop} {ρ : State → Prop} (B : Bs l A ρ) {o : Nat} {ad : Nat → Nat} {F : Nat → Int32} {X : Nat → Nat → Int32} {nt ns nm ne nv nu ln : Nat} (J : Iv F X nt ns nm ne nv nu ln) (visit : Int32) : CtM l Γ A ρ yX4_visitScale cX4_visitScale 2 (some .int) 2 46 o ad [.ref o, .int visit] F X (some (.int (atI visit nv (fun j => X 1 (1 + j))))) (upd F 0 0) X := by
  refine Ct.of B.1 B.2 (by decide) [some (.ref o), some (.int visit)] (Nat.le_of_ble_eq_true rfl) rfl ?_
  intro E hE C R
  subst hE
  have hv_ := J.lv
  refine g_aload_n C dX4_visitScale_0 rfl rfl ?_
  refine g_iconst (v := 0) C dX4_visitScale_1 rfl ?_
  refine mp_0 C dX4_visitScale_2 ?_
  refine g_aload_n C dX4_visitScale_5 rfl rfl ?_
  refine g_iload_n C dX4_visitScale_6 rfl rfl ?_
  refine g_mcall (rest := []) 1 C (ct_isVisit (F := upd F 0 0) (X := X) B J _) (lw_V q1950 q1952 qs63 q107 q1953) (by decide +kernel) ⟨Nat.le_of_ble_eq_true rfl, Nat.le_of_ble_eq_true rfl⟩ ⟨Nat.le_of_ble_eq_true rfl, Nat.le_of_ble_eq_true rfl⟩ rfl rfl (Nat.le_of_ble_eq_true rfl) dX4_visitScale_7 ?_
  refine g_if_eq 24 C dX4_visitScale_10 rfl (fun c10 => ?_) (fun c10 => ?_)
  · refine g_iconst (v := (-1)) C dX4_visitScale_24 rfl ?_
    exact g_iret C R (Nat.le_refl _) (Nat.le_refl _) dX4_visitScale_25 (fun H h => ⟨by rw [atI_out c10], h⟩)
  · obtain ⟨j_visit, hj_visit, rfl⟩ := ixI_in (by omega) c10
    refine g_aload_n C dX4_visitScale_13 rfl rfl ?_
    refine mg_1 C dX4_visitScale_14 ?_
    refine g_iconst (v := 1) C dX4_visitScale_17 rfl ?_
    refine g_iload_n C dX4_visitScale_18 rfl rfl ?_
    refine g_iadd C dX4_visitScale_19 ?_
    refine g_topi (y := nI (1 + j_visit)) (nI_add 1 j_visit) ?_
    refine ml_1 (i := 1 + j_visit) C dX4_visitScale_20 (by omega) ?_
    refine g_goto 25 C dX4_visitScale_21 rfl ?_
    exact g_iret C R (Nat.le_refl _) (Nat.le_refl _) dX4_visitScale_25 (fun H h => ⟨by rw [atI_in hj_visit (by omega)], h⟩)
set_option maxRecDepth 100000 in
theorem ct_isInService {l : Launch} {Γ : Gm} {A : Nat → Prop} {ρ : State → Prop} (B : Bs l A ρ) {o : Nat} {ad : Nat → Nat} {F : Nat → Int32} {X : Nat → Nat → Int32} {nt ns nm ne nv nu ln : Nat} (J : Iv F X nt ns nm ne nv nu ln) (visit : Int32) : CtM l Γ A ρ yX4_isInService cX4_isInService 2 (some .int) 2 46 o ad [.ref o, .int visit] F X (some (.int (atI visit nv (fun j => X 1 (121 + j))))) (upd F 0 0) X := by
  refine Ct.of B.1 B.2 (by decide) [some (.ref o), some (.int visit)] (Nat.le_of_ble_eq_true rfl) rfl ?_
  intro E hE C R
  subst hE
  have hv_ := J.lv
  refine g_aload_n C dX4_isInService_0 rfl rfl ?_
  refine g_iconst (v := 0) C dX4_isInService_1 rfl ?_
  refine mp_0 C dX4_isInService_2 ?_
  refine g_aload_n C dX4_isInService_5 rfl rfl ?_
  refine g_iload_n C dX4_isInService_6 rfl rfl ?_
  refine g_mcall (rest := []) 1 C (ct_isVisit (F := upd F 0 0) (X := X) B J _) (lw_V q1950 q1952 qs63 q107 q1953) (by decide +kernel) ⟨Nat.le_of_ble_eq_true rfl, Nat.le_of_ble_eq_true rfl⟩ ⟨Nat.le_of_ble_eq_true rfl, Nat.le_of_ble_eq_true rfl⟩ rfl rfl (Nat.le_of_ble_eq_true rfl) dX4_isInService_7 ?_
  refine g_if_eq 25 C dX4_isInService_10 rfl (fun c10 => ?_) (fun c10 => ?_)
  · refine g_iconst (v := (-1)) C dX4_isInService_25 rfl ?_
    exact g_iret C R (Nat.le_refl _) (Nat.le_refl _) dX4_isInService_26 (fun H h => ⟨by rw [atI_out c10], h⟩)
  · obtain ⟨j_visit, hj_visit, rfl⟩ := ixI_in (by omega) c10
    refine g_aload_n C dX4_isInService_13 rfl rfl ?_
    refine mg_1 C dX4_isInService_14 ?_
    refine g_bipush (v := 121) C dX4_isInService_17 rfl ?_
    refine g_iload_n C dX4_isInService_19 rfl rfl ?_
    refine g_iadd C dX4_isInService_20 ?_
    refine g_topi (y := nI (121 + j_visit)) (nI_add 121 j_visit) ?_
    refine ml_1 (i := 121 + j_visit) C dX4_isInService_21 (by omega) ?_
    refine g_goto 26 C dX4_isInService_22 rfl ?_
    exact g_iret C R (Nat.le_refl _) (Nat.le_refl _) dX4_isInService_26 (fun H h => ⟨by rw [atI_in hj_visit (by omega)], h⟩)
set_option maxRecDepth 100000 in
theorem ct_testCount {l : Launch} {Γ : Gm} {A : Nat → Prop} {ρ : State → Prop} (B : Bs l A ρ) {o : Nat} {ad : Nat → Nat} {F : Nat → Int32} {X : Nat → Nat → Int32} {nt ns nm ne nv nu ln : Nat} (J : Iv F X nt ns nm ne nv nu ln) (visit : Int32) : CtM l Γ A ρ yX4_testCount cX4_testCount 2 (some .int) 2 46 o ad [.ref o, .int visit] F X (some (.int (atI visit nv (fun j => X 1 (151 + j))))) (upd F 0 0) X := by
  refine Ct.of B.1 B.2 (by decide) [some (.ref o), some (.int visit)] (Nat.le_of_ble_eq_true rfl) rfl ?_
  intro E hE C R
  subst hE
  have hv_ := J.lv
  refine g_aload_n C dX4_testCount_0 rfl rfl ?_
  refine g_iconst (v := 0) C dX4_testCount_1 rfl ?_
  refine mp_0 C dX4_testCount_2 ?_
  refine g_aload_n C dX4_testCount_5 rfl rfl ?_
  refine g_iload_n C dX4_testCount_6 rfl rfl ?_
  refine g_mcall (rest := []) 1 C (ct_isVisit (F := upd F 0 0) (X := X) B J _) (lw_V q1950 q1952 qs63 q107 q1953) (by decide +kernel) ⟨Nat.le_of_ble_eq_true rfl, Nat.le_of_ble_eq_true rfl⟩ ⟨Nat.le_of_ble_eq_true rfl, Nat.le_of_ble_eq_true rfl⟩ rfl rfl (Nat.le_of_ble_eq_true rfl) dX4_testCount_7 ?_
  refine g_if_eq 26 C dX4_testCount_10 rfl (fun c10 => ?_) (fun c10 => ?_)
  · refine g_iconst (v := (-1)) C dX4_testCount_26 rfl ?_
    exact g_iret C R (Nat.le_refl _) (Nat.le_refl _) dX4_testCount_27 (fun H h => ⟨by rw [atI_out c10], h⟩)
  · obtain ⟨j_visit, hj_visit, rfl⟩ := ixI_in (by omega) c10
    refine g_aload_n C dX4_testCount_13 rfl rfl ?_
    refine mg_1 C dX4_testCount_14 ?_
    refine g_sipush (v := 151) C dX4_testCount_17 rfl ?_
    refine g_iload_n C dX4_testCount_20 rfl rfl ?_
    refine g_iadd C dX4_testCount_21 ?_
    refine g_topi (y := nI (151 + j_visit)) (nI_add 151 j_visit) ?_
    refine ml_1 (i := 151 + j_visit) C dX4_testCount_22 (by omega) ?_
    refine g_goto 27 C dX4_testCount_23 rfl ?_
    exact g_iret C R (Nat.le_refl _) (Nat.le_refl _) dX4_testCount_27 (fun H h => ⟨by rw [atI_in hj_visit (by omega)], h⟩)
set_option maxRecDepth 100000 in
theorem ct_isClosed {l : Launch} {Γ : Gm} {A : Nat → Prop} {ρ : State → Prop} (B : Bs l A ρ) {o : Nat} {ad : Nat → Nat} {F : Nat → Int32} {X : Nat → Nat → Int32} {nt ns nm ne nv nu ln : Nat} (J : Iv F X nt ns nm ne nv nu ln) (visit : Int32) : CtM l Γ A ρ yX4_isClosed cX4_isClosed 2 (some .int) 2 46 o ad [.ref o, .int visit] F X (some (.int (atI visit nv (fun j => X 1 (61 + j))))) (upd F 0 0) X := by
  refine Ct.of B.1 B.2 (by decide) [some (.ref o), some (.int visit)] (Nat.le_of_ble_eq_true rfl) rfl ?_
  intro E hE C R
  subst hE
  have hv_ := J.lv
  refine g_aload_n C dX4_isClosed_0 rfl rfl ?_
  refine g_iconst (v := 0) C dX4_isClosed_1 rfl ?_
  refine mp_0 C dX4_isClosed_2 ?_
  refine g_aload_n C dX4_isClosed_5 rfl rfl ?_
  refine g_iload_n C dX4_isClosed_6 rfl rfl ?_
  refine g_mcall (rest := []) 1 C (ct_isVisit (F := upd F 0 0) (X := X) B J _) (lw_V q1950 q1952 qs63 q107 q1953) (by decide +kernel) ⟨Nat.le_of_ble_eq_true rfl, Nat.le_of_ble_eq_true rfl⟩ ⟨Nat.le_of_ble_eq_true rfl, Nat.le_of_ble_eq_true rfl⟩ rfl rfl (Nat.le_of_ble_eq_true rfl) dX4_isClosed_7 ?_
  refine g_if_eq 25 C dX4_isClosed_10 rfl (fun c10 => ?_) (fun c10 => ?_)
  · refine g_iconst (v := (-1)) C dX4_isClosed_25 rfl ?_
    exact g_iret C R (Nat.le_refl _) (Nat.le_refl _) dX4_isClosed_26 (fun H h => ⟨by rw [atI_out c10], h⟩)
  · obtain ⟨j_visit, hj_visit, rfl⟩ := ixI_in (by omega) c10
    refine g_aload_n C dX4_isClosed_13 rfl rfl ?_
    refine mg_1 C dX4_isClosed_14 ?_
    refine g_bipush (v := 61) C dX4_isClosed_17 rfl ?_
    refine g_iload_n C dX4_isClosed_19 rfl rfl ?_
    refine g_iadd C dX4_isClosed_20 ?_
    refine g_topi (y := nI (61 + j_visit)) (nI_add 61 j_visit) ?_
    refine ml_1 (i := 61 + j_visit) C dX4_isClosed_21 (by omega) ?_
    refine g_goto 26 C dX4_isClosed_22 rfl ?_
    exact g_iret C R (Nat.le_refl _) (Nat.le_refl _) dX4_isClosed_26 (fun H h => ⟨by rw [atI_in hj_visit (by omega)], h⟩)
set_option maxRecDepth 100000 in
theorem ct_weightCount {l : Launch} {Γ : Gm} {A : Nat → Prop} {ρ : State → Prop} (B : Bs l A ρ) {o : Nat} {ad : Nat → Nat} {F : Nat → Int32} {X : Nat → Nat → Int32} {nt ns nm ne nv nu ln : Nat} (J : Iv F X nt ns nm ne nv nu ln) (set : Int32) : CtM l Γ A ρ yX4_weightCount cX4_weightCount 2 (some .int) 2 46 o ad [.ref o, .int set] F X (some (.int (atI set ne (X 11)))) (upd F 0 0) X := by
  refine Ct.of B.1 B.2 (by decide) [some (.ref o), some (.int set)] (Nat.le_of_ble_eq_true rfl) rfl ?_
  intro E hE C R
  subst hE
  have he_ := J.le
  refine g_aload_n C dX4_weightCount_0 rfl rfl ?_
  refine g_iconst (v := 0) C dX4_weightCount_1 rfl ?_
  refine mp_0 C dX4_weightCount_2 ?_
  refine g_aload_n C dX4_weightCount_5 rfl rfl ?_
  refine g_iload_n C dX4_weightCount_6 rfl rfl ?_
  refine g_mcall (rest := []) 1 C (ct_isSet (F := upd F 0 0) (X := X) B J _) (lw_V q2080 q2082 qs74 q107 q2083) (by decide +kernel) ⟨Nat.le_of_ble_eq_true rfl, Nat.le_of_ble_eq_true rfl⟩ ⟨Nat.le_of_ble_eq_true rfl, Nat.le_of_ble_eq_true rfl⟩ rfl rfl (Nat.le_of_ble_eq_true rfl) dX4_weightCount_7 ?_
  refine g_if_eq 22 C dX4_weightCount_10 rfl (fun c10 => ?_) (fun c10 => ?_)
  · refine g_iconst (v := (-1)) C dX4_weightCount_22 rfl ?_
    exact g_iret C R (Nat.le_refl _) (Nat.le_refl _) dX4_weightCount_23 (fun H h => ⟨by rw [atI_out c10], h⟩)
  · obtain ⟨j_set, hj_set, rfl⟩ := ixI_in (by omega) c10
    refine g_aload_n C dX4_weightCount_13 rfl rfl ?_
    refine mg_11 C dX4_weightCount_14 ?_
    refine g_iload_n C dX4_weightCount_17 rfl rfl ?_
    refine ml_11 (i := j_set) C dX4_weightCount_18 (by omega) ?_
    refine g_goto 23 C dX4_weightCount_19 rfl ?_
    exact g_iret C R (Nat.le_refl _) (Nat.le_refl _) dX4_weightCount_23 (fun H h => ⟨by rw [atI_in hj_set (by omega)], h⟩)
set_option maxRecDepth 100000 in
theorem ct_weighingCount {l : Launch} {Γ : Gm} {A : Nat → Prop} {ρ : State → Prop} (B : Bs l A ρ) {o : Nat} {ad : Nat → Nat} {F : Nat → Int32} {X : Nat → Nat → Int32} {nt ns nm ne nv nu ln : Nat} (J : Iv F X nt ns nm ne nv nu ln) (set : Int32) : CtM l Γ A ρ yX4_weighingCount cX4_weighingCount 2 (some .int) 2 46 o ad [.ref o, .int set] F X (some (.int (atI set ne (fun j => X 1 (673 + j))))) (upd F 0 0) X := by
  refine Ct.of B.1 B.2 (by decide) [some (.ref o), some (.int set)] (Nat.le_of_ble_eq_true rfl) rfl ?_
  intro E hE C R
  subst hE
  have he_ := J.le
  refine g_aload_n C dX4_weighingCount_0 rfl rfl ?_
  refine g_iconst (v := 0) C dX4_weighingCount_1 rfl ?_
  refine mp_0 C dX4_weighingCount_2 ?_
  refine g_aload_n C dX4_weighingCount_5 rfl rfl ?_
  refine g_iload_n C dX4_weighingCount_6 rfl rfl ?_
  refine g_mcall (rest := []) 1 C (ct_isSet (F := upd F 0 0) (X := X) B J _) (lw_V q2080 q2082 qs74 q107 q2083) (by decide +kernel) ⟨Nat.le_of_ble_eq_true rfl, Nat.le_of_ble_eq_true rfl⟩ ⟨Nat.le_of_ble_eq_true rfl, Nat.le_of_ble_eq_true rfl⟩ rfl rfl (Nat.le_of_ble_eq_true rfl) dX4_weighingCount_7 ?_
  refine g_if_eq 26 C dX4_weighingCount_10 rfl (fun c10 => ?_) (fun c10 => ?_)
  · refine g_iconst (v := (-1)) C dX4_weighingCount_26 rfl ?_
    exact g_iret C R (Nat.le_refl _) (Nat.le_refl _) dX4_weighingCount_27 (fun H h => ⟨by rw [atI_out c10], h⟩)
  · obtain ⟨j_set, hj_set, rfl⟩ := ixI_in (by omega) c10
    refine g_aload_n C dX4_weighingCount_13 rfl rfl ?_
    refine mg_1 C dX4_weighingCount_14 ?_
    refine g_sipush (v := 673) C dX4_weighingCount_17 rfl ?_
    refine g_iload_n C dX4_weighingCount_20 rfl rfl ?_
    refine g_iadd C dX4_weighingCount_21 ?_
    refine g_topi (y := nI (673 + j_set)) (nI_add 673 j_set) ?_
    refine ml_1 (i := 673 + j_set) C dX4_weighingCount_22 (by omega) ?_
    refine g_goto 27 C dX4_weighingCount_23 rfl ?_
    exact g_iret C R (Nat.le_refl _) (Nat.le_refl _) dX4_weighingCount_27 (fun H h => ⟨by rw [atI_in hj_set (by omega)], h⟩)
set_option maxRecDepth 100000 in
theorem ct_heavySuspects {l : Launch} {Γ : Gm} {A : Nat → Prop} {ρ : State → Prop} (B : Bs l A ρ) {o : Nat} {ad : Nat → Nat} {F : Nat → Int32} {X : Nat → Nat → Int32} {nt ns nm ne nv nu ln : Nat} (J : Iv F X nt ns nm ne nv nu ln) (set : Int32) : CtM l Γ A ρ yX4_heavySuspects cX4_heavySuspects 2 (some .int) 2 46 o ad [.ref o, .int set] F X (some (.int (atI set ne (fun j => X 1 (661 + j))))) (upd F 0 0) X := by
  refine Ct.of B.1 B.2 (by decide) [some (.ref o), some (.int set)] (Nat.le_of_ble_eq_true rfl) rfl ?_
  intro E hE C R
  subst hE
  have he_ := J.le
  refine g_aload_n C dX4_heavySuspects_0 rfl rfl ?_
  refine g_iconst (v := 0) C dX4_heavySuspects_1 rfl ?_
  refine mp_0 C dX4_heavySuspects_2 ?_
  refine g_aload_n C dX4_heavySuspects_5 rfl rfl ?_
  refine g_iload_n C dX4_heavySuspects_6 rfl rfl ?_
  refine g_mcall (rest := []) 1 C (ct_isSet (F := upd F 0 0) (X := X) B J _) (lw_V q2080 q2082 qs74 q107 q2083) (by decide +kernel) ⟨Nat.le_of_ble_eq_true rfl, Nat.le_of_ble_eq_true rfl⟩ ⟨Nat.le_of_ble_eq_true rfl, Nat.le_of_ble_eq_true rfl⟩ rfl rfl (Nat.le_of_ble_eq_true rfl) dX4_heavySuspects_7 ?_
  refine g_if_eq 26 C dX4_heavySuspects_10 rfl (fun c10 => ?_) (fun c10 => ?_)
  · refine g_iconst (v := (-1)) C dX4_heavySuspects_26 rfl ?_
    exact g_iret C R (Nat.le_refl _) (Nat.le_refl _) dX4_heavySuspects_27 (fun H h => ⟨by rw [atI_out c10], h⟩)
  · obtain ⟨j_set, hj_set, rfl⟩ := ixI_in (by omega) c10
    refine g_aload_n C dX4_heavySuspects_13 rfl rfl ?_
    refine mg_1 C dX4_heavySuspects_14 ?_
    refine g_sipush (v := 661) C dX4_heavySuspects_17 rfl ?_
    refine g_iload_n C dX4_heavySuspects_20 rfl rfl ?_
    refine g_iadd C dX4_heavySuspects_21 ?_
    refine g_topi (y := nI (661 + j_set)) (nI_add 661 j_set) ?_
    refine ml_1 (i := 661 + j_set) C dX4_heavySuspects_22 (by omega) ?_
    refine g_goto 27 C dX4_heavySuspects_23 rfl ?_
    exact g_iret C R (Nat.le_refl _) (Nat.le_refl _) dX4_heavySuspects_27 (fun H h => ⟨by rw [atI_in hj_set (by omega)], h⟩)
set_option maxRecDepth 100000 in
theorem ct_lightSuspects {l : Launch} {Γ : Gm} {A : Nat → Prop} {ρ : State → Prop} (B : Bs l A ρ) {o : Nat} {ad : Nat → Nat} {F : Nat → Int32} {X : Nat → Nat → Int32} {nt ns nm ne nv nu ln : Nat} (J : Iv F X nt ns nm ne nv nu ln) (set : Int32) : CtM l Γ A ρ yX4_lightSuspects cX4_lightSuspects 2 (some .int) 2 46 o ad [.ref o, .int set] F X (some (.int (atI set ne (fun j => X 1 (665 + j))))) (upd F 0 0) X := by
  refine Ct.of B.1 B.2 (by decide) [some (.ref o), some (.int set)] (Nat.le_of_ble_eq_true rfl) rfl ?_
  intro E hE C R
  subst hE
  have he_ := J.le
  refine g_aload_n C dX4_lightSuspects_0 rfl rfl ?_
  refine g_iconst (v := 0) C dX4_lightSuspects_1 rfl ?_
  refine mp_0 C dX4_lightSuspects_2 ?_
  refine g_aload_n C dX4_lightSuspects_5 rfl rfl ?_
  refine g_iload_n C dX4_lightSuspects_6 rfl rfl ?_
  refine g_mcall (rest := []) 1 C (ct_isSet (F := upd F 0 0) (X := X) B J _) (lw_V q2080 q2082 qs74 q107 q2083) (by decide +kernel) ⟨Nat.le_of_ble_eq_true rfl, Nat.le_of_ble_eq_true rfl⟩ ⟨Nat.le_of_ble_eq_true rfl, Nat.le_of_ble_eq_true rfl⟩ rfl rfl (Nat.le_of_ble_eq_true rfl) dX4_lightSuspects_7 ?_
  refine g_if_eq 26 C dX4_lightSuspects_10 rfl (fun c10 => ?_) (fun c10 => ?_)
  · refine g_iconst (v := (-1)) C dX4_lightSuspects_26 rfl ?_
    exact g_iret C R (Nat.le_refl _) (Nat.le_refl _) dX4_lightSuspects_27 (fun H h => ⟨by rw [atI_out c10], h⟩)
  · obtain ⟨j_set, hj_set, rfl⟩ := ixI_in (by omega) c10
    refine g_aload_n C dX4_lightSuspects_13 rfl rfl ?_
    refine mg_1 C dX4_lightSuspects_14 ?_
    refine g_sipush (v := 665) C dX4_lightSuspects_17 rfl ?_
    refine g_iload_n C dX4_lightSuspects_20 rfl rfl ?_
    refine g_iadd C dX4_lightSuspects_21 ?_
    refine g_topi (y := nI (665 + j_set)) (nI_add 665 j_set) ?_
    refine ml_1 (i := 665 + j_set) C dX4_lightSuspects_22 (by omega) ?_
    refine g_goto 27 C dX4_lightSuspects_23 rfl ?_
    exact g_iret C R (Nat.le_refl _) (Nat.le_refl _) dX4_lightSuspects_27 (fun H h => ⟨by rw [atI_in hj_set (by omega)], h⟩)
set_option maxRecDepth 100000 in
theorem ct_canBeGenuine {l : Launch} {Γ : Gm} {A : Nat → Prop} {ρ : State → Prop} (B : Bs l A ρ) {o : Nat} {ad : Nat → Nat} {F : Nat → Int32} {X : Nat → Nat → Int32} {nt ns nm ne nv nu ln : Nat} (J : Iv F X nt ns nm ne nv nu ln) (set : Int32) : CtM l Γ A ρ yX4_canBeGenuine cX4_canBeGenuine 2 (some .int) 2 46 o ad [.ref o, .int set] F X (some (.int (atI set ne (fun j => X 1 (669 + j))))) (upd F 0 0) X := by
  refine Ct.of B.1 B.2 (by decide) [some (.ref o), some (.int set)] (Nat.le_of_ble_eq_true rfl) rfl ?_
  intro E hE C R
  subst hE
  have he_ := J.le
  refine g_aload_n C dX4_canBeGenuine_0 rfl rfl ?_
  refine g_iconst (v := 0) C dX4_canBeGenuine_1 rfl ?_
  refine mp_0 C dX4_canBeGenuine_2 ?_
  refine g_aload_n C dX4_canBeGenuine_5 rfl rfl ?_
  refine g_iload_n C dX4_canBeGenuine_6 rfl rfl ?_
  refine g_mcall (rest := []) 1 C (ct_isSet (F := upd F 0 0) (X := X) B J _) (lw_V q2080 q2082 qs74 q107 q2083) (by decide +kernel) ⟨Nat.le_of_ble_eq_true rfl, Nat.le_of_ble_eq_true rfl⟩ ⟨Nat.le_of_ble_eq_true rfl, Nat.le_of_ble_eq_true rfl⟩ rfl rfl (Nat.le_of_ble_eq_true rfl) dX4_canBeGenuine_7 ?_
  refine g_if_eq 26 C dX4_canBeGenuine_10 rfl (fun c10 => ?_) (fun c10 => ?_)
  · refine g_iconst (v := (-1)) C dX4_canBeGenuine_26 rfl ?_
    exact g_iret C R (Nat.le_refl _) (Nat.le_refl _) dX4_canBeGenuine_27 (fun H h => ⟨by rw [atI_out c10], h⟩)
  · obtain ⟨j_set, hj_set, rfl⟩ := ixI_in (by omega) c10
    refine g_aload_n C dX4_canBeGenuine_13 rfl rfl ?_
    refine mg_1 C dX4_canBeGenuine_14 ?_
    refine g_sipush (v := 669) C dX4_canBeGenuine_17 rfl ?_
    refine g_iload_n C dX4_canBeGenuine_20 rfl rfl ?_
    refine g_iadd C dX4_canBeGenuine_21 ?_
    refine g_topi (y := nI (669 + j_set)) (nI_add 669 j_set) ?_
    refine ml_1 (i := 669 + j_set) C dX4_canBeGenuine_22 (by omega) ?_
    refine g_goto 27 C dX4_canBeGenuine_23 rfl ?_
    exact g_iret C R (Nat.le_refl _) (Nat.le_refl _) dX4_canBeGenuine_27 (fun H h => ⟨by rw [atI_in hj_set (by omega)], h⟩)
set_option maxRecDepth 100000 in
theorem ct_massValue {l : Launch} {Γ : Gm} {A : Nat → Prop} {ρ : State → Prop} (B : Bs l A ρ) {o : Nat} {ad : Nat → Nat} {F : Nat → Int32} {X : Nat → Nat → Int32} {nt ns nm ne nv nu ln : Nat} (J : Iv F X nt ns nm ne nv nu ln) (m : Int32) : CtM l Γ A ρ yX4_massValue cX4_massValue 2 (some .int) 1 25 o ad [.ref o, .int m] F X (some (.int (atI m nm (X 9)))) (upd F 0 0) X := by
  refine Ct.of B.1 B.2 (by decide) [some (.ref o), some (.int m)] (Nat.le_of_ble_eq_true rfl) rfl ?_
  intro E hE C R
  subst hE
  have hm_ := J.lm
  refine g_aload_n C dX4_massValue_0 rfl rfl ?_
  refine g_iconst (v := 0) C dX4_massValue_1 rfl ?_
  refine mp_0 C dX4_massValue_2 ?_
  refine g_iload_n C dX4_massValue_5 rfl rfl ?_
  refine g_i2l C dX4_massValue_6 ?_
  refine g_lconst (v := 0) C dX4_massValue_7 rfl ?_
  refine g_aload_n C dX4_massValue_8 rfl rfl ?_
  refine mg_8 C dX4_massValue_9 ?_
  refine g_topi (y := nI nm) (J.f8) ?_
  refine g_iconst (v := 1) C dX4_massValue_12 rfl ?_
  refine g_isub C dX4_massValue_13 ?_
  refine g_i2l C dX4_massValue_14 ?_
  refine g_pcall (rest := []) 3 C (ct_within B _ _ _) (lw_S q1783 q1784 q107 q1785) ⟨by decide, by decide, by decide +kernel⟩ ⟨Nat.le_of_ble_eq_true rfl, Nat.le_of_ble_eq_true rfl⟩ ⟨Nat.le_of_ble_eq_true rfl, Nat.le_of_ble_eq_true rfl⟩ rfl rfl (Nat.le_of_ble_eq_true rfl) dX4_massValue_15 ?_
  refine g_topi (y := ixI m nm) (wi_ix (by omega)) ?_
  refine g_if_eq 30 C dX4_massValue_18 rfl (fun c18 => ?_) (fun c18 => ?_)
  · refine g_iconst (v := (-1)) C dX4_massValue_30 rfl ?_
    exact g_iret C R (Nat.le_refl _) (Nat.le_refl _) dX4_massValue_31 (fun H h => ⟨by rw [atI_out c18], h⟩)
  · obtain ⟨j_m, hj_m, rfl⟩ := ixI_in (by omega) c18
    refine g_aload_n C dX4_massValue_21 rfl rfl ?_
    refine mg_9 C dX4_massValue_22 ?_
    refine g_iload_n C dX4_massValue_25 rfl rfl ?_
    refine ml_9 (i := j_m) C dX4_massValue_26 (by omega) ?_
    refine g_goto 31 C dX4_massValue_27 rfl ?_
    exact g_iret C R (Nat.le_refl _) (Nat.le_refl _) dX4_massValue_31 (fun H h => ⟨by rw [atI_in hj_m (by omega)], h⟩)
