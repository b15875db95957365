set_option maxRecDepth 100000 in
theorem ct_oneOf {l : Launch} {Γ : Gm} {A : Nat → Prop} {ρ : State → Prop} (B : Bs l A ρ) {o : Nat} {ad : Nat → Nat} {F : Nat → Int32} {X : Nat → Nat → Int32} (h li t : Nat) (hh : h ≤ 12) (hl : li ≤ 12) (ht : t = if h + li < 2 then 0 else t) (hx : 2 ≤ h + li → X 38 (13 * h + li) = nI t) : CtM l Γ A ρ yX4_oneOf cX4_oneOf 3 (some .int) 0 0 o ad [.ref o, .int (nI h), .int (nI li)] F X (some (.int (nI t))) F X := by
  refine Ct.of B.1 B.2 (by decide) [some (.ref o), some (.int (nI h)), some (.int (nI li))] (Nat.le_of_ble_eq_true rfl) rfl ?_
  intro E hE C R
  subst hE
  refine g_iload_n C dX4_oneOf_0 rfl rfl ?_
  refine g_iload_n C dX4_oneOf_1 rfl rfl ?_
  refine g_iadd C dX4_oneOf_2 ?_
  refine g_topi (y := nI (h + li)) (nI_add h li) ?_
  refine g_iconst (v := 2) C dX4_oneOf_3 rfl ?_
  refine gN_ge (a := h + li) (b := 2) 11 C dX4_oneOf_4 rfl (by omega) (by omega) (fun c4 => ?_) (fun c4 => ?_)
  · refine g_aload_n C dX4_oneOf_11 rfl rfl ?_
    refine mg_38 C dX4_oneOf_12 ?_
    refine g_bipush (v := 13) C dX4_oneOf_15 rfl ?_
    refine g_iload_n C dX4_oneOf_17 rfl rfl ?_
    refine g_imul C dX4_oneOf_18 ?_
    refine g_topi (y := nI (13 * h)) (pk_mul 13 h) ?_
    refine g_iload_n C dX4_oneOf_19 rfl rfl ?_
    refine g_iadd C dX4_oneOf_20 ?_
    refine g_topi (y := nI (13 * h + li)) (nI_add (13 * h) li) ?_
    refine ml_38 (i := 13 * h + li) C dX4_oneOf_21 (by omega) ?_
    exact g_iret C R (Nat.le_refl _) (Nat.le_refl _) dX4_oneOf_22 (fun H h => ⟨by rw [hx (by omega)], h⟩)
  · refine g_iconst (v := 0) C dX4_oneOf_7 rfl ?_
    refine g_goto 22 C dX4_oneOf_8 rfl ?_
    exact g_iret C R (Nat.le_refl _) (Nat.le_refl _) dX4_oneOf_22 (fun H h => ⟨by rw [ht, if_pos c4]; rfl, h⟩)
set_option maxRecDepth 100000 in
theorem ct_bothOf {l : Launch} {Γ : Gm} {A : Nat → Prop} {ρ : State → Prop} (B : Bs l A ρ) {o : Nat} {ad : Nat → Nat} {F : Nat → Int32} {X : Nat → Nat → Int32} (u g t : Nat) (hu : u ≤ 12) (hg : g ≤ 1) (ht : t = if 2 * u + g < 2 then 0 else t) (hx : 2 ≤ 2 * u + g → X 39 (2 * u + g) = nI t) : CtM l Γ A ρ yX4_bothOf cX4_bothOf 3 (some .int) 0 0 o ad [.ref o, .int (nI u), .int (nI g)] F X (some (.int (nI t))) F X := by
  refine Ct.of B.1 B.2 (by decide) [some (.ref o), some (.int (nI u)), some (.int (nI g))] (Nat.le_of_ble_eq_true rfl) rfl ?_
  intro E hE C R
  subst hE
  refine g_iconst (v := 2) C dX4_bothOf_0 rfl ?_
  refine g_iload_n C dX4_bothOf_1 rfl rfl ?_
  refine g_imul C dX4_bothOf_2 ?_
  refine g_topi (y := nI (2 * u)) (pk_mul 2 u) ?_
  refine g_iload_n C dX4_bothOf_3 rfl rfl ?_
  refine g_iadd C dX4_bothOf_4 ?_
  refine g_topi (y := nI (2 * u + g)) (nI_add (2 * u) g) ?_
  refine g_iconst (v := 2) C dX4_bothOf_5 rfl ?_
  refine gN_ge (a := 2 * u + g) (b := 2) 13 C dX4_bothOf_6 rfl (by omega) (by omega) (fun c6 => ?_) (fun c6 => ?_)
  · refine g_aload_n C dX4_bothOf_13 rfl rfl ?_
    refine mg_39 C dX4_bothOf_14 ?_
    refine g_iconst (v := 2) C dX4_bothOf_17 rfl ?_
    refine g_iload_n C dX4_bothOf_18 rfl rfl ?_
    refine g_imul C dX4_bothOf_19 ?_
    refine g_topi (y := nI (2 * u)) (pk_mul 2 u) ?_
    refine g_iload_n C dX4_bothOf_20 rfl rfl ?_
    refine g_iadd C dX4_bothOf_21 ?_
    refine g_topi (y := nI (2 * u + g)) (nI_add (2 * u) g) ?_
    refine ml_39 (i := 2 * u + g) C dX4_bothOf_22 (by omega) ?_
    exact g_iret C R (Nat.le_refl _) (Nat.le_refl _) dX4_bothOf_23 (fun H h => ⟨by rw [hx (by omega)], h⟩)
  · refine g_iconst (v := 0) C dX4_bothOf_9 rfl ?_
    refine g_goto 23 C dX4_bothOf_10 rfl ?_
    exact g_iret C R (Nat.le_refl _) (Nat.le_refl _) dX4_bothOf_23 (fun H h => ⟨by rw [ht, if_pos c6]; rfl, h⟩)
theorem T1_self (T : Nat → Nat → Nat) (h l : Nat) : T1 T h l = if h + l < 2 then 0 else T1 T h l := by
  by_cases c : h + l < 2
  · rw [if_pos c]; exact if_pos c
  · rw [if_neg c]
theorem T1_ge (T : Nat → Nat → Nat) {h l : Nat} (c : 2 ≤ h + l) : T1 T h l = T h l := if_neg (by omega)
theorem B1_self (B : Nat → Nat) (u g : Nat) : B1 B u g = if 2 * u + g < 2 then 0 else B1 B u g := by
  by_cases c : 2 * u + g < 2
  · rw [if_pos c]; exact if_pos c
  · rw [if_neg c]
theorem B1_ge (B : Nat → Nat) {u g : Nat} (c : 2 ≤ 2 * u + g) : B1 B u g = B u := if_neg (by omega)
theorem tl1_d (h l a b c d : Nat) : tl1 h l a b c d = (decide (a + d < h + l) && (decide (b + c < h + l) && decide (0 < a + b + c + d))) := rfl
theorem pos_lt {n : Nat} (c : ¬ nI n ≤ 0) (h : n < 2 ^ 31) : 0 < n := by
  rcases Nat.eq_zero_or_pos n with e | e
  · rw [e] at c; exact absurd (by decide) c
  · exact e
theorem pos_le {n : Nat} (c : nI n ≤ 0) (h : n < 2 ^ 31) : n ≤ 0 := by
  rcases Nat.eq_zero_or_pos n with e | e
  · omega
  · exact absurd c (nI_nle e h)
set_option maxHeartbeats 2000000 in
set_option maxRecDepth 100000 in
theorem ct_leastOne {l : Launch} {Γ : Gm} {A : Nat → Prop} {ρ : State → Prop} (B : Bs l A ρ) {o : Nat} {ad : Nat → Nat} {F : Nat → Int32} {X : Nat → Nat → Int32} (T : Nat → Nat → Nat) (h li gen : Nat) (hh : h ≤ 12) (hl : li ≤ 12) (hg : gen ≤ 12) (hT : ∀ p q, 2 ≤ p + q → p + q < h + li → X 38 (13 * p + q) = nI (T p q)) (hT99 : ∀ p q, p + q < h + li → T1 T p q ≤ 99) : CtM l Γ A ρ yX4_leastOne cX4_leastOne 12 (some .int) 1 22 o ad [.ref o, .int (nI h), .int (nI li), .int (nI gen)] F X (some (.int (nI (lo1 T h li gen)))) F X := by
  refine Ct.of B.1 B.2 (by decide) [some (.ref o), some (.int (nI h)), some (.int (nI li)), some (.int (nI gen)), none, none, none, none, none, none, none, none] (Nat.le_of_ble_eq_true rfl) rfl ?_
  intro E hE C R
  subst hE
  have hle : ∀ a b c d, loD T h li gen a b c (loCc T h li gen a b (loB T h li gen a (loA T h li gen a) b) c) d ≤ 99 := fun a b c d => loD_le _ _ _ _ _ _ _ (loCc_le _ _ _ _ _ _ (loB_le _ _ _ _ _ (loA_le _ _ _ _ _) _) _) _
  refine g_bipush (v := 99) C dX4_leastOne_0 rfl ?_
  refine g_istore (lv' := [some (.ref o), some (.int (nI h)), some (.int (nI li)), some (.int (nI gen)), some (.int 99), none, none, none, none, none, none, none]) C dX4_leastOne_2 (by decide) rfl ?_
  refine g_iconst (v := 0) C dX4_leastOne_4 rfl ?_
  refine g_istore (lv' := [some (.ref o), some (.int (nI h)), some (.int (nI li)), some (.int (nI gen)), some (.int 99), some (.int 0), none, none, none, none, none, none]) C dX4_leastOne_5 (by decide) rfl ?_
  refine g_for (P := fun a => G E (RepM Γ A o ad F X) 0 0 7 [some (.ref o), some (.int (nI h)), some (.int (nI li)), some (.int (nI gen)), some (.int (nI (loA T h li gen a))), some (.int (nI a)), none, none, none, none, none, none] []) (h + 1) ?_ ?_ 0 (Nat.zero_le _)
  · refine g_iload C dX4_leastOne_7 rfl ?_
    refine g_iload_n C dX4_leastOne_9 rfl rfl ?_
    refine gN_gt (a := (h + 1)) (b := h) 202 C dX4_leastOne_10 rfl (by omega) (by omega) (fun c10 => ?_) (fun c10 => ?_)
    · refine g_iload C dX4_leastOne_202 rfl ?_
      exact g_iret C R (Nat.le_refl _) (Nat.le_refl _) dX4_leastOne_204 (fun H h => ⟨rfl, h⟩)
    · exfalso; omega
  · intro a ha iha
    replace iha : G E (RepM Γ A o ad F X) 0 0 7 [some (.ref o), some (.int (nI h)), some (.int (nI li)), some (.int (nI gen)), some (.int (nI (loA T h li gen (a + 1)))), some (.int (nI (a + 1))), none, none, none, none, none, none] [] := iha
    refine g_iload C dX4_leastOne_7 rfl ?_
    refine g_iload_n C dX4_leastOne_9 rfl rfl ?_
    refine gN_gt (a := a) (b := h) 202 C dX4_leastOne_10 rfl (by omega) (by omega) (fun c10 => ?_) (fun c10 => ?_)
    · exfalso; omega
    · refine g_iconst (v := 0) C dX4_leastOne_13 rfl ?_
      refine g_istore (lv' := [some (.ref o), some (.int (nI h)), some (.int (nI li)), some (.int (nI gen)), some (.int (nI (loA T h li gen a))), some (.int (nI a)), some (.int 0), none, none, none, none, none]) C dX4_leastOne_14 (by decide) rfl ?_
      refine g_for (P := fun b => G E (RepM Γ A o ad F X) 0 0 16 [some (.ref o), some (.int (nI h)), some (.int (nI li)), some (.int (nI gen)), some (.int (nI (loB T h li gen a (loA T h li gen a) b))), some (.int (nI a)), some (.int (nI b)), none, none, none, none, none] []) (h - a + 1) ?_ ?_ 0 (Nat.zero_le _)
      · refine g_iload C dX4_leastOne_16 rfl ?_
        refine g_iload C dX4_leastOne_18 rfl ?_
        refine g_iadd C dX4_leastOne_20 ?_
        refine g_topi (y := nI (a + (h - a + 1))) (nI_add a (h - a + 1)) ?_
        refine g_iload_n C dX4_leastOne_21 rfl rfl ?_
        refine gN_gt (a := a + (h - a + 1)) (b := h) 196 C dX4_leastOne_22 rfl (by omega) (by omega) (fun c22 => ?_) (fun c22 => ?_)
        · refine g_inc1 (x := a) (lv' := [some (.ref o), some (.int (nI h)), some (.int (nI li)), some (.int (nI gen)), some (.int (nI (loB T h li gen a (loA T h li gen a) (h - a + 1)))), some (.int (nI (a + 1))), some (.int (nI (h - a + 1))), none, none, none, none, none]) C dX4_leastOne_196 rfl (by decide) rfl ?_
          refine g_goto 7 C dX4_leastOne_199 rfl ?_
          exact g_lv (fun i w h => by match i, h with | 0, h => exact h | 1, h => exact h | 2, h => exact h | 3, h => exact h | 4, h => exact h | 5, h => exact h | 6, h => cases h | 7, h => cases h | 8, h => cases h | 9, h => cases h | 10, h => cases h | 11, h => cases h) iha
        · exfalso; omega
      · intro b hb ihb
        replace ihb : G E (RepM Γ A o ad F X) 0 0 16 [some (.ref o), some (.int (nI h)), some (.int (nI li)), some (.int (nI gen)), some (.int (nI (loB T h li gen a (loA T h li gen a) (b + 1)))), some (.int (nI a)), some (.int (nI (b + 1))), none, none, none, none, none] [] := ihb
        refine g_iload C dX4_leastOne_16 rfl ?_
        refine g_iload C dX4_leastOne_18 rfl ?_
        refine g_iadd C dX4_leastOne_20 ?_
        refine g_topi (y := nI (a + b)) (nI_add a b) ?_
        refine g_iload_n C dX4_leastOne_21 rfl rfl ?_
        refine gN_gt (a := a + b) (b := h) 196 C dX4_leastOne_22 rfl (by omega) (by omega) (fun c22 => ?_) (fun c22 => ?_)
        · exfalso; omega
        · refine g_iconst (v := 0) C dX4_leastOne_25 rfl ?_
          refine g_istore (lv' := [some (.ref o), some (.int (nI h)), some (.int (nI li)), some (.int (nI gen)), some (.int (nI (loB T h li gen a (loA T h li gen a) b))), some (.int (nI a)), some (.int (nI b)), some (.int 0), none, none, none, none]) C dX4_leastOne_26 (by decide) rfl ?_
          refine g_for (P := fun c => G E (RepM Γ A o ad F X) 0 0 28 [some (.ref o), some (.int (nI h)), some (.int (nI li)), some (.int (nI gen)), some (.int (nI (loCc T h li gen a b (loB T h li gen a (loA T h li gen a) b) c))), some (.int (nI a)), some (.int (nI b)), some (.int (nI c)), none, none, none, none] []) (li + 1) ?_ ?_ 0 (Nat.zero_le _)
          · refine g_iload C dX4_leastOne_28 rfl ?_
            refine g_iload_n C dX4_leastOne_30 rfl rfl ?_
            refine gN_gt (a := (li + 1)) (b := li) 190 C dX4_leastOne_31 rfl (by omega) (by omega) (fun c31 => ?_) (fun c31 => ?_)
            · refine g_inc1 (x := b) (lv' := [some (.ref o), some (.int (nI h)), some (.int (nI li)), some (.int (nI gen)), some (.int (nI (loCc T h li gen a b (loB T h li gen a (loA T h li gen a) b) (li + 1)))), some (.int (nI a)), some (.int (nI (b + 1))), some (.int (nI (li + 1))), none, none, none, none]) C dX4_leastOne_190 rfl (by decide) rfl ?_
              refine g_goto 16 C dX4_leastOne_193 rfl ?_
              exact g_lv (fun i w h => by match i, h with | 0, h => exact h | 1, h => exact h | 2, h => exact h | 3, h => exact h | 4, h => exact h | 5, h => exact h | 6, h => exact h | 7, h => cases h | 8, h => cases h | 9, h => cases h | 10, h => cases h | 11, h => cases h) ihb
            · exfalso; omega
          · intro c hc ihc
            replace ihc : G E (RepM Γ A o ad F X) 0 0 28 [some (.ref o), some (.int (nI h)), some (.int (nI li)), some (.int (nI gen)), some (.int (nI (loCc T h li gen a b (loB T h li gen a (loA T h li gen a) b) (c + 1)))), some (.int (nI a)), some (.int (nI b)), some (.int (nI (c + 1))), none, none, none, none] [] := ihc
            refine g_iload C dX4_leastOne_28 rfl ?_
            refine g_iload_n C dX4_leastOne_30 rfl rfl ?_
            refine gN_gt (a := c) (b := li) 190 C dX4_leastOne_31 rfl (by omega) (by omega) (fun c31 => ?_) (fun c31 => ?_)
            · exfalso; omega
            · refine g_iconst (v := 0) C dX4_leastOne_34 rfl ?_
              refine g_istore (lv' := [some (.ref o), some (.int (nI h)), some (.int (nI li)), some (.int (nI gen)), some (.int (nI (loCc T h li gen a b (loB T h li gen a (loA T h li gen a) b) c))), some (.int (nI a)), some (.int (nI b)), some (.int (nI c)), some (.int 0), none, none, none]) C dX4_leastOne_35 (by decide) rfl ?_
              refine g_for (P := fun d => G E (RepM Γ A o ad F X) 0 0 37 [some (.ref o), some (.int (nI h)), some (.int (nI li)), some (.int (nI gen)), some (.int (nI (loD T h li gen a b c (loCc T h li gen a b (loB T h li gen a (loA T h li gen a) b) c) d))), some (.int (nI a)), some (.int (nI b)), some (.int (nI c)), some (.int (nI d)), none, none, none] []) (li - c + 1) ?_ ?_ 0 (Nat.zero_le _)
              · refine g_iload C dX4_leastOne_37 rfl ?_
                refine g_iload C dX4_leastOne_39 rfl ?_
                refine g_iadd C dX4_leastOne_41 ?_
                refine g_topi (y := nI (c + (li - c + 1))) (nI_add c (li - c + 1)) ?_
                refine g_iload_n C dX4_leastOne_42 rfl rfl ?_
                refine gN_gt (a := c + (li - c + 1)) (b := li) 184 C dX4_leastOne_43 rfl (by omega) (by omega) (fun c43 => ?_) (fun c43 => ?_)
                · refine g_inc1 (x := c) (lv' := [some (.ref o), some (.int (nI h)), some (.int (nI li)), some (.int (nI gen)), some (.int (nI (loD T h li gen a b c (loCc T h li gen a b (loB T h li gen a (loA T h li gen a) b) c) (li - c + 1)))), some (.int (nI a)), some (.int (nI b)), some (.int (nI (c + 1))), some (.int (nI (li - c + 1))), none, none, none]) C dX4_leastOne_184 rfl (by decide) rfl ?_
                  refine g_goto 28 C dX4_leastOne_187 rfl ?_
                  exact g_lv (fun i w h => by match i, h with | 0, h => exact h | 1, h => exact h | 2, h => exact h | 3, h => exact h | 4, h => exact h | 5, h => exact h | 6, h => exact h | 7, h => exact h | 8, h => cases h | 9, h => cases h | 10, h => cases h | 11, h => cases h) ihc
                · exfalso; omega
              · intro d hd ihd
                replace ihd : G E (RepM Γ A o ad F X) 0 0 37 [some (.ref o), some (.int (nI h)), some (.int (nI li)), some (.int (nI gen)), some (.int (nI (loD T h li gen a b c (loCc T h li gen a b (loB T h li gen a (loA T h li gen a) b) c) (d + 1)))), some (.int (nI a)), some (.int (nI b)), some (.int (nI c)), some (.int (nI (d + 1))), none, none, none] [] := ihd
                have hacc := hle a b c d
                have j102 : G E (RepM Γ A o ad F X) 0 0 102 [some (.ref o), some (.int (nI h)), some (.int (nI li)), some (.int (nI gen)), some (.int (nI (loD T h li gen a b c (loCc T h li gen a b (loB T h li gen a (loA T h li gen a) b) c) d))), some (.int (nI a)), some (.int (nI b)), some (.int (nI c)), some (.int (nI d)), some (.int (nI (a + c) - nI b - nI d)), some (.int (b2i (tl1 h li a b c d))), none] [] := by
                  refine g_iload C dX4_leastOne_102 rfl ?_
                  refine g_if_eq 178 C dX4_leastOne_104 rfl (fun c104 => ?_) (fun c104 => ?_)
                  · replace c104 := b2i_F c104
                    refine g_inc1 (x := d) (lv' := [some (.ref o), some (.int (nI h)), some (.int (nI li)), some (.int (nI gen)), some (.int (nI (loD T h li gen a b c (loCc T h li gen a b (loB T h li gen a (loA T h li gen a) b) c) d))), some (.int (nI a)), some (.int (nI b)), some (.int (nI c)), some (.int (nI (d + 1))), some (.int (nI (a + c) - nI b - nI d)), some (.int (b2i (tl1 h li a b c d))), none]) C dX4_leastOne_178 rfl (by decide) rfl ?_
                    refine g_goto 37 C dX4_leastOne_181 rfl ?_
                    rw [show loD T h li gen a b c (loCc T h li gen a b (loB T h li gen a (loA T h li gen a) b) c) (d + 1) = loD T h li gen a b c (loCc T h li gen a b (loB T h li gen a (loA T h li gen a) b) c) d from (loD_s _ _ _ _ _ _ _ _ _).trans (stp1_no c104)] at ihd
                    exact g_lv (fun i w h => by match i, h with | 0, h => exact h | 1, h => exact h | 2, h => exact h | 3, h => exact h | 4, h => exact h | 5, h => exact h | 6, h => exact h | 7, h => exact h | 8, h => exact h | 9, h => cases h | 10, h => cases h | 11, h => cases h) ihd
                  · replace c104 := b2i_T c104
                    have e104 := c104
                    rw [tl1_d] at e104
                    simp only [Bool.and_eq_true, decide_eq_true_eq] at e104
                    have hw1 := hT99 (h - a - b) (li - c - d) (by omega)
                    have hw2 := hT99 a d (by omega)
                    have hw3 := hT99 b c (by omega)
                    have hwo : wo1 T h li a b c d ≤ 99 := Nat.max_le.mpr ⟨hw1, Nat.max_le.mpr ⟨hw2, hw3⟩⟩
                    have hadf : adf (a + c) (b + d) ≤ 24 := by unfold adf; split <;> omega
                    refine g_iload C dX4_leastOne_107 rfl ?_
                    refine g_pcall (rest := []) 1 C (ct_size B _) (lw_S q1992 q1993 q107 q1994) ⟨by decide, by decide, by decide +kernel⟩ ⟨Nat.le_of_ble_eq_true rfl, Nat.le_of_ble_eq_true rfl⟩ ⟨Nat.le_of_ble_eq_true rfl, Nat.le_of_ble_eq_true rfl⟩ rfl rfl (Nat.le_of_ble_eq_true rfl) dX4_leastOne_109 ?_
                    refine g_topi (y := nI (adf (a + c) (b + d))) (sz_adf (by omega) (by omega) (by omega)) ?_
                    refine g_iload_n C dX4_leastOne_112 rfl rfl ?_
                    refine gN_gt (a := adf (a + c) (b + d)) (b := gen) 178 C dX4_leastOne_113 rfl (by omega) (by omega) (fun c113 => ?_) (fun c113 => ?_)
                    · refine g_inc1 (x := d) (lv' := [some (.ref o), some (.int (nI h)), some (.int (nI li)), some (.int (nI gen)), some (.int (nI (loD T h li gen a b c (loCc T h li gen a b (loB T h li gen a (loA T h li gen a) b) c) d))), some (.int (nI a)), some (.int (nI b)), some (.int (nI c)), some (.int (nI (d + 1))), some (.int (nI (a + c) - nI b - nI d)), some (.int (b2i (tl1 h li a b c d))), none]) C dX4_leastOne_178 rfl (by decide) rfl ?_
                      refine g_goto 37 C dX4_leastOne_181 rfl ?_
                      rw [show loD T h li gen a b c (loCc T h li gen a b (loB T h li gen a (loA T h li gen a) b) c) (d + 1) = loD T h li gen a b c (loCc T h li gen a b (loB T h li gen a (loA T h li gen a) b) c) d from (loD_s _ _ _ _ _ _ _ _ _).trans (stp1_gt c104 c113)] at ihd
                      exact g_lv (fun i w h => by match i, h with | 0, h => exact h | 1, h => exact h | 2, h => exact h | 3, h => exact h | 4, h => exact h | 5, h => exact h | 6, h => exact h | 7, h => exact h | 8, h => exact h | 9, h => cases h | 10, h => cases h | 11, h => cases h) ihd
                    · refine g_aload_n C dX4_leastOne_116 rfl rfl ?_
                      refine g_iload_n C dX4_leastOne_117 rfl rfl ?_
                      refine g_iload C dX4_leastOne_118 rfl ?_
                      refine g_isub C dX4_leastOne_120 ?_
                      refine g_topi (y := nI (h - a)) (pk_sub (a := h) (b := a) (by omega)) ?_
                      refine g_iload C dX4_leastOne_121 rfl ?_
                      refine g_isub C dX4_leastOne_123 ?_
                      refine g_topi (y := nI ((h - a) - b)) (pk_sub (a := h - a) (b := b) (by omega)) ?_
                      refine g_iload_n C dX4_leastOne_124 rfl rfl ?_
                      refine g_iload C dX4_leastOne_125 rfl ?_
                      refine g_isub C dX4_leastOne_127 ?_
                      refine g_topi (y := nI (li - c)) (pk_sub (a := li) (b := c) (by omega)) ?_
                      refine g_iload C dX4_leastOne_128 rfl ?_
                      refine g_isub C dX4_leastOne_130 ?_
                      refine g_topi (y := nI ((li - c) - d)) (pk_sub (a := li - c) (b := d) (by omega)) ?_
                      refine g_mcall (rest := []) 2 C (ct_oneOf (F := F) (X := X) B ((h - a) - b) ((li - c) - d) (T1 T ((h - a) - b) ((li - c) - d)) (by omega) (by omega) (T1_self _ _ _) (fun z => by rw [T1_ge _ z]; exact hT _ _ z (by omega))) (lw_V q2133 q2135 qs79 q107 q2136) (by decide +kernel) ⟨Nat.le_of_ble_eq_true rfl, Nat.le_of_ble_eq_true rfl⟩ ⟨Nat.le_of_ble_eq_true rfl, Nat.le_of_ble_eq_true rfl⟩ rfl rfl (Nat.le_of_ble_eq_true rfl) dX4_leastOne_131 ?_
                      refine g_aload_n C dX4_leastOne_134 rfl rfl ?_
                      refine g_iload C dX4_leastOne_135 rfl ?_
                      refine g_iload C dX4_leastOne_137 rfl ?_
                      refine g_mcall (rest := [.int (nI (T1 T ((h - a) - b) ((li - c) - d)))]) 2 C (ct_oneOf (F := F) (X := X) B a d (T1 T a d) (by omega) (by omega) (T1_self _ _ _) (fun z => by rw [T1_ge _ z]; exact hT _ _ z (by omega))) (lw_V q2133 q2135 qs79 q107 q2136) (by decide +kernel) ⟨Nat.le_of_ble_eq_true rfl, Nat.le_of_ble_eq_true rfl⟩ ⟨Nat.le_of_ble_eq_true rfl, Nat.le_of_ble_eq_true rfl⟩ rfl rfl (Nat.le_of_ble_eq_true rfl) dX4_leastOne_139 ?_
                      refine g_aload_n C dX4_leastOne_142 rfl rfl ?_
                      refine g_iload C dX4_leastOne_143 rfl ?_
                      refine g_iload C dX4_leastOne_145 rfl ?_
                      refine g_mcall (rest := [.int (nI (T1 T a d)), .int (nI (T1 T ((h - a) - b) ((li - c) - d)))]) 2 C (ct_oneOf (F := F) (X := X) B b c (T1 T b c) (by omega) (by omega) (T1_self _ _ _) (fun z => by rw [T1_ge _ z]; exact hT _ _ z (by omega))) (lw_V q2133 q2135 qs79 q107 q2136) (by decide +kernel) ⟨Nat.le_of_ble_eq_true rfl, Nat.le_of_ble_eq_true rfl⟩ ⟨Nat.le_of_ble_eq_true rfl, Nat.le_of_ble_eq_true rfl⟩ rfl rfl (Nat.le_of_ble_eq_true rfl) dX4_leastOne_147 ?_
                      refine g_pcall (rest := [.int (nI (T1 T ((h - a) - b) ((li - c) - d)))]) 2 C (ct_worse B _ _) (lw_S q2137 q2138 q107 q2139) ⟨by decide, by decide, by decide +kernel⟩ ⟨Nat.le_of_ble_eq_true rfl, Nat.le_of_ble_eq_true rfl⟩ ⟨Nat.le_of_ble_eq_true rfl, Nat.le_of_ble_eq_true rfl⟩ rfl rfl (Nat.le_of_ble_eq_true rfl) dX4_leastOne_150 ?_
                      refine g_topi (y := nI (max (T1 T a d) (T1 T b c))) (mx_nI (by omega) (by omega)) ?_
                      refine g_pcall (rest := []) 2 C (ct_worse B _ _) (lw_S q2137 q2138 q107 q2139) ⟨by decide, by decide, by decide +kernel⟩ ⟨Nat.le_of_ble_eq_true rfl, Nat.le_of_ble_eq_true rfl⟩ ⟨Nat.le_of_ble_eq_true rfl, Nat.le_of_ble_eq_true rfl⟩ rfl rfl (Nat.le_of_ble_eq_true rfl) dX4_leastOne_153 ?_
                      refine g_topi (y := nI (wo1 T h li a b c d)) (mx_nI (by omega) (by omega)) ?_
                      refine g_istore (lv' := [some (.ref o), some (.int (nI h)), some (.int (nI li)), some (.int (nI gen)), some (.int (nI (loD T h li gen a b c (loCc T h li gen a b (loB T h li gen a (loA T h li gen a) b) c) d))), some (.int (nI a)), some (.int (nI b)), some (.int (nI c)), some (.int (nI d)), some (.int (nI (a + c) - nI b - nI d)), some (.int (b2i (tl1 h li a b c d))), some (.int (nI (wo1 T h li a b c d)))]) C dX4_leastOne_156 (by decide) rfl ?_
                      refine g_iload C dX4_leastOne_158 rfl ?_
                      refine g_iconst (v := 1) C dX4_leastOne_160 rfl ?_
                      refine g_iadd C dX4_leastOne_161 ?_
                      refine g_topi (y := nI (wo1 T h li a b c d + 1)) (nI_add (wo1 T h li a b c d) 1) ?_
                      refine g_iload C dX4_leastOne_162 rfl ?_
                      refine gN_ge (a := wo1 T h li a b c d + 1) (b := loD T h li gen a b c (loCc T h li gen a b (loB T h li gen a (loA T h li gen a) b) c) d) 174 C dX4_leastOne_164 rfl (by omega) (by omega) (fun c164 => ?_) (fun c164 => ?_)
                      · refine g_iload C dX4_leastOne_174 rfl ?_
                        refine g_istore (lv' := [some (.ref o), some (.int (nI h)), some (.int (nI li)), some (.int (nI gen)), some (.int (nI (loD T h li gen a b c (loCc T h li gen a b (loB T h li gen a (loA T h li gen a) b) c) d))), some (.int (nI a)), some (.int (nI b)), some (.int (nI c)), some (.int (nI d)), some (.int (nI (a + c) - nI b - nI d)), some (.int (b2i (tl1 h li a b c d))), some (.int (nI (wo1 T h li a b c d)))]) C dX4_leastOne_176 (by decide) rfl ?_
                        refine g_inc1 (x := d) (lv' := [some (.ref o), some (.int (nI h)), some (.int (nI li)), some (.int (nI gen)), some (.int (nI (loD T h li gen a b c (loCc T h li gen a b (loB T h li gen a (loA T h li gen a) b) c) d))), some (.int (nI a)), some (.int (nI b)), some (.int (nI c)), some (.int (nI (d + 1))), some (.int (nI (a + c) - nI b - nI d)), some (.int (b2i (tl1 h li a b c d))), some (.int (nI (wo1 T h li a b c d)))]) C dX4_leastOne_178 rfl (by decide) rfl ?_
                        refine g_goto 37 C dX4_leastOne_181 rfl ?_
                        rw [show loD T h li gen a b c (loCc T h li gen a b (loB T h li gen a (loA T h li gen a) b) c) (d + 1) = loD T h li gen a b c (loCc T h li gen a b (loB T h li gen a (loA T h li gen a) b) c) d from (loD_s _ _ _ _ _ _ _ _ _).trans (stp1_ge c104 c113 c164)] at ihd
                        exact g_lv (fun i w h => by match i, h with | 0, h => exact h | 1, h => exact h | 2, h => exact h | 3, h => exact h | 4, h => exact h | 5, h => exact h | 6, h => exact h | 7, h => exact h | 8, h => exact h | 9, h => cases h | 10, h => cases h | 11, h => cases h) ihd
                      · refine g_iload C dX4_leastOne_167 rfl ?_
                        refine g_iconst (v := 1) C dX4_leastOne_169 rfl ?_
                        refine g_iadd C dX4_leastOne_170 ?_
                        refine g_topi (y := nI (wo1 T h li a b c d + 1)) (nI_add (wo1 T h li a b c d) 1) ?_
                        refine g_goto 176 C dX4_leastOne_171 rfl ?_
                        refine g_istore (lv' := [some (.ref o), some (.int (nI h)), some (.int (nI li)), some (.int (nI gen)), some (.int (nI (wo1 T h li a b c d + 1))), some (.int (nI a)), some (.int (nI b)), some (.int (nI c)), some (.int (nI d)), some (.int (nI (a + c) - nI b - nI d)), some (.int (b2i (tl1 h li a b c d))), some (.int (nI (wo1 T h li a b c d)))]) C dX4_leastOne_176 (by decide) rfl ?_
                        refine g_inc1 (x := d) (lv' := [some (.ref o), some (.int (nI h)), some (.int (nI li)), some (.int (nI gen)), some (.int (nI (wo1 T h li a b c d + 1))), some (.int (nI a)), some (.int (nI b)), some (.int (nI c)), some (.int (nI (d + 1))), some (.int (nI (a + c) - nI b - nI d)), some (.int (b2i (tl1 h li a b c d))), some (.int (nI (wo1 T h li a b c d)))]) C dX4_leastOne_178 rfl (by decide) rfl ?_
                        refine g_goto 37 C dX4_leastOne_181 rfl ?_
                        rw [show loD T h li gen a b c (loCc T h li gen a b (loB T h li gen a (loA T h li gen a) b) c) (d + 1) = wo1 T h li a b c d + 1 from (loD_s _ _ _ _ _ _ _ _ _).trans (stp1_lt c104 c113 c164)] at ihd
                        exact g_lv (fun i w h => by match i, h with | 0, h => exact h | 1, h => exact h | 2, h => exact h | 3, h => exact h | 4, h => exact h | 5, h => exact h | 6, h => exact h | 7, h => exact h | 8, h => exact h | 9, h => cases h | 10, h => cases h | 11, h => cases h) ihd
                refine g_iload C dX4_leastOne_37 rfl ?_
                refine g_iload C dX4_leastOne_39 rfl ?_
                refine g_iadd C dX4_leastOne_41 ?_
                refine g_topi (y := nI (c + d)) (nI_add c d) ?_
                refine g_iload_n C dX4_leastOne_42 rfl rfl ?_
                refine gN_gt (a := c + d) (b := li) 184 C dX4_leastOne_43 rfl (by omega) (by omega) (fun c43 => ?_) (fun c43 => ?_)
                · exfalso; omega
                · refine g_iload C dX4_leastOne_46 rfl ?_
                  refine g_iload C dX4_leastOne_48 rfl ?_
                  refine g_iadd C dX4_leastOne_50 ?_
                  refine g_topi (y := nI (a + c)) (nI_add a c) ?_
                  refine g_iload C dX4_leastOne_51 rfl ?_
                  refine g_isub C dX4_leastOne_53 ?_
                  refine g_iload C dX4_leastOne_54 rfl ?_
                  refine g_isub C dX4_leastOne_56 ?_
                  refine g_istore (lv' := [some (.ref o), some (.int (nI h)), some (.int (nI li)), some (.int (nI gen)), some (.int (nI (loD T h li gen a b c (loCc T h li gen a b (loB T h li gen a (loA T h li gen a) b) c) d))), some (.int (nI a)), some (.int (nI b)), some (.int (nI c)), some (.int (nI d)), some (.int (((nI (a + c)) - (nI b)) - (nI d))), none, none]) C dX4_leastOne_57 (by decide) rfl ?_
                  refine g_iload C dX4_leastOne_59 rfl ?_
                  refine g_iload C dX4_leastOne_61 rfl ?_
                  refine g_iadd C dX4_leastOne_63 ?_
                  refine g_topi (y := nI (a + d)) (nI_add a d) ?_
                  refine g_iload_n C dX4_leastOne_64 rfl rfl ?_
                  refine g_iload_n C dX4_leastOne_65 rfl rfl ?_
                  refine g_iadd C dX4_leastOne_66 ?_
                  refine g_topi (y := nI (h + li)) (nI_add h li) ?_
                  refine gN_ge (a := a + d) (b := h + li) 99 C dX4_leastOne_67 rfl (by omega) (by omega) (fun c67 => ?_) (fun c67 => ?_)
                  · refine g_iconst (v := 0) C dX4_leastOne_99 rfl ?_
                    refine g_topi (y := b2i (tl1 h li a b c d)) (by simp only [tl1_d, b2i, decide_eq_false (Nat.not_lt.mpr c67), Bool.not_true, Bool.not_false, Bool.or_true, Bool.true_or, Bool.or_false, Bool.false_or, Bool.and_true, Bool.true_and, Bool.and_false, Bool.false_and, if_true, reduceCtorEq, if_false, Bool.false_eq_true]) ?_
                    refine g_istore (lv' := [some (.ref o), some (.int (nI h)), some (.int (nI li)), some (.int (nI gen)), some (.int (nI (loD T h li gen a b c (loCc T h li gen a b (loB T h li gen a (loA T h li gen a) b) c) d))), some (.int (nI a)), some (.int (nI b)), some (.int (nI c)), some (.int (nI d)), some (.int (((nI (a + c)) - (nI b)) - (nI d))), some (.int (b2i (tl1 h li a b c d))), none]) C dX4_leastOne_100 (by decide) rfl ?_
                    exact j102
                  · refine g_iload C dX4_leastOne_70 rfl ?_
                    refine g_iload C dX4_leastOne_72 rfl ?_
                    refine g_iadd C dX4_leastOne_74 ?_
                    refine g_topi (y := nI (b + c)) (nI_add b c) ?_
                    refine g_iload_n C dX4_leastOne_75 rfl rfl ?_
                    refine g_iload_n C dX4_leastOne_76 rfl rfl ?_
                    refine g_iadd C dX4_leastOne_77 ?_
                    refine g_topi (y := nI (h + li)) (nI_add h li) ?_
                    refine gN_ge (a := b + c) (b := h + li) 99 C dX4_leastOne_78 rfl (by omega) (by omega) (fun c78 => ?_) (fun c78 => ?_)
                    · refine g_iconst (v := 0) C dX4_leastOne_99 rfl ?_
                      refine g_topi (y := b2i (tl1 h li a b c d)) (by simp only [tl1_d, b2i, decide_eq_true c67, decide_eq_false (Nat.not_lt.mpr c78), Bool.not_true, Bool.not_false, Bool.or_true, Bool.true_or, Bool.or_false, Bool.false_or, Bool.and_true, Bool.true_and, Bool.and_false, Bool.false_and, if_true, reduceCtorEq, if_false, Bool.false_eq_true]) ?_
                      refine g_istore (lv' := [some (.ref o), some (.int (nI h)), some (.int (nI li)), some (.int (nI gen)), some (.int (nI (loD T h li gen a b c (loCc T h li gen a b (loB T h li gen a (loA T h li gen a) b) c) d))), some (.int (nI a)), some (.int (nI b)), some (.int (nI c)), some (.int (nI d)), some (.int (((nI (a + c)) - (nI b)) - (nI d))), some (.int (b2i (tl1 h li a b c d))), none]) C dX4_leastOne_100 (by decide) rfl ?_
                      exact j102
                    · refine g_iload C dX4_leastOne_81 rfl ?_
                      refine g_iload C dX4_leastOne_83 rfl ?_
                      refine g_iadd C dX4_leastOne_85 ?_
                      refine g_topi (y := nI (a + b)) (nI_add a b) ?_
                      refine g_iload C dX4_leastOne_86 rfl ?_
                      refine g_iadd C dX4_leastOne_88 ?_
                      refine g_topi (y := nI (a + b + c)) (nI_add (a + b) c) ?_
                      refine g_iload C dX4_leastOne_89 rfl ?_
                      refine g_iadd C dX4_leastOne_91 ?_
                      refine g_topi (y := nI (a + b + c + d)) (nI_add (a + b + c) d) ?_
                      refine g_if_le 99 C dX4_leastOne_92 rfl (fun c92 => ?_) (fun c92 => ?_)
                      · refine g_iconst (v := 0) C dX4_leastOne_99 rfl ?_
                        refine g_topi (y := b2i (tl1 h li a b c d)) (by simp only [tl1_d, b2i, decide_eq_true c67, decide_eq_true c78, decide_eq_false (Nat.not_lt.mpr (pos_le c92 (by omega))), Bool.not_true, Bool.not_false, Bool.or_true, Bool.true_or, Bool.or_false, Bool.false_or, Bool.and_true, Bool.true_and, Bool.and_false, Bool.false_and, if_true, reduceCtorEq, if_false, Bool.false_eq_true]) ?_
                        refine g_istore (lv' := [some (.ref o), some (.int (nI h)), some (.int (nI li)), some (.int (nI gen)), some (.int (nI (loD T h li gen a b c (loCc T h li gen a b (loB T h li gen a (loA T h li gen a) b) c) d))), some (.int (nI a)), some (.int (nI b)), some (.int (nI c)), some (.int (nI d)), some (.int (((nI (a + c)) - (nI b)) - (nI d))), some (.int (b2i (tl1 h li a b c d))), none]) C dX4_leastOne_100 (by decide) rfl ?_
                        exact j102
                      · refine g_iconst (v := 1) C dX4_leastOne_95 rfl ?_
                        refine g_goto 100 C dX4_leastOne_96 rfl ?_
                        refine g_topi (y := b2i (tl1 h li a b c d)) (by simp only [tl1_d, b2i, decide_eq_true c67, decide_eq_true c78, decide_eq_true (pos_lt c92 (by omega)), Bool.not_true, Bool.not_false, Bool.or_true, Bool.true_or, Bool.or_false, Bool.false_or, Bool.and_true, Bool.true_and, Bool.and_false, Bool.false_and, if_true, reduceCtorEq, if_false, Bool.false_eq_true]) ?_
                        refine g_istore (lv' := [some (.ref o), some (.int (nI h)), some (.int (nI li)), some (.int (nI gen)), some (.int (nI (loD T h li gen a b c (loCc T h li gen a b (loB T h li gen a (loA T h li gen a) b) c) d))), some (.int (nI a)), some (.int (nI b)), some (.int (nI c)), some (.int (nI d)), some (.int (((nI (a + c)) - (nI b)) - (nI d))), some (.int (b2i (tl1 h li a b c d))), none]) C dX4_leastOne_100 (by decide) rfl ?_
                        exact j102
set_option maxHeartbeats 2000000 in
set_option maxRecDepth 100000 in
theorem ct_leastBoth {l : Launch} {Γ : Gm} {A : Nat → Prop} {ρ : State → Prop} (B : Bs l A ρ) {o : Nat} {ad : Nat → Nat} {F : Nat → Int32} {X : Nat → Nat → Int32} (T : Nat → Nat → Nat) (Bt : Nat → Nat) (u g gen n : Nat) (hu : u ≤ 12) (hgg : g ≤ 1) (hg : gen ≤ 12) (hun : u ≤ n) (hT : ∀ p q, 2 ≤ p + q → p + q ≤ n → X 38 (13 * p + q) = nI (T p q)) (hT99 : ∀ p q, p + q ≤ n → T1 T p q ≤ 99) (hB : ∀ p, p < u → 2 ≤ 2 * p + g → X 39 (2 * p + g) = nI (Bt p)) (hB99 : ∀ p, p < u → B1 Bt p g ≤ 99) : CtM l Γ A ρ yX4_leastBoth cX4_leastBoth 8 (some .int) 1 22 o ad [.ref o, .int (nI u), .int (nI g), .int (nI gen)] F X (some (.int (nI (lb1 T Bt u g gen)))) F X := by
  refine Ct.of B.1 B.2 (by decide) [some (.ref o), some (.int (nI u)), some (.int (nI g)), some (.int (nI gen)), none, none, none, none] (Nat.le_of_ble_eq_true rfl) rfl ?_
  intro E hE C R
  subst hE
  have hle : ∀ a b, lbB T Bt u g gen a (lbA T Bt u g gen a) b ≤ 99 := fun a b => lbB_le _ _ _ _ _ _ (lbA_le _ _ _ _ _ _) _
  refine g_bipush (v := 99) C dX4_leastBoth_0 rfl ?_
  refine g_istore (lv' := [some (.ref o), some (.int (nI u)), some (.int (nI g)), some (.int (nI gen)), some (.int 99), none, none, none]) C dX4_leastBoth_2 (by decide) rfl ?_
  refine g_iconst (v := 0) C dX4_leastBoth_4 rfl ?_
  refine g_istore (lv' := [some (.ref o), some (.int (nI u)), some (.int (nI g)), some (.int (nI gen)), some (.int 99), some (.int 0), none, none]) C dX4_leastBoth_5 (by decide) rfl ?_
  refine g_for (P := fun a => G E (RepM Γ A o ad F X) 0 0 7 [some (.ref o), some (.int (nI u)), some (.int (nI g)), some (.int (nI gen)), some (.int (nI (lbA T Bt u g gen a))), some (.int (nI a)), none, none] []) (u + 1) ?_ ?_ 0 (Nat.zero_le _)
  · refine g_iload C dX4_leastBoth_7 rfl ?_
    refine g_iload_n C dX4_leastBoth_9 rfl rfl ?_
    refine gN_gt (a := (u + 1)) (b := u) 113 C dX4_leastBoth_10 rfl (by omega) (by omega) (fun c10 => ?_) (fun c10 => ?_)
    · refine g_iload C dX4_leastBoth_113 rfl ?_
      exact g_iret C R (Nat.le_refl _) (Nat.le_refl _) dX4_leastBoth_115 (fun H h => ⟨rfl, h⟩)
    · exfalso; omega
  · intro a ha iha
    replace iha : G E (RepM Γ A o ad F X) 0 0 7 [some (.ref o), some (.int (nI u)), some (.int (nI g)), some (.int (nI gen)), some (.int (nI (lbA T Bt u g gen (a + 1)))), some (.int (nI (a + 1))), none, none] [] := iha
    refine g_iload C dX4_leastBoth_7 rfl ?_
    refine g_iload_n C dX4_leastBoth_9 rfl rfl ?_
    refine gN_gt (a := a) (b := u) 113 C dX4_leastBoth_10 rfl (by omega) (by omega) (fun c10 => ?_) (fun c10 => ?_)
    · exfalso; omega
    · refine g_iconst (v := 0) C dX4_leastBoth_13 rfl ?_
      refine g_istore (lv' := [some (.ref o), some (.int (nI u)), some (.int (nI g)), some (.int (nI gen)), some (.int (nI (lbA T Bt u g gen a))), some (.int (nI a)), some (.int 0), none]) C dX4_leastBoth_14 (by decide) rfl ?_
      refine g_for (P := fun b => G E (RepM Γ A o ad F X) 0 0 16 [some (.ref o), some (.int (nI u)), some (.int (nI g)), some (.int (nI gen)), some (.int (nI (lbB T Bt u g gen a (lbA T Bt u g gen a) b))), some (.int (nI a)), some (.int (nI b)), none] []) (u - a + 1) ?_ ?_ 0 (Nat.zero_le _)
      · refine g_iload C dX4_leastBoth_16 rfl ?_
        refine g_iload C dX4_leastBoth_18 rfl ?_
        refine g_iadd C dX4_leastBoth_20 ?_
        refine g_topi (y := nI (a + (u - a + 1))) (nI_add a (u - a + 1)) ?_
        refine g_iload_n C dX4_leastBoth_21 rfl rfl ?_
        refine gN_gt (a := a + (u - a + 1)) (b := u) 107 C dX4_leastBoth_22 rfl (by omega) (by omega) (fun c22 => ?_) (fun c22 => ?_)
        · refine g_inc1 (x := a) (lv' := [some (.ref o), some (.int (nI u)), some (.int (nI g)), some (.int (nI gen)), some (.int (nI (lbB T Bt u g gen a (lbA T Bt u g gen a) (u - a + 1)))), some (.int (nI (a + 1))), some (.int (nI (u - a + 1))), none]) C dX4_leastBoth_107 rfl (by decide) rfl ?_
          refine g_goto 7 C dX4_leastBoth_110 rfl ?_
          exact g_lv (fun i w h => by match i, h with | 0, h => exact h | 1, h => exact h | 2, h => exact h | 3, h => exact h | 4, h => exact h | 5, h => exact h | 6, h => cases h | 7, h => cases h) iha
        · exfalso; omega
      · intro b hb ihb
        replace ihb : G E (RepM Γ A o ad F X) 0 0 16 [some (.ref o), some (.int (nI u)), some (.int (nI g)), some (.int (nI gen)), some (.int (nI (lbB T Bt u g gen a (lbA T Bt u g gen a) (b + 1)))), some (.int (nI a)), some (.int (nI (b + 1))), none] [] := ihb
        have hacc := hle a b
        have hadf : adf a b ≤ 24 := by unfold adf; split <;> omega
        refine g_iload C dX4_leastBoth_16 rfl ?_
        refine g_iload C dX4_leastBoth_18 rfl ?_
        refine g_iadd C dX4_leastBoth_20 ?_
        refine g_topi (y := nI (a + b)) (nI_add a b) ?_
        refine g_iload_n C dX4_leastBoth_21 rfl rfl ?_
        refine gN_gt (a := a + b) (b := u) 107 C dX4_leastBoth_22 rfl (by omega) (by omega) (fun c22 => ?_) (fun c22 => ?_)
        · exfalso; omega
        · refine g_iload C dX4_leastBoth_25 rfl ?_
          refine g_iload C dX4_leastBoth_27 rfl ?_
          refine g_iadd C dX4_leastBoth_29 ?_
          refine g_topi (y := nI (a + b)) (nI_add a b) ?_
          refine g_if_le 101 C dX4_leastBoth_30 rfl (fun c30 => ?_) (fun c30 => ?_)
          · refine g_inc1 (x := b) (lv' := [some (.ref o), some (.int (nI u)), some (.int (nI g)), some (.int (nI gen)), some (.int (nI (lbB T Bt u g gen a (lbA T Bt u g gen a) b))), some (.int (nI a)), some (.int (nI (b + 1))), none]) C dX4_leastBoth_101 rfl (by decide) rfl ?_
            refine g_goto 16 C dX4_leastBoth_104 rfl ?_
            rw [show lbB T Bt u g gen a (lbA T Bt u g gen a) (b + 1) = lbB T Bt u g gen a (lbA T Bt u g gen a) b from (lbB_s _ _ _ _ _ _ _ _).trans (stpB_no (pos_le c30 (by omega)))] at ihb
            exact g_lv (fun i w h => by match i, h with | 0, h => exact h | 1, h => exact h | 2, h => exact h | 3, h => exact h | 4, h => exact h | 5, h => exact h | 6, h => exact h | 7, h => cases h) ihb
          · refine g_iload C dX4_leastBoth_33 rfl ?_
            refine g_iload C dX4_leastBoth_35 rfl ?_
            refine g_isub C dX4_leastBoth_37 ?_
            refine g_pcall (rest := []) 1 C (ct_size B _) (lw_S q1992 q1993 q107 q1994) ⟨by decide, by decide, by decide +kernel⟩ ⟨Nat.le_of_ble_eq_true rfl, Nat.le_of_ble_eq_true rfl⟩ ⟨Nat.le_of_ble_eq_true rfl, Nat.le_of_ble_eq_true rfl⟩ rfl rfl (Nat.le_of_ble_eq_true rfl) dX4_leastBoth_38 ?_
            refine g_topi (y := nI (adf a b)) (sz_adf2 (by omega) (by omega)) ?_
            refine g_iload_n C dX4_leastBoth_41 rfl rfl ?_
            refine gN_gt (a := adf a b) (b := gen) 101 C dX4_leastBoth_42 rfl (by omega) (by omega) (fun c42 => ?_) (fun c42 => ?_)
            · refine g_inc1 (x := b) (lv' := [some (.ref o), some (.int (nI u)), some (.int (nI g)), some (.int (nI gen)), some (.int (nI (lbB T Bt u g gen a (lbA T Bt u g gen a) b))), some (.int (nI a)), some (.int (nI (b + 1))), none]) C dX4_leastBoth_101 rfl (by decide) rfl ?_
              refine g_goto 16 C dX4_leastBoth_104 rfl ?_
              rw [show lbB T Bt u g gen a (lbA T Bt u g gen a) (b + 1) = lbB T Bt u g gen a (lbA T Bt u g gen a) b from (lbB_s _ _ _ _ _ _ _ _).trans (stpB_gt c42)] at ihb
              exact g_lv (fun i w h => by match i, h with | 0, h => exact h | 1, h => exact h | 2, h => exact h | 3, h => exact h | 4, h => exact h | 5, h => exact h | 6, h => exact h | 7, h => cases h) ihb
            · have hp0 := pos_lt c30 (by omega)
              have hw1 := hB99 (u - a - b) (by omega)
              have hw2 := hT99 a b (by omega)
              have hw3 := hT99 b a (by omega)
              have hwo : woB T Bt u g a b ≤ 99 := Nat.max_le.mpr ⟨hw1, Nat.max_le.mpr ⟨hw2, hw3⟩⟩
              refine g_aload_n C dX4_leastBoth_45 rfl rfl ?_
              refine g_iload_n C dX4_leastBoth_46 rfl rfl ?_
              refine g_iload C dX4_leastBoth_47 rfl ?_
              refine g_isub C dX4_leastBoth_49 ?_
              refine g_topi (y := nI (u - a)) (pk_sub (a := u) (b := a) (by omega)) ?_
              refine g_iload C dX4_leastBoth_50 rfl ?_
              refine g_isub C dX4_leastBoth_52 ?_
              refine g_topi (y := nI ((u - a) - b)) (pk_sub (a := u - a) (b := b) (by omega)) ?_
              refine g_iload_n C dX4_leastBoth_53 rfl rfl ?_
              refine g_mcall (rest := []) 2 C (ct_bothOf (F := F) (X := X) B ((u - a) - b) g (B1 Bt ((u - a) - b) g) (by omega) (by omega) (B1_self _ _ _) (fun z => by rw [B1_ge _ z]; exact hB _ (by omega) z)) (lw_V q2144 q2146 qs81 q107 q2147) (by decide +kernel) ⟨Nat.le_of_ble_eq_true rfl, Nat.le_of_ble_eq_true rfl⟩ ⟨Nat.le_of_ble_eq_true rfl, Nat.le_of_ble_eq_true rfl⟩ rfl rfl (Nat.le_of_ble_eq_true rfl) dX4_leastBoth_54 ?_
              refine g_aload_n C dX4_leastBoth_57 rfl rfl ?_
              refine g_iload C dX4_leastBoth_58 rfl ?_
              refine g_iload C dX4_leastBoth_60 rfl ?_
              refine g_mcall (rest := [.int (nI (B1 Bt ((u - a) - b) g))]) 2 C (ct_oneOf (F := F) (X := X) B a b (T1 T a b) (by omega) (by omega) (T1_self _ _ _) (fun z => by rw [T1_ge _ z]; exact hT _ _ z (by omega))) (lw_V q2133 q2135 qs79 q107 q2136) (by decide +kernel) ⟨Nat.le_of_ble_eq_true rfl, Nat.le_of_ble_eq_true rfl⟩ ⟨Nat.le_of_ble_eq_true rfl, Nat.le_of_ble_eq_true rfl⟩ rfl rfl (Nat.le_of_ble_eq_true rfl) dX4_leastBoth_62 ?_
              refine g_aload_n C dX4_leastBoth_65 rfl rfl ?_
              refine g_iload C dX4_leastBoth_66 rfl ?_
              refine g_iload C dX4_leastBoth_68 rfl ?_
              refine g_mcall (rest := [.int (nI (T1 T a b)), .int (nI (B1 Bt ((u - a) - b) g))]) 2 C (ct_oneOf (F := F) (X := X) B b a (T1 T b a) (by omega) (by omega) (T1_self _ _ _) (fun z => by rw [T1_ge _ z]; exact hT _ _ z (by omega))) (lw_V q2133 q2135 qs79 q107 q2136) (by decide +kernel) ⟨Nat.le_of_ble_eq_true rfl, Nat.le_of_ble_eq_true rfl⟩ ⟨Nat.le_of_ble_eq_true rfl, Nat.le_of_ble_eq_true rfl⟩ rfl rfl (Nat.le_of_ble_eq_true rfl) dX4_leastBoth_70 ?_
              refine g_pcall (rest := [.int (nI (B1 Bt ((u - a) - b) g))]) 2 C (ct_worse B _ _) (lw_S q2137 q2138 q107 q2139) ⟨by decide, by decide, by decide +kernel⟩ ⟨Nat.le_of_ble_eq_true rfl, Nat.le_of_ble_eq_true rfl⟩ ⟨Nat.le_of_ble_eq_true rfl, Nat.le_of_ble_eq_true rfl⟩ rfl rfl (Nat.le_of_ble_eq_true rfl) dX4_leastBoth_73 ?_
              refine g_topi (y := nI (max (T1 T a b) (T1 T b a))) (mx_nI (by omega) (by omega)) ?_
              refine g_pcall (rest := []) 2 C (ct_worse B _ _) (lw_S q2137 q2138 q107 q2139) ⟨by decide, by decide, by decide +kernel⟩ ⟨Nat.le_of_ble_eq_true rfl, Nat.le_of_ble_eq_true rfl⟩ ⟨Nat.le_of_ble_eq_true rfl, Nat.le_of_ble_eq_true rfl⟩ rfl rfl (Nat.le_of_ble_eq_true rfl) dX4_leastBoth_76 ?_
              refine g_topi (y := nI (woB T Bt u g a b)) (mx_nI (by omega) (by omega)) ?_
              refine g_istore (lv' := [some (.ref o), some (.int (nI u)), some (.int (nI g)), some (.int (nI gen)), some (.int (nI (lbB T Bt u g gen a (lbA T Bt u g gen a) b))), some (.int (nI a)), some (.int (nI b)), some (.int (nI (woB T Bt u g a b)))]) C dX4_leastBoth_79 (by decide) rfl ?_
              refine g_iload C dX4_leastBoth_81 rfl ?_
              refine g_iconst (v := 1) C dX4_leastBoth_83 rfl ?_
              refine g_iadd C dX4_leastBoth_84 ?_
              refine g_topi (y := nI (woB T Bt u g a b + 1)) (nI_add (woB T Bt u g a b) 1) ?_
              refine g_iload C dX4_leastBoth_85 rfl ?_
              refine gN_ge (a := woB T Bt u g a b + 1) (b := lbB T Bt u g gen a (lbA T Bt u g gen a) b) 97 C dX4_leastBoth_87 rfl (by omega) (by omega) (fun c87 => ?_) (fun c87 => ?_)
              · refine g_iload C dX4_leastBoth_97 rfl ?_
                refine g_istore (lv' := [some (.ref o), some (.int (nI u)), some (.int (nI g)), some (.int (nI gen)), some (.int (nI (lbB T Bt u g gen a (lbA T Bt u g gen a) b))), some (.int (nI a)), some (.int (nI b)), some (.int (nI (woB T Bt u g a b)))]) C dX4_leastBoth_99 (by decide) rfl ?_
                refine g_inc1 (x := b) (lv' := [some (.ref o), some (.int (nI u)), some (.int (nI g)), some (.int (nI gen)), some (.int (nI (lbB T Bt u g gen a (lbA T Bt u g gen a) b))), some (.int (nI a)), some (.int (nI (b + 1))), some (.int (nI (woB T Bt u g a b)))]) C dX4_leastBoth_101 rfl (by decide) rfl ?_
                refine g_goto 16 C dX4_leastBoth_104 rfl ?_
                rw [show lbB T Bt u g gen a (lbA T Bt u g gen a) (b + 1) = lbB T Bt u g gen a (lbA T Bt u g gen a) b from (lbB_s _ _ _ _ _ _ _ _).trans (stpB_ge (pos_lt c30 (by omega)) c42 c87)] at ihb
                exact g_lv (fun i w h => by match i, h with | 0, h => exact h | 1, h => exact h | 2, h => exact h | 3, h => exact h | 4, h => exact h | 5, h => exact h | 6, h => exact h | 7, h => cases h) ihb
              · refine g_iload C dX4_leastBoth_90 rfl ?_
                refine g_iconst (v := 1) C dX4_leastBoth_92 rfl ?_
                refine g_iadd C dX4_leastBoth_93 ?_
                refine g_topi (y := nI (woB T Bt u g a b + 1)) (nI_add (woB T Bt u g a b) 1) ?_
                refine g_goto 99 C dX4_leastBoth_94 rfl ?_
                refine g_istore (lv' := [some (.ref o), some (.int (nI u)), some (.int (nI g)), some (.int (nI gen)), some (.int (nI (woB T Bt u g a b + 1))), some (.int (nI a)), some (.int (nI b)), some (.int (nI (woB T Bt u g a b)))]) C dX4_leastBoth_99 (by decide) rfl ?_
                refine g_inc1 (x := b) (lv' := [some (.ref o), some (.int (nI u)), some (.int (nI g)), some (.int (nI gen)), some (.int (nI (woB T Bt u g a b + 1))), some (.int (nI a)), some (.int (nI (b + 1))), some (.int (nI (woB T Bt u g a b)))]) C dX4_leastBoth_101 rfl (by decide) rfl ?_
                refine g_goto 16 C dX4_leastBoth_104 rfl ?_
                rw [show lbB T Bt u g gen a (lbA T Bt u g gen a) (b + 1) = woB T Bt u g a b + 1 from (lbB_s _ _ _ _ _ _ _ _).trans (stpB_lt (pos_lt c30 (by omega)) c42 c87)] at ihb
                exact g_lv (fun i w h => by match i, h with | 0, h => exact h | 1, h => exact h | 2, h => exact h | 3, h => exact h | 4, h => exact h | 5, h => exact h | 6, h => exact h | 7, h => cases h) ihb
