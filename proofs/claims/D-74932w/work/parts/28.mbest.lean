theorem pcI_lt (x : Int32) : pcI x < 2 ^ 31 := Nat.lt_of_le_of_lt (pcI_le x) (by decide)
theorem bhE_lt {X : Nat → Nat → Int32} {e : Nat} (hg : geE X e ≤ 1) (l r : Int32) : bhE X e l r < 2 ^ 31 := by
  have h : bhE X e l r ≤ 99 := by
    unfold bhE bhN
    split
    · omega
    · split
      · omega
      · split
        · omega
        · exact Nat.max_le.mpr ⟨neN_le _ _ _ hg, Nat.max_le.mpr ⟨neN_le _ _ _ (Nat.zero_le 1), neN_le _ _ _ (Nat.zero_le 1)⟩⟩
  omega
theorem bsK_hit {X : Nat → Nat → Int32} {e k L r : Nat} (hk : k ≤ 6) (hL : L < 4096) (hr : r < 4096) (h : bq X e k L r = true) (i1 : ∀ k' L' r', k' < k → bq X e k' L' r' = false) (i2 : ∀ L' r', L' < L → bq X e k L' r' = false) (i3 : ∀ r', r' < r → bq X e k L r' = false) : bsK X e = 16777216 * k + 4096 * L + r := by
  refine fstN_some (by omega) (by rw [bk_key hL hr]; exact h) fun j hj => ?_
  unfold bk
  by_cases c1 : j / 16777216 < k
  · exact i1 _ _ _ c1
  · have e1 : j / 16777216 = k := by omega
    rw [e1]
    by_cases c2 : j / 4096 % 4096 < L
    · exact i2 _ _ c2
    · have e2 : j / 4096 % 4096 = L := by omega
      rw [e2]
      exact i3 _ (by omega)
theorem bsK_none {X : Nat → Nat → Int32} {e : Nat} (h : ∀ k L r, bq X e k L r = false) : bsK X e = 117440512 := fstN_none fun j _ => h _ _ _
theorem bq_F {X : Nat → Nat → Int32} {e k L r : Nat} (h : ¬ (ndE X e < 99 ∧ 1 ≤ k ∧ L < 2 ^ wtE X e ∧ pcN L = k ∧ 1 ≤ r ∧ r < 2 ^ wtE X e ∧ r &&& L = 0 ∧ pcN r = k ∧ bhE X e (nI L) (nI r) + 1 = ndE X e)) : bq X e k L r = false := by
  cases z : bq X e k L r with
  | false => rfl
  | true => exact absurd (bq_out z) h
theorem bq_big {X : Nat → Nat → Int32} {e k L r : Nat} (h : wtE X e < 2 * k) : bq X e k L r = false := bq_F fun z => by
  have := pcN_disj (wtE X e) r L z.2.2.2.2.2.1 z.2.2.1 z.2.2.2.2.2.2.1
  omega
theorem bl_none {X : Nat → Nat → Int32} {e : Nat} (h : ∀ k L r, bq X e k L r = false) : blI X e = -2 ∧ brI X e = -2 := by
  have := bsK_none h
  unfold blI brI
  rw [this, if_neg (by omega)]
  exact ⟨rfl, rfl⟩
theorem bl_hit {X : Nat → Nat → Int32} {e k L r : Nat} (hk : k ≤ 6) (hL : L < 4096) (hr : r < 4096) (h : bq X e k L r = true) (i1 : ∀ k' L' r', k' < k → bq X e k' L' r' = false) (i2 : ∀ L' r', L' < L → bq X e k L' r' = false) (i3 : ∀ r', r' < r → bq X e k L r' = false) : blI X e = nI L ∧ brI X e = nI r := by
  have e1 := bsK_hit hk hL hr h i1 i2 i3
  unfold blI brI
  rw [e1, if_pos (by omega), if_pos (by omega), show (16777216 * k + 4096 * L + r) / 4096 % 4096 = L by omega, show (16777216 * k + 4096 * L + r) % 4096 = r by omega]
  exact ⟨rfl, rfl⟩
set_option maxHeartbeats 4000000 in
set_option maxRecDepth 100000 in
theorem ct_best {l : Launch} {Γ : Gm} {A : Nat → Prop} {ρ : State → Prop} (B : Bs l A ρ) {o : Nat} {ad : Nat → Nat} {F : Nat → Int32} {X : Nat → Nat → Int32} {nt ns nm ne nv nu ln : Nat} (J : Iv F X nt ns nm ne nv nu ln) (e : Nat) (he : e < ne) : CtM l Γ A ρ yX4_best cX4_best 8 (some .int) 4 97 o ad [.ref o, .int (nI e)] F X (some (.int (blI X e))) (upd F 40 (brI X e)) (layX X (wtE X e)) := by
  refine Ct.of B.1 B.2 (by decide) [some (.ref o), some (.int (nI e)), none, none, none, none, none, none] (Nat.le_of_ble_eq_true rfl) rfl ?_
  intro E hE C R
  subst hE
  have he_ := J.le
  obtain ⟨hw2, hw12, ew, hmm, hml, eg, hg⟩ := J.wt he
  have hO := fun p q (e1 : 2 ≤ p + q) (e2 : p + q ≤ wtE X e) => layX_O (X := X) (n := wtE X e) hw12 e1 e2
  have hB := fun u g (e0 : g ≤ 1) (e1 : 2 ≤ 2 * u + g) (e2 : u ≤ wtE X e) => layX_B (X := X) (n := wtE X e) e0 e1 e2
  have hp := pow12 hw12
  have hnd := ndE_le (X := X) (e := e) hg
  have hpp := Nat.two_pow_pos (wtE X e)
  refine g_aload_n C dX4_best_0 rfl rfl ?_
  refine g_iload_n C dX4_best_1 rfl rfl ?_
  refine g_mcall (rest := []) 1 C (ct_needed (F := F) (X := X) B J e (by omega)) (lw_V q2121 q2123 qs76 q107 q2124) (by decide +kernel) ⟨Nat.le_of_ble_eq_true rfl, Nat.le_of_ble_eq_true rfl⟩ ⟨Nat.le_of_ble_eq_true rfl, Nat.le_of_ble_eq_true rfl⟩ rfl rfl (Nat.le_of_ble_eq_true rfl) dX4_best_2 ?_
  refine g_istore_n (lv' := [some (.ref o), some (.int (nI e)), some (.int (nI (ndE X e))), none, none, none, none, none]) C dX4_best_5 rfl (by decide) rfl ?_
  refine g_aload_n C dX4_best_6 rfl rfl ?_
  refine g_bipush (v := (-2)) C dX4_best_7 rfl ?_
  refine mp_40 C dX4_best_9 ?_
  refine g_iload_n C dX4_best_12 rfl rfl ?_
  refine g_if_eq 22 C dX4_best_13 rfl (fun c13 => ?_) (fun c13 => ?_)
  · refine g_bipush (v := (-2)) C dX4_best_22 rfl ?_
    have hn := bl_none (X := X) (e := e) (fun k L r => bq_F fun z => by have e0 := (nI_eq (by omega) (by decide)).mp (c13.trans nI_0.symm); omega)
    exact g_iret C R (Nat.le_refl _) (Nat.le_refl _) dX4_best_24 (fun H h => ⟨by rw [hn.1], by rw [hn.2]; exact h⟩)
  · refine g_iload_n C dX4_best_16 rfl rfl ?_
    refine g_bipush (v := 99) C dX4_best_17 rfl ?_
    refine gN_lt (a := ndE X e) (b := 99) 25 C dX4_best_19 rfl (by first | omega | exact pcI_lt _ | exact bhE_lt hg _ _) (by first | omega | exact pcI_lt _ | exact bhE_lt hg _ _) (fun c19 => ?_) (fun c19 => ?_)
    · have hnd1 : 1 ≤ ndE X e := by
        rcases Nat.eq_zero_or_pos (ndE X e) with z | z
        · exact absurd (by rw [z]; rfl) c13
        · exact z
      refine g_iconst (v := 1) C dX4_best_25 rfl ?_
      refine g_aload_n C dX4_best_26 rfl rfl ?_
      refine mg_11 C dX4_best_27 ?_
      refine g_iload_n C dX4_best_30 rfl rfl ?_
      refine ml_11 (i := e) C dX4_best_31 (by omega) ?_
      refine g_topi (y := X 11 e) rfl ?_
      refine g_topi (y := nI (wtE X e)) (ew) ?_
      refine g_ishl C dX4_best_32 ?_
      refine g_topi (y := nI (2 ^ wtE X e)) (shl1 (by omega)) ?_
      refine g_istore_n (lv' := [some (.ref o), some (.int (nI e)), some (.int (nI (ndE X e))), some (.int (nI (2 ^ wtE X e))), none, none, none, none]) C dX4_best_33 rfl (by decide) rfl ?_
      refine g_iconst (v := 1) C dX4_best_34 rfl ?_
      refine g_istore (lv' := [some (.ref o), some (.int (nI e)), some (.int (nI (ndE X e))), some (.int (nI (2 ^ wtE X e))), some (.int 1), none, none, none]) C dX4_best_35 (by decide) rfl ?_
      have kk : ∀ k, 1 ≤ k → k ≤ 7 → (∀ k' L' r', k' < k → bq X e k' L' r' = false) → G E (RepM Γ A o ad (upd F 40 (-2)) (layX X (wtE X e))) 0 0 37 [some (.ref o), some (.int (nI e)), some (.int (nI (ndE X e))), some (.int (nI (2 ^ wtE X e))), some (.int (nI k)), none, none, none] [] := by
        intro k h1 hk
        refine g_for (P := fun k => 1 ≤ k → (∀ k' L' r', k' < k → bq X e k' L' r' = false) → G E (RepM Γ A o ad (upd F 40 (-2)) (layX X (wtE X e))) 0 0 37 [some (.ref o), some (.int (nI e)), some (.int (nI (ndE X e))), some (.int (nI (2 ^ wtE X e))), some (.int (nI k)), none, none, none] []) 7 ?_ ?_ k hk h1
        · intro h1_ i1
          refine g_iconst (v := 2) C dX4_best_37 rfl ?_
          refine g_iload C dX4_best_38 rfl ?_
          refine g_imul C dX4_best_40 ?_
          refine g_topi (y := nI (2 * 7)) (pk_mul 2 7) ?_
          refine g_aload_n C dX4_best_41 rfl rfl ?_
          refine mg_11 C dX4_best_42 ?_
          refine g_iload_n C dX4_best_45 rfl rfl ?_
          refine ml_11 (i := e) C dX4_best_46 (by omega) ?_
          refine g_topi (y := X 11 e) rfl ?_
          refine g_topi (y := nI (wtE X e)) (ew) ?_
          refine gN_gt (a := 2 * 7) (b := wtE X e) 151 C dX4_best_47 rfl (by first | omega | exact pcI_lt _ | exact bhE_lt hg _ _) (by first | omega | exact pcI_lt _ | exact bhE_lt hg _ _) (fun c47 => ?_) (fun c47 => ?_)
          · refine g_bipush (v := (-2)) C dX4_best_151 rfl ?_
            have hn := bl_none (X := X) (e := e) (fun k' L' r' => by
              by_cases c : k' < 7
              · exact i1 k' L' r' c
              · exact bq_big (by omega))
            exact g_iret C R (Nat.le_refl _) (Nat.le_refl _) dX4_best_153 (fun H h => ⟨by rw [hn.1], by rw [hn.2]; exact h⟩)
          · exfalso; omega
        · intro k hk ihk h1k i1
          replace ihk : 1 ≤ (k + 1) → (∀ k' L' r', k' < (k + 1) → bq X e k' L' r' = false) → G E (RepM Γ A o ad (upd F 40 (-2)) (layX X (wtE X e))) 0 0 37 [some (.ref o), some (.int (nI e)), some (.int (nI (ndE X e))), some (.int (nI (2 ^ wtE X e))), some (.int (nI (k + 1))), none, none, none] [] := ihk
          refine g_iconst (v := 2) C dX4_best_37 rfl ?_
          refine g_iload C dX4_best_38 rfl ?_
          refine g_imul C dX4_best_40 ?_
          refine g_topi (y := nI (2 * k)) (pk_mul 2 k) ?_
          refine g_aload_n C dX4_best_41 rfl rfl ?_
          refine mg_11 C dX4_best_42 ?_
          refine g_iload_n C dX4_best_45 rfl rfl ?_
          refine ml_11 (i := e) C dX4_best_46 (by omega) ?_
          refine g_topi (y := X 11 e) rfl ?_
          refine g_topi (y := nI (wtE X e)) (ew) ?_
          refine gN_gt (a := 2 * k) (b := wtE X e) 151 C dX4_best_47 rfl (by first | omega | exact pcI_lt _ | exact bhE_lt hg _ _) (by first | omega | exact pcI_lt _ | exact bhE_lt hg _ _) (fun c47 => ?_) (fun c47 => ?_)
          · refine g_bipush (v := (-2)) C dX4_best_151 rfl ?_
            have hn := bl_none (X := X) (e := e) (fun k' L' r' => by
              by_cases c : k' < k
              · exact i1 k' L' r' c
              · exact bq_big (by omega))
            exact g_iret C R (Nat.le_refl _) (Nat.le_refl _) dX4_best_153 (fun H h => ⟨by rw [hn.1], by rw [hn.2]; exact h⟩)
          · refine g_iconst (v := 1) C dX4_best_50 rfl ?_
            refine g_istore (lv' := [some (.ref o), some (.int (nI e)), some (.int (nI (ndE X e))), some (.int (nI (2 ^ wtE X e))), some (.int (nI k)), some (.int 1), none, none]) C dX4_best_51 (by decide) rfl ?_
            have ll : ∀ lf, 1 ≤ lf → lf ≤ 2 ^ wtE X e → (∀ L' r', L' < lf → bq X e k L' r' = false) → G E (RepM Γ A o ad (upd F 40 (-2)) (layX X (wtE X e))) 0 0 53 [some (.ref o), some (.int (nI e)), some (.int (nI (ndE X e))), some (.int (nI (2 ^ wtE X e))), some (.int (nI k)), some (.int (nI lf)), none, none] [] := by
              intro lf h1 hlf
              refine g_for (P := fun lf => 1 ≤ lf → (∀ L' r', L' < lf → bq X e k L' r' = false) → G E (RepM Γ A o ad (upd F 40 (-2)) (layX X (wtE X e))) 0 0 53 [some (.ref o), some (.int (nI e)), some (.int (nI (ndE X e))), some (.int (nI (2 ^ wtE X e))), some (.int (nI k)), some (.int (nI lf)), none, none] []) (2 ^ wtE X e) ?_ ?_ lf hlf h1
              · intro h1_ i2
                refine g_iload C dX4_best_53 rfl ?_
                refine g_iload_n C dX4_best_55 rfl rfl ?_
                refine gN_ge (a := 2 ^ wtE X e) (b := 2 ^ wtE X e) 145 C dX4_best_56 rfl (by first | omega | exact pcI_lt _ | exact bhE_lt hg _ _) (by first | omega | exact pcI_lt _ | exact bhE_lt hg _ _) (fun c56 => ?_) (fun c56 => ?_)
                · refine g_inc1 (x := k) (lv' := [some (.ref o), some (.int (nI e)), some (.int (nI (ndE X e))), some (.int (nI (2 ^ wtE X e))), some (.int (nI (k + 1))), some (.int (nI (2 ^ wtE X e))), none, none]) C dX4_best_145 rfl (by decide) rfl ?_
                  refine g_goto 37 C dX4_best_148 rfl ?_
                  exact g_lv (fun i w h => by match i, h with | 0, h => exact h | 1, h => exact h | 2, h => exact h | 3, h => exact h | 4, h => exact h | 5, h => cases h | 6, h => cases h | 7, h => cases h) (ihk (by omega) (fun k' L' r' hk' => by
                    by_cases c : k' < k
                    · exact i1 k' L' r' c
                    · have ee : k' = k := by omega
                      subst ee
                      by_cases cl : L' < 2 ^ wtE X e
                      · exact i2 L' r' cl
                      · exact bq_F fun z => by omega))
                · exfalso; omega
              · intro lf hlf2 ihl h1_ i2
                replace ihl : 1 ≤ (lf + 1) → (∀ L' r', L' < (lf + 1) → bq X e k L' r' = false) → G E (RepM Γ A o ad (upd F 40 (-2)) (layX X (wtE X e))) 0 0 53 [some (.ref o), some (.int (nI e)), some (.int (nI (ndE X e))), some (.int (nI (2 ^ wtE X e))), some (.int (nI k)), some (.int (nI (lf + 1))), none, none] [] := ihl
                refine g_iload C dX4_best_53 rfl ?_
                refine g_iload_n C dX4_best_55 rfl rfl ?_
                refine gN_ge (a := lf) (b := 2 ^ wtE X e) 145 C dX4_best_56 rfl (by first | omega | exact pcI_lt _ | exact bhE_lt hg _ _) (by first | omega | exact pcI_lt _ | exact bhE_lt hg _ _) (fun c56 => ?_) (fun c56 => ?_)
                · exfalso; omega
                · refine g_iload_n C dX4_best_59 rfl rfl ?_
                  refine g_iconst (v := 1) C dX4_best_60 rfl ?_
                  refine g_isub C dX4_best_61 ?_
                  refine g_iload C dX4_best_62 rfl ?_
                  refine g_iconst (v := (-1)) C dX4_best_64 rfl ?_
                  refine g_ixor C dX4_best_65 ?_
                  refine g_iand C dX4_best_66 ?_
                  refine g_topi (y := nI (2 ^ wtE X e - 1 - lf)) (comp_I (by omega) hlf2) ?_
                  refine g_istore (lv' := [some (.ref o), some (.int (nI e)), some (.int (nI (ndE X e))), some (.int (nI (2 ^ wtE X e))), some (.int (nI k)), some (.int (nI lf)), some (.int (nI (2 ^ wtE X e - 1 - lf))), none]) C dX4_best_67 (by decide) rfl ?_
                  refine g_iload C dX4_best_69 rfl ?_
                  refine g_iload C dX4_best_71 rfl ?_
                  refine g_ineg C dX4_best_73 ?_
                  refine g_iand C dX4_best_74 ?_
                  refine g_topi (y := nI (if (2 ^ wtE X e - 1 - lf) = 0 then 0 else (2 ^ 32 + 0 - (2 ^ wtE X e - 1 - lf)) &&& (2 ^ wtE X e - 1 - lf))) (first_I (by omega)) ?_
                  refine g_istore (lv' := [some (.ref o), some (.int (nI e)), some (.int (nI (ndE X e))), some (.int (nI (2 ^ wtE X e))), some (.int (nI k)), some (.int (nI lf)), some (.int (nI (2 ^ wtE X e - 1 - lf))), some (.int (nI (if (2 ^ wtE X e - 1 - lf) = 0 then 0 else (2 ^ 32 + 0 - (2 ^ wtE X e - 1 - lf)) &&& (2 ^ wtE X e - 1 - lf))))]) C dX4_best_75 (by decide) rfl ?_
                  have z0 : (∀ r', bq X e k lf r' = false) → G E (RepM Γ A o ad (upd F 40 (-2)) (layX X (wtE X e))) 0 0 77 [some (.ref o), some (.int (nI e)), some (.int (nI (ndE X e))), some (.int (nI (2 ^ wtE X e))), some (.int (nI k)), some (.int (nI lf)), some (.int (nI (2 ^ wtE X e - 1 - lf))), some (.int (nI 0))] [] := by
                    intro hz
                    refine g_iload C dX4_best_77 rfl ?_
                    refine g_if_eq 139 C dX4_best_79 rfl (fun c79 => ?_) (fun c79 => ?_)
                    · refine g_inc1 (x := lf) (lv' := [some (.ref o), some (.int (nI e)), some (.int (nI (ndE X e))), some (.int (nI (2 ^ wtE X e))), some (.int (nI k)), some (.int (nI (lf + 1))), some (.int (nI (2 ^ wtE X e - 1 - lf))), some (.int (nI 0))]) C dX4_best_139 rfl (by decide) rfl ?_
                      refine g_goto 53 C dX4_best_142 rfl ?_
                      have i2n : (∀ L' r', L' < (lf + 1) → bq X e k L' r' = false) := fun L' r' hl => by
                        by_cases c : L' < lf
                        · exact i2 L' r' c
                        · have ee : L' = lf := by omega
                          subst ee; exact hz _
                      exact g_lv (fun i w h => by match i, h with | 0, h => exact h | 1, h => exact h | 2, h => exact h | 3, h => exact h | 4, h => exact h | 5, h => exact h | 6, h => cases h | 7, h => cases h) (ihl (by omega) i2n)
                    · exact absurd rfl c79
                  have rr : ∀ (d rt : Nat), 2 ^ wtE X e ≤ rt + d → 1 ≤ rt → rt &&& (2 ^ wtE X e - 1 - lf) = rt → (∀ r', r' < rt → bq X e k lf r' = false) → G E (RepM Γ A o ad (upd F 40 (-2)) (layX X (wtE X e))) 0 0 77 [some (.ref o), some (.int (nI e)), some (.int (nI (ndE X e))), some (.int (nI (2 ^ wtE X e))), some (.int (nI k)), some (.int (nI lf)), some (.int (nI (2 ^ wtE X e - 1 - lf))), some (.int (nI rt))] [] := by
                    intro d
                    induction d with
                    | zero =>
                      intro rt h1 hr1 hs i3
                      have := (show rt ≤ (2 ^ wtE X e - 1 - lf) by rw [← hs]; exact Nat.and_le_right)
                      omega
                    | succ d ihd =>
                      intro rt h1 hr1 hs i3
                      have hle := (show rt ≤ (2 ^ wtE X e - 1 - lf) by rw [← hs]; exact Nat.and_le_right)
                      obtain ⟨hs1, hs2⟩ := (comp_sub (w := wtE X e) hlf2).mp hs
                      have pL := pcI_nI (n := lf) (by omega)
                      have pR := pcI_nI (n := rt) (by omega)
                      refine g_iload C dX4_best_77 rfl ?_
                      refine g_if_eq 139 C dX4_best_79 rfl (fun c79 => ?_) (fun c79 => ?_)
                      · refine g_inc1 (x := lf) (lv' := [some (.ref o), some (.int (nI e)), some (.int (nI (ndE X e))), some (.int (nI (2 ^ wtE X e))), some (.int (nI k)), some (.int (nI (lf + 1))), some (.int (nI (2 ^ wtE X e - 1 - lf))), some (.int (nI rt))]) C dX4_best_139 rfl (by decide) rfl ?_
                        refine g_goto 53 C dX4_best_142 rfl ?_
                        exact absurd ((nI_eq (by omega) (by decide)).mp (c79.trans nI_0.symm)) (by omega)
                      · refine g_iload C dX4_best_82 rfl ?_
                        refine g_pcall (rest := []) 1 C (ct_bits B _) (lw_S q1922 q1923 q107 q1924) ⟨by decide, by decide, by decide +kernel⟩ ⟨Nat.le_of_ble_eq_true rfl, Nat.le_of_ble_eq_true rfl⟩ ⟨Nat.le_of_ble_eq_true rfl, Nat.le_of_ble_eq_true rfl⟩ rfl rfl (Nat.le_of_ble_eq_true rfl) dX4_best_84 ?_
                        refine g_iload C dX4_best_87 rfl ?_
                        refine gN_ne (a := pcI (nI lf)) (b := k) 139 C dX4_best_89 rfl (by first | omega | exact pcI_lt _ | exact bhE_lt hg _ _) (by first | omega | exact pcI_lt _ | exact bhE_lt hg _ _) (fun c89 => ?_) (fun c89 => ?_)
                        · refine g_inc1 (x := lf) (lv' := [some (.ref o), some (.int (nI e)), some (.int (nI (ndE X e))), some (.int (nI (2 ^ wtE X e))), some (.int (nI k)), some (.int (nI (lf + 1))), some (.int (nI (2 ^ wtE X e - 1 - lf))), some (.int (nI rt))]) C dX4_best_139 rfl (by decide) rfl ?_
                          refine g_goto 53 C dX4_best_142 rfl ?_
                          have i2n : (∀ L' r', L' < (lf + 1) → bq X e k L' r' = false) := fun L' r' hl => by
                            by_cases c : L' < lf
                            · exact i2 L' r' c
                            · have ee : L' = lf := by omega
                              subst ee; exact bq_F fun z => by rw [pL] at c89; omega
                          exact g_lv (fun i w h => by match i, h with | 0, h => exact h | 1, h => exact h | 2, h => exact h | 3, h => exact h | 4, h => exact h | 5, h => exact h | 6, h => cases h | 7, h => cases h) (ihl (by omega) i2n)
                        · refine g_iload C dX4_best_92 rfl ?_
                          refine g_pcall (rest := []) 1 C (ct_bits B _) (lw_S q1922 q1923 q107 q1924) ⟨by decide, by decide, by decide +kernel⟩ ⟨Nat.le_of_ble_eq_true rfl, Nat.le_of_ble_eq_true rfl⟩ ⟨Nat.le_of_ble_eq_true rfl, Nat.le_of_ble_eq_true rfl⟩ rfl rfl (Nat.le_of_ble_eq_true rfl) dX4_best_94 ?_
                          refine g_iload C dX4_best_97 rfl ?_
                          refine gN_ne (a := pcI (nI rt)) (b := k) 126 C dX4_best_99 rfl (by first | omega | exact pcI_lt _ | exact bhE_lt hg _ _) (by first | omega | exact pcI_lt _ | exact bhE_lt hg _ _) (fun c99 => ?_) (fun c99 => ?_)
                          · refine g_iload C dX4_best_126 rfl ?_
                            refine g_iload C dX4_best_128 rfl ?_
                            refine g_isub C dX4_best_130 ?_
                            refine g_iload C dX4_best_131 rfl ?_
                            refine g_iand C dX4_best_133 ?_
                            refine g_topi (y := nI (if rt = (2 ^ wtE X e - 1 - lf) then 0 else (2 ^ 32 + rt - (2 ^ wtE X e - 1 - lf)) &&& (2 ^ wtE X e - 1 - lf))) (nxt_I (by omega) hle) ?_
                            refine g_istore (lv' := [some (.ref o), some (.int (nI e)), some (.int (nI (ndE X e))), some (.int (nI (2 ^ wtE X e))), some (.int (nI k)), some (.int (nI lf)), some (.int (nI (2 ^ wtE X e - 1 - lf))), some (.int (nI (if rt = (2 ^ wtE X e - 1 - lf) then 0 else (2 ^ 32 + rt - (2 ^ wtE X e - 1 - lf)) &&& (2 ^ wtE X e - 1 - lf))))]) C dX4_best_134 (by decide) rfl ?_
                            refine g_goto 77 C dX4_best_136 rfl ?_
                            have hnot : bq X e k lf rt = false := by rw [pR] at c99; exact bq_F fun z => by omega
                            have c79n : rt ≠ 0 := fun z => c79 (by rw [z]; rfl)
                            by_cases co : rt = (2 ^ wtE X e - 1 - lf)
                            · rw [if_pos co]
                              refine z0 (fun r' => ?_)
                              by_cases cr : r' < rt
                              · exact i3 r' cr
                              · by_cases ce : r' = rt
                                · rw [ce]; exact hnot
                                · exact bq_F fun z => by
                                    have hz2 := (comp_sub (w := wtE X e) hlf2).mpr ⟨z.2.2.2.2.2.1, z.2.2.2.2.2.2.1⟩
                                    have := (show r' ≤ (2 ^ wtE X e - 1 - lf) by rw [← hz2]; exact Nat.and_le_right)
                                    omega
                            · rw [if_neg co]
                              obtain ⟨g1, g2⟩ := nxt_spec 32 (2 ^ wtE X e - 1 - lf) rt (by omega) hs (by omega)
                              refine ihd _ (by omega) (by omega) (by rw [Nat.and_assoc, Nat.and_self]) (fun r' h => ?_)
                              by_cases cr : r' < rt
                              · exact i3 r' cr
                              · by_cases ce : r' = rt
                                · rw [ce]; exact hnot
                                · exact bq_F fun z => by
                                    have hz2 := (comp_sub (w := wtE X e) hlf2).mpr ⟨z.2.2.2.2.2.1, z.2.2.2.2.2.2.1⟩
                                    have := g2 r' hz2 (by omega)
                                    omega
                          · refine g_aload_n C dX4_best_102 rfl rfl ?_
                            refine g_iload_n C dX4_best_103 rfl rfl ?_
                            refine g_iload C dX4_best_104 rfl ?_
                            refine g_iload C dX4_best_106 rfl ?_
                            refine g_mcall (rest := []) 3 C (ct_behind (F := upd F 40 (-2)) (X := layX X (wtE X e)) B (nt := nt) (ns := ns) (nm := nm) (ne := ne) (nv := nv) (nu := nu) (ln := ln) J e he (fun p q e1 e2 => hO p q e1 e2) (fun u g e0 e1 e2 => hB u g e0 e1 e2) _ _) (lw_V q2160 q2162 qs84 q107 q2163) (by decide +kernel) ⟨Nat.le_of_ble_eq_true rfl, Nat.le_of_ble_eq_true rfl⟩ ⟨Nat.le_of_ble_eq_true rfl, Nat.le_of_ble_eq_true rfl⟩ rfl rfl (Nat.le_of_ble_eq_true rfl) dX4_best_108 ?_
                            refine g_topi (y := nI (bhE X e (nI lf) (nI rt))) (rfl) ?_
                            refine g_iload_n C dX4_best_111 rfl rfl ?_
                            refine g_iconst (v := 1) C dX4_best_112 rfl ?_
                            refine g_isub C dX4_best_113 ?_
                            refine g_topi (y := nI ((ndE X e) - 1)) (pk_sub (a := ndE X e) (b := 1) (by omega)) ?_
                            refine gN_ne (a := bhE X e (nI lf) (nI rt)) (b := (ndE X e) - 1) 126 C dX4_best_114 rfl (by first | omega | exact pcI_lt _ | exact bhE_lt hg _ _) (by first | omega | exact pcI_lt _ | exact bhE_lt hg _ _) (fun c114 => ?_) (fun c114 => ?_)
                            · refine g_iload C dX4_best_126 rfl ?_
                              refine g_iload C dX4_best_128 rfl ?_
                              refine g_isub C dX4_best_130 ?_
                              refine g_iload C dX4_best_131 rfl ?_
                              refine g_iand C dX4_best_133 ?_
                              refine g_topi (y := nI (if rt = (2 ^ wtE X e - 1 - lf) then 0 else (2 ^ 32 + rt - (2 ^ wtE X e - 1 - lf)) &&& (2 ^ wtE X e - 1 - lf))) (nxt_I (by omega) hle) ?_
                              refine g_istore (lv' := [some (.ref o), some (.int (nI e)), some (.int (nI (ndE X e))), some (.int (nI (2 ^ wtE X e))), some (.int (nI k)), some (.int (nI lf)), some (.int (nI (2 ^ wtE X e - 1 - lf))), some (.int (nI (if rt = (2 ^ wtE X e - 1 - lf) then 0 else (2 ^ 32 + rt - (2 ^ wtE X e - 1 - lf)) &&& (2 ^ wtE X e - 1 - lf))))]) C dX4_best_134 (by decide) rfl ?_
                              refine g_goto 77 C dX4_best_136 rfl ?_
                              have hnot : bq X e k lf rt = false := by exact bq_F fun z => by omega
                              have c79n : rt ≠ 0 := fun z => c79 (by rw [z]; rfl)
                              by_cases co : rt = (2 ^ wtE X e - 1 - lf)
                              · rw [if_pos co]
                                refine z0 (fun r' => ?_)
                                by_cases cr : r' < rt
                                · exact i3 r' cr
                                · by_cases ce : r' = rt
                                  · rw [ce]; exact hnot
                                  · exact bq_F fun z => by
                                      have hz2 := (comp_sub (w := wtE X e) hlf2).mpr ⟨z.2.2.2.2.2.1, z.2.2.2.2.2.2.1⟩
                                      have := (show r' ≤ (2 ^ wtE X e - 1 - lf) by rw [← hz2]; exact Nat.and_le_right)
                                      omega
                              · rw [if_neg co]
                                obtain ⟨g1, g2⟩ := nxt_spec 32 (2 ^ wtE X e - 1 - lf) rt (by omega) hs (by omega)
                                refine ihd _ (by omega) (by omega) (by rw [Nat.and_assoc, Nat.and_self]) (fun r' h => ?_)
                                by_cases cr : r' < rt
                                · exact i3 r' cr
                                · by_cases ce : r' = rt
                                  · rw [ce]; exact hnot
                                  · exact bq_F fun z => by
                                      have hz2 := (comp_sub (w := wtE X e) hlf2).mpr ⟨z.2.2.2.2.2.1, z.2.2.2.2.2.2.1⟩
                                      have := g2 r' hz2 (by omega)
                                      omega
                            · refine g_aload_n C dX4_best_117 rfl rfl ?_
                              refine g_iload C dX4_best_118 rfl ?_
                              refine mp_40 C dX4_best_120 ?_
                              refine g_eqI (J := RepM Γ A o ad (upd F 40 (nI rt)) (layX X (wtE X e))) (congrArg (fun F => RepM Γ A o ad F _) (upd_upd _ _ _ _)) ?_
                              refine g_iload C dX4_best_123 rfl ?_
                              have c79n : rt ≠ 0 := fun z => c79 (by rw [z]; rfl)
                              have hh := bl_hit (X := X) (e := e) (k := k) (L := lf) (r := rt) (by omega) (by omega) (by omega) (bq_in ⟨by omega, h1k, hlf2, by rw [← pL]; exact c89, by omega, hs1, hs2, by rw [← pR]; exact c99, by omega⟩) i1 i2 i3
                              exact g_iret C R (Nat.le_refl _) (Nat.le_refl _) dX4_best_125 (fun H h => ⟨by rw [hh.1], by rw [hh.2]; exact h⟩)
                  by_cases co : (2 ^ wtE X e - 1 - lf) = 0
                  · rw [if_pos co]
                    exact z0 (fun r' => bq_F fun z => by
                      have hz2 := (comp_sub (w := wtE X e) hlf2).mpr ⟨z.2.2.2.2.2.1, z.2.2.2.2.2.2.1⟩
                      have := (show r' ≤ (2 ^ wtE X e - 1 - lf) by rw [← hz2]; exact Nat.and_le_right)
                      omega)
                  · rw [if_neg co]
                    obtain ⟨g1, g2⟩ := nxt_spec 32 (2 ^ wtE X e - 1 - lf) 0 (by omega) (Nat.zero_and _) (by omega)
                    exact rr (2 ^ wtE X e) _ (by omega) (by omega) (by rw [Nat.and_assoc, Nat.and_self]) (fun r' h => by
                      by_cases ce : r' = 0
                      · rw [ce]; exact bq_F fun z => by omega
                      · exact bq_F fun z => by
                          have hz2 := (comp_sub (w := wtE X e) hlf2).mpr ⟨z.2.2.2.2.2.1, z.2.2.2.2.2.2.1⟩
                          have := g2 r' hz2 (by omega)
                          omega)
            exact g_lv (fun i w h => by match i, h with | 0, h => exact h | 1, h => exact h | 2, h => exact h | 3, h => exact h | 4, h => exact h | 5, h => exact h | 6, h => cases h | 7, h => cases h) (ll 1 (by omega) (by omega) (fun L' r' hl => bq_F fun z => by
              have e0 : L' = 0 := by omega
              rw [e0] at z
              have := z.2.2.2.1
              rw [pcN_0] at this
              omega))
      exact g_lv (fun i w h => by match i, h with | 0, h => exact h | 1, h => exact h | 2, h => exact h | 3, h => exact h | 4, h => exact h | 5, h => cases h | 6, h => cases h | 7, h => cases h) (kk 1 (by omega) (by omega) (fun k' L' r' hk' => bq_F fun z => by omega))
    · refine g_bipush (v := (-2)) C dX4_best_22 rfl ?_
      have hn := bl_none (X := X) (e := e) (fun k L r => bq_F fun z => by omega)
      exact g_iret C R (Nat.le_refl _) (Nat.le_refl _) dX4_best_24 (fun H h => ⟨by rw [hn.1], by rw [hn.2]; exact h⟩)
set_option maxRecDepth 100000 in
theorem ct_bestLeft {l : Launch} {Γ : Gm} {A : Nat → Prop} {ρ : State → Prop} (B : Bs l A ρ) {o : Nat} {ad : Nat → Nat} {F : Nat → Int32} {X : Nat → Nat → Int32} {nt ns nm ne nv nu ln : Nat} (J : Iv F X nt ns nm ne nv nu ln) (set : Int32) : CtM l Γ A ρ yX4_bestLeft cX4_bestLeft 2 (some .int) 5 124 o ad [.ref o, .int set] F X (some (.int (atI set ne (blI X)))) (if ixI set ne = 0 then upd F 0 0 else upd (upd F 0 0) 40 (brI X set.toNatClampNeg)) (if ixI set ne = 0 then X else layX X (wtE X set.toNatClampNeg)) := by
  refine Ct.of B.1 B.2 (by decide) [some (.ref o), some (.int set)] (Nat.le_of_ble_eq_true rfl) rfl ?_
  intro E hE C R
  subst hE
  have he_ := J.le
  refine g_aload_n C dX4_bestLeft_0 rfl rfl ?_
  refine g_iconst (v := 0) C dX4_bestLeft_1 rfl ?_
  refine mp_0 C dX4_bestLeft_2 ?_
  refine g_aload_n C dX4_bestLeft_5 rfl rfl ?_
  refine g_iload_n C dX4_bestLeft_6 rfl rfl ?_
  refine g_mcall (rest := []) 1 C (ct_isSet (F := upd F 0 0) (X := X) B J _) (lw_V q2080 q2082 qs74 q107 q2083) (by decide +kernel) ⟨Nat.le_of_ble_eq_true rfl, Nat.le_of_ble_eq_true rfl⟩ ⟨Nat.le_of_ble_eq_true rfl, Nat.le_of_ble_eq_true rfl⟩ rfl rfl (Nat.le_of_ble_eq_true rfl) dX4_bestLeft_7 ?_
  refine g_if_eq 21 C dX4_bestLeft_10 rfl (fun c10 => ?_) (fun c10 => ?_)
  · refine g_iconst (v := (-1)) C dX4_bestLeft_21 rfl ?_
    exact g_iret C R (Nat.le_refl _) (Nat.le_refl _) dX4_bestLeft_22 (fun H h => ⟨by rw [atI_out c10], by rw [if_pos c10, if_pos c10]; exact h⟩)
  · obtain ⟨j_set, hj_set, rfl⟩ := ixI_in (by omega) c10
    refine g_aload_n C dX4_bestLeft_13 rfl rfl ?_
    refine g_iload_n C dX4_bestLeft_14 rfl rfl ?_
    refine g_mcall (rest := []) 1 C (ct_best (F := upd F 0 0) (X := X) B J j_set (by omega)) (lw_V q2156 q2158 qs83 q107 q2159) (by decide +kernel) ⟨Nat.le_of_ble_eq_true rfl, Nat.le_of_ble_eq_true rfl⟩ ⟨Nat.le_of_ble_eq_true rfl, Nat.le_of_ble_eq_true rfl⟩ rfl rfl (Nat.le_of_ble_eq_true rfl) dX4_bestLeft_15 ?_
    refine g_goto 22 C dX4_bestLeft_18 rfl ?_
    exact g_iret C R (Nat.le_refl _) (Nat.le_refl _) dX4_bestLeft_22 (fun H h => ⟨by rw [atI_in hj_set (by omega)], by rw [if_neg (by rw [ixI_nI hj_set (by omega)]; decide), if_neg (by rw [ixI_nI hj_set (by omega)]; decide), nI_clamp (show j_set < 2 ^ 31 by omega)]; exact h⟩)
set_option maxRecDepth 100000 in
theorem ct_bestRight {l : Launch} {Γ : Gm} {A : Nat → Prop} {ρ : State → Prop} (B : Bs l A ρ) {o : Nat} {ad : Nat → Nat} {F : Nat → Int32} {X : Nat → Nat → Int32} {nt ns nm ne nv nu ln : Nat} (J : Iv F X nt ns nm ne nv nu ln) (set : Int32) : CtM l Γ A ρ yX4_bestRight cX4_bestRight 3 (some .int) 5 124 o ad [.ref o, .int set] F X (some (.int (atI set ne (brI X)))) (if ixI set ne = 0 then upd F 0 0 else upd (upd F 0 0) 40 (brI X set.toNatClampNeg)) (if ixI set ne = 0 then X else layX X (wtE X set.toNatClampNeg)) := by
  refine Ct.of B.1 B.2 (by decide) [some (.ref o), some (.int set), none] (Nat.le_of_ble_eq_true rfl) rfl ?_
  intro E hE C R
  subst hE
  have he_ := J.le
  refine g_aload_n C dX4_bestRight_0 rfl rfl ?_
  refine g_iconst (v := 0) C dX4_bestRight_1 rfl ?_
  refine mp_0 C dX4_bestRight_2 ?_
  refine g_aload_n C dX4_bestRight_5 rfl rfl ?_
  refine g_iload_n C dX4_bestRight_6 rfl rfl ?_
  refine g_mcall (rest := []) 1 C (ct_isSet (F := upd F 0 0) (X := X) B J _) (lw_V q2080 q2082 qs74 q107 q2083) (by decide +kernel) ⟨Nat.le_of_ble_eq_true rfl, Nat.le_of_ble_eq_true rfl⟩ ⟨Nat.le_of_ble_eq_true rfl, Nat.le_of_ble_eq_true rfl⟩ rfl rfl (Nat.le_of_ble_eq_true rfl) dX4_bestRight_7 ?_
  refine g_if_ne 15 C dX4_bestRight_10 rfl (fun c10 => ?_) (fun c10 => ?_)
  · obtain ⟨j_set, hj_set, rfl⟩ := ixI_in (by omega) c10
    refine g_aload_n C dX4_bestRight_15 rfl rfl ?_
    refine g_iload_n C dX4_bestRight_16 rfl rfl ?_
    refine g_mcall (rest := []) 1 C (ct_best (F := upd F 0 0) (X := X) B J j_set (by omega)) (lw_V q2156 q2158 qs83 q107 q2159) (by decide +kernel) ⟨Nat.le_of_ble_eq_true rfl, Nat.le_of_ble_eq_true rfl⟩ ⟨Nat.le_of_ble_eq_true rfl, Nat.le_of_ble_eq_true rfl⟩ rfl rfl (Nat.le_of_ble_eq_true rfl) dX4_bestRight_17 ?_
    refine g_istore_n (lv' := [some (.ref o), some (.int (nI j_set)), some (.int (blI X j_set))]) C dX4_bestRight_20 rfl (by decide) rfl ?_
    refine g_aload_n C dX4_bestRight_21 rfl rfl ?_
    refine mg_40 C dX4_bestRight_22 ?_
    refine g_topi (y := brI X j_set) (upd_self _ _ _) ?_
    exact g_iret C R (Nat.le_refl _) (Nat.le_refl _) dX4_bestRight_25 (fun H h => ⟨by rw [atI_in hj_set (by omega)], by rw [if_neg (by rw [ixI_nI hj_set (by omega)]; decide), if_neg (by rw [ixI_nI hj_set (by omega)]; decide), nI_clamp (show j_set < 2 ^ 31 by omega)]; exact h⟩)
  · refine g_iconst (v := (-1)) C dX4_bestRight_13 rfl ?_
    exact g_iret C R (Nat.le_refl _) (Nat.le_refl _) dX4_bestRight_14 (fun H h => ⟨by rw [atI_out c10], by rw [if_pos c10, if_pos c10]; exact h⟩)
