theorem fmN_or (f : Nat → Int32) (ld : Int32) (nm : Nat) : ∀ k, fmN f ld nm k = -2 ∨ ∃ j, j < k ∧ fmN f ld nm k = nI j
  | 0 => Or.inl rfl
  | k + 1 => by
    have ih : fmN f ld nm k = -2 ∨ ∃ j, j < k + 1 ∧ fmN f ld nm k = nI j := by
      rcases fmN_or f ld nm k with h | ⟨j, hj, h⟩
      · exact Or.inl h
      · exact Or.inr ⟨j, by omega, h⟩
    unfold fmN
    split
    · split
      · exact Or.inr ⟨k, by omega, rfl⟩
      · split
        · exact ih
        · exact Or.inr ⟨k, by omega, rfl⟩
    · exact ih
theorem bc_pcI {k : Nat} (h : k < 4096) : bcI (nI k) = nI (pcI (nI k)) := by
  rw [bcI_N h]
  unfold pcI
  rw [show (nI k).toBitVec.toNat = k from by show (BitVec.ofNat 32 k).toNat = k; rw [BitVec.toNat_ofNat, Nat.mod_eq_of_lt (by omega)]]
set_option maxRecDepth 100000 in
theorem cc_fewestMasses {l : Launch} {Γ : Gm} {A : Nat → Prop} {ρ : State → Prop} (B : Bc l Γ A ρ) {h : Hp} {F : Nat → Int32} {X : Nat → Nat → Int32} {nt ns nm ne nv nu ln : Nat} (J : Iv F X nt ns nm ne nv nu ln) {x : Nat} (R_ : RepC Γ F X nt ns nm ne nv nu h x) (load : Int32) : CtF l Γ A ρ yX1_fewestMasses cX1_fewestMasses 4 (some .int) { frames := 2, cells := 0, slots := 0, locals := 44 } [.ref x, .int load] h (some (.int (fmI (X 9) load nm))) h := by
  refine Ct.of B.1.1 B.1.2 (by decide) [some (.ref x), some (.int load), none, none] (Nat.le_of_ble_eq_true rfl) rfl ?_
  intro E hE C R
  subst hE
  have SC_ := B.2 _ C.r
  have ht_ := J.lt
  have hs_ := J.ls
  have hm_ := J.lm
  have he_ := J.le
  have hu_ := J.lu
  have hl_ := J.ll
  have hv_ := J.lv
  obtain ⟨bu, mk, en, hi, sn, so, b7, b8, hs, fsn, fso, Rx, Rb, RK, RE, RH, RS, RA, RO⟩ := id R_
  obtain ⟨sl, wl, ma, te, fm, ft, ss, wq, Km, Kma, Kfm, Kte, Kft, Ksl, Kss, Kwl, Kws⟩ := id RK
  obtain ⟨vl, el, vs, es, Ee, E0, Evl, Eel, Evs, Ees⟩ := id RE
  have hp_ := pow10 hm_
  have hb_ : ∀ x : Int32, pcI x < 2 ^ 31 := fun x => Nat.lt_of_le_of_lt (pcI_le x) (by decide)
  refine g_iload_n C dX1_fewestMasses_0 rfl rfl ?_
  refine g_if_ge 6 C dX1_fewestMasses_1 rfl (fun c1 => ?_) (fun c1 => ?_)
  · refine g_bipush (v := (-2)) C dX1_fewestMasses_6 rfl ?_
    refine g_istore_n (lv' := [some (.ref x), some (.int load), some (.int (-2)), none]) C dX1_fewestMasses_8 rfl (by decide) rfl ?_
    refine g_iconst (v := 0) C dX1_fewestMasses_9 rfl ?_
    refine g_istore_n (lv' := [some (.ref x), some (.int load), some (.int (-2)), some (.int 0)]) C dX1_fewestMasses_10 rfl (by decide) rfl ?_
    refine g_for (P := fun j => G E (HP Γ A h) 0 0 11 [some (.ref x), some (.int load), some (.int (fmN (X 9) load nm j)), some (.int (nI j))] []) (2 ^ nm) ?_ ?_ 0 (Nat.zero_le _)
    · refine g_iload_n C dX1_fewestMasses_11 rfl rfl ?_
      refine g_iconst (v := 1) C dX1_fewestMasses_12 rfl ?_
      refine g_aload_n C dX1_fewestMasses_13 rfl rfl ?_
      refine c_get 0 3 k_X1 in_X1 (by decide) (fun _ h => h) q539 Rx rfl C dX1_fewestMasses_14 ?_
      refine c_getN 1 5 k_X2 in_X2 (by decide) (fun _ h => h) q498 SC_ Km rfl C dX1_fewestMasses_17 ?_
      refine g_ishl C dX1_fewestMasses_20 ?_
      refine g_topi (y := nI (2 ^ nm)) (shl1 (by omega)) ?_
      refine gN_ge (a := (2 ^ nm)) (b := 2 ^ nm) 61 C dX1_fewestMasses_21 rfl (by first | omega | exact hb_ _) (by first | omega | exact hb_ _) (fun c21 => ?_) (fun c21 => ?_)
      · refine g_iload_n C dX1_fewestMasses_61 rfl rfl ?_
        exact g_iret C R (Nat.le_of_ble_eq_true rfl) (Nat.le_of_ble_eq_true rfl) dX1_fewestMasses_62 (fun H hH => ⟨by unfold fmI; rw [if_pos c1], hH⟩)
      · exfalso; omega
    · intro j hj ih
      replace ih : G E (HP Γ A h) 0 0 11 [some (.ref x), some (.int load), some (.int (fmN (X 9) load nm (j + 1))), some (.int (nI (j + 1)))] [] := ih
      refine g_iload_n C dX1_fewestMasses_11 rfl rfl ?_
      refine g_iconst (v := 1) C dX1_fewestMasses_12 rfl ?_
      refine g_aload_n C dX1_fewestMasses_13 rfl rfl ?_
      refine c_get 0 3 k_X1 in_X1 (by decide) (fun _ h => h) q539 Rx rfl C dX1_fewestMasses_14 ?_
      refine c_getN 1 5 k_X2 in_X2 (by decide) (fun _ h => h) q498 SC_ Km rfl C dX1_fewestMasses_17 ?_
      refine g_ishl C dX1_fewestMasses_20 ?_
      refine g_topi (y := nI (2 ^ nm)) (shl1 (by omega)) ?_
      refine gN_ge (a := j) (b := 2 ^ nm) 61 C dX1_fewestMasses_21 rfl (by first | omega | exact hb_ _) (by first | omega | exact hb_ _) (fun c21 => ?_) (fun c21 => ?_)
      · exfalso; omega
      · refine g_aload_n C dX1_fewestMasses_24 rfl rfl ?_
        refine c_get 0 3 k_X1 in_X1 (by decide) (fun _ h => h) q539 Rx rfl C dX1_fewestMasses_25 ?_
        refine g_iload_n C dX1_fewestMasses_28 rfl rfl ?_
        refine h_callV (rest := []) 1 C (cc_load B RK hm_ _) (lw_V q1028 q1029 q1030 q87 q1031) ⟨⟨by decide, by decide, by decide +kernel⟩, ⟨Nat.le_of_ble_eq_true rfl, Nat.le_of_ble_eq_true rfl⟩, ⟨Nat.le_of_ble_eq_true rfl, Nat.le_of_ble_eq_true rfl⟩⟩ (fun _ h => h) (HP.recv C Km k_X2) rfl rfl (Nat.le_of_ble_eq_true rfl) dX1_fewestMasses_29 (h_F ?_)
        refine g_iload_n C dX1_fewestMasses_32 rfl rfl ?_
        refine g_icmp_ne 55 C dX1_fewestMasses_33 rfl (fun c33 => ?_) (fun c33 => ?_)
        · refine g_inc1 (x := j) (lv' := [some (.ref x), some (.int load), some (.int (fmN (X 9) load nm j)), some (.int (nI (j + 1)))]) C dX1_fewestMasses_55 rfl (by decide) rfl ?_
          refine g_goto 11 C dX1_fewestMasses_58 rfl ?_
          refine g_lveq (lv' := [some (.ref x), some (.int load), some (.int (fmN (X 9) load nm (j + 1))), some (.int (nI (j + 1)))]) (by simp only [fmN]; rw [if_neg c33]) ?_
          exact ih
        · refine g_iload_n C dX1_fewestMasses_36 rfl rfl ?_
          refine g_bipush (v := (-2)) C dX1_fewestMasses_37 rfl ?_
          refine g_icmp_eq 53 C dX1_fewestMasses_39 rfl (fun c39 => ?_) (fun c39 => ?_)
          · refine g_iload_n C dX1_fewestMasses_53 rfl rfl ?_
            refine g_istore_n (lv' := [some (.ref x), some (.int load), some (.int (nI j)), some (.int (nI j))]) C dX1_fewestMasses_54 rfl (by decide) rfl ?_
            refine g_inc1 (x := j) (lv' := [some (.ref x), some (.int load), some (.int (nI j)), some (.int (nI (j + 1)))]) C dX1_fewestMasses_55 rfl (by decide) rfl ?_
            refine g_goto 11 C dX1_fewestMasses_58 rfl ?_
            refine g_lveq (lv' := [some (.ref x), some (.int load), some (.int (fmN (X 9) load nm (j + 1))), some (.int (nI (j + 1)))]) (by simp only [fmN]; rw [if_pos c33, if_pos c39]) ?_
            exact ih
          · refine g_iload_n C dX1_fewestMasses_42 rfl rfl ?_
            refine h_callS (rest := []) 1 C (cc_bitCount B.1 _ _) (lw_S q1033 q1034 q105 q1035) ⟨⟨by decide, by decide, by decide +kernel⟩, ⟨Nat.le_of_ble_eq_true rfl, Nat.le_of_ble_eq_true rfl⟩, ⟨Nat.le_of_ble_eq_true rfl, Nat.le_of_ble_eq_true rfl⟩⟩ (fun _ h => h) rfl rfl (Nat.le_of_ble_eq_true rfl) dX1_fewestMasses_43 (h_P ?_)
            refine g_topi (y := nI (pcI (nI j))) (bc_pcI (by omega)) ?_
            refine g_iload_n C dX1_fewestMasses_46 rfl rfl ?_
            refine h_callS (rest := [.int (nI (pcI (nI j)))]) 1 C (cc_bitCount B.1 _ _) (lw_S q1033 q1034 q105 q1035) ⟨⟨by decide, by decide, by decide +kernel⟩, ⟨Nat.le_of_ble_eq_true rfl, Nat.le_of_ble_eq_true rfl⟩, ⟨Nat.le_of_ble_eq_true rfl, Nat.le_of_ble_eq_true rfl⟩⟩ (fun _ h => h) rfl rfl (Nat.le_of_ble_eq_true rfl) dX1_fewestMasses_47 (h_P ?_)
            have hbb : bcI (fmN (X 9) load nm j) = nI (pcI (fmN (X 9) load nm j)) := by rcases fmN_or (X 9) load nm j with e9 | ⟨j9, hj9, e9⟩; exact absurd e9 c39; rw [e9]; exact bc_pcI (by omega)
            refine g_topi (y := nI (pcI (fmN (X 9) load nm j))) (hbb) ?_
            refine gN_ge (a := pcI (nI j)) (b := pcI (fmN (X 9) load nm j)) 55 C dX1_fewestMasses_50 rfl (by first | omega | exact hb_ _) (by first | omega | exact hb_ _) (fun c50 => ?_) (fun c50 => ?_)
            · refine g_inc1 (x := j) (lv' := [some (.ref x), some (.int load), some (.int (fmN (X 9) load nm j)), some (.int (nI (j + 1)))]) C dX1_fewestMasses_55 rfl (by decide) rfl ?_
              refine g_goto 11 C dX1_fewestMasses_58 rfl ?_
              refine g_lveq (lv' := [some (.ref x), some (.int load), some (.int (fmN (X 9) load nm (j + 1))), some (.int (nI (j + 1)))]) (by simp only [fmN]; rw [if_pos c33, if_neg c39, if_pos c50]) ?_
              exact ih
            · refine g_iload_n C dX1_fewestMasses_53 rfl rfl ?_
              refine g_istore_n (lv' := [some (.ref x), some (.int load), some (.int (nI j)), some (.int (nI j))]) C dX1_fewestMasses_54 rfl (by decide) rfl ?_
              refine g_inc1 (x := j) (lv' := [some (.ref x), some (.int load), some (.int (nI j)), some (.int (nI (j + 1)))]) C dX1_fewestMasses_55 rfl (by decide) rfl ?_
              refine g_goto 11 C dX1_fewestMasses_58 rfl ?_
              refine g_lveq (lv' := [some (.ref x), some (.int load), some (.int (fmN (X 9) load nm (j + 1))), some (.int (nI (j + 1)))]) (by simp only [fmN]; rw [if_pos c33, if_neg c39, if_neg (Nat.not_le.mpr c50)]) ?_
              exact ih
  · refine g_iconst (v := (-1)) C dX1_fewestMasses_4 rfl ?_
    exact g_iret C R (Nat.le_of_ble_eq_true rfl) (Nat.le_of_ble_eq_true rfl) dX1_fewestMasses_5 (fun H hH => ⟨by unfold fmI; rw [if_neg c1], hH⟩)
set_option maxRecDepth 100000 in
theorem cc_closestLoad {l : Launch} {Γ : Gm} {A : Nat → Prop} {ρ : State → Prop} (B : Bc l Γ A ρ) {h : Hp} {F : Nat → Int32} {X : Nat → Nat → Int32} {nt ns nm ne nv nu ln : Nat} (J : Iv F X nt ns nm ne nv nu ln) {x : Nat} (R_ : RepC Γ F X nt ns nm ne nv nu h x) (load : Int32) : CtF l Γ A ρ yX1_closestLoad cX1_closestLoad 4 (some .int) { frames := 2, cells := 0, slots := 0, locals := 44 } [.ref x, .int load] h (some (.int (clI (X 9) load nm))) h := by
  refine Ct.of B.1.1 B.1.2 (by decide) [some (.ref x), some (.int load), none, none] (Nat.le_of_ble_eq_true rfl) rfl ?_
  intro E hE C R
  subst hE
  have SC_ := B.2 _ C.r
  have ht_ := J.lt
  have hs_ := J.ls
  have hm_ := J.lm
  have he_ := J.le
  have hu_ := J.lu
  have hl_ := J.ll
  have hv_ := J.lv
  obtain ⟨bu, mk, en, hi, sn, so, b7, b8, hs, fsn, fso, Rx, Rb, RK, RE, RH, RS, RA, RO⟩ := id R_
  obtain ⟨sl, wl, ma, te, fm, ft, ss, wq, Km, Kma, Kfm, Kte, Kft, Ksl, Kss, Kwl, Kws⟩ := id RK
  obtain ⟨vl, el, vs, es, Ee, E0, Evl, Eel, Evs, Ees⟩ := id RE
  have hp_ := pow10 hm_
  refine g_iload_n C dX1_closestLoad_0 rfl rfl ?_
  refine g_if_ge 6 C dX1_closestLoad_1 rfl (fun c1 => ?_) (fun c1 => ?_)
  · refine g_iconst (v := 0) C dX1_closestLoad_6 rfl ?_
    refine g_istore_n (lv' := [some (.ref x), some (.int load), some (.int 0), none]) C dX1_closestLoad_7 rfl (by decide) rfl ?_
    refine g_iconst (v := 0) C dX1_closestLoad_8 rfl ?_
    refine g_istore_n (lv' := [some (.ref x), some (.int load), some (.int 0), some (.int 0)]) C dX1_closestLoad_9 rfl (by decide) rfl ?_
    refine g_for (P := fun j => G E (HP Γ A h) 0 0 10 [some (.ref x), some (.int load), some (.int (clN (X 9) load nm j)), some (.int (nI j))] []) (2 ^ nm) ?_ ?_ 0 (Nat.zero_le _)
    · refine g_iload_n C dX1_closestLoad_10 rfl rfl ?_
      refine g_iconst (v := 1) C dX1_closestLoad_11 rfl ?_
      refine g_aload_n C dX1_closestLoad_12 rfl rfl ?_
      refine c_get 0 3 k_X1 in_X1 (by decide) (fun _ h => h) q539 Rx rfl C dX1_closestLoad_13 ?_
      refine c_getN 1 5 k_X2 in_X2 (by decide) (fun _ h => h) q498 SC_ Km rfl C dX1_closestLoad_16 ?_
      refine g_ishl C dX1_closestLoad_19 ?_
      refine g_topi (y := nI (2 ^ nm)) (shl1 (by omega)) ?_
      refine gN_ge (a := (2 ^ nm)) (b := 2 ^ nm) 54 C dX1_closestLoad_20 rfl (by omega) (by omega) (fun c20 => ?_) (fun c20 => ?_)
      · refine g_iload_n C dX1_closestLoad_54 rfl rfl ?_
        exact g_iret C R (Nat.le_of_ble_eq_true rfl) (Nat.le_of_ble_eq_true rfl) dX1_closestLoad_55 (fun H hH => ⟨by unfold clI; rw [if_pos c1], hH⟩)
      · exfalso; omega
    · intro j hj ih
      replace ih : G E (HP Γ A h) 0 0 10 [some (.ref x), some (.int load), some (.int (clN (X 9) load nm (j + 1))), some (.int (nI (j + 1)))] [] := ih
      refine g_iload_n C dX1_closestLoad_10 rfl rfl ?_
      refine g_iconst (v := 1) C dX1_closestLoad_11 rfl ?_
      refine g_aload_n C dX1_closestLoad_12 rfl rfl ?_
      refine c_get 0 3 k_X1 in_X1 (by decide) (fun _ h => h) q539 Rx rfl C dX1_closestLoad_13 ?_
      refine c_getN 1 5 k_X2 in_X2 (by decide) (fun _ h => h) q498 SC_ Km rfl C dX1_closestLoad_16 ?_
      refine g_ishl C dX1_closestLoad_19 ?_
      refine g_topi (y := nI (2 ^ nm)) (shl1 (by omega)) ?_
      refine gN_ge (a := j) (b := 2 ^ nm) 54 C dX1_closestLoad_20 rfl (by omega) (by omega) (fun c20 => ?_) (fun c20 => ?_)
      · exfalso; omega
      · refine g_aload_n C dX1_closestLoad_23 rfl rfl ?_
        refine c_get 0 3 k_X1 in_X1 (by decide) (fun _ h => h) q539 Rx rfl C dX1_closestLoad_24 ?_
        refine g_iload_n C dX1_closestLoad_27 rfl rfl ?_
        refine h_callV (rest := []) 1 C (cc_load B RK hm_ _) (lw_V q1028 q1029 q1030 q87 q1031) ⟨⟨by decide, by decide, by decide +kernel⟩, ⟨Nat.le_of_ble_eq_true rfl, Nat.le_of_ble_eq_true rfl⟩, ⟨Nat.le_of_ble_eq_true rfl, Nat.le_of_ble_eq_true rfl⟩⟩ (fun _ h => h) (HP.recv C Km k_X2) rfl rfl (Nat.le_of_ble_eq_true rfl) dX1_closestLoad_28 (h_F ?_)
        refine g_iload_n C dX1_closestLoad_31 rfl rfl ?_
        refine g_icmp_gt 48 C dX1_closestLoad_32 rfl (fun c32 => ?_) (fun c32 => ?_)
        · refine g_inc1 (x := j) (lv' := [some (.ref x), some (.int load), some (.int (clN (X 9) load nm j)), some (.int (nI (j + 1)))]) C dX1_closestLoad_48 rfl (by decide) rfl ?_
          refine g_goto 10 C dX1_closestLoad_51 rfl ?_
          refine g_lveq (lv' := [some (.ref x), some (.int load), some (.int (clN (X 9) load nm (j + 1))), some (.int (nI (j + 1)))]) (by simp only [clN]; rw [if_pos c32]) ?_
          exact ih
        · refine g_iload_n C dX1_closestLoad_35 rfl rfl ?_
          refine g_aload_n C dX1_closestLoad_36 rfl rfl ?_
          refine c_get 0 3 k_X1 in_X1 (by decide) (fun _ h => h) q539 Rx rfl C dX1_closestLoad_37 ?_
          refine g_iload_n C dX1_closestLoad_40 rfl rfl ?_
          refine h_callV (rest := [.int (clN (X 9) load nm j)]) 1 C (cc_load B RK hm_ _) (lw_V q1028 q1029 q1030 q87 q1031) ⟨⟨by decide, by decide, by decide +kernel⟩, ⟨Nat.le_of_ble_eq_true rfl, Nat.le_of_ble_eq_true rfl⟩, ⟨Nat.le_of_ble_eq_true rfl, Nat.le_of_ble_eq_true rfl⟩⟩ (fun _ h => h) (HP.recv C Km k_X2) rfl rfl (Nat.le_of_ble_eq_true rfl) dX1_closestLoad_41 (h_F ?_)
          refine h_callS (rest := []) 2 C (cc_max B.1 _ _ _) (lw_S q1043 q255 q100 q256) ⟨⟨by decide, by decide, by decide +kernel⟩, ⟨Nat.le_of_ble_eq_true rfl, Nat.le_of_ble_eq_true rfl⟩, ⟨Nat.le_of_ble_eq_true rfl, Nat.le_of_ble_eq_true rfl⟩⟩ (fun _ h => h) rfl rfl (Nat.le_of_ble_eq_true rfl) dX1_closestLoad_44 (h_P ?_)
          refine g_istore_n (lv' := [some (.ref x), some (.int load), some (.int (jmx (clN (X 9) load nm j) (loadN (X 9) (nI j) nm))), some (.int (nI j))]) C dX1_closestLoad_47 rfl (by decide) rfl ?_
          refine g_inc1 (x := j) (lv' := [some (.ref x), some (.int load), some (.int (jmx (clN (X 9) load nm j) (loadN (X 9) (nI j) nm))), some (.int (nI (j + 1)))]) C dX1_closestLoad_48 rfl (by decide) rfl ?_
          refine g_goto 10 C dX1_closestLoad_51 rfl ?_
          refine g_lveq (lv' := [some (.ref x), some (.int load), some (.int (clN (X 9) load nm (j + 1))), some (.int (nI (j + 1)))]) (by simp only [clN]; rw [if_neg c32]; unfold jmx; by_cases c9 : loadN (X 9) (nI j) nm ≤ clN (X 9) load nm j; rw [if_pos c9, if_neg (lele c9)]; rw [if_neg c9, if_pos (ltle c9)]) ?_
          exact ih
  · refine g_iconst (v := (-1)) C dX1_closestLoad_4 rfl ?_
    exact g_iret C R (Nat.le_of_ble_eq_true rfl) (Nat.le_of_ble_eq_true rfl) dX1_closestLoad_5 (fun H hH => ⟨by unfold clI; rw [if_neg c1], hH⟩)
