/-- the last closed visit, as a reference -/
def lcR (vs : Nat → Nat) (n : Int32) : Value := if n = -2 then .null else .ref (vs n.toNatClampNeg)
theorem lcR_0 (vs : Nat → Nat) : lcR vs (-2) = .null := if_pos rfl
theorem lcR_j (vs : Nat → Nat) {j : Nat} (h : j < 2 ^ 31) : lcR vs (nI j) = .ref (vs j) := by unfold lcR; rw [if_neg (nI_m2 h), nI_clamp h]
theorem lcR_cat (vs : Nat → Nat) (n : Int32) : ¬ (lcR vs n).category = 2 := by
  unfold lcR
  split <;> exact fun h => absurd h (by simp [Value.category])
theorem laN_cl (r : Nat → Int32) (s day : Int32) (n : Nat) (hn : n < 2 ^ 31) : ∀ j, laN r s day n = nI j → j < 2 ^ 31 → r (61 + j) = 1 := by
  induction n with
  | zero => intro j h hj; exact absurd h.symm (nI_m2 hj)
  | succ n ih =>
    intro j h hj
    have ih := ih (by omega) j
    unfold laN at h
    split at h
    · split at h
      · split at h
        · exact ih h hj
        · rename_i c _
          have : n = j := (nI_eq (by omega) hj).mp h
          subst this
          exact c
      · exact ih h hj
    · exact ih h hj
set_option maxRecDepth 100000 in
theorem cc_lastClosed {l : Launch} {Γ : Gm} {A : Nat → Prop} {ρ : State → Prop} (B : Bc l Γ A ρ) {h : Hp} {F : Nat → Int32} {X : Nat → Nat → Int32} {nt ns nm ne nv nu ln : Nat} (J : Iv F X nt ns nm ne nv nu ln) {x : Nat} (R_ : RepC Γ F X nt ns nm ne nv nu h x) (s day : Int32) : CtE l Γ A ρ yX1_lastClosed cX1_lastClosed 6 (some (.object "ScaleInspection$Visit")) { frames := 3, cells := 0, slots := 0, locals := 64 } [.ref x, .int s, .int day] h (fun v h' => h' = h ∧ ((laN (X 1) s day nv = -2 ∧ v = some .null) ∨ ∃ j vv en0, j < nv ∧ laN (X 1) s day nv = nI j ∧ v = some (.ref vv) ∧ RepV Γ (LdX X nm) (X 1) j h en0 vv)) := by
  refine Ct.of B.1.1 B.1.2 (by decide) [some (.ref x), some (.int s), some (.int day), none, none, none] (Nat.le_of_ble_eq_true rfl) rfl ?_
  intro E hE C R
  subst hE
  have SC_ := B.2 _ C.r
  have ht_ := J.lt
  have hs_ := J.ls
  have hm_ := J.lm
  have he_ := J.le
  have hu_ := J.lu
  have hl_ := J.ll
  have hv_ := J.lv
  obtain ⟨bu, mk, en, hi, sn, so, b7, b8, hs, fsn, fso, Rx, Rb, RK, RE, RH, RS, RA, RO⟩ := id R_
  obtain ⟨vl, el, vs, es, Ee, E0, Evl, Eel, Evs, Ees⟩ := id RE
  refine g_null C dX1_lastClosed_0 ?_
  refine g_astore_nN (lv' := [some (.ref x), some (.int s), some (.int day), some (.null), none, none]) C dX1_lastClosed_1 rfl (by decide) rfl ?_
  refine g_iconst (v := 0) C dX1_lastClosed_2 rfl ?_
  refine g_istore (lv' := [some (.ref x), some (.int s), some (.int day), some (.null), some (.int 0), none]) C dX1_lastClosed_3 (by decide) rfl ?_
  refine g_lveq (lv' := [some (.ref x), some (.int s), some (.int day), some (lcR vs (laN (X 1) s day 0)), some (.int 0), none]) rfl ?_
  refine g_for (P := fun j => G E (HP Γ A h) 0 0 5 [some (.ref x), some (.int s), some (.int day), some (lcR vs (laN (X 1) s day j)), some (.int (nI j)), none] []) nv ?_ ?_ 0 (Nat.zero_le _)
  · refine g_iload C dX1_lastClosed_5 rfl ?_
    refine g_aload_n C dX1_lastClosed_7 rfl rfl ?_
    refine c_get 0 4 k_X1 in_X1 (by decide) (fun _ h => h) q540 Rx rfl C dX1_lastClosed_8 ?_
    refine c_getN 2 0 k_X3 in_X3 (by decide) (fun _ h => h) q522 SC_ Ee rfl C dX1_lastClosed_11 ?_
    refine h_callV (rest := [.int (nI nv)]) 0 C (cc_size B Evl) (lw_V q939 q770 q771 q90 q772) ⟨⟨by decide, by decide, by decide +kernel⟩, ⟨Nat.le_of_ble_eq_true rfl, Nat.le_of_ble_eq_true rfl⟩, ⟨Nat.le_of_ble_eq_true rfl, Nat.le_of_ble_eq_true rfl⟩⟩ (fun _ h => h) (Evl.recv C) rfl rfl (Nat.le_of_ble_eq_true rfl) dX1_lastClosed_14 (h_F ?_)
    refine gN_ge (a := nv) (b := nv) 72 C dX1_lastClosed_17 rfl (by omega) (by omega) (fun c17 => ?_) (fun c17 => ?_)
    · rcases laN_or (X 1) s day nv with e | ⟨i, hii, e⟩
      · refine g_lveq (lv' := [some (.ref x), some (.int s), some (.int day), some (.null), some (.int (nI nv)), none]) (by rw [e, lcR_0]) ?_
        refine g_aload_nN C dX1_lastClosed_72 rfl rfl ?_
        exact g_aret C R (Or.inl ⟨_, rfl⟩) (Or.inl rfl) (Nat.le_of_ble_eq_true rfl) (Nat.le_of_ble_eq_true rfl) dX1_lastClosed_73 (fun H hH => ⟨h, ⟨rfl, Or.inl ⟨e, rfl⟩⟩, hH⟩)
      · refine g_lveq (lv' := [some (.ref x), some (.int s), some (.int day), some (.ref (vs i)), some (.int (nI nv)), none]) (by rw [e, lcR_j vs (by omega)]) ?_
        refine g_aload_n C dX1_lastClosed_72 rfl rfl ?_
        exact g_aret C R (Or.inl ⟨_, rfl⟩) (Or.inr ⟨_, rfl⟩) (Nat.le_of_ble_eq_true rfl) (Nat.le_of_ble_eq_true rfl) dX1_lastClosed_73 (fun H hH => ⟨h, ⟨rfl, Or.inr ⟨i, vs i, en, hii, e, rfl, Evs i hii⟩⟩, hH⟩)
    · exfalso; omega
  · intro j hj ih
    replace ih : G E (HP Γ A h) 0 0 5 [some (.ref x), some (.int s), some (.int day), some (lcR vs (laN (X 1) s day (j + 1))), some (.int (nI (j + 1))), none] [] := ih
    refine g_iload C dX1_lastClosed_5 rfl ?_
    refine g_aload_n C dX1_lastClosed_7 rfl rfl ?_
    refine c_get 0 4 k_X1 in_X1 (by decide) (fun _ h => h) q540 Rx rfl C dX1_lastClosed_8 ?_
    refine c_getN 2 0 k_X3 in_X3 (by decide) (fun _ h => h) q522 SC_ Ee rfl C dX1_lastClosed_11 ?_
    refine h_callV (rest := [.int (nI j)]) 0 C (cc_size B Evl) (lw_V q939 q770 q771 q90 q772) ⟨⟨by decide, by decide, by decide +kernel⟩, ⟨Nat.le_of_ble_eq_true rfl, Nat.le_of_ble_eq_true rfl⟩, ⟨Nat.le_of_ble_eq_true rfl, Nat.le_of_ble_eq_true rfl⟩⟩ (fun _ h => h) (Evl.recv C) rfl rfl (Nat.le_of_ble_eq_true rfl) dX1_lastClosed_14 (h_F ?_)
    refine gN_ge (a := j) (b := nv) 72 C dX1_lastClosed_17 rfl (by omega) (by omega) (fun c17 => ?_) (fun c17 => ?_)
    · exfalso; omega
    · refine g_aload_n C dX1_lastClosed_20 rfl rfl ?_
      refine c_get 0 4 k_X1 in_X1 (by decide) (fun _ h => h) q540 Rx rfl C dX1_lastClosed_21 ?_
      refine c_getN 2 0 k_X3 in_X3 (by decide) (fun _ h => h) q522 SC_ Ee rfl C dX1_lastClosed_24 ?_
      refine g_iload C dX1_lastClosed_27 rfl ?_
      refine h_callV (rest := []) 1 C (cc_get B Evl j (by omega)) (lw_V q940 q941 q942 q90 q943) ⟨⟨by decide, by decide, by decide +kernel⟩, ⟨Nat.le_of_ble_eq_true rfl, Nat.le_of_ble_eq_true rfl⟩, ⟨Nat.le_of_ble_eq_true rfl, Nat.le_of_ble_eq_true rfl⟩⟩ (fun _ h => h) (Evl.recv C) rfl rfl (Nat.le_of_ble_eq_true rfl) dX1_lastClosed_29 (h_F ?_)
      obtain ⟨vm1, ve1, fvm1, fve1, Vo1, Vm1, Ve1, Vt1⟩ := Evs j (by omega)
      refine c_castS Vo1 k_X15 q1064 C dX1_lastClosed_32 ?_
      refine g_astore (lv' := [some (.ref x), some (.int s), some (.int day), some (lcR vs (laN (X 1) s day j)), some (.int (nI j)), some (.ref (vs j))]) C dX1_lastClosed_35 (by decide) rfl ?_
      refine g_aload C dX1_lastClosed_37 rfl ?_
      refine c_getN 13 0 k_X15 in_X15 (by decide) (fun _ h => h) q1103 SC_ Vo1 rfl C dX1_lastClosed_39 ?_
      refine g_iload_n C dX1_lastClosed_42 rfl rfl ?_
      refine g_icmp_ne 66 C dX1_lastClosed_43 rfl (fun c43 => ?_) (fun c43 => ?_)
      · refine g_inc1 (x := j) (lv' := [some (.ref x), some (.int s), some (.int day), some (lcR vs (laN (X 1) s day j)), some (.int (nI (j + 1))), some (.ref (vs j))]) C dX1_lastClosed_66 rfl (by decide) (by show (if (lcR vs (laN (X 1) s day j)).category = 2 then _ else _) = _; rw [if_neg (lcR_cat _ _)]; rfl) ?_
        refine g_goto 5 C dX1_lastClosed_69 rfl ?_
        have el : laN (X 1) s day (j + 1) = laN (X 1) s day j := by simp only [laN]; rw [if_neg c43]
        refine g_lveq (lv' := [some (.ref x), some (.int s), some (.int day), some (lcR vs (laN (X 1) s day (j + 1))), some (.int (nI (j + 1))), some (.ref (vs j))]) (by rw [el]) ?_
        exact g_lv (lv' := [some (.ref x), some (.int s), some (.int day), some (lcR vs (laN (X 1) s day (j + 1))), some (.int (nI (j + 1))), none]) (fun i w h => by match i, h with | 0, h => exact h | 1, h => exact h | 2, h => exact h | 3, h => exact h | 4, h => exact h | 5, h => cases h) (ih)
      · refine g_aload C dX1_lastClosed_46 rfl ?_
        refine h_callV (rest := []) 0 C (cc_visClosed B Vo1) (lw_V q1065 q1066 q1067 q122 q1068) ⟨⟨by decide, by decide, by decide +kernel⟩, ⟨Nat.le_of_ble_eq_true rfl, Nat.le_of_ble_eq_true rfl⟩, ⟨Nat.le_of_ble_eq_true rfl, Nat.le_of_ble_eq_true rfl⟩⟩ (fun _ h => h) (HP.recv C Vo1 k_X15) rfl rfl (Nat.le_of_ble_eq_true rfl) dX1_lastClosed_48 (h_F ?_)
        refine g_topi (y := X 1 (61 + j)) (clI_eq (J.vi hj)) ?_
        refine g_if_eq 66 C dX1_lastClosed_51 rfl (fun c51 => ?_) (fun c51 => ?_)
        · refine g_inc1 (x := j) (lv' := [some (.ref x), some (.int s), some (.int day), some (lcR vs (laN (X 1) s day j)), some (.int (nI (j + 1))), some (.ref (vs j))]) C dX1_lastClosed_66 rfl (by decide) (by show (if (lcR vs (laN (X 1) s day j)).category = 2 then _ else _) = _; rw [if_neg (lcR_cat _ _)]; rfl) ?_
          refine g_goto 5 C dX1_lastClosed_69 rfl ?_
          have el : laN (X 1) s day (j + 1) = laN (X 1) s day j := by simp only [laN]; rw [if_pos c43, if_neg (fun z : X 1 (61 + j) = 1 => absurd (c51.symm.trans z) (by decide))]
          refine g_lveq (lv' := [some (.ref x), some (.int s), some (.int day), some (lcR vs (laN (X 1) s day (j + 1))), some (.int (nI (j + 1))), some (.ref (vs j))]) (by rw [el]) ?_
          exact g_lv (lv' := [some (.ref x), some (.int s), some (.int day), some (lcR vs (laN (X 1) s day (j + 1))), some (.int (nI (j + 1))), none]) (fun i w h => by match i, h with | 0, h => exact h | 1, h => exact h | 2, h => exact h | 3, h => exact h | 4, h => exact h | 5, h => cases h) (ih)
        · have c51c : X 1 (61 + j) = 1 := ((J.vi hj).c01).resolve_left c51
          refine g_aload C dX1_lastClosed_54 rfl ?_
          refine c_getN 13 1 k_X15 in_X15 (by decide) (fun _ h => h) q1105 SC_ Vo1 rfl C dX1_lastClosed_56 ?_
          refine g_iload_n C dX1_lastClosed_59 rfl rfl ?_
          refine g_icmp_gt 66 C dX1_lastClosed_60 rfl (fun c60 => ?_) (fun c60 => ?_)
          · refine g_inc1 (x := j) (lv' := [some (.ref x), some (.int s), some (.int day), some (lcR vs (laN (X 1) s day j)), some (.int (nI (j + 1))), some (.ref (vs j))]) C dX1_lastClosed_66 rfl (by decide) (by show (if (lcR vs (laN (X 1) s day j)).category = 2 then _ else _) = _; rw [if_neg (lcR_cat _ _)]; rfl) ?_
            refine g_goto 5 C dX1_lastClosed_69 rfl ?_
            have el : laN (X 1) s day (j + 1) = laN (X 1) s day j := by simp only [laN]; rw [if_pos c43, if_pos c51c, if_pos c60]
            refine g_lveq (lv' := [some (.ref x), some (.int s), some (.int day), some (lcR vs (laN (X 1) s day (j + 1))), some (.int (nI (j + 1))), some (.ref (vs j))]) (by rw [el]) ?_
            exact g_lv (lv' := [some (.ref x), some (.int s), some (.int day), some (lcR vs (laN (X 1) s day (j + 1))), some (.int (nI (j + 1))), none]) (fun i w h => by match i, h with | 0, h => exact h | 1, h => exact h | 2, h => exact h | 3, h => exact h | 4, h => exact h | 5, h => cases h) (ih)
          · refine g_aload C dX1_lastClosed_63 rfl ?_
            refine g_astore_n (lv' := [some (.ref x), some (.int s), some (.int day), some (.ref (vs j)), some (.int (nI j)), some (.ref (vs j))]) C dX1_lastClosed_65 rfl (by decide) rfl ?_
            refine g_inc1 (x := j) (lv' := [some (.ref x), some (.int s), some (.int day), some (.ref (vs j)), some (.int (nI (j + 1))), some (.ref (vs j))]) C dX1_lastClosed_66 rfl (by decide) rfl ?_
            refine g_goto 5 C dX1_lastClosed_69 rfl ?_
            have el : laN (X 1) s day (j + 1) = nI j := by simp only [laN]; rw [if_pos c43, if_pos c51c, if_neg c60]
            refine g_lveq (lv' := [some (.ref x), some (.int s), some (.int day), some (lcR vs (laN (X 1) s day (j + 1))), some (.int (nI (j + 1))), some (.ref (vs j))]) (by rw [el, lcR_j vs (by omega)]) ?_
            exact g_lv (lv' := [some (.ref x), some (.int s), some (.int day), some (lcR vs (laN (X 1) s day (j + 1))), some (.int (nI (j + 1))), none]) (fun i w h => by match i, h with | 0, h => exact h | 1, h => exact h | 2, h => exact h | 3, h => exact h | 4, h => exact h | 5, h => cases h) (ih)
