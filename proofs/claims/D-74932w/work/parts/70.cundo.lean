def TU : Tg → Prop := fun t => TL (52, 0) t ∨ t = (50, 0)
theorem TU5 : T5 TU := fun t h => by
  rcases h with h | h
  · exact TL52 t h
  · rw [h]; exact ⟨by decide, by decide⟩
theorem TU_n {t : Tg} (h : t.1 ≠ 52 ∧ t.1 ≠ 53 ∧ t.1 ≠ 50) : ¬ TU t := fun z => by
  rcases z with (z | z) | z
  · rw [z] at h; exact h.1 rfl
  · rw [z] at h; exact h.2.1 rfl
  · rw [z] at h; exact h.2.2 rfl
theorem RepE.nv {Γ : Gm} {Ld : Int32 → Int32} {r : Nat → Int32} {nv nv2 ne en ns nm : Nat} {wt : Nat → Int32} {h : Hp} (E : RepE Γ Ld r nv ne h en) (W : Rw ns nm ne wt r nv2) : nv = nv2 := by
  obtain ⟨vl, el, vs, es, h1, h2, h3, -⟩ := E
  exact (nI_eq (by have := h3.le; omega) (by have := W.2.1; omega)).mp (h2.symm.trans W.1)
theorem cpN_lo {f g : Nat → Int32} {sp n i : Nat} (h : i < n) : cpN f g sp 0 n i = f (sp + i) := by
  rw [cpN_eq]
  unfold va_cpy
  rw [if_pos (by omega)]
  rfl
/-- the component after an undo -/
theorem RepC.undo {Γ : Gm} {F : Nat → Int32} {X : Nat → Nat → Int32} {nt ns nm ne nv m ln : Nat} (J : Iv F X nt ns nm ne nv (m + 1) ln) {h h' : Hp} {x bu mk en hi sn so : Nat} {b7 b8 : Int32} {hs : Nat → Nat} {fsn fso : Nat → Option Nat}
    (Rb : h bu = some ((51, 0), aB Γ 800 (X 14))) (RK : RepK Γ X nt ns nm ne h mk) (RH : RepH Γ X nm ne (m + 1) h hi hs) (RS : RepN Γ X nm ne h sn fsn) (RA : Apt en (m + 1) hs fsn) (RO : RepO Γ h so fso)
    (K : Kp TU h h') (Rx : h' x = some ((50, 0), .inr (0, [.ref bu, .int (F 15), .int (F 22), .ref mk, .ref (hs m), .ref hi, .ref sn, .int b7, .int b8, .ref so]))) (L : Lst Γ h' hi (52, 0) 2 m (rmF hs m)) : ∃ nv', RepC Γ (upd (upd F 0 0) 41 (nI m)) (setX X 1 (cpN (X 42) (X 1) (677 * m) 0 677)) nt ns nm ne nv' m h' x := by
  have hne := J.le
  obtain ⟨nv', E⟩ := RH.2 m (by omega)
  obtain ⟨nv2, W⟩ := J.2.2.2.2.2.2.2.2.1 m (by omega)
  have e2 := E.nv W
  subst e2
  refine ⟨nv', bu, mk, hs m, hi, sn, so, b7, b8, hs, fsn, fso, Rx, K.get Rb (TU_n ⟨by decide, by decide, by decide⟩), RK.k5 K TU5, (E.k5 K TU5).congr W hne (fun i hi => by show _ = cpN _ _ _ _ _ _; rw [cpN_lo hi]), ⟨L.f_eq (fun k hk => by unfold rmF; rw [if_pos hk]), fun j hj => ?_⟩, RS.k5 K TU5 (TU_n ⟨by decide, by decide, by decide⟩), ⟨fun j hj z => ?_, fun i j hi hj e => RA.2.1 i j (by omega) (by omega) e, fun j hj e he => ⟨(RA.2.2 j hj e he).2 m (by omega), fun i hi => (RA.2.2 j hj e he).2 i (by omega)⟩⟩, RO.k5 K TU5 (TU_n ⟨by decide, by decide, by decide⟩)⟩
  · obtain ⟨nv3, E3⟩ := RH.2 j (by omega)
    exact ⟨nv3, E3.k5 K TU5⟩
  · have := RA.2.1 j m (by omega) (by omega) z
    omega
set_option maxRecDepth 100000 in
theorem cc_undo {l : Launch} {Γ : Gm} {A : Nat → Prop} {ρ : State → Prop} (B : Bc l Γ A ρ) {h : Hp} {F : Nat → Int32} {X : Nat → Nat → Int32} {nt ns nm ne nv nu ln : Nat} (J : Iv F X nt ns nm ne nv nu ln) {x : Nat} (R_ : RepC Γ F X nt ns nm ne nv nu h x) : CtE l Γ A ρ yX1_undo cX1_undo 1 (some .boolean) { frames := 3, cells := 0, slots := 0, locals := 86 } [.ref x] h (fun v h' => v = some (.int (if nu = 0 then 0 else 1)) ∧ ∃ nv', RepC Γ (if nu = 0 then upd F 0 0 else upd (upd F 0 0) 41 (nI (nu - 1))) (if nu = 0 then X else setX X 1 (cpN (X 42) (X 1) (677 * (nu - 1)) 0 677)) nt ns nm ne nv' (nu - 1) h' x) := by
  refine Ct.of B.1.1 B.1.2 (by decide) [some (.ref x)] (Nat.le_of_ble_eq_true rfl) rfl ?_
  intro E hE C R
  subst hE
  have SC_ := B.2 _ C.r
  have ht_ := J.lt
  have hs_ := J.ls
  have hm_ := J.lm
  have he_ := J.le
  have hu_ := J.lu
  have hl_ := J.ll
  have hv_ := J.lv
  obtain ⟨bu, mk, en, hi, sn, so, b7, b8, hs, fsn, fso, Rx, Rb, RK, RE, RH, RS, RA, RO⟩ := id R_
  rcases Nat.eq_zero_or_pos nu with hz | hz
  · subst hz
    refine g_aload_n C dX1_undo_0 rfl rfl ?_
    refine c_get 0 5 k_X1 in_X1 (by decide) (fun _ h => h) q541 Rx rfl C dX1_undo_1 ?_
    refine h_callV (rest := []) 0 C (cc_isEmpty B RH.1) (lw_V q1507 q1508 q1509 q90 q1510) ⟨⟨by decide, by decide, by decide +kernel⟩, ⟨Nat.le_of_ble_eq_true rfl, Nat.le_of_ble_eq_true rfl⟩, ⟨Nat.le_of_ble_eq_true rfl, Nat.le_of_ble_eq_true rfl⟩⟩ (fun _ h => h) (RH.1.recv C) rfl rfl (Nat.le_of_ble_eq_true rfl) dX1_undo_4 (h_F ?_)
    refine g_topi (y := 1) (if_pos rfl) ?_
    refine g_if_eq 12 C dX1_undo_7 rfl (fun c7 => ?_) (fun c7 => ?_)
    · exact absurd c7 (by decide)
    · refine g_iconst (v := 0) C dX1_undo_10 rfl ?_
      exact g_zret C R (Nat.le_of_ble_eq_true rfl) (Nat.le_of_ble_eq_true rfl) dX1_undo_11 rfl (fun H hH => ⟨h, ⟨rfl, nv, R_⟩, hH⟩)
  · obtain ⟨m, rfl⟩ : ∃ m, nu = m + 1 := ⟨nu - 1, by omega⟩
    refine g_aload_n C dX1_undo_0 rfl rfl ?_
    refine c_get 0 5 k_X1 in_X1 (by decide) (fun _ h => h) q541 Rx rfl C dX1_undo_1 ?_
    refine h_callV (rest := []) 0 C (cc_isEmpty B RH.1) (lw_V q1507 q1508 q1509 q90 q1510) ⟨⟨by decide, by decide, by decide +kernel⟩, ⟨Nat.le_of_ble_eq_true rfl, Nat.le_of_ble_eq_true rfl⟩, ⟨Nat.le_of_ble_eq_true rfl, Nat.le_of_ble_eq_true rfl⟩⟩ (fun _ h => h) (RH.1.recv C) rfl rfl (Nat.le_of_ble_eq_true rfl) dX1_undo_4 (h_F ?_)
    refine g_topi (y := 0) (if_neg (by omega)) ?_
    refine g_if_eq 12 C dX1_undo_7 rfl (fun c7 => ?_) (fun c7 => ?_)
    · refine g_aload_n C dX1_undo_12 rfl rfl ?_
      refine g_aload_n C dX1_undo_13 rfl rfl ?_
      refine c_get 0 5 k_X1 in_X1 (by decide) (fun _ h => h) q541 Rx rfl C dX1_undo_14 ?_
      refine g_aload_n C dX1_undo_17 rfl rfl ?_
      refine c_get 0 5 k_X1 in_X1 (by decide) (fun _ h => h) q541 Rx rfl C dX1_undo_18 ?_
      refine h_callV (rest := [.ref hi, .ref x]) 0 C (cc_size B RH.1) (lw_V q939 q770 q771 q90 q772) ⟨⟨by decide, by decide, by decide +kernel⟩, ⟨Nat.le_of_ble_eq_true rfl, Nat.le_of_ble_eq_true rfl⟩, ⟨Nat.le_of_ble_eq_true rfl, Nat.le_of_ble_eq_true rfl⟩⟩ (fun _ h => h) (RH.1.recv C) rfl rfl (Nat.le_of_ble_eq_true rfl) dX1_undo_21 (h_F ?_)
      refine g_iconst (v := 1) C dX1_undo_24 rfl ?_
      refine g_isub C dX1_undo_25 ?_
      refine g_topi (y := nI ((m + 1) - 1)) (pk_sub (a := m + 1) (b := 1) (by omega)) ?_
      refine g_topi (y := nI m) (rfl) ?_
      refine h_callV (rest := [.ref x]) 1 C (cc_remove B Cno2 RH.1 m (by omega)) (lw_V q1073 q1074 q1075 q90 q1076) ⟨⟨by decide, by decide, by decide +kernel⟩, ⟨Nat.le_of_ble_eq_true rfl, Nat.le_of_ble_eq_true rfl⟩, ⟨Nat.le_of_ble_eq_true rfl, Nat.le_of_ble_eq_true rfl⟩⟩ (fun _ h => h) (RH.1.recv C) rfl rfl (Nat.le_of_ble_eq_true rfl) dX1_undo_26 (h_E (fun v1 hp1 r1 => ?_))
      obtain ⟨rfl, LR, KR⟩ := r1
      have nx : ¬ TL (52, 0) ((50, 0) : Tg) := fun z => by rcases z with z | z <;> cases z
      have Rx1 : hp1 x = some ((50, 0), .inr (0, [.ref bu, .int (F 15), .int (F 22), .ref mk, .ref en, .ref hi, .ref sn, .int b7, .int b8, .ref so])) := KR.get Rx nx
      obtain ⟨nv9, E9⟩ := RH.2 m (by omega)
      obtain ⟨fe9, Eo9⟩ := (E9.k5 KR TL52).obj
      refine c_castS Eo9 k_X3 q513 C dX1_undo_29 ?_
      refine c_put 0 4 k_X1 in_X1 tyX1 tyX1_ok nmX1 (by decide) (fun _ h => h) q540 rfl (ty := .object "ScaleInspection$Entry") (by decide +kernel) rfl rfl (Nat.le_of_ble_eq_true rfl) Rx1 C dX1_undo_32 ?_
      obtain ⟨hp2, ehp2⟩ : ∃ hh9 : Hp, hh9 = hset hp1 x (50, 0) (.inr (0, [.ref bu, .int (F 15), .int (F 22), .ref mk, .ref (hs m), .ref hi, .ref sn, .int b7, .int b8, .ref so])) := ⟨_, rfl⟩
      refine g_heq (h' := hp2) ehp2.symm ?_
      have php2_x : hp2 x = some ((50, 0), .inr (0, [.ref bu, .int (F 15), .int (F 22), .ref mk, .ref (hs m), .ref hi, .ref sn, .int b7, .int b8, .ref so])) := by rw [ehp2]; exact hset_self _ _ _ _
      have php2_hs_m : hp2 (hs m) = some ((30, 0), .inr (2, fe9)) := by rw [ehp2]; exact hset_oc (by decide) Rx1 Eo9
      refine g_iconst (v := 1) C dX1_undo_35 rfl ?_
      obtain ⟨nv8, RC8⟩ := RepC.undo J Rb RK RH RS RA RO (Kp.tr (show Kp _ h hp1 from (Kp.up KR (fun t z => Or.inl z))) (show Kp _ hp1 hp2 by rw [ehp2]; exact Kp.put Rx1 (Or.inr rfl))) php2_x (Lst.cast ehp2 (LR.put Rx1 (by decide) (by decide)))
      exact g_zret C R (Nat.le_of_ble_eq_true rfl) (Nat.le_of_ble_eq_true rfl) dX1_undo_36 rfl (fun H hH => ⟨hp2, ⟨rfl, nv8, RC8⟩, hH⟩)
    · exact absurd c7 (by decide)
