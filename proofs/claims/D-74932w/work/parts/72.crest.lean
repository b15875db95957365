/-- the component after a snapshot is restored -/
theorem RepC.rest {Γ : Gm} {F : Nat → Int32} {X : Nat → Nat → Int32} {nt ns nm ne nv nv9 nu ln s : Nat} (J : Iv F X nt ns nm ne nv nu ln) (W : Rw ns nm ne (X 11) (fun i => X 43 (677 * s + i)) nv9) {h h1 h' : Hp} {x bu mk hi sn so q : Nat} {b7 b8 : Int32} {f0 : Nat → Nat} {fsn fso : Nat → Option Nat}
    (Rb : h bu = some ((51, 0), aB Γ 800 (X 14))) (RK : RepK Γ X nt ns nm ne h mk) (RS : RepN Γ X nm ne h sn fsn) (RO : RepO Γ h so fso)
    (K1 : Kp (TQ q) h h1) (nq : h q = none) (Rq : RepE Γ (LdX X nm) (fun i => X 43 (677 * s + i)) nv9 ne h1 q) (K2 : Kp TU h1 h') (Rx : h' x = some ((50, 0), .inr (0, [.ref bu, .int (F 15), .int (F 22), .ref mk, .ref q, .ref hi, .ref sn, .int b7, .int b8, .ref so]))) (L : Lst Γ h' hi (52, 0) 2 0 f0) : RepC Γ (upd (upd F 0 0) 41 0) (setX X 1 (cpN (X 43) (X 1) (677 * s) 0 677)) nt ns nm ne nv9 0 h' x := by
  have hne := J.le
  refine ⟨bu, mk, q, hi, sn, so, b7, b8, f0, fsn, fso, Rx, K2.get (K1.get Rb (tq5 ⟨by decide, by decide⟩)) (TU_n ⟨by decide, by decide, by decide⟩), (RK.kQ K1).k5 K2 TU5, (Rq.k5 K2 TU5).congr W hne (fun i hi => by show _ = cpN _ _ _ _ _ _; rw [cpN_lo hi]), ⟨L, fun j hj => absurd hj (Nat.not_lt_zero _)⟩, (RS.kQ K1 nq).k5 K2 TU5 (TU_n ⟨by decide, by decide, by decide⟩), ⟨fun j hj => absurd hj (Nat.not_lt_zero _), fun i j hi => absurd hi (Nat.not_lt_zero _), fun j hj e he => ⟨?_, fun i hi => absurd hi (Nat.not_lt_zero _)⟩⟩, (RO.kQ K1).k5 K2 TU5 (TU_n ⟨by decide, by decide, by decide⟩)⟩
  rcases RS.2 j hj with a | ⟨a, e', nv', b, c'⟩
  · rw [a.2] at he; cases he
  · rw [b] at he; cases he
    exact c'.ne nq
set_option maxRecDepth 100000 in
theorem cc_restoreSnapshot {l : Launch} {Γ : Gm} {A : Nat → Prop} {ρ : State → Prop} (B : Bc l Γ A ρ) {h : Hp} {F : Nat → Int32} {X : Nat → Nat → Int32} {nt ns nm ne nv nu ln : Nat} (J : Iv F X nt ns nm ne nv nu ln) {x : Nat} (R_ : RepC Γ F X nt ns nm ne nv nu h x) (slot : Int32) : CtE l Γ A ρ yX1_restoreSnapshot cX1_restoreSnapshot 2 (some .boolean) { frames := 8, cells := 127, slots := 3170, locals := 193 } [.ref x, .int slot] h (fun v h' => v = some (.int (rsC X slot)) ∧ ∃ nv' nu', RepC Γ (if rsC X slot = 0 then upd F 0 0 else upd (upd F 0 0) 41 0) (if rsC X slot = 0 then X else setX X 1 (cpN (X 43) (X 1) (677 * slot.toNatClampNeg) 0 677)) nt ns nm ne nv' nu' h' x) := by
  refine Ct.of B.1.1 B.1.2 (by decide) [some (.ref x), some (.int slot)] (Nat.le_of_ble_eq_true rfl) rfl ?_
  intro E hE C R
  subst hE
  have SC_ := B.2 _ C.r
  have ht_ := J.lt
  have hs_ := J.ls
  have hm_ := J.lm
  have he_ := J.le
  have hu_ := J.lu
  have hl_ := J.ll
  have hv_ := J.lv
  obtain ⟨bu, mk, en, hi, sn, so, b7, b8, hs, fsn, fso, Rx, Rb, RK, RE, RH, RS, RA, RO⟩ := id R_
  refine g_iload_n C dX1_restoreSnapshot_0 rfl rfl ?_
  refine g_i2l C dX1_restoreSnapshot_1 ?_
  refine g_lconst (v := 0) C dX1_restoreSnapshot_2 rfl ?_
  refine g_lconst (v := 1) C dX1_restoreSnapshot_3 rfl ?_
  refine h_callS (rest := []) 3 C (cc_inRange B.1 _ _ _ _) (lw_S q580 q581 q86 q582) ⟨⟨by decide, by decide, by decide +kernel⟩, ⟨Nat.le_of_ble_eq_true rfl, Nat.le_of_ble_eq_true rfl⟩, ⟨Nat.le_of_ble_eq_true rfl, Nat.le_of_ble_eq_true rfl⟩⟩ (fun _ h => h) rfl rfl (Nat.le_of_ble_eq_true rfl) dX1_restoreSnapshot_4 (h_P ?_)
  refine g_topi (y := ixI slot 2) (wi_lit (n := 1) (by decide)) ?_
  refine g_if_eq 19 C dX1_restoreSnapshot_7 rfl (fun c7 => ?_) (fun c7 => ?_)
  · refine g_iconst (v := 0) C dX1_restoreSnapshot_19 rfl ?_
    have rs0 : rsC X slot = 0 := (by unfold rsC; rw [if_pos c7])
    exact g_zret C R (Nat.le_of_ble_eq_true rfl) (Nat.le_of_ble_eq_true rfl) dX1_restoreSnapshot_20 rfl (fun H hH => ⟨h, ⟨by rw [rs0], nv, nu, by rw [if_pos rs0, if_pos rs0]; exact R_⟩, hH⟩)
  · obtain ⟨j_slot, hj_slot, rfl⟩ := ixI_in (by omega) c7
    rcases RS.2 j_slot hj_slot with ⟨a44, fn⟩ | ⟨a44, e, nv9, fe, E9⟩
    · refine g_aload_n C dX1_restoreSnapshot_10 rfl rfl ?_
      refine c_get 0 6 k_X1 in_X1 (by decide) (fun _ h => h) q542 Rx rfl C dX1_restoreSnapshot_11 ?_
      refine g_iload_n C dX1_restoreSnapshot_14 rfl rfl ?_
      refine c_aald 5 rfl (i := j_slot) (v := .null) (by rw [fn]; rfl) RS.1 (by omega) (by omega) C dX1_restoreSnapshot_15 ?_
      refine g_ifnonnullN C dX1_restoreSnapshot_16 ?_
      refine g_iconst (v := 0) C dX1_restoreSnapshot_19 rfl ?_
      have rs0 : rsC X (nI j_slot) = 0 := (by unfold rsC; rw [if_neg c7, nI_clamp (by omega), if_pos a44])
      exact g_zret C R (Nat.le_of_ble_eq_true rfl) (Nat.le_of_ble_eq_true rfl) dX1_restoreSnapshot_20 rfl (fun H hH => ⟨h, ⟨by rw [rs0], nv, nu, by rw [if_pos rs0, if_pos rs0]; exact R_⟩, hH⟩)
    · obtain ⟨nv2, W9⟩ : ∃ nv2, Rw ns nm ne (X 11) (fun i => X 43 (677 * j_slot + i)) nv2 := by rcases J.2.2.2.2.2.2.2.2.2 j_slot hj_slot with z | ⟨-, z⟩; rw [a44] at z; exact absurd z (by decide); exact z
      have e29 := E9.nv W9
      subst e29
      obtain ⟨fq9, Eo9⟩ := E9.obj
      refine g_aload_n C dX1_restoreSnapshot_10 rfl rfl ?_
      refine c_get 0 6 k_X1 in_X1 (by decide) (fun _ h => h) q542 Rx rfl C dX1_restoreSnapshot_11 ?_
      refine g_iload_n C dX1_restoreSnapshot_14 rfl rfl ?_
      refine c_aald 5 rfl (i := j_slot) (v := .ref e) (by rw [fe]; rfl) RS.1 (by omega) (by omega) C dX1_restoreSnapshot_15 ?_
      refine g_ifnonnull 21 C dX1_restoreSnapshot_16 rfl ?_
      refine g_aload_n C dX1_restoreSnapshot_21 rfl rfl ?_
      refine g_aload_n C dX1_restoreSnapshot_22 rfl rfl ?_
      refine c_get 0 6 k_X1 in_X1 (by decide) (fun _ h => h) q542 Rx rfl C dX1_restoreSnapshot_23 ?_
      refine g_iload_n C dX1_restoreSnapshot_26 rfl rfl ?_
      refine c_aald 5 rfl (i := j_slot) (v := .ref e) (by rw [fe]; rfl) RS.1 (by omega) (by omega) C dX1_restoreSnapshot_27 ?_
      refine h_callV (rest := [.ref x]) 0 C (cc_ecopy B E9 W9 J.le) (lw_V q1082 q1083 q1084 q106 q1085) ⟨⟨by decide, by decide, by decide +kernel⟩, ⟨Nat.le_of_ble_eq_true rfl, Nat.le_of_ble_eq_true rfl⟩, ⟨Nat.le_of_ble_eq_true rfl, Nat.le_of_ble_eq_true rfl⟩⟩ (fun _ h => h) (HP.recv C Eo9 k_X3) rfl rfl (Nat.le_of_ble_eq_true rfl) dX1_restoreSnapshot_28 (h_E (fun v1 hp1 r1 => ?_))
      obtain ⟨q, rfl, nq, Rq, KC⟩ := r1
      obtain ⟨fq, Eq⟩ := Rq.obj
      have Rx1 : hp1 x = some ((50, 0), .inr (0, [.ref bu, .int (F 15), .int (F 22), .ref mk, .ref en, .ref hi, .ref sn, .int b7, .int b8, .ref so])) := KC.get Rx (tq5 ⟨by decide, by decide⟩)
      have LH1 := (RH.kQ KC nq).1
      refine c_put 0 4 k_X1 in_X1 tyX1 tyX1_ok nmX1 (by decide) (fun _ h => h) q540 rfl (ty := .object "ScaleInspection$Entry") (by decide +kernel) rfl rfl (Nat.le_of_ble_eq_true rfl) Rx1 C dX1_restoreSnapshot_31 ?_
      obtain ⟨hp2, ehp2⟩ : ∃ hh9 : Hp, hh9 = hset hp1 x (50, 0) (.inr (0, [.ref bu, .int (F 15), .int (F 22), .ref mk, .ref q, .ref hi, .ref sn, .int b7, .int b8, .ref so])) := ⟨_, rfl⟩
      refine g_heq (h' := hp2) ehp2.symm ?_
      have php2_x : hp2 x = some ((50, 0), .inr (0, [.ref bu, .int (F 15), .int (F 22), .ref mk, .ref q, .ref hi, .ref sn, .int b7, .int b8, .ref so])) := by rw [ehp2]; exact hset_self _ _ _ _
      have php2_hi := Lst.cast ehp2 (LH1.put Rx1 (by decide) (by decide))
      refine g_aload_n C dX1_restoreSnapshot_34 rfl rfl ?_
      refine c_get 0 5 k_X1 in_X1 (by decide) (fun _ h => h) q541 php2_x rfl C dX1_restoreSnapshot_35 ?_
      refine h_callV (rest := []) 0 C (cc_clear B (by decide) php2_hi) (lw_V q983 q984 q985 q90 q986) ⟨⟨by decide, by decide, by decide +kernel⟩, ⟨Nat.le_of_ble_eq_true rfl, Nat.le_of_ble_eq_true rfl⟩, ⟨Nat.le_of_ble_eq_true rfl, Nat.le_of_ble_eq_true rfl⟩⟩ (fun _ h => h) (php2_hi.recv C) rfl rfl (Nat.le_of_ble_eq_true rfl) dX1_restoreSnapshot_38 (h_E (fun v3 hp3 r3 => ?_))
      obtain ⟨rfl, LCl, KCl⟩ := r3
      have Rx3 := KCl.get php2_x (fun z => by rcases z with z | z <;> cases z)
      refine g_iconst (v := 1) C dX1_restoreSnapshot_41 rfl ?_
      have rs1 : rsC X (nI j_slot) = 1 := by unfold rsC; rw [if_neg c7, nI_clamp (by omega), if_neg (by rw [a44]; decide)]
      have rs2 : ¬ rsC X (nI j_slot) = 0 := by rw [rs1]; decide
      exact g_zret C R (Nat.le_of_ble_eq_true rfl) (Nat.le_of_ble_eq_true rfl) dX1_restoreSnapshot_42 rfl (fun H hH => ⟨hp3, ⟨by rw [rs1], nv9, 0, by rw [if_neg rs2, if_neg rs2, nI_clamp (by omega)]; exact RepC.rest J W9 Rb RK RS RO KC nq Rq (Kp.tr (show Kp _ hp1 hp2 by rw [ehp2]; exact Kp.put Rx1 (Or.inr rfl)) (show Kp _ hp2 hp3 from (Kp.up KCl (fun t z => Or.inl z)))) Rx3 LCl⟩, hH⟩)
