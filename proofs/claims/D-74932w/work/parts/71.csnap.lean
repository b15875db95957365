theorem RepE.kQ {Γ : Gm} {Ld : Int32 → Int32} {r : Nat → Int32} {nv ne en q : Nat} {h h' : Hp} (V : RepE Γ Ld r nv ne h en) (K : Kp (TQ q) h h') (n : en ≠ q) : RepE Γ Ld r nv ne h' en := V.kK (K.up (fun t z => Or.inl z)) n
theorem RepK.kQ {Γ : Gm} {X : Nat → Nat → Int32} {nt ns nm ne m q : Nat} {h h' : Hp} (V : RepK Γ X nt ns nm ne h m) (K : Kp (TQ q) h h') : RepK Γ X nt ns nm ne h' m := V.kK (K.up (fun t z => Or.inl z))
theorem RepE.ne {Γ : Gm} {Ld : Int32 → Int32} {r : Nat → Int32} {nv ne en q : Nat} {h : Hp} (V : RepE Γ Ld r nv ne h en) (n : h q = none) : en ≠ q := fun z => by
  obtain ⟨fs, e⟩ := V.obj
  rw [z, n] at e; cases e
theorem tq5 {q r o : Nat} (h : 34 < r ∧ r < 100) : ¬ TQ q (r, o) := TQ_r ⟨Or.inr h.1, h.2⟩
theorem RepH.kQ {Γ : Gm} {X : Nat → Nat → Int32} {nm ne nu hi q : Nat} {hs : Nat → Nat} {h h' : Hp} (V : RepH Γ X nm ne nu h hi hs) (K : Kp (TQ q) h h') (n : h q = none) : RepH Γ X nm ne nu h' hi hs := by
  have he : ∀ j, j < nu → ∃ nv, RepE Γ (LdX X nm) (fun i => X 42 (677 * j + i)) nv ne h' (hs j) := fun j hj => by
    obtain ⟨nv, E⟩ := V.2 j hj
    exact ⟨nv, E.kQ K (E.ne n)⟩
  refine ⟨V.1.kp K (tq5 ⟨by decide, by decide⟩) (tq5 ⟨by decide, by decide⟩) (fun k hk => ?_), he⟩
  obtain ⟨nv, E⟩ := he k hk
  obtain ⟨fs, e⟩ := E.obj
  exact ⟨_, _, e⟩
theorem RepN.kQ {Γ : Gm} {X : Nat → Nat → Int32} {nm ne sn q : Nat} {fsn : Nat → Option Nat} {h h' : Hp} (V : RepN Γ X nm ne h sn fsn) (K : Kp (TQ q) h h') (n : h q = none) : RepN Γ X nm ne h' sn fsn := by
  refine ⟨K.get V.1 (tq5 ⟨by decide, by decide⟩), fun j hj => ?_⟩
  rcases V.2 j hj with a | ⟨a, e, nv, b, c⟩
  · exact Or.inl a
  · exact Or.inr ⟨a, e, nv, b, c.kQ K (c.ne n)⟩
theorem RepO.kQ {Γ : Gm} {so q : Nat} {fso : Nat → Option Nat} {h h' : Hp} (V : RepO Γ h so fso) (K : Kp (TQ q) h h') : RepO Γ h' so fso := by
  refine ⟨K.get V.1 (tq5 ⟨by decide, by decide⟩), fun c hc sv e => ?_⟩
  obtain ⟨nd, le, ri, f, h1, h2, h3, h4⟩ := V.2 c hc sv e
  exact ⟨nd, le, ri, f, K.get h1 (tq5 ⟨by decide, by decide⟩), K.get h2 (tq5 ⟨by decide, by decide⟩), h3, h4⟩
def TS : Tg → Prop := fun t => t = (54, 0)
theorem TS5 : T5 TS := fun t h => by rw [h]; exact ⟨by decide, by decide⟩
theorem TS_n {t : Tg} (h : t.1 ≠ 54) : ¬ TS t := fun z => by rw [z] at h; exact h rfl
theorem cpS_in {f g : Nat → Int32} {s i : Nat} (h : i < 677) : cpN f g 0 (677 * s) 677 (677 * s + i) = f i := by
  rw [cpN_eq]
  unfold va_cpy
  rw [if_pos (by omega)]
  congr 1; omega
theorem cpS_out {f g : Nat → Int32} {s j i : Nat} (h : i < 677) (n : j ≠ s) : cpN f g 0 (677 * s) 677 (677 * j + i) = g (677 * j + i) := by
  rw [cpN_eq]
  unfold va_cpy
  rw [if_neg]
  intro z
  rcases Nat.lt_or_gt_of_ne n with c | c
  · have : 677 * (j + 1) ≤ 677 * s := Nat.mul_le_mul_left _ c
    omega
  · have : 677 * (s + 1) ≤ 677 * j := Nat.mul_le_mul_left _ c
    omega
/-- the component after a snapshot is saved -/
theorem RepC.save {Γ : Gm} {F : Nat → Int32} {X : Nat → Nat → Int32} {nt ns nm ne nv nu ln s : Nat} (J : Iv F X nt ns nm ne nv nu ln) (hs2 : s < 2) {h h1 h' : Hp} {x bu mk en hi sn so q : Nat} {b7 b8 : Int32} {hs : Nat → Nat} {fsn fso : Nat → Option Nat}
    (Rx : h x = some ((50, 0), .inr (0, [.ref bu, .int (F 15), .int (F 22), .ref mk, .ref en, .ref hi, .ref sn, .int b7, .int b8, .ref so]))) (Rb : h bu = some ((51, 0), aB Γ 800 (X 14))) (RK : RepK Γ X nt ns nm ne h mk) (RE : RepE Γ (LdX X nm) (X 1) nv ne h en) (RH : RepH Γ X nm ne nu h hi hs) (RS : RepN Γ X nm ne h sn fsn) (RA : Apt en nu hs fsn) (RO : RepO Γ h so fso)
    (K1 : Kp (TQ q) h h1) (nq : h q = none) (Rq : RepE Γ (LdX X nm) (X 1) nv ne h1 q) (K2 : Kp TS h1 h') (Ps : h' sn = some ((54, 0), aR Γ 5 2 (va_up fsn s (some q)))) : RepC Γ (upd F 0 0) (setX (setX X 43 (cpN (X 1) (X 43) 0 (677 * s) 677)) 44 (upd (X 44) s 1)) nt ns nm ne nv nu h' x := by
  have hne := J.le
  refine ⟨bu, mk, en, hi, sn, so, b7, b8, hs, va_up fsn s (some q), fso, K2.get (K1.get Rx (tq5 ⟨by decide, by decide⟩)) (TS_n (by decide)), K2.get (K1.get Rb (tq5 ⟨by decide, by decide⟩)) (TS_n (by decide)), (RK.kQ K1).k5 K2 TS5, (RE.kQ K1 (RE.ne nq)).k5 K2 TS5, (RH.kQ K1 nq).k5 K2 TS5 (TS_n (by decide)) (TS_n (by decide)), ⟨Ps, fun j hj => ?_⟩, ⟨RA.1, RA.2.1, fun j hj e he => ?_⟩, (RO.kQ K1).k5 K2 TS5 (TS_n (by decide))⟩
  · by_cases c : j = s
    · subst c
      refine Or.inr ⟨upd_self _ _ _, q, nv, va_up_self _ _ _, (Rq.k5 K2 TS5).congr J.rw hne (fun i hi => ?_)⟩
      show X 1 i = cpN _ _ _ _ _ _
      rw [cpS_in hi]
    · rcases RS.2 j hj with ⟨a, b⟩ | ⟨a, e, nv', b, E⟩
      · exact Or.inl ⟨(upd_ne c).trans a, (va_up_ne _ _ c).trans b⟩
      · rcases J.2.2.2.2.2.2.2.2.2 j hj with z | ⟨-, nv2, W⟩
        · rw [a] at z; exact absurd z (by decide)
        · have e2 := E.nv W
          subst e2
          refine Or.inr ⟨(upd_ne c).trans a, e, nv', (va_up_ne _ _ c).trans b, ((E.kQ K1 (E.ne nq)).k5 K2 TS5).congr W hne (fun i hi => ?_)⟩
          show X 43 (677 * j + i) = cpN _ _ _ _ _ _
          rw [cpS_out hi c]
  · by_cases c : j = s
    · subst c
      rw [va_up_self] at he
      cases he
      refine ⟨Ne.symm (RE.ne nq), fun i hi => ?_⟩
      obtain ⟨nv', E⟩ := RH.2 i hi
      exact Ne.symm (E.ne nq)
    · rw [va_up_ne _ _ c] at he
      exact RA.2.2 j hj e he
theorem ixI_1 {n j : Nat} (hn : n < 2 ^ 31) (h : j < n) : ixI (nI j) n = 1 := by unfold ixI; rw [nI_toInt (by omega), if_pos (by omega)]
set_option maxRecDepth 100000 in
theorem cc_saveSnapshot {l : Launch} {Γ : Gm} {A : Nat → Prop} {ρ : State → Prop} (B : Bc l Γ A ρ) {h : Hp} {F : Nat → Int32} {X : Nat → Nat → Int32} {nt ns nm ne nv nu ln : Nat} (J : Iv F X nt ns nm ne nv nu ln) {x : Nat} (R_ : RepC Γ F X nt ns nm ne nv nu h x) (slot : Int32) : CtE l Γ A ρ yX1_saveSnapshot cX1_saveSnapshot 2 (some .boolean) { frames := 8, cells := 127, slots := 3170, locals := 193 } [.ref x, .int slot] h (fun v h' => v = some (.int (ixI slot 2)) ∧ RepC Γ (upd F 0 0) (if ixI slot 2 = 0 then X else setX (setX X 43 (cpN (X 1) (X 43) 0 (677 * slot.toNatClampNeg) 677)) 44 (upd (X 44) slot.toNatClampNeg 1)) nt ns nm ne nv nu h' x) := by
  refine Ct.of B.1.1 B.1.2 (by decide) [some (.ref x), some (.int slot)] (Nat.le_of_ble_eq_true rfl) rfl ?_
  intro E hE C R
  subst hE
  have SC_ := B.2 _ C.r
  have ht_ := J.lt
  have hs_ := J.ls
  have hm_ := J.lm
  have he_ := J.le
  have hu_ := J.lu
  have hl_ := J.ll
  have hv_ := J.lv
  obtain ⟨bu, mk, en, hi, sn, so, b7, b8, hs, fsn, fso, Rx, Rb, RK, RE, RH, RS, RA, RO⟩ := id R_
  obtain ⟨fe0, Eo0⟩ := RE.obj
  refine g_iload_n C dX1_saveSnapshot_0 rfl rfl ?_
  refine g_i2l C dX1_saveSnapshot_1 ?_
  refine g_lconst (v := 0) C dX1_saveSnapshot_2 rfl ?_
  refine g_lconst (v := 1) C dX1_saveSnapshot_3 rfl ?_
  refine h_callS (rest := []) 3 C (cc_inRange B.1 _ _ _ _) (lw_S q580 q581 q86 q582) ⟨⟨by decide, by decide, by decide +kernel⟩, ⟨Nat.le_of_ble_eq_true rfl, Nat.le_of_ble_eq_true rfl⟩, ⟨Nat.le_of_ble_eq_true rfl, Nat.le_of_ble_eq_true rfl⟩⟩ (fun _ h => h) rfl rfl (Nat.le_of_ble_eq_true rfl) dX1_saveSnapshot_4 (h_P ?_)
  refine g_topi (y := ixI slot 2) (wi_lit (n := 1) (by decide)) ?_
  refine g_if_ne 12 C dX1_saveSnapshot_7 rfl (fun c7 => ?_) (fun c7 => ?_)
  · obtain ⟨j_slot, hj_slot, rfl⟩ := ixI_in (by omega) c7
    refine g_aload_n C dX1_saveSnapshot_12 rfl rfl ?_
    refine c_get 0 6 k_X1 in_X1 (by decide) (fun _ h => h) q542 Rx rfl C dX1_saveSnapshot_13 ?_
    refine g_iload_n C dX1_saveSnapshot_16 rfl rfl ?_
    refine g_aload_n C dX1_saveSnapshot_17 rfl rfl ?_
    refine c_get 0 4 k_X1 in_X1 (by decide) (fun _ h => h) q540 Rx rfl C dX1_saveSnapshot_18 ?_
    refine h_callV (rest := [.int (nI j_slot), .ref sn]) 0 C (cc_ecopy B RE J.rw J.le) (lw_V q1082 q1083 q1084 q106 q1085) ⟨⟨by decide, by decide, by decide +kernel⟩, ⟨Nat.le_of_ble_eq_true rfl, Nat.le_of_ble_eq_true rfl⟩, ⟨Nat.le_of_ble_eq_true rfl, Nat.le_of_ble_eq_true rfl⟩⟩ (fun _ h => h) (HP.recv C Eo0 k_X3) rfl rfl (Nat.le_of_ble_eq_true rfl) dX1_saveSnapshot_21 (h_E (fun v1 hp1 r1 => ?_))
    obtain ⟨q, rfl, nq, Rq, KC⟩ := r1
    obtain ⟨fq, Eq⟩ := Rq.obj
    have Sn1 : hp1 sn = some ((54, 0), aR Γ 5 2 fsn) := KC.get RS.1 (tq5 ⟨by decide, by decide⟩)
    refine c_aastE 5 k_X3 rfl (i := j_slot) Sn1 Eq (by omega) (by omega) C dX1_saveSnapshot_24 ?_
    obtain ⟨hp2, ehp2⟩ : ∃ hh9 : Hp, hh9 = hset hp1 sn (54, 0) (aR Γ 5 2 (va_up fsn j_slot (some q))) := ⟨_, rfl⟩
    refine g_heq (h' := hp2) ehp2.symm ?_
    have php2_sn : hp2 sn = some ((54, 0), aR Γ 5 2 (va_up fsn j_slot (some q))) := by rw [ehp2]; exact hset_self _ _ _ _
    have php2_q : hp2 q = some ((30, 0), .inr (2, fq)) := by rw [ehp2]; exact hset_io Sn1 Eq
    refine g_iconst (v := 1) C dX1_saveSnapshot_25 rfl ?_
    exact g_zret C R (Nat.le_of_ble_eq_true rfl) (Nat.le_of_ble_eq_true rfl) dX1_saveSnapshot_26 rfl (fun H hH => ⟨hp2, ⟨by rw [ixI_1 (by omega) hj_slot], by rw [if_neg c7, nI_clamp (by omega)]; exact RepC.save J hj_slot Rx Rb RK RE RH RS RA RO KC nq Rq (show Kp TS hp1 hp2 by rw [ehp2]; exact Kp.put Sn1 rfl) php2_sn⟩, hH⟩)
  · refine g_iconst (v := 0) C dX1_saveSnapshot_10 rfl ?_
    exact g_zret C R (Nat.le_of_ble_eq_true rfl) (Nat.le_of_ble_eq_true rfl) dX1_saveSnapshot_11 rfl (fun H hH => ⟨h, ⟨by rw [c7], by rw [if_pos c7]; exact R_⟩, hH⟩)
