/-- tags that a new entry at q owns -/
def TQ (q : Nat) : Tg → Prop := fun t => t.2 = q ∧ ((31 ≤ t.1 ∧ t.1 ≤ 34) ∨ 100 ≤ t.1)
theorem TQ_r {q : Nat} {t : Tg} (h : (t.1 < 31 ∨ 34 < t.1) ∧ t.1 < 100) : ¬ TQ q t := fun z => by have := z.2; omega
theorem TQ_o {q : Nat} {t : Tg} (h : t.2 ≠ q) : ¬ TQ q t := fun z => h z.1
theorem TL_Q {q : Nat} (r : Nat) (hr : 31 ≤ r ∧ r ≤ 33) : ∀ t, TL (r, q) t → TQ q t := fun t h => by
  rcases h with h | h <;> (rw [h]; exact ⟨rfl, Or.inl ⟨by show 31 ≤ _; simp; omega, by simp; omega⟩⟩)
theorem RepV.kp {Γ : Gm} {Ld : Int32 → Int32} {r : Nat → Int32} {k en v : Nat} {h h' : Hp} {T : Tg → Prop} (V : RepV Γ Ld r k h en v) (K : Kp T h h') (n1 : ¬ T (vTag r k en)) (n2 : ¬ T (40, v)) (n3 : ¬ T (41, v)) : RepV Γ Ld r k h' en v := by
  obtain ⟨ma, er, fm, fe, h1, h2, h3, h4⟩ := V
  exact ⟨ma, er, fm, fe, K.get h1 n1, K.get h2 n2, K.get h3 n3, h4⟩
theorem RepV.k0 {Γ : Gm} {Ld : Int32 → Int32} {r : Nat → Int32} {k en v : Nat} {h h' : Hp} (V : RepV Γ Ld r k h en v) (K : Kp T0 h h') : RepV Γ Ld r k h' en v := V.kp K (fun z => z) (fun z => z) (fun z => z)
theorem vTag_Q {r : Nat → Int32} {k en q : Nat} (h : en ≠ q) : ¬ TQ q (vTag r k en) := by
  unfold vTag
  split
  · exact TQ_o h
  · exact TQ_r ⟨Or.inl (by decide), by decide⟩
theorem RepV.kQ {Γ : Gm} {Ld : Int32 → Int32} {r : Nat → Int32} {k en v q : Nat} {h h' : Hp} (V : RepV Γ Ld r k h en v) (K : Kp (TQ q) h h') (n : en ≠ q) : RepV Γ Ld r k h' en v := V.kp K (vTag_Q n) (TQ_r ⟨Or.inr (by show 34 < 40; decide), by show 40 < 100; decide⟩) (TQ_r ⟨Or.inr (by show 34 < 41; decide), by show 41 < 100; decide⟩)
theorem RepV.kL {Γ : Gm} {Ld : Int32 → Int32} {r : Nat → Int32} {k en v q : Nat} {h h' : Hp} (V : RepV Γ Ld r k h en v) (K : Kp (TL (31, q)) h h') : RepV Γ Ld r k h' en v := by
  refine V.kp K (fun z => ?_) (fun z => by rcases z with z | z <;> cases z) (fun z => by rcases z with z | z <;> cases z)
  unfold vTag at z
  split at z
  · rcases z with z | z <;> (have := (Prod.mk.inj z).1; omega)
  · rcases z with z | z <;> cases z
theorem RepV.own {Γ : Gm} {Ld : Int32 → Int32} {r : Nat → Int32} {k en v : Nat} {h : Hp} (V : RepV Γ Ld r k h en v) (c : ¬ r (61 + k) = 0) (q : Nat) : RepV Γ Ld r k h q v := by
  obtain ⟨ma, er, fm, fe, h1, h2, h3, h4⟩ := V
  refine ⟨ma, er, fm, fe, ?_, h2, h3, h4⟩
  unfold vTag at h1 ⊢
  rw [if_neg c] at h1 ⊢
  exact h1
theorem RepV.obj {Γ : Gm} {Ld : Int32 → Int32} {r : Nat → Int32} {k en v : Nat} {h : Hp} (V : RepV Γ Ld r k h en v) : ∃ t fs, h v = some (t, .inr (13, fs)) := by
  obtain ⟨ma, er, fm, fe, h1, -⟩ := V
  exact ⟨_, _, h1⟩
theorem Cno13 : Cno 13 := ⟨_, k_X15, q2225, by decide⟩
theorem Cno12 : Cno 12 := ⟨_, k_X14, q2222, by decide⟩
theorem Cno2 : Cno 2 := ⟨_, k_X3, q2202, by decide⟩
theorem Cno10 : Cno 10 := ⟨_, k_X11, q2217, by decide⟩
theorem Cno11 : Cno 11 := ⟨_, k_X13, q2221, by decide⟩
theorem tl33 (r : Nat → Int32) (k q : Nat) : ¬ TL (33, q) (vTag r k q) := fun z => by
  unfold vTag at z
  split at z
  · rcases z with z | z <;> (have := (Prod.mk.inj z).1; omega)
  · rcases z with z | z <;> cases z
set_option maxRecDepth 100000 in
theorem cc_ecopy {l : Launch} {Γ : Gm} {A : Nat → Prop} {ρ : State → Prop} (B : Bc l Γ A ρ) {h : Hp} {Ld : Int32 → Int32} {r : Nat → Int32} {nv ne en ns nm : Nat} {wt : Nat → Int32} (RE : RepE Γ Ld r nv ne h en) (W : Rw ns nm ne wt r nv) (hne : ne ≤ 4) : CtE l Γ A ρ yX3_copy cX3_copy 3 (some (.object "ScaleInspection$Entry")) { frames := 7, cells := 127, slots := 3170, locals := 171 } [.ref en] h (fun v h' => ∃ q, v = some (.ref q) ∧ h q = none ∧ RepE Γ Ld r nv ne h' q ∧ Kp (TQ q) h h') := by
  refine Ct.of B.1.1 B.1.2 (by decide) [some (.ref en), none, none] (Nat.le_of_ble_eq_true rfl) rfl ?_
  intro E hE C R
  subst hE
  have SC_ := B.2 _ C.r
  obtain ⟨vl, el, vs, es, Ee, E0, Evl, Eel, Evs, Ees⟩ := id RE
  have hv30 := W.2.1
  refine c_new (fs := [.null, .null]) (30, 0) 2 k_X3 in_X3 tyX3 tyX3_ok q1086 q514 q106 SC_ dfsX3 (Nat.le_of_ble_eq_true rfl) (Nat.le_of_ble_eq_true rfl) C dX3_copy_0 (fun q nq => ?_)
  obtain ⟨hp1, ehp1⟩ : ∃ hh9 : Hp, hh9 = hset h q (30, 0) (.inr (2, [.null, .null])) := ⟨_, rfl⟩
  refine g_heq (h' := hp1) ehp1.symm ?_
  have php1_en : hp1 en = some ((30, 0), .inr (2, [.ref vl, .ref el])) := by rw [ehp1]; exact hset_old nq Ee
  have php1_q : hp1 q = some ((30, 0), .inr (2, [.null, .null])) := by rw [ehp1]; exact hset_self _ _ _ _
  refine g_dup C dX3_copy_3 rfl ?_
  refine h_callI (rest := [.ref q]) 0 C (cc_einit B php1_q) (lw_meth q517) q106 q1087 q516 rfl ⟨⟨by decide, by decide, by decide +kernel⟩, ⟨Nat.le_of_ble_eq_true rfl, Nat.le_of_ble_eq_true rfl⟩, ⟨Nat.le_of_ble_eq_true rfl, Nat.le_of_ble_eq_true rfl⟩⟩ (fun _ h => h) rfl rfl (Nat.le_of_ble_eq_true rfl) dX3_copy_4 (h_E (fun v2 hp2 r2 => ?_))
  obtain ⟨rfl, vl2, el2, pq0, L10, L20, Khp2⟩ := r2
  have Zhp2 : Kp T0 h hp2 := by have z := Khp2; rw [ehp1] at z; exact Kq.new nq z
  refine g_astore_n (lv' := [some (.ref en), some (.ref q), none]) C dX3_copy_7 rfl (by decide) rfl ?_
  refine g_iconst (v := 0) C dX3_copy_8 rfl ?_
  refine g_istore_n (lv' := [some (.ref en), some (.ref q), some (.int 0)]) C dX3_copy_9 rfl (by decide) rfl ?_
  have hqe : en ≠ q := fun z => by rw [z, nq] at Ee; cases Ee
  have key : ∀ (m j : Nat) (hj : Hp) (vs2 : Nat → Nat), j + m = nv → Kp (TQ q) h hj → hj q = some ((30, 0), .inr (2, [.ref vl2, .ref el2])) → Lst Γ hj vl2 (31, q) 13 j vs2 → Lst Γ hj el2 (33, q) 12 0 (fun _ => 0) → (∀ i, i < j → RepV Γ Ld r i hj q (vs2 i)) → G E (HP Γ A hj) (5 + 4 * j) (40 + 100 * j) 10 [some (.ref en), some (.ref q), some (.int (nI j))] [] := by
    intro m
    induction m with
    | zero =>
      intro j hj vs2 ej K pq L1 L2 RV
      have ej : j = nv := by omega
      subst ej
      have Ee1 : hj en = some ((30, 0), .inr (2, [.ref vl, .ref el])) := K.get Ee (TQ_r ⟨Or.inl (by show 30 < 31; decide), by show 30 < 100; decide⟩)
      have Evs1 : ∀ k, k < j → RepV Γ Ld r k hj en (vs k) := fun k hk => (Evs k hk).kQ K hqe
      have Evl1 : Lst Γ hj vl (31, en) 13 j vs := Evl.kp K (TQ_o hqe) (TQ_o hqe) (fun k hk => (Evs1 k hk).obj)
      have Ees1 : ∀ k, k < ne → hj (es k) = some ((0, 0), .inr (12, [.int (r (661 + k)), .int (r (665 + k)), .int (r (673 + k)), .int (r (669 + k))])) := fun k hk => K.get (Ees k hk) (TQ_r ⟨Or.inl (by show 0 < 31; decide), by show 0 < 100; decide⟩)
      have Eel1 : Lst Γ hj el (33, en) 12 ne es := Eel.kp K (TQ_o hqe) (TQ_o hqe) (fun k hk => ⟨_, _, Ees1 k hk⟩)
      refine g_wid (c := 125) (z := 3040) (by omega) (by omega) ?_
      refine g_iload_n C dX3_copy_10 rfl rfl ?_
      refine g_aload_n C dX3_copy_11 rfl rfl ?_
      refine c_get 2 0 k_X3 in_X3 (by decide) (fun _ h => h) q521 Ee1 rfl C dX3_copy_12 ?_
      refine h_callV (rest := [.int (nI j)]) 0 C (cc_size B Evl1) (lw_V q1088 q770 q771 q90 q772) ⟨⟨by decide, by decide, by decide +kernel⟩, ⟨Nat.le_of_ble_eq_true rfl, Nat.le_of_ble_eq_true rfl⟩, ⟨Nat.le_of_ble_eq_true rfl, Nat.le_of_ble_eq_true rfl⟩⟩ (fun _ h => h) (Evl1.recv C) rfl rfl (Nat.le_of_ble_eq_true rfl) dX3_copy_15 (h_F ?_)
      refine gN_ge (a := j) (b := j) 80 C dX3_copy_18 rfl (by omega) (by omega) (fun c18 => ?_) (fun c18 => ?_)
      · refine g_aload_n C dX3_copy_80 rfl rfl ?_
        refine c_get 2 1 k_X3 in_X3 (by decide) (fun _ h => h) q523 pq rfl C dX3_copy_81 ?_
        refine g_aload_n C dX3_copy_84 rfl rfl ?_
        refine c_get 2 1 k_X3 in_X3 (by decide) (fun _ h => h) q523 Ee1 rfl C dX3_copy_85 ?_
        refine h_callV (rest := []) 1 C (cc_addAll B Cno12 L2 Eel1 (by omega)) (lw_V q1133 q1134 q1135 q90 q1136) ⟨⟨by decide, by decide, by decide +kernel⟩, ⟨Nat.le_of_ble_eq_true rfl, Nat.le_of_ble_eq_true rfl⟩, ⟨Nat.le_of_ble_eq_true rfl, Nat.le_of_ble_eq_true rfl⟩⟩ (fun _ h => h) (L2.recv C) rfl rfl (Nat.le_of_ble_eq_true rfl) dX3_copy_88 (h_E (fun v1 hp1 r1 => ?_))
        obtain ⟨rfl, LA, KA⟩ := r1
        refine g_pop C dX3_copy_91 rfl ?_
        refine g_aload_n C dX3_copy_92 rfl rfl ?_
        exact g_aret C R (Or.inl ⟨_, rfl⟩) (Or.inr ⟨_, rfl⟩) (Nat.le_of_ble_eq_true rfl) (Nat.le_of_ble_eq_true rfl) dX3_copy_93 (fun H hH => ⟨hp1, ⟨q, rfl, nq, ⟨vl2, el2, vs2, es, KA.get pq (fun z => by rcases z with z | z <;> cases z), E0, L1.kp KA (fun z => by rcases z with z | z <;> cases z) (fun z => by rcases z with z | z <;> cases z) (fun k hk => ((RV k hk).kp KA (tl33 _ _ _) (fun z => by rcases z with z | z <;> cases z) (fun z => by rcases z with z | z <;> cases z)).obj), LA, fun k hk => (RV k hk).kp KA (tl33 _ _ _) (fun z => by rcases z with z | z <;> cases z) (fun z => by rcases z with z | z <;> cases z), fun k hk => KA.get (Ees1 k hk) (fun z => by rcases z with z | z <;> cases z)⟩, K.tr (KA.up (TL_Q 33 ⟨by decide, by decide⟩))⟩, hH⟩)
      · exfalso; omega
    | succ m ih =>
      intro j hj vs2 ej K pq L1 L2 RV
      have hjn : j < nv := by omega
      have Ee1 : hj en = some ((30, 0), .inr (2, [.ref vl, .ref el])) := K.get Ee (TQ_r ⟨Or.inl (by show 30 < 31; decide), by show 30 < 100; decide⟩)
      have Evs1 : ∀ k, k < nv → RepV Γ Ld r k hj en (vs k) := fun k hk => (Evs k hk).kQ K hqe
      have Evl1 : Lst Γ hj vl (31, en) 13 nv vs := Evl.kp K (TQ_o hqe) (TQ_o hqe) (fun k hk => (Evs1 k hk).obj)
      have V_ := W.2.2.1 j hjn
      obtain ⟨tn, htn, e151, -⟩ := V_.2.2.2.2.2
      refine g_iload_n C dX3_copy_10 rfl rfl ?_
      refine g_aload_n C dX3_copy_11 rfl rfl ?_
      refine c_get 2 0 k_X3 in_X3 (by decide) (fun _ h => h) q521 Ee1 rfl C dX3_copy_12 ?_
      refine h_callV (rest := [.int (nI j)]) 0 C (cc_size B Evl1) (lw_V q1088 q770 q771 q90 q772) ⟨⟨by decide, by decide, by decide +kernel⟩, ⟨Nat.le_of_ble_eq_true rfl, Nat.le_of_ble_eq_true rfl⟩, ⟨by first | omega | (dsimp only; omega), by first | omega | (dsimp only; omega)⟩⟩ (fun _ h => h) (Evl1.recv C) rfl rfl (Nat.le_of_ble_eq_true rfl) dX3_copy_15 (h_F ?_)
      refine gN_ge (a := j) (b := nv) 80 C dX3_copy_18 rfl (by omega) (by omega) (fun c18 => ?_) (fun c18 => ?_)
      · exfalso; omega
      · refine g_aload_n C dX3_copy_21 rfl rfl ?_
        refine c_get 2 0 k_X3 in_X3 (by decide) (fun _ h => h) q521 pq rfl C dX3_copy_22 ?_
        refine g_aload_n C dX3_copy_25 rfl rfl ?_
        refine c_get 2 0 k_X3 in_X3 (by decide) (fun _ h => h) q521 Ee1 rfl C dX3_copy_26 ?_
        refine g_iload_n C dX3_copy_29 rfl rfl ?_
        refine h_callV (rest := [.ref vl2]) 1 C (cc_get B Evl1 j (by omega)) (lw_V q1089 q941 q942 q90 q943) ⟨⟨by decide, by decide, by decide +kernel⟩, ⟨Nat.le_of_ble_eq_true rfl, Nat.le_of_ble_eq_true rfl⟩, ⟨by first | omega | (dsimp only; omega), by first | omega | (dsimp only; omega)⟩⟩ (fun _ h => h) (Evl1.recv C) rfl rfl (Nat.le_of_ble_eq_true rfl) dX3_copy_30 (h_F ?_)
        obtain ⟨vm1, ve1, fvm1, fve1, Vo1, Vm1, Ve1, Vt1⟩ := id (Evs1 j hjn)
        refine c_castS Vo1 k_X15 q1090 C dX3_copy_33 ?_
        refine h_callV (rest := [.ref vl2]) 0 C (cc_visClosed B Vo1) (lw_V q1091 q1066 q1067 q122 q1068) ⟨⟨by decide, by decide, by decide +kernel⟩, ⟨Nat.le_of_ble_eq_true rfl, Nat.le_of_ble_eq_true rfl⟩, ⟨by first | omega | (dsimp only; omega), by first | omega | (dsimp only; omega)⟩⟩ (fun _ h => h) (HP.recv C Vo1 k_X15) rfl rfl (Nat.le_of_ble_eq_true rfl) dX3_copy_36 (h_F ?_)
        refine g_topi (y := r (61 + j)) (clI_eq V_) ?_
        refine g_if_eq 56 C dX3_copy_39 rfl (fun c39 => ?_) (fun c39 => ?_)
        · refine g_aload_n C dX3_copy_56 rfl rfl ?_
          refine c_get 2 0 k_X3 in_X3 (by decide) (fun _ h => h) q521 Ee1 rfl C dX3_copy_57 ?_
          refine g_iload_n C dX3_copy_60 rfl rfl ?_
          refine h_callV (rest := [.ref vl2]) 1 C (cc_get B Evl1 j (by omega)) (lw_V q1089 q941 q942 q90 q943) ⟨⟨by decide, by decide, by decide +kernel⟩, ⟨Nat.le_of_ble_eq_true rfl, Nat.le_of_ble_eq_true rfl⟩, ⟨by first | omega | (dsimp only; omega), by first | omega | (dsimp only; omega)⟩⟩ (fun _ h => h) (Evl1.recv C) rfl rfl (Nat.le_of_ble_eq_true rfl) dX3_copy_61 (h_F ?_)
          refine c_castS Vo1 k_X15 q1090 C dX3_copy_64 ?_
          refine h_callV (rest := [.ref vl2]) 0 C (cc_vcopy B (Evs1 j hjn) htn e151 c39 q) (lw_V q1092 q1093 q1094 q122 q1095) ⟨⟨by decide, by decide, by decide +kernel⟩, ⟨Nat.le_of_ble_eq_true rfl, Nat.le_of_ble_eq_true rfl⟩, ⟨by first | omega | (dsimp only; omega), by first | omega | (dsimp only; omega)⟩⟩ (fun _ h => h) (HP.recv C Vo1 k_X15) rfl rfl (Nat.le_of_ble_eq_true rfl) dX3_copy_67 (h_E (fun v1 hp1 r1 => ?_))
          obtain ⟨b, rfl, nb, Vb, Kb⟩ := r1
          obtain ⟨tb, fsb, eb⟩ := Vb.obj
          have L1b := L1.kp0 Kb
          refine h_callV (rest := []) 1 C (cc_add B Cno13 L1b eb (by omega)) (lw_V q1132 q837 q838 q90 q839) ⟨⟨by decide, by decide, by decide +kernel⟩, ⟨Nat.le_of_ble_eq_true rfl, Nat.le_of_ble_eq_true rfl⟩, ⟨by first | omega | (dsimp only; omega), by first | omega | (dsimp only; omega)⟩⟩ (fun _ h => h) (L1b.recv C) rfl rfl (Nat.le_of_ble_eq_true rfl) dX3_copy_70 (h_E (fun v2 hp2 r2 => ?_))
          obtain ⟨rfl, LA, KA⟩ := r2
          refine g_pop C dX3_copy_73 rfl ?_
          refine g_inc1 (x := j) (lv' := [some (.ref en), some (.ref q), some (.int (nI (j + 1)))]) C dX3_copy_74 rfl (by decide) rfl ?_
          refine g_goto 10 C dX3_copy_77 rfl ?_
          refine g_wid (c := 5 + 4 * (j + 1)) (z := 40 + 100 * (j + 1)) (by first | omega | (dsimp only; omega)) (by first | omega | (dsimp only; omega)) ?_
          refine ih (j + 1) hp2 (va_up vs2 j b) (by omega) ((K.tr (Kp.up0 Kb)).tr (KA.up (TL_Q 31 ⟨by decide, by decide⟩))) (KA.get (Kb.get0 pq) (fun z => by rcases z with z | z <;> cases z)) LA ((L2.kp0 Kb).kp KA (fun z => by rcases z with z | z <;> cases z) (fun z => by rcases z with z | z <;> cases z) (fun k hk => absurd hk (Nat.not_lt_zero _))) (fun i hi => ?_)
          by_cases c : i = j
          · rw [c, va_up_self]; exact Vb.kL KA
          · rw [va_up_ne _ _ c]; exact ((RV i (by omega)).k0 Kb).kL KA
        · refine g_aload_n C dX3_copy_42 rfl rfl ?_
          refine c_get 2 0 k_X3 in_X3 (by decide) (fun _ h => h) q521 Ee1 rfl C dX3_copy_43 ?_
          refine g_iload_n C dX3_copy_46 rfl rfl ?_
          refine h_callV (rest := [.ref vl2]) 1 C (cc_get B Evl1 j (by omega)) (lw_V q1089 q941 q942 q90 q943) ⟨⟨by decide, by decide, by decide +kernel⟩, ⟨Nat.le_of_ble_eq_true rfl, Nat.le_of_ble_eq_true rfl⟩, ⟨by first | omega | (dsimp only; omega), by first | omega | (dsimp only; omega)⟩⟩ (fun _ h => h) (Evl1.recv C) rfl rfl (Nat.le_of_ble_eq_true rfl) dX3_copy_47 (h_F ?_)
          refine c_castS Vo1 k_X15 q1090 C dX3_copy_50 ?_
          refine g_goto 70 C dX3_copy_53 rfl ?_
          refine h_callV (rest := []) 1 C (cc_add B Cno13 L1 Vo1 (by omega)) (lw_V q1132 q837 q838 q90 q839) ⟨⟨by decide, by decide, by decide +kernel⟩, ⟨Nat.le_of_ble_eq_true rfl, Nat.le_of_ble_eq_true rfl⟩, ⟨by first | omega | (dsimp only; omega), by first | omega | (dsimp only; omega)⟩⟩ (fun _ h => h) (L1.recv C) rfl rfl (Nat.le_of_ble_eq_true rfl) dX3_copy_70 (h_E (fun v1 hp1 r1 => ?_))
          obtain ⟨rfl, LA, KA⟩ := r1
          refine g_pop C dX3_copy_73 rfl ?_
          refine g_inc1 (x := j) (lv' := [some (.ref en), some (.ref q), some (.int (nI (j + 1)))]) C dX3_copy_74 rfl (by decide) rfl ?_
          refine g_goto 10 C dX3_copy_77 rfl ?_
          refine g_wid (c := 5 + 4 * (j + 1)) (z := 40 + 100 * (j + 1)) (by first | omega | (dsimp only; omega)) (by first | omega | (dsimp only; omega)) ?_
          refine ih (j + 1) hp1 (va_up vs2 j (vs j)) (by omega) (K.tr (KA.up (TL_Q 31 ⟨by decide, by decide⟩))) (KA.get pq (fun z => by rcases z with z | z <;> cases z)) LA (L2.kp KA (fun z => by rcases z with z | z <;> cases z) (fun z => by rcases z with z | z <;> cases z) (fun k hk => absurd hk (Nat.not_lt_zero _))) (fun i hi => ?_)
          by_cases c : i = j
          · rw [c, va_up_self]; exact ((Evs1 j hjn).own c39 q).kL KA
          · rw [va_up_ne _ _ c]; exact (RV i (by omega)).kL KA
  exact key nv 0 hp2 (fun _ => 0) (by omega) (Kp.up0 Zhp2) pq0 L10 L20 (fun i hi => absurd hi (Nat.not_lt_zero _))
