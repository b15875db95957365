/-- tags that a keep touches -/
def TK (q : Nat) : Tg → Prop := fun t => TQ q t ∨ TL (52, 0) t
theorem TK_n {q : Nat} {t : Tg} (a : ¬ TQ q t) (b : t.1 ≠ 52 ∧ t.1 ≠ 53) : ¬ TK q t := fun z => by
  rcases z with z | z
  · exact a z
  · rcases z with z | z
    · rw [z] at b; exact b.1 rfl
    · rw [z] at b; exact b.2 rfl
theorem TK_r {q : Nat} {t : Tg} (h : (t.1 < 31 ∨ 34 < t.1) ∧ t.1 < 100) (b : t.1 ≠ 52 ∧ t.1 ≠ 53) : ¬ TK q t := TK_n (TQ_r h) b
theorem TK_o {q : Nat} {t : Tg} (h : t.2 ≠ q) (b : t.1 ≠ 52 ∧ t.1 ≠ 53) : ¬ TK q t := TK_n (TQ_o h) b
theorem RepV.kK {Γ : Gm} {Ld : Int32 → Int32} {r : Nat → Int32} {k en v q : Nat} {h h' : Hp} (V : RepV Γ Ld r k h en v) (K : Kp (TK q) h h') (n : en ≠ q) : RepV Γ Ld r k h' en v := by
  refine V.kp K (TK_n (vTag_Q n) ?_) (TK_r ⟨Or.inr (by show 34 < 40; decide), by show 40 < 100; decide⟩ ⟨by show 40 ≠ 52; decide, by show 40 ≠ 53; decide⟩) (TK_r ⟨Or.inr (by show 34 < 41; decide), by show 41 < 100; decide⟩ ⟨by show 41 ≠ 52; decide, by show 41 ≠ 53; decide⟩)
  unfold vTag
  split
  · exact ⟨by show 100 + k ≠ 52; omega, by show 100 + k ≠ 53; omega⟩
  · exact ⟨by decide, by decide⟩
theorem RepE.kK {Γ : Gm} {Ld : Int32 → Int32} {r : Nat → Int32} {nv ne en q : Nat} {h h' : Hp} (V : RepE Γ Ld r nv ne h en) (K : Kp (TK q) h h') (n : en ≠ q) : RepE Γ Ld r nv ne h' en := by
  obtain ⟨vl, el, vs, es, h1, h2, h3, h4, h5, h6⟩ := V
  have hv : ∀ k, k < nv → RepV Γ Ld r k h' en (vs k) := fun k hk => (h5 k hk).kK K n
  have he : ∀ k, k < ne → h' (es k) = some ((0, 0), .inr (12, [.int (r (661 + k)), .int (r (665 + k)), .int (r (673 + k)), .int (r (669 + k))])) := fun k hk => K.get (h6 k hk) (TK_r ⟨Or.inl (by show 0 < 31; decide), by show 0 < 100; decide⟩ ⟨by show 0 ≠ 52; decide, by show 0 ≠ 53; decide⟩)
  exact ⟨vl, el, vs, es, K.get h1 (TK_r ⟨Or.inl (by show 30 < 31; decide), by show 30 < 100; decide⟩ ⟨by show 30 ≠ 52; decide, by show 30 ≠ 53; decide⟩), h2, h3.kp K (TK_o n ⟨by show 31 ≠ 52; decide, by show 31 ≠ 53; decide⟩) (TK_o n ⟨by show 32 ≠ 52; decide, by show 32 ≠ 53; decide⟩) (fun k hk => (hv k hk).obj), h4.kp K (TK_o n ⟨by show 33 ≠ 52; decide, by show 33 ≠ 53; decide⟩) (TK_o n ⟨by show 34 ≠ 52; decide, by show 34 ≠ 53; decide⟩) (fun k hk => ⟨_, _, he k hk⟩), hv, he⟩
theorem RepK.kK {Γ : Gm} {X : Nat → Nat → Int32} {nt ns nm ne m q : Nat} {h h' : Hp} (V : RepK Γ X nt ns nm ne h m) (K : Kp (TK q) h h') : RepK Γ X nt ns nm ne h' m := by
  obtain ⟨sl, wl, ma, te, fm, ft, ss, wq, h1, h2, h3, h4, h5, h6, h7, h8, h9⟩ := V
  have n0 : ∀ (r o : Nat), r < 31 → ¬ TK q (r, o) := fun r o hr => TK_r ⟨Or.inl hr, by show r < 100; omega⟩ ⟨by show r ≠ 52; omega, by show r ≠ 53; omega⟩
  have hs : ∀ k, k < ns → h' (ss k) = _ := fun k hk => K.get (h7 k hk) (n0 _ _ (by decide))
  have hw : ∀ k, k < ne → h' (wq k) = _ := fun k hk => K.get (h9 k hk) (n0 _ _ (by decide))
  exact ⟨sl, wl, ma, te, fm, ft, ss, wq, K.get h1 (n0 _ _ (by decide)), K.get h2 (n0 _ _ (by decide)), h3, K.get h4 (n0 _ _ (by decide)), h5, h6.kp K (n0 23 m (by decide)) (n0 24 m (by decide)) (fun k hk => ⟨_, _, hs k hk⟩), hs, h8.kp K (n0 25 m (by decide)) (n0 26 m (by decide)) (fun k hk => ⟨_, _, hw k hk⟩), hw⟩
theorem TK5 {q : Nat} {r o : Nat} (h : 50 ≤ r ∧ r < 100) (n : r ≠ 52 ∧ r ≠ 53) : ¬ TK q (r, o) := TK_r ⟨Or.inr (by show 34 < r; omega), by show r < 100; omega⟩ n
/-- a row is what it says below 677 -/
theorem RepE.congr {Γ : Gm} {Ld : Int32 → Int32} {r r' : Nat → Int32} {nv ne en ns nm : Nat} {wt : Nat → Int32} {h : Hp} (V : RepE Γ Ld r nv ne h en) (W : Rw ns nm ne wt r nv) (hne : ne ≤ 4) (e : ∀ i, i < 677 → r i = r' i) : RepE Γ Ld r' nv ne h en := by
  obtain ⟨vl, el, vs, es, h1, h2, h3, h4, h5, h6⟩ := V
  have hv := W.2.1
  refine ⟨vl, el, vs, es, h1, by rw [← e 0 (by omega)]; exact h2, h3, h4, fun k hk => ?_, fun k hk => ?_⟩
  · obtain ⟨ma, er, fm, fe, a1, a2, a3, a4⟩ := h5 k hk
    obtain ⟨tn, htn, et, -⟩ := (W.2.2.1 k hk).2.2.2.2.2
    refine ⟨ma, er, fm, fe, ?_, a2, a3, fun i hi => ?_⟩
    · unfold vTag vVd at a1 ⊢
      rw [← e (61 + k) (by omega), ← e (1 + k) (by omega), ← e (31 + k) (by omega), ← e (121 + k) (by omega), ← e (151 + k) (by omega), ← e (91 + k) (by omega)]
      exact a1
    · rw [← e (151 + k) (by omega)] at hi
      have hi8 : i < 8 := by rw [et, nI_clamp (by omega)] at hi; omega
      rw [← e (181 + 8 * k + i) (by omega), ← e (421 + 8 * k + i) (by omega)]
      exact a4 i hi
  · rw [← e (661 + k) (by omega), ← e (665 + k) (by omega), ← e (673 + k) (by omega), ← e (669 + k) (by omega)]
    exact h6 k hk
/-- the component after a keep -/
theorem RepC.keep {Γ : Gm} {F : Nat → Int32} {X : Nat → Nat → Int32} {nt ns nm ne nv nu ln : Nat} (J : Iv F X nt ns nm ne nv nu ln) {h h' : Hp} {x bu mk en hi sn so q : Nat} {b7 b8 : Int32} {hs hs' : Nat → Nat} {fsn fso : Nat → Option Nat}
    (Rx : h x = some ((50, 0), .inr (0, [.ref bu, .int (F 15), .int (F 22), .ref mk, .ref en, .ref hi, .ref sn, .int b7, .int b8, .ref so]))) (Rb : h bu = some ((51, 0), aB Γ 800 (X 14))) (RK : RepK Γ X nt ns nm ne h mk) (RE : RepE Γ (LdX X nm) (X 1) nv ne h en) (RH : RepH Γ X nm ne nu h hi hs) (RS : RepN Γ X nm ne h sn fsn) (RA : Apt en nu hs fsn) (RO : RepO Γ h so fso)
    (K : Kp (TK q) h h') (hq : ∀ e, h q ≠ some ((30, 0), e)) (Rq : RepE Γ (LdX X nm) (X 1) nv ne h' q) (L : Lst Γ h' hi (52, 0) 2 (kpN nu) hs') (et : hs' (kpN nu - 1) = q) (el : ∀ j, j + 1 < kpN nu → hs' j = hs (if nu = 12 then j + 1 else j)) : RepC Γ (upd F 41 (nI (kpN nu))) (setX X 42 (kpA X nu)) nt ns nm ne nv (kpN nu) h' x := by
  have hu := J.lu
  have hne := J.le
  have qn : ∀ a e, h a = some ((30, 0), e) → a ≠ q := fun a e b z => by rw [z] at b; exact hq e b
  have hk1 : 1 ≤ kpN nu := by unfold kpN; split <;> omega
  have lo : ∀ j, j + 1 < kpN nu → (if nu = 12 then j + 1 else j) < nu := fun j hj => by unfold kpN at hj; split at hj <;> (split <;> omega)
  have enq : en ≠ q := by obtain ⟨fs, e⟩ := RE.obj; exact qn _ _ e
  have hsq : ∀ j, j < nu → hs j ≠ q := fun j hj => by obtain ⟨nv', E⟩ := RH.2 j hj; obtain ⟨fs, e⟩ := E.obj; exact qn _ _ e
  refine ⟨bu, mk, en, hi, sn, so, b7, b8, hs', fsn, fso, K.get Rx (TK5 ⟨by decide, by decide⟩ ⟨by decide, by decide⟩), K.get Rb (TK5 ⟨by decide, by decide⟩ ⟨by decide, by decide⟩), RK.kK K, RE.kK K enq, ⟨L, fun j hj => ?_⟩, ⟨K.get RS.1 (TK5 ⟨by decide, by decide⟩ ⟨by decide, by decide⟩), fun j hj => ?_⟩, ⟨fun j hj => ?_, fun i j hi hj e => ?_, fun j hj e he => ?_⟩, ⟨K.get RO.1 (TK5 ⟨by decide, by decide⟩ ⟨by decide, by decide⟩), fun c hc sv e => ?_⟩⟩
  · by_cases c : j + 1 < kpN nu
    · rw [el j c]
      obtain ⟨nv', E⟩ := RH.2 _ (lo j c)
      obtain ⟨nv2, W⟩ := J.2.2.2.2.2.2.2.2.1 _ (lo j c)
      have e2 : nv' = nv2 := by
        obtain ⟨vl, el, vs, es, h1, h2, h3, -⟩ := E
        exact (nI_eq (by have := h3.le; omega) (by have := W.2.1; omega)).mp (h2.symm.trans W.1)
      subst e2
      exact ⟨nv', (E.kK K (hsq _ (lo j c))).congr W hne (fun i hi => by show _ = kpA X nu (677 * j + i); rw [kpA_low c hu hi])⟩
    · have e1 : j = kpN nu - 1 := by omega
      rw [e1, et]
      exact ⟨nv, Rq.congr J.rw hne (fun i hi => by show _ = kpA X nu (677 * (kpN nu - 1) + i); rw [kpA_top hu hi])⟩
  · rcases RS.2 j hj with a | ⟨a, e, nv', b, c⟩
    · exact Or.inl a
    · refine Or.inr ⟨a, e, nv', b, c.kK K ?_⟩
      obtain ⟨fs, e3⟩ := c.obj
      exact qn _ _ e3
  · by_cases c : j + 1 < kpN nu
    · rw [el j c]; exact RA.1 _ (lo j c)
    · rw [show j = kpN nu - 1 by omega, et]; exact Ne.symm enq
  · by_cases ci : i + 1 < kpN nu <;> by_cases cj : j + 1 < kpN nu
    · rw [el i ci, el j cj] at e
      have := RA.2.1 _ _ (lo i ci) (lo j cj) e
      split at this <;> omega
    · rw [el i ci, show j = kpN nu - 1 by omega, et] at e
      exact absurd e (hsq _ (lo i ci))
    · rw [el j cj, show i = kpN nu - 1 by omega, et] at e
      exact absurd e.symm (hsq _ (lo j cj))
    · omega
  · refine ⟨(RA.2.2 j hj e he).1, fun i hi => ?_⟩
    by_cases c : i + 1 < kpN nu
    · rw [el i c]; exact (RA.2.2 j hj e he).2 _ (lo i c)
    · rw [show i = kpN nu - 1 by omega, et]
      rcases RS.2 j hj with a | ⟨a, e', nv', b, c'⟩
      · rw [a.2] at he; cases he
      · rw [b] at he; cases he
        obtain ⟨fs, e3⟩ := c'.obj
        exact qn _ _ e3
  · obtain ⟨nd, le, ri, f, h1, h2, h3, h4⟩ := RO.2 c hc sv e
    exact ⟨nd, le, ri, f, K.get h1 (TK5 ⟨by decide, by decide⟩ ⟨by decide, by decide⟩), K.get h2 (TK5 ⟨by decide, by decide⟩ ⟨by decide, by decide⟩), h3, h4⟩
theorem TK_z {q : Nat} : ∀ t, TK q t → t ≠ (0, 0) := fun t h z => by subst z; exact TK_r ⟨Or.inl (by show 0 < 31; decide), by show 0 < 100; decide⟩ ⟨by show 0 ≠ 52; decide, by show 0 ≠ 53; decide⟩ h
theorem TL52 : T5 (TL (52, 0)) := fun t h => by rcases h with h | h <;> (rw [h]; exact ⟨by decide, by decide⟩)
set_option maxRecDepth 100000 in
theorem cc_keep {l : Launch} {Γ : Gm} {A : Nat → Prop} {ρ : State → Prop} (B : Bc l Γ A ρ) {h : Hp} {F : Nat → Int32} {X : Nat → Nat → Int32} {nt ns nm ne nv nu ln : Nat} (J : Iv F X nt ns nm ne nv nu ln) {x : Nat} (R_ : RepC Γ F X nt ns nm ne nv nu h x) : CtE l Γ A ρ yX1_keep cX1_keep 1 none { frames := 8, cells := 128, slots := 3234, locals := 193 } [.ref x] h (fun v h' => v = none ∧ RepC Γ (upd F 41 (nI (kpN nu))) (setX X 42 (kpA X nu)) nt ns nm ne nv (kpN nu) h' x ∧ Kp (fun t => t ≠ (0, 0)) h h') := by
  refine Ct.of B.1.1 B.1.2 (by decide) [some (.ref x)] (Nat.le_of_ble_eq_true rfl) rfl ?_
  intro E hE C R
  subst hE
  have SC_ := B.2 _ C.r
  have ht_ := J.lt
  have hs_ := J.ls
  have hm_ := J.lm
  have he_ := J.le
  have hu_ := J.lu
  have hl_ := J.ll
  have hv_ := J.lv
  obtain ⟨bu, mk, en, hi, sn, so, b7, b8, hs, fsn, fso, Rx, Rb, RK, RE, RH, RS, RA, RO⟩ := id R_
  obtain ⟨fe0, Eo0⟩ := RE.obj
  by_cases c9 : nu = 12
  · subst c9
    refine g_aload_n C dX1_keep_0 rfl rfl ?_
    refine c_get 0 5 k_X1 in_X1 (by decide) (fun _ h => h) q541 Rx rfl C dX1_keep_1 ?_
    refine h_callV (rest := []) 0 C (cc_size B RH.1) (lw_V q939 q770 q771 q90 q772) ⟨⟨by decide, by decide, by decide +kernel⟩, ⟨Nat.le_of_ble_eq_true rfl, Nat.le_of_ble_eq_true rfl⟩, ⟨Nat.le_of_ble_eq_true rfl, Nat.le_of_ble_eq_true rfl⟩⟩ (fun _ h => h) (RH.1.recv C) rfl rfl (Nat.le_of_ble_eq_true rfl) dX1_keep_4 (h_F ?_)
    refine g_bipush (v := 12) C dX1_keep_7 rfl ?_
    refine gN_ne (a := 12) (b := 12) 21 C dX1_keep_9 rfl (by omega) (by omega) (fun c9_ => ?_) (fun c9_ => ?_)
    · exact absurd rfl c9_
    · refine g_aload_n C dX1_keep_12 rfl rfl ?_
      refine c_get 0 5 k_X1 in_X1 (by decide) (fun _ h => h) q541 Rx rfl C dX1_keep_13 ?_
      refine g_iconst (v := 0) C dX1_keep_16 rfl ?_
      refine h_callV (rest := []) 1 C (cc_remove B Cno2 (m := 11) RH.1 0 (by omega)) (lw_V q1073 q1074 q1075 q90 q1076) ⟨⟨by decide, by decide, by decide +kernel⟩, ⟨Nat.le_of_ble_eq_true rfl, Nat.le_of_ble_eq_true rfl⟩, ⟨Nat.le_of_ble_eq_true rfl, Nat.le_of_ble_eq_true rfl⟩⟩ (fun _ h => h) (RH.1.recv C) rfl rfl (Nat.le_of_ble_eq_true rfl) dX1_keep_17 (h_E (fun v1 hp1 r1 => ?_))
      obtain ⟨rfl, LR, KR⟩ := r1
      have KR0 : Kp (TL (52, 0)) h hp1 := KR
      have Rx1 : hp1 x = _ := KR.get Rx (fun z => by rcases z with z | z <;> cases z)
      have RE1 : RepE Γ (LdX X nm) (X 1) nv ne hp1 en := RE.k5 KR TL52
      obtain ⟨fe1, Eo1⟩ := RE1.obj
      refine g_pop C dX1_keep_20 rfl ?_
      refine g_aload_n C dX1_keep_21 rfl rfl ?_
      refine c_get 0 5 k_X1 in_X1 (by decide) (fun _ h => h) q541 Rx1 rfl C dX1_keep_22 ?_
      refine g_aload_n C dX1_keep_25 rfl rfl ?_
      refine c_get 0 4 k_X1 in_X1 (by decide) (fun _ h => h) q540 Rx1 rfl C dX1_keep_26 ?_
      refine h_callV (rest := [.ref hi]) 0 C (cc_ecopy B RE1 J.rw J.le) (lw_V q1082 q1083 q1084 q106 q1085) ⟨⟨by decide, by decide, by decide +kernel⟩, ⟨Nat.le_of_ble_eq_true rfl, Nat.le_of_ble_eq_true rfl⟩, ⟨Nat.le_of_ble_eq_true rfl, Nat.le_of_ble_eq_true rfl⟩⟩ (fun _ h => h) (HP.recv C Eo1 k_X3) rfl rfl (Nat.le_of_ble_eq_true rfl) dX1_keep_29 (h_E (fun v2 hp2 r2 => ?_))
      obtain ⟨q, rfl, nq, Rq, KC⟩ := r2
      obtain ⟨fq, Eq⟩ := Rq.obj
      have el2 : ∀ k, k < 11 → ∃ fs, hp1 (rmF hs 0 k) = some ((30, 0), .inr (2, fs)) := fun k hk => by obtain ⟨nv9, E9⟩ := RH.2 (k + 1) (by omega); show ∃ fs, hp1 (if k < 0 then _ else hs (k + 1)) = _; rw [if_neg (by omega)]; exact (E9.k5 KR TL52).obj
      have LC := LR.kp KC (TQ_r ⟨Or.inr (by show 34 < 52; decide), by show 52 < 100; decide⟩) (TQ_r ⟨Or.inr (by show 34 < 53; decide), by show 53 < 100; decide⟩) (fun k hk => ⟨_, _, KC.get (el2 k hk).choose_spec (TQ_r ⟨Or.inl (by show 30 < 31; decide), by show 30 < 100; decide⟩)⟩)
      refine h_callV (rest := []) 1 C (cc_add B Cno2 LC Eq (by omega)) (lw_V q982 q837 q838 q90 q839) ⟨⟨by decide, by decide, by decide +kernel⟩, ⟨Nat.le_of_ble_eq_true rfl, Nat.le_of_ble_eq_true rfl⟩, ⟨Nat.le_of_ble_eq_true rfl, Nat.le_of_ble_eq_true rfl⟩⟩ (fun _ h => h) (LC.recv C) rfl rfl (Nat.le_of_ble_eq_true rfl) dX1_keep_32 (h_E (fun v3 hp3 r3 => ?_))
      obtain ⟨rfl, LA, KA⟩ := r3
      refine g_pop C dX1_keep_35 rfl ?_
      have kp12 : kpN 12 = 12 := rfl
      exact g_vret C R (Nat.le_of_ble_eq_true rfl) (Nat.le_of_ble_eq_true rfl) dX1_keep_36 (fun H hH => ⟨hp3, ⟨rfl, RepC.keep J Rx Rb RK RE RH RS RA RO (((Kp.up KR (fun t z => Or.inr z)).tr (Kp.up KC (fun t z => Or.inl z))).tr (Kp.up KA (fun t z => Or.inr z))) (fun e z => by rw [KR.get z (fun z => by rcases z with z | z <;> cases z)] at nq; cases nq) (Rq.k5 KA TL52) LA (by rw [kp12]; exact va_up_self _ _ _) (fun j hj => by rw [kp12] at hj; rw [va_up_ne _ _ (by omega), if_pos rfl]; rfl), (((Kp.up KR (fun t z => Or.inr z)).tr (Kp.up KC (fun t z => Or.inl z))).tr (Kp.up KA (fun t z => Or.inr z))).up TK_z⟩, hH⟩)
  · refine g_aload_n C dX1_keep_0 rfl rfl ?_
    refine c_get 0 5 k_X1 in_X1 (by decide) (fun _ h => h) q541 Rx rfl C dX1_keep_1 ?_
    refine h_callV (rest := []) 0 C (cc_size B RH.1) (lw_V q939 q770 q771 q90 q772) ⟨⟨by decide, by decide, by decide +kernel⟩, ⟨Nat.le_of_ble_eq_true rfl, Nat.le_of_ble_eq_true rfl⟩, ⟨Nat.le_of_ble_eq_true rfl, Nat.le_of_ble_eq_true rfl⟩⟩ (fun _ h => h) (RH.1.recv C) rfl rfl (Nat.le_of_ble_eq_true rfl) dX1_keep_4 (h_F ?_)
    refine g_bipush (v := 12) C dX1_keep_7 rfl ?_
    refine gN_ne (a := nu) (b := 12) 21 C dX1_keep_9 rfl (by omega) (by omega) (fun c9_ => ?_) (fun c9_ => ?_)
    · refine g_aload_n C dX1_keep_21 rfl rfl ?_
      refine c_get 0 5 k_X1 in_X1 (by decide) (fun _ h => h) q541 Rx rfl C dX1_keep_22 ?_
      refine g_aload_n C dX1_keep_25 rfl rfl ?_
      refine c_get 0 4 k_X1 in_X1 (by decide) (fun _ h => h) q540 Rx rfl C dX1_keep_26 ?_
      refine h_callV (rest := [.ref hi]) 0 C (cc_ecopy B RE J.rw J.le) (lw_V q1082 q1083 q1084 q106 q1085) ⟨⟨by decide, by decide, by decide +kernel⟩, ⟨Nat.le_of_ble_eq_true rfl, Nat.le_of_ble_eq_true rfl⟩, ⟨Nat.le_of_ble_eq_true rfl, Nat.le_of_ble_eq_true rfl⟩⟩ (fun _ h => h) (HP.recv C Eo0 k_X3) rfl rfl (Nat.le_of_ble_eq_true rfl) dX1_keep_29 (h_E (fun v1 hp1 r1 => ?_))
      obtain ⟨q, rfl, nq, Rq, KC⟩ := r1
      obtain ⟨fq, Eq⟩ := Rq.obj
      have el2 : ∀ k, k < nu → ∃ fs, h (hs k) = some ((30, 0), .inr (2, fs)) := fun k hk => by obtain ⟨nv9, E9⟩ := RH.2 k hk; exact E9.obj
      have LC := RH.1.kp KC (TQ_r ⟨Or.inr (by show 34 < 52; decide), by show 52 < 100; decide⟩) (TQ_r ⟨Or.inr (by show 34 < 53; decide), by show 53 < 100; decide⟩) (fun k hk => ⟨_, _, KC.get (el2 k hk).choose_spec (TQ_r ⟨Or.inl (by show 30 < 31; decide), by show 30 < 100; decide⟩)⟩)
      refine h_callV (rest := []) 1 C (cc_add B Cno2 LC Eq (by omega)) (lw_V q982 q837 q838 q90 q839) ⟨⟨by decide, by decide, by decide +kernel⟩, ⟨Nat.le_of_ble_eq_true rfl, Nat.le_of_ble_eq_true rfl⟩, ⟨Nat.le_of_ble_eq_true rfl, Nat.le_of_ble_eq_true rfl⟩⟩ (fun _ h => h) (LC.recv C) rfl rfl (Nat.le_of_ble_eq_true rfl) dX1_keep_32 (h_E (fun v2 hp2 r2 => ?_))
      obtain ⟨rfl, LA, KA⟩ := r2
      refine g_pop C dX1_keep_35 rfl ?_
      have kpn : kpN nu = nu + 1 := by unfold kpN; rw [if_neg c9]
      have KK : Kp (TK q) h hp2 := ((Kp.up KC (fun t z => Or.inl z)).tr (Kp.up KA (fun t z => Or.inr z)))
      have RC := RepC.keep J Rx Rb RK RE RH RS RA RO KK (fun e z => by rw [z] at nq; cases nq) (Rq.k5 KA TL52) (by rw [kpn]; exact LA) (by rw [kpn]; exact va_up_self _ _ _) (fun j hj => by rw [kpn] at hj; rw [va_up_ne _ _ (by omega), if_neg c9])
      exact g_vret C R (Nat.le_of_ble_eq_true rfl) (Nat.le_of_ble_eq_true rfl) dX1_keep_36 (fun H hH => ⟨hp2, ⟨rfl, RC, KK.up TK_z⟩, hH⟩)
    · exact absurd c9_ c9
