theorem pcN_z : ∀ (n : Nat), pcN n = 0 → n = 0 := by
  intro n
  induction n using Nat.strongRecOn with
  | ind n ih =>
    intro h
    by_cases c : n = 0
    · exact c
    · rw [pcN, if_neg c] at h
      have := ih (n / 2) (by omega) (by omega)
      omega
theorem pcN_1 : ∀ (n : Nat), pcN n = 1 → ∃ k, n = 2 ^ k := by
  intro n
  induction n using Nat.strongRecOn with
  | ind n ih =>
    intro h
    by_cases c : n = 0
    · rw [c, pcN, if_pos rfl] at h; exact absurd h (by decide)
    · rw [pcN, if_neg c] at h
      rcases Nat.mod_two_eq_zero_or_one n with e | e
      · obtain ⟨k, hk⟩ := ih (n / 2) (by omega) (by omega)
        exact ⟨k + 1, by rw [Nat.pow_succ]; omega⟩
      · have := pcN_z (n / 2) (by omega)
        exact ⟨0, by rw [Nat.pow_zero]; omega⟩
theorem fiN_h {r : Nat → Int32} {e w i : Nat} (h1 : r (661 + e) = nI (2 ^ i)) (h2 : r (665 + e) = 0) (hi : i < w) (hw : w ≤ 12) : ∀ k, k ≤ w → w ≤ i + k → fiN r e w k = nI (1 + 2 * i) := by
  intro k
  induction k with
  | zero => intro _ h; omega
  | succ k ih =>
    intro hk hik
    unfold fiN
    have hp : 2 ^ i < 2 ^ 31 := Nat.pow_lt_pow_right (by decide) (by omega)
    have hq : 2 ^ (w - (k + 1)) < 2 ^ 31 := Nat.pow_lt_pow_right (by decide) (by omega)
    by_cases c : w - (k + 1) = i
    · rw [c, if_pos h1]
    · have n1 : ¬ r (661 + e) = nI (2 ^ (w - (k + 1))) := fun z => by
        rw [h1] at z
        have := (nI_eq hp hq).mp z
        exact c ((Nat.pow_right_inj (by decide)).mp this).symm
      have n2 : ¬ r (665 + e) = nI (2 ^ (w - (k + 1))) := fun z => by
        rw [h2] at z
        have := (nI_eq (a := 0) (by omega) hq).mp z
        have := Nat.one_le_two_pow (n := w - (k + 1))
        omega
      rw [if_neg n1, if_neg n2]
      exact ih (by omega) (by omega)
theorem fiN_l {r : Nat → Int32} {e w i : Nat} (h1 : r (665 + e) = nI (2 ^ i)) (h2 : r (661 + e) = 0) (hi : i < w) (hw : w ≤ 12) : ∀ k, k ≤ w → w ≤ i + k → fiN r e w k = nI (2 + 2 * i) := by
  intro k
  induction k with
  | zero => intro _ h; omega
  | succ k ih =>
    intro hk hik
    unfold fiN
    have hp : 2 ^ i < 2 ^ 31 := Nat.pow_lt_pow_right (by decide) (by omega)
    have hq : 2 ^ (w - (k + 1)) < 2 ^ 31 := Nat.pow_lt_pow_right (by decide) (by omega)
    have n2 : ¬ r (661 + e) = nI (2 ^ (w - (k + 1))) := fun z => by
      rw [h2] at z
      have := (nI_eq (a := 0) (by omega) hq).mp z
      have := Nat.one_le_two_pow (n := w - (k + 1))
      omega
    rw [if_neg n2]
    by_cases c : w - (k + 1) = i
    · rw [c, if_pos h1]
    · have n1 : ¬ r (665 + e) = nI (2 ^ (w - (k + 1))) := fun z => by
        rw [h1] at z
        have := (nI_eq hp hq).mp z
        exact c ((Nat.pow_right_inj (by decide)).mp this).symm
      rw [if_neg n1]
      exact ih (by omega) (by omega)
theorem fiN_0 {r : Nat → Int32} {e w : Nat} (h1 : r (661 + e) = 0) (h2 : r (665 + e) = 0) (hw : w ≤ 12) : ∀ k, k ≤ w → fiN r e w k = 0 := by
  intro k
  induction k with
  | zero => intro _; rfl
  | succ k ih =>
    intro hk
    unfold fiN
    have hq : 2 ^ (w - (k + 1)) < 2 ^ 31 := Nat.pow_lt_pow_right (by decide) (by omega)
    have n : ∀ x : Int32, x = 0 → ¬ x = nI (2 ^ (w - (k + 1))) := fun x hx z => by
      rw [hx] at z
      have := (nI_eq (a := 0) (by omega) hq).mp z
      have := Nat.one_le_two_pow (n := w - (k + 1))
      omega
    rw [if_neg (n _ h1), if_neg (n _ h2)]
    exact ih (by omega)
theorem nI_toN {n : Nat} (h : n < 2 ^ 32) : (nI n).toBitVec.toNat = n := by show (BitVec.ofNat 32 n).toNat = n; rw [BitVec.toNat_ofNat, Nat.mod_eq_of_lt h]
/-- what one hypothesis left means -/
theorem fi_eq {wt r : Nat → Int32} {e : Nat} (H : HyB wt r e) (hc : coN r e ≤ 1) : (¬ r (669 + e) = 0 ∧ fiN r e (wt e).toNatClampNeg (wt e).toNatClampNeg = 0) ∨ (r (669 + e) = 0 ∧ ¬ r (661 + e) = 0 ∧ fiN r e (wt e).toNatClampNeg (wt e).toNatClampNeg = 1 + 2 * tzI (r (661 + e))) ∨ (r (669 + e) = 0 ∧ r (661 + e) = 0 ∧ fiN r e (wt e).toNatClampNeg (wt e).toNatClampNeg = 2 + 2 * tzI (r (665 + e))) := by
  obtain ⟨w, a, b, g, q, ⟨ew, hw⟩, ha, hb, hg, hq, e1, e2, e3, e4, e5, e6⟩ := H
  have hp : 2 ^ w ≤ 2 ^ 12 := Nat.pow_le_pow_right (by decide) hw
  have pl : ∀ n, pcN n ≤ n := by
    intro n
    induction n using Nat.strongRecOn with
    | ind n ih =>
      by_cases c : n = 0
      · rw [c, pcN, if_pos rfl]; exact Nat.le_refl _
      · rw [pcN, if_neg c]
        have := ih (n / 2) (by omega)
        omega
  have pa := pl a
  have pb := pl b
  have hc2 : pcN a + pcN b + g ≤ 1 := by
    unfold coN at hc
    rw [e1, e2, e3, pcI_nI (by omega), pcI_nI (by omega), nI_add, fa_le, nI_toInt (by omega), show (1 : Int32).toInt = 1 from rfl] at hc
    omega
  have ez : ∀ n, n < 2 ^ 31 → (nI n = 0 ↔ n = 0) := fun n hn => nI_eq (b := 0) hn (by decide)
  rw [ew, nI_clamp (by omega)]
  by_cases cg : g = 1
  · left
    have a0 := pcN_z a (by omega)
    have b0 := pcN_z b (by omega)
    refine ⟨by rw [e3, ez _ (by omega)]; omega, fiN_0 (by rw [e1, a0]; rfl) (by rw [e2, b0]; rfl) hw w (Nat.le_refl _)⟩
  · have g0 : g = 0 := by omega
    right
    by_cases ca : a = 0
    · right
      have : pcN b ≠ 0 := fun z => by have := pcN_z b z; omega
      obtain ⟨k, hk⟩ := pcN_1 b (by omega)
      have hkw : k < w := by
        rcases Nat.lt_or_ge k w with h | h
        · exact h
        · have := Nat.pow_le_pow_right (n := 2) (by decide) h; omega
      refine ⟨by rw [e3, g0]; rfl, by rw [e1, ca]; rfl, ?_⟩
      rw [e2, hk, tzI_N (by omega), fiN_l (by rw [e2, hk]) (by rw [e1, ca]; rfl) hkw hw w (Nat.le_refl _) (by omega)]
      rw [show (2 : Int32) = nI 2 from rfl, pk_mul, nI_add]
    · left
      have h0 : pcN a ≠ 0 := fun z => ca (pcN_z a z)
      obtain ⟨k, hk⟩ := pcN_1 a (by omega)
      have b0 := pcN_z b (by omega)
      have hkw : k < w := by
        rcases Nat.lt_or_ge k w with h | h
        · exact h
        · have := Nat.pow_le_pow_right (n := 2) (by decide) h; omega
      refine ⟨by rw [e3, g0]; rfl, by rw [e1, ez _ (by omega)]; exact ca, ?_⟩
      rw [e1, hk, tzI_N (by omega), fiN_h (by rw [e1, hk]) (by rw [e2, b0]; rfl) hkw hw w (Nat.le_refl _) (by omega)]
      rw [show (2 : Int32) = nI 2 from rfl, show (1 : Int32) = nI 1 from rfl, pk_mul, nI_add]
set_option maxRecDepth 100000 in
theorem cc_finding {l : Launch} {Γ : Gm} {A : Nat → Prop} {ρ : State → Prop} (B : Bc l Γ A ρ) {h : Hp} {F : Nat → Int32} {X : Nat → Nat → Int32} {nt ns nm ne nv nu ln : Nat} (J : Iv F X nt ns nm ne nv nu ln) {x : Nat} (R_ : RepC Γ F X nt ns nm ne nv nu h x) (set : Int32) : CtF l Γ A ρ yX1_finding cX1_finding 3 (some .int) { frames := 3, cells := 0, slots := 0, locals := 64 } [.ref x, .int set] h (some (.int (atI set ne (fiI X)))) h := by
  refine Ct.of B.1.1 B.1.2 (by decide) [some (.ref x), some (.int set), none] (Nat.le_of_ble_eq_true rfl) rfl ?_
  intro E hE C R
  subst hE
  have SC_ := B.2 _ C.r
  have ht_ := J.lt
  have hs_ := J.ls
  have hm_ := J.lm
  have he_ := J.le
  have hu_ := J.lu
  have hl_ := J.ll
  have hv_ := J.lv
  obtain ⟨bu, mk, en, hi, sn, so, b7, b8, hs, fsn, fso, Rx, Rb, RK, RE, RH, RS, RA, RO⟩ := id R_
  obtain ⟨sl, wl, ma, te, fm, ft, ss, wq, Km, Kma, Kfm, Kte, Kft, Ksl, Kss, Kwl, Kws⟩ := id RK
  obtain ⟨vl, el, vs, es, Ee, E0, Evl, Eel, Evs, Ees⟩ := id RE
  refine g_aload_n C dX1_finding_0 rfl rfl ?_
  refine g_iload_n C dX1_finding_1 rfl rfl ?_
  refine h_callV (rest := []) 1 C (cc_isSet B J R_ _) (lw_V q1322 q1324 qs36 q86 q1325) ⟨⟨by decide, by decide, by decide +kernel⟩, ⟨Nat.le_of_ble_eq_true rfl, Nat.le_of_ble_eq_true rfl⟩, ⟨Nat.le_of_ble_eq_true rfl, Nat.le_of_ble_eq_true rfl⟩⟩ (fun _ h => h) (HP.recv C Rx k_X1) rfl rfl (Nat.le_of_ble_eq_true rfl) dX1_finding_2 (h_F ?_)
  refine g_if_ne 10 C dX1_finding_5 rfl (fun c5 => ?_) (fun c5 => ?_)
  · obtain ⟨j_set, hj_set, rfl⟩ := ixI_in (by omega) c5
    refine g_aload_n C dX1_finding_10 rfl rfl ?_
    refine c_get 0 4 k_X1 in_X1 (by decide) (fun _ h => h) q540 Rx rfl C dX1_finding_11 ?_
    refine c_getN 2 1 k_X3 in_X3 (by decide) (fun _ h => h) q524 SC_ Ee rfl C dX1_finding_14 ?_
    refine g_iload_n C dX1_finding_17 rfl rfl ?_
    refine h_callV (rest := []) 1 C (cc_get B Eel j_set (by omega)) (lw_V q940 q941 q942 q90 q943) ⟨⟨by decide, by decide, by decide +kernel⟩, ⟨Nat.le_of_ble_eq_true rfl, Nat.le_of_ble_eq_true rfl⟩, ⟨Nat.le_of_ble_eq_true rfl, Nat.le_of_ble_eq_true rfl⟩⟩ (fun _ h => h) (Eel.recv C) rfl rfl (Nat.le_of_ble_eq_true rfl) dX1_finding_18 (h_F ?_)
    refine c_castS (Ees j_set (by omega)) k_X14 q956 C dX1_finding_21 ?_
    refine g_astore_n (lv' := [some (.ref x), some (.int (nI j_set)), some (.ref (es j_set))]) C dX1_finding_24 rfl (by decide) rfl ?_
    refine g_aload_n C dX1_finding_25 rfl rfl ?_
    refine h_callV (rest := []) 0 C (cc_hcount B (Ees j_set (by omega)) (J.wt hj_set).2.2.2.1 (J.wt hj_set).2.2.2.2.1 (J.wt hj_set).2.1 (J.ge01 hj_set)) (lw_V q1337 q1338 q1339 q119 q1340) ⟨⟨by decide, by decide, by decide +kernel⟩, ⟨Nat.le_of_ble_eq_true rfl, Nat.le_of_ble_eq_true rfl⟩, ⟨Nat.le_of_ble_eq_true rfl, Nat.le_of_ble_eq_true rfl⟩⟩ (fun _ h => h) (HP.recv C (Ees j_set (by omega)) k_X14) rfl rfl (Nat.le_of_ble_eq_true rfl) dX1_finding_26 (h_F ?_)
    refine g_topi (y := coN (X 1) j_set) (rfl) ?_
    refine g_iconst (v := 1) C dX1_finding_29 rfl ?_
    refine g_icmp_le 36 C dX1_finding_30 rfl (fun c30 => ?_) (fun c30 => ?_)
    · refine g_aload_n C dX1_finding_36 rfl rfl ?_
      refine c_getN 12 3 k_X14 in_X14 (by decide) (fun _ h => h) q972 SC_ (Ees j_set (by omega)) rfl C dX1_finding_37 ?_
      refine g_if_eq 45 C dX1_finding_40 rfl (fun c40 => ?_) (fun c40 => ?_)
      · refine g_aload_n C dX1_finding_45 rfl rfl ?_
        refine c_getN 12 0 k_X14 in_X14 (by decide) (fun _ h => h) q964 SC_ (Ees j_set (by omega)) rfl C dX1_finding_46 ?_
        refine g_if_eq 66 C dX1_finding_49 rfl (fun c49 => ?_) (fun c49 => ?_)
        · refine g_iconst (v := 2) C dX1_finding_66 rfl ?_
          refine g_iconst (v := 2) C dX1_finding_67 rfl ?_
          refine g_aload_n C dX1_finding_68 rfl rfl ?_
          refine c_getN 12 1 k_X14 in_X14 (by decide) (fun _ h => h) q967 SC_ (Ees j_set (by omega)) rfl C dX1_finding_69 ?_
          refine h_callS (rest := [.int 2, .int 2]) 1 C (cc_ntz B.1 _ _) (lw_S q1370 q1371 q105 q1372) ⟨⟨by decide, by decide, by decide +kernel⟩, ⟨Nat.le_of_ble_eq_true rfl, Nat.le_of_ble_eq_true rfl⟩, ⟨Nat.le_of_ble_eq_true rfl, Nat.le_of_ble_eq_true rfl⟩⟩ (fun _ h => h) rfl rfl (Nat.le_of_ble_eq_true rfl) dX1_finding_72 (h_P ?_)
          refine g_imul C dX1_finding_75 ?_
          refine g_iadd C dX1_finding_76 ?_
          have ef : fiN (X 1) j_set (X 11 j_set).toNatClampNeg (X 11 j_set).toNatClampNeg = 2 + (2 * (tzI (X 1 (665 + j_set)))) := by
            rcases fi_eq (J.hy hj_set) c30 with ⟨a, e⟩ | ⟨a, b, e⟩ | ⟨a, b, e⟩
            · exact absurd c40 a
            · exact absurd c49 b
            · exact e
          exact g_iret C R (Nat.le_of_ble_eq_true rfl) (Nat.le_of_ble_eq_true rfl) dX1_finding_77 (fun H hH => ⟨by rw [atI_in hj_set (by omega)]; unfold fiI; rw [if_pos c30, ef], hH⟩)
        · refine g_iconst (v := 1) C dX1_finding_52 rfl ?_
          refine g_iconst (v := 2) C dX1_finding_53 rfl ?_
          refine g_aload_n C dX1_finding_54 rfl rfl ?_
          refine c_getN 12 0 k_X14 in_X14 (by decide) (fun _ h => h) q964 SC_ (Ees j_set (by omega)) rfl C dX1_finding_55 ?_
          refine h_callS (rest := [.int 2, .int 1]) 1 C (cc_ntz B.1 _ _) (lw_S q1370 q1371 q105 q1372) ⟨⟨by decide, by decide, by decide +kernel⟩, ⟨Nat.le_of_ble_eq_true rfl, Nat.le_of_ble_eq_true rfl⟩, ⟨Nat.le_of_ble_eq_true rfl, Nat.le_of_ble_eq_true rfl⟩⟩ (fun _ h => h) rfl rfl (Nat.le_of_ble_eq_true rfl) dX1_finding_58 (h_P ?_)
          refine g_imul C dX1_finding_61 ?_
          refine g_iadd C dX1_finding_62 ?_
          refine g_goto 77 C dX1_finding_63 rfl ?_
          have ef : fiN (X 1) j_set (X 11 j_set).toNatClampNeg (X 11 j_set).toNatClampNeg = 1 + (2 * (tzI (X 1 (661 + j_set)))) := by
            rcases fi_eq (J.hy hj_set) c30 with ⟨a, e⟩ | ⟨a, b, e⟩ | ⟨a, b, e⟩
            · exact absurd c40 a
            · exact e
            · exact absurd b c49
          exact g_iret C R (Nat.le_of_ble_eq_true rfl) (Nat.le_of_ble_eq_true rfl) dX1_finding_77 (fun H hH => ⟨by rw [atI_in hj_set (by omega)]; unfold fiI; rw [if_pos c30, ef], hH⟩)
      · refine g_iconst (v := 0) C dX1_finding_43 rfl ?_
        have ef : fiN (X 1) j_set (X 11 j_set).toNatClampNeg (X 11 j_set).toNatClampNeg = 0 := by
          rcases fi_eq (J.hy hj_set) c30 with ⟨a, e⟩ | ⟨a, b, e⟩ | ⟨a, b, e⟩
          · exact e
          · exact absurd a c40
          · exact absurd a c40
        exact g_iret C R (Nat.le_of_ble_eq_true rfl) (Nat.le_of_ble_eq_true rfl) dX1_finding_44 (fun H hH => ⟨by rw [atI_in hj_set (by omega)]; unfold fiI; rw [if_pos c30, ef], hH⟩)
    · refine g_bipush (v := (-2)) C dX1_finding_33 rfl ?_
      exact g_iret C R (Nat.le_of_ble_eq_true rfl) (Nat.le_of_ble_eq_true rfl) dX1_finding_35 (fun H hH => ⟨by rw [atI_in hj_set (by omega)]; unfold fiI; rw [if_neg c30], hH⟩)
  · refine g_iconst (v := (-1)) C dX1_finding_8 rfl ?_
    exact g_iret C R (Nat.le_of_ble_eq_true rfl) (Nat.le_of_ble_eq_true rfl) dX1_finding_9 (fun H hH => ⟨by rw [atI_out c5], hH⟩)
