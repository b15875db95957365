theorem rnI_1 {v lo hi : Int32} (h : ¬ rnI v lo hi = 0) : rnI v lo hi = 1 := by
  unfold rnI at h ⊢
  split
  · rfl
  · rename_i c; rw [if_neg c] at h; exact absurd rfl h
theorem rnI_0n {v : Int32} {ln : Nat} (hl : ln < 2 ^ 31) (h : ¬ rnI v 0 (nI ln) = 0) : ∃ n, n ≤ ln ∧ v = nI n := by
  unfold rnI at h
  by_cases c : (0 : Int32) ≤ v ∧ v ≤ nI ln
  · have h1 := Int32.le_iff_toInt_le.mp c.1
    have h2 := Int32.le_iff_toInt_le.mp c.2
    rw [nI_toInt hl] at h2
    have h0 : (0 : Int32).toInt = 0 := by decide
    rw [h0] at h1
    refine ⟨v.toInt.toNat, by omega, ?_⟩
    apply Int32.toInt_inj.mp
    rw [nI_toInt (by omega)]
    omega
  · rw [if_neg c] at h; exact absurd rfl h
theorem Dr0 (Y : Nat → Nat → Int32) : Dr (setX Y 35 (zfN (Y 35) 3)) (0, 0, 0, 0) := by
  refine ⟨fun s h => absurd h (Nat.not_lt_zero _), fun s h => absurd h (Nat.not_lt_zero _), fun s h => absurd h (Nat.not_lt_zero _), fun s h => absurd h (Nat.not_lt_zero _), fun s h => absurd h (Nat.not_lt_zero _), fun s h => absurd h (Nat.not_lt_zero _), fun s h => absurd h (Nat.not_lt_zero _), fun k hk => ⟨0, by decide, ?_⟩⟩
  match k, hk with
  | 0, _ => rfl
  | 1, _ => rfl
  | 2, _ => rfl
def pRes (buf : Nat → Int32) (n : Nat) (Y : Nat → Nat → Int32) : (Nat × Nat) ⊕ (Cn × (Nat → Nat → Int32)) := pRun buf n (n + 1) (tkAt buf n 0) (0, 0, 0, 0) Y
def pF0 (F : Nat → Int32) (n : Nat) : Nat → Int32 := upd (upd (upd F 0 0) 16 (nI n)) 15 0
/-- what a parse does -/
def PsP (F : Nat → Int32) (X : Nat → Nat → Int32) (ln : Nat) (cnt : Int32) (v : Option Value) (F' : Nat → Int32) (X' : Nat → Nat → Int32) : Prop :=
  (rnI cnt 0 (nI ln) = 0 ∧ v = some (.int (-1)) ∧ F' = upd F 0 0 ∧ X' = X) ∨
  (¬ rnI cnt 0 (nI ln) = 0 ∧ ∃ n, n ≤ ln ∧ cnt = nI n ∧ ∃ F1 X1, FR (pF0 F n) F1 ∧ XR X X1 ∧ (match pRes (X 14) n (setX X 35 (zfN (X 35) 3)) with
    | .inl e => v = some (.int (nI e.1)) ∧ F1 22 = nI e.2 ∧ F' = F1 ∧ X' = X1
    | .inr (c, Y) => v = some (.int 0) ∧ F1 22 = -2 ∧ CnB c ∧ Dr Y c ∧ X1 = Y ∧ F' = bcF F1 c ∧ X' = bcX Y c))
set_option maxRecDepth 100000 in
set_option maxHeartbeats 2000000 in
theorem ct_parse {l : Launch} {Γ : Gm} {A : Nat → Prop} {ρ : State → Prop} (B : Bs l A ρ) {o : Nat} {ad : Nat → Nat} {F : Nat → Int32} {X : Nat → Nat → Int32} {nt ns nm ne nv nu ln : Nat} (J : Iv F X nt ns nm ne nv nu ln) {sa va : Nat → Nat} (hW : ∀ U, ρ U → SKm A sa va U) (cnt : Int32) : Ct l Γ A ρ yX4_parse cX4_parse 3 (some .int) { frames := 7, cells := 0, slots := 0, locals := 152 } [.ref o, .int cnt] (RepM Γ A o ad F X) (fun v H => ∃ F' X', PsP F X ln cnt v F' X' ∧ RepM Γ A o ad F' X' H) := by
  refine Ct.of B.1 B.2 (by decide) [some (.ref o), some (.int cnt), none] (Nat.le_of_ble_eq_true rfl) rfl ?_
  intro E hE C R
  subst hE
  have hl := J.ll
  by_cases c0 : rnI cnt 0 (nI ln) = 0
  · refine g_aload_n C dX4_parse_0 rfl rfl ?_
    refine g_iconst (v := 0) C dX4_parse_1 rfl ?_
    refine mp_0 C dX4_parse_2 ?_
    refine g_iload_n C dX4_parse_5 rfl rfl ?_
    refine g_i2l C dX4_parse_6 ?_
    refine g_lconst (v := 0) C dX4_parse_7 rfl ?_
    refine g_aload_n C dX4_parse_8 rfl rfl ?_
    refine mg_15 C dX4_parse_9 ?_
    refine g_topi (y := nI ln) (J.f15) ?_
    refine g_i2l C dX4_parse_12 ?_
    refine g_pcall (rest := []) 3 C (ct_within B _ _ _) (lw_S q1783 q1784 q107 q1785) ⟨by decide, by decide, by decide +kernel⟩ ⟨Nat.le_of_ble_eq_true rfl, Nat.le_of_ble_eq_true rfl⟩ ⟨Nat.le_of_ble_eq_true rfl, Nat.le_of_ble_eq_true rfl⟩ rfl rfl (Nat.le_of_ble_eq_true rfl) dX4_parse_13 ?_
    refine g_topi (y := 0) ((wi_rn cnt 0 (nI ln)).trans c0) ?_
    refine g_if_ne 21 C dX4_parse_16 rfl (fun c16 => ?_) (fun c16 => ?_)
    · exact absurd c16 (by decide)
    · refine g_iconst (v := (-1)) C dX4_parse_19 rfl ?_
      exact g_iret C R (Nat.le_refl _) (Nat.le_refl _) dX4_parse_20 (fun H h => ⟨upd F 0 0, X, Or.inl ⟨c0, rfl, rfl, rfl⟩, h⟩)
  obtain ⟨n, hn, rfl⟩ := rnI_0n (by omega) c0
  have hn8 : n ≤ 800 := by omega
  obtain ⟨buf, hbuf⟩ : ∃ b, b = X 14 := ⟨_, rfl⟩
  obtain ⟨Y0, hY0⟩ : ∃ y, y = setX X 35 (zfN (X 35) 3) := ⟨_, rfl⟩
  have j93 : ∀ f F1 X1 t c, FR (pF0 F n) F1 → XR X X1 → PS F1 n t c → Tok buf n t → CnB c → Dr X1 c → n < f + t.2.1 → pRun buf n f t c X1 = pRes buf n Y0 → G E (RepM Γ A o ad F1 X1) 0 0 93 [some (.ref o), some (.int (nI n)), some (.int 1)] [] := by
    intro f
    induction f with
    | zero => intro F1 X1 t c fr xr Q hT hc D hf hr; have := hT.B.2.1; exfalso; omega
    | succ f ih =>
      intro F1 X1 t c fr xr Q hT hc D hf hr
      have P := Q.1
      have hb := hT.B
      obtain ⟨hba, hbb, hbc, hbd⟩ := id hb
      by_cases ct : t.2.2.1 = 0
      · have hr : pRes buf n Y0 = .inr (c, X1) := by rw [← hr, pRun, if_pos ct]
        refine g_iload_n C dX4_parse_93 rfl rfl ?_
        refine g_if_eq 112 C dX4_parse_94 rfl (fun c94 => ?_) (fun c94 => ?_)
        · exact absurd c94 (by decide)
        · refine g_aload_n C dX4_parse_97 rfl rfl ?_
          refine mg_19 C dX4_parse_98 ?_
          refine g_topi (y := 0) (P.2.2.2.1.trans (by rw [ct]; rfl)) ?_
          refine g_if_eq 112 C dX4_parse_101 rfl (fun c101 => ?_) (fun c101 => ?_)
          · refine g_iload_n C dX4_parse_112 rfl rfl ?_
            refine g_if_ne 121 C dX4_parse_113 rfl (fun c113 => ?_) (fun c113 => ?_)
            · refine g_aload_n C dX4_parse_121 rfl rfl ?_
              refine g_mcallv (rest := []) 0 C (ct_becomes (F := F1) (X := X1) B hc D Q.2.2.1 Q.2.2.2.1 Q.2.2.2.2.1 Q.2.2.2.2.2) (lw_V q1863 q1865 qs58 q107 q1866) (by decide +kernel) ⟨Nat.le_of_ble_eq_true rfl, Nat.le_of_ble_eq_true rfl⟩ ⟨Nat.le_of_ble_eq_true rfl, Nat.le_of_ble_eq_true rfl⟩ rfl rfl (Nat.le_of_ble_eq_true rfl) dX4_parse_122 ?_
              refine g_iconst (v := 0) C dX4_parse_125 rfl ?_
              exact g_iret C R (Nat.le_refl _) (Nat.le_refl _) dX4_parse_126 (fun H h => ⟨bcF F1 c, bcX X1 c, Or.inr ⟨c0, n, hn, rfl, F1, X1, fr, xr, by rw [← hbuf, ← hY0, hr]; exact ⟨rfl, Q.2.1, hc, D, rfl, rfl, rfl⟩⟩, h⟩)
            · exact absurd c113 (by decide)
          · exact absurd c101 (by decide)
      · refine g_iload_n C dX4_parse_93 rfl rfl ?_
        refine g_if_eq 112 C dX4_parse_94 rfl (fun c94 => ?_) (fun c94 => ?_)
        · exact absurd c94 (by decide)
        · refine g_aload_n C dX4_parse_97 rfl rfl ?_
          refine mg_19 C dX4_parse_98 ?_
          refine g_topi (y := nI t.2.2.1) (P.2.2.2.1) ?_
          refine g_if_eq 112 C dX4_parse_101 rfl (fun c101 => ?_) (fun c101 => ?_)
          · exact absurd c101 (nI_ne0 (by omega) (by omega))
          · refine g_aload_n C dX4_parse_104 rfl rfl ?_
            refine g_lcall (rest := []) C (ct_statement (F := F1) (X := X1) B ((xr 14 rfl).trans hbuf.symm) hn8 hT hc Q hW) (lw_V q1798 q1800 qs48 q107 q1801) ⟨Nat.le_of_ble_eq_true rfl, Nat.le_of_ble_eq_true rfl⟩ ⟨Nat.le_of_ble_eq_true rfl, Nat.le_of_ble_eq_true rfl⟩ rfl (Nat.le_of_ble_eq_true rfl) dX4_parse_105 (fun v1 F2 X2 h1 => ?_)
            cases er : pStmt buf n t c X1 with
            | inl e1 =>
              rw [er] at h1
              obtain ⟨f2, x2, rfl, h21, h22⟩ := h1
              have hr : pRes buf n Y0 = .inl e1 := by rw [← hr, pRun, if_neg ct]; simp only [er]
              refine g_istore_n (lv' := [some (.ref o), some (.int (nI n)), some (.int 0)]) C dX4_parse_108 rfl (by decide) rfl ?_
              refine g_goto 93 C dX4_parse_109 rfl ?_
              refine g_iload_n C dX4_parse_93 rfl rfl ?_
              refine g_if_eq 112 C dX4_parse_94 rfl (fun c94 => ?_) (fun c94 => ?_)
              · refine g_iload_n C dX4_parse_112 rfl rfl ?_
                refine g_if_ne 121 C dX4_parse_113 rfl (fun c113 => ?_) (fun c113 => ?_)
                · exact absurd c113 (by decide)
                · refine g_aload_n C dX4_parse_116 rfl rfl ?_
                  refine mg_21 C dX4_parse_117 ?_
                  refine g_topi (y := nI e1.1) (h21) ?_
                  exact g_iret C R (Nat.le_refl _) (Nat.le_refl _) dX4_parse_120 (fun H h => ⟨F2, X2, Or.inr ⟨c0, n, hn, rfl, F2, X2, fr.tr f2, xr.tr x2, by rw [← hbuf, ← hY0, hr]; exact ⟨rfl, h22, rfl, rfl⟩⟩, h⟩)
              · exact absurd c94 (by decide)
            | inr p =>
              obtain ⟨t', c', Y'⟩ := p
              have L := pStmt_L hT hc er
              rw [er] at h1
              obtain ⟨f2, x2, rfl, rfl, Q'⟩ := h1
              refine g_istore_n (lv' := [some (.ref o), some (.int (nI n)), some (.int 1)]) C dX4_parse_108 rfl (by decide) rfl ?_
              refine g_goto 93 C dX4_parse_109 rfl ?_
              exact ih F2 X2 t' c' (fr.tr f2) (xr.tr x2) Q' L.1 L.2.1 (L.2.2.2.2 D) (by have := L.2.2.1; omega) (by rw [← hr, pRun, if_neg ct]; simp only [er])
  refine g_aload_n C dX4_parse_0 rfl rfl ?_
  refine g_iconst (v := 0) C dX4_parse_1 rfl ?_
  refine mp_0 C dX4_parse_2 ?_
  refine g_iload_n C dX4_parse_5 rfl rfl ?_
  refine g_i2l C dX4_parse_6 ?_
  refine g_lconst (v := 0) C dX4_parse_7 rfl ?_
  refine g_aload_n C dX4_parse_8 rfl rfl ?_
  refine mg_15 C dX4_parse_9 ?_
  refine g_topi (y := nI ln) (J.f15) ?_
  refine g_i2l C dX4_parse_12 ?_
  refine g_pcall (rest := []) 3 C (ct_within B _ _ _) (lw_S q1783 q1784 q107 q1785) ⟨by decide, by decide, by decide +kernel⟩ ⟨Nat.le_of_ble_eq_true rfl, Nat.le_of_ble_eq_true rfl⟩ ⟨Nat.le_of_ble_eq_true rfl, Nat.le_of_ble_eq_true rfl⟩ rfl rfl (Nat.le_of_ble_eq_true rfl) dX4_parse_13 ?_
  refine g_topi (y := 1) ((wi_rn (nI n) 0 (nI ln)).trans (rnI_1 c0)) ?_
  refine g_if_ne 21 C dX4_parse_16 rfl (fun c16 => ?_) (fun c16 => ?_)
  · refine g_aload_n C dX4_parse_21 rfl rfl ?_
    refine g_iload_n C dX4_parse_22 rfl rfl ?_
    refine mp_16 C dX4_parse_23 ?_
    refine g_aload_n C dX4_parse_26 rfl rfl ?_
    refine g_iconst (v := 0) C dX4_parse_27 rfl ?_
    refine mp_15 C dX4_parse_28 ?_
    refine g_aload_n C dX4_parse_31 rfl rfl ?_
    refine g_iconst (v := 0) C dX4_parse_32 rfl ?_
    refine mp_18 C dX4_parse_33 ?_
    refine g_aload_n C dX4_parse_36 rfl rfl ?_
    refine g_iconst (v := 0) C dX4_parse_37 rfl ?_
    refine mp_21 C dX4_parse_38 ?_
    refine g_aload_n C dX4_parse_41 rfl rfl ?_
    refine g_bipush (v := (-2)) C dX4_parse_42 rfl ?_
    refine mp_22 C dX4_parse_44 ?_
    refine g_aload_n C dX4_parse_47 rfl rfl ?_
    refine g_iconst (v := 0) C dX4_parse_48 rfl ?_
    refine mp_24 C dX4_parse_49 ?_
    refine g_aload_n C dX4_parse_52 rfl rfl ?_
    refine g_iconst (v := 0) C dX4_parse_53 rfl ?_
    refine mp_25 C dX4_parse_54 ?_
    refine g_aload_n C dX4_parse_57 rfl rfl ?_
    refine g_iconst (v := 0) C dX4_parse_58 rfl ?_
    refine mp_30 C dX4_parse_59 ?_
    refine g_aload_n C dX4_parse_62 rfl rfl ?_
    refine g_iconst (v := 0) C dX4_parse_63 rfl ?_
    refine mp_32 C dX4_parse_64 ?_
    refine g_iconst (v := 0) C dX4_parse_67 rfl ?_
    refine g_istore_n (lv' := [some (.ref o), some (.int (nI n)), some (.int 0)]) C dX4_parse_68 rfl (by decide) rfl ?_
    refine g_eqI (J := RepM Γ A o ad (upd (upd (upd (upd (upd (upd (upd (upd (upd (upd F 0 0) 16 (nI n)) 15 0) 18 0) 21 0) 22 (-2)) 24 0) 25 0) 30 0) 32 0) (setX X 35 (zfN (X 35) 0))) (congrArg (RepM Γ A o ad _) (setX_id _ 35).symm) ?_
    refine g_for (P := fun i => G E (RepM Γ A o ad (upd (upd (upd (upd (upd (upd (upd (upd (upd (upd F 0 0) 16 (nI n)) 15 0) 18 0) 21 0) 22 (-2)) 24 0) 25 0) 30 0) 32 0) (setX X 35 (zfN (X 35) i))) 0 0 69 [some (.ref o), some (.int (nI n)), some (.int (nI i))] []) 3 ?_ ?_ 0 (Nat.zero_le _)
    · refine g_iload_n C dX4_parse_69 rfl rfl ?_
      refine g_iconst (v := 3) C dX4_parse_70 rfl ?_
      refine gN_ge (a := 3) (b := 3) 87 C dX4_parse_71 rfl (by omega) (by omega) (fun c71 => ?_) (fun c71 => ?_)
      · refine g_aload_n C dX4_parse_87 rfl rfl ?_
        refine g_mcallv (rest := []) 0 C (ct_advance (F := upd (upd (upd (upd (upd (upd (upd (upd (upd (upd F 0 0) 16 (nI n)) 15 0) 18 0) 21 0) 22 (-2)) 24 0) 25 0) 30 0) 32 0) (X := setX X 35 (zfN (X 35) 3)) B (n := n) (p0 := 0) rfl hn8 rfl (Nat.zero_le _)) (lw_V q1786 q1788 qs46 q107 q1789) (by decide +kernel) ⟨Nat.le_of_ble_eq_true rfl, Nat.le_of_ble_eq_true rfl⟩ ⟨Nat.le_of_ble_eq_true rfl, Nat.le_of_ble_eq_true rfl⟩ rfl rfl (Nat.le_of_ble_eq_true rfl) dX4_parse_88 ?_
        refine g_eqI (J := RepM Γ A o ad (tkF (upd (upd (upd (upd (upd (upd (upd (upd (upd (upd F 0 0) 16 (nI n)) 15 0) 18 0) 21 0) 22 (-2)) 24 0) 25 0) 30 0) 32 0) (tkAt buf n 0)) (setX X 35 (zfN (X 35) 3))) (by rw [hbuf]; rfl) ?_
        refine g_iconst (v := 1) C dX4_parse_91 rfl ?_
        refine g_istore_n (lv' := [some (.ref o), some (.int (nI n)), some (.int 1)]) C dX4_parse_92 rfl (by decide) rfl ?_
        refine j93 (n + 1) _ _ (tkAt buf n 0) (0, 0, 0, 0) ?_ ?_ ?_ ⟨0, Nat.zero_le _, rfl⟩ ⟨by decide, by decide, by decide, by decide⟩ (Dr0 X) (by omega) (by rw [hY0]; rfl)
        · exact (FR.tk (FR.up (FR.up (FR.up (FR.up (FR.up (FR.up (FR.up FR.rf rfl) rfl) rfl) rfl) rfl) rfl) rfl))
        · exact XR.up XR.rf rfl
        · exact ⟨⟨rfl, rfl, rfl, rfl, rfl, rfl⟩, rfl, rfl, rfl, rfl, rfl⟩
      · exfalso; omega
    · intro i hi ih
      replace ih : G E (RepM Γ A o ad (upd (upd (upd (upd (upd (upd (upd (upd (upd (upd F 0 0) 16 (nI n)) 15 0) 18 0) 21 0) 22 (-2)) 24 0) 25 0) 30 0) 32 0) (setX X 35 (zfN (X 35) (i + 1)))) 0 0 69 [some (.ref o), some (.int (nI n)), some (.int (nI (i + 1)))] [] := ih
      refine g_iload_n C dX4_parse_69 rfl rfl ?_
      refine g_iconst (v := 3) C dX4_parse_70 rfl ?_
      refine gN_ge (a := i) (b := 3) 87 C dX4_parse_71 rfl (by omega) (by omega) (fun c71 => ?_) (fun c71 => ?_)
      · exfalso; omega
      · refine g_aload_n C dX4_parse_74 rfl rfl ?_
        refine mg_35 C dX4_parse_75 ?_
        refine g_iload_n C dX4_parse_78 rfl rfl ?_
        refine g_iconst (v := 0) C dX4_parse_79 rfl ?_
        refine ms_35 (i := i) C dX4_parse_80 (by omega) ?_
        refine g_eqI (J := RepM Γ A o ad (upd (upd (upd (upd (upd (upd (upd (upd (upd (upd F 0 0) 16 (nI n)) 15 0) 18 0) 21 0) 22 (-2)) 24 0) 25 0) 30 0) 32 0) (setX X 35 (upd (zfN (X 35) i) i 0))) (congrArg (RepM Γ A o ad _) (by rw [setX_self, setX_setX])) ?_
        refine g_inc1 (x := i) (lv' := [some (.ref o), some (.int (nI n)), some (.int (nI (i + 1)))]) C dX4_parse_81 rfl (by decide) rfl ?_
        refine g_goto 69 C dX4_parse_84 rfl ?_
        exact ih
  · exact absurd c16 (by decide)
