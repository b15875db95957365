theorem exI_congr {X Y : Nat → Nat → Int32} (h1 : X 1 = Y 1) (h5 : X 5 = Y 5) (h13 : X 13 = Y 13) (v : Nat) : exI X v = exI Y v := by unfold exI; rw [h1, h5, h13]
theorem stI_congr {X Y : Nat → Nat → Int32} (h1 : X 1 = Y 1) (h5 : X 5 = Y 5) (h13 : X 13 = Y 13) (nv : Nat) (s day : Int32) : stI X nv s day = stI Y nv s day := by unfold stI; rw [exI_congr h1 h5 h13, h1]
theorem rk2_congr {X Y : Nat → Nat → Int32} (h1 : X 1 = Y 1) (h4 : X 4 = Y 4) (h5 : X 5 = Y 5) (h13 : X 13 = Y 13) (nv s : Nat) (day : Int32) (b k : Nat) : rk2 X nv s day b k = rk2 Y nv s day b k := by
  induction k with
  | zero => rfl
  | succ k ih => unfold rk2; rw [ih, h4, stI_congr h1 h5 h13]
theorem riN_congr {X Y : Nat → Nat → Int32} (h1 : X 1 = Y 1) (h4 : X 4 = Y 4) (h5 : X 5 = Y 5) (h13 : X 13 = Y 13) (ns nv s : Nat) (day : Int32) : riN X ns nv s day = riN Y ns nv s day := by unfold riN; rw [rk2_congr h1 h4 h5 h13, h1, stI_congr h1 h5 h13]
theorem riN_37 (X : Nat → Nat → Int32) (g : Nat → Int32) (ns nv s : Nat) (day : Int32) : riN (setX X 37 g) ns nv s day = riN X ns nv s day := riN_congr (X := setX X 37 g) (Y := X) rfl rfl rfl rfl _ _ _ _
theorem lcL {a : Nat} (h : a < 2147483648) : lN a * 1103515245 + 12345 - (lN a * 1103515245 + 12345) / 2147483648 * 2147483648 = lN (lcN a) := by
  have e : lN a * 1103515245 + 12345 = lN (a * 1103515245 + 12345) := by
    rw [show (1103515245 : Int64) = lN 1103515245 from rfl, show (12345 : Int64) = lN 12345 from rfl, lN_mul, lN_add]
  rw [e, show (2147483648 : Int64) = lN 2147483648 from rfl, pk_lRem (by omega) (by decide) (by decide)]
  rfl
theorem lfL {a s : Nat} (h : a < 2147483648) (h0 : 0 < s) (hs : s < 2 ^ 31) : (lN a / 65536 - lN a / 65536 / (nI s).toInt64 * (nI s).toInt64).toInt32 = nI (a / 65536 % s) := by
  rw [nI_l hs, show (65536 : Int64) = lN 65536 from rfl, pk_lDiv (by omega) (by decide) (by decide), pk_lRem (by omega) h0 (by omega), lN_i]
theorem lnz {s : Nat} (h0 : 0 < s) (hs : s < 2 ^ 31) : ¬ (nI s).toInt64 = 0 := by
  rw [nI_l hs, show (0 : Int64) = lN 0 from rfl, lN_eq hs (by decide)]
  omega
def ltA (X : Nat → Nat → Int32) (ns nv seed : Nat) (day : Int32) : Nat → Nat → Int32
  | 0 => rsF X ns nv day (X 37) ns
  | k + 1 => upd (ltA X ns nv seed day k) (ltD ns seed (fun i => riN X ns nv i day) k) 0
theorem ltA_get (X : Nat → Nat → Int32) (ns nv seed : Nat) (day : Int32) (k : Nat) {i : Nat} (h : i < ns) : ltA X ns nv seed day k i = nI (ltR ns seed (fun i => riN X ns nv i day) k i) := by
  induction k with
  | zero => exact rsF_get _ _ _ _ _ h
  | succ k ih =>
    show upd (ltA X ns nv seed day k) (ltD ns seed (fun i => riN X ns nv i day) k) 0 i = nI (upN (ltR ns seed (fun i => riN X ns nv i day) k) (ltD ns seed (fun i => riN X ns nv i day) k) 0 i)
    unfold upd upN
    split
    · rfl
    · exact ih
def dwN (X : Nat → Nat → Int32) (ns nv seed : Nat) (day : Int32) : Nat → Int32
  | 0 => -2
  | k + 1 => nI (ltD ns seed (fun i => riN X ns nv i day) k)

set_option maxRecDepth 100000 in
theorem ct_lot {l : Launch} {Γ : Gm} {A : Nat → Prop} {ρ : State → Prop} (B : Bs l A ρ) {o : Nat} {ad : Nat → Nat} {F : Nat → Int32} {X : Nat → Nat → Int32} {nt ns nm ne nv nu ln : Nat} (J : Iv F X nt ns nm ne nv nu ln) (seed position day : Int32) : CtM l Γ A ρ yX4_lot cX4_lot 10 (some .int) 3 72 o ad [.ref o, .int seed, .int position, .int day] F X (some (.int (loI X ns nv seed position day))) (upd F 0 0) (if 0 ≤ loI X ns nv seed position day then setX X 37 (ltA X ns nv seed.toNatClampNeg day (position.toNatClampNeg + 1)) else X) := by
  refine Ct.of B.1 B.2 (by decide) [some (.ref o), some (.int seed), some (.int position), some (.int day), none, none, none, none, none, none] (Nat.le_of_ble_eq_true rfl) rfl ?_
  intro E hE C R
  subst hE
  have hs_ := J.ls
  have hv_ := J.lv
  have hS_ := fun dy k => rsS_b X ns nv dy k
  refine g_aload_n C dX4_lot_0 rfl rfl ?_
  refine g_iconst (v := 0) C dX4_lot_1 rfl ?_
  refine mp_0 C dX4_lot_2 ?_
  refine g_iload_n C dX4_lot_5 rfl rfl ?_
  refine g_i2l C dX4_lot_6 ?_
  refine g_lconst (v := 0) C dX4_lot_7 rfl ?_
  refine g_ldc2 (v := 999999) C dX4_lot_8 q2071 ?_
  refine g_pcall (rest := []) 3 C (ct_within B _ _ _) (lw_S q1783 q1784 q107 q1785) ⟨by decide, by decide, by decide +kernel⟩ ⟨Nat.le_of_ble_eq_true rfl, Nat.le_of_ble_eq_true rfl⟩ ⟨Nat.le_of_ble_eq_true rfl, Nat.le_of_ble_eq_true rfl⟩ rfl rfl (Nat.le_of_ble_eq_true rfl) dX4_lot_11 ?_
  refine g_topi (y := ixI seed 1000000) (wi_lit (n := 999999) (by decide)) ?_
  refine g_if_eq 28 C dX4_lot_14 rfl (fun c14 => ?_) (fun c14 => ?_)
  · refine g_iconst (v := (-1)) C dX4_lot_28 rfl ?_
    exact g_iret C R (Nat.le_refl _) (Nat.le_refl _) dX4_lot_29 (fun H h => ⟨by rw [loI, atI_out c14], by rw [if_neg (by rw [loI, atI_out c14]; decide)]; exact h⟩)
  · obtain ⟨j_seed, hj_seed, rfl⟩ := ixI_in (by omega) c14
    refine g_iload_n C dX4_lot_17 rfl rfl ?_
    refine g_if_lt 28 C dX4_lot_18 rfl (fun c18 => ?_) (fun c18 => ?_)
    · refine g_iconst (v := (-1)) C dX4_lot_28 rfl ?_
      exact g_iret C R (Nat.le_refl _) (Nat.le_refl _) dX4_lot_29 (fun H h => ⟨by rw [loI, atI_in hj_seed (by omega), if_neg (Int32.not_le.mpr c18)], by rw [if_neg (by rw [loI, atI_in hj_seed (by omega), if_neg (Int32.not_le.mpr c18)]; decide)]; exact h⟩)
    · obtain ⟨q, hq, rfl⟩ := nI_of c18
      refine g_iload_n C dX4_lot_21 rfl rfl ?_
      refine g_pcall (rest := []) 1 C (ct_isDay B _) (lw_S q2031 q2032 q107 q2033) ⟨by decide, by decide, by decide +kernel⟩ ⟨Nat.le_of_ble_eq_true rfl, Nat.le_of_ble_eq_true rfl⟩ ⟨Nat.le_of_ble_eq_true rfl, Nat.le_of_ble_eq_true rfl⟩ rfl rfl (Nat.le_of_ble_eq_true rfl) dX4_lot_22 ?_
      refine g_if_ne 30 C dX4_lot_25 rfl (fun c25 => ?_) (fun c25 => ?_)
      · obtain ⟨j_day, hj_day, rfl⟩ := ixI_in (by omega) c25
        refine g_iload_n C dX4_lot_30 rfl rfl ?_
        refine g_aload_n C dX4_lot_31 rfl rfl ?_
        refine mg_3 C dX4_lot_32 ?_
        refine g_topi (y := nI ns) (J.f3) ?_
        refine gN_lt (a := q) (b := ns) 41 C dX4_lot_35 rfl (by omega) (by omega) (fun c35 => ?_) (fun c35 => ?_)
        · have hrk : ∀ i, i < ns → 1 ≤ (fun i => riN X ns nv i (nI j_day)) i := fun i _ => (riN_b X ns nv i (nI j_day)).1
          have hP : ∀ k, k < ns → 1 ≤ tlN (ltR ns j_seed (fun i => riN X ns nv i (nI j_day)) k) 0 ns := fun k hk => ltR_pos ns j_seed (fun i => riN X ns nv i (nI j_day)) hrk hk
          have hT : ∀ k, tlN (ltR ns j_seed (fun i => riN X ns nv i (nI j_day)) k) 0 ns ≤ 24 * 60 := fun k => Nat.le_trans (ltR_le ns j_seed (fun i => riN X ns nv i (nI j_day)) k) (by rw [← rsS_tl]; exact Nat.le_trans (rsS_b X ns nv (nI j_day) ns) (Nat.mul_le_mul (by omega) (by omega)))
          have hD : ∀ k, k < ns → ltD ns j_seed (fun i => riN X ns nv i (nI j_day)) k < ns := fun k hk => by
            have := drN_lt (ltR ns j_seed (fun i => riN X ns nv i (nI j_day)) k) ns 0 (ltX j_seed (k + 1) / 65536 % (tlN (ltR ns j_seed (fun i => riN X ns nv i (nI j_day)) k) 0 ns)) (Nat.mod_lt _ (hP k hk))
            rw [Nat.zero_add] at this
            exact this
          refine g_iconst (v := 0) C dX4_lot_41 rfl ?_
          refine g_istore (lv' := [some (.ref o), some (.int (nI j_seed)), some (.int (nI q)), some (.int (nI j_day)), some (.int 0), none, none, none, none, none]) C dX4_lot_42 (by decide) rfl ?_
          refine g_iconst (v := 0) C dX4_lot_44 rfl ?_
          refine g_istore (lv' := [some (.ref o), some (.int (nI j_seed)), some (.int (nI q)), some (.int (nI j_day)), some (.int 0), some (.int 0), none, none, none, none]) C dX4_lot_45 (by decide) rfl ?_
          refine g_eqI (J := RepM Γ A o ad (upd F 0 0) (setX X 37 (rsF X ns nv (nI j_day) (X 37) 0))) (congrArg (RepM Γ A o ad _) (setX_id X 37).symm) ?_
          refine g_for (P := fun k => G E (RepM Γ A o ad (upd F 0 0) (setX X 37 (rsF X ns nv (nI j_day) (X 37) k))) 0 0 47 [some (.ref o), some (.int (nI j_seed)), some (.int (nI q)), some (.int (nI j_day)), some (.int (nI (rsS X ns nv (nI j_day) k))), some (.int (nI k)), none, none, none, none] []) ns ?_ ?_ 0 (Nat.zero_le _)
          · refine g_iload C dX4_lot_47 rfl ?_
            refine g_aload_n C dX4_lot_49 rfl rfl ?_
            refine mg_3 C dX4_lot_50 ?_
            refine g_topi (y := nI ns) (J.f3) ?_
            refine gN_ge (a := ns) (b := ns) 88 C dX4_lot_53 rfl (by omega) (by omega) (fun c53 => ?_) (fun c53 => ?_)
            · refine g_iload_n C dX4_lot_88 rfl rfl ?_
              refine g_i2l C dX4_lot_89 ?_
              refine g_lstore (lv' := [some (.ref o), some (.int (nI j_seed)), some (.int (nI q)), some (.int (nI j_day)), some (.int (nI (rsS X ns nv (nI j_day) ns))), some (.long ((nI j_seed).toInt64)), none, none, none, none]) C dX4_lot_90 (by decide) rfl ?_
              refine g_bipush (v := (-2)) C dX4_lot_92 rfl ?_
              refine g_istore (lv' := [some (.ref o), some (.int (nI j_seed)), some (.int (nI q)), some (.int (nI j_day)), some (.int (nI (rsS X ns nv (nI j_day) ns))), some (.long ((nI j_seed).toInt64)), none, some (.int (-2)), none, none]) C dX4_lot_94 (by decide) rfl ?_
              refine g_iconst (v := 0) C dX4_lot_96 rfl ?_
              refine g_istore (lv' := [some (.ref o), some (.int (nI j_seed)), some (.int (nI q)), some (.int (nI j_day)), some (.int (nI (rsS X ns nv (nI j_day) ns))), some (.long ((nI j_seed).toInt64)), none, some (.int (-2)), some (.int 0), none]) C dX4_lot_97 (by decide) rfl ?_
              have e0 : rsS X ns nv (nI j_day) ns = tlN (ltR ns j_seed (fun i => riN X ns nv i (nI j_day)) 0) 0 ns := rsS_tl X ns nv (nI j_day) ns
              rw [e0]
              rw [show (nI j_seed).toInt64 = lN (ltX j_seed 0) from nI_l (by omega)]
              refine g_for (P := fun k => G E (RepM Γ A o ad (upd F 0 0) (setX X 37 (ltA X ns nv j_seed (nI j_day) k))) 0 0 99 [some (.ref o), some (.int (nI j_seed)), some (.int (nI q)), some (.int (nI j_day)), some (.int (nI (tlN (ltR ns j_seed (fun i => riN X ns nv i (nI j_day)) k) 0 ns))), some (.long (lN (ltX j_seed k))), none, some (.int (dwN X ns nv j_seed (nI j_day) k)), some (.int (nI k)), none] []) (q + 1) ?_ ?_ 0 (Nat.zero_le _)
              · refine g_iload C dX4_lot_99 rfl ?_
                refine g_iload_n C dX4_lot_101 rfl rfl ?_
                refine gN_gt (a := (q + 1)) (b := q) 193 C dX4_lot_102 rfl (by omega) (by omega) (fun c102 => ?_) (fun c102 => ?_)
                · refine g_iload C dX4_lot_193 rfl ?_
                  exact g_iret C R (Nat.le_refl _) (Nat.le_refl _) dX4_lot_195 (fun H h => ⟨by rw [loI, atI_in hj_seed (by omega), if_pos (nI_pos' (by omega)), atI_in hj_day (by omega), loC, if_pos (by rw [nI_toInt (by omega)]; omega), nI_clamp (show q < 2 ^ 31 by omega)]; rfl, by rw [if_pos (by rw [loI, atI_in hj_seed (by omega), if_pos (nI_pos' (by omega)), atI_in hj_day (by omega), loC, if_pos (by rw [nI_toInt (by omega)]; omega), nI_clamp (show q < 2 ^ 31 by omega)]; exact nI_pos' (Nat.lt_trans (hD q (by omega)) (by omega))), nI_clamp (show j_seed < 2 ^ 31 by omega), nI_clamp (show q < 2 ^ 31 by omega)]; exact h⟩)
                · exfalso; omega
              · intro k hk ih
                replace ih : G E (RepM Γ A o ad (upd F 0 0) (setX X 37 (ltA X ns nv j_seed (nI j_day) (k + 1)))) 0 0 99 [some (.ref o), some (.int (nI j_seed)), some (.int (nI q)), some (.int (nI j_day)), some (.int (nI (tlN (ltR ns j_seed (fun i => riN X ns nv i (nI j_day)) (k + 1)) 0 ns))), some (.long (lN (ltX j_seed (k + 1)))), none, some (.int (dwN X ns nv j_seed (nI j_day) (k + 1))), some (.int (nI (k + 1))), none] [] := ih
                have hDk := hD k (by omega)
                have hpos := hP k (by omega)
                have hle := hT k
                have hx := ltX_b (seed := j_seed) (by omega) k
                have hx1 := ltX_b (seed := j_seed) (by omega) (k + 1)
                have j167 : G E (RepM Γ A o ad (upd F 0 0) (setX X 37 (ltA X ns nv j_seed (nI j_day) k))) 0 0 167 [some (.ref o), some (.int (nI j_seed)), some (.int (nI q)), some (.int (nI j_day)), some (.int (nI (tlN (ltR ns j_seed (fun i => riN X ns nv i (nI j_day)) k) 0 ns))), some (.long (lN (ltX j_seed (k + 1)))), none, some (.int (nI (ltD ns j_seed (fun i => riN X ns nv i (nI j_day)) k))), some (.int (nI k)), none] [] := by
                  refine g_iload C dX4_lot_167 rfl ?_
                  refine g_aload_n C dX4_lot_169 rfl rfl ?_
                  refine mg_37 C dX4_lot_170 ?_
                  refine g_iload C dX4_lot_173 rfl ?_
                  refine ml_37 (i := ltD ns j_seed (fun i => riN X ns nv i (nI j_day)) k) C dX4_lot_175 (by omega) ?_
                  refine g_topi (y := (ltA X ns nv j_seed (nI j_day) k) (ltD ns j_seed (fun i => riN X ns nv i (nI j_day)) k)) rfl ?_
                  refine g_topi (y := nI (ltR ns j_seed (fun i => riN X ns nv i (nI j_day)) k (ltD ns j_seed (fun i => riN X ns nv i (nI j_day)) k))) (ltA_get _ _ _ _ _ _ hDk) ?_
                  refine g_isub C dX4_lot_176 ?_
                  refine g_topi (y := nI (tlN (ltR ns j_seed (fun i => riN X ns nv i (nI j_day)) (k + 1)) 0 ns)) (by rw [show tlN (ltR ns j_seed (fun i => riN X ns nv i (nI j_day)) k) 0 ns = tlN (ltR ns j_seed (fun i => riN X ns nv i (nI j_day)) (k + 1)) 0 ns + ltR ns j_seed (fun i => riN X ns nv i (nI j_day)) k (ltD ns j_seed (fun i => riN X ns nv i (nI j_day)) k) from (tlN_up _ hDk).symm, pk_sub (by omega), Nat.add_sub_cancel]) ?_
                  refine g_istore (lv' := [some (.ref o), some (.int (nI j_seed)), some (.int (nI q)), some (.int (nI j_day)), some (.int (nI (tlN (ltR ns j_seed (fun i => riN X ns nv i (nI j_day)) (k + 1)) 0 ns))), some (.long (lN (ltX j_seed (k + 1)))), none, some (.int (nI (ltD ns j_seed (fun i => riN X ns nv i (nI j_day)) k))), some (.int (nI k)), none]) C dX4_lot_177 (by decide) rfl ?_
                  refine g_aload_n C dX4_lot_179 rfl rfl ?_
                  refine mg_37 C dX4_lot_180 ?_
                  refine g_iload C dX4_lot_183 rfl ?_
                  refine g_iconst (v := 0) C dX4_lot_185 rfl ?_
                  refine ms_37 (i := ltD ns j_seed (fun i => riN X ns nv i (nI j_day)) k) C dX4_lot_186 (by omega) ?_
                  refine g_eqI (J := RepM Γ A o ad (upd F 0 0) (setX X 37 (upd (ltA X ns nv j_seed (nI j_day) k) (ltD ns j_seed (fun i => riN X ns nv i (nI j_day)) k) 0))) (congrArg (RepM Γ A o ad _) (by rw [setX_self, setX_setX])) ?_
                  refine g_inc1 (x := k) (lv' := [some (.ref o), some (.int (nI j_seed)), some (.int (nI q)), some (.int (nI j_day)), some (.int (nI (tlN (ltR ns j_seed (fun i => riN X ns nv i (nI j_day)) (k + 1)) 0 ns))), some (.long (lN (ltX j_seed (k + 1)))), none, some (.int (nI (ltD ns j_seed (fun i => riN X ns nv i (nI j_day)) k))), some (.int (nI (k + 1))), none]) C dX4_lot_187 rfl (by decide) rfl ?_
                  refine g_goto 99 C dX4_lot_190 rfl ?_
                  exact ih
                have j137 : ∀ (n d l_ : Nat), d + n = ns → l_ < tlN (ltR ns j_seed (fun i => riN X ns nv i (nI j_day)) k) d n → drN (ltR ns j_seed (fun i => riN X ns nv i (nI j_day)) k) n d l_ = ltD ns j_seed (fun i => riN X ns nv i (nI j_day)) k → l_ < 2 ^ 31 → G E (RepM Γ A o ad (upd F 0 0) (setX X 37 (ltA X ns nv j_seed (nI j_day) k))) 0 0 137 [some (.ref o), some (.int (nI j_seed)), some (.int (nI q)), some (.int (nI j_day)), some (.int (nI (tlN (ltR ns j_seed (fun i => riN X ns nv i (nI j_day)) k) 0 ns))), some (.long (lN (ltX j_seed (k + 1)))), none, some (.int (nI d)), some (.int (nI k)), some (.int (nI l_))] [] := by
                  intro n
                  induction n with
                  | zero => intro d l_ h1 h2; exact absurd h2 (Nat.not_lt_zero _)
                  | succ n ihn =>
                    intro d l_ h1 h2 h3 h4
                    have hr1 : ltR ns j_seed (fun i => riN X ns nv i (nI j_day)) k d ≤ 6 + nv + ns := by
                      have hb := (riN_b X ns nv d (nI j_day)).2
                      rcases ltR_or ns j_seed (fun i => riN X ns nv i (nI j_day)) k d with e | e <;> rw [e] <;> omega
                    have h2 : l_ < ltR ns j_seed (fun i => riN X ns nv i (nI j_day)) k d + tlN (ltR ns j_seed (fun i => riN X ns nv i (nI j_day)) k) (d + 1) n := h2
                    refine g_iload C dX4_lot_137 rfl ?_
                    refine g_aload_n C dX4_lot_139 rfl rfl ?_
                    refine mg_37 C dX4_lot_140 ?_
                    refine g_iload C dX4_lot_143 rfl ?_
                    refine ml_37 (i := d) C dX4_lot_145 (by omega) ?_
                    refine g_topi (y := (ltA X ns nv j_seed (nI j_day) k) d) rfl ?_
                    refine g_topi (y := nI (ltR ns j_seed (fun i => riN X ns nv i (nI j_day)) k d)) (ltA_get _ _ _ _ _ _ (by omega)) ?_
                    refine gN_lt (a := l_) (b := ltR ns j_seed (fun i => riN X ns nv i (nI j_day)) k d) 167 C dX4_lot_146 rfl (by omega) (by omega) (fun c146 => ?_) (fun c146 => ?_)
                    · rw [show drN (ltR ns j_seed (fun i => riN X ns nv i (nI j_day)) k) (n + 1) d l_ = d from if_pos c146] at h3
                      rw [← h3] at j167
                      exact g_lv (fun i w h => by match i, h with | 0, h => exact h | 1, h => exact h | 2, h => exact h | 3, h => exact h | 4, h => exact h | 5, h => exact h | 6, h => cases h | 7, h => exact h | 8, h => exact h | 9, h => cases h) j167
                    · refine g_iload C dX4_lot_149 rfl ?_
                      refine g_aload_n C dX4_lot_151 rfl rfl ?_
                      refine mg_37 C dX4_lot_152 ?_
                      refine g_iload C dX4_lot_155 rfl ?_
                      refine ml_37 (i := d) C dX4_lot_157 (by omega) ?_
                      refine g_topi (y := (ltA X ns nv j_seed (nI j_day) k) d) rfl ?_
                      refine g_topi (y := nI (ltR ns j_seed (fun i => riN X ns nv i (nI j_day)) k d)) (ltA_get _ _ _ _ _ _ (by omega)) ?_
                      refine g_isub C dX4_lot_158 ?_
                      refine g_topi (y := nI (l_ - (ltR ns j_seed (fun i => riN X ns nv i (nI j_day)) k d))) (pk_sub (a := l_) (b := ltR ns j_seed (fun i => riN X ns nv i (nI j_day)) k d) (by omega)) ?_
                      refine g_istore (lv' := [some (.ref o), some (.int (nI j_seed)), some (.int (nI q)), some (.int (nI j_day)), some (.int (nI (tlN (ltR ns j_seed (fun i => riN X ns nv i (nI j_day)) k) 0 ns))), some (.long (lN (ltX j_seed (k + 1)))), none, some (.int (nI d)), some (.int (nI k)), some (.int (nI (l_ - (ltR ns j_seed (fun i => riN X ns nv i (nI j_day)) k d))))]) C dX4_lot_159 (by decide) rfl ?_
                      refine g_inc1 (x := d) (lv' := [some (.ref o), some (.int (nI j_seed)), some (.int (nI q)), some (.int (nI j_day)), some (.int (nI (tlN (ltR ns j_seed (fun i => riN X ns nv i (nI j_day)) k) 0 ns))), some (.long (lN (ltX j_seed (k + 1)))), none, some (.int (nI (d + 1))), some (.int (nI k)), some (.int (nI (l_ - (ltR ns j_seed (fun i => riN X ns nv i (nI j_day)) k d))))]) C dX4_lot_161 rfl (by decide) rfl ?_
                      refine g_goto 137 C dX4_lot_164 rfl ?_
                      exact ihn (d + 1) (l_ - ltR ns j_seed (fun i => riN X ns nv i (nI j_day)) k d) (by omega) (by omega) (by rw [← h3]; exact (if_neg (Nat.not_lt.mpr c146)).symm) (by omega)
                refine g_iload C dX4_lot_99 rfl ?_
                refine g_iload_n C dX4_lot_101 rfl rfl ?_
                refine gN_gt (a := k) (b := q) 193 C dX4_lot_102 rfl (by omega) (by omega) (fun c102 => ?_) (fun c102 => ?_)
                · exfalso; omega
                · refine g_lload C dX4_lot_105 rfl ?_
                  refine g_ldc2 (v := 1103515245) C dX4_lot_107 q2072 ?_
                  refine g_lmul C dX4_lot_110 ?_
                  refine g_ldc2 (v := 12345) C dX4_lot_111 q2073 ?_
                  refine g_ladd C dX4_lot_114 ?_
                  refine g_ldc2 (v := 2147483648) C dX4_lot_115 q2074 ?_
                  refine g_lrem C dX4_lot_118 (by decide) ?_
                  refine g_topl (y := lN (ltX j_seed (k + 1))) (lcL hx) ?_
                  refine g_lstore (lv' := [some (.ref o), some (.int (nI j_seed)), some (.int (nI q)), some (.int (nI j_day)), some (.int (nI (tlN (ltR ns j_seed (fun i => riN X ns nv i (nI j_day)) k) 0 ns))), some (.long (lN (ltX j_seed (k + 1)))), none, some (.int (dwN X ns nv j_seed (nI j_day) k)), some (.int (nI k)), none]) C dX4_lot_119 (by decide) rfl ?_
                  refine g_lload C dX4_lot_121 rfl ?_
                  refine g_ldc2 (v := 65536) C dX4_lot_123 q2075 ?_
                  refine g_ldiv C dX4_lot_126 (by decide) ?_
                  refine g_iload C dX4_lot_127 rfl ?_
                  refine g_i2l C dX4_lot_129 ?_
                  refine g_lrem C dX4_lot_130 (lnz (by omega) (by omega)) ?_
                  refine g_l2i C dX4_lot_131 ?_
                  refine g_topi (y := nI (ltX j_seed (k + 1) / 65536 % (tlN (ltR ns j_seed (fun i => riN X ns nv i (nI j_day)) k) 0 ns))) (lfL hx1 (by omega) (by omega)) ?_
                  refine g_istore (lv' := [some (.ref o), some (.int (nI j_seed)), some (.int (nI q)), some (.int (nI j_day)), some (.int (nI (tlN (ltR ns j_seed (fun i => riN X ns nv i (nI j_day)) k) 0 ns))), some (.long (lN (ltX j_seed (k + 1)))), none, some (.int (dwN X ns nv j_seed (nI j_day) k)), some (.int (nI k)), some (.int (nI (ltX j_seed (k + 1) / 65536 % (tlN (ltR ns j_seed (fun i => riN X ns nv i (nI j_day)) k) 0 ns))))]) C dX4_lot_132 (by decide) rfl ?_
                  refine g_iconst (v := 0) C dX4_lot_134 rfl ?_
                  refine g_istore (lv' := [some (.ref o), some (.int (nI j_seed)), some (.int (nI q)), some (.int (nI j_day)), some (.int (nI (tlN (ltR ns j_seed (fun i => riN X ns nv i (nI j_day)) k) 0 ns))), some (.long (lN (ltX j_seed (k + 1)))), none, some (.int 0), some (.int (nI k)), some (.int (nI (ltX j_seed (k + 1) / 65536 % (tlN (ltR ns j_seed (fun i => riN X ns nv i (nI j_day)) k) 0 ns))))]) C dX4_lot_135 (by decide) rfl ?_
                  exact j137 ns 0 _ (by omega) (Nat.mod_lt _ (by omega)) rfl (Nat.lt_of_lt_of_le (Nat.mod_lt _ (by omega)) (by omega))
            · exfalso; omega
          · intro k hk ih
            replace ih : G E (RepM Γ A o ad (upd F 0 0) (setX X 37 (rsF X ns nv (nI j_day) (X 37) (k + 1)))) 0 0 47 [some (.ref o), some (.int (nI j_seed)), some (.int (nI q)), some (.int (nI j_day)), some (.int (nI (rsS X ns nv (nI j_day) (k + 1)))), some (.int (nI (k + 1))), none, none, none, none] [] := ih
            refine g_iload C dX4_lot_47 rfl ?_
            refine g_aload_n C dX4_lot_49 rfl rfl ?_
            refine mg_3 C dX4_lot_50 ?_
            refine g_topi (y := nI ns) (J.f3) ?_
            refine gN_ge (a := k) (b := ns) 88 C dX4_lot_53 rfl (by omega) (by omega) (fun c53 => ?_) (fun c53 => ?_)
            · exfalso; omega
            · refine g_aload_n C dX4_lot_56 rfl rfl ?_
              refine mg_37 C dX4_lot_57 ?_
              refine g_iload C dX4_lot_60 rfl ?_
              refine g_aload_n C dX4_lot_62 rfl rfl ?_
              refine g_iload C dX4_lot_63 rfl ?_
              refine g_iload_n C dX4_lot_65 rfl rfl ?_
              refine g_mcall (rest := [.int (nI k), .ref (ad 37)]) 2 C (ct_riskOf (F := upd F 0 0) (X := setX X 37 (rsF X ns nv (nI j_day) (X 37) k)) B J k (by omega) _) (lw_V q2059 q2061 qs73 q107 q2062) (by decide +kernel) ⟨Nat.le_of_ble_eq_true rfl, Nat.le_of_ble_eq_true rfl⟩ ⟨Nat.le_of_ble_eq_true rfl, Nat.le_of_ble_eq_true rfl⟩ rfl rfl (Nat.le_of_ble_eq_true rfl) dX4_lot_66 ?_
              refine g_topi (y := nI (riN X ns nv k (nI j_day))) (congrArg nI (riN_37 _ _ _ _ _ _)) ?_
              refine ms_37 (i := k) C dX4_lot_69 (by omega) ?_
              refine g_eqI (J := RepM Γ A o ad (upd F 0 0) (setX X 37 (upd (rsF X ns nv (nI j_day) (X 37) k) k (nI (riN X ns nv k (nI j_day)))))) (congrArg (RepM Γ A o ad _) (by rw [setX_self, setX_setX])) ?_
              refine g_iload C dX4_lot_70 rfl ?_
              refine g_aload_n C dX4_lot_72 rfl rfl ?_
              refine mg_37 C dX4_lot_73 ?_
              refine g_iload C dX4_lot_76 rfl ?_
              refine ml_37 (i := k) C dX4_lot_78 (by omega) ?_
              refine g_topi (y := (upd (rsF X ns nv (nI j_day) (X 37) k) k (nI (riN X ns nv k (nI j_day)))) k) rfl ?_
              refine g_topi (y := nI (riN X ns nv k (nI j_day))) (upd_self _ _ _) ?_
              refine g_iadd C dX4_lot_79 ?_
              refine g_topi (y := nI (rsS X ns nv (nI j_day) k + riN X ns nv k (nI j_day))) (nI_add (rsS X ns nv (nI j_day) k) (riN X ns nv k (nI j_day))) ?_
              refine g_istore (lv' := [some (.ref o), some (.int (nI j_seed)), some (.int (nI q)), some (.int (nI j_day)), some (.int (nI (rsS X ns nv (nI j_day) k + riN X ns nv k (nI j_day)))), some (.int (nI k)), none, none, none, none]) C dX4_lot_80 (by decide) rfl ?_
              refine g_inc1 (x := k) (lv' := [some (.ref o), some (.int (nI j_seed)), some (.int (nI q)), some (.int (nI j_day)), some (.int (nI (rsS X ns nv (nI j_day) k + riN X ns nv k (nI j_day)))), some (.int (nI (k + 1))), none, none, none, none]) C dX4_lot_82 rfl (by decide) rfl ?_
              refine g_goto 47 C dX4_lot_85 rfl ?_
              exact ih
        · refine g_bipush (v := (-2)) C dX4_lot_38 rfl ?_
          exact g_iret C R (Nat.le_refl _) (Nat.le_refl _) dX4_lot_40 (fun H h => ⟨by rw [loI, atI_in hj_seed (by omega), if_pos (nI_pos' (by omega)), atI_in hj_day (by omega), loC, if_neg (by rw [nI_toInt (by omega)]; omega)], by rw [if_neg (by rw [loI, atI_in hj_seed (by omega), if_pos (nI_pos' (by omega)), atI_in hj_day (by omega), loC, if_neg (by rw [nI_toInt (by omega)]; omega)]; decide)]; exact h⟩)
      · refine g_iconst (v := (-1)) C dX4_lot_28 rfl ?_
        exact g_iret C R (Nat.le_refl _) (Nat.le_refl _) dX4_lot_29 (fun H h => ⟨by rw [loI, atI_in hj_seed (by omega), if_pos (nI_pos' (by omega)), atI_out c25], by rw [if_neg (by rw [loI, atI_in hj_seed (by omega), if_pos (nI_pos' (by omega)), atI_out c25]; decide)]; exact h⟩)
