set_option maxRecDepth 100000 in
theorem ct_byteAt {l : Launch} {Γ : Gm} {A : Nat → Prop} {ρ : State → Prop} (B : Bs l A ρ) {o : Nat} {ad : Nat → Nat} {F : Nat → Int32} {X : Nat → Nat → Int32} {n : Nat} (h16 : F 16 = nI n) (hn : n ≤ 800) (k : Nat) (hk : k < 2 ^ 31) : CtM l Γ A ρ yX4_byteAt cX4_byteAt 2 (some .int) 0 0 o ad [.ref o, .int (nI k)] F X (some (.int (if k < n then nI (by8 (X 14) k) else -2))) F X := by
  refine Ct.of B.1 B.2 (by decide) [some (.ref o), some (.int (nI k))] (Nat.le_of_ble_eq_true rfl) rfl ?_
  intro E hE C R
  subst hE
  refine g_iload_n C dX4_byteAt_0 rfl rfl ?_
  refine g_aload_n C dX4_byteAt_1 rfl rfl ?_
  refine mg_16 C dX4_byteAt_2 ?_
  refine g_topi (y := nI n) (h16) ?_
  refine gN_ge (a := k) (b := n) 21 C dX4_byteAt_5 rfl (by omega) (by omega) (fun c5 => ?_) (fun c5 => ?_)
  · refine g_bipush (v := (-2)) C dX4_byteAt_21 rfl ?_
    exact g_iret C R (Nat.le_refl _) (Nat.le_refl _) dX4_byteAt_23 (fun H h => ⟨by rw [if_neg (by omega)], h⟩)
  · refine g_aload_n C dX4_byteAt_8 rfl rfl ?_
    refine mg_14 C dX4_byteAt_9 ?_
    refine g_iload_n C dX4_byteAt_12 rfl rfl ?_
    refine ml_14 (i := k) C dX4_byteAt_13 (by omega) ?_
    refine g_sipush (v := 255) C dX4_byteAt_14 rfl ?_
    refine g_iand C dX4_byteAt_17 ?_
    refine g_goto 23 C dX4_byteAt_18 rfl ?_
    exact g_iret C R (Nat.le_refl _) (Nat.le_refl _) dX4_byteAt_23 (fun H h => ⟨by rw [if_pos c5, ← by8_I], h⟩)
set_option maxHeartbeats 4000000 in
set_option maxRecDepth 100000 in
theorem ct_advance {l : Launch} {Γ : Gm} {A : Nat → Prop} {ρ : State → Prop} (B : Bs l A ρ) {o : Nat} {ad : Nat → Nat} {F : Nat → Int32} {X : Nat → Nat → Int32} {n p0 : Nat} (h16 : F 16 = nI n) (hn : n ≤ 800) (h18 : F 18 = nI p0) (hp : p0 ≤ n) : CtM l Γ A ρ yX4_advance cX4_advance 2 none 1 25 o ad [.ref o] F X none (tkF F (tkAt (X 14) n p0)) X := by
  refine Ct.of B.1 B.2 (by decide) [some (.ref o), none] (Nat.le_of_ble_eq_true rfl) rfl ?_
  intro E hE C R
  subst hE
  obtain ⟨s, hs⟩ : ∃ s, s = (spN (X 14) n p0) := ⟨_, rfl⟩
  have hsn : s ≤ n := by rw [hs]; exact scN_le _ hp
  have j39 : G E (RepM Γ A o ad (upd F 18 (nI s)) X) 0 0 39 [some (.ref o), none] [] := by
    by_cases cn : s < n
    · have hb8 := by8_lt (X 14) s
      refine g_aload_n C dX4_advance_39 rfl rfl ?_
      refine g_aload_n C dX4_advance_40 rfl rfl ?_
      refine mg_18 C dX4_advance_41 ?_
      refine g_topi (y := nI s) rfl ?_
      refine mp_17 C dX4_advance_44 ?_
      refine g_aload_n C dX4_advance_47 rfl rfl ?_
      refine g_iconst (v := 0) C dX4_advance_48 rfl ?_
      refine mp_20 C dX4_advance_49 ?_
      refine g_aload_n C dX4_advance_52 rfl rfl ?_
      refine g_aload_n C dX4_advance_53 rfl rfl ?_
      refine mg_18 C dX4_advance_54 ?_
      refine g_topi (y := nI s) rfl ?_
      refine g_mcall (rest := []) 1 C (ct_byteAt (F := upd (upd (upd F 18 (nI s)) 17 (nI s)) 20 0) (X := X) B (n := n) h16 hn s (by omega)) (lw_V q1790 q1792 qs47 q107 q1793) (by decide +kernel) ⟨Nat.le_of_ble_eq_true rfl, Nat.le_of_ble_eq_true rfl⟩ ⟨Nat.le_of_ble_eq_true rfl, Nat.le_of_ble_eq_true rfl⟩ rfl rfl (Nat.le_of_ble_eq_true rfl) dX4_advance_57 ?_
      refine g_topi (y := nI (by8 (X 14) s)) (if_pos cn) ?_
      refine g_istore_n (lv' := [some (.ref o), some (.int (nI (by8 (X 14) s)))]) C dX4_advance_60 rfl (by decide) rfl ?_
      refine g_iload_n C dX4_advance_61 rfl rfl ?_
      refine g_bipush (v := (-2)) C dX4_advance_62 rfl ?_
      refine g_icmp_ne 75 C dX4_advance_64 rfl (fun c64 => ?_) (fun c64 => ?_)
      · refine g_iload_n C dX4_advance_75 rfl rfl ?_
        refine g_i2l C dX4_advance_76 ?_
        refine g_ldc2 (v := 97) C dX4_advance_77 q1794 ?_
        refine g_ldc2 (v := 122) C dX4_advance_80 q1795 ?_
        refine g_pcall (rest := []) 3 C (ct_within B _ _ _) (lw_S q1783 q1784 q107 q1785) ⟨by decide, by decide, by decide +kernel⟩ ⟨Nat.le_of_ble_eq_true rfl, Nat.le_of_ble_eq_true rfl⟩ ⟨Nat.le_of_ble_eq_true rfl, Nat.le_of_ble_eq_true rfl⟩ rfl rfl (Nat.le_of_ble_eq_true rfl) dX4_advance_83 ?_
        refine g_topi (y := b2i (isLe (by8 (X 14) s))) (wi_b (by omega) (by decide) (by decide)) ?_
        refine g_if_eq 149 C dX4_advance_86 rfl (fun cl => ?_) (fun cl => ?_)
        · replace cl := b2i_F cl
          refine g_iload_n C dX4_advance_149 rfl rfl ?_
          refine g_i2l C dX4_advance_150 ?_
          refine g_ldc2 (v := 48) C dX4_advance_151 q1796 ?_
          refine g_ldc2 (v := 57) C dX4_advance_154 q1797 ?_
          refine g_pcall (rest := []) 3 C (ct_within B _ _ _) (lw_S q1783 q1784 q107 q1785) ⟨by decide, by decide, by decide +kernel⟩ ⟨Nat.le_of_ble_eq_true rfl, Nat.le_of_ble_eq_true rfl⟩ ⟨Nat.le_of_ble_eq_true rfl, Nat.le_of_ble_eq_true rfl⟩ rfl rfl (Nat.le_of_ble_eq_true rfl) dX4_advance_157 ?_
          refine g_topi (y := b2i (isDi (by8 (X 14) s))) (wi_b (by omega) (by decide) (by decide)) ?_
          refine g_if_eq 267 C dX4_advance_160 rfl (fun cd => ?_) (fun cd => ?_)
          · replace cd := b2i_F cd
            refine g_aload_n C dX4_advance_267 rfl rfl ?_
            refine g_dup C dX4_advance_268 rfl ?_
            refine mg_18 C dX4_advance_269 ?_
            refine g_topi (y := nI s) rfl ?_
            refine g_iconst (v := 1) C dX4_advance_272 rfl ?_
            refine g_iadd C dX4_advance_273 ?_
            refine g_topi (y := nI (s + 1)) (nI_add s 1) ?_
            refine mp_18 C dX4_advance_274 ?_
            refine g_aload_n C dX4_advance_277 rfl rfl ?_
            refine g_iload_n C dX4_advance_278 rfl rfl ?_
            refine g_bipush (v := 59) C dX4_advance_279 rfl ?_
            refine gN_ne (a := by8 (X 14) s) (b := 59) 288 C dX4_advance_281 rfl (by omega) (by omega) (fun c281 => ?_) (fun c281 => ?_)
            · refine g_iconst (v := 4) C dX4_advance_288 rfl ?_
              refine mp_19 C dX4_advance_289 ?_
              have ht : tkAt (X 14) n p0 = (s, s + 1, 4, 0) := by rw [tkAt, ← hs, tkS, if_neg (by omega), if_neg (by rw [cl]; decide), if_neg (by rw [cd]; decide), if_neg c281]
              exact g_vret C R (Nat.le_refl _) (Nat.le_refl _) dX4_advance_292 (fun H h => ⟨rfl, by rw [ht]; exact (show upd (upd (upd (upd (upd F 18 (nI s)) 17 (nI s)) 20 0) 18 (nI (s + 1))) 19 4 = tkF F (s, s + 1, 4, 0) from by funext j; simp only [upd, tkF]; (repeat' split) <;> first | rfl | (exfalso; omega)) ▸ h⟩)
            · refine g_iconst (v := 3) C dX4_advance_284 rfl ?_
              refine g_goto 289 C dX4_advance_285 rfl ?_
              refine mp_19 C dX4_advance_289 ?_
              have ht : tkAt (X 14) n p0 = (s, s + 1, 3, 0) := by rw [tkAt, ← hs, tkS, if_neg (by omega), if_neg (by rw [cl]; decide), if_neg (by rw [cd]; decide), if_pos c281]
              exact g_vret C R (Nat.le_refl _) (Nat.le_refl _) dX4_advance_292 (fun H h => ⟨rfl, by rw [ht]; exact (show upd (upd (upd (upd (upd F 18 (nI s)) 17 (nI s)) 20 0) 18 (nI (s + 1))) 19 3 = tkF F (s, s + 1, 3, 0) from by funext j; simp only [upd, tkF]; (repeat' split) <;> first | rfl | (exfalso; omega)) ▸ h⟩)
          · replace cd := b2i_T cd
            have k163 : ∀ d p v, n - p ≤ d → s ≤ p → p ≤ n → diN (X 14) n p = diN (X 14) n s → nvN (X 14) n s p v = nvN (X 14) n s s 0 → v < 2000000 → (p - s ≤ 6 → v < 10 ^ (p - s)) → (6 ≤ p - s → v < 1000000) → G E (RepM Γ A o ad (upd (upd (upd (upd F 18 (nI s)) 17 (nI s)) 20 (nI v)) 18 (nI p)) X) 0 0 163 [some (.ref o), some (.int (nI (by8 (X 14) s)))] [] := by
              intro d
              induction d with
              | zero =>
                intro p v h1 h2 h3 h4 h5 h6 h7 h8
                by_cases cn : p < n
                · refine g_aload_n C dX4_advance_163 rfl rfl ?_
                  refine g_aload_n C dX4_advance_164 rfl rfl ?_
                  refine mg_18 C dX4_advance_165 ?_
                  refine g_topi (y := nI p) rfl ?_
                  refine g_mcall (rest := []) 1 C (ct_byteAt (F := upd (upd (upd (upd F 18 (nI s)) 17 (nI s)) 20 (nI v)) 18 (nI p)) (X := X) B (n := n) h16 hn p (by omega)) (lw_V q1790 q1792 qs47 q107 q1793) (by decide +kernel) ⟨Nat.le_of_ble_eq_true rfl, Nat.le_of_ble_eq_true rfl⟩ ⟨Nat.le_of_ble_eq_true rfl, Nat.le_of_ble_eq_true rfl⟩ rfl rfl (Nat.le_of_ble_eq_true rfl) dX4_advance_168 ?_
                  refine g_topi (y := nI (by8 (X 14) p)) (if_pos cn) ?_
                  refine g_i2l C dX4_advance_171 ?_
                  refine g_ldc2 (v := 48) C dX4_advance_172 q1796 ?_
                  refine g_ldc2 (v := 57) C dX4_advance_175 q1797 ?_
                  refine g_pcall (rest := []) 3 C (ct_within B _ _ _) (lw_S q1783 q1784 q107 q1785) ⟨by decide, by decide, by decide +kernel⟩ ⟨Nat.le_of_ble_eq_true rfl, Nat.le_of_ble_eq_true rfl⟩ ⟨Nat.le_of_ble_eq_true rfl, Nat.le_of_ble_eq_true rfl⟩ rfl rfl (Nat.le_of_ble_eq_true rfl) dX4_advance_178 ?_
                  refine g_topi (y := b2i (isDi (by8 (X 14) p))) (wi_b (by have := by8_lt (X 14) p; omega) (by decide) (by decide)) ?_
                  refine g_if_eq 241 C dX4_advance_181 rfl (fun c181 => ?_) (fun c181 => ?_)
                  · replace c181 := b2i_F c181
                    have hst : diN (X 14) n p = p := scN_st c181
                    have hsv : nvN (X 14) n s p v = v := nvN_st c181
                    refine g_aload_n C dX4_advance_241 rfl rfl ?_
                    refine g_aload_n C dX4_advance_242 rfl rfl ?_
                    refine mg_18 C dX4_advance_243 ?_
                    refine g_topi (y := nI p) rfl ?_
                    refine g_aload_n C dX4_advance_246 rfl rfl ?_
                    refine mg_17 C dX4_advance_247 ?_
                    refine g_topi (y := nI s) rfl ?_
                    refine g_isub C dX4_advance_250 ?_
                    refine g_topi (y := nI (p - s)) (pk_sub (a := p) (b := s) (by omega)) ?_
                    refine g_bipush (v := 6) C dX4_advance_251 rfl ?_
                    refine gN_le (a := p - s) (b := 6) 260 C dX4_advance_253 rfl (by omega) (by omega) (fun c253 => ?_) (fun c253 => ?_)
                    · refine g_iconst (v := 2) C dX4_advance_260 rfl ?_
                      refine mp_19 C dX4_advance_261 ?_
                      refine g_goto 292 C dX4_advance_264 rfl ?_
                      have ht : tkAt (X 14) n p0 = (s, p, 2, v) := by rw [tkAt, ← hs, tkS, if_neg (by omega), if_neg (by rw [cl]; decide), if_pos cd, ← h4, ← h5, hst, hsv, if_pos c253]
                      exact g_vret C R (Nat.le_refl _) (Nat.le_refl _) dX4_advance_292 (fun H h => ⟨rfl, by rw [ht]; exact (show upd (upd (upd (upd (upd F 18 (nI s)) 17 (nI s)) 20 (nI v)) 18 (nI p)) 19 2 = tkF F (s, p, 2, v) from by funext j; simp only [upd, tkF]; (repeat' split) <;> first | rfl | (exfalso; omega)) ▸ h⟩)
                    · refine g_iconst (v := 4) C dX4_advance_256 rfl ?_
                      refine g_goto 261 C dX4_advance_257 rfl ?_
                      refine mp_19 C dX4_advance_261 ?_
                      refine g_goto 292 C dX4_advance_264 rfl ?_
                      have ht : tkAt (X 14) n p0 = (s, p, 4, v) := by rw [tkAt, ← hs, tkS, if_neg (by omega), if_neg (by rw [cl]; decide), if_pos cd, ← h4, ← h5, hst, hsv, if_neg (by omega)]
                      exact g_vret C R (Nat.le_refl _) (Nat.le_refl _) dX4_advance_292 (fun H h => ⟨rfl, by rw [ht]; exact (show upd (upd (upd (upd (upd F 18 (nI s)) 17 (nI s)) 20 (nI v)) 18 (nI p)) 19 4 = tkF F (s, p, 4, v) from by funext j; simp only [upd, tkF]; (repeat' split) <;> first | rfl | (exfalso; omega)) ▸ h⟩)
                  · replace c181 := b2i_T c181
                    have hd := c181
                    unfold isDi at hd
                    simp only [Bool.and_eq_true, decide_eq_true_eq] at hd
                    have hv1 : v < 1000000 := by
                      by_cases c : p - s ≤ 6
                      · exact Nat.lt_of_lt_of_le (h7 c) (Nat.pow_le_pow_right (by decide) c)
                      · exact h8 (by omega)
                    have hb8 := by8_lt (X 14) p
                    refine g_aload_n C dX4_advance_184 rfl rfl ?_
                    refine g_aload_n C dX4_advance_185 rfl rfl ?_
                    refine mg_18 C dX4_advance_186 ?_
                    refine g_topi (y := nI p) rfl ?_
                    refine g_aload_n C dX4_advance_189 rfl rfl ?_
                    refine mg_17 C dX4_advance_190 ?_
                    refine g_topi (y := nI s) rfl ?_
                    refine g_isub C dX4_advance_193 ?_
                    refine g_topi (y := nI (p - s)) (pk_sub (a := p) (b := s) (by omega)) ?_
                    refine g_bipush (v := 6) C dX4_advance_194 rfl ?_
                    refine gN_ge (a := p - s) (b := 6) 221 C dX4_advance_196 rfl (by omega) (by omega) (fun c196 => ?_) (fun c196 => ?_)
                    · refine g_aload_n C dX4_advance_221 rfl rfl ?_
                      refine mg_20 C dX4_advance_222 ?_
                      refine g_topi (y := nI v) rfl ?_
                      refine mp_20 C dX4_advance_225 ?_
                      refine g_aload_n C dX4_advance_228 rfl rfl ?_
                      refine g_dup C dX4_advance_229 rfl ?_
                      refine mg_18 C dX4_advance_230 ?_
                      refine g_topi (y := nI p) rfl ?_
                      refine g_iconst (v := 1) C dX4_advance_233 rfl ?_
                      refine g_iadd C dX4_advance_234 ?_
                      refine g_topi (y := nI (p + 1)) (nI_add p 1) ?_
                      refine mp_18 C dX4_advance_235 ?_
                      refine g_eqI (J := RepM Γ A o ad (upd (upd (upd (upd F 18 (nI s)) 17 (nI s)) 20 (nI v)) 18 (nI (p + 1))) X) (congrArg (fun F => RepM Γ A o ad F _) (by funext j; simp only [upd, tkF]; (repeat' split) <;> first | rfl | (exfalso; omega))) ?_
                      refine g_goto 163 C dX4_advance_238 rfl ?_
                      exfalso; omega
                    · refine g_bipush (v := 10) C dX4_advance_199 rfl ?_
                      refine g_aload_n C dX4_advance_201 rfl rfl ?_
                      refine mg_20 C dX4_advance_202 ?_
                      refine g_topi (y := nI v) rfl ?_
                      refine g_imul C dX4_advance_205 ?_
                      refine g_topi (y := nI (10 * v)) (pk_mul 10 v) ?_
                      refine g_aload_n C dX4_advance_206 rfl rfl ?_
                      refine g_aload_n C dX4_advance_207 rfl rfl ?_
                      refine mg_18 C dX4_advance_208 ?_
                      refine g_topi (y := nI p) rfl ?_
                      refine g_mcall (rest := [.int (nI (10 * v)), .ref o]) 1 C (ct_byteAt (F := upd (upd (upd (upd F 18 (nI s)) 17 (nI s)) 20 (nI v)) 18 (nI p)) (X := X) B (n := n) h16 hn p (by omega)) (lw_V q1790 q1792 qs47 q107 q1793) (by decide +kernel) ⟨Nat.le_of_ble_eq_true rfl, Nat.le_of_ble_eq_true rfl⟩ ⟨Nat.le_of_ble_eq_true rfl, Nat.le_of_ble_eq_true rfl⟩ rfl rfl (Nat.le_of_ble_eq_true rfl) dX4_advance_211 ?_
                      refine g_topi (y := nI (by8 (X 14) p)) (if_pos cn) ?_
                      refine g_iadd C dX4_advance_214 ?_
                      refine g_topi (y := nI (10 * v + by8 (X 14) p)) (nI_add (10 * v) (by8 (X 14) p)) ?_
                      refine g_bipush (v := 48) C dX4_advance_215 rfl ?_
                      refine g_isub C dX4_advance_217 ?_
                      refine g_topi (y := nI ((10 * v + by8 (X 14) p) - 48)) (pk_sub (a := 10 * v + by8 (X 14) p) (b := 48) (by omega)) ?_
                      refine g_goto 225 C dX4_advance_218 rfl ?_
                      refine mp_20 C dX4_advance_225 ?_
                      refine g_aload_n C dX4_advance_228 rfl rfl ?_
                      refine g_dup C dX4_advance_229 rfl ?_
                      refine mg_18 C dX4_advance_230 ?_
                      refine g_topi (y := nI p) rfl ?_
                      refine g_iconst (v := 1) C dX4_advance_233 rfl ?_
                      refine g_iadd C dX4_advance_234 ?_
                      refine g_topi (y := nI (p + 1)) (nI_add p 1) ?_
                      refine mp_18 C dX4_advance_235 ?_
                      refine g_eqI (J := RepM Γ A o ad (upd (upd (upd (upd F 18 (nI s)) 17 (nI s)) 20 (nI (10 * v + by8 (X 14) p - 48))) 18 (nI (p + 1))) X) (congrArg (fun F => RepM Γ A o ad F _) (by funext j; simp only [upd, tkF]; (repeat' split) <;> first | rfl | (exfalso; omega))) ?_
                      refine g_goto 163 C dX4_advance_238 rfl ?_
                      exfalso; omega
                · refine g_aload_n C dX4_advance_163 rfl rfl ?_
                  refine g_aload_n C dX4_advance_164 rfl rfl ?_
                  refine mg_18 C dX4_advance_165 ?_
                  refine g_topi (y := nI p) rfl ?_
                  refine g_mcall (rest := []) 1 C (ct_byteAt (F := upd (upd (upd (upd F 18 (nI s)) 17 (nI s)) 20 (nI v)) 18 (nI p)) (X := X) B (n := n) h16 hn p (by omega)) (lw_V q1790 q1792 qs47 q107 q1793) (by decide +kernel) ⟨Nat.le_of_ble_eq_true rfl, Nat.le_of_ble_eq_true rfl⟩ ⟨Nat.le_of_ble_eq_true rfl, Nat.le_of_ble_eq_true rfl⟩ rfl rfl (Nat.le_of_ble_eq_true rfl) dX4_advance_168 ?_
                  refine g_topi (y := (-2)) (if_neg cn) ?_
                  refine g_i2l C dX4_advance_171 ?_
                  refine g_ldc2 (v := 48) C dX4_advance_172 q1796 ?_
                  refine g_ldc2 (v := 57) C dX4_advance_175 q1797 ?_
                  refine g_pcall (rest := []) 3 C (ct_within B _ _ _) (lw_S q1783 q1784 q107 q1785) ⟨by decide, by decide, by decide +kernel⟩ ⟨Nat.le_of_ble_eq_true rfl, Nat.le_of_ble_eq_true rfl⟩ ⟨Nat.le_of_ble_eq_true rfl, Nat.le_of_ble_eq_true rfl⟩ rfl rfl (Nat.le_of_ble_eq_true rfl) dX4_advance_178 ?_
                  refine g_topi (y := 0) (rfl) ?_
                  refine g_if_eq 241 C dX4_advance_181 rfl (fun c181 => ?_) (fun c181 => ?_)
                  · have hst : diN (X 14) n p = p := scN_end (by omega)
                    have hsv : nvN (X 14) n s p v = v := nvN_end (by omega)
                    refine g_aload_n C dX4_advance_241 rfl rfl ?_
                    refine g_aload_n C dX4_advance_242 rfl rfl ?_
                    refine mg_18 C dX4_advance_243 ?_
                    refine g_topi (y := nI p) rfl ?_
                    refine g_aload_n C dX4_advance_246 rfl rfl ?_
                    refine mg_17 C dX4_advance_247 ?_
                    refine g_topi (y := nI s) rfl ?_
                    refine g_isub C dX4_advance_250 ?_
                    refine g_topi (y := nI (p - s)) (pk_sub (a := p) (b := s) (by omega)) ?_
                    refine g_bipush (v := 6) C dX4_advance_251 rfl ?_
                    refine gN_le (a := p - s) (b := 6) 260 C dX4_advance_253 rfl (by omega) (by omega) (fun c253 => ?_) (fun c253 => ?_)
                    · refine g_iconst (v := 2) C dX4_advance_260 rfl ?_
                      refine mp_19 C dX4_advance_261 ?_
                      refine g_goto 292 C dX4_advance_264 rfl ?_
                      have ht : tkAt (X 14) n p0 = (s, p, 2, v) := by rw [tkAt, ← hs, tkS, if_neg (by omega), if_neg (by rw [cl]; decide), if_pos cd, ← h4, ← h5, hst, hsv, if_pos c253]
                      exact g_vret C R (Nat.le_refl _) (Nat.le_refl _) dX4_advance_292 (fun H h => ⟨rfl, by rw [ht]; exact (show upd (upd (upd (upd (upd F 18 (nI s)) 17 (nI s)) 20 (nI v)) 18 (nI p)) 19 2 = tkF F (s, p, 2, v) from by funext j; simp only [upd, tkF]; (repeat' split) <;> first | rfl | (exfalso; omega)) ▸ h⟩)
                    · refine g_iconst (v := 4) C dX4_advance_256 rfl ?_
                      refine g_goto 261 C dX4_advance_257 rfl ?_
                      refine mp_19 C dX4_advance_261 ?_
                      refine g_goto 292 C dX4_advance_264 rfl ?_
                      have ht : tkAt (X 14) n p0 = (s, p, 4, v) := by rw [tkAt, ← hs, tkS, if_neg (by omega), if_neg (by rw [cl]; decide), if_pos cd, ← h4, ← h5, hst, hsv, if_neg (by omega)]
                      exact g_vret C R (Nat.le_refl _) (Nat.le_refl _) dX4_advance_292 (fun H h => ⟨rfl, by rw [ht]; exact (show upd (upd (upd (upd (upd F 18 (nI s)) 17 (nI s)) 20 (nI v)) 18 (nI p)) 19 4 = tkF F (s, p, 4, v) from by funext j; simp only [upd, tkF]; (repeat' split) <;> first | rfl | (exfalso; omega)) ▸ h⟩)
                  · exact absurd c181 (by decide)
              | succ d ihd =>
                intro p v h1 h2 h3 h4 h5 h6 h7 h8
                by_cases cn : p < n
                · refine g_aload_n C dX4_advance_163 rfl rfl ?_
                  refine g_aload_n C dX4_advance_164 rfl rfl ?_
                  refine mg_18 C dX4_advance_165 ?_
                  refine g_topi (y := nI p) rfl ?_
                  refine g_mcall (rest := []) 1 C (ct_byteAt (F := upd (upd (upd (upd F 18 (nI s)) 17 (nI s)) 20 (nI v)) 18 (nI p)) (X := X) B (n := n) h16 hn p (by omega)) (lw_V q1790 q1792 qs47 q107 q1793) (by decide +kernel) ⟨Nat.le_of_ble_eq_true rfl, Nat.le_of_ble_eq_true rfl⟩ ⟨Nat.le_of_ble_eq_true rfl, Nat.le_of_ble_eq_true rfl⟩ rfl rfl (Nat.le_of_ble_eq_true rfl) dX4_advance_168 ?_
                  refine g_topi (y := nI (by8 (X 14) p)) (if_pos cn) ?_
                  refine g_i2l C dX4_advance_171 ?_
                  refine g_ldc2 (v := 48) C dX4_advance_172 q1796 ?_
                  refine g_ldc2 (v := 57) C dX4_advance_175 q1797 ?_
                  refine g_pcall (rest := []) 3 C (ct_within B _ _ _) (lw_S q1783 q1784 q107 q1785) ⟨by decide, by decide, by decide +kernel⟩ ⟨Nat.le_of_ble_eq_true rfl, Nat.le_of_ble_eq_true rfl⟩ ⟨Nat.le_of_ble_eq_true rfl, Nat.le_of_ble_eq_true rfl⟩ rfl rfl (Nat.le_of_ble_eq_true rfl) dX4_advance_178 ?_
                  refine g_topi (y := b2i (isDi (by8 (X 14) p))) (wi_b (by have := by8_lt (X 14) p; omega) (by decide) (by decide)) ?_
                  refine g_if_eq 241 C dX4_advance_181 rfl (fun c181 => ?_) (fun c181 => ?_)
                  · replace c181 := b2i_F c181
                    have hst : diN (X 14) n p = p := scN_st c181
                    have hsv : nvN (X 14) n s p v = v := nvN_st c181
                    refine g_aload_n C dX4_advance_241 rfl rfl ?_
                    refine g_aload_n C dX4_advance_242 rfl rfl ?_
                    refine mg_18 C dX4_advance_243 ?_
                    refine g_topi (y := nI p) rfl ?_
                    refine g_aload_n C dX4_advance_246 rfl rfl ?_
                    refine mg_17 C dX4_advance_247 ?_
                    refine g_topi (y := nI s) rfl ?_
                    refine g_isub C dX4_advance_250 ?_
                    refine g_topi (y := nI (p - s)) (pk_sub (a := p) (b := s) (by omega)) ?_
                    refine g_bipush (v := 6) C dX4_advance_251 rfl ?_
                    refine gN_le (a := p - s) (b := 6) 260 C dX4_advance_253 rfl (by omega) (by omega) (fun c253 => ?_) (fun c253 => ?_)
                    · refine g_iconst (v := 2) C dX4_advance_260 rfl ?_
                      refine mp_19 C dX4_advance_261 ?_
                      refine g_goto 292 C dX4_advance_264 rfl ?_
                      have ht : tkAt (X 14) n p0 = (s, p, 2, v) := by rw [tkAt, ← hs, tkS, if_neg (by omega), if_neg (by rw [cl]; decide), if_pos cd, ← h4, ← h5, hst, hsv, if_pos c253]
                      exact g_vret C R (Nat.le_refl _) (Nat.le_refl _) dX4_advance_292 (fun H h => ⟨rfl, by rw [ht]; exact (show upd (upd (upd (upd (upd F 18 (nI s)) 17 (nI s)) 20 (nI v)) 18 (nI p)) 19 2 = tkF F (s, p, 2, v) from by funext j; simp only [upd, tkF]; (repeat' split) <;> first | rfl | (exfalso; omega)) ▸ h⟩)
                    · refine g_iconst (v := 4) C dX4_advance_256 rfl ?_
                      refine g_goto 261 C dX4_advance_257 rfl ?_
                      refine mp_19 C dX4_advance_261 ?_
                      refine g_goto 292 C dX4_advance_264 rfl ?_
                      have ht : tkAt (X 14) n p0 = (s, p, 4, v) := by rw [tkAt, ← hs, tkS, if_neg (by omega), if_neg (by rw [cl]; decide), if_pos cd, ← h4, ← h5, hst, hsv, if_neg (by omega)]
                      exact g_vret C R (Nat.le_refl _) (Nat.le_refl _) dX4_advance_292 (fun H h => ⟨rfl, by rw [ht]; exact (show upd (upd (upd (upd (upd F 18 (nI s)) 17 (nI s)) 20 (nI v)) 18 (nI p)) 19 4 = tkF F (s, p, 4, v) from by funext j; simp only [upd, tkF]; (repeat' split) <;> first | rfl | (exfalso; omega)) ▸ h⟩)
                  · replace c181 := b2i_T c181
                    have hd := c181
                    unfold isDi at hd
                    simp only [Bool.and_eq_true, decide_eq_true_eq] at hd
                    have hv1 : v < 1000000 := by
                      by_cases c : p - s ≤ 6
                      · exact Nat.lt_of_lt_of_le (h7 c) (Nat.pow_le_pow_right (by decide) c)
                      · exact h8 (by omega)
                    have hb8 := by8_lt (X 14) p
                    refine g_aload_n C dX4_advance_184 rfl rfl ?_
                    refine g_aload_n C dX4_advance_185 rfl rfl ?_
                    refine mg_18 C dX4_advance_186 ?_
                    refine g_topi (y := nI p) rfl ?_
                    refine g_aload_n C dX4_advance_189 rfl rfl ?_
                    refine mg_17 C dX4_advance_190 ?_
                    refine g_topi (y := nI s) rfl ?_
                    refine g_isub C dX4_advance_193 ?_
                    refine g_topi (y := nI (p - s)) (pk_sub (a := p) (b := s) (by omega)) ?_
                    refine g_bipush (v := 6) C dX4_advance_194 rfl ?_
                    refine gN_ge (a := p - s) (b := 6) 221 C dX4_advance_196 rfl (by omega) (by omega) (fun c196 => ?_) (fun c196 => ?_)
                    · refine g_aload_n C dX4_advance_221 rfl rfl ?_
                      refine mg_20 C dX4_advance_222 ?_
                      refine g_topi (y := nI v) rfl ?_
                      refine mp_20 C dX4_advance_225 ?_
                      refine g_aload_n C dX4_advance_228 rfl rfl ?_
                      refine g_dup C dX4_advance_229 rfl ?_
                      refine mg_18 C dX4_advance_230 ?_
                      refine g_topi (y := nI p) rfl ?_
                      refine g_iconst (v := 1) C dX4_advance_233 rfl ?_
                      refine g_iadd C dX4_advance_234 ?_
                      refine g_topi (y := nI (p + 1)) (nI_add p 1) ?_
                      refine mp_18 C dX4_advance_235 ?_
                      refine g_eqI (J := RepM Γ A o ad (upd (upd (upd (upd F 18 (nI s)) 17 (nI s)) 20 (nI v)) 18 (nI (p + 1))) X) (congrArg (fun F => RepM Γ A o ad F _) (by funext j; simp only [upd, tkF]; (repeat' split) <;> first | rfl | (exfalso; omega))) ?_
                      refine g_goto 163 C dX4_advance_238 rfl ?_
                      refine ihd (p + 1) (v) (by omega) (by omega) (by omega) (by rw [← h4]; exact (scN_go cn c181).symm) (by rw [← h5, nvN_go cn c181, if_neg (by omega)]) (by omega) (fun z => ?_) (fun z => ?_)
                      · omega
                      · exact h8 (by omega)
                    · refine g_bipush (v := 10) C dX4_advance_199 rfl ?_
                      refine g_aload_n C dX4_advance_201 rfl rfl ?_
                      refine mg_20 C dX4_advance_202 ?_
                      refine g_topi (y := nI v) rfl ?_
                      refine g_imul C dX4_advance_205 ?_
                      refine g_topi (y := nI (10 * v)) (pk_mul 10 v) ?_
                      refine g_aload_n C dX4_advance_206 rfl rfl ?_
                      refine g_aload_n C dX4_advance_207 rfl rfl ?_
                      refine mg_18 C dX4_advance_208 ?_
                      refine g_topi (y := nI p) rfl ?_
                      refine g_mcall (rest := [.int (nI (10 * v)), .ref o]) 1 C (ct_byteAt (F := upd (upd (upd (upd F 18 (nI s)) 17 (nI s)) 20 (nI v)) 18 (nI p)) (X := X) B (n := n) h16 hn p (by omega)) (lw_V q1790 q1792 qs47 q107 q1793) (by decide +kernel) ⟨Nat.le_of_ble_eq_true rfl, Nat.le_of_ble_eq_true rfl⟩ ⟨Nat.le_of_ble_eq_true rfl, Nat.le_of_ble_eq_true rfl⟩ rfl rfl (Nat.le_of_ble_eq_true rfl) dX4_advance_211 ?_
                      refine g_topi (y := nI (by8 (X 14) p)) (if_pos cn) ?_
                      refine g_iadd C dX4_advance_214 ?_
                      refine g_topi (y := nI (10 * v + by8 (X 14) p)) (nI_add (10 * v) (by8 (X 14) p)) ?_
                      refine g_bipush (v := 48) C dX4_advance_215 rfl ?_
                      refine g_isub C dX4_advance_217 ?_
                      refine g_topi (y := nI ((10 * v + by8 (X 14) p) - 48)) (pk_sub (a := 10 * v + by8 (X 14) p) (b := 48) (by omega)) ?_
                      refine g_goto 225 C dX4_advance_218 rfl ?_
                      refine mp_20 C dX4_advance_225 ?_
                      refine g_aload_n C dX4_advance_228 rfl rfl ?_
                      refine g_dup C dX4_advance_229 rfl ?_
                      refine mg_18 C dX4_advance_230 ?_
                      refine g_topi (y := nI p) rfl ?_
                      refine g_iconst (v := 1) C dX4_advance_233 rfl ?_
                      refine g_iadd C dX4_advance_234 ?_
                      refine g_topi (y := nI (p + 1)) (nI_add p 1) ?_
                      refine mp_18 C dX4_advance_235 ?_
                      refine g_eqI (J := RepM Γ A o ad (upd (upd (upd (upd F 18 (nI s)) 17 (nI s)) 20 (nI (10 * v + by8 (X 14) p - 48))) 18 (nI (p + 1))) X) (congrArg (fun F => RepM Γ A o ad F _) (by funext j; simp only [upd, tkF]; (repeat' split) <;> first | rfl | (exfalso; omega))) ?_
                      refine g_goto 163 C dX4_advance_238 rfl ?_
                      refine ihd (p + 1) (10 * v + by8 (X 14) p - 48) (by omega) (by omega) (by omega) (by rw [← h4]; exact (scN_go cn c181).symm) (by rw [← h5, nvN_go cn c181, if_pos (by omega)]) (by have := h7 (by omega); have hp5 : 10 ^ (p - s) ≤ 10 ^ 5 := Nat.pow_le_pow_right (by decide) (by omega); omega) (fun z => ?_) (fun z => ?_)
                      · rw [show p + 1 - s = (p - s) + 1 by omega, Nat.pow_succ]; have := h7 (by omega); omega
                      · have := h7 (by omega); have e5 : p - s = 5 := by omega
                        rw [e5] at this; omega
                · refine g_aload_n C dX4_advance_163 rfl rfl ?_
                  refine g_aload_n C dX4_advance_164 rfl rfl ?_
                  refine mg_18 C dX4_advance_165 ?_
                  refine g_topi (y := nI p) rfl ?_
                  refine g_mcall (rest := []) 1 C (ct_byteAt (F := upd (upd (upd (upd F 18 (nI s)) 17 (nI s)) 20 (nI v)) 18 (nI p)) (X := X) B (n := n) h16 hn p (by omega)) (lw_V q1790 q1792 qs47 q107 q1793) (by decide +kernel) ⟨Nat.le_of_ble_eq_true rfl, Nat.le_of_ble_eq_true rfl⟩ ⟨Nat.le_of_ble_eq_true rfl, Nat.le_of_ble_eq_true rfl⟩ rfl rfl (Nat.le_of_ble_eq_true rfl) dX4_advance_168 ?_
                  refine g_topi (y := (-2)) (if_neg cn) ?_
                  refine g_i2l C dX4_advance_171 ?_
                  refine g_ldc2 (v := 48) C dX4_advance_172 q1796 ?_
                  refine g_ldc2 (v := 57) C dX4_advance_175 q1797 ?_
                  refine g_pcall (rest := []) 3 C (ct_within B _ _ _) (lw_S q1783 q1784 q107 q1785) ⟨by decide, by decide, by decide +kernel⟩ ⟨Nat.le_of_ble_eq_true rfl, Nat.le_of_ble_eq_true rfl⟩ ⟨Nat.le_of_ble_eq_true rfl, Nat.le_of_ble_eq_true rfl⟩ rfl rfl (Nat.le_of_ble_eq_true rfl) dX4_advance_178 ?_
                  refine g_topi (y := 0) (rfl) ?_
                  refine g_if_eq 241 C dX4_advance_181 rfl (fun c181 => ?_) (fun c181 => ?_)
                  · have hst : diN (X 14) n p = p := scN_end (by omega)
                    have hsv : nvN (X 14) n s p v = v := nvN_end (by omega)
                    refine g_aload_n C dX4_advance_241 rfl rfl ?_
                    refine g_aload_n C dX4_advance_242 rfl rfl ?_
                    refine mg_18 C dX4_advance_243 ?_
                    refine g_topi (y := nI p) rfl ?_
                    refine g_aload_n C dX4_advance_246 rfl rfl ?_
                    refine mg_17 C dX4_advance_247 ?_
                    refine g_topi (y := nI s) rfl ?_
                    refine g_isub C dX4_advance_250 ?_
                    refine g_topi (y := nI (p - s)) (pk_sub (a := p) (b := s) (by omega)) ?_
                    refine g_bipush (v := 6) C dX4_advance_251 rfl ?_
                    refine gN_le (a := p - s) (b := 6) 260 C dX4_advance_253 rfl (by omega) (by omega) (fun c253 => ?_) (fun c253 => ?_)
                    · refine g_iconst (v := 2) C dX4_advance_260 rfl ?_
                      refine mp_19 C dX4_advance_261 ?_
                      refine g_goto 292 C dX4_advance_264 rfl ?_
                      have ht : tkAt (X 14) n p0 = (s, p, 2, v) := by rw [tkAt, ← hs, tkS, if_neg (by omega), if_neg (by rw [cl]; decide), if_pos cd, ← h4, ← h5, hst, hsv, if_pos c253]
                      exact g_vret C R (Nat.le_refl _) (Nat.le_refl _) dX4_advance_292 (fun H h => ⟨rfl, by rw [ht]; exact (show upd (upd (upd (upd (upd F 18 (nI s)) 17 (nI s)) 20 (nI v)) 18 (nI p)) 19 2 = tkF F (s, p, 2, v) from by funext j; simp only [upd, tkF]; (repeat' split) <;> first | rfl | (exfalso; omega)) ▸ h⟩)
                    · refine g_iconst (v := 4) C dX4_advance_256 rfl ?_
                      refine g_goto 261 C dX4_advance_257 rfl ?_
                      refine mp_19 C dX4_advance_261 ?_
                      refine g_goto 292 C dX4_advance_264 rfl ?_
                      have ht : tkAt (X 14) n p0 = (s, p, 4, v) := by rw [tkAt, ← hs, tkS, if_neg (by omega), if_neg (by rw [cl]; decide), if_pos cd, ← h4, ← h5, hst, hsv, if_neg (by omega)]
                      exact g_vret C R (Nat.le_refl _) (Nat.le_refl _) dX4_advance_292 (fun H h => ⟨rfl, by rw [ht]; exact (show upd (upd (upd (upd (upd F 18 (nI s)) 17 (nI s)) 20 (nI v)) 18 (nI p)) 19 4 = tkF F (s, p, 4, v) from by funext j; simp only [upd, tkF]; (repeat' split) <;> first | rfl | (exfalso; omega)) ▸ h⟩)
                  · exact absurd c181 (by decide)
            refine g_eqI (J := RepM Γ A o ad (upd (upd (upd (upd F 18 (nI s)) 17 (nI s)) 20 (nI 0)) 18 (nI s)) X) (congrArg (fun F => RepM Γ A o ad F _) (by funext j; simp only [upd, tkF]; (repeat' split) <;> first | rfl | (exfalso; omega))) ?_
            exact k163 (n - s) s 0 (Nat.le_refl _) (Nat.le_refl _) (by omega) rfl rfl (by omega) (fun _ => Nat.pow_pos (by decide)) (fun _ => by omega)
        · replace cl := b2i_T cl
          have k89 : ∀ d p, n - p ≤ d → s ≤ p → p ≤ n → leN (X 14) n p = leN (X 14) n s → G E (RepM Γ A o ad (upd (upd (upd (upd F 18 (nI s)) 17 (nI s)) 20 0) 18 (nI p)) X) 0 0 89 [some (.ref o), some (.int (nI (by8 (X 14) s)))] [] := by
            intro d
            induction d with
            | zero =>
              intro p h1 h2 h3 h4
              by_cases cn : p < n
              · refine g_aload_n C dX4_advance_89 rfl rfl ?_
                refine g_aload_n C dX4_advance_90 rfl rfl ?_
                refine mg_18 C dX4_advance_91 ?_
                refine g_topi (y := nI p) rfl ?_
                refine g_mcall (rest := []) 1 C (ct_byteAt (F := upd (upd (upd (upd F 18 (nI s)) 17 (nI s)) 20 0) 18 (nI p)) (X := X) B (n := n) h16 hn p (by omega)) (lw_V q1790 q1792 qs47 q107 q1793) (by decide +kernel) ⟨Nat.le_of_ble_eq_true rfl, Nat.le_of_ble_eq_true rfl⟩ ⟨Nat.le_of_ble_eq_true rfl, Nat.le_of_ble_eq_true rfl⟩ rfl rfl (Nat.le_of_ble_eq_true rfl) dX4_advance_94 ?_
                refine g_topi (y := nI (by8 (X 14) p)) (if_pos cn) ?_
                refine g_i2l C dX4_advance_97 ?_
                refine g_ldc2 (v := 97) C dX4_advance_98 q1794 ?_
                refine g_ldc2 (v := 122) C dX4_advance_101 q1795 ?_
                refine g_pcall (rest := []) 3 C (ct_within B _ _ _) (lw_S q1783 q1784 q107 q1785) ⟨by decide, by decide, by decide +kernel⟩ ⟨Nat.le_of_ble_eq_true rfl, Nat.le_of_ble_eq_true rfl⟩ ⟨Nat.le_of_ble_eq_true rfl, Nat.le_of_ble_eq_true rfl⟩ rfl rfl (Nat.le_of_ble_eq_true rfl) dX4_advance_104 ?_
                refine g_topi (y := b2i (isLe (by8 (X 14) p))) (wi_b (by have := by8_lt (X 14) p; omega) (by decide) (by decide)) ?_
                refine g_if_eq 123 C dX4_advance_107 rfl (fun c107 => ?_) (fun c107 => ?_)
                · replace c107 := b2i_F c107
                  have hst : leN (X 14) n p = p := scN_st c107
                  refine g_aload_n C dX4_advance_123 rfl rfl ?_
                  refine g_aload_n C dX4_advance_124 rfl rfl ?_
                  refine mg_18 C dX4_advance_125 ?_
                  refine g_topi (y := nI p) rfl ?_
                  refine g_aload_n C dX4_advance_128 rfl rfl ?_
                  refine mg_17 C dX4_advance_129 ?_
                  refine g_topi (y := nI s) rfl ?_
                  refine g_isub C dX4_advance_132 ?_
                  refine g_topi (y := nI (p - s)) (pk_sub (a := p) (b := s) (by omega)) ?_
                  refine g_bipush (v := 8) C dX4_advance_133 rfl ?_
                  refine gN_le (a := p - s) (b := 8) 142 C dX4_advance_135 rfl (by omega) (by omega) (fun c135 => ?_) (fun c135 => ?_)
                  · refine g_iconst (v := 1) C dX4_advance_142 rfl ?_
                    refine mp_19 C dX4_advance_143 ?_
                    refine g_goto 292 C dX4_advance_146 rfl ?_
                    have ht : tkAt (X 14) n p0 = (s, p, 1, 0) := by rw [tkAt, ← hs, tkS, if_neg (by omega), if_pos cl, ← h4, hst, if_pos c135]
                    exact g_vret C R (Nat.le_refl _) (Nat.le_refl _) dX4_advance_292 (fun H h => ⟨rfl, by rw [ht]; exact (show upd (upd (upd (upd (upd F 18 (nI s)) 17 (nI s)) 20 0) 18 (nI p)) 19 1 = tkF F (s, p, 1, 0) from by funext j; simp only [upd, tkF]; (repeat' split) <;> first | rfl | (exfalso; omega)) ▸ h⟩)
                  · refine g_iconst (v := 4) C dX4_advance_138 rfl ?_
                    refine g_goto 143 C dX4_advance_139 rfl ?_
                    refine mp_19 C dX4_advance_143 ?_
                    refine g_goto 292 C dX4_advance_146 rfl ?_
                    have ht : tkAt (X 14) n p0 = (s, p, 4, 0) := by rw [tkAt, ← hs, tkS, if_neg (by omega), if_pos cl, ← h4, hst, if_neg (by omega)]
                    exact g_vret C R (Nat.le_refl _) (Nat.le_refl _) dX4_advance_292 (fun H h => ⟨rfl, by rw [ht]; exact (show upd (upd (upd (upd (upd F 18 (nI s)) 17 (nI s)) 20 0) 18 (nI p)) 19 4 = tkF F (s, p, 4, 0) from by funext j; simp only [upd, tkF]; (repeat' split) <;> first | rfl | (exfalso; omega)) ▸ h⟩)
                · replace c107 := b2i_T c107
                  refine g_aload_n C dX4_advance_110 rfl rfl ?_
                  refine g_dup C dX4_advance_111 rfl ?_
                  refine mg_18 C dX4_advance_112 ?_
                  refine g_topi (y := nI p) rfl ?_
                  refine g_iconst (v := 1) C dX4_advance_115 rfl ?_
                  refine g_iadd C dX4_advance_116 ?_
                  refine g_topi (y := nI (p + 1)) (nI_add p 1) ?_
                  refine mp_18 C dX4_advance_117 ?_
                  refine g_eqI (J := RepM Γ A o ad (upd (upd (upd (upd F 18 (nI s)) 17 (nI s)) 20 0) 18 (nI (p + 1))) X) (congrArg (fun F => RepM Γ A o ad F _) (upd_upd _ _ _ _)) ?_
                  refine g_goto 89 C dX4_advance_120 rfl ?_
                  exfalso; omega
              · refine g_aload_n C dX4_advance_89 rfl rfl ?_
                refine g_aload_n C dX4_advance_90 rfl rfl ?_
                refine mg_18 C dX4_advance_91 ?_
                refine g_topi (y := nI p) rfl ?_
                refine g_mcall (rest := []) 1 C (ct_byteAt (F := upd (upd (upd (upd F 18 (nI s)) 17 (nI s)) 20 0) 18 (nI p)) (X := X) B (n := n) h16 hn p (by omega)) (lw_V q1790 q1792 qs47 q107 q1793) (by decide +kernel) ⟨Nat.le_of_ble_eq_true rfl, Nat.le_of_ble_eq_true rfl⟩ ⟨Nat.le_of_ble_eq_true rfl, Nat.le_of_ble_eq_true rfl⟩ rfl rfl (Nat.le_of_ble_eq_true rfl) dX4_advance_94 ?_
                refine g_topi (y := (-2)) (if_neg cn) ?_
                refine g_i2l C dX4_advance_97 ?_
                refine g_ldc2 (v := 97) C dX4_advance_98 q1794 ?_
                refine g_ldc2 (v := 122) C dX4_advance_101 q1795 ?_
                refine g_pcall (rest := []) 3 C (ct_within B _ _ _) (lw_S q1783 q1784 q107 q1785) ⟨by decide, by decide, by decide +kernel⟩ ⟨Nat.le_of_ble_eq_true rfl, Nat.le_of_ble_eq_true rfl⟩ ⟨Nat.le_of_ble_eq_true rfl, Nat.le_of_ble_eq_true rfl⟩ rfl rfl (Nat.le_of_ble_eq_true rfl) dX4_advance_104 ?_
                refine g_topi (y := 0) (rfl) ?_
                refine g_if_eq 123 C dX4_advance_107 rfl (fun c107 => ?_) (fun c107 => ?_)
                · have hst : leN (X 14) n p = p := scN_end (by omega)
                  refine g_aload_n C dX4_advance_123 rfl rfl ?_
                  refine g_aload_n C dX4_advance_124 rfl rfl ?_
                  refine mg_18 C dX4_advance_125 ?_
                  refine g_topi (y := nI p) rfl ?_
                  refine g_aload_n C dX4_advance_128 rfl rfl ?_
                  refine mg_17 C dX4_advance_129 ?_
                  refine g_topi (y := nI s) rfl ?_
                  refine g_isub C dX4_advance_132 ?_
                  refine g_topi (y := nI (p - s)) (pk_sub (a := p) (b := s) (by omega)) ?_
                  refine g_bipush (v := 8) C dX4_advance_133 rfl ?_
                  refine gN_le (a := p - s) (b := 8) 142 C dX4_advance_135 rfl (by omega) (by omega) (fun c135 => ?_) (fun c135 => ?_)
                  · refine g_iconst (v := 1) C dX4_advance_142 rfl ?_
                    refine mp_19 C dX4_advance_143 ?_
                    refine g_goto 292 C dX4_advance_146 rfl ?_
                    have ht : tkAt (X 14) n p0 = (s, p, 1, 0) := by rw [tkAt, ← hs, tkS, if_neg (by omega), if_pos cl, ← h4, hst, if_pos c135]
                    exact g_vret C R (Nat.le_refl _) (Nat.le_refl _) dX4_advance_292 (fun H h => ⟨rfl, by rw [ht]; exact (show upd (upd (upd (upd (upd F 18 (nI s)) 17 (nI s)) 20 0) 18 (nI p)) 19 1 = tkF F (s, p, 1, 0) from by funext j; simp only [upd, tkF]; (repeat' split) <;> first | rfl | (exfalso; omega)) ▸ h⟩)
                  · refine g_iconst (v := 4) C dX4_advance_138 rfl ?_
                    refine g_goto 143 C dX4_advance_139 rfl ?_
                    refine mp_19 C dX4_advance_143 ?_
                    refine g_goto 292 C dX4_advance_146 rfl ?_
                    have ht : tkAt (X 14) n p0 = (s, p, 4, 0) := by rw [tkAt, ← hs, tkS, if_neg (by omega), if_pos cl, ← h4, hst, if_neg (by omega)]
                    exact g_vret C R (Nat.le_refl _) (Nat.le_refl _) dX4_advance_292 (fun H h => ⟨rfl, by rw [ht]; exact (show upd (upd (upd (upd (upd F 18 (nI s)) 17 (nI s)) 20 0) 18 (nI p)) 19 4 = tkF F (s, p, 4, 0) from by funext j; simp only [upd, tkF]; (repeat' split) <;> first | rfl | (exfalso; omega)) ▸ h⟩)
                · exact absurd c107 (by decide)
            | succ d ihd =>
              intro p h1 h2 h3 h4
              by_cases cn : p < n
              · refine g_aload_n C dX4_advance_89 rfl rfl ?_
                refine g_aload_n C dX4_advance_90 rfl rfl ?_
                refine mg_18 C dX4_advance_91 ?_
                refine g_topi (y := nI p) rfl ?_
                refine g_mcall (rest := []) 1 C (ct_byteAt (F := upd (upd (upd (upd F 18 (nI s)) 17 (nI s)) 20 0) 18 (nI p)) (X := X) B (n := n) h16 hn p (by omega)) (lw_V q1790 q1792 qs47 q107 q1793) (by decide +kernel) ⟨Nat.le_of_ble_eq_true rfl, Nat.le_of_ble_eq_true rfl⟩ ⟨Nat.le_of_ble_eq_true rfl, Nat.le_of_ble_eq_true rfl⟩ rfl rfl (Nat.le_of_ble_eq_true rfl) dX4_advance_94 ?_
                refine g_topi (y := nI (by8 (X 14) p)) (if_pos cn) ?_
                refine g_i2l C dX4_advance_97 ?_
                refine g_ldc2 (v := 97) C dX4_advance_98 q1794 ?_
                refine g_ldc2 (v := 122) C dX4_advance_101 q1795 ?_
                refine g_pcall (rest := []) 3 C (ct_within B _ _ _) (lw_S q1783 q1784 q107 q1785) ⟨by decide, by decide, by decide +kernel⟩ ⟨Nat.le_of_ble_eq_true rfl, Nat.le_of_ble_eq_true rfl⟩ ⟨Nat.le_of_ble_eq_true rfl, Nat.le_of_ble_eq_true rfl⟩ rfl rfl (Nat.le_of_ble_eq_true rfl) dX4_advance_104 ?_
                refine g_topi (y := b2i (isLe (by8 (X 14) p))) (wi_b (by have := by8_lt (X 14) p; omega) (by decide) (by decide)) ?_
                refine g_if_eq 123 C dX4_advance_107 rfl (fun c107 => ?_) (fun c107 => ?_)
                · replace c107 := b2i_F c107
                  have hst : leN (X 14) n p = p := scN_st c107
                  refine g_aload_n C dX4_advance_123 rfl rfl ?_
                  refine g_aload_n C dX4_advance_124 rfl rfl ?_
                  refine mg_18 C dX4_advance_125 ?_
                  refine g_topi (y := nI p) rfl ?_
                  refine g_aload_n C dX4_advance_128 rfl rfl ?_
                  refine mg_17 C dX4_advance_129 ?_
                  refine g_topi (y := nI s) rfl ?_
                  refine g_isub C dX4_advance_132 ?_
                  refine g_topi (y := nI (p - s)) (pk_sub (a := p) (b := s) (by omega)) ?_
                  refine g_bipush (v := 8) C dX4_advance_133 rfl ?_
                  refine gN_le (a := p - s) (b := 8) 142 C dX4_advance_135 rfl (by omega) (by omega) (fun c135 => ?_) (fun c135 => ?_)
                  · refine g_iconst (v := 1) C dX4_advance_142 rfl ?_
                    refine mp_19 C dX4_advance_143 ?_
                    refine g_goto 292 C dX4_advance_146 rfl ?_
                    have ht : tkAt (X 14) n p0 = (s, p, 1, 0) := by rw [tkAt, ← hs, tkS, if_neg (by omega), if_pos cl, ← h4, hst, if_pos c135]
                    exact g_vret C R (Nat.le_refl _) (Nat.le_refl _) dX4_advance_292 (fun H h => ⟨rfl, by rw [ht]; exact (show upd (upd (upd (upd (upd F 18 (nI s)) 17 (nI s)) 20 0) 18 (nI p)) 19 1 = tkF F (s, p, 1, 0) from by funext j; simp only [upd, tkF]; (repeat' split) <;> first | rfl | (exfalso; omega)) ▸ h⟩)
                  · refine g_iconst (v := 4) C dX4_advance_138 rfl ?_
                    refine g_goto 143 C dX4_advance_139 rfl ?_
                    refine mp_19 C dX4_advance_143 ?_
                    refine g_goto 292 C dX4_advance_146 rfl ?_
                    have ht : tkAt (X 14) n p0 = (s, p, 4, 0) := by rw [tkAt, ← hs, tkS, if_neg (by omega), if_pos cl, ← h4, hst, if_neg (by omega)]
                    exact g_vret C R (Nat.le_refl _) (Nat.le_refl _) dX4_advance_292 (fun H h => ⟨rfl, by rw [ht]; exact (show upd (upd (upd (upd (upd F 18 (nI s)) 17 (nI s)) 20 0) 18 (nI p)) 19 4 = tkF F (s, p, 4, 0) from by funext j; simp only [upd, tkF]; (repeat' split) <;> first | rfl | (exfalso; omega)) ▸ h⟩)
                · replace c107 := b2i_T c107
                  refine g_aload_n C dX4_advance_110 rfl rfl ?_
                  refine g_dup C dX4_advance_111 rfl ?_
                  refine mg_18 C dX4_advance_112 ?_
                  refine g_topi (y := nI p) rfl ?_
                  refine g_iconst (v := 1) C dX4_advance_115 rfl ?_
                  refine g_iadd C dX4_advance_116 ?_
                  refine g_topi (y := nI (p + 1)) (nI_add p 1) ?_
                  refine mp_18 C dX4_advance_117 ?_
                  refine g_eqI (J := RepM Γ A o ad (upd (upd (upd (upd F 18 (nI s)) 17 (nI s)) 20 0) 18 (nI (p + 1))) X) (congrArg (fun F => RepM Γ A o ad F _) (upd_upd _ _ _ _)) ?_
                  refine g_goto 89 C dX4_advance_120 rfl ?_
                  exact ihd (p + 1) (by omega) (by omega) (by omega) (by rw [← h4]; exact (scN_go cn c107).symm)
              · refine g_aload_n C dX4_advance_89 rfl rfl ?_
                refine g_aload_n C dX4_advance_90 rfl rfl ?_
                refine mg_18 C dX4_advance_91 ?_
                refine g_topi (y := nI p) rfl ?_
                refine g_mcall (rest := []) 1 C (ct_byteAt (F := upd (upd (upd (upd F 18 (nI s)) 17 (nI s)) 20 0) 18 (nI p)) (X := X) B (n := n) h16 hn p (by omega)) (lw_V q1790 q1792 qs47 q107 q1793) (by decide +kernel) ⟨Nat.le_of_ble_eq_true rfl, Nat.le_of_ble_eq_true rfl⟩ ⟨Nat.le_of_ble_eq_true rfl, Nat.le_of_ble_eq_true rfl⟩ rfl rfl (Nat.le_of_ble_eq_true rfl) dX4_advance_94 ?_
                refine g_topi (y := (-2)) (if_neg cn) ?_
                refine g_i2l C dX4_advance_97 ?_
                refine g_ldc2 (v := 97) C dX4_advance_98 q1794 ?_
                refine g_ldc2 (v := 122) C dX4_advance_101 q1795 ?_
                refine g_pcall (rest := []) 3 C (ct_within B _ _ _) (lw_S q1783 q1784 q107 q1785) ⟨by decide, by decide, by decide +kernel⟩ ⟨Nat.le_of_ble_eq_true rfl, Nat.le_of_ble_eq_true rfl⟩ ⟨Nat.le_of_ble_eq_true rfl, Nat.le_of_ble_eq_true rfl⟩ rfl rfl (Nat.le_of_ble_eq_true rfl) dX4_advance_104 ?_
                refine g_topi (y := 0) (rfl) ?_
                refine g_if_eq 123 C dX4_advance_107 rfl (fun c107 => ?_) (fun c107 => ?_)
                · have hst : leN (X 14) n p = p := scN_end (by omega)
                  refine g_aload_n C dX4_advance_123 rfl rfl ?_
                  refine g_aload_n C dX4_advance_124 rfl rfl ?_
                  refine mg_18 C dX4_advance_125 ?_
                  refine g_topi (y := nI p) rfl ?_
                  refine g_aload_n C dX4_advance_128 rfl rfl ?_
                  refine mg_17 C dX4_advance_129 ?_
                  refine g_topi (y := nI s) rfl ?_
                  refine g_isub C dX4_advance_132 ?_
                  refine g_topi (y := nI (p - s)) (pk_sub (a := p) (b := s) (by omega)) ?_
                  refine g_bipush (v := 8) C dX4_advance_133 rfl ?_
                  refine gN_le (a := p - s) (b := 8) 142 C dX4_advance_135 rfl (by omega) (by omega) (fun c135 => ?_) (fun c135 => ?_)
                  · refine g_iconst (v := 1) C dX4_advance_142 rfl ?_
                    refine mp_19 C dX4_advance_143 ?_
                    refine g_goto 292 C dX4_advance_146 rfl ?_
                    have ht : tkAt (X 14) n p0 = (s, p, 1, 0) := by rw [tkAt, ← hs, tkS, if_neg (by omega), if_pos cl, ← h4, hst, if_pos c135]
                    exact g_vret C R (Nat.le_refl _) (Nat.le_refl _) dX4_advance_292 (fun H h => ⟨rfl, by rw [ht]; exact (show upd (upd (upd (upd (upd F 18 (nI s)) 17 (nI s)) 20 0) 18 (nI p)) 19 1 = tkF F (s, p, 1, 0) from by funext j; simp only [upd, tkF]; (repeat' split) <;> first | rfl | (exfalso; omega)) ▸ h⟩)
                  · refine g_iconst (v := 4) C dX4_advance_138 rfl ?_
                    refine g_goto 143 C dX4_advance_139 rfl ?_
                    refine mp_19 C dX4_advance_143 ?_
                    refine g_goto 292 C dX4_advance_146 rfl ?_
                    have ht : tkAt (X 14) n p0 = (s, p, 4, 0) := by rw [tkAt, ← hs, tkS, if_neg (by omega), if_pos cl, ← h4, hst, if_neg (by omega)]
                    exact g_vret C R (Nat.le_refl _) (Nat.le_refl _) dX4_advance_292 (fun H h => ⟨rfl, by rw [ht]; exact (show upd (upd (upd (upd (upd F 18 (nI s)) 17 (nI s)) 20 0) 18 (nI p)) 19 4 = tkF F (s, p, 4, 0) from by funext j; simp only [upd, tkF]; (repeat' split) <;> first | rfl | (exfalso; omega)) ▸ h⟩)
                · exact absurd c107 (by decide)
          refine g_eqI (J := RepM Γ A o ad (upd (upd (upd (upd F 18 (nI s)) 17 (nI s)) 20 0) 18 (nI s)) X) (congrArg (fun F => RepM Γ A o ad F _) (upd_same rfl).symm) ?_
          exact k89 (n - s) s (Nat.le_refl _) (Nat.le_refl _) (by omega) rfl
      · exact absurd c64 (nI_m2 (by omega))
    · refine g_aload_n C dX4_advance_39 rfl rfl ?_
      refine g_aload_n C dX4_advance_40 rfl rfl ?_
      refine mg_18 C dX4_advance_41 ?_
      refine g_topi (y := nI s) rfl ?_
      refine mp_17 C dX4_advance_44 ?_
      refine g_aload_n C dX4_advance_47 rfl rfl ?_
      refine g_iconst (v := 0) C dX4_advance_48 rfl ?_
      refine mp_20 C dX4_advance_49 ?_
      refine g_aload_n C dX4_advance_52 rfl rfl ?_
      refine g_aload_n C dX4_advance_53 rfl rfl ?_
      refine mg_18 C dX4_advance_54 ?_
      refine g_topi (y := nI s) rfl ?_
      refine g_mcall (rest := []) 1 C (ct_byteAt (F := upd (upd (upd F 18 (nI s)) 17 (nI s)) 20 0) (X := X) B (n := n) h16 hn s (by omega)) (lw_V q1790 q1792 qs47 q107 q1793) (by decide +kernel) ⟨Nat.le_of_ble_eq_true rfl, Nat.le_of_ble_eq_true rfl⟩ ⟨Nat.le_of_ble_eq_true rfl, Nat.le_of_ble_eq_true rfl⟩ rfl rfl (Nat.le_of_ble_eq_true rfl) dX4_advance_57 ?_
      refine g_topi (y := (-2)) (if_neg cn) ?_
      refine g_istore_n (lv' := [some (.ref o), some (.int (-2))]) C dX4_advance_60 rfl (by decide) rfl ?_
      refine g_iload_n C dX4_advance_61 rfl rfl ?_
      refine g_bipush (v := (-2)) C dX4_advance_62 rfl ?_
      refine g_icmp_ne 75 C dX4_advance_64 rfl (fun c64 => ?_) (fun c64 => ?_)
      · exact absurd c64 (by decide)
      · refine g_aload_n C dX4_advance_67 rfl rfl ?_
        refine g_iconst (v := 0) C dX4_advance_68 rfl ?_
        refine mp_19 C dX4_advance_69 ?_
        refine g_goto 292 C dX4_advance_72 rfl ?_
        have ht : tkAt (X 14) n p0 = (s, s, 0, 0) := by rw [tkAt, ← hs, tkS, if_pos (by omega)]
        exact g_vret C R (Nat.le_refl _) (Nat.le_refl _) dX4_advance_292 (fun H h => ⟨rfl, by rw [ht]; exact (show upd (upd (upd (upd F 18 (nI s)) 17 (nI s)) 20 0) 19 0 = tkF F (s, s, 0, 0) from by funext j; simp only [upd, tkF]; (repeat' split) <;> first | rfl | (exfalso; omega)) ▸ h⟩)
  have k0 : ∀ d p, n - p ≤ d → p ≤ n → spN (X 14) n p = s → G E (RepM Γ A o ad (upd F 18 (nI p)) X) 0 0 0 [some (.ref o), none] [] := by
    intro d
    induction d with
    | zero =>
      intro p h1 h2 h3
      by_cases cn : p < n
      · have hb8 := by8_lt (X 14) p
        refine g_aload_n C dX4_advance_0 rfl rfl ?_
        refine g_aload_n C dX4_advance_1 rfl rfl ?_
        refine mg_18 C dX4_advance_2 ?_
        refine g_topi (y := nI p) rfl ?_
        refine g_mcall (rest := []) 1 C (ct_byteAt (F := upd F 18 (nI p)) (X := X) B (n := n) h16 hn p (by omega)) (lw_V q1790 q1792 qs47 q107 q1793) (by decide +kernel) ⟨Nat.le_of_ble_eq_true rfl, Nat.le_of_ble_eq_true rfl⟩ ⟨Nat.le_of_ble_eq_true rfl, Nat.le_of_ble_eq_true rfl⟩ rfl rfl (Nat.le_of_ble_eq_true rfl) dX4_advance_5 ?_
        refine g_topi (y := nI (by8 (X 14) p)) (if_pos cn) ?_
        refine g_bipush (v := 32) C dX4_advance_8 rfl ?_
        refine gN_eq (a := by8 (X 14) p) (b := 32) 26 C dX4_advance_10 rfl (by omega) (by omega) (fun c10 => ?_) (fun c10 => ?_)
        · refine g_aload_n C dX4_advance_26 rfl rfl ?_
          refine g_dup C dX4_advance_27 rfl ?_
          refine mg_18 C dX4_advance_28 ?_
          refine g_topi (y := nI p) rfl ?_
          refine g_iconst (v := 1) C dX4_advance_31 rfl ?_
          refine g_iadd C dX4_advance_32 ?_
          refine g_topi (y := nI (p + 1)) (nI_add p 1) ?_
          refine mp_18 C dX4_advance_33 ?_
          refine g_eqI (J := RepM Γ A o ad (upd F 18 (nI (p + 1))) X) (congrArg (fun F => RepM Γ A o ad F _) (upd_upd _ _ _ _)) ?_
          refine g_goto 0 C dX4_advance_36 rfl ?_
          exfalso; omega
        · refine g_aload_n C dX4_advance_13 rfl rfl ?_
          refine g_aload_n C dX4_advance_14 rfl rfl ?_
          refine mg_18 C dX4_advance_15 ?_
          refine g_topi (y := nI p) rfl ?_
          refine g_mcall (rest := []) 1 C (ct_byteAt (F := upd F 18 (nI p)) (X := X) B (n := n) h16 hn p (by omega)) (lw_V q1790 q1792 qs47 q107 q1793) (by decide +kernel) ⟨Nat.le_of_ble_eq_true rfl, Nat.le_of_ble_eq_true rfl⟩ ⟨Nat.le_of_ble_eq_true rfl, Nat.le_of_ble_eq_true rfl⟩ rfl rfl (Nat.le_of_ble_eq_true rfl) dX4_advance_18 ?_
          refine g_topi (y := nI (by8 (X 14) p)) (if_pos cn) ?_
          refine g_bipush (v := 10) C dX4_advance_21 rfl ?_
          refine gN_ne (a := by8 (X 14) p) (b := 10) 39 C dX4_advance_23 rfl (by omega) (by omega) (fun c23 => ?_) (fun c23 => ?_)
          · have e1 : p = s := by rw [← h3]; exact (scN_st (q := fun i => isSp (by8 (X 14) i)) (n := n) (show isSp (by8 (X 14) p) = false from by unfold isSp; rw [decide_eq_false c10, decide_eq_false c23]; rfl)).symm
            rw [e1]
            exact j39
          · refine g_aload_n C dX4_advance_26 rfl rfl ?_
            refine g_dup C dX4_advance_27 rfl ?_
            refine mg_18 C dX4_advance_28 ?_
            refine g_topi (y := nI p) rfl ?_
            refine g_iconst (v := 1) C dX4_advance_31 rfl ?_
            refine g_iadd C dX4_advance_32 ?_
            refine g_topi (y := nI (p + 1)) (nI_add p 1) ?_
            refine mp_18 C dX4_advance_33 ?_
            refine g_eqI (J := RepM Γ A o ad (upd F 18 (nI (p + 1))) X) (congrArg (fun F => RepM Γ A o ad F _) (upd_upd _ _ _ _)) ?_
            refine g_goto 0 C dX4_advance_36 rfl ?_
            exfalso; omega
      · refine g_aload_n C dX4_advance_0 rfl rfl ?_
        refine g_aload_n C dX4_advance_1 rfl rfl ?_
        refine mg_18 C dX4_advance_2 ?_
        refine g_topi (y := nI p) rfl ?_
        refine g_mcall (rest := []) 1 C (ct_byteAt (F := upd F 18 (nI p)) (X := X) B (n := n) h16 hn p (by omega)) (lw_V q1790 q1792 qs47 q107 q1793) (by decide +kernel) ⟨Nat.le_of_ble_eq_true rfl, Nat.le_of_ble_eq_true rfl⟩ ⟨Nat.le_of_ble_eq_true rfl, Nat.le_of_ble_eq_true rfl⟩ rfl rfl (Nat.le_of_ble_eq_true rfl) dX4_advance_5 ?_
        refine g_topi (y := (-2)) (if_neg cn) ?_
        refine g_bipush (v := 32) C dX4_advance_8 rfl ?_
        refine g_icmp_eq 26 C dX4_advance_10 rfl (fun c10 => ?_) (fun c10 => ?_)
        · exact absurd c10 (by decide)
        · refine g_aload_n C dX4_advance_13 rfl rfl ?_
          refine g_aload_n C dX4_advance_14 rfl rfl ?_
          refine mg_18 C dX4_advance_15 ?_
          refine g_topi (y := nI p) rfl ?_
          refine g_mcall (rest := []) 1 C (ct_byteAt (F := upd F 18 (nI p)) (X := X) B (n := n) h16 hn p (by omega)) (lw_V q1790 q1792 qs47 q107 q1793) (by decide +kernel) ⟨Nat.le_of_ble_eq_true rfl, Nat.le_of_ble_eq_true rfl⟩ ⟨Nat.le_of_ble_eq_true rfl, Nat.le_of_ble_eq_true rfl⟩ rfl rfl (Nat.le_of_ble_eq_true rfl) dX4_advance_18 ?_
          refine g_topi (y := (-2)) (if_neg cn) ?_
          refine g_bipush (v := 10) C dX4_advance_21 rfl ?_
          refine g_icmp_ne 39 C dX4_advance_23 rfl (fun c23 => ?_) (fun c23 => ?_)
          · have e1 : p = s := by rw [← h3]; exact (scN_end (by omega)).symm
            rw [e1]
            exact j39
          · exact absurd c23 (by decide)
    | succ d ihd =>
      intro p h1 h2 h3
      by_cases cn : p < n
      · have hb8 := by8_lt (X 14) p
        refine g_aload_n C dX4_advance_0 rfl rfl ?_
        refine g_aload_n C dX4_advance_1 rfl rfl ?_
        refine mg_18 C dX4_advance_2 ?_
        refine g_topi (y := nI p) rfl ?_
        refine g_mcall (rest := []) 1 C (ct_byteAt (F := upd F 18 (nI p)) (X := X) B (n := n) h16 hn p (by omega)) (lw_V q1790 q1792 qs47 q107 q1793) (by decide +kernel) ⟨Nat.le_of_ble_eq_true rfl, Nat.le_of_ble_eq_true rfl⟩ ⟨Nat.le_of_ble_eq_true rfl, Nat.le_of_ble_eq_true rfl⟩ rfl rfl (Nat.le_of_ble_eq_true rfl) dX4_advance_5 ?_
        refine g_topi (y := nI (by8 (X 14) p)) (if_pos cn) ?_
        refine g_bipush (v := 32) C dX4_advance_8 rfl ?_
        refine gN_eq (a := by8 (X 14) p) (b := 32) 26 C dX4_advance_10 rfl (by omega) (by omega) (fun c10 => ?_) (fun c10 => ?_)
        · refine g_aload_n C dX4_advance_26 rfl rfl ?_
          refine g_dup C dX4_advance_27 rfl ?_
          refine mg_18 C dX4_advance_28 ?_
          refine g_topi (y := nI p) rfl ?_
          refine g_iconst (v := 1) C dX4_advance_31 rfl ?_
          refine g_iadd C dX4_advance_32 ?_
          refine g_topi (y := nI (p + 1)) (nI_add p 1) ?_
          refine mp_18 C dX4_advance_33 ?_
          refine g_eqI (J := RepM Γ A o ad (upd F 18 (nI (p + 1))) X) (congrArg (fun F => RepM Γ A o ad F _) (upd_upd _ _ _ _)) ?_
          refine g_goto 0 C dX4_advance_36 rfl ?_
          exact ihd (p + 1) (by omega) (by omega) (by rw [← h3]; exact (scN_go cn (show isSp (by8 (X 14) p) = true from by unfold isSp; rw [decide_eq_true c10]; rfl)).symm)
        · refine g_aload_n C dX4_advance_13 rfl rfl ?_
          refine g_aload_n C dX4_advance_14 rfl rfl ?_
          refine mg_18 C dX4_advance_15 ?_
          refine g_topi (y := nI p) rfl ?_
          refine g_mcall (rest := []) 1 C (ct_byteAt (F := upd F 18 (nI p)) (X := X) B (n := n) h16 hn p (by omega)) (lw_V q1790 q1792 qs47 q107 q1793) (by decide +kernel) ⟨Nat.le_of_ble_eq_true rfl, Nat.le_of_ble_eq_true rfl⟩ ⟨Nat.le_of_ble_eq_true rfl, Nat.le_of_ble_eq_true rfl⟩ rfl rfl (Nat.le_of_ble_eq_true rfl) dX4_advance_18 ?_
          refine g_topi (y := nI (by8 (X 14) p)) (if_pos cn) ?_
          refine g_bipush (v := 10) C dX4_advance_21 rfl ?_
          refine gN_ne (a := by8 (X 14) p) (b := 10) 39 C dX4_advance_23 rfl (by omega) (by omega) (fun c23 => ?_) (fun c23 => ?_)
          · have e1 : p = s := by rw [← h3]; exact (scN_st (q := fun i => isSp (by8 (X 14) i)) (n := n) (show isSp (by8 (X 14) p) = false from by unfold isSp; rw [decide_eq_false c10, decide_eq_false c23]; rfl)).symm
            rw [e1]
            exact j39
          · refine g_aload_n C dX4_advance_26 rfl rfl ?_
            refine g_dup C dX4_advance_27 rfl ?_
            refine mg_18 C dX4_advance_28 ?_
            refine g_topi (y := nI p) rfl ?_
            refine g_iconst (v := 1) C dX4_advance_31 rfl ?_
            refine g_iadd C dX4_advance_32 ?_
            refine g_topi (y := nI (p + 1)) (nI_add p 1) ?_
            refine mp_18 C dX4_advance_33 ?_
            refine g_eqI (J := RepM Γ A o ad (upd F 18 (nI (p + 1))) X) (congrArg (fun F => RepM Γ A o ad F _) (upd_upd _ _ _ _)) ?_
            refine g_goto 0 C dX4_advance_36 rfl ?_
            exact ihd (p + 1) (by omega) (by omega) (by rw [← h3]; exact (scN_go cn (show isSp (by8 (X 14) p) = true from by unfold isSp; rw [decide_eq_true c23, Bool.or_true])).symm)
      · refine g_aload_n C dX4_advance_0 rfl rfl ?_
        refine g_aload_n C dX4_advance_1 rfl rfl ?_
        refine mg_18 C dX4_advance_2 ?_
        refine g_topi (y := nI p) rfl ?_
        refine g_mcall (rest := []) 1 C (ct_byteAt (F := upd F 18 (nI p)) (X := X) B (n := n) h16 hn p (by omega)) (lw_V q1790 q1792 qs47 q107 q1793) (by decide +kernel) ⟨Nat.le_of_ble_eq_true rfl, Nat.le_of_ble_eq_true rfl⟩ ⟨Nat.le_of_ble_eq_true rfl, Nat.le_of_ble_eq_true rfl⟩ rfl rfl (Nat.le_of_ble_eq_true rfl) dX4_advance_5 ?_
        refine g_topi (y := (-2)) (if_neg cn) ?_
        refine g_bipush (v := 32) C dX4_advance_8 rfl ?_
        refine g_icmp_eq 26 C dX4_advance_10 rfl (fun c10 => ?_) (fun c10 => ?_)
        · exact absurd c10 (by decide)
        · refine g_aload_n C dX4_advance_13 rfl rfl ?_
          refine g_aload_n C dX4_advance_14 rfl rfl ?_
          refine mg_18 C dX4_advance_15 ?_
          refine g_topi (y := nI p) rfl ?_
          refine g_mcall (rest := []) 1 C (ct_byteAt (F := upd F 18 (nI p)) (X := X) B (n := n) h16 hn p (by omega)) (lw_V q1790 q1792 qs47 q107 q1793) (by decide +kernel) ⟨Nat.le_of_ble_eq_true rfl, Nat.le_of_ble_eq_true rfl⟩ ⟨Nat.le_of_ble_eq_true rfl, Nat.le_of_ble_eq_true rfl⟩ rfl rfl (Nat.le_of_ble_eq_true rfl) dX4_advance_18 ?_
          refine g_topi (y := (-2)) (if_neg cn) ?_
          refine g_bipush (v := 10) C dX4_advance_21 rfl ?_
          refine g_icmp_ne 39 C dX4_advance_23 rfl (fun c23 => ?_) (fun c23 => ?_)
          · have e1 : p = s := by rw [← h3]; exact (scN_end (by omega)).symm
            rw [e1]
            exact j39
          · exact absurd c23 (by decide)
  refine g_eqI (J := RepM Γ A o ad (upd F 18 (nI p0)) X) (congrArg (fun F => RepM Γ A o ad F _) (upd_same h18).symm) ?_
  exact k0 (n - p0) p0 (Nat.le_refl _) hp hs.symm
