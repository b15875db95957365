section LC
variable {E : Cf} {Γ : Gm} {A : Nat → Prop} {ρ : State → Prop} {cc : ByteArray} {nL : Nat} {own : String} {rm : Room} {cells slots pc : Nat} {lv : List (Option Value)} {st rest : List Value} {o : Nat} {ad : Nat → Nat} {F : Nat → Int32} {X : Nat → Nat → Int32} {name : String} {cc' : ByteArray} {nL' n index fr lo : Nat} {r : PR}
theorem g_lcall (C : Cx E Γ A ρ cc nL own rm) (ct : CtL (eL E) Γ A ρ ⟨RX4, name, "()Z"⟩ cc' nL' fr lo o ad F X n r) (hw : GoodIn lw_all (wsV own index RX4 ⟨RX4, name, "()Z"⟩ (ws_ ⟨RX4, name, "()Z"⟩ cc' nL' (some .boolean)))) (hR : fr + 1 ≤ rm.frames ∧ 8 + (nL' + 11) + lo ≤ rm.locals) (hf : cells ≤ rm.cells ∧ slots ≤ rm.slots) (hst : st = .ref o :: rest) (hW : (rest.map fun v => v.category).sum ≤ 8) (d : decode cc pc = .ok (.invokevirtual index, 3))
    (k : ∀ v F' X', PO F X n r v F' X' → G E (RepM Γ A o ad F' X') cells slots (pc + 3) lv (v.toList ++ rest)) : G E (RepM Γ A o ad F X) cells slots pc lv st :=
  g_callV (As := []) (n := 0) C ct hw ⟨show RX4 ≠ _ by decide, show RX4 ≠ _ by decide, show (parseMethodDescriptor "()Z").map (fun d => d.parameters.length) = some 0 by decide +kernel⟩ hR hf (fun _ h => h) (RepM.recv C) rfl hst hW d (fun v => g_ex fun F' => g_ex fun X' => g_pure fun h => k v F' X' h)
end LC
set_option maxRecDepth 100000 in
set_option maxHeartbeats 2000000 in
theorem ct_statement {l : Launch} {Γ : Gm} {A : Nat → Prop} {ρ : State → Prop} (B : Bs l A ρ) {o : Nat} {ad : Nat → Nat} {F : Nat → Int32} {X : Nat → Nat → Int32} {n : Nat} {t : Tk} {c : Cn} {buf : Nat → Int32} (hX : X 14 = buf) (hn : n ≤ 800) (hT : Tok buf n t) (hc : CnB c) (Q : PS F n t c) {sa va : Nat → Nat} (hW : ∀ U, ρ U → SKm A sa va U) : CtL l Γ A ρ yX4_statement cX4_statement 2 6 131 o ad F X n (pStmt buf n t c X) := by
  refine Ct.of B.1 B.2 (by decide) [some (.ref o), none] (Nat.le_of_ble_eq_true rfl) rfl ?_
  intro E hE C R
  subst hE
  have hb := hT.B
  have hc0 := hc
  have P := Q.1
  obtain ⟨hc1, hc2, hc3, hc4⟩ := hc
  obtain ⟨hba, hbb, hbc, hbd⟩ := id hb
  have j85 : ∀ v F' X', PO F X n (pLine buf n t c X) v F' X' → G E (RepM Γ A o ad F' X') 0 0 85 [some (.ref o), none] (v.toList ++ []) := by
    intro v F' X' hP
    cases er : pLine buf n t c X with
    | inl e1 =>
      rw [er] at hP
      obtain ⟨f, x, rfl, h21, h22⟩ := hP
      refine g_istore_n (lv' := [some (.ref o), some (.int 0)]) C dX4_statement_85 rfl (by decide) rfl ?_
      refine g_iload_n C dX4_statement_86 rfl rfl ?_
      refine g_if_ne 92 C dX4_statement_87 rfl (fun c87 => ?_) (fun c87 => ?_)
      · exact absurd c87 (by decide)
      · refine g_iconst (v := 0) C dX4_statement_90 rfl ?_
        exact g_zret C R (Nat.le_refl _) (Nat.le_refl _) dX4_statement_91 rfl (fun H h => ⟨F', X', ⟨f, x, by rw [show pStmt buf n t c X = .inl e1 by rw [pStmt]; simp only [er]]; exact ⟨rfl, h21, h22⟩⟩, h⟩)
    | inr p =>
      obtain ⟨t', c', Y'⟩ := p
      have L := pLine_L hT hc0 _ _ _ er
      rw [er] at hP
      obtain ⟨f, x, rfl, rfl, Q'⟩ := hP
      have P' := Q'.1
      have hb' := L.1.B
      have hX' : X' 14 = buf := (x 14 rfl).trans hX
      obtain ⟨hba', hbb', hbc', hbd'⟩ := id hb'
      refine g_istore_n (lv' := [some (.ref o), some (.int 1)]) C dX4_statement_85 rfl (by decide) rfl ?_
      refine g_iload_n C dX4_statement_86 rfl rfl ?_
      refine g_if_ne 92 C dX4_statement_87 rfl (fun c87 => ?_) (fun c87 => ?_)
      · refine g_aload_n C dX4_statement_92 rfl rfl ?_
        refine mg_19 C dX4_statement_93 ?_
        refine g_topi (y := nI t'.2.2.1) (P'.2.2.2.1) ?_
        refine g_iconst (v := 3) C dX4_statement_96 rfl ?_
        refine gN_eq (a := t'.2.2.1) (b := 3) 106 C dX4_statement_97 rfl (by omega) (by omega) (fun c97 => ?_) (fun c97 => ?_)
        · refine g_aload_n C dX4_statement_106 rfl rfl ?_
          refine g_mcallv (rest := []) 0 C (cb_advance (F := F') (X := X') B (show _ = buf from hX') hn hb' P') (lw_V q1786 q1788 qs46 q107 q1789) (by decide +kernel) ⟨Nat.le_of_ble_eq_true rfl, Nat.le_of_ble_eq_true rfl⟩ ⟨Nat.le_of_ble_eq_true rfl, Nat.le_of_ble_eq_true rfl⟩ rfl rfl (Nat.le_of_ble_eq_true rfl) dX4_statement_107 ?_
          obtain ⟨t1, et1⟩ : ∃ x, x = tkN buf n t' := ⟨_, rfl⟩
          obtain ⟨hb1, g1⟩ := tkN_B (buf := buf) hb'
          rw [← et1] at hb1 g1
          obtain ⟨hb1a, hb1b, hb1c, hb1d⟩ := id hb1
          refine g_eqI (J := RepM Γ A o ad (tkF F' t1) X') (by rw [et1]) ?_
          have P1 : PF (tkF F' t1) n t1 := ⟨P'.1, rfl, rfl, rfl, rfl, P'.2.2.2.2.2⟩
          refine g_iconst (v := 1) C dX4_statement_110 rfl ?_
          have e2 : pStmt buf n t c X = .inr (t1, c', X') := by rw [pStmt]; simp only [er]; rw [if_pos c97, ← et1]
          exact g_zret C R (Nat.le_refl _) (Nat.le_refl _) dX4_statement_111 rfl (fun H h => ⟨tkF F' t1, X', ⟨(FR.tk f), x, by rw [e2]; exact ⟨rfl, rfl, ⟨P1, Q'.2.1, Q'.2.2.1, Q'.2.2.2.1, Q'.2.2.2.2.1, Q'.2.2.2.2.2⟩⟩⟩, h⟩)
        · refine g_aload_n C dX4_statement_100 rfl rfl ?_
          refine g_iconst (v := 1) C dX4_statement_101 rfl ?_
          refine g_mcall (rest := []) 1 C (cb_fails (F := F') (X := X') B P' 1) (lw_V q1831 q1833 qs52 q107 q1834) (by decide +kernel) ⟨Nat.le_of_ble_eq_true rfl, Nat.le_of_ble_eq_true rfl⟩ ⟨Nat.le_of_ble_eq_true rfl, Nat.le_of_ble_eq_true rfl⟩ rfl rfl (Nat.le_of_ble_eq_true rfl) dX4_statement_102 ?_
          have e2 : pStmt buf n t c X = .inl (1, t'.1) := by rw [pStmt]; simp only [er]; rw [if_neg c97]
          exact g_zret C R (Nat.le_refl _) (Nat.le_refl _) dX4_statement_105 rfl (fun H h => ⟨upd (upd F' 21 (nI 1)) 22 (nI t'.1), X', ⟨(FR.up (FR.up f rfl) rfl), x, by rw [e2]; exact ⟨rfl, rfl, rfl⟩⟩, h⟩)
      · exact absurd c87 (by decide)
  refine g_aload_n C dX4_statement_0 rfl rfl ?_
  refine g_ldcS C (hW _ C.r).2.1 dX4_statement_1 ?_
  refine g_mcall (rest := []) 1 C (cb_isWord (F := F) (X := X) B (show _ = buf from hX) hn hb P 0 (fun U hU => (hW U hU).1 0 (by decide))) (lw_V q1803 q1805 qs49 q107 q1806) (by decide +kernel) ⟨Nat.le_of_ble_eq_true rfl, Nat.le_of_ble_eq_true rfl⟩ ⟨Nat.le_of_ble_eq_true rfl, Nat.le_of_ble_eq_true rfl⟩ rfl rfl (Nat.le_of_ble_eq_true rfl) dX4_statement_3 ?_
  refine g_if_eq 16 C dX4_statement_6 rfl (fun c6 => ?_) (fun c6 => ?_)
  · replace c6 := b2i_F c6
    refine g_aload_n C dX4_statement_16 rfl rfl ?_
    refine g_ldcS C (hW _ C.r).2.2.1 dX4_statement_17 ?_
    refine g_mcall (rest := []) 1 C (cb_isWord (F := F) (X := X) B (show _ = buf from hX) hn hb P 1 (fun U hU => (hW U hU).1 1 (by decide))) (lw_V q1803 q1805 qs49 q107 q1806) (by decide +kernel) ⟨Nat.le_of_ble_eq_true rfl, Nat.le_of_ble_eq_true rfl⟩ ⟨Nat.le_of_ble_eq_true rfl, Nat.le_of_ble_eq_true rfl⟩ rfl rfl (Nat.le_of_ble_eq_true rfl) dX4_statement_19 ?_
    refine g_if_eq 32 C dX4_statement_22 rfl (fun c22 => ?_) (fun c22 => ?_)
    · replace c22 := b2i_F c22
      refine g_aload_n C dX4_statement_32 rfl rfl ?_
      refine g_ldcS C (hW _ C.r).2.2.2.1 dX4_statement_33 ?_
      refine g_mcall (rest := []) 1 C (cb_isWord (F := F) (X := X) B (show _ = buf from hX) hn hb P 2 (fun U hU => (hW U hU).1 2 (by decide))) (lw_V q1803 q1805 qs49 q107 q1806) (by decide +kernel) ⟨Nat.le_of_ble_eq_true rfl, Nat.le_of_ble_eq_true rfl⟩ ⟨Nat.le_of_ble_eq_true rfl, Nat.le_of_ble_eq_true rfl⟩ rfl rfl (Nat.le_of_ble_eq_true rfl) dX4_statement_35 ?_
      refine g_if_eq 48 C dX4_statement_38 rfl (fun c38 => ?_) (fun c38 => ?_)
      · replace c38 := b2i_F c38
        refine g_aload_n C dX4_statement_48 rfl rfl ?_
        refine g_ldcS C (hW _ C.r).2.2.2.2.1 dX4_statement_49 ?_
        refine g_mcall (rest := []) 1 C (cb_isWord (F := F) (X := X) B (show _ = buf from hX) hn hb P 3 (fun U hU => (hW U hU).1 3 (by decide))) (lw_V q1803 q1805 qs49 q107 q1806) (by decide +kernel) ⟨Nat.le_of_ble_eq_true rfl, Nat.le_of_ble_eq_true rfl⟩ ⟨Nat.le_of_ble_eq_true rfl, Nat.le_of_ble_eq_true rfl⟩ rfl rfl (Nat.le_of_ble_eq_true rfl) dX4_statement_51 ?_
        refine g_if_eq 64 C dX4_statement_54 rfl (fun c54 => ?_) (fun c54 => ?_)
        · replace c54 := b2i_F c54
          refine g_aload_n C dX4_statement_64 rfl rfl ?_
          refine g_ldcS C (hW _ C.r).2.2.2.2.2.1 dX4_statement_65 ?_
          refine g_mcall (rest := []) 1 C (cb_isWord (F := F) (X := X) B (show _ = buf from hX) hn hb P 4 (fun U hU => (hW U hU).1 4 (by decide))) (lw_V q1803 q1805 qs49 q107 q1806) (by decide +kernel) ⟨Nat.le_of_ble_eq_true rfl, Nat.le_of_ble_eq_true rfl⟩ ⟨Nat.le_of_ble_eq_true rfl, Nat.le_of_ble_eq_true rfl⟩ rfl rfl (Nat.le_of_ble_eq_true rfl) dX4_statement_67 ?_
          refine g_if_eq 80 C dX4_statement_70 rfl (fun c70 => ?_) (fun c70 => ?_)
          · replace c70 := b2i_F c70
            refine g_aload_n C dX4_statement_80 rfl rfl ?_
            refine g_iconst (v := 1) C dX4_statement_81 rfl ?_
            refine g_mcall (rest := []) 1 C (cb_fails (F := F) (X := X) B P 1) (lw_V q1831 q1833 qs52 q107 q1834) (by decide +kernel) ⟨Nat.le_of_ble_eq_true rfl, Nat.le_of_ble_eq_true rfl⟩ ⟨Nat.le_of_ble_eq_true rfl, Nat.le_of_ble_eq_true rfl⟩ rfl rfl (Nat.le_of_ble_eq_true rfl) dX4_statement_82 ?_
            exact j85 (some (.int 0)) (upd (upd F 21 (nI 1)) 22 (nI t.1)) X (by rw [pLine, if_neg (show ¬ _ = true by rw [c6]; decide), if_neg (show ¬ _ = true by rw [c22]; decide), if_neg (show ¬ _ = true by rw [c38]; decide), if_neg (show ¬ _ = true by rw [c54]; decide), if_neg (show ¬ _ = true by rw [c70]; decide)]; exact ⟨(FR.up (FR.up FR.rf rfl) rfl), XR.rf, rfl, rfl, rfl⟩)
          · replace c70 := b2i_T c70
            refine g_aload_n C dX4_statement_73 rfl rfl ?_
            refine g_lcall (rest := []) C (ct_termLine (F := F) (X := X) B hX hn hb hc0 Q hW) (lw_V q1859 q1861 qs57 q107 q1862) ⟨Nat.le_of_ble_eq_true rfl, Nat.le_of_ble_eq_true rfl⟩ ⟨Nat.le_of_ble_eq_true rfl, Nat.le_of_ble_eq_true rfl⟩ rfl (Nat.le_of_ble_eq_true rfl) dX4_statement_74 (fun v1 F1 X1 h1 => ?_)
            refine g_goto 85 C dX4_statement_77 rfl ?_
            exact j85 v1 F1 X1 (by rw [pLine, if_neg (show ¬ _ = true by rw [c6]; decide), if_neg (show ¬ _ = true by rw [c22]; decide), if_neg (show ¬ _ = true by rw [c38]; decide), if_neg (show ¬ _ = true by rw [c54]; decide), if_pos c70]; exact h1)
        · replace c54 := b2i_T c54
          refine g_aload_n C dX4_statement_57 rfl rfl ?_
          refine g_lcall (rest := []) C (ct_setLine (F := F) (X := X) B hX hn hb hc0 Q hW) (lw_V q1853 q1855 qs56 q107 q1856) ⟨Nat.le_of_ble_eq_true rfl, Nat.le_of_ble_eq_true rfl⟩ ⟨Nat.le_of_ble_eq_true rfl, Nat.le_of_ble_eq_true rfl⟩ rfl (Nat.le_of_ble_eq_true rfl) dX4_statement_58 (fun v1 F1 X1 h1 => ?_)
          refine g_goto 85 C dX4_statement_61 rfl ?_
          exact j85 v1 F1 X1 (by rw [pLine, if_neg (show ¬ _ = true by rw [c6]; decide), if_neg (show ¬ _ = true by rw [c22]; decide), if_neg (show ¬ _ = true by rw [c38]; decide), if_pos c54]; exact h1)
      · replace c38 := b2i_T c38
        refine g_aload_n C dX4_statement_41 rfl rfl ?_
        refine g_lcall (rest := []) C (ct_massLine (F := F) (X := X) B hX hn hb hc0 Q hW) (lw_V q1846 q1848 qs55 q107 q1849) ⟨Nat.le_of_ble_eq_true rfl, Nat.le_of_ble_eq_true rfl⟩ ⟨Nat.le_of_ble_eq_true rfl, Nat.le_of_ble_eq_true rfl⟩ rfl (Nat.le_of_ble_eq_true rfl) dX4_statement_42 (fun v1 F1 X1 h1 => ?_)
        refine g_goto 85 C dX4_statement_45 rfl ?_
        exact j85 v1 F1 X1 (by rw [pLine, if_neg (show ¬ _ = true by rw [c6]; decide), if_neg (show ¬ _ = true by rw [c22]; decide), if_pos c38]; exact h1)
    · replace c22 := b2i_T c22
      refine g_aload_n C dX4_statement_25 rfl rfl ?_
      refine g_lcall (rest := []) C (ct_scaleLine (F := F) (X := X) B hX hn hb hc0 Q hW) (lw_V q1836 q1838 qs53 q107 q1839) ⟨Nat.le_of_ble_eq_true rfl, Nat.le_of_ble_eq_true rfl⟩ ⟨Nat.le_of_ble_eq_true rfl, Nat.le_of_ble_eq_true rfl⟩ rfl (Nat.le_of_ble_eq_true rfl) dX4_statement_26 (fun v1 F1 X1 h1 => ?_)
      refine g_goto 85 C dX4_statement_29 rfl ?_
      exact j85 v1 F1 X1 (by rw [pLine, if_neg (show ¬ _ = true by rw [c6]; decide), if_pos c22]; exact h1)
  · replace c6 := b2i_T c6
    refine g_aload_n C dX4_statement_9 rfl rfl ?_
    refine g_lcall (rest := []) C (ct_traderLine (F := F) (X := X) B hX hn hb hc0 Q hW) (lw_V q1823 q1825 qs50 q107 q1826) ⟨Nat.le_of_ble_eq_true rfl, Nat.le_of_ble_eq_true rfl⟩ ⟨Nat.le_of_ble_eq_true rfl, Nat.le_of_ble_eq_true rfl⟩ rfl (Nat.le_of_ble_eq_true rfl) dX4_statement_10 (fun v1 F1 X1 h1 => ?_)
    refine g_goto 85 C dX4_statement_13 rfl ?_
    exact j85 v1 F1 X1 (by rw [pLine, if_pos c6]; exact h1)
