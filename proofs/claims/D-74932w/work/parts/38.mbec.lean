def zfN (f : Nat → Int32) : Nat → Nat → Int32
  | 0 => f
  | k + 1 => upd (zfN f k) k 0
def tmV (x : Int32) : Int32 := if x = 0 then 2 else x
def trN (y f : Nat → Int32) : Nat → Nat → Int32
  | 0 => f
  | k + 1 => upd (trN y f k) k (tmV (y k))
def hvI (x : Int32) : Int32 := (1 <<< (x &&& 31)) - 1
def nzI (x : Int32) : Int32 := if x = 0 then 0 else 1
def hyN (X : Nat → Nat → Int32) (f : Nat → Int32) : Nat → Nat → Int32
  | 0 => f
  | i + 1 => upd (upd (upd (hyN X f i) (661 + i) (hvI (X 33 i))) (665 + i) (hvI (X 33 i))) (669 + i) (nzI (X 34 i))
def mbN (y f : Nat → Int32) : Nat → Nat → Int32
  | 0 => f
  | k + 1 => upd (mbN y f k) k (y k)
def bcF (F : Nat → Int32) (c : Cn) : Nat → Int32 := upd (upd (upd (upd (upd F 2 (nI c.1)) 3 (nI c.2.1)) 8 (nI c.2.2.1)) 10 (nI c.2.2.2)) 41 0
def bcX (X : Nat → Nat → Int32) (c : Cn) : Nat → Nat → Int32 := setX (setX (setX (setX (setX (setX (setX (setX (setX (setX X 4 (cpN (X 26) (X 4) 0 0 24)) 5 (cpN (X 27) (X 5) 0 0 24)) 6 (cpN (X 28) (X 6) 0 0 24)) 7 (cpN (X 29) (X 7) 0 0 24)) 9 (cpN (X 31) (X 9) 0 0 10)) 11 (cpN (X 33) (X 11) 0 0 4)) 13 (trN (X 35) (X 13) 3)) 1 (hyN X (zfN (X 1) 677) c.2.2.2)) 12 (mbN (X 34) (X 12) c.2.2.2)) 44 (upd (upd (X 44) 0 0) 1 0)
theorem setX_in (X : Nat → Nat → Int32) {a b : Nat} (h : b ≠ a) (f g f' : Nat → Int32) : setX (setX (setX X a f) b g) a f' = setX (setX X a f') b g := by rw [setX_comm _ h, setX_setX]
theorem nar01 {v : Int32} (h : v = 0 ∨ v = 1) : vp_nar .boolean v = v := by rcases h with h | h <;> rw [h] <;> rfl
set_option maxHeartbeats 2000000 in
set_option maxRecDepth 100000 in
theorem ct_becomes {l : Launch} {Γ : Gm} {A : Nat → Prop} {ρ : State → Prop} (B : Bs l A ρ) {o : Nat} {ad : Nat → Nat} {F : Nat → Int32} {X : Nat → Nat → Int32} {c : Cn} (hc : CnB c) (D : Dr X c) (h24 : F 24 = nI c.1) (h25 : F 25 = nI c.2.1) (h30 : F 30 = nI c.2.2.1) (h32 : F 32 = nI c.2.2.2) : CtM l Γ A ρ yX4_becomes cX4_becomes 2 none 1 25 o ad [.ref o] F X none (bcF F c) (bcX X c) := by
  refine Ct.of B.1 B.2 (by decide) [some (.ref o), none] (Nat.le_of_ble_eq_true rfl) rfl ?_
  intro E hE C R
  subst hE
  obtain ⟨hc1, hc2, hc3, hc4⟩ := hc
  refine g_aload_n C dX4_becomes_0 rfl rfl ?_
  refine g_aload_n C dX4_becomes_1 rfl rfl ?_
  refine mg_24 C dX4_becomes_2 ?_
  refine g_topi (y := nI c.1) (h24) ?_
  refine mp_2 C dX4_becomes_5 ?_
  refine g_aload_n C dX4_becomes_8 rfl rfl ?_
  refine g_aload_n C dX4_becomes_9 rfl rfl ?_
  refine mg_25 C dX4_becomes_10 ?_
  refine g_topi (y := nI c.2.1) (h25) ?_
  refine mp_3 C dX4_becomes_13 ?_
  refine g_aload_n C dX4_becomes_16 rfl rfl ?_
  refine mg_26 C dX4_becomes_17 ?_
  refine g_iconst (v := 0) C dX4_becomes_20 rfl ?_
  refine g_aload_n C dX4_becomes_21 rfl rfl ?_
  refine mg_4 C dX4_becomes_22 ?_
  refine g_iconst (v := 0) C dX4_becomes_25 rfl ?_
  refine g_bipush (v := 24) C dX4_becomes_26 rfl ?_
  refine g_mcallSv (rest := []) 5 C (ct_copies (F := upd (upd F 2 (nI c.1)) 3 (nI c.2.1)) (X := X) B (j := 26) (k := 4) (pj := 10) (pk := 1) rfl rfl rfl rfl 0 0 24 (by simp only [mLen]; omega) (by simp only [mLen]; omega) (by simp only [mLen]; omega) (by simp only [mLen]; omega) (Or.inl (by decide))) (lw_S q1867 q1868 q107 q1869) (by decide +kernel) ⟨Nat.le_of_ble_eq_true rfl, Nat.le_of_ble_eq_true rfl⟩ ⟨Nat.le_of_ble_eq_true rfl, Nat.le_of_ble_eq_true rfl⟩ rfl rfl (Nat.le_of_ble_eq_true rfl) dX4_becomes_28 ?_
  refine g_aload_n C dX4_becomes_31 rfl rfl ?_
  refine mg_27 C dX4_becomes_32 ?_
  refine g_iconst (v := 0) C dX4_becomes_35 rfl ?_
  refine g_aload_n C dX4_becomes_36 rfl rfl ?_
  refine mg_5 C dX4_becomes_37 ?_
  refine g_iconst (v := 0) C dX4_becomes_40 rfl ?_
  refine g_bipush (v := 24) C dX4_becomes_41 rfl ?_
  refine g_mcallSv (rest := []) 5 C (ct_copies (F := upd (upd F 2 (nI c.1)) 3 (nI c.2.1)) (X := setX X 4 (cpN (X 26) (X 4) 0 0 24)) B (j := 27) (k := 5) (pj := 11) (pk := 2) rfl rfl rfl rfl 0 0 24 (by simp only [mLen]; omega) (by simp only [mLen]; omega) (by simp only [mLen]; omega) (by simp only [mLen]; omega) (Or.inl (by decide))) (lw_S q1867 q1868 q107 q1869) (by decide +kernel) ⟨Nat.le_of_ble_eq_true rfl, Nat.le_of_ble_eq_true rfl⟩ ⟨Nat.le_of_ble_eq_true rfl, Nat.le_of_ble_eq_true rfl⟩ rfl rfl (Nat.le_of_ble_eq_true rfl) dX4_becomes_43 ?_
  refine g_eqI (J := RepM Γ A o ad (upd (upd F 2 (nI c.1)) 3 (nI c.2.1)) (setX (setX X 4 (cpN (X 26) (X 4) 0 0 24)) 5 (cpN (X 27) (X 5) 0 0 24))) rfl ?_
  refine g_aload_n C dX4_becomes_46 rfl rfl ?_
  refine mg_28 C dX4_becomes_47 ?_
  refine g_iconst (v := 0) C dX4_becomes_50 rfl ?_
  refine g_aload_n C dX4_becomes_51 rfl rfl ?_
  refine mg_6 C dX4_becomes_52 ?_
  refine g_iconst (v := 0) C dX4_becomes_55 rfl ?_
  refine g_bipush (v := 24) C dX4_becomes_56 rfl ?_
  refine g_mcallSv (rest := []) 5 C (ct_copies (F := upd (upd F 2 (nI c.1)) 3 (nI c.2.1)) (X := setX (setX X 4 (cpN (X 26) (X 4) 0 0 24)) 5 (cpN (X 27) (X 5) 0 0 24)) B (j := 28) (k := 6) (pj := 12) (pk := 3) rfl rfl rfl rfl 0 0 24 (by simp only [mLen]; omega) (by simp only [mLen]; omega) (by simp only [mLen]; omega) (by simp only [mLen]; omega) (Or.inl (by decide))) (lw_S q1867 q1868 q107 q1869) (by decide +kernel) ⟨Nat.le_of_ble_eq_true rfl, Nat.le_of_ble_eq_true rfl⟩ ⟨Nat.le_of_ble_eq_true rfl, Nat.le_of_ble_eq_true rfl⟩ rfl rfl (Nat.le_of_ble_eq_true rfl) dX4_becomes_58 ?_
  refine g_eqI (J := RepM Γ A o ad (upd (upd F 2 (nI c.1)) 3 (nI c.2.1)) (setX (setX (setX X 4 (cpN (X 26) (X 4) 0 0 24)) 5 (cpN (X 27) (X 5) 0 0 24)) 6 (cpN (X 28) (X 6) 0 0 24))) rfl ?_
  refine g_aload_n C dX4_becomes_61 rfl rfl ?_
  refine mg_29 C dX4_becomes_62 ?_
  refine g_iconst (v := 0) C dX4_becomes_65 rfl ?_
  refine g_aload_n C dX4_becomes_66 rfl rfl ?_
  refine mg_7 C dX4_becomes_67 ?_
  refine g_iconst (v := 0) C dX4_becomes_70 rfl ?_
  refine g_bipush (v := 24) C dX4_becomes_71 rfl ?_
  refine g_mcallSv (rest := []) 5 C (ct_copies (F := upd (upd F 2 (nI c.1)) 3 (nI c.2.1)) (X := setX (setX (setX X 4 (cpN (X 26) (X 4) 0 0 24)) 5 (cpN (X 27) (X 5) 0 0 24)) 6 (cpN (X 28) (X 6) 0 0 24)) B (j := 29) (k := 7) (pj := 13) (pk := 4) rfl rfl rfl rfl 0 0 24 (by simp only [mLen]; omega) (by simp only [mLen]; omega) (by simp only [mLen]; omega) (by simp only [mLen]; omega) (Or.inl (by decide))) (lw_S q1867 q1868 q107 q1869) (by decide +kernel) ⟨Nat.le_of_ble_eq_true rfl, Nat.le_of_ble_eq_true rfl⟩ ⟨Nat.le_of_ble_eq_true rfl, Nat.le_of_ble_eq_true rfl⟩ rfl rfl (Nat.le_of_ble_eq_true rfl) dX4_becomes_73 ?_
  refine g_eqI (J := RepM Γ A o ad (upd (upd F 2 (nI c.1)) 3 (nI c.2.1)) (setX (setX (setX (setX X 4 (cpN (X 26) (X 4) 0 0 24)) 5 (cpN (X 27) (X 5) 0 0 24)) 6 (cpN (X 28) (X 6) 0 0 24)) 7 (cpN (X 29) (X 7) 0 0 24))) rfl ?_
  refine g_aload_n C dX4_becomes_76 rfl rfl ?_
  refine g_aload_n C dX4_becomes_77 rfl rfl ?_
  refine mg_30 C dX4_becomes_78 ?_
  refine g_topi (y := nI c.2.2.1) (h30) ?_
  refine mp_8 C dX4_becomes_81 ?_
  refine g_aload_n C dX4_becomes_84 rfl rfl ?_
  refine mg_31 C dX4_becomes_85 ?_
  refine g_iconst (v := 0) C dX4_becomes_88 rfl ?_
  refine g_aload_n C dX4_becomes_89 rfl rfl ?_
  refine mg_9 C dX4_becomes_90 ?_
  refine g_iconst (v := 0) C dX4_becomes_93 rfl ?_
  refine g_bipush (v := 10) C dX4_becomes_94 rfl ?_
  refine g_mcallSv (rest := []) 5 C (ct_copies (F := upd (upd (upd F 2 (nI c.1)) 3 (nI c.2.1)) 8 (nI c.2.2.1)) (X := setX (setX (setX (setX X 4 (cpN (X 26) (X 4) 0 0 24)) 5 (cpN (X 27) (X 5) 0 0 24)) 6 (cpN (X 28) (X 6) 0 0 24)) 7 (cpN (X 29) (X 7) 0 0 24)) B (j := 31) (k := 9) (pj := 14) (pk := 5) rfl rfl rfl rfl 0 0 10 (by simp only [mLen]; omega) (by simp only [mLen]; omega) (by simp only [mLen]; omega) (by simp only [mLen]; omega) (Or.inl (by decide))) (lw_S q1867 q1868 q107 q1869) (by decide +kernel) ⟨Nat.le_of_ble_eq_true rfl, Nat.le_of_ble_eq_true rfl⟩ ⟨Nat.le_of_ble_eq_true rfl, Nat.le_of_ble_eq_true rfl⟩ rfl rfl (Nat.le_of_ble_eq_true rfl) dX4_becomes_96 ?_
  refine g_eqI (J := RepM Γ A o ad (upd (upd (upd F 2 (nI c.1)) 3 (nI c.2.1)) 8 (nI c.2.2.1)) (setX (setX (setX (setX (setX X 4 (cpN (X 26) (X 4) 0 0 24)) 5 (cpN (X 27) (X 5) 0 0 24)) 6 (cpN (X 28) (X 6) 0 0 24)) 7 (cpN (X 29) (X 7) 0 0 24)) 9 (cpN (X 31) (X 9) 0 0 10))) rfl ?_
  refine g_aload_n C dX4_becomes_99 rfl rfl ?_
  refine g_aload_n C dX4_becomes_100 rfl rfl ?_
  refine mg_32 C dX4_becomes_101 ?_
  refine g_topi (y := nI c.2.2.2) (h32) ?_
  refine mp_10 C dX4_becomes_104 ?_
  refine g_aload_n C dX4_becomes_107 rfl rfl ?_
  refine mg_33 C dX4_becomes_108 ?_
  refine g_iconst (v := 0) C dX4_becomes_111 rfl ?_
  refine g_aload_n C dX4_becomes_112 rfl rfl ?_
  refine mg_11 C dX4_becomes_113 ?_
  refine g_iconst (v := 0) C dX4_becomes_116 rfl ?_
  refine g_iconst (v := 4) C dX4_becomes_117 rfl ?_
  refine g_mcallSv (rest := []) 5 C (ct_copies (F := upd (upd (upd (upd F 2 (nI c.1)) 3 (nI c.2.1)) 8 (nI c.2.2.1)) 10 (nI c.2.2.2)) (X := setX (setX (setX (setX (setX X 4 (cpN (X 26) (X 4) 0 0 24)) 5 (cpN (X 27) (X 5) 0 0 24)) 6 (cpN (X 28) (X 6) 0 0 24)) 7 (cpN (X 29) (X 7) 0 0 24)) 9 (cpN (X 31) (X 9) 0 0 10)) B (j := 33) (k := 11) (pj := 15) (pk := 6) rfl rfl rfl rfl 0 0 4 (by simp only [mLen]; omega) (by simp only [mLen]; omega) (by simp only [mLen]; omega) (by simp only [mLen]; omega) (Or.inl (by decide))) (lw_S q1867 q1868 q107 q1869) (by decide +kernel) ⟨Nat.le_of_ble_eq_true rfl, Nat.le_of_ble_eq_true rfl⟩ ⟨Nat.le_of_ble_eq_true rfl, Nat.le_of_ble_eq_true rfl⟩ rfl rfl (Nat.le_of_ble_eq_true rfl) dX4_becomes_118 ?_
  refine g_eqI (J := RepM Γ A o ad (upd (upd (upd (upd F 2 (nI c.1)) 3 (nI c.2.1)) 8 (nI c.2.2.1)) 10 (nI c.2.2.2)) (setX (setX (setX (setX (setX (setX X 4 (cpN (X 26) (X 4) 0 0 24)) 5 (cpN (X 27) (X 5) 0 0 24)) 6 (cpN (X 28) (X 6) 0 0 24)) 7 (cpN (X 29) (X 7) 0 0 24)) 9 (cpN (X 31) (X 9) 0 0 10)) 11 (cpN (X 33) (X 11) 0 0 4))) rfl ?_
  refine g_iconst (v := 0) C dX4_becomes_121 rfl ?_
  refine g_istore_n (lv' := [some (.ref o), some (.int 0)]) C dX4_becomes_122 rfl (by decide) rfl ?_
  refine g_eqI (J := RepM Γ A o ad (upd (upd (upd (upd F 2 (nI c.1)) 3 (nI c.2.1)) 8 (nI c.2.2.1)) 10 (nI c.2.2.2)) (setX (setX (setX (setX (setX (setX (setX X 4 (cpN (X 26) (X 4) 0 0 24)) 5 (cpN (X 27) (X 5) 0 0 24)) 6 (cpN (X 28) (X 6) 0 0 24)) 7 (cpN (X 29) (X 7) 0 0 24)) 9 (cpN (X 31) (X 9) 0 0 10)) 11 (cpN (X 33) (X 11) 0 0 4)) 13 (trN (X 35) (X 13) 0))) (congrArg (RepM Γ A o ad _) (setX_id _ 13).symm) ?_
  refine g_for (P := fun i => G E (RepM Γ A o ad (upd (upd (upd (upd F 2 (nI c.1)) 3 (nI c.2.1)) 8 (nI c.2.2.1)) 10 (nI c.2.2.2)) (setX (setX (setX (setX (setX (setX (setX X 4 (cpN (X 26) (X 4) 0 0 24)) 5 (cpN (X 27) (X 5) 0 0 24)) 6 (cpN (X 28) (X 6) 0 0 24)) 7 (cpN (X 29) (X 7) 0 0 24)) 9 (cpN (X 31) (X 9) 0 0 10)) 11 (cpN (X 33) (X 11) 0 0 4)) 13 (trN (X 35) (X 13) i))) 0 0 123 [some (.ref o), some (.int (nI i))] []) 3 ?_ ?_ 0 (Nat.zero_le _)
  · refine g_iload_n C dX4_becomes_123 rfl rfl ?_
    refine g_iconst (v := 3) C dX4_becomes_124 rfl ?_
    refine gN_ge (a := 3) (b := 3) 159 C dX4_becomes_125 rfl (by omega) (by omega) (fun c125 => ?_) (fun c125 => ?_)
    · refine g_iconst (v := 0) C dX4_becomes_159 rfl ?_
      refine g_istore_n (lv' := [some (.ref o), some (.int 0)]) C dX4_becomes_160 rfl (by decide) rfl ?_
      refine g_eqI (J := RepM Γ A o ad (upd (upd (upd (upd F 2 (nI c.1)) 3 (nI c.2.1)) 8 (nI c.2.2.1)) 10 (nI c.2.2.2)) (setX (setX (setX (setX (setX (setX (setX (setX X 4 (cpN (X 26) (X 4) 0 0 24)) 5 (cpN (X 27) (X 5) 0 0 24)) 6 (cpN (X 28) (X 6) 0 0 24)) 7 (cpN (X 29) (X 7) 0 0 24)) 9 (cpN (X 31) (X 9) 0 0 10)) 11 (cpN (X 33) (X 11) 0 0 4)) 13 (trN (X 35) (X 13) 3)) 1 (zfN (X 1) 0))) (congrArg (RepM Γ A o ad _) (setX_id _ 1).symm) ?_
      refine g_for (P := fun i => G E (RepM Γ A o ad (upd (upd (upd (upd F 2 (nI c.1)) 3 (nI c.2.1)) 8 (nI c.2.2.1)) 10 (nI c.2.2.2)) (setX (setX (setX (setX (setX (setX (setX (setX X 4 (cpN (X 26) (X 4) 0 0 24)) 5 (cpN (X 27) (X 5) 0 0 24)) 6 (cpN (X 28) (X 6) 0 0 24)) 7 (cpN (X 29) (X 7) 0 0 24)) 9 (cpN (X 31) (X 9) 0 0 10)) 11 (cpN (X 33) (X 11) 0 0 4)) 13 (trN (X 35) (X 13) 3)) 1 (zfN (X 1) i))) 0 0 161 [some (.ref o), some (.int (nI i))] []) 677 ?_ ?_ 0 (Nat.zero_le _)
      · refine g_iload_n C dX4_becomes_161 rfl rfl ?_
        refine g_sipush (v := 677) C dX4_becomes_162 rfl ?_
        refine gN_ge (a := 677) (b := 677) 181 C dX4_becomes_165 rfl (by omega) (by omega) (fun c165 => ?_) (fun c165 => ?_)
        · refine g_iconst (v := 0) C dX4_becomes_181 rfl ?_
          refine g_istore_n (lv' := [some (.ref o), some (.int 0)]) C dX4_becomes_182 rfl (by decide) rfl ?_
          refine g_eqI (J := RepM Γ A o ad (upd (upd (upd (upd F 2 (nI c.1)) 3 (nI c.2.1)) 8 (nI c.2.2.1)) 10 (nI c.2.2.2)) (setX (setX (setX (setX (setX (setX (setX (setX (setX X 4 (cpN (X 26) (X 4) 0 0 24)) 5 (cpN (X 27) (X 5) 0 0 24)) 6 (cpN (X 28) (X 6) 0 0 24)) 7 (cpN (X 29) (X 7) 0 0 24)) 9 (cpN (X 31) (X 9) 0 0 10)) 11 (cpN (X 33) (X 11) 0 0 4)) 13 (trN (X 35) (X 13) 3)) 1 (hyN X (zfN (X 1) 677) 0)) 12 (mbN (X 34) (X 12) 0))) (congrArg (RepM Γ A o ad _) (setX_id _ 12).symm) ?_
          refine g_for (P := fun i => G E (RepM Γ A o ad (upd (upd (upd (upd F 2 (nI c.1)) 3 (nI c.2.1)) 8 (nI c.2.2.1)) 10 (nI c.2.2.2)) (setX (setX (setX (setX (setX (setX (setX (setX (setX X 4 (cpN (X 26) (X 4) 0 0 24)) 5 (cpN (X 27) (X 5) 0 0 24)) 6 (cpN (X 28) (X 6) 0 0 24)) 7 (cpN (X 29) (X 7) 0 0 24)) 9 (cpN (X 31) (X 9) 0 0 10)) 11 (cpN (X 33) (X 11) 0 0 4)) 13 (trN (X 35) (X 13) 3)) 1 (hyN X (zfN (X 1) 677) i)) 12 (mbN (X 34) (X 12) i))) 0 0 183 [some (.ref o), some (.int (nI i))] []) c.2.2.2 ?_ ?_ 0 (Nat.zero_le _)
          · refine g_iload_n C dX4_becomes_183 rfl rfl ?_
            refine g_aload_n C dX4_becomes_184 rfl rfl ?_
            refine mg_10 C dX4_becomes_185 ?_
            refine g_topi (y := nI c.2.2.2) rfl ?_
            refine gN_ge (a := c.2.2.2) (b := c.2.2.2) 273 C dX4_becomes_188 rfl (by omega) (by omega) (fun c188 => ?_) (fun c188 => ?_)
            · refine g_aload_n C dX4_becomes_273 rfl rfl ?_
              refine g_iconst (v := 0) C dX4_becomes_274 rfl ?_
              refine mp_41 C dX4_becomes_275 ?_
              refine g_aload_n C dX4_becomes_278 rfl rfl ?_
              refine mg_44 C dX4_becomes_279 ?_
              refine g_iconst (v := 0) C dX4_becomes_282 rfl ?_
              refine g_iconst (v := 0) C dX4_becomes_283 rfl ?_
              refine ms_44 (i := 0) C dX4_becomes_284 (by omega) rfl ?_
              refine g_eqI (J := RepM Γ A o ad (upd (upd (upd (upd (upd F 2 (nI c.1)) 3 (nI c.2.1)) 8 (nI c.2.2.1)) 10 (nI c.2.2.2)) 41 0) (setX (setX (setX (setX (setX (setX (setX (setX (setX (setX X 4 (cpN (X 26) (X 4) 0 0 24)) 5 (cpN (X 27) (X 5) 0 0 24)) 6 (cpN (X 28) (X 6) 0 0 24)) 7 (cpN (X 29) (X 7) 0 0 24)) 9 (cpN (X 31) (X 9) 0 0 10)) 11 (cpN (X 33) (X 11) 0 0 4)) 13 (trN (X 35) (X 13) 3)) 1 (hyN X (zfN (X 1) 677) c.2.2.2)) 12 (mbN (X 34) (X 12) c.2.2.2)) 44 (upd (X 44) 0 0))) rfl ?_
              refine g_aload_n C dX4_becomes_285 rfl rfl ?_
              refine mg_44 C dX4_becomes_286 ?_
              refine g_iconst (v := 1) C dX4_becomes_289 rfl ?_
              refine g_iconst (v := 0) C dX4_becomes_290 rfl ?_
              refine ms_44 (i := 1) C dX4_becomes_291 (by omega) rfl ?_
              refine g_eqI (J := RepM Γ A o ad (upd (upd (upd (upd (upd F 2 (nI c.1)) 3 (nI c.2.1)) 8 (nI c.2.2.1)) 10 (nI c.2.2.2)) 41 0) (setX (setX (setX (setX (setX (setX (setX (setX (setX (setX X 4 (cpN (X 26) (X 4) 0 0 24)) 5 (cpN (X 27) (X 5) 0 0 24)) 6 (cpN (X 28) (X 6) 0 0 24)) 7 (cpN (X 29) (X 7) 0 0 24)) 9 (cpN (X 31) (X 9) 0 0 10)) 11 (cpN (X 33) (X 11) 0 0 4)) 13 (trN (X 35) (X 13) 3)) 1 (hyN X (zfN (X 1) 677) c.2.2.2)) 12 (mbN (X 34) (X 12) c.2.2.2)) 44 (upd (upd (X 44) 0 0) 1 0))) (congrArg (RepM Γ A o ad _) (by rw [setX_self, setX_setX])) ?_
              exact g_vret C R (Nat.le_refl _) (Nat.le_refl _) dX4_becomes_292 (fun H h => ⟨rfl, h⟩)
            · exfalso; omega
          · intro i hi ih
            replace ih : G E (RepM Γ A o ad (upd (upd (upd (upd F 2 (nI c.1)) 3 (nI c.2.1)) 8 (nI c.2.2.1)) 10 (nI c.2.2.2)) (setX (setX (setX (setX (setX (setX (setX (setX (setX X 4 (cpN (X 26) (X 4) 0 0 24)) 5 (cpN (X 27) (X 5) 0 0 24)) 6 (cpN (X 28) (X 6) 0 0 24)) 7 (cpN (X 29) (X 7) 0 0 24)) 9 (cpN (X 31) (X 9) 0 0 10)) 11 (cpN (X 33) (X 11) 0 0 4)) 13 (trN (X 35) (X 13) 3)) 1 (hyN X (zfN (X 1) 677) (i + 1))) 12 (mbN (X 34) (X 12) (i + 1)))) 0 0 183 [some (.ref o), some (.int (nI (i + 1)))] [] := ih
            refine g_iload_n C dX4_becomes_183 rfl rfl ?_
            refine g_aload_n C dX4_becomes_184 rfl rfl ?_
            refine mg_10 C dX4_becomes_185 ?_
            refine g_topi (y := nI c.2.2.2) rfl ?_
            refine gN_ge (a := i) (b := c.2.2.2) 273 C dX4_becomes_188 rfl (by omega) (by omega) (fun c188 => ?_) (fun c188 => ?_)
            · exfalso; omega
            · refine g_aload_n C dX4_becomes_191 rfl rfl ?_
              refine mg_12 C dX4_becomes_192 ?_
              refine g_iload_n C dX4_becomes_195 rfl rfl ?_
              refine g_aload_n C dX4_becomes_196 rfl rfl ?_
              refine mg_34 C dX4_becomes_197 ?_
              refine g_iload_n C dX4_becomes_200 rfl rfl ?_
              refine ml_34 (i := i) C dX4_becomes_201 (by omega) ?_
              refine g_topi (y := X 34 i) rfl ?_
              refine ms_12 (i := i) C dX4_becomes_202 (by omega) (nar01 (D.2.2.2.2.2.2.1 i hi)) ?_
              refine g_eqI (J := RepM Γ A o ad (upd (upd (upd (upd F 2 (nI c.1)) 3 (nI c.2.1)) 8 (nI c.2.2.1)) 10 (nI c.2.2.2)) (setX (setX (setX (setX (setX (setX (setX (setX (setX X 4 (cpN (X 26) (X 4) 0 0 24)) 5 (cpN (X 27) (X 5) 0 0 24)) 6 (cpN (X 28) (X 6) 0 0 24)) 7 (cpN (X 29) (X 7) 0 0 24)) 9 (cpN (X 31) (X 9) 0 0 10)) 11 (cpN (X 33) (X 11) 0 0 4)) 13 (trN (X 35) (X 13) 3)) 1 (hyN X (zfN (X 1) 677) i)) 12 (upd (mbN (X 34) (X 12) i) i (X 34 i)))) (congrArg (RepM Γ A o ad _) (by rw [setX_self, setX_setX])) ?_
              refine g_aload_n C dX4_becomes_203 rfl rfl ?_
              refine mg_1 C dX4_becomes_204 ?_
              refine g_sipush (v := 661) C dX4_becomes_207 rfl ?_
              refine g_iload_n C dX4_becomes_210 rfl rfl ?_
              refine g_iadd C dX4_becomes_211 ?_
              refine g_topi (y := nI (661 + i)) (nI_add 661 i) ?_
              refine g_iconst (v := 1) C dX4_becomes_212 rfl ?_
              refine g_aload_n C dX4_becomes_213 rfl rfl ?_
              refine mg_11 C dX4_becomes_214 ?_
              refine g_iload_n C dX4_becomes_217 rfl rfl ?_
              refine ml_11 (i := i) C dX4_becomes_218 (by omega) ?_
              refine g_topi (y := (cpN (X 33) (X 11) 0 0 4) i) rfl ?_
              refine g_topi (y := X 33 i) (by rw [cpN_eq, pk_cpy_in (by omega) (by omega), Nat.zero_add, Nat.sub_zero]) ?_
              refine g_ishl C dX4_becomes_219 ?_
              refine g_iconst (v := 1) C dX4_becomes_220 rfl ?_
              refine g_isub C dX4_becomes_221 ?_
              refine g_topi (y := hvI (X 33 i)) (rfl) ?_
              refine ms_1 (i := 661 + i) C dX4_becomes_222 (by omega) ?_
              refine g_eqI (J := RepM Γ A o ad (upd (upd (upd (upd F 2 (nI c.1)) 3 (nI c.2.1)) 8 (nI c.2.2.1)) 10 (nI c.2.2.2)) (setX (setX (setX (setX (setX (setX (setX (setX (setX X 4 (cpN (X 26) (X 4) 0 0 24)) 5 (cpN (X 27) (X 5) 0 0 24)) 6 (cpN (X 28) (X 6) 0 0 24)) 7 (cpN (X 29) (X 7) 0 0 24)) 9 (cpN (X 31) (X 9) 0 0 10)) 11 (cpN (X 33) (X 11) 0 0 4)) 13 (trN (X 35) (X 13) 3)) 1 (upd (hyN X (zfN (X 1) 677) i) (661 + i) (hvI (X 33 i)))) 12 (upd (mbN (X 34) (X 12) i) i (X 34 i)))) (congrArg (RepM Γ A o ad _) (setX_in _ (by decide) _ _ _)) ?_
              refine g_aload_n C dX4_becomes_223 rfl rfl ?_
              refine mg_1 C dX4_becomes_224 ?_
              refine g_sipush (v := 665) C dX4_becomes_227 rfl ?_
              refine g_iload_n C dX4_becomes_230 rfl rfl ?_
              refine g_iadd C dX4_becomes_231 ?_
              refine g_topi (y := nI (665 + i)) (nI_add 665 i) ?_
              refine g_aload_n C dX4_becomes_232 rfl rfl ?_
              refine mg_1 C dX4_becomes_233 ?_
              refine g_sipush (v := 661) C dX4_becomes_236 rfl ?_
              refine g_iload_n C dX4_becomes_239 rfl rfl ?_
              refine g_iadd C dX4_becomes_240 ?_
              refine g_topi (y := nI (661 + i)) (nI_add 661 i) ?_
              refine ml_1 (i := 661 + i) C dX4_becomes_241 (by omega) ?_
              refine g_topi (y := (upd (hyN X (zfN (X 1) 677) i) (661 + i) (hvI (X 33 i))) (661 + i)) rfl ?_
              refine g_topi (y := hvI (X 33 i)) (upd_self _ _ _) ?_
              refine ms_1 (i := 665 + i) C dX4_becomes_242 (by omega) ?_
              refine g_eqI (J := RepM Γ A o ad (upd (upd (upd (upd F 2 (nI c.1)) 3 (nI c.2.1)) 8 (nI c.2.2.1)) 10 (nI c.2.2.2)) (setX (setX (setX (setX (setX (setX (setX (setX (setX X 4 (cpN (X 26) (X 4) 0 0 24)) 5 (cpN (X 27) (X 5) 0 0 24)) 6 (cpN (X 28) (X 6) 0 0 24)) 7 (cpN (X 29) (X 7) 0 0 24)) 9 (cpN (X 31) (X 9) 0 0 10)) 11 (cpN (X 33) (X 11) 0 0 4)) 13 (trN (X 35) (X 13) 3)) 1 (upd (upd (hyN X (zfN (X 1) 677) i) (661 + i) (hvI (X 33 i))) (665 + i) (hvI (X 33 i)))) 12 (upd (mbN (X 34) (X 12) i) i (X 34 i)))) (congrArg (RepM Γ A o ad _) (setX_in _ (by decide) _ _ _)) ?_
              refine g_aload_n C dX4_becomes_243 rfl rfl ?_
              refine mg_1 C dX4_becomes_244 ?_
              refine g_sipush (v := 669) C dX4_becomes_247 rfl ?_
              refine g_iload_n C dX4_becomes_250 rfl rfl ?_
              refine g_iadd C dX4_becomes_251 ?_
              refine g_topi (y := nI (669 + i)) (nI_add 669 i) ?_
              refine g_aload_n C dX4_becomes_252 rfl rfl ?_
              refine mg_12 C dX4_becomes_253 ?_
              refine g_iload_n C dX4_becomes_256 rfl rfl ?_
              refine ml_12 (i := i) C dX4_becomes_257 (by omega) ?_
              refine g_topi (y := (upd (mbN (X 34) (X 12) i) i (X 34 i)) i) rfl ?_
              refine g_topi (y := X 34 i) (upd_self _ _ _) ?_
              refine g_if_eq 265 C dX4_becomes_258 rfl (fun c258 => ?_) (fun c258 => ?_)
              · refine g_iconst (v := 0) C dX4_becomes_265 rfl ?_
                refine g_topi (y := nzI (X 34 i)) (by rw [nzI, if_pos c258]) ?_
                refine ms_1 (i := 669 + i) C dX4_becomes_266 (by omega) ?_
                refine g_eqI (J := RepM Γ A o ad (upd (upd (upd (upd F 2 (nI c.1)) 3 (nI c.2.1)) 8 (nI c.2.2.1)) 10 (nI c.2.2.2)) (setX (setX (setX (setX (setX (setX (setX (setX (setX X 4 (cpN (X 26) (X 4) 0 0 24)) 5 (cpN (X 27) (X 5) 0 0 24)) 6 (cpN (X 28) (X 6) 0 0 24)) 7 (cpN (X 29) (X 7) 0 0 24)) 9 (cpN (X 31) (X 9) 0 0 10)) 11 (cpN (X 33) (X 11) 0 0 4)) 13 (trN (X 35) (X 13) 3)) 1 (upd (upd (upd (hyN X (zfN (X 1) 677) i) (661 + i) (hvI (X 33 i))) (665 + i) (hvI (X 33 i))) (669 + i) (nzI (X 34 i)))) 12 (upd (mbN (X 34) (X 12) i) i (X 34 i)))) (congrArg (RepM Γ A o ad _) (setX_in _ (by decide) _ _ _)) ?_
                refine g_inc1 (x := i) (lv' := [some (.ref o), some (.int (nI (i + 1)))]) C dX4_becomes_267 rfl (by decide) rfl ?_
                refine g_goto 183 C dX4_becomes_270 rfl ?_
                exact ih
              · refine g_iconst (v := 1) C dX4_becomes_261 rfl ?_
                refine g_goto 266 C dX4_becomes_262 rfl ?_
                refine g_topi (y := nzI (X 34 i)) (by rw [nzI, if_neg c258]) ?_
                refine ms_1 (i := 669 + i) C dX4_becomes_266 (by omega) ?_
                refine g_eqI (J := RepM Γ A o ad (upd (upd (upd (upd F 2 (nI c.1)) 3 (nI c.2.1)) 8 (nI c.2.2.1)) 10 (nI c.2.2.2)) (setX (setX (setX (setX (setX (setX (setX (setX (setX X 4 (cpN (X 26) (X 4) 0 0 24)) 5 (cpN (X 27) (X 5) 0 0 24)) 6 (cpN (X 28) (X 6) 0 0 24)) 7 (cpN (X 29) (X 7) 0 0 24)) 9 (cpN (X 31) (X 9) 0 0 10)) 11 (cpN (X 33) (X 11) 0 0 4)) 13 (trN (X 35) (X 13) 3)) 1 (upd (upd (upd (hyN X (zfN (X 1) 677) i) (661 + i) (hvI (X 33 i))) (665 + i) (hvI (X 33 i))) (669 + i) (nzI (X 34 i)))) 12 (upd (mbN (X 34) (X 12) i) i (X 34 i)))) (congrArg (RepM Γ A o ad _) (setX_in _ (by decide) _ _ _)) ?_
                refine g_inc1 (x := i) (lv' := [some (.ref o), some (.int (nI (i + 1)))]) C dX4_becomes_267 rfl (by decide) rfl ?_
                refine g_goto 183 C dX4_becomes_270 rfl ?_
                exact ih
        · exfalso; omega
      · intro i hi ih
        replace ih : G E (RepM Γ A o ad (upd (upd (upd (upd F 2 (nI c.1)) 3 (nI c.2.1)) 8 (nI c.2.2.1)) 10 (nI c.2.2.2)) (setX (setX (setX (setX (setX (setX (setX (setX X 4 (cpN (X 26) (X 4) 0 0 24)) 5 (cpN (X 27) (X 5) 0 0 24)) 6 (cpN (X 28) (X 6) 0 0 24)) 7 (cpN (X 29) (X 7) 0 0 24)) 9 (cpN (X 31) (X 9) 0 0 10)) 11 (cpN (X 33) (X 11) 0 0 4)) 13 (trN (X 35) (X 13) 3)) 1 (zfN (X 1) (i + 1)))) 0 0 161 [some (.ref o), some (.int (nI (i + 1)))] [] := ih
        refine g_iload_n C dX4_becomes_161 rfl rfl ?_
        refine g_sipush (v := 677) C dX4_becomes_162 rfl ?_
        refine gN_ge (a := i) (b := 677) 181 C dX4_becomes_165 rfl (by omega) (by omega) (fun c165 => ?_) (fun c165 => ?_)
        · exfalso; omega
        · refine g_aload_n C dX4_becomes_168 rfl rfl ?_
          refine mg_1 C dX4_becomes_169 ?_
          refine g_iload_n C dX4_becomes_172 rfl rfl ?_
          refine g_iconst (v := 0) C dX4_becomes_173 rfl ?_
          refine ms_1 (i := i) C dX4_becomes_174 (by omega) ?_
          refine g_eqI (J := RepM Γ A o ad (upd (upd (upd (upd F 2 (nI c.1)) 3 (nI c.2.1)) 8 (nI c.2.2.1)) 10 (nI c.2.2.2)) (setX (setX (setX (setX (setX (setX (setX (setX X 4 (cpN (X 26) (X 4) 0 0 24)) 5 (cpN (X 27) (X 5) 0 0 24)) 6 (cpN (X 28) (X 6) 0 0 24)) 7 (cpN (X 29) (X 7) 0 0 24)) 9 (cpN (X 31) (X 9) 0 0 10)) 11 (cpN (X 33) (X 11) 0 0 4)) 13 (trN (X 35) (X 13) 3)) 1 (upd (zfN (X 1) i) i 0))) (congrArg (RepM Γ A o ad _) (by rw [setX_self, setX_setX])) ?_
          refine g_inc1 (x := i) (lv' := [some (.ref o), some (.int (nI (i + 1)))]) C dX4_becomes_175 rfl (by decide) rfl ?_
          refine g_goto 161 C dX4_becomes_178 rfl ?_
          exact ih
    · exfalso; omega
  · intro i hi ih
    replace ih : G E (RepM Γ A o ad (upd (upd (upd (upd F 2 (nI c.1)) 3 (nI c.2.1)) 8 (nI c.2.2.1)) 10 (nI c.2.2.2)) (setX (setX (setX (setX (setX (setX (setX X 4 (cpN (X 26) (X 4) 0 0 24)) 5 (cpN (X 27) (X 5) 0 0 24)) 6 (cpN (X 28) (X 6) 0 0 24)) 7 (cpN (X 29) (X 7) 0 0 24)) 9 (cpN (X 31) (X 9) 0 0 10)) 11 (cpN (X 33) (X 11) 0 0 4)) 13 (trN (X 35) (X 13) (i + 1)))) 0 0 123 [some (.ref o), some (.int (nI (i + 1)))] [] := ih
    refine g_iload_n C dX4_becomes_123 rfl rfl ?_
    refine g_iconst (v := 3) C dX4_becomes_124 rfl ?_
    refine gN_ge (a := i) (b := 3) 159 C dX4_becomes_125 rfl (by omega) (by omega) (fun c125 => ?_) (fun c125 => ?_)
    · exfalso; omega
    · refine g_aload_n C dX4_becomes_128 rfl rfl ?_
      refine mg_13 C dX4_becomes_129 ?_
      refine g_iload_n C dX4_becomes_132 rfl rfl ?_
      refine g_aload_n C dX4_becomes_133 rfl rfl ?_
      refine mg_35 C dX4_becomes_134 ?_
      refine g_iload_n C dX4_becomes_137 rfl rfl ?_
      refine ml_35 (i := i) C dX4_becomes_138 (by omega) ?_
      refine g_topi (y := X 35 i) rfl ?_
      refine g_if_ne 146 C dX4_becomes_139 rfl (fun c139 => ?_) (fun c139 => ?_)
      · refine g_aload_n C dX4_becomes_146 rfl rfl ?_
        refine mg_35 C dX4_becomes_147 ?_
        refine g_iload_n C dX4_becomes_150 rfl rfl ?_
        refine ml_35 (i := i) C dX4_becomes_151 (by omega) ?_
        refine g_topi (y := X 35 i) rfl ?_
        refine g_topi (y := tmV (X 35 i)) (by rw [tmV, if_neg c139]) ?_
        refine ms_13 (i := i) C dX4_becomes_152 (by omega) ?_
        refine g_eqI (J := RepM Γ A o ad (upd (upd (upd (upd F 2 (nI c.1)) 3 (nI c.2.1)) 8 (nI c.2.2.1)) 10 (nI c.2.2.2)) (setX (setX (setX (setX (setX (setX (setX X 4 (cpN (X 26) (X 4) 0 0 24)) 5 (cpN (X 27) (X 5) 0 0 24)) 6 (cpN (X 28) (X 6) 0 0 24)) 7 (cpN (X 29) (X 7) 0 0 24)) 9 (cpN (X 31) (X 9) 0 0 10)) 11 (cpN (X 33) (X 11) 0 0 4)) 13 (upd (trN (X 35) (X 13) i) i (tmV (X 35 i))))) (congrArg (RepM Γ A o ad _) (by rw [setX_self, setX_setX])) ?_
        refine g_inc1 (x := i) (lv' := [some (.ref o), some (.int (nI (i + 1)))]) C dX4_becomes_153 rfl (by decide) rfl ?_
        refine g_goto 123 C dX4_becomes_156 rfl ?_
        exact ih
      · refine g_iconst (v := 2) C dX4_becomes_142 rfl ?_
        refine g_goto 152 C dX4_becomes_143 rfl ?_
        refine g_topi (y := tmV (X 35 i)) (by rw [tmV, if_pos c139]) ?_
        refine ms_13 (i := i) C dX4_becomes_152 (by omega) ?_
        refine g_eqI (J := RepM Γ A o ad (upd (upd (upd (upd F 2 (nI c.1)) 3 (nI c.2.1)) 8 (nI c.2.2.1)) 10 (nI c.2.2.2)) (setX (setX (setX (setX (setX (setX (setX X 4 (cpN (X 26) (X 4) 0 0 24)) 5 (cpN (X 27) (X 5) 0 0 24)) 6 (cpN (X 28) (X 6) 0 0 24)) 7 (cpN (X 29) (X 7) 0 0 24)) 9 (cpN (X 31) (X 9) 0 0 10)) 11 (cpN (X 33) (X 11) 0 0 4)) 13 (upd (trN (X 35) (X 13) i) i (tmV (X 35 i))))) (congrArg (RepM Γ A o ad _) (by rw [setX_self, setX_setX])) ?_
        refine g_inc1 (x := i) (lv' := [some (.ref o), some (.int (nI (i + 1)))]) C dX4_becomes_153 rfl (by decide) rfl ?_
        refine g_goto 123 C dX4_becomes_156 rfl ?_
        exact ih
