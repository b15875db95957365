set_option maxRecDepth 100000 in
theorem ct_chkN {l : Launch} {Γ : Gm} {A : Nat → Prop} {ρ : State → Prop} (B : Bs l A ρ) (i n : Nat) (hi : i < n) (hn : n < 2 ^ 31) : CtP l Γ A ρ yJ14_checkIndex cJ14_checkIndex 3 (some .int) 0 0 [.int (nI i), .int (nI n), .null] (.int (nI i)) := by
  intro J
  refine Ct.of B.1 B.2 (by decide) [some (.int (nI i)), some (.int (nI n)), some (.null)] (Nat.le_of_ble_eq_true rfl) rfl ?_
  intro E hE C R
  subst hE
  refine g_iload_n C dJ14_checkIndex_0 rfl rfl ?_
  refine g_if_lt 9 C dJ14_checkIndex_1 rfl (fun c1 => ?_) (fun c1 => ?_)
  · exact absurd c1 (nI_pos (by omega))
  · refine g_iload_n C dJ14_checkIndex_4 rfl rfl ?_
    refine g_iload_n C dJ14_checkIndex_5 rfl rfl ?_
    refine gN_lt (a := i) (b := n) 16 C dJ14_checkIndex_6 rfl (by omega) (by omega) (fun c6 => ?_) (fun c6 => ?_)
    · refine g_iload_n C dJ14_checkIndex_16 rfl rfl ?_
      exact g_iret C R (Nat.le_refl _) (Nat.le_refl _) dJ14_checkIndex_17 (fun H h => ⟨rfl, h⟩)
    · exfalso; omega
set_option maxRecDepth 100000 in
theorem ct_chkR {l : Launch} {Γ : Gm} {A : Nat → Prop} {ρ : State → Prop} (B : Bs l A ρ) {t : Nat} (i n : Nat) (hi : i < n) (hn : n < 2 ^ 31) : CtP l Γ A ρ yJ14_checkIndex cJ14_checkIndex 3 (some .int) 0 0 [.int (nI i), .int (nI n), .ref t] (.int (nI i)) := by
  intro J
  refine Ct.of B.1 B.2 (by decide) [some (.int (nI i)), some (.int (nI n)), some (.ref t)] (Nat.le_of_ble_eq_true rfl) rfl ?_
  intro E hE C R
  subst hE
  refine g_iload_n C dJ14_checkIndex_0 rfl rfl ?_
  refine g_if_lt 9 C dJ14_checkIndex_1 rfl (fun c1 => ?_) (fun c1 => ?_)
  · exact absurd c1 (nI_pos (by omega))
  · refine g_iload_n C dJ14_checkIndex_4 rfl rfl ?_
    refine g_iload_n C dJ14_checkIndex_5 rfl rfl ?_
    refine gN_lt (a := i) (b := n) 16 C dJ14_checkIndex_6 rfl (by omega) (by omega) (fun c6 => ?_) (fun c6 => ?_)
    · refine g_iload_n C dJ14_checkIndex_16 rfl rfl ?_
      exact g_iret C R (Nat.le_refl _) (Nat.le_refl _) dJ14_checkIndex_17 (fun H h => ⟨rfl, h⟩)
    · exfalso; omega
theorem g_pcallv {E : Cf} {Γ : Gm} {A : Nat → Prop} {ρ : State → Prop} {cc : ByteArray} {nL : Nat} {own : String} {rm : Room} {cells slots pc : Nat} {lv : List (Option Value)} {st rest : List Value} {y : MethodName} {cc' : ByteArray} {nL' index fr lo : Nat} {ret : Option FieldType} {As : List Value} {Is : Heap → Prop} (n : Nat) (C : Cx E Γ A ρ cc nL own rm) (ct : ∀ J : Heap → Prop, Ct (eL E) Γ A ρ y cc' nL' ret { frames := fr, cells := 0, slots := 0, locals := lo } As J (fun v H => v = none ∧ J H)) (hw : GoodIn lw_all (va_wsS own index y (ws_ y cc' nL' ret))) (hd : y.cls ≠ "java/lang/invoke/MethodHandle" ∧ y.cls ≠ "java/lang/invoke/VarHandle" ∧ (parseMethodDescriptor y.desc).map (fun d => d.parameters.length) = some n) (hR : fr + 1 ≤ rm.frames ∧ 8 + (nL' + 11) + lo ≤ rm.locals) (hf : cells ≤ rm.cells ∧ slots ≤ rm.slots) (hn : As.length = n) (hst : st = As.reverse ++ rest) (hW : (rest.map fun v => v.category).sum ≤ 8) (d : decode cc pc = .ok (.invokestatic index, 3))
    (k : G E Is cells slots (pc + 3) lv rest) : G E Is cells slots pc lv st :=
  g_callS C (ct Is) hw hd hR hf (fun _ h => h) hn hst hW d (fun v => g_pure (fun hv => by subst hv; exact k))
set_option maxRecDepth 100000 in
theorem ct_sci {l : Launch} {Γ : Gm} {A : Nat → Prop} {ρ : State → Prop} (B : Bs l A ρ) {sa va n : Nat} {bs : Nat → Int32} (hs : ∀ U, ρ U → StrK A sa va n bs U) (hn : n < 2 ^ 31) (i : Nat) (hi : i < n) : ∀ J : Heap → Prop, Ct l Γ A ρ yJ9_checkIndex cJ9_checkIndex 2 none { frames := 1, cells := 0, slots := 0, locals := 22 } [.int (nI i), .int (nI n)] J (fun v H => v = none ∧ J H) := by
  intro J
  refine Ct.of B.1 B.2 (by decide) [some (.int (nI i)), some (.int (nI n))] (Nat.le_of_ble_eq_true rfl) rfl ?_
  intro E hE C R
  subst hE
  have K := hs _ C.r
  rcases K.2.2.2.2.2 with hz | ⟨t, hz⟩
  · refine g_iload_n C dJ9_checkIndex_0 rfl rfl ?_
    refine g_iload_n C dJ9_checkIndex_1 rfl rfl ?_
    refine g_gets C hz q295 (fun _ h => h) dJ9_checkIndex_2 ?_
    refine g_pcall (rest := []) 3 C (ct_chkN B i n (by omega) (by omega)) (lw_S q626 q627 q103 q628) ⟨by decide, by decide, by decide +kernel⟩ ⟨Nat.le_of_ble_eq_true rfl, Nat.le_of_ble_eq_true rfl⟩ ⟨Nat.le_of_ble_eq_true rfl, Nat.le_of_ble_eq_true rfl⟩ rfl rfl (Nat.le_of_ble_eq_true rfl) dJ9_checkIndex_5 ?_
    refine g_pop C dJ9_checkIndex_8 rfl ?_
    exact g_vret C R (Nat.le_refl _) (Nat.le_refl _) dJ9_checkIndex_9 (fun H h => ⟨rfl, h⟩)
  · refine g_iload_n C dJ9_checkIndex_0 rfl rfl ?_
    refine g_iload_n C dJ9_checkIndex_1 rfl rfl ?_
    refine g_gets C hz q295 (fun _ h => h) dJ9_checkIndex_2 ?_
    refine g_pcall (rest := []) 3 C (ct_chkR B i n (by omega) (by omega)) (lw_S q626 q627 q103 q628) ⟨by decide, by decide, by decide +kernel⟩ ⟨Nat.le_of_ble_eq_true rfl, Nat.le_of_ble_eq_true rfl⟩ ⟨Nat.le_of_ble_eq_true rfl, Nat.le_of_ble_eq_true rfl⟩ rfl rfl (Nat.le_of_ble_eq_true rfl) dJ9_checkIndex_5 ?_
    refine g_pop C dJ9_checkIndex_8 rfl ?_
    exact g_vret C R (Nat.le_refl _) (Nat.le_refl _) dJ9_checkIndex_9 (fun H h => ⟨rfl, h⟩)
set_option maxRecDepth 100000 in
theorem ct_coder {l : Launch} {Γ : Gm} {A : Nat → Prop} {ρ : State → Prop} (B : Bs l A ρ) {sa va n : Nat} {bs : Nat → Int32} (hs : ∀ U, ρ U → StrK A sa va n bs U) (hn : n < 2 ^ 31) : CtP l Γ A ρ yJ9_coder cJ9_coder 1 (some .byte) 0 0 [.ref sa] (.int 0) := by
  intro J
  refine Ct.of B.1 B.2 (by decide) [some (.ref sa)] (Nat.le_of_ble_eq_true rfl) rfl ?_
  intro E hE C R
  subst hE
  have K := hs _ C.r
  refine g_gets C K.2.2.2.2.1 q317 (fun _ h => h) dJ9_coder_0 ?_
  refine g_if_eq 13 C dJ9_coder_3 rfl (fun c3 => ?_) (fun c3 => ?_)
  · exact absurd c3 (by decide)
  · refine g_aload_n C dJ9_coder_6 rfl rfl ?_
    refine g_getO C K.2.1 q459 (fun _ h => h) dJ9_coder_7 ?_
    refine g_goto 14 C dJ9_coder_10 rfl ?_
    exact g_nret C R (Nat.le_refl _) (Nat.le_refl _) dJ9_coder_14 rfl (fun H h => ⟨rfl, h⟩)
set_option maxRecDepth 100000 in
theorem ct_isLat {l : Launch} {Γ : Gm} {A : Nat → Prop} {ρ : State → Prop} (B : Bs l A ρ) {sa va n : Nat} {bs : Nat → Int32} (hs : ∀ U, ρ U → StrK A sa va n bs U) (hn : n < 2 ^ 31) : CtP l Γ A ρ yJ9_isLatin1 cJ9_isLatin1 1 (some .boolean) 0 0 [.ref sa] (.int 1) := by
  intro J
  refine Ct.of B.1 B.2 (by decide) [some (.ref sa)] (Nat.le_of_ble_eq_true rfl) rfl ?_
  intro E hE C R
  subst hE
  have K := hs _ C.r
  refine g_gets C K.2.2.2.2.1 q317 (fun _ h => h) dJ9_isLatin1_0 ?_
  refine g_if_eq 17 C dJ9_isLatin1_3 rfl (fun c3 => ?_) (fun c3 => ?_)
  · exact absurd c3 (by decide)
  · refine g_aload_n C dJ9_isLatin1_6 rfl rfl ?_
    refine g_getO C K.2.1 q459 (fun _ h => h) dJ9_isLatin1_7 ?_
    refine g_if_ne 17 C dJ9_isLatin1_10 rfl (fun c10 => ?_) (fun c10 => ?_)
    · exact absurd c10 (by decide)
    · refine g_iconst (v := 1) C dJ9_isLatin1_13 rfl ?_
      refine g_goto 18 C dJ9_isLatin1_14 rfl ?_
      exact g_zret C R (Nat.le_refl _) (Nat.le_refl _) dJ9_isLatin1_18 rfl (fun H h => ⟨rfl, h⟩)
set_option maxRecDepth 100000 in
theorem ct_slen {l : Launch} {Γ : Gm} {A : Nat → Prop} {ρ : State → Prop} (B : Bs l A ρ) {sa va n : Nat} {bs : Nat → Int32} (hs : ∀ U, ρ U → StrK A sa va n bs U) (hn : n < 2 ^ 31) : CtP l Γ A ρ yJ9_length cJ9_length 1 (some .int) 1 20 [.ref sa] (.int (nI n)) := by
  intro J
  refine Ct.of B.1 B.2 (by decide) [some (.ref sa)] (Nat.le_of_ble_eq_true rfl) rfl ?_
  intro E hE C R
  subst hE
  have K := hs _ C.r
  refine g_aload_n C dJ9_length_0 rfl rfl ?_
  refine g_getO C K.2.2.1 q458 (fun _ h => h) dJ9_length_1 ?_
  refine g_tlen C K.2.2.2.1 dJ9_length_4 ?_
  refine g_aload_n C dJ9_length_5 rfl rfl ?_
  refine g_kcall (T := "") (rest := [.int (nI n)]) 0 C (ct_coder B hs hn) (hs _ C.r).1 (lw_V q313 q314 q315 q97 q316) ⟨by decide, by decide, by decide +kernel⟩ ⟨Nat.le_of_ble_eq_true rfl, Nat.le_of_ble_eq_true rfl⟩ ⟨Nat.le_of_ble_eq_true rfl, Nat.le_of_ble_eq_true rfl⟩ rfl rfl (Nat.le_of_ble_eq_true rfl) dJ9_length_6 ?_
  refine g_ishr C dJ9_length_9 ?_
  refine g_topi (y := nI n) (sc_shr0 hn) ?_
  exact g_iret C R (Nat.le_refl _) (Nat.le_refl _) dJ9_length_10 (fun H h => ⟨rfl, h⟩)
set_option maxRecDepth 100000 in
theorem ct_lchar {l : Launch} {Γ : Gm} {A : Nat → Prop} {ρ : State → Prop} (B : Bs l A ρ) {sa va n : Nat} {bs : Nat → Int32} (hs : ∀ U, ρ U → StrK A sa va n bs U) (hn : n < 2 ^ 31) (i : Nat) (hi : i < n) : CtP l Γ A ρ yJ15_charAt cJ15_charAt 2 (some .char) 2 43 [.ref va, .int (nI i)] (.int (bs i &&& 255)) := by
  intro J
  refine Ct.of B.1 B.2 (by decide) [some (.ref va), some (.int (nI i))] (Nat.le_of_ble_eq_true rfl) rfl ?_
  intro E hE C R
  subst hE
  have K := hs _ C.r
  refine g_iload_n C dJ15_charAt_0 rfl rfl ?_
  refine g_aload_n C dJ15_charAt_1 rfl rfl ?_
  refine g_tlen C K.2.2.2.1 dJ15_charAt_2 ?_
  refine g_pcallv (rest := []) 2 C (ct_sci B hs hn i (by omega)) (lw_S q1819 q624 q97 q625) ⟨by decide, by decide, by decide +kernel⟩ ⟨Nat.le_of_ble_eq_true rfl, Nat.le_of_ble_eq_true rfl⟩ ⟨Nat.le_of_ble_eq_true rfl, Nat.le_of_ble_eq_true rfl⟩ rfl rfl (Nat.le_of_ble_eq_true rfl) dJ15_charAt_3 ?_
  refine g_aload_n C dJ15_charAt_6 rfl rfl ?_
  refine g_iload_n C dJ15_charAt_7 rfl rfl ?_
  refine g_tb (i := i) C K.2.2.2.1 (by omega) (by omega) dJ15_charAt_8 ?_
  refine g_sipush (v := 255) C dJ15_charAt_9 rfl ?_
  refine g_iand C dJ15_charAt_12 ?_
  refine g_i2c C dJ15_charAt_13 ?_
  refine g_topi (y := bs i &&& 255) (sc_c2 _) ?_
  exact g_nret C R (Nat.le_refl _) (Nat.le_refl _) dJ15_charAt_14 (sc_nar _) (fun H h => ⟨rfl, h⟩)
set_option maxRecDepth 100000 in
theorem ct_schar {l : Launch} {Γ : Gm} {A : Nat → Prop} {ρ : State → Prop} (B : Bs l A ρ) {sa va n : Nat} {bs : Nat → Int32} (hs : ∀ U, ρ U → StrK A sa va n bs U) (hn : n < 2 ^ 31) (i : Nat) (hi : i < n) : CtP l Γ A ρ yJ9_charAt cJ9_charAt 2 (some .char) 3 64 [.ref sa, .int (nI i)] (.int (bs i &&& 255)) := by
  intro J
  refine Ct.of B.1 B.2 (by decide) [some (.ref sa), some (.int (nI i))] (Nat.le_of_ble_eq_true rfl) rfl ?_
  intro E hE C R
  subst hE
  have K := hs _ C.r
  refine g_aload_n C dJ9_charAt_0 rfl rfl ?_
  refine g_kcall (T := "") (rest := []) 0 C (ct_isLat B hs hn) (hs _ C.r).1 (lw_V q1812 q1813 q1814 q97 q1815) ⟨by decide, by decide, by decide +kernel⟩ ⟨Nat.le_of_ble_eq_true rfl, Nat.le_of_ble_eq_true rfl⟩ ⟨Nat.le_of_ble_eq_true rfl, Nat.le_of_ble_eq_true rfl⟩ rfl rfl (Nat.le_of_ble_eq_true rfl) dJ9_charAt_1 ?_
  refine g_if_eq 16 C dJ9_charAt_4 rfl (fun c4 => ?_) (fun c4 => ?_)
  · exact absurd c4 (by decide)
  · refine g_aload_n C dJ9_charAt_7 rfl rfl ?_
    refine g_getO C K.2.2.1 q458 (fun _ h => h) dJ9_charAt_8 ?_
    refine g_iload_n C dJ9_charAt_11 rfl rfl ?_
    refine g_pcall (rest := []) 2 C (ct_lchar B hs hn i (by omega)) (lw_S q1816 q1817 q104 q1818) ⟨by decide, by decide, by decide +kernel⟩ ⟨Nat.le_of_ble_eq_true rfl, Nat.le_of_ble_eq_true rfl⟩ ⟨Nat.le_of_ble_eq_true rfl, Nat.le_of_ble_eq_true rfl⟩ rfl rfl (Nat.le_of_ble_eq_true rfl) dJ9_charAt_12 ?_
    exact g_nret C R (Nat.le_refl _) (Nat.le_refl _) dJ9_charAt_15 (sc_nar _) (fun H h => ⟨rfl, h⟩)
