/-- what a parse may change -/
def fS (j : Nat) : Bool := match j with
  | 17 => true
  | 18 => true
  | 19 => true
  | 20 => true
  | 21 => true
  | 22 => true
  | 23 => true
  | 24 => true
  | 25 => true
  | 30 => true
  | 32 => true
  | _ => false
def xS (j : Nat) : Bool := match j with
  | 26 => true
  | 27 => true
  | 28 => true
  | 29 => true
  | 31 => true
  | 33 => true
  | 34 => true
  | 35 => true
  | _ => false
def FR (F F' : Nat → Int32) : Prop := ∀ j, fS j = false → F' j = F j
def XR (X X' : Nat → Nat → Int32) : Prop := ∀ j, xS j = false → X' j = X j
def PS (F : Nat → Int32) (n : Nat) (t : Tk) (c : Cn) : Prop := PF F n t ∧ F 22 = -2 ∧ F 24 = nI c.1 ∧ F 25 = nI c.2.1 ∧ F 30 = nI c.2.2.1 ∧ F 32 = nI c.2.2.2
def CnB (c : Cn) : Prop := c.1 ≤ 8 ∧ c.2.1 ≤ 24 ∧ c.2.2.1 ≤ 10 ∧ c.2.2.2 ≤ 4
def PO (F : Nat → Int32) (X : Nat → Nat → Int32) (n : Nat) (r : PR) (v : Option Value) (F' : Nat → Int32) (X' : Nat → Nat → Int32) : Prop := FR F F' ∧ XR X X' ∧ (match r with
  | .inl e => v = some (.int 0) ∧ F' 21 = nI e.1 ∧ F' 22 = nI e.2
  | .inr (t', c', Y') => v = some (.int 1) ∧ X' = Y' ∧ PS F' n t' c')
/-- a line's contract -/
def CtL (l : Launch) (Γ : Gm) (A : Nat → Prop) (ρ : State → Prop) (y : MethodName) (cc : ByteArray) (nL : Nat) (fr lo : Nat) (o : Nat) (ad : Nat → Nat) (F : Nat → Int32) (X : Nat → Nat → Int32) (n : Nat) (r : PR) : Prop :=
  Ct l Γ A ρ y cc nL (some .boolean) { frames := fr, cells := 0, slots := 0, locals := lo } [.ref o] (RepM Γ A o ad F X) (fun v H => ∃ F' X', PO F X n r v F' X' ∧ RepM Γ A o ad F' X' H)
theorem isR_T {α β : Type} {r : α ⊕ β} (h : ¬ isR r = 0) : ∃ b, r = .inr b := by cases r with
  | inl a => exact absurd rfl h
  | inr b => exact ⟨b, rfl⟩
theorem isR_F {α β : Type} {r : α ⊕ β} (h : isR r = 0) : ∃ a, r = .inl a := by cases r with
  | inl a => exact ⟨a, rfl⟩
  | inr b => exact absurd h (by show ¬ (1 : Int32) = 0; decide)
/-- the constants' texts, and where the model's class has them -/
def SKm (A : Nat → Prop) (sa va : Nat → Nat) (U : State) : Prop := (∀ k, k < 8 → StrK A (sa k) (va k) (swn k) (swB k) U) ∧ vk_R "ScaleInspectionModel" 185 "trader" (sa 0) U ∧ vk_R "ScaleInspectionModel" 191 "scale" (sa 1) U ∧ vk_R "ScaleInspectionModel" 196 "mass" (sa 2) U ∧ vk_R "ScaleInspectionModel" 200 "set" (sa 3) U ∧ vk_R "ScaleInspectionModel" 205 "term" (sa 4) U ∧ vk_R "ScaleInspectionModel" 183 "maybe" (sa 5) U ∧ vk_R "ScaleInspectionModel" 172 "plus" (sa 6) U ∧ vk_R "ScaleInspectionModel" 178 "minus" (sa 7) U
theorem rnI_nat {v : Nat} (hv : v < 2 ^ 31) {lo hi : Nat} (hlo : lo < 2 ^ 31) (hhi : hi < 2 ^ 31) (h : ¬ rnI (nI v) (nI lo) (nI hi) = 0) : lo ≤ v ∧ v ≤ hi := by
  unfold rnI at h
  by_cases c : nI lo ≤ nI v ∧ nI v ≤ nI hi
  · exact ⟨(nI_leI hlo hv).mp c.1, (nI_leI hv hhi).mp c.2⟩
  · rw [if_neg c] at h; exact absurd rfl h
theorem FR.rf {F : Nat → Int32} : FR F F := fun _ _ => rfl
theorem FR.up {F G : Nat → Int32} {k : Nat} {v : Int32} (h : FR F G) (hk : fS k = true) : FR F (upd G k v) := fun j hj => by
  unfold upd
  split
  · rename_i e; subst e; rw [hk] at hj; cases hj
  · exact h j hj
theorem FR.tk {F G : Nat → Int32} {t : Tk} (h : FR F G) : FR F (tkF G t) := FR.up (FR.up (FR.up (FR.up h rfl) rfl) rfl) rfl
theorem FR.tr {F G H : Nat → Int32} (h : FR F G) (k : FR G H) : FR F H := fun j hj => (k j hj).trans (h j hj)
theorem XR.rf {X : Nat → Nat → Int32} : XR X X := fun _ _ => rfl
theorem XR.up {X Y : Nat → Nat → Int32} {k : Nat} {f : Nat → Int32} (h : XR X Y) (hk : xS k = true) : XR X (setX Y k f) := fun j hj => by
  unfold setX
  split
  · rename_i e; subst e; rw [hk] at hj; cases hj
  · exact h j hj
theorem XR.tr {X Y Z : Nat → Nat → Int32} (h : XR X Y) (k : XR Y Z) : XR X Z := fun j hj => (k j hj).trans (h j hj)
section WB
variable {l : Launch} {Γ : Gm} {A : Nat → Prop} {ρ : State → Prop} {o : Nat} {ad : Nat → Nat} {F : Nat → Int32} {X : Nat → Nat → Int32} {n : Nat} {t : Tk} {buf : Nat → Int32}
theorem cb_takes (B : Bs l A ρ) (e : X 14 = buf) (hn : n ≤ 800) (hb : TkB n t) (P : PF F n t) (lo hi : Int32) : CtM l Γ A ρ yX4_takes cX4_takes 3 (some .boolean) 2 46 o ad [.ref o, .int lo, .int hi] F X (some (.int (isR (pTake buf n t lo hi)))) (tkR F (pTake buf n t lo hi)) X := by subst e; exact ct_takes B hn hb P lo hi
theorem cb_isWord (B : Bs l A ρ) (e : X 14 = buf) (hn : n ≤ 800) (hb : TkB n t) (P : PF F n t) {sa va : Nat} (k : Nat) (hs : ∀ U, ρ U → StrK A sa va (swn k) (swB k) U) : CtM l Γ A ρ yX4_isWord cX4_isWord 4 (some .boolean) 4 85 o ad [.ref o, .ref sa] F X (some (.int (b2i (wdB buf t k)))) F X := by subst e; exact ct_isWord B hn hb P k hs
theorem cb_beginsY (B : Bs l A ρ) (e : X 14 = buf) (hn : n ≤ 800) (hb : TkB n t) (P : PF F n t) : CtM l Γ A ρ yX4_begins cX4_begins 2 (some .boolean) 2 46 o ad [.ref o, .int 1] F X (some (.int 1)) (tkF F (tkN buf n t)) X := by subst e; exact ct_begins B hn hb P 1
theorem cb_beginsN (B : Bs l A ρ) (e : X 14 = buf) (hn : n ≤ 800) (hb : TkB n t) (P : PF F n t) : CtM l Γ A ρ yX4_begins cX4_begins 2 (some .boolean) 2 46 o ad [.ref o, .int 0] F X (some (.int 0)) (upd (upd F 21 (nI 4)) 22 (nI t.1)) X := by subst e; exact ct_begins B hn hb P 0
theorem cb_advance (B : Bs l A ρ) (e : X 14 = buf) (hn : n ≤ 800) (hb : TkB n t) (P : PF F n t) : CtM l Γ A ρ yX4_advance cX4_advance 2 none 1 25 o ad [.ref o] F X none (tkF F (tkN buf n t)) X := by subst e; exact ct_advance B P.1 hn P.2.2.1 hb.2.1
theorem cb_fails (B : Bs l A ρ) (P : PF F n t) (code : Nat) : CtM l Γ A ρ yX4_fails cX4_fails 2 (some .boolean) 0 0 o ad [.ref o, .int (nI code)] F X (some (.int 0)) (upd (upd F 21 (nI code)) 22 (nI t.1)) X := by
  have := ct_fails (Γ := Γ) (o := o) (ad := ad) (X := X) B P.2.2.2.2.2 (nI code)
  rw [P.2.1] at this
  exact this
end WB
set_option maxRecDepth 100000 in
set_option maxHeartbeats 2000000 in
theorem ct_traderLine {l : Launch} {Γ : Gm} {A : Nat → Prop} {ρ : State → Prop} (B : Bs l A ρ) {o : Nat} {ad : Nat → Nat} {F : Nat → Int32} {X : Nat → Nat → Int32} {n : Nat} {t : Tk} {c : Cn} {buf : Nat → Int32} (hX : X 14 = buf) (hn : n ≤ 800) (hb : TkB n t) (hc : CnB c) (Q : PS F n t c) {sa va : Nat → Nat} (hW : ∀ U, ρ U → SKm A sa va U) : CtL l Γ A ρ yX4_traderLine cX4_traderLine 1 3 67 o ad F X n (pTrader buf n t c X) := by
  refine Ct.of B.1 B.2 (by decide) [some (.ref o)] (Nat.le_of_ble_eq_true rfl) rfl ?_
  intro E hE C R
  subst hE
  have P := Q.1
  obtain ⟨hc1, hc2, hc3, hc4⟩ := hc
  obtain ⟨hba, hbb, hbc, hbd⟩ := id hb
  refine g_aload_n C dX4_traderLine_0 rfl rfl ?_
  refine g_aload_n C dX4_traderLine_1 rfl rfl ?_
  refine mg_24 C dX4_traderLine_2 ?_
  refine g_topi (y := nI c.1) (Q.2.2.1) ?_
  refine g_bipush (v := 8) C dX4_traderLine_5 rfl ?_
  refine gN_ge (a := c.1) (b := 8) 14 C dX4_traderLine_7 rfl (by omega) (by omega) (fun c7 => ?_) (fun c7 => ?_)
  · refine g_iconst (v := 0) C dX4_traderLine_14 rfl ?_
    refine g_mcall (rest := []) 1 C (cb_beginsN (F := F) (X := X) B (show _ = buf from hX) hn hb P) (lw_V q1827 q1829 qs51 q107 q1830) (by decide +kernel) ⟨Nat.le_of_ble_eq_true rfl, Nat.le_of_ble_eq_true rfl⟩ ⟨Nat.le_of_ble_eq_true rfl, Nat.le_of_ble_eq_true rfl⟩ rfl rfl (Nat.le_of_ble_eq_true rfl) dX4_traderLine_15 ?_
    refine g_if_ne 23 C dX4_traderLine_18 rfl (fun c18 => ?_) (fun c18 => ?_)
    · exact absurd c18 (by decide)
    · refine g_iconst (v := 0) C dX4_traderLine_21 rfl ?_
      have er : pTrader buf n t c X = .inl (4, t.1) := by rw [pTrader, if_neg (by omega)]
      exact g_zret C R (Nat.le_refl _) (Nat.le_refl _) dX4_traderLine_22 rfl (fun H h => ⟨upd (upd F 21 (nI 4)) 22 (nI t.1), X, ⟨(FR.up (FR.up FR.rf rfl) rfl), XR.rf, by rw [er]; exact ⟨rfl, rfl, rfl⟩⟩, h⟩)
  · refine g_iconst (v := 1) C dX4_traderLine_10 rfl ?_
    refine g_goto 15 C dX4_traderLine_11 rfl ?_
    refine g_mcall (rest := []) 1 C (cb_beginsY (F := F) (X := X) B (show _ = buf from hX) hn hb P) (lw_V q1827 q1829 qs51 q107 q1830) (by decide +kernel) ⟨Nat.le_of_ble_eq_true rfl, Nat.le_of_ble_eq_true rfl⟩ ⟨Nat.le_of_ble_eq_true rfl, Nat.le_of_ble_eq_true rfl⟩ rfl rfl (Nat.le_of_ble_eq_true rfl) dX4_traderLine_15 ?_
    obtain ⟨t1, et1⟩ : ∃ x, x = tkN buf n t := ⟨_, rfl⟩
    obtain ⟨hb1, g1⟩ := tkN_B (buf := buf) hb
    rw [← et1] at hb1 g1
    obtain ⟨hb1a, hb1b, hb1c, hb1d⟩ := id hb1
    refine g_eqI (J := RepM Γ A o ad (tkF F t1) X) (by rw [et1]) ?_
    have P1 : PF (tkF F t1) n t1 := ⟨P.1, rfl, rfl, rfl, rfl, P.2.2.2.2.2⟩
    refine g_if_ne 23 C dX4_traderLine_18 rfl (fun c18 => ?_) (fun c18 => ?_)
    · refine g_aload_n C dX4_traderLine_23 rfl rfl ?_
      refine g_dup C dX4_traderLine_24 rfl ?_
      refine mg_24 C dX4_traderLine_25 ?_
      refine g_topi (y := nI c.1) (Q.2.2.1) ?_
      refine g_iconst (v := 1) C dX4_traderLine_28 rfl ?_
      refine g_iadd C dX4_traderLine_29 ?_
      refine g_topi (y := nI (c.1 + 1)) (nI_add c.1 1) ?_
      refine mp_24 C dX4_traderLine_30 ?_
      refine g_iconst (v := 1) C dX4_traderLine_33 rfl ?_
      have er : pTrader buf n t c X = .inr (t1, (c.1 + 1, c.2), X) := by rw [pTrader, if_pos (by omega), ← et1]
      exact g_zret C R (Nat.le_refl _) (Nat.le_refl _) dX4_traderLine_34 rfl (fun H h => ⟨upd (tkF F t1) 24 (nI (c.1 + 1)), X, ⟨(FR.up (FR.tk FR.rf) rfl), XR.rf, by rw [er]; exact ⟨rfl, rfl, ⟨⟨P.1, rfl, rfl, rfl, rfl, P.2.2.2.2.2⟩, Q.2.1, rfl, Q.2.2.2.1, Q.2.2.2.2.1, Q.2.2.2.2.2⟩⟩⟩, h⟩)
    · exact absurd c18 (by decide)
set_option maxRecDepth 100000 in
set_option maxHeartbeats 2000000 in
theorem ct_scaleLine {l : Launch} {Γ : Gm} {A : Nat → Prop} {ρ : State → Prop} (B : Bs l A ρ) {o : Nat} {ad : Nat → Nat} {F : Nat → Int32} {X : Nat → Nat → Int32} {n : Nat} {t : Tk} {c : Cn} {buf : Nat → Int32} (hX : X 14 = buf) (hn : n ≤ 800) (hb : TkB n t) (hc : CnB c) (Q : PS F n t c) {sa va : Nat → Nat} (hW : ∀ U, ρ U → SKm A sa va U) : CtL l Γ A ρ yX4_scaleLine cX4_scaleLine 2 3 68 o ad F X n (pScale buf n t c X) := by
  refine Ct.of B.1 B.2 (by decide) [some (.ref o), none] (Nat.le_of_ble_eq_true rfl) rfl ?_
  intro E hE C R
  subst hE
  have P := Q.1
  obtain ⟨hc1, hc2, hc3, hc4⟩ := hc
  obtain ⟨hba, hbb, hbc, hbd⟩ := id hb
  refine g_aload_n C dX4_scaleLine_0 rfl rfl ?_
  refine mg_25 C dX4_scaleLine_1 ?_
  refine g_topi (y := nI c.2.1) (Q.2.2.2.1) ?_
  refine g_istore_n (lv' := [some (.ref o), some (.int (nI c.2.1))]) C dX4_scaleLine_4 rfl (by decide) rfl ?_
  refine g_aload_n C dX4_scaleLine_5 rfl rfl ?_
  refine g_iload_n C dX4_scaleLine_6 rfl rfl ?_
  refine g_bipush (v := 24) C dX4_scaleLine_7 rfl ?_
  refine gN_ge (a := c.2.1) (b := 24) 16 C dX4_scaleLine_9 rfl (by omega) (by omega) (fun c9 => ?_) (fun c9 => ?_)
  · refine g_iconst (v := 0) C dX4_scaleLine_16 rfl ?_
    refine g_mcall (rest := []) 1 C (cb_beginsN (F := F) (X := X) B (show _ = buf from hX) hn hb P) (lw_V q1827 q1829 qs51 q107 q1830) (by decide +kernel) ⟨Nat.le_of_ble_eq_true rfl, Nat.le_of_ble_eq_true rfl⟩ ⟨Nat.le_of_ble_eq_true rfl, Nat.le_of_ble_eq_true rfl⟩ rfl rfl (Nat.le_of_ble_eq_true rfl) dX4_scaleLine_17 ?_
    refine g_if_eq 37 C dX4_scaleLine_20 rfl (fun c20 => ?_) (fun c20 => ?_)
    · refine g_iconst (v := 0) C dX4_scaleLine_37 rfl ?_
      have er : pScale buf n t c X = .inl (4, t.1) := by rw [pScale, if_neg (by omega)]
      exact g_zret C R (Nat.le_refl _) (Nat.le_refl _) dX4_scaleLine_38 rfl (fun H h => ⟨upd (upd F 21 (nI 4)) 22 (nI t.1), X, ⟨(FR.up (FR.up FR.rf rfl) rfl), XR.rf, by rw [er]; exact ⟨rfl, rfl, rfl⟩⟩, h⟩)
    · exact absurd c20 (by decide)
  · refine g_iconst (v := 1) C dX4_scaleLine_12 rfl ?_
    refine g_goto 17 C dX4_scaleLine_13 rfl ?_
    refine g_mcall (rest := []) 1 C (cb_beginsY (F := F) (X := X) B (show _ = buf from hX) hn hb P) (lw_V q1827 q1829 qs51 q107 q1830) (by decide +kernel) ⟨Nat.le_of_ble_eq_true rfl, Nat.le_of_ble_eq_true rfl⟩ ⟨Nat.le_of_ble_eq_true rfl, Nat.le_of_ble_eq_true rfl⟩ rfl rfl (Nat.le_of_ble_eq_true rfl) dX4_scaleLine_17 ?_
    obtain ⟨t1, et1⟩ : ∃ x, x = tkN buf n t := ⟨_, rfl⟩
    obtain ⟨hb1, g1⟩ := tkN_B (buf := buf) hb
    rw [← et1] at hb1 g1
    obtain ⟨hb1a, hb1b, hb1c, hb1d⟩ := id hb1
    refine g_eqI (J := RepM Γ A o ad (tkF F t1) X) (by rw [et1]) ?_
    have P1 : PF (tkF F t1) n t1 := ⟨P.1, rfl, rfl, rfl, rfl, P.2.2.2.2.2⟩
    refine g_if_eq 37 C dX4_scaleLine_20 rfl (fun c20 => ?_) (fun c20 => ?_)
    · exact absurd c20 (by decide)
    · refine g_aload_n C dX4_scaleLine_23 rfl rfl ?_
      refine g_iconst (v := 0) C dX4_scaleLine_24 rfl ?_
      refine g_aload_n C dX4_scaleLine_25 rfl rfl ?_
      refine mg_24 C dX4_scaleLine_26 ?_
      refine g_topi (y := nI c.1) (Q.2.2.1) ?_
      refine g_iconst (v := 1) C dX4_scaleLine_29 rfl ?_
      refine g_isub C dX4_scaleLine_30 ?_
      refine g_mcall (rest := []) 2 C (cb_takes (F := tkF F t1) (X := X) B (show _ = buf from hX) hn hb1 P1 0 ((nI c.1) - 1)) (lw_V q1840 q1842 qs54 q107 q1843) (by decide +kernel) ⟨Nat.le_of_ble_eq_true rfl, Nat.le_of_ble_eq_true rfl⟩ ⟨Nat.le_of_ble_eq_true rfl, Nat.le_of_ble_eq_true rfl⟩ rfl rfl (Nat.le_of_ble_eq_true rfl) dX4_scaleLine_31 ?_
      refine g_if_ne 39 C dX4_scaleLine_34 rfl (fun c34 => ?_) (fun c34 => ?_)
      · obtain ⟨⟨v2, t2⟩, r2⟩ := isR_T c34
        obtain ⟨k2, ev2, et2, w2, hb2, g2⟩ := pTake_B hb1 r2
        have hv2 : v2 < 1000000 := by rw [ev2]; exact hb1.2.2.2
        obtain ⟨hb2a, hb2b, hb2c, hb2d⟩ := id hb2
        refine g_eqI (J := RepM Γ A o ad (tkF (upd (tkF F t1) 23 (nI v2)) t2) X) (by rw [r2]; rfl) ?_
        have P2 : PF (tkF (upd (tkF F t1) 23 (nI v2)) t2) n t2 := ⟨P.1, rfl, rfl, rfl, rfl, P.2.2.2.2.2⟩
        refine g_aload_n C dX4_scaleLine_39 rfl rfl ?_
        refine mg_26 C dX4_scaleLine_40 ?_
        refine g_iload_n C dX4_scaleLine_43 rfl rfl ?_
        refine g_aload_n C dX4_scaleLine_44 rfl rfl ?_
        refine mg_23 C dX4_scaleLine_45 ?_
        refine g_topi (y := nI v2) rfl ?_
        refine ms_26 (i := c.2.1) C dX4_scaleLine_48 (by omega) ?_
        refine g_aload_n C dX4_scaleLine_49 rfl rfl ?_
        refine g_iconst (v := 0) C dX4_scaleLine_50 rfl ?_
        refine g_iconst (v := 2) C dX4_scaleLine_51 rfl ?_
        refine g_mcall (rest := []) 2 C (cb_takes (F := tkF (upd (tkF F t1) 23 (nI v2)) t2) (X := setX X 26 (upd (X 26) c.2.1 (nI v2))) B (show _ = buf from hX) hn hb2 P2 0 2) (lw_V q1840 q1842 qs54 q107 q1843) (by decide +kernel) ⟨Nat.le_of_ble_eq_true rfl, Nat.le_of_ble_eq_true rfl⟩ ⟨Nat.le_of_ble_eq_true rfl, Nat.le_of_ble_eq_true rfl⟩ rfl rfl (Nat.le_of_ble_eq_true rfl) dX4_scaleLine_52 ?_
        refine g_if_ne 60 C dX4_scaleLine_55 rfl (fun c55 => ?_) (fun c55 => ?_)
        · obtain ⟨⟨v3, t3⟩, r3⟩ := isR_T c55
          obtain ⟨k3, ev3, et3, w3, hb3, g3⟩ := pTake_B hb2 r3
          have hv3 : v3 < 1000000 := by rw [ev3]; exact hb2.2.2.2
          obtain ⟨hb3a, hb3b, hb3c, hb3d⟩ := id hb3
          refine g_eqI (J := RepM Γ A o ad (tkF (upd (tkF (upd (tkF F t1) 23 (nI v2)) t2) 23 (nI v3)) t3) (setX X 26 (upd (X 26) c.2.1 (nI v2)))) (by rw [r3]; rfl) ?_
          have P3 : PF (tkF (upd (tkF (upd (tkF F t1) 23 (nI v2)) t2) 23 (nI v3)) t3) n t3 := ⟨P.1, rfl, rfl, rfl, rfl, P.2.2.2.2.2⟩
          refine g_aload_n C dX4_scaleLine_60 rfl rfl ?_
          refine mg_27 C dX4_scaleLine_61 ?_
          refine g_iload_n C dX4_scaleLine_64 rfl rfl ?_
          refine g_aload_n C dX4_scaleLine_65 rfl rfl ?_
          refine mg_23 C dX4_scaleLine_66 ?_
          refine g_topi (y := nI v3) rfl ?_
          refine ms_27 (i := c.2.1) C dX4_scaleLine_69 (by omega) ?_
          refine g_eqI (J := RepM Γ A o ad (tkF (upd (tkF (upd (tkF F t1) 23 (nI v2)) t2) 23 (nI v3)) t3) (setX (setX X 26 (upd (X 26) c.2.1 (nI v2))) 27 (upd (X 27) c.2.1 (nI v3)))) rfl ?_
          refine g_aload_n C dX4_scaleLine_70 rfl rfl ?_
          refine g_iconst (v := 1) C dX4_scaleLine_71 rfl ?_
          refine g_sipush (v := 1000) C dX4_scaleLine_72 rfl ?_
          refine g_mcall (rest := []) 2 C (cb_takes (F := tkF (upd (tkF (upd (tkF F t1) 23 (nI v2)) t2) 23 (nI v3)) t3) (X := setX (setX X 26 (upd (X 26) c.2.1 (nI v2))) 27 (upd (X 27) c.2.1 (nI v3))) B (show _ = buf from hX) hn hb3 P3 1 1000) (lw_V q1840 q1842 qs54 q107 q1843) (by decide +kernel) ⟨Nat.le_of_ble_eq_true rfl, Nat.le_of_ble_eq_true rfl⟩ ⟨Nat.le_of_ble_eq_true rfl, Nat.le_of_ble_eq_true rfl⟩ rfl rfl (Nat.le_of_ble_eq_true rfl) dX4_scaleLine_75 ?_
          refine g_if_ne 83 C dX4_scaleLine_78 rfl (fun c78 => ?_) (fun c78 => ?_)
          · obtain ⟨⟨v4, t4⟩, r4⟩ := isR_T c78
            obtain ⟨k4, ev4, et4, w4, hb4, g4⟩ := pTake_B hb3 r4
            have hv4 : v4 < 1000000 := by rw [ev4]; exact hb3.2.2.2
            obtain ⟨hb4a, hb4b, hb4c, hb4d⟩ := id hb4
            refine g_eqI (J := RepM Γ A o ad (tkF (upd (tkF (upd (tkF (upd (tkF F t1) 23 (nI v2)) t2) 23 (nI v3)) t3) 23 (nI v4)) t4) (setX (setX X 26 (upd (X 26) c.2.1 (nI v2))) 27 (upd (X 27) c.2.1 (nI v3)))) (by rw [r4]; rfl) ?_
            have P4 : PF (tkF (upd (tkF (upd (tkF (upd (tkF F t1) 23 (nI v2)) t2) 23 (nI v3)) t3) 23 (nI v4)) t4) n t4 := ⟨P.1, rfl, rfl, rfl, rfl, P.2.2.2.2.2⟩
            refine g_aload_n C dX4_scaleLine_83 rfl rfl ?_
            refine mg_28 C dX4_scaleLine_84 ?_
            refine g_iload_n C dX4_scaleLine_87 rfl rfl ?_
            refine g_aload_n C dX4_scaleLine_88 rfl rfl ?_
            refine mg_23 C dX4_scaleLine_89 ?_
            refine g_topi (y := nI v4) rfl ?_
            refine ms_28 (i := c.2.1) C dX4_scaleLine_92 (by omega) ?_
            refine g_eqI (J := RepM Γ A o ad (tkF (upd (tkF (upd (tkF (upd (tkF F t1) 23 (nI v2)) t2) 23 (nI v3)) t3) 23 (nI v4)) t4) (setX (setX (setX X 26 (upd (X 26) c.2.1 (nI v2))) 27 (upd (X 27) c.2.1 (nI v3))) 28 (upd (X 28) c.2.1 (nI v4)))) rfl ?_
            refine g_aload_n C dX4_scaleLine_93 rfl rfl ?_
            refine g_bipush (v := 20) C dX4_scaleLine_94 rfl ?_
            refine g_aload_n C dX4_scaleLine_96 rfl rfl ?_
            refine mg_28 C dX4_scaleLine_97 ?_
            refine g_iload_n C dX4_scaleLine_100 rfl rfl ?_
            refine ml_28 (i := c.2.1) C dX4_scaleLine_101 (by omega) ?_
            refine g_topi (y := (upd (X 28) c.2.1 (nI v4)) c.2.1) rfl ?_
            refine g_topi (y := nI v4) (upd_self _ _ _) ?_
            refine g_imul C dX4_scaleLine_102 ?_
            refine g_topi (y := nI (20 * v4)) (pk_mul 20 v4) ?_
            refine g_ldc (v := 999999) C dX4_scaleLine_103 q1844 ?_
            refine g_mcall (rest := []) 2 C (cb_takes (F := tkF (upd (tkF (upd (tkF (upd (tkF F t1) 23 (nI v2)) t2) 23 (nI v3)) t3) 23 (nI v4)) t4) (X := setX (setX (setX X 26 (upd (X 26) c.2.1 (nI v2))) 27 (upd (X 27) c.2.1 (nI v3))) 28 (upd (X 28) c.2.1 (nI v4))) B (show _ = buf from hX) hn hb4 P4 (nI (20 * v4)) 999999) (lw_V q1840 q1842 qs54 q107 q1843) (by decide +kernel) ⟨Nat.le_of_ble_eq_true rfl, Nat.le_of_ble_eq_true rfl⟩ ⟨Nat.le_of_ble_eq_true rfl, Nat.le_of_ble_eq_true rfl⟩ rfl rfl (Nat.le_of_ble_eq_true rfl) dX4_scaleLine_105 ?_
            refine g_if_ne 113 C dX4_scaleLine_108 rfl (fun c108 => ?_) (fun c108 => ?_)
            · obtain ⟨⟨v5, t5⟩, r5⟩ := isR_T c108
              obtain ⟨k5, ev5, et5, w5, hb5, g5⟩ := pTake_B hb4 r5
              have hv5 : v5 < 1000000 := by rw [ev5]; exact hb4.2.2.2
              obtain ⟨hb5a, hb5b, hb5c, hb5d⟩ := id hb5
              refine g_eqI (J := RepM Γ A o ad (tkF (upd (tkF (upd (tkF (upd (tkF (upd (tkF F t1) 23 (nI v2)) t2) 23 (nI v3)) t3) 23 (nI v4)) t4) 23 (nI v5)) t5) (setX (setX (setX X 26 (upd (X 26) c.2.1 (nI v2))) 27 (upd (X 27) c.2.1 (nI v3))) 28 (upd (X 28) c.2.1 (nI v4)))) (by rw [r5]; rfl) ?_
              have P5 : PF (tkF (upd (tkF (upd (tkF (upd (tkF (upd (tkF F t1) 23 (nI v2)) t2) 23 (nI v3)) t3) 23 (nI v4)) t4) 23 (nI v5)) t5) n t5 := ⟨P.1, rfl, rfl, rfl, rfl, P.2.2.2.2.2⟩
              refine g_aload_n C dX4_scaleLine_113 rfl rfl ?_
              refine mg_29 C dX4_scaleLine_114 ?_
              refine g_iload_n C dX4_scaleLine_117 rfl rfl ?_
              refine g_aload_n C dX4_scaleLine_118 rfl rfl ?_
              refine mg_23 C dX4_scaleLine_119 ?_
              refine g_topi (y := nI v5) rfl ?_
              refine ms_29 (i := c.2.1) C dX4_scaleLine_122 (by omega) ?_
              refine g_eqI (J := RepM Γ A o ad (tkF (upd (tkF (upd (tkF (upd (tkF (upd (tkF F t1) 23 (nI v2)) t2) 23 (nI v3)) t3) 23 (nI v4)) t4) 23 (nI v5)) t5) (setX (setX (setX (setX X 26 (upd (X 26) c.2.1 (nI v2))) 27 (upd (X 27) c.2.1 (nI v3))) 28 (upd (X 28) c.2.1 (nI v4))) 29 (upd (X 29) c.2.1 (nI v5)))) rfl ?_
              refine g_aload_n C dX4_scaleLine_123 rfl rfl ?_
              refine g_dup C dX4_scaleLine_124 rfl ?_
              refine mg_25 C dX4_scaleLine_125 ?_
              refine g_topi (y := nI c.2.1) (Q.2.2.2.1) ?_
              refine g_iconst (v := 1) C dX4_scaleLine_128 rfl ?_
              refine g_iadd C dX4_scaleLine_129 ?_
              refine g_topi (y := nI (c.2.1 + 1)) (nI_add c.2.1 1) ?_
              refine mp_25 C dX4_scaleLine_130 ?_
              refine g_iconst (v := 1) C dX4_scaleLine_133 rfl ?_
              have er : pScale buf n t c X = .inr (t5, (c.1, c.2.1 + 1, c.2.2), yS X c.2.1 v2 v3 v4 v5) := by rw [pScale, if_pos (by omega), ← et1]; simp only [r2, r3, r4, r5]
              exact g_zret C R (Nat.le_refl _) (Nat.le_refl _) dX4_scaleLine_134 rfl (fun H h => ⟨upd (tkF (upd (tkF (upd (tkF (upd (tkF (upd (tkF F t1) 23 (nI v2)) t2) 23 (nI v3)) t3) 23 (nI v4)) t4) 23 (nI v5)) t5) 25 (nI (c.2.1 + 1)), setX (setX (setX (setX X 26 (upd (X 26) c.2.1 (nI v2))) 27 (upd (X 27) c.2.1 (nI v3))) 28 (upd (X 28) c.2.1 (nI v4))) 29 (upd (X 29) c.2.1 (nI v5)), ⟨(FR.up (FR.tk (FR.up (FR.tk (FR.up (FR.tk (FR.up (FR.tk (FR.up (FR.tk FR.rf) rfl)) rfl)) rfl)) rfl)) rfl), (XR.up (XR.up (XR.up (XR.up XR.rf rfl) rfl) rfl) rfl), by rw [er]; exact ⟨rfl, rfl, ⟨⟨P.1, rfl, rfl, rfl, rfl, P.2.2.2.2.2⟩, Q.2.1, Q.2.2.1, rfl, Q.2.2.2.2.1, Q.2.2.2.2.2⟩⟩⟩, h⟩)
            · obtain ⟨e5, r5⟩ := isR_F c108
              refine g_eqI (J := RepM Γ A o ad (upd (upd (tkF (upd (tkF (upd (tkF (upd (tkF F t1) 23 (nI v2)) t2) 23 (nI v3)) t3) 23 (nI v4)) t4) 21 (nI e5.1)) 22 (nI e5.2)) (setX (setX (setX X 26 (upd (X 26) c.2.1 (nI v2))) 27 (upd (X 27) c.2.1 (nI v3))) 28 (upd (X 28) c.2.1 (nI v4)))) (by rw [r5]; rfl) ?_
              refine g_iconst (v := 0) C dX4_scaleLine_111 rfl ?_
              have er : pScale buf n t c X = .inl e5 := by rw [pScale, if_pos (by omega), ← et1]; simp only [r2, r3, r4, r5]
              exact g_zret C R (Nat.le_refl _) (Nat.le_refl _) dX4_scaleLine_112 rfl (fun H h => ⟨upd (upd (tkF (upd (tkF (upd (tkF (upd (tkF F t1) 23 (nI v2)) t2) 23 (nI v3)) t3) 23 (nI v4)) t4) 21 (nI e5.1)) 22 (nI e5.2), setX (setX (setX X 26 (upd (X 26) c.2.1 (nI v2))) 27 (upd (X 27) c.2.1 (nI v3))) 28 (upd (X 28) c.2.1 (nI v4)), ⟨(FR.up (FR.up (FR.tk (FR.up (FR.tk (FR.up (FR.tk (FR.up (FR.tk FR.rf) rfl)) rfl)) rfl)) rfl) rfl), (XR.up (XR.up (XR.up XR.rf rfl) rfl) rfl), by rw [er]; exact ⟨rfl, rfl, rfl⟩⟩, h⟩)
          · obtain ⟨e4, r4⟩ := isR_F c78
            refine g_eqI (J := RepM Γ A o ad (upd (upd (tkF (upd (tkF (upd (tkF F t1) 23 (nI v2)) t2) 23 (nI v3)) t3) 21 (nI e4.1)) 22 (nI e4.2)) (setX (setX X 26 (upd (X 26) c.2.1 (nI v2))) 27 (upd (X 27) c.2.1 (nI v3)))) (by rw [r4]; rfl) ?_
            refine g_iconst (v := 0) C dX4_scaleLine_81 rfl ?_
            have er : pScale buf n t c X = .inl e4 := by rw [pScale, if_pos (by omega), ← et1]; simp only [r2, r3, r4]
            exact g_zret C R (Nat.le_refl _) (Nat.le_refl _) dX4_scaleLine_82 rfl (fun H h => ⟨upd (upd (tkF (upd (tkF (upd (tkF F t1) 23 (nI v2)) t2) 23 (nI v3)) t3) 21 (nI e4.1)) 22 (nI e4.2), setX (setX X 26 (upd (X 26) c.2.1 (nI v2))) 27 (upd (X 27) c.2.1 (nI v3)), ⟨(FR.up (FR.up (FR.tk (FR.up (FR.tk (FR.up (FR.tk FR.rf) rfl)) rfl)) rfl) rfl), (XR.up (XR.up XR.rf rfl) rfl), by rw [er]; exact ⟨rfl, rfl, rfl⟩⟩, h⟩)
        · obtain ⟨e3, r3⟩ := isR_F c55
          refine g_eqI (J := RepM Γ A o ad (upd (upd (tkF (upd (tkF F t1) 23 (nI v2)) t2) 21 (nI e3.1)) 22 (nI e3.2)) (setX X 26 (upd (X 26) c.2.1 (nI v2)))) (by rw [r3]; rfl) ?_
          refine g_iconst (v := 0) C dX4_scaleLine_58 rfl ?_
          have er : pScale buf n t c X = .inl e3 := by rw [pScale, if_pos (by omega), ← et1]; simp only [r2, r3]
          exact g_zret C R (Nat.le_refl _) (Nat.le_refl _) dX4_scaleLine_59 rfl (fun H h => ⟨upd (upd (tkF (upd (tkF F t1) 23 (nI v2)) t2) 21 (nI e3.1)) 22 (nI e3.2), setX X 26 (upd (X 26) c.2.1 (nI v2)), ⟨(FR.up (FR.up (FR.tk (FR.up (FR.tk FR.rf) rfl)) rfl) rfl), (XR.up XR.rf rfl), by rw [er]; exact ⟨rfl, rfl, rfl⟩⟩, h⟩)
      · obtain ⟨e2, r2⟩ := isR_F c34
        refine g_eqI (J := RepM Γ A o ad (upd (upd (tkF F t1) 21 (nI e2.1)) 22 (nI e2.2)) X) (by rw [r2]; rfl) ?_
        refine g_iconst (v := 0) C dX4_scaleLine_37 rfl ?_
        have er : pScale buf n t c X = .inl e2 := by rw [pScale, if_pos (by omega), ← et1]; simp only [r2]
        exact g_zret C R (Nat.le_refl _) (Nat.le_refl _) dX4_scaleLine_38 rfl (fun H h => ⟨upd (upd (tkF F t1) 21 (nI e2.1)) 22 (nI e2.2), X, ⟨(FR.up (FR.up (FR.tk FR.rf) rfl) rfl), XR.rf, by rw [er]; exact ⟨rfl, rfl, rfl⟩⟩, h⟩)
set_option maxRecDepth 100000 in
set_option maxHeartbeats 2000000 in
theorem ct_massLine {l : Launch} {Γ : Gm} {A : Nat → Prop} {ρ : State → Prop} (B : Bs l A ρ) {o : Nat} {ad : Nat → Nat} {F : Nat → Int32} {X : Nat → Nat → Int32} {n : Nat} {t : Tk} {c : Cn} {buf : Nat → Int32} (hX : X 14 = buf) (hn : n ≤ 800) (hb : TkB n t) (hc : CnB c) (Q : PS F n t c) {sa va : Nat → Nat} (hW : ∀ U, ρ U → SKm A sa va U) : CtL l Γ A ρ yX4_massLine cX4_massLine 4 5 108 o ad F X n (pMass buf n t c X) := by
  refine Ct.of B.1 B.2 (by decide) [some (.ref o), none, none, none] (Nat.le_of_ble_eq_true rfl) rfl ?_
  intro E hE C R
  subst hE
  have P := Q.1
  obtain ⟨hc1, hc2, hc3, hc4⟩ := hc
  obtain ⟨hba, hbb, hbc, hbd⟩ := id hb
  refine g_aload_n C dX4_massLine_0 rfl rfl ?_
  refine mg_30 C dX4_massLine_1 ?_
  refine g_topi (y := nI c.2.2.1) (Q.2.2.2.2.1) ?_
  refine g_istore_n (lv' := [some (.ref o), some (.int (nI c.2.2.1)), none, none]) C dX4_massLine_4 rfl (by decide) rfl ?_
  refine g_aload_n C dX4_massLine_5 rfl rfl ?_
  refine g_iload_n C dX4_massLine_6 rfl rfl ?_
  refine g_bipush (v := 10) C dX4_massLine_7 rfl ?_
  refine gN_ge (a := c.2.2.1) (b := 10) 16 C dX4_massLine_9 rfl (by omega) (by omega) (fun c9 => ?_) (fun c9 => ?_)
  · refine g_iconst (v := 0) C dX4_massLine_16 rfl ?_
    refine g_mcall (rest := []) 1 C (cb_beginsN (F := F) (X := X) B (show _ = buf from hX) hn hb P) (lw_V q1827 q1829 qs51 q107 q1830) (by decide +kernel) ⟨Nat.le_of_ble_eq_true rfl, Nat.le_of_ble_eq_true rfl⟩ ⟨Nat.le_of_ble_eq_true rfl, Nat.le_of_ble_eq_true rfl⟩ rfl rfl (Nat.le_of_ble_eq_true rfl) dX4_massLine_17 ?_
    refine g_if_eq 33 C dX4_massLine_20 rfl (fun c20 => ?_) (fun c20 => ?_)
    · refine g_iconst (v := 0) C dX4_massLine_33 rfl ?_
      have er : pMass buf n t c X = .inl (4, t.1) := by rw [pMass, if_neg (by omega)]
      exact g_zret C R (Nat.le_refl _) (Nat.le_refl _) dX4_massLine_34 rfl (fun H h => ⟨upd (upd F 21 (nI 4)) 22 (nI t.1), X, ⟨(FR.up (FR.up FR.rf rfl) rfl), XR.rf, by rw [er]; exact ⟨rfl, rfl, rfl⟩⟩, h⟩)
    · exact absurd c20 (by decide)
  · refine g_iconst (v := 1) C dX4_massLine_12 rfl ?_
    refine g_goto 17 C dX4_massLine_13 rfl ?_
    refine g_mcall (rest := []) 1 C (cb_beginsY (F := F) (X := X) B (show _ = buf from hX) hn hb P) (lw_V q1827 q1829 qs51 q107 q1830) (by decide +kernel) ⟨Nat.le_of_ble_eq_true rfl, Nat.le_of_ble_eq_true rfl⟩ ⟨Nat.le_of_ble_eq_true rfl, Nat.le_of_ble_eq_true rfl⟩ rfl rfl (Nat.le_of_ble_eq_true rfl) dX4_massLine_17 ?_
    obtain ⟨t1, et1⟩ : ∃ x, x = tkN buf n t := ⟨_, rfl⟩
    obtain ⟨hb1, g1⟩ := tkN_B (buf := buf) hb
    rw [← et1] at hb1 g1
    obtain ⟨hb1a, hb1b, hb1c, hb1d⟩ := id hb1
    refine g_eqI (J := RepM Γ A o ad (tkF F t1) X) (by rw [et1]) ?_
    have P1 : PF (tkF F t1) n t1 := ⟨P.1, rfl, rfl, rfl, rfl, P.2.2.2.2.2⟩
    refine g_if_eq 33 C dX4_massLine_20 rfl (fun c20 => ?_) (fun c20 => ?_)
    · exact absurd c20 (by decide)
    · refine g_aload_n C dX4_massLine_23 rfl rfl ?_
      refine g_iconst (v := 1) C dX4_massLine_24 rfl ?_
      refine g_ldc (v := 999999) C dX4_massLine_25 q1844 ?_
      refine g_mcall (rest := []) 2 C (cb_takes (F := tkF F t1) (X := X) B (show _ = buf from hX) hn hb1 P1 1 999999) (lw_V q1840 q1842 qs54 q107 q1843) (by decide +kernel) ⟨Nat.le_of_ble_eq_true rfl, Nat.le_of_ble_eq_true rfl⟩ ⟨Nat.le_of_ble_eq_true rfl, Nat.le_of_ble_eq_true rfl⟩ rfl rfl (Nat.le_of_ble_eq_true rfl) dX4_massLine_27 ?_
      refine g_if_ne 35 C dX4_massLine_30 rfl (fun c30 => ?_) (fun c30 => ?_)
      · obtain ⟨⟨v2, t2⟩, r2⟩ := isR_T c30
        obtain ⟨k2, ev2, et2, w2, hb2, g2⟩ := pTake_B hb1 r2
        have hv2 : v2 < 1000000 := by rw [ev2]; exact hb1.2.2.2
        obtain ⟨hb2a, hb2b, hb2c, hb2d⟩ := id hb2
        refine g_eqI (J := RepM Γ A o ad (tkF (upd (tkF F t1) 23 (nI v2)) t2) X) (by rw [r2]; rfl) ?_
        have P2 : PF (tkF (upd (tkF F t1) 23 (nI v2)) t2) n t2 := ⟨P.1, rfl, rfl, rfl, rfl, P.2.2.2.2.2⟩
        refine g_aload_n C dX4_massLine_35 rfl rfl ?_
        refine mg_23 C dX4_massLine_36 ?_
        refine g_topi (y := nI v2) rfl ?_
        refine g_istore_n (lv' := [some (.ref o), some (.int (nI c.2.2.1)), some (.int (nI v2)), none]) C dX4_massLine_39 rfl (by decide) rfl ?_
        refine g_aload_n C dX4_massLine_40 rfl rfl ?_
        refine g_ldcS C (hW _ C.r).2.2.2.2.2.2.2.1 dX4_massLine_41 ?_
        refine g_mcall (rest := []) 1 C (cb_isWord (F := tkF (upd (tkF F t1) 23 (nI v2)) t2) (X := X) B (show _ = buf from hX) hn hb2 P2 6 (fun U hU => (hW U hU).1 6 (by decide))) (lw_V q1803 q1805 qs49 q107 q1806) (by decide +kernel) ⟨Nat.le_of_ble_eq_true rfl, Nat.le_of_ble_eq_true rfl⟩ ⟨Nat.le_of_ble_eq_true rfl, Nat.le_of_ble_eq_true rfl⟩ rfl rfl (Nat.le_of_ble_eq_true rfl) dX4_massLine_43 ?_
        cases h6 : wdB buf t2 6 with
        | true =>
          refine g_topi (y := 1) rfl ?_
          refine g_istore_n (lv' := [some (.ref o), some (.int (nI c.2.2.1)), some (.int (nI v2)), some (.int 1)]) C dX4_massLine_46 rfl (by decide) rfl ?_
          refine g_iload_n C dX4_massLine_47 rfl rfl ?_
          refine g_if_ne 60 C dX4_massLine_48 rfl (fun c48 => ?_) (fun c48 => ?_)
          · refine g_aload_n C dX4_massLine_60 rfl rfl ?_
            refine g_mcallv (rest := []) 0 C (cb_advance (F := tkF (upd (tkF F t1) 23 (nI v2)) t2) (X := X) B (show _ = buf from hX) hn hb2 P2) (lw_V q1786 q1788 qs46 q107 q1789) (by decide +kernel) ⟨Nat.le_of_ble_eq_true rfl, Nat.le_of_ble_eq_true rfl⟩ ⟨Nat.le_of_ble_eq_true rfl, Nat.le_of_ble_eq_true rfl⟩ rfl rfl (Nat.le_of_ble_eq_true rfl) dX4_massLine_61 ?_
            obtain ⟨t3, et3⟩ : ∃ x, x = tkN buf n t2 := ⟨_, rfl⟩
            obtain ⟨hb3, g3⟩ := tkN_B (buf := buf) hb2
            rw [← et3] at hb3 g3
            obtain ⟨hb3a, hb3b, hb3c, hb3d⟩ := id hb3
            refine g_eqI (J := RepM Γ A o ad (tkF (tkF (upd (tkF F t1) 23 (nI v2)) t2) t3) X) (by rw [et3]) ?_
            have P3 : PF (tkF (tkF (upd (tkF F t1) 23 (nI v2)) t2) t3) n t3 := ⟨P.1, rfl, rfl, rfl, rfl, P.2.2.2.2.2⟩
            refine g_aload_n C dX4_massLine_64 rfl rfl ?_
            refine g_iconst (v := 0) C dX4_massLine_65 rfl ?_
            refine g_iload_n C dX4_massLine_66 rfl rfl ?_
            refine g_if_ne 76 C dX4_massLine_67 rfl (fun c67 => ?_) (fun c67 => ?_)
            · refine g_bipush (v := 99) C dX4_massLine_76 rfl ?_
              refine g_goto 84 C dX4_massLine_78 rfl ?_
              refine g_mcall (rest := []) 2 C (cb_takes (F := tkF (tkF (upd (tkF F t1) 23 (nI v2)) t2) t3) (X := X) B (show _ = buf from hX) hn hb3 P3 0 99) (lw_V q1840 q1842 qs54 q107 q1843) (by decide +kernel) ⟨Nat.le_of_ble_eq_true rfl, Nat.le_of_ble_eq_true rfl⟩ ⟨Nat.le_of_ble_eq_true rfl, Nat.le_of_ble_eq_true rfl⟩ rfl rfl (Nat.le_of_ble_eq_true rfl) dX4_massLine_84 ?_
              refine g_if_ne 92 C dX4_massLine_87 rfl (fun c87 => ?_) (fun c87 => ?_)
              · obtain ⟨⟨v4, t4⟩, r4⟩ := isR_T c87
                obtain ⟨k4, ev4, et4, w4, hb4, g4⟩ := pTake_B hb3 r4
                have hv4 : v4 < 1000000 := by rw [ev4]; exact hb3.2.2.2
                obtain ⟨hb4a, hb4b, hb4c, hb4d⟩ := id hb4
                refine g_eqI (J := RepM Γ A o ad (tkF (upd (tkF (tkF (upd (tkF F t1) 23 (nI v2)) t2) t3) 23 (nI v4)) t4) X) (by rw [r4]; rfl) ?_
                have P4 : PF (tkF (upd (tkF (tkF (upd (tkF F t1) 23 (nI v2)) t2) t3) 23 (nI v4)) t4) n t4 := ⟨P.1, rfl, rfl, rfl, rfl, P.2.2.2.2.2⟩
                refine g_iload_n C dX4_massLine_92 rfl rfl ?_
                refine g_iload_n C dX4_massLine_93 rfl rfl ?_
                refine g_if_eq 104 C dX4_massLine_94 rfl (fun c94 => ?_) (fun c94 => ?_)
                · exact absurd c94 (by decide)
                · refine g_aload_n C dX4_massLine_97 rfl rfl ?_
                  refine mg_23 C dX4_massLine_98 ?_
                  refine g_topi (y := nI v4) rfl ?_
                  refine g_goto 109 C dX4_massLine_101 rfl ?_
                  refine g_iadd C dX4_massLine_109 ?_
                  refine g_istore_n (lv' := [some (.ref o), some (.int (nI c.2.2.1)), some (.int ((nI v2) + (nI v4))), some (.int 1)]) C dX4_massLine_110 rfl (by decide) rfl ?_
                  refine g_aload_n C dX4_massLine_111 rfl rfl ?_
                  refine mg_31 C dX4_massLine_112 ?_
                  refine g_iload_n C dX4_massLine_115 rfl rfl ?_
                  refine g_iload_n C dX4_massLine_116 rfl rfl ?_
                  refine ms_31 (i := c.2.2.1) C dX4_massLine_117 (by omega) ?_
                  refine g_aload_n C dX4_massLine_118 rfl rfl ?_
                  refine g_dup C dX4_massLine_119 rfl ?_
                  refine mg_30 C dX4_massLine_120 ?_
                  refine g_topi (y := nI c.2.2.1) (Q.2.2.2.2.1) ?_
                  refine g_iconst (v := 1) C dX4_massLine_123 rfl ?_
                  refine g_iadd C dX4_massLine_124 ?_
                  refine g_topi (y := nI (c.2.2.1 + 1)) (nI_add c.2.2.1 1) ?_
                  refine mp_30 C dX4_massLine_125 ?_
                  refine g_iconst (v := 1) C dX4_massLine_128 rfl ?_
                  have er : pMass buf n t c X = .inr (t4, (c.1, c.2.1, c.2.2.1 + 1, c.2.2.2), setX X 31 (upd (X 31) c.2.2.1 ((nI v2) + (nI v4)))) := by rw [pMass, if_pos (by omega), ← et1]; simp only [r2]; rw [if_pos h6]; rw [← et3]; simp only [r4]
                  exact g_zret C R (Nat.le_refl _) (Nat.le_refl _) dX4_massLine_129 rfl (fun H h => ⟨upd (tkF (upd (tkF (tkF (upd (tkF F t1) 23 (nI v2)) t2) t3) 23 (nI v4)) t4) 30 (nI (c.2.2.1 + 1)), setX X 31 (upd (X 31) c.2.2.1 ((nI v2) + (nI v4))), ⟨(FR.up (FR.tk (FR.up (FR.tk (FR.tk (FR.up (FR.tk FR.rf) rfl))) rfl)) rfl), (XR.up XR.rf rfl), by rw [er]; exact ⟨rfl, rfl, ⟨⟨P.1, rfl, rfl, rfl, rfl, P.2.2.2.2.2⟩, Q.2.1, Q.2.2.1, Q.2.2.2.1, rfl, Q.2.2.2.2.2⟩⟩⟩, h⟩)
              · obtain ⟨e4, r4⟩ := isR_F c87
                refine g_eqI (J := RepM Γ A o ad (upd (upd (tkF (tkF (upd (tkF F t1) 23 (nI v2)) t2) t3) 21 (nI e4.1)) 22 (nI e4.2)) X) (by rw [r4]; rfl) ?_
                refine g_iconst (v := 0) C dX4_massLine_90 rfl ?_
                have er : pMass buf n t c X = .inl e4 := by rw [pMass, if_pos (by omega), ← et1]; simp only [r2]; rw [if_pos h6]; rw [← et3]; simp only [r4]
                exact g_zret C R (Nat.le_refl _) (Nat.le_refl _) dX4_massLine_91 rfl (fun H h => ⟨upd (upd (tkF (tkF (upd (tkF F t1) 23 (nI v2)) t2) t3) 21 (nI e4.1)) 22 (nI e4.2), X, ⟨(FR.up (FR.up (FR.tk (FR.tk (FR.up (FR.tk FR.rf) rfl))) rfl) rfl), XR.rf, by rw [er]; exact ⟨rfl, rfl, rfl⟩⟩, h⟩)
            · exact absurd c67 (by decide)
          · exact absurd c48 (by decide)
        | false =>
          refine g_topi (y := 0) rfl ?_
          refine g_istore_n (lv' := [some (.ref o), some (.int (nI c.2.2.1)), some (.int (nI v2)), some (.int 0)]) C dX4_massLine_46 rfl (by decide) rfl ?_
          refine g_iload_n C dX4_massLine_47 rfl rfl ?_
          refine g_if_ne 60 C dX4_massLine_48 rfl (fun c48 => ?_) (fun c48 => ?_)
          · exact absurd c48 (by decide)
          · refine g_aload_n C dX4_massLine_51 rfl rfl ?_
            refine g_ldcS C (hW _ C.r).2.2.2.2.2.2.2.2 dX4_massLine_52 ?_
            refine g_mcall (rest := []) 1 C (cb_isWord (F := tkF (upd (tkF F t1) 23 (nI v2)) t2) (X := X) B (show _ = buf from hX) hn hb2 P2 7 (fun U hU => (hW U hU).1 7 (by decide))) (lw_V q1803 q1805 qs49 q107 q1806) (by decide +kernel) ⟨Nat.le_of_ble_eq_true rfl, Nat.le_of_ble_eq_true rfl⟩ ⟨Nat.le_of_ble_eq_true rfl, Nat.le_of_ble_eq_true rfl⟩ rfl rfl (Nat.le_of_ble_eq_true rfl) dX4_massLine_54 ?_
            cases h7 : wdB buf t2 7 with
            | true =>
              refine g_topi (y := 1) rfl ?_
              refine g_if_eq 111 C dX4_massLine_57 rfl (fun c57 => ?_) (fun c57 => ?_)
              · exact absurd c57 (by decide)
              · refine g_aload_n C dX4_massLine_60 rfl rfl ?_
                refine g_mcallv (rest := []) 0 C (cb_advance (F := tkF (upd (tkF F t1) 23 (nI v2)) t2) (X := X) B (show _ = buf from hX) hn hb2 P2) (lw_V q1786 q1788 qs46 q107 q1789) (by decide +kernel) ⟨Nat.le_of_ble_eq_true rfl, Nat.le_of_ble_eq_true rfl⟩ ⟨Nat.le_of_ble_eq_true rfl, Nat.le_of_ble_eq_true rfl⟩ rfl rfl (Nat.le_of_ble_eq_true rfl) dX4_massLine_61 ?_
                obtain ⟨t3, et3⟩ : ∃ x, x = tkN buf n t2 := ⟨_, rfl⟩
                obtain ⟨hb3, g3⟩ := tkN_B (buf := buf) hb2
                rw [← et3] at hb3 g3
                obtain ⟨hb3a, hb3b, hb3c, hb3d⟩ := id hb3
                refine g_eqI (J := RepM Γ A o ad (tkF (tkF (upd (tkF F t1) 23 (nI v2)) t2) t3) X) (by rw [et3]) ?_
                have P3 : PF (tkF (tkF (upd (tkF F t1) 23 (nI v2)) t2) t3) n t3 := ⟨P.1, rfl, rfl, rfl, rfl, P.2.2.2.2.2⟩
                refine g_aload_n C dX4_massLine_64 rfl rfl ?_
                refine g_iconst (v := 0) C dX4_massLine_65 rfl ?_
                refine g_iload_n C dX4_massLine_66 rfl rfl ?_
                refine g_if_ne 76 C dX4_massLine_67 rfl (fun c67 => ?_) (fun c67 => ?_)
                · exact absurd c67 (by decide)
                · refine g_iload_n C dX4_massLine_70 rfl rfl ?_
                  refine g_bipush (v := 99) C dX4_massLine_71 rfl ?_
                  refine gN_le (a := v2) (b := 99) 81 C dX4_massLine_73 rfl (by omega) (by omega) (fun c73 => ?_) (fun c73 => ?_)
                  · refine g_iload_n C dX4_massLine_81 rfl rfl ?_
                    refine g_iconst (v := 1) C dX4_massLine_82 rfl ?_
                    refine g_isub C dX4_massLine_83 ?_
                    refine g_mcall (rest := []) 2 C (cb_takes (F := tkF (tkF (upd (tkF F t1) 23 (nI v2)) t2) t3) (X := X) B (show _ = buf from hX) hn hb3 P3 0 ((nI v2) - 1)) (lw_V q1840 q1842 qs54 q107 q1843) (by decide +kernel) ⟨Nat.le_of_ble_eq_true rfl, Nat.le_of_ble_eq_true rfl⟩ ⟨Nat.le_of_ble_eq_true rfl, Nat.le_of_ble_eq_true rfl⟩ rfl rfl (Nat.le_of_ble_eq_true rfl) dX4_massLine_84 ?_
                    refine g_if_ne 92 C dX4_massLine_87 rfl (fun c87 => ?_) (fun c87 => ?_)
                    · obtain ⟨⟨v4, t4⟩, r4⟩ := isR_T c87
                      obtain ⟨k4, ev4, et4, w4, hb4, g4⟩ := pTake_B hb3 r4
                      have hv4 : v4 < 1000000 := by rw [ev4]; exact hb3.2.2.2
                      obtain ⟨hb4a, hb4b, hb4c, hb4d⟩ := id hb4
                      refine g_eqI (J := RepM Γ A o ad (tkF (upd (tkF (tkF (upd (tkF F t1) 23 (nI v2)) t2) t3) 23 (nI v4)) t4) X) (by rw [r4]; rfl) ?_
                      have P4 : PF (tkF (upd (tkF (tkF (upd (tkF F t1) 23 (nI v2)) t2) t3) 23 (nI v4)) t4) n t4 := ⟨P.1, rfl, rfl, rfl, rfl, P.2.2.2.2.2⟩
                      refine g_iload_n C dX4_massLine_92 rfl rfl ?_
                      refine g_iload_n C dX4_massLine_93 rfl rfl ?_
                      refine g_if_eq 104 C dX4_massLine_94 rfl (fun c94 => ?_) (fun c94 => ?_)
                      · refine g_aload_n C dX4_massLine_104 rfl rfl ?_
                        refine mg_23 C dX4_massLine_105 ?_
                        refine g_topi (y := nI v4) rfl ?_
                        refine g_ineg C dX4_massLine_108 ?_
                        refine g_iadd C dX4_massLine_109 ?_
                        refine g_istore_n (lv' := [some (.ref o), some (.int (nI c.2.2.1)), some (.int ((nI v2) + (-(nI v4)))), some (.int 0)]) C dX4_massLine_110 rfl (by decide) rfl ?_
                        refine g_aload_n C dX4_massLine_111 rfl rfl ?_
                        refine mg_31 C dX4_massLine_112 ?_
                        refine g_iload_n C dX4_massLine_115 rfl rfl ?_
                        refine g_iload_n C dX4_massLine_116 rfl rfl ?_
                        refine ms_31 (i := c.2.2.1) C dX4_massLine_117 (by omega) ?_
                        refine g_aload_n C dX4_massLine_118 rfl rfl ?_
                        refine g_dup C dX4_massLine_119 rfl ?_
                        refine mg_30 C dX4_massLine_120 ?_
                        refine g_topi (y := nI c.2.2.1) (Q.2.2.2.2.1) ?_
                        refine g_iconst (v := 1) C dX4_massLine_123 rfl ?_
                        refine g_iadd C dX4_massLine_124 ?_
                        refine g_topi (y := nI (c.2.2.1 + 1)) (nI_add c.2.2.1 1) ?_
                        refine mp_30 C dX4_massLine_125 ?_
                        refine g_iconst (v := 1) C dX4_massLine_128 rfl ?_
                        have er : pMass buf n t c X = .inr (t4, (c.1, c.2.1, c.2.2.1 + 1, c.2.2.2), setX X 31 (upd (X 31) c.2.2.1 ((nI v2) + (-(nI v4))))) := by rw [pMass, if_pos (by omega), ← et1]; simp only [r2]; rw [if_neg (show ¬ _ = true by rw [h6]; decide)]; rw [if_pos h7]; rw [← et3]; rw [if_pos (by omega)]; simp only [r4]
                        exact g_zret C R (Nat.le_refl _) (Nat.le_refl _) dX4_massLine_129 rfl (fun H h => ⟨upd (tkF (upd (tkF (tkF (upd (tkF F t1) 23 (nI v2)) t2) t3) 23 (nI v4)) t4) 30 (nI (c.2.2.1 + 1)), setX X 31 (upd (X 31) c.2.2.1 ((nI v2) + (-(nI v4)))), ⟨(FR.up (FR.tk (FR.up (FR.tk (FR.tk (FR.up (FR.tk FR.rf) rfl))) rfl)) rfl), (XR.up XR.rf rfl), by rw [er]; exact ⟨rfl, rfl, ⟨⟨P.1, rfl, rfl, rfl, rfl, P.2.2.2.2.2⟩, Q.2.1, Q.2.2.1, Q.2.2.2.1, rfl, Q.2.2.2.2.2⟩⟩⟩, h⟩)
                      · exact absurd c94 (by decide)
                    · obtain ⟨e4, r4⟩ := isR_F c87
                      refine g_eqI (J := RepM Γ A o ad (upd (upd (tkF (tkF (upd (tkF F t1) 23 (nI v2)) t2) t3) 21 (nI e4.1)) 22 (nI e4.2)) X) (by rw [r4]; rfl) ?_
                      refine g_iconst (v := 0) C dX4_massLine_90 rfl ?_
                      have er : pMass buf n t c X = .inl e4 := by rw [pMass, if_pos (by omega), ← et1]; simp only [r2]; rw [if_neg (show ¬ _ = true by rw [h6]; decide)]; rw [if_pos h7]; rw [← et3]; rw [if_pos (by omega)]; simp only [r4]
                      exact g_zret C R (Nat.le_refl _) (Nat.le_refl _) dX4_massLine_91 rfl (fun H h => ⟨upd (upd (tkF (tkF (upd (tkF F t1) 23 (nI v2)) t2) t3) 21 (nI e4.1)) 22 (nI e4.2), X, ⟨(FR.up (FR.up (FR.tk (FR.tk (FR.up (FR.tk FR.rf) rfl))) rfl) rfl), XR.rf, by rw [er]; exact ⟨rfl, rfl, rfl⟩⟩, h⟩)
                  · refine g_bipush (v := 99) C dX4_massLine_76 rfl ?_
                    refine g_goto 84 C dX4_massLine_78 rfl ?_
                    refine g_mcall (rest := []) 2 C (cb_takes (F := tkF (tkF (upd (tkF F t1) 23 (nI v2)) t2) t3) (X := X) B (show _ = buf from hX) hn hb3 P3 0 99) (lw_V q1840 q1842 qs54 q107 q1843) (by decide +kernel) ⟨Nat.le_of_ble_eq_true rfl, Nat.le_of_ble_eq_true rfl⟩ ⟨Nat.le_of_ble_eq_true rfl, Nat.le_of_ble_eq_true rfl⟩ rfl rfl (Nat.le_of_ble_eq_true rfl) dX4_massLine_84 ?_
                    refine g_if_ne 92 C dX4_massLine_87 rfl (fun c87 => ?_) (fun c87 => ?_)
                    · obtain ⟨⟨v4, t4⟩, r4⟩ := isR_T c87
                      obtain ⟨k4, ev4, et4, w4, hb4, g4⟩ := pTake_B hb3 r4
                      have hv4 : v4 < 1000000 := by rw [ev4]; exact hb3.2.2.2
                      obtain ⟨hb4a, hb4b, hb4c, hb4d⟩ := id hb4
                      refine g_eqI (J := RepM Γ A o ad (tkF (upd (tkF (tkF (upd (tkF F t1) 23 (nI v2)) t2) t3) 23 (nI v4)) t4) X) (by rw [r4]; rfl) ?_
                      have P4 : PF (tkF (upd (tkF (tkF (upd (tkF F t1) 23 (nI v2)) t2) t3) 23 (nI v4)) t4) n t4 := ⟨P.1, rfl, rfl, rfl, rfl, P.2.2.2.2.2⟩
                      refine g_iload_n C dX4_massLine_92 rfl rfl ?_
                      refine g_iload_n C dX4_massLine_93 rfl rfl ?_
                      refine g_if_eq 104 C dX4_massLine_94 rfl (fun c94 => ?_) (fun c94 => ?_)
                      · refine g_aload_n C dX4_massLine_104 rfl rfl ?_
                        refine mg_23 C dX4_massLine_105 ?_
                        refine g_topi (y := nI v4) rfl ?_
                        refine g_ineg C dX4_massLine_108 ?_
                        refine g_iadd C dX4_massLine_109 ?_
                        refine g_istore_n (lv' := [some (.ref o), some (.int (nI c.2.2.1)), some (.int ((nI v2) + (-(nI v4)))), some (.int 0)]) C dX4_massLine_110 rfl (by decide) rfl ?_
                        refine g_aload_n C dX4_massLine_111 rfl rfl ?_
                        refine mg_31 C dX4_massLine_112 ?_
                        refine g_iload_n C dX4_massLine_115 rfl rfl ?_
                        refine g_iload_n C dX4_massLine_116 rfl rfl ?_
                        refine ms_31 (i := c.2.2.1) C dX4_massLine_117 (by omega) ?_
                        refine g_aload_n C dX4_massLine_118 rfl rfl ?_
                        refine g_dup C dX4_massLine_119 rfl ?_
                        refine mg_30 C dX4_massLine_120 ?_
                        refine g_topi (y := nI c.2.2.1) (Q.2.2.2.2.1) ?_
                        refine g_iconst (v := 1) C dX4_massLine_123 rfl ?_
                        refine g_iadd C dX4_massLine_124 ?_
                        refine g_topi (y := nI (c.2.2.1 + 1)) (nI_add c.2.2.1 1) ?_
                        refine mp_30 C dX4_massLine_125 ?_
                        refine g_iconst (v := 1) C dX4_massLine_128 rfl ?_
                        have er : pMass buf n t c X = .inr (t4, (c.1, c.2.1, c.2.2.1 + 1, c.2.2.2), setX X 31 (upd (X 31) c.2.2.1 ((nI v2) + (-(nI v4))))) := by rw [pMass, if_pos (by omega), ← et1]; simp only [r2]; rw [if_neg (show ¬ _ = true by rw [h6]; decide)]; rw [if_pos h7]; rw [← et3]; rw [if_neg (by omega)]; simp only [r4]
                        exact g_zret C R (Nat.le_refl _) (Nat.le_refl _) dX4_massLine_129 rfl (fun H h => ⟨upd (tkF (upd (tkF (tkF (upd (tkF F t1) 23 (nI v2)) t2) t3) 23 (nI v4)) t4) 30 (nI (c.2.2.1 + 1)), setX X 31 (upd (X 31) c.2.2.1 ((nI v2) + (-(nI v4)))), ⟨(FR.up (FR.tk (FR.up (FR.tk (FR.tk (FR.up (FR.tk FR.rf) rfl))) rfl)) rfl), (XR.up XR.rf rfl), by rw [er]; exact ⟨rfl, rfl, ⟨⟨P.1, rfl, rfl, rfl, rfl, P.2.2.2.2.2⟩, Q.2.1, Q.2.2.1, Q.2.2.2.1, rfl, Q.2.2.2.2.2⟩⟩⟩, h⟩)
                      · exact absurd c94 (by decide)
                    · obtain ⟨e4, r4⟩ := isR_F c87
                      refine g_eqI (J := RepM Γ A o ad (upd (upd (tkF (tkF (upd (tkF F t1) 23 (nI v2)) t2) t3) 21 (nI e4.1)) 22 (nI e4.2)) X) (by rw [r4]; rfl) ?_
                      refine g_iconst (v := 0) C dX4_massLine_90 rfl ?_
                      have er : pMass buf n t c X = .inl e4 := by rw [pMass, if_pos (by omega), ← et1]; simp only [r2]; rw [if_neg (show ¬ _ = true by rw [h6]; decide)]; rw [if_pos h7]; rw [← et3]; rw [if_neg (by omega)]; simp only [r4]
                      exact g_zret C R (Nat.le_refl _) (Nat.le_refl _) dX4_massLine_91 rfl (fun H h => ⟨upd (upd (tkF (tkF (upd (tkF F t1) 23 (nI v2)) t2) t3) 21 (nI e4.1)) 22 (nI e4.2), X, ⟨(FR.up (FR.up (FR.tk (FR.tk (FR.up (FR.tk FR.rf) rfl))) rfl) rfl), XR.rf, by rw [er]; exact ⟨rfl, rfl, rfl⟩⟩, h⟩)
            | false =>
              refine g_topi (y := 0) rfl ?_
              refine g_if_eq 111 C dX4_massLine_57 rfl (fun c57 => ?_) (fun c57 => ?_)
              · refine g_aload_n C dX4_massLine_111 rfl rfl ?_
                refine mg_31 C dX4_massLine_112 ?_
                refine g_iload_n C dX4_massLine_115 rfl rfl ?_
                refine g_iload_n C dX4_massLine_116 rfl rfl ?_
                refine ms_31 (i := c.2.2.1) C dX4_massLine_117 (by omega) ?_
                refine g_aload_n C dX4_massLine_118 rfl rfl ?_
                refine g_dup C dX4_massLine_119 rfl ?_
                refine mg_30 C dX4_massLine_120 ?_
                refine g_topi (y := nI c.2.2.1) (Q.2.2.2.2.1) ?_
                refine g_iconst (v := 1) C dX4_massLine_123 rfl ?_
                refine g_iadd C dX4_massLine_124 ?_
                refine g_topi (y := nI (c.2.2.1 + 1)) (nI_add c.2.2.1 1) ?_
                refine mp_30 C dX4_massLine_125 ?_
                refine g_iconst (v := 1) C dX4_massLine_128 rfl ?_
                have er : pMass buf n t c X = .inr (t2, (c.1, c.2.1, c.2.2.1 + 1, c.2.2.2), setX X 31 (upd (X 31) c.2.2.1 (nI v2))) := by rw [pMass, if_pos (by omega), ← et1]; simp only [r2]; rw [if_neg (show ¬ _ = true by rw [h6]; decide)]; rw [if_neg (show ¬ _ = true by rw [h7]; decide)]
                exact g_zret C R (Nat.le_refl _) (Nat.le_refl _) dX4_massLine_129 rfl (fun H h => ⟨upd (tkF (upd (tkF F t1) 23 (nI v2)) t2) 30 (nI (c.2.2.1 + 1)), setX X 31 (upd (X 31) c.2.2.1 (nI v2)), ⟨(FR.up (FR.tk (FR.up (FR.tk FR.rf) rfl)) rfl), (XR.up XR.rf rfl), by rw [er]; exact ⟨rfl, rfl, ⟨⟨P.1, rfl, rfl, rfl, rfl, P.2.2.2.2.2⟩, Q.2.1, Q.2.2.1, Q.2.2.2.1, rfl, Q.2.2.2.2.2⟩⟩⟩, h⟩)
              · exact absurd c57 (by decide)
      · obtain ⟨e2, r2⟩ := isR_F c30
        refine g_eqI (J := RepM Γ A o ad (upd (upd (tkF F t1) 21 (nI e2.1)) 22 (nI e2.2)) X) (by rw [r2]; rfl) ?_
        refine g_iconst (v := 0) C dX4_massLine_33 rfl ?_
        have er : pMass buf n t c X = .inl e2 := by rw [pMass, if_pos (by omega), ← et1]; simp only [r2]
        exact g_zret C R (Nat.le_refl _) (Nat.le_refl _) dX4_massLine_34 rfl (fun H h => ⟨upd (upd (tkF F t1) 21 (nI e2.1)) 22 (nI e2.2), X, ⟨(FR.up (FR.up (FR.tk FR.rf) rfl) rfl), XR.rf, by rw [er]; exact ⟨rfl, rfl, rfl⟩⟩, h⟩)
set_option maxRecDepth 100000 in
set_option maxHeartbeats 2000000 in
theorem ct_setLine {l : Launch} {Γ : Gm} {A : Nat → Prop} {ρ : State → Prop} (B : Bs l A ρ) {o : Nat} {ad : Nat → Nat} {F : Nat → Int32} {X : Nat → Nat → Int32} {n : Nat} {t : Tk} {c : Cn} {buf : Nat → Int32} (hX : X 14 = buf) (hn : n ≤ 800) (hb : TkB n t) (hc : CnB c) (Q : PS F n t c) {sa va : Nat → Nat} (hW : ∀ U, ρ U → SKm A sa va U) : CtL l Γ A ρ yX4_setLine cX4_setLine 2 5 108 o ad F X n (pSet buf n t c X) := by
  refine Ct.of B.1 B.2 (by decide) [some (.ref o), none] (Nat.le_of_ble_eq_true rfl) rfl ?_
  intro E hE C R
  subst hE
  have P := Q.1
  obtain ⟨hc1, hc2, hc3, hc4⟩ := hc
  obtain ⟨hba, hbb, hbc, hbd⟩ := id hb
  refine g_aload_n C dX4_setLine_0 rfl rfl ?_
  refine mg_32 C dX4_setLine_1 ?_
  refine g_topi (y := nI c.2.2.2) (Q.2.2.2.2.2) ?_
  refine g_istore_n (lv' := [some (.ref o), some (.int (nI c.2.2.2))]) C dX4_setLine_4 rfl (by decide) rfl ?_
  refine g_aload_n C dX4_setLine_5 rfl rfl ?_
  refine g_iload_n C dX4_setLine_6 rfl rfl ?_
  refine g_iconst (v := 4) C dX4_setLine_7 rfl ?_
  refine gN_ge (a := c.2.2.2) (b := 4) 15 C dX4_setLine_8 rfl (by omega) (by omega) (fun c8 => ?_) (fun c8 => ?_)
  · refine g_iconst (v := 0) C dX4_setLine_15 rfl ?_
    refine g_mcall (rest := []) 1 C (cb_beginsN (F := F) (X := X) B (show _ = buf from hX) hn hb P) (lw_V q1827 q1829 qs51 q107 q1830) (by decide +kernel) ⟨Nat.le_of_ble_eq_true rfl, Nat.le_of_ble_eq_true rfl⟩ ⟨Nat.le_of_ble_eq_true rfl, Nat.le_of_ble_eq_true rfl⟩ rfl rfl (Nat.le_of_ble_eq_true rfl) dX4_setLine_16 ?_
    refine g_if_eq 32 C dX4_setLine_19 rfl (fun c19 => ?_) (fun c19 => ?_)
    · refine g_iconst (v := 0) C dX4_setLine_32 rfl ?_
      have er : pSet buf n t c X = .inl (4, t.1) := by rw [pSet, if_neg (by omega)]
      exact g_zret C R (Nat.le_refl _) (Nat.le_refl _) dX4_setLine_33 rfl (fun H h => ⟨upd (upd F 21 (nI 4)) 22 (nI t.1), X, ⟨(FR.up (FR.up FR.rf rfl) rfl), XR.rf, by rw [er]; exact ⟨rfl, rfl, rfl⟩⟩, h⟩)
    · exact absurd c19 (by decide)
  · refine g_iconst (v := 1) C dX4_setLine_11 rfl ?_
    refine g_goto 16 C dX4_setLine_12 rfl ?_
    refine g_mcall (rest := []) 1 C (cb_beginsY (F := F) (X := X) B (show _ = buf from hX) hn hb P) (lw_V q1827 q1829 qs51 q107 q1830) (by decide +kernel) ⟨Nat.le_of_ble_eq_true rfl, Nat.le_of_ble_eq_true rfl⟩ ⟨Nat.le_of_ble_eq_true rfl, Nat.le_of_ble_eq_true rfl⟩ rfl rfl (Nat.le_of_ble_eq_true rfl) dX4_setLine_16 ?_
    obtain ⟨t1, et1⟩ : ∃ x, x = tkN buf n t := ⟨_, rfl⟩
    obtain ⟨hb1, g1⟩ := tkN_B (buf := buf) hb
    rw [← et1] at hb1 g1
    obtain ⟨hb1a, hb1b, hb1c, hb1d⟩ := id hb1
    refine g_eqI (J := RepM Γ A o ad (tkF F t1) X) (by rw [et1]) ?_
    have P1 : PF (tkF F t1) n t1 := ⟨P.1, rfl, rfl, rfl, rfl, P.2.2.2.2.2⟩
    refine g_if_eq 32 C dX4_setLine_19 rfl (fun c19 => ?_) (fun c19 => ?_)
    · exact absurd c19 (by decide)
    · refine g_aload_n C dX4_setLine_22 rfl rfl ?_
      refine g_iconst (v := 2) C dX4_setLine_23 rfl ?_
      refine g_bipush (v := 12) C dX4_setLine_24 rfl ?_
      refine g_mcall (rest := []) 2 C (cb_takes (F := tkF F t1) (X := X) B (show _ = buf from hX) hn hb1 P1 2 12) (lw_V q1840 q1842 qs54 q107 q1843) (by decide +kernel) ⟨Nat.le_of_ble_eq_true rfl, Nat.le_of_ble_eq_true rfl⟩ ⟨Nat.le_of_ble_eq_true rfl, Nat.le_of_ble_eq_true rfl⟩ rfl rfl (Nat.le_of_ble_eq_true rfl) dX4_setLine_26 ?_
      refine g_if_ne 34 C dX4_setLine_29 rfl (fun c29 => ?_) (fun c29 => ?_)
      · obtain ⟨⟨v2, t2⟩, r2⟩ := isR_T c29
        obtain ⟨k2, ev2, et2, w2, hb2, g2⟩ := pTake_B hb1 r2
        have hv2 : v2 < 1000000 := by rw [ev2]; exact hb1.2.2.2
        obtain ⟨hb2a, hb2b, hb2c, hb2d⟩ := id hb2
        refine g_eqI (J := RepM Γ A o ad (tkF (upd (tkF F t1) 23 (nI v2)) t2) X) (by rw [r2]; rfl) ?_
        have P2 : PF (tkF (upd (tkF F t1) 23 (nI v2)) t2) n t2 := ⟨P.1, rfl, rfl, rfl, rfl, P.2.2.2.2.2⟩
        refine g_aload_n C dX4_setLine_34 rfl rfl ?_
        refine mg_33 C dX4_setLine_35 ?_
        refine g_iload_n C dX4_setLine_38 rfl rfl ?_
        refine g_aload_n C dX4_setLine_39 rfl rfl ?_
        refine mg_23 C dX4_setLine_40 ?_
        refine g_topi (y := nI v2) rfl ?_
        refine ms_33 (i := c.2.2.2) C dX4_setLine_43 (by omega) ?_
        refine g_aload_n C dX4_setLine_44 rfl rfl ?_
        refine mg_34 C dX4_setLine_45 ?_
        refine g_iload_n C dX4_setLine_48 rfl rfl ?_
        refine g_aload_n C dX4_setLine_49 rfl rfl ?_
        refine g_ldcS C (hW _ C.r).2.2.2.2.2.2.1 dX4_setLine_50 ?_
        refine g_mcall (rest := [.int (nI c.2.2.2), .ref (ad 34)]) 1 C (cb_isWord (F := tkF (upd (tkF F t1) 23 (nI v2)) t2) (X := setX X 33 (upd (X 33) c.2.2.2 (nI v2))) B (show _ = buf from hX) hn hb2 P2 5 (fun U hU => (hW U hU).1 5 (by decide))) (lw_V q1803 q1805 qs49 q107 q1806) (by decide +kernel) ⟨Nat.le_of_ble_eq_true rfl, Nat.le_of_ble_eq_true rfl⟩ ⟨Nat.le_of_ble_eq_true rfl, Nat.le_of_ble_eq_true rfl⟩ rfl rfl (Nat.le_of_ble_eq_true rfl) dX4_setLine_52 ?_
        cases h5 : wdB buf t2 5 with
        | true =>
          refine g_topi (y := 1) rfl ?_
          refine ms_34 (i := c.2.2.2) C dX4_setLine_55 (by omega) rfl ?_
          refine g_eqI (J := RepM Γ A o ad (tkF (upd (tkF F t1) 23 (nI v2)) t2) (setX (setX X 33 (upd (X 33) c.2.2.2 (nI v2))) 34 (upd (X 34) c.2.2.2 1))) rfl ?_
          refine g_aload_n C dX4_setLine_56 rfl rfl ?_
          refine mg_34 C dX4_setLine_57 ?_
          refine g_iload_n C dX4_setLine_60 rfl rfl ?_
          refine ml_34 (i := c.2.2.2) C dX4_setLine_61 (by omega) ?_
          refine g_topi (y := (upd (X 34) c.2.2.2 1) c.2.2.2) rfl ?_
          refine g_topi (y := 1) (upd_self _ _ _) ?_
          refine g_if_eq 69 C dX4_setLine_62 rfl (fun c62 => ?_) (fun c62 => ?_)
          · exact absurd c62 (by decide)
          · refine g_aload_n C dX4_setLine_65 rfl rfl ?_
            refine g_mcallv (rest := []) 0 C (cb_advance (F := tkF (upd (tkF F t1) 23 (nI v2)) t2) (X := setX (setX X 33 (upd (X 33) c.2.2.2 (nI v2))) 34 (upd (X 34) c.2.2.2 1)) B (show _ = buf from hX) hn hb2 P2) (lw_V q1786 q1788 qs46 q107 q1789) (by decide +kernel) ⟨Nat.le_of_ble_eq_true rfl, Nat.le_of_ble_eq_true rfl⟩ ⟨Nat.le_of_ble_eq_true rfl, Nat.le_of_ble_eq_true rfl⟩ rfl rfl (Nat.le_of_ble_eq_true rfl) dX4_setLine_66 ?_
            obtain ⟨t3, et3⟩ : ∃ x, x = tkN buf n t2 := ⟨_, rfl⟩
            obtain ⟨hb3, g3⟩ := tkN_B (buf := buf) hb2
            rw [← et3] at hb3 g3
            obtain ⟨hb3a, hb3b, hb3c, hb3d⟩ := id hb3
            refine g_eqI (J := RepM Γ A o ad (tkF (tkF (upd (tkF F t1) 23 (nI v2)) t2) t3) (setX (setX X 33 (upd (X 33) c.2.2.2 (nI v2))) 34 (upd (X 34) c.2.2.2 1))) (by rw [et3]) ?_
            have P3 : PF (tkF (tkF (upd (tkF F t1) 23 (nI v2)) t2) t3) n t3 := ⟨P.1, rfl, rfl, rfl, rfl, P.2.2.2.2.2⟩
            refine g_aload_n C dX4_setLine_69 rfl rfl ?_
            refine g_dup C dX4_setLine_70 rfl ?_
            refine mg_32 C dX4_setLine_71 ?_
            refine g_topi (y := nI c.2.2.2) (Q.2.2.2.2.2) ?_
            refine g_iconst (v := 1) C dX4_setLine_74 rfl ?_
            refine g_iadd C dX4_setLine_75 ?_
            refine g_topi (y := nI (c.2.2.2 + 1)) (nI_add c.2.2.2 1) ?_
            refine mp_32 C dX4_setLine_76 ?_
            refine g_iconst (v := 1) C dX4_setLine_79 rfl ?_
            have er : pSet buf n t c X = .inr (t3, (c.1, c.2.1, c.2.2.1, c.2.2.2 + 1), setX (setX X 33 (upd (X 33) c.2.2.2 (nI v2))) 34 (upd (X 34) c.2.2.2 1)) := by rw [pSet, if_pos (by omega), ← et1]; simp only [r2]; rw [h5, if_pos rfl, ← et3]; rfl
            exact g_zret C R (Nat.le_refl _) (Nat.le_refl _) dX4_setLine_80 rfl (fun H h => ⟨upd (tkF (tkF (upd (tkF F t1) 23 (nI v2)) t2) t3) 32 (nI (c.2.2.2 + 1)), setX (setX X 33 (upd (X 33) c.2.2.2 (nI v2))) 34 (upd (X 34) c.2.2.2 1), ⟨(FR.up (FR.tk (FR.tk (FR.up (FR.tk FR.rf) rfl))) rfl), (XR.up (XR.up XR.rf rfl) rfl), by rw [er]; exact ⟨rfl, rfl, ⟨⟨P.1, rfl, rfl, rfl, rfl, P.2.2.2.2.2⟩, Q.2.1, Q.2.2.1, Q.2.2.2.1, Q.2.2.2.2.1, rfl⟩⟩⟩, h⟩)
        | false =>
          refine g_topi (y := 0) rfl ?_
          refine ms_34 (i := c.2.2.2) C dX4_setLine_55 (by omega) rfl ?_
          refine g_eqI (J := RepM Γ A o ad (tkF (upd (tkF F t1) 23 (nI v2)) t2) (setX (setX X 33 (upd (X 33) c.2.2.2 (nI v2))) 34 (upd (X 34) c.2.2.2 0))) rfl ?_
          refine g_aload_n C dX4_setLine_56 rfl rfl ?_
          refine mg_34 C dX4_setLine_57 ?_
          refine g_iload_n C dX4_setLine_60 rfl rfl ?_
          refine ml_34 (i := c.2.2.2) C dX4_setLine_61 (by omega) ?_
          refine g_topi (y := (upd (X 34) c.2.2.2 0) c.2.2.2) rfl ?_
          refine g_topi (y := 0) (upd_self _ _ _) ?_
          refine g_if_eq 69 C dX4_setLine_62 rfl (fun c62 => ?_) (fun c62 => ?_)
          · refine g_aload_n C dX4_setLine_69 rfl rfl ?_
            refine g_dup C dX4_setLine_70 rfl ?_
            refine mg_32 C dX4_setLine_71 ?_
            refine g_topi (y := nI c.2.2.2) (Q.2.2.2.2.2) ?_
            refine g_iconst (v := 1) C dX4_setLine_74 rfl ?_
            refine g_iadd C dX4_setLine_75 ?_
            refine g_topi (y := nI (c.2.2.2 + 1)) (nI_add c.2.2.2 1) ?_
            refine mp_32 C dX4_setLine_76 ?_
            refine g_iconst (v := 1) C dX4_setLine_79 rfl ?_
            have er : pSet buf n t c X = .inr (t2, (c.1, c.2.1, c.2.2.1, c.2.2.2 + 1), setX (setX X 33 (upd (X 33) c.2.2.2 (nI v2))) 34 (upd (X 34) c.2.2.2 0)) := by rw [pSet, if_pos (by omega), ← et1]; simp only [r2]; rw [h5, if_neg (by decide)]; rfl
            exact g_zret C R (Nat.le_refl _) (Nat.le_refl _) dX4_setLine_80 rfl (fun H h => ⟨upd (tkF (upd (tkF F t1) 23 (nI v2)) t2) 32 (nI (c.2.2.2 + 1)), setX (setX X 33 (upd (X 33) c.2.2.2 (nI v2))) 34 (upd (X 34) c.2.2.2 0), ⟨(FR.up (FR.tk (FR.up (FR.tk FR.rf) rfl)) rfl), (XR.up (XR.up XR.rf rfl) rfl), by rw [er]; exact ⟨rfl, rfl, ⟨⟨P.1, rfl, rfl, rfl, rfl, P.2.2.2.2.2⟩, Q.2.1, Q.2.2.1, Q.2.2.2.1, Q.2.2.2.2.1, rfl⟩⟩⟩, h⟩)
          · exact absurd c62 (by decide)
      · obtain ⟨e2, r2⟩ := isR_F c29
        refine g_eqI (J := RepM Γ A o ad (upd (upd (tkF F t1) 21 (nI e2.1)) 22 (nI e2.2)) X) (by rw [r2]; rfl) ?_
        refine g_iconst (v := 0) C dX4_setLine_32 rfl ?_
        have er : pSet buf n t c X = .inl e2 := by rw [pSet, if_pos (by omega), ← et1]; simp only [r2]
        exact g_zret C R (Nat.le_refl _) (Nat.le_refl _) dX4_setLine_33 rfl (fun H h => ⟨upd (upd (tkF F t1) 21 (nI e2.1)) 22 (nI e2.2), X, ⟨(FR.up (FR.up (FR.tk FR.rf) rfl) rfl), XR.rf, by rw [er]; exact ⟨rfl, rfl, rfl⟩⟩, h⟩)
set_option maxRecDepth 100000 in
set_option maxHeartbeats 2000000 in
theorem ct_termLine {l : Launch} {Γ : Gm} {A : Nat → Prop} {ρ : State → Prop} (B : Bs l A ρ) {o : Nat} {ad : Nat → Nat} {F : Nat → Int32} {X : Nat → Nat → Int32} {n : Nat} {t : Tk} {c : Cn} {buf : Nat → Int32} (hX : X 14 = buf) (hn : n ≤ 800) (hb : TkB n t) (hc : CnB c) (Q : PS F n t c) {sa va : Nat → Nat} (hW : ∀ U, ρ U → SKm A sa va U) : CtL l Γ A ρ yX4_termLine cX4_termLine 2 3 68 o ad F X n (pTerm buf n t c X) := by
  refine Ct.of B.1 B.2 (by decide) [some (.ref o), none] (Nat.le_of_ble_eq_true rfl) rfl ?_
  intro E hE C R
  subst hE
  have P := Q.1
  obtain ⟨hc1, hc2, hc3, hc4⟩ := hc
  obtain ⟨hba, hbb, hbc, hbd⟩ := id hb
  refine g_aload_n C dX4_termLine_0 rfl rfl ?_
  refine g_mcallv (rest := []) 0 C (cb_advance (F := F) (X := X) B (show _ = buf from hX) hn hb P) (lw_V q1786 q1788 qs46 q107 q1789) (by decide +kernel) ⟨Nat.le_of_ble_eq_true rfl, Nat.le_of_ble_eq_true rfl⟩ ⟨Nat.le_of_ble_eq_true rfl, Nat.le_of_ble_eq_true rfl⟩ rfl rfl (Nat.le_of_ble_eq_true rfl) dX4_termLine_1 ?_
  obtain ⟨t1, et1⟩ : ∃ x, x = tkN buf n t := ⟨_, rfl⟩
  obtain ⟨hb1, g1⟩ := tkN_B (buf := buf) hb
  rw [← et1] at hb1 g1
  obtain ⟨hb1a, hb1b, hb1c, hb1d⟩ := id hb1
  refine g_eqI (J := RepM Γ A o ad (tkF F t1) X) (by rw [et1]) ?_
  have P1 : PF (tkF F t1) n t1 := ⟨P.1, rfl, rfl, rfl, rfl, P.2.2.2.2.2⟩
  refine g_aload_n C dX4_termLine_4 rfl rfl ?_
  refine mg_19 C dX4_termLine_5 ?_
  refine g_topi (y := nI t1.2.2.1) rfl ?_
  refine g_iconst (v := 2) C dX4_termLine_8 rfl ?_
  refine gN_ne (a := t1.2.2.1) (b := 2) 38 C dX4_termLine_9 rfl (by omega) (by omega) (fun c9 => ?_) (fun c9 => ?_)
  · refine g_aload_n C dX4_termLine_38 rfl rfl ?_
    refine g_iconst (v := 0) C dX4_termLine_39 rfl ?_
    refine g_iconst (v := 2) C dX4_termLine_40 rfl ?_
    refine g_mcall (rest := []) 2 C (cb_takes (F := tkF F t1) (X := X) B (show _ = buf from hX) hn hb1 P1 0 2) (lw_V q1840 q1842 qs54 q107 q1843) (by decide +kernel) ⟨Nat.le_of_ble_eq_true rfl, Nat.le_of_ble_eq_true rfl⟩ ⟨Nat.le_of_ble_eq_true rfl, Nat.le_of_ble_eq_true rfl⟩ rfl rfl (Nat.le_of_ble_eq_true rfl) dX4_termLine_41 ?_
    refine g_if_ne 49 C dX4_termLine_44 rfl (fun c44 => ?_) (fun c44 => ?_)
    · obtain ⟨⟨v2, t2⟩, r2⟩ := isR_T c44
      obtain ⟨k2, ev2, et2, w2, hb2, g2⟩ := pTake_B hb1 r2
      have hv2 : v2 < 1000000 := by rw [ev2]; exact hb1.2.2.2
      obtain ⟨hb2a, hb2b, hb2c, hb2d⟩ := id hb2
      refine g_eqI (J := RepM Γ A o ad (tkF (upd (tkF F t1) 23 (nI v2)) t2) X) (by rw [r2]; rfl) ?_
      have P2 : PF (tkF (upd (tkF F t1) 23 (nI v2)) t2) n t2 := ⟨P.1, rfl, rfl, rfl, rfl, P.2.2.2.2.2⟩
      refine g_aload_n C dX4_termLine_49 rfl rfl ?_
      refine mg_23 C dX4_termLine_50 ?_
      refine g_topi (y := nI v2) rfl ?_
      refine g_istore_n (lv' := [some (.ref o), some (.int (nI v2))]) C dX4_termLine_53 rfl (by decide) rfl ?_
      refine g_aload_n C dX4_termLine_54 rfl rfl ?_
      refine g_iconst (v := 1) C dX4_termLine_55 rfl ?_
      refine g_iconst (v := 5) C dX4_termLine_56 rfl ?_
      refine g_mcall (rest := []) 2 C (cb_takes (F := tkF (upd (tkF F t1) 23 (nI v2)) t2) (X := X) B (show _ = buf from hX) hn hb2 P2 1 5) (lw_V q1840 q1842 qs54 q107 q1843) (by decide +kernel) ⟨Nat.le_of_ble_eq_true rfl, Nat.le_of_ble_eq_true rfl⟩ ⟨Nat.le_of_ble_eq_true rfl, Nat.le_of_ble_eq_true rfl⟩ rfl rfl (Nat.le_of_ble_eq_true rfl) dX4_termLine_57 ?_
      refine g_if_ne 65 C dX4_termLine_60 rfl (fun c60 => ?_) (fun c60 => ?_)
      · obtain ⟨⟨v3, t3⟩, r3⟩ := isR_T c60
        obtain ⟨k3, ev3, et3, w3, hb3, g3⟩ := pTake_B hb2 r3
        have hv3 : v3 < 1000000 := by rw [ev3]; exact hb2.2.2.2
        obtain ⟨hb3a, hb3b, hb3c, hb3d⟩ := id hb3
        refine g_eqI (J := RepM Γ A o ad (tkF (upd (tkF (upd (tkF F t1) 23 (nI v2)) t2) 23 (nI v3)) t3) X) (by rw [r3]; rfl) ?_
        have P3 : PF (tkF (upd (tkF (upd (tkF F t1) 23 (nI v2)) t2) 23 (nI v3)) t3) n t3 := ⟨P.1, rfl, rfl, rfl, rfl, P.2.2.2.2.2⟩
        have q2 := (rnI_nat (lo := 0) (hi := 2) (by omega) (by decide) (by decide) w2).2
        refine g_aload_n C dX4_termLine_65 rfl rfl ?_
        refine mg_35 C dX4_termLine_66 ?_
        refine g_iload_n C dX4_termLine_69 rfl rfl ?_
        refine g_aload_n C dX4_termLine_70 rfl rfl ?_
        refine mg_23 C dX4_termLine_71 ?_
        refine g_topi (y := nI v3) rfl ?_
        refine ms_35 (i := v2) C dX4_termLine_74 (by omega) ?_
        refine g_iconst (v := 1) C dX4_termLine_75 rfl ?_
        have er : pTerm buf n t c X = .inr (t3, c, setX X 35 (upd (X 35) v2 (nI v3))) := by rw [pTerm, ← et1, if_neg (fun z => c9 z.1), pTerm2]; simp only [r2, r3]
        exact g_zret C R (Nat.le_refl _) (Nat.le_refl _) dX4_termLine_76 rfl (fun H h => ⟨tkF (upd (tkF (upd (tkF F t1) 23 (nI v2)) t2) 23 (nI v3)) t3, setX X 35 (upd (X 35) v2 (nI v3)), ⟨(FR.tk (FR.up (FR.tk (FR.up (FR.tk FR.rf) rfl)) rfl)), (XR.up XR.rf rfl), by rw [er]; exact ⟨rfl, rfl, ⟨⟨P.1, rfl, rfl, rfl, rfl, P.2.2.2.2.2⟩, Q.2.1, Q.2.2.1, Q.2.2.2.1, Q.2.2.2.2.1, Q.2.2.2.2.2⟩⟩⟩, h⟩)
      · obtain ⟨e3, r3⟩ := isR_F c60
        refine g_eqI (J := RepM Γ A o ad (upd (upd (tkF (upd (tkF F t1) 23 (nI v2)) t2) 21 (nI e3.1)) 22 (nI e3.2)) X) (by rw [r3]; rfl) ?_
        refine g_iconst (v := 0) C dX4_termLine_63 rfl ?_
        have er : pTerm buf n t c X = .inl e3 := by rw [pTerm, ← et1, if_neg (fun z => c9 z.1), pTerm2]; simp only [r2, r3]
        exact g_zret C R (Nat.le_refl _) (Nat.le_refl _) dX4_termLine_64 rfl (fun H h => ⟨upd (upd (tkF (upd (tkF F t1) 23 (nI v2)) t2) 21 (nI e3.1)) 22 (nI e3.2), X, ⟨(FR.up (FR.up (FR.tk (FR.up (FR.tk FR.rf) rfl)) rfl) rfl), XR.rf, by rw [er]; exact ⟨rfl, rfl, rfl⟩⟩, h⟩)
    · obtain ⟨e2, r2⟩ := isR_F c44
      refine g_eqI (J := RepM Γ A o ad (upd (upd (tkF F t1) 21 (nI e2.1)) 22 (nI e2.2)) X) (by rw [r2]; rfl) ?_
      refine g_iconst (v := 0) C dX4_termLine_47 rfl ?_
      have er : pTerm buf n t c X = .inl e2 := by rw [pTerm, ← et1, if_neg (fun z => c9 z.1), pTerm2]; simp only [r2]
      exact g_zret C R (Nat.le_refl _) (Nat.le_refl _) dX4_termLine_48 rfl (fun H h => ⟨upd (upd (tkF F t1) 21 (nI e2.1)) 22 (nI e2.2), X, ⟨(FR.up (FR.up (FR.tk FR.rf) rfl) rfl), XR.rf, by rw [er]; exact ⟨rfl, rfl, rfl⟩⟩, h⟩)
  · refine g_aload_n C dX4_termLine_12 rfl rfl ?_
    refine mg_20 C dX4_termLine_13 ?_
    refine g_topi (y := nI t1.2.2.2) rfl ?_
    refine g_iconst (v := 3) C dX4_termLine_16 rfl ?_
    refine gN_ge (a := t1.2.2.2) (b := 3) 38 C dX4_termLine_17 rfl (by omega) (by omega) (fun c17 => ?_) (fun c17 => ?_)
    · refine g_aload_n C dX4_termLine_38 rfl rfl ?_
      refine g_iconst (v := 0) C dX4_termLine_39 rfl ?_
      refine g_iconst (v := 2) C dX4_termLine_40 rfl ?_
      refine g_mcall (rest := []) 2 C (cb_takes (F := tkF F t1) (X := X) B (show _ = buf from hX) hn hb1 P1 0 2) (lw_V q1840 q1842 qs54 q107 q1843) (by decide +kernel) ⟨Nat.le_of_ble_eq_true rfl, Nat.le_of_ble_eq_true rfl⟩ ⟨Nat.le_of_ble_eq_true rfl, Nat.le_of_ble_eq_true rfl⟩ rfl rfl (Nat.le_of_ble_eq_true rfl) dX4_termLine_41 ?_
      refine g_if_ne 49 C dX4_termLine_44 rfl (fun c44 => ?_) (fun c44 => ?_)
      · obtain ⟨⟨v2, t2⟩, r2⟩ := isR_T c44
        obtain ⟨k2, ev2, et2, w2, hb2, g2⟩ := pTake_B hb1 r2
        have hv2 : v2 < 1000000 := by rw [ev2]; exact hb1.2.2.2
        obtain ⟨hb2a, hb2b, hb2c, hb2d⟩ := id hb2
        refine g_eqI (J := RepM Γ A o ad (tkF (upd (tkF F t1) 23 (nI v2)) t2) X) (by rw [r2]; rfl) ?_
        have P2 : PF (tkF (upd (tkF F t1) 23 (nI v2)) t2) n t2 := ⟨P.1, rfl, rfl, rfl, rfl, P.2.2.2.2.2⟩
        refine g_aload_n C dX4_termLine_49 rfl rfl ?_
        refine mg_23 C dX4_termLine_50 ?_
        refine g_topi (y := nI v2) rfl ?_
        refine g_istore_n (lv' := [some (.ref o), some (.int (nI v2))]) C dX4_termLine_53 rfl (by decide) rfl ?_
        refine g_aload_n C dX4_termLine_54 rfl rfl ?_
        refine g_iconst (v := 1) C dX4_termLine_55 rfl ?_
        refine g_iconst (v := 5) C dX4_termLine_56 rfl ?_
        refine g_mcall (rest := []) 2 C (cb_takes (F := tkF (upd (tkF F t1) 23 (nI v2)) t2) (X := X) B (show _ = buf from hX) hn hb2 P2 1 5) (lw_V q1840 q1842 qs54 q107 q1843) (by decide +kernel) ⟨Nat.le_of_ble_eq_true rfl, Nat.le_of_ble_eq_true rfl⟩ ⟨Nat.le_of_ble_eq_true rfl, Nat.le_of_ble_eq_true rfl⟩ rfl rfl (Nat.le_of_ble_eq_true rfl) dX4_termLine_57 ?_
        refine g_if_ne 65 C dX4_termLine_60 rfl (fun c60 => ?_) (fun c60 => ?_)
        · obtain ⟨⟨v3, t3⟩, r3⟩ := isR_T c60
          obtain ⟨k3, ev3, et3, w3, hb3, g3⟩ := pTake_B hb2 r3
          have hv3 : v3 < 1000000 := by rw [ev3]; exact hb2.2.2.2
          obtain ⟨hb3a, hb3b, hb3c, hb3d⟩ := id hb3
          refine g_eqI (J := RepM Γ A o ad (tkF (upd (tkF (upd (tkF F t1) 23 (nI v2)) t2) 23 (nI v3)) t3) X) (by rw [r3]; rfl) ?_
          have P3 : PF (tkF (upd (tkF (upd (tkF F t1) 23 (nI v2)) t2) 23 (nI v3)) t3) n t3 := ⟨P.1, rfl, rfl, rfl, rfl, P.2.2.2.2.2⟩
          have q2 := (rnI_nat (lo := 0) (hi := 2) (by omega) (by decide) (by decide) w2).2
          refine g_aload_n C dX4_termLine_65 rfl rfl ?_
          refine mg_35 C dX4_termLine_66 ?_
          refine g_iload_n C dX4_termLine_69 rfl rfl ?_
          refine g_aload_n C dX4_termLine_70 rfl rfl ?_
          refine mg_23 C dX4_termLine_71 ?_
          refine g_topi (y := nI v3) rfl ?_
          refine ms_35 (i := v2) C dX4_termLine_74 (by omega) ?_
          refine g_iconst (v := 1) C dX4_termLine_75 rfl ?_
          have er : pTerm buf n t c X = .inr (t3, c, setX X 35 (upd (X 35) v2 (nI v3))) := by rw [pTerm, ← et1, if_neg (fun z => by have := z.2.1; omega), pTerm2]; simp only [r2, r3]
          exact g_zret C R (Nat.le_refl _) (Nat.le_refl _) dX4_termLine_76 rfl (fun H h => ⟨tkF (upd (tkF (upd (tkF F t1) 23 (nI v2)) t2) 23 (nI v3)) t3, setX X 35 (upd (X 35) v2 (nI v3)), ⟨(FR.tk (FR.up (FR.tk (FR.up (FR.tk FR.rf) rfl)) rfl)), (XR.up XR.rf rfl), by rw [er]; exact ⟨rfl, rfl, ⟨⟨P.1, rfl, rfl, rfl, rfl, P.2.2.2.2.2⟩, Q.2.1, Q.2.2.1, Q.2.2.2.1, Q.2.2.2.2.1, Q.2.2.2.2.2⟩⟩⟩, h⟩)
        · obtain ⟨e3, r3⟩ := isR_F c60
          refine g_eqI (J := RepM Γ A o ad (upd (upd (tkF (upd (tkF F t1) 23 (nI v2)) t2) 21 (nI e3.1)) 22 (nI e3.2)) X) (by rw [r3]; rfl) ?_
          refine g_iconst (v := 0) C dX4_termLine_63 rfl ?_
          have er : pTerm buf n t c X = .inl e3 := by rw [pTerm, ← et1, if_neg (fun z => by have := z.2.1; omega), pTerm2]; simp only [r2, r3]
          exact g_zret C R (Nat.le_refl _) (Nat.le_refl _) dX4_termLine_64 rfl (fun H h => ⟨upd (upd (tkF (upd (tkF F t1) 23 (nI v2)) t2) 21 (nI e3.1)) 22 (nI e3.2), X, ⟨(FR.up (FR.up (FR.tk (FR.up (FR.tk FR.rf) rfl)) rfl) rfl), XR.rf, by rw [er]; exact ⟨rfl, rfl, rfl⟩⟩, h⟩)
      · obtain ⟨e2, r2⟩ := isR_F c44
        refine g_eqI (J := RepM Γ A o ad (upd (upd (tkF F t1) 21 (nI e2.1)) 22 (nI e2.2)) X) (by rw [r2]; rfl) ?_
        refine g_iconst (v := 0) C dX4_termLine_47 rfl ?_
        have er : pTerm buf n t c X = .inl e2 := by rw [pTerm, ← et1, if_neg (fun z => by have := z.2.1; omega), pTerm2]; simp only [r2]
        exact g_zret C R (Nat.le_refl _) (Nat.le_refl _) dX4_termLine_48 rfl (fun H h => ⟨upd (upd (tkF F t1) 21 (nI e2.1)) 22 (nI e2.2), X, ⟨(FR.up (FR.up (FR.tk FR.rf) rfl) rfl), XR.rf, by rw [er]; exact ⟨rfl, rfl, rfl⟩⟩, h⟩)
    · refine g_aload_n C dX4_termLine_20 rfl rfl ?_
      refine mg_35 C dX4_termLine_21 ?_
      refine g_aload_n C dX4_termLine_24 rfl rfl ?_
      refine mg_20 C dX4_termLine_25 ?_
      refine g_topi (y := nI t1.2.2.2) rfl ?_
      refine ml_35 (i := t1.2.2.2) C dX4_termLine_28 (by omega) ?_
      refine g_if_le 38 C dX4_termLine_29 rfl (fun c29 => ?_) (fun c29 => ?_)
      · refine g_aload_n C dX4_termLine_38 rfl rfl ?_
        refine g_iconst (v := 0) C dX4_termLine_39 rfl ?_
        refine g_iconst (v := 2) C dX4_termLine_40 rfl ?_
        refine g_mcall (rest := []) 2 C (cb_takes (F := tkF F t1) (X := X) B (show _ = buf from hX) hn hb1 P1 0 2) (lw_V q1840 q1842 qs54 q107 q1843) (by decide +kernel) ⟨Nat.le_of_ble_eq_true rfl, Nat.le_of_ble_eq_true rfl⟩ ⟨Nat.le_of_ble_eq_true rfl, Nat.le_of_ble_eq_true rfl⟩ rfl rfl (Nat.le_of_ble_eq_true rfl) dX4_termLine_41 ?_
        refine g_if_ne 49 C dX4_termLine_44 rfl (fun c44 => ?_) (fun c44 => ?_)
        · obtain ⟨⟨v2, t2⟩, r2⟩ := isR_T c44
          obtain ⟨k2, ev2, et2, w2, hb2, g2⟩ := pTake_B hb1 r2
          have hv2 : v2 < 1000000 := by rw [ev2]; exact hb1.2.2.2
          obtain ⟨hb2a, hb2b, hb2c, hb2d⟩ := id hb2
          refine g_eqI (J := RepM Γ A o ad (tkF (upd (tkF F t1) 23 (nI v2)) t2) X) (by rw [r2]; rfl) ?_
          have P2 : PF (tkF (upd (tkF F t1) 23 (nI v2)) t2) n t2 := ⟨P.1, rfl, rfl, rfl, rfl, P.2.2.2.2.2⟩
          refine g_aload_n C dX4_termLine_49 rfl rfl ?_
          refine mg_23 C dX4_termLine_50 ?_
          refine g_topi (y := nI v2) rfl ?_
          refine g_istore_n (lv' := [some (.ref o), some (.int (nI v2))]) C dX4_termLine_53 rfl (by decide) rfl ?_
          refine g_aload_n C dX4_termLine_54 rfl rfl ?_
          refine g_iconst (v := 1) C dX4_termLine_55 rfl ?_
          refine g_iconst (v := 5) C dX4_termLine_56 rfl ?_
          refine g_mcall (rest := []) 2 C (cb_takes (F := tkF (upd (tkF F t1) 23 (nI v2)) t2) (X := X) B (show _ = buf from hX) hn hb2 P2 1 5) (lw_V q1840 q1842 qs54 q107 q1843) (by decide +kernel) ⟨Nat.le_of_ble_eq_true rfl, Nat.le_of_ble_eq_true rfl⟩ ⟨Nat.le_of_ble_eq_true rfl, Nat.le_of_ble_eq_true rfl⟩ rfl rfl (Nat.le_of_ble_eq_true rfl) dX4_termLine_57 ?_
          refine g_if_ne 65 C dX4_termLine_60 rfl (fun c60 => ?_) (fun c60 => ?_)
          · obtain ⟨⟨v3, t3⟩, r3⟩ := isR_T c60
            obtain ⟨k3, ev3, et3, w3, hb3, g3⟩ := pTake_B hb2 r3
            have hv3 : v3 < 1000000 := by rw [ev3]; exact hb2.2.2.2
            obtain ⟨hb3a, hb3b, hb3c, hb3d⟩ := id hb3
            refine g_eqI (J := RepM Γ A o ad (tkF (upd (tkF (upd (tkF F t1) 23 (nI v2)) t2) 23 (nI v3)) t3) X) (by rw [r3]; rfl) ?_
            have P3 : PF (tkF (upd (tkF (upd (tkF F t1) 23 (nI v2)) t2) 23 (nI v3)) t3) n t3 := ⟨P.1, rfl, rfl, rfl, rfl, P.2.2.2.2.2⟩
            have q2 := (rnI_nat (lo := 0) (hi := 2) (by omega) (by decide) (by decide) w2).2
            refine g_aload_n C dX4_termLine_65 rfl rfl ?_
            refine mg_35 C dX4_termLine_66 ?_
            refine g_iload_n C dX4_termLine_69 rfl rfl ?_
            refine g_aload_n C dX4_termLine_70 rfl rfl ?_
            refine mg_23 C dX4_termLine_71 ?_
            refine g_topi (y := nI v3) rfl ?_
            refine ms_35 (i := v2) C dX4_termLine_74 (by omega) ?_
            refine g_iconst (v := 1) C dX4_termLine_75 rfl ?_
            have er : pTerm buf n t c X = .inr (t3, c, setX X 35 (upd (X 35) v2 (nI v3))) := by rw [pTerm, ← et1, if_neg (fun z => z.2.2 c29), pTerm2]; simp only [r2, r3]
            exact g_zret C R (Nat.le_refl _) (Nat.le_refl _) dX4_termLine_76 rfl (fun H h => ⟨tkF (upd (tkF (upd (tkF F t1) 23 (nI v2)) t2) 23 (nI v3)) t3, setX X 35 (upd (X 35) v2 (nI v3)), ⟨(FR.tk (FR.up (FR.tk (FR.up (FR.tk FR.rf) rfl)) rfl)), (XR.up XR.rf rfl), by rw [er]; exact ⟨rfl, rfl, ⟨⟨P.1, rfl, rfl, rfl, rfl, P.2.2.2.2.2⟩, Q.2.1, Q.2.2.1, Q.2.2.2.1, Q.2.2.2.2.1, Q.2.2.2.2.2⟩⟩⟩, h⟩)
          · obtain ⟨e3, r3⟩ := isR_F c60
            refine g_eqI (J := RepM Γ A o ad (upd (upd (tkF (upd (tkF F t1) 23 (nI v2)) t2) 21 (nI e3.1)) 22 (nI e3.2)) X) (by rw [r3]; rfl) ?_
            refine g_iconst (v := 0) C dX4_termLine_63 rfl ?_
            have er : pTerm buf n t c X = .inl e3 := by rw [pTerm, ← et1, if_neg (fun z => z.2.2 c29), pTerm2]; simp only [r2, r3]
            exact g_zret C R (Nat.le_refl _) (Nat.le_refl _) dX4_termLine_64 rfl (fun H h => ⟨upd (upd (tkF (upd (tkF F t1) 23 (nI v2)) t2) 21 (nI e3.1)) 22 (nI e3.2), X, ⟨(FR.up (FR.up (FR.tk (FR.up (FR.tk FR.rf) rfl)) rfl) rfl), XR.rf, by rw [er]; exact ⟨rfl, rfl, rfl⟩⟩, h⟩)
        · obtain ⟨e2, r2⟩ := isR_F c44
          refine g_eqI (J := RepM Γ A o ad (upd (upd (tkF F t1) 21 (nI e2.1)) 22 (nI e2.2)) X) (by rw [r2]; rfl) ?_
          refine g_iconst (v := 0) C dX4_termLine_47 rfl ?_
          have er : pTerm buf n t c X = .inl e2 := by rw [pTerm, ← et1, if_neg (fun z => z.2.2 c29), pTerm2]; simp only [r2]
          exact g_zret C R (Nat.le_refl _) (Nat.le_refl _) dX4_termLine_48 rfl (fun H h => ⟨upd (upd (tkF F t1) 21 (nI e2.1)) 22 (nI e2.2), X, ⟨(FR.up (FR.up (FR.tk FR.rf) rfl) rfl), XR.rf, by rw [er]; exact ⟨rfl, rfl, rfl⟩⟩, h⟩)
      · refine g_aload_n C dX4_termLine_32 rfl rfl ?_
        refine g_iconst (v := 2) C dX4_termLine_33 rfl ?_
        refine g_mcall (rest := []) 1 C (cb_fails (F := tkF F t1) (X := X) B P1 2) (lw_V q1831 q1833 qs52 q107 q1834) (by decide +kernel) ⟨Nat.le_of_ble_eq_true rfl, Nat.le_of_ble_eq_true rfl⟩ ⟨Nat.le_of_ble_eq_true rfl, Nat.le_of_ble_eq_true rfl⟩ rfl rfl (Nat.le_of_ble_eq_true rfl) dX4_termLine_34 ?_
        have er : pTerm buf n t c X = .inl (2, t1.1) := by rw [pTerm, ← et1, if_pos ⟨c9, c17, c29⟩]
        exact g_zret C R (Nat.le_refl _) (Nat.le_refl _) dX4_termLine_37 rfl (fun H h => ⟨upd (upd (tkF F t1) 21 (nI 2)) 22 (nI t1.1), X, ⟨(FR.up (FR.up (FR.tk FR.rf) rfl) rfl), XR.rf, by rw [er]; exact ⟨rfl, rfl, rfl⟩⟩, h⟩)
