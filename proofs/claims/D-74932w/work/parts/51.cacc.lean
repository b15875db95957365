/-- the enum's constants -/
def SX (Γ : Gm) (A : Nat → Prop) (U : State) : Prop := va_O "ScaleInspection$AccuracyClass$1" (Γ.2.2 1) A U U.heap ∧ va_O "ScaleInspection$AccuracyClass$2" (Γ.2.2 2) A U U.heap ∧ va_O "ScaleInspection$AccuracyClass$3" (Γ.2.2 3) A U U.heap
def Bd (l : Launch) (Γ : Gm) (A : Nat → Prop) (ρ : State → Prop) : Prop := Bc l Γ A ρ ∧ ∀ U, ρ U → SX Γ A U
def btF (a d load : Int32) : Int32 := if a * d < load then (if 4 * a * d < load then (3 * d + 1) / 2 else d) else (d + 1) / 2
theorem baseF_eq (X : Nat → Nat → Int32) (s : Nat) (load : Int32) : baseF X s load = btF (if X 5 s = 0 then 5000 else if X 5 s = 1 then 500 else 50) (X 6 s) load := rfl
theorem lmul_N {a d : Nat} (h : a * d < 2 ^ 31) (ha : a < 2 ^ 31) (hd : d < 2 ^ 31) : (nI a).toInt64 * (nI d).toInt64 = (nI (a * d)).toInt64 := by
  apply Int64.toInt_inj.mp
  rw [Int64.toInt_mul, Int32.toInt_toInt64, Int32.toInt_toInt64, Int32.toInt_toInt64, nI_toInt ha, nI_toInt hd, nI_toInt h]
  have h1 : (a : Int) * (d : Int) = ((a * d : Nat) : Int) := by simp
  rw [h1]
  unfold Int.bmod
  simp only
  omega
theorem cmp_gtI0 {x y : Int32} : 0 < lg_cmp x.toInt64 y.toInt64 ↔ y < x := by
  rw [lg_cmp_gt, fa_lt64, fa_lt, Int32.toInt_toInt64, Int32.toInt_toInt64]
theorem tolCmp {a load : Int32} {n d : Nat} (ha : a = nI n) (h : n * d < 2 ^ 31) (hn : n < 2 ^ 31) (hd : d < 2 ^ 31) : 0 < lg_cmp load.toInt64 (a.toInt64 * (nI d).toInt64) ↔ a * nI d < load := by
  subst ha
  rw [lmul_N h hn hd, cmp_gtI0, ← pk_mul]
set_option maxRecDepth 100000 in
theorem cc_accTol1 {l : Launch} {Γ : Gm} {A : Nat → Prop} {ρ : State → Prop} (B : Bd l Γ A ρ) {h : Hp} (d : Nat) (hd : d ≤ 1000) (load : Int32) : CtF l Γ A ρ yX12_tolerance cX12_tolerance 3 (some .int) { frames := 1, cells := 0, slots := 0, locals := 20 } [.ref (Γ.2.2 1), .int (nI d), .int load] h (some (.int (btF 5000 (nI d) load))) h := by
  refine Ct.of B.1.1.1 B.1.1.2 (by decide) [some (.ref (Γ.2.2 1)), some (.int (nI d)), some (.int load)] (Nat.le_of_ble_eq_true rfl) rfl ?_
  intro E hE C R
  subst hE
  have SC_ := B.1.2 _ C.r
  have SX_ := B.2 _ C.r
  refine g_iload_n C dX12_tolerance_0 rfl rfl ?_
  refine g_i2l C dX12_tolerance_1 ?_
  refine g_aload_n C dX12_tolerance_2 rfl rfl ?_
  refine h_const (v := 5000) (D := "ScaleInspection$AccuracyClass$1") (owner := "ScaleInspection$AccuracyClass") (x := ⟨"ScaleInspection$AccuracyClass", "firstStep", "()I"⟩) (y := ⟨"ScaleInspection$AccuracyClass$1", "firstStep", "()I"⟩) C (by decide) q1225 q1220 q1222 q1223 q1224 (SC_.n q1221 rfl) ⟨by decide, by decide⟩ (by decide +kernel) (Or.inl ⟨_, dX18_firstStep_0, rfl, dX18_firstStep_3⟩) ⟨Nat.le_of_ble_eq_true rfl, Nat.le_of_ble_eq_true rfl⟩ (SX_.1) (Nat.le_of_ble_eq_true rfl) dX12_tolerance_3 ?_
  refine g_i2l C dX12_tolerance_6 ?_
  refine g_iload_n C dX12_tolerance_7 rfl rfl ?_
  refine g_i2l C dX12_tolerance_8 ?_
  refine g_lmul C dX12_tolerance_9 ?_
  refine g_lcmp C dX12_tolerance_10 ?_
  refine g_if_gt 20 C dX12_tolerance_11 rfl (fun c11 => ?_) (fun c11 => ?_)
  · refine g_iload_n C dX12_tolerance_20 rfl rfl ?_
    refine g_i2l C dX12_tolerance_21 ?_
    refine g_aload_n C dX12_tolerance_22 rfl rfl ?_
    refine h_const (v := 20000) (D := "ScaleInspection$AccuracyClass$1") (owner := "ScaleInspection$AccuracyClass") (x := ⟨"ScaleInspection$AccuracyClass", "secondStep", "()I"⟩) (y := ⟨"ScaleInspection$AccuracyClass$1", "secondStep", "()I"⟩) C (by decide) q1237 q1232 q1234 q1235 q1236 (SC_.n q1233 rfl) ⟨by decide, by decide⟩ (by decide +kernel) (Or.inl ⟨_, dX18_secondStep_0, rfl, dX18_secondStep_3⟩) ⟨Nat.le_of_ble_eq_true rfl, Nat.le_of_ble_eq_true rfl⟩ (SX_.1) (Nat.le_of_ble_eq_true rfl) dX12_tolerance_23 ?_
    refine g_i2l C dX12_tolerance_26 ?_
    refine g_iload_n C dX12_tolerance_27 rfl rfl ?_
    refine g_i2l C dX12_tolerance_28 ?_
    refine g_lmul C dX12_tolerance_29 ?_
    refine g_lcmp C dX12_tolerance_30 ?_
    refine g_if_gt 38 C dX12_tolerance_31 rfl (fun c31 => ?_) (fun c31 => ?_)
    · refine g_iconst (v := 3) C dX12_tolerance_38 rfl ?_
      refine g_iload_n C dX12_tolerance_39 rfl rfl ?_
      refine g_imul C dX12_tolerance_40 ?_
      refine g_iconst (v := 1) C dX12_tolerance_41 rfl ?_
      refine g_iadd C dX12_tolerance_42 ?_
      refine g_iconst (v := 2) C dX12_tolerance_43 rfl ?_
      refine g_idiv C dX12_tolerance_44 (by decide) ?_
      exact g_iret C R (Nat.le_of_ble_eq_true rfl) (Nat.le_of_ble_eq_true rfl) dX12_tolerance_45 (fun H hH => ⟨by unfold btF; rw [if_pos ((tolCmp (a := 5000) (n := 5000) (d := d) rfl (by omega) (by omega) (by omega)).mp c11), show (4 : Int32) * 5000 = 20000 from by decide, if_pos ((tolCmp (a := 20000) (n := 20000) (d := d) rfl (by omega) (by omega) (by omega)).mp c31)], hH⟩)
    · refine g_iload_n C dX12_tolerance_34 rfl rfl ?_
      refine g_goto 45 C dX12_tolerance_35 rfl ?_
      exact g_iret C R (Nat.le_of_ble_eq_true rfl) (Nat.le_of_ble_eq_true rfl) dX12_tolerance_45 (fun H hH => ⟨by unfold btF; rw [if_pos ((tolCmp (a := 5000) (n := 5000) (d := d) rfl (by omega) (by omega) (by omega)).mp c11), show (4 : Int32) * 5000 = 20000 from by decide, if_neg (fun z => c31 ((tolCmp (a := 20000) (n := 20000) (d := d) rfl (by omega) (by omega) (by omega)).mpr z))], hH⟩)
  · refine g_iload_n C dX12_tolerance_14 rfl rfl ?_
    refine g_iconst (v := 1) C dX12_tolerance_15 rfl ?_
    refine g_iadd C dX12_tolerance_16 ?_
    refine g_iconst (v := 2) C dX12_tolerance_17 rfl ?_
    refine g_idiv C dX12_tolerance_18 (by decide) ?_
    exact g_iret C R (Nat.le_of_ble_eq_true rfl) (Nat.le_of_ble_eq_true rfl) dX12_tolerance_19 (fun H hH => ⟨by unfold btF; rw [if_neg (fun z => c11 ((tolCmp (a := 5000) (n := 5000) (d := d) rfl (by omega) (by omega) (by omega)).mpr z))], hH⟩)
set_option maxRecDepth 100000 in
theorem cc_accTol2 {l : Launch} {Γ : Gm} {A : Nat → Prop} {ρ : State → Prop} (B : Bd l Γ A ρ) {h : Hp} (d : Nat) (hd : d ≤ 1000) (load : Int32) : CtF l Γ A ρ yX12_tolerance cX12_tolerance 3 (some .int) { frames := 1, cells := 0, slots := 0, locals := 20 } [.ref (Γ.2.2 2), .int (nI d), .int load] h (some (.int (btF 500 (nI d) load))) h := by
  refine Ct.of B.1.1.1 B.1.1.2 (by decide) [some (.ref (Γ.2.2 2)), some (.int (nI d)), some (.int load)] (Nat.le_of_ble_eq_true rfl) rfl ?_
  intro E hE C R
  subst hE
  have SC_ := B.1.2 _ C.r
  have SX_ := B.2 _ C.r
  refine g_iload_n C dX12_tolerance_0 rfl rfl ?_
  refine g_i2l C dX12_tolerance_1 ?_
  refine g_aload_n C dX12_tolerance_2 rfl rfl ?_
  refine h_const (v := 500) (D := "ScaleInspection$AccuracyClass$2") (owner := "ScaleInspection$AccuracyClass") (x := ⟨"ScaleInspection$AccuracyClass", "firstStep", "()I"⟩) (y := ⟨"ScaleInspection$AccuracyClass$2", "firstStep", "()I"⟩) C (by decide) q1228 q1220 q1222 q1226 q1227 (SC_.n q1221 rfl) ⟨by decide, by decide⟩ (by decide +kernel) (Or.inl ⟨_, dX19_firstStep_0, rfl, dX19_firstStep_3⟩) ⟨Nat.le_of_ble_eq_true rfl, Nat.le_of_ble_eq_true rfl⟩ (SX_.2.1) (Nat.le_of_ble_eq_true rfl) dX12_tolerance_3 ?_
  refine g_i2l C dX12_tolerance_6 ?_
  refine g_iload_n C dX12_tolerance_7 rfl rfl ?_
  refine g_i2l C dX12_tolerance_8 ?_
  refine g_lmul C dX12_tolerance_9 ?_
  refine g_lcmp C dX12_tolerance_10 ?_
  refine g_if_gt 20 C dX12_tolerance_11 rfl (fun c11 => ?_) (fun c11 => ?_)
  · refine g_iload_n C dX12_tolerance_20 rfl rfl ?_
    refine g_i2l C dX12_tolerance_21 ?_
    refine g_aload_n C dX12_tolerance_22 rfl rfl ?_
    refine h_const (v := 2000) (D := "ScaleInspection$AccuracyClass$2") (owner := "ScaleInspection$AccuracyClass") (x := ⟨"ScaleInspection$AccuracyClass", "secondStep", "()I"⟩) (y := ⟨"ScaleInspection$AccuracyClass$2", "secondStep", "()I"⟩) C (by decide) q1240 q1232 q1234 q1238 q1239 (SC_.n q1233 rfl) ⟨by decide, by decide⟩ (by decide +kernel) (Or.inl ⟨_, dX19_secondStep_0, rfl, dX19_secondStep_3⟩) ⟨Nat.le_of_ble_eq_true rfl, Nat.le_of_ble_eq_true rfl⟩ (SX_.2.1) (Nat.le_of_ble_eq_true rfl) dX12_tolerance_23 ?_
    refine g_i2l C dX12_tolerance_26 ?_
    refine g_iload_n C dX12_tolerance_27 rfl rfl ?_
    refine g_i2l C dX12_tolerance_28 ?_
    refine g_lmul C dX12_tolerance_29 ?_
    refine g_lcmp C dX12_tolerance_30 ?_
    refine g_if_gt 38 C dX12_tolerance_31 rfl (fun c31 => ?_) (fun c31 => ?_)
    · refine g_iconst (v := 3) C dX12_tolerance_38 rfl ?_
      refine g_iload_n C dX12_tolerance_39 rfl rfl ?_
      refine g_imul C dX12_tolerance_40 ?_
      refine g_iconst (v := 1) C dX12_tolerance_41 rfl ?_
      refine g_iadd C dX12_tolerance_42 ?_
      refine g_iconst (v := 2) C dX12_tolerance_43 rfl ?_
      refine g_idiv C dX12_tolerance_44 (by decide) ?_
      exact g_iret C R (Nat.le_of_ble_eq_true rfl) (Nat.le_of_ble_eq_true rfl) dX12_tolerance_45 (fun H hH => ⟨by unfold btF; rw [if_pos ((tolCmp (a := 500) (n := 500) (d := d) rfl (by omega) (by omega) (by omega)).mp c11), show (4 : Int32) * 500 = 2000 from by decide, if_pos ((tolCmp (a := 2000) (n := 2000) (d := d) rfl (by omega) (by omega) (by omega)).mp c31)], hH⟩)
    · refine g_iload_n C dX12_tolerance_34 rfl rfl ?_
      refine g_goto 45 C dX12_tolerance_35 rfl ?_
      exact g_iret C R (Nat.le_of_ble_eq_true rfl) (Nat.le_of_ble_eq_true rfl) dX12_tolerance_45 (fun H hH => ⟨by unfold btF; rw [if_pos ((tolCmp (a := 500) (n := 500) (d := d) rfl (by omega) (by omega) (by omega)).mp c11), show (4 : Int32) * 500 = 2000 from by decide, if_neg (fun z => c31 ((tolCmp (a := 2000) (n := 2000) (d := d) rfl (by omega) (by omega) (by omega)).mpr z))], hH⟩)
  · refine g_iload_n C dX12_tolerance_14 rfl rfl ?_
    refine g_iconst (v := 1) C dX12_tolerance_15 rfl ?_
    refine g_iadd C dX12_tolerance_16 ?_
    refine g_iconst (v := 2) C dX12_tolerance_17 rfl ?_
    refine g_idiv C dX12_tolerance_18 (by decide) ?_
    exact g_iret C R (Nat.le_of_ble_eq_true rfl) (Nat.le_of_ble_eq_true rfl) dX12_tolerance_19 (fun H hH => ⟨by unfold btF; rw [if_neg (fun z => c11 ((tolCmp (a := 500) (n := 500) (d := d) rfl (by omega) (by omega) (by omega)).mpr z))], hH⟩)
set_option maxRecDepth 100000 in
theorem cc_accTol3 {l : Launch} {Γ : Gm} {A : Nat → Prop} {ρ : State → Prop} (B : Bd l Γ A ρ) {h : Hp} (d : Nat) (hd : d ≤ 1000) (load : Int32) : CtF l Γ A ρ yX12_tolerance cX12_tolerance 3 (some .int) { frames := 1, cells := 0, slots := 0, locals := 20 } [.ref (Γ.2.2 3), .int (nI d), .int load] h (some (.int (btF 50 (nI d) load))) h := by
  refine Ct.of B.1.1.1 B.1.1.2 (by decide) [some (.ref (Γ.2.2 3)), some (.int (nI d)), some (.int load)] (Nat.le_of_ble_eq_true rfl) rfl ?_
  intro E hE C R
  subst hE
  have SC_ := B.1.2 _ C.r
  have SX_ := B.2 _ C.r
  refine g_iload_n C dX12_tolerance_0 rfl rfl ?_
  refine g_i2l C dX12_tolerance_1 ?_
  refine g_aload_n C dX12_tolerance_2 rfl rfl ?_
  refine h_const (v := 50) (D := "ScaleInspection$AccuracyClass$3") (owner := "ScaleInspection$AccuracyClass") (x := ⟨"ScaleInspection$AccuracyClass", "firstStep", "()I"⟩) (y := ⟨"ScaleInspection$AccuracyClass$3", "firstStep", "()I"⟩) C (by decide) q1231 q1220 q1222 q1229 q1230 (SC_.n q1221 rfl) ⟨by decide, by decide⟩ (by decide +kernel) (Or.inr ⟨_, dX20_firstStep_0, rfl, dX20_firstStep_2⟩) ⟨Nat.le_of_ble_eq_true rfl, Nat.le_of_ble_eq_true rfl⟩ (SX_.2.2) (Nat.le_of_ble_eq_true rfl) dX12_tolerance_3 ?_
  refine g_i2l C dX12_tolerance_6 ?_
  refine g_iload_n C dX12_tolerance_7 rfl rfl ?_
  refine g_i2l C dX12_tolerance_8 ?_
  refine g_lmul C dX12_tolerance_9 ?_
  refine g_lcmp C dX12_tolerance_10 ?_
  refine g_if_gt 20 C dX12_tolerance_11 rfl (fun c11 => ?_) (fun c11 => ?_)
  · refine g_iload_n C dX12_tolerance_20 rfl rfl ?_
    refine g_i2l C dX12_tolerance_21 ?_
    refine g_aload_n C dX12_tolerance_22 rfl rfl ?_
    refine h_const (v := 200) (D := "ScaleInspection$AccuracyClass$3") (owner := "ScaleInspection$AccuracyClass") (x := ⟨"ScaleInspection$AccuracyClass", "secondStep", "()I"⟩) (y := ⟨"ScaleInspection$AccuracyClass$3", "secondStep", "()I"⟩) C (by decide) q1243 q1232 q1234 q1241 q1242 (SC_.n q1233 rfl) ⟨by decide, by decide⟩ (by decide +kernel) (Or.inl ⟨_, dX20_secondStep_0, rfl, dX20_secondStep_3⟩) ⟨Nat.le_of_ble_eq_true rfl, Nat.le_of_ble_eq_true rfl⟩ (SX_.2.2) (Nat.le_of_ble_eq_true rfl) dX12_tolerance_23 ?_
    refine g_i2l C dX12_tolerance_26 ?_
    refine g_iload_n C dX12_tolerance_27 rfl rfl ?_
    refine g_i2l C dX12_tolerance_28 ?_
    refine g_lmul C dX12_tolerance_29 ?_
    refine g_lcmp C dX12_tolerance_30 ?_
    refine g_if_gt 38 C dX12_tolerance_31 rfl (fun c31 => ?_) (fun c31 => ?_)
    · refine g_iconst (v := 3) C dX12_tolerance_38 rfl ?_
      refine g_iload_n C dX12_tolerance_39 rfl rfl ?_
      refine g_imul C dX12_tolerance_40 ?_
      refine g_iconst (v := 1) C dX12_tolerance_41 rfl ?_
      refine g_iadd C dX12_tolerance_42 ?_
      refine g_iconst (v := 2) C dX12_tolerance_43 rfl ?_
      refine g_idiv C dX12_tolerance_44 (by decide) ?_
      exact g_iret C R (Nat.le_of_ble_eq_true rfl) (Nat.le_of_ble_eq_true rfl) dX12_tolerance_45 (fun H hH => ⟨by unfold btF; rw [if_pos ((tolCmp (a := 50) (n := 50) (d := d) rfl (by omega) (by omega) (by omega)).mp c11), show (4 : Int32) * 50 = 200 from by decide, if_pos ((tolCmp (a := 200) (n := 200) (d := d) rfl (by omega) (by omega) (by omega)).mp c31)], hH⟩)
    · refine g_iload_n C dX12_tolerance_34 rfl rfl ?_
      refine g_goto 45 C dX12_tolerance_35 rfl ?_
      exact g_iret C R (Nat.le_of_ble_eq_true rfl) (Nat.le_of_ble_eq_true rfl) dX12_tolerance_45 (fun H hH => ⟨by unfold btF; rw [if_pos ((tolCmp (a := 50) (n := 50) (d := d) rfl (by omega) (by omega) (by omega)).mp c11), show (4 : Int32) * 50 = 200 from by decide, if_neg (fun z => c31 ((tolCmp (a := 200) (n := 200) (d := d) rfl (by omega) (by omega) (by omega)).mpr z))], hH⟩)
  · refine g_iload_n C dX12_tolerance_14 rfl rfl ?_
    refine g_iconst (v := 1) C dX12_tolerance_15 rfl ?_
    refine g_iadd C dX12_tolerance_16 ?_
    refine g_iconst (v := 2) C dX12_tolerance_17 rfl ?_
    refine g_idiv C dX12_tolerance_18 (by decide) ?_
    exact g_iret C R (Nat.le_of_ble_eq_true rfl) (Nat.le_of_ble_eq_true rfl) dX12_tolerance_19 (fun H hH => ⟨by unfold btF; rw [if_neg (fun z => c11 ((tolCmp (a := 50) (n := 50) (d := d) rfl (by omega) (by omega) (by omega)).mpr z))], hH⟩)
