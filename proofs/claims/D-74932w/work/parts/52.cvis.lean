abbrev ScO (Γ : Gm) (X : Nat → Nat → Int32) (s : Nat) (h : Hp) (sc : Nat) : Prop := h sc = some ((0, 0), .inr (10, [.int (X 4 s), .int (X 5 s), .int (X 6 s), .int (X 7 s), .ref (Γ.2.2 (1 + (X 5 s).toNatClampNeg))]))
set_option maxRecDepth 100000 in
theorem cc_scTol {l : Launch} {Γ : Gm} {A : Nat → Prop} {ρ : State → Prop} (B : Bd l Γ A ρ) {h : Hp} {F : Nat → Int32} {X : Nat → Nat → Int32} {nt ns nm ne nv nu ln : Nat} (J : Iv F X nt ns nm ne nv nu ln) {s sc : Nat} (hs : s < ns) (So : ScO Γ X s h sc) (load : Int32) : CtF l Γ A ρ yX11_tolerance cX11_tolerance 2 (some .int) { frames := 2, cells := 0, slots := 0, locals := 42 } [.ref sc, .int load] h (some (.int (baseF X s load))) h := by
  refine Ct.of B.1.1.1 B.1.1.2 (by decide) [some (.ref sc), some (.int load)] (Nat.le_of_ble_eq_true rfl) rfl ?_
  intro E hE C R
  subst hE
  have SC_ := B.1.2 _ C.r
  have SX_ := B.2 _ C.r
  obtain ⟨c, hc, e5⟩ := J.mk.2.1 s hs
  obtain ⟨d, hd1, hd, e6⟩ := J.mk.2.2.1 s hs
  have : c = 0 ∨ c = 1 ∨ c = 2 := by omega
  rcases this with rfl | rfl | rfl
  · have So2 : h sc = some ((0, 0), .inr (10, [.int (X 4 s), .int 0, .int (nI d), .int (X 7 s), .ref (Γ.2.2 1)])) := by rw [show ScO Γ X s h sc = (h sc = _) from rfl] at So; rw [So, e5, e6]; rfl
    refine g_aload_n C dX11_tolerance_0 rfl rfl ?_
    refine c_get 10 4 k_X11 in_X11 (by decide) (fun _ h => h) q824 So2 rfl C dX11_tolerance_1 ?_
    refine g_aload_n C dX11_tolerance_4 rfl rfl ?_
    refine c_get 10 2 k_X11 in_X11 (by decide) (fun _ h => h) q821 So2 rfl C dX11_tolerance_5 ?_
    refine g_iload_n C dX11_tolerance_8 rfl rfl ?_
    refine h_callU (rest := []) 2 C (cc_accTol1 B d hd _) (va_cwU (R := eR E) (s := eS E) (args := eG E) (own := "ScaleInspection$Scale") (C := "ScaleInspection$AccuracyClass$1") (owner := "ScaleInspection$AccuracyClass") (index := 32) (x := ⟨"ScaleInspection$AccuracyClass", "tolerance", "(II)I"⟩) (y := yX12_tolerance) (bytes := cX12_tolerance) (maxL := 3) (ret := (some .int)) (rm := { frames := 1, cells := 0, slots := 0, locals := 20 : Room }) 2 C.ts (lw_app (fun w hw => by simp only [List.mem_cons, List.not_mem_nil, or_false] at hw; rcases hw with e | e | e | e | e <;> (rw [e]; first | exact q1213 | exact q1215 | exact q1216 | exact q1214 | exact q116)) (lw_meth q1219)) rfl rfl rfl rfl ⟨by decide, by decide, by decide +kernel⟩ (by rw [C.R]; exact ⟨Nat.le_of_ble_eq_true rfl, Nat.le_of_ble_eq_true rfl⟩)) ⟨Nat.le_of_ble_eq_true rfl, Nat.le_of_ble_eq_true rfl⟩ (fun _ h => h) (fun H locs hH hS => by obtain ⟨cell, h1, h2, h3, -⟩ := va_O.kept (SX_.1) hS.2.1; exact ⟨cell, h1, h2, h3⟩) rfl rfl (Nat.le_of_ble_eq_true rfl) dX11_tolerance_9 (h_F ?_)
    exact g_iret C R (Nat.le_of_ble_eq_true rfl) (Nat.le_of_ble_eq_true rfl) dX11_tolerance_12 (fun H hH => ⟨by rw [baseF_eq, e5, e6]; rfl, hH⟩)
  · have So2 : h sc = some ((0, 0), .inr (10, [.int (X 4 s), .int 1, .int (nI d), .int (X 7 s), .ref (Γ.2.2 2)])) := by rw [show ScO Γ X s h sc = (h sc = _) from rfl] at So; rw [So, e5, e6]; rfl
    refine g_aload_n C dX11_tolerance_0 rfl rfl ?_
    refine c_get 10 4 k_X11 in_X11 (by decide) (fun _ h => h) q824 So2 rfl C dX11_tolerance_1 ?_
    refine g_aload_n C dX11_tolerance_4 rfl rfl ?_
    refine c_get 10 2 k_X11 in_X11 (by decide) (fun _ h => h) q821 So2 rfl C dX11_tolerance_5 ?_
    refine g_iload_n C dX11_tolerance_8 rfl rfl ?_
    refine h_callU (rest := []) 2 C (cc_accTol2 B d hd _) (va_cwU (R := eR E) (s := eS E) (args := eG E) (own := "ScaleInspection$Scale") (C := "ScaleInspection$AccuracyClass$2") (owner := "ScaleInspection$AccuracyClass") (index := 32) (x := ⟨"ScaleInspection$AccuracyClass", "tolerance", "(II)I"⟩) (y := yX12_tolerance) (bytes := cX12_tolerance) (maxL := 3) (ret := (some .int)) (rm := { frames := 1, cells := 0, slots := 0, locals := 20 : Room }) 2 C.ts (lw_app (fun w hw => by simp only [List.mem_cons, List.not_mem_nil, or_false] at hw; rcases hw with e | e | e | e | e <;> (rw [e]; first | exact q1213 | exact q1215 | exact q1217 | exact q1214 | exact q116)) (lw_meth q1219)) rfl rfl rfl rfl ⟨by decide, by decide, by decide +kernel⟩ (by rw [C.R]; exact ⟨Nat.le_of_ble_eq_true rfl, Nat.le_of_ble_eq_true rfl⟩)) ⟨Nat.le_of_ble_eq_true rfl, Nat.le_of_ble_eq_true rfl⟩ (fun _ h => h) (fun H locs hH hS => by obtain ⟨cell, h1, h2, h3, -⟩ := va_O.kept (SX_.2.1) hS.2.1; exact ⟨cell, h1, h2, h3⟩) rfl rfl (Nat.le_of_ble_eq_true rfl) dX11_tolerance_9 (h_F ?_)
    exact g_iret C R (Nat.le_of_ble_eq_true rfl) (Nat.le_of_ble_eq_true rfl) dX11_tolerance_12 (fun H hH => ⟨by rw [baseF_eq, e5, e6]; rfl, hH⟩)
  · have So2 : h sc = some ((0, 0), .inr (10, [.int (X 4 s), .int 2, .int (nI d), .int (X 7 s), .ref (Γ.2.2 3)])) := by rw [show ScO Γ X s h sc = (h sc = _) from rfl] at So; rw [So, e5, e6]; rfl
    refine g_aload_n C dX11_tolerance_0 rfl rfl ?_
    refine c_get 10 4 k_X11 in_X11 (by decide) (fun _ h => h) q824 So2 rfl C dX11_tolerance_1 ?_
    refine g_aload_n C dX11_tolerance_4 rfl rfl ?_
    refine c_get 10 2 k_X11 in_X11 (by decide) (fun _ h => h) q821 So2 rfl C dX11_tolerance_5 ?_
    refine g_iload_n C dX11_tolerance_8 rfl rfl ?_
    refine h_callU (rest := []) 2 C (cc_accTol3 B d hd _) (va_cwU (R := eR E) (s := eS E) (args := eG E) (own := "ScaleInspection$Scale") (C := "ScaleInspection$AccuracyClass$3") (owner := "ScaleInspection$AccuracyClass") (index := 32) (x := ⟨"ScaleInspection$AccuracyClass", "tolerance", "(II)I"⟩) (y := yX12_tolerance) (bytes := cX12_tolerance) (maxL := 3) (ret := (some .int)) (rm := { frames := 1, cells := 0, slots := 0, locals := 20 : Room }) 2 C.ts (lw_app (fun w hw => by simp only [List.mem_cons, List.not_mem_nil, or_false] at hw; rcases hw with e | e | e | e | e <;> (rw [e]; first | exact q1213 | exact q1215 | exact q1218 | exact q1214 | exact q116)) (lw_meth q1219)) rfl rfl rfl rfl ⟨by decide, by decide, by decide +kernel⟩ (by rw [C.R]; exact ⟨Nat.le_of_ble_eq_true rfl, Nat.le_of_ble_eq_true rfl⟩)) ⟨Nat.le_of_ble_eq_true rfl, Nat.le_of_ble_eq_true rfl⟩ (fun _ h => h) (fun H locs hH hS => by obtain ⟨cell, h1, h2, h3, -⟩ := va_O.kept (SX_.2.2) hS.2.1; exact ⟨cell, h1, h2, h3⟩) rfl rfl (Nat.le_of_ble_eq_true rfl) dX11_tolerance_9 (h_F ?_)
    exact g_iret C R (Nat.le_of_ble_eq_true rfl) (Nat.le_of_ble_eq_true rfl) dX11_tolerance_12 (fun H hH => ⟨by rw [baseF_eq, e5, e6]; rfl, hH⟩)
set_option maxRecDepth 100000 in
theorem cc_scaleOf {l : Launch} {Γ : Gm} {A : Nat → Prop} {ρ : State → Prop} (B : Bc l Γ A ρ) {h : Hp} {F : Nat → Int32} {X : Nat → Nat → Int32} {nt ns nm ne nv nu ln : Nat} (J : Iv F X nt ns nm ne nv nu ln) {x : Nat} (R_ : RepC Γ F X nt ns nm ne nv nu h x) {k en0 v : Nat} (hk : k < nv) (V : RepV Γ (LdX X nm) (X 1) k h en0 v) : CtE l Γ A ρ yX1_scaleOf cX1_scaleOf 2 (some (.object "ScaleInspection$Scale")) { frames := 3, cells := 0, slots := 0, locals := 64 } [.ref x, .ref v] h (fun v h' => ∃ sc, v = some (.ref sc) ∧ h' = h ∧ ScO Γ X (X 1 (1 + k)).toNatClampNeg h sc) := by
  refine Ct.of B.1.1 B.1.2 (by decide) [some (.ref x), some (.ref v)] (Nat.le_of_ble_eq_true rfl) rfl ?_
  intro E hE C R
  subst hE
  have SC_ := B.2 _ C.r
  have ht_ := J.lt
  have hs_ := J.ls
  have hm_ := J.lm
  have he_ := J.le
  have hu_ := J.lu
  have hl_ := J.ll
  have hv_ := J.lv
  obtain ⟨bu, mk, en, hi, sn, so, b7, b8, hs, fsn, fso, Rx, Rb, RK, RE, RH, RS, RA, RO⟩ := id R_
  obtain ⟨sl, wl, ma, te, fm, ft, ss, wq, Km, Kma, Kfm, Kte, Kft, Ksl, Kss, Kwl, Kws⟩ := id RK
  obtain ⟨vm, ve, fvm, fve, Vo, Vm, Ve, Vt⟩ := id V
  obtain ⟨sk, hsk, e1⟩ := (J.vi hk).1
  refine g_aload_n C dX1_scaleOf_0 rfl rfl ?_
  refine c_get 0 3 k_X1 in_X1 (by decide) (fun _ h => h) q539 Rx rfl C dX1_scaleOf_1 ?_
  refine c_getN 1 0 k_X2 in_X2 (by decide) (fun _ h => h) q483 SC_ Km rfl C dX1_scaleOf_4 ?_
  refine g_aload_n C dX1_scaleOf_7 rfl rfl ?_
  refine c_getN 13 0 k_X15 in_X15 (by decide) (fun _ h => h) q1103 SC_ Vo rfl C dX1_scaleOf_8 ?_
  refine g_topi (y := nI sk) (e1) ?_
  refine h_callV (rest := []) 1 C (cc_get B Ksl sk (by omega)) (lw_V q940 q941 q942 q90 q943) ⟨⟨by decide, by decide, by decide +kernel⟩, ⟨Nat.le_of_ble_eq_true rfl, Nat.le_of_ble_eq_true rfl⟩, ⟨Nat.le_of_ble_eq_true rfl, Nat.le_of_ble_eq_true rfl⟩⟩ (fun _ h => h) (Ksl.recv C) rfl rfl (Nat.le_of_ble_eq_true rfl) dX1_scaleOf_11 (h_F ?_)
  refine c_castS (Kss sk (by omega)) k_X11 q1015 C dX1_scaleOf_14 ?_
  exact g_aret C R (Or.inl ⟨_, rfl⟩) (Or.inr ⟨_, rfl⟩) (Nat.le_of_ble_eq_true rfl) (Nat.le_of_ble_eq_true rfl) dX1_scaleOf_17 (fun H hH => ⟨h, ⟨ss sk, rfl, rfl, by rw [e1, nI_clamp (by omega)]; exact Kss sk hsk⟩, hH⟩)
theorem mul_c32 (a b : Int32) : a * b = b * a := by
  apply Int32.toBitVec_inj.mp
  exact BitVec.mul_comm _ _
theorem add_c32 (a b : Int32) : a + b = b + a := by
  apply Int32.toBitVec_inj.mp
  exact BitVec.add_comm _ _
set_option maxRecDepth 100000 in
theorem cc_tolV {l : Launch} {Γ : Gm} {A : Nat → Prop} {ρ : State → Prop} (B : Bd l Γ A ρ) {h : Hp} {F : Nat → Int32} {X : Nat → Nat → Int32} {nt ns nm ne nv nu ln : Nat} (J : Iv F X nt ns nm ne nv nu ln) {x : Nat} (R_ : RepC Γ F X nt ns nm ne nv nu h x) {k en0 v : Nat} (hk : k < nv) (V : RepV Γ (LdX X nm) (X 1) k h en0 v) (i : Nat) (hit : i < (X 1 (151 + k)).toNatClampNeg) : CtF l Γ A ρ yX1_tolerance cX1_tolerance 3 (some .int) { frames := 4, cells := 0, slots := 0, locals := 85 } [.ref x, .ref v, .int (nI i)] h (some (.int (toT X nm k i))) h := by
  refine Ct.of B.1.1.1 B.1.1.2 (by decide) [some (.ref x), some (.ref v), some (.int (nI i))] (Nat.le_of_ble_eq_true rfl) rfl ?_
  intro E hE C R
  subst hE
  have SC_ := B.1.2 _ C.r
  have SX_ := B.2 _ C.r
  have ht_ := J.lt
  have hs_ := J.ls
  have hm_ := J.lm
  have he_ := J.le
  have hu_ := J.lu
  have hl_ := J.ll
  have hv_ := J.lv
  obtain ⟨bu, mk, en, hi, sn, so, b7, b8, hs, fsn, fso, Rx, Rb, RK, RE, RH, RS, RA, RO⟩ := id R_
  obtain ⟨sl, wl, ma, te, fm, ft, ss, wq, Km, Kma, Kfm, Kte, Kft, Ksl, Kss, Kwl, Kws⟩ := id RK
  obtain ⟨vm, ve, fvm, fve, Vo, Vm, Ve, Vt⟩ := id V
  obtain ⟨sk, hsk, e1⟩ := (J.vi hk).1
  obtain ⟨tn, htn, e151, hts_⟩ := (J.vi hk).2.2.2.2.2
  rw [e151, nI_clamp (by omega)] at hit
  refine g_aload_n C dX1_tolerance_0 rfl rfl ?_
  refine c_getN 13 2 k_X15 in_X15 (by decide) (fun _ h => h) q1107 SC_ Vo rfl C dX1_tolerance_1 ?_
  refine g_aload_n C dX1_tolerance_4 rfl rfl ?_
  refine g_aload_n C dX1_tolerance_5 rfl rfl ?_
  refine h_callV (rest := [.int (X 1 (121 + k) + 1)]) 1 C (cc_scaleOf B.1 J R_ hk V) (lw_V q1168 q1170 qs22 q86 q1171) ⟨⟨by decide, by decide, by decide +kernel⟩, ⟨Nat.le_of_ble_eq_true rfl, Nat.le_of_ble_eq_true rfl⟩, ⟨Nat.le_of_ble_eq_true rfl, Nat.le_of_ble_eq_true rfl⟩⟩ (fun _ h => h) (HP.recv C Rx k_X1) rfl rfl (Nat.le_of_ble_eq_true rfl) dX1_tolerance_6 (h_E (fun v1 hp1 r1 => ?_))
  obtain ⟨sc1, rfl, rfl, So1⟩ := r1
  refine g_aload_n C dX1_tolerance_9 rfl rfl ?_
  refine c_get 0 3 k_X1 in_X1 (by decide) (fun _ h => h) q539 Rx rfl C dX1_tolerance_10 ?_
  refine g_aload_n C dX1_tolerance_13 rfl rfl ?_
  refine c_getN 13 3 k_X15 in_X15 (by decide) (fun _ h => h) q1109 SC_ Vo rfl C dX1_tolerance_14 ?_
  refine g_iload_n C dX1_tolerance_17 rfl rfl ?_
  refine c_iald (i := i) Vm (by omega) (by omega) C dX1_tolerance_18 ?_
  refine g_topi (y := X 1 (181 + 8 * k + i)) ((Vt i (by rw [e151, nI_clamp (by omega)]; omega)).1) ?_
  refine h_callV (rest := [.ref sc1, .int (X 1 (121 + k) + 1)]) 1 C (cc_load B.1 RK hm_ _) (lw_V q1028 q1029 q1030 q87 q1031) ⟨⟨by decide, by decide, by decide +kernel⟩, ⟨Nat.le_of_ble_eq_true rfl, Nat.le_of_ble_eq_true rfl⟩, ⟨Nat.le_of_ble_eq_true rfl, Nat.le_of_ble_eq_true rfl⟩⟩ (fun _ h => h) (HP.recv C Km k_X2) rfl rfl (Nat.le_of_ble_eq_true rfl) dX1_tolerance_19 (h_F ?_)
  refine h_callV (rest := [.int (X 1 (121 + k) + 1)]) 1 C (cc_scTol B J (s := (X 1 (1 + k)).toNatClampNeg) (by rw [e1, nI_clamp (by omega)]; exact hsk) So1 _) (lw_V q1209 q1210 q1211 q114 q1212) ⟨⟨by decide, by decide, by decide +kernel⟩, ⟨Nat.le_of_ble_eq_true rfl, Nat.le_of_ble_eq_true rfl⟩, ⟨Nat.le_of_ble_eq_true rfl, Nat.le_of_ble_eq_true rfl⟩⟩ (fun _ h => h) (HP.recv C So1 k_X11) rfl rfl (Nat.le_of_ble_eq_true rfl) dX1_tolerance_22 (h_F ?_)
  refine g_imul C dX1_tolerance_25 ?_
  exact g_iret C R (Nat.le_of_ble_eq_true rfl) (Nat.le_of_ble_eq_true rfl) dX1_tolerance_26 (fun H hH => ⟨by unfold toT ldT; rw [mul_c32, add_c32 (X 1 (121 + k)) 1], hH⟩)
theorem jab_sz (a : Int32) : jab a = szI a := rfl
theorem szI_neg (a b : Int32) : szI (a - b) = szI (b - a) ∨ True := Or.inr trivial
set_option maxRecDepth 100000 in
theorem cc_passes {l : Launch} {Γ : Gm} {A : Nat → Prop} {ρ : State → Prop} (B : Bd l Γ A ρ) {h : Hp} {F : Nat → Int32} {X : Nat → Nat → Int32} {nt ns nm ne nv nu ln : Nat} (J : Iv F X nt ns nm ne nv nu ln) {x : Nat} (R_ : RepC Γ F X nt ns nm ne nv nu h x) {k en0 v : Nat} (hk : k < nv) (V : RepV Γ (LdX X nm) (X 1) k h en0 v) (i : Nat) (hit : i < (X 1 (151 + k)).toNatClampNeg) (less : Int32) : CtF l Γ A ρ yX1_passes cX1_passes 4 (some .boolean) { frames := 5, cells := 0, slots := 0, locals := 107 } [.ref x, .ref v, .int (nI i), .int less] h (some (.int (b2i (!decide (toT X nm k i < szI (erT X nm k i - less)))))) h := by
  refine Ct.of B.1.1.1 B.1.1.2 (by decide) [some (.ref x), some (.ref v), some (.int (nI i)), some (.int less)] (Nat.le_of_ble_eq_true rfl) rfl ?_
  intro E hE C R
  subst hE
  have SC_ := B.1.2 _ C.r
  have SX_ := B.2 _ C.r
  have ht_ := J.lt
  have hs_ := J.ls
  have hm_ := J.lm
  have he_ := J.le
  have hu_ := J.lu
  have hl_ := J.ll
  have hv_ := J.lv
  obtain ⟨bu, mk, en, hi, sn, so, b7, b8, hs, fsn, fso, Rx, Rb, RK, RE, RH, RS, RA, RO⟩ := id R_
  obtain ⟨sl, wl, ma, te, fm, ft, ss, wq, Km, Kma, Kfm, Kte, Kft, Ksl, Kss, Kwl, Kws⟩ := id RK
  obtain ⟨vm, ve, fvm, fve, Vo, Vm, Ve, Vt⟩ := id V
  obtain ⟨sk, hsk, e1⟩ := (J.vi hk).1
  obtain ⟨tn, htn, e151, hts_⟩ := (J.vi hk).2.2.2.2.2
  rw [e151, nI_clamp (by omega)] at hit
  refine g_aload_n C dX1_passes_0 rfl rfl ?_
  refine c_getN 13 4 k_X15 in_X15 (by decide) (fun _ h => h) q1111 SC_ Vo rfl C dX1_passes_1 ?_
  refine g_iload_n C dX1_passes_4 rfl rfl ?_
  refine c_iald (i := i) Ve (by omega) (by omega) C dX1_passes_5 ?_
  refine g_topi (y := erT X nm k i) ((Vt i (by rw [e151, nI_clamp (by omega)]; omega)).2) ?_
  refine g_iload_n C dX1_passes_6 rfl rfl ?_
  refine g_isub C dX1_passes_7 ?_
  refine h_callS (rest := []) 1 C (cc_abs B.1.1 _ _) (lw_S q1202 q1203 q100 q1204) ⟨⟨by decide, by decide, by decide +kernel⟩, ⟨Nat.le_of_ble_eq_true rfl, Nat.le_of_ble_eq_true rfl⟩, ⟨Nat.le_of_ble_eq_true rfl, Nat.le_of_ble_eq_true rfl⟩⟩ (fun _ h => h) rfl rfl (Nat.le_of_ble_eq_true rfl) dX1_passes_8 (h_P ?_)
  refine g_topi (y := szI (erT X nm k i - less)) (rfl) ?_
  refine g_aload_n C dX1_passes_11 rfl rfl ?_
  refine g_aload_n C dX1_passes_12 rfl rfl ?_
  refine g_iload_n C dX1_passes_13 rfl rfl ?_
  refine h_callV (rest := [.int (szI (erT X nm k i - less))]) 2 C (cc_tolV B J R_ hk V i (by rw [e151, nI_clamp (by omega)]; omega)) (lw_V q1205 q1207 qs28 q86 q1208) ⟨⟨by decide, by decide, by decide +kernel⟩, ⟨Nat.le_of_ble_eq_true rfl, Nat.le_of_ble_eq_true rfl⟩, ⟨Nat.le_of_ble_eq_true rfl, Nat.le_of_ble_eq_true rfl⟩⟩ (fun _ h => h) (HP.recv C Rx k_X1) rfl rfl (Nat.le_of_ble_eq_true rfl) dX1_passes_14 (h_F ?_)
  refine g_icmp_gt 24 C dX1_passes_17 rfl (fun c17 => ?_) (fun c17 => ?_)
  · refine g_iconst (v := 0) C dX1_passes_24 rfl ?_
    exact g_zret C R (Nat.le_of_ble_eq_true rfl) (Nat.le_of_ble_eq_true rfl) dX1_passes_25 rfl (fun H hH => ⟨by rw [decide_eq_true c17]; rfl, hH⟩)
  · refine g_iconst (v := 1) C dX1_passes_20 rfl ?_
    refine g_goto 25 C dX1_passes_21 rfl ?_
    exact g_zret C R (Nat.le_of_ble_eq_true rfl) (Nat.le_of_ble_eq_true rfl) dX1_passes_25 rfl (fun H hH => ⟨by rw [decide_eq_false c17]; rfl, hH⟩)
