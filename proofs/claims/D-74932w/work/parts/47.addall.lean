section R5
variable {E : Cf} {Γ : Gm} {A : Nat → Prop} {ρ : State → Prop} {cc : ByteArray} {nL : Nat} {own : String} {rm : Room} {I : Heap → Prop} {cells slots pc : Nat} {lv : List (Option Value)} {st rest : List Value}
theorem g_run5 {mc ms : Nat} {a : Array Value} {Post : Option Value → Heap → Prop} (C : Cx E Γ A ρ cc nL own rm)
    (hr : ∀ (H : Heap) (locs : List Loc) (ls : Array Slot), I H → va_S (eA E) (eS E).heap H locs → lh ls (eN E) lv → va_Run5 (eP E) (eL E) (eE E) (eR E) (eS E) (eM E) (eG E) (eB E) (eH E) (eC E) H locs cells slots mc ms (F0 (eM E) pc ls st) rest (Qo Post A a) A)
    (k : ∀ v, G E (Post v) (cells + mc) (slots + ms) (pc + 5) lv (v.toList ++ rest)) : G E I cells slots pc lv st := by
  intro H locs ls hI hS hl T hT X
  obtain ⟨v, st₀, t, T', L, h0, X', hL, e1, e2, ⟨⟨v', hv, hp⟩, hz, hk⟩, stp⟩ := hr H locs ls hI hS hl T hT X
  cases hv
  rw [h0] at hz hk
  have hSA := C.hA
  obtain ⟨t2, a1, b1⟩ := k v T'.heap (locs ++ L) ls (by rw [e1]; exact hp)
    ⟨Nat.le_trans hS.1 (by rw [e1]; exact hz), fun q h1 h2 => by rw [e1, hk q (Nat.lt_of_lt_of_le h1 hS.1) (fun z => h2 (by rw [hSA]; exact z))]; exact hS.2.1 q h1 h2, fun q hq => by
      rcases List.mem_append.mp hq with h | h
      · exact hS.2.2 q h
      · rw [hSA]; exact hL q h⟩ hl T' rfl X'
  exact ⟨t2, stp t2 a1, b1⟩
end R5
theorem Lst.allE {Γ : Gm} {h' : Hp} {a ea : Nat} {t : Tg} {ci m cap : Nat} {f : Nat → Nat} {g g2 : Nat → Option Nat} {mo : Int32} (h1 : h' a = some (t, .inr (3, [.int mo, .ref ea, .int (nI (0 + m))]))) (h2 : h' ea = some ((t.1 + 1, t.2), aR Γ 4 cap (va_cpy g2 g 0 0 m))) (h3 : m ≤ cap) (h4 : 2 ≤ cap) (h5 : cap ≤ 64) (h6 : ∀ k, k < m → g2 k = some (f k)) (h7 : ∀ k, k < m → ∃ t' fs, h' (f k) = some (t', .inr (ci, fs))) (h8 : ∀ k, g k = none) : Lst Γ h' a t ci m f := by
  rw [Nat.zero_add] at h1
  refine ⟨ea, cap, _, mo, h1, h2, h3, h4, h5, fun k hk => ?_, h7, fun k hk => ?_⟩
  · rw [va_cpy_lo hk]; exact h6 k hk
  · unfold va_cpy
    rw [if_neg (by omega)]; exact h8 k
set_option maxRecDepth 100000 in
theorem cc_addAll {l : Launch} {Γ : Gm} {A : Nat → Prop} {ρ : State → Prop} (B : Bc l Γ A ρ) {h : Hp} {a b : Nat} {t tb : Tg} {ci m : Nat} {f f0 : Nat → Nat} (hC : Cno ci) (L : Lst Γ h a t ci 0 f0) (Ls : Lst Γ h b tb ci m f) (hm : m ≤ 40) : CtE l Γ A ρ yJ2_addAll cJ2_addAll 6 (some .boolean) { frames := 4, cells := 2, slots := 128, locals := 107 } [.ref a, .ref b] h (fun v h' => v = some (.int (if m = 0 then 0 else 1)) ∧ Lst Γ h' a t ci m f ∧ Kp (TL t) h h') := by
  refine Ct.of B.1.1 B.1.2 (by decide) [some (.ref a), some (.ref b), none, none, none, none] (Nat.le_of_ble_eq_true rfl) rfl ?_
  intro E hE C R
  subst hE
  have SC_ := B.2 _ C.r
  obtain ⟨r, hr, hca, hne⟩ := id hC
  obtain ⟨ea, cap, g, mo, h1, h2, h3, h4, h5, h6, h7, h8⟩ := id L
  refine g_aload_n C dJ2_addAll_0 rfl rfl ?_
  obtain ⟨_, hfc9, kC9, hkC9, hkind9⟩ := C.K.1 3 _ k_J2
  have cwF9 := va_cwF (R := eR E) (s := eS E) (args := eG E) (own := "java/util/ArrayList") (C := "java/util/ArrayList") (index := 42) (x := ⟨"java/util/Collection", "toArray", "()[Ljava/lang/Object;"⟩) (y := yJ2_toArray) (bytes := cJ2_toArray) (maxL := 1) (ret := some (.array (.object "java/lang/Object"))) (rm := { frames := 3, cells := 1, slots := 64, locals := 84 : Room }) 0 C.ts (lw_app (fun w hw => by simp only [List.mem_cons, List.not_mem_nil, or_false] at hw; rcases hw with e | e | e | e <;> (rw [e]; first | exact q1138 | exact q1142 | exact q1144 | exact q90)) (lw_meth q1146)) rfl rfl rfl SC_.2.2.2.2.2.2 ⟨by decide, by decide, by decide +kernel⟩ (by rw [C.R]; exact ⟨Nat.le_of_ble_eq_true rfl, Nat.le_of_ble_eq_true rfl⟩)
  refine g_run5 (Post := fun v H => ∃ h', (∃ e2, v = some (.ref e2) ∧ h e2 = none ∧ ∃ g', h' = hset h e2 (0, 0) (aR Γ 4 m g') ∧ ∀ k, k < m → g' k = some (f k)) ∧ HP Γ A h' H) (rest := []) (a := #[Value.ref b]) (mc := 1) (ms := 64) C (fun H locs ls hH hS hl => va_runF (b := b) (As := []) (rest := []) ⟨hfc9, kC9, hkC9, hkind9⟩ ⟨C.x, C.b, C.ml, C.ow, C.ts⟩ (cc_toArray B (te := (0, 0)) hC Ls) cwF9 ⟨ct_blind C.cl _ _, Ls.recv C H hH, g_pre C id C.cl (fun _ h => h) hS hH⟩ rfl rfl (by show ls.size = 6; rw [hl.1, C.n]) rfl (lv_room (Nat.le_of_ble_eq_true rfl)) dJ2_addAll_1 (by rw [C.R]; exact ⟨Nat.le_of_ble_eq_true rfl, Nat.le_of_ble_eq_true rfl⟩)) (h_E (fun v1 hp1 r1 => ?_))
  obtain ⟨e2, rfl, ne2, g2, eh1, hg2⟩ := r1
  have p1a : hp1 a = some (t, .inr (3, [.int mo, .ref ea, .int (nI 0)])) := by rw [eh1]; exact hset_old ne2 h1
  have p1ea : hp1 ea = some ((t.1 + 1, t.2), aR Γ 4 cap g) := by rw [eh1]; exact hset_old ne2 h2
  have p1e2 : hp1 e2 = some ((0, 0), aR Γ 4 m g2) := by rw [eh1]; exact hset_self _ _ _ _
  have nee : e2 ≠ ea := fun z => by rw [z, h2] at ne2; cases ne2
  refine g_astore_n (lv' := [some (.ref a), some (.ref b), some (.ref e2), none, none, none]) C dJ2_addAll_6 rfl (by decide) rfl ?_
  refine g_aload_n C dJ2_addAll_7 rfl rfl ?_
  refine g_dup C dJ2_addAll_8 rfl ?_
  refine c_get 3 0 k_J2 in_J2 (by decide) (fun x9 h9 => u_same (C.ts _ q474) x9 h9) q473 p1a rfl C dJ2_addAll_9 ?_
  refine g_iconst (v := 1) C dJ2_addAll_12 rfl ?_
  refine g_iadd C dJ2_addAll_13 ?_
  refine c_put 3 0 k_J2 in_J2 tyJ2 tyJ2_ok nmJ2 (by decide) (fun x9 h9 => u_same (C.ts _ q474) x9 h9) q473 rfl (ty := .int) (by decide +kernel) rfl rfl (Nat.le_of_ble_eq_true rfl) p1a C dJ2_addAll_14 ?_
  obtain ⟨hp2, ehp2⟩ : ∃ hh9 : Hp, hh9 = hset hp1 a t (.inr (3, [.int (mo + 1), .ref ea, .int (nI 0)])) := ⟨_, rfl⟩
  refine g_heq (h' := hp2) ehp2.symm ?_
  have php2_a : hp2 a = some (t, .inr (3, [.int (mo + 1), .ref ea, .int (nI 0)])) := by rw [ehp2]; exact hset_self _ _ _ _
  have php2_ea : hp2 ea = some ((t.1 + 1, t.2), aR Γ 4 cap g) := by rw [ehp2]; exact hset_oi p1a p1ea
  have php2_e2 : hp2 e2 = some ((0, 0), aR Γ 4 m g2) := by rw [ehp2]; exact hset_oi p1a p1e2
  refine g_aload_n C dJ2_addAll_17 rfl rfl ?_
  refine c_alen 4 rfl php2_e2 C dJ2_addAll_18 ?_
  refine g_istore_n (lv' := [some (.ref a), some (.ref b), some (.ref e2), some (.int (nI m)), none, none]) C dJ2_addAll_19 rfl (by decide) rfl ?_
  refine g_iload_n C dJ2_addAll_20 rfl rfl ?_
  by_cases hm0 : m = 0
  · refine g_if_ne 26 C dJ2_addAll_21 rfl (fun c20 => ?_) (fun c20 => ?_)
    · exact absurd (by rw [hm0]; rfl) c20
    · refine g_iconst (v := 0) C dJ2_addAll_24 rfl ?_
      subst hm0
      exact g_zret C R (Nat.le_of_ble_eq_true rfl) (Nat.le_of_ble_eq_true rfl) dJ2_addAll_25 rfl (fun H hH => ⟨hp2, ⟨by simp, ⟨ea, cap, g, mo + 1, php2_a, php2_ea, h3, h4, h5, fun k hk => absurd hk (Nat.not_lt_zero _), fun k hk => absurd hk (Nat.not_lt_zero _), h8⟩, (Kp.tr (show Kp _ h hp1 from (by rw [eh1]; exact Kp.new ne2)) (show Kp _ hp1 hp2 by rw [ehp2]; exact Kp.put p1a (Or.inl rfl)))⟩, hH⟩)
  · refine g_if_ne 26 C dJ2_addAll_21 rfl (fun c20 => ?_) (fun c20 => ?_)
    · refine g_iload_n C dJ2_addAll_26 rfl rfl ?_
      refine g_aload_n C dJ2_addAll_27 rfl rfl ?_
      refine c_get 3 1 k_J2 in_J2 (by decide) (fun _ h => h) q470 php2_a rfl C dJ2_addAll_28 ?_
      refine g_dup C dJ2_addAll_31 rfl ?_
      refine g_astore (lv' := [some (.ref a), some (.ref b), some (.ref e2), some (.int (nI m)), some (.ref ea), none]) C dJ2_addAll_32 (by decide) rfl ?_
      refine c_alen 4 rfl php2_ea C dJ2_addAll_34 ?_
      refine g_aload_n C dJ2_addAll_35 rfl rfl ?_
      refine c_get 3 2 k_J2 in_J2 (by decide) (fun _ h => h) q471 php2_a rfl C dJ2_addAll_36 ?_
      refine g_dup C dJ2_addAll_39 rfl ?_
      refine g_istore (lv' := [some (.ref a), some (.ref b), some (.ref e2), some (.int (nI m)), some (.ref ea), some (.int (nI 0))]) C dJ2_addAll_40 (by decide) rfl ?_
      refine g_isub C dJ2_addAll_42 ?_
      refine g_topi (y := nI (cap - 0)) (pk_sub (a := cap) (b := 0) (by omega)) ?_
      refine gN_le (a := m) (b := cap - 0) 56 C dJ2_addAll_43 rfl (by omega) (by omega) (fun c43 => ?_) (fun c43 => ?_)
      · refine g_aload_n C dJ2_addAll_56 rfl rfl ?_
        refine g_iconst (v := 0) C dJ2_addAll_57 rfl ?_
        refine g_aload C dJ2_addAll_58 rfl ?_
        refine g_iload C dJ2_addAll_60 rfl ?_
        refine g_iload_n C dJ2_addAll_62 rfl rfl ?_
        refine c_copyq (sp := 0) (dp := 0) (n := m) hr hca SC_ q1081 php2_e2 php2_ea (by omega) (by omega) ⟨by omega, by omega⟩ (fun i hi y hy => by rw [Nat.zero_add, hg2 i (by omega)] at hy; cases hy; exact Ko.el (Ko.tr (show Ko _ h hp1 from (by rw [eh1]; exact Ko.new ne2)) (show Ko _ hp1 hp2 by rw [ehp2]; exact Ko.oc (hne) p1a)) (fun k hk => Ls.el hk) i hi) ⟨Nat.le_of_ble_eq_true rfl, Nat.le_of_ble_eq_true rfl⟩ (Nat.le_of_ble_eq_true rfl) C dJ2_addAll_63 ?_
        obtain ⟨hp3, ehp3⟩ : ∃ hh9 : Hp, hh9 = hset hp2 ea (t.1 + 1, t.2) (aR Γ 4 cap (va_cpy g2 g 0 0 m)) := ⟨_, rfl⟩
        refine g_heq (h' := hp3) ehp3.symm ?_
        have php3_a : hp3 a = some (t, .inr (3, [.int (mo + 1), .ref ea, .int (nI 0)])) := by rw [ehp3]; exact hset_io php2_ea php2_a
        have php3_ea : hp3 ea = some ((t.1 + 1, t.2), aR Γ 4 cap (va_cpy g2 g 0 0 m)) := by rw [ehp3]; exact hset_self _ _ _ _
        have php3_e2 : hp3 e2 = some ((0, 0), aR Γ 4 m g2) := by rw [ehp3]; exact (hset_ne nee).trans php2_e2
        refine g_aload_n C dJ2_addAll_66 rfl rfl ?_
        refine g_iload C dJ2_addAll_67 rfl ?_
        refine g_iload_n C dJ2_addAll_69 rfl rfl ?_
        refine g_iadd C dJ2_addAll_70 ?_
        refine g_topi (y := nI (0 + m)) (nI_add 0 m) ?_
        refine c_put 3 2 k_J2 in_J2 tyJ2 tyJ2_ok nmJ2 (by decide) (fun _ h => h) q471 rfl (ty := .int) (by decide +kernel) rfl rfl (Nat.le_of_ble_eq_true rfl) php3_a C dJ2_addAll_71 ?_
        obtain ⟨hp4, ehp4⟩ : ∃ hh9 : Hp, hh9 = hset hp3 a t (.inr (3, [.int (mo + 1), .ref ea, .int (nI (0 + m))])) := ⟨_, rfl⟩
        refine g_heq (h' := hp4) ehp4.symm ?_
        have php4_a : hp4 a = some (t, .inr (3, [.int (mo + 1), .ref ea, .int (nI (0 + m))])) := by rw [ehp4]; exact hset_self _ _ _ _
        have php4_ea : hp4 ea = some ((t.1 + 1, t.2), aR Γ 4 cap (va_cpy g2 g 0 0 m)) := by rw [ehp4]; exact hset_oi php3_a php3_ea
        have php4_e2 : hp4 e2 = some ((0, 0), aR Γ 4 m g2) := by rw [ehp4]; exact hset_oi php3_a php3_e2
        refine g_iconst (v := 1) C dJ2_addAll_74 rfl ?_
        exact g_zret C R (Nat.le_of_ble_eq_true rfl) (Nat.le_of_ble_eq_true rfl) dJ2_addAll_75 rfl (fun H hH => ⟨hp4, ⟨by rw [if_neg hm0], Lst.allE php4_a php4_ea (by omega) (by omega) (by omega) hg2 (Ko.el (Ko.tr (Ko.tr (Ko.tr (show Ko _ h hp1 from (by rw [eh1]; exact Ko.new ne2)) (show Ko _ hp1 hp2 by rw [ehp2]; exact Ko.oc (hne) p1a)) (show Ko _ hp2 hp3 by rw [ehp3]; exact Ko.ar php2_ea)) (show Ko _ hp3 hp4 by rw [ehp4]; exact Ko.oc (hne) php3_a)) (fun k hk => Ls.el hk)) (fun k => h8 k (Nat.zero_le _)), (Kp.tr (Kp.tr (Kp.tr (show Kp _ h hp1 from (by rw [eh1]; exact Kp.new ne2)) (show Kp _ hp1 hp2 by rw [ehp2]; exact Kp.put p1a (Or.inl rfl))) (show Kp _ hp2 hp3 by rw [ehp3]; exact Kp.put php2_ea (Or.inr rfl))) (show Kp _ hp3 hp4 by rw [ehp4]; exact Kp.put php3_a (Or.inl rfl)))⟩, hH⟩)
      · refine g_aload_n C dJ2_addAll_46 rfl rfl ?_
        refine g_iload C dJ2_addAll_47 rfl ?_
        refine g_iload_n C dJ2_addAll_49 rfl rfl ?_
        refine g_iadd C dJ2_addAll_50 ?_
        refine g_topi (y := nI (0 + m)) (nI_add 0 m) ?_
        refine h_callV (rest := []) 1 C (cc_growI B hC php2_a php2_ea h4 (by omega) (fun i hi y hy => by rw [h8 i (Nat.zero_le _)] at hy; cases hy) _ (by omega) (by omega)) (lw_V q848 q850 qs12 q90 q851) ⟨⟨by decide, by decide, by decide +kernel⟩, ⟨Nat.le_of_ble_eq_true rfl, Nat.le_of_ble_eq_true rfl⟩, ⟨Nat.le_of_ble_eq_true rfl, Nat.le_of_ble_eq_true rfl⟩⟩ (fun _ h => h) (HP.recv C php2_a k_J2) rfl rfl (Nat.le_of_ble_eq_true rfl) dJ2_addAll_51 (h_E (fun v3 hp3 r3 => ?_))
        obtain ⟨e3, rfl, ne3, eh3⟩ := r3
        have ne3a : e3 ≠ a := fun z => by rw [z, php2_a] at ne3; cases ne3
        have ne32 : e3 ≠ e2 := fun z => by rw [z, php2_e2] at ne3; cases ne3
        have pe3 : hp3 e3 = some ((t.1 + 1, t.2), aR Γ 4 (cap + max (0 + m - cap) (cap / 2)) (va_cpy g (fun _ => none) 0 0 cap)) := by rw [eh3, hset_ne ne3a]; exact hset_self _ _ _ _
        have pe2 : hp3 e2 = some ((0, 0), aR Γ 4 m g2) := by rw [eh3]; exact hset_oi (hset_old ne3 php2_a) (hset_old ne3 php2_e2)
        have pa3 : hp3 a = some (t, .inr (3, [.int (mo + 1), .ref e3, .int (nI 0)])) := by rw [eh3]; exact hset_self _ _ _ _
        refine g_astore (lv' := [some (.ref a), some (.ref b), some (.ref e2), some (.int (nI m)), some (.ref e3), some (.int (nI 0))]) C dJ2_addAll_54 (by decide) rfl ?_
        refine g_aload_n C dJ2_addAll_56 rfl rfl ?_
        refine g_iconst (v := 0) C dJ2_addAll_57 rfl ?_
        refine g_aload C dJ2_addAll_58 rfl ?_
        refine g_iload C dJ2_addAll_60 rfl ?_
        refine g_iload_n C dJ2_addAll_62 rfl rfl ?_
        refine c_copyq (sp := 0) (dp := 0) (n := m) hr hca SC_ q1081 pe2 pe3 (by omega) (by omega) ⟨by omega, by omega⟩ (fun i hi y hy => by rw [Nat.zero_add, hg2 i (by omega)] at hy; cases hy; exact Ko.el (Ko.tr (Ko.tr (show Ko _ h hp1 from (by rw [eh1]; exact Ko.new ne2)) (show Ko _ hp1 hp2 by rw [ehp2]; exact Ko.oc (hne) p1a)) (show Ko _ hp2 hp3 from (by rw [eh3]; exact Ko.tr (Ko.new ne3) (Ko.oc hne (hset_old ne3 php2_a))))) (fun k hk => Ls.el hk) i hi) ⟨Nat.le_of_ble_eq_true rfl, Nat.le_of_ble_eq_true rfl⟩ (Nat.le_of_ble_eq_true rfl) C dJ2_addAll_63 ?_
        obtain ⟨hp4, ehp4⟩ : ∃ hh9 : Hp, hh9 = hset hp3 e3 (t.1 + 1, t.2) (aR Γ 4 (cap + max (0 + m - cap) (cap / 2)) (va_cpy g2 (va_cpy g (fun _ => none) 0 0 cap) 0 0 m)) := ⟨_, rfl⟩
        refine g_heq (h' := hp4) ehp4.symm ?_
        have php4_a : hp4 a = some (t, .inr (3, [.int (mo + 1), .ref e3, .int (nI 0)])) := by rw [ehp4]; exact hset_io pe3 pa3
        have php4_e2 : hp4 e2 = some ((0, 0), aR Γ 4 m g2) := by rw [ehp4]; exact (hset_ne (Ne.symm ne32)).trans pe2
        have php4_e3 : hp4 e3 = some ((t.1 + 1, t.2), aR Γ 4 (cap + max (0 + m - cap) (cap / 2)) (va_cpy g2 (va_cpy g (fun _ => none) 0 0 cap) 0 0 m)) := by rw [ehp4]; exact hset_self _ _ _ _
        refine g_aload_n C dJ2_addAll_66 rfl rfl ?_
        refine g_iload C dJ2_addAll_67 rfl ?_
        refine g_iload_n C dJ2_addAll_69 rfl rfl ?_
        refine g_iadd C dJ2_addAll_70 ?_
        refine g_topi (y := nI (0 + m)) (nI_add 0 m) ?_
        refine c_put 3 2 k_J2 in_J2 tyJ2 tyJ2_ok nmJ2 (by decide) (fun _ h => h) q471 rfl (ty := .int) (by decide +kernel) rfl rfl (Nat.le_of_ble_eq_true rfl) php4_a C dJ2_addAll_71 ?_
        obtain ⟨hp5, ehp5⟩ : ∃ hh9 : Hp, hh9 = hset hp4 a t (.inr (3, [.int (mo + 1), .ref e3, .int (nI (0 + m))])) := ⟨_, rfl⟩
        refine g_heq (h' := hp5) ehp5.symm ?_
        have php5_a : hp5 a = some (t, .inr (3, [.int (mo + 1), .ref e3, .int (nI (0 + m))])) := by rw [ehp5]; exact hset_self _ _ _ _
        have php5_e2 : hp5 e2 = some ((0, 0), aR Γ 4 m g2) := by rw [ehp5]; exact hset_oi php4_a php4_e2
        have php5_e3 : hp5 e3 = some ((t.1 + 1, t.2), aR Γ 4 (cap + max (0 + m - cap) (cap / 2)) (va_cpy g2 (va_cpy g (fun _ => none) 0 0 cap) 0 0 m)) := by rw [ehp5]; exact hset_oi php4_a php4_e3
        refine g_iconst (v := 1) C dJ2_addAll_74 rfl ?_
        exact g_zret C R (Nat.le_of_ble_eq_true rfl) (Nat.le_of_ble_eq_true rfl) dJ2_addAll_75 rfl (fun H hH => ⟨hp5, ⟨by rw [if_neg hm0], Lst.allE php5_a php5_e3 (by omega) (by omega) (by omega) hg2 (Ko.el (Ko.tr (Ko.tr (Ko.tr (Ko.tr (show Ko _ h hp1 from (by rw [eh1]; exact Ko.new ne2)) (show Ko _ hp1 hp2 by rw [ehp2]; exact Ko.oc (hne) p1a)) (show Ko _ hp2 hp3 from (by rw [eh3]; exact Ko.tr (Ko.new ne3) (Ko.oc hne (hset_old ne3 php2_a))))) (show Ko _ hp3 hp4 by rw [ehp4]; exact Ko.ar pe3)) (show Ko _ hp4 hp5 by rw [ehp5]; exact Ko.oc (hne) php4_a)) (fun k hk => Ls.el hk)) (fun k => by unfold va_cpy; split <;> first | exact h8 _ (Nat.zero_le _) | rfl), (Kp.tr (Kp.tr (Kp.tr (Kp.tr (show Kp _ h hp1 from (by rw [eh1]; exact Kp.new ne2)) (show Kp _ hp1 hp2 by rw [ehp2]; exact Kp.put p1a (Or.inl rfl))) (show Kp _ hp2 hp3 from (by rw [eh3]; exact Kp.tr (Kp.new ne3) (Kp.put (hset_old ne3 php2_a) (Or.inl rfl))))) (show Kp _ hp3 hp4 by rw [ehp4]; exact Kp.put pe3 (Or.inr rfl))) (show Kp _ hp4 hp5 by rw [ehp5]; exact Kp.put php4_a (Or.inl rfl)))⟩, hH⟩)
    · exact absurd ((nI_eq (b := 0) (by omega) (by omega)).mp c20) hm0
